section
/-! base rows: stores and numbers (pk_ rows are pasted from the rows to paste) -/
theorem pk_us {f : Nat → Int32} {k : Nat} {x : Int32} : upd f k x k = x := if_pos rfl
theorem pk_un {f : Nat → Int32} {k j : Nat} {x : Int32} (h : j ≠ k) : upd f k x j = f j := if_neg h
theorem pk_sub {a b : Nat} (h : b ≤ a) : nI a - nI b = nI (a - b) := by
  obtain ⟨c, rfl⟩ : ∃ c, a = c + b := ⟨a - b, by omega⟩
  rw [← nI_add, Int32.add_sub_cancel, Nat.add_sub_cancel]
theorem pk_m1 (n : Nat) : nI (n + 1) + (-1) = nI n := by
  rw [← nI_1, Int32.add_assoc, show (1 : Int32) + (-1) = 0 from rfl, Int32.add_zero]
theorem pk_mul (a b : Nat) : nI a * nI b = nI (a * b) := (Int32.ofNat_mul a b).symm
theorem pk_sub_toInt {a b : Nat} (ha : a < 2 ^ 30) (hb : b < 2 ^ 30) : (nI a - nI b).toInt = (a : Int) - b := by
  rw [Int32.toInt_sub, nI_toInt (by omega), nI_toInt (by omega)]
  exact Int.bmod_eq_of_le (by omega) (by omega)
theorem pk_sneg {a b : Nat} (hb : b < 2 ^ 30) (h : a < b) : nI a - nI b < 0 := by
  rw [Int32.lt_iff_toInt_lt, pk_sub_toInt (by omega) hb, show (0 : Int32).toInt = 0 from by decide]
  omega
theorem pk_ix (x : Int32) {n : Nat} (hn : n < 2 ^ 31) : x < 0 ∨ nI n ≤ x ∨ ∃ j : Nat, j < n ∧ x = nI j := by
  by_cases h : x < 0
  · exact Or.inl h
  · obtain ⟨j, hj, rfl⟩ := nI_of h
    by_cases h2 : j < n
    · exact Or.inr (Or.inr ⟨j, h2, rfl⟩)
    · exact Or.inr (Or.inl (nI_le (by omega) hj))
theorem pk_le {x y : Int32} {A B : Prop} (a b : Nat) (f : a ≤ b → A) (g : b < a → B) (hx : x = nI a := by rfl) (hy : y = nI b := by rfl) (ha : a < 2 ^ 31 := by omega) (hb : b < 2 ^ 31 := by omega) : (x ≤ y → A) ∧ (¬ x ≤ y → B) := by
  subst hx hy
  rw [nI_leI ha hb]
  exact ⟨f, fun z => g (by omega)⟩
theorem pk_lt {x y : Int32} {A B : Prop} (a b : Nat) (f : a < b → A) (g : b ≤ a → B) (hx : x = nI a := by rfl) (hy : y = nI b := by rfl) (ha : a < 2 ^ 31 := by omega) (hb : b < 2 ^ 31 := by omega) : (x < y → A) ∧ (¬ x < y → B) := by
  subst hx hy
  rw [nI_ltI ha hb]
  exact ⟨f, fun z => g (by omega)⟩
theorem pk_eq {x y : Int32} {A B : Prop} (a b : Nat) (f : a = b → A) (g : a ≠ b → B) (hx : x = nI a := by rfl) (hy : y = nI b := by rfl) (ha : a < 2 ^ 31 := by omega) (hb : b < 2 ^ 31 := by omega) : (x = y → A) ∧ (¬ x = y → B) := by
  subst hx hy
  rw [nI_eq ha hb]
  exact ⟨f, g⟩
theorem pk_in {x : Int32} (n N : Nat) (h : n < N) (hx : x = nI n := by rfl) (hN : N < 2 ^ 31 := by omega) : vp_in x N := by
  subst hx
  exact vp_in_nI h hN
theorem pk_cl {x : Int32} (n : Nat) (hx : x = nI n := by rfl) (h : n < 2 ^ 31 := by omega) : x.toNatClampNeg = n := by
  subst hx
  exact nI_clamp h
theorem pk_tn {n : Nat} (h : n < 2 ^ 32) : (nI n).toBitVec.toNat = n := Nat.mod_eq_of_lt h
theorem pk_and (x : Int32) {m : Int32} (k : Nat) (hm : m.toBitVec.toNat = 2 ^ k - 1) : x &&& m = nI (x.toBitVec.toNat % 2 ^ k) := by
  apply Int32.toBitVec_inj.mp
  apply BitVec.eq_of_toNat_eq
  rw [Int32.toBitVec_and, BitVec.toNat_and, hm, Nat.and_two_pow_sub_one_eq_mod]
  show _ = (BitVec.ofNat 32 _).toNat
  rw [BitVec.toNat_ofNat]
  exact (Nat.mod_eq_of_lt (Nat.lt_of_le_of_lt (Nat.mod_le _ _) x.toBitVec.isLt)).symm
theorem pk_andN {n : Nat} (h : n < 2 ^ 32) {m : Int32} (k : Nat) (hm : m.toBitVec.toNat = 2 ^ k - 1) : nI n &&& m = nI (n % 2 ^ k) := by
  rw [pk_and _ k hm, pk_tn h]
theorem pk_andE (x : Int32) {m : Int32} (k : Nat) (hm : m.toBitVec.toNat = 2 ^ k - 1) : ∃ j : Nat, j < 2 ^ k ∧ x &&& m = nI j := ⟨_, Nat.mod_lt _ (Nat.two_pow_pos k), pk_and x k hm⟩
theorem pk_andIn (x : Int32) {m : Int32} (k : Nat) (hm : m.toBitVec.toNat = 2 ^ k - 1) (hk : k ≤ 30) : vp_in (x &&& m) (2 ^ k) := by
  obtain ⟨j, hj, e⟩ := pk_andE x k hm
  rw [e]
  exact vp_in_nI hj (Nat.lt_of_le_of_lt (Nat.pow_le_pow_right (by decide) hk) (by decide))
theorem sa_m3 (i : Nat) : (3 : Int32) * nI i = nI (3 * i) := pk_mul 3 i
theorem sa_m4 (i : Nat) : (4 : Int32) * nI i = nI (4 * i) := pk_mul 4 i
theorem sa_m6 (i : Nat) : (6 : Int32) * nI i = nI (6 * i) := pk_mul 6 i
theorem sa_m7 (i : Nat) : (7 : Int32) * nI i = nI (7 * i) := pk_mul 7 i
theorem sa_m30 (i : Nat) : (30 : Int32) * nI i = nI (30 * i) := pk_mul 30 i
theorem sa_m200 (i : Nat) : (200 : Int32) * nI i = nI (200 * i) := pk_mul 200 i
theorem sa_m240 (i : Nat) : (240 : Int32) * nI i = nI (240 * i) := pk_mul 240 i
theorem sa_in {n N : Nat} (h : n < N) (hN : N < 2 ^ 31) : vp_in (nI n) N = True := eq_true (vp_in_nI h hN)
theorem sa_in' {x : Int32} {n N : Nat} (hx : x = nI n) (h : n < N) (hN : N < 2 ^ 31 := by decide) : vp_in x N := by
  subst hx
  exact vp_in_nI h hN
theorem sa_ne_m1 {n : Nat} (h : n < 2 ^ 31) : ¬ nI n = -1 := by
  intro e
  have := congrArg Int32.toInt e
  rw [nI_toInt h, show (-1 : Int32).toInt = -1 from by decide] at this
  omega
theorem sa_e0 {n : Nat} (h : n < 2 ^ 31) : nI n = 0 ↔ n = 0 := by
  have := nI_eq (a := n) (b := 0) h (by decide)
  rw [nI_0] at this
  exact this
theorem sa_e1 {n : Nat} (h : n < 2 ^ 31) : nI n = 1 ↔ n = 1 := nI_eq (a := n) (b := 1) h (by decide)
theorem sa_e6 {n : Nat} (h : n < 2 ^ 31) : nI n = 6 ↔ n = 6 := nI_eq (a := n) (b := 6) h (by decide)
theorem sa_e20 {n : Nat} (h : n < 2 ^ 31) : nI n = 20 ↔ n = 20 := nI_eq (a := n) (b := 20) h (by decide)
theorem sa_e30 {n : Nat} (h : n < 2 ^ 31) : nI n = 30 ↔ n = 30 := nI_eq (a := n) (b := 30) h (by decide)
theorem sa_e200 {n : Nat} (h : n < 2 ^ 31) : nI n = 200 ↔ n = 200 := nI_eq (a := n) (b := 200) h (by decide)
theorem sa_le500 {n : Nat} (h : n < 500) : ¬ (500 : Int32) ≤ nI n := nI_ge (b := 500) h (by decide)
/-- a store within a stretch -/
theorem sa_uo {f g : Nat → Int32} {b m a : Nat} {x : Int32} (H : ∀ k, k < m → f (b + k) = g k) : ∀ k, k < m → upd f (b + a) x (b + k) = upd g a x k := by
  intro k hk
  by_cases e : k = a
  · subst e
    rw [pk_us, pk_us]
  · rw [pk_un (by omega), pk_un e]
    exact H k hk
/-- a store behind a stretch, which grows -/
theorem sa_ua {f g : Nat → Int32} {b m : Nat} {x : Int32} (H : ∀ k, k < m → f (b + k) = g k) : ∀ k, k < m + 1 → upd f (b + m) x (b + k) = upd g m x k := by
  intro k hk
  by_cases e : k = m
  · subst e
    rw [pk_us, pk_us]
  · rw [pk_un (by omega), pk_un e]
    exact H k (by omega)
theorem sa_uu (f : Nat → Int32) (k : Nat) (x y : Int32) : upd (upd f k x) k y = upd f k y := by
  funext j
  by_cases e : j = k
  · subst e
    rw [pk_us, pk_us]
  · rw [pk_un e, pk_un e, pk_un e]
theorem sa_uself (f : Nat → Int32) (k : Nat) : upd f k (f k) = f := by
  funext j
  by_cases e : j = k
  · subst e
    rw [pk_us]
  · rw [pk_un e]
theorem sa_uself' {f : Nat → Int32} {k : Nat} {x : Int32} (h : f k = x) : upd f k x = f := by
  rw [← h]
  exact sa_uself f k
theorem sa_3 {i : Nat} (h : i < 3) : i = 0 ∨ i = 1 ∨ i = 2 := by omega
theorem sa_nar {r : Int32} (h : r = 0 ∨ r = 1) : narrow .boolean (.int r) = .int r := by
  rcases h with rfl | rfl <;> rfl
theorem sa_p0 (a : Nat) : nI a + 0 = nI a := nI_add a 0
theorem sa_p2 (a : Nat) : nI a + 2 = nI (a + 2) := nI_add a 2
theorem sa_p3 (a : Nat) : nI a + 3 = nI (a + 3) := nI_add a 3
theorem sa_p4 (a : Nat) : nI a + 4 = nI (a + 4) := nI_add a 4
theorem sa_p5 (a : Nat) : nI a + 5 = nI (a + 5) := nI_add a 5
theorem sa_p6 (a : Nat) : nI a + 6 = nI (a + 6) := nI_add a 6
end
section
/-! literals -/
theorem sa_k0 : ¬ (0 : Int32) = 1 ∧ ¬ (0 : Int32) = 2 ∧ ¬ (0 : Int32) = 3 ∧ ¬ (0 : Int32) = 4 ∧ ¬ (0 : Int32) = 5 ∧ ¬ (0 : Int32) = 6 ∧ ¬ (0 : Int32) = 7 ∧ ¬ (0 : Int32) = 8 ∧ ¬ (0 : Int32) = 9 ∧ ¬ (0 : Int32) = 10 ∧ ¬ (0 : Int32) = 11 ∧ ¬ (0 : Int32) = 12 := by decide
theorem sa_k1 : ¬ (1 : Int32) = 0 ∧ ¬ (1 : Int32) = 2 ∧ ¬ (1 : Int32) = 3 ∧ ¬ (1 : Int32) = 4 ∧ ¬ (1 : Int32) = 5 ∧ ¬ (1 : Int32) = 6 ∧ ¬ (1 : Int32) = 7 ∧ ¬ (1 : Int32) = 8 ∧ ¬ (1 : Int32) = 9 ∧ ¬ (1 : Int32) = 10 ∧ ¬ (1 : Int32) = 11 ∧ ¬ (1 : Int32) = 12 := by decide
theorem sa_k2 : ¬ (2 : Int32) = 0 ∧ ¬ (2 : Int32) = 1 ∧ ¬ (2 : Int32) = 3 ∧ ¬ (2 : Int32) = 4 ∧ ¬ (2 : Int32) = 5 ∧ ¬ (2 : Int32) = 6 ∧ ¬ (2 : Int32) = 7 ∧ ¬ (2 : Int32) = 8 ∧ ¬ (2 : Int32) = 9 ∧ ¬ (2 : Int32) = 10 ∧ ¬ (2 : Int32) = 11 ∧ ¬ (2 : Int32) = 12 := by decide
theorem sa_k3 : ¬ (3 : Int32) = 0 ∧ ¬ (3 : Int32) = 1 ∧ ¬ (3 : Int32) = 2 ∧ ¬ (3 : Int32) = 4 ∧ ¬ (3 : Int32) = 5 ∧ ¬ (3 : Int32) = 6 ∧ ¬ (3 : Int32) = 7 ∧ ¬ (3 : Int32) = 8 ∧ ¬ (3 : Int32) = 9 ∧ ¬ (3 : Int32) = 10 ∧ ¬ (3 : Int32) = 11 ∧ ¬ (3 : Int32) = 12 := by decide
theorem sa_k4 : ¬ (4 : Int32) = 0 ∧ ¬ (4 : Int32) = 1 ∧ ¬ (4 : Int32) = 2 ∧ ¬ (4 : Int32) = 3 ∧ ¬ (4 : Int32) = 5 ∧ ¬ (4 : Int32) = 6 ∧ ¬ (4 : Int32) = 7 ∧ ¬ (4 : Int32) = 8 ∧ ¬ (4 : Int32) = 9 ∧ ¬ (4 : Int32) = 10 ∧ ¬ (4 : Int32) = 11 ∧ ¬ (4 : Int32) = 12 := by decide
theorem sa_k5 : ¬ (5 : Int32) = 0 ∧ ¬ (5 : Int32) = 1 ∧ ¬ (5 : Int32) = 2 ∧ ¬ (5 : Int32) = 3 ∧ ¬ (5 : Int32) = 4 ∧ ¬ (5 : Int32) = 6 ∧ ¬ (5 : Int32) = 7 ∧ ¬ (5 : Int32) = 8 ∧ ¬ (5 : Int32) = 9 ∧ ¬ (5 : Int32) = 10 ∧ ¬ (5 : Int32) = 11 ∧ ¬ (5 : Int32) = 12 := by decide
theorem sa_k6 : ¬ (6 : Int32) = 0 ∧ ¬ (6 : Int32) = 1 ∧ ¬ (6 : Int32) = 2 ∧ ¬ (6 : Int32) = 3 ∧ ¬ (6 : Int32) = 4 ∧ ¬ (6 : Int32) = 5 ∧ ¬ (6 : Int32) = 7 ∧ ¬ (6 : Int32) = 8 ∧ ¬ (6 : Int32) = 9 ∧ ¬ (6 : Int32) = 10 ∧ ¬ (6 : Int32) = 11 ∧ ¬ (6 : Int32) = 12 := by decide
theorem sa_k7 : ¬ (7 : Int32) = 0 ∧ ¬ (7 : Int32) = 1 ∧ ¬ (7 : Int32) = 2 ∧ ¬ (7 : Int32) = 3 ∧ ¬ (7 : Int32) = 4 ∧ ¬ (7 : Int32) = 5 ∧ ¬ (7 : Int32) = 6 ∧ ¬ (7 : Int32) = 8 ∧ ¬ (7 : Int32) = 9 ∧ ¬ (7 : Int32) = 10 ∧ ¬ (7 : Int32) = 11 ∧ ¬ (7 : Int32) = 12 := by decide
theorem sa_k8 : ¬ (8 : Int32) = 0 ∧ ¬ (8 : Int32) = 1 ∧ ¬ (8 : Int32) = 2 ∧ ¬ (8 : Int32) = 3 ∧ ¬ (8 : Int32) = 4 ∧ ¬ (8 : Int32) = 5 ∧ ¬ (8 : Int32) = 6 ∧ ¬ (8 : Int32) = 7 ∧ ¬ (8 : Int32) = 9 ∧ ¬ (8 : Int32) = 10 ∧ ¬ (8 : Int32) = 11 ∧ ¬ (8 : Int32) = 12 := by decide
theorem sa_k9 : ¬ (9 : Int32) = 0 ∧ ¬ (9 : Int32) = 1 ∧ ¬ (9 : Int32) = 2 ∧ ¬ (9 : Int32) = 3 ∧ ¬ (9 : Int32) = 4 ∧ ¬ (9 : Int32) = 5 ∧ ¬ (9 : Int32) = 6 ∧ ¬ (9 : Int32) = 7 ∧ ¬ (9 : Int32) = 8 ∧ ¬ (9 : Int32) = 10 ∧ ¬ (9 : Int32) = 11 ∧ ¬ (9 : Int32) = 12 := by decide
theorem sa_k10 : ¬ (10 : Int32) = 0 ∧ ¬ (10 : Int32) = 1 ∧ ¬ (10 : Int32) = 2 ∧ ¬ (10 : Int32) = 3 ∧ ¬ (10 : Int32) = 4 ∧ ¬ (10 : Int32) = 5 ∧ ¬ (10 : Int32) = 6 ∧ ¬ (10 : Int32) = 7 ∧ ¬ (10 : Int32) = 8 ∧ ¬ (10 : Int32) = 9 ∧ ¬ (10 : Int32) = 11 ∧ ¬ (10 : Int32) = 12 := by decide
theorem sa_k11 : ¬ (11 : Int32) = 0 ∧ ¬ (11 : Int32) = 1 ∧ ¬ (11 : Int32) = 2 ∧ ¬ (11 : Int32) = 3 ∧ ¬ (11 : Int32) = 4 ∧ ¬ (11 : Int32) = 5 ∧ ¬ (11 : Int32) = 6 ∧ ¬ (11 : Int32) = 7 ∧ ¬ (11 : Int32) = 8 ∧ ¬ (11 : Int32) = 9 ∧ ¬ (11 : Int32) = 10 ∧ ¬ (11 : Int32) = 12 := by decide
theorem sa_k12 : ¬ (12 : Int32) = 0 ∧ ¬ (12 : Int32) = 1 ∧ ¬ (12 : Int32) = 2 ∧ ¬ (12 : Int32) = 3 ∧ ¬ (12 : Int32) = 4 ∧ ¬ (12 : Int32) = 5 ∧ ¬ (12 : Int32) = 6 ∧ ¬ (12 : Int32) = 7 ∧ ¬ (12 : Int32) = 8 ∧ ¬ (12 : Int32) = 9 ∧ ¬ (12 : Int32) = 10 ∧ ¬ (12 : Int32) = 11 := by decide
theorem sa_kl0 : ¬ (3 : Int32) ≤ 0 ∧ ¬ (5 : Int32) ≤ 0 ∧ ¬ (7 : Int32) ≤ 0 ∧ ¬ (8 : Int32) ≤ 0 ∧ ¬ (11 : Int32) ≤ 0 := by decide
theorem sa_kl1 : ¬ (3 : Int32) ≤ 1 ∧ ¬ (5 : Int32) ≤ 1 ∧ ¬ (7 : Int32) ≤ 1 ∧ ¬ (8 : Int32) ≤ 1 ∧ ¬ (11 : Int32) ≤ 1 := by decide
theorem sa_kl2 : ¬ (3 : Int32) ≤ 2 ∧ ¬ (5 : Int32) ≤ 2 ∧ ¬ (7 : Int32) ≤ 2 ∧ ¬ (8 : Int32) ≤ 2 ∧ ¬ (11 : Int32) ≤ 2 := by decide
theorem sa_kl3 : (3 : Int32) ≤ 3 ∧ ¬ (5 : Int32) ≤ 3 ∧ ¬ (7 : Int32) ≤ 3 ∧ ¬ (8 : Int32) ≤ 3 ∧ ¬ (11 : Int32) ≤ 3 := by decide
theorem sa_kl4 : (3 : Int32) ≤ 4 ∧ ¬ (5 : Int32) ≤ 4 ∧ ¬ (7 : Int32) ≤ 4 ∧ ¬ (8 : Int32) ≤ 4 ∧ ¬ (11 : Int32) ≤ 4 := by decide
theorem sa_kl5 : (3 : Int32) ≤ 5 ∧ (5 : Int32) ≤ 5 ∧ ¬ (7 : Int32) ≤ 5 ∧ ¬ (8 : Int32) ≤ 5 ∧ ¬ (11 : Int32) ≤ 5 := by decide
theorem sa_kl6 : (3 : Int32) ≤ 6 ∧ (5 : Int32) ≤ 6 ∧ ¬ (7 : Int32) ≤ 6 ∧ ¬ (8 : Int32) ≤ 6 ∧ ¬ (11 : Int32) ≤ 6 := by decide
theorem sa_kl7 : (3 : Int32) ≤ 7 ∧ (5 : Int32) ≤ 7 ∧ (7 : Int32) ≤ 7 ∧ ¬ (8 : Int32) ≤ 7 ∧ ¬ (11 : Int32) ≤ 7 := by decide
theorem sa_kl8 : (3 : Int32) ≤ 8 ∧ (5 : Int32) ≤ 8 ∧ (7 : Int32) ≤ 8 ∧ (8 : Int32) ≤ 8 ∧ ¬ (11 : Int32) ≤ 8 := by decide
theorem sa_kl9 : (3 : Int32) ≤ 9 ∧ (5 : Int32) ≤ 9 ∧ (7 : Int32) ≤ 9 ∧ (8 : Int32) ≤ 9 ∧ ¬ (11 : Int32) ≤ 9 := by decide
theorem sa_kl10 : (3 : Int32) ≤ 10 ∧ (5 : Int32) ≤ 10 ∧ (7 : Int32) ≤ 10 ∧ (8 : Int32) ≤ 10 ∧ ¬ (11 : Int32) ≤ 10 := by decide
theorem sa_kl11 : (3 : Int32) ≤ 11 ∧ (5 : Int32) ≤ 11 ∧ (7 : Int32) ≤ 11 ∧ (8 : Int32) ≤ 11 ∧ (11 : Int32) ≤ 11 := by decide
theorem sa_kl12 : (3 : Int32) ≤ 12 ∧ (5 : Int32) ≤ 12 ∧ (7 : Int32) ≤ 12 ∧ (8 : Int32) ≤ 12 ∧ (11 : Int32) ≤ 12 := by decide
theorem sa_n0 : narrow .boolean (.int 0) = .int 0 := rfl
theorem sa_n1 : narrow .boolean (.int 1) = .int 1 := rfl
theorem sa_m1 : ¬ (0 : Int32) = -1 ∧ ¬ (1 : Int32) = -1 ∧ ¬ (-1 : Int32) = 0 ∧ ¬ (-1 : Int32) = 1 := by decide
theorem sa_and3 {a : Nat} (h : a < 4) : nI a &&& 3 = nI a := by
  rw [pk_andN (by omega) 2 (by decide), Nat.mod_eq_of_lt h]
theorem sa_andE (x : Int32) : ∃ j, j < 4 ∧ x &&& 3 = nI j := pk_andE x 2 (by decide)
end
section
/-! the abstract things: program, jobs, what lasts of a workflow, what is at hand of it; one step of a workflow; how the two states show them -/
/-- program: number of steps, kind, three numbers a step; the settings -/
abbrev sa_P : Type := Nat × (Nat → Int32) × (Nat → Int32) × (Nat → Int32) × (Nat → Int32) × (Nat → Int32)
/-- jobs: count, activity, input, attempts, state, time; attempts: count, job, time -/
abbrev sa_J : Type := Nat × (Nat → Int32) × (Nat → Int32) × (Nat → Int32) × (Nat → Int32) × (Nat → Int32) × Nat × (Nat → Int32) × (Nat → Int32)
/-- lasting: start value, jobs asked for, signals, history, open until -/
abbrev sa_L : Type := Int32 × Nat × (Nat → Int32) × Nat × (Nat → Int32) × (Nat → Int32) × Nat × (Nat → Int32) × (Nat → Int32) × Int32
/-- at hand -/
abbrev sa_H : Type := Int32 × Nat × Int32 × Nat × Nat × Nat × (Nat → Int32) × (Nat → Int32) × (Nat → Int32) × Nat × (Nat → Int32) × (Nat → Int32) × Bool × Int32

def sa_st (h : sa_H) : Int32 := match h with | (st, pl, ev, dn, us, is, vr, hd, tk, pn, pa, pi, un, wj) => st
def sa_us (h : sa_H) : Nat := match h with | (st, pl, ev, dn, us, is, vr, hd, tk, pn, pa, pi, un, wj) => us
def sa_is (h : sa_H) : Nat := match h with | (st, pl, ev, dn, us, is, vr, hd, tk, pn, pa, pi, un, wj) => is
def sa_wj (h : sa_H) : Int32 := match h with | (st, pl, ev, dn, us, is, vr, hd, tk, pn, pa, pi, un, wj) => wj
def sa_un (h : sa_H) : Bool := match h with | (st, pl, ev, dn, us, is, vr, hd, tk, pn, pa, pi, un, wj) => un
def sa_mu (h : sa_H) : Nat := match h with | (st, pl, ev, dn, us, is, vr, hd, tk, pn, pa, pi, un, wj) => 2 * (200 - dn) + 2 * (30 - is) + (if wj = -1 then 0 else 1) + 1

/-- steps that take nothing from outside -/
def sa_S0 (P : sa_P) (h h' : sa_H) : Prop := match P, h with
  | (ns, kd, p1, p2, p3, ac), (st, pl, ev, dn, us, is, vr, hd, tk, pn, pa, pi, un, wj) => st = 1 ∧ un = false ∧ wj = -1 ∧
    ((ns ≤ pl ∧ h' = (2, pl, 0, dn, us, is, vr, hd, tk, pn, pa, pi, un, wj))
    ∨ (pl < ns ∧ dn = 200 ∧ h' = (5, pl, 0, dn, us, is, vr, hd, tk, pn, pa, pi, un, wj))
    ∨ (pl < ns ∧ dn < 200 ∧
      ((kd pl = 0 ∧ ∃ a, a < 4 ∧ p1 pl = nI a ∧ h' = (st, pl + 1, ev, dn + 1, us, is, upd vr a (p2 pl), hd, tk, pn, pa, pi, un, wj))
      ∨ (kd pl = 1 ∧ ∃ a b, a < 4 ∧ b < 4 ∧ p1 pl = nI a ∧ p2 pl = nI b ∧ h' = (st, pl + 1, ev, dn + 1, us, is, upd vr a (vr a + vr b), hd, tk, pn, pa, pi, un, wj))
      ∨ (kd pl = 2 ∧ ∃ a b, a < 4 ∧ b < 4 ∧ p1 pl = nI a ∧ p2 pl = nI b ∧ h' = (st, pl + 1, ev, dn + 1, us, is, upd vr a (vr a - vr b), hd, tk, pn, pa, pi, un, wj))
      ∨ (kd pl = 3 ∧ is = 30 ∧ (∃ a b, a < 4 ∧ b < 4 ∧ p1 pl = nI a ∧ p2 pl = nI b) ∧ h' = (5, pl, 0, dn + 1, us, is, vr, hd, tk, pn, pa, pi, un, wj))
      ∨ (kd pl = 4 ∧ ∃ a b c, a < 4 ∧ b < 4 ∧ c < 3 ∧ p1 pl = nI a ∧ p2 pl = nI b ∧ p3 pl = nI c ∧ hd c ≠ -1 ∧ h' = (5, pl, 0, dn + 1, us, is, vr, hd, tk, pn, pa, pi, un, wj))
      ∨ (kd pl = 4 ∧ ∃ a b c, a < 4 ∧ b < 4 ∧ c < 3 ∧ p1 pl = nI a ∧ p2 pl = nI b ∧ p3 pl = nI c ∧ hd c = -1 ∧ is = 30 ∧ h' = (5, pl, 0, dn + 1, us, is, vr, hd, tk, pn, pa, pi, un, wj))
      ∨ (kd pl = 5 ∧ ∃ a b, a < 3 ∧ b < 4 ∧ p1 pl = nI a ∧ p2 pl = nI b ∧ hd a = -1 ∧ h' = (5, pl, 0, dn + 1, us, is, vr, hd, tk, pn, pa, pi, un, wj))
      ∨ (kd pl = 5 ∧ ∃ a b, a < 3 ∧ b < 4 ∧ p1 pl = nI a ∧ p2 pl = nI b ∧ hd a ≠ -1 ∧ h' = (st, pl, ev, dn + 1, us, is, vr, hd, tk, pn, pa, pi, un, hd a))
      ∨ (kd pl = 6 ∧ ∃ a b, a < 4 ∧ b < 4 ∧ p1 pl = nI a ∧ p2 pl = nI b ∧ pn < 200 ∧ h' = (st, pl + 1, ev, dn + 1, us, is, vr, hd, tk, pn + 1, upd pa pn (p1 pl), upd pi pn (vr b), un, wj))
      ∨ (kd pl = 7 ∧ ∃ a, a < 4 ∧ p1 pl = nI a ∧ vr a ≤ 0 ∧ h' = (st, pl + 1, ev, dn + 1, us, is, vr, hd, tk, pn, pa, pi, un, wj))
      ∨ (kd pl = 7 ∧ ∃ a, a < 4 ∧ p1 pl = nI a ∧ ¬ vr a ≤ 0 ∧ h' = (st, pl, ev, dn + 1, us, is, vr, hd, tk, pn, pa, pi, un, 0))
      ∨ (kd pl = 8 ∧ ∃ a, a < 20 ∧ p1 pl = nI a ∧ h' = (st, a, ev, dn + 1, us, is, vr, hd, tk, pn, pa, pi, un, wj))
      ∨ (kd pl = 9 ∧ ∃ a b c, a < 4 ∧ b < 4 ∧ c < 20 ∧ p1 pl = nI a ∧ p2 pl = nI b ∧ p3 pl = nI c ∧ vr b ≤ vr a ∧ h' = (st, pl + 1, ev, dn + 1, us, is, vr, hd, tk, pn, pa, pi, un, wj))
      ∨ (kd pl = 9 ∧ ∃ a b c, a < 4 ∧ b < 4 ∧ c < 20 ∧ p1 pl = nI a ∧ p2 pl = nI b ∧ p3 pl = nI c ∧ ¬ vr b ≤ vr a ∧ h' = (st, c, ev, dn + 1, us, is, vr, hd, tk, pn, pa, pi, un, wj))
      ∨ (kd pl = 10 ∧ ∃ a b, a < 2 ∧ b < 4 ∧ p1 pl = nI a ∧ p2 pl = nI b ∧ h' = (st, pl, ev, dn + 1, us, is, vr, hd, tk, pn, pa, pi, un, 0))
      ∨ (kd pl = 11 ∧ ∃ a, a < 4 ∧ p1 pl = nI a ∧ h' = (2, pl, vr a, dn + 1, us, is, vr, hd, tk, pn, pa, pi, un, wj)))))
/-- the step that fails -/
def sa_SF (P : sa_P) (h h' : sa_H) : Prop := match P, h with
  | (ns, kd, p1, p2, p3, ac), (st, pl, ev, dn, us, is, vr, hd, tk, pn, pa, pi, un, wj) => st = 1 ∧ un = false ∧ wj = -1 ∧ pl < ns ∧ dn < 200 ∧ kd pl = 12 ∧ h' = (st, pl, ev, dn + 1, us, is, vr, hd, tk, pn, pa, pi, true, wj)
/-- the pile is empty, or one job too many would be asked for -/
def sa_SE (h h' : sa_H) : Prop := match h with
  | (st, pl, ev, dn, us, is, vr, hd, tk, pn, pa, pi, un, wj) => st = 1 ∧ un = true ∧ wj = -1 ∧ ((pn = 0 ∧ h' = (3, pl, 0, dn, us, is, vr, hd, tk, pn, pa, pi, un, wj)) ∨ (0 < pn ∧ pn ≤ 200 ∧ is = 30 ∧ h' = (5, pl, 0, dn, us, is, vr, hd, tk, pn, pa, pi, un, wj)))
/-- a step that asks for job j: activity q, input x -/
def sa_S1 (P : sa_P) (h : sa_H) (q x j : Int32) (h' : sa_H) : Prop := match P, h with
  | (ns, kd, p1, p2, p3, ac), (st, pl, ev, dn, us, is, vr, hd, tk, pn, pa, pi, un, wj) => st = 1 ∧ un = false ∧ wj = -1 ∧ pl < ns ∧ dn < 200 ∧ is < 30 ∧ j ≠ -1 ∧
    ((kd pl = 3 ∧ ∃ a b, a < 4 ∧ b < 4 ∧ p1 pl = nI a ∧ p2 pl = nI b ∧ q = p1 pl ∧ x = vr b ∧ h' = (st, pl, ev, dn + 1, us, is + 1, vr, hd, tk, pn, pa, pi, un, j))
    ∨ (kd pl = 4 ∧ ∃ a b c, a < 4 ∧ b < 4 ∧ c < 3 ∧ p1 pl = nI a ∧ p2 pl = nI b ∧ p3 pl = nI c ∧ q = p1 pl ∧ x = vr b ∧ hd c = -1 ∧ h' = (st, pl + 1, ev, dn + 1, us, is + 1, vr, upd hd c j, tk, pn, pa, pi, un, wj)))
/-- the next job of the pile is asked for -/
def sa_S1u (h : sa_H) (q x j : Int32) (h' : sa_H) : Prop := match h with
  | (st, pl, ev, dn, us, is, vr, hd, tk, pn, pa, pi, un, wj) => st = 1 ∧ un = true ∧ wj = -1 ∧ 0 < pn ∧ pn ≤ 200 ∧ is < 30 ∧ j ≠ -1 ∧ q = pa (pn - 1) ∧ x = pi (pn - 1) ∧ h' = (st, pl, ev, dn, us, is + 1, vr, hd, tk, pn - 1, pa, pi, un, j)
/-- a wait is over, with good g and number x; the workflow goes on with a step, or is stuck -/
def sa_S2 (P : sa_P) (h : sa_H) (g x : Int32) (h' : sa_H) : Prop := match P, h with
  | (ns, kd, p1, p2, p3, ac), (st, pl, ev, dn, us, is, vr, hd, tk, pn, pa, pi, un, wj) => st = 1 ∧ wj ≠ -1 ∧ us < 240 ∧
    ((un = true ∧ g = 0 ∧ h' = (4, pl, 0, dn, us + 1, is, vr, hd, tk, pn, pa, pi, un, -1))
    ∨ (un = false ∧ pl < ns ∧
      ((kd pl = 3 ∧ ∃ c, c < 4 ∧ p3 pl = nI c ∧ g = 1 ∧ h' = (st, pl + 1, ev, dn, us + 1, is, upd vr c x, hd, tk, pn, pa, pi, un, -1))
      ∨ (kd pl = 5 ∧ ∃ a b, a < 3 ∧ b < 4 ∧ p1 pl = nI a ∧ p2 pl = nI b ∧ g = 1 ∧ h' = (st, pl + 1, ev, dn, us + 1, is, upd vr b x, upd hd a (-1), tk, pn, pa, pi, un, -1))
      ∨ (kd pl = 7 ∧ ∃ a, a < 4 ∧ p1 pl = nI a ∧ h' = (st, pl + 1, ev, dn, us + 1, is, vr, hd, tk, pn, pa, pi, un, -1))
      ∨ (kd pl = 10 ∧ ∃ a b, a < 2 ∧ b < 4 ∧ p1 pl = nI a ∧ p2 pl = nI b ∧ ¬ g = 1 ∧ h' = (st, pl + 1, ev, dn, us + 1, is, upd vr b (-1), hd, tk, pn, pa, pi, un, -1)))))
/-- a wait is over; the workflow goes on with its pile -/
def sa_S2p (P : sa_P) (h : sa_H) (g : Int32) (h' : sa_H) : Prop := match P, h with
  | (ns, kd, p1, p2, p3, ac), (st, pl, ev, dn, us, is, vr, hd, tk, pn, pa, pi, un, wj) => st = 1 ∧ wj ≠ -1 ∧ us < 240 ∧
    ((un = true ∧ ¬ g = 0 ∧ h' = (st, pl, ev, dn, us + 1, is, vr, hd, tk, pn, pa, pi, un, -1))
    ∨ (un = false ∧ pl < ns ∧
      ((kd pl = 3 ∧ (∃ c, c < 4 ∧ p3 pl = nI c) ∧ ¬ g = 1 ∧ h' = (st, pl, ev, dn, us + 1, is, vr, hd, tk, pn, pa, pi, true, -1))
      ∨ (kd pl = 5 ∧ ∃ a b, a < 3 ∧ b < 4 ∧ p1 pl = nI a ∧ p2 pl = nI b ∧ ¬ g = 1 ∧ h' = (st, pl, ev, dn, us + 1, is, vr, upd hd a (-1), tk, pn, pa, pi, true, -1)))))
/-- a signal is taken: the one at q, with number y -/
def sa_S3 (P : sa_P) (h : sa_H) (q : Nat) (y : Int32) (h' : sa_H) : Prop := match P, h with
  | (ns, kd, p1, p2, p3, ac), (st, pl, ev, dn, us, is, vr, hd, tk, pn, pa, pi, un, wj) => st = 1 ∧ wj ≠ -1 ∧ us < 240 ∧ un = false ∧ pl < ns ∧ q < 6 ∧ kd pl = 10 ∧ ∃ a b, a < 2 ∧ b < 4 ∧ p1 pl = nI a ∧ p2 pl = nI b ∧ h' = (st, pl + 1, ev, dn, us + 1, is, upd vr b y, hd, upd tk q 1, pn, pa, pi, un, -1)
/-- a step whose outside is what lasts -/
def sa_St (P : sa_P) (L : sa_L) (h h' : sa_H) : Prop := match L with
  | (sv, ak, aj, gc, gk, gn, hs, hg, hn, ou) => sa_S0 P h h' ∨ sa_SF P h h' ∨ sa_SE h h'
    ∨ (∃ q x j, sa_is h < ak ∧ aj (sa_is h) = j ∧ (sa_S1 P h q x j h' ∨ sa_S1u h q x j h'))
    ∨ (∃ g x, sa_us h < hs ∧ hg (sa_us h) = g ∧ hn (sa_us h) = x ∧ (sa_S2 P h g x h' ∨ sa_S2p P h g h'))
    ∨ (∃ q y, sa_us h < hs ∧ hg (sa_us h) = 1 ∧ hn (sa_us h) = nI q ∧ q < gc ∧ gn q = y ∧ sa_S3 P h q y h')
def sa_Re (P : sa_P) (L : sa_L) : Nat → sa_H → sa_H → Prop
  | 0, h, h' => h = h'
  | n + 1, h, h' => ∃ h1, sa_St P L h h1 ∧ sa_Re P L n h1 h'
/-- what lasts grows -/
def sa_Ex (L L' : sa_L) : Prop := match L, L' with
  | (sv, ak, aj, gc, gk, gn, hs, hg, hn, ou), (sv', ak', aj', gc', gk', gn', hs', hg', hn', ou') => sv' = sv ∧ ak ≤ ak' ∧ (∀ k, k < ak → aj' k = aj k) ∧ gc ≤ gc' ∧ (∀ k, k < gc → gk' k = gk k ∧ gn' k = gn k) ∧ hs ≤ hs' ∧ (∀ k, k < hs → hg' k = hg k ∧ hn' k = hn k)

/-! ## the component's state shows them -/
def sa_WX (P : sa_P) (t : Nat) (J : sa_J) (u : SX) : Prop := match P, J, u with
  | (ns, kd, p1, p2, p3, ac), (jc, ja, ji, jn, js, jt, tc, tj, tt), (xns, xnow, xjc, xtc, xhe, xkd, xp1, xp2, xp3, xac, xja, xji, xjn, xjs, xjt, xtj, xtt, xss, xsv, xak, xaj, xgc, xgk, xgn, xhs, xhg, xhn, xou, xah, xst, xpl, xft, xev, xdn, xus, xis, xvr, xhd, xtk, xpd, xpa, xpi, xun, xwj) => (ns ≤ 20 ∧ t < 1000000 ∧ jc ≤ 90 ∧ tc ≤ 360) ∧ xns = nI ns ∧ xnow = nI t ∧ xjc = nI jc ∧ xtc = nI tc ∧ xkd = kd ∧ xp1 = p1 ∧ xp2 = p2 ∧ xp3 = p3 ∧ xac = ac
    ∧ xja = ja ∧ xji = ji ∧ xjn = jn ∧ xjs = js ∧ xjt = jt ∧ xtj = tj ∧ xtt = tt
def sa_LX (i : Nat) (L : sa_L) (u : SX) : Prop := match L, u with
  | (sv, ak, aj, gc, gk, gn, hs, hg, hn, ou), (xns, xnow, xjc, xtc, xhe, xkd, xp1, xp2, xp3, xac, xja, xji, xjn, xjs, xjt, xtj, xtt, xss, xsv, xak, xaj, xgc, xgk, xgn, xhs, xhg, xhn, xou, xah, xst, xpl, xft, xev, xdn, xus, xis, xvr, xhd, xtk, xpd, xpa, xpi, xun, xwj) => (ak ≤ 30 ∧ gc ≤ 6 ∧ hs ≤ 240) ∧ xsv i = sv ∧ xak i = nI ak ∧ (∀ k, k < ak → xaj (30 * i + k) = aj k) ∧ xgc i = nI gc
    ∧ (∀ k, k < gc → xgk (6 * i + k) = gk k) ∧ (∀ k, k < gc → xgn (6 * i + k) = gn k) ∧ xhs i = nI hs
    ∧ (∀ k, k < hs → xhg (240 * i + k) = hg k) ∧ (∀ k, k < hs → xhn (240 * i + k) = hn k) ∧ xou i = ou
def sa_HX (i : Nat) (h : sa_H) (u : SX) : Prop := match h, u with
  | (st, pl, ev, dn, us, is, vr, hd, tk, pn, pa, pi, un, wj), (xns, xnow, xjc, xtc, xhe, xkd, xp1, xp2, xp3, xac, xja, xji, xjn, xjs, xjt, xtj, xtt, xss, xsv, xak, xaj, xgc, xgk, xgn, xhs, xhg, xhn, xou, xah, xst, xpl, xft, xev, xdn, xus, xis, xvr, xhd, xtk, xpd, xpa, xpi, xun, xwj) => (pl ≤ 20 ∧ dn ≤ 200 ∧ us ≤ 240 ∧ is ≤ 30 ∧ pn ≤ 200) ∧ xst i = st ∧ xpl i = nI pl ∧ (un = true → xft i = nI pl) ∧ xev i = ev ∧ xdn i = nI dn ∧ xus i = nI us ∧ xis i = nI is
    ∧ (∀ k, k < 4 → xvr (4 * i + k) = vr k) ∧ (∀ k, k < 3 → xhd (3 * i + k) = hd k) ∧ (∀ k, k < 6 → xtk (6 * i + k) = tk k)
    ∧ (un = false → xpd i = nI pn) ∧ (∀ k, k < pn → xpa (200 * i + k) = pa k) ∧ (∀ k, k < pn → xpi (200 * i + k) = pi k)
    ∧ xun i = (if un = true then nI pn else -1) ∧ xwj i = wj
/-- two states agree on workflow i -/
def sa_AX (i : Nat) (u u' : SX) : Prop := match u, u' with
  | (xns, xnow, xjc, xtc, xhe, xkd, xp1, xp2, xp3, xac, xja, xji, xjn, xjs, xjt, xtj, xtt, xss, xsv, xak, xaj, xgc, xgk, xgn, xhs, xhg, xhn, xou, xah, xst, xpl, xft, xev, xdn, xus, xis, xvr, xhd, xtk, xpd, xpa, xpi, xun, xwj), (xns', xnow', xjc', xtc', xhe', xkd', xp1', xp2', xp3', xac', xja', xji', xjn', xjs', xjt', xtj', xtt', xss', xsv', xak', xaj', xgc', xgk', xgn', xhs', xhg', xhn', xou', xah', xst', xpl', xft', xev', xdn', xus', xis', xvr', xhd', xtk', xpd', xpa', xpi', xun', xwj') => xsv' i = xsv i ∧ xak' i = xak i ∧ (∀ k, k < 30 → xaj' (30 * i + k) = xaj (30 * i + k)) ∧ xgc' i = xgc i
    ∧ (∀ k, k < 6 → xgk' (6 * i + k) = xgk (6 * i + k)) ∧ (∀ k, k < 6 → xgn' (6 * i + k) = xgn (6 * i + k)) ∧ xhs' i = xhs i
    ∧ (∀ k, k < 240 → xhg' (240 * i + k) = xhg (240 * i + k)) ∧ (∀ k, k < 240 → xhn' (240 * i + k) = xhn (240 * i + k)) ∧ xou' i = xou i
    ∧ xst' i = xst i ∧ xpl' i = xpl i ∧ xft' i = xft i ∧ xev' i = xev i ∧ xdn' i = xdn i ∧ xus' i = xus i ∧ xis' i = xis i
    ∧ (∀ k, k < 4 → xvr' (4 * i + k) = xvr (4 * i + k)) ∧ (∀ k, k < 3 → xhd' (3 * i + k) = xhd (3 * i + k)) ∧ (∀ k, k < 6 → xtk' (6 * i + k) = xtk (6 * i + k))
    ∧ xpd' i = xpd i ∧ (∀ k, k < 200 → xpa' (200 * i + k) = xpa (200 * i + k)) ∧ (∀ k, k < 200 → xpi' (200 * i + k) = xpi (200 * i + k))
    ∧ xun' i = xun i ∧ xwj' i = xwj i
/-- the states differ, but for program and jobs, on workflow i alone -/
def sa_FX (i : Nat) (u u' : SX) : Prop := (match u, u' with | (xns, xnow, xjc, xtc, xhe, xkd, xp1, xp2, xp3, xac, xja, xji, xjn, xjs, xjt, xtj, xtt, xss, xsv, xak, xaj, xgc, xgk, xgn, xhs, xhg, xhn, xou, xah, xst, xpl, xft, xev, xdn, xus, xis, xvr, xhd, xtk, xpd, xpa, xpi, xun, xwj), (xns', xnow', xjc', xtc', xhe', xkd', xp1', xp2', xp3', xac', xja', xji', xjn', xjs', xjt', xtj', xtt', xss', xsv', xak', xaj', xgc', xgk', xgn', xhs', xhg', xhn', xou', xah', xst', xpl', xft', xev', xdn', xus', xis', xvr', xhd', xtk', xpd', xpa', xpi', xun', xwj') => xss' = xss ∧ xah' = xah) ∧ ∀ i', i' < 3 → i' ≠ i → sa_AX i' u u'

/-! ## where the component stands -/
/-- the component at its wait: it asks from here on what Q says -/
def sa_BX (Q : Int32 → SX → Prop) (i : Nat) (P : sa_P) (h : sa_H) (u : SX) : Prop := match P, h, u with
  | (ns, kd, p1, p2, p3, ac), (st, pl, ev, dn, us, is, vr, hd, tk, pn, pa, pi, un, wj), (xns, xnow, xjc, xtc, xhe, xkd, xp1, xp2, xp3, xac, xja, xji, xjn, xjs, xjt, xtj, xtt, xss, xsv, xak, xaj, xgc, xgk, xgn, xhs, xhg, xhn, xou, xah, xst, xpl, xft, xev, xdn, xus, xis, xvr, xhd, xtk, xpd, xpa, xpi, xun, xwj) => (un = true → ∀ R : Int32 → SX → Prop, (∀ b w, (b = 0 ∨ b = 1) → Q b w → R b w) → wX_undoNext_88 R (nI i) xns xnow xjc xtc xhe xkd xp1 xp2 xp3 xac xja xji xjn xjs xjt xtj xtt xss xsv xak xaj xgc xgk xgn xhs xhg xhn xou xah xst xpl xft xev xdn xus xis xvr xhd xtk xpd xpa xpi xun xwj)
    ∧ (un = false → kd pl = 3 → ∀ R : Int32 → SX → Prop, (∀ b w, (b = 0 ∨ b = 1) → Q b w → R b w) → wX_waitForJob_121 R (nI i) (nI pl) 1 xns xnow xjc xtc xhe xkd xp1 xp2 xp3 xac xja xji xjn xjs xjt xtj xtt xss xsv xak xaj xgc xgk xgn xhs xhg xhn xou xah xst xpl xft xev xdn xus xis xvr xhd xtk xpd xpa xpi xun xwj)
    ∧ (un = false → kd pl = 5 → ∀ R : Int32 → SX → Prop, (∀ b w, (b = 0 ∨ b = 1) → Q b w → R b w) → wX_waitForJob_121 R (nI i) (nI pl) 0 xns xnow xjc xtc xhe xkd xp1 xp2 xp3 xac xja xji xjn xjs xjt xtj xtt xss xsv xak xaj xgc xgk xgn xhs xhg xhn xou xah xst xpl xft xev xdn xus xis xvr xhd xtk xpd xpa xpi xun xwj)
    ∧ (un = false → kd pl = 7 → ∀ a, a < 4 → p1 pl = nI a → ∀ R : Int32 → SX → Prop, (∀ b w, (b = 0 ∨ b = 1) → Q b w → R b w) → ∀ z, (vr a ≤ 50 → z = vr a) → (¬ vr a ≤ 50 → z = 50) → wX_waitingStep_122 R (nI i) (nI pl) 7 z xns xnow xjc xtc xhe xkd xp1 xp2 xp3 xac xja xji xjn xjs xjt xtj xtt xss xsv xak xaj xgc xgk xgn xhs xhg xhn xou xah xst xpl xft xev xdn xus xis xvr xhd xtk xpd xpa xpi xun xwj)
    ∧ (un = false → kd pl = 10 → ∀ R : Int32 → SX → Prop, (∀ b w, (b = 0 ∨ b = 1) → Q b w → R b w) → ∀ S : Int32 → SX → Prop, (∀ b w, (b = 0 ∨ b = 1) → (match w with | (xns', xnow', xjc', xtc', xhe', xkd', xp1', xp2', xp3', xac', xja', xji', xjn', xjs', xjt', xtj', xtt', xss', xsv', xak', xaj', xgc', xgk', xgn', xhs', xhg', xhn', xou', xah', xst', xpl', xft', xev', xdn', xus', xis', xvr', xhd', xtk', xpd', xpa', xpi', xun', xwj') => wX_waitingStep_157 R (nI i) (nI pl) 10 b xns' xnow' xjc' xtc' xhe' xkd' xp1' xp2' xp3' xac' xja' xji' xjn' xjs' xjt' xtj' xtt' xss' xsv' xak' xaj' xgc' xgk' xgn' xhs' xhg' xhn' xou' xah' xst' xpl' xft' xev' xdn' xus' xis' xvr' xhd' xtk' xpd' xpa' xpi' xun' xwj') → S b w) → wpX_hearSignal S (xns, xnow, xjc, xtc, xhe, xkd, xp1, xp2, xp3, xac, xja, xji, xjn, xjs, xjt, xtj, xtt, xss, xsv, xak, xaj, xgc, xgk, xgn, xhs, xhg, xhn, xou, xah, xst, xpl, xft, xev, xdn, xus, xis, xvr, xhd, xtk, xpd, xpa, xpi, xun, xwj) (nI i) (p1 pl) (p3 pl))
/-- the loop at round r with fuel n -/
def sa_XL (post : SX → Prop) (i n r : Nat) (b : Int32) (u : SX) : Prop := match u with
  | (xns, xnow, xjc, xtc, xhe, xkd, xp1, xp2, xp3, xac, xja, xji, xjn, xjs, xjt, xtj, xtt, xss, xsv, xak, xaj, xgc, xgk, xgn, xhs, xhg, xhn, xou, xah, xst, xpl, xft, xev, xdn, xus, xis, xvr, xhd, xtk, xpd, xpa, xpi, xun, xwj) => wX_goOn_42 post (nI i) n b (nI r) xns xnow xjc xtc xhe xkd xp1 xp2 xp3 xac xja xji xjn xjs xjt xtj xtt xss xsv xak xaj xgc xgk xgn xhs xhg xhn xou xah xst xpl xft xev xdn xus xis xvr xhd xtk xpd xpa xpi xun xwj
def sa_GX (post : SX → Prop) (i : Nat) (P : sa_P) (h : sa_H) (u : SX) : Prop :=
  (sa_st h ≠ 1 → post u)
  ∧ (sa_st h = 1 → sa_wj h = -1 → ∀ n r, sa_mu h < n → r + sa_mu h < 500 → sa_XL post i n r 1 u)
  ∧ (sa_st h = 1 → sa_wj h ≠ -1 → ∀ n r, sa_mu h ≤ n → r + sa_mu h < 500 → sa_BX (fun b w => sa_XL post i n (r + 1) b w) i P h u)
/-- one step of the component from h to h', where what lasts goes from L to L' and the jobs from J to J' -/
def sa_GO (i : Nat) (P : sa_P) (t : Nat) (J' : sa_J) (L' : sa_L) (h h' : sa_H) (u : SX) : Prop :=
  ∃ u', sa_WX P t J' u' ∧ sa_LX i L' u' ∧ sa_HX i h' u' ∧ sa_FX i u u' ∧ ∀ post, sa_GX post i P h' u' → sa_GX post i P h u
end
section
/-! from one call of goOnce to the loop -/
theorem sa_mu1 (h : sa_H) : 1 ≤ sa_mu h := by
  obtain ⟨st, pl, ev, dn, us, is, vr, hd, tk, pn, pa, pi, un, wj⟩ := h
  show 1 ≤ 2 * (200 - dn) + 2 * (30 - is) + (if wj = -1 then 0 else 1) + 1
  omega
theorem sa_XL0 {post : SX → Prop} {i n r : Nat} {u : SX} (h : post u) : sa_XL post i (n + 1) r 0 u := by
  obtain ⟨xns, xnow, xjc, xtc, xhe, xkd, xp1, xp2, xp3, xac, xja, xji, xjn, xjs, xjt, xtj, xtt, xss, xsv, xak, xaj, xgc, xgk, xgn, xhs, xhg, xhn, xou, xah, xst, xpl, xft, xev, xdn, xus, xis, xvr, xhd, xtk, xpd, xpa, xpi, xun, xwj⟩ := u
  exact br_c (fun _ => h) (fun _ => br_t rfl h)
theorem sa_XL1 {post : SX → Prop} {i n r : Nat} {u : SX} (hr : r < 500) (h : ∀ Q : Int32 → SX → Prop, (∀ b w, sa_XL post i n (r + 1) b w → Q b w) → wpX_goOnce Q u (nI i)) : sa_XL post i (n + 1) r 1 u := by
  obtain ⟨xns, xnow, xjc, xtc, xhe, xkd, xp1, xp2, xp3, xac, xja, xji, xjn, xjs, xjt, xtj, xtt, xss, xsv, xak, xaj, xgc, xgk, xgn, xhs, xhg, xhn, xou, xah, xst, xpl, xft, xev, xdn, xus, xis, xvr, xhd, xtk, xpd, xpa, xpi, xun, xwj⟩ := u
  refine br_f (sa_le500 hr) (br_f (by decide) (h _ ?_))
  intro b w hw
  obtain ⟨xns', xnow', xjc', xtc', xhe', xkd', xp1', xp2', xp3', xac', xja', xji', xjn', xjs', xjt', xtj', xtt', xss', xsv', xak', xaj', xgc', xgk', xgn', xhs', xhg', xhn', xou', xah', xst', xpl', xft', xev', xdn', xus', xis', xvr', xhd', xtk', xpd', xpa', xpi', xun', xwj'⟩ := w
  intro y hy
  rw [hy, nI_1]
  exact hw
theorem sa_BXm {Q R : Int32 → SX → Prop} {i : Nat} {P : sa_P} {h : sa_H} {u : SX} (hq : ∀ b w, Q b w → R b w) (B : sa_BX Q i P h u) : sa_BX R i P h u := by
  obtain ⟨ns, kd, p1, p2, p3, ac⟩ := P
  obtain ⟨st, pl, ev, dn, us, is, vr, hd, tk, pn, pa, pi, un, wj⟩ := h
  obtain ⟨xns, xnow, xjc, xtc, xhe, xkd, xp1, xp2, xp3, xac, xja, xji, xjn, xjs, xjt, xtj, xtt, xss, xsv, xak, xaj, xgc, xgk, xgn, xhs, xhg, xhn, xou, xah, xst, xpl, xft, xev, xdn, xus, xis, xvr, xhd, xtk, xpd, xpa, xpi, xun, xwj⟩ := u
  obtain ⟨B1, B2, B3, B4, B5⟩ := B
  exact ⟨fun e S hS => B1 e S (fun b w hb hw => hS b w hb (hq b w hw)), fun e e' S hS => B2 e e' S (fun b w hb hw => hS b w hb (hq b w hw)),
    fun e e' S hS => B3 e e' S (fun b w hb hw => hS b w hb (hq b w hw)), fun e e' a ha ea S hS => B4 e e' a ha ea S (fun b w hb hw => hS b w hb (hq b w hw)),
    fun e e' S hS => B5 e e' S (fun b w hb hw => hS b w hb (hq b w hw))⟩
/-- a round that goes on -/
theorem sa_go1 {i : Nat} {P : sa_P} {h h' : sa_H} {u u' : SX} (h1 : sa_st h = 1) (h2 : sa_wj h = -1) (h3 : sa_st h' = 1) (h4 : sa_wj h' = -1) (hm : sa_mu h' < sa_mu h)
    (O : ∀ Q : Int32 → SX → Prop, Q 1 u' → wpX_goOnce Q u (nI i)) : ∀ post, sa_GX post i P h' u' → sa_GX post i P h u := by
  intro post G
  refine ⟨fun e => absurd h1 e, fun _ _ n r hn hr => ?_, fun _ e => absurd h2 e⟩
  obtain ⟨n, rfl⟩ : ∃ m, n = m + 1 := ⟨n - 1, by omega⟩
  exact sa_XL1 (by omega) (fun Q hQ => O Q (hQ 1 u' (G.2.1 h3 h4 n (r + 1) (by omega) (by omega))))
/-- a round that ends -/
theorem sa_go0 {i : Nat} {P : sa_P} {h h' : sa_H} {u u' : SX} (h1 : sa_st h = 1) (h2 : sa_wj h = -1) (h3 : sa_st h' ≠ 1)
    (O : ∀ Q : Int32 → SX → Prop, Q 0 u' → wpX_goOnce Q u (nI i)) : ∀ post, sa_GX post i P h' u' → sa_GX post i P h u := by
  intro post G
  refine ⟨fun e => absurd h1 e, fun _ _ n r hn hr => ?_, fun _ e => absurd h2 e⟩
  have := sa_mu1 h
  obtain ⟨n, rfl⟩ : ∃ m, n = m + 2 := ⟨n - 2, by omega⟩
  exact sa_XL1 (by omega) (fun Q hQ => O Q (hQ 0 u' (sa_XL0 (G.1 h3))))
/-- a round that comes to a wait -/
theorem sa_gow {i : Nat} {P : sa_P} {h h' : sa_H} {u u' : SX} (h1 : sa_st h = 1) (h2 : sa_wj h = -1) (h3 : sa_st h' = 1) (h4 : sa_wj h' ≠ -1) (hm : sa_mu h' < sa_mu h)
    (O : ∀ Q : Int32 → SX → Prop, sa_BX Q i P h' u' → wpX_goOnce Q u (nI i)) : ∀ post, sa_GX post i P h' u' → sa_GX post i P h u := by
  intro post G
  refine ⟨fun e => absurd h1 e, fun _ _ n r hn hr => ?_, fun _ e => absurd h2 e⟩
  obtain ⟨n, rfl⟩ : ∃ m, n = m + 1 := ⟨n - 1, by omega⟩
  exact sa_XL1 (by omega) (fun Q hQ => O Q (sa_BXm hQ (G.2.2 h3 h4 n r (by omega) (by omega))))
/-- a wait that is over -/
theorem sa_gob1 {i : Nat} {P : sa_P} {h h' : sa_H} {u u' : SX} (h1 : sa_st h = 1) (h2 : sa_wj h ≠ -1) (h3 : sa_st h' = 1) (h4 : sa_wj h' = -1) (hm : sa_mu h' < sa_mu h)
    (O : ∀ Q : Int32 → SX → Prop, Q 1 u' → sa_BX Q i P h u) : ∀ post, sa_GX post i P h' u' → sa_GX post i P h u := by
  intro post G
  refine ⟨fun e => absurd h1 e, fun _ e => absurd e h2, fun _ _ n r hn hr => ?_⟩
  exact O _ (G.2.1 h3 h4 n (r + 1) (by omega) (by omega))
theorem sa_gob0 {i : Nat} {P : sa_P} {h : sa_H} {u u' : SX} (h1 : sa_st h = 1) (h2 : sa_wj h ≠ -1)
    (O : ∀ Q : Int32 → SX → Prop, Q 0 u' → sa_BX Q i P h u) : ∀ post : SX → Prop, post u' → sa_GX post i P h u := by
  intro post G
  refine ⟨fun e => absurd h1 e, fun _ e => absurd e h2, fun _ _ n r hn hr => ?_⟩
  have := sa_mu1 h
  obtain ⟨n, rfl⟩ : ∃ m, n = m + 1 := ⟨n - 1, by omega⟩
  exact O _ (sa_XL0 G)
end
section
/-! the component's rounds, one lemma a kind -/
section
variable {xhe : Int32} {xss xsv xak xaj xgc xgk xgn xhs xhg xhn xou xah xst xpl xft xev xdn xus xis xvr xhd xtk xpd xpa xpi xun xwj : Nat → Int32} {kd p1 p2 p3 ac ja ji jn js jt tj tt : Nat → Int32} {i ns t jc tc pl dn pn a b c : Nat} {Q : Int32 → SX → Prop}
theorem sa_x_done (hi : i < 3) (hns : ns ≤ 20) (hun : xun i = -1) (hpl : xpl i = nI pl) (hp : ns ≤ pl) (hq : pl ≤ 20)
    (K : Q 0 (nI ns, nI t, nI jc, nI tc, xhe, kd, p1, p2, p3, ac, ja, ji, jn, js, jt, tj, tt, xss, xsv, xak, xaj, xgc, xgk, xgn, xhs, xhg, xhn, xou, xah, upd xst i 2, xpl, xft, upd xev i 0, xdn, xus, xis, xvr, xhd, xtk, xpd, xpa, xpi, xun, xwj)) : wpX_goOnce Q (nI ns, nI t, nI jc, nI tc, xhe, kd, p1, p2, p3, ac, ja, ji, jn, js, jt, tj, tt, xss, xsv, xak, xaj, xgc, xgk, xgn, xhs, xhg, xhn, xou, xah, xst, xpl, xft, xev, xdn, xus, xis, xvr, xhd, xtk, xpd, xpa, xpi, xun, xwj) (nI i) := by
  have hp' : ¬ nI pl < nI ns := by rw [nI_ltI (by omega) (by omega)]; omega
  simp (disch := omega) only [wpX_goOnce, wpX_end, sa_in, nI_clamp, nI_ltI, nI_1, nI_add, sa_m3, sa_m4, sa_m200, forall_eq, pk_us, true_and, and_true, true_implies, not_true_eq_false, not_false_eq_true, false_implies, eq_self, sa_n0, sa_n1, sa_m1, hun, hpl, hp']
  exact K
theorem sa_x_brk1 (hi : i < 3) (hns : ns ≤ 20) (hun : xun i = -1) (hpl : xpl i = nI pl) (hp : pl < ns) (hdn : xdn i = 200) (k3 : ¬ kd pl = 3) (k5 : ¬ kd pl = 5) (k7 : ¬ kd pl = 7) (k10 : ¬ kd pl = 10)
    (K : Q 0 (nI ns, nI t, nI jc, nI tc, xhe, kd, p1, p2, p3, ac, ja, ji, jn, js, jt, tj, tt, xss, xsv, xak, xaj, xgc, xgk, xgn, xhs, xhg, xhn, xou, xah, upd xst i 5, xpl, xft, upd xev i 0, xdn, xus, xis, xvr, xhd, xtk, xpd, xpa, xpi, xun, xwj)) : wpX_goOnce Q (nI ns, nI t, nI jc, nI tc, xhe, kd, p1, p2, p3, ac, ja, ji, jn, js, jt, tj, tt, xss, xsv, xak, xaj, xgc, xgk, xgn, xhs, xhg, xhn, xou, xah, xst, xpl, xft, xev, xdn, xus, xis, xvr, xhd, xtk, xpd, xpa, xpi, xun, xwj) (nI i) := by
  simp (disch := omega) only [wpX_goOnce, wX_goOnce_74, wpX_plainStep, wpX_countStep, wpX_end, sa_in, nI_clamp, nI_ltI, nI_1, nI_add, sa_m3, sa_m4, sa_m200, forall_eq, pk_us, true_and, and_true, true_implies, not_true_eq_false, not_false_eq_true, false_implies, eq_self, sa_n0, sa_n1, sa_m1, hun, hpl, hp, hdn, k3, k5, k7, k10]
  exact K
theorem sa_x_brk2 (hi : i < 3) (hns : ns ≤ 20) (hun : xun i = -1) (hpl : xpl i = nI pl) (hp : pl < ns) (hdn : xdn i = 200) (hwj : xwj i = -1) (hk : kd pl = 3 ∨ kd pl = 5 ∨ kd pl = 7 ∨ kd pl = 10)
    (K : Q 0 (nI ns, nI t, nI jc, nI tc, xhe, kd, p1, p2, p3, ac, ja, ji, jn, js, jt, tj, tt, xss, xsv, xak, xaj, xgc, xgk, xgn, xhs, xhg, xhn, xou, xah, upd xst i 5, xpl, xft, upd xev i 0, xdn, xus, xis, xvr, xhd, xtk, xpd, xpa, xpi, xun, xwj)) : wpX_goOnce Q (nI ns, nI t, nI jc, nI tc, xhe, kd, p1, p2, p3, ac, ja, ji, jn, js, jt, tj, tt, xss, xsv, xak, xaj, xgc, xgk, xgn, xhs, xhg, xhn, xou, xah, xst, xpl, xft, xev, xdn, xus, xis, xvr, xhd, xtk, xpd, xpa, xpi, xun, xwj) (nI i) := by
  rcases hk with hk | hk | hk | hk
  · simp (disch := omega) only [wpX_goOnce, wX_goOnce_69, wX_goOnce_74, wpX_waitingStep, wpX_countStep, wpX_end, sa_in, nI_clamp, nI_ltI, nI_1, nI_add, sa_m3, sa_m4, sa_m200, forall_eq, pk_us, true_and, and_true, true_implies, not_true_eq_false, not_false_eq_true, false_implies, eq_self, sa_n0, sa_n1, sa_m1, hun, hpl, hp, hdn, hwj, hk, sa_k1]
    exact K
  · simp (disch := omega) only [wpX_goOnce, wX_goOnce_69, wX_goOnce_74, wpX_waitingStep, wpX_countStep, wpX_end, sa_in, nI_clamp, nI_ltI, nI_1, nI_add, sa_m3, sa_m4, sa_m200, forall_eq, pk_us, true_and, and_true, true_implies, not_true_eq_false, not_false_eq_true, false_implies, eq_self, sa_n0, sa_n1, sa_m1, hun, hpl, hp, hdn, hwj, hk, sa_k5, sa_k1]
    exact K
  · simp (disch := omega) only [wpX_goOnce, wX_goOnce_69, wX_goOnce_74, wpX_waitingStep, wpX_countStep, wpX_end, sa_in, nI_clamp, nI_ltI, nI_1, nI_add, sa_m3, sa_m4, sa_m200, forall_eq, pk_us, true_and, and_true, true_implies, not_true_eq_false, not_false_eq_true, false_implies, eq_self, sa_n0, sa_n1, sa_m1, hun, hpl, hp, hdn, hwj, hk, sa_k7, sa_k1]
    exact K
  · simp (disch := omega) only [wpX_goOnce, wX_goOnce_69, wX_goOnce_74, wpX_waitingStep, wpX_countStep, wpX_end, sa_in, nI_clamp, nI_ltI, nI_1, nI_add, sa_m3, sa_m4, sa_m200, forall_eq, pk_us, true_and, and_true, true_implies, not_true_eq_false, not_false_eq_true, false_implies, eq_self, sa_n0, sa_n1, sa_m1, hun, hpl, hp, hdn, hwj, hk, sa_k10, sa_k1]
    exact K
theorem sa_x_set (hi : i < 3) (hns : ns ≤ 20) (hun : xun i = -1) (hpl : xpl i = nI pl) (hp : pl < ns) (hk : kd pl = 0) (hdn : xdn i = nI dn) (hd : dn < 200) (hst : xst i = 1) (ha : a < 4) (e1 : p1 pl = nI a)
    (K : Q 1 (nI ns, nI t, nI jc, nI tc, xhe, kd, p1, p2, p3, ac, ja, ji, jn, js, jt, tj, tt, xss, xsv, xak, xaj, xgc, xgk, xgn, xhs, xhg, xhn, xou, xah, xst, upd xpl i (nI (pl + 1)), xft, xev, upd xdn i (nI (dn + 1)), xus, xis, upd xvr (4 * i + a) (p2 pl), xhd, xtk, xpd, xpa, xpi, xun, xwj)) : wpX_goOnce Q (nI ns, nI t, nI jc, nI tc, xhe, kd, p1, p2, p3, ac, ja, ji, jn, js, jt, tj, tt, xss, xsv, xak, xaj, xgc, xgk, xgn, xhs, xhg, xhn, xou, xah, xst, xpl, xft, xev, xdn, xus, xis, xvr, xhd, xtk, xpd, xpa, xpi, xun, xwj) (nI i) := by
  have hd' : ¬ nI dn = 200 := by rw [sa_e200 (by omega)]; omega
  simp (disch := omega) only [wpX_goOnce, wX_goOnce_74, wpX_plainStep, wpX_countStep, wX_plainStep_38, wX_plainStep_61, wX_plainStep_229, wX_plainStep_217, wpX_set, sa_in, nI_clamp, nI_ltI, nI_1, nI_add, sa_m3, sa_m4, sa_m200, forall_eq, pk_us, true_and, and_true, true_implies, not_true_eq_false, not_false_eq_true, false_implies, eq_self, sa_n0, sa_n1, sa_m1, hun, hpl, hp, hk, hdn, hd', hst, e1, sa_k0, sa_k1]
  exact K
theorem sa_x_add (hi : i < 3) (hns : ns ≤ 20) (hun : xun i = -1) (hpl : xpl i = nI pl) (hp : pl < ns) (hk : kd pl = 1) (hdn : xdn i = nI dn) (hd : dn < 200) (hst : xst i = 1) (ha : a < 4) (hb : b < 4) (e1 : p1 pl = nI a) (e2 : p2 pl = nI b)
    (K : Q 1 (nI ns, nI t, nI jc, nI tc, xhe, kd, p1, p2, p3, ac, ja, ji, jn, js, jt, tj, tt, xss, xsv, xak, xaj, xgc, xgk, xgn, xhs, xhg, xhn, xou, xah, xst, upd xpl i (nI (pl + 1)), xft, xev, upd xdn i (nI (dn + 1)), xus, xis, upd xvr (4 * i + a) (xvr (4 * i + a) + xvr (4 * i + b)), xhd, xtk, xpd, xpa, xpi, xun, xwj)) : wpX_goOnce Q (nI ns, nI t, nI jc, nI tc, xhe, kd, p1, p2, p3, ac, ja, ji, jn, js, jt, tj, tt, xss, xsv, xak, xaj, xgc, xgk, xgn, xhs, xhg, xhn, xou, xah, xst, xpl, xft, xev, xdn, xus, xis, xvr, xhd, xtk, xpd, xpa, xpi, xun, xwj) (nI i) := by
  have hd' : ¬ nI dn = 200 := by rw [sa_e200 (by omega)]; omega
  simp (disch := omega) only [wpX_goOnce, wX_goOnce_74, wpX_plainStep, wpX_countStep, wX_plainStep_38, wX_plainStep_61, wX_plainStep_229, wX_plainStep_217, wpX_set, wpX_get, sa_in, nI_clamp, nI_ltI, nI_1, nI_add, sa_m3, sa_m4, sa_m200, forall_eq, pk_us, true_and, and_true, true_implies, not_true_eq_false, not_false_eq_true, false_implies, eq_self, sa_n0, sa_n1, sa_m1, hun, hpl, hp, hk, hdn, hd', hst, e1, e2, sa_and3, sa_k1]
  exact K
theorem sa_x_sub (hi : i < 3) (hns : ns ≤ 20) (hun : xun i = -1) (hpl : xpl i = nI pl) (hp : pl < ns) (hk : kd pl = 2) (hdn : xdn i = nI dn) (hd : dn < 200) (hst : xst i = 1) (ha : a < 4) (hb : b < 4) (e1 : p1 pl = nI a) (e2 : p2 pl = nI b)
    (K : Q 1 (nI ns, nI t, nI jc, nI tc, xhe, kd, p1, p2, p3, ac, ja, ji, jn, js, jt, tj, tt, xss, xsv, xak, xaj, xgc, xgk, xgn, xhs, xhg, xhn, xou, xah, xst, upd xpl i (nI (pl + 1)), xft, xev, upd xdn i (nI (dn + 1)), xus, xis, upd xvr (4 * i + a) (xvr (4 * i + a) - xvr (4 * i + b)), xhd, xtk, xpd, xpa, xpi, xun, xwj)) : wpX_goOnce Q (nI ns, nI t, nI jc, nI tc, xhe, kd, p1, p2, p3, ac, ja, ji, jn, js, jt, tj, tt, xss, xsv, xak, xaj, xgc, xgk, xgn, xhs, xhg, xhn, xou, xah, xst, xpl, xft, xev, xdn, xus, xis, xvr, xhd, xtk, xpd, xpa, xpi, xun, xwj) (nI i) := by
  have hd' : ¬ nI dn = 200 := by rw [sa_e200 (by omega)]; omega
  simp (disch := omega) only [wpX_goOnce, wX_goOnce_74, wpX_plainStep, wpX_countStep, wX_plainStep_38, wX_plainStep_61, wX_plainStep_229, wX_plainStep_217, wpX_set, wpX_get, sa_in, nI_clamp, nI_ltI, nI_1, nI_add, sa_m3, sa_m4, sa_m200, forall_eq, pk_us, true_and, and_true, true_implies, not_true_eq_false, not_false_eq_true, false_implies, eq_self, sa_n0, sa_n1, sa_m1, hun, hpl, hp, hk, hdn, hd', hst, e1, e2, sa_and3, sa_k2, sa_k1]
  exact K
theorem sa_x_undo (hi : i < 3) (hns : ns ≤ 20) (hun : xun i = -1) (hpl : xpl i = nI pl) (hp : pl < ns) (hk : kd pl = 6) (hdn : xdn i = nI dn) (hd : dn < 200) (hst : xst i = 1) (ha : a < 4) (hb : b < 4) (e1 : p1 pl = nI a) (e2 : p2 pl = nI b) (hpn : xpd i = nI pn) (hpn2 : pn < 200)
    (K : Q 1 (nI ns, nI t, nI jc, nI tc, xhe, kd, p1, p2, p3, ac, ja, ji, jn, js, jt, tj, tt, xss, xsv, xak, xaj, xgc, xgk, xgn, xhs, xhg, xhn, xou, xah, xst, upd xpl i (nI (pl + 1)), xft, xev, upd xdn i (nI (dn + 1)), xus, xis, xvr, xhd, xtk, upd xpd i (nI (pn + 1)), upd xpa (200 * i + pn) (nI a), upd xpi (200 * i + pn) (xvr (4 * i + b)), xun, xwj)) : wpX_goOnce Q (nI ns, nI t, nI jc, nI tc, xhe, kd, p1, p2, p3, ac, ja, ji, jn, js, jt, tj, tt, xss, xsv, xak, xaj, xgc, xgk, xgn, xhs, xhg, xhn, xou, xah, xst, xpl, xft, xev, xdn, xus, xis, xvr, xhd, xtk, xpd, xpa, xpi, xun, xwj) (nI i) := by
  have hd' : ¬ nI dn = 200 := by rw [sa_e200 (by omega)]; omega
  simp (disch := omega) only [wpX_goOnce, wX_goOnce_74, wpX_plainStep, wpX_countStep, wX_plainStep_38, wX_plainStep_61, wX_plainStep_229, wpX_undoStep, wpX_get, sa_in, nI_clamp, nI_ltI, nI_1, nI_add, sa_m3, sa_m4, sa_m200, forall_eq, pk_us, true_and, and_true, true_implies, not_true_eq_false, not_false_eq_true, false_implies, eq_self, sa_n0, sa_n1, sa_m1, hun, hpl, hp, hk, hdn, hd', hst, e1, e2, hpn, sa_and3, sa_k6, sa_k1]
  exact K
theorem sa_x_jump (hi : i < 3) (hns : ns ≤ 20) (hun : xun i = -1) (hpl : xpl i = nI pl) (hp : pl < ns) (hk : kd pl = 8) (hdn : xdn i = nI dn) (hd : dn < 200) (hst : xst i = 1) (ha : a < 20) (e1 : p1 pl = nI a)
    (K : Q 1 (nI ns, nI t, nI jc, nI tc, xhe, kd, p1, p2, p3, ac, ja, ji, jn, js, jt, tj, tt, xss, xsv, xak, xaj, xgc, xgk, xgn, xhs, xhg, xhn, xou, xah, xst, upd xpl i (nI a), xft, xev, upd xdn i (nI (dn + 1)), xus, xis, xvr, xhd, xtk, xpd, xpa, xpi, xun, xwj)) : wpX_goOnce Q (nI ns, nI t, nI jc, nI tc, xhe, kd, p1, p2, p3, ac, ja, ji, jn, js, jt, tj, tt, xss, xsv, xak, xaj, xgc, xgk, xgn, xhs, xhg, xhn, xou, xah, xst, xpl, xft, xev, xdn, xus, xis, xvr, xhd, xtk, xpd, xpa, xpi, xun, xwj) (nI i) := by
  have hd' : ¬ nI dn = 200 := by rw [sa_e200 (by omega)]; omega
  obtain ⟨j1, hj1, f1⟩ := sa_andE (nI a)
  obtain ⟨j2, hj2, f2⟩ := sa_andE (p2 pl)
  simp (disch := omega) only [wpX_goOnce, wX_goOnce_74, wpX_plainStep, wpX_countStep, wX_plainStep_38, wX_plainStep_61, wX_plainStep_229, wpX_get, sa_in, nI_clamp, nI_ltI, nI_1, nI_add, sa_m3, sa_m4, sa_m200, forall_eq, pk_us, true_and, and_true, true_implies, not_true_eq_false, not_false_eq_true, false_implies, eq_self, sa_n0, sa_n1, sa_m1, hun, hpl, hp, hk, hdn, hd', hst, e1, f1, f2, sa_k8, sa_k1]
  exact K
theorem sa_x_less1 (hi : i < 3) (hns : ns ≤ 20) (hun : xun i = -1) (hpl : xpl i = nI pl) (hp : pl < ns) (hk : kd pl = 9) (hdn : xdn i = nI dn) (hd : dn < 200) (hst : xst i = 1) (ha : a < 4) (hb : b < 4) (e1 : p1 pl = nI a) (e2 : p2 pl = nI b) (e : xvr (4 * i + b) ≤ xvr (4 * i + a))
    (K : Q 1 (nI ns, nI t, nI jc, nI tc, xhe, kd, p1, p2, p3, ac, ja, ji, jn, js, jt, tj, tt, xss, xsv, xak, xaj, xgc, xgk, xgn, xhs, xhg, xhn, xou, xah, xst, upd xpl i (nI (pl + 1)), xft, xev, upd xdn i (nI (dn + 1)), xus, xis, xvr, xhd, xtk, xpd, xpa, xpi, xun, xwj)) : wpX_goOnce Q (nI ns, nI t, nI jc, nI tc, xhe, kd, p1, p2, p3, ac, ja, ji, jn, js, jt, tj, tt, xss, xsv, xak, xaj, xgc, xgk, xgn, xhs, xhg, xhn, xou, xah, xst, xpl, xft, xev, xdn, xus, xis, xvr, xhd, xtk, xpd, xpa, xpi, xun, xwj) (nI i) := by
  have hd' : ¬ nI dn = 200 := by rw [sa_e200 (by omega)]; omega
  simp (disch := omega) only [wpX_goOnce, wX_goOnce_74, wpX_plainStep, wpX_countStep, wX_plainStep_38, wX_plainStep_61, wX_plainStep_229, wX_plainStep_174, wpX_get, sa_in, nI_clamp, nI_ltI, nI_1, nI_add, sa_m3, sa_m4, sa_m200, forall_eq, pk_us, true_and, and_true, true_implies, not_true_eq_false, not_false_eq_true, false_implies, eq_self, sa_n0, sa_n1, sa_m1, hun, hpl, hp, hk, hdn, hd', hst, e1, e2, e, sa_and3, sa_k9, sa_k1]
  exact K
theorem sa_x_less2 (hi : i < 3) (hns : ns ≤ 20) (hun : xun i = -1) (hpl : xpl i = nI pl) (hp : pl < ns) (hk : kd pl = 9) (hdn : xdn i = nI dn) (hd : dn < 200) (hst : xst i = 1) (ha : a < 4) (hb : b < 4) (e1 : p1 pl = nI a) (e2 : p2 pl = nI b) (e3 : p3 pl = nI c) (e : ¬ xvr (4 * i + b) ≤ xvr (4 * i + a))
    (K : Q 1 (nI ns, nI t, nI jc, nI tc, xhe, kd, p1, p2, p3, ac, ja, ji, jn, js, jt, tj, tt, xss, xsv, xak, xaj, xgc, xgk, xgn, xhs, xhg, xhn, xou, xah, xst, upd xpl i (nI c), xft, xev, upd xdn i (nI (dn + 1)), xus, xis, xvr, xhd, xtk, xpd, xpa, xpi, xun, xwj)) : wpX_goOnce Q (nI ns, nI t, nI jc, nI tc, xhe, kd, p1, p2, p3, ac, ja, ji, jn, js, jt, tj, tt, xss, xsv, xak, xaj, xgc, xgk, xgn, xhs, xhg, xhn, xou, xah, xst, xpl, xft, xev, xdn, xus, xis, xvr, xhd, xtk, xpd, xpa, xpi, xun, xwj) (nI i) := by
  have hd' : ¬ nI dn = 200 := by rw [sa_e200 (by omega)]; omega
  simp (disch := omega) only [wpX_goOnce, wX_goOnce_74, wpX_plainStep, wpX_countStep, wX_plainStep_38, wX_plainStep_61, wX_plainStep_229, wX_plainStep_174, wpX_get, sa_in, nI_clamp, nI_ltI, nI_1, nI_add, sa_m3, sa_m4, sa_m200, forall_eq, pk_us, true_and, and_true, true_implies, not_true_eq_false, not_false_eq_true, false_implies, eq_self, sa_n0, sa_n1, sa_m1, hun, hpl, hp, hk, hdn, hd', hst, e1, e2, e3, e, sa_and3, sa_k9, sa_k1]
  exact K
theorem sa_x_ends (hi : i < 3) (hns : ns ≤ 20) (hun : xun i = -1) (hpl : xpl i = nI pl) (hp : pl < ns) (hk : kd pl = 11) (hdn : xdn i = nI dn) (hd : dn < 200) (hst : xst i = 1) (ha : a < 4) (e1 : p1 pl = nI a)
    (K : Q 0 (nI ns, nI t, nI jc, nI tc, xhe, kd, p1, p2, p3, ac, ja, ji, jn, js, jt, tj, tt, xss, xsv, xak, xaj, xgc, xgk, xgn, xhs, xhg, xhn, xou, xah, upd xst i 2, xpl, xft, upd xev i (xvr (4 * i + a)), upd xdn i (nI (dn + 1)), xus, xis, xvr, xhd, xtk, xpd, xpa, xpi, xun, xwj)) : wpX_goOnce Q (nI ns, nI t, nI jc, nI tc, xhe, kd, p1, p2, p3, ac, ja, ji, jn, js, jt, tj, tt, xss, xsv, xak, xaj, xgc, xgk, xgn, xhs, xhg, xhn, xou, xah, xst, xpl, xft, xev, xdn, xus, xis, xvr, xhd, xtk, xpd, xpa, xpi, xun, xwj) (nI i) := by
  have hd' : ¬ nI dn = 200 := by rw [sa_e200 (by omega)]; omega
  obtain ⟨j2, hj2, f2⟩ := sa_andE (p2 pl)
  simp (disch := omega) only [wpX_goOnce, wX_goOnce_74, wpX_plainStep, wpX_countStep, wX_plainStep_38, wX_plainStep_61, wX_plainStep_229, wpX_end, wpX_get, sa_in, nI_clamp, nI_ltI, nI_1, nI_add, sa_m3, sa_m4, sa_m200, forall_eq, pk_us, true_and, and_true, true_implies, not_true_eq_false, not_false_eq_true, false_implies, eq_self, sa_n0, sa_n1, sa_m1, hun, hpl, hp, hk, hdn, hd', hst, e1, f2, sa_and3, sa_k11, sa_k2, sa_k1]
  exact K
theorem sa_x_fail (hi : i < 3) (hns : ns ≤ 20) (hun : xun i = -1) (hpl : xpl i = nI pl) (hp : pl < ns) (hk : kd pl = 12) (hdn : xdn i = nI dn) (hd : dn < 200) (hst : xst i = 1) (hpn : xpd i = nI pn)
    (K : Q 1 (nI ns, nI t, nI jc, nI tc, xhe, kd, p1, p2, p3, ac, ja, ji, jn, js, jt, tj, tt, xss, xsv, xak, xaj, xgc, xgk, xgn, xhs, xhg, xhn, xou, xah, xst, xpl, upd xft i (nI pl), xev, upd xdn i (nI (dn + 1)), xus, xis, xvr, xhd, xtk, xpd, xpa, xpi, upd xun i (nI pn), upd xwj i (-1))) : wpX_goOnce Q (nI ns, nI t, nI jc, nI tc, xhe, kd, p1, p2, p3, ac, ja, ji, jn, js, jt, tj, tt, xss, xsv, xak, xaj, xgc, xgk, xgn, xhs, xhg, xhn, xou, xah, xst, xpl, xft, xev, xdn, xus, xis, xvr, xhd, xtk, xpd, xpa, xpi, xun, xwj) (nI i) := by
  have hd' : ¬ nI dn = 200 := by rw [sa_e200 (by omega)]; omega
  obtain ⟨j1, hj1, f1⟩ := sa_andE (p1 pl)
  obtain ⟨j2, hj2, f2⟩ := sa_andE (p2 pl)
  simp (disch := omega) only [wpX_goOnce, wX_goOnce_74, wpX_plainStep, wpX_countStep, wX_plainStep_38, wX_plainStep_61, wX_plainStep_229, wpX_fail, wpX_get, sa_in, nI_clamp, nI_ltI, nI_1, nI_add, sa_m3, sa_m4, sa_m200, forall_eq, pk_us, true_and, and_true, true_implies, not_true_eq_false, not_false_eq_true, false_implies, eq_self, sa_n0, sa_n1, sa_m1, hun, hpl, hp, hk, hdn, hd', hst, f1, f2, hpn, sa_k12, sa_k1]
  exact K
end
end
section
/-! asking for a job: one that was asked for before, or a new one -/
section
variable {xns xnow xjc xtc xhe : Int32} {xkd xp1 xp2 xp3 xac xja xji xjn xjs xjt xtj xtt xss xsv xak xaj xgc xgk xgn xhs xhg xhn xou xah xst xpl xft xev xdn xus xis xvr xhd xtk xpd xpa xpi xun xwj : Nat → Int32} {i n m jc : Nat} {q x : Int32} {post : Int32 → SX → Prop}
theorem sa_ask_r (hi : i < 3) (his : xis i = nI n) (hak : xak i = nI m) (h1 : n < m) (h30 : m ≤ 30)
    (K : post (xaj (30 * i + n)) (xns, xnow, xjc, xtc, xhe, xkd, xp1, xp2, xp3, xac, xja, xji, xjn, xjs, xjt, xtj, xtt, xss, xsv, xak, xaj, xgc, xgk, xgn, xhs, xhg, xhn, xou, xah, xst, xpl, xft, xev, xdn, xus, upd xis i (nI (n + 1)), xvr, xhd, xtk, xpd, xpa, xpi, xun, xwj)) : wpX_ask post (xns, xnow, xjc, xtc, xhe, xkd, xp1, xp2, xp3, xac, xja, xji, xjn, xjs, xjt, xtj, xtt, xss, xsv, xak, xaj, xgc, xgk, xgn, xhs, xhg, xhn, xou, xah, xst, xpl, xft, xev, xdn, xus, xis, xvr, xhd, xtk, xpd, xpa, xpi, xun, xwj) (nI i) q x := by
  have e : ¬ nI m ≤ nI n := by rw [nI_leI (by omega) (by omega)]; omega
  simp (disch := omega) only [wpX_ask, sa_in, nI_clamp, his, hak, e, sa_m30, nI_add, nI_1, forall_eq, true_and, and_true, true_implies, not_true_eq_false, not_false_eq_true, false_implies]
  exact K
theorem sa_ask_l (hi : i < 3) (his : xis i = nI n) (hak : xak i = nI n) (h1 : n < 30) (hj : jc < 90)
    (K : post (nI jc) (xns, xnow, nI (jc + 1), xtc, xhe, xkd, xp1, xp2, xp3, xac, upd xja jc q, upd xji jc x, upd xjn jc 0, upd xjs jc 0, upd xjt jc xnow, xtj, xtt, xss, xsv, upd xak i (nI (n + 1)), upd xaj (30 * i + n) (nI jc), xgc, xgk, xgn, xhs, xhg, xhn, xou, xah, xst, xpl, xft, xev, xdn, xus, upd xis i (nI (n + 1)), xvr, xhd, xtk, xpd, xpa, xpi, xun, xwj)) : wpX_ask post (xns, xnow, nI jc, xtc, xhe, xkd, xp1, xp2, xp3, xac, xja, xji, xjn, xjs, xjt, xtj, xtt, xss, xsv, xak, xaj, xgc, xgk, xgn, xhs, xhg, xhn, xou, xah, xst, xpl, xft, xev, xdn, xus, xis, xvr, xhd, xtk, xpd, xpa, xpi, xun, xwj) (nI i) q x := by
  have e : nI n ≤ nI n := by rw [nI_leI (by omega) (by omega)]; omega
  simp (disch := omega) only [wpX_ask, sa_in, nI_clamp, his, hak, e, sa_m30, nI_add, nI_1, forall_eq, true_and, and_true, true_implies, not_true_eq_false, not_false_eq_true, false_implies]
  exact K
end
section
variable {xhe : Int32} {xss xsv xak xaj xgc xgk xgn xhs xhg xhn xou xah xst xpl xft xev xdn xus xis xvr xhd xtk xpd xpa xpi xun xwj : Nat → Int32} {kd p1 p2 p3 ac ja ji jn js jt tj tt : Nat → Int32} {i ns t jc tc pl dn pn n a b c : Nat} {Q : Int32 → SX → Prop} {j xjc' : Int32} {xis' xja' xji' xjn' xjs' xjt' xak' xaj' : Nat → Int32}
theorem sa_x_dox (hi : i < 3) (hns : ns ≤ 20) (hun : xun i = -1) (hpl : xpl i = nI pl) (hp : pl < ns) (hk : kd pl = 3) (hdn : xdn i = nI dn) (hd : dn < 200) (hst : xst i = 1) (hwj : xwj i = -1) (his : xis i = 30)
    (K : Q 0 (nI ns, nI t, nI jc, nI tc, xhe, kd, p1, p2, p3, ac, ja, ji, jn, js, jt, tj, tt, xss, xsv, xak, xaj, xgc, xgk, xgn, xhs, xhg, xhn, xou, xah, upd xst i 5, xpl, xft, upd xev i 0, upd xdn i (nI (dn + 1)), xus, xis, xvr, xhd, xtk, xpd, xpa, xpi, xun, xwj)) : wpX_goOnce Q (nI ns, nI t, nI jc, nI tc, xhe, kd, p1, p2, p3, ac, ja, ji, jn, js, jt, tj, tt, xss, xsv, xak, xaj, xgc, xgk, xgn, xhs, xhg, xhn, xou, xah, xst, xpl, xft, xev, xdn, xus, xis, xvr, xhd, xtk, xpd, xpa, xpi, xun, xwj) (nI i) := by
  have hd' : ¬ nI dn = 200 := by rw [sa_e200 (by omega)]; omega
  simp (disch := omega) only [wpX_goOnce, wX_goOnce_69, wX_goOnce_74, wpX_waitingStep, wpX_countStep, wX_waitingStep_27, wX_waitingStep_37, wpX_waitForJob, wX_waitForJob_15, wpX_mayAsk, wpX_end, sa_in, nI_clamp, nI_ltI, nI_1, nI_add, sa_m3, sa_m4, sa_m200, forall_eq, pk_us, true_and, and_true, true_implies, not_true_eq_false, not_false_eq_true, false_implies, eq_self, sa_n0, sa_n1, sa_m1, hun, hpl, hp, hk, hdn, hd', hst, hwj, his, sa_k3, sa_k1]
  exact K
theorem sa_x_do (hi : i < 3) (hns : ns ≤ 20) (hun : xun i = -1) (hpl : xpl i = nI pl) (hp : pl < ns) (hk : kd pl = 3) (hdn : xdn i = nI dn) (hd : dn < 200) (hst : xst i = 1) (hwj : xwj i = -1) (his : xis i = nI n) (h30 : n < 30) (hb : b < 4) (e2 : p2 pl = nI b)
    (A : ∀ post : Int32 → SX → Prop, post j (nI ns, nI t, xjc', nI tc, xhe, kd, p1, p2, p3, ac, xja', xji', xjn', xjs', xjt', tj, tt, xss, xsv, xak', xaj', xgc, xgk, xgn, xhs, xhg, xhn, xou, xah, xst, xpl, xft, xev, upd xdn i (nI (dn + 1)), xus, xis', xvr, xhd, xtk, xpd, xpa, xpi, xun, xwj) → wpX_ask post (nI ns, nI t, nI jc, nI tc, xhe, kd, p1, p2, p3, ac, ja, ji, jn, js, jt, tj, tt, xss, xsv, xak, xaj, xgc, xgk, xgn, xhs, xhg, xhn, xou, xah, xst, xpl, xft, xev, upd xdn i (nI (dn + 1)), xus, xis, xvr, xhd, xtk, xpd, xpa, xpi, xun, xwj) (nI i) (p1 pl) (xvr (4 * i + b)))
    (K : ∀ R : Int32 → SX → Prop, (∀ y w, (y = 0 ∨ y = 1) → Q y w → R y w) → wX_waitForJob_121 R (nI i) (nI pl) 1 (nI ns) (nI t) xjc' (nI tc) xhe kd p1 p2 p3 ac xja' xji' xjn' xjs' xjt' tj tt xss xsv xak' xaj' xgc xgk xgn xhs xhg xhn xou xah xst xpl xft xev (upd xdn i (nI (dn + 1))) xus xis' xvr xhd xtk xpd xpa xpi xun (upd xwj i j)) : wpX_goOnce Q (nI ns, nI t, nI jc, nI tc, xhe, kd, p1, p2, p3, ac, ja, ji, jn, js, jt, tj, tt, xss, xsv, xak, xaj, xgc, xgk, xgn, xhs, xhg, xhn, xou, xah, xst, xpl, xft, xev, xdn, xus, xis, xvr, xhd, xtk, xpd, xpa, xpi, xun, xwj) (nI i) := by
  have hd' : ¬ nI dn = 200 := by rw [sa_e200 (by omega)]; omega
  have hq' : ¬ nI n = 30 := by rw [sa_e30 (by omega)]; omega
  simp (disch := omega) only [wpX_goOnce, wX_goOnce_69, wX_goOnce_74, wpX_waitingStep, wpX_countStep, wX_waitingStep_27, wX_waitingStep_37, wpX_waitForJob, wX_waitForJob_15, wpX_mayAsk, wpX_get, sa_in, nI_clamp, nI_ltI, nI_1, nI_add, sa_m3, sa_m4, sa_m200, forall_eq, pk_us, true_and, and_true, true_implies, not_true_eq_false, not_false_eq_true, false_implies, eq_self, sa_n0, sa_n1, sa_m1, hun, hpl, hp, hk, hdn, hd', hst, hwj, his, hq', e2, sa_k3, sa_k1]
  refine A _ ?_
  simp (disch := omega) only [sa_in, nI_clamp, nI_ltI, nI_1, nI_add, sa_m3, sa_m4, sa_m200, forall_eq, pk_us, true_and, and_true, true_implies, not_true_eq_false, not_false_eq_true, false_implies, eq_self, sa_n0, sa_n1, sa_m1]
  refine K _ ?_
  intro y w hy hw
  obtain ⟨xns, xnow, xjc, xtc, xhe, xkd, xp1, xp2, xp3, xac, xja, xji, xjn, xjs, xjt, xtj, xtt, xss, xsv, xak, xaj, xgc, xgk, xgn, xhs, xhg, xhn, xou, xah, xst, xpl, xft, xev, xdn, xus, xis, xvr, xhd, xtk, xpd, xpa, xpi, xun, xwj⟩ := w
  exact ⟨sa_nar hy, sa_nar hy, hw⟩
theorem sa_x_startx1 (hi : i < 3) (hns : ns ≤ 20) (hun : xun i = -1) (hpl : xpl i = nI pl) (hp : pl < ns) (hk : kd pl = 4) (hdn : xdn i = nI dn) (hd : dn < 200) (hst : xst i = 1) (ha : a < 4) (hb : b < 4) (hc : c < 3) (e1 : p1 pl = nI a) (e2 : p2 pl = nI b) (e3 : p3 pl = nI c) (hh : ¬ xhd (3 * i + c) = -1)
    (K : Q 0 (nI ns, nI t, nI jc, nI tc, xhe, kd, p1, p2, p3, ac, ja, ji, jn, js, jt, tj, tt, xss, xsv, xak, xaj, xgc, xgk, xgn, xhs, xhg, xhn, xou, xah, upd xst i 5, xpl, xft, upd xev i 0, upd xdn i (nI (dn + 1)), xus, xis, xvr, xhd, xtk, xpd, xpa, xpi, xun, xwj)) : wpX_goOnce Q (nI ns, nI t, nI jc, nI tc, xhe, kd, p1, p2, p3, ac, ja, ji, jn, js, jt, tj, tt, xss, xsv, xak, xaj, xgc, xgk, xgn, xhs, xhg, xhn, xou, xah, xst, xpl, xft, xev, xdn, xus, xis, xvr, xhd, xtk, xpd, xpa, xpi, xun, xwj) (nI i) := by
  have hd' : ¬ nI dn = 200 := by rw [sa_e200 (by omega)]; omega
  simp (disch := omega) only [wpX_goOnce, wX_goOnce_74, wpX_plainStep, wpX_countStep, wX_plainStep_38, wX_plainStep_61, wX_plainStep_229, wpX_startStep, wpX_end, wpX_get, sa_in, nI_clamp, nI_ltI, nI_1, nI_add, sa_m3, sa_m4, sa_m200, forall_eq, pk_us, true_and, and_true, true_implies, not_true_eq_false, not_false_eq_true, false_implies, eq_self, sa_n0, sa_n1, sa_m1, hun, hpl, hp, hk, hdn, hd', hst, e1, e2, e3, hh, sa_and3, sa_k4, sa_k5, sa_k1]
  exact K
theorem sa_x_startx2 (hi : i < 3) (hns : ns ≤ 20) (hun : xun i = -1) (hpl : xpl i = nI pl) (hp : pl < ns) (hk : kd pl = 4) (hdn : xdn i = nI dn) (hd : dn < 200) (hst : xst i = 1) (ha : a < 4) (hb : b < 4) (hc : c < 3) (e1 : p1 pl = nI a) (e2 : p2 pl = nI b) (e3 : p3 pl = nI c) (hh : xhd (3 * i + c) = -1) (his : xis i = 30)
    (K : Q 0 (nI ns, nI t, nI jc, nI tc, xhe, kd, p1, p2, p3, ac, ja, ji, jn, js, jt, tj, tt, xss, xsv, xak, xaj, xgc, xgk, xgn, xhs, xhg, xhn, xou, xah, upd xst i 5, xpl, xft, upd xev i 0, upd xdn i (nI (dn + 1)), xus, xis, xvr, xhd, xtk, xpd, xpa, xpi, xun, xwj)) : wpX_goOnce Q (nI ns, nI t, nI jc, nI tc, xhe, kd, p1, p2, p3, ac, ja, ji, jn, js, jt, tj, tt, xss, xsv, xak, xaj, xgc, xgk, xgn, xhs, xhg, xhn, xou, xah, xst, xpl, xft, xev, xdn, xus, xis, xvr, xhd, xtk, xpd, xpa, xpi, xun, xwj) (nI i) := by
  have hd' : ¬ nI dn = 200 := by rw [sa_e200 (by omega)]; omega
  simp (disch := omega) only [wpX_goOnce, wX_goOnce_74, wpX_plainStep, wpX_countStep, wX_plainStep_38, wX_plainStep_61, wX_plainStep_229, wpX_startStep, wpX_mayAsk, wpX_end, wpX_get, sa_in, nI_clamp, nI_ltI, nI_1, nI_add, sa_m3, sa_m4, sa_m200, forall_eq, pk_us, true_and, and_true, true_implies, not_true_eq_false, not_false_eq_true, false_implies, eq_self, sa_n0, sa_n1, sa_m1, hun, hpl, hp, hk, hdn, hd', hst, e1, e2, e3, hh, his, sa_and3, sa_k4, sa_k5, sa_k1]
  exact K
theorem sa_x_start (hi : i < 3) (hns : ns ≤ 20) (hun : xun i = -1) (hpl : xpl i = nI pl) (hp : pl < ns) (hk : kd pl = 4) (hdn : xdn i = nI dn) (hd : dn < 200) (hst : xst i = 1) (ha : a < 4) (hb : b < 4) (hc : c < 3) (e1 : p1 pl = nI a) (e2 : p2 pl = nI b) (e3 : p3 pl = nI c) (hh : xhd (3 * i + c) = -1) (his : xis i = nI n) (h30 : n < 30)
    (A : ∀ post : Int32 → SX → Prop, post j (nI ns, nI t, xjc', nI tc, xhe, kd, p1, p2, p3, ac, xja', xji', xjn', xjs', xjt', tj, tt, xss, xsv, xak', xaj', xgc, xgk, xgn, xhs, xhg, xhn, xou, xah, xst, xpl, xft, xev, upd xdn i (nI (dn + 1)), xus, xis', xvr, xhd, xtk, xpd, xpa, xpi, xun, xwj) → wpX_ask post (nI ns, nI t, nI jc, nI tc, xhe, kd, p1, p2, p3, ac, ja, ji, jn, js, jt, tj, tt, xss, xsv, xak, xaj, xgc, xgk, xgn, xhs, xhg, xhn, xou, xah, xst, xpl, xft, xev, upd xdn i (nI (dn + 1)), xus, xis, xvr, xhd, xtk, xpd, xpa, xpi, xun, xwj) (nI i) (nI a) (xvr (4 * i + b)))
    (K : Q 1 (nI ns, nI t, xjc', nI tc, xhe, kd, p1, p2, p3, ac, xja', xji', xjn', xjs', xjt', tj, tt, xss, xsv, xak', xaj', xgc, xgk, xgn, xhs, xhg, xhn, xou, xah, xst, upd xpl i (nI (pl + 1)), xft, xev, upd xdn i (nI (dn + 1)), xus, xis', xvr, upd xhd (3 * i + c) j, xtk, xpd, xpa, xpi, xun, xwj)) : wpX_goOnce Q (nI ns, nI t, nI jc, nI tc, xhe, kd, p1, p2, p3, ac, ja, ji, jn, js, jt, tj, tt, xss, xsv, xak, xaj, xgc, xgk, xgn, xhs, xhg, xhn, xou, xah, xst, xpl, xft, xev, xdn, xus, xis, xvr, xhd, xtk, xpd, xpa, xpi, xun, xwj) (nI i) := by
  have hd' : ¬ nI dn = 200 := by rw [sa_e200 (by omega)]; omega
  have hq' : ¬ nI n = 30 := by rw [sa_e30 (by omega)]; omega
  simp (disch := omega) only [wpX_goOnce, wX_goOnce_74, wpX_plainStep, wpX_countStep, wX_plainStep_38, wX_plainStep_61, wX_plainStep_229, wpX_startStep, wpX_mayAsk, wpX_get, sa_in, nI_clamp, nI_ltI, nI_1, nI_add, sa_m3, sa_m4, sa_m200, forall_eq, pk_us, true_and, and_true, true_implies, not_true_eq_false, not_false_eq_true, false_implies, eq_self, sa_n0, sa_n1, sa_m1, hun, hpl, hp, hk, hdn, hd', hst, e1, e2, e3, hh, his, hq', sa_and3, sa_k4, sa_k1]
  refine A _ ?_
  simp (disch := omega) only [sa_in, nI_clamp, nI_ltI, nI_1, nI_add, sa_m3, sa_m4, sa_m200, forall_eq, pk_us, true_and, and_true, true_implies, not_true_eq_false, not_false_eq_true, false_implies, eq_self, sa_n0, sa_n1, sa_m1, hst]
  exact K
theorem sa_x_awaitx (hi : i < 3) (hns : ns ≤ 20) (hun : xun i = -1) (hpl : xpl i = nI pl) (hp : pl < ns) (hk : kd pl = 5) (hdn : xdn i = nI dn) (hd : dn < 200) (hst : xst i = 1) (hwj : xwj i = -1) (ha : a < 3) (e1 : p1 pl = nI a) (hh : xhd (3 * i + a) = -1)
    (K : Q 0 (nI ns, nI t, nI jc, nI tc, xhe, kd, p1, p2, p3, ac, ja, ji, jn, js, jt, tj, tt, xss, xsv, xak, xaj, xgc, xgk, xgn, xhs, xhg, xhn, xou, xah, upd xst i 5, xpl, xft, upd xev i 0, upd xdn i (nI (dn + 1)), xus, xis, xvr, xhd, xtk, xpd, xpa, xpi, xun, upd xwj i (-1))) : wpX_goOnce Q (nI ns, nI t, nI jc, nI tc, xhe, kd, p1, p2, p3, ac, ja, ji, jn, js, jt, tj, tt, xss, xsv, xak, xaj, xgc, xgk, xgn, xhs, xhg, xhn, xou, xah, xst, xpl, xft, xev, xdn, xus, xis, xvr, xhd, xtk, xpd, xpa, xpi, xun, xwj) (nI i) := by
  have hd' : ¬ nI dn = 200 := by rw [sa_e200 (by omega)]; omega
  simp (disch := omega) only [wpX_goOnce, wX_goOnce_69, wX_goOnce_74, wpX_waitingStep, wpX_countStep, wX_waitingStep_27, wX_waitingStep_37, wpX_waitForJob, wX_waitForJob_15, wX_waitForJob_71, wpX_end, sa_in, nI_clamp, nI_ltI, nI_1, nI_add, sa_m3, sa_m4, sa_m200, forall_eq, pk_us, true_and, and_true, true_implies, not_true_eq_false, not_false_eq_true, false_implies, eq_self, sa_n0, sa_n1, sa_m1, hun, hpl, hp, hk, hdn, hd', hst, hwj, e1, hh, sa_k5, sa_k1]
  exact K
theorem sa_x_await (hi : i < 3) (hns : ns ≤ 20) (hun : xun i = -1) (hpl : xpl i = nI pl) (hp : pl < ns) (hk : kd pl = 5) (hdn : xdn i = nI dn) (hd : dn < 200) (hst : xst i = 1) (hwj : xwj i = -1) (ha : a < 3) (e1 : p1 pl = nI a) (hh : xhd (3 * i + a) = j) (hj : ¬ j = -1)
    (K : ∀ R : Int32 → SX → Prop, (∀ y w, (y = 0 ∨ y = 1) → Q y w → R y w) → wX_waitForJob_121 R (nI i) (nI pl) 0 (nI ns) (nI t) (nI jc) (nI tc) xhe kd p1 p2 p3 ac ja ji jn js jt tj tt xss xsv xak xaj xgc xgk xgn xhs xhg xhn xou xah xst xpl xft xev (upd xdn i (nI (dn + 1))) xus xis xvr xhd xtk xpd xpa xpi xun (upd xwj i j)) : wpX_goOnce Q (nI ns, nI t, nI jc, nI tc, xhe, kd, p1, p2, p3, ac, ja, ji, jn, js, jt, tj, tt, xss, xsv, xak, xaj, xgc, xgk, xgn, xhs, xhg, xhn, xou, xah, xst, xpl, xft, xev, xdn, xus, xis, xvr, xhd, xtk, xpd, xpa, xpi, xun, xwj) (nI i) := by
  have hd' : ¬ nI dn = 200 := by rw [sa_e200 (by omega)]; omega
  simp (disch := omega) only [wpX_goOnce, wX_goOnce_69, wX_goOnce_74, wpX_waitingStep, wpX_countStep, wX_waitingStep_27, wX_waitingStep_37, wpX_waitForJob, wX_waitForJob_15, wX_waitForJob_71, sa_in, nI_clamp, nI_ltI, nI_1, nI_add, sa_m3, sa_m4, sa_m200, forall_eq, pk_us, true_and, and_true, true_implies, not_true_eq_false, not_false_eq_true, false_implies, eq_self, sa_n0, sa_n1, sa_m1, hun, hpl, hp, hk, hdn, hd', hst, hwj, e1, hh, hj, sa_k5, sa_k1]
  refine K _ ?_
  intro y w hy hw
  obtain ⟨xns, xnow, xjc, xtc, xhe, xkd, xp1, xp2, xp3, xac, xja, xji, xjn, xjs, xjt, xtj, xtt, xss, xsv, xak, xaj, xgc, xgk, xgn, xhs, xhg, xhn, xou, xah, xst, xpl, xft, xev, xdn, xus, xis, xvr, xhd, xtk, xpd, xpa, xpi, xun, xwj⟩ := w
  exact ⟨sa_nar hy, sa_nar hy, hw⟩
end
end
section
/-! the component comes to a wait for time or a signal, or to its pile; or it comes to its wait again -/
section
variable {xhe : Int32} {xss xsv xak xaj xgc xgk xgn xhs xhg xhn xou xah xst xpl xft xev xdn xus xis xvr xhd xtk xpd xpa xpi xun xwj : Nat → Int32} {kd p1 p2 p3 ac ja ji jn js jt tj tt : Nat → Int32} {i ns t jc tc pl dn pn n m a b c : Nat} {Q : Int32 → SX → Prop} {j xjc' : Int32} {xis' xja' xji' xjn' xjs' xjt' xak' xaj' : Nat → Int32}
theorem sa_lit50 : (0 : Int32) ≤ 0 ∧ (0 : Int32) ≤ 50 := by decide
theorem sa_x_sleep0 (hi : i < 3) (hns : ns ≤ 20) (hun : xun i = -1) (hpl : xpl i = nI pl) (hp : pl < ns) (hk : kd pl = 7) (hdn : xdn i = nI dn) (hd : dn < 200) (hwj : xwj i = -1) (ha : a < 4) (e1 : p1 pl = nI a) (hz : xvr (4 * i + a) ≤ 0)
    (K : Q 1 (nI ns, nI t, nI jc, nI tc, xhe, kd, p1, p2, p3, ac, ja, ji, jn, js, jt, tj, tt, xss, xsv, xak, xaj, xgc, xgk, xgn, xhs, xhg, xhn, xou, xah, xst, upd xpl i (nI (pl + 1)), xft, xev, upd xdn i (nI (dn + 1)), xus, xis, xvr, xhd, xtk, xpd, xpa, xpi, xun, upd (upd xwj i 0) i (-1))) : wpX_goOnce Q (nI ns, nI t, nI jc, nI tc, xhe, kd, p1, p2, p3, ac, ja, ji, jn, js, jt, tj, tt, xss, xsv, xak, xaj, xgc, xgk, xgn, xhs, xhg, xhn, xou, xah, xst, xpl, xft, xev, xdn, xus, xis, xvr, xhd, xtk, xpd, xpa, xpi, xun, xwj) (nI i) := by
  have hd' : ¬ nI dn = 200 := by rw [sa_e200 (by omega)]; omega
  by_cases h0 : 0 ≤ xvr (4 * i + a)
  · have e0 : xvr (4 * i + a) = 0 := Int32.le_antisymm hz h0
    simp (disch := omega) only [wpX_goOnce, wX_goOnce_69, wX_goOnce_74, wpX_waitingStep, wpX_countStep, wX_waitingStep_27, wX_waitingStep_59, wpX_get, wX_waitingStep_104, wX_waitingStep_132, wX_waitingStep_157, sa_in, nI_clamp, nI_ltI, nI_1, nI_add, sa_m3, sa_m4, sa_m200, forall_eq, pk_us, true_and, and_true, true_implies, not_true_eq_false, not_false_eq_true, false_implies, eq_self, sa_n0, sa_n1, sa_m1, hun, hpl, hp, hk, hdn, hd', hwj, e1, e0, sa_lit50, sa_k7, sa_k1]
    exact K
  · simp (disch := omega) only [wpX_goOnce, wX_goOnce_69, wX_goOnce_74, wpX_waitingStep, wpX_countStep, wX_waitingStep_27, wX_waitingStep_59, wpX_get, wX_waitingStep_104, wX_waitingStep_132, wX_waitingStep_157, sa_in, nI_clamp, nI_ltI, nI_1, nI_add, sa_m3, sa_m4, sa_m200, forall_eq, pk_us, true_and, and_true, true_implies, not_true_eq_false, not_false_eq_true, false_implies, eq_self, sa_n0, sa_n1, sa_m1, hun, hpl, hp, hk, hdn, hd', hwj, e1, h0, sa_k7, sa_k1]
    exact K
theorem sa_x_sleep (hi : i < 3) (hns : ns ≤ 20) (hun : xun i = -1) (hpl : xpl i = nI pl) (hp : pl < ns) (hk : kd pl = 7) (hdn : xdn i = nI dn) (hd : dn < 200) (hwj : xwj i = -1) (ha : a < 4) (e1 : p1 pl = nI a) (hz : ¬ xvr (4 * i + a) ≤ 0)
    (K : ∀ R : Int32 → SX → Prop, (∀ y w, (y = 0 ∨ y = 1) → Q y w → R y w) → ∀ z, (xvr (4 * i + a) ≤ 50 → z = xvr (4 * i + a)) → (¬ xvr (4 * i + a) ≤ 50 → z = 50) → wX_waitingStep_122 R (nI i) (nI pl) 7 z (nI ns) (nI t) (nI jc) (nI tc) xhe kd p1 p2 p3 ac ja ji jn js jt tj tt xss xsv xak xaj xgc xgk xgn xhs xhg xhn xou xah xst xpl xft xev (upd xdn i (nI (dn + 1))) xus xis xvr xhd xtk xpd xpa xpi xun (upd xwj i 0)) : wpX_goOnce Q (nI ns, nI t, nI jc, nI tc, xhe, kd, p1, p2, p3, ac, ja, ji, jn, js, jt, tj, tt, xss, xsv, xak, xaj, xgc, xgk, xgn, xhs, xhg, xhn, xou, xah, xst, xpl, xft, xev, xdn, xus, xis, xvr, xhd, xtk, xpd, xpa, xpi, xun, xwj) (nI i) := by
  have hd' : ¬ nI dn = 200 := by rw [sa_e200 (by omega)]; omega
  have h0 : 0 ≤ xvr (4 * i + a) := by
    rw [Int32.le_iff_toInt_le] at hz ⊢
    omega
  have hn : ¬ xvr (4 * i + a) = 0 := by
    intro e
    rw [e] at hz
    exact hz (by decide)
  by_cases h5 : xvr (4 * i + a) ≤ 50
  · simp (disch := omega) only [wpX_goOnce, wX_goOnce_69, wX_goOnce_74, wpX_waitingStep, wpX_countStep, wX_waitingStep_27, wX_waitingStep_59, wpX_get, wX_waitingStep_104, sa_in, nI_clamp, nI_ltI, nI_1, nI_add, sa_m3, sa_m4, sa_m200, forall_eq, pk_us, true_and, and_true, true_implies, not_true_eq_false, not_false_eq_true, false_implies, eq_self, sa_n0, sa_n1, sa_m1, hun, hpl, hp, hk, hdn, hd', hwj, e1, h0, hn, h5, sa_k7, sa_k1]
    refine K _ ?_ _ (fun _ => rfl) (fun e => absurd h5 e)
    intro y w hy hw
    obtain ⟨xns, xnow, xjc, xtc, xhe, xkd, xp1, xp2, xp3, xac, xja, xji, xjn, xjs, xjt, xtj, xtt, xss, xsv, xak, xaj, xgc, xgk, xgn, xhs, xhg, xhn, xou, xah, xst, xpl, xft, xev, xdn, xus, xis, xvr, xhd, xtk, xpd, xpa, xpi, xun, xwj⟩ := w
    exact ⟨sa_nar hy, hw⟩
  · simp (disch := omega) only [wpX_goOnce, wX_goOnce_69, wX_goOnce_74, wpX_waitingStep, wpX_countStep, wX_waitingStep_27, wX_waitingStep_59, wpX_get, wX_waitingStep_104, sa_in, nI_clamp, nI_ltI, nI_1, nI_add, sa_m3, sa_m4, sa_m200, forall_eq, pk_us, true_and, and_true, true_implies, not_true_eq_false, not_false_eq_true, false_implies, eq_self, sa_n0, sa_n1, sa_m1, hun, hpl, hp, hk, hdn, hd', hwj, e1, h0, hn, h5, sa_k7, sa_k1, show ¬ (50 : Int32) = 0 from by decide]
    refine K _ ?_ _ (fun e => absurd e h5) (fun _ => rfl)
    intro y w hy hw
    obtain ⟨xns, xnow, xjc, xtc, xhe, xkd, xp1, xp2, xp3, xac, xja, xji, xjn, xjs, xjt, xtj, xtt, xss, xsv, xak, xaj, xgc, xgk, xgn, xhs, xhg, xhn, xou, xah, xst, xpl, xft, xev, xdn, xus, xis, xvr, xhd, xtk, xpd, xpa, xpi, xun, xwj⟩ := w
    exact ⟨sa_nar hy, hw⟩
theorem sa_x_signal (hi : i < 3) (hns : ns ≤ 20) (hun : xun i = -1) (hpl : xpl i = nI pl) (hp : pl < ns) (hk : kd pl = 10) (hdn : xdn i = nI dn) (hd : dn < 200) (hwj : xwj i = -1) (ha : a < 4) (e1 : p1 pl = nI a)
    (K : ∀ R : Int32 → SX → Prop, (∀ y w, (y = 0 ∨ y = 1) → Q y w → R y w) → ∀ S : Int32 → SX → Prop, (∀ y w, (y = 0 ∨ y = 1) → (match w with | (xns', xnow', xjc', xtc', xhe', xkd', xp1', xp2', xp3', xac', xja', xji', xjn', xjs', xjt', xtj', xtt', xss', xsv', xak', xaj', xgc', xgk', xgn', xhs', xhg', xhn', xou', xah', xst', xpl', xft', xev', xdn', xus', xis', xvr', xhd', xtk', xpd', xpa', xpi', xun', xwj') => wX_waitingStep_157 R (nI i) (nI pl) 10 y xns' xnow' xjc' xtc' xhe' xkd' xp1' xp2' xp3' xac' xja' xji' xjn' xjs' xjt' xtj' xtt' xss' xsv' xak' xaj' xgc' xgk' xgn' xhs' xhg' xhn' xou' xah' xst' xpl' xft' xev' xdn' xus' xis' xvr' xhd' xtk' xpd' xpa' xpi' xun' xwj') → S y w) → wpX_hearSignal S (nI ns, nI t, nI jc, nI tc, xhe, kd, p1, p2, p3, ac, ja, ji, jn, js, jt, tj, tt, xss, xsv, xak, xaj, xgc, xgk, xgn, xhs, xhg, xhn, xou, xah, xst, xpl, xft, xev, upd xdn i (nI (dn + 1)), xus, xis, xvr, xhd, xtk, xpd, xpa, xpi, xun, upd xwj i 0) (nI i) (nI a) (p3 pl)) : wpX_goOnce Q (nI ns, nI t, nI jc, nI tc, xhe, kd, p1, p2, p3, ac, ja, ji, jn, js, jt, tj, tt, xss, xsv, xak, xaj, xgc, xgk, xgn, xhs, xhg, xhn, xou, xah, xst, xpl, xft, xev, xdn, xus, xis, xvr, xhd, xtk, xpd, xpa, xpi, xun, xwj) (nI i) := by
  have hd' : ¬ nI dn = 200 := by rw [sa_e200 (by omega)]; omega
  simp (disch := omega) only [wpX_goOnce, wX_goOnce_69, wX_goOnce_74, wpX_waitingStep, wpX_countStep, wX_waitingStep_27, wX_waitingStep_59, wpX_get, wX_waitingStep_104, sa_in, nI_clamp, nI_ltI, nI_1, nI_add, sa_m3, sa_m4, sa_m200, forall_eq, pk_us, true_and, and_true, true_implies, not_true_eq_false, not_false_eq_true, false_implies, eq_self, sa_n0, sa_n1, sa_m1, hun, hpl, hp, hk, hdn, hd', hwj, e1, sa_k10, sa_k1]
  refine br_c (fun _ => br_c (fun _ => ?_) (fun _ => ?_)) (fun _ => ?_)
  all_goals
    refine K ?R ?h1 _ ?h2
    case h2 =>
      intro y w hy hw
      obtain ⟨xns, xnow, xjc, xtc, xhe, xkd, xp1, xp2, xp3, xac, xja, xji, xjn, xjs, xjt, xtj, xtt, xss, xsv, xak, xaj, xgc, xgk, xgn, xhs, xhg, xhn, xou, xah, xst, xpl, xft, xev, xdn, xus, xis, xvr, xhd, xtk, xpd, xpa, xpi, xun, xwj⟩ := w
      exact hw
    case h1 =>
      intro y w hy hw
      obtain ⟨xns, xnow, xjc, xtc, xhe, xkd, xp1, xp2, xp3, xac, xja, xji, xjn, xjs, xjt, xtj, xtt, xss, xsv, xak, xaj, xgc, xgk, xgn, xhs, xhg, xhn, xou, xah, xst, xpl, xft, xev, xdn, xus, xis, xvr, xhd, xtk, xpd, xpa, xpi, xun, xwj⟩ := w
      exact ⟨sa_nar hy, hw⟩
theorem sa_x_u0 (hi : i < 3) (hun : xun i = 0) (hwj : xwj i = -1)
    (K : Q 0 (nI ns, nI t, nI jc, nI tc, xhe, kd, p1, p2, p3, ac, ja, ji, jn, js, jt, tj, tt, xss, xsv, xak, xaj, xgc, xgk, xgn, xhs, xhg, xhn, xou, xah, upd xst i 3, xpl, xft, upd xev i 0, xdn, xus, xis, xvr, xhd, xtk, xpd, xpa, xpi, xun, xwj)) : wpX_goOnce Q (nI ns, nI t, nI jc, nI tc, xhe, kd, p1, p2, p3, ac, ja, ji, jn, js, jt, tj, tt, xss, xsv, xak, xaj, xgc, xgk, xgn, xhs, xhg, xhn, xou, xah, xst, xpl, xft, xev, xdn, xus, xis, xvr, xhd, xtk, xpd, xpa, xpi, xun, xwj) (nI i) := by
  simp (disch := omega) only [wpX_goOnce, wpX_undoNext, wpX_end, sa_in, nI_clamp, nI_ltI, nI_1, nI_add, sa_m3, sa_m4, sa_m200, forall_eq, pk_us, true_and, and_true, true_implies, not_true_eq_false, not_false_eq_true, false_implies, eq_self, sa_n0, sa_n1, sa_m1, hun, hwj]
  exact K
theorem sa_x_u1 (hi : i < 3) (hun : xun i = nI (m + 1)) (hm : m < 200) (hwj : xwj i = -1) (his : xis i = 30)
    (K : Q 0 (nI ns, nI t, nI jc, nI tc, xhe, kd, p1, p2, p3, ac, ja, ji, jn, js, jt, tj, tt, xss, xsv, xak, xaj, xgc, xgk, xgn, xhs, xhg, xhn, xou, xah, upd xst i 5, xpl, xft, upd xev i 0, xdn, xus, xis, xvr, xhd, xtk, xpd, xpa, xpi, xun, xwj)) : wpX_goOnce Q (nI ns, nI t, nI jc, nI tc, xhe, kd, p1, p2, p3, ac, ja, ji, jn, js, jt, tj, tt, xss, xsv, xak, xaj, xgc, xgk, xgn, xhs, xhg, xhn, xou, xah, xst, xpl, xft, xev, xdn, xus, xis, xvr, xhd, xtk, xpd, xpa, xpi, xun, xwj) (nI i) := by
  have f1 : ¬ nI (m + 1) = -1 := sa_ne_m1 (by omega)
  have f2 : ¬ nI (m + 1) = 0 := by rw [sa_e0 (by omega)]; omega
  simp (disch := omega) only [wpX_goOnce, wpX_undoNext, wpX_mayAsk, wpX_end, sa_in, nI_clamp, nI_ltI, nI_1, nI_add, sa_m3, sa_m4, sa_m200, forall_eq, pk_us, true_and, and_true, true_implies, not_true_eq_false, not_false_eq_true, false_implies, eq_self, sa_n0, sa_n1, sa_m1, hun, hwj, f1, f2, his]
  exact K
theorem sa_x_u2 (hi : i < 3) (hun : xun i = nI (m + 1)) (hm : m < 200) (hwj : xwj i = -1) (his : xis i = nI n) (h30 : n < 30)
    (A : ∀ post : Int32 → SX → Prop, post j (nI ns, nI t, xjc', nI tc, xhe, kd, p1, p2, p3, ac, xja', xji', xjn', xjs', xjt', tj, tt, xss, xsv, xak', xaj', xgc, xgk, xgn, xhs, xhg, xhn, xou, xah, xst, xpl, xft, xev, xdn, xus, xis', xvr, xhd, xtk, xpd, xpa, xpi, upd xun i (nI m), xwj) → wpX_ask post (nI ns, nI t, nI jc, nI tc, xhe, kd, p1, p2, p3, ac, ja, ji, jn, js, jt, tj, tt, xss, xsv, xak, xaj, xgc, xgk, xgn, xhs, xhg, xhn, xou, xah, xst, xpl, xft, xev, xdn, xus, xis, xvr, xhd, xtk, xpd, xpa, xpi, upd xun i (nI m), xwj) (nI i) (xpa (200 * i + m)) (xpi (200 * i + m)))
    (K : ∀ R : Int32 → SX → Prop, (∀ y w, (y = 0 ∨ y = 1) → Q y w → R y w) → wX_undoNext_88 R (nI i) (nI ns) (nI t) xjc' (nI tc) xhe kd p1 p2 p3 ac xja' xji' xjn' xjs' xjt' tj tt xss xsv xak' xaj' xgc xgk xgn xhs xhg xhn xou xah xst xpl xft xev xdn xus xis' xvr xhd xtk xpd xpa xpi (upd xun i (nI m)) (upd xwj i j)) : wpX_goOnce Q (nI ns, nI t, nI jc, nI tc, xhe, kd, p1, p2, p3, ac, ja, ji, jn, js, jt, tj, tt, xss, xsv, xak, xaj, xgc, xgk, xgn, xhs, xhg, xhn, xou, xah, xst, xpl, xft, xev, xdn, xus, xis, xvr, xhd, xtk, xpd, xpa, xpi, xun, xwj) (nI i) := by
  have f1 : ¬ nI (m + 1) = -1 := sa_ne_m1 (by omega)
  have f2 : ¬ nI (m + 1) = 0 := by rw [sa_e0 (by omega)]; omega
  have hq' : ¬ nI n = 30 := by rw [sa_e30 (by omega)]; omega
  simp (disch := omega) only [wpX_goOnce, wpX_undoNext, wpX_mayAsk, sa_in, nI_clamp, nI_ltI, nI_1, nI_add, sa_m3, sa_m4, sa_m200, forall_eq, pk_us, true_and, and_true, true_implies, not_true_eq_false, not_false_eq_true, false_implies, eq_self, sa_n0, sa_n1, sa_m1, hun, hwj, f1, f2, his, hq', nI_pred, sa_k1]
  refine A _ ?_
  simp (disch := omega) only [sa_in, nI_clamp, nI_ltI, nI_1, nI_add, sa_m3, sa_m4, sa_m200, forall_eq, pk_us, true_and, and_true, true_implies, not_true_eq_false, not_false_eq_true, false_implies, eq_self, sa_n0, sa_n1, sa_m1]
  refine K _ ?_
  intro y w hy hw
  obtain ⟨xns, xnow, xjc, xtc, xhe, xkd, xp1, xp2, xp3, xac, xja, xji, xjn, xjs, xjt, xtj, xtt, xss, xsv, xak, xaj, xgc, xgk, xgn, xhs, xhg, xhn, xou, xah, xst, xpl, xft, xev, xdn, xus, xis, xvr, xhd, xtk, xpd, xpa, xpi, xun, xwj⟩ := w
  exact ⟨sa_nar hy, hw⟩
/-! to the wait again -/
theorem sa_x_ru (hi : i < 3) (hun : ¬ xun i = -1) (hwj : ¬ xwj i = -1)
    (K : ∀ R : Int32 → SX → Prop, (∀ y w, (y = 0 ∨ y = 1) → Q y w → R y w) → wX_undoNext_88 R (nI i) (nI ns) (nI t) (nI jc) (nI tc) xhe kd p1 p2 p3 ac ja ji jn js jt tj tt xss xsv xak xaj xgc xgk xgn xhs xhg xhn xou xah xst xpl xft xev xdn xus xis xvr xhd xtk xpd xpa xpi xun xwj) : wpX_goOnce Q (nI ns, nI t, nI jc, nI tc, xhe, kd, p1, p2, p3, ac, ja, ji, jn, js, jt, tj, tt, xss, xsv, xak, xaj, xgc, xgk, xgn, xhs, xhg, xhn, xou, xah, xst, xpl, xft, xev, xdn, xus, xis, xvr, xhd, xtk, xpd, xpa, xpi, xun, xwj) (nI i) := by
  simp (disch := omega) only [wpX_goOnce, wpX_undoNext, sa_in, nI_clamp, nI_ltI, nI_1, nI_add, sa_m3, sa_m4, sa_m200, forall_eq, pk_us, true_and, and_true, true_implies, not_true_eq_false, not_false_eq_true, false_implies, eq_self, sa_n0, sa_n1, sa_m1, hun, hwj]
  refine K _ ?_
  intro y w hy hw
  obtain ⟨xns, xnow, xjc, xtc, xhe, xkd, xp1, xp2, xp3, xac, xja, xji, xjn, xjs, xjt, xtj, xtt, xss, xsv, xak, xaj, xgc, xgk, xgn, xhs, xhg, xhn, xou, xah, xst, xpl, xft, xev, xdn, xus, xis, xvr, xhd, xtk, xpd, xpa, xpi, xun, xwj⟩ := w
  exact ⟨sa_nar hy, hw⟩
theorem sa_x_rd (hi : i < 3) (hns : ns ≤ 20) (hun : xun i = -1) (hpl : xpl i = nI pl) (hp : pl < ns) (hk : kd pl = 3) (hwj : ¬ xwj i = -1)
    (K : ∀ R : Int32 → SX → Prop, (∀ y w, (y = 0 ∨ y = 1) → Q y w → R y w) → wX_waitForJob_121 R (nI i) (nI pl) 1 (nI ns) (nI t) (nI jc) (nI tc) xhe kd p1 p2 p3 ac ja ji jn js jt tj tt xss xsv xak xaj xgc xgk xgn xhs xhg xhn xou xah xst xpl xft xev xdn xus xis xvr xhd xtk xpd xpa xpi xun xwj) : wpX_goOnce Q (nI ns, nI t, nI jc, nI tc, xhe, kd, p1, p2, p3, ac, ja, ji, jn, js, jt, tj, tt, xss, xsv, xak, xaj, xgc, xgk, xgn, xhs, xhg, xhn, xou, xah, xst, xpl, xft, xev, xdn, xus, xis, xvr, xhd, xtk, xpd, xpa, xpi, xun, xwj) (nI i) := by
  simp (disch := omega) only [wpX_goOnce, wX_goOnce_69, wX_goOnce_74, wpX_waitingStep, wpX_countStep, wX_waitingStep_27, wX_waitingStep_37, wpX_waitForJob, wX_waitForJob_15, wX_waitForJob_71, sa_in, nI_clamp, nI_ltI, nI_1, nI_add, sa_m3, sa_m4, sa_m200, forall_eq, pk_us, true_and, and_true, true_implies, not_true_eq_false, not_false_eq_true, false_implies, eq_self, sa_n0, sa_n1, sa_m1, hun, hpl, hp, hk, hwj, sa_k3, sa_k1]
  refine K _ ?_
  intro y w hy hw
  obtain ⟨xns, xnow, xjc, xtc, xhe, xkd, xp1, xp2, xp3, xac, xja, xji, xjn, xjs, xjt, xtj, xtt, xss, xsv, xak, xaj, xgc, xgk, xgn, xhs, xhg, xhn, xou, xah, xst, xpl, xft, xev, xdn, xus, xis, xvr, xhd, xtk, xpd, xpa, xpi, xun, xwj⟩ := w
  exact ⟨sa_nar hy, sa_nar hy, hw⟩
theorem sa_x_ra (hi : i < 3) (hns : ns ≤ 20) (hun : xun i = -1) (hpl : xpl i = nI pl) (hp : pl < ns) (hk : kd pl = 5) (hwj : ¬ xwj i = -1)
    (K : ∀ R : Int32 → SX → Prop, (∀ y w, (y = 0 ∨ y = 1) → Q y w → R y w) → wX_waitForJob_121 R (nI i) (nI pl) 0 (nI ns) (nI t) (nI jc) (nI tc) xhe kd p1 p2 p3 ac ja ji jn js jt tj tt xss xsv xak xaj xgc xgk xgn xhs xhg xhn xou xah xst xpl xft xev xdn xus xis xvr xhd xtk xpd xpa xpi xun xwj) : wpX_goOnce Q (nI ns, nI t, nI jc, nI tc, xhe, kd, p1, p2, p3, ac, ja, ji, jn, js, jt, tj, tt, xss, xsv, xak, xaj, xgc, xgk, xgn, xhs, xhg, xhn, xou, xah, xst, xpl, xft, xev, xdn, xus, xis, xvr, xhd, xtk, xpd, xpa, xpi, xun, xwj) (nI i) := by
  simp (disch := omega) only [wpX_goOnce, wX_goOnce_69, wX_goOnce_74, wpX_waitingStep, wpX_countStep, wX_waitingStep_27, wX_waitingStep_37, wpX_waitForJob, wX_waitForJob_15, wX_waitForJob_71, sa_in, nI_clamp, nI_ltI, nI_1, nI_add, sa_m3, sa_m4, sa_m200, forall_eq, pk_us, true_and, and_true, true_implies, not_true_eq_false, not_false_eq_true, false_implies, eq_self, sa_n0, sa_n1, sa_m1, hun, hpl, hp, hk, hwj, sa_k5, sa_k1]
  refine K _ ?_
  intro y w hy hw
  obtain ⟨xns, xnow, xjc, xtc, xhe, xkd, xp1, xp2, xp3, xac, xja, xji, xjn, xjs, xjt, xtj, xtt, xss, xsv, xak, xaj, xgc, xgk, xgn, xhs, xhg, xhn, xou, xah, xst, xpl, xft, xev, xdn, xus, xis, xvr, xhd, xtk, xpd, xpa, xpi, xun, xwj⟩ := w
  exact ⟨sa_nar hy, sa_nar hy, hw⟩
theorem sa_x_rs (hi : i < 3) (hns : ns ≤ 20) (hun : xun i = -1) (hpl : xpl i = nI pl) (hp : pl < ns) (hk : kd pl = 7) (hwj : xwj i = 0) (ha : a < 4) (e1 : p1 pl = nI a) (hz : ¬ xvr (4 * i + a) ≤ 0)
    (K : ∀ R : Int32 → SX → Prop, (∀ y w, (y = 0 ∨ y = 1) → Q y w → R y w) → ∀ z, (xvr (4 * i + a) ≤ 50 → z = xvr (4 * i + a)) → (¬ xvr (4 * i + a) ≤ 50 → z = 50) → wX_waitingStep_122 R (nI i) (nI pl) 7 z (nI ns) (nI t) (nI jc) (nI tc) xhe kd p1 p2 p3 ac ja ji jn js jt tj tt xss xsv xak xaj xgc xgk xgn xhs xhg xhn xou xah xst xpl xft xev xdn xus xis xvr xhd xtk xpd xpa xpi xun xwj) : wpX_goOnce Q (nI ns, nI t, nI jc, nI tc, xhe, kd, p1, p2, p3, ac, ja, ji, jn, js, jt, tj, tt, xss, xsv, xak, xaj, xgc, xgk, xgn, xhs, xhg, xhn, xou, xah, xst, xpl, xft, xev, xdn, xus, xis, xvr, xhd, xtk, xpd, xpa, xpi, xun, xwj) (nI i) := by
  have h0 : 0 ≤ xvr (4 * i + a) := by
    rw [Int32.le_iff_toInt_le] at hz ⊢
    omega
  have eu : upd xwj i 0 = xwj := sa_uself' hwj
  by_cases h5 : xvr (4 * i + a) ≤ 50
  · simp (disch := omega) only [wpX_goOnce, wX_goOnce_69, wX_goOnce_74, wpX_waitingStep, wpX_countStep, wX_waitingStep_27, wX_waitingStep_59, wpX_get, wX_waitingStep_104, sa_in, nI_clamp, nI_ltI, nI_1, nI_add, sa_m3, sa_m4, sa_m200, forall_eq, pk_us, true_and, and_true, true_implies, not_true_eq_false, not_false_eq_true, false_implies, eq_self, sa_n0, sa_n1, sa_m1, hun, hpl, hp, hk, hwj, e1, eu, h0, h5, sa_k7, sa_k1]
    refine K _ ?_ _ (fun _ => rfl) (fun e => absurd h5 e)
    intro y w hy hw
    obtain ⟨xns, xnow, xjc, xtc, xhe, xkd, xp1, xp2, xp3, xac, xja, xji, xjn, xjs, xjt, xtj, xtt, xss, xsv, xak, xaj, xgc, xgk, xgn, xhs, xhg, xhn, xou, xah, xst, xpl, xft, xev, xdn, xus, xis, xvr, xhd, xtk, xpd, xpa, xpi, xun, xwj⟩ := w
    exact ⟨sa_nar hy, hw⟩
  · simp (disch := omega) only [wpX_goOnce, wX_goOnce_69, wX_goOnce_74, wpX_waitingStep, wpX_countStep, wX_waitingStep_27, wX_waitingStep_59, wpX_get, wX_waitingStep_104, sa_in, nI_clamp, nI_ltI, nI_1, nI_add, sa_m3, sa_m4, sa_m200, forall_eq, pk_us, true_and, and_true, true_implies, not_true_eq_false, not_false_eq_true, false_implies, eq_self, sa_n0, sa_n1, sa_m1, hun, hpl, hp, hk, hwj, e1, eu, h0, h5, sa_k7, sa_k1]
    refine K _ ?_ _ (fun e => absurd e h5) (fun _ => rfl)
    intro y w hy hw
    obtain ⟨xns, xnow, xjc, xtc, xhe, xkd, xp1, xp2, xp3, xac, xja, xji, xjn, xjs, xjt, xtj, xtt, xss, xsv, xak, xaj, xgc, xgk, xgn, xhs, xhg, xhn, xou, xah, xst, xpl, xft, xev, xdn, xus, xis, xvr, xhd, xtk, xpd, xpa, xpi, xun, xwj⟩ := w
    exact ⟨sa_nar hy, hw⟩
theorem sa_x_rg (hi : i < 3) (hns : ns ≤ 20) (hun : xun i = -1) (hpl : xpl i = nI pl) (hp : pl < ns) (hk : kd pl = 10) (hwj : xwj i = 0) (ha : a < 4) (e1 : p1 pl = nI a)
    (K : ∀ R : Int32 → SX → Prop, (∀ y w, (y = 0 ∨ y = 1) → Q y w → R y w) → ∀ S : Int32 → SX → Prop, (∀ y w, (y = 0 ∨ y = 1) → (match w with | (xns', xnow', xjc', xtc', xhe', xkd', xp1', xp2', xp3', xac', xja', xji', xjn', xjs', xjt', xtj', xtt', xss', xsv', xak', xaj', xgc', xgk', xgn', xhs', xhg', xhn', xou', xah', xst', xpl', xft', xev', xdn', xus', xis', xvr', xhd', xtk', xpd', xpa', xpi', xun', xwj') => wX_waitingStep_157 R (nI i) (nI pl) 10 y xns' xnow' xjc' xtc' xhe' xkd' xp1' xp2' xp3' xac' xja' xji' xjn' xjs' xjt' xtj' xtt' xss' xsv' xak' xaj' xgc' xgk' xgn' xhs' xhg' xhn' xou' xah' xst' xpl' xft' xev' xdn' xus' xis' xvr' xhd' xtk' xpd' xpa' xpi' xun' xwj') → S y w) → wpX_hearSignal S (nI ns, nI t, nI jc, nI tc, xhe, kd, p1, p2, p3, ac, ja, ji, jn, js, jt, tj, tt, xss, xsv, xak, xaj, xgc, xgk, xgn, xhs, xhg, xhn, xou, xah, xst, xpl, xft, xev, xdn, xus, xis, xvr, xhd, xtk, xpd, xpa, xpi, xun, xwj) (nI i) (nI a) (p3 pl)) : wpX_goOnce Q (nI ns, nI t, nI jc, nI tc, xhe, kd, p1, p2, p3, ac, ja, ji, jn, js, jt, tj, tt, xss, xsv, xak, xaj, xgc, xgk, xgn, xhs, xhg, xhn, xou, xah, xst, xpl, xft, xev, xdn, xus, xis, xvr, xhd, xtk, xpd, xpa, xpi, xun, xwj) (nI i) := by
  have eu : upd xwj i 0 = xwj := sa_uself' hwj
  simp (disch := omega) only [wpX_goOnce, wX_goOnce_69, wX_goOnce_74, wpX_waitingStep, wpX_countStep, wX_waitingStep_27, wX_waitingStep_59, wpX_get, wX_waitingStep_104, sa_in, nI_clamp, nI_ltI, nI_1, nI_add, sa_m3, sa_m4, sa_m200, forall_eq, pk_us, true_and, and_true, true_implies, not_true_eq_false, not_false_eq_true, false_implies, eq_self, sa_n0, sa_n1, sa_m1, hun, hpl, hp, hk, hwj, e1, eu, sa_k10, sa_k1]
  refine br_c (fun _ => br_c (fun _ => ?_) (fun _ => ?_)) (fun _ => ?_)
  all_goals
    refine K ?R ?h1 _ ?h2
    case h2 =>
      intro y w hy hw
      obtain ⟨xns, xnow, xjc, xtc, xhe, xkd, xp1, xp2, xp3, xac, xja, xji, xjn, xjs, xjt, xtj, xtt, xss, xsv, xak, xaj, xgc, xgk, xgn, xhs, xhg, xhn, xou, xah, xst, xpl, xft, xev, xdn, xus, xis, xvr, xhd, xtk, xpd, xpa, xpi, xun, xwj⟩ := w
      exact hw
    case h1 =>
      intro y w hy hw
      obtain ⟨xns, xnow, xjc, xtc, xhe, xkd, xp1, xp2, xp3, xac, xja, xji, xjn, xjs, xjt, xtj, xtt, xss, xsv, xak, xaj, xgc, xgk, xgn, xhs, xhg, xhn, xou, xah, xst, xpl, xft, xev, xdn, xus, xis, xvr, xhd, xtk, xpd, xpa, xpi, xun, xwj⟩ := w
      exact ⟨sa_nar hy, hw⟩
end
end
section
/-! a wait of the component: heard, over, or open -/
section
variable {xns xnow xjc xtc xhe : Int32} {xkd xp1 xp2 xp3 xac xja xji xjn xjs xjt xtj xtt xss xsv xak xaj xgc xgk xgn xhs xhg xhn xou xah xst xpl xft xev xdn xus xis xvr xhd xtk xpd xpa xpi xun xwj : Nat → Int32} {i us hs jc q a : Nat} {post : Int32 → SX → Prop} {j g y x5 x6 : Int32}
theorem sa_hear1 (hi : i < 3) (e1 : xus i = nI us) (e2 : xhs i = nI hs) (h : us < hs) (h2 : hs ≤ 240)
    (K : post 1 (xns, xnow, xjc, xtc, nI (240 * i + us), xkd, xp1, xp2, xp3, xac, xja, xji, xjn, xjs, xjt, xtj, xtt, xss, xsv, xak, xaj, xgc, xgk, xgn, xhs, xhg, xhn, xou, xah, xst, xpl, xft, xev, xdn, upd xus i (nI (us + 1)), xis, xvr, xhd, xtk, xpd, xpa, xpi, xun, xwj)) : wpX_hear post (xns, xnow, xjc, xtc, xhe, xkd, xp1, xp2, xp3, xac, xja, xji, xjn, xjs, xjt, xtj, xtt, xss, xsv, xak, xaj, xgc, xgk, xgn, xhs, xhg, xhn, xou, xah, xst, xpl, xft, xev, xdn, xus, xis, xvr, xhd, xtk, xpd, xpa, xpi, xun, xwj) (nI i) := by
  have e : ¬ nI us = nI hs := by rw [nI_eq (by omega) (by omega)]; omega
  simp (disch := omega) only [wpX_hear, sa_in, nI_clamp, nI_1, nI_add, sa_m3, sa_m4, sa_m6, sa_m7, sa_m240, forall_eq, pk_us, true_and, and_true, true_implies, not_true_eq_false, not_false_eq_true, false_implies, eq_self, sa_n0, sa_n1, sa_m1, e1, e2, e]
  exact K
theorem sa_hear0 (hi : i < 3) (e1 : xus i = nI us) (e2 : xhs i = nI us)
    (K : post 0 (xns, xnow, xjc, xtc, xhe, xkd, xp1, xp2, xp3, xac, xja, xji, xjn, xjs, xjt, xtj, xtt, xss, xsv, xak, xaj, xgc, xgk, xgn, xhs, xhg, xhn, xou, xah, xst, xpl, xft, xev, xdn, xus, xis, xvr, xhd, xtk, xpd, xpa, xpi, xun, xwj)) : wpX_hear post (xns, xnow, xjc, xtc, xhe, xkd, xp1, xp2, xp3, xac, xja, xji, xjn, xjs, xjt, xtj, xtt, xss, xsv, xak, xaj, xgc, xgk, xgn, xhs, xhg, xhn, xou, xah, xst, xpl, xft, xev, xdn, xus, xis, xvr, xhd, xtk, xpd, xpa, xpi, xun, xwj) (nI i) := by
  simp (disch := omega) only [wpX_hear, sa_in, nI_clamp, nI_1, nI_add, sa_m3, sa_m4, sa_m6, sa_m7, sa_m240, forall_eq, pk_us, true_and, and_true, true_implies, not_true_eq_false, not_false_eq_true, false_implies, eq_self, sa_n0, sa_n1, sa_m1, e1, e2]
  exact K
theorem sa_write {post : SX → Prop} (hi : i < 3) (e2 : xhs i = nI hs) (h2 : hs < 240)
    (K : post (xns, xnow, xjc, xtc, xhe, xkd, xp1, xp2, xp3, xac, xja, xji, xjn, xjs, xjt, xtj, xtt, xss, xsv, xak, xaj, xgc, xgk, xgn, upd xhs i (nI (hs + 1)), upd xhg (240 * i + hs) g, upd xhn (240 * i + hs) y, upd xou i (-1), xah, xst, xpl, xft, xev, xdn, xus, xis, xvr, xhd, xtk, xpd, xpa, xpi, xun, xwj)) : wpX_write post (xns, xnow, xjc, xtc, xhe, xkd, xp1, xp2, xp3, xac, xja, xji, xjn, xjs, xjt, xtj, xtt, xss, xsv, xak, xaj, xgc, xgk, xgn, xhs, xhg, xhn, xou, xah, xst, xpl, xft, xev, xdn, xus, xis, xvr, xhd, xtk, xpd, xpa, xpi, xun, xwj) (nI i) g y := by
  simp (disch := omega) only [wpX_write, sa_in, nI_clamp, nI_1, nI_add, sa_m3, sa_m4, sa_m6, sa_m7, sa_m240, forall_eq, pk_us, true_and, and_true, true_implies, not_true_eq_false, not_false_eq_true, false_implies, eq_self, sa_n0, sa_n1, sa_m1, e2]
  exact K
/-- from the history -/
theorem sa_hj_h (hi : i < 3) (e1 : xus i = nI us) (e2 : xhs i = nI hs) (h : us < hs) (h2 : hs ≤ 240)
    (K : post 1 (xns, xnow, xjc, xtc, nI (240 * i + us), xkd, xp1, xp2, xp3, xac, xja, xji, xjn, xjs, xjt, xtj, xtt, xss, xsv, xak, xaj, xgc, xgk, xgn, xhs, xhg, xhn, xou, xah, xst, xpl, xft, xev, xdn, upd xus i (nI (us + 1)), xis, xvr, xhd, xtk, xpd, xpa, xpi, xun, xwj)) : wpX_hearJob post (xns, xnow, xjc, xtc, xhe, xkd, xp1, xp2, xp3, xac, xja, xji, xjn, xjs, xjt, xtj, xtt, xss, xsv, xak, xaj, xgc, xgk, xgn, xhs, xhg, xhn, xou, xah, xst, xpl, xft, xev, xdn, xus, xis, xvr, xhd, xtk, xpd, xpa, xpi, xun, xwj) (nI i) j := by
  have e : ¬ nI us = nI hs := by rw [nI_eq (by omega) (by omega)]; omega
  simp (disch := omega) only [wpX_hearJob, wX_hearJob_50, sa_in, nI_clamp, nI_1, nI_add, sa_m3, sa_m4, sa_m6, sa_m7, sa_m240, forall_eq, pk_us, true_and, and_true, true_implies, not_true_eq_false, not_false_eq_true, false_implies, eq_self, sa_n0, sa_n1, sa_m1, e1, e2, e]
  exact sa_hear1 hi e1 e2 h h2 ⟨rfl, K⟩
/-- not over -/
theorem sa_hj_n (hi : i < 3) (e1 : xus i = nI us) (e2 : xhs i = nI us) (hq : q < 90) (hs : xjs q < 2)
    (K : post 0 (xns, xnow, xjc, xtc, xhe, xkd, xp1, xp2, xp3, xac, xja, xji, xjn, xjs, xjt, xtj, xtt, xss, xsv, xak, xaj, xgc, xgk, xgn, xhs, xhg, xhn, xou, xah, xst, xpl, xft, xev, xdn, xus, xis, xvr, xhd, xtk, xpd, xpa, xpi, xun, xwj)) : wpX_hearJob post (xns, xnow, xjc, xtc, xhe, xkd, xp1, xp2, xp3, xac, xja, xji, xjn, xjs, xjt, xtj, xtt, xss, xsv, xak, xaj, xgc, xgk, xgn, xhs, xhg, xhn, xou, xah, xst, xpl, xft, xev, xdn, xus, xis, xvr, xhd, xtk, xpd, xpa, xpi, xun, xwj) (nI i) (nI q) := by
  simp (disch := omega) only [wpX_hearJob, wX_hearJob_50, wpX_isOver, sa_in, nI_clamp, nI_1, nI_add, sa_m3, sa_m4, sa_m6, sa_m7, sa_m240, forall_eq, pk_us, true_and, and_true, true_implies, not_true_eq_false, not_false_eq_true, false_implies, eq_self, sa_n0, sa_n1, sa_m1, e1, e2, hs]
  exact sa_hear0 hi e1 e2 ⟨rfl, K⟩
/-- over: it is written down -/
theorem sa_hj_w (hi : i < 3) (e1 : xus i = nI us) (e2 : xhs i = nI us) (h2 : us < 240) (hq : q < 90) (hs : ¬ xjs q < 2) (ha : a < 4) (ea : xja q = nI a)
    (hg : (xjs q = 2 → g = 1) ∧ (¬ xjs q = 2 → g = 0)) (ey : y = xji q * xac (7 * a + 5) + xac (7 * a + 6))
    (K : post 1 (xns, xnow, xjc, xtc, nI (240 * i + us), xkd, xp1, xp2, xp3, xac, xja, xji, xjn, xjs, xjt, xtj, xtt, xss, xsv, xak, xaj, xgc, xgk, xgn, upd xhs i (nI (us + 1)), upd xhg (240 * i + us) g, upd xhn (240 * i + us) y, upd xou i (-1), xah, xst, xpl, xft, xev, xdn, upd xus i (nI (us + 1)), xis, xvr, xhd, xtk, xpd, xpa, xpi, xun, xwj)) : wpX_hearJob post (xns, xnow, xjc, xtc, xhe, xkd, xp1, xp2, xp3, xac, xja, xji, xjn, xjs, xjt, xtj, xtt, xss, xsv, xak, xaj, xgc, xgk, xgn, xhs, xhg, xhn, xou, xah, xst, xpl, xft, xev, xdn, xus, xis, xvr, xhd, xtk, xpd, xpa, xpi, xun, xwj) (nI i) (nI q) := by
  simp (disch := omega) only [wpX_hearJob, wpX_isOver, wpX_resultOf, wpX_setting, wX_hearJob_46, sa_in, nI_clamp, nI_1, nI_add, sa_m3, sa_m4, sa_m6, sa_m7, sa_m240, forall_eq, pk_us, true_and, and_true, true_implies, not_true_eq_false, not_false_eq_true, false_implies, eq_self, sa_n0, sa_n1, sa_m1, e1, e2, hs, sa_k1, ea, sa_p5, sa_p6]
  have KK : ∀ g', g' = g → wpX_write (fun u => match u with | (xns', xnow', xjc', xtc', xhe', xkd', xp1', xp2', xp3', xac', xja', xji', xjn', xjs', xjt', xtj', xtt', xss', xsv', xak', xaj', xgc', xgk', xgn', xhs', xhg', xhn', xou', xah', xst', xpl', xft', xev', xdn', xus', xis', xvr', xhd', xtk', xpd', xpa', xpi', xun', xwj') => wX_hearJob_50 post (nI i) xns' xnow' xjc' xtc' xhe' xkd' xp1' xp2' xp3' xac' xja' xji' xjn' xjs' xjt' xtj' xtt' xss' xsv' xak' xaj' xgc' xgk' xgn' xhs' xhg' xhn' xou' xah' xst' xpl' xft' xev' xdn' xus' xis' xvr' xhd' xtk' xpd' xpa' xpi' xun' xwj') (xns, xnow, xjc, xtc, xhe, xkd, xp1, xp2, xp3, xac, xja, xji, xjn, xjs, xjt, xtj, xtt, xss, xsv, xak, xaj, xgc, xgk, xgn, xhs, xhg, xhn, xou, xah, xst, xpl, xft, xev, xdn, xus, xis, xvr, xhd, xtk, xpd, xpa, xpi, xun, xwj) (nI i) g' (xji q * xac (7 * a + 5) + xac (7 * a + 6)) := by
    intro g' eg
    rw [eg, ← ey]
    refine sa_write hi e2 h2 ?_
    refine sa_hear1 (us := us) (hs := us + 1) hi e1 pk_us (by omega) (by omega) ⟨rfl, K⟩
  exact br_c (fun e => KK 1 (hg.1 e).symm) (fun e => KK 0 (hg.2 e).symm)
/-- time: from the history -/
theorem sa_ht_h (hi : i < 3) (e1 : xus i = nI us) (e2 : xhs i = nI hs) (h : us < hs) (h2 : hs ≤ 240)
    (K : post 1 (xns, xnow, xjc, xtc, nI (240 * i + us), xkd, xp1, xp2, xp3, xac, xja, xji, xjn, xjs, xjt, xtj, xtt, xss, xsv, xak, xaj, xgc, xgk, xgn, xhs, xhg, xhn, xou, xah, xst, xpl, xft, xev, xdn, upd xus i (nI (us + 1)), xis, xvr, xhd, xtk, xpd, xpa, xpi, xun, xwj)) : wpX_hearTime post (xns, xnow, xjc, xtc, xhe, xkd, xp1, xp2, xp3, xac, xja, xji, xjn, xjs, xjt, xtj, xtt, xss, xsv, xak, xaj, xgc, xgk, xgn, xhs, xhg, xhn, xou, xah, xst, xpl, xft, xev, xdn, xus, xis, xvr, xhd, xtk, xpd, xpa, xpi, xun, xwj) (nI i) j := by
  have e : ¬ nI us = nI hs := by rw [nI_eq (by omega) (by omega)]; omega
  simp (disch := omega) only [wpX_hearTime, wX_hearTime_57, sa_in, nI_clamp, nI_1, nI_add, sa_m3, sa_m4, sa_m6, sa_m7, sa_m240, forall_eq, pk_us, true_and, and_true, true_implies, not_true_eq_false, not_false_eq_true, false_implies, eq_self, sa_n0, sa_n1, sa_m1, e1, e2, e]
  exact sa_hear1 hi e1 e2 h h2 ⟨rfl, K⟩
/-- open, as it was -/
theorem sa_ht_n (hi : i < 3) (e1 : xus i = nI us) (e2 : xhs i = nI us) (ho : ¬ xou i = -1) (ht : xnow < xou i)
    (K : post 0 (xns, xnow, xjc, xtc, xhe, xkd, xp1, xp2, xp3, xac, xja, xji, xjn, xjs, xjt, xtj, xtt, xss, xsv, xak, xaj, xgc, xgk, xgn, xhs, xhg, xhn, xou, xah, xst, xpl, xft, xev, xdn, xus, xis, xvr, xhd, xtk, xpd, xpa, xpi, xun, xwj)) : wpX_hearTime post (xns, xnow, xjc, xtc, xhe, xkd, xp1, xp2, xp3, xac, xja, xji, xjn, xjs, xjt, xtj, xtt, xss, xsv, xak, xaj, xgc, xgk, xgn, xhs, xhg, xhn, xou, xah, xst, xpl, xft, xev, xdn, xus, xis, xvr, xhd, xtk, xpd, xpa, xpi, xun, xwj) (nI i) j := by
  simp (disch := omega) only [wpX_hearTime, wX_hearTime_37, wX_hearTime_57, sa_in, nI_clamp, nI_1, nI_add, sa_m3, sa_m4, sa_m6, sa_m7, sa_m240, forall_eq, pk_us, true_and, and_true, true_implies, not_true_eq_false, not_false_eq_true, false_implies, eq_self, sa_n0, sa_n1, sa_m1, e1, e2, ho, ht]
  exact sa_hear0 hi e1 e2 ⟨rfl, K⟩
/-- opened -/
theorem sa_ht_o (hi : i < 3) (e1 : xus i = nI us) (e2 : xhs i = nI us) (ho : xou i = -1) (ht : xnow < xnow + j)
    (K : post 0 (xns, xnow, xjc, xtc, xhe, xkd, xp1, xp2, xp3, xac, xja, xji, xjn, xjs, xjt, xtj, xtt, xss, xsv, xak, xaj, xgc, xgk, xgn, xhs, xhg, xhn, upd xou i (xnow + j), xah, xst, xpl, xft, xev, xdn, xus, xis, xvr, xhd, xtk, xpd, xpa, xpi, xun, xwj)) : wpX_hearTime post (xns, xnow, xjc, xtc, xhe, xkd, xp1, xp2, xp3, xac, xja, xji, xjn, xjs, xjt, xtj, xtt, xss, xsv, xak, xaj, xgc, xgk, xgn, xhs, xhg, xhn, xou, xah, xst, xpl, xft, xev, xdn, xus, xis, xvr, xhd, xtk, xpd, xpa, xpi, xun, xwj) (nI i) j := by
  simp (disch := omega) only [wpX_hearTime, wX_hearTime_37, wX_hearTime_57, sa_in, nI_clamp, nI_1, nI_add, sa_m3, sa_m4, sa_m6, sa_m7, sa_m240, forall_eq, pk_us, true_and, and_true, true_implies, not_true_eq_false, not_false_eq_true, false_implies, eq_self, sa_n0, sa_n1, sa_m1, e1, e2, ho, ht]
  exact sa_hear0 hi e1 e2 ⟨rfl, K⟩
/-- its end has come -/
theorem sa_ht_w (hi : i < 3) (e1 : xus i = nI us) (e2 : xhs i = nI us) (h2 : us < 240) (ho : ¬ xou i = -1) (ht : ¬ xnow < xou i)
    (K : post 1 (xns, xnow, xjc, xtc, nI (240 * i + us), xkd, xp1, xp2, xp3, xac, xja, xji, xjn, xjs, xjt, xtj, xtt, xss, xsv, xak, xaj, xgc, xgk, xgn, upd xhs i (nI (us + 1)), upd xhg (240 * i + us) 0, upd xhn (240 * i + us) (-1), upd xou i (-1), xah, xst, xpl, xft, xev, xdn, upd xus i (nI (us + 1)), xis, xvr, xhd, xtk, xpd, xpa, xpi, xun, xwj)) : wpX_hearTime post (xns, xnow, xjc, xtc, xhe, xkd, xp1, xp2, xp3, xac, xja, xji, xjn, xjs, xjt, xtj, xtt, xss, xsv, xak, xaj, xgc, xgk, xgn, xhs, xhg, xhn, xou, xah, xst, xpl, xft, xev, xdn, xus, xis, xvr, xhd, xtk, xpd, xpa, xpi, xun, xwj) (nI i) j := by
  simp (disch := omega) only [wpX_hearTime, wX_hearTime_37, sa_in, nI_clamp, nI_1, nI_add, sa_m3, sa_m4, sa_m6, sa_m7, sa_m240, forall_eq, pk_us, true_and, and_true, true_implies, not_true_eq_false, not_false_eq_true, false_implies, eq_self, sa_n0, sa_n1, sa_m1, e1, e2, ho, ht]
  refine sa_write hi e2 h2 ?_
  exact sa_hear1 (us := us) (hs := us + 1) hi e1 pk_us (by omega) (by omega) ⟨rfl, K⟩
end
section
variable {xhe : Int32} {xss xsv xak xaj xgc xgk xgn xhs xhg xhn xou xah xst xpl xft xev xdn xus xis xvr xhd xtk xpd xpa xpi xun xwj : Nat → Int32} {kd p1 p2 p3 ac ja ji jn js jt tj tt : Nat → Int32} {i ns t jc tc pl pn us a b c : Nat} {R : Int32 → SX → Prop} {j g y xou1 : Int32} {xhs' xhg' xhn' xou' : Nat → Int32}
theorem sa_b_un (hi : i < 3) (H : ∀ post : Int32 → SX → Prop, post 0 (nI ns, nI t, nI jc, nI tc, xhe, kd, p1, p2, p3, ac, ja, ji, jn, js, jt, tj, tt, xss, xsv, xak, xaj, xgc, xgk, xgn, xhs, xhg, xhn, xou, xah, xst, xpl, xft, xev, xdn, xus, xis, xvr, xhd, xtk, xpd, xpa, xpi, xun, xwj) → wpX_hearJob post (nI ns, nI t, nI jc, nI tc, xhe, kd, p1, p2, p3, ac, ja, ji, jn, js, jt, tj, tt, xss, xsv, xak, xaj, xgc, xgk, xgn, xhs, xhg, xhn, xou, xah, xst, xpl, xft, xev, xdn, xus, xis, xvr, xhd, xtk, xpd, xpa, xpi, xun, xwj) (nI i) (xwj i)) (K : R 0 (nI ns, nI t, nI jc, nI tc, xhe, kd, p1, p2, p3, ac, ja, ji, jn, js, jt, tj, tt, xss, xsv, xak, xaj, xgc, xgk, xgn, xhs, xhg, xhn, xou, xah, xst, xpl, xft, xev, xdn, xus, xis, xvr, xhd, xtk, xpd, xpa, xpi, xun, xwj)) : wX_undoNext_88 R (nI i) (nI ns) (nI t) (nI jc) (nI tc) xhe kd p1 p2 p3 ac ja ji jn js jt tj tt xss xsv xak xaj xgc xgk xgn xhs xhg xhn xou xah xst xpl xft xev xdn xus xis xvr xhd xtk xpd xpa xpi xun xwj := by
  simp (disch := omega) only [wX_undoNext_88, wX_undoNext_130, sa_in, nI_clamp, nI_1, nI_add, sa_m3, sa_m4, sa_m6, sa_m7, sa_m240, forall_eq, pk_us, true_and, and_true, true_implies, not_true_eq_false, not_false_eq_true, false_implies, eq_self, sa_n0, sa_n1, sa_m1]
  refine H _ ?_
  simp (disch := omega) only [sa_in, nI_clamp, nI_1, nI_add, sa_m3, sa_m4, sa_m6, sa_m7, sa_m240, forall_eq, pk_us, true_and, and_true, true_implies, not_true_eq_false, not_false_eq_true, false_implies, eq_self, sa_n0, sa_n1, sa_m1]
  exact K
theorem sa_b_u1 (hi : i < 3) (H : ∀ post : Int32 → SX → Prop, post 1 (nI ns, nI t, nI jc, nI tc, nI (240 * i + us), kd, p1, p2, p3, ac, ja, ji, jn, js, jt, tj, tt, xss, xsv, xak, xaj, xgc, xgk, xgn, xhs', xhg', xhn', xou', xah, xst, xpl, xft, xev, xdn, upd xus i (nI (us + 1)), xis, xvr, xhd, xtk, xpd, xpa, xpi, xun, xwj) → wpX_hearJob post (nI ns, nI t, nI jc, nI tc, xhe, kd, p1, p2, p3, ac, ja, ji, jn, js, jt, tj, tt, xss, xsv, xak, xaj, xgc, xgk, xgn, xhs, xhg, xhn, xou, xah, xst, xpl, xft, xev, xdn, xus, xis, xvr, xhd, xtk, xpd, xpa, xpi, xun, xwj) (nI i) (xwj i)) (hu : us < 240) (hg : xhg' (240 * i + us) = g) (hst : xst i = 1) (h0 : ¬ g = 0) (K : R 1 (nI ns, nI t, nI jc, nI tc, nI (240 * i + us), kd, p1, p2, p3, ac, ja, ji, jn, js, jt, tj, tt, xss, xsv, xak, xaj, xgc, xgk, xgn, xhs', xhg', xhn', xou', xah, xst, xpl, xft, xev, xdn, upd xus i (nI (us + 1)), xis, xvr, xhd, xtk, xpd, xpa, xpi, xun, upd xwj i (-1))) : wX_undoNext_88 R (nI i) (nI ns) (nI t) (nI jc) (nI tc) xhe kd p1 p2 p3 ac ja ji jn js jt tj tt xss xsv xak xaj xgc xgk xgn xhs xhg xhn xou xah xst xpl xft xev xdn xus xis xvr xhd xtk xpd xpa xpi xun xwj := by
  simp (disch := omega) only [wX_undoNext_88, wX_undoNext_130, sa_in, nI_clamp, nI_1, nI_add, sa_m3, sa_m4, sa_m6, sa_m7, sa_m240, forall_eq, pk_us, true_and, and_true, true_implies, not_true_eq_false, not_false_eq_true, false_implies, eq_self, sa_n0, sa_n1, sa_m1]
  refine H _ ?_
  simp (disch := omega) only [sa_in, nI_clamp, nI_1, nI_add, sa_m3, sa_m4, sa_m6, sa_m7, sa_m240, forall_eq, pk_us, true_and, and_true, true_implies, not_true_eq_false, not_false_eq_true, false_implies, eq_self, sa_n0, sa_n1, sa_m1, hg, h0, hst, sa_k1]
  exact K
theorem sa_b_u0 (hi : i < 3) (H : ∀ post : Int32 → SX → Prop, post 1 (nI ns, nI t, nI jc, nI tc, nI (240 * i + us), kd, p1, p2, p3, ac, ja, ji, jn, js, jt, tj, tt, xss, xsv, xak, xaj, xgc, xgk, xgn, xhs', xhg', xhn', xou', xah, xst, xpl, xft, xev, xdn, upd xus i (nI (us + 1)), xis, xvr, xhd, xtk, xpd, xpa, xpi, xun, xwj) → wpX_hearJob post (nI ns, nI t, nI jc, nI tc, xhe, kd, p1, p2, p3, ac, ja, ji, jn, js, jt, tj, tt, xss, xsv, xak, xaj, xgc, xgk, xgn, xhs, xhg, xhn, xou, xah, xst, xpl, xft, xev, xdn, xus, xis, xvr, xhd, xtk, xpd, xpa, xpi, xun, xwj) (nI i) (xwj i)) (hu : us < 240) (hg : xhg' (240 * i + us) = g) (h0 : g = 0) (K : R 0 (nI ns, nI t, nI jc, nI tc, nI (240 * i + us), kd, p1, p2, p3, ac, ja, ji, jn, js, jt, tj, tt, xss, xsv, xak, xaj, xgc, xgk, xgn, xhs', xhg', xhn', xou', xah, upd xst i 4, xpl, xft, upd xev i 0, xdn, upd xus i (nI (us + 1)), xis, xvr, xhd, xtk, xpd, xpa, xpi, xun, upd xwj i (-1))) : wX_undoNext_88 R (nI i) (nI ns) (nI t) (nI jc) (nI tc) xhe kd p1 p2 p3 ac ja ji jn js jt tj tt xss xsv xak xaj xgc xgk xgn xhs xhg xhn xou xah xst xpl xft xev xdn xus xis xvr xhd xtk xpd xpa xpi xun xwj := by
  simp (disch := omega) only [wX_undoNext_88, wX_undoNext_130, sa_in, nI_clamp, nI_1, nI_add, sa_m3, sa_m4, sa_m6, sa_m7, sa_m240, forall_eq, pk_us, true_and, and_true, true_implies, not_true_eq_false, not_false_eq_true, false_implies, eq_self, sa_n0, sa_n1, sa_m1]
  refine H _ ?_
  simp (disch := omega) only [wpX_end, sa_in, nI_clamp, nI_1, nI_add, sa_m3, sa_m4, sa_m6, sa_m7, sa_m240, forall_eq, pk_us, true_and, and_true, true_implies, not_true_eq_false, not_false_eq_true, false_implies, eq_self, sa_n0, sa_n1, sa_m1, hg, h0, sa_k1, sa_k4]
  exact K
theorem sa_b_dn {z : Int32} (hi : i < 3) (H : ∀ post : Int32 → SX → Prop, post 0 (nI ns, nI t, nI jc, nI tc, xhe, kd, p1, p2, p3, ac, ja, ji, jn, js, jt, tj, tt, xss, xsv, xak, xaj, xgc, xgk, xgn, xhs, xhg, xhn, xou, xah, xst, xpl, xft, xev, xdn, xus, xis, xvr, xhd, xtk, xpd, xpa, xpi, xun, xwj) → wpX_hearJob post (nI ns, nI t, nI jc, nI tc, xhe, kd, p1, p2, p3, ac, ja, ji, jn, js, jt, tj, tt, xss, xsv, xak, xaj, xgc, xgk, xgn, xhs, xhg, xhn, xou, xah, xst, xpl, xft, xev, xdn, xus, xis, xvr, xhd, xtk, xpd, xpa, xpi, xun, xwj) (nI i) (xwj i)) (K : R 0 (nI ns, nI t, nI jc, nI tc, xhe, kd, p1, p2, p3, ac, ja, ji, jn, js, jt, tj, tt, xss, xsv, xak, xaj, xgc, xgk, xgn, xhs, xhg, xhn, xou, xah, xst, xpl, xft, xev, xdn, xus, xis, xvr, xhd, xtk, xpd, xpa, xpi, xun, xwj)) : wX_waitForJob_121 R (nI i) (nI pl) z (nI ns) (nI t) (nI jc) (nI tc) xhe kd p1 p2 p3 ac ja ji jn js jt tj tt xss xsv xak xaj xgc xgk xgn xhs xhg xhn xou xah xst xpl xft xev xdn xus xis xvr xhd xtk xpd xpa xpi xun xwj := by
  simp (disch := omega) only [wX_waitForJob_121, sa_in, nI_clamp, nI_1, nI_add, sa_m3, sa_m4, sa_m6, sa_m7, sa_m240, forall_eq, pk_us, true_and, and_true, true_implies, not_true_eq_false, not_false_eq_true, false_implies, eq_self, sa_n0, sa_n1, sa_m1]
  refine H _ ?_
  simp (disch := omega) only [sa_in, nI_clamp, nI_1, nI_add, sa_m3, sa_m4, sa_m6, sa_m7, sa_m240, forall_eq, pk_us, true_and, and_true, true_implies, not_true_eq_false, not_false_eq_true, false_implies, eq_self, sa_n0, sa_n1, sa_m1]
  exact K
theorem sa_b_d1 (hi : i < 3) (hp : pl < 20) (hpl : xpl i = nI pl) (H : ∀ post : Int32 → SX → Prop, post 1 (nI ns, nI t, nI jc, nI tc, nI (240 * i + us), kd, p1, p2, p3, ac, ja, ji, jn, js, jt, tj, tt, xss, xsv, xak, xaj, xgc, xgk, xgn, xhs', xhg', xhn', xou', xah, xst, xpl, xft, xev, xdn, upd xus i (nI (us + 1)), xis, xvr, xhd, xtk, xpd, xpa, xpi, xun, xwj) → wpX_hearJob post (nI ns, nI t, nI jc, nI tc, xhe, kd, p1, p2, p3, ac, ja, ji, jn, js, jt, tj, tt, xss, xsv, xak, xaj, xgc, xgk, xgn, xhs, xhg, xhn, xou, xah, xst, xpl, xft, xev, xdn, xus, xis, xvr, xhd, xtk, xpd, xpa, xpi, xun, xwj) (nI i) (xwj i)) (hu : us < 240) (hg : xhg' (240 * i + us) = g) (h1 : g = 1) (hy : xhn' (240 * i + us) = y) (hc : c < 4) (e3 : p3 pl = nI c)
    (K : R 1 (nI ns, nI t, nI jc, nI tc, nI (240 * i + us), kd, p1, p2, p3, ac, ja, ji, jn, js, jt, tj, tt, xss, xsv, xak, xaj, xgc, xgk, xgn, xhs', xhg', xhn', xou', xah, xst, upd xpl i (nI (pl + 1)), xft, xev, xdn, upd xus i (nI (us + 1)), xis, upd xvr (4 * i + c) y, xhd, xtk, xpd, xpa, xpi, xun, upd xwj i (-1))) : wX_waitForJob_121 R (nI i) (nI pl) 1 (nI ns) (nI t) (nI jc) (nI tc) xhe kd p1 p2 p3 ac ja ji jn js jt tj tt xss xsv xak xaj xgc xgk xgn xhs xhg xhn xou xah xst xpl xft xev xdn xus xis xvr xhd xtk xpd xpa xpi xun xwj := by
  simp (disch := omega) only [wX_waitForJob_121, sa_in, nI_clamp, nI_1, nI_add, sa_m3, sa_m4, sa_m6, sa_m7, sa_m240, forall_eq, pk_us, true_and, and_true, true_implies, not_true_eq_false, not_false_eq_true, false_implies, eq_self, sa_n0, sa_n1, sa_m1]
  refine H _ ?_
  simp (disch := omega) only [wX_waitForJob_166, wX_waitForJob_187, wpX_useJob, wpX_set, sa_in, nI_clamp, nI_1, nI_add, sa_m3, sa_m4, sa_m6, sa_m7, sa_m240, forall_eq, pk_us, true_and, and_true, true_implies, not_true_eq_false, not_false_eq_true, false_implies, eq_self, sa_n0, sa_n1, sa_m1, hg, h1, hy, e3, hpl, sa_k1]
  exact K
theorem sa_b_d0 (hi : i < 3) (hp : pl < 20) (hpl : xpl i = nI pl) (hpd : xpd i = nI pn) (H : ∀ post : Int32 → SX → Prop, post 1 (nI ns, nI t, nI jc, nI tc, nI (240 * i + us), kd, p1, p2, p3, ac, ja, ji, jn, js, jt, tj, tt, xss, xsv, xak, xaj, xgc, xgk, xgn, xhs', xhg', xhn', xou', xah, xst, xpl, xft, xev, xdn, upd xus i (nI (us + 1)), xis, xvr, xhd, xtk, xpd, xpa, xpi, xun, xwj) → wpX_hearJob post (nI ns, nI t, nI jc, nI tc, xhe, kd, p1, p2, p3, ac, ja, ji, jn, js, jt, tj, tt, xss, xsv, xak, xaj, xgc, xgk, xgn, xhs, xhg, xhn, xou, xah, xst, xpl, xft, xev, xdn, xus, xis, xvr, xhd, xtk, xpd, xpa, xpi, xun, xwj) (nI i) (xwj i)) (hu : us < 240) (hg : xhg' (240 * i + us) = g) (h1 : ¬ g = 1)
    (K : R 1 (nI ns, nI t, nI jc, nI tc, nI (240 * i + us), kd, p1, p2, p3, ac, ja, ji, jn, js, jt, tj, tt, xss, xsv, xak, xaj, xgc, xgk, xgn, xhs', xhg', xhn', xou', xah, xst, xpl, upd xft i (nI pl), xev, xdn, upd xus i (nI (us + 1)), xis, xvr, xhd, xtk, xpd, xpa, xpi, upd xun i (nI pn), upd (upd xwj i (-1)) i (-1))) : wX_waitForJob_121 R (nI i) (nI pl) 1 (nI ns) (nI t) (nI jc) (nI tc) xhe kd p1 p2 p3 ac ja ji jn js jt tj tt xss xsv xak xaj xgc xgk xgn xhs xhg xhn xou xah xst xpl xft xev xdn xus xis xvr xhd xtk xpd xpa xpi xun xwj := by
  simp (disch := omega) only [wX_waitForJob_121, sa_in, nI_clamp, nI_1, nI_add, sa_m3, sa_m4, sa_m6, sa_m7, sa_m240, forall_eq, pk_us, true_and, and_true, true_implies, not_true_eq_false, not_false_eq_true, false_implies, eq_self, sa_n0, sa_n1, sa_m1]
  refine H _ ?_
  simp (disch := omega) only [wX_waitForJob_166, wX_waitForJob_187, wpX_useJob, wpX_fail, sa_in, nI_clamp, nI_1, nI_add, sa_m3, sa_m4, sa_m6, sa_m7, sa_m240, forall_eq, pk_us, true_and, and_true, true_implies, not_true_eq_false, not_false_eq_true, false_implies, eq_self, sa_n0, sa_n1, sa_m1, hg, h1, hpl, hpd, sa_k1]
  exact K
theorem sa_b_a1 (hi : i < 3) (hp : pl < 20) (hpl : xpl i = nI pl) (H : ∀ post : Int32 → SX → Prop, post 1 (nI ns, nI t, nI jc, nI tc, nI (240 * i + us), kd, p1, p2, p3, ac, ja, ji, jn, js, jt, tj, tt, xss, xsv, xak, xaj, xgc, xgk, xgn, xhs', xhg', xhn', xou', xah, xst, xpl, xft, xev, xdn, upd xus i (nI (us + 1)), xis, xvr, xhd, xtk, xpd, xpa, xpi, xun, xwj) → wpX_hearJob post (nI ns, nI t, nI jc, nI tc, xhe, kd, p1, p2, p3, ac, ja, ji, jn, js, jt, tj, tt, xss, xsv, xak, xaj, xgc, xgk, xgn, xhs, xhg, xhn, xou, xah, xst, xpl, xft, xev, xdn, xus, xis, xvr, xhd, xtk, xpd, xpa, xpi, xun, xwj) (nI i) (xwj i)) (hu : us < 240) (hg : xhg' (240 * i + us) = g) (h1 : g = 1) (hy : xhn' (240 * i + us) = y) (ha : a < 3) (hb : b < 4) (e1 : p1 pl = nI a) (e2 : p2 pl = nI b)
    (K : R 1 (nI ns, nI t, nI jc, nI tc, nI (240 * i + us), kd, p1, p2, p3, ac, ja, ji, jn, js, jt, tj, tt, xss, xsv, xak, xaj, xgc, xgk, xgn, xhs', xhg', xhn', xou', xah, xst, upd xpl i (nI (pl + 1)), xft, xev, xdn, upd xus i (nI (us + 1)), xis, upd xvr (4 * i + b) y, upd xhd (3 * i + a) (-1), xtk, xpd, xpa, xpi, xun, upd xwj i (-1))) : wX_waitForJob_121 R (nI i) (nI pl) 0 (nI ns) (nI t) (nI jc) (nI tc) xhe kd p1 p2 p3 ac ja ji jn js jt tj tt xss xsv xak xaj xgc xgk xgn xhs xhg xhn xou xah xst xpl xft xev xdn xus xis xvr xhd xtk xpd xpa xpi xun xwj := by
  simp (disch := omega) only [wX_waitForJob_121, sa_in, nI_clamp, nI_1, nI_add, sa_m3, sa_m4, sa_m6, sa_m7, sa_m240, forall_eq, pk_us, true_and, and_true, true_implies, not_true_eq_false, not_false_eq_true, false_implies, eq_self, sa_n0, sa_n1, sa_m1]
  refine H _ ?_
  simp (disch := omega) only [wX_waitForJob_166, wX_waitForJob_187, wpX_useJob, wpX_set, sa_in, nI_clamp, nI_1, nI_add, sa_m3, sa_m4, sa_m6, sa_m7, sa_m240, forall_eq, pk_us, true_and, and_true, true_implies, not_true_eq_false, not_false_eq_true, false_implies, eq_self, sa_n0, sa_n1, sa_m1, hg, h1, hy, e1, e2, hpl, sa_k1]
  exact K
theorem sa_b_a0 (hi : i < 3) (hp : pl < 20) (hpl : xpl i = nI pl) (hpd : xpd i = nI pn) (H : ∀ post : Int32 → SX → Prop, post 1 (nI ns, nI t, nI jc, nI tc, nI (240 * i + us), kd, p1, p2, p3, ac, ja, ji, jn, js, jt, tj, tt, xss, xsv, xak, xaj, xgc, xgk, xgn, xhs', xhg', xhn', xou', xah, xst, xpl, xft, xev, xdn, upd xus i (nI (us + 1)), xis, xvr, xhd, xtk, xpd, xpa, xpi, xun, xwj) → wpX_hearJob post (nI ns, nI t, nI jc, nI tc, xhe, kd, p1, p2, p3, ac, ja, ji, jn, js, jt, tj, tt, xss, xsv, xak, xaj, xgc, xgk, xgn, xhs, xhg, xhn, xou, xah, xst, xpl, xft, xev, xdn, xus, xis, xvr, xhd, xtk, xpd, xpa, xpi, xun, xwj) (nI i) (xwj i)) (hu : us < 240) (hg : xhg' (240 * i + us) = g) (h1 : ¬ g = 1) (ha : a < 3) (e1 : p1 pl = nI a)
    (K : R 1 (nI ns, nI t, nI jc, nI tc, nI (240 * i + us), kd, p1, p2, p3, ac, ja, ji, jn, js, jt, tj, tt, xss, xsv, xak, xaj, xgc, xgk, xgn, xhs', xhg', xhn', xou', xah, xst, xpl, upd xft i (nI pl), xev, xdn, upd xus i (nI (us + 1)), xis, xvr, upd xhd (3 * i + a) (-1), xtk, xpd, xpa, xpi, upd xun i (nI pn), upd (upd xwj i (-1)) i (-1))) : wX_waitForJob_121 R (nI i) (nI pl) 0 (nI ns) (nI t) (nI jc) (nI tc) xhe kd p1 p2 p3 ac ja ji jn js jt tj tt xss xsv xak xaj xgc xgk xgn xhs xhg xhn xou xah xst xpl xft xev xdn xus xis xvr xhd xtk xpd xpa xpi xun xwj := by
  simp (disch := omega) only [wX_waitForJob_121, sa_in, nI_clamp, nI_1, nI_add, sa_m3, sa_m4, sa_m6, sa_m7, sa_m240, forall_eq, pk_us, true_and, and_true, true_implies, not_true_eq_false, not_false_eq_true, false_implies, eq_self, sa_n0, sa_n1, sa_m1]
  refine H _ ?_
  simp (disch := omega) only [wX_waitForJob_166, wX_waitForJob_187, wpX_useJob, wpX_fail, sa_in, nI_clamp, nI_1, nI_add, sa_m3, sa_m4, sa_m6, sa_m7, sa_m240, forall_eq, pk_us, true_and, and_true, true_implies, not_true_eq_false, not_false_eq_true, false_implies, eq_self, sa_n0, sa_n1, sa_m1, hg, h1, e1, hpl, hpd, sa_k1]
  exact K
/-- time -/
theorem sa_b_s0 {z : Int32} (hi : i < 3) (H : ∀ post : Int32 → SX → Prop, post 0 (nI ns, nI t, nI jc, nI tc, xhe, kd, p1, p2, p3, ac, ja, ji, jn, js, jt, tj, tt, xss, xsv, xak, xaj, xgc, xgk, xgn, xhs, xhg, xhn, xou', xah, xst, xpl, xft, xev, xdn, xus, xis, xvr, xhd, xtk, xpd, xpa, xpi, xun, xwj) → wpX_hearTime post (nI ns, nI t, nI jc, nI tc, xhe, kd, p1, p2, p3, ac, ja, ji, jn, js, jt, tj, tt, xss, xsv, xak, xaj, xgc, xgk, xgn, xhs, xhg, xhn, xou, xah, xst, xpl, xft, xev, xdn, xus, xis, xvr, xhd, xtk, xpd, xpa, xpi, xun, xwj) (nI i) z) (K : R 0 (nI ns, nI t, nI jc, nI tc, xhe, kd, p1, p2, p3, ac, ja, ji, jn, js, jt, tj, tt, xss, xsv, xak, xaj, xgc, xgk, xgn, xhs, xhg, xhn, xou', xah, xst, xpl, xft, xev, xdn, xus, xis, xvr, xhd, xtk, xpd, xpa, xpi, xun, xwj)) : wX_waitingStep_122 R (nI i) (nI pl) 7 z (nI ns) (nI t) (nI jc) (nI tc) xhe kd p1 p2 p3 ac ja ji jn js jt tj tt xss xsv xak xaj xgc xgk xgn xhs xhg xhn xou xah xst xpl xft xev xdn xus xis xvr xhd xtk xpd xpa xpi xun xwj := by
  simp (disch := omega) only [wX_waitingStep_122, sa_in, nI_clamp, nI_1, nI_add, sa_m3, sa_m4, sa_m6, sa_m7, sa_m240, forall_eq, pk_us, true_and, and_true, true_implies, not_true_eq_false, not_false_eq_true, false_implies, eq_self, sa_n0, sa_n1, sa_m1]
  refine H _ ?_
  simp (disch := omega) only [wX_waitingStep_157, sa_in, nI_clamp, nI_1, nI_add, sa_m3, sa_m4, sa_m6, sa_m7, sa_m240, forall_eq, pk_us, true_and, and_true, true_implies, not_true_eq_false, not_false_eq_true, false_implies, eq_self, sa_n0, sa_n1, sa_m1]
  exact K
theorem sa_b_s1 {z : Int32} (hi : i < 3) (hp : pl < 20) (H : ∀ post : Int32 → SX → Prop, post 1 (nI ns, nI t, nI jc, nI tc, nI (240 * i + us), kd, p1, p2, p3, ac, ja, ji, jn, js, jt, tj, tt, xss, xsv, xak, xaj, xgc, xgk, xgn, xhs', xhg', xhn', xou', xah, xst, xpl, xft, xev, xdn, upd xus i (nI (us + 1)), xis, xvr, xhd, xtk, xpd, xpa, xpi, xun, xwj) → wpX_hearTime post (nI ns, nI t, nI jc, nI tc, xhe, kd, p1, p2, p3, ac, ja, ji, jn, js, jt, tj, tt, xss, xsv, xak, xaj, xgc, xgk, xgn, xhs, xhg, xhn, xou, xah, xst, xpl, xft, xev, xdn, xus, xis, xvr, xhd, xtk, xpd, xpa, xpi, xun, xwj) (nI i) z) (K : R 1 (nI ns, nI t, nI jc, nI tc, nI (240 * i + us), kd, p1, p2, p3, ac, ja, ji, jn, js, jt, tj, tt, xss, xsv, xak, xaj, xgc, xgk, xgn, xhs', xhg', xhn', xou', xah, xst, upd xpl i (nI (pl + 1)), xft, xev, xdn, upd xus i (nI (us + 1)), xis, xvr, xhd, xtk, xpd, xpa, xpi, xun, upd xwj i (-1))) : wX_waitingStep_122 R (nI i) (nI pl) 7 z (nI ns) (nI t) (nI jc) (nI tc) xhe kd p1 p2 p3 ac ja ji jn js jt tj tt xss xsv xak xaj xgc xgk xgn xhs xhg xhn xou xah xst xpl xft xev xdn xus xis xvr xhd xtk xpd xpa xpi xun xwj := by
  simp (disch := omega) only [wX_waitingStep_122, sa_in, nI_clamp, nI_1, nI_add, sa_m3, sa_m4, sa_m6, sa_m7, sa_m240, forall_eq, pk_us, true_and, and_true, true_implies, not_true_eq_false, not_false_eq_true, false_implies, eq_self, sa_n0, sa_n1, sa_m1]
  refine H _ ?_
  simp (disch := omega) only [wX_waitingStep_132, wX_waitingStep_157, sa_in, nI_clamp, nI_1, nI_add, sa_m3, sa_m4, sa_m6, sa_m7, sa_m240, forall_eq, pk_us, true_and, and_true, true_implies, not_true_eq_false, not_false_eq_true, false_implies, eq_self, sa_n0, sa_n1, sa_m1, sa_k1, sa_k7]
  exact K
/-- what follows a signal's wait -/
theorem sa_b_g0 (K : R 0 (nI ns, nI t, nI jc, nI tc, xhe, kd, p1, p2, p3, ac, ja, ji, jn, js, jt, tj, tt, xss, xsv, xak, xaj, xgc, xgk, xgn, xhs, xhg, xhn, xou, xah, xst, xpl, xft, xev, xdn, xus, xis, xvr, xhd, xtk, xpd, xpa, xpi, xun, xwj)) : wX_waitingStep_157 R (nI i) (nI pl) 10 0 (nI ns) (nI t) (nI jc) (nI tc) xhe kd p1 p2 p3 ac ja ji jn js jt tj tt xss xsv xak xaj xgc xgk xgn xhs xhg xhn xou xah xst xpl xft xev xdn xus xis xvr xhd xtk xpd xpa xpi xun xwj := by
  simp (disch := omega) only [wX_waitingStep_157, sa_in, nI_clamp, nI_1, nI_add, sa_m3, sa_m4, sa_m6, sa_m7, sa_m240, forall_eq, pk_us, true_and, and_true, true_implies, not_true_eq_false, not_false_eq_true, false_implies, eq_self, sa_n0, sa_n1, sa_m1]
  exact K
theorem sa_b_gb (hi : i < 3) (hp : pl < 20) (hu : us < 240) (hg : xhg (240 * i + us) = g) (h1 : ¬ g = 1) (hb : b < 4) (e2 : p2 pl = nI b)
    (K : R 1 (nI ns, nI t, nI jc, nI tc, nI (240 * i + us), kd, p1, p2, p3, ac, ja, ji, jn, js, jt, tj, tt, xss, xsv, xak, xaj, xgc, xgk, xgn, xhs, xhg, xhn, xou, xah, xst, upd xpl i (nI (pl + 1)), xft, xev, xdn, xus, xis, upd xvr (4 * i + b) (-1), xhd, xtk, xpd, xpa, xpi, xun, upd xwj i (-1))) : wX_waitingStep_157 R (nI i) (nI pl) 10 1 (nI ns) (nI t) (nI jc) (nI tc) (nI (240 * i + us)) kd p1 p2 p3 ac ja ji jn js jt tj tt xss xsv xak xaj xgc xgk xgn xhs xhg xhn xou xah xst xpl xft xev xdn xus xis xvr xhd xtk xpd xpa xpi xun xwj := by
  simp (disch := omega) only [wX_waitingStep_157, wpX_takeSignal, wpX_set, sa_in, nI_clamp, nI_1, nI_add, sa_m3, sa_m4, sa_m6, sa_m7, sa_m240, forall_eq, pk_us, true_and, and_true, true_implies, not_true_eq_false, not_false_eq_true, false_implies, eq_self, sa_n0, sa_n1, sa_m1, hg, h1, e2, sa_k1]
  exact K
theorem sa_b_gg {q : Nat} (hi : i < 3) (hp : pl < 20) (hu : us < 240) (hg : xhg (240 * i + us) = 1) (hq : q < 6) (hy : xhn (240 * i + us) = nI q) (hb : b < 4) (e2 : p2 pl = nI b)
    (K : R 1 (nI ns, nI t, nI jc, nI tc, nI (240 * i + us), kd, p1, p2, p3, ac, ja, ji, jn, js, jt, tj, tt, xss, xsv, xak, xaj, xgc, xgk, xgn, xhs, xhg, xhn, xou, xah, xst, upd xpl i (nI (pl + 1)), xft, xev, xdn, xus, xis, upd xvr (4 * i + b) (xgn (6 * i + q)), xhd, upd xtk (6 * i + q) 1, xpd, xpa, xpi, xun, upd xwj i (-1))) : wX_waitingStep_157 R (nI i) (nI pl) 10 1 (nI ns) (nI t) (nI jc) (nI tc) (nI (240 * i + us)) kd p1 p2 p3 ac ja ji jn js jt tj tt xss xsv xak xaj xgc xgk xgn xhs xhg xhn xou xah xst xpl xft xev xdn xus xis xvr xhd xtk xpd xpa xpi xun xwj := by
  simp (disch := omega) only [wX_waitingStep_157, wpX_takeSignal, wpX_set, sa_in, nI_clamp, nI_1, nI_add, sa_m3, sa_m4, sa_m6, sa_m7, sa_m240, forall_eq, pk_us, true_and, and_true, true_implies, not_true_eq_false, not_false_eq_true, false_implies, eq_self, sa_n0, sa_n1, sa_m1, hg, hy, e2, sa_k1]
  exact K
end
end
section
/-! the component does the steps that take nothing from outside -/
section
variable {xhe : Int32} {xss xsv xak xaj xgc xgk xgn xhs xhg xhn xou xah xst xpl xft xev xdn xus xis xvr xhd xtk xpd xpa xpi xun xwj : Nat → Int32} {ns : Nat} {kd p1 p2 p3 ac : Nat → Int32} {jc tc : Nat} {ja ji jn js jt tj tt : Nat → Int32} {sv ou : Int32} {ak gc hs : Nat} {aj gk gn hg hn : Nat → Int32} {st ev wj : Int32} {pl dn us is pn : Nat} {vr hd tk pa pi : Nat → Int32} {un : Bool} {i t a b c : Nat}
theorem sa_G_done (hi : i < 3) (W : sa_WX (ns, kd, p1, p2, p3, ac) t (jc, ja, ji, jn, js, jt, tc, tj, tt) (nI ns, nI t, nI jc, nI tc, xhe, kd, p1, p2, p3, ac, ja, ji, jn, js, jt, tj, tt, xss, xsv, xak, xaj, xgc, xgk, xgn, xhs, xhg, xhn, xou, xah, xst, xpl, xft, xev, xdn, xus, xis, xvr, xhd, xtk, xpd, xpa, xpi, xun, xwj)) (X : sa_LX i (sv, ak, aj, gc, gk, gn, hs, hg, hn, ou) (nI ns, nI t, nI jc, nI tc, xhe, kd, p1, p2, p3, ac, ja, ji, jn, js, jt, tj, tt, xss, xsv, xak, xaj, xgc, xgk, xgn, xhs, xhg, xhn, xou, xah, xst, xpl, xft, xev, xdn, xus, xis, xvr, xhd, xtk, xpd, xpa, xpi, xun, xwj)) (H : sa_HX i (1, pl, ev, dn, us, is, vr, hd, tk, pn, pa, pi, false, -1) (nI ns, nI t, nI jc, nI tc, xhe, kd, p1, p2, p3, ac, ja, ji, jn, js, jt, tj, tt, xss, xsv, xak, xaj, xgc, xgk, xgn, xhs, xhg, xhn, xou, xah, xst, xpl, xft, xev, xdn, xus, xis, xvr, xhd, xtk, xpd, xpa, xpi, xun, xwj)) (hp : ns ≤ pl) : sa_GO i (ns, kd, p1, p2, p3, ac) t (jc, ja, ji, jn, js, jt, tc, tj, tt) (sv, ak, aj, gc, gk, gn, hs, hg, hn, ou) (1, pl, ev, dn, us, is, vr, hd, tk, pn, pa, pi, false, -1) (2, pl, 0, dn, us, is, vr, hd, tk, pn, pa, pi, false, -1) (nI ns, nI t, nI jc, nI tc, xhe, kd, p1, p2, p3, ac, ja, ji, jn, js, jt, tj, tt, xss, xsv, xak, xaj, xgc, xgk, xgn, xhs, xhg, xhn, xou, xah, xst, xpl, xft, xev, xdn, xus, xis, xvr, xhd, xtk, xpd, xpa, xpi, xun, xwj) := by
  obtain ⟨⟨w1, w2, w3, w4⟩, _⟩ := W
  obtain ⟨⟨b1, b2, b3, b4, b5⟩, c1, c2, c3, c4, c5, c6, c7, c8, c9, c10, c11, c12, c13, c14, c15⟩ := H
  obtain ⟨⟨l1, l2, l3⟩, d1, d2, d3, d4, d5, d6, d7, d8, d9, d10⟩ := X
  exact ⟨(nI ns, nI t, nI jc, nI tc, xhe, kd, p1, p2, p3, ac, ja, ji, jn, js, jt, tj, tt, xss, xsv, xak, xaj, xgc, xgk, xgn, xhs, xhg, xhn, xou, xah, upd xst i 2, xpl, xft, upd xev i 0, xdn, xus, xis, xvr, xhd, xtk, xpd, xpa, xpi, xun, xwj), ⟨⟨w1, w2, by omega, w4⟩, rfl, rfl, rfl, rfl, rfl, rfl, rfl, rfl, rfl, rfl, rfl, rfl, rfl, rfl, rfl, rfl⟩, ⟨⟨by omega, by omega, by omega⟩, d1, d2, d3, d4, d5, d6, d7, d8, d9, d10⟩, ⟨⟨by omega, by omega, by omega, by omega, by omega⟩, pk_us, c2, c3, pk_us, c5, c6, c7, c8, c9, c10, c11, c12, c13, c14, c15⟩, ⟨⟨rfl, rfl⟩, fun i' hi' hne => ⟨rfl, rfl, fun _ _ => rfl, rfl, fun _ _ => rfl, fun _ _ => rfl, rfl, fun _ _ => rfl, fun _ _ => rfl, rfl, pk_un hne, rfl, rfl, pk_un hne, rfl, rfl, rfl, fun _ _ => rfl, fun _ _ => rfl, fun _ _ => rfl, rfl, fun _ _ => rfl, fun _ _ => rfl, rfl, rfl⟩⟩,
    sa_go0 rfl rfl (show (2 : Int32) ≠ 1 from by decide) (fun Q K => sa_x_done hi w1 c14 c2 hp b1 K)⟩
theorem sa_G_brk (hi : i < 3) (W : sa_WX (ns, kd, p1, p2, p3, ac) t (jc, ja, ji, jn, js, jt, tc, tj, tt) (nI ns, nI t, nI jc, nI tc, xhe, kd, p1, p2, p3, ac, ja, ji, jn, js, jt, tj, tt, xss, xsv, xak, xaj, xgc, xgk, xgn, xhs, xhg, xhn, xou, xah, xst, xpl, xft, xev, xdn, xus, xis, xvr, xhd, xtk, xpd, xpa, xpi, xun, xwj)) (X : sa_LX i (sv, ak, aj, gc, gk, gn, hs, hg, hn, ou) (nI ns, nI t, nI jc, nI tc, xhe, kd, p1, p2, p3, ac, ja, ji, jn, js, jt, tj, tt, xss, xsv, xak, xaj, xgc, xgk, xgn, xhs, xhg, xhn, xou, xah, xst, xpl, xft, xev, xdn, xus, xis, xvr, xhd, xtk, xpd, xpa, xpi, xun, xwj)) (H : sa_HX i (1, pl, ev, dn, us, is, vr, hd, tk, pn, pa, pi, false, -1) (nI ns, nI t, nI jc, nI tc, xhe, kd, p1, p2, p3, ac, ja, ji, jn, js, jt, tj, tt, xss, xsv, xak, xaj, xgc, xgk, xgn, xhs, xhg, xhn, xou, xah, xst, xpl, xft, xev, xdn, xus, xis, xvr, xhd, xtk, xpd, xpa, xpi, xun, xwj)) (hp : pl < ns) (hq : dn = 200) : sa_GO i (ns, kd, p1, p2, p3, ac) t (jc, ja, ji, jn, js, jt, tc, tj, tt) (sv, ak, aj, gc, gk, gn, hs, hg, hn, ou) (1, pl, ev, dn, us, is, vr, hd, tk, pn, pa, pi, false, -1) (5, pl, 0, dn, us, is, vr, hd, tk, pn, pa, pi, false, -1) (nI ns, nI t, nI jc, nI tc, xhe, kd, p1, p2, p3, ac, ja, ji, jn, js, jt, tj, tt, xss, xsv, xak, xaj, xgc, xgk, xgn, xhs, xhg, xhn, xou, xah, xst, xpl, xft, xev, xdn, xus, xis, xvr, xhd, xtk, xpd, xpa, xpi, xun, xwj) := by
  obtain ⟨⟨w1, w2, w3, w4⟩, _⟩ := W
  obtain ⟨⟨b1, b2, b3, b4, b5⟩, c1, c2, c3, c4, c5, c6, c7, c8, c9, c10, c11, c12, c13, c14, c15⟩ := H
  obtain ⟨⟨l1, l2, l3⟩, d1, d2, d3, d4, d5, d6, d7, d8, d9, d10⟩ := X
  subst hq
  refine ⟨(nI ns, nI t, nI jc, nI tc, xhe, kd, p1, p2, p3, ac, ja, ji, jn, js, jt, tj, tt, xss, xsv, xak, xaj, xgc, xgk, xgn, xhs, xhg, xhn, xou, xah, upd xst i 5, xpl, xft, upd xev i 0, xdn, xus, xis, xvr, xhd, xtk, xpd, xpa, xpi, xun, xwj), ⟨⟨w1, w2, by omega, w4⟩, rfl, rfl, rfl, rfl, rfl, rfl, rfl, rfl, rfl, rfl, rfl, rfl, rfl, rfl, rfl, rfl⟩, ⟨⟨by omega, by omega, by omega⟩, d1, d2, d3, d4, d5, d6, d7, d8, d9, d10⟩, ⟨⟨by omega, by omega, by omega, by omega, by omega⟩, pk_us, c2, c3, pk_us, c5, c6, c7, c8, c9, c10, c11, c12, c13, c14, c15⟩, ⟨⟨rfl, rfl⟩, fun i' hi' hne => ⟨rfl, rfl, fun _ _ => rfl, rfl, fun _ _ => rfl, fun _ _ => rfl, rfl, fun _ _ => rfl, fun _ _ => rfl, rfl, pk_un hne, rfl, rfl, pk_un hne, rfl, rfl, rfl, fun _ _ => rfl, fun _ _ => rfl, fun _ _ => rfl, rfl, fun _ _ => rfl, fun _ _ => rfl, rfl, rfl⟩⟩,
    sa_go0 rfl rfl (show (5 : Int32) ≠ 1 from by decide) (fun Q K => ?_)⟩
  by_cases k3 : kd pl = 3
  · exact sa_x_brk2 hi w1 c14 c2 hp c5 c15 (Or.inl k3) K
  by_cases k5 : kd pl = 5
  · exact sa_x_brk2 hi w1 c14 c2 hp c5 c15 (Or.inr (Or.inl k5)) K
  by_cases k7 : kd pl = 7
  · exact sa_x_brk2 hi w1 c14 c2 hp c5 c15 (Or.inr (Or.inr (Or.inl k7))) K
  by_cases k10 : kd pl = 10
  · exact sa_x_brk2 hi w1 c14 c2 hp c5 c15 (Or.inr (Or.inr (Or.inr k10))) K
  exact sa_x_brk1 hi w1 c14 c2 hp c5 k3 k5 k7 k10 K
theorem sa_mu_a {st st' : Int32} {pl pl' : Nat} {ev ev' : Int32} {dn us us' is is' pn pn' : Nat} {vr vr' hd hd' tk tk' pa pa' pi pi' : Nat → Int32} {un un' : Bool} {wj : Int32} (h : dn < 200) (h2 : is ≤ is') :
    sa_mu (st', pl', ev', dn + 1, us', is', vr', hd', tk', pn', pa', pi', un', wj) < sa_mu (st, pl, ev, dn, us, is, vr, hd, tk, pn, pa, pi, un, -1) := by
  show 2 * (200 - (dn + 1)) + 2 * (30 - is') + (if wj = -1 then 0 else 1) + 1 < 2 * (200 - dn) + 2 * (30 - is) + 0 + 1
  have : (if wj = -1 then 0 else 1) ≤ 1 := by split <;> omega
  omega
theorem sa_G_set (hi : i < 3) (W : sa_WX (ns, kd, p1, p2, p3, ac) t (jc, ja, ji, jn, js, jt, tc, tj, tt) (nI ns, nI t, nI jc, nI tc, xhe, kd, p1, p2, p3, ac, ja, ji, jn, js, jt, tj, tt, xss, xsv, xak, xaj, xgc, xgk, xgn, xhs, xhg, xhn, xou, xah, xst, xpl, xft, xev, xdn, xus, xis, xvr, xhd, xtk, xpd, xpa, xpi, xun, xwj)) (X : sa_LX i (sv, ak, aj, gc, gk, gn, hs, hg, hn, ou) (nI ns, nI t, nI jc, nI tc, xhe, kd, p1, p2, p3, ac, ja, ji, jn, js, jt, tj, tt, xss, xsv, xak, xaj, xgc, xgk, xgn, xhs, xhg, xhn, xou, xah, xst, xpl, xft, xev, xdn, xus, xis, xvr, xhd, xtk, xpd, xpa, xpi, xun, xwj)) (H : sa_HX i (1, pl, ev, dn, us, is, vr, hd, tk, pn, pa, pi, false, -1) (nI ns, nI t, nI jc, nI tc, xhe, kd, p1, p2, p3, ac, ja, ji, jn, js, jt, tj, tt, xss, xsv, xak, xaj, xgc, xgk, xgn, xhs, xhg, xhn, xou, xah, xst, xpl, xft, xev, xdn, xus, xis, xvr, xhd, xtk, xpd, xpa, xpi, xun, xwj)) (hp : pl < ns) (hq : dn < 200) (hk : kd pl = 0) (ha : a < 4) (e1 : p1 pl = nI a) : sa_GO i (ns, kd, p1, p2, p3, ac) t (jc, ja, ji, jn, js, jt, tc, tj, tt) (sv, ak, aj, gc, gk, gn, hs, hg, hn, ou) (1, pl, ev, dn, us, is, vr, hd, tk, pn, pa, pi, false, -1) (1, pl + 1, ev, dn + 1, us, is, upd vr a (p2 pl), hd, tk, pn, pa, pi, false, -1) (nI ns, nI t, nI jc, nI tc, xhe, kd, p1, p2, p3, ac, ja, ji, jn, js, jt, tj, tt, xss, xsv, xak, xaj, xgc, xgk, xgn, xhs, xhg, xhn, xou, xah, xst, xpl, xft, xev, xdn, xus, xis, xvr, xhd, xtk, xpd, xpa, xpi, xun, xwj) := by
  obtain ⟨⟨w1, w2, w3, w4⟩, _⟩ := W
  obtain ⟨⟨b1, b2, b3, b4, b5⟩, c1, c2, c3, c4, c5, c6, c7, c8, c9, c10, c11, c12, c13, c14, c15⟩ := H
  obtain ⟨⟨l1, l2, l3⟩, d1, d2, d3, d4, d5, d6, d7, d8, d9, d10⟩ := X
  exact ⟨(nI ns, nI t, nI jc, nI tc, xhe, kd, p1, p2, p3, ac, ja, ji, jn, js, jt, tj, tt, xss, xsv, xak, xaj, xgc, xgk, xgn, xhs, xhg, xhn, xou, xah, xst, upd xpl i (nI (pl + 1)), xft, xev, upd xdn i (nI (dn + 1)), xus, xis, upd xvr (4 * i + a) (p2 pl), xhd, xtk, xpd, xpa, xpi, xun, xwj), ⟨⟨w1, w2, by omega, w4⟩, rfl, rfl, rfl, rfl, rfl, rfl, rfl, rfl, rfl, rfl, rfl, rfl, rfl, rfl, rfl, rfl⟩, ⟨⟨by omega, by omega, by omega⟩, d1, d2, d3, d4, d5, d6, d7, d8, d9, d10⟩, ⟨⟨by omega, by omega, by omega, by omega, by omega⟩, c1, pk_us, nofun, c4, pk_us, c6, c7, sa_uo c8, c9, c10, c11, c12, c13, c14, c15⟩, ⟨⟨rfl, rfl⟩, fun i' hi' hne => ⟨rfl, rfl, fun _ _ => rfl, rfl, fun _ _ => rfl, fun _ _ => rfl, rfl, fun _ _ => rfl, fun _ _ => rfl, rfl, rfl, pk_un hne, rfl, rfl, pk_un hne, rfl, rfl, fun k hk => pk_un (by omega), fun _ _ => rfl, fun _ _ => rfl, rfl, fun _ _ => rfl, fun _ _ => rfl, rfl, rfl⟩⟩,
    sa_go1 rfl rfl rfl rfl (sa_mu_a hq (Nat.le_refl _)) (fun Q K => sa_x_set hi w1 c14 c2 hp hk c5 hq c1 ha e1 K)⟩
theorem sa_G_add (hi : i < 3) (W : sa_WX (ns, kd, p1, p2, p3, ac) t (jc, ja, ji, jn, js, jt, tc, tj, tt) (nI ns, nI t, nI jc, nI tc, xhe, kd, p1, p2, p3, ac, ja, ji, jn, js, jt, tj, tt, xss, xsv, xak, xaj, xgc, xgk, xgn, xhs, xhg, xhn, xou, xah, xst, xpl, xft, xev, xdn, xus, xis, xvr, xhd, xtk, xpd, xpa, xpi, xun, xwj)) (X : sa_LX i (sv, ak, aj, gc, gk, gn, hs, hg, hn, ou) (nI ns, nI t, nI jc, nI tc, xhe, kd, p1, p2, p3, ac, ja, ji, jn, js, jt, tj, tt, xss, xsv, xak, xaj, xgc, xgk, xgn, xhs, xhg, xhn, xou, xah, xst, xpl, xft, xev, xdn, xus, xis, xvr, xhd, xtk, xpd, xpa, xpi, xun, xwj)) (H : sa_HX i (1, pl, ev, dn, us, is, vr, hd, tk, pn, pa, pi, false, -1) (nI ns, nI t, nI jc, nI tc, xhe, kd, p1, p2, p3, ac, ja, ji, jn, js, jt, tj, tt, xss, xsv, xak, xaj, xgc, xgk, xgn, xhs, xhg, xhn, xou, xah, xst, xpl, xft, xev, xdn, xus, xis, xvr, xhd, xtk, xpd, xpa, xpi, xun, xwj)) (hp : pl < ns) (hq : dn < 200) (hk : kd pl = 1) (ha : a < 4) (hb : b < 4) (e1 : p1 pl = nI a) (e2 : p2 pl = nI b) : sa_GO i (ns, kd, p1, p2, p3, ac) t (jc, ja, ji, jn, js, jt, tc, tj, tt) (sv, ak, aj, gc, gk, gn, hs, hg, hn, ou) (1, pl, ev, dn, us, is, vr, hd, tk, pn, pa, pi, false, -1) (1, pl + 1, ev, dn + 1, us, is, upd vr a (vr a + vr b), hd, tk, pn, pa, pi, false, -1) (nI ns, nI t, nI jc, nI tc, xhe, kd, p1, p2, p3, ac, ja, ji, jn, js, jt, tj, tt, xss, xsv, xak, xaj, xgc, xgk, xgn, xhs, xhg, xhn, xou, xah, xst, xpl, xft, xev, xdn, xus, xis, xvr, xhd, xtk, xpd, xpa, xpi, xun, xwj) := by
  obtain ⟨⟨w1, w2, w3, w4⟩, _⟩ := W
  obtain ⟨⟨b1, b2, b3, b4, b5⟩, c1, c2, c3, c4, c5, c6, c7, c8, c9, c10, c11, c12, c13, c14, c15⟩ := H
  obtain ⟨⟨l1, l2, l3⟩, d1, d2, d3, d4, d5, d6, d7, d8, d9, d10⟩ := X
  exact ⟨(nI ns, nI t, nI jc, nI tc, xhe, kd, p1, p2, p3, ac, ja, ji, jn, js, jt, tj, tt, xss, xsv, xak, xaj, xgc, xgk, xgn, xhs, xhg, xhn, xou, xah, xst, upd xpl i (nI (pl + 1)), xft, xev, upd xdn i (nI (dn + 1)), xus, xis, upd xvr (4 * i + a) (xvr (4 * i + a) + xvr (4 * i + b)), xhd, xtk, xpd, xpa, xpi, xun, xwj), ⟨⟨w1, w2, by omega, w4⟩, rfl, rfl, rfl, rfl, rfl, rfl, rfl, rfl, rfl, rfl, rfl, rfl, rfl, rfl, rfl, rfl⟩, ⟨⟨by omega, by omega, by omega⟩, d1, d2, d3, d4, d5, d6, d7, d8, d9, d10⟩, ⟨⟨by omega, by omega, by omega, by omega, by omega⟩, c1, pk_us, nofun, c4, pk_us, c6, c7, (by rw [c8 a ha, c8 b hb]; exact sa_uo c8), c9, c10, c11, c12, c13, c14, c15⟩, ⟨⟨rfl, rfl⟩, fun i' hi' hne => ⟨rfl, rfl, fun _ _ => rfl, rfl, fun _ _ => rfl, fun _ _ => rfl, rfl, fun _ _ => rfl, fun _ _ => rfl, rfl, rfl, pk_un hne, rfl, rfl, pk_un hne, rfl, rfl, fun k hk => pk_un (by omega), fun _ _ => rfl, fun _ _ => rfl, rfl, fun _ _ => rfl, fun _ _ => rfl, rfl, rfl⟩⟩,
    sa_go1 rfl rfl rfl rfl (sa_mu_a hq (Nat.le_refl _)) (fun Q K => sa_x_add hi w1 c14 c2 hp hk c5 hq c1 ha hb e1 e2 K)⟩
theorem sa_G_sub (hi : i < 3) (W : sa_WX (ns, kd, p1, p2, p3, ac) t (jc, ja, ji, jn, js, jt, tc, tj, tt) (nI ns, nI t, nI jc, nI tc, xhe, kd, p1, p2, p3, ac, ja, ji, jn, js, jt, tj, tt, xss, xsv, xak, xaj, xgc, xgk, xgn, xhs, xhg, xhn, xou, xah, xst, xpl, xft, xev, xdn, xus, xis, xvr, xhd, xtk, xpd, xpa, xpi, xun, xwj)) (X : sa_LX i (sv, ak, aj, gc, gk, gn, hs, hg, hn, ou) (nI ns, nI t, nI jc, nI tc, xhe, kd, p1, p2, p3, ac, ja, ji, jn, js, jt, tj, tt, xss, xsv, xak, xaj, xgc, xgk, xgn, xhs, xhg, xhn, xou, xah, xst, xpl, xft, xev, xdn, xus, xis, xvr, xhd, xtk, xpd, xpa, xpi, xun, xwj)) (H : sa_HX i (1, pl, ev, dn, us, is, vr, hd, tk, pn, pa, pi, false, -1) (nI ns, nI t, nI jc, nI tc, xhe, kd, p1, p2, p3, ac, ja, ji, jn, js, jt, tj, tt, xss, xsv, xak, xaj, xgc, xgk, xgn, xhs, xhg, xhn, xou, xah, xst, xpl, xft, xev, xdn, xus, xis, xvr, xhd, xtk, xpd, xpa, xpi, xun, xwj)) (hp : pl < ns) (hq : dn < 200) (hk : kd pl = 2) (ha : a < 4) (hb : b < 4) (e1 : p1 pl = nI a) (e2 : p2 pl = nI b) : sa_GO i (ns, kd, p1, p2, p3, ac) t (jc, ja, ji, jn, js, jt, tc, tj, tt) (sv, ak, aj, gc, gk, gn, hs, hg, hn, ou) (1, pl, ev, dn, us, is, vr, hd, tk, pn, pa, pi, false, -1) (1, pl + 1, ev, dn + 1, us, is, upd vr a (vr a - vr b), hd, tk, pn, pa, pi, false, -1) (nI ns, nI t, nI jc, nI tc, xhe, kd, p1, p2, p3, ac, ja, ji, jn, js, jt, tj, tt, xss, xsv, xak, xaj, xgc, xgk, xgn, xhs, xhg, xhn, xou, xah, xst, xpl, xft, xev, xdn, xus, xis, xvr, xhd, xtk, xpd, xpa, xpi, xun, xwj) := by
  obtain ⟨⟨w1, w2, w3, w4⟩, _⟩ := W
  obtain ⟨⟨b1, b2, b3, b4, b5⟩, c1, c2, c3, c4, c5, c6, c7, c8, c9, c10, c11, c12, c13, c14, c15⟩ := H
  obtain ⟨⟨l1, l2, l3⟩, d1, d2, d3, d4, d5, d6, d7, d8, d9, d10⟩ := X
  exact ⟨(nI ns, nI t, nI jc, nI tc, xhe, kd, p1, p2, p3, ac, ja, ji, jn, js, jt, tj, tt, xss, xsv, xak, xaj, xgc, xgk, xgn, xhs, xhg, xhn, xou, xah, xst, upd xpl i (nI (pl + 1)), xft, xev, upd xdn i (nI (dn + 1)), xus, xis, upd xvr (4 * i + a) (xvr (4 * i + a) - xvr (4 * i + b)), xhd, xtk, xpd, xpa, xpi, xun, xwj), ⟨⟨w1, w2, by omega, w4⟩, rfl, rfl, rfl, rfl, rfl, rfl, rfl, rfl, rfl, rfl, rfl, rfl, rfl, rfl, rfl, rfl⟩, ⟨⟨by omega, by omega, by omega⟩, d1, d2, d3, d4, d5, d6, d7, d8, d9, d10⟩, ⟨⟨by omega, by omega, by omega, by omega, by omega⟩, c1, pk_us, nofun, c4, pk_us, c6, c7, (by rw [c8 a ha, c8 b hb]; exact sa_uo c8), c9, c10, c11, c12, c13, c14, c15⟩, ⟨⟨rfl, rfl⟩, fun i' hi' hne => ⟨rfl, rfl, fun _ _ => rfl, rfl, fun _ _ => rfl, fun _ _ => rfl, rfl, fun _ _ => rfl, fun _ _ => rfl, rfl, rfl, pk_un hne, rfl, rfl, pk_un hne, rfl, rfl, fun k hk => pk_un (by omega), fun _ _ => rfl, fun _ _ => rfl, rfl, fun _ _ => rfl, fun _ _ => rfl, rfl, rfl⟩⟩,
    sa_go1 rfl rfl rfl rfl (sa_mu_a hq (Nat.le_refl _)) (fun Q K => sa_x_sub hi w1 c14 c2 hp hk c5 hq c1 ha hb e1 e2 K)⟩
theorem sa_G_dox (hi : i < 3) (W : sa_WX (ns, kd, p1, p2, p3, ac) t (jc, ja, ji, jn, js, jt, tc, tj, tt) (nI ns, nI t, nI jc, nI tc, xhe, kd, p1, p2, p3, ac, ja, ji, jn, js, jt, tj, tt, xss, xsv, xak, xaj, xgc, xgk, xgn, xhs, xhg, xhn, xou, xah, xst, xpl, xft, xev, xdn, xus, xis, xvr, xhd, xtk, xpd, xpa, xpi, xun, xwj)) (X : sa_LX i (sv, ak, aj, gc, gk, gn, hs, hg, hn, ou) (nI ns, nI t, nI jc, nI tc, xhe, kd, p1, p2, p3, ac, ja, ji, jn, js, jt, tj, tt, xss, xsv, xak, xaj, xgc, xgk, xgn, xhs, xhg, xhn, xou, xah, xst, xpl, xft, xev, xdn, xus, xis, xvr, xhd, xtk, xpd, xpa, xpi, xun, xwj)) (H : sa_HX i (1, pl, ev, dn, us, is, vr, hd, tk, pn, pa, pi, false, -1) (nI ns, nI t, nI jc, nI tc, xhe, kd, p1, p2, p3, ac, ja, ji, jn, js, jt, tj, tt, xss, xsv, xak, xaj, xgc, xgk, xgn, xhs, xhg, xhn, xou, xah, xst, xpl, xft, xev, xdn, xus, xis, xvr, xhd, xtk, xpd, xpa, xpi, xun, xwj)) (hp : pl < ns) (hq : dn < 200) (hk : kd pl = 3) (hm : is = 30) : sa_GO i (ns, kd, p1, p2, p3, ac) t (jc, ja, ji, jn, js, jt, tc, tj, tt) (sv, ak, aj, gc, gk, gn, hs, hg, hn, ou) (1, pl, ev, dn, us, is, vr, hd, tk, pn, pa, pi, false, -1) (5, pl, 0, dn + 1, us, is, vr, hd, tk, pn, pa, pi, false, -1) (nI ns, nI t, nI jc, nI tc, xhe, kd, p1, p2, p3, ac, ja, ji, jn, js, jt, tj, tt, xss, xsv, xak, xaj, xgc, xgk, xgn, xhs, xhg, xhn, xou, xah, xst, xpl, xft, xev, xdn, xus, xis, xvr, xhd, xtk, xpd, xpa, xpi, xun, xwj) := by
  obtain ⟨⟨w1, w2, w3, w4⟩, _⟩ := W
  obtain ⟨⟨b1, b2, b3, b4, b5⟩, c1, c2, c3, c4, c5, c6, c7, c8, c9, c10, c11, c12, c13, c14, c15⟩ := H
  obtain ⟨⟨l1, l2, l3⟩, d1, d2, d3, d4, d5, d6, d7, d8, d9, d10⟩ := X
  exact ⟨(nI ns, nI t, nI jc, nI tc, xhe, kd, p1, p2, p3, ac, ja, ji, jn, js, jt, tj, tt, xss, xsv, xak, xaj, xgc, xgk, xgn, xhs, xhg, xhn, xou, xah, upd xst i 5, xpl, xft, upd xev i 0, upd xdn i (nI (dn + 1)), xus, xis, xvr, xhd, xtk, xpd, xpa, xpi, xun, xwj), ⟨⟨w1, w2, by omega, w4⟩, rfl, rfl, rfl, rfl, rfl, rfl, rfl, rfl, rfl, rfl, rfl, rfl, rfl, rfl, rfl, rfl⟩, ⟨⟨by omega, by omega, by omega⟩, d1, d2, d3, d4, d5, d6, d7, d8, d9, d10⟩, ⟨⟨by omega, by omega, by omega, by omega, by omega⟩, pk_us, c2, nofun, pk_us, pk_us, c6, c7, c8, c9, c10, c11, c12, c13, c14, c15⟩, ⟨⟨rfl, rfl⟩, fun i' hi' hne => ⟨rfl, rfl, fun _ _ => rfl, rfl, fun _ _ => rfl, fun _ _ => rfl, rfl, fun _ _ => rfl, fun _ _ => rfl, rfl, pk_un hne, rfl, rfl, pk_un hne, pk_un hne, rfl, rfl, fun _ _ => rfl, fun _ _ => rfl, fun _ _ => rfl, rfl, fun _ _ => rfl, fun _ _ => rfl, rfl, rfl⟩⟩,
    sa_go0 rfl rfl (show (5 : Int32) ≠ 1 from by decide) (fun Q K => sa_x_dox hi w1 c14 c2 hp hk c5 hq c1 c15 (by rw [c7, hm]; rfl) K)⟩
theorem sa_G_startx1 (hi : i < 3) (W : sa_WX (ns, kd, p1, p2, p3, ac) t (jc, ja, ji, jn, js, jt, tc, tj, tt) (nI ns, nI t, nI jc, nI tc, xhe, kd, p1, p2, p3, ac, ja, ji, jn, js, jt, tj, tt, xss, xsv, xak, xaj, xgc, xgk, xgn, xhs, xhg, xhn, xou, xah, xst, xpl, xft, xev, xdn, xus, xis, xvr, xhd, xtk, xpd, xpa, xpi, xun, xwj)) (X : sa_LX i (sv, ak, aj, gc, gk, gn, hs, hg, hn, ou) (nI ns, nI t, nI jc, nI tc, xhe, kd, p1, p2, p3, ac, ja, ji, jn, js, jt, tj, tt, xss, xsv, xak, xaj, xgc, xgk, xgn, xhs, xhg, xhn, xou, xah, xst, xpl, xft, xev, xdn, xus, xis, xvr, xhd, xtk, xpd, xpa, xpi, xun, xwj)) (H : sa_HX i (1, pl, ev, dn, us, is, vr, hd, tk, pn, pa, pi, false, -1) (nI ns, nI t, nI jc, nI tc, xhe, kd, p1, p2, p3, ac, ja, ji, jn, js, jt, tj, tt, xss, xsv, xak, xaj, xgc, xgk, xgn, xhs, xhg, xhn, xou, xah, xst, xpl, xft, xev, xdn, xus, xis, xvr, xhd, xtk, xpd, xpa, xpi, xun, xwj)) (hp : pl < ns) (hq : dn < 200) (hk : kd pl = 4) (ha : a < 4) (hb : b < 4) (hc : c < 3) (e1 : p1 pl = nI a) (e2 : p2 pl = nI b) (e3 : p3 pl = nI c) (hh : hd c ≠ -1) : sa_GO i (ns, kd, p1, p2, p3, ac) t (jc, ja, ji, jn, js, jt, tc, tj, tt) (sv, ak, aj, gc, gk, gn, hs, hg, hn, ou) (1, pl, ev, dn, us, is, vr, hd, tk, pn, pa, pi, false, -1) (5, pl, 0, dn + 1, us, is, vr, hd, tk, pn, pa, pi, false, -1) (nI ns, nI t, nI jc, nI tc, xhe, kd, p1, p2, p3, ac, ja, ji, jn, js, jt, tj, tt, xss, xsv, xak, xaj, xgc, xgk, xgn, xhs, xhg, xhn, xou, xah, xst, xpl, xft, xev, xdn, xus, xis, xvr, xhd, xtk, xpd, xpa, xpi, xun, xwj) := by
  obtain ⟨⟨w1, w2, w3, w4⟩, _⟩ := W
  obtain ⟨⟨b1, b2, b3, b4, b5⟩, c1, c2, c3, c4, c5, c6, c7, c8, c9, c10, c11, c12, c13, c14, c15⟩ := H
  obtain ⟨⟨l1, l2, l3⟩, d1, d2, d3, d4, d5, d6, d7, d8, d9, d10⟩ := X
  exact ⟨(nI ns, nI t, nI jc, nI tc, xhe, kd, p1, p2, p3, ac, ja, ji, jn, js, jt, tj, tt, xss, xsv, xak, xaj, xgc, xgk, xgn, xhs, xhg, xhn, xou, xah, upd xst i 5, xpl, xft, upd xev i 0, upd xdn i (nI (dn + 1)), xus, xis, xvr, xhd, xtk, xpd, xpa, xpi, xun, xwj), ⟨⟨w1, w2, by omega, w4⟩, rfl, rfl, rfl, rfl, rfl, rfl, rfl, rfl, rfl, rfl, rfl, rfl, rfl, rfl, rfl, rfl⟩, ⟨⟨by omega, by omega, by omega⟩, d1, d2, d3, d4, d5, d6, d7, d8, d9, d10⟩, ⟨⟨by omega, by omega, by omega, by omega, by omega⟩, pk_us, c2, nofun, pk_us, pk_us, c6, c7, c8, c9, c10, c11, c12, c13, c14, c15⟩, ⟨⟨rfl, rfl⟩, fun i' hi' hne => ⟨rfl, rfl, fun _ _ => rfl, rfl, fun _ _ => rfl, fun _ _ => rfl, rfl, fun _ _ => rfl, fun _ _ => rfl, rfl, pk_un hne, rfl, rfl, pk_un hne, pk_un hne, rfl, rfl, fun _ _ => rfl, fun _ _ => rfl, fun _ _ => rfl, rfl, fun _ _ => rfl, fun _ _ => rfl, rfl, rfl⟩⟩,
    sa_go0 rfl rfl (show (5 : Int32) ≠ 1 from by decide) (fun Q K => sa_x_startx1 hi w1 c14 c2 hp hk c5 hq c1 ha hb hc e1 e2 e3 (by rw [c9 c hc]; exact hh) K)⟩
theorem sa_G_startx2 (hi : i < 3) (W : sa_WX (ns, kd, p1, p2, p3, ac) t (jc, ja, ji, jn, js, jt, tc, tj, tt) (nI ns, nI t, nI jc, nI tc, xhe, kd, p1, p2, p3, ac, ja, ji, jn, js, jt, tj, tt, xss, xsv, xak, xaj, xgc, xgk, xgn, xhs, xhg, xhn, xou, xah, xst, xpl, xft, xev, xdn, xus, xis, xvr, xhd, xtk, xpd, xpa, xpi, xun, xwj)) (X : sa_LX i (sv, ak, aj, gc, gk, gn, hs, hg, hn, ou) (nI ns, nI t, nI jc, nI tc, xhe, kd, p1, p2, p3, ac, ja, ji, jn, js, jt, tj, tt, xss, xsv, xak, xaj, xgc, xgk, xgn, xhs, xhg, xhn, xou, xah, xst, xpl, xft, xev, xdn, xus, xis, xvr, xhd, xtk, xpd, xpa, xpi, xun, xwj)) (H : sa_HX i (1, pl, ev, dn, us, is, vr, hd, tk, pn, pa, pi, false, -1) (nI ns, nI t, nI jc, nI tc, xhe, kd, p1, p2, p3, ac, ja, ji, jn, js, jt, tj, tt, xss, xsv, xak, xaj, xgc, xgk, xgn, xhs, xhg, xhn, xou, xah, xst, xpl, xft, xev, xdn, xus, xis, xvr, xhd, xtk, xpd, xpa, xpi, xun, xwj)) (hp : pl < ns) (hq : dn < 200) (hk : kd pl = 4) (ha : a < 4) (hb : b < 4) (hc : c < 3) (e1 : p1 pl = nI a) (e2 : p2 pl = nI b) (e3 : p3 pl = nI c) (hh : hd c = -1) (hm : is = 30) : sa_GO i (ns, kd, p1, p2, p3, ac) t (jc, ja, ji, jn, js, jt, tc, tj, tt) (sv, ak, aj, gc, gk, gn, hs, hg, hn, ou) (1, pl, ev, dn, us, is, vr, hd, tk, pn, pa, pi, false, -1) (5, pl, 0, dn + 1, us, is, vr, hd, tk, pn, pa, pi, false, -1) (nI ns, nI t, nI jc, nI tc, xhe, kd, p1, p2, p3, ac, ja, ji, jn, js, jt, tj, tt, xss, xsv, xak, xaj, xgc, xgk, xgn, xhs, xhg, xhn, xou, xah, xst, xpl, xft, xev, xdn, xus, xis, xvr, xhd, xtk, xpd, xpa, xpi, xun, xwj) := by
  obtain ⟨⟨w1, w2, w3, w4⟩, _⟩ := W
  obtain ⟨⟨b1, b2, b3, b4, b5⟩, c1, c2, c3, c4, c5, c6, c7, c8, c9, c10, c11, c12, c13, c14, c15⟩ := H
  obtain ⟨⟨l1, l2, l3⟩, d1, d2, d3, d4, d5, d6, d7, d8, d9, d10⟩ := X
  exact ⟨(nI ns, nI t, nI jc, nI tc, xhe, kd, p1, p2, p3, ac, ja, ji, jn, js, jt, tj, tt, xss, xsv, xak, xaj, xgc, xgk, xgn, xhs, xhg, xhn, xou, xah, upd xst i 5, xpl, xft, upd xev i 0, upd xdn i (nI (dn + 1)), xus, xis, xvr, xhd, xtk, xpd, xpa, xpi, xun, xwj), ⟨⟨w1, w2, by omega, w4⟩, rfl, rfl, rfl, rfl, rfl, rfl, rfl, rfl, rfl, rfl, rfl, rfl, rfl, rfl, rfl, rfl⟩, ⟨⟨by omega, by omega, by omega⟩, d1, d2, d3, d4, d5, d6, d7, d8, d9, d10⟩, ⟨⟨by omega, by omega, by omega, by omega, by omega⟩, pk_us, c2, nofun, pk_us, pk_us, c6, c7, c8, c9, c10, c11, c12, c13, c14, c15⟩, ⟨⟨rfl, rfl⟩, fun i' hi' hne => ⟨rfl, rfl, fun _ _ => rfl, rfl, fun _ _ => rfl, fun _ _ => rfl, rfl, fun _ _ => rfl, fun _ _ => rfl, rfl, pk_un hne, rfl, rfl, pk_un hne, pk_un hne, rfl, rfl, fun _ _ => rfl, fun _ _ => rfl, fun _ _ => rfl, rfl, fun _ _ => rfl, fun _ _ => rfl, rfl, rfl⟩⟩,
    sa_go0 rfl rfl (show (5 : Int32) ≠ 1 from by decide) (fun Q K => sa_x_startx2 hi w1 c14 c2 hp hk c5 hq c1 ha hb hc e1 e2 e3 (by rw [c9 c hc]; exact hh) (by rw [c7, hm]; rfl) K)⟩
theorem sa_G_awaitx (hi : i < 3) (W : sa_WX (ns, kd, p1, p2, p3, ac) t (jc, ja, ji, jn, js, jt, tc, tj, tt) (nI ns, nI t, nI jc, nI tc, xhe, kd, p1, p2, p3, ac, ja, ji, jn, js, jt, tj, tt, xss, xsv, xak, xaj, xgc, xgk, xgn, xhs, xhg, xhn, xou, xah, xst, xpl, xft, xev, xdn, xus, xis, xvr, xhd, xtk, xpd, xpa, xpi, xun, xwj)) (X : sa_LX i (sv, ak, aj, gc, gk, gn, hs, hg, hn, ou) (nI ns, nI t, nI jc, nI tc, xhe, kd, p1, p2, p3, ac, ja, ji, jn, js, jt, tj, tt, xss, xsv, xak, xaj, xgc, xgk, xgn, xhs, xhg, xhn, xou, xah, xst, xpl, xft, xev, xdn, xus, xis, xvr, xhd, xtk, xpd, xpa, xpi, xun, xwj)) (H : sa_HX i (1, pl, ev, dn, us, is, vr, hd, tk, pn, pa, pi, false, -1) (nI ns, nI t, nI jc, nI tc, xhe, kd, p1, p2, p3, ac, ja, ji, jn, js, jt, tj, tt, xss, xsv, xak, xaj, xgc, xgk, xgn, xhs, xhg, xhn, xou, xah, xst, xpl, xft, xev, xdn, xus, xis, xvr, xhd, xtk, xpd, xpa, xpi, xun, xwj)) (hp : pl < ns) (hq : dn < 200) (hk : kd pl = 5) (ha : a < 3) (e1 : p1 pl = nI a) (hh : hd a = -1) : sa_GO i (ns, kd, p1, p2, p3, ac) t (jc, ja, ji, jn, js, jt, tc, tj, tt) (sv, ak, aj, gc, gk, gn, hs, hg, hn, ou) (1, pl, ev, dn, us, is, vr, hd, tk, pn, pa, pi, false, -1) (5, pl, 0, dn + 1, us, is, vr, hd, tk, pn, pa, pi, false, -1) (nI ns, nI t, nI jc, nI tc, xhe, kd, p1, p2, p3, ac, ja, ji, jn, js, jt, tj, tt, xss, xsv, xak, xaj, xgc, xgk, xgn, xhs, xhg, xhn, xou, xah, xst, xpl, xft, xev, xdn, xus, xis, xvr, xhd, xtk, xpd, xpa, xpi, xun, xwj) := by
  obtain ⟨⟨w1, w2, w3, w4⟩, _⟩ := W
  obtain ⟨⟨b1, b2, b3, b4, b5⟩, c1, c2, c3, c4, c5, c6, c7, c8, c9, c10, c11, c12, c13, c14, c15⟩ := H
  obtain ⟨⟨l1, l2, l3⟩, d1, d2, d3, d4, d5, d6, d7, d8, d9, d10⟩ := X
  exact ⟨(nI ns, nI t, nI jc, nI tc, xhe, kd, p1, p2, p3, ac, ja, ji, jn, js, jt, tj, tt, xss, xsv, xak, xaj, xgc, xgk, xgn, xhs, xhg, xhn, xou, xah, upd xst i 5, xpl, xft, upd xev i 0, upd xdn i (nI (dn + 1)), xus, xis, xvr, xhd, xtk, xpd, xpa, xpi, xun, upd xwj i (-1)), ⟨⟨w1, w2, by omega, w4⟩, rfl, rfl, rfl, rfl, rfl, rfl, rfl, rfl, rfl, rfl, rfl, rfl, rfl, rfl, rfl, rfl⟩, ⟨⟨by omega, by omega, by omega⟩, d1, d2, d3, d4, d5, d6, d7, d8, d9, d10⟩, ⟨⟨by omega, by omega, by omega, by omega, by omega⟩, pk_us, c2, nofun, pk_us, pk_us, c6, c7, c8, c9, c10, c11, c12, c13, c14, pk_us⟩, ⟨⟨rfl, rfl⟩, fun i' hi' hne => ⟨rfl, rfl, fun _ _ => rfl, rfl, fun _ _ => rfl, fun _ _ => rfl, rfl, fun _ _ => rfl, fun _ _ => rfl, rfl, pk_un hne, rfl, rfl, pk_un hne, pk_un hne, rfl, rfl, fun _ _ => rfl, fun _ _ => rfl, fun _ _ => rfl, rfl, fun _ _ => rfl, fun _ _ => rfl, rfl, pk_un hne⟩⟩,
    sa_go0 rfl rfl (show (5 : Int32) ≠ 1 from by decide) (fun Q K => sa_x_awaitx hi w1 c14 c2 hp hk c5 hq c1 c15 ha e1 (by rw [c9 a ha]; exact hh) K)⟩
theorem sa_G_await (hi : i < 3) (W : sa_WX (ns, kd, p1, p2, p3, ac) t (jc, ja, ji, jn, js, jt, tc, tj, tt) (nI ns, nI t, nI jc, nI tc, xhe, kd, p1, p2, p3, ac, ja, ji, jn, js, jt, tj, tt, xss, xsv, xak, xaj, xgc, xgk, xgn, xhs, xhg, xhn, xou, xah, xst, xpl, xft, xev, xdn, xus, xis, xvr, xhd, xtk, xpd, xpa, xpi, xun, xwj)) (X : sa_LX i (sv, ak, aj, gc, gk, gn, hs, hg, hn, ou) (nI ns, nI t, nI jc, nI tc, xhe, kd, p1, p2, p3, ac, ja, ji, jn, js, jt, tj, tt, xss, xsv, xak, xaj, xgc, xgk, xgn, xhs, xhg, xhn, xou, xah, xst, xpl, xft, xev, xdn, xus, xis, xvr, xhd, xtk, xpd, xpa, xpi, xun, xwj)) (H : sa_HX i (1, pl, ev, dn, us, is, vr, hd, tk, pn, pa, pi, false, -1) (nI ns, nI t, nI jc, nI tc, xhe, kd, p1, p2, p3, ac, ja, ji, jn, js, jt, tj, tt, xss, xsv, xak, xaj, xgc, xgk, xgn, xhs, xhg, xhn, xou, xah, xst, xpl, xft, xev, xdn, xus, xis, xvr, xhd, xtk, xpd, xpa, xpi, xun, xwj)) (hp : pl < ns) (hq : dn < 200) (hk : kd pl = 5) (ha : a < 3) (e1 : p1 pl = nI a) (hh : hd a ≠ -1) : sa_GO i (ns, kd, p1, p2, p3, ac) t (jc, ja, ji, jn, js, jt, tc, tj, tt) (sv, ak, aj, gc, gk, gn, hs, hg, hn, ou) (1, pl, ev, dn, us, is, vr, hd, tk, pn, pa, pi, false, -1) (1, pl, ev, dn + 1, us, is, vr, hd, tk, pn, pa, pi, false, hd a) (nI ns, nI t, nI jc, nI tc, xhe, kd, p1, p2, p3, ac, ja, ji, jn, js, jt, tj, tt, xss, xsv, xak, xaj, xgc, xgk, xgn, xhs, xhg, xhn, xou, xah, xst, xpl, xft, xev, xdn, xus, xis, xvr, xhd, xtk, xpd, xpa, xpi, xun, xwj) := by
  obtain ⟨⟨w1, w2, w3, w4⟩, _⟩ := W
  obtain ⟨⟨b1, b2, b3, b4, b5⟩, c1, c2, c3, c4, c5, c6, c7, c8, c9, c10, c11, c12, c13, c14, c15⟩ := H
  obtain ⟨⟨l1, l2, l3⟩, d1, d2, d3, d4, d5, d6, d7, d8, d9, d10⟩ := X
  exact ⟨(nI ns, nI t, nI jc, nI tc, xhe, kd, p1, p2, p3, ac, ja, ji, jn, js, jt, tj, tt, xss, xsv, xak, xaj, xgc, xgk, xgn, xhs, xhg, xhn, xou, xah, xst, xpl, xft, xev, upd xdn i (nI (dn + 1)), xus, xis, xvr, xhd, xtk, xpd, xpa, xpi, xun, upd xwj i (hd a)), ⟨⟨w1, w2, by omega, w4⟩, rfl, rfl, rfl, rfl, rfl, rfl, rfl, rfl, rfl, rfl, rfl, rfl, rfl, rfl, rfl, rfl⟩, ⟨⟨by omega, by omega, by omega⟩, d1, d2, d3, d4, d5, d6, d7, d8, d9, d10⟩, ⟨⟨by omega, by omega, by omega, by omega, by omega⟩, c1, c2, nofun, c4, pk_us, c6, c7, c8, c9, c10, c11, c12, c13, c14, pk_us⟩, ⟨⟨rfl, rfl⟩, fun i' hi' hne => ⟨rfl, rfl, fun _ _ => rfl, rfl, fun _ _ => rfl, fun _ _ => rfl, rfl, fun _ _ => rfl, fun _ _ => rfl, rfl, rfl, rfl, rfl, rfl, pk_un hne, rfl, rfl, fun _ _ => rfl, fun _ _ => rfl, fun _ _ => rfl, rfl, fun _ _ => rfl, fun _ _ => rfl, rfl, pk_un hne⟩⟩,
    sa_gow rfl rfl rfl hh (sa_mu_a hq (Nat.le_refl _)) (fun Q B => by
      obtain ⟨B1, B2, B3, B4, B5⟩ := B
      exact sa_x_await hi w1 c14 c2 hp hk c5 hq c1 c15 ha e1 (c9 a ha) hh (fun R hR => B3 rfl hk R hR))⟩
theorem sa_G_undo (hi : i < 3) (W : sa_WX (ns, kd, p1, p2, p3, ac) t (jc, ja, ji, jn, js, jt, tc, tj, tt) (nI ns, nI t, nI jc, nI tc, xhe, kd, p1, p2, p3, ac, ja, ji, jn, js, jt, tj, tt, xss, xsv, xak, xaj, xgc, xgk, xgn, xhs, xhg, xhn, xou, xah, xst, xpl, xft, xev, xdn, xus, xis, xvr, xhd, xtk, xpd, xpa, xpi, xun, xwj)) (X : sa_LX i (sv, ak, aj, gc, gk, gn, hs, hg, hn, ou) (nI ns, nI t, nI jc, nI tc, xhe, kd, p1, p2, p3, ac, ja, ji, jn, js, jt, tj, tt, xss, xsv, xak, xaj, xgc, xgk, xgn, xhs, xhg, xhn, xou, xah, xst, xpl, xft, xev, xdn, xus, xis, xvr, xhd, xtk, xpd, xpa, xpi, xun, xwj)) (H : sa_HX i (1, pl, ev, dn, us, is, vr, hd, tk, pn, pa, pi, false, -1) (nI ns, nI t, nI jc, nI tc, xhe, kd, p1, p2, p3, ac, ja, ji, jn, js, jt, tj, tt, xss, xsv, xak, xaj, xgc, xgk, xgn, xhs, xhg, xhn, xou, xah, xst, xpl, xft, xev, xdn, xus, xis, xvr, xhd, xtk, xpd, xpa, xpi, xun, xwj)) (hp : pl < ns) (hq : dn < 200) (hk : kd pl = 6) (ha : a < 4) (hb : b < 4) (e1 : p1 pl = nI a) (e2 : p2 pl = nI b) (hm : pn < 200) : sa_GO i (ns, kd, p1, p2, p3, ac) t (jc, ja, ji, jn, js, jt, tc, tj, tt) (sv, ak, aj, gc, gk, gn, hs, hg, hn, ou) (1, pl, ev, dn, us, is, vr, hd, tk, pn, pa, pi, false, -1) (1, pl + 1, ev, dn + 1, us, is, vr, hd, tk, pn + 1, upd pa pn (p1 pl), upd pi pn (vr b), false, -1) (nI ns, nI t, nI jc, nI tc, xhe, kd, p1, p2, p3, ac, ja, ji, jn, js, jt, tj, tt, xss, xsv, xak, xaj, xgc, xgk, xgn, xhs, xhg, xhn, xou, xah, xst, xpl, xft, xev, xdn, xus, xis, xvr, xhd, xtk, xpd, xpa, xpi, xun, xwj) := by
  obtain ⟨⟨w1, w2, w3, w4⟩, _⟩ := W
  obtain ⟨⟨b1, b2, b3, b4, b5⟩, c1, c2, c3, c4, c5, c6, c7, c8, c9, c10, c11, c12, c13, c14, c15⟩ := H
  obtain ⟨⟨l1, l2, l3⟩, d1, d2, d3, d4, d5, d6, d7, d8, d9, d10⟩ := X
  exact ⟨(nI ns, nI t, nI jc, nI tc, xhe, kd, p1, p2, p3, ac, ja, ji, jn, js, jt, tj, tt, xss, xsv, xak, xaj, xgc, xgk, xgn, xhs, xhg, xhn, xou, xah, xst, upd xpl i (nI (pl + 1)), xft, xev, upd xdn i (nI (dn + 1)), xus, xis, xvr, xhd, xtk, upd xpd i (nI (pn + 1)), upd xpa (200 * i + pn) (nI a), upd xpi (200 * i + pn) (xvr (4 * i + b)), xun, xwj), ⟨⟨w1, w2, by omega, w4⟩, rfl, rfl, rfl, rfl, rfl, rfl, rfl, rfl, rfl, rfl, rfl, rfl, rfl, rfl, rfl, rfl⟩, ⟨⟨by omega, by omega, by omega⟩, d1, d2, d3, d4, d5, d6, d7, d8, d9, d10⟩, ⟨⟨by omega, by omega, by omega, by omega, by omega⟩, c1, pk_us, nofun, c4, pk_us, c6, c7, c8, c9, c10, fun _ => pk_us, (by rw [e1]; exact sa_ua c12), (by rw [c8 b hb]; exact sa_ua c13), c14, c15⟩, ⟨⟨rfl, rfl⟩, fun i' hi' hne => ⟨rfl, rfl, fun _ _ => rfl, rfl, fun _ _ => rfl, fun _ _ => rfl, rfl, fun _ _ => rfl, fun _ _ => rfl, rfl, rfl, pk_un hne, rfl, rfl, pk_un hne, rfl, rfl, fun _ _ => rfl, fun _ _ => rfl, fun _ _ => rfl, pk_un hne, fun k hk => pk_un (by omega), fun k hk => pk_un (by omega), rfl, rfl⟩⟩,
    sa_go1 rfl rfl rfl rfl (sa_mu_a hq (Nat.le_refl _)) (fun Q K => sa_x_undo hi w1 c14 c2 hp hk c5 hq c1 ha hb e1 e2 (c11 rfl) hm K)⟩
theorem sa_G_sleep0 (hi : i < 3) (W : sa_WX (ns, kd, p1, p2, p3, ac) t (jc, ja, ji, jn, js, jt, tc, tj, tt) (nI ns, nI t, nI jc, nI tc, xhe, kd, p1, p2, p3, ac, ja, ji, jn, js, jt, tj, tt, xss, xsv, xak, xaj, xgc, xgk, xgn, xhs, xhg, xhn, xou, xah, xst, xpl, xft, xev, xdn, xus, xis, xvr, xhd, xtk, xpd, xpa, xpi, xun, xwj)) (X : sa_LX i (sv, ak, aj, gc, gk, gn, hs, hg, hn, ou) (nI ns, nI t, nI jc, nI tc, xhe, kd, p1, p2, p3, ac, ja, ji, jn, js, jt, tj, tt, xss, xsv, xak, xaj, xgc, xgk, xgn, xhs, xhg, xhn, xou, xah, xst, xpl, xft, xev, xdn, xus, xis, xvr, xhd, xtk, xpd, xpa, xpi, xun, xwj)) (H : sa_HX i (1, pl, ev, dn, us, is, vr, hd, tk, pn, pa, pi, false, -1) (nI ns, nI t, nI jc, nI tc, xhe, kd, p1, p2, p3, ac, ja, ji, jn, js, jt, tj, tt, xss, xsv, xak, xaj, xgc, xgk, xgn, xhs, xhg, xhn, xou, xah, xst, xpl, xft, xev, xdn, xus, xis, xvr, xhd, xtk, xpd, xpa, xpi, xun, xwj)) (hp : pl < ns) (hq : dn < 200) (hk : kd pl = 7) (ha : a < 4) (e1 : p1 pl = nI a) (hz : vr a ≤ 0) : sa_GO i (ns, kd, p1, p2, p3, ac) t (jc, ja, ji, jn, js, jt, tc, tj, tt) (sv, ak, aj, gc, gk, gn, hs, hg, hn, ou) (1, pl, ev, dn, us, is, vr, hd, tk, pn, pa, pi, false, -1) (1, pl + 1, ev, dn + 1, us, is, vr, hd, tk, pn, pa, pi, false, -1) (nI ns, nI t, nI jc, nI tc, xhe, kd, p1, p2, p3, ac, ja, ji, jn, js, jt, tj, tt, xss, xsv, xak, xaj, xgc, xgk, xgn, xhs, xhg, xhn, xou, xah, xst, xpl, xft, xev, xdn, xus, xis, xvr, xhd, xtk, xpd, xpa, xpi, xun, xwj) := by
  obtain ⟨⟨w1, w2, w3, w4⟩, _⟩ := W
  obtain ⟨⟨b1, b2, b3, b4, b5⟩, c1, c2, c3, c4, c5, c6, c7, c8, c9, c10, c11, c12, c13, c14, c15⟩ := H
  obtain ⟨⟨l1, l2, l3⟩, d1, d2, d3, d4, d5, d6, d7, d8, d9, d10⟩ := X
  exact ⟨(nI ns, nI t, nI jc, nI tc, xhe, kd, p1, p2, p3, ac, ja, ji, jn, js, jt, tj, tt, xss, xsv, xak, xaj, xgc, xgk, xgn, xhs, xhg, xhn, xou, xah, xst, upd xpl i (nI (pl + 1)), xft, xev, upd xdn i (nI (dn + 1)), xus, xis, xvr, xhd, xtk, xpd, xpa, xpi, xun, upd (upd xwj i 0) i (-1)), ⟨⟨w1, w2, by omega, w4⟩, rfl, rfl, rfl, rfl, rfl, rfl, rfl, rfl, rfl, rfl, rfl, rfl, rfl, rfl, rfl, rfl⟩, ⟨⟨by omega, by omega, by omega⟩, d1, d2, d3, d4, d5, d6, d7, d8, d9, d10⟩, ⟨⟨by omega, by omega, by omega, by omega, by omega⟩, c1, pk_us, nofun, c4, pk_us, c6, c7, c8, c9, c10, c11, c12, c13, c14, pk_us⟩, ⟨⟨rfl, rfl⟩, fun i' hi' hne => ⟨rfl, rfl, fun _ _ => rfl, rfl, fun _ _ => rfl, fun _ _ => rfl, rfl, fun _ _ => rfl, fun _ _ => rfl, rfl, rfl, pk_un hne, rfl, rfl, pk_un hne, rfl, rfl, fun _ _ => rfl, fun _ _ => rfl, fun _ _ => rfl, rfl, fun _ _ => rfl, fun _ _ => rfl, rfl, (pk_un hne).trans (pk_un hne)⟩⟩,
    sa_go1 rfl rfl rfl rfl (sa_mu_a hq (Nat.le_refl _)) (fun Q K => sa_x_sleep0 hi w1 c14 c2 hp hk c5 hq c15 ha e1 (by rw [c8 a ha]; exact hz) K)⟩
theorem sa_G_sleep (hi : i < 3) (W : sa_WX (ns, kd, p1, p2, p3, ac) t (jc, ja, ji, jn, js, jt, tc, tj, tt) (nI ns, nI t, nI jc, nI tc, xhe, kd, p1, p2, p3, ac, ja, ji, jn, js, jt, tj, tt, xss, xsv, xak, xaj, xgc, xgk, xgn, xhs, xhg, xhn, xou, xah, xst, xpl, xft, xev, xdn, xus, xis, xvr, xhd, xtk, xpd, xpa, xpi, xun, xwj)) (X : sa_LX i (sv, ak, aj, gc, gk, gn, hs, hg, hn, ou) (nI ns, nI t, nI jc, nI tc, xhe, kd, p1, p2, p3, ac, ja, ji, jn, js, jt, tj, tt, xss, xsv, xak, xaj, xgc, xgk, xgn, xhs, xhg, xhn, xou, xah, xst, xpl, xft, xev, xdn, xus, xis, xvr, xhd, xtk, xpd, xpa, xpi, xun, xwj)) (H : sa_HX i (1, pl, ev, dn, us, is, vr, hd, tk, pn, pa, pi, false, -1) (nI ns, nI t, nI jc, nI tc, xhe, kd, p1, p2, p3, ac, ja, ji, jn, js, jt, tj, tt, xss, xsv, xak, xaj, xgc, xgk, xgn, xhs, xhg, xhn, xou, xah, xst, xpl, xft, xev, xdn, xus, xis, xvr, xhd, xtk, xpd, xpa, xpi, xun, xwj)) (hp : pl < ns) (hq : dn < 200) (hk : kd pl = 7) (ha : a < 4) (e1 : p1 pl = nI a) (hz : ¬ vr a ≤ 0) : sa_GO i (ns, kd, p1, p2, p3, ac) t (jc, ja, ji, jn, js, jt, tc, tj, tt) (sv, ak, aj, gc, gk, gn, hs, hg, hn, ou) (1, pl, ev, dn, us, is, vr, hd, tk, pn, pa, pi, false, -1) (1, pl, ev, dn + 1, us, is, vr, hd, tk, pn, pa, pi, false, 0) (nI ns, nI t, nI jc, nI tc, xhe, kd, p1, p2, p3, ac, ja, ji, jn, js, jt, tj, tt, xss, xsv, xak, xaj, xgc, xgk, xgn, xhs, xhg, xhn, xou, xah, xst, xpl, xft, xev, xdn, xus, xis, xvr, xhd, xtk, xpd, xpa, xpi, xun, xwj) := by
  obtain ⟨⟨w1, w2, w3, w4⟩, _⟩ := W
  obtain ⟨⟨b1, b2, b3, b4, b5⟩, c1, c2, c3, c4, c5, c6, c7, c8, c9, c10, c11, c12, c13, c14, c15⟩ := H
  obtain ⟨⟨l1, l2, l3⟩, d1, d2, d3, d4, d5, d6, d7, d8, d9, d10⟩ := X
  exact ⟨(nI ns, nI t, nI jc, nI tc, xhe, kd, p1, p2, p3, ac, ja, ji, jn, js, jt, tj, tt, xss, xsv, xak, xaj, xgc, xgk, xgn, xhs, xhg, xhn, xou, xah, xst, xpl, xft, xev, upd xdn i (nI (dn + 1)), xus, xis, xvr, xhd, xtk, xpd, xpa, xpi, xun, upd xwj i 0), ⟨⟨w1, w2, by omega, w4⟩, rfl, rfl, rfl, rfl, rfl, rfl, rfl, rfl, rfl, rfl, rfl, rfl, rfl, rfl, rfl, rfl⟩, ⟨⟨by omega, by omega, by omega⟩, d1, d2, d3, d4, d5, d6, d7, d8, d9, d10⟩, ⟨⟨by omega, by omega, by omega, by omega, by omega⟩, c1, c2, nofun, c4, pk_us, c6, c7, c8, c9, c10, c11, c12, c13, c14, pk_us⟩, ⟨⟨rfl, rfl⟩, fun i' hi' hne => ⟨rfl, rfl, fun _ _ => rfl, rfl, fun _ _ => rfl, fun _ _ => rfl, rfl, fun _ _ => rfl, fun _ _ => rfl, rfl, rfl, rfl, rfl, rfl, pk_un hne, rfl, rfl, fun _ _ => rfl, fun _ _ => rfl, fun _ _ => rfl, rfl, fun _ _ => rfl, fun _ _ => rfl, rfl, pk_un hne⟩⟩,
    sa_gow rfl rfl rfl (show (0 : Int32) ≠ -1 from by decide) (sa_mu_a hq (Nat.le_refl _)) (fun Q B => by
      obtain ⟨B1, B2, B3, B4, B5⟩ := B
      exact sa_x_sleep hi w1 c14 c2 hp hk c5 hq c15 ha e1 (by rw [c8 a ha]; exact hz) (fun R hR z z1 z2 => B4 rfl hk a ha e1 R hR z (by rw [← c8 a ha]; exact z1) (by rw [← c8 a ha]; exact z2)))⟩
theorem sa_G_jump (hi : i < 3) (W : sa_WX (ns, kd, p1, p2, p3, ac) t (jc, ja, ji, jn, js, jt, tc, tj, tt) (nI ns, nI t, nI jc, nI tc, xhe, kd, p1, p2, p3, ac, ja, ji, jn, js, jt, tj, tt, xss, xsv, xak, xaj, xgc, xgk, xgn, xhs, xhg, xhn, xou, xah, xst, xpl, xft, xev, xdn, xus, xis, xvr, xhd, xtk, xpd, xpa, xpi, xun, xwj)) (X : sa_LX i (sv, ak, aj, gc, gk, gn, hs, hg, hn, ou) (nI ns, nI t, nI jc, nI tc, xhe, kd, p1, p2, p3, ac, ja, ji, jn, js, jt, tj, tt, xss, xsv, xak, xaj, xgc, xgk, xgn, xhs, xhg, xhn, xou, xah, xst, xpl, xft, xev, xdn, xus, xis, xvr, xhd, xtk, xpd, xpa, xpi, xun, xwj)) (H : sa_HX i (1, pl, ev, dn, us, is, vr, hd, tk, pn, pa, pi, false, -1) (nI ns, nI t, nI jc, nI tc, xhe, kd, p1, p2, p3, ac, ja, ji, jn, js, jt, tj, tt, xss, xsv, xak, xaj, xgc, xgk, xgn, xhs, xhg, xhn, xou, xah, xst, xpl, xft, xev, xdn, xus, xis, xvr, xhd, xtk, xpd, xpa, xpi, xun, xwj)) (hp : pl < ns) (hq : dn < 200) (hk : kd pl = 8) (ha : a < 20) (e1 : p1 pl = nI a) : sa_GO i (ns, kd, p1, p2, p3, ac) t (jc, ja, ji, jn, js, jt, tc, tj, tt) (sv, ak, aj, gc, gk, gn, hs, hg, hn, ou) (1, pl, ev, dn, us, is, vr, hd, tk, pn, pa, pi, false, -1) (1, a, ev, dn + 1, us, is, vr, hd, tk, pn, pa, pi, false, -1) (nI ns, nI t, nI jc, nI tc, xhe, kd, p1, p2, p3, ac, ja, ji, jn, js, jt, tj, tt, xss, xsv, xak, xaj, xgc, xgk, xgn, xhs, xhg, xhn, xou, xah, xst, xpl, xft, xev, xdn, xus, xis, xvr, xhd, xtk, xpd, xpa, xpi, xun, xwj) := by
  obtain ⟨⟨w1, w2, w3, w4⟩, _⟩ := W
  obtain ⟨⟨b1, b2, b3, b4, b5⟩, c1, c2, c3, c4, c5, c6, c7, c8, c9, c10, c11, c12, c13, c14, c15⟩ := H
  obtain ⟨⟨l1, l2, l3⟩, d1, d2, d3, d4, d5, d6, d7, d8, d9, d10⟩ := X
  exact ⟨(nI ns, nI t, nI jc, nI tc, xhe, kd, p1, p2, p3, ac, ja, ji, jn, js, jt, tj, tt, xss, xsv, xak, xaj, xgc, xgk, xgn, xhs, xhg, xhn, xou, xah, xst, upd xpl i (nI a), xft, xev, upd xdn i (nI (dn + 1)), xus, xis, xvr, xhd, xtk, xpd, xpa, xpi, xun, xwj), ⟨⟨w1, w2, by omega, w4⟩, rfl, rfl, rfl, rfl, rfl, rfl, rfl, rfl, rfl, rfl, rfl, rfl, rfl, rfl, rfl, rfl⟩, ⟨⟨by omega, by omega, by omega⟩, d1, d2, d3, d4, d5, d6, d7, d8, d9, d10⟩, ⟨⟨by omega, by omega, by omega, by omega, by omega⟩, c1, pk_us, nofun, c4, pk_us, c6, c7, c8, c9, c10, c11, c12, c13, c14, c15⟩, ⟨⟨rfl, rfl⟩, fun i' hi' hne => ⟨rfl, rfl, fun _ _ => rfl, rfl, fun _ _ => rfl, fun _ _ => rfl, rfl, fun _ _ => rfl, fun _ _ => rfl, rfl, rfl, pk_un hne, rfl, rfl, pk_un hne, rfl, rfl, fun _ _ => rfl, fun _ _ => rfl, fun _ _ => rfl, rfl, fun _ _ => rfl, fun _ _ => rfl, rfl, rfl⟩⟩,
    sa_go1 rfl rfl rfl rfl (sa_mu_a hq (Nat.le_refl _)) (fun Q K => sa_x_jump hi w1 c14 c2 hp hk c5 hq c1 ha e1 K)⟩
theorem sa_G_less1 (hi : i < 3) (W : sa_WX (ns, kd, p1, p2, p3, ac) t (jc, ja, ji, jn, js, jt, tc, tj, tt) (nI ns, nI t, nI jc, nI tc, xhe, kd, p1, p2, p3, ac, ja, ji, jn, js, jt, tj, tt, xss, xsv, xak, xaj, xgc, xgk, xgn, xhs, xhg, xhn, xou, xah, xst, xpl, xft, xev, xdn, xus, xis, xvr, xhd, xtk, xpd, xpa, xpi, xun, xwj)) (X : sa_LX i (sv, ak, aj, gc, gk, gn, hs, hg, hn, ou) (nI ns, nI t, nI jc, nI tc, xhe, kd, p1, p2, p3, ac, ja, ji, jn, js, jt, tj, tt, xss, xsv, xak, xaj, xgc, xgk, xgn, xhs, xhg, xhn, xou, xah, xst, xpl, xft, xev, xdn, xus, xis, xvr, xhd, xtk, xpd, xpa, xpi, xun, xwj)) (H : sa_HX i (1, pl, ev, dn, us, is, vr, hd, tk, pn, pa, pi, false, -1) (nI ns, nI t, nI jc, nI tc, xhe, kd, p1, p2, p3, ac, ja, ji, jn, js, jt, tj, tt, xss, xsv, xak, xaj, xgc, xgk, xgn, xhs, xhg, xhn, xou, xah, xst, xpl, xft, xev, xdn, xus, xis, xvr, xhd, xtk, xpd, xpa, xpi, xun, xwj)) (hp : pl < ns) (hq : dn < 200) (hk : kd pl = 9) (ha : a < 4) (hb : b < 4) (e1 : p1 pl = nI a) (e2 : p2 pl = nI b) (hz : vr b ≤ vr a) : sa_GO i (ns, kd, p1, p2, p3, ac) t (jc, ja, ji, jn, js, jt, tc, tj, tt) (sv, ak, aj, gc, gk, gn, hs, hg, hn, ou) (1, pl, ev, dn, us, is, vr, hd, tk, pn, pa, pi, false, -1) (1, pl + 1, ev, dn + 1, us, is, vr, hd, tk, pn, pa, pi, false, -1) (nI ns, nI t, nI jc, nI tc, xhe, kd, p1, p2, p3, ac, ja, ji, jn, js, jt, tj, tt, xss, xsv, xak, xaj, xgc, xgk, xgn, xhs, xhg, xhn, xou, xah, xst, xpl, xft, xev, xdn, xus, xis, xvr, xhd, xtk, xpd, xpa, xpi, xun, xwj) := by
  obtain ⟨⟨w1, w2, w3, w4⟩, _⟩ := W
  obtain ⟨⟨b1, b2, b3, b4, b5⟩, c1, c2, c3, c4, c5, c6, c7, c8, c9, c10, c11, c12, c13, c14, c15⟩ := H
  obtain ⟨⟨l1, l2, l3⟩, d1, d2, d3, d4, d5, d6, d7, d8, d9, d10⟩ := X
  exact ⟨(nI ns, nI t, nI jc, nI tc, xhe, kd, p1, p2, p3, ac, ja, ji, jn, js, jt, tj, tt, xss, xsv, xak, xaj, xgc, xgk, xgn, xhs, xhg, xhn, xou, xah, xst, upd xpl i (nI (pl + 1)), xft, xev, upd xdn i (nI (dn + 1)), xus, xis, xvr, xhd, xtk, xpd, xpa, xpi, xun, xwj), ⟨⟨w1, w2, by omega, w4⟩, rfl, rfl, rfl, rfl, rfl, rfl, rfl, rfl, rfl, rfl, rfl, rfl, rfl, rfl, rfl, rfl⟩, ⟨⟨by omega, by omega, by omega⟩, d1, d2, d3, d4, d5, d6, d7, d8, d9, d10⟩, ⟨⟨by omega, by omega, by omega, by omega, by omega⟩, c1, pk_us, nofun, c4, pk_us, c6, c7, c8, c9, c10, c11, c12, c13, c14, c15⟩, ⟨⟨rfl, rfl⟩, fun i' hi' hne => ⟨rfl, rfl, fun _ _ => rfl, rfl, fun _ _ => rfl, fun _ _ => rfl, rfl, fun _ _ => rfl, fun _ _ => rfl, rfl, rfl, pk_un hne, rfl, rfl, pk_un hne, rfl, rfl, fun _ _ => rfl, fun _ _ => rfl, fun _ _ => rfl, rfl, fun _ _ => rfl, fun _ _ => rfl, rfl, rfl⟩⟩,
    sa_go1 rfl rfl rfl rfl (sa_mu_a hq (Nat.le_refl _)) (fun Q K => sa_x_less1 hi w1 c14 c2 hp hk c5 hq c1 ha hb e1 e2 (by rw [c8 a ha, c8 b hb]; exact hz) K)⟩
theorem sa_G_less2 (hi : i < 3) (W : sa_WX (ns, kd, p1, p2, p3, ac) t (jc, ja, ji, jn, js, jt, tc, tj, tt) (nI ns, nI t, nI jc, nI tc, xhe, kd, p1, p2, p3, ac, ja, ji, jn, js, jt, tj, tt, xss, xsv, xak, xaj, xgc, xgk, xgn, xhs, xhg, xhn, xou, xah, xst, xpl, xft, xev, xdn, xus, xis, xvr, xhd, xtk, xpd, xpa, xpi, xun, xwj)) (X : sa_LX i (sv, ak, aj, gc, gk, gn, hs, hg, hn, ou) (nI ns, nI t, nI jc, nI tc, xhe, kd, p1, p2, p3, ac, ja, ji, jn, js, jt, tj, tt, xss, xsv, xak, xaj, xgc, xgk, xgn, xhs, xhg, xhn, xou, xah, xst, xpl, xft, xev, xdn, xus, xis, xvr, xhd, xtk, xpd, xpa, xpi, xun, xwj)) (H : sa_HX i (1, pl, ev, dn, us, is, vr, hd, tk, pn, pa, pi, false, -1) (nI ns, nI t, nI jc, nI tc, xhe, kd, p1, p2, p3, ac, ja, ji, jn, js, jt, tj, tt, xss, xsv, xak, xaj, xgc, xgk, xgn, xhs, xhg, xhn, xou, xah, xst, xpl, xft, xev, xdn, xus, xis, xvr, xhd, xtk, xpd, xpa, xpi, xun, xwj)) (hp : pl < ns) (hq : dn < 200) (hk : kd pl = 9) (ha : a < 4) (hb : b < 4) (hc : c < 20) (e1 : p1 pl = nI a) (e2 : p2 pl = nI b) (e3 : p3 pl = nI c) (hz : ¬ vr b ≤ vr a) : sa_GO i (ns, kd, p1, p2, p3, ac) t (jc, ja, ji, jn, js, jt, tc, tj, tt) (sv, ak, aj, gc, gk, gn, hs, hg, hn, ou) (1, pl, ev, dn, us, is, vr, hd, tk, pn, pa, pi, false, -1) (1, c, ev, dn + 1, us, is, vr, hd, tk, pn, pa, pi, false, -1) (nI ns, nI t, nI jc, nI tc, xhe, kd, p1, p2, p3, ac, ja, ji, jn, js, jt, tj, tt, xss, xsv, xak, xaj, xgc, xgk, xgn, xhs, xhg, xhn, xou, xah, xst, xpl, xft, xev, xdn, xus, xis, xvr, xhd, xtk, xpd, xpa, xpi, xun, xwj) := by
  obtain ⟨⟨w1, w2, w3, w4⟩, _⟩ := W
  obtain ⟨⟨b1, b2, b3, b4, b5⟩, c1, c2, c3, c4, c5, c6, c7, c8, c9, c10, c11, c12, c13, c14, c15⟩ := H
  obtain ⟨⟨l1, l2, l3⟩, d1, d2, d3, d4, d5, d6, d7, d8, d9, d10⟩ := X
  exact ⟨(nI ns, nI t, nI jc, nI tc, xhe, kd, p1, p2, p3, ac, ja, ji, jn, js, jt, tj, tt, xss, xsv, xak, xaj, xgc, xgk, xgn, xhs, xhg, xhn, xou, xah, xst, upd xpl i (nI c), xft, xev, upd xdn i (nI (dn + 1)), xus, xis, xvr, xhd, xtk, xpd, xpa, xpi, xun, xwj), ⟨⟨w1, w2, by omega, w4⟩, rfl, rfl, rfl, rfl, rfl, rfl, rfl, rfl, rfl, rfl, rfl, rfl, rfl, rfl, rfl, rfl⟩, ⟨⟨by omega, by omega, by omega⟩, d1, d2, d3, d4, d5, d6, d7, d8, d9, d10⟩, ⟨⟨by omega, by omega, by omega, by omega, by omega⟩, c1, pk_us, nofun, c4, pk_us, c6, c7, c8, c9, c10, c11, c12, c13, c14, c15⟩, ⟨⟨rfl, rfl⟩, fun i' hi' hne => ⟨rfl, rfl, fun _ _ => rfl, rfl, fun _ _ => rfl, fun _ _ => rfl, rfl, fun _ _ => rfl, fun _ _ => rfl, rfl, rfl, pk_un hne, rfl, rfl, pk_un hne, rfl, rfl, fun _ _ => rfl, fun _ _ => rfl, fun _ _ => rfl, rfl, fun _ _ => rfl, fun _ _ => rfl, rfl, rfl⟩⟩,
    sa_go1 rfl rfl rfl rfl (sa_mu_a hq (Nat.le_refl _)) (fun Q K => sa_x_less2 hi w1 c14 c2 hp hk c5 hq c1 ha hb e1 e2 e3 (by rw [c8 a ha, c8 b hb]; exact hz) K)⟩
theorem sa_G_signal (hi : i < 3) (W : sa_WX (ns, kd, p1, p2, p3, ac) t (jc, ja, ji, jn, js, jt, tc, tj, tt) (nI ns, nI t, nI jc, nI tc, xhe, kd, p1, p2, p3, ac, ja, ji, jn, js, jt, tj, tt, xss, xsv, xak, xaj, xgc, xgk, xgn, xhs, xhg, xhn, xou, xah, xst, xpl, xft, xev, xdn, xus, xis, xvr, xhd, xtk, xpd, xpa, xpi, xun, xwj)) (X : sa_LX i (sv, ak, aj, gc, gk, gn, hs, hg, hn, ou) (nI ns, nI t, nI jc, nI tc, xhe, kd, p1, p2, p3, ac, ja, ji, jn, js, jt, tj, tt, xss, xsv, xak, xaj, xgc, xgk, xgn, xhs, xhg, xhn, xou, xah, xst, xpl, xft, xev, xdn, xus, xis, xvr, xhd, xtk, xpd, xpa, xpi, xun, xwj)) (H : sa_HX i (1, pl, ev, dn, us, is, vr, hd, tk, pn, pa, pi, false, -1) (nI ns, nI t, nI jc, nI tc, xhe, kd, p1, p2, p3, ac, ja, ji, jn, js, jt, tj, tt, xss, xsv, xak, xaj, xgc, xgk, xgn, xhs, xhg, xhn, xou, xah, xst, xpl, xft, xev, xdn, xus, xis, xvr, xhd, xtk, xpd, xpa, xpi, xun, xwj)) (hp : pl < ns) (hq : dn < 200) (hk : kd pl = 10) (ha : a < 2) (e1 : p1 pl = nI a) : sa_GO i (ns, kd, p1, p2, p3, ac) t (jc, ja, ji, jn, js, jt, tc, tj, tt) (sv, ak, aj, gc, gk, gn, hs, hg, hn, ou) (1, pl, ev, dn, us, is, vr, hd, tk, pn, pa, pi, false, -1) (1, pl, ev, dn + 1, us, is, vr, hd, tk, pn, pa, pi, false, 0) (nI ns, nI t, nI jc, nI tc, xhe, kd, p1, p2, p3, ac, ja, ji, jn, js, jt, tj, tt, xss, xsv, xak, xaj, xgc, xgk, xgn, xhs, xhg, xhn, xou, xah, xst, xpl, xft, xev, xdn, xus, xis, xvr, xhd, xtk, xpd, xpa, xpi, xun, xwj) := by
  obtain ⟨⟨w1, w2, w3, w4⟩, _⟩ := W
  obtain ⟨⟨b1, b2, b3, b4, b5⟩, c1, c2, c3, c4, c5, c6, c7, c8, c9, c10, c11, c12, c13, c14, c15⟩ := H
  obtain ⟨⟨l1, l2, l3⟩, d1, d2, d3, d4, d5, d6, d7, d8, d9, d10⟩ := X
  exact ⟨(nI ns, nI t, nI jc, nI tc, xhe, kd, p1, p2, p3, ac, ja, ji, jn, js, jt, tj, tt, xss, xsv, xak, xaj, xgc, xgk, xgn, xhs, xhg, xhn, xou, xah, xst, xpl, xft, xev, upd xdn i (nI (dn + 1)), xus, xis, xvr, xhd, xtk, xpd, xpa, xpi, xun, upd xwj i 0), ⟨⟨w1, w2, by omega, w4⟩, rfl, rfl, rfl, rfl, rfl, rfl, rfl, rfl, rfl, rfl, rfl, rfl, rfl, rfl, rfl, rfl⟩, ⟨⟨by omega, by omega, by omega⟩, d1, d2, d3, d4, d5, d6, d7, d8, d9, d10⟩, ⟨⟨by omega, by omega, by omega, by omega, by omega⟩, c1, c2, nofun, c4, pk_us, c6, c7, c8, c9, c10, c11, c12, c13, c14, pk_us⟩, ⟨⟨rfl, rfl⟩, fun i' hi' hne => ⟨rfl, rfl, fun _ _ => rfl, rfl, fun _ _ => rfl, fun _ _ => rfl, rfl, fun _ _ => rfl, fun _ _ => rfl, rfl, rfl, rfl, rfl, rfl, pk_un hne, rfl, rfl, fun _ _ => rfl, fun _ _ => rfl, fun _ _ => rfl, rfl, fun _ _ => rfl, fun _ _ => rfl, rfl, pk_un hne⟩⟩,
    sa_gow rfl rfl rfl (show (0 : Int32) ≠ -1 from by decide) (sa_mu_a hq (Nat.le_refl _)) (fun Q B => by
      obtain ⟨B1, B2, B3, B4, B5⟩ := B
      exact sa_x_signal hi w1 c14 c2 hp hk c5 hq c15 (show a < 4 by omega) e1 (fun R hR S hS => by rw [← e1]; exact B5 rfl hk R hR S hS))⟩
theorem sa_G_ends (hi : i < 3) (W : sa_WX (ns, kd, p1, p2, p3, ac) t (jc, ja, ji, jn, js, jt, tc, tj, tt) (nI ns, nI t, nI jc, nI tc, xhe, kd, p1, p2, p3, ac, ja, ji, jn, js, jt, tj, tt, xss, xsv, xak, xaj, xgc, xgk, xgn, xhs, xhg, xhn, xou, xah, xst, xpl, xft, xev, xdn, xus, xis, xvr, xhd, xtk, xpd, xpa, xpi, xun, xwj)) (X : sa_LX i (sv, ak, aj, gc, gk, gn, hs, hg, hn, ou) (nI ns, nI t, nI jc, nI tc, xhe, kd, p1, p2, p3, ac, ja, ji, jn, js, jt, tj, tt, xss, xsv, xak, xaj, xgc, xgk, xgn, xhs, xhg, xhn, xou, xah, xst, xpl, xft, xev, xdn, xus, xis, xvr, xhd, xtk, xpd, xpa, xpi, xun, xwj)) (H : sa_HX i (1, pl, ev, dn, us, is, vr, hd, tk, pn, pa, pi, false, -1) (nI ns, nI t, nI jc, nI tc, xhe, kd, p1, p2, p3, ac, ja, ji, jn, js, jt, tj, tt, xss, xsv, xak, xaj, xgc, xgk, xgn, xhs, xhg, xhn, xou, xah, xst, xpl, xft, xev, xdn, xus, xis, xvr, xhd, xtk, xpd, xpa, xpi, xun, xwj)) (hp : pl < ns) (hq : dn < 200) (hk : kd pl = 11) (ha : a < 4) (e1 : p1 pl = nI a) : sa_GO i (ns, kd, p1, p2, p3, ac) t (jc, ja, ji, jn, js, jt, tc, tj, tt) (sv, ak, aj, gc, gk, gn, hs, hg, hn, ou) (1, pl, ev, dn, us, is, vr, hd, tk, pn, pa, pi, false, -1) (2, pl, vr a, dn + 1, us, is, vr, hd, tk, pn, pa, pi, false, -1) (nI ns, nI t, nI jc, nI tc, xhe, kd, p1, p2, p3, ac, ja, ji, jn, js, jt, tj, tt, xss, xsv, xak, xaj, xgc, xgk, xgn, xhs, xhg, xhn, xou, xah, xst, xpl, xft, xev, xdn, xus, xis, xvr, xhd, xtk, xpd, xpa, xpi, xun, xwj) := by
  obtain ⟨⟨w1, w2, w3, w4⟩, _⟩ := W
  obtain ⟨⟨b1, b2, b3, b4, b5⟩, c1, c2, c3, c4, c5, c6, c7, c8, c9, c10, c11, c12, c13, c14, c15⟩ := H
  obtain ⟨⟨l1, l2, l3⟩, d1, d2, d3, d4, d5, d6, d7, d8, d9, d10⟩ := X
  exact ⟨(nI ns, nI t, nI jc, nI tc, xhe, kd, p1, p2, p3, ac, ja, ji, jn, js, jt, tj, tt, xss, xsv, xak, xaj, xgc, xgk, xgn, xhs, xhg, xhn, xou, xah, upd xst i 2, xpl, xft, upd xev i (xvr (4 * i + a)), upd xdn i (nI (dn + 1)), xus, xis, xvr, xhd, xtk, xpd, xpa, xpi, xun, xwj), ⟨⟨w1, w2, by omega, w4⟩, rfl, rfl, rfl, rfl, rfl, rfl, rfl, rfl, rfl, rfl, rfl, rfl, rfl, rfl, rfl, rfl⟩, ⟨⟨by omega, by omega, by omega⟩, d1, d2, d3, d4, d5, d6, d7, d8, d9, d10⟩, ⟨⟨by omega, by omega, by omega, by omega, by omega⟩, pk_us, c2, nofun, (by rw [c8 a ha]; exact pk_us), pk_us, c6, c7, c8, c9, c10, c11, c12, c13, c14, c15⟩, ⟨⟨rfl, rfl⟩, fun i' hi' hne => ⟨rfl, rfl, fun _ _ => rfl, rfl, fun _ _ => rfl, fun _ _ => rfl, rfl, fun _ _ => rfl, fun _ _ => rfl, rfl, pk_un hne, rfl, rfl, pk_un hne, pk_un hne, rfl, rfl, fun _ _ => rfl, fun _ _ => rfl, fun _ _ => rfl, rfl, fun _ _ => rfl, fun _ _ => rfl, rfl, rfl⟩⟩,
    sa_go0 rfl rfl (show (2 : Int32) ≠ 1 from by decide) (fun Q K => sa_x_ends hi w1 c14 c2 hp hk c5 hq c1 ha e1 K)⟩
theorem sa_G_fail (hi : i < 3) (W : sa_WX (ns, kd, p1, p2, p3, ac) t (jc, ja, ji, jn, js, jt, tc, tj, tt) (nI ns, nI t, nI jc, nI tc, xhe, kd, p1, p2, p3, ac, ja, ji, jn, js, jt, tj, tt, xss, xsv, xak, xaj, xgc, xgk, xgn, xhs, xhg, xhn, xou, xah, xst, xpl, xft, xev, xdn, xus, xis, xvr, xhd, xtk, xpd, xpa, xpi, xun, xwj)) (X : sa_LX i (sv, ak, aj, gc, gk, gn, hs, hg, hn, ou) (nI ns, nI t, nI jc, nI tc, xhe, kd, p1, p2, p3, ac, ja, ji, jn, js, jt, tj, tt, xss, xsv, xak, xaj, xgc, xgk, xgn, xhs, xhg, xhn, xou, xah, xst, xpl, xft, xev, xdn, xus, xis, xvr, xhd, xtk, xpd, xpa, xpi, xun, xwj)) (H : sa_HX i (1, pl, ev, dn, us, is, vr, hd, tk, pn, pa, pi, false, -1) (nI ns, nI t, nI jc, nI tc, xhe, kd, p1, p2, p3, ac, ja, ji, jn, js, jt, tj, tt, xss, xsv, xak, xaj, xgc, xgk, xgn, xhs, xhg, xhn, xou, xah, xst, xpl, xft, xev, xdn, xus, xis, xvr, xhd, xtk, xpd, xpa, xpi, xun, xwj)) (hp : pl < ns) (hq : dn < 200) (hk : kd pl = 12) : sa_GO i (ns, kd, p1, p2, p3, ac) t (jc, ja, ji, jn, js, jt, tc, tj, tt) (sv, ak, aj, gc, gk, gn, hs, hg, hn, ou) (1, pl, ev, dn, us, is, vr, hd, tk, pn, pa, pi, false, -1) (1, pl, ev, dn + 1, us, is, vr, hd, tk, pn, pa, pi, true, -1) (nI ns, nI t, nI jc, nI tc, xhe, kd, p1, p2, p3, ac, ja, ji, jn, js, jt, tj, tt, xss, xsv, xak, xaj, xgc, xgk, xgn, xhs, xhg, xhn, xou, xah, xst, xpl, xft, xev, xdn, xus, xis, xvr, xhd, xtk, xpd, xpa, xpi, xun, xwj) := by
  obtain ⟨⟨w1, w2, w3, w4⟩, _⟩ := W
  obtain ⟨⟨b1, b2, b3, b4, b5⟩, c1, c2, c3, c4, c5, c6, c7, c8, c9, c10, c11, c12, c13, c14, c15⟩ := H
  obtain ⟨⟨l1, l2, l3⟩, d1, d2, d3, d4, d5, d6, d7, d8, d9, d10⟩ := X
  exact ⟨(nI ns, nI t, nI jc, nI tc, xhe, kd, p1, p2, p3, ac, ja, ji, jn, js, jt, tj, tt, xss, xsv, xak, xaj, xgc, xgk, xgn, xhs, xhg, xhn, xou, xah, xst, xpl, upd xft i (nI pl), xev, upd xdn i (nI (dn + 1)), xus, xis, xvr, xhd, xtk, xpd, xpa, xpi, upd xun i (nI pn), upd xwj i (-1)), ⟨⟨w1, w2, by omega, w4⟩, rfl, rfl, rfl, rfl, rfl, rfl, rfl, rfl, rfl, rfl, rfl, rfl, rfl, rfl, rfl, rfl⟩, ⟨⟨by omega, by omega, by omega⟩, d1, d2, d3, d4, d5, d6, d7, d8, d9, d10⟩, ⟨⟨by omega, by omega, by omega, by omega, by omega⟩, c1, c2, fun _ => pk_us, c4, pk_us, c6, c7, c8, c9, c10, nofun, c12, c13, pk_us, pk_us⟩, ⟨⟨rfl, rfl⟩, fun i' hi' hne => ⟨rfl, rfl, fun _ _ => rfl, rfl, fun _ _ => rfl, fun _ _ => rfl, rfl, fun _ _ => rfl, fun _ _ => rfl, rfl, rfl, rfl, pk_un hne, rfl, pk_un hne, rfl, rfl, fun _ _ => rfl, fun _ _ => rfl, fun _ _ => rfl, rfl, fun _ _ => rfl, fun _ _ => rfl, pk_un hne, pk_un hne⟩⟩,
    sa_go1 rfl rfl rfl rfl (sa_mu_a hq (Nat.le_refl _)) (fun Q K => sa_x_fail hi w1 c14 c2 hp hk c5 hq c1 (c11 rfl) K)⟩
end
end
section
/-! the component does every step -/
theorem sa_WXi {P : sa_P} {t : Nat} {J : sa_J} {u : SX} {C : sa_P → sa_J → SX → Prop} (W : sa_WX P t J u)
    (h : ∀ (ns jc tc : Nat) (xhe : Int32) (kd p1 p2 p3 ac ja ji jn js jt tj tt xss xsv xak xaj xgc xgk xgn xhs xhg xhn xou xah xst xpl xft xev xdn xus xis xvr xhd xtk xpd xpa xpi xun xwj : Nat → Int32), sa_WX (ns, kd, p1, p2, p3, ac) t (jc, ja, ji, jn, js, jt, tc, tj, tt) (nI ns, nI t, nI jc, nI tc, xhe, kd, p1, p2, p3, ac, ja, ji, jn, js, jt, tj, tt, xss, xsv, xak, xaj, xgc, xgk, xgn, xhs, xhg, xhn, xou, xah, xst, xpl, xft, xev, xdn, xus, xis, xvr, xhd, xtk, xpd, xpa, xpi, xun, xwj) → C (ns, kd, p1, p2, p3, ac) (jc, ja, ji, jn, js, jt, tc, tj, tt) (nI ns, nI t, nI jc, nI tc, xhe, kd, p1, p2, p3, ac, ja, ji, jn, js, jt, tj, tt, xss, xsv, xak, xaj, xgc, xgk, xgn, xhs, xhg, xhn, xou, xah, xst, xpl, xft, xev, xdn, xus, xis, xvr, xhd, xtk, xpd, xpa, xpi, xun, xwj)) : C P J u := by
  obtain ⟨ns, kd, p1, p2, p3, ac⟩ := P
  obtain ⟨jc, ja, ji, jn, js, jt, tc, tj, tt⟩ := J
  obtain ⟨xns, xnow, xjc, xtc, xhe, xkd, xp1, xp2, xp3, xac, xja, xji, xjn, xjs, xjt, xtj, xtt, xss, xsv, xak, xaj, xgc, xgk, xgn, xhs, xhg, xhn, xou, xah, xst, xpl, xft, xev, xdn, xus, xis, xvr, xhd, xtk, xpd, xpa, xpi, xun, xwj⟩ := u
  have W' := W
  obtain ⟨⟨w1, w2, w3, w4⟩, rfl, rfl, rfl, rfl, rfl, rfl, rfl, rfl, rfl, rfl, rfl, rfl, rfl, rfl, rfl, rfl⟩ := W
  exact h ns jc tc xhe xkd xp1 xp2 xp3 xac xja xji xjn xjs xjt xtj xtt xss xsv xak xaj xgc xgk xgn xhs xhg xhn xou xah xst xpl xft xev xdn xus xis xvr xhd xtk xpd xpa xpi xun xwj W'
theorem sa_XS0 {i t : Nat} {P : sa_P} {J : sa_J} {L : sa_L} {h h' : sa_H} {u : SX} (hi : i < 3) (W : sa_WX P t J u) (X : sa_LX i L u) (H : sa_HX i h u) (S : sa_S0 P h h') : sa_GO i P t J L h h' u := by
  revert X H S
  refine sa_WXi (C := fun P J u => sa_LX i L u → sa_HX i h u → sa_S0 P h h' → sa_GO i P t J L h h' u) W ?_
  intro ns jc tc xhe kd p1 p2 p3 ac ja ji jn js jt tj tt xss xsv xak xaj xgc xgk xgn xhs xhg xhn xou xah xst xpl xft xev xdn xus xis xvr xhd xtk xpd xpa xpi xun xwj W X H S
  obtain ⟨sv, ak, aj, gc, gk, gn, hs, hg, hn, ou⟩ := L
  obtain ⟨st, pl, ev, dn, us, is, vr, hd, tk, pn, pa, pi, un, wj⟩ := h
  obtain ⟨rfl, rfl, rfl, S⟩ := S
  rcases S with ⟨hp, rfl⟩ | ⟨hp, hq, rfl⟩ | ⟨hp, hq, S⟩
  · exact sa_G_done hi W X H hp
  · exact sa_G_brk hi W X H hp hq
  rcases S with ⟨hk, a, ha, e1, rfl⟩ | ⟨hk, a, b, ha, hb, e1, e2, rfl⟩ | ⟨hk, a, b, ha, hb, e1, e2, rfl⟩ | ⟨hk, hm, _, rfl⟩ | ⟨hk, a, b, c, ha, hb, hc, e1, e2, e3, hh, rfl⟩ | ⟨hk, a, b, c, ha, hb, hc, e1, e2, e3, hh, hm, rfl⟩ | ⟨hk, a, b, ha, hb, e1, e2, hh, rfl⟩ | ⟨hk, a, b, ha, hb, e1, e2, hh, rfl⟩ | ⟨hk, a, b, ha, hb, e1, e2, hm, rfl⟩ | ⟨hk, a, ha, e1, hz, rfl⟩ | ⟨hk, a, ha, e1, hz, rfl⟩ | ⟨hk, a, ha, e1, rfl⟩ | ⟨hk, a, b, c, ha, hb, hc, e1, e2, e3, hz, rfl⟩ | ⟨hk, a, b, c, ha, hb, hc, e1, e2, e3, hz, rfl⟩ | ⟨hk, a, b, ha, hb, e1, e2, rfl⟩ | ⟨hk, a, ha, e1, rfl⟩
  · exact sa_G_set hi W X H hp hq hk ha e1
  · exact sa_G_add hi W X H hp hq hk ha hb e1 e2
  · exact sa_G_sub hi W X H hp hq hk ha hb e1 e2
  · exact sa_G_dox hi W X H hp hq hk hm
  · exact sa_G_startx1 hi W X H hp hq hk ha hb hc e1 e2 e3 hh
  · exact sa_G_startx2 hi W X H hp hq hk ha hb hc e1 e2 e3 hh hm
  · exact sa_G_awaitx hi W X H hp hq hk ha e1 hh
  · exact sa_G_await hi W X H hp hq hk ha e1 hh
  · exact sa_G_undo hi W X H hp hq hk ha hb e1 e2 hm
  · exact sa_G_sleep0 hi W X H hp hq hk ha e1 hz
  · exact sa_G_sleep hi W X H hp hq hk ha e1 hz
  · exact sa_G_jump hi W X H hp hq hk ha e1
  · exact sa_G_less1 hi W X H hp hq hk ha hb e1 e2 hz
  · exact sa_G_less2 hi W X H hp hq hk ha hb hc e1 e2 e3 hz
  · exact sa_G_signal hi W X H hp hq hk ha e1
  · exact sa_G_ends hi W X H hp hq hk ha e1
theorem sa_XSF {i t : Nat} {P : sa_P} {J : sa_J} {L : sa_L} {h h' : sa_H} {u : SX} (hi : i < 3) (W : sa_WX P t J u) (X : sa_LX i L u) (H : sa_HX i h u) (S : sa_SF P h h') : sa_GO i P t J L h h' u := by
  revert X H S
  refine sa_WXi (C := fun P J u => sa_LX i L u → sa_HX i h u → sa_SF P h h' → sa_GO i P t J L h h' u) W ?_
  intro ns jc tc xhe kd p1 p2 p3 ac ja ji jn js jt tj tt xss xsv xak xaj xgc xgk xgn xhs xhg xhn xou xah xst xpl xft xev xdn xus xis xvr xhd xtk xpd xpa xpi xun xwj W X H S
  obtain ⟨sv, ak, aj, gc, gk, gn, hs, hg, hn, ou⟩ := L
  obtain ⟨st, pl, ev, dn, us, is, vr, hd, tk, pn, pa, pi, un, wj⟩ := h
  obtain ⟨rfl, rfl, rfl, hp, hq, hk, rfl⟩ := S
  exact sa_G_fail hi W X H hp hq hk
end
section
/-! the component asks for a job, one asked for before (r) or a new one (l); and what it does with an empty pile -/
section
variable {xhe : Int32} {xss xsv xak xaj xgc xgk xgn xhs xhg xhn xou xah xst xpl xft xev xdn xus xis xvr xhd xtk xpd xpa xpi xun xwj : Nat → Int32} {ns : Nat} {kd p1 p2 p3 ac : Nat → Int32} {jc tc : Nat} {ja ji jn js jt tj tt : Nat → Int32} {sv ou : Int32} {ak gc hs : Nat} {aj gk gn hg hn : Nat → Int32} {st ev wj : Int32} {pl dn us is pn : Nat} {vr hd tk pa pi : Nat → Int32} {un : Bool} {i t a b c m : Nat}
theorem sa_mu_u {st st' : Int32} {pl pl' : Nat} {ev ev' : Int32} {dn us us' is pn pn' : Nat} {vr vr' hd hd' tk tk' pa pa' pi pi' : Nat → Int32} {un un' : Bool} {wj : Int32} (h : is < 30) :
    sa_mu (st', pl', ev', dn, us', is + 1, vr', hd', tk', pn', pa', pi', un', wj) < sa_mu (st, pl, ev, dn, us, is, vr, hd, tk, pn, pa, pi, un, -1) := by
  show 2 * (200 - dn) + 2 * (30 - (is + 1)) + (if wj = -1 then 0 else 1) + 1 < 2 * (200 - dn) + 2 * (30 - is) + 0 + 1
  have : (if wj = -1 then 0 else 1) ≤ 1 := by split <;> omega
  omega
theorem sa_G_u0 (hi : i < 3) (W : sa_WX (ns, kd, p1, p2, p3, ac) t (jc, ja, ji, jn, js, jt, tc, tj, tt) (nI ns, nI t, nI jc, nI tc, xhe, kd, p1, p2, p3, ac, ja, ji, jn, js, jt, tj, tt, xss, xsv, xak, xaj, xgc, xgk, xgn, xhs, xhg, xhn, xou, xah, xst, xpl, xft, xev, xdn, xus, xis, xvr, xhd, xtk, xpd, xpa, xpi, xun, xwj)) (X : sa_LX i (sv, ak, aj, gc, gk, gn, hs, hg, hn, ou) (nI ns, nI t, nI jc, nI tc, xhe, kd, p1, p2, p3, ac, ja, ji, jn, js, jt, tj, tt, xss, xsv, xak, xaj, xgc, xgk, xgn, xhs, xhg, xhn, xou, xah, xst, xpl, xft, xev, xdn, xus, xis, xvr, xhd, xtk, xpd, xpa, xpi, xun, xwj)) (H : sa_HX i (1, pl, ev, dn, us, is, vr, hd, tk, 0, pa, pi, true, -1) (nI ns, nI t, nI jc, nI tc, xhe, kd, p1, p2, p3, ac, ja, ji, jn, js, jt, tj, tt, xss, xsv, xak, xaj, xgc, xgk, xgn, xhs, xhg, xhn, xou, xah, xst, xpl, xft, xev, xdn, xus, xis, xvr, xhd, xtk, xpd, xpa, xpi, xun, xwj)) : sa_GO i (ns, kd, p1, p2, p3, ac) t (jc, ja, ji, jn, js, jt, tc, tj, tt) (sv, ak, aj, gc, gk, gn, hs, hg, hn, ou) (1, pl, ev, dn, us, is, vr, hd, tk, 0, pa, pi, true, -1) (3, pl, 0, dn, us, is, vr, hd, tk, 0, pa, pi, true, -1) (nI ns, nI t, nI jc, nI tc, xhe, kd, p1, p2, p3, ac, ja, ji, jn, js, jt, tj, tt, xss, xsv, xak, xaj, xgc, xgk, xgn, xhs, xhg, xhn, xou, xah, xst, xpl, xft, xev, xdn, xus, xis, xvr, xhd, xtk, xpd, xpa, xpi, xun, xwj) := by
  obtain ⟨⟨w1, w2, w3, w4⟩, _⟩ := W
  obtain ⟨⟨b1, b2, b3, b4, b5⟩, c1, c2, c3, c4, c5, c6, c7, c8, c9, c10, c11, c12, c13, c14, c15⟩ := H
  obtain ⟨⟨l1, l2, l3⟩, d1, d2, d3, d4, d5, d6, d7, d8, d9, d10⟩ := X
  exact ⟨(nI ns, nI t, nI jc, nI tc, xhe, kd, p1, p2, p3, ac, ja, ji, jn, js, jt, tj, tt, xss, xsv, xak, xaj, xgc, xgk, xgn, xhs, xhg, xhn, xou, xah, upd xst i 3, xpl, xft, upd xev i 0, xdn, xus, xis, xvr, xhd, xtk, xpd, xpa, xpi, xun, xwj), ⟨⟨w1, w2, by omega, w4⟩, rfl, rfl, rfl, rfl, rfl, rfl, rfl, rfl, rfl, rfl, rfl, rfl, rfl, rfl, rfl, rfl⟩, ⟨⟨by omega, by omega, by omega⟩, d1, d2, d3, d4, d5, d6, d7, d8, d9, d10⟩, ⟨⟨by omega, by omega, by omega, by omega, by omega⟩, pk_us, c2, c3, pk_us, c5, c6, c7, c8, c9, c10, c11, c12, c13, c14, c15⟩, ⟨⟨rfl, rfl⟩, fun i' hi' hne => ⟨rfl, rfl, fun _ _ => rfl, rfl, fun _ _ => rfl, fun _ _ => rfl, rfl, fun _ _ => rfl, fun _ _ => rfl, rfl, pk_un hne, rfl, rfl, pk_un hne, rfl, rfl, rfl, fun _ _ => rfl, fun _ _ => rfl, fun _ _ => rfl, rfl, fun _ _ => rfl, fun _ _ => rfl, rfl, rfl⟩⟩,
    sa_go0 rfl rfl (show (3 : Int32) ≠ 1 from by decide) (fun Q K => sa_x_u0 hi c14 c15 K)⟩
theorem sa_G_u1 (hi : i < 3) (W : sa_WX (ns, kd, p1, p2, p3, ac) t (jc, ja, ji, jn, js, jt, tc, tj, tt) (nI ns, nI t, nI jc, nI tc, xhe, kd, p1, p2, p3, ac, ja, ji, jn, js, jt, tj, tt, xss, xsv, xak, xaj, xgc, xgk, xgn, xhs, xhg, xhn, xou, xah, xst, xpl, xft, xev, xdn, xus, xis, xvr, xhd, xtk, xpd, xpa, xpi, xun, xwj)) (X : sa_LX i (sv, ak, aj, gc, gk, gn, hs, hg, hn, ou) (nI ns, nI t, nI jc, nI tc, xhe, kd, p1, p2, p3, ac, ja, ji, jn, js, jt, tj, tt, xss, xsv, xak, xaj, xgc, xgk, xgn, xhs, xhg, xhn, xou, xah, xst, xpl, xft, xev, xdn, xus, xis, xvr, xhd, xtk, xpd, xpa, xpi, xun, xwj)) (H : sa_HX i (1, pl, ev, dn, us, is, vr, hd, tk, m + 1, pa, pi, true, -1) (nI ns, nI t, nI jc, nI tc, xhe, kd, p1, p2, p3, ac, ja, ji, jn, js, jt, tj, tt, xss, xsv, xak, xaj, xgc, xgk, xgn, xhs, xhg, xhn, xou, xah, xst, xpl, xft, xev, xdn, xus, xis, xvr, xhd, xtk, xpd, xpa, xpi, xun, xwj)) (hm : m < 200) (hx : is = 30) : sa_GO i (ns, kd, p1, p2, p3, ac) t (jc, ja, ji, jn, js, jt, tc, tj, tt) (sv, ak, aj, gc, gk, gn, hs, hg, hn, ou) (1, pl, ev, dn, us, is, vr, hd, tk, m + 1, pa, pi, true, -1) (5, pl, 0, dn, us, is, vr, hd, tk, m + 1, pa, pi, true, -1) (nI ns, nI t, nI jc, nI tc, xhe, kd, p1, p2, p3, ac, ja, ji, jn, js, jt, tj, tt, xss, xsv, xak, xaj, xgc, xgk, xgn, xhs, xhg, xhn, xou, xah, xst, xpl, xft, xev, xdn, xus, xis, xvr, xhd, xtk, xpd, xpa, xpi, xun, xwj) := by
  obtain ⟨⟨w1, w2, w3, w4⟩, _⟩ := W
  obtain ⟨⟨b1, b2, b3, b4, b5⟩, c1, c2, c3, c4, c5, c6, c7, c8, c9, c10, c11, c12, c13, c14, c15⟩ := H
  obtain ⟨⟨l1, l2, l3⟩, d1, d2, d3, d4, d5, d6, d7, d8, d9, d10⟩ := X
  exact ⟨(nI ns, nI t, nI jc, nI tc, xhe, kd, p1, p2, p3, ac, ja, ji, jn, js, jt, tj, tt, xss, xsv, xak, xaj, xgc, xgk, xgn, xhs, xhg, xhn, xou, xah, upd xst i 5, xpl, xft, upd xev i 0, xdn, xus, xis, xvr, xhd, xtk, xpd, xpa, xpi, xun, xwj), ⟨⟨w1, w2, by omega, w4⟩, rfl, rfl, rfl, rfl, rfl, rfl, rfl, rfl, rfl, rfl, rfl, rfl, rfl, rfl, rfl, rfl⟩, ⟨⟨by omega, by omega, by omega⟩, d1, d2, d3, d4, d5, d6, d7, d8, d9, d10⟩, ⟨⟨by omega, by omega, by omega, by omega, by omega⟩, pk_us, c2, c3, pk_us, c5, c6, c7, c8, c9, c10, c11, c12, c13, c14, c15⟩, ⟨⟨rfl, rfl⟩, fun i' hi' hne => ⟨rfl, rfl, fun _ _ => rfl, rfl, fun _ _ => rfl, fun _ _ => rfl, rfl, fun _ _ => rfl, fun _ _ => rfl, rfl, pk_un hne, rfl, rfl, pk_un hne, rfl, rfl, rfl, fun _ _ => rfl, fun _ _ => rfl, fun _ _ => rfl, rfl, fun _ _ => rfl, fun _ _ => rfl, rfl, rfl⟩⟩,
    sa_go0 rfl rfl (show (5 : Int32) ≠ 1 from by decide) (fun Q K => sa_x_u1 hi c14 hm c15 (by rw [c7, hx]; rfl) K)⟩
theorem sa_G_do_r (hi : i < 3) (W : sa_WX (ns, kd, p1, p2, p3, ac) t (jc, ja, ji, jn, js, jt, tc, tj, tt) (nI ns, nI t, nI jc, nI tc, xhe, kd, p1, p2, p3, ac, ja, ji, jn, js, jt, tj, tt, xss, xsv, xak, xaj, xgc, xgk, xgn, xhs, xhg, xhn, xou, xah, xst, xpl, xft, xev, xdn, xus, xis, xvr, xhd, xtk, xpd, xpa, xpi, xun, xwj)) (X : sa_LX i (sv, ak, aj, gc, gk, gn, hs, hg, hn, ou) (nI ns, nI t, nI jc, nI tc, xhe, kd, p1, p2, p3, ac, ja, ji, jn, js, jt, tj, tt, xss, xsv, xak, xaj, xgc, xgk, xgn, xhs, xhg, xhn, xou, xah, xst, xpl, xft, xev, xdn, xus, xis, xvr, xhd, xtk, xpd, xpa, xpi, xun, xwj)) (H : sa_HX i (1, pl, ev, dn, us, is, vr, hd, tk, pn, pa, pi, false, -1) (nI ns, nI t, nI jc, nI tc, xhe, kd, p1, p2, p3, ac, ja, ji, jn, js, jt, tj, tt, xss, xsv, xak, xaj, xgc, xgk, xgn, xhs, xhg, xhn, xou, xah, xst, xpl, xft, xev, xdn, xus, xis, xvr, xhd, xtk, xpd, xpa, xpi, xun, xwj)) (hp : pl < ns) (hq : dn < 200) (h30 : is < 30) (hk : kd pl = 3) (hb : b < 4) (e2 : p2 pl = nI b) (h1 : is < ak) (hj : aj is ≠ -1) : sa_GO i (ns, kd, p1, p2, p3, ac) t (jc, ja, ji, jn, js, jt, tc, tj, tt) (sv, ak, aj, gc, gk, gn, hs, hg, hn, ou) (1, pl, ev, dn, us, is, vr, hd, tk, pn, pa, pi, false, -1) (1, pl, ev, dn + 1, us, is + 1, vr, hd, tk, pn, pa, pi, false, (aj is)) (nI ns, nI t, nI jc, nI tc, xhe, kd, p1, p2, p3, ac, ja, ji, jn, js, jt, tj, tt, xss, xsv, xak, xaj, xgc, xgk, xgn, xhs, xhg, xhn, xou, xah, xst, xpl, xft, xev, xdn, xus, xis, xvr, xhd, xtk, xpd, xpa, xpi, xun, xwj) := by
  obtain ⟨⟨w1, w2, w3, w4⟩, _⟩ := W
  obtain ⟨⟨b1, b2, b3, b4, b5⟩, c1, c2, c3, c4, c5, c6, c7, c8, c9, c10, c11, c12, c13, c14, c15⟩ := H
  obtain ⟨⟨l1, l2, l3⟩, d1, d2, d3, d4, d5, d6, d7, d8, d9, d10⟩ := X
  exact ⟨(nI ns, nI t, nI jc, nI tc, xhe, kd, p1, p2, p3, ac, ja, ji, jn, js, jt, tj, tt, xss, xsv, xak, xaj, xgc, xgk, xgn, xhs, xhg, xhn, xou, xah, xst, xpl, xft, xev, upd xdn i (nI (dn + 1)), xus, upd xis i (nI (is + 1)), xvr, xhd, xtk, xpd, xpa, xpi, xun, upd xwj i (aj is)), ⟨⟨w1, w2, by omega, w4⟩, rfl, rfl, rfl, rfl, rfl, rfl, rfl, rfl, rfl, rfl, rfl, rfl, rfl, rfl, rfl, rfl⟩, ⟨⟨by omega, by omega, by omega⟩, d1, d2, d3, d4, d5, d6, d7, d8, d9, d10⟩, ⟨⟨by omega, by omega, by omega, by omega, by omega⟩, c1, c2, nofun, c4, pk_us, c6, pk_us, c8, c9, c10, c11, c12, c13, c14, pk_us⟩, ⟨⟨rfl, rfl⟩, fun i' hi' hne => ⟨rfl, rfl, fun _ _ => rfl, rfl, fun _ _ => rfl, fun _ _ => rfl, rfl, fun _ _ => rfl, fun _ _ => rfl, rfl, rfl, rfl, rfl, rfl, pk_un hne, rfl, pk_un hne, fun _ _ => rfl, fun _ _ => rfl, fun _ _ => rfl, rfl, fun _ _ => rfl, fun _ _ => rfl, rfl, pk_un hne⟩⟩,
    sa_gow rfl rfl rfl hj (sa_mu_a hq (by omega)) (fun Q B => by
      obtain ⟨B1, B2, B3, B4, B5⟩ := B
      exact sa_x_do hi w1 c14 c2 hp hk c5 hq c1 c15 c7 h30 hb e2 (fun post K => sa_ask_r hi c7 d2 h1 l1 (by rw [d3 is h1]; exact K)) (fun R hR => B2 rfl hk R hR))⟩
theorem sa_G_start_r (hi : i < 3) (W : sa_WX (ns, kd, p1, p2, p3, ac) t (jc, ja, ji, jn, js, jt, tc, tj, tt) (nI ns, nI t, nI jc, nI tc, xhe, kd, p1, p2, p3, ac, ja, ji, jn, js, jt, tj, tt, xss, xsv, xak, xaj, xgc, xgk, xgn, xhs, xhg, xhn, xou, xah, xst, xpl, xft, xev, xdn, xus, xis, xvr, xhd, xtk, xpd, xpa, xpi, xun, xwj)) (X : sa_LX i (sv, ak, aj, gc, gk, gn, hs, hg, hn, ou) (nI ns, nI t, nI jc, nI tc, xhe, kd, p1, p2, p3, ac, ja, ji, jn, js, jt, tj, tt, xss, xsv, xak, xaj, xgc, xgk, xgn, xhs, xhg, xhn, xou, xah, xst, xpl, xft, xev, xdn, xus, xis, xvr, xhd, xtk, xpd, xpa, xpi, xun, xwj)) (H : sa_HX i (1, pl, ev, dn, us, is, vr, hd, tk, pn, pa, pi, false, -1) (nI ns, nI t, nI jc, nI tc, xhe, kd, p1, p2, p3, ac, ja, ji, jn, js, jt, tj, tt, xss, xsv, xak, xaj, xgc, xgk, xgn, xhs, xhg, xhn, xou, xah, xst, xpl, xft, xev, xdn, xus, xis, xvr, xhd, xtk, xpd, xpa, xpi, xun, xwj)) (hp : pl < ns) (hq : dn < 200) (h30 : is < 30) (hk : kd pl = 4) (ha : a < 4) (hb : b < 4) (hc : c < 3) (e1 : p1 pl = nI a) (e2 : p2 pl = nI b) (e3 : p3 pl = nI c) (hh : hd c = -1) (h1 : is < ak) (hj : aj is ≠ -1) : sa_GO i (ns, kd, p1, p2, p3, ac) t (jc, ja, ji, jn, js, jt, tc, tj, tt) (sv, ak, aj, gc, gk, gn, hs, hg, hn, ou) (1, pl, ev, dn, us, is, vr, hd, tk, pn, pa, pi, false, -1) (1, pl + 1, ev, dn + 1, us, is + 1, vr, upd hd c (aj is), tk, pn, pa, pi, false, -1) (nI ns, nI t, nI jc, nI tc, xhe, kd, p1, p2, p3, ac, ja, ji, jn, js, jt, tj, tt, xss, xsv, xak, xaj, xgc, xgk, xgn, xhs, xhg, xhn, xou, xah, xst, xpl, xft, xev, xdn, xus, xis, xvr, xhd, xtk, xpd, xpa, xpi, xun, xwj) := by
  obtain ⟨⟨w1, w2, w3, w4⟩, _⟩ := W
  obtain ⟨⟨b1, b2, b3, b4, b5⟩, c1, c2, c3, c4, c5, c6, c7, c8, c9, c10, c11, c12, c13, c14, c15⟩ := H
  obtain ⟨⟨l1, l2, l3⟩, d1, d2, d3, d4, d5, d6, d7, d8, d9, d10⟩ := X
  exact ⟨(nI ns, nI t, nI jc, nI tc, xhe, kd, p1, p2, p3, ac, ja, ji, jn, js, jt, tj, tt, xss, xsv, xak, xaj, xgc, xgk, xgn, xhs, xhg, xhn, xou, xah, xst, upd xpl i (nI (pl + 1)), xft, xev, upd xdn i (nI (dn + 1)), xus, upd xis i (nI (is + 1)), xvr, upd xhd (3 * i + c) (aj is), xtk, xpd, xpa, xpi, xun, xwj), ⟨⟨w1, w2, by omega, w4⟩, rfl, rfl, rfl, rfl, rfl, rfl, rfl, rfl, rfl, rfl, rfl, rfl, rfl, rfl, rfl, rfl⟩, ⟨⟨by omega, by omega, by omega⟩, d1, d2, d3, d4, d5, d6, d7, d8, d9, d10⟩, ⟨⟨by omega, by omega, by omega, by omega, by omega⟩, c1, pk_us, nofun, c4, pk_us, c6, pk_us, c8, sa_uo c9, c10, c11, c12, c13, c14, c15⟩, ⟨⟨rfl, rfl⟩, fun i' hi' hne => ⟨rfl, rfl, fun _ _ => rfl, rfl, fun _ _ => rfl, fun _ _ => rfl, rfl, fun _ _ => rfl, fun _ _ => rfl, rfl, rfl, pk_un hne, rfl, rfl, pk_un hne, rfl, pk_un hne, fun _ _ => rfl, fun k hk => pk_un (by omega), fun _ _ => rfl, rfl, fun _ _ => rfl, fun _ _ => rfl, rfl, rfl⟩⟩,
    sa_go1 rfl rfl rfl rfl (sa_mu_a hq (by omega)) (fun Q K => sa_x_start hi w1 c14 c2 hp hk c5 hq c1 ha hb hc e1 e2 e3 (by rw [c9 c hc]; exact hh) c7 h30 (fun post K => sa_ask_r hi c7 d2 h1 l1 (by rw [d3 is h1]; exact K)) K)⟩
theorem sa_G_u2_r (hi : i < 3) (W : sa_WX (ns, kd, p1, p2, p3, ac) t (jc, ja, ji, jn, js, jt, tc, tj, tt) (nI ns, nI t, nI jc, nI tc, xhe, kd, p1, p2, p3, ac, ja, ji, jn, js, jt, tj, tt, xss, xsv, xak, xaj, xgc, xgk, xgn, xhs, xhg, xhn, xou, xah, xst, xpl, xft, xev, xdn, xus, xis, xvr, xhd, xtk, xpd, xpa, xpi, xun, xwj)) (X : sa_LX i (sv, ak, aj, gc, gk, gn, hs, hg, hn, ou) (nI ns, nI t, nI jc, nI tc, xhe, kd, p1, p2, p3, ac, ja, ji, jn, js, jt, tj, tt, xss, xsv, xak, xaj, xgc, xgk, xgn, xhs, xhg, xhn, xou, xah, xst, xpl, xft, xev, xdn, xus, xis, xvr, xhd, xtk, xpd, xpa, xpi, xun, xwj)) (H : sa_HX i (1, pl, ev, dn, us, is, vr, hd, tk, m + 1, pa, pi, true, -1) (nI ns, nI t, nI jc, nI tc, xhe, kd, p1, p2, p3, ac, ja, ji, jn, js, jt, tj, tt, xss, xsv, xak, xaj, xgc, xgk, xgn, xhs, xhg, xhn, xou, xah, xst, xpl, xft, xev, xdn, xus, xis, xvr, xhd, xtk, xpd, xpa, xpi, xun, xwj)) (hm : m < 200) (h30 : is < 30) (h1 : is < ak) (hj : aj is ≠ -1) : sa_GO i (ns, kd, p1, p2, p3, ac) t (jc, ja, ji, jn, js, jt, tc, tj, tt) (sv, ak, aj, gc, gk, gn, hs, hg, hn, ou) (1, pl, ev, dn, us, is, vr, hd, tk, m + 1, pa, pi, true, -1) (1, pl, ev, dn, us, is + 1, vr, hd, tk, m, pa, pi, true, (aj is)) (nI ns, nI t, nI jc, nI tc, xhe, kd, p1, p2, p3, ac, ja, ji, jn, js, jt, tj, tt, xss, xsv, xak, xaj, xgc, xgk, xgn, xhs, xhg, xhn, xou, xah, xst, xpl, xft, xev, xdn, xus, xis, xvr, xhd, xtk, xpd, xpa, xpi, xun, xwj) := by
  obtain ⟨⟨w1, w2, w3, w4⟩, _⟩ := W
  obtain ⟨⟨b1, b2, b3, b4, b5⟩, c1, c2, c3, c4, c5, c6, c7, c8, c9, c10, c11, c12, c13, c14, c15⟩ := H
  obtain ⟨⟨l1, l2, l3⟩, d1, d2, d3, d4, d5, d6, d7, d8, d9, d10⟩ := X
  exact ⟨(nI ns, nI t, nI jc, nI tc, xhe, kd, p1, p2, p3, ac, ja, ji, jn, js, jt, tj, tt, xss, xsv, xak, xaj, xgc, xgk, xgn, xhs, xhg, xhn, xou, xah, xst, xpl, xft, xev, xdn, xus, upd xis i (nI (is + 1)), xvr, xhd, xtk, xpd, xpa, xpi, upd xun i (nI m), upd xwj i (aj is)), ⟨⟨w1, w2, by omega, w4⟩, rfl, rfl, rfl, rfl, rfl, rfl, rfl, rfl, rfl, rfl, rfl, rfl, rfl, rfl, rfl, rfl⟩, ⟨⟨by omega, by omega, by omega⟩, d1, d2, d3, d4, d5, d6, d7, d8, d9, d10⟩, ⟨⟨by omega, by omega, by omega, by omega, by omega⟩, c1, c2, c3, c4, c5, c6, pk_us, c8, c9, c10, nofun, fun k hk => c12 k (by omega), fun k hk => c13 k (by omega), pk_us, pk_us⟩, ⟨⟨rfl, rfl⟩, fun i' hi' hne => ⟨rfl, rfl, fun _ _ => rfl, rfl, fun _ _ => rfl, fun _ _ => rfl, rfl, fun _ _ => rfl, fun _ _ => rfl, rfl, rfl, rfl, rfl, rfl, rfl, rfl, pk_un hne, fun _ _ => rfl, fun _ _ => rfl, fun _ _ => rfl, rfl, fun _ _ => rfl, fun _ _ => rfl, pk_un hne, pk_un hne⟩⟩,
    sa_gow rfl rfl rfl hj (sa_mu_u h30) (fun Q B => by
      obtain ⟨B1, B2, B3, B4, B5⟩ := B
      exact sa_x_u2 hi c14 hm c15 c7 h30 (fun post K => sa_ask_r hi c7 d2 h1 l1 (by rw [d3 is h1]; exact K)) (fun R hR => B1 rfl R hR))⟩
theorem sa_G_do_l (hi : i < 3) (W : sa_WX (ns, kd, p1, p2, p3, ac) t (jc, ja, ji, jn, js, jt, tc, tj, tt) (nI ns, nI t, nI jc, nI tc, xhe, kd, p1, p2, p3, ac, ja, ji, jn, js, jt, tj, tt, xss, xsv, xak, xaj, xgc, xgk, xgn, xhs, xhg, xhn, xou, xah, xst, xpl, xft, xev, xdn, xus, xis, xvr, xhd, xtk, xpd, xpa, xpi, xun, xwj)) (X : sa_LX i (sv, is, aj, gc, gk, gn, hs, hg, hn, ou) (nI ns, nI t, nI jc, nI tc, xhe, kd, p1, p2, p3, ac, ja, ji, jn, js, jt, tj, tt, xss, xsv, xak, xaj, xgc, xgk, xgn, xhs, xhg, xhn, xou, xah, xst, xpl, xft, xev, xdn, xus, xis, xvr, xhd, xtk, xpd, xpa, xpi, xun, xwj)) (H : sa_HX i (1, pl, ev, dn, us, is, vr, hd, tk, pn, pa, pi, false, -1) (nI ns, nI t, nI jc, nI tc, xhe, kd, p1, p2, p3, ac, ja, ji, jn, js, jt, tj, tt, xss, xsv, xak, xaj, xgc, xgk, xgn, xhs, xhg, xhn, xou, xah, xst, xpl, xft, xev, xdn, xus, xis, xvr, xhd, xtk, xpd, xpa, xpi, xun, xwj)) (hp : pl < ns) (hq : dn < 200) (h30 : is < 30) (hk : kd pl = 3) (hb : b < 4) (e2 : p2 pl = nI b) (hc9 : jc < 90) : sa_GO i (ns, kd, p1, p2, p3, ac) t (jc + 1, upd ja jc (p1 pl), upd ji jc (vr b), upd jn jc 0, upd js jc 0, upd jt jc (nI t), tc, tj, tt) (sv, is + 1, upd aj is (nI jc), gc, gk, gn, hs, hg, hn, ou) (1, pl, ev, dn, us, is, vr, hd, tk, pn, pa, pi, false, -1) (1, pl, ev, dn + 1, us, is + 1, vr, hd, tk, pn, pa, pi, false, (nI jc)) (nI ns, nI t, nI jc, nI tc, xhe, kd, p1, p2, p3, ac, ja, ji, jn, js, jt, tj, tt, xss, xsv, xak, xaj, xgc, xgk, xgn, xhs, xhg, xhn, xou, xah, xst, xpl, xft, xev, xdn, xus, xis, xvr, xhd, xtk, xpd, xpa, xpi, xun, xwj) := by
  obtain ⟨⟨w1, w2, w3, w4⟩, _⟩ := W
  obtain ⟨⟨b1, b2, b3, b4, b5⟩, c1, c2, c3, c4, c5, c6, c7, c8, c9, c10, c11, c12, c13, c14, c15⟩ := H
  obtain ⟨⟨l1, l2, l3⟩, d1, d2, d3, d4, d5, d6, d7, d8, d9, d10⟩ := X
  exact ⟨(nI ns, nI t, nI (jc + 1), nI tc, xhe, kd, p1, p2, p3, ac, upd ja jc (p1 pl), upd ji jc (vr b), upd jn jc 0, upd js jc 0, upd jt jc (nI t), tj, tt, xss, xsv, upd xak i (nI (is + 1)), upd xaj (30 * i + is) (nI jc), xgc, xgk, xgn, xhs, xhg, xhn, xou, xah, xst, xpl, xft, xev, upd xdn i (nI (dn + 1)), xus, upd xis i (nI (is + 1)), xvr, xhd, xtk, xpd, xpa, xpi, xun, upd xwj i (nI jc)), ⟨⟨w1, w2, by omega, w4⟩, rfl, rfl, rfl, rfl, rfl, rfl, rfl, rfl, rfl, rfl, rfl, rfl, rfl, rfl, rfl, rfl⟩, ⟨⟨by omega, by omega, by omega⟩, d1, pk_us, sa_ua d3, d4, d5, d6, d7, d8, d9, d10⟩, ⟨⟨by omega, by omega, by omega, by omega, by omega⟩, c1, c2, nofun, c4, pk_us, c6, pk_us, c8, c9, c10, c11, c12, c13, c14, pk_us⟩, ⟨⟨rfl, rfl⟩, fun i' hi' hne => ⟨rfl, pk_un hne, fun k hk => pk_un (by omega), rfl, fun _ _ => rfl, fun _ _ => rfl, rfl, fun _ _ => rfl, fun _ _ => rfl, rfl, rfl, rfl, rfl, rfl, pk_un hne, rfl, pk_un hne, fun _ _ => rfl, fun _ _ => rfl, fun _ _ => rfl, rfl, fun _ _ => rfl, fun _ _ => rfl, rfl, pk_un hne⟩⟩,
    sa_gow rfl rfl rfl (sa_ne_m1 (by omega)) (sa_mu_a hq (by omega)) (fun Q B => by
      obtain ⟨B1, B2, B3, B4, B5⟩ := B
      exact sa_x_do hi w1 c14 c2 hp hk c5 hq c1 c15 c7 h30 hb e2 (fun post K => by rw [c8 b hb]; exact sa_ask_l hi c7 d2 h30 hc9 K) (fun R hR => B2 rfl hk R hR))⟩
theorem sa_G_start_l (hi : i < 3) (W : sa_WX (ns, kd, p1, p2, p3, ac) t (jc, ja, ji, jn, js, jt, tc, tj, tt) (nI ns, nI t, nI jc, nI tc, xhe, kd, p1, p2, p3, ac, ja, ji, jn, js, jt, tj, tt, xss, xsv, xak, xaj, xgc, xgk, xgn, xhs, xhg, xhn, xou, xah, xst, xpl, xft, xev, xdn, xus, xis, xvr, xhd, xtk, xpd, xpa, xpi, xun, xwj)) (X : sa_LX i (sv, is, aj, gc, gk, gn, hs, hg, hn, ou) (nI ns, nI t, nI jc, nI tc, xhe, kd, p1, p2, p3, ac, ja, ji, jn, js, jt, tj, tt, xss, xsv, xak, xaj, xgc, xgk, xgn, xhs, xhg, xhn, xou, xah, xst, xpl, xft, xev, xdn, xus, xis, xvr, xhd, xtk, xpd, xpa, xpi, xun, xwj)) (H : sa_HX i (1, pl, ev, dn, us, is, vr, hd, tk, pn, pa, pi, false, -1) (nI ns, nI t, nI jc, nI tc, xhe, kd, p1, p2, p3, ac, ja, ji, jn, js, jt, tj, tt, xss, xsv, xak, xaj, xgc, xgk, xgn, xhs, xhg, xhn, xou, xah, xst, xpl, xft, xev, xdn, xus, xis, xvr, xhd, xtk, xpd, xpa, xpi, xun, xwj)) (hp : pl < ns) (hq : dn < 200) (h30 : is < 30) (hk : kd pl = 4) (ha : a < 4) (hb : b < 4) (hc : c < 3) (e1 : p1 pl = nI a) (e2 : p2 pl = nI b) (e3 : p3 pl = nI c) (hh : hd c = -1) (hc9 : jc < 90) : sa_GO i (ns, kd, p1, p2, p3, ac) t (jc + 1, upd ja jc (p1 pl), upd ji jc (vr b), upd jn jc 0, upd js jc 0, upd jt jc (nI t), tc, tj, tt) (sv, is + 1, upd aj is (nI jc), gc, gk, gn, hs, hg, hn, ou) (1, pl, ev, dn, us, is, vr, hd, tk, pn, pa, pi, false, -1) (1, pl + 1, ev, dn + 1, us, is + 1, vr, upd hd c (nI jc), tk, pn, pa, pi, false, -1) (nI ns, nI t, nI jc, nI tc, xhe, kd, p1, p2, p3, ac, ja, ji, jn, js, jt, tj, tt, xss, xsv, xak, xaj, xgc, xgk, xgn, xhs, xhg, xhn, xou, xah, xst, xpl, xft, xev, xdn, xus, xis, xvr, xhd, xtk, xpd, xpa, xpi, xun, xwj) := by
  obtain ⟨⟨w1, w2, w3, w4⟩, _⟩ := W
  obtain ⟨⟨b1, b2, b3, b4, b5⟩, c1, c2, c3, c4, c5, c6, c7, c8, c9, c10, c11, c12, c13, c14, c15⟩ := H
  obtain ⟨⟨l1, l2, l3⟩, d1, d2, d3, d4, d5, d6, d7, d8, d9, d10⟩ := X
  exact ⟨(nI ns, nI t, nI (jc + 1), nI tc, xhe, kd, p1, p2, p3, ac, upd ja jc (p1 pl), upd ji jc (vr b), upd jn jc 0, upd js jc 0, upd jt jc (nI t), tj, tt, xss, xsv, upd xak i (nI (is + 1)), upd xaj (30 * i + is) (nI jc), xgc, xgk, xgn, xhs, xhg, xhn, xou, xah, xst, upd xpl i (nI (pl + 1)), xft, xev, upd xdn i (nI (dn + 1)), xus, upd xis i (nI (is + 1)), xvr, upd xhd (3 * i + c) (nI jc), xtk, xpd, xpa, xpi, xun, xwj), ⟨⟨w1, w2, by omega, w4⟩, rfl, rfl, rfl, rfl, rfl, rfl, rfl, rfl, rfl, rfl, rfl, rfl, rfl, rfl, rfl, rfl⟩, ⟨⟨by omega, by omega, by omega⟩, d1, pk_us, sa_ua d3, d4, d5, d6, d7, d8, d9, d10⟩, ⟨⟨by omega, by omega, by omega, by omega, by omega⟩, c1, pk_us, nofun, c4, pk_us, c6, pk_us, c8, sa_uo c9, c10, c11, c12, c13, c14, c15⟩, ⟨⟨rfl, rfl⟩, fun i' hi' hne => ⟨rfl, pk_un hne, fun k hk => pk_un (by omega), rfl, fun _ _ => rfl, fun _ _ => rfl, rfl, fun _ _ => rfl, fun _ _ => rfl, rfl, rfl, pk_un hne, rfl, rfl, pk_un hne, rfl, pk_un hne, fun _ _ => rfl, fun k hk => pk_un (by omega), fun _ _ => rfl, rfl, fun _ _ => rfl, fun _ _ => rfl, rfl, rfl⟩⟩,
    sa_go1 rfl rfl rfl rfl (sa_mu_a hq (by omega)) (fun Q K => sa_x_start hi w1 c14 c2 hp hk c5 hq c1 ha hb hc e1 e2 e3 (by rw [c9 c hc]; exact hh) c7 h30 (fun post K => by rw [c8 b hb, ← e1]; exact sa_ask_l hi c7 d2 h30 hc9 K) K)⟩
theorem sa_G_u2_l (hi : i < 3) (W : sa_WX (ns, kd, p1, p2, p3, ac) t (jc, ja, ji, jn, js, jt, tc, tj, tt) (nI ns, nI t, nI jc, nI tc, xhe, kd, p1, p2, p3, ac, ja, ji, jn, js, jt, tj, tt, xss, xsv, xak, xaj, xgc, xgk, xgn, xhs, xhg, xhn, xou, xah, xst, xpl, xft, xev, xdn, xus, xis, xvr, xhd, xtk, xpd, xpa, xpi, xun, xwj)) (X : sa_LX i (sv, is, aj, gc, gk, gn, hs, hg, hn, ou) (nI ns, nI t, nI jc, nI tc, xhe, kd, p1, p2, p3, ac, ja, ji, jn, js, jt, tj, tt, xss, xsv, xak, xaj, xgc, xgk, xgn, xhs, xhg, xhn, xou, xah, xst, xpl, xft, xev, xdn, xus, xis, xvr, xhd, xtk, xpd, xpa, xpi, xun, xwj)) (H : sa_HX i (1, pl, ev, dn, us, is, vr, hd, tk, m + 1, pa, pi, true, -1) (nI ns, nI t, nI jc, nI tc, xhe, kd, p1, p2, p3, ac, ja, ji, jn, js, jt, tj, tt, xss, xsv, xak, xaj, xgc, xgk, xgn, xhs, xhg, xhn, xou, xah, xst, xpl, xft, xev, xdn, xus, xis, xvr, xhd, xtk, xpd, xpa, xpi, xun, xwj)) (hm : m < 200) (h30 : is < 30) (hc9 : jc < 90) : sa_GO i (ns, kd, p1, p2, p3, ac) t (jc + 1, upd ja jc (pa m), upd ji jc (pi m), upd jn jc 0, upd js jc 0, upd jt jc (nI t), tc, tj, tt) (sv, is + 1, upd aj is (nI jc), gc, gk, gn, hs, hg, hn, ou) (1, pl, ev, dn, us, is, vr, hd, tk, m + 1, pa, pi, true, -1) (1, pl, ev, dn, us, is + 1, vr, hd, tk, m, pa, pi, true, (nI jc)) (nI ns, nI t, nI jc, nI tc, xhe, kd, p1, p2, p3, ac, ja, ji, jn, js, jt, tj, tt, xss, xsv, xak, xaj, xgc, xgk, xgn, xhs, xhg, xhn, xou, xah, xst, xpl, xft, xev, xdn, xus, xis, xvr, xhd, xtk, xpd, xpa, xpi, xun, xwj) := by
  obtain ⟨⟨w1, w2, w3, w4⟩, _⟩ := W
  obtain ⟨⟨b1, b2, b3, b4, b5⟩, c1, c2, c3, c4, c5, c6, c7, c8, c9, c10, c11, c12, c13, c14, c15⟩ := H
  obtain ⟨⟨l1, l2, l3⟩, d1, d2, d3, d4, d5, d6, d7, d8, d9, d10⟩ := X
  exact ⟨(nI ns, nI t, nI (jc + 1), nI tc, xhe, kd, p1, p2, p3, ac, upd ja jc (pa m), upd ji jc (pi m), upd jn jc 0, upd js jc 0, upd jt jc (nI t), tj, tt, xss, xsv, upd xak i (nI (is + 1)), upd xaj (30 * i + is) (nI jc), xgc, xgk, xgn, xhs, xhg, xhn, xou, xah, xst, xpl, xft, xev, xdn, xus, upd xis i (nI (is + 1)), xvr, xhd, xtk, xpd, xpa, xpi, upd xun i (nI m), upd xwj i (nI jc)), ⟨⟨w1, w2, by omega, w4⟩, rfl, rfl, rfl, rfl, rfl, rfl, rfl, rfl, rfl, rfl, rfl, rfl, rfl, rfl, rfl, rfl⟩, ⟨⟨by omega, by omega, by omega⟩, d1, pk_us, sa_ua d3, d4, d5, d6, d7, d8, d9, d10⟩, ⟨⟨by omega, by omega, by omega, by omega, by omega⟩, c1, c2, c3, c4, c5, c6, pk_us, c8, c9, c10, nofun, fun k hk => c12 k (by omega), fun k hk => c13 k (by omega), pk_us, pk_us⟩, ⟨⟨rfl, rfl⟩, fun i' hi' hne => ⟨rfl, pk_un hne, fun k hk => pk_un (by omega), rfl, fun _ _ => rfl, fun _ _ => rfl, rfl, fun _ _ => rfl, fun _ _ => rfl, rfl, rfl, rfl, rfl, rfl, rfl, rfl, pk_un hne, fun _ _ => rfl, fun _ _ => rfl, fun _ _ => rfl, rfl, fun _ _ => rfl, fun _ _ => rfl, pk_un hne, pk_un hne⟩⟩,
    sa_gow rfl rfl rfl (sa_ne_m1 (by omega)) (sa_mu_u h30) (fun Q B => by
      obtain ⟨B1, B2, B3, B4, B5⟩ := B
      exact sa_x_u2 hi c14 hm c15 c7 h30 (fun post K => by rw [c12 m (by omega), c13 m (by omega)]; exact sa_ask_l hi c7 d2 h30 hc9 K) (fun R hR => B1 rfl R hR))⟩
end
end
section
/-! a wait of the component is over: from the history or written now -/
def sa_FL (i : Nat) (xhs xhs' xhg xhg' xhn xhn' xou xou' : Nat → Int32) : Prop :=
  (∀ i', i' < 3 → i' ≠ i → xhs' i' = xhs i') ∧ (∀ i', i' < 3 → i' ≠ i → ∀ k, k < 240 → xhg' (240 * i' + k) = xhg (240 * i' + k)) ∧ (∀ i', i' < 3 → i' ≠ i → ∀ k, k < 240 → xhn' (240 * i' + k) = xhn (240 * i' + k)) ∧ (∀ i', i' < 3 → i' ≠ i → xou' i' = xou i')
theorem sa_FL0 {i : Nat} {xhs xhg xhn xou : Nat → Int32} : sa_FL i xhs xhs xhg xhg xhn xhn xou xou := ⟨fun _ _ _ => rfl, fun _ _ _ _ _ => rfl, fun _ _ _ _ _ => rfl, fun _ _ _ => rfl⟩
theorem sa_FL1 {i n : Nat} {xhs xhg xhn xou : Nat → Int32} {x g y o : Int32} (h : n < 240) : sa_FL i xhs (upd xhs i x) xhg (upd xhg (240 * i + n) g) xhn (upd xhn (240 * i + n) y) xou (upd xou i o) :=
  ⟨fun _ _ hne => pk_un hne, fun _ _ _ _ _ => pk_un (by omega), fun _ _ _ _ _ => pk_un (by omega), fun _ _ hne => pk_un hne⟩
section
variable {xhe : Int32} {xss xsv xak xaj xgc xgk xgn xhs xhg xhn xou xah xst xpl xft xev xdn xus xis xvr xhd xtk xpd xpa xpi xun xwj : Nat → Int32} {ns : Nat} {kd p1 p2 p3 ac : Nat → Int32} {jc tc : Nat} {ja ji jn js jt tj tt : Nat → Int32} {sv ou : Int32} {ak gc hs : Nat} {aj gk gn hg hn : Nat → Int32} {st ev wj : Int32} {pl dn us is pn : Nat} {vr hd tk pa pi : Nat → Int32} {un : Bool} {i t a b c q : Nat} {xhs' xhg' xhn' xou' : Nat → Int32} {y : Int32}
theorem sa_mu_b {st st' : Int32} {pl pl' : Nat} {ev ev' : Int32} {dn us us' is pn pn' : Nat} {vr vr' hd hd' tk tk' pa pa' pi pi' : Nat → Int32} {un un' : Bool} {wj : Int32} (h : wj ≠ -1) :
    sa_mu (st', pl', ev', dn, us', is, vr', hd', tk', pn', pa', pi', un', -1) < sa_mu (st, pl, ev, dn, us, is, vr, hd, tk, pn, pa, pi, un, wj) := by
  show 2 * (200 - dn) + 2 * (30 - is) + 0 + 1 < 2 * (200 - dn) + 2 * (30 - is) + (if wj = -1 then 0 else 1) + 1
  rw [if_neg h]
  omega
theorem sa_G_bu1 (hi : i < 3) (W : sa_WX (ns, kd, p1, p2, p3, ac) t (jc, ja, ji, jn, js, jt, tc, tj, tt) (nI ns, nI t, nI jc, nI tc, xhe, kd, p1, p2, p3, ac, ja, ji, jn, js, jt, tj, tt, xss, xsv, xak, xaj, xgc, xgk, xgn, xhs, xhg, xhn, xou, xah, xst, xpl, xft, xev, xdn, xus, xis, xvr, xhd, xtk, xpd, xpa, xpi, xun, xwj)) (X : sa_LX i (sv, ak, aj, gc, gk, gn, hs, hg, hn, ou) (nI ns, nI t, nI jc, nI tc, xhe, kd, p1, p2, p3, ac, ja, ji, jn, js, jt, tj, tt, xss, xsv, xak, xaj, xgc, xgk, xgn, xhs', xhg', xhn', xou', xah, xst, xpl, xft, xev, xdn, xus, xis, xvr, xhd, xtk, xpd, xpa, xpi, xun, xwj)) (F : sa_FL i xhs xhs' xhg xhg' xhn xhn' xou xou') (hu : us < hs) (H : sa_HX i (1, pl, ev, dn, us, is, vr, hd, tk, pn, pa, pi, true, wj) (nI ns, nI t, nI jc, nI tc, xhe, kd, p1, p2, p3, ac, ja, ji, jn, js, jt, tj, tt, xss, xsv, xak, xaj, xgc, xgk, xgn, xhs, xhg, xhn, xou, xah, xst, xpl, xft, xev, xdn, xus, xis, xvr, xhd, xtk, xpd, xpa, xpi, xun, xwj)) (hw : wj ≠ -1) (hg0 : ¬ hg us = 0) (HH : ∀ post : Int32 → SX → Prop, post 1 (nI ns, nI t, nI jc, nI tc, nI (240 * i + us), kd, p1, p2, p3, ac, ja, ji, jn, js, jt, tj, tt, xss, xsv, xak, xaj, xgc, xgk, xgn, xhs', xhg', xhn', xou', xah, xst, xpl, xft, xev, xdn, upd xus i (nI (us + 1)), xis, xvr, xhd, xtk, xpd, xpa, xpi, xun, xwj) → wpX_hearJob post (nI ns, nI t, nI jc, nI tc, xhe, kd, p1, p2, p3, ac, ja, ji, jn, js, jt, tj, tt, xss, xsv, xak, xaj, xgc, xgk, xgn, xhs, xhg, xhn, xou, xah, xst, xpl, xft, xev, xdn, xus, xis, xvr, xhd, xtk, xpd, xpa, xpi, xun, xwj) (nI i) (xwj i)) : sa_GO i (ns, kd, p1, p2, p3, ac) t (jc, ja, ji, jn, js, jt, tc, tj, tt) (sv, ak, aj, gc, gk, gn, hs, hg, hn, ou) (1, pl, ev, dn, us, is, vr, hd, tk, pn, pa, pi, true, wj) (1, pl, ev, dn, us + 1, is, vr, hd, tk, pn, pa, pi, true, -1) (nI ns, nI t, nI jc, nI tc, xhe, kd, p1, p2, p3, ac, ja, ji, jn, js, jt, tj, tt, xss, xsv, xak, xaj, xgc, xgk, xgn, xhs, xhg, xhn, xou, xah, xst, xpl, xft, xev, xdn, xus, xis, xvr, xhd, xtk, xpd, xpa, xpi, xun, xwj) := by
  obtain ⟨⟨w1, w2, w3, w4⟩, _⟩ := W
  obtain ⟨⟨b1, b2, b3, b4, b5⟩, c1, c2, c3, c4, c5, c6, c7, c8, c9, c10, c11, c12, c13, c14, c15⟩ := H
  obtain ⟨⟨l1, l2, l3⟩, d1, d2, d3, d4, d5, d6, d7, d8, d9, d10⟩ := X
  obtain ⟨f1, f2, f3, f4⟩ := F
  have g1 := d8 us hu
  have y1 := d9 us hu
  refine ⟨(nI ns, nI t, nI jc, nI tc, nI (240 * i + us), kd, p1, p2, p3, ac, ja, ji, jn, js, jt, tj, tt, xss, xsv, xak, xaj, xgc, xgk, xgn, xhs', xhg', xhn', xou', xah, xst, xpl, xft, xev, xdn, upd xus i (nI (us + 1)), xis, xvr, xhd, xtk, xpd, xpa, xpi, xun, upd xwj i (-1)), ⟨⟨w1, w2, by omega, w4⟩, rfl, rfl, rfl, rfl, rfl, rfl, rfl, rfl, rfl, rfl, rfl, rfl, rfl, rfl, rfl, rfl⟩, ⟨⟨by omega, by omega, by omega⟩, d1, d2, d3, d4, d5, d6, d7, d8, d9, d10⟩, ⟨⟨by omega, by omega, by omega, by omega, by omega⟩, c1, c2, c3, c4, c5, pk_us, c7, c8, c9, c10, c11, c12, c13, c14, pk_us⟩, ⟨⟨rfl, rfl⟩, fun i' hi' hne => ⟨rfl, rfl, fun _ _ => rfl, rfl, fun _ _ => rfl, fun _ _ => rfl, f1 i' hi' hne, f2 i' hi' hne, f3 i' hi' hne, f4 i' hi' hne, rfl, rfl, rfl, rfl, rfl, pk_un hne, rfl, fun _ _ => rfl, fun _ _ => rfl, fun _ _ => rfl, rfl, fun _ _ => rfl, fun _ _ => rfl, rfl, pk_un hne⟩⟩,
    sa_gob1 rfl hw rfl rfl (sa_mu_b hw) (fun Q K => ?_)⟩
  refine ⟨fun _ R hR => ?_, nofun, nofun, nofun, nofun⟩
  exact sa_b_u1 hi HH (by omega) g1 c1 hg0 (hR 1 _ (Or.inr rfl) K)
theorem sa_G_bu0 (hi : i < 3) (W : sa_WX (ns, kd, p1, p2, p3, ac) t (jc, ja, ji, jn, js, jt, tc, tj, tt) (nI ns, nI t, nI jc, nI tc, xhe, kd, p1, p2, p3, ac, ja, ji, jn, js, jt, tj, tt, xss, xsv, xak, xaj, xgc, xgk, xgn, xhs, xhg, xhn, xou, xah, xst, xpl, xft, xev, xdn, xus, xis, xvr, xhd, xtk, xpd, xpa, xpi, xun, xwj)) (X : sa_LX i (sv, ak, aj, gc, gk, gn, hs, hg, hn, ou) (nI ns, nI t, nI jc, nI tc, xhe, kd, p1, p2, p3, ac, ja, ji, jn, js, jt, tj, tt, xss, xsv, xak, xaj, xgc, xgk, xgn, xhs', xhg', xhn', xou', xah, xst, xpl, xft, xev, xdn, xus, xis, xvr, xhd, xtk, xpd, xpa, xpi, xun, xwj)) (F : sa_FL i xhs xhs' xhg xhg' xhn xhn' xou xou') (hu : us < hs) (H : sa_HX i (1, pl, ev, dn, us, is, vr, hd, tk, pn, pa, pi, true, wj) (nI ns, nI t, nI jc, nI tc, xhe, kd, p1, p2, p3, ac, ja, ji, jn, js, jt, tj, tt, xss, xsv, xak, xaj, xgc, xgk, xgn, xhs, xhg, xhn, xou, xah, xst, xpl, xft, xev, xdn, xus, xis, xvr, xhd, xtk, xpd, xpa, xpi, xun, xwj)) (hw : wj ≠ -1) (hg0 : hg us = 0) (HH : ∀ post : Int32 → SX → Prop, post 1 (nI ns, nI t, nI jc, nI tc, nI (240 * i + us), kd, p1, p2, p3, ac, ja, ji, jn, js, jt, tj, tt, xss, xsv, xak, xaj, xgc, xgk, xgn, xhs', xhg', xhn', xou', xah, xst, xpl, xft, xev, xdn, upd xus i (nI (us + 1)), xis, xvr, xhd, xtk, xpd, xpa, xpi, xun, xwj) → wpX_hearJob post (nI ns, nI t, nI jc, nI tc, xhe, kd, p1, p2, p3, ac, ja, ji, jn, js, jt, tj, tt, xss, xsv, xak, xaj, xgc, xgk, xgn, xhs, xhg, xhn, xou, xah, xst, xpl, xft, xev, xdn, xus, xis, xvr, xhd, xtk, xpd, xpa, xpi, xun, xwj) (nI i) (xwj i)) : sa_GO i (ns, kd, p1, p2, p3, ac) t (jc, ja, ji, jn, js, jt, tc, tj, tt) (sv, ak, aj, gc, gk, gn, hs, hg, hn, ou) (1, pl, ev, dn, us, is, vr, hd, tk, pn, pa, pi, true, wj) (4, pl, 0, dn, us + 1, is, vr, hd, tk, pn, pa, pi, true, -1) (nI ns, nI t, nI jc, nI tc, xhe, kd, p1, p2, p3, ac, ja, ji, jn, js, jt, tj, tt, xss, xsv, xak, xaj, xgc, xgk, xgn, xhs, xhg, xhn, xou, xah, xst, xpl, xft, xev, xdn, xus, xis, xvr, xhd, xtk, xpd, xpa, xpi, xun, xwj) := by
  obtain ⟨⟨w1, w2, w3, w4⟩, _⟩ := W
  obtain ⟨⟨b1, b2, b3, b4, b5⟩, c1, c2, c3, c4, c5, c6, c7, c8, c9, c10, c11, c12, c13, c14, c15⟩ := H
  obtain ⟨⟨l1, l2, l3⟩, d1, d2, d3, d4, d5, d6, d7, d8, d9, d10⟩ := X
  obtain ⟨f1, f2, f3, f4⟩ := F
  have g1 := d8 us hu
  have y1 := d9 us hu
  refine ⟨(nI ns, nI t, nI jc, nI tc, nI (240 * i + us), kd, p1, p2, p3, ac, ja, ji, jn, js, jt, tj, tt, xss, xsv, xak, xaj, xgc, xgk, xgn, xhs', xhg', xhn', xou', xah, upd xst i 4, xpl, xft, upd xev i 0, xdn, upd xus i (nI (us + 1)), xis, xvr, xhd, xtk, xpd, xpa, xpi, xun, upd xwj i (-1)), ⟨⟨w1, w2, by omega, w4⟩, rfl, rfl, rfl, rfl, rfl, rfl, rfl, rfl, rfl, rfl, rfl, rfl, rfl, rfl, rfl, rfl⟩, ⟨⟨by omega, by omega, by omega⟩, d1, d2, d3, d4, d5, d6, d7, d8, d9, d10⟩, ⟨⟨by omega, by omega, by omega, by omega, by omega⟩, pk_us, c2, c3, pk_us, c5, pk_us, c7, c8, c9, c10, c11, c12, c13, c14, pk_us⟩, ⟨⟨rfl, rfl⟩, fun i' hi' hne => ⟨rfl, rfl, fun _ _ => rfl, rfl, fun _ _ => rfl, fun _ _ => rfl, f1 i' hi' hne, f2 i' hi' hne, f3 i' hi' hne, f4 i' hi' hne, pk_un hne, rfl, rfl, pk_un hne, rfl, pk_un hne, rfl, fun _ _ => rfl, fun _ _ => rfl, fun _ _ => rfl, rfl, fun _ _ => rfl, fun _ _ => rfl, rfl, pk_un hne⟩⟩,
    ?_⟩
  intro post G
  refine sa_gob0 (h := (1, pl, ev, dn, us, is, vr, hd, tk, pn, pa, pi, true, wj)) rfl hw (fun Q K => ?_) post (G.1 (show (4 : Int32) ≠ 1 from by decide))
  refine ⟨fun _ R hR => ?_, nofun, nofun, nofun, nofun⟩
  exact sa_b_u0 hi HH (by omega) g1 hg0 (hR 0 _ (Or.inl rfl) K)
theorem sa_G_bd1 (hi : i < 3) (W : sa_WX (ns, kd, p1, p2, p3, ac) t (jc, ja, ji, jn, js, jt, tc, tj, tt) (nI ns, nI t, nI jc, nI tc, xhe, kd, p1, p2, p3, ac, ja, ji, jn, js, jt, tj, tt, xss, xsv, xak, xaj, xgc, xgk, xgn, xhs, xhg, xhn, xou, xah, xst, xpl, xft, xev, xdn, xus, xis, xvr, xhd, xtk, xpd, xpa, xpi, xun, xwj)) (X : sa_LX i (sv, ak, aj, gc, gk, gn, hs, hg, hn, ou) (nI ns, nI t, nI jc, nI tc, xhe, kd, p1, p2, p3, ac, ja, ji, jn, js, jt, tj, tt, xss, xsv, xak, xaj, xgc, xgk, xgn, xhs', xhg', xhn', xou', xah, xst, xpl, xft, xev, xdn, xus, xis, xvr, xhd, xtk, xpd, xpa, xpi, xun, xwj)) (F : sa_FL i xhs xhs' xhg xhg' xhn xhn' xou xou') (hu : us < hs) (H : sa_HX i (1, pl, ev, dn, us, is, vr, hd, tk, pn, pa, pi, false, wj) (nI ns, nI t, nI jc, nI tc, xhe, kd, p1, p2, p3, ac, ja, ji, jn, js, jt, tj, tt, xss, xsv, xak, xaj, xgc, xgk, xgn, xhs, xhg, xhn, xou, xah, xst, xpl, xft, xev, xdn, xus, xis, xvr, xhd, xtk, xpd, xpa, xpi, xun, xwj)) (hw : wj ≠ -1) (hp : pl < ns) (hk : kd pl = 3) (hc : c < 4) (e3 : p3 pl = nI c) (hg0 : hg us = 1) (y0 : hn us = y) (HH : ∀ post : Int32 → SX → Prop, post 1 (nI ns, nI t, nI jc, nI tc, nI (240 * i + us), kd, p1, p2, p3, ac, ja, ji, jn, js, jt, tj, tt, xss, xsv, xak, xaj, xgc, xgk, xgn, xhs', xhg', xhn', xou', xah, xst, xpl, xft, xev, xdn, upd xus i (nI (us + 1)), xis, xvr, xhd, xtk, xpd, xpa, xpi, xun, xwj) → wpX_hearJob post (nI ns, nI t, nI jc, nI tc, xhe, kd, p1, p2, p3, ac, ja, ji, jn, js, jt, tj, tt, xss, xsv, xak, xaj, xgc, xgk, xgn, xhs, xhg, xhn, xou, xah, xst, xpl, xft, xev, xdn, xus, xis, xvr, xhd, xtk, xpd, xpa, xpi, xun, xwj) (nI i) (xwj i)) : sa_GO i (ns, kd, p1, p2, p3, ac) t (jc, ja, ji, jn, js, jt, tc, tj, tt) (sv, ak, aj, gc, gk, gn, hs, hg, hn, ou) (1, pl, ev, dn, us, is, vr, hd, tk, pn, pa, pi, false, wj) (1, pl + 1, ev, dn, us + 1, is, upd vr c y, hd, tk, pn, pa, pi, false, -1) (nI ns, nI t, nI jc, nI tc, xhe, kd, p1, p2, p3, ac, ja, ji, jn, js, jt, tj, tt, xss, xsv, xak, xaj, xgc, xgk, xgn, xhs, xhg, xhn, xou, xah, xst, xpl, xft, xev, xdn, xus, xis, xvr, xhd, xtk, xpd, xpa, xpi, xun, xwj) := by
  obtain ⟨⟨w1, w2, w3, w4⟩, _⟩ := W
  obtain ⟨⟨b1, b2, b3, b4, b5⟩, c1, c2, c3, c4, c5, c6, c7, c8, c9, c10, c11, c12, c13, c14, c15⟩ := H
  obtain ⟨⟨l1, l2, l3⟩, d1, d2, d3, d4, d5, d6, d7, d8, d9, d10⟩ := X
  obtain ⟨f1, f2, f3, f4⟩ := F
  have g1 := d8 us hu
  have y1 := d9 us hu
  refine ⟨(nI ns, nI t, nI jc, nI tc, nI (240 * i + us), kd, p1, p2, p3, ac, ja, ji, jn, js, jt, tj, tt, xss, xsv, xak, xaj, xgc, xgk, xgn, xhs', xhg', xhn', xou', xah, xst, upd xpl i (nI (pl + 1)), xft, xev, xdn, upd xus i (nI (us + 1)), xis, upd xvr (4 * i + c) y, xhd, xtk, xpd, xpa, xpi, xun, upd xwj i (-1)), ⟨⟨w1, w2, by omega, w4⟩, rfl, rfl, rfl, rfl, rfl, rfl, rfl, rfl, rfl, rfl, rfl, rfl, rfl, rfl, rfl, rfl⟩, ⟨⟨by omega, by omega, by omega⟩, d1, d2, d3, d4, d5, d6, d7, d8, d9, d10⟩, ⟨⟨by omega, by omega, by omega, by omega, by omega⟩, c1, pk_us, nofun, c4, c5, pk_us, c7, sa_uo c8, c9, c10, c11, c12, c13, c14, pk_us⟩, ⟨⟨rfl, rfl⟩, fun i' hi' hne => ⟨rfl, rfl, fun _ _ => rfl, rfl, fun _ _ => rfl, fun _ _ => rfl, f1 i' hi' hne, f2 i' hi' hne, f3 i' hi' hne, f4 i' hi' hne, rfl, pk_un hne, rfl, rfl, rfl, pk_un hne, rfl, fun k hk => pk_un (by omega), fun _ _ => rfl, fun _ _ => rfl, rfl, fun _ _ => rfl, fun _ _ => rfl, rfl, pk_un hne⟩⟩,
    sa_gob1 rfl hw rfl rfl (sa_mu_b hw) (fun Q K => ?_)⟩
  refine ⟨nofun, fun _ _ R hR => ?_, fun _ e => absurd (hk.symm.trans e) (by decide), fun _ e => absurd (hk.symm.trans e) (by decide), fun _ e => absurd (hk.symm.trans e) (by decide)⟩
  exact sa_b_d1 hi (by omega) c2 HH (by omega) g1 hg0 (y1.trans y0) hc e3 (hR 1 _ (Or.inr rfl) K)
theorem sa_G_bd0 (hi : i < 3) (W : sa_WX (ns, kd, p1, p2, p3, ac) t (jc, ja, ji, jn, js, jt, tc, tj, tt) (nI ns, nI t, nI jc, nI tc, xhe, kd, p1, p2, p3, ac, ja, ji, jn, js, jt, tj, tt, xss, xsv, xak, xaj, xgc, xgk, xgn, xhs, xhg, xhn, xou, xah, xst, xpl, xft, xev, xdn, xus, xis, xvr, xhd, xtk, xpd, xpa, xpi, xun, xwj)) (X : sa_LX i (sv, ak, aj, gc, gk, gn, hs, hg, hn, ou) (nI ns, nI t, nI jc, nI tc, xhe, kd, p1, p2, p3, ac, ja, ji, jn, js, jt, tj, tt, xss, xsv, xak, xaj, xgc, xgk, xgn, xhs', xhg', xhn', xou', xah, xst, xpl, xft, xev, xdn, xus, xis, xvr, xhd, xtk, xpd, xpa, xpi, xun, xwj)) (F : sa_FL i xhs xhs' xhg xhg' xhn xhn' xou xou') (hu : us < hs) (H : sa_HX i (1, pl, ev, dn, us, is, vr, hd, tk, pn, pa, pi, false, wj) (nI ns, nI t, nI jc, nI tc, xhe, kd, p1, p2, p3, ac, ja, ji, jn, js, jt, tj, tt, xss, xsv, xak, xaj, xgc, xgk, xgn, xhs, xhg, xhn, xou, xah, xst, xpl, xft, xev, xdn, xus, xis, xvr, xhd, xtk, xpd, xpa, xpi, xun, xwj)) (hw : wj ≠ -1) (hp : pl < ns) (hk : kd pl = 3) (hg0 : ¬ hg us = 1) (HH : ∀ post : Int32 → SX → Prop, post 1 (nI ns, nI t, nI jc, nI tc, nI (240 * i + us), kd, p1, p2, p3, ac, ja, ji, jn, js, jt, tj, tt, xss, xsv, xak, xaj, xgc, xgk, xgn, xhs', xhg', xhn', xou', xah, xst, xpl, xft, xev, xdn, upd xus i (nI (us + 1)), xis, xvr, xhd, xtk, xpd, xpa, xpi, xun, xwj) → wpX_hearJob post (nI ns, nI t, nI jc, nI tc, xhe, kd, p1, p2, p3, ac, ja, ji, jn, js, jt, tj, tt, xss, xsv, xak, xaj, xgc, xgk, xgn, xhs, xhg, xhn, xou, xah, xst, xpl, xft, xev, xdn, xus, xis, xvr, xhd, xtk, xpd, xpa, xpi, xun, xwj) (nI i) (xwj i)) : sa_GO i (ns, kd, p1, p2, p3, ac) t (jc, ja, ji, jn, js, jt, tc, tj, tt) (sv, ak, aj, gc, gk, gn, hs, hg, hn, ou) (1, pl, ev, dn, us, is, vr, hd, tk, pn, pa, pi, false, wj) (1, pl, ev, dn, us + 1, is, vr, hd, tk, pn, pa, pi, true, -1) (nI ns, nI t, nI jc, nI tc, xhe, kd, p1, p2, p3, ac, ja, ji, jn, js, jt, tj, tt, xss, xsv, xak, xaj, xgc, xgk, xgn, xhs, xhg, xhn, xou, xah, xst, xpl, xft, xev, xdn, xus, xis, xvr, xhd, xtk, xpd, xpa, xpi, xun, xwj) := by
  obtain ⟨⟨w1, w2, w3, w4⟩, _⟩ := W
  obtain ⟨⟨b1, b2, b3, b4, b5⟩, c1, c2, c3, c4, c5, c6, c7, c8, c9, c10, c11, c12, c13, c14, c15⟩ := H
  obtain ⟨⟨l1, l2, l3⟩, d1, d2, d3, d4, d5, d6, d7, d8, d9, d10⟩ := X
  obtain ⟨f1, f2, f3, f4⟩ := F
  have g1 := d8 us hu
  have y1 := d9 us hu
  refine ⟨(nI ns, nI t, nI jc, nI tc, nI (240 * i + us), kd, p1, p2, p3, ac, ja, ji, jn, js, jt, tj, tt, xss, xsv, xak, xaj, xgc, xgk, xgn, xhs', xhg', xhn', xou', xah, xst, xpl, upd xft i (nI pl), xev, xdn, upd xus i (nI (us + 1)), xis, xvr, xhd, xtk, xpd, xpa, xpi, upd xun i (nI pn), upd (upd xwj i (-1)) i (-1)), ⟨⟨w1, w2, by omega, w4⟩, rfl, rfl, rfl, rfl, rfl, rfl, rfl, rfl, rfl, rfl, rfl, rfl, rfl, rfl, rfl, rfl⟩, ⟨⟨by omega, by omega, by omega⟩, d1, d2, d3, d4, d5, d6, d7, d8, d9, d10⟩, ⟨⟨by omega, by omega, by omega, by omega, by omega⟩, c1, c2, fun _ => pk_us, c4, c5, pk_us, c7, c8, c9, c10, nofun, c12, c13, pk_us, pk_us⟩, ⟨⟨rfl, rfl⟩, fun i' hi' hne => ⟨rfl, rfl, fun _ _ => rfl, rfl, fun _ _ => rfl, fun _ _ => rfl, f1 i' hi' hne, f2 i' hi' hne, f3 i' hi' hne, f4 i' hi' hne, rfl, rfl, pk_un hne, rfl, rfl, pk_un hne, rfl, fun _ _ => rfl, fun _ _ => rfl, fun _ _ => rfl, rfl, fun _ _ => rfl, fun _ _ => rfl, pk_un hne, (pk_un hne).trans (pk_un hne)⟩⟩,
    sa_gob1 rfl hw rfl rfl (sa_mu_b hw) (fun Q K => ?_)⟩
  refine ⟨nofun, fun _ _ R hR => ?_, fun _ e => absurd (hk.symm.trans e) (by decide), fun _ e => absurd (hk.symm.trans e) (by decide), fun _ e => absurd (hk.symm.trans e) (by decide)⟩
  exact sa_b_d0 hi (by omega) c2 (c11 rfl) HH (by omega) g1 hg0 (hR 1 _ (Or.inr rfl) K)
theorem sa_G_ba1 (hi : i < 3) (W : sa_WX (ns, kd, p1, p2, p3, ac) t (jc, ja, ji, jn, js, jt, tc, tj, tt) (nI ns, nI t, nI jc, nI tc, xhe, kd, p1, p2, p3, ac, ja, ji, jn, js, jt, tj, tt, xss, xsv, xak, xaj, xgc, xgk, xgn, xhs, xhg, xhn, xou, xah, xst, xpl, xft, xev, xdn, xus, xis, xvr, xhd, xtk, xpd, xpa, xpi, xun, xwj)) (X : sa_LX i (sv, ak, aj, gc, gk, gn, hs, hg, hn, ou) (nI ns, nI t, nI jc, nI tc, xhe, kd, p1, p2, p3, ac, ja, ji, jn, js, jt, tj, tt, xss, xsv, xak, xaj, xgc, xgk, xgn, xhs', xhg', xhn', xou', xah, xst, xpl, xft, xev, xdn, xus, xis, xvr, xhd, xtk, xpd, xpa, xpi, xun, xwj)) (F : sa_FL i xhs xhs' xhg xhg' xhn xhn' xou xou') (hu : us < hs) (H : sa_HX i (1, pl, ev, dn, us, is, vr, hd, tk, pn, pa, pi, false, wj) (nI ns, nI t, nI jc, nI tc, xhe, kd, p1, p2, p3, ac, ja, ji, jn, js, jt, tj, tt, xss, xsv, xak, xaj, xgc, xgk, xgn, xhs, xhg, xhn, xou, xah, xst, xpl, xft, xev, xdn, xus, xis, xvr, xhd, xtk, xpd, xpa, xpi, xun, xwj)) (hw : wj ≠ -1) (hp : pl < ns) (hk : kd pl = 5) (ha : a < 3) (hb : b < 4) (e1 : p1 pl = nI a) (e2 : p2 pl = nI b) (hg0 : hg us = 1) (y0 : hn us = y) (HH : ∀ post : Int32 → SX → Prop, post 1 (nI ns, nI t, nI jc, nI tc, nI (240 * i + us), kd, p1, p2, p3, ac, ja, ji, jn, js, jt, tj, tt, xss, xsv, xak, xaj, xgc, xgk, xgn, xhs', xhg', xhn', xou', xah, xst, xpl, xft, xev, xdn, upd xus i (nI (us + 1)), xis, xvr, xhd, xtk, xpd, xpa, xpi, xun, xwj) → wpX_hearJob post (nI ns, nI t, nI jc, nI tc, xhe, kd, p1, p2, p3, ac, ja, ji, jn, js, jt, tj, tt, xss, xsv, xak, xaj, xgc, xgk, xgn, xhs, xhg, xhn, xou, xah, xst, xpl, xft, xev, xdn, xus, xis, xvr, xhd, xtk, xpd, xpa, xpi, xun, xwj) (nI i) (xwj i)) : sa_GO i (ns, kd, p1, p2, p3, ac) t (jc, ja, ji, jn, js, jt, tc, tj, tt) (sv, ak, aj, gc, gk, gn, hs, hg, hn, ou) (1, pl, ev, dn, us, is, vr, hd, tk, pn, pa, pi, false, wj) (1, pl + 1, ev, dn, us + 1, is, upd vr b y, upd hd a (-1), tk, pn, pa, pi, false, -1) (nI ns, nI t, nI jc, nI tc, xhe, kd, p1, p2, p3, ac, ja, ji, jn, js, jt, tj, tt, xss, xsv, xak, xaj, xgc, xgk, xgn, xhs, xhg, xhn, xou, xah, xst, xpl, xft, xev, xdn, xus, xis, xvr, xhd, xtk, xpd, xpa, xpi, xun, xwj) := by
  obtain ⟨⟨w1, w2, w3, w4⟩, _⟩ := W
  obtain ⟨⟨b1, b2, b3, b4, b5⟩, c1, c2, c3, c4, c5, c6, c7, c8, c9, c10, c11, c12, c13, c14, c15⟩ := H
  obtain ⟨⟨l1, l2, l3⟩, d1, d2, d3, d4, d5, d6, d7, d8, d9, d10⟩ := X
  obtain ⟨f1, f2, f3, f4⟩ := F
  have g1 := d8 us hu
  have y1 := d9 us hu
  refine ⟨(nI ns, nI t, nI jc, nI tc, nI (240 * i + us), kd, p1, p2, p3, ac, ja, ji, jn, js, jt, tj, tt, xss, xsv, xak, xaj, xgc, xgk, xgn, xhs', xhg', xhn', xou', xah, xst, upd xpl i (nI (pl + 1)), xft, xev, xdn, upd xus i (nI (us + 1)), xis, upd xvr (4 * i + b) y, upd xhd (3 * i + a) (-1), xtk, xpd, xpa, xpi, xun, upd xwj i (-1)), ⟨⟨w1, w2, by omega, w4⟩, rfl, rfl, rfl, rfl, rfl, rfl, rfl, rfl, rfl, rfl, rfl, rfl, rfl, rfl, rfl, rfl⟩, ⟨⟨by omega, by omega, by omega⟩, d1, d2, d3, d4, d5, d6, d7, d8, d9, d10⟩, ⟨⟨by omega, by omega, by omega, by omega, by omega⟩, c1, pk_us, nofun, c4, c5, pk_us, c7, sa_uo c8, sa_uo c9, c10, c11, c12, c13, c14, pk_us⟩, ⟨⟨rfl, rfl⟩, fun i' hi' hne => ⟨rfl, rfl, fun _ _ => rfl, rfl, fun _ _ => rfl, fun _ _ => rfl, f1 i' hi' hne, f2 i' hi' hne, f3 i' hi' hne, f4 i' hi' hne, rfl, pk_un hne, rfl, rfl, rfl, pk_un hne, rfl, fun k hk => pk_un (by omega), fun k hk => pk_un (by omega), fun _ _ => rfl, rfl, fun _ _ => rfl, fun _ _ => rfl, rfl, pk_un hne⟩⟩,
    sa_gob1 rfl hw rfl rfl (sa_mu_b hw) (fun Q K => ?_)⟩
  refine ⟨nofun, fun _ e => absurd (hk.symm.trans e) (by decide), fun _ _ R hR => ?_, fun _ e => absurd (hk.symm.trans e) (by decide), fun _ e => absurd (hk.symm.trans e) (by decide)⟩
  exact sa_b_a1 hi (by omega) c2 HH (by omega) g1 hg0 (y1.trans y0) ha hb e1 e2 (hR 1 _ (Or.inr rfl) K)
theorem sa_G_ba0 (hi : i < 3) (W : sa_WX (ns, kd, p1, p2, p3, ac) t (jc, ja, ji, jn, js, jt, tc, tj, tt) (nI ns, nI t, nI jc, nI tc, xhe, kd, p1, p2, p3, ac, ja, ji, jn, js, jt, tj, tt, xss, xsv, xak, xaj, xgc, xgk, xgn, xhs, xhg, xhn, xou, xah, xst, xpl, xft, xev, xdn, xus, xis, xvr, xhd, xtk, xpd, xpa, xpi, xun, xwj)) (X : sa_LX i (sv, ak, aj, gc, gk, gn, hs, hg, hn, ou) (nI ns, nI t, nI jc, nI tc, xhe, kd, p1, p2, p3, ac, ja, ji, jn, js, jt, tj, tt, xss, xsv, xak, xaj, xgc, xgk, xgn, xhs', xhg', xhn', xou', xah, xst, xpl, xft, xev, xdn, xus, xis, xvr, xhd, xtk, xpd, xpa, xpi, xun, xwj)) (F : sa_FL i xhs xhs' xhg xhg' xhn xhn' xou xou') (hu : us < hs) (H : sa_HX i (1, pl, ev, dn, us, is, vr, hd, tk, pn, pa, pi, false, wj) (nI ns, nI t, nI jc, nI tc, xhe, kd, p1, p2, p3, ac, ja, ji, jn, js, jt, tj, tt, xss, xsv, xak, xaj, xgc, xgk, xgn, xhs, xhg, xhn, xou, xah, xst, xpl, xft, xev, xdn, xus, xis, xvr, xhd, xtk, xpd, xpa, xpi, xun, xwj)) (hw : wj ≠ -1) (hp : pl < ns) (hk : kd pl = 5) (ha : a < 3) (e1 : p1 pl = nI a) (hg0 : ¬ hg us = 1) (HH : ∀ post : Int32 → SX → Prop, post 1 (nI ns, nI t, nI jc, nI tc, nI (240 * i + us), kd, p1, p2, p3, ac, ja, ji, jn, js, jt, tj, tt, xss, xsv, xak, xaj, xgc, xgk, xgn, xhs', xhg', xhn', xou', xah, xst, xpl, xft, xev, xdn, upd xus i (nI (us + 1)), xis, xvr, xhd, xtk, xpd, xpa, xpi, xun, xwj) → wpX_hearJob post (nI ns, nI t, nI jc, nI tc, xhe, kd, p1, p2, p3, ac, ja, ji, jn, js, jt, tj, tt, xss, xsv, xak, xaj, xgc, xgk, xgn, xhs, xhg, xhn, xou, xah, xst, xpl, xft, xev, xdn, xus, xis, xvr, xhd, xtk, xpd, xpa, xpi, xun, xwj) (nI i) (xwj i)) : sa_GO i (ns, kd, p1, p2, p3, ac) t (jc, ja, ji, jn, js, jt, tc, tj, tt) (sv, ak, aj, gc, gk, gn, hs, hg, hn, ou) (1, pl, ev, dn, us, is, vr, hd, tk, pn, pa, pi, false, wj) (1, pl, ev, dn, us + 1, is, vr, upd hd a (-1), tk, pn, pa, pi, true, -1) (nI ns, nI t, nI jc, nI tc, xhe, kd, p1, p2, p3, ac, ja, ji, jn, js, jt, tj, tt, xss, xsv, xak, xaj, xgc, xgk, xgn, xhs, xhg, xhn, xou, xah, xst, xpl, xft, xev, xdn, xus, xis, xvr, xhd, xtk, xpd, xpa, xpi, xun, xwj) := by
  obtain ⟨⟨w1, w2, w3, w4⟩, _⟩ := W
  obtain ⟨⟨b1, b2, b3, b4, b5⟩, c1, c2, c3, c4, c5, c6, c7, c8, c9, c10, c11, c12, c13, c14, c15⟩ := H
  obtain ⟨⟨l1, l2, l3⟩, d1, d2, d3, d4, d5, d6, d7, d8, d9, d10⟩ := X
  obtain ⟨f1, f2, f3, f4⟩ := F
  have g1 := d8 us hu
  have y1 := d9 us hu
  refine ⟨(nI ns, nI t, nI jc, nI tc, nI (240 * i + us), kd, p1, p2, p3, ac, ja, ji, jn, js, jt, tj, tt, xss, xsv, xak, xaj, xgc, xgk, xgn, xhs', xhg', xhn', xou', xah, xst, xpl, upd xft i (nI pl), xev, xdn, upd xus i (nI (us + 1)), xis, xvr, upd xhd (3 * i + a) (-1), xtk, xpd, xpa, xpi, upd xun i (nI pn), upd (upd xwj i (-1)) i (-1)), ⟨⟨w1, w2, by omega, w4⟩, rfl, rfl, rfl, rfl, rfl, rfl, rfl, rfl, rfl, rfl, rfl, rfl, rfl, rfl, rfl, rfl⟩, ⟨⟨by omega, by omega, by omega⟩, d1, d2, d3, d4, d5, d6, d7, d8, d9, d10⟩, ⟨⟨by omega, by omega, by omega, by omega, by omega⟩, c1, c2, fun _ => pk_us, c4, c5, pk_us, c7, c8, sa_uo c9, c10, nofun, c12, c13, pk_us, pk_us⟩, ⟨⟨rfl, rfl⟩, fun i' hi' hne => ⟨rfl, rfl, fun _ _ => rfl, rfl, fun _ _ => rfl, fun _ _ => rfl, f1 i' hi' hne, f2 i' hi' hne, f3 i' hi' hne, f4 i' hi' hne, rfl, rfl, pk_un hne, rfl, rfl, pk_un hne, rfl, fun _ _ => rfl, fun k hk => pk_un (by omega), fun _ _ => rfl, rfl, fun _ _ => rfl, fun _ _ => rfl, pk_un hne, (pk_un hne).trans (pk_un hne)⟩⟩,
    sa_gob1 rfl hw rfl rfl (sa_mu_b hw) (fun Q K => ?_)⟩
  refine ⟨nofun, fun _ e => absurd (hk.symm.trans e) (by decide), fun _ _ R hR => ?_, fun _ e => absurd (hk.symm.trans e) (by decide), fun _ e => absurd (hk.symm.trans e) (by decide)⟩
  exact sa_b_a0 hi (by omega) c2 (c11 rfl) HH (by omega) g1 hg0 ha e1 (hR 1 _ (Or.inr rfl) K)
theorem sa_G_bs (hi : i < 3) (W : sa_WX (ns, kd, p1, p2, p3, ac) t (jc, ja, ji, jn, js, jt, tc, tj, tt) (nI ns, nI t, nI jc, nI tc, xhe, kd, p1, p2, p3, ac, ja, ji, jn, js, jt, tj, tt, xss, xsv, xak, xaj, xgc, xgk, xgn, xhs, xhg, xhn, xou, xah, xst, xpl, xft, xev, xdn, xus, xis, xvr, xhd, xtk, xpd, xpa, xpi, xun, xwj)) (X : sa_LX i (sv, ak, aj, gc, gk, gn, hs, hg, hn, ou) (nI ns, nI t, nI jc, nI tc, xhe, kd, p1, p2, p3, ac, ja, ji, jn, js, jt, tj, tt, xss, xsv, xak, xaj, xgc, xgk, xgn, xhs', xhg', xhn', xou', xah, xst, xpl, xft, xev, xdn, xus, xis, xvr, xhd, xtk, xpd, xpa, xpi, xun, xwj)) (F : sa_FL i xhs xhs' xhg xhg' xhn xhn' xou xou') (hu : us < hs) (H : sa_HX i (1, pl, ev, dn, us, is, vr, hd, tk, pn, pa, pi, false, wj) (nI ns, nI t, nI jc, nI tc, xhe, kd, p1, p2, p3, ac, ja, ji, jn, js, jt, tj, tt, xss, xsv, xak, xaj, xgc, xgk, xgn, xhs, xhg, xhn, xou, xah, xst, xpl, xft, xev, xdn, xus, xis, xvr, xhd, xtk, xpd, xpa, xpi, xun, xwj)) (hw : wj ≠ -1) (hp : pl < ns) (hk : kd pl = 7) (HH : ∀ (z : Int32) (post : Int32 → SX → Prop), post 1 (nI ns, nI t, nI jc, nI tc, nI (240 * i + us), kd, p1, p2, p3, ac, ja, ji, jn, js, jt, tj, tt, xss, xsv, xak, xaj, xgc, xgk, xgn, xhs', xhg', xhn', xou', xah, xst, xpl, xft, xev, xdn, upd xus i (nI (us + 1)), xis, xvr, xhd, xtk, xpd, xpa, xpi, xun, xwj) → wpX_hearTime post (nI ns, nI t, nI jc, nI tc, xhe, kd, p1, p2, p3, ac, ja, ji, jn, js, jt, tj, tt, xss, xsv, xak, xaj, xgc, xgk, xgn, xhs, xhg, xhn, xou, xah, xst, xpl, xft, xev, xdn, xus, xis, xvr, xhd, xtk, xpd, xpa, xpi, xun, xwj) (nI i) z) : sa_GO i (ns, kd, p1, p2, p3, ac) t (jc, ja, ji, jn, js, jt, tc, tj, tt) (sv, ak, aj, gc, gk, gn, hs, hg, hn, ou) (1, pl, ev, dn, us, is, vr, hd, tk, pn, pa, pi, false, wj) (1, pl + 1, ev, dn, us + 1, is, vr, hd, tk, pn, pa, pi, false, -1) (nI ns, nI t, nI jc, nI tc, xhe, kd, p1, p2, p3, ac, ja, ji, jn, js, jt, tj, tt, xss, xsv, xak, xaj, xgc, xgk, xgn, xhs, xhg, xhn, xou, xah, xst, xpl, xft, xev, xdn, xus, xis, xvr, xhd, xtk, xpd, xpa, xpi, xun, xwj) := by
  obtain ⟨⟨w1, w2, w3, w4⟩, _⟩ := W
  obtain ⟨⟨b1, b2, b3, b4, b5⟩, c1, c2, c3, c4, c5, c6, c7, c8, c9, c10, c11, c12, c13, c14, c15⟩ := H
  obtain ⟨⟨l1, l2, l3⟩, d1, d2, d3, d4, d5, d6, d7, d8, d9, d10⟩ := X
  obtain ⟨f1, f2, f3, f4⟩ := F
  have g1 := d8 us hu
  have y1 := d9 us hu
  refine ⟨(nI ns, nI t, nI jc, nI tc, nI (240 * i + us), kd, p1, p2, p3, ac, ja, ji, jn, js, jt, tj, tt, xss, xsv, xak, xaj, xgc, xgk, xgn, xhs', xhg', xhn', xou', xah, xst, upd xpl i (nI (pl + 1)), xft, xev, xdn, upd xus i (nI (us + 1)), xis, xvr, xhd, xtk, xpd, xpa, xpi, xun, upd xwj i (-1)), ⟨⟨w1, w2, by omega, w4⟩, rfl, rfl, rfl, rfl, rfl, rfl, rfl, rfl, rfl, rfl, rfl, rfl, rfl, rfl, rfl, rfl⟩, ⟨⟨by omega, by omega, by omega⟩, d1, d2, d3, d4, d5, d6, d7, d8, d9, d10⟩, ⟨⟨by omega, by omega, by omega, by omega, by omega⟩, c1, pk_us, nofun, c4, c5, pk_us, c7, c8, c9, c10, c11, c12, c13, c14, pk_us⟩, ⟨⟨rfl, rfl⟩, fun i' hi' hne => ⟨rfl, rfl, fun _ _ => rfl, rfl, fun _ _ => rfl, fun _ _ => rfl, f1 i' hi' hne, f2 i' hi' hne, f3 i' hi' hne, f4 i' hi' hne, rfl, pk_un hne, rfl, rfl, rfl, pk_un hne, rfl, fun _ _ => rfl, fun _ _ => rfl, fun _ _ => rfl, rfl, fun _ _ => rfl, fun _ _ => rfl, rfl, pk_un hne⟩⟩,
    sa_gob1 rfl hw rfl rfl (sa_mu_b hw) (fun Q K => ?_)⟩
  refine ⟨nofun, fun _ e => absurd (hk.symm.trans e) (by decide), fun _ e => absurd (hk.symm.trans e) (by decide), fun _ _ a _ _ R hR z _ _ => ?_, fun _ e => absurd (hk.symm.trans e) (by decide)⟩
  exact sa_b_s1 hi (by omega) (HH z) (hR 1 _ (Or.inr rfl) K)
theorem sa_G_bgb (hi : i < 3) (W : sa_WX (ns, kd, p1, p2, p3, ac) t (jc, ja, ji, jn, js, jt, tc, tj, tt) (nI ns, nI t, nI jc, nI tc, xhe, kd, p1, p2, p3, ac, ja, ji, jn, js, jt, tj, tt, xss, xsv, xak, xaj, xgc, xgk, xgn, xhs, xhg, xhn, xou, xah, xst, xpl, xft, xev, xdn, xus, xis, xvr, xhd, xtk, xpd, xpa, xpi, xun, xwj)) (X : sa_LX i (sv, ak, aj, gc, gk, gn, hs, hg, hn, ou) (nI ns, nI t, nI jc, nI tc, xhe, kd, p1, p2, p3, ac, ja, ji, jn, js, jt, tj, tt, xss, xsv, xak, xaj, xgc, xgk, xgn, xhs', xhg', xhn', xou', xah, xst, xpl, xft, xev, xdn, xus, xis, xvr, xhd, xtk, xpd, xpa, xpi, xun, xwj)) (F : sa_FL i xhs xhs' xhg xhg' xhn xhn' xou xou') (hu : us < hs) (H : sa_HX i (1, pl, ev, dn, us, is, vr, hd, tk, pn, pa, pi, false, wj) (nI ns, nI t, nI jc, nI tc, xhe, kd, p1, p2, p3, ac, ja, ji, jn, js, jt, tj, tt, xss, xsv, xak, xaj, xgc, xgk, xgn, xhs, xhg, xhn, xou, xah, xst, xpl, xft, xev, xdn, xus, xis, xvr, xhd, xtk, xpd, xpa, xpi, xun, xwj)) (hw : wj ≠ -1) (hp : pl < ns) (hk : kd pl = 10) (hb : b < 4) (e2 : p2 pl = nI b) (hg0 : ¬ hg us = 1) (HH : ∀ (y z : Int32) (post : Int32 → SX → Prop), y = p1 pl → z = p3 pl → post 1 (nI ns, nI t, nI jc, nI tc, nI (240 * i + us), kd, p1, p2, p3, ac, ja, ji, jn, js, jt, tj, tt, xss, xsv, xak, xaj, xgc, xgk, xgn, xhs', xhg', xhn', xou', xah, xst, xpl, xft, xev, xdn, upd xus i (nI (us + 1)), xis, xvr, xhd, xtk, xpd, xpa, xpi, xun, xwj) → wpX_hearSignal post (nI ns, nI t, nI jc, nI tc, xhe, kd, p1, p2, p3, ac, ja, ji, jn, js, jt, tj, tt, xss, xsv, xak, xaj, xgc, xgk, xgn, xhs, xhg, xhn, xou, xah, xst, xpl, xft, xev, xdn, xus, xis, xvr, xhd, xtk, xpd, xpa, xpi, xun, xwj) (nI i) y z) : sa_GO i (ns, kd, p1, p2, p3, ac) t (jc, ja, ji, jn, js, jt, tc, tj, tt) (sv, ak, aj, gc, gk, gn, hs, hg, hn, ou) (1, pl, ev, dn, us, is, vr, hd, tk, pn, pa, pi, false, wj) (1, pl + 1, ev, dn, us + 1, is, upd vr b (-1), hd, tk, pn, pa, pi, false, -1) (nI ns, nI t, nI jc, nI tc, xhe, kd, p1, p2, p3, ac, ja, ji, jn, js, jt, tj, tt, xss, xsv, xak, xaj, xgc, xgk, xgn, xhs, xhg, xhn, xou, xah, xst, xpl, xft, xev, xdn, xus, xis, xvr, xhd, xtk, xpd, xpa, xpi, xun, xwj) := by
  obtain ⟨⟨w1, w2, w3, w4⟩, _⟩ := W
  obtain ⟨⟨b1, b2, b3, b4, b5⟩, c1, c2, c3, c4, c5, c6, c7, c8, c9, c10, c11, c12, c13, c14, c15⟩ := H
  obtain ⟨⟨l1, l2, l3⟩, d1, d2, d3, d4, d5, d6, d7, d8, d9, d10⟩ := X
  obtain ⟨f1, f2, f3, f4⟩ := F
  have g1 := d8 us hu
  have y1 := d9 us hu
  refine ⟨(nI ns, nI t, nI jc, nI tc, nI (240 * i + us), kd, p1, p2, p3, ac, ja, ji, jn, js, jt, tj, tt, xss, xsv, xak, xaj, xgc, xgk, xgn, xhs', xhg', xhn', xou', xah, xst, upd xpl i (nI (pl + 1)), xft, xev, xdn, upd xus i (nI (us + 1)), xis, upd xvr (4 * i + b) (-1), xhd, xtk, xpd, xpa, xpi, xun, upd xwj i (-1)), ⟨⟨w1, w2, by omega, w4⟩, rfl, rfl, rfl, rfl, rfl, rfl, rfl, rfl, rfl, rfl, rfl, rfl, rfl, rfl, rfl, rfl⟩, ⟨⟨by omega, by omega, by omega⟩, d1, d2, d3, d4, d5, d6, d7, d8, d9, d10⟩, ⟨⟨by omega, by omega, by omega, by omega, by omega⟩, c1, pk_us, nofun, c4, c5, pk_us, c7, sa_uo c8, c9, c10, c11, c12, c13, c14, pk_us⟩, ⟨⟨rfl, rfl⟩, fun i' hi' hne => ⟨rfl, rfl, fun _ _ => rfl, rfl, fun _ _ => rfl, fun _ _ => rfl, f1 i' hi' hne, f2 i' hi' hne, f3 i' hi' hne, f4 i' hi' hne, rfl, pk_un hne, rfl, rfl, rfl, pk_un hne, rfl, fun k hk => pk_un (by omega), fun _ _ => rfl, fun _ _ => rfl, rfl, fun _ _ => rfl, fun _ _ => rfl, rfl, pk_un hne⟩⟩,
    sa_gob1 rfl hw rfl rfl (sa_mu_b hw) (fun Q K => ?_)⟩
  refine ⟨nofun, fun _ e => absurd (hk.symm.trans e) (by decide), fun _ e => absurd (hk.symm.trans e) (by decide), fun _ e => absurd (hk.symm.trans e) (by decide), fun _ _ R hR S hS => ?_⟩
  exact HH _ _ _ rfl rfl (hS 1 _ (Or.inr rfl) (sa_b_gb hi (by omega) (by omega) g1 hg0 hb e2 (hR 1 _ (Or.inr rfl) K)))
theorem sa_G_bgg (hi : i < 3) (W : sa_WX (ns, kd, p1, p2, p3, ac) t (jc, ja, ji, jn, js, jt, tc, tj, tt) (nI ns, nI t, nI jc, nI tc, xhe, kd, p1, p2, p3, ac, ja, ji, jn, js, jt, tj, tt, xss, xsv, xak, xaj, xgc, xgk, xgn, xhs, xhg, xhn, xou, xah, xst, xpl, xft, xev, xdn, xus, xis, xvr, xhd, xtk, xpd, xpa, xpi, xun, xwj)) (X : sa_LX i (sv, ak, aj, gc, gk, gn, hs, hg, hn, ou) (nI ns, nI t, nI jc, nI tc, xhe, kd, p1, p2, p3, ac, ja, ji, jn, js, jt, tj, tt, xss, xsv, xak, xaj, xgc, xgk, xgn, xhs', xhg', xhn', xou', xah, xst, xpl, xft, xev, xdn, xus, xis, xvr, xhd, xtk, xpd, xpa, xpi, xun, xwj)) (F : sa_FL i xhs xhs' xhg xhg' xhn xhn' xou xou') (hu : us < hs) (H : sa_HX i (1, pl, ev, dn, us, is, vr, hd, tk, pn, pa, pi, false, wj) (nI ns, nI t, nI jc, nI tc, xhe, kd, p1, p2, p3, ac, ja, ji, jn, js, jt, tj, tt, xss, xsv, xak, xaj, xgc, xgk, xgn, xhs, xhg, xhn, xou, xah, xst, xpl, xft, xev, xdn, xus, xis, xvr, xhd, xtk, xpd, xpa, xpi, xun, xwj)) (hw : wj ≠ -1) (hp : pl < ns) (hk : kd pl = 10) (hb : b < 4) (e2 : p2 pl = nI b) (hg0 : hg us = 1) (hq6 : q < gc) (hq7 : hn us = nI q) (HH : ∀ (y z : Int32) (post : Int32 → SX → Prop), y = p1 pl → z = p3 pl → post 1 (nI ns, nI t, nI jc, nI tc, nI (240 * i + us), kd, p1, p2, p3, ac, ja, ji, jn, js, jt, tj, tt, xss, xsv, xak, xaj, xgc, xgk, xgn, xhs', xhg', xhn', xou', xah, xst, xpl, xft, xev, xdn, upd xus i (nI (us + 1)), xis, xvr, xhd, xtk, xpd, xpa, xpi, xun, xwj) → wpX_hearSignal post (nI ns, nI t, nI jc, nI tc, xhe, kd, p1, p2, p3, ac, ja, ji, jn, js, jt, tj, tt, xss, xsv, xak, xaj, xgc, xgk, xgn, xhs, xhg, xhn, xou, xah, xst, xpl, xft, xev, xdn, xus, xis, xvr, xhd, xtk, xpd, xpa, xpi, xun, xwj) (nI i) y z) : sa_GO i (ns, kd, p1, p2, p3, ac) t (jc, ja, ji, jn, js, jt, tc, tj, tt) (sv, ak, aj, gc, gk, gn, hs, hg, hn, ou) (1, pl, ev, dn, us, is, vr, hd, tk, pn, pa, pi, false, wj) (1, pl + 1, ev, dn, us + 1, is, upd vr b (gn q), hd, upd tk q 1, pn, pa, pi, false, -1) (nI ns, nI t, nI jc, nI tc, xhe, kd, p1, p2, p3, ac, ja, ji, jn, js, jt, tj, tt, xss, xsv, xak, xaj, xgc, xgk, xgn, xhs, xhg, xhn, xou, xah, xst, xpl, xft, xev, xdn, xus, xis, xvr, xhd, xtk, xpd, xpa, xpi, xun, xwj) := by
  obtain ⟨⟨w1, w2, w3, w4⟩, _⟩ := W
  obtain ⟨⟨b1, b2, b3, b4, b5⟩, c1, c2, c3, c4, c5, c6, c7, c8, c9, c10, c11, c12, c13, c14, c15⟩ := H
  obtain ⟨⟨l1, l2, l3⟩, d1, d2, d3, d4, d5, d6, d7, d8, d9, d10⟩ := X
  obtain ⟨f1, f2, f3, f4⟩ := F
  have g1 := d8 us hu
  have y1 := d9 us hu
  refine ⟨(nI ns, nI t, nI jc, nI tc, nI (240 * i + us), kd, p1, p2, p3, ac, ja, ji, jn, js, jt, tj, tt, xss, xsv, xak, xaj, xgc, xgk, xgn, xhs', xhg', xhn', xou', xah, xst, upd xpl i (nI (pl + 1)), xft, xev, xdn, upd xus i (nI (us + 1)), xis, upd xvr (4 * i + b) (gn q), xhd, upd xtk (6 * i + q) 1, xpd, xpa, xpi, xun, upd xwj i (-1)), ⟨⟨w1, w2, by omega, w4⟩, rfl, rfl, rfl, rfl, rfl, rfl, rfl, rfl, rfl, rfl, rfl, rfl, rfl, rfl, rfl, rfl⟩, ⟨⟨by omega, by omega, by omega⟩, d1, d2, d3, d4, d5, d6, d7, d8, d9, d10⟩, ⟨⟨by omega, by omega, by omega, by omega, by omega⟩, c1, pk_us, nofun, c4, c5, pk_us, c7, sa_uo c8, c9, sa_uo c10, c11, c12, c13, c14, pk_us⟩, ⟨⟨rfl, rfl⟩, fun i' hi' hne => ⟨rfl, rfl, fun _ _ => rfl, rfl, fun _ _ => rfl, fun _ _ => rfl, f1 i' hi' hne, f2 i' hi' hne, f3 i' hi' hne, f4 i' hi' hne, rfl, pk_un hne, rfl, rfl, rfl, pk_un hne, rfl, fun k hk => pk_un (by omega), fun _ _ => rfl, fun k hk => pk_un (by omega), rfl, fun _ _ => rfl, fun _ _ => rfl, rfl, pk_un hne⟩⟩,
    sa_gob1 rfl hw rfl rfl (sa_mu_b hw) (fun Q K => ?_)⟩
  refine ⟨nofun, fun _ e => absurd (hk.symm.trans e) (by decide), fun _ e => absurd (hk.symm.trans e) (by decide), fun _ e => absurd (hk.symm.trans e) (by decide), fun _ _ R hR S hS => ?_⟩
  refine HH _ _ _ rfl rfl (hS 1 _ (Or.inr rfl) (sa_b_gg hi (by omega) (by omega) (g1.trans hg0) (by omega) (y1.trans hq7) hb e2 (hR 1 _ (Or.inr rfl) ?_)))
  rw [d6 q hq6]
  exact K
end
end
section
/-! every step whose outside is what lasts; replay -/
section
variable {xns xnow xjc xtc xhe : Int32} {xkd xp1 xp2 xp3 xac xja xji xjn xjs xjt xtj xtt xss xsv xak xaj xgc xgk xgn xhs xhg xhn xou xah xst xpl xft xev xdn xus xis xvr xhd xtk xpd xpa xpi xun xwj : Nat → Int32} {i us hs : Nat} {post : Int32 → SX → Prop} {y z : Int32}
theorem sa_hs_h (hi : i < 3) (e1 : xus i = nI us) (e2 : xhs i = nI hs) (h : us < hs) (h2 : hs ≤ 240)
    (K : post 1 (xns, xnow, xjc, xtc, nI (240 * i + us), xkd, xp1, xp2, xp3, xac, xja, xji, xjn, xjs, xjt, xtj, xtt, xss, xsv, xak, xaj, xgc, xgk, xgn, xhs, xhg, xhn, xou, xah, xst, xpl, xft, xev, xdn, upd xus i (nI (us + 1)), xis, xvr, xhd, xtk, xpd, xpa, xpi, xun, xwj)) : wpX_hearSignal post (xns, xnow, xjc, xtc, xhe, xkd, xp1, xp2, xp3, xac, xja, xji, xjn, xjs, xjt, xtj, xtt, xss, xsv, xak, xaj, xgc, xgk, xgn, xhs, xhg, xhn, xou, xah, xst, xpl, xft, xev, xdn, xus, xis, xvr, xhd, xtk, xpd, xpa, xpi, xun, xwj) (nI i) y z := by
  have e : ¬ nI us = nI hs := by rw [nI_eq (by omega) (by omega)]; omega
  have e' : ¬ nI hs ≤ nI us := by rw [nI_leI (by omega) (by omega)]; omega
  simp (disch := omega) only [wpX_hearSignal, wX_hearSignal_37, sa_in, nI_clamp, nI_1, nI_add, sa_m3, sa_m4, sa_m6, sa_m7, sa_m240, forall_eq, pk_us, true_and, and_true, true_implies, not_true_eq_false, not_false_eq_true, false_implies, eq_self, sa_n0, sa_n1, sa_m1, e1, e2, e, e']
  exact sa_hear1 hi e1 e2 h h2 ⟨rfl, K⟩
end
theorem sa_XSE {i t : Nat} {P : sa_P} {J : sa_J} {L : sa_L} {h h' : sa_H} {u : SX} (hi : i < 3) (W : sa_WX P t J u) (X : sa_LX i L u) (H : sa_HX i h u) (S : sa_SE h h') : sa_GO i P t J L h h' u := by
  revert X H S
  refine sa_WXi (C := fun P J u => sa_LX i L u → sa_HX i h u → sa_SE h h' → sa_GO i P t J L h h' u) W ?_
  intro ns jc tc xhe kd p1 p2 p3 ac ja ji jn js jt tj tt xss xsv xak xaj xgc xgk xgn xhs xhg xhn xou xah xst xpl xft xev xdn xus xis xvr xhd xtk xpd xpa xpi xun xwj W X H S
  obtain ⟨sv, ak, aj, gc, gk, gn, hs, hg, hn, ou⟩ := L
  obtain ⟨st, pl, ev, dn, us, is, vr, hd, tk, pn, pa, pi, un, wj⟩ := h
  obtain ⟨rfl, rfl, rfl, S⟩ := S
  rcases S with ⟨rfl, rfl⟩ | ⟨h0, h2, hx, rfl⟩
  · exact sa_G_u0 hi W X H
  · obtain ⟨m, rfl⟩ : ∃ m, pn = m + 1 := ⟨pn - 1, by omega⟩
    exact sa_G_u1 hi W X H (by omega) hx
theorem sa_XS1r {i t : Nat} {P : sa_P} {J : sa_J} {L : sa_L} {h h' : sa_H} {u : SX} {q x j : Int32} (hi : i < 3)
    (hk : match L with | (sv, ak, aj, gc, gk, gn, hs, hg, hn, ou) => sa_is h < ak ∧ aj (sa_is h) = j) (W : sa_WX P t J u) (X : sa_LX i L u) (H : sa_HX i h u) (S : sa_S1 P h q x j h' ∨ sa_S1u h q x j h') : sa_GO i P t J L h h' u := by
  revert X H S
  refine sa_WXi (C := fun P J u => sa_LX i L u → sa_HX i h u → (sa_S1 P h q x j h' ∨ sa_S1u h q x j h') → sa_GO i P t J L h h' u) W ?_
  intro ns jc tc xhe kd p1 p2 p3 ac ja ji jn js jt tj tt xss xsv xak xaj xgc xgk xgn xhs xhg xhn xou xah xst xpl xft xev xdn xus xis xvr xhd xtk xpd xpa xpi xun xwj W X H S
  obtain ⟨sv, ak, aj, gc, gk, gn, hs, hg, hn, ou⟩ := L
  obtain ⟨st, pl, ev, dn, us, is, vr, hd, tk, pn, pa, pi, un, wj⟩ := h
  obtain ⟨hk, rfl⟩ := hk
  rcases S with S | S
  · obtain ⟨rfl, rfl, rfl, hp, hq, h30, hj, S⟩ := S
    rcases S with ⟨hk3, a, b, ha, hb, e1, e2, rfl, rfl, rfl⟩ | ⟨hk3, a, b, c, ha, hb, hc, e1, e2, e3, rfl, rfl, hh, rfl⟩
    · exact sa_G_do_r hi W X H hp hq h30 hk3 hb e2 hk hj
    · exact sa_G_start_r hi W X H hp hq h30 hk3 ha hb hc e1 e2 e3 hh hk hj
  · obtain ⟨rfl, rfl, rfl, h0, h2, h30, hj, rfl, rfl, rfl⟩ := S
    obtain ⟨m, rfl⟩ : ∃ m, pn = m + 1 := ⟨pn - 1, by omega⟩
    exact sa_G_u2_r hi W X H (by omega) h30 hk hj
theorem sa_XS2r {i t : Nat} {P : sa_P} {J : sa_J} {L : sa_L} {h h' : sa_H} {u : SX} {g x : Int32} (hi : i < 3)
    (hk : match L with | (sv, ak, aj, gc, gk, gn, hs, hg, hn, ou) => sa_us h < hs ∧ hg (sa_us h) = g ∧ hn (sa_us h) = x) (W : sa_WX P t J u) (X : sa_LX i L u) (H : sa_HX i h u) (S : sa_S2 P h g x h' ∨ sa_S2p P h g h') : sa_GO i P t J L h h' u := by
  revert X H S
  refine sa_WXi (C := fun P J u => sa_LX i L u → sa_HX i h u → (sa_S2 P h g x h' ∨ sa_S2p P h g h') → sa_GO i P t J L h h' u) W ?_
  intro ns jc tc xhe kd p1 p2 p3 ac ja ji jn js jt tj tt xss xsv xak xaj xgc xgk xgn xhs xhg xhn xou xah xst xpl xft xev xdn xus xis xvr xhd xtk xpd xpa xpi xun xwj W X H S
  obtain ⟨sv, ak, aj, gc, gk, gn, hs, hg, hn, ou⟩ := L
  obtain ⟨st, pl, ev, dn, us, is, vr, hd, tk, pn, pa, pi, un, wj⟩ := h
  obtain ⟨hu, rfl, rfl⟩ := hk
  have X0 := X
  have H0 := H
  obtain ⟨⟨l1, l2, l3⟩, d1, d2, d3, d4, d5, d6, d7, d8, d9, d10⟩ := X
  obtain ⟨⟨b1, b2, b3, b4, b5⟩, c1, c2, c3, c4, c5, c6, c7, c8, c9, c10, c11, c12, c13, c14, c15⟩ := H
  have HJ : ∀ post : Int32 → SX → Prop, post 1 (nI ns, nI t, nI jc, nI tc, nI (240 * i + us), kd, p1, p2, p3, ac, ja, ji, jn, js, jt, tj, tt, xss, xsv, xak, xaj, xgc, xgk, xgn, xhs, xhg, xhn, xou, xah, xst, xpl, xft, xev, xdn, upd xus i (nI (us + 1)), xis, xvr, xhd, xtk, xpd, xpa, xpi, xun, xwj) → wpX_hearJob post (nI ns, nI t, nI jc, nI tc, xhe, kd, p1, p2, p3, ac, ja, ji, jn, js, jt, tj, tt, xss, xsv, xak, xaj, xgc, xgk, xgn, xhs, xhg, xhn, xou, xah, xst, xpl, xft, xev, xdn, xus, xis, xvr, xhd, xtk, xpd, xpa, xpi, xun, xwj) (nI i) (xwj i) := fun post K => sa_hj_h hi c6 d7 hu l3 K
  have HT : ∀ (z : Int32) (post : Int32 → SX → Prop), post 1 (nI ns, nI t, nI jc, nI tc, nI (240 * i + us), kd, p1, p2, p3, ac, ja, ji, jn, js, jt, tj, tt, xss, xsv, xak, xaj, xgc, xgk, xgn, xhs, xhg, xhn, xou, xah, xst, xpl, xft, xev, xdn, upd xus i (nI (us + 1)), xis, xvr, xhd, xtk, xpd, xpa, xpi, xun, xwj) → wpX_hearTime post (nI ns, nI t, nI jc, nI tc, xhe, kd, p1, p2, p3, ac, ja, ji, jn, js, jt, tj, tt, xss, xsv, xak, xaj, xgc, xgk, xgn, xhs, xhg, xhn, xou, xah, xst, xpl, xft, xev, xdn, xus, xis, xvr, xhd, xtk, xpd, xpa, xpi, xun, xwj) (nI i) z := fun z post K => sa_ht_h hi c6 d7 hu l3 K
  have HS : ∀ (y z : Int32) (post : Int32 → SX → Prop), y = p1 pl → z = p3 pl → post 1 (nI ns, nI t, nI jc, nI tc, nI (240 * i + us), kd, p1, p2, p3, ac, ja, ji, jn, js, jt, tj, tt, xss, xsv, xak, xaj, xgc, xgk, xgn, xhs, xhg, xhn, xou, xah, xst, xpl, xft, xev, xdn, upd xus i (nI (us + 1)), xis, xvr, xhd, xtk, xpd, xpa, xpi, xun, xwj) → wpX_hearSignal post (nI ns, nI t, nI jc, nI tc, xhe, kd, p1, p2, p3, ac, ja, ji, jn, js, jt, tj, tt, xss, xsv, xak, xaj, xgc, xgk, xgn, xhs, xhg, xhn, xou, xah, xst, xpl, xft, xev, xdn, xus, xis, xvr, xhd, xtk, xpd, xpa, xpi, xun, xwj) (nI i) y z := fun y z post _ _ K => sa_hs_h hi c6 d7 hu l3 K
  rcases S with S | S
  · obtain ⟨rfl, hw, h2, S⟩ := S
    rcases S with ⟨rfl, hg0, rfl⟩ | ⟨rfl, hp, S⟩
    · exact sa_G_bu0 hi W X0 sa_FL0 hu H0 hw hg0 HJ
    rcases S with ⟨hk, c, hc, e3, hg0, rfl⟩ | ⟨hk, a, b, ha, hb, e1, e2, hg0, rfl⟩ | ⟨hk, a, ha, e1, rfl⟩ | ⟨hk, a, b, ha, hb, e1, e2, hg0, rfl⟩
    · exact sa_G_bd1 hi W X0 sa_FL0 hu H0 hw hp hk hc e3 hg0 rfl HJ
    · exact sa_G_ba1 hi W X0 sa_FL0 hu H0 hw hp hk ha hb e1 e2 hg0 rfl HJ
    · exact sa_G_bs hi W X0 sa_FL0 hu H0 hw hp hk HT
    · exact sa_G_bgb hi W X0 sa_FL0 hu H0 hw hp hk hb e2 hg0 HS
  · obtain ⟨rfl, hw, h2, S⟩ := S
    rcases S with ⟨rfl, hg0, rfl⟩ | ⟨rfl, hp, S⟩
    · exact sa_G_bu1 hi W X0 sa_FL0 hu H0 hw hg0 HJ
    rcases S with ⟨hk, _, hg0, rfl⟩ | ⟨hk, a, b, ha, hb, e1, e2, hg0, rfl⟩
    · exact sa_G_bd0 hi W X0 sa_FL0 hu H0 hw hp hk hg0 HJ
    · exact sa_G_ba0 hi W X0 sa_FL0 hu H0 hw hp hk ha e1 hg0 HJ
theorem sa_XS3r {i t q : Nat} {P : sa_P} {J : sa_J} {L : sa_L} {h h' : sa_H} {u : SX} {y : Int32} (hi : i < 3)
    (hk : match L with | (sv, ak, aj, gc, gk, gn, hs, hg, hn, ou) => sa_us h < hs ∧ hg (sa_us h) = 1 ∧ hn (sa_us h) = nI q ∧ q < gc ∧ gn q = y) (W : sa_WX P t J u) (X : sa_LX i L u) (H : sa_HX i h u) (S : sa_S3 P h q y h') : sa_GO i P t J L h h' u := by
  revert X H S
  refine sa_WXi (C := fun P J u => sa_LX i L u → sa_HX i h u → sa_S3 P h q y h' → sa_GO i P t J L h h' u) W ?_
  intro ns jc tc xhe kd p1 p2 p3 ac ja ji jn js jt tj tt xss xsv xak xaj xgc xgk xgn xhs xhg xhn xou xah xst xpl xft xev xdn xus xis xvr xhd xtk xpd xpa xpi xun xwj W X H S
  obtain ⟨sv, ak, aj, gc, gk, gn, hs, hg, hn, ou⟩ := L
  obtain ⟨st, pl, ev, dn, us, is, vr, hd, tk, pn, pa, pi, un, wj⟩ := h
  obtain ⟨hu, hg0, hn0, hq6, rfl⟩ := hk
  have X0 := X
  have H0 := H
  obtain ⟨⟨l1, l2, l3⟩, d1, d2, d3, d4, d5, d6, d7, d8, d9, d10⟩ := X
  obtain ⟨⟨b1, b2, b3, b4, b5⟩, c1, c2, c3, c4, c5, c6, c7, c8, c9, c10, c11, c12, c13, c14, c15⟩ := H
  have HS : ∀ (y z : Int32) (post : Int32 → SX → Prop), y = p1 pl → z = p3 pl → post 1 (nI ns, nI t, nI jc, nI tc, nI (240 * i + us), kd, p1, p2, p3, ac, ja, ji, jn, js, jt, tj, tt, xss, xsv, xak, xaj, xgc, xgk, xgn, xhs, xhg, xhn, xou, xah, xst, xpl, xft, xev, xdn, upd xus i (nI (us + 1)), xis, xvr, xhd, xtk, xpd, xpa, xpi, xun, xwj) → wpX_hearSignal post (nI ns, nI t, nI jc, nI tc, xhe, kd, p1, p2, p3, ac, ja, ji, jn, js, jt, tj, tt, xss, xsv, xak, xaj, xgc, xgk, xgn, xhs, xhg, xhn, xou, xah, xst, xpl, xft, xev, xdn, xus, xis, xvr, xhd, xtk, xpd, xpa, xpi, xun, xwj) (nI i) y z := fun y z post _ _ K => sa_hs_h hi c6 d7 hu l3 K
  obtain ⟨rfl, hw, h2, rfl, hp, _, hk, a, b, ha, hb, e1, e2, rfl⟩ := S
  exact sa_G_bgg hi W X0 sa_FL0 hu H0 hw hp hk hb e2 hg0 hq6 hn0 HS
theorem sa_XSt {i t : Nat} {P : sa_P} {J : sa_J} {L : sa_L} {h h' : sa_H} {u : SX} (hi : i < 3) (W : sa_WX P t J u) (X : sa_LX i L u) (H : sa_HX i h u) (S : sa_St P L h h') : sa_GO i P t J L h h' u := by
  obtain ⟨sv, ak, aj, gc, gk, gn, hs, hg, hn, ou⟩ := L
  rcases S with S | S | S | ⟨q, x, j, e1, e2, S⟩ | ⟨g, x, e1, e2, e3, S⟩ | ⟨q, y, e1, e2, e3, e4, e5, S⟩
  · exact sa_XS0 hi W X H S
  · exact sa_XSF hi W X H S
  · exact sa_XSE hi W X H S
  · exact sa_XS1r hi ⟨e1, e2⟩ W X H S
  · exact sa_XS2r hi ⟨e1, e2, e3⟩ W X H S
  · exact sa_XS3r hi ⟨e1, e2, e3, e4, e5⟩ W X H S
theorem sa_AXr {i : Nat} {u : SX} : sa_AX i u u := by
  obtain ⟨xns, xnow, xjc, xtc, xhe, xkd, xp1, xp2, xp3, xac, xja, xji, xjn, xjs, xjt, xtj, xtt, xss, xsv, xak, xaj, xgc, xgk, xgn, xhs, xhg, xhn, xou, xah, xst, xpl, xft, xev, xdn, xus, xis, xvr, xhd, xtk, xpd, xpa, xpi, xun, xwj⟩ := u
  exact ⟨rfl, rfl, fun _ _ => rfl, rfl, fun _ _ => rfl, fun _ _ => rfl, rfl, fun _ _ => rfl, fun _ _ => rfl, rfl, rfl, rfl, rfl, rfl, rfl, rfl, rfl, fun _ _ => rfl, fun _ _ => rfl, fun _ _ => rfl, rfl, fun _ _ => rfl, fun _ _ => rfl, rfl, rfl⟩
theorem sa_AXt {i : Nat} {u v w : SX} (A : sa_AX i u v) (B : sa_AX i v w) : sa_AX i u w := by
  obtain ⟨xns, xnow, xjc, xtc, xhe, xkd, xp1, xp2, xp3, xac, xja, xji, xjn, xjs, xjt, xtj, xtt, xss, xsv, xak, xaj, xgc, xgk, xgn, xhs, xhg, xhn, xou, xah, xst, xpl, xft, xev, xdn, xus, xis, xvr, xhd, xtk, xpd, xpa, xpi, xun, xwj⟩ := u
  obtain ⟨xns', xnow', xjc', xtc', xhe', xkd', xp1', xp2', xp3', xac', xja', xji', xjn', xjs', xjt', xtj', xtt', xss', xsv', xak', xaj', xgc', xgk', xgn', xhs', xhg', xhn', xou', xah', xst', xpl', xft', xev', xdn', xus', xis', xvr', xhd', xtk', xpd', xpa', xpi', xun', xwj'⟩ := v
  obtain ⟨xns2, xnow2, xjc2, xtc2, xhe2, xkd2, xp12, xp22, xp32, xac2, xja2, xji2, xjn2, xjs2, xjt2, xtj2, xtt2, xss2, xsv2, xak2, xaj2, xgc2, xgk2, xgn2, xhs2, xhg2, xhn2, xou2, xah2, xst2, xpl2, xft2, xev2, xdn2, xus2, xis2, xvr2, xhd2, xtk2, xpd2, xpa2, xpi2, xun2, xwj2⟩ := w
  obtain ⟨p0, p1, p2, p3, p4, p5, p6, p7, p8, p9, p10, p11, p12, p13, p14, p15, p16, p17, p18, p19, p20, p21, p22, p23, p24⟩ := A
  obtain ⟨q0, q1, q2, q3, q4, q5, q6, q7, q8, q9, q10, q11, q12, q13, q14, q15, q16, q17, q18, q19, q20, q21, q22, q23, q24⟩ := B
  exact ⟨q0.trans p0, q1.trans p1, fun k hk => (q2 k hk).trans (p2 k hk), q3.trans p3, fun k hk => (q4 k hk).trans (p4 k hk), fun k hk => (q5 k hk).trans (p5 k hk), q6.trans p6, fun k hk => (q7 k hk).trans (p7 k hk), fun k hk => (q8 k hk).trans (p8 k hk), q9.trans p9, q10.trans p10, q11.trans p11, q12.trans p12, q13.trans p13, q14.trans p14, q15.trans p15, q16.trans p16, fun k hk => (q17 k hk).trans (p17 k hk), fun k hk => (q18 k hk).trans (p18 k hk), fun k hk => (q19 k hk).trans (p19 k hk), q20.trans p20, fun k hk => (q21 k hk).trans (p21 k hk), fun k hk => (q22 k hk).trans (p22 k hk), q23.trans p23, q24.trans p24⟩
theorem sa_FXr {i : Nat} {u : SX} : sa_FX i u u := by
  refine ⟨?_, fun _ _ _ => sa_AXr⟩
  obtain ⟨xns, xnow, xjc, xtc, xhe, xkd, xp1, xp2, xp3, xac, xja, xji, xjn, xjs, xjt, xtj, xtt, xss, xsv, xak, xaj, xgc, xgk, xgn, xhs, xhg, xhn, xou, xah, xst, xpl, xft, xev, xdn, xus, xis, xvr, xhd, xtk, xpd, xpa, xpi, xun, xwj⟩ := u
  exact ⟨rfl, rfl⟩
theorem sa_FXt {i : Nat} {u v w : SX} (A : sa_FX i u v) (B : sa_FX i v w) : sa_FX i u w := by
  refine ⟨?_, fun i' hi' hne => sa_AXt (A.2 i' hi' hne) (B.2 i' hi' hne)⟩
  obtain ⟨A, _⟩ := A
  obtain ⟨B, _⟩ := B
  obtain ⟨xns, xnow, xjc, xtc, xhe, xkd, xp1, xp2, xp3, xac, xja, xji, xjn, xjs, xjt, xtj, xtt, xss, xsv, xak, xaj, xgc, xgk, xgn, xhs, xhg, xhn, xou, xah, xst, xpl, xft, xev, xdn, xus, xis, xvr, xhd, xtk, xpd, xpa, xpi, xun, xwj⟩ := u
  obtain ⟨xns', xnow', xjc', xtc', xhe', xkd', xp1', xp2', xp3', xac', xja', xji', xjn', xjs', xjt', xtj', xtt', xss', xsv', xak', xaj', xgc', xgk', xgn', xhs', xhg', xhn', xou', xah', xst', xpl', xft', xev', xdn', xus', xis', xvr', xhd', xtk', xpd', xpa', xpi', xun', xwj'⟩ := v
  obtain ⟨xns2, xnow2, xjc2, xtc2, xhe2, xkd2, xp12, xp22, xp32, xac2, xja2, xji2, xjn2, xjs2, xjt2, xtj2, xtt2, xss2, xsv2, xak2, xaj2, xgc2, xgk2, xgn2, xhs2, xhg2, xhn2, xou2, xah2, xst2, xpl2, xft2, xev2, xdn2, xus2, xis2, xvr2, xhd2, xtk2, xpd2, xpa2, xpi2, xun2, xwj2⟩ := w
  exact ⟨B.1.trans A.1, B.2.trans A.2⟩
theorem sa_LXa {i : Nat} {L : sa_L} {u v : SX} (A : sa_AX i u v) (X : sa_LX i L u) : sa_LX i L v := by
  obtain ⟨sv, ak, aj, gc, gk, gn, hs, hg, hn, ou⟩ := L
  obtain ⟨xns, xnow, xjc, xtc, xhe, xkd, xp1, xp2, xp3, xac, xja, xji, xjn, xjs, xjt, xtj, xtt, xss, xsv, xak, xaj, xgc, xgk, xgn, xhs, xhg, xhn, xou, xah, xst, xpl, xft, xev, xdn, xus, xis, xvr, xhd, xtk, xpd, xpa, xpi, xun, xwj⟩ := u
  obtain ⟨xns', xnow', xjc', xtc', xhe', xkd', xp1', xp2', xp3', xac', xja', xji', xjn', xjs', xjt', xtj', xtt', xss', xsv', xak', xaj', xgc', xgk', xgn', xhs', xhg', xhn', xou', xah', xst', xpl', xft', xev', xdn', xus', xis', xvr', xhd', xtk', xpd', xpa', xpi', xun', xwj'⟩ := v
  obtain ⟨p0, p1, p2, p3, p4, p5, p6, p7, p8, p9, p10, p11, p12, p13, p14, p15, p16, p17, p18, p19, p20, p21, p22, p23, p24⟩ := A
  obtain ⟨⟨l1, l2, l3⟩, d1, d2, d3, d4, d5, d6, d7, d8, d9, d10⟩ := X
  exact ⟨⟨l1, l2, l3⟩, p0.trans d1, p1.trans d2, fun k hk => (p2 k (by omega)).trans (d3 k hk), p3.trans d4, fun k hk => (p4 k (by omega)).trans (d5 k hk), fun k hk => (p5 k (by omega)).trans (d6 k hk), p6.trans d7, fun k hk => (p7 k (by omega)).trans (d8 k hk), fun k hk => (p8 k (by omega)).trans (d9 k hk), p9.trans d10⟩
theorem sa_HXa {i : Nat} {h : sa_H} {u v : SX} (A : sa_AX i u v) (H : sa_HX i h u) : sa_HX i h v := by
  obtain ⟨st, pl, ev, dn, us, is, vr, hd, tk, pn, pa, pi, un, wj⟩ := h
  obtain ⟨xns, xnow, xjc, xtc, xhe, xkd, xp1, xp2, xp3, xac, xja, xji, xjn, xjs, xjt, xtj, xtt, xss, xsv, xak, xaj, xgc, xgk, xgn, xhs, xhg, xhn, xou, xah, xst, xpl, xft, xev, xdn, xus, xis, xvr, xhd, xtk, xpd, xpa, xpi, xun, xwj⟩ := u
  obtain ⟨xns', xnow', xjc', xtc', xhe', xkd', xp1', xp2', xp3', xac', xja', xji', xjn', xjs', xjt', xtj', xtt', xss', xsv', xak', xaj', xgc', xgk', xgn', xhs', xhg', xhn', xou', xah', xst', xpl', xft', xev', xdn', xus', xis', xvr', xhd', xtk', xpd', xpa', xpi', xun', xwj'⟩ := v
  obtain ⟨p0, p1, p2, p3, p4, p5, p6, p7, p8, p9, p10, p11, p12, p13, p14, p15, p16, p17, p18, p19, p20, p21, p22, p23, p24⟩ := A
  obtain ⟨⟨b1, b2, b3, b4, b5⟩, c1, c2, c3, c4, c5, c6, c7, c8, c9, c10, c11, c12, c13, c14, c15⟩ := H
  exact ⟨⟨b1, b2, b3, b4, b5⟩, p10.trans c1, p11.trans c2, fun e => p12.trans (c3 e), p13.trans c4, p14.trans c5, p15.trans c6, p16.trans c7, fun k hk => (p17 k (by omega)).trans (c8 k hk), fun k hk => (p18 k (by omega)).trans (c9 k hk), fun k hk => (p19 k (by omega)).trans (c10 k hk), fun e => p20.trans (c11 e), fun k hk => (p21 k (by omega)).trans (c12 k hk), fun k hk => (p22 k (by omega)).trans (c13 k hk), p23.trans c14, p24.trans c15⟩
/-- replay: where steps lead, the component comes -/
theorem sa_rep {i t : Nat} {P : sa_P} {J : sa_J} {L : sa_L} (hi : i < 3) : ∀ (n : Nat) (h h' : sa_H) (u : SX), sa_WX P t J u → sa_LX i L u → sa_HX i h u → sa_Re P L n h h' → sa_GO i P t J L h h' u := by
  intro n
  induction n with
  | zero =>
    intro h h' u W X H R
    cases R
    exact ⟨u, W, X, H, sa_FXr, fun post G => G⟩
  | succ n ih =>
    intro h h' u W X H R
    obtain ⟨h1, S, R⟩ := R
    obtain ⟨u1, W1, X1, H1, F1, G1⟩ := sa_XSt hi W X H S
    obtain ⟨u2, W2, X2, H2, F2, G2⟩ := ih h1 h' u1 W1 X1 H1 R
    exact ⟨u2, W2, X2, H2, sa_FXt F1 F2, fun post G => G1 post (G2 post G)⟩
end
section
/-! what is at hand is made anew; the way into goOn -/
theorem sa_vn1 : vp_nar .boolean 1 = 1 := rfl
theorem sa_vn0 : vp_nar .boolean 0 = 0 := rfl
/-- a loop that fills a stretch -/
theorem sa_fill {ζ : Type} (W : ζ → Nat → Nat → (Nat → Int32) → Prop) (N b : Nat) (f : Nat → Int32) (hs : ∀ z n c a, c < N → W z n (c + 1) (upd a (b + c) (f c)) → W z (n + 1) c a) (a : Nat → Int32) :
    ∃ a', (∀ k, k < N → a' (b + k) = f k) ∧ (∀ m, (∀ k, k < N → m ≠ b + k) → a' m = a m) ∧ ∀ z n, W z n N a' → W z (n + N) 0 a := by
  have key : ∀ d c a, c + d = N → ∃ a', (∀ k, c ≤ k → k < N → a' (b + k) = f k) ∧ (∀ m, (∀ k, c ≤ k → k < N → m ≠ b + k) → a' m = a m) ∧ ∀ z n, W z n N a' → W z (n + d) c a := by
    intro d
    induction d with
    | zero =>
      intro c a e
      have e' : c = N := e
      subst e'
      exact ⟨a, fun k h1 h2 => absurd h2 (by omega), fun _ _ => rfl, fun z n h => h⟩
    | succ d ih =>
      intro c a e
      obtain ⟨a', h1, h2, h3⟩ := ih (c + 1) (upd a (b + c) (f c)) (by omega)
      refine ⟨a', ?_, ?_, ?_⟩
      · intro k k1 k2
        by_cases ek : k = c
        · subst ek
          rw [h2 (b + k) (fun q q1 q2 => by omega), pk_us]
        · exact h1 k (by omega) k2
      · intro m hm
        rw [h2 m (fun k k1 k2 => hm k (by omega) k2), pk_un (hm c (Nat.le_refl _) (by omega))]
      · intro z n hn
        exact hs z (n + d) c a (by omega) (h3 z n hn)
  obtain ⟨a', h1, h2, h3⟩ := key N 0 a (by omega)
  exact ⟨a', fun k hk => h1 k (Nat.zero_le _) hk, fun m hm => h2 m (fun k _ hk => hm k hk), h3⟩
def sa_vr0 (sv : Int32) : Nat → Int32 := fun k => if k = 0 then sv else 0
def sa_h0 (sv : Int32) : sa_H := (1, 0, 0, 0, 0, 0, sa_vr0 sv, (fun _ => -1), (fun _ => 0), 0, (fun _ => 0), (fun _ => 0), false, -1)
/-- the states differ, but for program and jobs, on workflow i alone, which is at hand -/
def sa_FG (i : Nat) (u u' : SX) : Prop := (match u, u' with | (xns, xnow, xjc, xtc, xhe, xkd, xp1, xp2, xp3, xac, xja, xji, xjn, xjs, xjt, xtj, xtt, xss, xsv, xak, xaj, xgc, xgk, xgn, xhs, xhg, xhn, xou, xah, xst, xpl, xft, xev, xdn, xus, xis, xvr, xhd, xtk, xpd, xpa, xpi, xun, xwj), (xns', xnow', xjc', xtc', xhe', xkd', xp1', xp2', xp3', xac', xja', xji', xjn', xjs', xjt', xtj', xtt', xss', xsv', xak', xaj', xgc', xgk', xgn', xhs', xhg', xhn', xou', xah', xst', xpl', xft', xev', xdn', xus', xis', xvr', xhd', xtk', xpd', xpa', xpi', xun', xwj') => xss' = xss ∧ (∀ i', i' < 3 → i' ≠ i → xah' i' = xah i') ∧ ¬ xah' i = 0) ∧ ∀ i', i' < 3 → i' ≠ i → sa_AX i' u u'
section
variable {xns xnow xjc xtc xhe : Int32} {xkd xp1 xp2 xp3 xac xja xji xjn xjs xjt xtj xtt xss xsv xak xaj xgc xgk xgn xhs xhg xhn xou xah xst xpl xft xev xdn xus xis xvr xhd xtk xpd xpa xpi xun xwj : Nat → Int32} {i n c : Nat} {post : SX → Prop}
theorem sa_sh79 (hi : i < 3) (hc : c < 4) (K : wX_startHand_79 post (nI i) xns xnow xjc xtc xhe n (nI (c + 1)) xkd xp1 xp2 xp3 xac xja xji xjn xjs xjt xtj xtt xss xsv xak xaj xgc xgk xgn xhs xhg xhn xou xah xst xpl xft xev xdn xus xis (upd xvr (4 * i + c) (sa_vr0 (xsv i) c)) xhd xtk xpd xpa xpi xun xwj) : wX_startHand_79 post (nI i) xns xnow xjc xtc xhe (n + 1) (nI c) xkd xp1 xp2 xp3 xac xja xji xjn xjs xjt xtj xtt xss xsv xak xaj xgc xgk xgn xhs xhg xhn xou xah xst xpl xft xev xdn xus xis xvr xhd xtk xpd xpa xpi xun xwj := by
  refine br_f (nI_ge (b := 4) hc (by decide)) ?_
  by_cases e : c = 0
  · subst e
    refine br_t rfl ?_
    rw [sa_m4, nI_add, nI_1, nI_clamp (by omega), nI_clamp (by omega)]
    exact ⟨vp_in_nI hi (by decide), vp_in_nI (by omega) (by decide), nm_e (nm_e K)⟩
  · refine br_f (by rw [sa_e0 (by omega)]; exact e) ?_
    rw [sa_m4, nI_add, nI_1, nI_clamp (by omega)]
    rw [show sa_vr0 (xsv i) c = 0 from if_neg e] at K
    exact ⟨vp_in_nI (by omega) (by decide), nm_e (nm_e K)⟩
theorem sa_sh116 (hi : i < 3) (hc : c < 3) (K : wX_startHand_116 post (nI i) xns xnow xjc xtc xhe n (nI (c + 1)) xkd xp1 xp2 xp3 xac xja xji xjn xjs xjt xtj xtt xss xsv xak xaj xgc xgk xgn xhs xhg xhn xou xah xst xpl xft xev xdn xus xis xvr (upd xhd (3 * i + c) (-1)) xtk xpd xpa xpi xun xwj) : wX_startHand_116 post (nI i) xns xnow xjc xtc xhe (n + 1) (nI c) xkd xp1 xp2 xp3 xac xja xji xjn xjs xjt xtj xtt xss xsv xak xaj xgc xgk xgn xhs xhg xhn xou xah xst xpl xft xev xdn xus xis xvr xhd xtk xpd xpa xpi xun xwj := by
  refine br_f (nI_ge (b := 3) hc (by decide)) ?_
  rw [sa_m3, nI_add, nI_1, nI_clamp (by omega)]
  exact ⟨vp_in_nI (by omega) (by decide), nm_e (nm_e K)⟩
theorem sa_sh140 (hi : i < 3) (hc : c < 6) (K : wX_startHand_140 post (nI i) xns xnow xjc xtc xhe n (nI (c + 1)) xkd xp1 xp2 xp3 xac xja xji xjn xjs xjt xtj xtt xss xsv xak xaj xgc xgk xgn xhs xhg xhn xou xah xst xpl xft xev xdn xus xis xvr xhd (upd xtk (6 * i + c) 0) xpd xpa xpi xun xwj) : wX_startHand_140 post (nI i) xns xnow xjc xtc xhe (n + 1) (nI c) xkd xp1 xp2 xp3 xac xja xji xjn xjs xjt xtj xtt xss xsv xak xaj xgc xgk xgn xhs xhg xhn xou xah xst xpl xft xev xdn xus xis xvr xhd xtk xpd xpa xpi xun xwj := by
  refine br_f (nI_ge (b := 6) hc (by decide)) ?_
  rw [sa_m6, nI_add, nI_1, nI_clamp (by omega)]
  exact ⟨vp_in_nI (by omega) (by decide), nm_e (nm_e K)⟩
/-- startHand -/
theorem sa_startHand (hi : i < 3) : ∃ xvr' xhd' xtk' : Nat → Int32, ((∀ k, k < 4 → xvr' (4 * i + k) = sa_vr0 (xsv i) k) ∧ (∀ m, (∀ k, k < 4 → m ≠ 4 * i + k) → xvr' m = xvr m)) ∧ ((∀ k, k < 3 → xhd' (3 * i + k) = -1) ∧ (∀ m, (∀ k, k < 3 → m ≠ 3 * i + k) → xhd' m = xhd m)) ∧ ((∀ k, k < 6 → xtk' (6 * i + k) = 0) ∧ (∀ m, (∀ k, k < 6 → m ≠ 6 * i + k) → xtk' m = xtk m)) ∧
    ∀ post : SX → Prop, post (xns, xnow, xjc, xtc, xhe, xkd, xp1, xp2, xp3, xac, xja, xji, xjn, xjs, xjt, xtj, xtt, xss, xsv, xak, xaj, xgc, xgk, xgn, xhs, xhg, xhn, xou, upd xah i 1, upd xst i 1, upd xpl i 0, upd xft i (-1), upd xev i 0, upd xdn i 0, upd xus i 0, upd xis i 0, xvr', xhd', xtk', upd xpd i 0, xpa, xpi, upd xun i (-1), upd xwj i (-1)) → wpX_startHand post (xns, xnow, xjc, xtc, xhe, xkd, xp1, xp2, xp3, xac, xja, xji, xjn, xjs, xjt, xtj, xtt, xss, xsv, xak, xaj, xgc, xgk, xgn, xhs, xhg, xhn, xou, xah, xst, xpl, xft, xev, xdn, xus, xis, xvr, xhd, xtk, xpd, xpa, xpi, xun, xwj) (nI i) := by
  obtain ⟨xvr', v1, v2, v3⟩ := sa_fill (fun (post : SX → Prop) n c a => wX_startHand_79 post (nI i) xns xnow xjc xtc xhe n (nI c) xkd xp1 xp2 xp3 xac xja xji xjn xjs xjt xtj xtt xss xsv xak xaj xgc xgk xgn xhs xhg xhn xou (upd xah i 1) (upd xst i 1) (upd xpl i 0) (upd xft i (-1)) (upd xev i 0) (upd xdn i 0) (upd xus i 0) (upd xis i 0) a xhd xtk (upd xpd i 0) xpa xpi (upd xun i (-1)) (upd xwj i (-1))) 4 (4 * i) (sa_vr0 (xsv i)) (fun post n c a hc K => sa_sh79 hi hc K) xvr
  obtain ⟨xhd', h1, h2, h3⟩ := sa_fill (fun (post : SX → Prop) n c a => wX_startHand_116 post (nI i) xns xnow xjc xtc xhe n (nI c) xkd xp1 xp2 xp3 xac xja xji xjn xjs xjt xtj xtt xss xsv xak xaj xgc xgk xgn xhs xhg xhn xou (upd xah i 1) (upd xst i 1) (upd xpl i 0) (upd xft i (-1)) (upd xev i 0) (upd xdn i 0) (upd xus i 0) (upd xis i 0) xvr' a xtk (upd xpd i 0) xpa xpi (upd xun i (-1)) (upd xwj i (-1))) 3 (3 * i) (fun _ => -1) (fun post n c a hc K => sa_sh116 hi hc K) xhd
  obtain ⟨xtk', t1, t2, t3⟩ := sa_fill (fun (post : SX → Prop) n c a => wX_startHand_140 post (nI i) xns xnow xjc xtc xhe n (nI c) xkd xp1 xp2 xp3 xac xja xji xjn xjs xjt xtj xtt xss xsv xak xaj xgc xgk xgn xhs xhg xhn xou (upd xah i 1) (upd xst i 1) (upd xpl i 0) (upd xft i (-1)) (upd xev i 0) (upd xdn i 0) (upd xus i 0) (upd xis i 0) xvr' xhd' a (upd xpd i 0) xpa xpi (upd xun i (-1)) (upd xwj i (-1))) 6 (6 * i) (fun _ => 0) (fun post n c a hc K => sa_sh140 hi hc K) xtk
  refine ⟨xvr', xhd', xtk', ⟨v1, v2⟩, ⟨h1, h2⟩, ⟨t1, t2⟩, fun post K => ?_⟩
  simp (disch := omega) only [wpX_startHand, sa_in, nI_clamp, forall_eq, true_and, sa_vn1]
  exact ⟨1 + 4, v3 post 1 (br_t (by decide) ⟨1 + 3, h3 post 1 (br_t (by decide) ⟨1 + 6, t3 post 1 (br_t (by decide) K)⟩)⟩)⟩
end
section
variable {xhe : Int32} {xss xsv xak xaj xgc xgk xgn xhs xhg xhn xou xah xst xpl xft xev xdn xus xis xvr xhd xtk xpd xpa xpi xun xwj : Nat → Int32} {ns : Nat} {kd p1 p2 p3 ac : Nat → Int32} {jc tc : Nat} {ja ji jn js jt tj tt : Nat → Int32} {sv ou : Int32} {ak gc hs : Nat} {aj gk gn hg hn : Nat → Int32} {st ev wj : Int32} {pl dn us is pn : Nat} {vr hd tk pa pi : Nat → Int32} {un : Bool} {i t a b c : Nat}
theorem sa_G_sh (hi : i < 3) (W : sa_WX (ns, kd, p1, p2, p3, ac) t (jc, ja, ji, jn, js, jt, tc, tj, tt) (nI ns, nI t, nI jc, nI tc, xhe, kd, p1, p2, p3, ac, ja, ji, jn, js, jt, tj, tt, xss, xsv, xak, xaj, xgc, xgk, xgn, xhs, xhg, xhn, xou, xah, xst, xpl, xft, xev, xdn, xus, xis, xvr, xhd, xtk, xpd, xpa, xpi, xun, xwj)) (X : sa_LX i (sv, ak, aj, gc, gk, gn, hs, hg, hn, ou) (nI ns, nI t, nI jc, nI tc, xhe, kd, p1, p2, p3, ac, ja, ji, jn, js, jt, tj, tt, xss, xsv, xak, xaj, xgc, xgk, xgn, xhs, xhg, xhn, xou, xah, xst, xpl, xft, xev, xdn, xus, xis, xvr, xhd, xtk, xpd, xpa, xpi, xun, xwj)) : ∃ u', sa_WX (ns, kd, p1, p2, p3, ac) t (jc, ja, ji, jn, js, jt, tc, tj, tt) u' ∧ sa_LX i (sv, ak, aj, gc, gk, gn, hs, hg, hn, ou) u' ∧ sa_HX i (sa_h0 sv) u' ∧ sa_FG i (nI ns, nI t, nI jc, nI tc, xhe, kd, p1, p2, p3, ac, ja, ji, jn, js, jt, tj, tt, xss, xsv, xak, xaj, xgc, xgk, xgn, xhs, xhg, xhn, xou, xah, xst, xpl, xft, xev, xdn, xus, xis, xvr, xhd, xtk, xpd, xpa, xpi, xun, xwj) u' ∧ ∀ post : SX → Prop, post u' → wpX_startHand post (nI ns, nI t, nI jc, nI tc, xhe, kd, p1, p2, p3, ac, ja, ji, jn, js, jt, tj, tt, xss, xsv, xak, xaj, xgc, xgk, xgn, xhs, xhg, xhn, xou, xah, xst, xpl, xft, xev, xdn, xus, xis, xvr, xhd, xtk, xpd, xpa, xpi, xun, xwj) (nI i) := by
  obtain ⟨⟨w1, w2, w3, w4⟩, _⟩ := W
  obtain ⟨⟨l1, l2, l3⟩, d1, d2, d3, d4, d5, d6, d7, d8, d9, d10⟩ := X
  obtain ⟨xvr', xhd', xtk', ⟨v1, v2⟩, ⟨h1, h2⟩, ⟨t1, t2⟩, K⟩ := sa_startHand (i := i) (xns := nI ns) (xnow := nI t) (xjc := nI jc) (xtc := nI tc) (xhe := xhe) (xkd := kd) (xp1 := p1) (xp2 := p2) (xp3 := p3) (xac := ac) (xja := ja) (xji := ji) (xjn := jn) (xjs := js) (xjt := jt) (xtj := tj) (xtt := tt) (xss := xss) (xsv := xsv) (xak := xak) (xaj := xaj) (xgc := xgc) (xgk := xgk) (xgn := xgn) (xhs := xhs) (xhg := xhg) (xhn := xhn) (xou := xou) (xah := xah) (xst := xst) (xpl := xpl) (xft := xft) (xev := xev) (xdn := xdn) (xus := xus) (xis := xis) (xvr := xvr) (xhd := xhd) (xtk := xtk) (xpd := xpd) (xpa := xpa) (xpi := xpi) (xun := xun) (xwj := xwj) hi
  rw [d1] at v1
  refine ⟨_, ⟨⟨w1, w2, by omega, w4⟩, rfl, rfl, rfl, rfl, rfl, rfl, rfl, rfl, rfl, rfl, rfl, rfl, rfl, rfl, rfl, rfl⟩, ⟨⟨by omega, by omega, by omega⟩, d1, d2, d3, d4, d5, d6, d7, d8, d9, d10⟩, ⟨⟨by omega, by omega, by omega, by omega, by omega⟩, pk_us, pk_us, nofun, pk_us, pk_us, pk_us, pk_us, v1, h1, t1, fun _ => pk_us, fun k hk => absurd hk (by omega), fun k hk => absurd hk (by omega), pk_us, pk_us⟩, ⟨⟨rfl, fun i' _ hne => pk_un hne, ?_⟩, ?_⟩, K⟩
  · show ¬ upd xah i 1 i = 0
    rw [pk_us]
    decide
  · exact fun i' hi' hne => ⟨rfl, rfl, fun _ _ => rfl, rfl, fun _ _ => rfl, fun _ _ => rfl, rfl, fun _ _ => rfl, fun _ _ => rfl, rfl, pk_un hne, pk_un hne, pk_un hne, pk_un hne, pk_un hne, pk_un hne, pk_un hne, fun k hk => v2 _ (by omega), fun k hk => h2 _ (by omega), fun k hk => t2 _ (by omega), pk_un hne, fun _ _ => rfl, fun _ _ => rfl, pk_un hne, pk_un hne⟩
end
/-- a wait as steps come to it -/
def sa_Wt (P : sa_P) (h : sa_H) : Prop := match P, h with
  | (ns, kd, p1, p2, p3, ac), (st, pl, ev, dn, us, is, vr, hd, tk, pn, pa, pi, un, wj) => un = true ∨ (un = false ∧ pl < ns ∧ (kd pl = 3 ∨ kd pl = 5 ∨ (kd pl = 7 ∧ wj = 0 ∧ ∃ a, a < 4 ∧ p1 pl = nI a ∧ ¬ vr a ≤ 0) ∨ (kd pl = 10 ∧ wj = 0 ∧ ∃ a, a < 2 ∧ p1 pl = nI a)))
theorem sa_res {i t : Nat} {P : sa_P} {J : sa_J} {h : sa_H} {u : SX} (hi : i < 3) (W : sa_WX P t J u) (H : sa_HX i h u) (hw : sa_wj h ≠ -1) (hW : sa_Wt P h) : ∀ Q, sa_BX Q i P h u → wpX_goOnce Q u (nI i) := by
  revert H hW
  refine sa_WXi (C := fun P J u => sa_HX i h u → sa_Wt P h → ∀ Q, sa_BX Q i P h u → wpX_goOnce Q u (nI i)) W ?_
  intro ns jc tc xhe kd p1 p2 p3 ac ja ji jn js jt tj tt xss xsv xak xaj xgc xgk xgn xhs xhg xhn xou xah xst xpl xft xev xdn xus xis xvr xhd xtk xpd xpa xpi xun xwj W H hW Q B
  obtain ⟨⟨w1, w2, w3, w4⟩, _⟩ := W
  obtain ⟨st, pl, ev, dn, us, is, vr, hd, tk, pn, pa, pi, un, wj⟩ := h
  obtain ⟨⟨b1, b2, b3, b4, b5⟩, c1, c2, c3, c4, c5, c6, c7, c8, c9, c10, c11, c12, c13, c14, c15⟩ := H
  have hw' : ¬ xwj i = -1 := by rw [c15]; exact hw
  obtain ⟨B1, B2, B3, B4, B5⟩ := B
  rcases hW with rfl | ⟨rfl, hp, hk | hk | ⟨hk, h0, a, ha, e1, hz⟩ | ⟨hk, h0, a, ha, e1⟩⟩
  · refine sa_x_ru hi ?_ hw' (fun R hR => B1 rfl R hR)
    rw [c14, if_pos rfl]
    exact sa_ne_m1 (by omega)
  · exact sa_x_rd hi w1 c14 c2 hp hk hw' (fun R hR => B2 rfl hk R hR)
  · exact sa_x_ra hi w1 c14 c2 hp hk hw' (fun R hR => B3 rfl hk R hR)
  · exact sa_x_rs hi w1 c14 c2 hp hk (c15.trans h0) ha e1 (by rw [c8 a ha]; exact hz) (fun R hR z z1 z2 => B4 rfl hk a ha e1 R hR z (by rw [← c8 a ha]; exact z1) (by rw [← c8 a ha]; exact z2))
  · exact sa_x_rg hi w1 c14 c2 hp hk (c15.trans h0) (show a < 4 by omega) e1 (fun R hR S hS => by rw [← e1]; exact B5 rfl hk R hR S hS)
/-- the loop from what is at hand -/
theorem sa_ent {i t : Nat} {P : sa_P} {J : sa_J} {h : sa_H} {u : SX} (hi : i < 3) (W : sa_WX P t J u) (H : sa_HX i h u) (hW : sa_st h = 1 → sa_wj h ≠ -1 → sa_Wt P h) (hm : sa_mu h < 499) (post : SX → Prop) (G : sa_GX post i P h u) :
    (sa_st h = 1 → ∃ n, sa_XL post i n 0 1 u) ∧ (sa_st h ≠ 1 → ∃ n, sa_XL post i n 0 0 u) := by
  refine ⟨fun e => ?_, fun e => ⟨1, sa_XL0 (G.1 e)⟩⟩
  by_cases ew : sa_wj h = -1
  · exact ⟨sa_mu h + 1, G.2.1 e ew _ 0 (by omega) (by omega)⟩
  · exact ⟨sa_mu h + 1, sa_XL1 (by omega) (fun Q hQ => sa_res hi W H ew (hW e ew) Q (sa_BXm hQ (G.2.2 e ew _ 0 (by omega) (by omega))))⟩
theorem sa_muh0 (sv : Int32) : sa_mu (sa_h0 sv) < 499 := by
  show 2 * (200 - 0) + 2 * (30 - 0) + (if (-1 : Int32) = -1 then 0 else 1) + 1 < 499
  rw [if_pos rfl]
  decide
/-- goOn with the workflow at hand -/
theorem sa_gn1 {i t : Nat} {P : sa_P} {J : sa_J} {h : sa_H} {u : SX} (hi : i < 3) (W : sa_WX P t J u) (H : sa_HX i h u) (hS : match u with | (xns, xnow, xjc, xtc, xhe, xkd, xp1, xp2, xp3, xac, xja, xji, xjn, xjs, xjt, xtj, xtt, xss, xsv, xak, xaj, xgc, xgk, xgn, xhs, xhg, xhn, xou, xah, xst, xpl, xft, xev, xdn, xus, xis, xvr, xhd, xtk, xpd, xpa, xpi, xun, xwj) => ¬ xss i = 0 ∧ ¬ xah i = 0) (hW : sa_st h = 1 → sa_wj h ≠ -1 → sa_Wt P h) (hm : sa_mu h < 499) (post : SX → Prop) (G : sa_GX post i P h u) : wpX_goOn post u (nI i) := by
  obtain ⟨E1, E2⟩ := sa_ent hi W H hW hm post G
  obtain ⟨st, pl, ev, dn, us, is, vr, hd, tk, pn, pa, pi, un, wj⟩ := h
  obtain ⟨xns, xnow, xjc, xtc, xhe, xkd, xp1, xp2, xp3, xac, xja, xji, xjn, xjs, xjt, xtj, xtt, xss, xsv, xak, xaj, xgc, xgk, xgn, xhs, xhg, xhn, xou, xah, xst, xpl, xft, xev, xdn, xus, xis, xvr, xhd, xtk, xpd, xpa, xpi, xun, xwj⟩ := u
  obtain ⟨⟨b1, b2, b3, b4, b5⟩, c1, c2, c3, c4, c5, c6, c7, c8, c9, c10, c11, c12, c13, c14, c15⟩ := H
  obtain ⟨s1, s2⟩ := hS
  have hv : vp_in (nI i) 3 := vp_in_nI hi (by decide)
  have hc : (nI i).toNatClampNeg = i := nI_clamp (by omega)
  refine And.intro hv (br_f (by rw [hc]; exact s1) (And.intro hv (br_f (by rw [hc]; exact s2) (And.intro hv ?_))))
  rw [hc, c1]
  exact br_c E1 E2
/-- goOn with the workflow lost -/
theorem sa_gn0 {i t : Nat} {P : sa_P} {J : sa_J} {h : sa_H} {u u' : SX} (hi : i < 3) (W : sa_WX P t J u') (H : sa_HX i h u') (hS : match u with | (xns, xnow, xjc, xtc, xhe, xkd, xp1, xp2, xp3, xac, xja, xji, xjn, xjs, xjt, xtj, xtt, xss, xsv, xak, xaj, xgc, xgk, xgn, xhs, xhg, xhn, xou, xah, xst, xpl, xft, xev, xdn, xus, xis, xvr, xhd, xtk, xpd, xpa, xpi, xun, xwj) => ¬ xss i = 0 ∧ xah i = 0) (K : ∀ post : SX → Prop, post u' → wpX_startHand post u (nI i)) (hW : sa_st h = 1 → sa_wj h ≠ -1 → sa_Wt P h) (hm : sa_mu h < 499) (post : SX → Prop) (G : sa_GX post i P h u') : wpX_goOn post u (nI i) := by
  obtain ⟨E1, E2⟩ := sa_ent hi W H hW hm post G
  obtain ⟨st, pl, ev, dn, us, is, vr, hd, tk, pn, pa, pi, un, wj⟩ := h
  obtain ⟨xns, xnow, xjc, xtc, xhe, xkd, xp1, xp2, xp3, xac, xja, xji, xjn, xjs, xjt, xtj, xtt, xss, xsv, xak, xaj, xgc, xgk, xgn, xhs, xhg, xhn, xou, xah, xst, xpl, xft, xev, xdn, xus, xis, xvr, xhd, xtk, xpd, xpa, xpi, xun, xwj⟩ := u
  obtain ⟨xns', xnow', xjc', xtc', xhe', xkd', xp1', xp2', xp3', xac', xja', xji', xjn', xjs', xjt', xtj', xtt', xss', xsv', xak', xaj', xgc', xgk', xgn', xhs', xhg', xhn', xou', xah', xst', xpl', xft', xev', xdn', xus', xis', xvr', xhd', xtk', xpd', xpa', xpi', xun', xwj'⟩ := u'
  obtain ⟨⟨b1, b2, b3, b4, b5⟩, c1, c2, c3, c4, c5, c6, c7, c8, c9, c10, c11, c12, c13, c14, c15⟩ := H
  obtain ⟨s1, s2⟩ := hS
  have hv : vp_in (nI i) 3 := vp_in_nI hi (by decide)
  have hc : (nI i).toNatClampNeg = i := nI_clamp (by omega)
  refine And.intro hv (br_f (by rw [hc]; exact s1) (And.intro hv (br_t (by rw [hc]; exact s2) (K _ ?_))))
  refine And.intro hv ?_
  rw [hc, c1]
  exact br_c E1 E2
end
section
/-! the component's waits as they are now: over, and written down; or open -/
/-- found among the first m and behind: the first match at m or behind it -/
def sa_Fd (M : Nat → Prop) (g m : Nat) (f : Int32) : Prop := (f = -1 ∧ ∀ k, m ≤ k → k < g → ¬ M k) ∨ (∃ q, m ≤ q ∧ q < g ∧ f = nI q ∧ M q ∧ ∀ k, m ≤ k → k < q → ¬ M k)
section
variable {xns xnow xjc xtc xhe : Int32} {xkd xp1 xp2 xp3 xac xja xji xjn xjs xjt xtj xtt xss xsv xak xaj xgc xgk xgn xhs xhg xhn xou xah xst xpl xft xev xdn xus xis xvr xhd xtk xpd xpa xpi xun xwj : Nat → Int32} {i us g : Nat} {s : Int32}
theorem sa_nsl (hi : i < 3) (hg : g ≤ 6) : ∀ m f, m ≤ g → sa_Fd (fun k => xgk (6 * i + k) = s ∧ xtk (6 * i + k) = 0) g m f →
    ∃ r, sa_Fd (fun k => xgk (6 * i + k) = s ∧ xtk (6 * i + k) = 0) g 0 r ∧ ∀ (post : Int32 → Prop) n, m < n → post r → wX_nextSignal_12 post (nI i) s xns xnow xjc xtc xhe xkd xp1 xp2 xp3 xac xja xji xjn xjs xjt xtj xtt xss xsv xak xaj xgc xgk xgn xhs xhg xhn xou xah xst xpl xft xev xdn xus xis xvr xhd xtk xpd xpa xpi xun xwj n f (nI m - 1) := by
  intro m
  induction m with
  | zero =>
    intro f _ F
    refine ⟨f, F, fun post n hn hp => ?_⟩
    obtain ⟨n, rfl⟩ : ∃ k, n = k + 1 := ⟨n - 1, by omega⟩
    exact br_t (by decide) hp
  | succ m ih =>
    intro f hm F
    have step : ∀ f', sa_Fd (fun k => xgk (6 * i + k) = s ∧ xtk (6 * i + k) = 0) g m f' →
        (∀ (post : Int32 → Prop) n, wX_nextSignal_12 post (nI i) s xns xnow xjc xtc xhe xkd xp1 xp2 xp3 xac xja xji xjn xjs xjt xtj xtt xss xsv xak xaj xgc xgk xgn xhs xhg xhn xou xah xst xpl xft xev xdn xus xis xvr xhd xtk xpd xpa xpi xun xwj n f' (nI m - 1) → wX_nextSignal_12 post (nI i) s xns xnow xjc xtc xhe xkd xp1 xp2 xp3 xac xja xji xjn xjs xjt xtj xtt xss xsv xak xaj xgc xgk xgn xhs xhg xhn xou xah xst xpl xft xev xdn xus xis xvr xhd xtk xpd xpa xpi xun xwj (n + 1) f (nI (m + 1) - 1)) →
        ∃ r, sa_Fd (fun k => xgk (6 * i + k) = s ∧ xtk (6 * i + k) = 0) g 0 r ∧ ∀ (post : Int32 → Prop) n, m + 1 < n → post r → wX_nextSignal_12 post (nI i) s xns xnow xjc xtc xhe xkd xp1 xp2 xp3 xac xja xji xjn xjs xjt xtj xtt xss xsv xak xaj xgc xgk xgn xhs xhg xhn xou xah xst xpl xft xev xdn xus xis xvr xhd xtk xpd xpa xpi xun xwj n f (nI (m + 1) - 1) := by
      intro f' F' hs
      obtain ⟨r, Fr, hr⟩ := ih f' (by omega) F'
      refine ⟨r, Fr, fun post n hn hp => ?_⟩
      obtain ⟨n, rfl⟩ : ∃ k, n = k + 1 := ⟨n - 1, by omega⟩
      exact hs post n (hr post n (by omega) hp)
    have em : nI m + (-1) = nI m - 1 := by
      rw [Int32.sub_eq_add_neg]
    by_cases h1 : xgk (6 * i + m) = s
    · by_cases h2 : xtk (6 * i + m) = 0
      · refine step (nI m) (Or.inr ⟨m, Nat.le_refl _, by omega, rfl, ⟨h1, h2⟩, fun k k1 k2 => absurd k1 (by omega)⟩) (fun post n hn => ?_)
        rw [nI_pred]
        refine br_f (nI_pos (by omega)) ?_
        simp (disch := omega) only [sa_in, nI_clamp, nI_1, nI_add, sa_m3, sa_m4, sa_m6, sa_m7, sa_m240, forall_eq, pk_us, true_and, and_true, true_implies, not_true_eq_false, not_false_eq_true, false_implies, eq_self, sa_n0, sa_n1, sa_m1, h1, h2, em]
        exact hn
      · refine step f ?_ (fun post n hn => ?_)
        · rcases F with ⟨F1, F2⟩ | ⟨q, q1, q2, q3, q4, q5⟩
          · exact Or.inl ⟨F1, fun k k1 k2 => by
              by_cases ek : k = m
              · subst ek
                exact fun z => h2 z.2
              · exact F2 k (by omega) k2⟩
          · exact Or.inr ⟨q, by omega, q2, q3, q4, fun k k1 k2 => by
              by_cases ek : k = m
              · subst ek
                exact fun z => h2 z.2
              · exact q5 k (by omega) k2⟩
        · rw [nI_pred]
          refine br_f (nI_pos (by omega)) ?_
          simp (disch := omega) only [sa_in, nI_clamp, nI_1, nI_add, sa_m3, sa_m4, sa_m6, sa_m7, sa_m240, forall_eq, pk_us, true_and, and_true, true_implies, not_true_eq_false, not_false_eq_true, false_implies, eq_self, sa_n0, sa_n1, sa_m1, h1, h2, em]
          exact hn
    · refine step f ?_ (fun post n hn => ?_)
      · rcases F with ⟨F1, F2⟩ | ⟨q, q1, q2, q3, q4, q5⟩
        · exact Or.inl ⟨F1, fun k k1 k2 => by
            by_cases ek : k = m
            · subst ek
              exact fun z => h1 z.1
            · exact F2 k (by omega) k2⟩
        · exact Or.inr ⟨q, by omega, q2, q3, q4, fun k k1 k2 => by
            by_cases ek : k = m
            · subst ek
              exact fun z => h1 z.1
            · exact q5 k (by omega) k2⟩
      · rw [nI_pred]
        refine br_f (nI_pos (by omega)) ?_
        simp (disch := omega) only [sa_in, nI_clamp, nI_1, nI_add, sa_m3, sa_m4, sa_m6, sa_m7, sa_m240, forall_eq, pk_us, true_and, and_true, true_implies, not_true_eq_false, not_false_eq_true, false_implies, eq_self, sa_n0, sa_n1, sa_m1, h1, em]
        exact hn
theorem sa_ns (hi : i < 3) (hg : g ≤ 6) (eg : xgc i = nI g) : ∃ r, sa_Fd (fun k => xgk (6 * i + k) = s ∧ xtk (6 * i + k) = 0) g 0 r ∧ ∀ (post : Int32 → Prop), post r → wpX_nextSignal post (xns, xnow, xjc, xtc, xhe, xkd, xp1, xp2, xp3, xac, xja, xji, xjn, xjs, xjt, xtj, xtt, xss, xsv, xak, xaj, xgc, xgk, xgn, xhs, xhg, xhn, xou, xah, xst, xpl, xft, xev, xdn, xus, xis, xvr, xhd, xtk, xpd, xpa, xpi, xun, xwj) (nI i) s := by
  obtain ⟨r, Fr, hr⟩ := sa_nsl (xns := xns) (xnow := xnow) (xjc := xjc) (xtc := xtc) (xhe := xhe) (xkd := xkd) (xp1 := xp1) (xp2 := xp2) (xp3 := xp3) (xac := xac) (xja := xja) (xji := xji) (xjn := xjn) (xjs := xjs) (xjt := xjt) (xtj := xtj) (xtt := xtt) (xss := xss) (xsv := xsv) (xak := xak) (xaj := xaj) (xgc := xgc) (xgk := xgk) (xgn := xgn) (xhs := xhs) (xhg := xhg) (xhn := xhn) (xou := xou) (xah := xah) (xst := xst) (xpl := xpl) (xft := xft) (xev := xev) (xdn := xdn) (xus := xus) (xis := xis) (xvr := xvr) (xhd := xhd) (xtk := xtk) (xpd := xpd) (xpa := xpa) (xpi := xpi) (xun := xun) (xwj := xwj) (i := i) (s := s) hi hg g (-1) (Nat.le_refl _) (Or.inl ⟨rfl, fun k k1 k2 => absurd k1 (by omega)⟩)
  refine ⟨r, Fr, fun post hp => ?_⟩
  refine And.intro (vp_in_nI hi (by decide)) ?_
  rw [nI_clamp (by omega), eg]
  exact nm_e ⟨g + 1, hr post (g + 1) (by omega) hp⟩
/-- a signal is there -/
theorem sa_hs_s {q : Nat} {z : Int32} {post : Int32 → SX → Prop} (hi : i < 3) (hg : g ≤ 6) (eg : xgc i = nI g) (e1 : xus i = nI us) (e2 : xhs i = nI us) (h2 : us < 240)
    (hq : q < g) (h3 : xgk (6 * i + q) = s ∧ xtk (6 * i + q) = 0) (h4 : ∀ k, k < q → ¬ (xgk (6 * i + k) = s ∧ xtk (6 * i + k) = 0))
    (K : post 1 (xns, xnow, xjc, xtc, nI (240 * i + us), xkd, xp1, xp2, xp3, xac, xja, xji, xjn, xjs, xjt, xtj, xtt, xss, xsv, xak, xaj, xgc, xgk, xgn, upd xhs i (nI (us + 1)), upd xhg (240 * i + us) 1, upd xhn (240 * i + us) (nI q), upd xou i (-1), xah, xst, xpl, xft, xev, xdn, upd xus i (nI (us + 1)), xis, xvr, xhd, xtk, xpd, xpa, xpi, xun, xwj)) : wpX_hearSignal post (xns, xnow, xjc, xtc, xhe, xkd, xp1, xp2, xp3, xac, xja, xji, xjn, xjs, xjt, xtj, xtt, xss, xsv, xak, xaj, xgc, xgk, xgn, xhs, xhg, xhn, xou, xah, xst, xpl, xft, xev, xdn, xus, xis, xvr, xhd, xtk, xpd, xpa, xpi, xun, xwj) (nI i) s z := by
  obtain ⟨r, Fr, hr⟩ := sa_ns (xns := xns) (xnow := xnow) (xjc := xjc) (xtc := xtc) (xhe := xhe) (xkd := xkd) (xp1 := xp1) (xp2 := xp2) (xp3 := xp3) (xac := xac) (xja := xja) (xji := xji) (xjn := xjn) (xjs := xjs) (xjt := xjt) (xtj := xtj) (xtt := xtt) (xss := xss) (xsv := xsv) (xak := xak) (xaj := xaj) (xgc := xgc) (xgk := xgk) (xgn := xgn) (xhs := xhs) (xhg := xhg) (xhn := xhn) (xou := xou) (xah := xah) (xst := xst) (xpl := xpl) (xft := xft) (xev := xev) (xdn := xdn) (xus := xus) (xis := xis) (xvr := xvr) (xhd := xhd) (xtk := xtk) (xpd := xpd) (xpa := xpa) (xpi := xpi) (xun := xun) (xwj := xwj) (i := i) (s := s) hi hg eg
  have er : r = nI q := by
    rcases Fr with ⟨_, F2⟩ | ⟨p, _, p2, p3, p4, p5⟩
    · exact absurd h3 (F2 q (Nat.zero_le _) hq)
    · have : p = q := by
        rcases Nat.lt_trichotomy p q with e | e | e
        · exact absurd p4 (h4 p e)
        · exact e
        · exact absurd h3 (p5 q (Nat.zero_le _) e)
      rw [p3, this]
  subst er
  simp (disch := omega) only [wpX_hearSignal, sa_in, nI_clamp, nI_1, nI_add, sa_m3, sa_m4, sa_m6, sa_m7, sa_m240, forall_eq, pk_us, true_and, and_true, true_implies, not_true_eq_false, not_false_eq_true, false_implies, eq_self, sa_n0, sa_n1, sa_m1, e1, e2]
  refine hr _ (br_f (sa_ne_m1 (by omega)) (sa_write hi e2 h2 ?_))
  have e' : ¬ nI (us + 1) ≤ nI us := by rw [nI_leI (by omega) (by omega)]; omega
  simp (disch := omega) only [wX_hearSignal_37, sa_in, nI_clamp, nI_1, nI_add, sa_m3, sa_m4, sa_m6, sa_m7, sa_m240, forall_eq, pk_us, true_and, and_true, true_implies, not_true_eq_false, not_false_eq_true, false_implies, eq_self, sa_n0, sa_n1, sa_m1, e1, e']
  exact sa_hear1 (us := us) (hs := us + 1) hi e1 pk_us (by omega) (by omega) ⟨rfl, K⟩
/-- none is there: as for time -/
theorem sa_hs_n {z b : Int32} {w : SX} {post : Int32 → SX → Prop} (hi : i < 3) (hg : g ≤ 6) (eg : xgc i = nI g) (e1 : xus i = nI us) (e2 : xhs i = nI us) (h2 : us ≤ 240)
    (h4 : ∀ k, k < g → ¬ (xgk (6 * i + k) = s ∧ xtk (6 * i + k) = 0)) (hb : b = 0 ∨ b = 1)
    (HT : ∀ post : Int32 → SX → Prop, post b w → wpX_hearTime post (xns, xnow, xjc, xtc, xhe, xkd, xp1, xp2, xp3, xac, xja, xji, xjn, xjs, xjt, xtj, xtt, xss, xsv, xak, xaj, xgc, xgk, xgn, xhs, xhg, xhn, xou, xah, xst, xpl, xft, xev, xdn, xus, xis, xvr, xhd, xtk, xpd, xpa, xpi, xun, xwj) (nI i) z) (K : post b w) : wpX_hearSignal post (xns, xnow, xjc, xtc, xhe, xkd, xp1, xp2, xp3, xac, xja, xji, xjn, xjs, xjt, xtj, xtt, xss, xsv, xak, xaj, xgc, xgk, xgn, xhs, xhg, xhn, xou, xah, xst, xpl, xft, xev, xdn, xus, xis, xvr, xhd, xtk, xpd, xpa, xpi, xun, xwj) (nI i) s z := by
  obtain ⟨r, Fr, hr⟩ := sa_ns (xns := xns) (xnow := xnow) (xjc := xjc) (xtc := xtc) (xhe := xhe) (xkd := xkd) (xp1 := xp1) (xp2 := xp2) (xp3 := xp3) (xac := xac) (xja := xja) (xji := xji) (xjn := xjn) (xjs := xjs) (xjt := xjt) (xtj := xtj) (xtt := xtt) (xss := xss) (xsv := xsv) (xak := xak) (xaj := xaj) (xgc := xgc) (xgk := xgk) (xgn := xgn) (xhs := xhs) (xhg := xhg) (xhn := xhn) (xou := xou) (xah := xah) (xst := xst) (xpl := xpl) (xft := xft) (xev := xev) (xdn := xdn) (xus := xus) (xis := xis) (xvr := xvr) (xhd := xhd) (xtk := xtk) (xpd := xpd) (xpa := xpa) (xpi := xpi) (xun := xun) (xwj := xwj) (i := i) (s := s) hi hg eg
  have er : r = -1 := by
    rcases Fr with ⟨F1, _⟩ | ⟨p, _, p2, p3, p4, p5⟩
    · exact F1
    · exact absurd p4 (h4 p p2)
  subst er
  simp (disch := omega) only [wpX_hearSignal, wX_hearSignal_37, sa_in, nI_clamp, nI_1, nI_add, sa_m3, sa_m4, sa_m6, sa_m7, sa_m240, forall_eq, pk_us, true_and, and_true, true_implies, not_true_eq_false, not_false_eq_true, false_implies, eq_self, sa_n0, sa_n1, sa_m1, e1, e2]
  refine hr _ (br_t rfl (br_t (Int32.le_refl _) (HT _ ?_)))
  obtain ⟨xns', xnow', xjc', xtc', xhe', xkd', xp1', xp2', xp3', xac', xja', xji', xjn', xjs', xjt', xtj', xtt', xss', xsv', xak', xaj', xgc', xgk', xgn', xhs', xhg', xhn', xou', xah', xst', xpl', xft', xev', xdn', xus', xis', xvr', xhd', xtk', xpd', xpa', xpi', xun', xwj'⟩ := w
  exact ⟨sa_nar hb, K⟩
end
end
section
/-! the component's waits, lifted -/
def sa_hs (L : sa_L) : Nat := match L with | (sv, ak, aj, gc, gk, gn, hs, hg, hn, ou) => hs
def sa_ou (L : sa_L) : Int32 := match L with | (sv, ak, aj, gc, gk, gn, hs, hg, hn, ou) => ou
def sa_Lw (L : sa_L) (g y : Int32) : sa_L := match L with | (sv, ak, aj, gc, gk, gn, hs, hg, hn, ou) => (sv, ak, aj, gc, gk, gn, hs + 1, upd hg hs g, upd hn hs y, -1)
def sa_Lo (L : sa_L) (o : Int32) : sa_L := match L with | (sv, ak, aj, gc, gk, gn, hs, hg, hn, ou) => (sv, ak, aj, gc, gk, gn, hs, hg, hn, o)
/-- job q is over, with good g and number x -/
def sa_Ov (P : sa_P) (J : sa_J) (q : Nat) (g x : Int32) : Prop := match P, J with
  | (ns, kd, p1, p2, p3, ac), (jc, ja, ji, jn, js, jt, tc, tj, tt) => q < 90 ∧ ¬ js q < 2 ∧ (js q = 2 → g = 1) ∧ (¬ js q = 2 → g = 0) ∧ ∃ a, a < 4 ∧ ja q = nI a ∧ x = ji q * ac (7 * a + 5) + ac (7 * a + 6)
def sa_No (J : sa_J) (q : Nat) : Prop := match J with | (jc, ja, ji, jn, js, jt, tc, tj, tt) => q < 90 ∧ js q < 2
/-- it waits for a job -/
def sa_jw (P : sa_P) (h : sa_H) : Prop := match P, h with
  | (ns, kd, p1, p2, p3, ac), (st, pl, ev, dn, us, is, vr, hd, tk, pn, pa, pi, un, wj) => un = true ∨ (un = false ∧ pl < ns ∧ (kd pl = 3 ∨ kd pl = 5))
def sa_tw (P : sa_P) (h : sa_H) : Prop := match P, h with
  | (ns, kd, p1, p2, p3, ac), (st, pl, ev, dn, us, is, vr, hd, tk, pn, pa, pi, un, wj) => un = false ∧ pl < ns ∧ kd pl = 7
def sa_gw (P : sa_P) (h : sa_H) : Prop := match P, h with
  | (ns, kd, p1, p2, p3, ac), (st, pl, ev, dn, us, is, vr, hd, tk, pn, pa, pi, un, wj) => un = false ∧ pl < ns ∧ kd pl = 10
/-- the first signal that it waits for -/
def sa_Sg (P : sa_P) (L : sa_L) (h : sa_H) (q : Nat) (y : Int32) : Prop := match P, L, h with
  | (ns, kd, p1, p2, p3, ac), (sv, ak, aj, gc, gk, gn, hs, hg, hn, ou), (st, pl, ev, dn, us, is, vr, hd, tk, pn, pa, pi, un, wj) => q < gc ∧ (gk q = p1 pl ∧ tk q = 0) ∧ (∀ k, k < q → ¬ (gk k = p1 pl ∧ tk k = 0)) ∧ gn q = y
def sa_Sn (P : sa_P) (L : sa_L) (h : sa_H) : Prop := match P, L, h with
  | (ns, kd, p1, p2, p3, ac), (sv, ak, aj, gc, gk, gn, hs, hg, hn, ou), (st, pl, ev, dn, us, is, vr, hd, tk, pn, pa, pi, un, wj) => ∀ k, k < gc → ¬ (gk k = p1 pl ∧ tk k = 0)
theorem sa_XJl {i t q : Nat} {P : sa_P} {J : sa_J} {L : sa_L} {h h' : sa_H} {u : SX} {g x : Int32} (hi : i < 3) (hl : sa_us h = sa_hs L) (h24 : sa_us h < 240) (hj : sa_wj h = nI q) (V : sa_Ov P J q g x) (Jw : sa_jw P h) (W : sa_WX P t J u) (X : sa_LX i L u) (H : sa_HX i h u) (S : sa_S2 P h g x h' ∨ sa_S2p P h g h') : sa_GO i P t J (sa_Lw L g x) h h' u := by
  revert X H S V Jw
  refine sa_WXi (C := fun P J u => sa_Ov P J q g x → sa_jw P h → sa_LX i L u → sa_HX i h u → (sa_S2 P h g x h' ∨ sa_S2p P h g h') → sa_GO i P t J (sa_Lw L g x) h h' u) W ?_
  intro ns jc tc xhe kd p1 p2 p3 ac ja ji jn js jt tj tt xss xsv xak xaj xgc xgk xgn xhs xhg xhn xou xah xst xpl xft xev xdn xus xis xvr xhd xtk xpd xpa xpi xun xwj W V Jw X H S
  obtain ⟨sv, ak, aj, gc, gk, gn, hs, hg, hn, ou⟩ := L
  obtain ⟨st, pl, ev, dn, us, is, vr, hd, tk, pn, pa, pi, un, wj⟩ := h
  have hl' : us = hs := hl
  subst hl'
  have h24' : us < 240 := h24
  have H0 := H
  obtain ⟨⟨l1, l2, l3⟩, d1, d2, d3, d4, d5, d6, d7, d8, d9, d10⟩ := X
  obtain ⟨⟨b1, b2, b3, b4, b5⟩, c1, c2, c3, c4, c5, c6, c7, c8, c9, c10, c11, c12, c13, c14, c15⟩ := H
  obtain ⟨v1, v2, v3, v4, a, ha, v5, v6⟩ := V
  have X1 : sa_LX i (sv, ak, aj, gc, gk, gn, us + 1, upd hg us g, upd hn us x, -1) (nI ns, nI t, nI jc, nI tc, xhe, kd, p1, p2, p3, ac, ja, ji, jn, js, jt, tj, tt, xss, xsv, xak, xaj, xgc, xgk, xgn, upd xhs i (nI (us + 1)), upd xhg (240 * i + us) g, upd xhn (240 * i + us) x, upd xou i (-1), xah, xst, xpl, xft, xev, xdn, xus, xis, xvr, xhd, xtk, xpd, xpa, xpi, xun, xwj) := ⟨⟨by omega, by omega, by omega⟩, d1, d2, d3, d4, d5, d6, pk_us, sa_ua d8, sa_ua d9, pk_us⟩
  have hj' : wj = nI q := hj
  have HJ : ∀ post : Int32 → SX → Prop, post 1 (nI ns, nI t, nI jc, nI tc, nI (240 * i + us), kd, p1, p2, p3, ac, ja, ji, jn, js, jt, tj, tt, xss, xsv, xak, xaj, xgc, xgk, xgn, upd xhs i (nI (us + 1)), upd xhg (240 * i + us) g, upd xhn (240 * i + us) x, upd xou i (-1), xah, xst, xpl, xft, xev, xdn, upd xus i (nI (us + 1)), xis, xvr, xhd, xtk, xpd, xpa, xpi, xun, xwj) → wpX_hearJob post (nI ns, nI t, nI jc, nI tc, xhe, kd, p1, p2, p3, ac, ja, ji, jn, js, jt, tj, tt, xss, xsv, xak, xaj, xgc, xgk, xgn, xhs, xhg, xhn, xou, xah, xst, xpl, xft, xev, xdn, xus, xis, xvr, xhd, xtk, xpd, xpa, xpi, xun, xwj) (nI i) (xwj i) := fun post K => by
    rw [c15, hj']
    exact sa_hj_w hi c6 d7 h24' v1 v2 ha v5 ⟨v3, v4⟩ v6 K
  rcases S with S | S
  · obtain ⟨rfl, hw, h2, S⟩ := S
    rcases S with ⟨rfl, hg0, rfl⟩ | ⟨rfl, hp, S⟩
    · exact sa_G_bu0 hi W X1 (sa_FL1 h24') (by omega) H0 hw (pk_us.trans hg0) HJ
    rcases S with ⟨hk, c, hc, e3, hg0, rfl⟩ | ⟨hk, a, b, ha, hb, e1, e2, hg0, rfl⟩ | ⟨hk, a, ha, e1, rfl⟩ | ⟨hk, a, b, ha, hb, e1, e2, hg0, rfl⟩
    · exact sa_G_bd1 hi W X1 (sa_FL1 h24') (by omega) H0 hw hp hk hc e3 (pk_us.trans hg0) pk_us HJ
    · exact sa_G_ba1 hi W X1 (sa_FL1 h24') (by omega) H0 hw hp hk ha hb e1 e2 (pk_us.trans hg0) pk_us HJ
    · rcases Jw with e | ⟨_, _, e | e⟩
      · cases e
      · exact absurd (hk.symm.trans e) (by decide)
      · exact absurd (hk.symm.trans e) (by decide)
    · rcases Jw with e | ⟨_, _, e | e⟩
      · cases e
      · exact absurd (hk.symm.trans e) (by decide)
      · exact absurd (hk.symm.trans e) (by decide)
  · obtain ⟨rfl, hw, h2, S⟩ := S
    rcases S with ⟨rfl, hg0, rfl⟩ | ⟨rfl, hp, S⟩
    · exact sa_G_bu1 hi W X1 (sa_FL1 h24') (by omega) H0 hw (by rw [pk_us]; exact hg0) HJ
    rcases S with ⟨hk, _, hg0, rfl⟩ | ⟨hk, a, b, ha, hb, e1, e2, hg0, rfl⟩
    · exact sa_G_bd0 hi W X1 (sa_FL1 h24') (by omega) H0 hw hp hk (by rw [pk_us]; exact hg0) HJ
    · exact sa_G_ba0 hi W X1 (sa_FL1 h24') (by omega) H0 hw hp hk ha e1 (by rw [pk_us]; exact hg0) HJ
theorem sa_XTl {i t : Nat} {P : sa_P} {J : sa_J} {L : sa_L} {h h' : sa_H} {u : SX}  (hi : i < 3) (hl : sa_us h = sa_hs L) (h24 : sa_us h < 240) (ho : sa_ou L ≠ -1) (ht : ¬ nI t < sa_ou L) (Jw : sa_tw P h) (W : sa_WX P t J u) (X : sa_LX i L u) (H : sa_HX i h u) (S : sa_S2 P h 0 (-1) h') : sa_GO i P t J (sa_Lw L 0 (-1)) h h' u := by
  revert X H S Jw
  refine sa_WXi (C := fun P J u => sa_tw P h → sa_LX i L u → sa_HX i h u → sa_S2 P h 0 (-1) h' → sa_GO i P t J (sa_Lw L 0 (-1)) h h' u) W ?_
  intro ns jc tc xhe kd p1 p2 p3 ac ja ji jn js jt tj tt xss xsv xak xaj xgc xgk xgn xhs xhg xhn xou xah xst xpl xft xev xdn xus xis xvr xhd xtk xpd xpa xpi xun xwj W Jw X H S
  obtain ⟨sv, ak, aj, gc, gk, gn, hs, hg, hn, ou⟩ := L
  obtain ⟨st, pl, ev, dn, us, is, vr, hd, tk, pn, pa, pi, un, wj⟩ := h
  have hl' : us = hs := hl
  subst hl'
  have h24' : us < 240 := h24
  have H0 := H
  obtain ⟨⟨l1, l2, l3⟩, d1, d2, d3, d4, d5, d6, d7, d8, d9, d10⟩ := X
  obtain ⟨⟨b1, b2, b3, b4, b5⟩, c1, c2, c3, c4, c5, c6, c7, c8, c9, c10, c11, c12, c13, c14, c15⟩ := H
  have X1 : sa_LX i (sv, ak, aj, gc, gk, gn, us + 1, upd hg us 0, upd hn us (-1), -1) (nI ns, nI t, nI jc, nI tc, xhe, kd, p1, p2, p3, ac, ja, ji, jn, js, jt, tj, tt, xss, xsv, xak, xaj, xgc, xgk, xgn, upd xhs i (nI (us + 1)), upd xhg (240 * i + us) 0, upd xhn (240 * i + us) (-1), upd xou i (-1), xah, xst, xpl, xft, xev, xdn, xus, xis, xvr, xhd, xtk, xpd, xpa, xpi, xun, xwj) := ⟨⟨by omega, by omega, by omega⟩, d1, d2, d3, d4, d5, d6, pk_us, sa_ua d8, sa_ua d9, pk_us⟩
  have HT : ∀ (z : Int32) (post : Int32 → SX → Prop), post 1 (nI ns, nI t, nI jc, nI tc, nI (240 * i + us), kd, p1, p2, p3, ac, ja, ji, jn, js, jt, tj, tt, xss, xsv, xak, xaj, xgc, xgk, xgn, upd xhs i (nI (us + 1)), upd xhg (240 * i + us) 0, upd xhn (240 * i + us) (-1), upd xou i (-1), xah, xst, xpl, xft, xev, xdn, upd xus i (nI (us + 1)), xis, xvr, xhd, xtk, xpd, xpa, xpi, xun, xwj) → wpX_hearTime post (nI ns, nI t, nI jc, nI tc, xhe, kd, p1, p2, p3, ac, ja, ji, jn, js, jt, tj, tt, xss, xsv, xak, xaj, xgc, xgk, xgn, xhs, xhg, xhn, xou, xah, xst, xpl, xft, xev, xdn, xus, xis, xvr, xhd, xtk, xpd, xpa, xpi, xun, xwj) (nI i) z := fun z post K =>
    sa_ht_w hi c6 d7 h24' (by rw [d10]; exact ho) (by rw [d10]; exact ht) K
  obtain ⟨rfl, _, hk⟩ := Jw
  obtain ⟨rfl, hw, h2, S⟩ := S
  rcases S with ⟨e, _⟩ | ⟨_, hp, S⟩
  · cases e
  rcases S with ⟨hk', _⟩ | ⟨hk', _⟩ | ⟨_, a, ha, e1, rfl⟩ | ⟨hk', _⟩
  · exact absurd (hk.symm.trans hk') (by decide)
  · exact absurd (hk.symm.trans hk') (by decide)
  · exact sa_G_bs hi W X1 (sa_FL1 h24') (by omega) H0 hw hp hk HT
  · exact absurd (hk.symm.trans hk') (by decide)
theorem sa_XGt {i t : Nat} {P : sa_P} {J : sa_J} {L : sa_L} {h h' : sa_H} {u : SX}  (hi : i < 3) (hl : sa_us h = sa_hs L) (h24 : sa_us h < 240) (ho : sa_ou L ≠ -1) (ht : ¬ nI t < sa_ou L) (Jw : sa_gw P h) (N : sa_Sn P L h) (W : sa_WX P t J u) (X : sa_LX i L u) (H : sa_HX i h u) (S : sa_S2 P h 0 (-1) h') : sa_GO i P t J (sa_Lw L 0 (-1)) h h' u := by
  revert X H S Jw N
  refine sa_WXi (C := fun P J u => sa_gw P h → sa_Sn P L h → sa_LX i L u → sa_HX i h u → sa_S2 P h 0 (-1) h' → sa_GO i P t J (sa_Lw L 0 (-1)) h h' u) W ?_
  intro ns jc tc xhe kd p1 p2 p3 ac ja ji jn js jt tj tt xss xsv xak xaj xgc xgk xgn xhs xhg xhn xou xah xst xpl xft xev xdn xus xis xvr xhd xtk xpd xpa xpi xun xwj W Jw N X H S
  obtain ⟨sv, ak, aj, gc, gk, gn, hs, hg, hn, ou⟩ := L
  obtain ⟨st, pl, ev, dn, us, is, vr, hd, tk, pn, pa, pi, un, wj⟩ := h
  have hl' : us = hs := hl
  subst hl'
  have h24' : us < 240 := h24
  have H0 := H
  obtain ⟨⟨l1, l2, l3⟩, d1, d2, d3, d4, d5, d6, d7, d8, d9, d10⟩ := X
  obtain ⟨⟨b1, b2, b3, b4, b5⟩, c1, c2, c3, c4, c5, c6, c7, c8, c9, c10, c11, c12, c13, c14, c15⟩ := H
  have X1 : sa_LX i (sv, ak, aj, gc, gk, gn, us + 1, upd hg us 0, upd hn us (-1), -1) (nI ns, nI t, nI jc, nI tc, xhe, kd, p1, p2, p3, ac, ja, ji, jn, js, jt, tj, tt, xss, xsv, xak, xaj, xgc, xgk, xgn, upd xhs i (nI (us + 1)), upd xhg (240 * i + us) 0, upd xhn (240 * i + us) (-1), upd xou i (-1), xah, xst, xpl, xft, xev, xdn, xus, xis, xvr, xhd, xtk, xpd, xpa, xpi, xun, xwj) := ⟨⟨by omega, by omega, by omega⟩, d1, d2, d3, d4, d5, d6, pk_us, sa_ua d8, sa_ua d9, pk_us⟩
  have HS : ∀ (y z : Int32) (post : Int32 → SX → Prop), y = p1 pl → z = p3 pl → post 1 (nI ns, nI t, nI jc, nI tc, nI (240 * i + us), kd, p1, p2, p3, ac, ja, ji, jn, js, jt, tj, tt, xss, xsv, xak, xaj, xgc, xgk, xgn, upd xhs i (nI (us + 1)), upd xhg (240 * i + us) 0, upd xhn (240 * i + us) (-1), upd xou i (-1), xah, xst, xpl, xft, xev, xdn, upd xus i (nI (us + 1)), xis, xvr, xhd, xtk, xpd, xpa, xpi, xun, xwj) → wpX_hearSignal post (nI ns, nI t, nI jc, nI tc, xhe, kd, p1, p2, p3, ac, ja, ji, jn, js, jt, tj, tt, xss, xsv, xak, xaj, xgc, xgk, xgn, xhs, xhg, xhn, xou, xah, xst, xpl, xft, xev, xdn, xus, xis, xvr, xhd, xtk, xpd, xpa, xpi, xun, xwj) (nI i) y z := fun y z post ey ez K => by
    refine sa_hs_n hi l2 d4 c6 d7 (by omega) ?_ (Or.inr rfl) (fun post K => sa_ht_w hi c6 d7 h24' (by rw [d10]; exact ho) (by rw [d10]; exact ht) K) K
    intro k hk
    rw [d5 k hk, c10 k (by omega), ey]
    exact N k hk
  obtain ⟨rfl, _, hk⟩ := Jw
  obtain ⟨rfl, hw, h2, S⟩ := S
  rcases S with ⟨e, _⟩ | ⟨_, hp, S⟩
  · cases e
  rcases S with ⟨hk', _⟩ | ⟨hk', _⟩ | ⟨hk', _⟩ | ⟨_, a, b, ha, hb, e1, e2, hg0, rfl⟩
  · exact absurd (hk.symm.trans hk') (by decide)
  · exact absurd (hk.symm.trans hk') (by decide)
  · exact absurd (hk.symm.trans hk') (by decide)
  · exact sa_G_bgb hi W X1 (sa_FL1 h24') (by omega) H0 hw hp hk hb e2 (by rw [pk_us]; exact hg0) HS
theorem sa_XGl {i t q : Nat} {P : sa_P} {J : sa_J} {L : sa_L} {h h' : sa_H} {u : SX} {y : Int32} (hi : i < 3) (hl : sa_us h = sa_hs L) (h24 : sa_us h < 240) (N : sa_Sg P L h q y) (W : sa_WX P t J u) (X : sa_LX i L u) (H : sa_HX i h u) (S : sa_S3 P h q y h') : sa_GO i P t J (sa_Lw L 1 (nI q)) h h' u := by
  revert X H S N
  refine sa_WXi (C := fun P J u => sa_Sg P L h q y → sa_LX i L u → sa_HX i h u → sa_S3 P h q y h' → sa_GO i P t J (sa_Lw L 1 (nI q)) h h' u) W ?_
  intro ns jc tc xhe kd p1 p2 p3 ac ja ji jn js jt tj tt xss xsv xak xaj xgc xgk xgn xhs xhg xhn xou xah xst xpl xft xev xdn xus xis xvr xhd xtk xpd xpa xpi xun xwj W N X H S
  obtain ⟨sv, ak, aj, gc, gk, gn, hs, hg, hn, ou⟩ := L
  obtain ⟨st, pl, ev, dn, us, is, vr, hd, tk, pn, pa, pi, un, wj⟩ := h
  have hl' : us = hs := hl
  subst hl'
  have h24' : us < 240 := h24
  have H0 := H
  obtain ⟨⟨l1, l2, l3⟩, d1, d2, d3, d4, d5, d6, d7, d8, d9, d10⟩ := X
  obtain ⟨⟨b1, b2, b3, b4, b5⟩, c1, c2, c3, c4, c5, c6, c7, c8, c9, c10, c11, c12, c13, c14, c15⟩ := H
  obtain ⟨n1, n2, n3, rfl⟩ := N
  have X1 : sa_LX i (sv, ak, aj, gc, gk, gn, us + 1, upd hg us 1, upd hn us (nI q), -1) (nI ns, nI t, nI jc, nI tc, xhe, kd, p1, p2, p3, ac, ja, ji, jn, js, jt, tj, tt, xss, xsv, xak, xaj, xgc, xgk, xgn, upd xhs i (nI (us + 1)), upd xhg (240 * i + us) 1, upd xhn (240 * i + us) (nI q), upd xou i (-1), xah, xst, xpl, xft, xev, xdn, xus, xis, xvr, xhd, xtk, xpd, xpa, xpi, xun, xwj) := ⟨⟨by omega, by omega, by omega⟩, d1, d2, d3, d4, d5, d6, pk_us, sa_ua d8, sa_ua d9, pk_us⟩
  have HS : ∀ (y z : Int32) (post : Int32 → SX → Prop), y = p1 pl → z = p3 pl → post 1 (nI ns, nI t, nI jc, nI tc, nI (240 * i + us), kd, p1, p2, p3, ac, ja, ji, jn, js, jt, tj, tt, xss, xsv, xak, xaj, xgc, xgk, xgn, upd xhs i (nI (us + 1)), upd xhg (240 * i + us) 1, upd xhn (240 * i + us) (nI q), upd xou i (-1), xah, xst, xpl, xft, xev, xdn, upd xus i (nI (us + 1)), xis, xvr, xhd, xtk, xpd, xpa, xpi, xun, xwj) → wpX_hearSignal post (nI ns, nI t, nI jc, nI tc, xhe, kd, p1, p2, p3, ac, ja, ji, jn, js, jt, tj, tt, xss, xsv, xak, xaj, xgc, xgk, xgn, xhs, xhg, xhn, xou, xah, xst, xpl, xft, xev, xdn, xus, xis, xvr, xhd, xtk, xpd, xpa, xpi, xun, xwj) (nI i) y z := fun y z post ey ez K => by
    refine sa_hs_s hi l2 d4 c6 d7 h24' n1 ?_ ?_ K
    · rw [d5 q n1, c10 q (by omega), ey]
      exact n2
    · intro k hk
      rw [d5 k (by omega), c10 k (by omega), ey]
      exact n3 k hk
  obtain ⟨rfl, hw, h2, rfl, hp, _, hk, a, b, ha, hb, e1, e2, rfl⟩ := S
  exact sa_G_bgg hi W X1 (sa_FL1 h24') (by omega) H0 hw hp hk hb e2 pk_us n1 pk_us HS
end
section
/-! the component's open waits; a new job -/
/-- how long a wait for time lasts, at most -/
def sa_cl (x : Int32) : Int32 := if 0 ≤ x then (if x ≤ 50 then x else 50) else 0
def sa_ak (L : sa_L) : Nat := match L with | (sv, ak, aj, gc, gk, gn, hs, hg, hn, ou) => ak
def sa_jc (J : sa_J) : Nat := match J with | (jc, ja, ji, jn, js, jt, tc, tj, tt) => jc
def sa_Jn (t : Nat) (J : sa_J) (q x : Int32) : sa_J := match J with | (jc, ja, ji, jn, js, jt, tc, tj, tt) => (jc + 1, upd ja jc q, upd ji jc x, upd jn jc 0, upd js jc 0, upd jt jc (nI t), tc, tj, tt)
def sa_La (L : sa_L) (j : Int32) : sa_L := match L with | (sv, ak, aj, gc, gk, gn, hs, hg, hn, ou) => (sv, ak + 1, upd aj ak j, gc, gk, gn, hs, hg, hn, ou)
theorem sa_XS1l {i t : Nat} {P : sa_P} {J : sa_J} {L : sa_L} {h h' : sa_H} {u : SX} {q x : Int32} (hi : i < 3) (hl : sa_is h = sa_ak L) (hj : sa_jc J < 90) (W : sa_WX P t J u) (X : sa_LX i L u) (H : sa_HX i h u) (S : sa_S1 P h q x (nI (sa_jc J)) h' ∨ sa_S1u h q x (nI (sa_jc J)) h') : sa_GO i P t (sa_Jn t J q x) (sa_La L (nI (sa_jc J))) h h' u := by
  revert X H S hj
  refine sa_WXi (C := fun P J u => sa_jc J < 90 → sa_LX i L u → sa_HX i h u → (sa_S1 P h q x (nI (sa_jc J)) h' ∨ sa_S1u h q x (nI (sa_jc J)) h') → sa_GO i P t (sa_Jn t J q x) (sa_La L (nI (sa_jc J))) h h' u) W ?_
  intro ns jc tc xhe kd p1 p2 p3 ac ja ji jn js jt tj tt xss xsv xak xaj xgc xgk xgn xhs xhg xhn xou xah xst xpl xft xev xdn xus xis xvr xhd xtk xpd xpa xpi xun xwj W hj X H S
  obtain ⟨sv, ak, aj, gc, gk, gn, hs, hg, hn, ou⟩ := L
  obtain ⟨st, pl, ev, dn, us, is, vr, hd, tk, pn, pa, pi, un, wj⟩ := h
  have hl' : is = ak := hl
  subst hl'
  have hj' : jc < 90 := hj
  rcases S with S | S
  · obtain ⟨rfl, rfl, rfl, hp, hq, h30, _, S⟩ := S
    rcases S with ⟨hk3, a, b, ha, hb, e1, e2, rfl, rfl, rfl⟩ | ⟨hk3, a, b, c, ha, hb, hc, e1, e2, e3, rfl, rfl, hh, rfl⟩
    · exact sa_G_do_l hi W X H hp hq h30 hk3 hb e2 hj'
    · exact sa_G_start_l hi W X H hp hq h30 hk3 ha hb hc e1 e2 e3 hh hj'
  · obtain ⟨rfl, rfl, rfl, h0, h2, h30, _, rfl, rfl, rfl⟩ := S
    obtain ⟨m, rfl⟩ : ∃ m, pn = m + 1 := ⟨pn - 1, by omega⟩
    exact sa_G_u2_l hi W X H (by omega) h30 hj'
/-- the job isn't over -/
theorem sa_XR {i t q : Nat} {P : sa_P} {J : sa_J} {L : sa_L} {h : sa_H} {u : SX} (hi : i < 3) (hl : sa_us h = sa_hs L) (hst : sa_st h = 1) (hw : sa_wj h ≠ -1) (hj : sa_wj h = nI q) (N : sa_No J q) (Jw : sa_jw P h) (W : sa_WX P t J u) (X : sa_LX i L u) (H : sa_HX i h u) :
    ∀ post : SX → Prop, post u → sa_GX post i P h u := by
  refine sa_gob0 hst hw ?_
  revert X H Jw N
  refine sa_WXi (C := fun P J u => sa_No J q → sa_jw P h → sa_LX i L u → sa_HX i h u → ∀ Q : Int32 → SX → Prop, Q 0 u → sa_BX Q i P h u) W ?_
  intro ns jc tc xhe kd p1 p2 p3 ac ja ji jn js jt tj tt xss xsv xak xaj xgc xgk xgn xhs xhg xhn xou xah xst xpl xft xev xdn xus xis xvr xhd xtk xpd xpa xpi xun xwj W N Jw X H Q K
  obtain ⟨sv, ak, aj, gc, gk, gn, hs, hg, hn, ou⟩ := L
  obtain ⟨st, pl, ev, dn, us, is, vr, hd, tk, pn, pa, pi, un, wj⟩ := h
  have hl' : us = hs := hl
  subst hl'
  obtain ⟨⟨l1, l2, l3⟩, d1, d2, d3, d4, d5, d6, d7, d8, d9, d10⟩ := X
  obtain ⟨⟨b1, b2, b3, b4, b5⟩, c1, c2, c3, c4, c5, c6, c7, c8, c9, c10, c11, c12, c13, c14, c15⟩ := H
  obtain ⟨n1, n2⟩ := N
  have hj' : wj = nI q := hj
  have HN : ∀ post : Int32 → SX → Prop, post 0 (nI ns, nI t, nI jc, nI tc, xhe, kd, p1, p2, p3, ac, ja, ji, jn, js, jt, tj, tt, xss, xsv, xak, xaj, xgc, xgk, xgn, xhs, xhg, xhn, xou, xah, xst, xpl, xft, xev, xdn, xus, xis, xvr, xhd, xtk, xpd, xpa, xpi, xun, xwj) → wpX_hearJob post (nI ns, nI t, nI jc, nI tc, xhe, kd, p1, p2, p3, ac, ja, ji, jn, js, jt, tj, tt, xss, xsv, xak, xaj, xgc, xgk, xgn, xhs, xhg, xhn, xou, xah, xst, xpl, xft, xev, xdn, xus, xis, xvr, xhd, xtk, xpd, xpa, xpi, xun, xwj) (nI i) (xwj i) := fun post K => by
    rw [c15, hj']
    exact sa_hj_n hi c6 d7 n1 n2 K
  rcases Jw with rfl | ⟨rfl, hp, hk | hk⟩
  · refine ⟨fun _ R hR => ?_, nofun, nofun, nofun, nofun⟩
    exact sa_b_un hi HN (hR 0 _ (Or.inl rfl) K)
  · refine ⟨nofun, fun _ _ R hR => ?_, fun _ e => absurd (hk.symm.trans e) (by decide), fun _ e => absurd (hk.symm.trans e) (by decide), fun _ e => absurd (hk.symm.trans e) (by decide)⟩
    exact sa_b_dn hi HN (hR 0 _ (Or.inl rfl) K)
  · refine ⟨nofun, fun _ e => absurd (hk.symm.trans e) (by decide), fun _ _ R hR => ?_, fun _ e => absurd (hk.symm.trans e) (by decide), fun _ e => absurd (hk.symm.trans e) (by decide)⟩
    exact sa_b_dn hi HN (hR 0 _ (Or.inl rfl) K)
/-- time isn't over -/
theorem sa_XRt {i t : Nat} {P : sa_P} {J : sa_J} {L : sa_L} {h : sa_H} {u : SX} (hi : i < 3) (hl : sa_us h = sa_hs L) (hst : sa_st h = 1) (hw : sa_wj h ≠ -1) (ho : sa_ou L ≠ -1) (ht : nI t < sa_ou L) (Jw : sa_tw P h ∨ (sa_gw P h ∧ sa_Sn P L h)) (W : sa_WX P t J u) (X : sa_LX i L u) (H : sa_HX i h u) :
    ∀ post : SX → Prop, post u → sa_GX post i P h u := by
  refine sa_gob0 hst hw ?_
  revert X H Jw
  refine sa_WXi (C := fun P J u => (sa_tw P h ∨ (sa_gw P h ∧ sa_Sn P L h)) → sa_LX i L u → sa_HX i h u → ∀ Q : Int32 → SX → Prop, Q 0 u → sa_BX Q i P h u) W ?_
  intro ns jc tc xhe kd p1 p2 p3 ac ja ji jn js jt tj tt xss xsv xak xaj xgc xgk xgn xhs xhg xhn xou xah xst xpl xft xev xdn xus xis xvr xhd xtk xpd xpa xpi xun xwj W Jw X H Q K
  obtain ⟨sv, ak, aj, gc, gk, gn, hs, hg, hn, ou⟩ := L
  obtain ⟨st, pl, ev, dn, us, is, vr, hd, tk, pn, pa, pi, un, wj⟩ := h
  have hl' : us = hs := hl
  subst hl'
  obtain ⟨⟨l1, l2, l3⟩, d1, d2, d3, d4, d5, d6, d7, d8, d9, d10⟩ := X
  obtain ⟨⟨b1, b2, b3, b4, b5⟩, c1, c2, c3, c4, c5, c6, c7, c8, c9, c10, c11, c12, c13, c14, c15⟩ := H
  have HN : ∀ (z : Int32) (post : Int32 → SX → Prop), post 0 (nI ns, nI t, nI jc, nI tc, xhe, kd, p1, p2, p3, ac, ja, ji, jn, js, jt, tj, tt, xss, xsv, xak, xaj, xgc, xgk, xgn, xhs, xhg, xhn, xou, xah, xst, xpl, xft, xev, xdn, xus, xis, xvr, xhd, xtk, xpd, xpa, xpi, xun, xwj) → wpX_hearTime post (nI ns, nI t, nI jc, nI tc, xhe, kd, p1, p2, p3, ac, ja, ji, jn, js, jt, tj, tt, xss, xsv, xak, xaj, xgc, xgk, xgn, xhs, xhg, xhn, xou, xah, xst, xpl, xft, xev, xdn, xus, xis, xvr, xhd, xtk, xpd, xpa, xpi, xun, xwj) (nI i) z := fun z post K =>
    sa_ht_n hi c6 d7 (by rw [d10]; exact ho) (by rw [d10]; exact ht) K
  rcases Jw with ⟨rfl, hp, hk⟩ | ⟨⟨rfl, hp, hk⟩, N⟩
  · refine ⟨nofun, fun _ e => absurd (hk.symm.trans e) (by decide), fun _ e => absurd (hk.symm.trans e) (by decide), fun _ _ a ha ea R hR z z1 z2 => ?_, fun _ e => absurd (hk.symm.trans e) (by decide)⟩
    exact sa_b_s0 hi (HN z) (hR 0 _ (Or.inl rfl) K)
  · refine ⟨nofun, fun _ e => absurd (hk.symm.trans e) (by decide), fun _ e => absurd (hk.symm.trans e) (by decide), fun _ e => absurd (hk.symm.trans e) (by decide), fun _ _ R hR S hS => ?_⟩
    refine sa_hs_n hi l2 d4 c6 d7 (by omega) ?_ (Or.inl rfl) (HN (p3 pl)) (hS 0 _ (Or.inl rfl) (sa_b_g0 (hR 0 _ (Or.inl rfl) K)))
    intro k hk
    rw [d5 k hk, c10 k (by omega)]
    exact N k hk
theorem sa_cl_pos {x : Int32} (h : ¬ x ≤ 0) : ((x ≤ 50 → sa_cl x = x) ∧ (¬ x ≤ 50 → sa_cl x = 50)) ∧ ∃ c, 1 ≤ c ∧ c ≤ 50 ∧ sa_cl x = nI c := by
  have h0 : 0 ≤ x := by
    rw [Int32.le_iff_toInt_le] at h ⊢
    omega
  unfold sa_cl
  rw [if_pos h0]
  refine ⟨⟨fun e => if_pos e, fun e => if_neg e⟩, ?_⟩
  by_cases e : x ≤ 50
  · rw [if_pos e]
    obtain ⟨j, hj, rfl⟩ := nI_of2 (x := x) (M := 50) (n := 50) (by decide) (Int32.not_lt.mpr h0) e
    refine ⟨j, ?_, hj, rfl⟩
    rcases Nat.eq_zero_or_pos j with e0 | e0
    · subst e0
      exact absurd (by decide) h
    · exact e0
  · rw [if_neg e]
    exact ⟨50, by omega, by omega, rfl⟩
/-- a wait for time is opened -/
theorem sa_XRo {i t c : Nat} {o : Int32} {P : sa_P} {J : sa_J} {L : sa_L} {h : sa_H} {u : SX} (hi : i < 3) (hl : sa_us h = sa_hs L) (hst : sa_st h = 1) (hw : sa_wj h ≠ -1) (ho : sa_ou L = -1) (hc : 1 ≤ c ∧ c ≤ 50) (eo : o = nI (t + c))
    (Jw : (sa_tw P h ∧ (match P, h with | (ns, kd, p1, p2, p3, ac), (st, pl, ev, dn, us, is, vr, hd, tk, pn, pa, pi, un, wj) => ∃ a, a < 4 ∧ p1 pl = nI a ∧ ¬ vr a ≤ 0 ∧ sa_cl (vr a) = nI c)) ∨ (sa_gw P h ∧ sa_Sn P L h ∧ (match P, h with | (ns, kd, p1, p2, p3, ac), (st, pl, ev, dn, us, is, vr, hd, tk, pn, pa, pi, un, wj) => p3 pl = nI c))) (W : sa_WX P t J u) (X : sa_LX i L u) (H : sa_HX i h u) :
    ∃ u', sa_WX P t J u' ∧ sa_LX i (sa_Lo L o) u' ∧ sa_HX i h u' ∧ sa_FX i u u' ∧ ∀ post : SX → Prop, post u' → sa_GX post i P h u := by
  subst eo
  suffices ∃ u', sa_WX P t J u' ∧ sa_LX i (sa_Lo L (nI (t + c))) u' ∧ sa_HX i h u' ∧ sa_FX i u u' ∧ ∀ Q : Int32 → SX → Prop, Q 0 u' → sa_BX Q i P h u by
    obtain ⟨u', a1, a2, a3, a4, a5⟩ := this
    exact ⟨u', a1, a2, a3, a4, sa_gob0 hst hw a5⟩
  revert X H Jw
  refine sa_WXi (C := fun P J u => ((sa_tw P h ∧ (match P, h with | (ns, kd, p1, p2, p3, ac), (st, pl, ev, dn, us, is, vr, hd, tk, pn, pa, pi, un, wj) => ∃ a, a < 4 ∧ p1 pl = nI a ∧ ¬ vr a ≤ 0 ∧ sa_cl (vr a) = nI c)) ∨ (sa_gw P h ∧ sa_Sn P L h ∧ (match P, h with | (ns, kd, p1, p2, p3, ac), (st, pl, ev, dn, us, is, vr, hd, tk, pn, pa, pi, un, wj) => p3 pl = nI c))) → sa_LX i L u → sa_HX i h u → ∃ u', sa_WX P t J u' ∧ sa_LX i (sa_Lo L (nI (t + c))) u' ∧ sa_HX i h u' ∧ sa_FX i u u' ∧ ∀ Q : Int32 → SX → Prop, Q 0 u' → sa_BX Q i P h u) W ?_
  intro ns jc tc xhe kd p1 p2 p3 ac ja ji jn js jt tj tt xss xsv xak xaj xgc xgk xgn xhs xhg xhn xou xah xst xpl xft xev xdn xus xis xvr xhd xtk xpd xpa xpi xun xwj W Jw X H
  obtain ⟨sv, ak, aj, gc, gk, gn, hs, hg, hn, ou⟩ := L
  obtain ⟨st, pl, ev, dn, us, is, vr, hd, tk, pn, pa, pi, un, wj⟩ := h
  have hl' : us = hs := hl
  subst hl'
  obtain ⟨⟨w1, w2, w3, w4⟩, _⟩ := W
  obtain ⟨⟨l1, l2, l3⟩, d1, d2, d3, d4, d5, d6, d7, d8, d9, d10⟩ := X
  obtain ⟨⟨b1, b2, b3, b4, b5⟩, c1, c2, c3, c4, c5, c6, c7, c8, c9, c10, c11, c12, c13, c14, c15⟩ := H
  have ho' : xou i = -1 := d10.trans ho
  have hlt : nI t < nI t + nI c := by
    rw [nI_add]
    exact nI_lt (by omega) (by omega)
  refine ⟨(nI ns, nI t, nI jc, nI tc, xhe, kd, p1, p2, p3, ac, ja, ji, jn, js, jt, tj, tt, xss, xsv, xak, xaj, xgc, xgk, xgn, xhs, xhg, xhn, upd xou i (nI (t + c)), xah, xst, xpl, xft, xev, xdn, xus, xis, xvr, xhd, xtk, xpd, xpa, xpi, xun, xwj), ⟨⟨w1, w2, by omega, w4⟩, rfl, rfl, rfl, rfl, rfl, rfl, rfl, rfl, rfl, rfl, rfl, rfl, rfl, rfl, rfl, rfl⟩, ⟨⟨by omega, by omega, by omega⟩, d1, d2, d3, d4, d5, d6, d7, d8, d9, pk_us⟩, ⟨⟨by omega, by omega, by omega, by omega, by omega⟩, c1, c2, c3, c4, c5, c6, c7, c8, c9, c10, c11, c12, c13, c14, c15⟩, ⟨⟨rfl, rfl⟩, fun i' hi' hne => ⟨rfl, rfl, fun _ _ => rfl, rfl, fun _ _ => rfl, fun _ _ => rfl, rfl, fun _ _ => rfl, fun _ _ => rfl, pk_un hne, rfl, rfl, rfl, rfl, rfl, rfl, rfl, fun _ _ => rfl, fun _ _ => rfl, fun _ _ => rfl, rfl, fun _ _ => rfl, fun _ _ => rfl, rfl, rfl⟩⟩, fun Q K => ?_⟩
  have HO : ∀ (post : Int32 → SX → Prop), post 0 (nI ns, nI t, nI jc, nI tc, xhe, kd, p1, p2, p3, ac, ja, ji, jn, js, jt, tj, tt, xss, xsv, xak, xaj, xgc, xgk, xgn, xhs, xhg, xhn, upd xou i (nI (t + c)), xah, xst, xpl, xft, xev, xdn, xus, xis, xvr, xhd, xtk, xpd, xpa, xpi, xun, xwj) → wpX_hearTime post (nI ns, nI t, nI jc, nI tc, xhe, kd, p1, p2, p3, ac, ja, ji, jn, js, jt, tj, tt, xss, xsv, xak, xaj, xgc, xgk, xgn, xhs, xhg, xhn, xou, xah, xst, xpl, xft, xev, xdn, xus, xis, xvr, xhd, xtk, xpd, xpa, xpi, xun, xwj) (nI i) (nI c) := fun post K =>
    sa_ht_o hi c6 d7 ho' hlt (by rw [nI_add]; exact K)
  rcases Jw with ⟨⟨rfl, hp, hk⟩, a0, ha0, ea0, hz, ec⟩ | ⟨⟨rfl, hp, hk⟩, N, ec⟩
  · refine ⟨nofun, fun _ e => absurd (hk.symm.trans e) (by decide), fun _ e => absurd (hk.symm.trans e) (by decide), fun _ _ a ha ea R hR z z1 z2 => ?_, fun _ e => absurd (hk.symm.trans e) (by decide)⟩
    have ea' : a = a0 := (nI_eq (by omega) (by omega)).mp (ea.symm.trans ea0)
    subst ea'
    have ez : z = nI c := by
      rw [← ec]
      by_cases e5 : vr a ≤ 50
      · rw [z1 e5, (sa_cl_pos hz).1.1 e5]
      · rw [z2 e5, (sa_cl_pos hz).1.2 e5]
    subst ez
    exact sa_b_s0 hi HO (hR 0 _ (Or.inl rfl) K)
  · refine ⟨nofun, fun _ e => absurd (hk.symm.trans e) (by decide), fun _ e => absurd (hk.symm.trans e) (by decide), fun _ e => absurd (hk.symm.trans e) (by decide), fun _ _ R hR S hS => ?_⟩
    have ec' : p3 pl = nI c := ec
    rw [ec']
    refine sa_hs_n hi l2 d4 c6 d7 (by omega) ?_ (Or.inl rfl) HO (hS 0 _ (Or.inl rfl) (sa_b_g0 (hR 0 _ (Or.inl rfl) K)))
    intro k hk
    rw [d5 k hk, c10 k (by omega)]
    exact N k hk
end
section
/-! the reference's state shows the same things -/
/-- job: the component's state and time, the reference's -/
def sa_hw (s m : Int32) (t : Nat) (w n : Int32) : Prop := (s = 0 ∧ (w = 0 ∨ (w = 1 ∧ m ≤ nI t)) ∧ n = m) ∨ (s = 1 ∧ w = 2 ∧ n = m) ∨ (s = 2 ∧ w = 3) ∨ (s = 3 ∧ w = 4)
def sa_WY (P : sa_P) (t : Nat) (J : sa_J) (v : SY) : Prop := match P, J, v with
  | (ns, kd, p1, p2, p3, ac), (jc, ja, ji, jn, js, jt, tc, tj, tt), (yns, ynow, yjc, ytc, yac, ysp, yja, yji, yjn, yhw, ywn, ytj, ytt, yst, ypl, ydn, yak, ywt, yun, yrs, yvr, yhd, ypa, ypi, ypd, ygs, ygn, ygc) => (ns ≤ 20 ∧ t < 1000000 ∧ jc ≤ 90 ∧ tc ≤ 360) ∧ yns = nI ns ∧ ynow = nI t ∧ yjc = nI jc ∧ ytc = nI tc ∧ yac = ac ∧ yja = ja ∧ yji = ji ∧ yjn = jn ∧ ytj = tj ∧ ytt = tt
    ∧ (∀ k, k < ns → ysp (4 * k) = kd k ∧ ysp (4 * k + 1) = p1 k ∧ ysp (4 * k + 2) = p2 k ∧ ysp (4 * k + 3) = p3 k)
    ∧ (∀ j, j < jc → sa_hw (js j) (jt j) t (yhw j) (ywn j))
/-- what the reference waits for -/
def sa_WC (P : sa_P) (t : Nat) (L : sa_L) (h : sa_H) (w n : Int32) : Prop := match P, L, h with
  | (ns, kd, p1, p2, p3, ac), (sv, ak, aj, gc, gk, gn, hs, hg, hn, ou), (st, pl, ev, dn, us, is, vr, hd, tk, pn, pa, pi, un, wj) => (wj = -1 ∧ w = 0) ∨ (wj ≠ -1 ∧ un = true ∧ w = 4 ∧ n = wj) ∨ (wj ≠ -1 ∧ un = false ∧ (kd pl = 3 ∨ kd pl = 5) ∧ w = 1 ∧ n = wj)
    ∨ (wj ≠ -1 ∧ un = false ∧ kd pl = 7 ∧ w = 2 ∧ (ou ≠ -1 → n = ou) ∧ (ou = -1 → ∃ a, a < 4 ∧ p1 pl = nI a ∧ n = nI t + sa_cl (vr a)))
    ∨ (wj ≠ -1 ∧ un = false ∧ kd pl = 10 ∧ w = 3 ∧ (ou ≠ -1 → n = ou) ∧ (ou = -1 → n = nI t + p3 pl))
def sa_HY (i : Nat) (P : sa_P) (t : Nat) (L : sa_L) (h : sa_H) (v : SY) : Prop := match L, h, v with
  | (sv, ak, aj, gc, gk, gn, hs, hg, hn, ou), (st, pl, ev, dn, us, is, vr, hd, tk, pn, pa, pi, un, wj), (yns, ynow, yjc, ytc, yac, ysp, yja, yji, yjn, yhw, ywn, ytj, ytt, yst, ypl, ydn, yak, ywt, yun, yrs, yvr, yhd, ypa, ypi, ypd, ygs, ygn, ygc) => (pl ≤ 20 ∧ dn ≤ 200 ∧ is ≤ 30 ∧ pn ≤ 200 ∧ gc ≤ 6) ∧ yst i = st ∧ (∀ k, k < 4 → yvr (4 * i + k) = vr k) ∧ ypd i = nI pn ∧ (∀ k, k < pn → ypa (200 * i + k) = pa k) ∧ (∀ k, k < pn → ypi (200 * i + k) = pi k)
    ∧ ygc i = nI gc ∧ (∀ k, k < gc → ygn (6 * i + k) = gn k) ∧ (∀ k, k < gc → ygs (6 * i + k) = (if tk k = 0 then gk k else -1)) ∧ (st = 2 → yrs i = ev)
    ∧ (st = 1 → ypl i = nI pl ∧ ydn i = nI dn ∧ yak i = nI is ∧ (∀ k, k < 3 → yhd (3 * i + k) = hd k) ∧ sa_WC P t L h (ywt i) (yun i))
def sa_AY (i : Nat) (v v' : SY) : Prop := match v, v' with
  | (yns, ynow, yjc, ytc, yac, ysp, yja, yji, yjn, yhw, ywn, ytj, ytt, yst, ypl, ydn, yak, ywt, yun, yrs, yvr, yhd, ypa, ypi, ypd, ygs, ygn, ygc), (yns', ynow', yjc', ytc', yac', ysp', yja', yji', yjn', yhw', ywn', ytj', ytt', yst', ypl', ydn', yak', ywt', yun', yrs', yvr', yhd', ypa', ypi', ypd', ygs', ygn', ygc') => yst' i = yst i ∧ ypl' i = ypl i ∧ ydn' i = ydn i ∧ yak' i = yak i ∧ ywt' i = ywt i ∧ yun' i = yun i ∧ yrs' i = yrs i
    ∧ (∀ k, k < 4 → yvr' (4 * i + k) = yvr (4 * i + k)) ∧ (∀ k, k < 3 → yhd' (3 * i + k) = yhd (3 * i + k))
    ∧ (∀ k, k < 200 → ypa' (200 * i + k) = ypa (200 * i + k)) ∧ (∀ k, k < 200 → ypi' (200 * i + k) = ypi (200 * i + k)) ∧ ypd' i = ypd i
    ∧ (∀ k, k < 6 → ygs' (6 * i + k) = ygs (6 * i + k)) ∧ (∀ k, k < 6 → ygn' (6 * i + k) = ygn (6 * i + k)) ∧ ygc' i = ygc i
def sa_FY (i : Nat) (v v' : SY) : Prop := ∀ i', i' < 3 → i' ≠ i → sa_AY i' v v'
def sa_YL (post : SY → Prop) (i n : Nat) (b : Int32) (v : SY) : Prop := match v with
  | (yns, ynow, yjc, ytc, yac, ysp, yja, yji, yjn, yhw, ywn, ytj, ytt, yst, ypl, ydn, yak, ywt, yun, yrs, yvr, yhd, ypa, ypi, ypd, ygs, ygn, ygc) => wY_work_33 post (nI i) n b yns ynow yjc ytc yac ysp yja yji yjn yhw ywn ytj ytt yst ypl ydn yak ywt yun yrs yvr yhd ypa ypi ypd ygs ygn ygc
def sa_GY (post : SY → Prop) (i : Nat) (h : sa_H) (v : SY) : Prop :=
  (sa_st h ≠ 1 → post v)
  ∧ (sa_st h = 1 → sa_wj h = -1 → ∀ n, sa_mu h < n → sa_YL post i n 1 v)
  ∧ (sa_st h = 1 → sa_wj h ≠ -1 → ∀ Q : Int32 → SY → Prop, (∀ w, post w → Q 0 w) → (∀ w, (∀ n, sa_mu h ≤ n → sa_YL post i n 1 w) → Q 1 w) → wpY_goOn Q v (nI i))
end
section
/-! the reference's steps -/
section
variable {ysp yhw ywn yst ypl ydn yak ywt yun yrs yvr yhd ypa ypi ypd ygs ygn ygc : Nat → Int32} {ac ja ji jn tj tt : Nat → Int32} {i ns t jc tc pl dn pn n m a b c : Nat} {k0 p q r x : Int32} {Q : SY → Prop}
theorem sa_yask {P : Int32 → SY → Prop} {g : Int32} (hi : i < 3) (ha : yak i = nI n) (hn : n < 30) (hj : jc < 90)
    (K : P (nI jc) (nI ns, nI t, nI (jc + 1), nI tc, ac, ysp, upd ja jc g, upd ji jc x, upd jn jc 0, upd yhw jc 1, upd ywn jc (nI t), tj, tt, yst, ypl, ydn, upd yak i (nI (n + 1)), ywt, yun, yrs, yvr, yhd, ypa, ypi, ypd, ygs, ygn, ygc)) : wpY_ask P (nI ns, nI t, nI jc, nI tc, ac, ysp, ja, ji, jn, yhw, ywn, tj, tt, yst, ypl, ydn, yak, ywt, yun, yrs, yvr, yhd, ypa, ypi, ypd, ygs, ygn, ygc) (nI i) g x := by
  have e : ¬ nI n = 30 := by rw [sa_e30 (by omega)]; omega
  simp (disch := omega) only [wpY_ask, sa_in, nI_clamp, nI_1, nI_add, sa_p0, sa_p2, sa_p3, sa_m3, sa_m4, sa_m6, sa_m7, sa_m200, forall_eq, pk_us, true_and, and_true, true_implies, not_true_eq_false, not_false_eq_true, false_implies, eq_self, sa_n0, sa_n1, sa_m1, ha, e, nI_pred]
  exact K
theorem sa_yaskx {P : Int32 → SY → Prop} {g : Int32} (hi : i < 3) (ha : yak i = 30)
    (K : P (-1) (nI ns, nI t, nI jc, nI tc, ac, ysp, ja, ji, jn, yhw, ywn, tj, tt, upd yst i 5, ypl, ydn, yak, ywt, yun, yrs, yvr, yhd, ypa, ypi, ypd, ygs, ygn, ygc)) : wpY_ask P (nI ns, nI t, nI jc, nI tc, ac, ysp, ja, ji, jn, yhw, ywn, tj, tt, yst, ypl, ydn, yak, ywt, yun, yrs, yvr, yhd, ypa, ypi, ypd, ygs, ygn, ygc) (nI i) g x := by
  simp (disch := omega) only [wpY_ask, sa_in, nI_clamp, nI_1, nI_add, sa_p0, sa_p2, sa_p3, sa_m3, sa_m4, sa_m6, sa_m7, sa_m200, forall_eq, pk_us, true_and, and_true, true_implies, not_true_eq_false, not_false_eq_true, false_implies, eq_self, sa_n0, sa_n1, sa_m1, ha]
  exact K
theorem sa_y_set (hi : i < 3) (hp : pl < 20) (hpl : ypl i = nI pl) (s0 : ysp (4 * pl) = k0) (s1 : ysp (4 * pl + 1) = p) (s2 : ysp (4 * pl + 2) = q) (s3 : ysp (4 * pl + 3) = r) (h0 : k0 = 0) (hap : p = nI a) (ha : a < 4)
    (K : Q (nI ns, nI t, nI jc, nI tc, ac, ysp, ja, ji, jn, yhw, ywn, tj, tt, yst, upd ypl i (nI (pl + 1)), ydn, yak, ywt, yun, yrs, upd yvr (4 * i + a) q, yhd, ypa, ypi, ypd, ygs, ygn, ygc)) : wpY_doStep Q (nI ns, nI t, nI jc, nI tc, ac, ysp, ja, ji, jn, yhw, ywn, tj, tt, yst, ypl, ydn, yak, ywt, yun, yrs, yvr, yhd, ypa, ypi, ypd, ygs, ygn, ygc) (nI i) := by
  subst h0 hap
  have f1 : ¬ nI a < 0 := nI_pos (by omega)
  have f2 : ¬ (3 : Int32) < nI a := Int32.not_lt.mpr (nI_le (b := 3) (by omega) (by decide))
  simp (disch := omega) only [wpY_doStep, wpY_part, wpY_isIn, wY_doStep_48, wY_doStep_76, wY_doStep_121, sa_in, nI_clamp, nI_1, nI_add, sa_p0, sa_p2, sa_p3, sa_m3, sa_m4, sa_m6, sa_m7, sa_m200, forall_eq, pk_us, true_and, and_true, true_implies, not_true_eq_false, not_false_eq_true, false_implies, eq_self, sa_n0, sa_n1, sa_m1, hpl, s0, s1, s2, s3, f1, f2, sa_k1, sa_k0, sa_kl0]
  exact K
theorem sa_y_add (hi : i < 3) (hp : pl < 20) (hpl : ypl i = nI pl) (s0 : ysp (4 * pl) = k0) (s1 : ysp (4 * pl + 1) = p) (s2 : ysp (4 * pl + 2) = q) (s3 : ysp (4 * pl + 3) = r) (h0 : k0 = 1) (hap : p = nI a) (ha : a < 4) (hbp : q = nI b) (hb : b < 4)
    (K : Q (nI ns, nI t, nI jc, nI tc, ac, ysp, ja, ji, jn, yhw, ywn, tj, tt, yst, upd ypl i (nI (pl + 1)), ydn, yak, ywt, yun, yrs, upd yvr (4 * i + a) (yvr (4 * i + a) + yvr (4 * i + b)), yhd, ypa, ypi, ypd, ygs, ygn, ygc)) : wpY_doStep Q (nI ns, nI t, nI jc, nI tc, ac, ysp, ja, ji, jn, yhw, ywn, tj, tt, yst, ypl, ydn, yak, ywt, yun, yrs, yvr, yhd, ypa, ypi, ypd, ygs, ygn, ygc) (nI i) := by
  subst h0 hap hbp
  have f1 : ¬ nI a < 0 := nI_pos (by omega)
  have f2 : ¬ (3 : Int32) < nI a := Int32.not_lt.mpr (nI_le (b := 3) (by omega) (by decide))
  simp (disch := omega) only [wpY_doStep, wpY_part, wpY_isIn, wY_doStep_48, wY_doStep_76, wY_doStep_121, sa_in, nI_clamp, nI_1, nI_add, sa_p0, sa_p2, sa_p3, sa_m3, sa_m4, sa_m6, sa_m7, sa_m200, forall_eq, pk_us, true_and, and_true, true_implies, not_true_eq_false, not_false_eq_true, false_implies, eq_self, sa_n0, sa_n1, sa_m1, hpl, s0, s1, s2, s3, f1, f2, sa_k1, sa_kl1]
  exact K
theorem sa_y_sub (hi : i < 3) (hp : pl < 20) (hpl : ypl i = nI pl) (s0 : ysp (4 * pl) = k0) (s1 : ysp (4 * pl + 1) = p) (s2 : ysp (4 * pl + 2) = q) (s3 : ysp (4 * pl + 3) = r) (h0 : k0 = 2) (hap : p = nI a) (ha : a < 4) (hbp : q = nI b) (hb : b < 4)
    (K : Q (nI ns, nI t, nI jc, nI tc, ac, ysp, ja, ji, jn, yhw, ywn, tj, tt, yst, upd ypl i (nI (pl + 1)), ydn, yak, ywt, yun, yrs, upd yvr (4 * i + a) (yvr (4 * i + a) - yvr (4 * i + b)), yhd, ypa, ypi, ypd, ygs, ygn, ygc)) : wpY_doStep Q (nI ns, nI t, nI jc, nI tc, ac, ysp, ja, ji, jn, yhw, ywn, tj, tt, yst, ypl, ydn, yak, ywt, yun, yrs, yvr, yhd, ypa, ypi, ypd, ygs, ygn, ygc) (nI i) := by
  subst h0 hap hbp
  have f1 : ¬ nI a < 0 := nI_pos (by omega)
  have f2 : ¬ (3 : Int32) < nI a := Int32.not_lt.mpr (nI_le (b := 3) (by omega) (by decide))
  simp (disch := omega) only [wpY_doStep, wpY_part, wpY_isIn, wY_doStep_48, wY_doStep_76, wY_doStep_121, sa_in, nI_clamp, nI_1, nI_add, sa_p0, sa_p2, sa_p3, sa_m3, sa_m4, sa_m6, sa_m7, sa_m200, forall_eq, pk_us, true_and, and_true, true_implies, not_true_eq_false, not_false_eq_true, false_implies, eq_self, sa_n0, sa_n1, sa_m1, hpl, s0, s1, s2, s3, f1, f2, sa_k1, sa_k2, sa_kl2]
  exact K
theorem sa_y_do (hi : i < 3) (hp : pl < 20) (hpl : ypl i = nI pl) (s0 : ysp (4 * pl) = k0) (s1 : ysp (4 * pl + 1) = p) (s2 : ysp (4 * pl + 2) = q) (s3 : ysp (4 * pl + 3) = r) (h0 : k0 = 3) (hap : p = nI a) (ha : a < 4) (hbp : q = nI b) (hb : b < 4) (hx : yvr (4 * i + b) = x) (hk : yak i = nI n) (hn : n < 30) (hj : jc < 90)
    (K : Q (nI ns, nI t, nI (jc + 1), nI tc, ac, ysp, upd ja jc (nI a), upd ji jc x, upd jn jc 0, upd yhw jc 1, upd ywn jc (nI t), tj, tt, yst, ypl, ydn, upd yak i (nI (n + 1)), upd ywt i 1, upd yun i (nI jc), yrs, yvr, yhd, ypa, ypi, ypd, ygs, ygn, ygc)) : wpY_doStep Q (nI ns, nI t, nI jc, nI tc, ac, ysp, ja, ji, jn, yhw, ywn, tj, tt, yst, ypl, ydn, yak, ywt, yun, yrs, yvr, yhd, ypa, ypi, ypd, ygs, ygn, ygc) (nI i) := by
  subst h0 hap hbp
  have f1 : ¬ nI a < 0 := nI_pos (by omega)
  have f2 : ¬ (3 : Int32) < nI a := Int32.not_lt.mpr (nI_le (b := 3) (by omega) (by decide))
  have g1 : ¬ nI jc < 0 := nI_pos (by omega)
  simp (disch := omega) only [wpY_doStep, wpY_part, wpY_isIn, wY_doStep_48, wpY_doJobs, sa_in, nI_clamp, nI_1, nI_add, sa_p0, sa_p2, sa_p3, sa_m3, sa_m4, sa_m6, sa_m7, sa_m200, forall_eq, pk_us, true_and, and_true, true_implies, not_true_eq_false, not_false_eq_true, false_implies, eq_self, sa_n0, sa_n1, sa_m1, hpl, s0, s1, s2, s3, f1, f2, hx, sa_k1, sa_kl3]
  refine sa_yask hi hk hn hj ?_
  simp (disch := omega) only [wpY_waitFor, sa_in, nI_clamp, nI_1, nI_add, sa_p0, sa_p2, sa_p3, sa_m3, sa_m4, sa_m6, sa_m7, sa_m200, forall_eq, pk_us, true_and, and_true, true_implies, not_true_eq_false, not_false_eq_true, false_implies, eq_self, sa_n0, sa_n1, sa_m1, g1]
  exact K
theorem sa_y_dox (hi : i < 3) (hp : pl < 20) (hpl : ypl i = nI pl) (s0 : ysp (4 * pl) = k0) (s1 : ysp (4 * pl + 1) = p) (s2 : ysp (4 * pl + 2) = q) (s3 : ysp (4 * pl + 3) = r) (h0 : k0 = 3) (hap : p = nI a) (ha : a < 4) (hbp : q = nI b) (hb : b < 4) (hk : yak i = 30)
    (K : Q (nI ns, nI t, nI jc, nI tc, ac, ysp, ja, ji, jn, yhw, ywn, tj, tt, upd yst i 5, ypl, ydn, yak, ywt, yun, yrs, yvr, yhd, ypa, ypi, ypd, ygs, ygn, ygc)) : wpY_doStep Q (nI ns, nI t, nI jc, nI tc, ac, ysp, ja, ji, jn, yhw, ywn, tj, tt, yst, ypl, ydn, yak, ywt, yun, yrs, yvr, yhd, ypa, ypi, ypd, ygs, ygn, ygc) (nI i) := by
  subst h0 hap hbp
  have f1 : ¬ nI a < 0 := nI_pos (by omega)
  have f2 : ¬ (3 : Int32) < nI a := Int32.not_lt.mpr (nI_le (b := 3) (by omega) (by decide))
  simp (disch := omega) only [wpY_doStep, wpY_part, wpY_isIn, wY_doStep_48, wpY_doJobs, sa_in, nI_clamp, nI_1, nI_add, sa_p0, sa_p2, sa_p3, sa_m3, sa_m4, sa_m6, sa_m7, sa_m200, forall_eq, pk_us, true_and, and_true, true_implies, not_true_eq_false, not_false_eq_true, false_implies, eq_self, sa_n0, sa_n1, sa_m1, hpl, s0, s1, s2, s3, f1, f2, sa_k1, sa_kl3]
  refine sa_yaskx hi hk ?_
  simp (disch := omega) only [sa_in, nI_clamp, nI_1, nI_add, sa_p0, sa_p2, sa_p3, sa_m3, sa_m4, sa_m6, sa_m7, sa_m200, forall_eq, pk_us, true_and, and_true, true_implies, not_true_eq_false, not_false_eq_true, false_implies, eq_self, sa_n0, sa_n1, sa_m1, show (-1 : Int32) < 0 from by decide]
  exact K
theorem sa_y_start (hi : i < 3) (hp : pl < 20) (hpl : ypl i = nI pl) (s0 : ysp (4 * pl) = k0) (s1 : ysp (4 * pl + 1) = p) (s2 : ysp (4 * pl + 2) = q) (s3 : ysp (4 * pl + 3) = r) (h0 : k0 = 4) (hap : p = nI a) (ha : a < 4) (hbp : q = nI b) (hb : b < 4) (hcp : r = nI c) (hc : c < 3) (hh : yhd (3 * i + c) = -1) (hx : yvr (4 * i + b) = x) (hk : yak i = nI n) (hn : n < 30) (hj : jc < 90)
    (K : Q (nI ns, nI t, nI (jc + 1), nI tc, ac, ysp, upd ja jc (nI a), upd ji jc x, upd jn jc 0, upd yhw jc 1, upd ywn jc (nI t), tj, tt, yst, upd ypl i (nI (pl + 1)), ydn, upd yak i (nI (n + 1)), ywt, yun, yrs, yvr, upd yhd (3 * i + c) (nI jc), ypa, ypi, ypd, ygs, ygn, ygc)) : wpY_doStep Q (nI ns, nI t, nI jc, nI tc, ac, ysp, ja, ji, jn, yhw, ywn, tj, tt, yst, ypl, ydn, yak, ywt, yun, yrs, yvr, yhd, ypa, ypi, ypd, ygs, ygn, ygc) (nI i) := by
  subst h0 hap hbp hcp
  have f1 : ¬ nI a < 0 := nI_pos (by omega)
  have f2 : ¬ (3 : Int32) < nI a := Int32.not_lt.mpr (nI_le (b := 3) (by omega) (by decide))
  simp (disch := omega) only [wpY_doStep, wpY_part, wpY_isIn, wY_doStep_48, wpY_doJobs, sa_in, nI_clamp, nI_1, nI_add, sa_p0, sa_p2, sa_p3, sa_m3, sa_m4, sa_m6, sa_m7, sa_m200, forall_eq, pk_us, true_and, and_true, true_implies, not_true_eq_false, not_false_eq_true, false_implies, eq_self, sa_n0, sa_n1, sa_m1, hpl, s0, s1, s2, s3, f1, f2, hx, hh, sa_k1, sa_k4, sa_kl4, show (-1 : Int32) < 0 from by decide]
  refine sa_yask hi hk hn hj ?_
  simp (disch := omega) only [sa_in, nI_clamp, nI_1, nI_add, sa_p0, sa_p2, sa_p3, sa_m3, sa_m4, sa_m6, sa_m7, sa_m200, forall_eq, pk_us, true_and, and_true, true_implies, not_true_eq_false, not_false_eq_true, false_implies, eq_self, sa_n0, sa_n1, sa_m1, hpl]
  exact K
theorem sa_y_startx1 (hi : i < 3) (hp : pl < 20) (hpl : ypl i = nI pl) (s0 : ysp (4 * pl) = k0) (s1 : ysp (4 * pl + 1) = p) (s2 : ysp (4 * pl + 2) = q) (s3 : ysp (4 * pl + 3) = r) (h0 : k0 = 4) (hap : p = nI a) (ha : a < 4) (hbp : q = nI b) (hb : b < 4) (hcp : r = nI c) (hc : c < 3) (hh : yhd (3 * i + c) = nI n) (hn : n < 90)
    (K : Q (nI ns, nI t, nI jc, nI tc, ac, ysp, ja, ji, jn, yhw, ywn, tj, tt, upd yst i 5, ypl, ydn, yak, ywt, yun, yrs, yvr, yhd, ypa, ypi, ypd, ygs, ygn, ygc)) : wpY_doStep Q (nI ns, nI t, nI jc, nI tc, ac, ysp, ja, ji, jn, yhw, ywn, tj, tt, yst, ypl, ydn, yak, ywt, yun, yrs, yvr, yhd, ypa, ypi, ypd, ygs, ygn, ygc) (nI i) := by
  subst h0 hap hbp hcp
  have f1 : ¬ nI a < 0 := nI_pos (by omega)
  have f2 : ¬ (3 : Int32) < nI a := Int32.not_lt.mpr (nI_le (b := 3) (by omega) (by decide))
  have g1 : ¬ nI n < 0 := nI_pos (by omega)
  simp (disch := omega) only [wpY_doStep, wpY_part, wpY_isIn, wY_doStep_48, wpY_doJobs, sa_in, nI_clamp, nI_1, nI_add, sa_p0, sa_p2, sa_p3, sa_m3, sa_m4, sa_m6, sa_m7, sa_m200, forall_eq, pk_us, true_and, and_true, true_implies, not_true_eq_false, not_false_eq_true, false_implies, eq_self, sa_n0, sa_n1, sa_m1, hpl, s0, s1, s2, s3, f1, f2, hh, g1, sa_k1, sa_k4, sa_kl4]
  exact K
theorem sa_y_startx2 (hi : i < 3) (hp : pl < 20) (hpl : ypl i = nI pl) (s0 : ysp (4 * pl) = k0) (s1 : ysp (4 * pl + 1) = p) (s2 : ysp (4 * pl + 2) = q) (s3 : ysp (4 * pl + 3) = r) (h0 : k0 = 4) (hap : p = nI a) (ha : a < 4) (hbp : q = nI b) (hb : b < 4) (hcp : r = nI c) (hc : c < 3) (hh : yhd (3 * i + c) = -1) (hk : yak i = 30)
    (K : Q (nI ns, nI t, nI jc, nI tc, ac, ysp, ja, ji, jn, yhw, ywn, tj, tt, upd yst i 5, upd ypl i (nI (pl + 1)), ydn, yak, ywt, yun, yrs, yvr, upd yhd (3 * i + c) (-1), ypa, ypi, ypd, ygs, ygn, ygc)) : wpY_doStep Q (nI ns, nI t, nI jc, nI tc, ac, ysp, ja, ji, jn, yhw, ywn, tj, tt, yst, ypl, ydn, yak, ywt, yun, yrs, yvr, yhd, ypa, ypi, ypd, ygs, ygn, ygc) (nI i) := by
  subst h0 hap hbp hcp
  have f1 : ¬ nI a < 0 := nI_pos (by omega)
  have f2 : ¬ (3 : Int32) < nI a := Int32.not_lt.mpr (nI_le (b := 3) (by omega) (by decide))
  simp (disch := omega) only [wpY_doStep, wpY_part, wpY_isIn, wY_doStep_48, wpY_doJobs, sa_in, nI_clamp, nI_1, nI_add, sa_p0, sa_p2, sa_p3, sa_m3, sa_m4, sa_m6, sa_m7, sa_m200, forall_eq, pk_us, true_and, and_true, true_implies, not_true_eq_false, not_false_eq_true, false_implies, eq_self, sa_n0, sa_n1, sa_m1, hpl, s0, s1, s2, s3, f1, f2, hh, sa_k1, sa_k4, sa_kl4, show (-1 : Int32) < 0 from by decide]
  refine sa_yaskx hi hk ?_
  simp (disch := omega) only [sa_in, nI_clamp, nI_1, nI_add, sa_p0, sa_p2, sa_p3, sa_m3, sa_m4, sa_m6, sa_m7, sa_m200, forall_eq, pk_us, true_and, and_true, true_implies, not_true_eq_false, not_false_eq_true, false_implies, eq_self, sa_n0, sa_n1, sa_m1, hpl]
  exact K
theorem sa_y_await (hi : i < 3) (hp : pl < 20) (hpl : ypl i = nI pl) (s0 : ysp (4 * pl) = k0) (s1 : ysp (4 * pl + 1) = p) (s2 : ysp (4 * pl + 2) = q) (s3 : ysp (4 * pl + 3) = r) (h0 : k0 = 5) (hap : p = nI a) (ha : a < 3) (hbp : q = nI b) (hb : b < 4) (hh : yhd (3 * i + a) = nI n) (hn : n < 90)
    (K : Q (nI ns, nI t, nI jc, nI tc, ac, ysp, ja, ji, jn, yhw, ywn, tj, tt, yst, ypl, ydn, yak, upd ywt i 1, upd yun i (nI n), yrs, yvr, yhd, ypa, ypi, ypd, ygs, ygn, ygc)) : wpY_doStep Q (nI ns, nI t, nI jc, nI tc, ac, ysp, ja, ji, jn, yhw, ywn, tj, tt, yst, ypl, ydn, yak, ywt, yun, yrs, yvr, yhd, ypa, ypi, ypd, ygs, ygn, ygc) (nI i) := by
  subst h0 hap hbp
  have f1 : ¬ nI a < 0 := nI_pos (by omega)
  have f2 : ¬ (3 : Int32) < nI a := Int32.not_lt.mpr (nI_le (b := 3) (by omega) (by decide))
  have g1 : 0 ≤ nI n := nI_pos' (by omega)
  simp (disch := omega) only [wpY_doStep, wpY_part, wpY_isIn, wY_doStep_48, wpY_doJobs, wpY_waitFor, sa_in, nI_clamp, nI_1, nI_add, sa_p0, sa_p2, sa_p3, sa_m3, sa_m4, sa_m6, sa_m7, sa_m200, forall_eq, pk_us, true_and, and_true, true_implies, not_true_eq_false, not_false_eq_true, false_implies, eq_self, sa_n0, sa_n1, sa_m1, hpl, s0, s1, s2, s3, f1, f2, hh, g1, sa_k1, sa_k5, sa_kl5]
  exact K
theorem sa_y_awaitx (hi : i < 3) (hp : pl < 20) (hpl : ypl i = nI pl) (s0 : ysp (4 * pl) = k0) (s1 : ysp (4 * pl + 1) = p) (s2 : ysp (4 * pl + 2) = q) (s3 : ysp (4 * pl + 3) = r) (h0 : k0 = 5) (hap : p = nI a) (ha : a < 3) (hbp : q = nI b) (hb : b < 4) (hh : yhd (3 * i + a) = -1)
    (K : Q (nI ns, nI t, nI jc, nI tc, ac, ysp, ja, ji, jn, yhw, ywn, tj, tt, upd yst i 5, ypl, ydn, yak, ywt, yun, yrs, yvr, yhd, ypa, ypi, ypd, ygs, ygn, ygc)) : wpY_doStep Q (nI ns, nI t, nI jc, nI tc, ac, ysp, ja, ji, jn, yhw, ywn, tj, tt, yst, ypl, ydn, yak, ywt, yun, yrs, yvr, yhd, ypa, ypi, ypd, ygs, ygn, ygc) (nI i) := by
  subst h0 hap hbp
  have f1 : ¬ nI a < 0 := nI_pos (by omega)
  have f2 : ¬ (3 : Int32) < nI a := Int32.not_lt.mpr (nI_le (b := 3) (by omega) (by decide))
  simp (disch := omega) only [wpY_doStep, wpY_part, wpY_isIn, wY_doStep_48, wpY_doJobs, sa_in, nI_clamp, nI_1, nI_add, sa_p0, sa_p2, sa_p3, sa_m3, sa_m4, sa_m6, sa_m7, sa_m200, forall_eq, pk_us, true_and, and_true, true_implies, not_true_eq_false, not_false_eq_true, false_implies, eq_self, sa_n0, sa_n1, sa_m1, hpl, s0, s1, s2, s3, f1, f2, hh, sa_k1, sa_k5, sa_kl5, show ¬ (0 : Int32) ≤ -1 from by decide]
  exact K
theorem sa_y_undo (hi : i < 3) (hp : pl < 20) (hpl : ypl i = nI pl) (s0 : ysp (4 * pl) = k0) (s1 : ysp (4 * pl + 1) = p) (s2 : ysp (4 * pl + 2) = q) (s3 : ysp (4 * pl + 3) = r) (h0 : k0 = 6) (hap : p = nI a) (ha : a < 4) (hbp : q = nI b) (hb : b < 4) (hpn : ypd i = nI pn) (hpn2 : pn < 200)
    (K : Q (nI ns, nI t, nI jc, nI tc, ac, ysp, ja, ji, jn, yhw, ywn, tj, tt, yst, upd ypl i (nI (pl + 1)), ydn, yak, ywt, yun, yrs, yvr, yhd, upd ypa (200 * i + pn) (nI a), upd ypi (200 * i + pn) (yvr (4 * i + b)), upd ypd i (nI (pn + 1)), ygs, ygn, ygc)) : wpY_doStep Q (nI ns, nI t, nI jc, nI tc, ac, ysp, ja, ji, jn, yhw, ywn, tj, tt, yst, ypl, ydn, yak, ywt, yun, yrs, yvr, yhd, ypa, ypi, ypd, ygs, ygn, ygc) (nI i) := by
  subst h0 hap hbp
  have f1 : ¬ nI a < 0 := nI_pos (by omega)
  have f2 : ¬ (3 : Int32) < nI a := Int32.not_lt.mpr (nI_le (b := 3) (by omega) (by decide))
  simp (disch := omega) only [wpY_doStep, wpY_part, wpY_isIn, wY_doStep_48, wpY_doJobs, sa_in, nI_clamp, nI_1, nI_add, sa_p0, sa_p2, sa_p3, sa_m3, sa_m4, sa_m6, sa_m7, sa_m200, forall_eq, pk_us, true_and, and_true, true_implies, not_true_eq_false, not_false_eq_true, false_implies, eq_self, sa_n0, sa_n1, sa_m1, hpl, s0, s1, s2, s3, f1, f2, hpn, sa_k1, sa_k6, sa_kl6]
  exact K
theorem sa_y_sleep (hi : i < 3) (hp : pl < 20) (hpl : ypl i = nI pl) (s0 : ysp (4 * pl) = k0) (s1 : ysp (4 * pl + 1) = p) (s2 : ysp (4 * pl + 2) = q) (s3 : ysp (4 * pl + 3) = r) (h0 : k0 = 7) (hap : p = nI a) (ha : a < 4)
    (K : Q (nI ns, nI t, nI jc, nI tc, ac, ysp, ja, ji, jn, yhw, ywn, tj, tt, yst, ypl, ydn, yak, upd ywt i 2, upd yun i (nI t + sa_cl (yvr (4 * i + a))), yrs, yvr, yhd, ypa, ypi, ypd, ygs, ygn, ygc)) : wpY_doStep Q (nI ns, nI t, nI jc, nI tc, ac, ysp, ja, ji, jn, yhw, ywn, tj, tt, yst, ypl, ydn, yak, ywt, yun, yrs, yvr, yhd, ypa, ypi, ypd, ygs, ygn, ygc) (nI i) := by
  subst h0 hap
  have f1 : ¬ nI a < 0 := nI_pos (by omega)
  have f2 : ¬ (3 : Int32) < nI a := Int32.not_lt.mpr (nI_le (b := 3) (by omega) (by decide))
  simp (disch := omega) only [wpY_doStep, wpY_part, wpY_isIn, wY_doStep_48, wY_doStep_199, wpY_waitFor, sa_in, nI_clamp, nI_1, nI_add, sa_p0, sa_p2, sa_p3, sa_m3, sa_m4, sa_m6, sa_m7, sa_m200, forall_eq, pk_us, true_and, and_true, true_implies, not_true_eq_false, not_false_eq_true, false_implies, eq_self, sa_n0, sa_n1, sa_m1, hpl, s0, s1, s2, s3, f1, f2, sa_k1, sa_k7, sa_kl7]
  unfold sa_cl at K
  refine br_c (fun e => br_c (fun e' => ?_) (fun e' => ?_)) (fun e => ?_)
  · rw [if_pos e, if_pos e'] at K
    exact K
  · rw [if_pos e, if_neg e'] at K
    exact K
  · rw [if_neg e, sa_p0] at K
    exact K
theorem sa_y_jump (hi : i < 3) (hp : pl < 20) (hpl : ypl i = nI pl) (s0 : ysp (4 * pl) = k0) (s1 : ysp (4 * pl + 1) = p) (s2 : ysp (4 * pl + 2) = q) (s3 : ysp (4 * pl + 3) = r) (h0 : k0 = 8) (hap : p = nI a) (ha : a < 20)
    (K : Q (nI ns, nI t, nI jc, nI tc, ac, ysp, ja, ji, jn, yhw, ywn, tj, tt, yst, upd ypl i (nI a), ydn, yak, ywt, yun, yrs, yvr, yhd, ypa, ypi, ypd, ygs, ygn, ygc)) : wpY_doStep Q (nI ns, nI t, nI jc, nI tc, ac, ysp, ja, ji, jn, yhw, ywn, tj, tt, yst, ypl, ydn, yak, ywt, yun, yrs, yvr, yhd, ypa, ypi, ypd, ygs, ygn, ygc) (nI i) := by
  subst h0 hap
  have f1 : ¬ nI a < 0 := nI_pos (by omega)
  by_cases f2 : (3 : Int32) < nI a
  · simp (disch := omega) only [wpY_doStep, wpY_part, wpY_isIn, wY_doStep_48, sa_in, nI_clamp, nI_1, nI_add, sa_p0, sa_p2, sa_p3, sa_m3, sa_m4, sa_m6, sa_m7, sa_m200, forall_eq, pk_us, true_and, and_true, true_implies, not_true_eq_false, not_false_eq_true, false_implies, eq_self, sa_n0, sa_n1, sa_m1, hpl, s0, s1, s2, s3, f1, f2, sa_k1, sa_k8, sa_kl8]
    exact K
  · simp (disch := omega) only [wpY_doStep, wpY_part, wpY_isIn, wY_doStep_48, sa_in, nI_clamp, nI_1, nI_add, sa_p0, sa_p2, sa_p3, sa_m3, sa_m4, sa_m6, sa_m7, sa_m200, forall_eq, pk_us, true_and, and_true, true_implies, not_true_eq_false, not_false_eq_true, false_implies, eq_self, sa_n0, sa_n1, sa_m1, hpl, s0, s1, s2, s3, f1, f2, sa_k1, sa_k8, sa_kl8]
    exact K
theorem sa_y_less1 (hi : i < 3) (hp : pl < 20) (hpl : ypl i = nI pl) (s0 : ysp (4 * pl) = k0) (s1 : ysp (4 * pl + 1) = p) (s2 : ysp (4 * pl + 2) = q) (s3 : ysp (4 * pl + 3) = r) (h0 : k0 = 9) (hap : p = nI a) (ha : a < 4) (hbp : q = nI b) (hb : b < 4) (e : yvr (4 * i + b) ≤ yvr (4 * i + a))
    (K : Q (nI ns, nI t, nI jc, nI tc, ac, ysp, ja, ji, jn, yhw, ywn, tj, tt, yst, upd ypl i (nI (pl + 1)), ydn, yak, ywt, yun, yrs, yvr, yhd, ypa, ypi, ypd, ygs, ygn, ygc)) : wpY_doStep Q (nI ns, nI t, nI jc, nI tc, ac, ysp, ja, ji, jn, yhw, ywn, tj, tt, yst, ypl, ydn, yak, ywt, yun, yrs, yvr, yhd, ypa, ypi, ypd, ygs, ygn, ygc) (nI i) := by
  subst h0 hap hbp
  have f1 : ¬ nI a < 0 := nI_pos (by omega)
  have f2 : ¬ (3 : Int32) < nI a := Int32.not_lt.mpr (nI_le (b := 3) (by omega) (by decide))
  simp (disch := omega) only [wpY_doStep, wpY_part, wpY_isIn, wY_doStep_48, sa_in, nI_clamp, nI_1, nI_add, sa_p0, sa_p2, sa_p3, sa_m3, sa_m4, sa_m6, sa_m7, sa_m200, forall_eq, pk_us, true_and, and_true, true_implies, not_true_eq_false, not_false_eq_true, false_implies, eq_self, sa_n0, sa_n1, sa_m1, hpl, s0, s1, s2, s3, f1, f2, e, sa_k1, sa_k9, sa_kl9]
  exact K
theorem sa_y_less2 (hi : i < 3) (hp : pl < 20) (hpl : ypl i = nI pl) (s0 : ysp (4 * pl) = k0) (s1 : ysp (4 * pl + 1) = p) (s2 : ysp (4 * pl + 2) = q) (s3 : ysp (4 * pl + 3) = r) (h0 : k0 = 9) (hap : p = nI a) (ha : a < 4) (hbp : q = nI b) (hb : b < 4) (e : ¬ yvr (4 * i + b) ≤ yvr (4 * i + a))
    (K : Q (nI ns, nI t, nI jc, nI tc, ac, ysp, ja, ji, jn, yhw, ywn, tj, tt, yst, upd ypl i r, ydn, yak, ywt, yun, yrs, yvr, yhd, ypa, ypi, ypd, ygs, ygn, ygc)) : wpY_doStep Q (nI ns, nI t, nI jc, nI tc, ac, ysp, ja, ji, jn, yhw, ywn, tj, tt, yst, ypl, ydn, yak, ywt, yun, yrs, yvr, yhd, ypa, ypi, ypd, ygs, ygn, ygc) (nI i) := by
  subst h0 hap hbp
  have f1 : ¬ nI a < 0 := nI_pos (by omega)
  have f2 : ¬ (3 : Int32) < nI a := Int32.not_lt.mpr (nI_le (b := 3) (by omega) (by decide))
  simp (disch := omega) only [wpY_doStep, wpY_part, wpY_isIn, wY_doStep_48, sa_in, nI_clamp, nI_1, nI_add, sa_p0, sa_p2, sa_p3, sa_m3, sa_m4, sa_m6, sa_m7, sa_m200, forall_eq, pk_us, true_and, and_true, true_implies, not_true_eq_false, not_false_eq_true, false_implies, eq_self, sa_n0, sa_n1, sa_m1, hpl, s0, s1, s2, s3, f1, f2, e, sa_k1, sa_k9, sa_kl9]
  exact K
theorem sa_y_signal (hi : i < 3) (hp : pl < 20) (hpl : ypl i = nI pl) (s0 : ysp (4 * pl) = k0) (s1 : ysp (4 * pl + 1) = p) (s2 : ysp (4 * pl + 2) = q) (s3 : ysp (4 * pl + 3) = r) (h0 : k0 = 10) (hap : p = nI a) (ha : a < 4)
    (K : Q (nI ns, nI t, nI jc, nI tc, ac, ysp, ja, ji, jn, yhw, ywn, tj, tt, yst, ypl, ydn, yak, upd ywt i 3, upd yun i (nI t + r), yrs, yvr, yhd, ypa, ypi, ypd, ygs, ygn, ygc)) : wpY_doStep Q (nI ns, nI t, nI jc, nI tc, ac, ysp, ja, ji, jn, yhw, ywn, tj, tt, yst, ypl, ydn, yak, ywt, yun, yrs, yvr, yhd, ypa, ypi, ypd, ygs, ygn, ygc) (nI i) := by
  subst h0 hap
  have f1 : ¬ nI a < 0 := nI_pos (by omega)
  have f2 : ¬ (3 : Int32) < nI a := Int32.not_lt.mpr (nI_le (b := 3) (by omega) (by decide))
  simp (disch := omega) only [wpY_doStep, wpY_part, wpY_isIn, wY_doStep_48, wpY_waitFor, sa_in, nI_clamp, nI_1, nI_add, sa_p0, sa_p2, sa_p3, sa_m3, sa_m4, sa_m6, sa_m7, sa_m200, forall_eq, pk_us, true_and, and_true, true_implies, not_true_eq_false, not_false_eq_true, false_implies, eq_self, sa_n0, sa_n1, sa_m1, hpl, s0, s1, s2, s3, f1, f2, sa_k1, sa_k10, sa_kl10]
  exact K
theorem sa_y_ends (hi : i < 3) (hp : pl < 20) (hpl : ypl i = nI pl) (s0 : ysp (4 * pl) = k0) (s1 : ysp (4 * pl + 1) = p) (s2 : ysp (4 * pl + 2) = q) (s3 : ysp (4 * pl + 3) = r) (h0 : k0 = 11) (hap : p = nI a) (ha : a < 4)
    (K : Q (nI ns, nI t, nI jc, nI tc, ac, ysp, ja, ji, jn, yhw, ywn, tj, tt, upd yst i 2, ypl, ydn, yak, ywt, yun, upd yrs i (yvr (4 * i + a)), yvr, yhd, ypa, ypi, ypd, ygs, ygn, ygc)) : wpY_doStep Q (nI ns, nI t, nI jc, nI tc, ac, ysp, ja, ji, jn, yhw, ywn, tj, tt, yst, ypl, ydn, yak, ywt, yun, yrs, yvr, yhd, ypa, ypi, ypd, ygs, ygn, ygc) (nI i) := by
  subst h0 hap
  have f1 : ¬ nI a < 0 := nI_pos (by omega)
  have f2 : ¬ (3 : Int32) < nI a := Int32.not_lt.mpr (nI_le (b := 3) (by omega) (by decide))
  simp (disch := omega) only [wpY_doStep, wpY_part, wpY_isIn, wY_doStep_48, sa_in, nI_clamp, nI_1, nI_add, sa_p0, sa_p2, sa_p3, sa_m3, sa_m4, sa_m6, sa_m7, sa_m200, forall_eq, pk_us, true_and, and_true, true_implies, not_true_eq_false, not_false_eq_true, false_implies, eq_self, sa_n0, sa_n1, sa_m1, hpl, s0, s1, s2, s3, f1, f2, sa_k1, sa_k11, sa_kl11]
  exact K
theorem sa_y_fail (hi : i < 3) (hp : pl < 20) (hpl : ypl i = nI pl) (s0 : ysp (4 * pl) = k0) (s1 : ysp (4 * pl + 1) = p) (s2 : ysp (4 * pl + 2) = q) (s3 : ysp (4 * pl + 3) = r) (h0 : k0 = 12)
    (K : ∀ R : SY → Prop, (∀ w, Q w → R w) → wpY_takeBack R (nI ns, nI t, nI jc, nI tc, ac, ysp, ja, ji, jn, yhw, ywn, tj, tt, yst, ypl, ydn, yak, ywt, yun, yrs, yvr, yhd, ypa, ypi, ypd, ygs, ygn, ygc) (nI i)) : wpY_doStep Q (nI ns, nI t, nI jc, nI tc, ac, ysp, ja, ji, jn, yhw, ywn, tj, tt, yst, ypl, ydn, yak, ywt, yun, yrs, yvr, yhd, ypa, ypi, ypd, ygs, ygn, ygc) (nI i) := by
  subst h0
  have KK : wpY_takeBack (fun u => match u with | (yns', ynow', yjc', ytc', yac', ysp', yja', yji', yjn', yhw', ywn', ytj', ytt', yst', ypl', ydn', yak', ywt', yun', yrs', yvr', yhd', ypa', ypi', ypd', ygs', ygn', ygc') => Q (yns', ynow', yjc', ytc', yac', ysp', yja', yji', yjn', yhw', ywn', ytj', ytt', yst', ypl', ydn', yak', ywt', yun', yrs', yvr', yhd', ypa', ypi', ypd', ygs', ygn', ygc')) (nI ns, nI t, nI jc, nI tc, ac, ysp, ja, ji, jn, yhw, ywn, tj, tt, yst, ypl, ydn, yak, ywt, yun, yrs, yvr, yhd, ypa, ypi, ypd, ygs, ygn, ygc) (nI i) := by
    refine K _ ?_
    intro w hw
    obtain ⟨yns, ynow, yjc, ytc, yac, ysp, yja, yji, yjn, yhw, ywn, ytj, ytt, yst, ypl, ydn, yak, ywt, yun, yrs, yvr, yhd, ypa, ypi, ypd, ygs, ygn, ygc⟩ := w
    exact hw
  by_cases f1 : p < 0
  · simp (disch := omega) only [wpY_doStep, wpY_part, wpY_isIn, wY_doStep_48, sa_in, nI_clamp, nI_1, nI_add, sa_p0, sa_p2, sa_p3, sa_m3, sa_m4, sa_m6, sa_m7, sa_m200, forall_eq, pk_us, true_and, and_true, true_implies, not_true_eq_false, not_false_eq_true, false_implies, eq_self, sa_n0, sa_n1, sa_m1, hpl, s0, s1, s2, s3, f1, sa_k1, sa_k12, sa_kl12]
    exact KK
  · by_cases f2 : (3 : Int32) < p
    · simp (disch := omega) only [wpY_doStep, wpY_part, wpY_isIn, wY_doStep_48, sa_in, nI_clamp, nI_1, nI_add, sa_p0, sa_p2, sa_p3, sa_m3, sa_m4, sa_m6, sa_m7, sa_m200, forall_eq, pk_us, true_and, and_true, true_implies, not_true_eq_false, not_false_eq_true, false_implies, eq_self, sa_n0, sa_n1, sa_m1, hpl, s0, s1, s2, s3, f1, f2, sa_k1, sa_k12, sa_kl12]
      exact KK
    · simp (disch := omega) only [wpY_doStep, wpY_part, wpY_isIn, wY_doStep_48, sa_in, nI_clamp, nI_1, nI_add, sa_p0, sa_p2, sa_p3, sa_m3, sa_m4, sa_m6, sa_m7, sa_m200, forall_eq, pk_us, true_and, and_true, true_implies, not_true_eq_false, not_false_eq_true, false_implies, eq_self, sa_n0, sa_n1, sa_m1, hpl, s0, s1, s2, s3, f1, f2, sa_k1, sa_k12, sa_kl12]
      exact KK
/-! taking back -/
theorem sa_tb_e (hi : i < 3) (hp : ypd i = 0) (K : Q (nI ns, nI t, nI jc, nI tc, ac, ysp, ja, ji, jn, yhw, ywn, tj, tt, upd yst i 3, ypl, ydn, yak, ywt, yun, yrs, yvr, yhd, ypa, ypi, ypd, ygs, ygn, ygc)) : wpY_takeBack Q (nI ns, nI t, nI jc, nI tc, ac, ysp, ja, ji, jn, yhw, ywn, tj, tt, yst, ypl, ydn, yak, ywt, yun, yrs, yvr, yhd, ypa, ypi, ypd, ygs, ygn, ygc) (nI i) := by
  simp (disch := omega) only [wpY_takeBack, sa_in, nI_clamp, nI_1, nI_add, sa_p0, sa_p2, sa_p3, sa_m3, sa_m4, sa_m6, sa_m7, sa_m200, forall_eq, pk_us, true_and, and_true, true_implies, not_true_eq_false, not_false_eq_true, false_implies, eq_self, sa_n0, sa_n1, sa_m1, hp]
  exact K
theorem sa_tb_x (hi : i < 3) (hp : ypd i = nI (m + 1)) (hm : m < 200) (hk : yak i = 30) (K : Q (nI ns, nI t, nI jc, nI tc, ac, ysp, ja, ji, jn, yhw, ywn, tj, tt, upd yst i 5, ypl, ydn, yak, ywt, yun, yrs, yvr, yhd, ypa, ypi, ypd, ygs, ygn, ygc)) : wpY_takeBack Q (nI ns, nI t, nI jc, nI tc, ac, ysp, ja, ji, jn, yhw, ywn, tj, tt, yst, ypl, ydn, yak, ywt, yun, yrs, yvr, yhd, ypa, ypi, ypd, ygs, ygn, ygc) (nI i) := by
  have f2 : ¬ nI (m + 1) = 0 := by rw [sa_e0 (by omega)]; omega
  have f3 : nI (200 * i + (m + 1)) - 1 = nI (200 * i + m) := nI_pred _
  simp (disch := omega) only [wpY_takeBack, sa_in, nI_clamp, nI_1, nI_add, sa_p0, sa_p2, sa_p3, sa_m3, sa_m4, sa_m6, sa_m7, sa_m200, forall_eq, pk_us, true_and, and_true, true_implies, not_true_eq_false, not_false_eq_true, false_implies, eq_self, sa_n0, sa_n1, sa_m1, hp, f2, f3]
  refine sa_yaskx hi hk ?_
  simp (disch := omega) only [sa_in, nI_clamp, nI_1, nI_add, sa_p0, sa_p2, sa_p3, sa_m3, sa_m4, sa_m6, sa_m7, sa_m200, forall_eq, pk_us, true_and, and_true, true_implies, not_true_eq_false, not_false_eq_true, false_implies, eq_self, sa_n0, sa_n1, sa_m1, show (-1 : Int32) < 0 from by decide]
  exact K
theorem sa_tb_a {g : Int32} (hi : i < 3) (hp : ypd i = nI (m + 1)) (hm : m < 200) (hk : yak i = nI n) (hn : n < 30) (hj : jc < 90) (hg : ypa (200 * i + m) = g) (hx : ypi (200 * i + m) = x)
    (K : Q (nI ns, nI t, nI (jc + 1), nI tc, ac, ysp, upd ja jc g, upd ji jc x, upd jn jc 0, upd yhw jc 1, upd ywn jc (nI t), tj, tt, yst, ypl, ydn, upd yak i (nI (n + 1)), upd ywt i 4, upd yun i (nI jc), yrs, yvr, yhd, ypa, ypi, upd ypd i (nI m), ygs, ygn, ygc)) : wpY_takeBack Q (nI ns, nI t, nI jc, nI tc, ac, ysp, ja, ji, jn, yhw, ywn, tj, tt, yst, ypl, ydn, yak, ywt, yun, yrs, yvr, yhd, ypa, ypi, ypd, ygs, ygn, ygc) (nI i) := by
  have f2 : ¬ nI (m + 1) = 0 := by rw [sa_e0 (by omega)]; omega
  have f3 : nI (200 * i + (m + 1)) - 1 = nI (200 * i + m) := nI_pred _
  have g1 : ¬ nI jc < 0 := nI_pos (by omega)
  simp (disch := omega) only [wpY_takeBack, sa_in, nI_clamp, nI_1, nI_add, sa_p0, sa_p2, sa_p3, sa_m3, sa_m4, sa_m6, sa_m7, sa_m200, forall_eq, pk_us, true_and, and_true, true_implies, not_true_eq_false, not_false_eq_true, false_implies, eq_self, sa_n0, sa_n1, sa_m1, hp, f2, f3, hg, hx]
  refine sa_yask hi hk hn hj ?_
  simp (disch := omega) only [wpY_waitFor, sa_in, nI_clamp, nI_1, nI_add, sa_p0, sa_p2, sa_p3, sa_m3, sa_m4, sa_m6, sa_m7, sa_m200, forall_eq, pk_us, true_and, and_true, true_implies, not_true_eq_false, not_false_eq_true, false_implies, eq_self, sa_n0, sa_n1, sa_m1, g1, hp, nI_pred]
  exact K
end
end
section
/-! the reference's waits -/
section
variable {ysp yhw ywn yst ypl ydn yak ywt yun yrs yvr yhd ypa ypi ypd ygs ygn ygc : Nat → Int32} {ac ja ji jn tj tt : Nat → Int32} {i ns t jc tc pl pn j g a b c f : Nat} {s x y w : Int32} {Q : Int32 → SY → Prop}
/-- time -/
theorem sa_g_t0 (hi : i < 3) (hp : pl < 20) (hpl : ypl i = nI pl) (hw : ywt i = 2) (ht : nI t < yun i) (K : Q 0 (nI ns, nI t, nI jc, nI tc, ac, ysp, ja, ji, jn, yhw, ywn, tj, tt, yst, ypl, ydn, yak, ywt, yun, yrs, yvr, yhd, ypa, ypi, ypd, ygs, ygn, ygc)) : wpY_goOn Q (nI ns, nI t, nI jc, nI tc, ac, ysp, ja, ji, jn, yhw, ywn, tj, tt, yst, ypl, ydn, yak, ywt, yun, yrs, yvr, yhd, ypa, ypi, ypd, ygs, ygn, ygc) (nI i) := by
  simp (disch := omega) only [wpY_goOn, wpY_part, wY_goOn_213, sa_in, nI_clamp, nI_1, nI_add, sa_p0, sa_p2, sa_p3, sa_p5, sa_p6, sa_m3, sa_m4, sa_m6, sa_m7, sa_m200, forall_eq, pk_us, true_and, and_true, true_implies, not_true_eq_false, not_false_eq_true, false_implies, eq_self, sa_n0, sa_n1, sa_m1, hpl, hw, ht, sa_k2]
  exact K
theorem sa_g_t1 (hi : i < 3) (hp : pl < 20) (hpl : ypl i = nI pl) (hw : ywt i = 2) (ht : ¬ nI t < yun i) (K : Q 1 (nI ns, nI t, nI jc, nI tc, ac, ysp, ja, ji, jn, yhw, ywn, tj, tt, yst, upd ypl i (nI (pl + 1)), ydn, yak, upd ywt i 0, yun, yrs, yvr, yhd, ypa, ypi, ypd, ygs, ygn, ygc)) : wpY_goOn Q (nI ns, nI t, nI jc, nI tc, ac, ysp, ja, ji, jn, yhw, ywn, tj, tt, yst, ypl, ydn, yak, ywt, yun, yrs, yvr, yhd, ypa, ypi, ypd, ygs, ygn, ygc) (nI i) := by
  simp (disch := omega) only [wpY_goOn, wpY_part, wY_goOn_213, sa_in, nI_clamp, nI_1, nI_add, sa_p0, sa_p2, sa_p3, sa_p5, sa_p6, sa_m3, sa_m4, sa_m6, sa_m7, sa_m200, forall_eq, pk_us, true_and, and_true, true_implies, not_true_eq_false, not_false_eq_true, false_implies, eq_self, sa_n0, sa_n1, sa_m1, hpl, hw, ht, sa_k2]
  exact K
/-- jobs -/
theorem sa_g_j0 (hi : i < 3) (hp : pl < 20) (hpl : ypl i = nI pl) (hw : ywt i = w) (hw2 : w = 1 ∨ w = 4) (hu : yun i = nI j) (hj : j < 90) (hh : yhw j ≤ 2) (K : Q 0 (nI ns, nI t, nI jc, nI tc, ac, ysp, ja, ji, jn, yhw, ywn, tj, tt, yst, ypl, ydn, yak, ywt, yun, yrs, yvr, yhd, ypa, ypi, ypd, ygs, ygn, ygc)) : wpY_goOn Q (nI ns, nI t, nI jc, nI tc, ac, ysp, ja, ji, jn, yhw, ywn, tj, tt, yst, ypl, ydn, yak, ywt, yun, yrs, yvr, yhd, ypa, ypi, ypd, ygs, ygn, ygc) (nI i) := by
  rcases hw2 with rfl | rfl
  · simp (disch := omega) only [wpY_goOn, wpY_part, wY_goOn_213, sa_in, nI_clamp, nI_1, nI_add, sa_p0, sa_p2, sa_p3, sa_p5, sa_p6, sa_m3, sa_m4, sa_m6, sa_m7, sa_m200, forall_eq, pk_us, true_and, and_true, true_implies, not_true_eq_false, not_false_eq_true, false_implies, eq_self, sa_n0, sa_n1, sa_m1, hpl, hw, hu, hh, sa_k1]
    exact K
  · simp (disch := omega) only [wpY_goOn, wpY_part, wY_goOn_213, sa_in, nI_clamp, nI_1, nI_add, sa_p0, sa_p2, sa_p3, sa_p5, sa_p6, sa_m3, sa_m4, sa_m6, sa_m7, sa_m200, forall_eq, pk_us, true_and, and_true, true_implies, not_true_eq_false, not_false_eq_true, false_implies, eq_self, sa_n0, sa_n1, sa_m1, hpl, hw, hu, hh, sa_k4]
    exact K
theorem sa_g_u0 (hi : i < 3) (hp : pl < 20) (hpl : ypl i = nI pl) (hw : ywt i = 4) (hu : yun i = nI j) (hj : j < 90) (hh : yhw j = 4) (K : Q 1 (nI ns, nI t, nI jc, nI tc, ac, ysp, ja, ji, jn, yhw, ywn, tj, tt, upd yst i 4, ypl, ydn, yak, upd ywt i 0, yun, yrs, yvr, yhd, ypa, ypi, ypd, ygs, ygn, ygc)) : wpY_goOn Q (nI ns, nI t, nI jc, nI tc, ac, ysp, ja, ji, jn, yhw, ywn, tj, tt, yst, ypl, ydn, yak, ywt, yun, yrs, yvr, yhd, ypa, ypi, ypd, ygs, ygn, ygc) (nI i) := by
  simp (disch := omega) only [wpY_goOn, wpY_part, wY_goOn_213, sa_in, nI_clamp, nI_1, nI_add, sa_p0, sa_p2, sa_p3, sa_p5, sa_p6, sa_m3, sa_m4, sa_m6, sa_m7, sa_m200, forall_eq, pk_us, true_and, and_true, true_implies, not_true_eq_false, not_false_eq_true, false_implies, eq_self, sa_n0, sa_n1, sa_m1, hpl, hw, hu, hh, sa_k4, show ¬ (4 : Int32) ≤ 2 from by decide]
  exact K
theorem sa_g_u1 (hi : i < 3) (hp : pl < 20) (hpl : ypl i = nI pl) (hw : ywt i = 4) (hu : yun i = nI j) (hj : j < 90) (hh : yhw j = 3)
    (K : ∀ R : SY → Prop, (∀ v, (match v with | (yns', ynow', yjc', ytc', yac', ysp', yja', yji', yjn', yhw', ywn', ytj', ytt', yst', ypl', ydn', yak', ywt', yun', yrs', yvr', yhd', ypa', ypi', ypd', ygs', ygn', ygc') => (ywt' i = 0 → Q 1 (yns', ynow', yjc', ytc', yac', ysp', yja', yji', yjn', yhw', ywn', ytj', ytt', yst', ypl', ydn', yak', ywt', yun', yrs', yvr', yhd', ypa', ypi', ypd', ygs', ygn', ygc')) ∧ (¬ ywt' i = 0 → Q 0 (yns', ynow', yjc', ytc', yac', ysp', yja', yji', yjn', yhw', ywn', ytj', ytt', yst', ypl', ydn', yak', ywt', yun', yrs', yvr', yhd', ypa', ypi', ypd', ygs', ygn', ygc'))) → R v) → wpY_takeBack R (nI ns, nI t, nI jc, nI tc, ac, ysp, ja, ji, jn, yhw, ywn, tj, tt, yst, ypl, ydn, yak, upd ywt i 0, yun, yrs, yvr, yhd, ypa, ypi, ypd, ygs, ygn, ygc) (nI i)) : wpY_goOn Q (nI ns, nI t, nI jc, nI tc, ac, ysp, ja, ji, jn, yhw, ywn, tj, tt, yst, ypl, ydn, yak, ywt, yun, yrs, yvr, yhd, ypa, ypi, ypd, ygs, ygn, ygc) (nI i) := by
  simp (disch := omega) only [wpY_goOn, wpY_part, wY_goOn_213, sa_in, nI_clamp, nI_1, nI_add, sa_p0, sa_p2, sa_p3, sa_p5, sa_p6, sa_m3, sa_m4, sa_m6, sa_m7, sa_m200, forall_eq, pk_us, true_and, and_true, true_implies, not_true_eq_false, not_false_eq_true, false_implies, eq_self, sa_n0, sa_n1, sa_m1, hpl, hw, hu, hh, sa_k4, sa_k3, show ¬ (3 : Int32) ≤ 2 from by decide]
  refine K _ ?_
  intro v hv
  obtain ⟨yns, ynow, yjc, ytc, yac, ysp, yja, yji, yjn, yhw, ywn, ytj, ytt, yst, ypl, ydn, yak, ywt, yun, yrs, yvr, yhd, ypa, ypi, ypd, ygs, ygn, ygc⟩ := v
  exact hv
theorem sa_g_d1 (hi : i < 3) (hp : pl < 20) (hpl : ypl i = nI pl) (s0 : ysp (4 * pl) = 3) (s3 : ysp (4 * pl + 3) = nI c) (hc : c < 4) (hw : ywt i = 1) (hu : yun i = nI j) (hj : j < 90) (hh : yhw j = 3) (ha : a < 4) (ea : ja j = nI a)
    (K : Q 1 (nI ns, nI t, nI jc, nI tc, ac, ysp, ja, ji, jn, yhw, ywn, tj, tt, yst, upd ypl i (nI (pl + 1)), ydn, yak, upd ywt i 0, yun, yrs, upd yvr (4 * i + c) (ji j * ac (7 * a + 5) + ac (7 * a + 6)), yhd, ypa, ypi, ypd, ygs, ygn, ygc)) : wpY_goOn Q (nI ns, nI t, nI jc, nI tc, ac, ysp, ja, ji, jn, yhw, ywn, tj, tt, yst, ypl, ydn, yak, ywt, yun, yrs, yvr, yhd, ypa, ypi, ypd, ygs, ygn, ygc) (nI i) := by
  simp (disch := omega) only [wpY_goOn, wpY_part, wY_goOn_213, wY_goOn_192, wY_goOn_207, wpY_takeResult, wpY_setting, sa_in, nI_clamp, nI_1, nI_add, sa_p0, sa_p2, sa_p3, sa_p5, sa_p6, sa_m3, sa_m4, sa_m6, sa_m7, sa_m200, forall_eq, pk_us, true_and, and_true, true_implies, not_true_eq_false, not_false_eq_true, false_implies, eq_self, sa_n0, sa_n1, sa_m1, hpl, s0, s3, hw, hu, hh, ea, sa_k1, sa_k3, show ¬ (3 : Int32) ≤ 2 from by decide]
  exact K
theorem sa_g_d0 (hi : i < 3) (hp : pl < 20) (hpl : ypl i = nI pl) (s0 : ysp (4 * pl) = 3) (s3 : ysp (4 * pl + 3) = nI c) (hc : c < 4) (hw : ywt i = 1) (hu : yun i = nI j) (hj : j < 90) (hh : yhw j = 4)
    (K : ∀ R : SY → Prop, (∀ v, (match v with | (yns', ynow', yjc', ytc', yac', ysp', yja', yji', yjn', yhw', ywn', ytj', ytt', yst', ypl', ydn', yak', ywt', yun', yrs', yvr', yhd', ypa', ypi', ypd', ygs', ygn', ygc') => (ywt' i = 0 → Q 1 (yns', ynow', yjc', ytc', yac', ysp', yja', yji', yjn', yhw', ywn', ytj', ytt', yst', ypl', ydn', yak', ywt', yun', yrs', yvr', yhd', ypa', ypi', ypd', ygs', ygn', ygc')) ∧ (¬ ywt' i = 0 → Q 0 (yns', ynow', yjc', ytc', yac', ysp', yja', yji', yjn', yhw', ywn', ytj', ytt', yst', ypl', ydn', yak', ywt', yun', yrs', yvr', yhd', ypa', ypi', ypd', ygs', ygn', ygc'))) → R v) → wpY_takeBack R (nI ns, nI t, nI jc, nI tc, ac, ysp, ja, ji, jn, yhw, ywn, tj, tt, yst, ypl, ydn, yak, upd ywt i 0, yun, yrs, yvr, yhd, ypa, ypi, ypd, ygs, ygn, ygc) (nI i)) : wpY_goOn Q (nI ns, nI t, nI jc, nI tc, ac, ysp, ja, ji, jn, yhw, ywn, tj, tt, yst, ypl, ydn, yak, ywt, yun, yrs, yvr, yhd, ypa, ypi, ypd, ygs, ygn, ygc) (nI i) := by
  simp (disch := omega) only [wpY_goOn, wpY_part, wY_goOn_213, wY_goOn_192, wY_goOn_207, wpY_takeResult, wpY_setting, sa_in, nI_clamp, nI_1, nI_add, sa_p0, sa_p2, sa_p3, sa_p5, sa_p6, sa_m3, sa_m4, sa_m6, sa_m7, sa_m200, forall_eq, pk_us, true_and, and_true, true_implies, not_true_eq_false, not_false_eq_true, false_implies, eq_self, sa_n0, sa_n1, sa_m1, hpl, s0, s3, hw, hu, hh, sa_k1, sa_k3, show ¬ (4 : Int32) ≤ 2 from by decide]
  refine K _ ?_
  intro v hv
  obtain ⟨yns, ynow, yjc, ytc, yac, ysp, yja, yji, yjn, yhw, ywn, ytj, ytt, yst, ypl, ydn, yak, ywt, yun, yrs, yvr, yhd, ypa, ypi, ypd, ygs, ygn, ygc⟩ := v
  exact hv
theorem sa_g_a1 (hi : i < 3) (hp : pl < 20) (hpl : ypl i = nI pl) (s0 : ysp (4 * pl) = 5) (s1 : ysp (4 * pl + 1) = nI f) (hf : f < 3) (s2 : ysp (4 * pl + 2) = nI b) (hb : b < 4) (hw : ywt i = 1) (hu : yun i = nI j) (hj : j < 90) (hh : yhw j = 3) (ha : a < 4) (ea : ja j = nI a)
    (K : Q 1 (nI ns, nI t, nI jc, nI tc, ac, ysp, ja, ji, jn, yhw, ywn, tj, tt, yst, upd ypl i (nI (pl + 1)), ydn, yak, upd ywt i 0, yun, yrs, upd yvr (4 * i + b) (ji j * ac (7 * a + 5) + ac (7 * a + 6)), upd yhd (3 * i + f) (-1), ypa, ypi, ypd, ygs, ygn, ygc)) : wpY_goOn Q (nI ns, nI t, nI jc, nI tc, ac, ysp, ja, ji, jn, yhw, ywn, tj, tt, yst, ypl, ydn, yak, ywt, yun, yrs, yvr, yhd, ypa, ypi, ypd, ygs, ygn, ygc) (nI i) := by
  simp (disch := omega) only [wpY_goOn, wpY_part, wY_goOn_213, wY_goOn_192, wY_goOn_207, wpY_takeResult, wpY_setting, sa_in, nI_clamp, nI_1, nI_add, sa_p0, sa_p2, sa_p3, sa_p5, sa_p6, sa_m3, sa_m4, sa_m6, sa_m7, sa_m200, forall_eq, pk_us, true_and, and_true, true_implies, not_true_eq_false, not_false_eq_true, false_implies, eq_self, sa_n0, sa_n1, sa_m1, hpl, s0, s1, s2, hw, hu, hh, ea, sa_k1, sa_k3, show ¬ (3 : Int32) ≤ 2 from by decide]
  exact K
theorem sa_g_a0 (hi : i < 3) (hp : pl < 20) (hpl : ypl i = nI pl) (s0 : ysp (4 * pl) = 5) (s1 : ysp (4 * pl + 1) = nI f) (hf : f < 3) (s2 : ysp (4 * pl + 2) = nI b) (hb : b < 4) (hw : ywt i = 1) (hu : yun i = nI j) (hj : j < 90) (hh : yhw j = 4)
    (K : ∀ R : SY → Prop, (∀ v, (match v with | (yns', ynow', yjc', ytc', yac', ysp', yja', yji', yjn', yhw', ywn', ytj', ytt', yst', ypl', ydn', yak', ywt', yun', yrs', yvr', yhd', ypa', ypi', ypd', ygs', ygn', ygc') => (ywt' i = 0 → Q 1 (yns', ynow', yjc', ytc', yac', ysp', yja', yji', yjn', yhw', ywn', ytj', ytt', yst', ypl', ydn', yak', ywt', yun', yrs', yvr', yhd', ypa', ypi', ypd', ygs', ygn', ygc')) ∧ (¬ ywt' i = 0 → Q 0 (yns', ynow', yjc', ytc', yac', ysp', yja', yji', yjn', yhw', ywn', ytj', ytt', yst', ypl', ydn', yak', ywt', yun', yrs', yvr', yhd', ypa', ypi', ypd', ygs', ygn', ygc'))) → R v) → wpY_takeBack R (nI ns, nI t, nI jc, nI tc, ac, ysp, ja, ji, jn, yhw, ywn, tj, tt, yst, ypl, ydn, yak, upd ywt i 0, yun, yrs, yvr, upd yhd (3 * i + f) (-1), ypa, ypi, ypd, ygs, ygn, ygc) (nI i)) : wpY_goOn Q (nI ns, nI t, nI jc, nI tc, ac, ysp, ja, ji, jn, yhw, ywn, tj, tt, yst, ypl, ydn, yak, ywt, yun, yrs, yvr, yhd, ypa, ypi, ypd, ygs, ygn, ygc) (nI i) := by
  simp (disch := omega) only [wpY_goOn, wpY_part, wY_goOn_213, wY_goOn_192, wY_goOn_207, wpY_takeResult, wpY_setting, sa_in, nI_clamp, nI_1, nI_add, sa_p0, sa_p2, sa_p3, sa_p5, sa_p6, sa_m3, sa_m4, sa_m6, sa_m7, sa_m200, forall_eq, pk_us, true_and, and_true, true_implies, not_true_eq_false, not_false_eq_true, false_implies, eq_self, sa_n0, sa_n1, sa_m1, hpl, s0, s1, s2, hw, hu, hh, sa_k1, sa_k4, show ¬ (4 : Int32) ≤ 2 from by decide]
  refine K _ ?_
  intro v hv
  obtain ⟨yns, ynow, yjc, ytc, yac, ysp, yja, yji, yjn, yhw, ywn, ytj, ytt, yst, ypl, ydn, yak, ywt, yun, yrs, yvr, yhd, ypa, ypi, ypd, ygs, ygn, ygc⟩ := v
  exact hv
/-- signals -/
theorem sa_fsl (hi : i < 3) (hg : g ≤ 6) (eg : ygc i = nI g) : ∀ d m, m + d = g →
    ∃ r, ((r = -1 ∧ ∀ k, m ≤ k → k < g → ¬ ygs (6 * i + k) = s) ∨ (∃ q, m ≤ q ∧ q < g ∧ r = nI q ∧ ygs (6 * i + q) = s ∧ ∀ k, m ≤ k → k < q → ¬ ygs (6 * i + k) = s)) ∧ ∀ (post : Int32 → Prop) n, d < n → post r → wY_findSignal_2 post (nI i) s (nI ns) (nI t) (nI jc) (nI tc) ac ysp ja ji jn yhw ywn tj tt yst ypl ydn yak ywt yun yrs yvr yhd ypa ypi ypd ygs ygn ygc n (nI m) := by
  intro d
  induction d with
  | zero =>
    intro m hm
    refine ⟨-1, Or.inl ⟨rfl, fun k k1 k2 => absurd k1 (by omega)⟩, fun post n hn hp => ?_⟩
    obtain ⟨n, rfl⟩ : ∃ k, n = k + 1 := ⟨n - 1, by omega⟩
    refine And.intro (vp_in_nI hi (by decide)) (br_t ?_ hp)
    rw [nI_clamp (by omega), eg]
    exact nI_le (by omega) (by omega)
  | succ d ih =>
    intro m hm
    by_cases e : ygs (6 * i + m) = s
    · refine ⟨nI m, Or.inr ⟨m, Nat.le_refl _, by omega, rfl, e, fun k k1 k2 => absurd k1 (by omega)⟩, fun post n hn hp => ?_⟩
      obtain ⟨n, rfl⟩ : ∃ k, n = k + 1 := ⟨n - 1, by omega⟩
      have e1 : ¬ nI g ≤ nI m := nI_ge (by omega) (by omega)
      refine And.intro (vp_in_nI hi (by decide)) ?_
      rw [sa_m6, nI_add, nI_clamp (show i < 2 ^ 31 by omega), nI_clamp (show 6 * i + m < 2 ^ 31 by omega), eg]
      exact br_f e1 (And.intro (vp_in_nI (by omega) (by decide)) (br_t e hp))
    · obtain ⟨r, h1, h2⟩ := ih (m + 1) (by omega)
      refine ⟨r, ?_, fun post n hn hp => ?_⟩
      · rcases h1 with ⟨F1, F2⟩ | ⟨q, q1, q2, q3, q4, q5⟩
        · exact Or.inl ⟨F1, fun k k1 k2 => by
            by_cases ek : k = m
            · subst ek
              exact e
            · exact F2 k (by omega) k2⟩
        · exact Or.inr ⟨q, by omega, q2, q3, q4, fun k k1 k2 => by
            by_cases ek : k = m
            · subst ek
              exact e
            · exact q5 k (by omega) k2⟩
      · obtain ⟨n, rfl⟩ : ∃ k, n = k + 1 := ⟨n - 1, by omega⟩
        have e1 : ¬ nI g ≤ nI m := nI_ge (by omega) (by omega)
        refine And.intro (vp_in_nI hi (by decide)) ?_
        rw [sa_m6, nI_add, nI_clamp (show i < 2 ^ 31 by omega), nI_clamp (show 6 * i + m < 2 ^ 31 by omega), eg, nI_1 m]
        exact br_f e1 (And.intro (vp_in_nI (by omega) (by decide)) (br_f e (nm_e (h2 post n (by omega) hp))))
end
section
variable {ysp yhw ywn yst ypl ydn yak ywt yun yrs yvr yhd ypa ypi ypd ygs ygn ygc : Nat → Int32} {ac ja ji jn tj tt : Nat → Int32} {i ns t jc tc pl g b q : Nat} {s : Int32} {Q : Int32 → SY → Prop}
theorem sa_fs_s (hi : i < 3) (hg : g ≤ 6) (eg : ygc i = nI g) (hq : q < g) (h3 : ygs (6 * i + q) = s) (h4 : ∀ k, k < q → ¬ ygs (6 * i + k) = s) (post : Int32 → Prop) (hp : post (nI q)) : wpY_findSignal post (nI ns, nI t, nI jc, nI tc, ac, ysp, ja, ji, jn, yhw, ywn, tj, tt, yst, ypl, ydn, yak, ywt, yun, yrs, yvr, yhd, ypa, ypi, ypd, ygs, ygn, ygc) (nI i) s := by
  obtain ⟨r, F, hr⟩ := sa_fsl (yst := yst) (ypl := ypl) (ydn := ydn) (yak := yak) (ywt := ywt) (yun := yun) (yrs := yrs) (yvr := yvr) (yhd := yhd) (ypa := ypa) (ypi := ypi) (ypd := ypd) (ygs := ygs) (ygn := ygn) (ygc := ygc) (ysp := ysp) (yhw := yhw) (ywn := ywn) (ac := ac) (ja := ja) (ji := ji) (jn := jn) (tj := tj) (tt := tt) (ns := ns) (t := t) (jc := jc) (tc := tc) (s := s) hi hg eg g 0 (by omega)
  have er : r = nI q := by
    rcases F with ⟨_, F2⟩ | ⟨p, _, p2, p3, p4, p5⟩
    · exact absurd h3 (F2 q (Nat.zero_le _) hq)
    · have : p = q := by
        rcases Nat.lt_trichotomy p q with e | e | e
        · exact absurd p4 (h4 p e)
        · exact e
        · exact absurd h3 (p5 q (Nat.zero_le _) e)
      rw [p3, this]
  subst er
  exact ⟨g + 1, hr post (g + 1) (by omega) hp⟩
theorem sa_fs_n (hi : i < 3) (hg : g ≤ 6) (eg : ygc i = nI g) (h4 : ∀ k, k < g → ¬ ygs (6 * i + k) = s) (post : Int32 → Prop) (hp : post (-1)) : wpY_findSignal post (nI ns, nI t, nI jc, nI tc, ac, ysp, ja, ji, jn, yhw, ywn, tj, tt, yst, ypl, ydn, yak, ywt, yun, yrs, yvr, yhd, ypa, ypi, ypd, ygs, ygn, ygc) (nI i) s := by
  obtain ⟨r, F, hr⟩ := sa_fsl (yst := yst) (ypl := ypl) (ydn := ydn) (yak := yak) (ywt := ywt) (yun := yun) (yrs := yrs) (yvr := yvr) (yhd := yhd) (ypa := ypa) (ypi := ypi) (ypd := ypd) (ygs := ygs) (ygn := ygn) (ygc := ygc) (ysp := ysp) (yhw := yhw) (ywn := ywn) (ac := ac) (ja := ja) (ji := ji) (jn := jn) (tj := tj) (tt := tt) (ns := ns) (t := t) (jc := jc) (tc := tc) (s := s) hi hg eg g 0 (by omega)
  have er : r = -1 := by
    rcases F with ⟨F1, _⟩ | ⟨p, _, p2, p3, p4, p5⟩
    · exact F1
    · exact absurd p4 (h4 p p2)
  subst er
  exact ⟨g + 1, hr post (g + 1) (by omega) hp⟩
theorem sa_g_g1 (hi : i < 3) (hp : pl < 20) (hpl : ypl i = nI pl) (s1 : ysp (4 * pl + 1) = s) (s2 : ysp (4 * pl + 2) = nI b) (hb : b < 4) (hw : ywt i = 3) (hg : g ≤ 6) (eg : ygc i = nI g) (hq : q < g) (h3 : ygs (6 * i + q) = s) (h4 : ∀ k, k < q → ¬ ygs (6 * i + k) = s)
    (K : Q 1 (nI ns, nI t, nI jc, nI tc, ac, ysp, ja, ji, jn, yhw, ywn, tj, tt, yst, upd ypl i (nI (pl + 1)), ydn, yak, upd ywt i 0, yun, yrs, upd yvr (4 * i + b) (ygn (6 * i + q)), yhd, ypa, ypi, ypd, upd ygs (6 * i + q) (-1), ygn, ygc)) : wpY_goOn Q (nI ns, nI t, nI jc, nI tc, ac, ysp, ja, ji, jn, yhw, ywn, tj, tt, yst, ypl, ydn, yak, ywt, yun, yrs, yvr, yhd, ypa, ypi, ypd, ygs, ygn, ygc) (nI i) := by
  simp (disch := omega) only [wpY_goOn, wpY_part, wY_goOn_213, sa_in, nI_clamp, nI_1, nI_add, sa_p0, sa_p2, sa_p3, sa_p5, sa_p6, sa_m3, sa_m4, sa_m6, sa_m7, sa_m200, forall_eq, pk_us, true_and, and_true, true_implies, not_true_eq_false, not_false_eq_true, false_implies, eq_self, sa_n0, sa_n1, sa_m1, hpl, s1, hw, sa_k3]
  refine sa_fs_s hi hg eg hq h3 h4 _ (br_t (nI_pos' (by omega)) ?_)
  have f1 : 0 ≤ nI q := nI_pos' (by omega)
  have f2 : ¬ nI q < 0 := nI_pos (by omega)
  simp (disch := omega) only [wY_goOn_89, wY_goOn_101, wY_goOn_213, wpY_part, wpY_takeSignal, wY_takeSignal_28, wY_takeSignal_45, sa_in, nI_clamp, nI_1, nI_add, sa_p0, sa_p2, sa_p3, sa_p5, sa_p6, sa_m3, sa_m4, sa_m6, sa_m7, sa_m200, forall_eq, pk_us, true_and, and_true, true_implies, not_true_eq_false, not_false_eq_true, false_implies, eq_self, sa_n0, sa_n1, sa_m1, hpl, s2, f1, f2]
  exact K
theorem sa_g_g0 (hi : i < 3) (hp : pl < 20) (hpl : ypl i = nI pl) (s1 : ysp (4 * pl + 1) = s) (hw : ywt i = 3) (hg : g ≤ 6) (eg : ygc i = nI g) (h4 : ∀ k, k < g → ¬ ygs (6 * i + k) = s) (ht : nI t < yun i)
    (K : Q 0 (nI ns, nI t, nI jc, nI tc, ac, ysp, ja, ji, jn, yhw, ywn, tj, tt, yst, ypl, ydn, yak, ywt, yun, yrs, yvr, yhd, ypa, ypi, ypd, ygs, ygn, ygc)) : wpY_goOn Q (nI ns, nI t, nI jc, nI tc, ac, ysp, ja, ji, jn, yhw, ywn, tj, tt, yst, ypl, ydn, yak, ywt, yun, yrs, yvr, yhd, ypa, ypi, ypd, ygs, ygn, ygc) (nI i) := by
  simp (disch := omega) only [wpY_goOn, wpY_part, wY_goOn_213, sa_in, nI_clamp, nI_1, nI_add, sa_p0, sa_p2, sa_p3, sa_p5, sa_p6, sa_m3, sa_m4, sa_m6, sa_m7, sa_m200, forall_eq, pk_us, true_and, and_true, true_implies, not_true_eq_false, not_false_eq_true, false_implies, eq_self, sa_n0, sa_n1, sa_m1, hpl, s1, hw, ht, sa_k3]
  refine sa_fs_n hi hg eg h4 _ (br_f (by decide) ?_)
  simp (disch := omega) only [wY_goOn_101, wY_goOn_213, sa_in, nI_clamp, nI_1, nI_add, sa_p0, sa_p2, sa_p3, sa_p5, sa_p6, sa_m3, sa_m4, sa_m6, sa_m7, sa_m200, forall_eq, pk_us, true_and, and_true, true_implies, not_true_eq_false, not_false_eq_true, false_implies, eq_self, sa_n0, sa_n1, sa_m1, hw, sa_k3]
  exact K
theorem sa_g_gt (hi : i < 3) (hp : pl < 20) (hpl : ypl i = nI pl) (s1 : ysp (4 * pl + 1) = s) (s2 : ysp (4 * pl + 2) = nI b) (hb : b < 4) (hw : ywt i = 3) (hg : g ≤ 6) (eg : ygc i = nI g) (h4 : ∀ k, k < g → ¬ ygs (6 * i + k) = s) (ht : ¬ nI t < yun i)
    (K : Q 1 (nI ns, nI t, nI jc, nI tc, ac, ysp, ja, ji, jn, yhw, ywn, tj, tt, yst, upd ypl i (nI (pl + 1)), ydn, yak, upd ywt i 0, yun, yrs, upd yvr (4 * i + b) (-1), yhd, ypa, ypi, ypd, ygs, ygn, ygc)) : wpY_goOn Q (nI ns, nI t, nI jc, nI tc, ac, ysp, ja, ji, jn, yhw, ywn, tj, tt, yst, ypl, ydn, yak, ywt, yun, yrs, yvr, yhd, ypa, ypi, ypd, ygs, ygn, ygc) (nI i) := by
  simp (disch := omega) only [wpY_goOn, wpY_part, wY_goOn_213, sa_in, nI_clamp, nI_1, nI_add, sa_p0, sa_p2, sa_p3, sa_p5, sa_p6, sa_m3, sa_m4, sa_m6, sa_m7, sa_m200, forall_eq, pk_us, true_and, and_true, true_implies, not_true_eq_false, not_false_eq_true, false_implies, eq_self, sa_n0, sa_n1, sa_m1, hpl, s1, hw, ht, sa_k3]
  refine sa_fs_n hi hg eg h4 _ (br_f (by decide) ?_)
  have f1 : ¬ (0 : Int32) ≤ -1 := by decide
  have f2 : (-1 : Int32) < 0 := by decide
  simp (disch := omega) only [wY_goOn_89, wY_goOn_101, wY_goOn_213, wpY_part, wpY_takeSignal, wY_takeSignal_28, wY_takeSignal_45, sa_in, nI_clamp, nI_1, nI_add, sa_p0, sa_p2, sa_p3, sa_p5, sa_p6, sa_m3, sa_m4, sa_m6, sa_m7, sa_m200, forall_eq, pk_us, true_and, and_true, true_implies, not_true_eq_false, not_false_eq_true, false_implies, eq_self, sa_n0, sa_n1, sa_m1, hpl, s2, f1, f2]
  exact K
end
end
section
/-! from the reference's steps to its loop -/
theorem sa_WCw {P : sa_P} {t : Nat} {L : sa_L} {h : sa_H} {w n : Int32} (W : sa_WC P t L h w n) : (sa_wj h = -1 → w = 0) ∧ (sa_wj h ≠ -1 → ¬ w = 0) := by
  obtain ⟨ns, kd, p1, p2, p3, ac⟩ := P
  obtain ⟨sv, ak, aj, gc, gk, gn, hs, hg, hn, ou⟩ := L
  obtain ⟨st, pl, ev, dn, us, is, vr, hd, tk, pn, pa, pi, un, wj⟩ := h
  rcases W with ⟨a, b⟩ | ⟨a, _, b, _⟩ | ⟨a, _, _, b, _⟩ | ⟨a, _, _, b, _⟩ | ⟨a, _, _, b, _⟩
  · exact ⟨fun _ => b, fun e => absurd a e⟩
  · exact ⟨fun e => absurd e a, fun _ => by rw [b]; decide⟩
  · exact ⟨fun e => absurd e a, fun _ => by rw [b]; decide⟩
  · exact ⟨fun e => absurd e a, fun _ => by rw [b]; decide⟩
  · exact ⟨fun e => absurd e a, fun _ => by rw [b]; decide⟩
theorem sa_HYw {i : Nat} {P : sa_P} {t : Nat} {L : sa_L} {h : sa_H} {v : SY} (H : sa_HY i P t L h v) : match v with | (yns, ynow, yjc, ytc, yac, ysp, yja, yji, yjn, yhw, ywn, ytj, ytt, yst, ypl, ydn, yak, ywt, yun, yrs, yvr, yhd, ypa, ypi, ypd, ygs, ygn, ygc) => yst i = sa_st h ∧ (sa_st h = 1 → (sa_wj h = -1 → ywt i = 0) ∧ (sa_wj h ≠ -1 → ¬ ywt i = 0)) := by
  obtain ⟨sv, ak, aj, gc, gk, gn, hs, hg, hn, ou⟩ := L
  obtain ⟨st, pl, ev, dn, us, is, vr, hd, tk, pn, pa, pi, un, wj⟩ := h
  obtain ⟨yns, ynow, yjc, ytc, yac, ysp, yja, yji, yjn, yhw, ywn, ytj, ytt, yst, ypl, ydn, yak, ywt, yun, yrs, yvr, yhd, ypa, ypi, ypd, ygs, ygn, ygc⟩ := v
  obtain ⟨e0, e1, e2, e3, e4, e5, e6, e7, e8, e9, e10⟩ := H
  exact ⟨e1, fun e => sa_WCw (e10 e).2.2.2.2⟩
theorem sa_YL0 {post : SY → Prop} {i n : Nat} {v : SY} (h : post v) : sa_YL post i (n + 1) 0 v := by
  obtain ⟨yns, ynow, yjc, ytc, yac, ysp, yja, yji, yjn, yhw, ywn, ytj, ytt, yst, ypl, ydn, yak, ywt, yun, yrs, yvr, yhd, ypa, ypi, ypd, ygs, ygn, ygc⟩ := v
  exact br_t rfl h
theorem sa_YLx {post : SY → Prop} {i n : Nat} {v : SY} (hi : i < 3) (hx : match v with | (yns, ynow, yjc, ytc, yac, ysp, yja, yji, yjn, yhw, ywn, ytj, ytt, yst, ypl, ydn, yak, ywt, yun, yrs, yvr, yhd, ypa, ypi, ypd, ygs, ygn, ygc) => ¬ yst i = 1) (h : post v) : sa_YL post i (n + 1) 1 v := by
  obtain ⟨yns, ynow, yjc, ytc, yac, ysp, yja, yji, yjn, yhw, ywn, ytj, ytt, yst, ypl, ydn, yak, ywt, yun, yrs, yvr, yhd, ypa, ypi, ypd, ygs, ygn, ygc⟩ := v
  refine br_f (by decide) (And.intro (vp_in_nI hi (by decide)) (br_f ?_ h))
  rw [nI_clamp (by omega)]
  exact hx
/-- what the reference does behind a step -/
def sa_YC (post : SY → Prop) (i n : Nat) (v : SY) : Prop := match v with
  | (yns, ynow, yjc, ytc, yac, ysp, yja, yji, yjn, yhw, ywn, ytj, ytt, yst, ypl, ydn, yak, ywt, yun, yrs, yvr, yhd, ypa, ypi, ypd, ygs, ygn, ygc) => (yst i = 1 → (ywt i = 0 → sa_YL post i n 1 (yns, ynow, yjc, ytc, yac, ysp, yja, yji, yjn, yhw, ywn, ytj, ytt, yst, ypl, ydn, yak, ywt, yun, yrs, yvr, yhd, ypa, ypi, ypd, ygs, ygn, ygc)) ∧ (¬ ywt i = 0 → ∀ R : Int32 → SY → Prop, (∀ w, sa_YL post i n 0 w → R 0 w) → (∀ w, sa_YL post i n 1 w → R 1 w) → wpY_goOn R (yns, ynow, yjc, ytc, yac, ysp, yja, yji, yjn, yhw, ywn, ytj, ytt, yst, ypl, ydn, yak, ywt, yun, yrs, yvr, yhd, ypa, ypi, ypd, ygs, ygn, ygc) (nI i))) ∧ (¬ yst i = 1 → sa_YL post i n 0 (yns, ynow, yjc, ytc, yac, ysp, yja, yji, yjn, yhw, ywn, ytj, ytt, yst, ypl, ydn, yak, ywt, yun, yrs, yvr, yhd, ypa, ypi, ypd, ygs, ygn, ygc))
section
variable {ysp yhw ywn yst ypl ydn yak ywt yun yrs yvr yhd ypa ypi ypd ygs ygn ygc : Nat → Int32} {ac ja ji jn tj tt : Nat → Int32} {i ns t jc tc pl dn n : Nat} {post : SY → Prop}
theorem sa_YL1 (hi : i < 3) (hns : ns ≤ 20) (h1 : yst i = 1) (h2 : ypl i = nI pl) (hp : pl < ns) (h3 : ydn i = nI dn) (hd : dn < 200)
    (K : ∀ Q : SY → Prop, (∀ w, sa_YC post i n w → Q w) → wpY_doStep Q (nI ns, nI t, nI jc, nI tc, ac, ysp, ja, ji, jn, yhw, ywn, tj, tt, yst, ypl, upd ydn i (nI (dn + 1)), yak, ywt, yun, yrs, yvr, yhd, ypa, ypi, ypd, ygs, ygn, ygc) (nI i)) : sa_YL post i (n + 1) 1 (nI ns, nI t, nI jc, nI tc, ac, ysp, ja, ji, jn, yhw, ywn, tj, tt, yst, ypl, ydn, yak, ywt, yun, yrs, yvr, yhd, ypa, ypi, ypd, ygs, ygn, ygc) := by
  have hv : vp_in (nI i) 3 := vp_in_nI hi (by decide)
  have hc : (nI i).toNatClampNeg = i := nI_clamp (by omega)
  refine br_f (by decide) (And.intro hv ?_)
  rw [hc]
  refine br_t h1 (And.intro hv (br_t (by rw [h2]; exact nI_lt hp (by omega)) (And.intro hv (br_f (by rw [h3, sa_e200 (by omega)]; omega) (And.intro hv (And.intro hv ?_))))))
  rw [h3, nI_1]
  refine nm_e (K _ ?_)
  intro w hw
  obtain ⟨yns', ynow', yjc', ytc', yac', ysp', yja', yji', yjn', yhw', ywn', ytj', ytt', yst', ypl', ydn', yak', ywt', yun', yrs', yvr', yhd', ypa', ypi', ypd', ygs', ygn', ygc'⟩ := w
  refine And.intro hv (br_c (fun e => And.intro hv (br_c (fun e' => ?_) (fun e' => ?_))) (fun e => ?_))
  · exact (hw.1 e).1 e'
  · refine (hw.1 e).2 e' _ ?_ ?_
    · intro w hw
      obtain ⟨yns, ynow, yjc, ytc, yac, ysp, yja, yji, yjn, yhw, ywn, ytj, ytt, yst, ypl, ydn, yak, ywt, yun, yrs, yvr, yhd, ypa, ypi, ypd, ygs, ygn, ygc⟩ := w
      exact br_t rfl hw
    · intro w hw
      obtain ⟨yns, ynow, yjc, ytc, yac, ysp, yja, yji, yjn, yhw, ywn, ytj, ytt, yst, ypl, ydn, yak, ywt, yun, yrs, yvr, yhd, ypa, ypi, ypd, ygs, ygn, ygc⟩ := w
      exact br_f (by decide) hw
  · exact hw.2 e
theorem sa_YLd (hi : i < 3) (hns : ns ≤ 20) (h1 : yst i = 1) (h2 : ypl i = nI pl) (hp : ns ≤ pl) (hq : pl ≤ 20) (K : post (nI ns, nI t, nI jc, nI tc, ac, ysp, ja, ji, jn, yhw, ywn, tj, tt, upd yst i 2, ypl, ydn, yak, ywt, yun, upd yrs i 0, yvr, yhd, ypa, ypi, ypd, ygs, ygn, ygc)) : sa_YL post i (n + 2) 1 (nI ns, nI t, nI jc, nI tc, ac, ysp, ja, ji, jn, yhw, ywn, tj, tt, yst, ypl, ydn, yak, ywt, yun, yrs, yvr, yhd, ypa, ypi, ypd, ygs, ygn, ygc) := by
  have hv : vp_in (nI i) 3 := vp_in_nI hi (by decide)
  have hc : (nI i).toNatClampNeg = i := nI_clamp (by omega)
  refine br_f (by decide) (And.intro hv ?_)
  rw [hc]
  refine br_t h1 (And.intro hv (br_f (by rw [h2]; exact nI_nlt hp (by omega)) (And.intro hv (nm_e (And.intro hv (nm_e ?_))))))
  refine br_f (by decide) (And.intro hv (br_f ?_ K))
  rw [hc, pk_us]
  decide
theorem sa_YLb (hi : i < 3) (hns : ns ≤ 20) (h1 : yst i = 1) (h2 : ypl i = nI pl) (hp : pl < ns) (h3 : ydn i = 200) (K : post (nI ns, nI t, nI jc, nI tc, ac, ysp, ja, ji, jn, yhw, ywn, tj, tt, upd yst i 5, ypl, ydn, yak, ywt, yun, yrs, yvr, yhd, ypa, ypi, ypd, ygs, ygn, ygc)) : sa_YL post i (n + 2) 1 (nI ns, nI t, nI jc, nI tc, ac, ysp, ja, ji, jn, yhw, ywn, tj, tt, yst, ypl, ydn, yak, ywt, yun, yrs, yvr, yhd, ypa, ypi, ypd, ygs, ygn, ygc) := by
  have hv : vp_in (nI i) 3 := vp_in_nI hi (by decide)
  have hc : (nI i).toNatClampNeg = i := nI_clamp (by omega)
  refine br_f (by decide) (And.intro hv ?_)
  rw [hc]
  refine br_t h1 (And.intro hv (br_t (by rw [h2]; exact nI_lt hp (by omega)) (And.intro hv (br_t h3 (And.intro hv (nm_e ?_))))))
  refine br_f (by decide) (And.intro hv (br_f ?_ K))
  rw [hc, pk_us]
  decide
end
theorem sa_YCg {post : SY → Prop} {i n t : Nat} {P : sa_P} {L : sa_L} {h : sa_H} {v : SY} (H : sa_HY i P t L h v) (G : sa_GY post i h v) (hn : sa_mu h < n) : sa_YC post i n v := by
  have Hw := sa_HYw H
  have m1 := sa_mu1 h
  obtain ⟨yns, ynow, yjc, ytc, yac, ysp, yja, yji, yjn, yhw, ywn, ytj, ytt, yst, ypl, ydn, yak, ywt, yun, yrs, yvr, yhd, ypa, ypi, ypd, ygs, ygn, ygc⟩ := v
  obtain ⟨x1, x2⟩ := Hw
  refine ⟨fun e => ?_, fun e => ?_⟩
  · have es : sa_st h = 1 := x1.symm.trans e
    refine ⟨fun e' => ?_, fun e' R h0 h1 => ?_⟩
    · by_cases ew : sa_wj h = -1
      · exact G.2.1 es ew n hn
      · exact absurd e' ((x2 es).2 ew)
    · by_cases ew : sa_wj h = -1
      · exact absurd ((x2 es).1 ew) e'
      · obtain ⟨n, rfl⟩ : ∃ k, n = k + 1 := ⟨n - 1, by omega⟩
        exact G.2.2 es ew R (fun w hw => h0 w (sa_YL0 hw)) (fun w hw => h1 w (hw _ (by omega)))
  · obtain ⟨n, rfl⟩ : ∃ k, n = k + 1 := ⟨n - 1, by omega⟩
    exact sa_YL0 (G.1 (fun z => e (x1.trans z)))
/-- a wait is over -/
theorem sa_yo2 {i t : Nat} {P : sa_P} {L' : sa_L} {h h' : sa_H} {v v' : SY} (hi : i < 3) (h1 : sa_st h = 1) (h2 : sa_wj h ≠ -1) (h3 : sa_wj h' = -1) (hm : sa_mu h' < sa_mu h) (H : sa_HY i P t L' h' v')
    (O : ∀ Q : Int32 → SY → Prop, Q 1 v' → wpY_goOn Q v (nI i)) : ∀ post, sa_GY post i h' v' → sa_GY post i h v := by
  intro post G
  refine ⟨fun e => absurd h1 e, fun _ e => absurd e h2, fun _ _ Q h0 hQ => O Q (hQ v' (fun n hn => ?_))⟩
  have Hw := sa_HYw H
  have m1 := sa_mu1 h
  by_cases es : sa_st h' = 1
  · exact G.2.1 es h3 n (by omega)
  · obtain ⟨n, rfl⟩ : ∃ k, n = k + 1 := ⟨n - 1, by omega⟩
    refine sa_YLx hi ?_ (G.1 es)
    obtain ⟨yns, ynow, yjc, ytc, yac, ysp, yja, yji, yjn, yhw, ywn, ytj, ytt, yst, ypl, ydn, yak, ywt, yun, yrs, yvr, yhd, ypa, ypi, ypd, ygs, ygn, ygc⟩ := v'
    exact fun z => es (Hw.1.symm.trans z)
/-- a wait is open -/
theorem sa_yo0 {i : Nat} {h : sa_H} {v v' : SY} (h1 : sa_st h = 1) (h2 : sa_wj h ≠ -1)
    (O : ∀ Q : Int32 → SY → Prop, Q 0 v' → wpY_goOn Q v (nI i)) : ∀ post : SY → Prop, post v' → sa_GY post i h v :=
  fun post G => ⟨fun e => absurd h1 e, fun _ e => absurd e h2, fun _ _ Q h0 _ => O Q (h0 v' G)⟩
/-- a wait is over, and the pile is taken from -/
theorem sa_yop {i : Nat} {h : sa_H} {v v' : SY} (hi : i < 3) (h1 : sa_st h = 1) (h2 : sa_wj h ≠ -1) (hv : match v' with | (yns, ynow, yjc, ytc, yac, ysp, yja, yji, yjn, yhw, ywn, ytj, ytt, yst, ypl, ydn, yak, ywt, yun, yrs, yvr, yhd, ypa, ypi, ypd, ygs, ygn, ygc) => ywt i = 0 → ¬ yst i = 1)
    (O : ∀ Q : Int32 → SY → Prop, (match v' with | (yns, ynow, yjc, ytc, yac, ysp, yja, yji, yjn, yhw, ywn, ytj, ytt, yst, ypl, ydn, yak, ywt, yun, yrs, yvr, yhd, ypa, ypi, ypd, ygs, ygn, ygc) => (ywt i = 0 → Q 1 (yns, ynow, yjc, ytc, yac, ysp, yja, yji, yjn, yhw, ywn, ytj, ytt, yst, ypl, ydn, yak, ywt, yun, yrs, yvr, yhd, ypa, ypi, ypd, ygs, ygn, ygc)) ∧ (¬ ywt i = 0 → Q 0 (yns, ynow, yjc, ytc, yac, ysp, yja, yji, yjn, yhw, ywn, ytj, ytt, yst, ypl, ydn, yak, ywt, yun, yrs, yvr, yhd, ypa, ypi, ypd, ygs, ygn, ygc))) → wpY_goOn Q v (nI i)) : ∀ post : SY → Prop, post v' → sa_GY post i h v := by
  intro post G
  refine ⟨fun e => absurd h1 e, fun _ e => absurd e h2, fun _ _ Q h0 hQ => O Q ?_⟩
  have m1 := sa_mu1 h
  obtain ⟨yns, ynow, yjc, ytc, yac, ysp, yja, yji, yjn, yhw, ywn, ytj, ytt, yst, ypl, ydn, yak, ywt, yun, yrs, yvr, yhd, ypa, ypi, ypd, ygs, ygn, ygc⟩ := v'
  refine ⟨fun e => hQ _ (fun n hn => ?_), fun _ => h0 _ G⟩
  obtain ⟨n, rfl⟩ : ∃ k, n = k + 1 := ⟨n - 1, by omega⟩
  exact sa_YLx hi (hv e) G
def sa_YO (i : Nat) (P : sa_P) (t : Nat) (J' : sa_J) (L' : sa_L) (h h' : sa_H) (v : SY) : Prop :=
  ∃ v', sa_WY P t J' v' ∧ sa_HY i P t L' h' v' ∧ sa_FY i v v' ∧ ∀ post, sa_GY post i h' v' → sa_GY post i h v
section
variable {ysp yhw ywn yst ypl ydn yak ywt yun yrs yvr yhd ypa ypi ypd ygs ygn ygc : Nat → Int32} {ac ja ji jn tj tt : Nat → Int32} {i ns t jc tc pl dn : Nat}
/-- a step of the loop -/
theorem sa_yo1 {P : sa_P} {L' : sa_L} {h h' : sa_H} {v' : SY} (hi : i < 3) (hns : ns ≤ 20) (x1 : sa_st h = 1) (x2 : sa_wj h = -1) (h1 : yst i = 1) (h2 : ypl i = nI pl) (hp : pl < ns) (h3 : ydn i = nI dn) (hd : dn < 200) (hm : sa_mu h' < sa_mu h) (H : sa_HY i P t L' h' v')
    (O : ∀ Q : SY → Prop, Q v' → wpY_doStep Q (nI ns, nI t, nI jc, nI tc, ac, ysp, ja, ji, jn, yhw, ywn, tj, tt, yst, ypl, upd ydn i (nI (dn + 1)), yak, ywt, yun, yrs, yvr, yhd, ypa, ypi, ypd, ygs, ygn, ygc) (nI i)) : ∀ post, sa_GY post i h' v' → sa_GY post i h (nI ns, nI t, nI jc, nI tc, ac, ysp, ja, ji, jn, yhw, ywn, tj, tt, yst, ypl, ydn, yak, ywt, yun, yrs, yvr, yhd, ypa, ypi, ypd, ygs, ygn, ygc) := by
  intro post G
  refine ⟨fun e => absurd x1 e, fun _ _ n hn => ?_, fun _ e => absurd x2 e⟩
  obtain ⟨n, rfl⟩ : ∃ k, n = k + 1 := ⟨n - 1, by omega⟩
  exact sa_YL1 hi hns h1 h2 hp h3 hd (fun Q hQ => O Q (hQ v' (sa_YCg H G (by omega))))
end
end
section
/-! the reference does the steps that take nothing from outside -/
section
variable {ysp yhw ywn yst ypl ydn yak ywt yun yrs yvr yhd ypa ypi ypd ygs ygn ygc : Nat → Int32} {ns : Nat} {kd p1 p2 p3 ac : Nat → Int32} {jc tc : Nat} {ja ji jn js jt tj tt : Nat → Int32} {sv ou : Int32} {ak gc hs : Nat} {aj gk gn hg hn : Nat → Int32} {st ev wj : Int32} {pl dn us is pn : Nat} {vr hd tk pa pi : Nat → Int32} {un : Bool} {i t a b c j : Nat}
theorem sa_Y_done (hi : i < 3) (W : sa_WY (ns, kd, p1, p2, p3, ac) t (jc, ja, ji, jn, js, jt, tc, tj, tt) (nI ns, nI t, nI jc, nI tc, ac, ysp, ja, ji, jn, yhw, ywn, tj, tt, yst, ypl, ydn, yak, ywt, yun, yrs, yvr, yhd, ypa, ypi, ypd, ygs, ygn, ygc)) (H : sa_HY i (ns, kd, p1, p2, p3, ac) t (sv, ak, aj, gc, gk, gn, hs, hg, hn, ou) (1, pl, ev, dn, us, is, vr, hd, tk, pn, pa, pi, false, -1) (nI ns, nI t, nI jc, nI tc, ac, ysp, ja, ji, jn, yhw, ywn, tj, tt, yst, ypl, ydn, yak, ywt, yun, yrs, yvr, yhd, ypa, ypi, ypd, ygs, ygn, ygc)) (hp : ns ≤ pl) : sa_YO i (ns, kd, p1, p2, p3, ac) t (jc, ja, ji, jn, js, jt, tc, tj, tt) (sv, ak, aj, gc, gk, gn, hs, hg, hn, ou) (1, pl, ev, dn, us, is, vr, hd, tk, pn, pa, pi, false, -1) (2, pl, 0, dn, us, is, vr, hd, tk, pn, pa, pi, false, -1) (nI ns, nI t, nI jc, nI tc, ac, ysp, ja, ji, jn, yhw, ywn, tj, tt, yst, ypl, ydn, yak, ywt, yun, yrs, yvr, yhd, ypa, ypi, ypd, ygs, ygn, ygc) := by
  obtain ⟨⟨w1, w2, w3, w4⟩, _, _, _, _, _, _, _, _, _, _, z1, z2⟩ := W
  obtain ⟨⟨b1, b2, b3, b4, b5⟩, e1, e2, e3, e4, e5, e6, e7, e8, e9, e10⟩ := H
  obtain ⟨q1, q2, q3, q4, q5⟩ := e10 rfl
  refine ⟨(nI ns, nI t, nI jc, nI tc, ac, ysp, ja, ji, jn, yhw, ywn, tj, tt, upd yst i 2, ypl, ydn, yak, ywt, yun, upd yrs i 0, yvr, yhd, ypa, ypi, ypd, ygs, ygn, ygc), ⟨⟨w1, w2, by omega, w4⟩, rfl, rfl, rfl, rfl, rfl, rfl, rfl, rfl, rfl, rfl, z1, z2⟩, ⟨⟨by omega, by omega, by omega, by omega, by omega⟩, pk_us, e2, e3, e4, e5, e6, e7, e8, fun _ => pk_us, fun e => absurd e (by decide)⟩, (fun i' hi' hne => ⟨pk_un hne, rfl, rfl, rfl, rfl, rfl, pk_un hne, fun _ _ => rfl, fun _ _ => rfl, fun _ _ => rfl, fun _ _ => rfl, rfl, fun _ _ => rfl, fun _ _ => rfl, rfl⟩), fun post G => ⟨fun e => absurd rfl e, fun _ _ n hn => ?_, fun _ e => absurd rfl e⟩⟩
  have m1 := sa_mu1 (1, pl, ev, dn, us, is, vr, hd, tk, pn, pa, pi, false, -1)
  obtain ⟨n, rfl⟩ : ∃ k, n = k + 2 := ⟨n - 2, by omega⟩
  exact sa_YLd hi w1 e1 q1 hp b1 (G.1 (show (2 : Int32) ≠ 1 from by decide))
theorem sa_Y_brk (hi : i < 3) (W : sa_WY (ns, kd, p1, p2, p3, ac) t (jc, ja, ji, jn, js, jt, tc, tj, tt) (nI ns, nI t, nI jc, nI tc, ac, ysp, ja, ji, jn, yhw, ywn, tj, tt, yst, ypl, ydn, yak, ywt, yun, yrs, yvr, yhd, ypa, ypi, ypd, ygs, ygn, ygc)) (H : sa_HY i (ns, kd, p1, p2, p3, ac) t (sv, ak, aj, gc, gk, gn, hs, hg, hn, ou) (1, pl, ev, dn, us, is, vr, hd, tk, pn, pa, pi, false, -1) (nI ns, nI t, nI jc, nI tc, ac, ysp, ja, ji, jn, yhw, ywn, tj, tt, yst, ypl, ydn, yak, ywt, yun, yrs, yvr, yhd, ypa, ypi, ypd, ygs, ygn, ygc)) (hp : pl < ns) (hq : dn = 200) : sa_YO i (ns, kd, p1, p2, p3, ac) t (jc, ja, ji, jn, js, jt, tc, tj, tt) (sv, ak, aj, gc, gk, gn, hs, hg, hn, ou) (1, pl, ev, dn, us, is, vr, hd, tk, pn, pa, pi, false, -1) (5, pl, 0, dn, us, is, vr, hd, tk, pn, pa, pi, false, -1) (nI ns, nI t, nI jc, nI tc, ac, ysp, ja, ji, jn, yhw, ywn, tj, tt, yst, ypl, ydn, yak, ywt, yun, yrs, yvr, yhd, ypa, ypi, ypd, ygs, ygn, ygc) := by
  obtain ⟨⟨w1, w2, w3, w4⟩, _, _, _, _, _, _, _, _, _, _, z1, z2⟩ := W
  obtain ⟨⟨b1, b2, b3, b4, b5⟩, e1, e2, e3, e4, e5, e6, e7, e8, e9, e10⟩ := H
  obtain ⟨q1, q2, q3, q4, q5⟩ := e10 rfl
  subst hq
  refine ⟨(nI ns, nI t, nI jc, nI tc, ac, ysp, ja, ji, jn, yhw, ywn, tj, tt, upd yst i 5, ypl, ydn, yak, ywt, yun, yrs, yvr, yhd, ypa, ypi, ypd, ygs, ygn, ygc), ⟨⟨w1, w2, by omega, w4⟩, rfl, rfl, rfl, rfl, rfl, rfl, rfl, rfl, rfl, rfl, z1, z2⟩, ⟨⟨by omega, by omega, by omega, by omega, by omega⟩, pk_us, e2, e3, e4, e5, e6, e7, e8, fun e => absurd e (by decide), fun e => absurd e (by decide)⟩, (fun i' hi' hne => ⟨pk_un hne, rfl, rfl, rfl, rfl, rfl, rfl, fun _ _ => rfl, fun _ _ => rfl, fun _ _ => rfl, fun _ _ => rfl, rfl, fun _ _ => rfl, fun _ _ => rfl, rfl⟩), fun post G => ⟨fun e => absurd rfl e, fun _ _ n hn => ?_, fun _ e => absurd rfl e⟩⟩
  have m1 := sa_mu1 (1, pl, ev, 200, us, is, vr, hd, tk, pn, pa, pi, false, -1)
  obtain ⟨n, rfl⟩ : ∃ k, n = k + 2 := ⟨n - 2, by omega⟩
  exact sa_YLb hi w1 e1 q1 hp q2 (G.1 (show (5 : Int32) ≠ 1 from by decide))
theorem sa_Y_set (hi : i < 3) (W : sa_WY (ns, kd, p1, p2, p3, ac) t (jc, ja, ji, jn, js, jt, tc, tj, tt) (nI ns, nI t, nI jc, nI tc, ac, ysp, ja, ji, jn, yhw, ywn, tj, tt, yst, ypl, ydn, yak, ywt, yun, yrs, yvr, yhd, ypa, ypi, ypd, ygs, ygn, ygc)) (H : sa_HY i (ns, kd, p1, p2, p3, ac) t (sv, ak, aj, gc, gk, gn, hs, hg, hn, ou) (1, pl, ev, dn, us, is, vr, hd, tk, pn, pa, pi, false, -1) (nI ns, nI t, nI jc, nI tc, ac, ysp, ja, ji, jn, yhw, ywn, tj, tt, yst, ypl, ydn, yak, ywt, yun, yrs, yvr, yhd, ypa, ypi, ypd, ygs, ygn, ygc)) (hp : pl < ns) (hq : dn < 200) (hk : kd pl = 0) (ha : a < 4) (f1 : p1 pl = nI a) : sa_YO i (ns, kd, p1, p2, p3, ac) t (jc, ja, ji, jn, js, jt, tc, tj, tt) (sv, ak, aj, gc, gk, gn, hs, hg, hn, ou) (1, pl, ev, dn, us, is, vr, hd, tk, pn, pa, pi, false, -1) (1, pl + 1, ev, dn + 1, us, is, upd vr a (p2 pl), hd, tk, pn, pa, pi, false, -1) (nI ns, nI t, nI jc, nI tc, ac, ysp, ja, ji, jn, yhw, ywn, tj, tt, yst, ypl, ydn, yak, ywt, yun, yrs, yvr, yhd, ypa, ypi, ypd, ygs, ygn, ygc) := by
  obtain ⟨⟨w1, w2, w3, w4⟩, _, _, _, _, _, _, _, _, _, _, z1, z2⟩ := W
  obtain ⟨⟨b1, b2, b3, b4, b5⟩, e1, e2, e3, e4, e5, e6, e7, e8, e9, e10⟩ := H
  obtain ⟨q1, q2, q3, q4, q5⟩ := e10 rfl
  obtain ⟨s0, s1, s2, s3⟩ := z1 pl hp
  have H1 : sa_HY i (ns, kd, p1, p2, p3, ac) t (sv, ak, aj, gc, gk, gn, hs, hg, hn, ou) (1, pl + 1, ev, dn + 1, us, is, upd vr a (p2 pl), hd, tk, pn, pa, pi, false, -1) (nI ns, nI t, nI jc, nI tc, ac, ysp, ja, ji, jn, yhw, ywn, tj, tt, yst, upd ypl i (nI (pl + 1)), upd ydn i (nI (dn + 1)), yak, ywt, yun, yrs, upd yvr (4 * i + a) (p2 pl), yhd, ypa, ypi, ypd, ygs, ygn, ygc) := ⟨⟨by omega, by omega, by omega, by omega, by omega⟩, e1, sa_uo e2, e3, e4, e5, e6, e7, e8, fun e => absurd e (by decide), fun _ => ⟨pk_us, pk_us, q3, q4, Or.inl ⟨rfl, (sa_WCw q5).1 rfl⟩⟩⟩
  exact ⟨(nI ns, nI t, nI jc, nI tc, ac, ysp, ja, ji, jn, yhw, ywn, tj, tt, yst, upd ypl i (nI (pl + 1)), upd ydn i (nI (dn + 1)), yak, ywt, yun, yrs, upd yvr (4 * i + a) (p2 pl), yhd, ypa, ypi, ypd, ygs, ygn, ygc), ⟨⟨w1, w2, by omega, w4⟩, rfl, rfl, rfl, rfl, rfl, rfl, rfl, rfl, rfl, rfl, z1, z2⟩, H1, (fun i' hi' hne => ⟨rfl, pk_un hne, pk_un hne, rfl, rfl, rfl, rfl, fun k hk => pk_un (by omega), fun _ _ => rfl, fun _ _ => rfl, fun _ _ => rfl, rfl, fun _ _ => rfl, fun _ _ => rfl, rfl⟩), sa_yo1 hi w1 rfl rfl e1 q1 hp q2 hq (sa_mu_a hq (Nat.le_refl _)) H1 (fun Q K => sa_y_set hi (by omega) q1 s0 s1 s2 s3 hk f1 ha K)⟩
theorem sa_Y_add (hi : i < 3) (W : sa_WY (ns, kd, p1, p2, p3, ac) t (jc, ja, ji, jn, js, jt, tc, tj, tt) (nI ns, nI t, nI jc, nI tc, ac, ysp, ja, ji, jn, yhw, ywn, tj, tt, yst, ypl, ydn, yak, ywt, yun, yrs, yvr, yhd, ypa, ypi, ypd, ygs, ygn, ygc)) (H : sa_HY i (ns, kd, p1, p2, p3, ac) t (sv, ak, aj, gc, gk, gn, hs, hg, hn, ou) (1, pl, ev, dn, us, is, vr, hd, tk, pn, pa, pi, false, -1) (nI ns, nI t, nI jc, nI tc, ac, ysp, ja, ji, jn, yhw, ywn, tj, tt, yst, ypl, ydn, yak, ywt, yun, yrs, yvr, yhd, ypa, ypi, ypd, ygs, ygn, ygc)) (hp : pl < ns) (hq : dn < 200) (hk : kd pl = 1) (ha : a < 4) (hb : b < 4) (f1 : p1 pl = nI a) (f2 : p2 pl = nI b) : sa_YO i (ns, kd, p1, p2, p3, ac) t (jc, ja, ji, jn, js, jt, tc, tj, tt) (sv, ak, aj, gc, gk, gn, hs, hg, hn, ou) (1, pl, ev, dn, us, is, vr, hd, tk, pn, pa, pi, false, -1) (1, pl + 1, ev, dn + 1, us, is, upd vr a (vr a + vr b), hd, tk, pn, pa, pi, false, -1) (nI ns, nI t, nI jc, nI tc, ac, ysp, ja, ji, jn, yhw, ywn, tj, tt, yst, ypl, ydn, yak, ywt, yun, yrs, yvr, yhd, ypa, ypi, ypd, ygs, ygn, ygc) := by
  obtain ⟨⟨w1, w2, w3, w4⟩, _, _, _, _, _, _, _, _, _, _, z1, z2⟩ := W
  obtain ⟨⟨b1, b2, b3, b4, b5⟩, e1, e2, e3, e4, e5, e6, e7, e8, e9, e10⟩ := H
  obtain ⟨q1, q2, q3, q4, q5⟩ := e10 rfl
  obtain ⟨s0, s1, s2, s3⟩ := z1 pl hp
  have H1 : sa_HY i (ns, kd, p1, p2, p3, ac) t (sv, ak, aj, gc, gk, gn, hs, hg, hn, ou) (1, pl + 1, ev, dn + 1, us, is, upd vr a (vr a + vr b), hd, tk, pn, pa, pi, false, -1) (nI ns, nI t, nI jc, nI tc, ac, ysp, ja, ji, jn, yhw, ywn, tj, tt, yst, upd ypl i (nI (pl + 1)), upd ydn i (nI (dn + 1)), yak, ywt, yun, yrs, upd yvr (4 * i + a) (yvr (4 * i + a) + yvr (4 * i + b)), yhd, ypa, ypi, ypd, ygs, ygn, ygc) := ⟨⟨by omega, by omega, by omega, by omega, by omega⟩, e1, (by rw [e2 a ha, e2 b hb]; exact sa_uo e2), e3, e4, e5, e6, e7, e8, fun e => absurd e (by decide), fun _ => ⟨pk_us, pk_us, q3, q4, Or.inl ⟨rfl, (sa_WCw q5).1 rfl⟩⟩⟩
  exact ⟨(nI ns, nI t, nI jc, nI tc, ac, ysp, ja, ji, jn, yhw, ywn, tj, tt, yst, upd ypl i (nI (pl + 1)), upd ydn i (nI (dn + 1)), yak, ywt, yun, yrs, upd yvr (4 * i + a) (yvr (4 * i + a) + yvr (4 * i + b)), yhd, ypa, ypi, ypd, ygs, ygn, ygc), ⟨⟨w1, w2, by omega, w4⟩, rfl, rfl, rfl, rfl, rfl, rfl, rfl, rfl, rfl, rfl, z1, z2⟩, H1, (fun i' hi' hne => ⟨rfl, pk_un hne, pk_un hne, rfl, rfl, rfl, rfl, fun k hk => pk_un (by omega), fun _ _ => rfl, fun _ _ => rfl, fun _ _ => rfl, rfl, fun _ _ => rfl, fun _ _ => rfl, rfl⟩), sa_yo1 hi w1 rfl rfl e1 q1 hp q2 hq (sa_mu_a hq (Nat.le_refl _)) H1 (fun Q K => sa_y_add hi (by omega) q1 s0 s1 s2 s3 hk f1 ha f2 hb K)⟩
theorem sa_Y_sub (hi : i < 3) (W : sa_WY (ns, kd, p1, p2, p3, ac) t (jc, ja, ji, jn, js, jt, tc, tj, tt) (nI ns, nI t, nI jc, nI tc, ac, ysp, ja, ji, jn, yhw, ywn, tj, tt, yst, ypl, ydn, yak, ywt, yun, yrs, yvr, yhd, ypa, ypi, ypd, ygs, ygn, ygc)) (H : sa_HY i (ns, kd, p1, p2, p3, ac) t (sv, ak, aj, gc, gk, gn, hs, hg, hn, ou) (1, pl, ev, dn, us, is, vr, hd, tk, pn, pa, pi, false, -1) (nI ns, nI t, nI jc, nI tc, ac, ysp, ja, ji, jn, yhw, ywn, tj, tt, yst, ypl, ydn, yak, ywt, yun, yrs, yvr, yhd, ypa, ypi, ypd, ygs, ygn, ygc)) (hp : pl < ns) (hq : dn < 200) (hk : kd pl = 2) (ha : a < 4) (hb : b < 4) (f1 : p1 pl = nI a) (f2 : p2 pl = nI b) : sa_YO i (ns, kd, p1, p2, p3, ac) t (jc, ja, ji, jn, js, jt, tc, tj, tt) (sv, ak, aj, gc, gk, gn, hs, hg, hn, ou) (1, pl, ev, dn, us, is, vr, hd, tk, pn, pa, pi, false, -1) (1, pl + 1, ev, dn + 1, us, is, upd vr a (vr a - vr b), hd, tk, pn, pa, pi, false, -1) (nI ns, nI t, nI jc, nI tc, ac, ysp, ja, ji, jn, yhw, ywn, tj, tt, yst, ypl, ydn, yak, ywt, yun, yrs, yvr, yhd, ypa, ypi, ypd, ygs, ygn, ygc) := by
  obtain ⟨⟨w1, w2, w3, w4⟩, _, _, _, _, _, _, _, _, _, _, z1, z2⟩ := W
  obtain ⟨⟨b1, b2, b3, b4, b5⟩, e1, e2, e3, e4, e5, e6, e7, e8, e9, e10⟩ := H
  obtain ⟨q1, q2, q3, q4, q5⟩ := e10 rfl
  obtain ⟨s0, s1, s2, s3⟩ := z1 pl hp
  have H1 : sa_HY i (ns, kd, p1, p2, p3, ac) t (sv, ak, aj, gc, gk, gn, hs, hg, hn, ou) (1, pl + 1, ev, dn + 1, us, is, upd vr a (vr a - vr b), hd, tk, pn, pa, pi, false, -1) (nI ns, nI t, nI jc, nI tc, ac, ysp, ja, ji, jn, yhw, ywn, tj, tt, yst, upd ypl i (nI (pl + 1)), upd ydn i (nI (dn + 1)), yak, ywt, yun, yrs, upd yvr (4 * i + a) (yvr (4 * i + a) - yvr (4 * i + b)), yhd, ypa, ypi, ypd, ygs, ygn, ygc) := ⟨⟨by omega, by omega, by omega, by omega, by omega⟩, e1, (by rw [e2 a ha, e2 b hb]; exact sa_uo e2), e3, e4, e5, e6, e7, e8, fun e => absurd e (by decide), fun _ => ⟨pk_us, pk_us, q3, q4, Or.inl ⟨rfl, (sa_WCw q5).1 rfl⟩⟩⟩
  exact ⟨(nI ns, nI t, nI jc, nI tc, ac, ysp, ja, ji, jn, yhw, ywn, tj, tt, yst, upd ypl i (nI (pl + 1)), upd ydn i (nI (dn + 1)), yak, ywt, yun, yrs, upd yvr (4 * i + a) (yvr (4 * i + a) - yvr (4 * i + b)), yhd, ypa, ypi, ypd, ygs, ygn, ygc), ⟨⟨w1, w2, by omega, w4⟩, rfl, rfl, rfl, rfl, rfl, rfl, rfl, rfl, rfl, rfl, z1, z2⟩, H1, (fun i' hi' hne => ⟨rfl, pk_un hne, pk_un hne, rfl, rfl, rfl, rfl, fun k hk => pk_un (by omega), fun _ _ => rfl, fun _ _ => rfl, fun _ _ => rfl, rfl, fun _ _ => rfl, fun _ _ => rfl, rfl⟩), sa_yo1 hi w1 rfl rfl e1 q1 hp q2 hq (sa_mu_a hq (Nat.le_refl _)) H1 (fun Q K => sa_y_sub hi (by omega) q1 s0 s1 s2 s3 hk f1 ha f2 hb K)⟩
theorem sa_Y_dox (hi : i < 3) (W : sa_WY (ns, kd, p1, p2, p3, ac) t (jc, ja, ji, jn, js, jt, tc, tj, tt) (nI ns, nI t, nI jc, nI tc, ac, ysp, ja, ji, jn, yhw, ywn, tj, tt, yst, ypl, ydn, yak, ywt, yun, yrs, yvr, yhd, ypa, ypi, ypd, ygs, ygn, ygc)) (H : sa_HY i (ns, kd, p1, p2, p3, ac) t (sv, ak, aj, gc, gk, gn, hs, hg, hn, ou) (1, pl, ev, dn, us, is, vr, hd, tk, pn, pa, pi, false, -1) (nI ns, nI t, nI jc, nI tc, ac, ysp, ja, ji, jn, yhw, ywn, tj, tt, yst, ypl, ydn, yak, ywt, yun, yrs, yvr, yhd, ypa, ypi, ypd, ygs, ygn, ygc)) (hp : pl < ns) (hq : dn < 200) (hk : kd pl = 3) (hm : is = 30) (ha : a < 4) (hb : b < 4) (f1 : p1 pl = nI a) (f2 : p2 pl = nI b) : sa_YO i (ns, kd, p1, p2, p3, ac) t (jc, ja, ji, jn, js, jt, tc, tj, tt) (sv, ak, aj, gc, gk, gn, hs, hg, hn, ou) (1, pl, ev, dn, us, is, vr, hd, tk, pn, pa, pi, false, -1) (5, pl, 0, dn + 1, us, is, vr, hd, tk, pn, pa, pi, false, -1) (nI ns, nI t, nI jc, nI tc, ac, ysp, ja, ji, jn, yhw, ywn, tj, tt, yst, ypl, ydn, yak, ywt, yun, yrs, yvr, yhd, ypa, ypi, ypd, ygs, ygn, ygc) := by
  obtain ⟨⟨w1, w2, w3, w4⟩, _, _, _, _, _, _, _, _, _, _, z1, z2⟩ := W
  obtain ⟨⟨b1, b2, b3, b4, b5⟩, e1, e2, e3, e4, e5, e6, e7, e8, e9, e10⟩ := H
  obtain ⟨q1, q2, q3, q4, q5⟩ := e10 rfl
  obtain ⟨s0, s1, s2, s3⟩ := z1 pl hp
  have H1 : sa_HY i (ns, kd, p1, p2, p3, ac) t (sv, ak, aj, gc, gk, gn, hs, hg, hn, ou) (5, pl, 0, dn + 1, us, is, vr, hd, tk, pn, pa, pi, false, -1) (nI ns, nI t, nI jc, nI tc, ac, ysp, ja, ji, jn, yhw, ywn, tj, tt, upd yst i 5, ypl, upd ydn i (nI (dn + 1)), yak, ywt, yun, yrs, yvr, yhd, ypa, ypi, ypd, ygs, ygn, ygc) := ⟨⟨by omega, by omega, by omega, by omega, by omega⟩, pk_us, e2, e3, e4, e5, e6, e7, e8, fun e => absurd e (by decide), fun e => absurd e (by decide)⟩
  exact ⟨(nI ns, nI t, nI jc, nI tc, ac, ysp, ja, ji, jn, yhw, ywn, tj, tt, upd yst i 5, ypl, upd ydn i (nI (dn + 1)), yak, ywt, yun, yrs, yvr, yhd, ypa, ypi, ypd, ygs, ygn, ygc), ⟨⟨w1, w2, by omega, w4⟩, rfl, rfl, rfl, rfl, rfl, rfl, rfl, rfl, rfl, rfl, z1, z2⟩, H1, (fun i' hi' hne => ⟨pk_un hne, rfl, pk_un hne, rfl, rfl, rfl, rfl, fun _ _ => rfl, fun _ _ => rfl, fun _ _ => rfl, fun _ _ => rfl, rfl, fun _ _ => rfl, fun _ _ => rfl, rfl⟩), sa_yo1 hi w1 rfl rfl e1 q1 hp q2 hq (sa_mu_a hq (Nat.le_refl _)) H1 (fun Q K => sa_y_dox hi (by omega) q1 s0 s1 s2 s3 hk f1 ha f2 hb (by rw [q3, hm]; rfl) K)⟩
theorem sa_Y_startx1 (hi : i < 3) (W : sa_WY (ns, kd, p1, p2, p3, ac) t (jc, ja, ji, jn, js, jt, tc, tj, tt) (nI ns, nI t, nI jc, nI tc, ac, ysp, ja, ji, jn, yhw, ywn, tj, tt, yst, ypl, ydn, yak, ywt, yun, yrs, yvr, yhd, ypa, ypi, ypd, ygs, ygn, ygc)) (H : sa_HY i (ns, kd, p1, p2, p3, ac) t (sv, ak, aj, gc, gk, gn, hs, hg, hn, ou) (1, pl, ev, dn, us, is, vr, hd, tk, pn, pa, pi, false, -1) (nI ns, nI t, nI jc, nI tc, ac, ysp, ja, ji, jn, yhw, ywn, tj, tt, yst, ypl, ydn, yak, ywt, yun, yrs, yvr, yhd, ypa, ypi, ypd, ygs, ygn, ygc)) (hp : pl < ns) (hq : dn < 200) (hk : kd pl = 4) (ha : a < 4) (hb : b < 4) (hc : c < 3) (f1 : p1 pl = nI a) (f2 : p2 pl = nI b) (f3 : p3 pl = nI c) (hj : j < 90) (hh : hd c = nI j) : sa_YO i (ns, kd, p1, p2, p3, ac) t (jc, ja, ji, jn, js, jt, tc, tj, tt) (sv, ak, aj, gc, gk, gn, hs, hg, hn, ou) (1, pl, ev, dn, us, is, vr, hd, tk, pn, pa, pi, false, -1) (5, pl, 0, dn + 1, us, is, vr, hd, tk, pn, pa, pi, false, -1) (nI ns, nI t, nI jc, nI tc, ac, ysp, ja, ji, jn, yhw, ywn, tj, tt, yst, ypl, ydn, yak, ywt, yun, yrs, yvr, yhd, ypa, ypi, ypd, ygs, ygn, ygc) := by
  obtain ⟨⟨w1, w2, w3, w4⟩, _, _, _, _, _, _, _, _, _, _, z1, z2⟩ := W
  obtain ⟨⟨b1, b2, b3, b4, b5⟩, e1, e2, e3, e4, e5, e6, e7, e8, e9, e10⟩ := H
  obtain ⟨q1, q2, q3, q4, q5⟩ := e10 rfl
  obtain ⟨s0, s1, s2, s3⟩ := z1 pl hp
  have H1 : sa_HY i (ns, kd, p1, p2, p3, ac) t (sv, ak, aj, gc, gk, gn, hs, hg, hn, ou) (5, pl, 0, dn + 1, us, is, vr, hd, tk, pn, pa, pi, false, -1) (nI ns, nI t, nI jc, nI tc, ac, ysp, ja, ji, jn, yhw, ywn, tj, tt, upd yst i 5, ypl, upd ydn i (nI (dn + 1)), yak, ywt, yun, yrs, yvr, yhd, ypa, ypi, ypd, ygs, ygn, ygc) := ⟨⟨by omega, by omega, by omega, by omega, by omega⟩, pk_us, e2, e3, e4, e5, e6, e7, e8, fun e => absurd e (by decide), fun e => absurd e (by decide)⟩
  exact ⟨(nI ns, nI t, nI jc, nI tc, ac, ysp, ja, ji, jn, yhw, ywn, tj, tt, upd yst i 5, ypl, upd ydn i (nI (dn + 1)), yak, ywt, yun, yrs, yvr, yhd, ypa, ypi, ypd, ygs, ygn, ygc), ⟨⟨w1, w2, by omega, w4⟩, rfl, rfl, rfl, rfl, rfl, rfl, rfl, rfl, rfl, rfl, z1, z2⟩, H1, (fun i' hi' hne => ⟨pk_un hne, rfl, pk_un hne, rfl, rfl, rfl, rfl, fun _ _ => rfl, fun _ _ => rfl, fun _ _ => rfl, fun _ _ => rfl, rfl, fun _ _ => rfl, fun _ _ => rfl, rfl⟩), sa_yo1 hi w1 rfl rfl e1 q1 hp q2 hq (sa_mu_a hq (Nat.le_refl _)) H1 (fun Q K => sa_y_startx1 hi (by omega) q1 s0 s1 s2 s3 hk f1 ha f2 hb f3 hc (by rw [q4 c hc]; exact hh) hj K)⟩
theorem sa_Y_startx2 (hi : i < 3) (W : sa_WY (ns, kd, p1, p2, p3, ac) t (jc, ja, ji, jn, js, jt, tc, tj, tt) (nI ns, nI t, nI jc, nI tc, ac, ysp, ja, ji, jn, yhw, ywn, tj, tt, yst, ypl, ydn, yak, ywt, yun, yrs, yvr, yhd, ypa, ypi, ypd, ygs, ygn, ygc)) (H : sa_HY i (ns, kd, p1, p2, p3, ac) t (sv, ak, aj, gc, gk, gn, hs, hg, hn, ou) (1, pl, ev, dn, us, is, vr, hd, tk, pn, pa, pi, false, -1) (nI ns, nI t, nI jc, nI tc, ac, ysp, ja, ji, jn, yhw, ywn, tj, tt, yst, ypl, ydn, yak, ywt, yun, yrs, yvr, yhd, ypa, ypi, ypd, ygs, ygn, ygc)) (hp : pl < ns) (hq : dn < 200) (hk : kd pl = 4) (ha : a < 4) (hb : b < 4) (hc : c < 3) (f1 : p1 pl = nI a) (f2 : p2 pl = nI b) (f3 : p3 pl = nI c) (hh : hd c = -1) (hm : is = 30) : sa_YO i (ns, kd, p1, p2, p3, ac) t (jc, ja, ji, jn, js, jt, tc, tj, tt) (sv, ak, aj, gc, gk, gn, hs, hg, hn, ou) (1, pl, ev, dn, us, is, vr, hd, tk, pn, pa, pi, false, -1) (5, pl, 0, dn + 1, us, is, vr, hd, tk, pn, pa, pi, false, -1) (nI ns, nI t, nI jc, nI tc, ac, ysp, ja, ji, jn, yhw, ywn, tj, tt, yst, ypl, ydn, yak, ywt, yun, yrs, yvr, yhd, ypa, ypi, ypd, ygs, ygn, ygc) := by
  obtain ⟨⟨w1, w2, w3, w4⟩, _, _, _, _, _, _, _, _, _, _, z1, z2⟩ := W
  obtain ⟨⟨b1, b2, b3, b4, b5⟩, e1, e2, e3, e4, e5, e6, e7, e8, e9, e10⟩ := H
  obtain ⟨q1, q2, q3, q4, q5⟩ := e10 rfl
  obtain ⟨s0, s1, s2, s3⟩ := z1 pl hp
  have H1 : sa_HY i (ns, kd, p1, p2, p3, ac) t (sv, ak, aj, gc, gk, gn, hs, hg, hn, ou) (5, pl, 0, dn + 1, us, is, vr, hd, tk, pn, pa, pi, false, -1) (nI ns, nI t, nI jc, nI tc, ac, ysp, ja, ji, jn, yhw, ywn, tj, tt, upd yst i 5, upd ypl i (nI (pl + 1)), upd ydn i (nI (dn + 1)), yak, ywt, yun, yrs, yvr, upd yhd (3 * i + c) (-1), ypa, ypi, ypd, ygs, ygn, ygc) := ⟨⟨by omega, by omega, by omega, by omega, by omega⟩, pk_us, e2, e3, e4, e5, e6, e7, e8, fun e => absurd e (by decide), fun e => absurd e (by decide)⟩
  exact ⟨(nI ns, nI t, nI jc, nI tc, ac, ysp, ja, ji, jn, yhw, ywn, tj, tt, upd yst i 5, upd ypl i (nI (pl + 1)), upd ydn i (nI (dn + 1)), yak, ywt, yun, yrs, yvr, upd yhd (3 * i + c) (-1), ypa, ypi, ypd, ygs, ygn, ygc), ⟨⟨w1, w2, by omega, w4⟩, rfl, rfl, rfl, rfl, rfl, rfl, rfl, rfl, rfl, rfl, z1, z2⟩, H1, (fun i' hi' hne => ⟨pk_un hne, pk_un hne, pk_un hne, rfl, rfl, rfl, rfl, fun _ _ => rfl, fun k hk => pk_un (by omega), fun _ _ => rfl, fun _ _ => rfl, rfl, fun _ _ => rfl, fun _ _ => rfl, rfl⟩), sa_yo1 hi w1 rfl rfl e1 q1 hp q2 hq (sa_mu_a hq (Nat.le_refl _)) H1 (fun Q K => sa_y_startx2 hi (by omega) q1 s0 s1 s2 s3 hk f1 ha f2 hb f3 hc (by rw [q4 c hc]; exact hh) (by rw [q3, hm]; rfl) K)⟩
theorem sa_Y_awaitx (hi : i < 3) (W : sa_WY (ns, kd, p1, p2, p3, ac) t (jc, ja, ji, jn, js, jt, tc, tj, tt) (nI ns, nI t, nI jc, nI tc, ac, ysp, ja, ji, jn, yhw, ywn, tj, tt, yst, ypl, ydn, yak, ywt, yun, yrs, yvr, yhd, ypa, ypi, ypd, ygs, ygn, ygc)) (H : sa_HY i (ns, kd, p1, p2, p3, ac) t (sv, ak, aj, gc, gk, gn, hs, hg, hn, ou) (1, pl, ev, dn, us, is, vr, hd, tk, pn, pa, pi, false, -1) (nI ns, nI t, nI jc, nI tc, ac, ysp, ja, ji, jn, yhw, ywn, tj, tt, yst, ypl, ydn, yak, ywt, yun, yrs, yvr, yhd, ypa, ypi, ypd, ygs, ygn, ygc)) (hp : pl < ns) (hq : dn < 200) (hk : kd pl = 5) (ha : a < 3) (hb : b < 4) (f1 : p1 pl = nI a) (f2 : p2 pl = nI b) (hh : hd a = -1) : sa_YO i (ns, kd, p1, p2, p3, ac) t (jc, ja, ji, jn, js, jt, tc, tj, tt) (sv, ak, aj, gc, gk, gn, hs, hg, hn, ou) (1, pl, ev, dn, us, is, vr, hd, tk, pn, pa, pi, false, -1) (5, pl, 0, dn + 1, us, is, vr, hd, tk, pn, pa, pi, false, -1) (nI ns, nI t, nI jc, nI tc, ac, ysp, ja, ji, jn, yhw, ywn, tj, tt, yst, ypl, ydn, yak, ywt, yun, yrs, yvr, yhd, ypa, ypi, ypd, ygs, ygn, ygc) := by
  obtain ⟨⟨w1, w2, w3, w4⟩, _, _, _, _, _, _, _, _, _, _, z1, z2⟩ := W
  obtain ⟨⟨b1, b2, b3, b4, b5⟩, e1, e2, e3, e4, e5, e6, e7, e8, e9, e10⟩ := H
  obtain ⟨q1, q2, q3, q4, q5⟩ := e10 rfl
  obtain ⟨s0, s1, s2, s3⟩ := z1 pl hp
  have H1 : sa_HY i (ns, kd, p1, p2, p3, ac) t (sv, ak, aj, gc, gk, gn, hs, hg, hn, ou) (5, pl, 0, dn + 1, us, is, vr, hd, tk, pn, pa, pi, false, -1) (nI ns, nI t, nI jc, nI tc, ac, ysp, ja, ji, jn, yhw, ywn, tj, tt, upd yst i 5, ypl, upd ydn i (nI (dn + 1)), yak, ywt, yun, yrs, yvr, yhd, ypa, ypi, ypd, ygs, ygn, ygc) := ⟨⟨by omega, by omega, by omega, by omega, by omega⟩, pk_us, e2, e3, e4, e5, e6, e7, e8, fun e => absurd e (by decide), fun e => absurd e (by decide)⟩
  exact ⟨(nI ns, nI t, nI jc, nI tc, ac, ysp, ja, ji, jn, yhw, ywn, tj, tt, upd yst i 5, ypl, upd ydn i (nI (dn + 1)), yak, ywt, yun, yrs, yvr, yhd, ypa, ypi, ypd, ygs, ygn, ygc), ⟨⟨w1, w2, by omega, w4⟩, rfl, rfl, rfl, rfl, rfl, rfl, rfl, rfl, rfl, rfl, z1, z2⟩, H1, (fun i' hi' hne => ⟨pk_un hne, rfl, pk_un hne, rfl, rfl, rfl, rfl, fun _ _ => rfl, fun _ _ => rfl, fun _ _ => rfl, fun _ _ => rfl, rfl, fun _ _ => rfl, fun _ _ => rfl, rfl⟩), sa_yo1 hi w1 rfl rfl e1 q1 hp q2 hq (sa_mu_a hq (Nat.le_refl _)) H1 (fun Q K => sa_y_awaitx hi (by omega) q1 s0 s1 s2 s3 hk f1 ha f2 hb (by rw [q4 a ha]; exact hh) K)⟩
theorem sa_Y_await (hi : i < 3) (W : sa_WY (ns, kd, p1, p2, p3, ac) t (jc, ja, ji, jn, js, jt, tc, tj, tt) (nI ns, nI t, nI jc, nI tc, ac, ysp, ja, ji, jn, yhw, ywn, tj, tt, yst, ypl, ydn, yak, ywt, yun, yrs, yvr, yhd, ypa, ypi, ypd, ygs, ygn, ygc)) (H : sa_HY i (ns, kd, p1, p2, p3, ac) t (sv, ak, aj, gc, gk, gn, hs, hg, hn, ou) (1, pl, ev, dn, us, is, vr, hd, tk, pn, pa, pi, false, -1) (nI ns, nI t, nI jc, nI tc, ac, ysp, ja, ji, jn, yhw, ywn, tj, tt, yst, ypl, ydn, yak, ywt, yun, yrs, yvr, yhd, ypa, ypi, ypd, ygs, ygn, ygc)) (hp : pl < ns) (hq : dn < 200) (hk : kd pl = 5) (ha : a < 3) (hb : b < 4) (f1 : p1 pl = nI a) (f2 : p2 pl = nI b) (hj : j < 90) (hh : hd a = nI j) : sa_YO i (ns, kd, p1, p2, p3, ac) t (jc, ja, ji, jn, js, jt, tc, tj, tt) (sv, ak, aj, gc, gk, gn, hs, hg, hn, ou) (1, pl, ev, dn, us, is, vr, hd, tk, pn, pa, pi, false, -1) (1, pl, ev, dn + 1, us, is, vr, hd, tk, pn, pa, pi, false, hd a) (nI ns, nI t, nI jc, nI tc, ac, ysp, ja, ji, jn, yhw, ywn, tj, tt, yst, ypl, ydn, yak, ywt, yun, yrs, yvr, yhd, ypa, ypi, ypd, ygs, ygn, ygc) := by
  obtain ⟨⟨w1, w2, w3, w4⟩, _, _, _, _, _, _, _, _, _, _, z1, z2⟩ := W
  obtain ⟨⟨b1, b2, b3, b4, b5⟩, e1, e2, e3, e4, e5, e6, e7, e8, e9, e10⟩ := H
  obtain ⟨q1, q2, q3, q4, q5⟩ := e10 rfl
  obtain ⟨s0, s1, s2, s3⟩ := z1 pl hp
  have H1 : sa_HY i (ns, kd, p1, p2, p3, ac) t (sv, ak, aj, gc, gk, gn, hs, hg, hn, ou) (1, pl, ev, dn + 1, us, is, vr, hd, tk, pn, pa, pi, false, hd a) (nI ns, nI t, nI jc, nI tc, ac, ysp, ja, ji, jn, yhw, ywn, tj, tt, yst, ypl, upd ydn i (nI (dn + 1)), yak, upd ywt i 1, upd yun i (nI j), yrs, yvr, yhd, ypa, ypi, ypd, ygs, ygn, ygc) := ⟨⟨by omega, by omega, by omega, by omega, by omega⟩, e1, e2, e3, e4, e5, e6, e7, e8, fun e => absurd e (by decide), fun _ => ⟨q1, pk_us, q3, q4, Or.inr (Or.inr (Or.inl ⟨by rw [hh]; exact sa_ne_m1 (by omega), rfl, Or.inr hk, pk_us, pk_us.trans hh.symm⟩))⟩⟩
  exact ⟨(nI ns, nI t, nI jc, nI tc, ac, ysp, ja, ji, jn, yhw, ywn, tj, tt, yst, ypl, upd ydn i (nI (dn + 1)), yak, upd ywt i 1, upd yun i (nI j), yrs, yvr, yhd, ypa, ypi, ypd, ygs, ygn, ygc), ⟨⟨w1, w2, by omega, w4⟩, rfl, rfl, rfl, rfl, rfl, rfl, rfl, rfl, rfl, rfl, z1, z2⟩, H1, (fun i' hi' hne => ⟨rfl, rfl, pk_un hne, rfl, pk_un hne, pk_un hne, rfl, fun _ _ => rfl, fun _ _ => rfl, fun _ _ => rfl, fun _ _ => rfl, rfl, fun _ _ => rfl, fun _ _ => rfl, rfl⟩), sa_yo1 hi w1 rfl rfl e1 q1 hp q2 hq (sa_mu_a hq (Nat.le_refl _)) H1 (fun Q K => sa_y_await hi (by omega) q1 s0 s1 s2 s3 hk f1 ha f2 hb (by rw [q4 a ha]; exact hh) hj K)⟩
theorem sa_Y_undo (hi : i < 3) (W : sa_WY (ns, kd, p1, p2, p3, ac) t (jc, ja, ji, jn, js, jt, tc, tj, tt) (nI ns, nI t, nI jc, nI tc, ac, ysp, ja, ji, jn, yhw, ywn, tj, tt, yst, ypl, ydn, yak, ywt, yun, yrs, yvr, yhd, ypa, ypi, ypd, ygs, ygn, ygc)) (H : sa_HY i (ns, kd, p1, p2, p3, ac) t (sv, ak, aj, gc, gk, gn, hs, hg, hn, ou) (1, pl, ev, dn, us, is, vr, hd, tk, pn, pa, pi, false, -1) (nI ns, nI t, nI jc, nI tc, ac, ysp, ja, ji, jn, yhw, ywn, tj, tt, yst, ypl, ydn, yak, ywt, yun, yrs, yvr, yhd, ypa, ypi, ypd, ygs, ygn, ygc)) (hp : pl < ns) (hq : dn < 200) (hk : kd pl = 6) (ha : a < 4) (hb : b < 4) (f1 : p1 pl = nI a) (f2 : p2 pl = nI b) (hm : pn < 200) : sa_YO i (ns, kd, p1, p2, p3, ac) t (jc, ja, ji, jn, js, jt, tc, tj, tt) (sv, ak, aj, gc, gk, gn, hs, hg, hn, ou) (1, pl, ev, dn, us, is, vr, hd, tk, pn, pa, pi, false, -1) (1, pl + 1, ev, dn + 1, us, is, vr, hd, tk, pn + 1, upd pa pn (p1 pl), upd pi pn (vr b), false, -1) (nI ns, nI t, nI jc, nI tc, ac, ysp, ja, ji, jn, yhw, ywn, tj, tt, yst, ypl, ydn, yak, ywt, yun, yrs, yvr, yhd, ypa, ypi, ypd, ygs, ygn, ygc) := by
  obtain ⟨⟨w1, w2, w3, w4⟩, _, _, _, _, _, _, _, _, _, _, z1, z2⟩ := W
  obtain ⟨⟨b1, b2, b3, b4, b5⟩, e1, e2, e3, e4, e5, e6, e7, e8, e9, e10⟩ := H
  obtain ⟨q1, q2, q3, q4, q5⟩ := e10 rfl
  obtain ⟨s0, s1, s2, s3⟩ := z1 pl hp
  have H1 : sa_HY i (ns, kd, p1, p2, p3, ac) t (sv, ak, aj, gc, gk, gn, hs, hg, hn, ou) (1, pl + 1, ev, dn + 1, us, is, vr, hd, tk, pn + 1, upd pa pn (p1 pl), upd pi pn (vr b), false, -1) (nI ns, nI t, nI jc, nI tc, ac, ysp, ja, ji, jn, yhw, ywn, tj, tt, yst, upd ypl i (nI (pl + 1)), upd ydn i (nI (dn + 1)), yak, ywt, yun, yrs, yvr, yhd, upd ypa (200 * i + pn) (nI a), upd ypi (200 * i + pn) (yvr (4 * i + b)), upd ypd i (nI (pn + 1)), ygs, ygn, ygc) := ⟨⟨by omega, by omega, by omega, by omega, by omega⟩, e1, e2, pk_us, (by rw [f1]; exact sa_ua e4), (by rw [e2 b hb]; exact sa_ua e5), e6, e7, e8, fun e => absurd e (by decide), fun _ => ⟨pk_us, pk_us, q3, q4, Or.inl ⟨rfl, (sa_WCw q5).1 rfl⟩⟩⟩
  exact ⟨(nI ns, nI t, nI jc, nI tc, ac, ysp, ja, ji, jn, yhw, ywn, tj, tt, yst, upd ypl i (nI (pl + 1)), upd ydn i (nI (dn + 1)), yak, ywt, yun, yrs, yvr, yhd, upd ypa (200 * i + pn) (nI a), upd ypi (200 * i + pn) (yvr (4 * i + b)), upd ypd i (nI (pn + 1)), ygs, ygn, ygc), ⟨⟨w1, w2, by omega, w4⟩, rfl, rfl, rfl, rfl, rfl, rfl, rfl, rfl, rfl, rfl, z1, z2⟩, H1, (fun i' hi' hne => ⟨rfl, pk_un hne, pk_un hne, rfl, rfl, rfl, rfl, fun _ _ => rfl, fun _ _ => rfl, fun k hk => pk_un (by omega), fun k hk => pk_un (by omega), pk_un hne, fun _ _ => rfl, fun _ _ => rfl, rfl⟩), sa_yo1 hi w1 rfl rfl e1 q1 hp q2 hq (sa_mu_a hq (Nat.le_refl _)) H1 (fun Q K => sa_y_undo hi (by omega) q1 s0 s1 s2 s3 hk f1 ha f2 hb e3 hm K)⟩
theorem sa_Y_sleep (hi : i < 3) (W : sa_WY (ns, kd, p1, p2, p3, ac) t (jc, ja, ji, jn, js, jt, tc, tj, tt) (nI ns, nI t, nI jc, nI tc, ac, ysp, ja, ji, jn, yhw, ywn, tj, tt, yst, ypl, ydn, yak, ywt, yun, yrs, yvr, yhd, ypa, ypi, ypd, ygs, ygn, ygc)) (H : sa_HY i (ns, kd, p1, p2, p3, ac) t (sv, ak, aj, gc, gk, gn, hs, hg, hn, ou) (1, pl, ev, dn, us, is, vr, hd, tk, pn, pa, pi, false, -1) (nI ns, nI t, nI jc, nI tc, ac, ysp, ja, ji, jn, yhw, ywn, tj, tt, yst, ypl, ydn, yak, ywt, yun, yrs, yvr, yhd, ypa, ypi, ypd, ygs, ygn, ygc)) (hp : pl < ns) (hq : dn < 200) (hk : kd pl = 7) (ha : a < 4) (f1 : p1 pl = nI a) (ho : ou = -1) : sa_YO i (ns, kd, p1, p2, p3, ac) t (jc, ja, ji, jn, js, jt, tc, tj, tt) (sv, ak, aj, gc, gk, gn, hs, hg, hn, ou) (1, pl, ev, dn, us, is, vr, hd, tk, pn, pa, pi, false, -1) (1, pl, ev, dn + 1, us, is, vr, hd, tk, pn, pa, pi, false, 0) (nI ns, nI t, nI jc, nI tc, ac, ysp, ja, ji, jn, yhw, ywn, tj, tt, yst, ypl, ydn, yak, ywt, yun, yrs, yvr, yhd, ypa, ypi, ypd, ygs, ygn, ygc) := by
  obtain ⟨⟨w1, w2, w3, w4⟩, _, _, _, _, _, _, _, _, _, _, z1, z2⟩ := W
  obtain ⟨⟨b1, b2, b3, b4, b5⟩, e1, e2, e3, e4, e5, e6, e7, e8, e9, e10⟩ := H
  obtain ⟨q1, q2, q3, q4, q5⟩ := e10 rfl
  obtain ⟨s0, s1, s2, s3⟩ := z1 pl hp
  have H1 : sa_HY i (ns, kd, p1, p2, p3, ac) t (sv, ak, aj, gc, gk, gn, hs, hg, hn, ou) (1, pl, ev, dn + 1, us, is, vr, hd, tk, pn, pa, pi, false, 0) (nI ns, nI t, nI jc, nI tc, ac, ysp, ja, ji, jn, yhw, ywn, tj, tt, yst, ypl, upd ydn i (nI (dn + 1)), yak, upd ywt i 2, upd yun i (nI t + sa_cl (yvr (4 * i + a))), yrs, yvr, yhd, ypa, ypi, ypd, ygs, ygn, ygc) := ⟨⟨by omega, by omega, by omega, by omega, by omega⟩, e1, e2, e3, e4, e5, e6, e7, e8, fun e => absurd e (by decide), fun _ => ⟨q1, pk_us, q3, q4, Or.inr (Or.inr (Or.inr (Or.inl ⟨show (0 : Int32) ≠ -1 from by decide, rfl, hk, pk_us, fun e => absurd ho e, fun _ => ⟨a, ha, f1, by rw [pk_us, e2 a ha]⟩⟩)))⟩⟩
  exact ⟨(nI ns, nI t, nI jc, nI tc, ac, ysp, ja, ji, jn, yhw, ywn, tj, tt, yst, ypl, upd ydn i (nI (dn + 1)), yak, upd ywt i 2, upd yun i (nI t + sa_cl (yvr (4 * i + a))), yrs, yvr, yhd, ypa, ypi, ypd, ygs, ygn, ygc), ⟨⟨w1, w2, by omega, w4⟩, rfl, rfl, rfl, rfl, rfl, rfl, rfl, rfl, rfl, rfl, z1, z2⟩, H1, (fun i' hi' hne => ⟨rfl, rfl, pk_un hne, rfl, pk_un hne, pk_un hne, rfl, fun _ _ => rfl, fun _ _ => rfl, fun _ _ => rfl, fun _ _ => rfl, rfl, fun _ _ => rfl, fun _ _ => rfl, rfl⟩), sa_yo1 hi w1 rfl rfl e1 q1 hp q2 hq (sa_mu_a hq (Nat.le_refl _)) H1 (fun Q K => sa_y_sleep hi (by omega) q1 s0 s1 s2 s3 hk f1 ha K)⟩
theorem sa_Y_jump (hi : i < 3) (W : sa_WY (ns, kd, p1, p2, p3, ac) t (jc, ja, ji, jn, js, jt, tc, tj, tt) (nI ns, nI t, nI jc, nI tc, ac, ysp, ja, ji, jn, yhw, ywn, tj, tt, yst, ypl, ydn, yak, ywt, yun, yrs, yvr, yhd, ypa, ypi, ypd, ygs, ygn, ygc)) (H : sa_HY i (ns, kd, p1, p2, p3, ac) t (sv, ak, aj, gc, gk, gn, hs, hg, hn, ou) (1, pl, ev, dn, us, is, vr, hd, tk, pn, pa, pi, false, -1) (nI ns, nI t, nI jc, nI tc, ac, ysp, ja, ji, jn, yhw, ywn, tj, tt, yst, ypl, ydn, yak, ywt, yun, yrs, yvr, yhd, ypa, ypi, ypd, ygs, ygn, ygc)) (hp : pl < ns) (hq : dn < 200) (hk : kd pl = 8) (ha : a < 20) (f1 : p1 pl = nI a) : sa_YO i (ns, kd, p1, p2, p3, ac) t (jc, ja, ji, jn, js, jt, tc, tj, tt) (sv, ak, aj, gc, gk, gn, hs, hg, hn, ou) (1, pl, ev, dn, us, is, vr, hd, tk, pn, pa, pi, false, -1) (1, a, ev, dn + 1, us, is, vr, hd, tk, pn, pa, pi, false, -1) (nI ns, nI t, nI jc, nI tc, ac, ysp, ja, ji, jn, yhw, ywn, tj, tt, yst, ypl, ydn, yak, ywt, yun, yrs, yvr, yhd, ypa, ypi, ypd, ygs, ygn, ygc) := by
  obtain ⟨⟨w1, w2, w3, w4⟩, _, _, _, _, _, _, _, _, _, _, z1, z2⟩ := W
  obtain ⟨⟨b1, b2, b3, b4, b5⟩, e1, e2, e3, e4, e5, e6, e7, e8, e9, e10⟩ := H
  obtain ⟨q1, q2, q3, q4, q5⟩ := e10 rfl
  obtain ⟨s0, s1, s2, s3⟩ := z1 pl hp
  have H1 : sa_HY i (ns, kd, p1, p2, p3, ac) t (sv, ak, aj, gc, gk, gn, hs, hg, hn, ou) (1, a, ev, dn + 1, us, is, vr, hd, tk, pn, pa, pi, false, -1) (nI ns, nI t, nI jc, nI tc, ac, ysp, ja, ji, jn, yhw, ywn, tj, tt, yst, upd ypl i (nI a), upd ydn i (nI (dn + 1)), yak, ywt, yun, yrs, yvr, yhd, ypa, ypi, ypd, ygs, ygn, ygc) := ⟨⟨by omega, by omega, by omega, by omega, by omega⟩, e1, e2, e3, e4, e5, e6, e7, e8, fun e => absurd e (by decide), fun _ => ⟨pk_us, pk_us, q3, q4, Or.inl ⟨rfl, (sa_WCw q5).1 rfl⟩⟩⟩
  exact ⟨(nI ns, nI t, nI jc, nI tc, ac, ysp, ja, ji, jn, yhw, ywn, tj, tt, yst, upd ypl i (nI a), upd ydn i (nI (dn + 1)), yak, ywt, yun, yrs, yvr, yhd, ypa, ypi, ypd, ygs, ygn, ygc), ⟨⟨w1, w2, by omega, w4⟩, rfl, rfl, rfl, rfl, rfl, rfl, rfl, rfl, rfl, rfl, z1, z2⟩, H1, (fun i' hi' hne => ⟨rfl, pk_un hne, pk_un hne, rfl, rfl, rfl, rfl, fun _ _ => rfl, fun _ _ => rfl, fun _ _ => rfl, fun _ _ => rfl, rfl, fun _ _ => rfl, fun _ _ => rfl, rfl⟩), sa_yo1 hi w1 rfl rfl e1 q1 hp q2 hq (sa_mu_a hq (Nat.le_refl _)) H1 (fun Q K => sa_y_jump hi (by omega) q1 s0 s1 s2 s3 hk f1 ha K)⟩
theorem sa_Y_less1 (hi : i < 3) (W : sa_WY (ns, kd, p1, p2, p3, ac) t (jc, ja, ji, jn, js, jt, tc, tj, tt) (nI ns, nI t, nI jc, nI tc, ac, ysp, ja, ji, jn, yhw, ywn, tj, tt, yst, ypl, ydn, yak, ywt, yun, yrs, yvr, yhd, ypa, ypi, ypd, ygs, ygn, ygc)) (H : sa_HY i (ns, kd, p1, p2, p3, ac) t (sv, ak, aj, gc, gk, gn, hs, hg, hn, ou) (1, pl, ev, dn, us, is, vr, hd, tk, pn, pa, pi, false, -1) (nI ns, nI t, nI jc, nI tc, ac, ysp, ja, ji, jn, yhw, ywn, tj, tt, yst, ypl, ydn, yak, ywt, yun, yrs, yvr, yhd, ypa, ypi, ypd, ygs, ygn, ygc)) (hp : pl < ns) (hq : dn < 200) (hk : kd pl = 9) (ha : a < 4) (hb : b < 4) (f1 : p1 pl = nI a) (f2 : p2 pl = nI b) (hz : vr b ≤ vr a) : sa_YO i (ns, kd, p1, p2, p3, ac) t (jc, ja, ji, jn, js, jt, tc, tj, tt) (sv, ak, aj, gc, gk, gn, hs, hg, hn, ou) (1, pl, ev, dn, us, is, vr, hd, tk, pn, pa, pi, false, -1) (1, pl + 1, ev, dn + 1, us, is, vr, hd, tk, pn, pa, pi, false, -1) (nI ns, nI t, nI jc, nI tc, ac, ysp, ja, ji, jn, yhw, ywn, tj, tt, yst, ypl, ydn, yak, ywt, yun, yrs, yvr, yhd, ypa, ypi, ypd, ygs, ygn, ygc) := by
  obtain ⟨⟨w1, w2, w3, w4⟩, _, _, _, _, _, _, _, _, _, _, z1, z2⟩ := W
  obtain ⟨⟨b1, b2, b3, b4, b5⟩, e1, e2, e3, e4, e5, e6, e7, e8, e9, e10⟩ := H
  obtain ⟨q1, q2, q3, q4, q5⟩ := e10 rfl
  obtain ⟨s0, s1, s2, s3⟩ := z1 pl hp
  have H1 : sa_HY i (ns, kd, p1, p2, p3, ac) t (sv, ak, aj, gc, gk, gn, hs, hg, hn, ou) (1, pl + 1, ev, dn + 1, us, is, vr, hd, tk, pn, pa, pi, false, -1) (nI ns, nI t, nI jc, nI tc, ac, ysp, ja, ji, jn, yhw, ywn, tj, tt, yst, upd ypl i (nI (pl + 1)), upd ydn i (nI (dn + 1)), yak, ywt, yun, yrs, yvr, yhd, ypa, ypi, ypd, ygs, ygn, ygc) := ⟨⟨by omega, by omega, by omega, by omega, by omega⟩, e1, e2, e3, e4, e5, e6, e7, e8, fun e => absurd e (by decide), fun _ => ⟨pk_us, pk_us, q3, q4, Or.inl ⟨rfl, (sa_WCw q5).1 rfl⟩⟩⟩
  exact ⟨(nI ns, nI t, nI jc, nI tc, ac, ysp, ja, ji, jn, yhw, ywn, tj, tt, yst, upd ypl i (nI (pl + 1)), upd ydn i (nI (dn + 1)), yak, ywt, yun, yrs, yvr, yhd, ypa, ypi, ypd, ygs, ygn, ygc), ⟨⟨w1, w2, by omega, w4⟩, rfl, rfl, rfl, rfl, rfl, rfl, rfl, rfl, rfl, rfl, z1, z2⟩, H1, (fun i' hi' hne => ⟨rfl, pk_un hne, pk_un hne, rfl, rfl, rfl, rfl, fun _ _ => rfl, fun _ _ => rfl, fun _ _ => rfl, fun _ _ => rfl, rfl, fun _ _ => rfl, fun _ _ => rfl, rfl⟩), sa_yo1 hi w1 rfl rfl e1 q1 hp q2 hq (sa_mu_a hq (Nat.le_refl _)) H1 (fun Q K => sa_y_less1 hi (by omega) q1 s0 s1 s2 s3 hk f1 ha f2 hb (by rw [e2 a ha, e2 b hb]; exact hz) K)⟩
theorem sa_Y_less2 (hi : i < 3) (W : sa_WY (ns, kd, p1, p2, p3, ac) t (jc, ja, ji, jn, js, jt, tc, tj, tt) (nI ns, nI t, nI jc, nI tc, ac, ysp, ja, ji, jn, yhw, ywn, tj, tt, yst, ypl, ydn, yak, ywt, yun, yrs, yvr, yhd, ypa, ypi, ypd, ygs, ygn, ygc)) (H : sa_HY i (ns, kd, p1, p2, p3, ac) t (sv, ak, aj, gc, gk, gn, hs, hg, hn, ou) (1, pl, ev, dn, us, is, vr, hd, tk, pn, pa, pi, false, -1) (nI ns, nI t, nI jc, nI tc, ac, ysp, ja, ji, jn, yhw, ywn, tj, tt, yst, ypl, ydn, yak, ywt, yun, yrs, yvr, yhd, ypa, ypi, ypd, ygs, ygn, ygc)) (hp : pl < ns) (hq : dn < 200) (hk : kd pl = 9) (ha : a < 4) (hb : b < 4) (hc : c < 20) (f1 : p1 pl = nI a) (f2 : p2 pl = nI b) (f3 : p3 pl = nI c) (hz : ¬ vr b ≤ vr a) : sa_YO i (ns, kd, p1, p2, p3, ac) t (jc, ja, ji, jn, js, jt, tc, tj, tt) (sv, ak, aj, gc, gk, gn, hs, hg, hn, ou) (1, pl, ev, dn, us, is, vr, hd, tk, pn, pa, pi, false, -1) (1, c, ev, dn + 1, us, is, vr, hd, tk, pn, pa, pi, false, -1) (nI ns, nI t, nI jc, nI tc, ac, ysp, ja, ji, jn, yhw, ywn, tj, tt, yst, ypl, ydn, yak, ywt, yun, yrs, yvr, yhd, ypa, ypi, ypd, ygs, ygn, ygc) := by
  obtain ⟨⟨w1, w2, w3, w4⟩, _, _, _, _, _, _, _, _, _, _, z1, z2⟩ := W
  obtain ⟨⟨b1, b2, b3, b4, b5⟩, e1, e2, e3, e4, e5, e6, e7, e8, e9, e10⟩ := H
  obtain ⟨q1, q2, q3, q4, q5⟩ := e10 rfl
  obtain ⟨s0, s1, s2, s3⟩ := z1 pl hp
  have H1 : sa_HY i (ns, kd, p1, p2, p3, ac) t (sv, ak, aj, gc, gk, gn, hs, hg, hn, ou) (1, c, ev, dn + 1, us, is, vr, hd, tk, pn, pa, pi, false, -1) (nI ns, nI t, nI jc, nI tc, ac, ysp, ja, ji, jn, yhw, ywn, tj, tt, yst, upd ypl i (p3 pl), upd ydn i (nI (dn + 1)), yak, ywt, yun, yrs, yvr, yhd, ypa, ypi, ypd, ygs, ygn, ygc) := ⟨⟨by omega, by omega, by omega, by omega, by omega⟩, e1, e2, e3, e4, e5, e6, e7, e8, fun e => absurd e (by decide), fun _ => ⟨(by rw [f3]; exact pk_us), pk_us, q3, q4, Or.inl ⟨rfl, (sa_WCw q5).1 rfl⟩⟩⟩
  exact ⟨(nI ns, nI t, nI jc, nI tc, ac, ysp, ja, ji, jn, yhw, ywn, tj, tt, yst, upd ypl i (p3 pl), upd ydn i (nI (dn + 1)), yak, ywt, yun, yrs, yvr, yhd, ypa, ypi, ypd, ygs, ygn, ygc), ⟨⟨w1, w2, by omega, w4⟩, rfl, rfl, rfl, rfl, rfl, rfl, rfl, rfl, rfl, rfl, z1, z2⟩, H1, (fun i' hi' hne => ⟨rfl, pk_un hne, pk_un hne, rfl, rfl, rfl, rfl, fun _ _ => rfl, fun _ _ => rfl, fun _ _ => rfl, fun _ _ => rfl, rfl, fun _ _ => rfl, fun _ _ => rfl, rfl⟩), sa_yo1 hi w1 rfl rfl e1 q1 hp q2 hq (sa_mu_a hq (Nat.le_refl _)) H1 (fun Q K => sa_y_less2 hi (by omega) q1 s0 s1 s2 s3 hk f1 ha f2 hb (by rw [e2 a ha, e2 b hb]; exact hz) K)⟩
theorem sa_Y_signal (hi : i < 3) (W : sa_WY (ns, kd, p1, p2, p3, ac) t (jc, ja, ji, jn, js, jt, tc, tj, tt) (nI ns, nI t, nI jc, nI tc, ac, ysp, ja, ji, jn, yhw, ywn, tj, tt, yst, ypl, ydn, yak, ywt, yun, yrs, yvr, yhd, ypa, ypi, ypd, ygs, ygn, ygc)) (H : sa_HY i (ns, kd, p1, p2, p3, ac) t (sv, ak, aj, gc, gk, gn, hs, hg, hn, ou) (1, pl, ev, dn, us, is, vr, hd, tk, pn, pa, pi, false, -1) (nI ns, nI t, nI jc, nI tc, ac, ysp, ja, ji, jn, yhw, ywn, tj, tt, yst, ypl, ydn, yak, ywt, yun, yrs, yvr, yhd, ypa, ypi, ypd, ygs, ygn, ygc)) (hp : pl < ns) (hq : dn < 200) (hk : kd pl = 10) (ha : a < 2) (f1 : p1 pl = nI a) (ho : ou = -1) : sa_YO i (ns, kd, p1, p2, p3, ac) t (jc, ja, ji, jn, js, jt, tc, tj, tt) (sv, ak, aj, gc, gk, gn, hs, hg, hn, ou) (1, pl, ev, dn, us, is, vr, hd, tk, pn, pa, pi, false, -1) (1, pl, ev, dn + 1, us, is, vr, hd, tk, pn, pa, pi, false, 0) (nI ns, nI t, nI jc, nI tc, ac, ysp, ja, ji, jn, yhw, ywn, tj, tt, yst, ypl, ydn, yak, ywt, yun, yrs, yvr, yhd, ypa, ypi, ypd, ygs, ygn, ygc) := by
  obtain ⟨⟨w1, w2, w3, w4⟩, _, _, _, _, _, _, _, _, _, _, z1, z2⟩ := W
  obtain ⟨⟨b1, b2, b3, b4, b5⟩, e1, e2, e3, e4, e5, e6, e7, e8, e9, e10⟩ := H
  obtain ⟨q1, q2, q3, q4, q5⟩ := e10 rfl
  obtain ⟨s0, s1, s2, s3⟩ := z1 pl hp
  have H1 : sa_HY i (ns, kd, p1, p2, p3, ac) t (sv, ak, aj, gc, gk, gn, hs, hg, hn, ou) (1, pl, ev, dn + 1, us, is, vr, hd, tk, pn, pa, pi, false, 0) (nI ns, nI t, nI jc, nI tc, ac, ysp, ja, ji, jn, yhw, ywn, tj, tt, yst, ypl, upd ydn i (nI (dn + 1)), yak, upd ywt i 3, upd yun i (nI t + p3 pl), yrs, yvr, yhd, ypa, ypi, ypd, ygs, ygn, ygc) := ⟨⟨by omega, by omega, by omega, by omega, by omega⟩, e1, e2, e3, e4, e5, e6, e7, e8, fun e => absurd e (by decide), fun _ => ⟨q1, pk_us, q3, q4, Or.inr (Or.inr (Or.inr (Or.inr ⟨show (0 : Int32) ≠ -1 from by decide, rfl, hk, pk_us, fun e => absurd ho e, fun _ => pk_us⟩)))⟩⟩
  exact ⟨(nI ns, nI t, nI jc, nI tc, ac, ysp, ja, ji, jn, yhw, ywn, tj, tt, yst, ypl, upd ydn i (nI (dn + 1)), yak, upd ywt i 3, upd yun i (nI t + p3 pl), yrs, yvr, yhd, ypa, ypi, ypd, ygs, ygn, ygc), ⟨⟨w1, w2, by omega, w4⟩, rfl, rfl, rfl, rfl, rfl, rfl, rfl, rfl, rfl, rfl, z1, z2⟩, H1, (fun i' hi' hne => ⟨rfl, rfl, pk_un hne, rfl, pk_un hne, pk_un hne, rfl, fun _ _ => rfl, fun _ _ => rfl, fun _ _ => rfl, fun _ _ => rfl, rfl, fun _ _ => rfl, fun _ _ => rfl, rfl⟩), sa_yo1 hi w1 rfl rfl e1 q1 hp q2 hq (sa_mu_a hq (Nat.le_refl _)) H1 (fun Q K => sa_y_signal hi (by omega) q1 s0 s1 s2 s3 hk f1 (show a < 4 by omega) K)⟩
theorem sa_Y_ends (hi : i < 3) (W : sa_WY (ns, kd, p1, p2, p3, ac) t (jc, ja, ji, jn, js, jt, tc, tj, tt) (nI ns, nI t, nI jc, nI tc, ac, ysp, ja, ji, jn, yhw, ywn, tj, tt, yst, ypl, ydn, yak, ywt, yun, yrs, yvr, yhd, ypa, ypi, ypd, ygs, ygn, ygc)) (H : sa_HY i (ns, kd, p1, p2, p3, ac) t (sv, ak, aj, gc, gk, gn, hs, hg, hn, ou) (1, pl, ev, dn, us, is, vr, hd, tk, pn, pa, pi, false, -1) (nI ns, nI t, nI jc, nI tc, ac, ysp, ja, ji, jn, yhw, ywn, tj, tt, yst, ypl, ydn, yak, ywt, yun, yrs, yvr, yhd, ypa, ypi, ypd, ygs, ygn, ygc)) (hp : pl < ns) (hq : dn < 200) (hk : kd pl = 11) (ha : a < 4) (f1 : p1 pl = nI a) : sa_YO i (ns, kd, p1, p2, p3, ac) t (jc, ja, ji, jn, js, jt, tc, tj, tt) (sv, ak, aj, gc, gk, gn, hs, hg, hn, ou) (1, pl, ev, dn, us, is, vr, hd, tk, pn, pa, pi, false, -1) (2, pl, vr a, dn + 1, us, is, vr, hd, tk, pn, pa, pi, false, -1) (nI ns, nI t, nI jc, nI tc, ac, ysp, ja, ji, jn, yhw, ywn, tj, tt, yst, ypl, ydn, yak, ywt, yun, yrs, yvr, yhd, ypa, ypi, ypd, ygs, ygn, ygc) := by
  obtain ⟨⟨w1, w2, w3, w4⟩, _, _, _, _, _, _, _, _, _, _, z1, z2⟩ := W
  obtain ⟨⟨b1, b2, b3, b4, b5⟩, e1, e2, e3, e4, e5, e6, e7, e8, e9, e10⟩ := H
  obtain ⟨q1, q2, q3, q4, q5⟩ := e10 rfl
  obtain ⟨s0, s1, s2, s3⟩ := z1 pl hp
  have H1 : sa_HY i (ns, kd, p1, p2, p3, ac) t (sv, ak, aj, gc, gk, gn, hs, hg, hn, ou) (2, pl, vr a, dn + 1, us, is, vr, hd, tk, pn, pa, pi, false, -1) (nI ns, nI t, nI jc, nI tc, ac, ysp, ja, ji, jn, yhw, ywn, tj, tt, upd yst i 2, ypl, upd ydn i (nI (dn + 1)), yak, ywt, yun, upd yrs i (yvr (4 * i + a)), yvr, yhd, ypa, ypi, ypd, ygs, ygn, ygc) := ⟨⟨by omega, by omega, by omega, by omega, by omega⟩, pk_us, e2, e3, e4, e5, e6, e7, e8, fun _ => (by rw [e2 a ha]; exact pk_us), fun e => absurd e (by decide)⟩
  exact ⟨(nI ns, nI t, nI jc, nI tc, ac, ysp, ja, ji, jn, yhw, ywn, tj, tt, upd yst i 2, ypl, upd ydn i (nI (dn + 1)), yak, ywt, yun, upd yrs i (yvr (4 * i + a)), yvr, yhd, ypa, ypi, ypd, ygs, ygn, ygc), ⟨⟨w1, w2, by omega, w4⟩, rfl, rfl, rfl, rfl, rfl, rfl, rfl, rfl, rfl, rfl, z1, z2⟩, H1, (fun i' hi' hne => ⟨pk_un hne, rfl, pk_un hne, rfl, rfl, rfl, pk_un hne, fun _ _ => rfl, fun _ _ => rfl, fun _ _ => rfl, fun _ _ => rfl, rfl, fun _ _ => rfl, fun _ _ => rfl, rfl⟩), sa_yo1 hi w1 rfl rfl e1 q1 hp q2 hq (sa_mu_a hq (Nat.le_refl _)) H1 (fun Q K => sa_y_ends hi (by omega) q1 s0 s1 s2 s3 hk f1 ha K)⟩
theorem sa_cl0 {x : Int32} (h : x ≤ 0) : sa_cl x = 0 := by
  unfold sa_cl
  by_cases h0 : 0 ≤ x
  · have e0 : x = 0 := Int32.le_antisymm h h0
    subst e0
    decide
  · rw [if_neg h0]
theorem sa_Y_sleep0 (hi : i < 3) (W : sa_WY (ns, kd, p1, p2, p3, ac) t (jc, ja, ji, jn, js, jt, tc, tj, tt) (nI ns, nI t, nI jc, nI tc, ac, ysp, ja, ji, jn, yhw, ywn, tj, tt, yst, ypl, ydn, yak, ywt, yun, yrs, yvr, yhd, ypa, ypi, ypd, ygs, ygn, ygc)) (H : sa_HY i (ns, kd, p1, p2, p3, ac) t (sv, ak, aj, gc, gk, gn, hs, hg, hn, ou) (1, pl, ev, dn, us, is, vr, hd, tk, pn, pa, pi, false, -1) (nI ns, nI t, nI jc, nI tc, ac, ysp, ja, ji, jn, yhw, ywn, tj, tt, yst, ypl, ydn, yak, ywt, yun, yrs, yvr, yhd, ypa, ypi, ypd, ygs, ygn, ygc)) (hp : pl < ns) (hq : dn < 200) (hk : kd pl = 7) (ha : a < 4) (f1 : p1 pl = nI a) (hz : vr a ≤ 0) : sa_YO i (ns, kd, p1, p2, p3, ac) t (jc, ja, ji, jn, js, jt, tc, tj, tt) (sv, ak, aj, gc, gk, gn, hs, hg, hn, ou) (1, pl, ev, dn, us, is, vr, hd, tk, pn, pa, pi, false, -1) (1, pl + 1, ev, dn + 1, us, is, vr, hd, tk, pn, pa, pi, false, -1) (nI ns, nI t, nI jc, nI tc, ac, ysp, ja, ji, jn, yhw, ywn, tj, tt, yst, ypl, ydn, yak, ywt, yun, yrs, yvr, yhd, ypa, ypi, ypd, ygs, ygn, ygc) := by
  obtain ⟨⟨w1, w2, w3, w4⟩, _, _, _, _, _, _, _, _, _, _, z1, z2⟩ := W
  obtain ⟨⟨b1, b2, b3, b4, b5⟩, e1, e2, e3, e4, e5, e6, e7, e8, e9, e10⟩ := H
  obtain ⟨q1, q2, q3, q4, q5⟩ := e10 rfl
  obtain ⟨s0, s1, s2, s3⟩ := z1 pl hp
  refine ⟨(nI ns, nI t, nI jc, nI tc, ac, ysp, ja, ji, jn, yhw, ywn, tj, tt, yst, upd ypl i (nI (pl + 1)), upd ydn i (nI (dn + 1)), yak, upd (upd ywt i 2) i 0, upd yun i (nI t + sa_cl (yvr (4 * i + a))), yrs, yvr, yhd, ypa, ypi, ypd, ygs, ygn, ygc), ⟨⟨w1, w2, by omega, w4⟩, rfl, rfl, rfl, rfl, rfl, rfl, rfl, rfl, rfl, rfl, z1, z2⟩, ⟨⟨by omega, by omega, by omega, by omega, by omega⟩, e1, e2, e3, e4, e5, e6, e7, e8, fun e => absurd e (by decide), fun _ => ⟨pk_us, pk_us, q3, q4, Or.inl ⟨rfl, pk_us⟩⟩⟩, (fun i' hi' hne => ⟨rfl, pk_un hne, pk_un hne, rfl, (pk_un hne).trans (pk_un hne), pk_un hne, rfl, fun _ _ => rfl, fun _ _ => rfl, fun _ _ => rfl, fun _ _ => rfl, rfl, fun _ _ => rfl, fun _ _ => rfl, rfl⟩), fun post G => ⟨fun e => absurd rfl e, fun _ _ n hn => ?_, fun _ e => absurd rfl e⟩⟩
  have hm : sa_mu (1, pl + 1, ev, dn + 1, us, is, vr, hd, tk, pn, pa, pi, false, -1) < sa_mu (1, pl, ev, dn, us, is, vr, hd, tk, pn, pa, pi, false, -1) := sa_mu_a hq (Nat.le_refl _)
  obtain ⟨n, rfl⟩ : ∃ k, n = k + 1 := ⟨n - 1, by omega⟩
  refine sa_YL1 hi w1 e1 q1 hp q2 hq (fun Q hQ => sa_y_sleep hi (by omega) q1 s0 s1 s2 s3 hk f1 ha (hQ _ ?_))
  refine ⟨fun _ => ⟨fun e => ?_, fun _ R _ h1 => ?_⟩, fun e => absurd e1 e⟩
  · rw [pk_us] at e
    exact absurd e (by decide)
  · refine sa_g_t1 hi (by omega) q1 pk_us ?_ (h1 _ (G.2.1 rfl rfl n (by omega)))
    rw [pk_us, e2 a ha, sa_cl0 hz, sa_p0]
    exact Int32.lt_irrefl
end
end
section
/-! the reference's steps, all of them -/
theorem sa_WYi {P : sa_P} {t : Nat} {J : sa_J} {v : SY} {C : sa_P → sa_J → SY → Prop} (W : sa_WY P t J v)
    (h : ∀ (ns jc tc : Nat) (kd p1 p2 p3 ac ja ji jn js jt tj tt ysp yhw ywn yst ypl ydn yak ywt yun yrs yvr yhd ypa ypi ypd ygs ygn ygc : Nat → Int32), sa_WY (ns, kd, p1, p2, p3, ac) t (jc, ja, ji, jn, js, jt, tc, tj, tt) (nI ns, nI t, nI jc, nI tc, ac, ysp, ja, ji, jn, yhw, ywn, tj, tt, yst, ypl, ydn, yak, ywt, yun, yrs, yvr, yhd, ypa, ypi, ypd, ygs, ygn, ygc) → C (ns, kd, p1, p2, p3, ac) (jc, ja, ji, jn, js, jt, tc, tj, tt) (nI ns, nI t, nI jc, nI tc, ac, ysp, ja, ji, jn, yhw, ywn, tj, tt, yst, ypl, ydn, yak, ywt, yun, yrs, yvr, yhd, ypa, ypi, ypd, ygs, ygn, ygc)) : C P J v := by
  obtain ⟨ns, kd, p1, p2, p3, ac⟩ := P
  obtain ⟨jc, ja, ji, jn, js, jt, tc, tj, tt⟩ := J
  obtain ⟨yns, ynow, yjc, ytc, yac, ysp, yja, yji, yjn, yhw, ywn, ytj, ytt, yst, ypl, ydn, yak, ywt, yun, yrs, yvr, yhd, ypa, ypi, ypd, ygs, ygn, ygc⟩ := v
  have W' := W
  obtain ⟨⟨w1, w2, w3, w4⟩, rfl, rfl, rfl, rfl, rfl, rfl, rfl, rfl, rfl, rfl, z1, z2⟩ := W
  exact h ns jc tc kd p1 p2 p3 yac yja yji yjn js jt ytj ytt ysp yhw ywn yst ypl ydn yak ywt yun yrs yvr yhd ypa ypi ypd ygs ygn ygc W'
/-- handles hold jobs -/
def sa_Hd (h : sa_H) : Prop := match h with | (st, pl, ev, dn, us, is, vr, hd, tk, pn, pa, pi, un, wj) => ∀ k, k < 3 → hd k = -1 ∨ ∃ j, j < 90 ∧ hd k = nI j
theorem sa_YS0 {i t : Nat} {P : sa_P} {J : sa_J} {L : sa_L} {h h' : sa_H} {v : SY} (hi : i < 3) (hH : sa_Hd h) (ho : sa_ou L = -1) (W : sa_WY P t J v) (H : sa_HY i P t L h v) (S : sa_S0 P h h') : sa_YO i P t J L h h' v := by
  revert H S
  refine sa_WYi (C := fun P J v => sa_HY i P t L h v → sa_S0 P h h' → sa_YO i P t J L h h' v) W ?_
  intro ns jc tc kd p1 p2 p3 ac ja ji jn js jt tj tt ysp yhw ywn yst ypl ydn yak ywt yun yrs yvr yhd ypa ypi ypd ygs ygn ygc W H S
  obtain ⟨sv, ak, aj, gc, gk, gn, hs, hg, hn, ou⟩ := L
  obtain ⟨st, pl, ev, dn, us, is, vr, hd, tk, pn, pa, pi, un, wj⟩ := h
  obtain ⟨rfl, rfl, rfl, S⟩ := S
  rcases S with ⟨hp, rfl⟩ | ⟨hp, hq, rfl⟩ | ⟨hp, hq, S⟩
  · exact sa_Y_done hi W H hp
  · exact sa_Y_brk hi W H hp hq
  rcases S with ⟨hk, a, ha, f1, rfl⟩ | ⟨hk, a, b, ha, hb, f1, f2, rfl⟩ | ⟨hk, a, b, ha, hb, f1, f2, rfl⟩ | ⟨hk, hm, ⟨a, b, ha, hb, f1, f2⟩, rfl⟩ | ⟨hk, a, b, c, ha, hb, hc, f1, f2, f3, hh, rfl⟩ | ⟨hk, a, b, c, ha, hb, hc, f1, f2, f3, hh, hm, rfl⟩ | ⟨hk, a, b, ha, hb, f1, f2, hh, rfl⟩ | ⟨hk, a, b, ha, hb, f1, f2, hh, rfl⟩ | ⟨hk, a, b, ha, hb, f1, f2, hm, rfl⟩ | ⟨hk, a, ha, f1, hz, rfl⟩ | ⟨hk, a, ha, f1, hz, rfl⟩ | ⟨hk, a, ha, f1, rfl⟩ | ⟨hk, a, b, c, ha, hb, hc, f1, f2, f3, hz, rfl⟩ | ⟨hk, a, b, c, ha, hb, hc, f1, f2, f3, hz, rfl⟩ | ⟨hk, a, b, ha, hb, f1, f2, rfl⟩ | ⟨hk, a, ha, f1, rfl⟩
  · exact sa_Y_set hi W H hp hq hk ha f1
  · exact sa_Y_add hi W H hp hq hk ha hb f1 f2
  · exact sa_Y_sub hi W H hp hq hk ha hb f1 f2
  · exact sa_Y_dox hi W H hp hq hk hm ha hb f1 f2
  · rcases hH c hc with e | ⟨j, hj, e⟩
    · exact absurd e hh
    · exact sa_Y_startx1 hi W H hp hq hk ha hb hc f1 f2 f3 hj e
  · exact sa_Y_startx2 hi W H hp hq hk ha hb hc f1 f2 f3 hh hm
  · exact sa_Y_awaitx hi W H hp hq hk ha hb f1 f2 hh
  · rcases hH a ha with e | ⟨j, hj, e⟩
    · exact absurd e hh
    · exact sa_Y_await hi W H hp hq hk ha hb f1 f2 hj e
  · exact sa_Y_undo hi W H hp hq hk ha hb f1 f2 hm
  · exact sa_Y_sleep0 hi W H hp hq hk ha f1 hz
  · exact sa_Y_sleep hi W H hp hq hk ha f1 ho
  · exact sa_Y_jump hi W H hp hq hk ha f1
  · exact sa_Y_less1 hi W H hp hq hk ha hb f1 f2 hz
  · exact sa_Y_less2 hi W H hp hq hk ha hb hc f1 f2 f3 hz
  · exact sa_Y_signal hi W H hp hq hk ha f1 ho
  · exact sa_Y_ends hi W H hp hq hk ha f1
/-- a new job -/
theorem sa_hwn {jc t : Nat} {js jt yhw ywn : Nat → Int32} (z2 : ∀ j, j < jc → sa_hw (js j) (jt j) t (yhw j) (ywn j)) : ∀ j, j < jc + 1 → sa_hw (upd js jc 0 j) (upd jt jc (nI t) j) t (upd yhw jc 1 j) (upd ywn jc (nI t) j) := by
  intro j hj
  by_cases e : j = jc
  · subst e
    rw [pk_us, pk_us, pk_us, pk_us]
    exact Or.inl ⟨rfl, Or.inr ⟨rfl, Int32.le_refl _⟩, rfl⟩
  · rw [pk_un e, pk_un e, pk_un e, pk_un e]
    exact z2 j (by omega)
theorem sa_YS1l {i t : Nat} {P : sa_P} {J : sa_J} {L : sa_L} {h h' : sa_H} {v : SY} {q x : Int32} (hi : i < 3) (hj : sa_jc J < 90) (W : sa_WY P t J v) (H : sa_HY i P t L h v) (S : sa_S1 P h q x (nI (sa_jc J)) h') : sa_YO i P t (sa_Jn t J q x) (sa_La L (nI (sa_jc J))) h h' v := by
  revert H S hj
  refine sa_WYi (C := fun P J v => sa_jc J < 90 → sa_HY i P t L h v → sa_S1 P h q x (nI (sa_jc J)) h' → sa_YO i P t (sa_Jn t J q x) (sa_La L (nI (sa_jc J))) h h' v) W ?_
  intro ns jc tc kd p1 p2 p3 ac ja ji jn js jt tj tt ysp yhw ywn yst ypl ydn yak ywt yun yrs yvr yhd ypa ypi ypd ygs ygn ygc W hj H S
  obtain ⟨sv, ak, aj, gc, gk, gn, hs, hg, hn, ou⟩ := L
  obtain ⟨st, pl, ev, dn, us, is, vr, hd, tk, pn, pa, pi, un, wj⟩ := h
  have hj' : jc < 90 := hj
  obtain ⟨rfl, rfl, rfl, hp, hq, h30, _, S⟩ := S
  obtain ⟨⟨w1, w2, w3, w4⟩, _, _, _, _, _, _, _, _, _, _, z1, z2⟩ := W
  obtain ⟨⟨b1, b2, b3, b4, b5⟩, e1, e2, e3, e4, e5, e6, e7, e8, e9, e10⟩ := H
  obtain ⟨q1, q2, q3, q4, q5⟩ := e10 rfl
  obtain ⟨s0, s1, s2, s3⟩ := z1 pl hp
  rcases S with ⟨hk, a, b, ha, hb, f1, f2, rfl, rfl, rfl⟩ | ⟨hk, a, b, c, ha, hb, hc, f1, f2, f3, rfl, rfl, hh, rfl⟩
  · have H1 : sa_HY i (ns, kd, p1, p2, p3, ac) t (sv, ak + 1, upd aj ak (nI jc), gc, gk, gn, hs, hg, hn, ou) (1, pl, ev, dn + 1, us, is + 1, vr, hd, tk, pn, pa, pi, false, nI jc) (nI ns, nI t, nI (jc + 1), nI tc, ac, ysp, upd ja jc (nI a), upd ji jc (vr b), upd jn jc 0, upd yhw jc 1, upd ywn jc (nI t), tj, tt, yst, ypl, upd ydn i (nI (dn + 1)), upd yak i (nI (is + 1)), upd ywt i 1, upd yun i (nI jc), yrs, yvr, yhd, ypa, ypi, ypd, ygs, ygn, ygc) := ⟨⟨by omega, by omega, by omega, by omega, by omega⟩, e1, e2, e3, e4, e5, e6, e7, e8, fun e => absurd e (by decide), fun _ => ⟨q1, pk_us, pk_us, q4, Or.inr (Or.inr (Or.inl ⟨sa_ne_m1 (by omega), rfl, Or.inl hk, pk_us, pk_us⟩))⟩⟩
    rw [f1]
    exact ⟨_, ⟨⟨w1, w2, by omega, w4⟩, rfl, rfl, rfl, rfl, rfl, rfl, rfl, rfl, rfl, rfl, z1, sa_hwn z2⟩, H1, (fun i' hi' hne => ⟨rfl, rfl, pk_un hne, pk_un hne, pk_un hne, pk_un hne, rfl, fun _ _ => rfl, fun _ _ => rfl, fun _ _ => rfl, fun _ _ => rfl, rfl, fun _ _ => rfl, fun _ _ => rfl, rfl⟩), sa_yo1 hi w1 rfl rfl e1 q1 hp q2 hq (sa_mu_a hq (by omega)) H1 (fun Q K => sa_y_do hi (by omega) q1 s0 s1 s2 s3 hk f1 ha f2 hb (e2 b hb) q3 h30 hj' K)⟩
  · have H1 : sa_HY i (ns, kd, p1, p2, p3, ac) t (sv, ak + 1, upd aj ak (nI jc), gc, gk, gn, hs, hg, hn, ou) (1, pl + 1, ev, dn + 1, us, is + 1, vr, upd hd c (nI jc), tk, pn, pa, pi, false, -1) (nI ns, nI t, nI (jc + 1), nI tc, ac, ysp, upd ja jc (nI a), upd ji jc (vr b), upd jn jc 0, upd yhw jc 1, upd ywn jc (nI t), tj, tt, yst, upd ypl i (nI (pl + 1)), upd ydn i (nI (dn + 1)), upd yak i (nI (is + 1)), ywt, yun, yrs, yvr, upd yhd (3 * i + c) (nI jc), ypa, ypi, ypd, ygs, ygn, ygc) := ⟨⟨by omega, by omega, by omega, by omega, by omega⟩, e1, e2, e3, e4, e5, e6, e7, e8, fun e => absurd e (by decide), fun _ => ⟨pk_us, pk_us, pk_us, sa_uo q4, Or.inl ⟨rfl, (sa_WCw q5).1 rfl⟩⟩⟩
    rw [f1]
    exact ⟨_, ⟨⟨w1, w2, by omega, w4⟩, rfl, rfl, rfl, rfl, rfl, rfl, rfl, rfl, rfl, rfl, z1, sa_hwn z2⟩, H1, (fun i' hi' hne => ⟨rfl, pk_un hne, pk_un hne, pk_un hne, rfl, rfl, rfl, fun _ _ => rfl, fun k hk => pk_un (by omega), fun _ _ => rfl, fun _ _ => rfl, rfl, fun _ _ => rfl, fun _ _ => rfl, rfl⟩), sa_yo1 hi w1 rfl rfl e1 q1 hp q2 hq (sa_mu_a hq (by omega)) H1 (fun Q K => sa_y_start hi (by omega) q1 s0 s1 s2 s3 hk f1 ha f2 hb f3 hc (by rw [q4 c hc]; exact hh) (e2 b hb) q3 h30 hj' K)⟩
end
section
/-! the reference's waits as they are now -/
def sa_pl (h : sa_H) : Nat := match h with | (st, pl, ev, dn, us, is, vr, hd, tk, pn, pa, pi, un, wj) => pl
/-- over, good or bad, as the reference sees it -/
theorem sa_hwO {s m w n g : Int32} {t : Nat} (z : sa_hw s m t w n) (v2 : ¬ s < 2) (v3 : s = 2 → g = 1) (v4 : ¬ s = 2 → g = 0) : (g = 1 → w = 3) ∧ (¬ g = 1 → w = 4) ∧ (g = 0 → w = 4) ∧ (¬ g = 0 → w = 3) := by
  rcases z with ⟨rfl, _⟩ | ⟨rfl, _⟩ | ⟨rfl, rfl⟩ | ⟨rfl, rfl⟩
  · exact absurd (by decide) v2
  · exact absurd (by decide) v2
  · rw [v3 rfl]
    exact ⟨fun _ => rfl, fun e => absurd rfl e, fun e => absurd e (by decide), fun _ => rfl⟩
  · rw [v4 (by decide)]
    exact ⟨fun e => absurd e (by decide), fun _ => rfl, fun _ => rfl, fun e => absurd rfl e⟩
theorem sa_hwN {s m w n : Int32} {t : Nat} (z : sa_hw s m t w n) (v2 : s < 2) : w ≤ 2 := by
  rcases z with ⟨rfl, rfl | ⟨rfl, _⟩, _⟩ | ⟨rfl, rfl, _⟩ | ⟨rfl, rfl⟩ | ⟨rfl, rfl⟩
  · decide
  · decide
  · decide
  · exact absurd v2 (by decide)
  · exact absurd v2 (by decide)
/-- what the reference waits for, by the hand -/
theorem sa_WCj {P : sa_P} {t : Nat} {L : sa_L} {h : sa_H} {w n : Int32} (W : sa_WC P t L h w n) (hw : sa_wj h ≠ -1) :
    (sa_un h = true → w = 4 ∧ n = sa_wj h) ∧ (match P, L, h with | (ns, kd, p1, p2, p3, ac), (sv, ak, aj, gc, gk, gn, hs, hg, hn, ou), (st, pl, ev, dn, us, is, vr, hd, tk, pn, pa, pi, un, wj) => (un = false → (kd pl = 3 ∨ kd pl = 5) → w = 1 ∧ n = wj)
      ∧ (un = false → kd pl = 7 → w = 2 ∧ (ou ≠ -1 → n = ou) ∧ (ou = -1 → ∃ a, a < 4 ∧ p1 pl = nI a ∧ n = nI t + sa_cl (vr a)))
      ∧ (un = false → kd pl = 10 → w = 3 ∧ (ou ≠ -1 → n = ou) ∧ (ou = -1 → n = nI t + p3 pl))) := by
  obtain ⟨ns, kd, p1, p2, p3, ac⟩ := P
  obtain ⟨sv, ak, aj, gc, gk, gn, hs, hg, hn, ou⟩ := L
  obtain ⟨st, pl, ev, dn, us, is, vr, hd, tk, pn, pa, pi, un, wj⟩ := h
  rcases W with ⟨a, b⟩ | ⟨a, rfl, b, c⟩ | ⟨a, rfl, k, b, c⟩ | ⟨a, rfl, k, b, c, d⟩ | ⟨a, rfl, k, b, c, d⟩
  · exact absurd a hw
  · exact ⟨fun _ => ⟨b, c⟩, nofun, nofun, nofun⟩
  · refine ⟨nofun, fun _ _ => ⟨b, c⟩, fun _ k' => ?_, fun _ k' => ?_⟩
    · rcases k with k | k
      · exact absurd (k.symm.trans k') (by decide)
      · exact absurd (k.symm.trans k') (by decide)
    · rcases k with k | k
      · exact absurd (k.symm.trans k') (by decide)
      · exact absurd (k.symm.trans k') (by decide)
  · refine ⟨nofun, fun _ k' => ?_, fun _ _ => ⟨b, c, d⟩, fun _ k' => absurd (k.symm.trans k') (by decide)⟩
    rcases k' with k' | k'
    · exact absurd (k.symm.trans k') (by decide)
    · exact absurd (k.symm.trans k') (by decide)
  · refine ⟨nofun, fun _ k' => ?_, fun _ k' => absurd (k.symm.trans k') (by decide), fun _ _ => ⟨b, c, d⟩⟩
    rcases k' with k' | k'
    · exact absurd (k.symm.trans k') (by decide)
    · exact absurd (k.symm.trans k') (by decide)
theorem sa_YJl {i t q : Nat} {P : sa_P} {J : sa_J} {L : sa_L} {h h' : sa_H} {v : SY} {g x : Int32} (hi : i < 3) (hj : sa_wj h = nI q) (hp20 : sa_pl h < 20) (hq : q < sa_jc J) (V : sa_Ov P J q g x) (Jw : sa_jw P h) (W : sa_WY P t J v) (H : sa_HY i P t L h v) (S : sa_S2 P h g x h') : sa_YO i P t J (sa_Lw L g x) h h' v := by
  revert H S hq V Jw
  refine sa_WYi (C := fun P J v => q < sa_jc J → sa_Ov P J q g x → sa_jw P h → sa_HY i P t L h v → sa_S2 P h g x h' → sa_YO i P t J (sa_Lw L g x) h h' v) W ?_
  intro ns jc tc kd p1 p2 p3 ac ja ji jn js jt tj tt ysp yhw ywn yst ypl ydn yak ywt yun yrs yvr yhd ypa ypi ypd ygs ygn ygc W hq V Jw H S
  obtain ⟨sv, ak, aj, gc, gk, gn, hs, hg, hn, ou⟩ := L
  obtain ⟨st, pl, ev, dn, us, is, vr, hd, tk, pn, pa, pi, un, wj⟩ := h
  obtain ⟨v1, v2, v3, v4, a, ha, v5, v6⟩ := V
  have hj' : wj = nI q := hj
  obtain ⟨rfl, hw, h2, S⟩ := S
  obtain ⟨⟨w1, w2, w3, w4⟩, _, _, _, _, _, _, _, _, _, _, z1, z2⟩ := W
  obtain ⟨⟨b1, b2, b3, b4, b5⟩, e1, e2, e3, e4, e5, e6, e7, e8, e9, e10⟩ := H
  obtain ⟨q1, q2, q3, q4, q5⟩ := e10 rfl
  obtain ⟨x1, x2, x3, x4⟩ := sa_hwO (z2 q hq) v2 v3 v4
  obtain ⟨y1, y2, _⟩ := sa_WCj q5 hw
  rcases S with ⟨rfl, hg0, rfl⟩ | ⟨rfl, hp, S⟩
  · obtain ⟨q6, q7⟩ := y1 rfl
    have H1 : sa_HY i (ns, kd, p1, p2, p3, ac) t (sv, ak, aj, gc, gk, gn, hs + 1, upd hg hs g, upd hn hs x, -1) (4, pl, 0, dn, us + 1, is, vr, hd, tk, pn, pa, pi, true, -1) (nI ns, nI t, nI jc, nI tc, ac, ysp, ja, ji, jn, yhw, ywn, tj, tt, upd yst i 4, ypl, ydn, yak, upd ywt i 0, yun, yrs, yvr, yhd, ypa, ypi, ypd, ygs, ygn, ygc) := ⟨⟨by omega, by omega, by omega, by omega, by omega⟩, pk_us, e2, e3, e4, e5, e6, e7, e8, fun e => absurd e (by decide), fun e => absurd e (by decide)⟩
    exact ⟨_, ⟨⟨w1, w2, by omega, w4⟩, rfl, rfl, rfl, rfl, rfl, rfl, rfl, rfl, rfl, rfl, z1, z2⟩, H1, (fun i' hi' hne => ⟨pk_un hne, rfl, rfl, rfl, pk_un hne, rfl, rfl, fun _ _ => rfl, fun _ _ => rfl, fun _ _ => rfl, fun _ _ => rfl, rfl, fun _ _ => rfl, fun _ _ => rfl, rfl⟩), sa_yo2 hi rfl hw rfl (sa_mu_b hw) H1 (fun Q K => sa_g_u0 hi hp20 q1 q6 (q7.trans hj') v1 (x3 hg0) K)⟩
  obtain ⟨s0, s1, s2, s3⟩ := z1 pl hp
  rcases S with ⟨hk, c, hc, f3, hg0, rfl⟩ | ⟨hk, f, b, hf, hb, f1, f2, hg0, rfl⟩ | ⟨hk, a, ha, e1, rfl⟩ | ⟨hk, a, b, ha, hb, e1, e2, hg0, rfl⟩
  · obtain ⟨q6, q7⟩ := y2 rfl (Or.inl hk)
    have H1 : sa_HY i (ns, kd, p1, p2, p3, ac) t (sv, ak, aj, gc, gk, gn, hs + 1, upd hg hs g, upd hn hs x, -1) (1, pl + 1, ev, dn, us + 1, is, upd vr c x, hd, tk, pn, pa, pi, false, -1) (nI ns, nI t, nI jc, nI tc, ac, ysp, ja, ji, jn, yhw, ywn, tj, tt, yst, upd ypl i (nI (pl + 1)), ydn, yak, upd ywt i 0, yun, yrs, upd yvr (4 * i + c) x, yhd, ypa, ypi, ypd, ygs, ygn, ygc) := ⟨⟨by omega, by omega, by omega, by omega, by omega⟩, e1, sa_uo e2, e3, e4, e5, e6, e7, e8, fun e => absurd e (by decide), fun _ => ⟨pk_us, q2, q3, q4, Or.inl ⟨rfl, pk_us⟩⟩⟩
    exact ⟨_, ⟨⟨w1, w2, by omega, w4⟩, rfl, rfl, rfl, rfl, rfl, rfl, rfl, rfl, rfl, rfl, z1, z2⟩, H1, (fun i' hi' hne => ⟨rfl, pk_un hne, rfl, rfl, pk_un hne, rfl, rfl, fun k hk => pk_un (by omega), fun _ _ => rfl, fun _ _ => rfl, fun _ _ => rfl, rfl, fun _ _ => rfl, fun _ _ => rfl, rfl⟩), sa_yo2 hi rfl hw rfl (sa_mu_b hw) H1 (fun Q K => sa_g_d1 hi (by omega) q1 (s0.trans hk) (s3.trans f3) hc q6 (q7.trans hj') v1 (x1 hg0) ha v5 (by rw [← v6]; exact K))⟩
  · obtain ⟨q6, q7⟩ := y2 rfl (Or.inr hk)
    have H1 : sa_HY i (ns, kd, p1, p2, p3, ac) t (sv, ak, aj, gc, gk, gn, hs + 1, upd hg hs g, upd hn hs x, -1) (1, pl + 1, ev, dn, us + 1, is, upd vr b x, upd hd f (-1), tk, pn, pa, pi, false, -1) (nI ns, nI t, nI jc, nI tc, ac, ysp, ja, ji, jn, yhw, ywn, tj, tt, yst, upd ypl i (nI (pl + 1)), ydn, yak, upd ywt i 0, yun, yrs, upd yvr (4 * i + b) x, upd yhd (3 * i + f) (-1), ypa, ypi, ypd, ygs, ygn, ygc) := ⟨⟨by omega, by omega, by omega, by omega, by omega⟩, e1, sa_uo e2, e3, e4, e5, e6, e7, e8, fun e => absurd e (by decide), fun _ => ⟨pk_us, q2, q3, sa_uo q4, Or.inl ⟨rfl, pk_us⟩⟩⟩
    exact ⟨_, ⟨⟨w1, w2, by omega, w4⟩, rfl, rfl, rfl, rfl, rfl, rfl, rfl, rfl, rfl, rfl, z1, z2⟩, H1, (fun i' hi' hne => ⟨rfl, pk_un hne, rfl, rfl, pk_un hne, rfl, rfl, fun k hk => pk_un (by omega), fun k hk => pk_un (by omega), fun _ _ => rfl, fun _ _ => rfl, rfl, fun _ _ => rfl, fun _ _ => rfl, rfl⟩), sa_yo2 hi rfl hw rfl (sa_mu_b hw) H1 (fun Q K => sa_g_a1 hi (by omega) q1 (s0.trans hk) (s1.trans f1) hf (s2.trans f2) hb q6 (q7.trans hj') v1 (x1 hg0) ha v5 (by rw [← v6]; exact K))⟩
  · rcases Jw with e | ⟨_, _, e | e⟩
    · cases e
    · exact absurd (hk.symm.trans e) (by decide)
    · exact absurd (hk.symm.trans e) (by decide)
  · rcases Jw with e | ⟨_, _, e | e⟩
    · cases e
    · exact absurd (hk.symm.trans e) (by decide)
    · exact absurd (hk.symm.trans e) (by decide)
/-- to the pile -/
theorem sa_YJp {i t q : Nat} {P : sa_P} {J : sa_J} {L : sa_L} {h h' : sa_H} {v : SY} {g x : Int32} (hi : i < 3) (hj : sa_wj h = nI q) (hp20 : sa_pl h < 20) (hq : q < sa_jc J) (V : sa_Ov P J q g x) (W : sa_WY P t J v) (H : sa_HY i P t L h v) (S : sa_S2p P h g h') :
    ∃ v1, sa_WY P t J v1 ∧ sa_HY i P t (sa_Lw L g x) h' v1 ∧ sa_FY i v v1 ∧ ∀ v2, (match v2 with | (yns, ynow, yjc, ytc, yac, ysp, yja, yji, yjn, yhw, ywn, ytj, ytt, yst, ypl, ydn, yak, ywt, yun, yrs, yvr, yhd, ypa, ypi, ypd, ygs, ygn, ygc) => ywt i = 0 → ¬ yst i = 1) → (∀ R : SY → Prop, R v2 → wpY_takeBack R v1 (nI i)) → ∀ post : SY → Prop, post v2 → sa_GY post i h v := by
  revert H S hq V
  refine sa_WYi (C := fun P J v => q < sa_jc J → sa_Ov P J q g x → sa_HY i P t L h v → sa_S2p P h g h' → ∃ v1, sa_WY P t J v1 ∧ sa_HY i P t (sa_Lw L g x) h' v1 ∧ sa_FY i v v1 ∧ ∀ v2, (match v2 with | (yns, ynow, yjc, ytc, yac, ysp, yja, yji, yjn, yhw, ywn, ytj, ytt, yst, ypl, ydn, yak, ywt, yun, yrs, yvr, yhd, ypa, ypi, ypd, ygs, ygn, ygc) => ywt i = 0 → ¬ yst i = 1) → (∀ R : SY → Prop, R v2 → wpY_takeBack R v1 (nI i)) → ∀ post : SY → Prop, post v2 → sa_GY post i h v) W ?_
  intro ns jc tc kd p1 p2 p3 ac ja ji jn js jt tj tt ysp yhw ywn yst ypl ydn yak ywt yun yrs yvr yhd ypa ypi ypd ygs ygn ygc W hq V H S
  obtain ⟨sv, ak, aj, gc, gk, gn, hs, hg, hn, ou⟩ := L
  obtain ⟨st, pl, ev, dn, us, is, vr, hd, tk, pn, pa, pi, un, wj⟩ := h
  obtain ⟨v1, v2, v3, v4, a, ha, v5, v6⟩ := V
  have hj' : wj = nI q := hj
  obtain ⟨rfl, hw, h2, S⟩ := S
  obtain ⟨⟨w1, w2, w3, w4⟩, _, _, _, _, _, _, _, _, _, _, z1, z2⟩ := W
  obtain ⟨⟨b1, b2, b3, b4, b5⟩, e1, e2, e3, e4, e5, e6, e7, e8, e9, e10⟩ := H
  obtain ⟨q1, q2, q3, q4, q5⟩ := e10 rfl
  obtain ⟨x1, x2, x3, x4⟩ := sa_hwO (z2 q hq) v2 v3 v4
  obtain ⟨y1, y2, _⟩ := sa_WCj q5 hw
  rcases S with ⟨rfl, hg0, rfl⟩ | ⟨rfl, hp, S⟩
  · obtain ⟨q6, q7⟩ := y1 rfl
    have H1 : sa_HY i (ns, kd, p1, p2, p3, ac) t (sv, ak, aj, gc, gk, gn, hs + 1, upd hg hs g, upd hn hs x, -1) (1, pl, ev, dn, us + 1, is, vr, hd, tk, pn, pa, pi, true, -1) (nI ns, nI t, nI jc, nI tc, ac, ysp, ja, ji, jn, yhw, ywn, tj, tt, yst, ypl, ydn, yak, upd ywt i 0, yun, yrs, yvr, yhd, ypa, ypi, ypd, ygs, ygn, ygc) := ⟨⟨by omega, by omega, by omega, by omega, by omega⟩, e1, e2, e3, e4, e5, e6, e7, e8, fun e => absurd e (by decide), fun _ => ⟨q1, q2, q3, q4, Or.inl ⟨rfl, pk_us⟩⟩⟩
    refine ⟨_, ⟨⟨w1, w2, by omega, w4⟩, rfl, rfl, rfl, rfl, rfl, rfl, rfl, rfl, rfl, rfl, z1, z2⟩, H1, (fun i' hi' hne => ⟨rfl, rfl, rfl, rfl, pk_un hne, rfl, rfl, fun _ _ => rfl, fun _ _ => rfl, fun _ _ => rfl, fun _ _ => rfl, rfl, fun _ _ => rfl, fun _ _ => rfl, rfl⟩), fun v2 hv T => sa_yop hi rfl hw hv (fun Q K => sa_g_u1 hi hp20 q1 q6 (q7.trans hj') v1 (x4 hg0) (fun R hR => T R (hR v2 ?_)))⟩
    obtain ⟨yns', ynow', yjc', ytc', yac', ysp', yja', yji', yjn', yhw', ywn', ytj', ytt', yst', ypl', ydn', yak', ywt', yun', yrs', yvr', yhd', ypa', ypi', ypd', ygs', ygn', ygc'⟩ := v2
    exact K
  obtain ⟨s0, s1, s2, s3⟩ := z1 pl hp
  rcases S with ⟨hk, ⟨c, hc, f3⟩, hg0, rfl⟩ | ⟨hk, f, b, hf, hb, f1, f2, hg0, rfl⟩
  · obtain ⟨q6, q7⟩ := y2 rfl (Or.inl hk)
    have H1 : sa_HY i (ns, kd, p1, p2, p3, ac) t (sv, ak, aj, gc, gk, gn, hs + 1, upd hg hs g, upd hn hs x, -1) (1, pl, ev, dn, us + 1, is, vr, hd, tk, pn, pa, pi, true, -1) (nI ns, nI t, nI jc, nI tc, ac, ysp, ja, ji, jn, yhw, ywn, tj, tt, yst, ypl, ydn, yak, upd ywt i 0, yun, yrs, yvr, yhd, ypa, ypi, ypd, ygs, ygn, ygc) := ⟨⟨by omega, by omega, by omega, by omega, by omega⟩, e1, e2, e3, e4, e5, e6, e7, e8, fun e => absurd e (by decide), fun _ => ⟨q1, q2, q3, q4, Or.inl ⟨rfl, pk_us⟩⟩⟩
    refine ⟨_, ⟨⟨w1, w2, by omega, w4⟩, rfl, rfl, rfl, rfl, rfl, rfl, rfl, rfl, rfl, rfl, z1, z2⟩, H1, (fun i' hi' hne => ⟨rfl, rfl, rfl, rfl, pk_un hne, rfl, rfl, fun _ _ => rfl, fun _ _ => rfl, fun _ _ => rfl, fun _ _ => rfl, rfl, fun _ _ => rfl, fun _ _ => rfl, rfl⟩), fun v2 hv T => sa_yop hi rfl hw hv (fun Q K => sa_g_d0 hi (by omega) q1 (s0.trans hk) (s3.trans f3) hc q6 (q7.trans hj') v1 (x2 hg0) (fun R hR => T R (hR v2 ?_)))⟩
    obtain ⟨yns', ynow', yjc', ytc', yac', ysp', yja', yji', yjn', yhw', ywn', ytj', ytt', yst', ypl', ydn', yak', ywt', yun', yrs', yvr', yhd', ypa', ypi', ypd', ygs', ygn', ygc'⟩ := v2
    exact K
  · obtain ⟨q6, q7⟩ := y2 rfl (Or.inr hk)
    have H1 : sa_HY i (ns, kd, p1, p2, p3, ac) t (sv, ak, aj, gc, gk, gn, hs + 1, upd hg hs g, upd hn hs x, -1) (1, pl, ev, dn, us + 1, is, vr, upd hd f (-1), tk, pn, pa, pi, true, -1) (nI ns, nI t, nI jc, nI tc, ac, ysp, ja, ji, jn, yhw, ywn, tj, tt, yst, ypl, ydn, yak, upd ywt i 0, yun, yrs, yvr, upd yhd (3 * i + f) (-1), ypa, ypi, ypd, ygs, ygn, ygc) := ⟨⟨by omega, by omega, by omega, by omega, by omega⟩, e1, e2, e3, e4, e5, e6, e7, e8, fun e => absurd e (by decide), fun _ => ⟨q1, q2, q3, sa_uo q4, Or.inl ⟨rfl, pk_us⟩⟩⟩
    refine ⟨_, ⟨⟨w1, w2, by omega, w4⟩, rfl, rfl, rfl, rfl, rfl, rfl, rfl, rfl, rfl, rfl, z1, z2⟩, H1, (fun i' hi' hne => ⟨rfl, rfl, rfl, rfl, pk_un hne, rfl, rfl, fun _ _ => rfl, fun k hk => pk_un (by omega), fun _ _ => rfl, fun _ _ => rfl, rfl, fun _ _ => rfl, fun _ _ => rfl, rfl⟩), fun v2 hv T => sa_yop hi rfl hw hv (fun Q K => sa_g_a0 hi (by omega) q1 (s0.trans hk) (s1.trans f1) hf (s2.trans f2) hb q6 (q7.trans hj') v1 (x2 hg0) (fun R hR => T R (hR v2 ?_)))⟩
    obtain ⟨yns', ynow', yjc', ytc', yac', ysp', yja', yji', yjn', yhw', ywn', ytj', ytt', yst', ypl', ydn', yak', ywt', yun', yrs', yvr', yhd', ypa', ypi', ypd', ygs', ygn', ygc'⟩ := v2
    exact K
/-- FAIL: to the pile -/
theorem sa_YPF {i t : Nat} {P : sa_P} {J : sa_J} {L : sa_L} {h h' : sa_H} {v : SY} (hi : i < 3) (W : sa_WY P t J v) (H : sa_HY i P t L h v) (S : sa_SF P h h') :
    ∃ v1, sa_WY P t J v1 ∧ sa_HY i P t L h' v1 ∧ sa_FY i v v1 ∧ ∀ v2, (match v2 with | (yns, ynow, yjc, ytc, yac, ysp, yja, yji, yjn, yhw, ywn, ytj, ytt, yst, ypl, ydn, yak, ywt, yun, yrs, yvr, yhd, ypa, ypi, ypd, ygs, ygn, ygc) => yst i = 1 → ¬ ywt i = 0 ∧ ∀ Q : Int32 → SY → Prop, Q 0 (yns, ynow, yjc, ytc, yac, ysp, yja, yji, yjn, yhw, ywn, ytj, ytt, yst, ypl, ydn, yak, ywt, yun, yrs, yvr, yhd, ypa, ypi, ypd, ygs, ygn, ygc) → wpY_goOn Q (yns, ynow, yjc, ytc, yac, ysp, yja, yji, yjn, yhw, ywn, ytj, ytt, yst, ypl, ydn, yak, ywt, yun, yrs, yvr, yhd, ypa, ypi, ypd, ygs, ygn, ygc) (nI i)) → (∀ R : SY → Prop, R v2 → wpY_takeBack R v1 (nI i)) → ∀ post : SY → Prop, post v2 → sa_GY post i h v := by
  revert H S
  refine sa_WYi (C := fun P J v => sa_HY i P t L h v → sa_SF P h h' → ∃ v1, sa_WY P t J v1 ∧ sa_HY i P t L h' v1 ∧ sa_FY i v v1 ∧ ∀ v2, (match v2 with | (yns, ynow, yjc, ytc, yac, ysp, yja, yji, yjn, yhw, ywn, ytj, ytt, yst, ypl, ydn, yak, ywt, yun, yrs, yvr, yhd, ypa, ypi, ypd, ygs, ygn, ygc) => yst i = 1 → ¬ ywt i = 0 ∧ ∀ Q : Int32 → SY → Prop, Q 0 (yns, ynow, yjc, ytc, yac, ysp, yja, yji, yjn, yhw, ywn, ytj, ytt, yst, ypl, ydn, yak, ywt, yun, yrs, yvr, yhd, ypa, ypi, ypd, ygs, ygn, ygc) → wpY_goOn Q (yns, ynow, yjc, ytc, yac, ysp, yja, yji, yjn, yhw, ywn, ytj, ytt, yst, ypl, ydn, yak, ywt, yun, yrs, yvr, yhd, ypa, ypi, ypd, ygs, ygn, ygc) (nI i)) → (∀ R : SY → Prop, R v2 → wpY_takeBack R v1 (nI i)) → ∀ post : SY → Prop, post v2 → sa_GY post i h v) W ?_
  intro ns jc tc kd p1 p2 p3 ac ja ji jn js jt tj tt ysp yhw ywn yst ypl ydn yak ywt yun yrs yvr yhd ypa ypi ypd ygs ygn ygc W H S
  obtain ⟨sv, ak, aj, gc, gk, gn, hs, hg, hn, ou⟩ := L
  obtain ⟨st, pl, ev, dn, us, is, vr, hd, tk, pn, pa, pi, un, wj⟩ := h
  obtain ⟨rfl, rfl, rfl, hp, hq, hk, rfl⟩ := S
  obtain ⟨⟨w1, w2, w3, w4⟩, _, _, _, _, _, _, _, _, _, _, z1, z2⟩ := W
  obtain ⟨⟨b1, b2, b3, b4, b5⟩, e1, e2, e3, e4, e5, e6, e7, e8, e9, e10⟩ := H
  obtain ⟨q1, q2, q3, q4, q5⟩ := e10 rfl
  obtain ⟨s0, s1, s2, s3⟩ := z1 pl hp
  refine ⟨(nI ns, nI t, nI jc, nI tc, ac, ysp, ja, ji, jn, yhw, ywn, tj, tt, yst, ypl, upd ydn i (nI (dn + 1)), yak, ywt, yun, yrs, yvr, yhd, ypa, ypi, ypd, ygs, ygn, ygc), ⟨⟨w1, w2, by omega, w4⟩, rfl, rfl, rfl, rfl, rfl, rfl, rfl, rfl, rfl, rfl, z1, z2⟩, ⟨⟨by omega, by omega, by omega, by omega, by omega⟩, e1, e2, e3, e4, e5, e6, e7, e8, fun e => absurd e (by decide), fun _ => ⟨q1, pk_us, q3, q4, Or.inl ⟨rfl, (sa_WCw q5).1 rfl⟩⟩⟩, (fun i' hi' hne => ⟨rfl, rfl, pk_un hne, rfl, rfl, rfl, rfl, fun _ _ => rfl, fun _ _ => rfl, fun _ _ => rfl, fun _ _ => rfl, rfl, fun _ _ => rfl, fun _ _ => rfl, rfl⟩), fun v2 hv T post G => ⟨fun e => absurd rfl e, fun _ _ n hn => ?_, fun _ e => absurd rfl e⟩⟩
  have m1 : 2 ≤ sa_mu (1, pl, ev, dn, us, is, vr, hd, tk, pn, pa, pi, false, -1) := by
    show 2 ≤ 2 * (200 - dn) + 2 * (30 - is) + (if (-1 : Int32) = -1 then 0 else 1) + 1
    omega
  obtain ⟨n, rfl⟩ : ∃ k, n = k + 2 := ⟨n - 2, by omega⟩
  refine sa_YL1 hi w1 e1 q1 hp q2 hq (fun Q hQ => sa_y_fail hi (by omega) q1 s0 s1 s2 s3 hk (fun R hR => T R (hR v2 (hQ v2 ?_))))
  obtain ⟨yns', ynow', yjc', ytc', yac', ysp', yja', yji', yjn', yhw', ywn', ytj', ytt', yst', ypl', ydn', yak', ywt', yun', yrs', yvr', yhd', ypa', ypi', ypd', ygs', ygn', ygc'⟩ := v2
  refine ⟨fun e => ⟨fun e' => absurd e' (hv e).1, fun _ R h0 _ => (hv e).2 R (h0 _ (sa_YL0 G))⟩, fun e => sa_YL0 G⟩
end
section
/-! the reference's pile, time and signals -/
theorem sa_TBe {i t : Nat} {P : sa_P} {J : sa_J} {L : sa_L} {h h' : sa_H} {v : SY} (hi : i < 3) (W : sa_WY P t J v) (H : sa_HY i P t L h v) (S : sa_SE h h') :
    ∃ v2, sa_WY P t J v2 ∧ sa_HY i P t L h' v2 ∧ sa_FY i v v2 ∧ ∀ R : SY → Prop, R v2 → wpY_takeBack R v (nI i) := by
  revert H S
  refine sa_WYi (C := fun P J v => sa_HY i P t L h v → sa_SE h h' → ∃ v2, sa_WY P t J v2 ∧ sa_HY i P t L h' v2 ∧ sa_FY i v v2 ∧ ∀ R : SY → Prop, R v2 → wpY_takeBack R v (nI i)) W ?_
  intro ns jc tc kd p1 p2 p3 ac ja ji jn js jt tj tt ysp yhw ywn yst ypl ydn yak ywt yun yrs yvr yhd ypa ypi ypd ygs ygn ygc W H S
  obtain ⟨sv, ak, aj, gc, gk, gn, hs, hg, hn, ou⟩ := L
  obtain ⟨st, pl, ev, dn, us, is, vr, hd, tk, pn, pa, pi, un, wj⟩ := h
  obtain ⟨rfl, rfl, rfl, S⟩ := S
  obtain ⟨⟨w1, w2, w3, w4⟩, _, _, _, _, _, _, _, _, _, _, z1, z2⟩ := W
  obtain ⟨⟨b1, b2, b3, b4, b5⟩, e1, e2, e3, e4, e5, e6, e7, e8, e9, e10⟩ := H
  obtain ⟨q1, q2, q3, q4, q5⟩ := e10 rfl
  rcases S with ⟨rfl, rfl⟩ | ⟨h0, h2, hx, rfl⟩
  · exact ⟨(nI ns, nI t, nI jc, nI tc, ac, ysp, ja, ji, jn, yhw, ywn, tj, tt, upd yst i 3, ypl, ydn, yak, ywt, yun, yrs, yvr, yhd, ypa, ypi, ypd, ygs, ygn, ygc), ⟨⟨w1, w2, by omega, w4⟩, rfl, rfl, rfl, rfl, rfl, rfl, rfl, rfl, rfl, rfl, z1, z2⟩, ⟨⟨by omega, by omega, by omega, by omega, by omega⟩, pk_us, e2, e3, e4, e5, e6, e7, e8, fun e => absurd e (by decide), fun e => absurd e (by decide)⟩, (fun i' hi' hne => ⟨pk_un hne, rfl, rfl, rfl, rfl, rfl, rfl, fun _ _ => rfl, fun _ _ => rfl, fun _ _ => rfl, fun _ _ => rfl, rfl, fun _ _ => rfl, fun _ _ => rfl, rfl⟩), fun R K => sa_tb_e hi e3 K⟩
  · obtain ⟨m, rfl⟩ : ∃ m, pn = m + 1 := ⟨pn - 1, by omega⟩
    exact ⟨(nI ns, nI t, nI jc, nI tc, ac, ysp, ja, ji, jn, yhw, ywn, tj, tt, upd yst i 5, ypl, ydn, yak, ywt, yun, yrs, yvr, yhd, ypa, ypi, ypd, ygs, ygn, ygc), ⟨⟨w1, w2, by omega, w4⟩, rfl, rfl, rfl, rfl, rfl, rfl, rfl, rfl, rfl, rfl, z1, z2⟩, ⟨⟨by omega, by omega, by omega, by omega, by omega⟩, pk_us, e2, e3, e4, e5, e6, e7, e8, fun e => absurd e (by decide), fun e => absurd e (by decide)⟩, (fun i' hi' hne => ⟨pk_un hne, rfl, rfl, rfl, rfl, rfl, rfl, fun _ _ => rfl, fun _ _ => rfl, fun _ _ => rfl, fun _ _ => rfl, rfl, fun _ _ => rfl, fun _ _ => rfl, rfl⟩), fun R K => sa_tb_x hi e3 (by omega) (by rw [q3, hx]; rfl) K⟩
theorem sa_TBa {i t : Nat} {P : sa_P} {J : sa_J} {L : sa_L} {h h' : sa_H} {v : SY} {q x : Int32} (hi : i < 3) (hj : sa_jc J < 90) (W : sa_WY P t J v) (H : sa_HY i P t L h v) (S : sa_S1u h q x (nI (sa_jc J)) h') :
    ∃ v2, sa_WY P t (sa_Jn t J q x) v2 ∧ sa_HY i P t (sa_La L (nI (sa_jc J))) h' v2 ∧ sa_FY i v v2 ∧ ∀ R : SY → Prop, R v2 → wpY_takeBack R v (nI i) := by
  revert H S hj
  refine sa_WYi (C := fun P J v => sa_jc J < 90 → sa_HY i P t L h v → sa_S1u h q x (nI (sa_jc J)) h' → ∃ v2, sa_WY P t (sa_Jn t J q x) v2 ∧ sa_HY i P t (sa_La L (nI (sa_jc J))) h' v2 ∧ sa_FY i v v2 ∧ ∀ R : SY → Prop, R v2 → wpY_takeBack R v (nI i)) W ?_
  intro ns jc tc kd p1 p2 p3 ac ja ji jn js jt tj tt ysp yhw ywn yst ypl ydn yak ywt yun yrs yvr yhd ypa ypi ypd ygs ygn ygc W hj H S
  obtain ⟨sv, ak, aj, gc, gk, gn, hs, hg, hn, ou⟩ := L
  obtain ⟨st, pl, ev, dn, us, is, vr, hd, tk, pn, pa, pi, un, wj⟩ := h
  have hj' : jc < 90 := hj
  obtain ⟨rfl, rfl, rfl, h0, h2, h30, _, rfl, rfl, rfl⟩ := S
  obtain ⟨⟨w1, w2, w3, w4⟩, _, _, _, _, _, _, _, _, _, _, z1, z2⟩ := W
  obtain ⟨⟨b1, b2, b3, b4, b5⟩, e1, e2, e3, e4, e5, e6, e7, e8, e9, e10⟩ := H
  obtain ⟨q1, q2, q3, q4, q5⟩ := e10 rfl
  obtain ⟨m, rfl⟩ : ∃ m, pn = m + 1 := ⟨pn - 1, by omega⟩
  exact ⟨(nI ns, nI t, nI (jc + 1), nI tc, ac, ysp, upd ja jc (pa m), upd ji jc (pi m), upd jn jc 0, upd yhw jc 1, upd ywn jc (nI t), tj, tt, yst, ypl, ydn, upd yak i (nI (is + 1)), upd ywt i 4, upd yun i (nI jc), yrs, yvr, yhd, ypa, ypi, upd ypd i (nI m), ygs, ygn, ygc), ⟨⟨w1, w2, by omega, w4⟩, rfl, rfl, rfl, rfl, rfl, rfl, rfl, rfl, rfl, rfl, z1, sa_hwn z2⟩, ⟨⟨by omega, by omega, by omega, by omega, by omega⟩, e1, e2, pk_us, fun k hk => e4 k (Nat.lt_succ_of_lt hk), fun k hk => e5 k (Nat.lt_succ_of_lt hk), e6, e7, e8, fun e => absurd e (by decide), fun _ => ⟨q1, q2, pk_us, q4, Or.inr (Or.inl ⟨sa_ne_m1 (by omega), rfl, pk_us, pk_us⟩)⟩⟩, (fun i' hi' hne => ⟨rfl, rfl, rfl, pk_un hne, pk_un hne, pk_un hne, rfl, fun _ _ => rfl, fun _ _ => rfl, fun _ _ => rfl, fun _ _ => rfl, pk_un hne, fun _ _ => rfl, fun _ _ => rfl, rfl⟩), fun R K => sa_tb_a hi e3 (by omega) q3 h30 hj' (e4 m (by omega)) (e5 m (by omega)) K⟩
theorem sa_YTl {i t : Nat} {P : sa_P} {J : sa_J} {L : sa_L} {h h' : sa_H} {v : SY} (hi : i < 3) (ho : sa_ou L ≠ -1) (ht : ¬ nI t < sa_ou L) (Jw : sa_tw P h) (W : sa_WY P t J v) (H : sa_HY i P t L h v) (S : sa_S2 P h 0 (-1) h') : sa_YO i P t J (sa_Lw L 0 (-1)) h h' v := by
  revert H S Jw
  refine sa_WYi (C := fun P J v => sa_tw P h → sa_HY i P t L h v → sa_S2 P h 0 (-1) h' → sa_YO i P t J (sa_Lw L 0 (-1)) h h' v) W ?_
  intro ns jc tc kd p1 p2 p3 ac ja ji jn js jt tj tt ysp yhw ywn yst ypl ydn yak ywt yun yrs yvr yhd ypa ypi ypd ygs ygn ygc W Jw H S
  obtain ⟨sv, ak, aj, gc, gk, gn, hs, hg, hn, ou⟩ := L
  obtain ⟨st, pl, ev, dn, us, is, vr, hd, tk, pn, pa, pi, un, wj⟩ := h
  obtain ⟨rfl, _, hk⟩ := Jw
  obtain ⟨rfl, hw, h2, S⟩ := S
  obtain ⟨⟨w1, w2, w3, w4⟩, _, _, _, _, _, _, _, _, _, _, z1, z2⟩ := W
  obtain ⟨⟨b1, b2, b3, b4, b5⟩, e1, e2, e3, e4, e5, e6, e7, e8, e9, e10⟩ := H
  obtain ⟨q1, q2, q3, q4, q5⟩ := e10 rfl
  obtain ⟨_, _, y3, _⟩ := sa_WCj q5 hw
  obtain ⟨q6, q7, _⟩ := y3 rfl hk
  rcases S with ⟨e, _⟩ | ⟨_, hp, S⟩
  · cases e
  rcases S with ⟨hk', _⟩ | ⟨hk', _⟩ | ⟨_, a, ha, f1, rfl⟩ | ⟨hk', _⟩
  · exact absurd (hk.symm.trans hk') (by decide)
  · exact absurd (hk.symm.trans hk') (by decide)
  · have H1 : sa_HY i (ns, kd, p1, p2, p3, ac) t (sv, ak, aj, gc, gk, gn, hs + 1, upd hg hs 0, upd hn hs (-1), -1) (1, pl + 1, ev, dn, us + 1, is, vr, hd, tk, pn, pa, pi, false, -1) (nI ns, nI t, nI jc, nI tc, ac, ysp, ja, ji, jn, yhw, ywn, tj, tt, yst, upd ypl i (nI (pl + 1)), ydn, yak, upd ywt i 0, yun, yrs, yvr, yhd, ypa, ypi, ypd, ygs, ygn, ygc) := ⟨⟨by omega, by omega, by omega, by omega, by omega⟩, e1, e2, e3, e4, e5, e6, e7, e8, fun e => absurd e (by decide), fun _ => ⟨pk_us, q2, q3, q4, Or.inl ⟨rfl, pk_us⟩⟩⟩
    exact ⟨_, ⟨⟨w1, w2, by omega, w4⟩, rfl, rfl, rfl, rfl, rfl, rfl, rfl, rfl, rfl, rfl, z1, z2⟩, H1, (fun i' hi' hne => ⟨rfl, pk_un hne, rfl, rfl, pk_un hne, rfl, rfl, fun _ _ => rfl, fun _ _ => rfl, fun _ _ => rfl, fun _ _ => rfl, rfl, fun _ _ => rfl, fun _ _ => rfl, rfl⟩), sa_yo2 hi rfl hw rfl (sa_mu_b hw) H1 (fun Q K => sa_g_t1 hi (by omega) q1 q6 (by rw [q7 ho]; exact ht) K)⟩
  · exact absurd (hk.symm.trans hk') (by decide)
/-- signals that are taken don't match -/
theorem sa_gsn {g a : Nat} {i : Nat} {ygs gk tk : Nat → Int32} {s : Int32} (e8 : ∀ k, k < g → ygs (6 * i + k) = (if tk k = 0 then gk k else -1)) (hs : s = nI a) (ha : a < 2) : ∀ k, k < g → (ygs (6 * i + k) = s ↔ (gk k = s ∧ tk k = 0)) := by
  intro k hk
  rw [e8 k hk]
  by_cases e : tk k = 0
  · rw [if_pos e]
    exact ⟨fun z => ⟨z, e⟩, fun z => z.1⟩
  · rw [if_neg e]
    refine ⟨fun z => ?_, fun z => absurd z.2 e⟩
    rw [hs] at z
    exact absurd z.symm (sa_ne_m1 (by omega))
theorem sa_YGt {i t : Nat} {P : sa_P} {J : sa_J} {L : sa_L} {h h' : sa_H} {v : SY} (hi : i < 3) (ho : sa_ou L ≠ -1) (ht : ¬ nI t < sa_ou L) (Jw : sa_gw P h) (N : sa_Sn P L h) (W : sa_WY P t J v) (H : sa_HY i P t L h v) (S : sa_S2 P h 0 (-1) h') : sa_YO i P t J (sa_Lw L 0 (-1)) h h' v := by
  revert H S Jw N
  refine sa_WYi (C := fun P J v => sa_gw P h → sa_Sn P L h → sa_HY i P t L h v → sa_S2 P h 0 (-1) h' → sa_YO i P t J (sa_Lw L 0 (-1)) h h' v) W ?_
  intro ns jc tc kd p1 p2 p3 ac ja ji jn js jt tj tt ysp yhw ywn yst ypl ydn yak ywt yun yrs yvr yhd ypa ypi ypd ygs ygn ygc W Jw N H S
  obtain ⟨sv, ak, aj, gc, gk, gn, hs, hg, hn, ou⟩ := L
  obtain ⟨st, pl, ev, dn, us, is, vr, hd, tk, pn, pa, pi, un, wj⟩ := h
  obtain ⟨rfl, _, hk⟩ := Jw
  obtain ⟨rfl, hw, h2, S⟩ := S
  obtain ⟨⟨w1, w2, w3, w4⟩, _, _, _, _, _, _, _, _, _, _, z1, z2⟩ := W
  obtain ⟨⟨b1, b2, b3, b4, b5⟩, e1, e2, e3, e4, e5, e6, e7, e8, e9, e10⟩ := H
  obtain ⟨q1, q2, q3, q4, q5⟩ := e10 rfl
  obtain ⟨_, _, _, y3⟩ := sa_WCj q5 hw
  obtain ⟨q6, q7, _⟩ := y3 rfl hk
  rcases S with ⟨e, _⟩ | ⟨_, hp, S⟩
  · cases e
  obtain ⟨s0, s1, s2, s3⟩ := z1 pl hp
  rcases S with ⟨hk', _⟩ | ⟨hk', _⟩ | ⟨hk', _⟩ | ⟨_, a, b, ha, hb, f1, f2, hg0, rfl⟩
  · exact absurd (hk.symm.trans hk') (by decide)
  · exact absurd (hk.symm.trans hk') (by decide)
  · exact absurd (hk.symm.trans hk') (by decide)
  · have H1 : sa_HY i (ns, kd, p1, p2, p3, ac) t (sv, ak, aj, gc, gk, gn, hs + 1, upd hg hs 0, upd hn hs (-1), -1) (1, pl + 1, ev, dn, us + 1, is, upd vr b (-1), hd, tk, pn, pa, pi, false, -1) (nI ns, nI t, nI jc, nI tc, ac, ysp, ja, ji, jn, yhw, ywn, tj, tt, yst, upd ypl i (nI (pl + 1)), ydn, yak, upd ywt i 0, yun, yrs, upd yvr (4 * i + b) (-1), yhd, ypa, ypi, ypd, ygs, ygn, ygc) := ⟨⟨by omega, by omega, by omega, by omega, by omega⟩, e1, sa_uo e2, e3, e4, e5, e6, e7, e8, fun e => absurd e (by decide), fun _ => ⟨pk_us, q2, q3, q4, Or.inl ⟨rfl, pk_us⟩⟩⟩
    exact ⟨_, ⟨⟨w1, w2, by omega, w4⟩, rfl, rfl, rfl, rfl, rfl, rfl, rfl, rfl, rfl, rfl, z1, z2⟩, H1, (fun i' hi' hne => ⟨rfl, pk_un hne, rfl, rfl, pk_un hne, rfl, rfl, fun k hk => pk_un (by omega), fun _ _ => rfl, fun _ _ => rfl, fun _ _ => rfl, rfl, fun _ _ => rfl, fun _ _ => rfl, rfl⟩), sa_yo2 hi rfl hw rfl (sa_mu_b hw) H1 (fun Q K => sa_g_gt hi (by omega) q1 s1 (s2.trans f2) hb q6 b5 e6 (fun k hk z => N k hk ((sa_gsn e8 f1 ha k hk).mp z)) (by rw [q7 ho]; exact ht) K)⟩
theorem sa_YGl {i t q : Nat} {P : sa_P} {J : sa_J} {L : sa_L} {h h' : sa_H} {v : SY} {y : Int32} (hi : i < 3) (N : sa_Sg P L h q y) (W : sa_WY P t J v) (H : sa_HY i P t L h v) (S : sa_S3 P h q y h') : sa_YO i P t J (sa_Lw L 1 (nI q)) h h' v := by
  revert H S N
  refine sa_WYi (C := fun P J v => sa_Sg P L h q y → sa_HY i P t L h v → sa_S3 P h q y h' → sa_YO i P t J (sa_Lw L 1 (nI q)) h h' v) W ?_
  intro ns jc tc kd p1 p2 p3 ac ja ji jn js jt tj tt ysp yhw ywn yst ypl ydn yak ywt yun yrs yvr yhd ypa ypi ypd ygs ygn ygc W N H S
  obtain ⟨sv, ak, aj, gc, gk, gn, hs, hg, hn, ou⟩ := L
  obtain ⟨st, pl, ev, dn, us, is, vr, hd, tk, pn, pa, pi, un, wj⟩ := h
  obtain ⟨n1, n2, n3, rfl⟩ := N
  obtain ⟨rfl, hw, h2, rfl, hp, _, hk, a, b, ha, hb, f1, f2, rfl⟩ := S
  obtain ⟨⟨w1, w2, w3, w4⟩, _, _, _, _, _, _, _, _, _, _, z1, z2⟩ := W
  obtain ⟨⟨b1, b2, b3, b4, b5⟩, e1, e2, e3, e4, e5, e6, e7, e8, e9, e10⟩ := H
  obtain ⟨q1, q2, q3, q4, q5⟩ := e10 rfl
  obtain ⟨s0, s1, s2, s3⟩ := z1 pl hp
  obtain ⟨_, _, _, y3⟩ := sa_WCj q5 hw
  obtain ⟨q6, q7, _⟩ := y3 rfl hk
  have H1 : sa_HY i (ns, kd, p1, p2, p3, ac) t (sv, ak, aj, gc, gk, gn, hs + 1, upd hg hs 1, upd hn hs (nI q), -1) (1, pl + 1, ev, dn, us + 1, is, upd vr b (gn q), hd, upd tk q 1, pn, pa, pi, false, -1) (nI ns, nI t, nI jc, nI tc, ac, ysp, ja, ji, jn, yhw, ywn, tj, tt, yst, upd ypl i (nI (pl + 1)), ydn, yak, upd ywt i 0, yun, yrs, upd yvr (4 * i + b) (gn q), yhd, ypa, ypi, ypd, upd ygs (6 * i + q) (-1), ygn, ygc) := by
    refine ⟨⟨by omega, by omega, by omega, by omega, by omega⟩, e1, sa_uo e2, e3, e4, e5, e6, e7, ?_, fun e => absurd e (by decide), fun _ => ⟨pk_us, q2, q3, q4, Or.inl ⟨rfl, pk_us⟩⟩⟩
    intro k hk
    by_cases ek : k = q
    · subst ek
      rw [pk_us, pk_us]
      rfl
    · rw [pk_un (by omega), pk_un ek]
      exact e8 k hk
  refine ⟨_, ⟨⟨w1, w2, by omega, w4⟩, rfl, rfl, rfl, rfl, rfl, rfl, rfl, rfl, rfl, rfl, z1, z2⟩, H1, (fun i' hi' hne => ⟨rfl, pk_un hne, rfl, rfl, pk_un hne, rfl, rfl, fun k hk => pk_un (by omega), fun _ _ => rfl, fun _ _ => rfl, fun _ _ => rfl, rfl, fun k hk => pk_un (by omega), fun _ _ => rfl, rfl⟩), sa_yo2 hi rfl hw rfl (sa_mu_b hw) H1 (fun Q K => sa_g_g1 hi (by omega) q1 s1 (s2.trans f2) hb q6 b5 e6 n1 ((sa_gsn e8 f1 ha q n1).mpr n2) (fun k hk z => n3 k hk ((sa_gsn e8 f1 ha k (by omega)).mp z)) ?_)⟩
  rw [e7 q n1]
  exact K
/-- open waits -/
theorem sa_YR {i t q : Nat} {P : sa_P} {J : sa_J} {L : sa_L} {h : sa_H} {v : SY} (hi : i < 3) (hst : sa_st h = 1) (hw : sa_wj h ≠ -1) (hj : sa_wj h = nI q) (hp20 : sa_pl h < 20) (hq : q < sa_jc J) (N : sa_No J q) (Jw : sa_jw P h) (W : sa_WY P t J v) (H : sa_HY i P t L h v) :
    ∀ Q : Int32 → SY → Prop, Q 0 v → wpY_goOn Q v (nI i) := by
  revert H hq N Jw
  refine sa_WYi (C := fun P J v => q < sa_jc J → sa_No J q → sa_jw P h → sa_HY i P t L h v → ∀ Q : Int32 → SY → Prop, Q 0 v → wpY_goOn Q v (nI i)) W ?_
  intro ns jc tc kd p1 p2 p3 ac ja ji jn js jt tj tt ysp yhw ywn yst ypl ydn yak ywt yun yrs yvr yhd ypa ypi ypd ygs ygn ygc W hq N Jw H Q K
  obtain ⟨sv, ak, aj, gc, gk, gn, hs, hg, hn, ou⟩ := L
  obtain ⟨st, pl, ev, dn, us, is, vr, hd, tk, pn, pa, pi, un, wj⟩ := h
  obtain ⟨n1, n2⟩ := N
  have hst' : st = 1 := hst
  subst hst'
  have hj' : wj = nI q := hj
  obtain ⟨⟨w1, w2, w3, w4⟩, _, _, _, _, _, _, _, _, _, _, z1, z2⟩ := W
  obtain ⟨⟨b1, b2, b3, b4, b5⟩, e1, e2, e3, e4, e5, e6, e7, e8, e9, e10⟩ := H
  obtain ⟨q1, q2, q3, q4, q5⟩ := e10 rfl
  obtain ⟨y1, y2, _⟩ := sa_WCj q5 hw
  rcases Jw with rfl | ⟨rfl, hp, hk⟩
  · obtain ⟨q6, q7⟩ := y1 rfl
    exact sa_g_j0 hi hp20 q1 q6 (Or.inr rfl) (q7.trans hj') n1 (sa_hwN (z2 q hq) n2) K
  · obtain ⟨q6, q7⟩ := y2 rfl hk
    exact sa_g_j0 hi hp20 q1 q6 (Or.inl rfl) (q7.trans hj') n1 (sa_hwN (z2 q hq) n2) K
theorem sa_YRt {i t : Nat} {P : sa_P} {J : sa_J} {L : sa_L} {h : sa_H} {v : SY} (hi : i < 3) (hst : sa_st h = 1) (hw : sa_wj h ≠ -1) (ho : sa_ou L ≠ -1) (ht : nI t < sa_ou L) (hW : sa_Wt P h) (Jw : sa_tw P h ∨ (sa_gw P h ∧ sa_Sn P L h)) (W : sa_WY P t J v) (H : sa_HY i P t L h v) :
    ∀ Q : Int32 → SY → Prop, Q 0 v → wpY_goOn Q v (nI i) := by
  revert H Jw hW
  refine sa_WYi (C := fun P J v => sa_Wt P h → (sa_tw P h ∨ (sa_gw P h ∧ sa_Sn P L h)) → sa_HY i P t L h v → ∀ Q : Int32 → SY → Prop, Q 0 v → wpY_goOn Q v (nI i)) W ?_
  intro ns jc tc kd p1 p2 p3 ac ja ji jn js jt tj tt ysp yhw ywn yst ypl ydn yak ywt yun yrs yvr yhd ypa ypi ypd ygs ygn ygc W hW Jw H Q K
  obtain ⟨sv, ak, aj, gc, gk, gn, hs, hg, hn, ou⟩ := L
  obtain ⟨st, pl, ev, dn, us, is, vr, hd, tk, pn, pa, pi, un, wj⟩ := h
  have hst' : st = 1 := hst
  subst hst'
  obtain ⟨⟨w1, w2, w3, w4⟩, _, _, _, _, _, _, _, _, _, _, z1, z2⟩ := W
  obtain ⟨⟨b1, b2, b3, b4, b5⟩, e1, e2, e3, e4, e5, e6, e7, e8, e9, e10⟩ := H
  obtain ⟨q1, q2, q3, q4, q5⟩ := e10 rfl
  obtain ⟨_, _, y2, y3⟩ := sa_WCj q5 hw
  rcases Jw with ⟨rfl, hp, hk⟩ | ⟨⟨rfl, hp, hk⟩, N⟩
  · obtain ⟨q6, q7, _⟩ := y2 rfl hk
    exact sa_g_t0 hi (by omega) q1 q6 (by rw [q7 ho]; exact ht) K
  · obtain ⟨q6, q7, _⟩ := y3 rfl hk
    obtain ⟨s0, s1, s2, s3⟩ := z1 pl hp
    rcases hW with e | ⟨_, _, e | e | ⟨e, _⟩ | ⟨_, _, a, ha, f1⟩⟩
    · cases e
    · exact absurd (hk.symm.trans e) (by decide)
    · exact absurd (hk.symm.trans e) (by decide)
    · exact absurd (hk.symm.trans e) (by decide)
    · exact sa_g_g0 hi (by omega) q1 s1 q6 b5 e6 (fun k hk z => N k hk ((sa_gsn e8 f1 ha k hk).mp z)) (by rw [q7 ho]; exact ht) K
/-- opened: what lasts holds now the time that the reference holds -/
theorem sa_HYo {i t c : Nat} {P : sa_P} {L : sa_L} {h : sa_H} {v : SY} (hst : sa_st h = 1) (hw : sa_wj h ≠ -1) (ho : sa_ou L = -1)
    (Jw : (sa_tw P h ∧ (match P, h with | (ns, kd, p1, p2, p3, ac), (st, pl, ev, dn, us, is, vr, hd, tk, pn, pa, pi, un, wj) => ∃ a, a < 4 ∧ p1 pl = nI a ∧ ¬ vr a ≤ 0 ∧ sa_cl (vr a) = nI c)) ∨ (sa_gw P h ∧ (match P, h with | (ns, kd, p1, p2, p3, ac), (st, pl, ev, dn, us, is, vr, hd, tk, pn, pa, pi, un, wj) => p3 pl = nI c))) (H : sa_HY i P t L h v) : sa_HY i P t (sa_Lo L (nI (t + c))) h v := by
  obtain ⟨ns, kd, p1, p2, p3, ac⟩ := P
  obtain ⟨sv, ak, aj, gc, gk, gn, hs, hg, hn, ou⟩ := L
  obtain ⟨st, pl, ev, dn, us, is, vr, hd, tk, pn, pa, pi, un, wj⟩ := h
  obtain ⟨yns, ynow, yjc, ytc, yac, ysp, yja, yji, yjn, yhw, ywn, ytj, ytt, yst, ypl, ydn, yak, ywt, yun, yrs, yvr, yhd, ypa, ypi, ypd, ygs, ygn, ygc⟩ := v
  have hst' : st = 1 := hst
  subst hst'
  obtain ⟨⟨b1, b2, b3, b4, b5⟩, e1, e2, e3, e4, e5, e6, e7, e8, e9, e10⟩ := H
  obtain ⟨q1, q2, q3, q4, q5⟩ := e10 rfl
  obtain ⟨_, _, y2, y3⟩ := sa_WCj q5 hw
  refine ⟨⟨by omega, by omega, by omega, by omega, by omega⟩, e1, e2, e3, e4, e5, e6, e7, e8, e9, fun _ => ⟨q1, q2, q3, q4, ?_⟩⟩
  rcases Jw with ⟨⟨rfl, hp, hk⟩, a, ha, f1, hz, ec⟩ | ⟨⟨rfl, hp, hk⟩, ec⟩
  · obtain ⟨q6, _, q7⟩ := y2 rfl hk
    obtain ⟨a', ha', f1', q8⟩ := q7 ho
    have : a' = a := (nI_eq (by omega) (by omega)).mp (f1'.symm.trans f1)
    subst this
    refine Or.inr (Or.inr (Or.inr (Or.inl ⟨hw, rfl, hk, q6, fun _ => ?_, fun e => ?_⟩)))
    · rw [q8, ec, nI_add]
    · exact ⟨a', ha', f1', q8⟩
  · obtain ⟨q6, _, q7⟩ := y3 rfl hk
    refine Or.inr (Or.inr (Or.inr (Or.inr ⟨hw, rfl, hk, q6, fun _ => ?_, fun _ => q7 ho⟩)))
    have ec' : p3 pl = nI c := ec
    rw [q7 ho, ec', nI_add]
end
section
/-! what holds of a workflow between and at its waits, and that steps keep it -/
def sa_VS (k p q r : Int32) : Prop :=
  (k = 0 ∧ ∃ a, a < 4 ∧ p = nI a)
  ∨ ((k = 1 ∨ k = 2 ∨ k = 6) ∧ ∃ a b, a < 4 ∧ b < 4 ∧ p = nI a ∧ q = nI b)
  ∨ (k = 3 ∧ ∃ a b c, a < 4 ∧ b < 4 ∧ c < 4 ∧ p = nI a ∧ q = nI b ∧ r = nI c)
  ∨ (k = 4 ∧ ∃ a b c, a < 4 ∧ b < 4 ∧ c < 3 ∧ p = nI a ∧ q = nI b ∧ r = nI c)
  ∨ (k = 5 ∧ ∃ a b, a < 3 ∧ b < 4 ∧ p = nI a ∧ q = nI b)
  ∨ (k = 7 ∧ ∃ a, a < 4 ∧ p = nI a)
  ∨ (k = 8 ∧ ∃ a, a < 20 ∧ p = nI a)
  ∨ (k = 9 ∧ ∃ a b c, a < 4 ∧ b < 4 ∧ c < 20 ∧ p = nI a ∧ q = nI b ∧ r = nI c)
  ∨ (k = 10 ∧ ∃ a b c, a < 2 ∧ b < 4 ∧ (1 ≤ c ∧ c ≤ 50) ∧ p = nI a ∧ q = nI b ∧ r = nI c)
  ∨ (k = 11 ∧ ∃ a, a < 4 ∧ p = nI a)
  ∨ k = 12
def sa_VK (P : sa_P) : Prop := match P with | (ns, kd, p1, p2, p3, ac) => ∀ k, k < ns → sa_VS (kd k) (p1 k) (p2 k) (p3 k)
def sa_I (P : sa_P) (J : sa_J) (L : sa_L) (h : sa_H) : Prop := match P, J, L, h with
  | (ns, kd, p1, p2, p3, ac), (jc, ja, ji, jn, js, jt, tc, tj, tt), (sv, ak, aj, gc, gk, gn, hs, hg, hn, ou), (st, pl, ev, dn, us, is, vr, hd, tk, pn, pa, pi, un, wj) => (us = hs ∧ is = ak ∧ pn ≤ dn ∧ dn ≤ 200 ∧ is ≤ 30 ∧ pl ≤ 20 ∧ us ≤ dn + is ∧ gc ≤ 6)
    ∧ (wj ≠ -1 → us + 1 ≤ dn + is)
    ∧ (∀ k, k < 3 → hd k = -1 ∨ ∃ j, j < jc ∧ hd k = nI j)
    ∧ (st = 1 → wj ≠ -1 → sa_Wt (ns, kd, p1, p2, p3, ac) (st, pl, ev, dn, us, is, vr, hd, tk, pn, pa, pi, un, wj) ∧ (sa_jw (ns, kd, p1, p2, p3, ac) (st, pl, ev, dn, us, is, vr, hd, tk, pn, pa, pi, un, wj) → ∃ j, j < jc ∧ wj = nI j))
    ∧ (st = 1 → un = true → pl < ns)
    ∧ (∀ k, k < 6 → (k < gc → (tk k = 0 ∨ tk k = 1) ∧ (gk k = 0 ∨ gk k = 1)) ∧ (gc ≤ k → tk k = 0))
    ∧ ((st ≠ 1 ∨ wj = -1 ∨ sa_jw (ns, kd, p1, p2, p3, ac) (st, pl, ev, dn, us, is, vr, hd, tk, pn, pa, pi, un, wj)) → ou = -1)
    ∧ (∃ m, 1 ≤ m ∧ m ≤ 5 ∧ st = nI m)
    ∧ (∀ k, k < pn → ∃ a, a < 4 ∧ pa k = nI a)
/-- the measure: none where the workflow has ended -/
def sa_m (h : sa_H) : Nat := if sa_st h = 1 then sa_mu h else 0
def sa_pend (h : sa_H) : Prop := sa_st h = 1 ∧ sa_un h = true ∧ sa_wj h = -1
theorem sa_ms1 {h : sa_H} (e : sa_st h = 1) : sa_m h = sa_mu h := if_pos e
theorem sa_ms0 {h : sa_H} (e : ¬ sa_st h = 1) : sa_m h = 0 := if_neg e
theorem sa_mlt {h h' : sa_H} (e : sa_st h = 1) (l : sa_mu h' < sa_mu h) : sa_m h' < sa_m h := by
  rw [sa_ms1 e]
  by_cases e' : sa_st h' = 1
  · rw [sa_ms1 e']
    exact l
  · rw [sa_ms0 e']
    have := sa_mu1 h
    omega
theorem sa_mle {h h' : sa_H} (e : sa_st h = 1) (e' : ¬ sa_st h' = 1) : sa_m h' < sa_m h := by
  rw [sa_ms1 e, sa_ms0 e']
  have := sa_mu1 h
  omega
theorem sa_upd_hd {hd : Nat → Int32} {jc c : Nat} {x : Int32} (i3 : ∀ k, k < 3 → hd k = -1 ∨ ∃ j, j < jc ∧ hd k = nI j) (hx : x = -1 ∨ ∃ j, j < jc ∧ x = nI j) : ∀ k, k < 3 → upd hd c x k = -1 ∨ ∃ j, j < jc ∧ upd hd c x k = nI j := by
  intro k hk
  by_cases e : k = c
  · subst e
    rw [pk_us]
    exact hx
  · rw [pk_un e]
    exact i3 k hk
/-- a step that takes nothing from outside -/
theorem sa_I0 {P : sa_P} {J : sa_J} {L : sa_L} {h h' : sa_H} (hns : match P with | (ns, kd, p1, p2, p3, ac) => ns ≤ 20) (I : sa_I P J L h) (S : sa_S0 P h h') : sa_I P J L h' ∧ sa_m h' < sa_m h ∧ ¬ sa_pend h' := by
  obtain ⟨ns, kd, p1, p2, p3, ac⟩ := P
  obtain ⟨jc, ja, ji, jn, js, jt, tc, tj, tt⟩ := J
  obtain ⟨sv, ak, aj, gc, gk, gn, hs, hg, hn, ou⟩ := L
  obtain ⟨st, pl, ev, dn, us, is, vr, hd, tk, pn, pa, pi, un, wj⟩ := h
  obtain ⟨rfl, rfl, rfl, S⟩ := S
  obtain ⟨⟨n1, n2, n3, n4, n5, n6, n7, n8⟩, i2, i3, i4, i5, i6, i7, i8, i9⟩ := I
  have ou0 : ou = -1 := i7 (Or.inr (Or.inl rfl))
  have hns' : ns ≤ 20 := hns
  have np : ∀ {st' ev' : Int32} {pl' dn' us' is' pn' : Nat} {vr' hd' tk' pa' pi' : Nat → Int32} {wj' : Int32}, ¬ sa_pend (st', pl', ev', dn', us', is', vr', hd', tk', pn', pa', pi', false, wj') := fun z => nomatch z.2.1
  rcases S with ⟨hp, rfl⟩ | ⟨hp, hq, rfl⟩ | ⟨hp, hq, S⟩
  · exact ⟨⟨⟨by omega, by omega, by omega, by omega, by omega, by omega, by omega, by omega⟩, fun e => absurd rfl e, i3, fun e => absurd e (by decide), fun e => absurd e (by decide), i6, fun _ => ou0, ⟨2, by omega, by omega, rfl⟩, i9⟩, sa_mle rfl (show ¬ (2 : Int32) = 1 from by decide), np⟩
  · exact ⟨⟨⟨by omega, by omega, by omega, by omega, by omega, by omega, by omega, by omega⟩, fun e => absurd rfl e, i3, fun e => absurd e (by decide), fun e => absurd e (by decide), i6, fun _ => ou0, ⟨5, by omega, by omega, rfl⟩, i9⟩, sa_mle rfl (show ¬ (5 : Int32) = 1 from by decide), np⟩
  rcases S with ⟨hk, a, ha, e1, rfl⟩ | ⟨hk, a, b, ha, hb, e1, e2, rfl⟩ | ⟨hk, a, b, ha, hb, e1, e2, rfl⟩ | ⟨hk, hm, _, rfl⟩ | ⟨hk, a, b, c, ha, hb, hc, e1, e2, e3, hh, rfl⟩ | ⟨hk, a, b, c, ha, hb, hc, e1, e2, e3, hh, hm, rfl⟩ | ⟨hk, a, b, ha, hb, e1, e2, hh, rfl⟩ | ⟨hk, a, b, ha, hb, e1, e2, hh, rfl⟩ | ⟨hk, a, b, ha, hb, e1, e2, hm, rfl⟩ | ⟨hk, a, ha, e1, hz, rfl⟩ | ⟨hk, a, ha, e1, hz, rfl⟩ | ⟨hk, a, ha, e1, rfl⟩ | ⟨hk, a, b, c, ha, hb, hc, e1, e2, e3, hz, rfl⟩ | ⟨hk, a, b, c, ha, hb, hc, e1, e2, e3, hz, rfl⟩ | ⟨hk, a, b, ha, hb, e1, e2, rfl⟩ | ⟨hk, a, ha, e1, rfl⟩
  · exact ⟨⟨⟨by omega, by omega, by omega, by omega, by omega, by omega, by omega, by omega⟩, fun e => absurd rfl e, i3, fun _ e => absurd rfl e, fun _ => nofun, i6, fun _ => ou0, ⟨1, by omega, by omega, rfl⟩, i9⟩, sa_mlt rfl (sa_mu_a hq (Nat.le_refl _)), np⟩
  · exact ⟨⟨⟨by omega, by omega, by omega, by omega, by omega, by omega, by omega, by omega⟩, fun e => absurd rfl e, i3, fun _ e => absurd rfl e, fun _ => nofun, i6, fun _ => ou0, ⟨1, by omega, by omega, rfl⟩, i9⟩, sa_mlt rfl (sa_mu_a hq (Nat.le_refl _)), np⟩
  · exact ⟨⟨⟨by omega, by omega, by omega, by omega, by omega, by omega, by omega, by omega⟩, fun e => absurd rfl e, i3, fun _ e => absurd rfl e, fun _ => nofun, i6, fun _ => ou0, ⟨1, by omega, by omega, rfl⟩, i9⟩, sa_mlt rfl (sa_mu_a hq (Nat.le_refl _)), np⟩
  · exact ⟨⟨⟨by omega, by omega, by omega, by omega, by omega, by omega, by omega, by omega⟩, fun e => absurd rfl e, i3, fun e => absurd e (by decide), fun e => absurd e (by decide), i6, fun _ => ou0, ⟨5, by omega, by omega, rfl⟩, i9⟩, sa_mle rfl (show ¬ (5 : Int32) = 1 from by decide), np⟩
  · exact ⟨⟨⟨by omega, by omega, by omega, by omega, by omega, by omega, by omega, by omega⟩, fun e => absurd rfl e, i3, fun e => absurd e (by decide), fun e => absurd e (by decide), i6, fun _ => ou0, ⟨5, by omega, by omega, rfl⟩, i9⟩, sa_mle rfl (show ¬ (5 : Int32) = 1 from by decide), np⟩
  · exact ⟨⟨⟨by omega, by omega, by omega, by omega, by omega, by omega, by omega, by omega⟩, fun e => absurd rfl e, i3, fun e => absurd e (by decide), fun e => absurd e (by decide), i6, fun _ => ou0, ⟨5, by omega, by omega, rfl⟩, i9⟩, sa_mle rfl (show ¬ (5 : Int32) = 1 from by decide), np⟩
  · exact ⟨⟨⟨by omega, by omega, by omega, by omega, by omega, by omega, by omega, by omega⟩, fun e => absurd rfl e, i3, fun e => absurd e (by decide), fun e => absurd e (by decide), i6, fun _ => ou0, ⟨5, by omega, by omega, rfl⟩, i9⟩, sa_mle rfl (show ¬ (5 : Int32) = 1 from by decide), np⟩
  · refine ⟨⟨⟨by omega, by omega, by omega, by omega, by omega, by omega, by omega, by omega⟩, fun _ => by omega, i3, fun _ _ => ⟨Or.inr ⟨rfl, hp, Or.inr (Or.inl hk)⟩, fun _ => ?_⟩, fun _ => nofun, i6, fun _ => ou0, ⟨1, by omega, by omega, rfl⟩, i9⟩, sa_mlt rfl (sa_mu_a hq (Nat.le_refl _)), np⟩
    rcases i3 a ha with e | e
    · exact absurd e hh
    · exact e
  · refine ⟨⟨⟨by omega, by omega, by omega, by omega, by omega, by omega, by omega, by omega⟩, fun e => absurd rfl e, i3, fun _ e => absurd rfl e, fun _ => nofun, i6, fun _ => ou0, ⟨1, by omega, by omega, rfl⟩, ?_⟩, sa_mlt rfl (sa_mu_a hq (Nat.le_refl _)), np⟩
    intro k hk'
    by_cases e : k = pn
    · subst e
      rw [pk_us]
      exact ⟨a, ha, e1⟩
    · rw [pk_un e]
      exact i9 k (by omega)
  · exact ⟨⟨⟨by omega, by omega, by omega, by omega, by omega, by omega, by omega, by omega⟩, fun e => absurd rfl e, i3, fun _ e => absurd rfl e, fun _ => nofun, i6, fun _ => ou0, ⟨1, by omega, by omega, rfl⟩, i9⟩, sa_mlt rfl (sa_mu_a hq (Nat.le_refl _)), np⟩
  · refine ⟨⟨⟨by omega, by omega, by omega, by omega, by omega, by omega, by omega, by omega⟩, fun _ => by omega, i3, fun _ _ => ⟨Or.inr ⟨rfl, hp, Or.inr (Or.inr (Or.inl ⟨hk, rfl, a, ha, e1, hz⟩))⟩, ?_⟩, fun _ => nofun, i6, fun _ => ou0, ⟨1, by omega, by omega, rfl⟩, i9⟩, sa_mlt rfl (sa_mu_a hq (Nat.le_refl _)), np⟩
    rintro (e | ⟨_, _, e | e⟩)
    · cases e
    · exact absurd (hk.symm.trans e) (by decide)
    · exact absurd (hk.symm.trans e) (by decide)
  · exact ⟨⟨⟨by omega, by omega, by omega, by omega, by omega, by omega, by omega, by omega⟩, fun e => absurd rfl e, i3, fun _ e => absurd rfl e, fun _ => nofun, i6, fun _ => ou0, ⟨1, by omega, by omega, rfl⟩, i9⟩, sa_mlt rfl (sa_mu_a hq (Nat.le_refl _)), np⟩
  · exact ⟨⟨⟨by omega, by omega, by omega, by omega, by omega, by omega, by omega, by omega⟩, fun e => absurd rfl e, i3, fun _ e => absurd rfl e, fun _ => nofun, i6, fun _ => ou0, ⟨1, by omega, by omega, rfl⟩, i9⟩, sa_mlt rfl (sa_mu_a hq (Nat.le_refl _)), np⟩
  · exact ⟨⟨⟨by omega, by omega, by omega, by omega, by omega, by omega, by omega, by omega⟩, fun e => absurd rfl e, i3, fun _ e => absurd rfl e, fun _ => nofun, i6, fun _ => ou0, ⟨1, by omega, by omega, rfl⟩, i9⟩, sa_mlt rfl (sa_mu_a hq (Nat.le_refl _)), np⟩
  · refine ⟨⟨⟨by omega, by omega, by omega, by omega, by omega, by omega, by omega, by omega⟩, fun _ => by omega, i3, fun _ _ => ⟨Or.inr ⟨rfl, hp, Or.inr (Or.inr (Or.inr ⟨hk, rfl, a, ha, e1⟩))⟩, ?_⟩, fun _ => nofun, i6, fun _ => ou0, ⟨1, by omega, by omega, rfl⟩, i9⟩, sa_mlt rfl (sa_mu_a hq (Nat.le_refl _)), np⟩
    rintro (e | ⟨_, _, e | e⟩)
    · cases e
    · exact absurd (hk.symm.trans e) (by decide)
    · exact absurd (hk.symm.trans e) (by decide)
  · exact ⟨⟨⟨by omega, by omega, by omega, by omega, by omega, by omega, by omega, by omega⟩, fun e => absurd rfl e, i3, fun e => absurd e (by decide), fun e => absurd e (by decide), i6, fun _ => ou0, ⟨2, by omega, by omega, rfl⟩, i9⟩, sa_mle rfl (show ¬ (2 : Int32) = 1 from by decide), np⟩
end
section
/-! the other steps keep it too -/
theorem sa_IF {P : sa_P} {J : sa_J} {L : sa_L} {h h' : sa_H} (I : sa_I P J L h) (S : sa_SF P h h') : sa_I P J L h' ∧ sa_pend h' ∧ sa_ou L = -1 := by
  (obtain ⟨ns, kd, p1, p2, p3, ac⟩ := P); (obtain ⟨jc, ja, ji, jn, js, jt, tc, tj, tt⟩ := J); (obtain ⟨sv, ak, aj, gc, gk, gn, hs, hg, hn, ou⟩ := L); (obtain ⟨st, pl, ev, dn, us, is, vr, hd, tk, pn, pa, pi, un, wj⟩ := h)
  obtain ⟨rfl, rfl, rfl, hp, hq, hk, rfl⟩ := S
  obtain ⟨⟨n1, n2, n3, n4, n5, n6, n7, n8⟩, i2, i3, i4, i5, i6, i7, i8, i9⟩ := I
  have ou0 : ou = -1 := i7 (Or.inr (Or.inl rfl))
  exact ⟨⟨⟨by omega, by omega, by omega, by omega, by omega, by omega, by omega, by omega⟩, fun e => absurd rfl e, i3, fun _ e => absurd rfl e, fun _ _ => hp, i6, fun _ => ou0, ⟨1, by omega, by omega, rfl⟩, i9⟩, ⟨rfl, rfl, rfl⟩, ou0⟩
theorem sa_IE {P : sa_P} {J : sa_J} {L : sa_L} {h h' : sa_H} (I : sa_I P J L h) (S : sa_SE h h') : sa_I P J L h' ∧ ¬ sa_st h' = 1 := by
  (obtain ⟨ns, kd, p1, p2, p3, ac⟩ := P); (obtain ⟨jc, ja, ji, jn, js, jt, tc, tj, tt⟩ := J); (obtain ⟨sv, ak, aj, gc, gk, gn, hs, hg, hn, ou⟩ := L); (obtain ⟨st, pl, ev, dn, us, is, vr, hd, tk, pn, pa, pi, un, wj⟩ := h)
  obtain ⟨rfl, rfl, rfl, S⟩ := S
  obtain ⟨⟨n1, n2, n3, n4, n5, n6, n7, n8⟩, i2, i3, i4, i5, i6, i7, i8, i9⟩ := I
  have ou0 : ou = -1 := i7 (Or.inr (Or.inl rfl))
  rcases S with ⟨rfl, rfl⟩ | ⟨h0, h2, hx, rfl⟩
  · exact ⟨⟨⟨by omega, by omega, by omega, by omega, by omega, by omega, by omega, by omega⟩, fun e => absurd rfl e, i3, fun e => absurd e (by decide), fun e => absurd e (by decide), i6, fun _ => ou0, ⟨3, by omega, by omega, rfl⟩, i9⟩, show ¬ (3 : Int32) = 1 from by decide⟩
  · exact ⟨⟨⟨by omega, by omega, by omega, by omega, by omega, by omega, by omega, by omega⟩, fun e => absurd rfl e, i3, fun e => absurd e (by decide), fun e => absurd e (by decide), i6, fun _ => ou0, ⟨5, by omega, by omega, rfl⟩, i9⟩, show ¬ (5 : Int32) = 1 from by decide⟩
theorem sa_I1 {t : Nat} {P : sa_P} {J : sa_J} {L : sa_L} {h h' : sa_H} {q x : Int32} (hns : match P with | (ns, kd, p1, p2, p3, ac) => ns ≤ 20) (I : sa_I P J L h) (S : sa_S1 P h q x (nI (sa_jc J)) h') : sa_I P (sa_Jn t J q x) (sa_La L (nI (sa_jc J))) h' ∧ sa_m h' < sa_m h ∧ ¬ sa_pend h' := by
  (obtain ⟨ns, kd, p1, p2, p3, ac⟩ := P); (obtain ⟨jc, ja, ji, jn, js, jt, tc, tj, tt⟩ := J); (obtain ⟨sv, ak, aj, gc, gk, gn, hs, hg, hn, ou⟩ := L); (obtain ⟨st, pl, ev, dn, us, is, vr, hd, tk, pn, pa, pi, un, wj⟩ := h)
  obtain ⟨rfl, rfl, rfl, hp, hq, h30, _, S⟩ := S
  obtain ⟨⟨n1, n2, n3, n4, n5, n6, n7, n8⟩, i2, i3, i4, i5, i6, i7, i8, i9⟩ := I
  have ou0 : ou = -1 := i7 (Or.inr (Or.inl rfl))
  have hns' : ns ≤ 20 := hns
  rcases S with ⟨hk, a, b, ha, hb, e1, e2, rfl, rfl, rfl⟩ | ⟨hk, a, b, c, ha, hb, hc, e1, e2, e3, rfl, rfl, hh, rfl⟩
  · exact ⟨⟨⟨by omega, by omega, by omega, by omega, by omega, by omega, by omega, by omega⟩, fun _ => by omega, fun k hk => (i3 k hk).imp id (fun ⟨j, hj, e⟩ => ⟨j, by omega, e⟩), fun _ _ => ⟨Or.inr ⟨rfl, hp, Or.inl hk⟩, fun _ => ⟨jc, by omega, rfl⟩⟩, fun _ => nofun, i6, fun _ => ou0, ⟨1, by omega, by omega, rfl⟩, i9⟩, sa_mlt rfl (sa_mu_a hq (by omega)), fun z => nomatch z.2.1⟩
  · refine ⟨⟨⟨by omega, by omega, by omega, by omega, by omega, by omega, by omega, by omega⟩, fun e => absurd rfl e, ?_, fun _ e => absurd rfl e, fun _ => nofun, i6, fun _ => ou0, ⟨1, by omega, by omega, rfl⟩, i9⟩, sa_mlt rfl (sa_mu_a hq (by omega)), fun z => nomatch z.2.1⟩
    exact sa_upd_hd (fun k hk => (i3 k hk).imp id (fun ⟨j, hj, e⟩ => ⟨j, by omega, e⟩)) (Or.inr ⟨jc, by omega, rfl⟩)
theorem sa_I1u {t : Nat} {P : sa_P} {J : sa_J} {L : sa_L} {h h' : sa_H} {q x : Int32} (I : sa_I P J L h) (S : sa_S1u h q x (nI (sa_jc J)) h') : sa_I P (sa_Jn t J q x) (sa_La L (nI (sa_jc J))) h' ∧ sa_st h' = 1 ∧ sa_wj h' = nI (sa_jc J) ∧ sa_wj h' ≠ -1 ∧ sa_jw P h' := by
  (obtain ⟨ns, kd, p1, p2, p3, ac⟩ := P); (obtain ⟨jc, ja, ji, jn, js, jt, tc, tj, tt⟩ := J); (obtain ⟨sv, ak, aj, gc, gk, gn, hs, hg, hn, ou⟩ := L); (obtain ⟨st, pl, ev, dn, us, is, vr, hd, tk, pn, pa, pi, un, wj⟩ := h)
  obtain ⟨rfl, rfl, rfl, h0, h2, h30, hj, rfl, rfl, rfl⟩ := S
  obtain ⟨⟨n1, n2, n3, n4, n5, n6, n7, n8⟩, i2, i3, i4, i5, i6, i7, i8, i9⟩ := I
  have ou0 : ou = -1 := i7 (Or.inr (Or.inl rfl))
  exact ⟨⟨⟨by omega, by omega, by omega, by omega, by omega, by omega, by omega, by omega⟩, fun _ => by omega, fun k hk => (i3 k hk).imp id (fun ⟨j, hj, e⟩ => ⟨j, by omega, e⟩), fun _ _ => ⟨Or.inl rfl, fun _ => ⟨jc, by omega, rfl⟩⟩, i5, i6, fun _ => ou0, ⟨1, by omega, by omega, rfl⟩, fun k hk => i9 k (by omega)⟩, rfl, rfl, hj, Or.inl rfl⟩
theorem sa_I2 {P : sa_P} {J : sa_J} {L : sa_L} {h h' : sa_H} {g x : Int32} (hns : match P with | (ns, kd, p1, p2, p3, ac) => ns ≤ 20) (I : sa_I P J L h) (S : sa_S2 P h g x h') : sa_I P J (sa_Lw L g x) h' ∧ sa_m h' < sa_m h ∧ ¬ sa_pend h' := by
  (obtain ⟨ns, kd, p1, p2, p3, ac⟩ := P); (obtain ⟨jc, ja, ji, jn, js, jt, tc, tj, tt⟩ := J); (obtain ⟨sv, ak, aj, gc, gk, gn, hs, hg, hn, ou⟩ := L); (obtain ⟨st, pl, ev, dn, us, is, vr, hd, tk, pn, pa, pi, un, wj⟩ := h)
  obtain ⟨rfl, hw, h2, S⟩ := S
  obtain ⟨⟨n1, n2, n3, n4, n5, n6, n7, n8⟩, i2, i3, i4, i5, i6, i7, i8, i9⟩ := I
  have i2' := i2 hw
  have hns' : ns ≤ 20 := hns
  have ou0 : (-1 : Int32) = -1 := rfl
  rcases S with ⟨rfl, hg0, rfl⟩ | ⟨rfl, hp, S⟩
  · exact ⟨⟨⟨by omega, by omega, by omega, by omega, by omega, by omega, by omega, by omega⟩, fun e => absurd rfl e, i3, fun e => absurd e (by decide), fun e => absurd e (by decide), i6, fun _ => ou0, ⟨4, by omega, by omega, rfl⟩, i9⟩, sa_mle rfl (show ¬ (4 : Int32) = 1 from by decide), fun z => absurd z.1 (show ¬ (4 : Int32) = 1 from by decide)⟩
  rcases S with ⟨hk, c, hc, e3, hg0, rfl⟩ | ⟨hk, a, b, ha, hb, e1, e2, hg0, rfl⟩ | ⟨hk, a, ha, e1, rfl⟩ | ⟨hk, a, b, ha, hb, e1, e2, hg0, rfl⟩
  · exact ⟨⟨⟨by omega, by omega, by omega, by omega, by omega, by omega, by omega, by omega⟩, fun e => absurd rfl e, i3, fun _ e => absurd rfl e, fun _ => nofun, i6, fun _ => ou0, ⟨1, by omega, by omega, rfl⟩, i9⟩, sa_mlt rfl (sa_mu_b hw), fun z => nomatch z.2.1⟩
  · exact ⟨⟨⟨by omega, by omega, by omega, by omega, by omega, by omega, by omega, by omega⟩, fun e => absurd rfl e, sa_upd_hd i3 (Or.inl rfl), fun _ e => absurd rfl e, fun _ => nofun, i6, fun _ => ou0, ⟨1, by omega, by omega, rfl⟩, i9⟩, sa_mlt rfl (sa_mu_b hw), fun z => nomatch z.2.1⟩
  · exact ⟨⟨⟨by omega, by omega, by omega, by omega, by omega, by omega, by omega, by omega⟩, fun e => absurd rfl e, i3, fun _ e => absurd rfl e, fun _ => nofun, i6, fun _ => ou0, ⟨1, by omega, by omega, rfl⟩, i9⟩, sa_mlt rfl (sa_mu_b hw), fun z => nomatch z.2.1⟩
  · exact ⟨⟨⟨by omega, by omega, by omega, by omega, by omega, by omega, by omega, by omega⟩, fun e => absurd rfl e, i3, fun _ e => absurd rfl e, fun _ => nofun, i6, fun _ => ou0, ⟨1, by omega, by omega, rfl⟩, i9⟩, sa_mlt rfl (sa_mu_b hw), fun z => nomatch z.2.1⟩
theorem sa_I2p {P : sa_P} {J : sa_J} {L : sa_L} {h h' : sa_H} {g x : Int32} (I : sa_I P J L h) (S : sa_S2p P h g h') : sa_I P J (sa_Lw L g x) h' ∧ sa_pend h' := by
  (obtain ⟨ns, kd, p1, p2, p3, ac⟩ := P); (obtain ⟨jc, ja, ji, jn, js, jt, tc, tj, tt⟩ := J); (obtain ⟨sv, ak, aj, gc, gk, gn, hs, hg, hn, ou⟩ := L); (obtain ⟨st, pl, ev, dn, us, is, vr, hd, tk, pn, pa, pi, un, wj⟩ := h)
  obtain ⟨rfl, hw, h2, S⟩ := S
  obtain ⟨⟨n1, n2, n3, n4, n5, n6, n7, n8⟩, i2, i3, i4, i5, i6, i7, i8, i9⟩ := I
  have i2' := i2 hw
  have ou0 : (-1 : Int32) = -1 := rfl
  rcases S with ⟨rfl, hg0, rfl⟩ | ⟨rfl, hp, S⟩
  · exact ⟨⟨⟨by omega, by omega, by omega, by omega, by omega, by omega, by omega, by omega⟩, fun e => absurd rfl e, i3, fun _ e => absurd rfl e, i5, i6, fun _ => ou0, ⟨1, by omega, by omega, rfl⟩, i9⟩, rfl, rfl, rfl⟩
  rcases S with ⟨hk, ⟨c, hc, e3⟩, hg0, rfl⟩ | ⟨hk, a, b, ha, hb, e1, e2, hg0, rfl⟩
  · exact ⟨⟨⟨by omega, by omega, by omega, by omega, by omega, by omega, by omega, by omega⟩, fun e => absurd rfl e, i3, fun _ e => absurd rfl e, fun _ _ => hp, i6, fun _ => ou0, ⟨1, by omega, by omega, rfl⟩, i9⟩, rfl, rfl, rfl⟩
  · exact ⟨⟨⟨by omega, by omega, by omega, by omega, by omega, by omega, by omega, by omega⟩, fun e => absurd rfl e, sa_upd_hd i3 (Or.inl rfl), fun _ e => absurd rfl e, fun _ _ => hp, i6, fun _ => ou0, ⟨1, by omega, by omega, rfl⟩, i9⟩, rfl, rfl, rfl⟩
theorem sa_I3 {P : sa_P} {J : sa_J} {L : sa_L} {h h' : sa_H} {q : Nat} {y : Int32} (hns : match P with | (ns, kd, p1, p2, p3, ac) => ns ≤ 20) (hq : match L with | (sv, ak, aj, gc, gk, gn, hs, hg, hn, ou) => q < gc) (I : sa_I P J L h) (S : sa_S3 P h q y h') : sa_I P J (sa_Lw L 1 (nI q)) h' ∧ sa_m h' < sa_m h ∧ ¬ sa_pend h' := by
  (obtain ⟨ns, kd, p1, p2, p3, ac⟩ := P); (obtain ⟨jc, ja, ji, jn, js, jt, tc, tj, tt⟩ := J); (obtain ⟨sv, ak, aj, gc, gk, gn, hs, hg, hn, ou⟩ := L); (obtain ⟨st, pl, ev, dn, us, is, vr, hd, tk, pn, pa, pi, un, wj⟩ := h)
  obtain ⟨rfl, hw, h2, rfl, hp, h6, hk, a, b, ha, hb, e1, e2, rfl⟩ := S
  obtain ⟨⟨n1, n2, n3, n4, n5, n6, n7, n8⟩, i2, i3, i4, i5, i6, i7, i8, i9⟩ := I
  have i2' := i2 hw
  have hns' : ns ≤ 20 := hns
  have hq' : q < gc := hq
  have ou0 : (-1 : Int32) = -1 := rfl
  refine ⟨⟨⟨by omega, by omega, by omega, by omega, by omega, by omega, by omega, by omega⟩, fun e => absurd rfl e, i3, fun _ e => absurd rfl e, fun _ => nofun, ?_, fun _ => ou0, ⟨1, by omega, by omega, rfl⟩, i9⟩, sa_mlt rfl (sa_mu_b hw), fun z => nomatch z.2.1⟩
  intro k hk
  by_cases e : k = q
  · subst e
    rw [pk_us]
    exact ⟨fun h => ⟨Or.inr rfl, ((i6 k hk).1 h).2⟩, fun h => absurd h (by omega)⟩
  · rw [pk_un e]
    exact i6 k hk
theorem sa_Io {P : sa_P} {J : sa_J} {L : sa_L} {h : sa_H} {o : Int32} (hst : sa_st h = 1) (hw : sa_wj h ≠ -1) (Jw : ¬ sa_jw P h) (I : sa_I P J L h) : sa_I P J (sa_Lo L o) h := by
  (obtain ⟨ns, kd, p1, p2, p3, ac⟩ := P); (obtain ⟨jc, ja, ji, jn, js, jt, tc, tj, tt⟩ := J); (obtain ⟨sv, ak, aj, gc, gk, gn, hs, hg, hn, ou⟩ := L); (obtain ⟨st, pl, ev, dn, us, is, vr, hd, tk, pn, pa, pi, un, wj⟩ := h)
  obtain ⟨⟨n1, n2, n3, n4, n5, n6, n7, n8⟩, i2, i3, i4, i5, i6, i7, i8, i9⟩ := I
  refine ⟨⟨by omega, by omega, by omega, by omega, by omega, by omega, by omega, by omega⟩, i2, i3, i4, i5, i6, ?_, i8, i9⟩
  rintro (e | e | e)
  · exact absurd hst e
  · exact absurd e hw
  · exact absurd e Jw
theorem sa_IJ {t : Nat} {P : sa_P} {J : sa_J} {L : sa_L} {h : sa_H} {q x : Int32} (I : sa_I P J L h) : sa_I P (sa_Jn t J q x) L h := by
  (obtain ⟨ns, kd, p1, p2, p3, ac⟩ := P); (obtain ⟨jc, ja, ji, jn, js, jt, tc, tj, tt⟩ := J); (obtain ⟨sv, ak, aj, gc, gk, gn, hs, hg, hn, ou⟩ := L); (obtain ⟨st, pl, ev, dn, us, is, vr, hd, tk, pn, pa, pi, un, wj⟩ := h)
  obtain ⟨⟨n1, n2, n3, n4, n5, n6, n7, n8⟩, i2, i3, i4, i5, i6, i7, i8, i9⟩ := I
  exact ⟨⟨by omega, by omega, by omega, by omega, by omega, by omega, by omega, by omega⟩, i2, fun k hk => (i3 k hk).imp id (fun ⟨j, hj, e⟩ => ⟨j, by omega, e⟩), fun a b => ⟨(i4 a b).1, fun z => (fun ⟨j, hj, e⟩ => ⟨j, by omega, e⟩) ((i4 a b).2 z)⟩, i5, i6, i7, i8, i9⟩
/-! what lasts grows -/
theorem sa_Exr {L : sa_L} : sa_Ex L L := by
  obtain ⟨sv, ak, aj, gc, gk, gn, hs, hg, hn, ou⟩ := L
  exact ⟨rfl, Nat.le_refl _, fun _ _ => rfl, Nat.le_refl _, fun _ _ => ⟨rfl, rfl⟩, Nat.le_refl _, fun _ _ => ⟨rfl, rfl⟩⟩
theorem sa_Ext {L M N : sa_L} (A : sa_Ex L M) (B : sa_Ex M N) : sa_Ex L N := by
  obtain ⟨sv, ak, aj, gc, gk, gn, hs, hg, hn, ou⟩ := L
  obtain ⟨sv', ak', aj', gc', gk', gn', hs', hg', hn', ou'⟩ := M
  obtain ⟨sv2, ak2, aj2, gc2, gk2, gn2, hs2, hg2, hn2, ou2⟩ := N
  obtain ⟨a1, a2, a3, a4, a5, a6, a7⟩ := A
  obtain ⟨b1, b2, b3, b4, b5, b6, b7⟩ := B
  exact ⟨b1.trans a1, Nat.le_trans a2 b2, fun k hk => (b3 k (by omega)).trans (a3 k hk), Nat.le_trans a4 b4, fun k hk => ⟨(b5 k (by omega)).1.trans (a5 k hk).1, (b5 k (by omega)).2.trans (a5 k hk).2⟩, Nat.le_trans a6 b6, fun k hk => ⟨(b7 k (by omega)).1.trans (a7 k hk).1, (b7 k (by omega)).2.trans (a7 k hk).2⟩⟩
theorem sa_ExW {L : sa_L} {g y : Int32} : sa_Ex L (sa_Lw L g y) := by
  obtain ⟨sv, ak, aj, gc, gk, gn, hs, hg, hn, ou⟩ := L
  exact ⟨rfl, Nat.le_refl _, fun _ _ => rfl, Nat.le_refl _, fun _ _ => ⟨rfl, rfl⟩, Nat.le_succ _, fun k hk => ⟨pk_un (by omega), pk_un (by omega)⟩⟩
theorem sa_ExO {L : sa_L} {o : Int32} : sa_Ex L (sa_Lo L o) := by
  obtain ⟨sv, ak, aj, gc, gk, gn, hs, hg, hn, ou⟩ := L
  exact ⟨rfl, Nat.le_refl _, fun _ _ => rfl, Nat.le_refl _, fun _ _ => ⟨rfl, rfl⟩, Nat.le_refl _, fun _ _ => ⟨rfl, rfl⟩⟩
theorem sa_ExA {L : sa_L} {j : Int32} : sa_Ex L (sa_La L j) := by
  obtain ⟨sv, ak, aj, gc, gk, gn, hs, hg, hn, ou⟩ := L
  exact ⟨rfl, Nat.le_succ _, fun k hk => pk_un (by omega), Nat.le_refl _, fun _ _ => ⟨rfl, rfl⟩, Nat.le_refl _, fun _ _ => ⟨rfl, rfl⟩⟩
theorem sa_StE {P : sa_P} {L L' : sa_L} {h h' : sa_H} (E : sa_Ex L L') (S : sa_St P L h h') : sa_St P L' h h' := by
  obtain ⟨sv, ak, aj, gc, gk, gn, hs, hg, hn, ou⟩ := L
  obtain ⟨sv', ak', aj', gc', gk', gn', hs', hg', hn', ou'⟩ := L'
  obtain ⟨a1, a2, a3, a4, a5, a6, a7⟩ := E
  rcases S with S | S | S | ⟨q, x, j, e1, e2, S⟩ | ⟨g, x, e1, e2, e3, S⟩ | ⟨q, y, e1, e2, e3, e4, e5, S⟩
  · exact Or.inl S
  · exact Or.inr (Or.inl S)
  · exact Or.inr (Or.inr (Or.inl S))
  · exact Or.inr (Or.inr (Or.inr (Or.inl ⟨q, x, j, by omega, (a3 _ e1).trans e2, S⟩)))
  · exact Or.inr (Or.inr (Or.inr (Or.inr (Or.inl ⟨g, x, by omega, (a7 _ e1).1.trans e2, (a7 _ e1).2.trans e3, S⟩))))
  · exact Or.inr (Or.inr (Or.inr (Or.inr (Or.inr ⟨q, y, by omega, (a7 _ e1).1.trans e2, (a7 _ e1).2.trans e3, by omega, (a5 _ e4).2.trans e5, S⟩))))
theorem sa_ReE {P : sa_P} {L L' : sa_L} (E : sa_Ex L L') : ∀ (n : Nat) (h h' : sa_H), sa_Re P L n h h' → sa_Re P L' n h h' := by
  intro n
  induction n with
  | zero =>
    intro h h' R
    exact R
  | succ n ih =>
    intro h h' R
    obtain ⟨h1, S, R⟩ := R
    exact ⟨h1, sa_StE E S, ih h1 h' R⟩
theorem sa_ReT {P : sa_P} {L : sa_L} : ∀ (n m : Nat) (h h' h2 : sa_H), sa_Re P L n h h' → sa_Re P L m h' h2 → sa_Re P L (m + n) h h2 := by
  intro n
  induction n with
  | zero =>
    intro m h h' h2 R R2
    cases R
    exact R2
  | succ n ih =>
    intro m h h' h2 R R2
    obtain ⟨h1, S, R⟩ := R
    exact ⟨h1, S, ih m h1 h' h2 R R2⟩
theorem sa_Re1 {P : sa_P} {L : sa_L} {h h' : sa_H} (S : sa_St P L h h') : sa_Re P L 1 h h' := ⟨h', S, rfl⟩
end
section
/-! a workflow goes on, in both, until it waits or ends -/
def sa_Ok (L : sa_L) : Prop := sa_ou L = -1 ∨ ∃ T, T < 2000000 ∧ sa_ou L = nI T
def sa_Ja (J : sa_J) : Prop := match J with | (jc, ja, ji, jn, js, jt, tc, tj, tt) => jc ≤ 90 ∧ ∀ j, j < jc → ∃ a, a < 4 ∧ ja j = nI a
/-- it waits, and for what isn't there yet; or it has ended -/
def sa_R (P : sa_P) (t : Nat) (J : sa_J) (L : sa_L) (h : sa_H) : Prop := sa_st h = 1 → sa_wj h ≠ -1 ∧ ((sa_jw P h ∧ ∃ j, j < sa_jc J ∧ sa_wj h = nI j ∧ sa_No J j) ∨ ((sa_tw P h ∨ (sa_gw P h ∧ sa_Sn P L h)) ∧ ∃ T, t < T ∧ T < 2000000 ∧ sa_ou L = nI T))
def sa_Jx (t : Nat) : Nat → sa_J → sa_J → Prop
  | 0, J, J' => J' = J
  | n + 1, J, J' => ∃ q x, (∃ a, a < 4 ∧ q = nI a) ∧ sa_Jx t n (sa_Jn t J q x) J'
def sa_FW (i : Nat) (P : sa_P) (t : Nat) (J : sa_J) (L : sa_L) (h : sa_H) (u : SX) (v : SY) : Prop :=
  (sa_WX P t J u ∧ sa_LX i L u ∧ sa_HX i h u) ∧ (sa_WY P t J v ∧ sa_HY i P t L h v) ∧ sa_I P J L h ∧ sa_Ok L
def sa_END (i : Nat) (P : sa_P) (t : Nat) (J : sa_J) (L : sa_L) (h : sa_H) (u : SX) (v : SY) : Prop :=
  ∃ k n J' L' h' u' v', (sa_Jx t n J J' ∧ sa_Ex L L' ∧ sa_ak L' = sa_ak L + n ∧ sa_Re P L' k h h') ∧ sa_FW i P t J' L' h' u' v' ∧ sa_R P t J' L' h' ∧ sa_FX i u u' ∧ sa_FY i v v'
    ∧ (∀ post : SX → Prop, post u' → sa_GX post i P h u) ∧ (∀ post : SY → Prop, post v' → sa_GY post i h v)
theorem sa_JxT {t : Nat} : ∀ (n m : Nat) (J J' J2 : sa_J), sa_Jx t n J J' → sa_Jx t m J' J2 → sa_Jx t (m + n) J J2 := by
  intro n
  induction n with
  | zero =>
    intro m J J' J2 A B
    cases A
    exact B
  | succ n ih =>
    intro m J J' J2 A B
    obtain ⟨q, x, hq, A⟩ := A
    exact ⟨q, x, hq, ih m _ J' J2 A B⟩
theorem sa_JaN {t : Nat} {J : sa_J} {q x : Int32} (h : sa_jc J < 90) (hq : ∃ a, a < 4 ∧ q = nI a) (A : sa_Ja J) : sa_Ja (sa_Jn t J q x) := by
  obtain ⟨jc, ja, ji, jn, js, jt, tc, tj, tt⟩ := J
  have h' : jc < 90 := h
  refine ⟨h', fun j hj => ?_⟩
  by_cases e : j = jc
  · subst e
    rw [pk_us]
    exact hq
  · rw [pk_un e]
    exact A.2 j (by omega)
theorem sa_jcN {t : Nat} {J : sa_J} {q x : Int32} : sa_jc (sa_Jn t J q x) = sa_jc J + 1 := by
  obtain ⟨jc, ja, ji, jn, js, jt, tc, tj, tt⟩ := J
  rfl
theorem sa_akA {L : sa_L} {j : Int32} : sa_ak (sa_La L j) = sa_ak L + 1 := by
  obtain ⟨sv, ak, aj, gc, gk, gn, hs, hg, hn, ou⟩ := L
  rfl
theorem sa_akW {L : sa_L} {g y : Int32} : sa_ak (sa_Lw L g y) = sa_ak L := by
  obtain ⟨sv, ak, aj, gc, gk, gn, hs, hg, hn, ou⟩ := L
  rfl
theorem sa_akO {L : sa_L} {o : Int32} : sa_ak (sa_Lo L o) = sa_ak L := by
  obtain ⟨sv, ak, aj, gc, gk, gn, hs, hg, hn, ou⟩ := L
  rfl
theorem sa_OkA {L : sa_L} {j : Int32} (h : sa_Ok L) : sa_Ok (sa_La L j) := by
  obtain ⟨sv, ak, aj, gc, gk, gn, hs, hg, hn, ou⟩ := L
  exact h
theorem sa_OkW {L : sa_L} {g y : Int32} : sa_Ok (sa_Lw L g y) := by
  obtain ⟨sv, ak, aj, gc, gk, gn, hs, hg, hn, ou⟩ := L
  exact Or.inl rfl
theorem sa_FYr {i : Nat} {v : SY} : sa_FY i v v := by
  intro i' _ _
  obtain ⟨yns, ynow, yjc, ytc, yac, ysp, yja, yji, yjn, yhw, ywn, ytj, ytt, yst, ypl, ydn, yak, ywt, yun, yrs, yvr, yhd, ypa, ypi, ypd, ygs, ygn, ygc⟩ := v
  exact ⟨rfl, rfl, rfl, rfl, rfl, rfl, rfl, fun _ _ => rfl, fun _ _ => rfl, fun _ _ => rfl, fun _ _ => rfl, rfl, fun _ _ => rfl, fun _ _ => rfl, rfl⟩
theorem sa_FYt {i : Nat} {v v1 v' : SY} (A : sa_FY i v v1) (B : sa_FY i v1 v') : sa_FY i v v' := by
  intro i' hi' hne
  have p := A i' hi' hne
  have q := B i' hi' hne
  obtain ⟨yns, ynow, yjc, ytc, yac, ysp, yja, yji, yjn, yhw, ywn, ytj, ytt, yst, ypl, ydn, yak, ywt, yun, yrs, yvr, yhd, ypa, ypi, ypd, ygs, ygn, ygc⟩ := v
  obtain ⟨yns', ynow', yjc', ytc', yac', ysp', yja', yji', yjn', yhw', ywn', ytj', ytt', yst', ypl', ydn', yak', ywt', yun', yrs', yvr', yhd', ypa', ypi', ypd', ygs', ygn', ygc'⟩ := v1
  obtain ⟨yns2, ynow2, yjc2, ytc2, yac2, ysp2, yja2, yji2, yjn2, yhw2, ywn2, ytj2, ytt2, yst2, ypl2, ydn2, yak2, ywt2, yun2, yrs2, yvr2, yhd2, ypa2, ypi2, ypd2, ygs2, ygn2, ygc2⟩ := v'
  obtain ⟨p1, p2, p3, p4, p5, p6, p7, p8, p9, p10, p11, p12, p13, p14, p15⟩ := p
  obtain ⟨q1, q2, q3, q4, q5, q6, q7, q8, q9, q10, q11, q12, q13, q14, q15⟩ := q
  exact ⟨q1.trans p1, q2.trans p2, q3.trans p3, q4.trans p4, q5.trans p5, q6.trans p6, q7.trans p7, fun k hk => (q8 k hk).trans (p8 k hk), fun k hk => (q9 k hk).trans (p9 k hk), fun k hk => (q10 k hk).trans (p10 k hk), fun k hk => (q11 k hk).trans (p11 k hk), q12.trans p12, fun k hk => (q13 k hk).trans (p13 k hk), fun k hk => (q14 k hk).trans (p14 k hk), q15.trans p15⟩
/-- one more step ahead -/
theorem sa_ENDs {i t : Nat} {P : sa_P} {J J1 : sa_J} {L L1 : sa_L} {h h1 : sa_H} {u u1 : SX} {v v1 : SY} (n1 : Nat) (hJ : sa_Jx t n1 J J1) (hE : sa_Ex L L1) (hA : sa_ak L1 = sa_ak L + n1) (hS : sa_St P L1 h h1) (F1 : sa_FX i u u1) (G1 : sa_FY i v v1)
    (X1 : ∀ post, sa_GX post i P h1 u1 → sa_GX post i P h u) (Y1 : ∀ post, sa_GY post i h1 v1 → sa_GY post i h v) (E : sa_END i P t J1 L1 h1 u1 v1) : sa_END i P t J L h u v := by
  obtain ⟨k, n, J', L', h', u', v', ⟨a1, a2, a3, a4⟩, b, c, d, e, f, g⟩ := E
  exact ⟨k + 1, n + n1, J', L', h', u', v', ⟨sa_JxT n1 n J J1 J' hJ a1, sa_Ext hE a2, by omega, sa_ReT 1 k h h1 h' (sa_Re1 (sa_StE a2 hS)) a4⟩, b, c, sa_FXt F1 d, sa_FYt G1 e, fun post hp => X1 post (f post hp), fun post hp => Y1 post (g post hp)⟩
theorem sa_least (M : Nat → Prop) : ∀ n, (∃ q, q < n ∧ M q ∧ ∀ k, k < q → ¬ M k) ∨ ∀ k, k < n → ¬ M k := by
  intro n
  induction n with
  | zero => exact Or.inr (fun k hk => absurd hk (by omega))
  | succ n ih =>
    rcases ih with ⟨q, h1, h2, h3⟩ | ih
    · exact Or.inl ⟨q, by omega, h2, h3⟩
    · by_cases e : M n
      · exact Or.inl ⟨n, by omega, e, ih⟩
      · exact Or.inr (fun k hk => by
          by_cases ek : k = n
          · subst ek
            exact e
          · exact ih k (by omega))
/-- there is always a step -/
theorem sa_prog {P : sa_P} {J : sa_J} {L : sa_L} {h : sa_H} (V : sa_VK P) (I : sa_I P J L h) (h1 : sa_st h = 1) (h2 : sa_un h = false) (h3 : sa_wj h = -1) :
    (∃ h', sa_S0 P h h') ∨ (∃ h', sa_SF P h h') ∨ (∃ q x, (∃ a, a < 4 ∧ q = nI a) ∧ ∀ j, j ≠ -1 → ∃ h', sa_S1 P h q x j h') := by
  obtain ⟨ns, kd, p1, p2, p3, ac⟩ := P
  obtain ⟨jc, ja, ji, jn, js, jt, tc, tj, tt⟩ := J
  obtain ⟨sv, ak, aj, gc, gk, gn, hs, hg, hn, ou⟩ := L
  obtain ⟨st, pl, ev, dn, us, is, vr, hd, tk, pn, pa, pi, un, wj⟩ := h
  obtain ⟨⟨n1, n2, n3, n4, n5, n6, n7, n8⟩, i2, i3, i4, i5, i6, i7, i8, i9⟩ := I
  have h1' : st = 1 := h1
  have h2' : un = false := h2
  have h3' : wj = -1 := h3
  subst h1' h2' h3'
  by_cases hp : ns ≤ pl
  · exact Or.inl ⟨_, rfl, rfl, rfl, Or.inl ⟨hp, rfl⟩⟩
  have hp' : pl < ns := by omega
  by_cases hq : dn = 200
  · exact Or.inl ⟨_, rfl, rfl, rfl, Or.inr (Or.inl ⟨hp', hq, rfl⟩)⟩
  have hq' : dn < 200 := by omega
  rcases V pl hp' with ⟨k, a, ha, e1⟩ | ⟨k | k | k, a, b, ha, hb, e1, e2⟩ | ⟨k, a, b, c, ha, hb, hc, e1, e2, e3⟩ | ⟨k, a, b, c, ha, hb, hc, e1, e2, e3⟩ | ⟨k, a, b, ha, hb, e1, e2⟩ | ⟨k, a, ha, e1⟩ | ⟨k, a, ha, e1⟩ | ⟨k, a, b, c, ha, hb, hc, e1, e2, e3⟩ | ⟨k, a, b, c, ha, hb, hc, e1, e2, e3⟩ | ⟨k, a, ha, e1⟩ | k
  · exact Or.inl ⟨_, rfl, rfl, rfl, Or.inr (Or.inr ⟨hp', hq', Or.inl ⟨k, a, ha, e1, rfl⟩⟩)⟩
  · exact Or.inl ⟨_, rfl, rfl, rfl, Or.inr (Or.inr ⟨hp', hq', Or.inr (Or.inl ⟨k, a, b, ha, hb, e1, e2, rfl⟩)⟩)⟩
  · exact Or.inl ⟨_, rfl, rfl, rfl, Or.inr (Or.inr ⟨hp', hq', Or.inr (Or.inr (Or.inl ⟨k, a, b, ha, hb, e1, e2, rfl⟩))⟩)⟩
  · exact Or.inl ⟨_, rfl, rfl, rfl, Or.inr (Or.inr ⟨hp', hq', Or.inr (Or.inr (Or.inr (Or.inr (Or.inr (Or.inr (Or.inr (Or.inr (Or.inl ⟨k, a, b, ha, hb, e1, e2, by omega, rfl⟩))))))))⟩)⟩
  · by_cases h30 : is = 30
    · exact Or.inl ⟨_, rfl, rfl, rfl, Or.inr (Or.inr ⟨hp', hq', Or.inr (Or.inr (Or.inr (Or.inl ⟨k, h30, ⟨a, b, ha, hb, e1, e2⟩, rfl⟩)))⟩)⟩
    · exact Or.inr (Or.inr ⟨p1 pl, vr b, ⟨a, ha, e1⟩, fun j hj => ⟨_, rfl, rfl, rfl, hp', hq', by omega, hj, Or.inl ⟨k, a, b, ha, hb, e1, e2, rfl, rfl, rfl⟩⟩⟩)
  · by_cases hh : hd c = -1
    · by_cases h30 : is = 30
      · exact Or.inl ⟨_, rfl, rfl, rfl, Or.inr (Or.inr ⟨hp', hq', Or.inr (Or.inr (Or.inr (Or.inr (Or.inr (Or.inl ⟨k, a, b, c, ha, hb, hc, e1, e2, e3, hh, h30, rfl⟩)))))⟩)⟩
      · exact Or.inr (Or.inr ⟨p1 pl, vr b, ⟨a, ha, e1⟩, fun j hj => ⟨_, rfl, rfl, rfl, hp', hq', by omega, hj, Or.inr ⟨k, a, b, c, ha, hb, hc, e1, e2, e3, rfl, rfl, hh, rfl⟩⟩⟩)
    · exact Or.inl ⟨_, rfl, rfl, rfl, Or.inr (Or.inr ⟨hp', hq', Or.inr (Or.inr (Or.inr (Or.inr (Or.inl ⟨k, a, b, c, ha, hb, hc, e1, e2, e3, hh, rfl⟩))))⟩)⟩
  · by_cases hh : hd a = -1
    · exact Or.inl ⟨_, rfl, rfl, rfl, Or.inr (Or.inr ⟨hp', hq', Or.inr (Or.inr (Or.inr (Or.inr (Or.inr (Or.inr (Or.inl ⟨k, a, b, ha, hb, e1, e2, hh, rfl⟩))))))⟩)⟩
    · exact Or.inl ⟨_, rfl, rfl, rfl, Or.inr (Or.inr ⟨hp', hq', Or.inr (Or.inr (Or.inr (Or.inr (Or.inr (Or.inr (Or.inr (Or.inl ⟨k, a, b, ha, hb, e1, e2, hh, rfl⟩)))))))⟩)⟩
  · by_cases hz : vr a ≤ 0
    · exact Or.inl ⟨_, rfl, rfl, rfl, Or.inr (Or.inr ⟨hp', hq', Or.inr (Or.inr (Or.inr (Or.inr (Or.inr (Or.inr (Or.inr (Or.inr (Or.inr (Or.inl ⟨k, a, ha, e1, hz, rfl⟩)))))))))⟩)⟩
    · exact Or.inl ⟨_, rfl, rfl, rfl, Or.inr (Or.inr ⟨hp', hq', Or.inr (Or.inr (Or.inr (Or.inr (Or.inr (Or.inr (Or.inr (Or.inr (Or.inr (Or.inr (Or.inl ⟨k, a, ha, e1, hz, rfl⟩))))))))))⟩)⟩
  · exact Or.inl ⟨_, rfl, rfl, rfl, Or.inr (Or.inr ⟨hp', hq', Or.inr (Or.inr (Or.inr (Or.inr (Or.inr (Or.inr (Or.inr (Or.inr (Or.inr (Or.inr (Or.inr (Or.inl ⟨k, a, ha, e1, rfl⟩)))))))))))⟩)⟩
  · by_cases hz : vr b ≤ vr a
    · exact Or.inl ⟨_, rfl, rfl, rfl, Or.inr (Or.inr ⟨hp', hq', Or.inr (Or.inr (Or.inr (Or.inr (Or.inr (Or.inr (Or.inr (Or.inr (Or.inr (Or.inr (Or.inr (Or.inr (Or.inl ⟨k, a, b, c, ha, hb, hc, e1, e2, e3, hz, rfl⟩))))))))))))⟩)⟩
    · exact Or.inl ⟨_, rfl, rfl, rfl, Or.inr (Or.inr ⟨hp', hq', Or.inr (Or.inr (Or.inr (Or.inr (Or.inr (Or.inr (Or.inr (Or.inr (Or.inr (Or.inr (Or.inr (Or.inr (Or.inr (Or.inl ⟨k, a, b, c, ha, hb, hc, e1, e2, e3, hz, rfl⟩)))))))))))))⟩)⟩
  · exact Or.inl ⟨_, rfl, rfl, rfl, Or.inr (Or.inr ⟨hp', hq', Or.inr (Or.inr (Or.inr (Or.inr (Or.inr (Or.inr (Or.inr (Or.inr (Or.inr (Or.inr (Or.inr (Or.inr (Or.inr (Or.inr (Or.inl ⟨k, a, b, ha, hb, e1, e2, rfl⟩))))))))))))))⟩)⟩
  · exact Or.inl ⟨_, rfl, rfl, rfl, Or.inr (Or.inr ⟨hp', hq', Or.inr (Or.inr (Or.inr (Or.inr (Or.inr (Or.inr (Or.inr (Or.inr (Or.inr (Or.inr (Or.inr (Or.inr (Or.inr (Or.inr (Or.inr ⟨k, a, ha, e1, rfl⟩))))))))))))))⟩)⟩
  · exact Or.inr (Or.inl ⟨_, rfl, rfl, rfl, hp', hq', k, rfl⟩)
/-- a job that is waited for is over -/
theorem sa_over {P : sa_P} {J : sa_J} {L : sa_L} {h : sa_H} {g x : Int32} (V : sa_VK P) (I : sa_I P J L h) (h1 : sa_st h = 1) (h3 : sa_wj h ≠ -1) (Jw : sa_jw P h) (hgg : g = 0 ∨ g = 1) :
    (∃ h', sa_S2 P h g x h') ∨ (∃ h', sa_S2p P h g h') := by
  obtain ⟨ns, kd, p1, p2, p3, ac⟩ := P
  obtain ⟨jc, ja, ji, jn, js, jt, tc, tj, tt⟩ := J
  obtain ⟨sv, ak, aj, gc, gk, gn, hs, hg, hn, ou⟩ := L
  obtain ⟨st, pl, ev, dn, us, is, vr, hd, tk, pn, pa, pi, un, wj⟩ := h
  obtain ⟨⟨n1, n2, n3, n4, n5, n6, n7, n8⟩, i2, i3, i4, i5, i6, i7, i8, i9⟩ := I
  have h1' : st = 1 := h1
  subst h1'
  have i2' := i2 h3
  rcases Jw with rfl | ⟨rfl, hp, hk | hk⟩
  · rcases hgg with rfl | rfl
    · exact Or.inl ⟨_, rfl, h3, by omega, Or.inl ⟨rfl, rfl, rfl⟩⟩
    · exact Or.inr ⟨_, rfl, h3, by omega, Or.inl ⟨rfl, by decide, rfl⟩⟩
  · obtain ⟨c, hc, e3⟩ : ∃ c, c < 4 ∧ p3 pl = nI c := by
      rcases V pl hp with ⟨k, _⟩ | ⟨k | k | k, _⟩ | ⟨k, a, b, c, ha, hb, hc, e1, e2, e3⟩ | ⟨k, _⟩ | ⟨k, _⟩ | ⟨k, _⟩ | ⟨k, _⟩ | ⟨k, _⟩ | ⟨k, _⟩ | ⟨k, _⟩ | k
      all_goals first | exact ⟨c, hc, e3⟩ | exact absurd (hk.symm.trans k) (by decide)
    rcases hgg with rfl | rfl
    · exact Or.inr ⟨_, rfl, h3, by omega, Or.inr ⟨rfl, hp, Or.inl ⟨hk, ⟨c, hc, e3⟩, by decide, rfl⟩⟩⟩
    · exact Or.inl ⟨_, rfl, h3, by omega, Or.inr ⟨rfl, hp, Or.inl ⟨hk, c, hc, e3, rfl, rfl⟩⟩⟩
  · obtain ⟨a, b, ha, hb, e1, e2⟩ : ∃ a b, a < 3 ∧ b < 4 ∧ p1 pl = nI a ∧ p2 pl = nI b := by
      rcases V pl hp with ⟨k, _⟩ | ⟨k | k | k, _⟩ | ⟨k, _⟩ | ⟨k, _⟩ | ⟨k, a, b, ha, hb, e1, e2⟩ | ⟨k, _⟩ | ⟨k, _⟩ | ⟨k, _⟩ | ⟨k, _⟩ | ⟨k, _⟩ | k
      all_goals first | exact ⟨a, b, ha, hb, e1, e2⟩ | exact absurd (hk.symm.trans k) (by decide)
    rcases hgg with rfl | rfl
    · exact Or.inr ⟨_, rfl, h3, by omega, Or.inr ⟨rfl, hp, Or.inr ⟨hk, a, b, ha, hb, e1, e2, by decide, rfl⟩⟩⟩
    · exact Or.inl ⟨_, rfl, h3, by omega, Or.inr ⟨rfl, hp, Or.inr (Or.inl ⟨hk, a, b, ha, hb, e1, e2, rfl, rfl⟩)⟩⟩
/-- time, or a signal -/
theorem sa_tover {P : sa_P} {J : sa_J} {L : sa_L} {h : sa_H} (V : sa_VK P) (I : sa_I P J L h) (h1 : sa_st h = 1) (h3 : sa_wj h ≠ -1) (Jw : sa_tw P h ∨ sa_gw P h) : ∃ h', sa_S2 P h 0 (-1) h' := by
  obtain ⟨ns, kd, p1, p2, p3, ac⟩ := P
  obtain ⟨jc, ja, ji, jn, js, jt, tc, tj, tt⟩ := J
  obtain ⟨sv, ak, aj, gc, gk, gn, hs, hg, hn, ou⟩ := L
  obtain ⟨st, pl, ev, dn, us, is, vr, hd, tk, pn, pa, pi, un, wj⟩ := h
  obtain ⟨⟨n1, n2, n3, n4, n5, n6, n7, n8⟩, i2, i3, i4, i5, i6, i7, i8, i9⟩ := I
  have h1' : st = 1 := h1
  subst h1'
  have i2' := i2 h3
  rcases Jw with ⟨rfl, hp, hk⟩ | ⟨rfl, hp, hk⟩
  · obtain ⟨a, ha, e1⟩ : ∃ a, a < 4 ∧ p1 pl = nI a := by
      rcases V pl hp with ⟨k, _⟩ | ⟨k | k | k, _⟩ | ⟨k, _⟩ | ⟨k, _⟩ | ⟨k, _⟩ | ⟨k, a, ha, e1⟩ | ⟨k, _⟩ | ⟨k, _⟩ | ⟨k, _⟩ | ⟨k, _⟩ | k
      all_goals first | exact ⟨a, ha, e1⟩ | exact absurd (hk.symm.trans k) (by decide)
    exact ⟨_, rfl, h3, by omega, Or.inr ⟨rfl, hp, Or.inr (Or.inr (Or.inl ⟨hk, a, ha, e1, rfl⟩))⟩⟩
  · obtain ⟨a, b, ha, hb, e1, e2⟩ : ∃ a b, a < 2 ∧ b < 4 ∧ p1 pl = nI a ∧ p2 pl = nI b := by
      rcases V pl hp with ⟨k, _⟩ | ⟨k | k | k, _⟩ | ⟨k, _⟩ | ⟨k, _⟩ | ⟨k, _⟩ | ⟨k, _⟩ | ⟨k, _⟩ | ⟨k, _⟩ | ⟨k, a, b, c, ha, hb, hc, e1, e2, e3⟩ | ⟨k, _⟩ | k
      all_goals first | exact ⟨a, b, ha, hb, e1, e2⟩ | exact absurd (hk.symm.trans k) (by decide)
    exact ⟨_, rfl, h3, by omega, Or.inr ⟨rfl, hp, Or.inr (Or.inr (Or.inr ⟨hk, a, b, ha, hb, e1, e2, by decide, rfl⟩))⟩⟩
theorem sa_gover {P : sa_P} {J : sa_J} {L : sa_L} {h : sa_H} {q : Nat} {y : Int32} (V : sa_VK P) (I : sa_I P J L h) (h1 : sa_st h = 1) (h3 : sa_wj h ≠ -1) (Jw : sa_gw P h) (hq : q < 6) : ∃ h', sa_S3 P h q y h' := by
  obtain ⟨ns, kd, p1, p2, p3, ac⟩ := P
  obtain ⟨jc, ja, ji, jn, js, jt, tc, tj, tt⟩ := J
  obtain ⟨sv, ak, aj, gc, gk, gn, hs, hg, hn, ou⟩ := L
  obtain ⟨st, pl, ev, dn, us, is, vr, hd, tk, pn, pa, pi, un, wj⟩ := h
  obtain ⟨⟨n1, n2, n3, n4, n5, n6, n7, n8⟩, i2, i3, i4, i5, i6, i7, i8, i9⟩ := I
  have h1' : st = 1 := h1
  subst h1'
  have i2' := i2 h3
  obtain ⟨rfl, hp, hk⟩ := Jw
  obtain ⟨a, b, ha, hb, e1, e2⟩ : ∃ a b, a < 2 ∧ b < 4 ∧ p1 pl = nI a ∧ p2 pl = nI b := by
    rcases V pl hp with ⟨k, _⟩ | ⟨k | k | k, _⟩ | ⟨k, _⟩ | ⟨k, _⟩ | ⟨k, _⟩ | ⟨k, _⟩ | ⟨k, _⟩ | ⟨k, _⟩ | ⟨k, a, b, c, ha, hb, hc, e1, e2, e3⟩ | ⟨k, _⟩ | k
    all_goals first | exact ⟨a, b, ha, hb, e1, e2⟩ | exact absurd (hk.symm.trans k) (by decide)
  exact ⟨_, rfl, h3, by omega, rfl, hp, hq, hk, a, b, ha, hb, e1, e2, rfl⟩
end
section
/-! the pile; the whole run of a workflow -/
theorem sa_WXn {P : sa_P} {t : Nat} {J : sa_J} {u : SX} (W : sa_WX P t J u) : match P with | (ns, kd, p1, p2, p3, ac) => ns ≤ 20 := by
  obtain ⟨ns, kd, p1, p2, p3, ac⟩ := P
  obtain ⟨jc, ja, ji, jn, js, jt, tc, tj, tt⟩ := J
  obtain ⟨xns, xnow, xjc, xtc, xhe, xkd, xp1, xp2, xp3, xac, xja, xji, xjn, xjs, xjt, xtj, xtt, xss, xsv, xak, xaj, xgc, xgk, xgn, xhs, xhg, xhn, xou, xah, xst, xpl, xft, xev, xdn, xus, xis, xvr, xhd, xtk, xpd, xpa, xpi, xun, xwj⟩ := u
  exact W.1.1
theorem sa_WXt {P : sa_P} {t : Nat} {J : sa_J} {u : SX} (W : sa_WX P t J u) : t < 1000000 := by
  obtain ⟨ns, kd, p1, p2, p3, ac⟩ := P
  obtain ⟨jc, ja, ji, jn, js, jt, tc, tj, tt⟩ := J
  obtain ⟨xns, xnow, xjc, xtc, xhe, xkd, xp1, xp2, xp3, xac, xja, xji, xjn, xjs, xjt, xtj, xtt, xss, xsv, xak, xaj, xgc, xgk, xgn, xhs, xhg, xhn, xou, xah, xst, xpl, xft, xev, xdn, xus, xis, xvr, xhd, xtk, xpd, xpa, xpi, xun, xwj⟩ := u
  exact W.1.2.1
theorem sa_Ia {P : sa_P} {J : sa_J} {L : sa_L} {h : sa_H} (I : sa_I P J L h) : sa_us h = sa_hs L ∧ sa_is h = sa_ak L ∧ sa_us h < 240 ∧ sa_ak L ≤ 30 := by
  obtain ⟨ns, kd, p1, p2, p3, ac⟩ := P
  obtain ⟨jc, ja, ji, jn, js, jt, tc, tj, tt⟩ := J
  obtain ⟨sv, ak, aj, gc, gk, gn, hs, hg, hn, ou⟩ := L
  obtain ⟨st, pl, ev, dn, us, is, vr, hd, tk, pn, pa, pi, un, wj⟩ := h
  obtain ⟨⟨n1, n2, n3, n4, n5, n6, n7, n8⟩, _⟩ := I
  have e2 : us < 240 := by omega
  have e3 : ak ≤ 30 := by omega
  exact ⟨n1, n2, e2, e3⟩
theorem sa_Iw {P : sa_P} {J : sa_J} {L : sa_L} {h : sa_H} (hns : match P with | (ns, kd, p1, p2, p3, ac) => ns ≤ 20) (I : sa_I P J L h) (h1 : sa_st h = 1) (h2 : sa_wj h ≠ -1) : sa_Wt P h ∧ sa_pl h < 20 ∧ (sa_jw P h → sa_ou L = -1 ∧ ∃ j, j < sa_jc J ∧ sa_wj h = nI j) := by
  obtain ⟨ns, kd, p1, p2, p3, ac⟩ := P
  obtain ⟨jc, ja, ji, jn, js, jt, tc, tj, tt⟩ := J
  obtain ⟨sv, ak, aj, gc, gk, gn, hs, hg, hn, ou⟩ := L
  obtain ⟨st, pl, ev, dn, us, is, vr, hd, tk, pn, pa, pi, un, wj⟩ := h
  obtain ⟨_, i2, i3, i4, i5, i6, i7, i8, i9⟩ := I
  have hns' : ns ≤ 20 := hns
  refine ⟨(i4 h1 h2).1, ?_, fun z => ⟨i7 (Or.inr (Or.inr z)), (i4 h1 h2).2 z⟩⟩
  rcases (i4 h1 h2).1 with e | ⟨_, hp, _⟩
  · exact Nat.lt_of_lt_of_le (i5 h1 e) hns'
  · exact Nat.lt_of_lt_of_le hp hns'
theorem sa_Ih {P : sa_P} {J : sa_J} {L : sa_L} {h : sa_H} (I : sa_I P J L h) (A : sa_Ja J) : sa_Hd h := by
  obtain ⟨ns, kd, p1, p2, p3, ac⟩ := P
  obtain ⟨jc, ja, ji, jn, js, jt, tc, tj, tt⟩ := J
  obtain ⟨sv, ak, aj, gc, gk, gn, hs, hg, hn, ou⟩ := L
  obtain ⟨st, pl, ev, dn, us, is, vr, hd, tk, pn, pa, pi, un, wj⟩ := h
  obtain ⟨_, i2, i3, i4, i5, i6, i7, i8, i9⟩ := I
  exact fun k hk => (i3 k hk).imp id (fun ⟨j, hj, e⟩ => ⟨j, Nat.lt_of_lt_of_le hj A.1, e⟩)
theorem sa_Iu {P : sa_P} {J : sa_J} {L : sa_L} {h : sa_H} (I : sa_I P J L h) (h2 : sa_wj h = -1) : sa_ou L = -1 := by
  obtain ⟨ns, kd, p1, p2, p3, ac⟩ := P
  obtain ⟨jc, ja, ji, jn, js, jt, tc, tj, tt⟩ := J
  obtain ⟨sv, ak, aj, gc, gk, gn, hs, hg, hn, ou⟩ := L
  obtain ⟨st, pl, ev, dn, us, is, vr, hd, tk, pn, pa, pi, un, wj⟩ := h
  obtain ⟨_, i2, i3, i4, i5, i6, i7, i8, i9⟩ := I
  exact i7 (Or.inr (Or.inl h2))
theorem sa_pp {P : sa_P} {J : sa_J} {L : sa_L} {h : sa_H} (I : sa_I P J L h) (p : sa_pend h) :
    (∃ h', sa_SE h h') ∨ (sa_ak L < 30 ∧ ∃ q x, (∃ a, a < 4 ∧ q = nI a) ∧ ∀ j, j ≠ -1 → ∃ h', sa_S1u h q x j h') := by
  obtain ⟨ns, kd, p1, p2, p3, ac⟩ := P
  obtain ⟨jc, ja, ji, jn, js, jt, tc, tj, tt⟩ := J
  obtain ⟨sv, ak, aj, gc, gk, gn, hs, hg, hn, ou⟩ := L
  obtain ⟨st, pl, ev, dn, us, is, vr, hd, tk, pn, pa, pi, un, wj⟩ := h
  obtain ⟨⟨n1, n2, n3, n4, n5, n6, n7, n8⟩, i2, i3, i4, i5, i6, i7, i8, i9⟩ := I
  obtain ⟨p1, p2, p3⟩ := p
  have p1' : st = 1 := p1
  have p2' : un = true := p2
  have p3' : wj = -1 := p3
  subst p1' p2' p3'
  by_cases h0 : pn = 0
  · exact Or.inl ⟨_, rfl, rfl, rfl, Or.inl ⟨h0, rfl⟩⟩
  by_cases h30 : is = 30
  · exact Or.inl ⟨_, rfl, rfl, rfl, Or.inr ⟨by omega, by omega, h30, rfl⟩⟩
  · have e : ak < 30 := by omega
    exact Or.inr ⟨e, pa (pn - 1), pi (pn - 1), i9 (pn - 1) (by omega), fun j hj => ⟨_, rfl, rfl, rfl, by omega, by omega, by omega, hj, rfl, rfl, rfl⟩⟩
theorem sa_NoN {t : Nat} {J : sa_J} {q x : Int32} (h : sa_jc J < 90) : sa_No (sa_Jn t J q x) (sa_jc J) := by
  obtain ⟨jc, ja, ji, jn, js, jt, tc, tj, tt⟩ := J
  refine ⟨h, ?_⟩
  show upd js jc 0 jc < 2
  rw [pk_us]
  decide
theorem sa_StA {P : sa_P} {L : sa_L} {h h' : sa_H} {q x j : Int32} (e : sa_is h = sa_ak L) (S : sa_S1 P h q x j h' ∨ sa_S1u h q x j h') : sa_St P (sa_La L j) h h' := by
  obtain ⟨sv, ak, aj, gc, gk, gn, hs, hg, hn, ou⟩ := L
  have e' : sa_is h = ak := e
  refine Or.inr (Or.inr (Or.inr (Or.inl ⟨q, x, j, by omega, ?_, S⟩)))
  rw [e']
  exact pk_us
theorem sa_StW {P : sa_P} {L : sa_L} {h h' : sa_H} {g x : Int32} (e : sa_us h = sa_hs L) (S : sa_S2 P h g x h' ∨ sa_S2p P h g h') : sa_St P (sa_Lw L g x) h h' := by
  obtain ⟨sv, ak, aj, gc, gk, gn, hs, hg, hn, ou⟩ := L
  have e' : sa_us h = hs := e
  refine Or.inr (Or.inr (Or.inr (Or.inr (Or.inl ⟨g, x, by omega, ?_, ?_, S⟩))))
  · rw [e']
    exact pk_us
  · rw [e']
    exact pk_us
theorem sa_StG {P : sa_P} {L : sa_L} {h h' : sa_H} {q : Nat} {y : Int32} (e : sa_us h = sa_hs L) (N : sa_Sg P L h q y) (S : sa_S3 P h q y h') : sa_St P (sa_Lw L 1 (nI q)) h h' := by
  obtain ⟨ns, kd, p1, p2, p3, ac⟩ := P
  obtain ⟨sv, ak, aj, gc, gk, gn, hs, hg, hn, ou⟩ := L
  obtain ⟨st, pl, ev, dn, us, is, vr, hd, tk, pn, pa, pi, un, wj⟩ := h
  have e' : us = hs := e
  subst e'
  obtain ⟨n1, n2, n3, n4⟩ := N
  exact Or.inr (Or.inr (Or.inr (Or.inr (Or.inr ⟨q, y, Nat.lt_succ_self _, pk_us, pk_us, n1, n4, S⟩))))
/-- the pile -/
theorem sa_pendL {i t : Nat} {P : sa_P} {J : sa_J} {L : sa_L} {h : sa_H} {u : SX} {v : SY} (hi : i < 3) (F : sa_FW i P t J L h u v) (p : sa_pend h) (A : sa_Ja J) (hj : sa_jc J + (30 - sa_ak L) ≤ 90) :
    ∃ k n J' L' h' u' v', (sa_Jx t n J J' ∧ sa_Ex L L' ∧ sa_ak L' = sa_ak L + n ∧ sa_Re P L' k h h') ∧ sa_FW i P t J' L' h' u' v' ∧ sa_R P t J' L' h' ∧ sa_FX i u u' ∧ sa_FY i v v'
      ∧ (∀ post : SX → Prop, post u' → sa_GX post i P h u) ∧ (∀ R : SY → Prop, R v' → wpY_takeBack R v (nI i)) ∧ (sa_st h' = 1 → sa_wj h' ≠ -1 ∧ ∀ Q : Int32 → SY → Prop, Q 0 v' → wpY_goOn Q v' (nI i)) := by
  obtain ⟨⟨W, X, H⟩, ⟨W2, H2⟩, I, O⟩ := F
  obtain ⟨a1, a2, a3, a4⟩ := sa_Ia I
  rcases sa_pp I p with ⟨h', S⟩ | ⟨h30, q, x, hq, S⟩
  · obtain ⟨I', st'⟩ := sa_IE I S
    obtain ⟨u', x1, x2, x3, x4, x5⟩ := sa_XSE hi W X H S
    obtain ⟨v', y1, y2, y3, y4⟩ := sa_TBe hi W2 H2 S
    have hS : sa_St P L h h' := by
      obtain ⟨sv, ak, aj, gc, gk, gn, hs, hg, hn, ou⟩ := L
      exact Or.inr (Or.inr (Or.inl S))
    exact ⟨1, 0, J, L, h', u', v', ⟨rfl, sa_Exr, rfl, sa_Re1 hS⟩, ⟨⟨x1, x2, x3⟩, ⟨y1, y2⟩, I', O⟩, fun e => absurd e st', x4, y3, fun post hp => x5 post ⟨fun _ => hp, fun e => absurd e st', fun e => absurd e st'⟩, y4, fun e => absurd e st'⟩
  · have hj' : sa_jc J < 90 := by omega
    obtain ⟨h', S⟩ := S (nI (sa_jc J)) (sa_ne_m1 (by omega))
    obtain ⟨I', s1, s2, s3, s4⟩ := sa_I1u (t := t) I S
    obtain ⟨u', x1, x2, x3, x4, x5⟩ := sa_XS1l hi a2 hj' W X H (Or.inr S)
    obtain ⟨v', y1, y2, y3, y4⟩ := sa_TBa hi hj' W2 H2 S
    obtain ⟨a1', a2', a3', a4'⟩ := sa_Ia I'
    have w' := sa_Iw (sa_WXn W) I' s1 s3
    have jl : sa_jc J < sa_jc (sa_Jn t J q x) := by
      rw [sa_jcN]
      omega
    have No := sa_NoN (t := t) (q := q) (x := x) hj'
    exact ⟨1, 1, sa_Jn t J q x, sa_La L (nI (sa_jc J)), h', u', v', ⟨⟨q, x, hq, rfl⟩, sa_ExA, sa_akA, sa_Re1 (sa_StA a2 (Or.inr S))⟩, ⟨⟨x1, x2, x3⟩, ⟨y1, y2⟩, I', sa_OkA O⟩, fun _ => ⟨s3, Or.inl ⟨s4, sa_jc J, jl, s2, No⟩⟩, x4, y3,
      fun post hp => x5 post (sa_XR hi a1' s1 s3 s2 No s4 x1 x2 x3 post hp), y4, fun _ => ⟨s3, sa_YR hi s1 s3 s2 w'.2.1 jl No s4 y1 y2⟩⟩
/-- from a step to the pile, the rest -/
theorem sa_ENDp {i t : Nat} {P : sa_P} {J : sa_J} {L L1 : sa_L} {h h1 : sa_H} {u u1 : SX} {v v1 : SY} (hi : i < 3) (hE : sa_Ex L L1) (hA : sa_ak L1 = sa_ak L) (hS : sa_St P L1 h h1) (F1 : sa_FX i u u1) (G1 : sa_FY i v v1)
    (X1 : ∀ post, sa_GX post i P h1 u1 → sa_GX post i P h u) (F : sa_FW i P t J L1 h1 u1 v1) (p : sa_pend h1) (A : sa_Ja J) (hj : sa_jc J + (30 - sa_ak L) ≤ 90)
    (Y1 : ∀ v2, (match v2 with | (yns, ynow, yjc, ytc, yac, ysp, yja, yji, yjn, yhw, ywn, ytj, ytt, yst, ypl, ydn, yak, ywt, yun, yrs, yvr, yhd, ypa, ypi, ypd, ygs, ygn, ygc) => (ywt i = 0 → ¬ yst i = 1) ∧ (yst i = 1 → ¬ ywt i = 0 ∧ ∀ Q : Int32 → SY → Prop, Q 0 (yns, ynow, yjc, ytc, yac, ysp, yja, yji, yjn, yhw, ywn, ytj, ytt, yst, ypl, ydn, yak, ywt, yun, yrs, yvr, yhd, ypa, ypi, ypd, ygs, ygn, ygc) → wpY_goOn Q (yns, ynow, yjc, ytc, yac, ysp, yja, yji, yjn, yhw, ywn, ytj, ytt, yst, ypl, ydn, yak, ywt, yun, yrs, yvr, yhd, ypa, ypi, ypd, ygs, ygn, ygc) (nI i))) → (∀ R : SY → Prop, R v2 → wpY_takeBack R v1 (nI i)) → ∀ post : SY → Prop, post v2 → sa_GY post i h v) : sa_END i P t J L h u v := by
  obtain ⟨k, n, J', L', h', u', v', ⟨a1, a2, a3, a4⟩, b, c, d, e, f, g, gg⟩ := sa_pendL hi F p A (by omega)
  refine ⟨k + 1, n, J', L', h', u', v', ⟨a1, sa_Ext hE a2, by omega, sa_ReT 1 k h h1 h' (sa_Re1 (sa_StE a2 hS)) a4⟩, b, c, sa_FXt F1 d, sa_FYt G1 e, fun post hp => X1 post (f post hp), Y1 v' ?_ g⟩
  have Hw := sa_HYw b.2.1.2
  obtain ⟨yns, ynow, yjc, ytc, yac, ysp, yja, yji, yjn, yhw, ywn, ytj, ytt, yst, ypl, ydn, yak, ywt, yun, yrs, yvr, yhd, ypa, ypi, ypd, ygs, ygn, ygc⟩ := v'
  obtain ⟨x1, x2⟩ := Hw
  refine ⟨fun e0 e1 => ?_, fun e1 => ?_⟩
  · have es : sa_st h' = 1 := x1.symm.trans e1
    exact (x2 es).2 (gg es).1 e0
  · have es : sa_st h' = 1 := x1.symm.trans e1
    exact ⟨(x2 es).2 (gg es).1, (gg es).2⟩
theorem sa_twC {P : sa_P} {h : sa_H} (hW : sa_Wt P h) (T : sa_tw P h) : ∃ c, (1 ≤ c ∧ c ≤ 50) ∧ (match P, h with | (ns, kd, p1, p2, p3, ac), (st, pl, ev, dn, us, is, vr, hd, tk, pn, pa, pi, un, wj) => ∃ a, a < 4 ∧ p1 pl = nI a ∧ ¬ vr a ≤ 0 ∧ sa_cl (vr a) = nI c) := by
  obtain ⟨ns, kd, p1, p2, p3, ac⟩ := P
  obtain ⟨st, pl, ev, dn, us, is, vr, hd, tk, pn, pa, pi, un, wj⟩ := h
  obtain ⟨rfl, hp, hk⟩ := T
  rcases hW with e | ⟨_, _, e | e | ⟨_, _, a, ha, e1, hz⟩ | ⟨e, _⟩⟩
  · cases e
  · exact absurd (hk.symm.trans e) (by decide)
  · exact absurd (hk.symm.trans e) (by decide)
  · obtain ⟨_, c, c1, c2, c3⟩ := sa_cl_pos hz
    exact ⟨c, ⟨c1, c2⟩, a, ha, e1, hz, c3⟩
  · exact absurd (hk.symm.trans e) (by decide)
theorem sa_gwC {P : sa_P} {h : sa_H} (V : sa_VK P) (T : sa_gw P h) : ∃ c, (1 ≤ c ∧ c ≤ 50) ∧ (match P, h with | (ns, kd, p1, p2, p3, ac), (st, pl, ev, dn, us, is, vr, hd, tk, pn, pa, pi, un, wj) => p3 pl = nI c) := by
  obtain ⟨ns, kd, p1, p2, p3, ac⟩ := P
  obtain ⟨st, pl, ev, dn, us, is, vr, hd, tk, pn, pa, pi, un, wj⟩ := h
  obtain ⟨rfl, hp, hk⟩ := T
  rcases V pl hp with ⟨k, _⟩ | ⟨k | k | k, _⟩ | ⟨k, _⟩ | ⟨k, _⟩ | ⟨k, _⟩ | ⟨k, _⟩ | ⟨k, _⟩ | ⟨k, _⟩ | ⟨k, a, b, c, ha, hb, hc, e1, e2, e3⟩ | ⟨k, _⟩ | k
  all_goals first | exact ⟨c, hc, e3⟩ | exact absurd (hk.symm.trans k) (by decide)
theorem sa_Wcase {P : sa_P} {h : sa_H} (hW : sa_Wt P h) : (sa_jw P h) ∨ (sa_tw P h ∧ ¬ sa_jw P h) ∨ (sa_gw P h ∧ ¬ sa_jw P h) := by
  obtain ⟨ns, kd, p1, p2, p3, ac⟩ := P
  obtain ⟨st, pl, ev, dn, us, is, vr, hd, tk, pn, pa, pi, un, wj⟩ := h
  rcases hW with e | ⟨e, hp, k | k | ⟨k, _⟩ | ⟨k, _⟩⟩
  · exact Or.inl (Or.inl e)
  · exact Or.inl (Or.inr ⟨e, hp, Or.inl k⟩)
  · exact Or.inl (Or.inr ⟨e, hp, Or.inr k⟩)
  · refine Or.inr (Or.inl ⟨⟨e, hp, k⟩, ?_⟩)
    rintro (z | ⟨_, _, z | z⟩)
    · rw [e] at z
      cases z
    · exact absurd (k.symm.trans z) (by decide)
    · exact absurd (k.symm.trans z) (by decide)
  · refine Or.inr (Or.inr ⟨⟨e, hp, k⟩, ?_⟩)
    rintro (z | ⟨_, _, z | z⟩)
    · rw [e] at z
      cases z
    · exact absurd (k.symm.trans z) (by decide)
    · exact absurd (k.symm.trans z) (by decide)
theorem sa_sig (P : sa_P) (L : sa_L) (h : sa_H) : (∃ q y, sa_Sg P L h q y) ∨ sa_Sn P L h := by
  obtain ⟨ns, kd, p1, p2, p3, ac⟩ := P
  obtain ⟨sv, ak, aj, gc, gk, gn, hs, hg, hn, ou⟩ := L
  obtain ⟨st, pl, ev, dn, us, is, vr, hd, tk, pn, pa, pi, un, wj⟩ := h
  rcases sa_least (fun k => gk k = p1 pl ∧ tk k = 0) gc with ⟨q, h1, h2, h3⟩ | h
  · exact Or.inl ⟨q, gn q, h1, h2, h3, rfl⟩
  · exact Or.inr h
theorem sa_job {P : sa_P} {J : sa_J} (A : sa_Ja J) {j : Nat} (hj : j < sa_jc J) : sa_No J j ∨ ∃ g x, (g = 0 ∨ g = 1) ∧ sa_Ov P J j g x := by
  obtain ⟨ns, kd, p1, p2, p3, ac⟩ := P
  obtain ⟨jc, ja, ji, jn, js, jt, tc, tj, tt⟩ := J
  have hj' : j < jc := hj
  have h9 : j < 90 := Nat.lt_of_lt_of_le hj' A.1
  by_cases e : js j < 2
  · exact Or.inl ⟨h9, e⟩
  · obtain ⟨a, ha, ea⟩ := A.2 j hj'
    by_cases e2 : js j = 2
    · exact Or.inr ⟨1, _, Or.inr rfl, h9, e, fun _ => rfl, fun z => absurd e2 z, a, ha, ea, rfl⟩
    · exact Or.inr ⟨0, _, Or.inl rfl, h9, e, fun z => absurd z e2, fun _ => rfl, a, ha, ea, rfl⟩
end
section
/-! the whole run -/
theorem sa_ENDf {i t : Nat} {P : sa_P} {J : sa_J} {L : sa_L} {h : sa_H} {u : SX} {v : SY} (F : sa_FW i P t J L h u v) (e : ¬ sa_st h = 1) : sa_END i P t J L h u v :=
  ⟨0, 0, J, L, h, u, v, ⟨rfl, sa_Exr, rfl, rfl⟩, F, fun z => absurd z e, sa_FXr, sa_FYr, fun post hp => ⟨fun _ => hp, fun z => absurd z e, fun z => absurd z e⟩, fun post hp => ⟨fun _ => hp, fun z => absurd z e, fun z => absurd z e⟩⟩
theorem sa_live {i t : Nat} {P : sa_P} (hi : i < 3) (V : sa_VK P) : ∀ (m : Nat) (h : sa_H) (L : sa_L) (J : sa_J) (u : SX) (v : SY), sa_m h ≤ m → sa_FW i P t J L h u v → ¬ sa_pend h → sa_Ja J → sa_jc J + (30 - sa_ak L) ≤ 90 → sa_END i P t J L h u v := by
  intro m
  induction m with
  | zero =>
    intro h L J u v hm F np A hj
    refine sa_ENDf F (fun e => ?_)
    rw [sa_ms1 e] at hm
    have := sa_mu1 h
    omega
  | succ m ih =>
    intro h L J u v hm F np A hj
    by_cases es : sa_st h = 1
    case neg => exact sa_ENDf F es
    have F0 := F
    obtain ⟨⟨W, X, H⟩, ⟨W2, H2⟩, I, O⟩ := F
    obtain ⟨a1, a2, a3, a4⟩ := sa_Ia I
    have hns := sa_WXn W
    have ht6 := sa_WXt W
    by_cases ew : sa_wj h = -1
    · have eu : sa_un h = false := by
        cases e : sa_un h
        · rfl
        · exact absurd ⟨es, e, ew⟩ np
      rcases sa_prog V I es eu ew with ⟨h', S⟩ | ⟨h', S⟩ | ⟨q, x, hq, S⟩
      · obtain ⟨I', m', np'⟩ := sa_I0 hns I S
        obtain ⟨u', x1, x2, x3, x4, x5⟩ := sa_XS0 hi W X H S
        obtain ⟨v', y1, y2, y3, y4⟩ := sa_YS0 hi (sa_Ih I A) (sa_Iu I ew) W2 H2 S
        have hS : sa_St P L h h' := by
          obtain ⟨sv, ak, aj, gc, gk, gn, hs, hg, hn, ou⟩ := L
          exact Or.inl S
        exact sa_ENDs 0 rfl sa_Exr rfl hS x4 y3 x5 y4 (ih h' L J u' v' (by omega) ⟨⟨x1, x2, x3⟩, ⟨y1, y2⟩, I', O⟩ np' A hj)
      · obtain ⟨I', p', _⟩ := sa_IF I S
        obtain ⟨u', x1, x2, x3, x4, x5⟩ := sa_XSF hi W X H S
        obtain ⟨v', y1, y2, y3, y4⟩ := sa_YPF hi W2 H2 S
        have hS : sa_St P L h h' := by
          obtain ⟨sv, ak, aj, gc, gk, gn, hs, hg, hn, ou⟩ := L
          exact Or.inr (Or.inl S)
        refine sa_ENDp hi sa_Exr rfl hS x4 y3 x5 ⟨⟨x1, x2, x3⟩, ⟨y1, y2⟩, I', O⟩ p' A hj (fun v2 hv T => y4 v2 ?_ T)
        obtain ⟨yns, ynow, yjc, ytc, yac, ysp, yja, yji, yjn, yhw, ywn, ytj, ytt, yst, ypl, ydn, yak, ywt, yun, yrs, yvr, yhd, ypa, ypi, ypd, ygs, ygn, ygc⟩ := v2
        exact hv.2
      · have h30 : sa_ak L < 30 := by
          obtain ⟨h', S⟩ := S 0 (by decide)
          obtain ⟨ns, kd, p1, p2, p3, ac⟩ := P
          obtain ⟨sv, ak, aj, gc, gk, gn, hs, hg, hn, ou⟩ := L
          obtain ⟨st, pl, ev, dn, us, is, vr, hd, tk, pn, pa, pi, un, wj⟩ := h
          have : is < 30 := S.2.2.2.2.2.1
          have a2' : is = ak := a2
          show ak < 30
          omega
        have hj' : sa_jc J < 90 := by omega
        obtain ⟨h', S⟩ := S (nI (sa_jc J)) (sa_ne_m1 (by omega))
        obtain ⟨I', m', np'⟩ := sa_I1 (t := t) hns I S
        obtain ⟨u', x1, x2, x3, x4, x5⟩ := sa_XS1l hi a2 hj' W X H (Or.inl S)
        obtain ⟨v', y1, y2, y3, y4⟩ := sa_YS1l hi hj' W2 H2 S
        exact sa_ENDs 1 ⟨q, x, hq, rfl⟩ sa_ExA sa_akA (sa_StA a2 (Or.inl S)) x4 y3 x5 y4 (ih h' _ _ u' v' (by omega) ⟨⟨x1, x2, x3⟩, ⟨y1, y2⟩, I', sa_OkA O⟩ np' (sa_JaN hj' hq A) (by rw [sa_jcN, sa_akA]; omega))
    · obtain ⟨hW, hp20, hJ⟩ := sa_Iw hns I es ew
      rcases sa_Wcase hW with Jw | ⟨T, nj⟩ | ⟨G, nj⟩
      · obtain ⟨ou0, j, hj1, hj2⟩ := hJ Jw
        rcases sa_job (P := P) A hj1 with N | ⟨g, x, hg, Ov⟩
        · exact ⟨0, 0, J, L, h, u, v, ⟨rfl, sa_Exr, rfl, rfl⟩, F0, fun _ => ⟨ew, Or.inl ⟨Jw, j, hj1, hj2, N⟩⟩, sa_FXr, sa_FYr, sa_XR hi a1 es ew hj2 N Jw W X H, sa_yo0 es ew (sa_YR hi es ew hj2 hp20 hj1 N Jw W2 H2)⟩
        · rcases sa_over (x := x) V I es ew Jw hg with ⟨h', S⟩ | ⟨h', S⟩
          · obtain ⟨I', m', np'⟩ := sa_I2 hns I S
            obtain ⟨u', x1, x2, x3, x4, x5⟩ := sa_XJl hi a1 a3 hj2 Ov Jw W X H (Or.inl S)
            obtain ⟨v', y1, y2, y3, y4⟩ := sa_YJl hi hj2 hp20 hj1 Ov Jw W2 H2 S
            exact sa_ENDs 0 rfl sa_ExW sa_akW (sa_StW a1 (Or.inl S)) x4 y3 x5 y4 (ih h' _ J u' v' (by omega) ⟨⟨x1, x2, x3⟩, ⟨y1, y2⟩, I', sa_OkW⟩ np' A (by rw [sa_akW]; exact hj))
          · obtain ⟨I', p'⟩ := sa_I2p (x := x) I S
            obtain ⟨u', x1, x2, x3, x4, x5⟩ := sa_XJl hi a1 a3 hj2 Ov Jw W X H (Or.inr S)
            obtain ⟨v', y1, y2, y3, y4⟩ := sa_YJp hi hj2 hp20 hj1 Ov W2 H2 S
            refine sa_ENDp hi sa_ExW sa_akW (sa_StW a1 (Or.inr S)) x4 y3 x5 ⟨⟨x1, x2, x3⟩, ⟨y1, y2⟩, I', sa_OkW⟩ p' A hj (fun v2 hv T => y4 v2 ?_ T)
            obtain ⟨yns, ynow, yjc, ytc, yac, ysp, yja, yji, yjn, yhw, ywn, ytj, ytt, yst, ypl, ydn, yak, ywt, yun, yrs, yvr, yhd, ypa, ypi, ypd, ygs, ygn, ygc⟩ := v2
            exact hv.1
      · rcases O with O | ⟨T0, hT, O⟩
        · obtain ⟨c, hc, hC⟩ := sa_twC hW T
          obtain ⟨u', x1, x2, x3, x4, x5⟩ := sa_XRo hi a1 es ew O hc rfl (Or.inl ⟨T, hC⟩) W X H
          have H2' := sa_HYo es ew O (Or.inl ⟨T, hC⟩) H2
          have eo : sa_ou (sa_Lo L (nI (t + c))) = nI (t + c) := by
            obtain ⟨sv, ak, aj, gc, gk, gn, hs, hg, hn, ou⟩ := L
            rfl
          exact ⟨0, 0, J, sa_Lo L (nI (t + c)), h, u', v, ⟨rfl, sa_ExO, sa_akO, rfl⟩, ⟨⟨x1, x2, x3⟩, ⟨W2, H2'⟩, sa_Io es ew nj I, Or.inr ⟨t + c, by omega, eo⟩⟩, fun _ => ⟨ew, Or.inr ⟨Or.inl T, t + c, by omega, by omega, eo⟩⟩, x4, sa_FYr, x5,
            sa_yo0 es ew (sa_YRt hi es ew (by rw [eo]; exact sa_ne_m1 (by omega)) (by rw [eo]; exact nI_lt (by omega) (by omega)) hW (Or.inl T) W2 H2')⟩
        · have on1 : sa_ou L ≠ -1 := by
            rw [O]
            exact sa_ne_m1 (by omega)
          by_cases ht : t < T0
          · have hl : nI t < sa_ou L := by
              rw [O]
              exact nI_lt ht (by omega)
            exact ⟨0, 0, J, L, h, u, v, ⟨rfl, sa_Exr, rfl, rfl⟩, F0, fun _ => ⟨ew, Or.inr ⟨Or.inl T, T0, ht, hT, O⟩⟩, sa_FXr, sa_FYr, sa_XRt hi a1 es ew on1 hl (Or.inl T) W X H, sa_yo0 es ew (sa_YRt hi es ew on1 hl hW (Or.inl T) W2 H2)⟩
          · have hl : ¬ nI t < sa_ou L := by
              rw [O]
              exact nI_nlt (by omega) (by omega)
            obtain ⟨h', S⟩ := sa_tover V I es ew (Or.inl T)
            obtain ⟨I', m', np'⟩ := sa_I2 hns I S
            obtain ⟨u', x1, x2, x3, x4, x5⟩ := sa_XTl hi a1 a3 on1 hl T W X H S
            obtain ⟨v', y1, y2, y3, y4⟩ := sa_YTl hi on1 hl T W2 H2 S
            exact sa_ENDs 0 rfl sa_ExW sa_akW (sa_StW a1 (Or.inl S)) x4 y3 x5 y4 (ih h' _ J u' v' (by omega) ⟨⟨x1, x2, x3⟩, ⟨y1, y2⟩, I', sa_OkW⟩ np' A (by rw [sa_akW]; exact hj))
      · rcases sa_sig P L h with ⟨q, y, N⟩ | N
        · have hq6 : q < 6 ∧ (match L with | (sv, ak, aj, gc, gk, gn, hs, hg, hn, ou) => q < gc) := by
            obtain ⟨ns, kd, p1, p2, p3, ac⟩ := P
            obtain ⟨jc, ja, ji, jn, js, jt, tc, tj, tt⟩ := J
            obtain ⟨sv, ak, aj, gc, gk, gn, hs, hg, hn, ou⟩ := L
            obtain ⟨st, pl, ev, dn, us, is, vr, hd, tk, pn, pa, pi, un, wj⟩ := h
            obtain ⟨⟨n1, n2, n3, n4, n5, n6, n7, n8⟩, _⟩ := I
            have n9 : q < gc := N.1
            exact ⟨by omega, n9⟩
          obtain ⟨h', S⟩ := sa_gover (y := y) V I es ew G hq6.1
          obtain ⟨I', m', np'⟩ := sa_I3 hns hq6.2 I S
          obtain ⟨u', x1, x2, x3, x4, x5⟩ := sa_XGl hi a1 a3 N W X H S
          obtain ⟨v', y1, y2, y3, y4⟩ := sa_YGl hi N W2 H2 S
          exact sa_ENDs 0 rfl sa_ExW sa_akW (sa_StG a1 N S) x4 y3 x5 y4 (ih h' _ J u' v' (by omega) ⟨⟨x1, x2, x3⟩, ⟨y1, y2⟩, I', sa_OkW⟩ np' A (by rw [sa_akW]; exact hj))
        · rcases O with O | ⟨T0, hT, O⟩
          · obtain ⟨c, hc, hC⟩ := sa_gwC V G
            obtain ⟨u', x1, x2, x3, x4, x5⟩ := sa_XRo hi a1 es ew O hc rfl (Or.inr ⟨G, N, hC⟩) W X H
            have H2' := sa_HYo es ew O (Or.inr ⟨G, hC⟩) H2
            have eo : sa_ou (sa_Lo L (nI (t + c))) = nI (t + c) := by
              obtain ⟨sv, ak, aj, gc, gk, gn, hs, hg, hn, ou⟩ := L
              rfl
            have N' : sa_Sn P (sa_Lo L (nI (t + c))) h := by
              obtain ⟨ns, kd, p1, p2, p3, ac⟩ := P
              obtain ⟨sv, ak, aj, gc, gk, gn, hs, hg, hn, ou⟩ := L
              obtain ⟨st, pl, ev, dn, us, is, vr, hd, tk, pn, pa, pi, un, wj⟩ := h
              exact N
            exact ⟨0, 0, J, sa_Lo L (nI (t + c)), h, u', v, ⟨rfl, sa_ExO, sa_akO, rfl⟩, ⟨⟨x1, x2, x3⟩, ⟨W2, H2'⟩, sa_Io es ew nj I, Or.inr ⟨t + c, by omega, eo⟩⟩, fun _ => ⟨ew, Or.inr ⟨Or.inr ⟨G, N'⟩, t + c, by omega, by omega, eo⟩⟩, x4, sa_FYr, x5,
              sa_yo0 es ew (sa_YRt hi es ew (by rw [eo]; exact sa_ne_m1 (by omega)) (by rw [eo]; exact nI_lt (by omega) (by omega)) hW (Or.inr ⟨G, N'⟩) W2 H2')⟩
          · have on1 : sa_ou L ≠ -1 := by
              rw [O]
              exact sa_ne_m1 (by omega)
            by_cases ht : t < T0
            · have hl : nI t < sa_ou L := by
                rw [O]
                exact nI_lt ht (by omega)
              exact ⟨0, 0, J, L, h, u, v, ⟨rfl, sa_Exr, rfl, rfl⟩, F0, fun _ => ⟨ew, Or.inr ⟨Or.inr ⟨G, N⟩, T0, ht, hT, O⟩⟩, sa_FXr, sa_FYr, sa_XRt hi a1 es ew on1 hl (Or.inr ⟨G, N⟩) W X H, sa_yo0 es ew (sa_YRt hi es ew on1 hl hW (Or.inr ⟨G, N⟩) W2 H2)⟩
            · have hl : ¬ nI t < sa_ou L := by
                rw [O]
                exact nI_nlt (by omega) (by omega)
              obtain ⟨h', S⟩ := sa_tover V I es ew (Or.inr G)
              obtain ⟨I', m', np'⟩ := sa_I2 hns I S
              obtain ⟨u', x1, x2, x3, x4, x5⟩ := sa_XGt hi a1 a3 on1 hl G N W X H S
              obtain ⟨v', y1, y2, y3, y4⟩ := sa_YGt hi on1 hl G N W2 H2 S
              exact sa_ENDs 0 rfl sa_ExW sa_akW (sa_StW a1 (Or.inl S)) x4 y3 x5 y4 (ih h' _ J u' v' (by omega) ⟨⟨x1, x2, x3⟩, ⟨y1, y2⟩, I', sa_OkW⟩ np' A (by rw [sa_akW]; exact hj))
end
section
/-! a workflow as the relation holds it; goOn and work from there -/
def sa_sv (L : sa_L) : Int32 := match L with | (sv, ak, aj, gc, gk, gn, hs, hg, hn, ou) => sv
def sa_off (i : Nat) (u : SX) (v : SY) : Prop := match u, v with | (xns, xnow, xjc, xtc, xhe, xkd, xp1, xp2, xp3, xac, xja, xji, xjn, xjs, xjt, xtj, xtt, xss, xsv, xak, xaj, xgc, xgk, xgn, xhs, xhg, xhn, xou, xah, xst, xpl, xft, xev, xdn, xus, xis, xvr, xhd, xtk, xpd, xpa, xpi, xun, xwj), (yns, ynow, yjc, ytc, yac, ysp, yja, yji, yjn, yhw, ywn, ytj, ytt, yst, ypl, ydn, yak, ywt, yun, yrs, yvr, yhd, ypa, ypi, ypd, ygs, ygn, ygc) => xss i = 0 ∧ yst i = 0 ∧ ypd i = 0 ∧ ygc i = 0
def sa_on (i : Nat) (u : SX) : Prop := match u with | (xns, xnow, xjc, xtc, xhe, xkd, xp1, xp2, xp3, xac, xja, xji, xjn, xjs, xjt, xtj, xtt, xss, xsv, xak, xaj, xgc, xgk, xgn, xhs, xhg, xhn, xou, xah, xst, xpl, xft, xev, xdn, xus, xis, xvr, xhd, xtk, xpd, xpa, xpi, xun, xwj) => ¬ xss i = 0
def sa_ah (i : Nat) (u : SX) : Prop := match u with | (xns, xnow, xjc, xtc, xhe, xkd, xp1, xp2, xp3, xac, xja, xji, xjn, xjs, xjt, xtj, xtt, xss, xsv, xak, xaj, xgc, xgk, xgn, xhs, xhg, xhn, xou, xah, xst, xpl, xft, xev, xdn, xus, xis, xvr, xhd, xtk, xpd, xpa, xpi, xun, xwj) => ¬ xah i = 0
def sa_Fw (r : Prop) (i : Nat) (P : sa_P) (t : Nat) (J : sa_J) (A : Nat) (u : SX) (v : SY) : Prop :=
  (sa_off i u v ∧ A = 0) ∨ (sa_on i u ∧ ∃ L h n, sa_LX i L u ∧ (sa_ah i u → sa_HX i h u) ∧ sa_HY i P t L h v ∧ sa_I P J L h ∧ sa_Ok L ∧ sa_Re P L n (sa_h0 (sa_sv L)) h ∧ A = sa_ak L ∧ (sa_st h = 1 → sa_wj h ≠ -1) ∧ (r → sa_R P t J L h))
theorem sa_HYa {i t : Nat} {P : sa_P} {L : sa_L} {h : sa_H} {v v' : SY} (A : sa_AY i v v') (H : sa_HY i P t L h v) : sa_HY i P t L h v' := by
  obtain ⟨sv, ak, aj, gc, gk, gn, hs, hg, hn, ou⟩ := L
  obtain ⟨st, pl, ev, dn, us, is, vr, hd, tk, pn, pa, pi, un, wj⟩ := h
  obtain ⟨yns, ynow, yjc, ytc, yac, ysp, yja, yji, yjn, yhw, ywn, ytj, ytt, yst, ypl, ydn, yak, ywt, yun, yrs, yvr, yhd, ypa, ypi, ypd, ygs, ygn, ygc⟩ := v
  obtain ⟨yns', ynow', yjc', ytc', yac', ysp', yja', yji', yjn', yhw', ywn', ytj', ytt', yst', ypl', ydn', yak', ywt', yun', yrs', yvr', yhd', ypa', ypi', ypd', ygs', ygn', ygc'⟩ := v'
  obtain ⟨p1, p2, p3, p4, p5, p6, p7, p8, p9, p10, p11, p12, p13, p14, p15⟩ := A
  obtain ⟨⟨b1, b2, b3, b4, b5⟩, e1, e2, e3, e4, e5, e6, e7, e8, e9, e10⟩ := H
  refine ⟨⟨b1, b2, b3, b4, b5⟩, p1.trans e1, fun k hk => (p8 k hk).trans (e2 k hk), p12.trans e3, fun k hk => (p10 k (by omega)).trans (e4 k hk), fun k hk => (p11 k (by omega)).trans (e5 k hk), p15.trans e6, fun k hk => (p14 k (by omega)).trans (e7 k hk), fun k hk => (p13 k (by omega)).trans (e8 k hk), fun e => p7.trans (e9 e), fun e => ?_⟩
  obtain ⟨q1, q2, q3, q4, q5⟩ := e10 e
  refine ⟨p2.trans q1, p3.trans q2, p4.trans q3, fun k hk => (p9 k hk).trans (q4 k hk), ?_⟩
  rw [p5, p6]
  exact q5
/-- time goes on for a workflow at rest -/
theorem sa_HYt {i t t' : Nat} {P : sa_P} {J : sa_J} {L : sa_L} {h : sa_H} {v : SY} (R : sa_R P t J L h) (H : sa_HY i P t L h v) : sa_HY i P t' L h v := by
  obtain ⟨ns, kd, p1, p2, p3, ac⟩ := P
  obtain ⟨jc, ja, ji, jn, js, jt, tc, tj, tt⟩ := J
  obtain ⟨sv, ak, aj, gc, gk, gn, hs, hg, hn, ou⟩ := L
  obtain ⟨st, pl, ev, dn, us, is, vr, hd, tk, pn, pa, pi, un, wj⟩ := h
  obtain ⟨yns, ynow, yjc, ytc, yac, ysp, yja, yji, yjn, yhw, ywn, ytj, ytt, yst, ypl, ydn, yak, ywt, yun, yrs, yvr, yhd, ypa, ypi, ypd, ygs, ygn, ygc⟩ := v
  obtain ⟨⟨b1, b2, b3, b4, b5⟩, e1, e2, e3, e4, e5, e6, e7, e8, e9, e10⟩ := H
  refine ⟨⟨b1, b2, b3, b4, b5⟩, e1, e2, e3, e4, e5, e6, e7, e8, e9, fun e => ?_⟩
  obtain ⟨q1, q2, q3, q4, q5⟩ := e10 e
  refine ⟨q1, q2, q3, q4, ?_⟩
  obtain ⟨hw, R⟩ := R e
  rcases q5 with z | z | z | ⟨z1, z2, z3, z4, z5, z6⟩ | ⟨z1, z2, z3, z4, z5, z6⟩
  · exact Or.inl z
  · exact Or.inr (Or.inl z)
  · exact Or.inr (Or.inr (Or.inl z))
  · have on : ou ≠ -1 := by
      rcases R with ⟨Jw | ⟨_, _, k | k⟩, _⟩ | ⟨_, T, hT, hT2, eo⟩
      · rw [z2] at Jw
        cases Jw
      · exact absurd (z3.symm.trans k) (by decide)
      · exact absurd (z3.symm.trans k) (by decide)
      · have eo' : ou = nI T := eo
        rw [eo']
        exact sa_ne_m1 (by omega)
    exact Or.inr (Or.inr (Or.inr (Or.inl ⟨z1, z2, z3, z4, z5, fun e => absurd e on⟩)))
  · have on : ou ≠ -1 := by
      rcases R with ⟨Jw | ⟨_, _, k | k⟩, _⟩ | ⟨_, T, hT, hT2, eo⟩
      · rw [z2] at Jw
        cases Jw
      · exact absurd (z3.symm.trans k) (by decide)
      · exact absurd (z3.symm.trans k) (by decide)
      · have eo' : ou = nI T := eo
        rw [eo']
        exact sa_ne_m1 (by omega)
    exact Or.inr (Or.inr (Or.inr (Or.inr ⟨z1, z2, z3, z4, z5, fun e => absurd e on⟩)))
/-- the jobs only grow: what isn't over stays so -/
def sa_Jm (J J' : sa_J) : Prop := sa_jc J ≤ sa_jc J' ∧ ∀ j, j < sa_jc J → sa_No J j → sa_No J' j
theorem sa_Jmr {J : sa_J} : sa_Jm J J := ⟨Nat.le_refl _, fun _ _ h => h⟩
theorem sa_Jmt {J J1 J2 : sa_J} (A : sa_Jm J J1) (B : sa_Jm J1 J2) : sa_Jm J J2 := ⟨Nat.le_trans A.1 B.1, fun j hj h => B.2 j (Nat.lt_of_lt_of_le hj A.1) (A.2 j hj h)⟩
theorem sa_JmN {t : Nat} {J : sa_J} {q x : Int32} : sa_Jm J (sa_Jn t J q x) := by
  refine ⟨by rw [sa_jcN]; omega, fun j hj h => ?_⟩
  obtain ⟨jc, ja, ji, jn, js, jt, tc, tj, tt⟩ := J
  have hj' : j < jc := hj
  refine ⟨h.1, ?_⟩
  show upd js jc 0 j < 2
  rw [pk_un (by omega)]
  exact h.2
theorem sa_JmX {t : Nat} : ∀ (n : Nat) (J J' : sa_J), sa_Jx t n J J' → sa_Jm J J' ∧ sa_jc J' = sa_jc J + n := by
  intro n
  induction n with
  | zero =>
    intro J J' h
    cases h
    exact ⟨sa_Jmr, rfl⟩
  | succ n ih =>
    intro J J' h
    obtain ⟨q, x, _, h⟩ := h
    obtain ⟨a, b⟩ := ih _ _ h
    exact ⟨sa_Jmt sa_JmN a, by rw [b, sa_jcN]; omega⟩
theorem sa_JaX {t : Nat} : ∀ (n : Nat) (J J' : sa_J), sa_Jx t n J J' → sa_jc J + n ≤ 90 → sa_Ja J → sa_Ja J' := by
  intro n
  induction n with
  | zero =>
    intro J J' h _ A
    cases h
    exact A
  | succ n ih =>
    intro J J' h hn A
    obtain ⟨q, x, hq, h⟩ := h
    exact ih _ _ h (by rw [sa_jcN]; omega) (sa_JaN (by omega) hq A)
theorem sa_IJc {P : sa_P} {J J' : sa_J} {L : sa_L} {h : sa_H} (c : sa_jc J ≤ sa_jc J') (I : sa_I P J L h) : sa_I P J' L h := by
  obtain ⟨ns, kd, p1, p2, p3, ac⟩ := P
  obtain ⟨jc, ja, ji, jn, js, jt, tc, tj, tt⟩ := J
  obtain ⟨jc', ja', ji', jn', js', jt', tc', tj', tt'⟩ := J'
  obtain ⟨sv, ak, aj, gc, gk, gn, hs, hg, hn, ou⟩ := L
  obtain ⟨st, pl, ev, dn, us, is, vr, hd, tk, pn, pa, pi, un, wj⟩ := h
  have c' : jc ≤ jc' := c
  obtain ⟨n1, i2, i3, i4, i5, i6, i7, i8, i9⟩ := I
  exact ⟨n1, i2, fun k hk => (i3 k hk).imp id (fun ⟨j, hj, e⟩ => ⟨j, by omega, e⟩), fun a b => ⟨(i4 a b).1, fun z => (fun ⟨j, hj, e⟩ => ⟨j, by omega, e⟩) ((i4 a b).2 z)⟩, i5, i6, i7, i8, i9⟩
theorem sa_RJ {P : sa_P} {t : Nat} {J J' : sa_J} {L : sa_L} {h : sa_H} (M : sa_Jm J J') (R : sa_R P t J L h) : sa_R P t J' L h := by
  intro e
  obtain ⟨hw, R⟩ := R e
  refine ⟨hw, ?_⟩
  rcases R with ⟨Jw, j, h1, h2, h3⟩ | R
  · exact Or.inl ⟨Jw, j, Nat.lt_of_lt_of_le h1 M.1, h2, M.2 j h1 h3⟩
  · exact Or.inr R
def sa_Ss (i : Nat) (u u' : SX) : Prop := match u, u' with | (xns, xnow, xjc, xtc, xhe, xkd, xp1, xp2, xp3, xac, xja, xji, xjn, xjs, xjt, xtj, xtt, xss, xsv, xak, xaj, xgc, xgk, xgn, xhs, xhg, xhn, xou, xah, xst, xpl, xft, xev, xdn, xus, xis, xvr, xhd, xtk, xpd, xpa, xpi, xun, xwj), (xns', xnow', xjc', xtc', xhe', xkd', xp1', xp2', xp3', xac', xja', xji', xjn', xjs', xjt', xtj', xtt', xss', xsv', xak', xaj', xgc', xgk', xgn', xhs', xhg', xhn', xou', xah', xst', xpl', xft', xev', xdn', xus', xis', xvr', xhd', xtk', xpd', xpa', xpi', xun', xwj') => xss' i = xss i ∧ xah' i = xah i
/-- what doesn't touch a workflow keeps it -/
theorem sa_FwK {r : Prop} {i t A : Nat} {P : sa_P} {J J' : sa_J} {u u' : SX} {v v' : SY} (S : sa_Ss i u u') (X : sa_AX i u u') (Y : sa_AY i v v') (c : sa_jc J ≤ sa_jc J') (M : r → sa_Jm J J') (F : sa_Fw r i P t J A u v) : sa_Fw r i P t J' A u' v' := by
  rcases F with ⟨F, e⟩ | ⟨on, L, h, n, f1, f2, f3, f4, f5, f6, f7, f8, f9⟩
  · refine Or.inl ⟨?_, e⟩
    obtain ⟨xns, xnow, xjc, xtc, xhe, xkd, xp1, xp2, xp3, xac, xja, xji, xjn, xjs, xjt, xtj, xtt, xss, xsv, xak, xaj, xgc, xgk, xgn, xhs, xhg, xhn, xou, xah, xst, xpl, xft, xev, xdn, xus, xis, xvr, xhd, xtk, xpd, xpa, xpi, xun, xwj⟩ := u
    obtain ⟨xns', xnow', xjc', xtc', xhe', xkd', xp1', xp2', xp3', xac', xja', xji', xjn', xjs', xjt', xtj', xtt', xss', xsv', xak', xaj', xgc', xgk', xgn', xhs', xhg', xhn', xou', xah', xst', xpl', xft', xev', xdn', xus', xis', xvr', xhd', xtk', xpd', xpa', xpi', xun', xwj'⟩ := u'
    obtain ⟨yns, ynow, yjc, ytc, yac, ysp, yja, yji, yjn, yhw, ywn, ytj, ytt, yst, ypl, ydn, yak, ywt, yun, yrs, yvr, yhd, ypa, ypi, ypd, ygs, ygn, ygc⟩ := v
    obtain ⟨yns', ynow', yjc', ytc', yac', ysp', yja', yji', yjn', yhw', ywn', ytj', ytt', yst', ypl', ydn', yak', ywt', yun', yrs', yvr', yhd', ypa', ypi', ypd', ygs', ygn', ygc'⟩ := v'
    obtain ⟨p1, p2, p3, p4, p5, p6, p7, p8, p9, p10, p11, p12, p13, p14, p15⟩ := Y
    obtain ⟨q1, q2, q3, q4⟩ := F
    exact ⟨S.1.trans q1, p1.trans q2, p12.trans q3, p15.trans q4⟩
  · refine Or.inr ⟨?_, L, h, n, sa_LXa X f1, fun z => sa_HXa X (f2 ?_), sa_HYa Y f3, sa_IJc c f4, f5, f6, f7, f8, fun z => sa_RJ (M z) (f9 z)⟩
    · obtain ⟨xns, xnow, xjc, xtc, xhe, xkd, xp1, xp2, xp3, xac, xja, xji, xjn, xjs, xjt, xtj, xtt, xss, xsv, xak, xaj, xgc, xgk, xgn, xhs, xhg, xhn, xou, xah, xst, xpl, xft, xev, xdn, xus, xis, xvr, xhd, xtk, xpd, xpa, xpi, xun, xwj⟩ := u
      obtain ⟨xns', xnow', xjc', xtc', xhe', xkd', xp1', xp2', xp3', xac', xja', xji', xjn', xjs', xjt', xtj', xtt', xss', xsv', xak', xaj', xgc', xgk', xgn', xhs', xhg', xhn', xou', xah', xst', xpl', xft', xev', xdn', xus', xis', xvr', xhd', xtk', xpd', xpa', xpi', xun', xwj'⟩ := u'
      intro z
      exact on (S.1.symm.trans z)
    · obtain ⟨xns, xnow, xjc, xtc, xhe, xkd, xp1, xp2, xp3, xac, xja, xji, xjn, xjs, xjt, xtj, xtt, xss, xsv, xak, xaj, xgc, xgk, xgn, xhs, xhg, xhn, xou, xah, xst, xpl, xft, xev, xdn, xus, xis, xvr, xhd, xtk, xpd, xpa, xpi, xun, xwj⟩ := u
      obtain ⟨xns', xnow', xjc', xtc', xhe', xkd', xp1', xp2', xp3', xac', xja', xji', xjn', xjs', xjt', xtj', xtt', xss', xsv', xak', xaj', xgc', xgk', xgn', xhs', xhg', xhn', xou', xah', xst', xpl', xft', xev', xdn', xus', xis', xvr', xhd', xtk', xpd', xpa', xpi', xun', xwj'⟩ := u'
      intro z'
      exact z (S.2.trans z')
theorem sa_FGX {i : Nat} {u v w : SX} (A : sa_FG i u v) (B : sa_FX i v w) : sa_FG i u w := by
  refine ⟨?_, fun i' hi' hne => sa_AXt (A.2 i' hi' hne) (B.2 i' hi' hne)⟩
  obtain ⟨A, _⟩ := A
  obtain ⟨B, _⟩ := B
  obtain ⟨xns, xnow, xjc, xtc, xhe, xkd, xp1, xp2, xp3, xac, xja, xji, xjn, xjs, xjt, xtj, xtt, xss, xsv, xak, xaj, xgc, xgk, xgn, xhs, xhg, xhn, xou, xah, xst, xpl, xft, xev, xdn, xus, xis, xvr, xhd, xtk, xpd, xpa, xpi, xun, xwj⟩ := u
  obtain ⟨xns', xnow', xjc', xtc', xhe', xkd', xp1', xp2', xp3', xac', xja', xji', xjn', xjs', xjt', xtj', xtt', xss', xsv', xak', xaj', xgc', xgk', xgn', xhs', xhg', xhn', xou', xah', xst', xpl', xft', xev', xdn', xus', xis', xvr', xhd', xtk', xpd', xpa', xpi', xun', xwj'⟩ := v
  obtain ⟨xns2, xnow2, xjc2, xtc2, xhe2, xkd2, xp12, xp22, xp32, xac2, xja2, xji2, xjn2, xjs2, xjt2, xtj2, xtt2, xss2, xsv2, xak2, xaj2, xgc2, xgk2, xgn2, xhs2, xhg2, xhn2, xou2, xah2, xst2, xpl2, xft2, xev2, xdn2, xus2, xis2, xvr2, xhd2, xtk2, xpd2, xpa2, xpi2, xun2, xwj2⟩ := w
  obtain ⟨a1, a2, a3⟩ := A
  obtain ⟨b1, b2⟩ := B
  subst b2
  exact ⟨b1.trans a1, a2, a3⟩
theorem sa_mule (h : sa_H) : sa_mu h < 499 := by
  obtain ⟨st, pl, ev, dn, us, is, vr, hd, tk, pn, pa, pi, un, wj⟩ := h
  show 2 * (200 - dn) + 2 * (30 - is) + (if wj = -1 then 0 else 1) + 1 < 499
  have : (if wj = -1 then 0 else 1) ≤ 1 := by split <;> omega
  omega
/-- the component has the workflow at hand, made anew if need be -/
theorem sa_hand {i t n : Nat} {P : sa_P} {J : sa_J} {L : sa_L} {h : sa_H} {u : SX} (hi : i < 3) (W : sa_WX P t J u) (X : sa_LX i L u) (on : sa_on i u) (H : sa_ah i u → sa_HX i h u) (hW : sa_st h = 1 → sa_wj h ≠ -1 → sa_Wt P h) (R : sa_Re P L n (sa_h0 (sa_sv L)) h) :
    ∃ u1, sa_WX P t J u1 ∧ sa_LX i L u1 ∧ sa_HX i h u1 ∧ sa_FG i u u1 ∧ ∀ post : SX → Prop, sa_GX post i P h u1 → wpX_goOn post u (nI i) := by
  by_cases ha : sa_ah i u
  · refine ⟨u, W, X, H ha, ⟨?_, fun _ _ _ => sa_AXr⟩, fun post G => sa_gn1 hi W (H ha) ?_ hW (sa_mule h) post G⟩
    · obtain ⟨xns, xnow, xjc, xtc, xhe, xkd, xp1, xp2, xp3, xac, xja, xji, xjn, xjs, xjt, xtj, xtt, xss, xsv, xak, xaj, xgc, xgk, xgn, xhs, xhg, xhn, xou, xah, xst, xpl, xft, xev, xdn, xus, xis, xvr, xhd, xtk, xpd, xpa, xpi, xun, xwj⟩ := u
      exact ⟨rfl, fun _ _ _ => rfl, ha⟩
    · obtain ⟨xns, xnow, xjc, xtc, xhe, xkd, xp1, xp2, xp3, xac, xja, xji, xjn, xjs, xjt, xtj, xtt, xss, xsv, xak, xaj, xgc, xgk, xgn, xhs, xhg, xhn, xou, xah, xst, xpl, xft, xev, xdn, xus, xis, xvr, xhd, xtk, xpd, xpa, xpi, xun, xwj⟩ := u
      exact ⟨on, ha⟩
  · have SH : ∃ u', sa_WX P t J u' ∧ sa_LX i L u' ∧ sa_HX i (sa_h0 (sa_sv L)) u' ∧ sa_FG i u u' ∧ ∀ post : SX → Prop, post u' → wpX_startHand post u (nI i) := by
      revert X
      refine sa_WXi (C := fun P J u => sa_LX i L u → ∃ u', sa_WX P t J u' ∧ sa_LX i L u' ∧ sa_HX i (sa_h0 (sa_sv L)) u' ∧ sa_FG i u u' ∧ ∀ post : SX → Prop, post u' → wpX_startHand post u (nI i)) W ?_
      intro ns jc tc xhe kd p1 p2 p3 ac ja ji jn js jt tj tt xss xsv xak xaj xgc xgk xgn xhs xhg xhn xou xah xst xpl xft xev xdn xus xis xvr xhd xtk xpd xpa xpi xun xwj W X
      obtain ⟨sv, ak, aj, gc, gk, gn, hs, hg, hn, ou⟩ := L
      exact sa_G_sh hi W X
    obtain ⟨u0, a1, a2, a3, a4, a5⟩ := SH
    obtain ⟨u1, b1, b2, b3, b4, b5⟩ := sa_rep hi n _ h u0 a1 a2 a3 R
    refine ⟨u1, b1, b2, b3, sa_FGX a4 b4, fun post G => sa_gn0 hi a1 a3 ?_ a5 (fun _ e => absurd rfl e) (sa_mule _) post (b5 post G)⟩
    obtain ⟨xns, xnow, xjc, xtc, xhe, xkd, xp1, xp2, xp3, xac, xja, xji, xjn, xjs, xjt, xtj, xtt, xss, xsv, xak, xaj, xgc, xgk, xgn, xhs, xhg, xhn, xou, xah, xst, xpl, xft, xev, xdn, xus, xis, xvr, xhd, xtk, xpd, xpa, xpi, xun, xwj⟩ := u
    exact ⟨on, Classical.not_not.mp ha⟩
end
section
/-! goOn and work, from the relation to the relation -/
theorem sa_work {i t : Nat} {P : sa_P} {L : sa_L} {h : sa_H} {v : SY} {post : SY → Prop} (hi : i < 3) (H : sa_HY i P t L h v) (G : sa_GY post i h v) : wpY_work post v (nI i) := by
  have Hw := sa_HYw H
  have hv : vp_in (nI i) 3 := vp_in_nI hi (by decide)
  have hc : (nI i).toNatClampNeg = i := nI_clamp (by omega)
  obtain ⟨yns, ynow, yjc, ytc, yac, ysp, yja, yji, yjn, yhw, ywn, ytj, ytt, yst, ypl, ydn, yak, ywt, yun, yrs, yvr, yhd, ypa, ypi, ypd, ygs, ygn, ygc⟩ := v
  obtain ⟨x1, x2⟩ := Hw
  refine And.intro hv ?_
  rw [hc]
  refine br_c (fun e => And.intro hv (br_c (fun e' => ?_) (fun e' => ?_))) (fun e => ⟨1, ?_⟩)
  · have es : sa_st h = 1 := x1.symm.trans e
    by_cases ew : sa_wj h = -1
    · exact ⟨sa_mu h + 1, G.2.1 es ew (sa_mu h + 1) (by omega)⟩
    · exact absurd e' ((x2 es).2 ew)
  · have es : sa_st h = 1 := x1.symm.trans e
    by_cases ew : sa_wj h = -1
    · exact absurd ((x2 es).1 ew) e'
    · refine G.2.2 es ew _ (fun w hw => ?_) (fun w hw => ?_)
      · obtain ⟨yns, ynow, yjc, ytc, yac, ysp, yja, yji, yjn, yhw, ywn, ytj, ytt, yst, ypl, ydn, yak, ywt, yun, yrs, yvr, yhd, ypa, ypi, ypd, ygs, ygn, ygc⟩ := w
        exact br_t rfl ⟨1, br_t rfl hw⟩
      · obtain ⟨yns, ynow, yjc, ytc, yac, ysp, yja, yji, yjn, yhw, ywn, ytj, ytt, yst, ypl, ydn, yak, ywt, yun, yrs, yvr, yhd, ypa, ypi, ypd, ygs, ygn, ygc⟩ := w
        exact br_f (by decide) ⟨sa_mu h, hw _ (Nat.le_refl _)⟩
  · exact br_t rfl (G.1 (fun z => e (x1.trans z)))
theorem sa_goff {i : Nat} {u : SX} {v : SY} (hi : i < 3) (F : sa_off i u v) : (∀ post : SX → Prop, post u → wpX_goOn post u (nI i)) ∧ (∀ post : SY → Prop, post v → wpY_work post v (nI i)) := by
  have hv : vp_in (nI i) 3 := vp_in_nI hi (by decide)
  have hc : (nI i).toNatClampNeg = i := nI_clamp (by omega)
  obtain ⟨xns, xnow, xjc, xtc, xhe, xkd, xp1, xp2, xp3, xac, xja, xji, xjn, xjs, xjt, xtj, xtt, xss, xsv, xak, xaj, xgc, xgk, xgn, xhs, xhg, xhn, xou, xah, xst, xpl, xft, xev, xdn, xus, xis, xvr, xhd, xtk, xpd, xpa, xpi, xun, xwj⟩ := u
  obtain ⟨yns, ynow, yjc, ytc, yac, ysp, yja, yji, yjn, yhw, ywn, ytj, ytt, yst, ypl, ydn, yak, ywt, yun, yrs, yvr, yhd, ypa, ypi, ypd, ygs, ygn, ygc⟩ := v
  obtain ⟨q1, q2, q3, q4⟩ := F
  refine ⟨fun post hp => And.intro hv (br_t (by rw [hc]; exact q1) hp), fun post hp => And.intro hv (br_f ?_ ⟨1, br_t rfl hp⟩)⟩
  rw [hc, q2]
  decide
def sa_Fo (i : Nat) (u u' : SX) : Prop := ∀ i', i' < 3 → i' ≠ i → sa_Ss i' u u' ∧ sa_AX i' u u'
theorem sa_For {i : Nat} {u : SX} : sa_Fo i u u := by
  intro i' _ _
  refine ⟨?_, sa_AXr⟩
  obtain ⟨xns, xnow, xjc, xtc, xhe, xkd, xp1, xp2, xp3, xac, xja, xji, xjn, xjs, xjt, xtj, xtt, xss, xsv, xak, xaj, xgc, xgk, xgn, xhs, xhg, xhn, xou, xah, xst, xpl, xft, xev, xdn, xus, xis, xvr, xhd, xtk, xpd, xpa, xpi, xun, xwj⟩ := u
  exact ⟨rfl, rfl⟩
theorem sa_FoG {i : Nat} {u u' : SX} (A : sa_FG i u u') : sa_Fo i u u' := by
  intro i' hi' hne
  refine ⟨?_, A.2 i' hi' hne⟩
  obtain ⟨A, _⟩ := A
  obtain ⟨xns, xnow, xjc, xtc, xhe, xkd, xp1, xp2, xp3, xac, xja, xji, xjn, xjs, xjt, xtj, xtt, xss, xsv, xak, xaj, xgc, xgk, xgn, xhs, xhg, xhn, xou, xah, xst, xpl, xft, xev, xdn, xus, xis, xvr, xhd, xtk, xpd, xpa, xpi, xun, xwj⟩ := u
  obtain ⟨xns', xnow', xjc', xtc', xhe', xkd', xp1', xp2', xp3', xac', xja', xji', xjn', xjs', xjt', xtj', xtt', xss', xsv', xak', xaj', xgc', xgk', xgn', xhs', xhg', xhn', xou', xah', xst', xpl', xft', xev', xdn', xus', xis', xvr', xhd', xtk', xpd', xpa', xpi', xun', xwj'⟩ := u'
  obtain ⟨a1, a2, a3⟩ := A
  subst a1
  exact ⟨rfl, a2 i' hi' hne⟩
theorem sa_onG {i : Nat} {u u' : SX} (A : sa_FG i u u') (on : sa_on i u) : sa_on i u' := by
  obtain ⟨A, _⟩ := A
  obtain ⟨xns, xnow, xjc, xtc, xhe, xkd, xp1, xp2, xp3, xac, xja, xji, xjn, xjs, xjt, xtj, xtt, xss, xsv, xak, xaj, xgc, xgk, xgn, xhs, xhg, xhn, xou, xah, xst, xpl, xft, xev, xdn, xus, xis, xvr, xhd, xtk, xpd, xpa, xpi, xun, xwj⟩ := u
  obtain ⟨xns', xnow', xjc', xtc', xhe', xkd', xp1', xp2', xp3', xac', xja', xji', xjn', xjs', xjt', xtj', xtt', xss', xsv', xak', xaj', xgc', xgk', xgn', xhs', xhg', xhn', xou', xah', xst', xpl', xft', xev', xdn', xus', xis', xvr', xhd', xtk', xpd', xpa', xpi', xun', xwj'⟩ := u'
  obtain ⟨a1, a2, a3⟩ := A
  subst a1
  exact on
theorem sa_IW {P : sa_P} {J : sa_J} {L : sa_L} {h : sa_H} (I : sa_I P J L h) : sa_st h = 1 → sa_wj h ≠ -1 → sa_Wt P h := by
  obtain ⟨ns, kd, p1, p2, p3, ac⟩ := P
  obtain ⟨jc, ja, ji, jn, js, jt, tc, tj, tt⟩ := J
  obtain ⟨sv, ak, aj, gc, gk, gn, hs, hg, hn, ou⟩ := L
  obtain ⟨st, pl, ev, dn, us, is, vr, hd, tk, pn, pa, pi, un, wj⟩ := h
  obtain ⟨n1, i2, i3, i4, i5, i6, i7, i8, i9⟩ := I
  exact fun a b => (i4 a b).1
theorem sa_svE {L L' : sa_L} (E : sa_Ex L L') : sa_sv L' = sa_sv L := by
  obtain ⟨sv, ak, aj, gc, gk, gn, hs, hg, hn, ou⟩ := L
  obtain ⟨sv', ak', aj', gc', gk', gn', hs', hg', hn', ou'⟩ := L'
  exact E.1
/-- both go on -/
theorem sa_both {r : Prop} {i t A : Nat} {P : sa_P} {J : sa_J} {u : SX} {v : SY} (hi : i < 3) (V : sa_VK P) (W : sa_WX P t J u) (W2 : sa_WY P t J v) (Aj : sa_Ja J) (hj : sa_jc J + (30 - A) ≤ 90) (F : sa_Fw r i P t J A u v) :
    ∃ n J' u' v', (sa_Jx t n J J' ∧ A + n ≤ 30 ∨ (n = 0 ∧ J' = J)) ∧ sa_WX P t J' u' ∧ sa_WY P t J' v' ∧ sa_Fw True i P t J' (A + n) u' v' ∧ sa_Fo i u u' ∧ sa_FY i v v' ∧ (∀ post : SX → Prop, post u' → wpX_goOn post u (nI i)) ∧ (∀ post : SY → Prop, post v' → wpY_work post v (nI i)) := by
  rcases F with ⟨F, e⟩ | ⟨on, L, h, n, f1, f2, f3, f4, f5, f6, f7, f8, f9⟩
  · obtain ⟨g1, g2⟩ := sa_goff hi F
    exact ⟨0, J, u, v, Or.inr ⟨rfl, rfl⟩, W, W2, Or.inl ⟨F, e⟩, sa_For, sa_FYr, g1, g2⟩
  · obtain ⟨u1, a1, a2, a3, a4, a5⟩ := sa_hand hi W f1 on f2 (sa_IW f4) f6
    subst f7
    obtain ⟨k, m, J', L', h', u', v', ⟨b1, b2, b3, b4⟩, ⟨⟨c1, c2, c3⟩, ⟨d1, d2⟩, d3, d4⟩, e1, e2, e3, e4, e5⟩ := sa_live hi V (sa_m h) h L J u1 v (Nat.le_refl _) ⟨⟨a1, a2, a3⟩, ⟨W2, f3⟩, f4, f5⟩ (fun z => f8 z.1 z.2.2) Aj hj
    have FG := sa_FGX a4 e2
    have e30 := (sa_Ia d3).2.2.2
    refine ⟨m, J', u', v', Or.inl ⟨b1, by omega⟩, c1, d1, Or.inr ⟨sa_onG FG on, L', h', k + n, c2, fun _ => c3, d2, d3, d4, ?_, b3.symm, fun z => (e1 z).1, fun _ => e1⟩, sa_FoG FG, e3, fun post hp => a5 post (e4 post hp), fun post hp => sa_work hi f3 (e5 post hp)⟩
    rw [sa_svE b2]
    exact sa_ReT n k _ h h' (sa_ReE b2 n _ h f6) b4
/-- the component alone goes on, where there is nothing to do -/
theorem sa_look {i t A : Nat} {P : sa_P} {J : sa_J} {u : SX} {v : SY} (hi : i < 3) (W : sa_WX P t J u) (F : sa_Fw True i P t J A u v) :
    ∃ u', sa_WX P t J u' ∧ sa_Fw True i P t J A u' v ∧ sa_Fo i u u' ∧ (sa_off i u' v ∨ (sa_on i u' ∧ sa_on i u ∧ ∃ L h, sa_LX i L u' ∧ sa_HX i h u' ∧ sa_HY i P t L h v ∧ sa_I P J L h ∧ A = sa_ak L)) ∧ (∀ post : SX → Prop, post u' → wpX_goOn post u (nI i)) := by
  rcases F with ⟨F, e⟩ | ⟨on, L, h, n, f1, f2, f3, f4, f5, f6, f7, f8, f9⟩
  · obtain ⟨g1, g2⟩ := sa_goff hi F
    exact ⟨u, W, Or.inl ⟨F, e⟩, sa_For, Or.inl F, g1⟩
  · obtain ⟨u1, a1, a2, a3, a4, a5⟩ := sa_hand hi W f1 on f2 (sa_IW f4) f6
    refine ⟨u1, a1, Or.inr ⟨sa_onG a4 on, L, h, n, a2, fun _ => a3, f3, f4, f5, f6, f7, f8, f9⟩, sa_FoG a4, Or.inr ⟨sa_onG a4 on, on, L, h, a2, a3, f3, f4, f7⟩, fun post hp => a5 post ?_⟩
    by_cases es : sa_st h = 1
    · obtain ⟨hw, R⟩ := f9 trivial es
      obtain ⟨i1, _⟩ := sa_Ia f4
      rcases R with ⟨Jw, j, h1, h2, h3⟩ | ⟨Tw, T, hT, hT2, eo⟩
      · exact sa_XR hi i1 es hw h2 h3 Jw a1 a2 a3 post hp
      · exact sa_XRt hi i1 es hw (by rw [eo]; exact sa_ne_m1 (by omega)) (by rw [eo]; exact nI_lt hT (by omega)) Tw a1 a2 a3 post hp
    · exact ⟨fun _ => hp, fun z => absurd z es, fun z => absurd z es⟩
end
section
/-! jobs: what holds of them; an attempt ends -/
def sa_sum (N : Nat → Nat) : Nat → Nat
  | 0 => 0
  | k + 1 => sa_sum N k + N k
theorem sa_sum_le {N : Nat → Nat} {c : Nat} : ∀ k, (∀ j, j < k → N j ≤ c) → sa_sum N k ≤ c * k := by
  intro k
  induction k with
  | zero => intro _; exact Nat.zero_le _
  | succ k ih =>
    intro h
    have h1 := ih (fun j hj => h j (by omega))
    have h2 := h k (by omega)
    show sa_sum N k + N k ≤ c * (k + 1)
    rw [Nat.mul_succ]
    omega
theorem sa_sum_eq {N M : Nat → Nat} : ∀ k, (∀ j, j < k → N j = M j) → sa_sum N k = sa_sum M k := by
  intro k
  induction k with
  | zero => intro _; rfl
  | succ k ih =>
    intro h
    show sa_sum N k + N k = sa_sum M k + M k
    rw [ih (fun j hj => h j (by omega)), h k (by omega)]
theorem sa_sum_up {N : Nat → Nat} {q : Nat} : ∀ k, q < k → sa_sum (fun j => if j = q then N q + 1 else N j) k = sa_sum N k + 1 := by
  intro k
  induction k with
  | zero => intro h; omega
  | succ k ih =>
    intro h
    show sa_sum (fun j => if j = q then N q + 1 else N j) k + (if k = q then N q + 1 else N k) = sa_sum N k + N k + 1
    by_cases e : k = q
    · subst e
      rw [if_pos rfl, sa_sum_eq (M := N) k (fun j hj => if_neg (by omega))]
      omega
    · rw [if_neg e, ih (by omega)]
      omega
/-- the settings -/
def sa_VA (P : sa_P) : Prop := match P with | (ns, kd, p1, p2, p3, ac) => ∀ a, a < 4 → (∃ d, 1 ≤ d ∧ d ≤ 9 ∧ ac (7 * a) = nI d) ∧ (∃ w, 1 ≤ w ∧ w ≤ 3 ∧ ac (7 * a + 1) = nI w) ∧ (∃ r, 1 ≤ r ∧ r ≤ 4 ∧ ac (7 * a + 2) = nI r) ∧ (∃ d, d ≤ 9 ∧ ac (7 * a + 3) = nI d) ∧ (∃ f, f ≤ 4 ∧ ac (7 * a + 4) = nI f)
/-- one job -/
def sa_vj (ac : Nat → Int32) (t : Nat) (a n s m : Int32) (N T : Nat) : Prop :=
  (∃ A R, A < 4 ∧ a = nI A ∧ R ≤ 4 ∧ ac (7 * A + 2) = nI R ∧ N ≤ R ∧ ((s = 0 ∨ s = 1) → N < R)) ∧ n = nI N ∧ m = nI T ∧ T ≤ t + 100 ∧ (s = 0 ∨ s = 1 ∨ s = 2 ∨ s = 3)
def sa_VJ (P : sa_P) (t : Nat) (J : sa_J) : Prop := match P, J with
  | (ns, kd, p1, p2, p3, ac), (jc, ja, ji, jn, js, jt, tc, tj, tt) => jc ≤ 90 ∧ ∃ N T : Nat → Nat, (∀ j, j < jc → sa_vj ac t (ja j) (jn j) (js j) (jt j) (N j) (T j)) ∧ tc = sa_sum N jc
theorem sa_vj4 {ac : Nat → Int32} {t : Nat} {a n s m : Int32} {N T : Nat} (h : sa_vj ac t a n s m N T) : N ≤ 4 := by
  obtain ⟨⟨A, R, _, _, h1, _, h2, _⟩, _⟩ := h
  omega
theorem sa_VJa {P : sa_P} {t : Nat} {J : sa_J} (V : sa_VJ P t J) : sa_Ja J := by
  obtain ⟨ns, kd, p1, p2, p3, ac⟩ := P
  obtain ⟨jc, ja, ji, jn, js, jt, tc, tj, tt⟩ := J
  obtain ⟨h9, N, T, h, _⟩ := V
  refine ⟨h9, fun j hj => ?_⟩
  obtain ⟨⟨A, R, h1, h2, _⟩, _⟩ := h j hj
  exact ⟨A, h1, h2⟩
theorem sa_VJt {P : sa_P} {t t' : Nat} {J : sa_J} (h : t ≤ t') (V : sa_VJ P t J) : sa_VJ P t' J := by
  obtain ⟨ns, kd, p1, p2, p3, ac⟩ := P
  obtain ⟨jc, ja, ji, jn, js, jt, tc, tj, tt⟩ := J
  obtain ⟨h9, N, T, h1, h2⟩ := V
  refine ⟨h9, N, T, fun j hj => ?_, h2⟩
  obtain ⟨a, b, c, d, e⟩ := h1 j hj
  exact ⟨a, b, c, by omega, e⟩
theorem sa_VJn {P : sa_P} {t : Nat} {J : sa_J} {q x : Int32} (VA : sa_VA P) (hj : sa_jc J < 90) (hq : ∃ a, a < 4 ∧ q = nI a) (V : sa_VJ P t J) : sa_VJ P t (sa_Jn t J q x) := by
  obtain ⟨ns, kd, p1, p2, p3, ac⟩ := P
  obtain ⟨jc, ja, ji, jn, js, jt, tc, tj, tt⟩ := J
  obtain ⟨h9, N, T, h1, h2⟩ := V
  have hj' : jc < 90 := hj
  refine ⟨hj', fun j => if j = jc then 0 else N j, fun j => if j = jc then t else T j, fun j hj => ?_, ?_⟩
  · by_cases e : j = jc
    · subst e
      simp only [pk_us, if_pos]
      obtain ⟨a, ha, ea⟩ := hq
      obtain ⟨_, _, ⟨r, r1, r2, r3⟩, _⟩ := VA a ha
      exact ⟨⟨a, r, ha, ea, r2, r3, Nat.zero_le _, fun _ => r1⟩, rfl, rfl, by omega, Or.inl rfl⟩
    · simp only [pk_un e, if_neg e]
      exact h1 j (by omega)
  · show tc = sa_sum (fun j => if j = jc then 0 else N j) jc + (if jc = jc then 0 else N jc)
    rw [if_pos rfl, sa_sum_eq (M := N) jc (fun j hj => if_neg (by omega)), h2]
    rfl
theorem sa_VJx {P : sa_P} {t : Nat} (VA : sa_VA P) : ∀ (n : Nat) (J J' : sa_J), sa_Jx t n J J' → sa_jc J + n ≤ 90 → sa_VJ P t J → sa_VJ P t J' := by
  intro n
  induction n with
  | zero =>
    intro J J' h _ A
    cases h
    exact A
  | succ n ih =>
    intro J J' h hn A
    obtain ⟨q, x, hq, h⟩ := h
    exact ih _ _ h (by rw [sa_jcN]; omega) (sa_VJn VA (by omega) hq A)
/-- the attempt of job j ends, if its time has come -/
def sa_EA (P : sa_P) (t : Nat) (J : sa_J) (j : Nat) (J' : sa_J) : Prop := match P, J with
  | (ns, kd, p1, p2, p3, ac), (jc, ja, ji, jn, js, jt, tc, tj, tt) => (¬ (js j = 1 ∧ jt j = nI t) ∧ J' = (jc, ja, ji, jn, js, jt, tc, tj, tt))
    ∨ ((js j = 1 ∧ jt j = nI t) ∧ tc < 360 ∧ ∃ A N D F R, (A < 4 ∧ N < 4 ∧ D ≤ 9 ∧ F ≤ 4 ∧ R ≤ 4) ∧ (ja j = nI A ∧ jn j = nI N ∧ ac (7 * A + 3) = nI D ∧ ac (7 * A + 4) = nI F ∧ ac (7 * A + 2) = nI R) ∧
      ((F < N + 1 ∧ J' = (jc, ja, ji, upd jn j (nI (N + 1)), upd js j 2, jt, tc + 1, upd tj tc (nI j), upd tt tc (nI t)))
      ∨ (N + 1 ≤ F ∧ N + 1 = R ∧ J' = (jc, ja, ji, upd jn j (nI (N + 1)), upd js j 3, jt, tc + 1, upd tj tc (nI j), upd tt tc (nI t)))
      ∨ (N + 1 ≤ F ∧ N + 1 ≠ R ∧ J' = (jc, ja, ji, upd jn j (nI (N + 1)), upd js j 0, upd jt j (nI (t + D * 2 ^ N)), tc + 1, upd tj tc (nI j), upd tt tc (nI t)))))
/-- running jobs end later -/
def sa_Rn (t : Nat) (J : sa_J) (k : Nat) : Prop := match J with | (jc, ja, ji, jn, js, jt, tc, tj, tt) => ∀ j, j < k → js j = 1 → ∃ T, t < T ∧ T ≤ t + 100 ∧ jt j = nI T
theorem sa_EAe {P : sa_P} {t : Nat} {J : sa_J} {j : Nat} (VA : sa_VA P) (ht : t < 1000000) (hj : j < sa_jc J) (V : sa_VJ P t J) : ∃ J', sa_EA P t J j J' ∧ sa_VJ P t J' ∧ sa_jc J' = sa_jc J ∧ (match J, J' with | (jc, ja, ji, jn, js, jt, tc, tj, tt), (jc', ja', ji', jn', js', jt', tc', tj', tt') => (∀ k, k ≠ j → js' k = js k ∧ jt' k = jt k) ∧ (js' j = 1 → js j = 1 ∧ jt' j = jt j ∧ jt j ≠ nI t)) := by
  obtain ⟨ns, kd, p1, p2, p3, ac⟩ := P
  obtain ⟨jc, ja, ji, jn, js, jt, tc, tj, tt⟩ := J
  have hj' : j < jc := hj
  have V0 := V
  obtain ⟨h9, N, T, h1, h2⟩ := V
  by_cases e : js j = 1 ∧ jt j = nI t
  · obtain ⟨⟨A, R, hA, eA, hR, eR, hN, hs⟩, en, em, hT, _⟩ := h1 j hj'
    have hlt := hs (Or.inr e.1)
    obtain ⟨_, _, _, ⟨D, hD, eD⟩, F, hF, eF⟩ := VA A hA
    have htc : tc < 360 := by
      have hu := sa_sum_up (N := N) jc hj'
      have hb := sa_sum_le (N := fun k => if k = j then N j + 1 else N k) (c := 4) jc (fun k hk => by
        by_cases ek : k = j
        · subst ek
          show (if k = k then N k + 1 else N k) ≤ 4
          rw [if_pos rfl]
          omega
        · show (if k = j then N j + 1 else N k) ≤ 4
          rw [if_neg ek]
          exact sa_vj4 (h1 k hk))
      rw [hu] at hb
      omega
    have key : ∀ (s' : Int32) (jt' : Nat → Int32) (T' : Nat), (s' = 0 ∨ s' = 2 ∨ s' = 3) → (s' = 0 → N j + 1 < R) → (∀ k, k ≠ j → jt' k = jt k) → jt' j = nI T' → T' ≤ t + 100 →
        sa_VJ (ns, kd, p1, p2, p3, ac) t (jc, ja, ji, upd jn j (nI (N j + 1)), upd js j s', jt', tc + 1, upd tj tc (nI j), upd tt tc (nI t)) := by
      intro s' jt' T' hs' hr hjt ejt hT'
      refine ⟨h9, fun k => if k = j then N j + 1 else N k, fun k => if k = j then T' else T k, fun k hk => ?_, ?_⟩
      · by_cases ek : k = j
        · subst ek
          simp only [pk_us, if_pos]
          refine ⟨⟨A, R, hA, eA, hR, eR, by omega, fun z => ?_⟩, rfl, ejt, hT', ?_⟩
          · rcases z with z | z
            · exact hr z
            · rcases hs' with q | q | q
              · exact absurd (q.symm.trans z) (by decide)
              · exact absurd (q.symm.trans z) (by decide)
              · exact absurd (q.symm.trans z) (by decide)
          · rcases hs' with q | q | q
            · exact Or.inl q
            · exact Or.inr (Or.inr (Or.inl q))
            · exact Or.inr (Or.inr (Or.inr q))
        · simp only [pk_un ek, if_neg ek, hjt k ek]
          exact h1 k hk
      · rw [sa_sum_up jc hj', h2]
    by_cases c1 : F < N j + 1
    · refine ⟨_, Or.inr ⟨e, htc, A, N j, D, F, R, ⟨hA, by omega, hD, hF, hR⟩, ⟨eA, en, eD, eF, eR⟩, Or.inl ⟨c1, rfl⟩⟩, key 2 jt (T j) (Or.inr (Or.inl rfl)) (fun z => absurd z (by decide)) (fun _ _ => rfl) em hT, rfl, fun k hk => ⟨pk_un hk, rfl⟩, fun z => ?_⟩
      rw [pk_us] at z
      exact absurd z (by decide)
    · by_cases c2 : N j + 1 = R
      · refine ⟨_, Or.inr ⟨e, htc, A, N j, D, F, R, ⟨hA, by omega, hD, hF, hR⟩, ⟨eA, en, eD, eF, eR⟩, Or.inr (Or.inl ⟨by omega, c2, rfl⟩)⟩, key 3 jt (T j) (Or.inr (Or.inr rfl)) (fun z => absurd z (by decide)) (fun _ _ => rfl) em hT, rfl, fun k hk => ⟨pk_un hk, rfl⟩, fun z => ?_⟩
        rw [pk_us] at z
        exact absurd z (by decide)
      · have hp : D * 2 ^ N j ≤ 72 := by
          have h8 : 2 ^ N j ≤ 8 := Nat.le_trans (Nat.pow_le_pow_right (by omega) (show N j ≤ 3 by omega)) (by decide)
          calc D * 2 ^ N j ≤ 9 * 8 := Nat.mul_le_mul hD h8
            _ = 72 := rfl
        refine ⟨_, Or.inr ⟨e, htc, A, N j, D, F, R, ⟨hA, by omega, hD, hF, hR⟩, ⟨eA, en, eD, eF, eR⟩, Or.inr (Or.inr ⟨by omega, c2, rfl⟩)⟩, key 0 (upd jt j (nI (t + D * 2 ^ N j))) (t + D * 2 ^ N j) (Or.inl rfl) (fun _ => by omega) (fun k hk => pk_un hk) pk_us (by omega), rfl, fun k hk => ⟨pk_un hk, pk_un hk⟩, fun z => ?_⟩
        rw [pk_us] at z
        exact absurd z (by decide)
  · exact ⟨_, Or.inl ⟨e, rfl⟩, V0, rfl, fun k hk => ⟨rfl, rfl⟩, fun z => ⟨z, rfl, fun z' => e ⟨z, z'⟩⟩⟩
end
section
/-! attempts end, in both -/
theorem sa_sh1 : ∀ N, N < 4 → (((nI N) &&& 31).toBitVec.smod 32).toNat = N := by decide
theorem sa_shl {D N : Nat} (hD : D ≤ 9) (hN : N < 4) : nI D <<< (nI N &&& 31) = nI (D * 2 ^ N) := by
  have e : ((nI D <<< (nI N &&& 31)).toBitVec) = (nI D).toBitVec <<< ((nI N &&& 31).toBitVec.smod 32).toNat := rfl
  rw [sa_sh1 N hN] at e
  apply Int32.toBitVec_inj.mp
  rw [e]
  apply BitVec.eq_of_toNat_eq
  have h8 : D * 2 ^ N < 2 ^ 32 := by
    have h8 : 2 ^ N ≤ 8 := Nat.le_trans (Nat.pow_le_pow_right (by omega) (show N ≤ 3 by omega)) (by decide)
    have : D * 2 ^ N ≤ 9 * 8 := Nat.mul_le_mul hD h8
    omega
  rw [BitVec.toNat_shiftLeft, pk_tn (by omega), pk_tn h8, Nat.shiftLeft_eq, Nat.mod_eq_of_lt h8]
theorem sa_shl1 {D N : Nat} (hD : D ≤ 9) (hN : N < 4) : nI D * ((1 : Int32) <<< (nI N &&& 31)) = nI (D * 2 ^ N) := by
  have := sa_shl (D := 1) (N := N) (by omega) hN
  rw [Nat.one_mul] at this
  rw [show (1 : Int32) = nI 1 from rfl, this, pk_mul]
section
variable {xhe : Int32} {xss xsv xak xaj xgc xgk xgn xhs xhg xhn xou xah xst xpl xft xev xdn xus xis xvr xhd xtk xpd xpa xpi xun xwj : Nat → Int32} {ns : Nat} {kd p1 p2 p3 ac : Nat → Int32} {jc tc : Nat} {ja ji jn js jt tj tt : Nat → Int32} {t j A N D F R : Nat} {post : SX → Prop}
theorem sa_xe1 (hj : j < 90) (hc : tc < 360) (hA : A < 4) (hN : N < 4) (eA : ja j = nI A) (eN : jn j = nI N) (eF : ac (7 * A + 4) = nI F) (hF : F ≤ 4) (h : F < N + 1) (K : post (nI ns, nI t, nI jc, nI (tc + 1), xhe, kd, p1, p2, p3, ac, ja, ji, upd jn j (nI (N + 1)), upd js j 2, jt, upd tj tc (nI j), upd tt tc (nI t), xss, xsv, xak, xaj, xgc, xgk, xgn, xhs, xhg, xhn, xou, xah, xst, xpl, xft, xev, xdn, xus, xis, xvr, xhd, xtk, xpd, xpa, xpi, xun, xwj)) : wpX_endAttempt post (nI ns, nI t, nI jc, nI tc, xhe, kd, p1, p2, p3, ac, ja, ji, jn, js, jt, tj, tt, xss, xsv, xak, xaj, xgc, xgk, xgn, xhs, xhg, xhn, xou, xah, xst, xpl, xft, xev, xdn, xus, xis, xvr, xhd, xtk, xpd, xpa, xpi, xun, xwj) (nI j) := by
  have f1 : ¬ N + 1 ≤ F := by omega
  simp (disch := omega) only [wpX_endAttempt, wpX_setting, sa_in, nI_clamp, nI_1, nI_add, sa_p2, sa_p3, sa_p4, sa_m7, forall_eq, pk_us, true_and, and_true, true_implies, not_true_eq_false, not_false_eq_true, false_implies, eq_self, nI_leI, nI_eq, nI_pred, eA, eN, eF, f1]
  exact K
theorem sa_xe2 (hj : j < 90) (hc : tc < 360) (hA : A < 4) (hN : N < 4) (eA : ja j = nI A) (eN : jn j = nI N) (eF : ac (7 * A + 4) = nI F) (hF : F ≤ 4) (eR : ac (7 * A + 2) = nI R) (hR : R ≤ 4) (h : N + 1 ≤ F) (h2 : N + 1 = R) (K : post (nI ns, nI t, nI jc, nI (tc + 1), xhe, kd, p1, p2, p3, ac, ja, ji, upd jn j (nI (N + 1)), upd js j 3, jt, upd tj tc (nI j), upd tt tc (nI t), xss, xsv, xak, xaj, xgc, xgk, xgn, xhs, xhg, xhn, xou, xah, xst, xpl, xft, xev, xdn, xus, xis, xvr, xhd, xtk, xpd, xpa, xpi, xun, xwj)) : wpX_endAttempt post (nI ns, nI t, nI jc, nI tc, xhe, kd, p1, p2, p3, ac, ja, ji, jn, js, jt, tj, tt, xss, xsv, xak, xaj, xgc, xgk, xgn, xhs, xhg, xhn, xou, xah, xst, xpl, xft, xev, xdn, xus, xis, xvr, xhd, xtk, xpd, xpa, xpi, xun, xwj) (nI j) := by
  subst h2
  simp (disch := omega) only [wpX_endAttempt, wpX_setting, sa_in, nI_clamp, nI_1, nI_add, sa_p2, sa_p3, sa_p4, sa_m7, forall_eq, pk_us, true_and, and_true, true_implies, not_true_eq_false, not_false_eq_true, false_implies, eq_self, nI_leI, nI_eq, nI_pred, eA, eN, eF, eR, h]
  exact K
theorem sa_xe3 (hj : j < 90) (hc : tc < 360) (hA : A < 4) (hN : N < 4) (eA : ja j = nI A) (eN : jn j = nI N) (eF : ac (7 * A + 4) = nI F) (hF : F ≤ 4) (eR : ac (7 * A + 2) = nI R) (hR : R ≤ 4) (h : N + 1 ≤ F) (h2 : N + 1 ≠ R) (eD : ac (7 * A + 3) = nI D) (hD : D ≤ 9) (K : post (nI ns, nI t, nI jc, nI (tc + 1), xhe, kd, p1, p2, p3, ac, ja, ji, upd jn j (nI (N + 1)), upd js j 0, upd jt j (nI (t + D * 2 ^ N)), upd tj tc (nI j), upd tt tc (nI t), xss, xsv, xak, xaj, xgc, xgk, xgn, xhs, xhg, xhn, xou, xah, xst, xpl, xft, xev, xdn, xus, xis, xvr, xhd, xtk, xpd, xpa, xpi, xun, xwj)) : wpX_endAttempt post (nI ns, nI t, nI jc, nI tc, xhe, kd, p1, p2, p3, ac, ja, ji, jn, js, jt, tj, tt, xss, xsv, xak, xaj, xgc, xgk, xgn, xhs, xhg, xhn, xou, xah, xst, xpl, xft, xev, xdn, xus, xis, xvr, xhd, xtk, xpd, xpa, xpi, xun, xwj) (nI j) := by
  have f2 : ¬ N + 1 = R := h2
  simp (disch := omega) only [wpX_endAttempt, wpX_setting, sa_in, nI_clamp, nI_1, nI_add, sa_p2, sa_p3, sa_p4, sa_m7, forall_eq, pk_us, true_and, and_true, true_implies, not_true_eq_false, not_false_eq_true, false_implies, eq_self, nI_leI, nI_eq, nI_pred, eA, eN, eF, eR, eD, h, f2, sa_shl hD hN]
  exact K
end
def sa_XH (post : SX → Prop) (n j : Nat) (u : SX) : Prop := match u with | (xns, xnow, xjc, xtc, xhe, xkd, xp1, xp2, xp3, xac, xja, xji, xjn, xjs, xjt, xtj, xtt, xss, xsv, xak, xaj, xgc, xgk, xgn, xhs, xhg, xhn, xou, xah, xst, xpl, xft, xev, xdn, xus, xis, xvr, xhd, xtk, xpd, xpa, xpi, xun, xwj) => wX_happen_2 post n (nI j) xns xnow xjc xtc xhe xkd xp1 xp2 xp3 xac xja xji xjn xjs xjt xtj xtt xss xsv xak xaj xgc xgk xgn xhs xhg xhn xou xah xst xpl xft xev xdn xus xis xvr xhd xtk xpd xpa xpi xun xwj
def sa_AllX (u u' : SX) : Prop := ∀ i, i < 3 → sa_Ss i u u' ∧ sa_AX i u u'
def sa_AllY (v v' : SY) : Prop := ∀ i, i < 3 → sa_AY i v v'
theorem sa_AllXt {u v w : SX} (A : sa_AllX u v) (B : sa_AllX v w) : sa_AllX u w := by
  intro i hi
  refine ⟨?_, sa_AXt (A i hi).2 (B i hi).2⟩
  have a := (A i hi).1
  have b := (B i hi).1
  obtain ⟨xns, xnow, xjc, xtc, xhe, xkd, xp1, xp2, xp3, xac, xja, xji, xjn, xjs, xjt, xtj, xtt, xss, xsv, xak, xaj, xgc, xgk, xgn, xhs, xhg, xhn, xou, xah, xst, xpl, xft, xev, xdn, xus, xis, xvr, xhd, xtk, xpd, xpa, xpi, xun, xwj⟩ := u
  obtain ⟨xns', xnow', xjc', xtc', xhe', xkd', xp1', xp2', xp3', xac', xja', xji', xjn', xjs', xjt', xtj', xtt', xss', xsv', xak', xaj', xgc', xgk', xgn', xhs', xhg', xhn', xou', xah', xst', xpl', xft', xev', xdn', xus', xis', xvr', xhd', xtk', xpd', xpa', xpi', xun', xwj'⟩ := v
  obtain ⟨xns2, xnow2, xjc2, xtc2, xhe2, xkd2, xp12, xp22, xp32, xac2, xja2, xji2, xjn2, xjs2, xjt2, xtj2, xtt2, xss2, xsv2, xak2, xaj2, xgc2, xgk2, xgn2, xhs2, xhg2, xhn2, xou2, xah2, xst2, xpl2, xft2, xev2, xdn2, xus2, xis2, xvr2, xhd2, xtk2, xpd2, xpa2, xpi2, xun2, xwj2⟩ := w
  exact ⟨b.1.trans a.1, b.2.trans a.2⟩
theorem sa_AllXr {u : SX} : sa_AllX u u := by
  obtain ⟨xns, xnow, xjc, xtc, xhe, xkd, xp1, xp2, xp3, xac, xja, xji, xjn, xjs, xjt, xtj, xtt, xss, xsv, xak, xaj, xgc, xgk, xgn, xhs, xhg, xhn, xou, xah, xst, xpl, xft, xev, xdn, xus, xis, xvr, xhd, xtk, xpd, xpa, xpi, xun, xwj⟩ := u
  exact fun i _ => ⟨⟨rfl, rfl⟩, rfl, rfl, fun _ _ => rfl, rfl, fun _ _ => rfl, fun _ _ => rfl, rfl, fun _ _ => rfl, fun _ _ => rfl, rfl, rfl, rfl, rfl, rfl, rfl, rfl, rfl, fun _ _ => rfl, fun _ _ => rfl, fun _ _ => rfl, rfl, fun _ _ => rfl, fun _ _ => rfl, rfl, rfl⟩
theorem sa_AYt {i : Nat} {v v1 v' : SY} (p : sa_AY i v v1) (q : sa_AY i v1 v') : sa_AY i v v' := by
  obtain ⟨yns, ynow, yjc, ytc, yac, ysp, yja, yji, yjn, yhw, ywn, ytj, ytt, yst, ypl, ydn, yak, ywt, yun, yrs, yvr, yhd, ypa, ypi, ypd, ygs, ygn, ygc⟩ := v
  obtain ⟨yns', ynow', yjc', ytc', yac', ysp', yja', yji', yjn', yhw', ywn', ytj', ytt', yst', ypl', ydn', yak', ywt', yun', yrs', yvr', yhd', ypa', ypi', ypd', ygs', ygn', ygc'⟩ := v1
  obtain ⟨yns2, ynow2, yjc2, ytc2, yac2, ysp2, yja2, yji2, yjn2, yhw2, ywn2, ytj2, ytt2, yst2, ypl2, ydn2, yak2, ywt2, yun2, yrs2, yvr2, yhd2, ypa2, ypi2, ypd2, ygs2, ygn2, ygc2⟩ := v'
  obtain ⟨p1, p2, p3, p4, p5, p6, p7, p8, p9, p10, p11, p12, p13, p14, p15⟩ := p
  obtain ⟨q1, q2, q3, q4, q5, q6, q7, q8, q9, q10, q11, q12, q13, q14, q15⟩ := q
  exact ⟨q1.trans p1, q2.trans p2, q3.trans p3, q4.trans p4, q5.trans p5, q6.trans p6, q7.trans p7, fun k hk => (q8 k hk).trans (p8 k hk), fun k hk => (q9 k hk).trans (p9 k hk), fun k hk => (q10 k hk).trans (p10 k hk), fun k hk => (q11 k hk).trans (p11 k hk), q12.trans p12, fun k hk => (q13 k hk).trans (p13 k hk), fun k hk => (q14 k hk).trans (p14 k hk), q15.trans p15⟩
theorem sa_AllYr {v : SY} : sa_AllY v v := by
  obtain ⟨yns, ynow, yjc, ytc, yac, ysp, yja, yji, yjn, yhw, ywn, ytj, ytt, yst, ypl, ydn, yak, ywt, yun, yrs, yvr, yhd, ypa, ypi, ypd, ygs, ygn, ygc⟩ := v
  exact fun i _ => ⟨rfl, rfl, rfl, rfl, rfl, rfl, rfl, fun _ _ => rfl, fun _ _ => rfl, fun _ _ => rfl, fun _ _ => rfl, rfl, fun _ _ => rfl, fun _ _ => rfl, rfl⟩
theorem sa_xea {t j : Nat} {P : sa_P} {J J' : sa_J} {u : SX} (hj : j < sa_jc J) (W : sa_WX P t J u) (E : sa_EA P t J j J') :
    ∃ u', sa_WX P t J' u' ∧ sa_AllX u u' ∧ ∀ post n, sa_XH post n (j + 1) u' → sa_XH post (n + 1) j u := by
  revert hj E
  refine sa_WXi (C := fun P J u => j < sa_jc J → sa_EA P t J j J' → ∃ u', sa_WX P t J' u' ∧ sa_AllX u u' ∧ ∀ post n, sa_XH post n (j + 1) u' → sa_XH post (n + 1) j u) W ?_
  intro ns jc tc xhe kd p1 p2 p3 ac ja ji jn js jt tj tt xss xsv xak xaj xgc xgk xgn xhs xhg xhn xou xah xst xpl xft xev xdn xus xis xvr xhd xtk xpd xpa xpi xun xwj W hj E
  have W0 := W
  obtain ⟨⟨w1, w2, w3, w4⟩, _⟩ := W
  have hj' : j < jc := hj
  have hc : ¬ nI jc ≤ nI j := nI_ge hj' (by omega)
  have hv : vp_in (nI j) 90 := vp_in_nI (by omega) (by decide)
  have hcl : (nI j).toNatClampNeg = j := nI_clamp (by omega)
  rcases E with ⟨e, rfl⟩ | ⟨⟨e1, e2⟩, htc, A, N, D, F, R, ⟨hA, hN, hD, hF, hR⟩, ⟨eA, eN, eD, eF, eR⟩, E⟩
  · refine ⟨(nI ns, nI t, nI jc, nI tc, xhe, kd, p1, p2, p3, ac, ja, ji, jn, js, jt, tj, tt, xss, xsv, xak, xaj, xgc, xgk, xgn, xhs, xhg, xhn, xou, xah, xst, xpl, xft, xev, xdn, xus, xis, xvr, xhd, xtk, xpd, xpa, xpi, xun, xwj), W0, sa_AllXr, fun post n K => ?_⟩
    refine br_f hc (And.intro hv ?_)
    rw [hcl, nI_1]
    refine br_c (fun a => And.intro hv (br_f (fun b => e ⟨a, b⟩) (nm_e K))) (fun a => nm_e K)
  · have go : ∀ u' : SX, (∀ post : SX → Prop, post u' → wpX_endAttempt post (nI ns, nI t, nI jc, nI tc, xhe, kd, p1, p2, p3, ac, ja, ji, jn, js, jt, tj, tt, xss, xsv, xak, xaj, xgc, xgk, xgn, xhs, xhg, xhn, xou, xah, xst, xpl, xft, xev, xdn, xus, xis, xvr, xhd, xtk, xpd, xpa, xpi, xun, xwj) (nI j)) → ∀ post n, sa_XH post n (j + 1) u' → sa_XH post (n + 1) j (nI ns, nI t, nI jc, nI tc, xhe, kd, p1, p2, p3, ac, ja, ji, jn, js, jt, tj, tt, xss, xsv, xak, xaj, xgc, xgk, xgn, xhs, xhg, xhn, xou, xah, xst, xpl, xft, xev, xdn, xus, xis, xvr, xhd, xtk, xpd, xpa, xpi, xun, xwj) := by
      intro u' T post n K
      refine br_f hc (And.intro hv ?_)
      rw [hcl]
      refine br_t e1 (And.intro hv (br_t e2 (T _ ?_)))
      obtain ⟨xns', xnow', xjc', xtc', xhe', xkd', xp1', xp2', xp3', xac', xja', xji', xjn', xjs', xjt', xtj', xtt', xss', xsv', xak', xaj', xgc', xgk', xgn', xhs', xhg', xhn', xou', xah', xst', xpl', xft', xev', xdn', xus', xis', xvr', xhd', xtk', xpd', xpa', xpi', xun', xwj'⟩ := u'
      rw [nI_1]
      exact nm_e K
    rcases E with ⟨h, rfl⟩ | ⟨h, h2, rfl⟩ | ⟨h, h2, rfl⟩
    · exact ⟨_, ⟨⟨w1, w2, w3, by omega⟩, rfl, rfl, rfl, rfl, rfl, rfl, rfl, rfl, rfl, rfl, rfl, rfl, rfl, rfl, rfl, rfl⟩, fun i _ => ⟨⟨rfl, rfl⟩, rfl, rfl, fun _ _ => rfl, rfl, fun _ _ => rfl, fun _ _ => rfl, rfl, fun _ _ => rfl, fun _ _ => rfl, rfl, rfl, rfl, rfl, rfl, rfl, rfl, rfl, fun _ _ => rfl, fun _ _ => rfl, fun _ _ => rfl, rfl, fun _ _ => rfl, fun _ _ => rfl, rfl, rfl⟩, go _ (fun post K => sa_xe1 (by omega) htc hA hN eA eN eF hF h K)⟩
    · exact ⟨_, ⟨⟨w1, w2, w3, by omega⟩, rfl, rfl, rfl, rfl, rfl, rfl, rfl, rfl, rfl, rfl, rfl, rfl, rfl, rfl, rfl, rfl⟩, fun i _ => ⟨⟨rfl, rfl⟩, rfl, rfl, fun _ _ => rfl, rfl, fun _ _ => rfl, fun _ _ => rfl, rfl, fun _ _ => rfl, fun _ _ => rfl, rfl, rfl, rfl, rfl, rfl, rfl, rfl, rfl, fun _ _ => rfl, fun _ _ => rfl, fun _ _ => rfl, rfl, fun _ _ => rfl, fun _ _ => rfl, rfl, rfl⟩, go _ (fun post K => sa_xe2 (by omega) htc hA hN eA eN eF hF eR hR h h2 K)⟩
    · exact ⟨_, ⟨⟨w1, w2, w3, by omega⟩, rfl, rfl, rfl, rfl, rfl, rfl, rfl, rfl, rfl, rfl, rfl, rfl, rfl, rfl, rfl, rfl⟩, fun i _ => ⟨⟨rfl, rfl⟩, rfl, rfl, fun _ _ => rfl, rfl, fun _ _ => rfl, fun _ _ => rfl, rfl, fun _ _ => rfl, fun _ _ => rfl, rfl, rfl, rfl, rfl, rfl, rfl, rfl, rfl, fun _ _ => rfl, fun _ _ => rfl, fun _ _ => rfl, rfl, fun _ _ => rfl, fun _ _ => rfl, rfl, rfl⟩, go _ (fun post K => sa_xe3 (by omega) htc hA hN eA eN eF hF eR hR h h2 eD hD K)⟩
/-! the reference -/
def sa_YE (post : SY → Prop) (n j : Nat) (v : SY) : Prop := match v with | (yns, ynow, yjc, ytc, yac, ysp, yja, yji, yjn, yhw, ywn, ytj, ytt, yst, ypl, ydn, yak, ywt, yun, yrs, yvr, yhd, ypa, ypi, ypd, ygs, ygn, ygc) => wY_endAttempts_2 post yns ynow yjc n (nI j) ytc yac ysp yja yji yjn yhw ywn ytj ytt yst ypl ydn yak ywt yun yrs yvr yhd ypa ypi ypd ygs ygn ygc
theorem sa_hwu {jc j t : Nat} {js jt yhw ywn js' jt' yhw' ywn' : Nat → Int32} (z2 : ∀ k, k < jc → sa_hw (js k) (jt k) t (yhw k) (ywn k)) (h1 : ∀ k, k ≠ j → js' k = js k ∧ jt' k = jt k ∧ yhw' k = yhw k ∧ ywn' k = ywn k) (h2 : sa_hw (js' j) (jt' j) t (yhw' j) (ywn' j)) : ∀ k, k < jc → sa_hw (js' k) (jt' k) t (yhw' k) (ywn' k) := by
  intro k hk
  by_cases e : k = j
  · subst e
    exact h2
  · obtain ⟨a, b, c, d⟩ := h1 k e
    rw [a, b, c, d]
    exact z2 k hk
theorem sa_yea {t j : Nat} {P : sa_P} {J J' : sa_J} {v : SY} (hj : j < sa_jc J) (W : sa_WY P t J v) (E : sa_EA P t J j J') :
    ∃ v', sa_WY P t J' v' ∧ sa_AllY v v' ∧ ∀ post n, sa_YE post n (j + 1) v' → sa_YE post (n + 1) j v := by
  revert hj E
  refine sa_WYi (C := fun P J v => j < sa_jc J → sa_EA P t J j J' → ∃ v', sa_WY P t J' v' ∧ sa_AllY v v' ∧ ∀ post n, sa_YE post n (j + 1) v' → sa_YE post (n + 1) j v) W ?_
  intro ns jc tc kd p1 p2 p3 ac ja ji jn js jt tj tt ysp yhw ywn yst ypl ydn yak ywt yun yrs yvr yhd ypa ypi ypd ygs ygn ygc W hj E
  have W0 := W
  obtain ⟨⟨w1, w2, w3, w4⟩, _, _, _, _, _, _, _, _, _, _, z1, z2⟩ := W
  have hj' : j < jc := hj
  have hc : ¬ nI jc ≤ nI j := nI_ge hj' (by omega)
  have hv : vp_in (nI j) 90 := vp_in_nI (by omega) (by decide)
  have hcl : (nI j).toNatClampNeg = j := nI_clamp (by omega)
  have zj := z2 j hj'
  rcases E with ⟨e, rfl⟩ | ⟨⟨e1, e2⟩, htc, A, N, D, F, R, ⟨hA, hN, hD, hF, hR⟩, ⟨eA, eN, eD, eF, eR⟩, E⟩
  · refine ⟨(nI ns, nI t, nI jc, nI tc, ac, ysp, ja, ji, jn, yhw, ywn, tj, tt, yst, ypl, ydn, yak, ywt, yun, yrs, yvr, yhd, ypa, ypi, ypd, ygs, ygn, ygc), W0, sa_AllYr, fun post n K => ?_⟩
    refine br_f hc (And.intro hv ?_)
    rw [hcl, nI_1 j]
    refine br_c (fun a => And.intro hv (br_f (fun b => e ?_) (nm_e K))) (fun a => nm_e K)
    rcases zj with ⟨x, y | ⟨y, _⟩, z⟩ | ⟨x, y, z⟩ | ⟨x, y⟩ | ⟨x, y⟩
    · exact absurd (y.symm.trans a) (by decide)
    · exact absurd (y.symm.trans a) (by decide)
    · exact ⟨x, z.symm.trans b⟩
    · exact absurd (y.symm.trans a) (by decide)
    · exact absurd (y.symm.trans a) (by decide)
  · obtain ⟨g1, g2⟩ : yhw j = 2 ∧ ywn j = nI t := by
      rcases zj with ⟨x, _⟩ | ⟨x, y, z⟩ | ⟨x, y⟩ | ⟨x, y⟩
      · exact absurd (x.symm.trans e1) (by decide)
      · exact ⟨y, z.trans e2⟩
      · exact absurd (x.symm.trans e1) (by decide)
      · exact absurd (x.symm.trans e1) (by decide)
    rcases E with ⟨h, rfl⟩ | ⟨h, h2, rfl⟩ | ⟨h, h2, rfl⟩
    · refine ⟨(nI ns, nI t, nI jc, nI (tc + 1), ac, ysp, ja, ji, upd jn j (nI (N + 1)), upd yhw j 3, upd ywn j (nI t), upd tj tc (nI j), upd tt tc (nI t), yst, ypl, ydn, yak, ywt, yun, yrs, yvr, yhd, ypa, ypi, ypd, ygs, ygn, ygc), ⟨⟨w1, w2, by omega, by omega⟩, rfl, rfl, rfl, rfl, rfl, rfl, rfl, rfl, rfl, rfl, z1, sa_hwu z2 (fun k hk => ⟨pk_un hk, rfl, pk_un hk, pk_un hk⟩) (by rw [pk_us, pk_us, pk_us]; exact Or.inr (Or.inr (Or.inl ⟨rfl, rfl⟩)))⟩, fun i _ => ⟨rfl, rfl, rfl, rfl, rfl, rfl, rfl, fun _ _ => rfl, fun _ _ => rfl, fun _ _ => rfl, fun _ _ => rfl, rfl, fun _ _ => rfl, fun _ _ => rfl, rfl⟩, fun post n K => ?_⟩
      refine br_f hc (And.intro hv ?_)
      have f1 : ¬ N + 1 ≤ F := by omega
      simp (disch := omega) only [wpY_setting, wY_endAttempts_105, wY_endAttempts_136, sa_in, nI_clamp, nI_1, nI_add, sa_p2, sa_p3, sa_p4, sa_m7, forall_eq, pk_us, true_and, and_true, true_implies, not_true_eq_false, not_false_eq_true, false_implies, eq_self, nI_leI, nI_eq, nI_pred, g1, g2, eA, eN, eF, f1, sa_k1]
      exact K
    · refine ⟨(nI ns, nI t, nI jc, nI (tc + 1), ac, ysp, ja, ji, upd jn j (nI (N + 1)), upd yhw j 4, upd ywn j (nI t), upd tj tc (nI j), upd tt tc (nI t), yst, ypl, ydn, yak, ywt, yun, yrs, yvr, yhd, ypa, ypi, ypd, ygs, ygn, ygc), ⟨⟨w1, w2, by omega, by omega⟩, rfl, rfl, rfl, rfl, rfl, rfl, rfl, rfl, rfl, rfl, z1, sa_hwu z2 (fun k hk => ⟨pk_un hk, rfl, pk_un hk, pk_un hk⟩) (by rw [pk_us, pk_us, pk_us]; exact Or.inr (Or.inr (Or.inr ⟨rfl, rfl⟩)))⟩, fun i _ => ⟨rfl, rfl, rfl, rfl, rfl, rfl, rfl, fun _ _ => rfl, fun _ _ => rfl, fun _ _ => rfl, fun _ _ => rfl, rfl, fun _ _ => rfl, fun _ _ => rfl, rfl⟩, fun post n K => ?_⟩
      refine br_f hc (And.intro hv ?_)
      subst h2
      simp (disch := omega) only [wpY_setting, wY_endAttempts_105, wY_endAttempts_136, sa_in, nI_clamp, nI_1, nI_add, sa_p2, sa_p3, sa_p4, sa_m7, forall_eq, pk_us, true_and, and_true, true_implies, not_true_eq_false, not_false_eq_true, false_implies, eq_self, nI_leI, nI_eq, nI_pred, g1, g2, eA, eN, eF, eR, h]
      exact K
    · refine ⟨(nI ns, nI t, nI jc, nI (tc + 1), ac, ysp, ja, ji, upd jn j (nI (N + 1)), upd yhw j 0, upd ywn j (nI (t + D * 2 ^ N)), upd tj tc (nI j), upd tt tc (nI t), yst, ypl, ydn, yak, ywt, yun, yrs, yvr, yhd, ypa, ypi, ypd, ygs, ygn, ygc), ⟨⟨w1, w2, by omega, by omega⟩, rfl, rfl, rfl, rfl, rfl, rfl, rfl, rfl, rfl, rfl, z1, sa_hwu z2 (fun k hk => ⟨pk_un hk, pk_un hk, pk_un hk, pk_un hk⟩) (by rw [pk_us, pk_us, pk_us, pk_us]; exact Or.inl ⟨rfl, Or.inl rfl, rfl⟩)⟩, fun i _ => ⟨rfl, rfl, rfl, rfl, rfl, rfl, rfl, fun _ _ => rfl, fun _ _ => rfl, fun _ _ => rfl, fun _ _ => rfl, rfl, fun _ _ => rfl, fun _ _ => rfl, rfl⟩, fun post n K => ?_⟩
      refine br_f hc (And.intro hv ?_)
      have f2 : ¬ N + 1 = R := h2
      simp (disch := omega) only [wpY_setting, wY_endAttempts_105, wY_endAttempts_136, sa_in, nI_clamp, nI_1, nI_add, sa_p2, sa_p3, sa_p4, sa_m7, forall_eq, pk_us, true_and, and_true, true_implies, not_true_eq_false, not_false_eq_true, false_implies, eq_self, nI_leI, nI_eq, nI_pred, g1, g2, eA, eN, eF, eR, eD, h, f2, sa_shl1 hD hN]
      exact K
end
section
/-! all attempts that end; who is ready, how many run -/
def sa_X46 (post : SX → Prop) (n i : Nat) (u : SX) : Prop := match u with | (xns, xnow, xjc, xtc, xhe, xkd, xp1, xp2, xp3, xac, xja, xji, xjn, xjs, xjt, xtj, xtt, xss, xsv, xak, xaj, xgc, xgk, xgn, xhs, xhg, xhn, xou, xah, xst, xpl, xft, xev, xdn, xus, xis, xvr, xhd, xtk, xpd, xpa, xpi, xun, xwj) => wX_happen_46 post n (nI i) xns xnow xjc xtc xhe xkd xp1 xp2 xp3 xac xja xji xjn xjs xjt xtj xtt xss xsv xak xaj xgc xgk xgn xhs xhg xhn xou xah xst xpl xft xev xdn xus xis xvr xhd xtk xpd xpa xpi xun xwj
theorem sa_eal {t : Nat} {P : sa_P} (VA : sa_VA P) (ht : t < 1000000) : ∀ d j (J : sa_J) (u : SX) (v : SY), j + d = sa_jc J → sa_VJ P t J → sa_WX P t J u → sa_WY P t J v →
    ∃ J' u' v', sa_VJ P t J' ∧ sa_jc J' = sa_jc J ∧ (match J, J' with | (jc, ja, ji, jn, js, jt, tc, tj, tt), (jc', ja', ji', jn', js', jt', tc', tj', tt') => (∀ k, k < j → js' k = js k ∧ jt' k = jt k) ∧ (∀ k, j ≤ k → k < jc → js' k = 1 → js k = 1 ∧ jt' k = jt k ∧ jt k ≠ nI t)) ∧ sa_WX P t J' u' ∧ sa_AllX u u' ∧ sa_WY P t J' v' ∧ sa_AllY v v'
      ∧ (∀ post n, d < n → (∃ m, sa_X46 post m 0 u') → sa_XH post n j u) ∧ (∀ (post : SY → Prop) n, d < n → post v' → sa_YE post n j v) := by
  intro d
  induction d with
  | zero =>
    intro j J u v hj VJ W W2
    refine ⟨J, u, v, VJ, rfl, ?_, W, sa_AllXr, W2, sa_AllYr, ?_, ?_⟩
    · obtain ⟨jc, ja, ji, jn, js, jt, tc, tj, tt⟩ := J
      have hj' : j = jc := hj
      exact ⟨fun k _ => ⟨rfl, rfl⟩, fun k h1 h2 => absurd h2 (by omega)⟩
    · intro post n hn K
      revert hj K
      refine sa_WXi (C := fun P J u => j + 0 = sa_jc J → (∃ m, sa_X46 post m 0 u) → sa_XH post n j u) W ?_
      intro ns jc tc xhe kd p1 p2 p3 ac ja ji jn js jt tj tt xss xsv xak xaj xgc xgk xgn xhs xhg xhn xou xah xst xpl xft xev xdn xus xis xvr xhd xtk xpd xpa xpi xun xwj W hj K
      have hj' : j = jc := hj
      have w3 : jc ≤ 90 := W.1.2.2.1
      obtain ⟨n, rfl⟩ : ∃ k, n = k + 1 := ⟨n - 1, by omega⟩
      obtain ⟨m, K⟩ := K
      exact br_t (nI_le (by omega) (by omega)) ⟨m, K⟩
    · intro post n hn K
      revert hj K
      refine sa_WYi (C := fun P J v => j + 0 = sa_jc J → post v → sa_YE post n j v) W2 ?_
      intro ns jc tc kd p1 p2 p3 ac ja ji jn js jt tj tt ysp yhw ywn yst ypl ydn yak ywt yun yrs yvr yhd ypa ypi ypd ygs ygn ygc W hj K
      have hj' : j = jc := hj
      have w3 : jc ≤ 90 := W.1.2.2.1
      obtain ⟨n, rfl⟩ : ∃ k, n = k + 1 := ⟨n - 1, by omega⟩
      exact br_t (nI_le (by omega) (by omega)) K
  | succ d ih =>
    intro j J u v hj VJ W W2
    obtain ⟨J1, E, VJ1, jc1, st1⟩ := sa_EAe (j := j) VA ht (by omega) VJ
    obtain ⟨u1, x1, x2, x3⟩ := sa_xea (by omega) W E
    obtain ⟨v1, y1, y2, y3⟩ := sa_yea (by omega) W2 E
    obtain ⟨J', u', v', a1, a2, a3, a4, a5, a6, a7, a8, a9⟩ := ih (j + 1) J1 u1 v1 (by omega) VJ1 x1 y1
    refine ⟨J', u', v', a1, a2.trans jc1, ?_, a4, sa_AllXt x2 a5, a6, fun i hi => sa_AYt (y2 i hi) (a7 i hi), ?_, ?_⟩
    · obtain ⟨jc, ja, ji, jn, js, jt, tc, tj, tt⟩ := J
      obtain ⟨jc3, ja3, ji3, jn3, js3, jt3, tc3, tj3, tt3⟩ := J1
      obtain ⟨jc', ja', ji', jn', js', jt', tc', tj', tt'⟩ := J'
      obtain ⟨b1, b2⟩ := a3
      obtain ⟨c1, c2⟩ := st1
      have jc1' : jc3 = jc := jc1
      refine ⟨fun k hk => ?_, fun k h1 h2 h3 => ?_⟩
      · obtain ⟨p, q⟩ := b1 k (by omega)
        obtain ⟨p', q'⟩ := c1 k (by omega)
        exact ⟨p.trans p', q.trans q'⟩
      · by_cases e : k = j
        · subst e
          obtain ⟨p, q⟩ := b1 k (by omega)
          obtain ⟨z1, z2, z3⟩ := c2 (p.symm.trans h3)
          exact ⟨z1, q.trans z2, z3⟩
        · obtain ⟨z1, z2, z3⟩ := b2 k (by omega) (by omega) h3
          obtain ⟨p', q'⟩ := c1 k e
          exact ⟨p'.symm.trans z1, z2.trans q', fun z => z3 (q'.trans z)⟩
    · intro post n hn K
      obtain ⟨n, rfl⟩ : ∃ k, n = k + 1 := ⟨n - 1, by omega⟩
      exact x3 post n (a8 post n (by omega) K)
    · intro post n hn K
      obtain ⟨n, rfl⟩ : ∃ k, n = k + 1 := ⟨n - 1, by omega⟩
      exact y3 post n (a9 post n (by omega) K)
/-! who is ready, how many run -/
def sa_nr (ja js jt : Nat → Int32) (t : Nat) (a : Int32) : Nat → Int32
  | 0 => -1
  | k + 1 => if (ja k = a ∧ js k = 0 ∧ ¬ nI t < jt k) ∧ (sa_nr ja js jt t a k = -1 ∨ ¬ jt (sa_nr ja js jt t a k).toNatClampNeg ≤ jt k) then nI k else sa_nr ja js jt t a k
def sa_rn (ja js : Nat → Int32) (a : Int32) : Nat → Nat
  | 0 => 0
  | k + 1 => if ja k = a ∧ js k = 1 then sa_rn ja js a k + 1 else sa_rn ja js a k
theorem sa_nrs (ja js jt : Nat → Int32) (t : Nat) (a : Int32) : ∀ k, (sa_nr ja js jt t a k = -1 ∧ ∀ j, j < k → ¬ (ja j = a ∧ js j = 0 ∧ ¬ nI t < jt j)) ∨ (∃ q, q < k ∧ sa_nr ja js jt t a k = nI q ∧ ja q = a ∧ js q = 0 ∧ ¬ nI t < jt q) := by
  intro k
  induction k with
  | zero => exact Or.inl ⟨rfl, fun j hj => absurd hj (by omega)⟩
  | succ k ih =>
    by_cases c : (ja k = a ∧ js k = 0 ∧ ¬ nI t < jt k) ∧ (sa_nr ja js jt t a k = -1 ∨ ¬ jt (sa_nr ja js jt t a k).toNatClampNeg ≤ jt k)
    · exact Or.inr ⟨k, by omega, if_pos c, c.1⟩
    · have e : sa_nr ja js jt t a (k + 1) = sa_nr ja js jt t a k := if_neg c
      rw [e]
      rcases ih with ⟨h1, h2⟩ | ⟨q, h1, h2, h3⟩
      · refine Or.inl ⟨h1, fun j hj => ?_⟩
        by_cases ej : j = k
        · subst ej
          exact fun z => c ⟨z, Or.inl h1⟩
        · exact h2 j (by omega)
      · exact Or.inr ⟨q, by omega, h2, h3⟩
theorem sa_rnb (ja js : Nat → Int32) (a : Int32) : ∀ k, sa_rn ja js a k ≤ k := by
  intro k
  induction k with
  | zero => exact Nat.le_refl _
  | succ k ih =>
    show (if ja k = a ∧ js k = 1 then sa_rn ja js a k + 1 else sa_rn ja js a k) ≤ k + 1
    split <;> omega
section
variable {xhe : Int32} {xss xsv xak xaj xgc xgk xgn xhs xhg xhn xou xah xst xpl xft xev xdn xus xis xvr xhd xtk xpd xpa xpi xun xwj : Nat → Int32} {ns : Nat} {kd p1 p2 p3 ac : Nat → Int32} {jc tc : Nat} {ja ji jn js jt tj tt : Nat → Int32} {t : Nat} {a : Int32}
theorem sa_xnr (h9 : jc ≤ 90) : ∀ d k, k + d = jc → ∀ (post : Int32 → Prop) n, d < n → post (sa_nr ja js jt t a jc) → wX_nextReady_4 post a (nI ns) (nI t) (nI jc) (nI tc) xhe kd p1 p2 p3 ac ja ji jn js jt tj tt xss xsv xak xaj xgc xgk xgn xhs xhg xhn xou xah xst xpl xft xev xdn xus xis xvr xhd xtk xpd xpa xpi xun xwj n (sa_nr ja js jt t a k) (nI k) := by
  intro d
  induction d with
  | zero =>
    intro k hk post n hn hp
    have e : k = jc := hk
    subst e
    obtain ⟨n, rfl⟩ : ∃ m, n = m + 1 := ⟨n - 1, by omega⟩
    exact br_t (Int32.le_refl _) hp
  | succ d ih =>
    intro k hk post n hn hp
    obtain ⟨n, rfl⟩ : ∃ m, n = m + 1 := ⟨n - 1, by omega⟩
    have hv : vp_in (nI k) 90 := vp_in_nI (by omega) (by decide)
    have hcl : (nI k).toNatClampNeg = k := nI_clamp (by omega)
    have K := ih (k + 1) (by omega) post n (by omega) hp
    refine br_f (nI_ge (by omega) (by omega)) (And.intro hv ?_)
    have skip : ¬ (ja k = a ∧ js k = 0 ∧ ¬ nI t < jt k) → wX_nextReady_4 post a (nI ns) (nI t) (nI jc) (nI tc) xhe kd p1 p2 p3 ac ja ji jn js jt tj tt xss xsv xak xaj xgc xgk xgn xhs xhg xhn xou xah xst xpl xft xev xdn xus xis xvr xhd xtk xpd xpa xpi xun xwj n (sa_nr ja js jt t a k) (nI (k + 1)) := by
      intro c
      rw [show sa_nr ja js jt t a (k + 1) = sa_nr ja js jt t a k from if_neg (fun z => c z.1)] at K
      exact K
    rw [hcl]
    refine br_c (fun c1 => And.intro hv (br_c (fun c2 => And.intro hv (br_c (fun c3 => br_t rfl (nm_r (nI_1 k) (skip (fun z => z.2.2 c3)))) (fun c3 => br_f (by decide) ?_))) (fun c2 => br_t rfl (nm_r (nI_1 k) (skip (fun z => c2 z.2.1)))))) (fun c1 => br_t rfl (nm_r (nI_1 k) (skip (fun z => c1 z.1))))
    refine br_c (fun c4 => nm_r (nI_1 k) ?_) (fun c4 => And.intro hv (And.intro ?_ ?_))
    · rw [show sa_nr ja js jt t a (k + 1) = nI k from if_pos ⟨⟨c1, c2, c3⟩, Or.inl c4⟩] at K
      exact K
    · rcases sa_nrs ja js jt t a k with ⟨h1, _⟩ | ⟨q, h1, h2, _⟩
      · exact absurd h1 c4
      · rw [h2]
        exact vp_in_nI (by omega) (by decide)
    · rw [hcl]
      refine br_c (fun c5 => nm_r (nI_1 k) ?_) (fun c5 => nm_r (nI_1 k) ?_)
      · rw [show sa_nr ja js jt t a (k + 1) = sa_nr ja js jt t a k from if_neg (fun z => z.2.elim c4 (fun w => w c5))] at K
        exact K
      · rw [show sa_nr ja js jt t a (k + 1) = nI k from if_pos ⟨⟨c1, c2, c3⟩, Or.inr c5⟩] at K
        exact K
theorem sa_xrn (h9 : jc ≤ 90) : ∀ d k, k + d = jc → ∀ (post : Int32 → Prop) n, d < n → post (nI (sa_rn ja js a jc)) → wX_runningOf_4 post a (nI ns) (nI t) (nI jc) (nI tc) xhe kd p1 p2 p3 ac ja ji jn js jt tj tt xss xsv xak xaj xgc xgk xgn xhs xhg xhn xou xah xst xpl xft xev xdn xus xis xvr xhd xtk xpd xpa xpi xun xwj n (nI (sa_rn ja js a k)) (nI k) := by
  intro d
  induction d with
  | zero =>
    intro k hk post n hn hp
    have e : k = jc := hk
    subst e
    obtain ⟨n, rfl⟩ : ∃ m, n = m + 1 := ⟨n - 1, by omega⟩
    exact br_t (Int32.le_refl _) hp
  | succ d ih =>
    intro k hk post n hn hp
    obtain ⟨n, rfl⟩ : ∃ m, n = m + 1 := ⟨n - 1, by omega⟩
    have hv : vp_in (nI k) 90 := vp_in_nI (by omega) (by decide)
    have hcl : (nI k).toNatClampNeg = k := nI_clamp (by omega)
    have K := ih (k + 1) (by omega) post n (by omega) hp
    refine br_f (nI_ge (by omega) (by omega)) (And.intro hv ?_)
    rw [hcl]
    refine br_c (fun c1 => And.intro hv (br_c (fun c2 => nm_r (nI_1 _) (nm_r (nI_1 k) ?_)) (fun c2 => nm_r (nI_1 k) ?_))) (fun c1 => nm_r (nI_1 k) ?_)
    · rw [show sa_rn ja js a (k + 1) = sa_rn ja js a k + 1 from if_pos ⟨c1, c2⟩] at K
      exact K
    · rw [show sa_rn ja js a (k + 1) = sa_rn ja js a k from if_neg (fun z => c2 z.2)] at K
      exact K
    · rw [show sa_rn ja js a (k + 1) = sa_rn ja js a k from if_neg (fun z => c1 z.1)] at K
      exact K
end
section
variable {ysp yhw ywn yst ypl ydn yak ywt yun yrs yvr yhd ypa ypi ypd ygs ygn ygc : Nat → Int32} {ns : Nat} {kd p1 p2 p3 ac : Nat → Int32} {jc tc : Nat} {ja ji jn js jt tj tt : Nat → Int32} {t : Nat} {a : Int32}
/-- ready, running, as the reference sees it -/
def sa_hs2 (t jc : Nat) (js jt yhw ywn : Nat → Int32) : Prop := ∀ j, j < jc → ((yhw j = 1 ↔ (js j = 0 ∧ ¬ nI t < jt j)) ∧ (yhw j = 2 ↔ js j = 1) ∧ (js j = 0 → ywn j = jt j))
theorem sa_ynr (h9 : jc ≤ 90) (Z : sa_hs2 t jc js jt yhw ywn) : ∀ d k, k + d = jc → ∀ (post : Int32 → Prop) n, d < n → post (sa_nr ja js jt t a jc) → wY_firstReady_4 post a (nI ns) (nI t) (nI jc) (nI tc) ac ysp ja ji jn yhw ywn tj tt yst ypl ydn yak ywt yun yrs yvr yhd ypa ypi ypd ygs ygn ygc n (sa_nr ja js jt t a k) (nI k) := by
  intro d
  induction d with
  | zero =>
    intro k hk post n hn hp
    have e : k = jc := hk
    subst e
    obtain ⟨n, rfl⟩ : ∃ m, n = m + 1 := ⟨n - 1, by omega⟩
    exact br_t (Int32.le_refl _) hp
  | succ d ih =>
    intro k hk post n hn hp
    obtain ⟨n, rfl⟩ : ∃ m, n = m + 1 := ⟨n - 1, by omega⟩
    have hv : vp_in (nI k) 90 := vp_in_nI (by omega) (by decide)
    have hcl : (nI k).toNatClampNeg = k := nI_clamp (by omega)
    obtain ⟨zk, _, zt⟩ := Z k (by omega)
    have K := ih (k + 1) (by omega) post n (by omega) hp
    refine br_f (nI_ge (by omega) (by omega)) (And.intro hv ?_)
    have skip : ¬ (ja k = a ∧ js k = 0 ∧ ¬ nI t < jt k) → wY_firstReady_4 post a (nI ns) (nI t) (nI jc) (nI tc) ac ysp ja ji jn yhw ywn tj tt yst ypl ydn yak ywt yun yrs yvr yhd ypa ypi ypd ygs ygn ygc n (sa_nr ja js jt t a k) (nI (k + 1)) := by
      intro c
      rw [show sa_nr ja js jt t a (k + 1) = sa_nr ja js jt t a k from if_neg (fun z => c z.1)] at K
      exact K
    rw [hcl]
    refine br_c (fun c1 => And.intro hv (br_c (fun c2 => br_f (by decide) ?_) (fun c2 => br_t rfl (nm_r (nI_1 k) (skip (fun z => c2 (zk.mpr z.2))))))) (fun c1 => br_t rfl (nm_r (nI_1 k) (skip (fun z => c1 z.1))))
    have c3 := zk.mp c2
    rcases sa_nrs ja js jt t a k with ⟨h1, _⟩ | ⟨q, h1, h2, h3, h4, h5⟩
    · refine br_t (by rw [h1]; decide) (nm_r (nI_1 k) ?_)
      rw [show sa_nr ja js jt t a (k + 1) = nI k from if_pos ⟨⟨c1, c3⟩, Or.inl h1⟩] at K
      exact K
    · have hcq : (nI q).toNatClampNeg = q := nI_clamp (by omega)
      have eq0 : ywn q = jt q := (Z q (by omega)).2.2 h4
      have ek0 : ywn k = jt k := zt c3.1
      refine br_f (by rw [h2]; exact nI_pos (by omega)) (And.intro hv (And.intro (by rw [h2]; exact vp_in_nI (by omega) (by decide)) ?_))
      rw [hcl, h2, hcq, eq0, ek0]
      have c4 : ¬ nI q = -1 := sa_ne_m1 (by omega)
      refine br_c (fun c5 => nm_r (nI_1 k) ?_) (fun c5 => nm_r (nI_1 k) ?_)
      · rw [show sa_nr ja js jt t a (k + 1) = nI q from (if_neg (fun z => z.2.elim (fun w => c4 (h2.symm.trans w)) (fun w => w (by rw [h2, hcq]; exact c5)))).trans h2] at K
        exact K
      · rw [show sa_nr ja js jt t a (k + 1) = nI k from if_pos ⟨⟨c1, c3⟩, Or.inr (by rw [h2, hcq]; exact c5)⟩] at K
        exact K
theorem sa_sub1 (w : Int32) (r : Nat) : w - nI r - 1 = w - nI (r + 1) := by
  rw [← nI_1 r]
  grind
theorem sa_yrn {w : Int32} (h9 : jc ≤ 90) (Z : sa_hs2 t jc js jt yhw ywn) : ∀ d k, k + d = jc → ∀ (post : Int32 → Prop) n, d < n → post (w - nI (sa_rn ja js a jc)) → wY_free_9 post a (nI ns) (nI t) (nI jc) (nI tc) ac ysp ja ji jn yhw ywn tj tt yst ypl ydn yak ywt yun yrs yvr yhd ypa ypi ypd ygs ygn ygc n (w - nI (sa_rn ja js a k)) (nI k) := by
  intro d
  induction d with
  | zero =>
    intro k hk post n hn hp
    have e : k = jc := hk
    subst e
    obtain ⟨n, rfl⟩ : ∃ m, n = m + 1 := ⟨n - 1, by omega⟩
    exact br_t (Int32.le_refl _) hp
  | succ d ih =>
    intro k hk post n hn hp
    obtain ⟨n, rfl⟩ : ∃ m, n = m + 1 := ⟨n - 1, by omega⟩
    have hv : vp_in (nI k) 90 := vp_in_nI (by omega) (by decide)
    have hcl : (nI k).toNatClampNeg = k := nI_clamp (by omega)
    obtain ⟨_, zk, _⟩ := Z k (by omega)
    have K := ih (k + 1) (by omega) post n (by omega) hp
    refine br_f (nI_ge (by omega) (by omega)) (And.intro hv ?_)
    rw [hcl]
    refine br_c (fun c1 => And.intro hv (br_c (fun c2 => nm_r (sa_sub1 _ _) (nm_r (nI_1 k) ?_)) (fun c2 => nm_r (nI_1 k) ?_))) (fun c1 => nm_r (nI_1 k) ?_)
    · rw [show sa_rn ja js a (k + 1) = sa_rn ja js a k + 1 from if_pos ⟨c1, zk.mp c2⟩] at K
      exact K
    · rw [show sa_rn ja js a (k + 1) = sa_rn ja js a k from if_neg (fun z => c2 (zk.mpr z.2))] at K
      exact K
    · rw [show sa_rn ja js a (k + 1) = sa_rn ja js a k from if_neg (fun z => c1 z.1)] at K
      exact K
end
end
section
/-! attempts begin, in both -/
def sa_XB2 (post : SX → Prop) (n a : Nat) (u : SX) : Prop := match u with | (xns, xnow, xjc, xtc, xhe, xkd, xp1, xp2, xp3, xac, xja, xji, xjn, xjs, xjt, xtj, xtt, xss, xsv, xak, xaj, xgc, xgk, xgn, xhs, xhg, xhn, xou, xah, xst, xpl, xft, xev, xdn, xus, xis, xvr, xhd, xtk, xpd, xpa, xpi, xun, xwj) => wX_beginAttempts_2 post xns xnow xjc xtc xhe n (nI a) xkd xp1 xp2 xp3 xac xja xji xjn xjs xjt xtj xtt xss xsv xak xaj xgc xgk xgn xhs xhg xhn xou xah xst xpl xft xev xdn xus xis xvr xhd xtk xpd xpa xpi xun xwj
def sa_XB42 (post : SX → Prop) (n2 n a : Nat) (m r : Int32) (k : Nat) (u : SX) : Prop := match u with | (xns, xnow, xjc, xtc, xhe, xkd, xp1, xp2, xp3, xac, xja, xji, xjn, xjs, xjt, xtj, xtt, xss, xsv, xak, xaj, xgc, xgk, xgn, xhs, xhg, xhn, xou, xah, xst, xpl, xft, xev, xdn, xus, xis, xvr, xhd, xtk, xpd, xpa, xpi, xun, xwj) => wX_beginAttempts_42 post (wX_beginAttempts_2 post xns xnow xjc xtc xhe n2) (nI a) xns xnow xjc xtc xhe n m r (nI k) xkd xp1 xp2 xp3 xac xja xji xjn xjs xjt xtj xtt xss xsv xak xaj xgc xgk xgn xhs xhg xhn xou xah xst xpl xft xev xdn xus xis xvr xhd xtk xpd xpa xpi xun xwj
def sa_YB56 (post : SY → Prop) (n a : Nat) (v : SY) : Prop := match v with | (yns, ynow, yjc, ytc, yac, ysp, yja, yji, yjn, yhw, ywn, ytj, ytt, yst, ypl, ydn, yak, ywt, yun, yrs, yvr, yhd, ypa, ypi, ypd, ygs, ygn, ygc) => wY_begin_56 post yns ynow yjc ytc n (nI a) yac ysp yja yji yjn yhw ywn ytj ytt yst ypl ydn yak ywt yun yrs yvr yhd ypa ypi ypd ygs ygn ygc
def sa_YB73 (post : SY → Prop) (n2 n a : Nat) (r m : Int32) (v : SY) : Prop := match v with | (yns, ynow, yjc, ytc, yac, ysp, yja, yji, yjn, yhw, ywn, ytj, ytt, yst, ypl, ydn, yak, ywt, yun, yrs, yvr, yhd, ypa, ypi, ypd, ygs, ygn, ygc) => wY_begin_73 post (wY_begin_56 post yns ynow yjc ytc n2) (nI a) yns ynow yjc ytc n r m yac ysp yja yji yjn yhw ywn ytj ytt yst ypl ydn yak ywt yun yrs yvr yhd ypa ypi ypd ygs ygn ygc
/-- the reference's jobs that are ready are marked so -/
def sa_SY (t : Nat) (J : sa_J) (v : SY) : Prop := match J, v with | (jc, ja, ji, jn, js, jt, tc, tj, tt), (yns, ynow, yjc, ytc, yac, ysp, yja, yji, yjn, yhw, ywn, ytj, ytt, yst, ypl, ydn, yak, ywt, yun, yrs, yvr, yhd, ypa, ypi, ypd, ygs, ygn, ygc) => ∀ j, j < jc → js j = 0 → yhw j = 0 → nI t < jt j
theorem sa_hs2of {t jc : Nat} {js jt yhw ywn : Nat → Int32} (z : ∀ j, j < jc → sa_hw (js j) (jt j) t (yhw j) (ywn j)) (s : ∀ j, j < jc → js j = 0 → yhw j = 0 → nI t < jt j) : sa_hs2 t jc js jt yhw ywn := by
  intro j hj
  have s' := s j hj
  rcases z j hj with ⟨a, b | ⟨b, c⟩, d⟩ | ⟨a, b, d⟩ | ⟨a, b⟩ | ⟨a, b⟩
  · have q := s' a b
    rw [a, b]
    exact ⟨⟨fun e => absurd e (by decide), fun e => absurd q e.2⟩, ⟨fun e => absurd e (by decide), fun e => absurd e (by decide)⟩, fun _ => d⟩
  · rw [a, b]
    exact ⟨⟨fun _ => ⟨rfl, Int32.not_lt.mpr c⟩, fun _ => rfl⟩, ⟨fun e => absurd e (by decide), fun e => absurd e (by decide)⟩, fun _ => d⟩
  · rw [a, b]
    exact ⟨⟨fun e => absurd e (by decide), fun e => absurd e.1 (by decide)⟩, ⟨fun _ => rfl, fun _ => rfl⟩, fun e => absurd e (by decide)⟩
  · rw [a, b]
    exact ⟨⟨fun e => absurd e (by decide), fun e => absurd e.1 (by decide)⟩, ⟨fun e => absurd e (by decide), fun e => absurd e (by decide)⟩, fun e => absurd e (by decide)⟩
  · rw [a, b]
    exact ⟨⟨fun e => absurd e (by decide), fun e => absurd e.1 (by decide)⟩, ⟨fun e => absurd e (by decide), fun e => absurd e (by decide)⟩, fun e => absurd e (by decide)⟩
def sa_pk (J : sa_J) (q a : Nat) : Prop := match J with | (jc, ja, ji, jn, js, jt, tc, tj, tt) => ja q = nI a ∧ js q = 0
def sa_nb (J : sa_J) (t a : Nat) : Prop := match J with | (jc, ja, ji, jn, js, jt, tc, tj, tt) => ∀ j, j < jc → ¬ (ja j = nI a ∧ js j = 0 ∧ ¬ nI t < jt j)
def sa_d0 (P : sa_P) (a d : Nat) : Prop := match P with | (ns, kd, p1, p2, p3, ac) => ac (7 * a) = nI d
def sa_Jb (t : Nat) (J : sa_J) (q d : Nat) : sa_J := match J with | (jc, ja, ji, jn, js, jt, tc, tj, tt) => (jc, ja, ji, jn, upd js q 1, upd jt q (nI (t + d)), tc, tj, tt)
theorem sa_VJb {P : sa_P} {t q d : Nat} {J : sa_J} (hd : d ≤ 9) (hq : match J with | (jc, ja, ji, jn, js, jt, tc, tj, tt) => js q = 0) (V : sa_VJ P t J) : sa_VJ P t (sa_Jb t J q d) := by
  obtain ⟨ns, kd, p1, p2, p3, ac⟩ := P
  obtain ⟨jc, ja, ji, jn, js, jt, tc, tj, tt⟩ := J
  obtain ⟨h9, N, T, h1, h2⟩ := V
  refine ⟨h9, N, fun j => if j = q then t + d else T j, fun j hj => ?_, h2⟩
  by_cases e : j = q
  · subst e
    obtain ⟨⟨A, R, a1, a2, a3, a4, a5, a6⟩, a7, a8, a9, a10⟩ := h1 j hj
    simp only [pk_us, if_pos]
    exact ⟨⟨A, R, a1, a2, a3, a4, a5, fun _ => a6 (Or.inl hq)⟩, a7, rfl, by omega, Or.inr (Or.inl rfl)⟩
  · simp only [pk_un e, if_neg e]
    exact h1 j hj
theorem sa_rn_up {ja js : Nat → Int32} {a : Int32} {q : Nat} (h1 : ja q = a) (h2 : js q = 0) : ∀ k, q < k → sa_rn ja (upd js q 1) a k = sa_rn ja js a k + 1 := by
  have low : ∀ k, k ≤ q → sa_rn ja (upd js q 1) a k = sa_rn ja js a k := by
    intro k
    induction k with
    | zero => intro _; rfl
    | succ k ih =>
      intro hk
      show (if ja k = a ∧ upd js q 1 k = 1 then sa_rn ja (upd js q 1) a k + 1 else sa_rn ja (upd js q 1) a k) = (if ja k = a ∧ js k = 1 then sa_rn ja js a k + 1 else sa_rn ja js a k)
      rw [pk_un (by omega), ih (by omega)]
  intro k
  induction k with
  | zero => intro h; omega
  | succ k ih =>
    intro hk
    show (if ja k = a ∧ upd js q 1 k = 1 then sa_rn ja (upd js q 1) a k + 1 else sa_rn ja (upd js q 1) a k) = (if ja k = a ∧ js k = 1 then sa_rn ja js a k + 1 else sa_rn ja js a k) + 1
    by_cases e : k = q
    · subst e
      rw [pk_us, if_pos ⟨h1, rfl⟩, if_neg (fun z => absurd (h2.symm.trans z.2) (by decide)), low k (Nat.le_refl _)]
    · rw [pk_un e, ih (by omega)]
      split <;> rfl
theorem sa_rn_eq {ja js js' : Nat → Int32} {a : Int32} : ∀ k, (∀ j, j < k → ja j = a → (js' j = 1 ↔ js j = 1)) → sa_rn ja js' a k = sa_rn ja js a k := by
  intro k
  induction k with
  | zero => intro _; rfl
  | succ k ih =>
    intro h
    show (if ja k = a ∧ js' k = 1 then sa_rn ja js' a k + 1 else sa_rn ja js' a k) = (if ja k = a ∧ js k = 1 then sa_rn ja js a k + 1 else sa_rn ja js a k)
    rw [ih (fun j hj => h j (by omega))]
    by_cases e : ja k = a
    · by_cases e2 : js k = 1
      · rw [if_pos ⟨e, (h k (by omega) e).mpr e2⟩, if_pos ⟨e, e2⟩]
      · rw [if_neg (fun z => e2 ((h k (by omega) e).mp z.2)), if_neg (fun z => e2 z.2)]
    · rw [if_neg (fun z => e z.1), if_neg (fun z => e z.1)]
section
variable {xhe : Int32} {xss xsv xak xaj xgc xgk xgn xhs xhg xhn xou xah xst xpl xft xev xdn xus xis xvr xhd xtk xpd xpa xpi xun xwj : Nat → Int32} {ns : Nat} {kd p1 p2 p3 ac : Nat → Int32} {jc tc : Nat} {ja ji jn js jt tj tt : Nat → Int32} {t q d m k a n2 n : Nat} {post : SX → Prop}
theorem sa_xb (h9 : jc ≤ 90) (hq : q < jc) (ha : a < 4) (eq : ja q = nI a) (ed : ac (7 * a) = nI d) (hk : k < 3) (hm : m < 3)
    (K : sa_XB42 post n2 n a (nI m) (sa_nr ja (upd js q 1) (upd jt q (nI (t + d))) t (nI a) jc) (k + 1) (nI ns, nI t, nI jc, nI tc, xhe, kd, p1, p2, p3, ac, ja, ji, jn, upd js q 1, upd jt q (nI (t + d)), tj, tt, xss, xsv, xak, xaj, xgc, xgk, xgn, xhs, xhg, xhn, xou, xah, xst, xpl, xft, xev, xdn, xus, xis, xvr, xhd, xtk, xpd, xpa, xpi, xun, xwj)) : sa_XB42 post n2 (n + 1) a (nI (m + 1)) (nI q) k (nI ns, nI t, nI jc, nI tc, xhe, kd, p1, p2, p3, ac, ja, ji, jn, js, jt, tj, tt, xss, xsv, xak, xaj, xgc, xgk, xgn, xhs, xhg, xhn, xou, xah, xst, xpl, xft, xev, xdn, xus, xis, xvr, xhd, xtk, xpd, xpa, xpi, xun, xwj) := by
  refine br_f (nI_ge (b := 3) hk (by decide)) (br_f (nI_nle (by omega) (by omega)) (br_f (sa_ne_m1 (by omega)) ?_))
  simp (disch := omega) only [wpX_setting, wpX_nextReady, sa_in, nI_clamp, nI_1, nI_add, sa_p0, sa_m7, forall_eq, pk_us, true_and, and_true, true_implies, not_true_eq_false, not_false_eq_true, false_implies, eq_self, eq, ed, pk_m1]
  exact ⟨jc + 1, sa_xnr h9 jc 0 (by omega) _ _ (by omega) K⟩
theorem sa_xbx {r : Int32} {mm : Int32} (h : mm ≤ 0 ∨ r = -1) (K : sa_XB2 post n2 (a + 1) (nI ns, nI t, nI jc, nI tc, xhe, kd, p1, p2, p3, ac, ja, ji, jn, js, jt, tj, tt, xss, xsv, xak, xaj, xgc, xgk, xgn, xhs, xhg, xhn, xou, xah, xst, xpl, xft, xev, xdn, xus, xis, xvr, xhd, xtk, xpd, xpa, xpi, xun, xwj)) : sa_XB42 post n2 (n + 1) a mm r k (nI ns, nI t, nI jc, nI tc, xhe, kd, p1, p2, p3, ac, ja, ji, jn, js, jt, tj, tt, xss, xsv, xak, xaj, xgc, xgk, xgn, xhs, xhg, xhn, xou, xah, xst, xpl, xft, xev, xdn, xus, xis, xvr, xhd, xtk, xpd, xpa, xpi, xun, xwj) := by
  have K' : ∀ x, x = nI a + 1 → wX_beginAttempts_2 post (nI ns) (nI t) (nI jc) (nI tc) xhe n2 x kd p1 p2 p3 ac ja ji jn js jt tj tt xss xsv xak xaj xgc xgk xgn xhs xhg xhn xou xah xst xpl xft xev xdn xus xis xvr xhd xtk xpd xpa xpi xun xwj := nm_r (nI_1 a) K
  refine br_c (fun _ => K') (fun _ => br_c (fun _ => K') (fun c => br_c (fun _ => K') (fun c' => ?_)))
  rcases h with h | h
  · exact absurd h c
  · exact absurd h c'
end
section
variable {ysp yhw ywn yst ypl ydn yak ywt yun yrs yvr yhd ypa ypi ypd ygs ygn ygc : Nat → Int32} {ns : Nat} {kd p1 p2 p3 ac : Nat → Int32} {jc tc : Nat} {ja ji jn js jt tj tt : Nat → Int32} {t q d m a n2 n : Nat} {post : SY → Prop}
theorem sa_yb (h9 : jc ≤ 90) (hq : q < jc) (ha : a < 4) (ed : ac (7 * a) = nI d) (hm : m < 3) (Z : sa_hs2 t jc (upd js q 1) (upd jt q (nI (t + d))) (upd yhw q 2) (upd ywn q (nI (t + d))))
    (K : sa_YB73 post n2 n a (sa_nr ja (upd js q 1) (upd jt q (nI (t + d))) t (nI a) jc) (nI m) (nI ns, nI t, nI jc, nI tc, ac, ysp, ja, ji, jn, upd yhw q 2, upd ywn q (nI (t + d)), tj, tt, yst, ypl, ydn, yak, ywt, yun, yrs, yvr, yhd, ypa, ypi, ypd, ygs, ygn, ygc)) : sa_YB73 post n2 (n + 1) a (nI q) (nI (m + 1)) (nI ns, nI t, nI jc, nI tc, ac, ysp, ja, ji, jn, yhw, ywn, tj, tt, yst, ypl, ydn, yak, ywt, yun, yrs, yvr, yhd, ypa, ypi, ypd, ygs, ygn, ygc) := by
  refine br_f (nI_pos (by omega)) (br_f (nI_nle (by omega) (by omega)) ?_)
  simp (disch := omega) only [wpY_setting, wpY_firstReady, sa_in, nI_clamp, nI_1, nI_add, sa_p0, sa_m7, forall_eq, pk_us, true_and, and_true, true_implies, not_true_eq_false, not_false_eq_true, false_implies, eq_self, ed, pk_m1]
  exact ⟨jc + 1, sa_ynr h9 Z jc 0 (by omega) _ _ (by omega) K⟩
theorem sa_ybx {r : Int32} {mm : Int32} (h : mm ≤ 0 ∨ r = -1) (K : sa_YB56 post n2 (a + 1) (nI ns, nI t, nI jc, nI tc, ac, ysp, ja, ji, jn, yhw, ywn, tj, tt, yst, ypl, ydn, yak, ywt, yun, yrs, yvr, yhd, ypa, ypi, ypd, ygs, ygn, ygc)) : sa_YB73 post n2 (n + 1) a r mm (nI ns, nI t, nI jc, nI tc, ac, ysp, ja, ji, jn, yhw, ywn, tj, tt, yst, ypl, ydn, yak, ywt, yun, yrs, yvr, yhd, ypa, ypi, ypd, ygs, ygn, ygc) := by
  have K' : ∀ x, x = nI a + 1 → wY_begin_56 post (nI ns) (nI t) (nI jc) (nI tc) n2 x ac ysp ja ji jn yhw ywn tj tt yst ypl ydn yak ywt yun yrs yvr yhd ypa ypi ypd ygs ygn ygc := nm_r (nI_1 a) K
  refine br_c (fun _ => K') (fun c => br_c (fun _ => K') (fun c' => ?_))
  rcases h with h | h
  · exact absurd h c'
  · rw [h] at c
    exact absurd (by decide) c
end
/-- what beginning does to the jobs -/
def sa_Bg (t : Nat) (J J' : sa_J) : Prop := match J, J' with
  | (jc, ja, ji, jn, js, jt, tc, tj, tt), (jc', ja', ji', jn', js', jt', tc', tj', tt') => jc' = jc ∧ ja' = ja ∧ ji' = ji ∧ jn' = jn ∧ tc' = tc ∧ tj' = tj ∧ tt' = tt ∧ ∀ j, j < jc → (js' j = js j ∧ jt' j = jt j) ∨ (js j = 0 ∧ js' j = 1 ∧ ∃ d, 1 ≤ d ∧ d ≤ 9 ∧ jt' j = nI (t + d))
theorem sa_Bgr {t : Nat} {J : sa_J} : sa_Bg t J J := by
  obtain ⟨jc, ja, ji, jn, js, jt, tc, tj, tt⟩ := J
  exact ⟨rfl, rfl, rfl, rfl, rfl, rfl, rfl, fun _ _ => Or.inl ⟨rfl, rfl⟩⟩
theorem sa_Bgt {t : Nat} {J J1 J2 : sa_J} (A : sa_Bg t J J1) (B : sa_Bg t J1 J2) : sa_Bg t J J2 := by
  obtain ⟨jc, ja, ji, jn, js, jt, tc, tj, tt⟩ := J
  obtain ⟨jc', ja', ji', jn', js', jt', tc', tj', tt'⟩ := J1
  obtain ⟨jc2, ja2, ji2, jn2, js2, jt2, tc2, tj2, tt2⟩ := J2
  obtain ⟨a1, a2, a3, a4, a5, a6, a7, a8⟩ := A
  obtain ⟨b1, b2, b3, b4, b5, b6, b7, b8⟩ := B
  refine ⟨b1.trans a1, b2.trans a2, b3.trans a3, b4.trans a4, b5.trans a5, b6.trans a6, b7.trans a7, fun j hj => ?_⟩
  rcases a8 j hj with ⟨p, q⟩ | ⟨p, q, r⟩
  · rcases b8 j (by omega) with ⟨p', q'⟩ | ⟨p', q', r'⟩
    · exact Or.inl ⟨p'.trans p, q'.trans q⟩
    · exact Or.inr ⟨p.symm.trans p', q', r'⟩
  · rcases b8 j (by omega) with ⟨p', q'⟩ | ⟨p', q', r'⟩
    · refine Or.inr ⟨p, p'.trans q, ?_⟩
      obtain ⟨d, h1, h2, h3⟩ := r
      exact ⟨d, h1, h2, q'.trans h3⟩
    · exact absurd (q.symm.trans p') (by decide)
/-- no worker is free, or no job ready -/
def sa_BR (P : sa_P) (t : Nat) (J : sa_J) (a : Nat) : Prop := match P, J with
  | (ns, kd, p1, p2, p3, ac), (jc, ja, ji, jn, js, jt, tc, tj, tt) => (∀ j, j < jc → ¬ (ja j = nI a ∧ js j = 0 ∧ ¬ nI t < jt j)) ∨ (∃ w, w ≤ 3 ∧ ac (7 * a + 1) = nI w ∧ w ≤ sa_rn ja js (nI a) jc)
def sa_mm (J : sa_J) (t a : Nat) : Int32 := match J with | (jc, ja, ji, jn, js, jt, tc, tj, tt) => sa_nr ja js jt t (nI a) jc
def sa_rr (J : sa_J) (a : Nat) : Nat := match J with | (jc, ja, ji, jn, js, jt, tc, tj, tt) => sa_rn ja js (nI a) jc
/-- the inner loop -/
theorem sa_bg {t a d : Nat} {P : sa_P} (ha : a < 4) (ed : (1 ≤ d ∧ d ≤ 9) ∧ sa_d0 P a d) : ∀ (m k : Nat) (J : sa_J) (u : SX) (v : SY), k + m ≤ 3 → sa_VJ P t J → sa_WX P t J u → sa_WY P t J v → sa_SY t J v →
    ∃ J' u' v', sa_VJ P t J' ∧ sa_Bg t J J' ∧ (∀ b, b < 4 → b ≠ a → sa_BR P t J b → sa_BR P t J' b) ∧ (sa_nb J' t a ∨ sa_rr J' a = sa_rr J a + m) ∧ sa_WX P t J' u' ∧ sa_AllX u u' ∧ sa_WY P t J' v' ∧ sa_SY t J' v' ∧ sa_AllY v v'
      ∧ (∀ post n2 n, m < n → sa_XB2 post n2 (a + 1) u' → sa_XB42 post n2 n a (nI m) (sa_mm J t a) k u) ∧ (∀ post n2 n, m < n → sa_YB56 post n2 (a + 1) v' → sa_YB73 post n2 n a (sa_mm J t a) (nI m) v) := by
  intro m
  induction m with
  | zero =>
    intro k J u v hk VJ W W2 SYh
    refine ⟨J, u, v, VJ, sa_Bgr, fun _ _ _ h => h, Or.inr rfl, W, sa_AllXr, W2, SYh, sa_AllYr, ?_, ?_⟩
    · intro post n2 n hn K
      obtain ⟨n, rfl⟩ : ∃ k, n = k + 1 := ⟨n - 1, by omega⟩
      revert K
      refine sa_WXi (C := fun P J u => sa_XB2 post n2 (a + 1) u → sa_XB42 post n2 (n + 1) a (nI 0) (sa_mm J t a) k u) W ?_
      intro ns jc tc xhe kd p1 p2 p3 ac ja ji jn js jt tj tt xss xsv xak xaj xgc xgk xgn xhs xhg xhn xou xah xst xpl xft xev xdn xus xis xvr xhd xtk xpd xpa xpi xun xwj W K
      exact sa_xbx (Or.inl (by decide)) K
    · intro post n2 n hn K
      obtain ⟨n, rfl⟩ : ∃ k, n = k + 1 := ⟨n - 1, by omega⟩
      revert K
      refine sa_WYi (C := fun P J v => sa_YB56 post n2 (a + 1) v → sa_YB73 post n2 (n + 1) a (sa_mm J t a) (nI 0) v) W2 ?_
      intro ns jc tc kd p1 p2 p3 ac ja ji jn js jt tj tt ysp yhw ywn yst ypl ydn yak ywt yun yrs yvr yhd ypa ypi ypd ygs ygn ygc W K
      exact sa_ybx (Or.inl (by decide)) K
  | succ m ih =>
    intro k J u v hk VJ W W2 SYh
    have sp : (sa_mm J t a = -1 ∧ sa_nb J t a) ∨ (∃ q, q < sa_jc J ∧ sa_mm J t a = nI q ∧ sa_pk J q a) := by
      obtain ⟨jc, ja, ji, jn, js, jt, tc, tj, tt⟩ := J
      rcases sa_nrs ja js jt t (nI a) jc with ⟨h1, h2⟩ | ⟨q, h1, h2, h3, h4, _⟩
      · exact Or.inl ⟨h1, h2⟩
      · exact Or.inr ⟨q, h1, h2, h3, h4⟩
    rcases sp with ⟨h1, h2⟩ | ⟨q, h1, h2, h3⟩
    · refine ⟨J, u, v, VJ, sa_Bgr, fun _ _ _ h => h, Or.inl h2, W, sa_AllXr, W2, SYh, sa_AllYr, ?_, ?_⟩
      · intro post n2 n hn K
        obtain ⟨n, rfl⟩ : ∃ k, n = k + 1 := ⟨n - 1, by omega⟩
        rw [h1]
        revert K
        refine sa_WXi (C := fun P J u => sa_XB2 post n2 (a + 1) u → sa_XB42 post n2 (n + 1) a (nI (m + 1)) (-1) k u) W ?_
        intro ns jc tc xhe kd p1 p2 p3 ac ja ji jn js jt tj tt xss xsv xak xaj xgc xgk xgn xhs xhg xhn xou xah xst xpl xft xev xdn xus xis xvr xhd xtk xpd xpa xpi xun xwj W K
        exact sa_xbx (Or.inr rfl) K
      · intro post n2 n hn K
        obtain ⟨n, rfl⟩ : ∃ k, n = k + 1 := ⟨n - 1, by omega⟩
        rw [h1]
        revert K
        refine sa_WYi (C := fun P J v => sa_YB56 post n2 (a + 1) v → sa_YB73 post n2 (n + 1) a (-1) (nI (m + 1)) v) W2 ?_
        intro ns jc tc kd p1 p2 p3 ac ja ji jn js jt tj tt ysp yhw ywn yst ypl ydn yak ywt yun yrs yvr yhd ypa ypi ypd ygs ygn ygc W K
        exact sa_ybx (Or.inr rfl) K
    · have VJ1 : sa_VJ P t (sa_Jb t J q d) := by
        refine sa_VJb ed.1.2 ?_ VJ
        obtain ⟨jc, ja, ji, jn, js, jt, tc, tj, tt⟩ := J
        exact h3.2
      have XX : ∃ u1, sa_WX P t (sa_Jb t J q d) u1 ∧ sa_AllX u u1 ∧ ∀ post n2 n, sa_XB42 post n2 n a (nI m) (sa_mm (sa_Jb t J q d) t a) (k + 1) u1 → sa_XB42 post n2 (n + 1) a (nI (m + 1)) (nI q) k u := by
        obtain ⟨_, ed⟩ := ed
        revert h1 h3 ed
        refine sa_WXi (C := fun P J u => q < sa_jc J → sa_pk J q a → sa_d0 P a d → ∃ u1, sa_WX P t (sa_Jb t J q d) u1 ∧ sa_AllX u u1 ∧ ∀ post n2 n, sa_XB42 post n2 n a (nI m) (sa_mm (sa_Jb t J q d) t a) (k + 1) u1 → sa_XB42 post n2 (n + 1) a (nI (m + 1)) (nI q) k u) W ?_
        intro ns jc tc xhe kd p1 p2 p3 ac ja ji jn js jt tj tt xss xsv xak xaj xgc xgk xgn xhs xhg xhn xou xah xst xpl xft xev xdn xus xis xvr xhd xtk xpd xpa xpi xun xwj W h1 h3 ed
        obtain ⟨⟨w1, w2, w3, w4⟩, _⟩ := W
        exact ⟨(nI ns, nI t, nI jc, nI tc, xhe, kd, p1, p2, p3, ac, ja, ji, jn, upd js q 1, upd jt q (nI (t + d)), tj, tt, xss, xsv, xak, xaj, xgc, xgk, xgn, xhs, xhg, xhn, xou, xah, xst, xpl, xft, xev, xdn, xus, xis, xvr, xhd, xtk, xpd, xpa, xpi, xun, xwj), ⟨⟨w1, w2, w3, w4⟩, rfl, rfl, rfl, rfl, rfl, rfl, rfl, rfl, rfl, rfl, rfl, rfl, rfl, rfl, rfl, rfl⟩, fun i _ => ⟨⟨rfl, rfl⟩, rfl, rfl, fun _ _ => rfl, rfl, fun _ _ => rfl, fun _ _ => rfl, rfl, fun _ _ => rfl, fun _ _ => rfl, rfl, rfl, rfl, rfl, rfl, rfl, rfl, rfl, fun _ _ => rfl, fun _ _ => rfl, fun _ _ => rfl, rfl, fun _ _ => rfl, fun _ _ => rfl, rfl, rfl⟩, fun post n2 n K => sa_xb w3 h1 ha h3.1 ed (by omega) (by omega) K⟩
      have YY : ∃ v1, sa_WY P t (sa_Jb t J q d) v1 ∧ sa_SY t (sa_Jb t J q d) v1 ∧ sa_AllY v v1 ∧ ∀ post n2 n, sa_YB73 post n2 n a (sa_mm (sa_Jb t J q d) t a) (nI m) v1 → sa_YB73 post n2 (n + 1) a (nI q) (nI (m + 1)) v := by
        obtain ⟨_, ed⟩ := ed
        revert h1 h3 SYh ed
        refine sa_WYi (C := fun P J v => sa_SY t J v → q < sa_jc J → sa_pk J q a → sa_d0 P a d → ∃ v1, sa_WY P t (sa_Jb t J q d) v1 ∧ sa_SY t (sa_Jb t J q d) v1 ∧ sa_AllY v v1 ∧ ∀ post n2 n, sa_YB73 post n2 n a (sa_mm (sa_Jb t J q d) t a) (nI m) v1 → sa_YB73 post n2 (n + 1) a (nI q) (nI (m + 1)) v) W2 ?_
        intro ns jc tc kd p1 p2 p3 ac ja ji jn js jt tj tt ysp yhw ywn yst ypl ydn yak ywt yun yrs yvr yhd ypa ypi ypd ygs ygn ygc W SYh h1 h3 ed
        obtain ⟨⟨w1, w2, w3, w4⟩, _, _, _, _, _, _, _, _, _, _, z1, z2⟩ := W
        have zz : ∀ j, j < jc → sa_hw (upd js q 1 j) (upd jt q (nI (t + d)) j) t (upd yhw q 2 j) (upd ywn q (nI (t + d)) j) := sa_hwu z2 (fun k hk => ⟨pk_un hk, pk_un hk, pk_un hk, pk_un hk⟩) (by rw [pk_us, pk_us, pk_us, pk_us]; exact Or.inr (Or.inl ⟨rfl, rfl, rfl⟩))
        have ss : ∀ j, j < jc → upd js q 1 j = 0 → upd yhw q 2 j = 0 → nI t < upd jt q (nI (t + d)) j := by
          intro j hj
          by_cases e : j = q
          · subst e
            rw [pk_us]
            exact fun z => absurd z (by decide)
          · rw [pk_un e, pk_un e, pk_un e]
            exact SYh j hj
        exact ⟨(nI ns, nI t, nI jc, nI tc, ac, ysp, ja, ji, jn, upd yhw q 2, upd ywn q (nI (t + d)), tj, tt, yst, ypl, ydn, yak, ywt, yun, yrs, yvr, yhd, ypa, ypi, ypd, ygs, ygn, ygc), ⟨⟨w1, w2, by omega, by omega⟩, rfl, rfl, rfl, rfl, rfl, rfl, rfl, rfl, rfl, rfl, z1, zz⟩, ss, fun i _ => ⟨rfl, rfl, rfl, rfl, rfl, rfl, rfl, fun _ _ => rfl, fun _ _ => rfl, fun _ _ => rfl, fun _ _ => rfl, rfl, fun _ _ => rfl, fun _ _ => rfl, rfl⟩, fun post n2 n K => sa_yb w3 h1 ha ed (by omega) (sa_hs2of zz ss) K⟩
      obtain ⟨u1, x1, x2, x3⟩ := XX
      obtain ⟨v1, y1, y2, y3, y4⟩ := YY
      obtain ⟨J', u', v', a1, a2, a3, a4, a5, a6, a7, a8, a9, a10, a11⟩ := ih (k + 1) (sa_Jb t J q d) u1 v1 (by omega) VJ1 x1 y1 y2
      refine ⟨J', u', v', a1, sa_Bgt ?_ a2, fun b hb hne B => a3 b hb hne ?_, ?_, a5, sa_AllXt x2 a6, a7, a8, fun i hi => sa_AYt (y3 i hi) (a9 i hi), ?_, ?_⟩
      · obtain ⟨jc, ja, ji, jn, js, jt, tc, tj, tt⟩ := J
        refine ⟨rfl, rfl, rfl, rfl, rfl, rfl, rfl, fun j hj => ?_⟩
        by_cases e : j = q
        · subst e
          exact Or.inr ⟨h3.2, pk_us, d, ed.1.1, ed.1.2, pk_us⟩
        · exact Or.inl ⟨pk_un e, pk_un e⟩
      · obtain ⟨ns, kd, p1, p2, p3, ac⟩ := P
        obtain ⟨jc, ja, ji, jn, js, jt, tc, tj, tt⟩ := J
        have nb : ∀ j, ja j = nI b → j ≠ q := by
          intro j hj e
          subst e
          exact hne ((nI_eq (by omega) (by omega)).mp (hj.symm.trans h3.1))
        rcases B with B | ⟨w, w1, w2, w3⟩
        · refine Or.inl (fun j hj z => B j hj ?_)
          obtain ⟨z1, z2, z3⟩ := z
          rw [pk_un (nb j z1)] at z2
          rw [pk_un (nb j z1)] at z3
          exact ⟨z1, z2, z3⟩
        · refine Or.inr ⟨w, w1, w2, ?_⟩
          rw [sa_rn_eq jc (fun j hj ej => by rw [pk_un (nb j ej)])]
          exact w3
      · rcases a4 with a4 | a4
        · exact Or.inl a4
        · refine Or.inr (a4.trans ?_)
          obtain ⟨jc, ja, ji, jn, js, jt, tc, tj, tt⟩ := J
          have e : sa_rn ja (upd js q 1) (nI a) jc = sa_rn ja js (nI a) jc + 1 := sa_rn_up h3.1 h3.2 jc h1
          show sa_rn ja (upd js q 1) (nI a) jc + m = sa_rn ja js (nI a) jc + (m + 1)
          omega
      · intro post n2 n hn K
        obtain ⟨n, rfl⟩ : ∃ k, n = k + 1 := ⟨n - 1, by omega⟩
        rw [h2]
        exact x3 post n2 n (a10 post n2 n (by omega) K)
      · intro post n2 n hn K
        obtain ⟨n, rfl⟩ : ∃ k, n = k + 1 := ⟨n - 1, by omega⟩
        rw [h2]
        exact y4 post n2 n (a11 post n2 n (by omega) K)
end
section
/-! attempts begin: for every activity -/
def sa_w1 (P : sa_P) (a w : Nat) : Prop := match P with | (ns, kd, p1, p2, p3, ac) => ac (7 * a + 1) = nI w
theorem sa_x2 {t a w n2 n : Nat} {P : sa_P} {J : sa_J} {u : SX} {post : SX → Prop} {r : Int32} (ha : a < 4) (ew : sa_w1 P a w) (er : r = nI w - nI (sa_rr J a)) (W : sa_WX P t J u) (K1 : r ≤ 0 → sa_XB42 post n2 n a r (-1) 0 u) (K2 : ¬ r ≤ 0 → sa_XB42 post n2 n a r (sa_mm J t a) 0 u) : sa_XB2 post (n2 + 1) a u := by
  subst er
  revert ew K1 K2
  refine sa_WXi (C := fun P J u => sa_w1 P a w → (nI w - nI (sa_rr J a) ≤ 0 → sa_XB42 post n2 n a (nI w - nI (sa_rr J a)) (-1) 0 u) → (¬ nI w - nI (sa_rr J a) ≤ 0 → sa_XB42 post n2 n a (nI w - nI (sa_rr J a)) (sa_mm J t a) 0 u) → sa_XB2 post (n2 + 1) a u) W ?_
  intro ns jc tc xhe kd p1 p2 p3 ac ja ji jn js jt tj tt xss xsv xak xaj xgc xgk xgn xhs xhg xhn xou xah xst xpl xft xev xdn xus xis xvr xhd xtk xpd xpa xpi xun xwj W ew K1 K2
  have ew' : ac (7 * a + 1) = nI w := ew
  have w3 : jc ≤ 90 := W.1.2.2.1
  refine br_f (nI_ge (b := 4) ha (by decide)) ?_
  rw [sa_m7, nI_1, nI_clamp (show 7 * a + 1 < 2 ^ 31 by omega), ew']
  refine And.intro (vp_in_nI (by omega) (by decide)) ⟨jc + 1, sa_xrn w3 jc 0 (by omega) _ _ (by omega) ?_⟩
  refine nm_e (br_c (fun c => ⟨n, K1 c⟩) (fun c => ⟨jc + 1, sa_xnr w3 jc 0 (by omega) _ _ (by omega) ⟨n, K2 c⟩⟩))
theorem sa_y56 {t a w n2 n : Nat} {P : sa_P} {J : sa_J} {v : SY} {post : SY → Prop} {r : Int32} (ha : a < 4) (ew : sa_w1 P a w) (er : r = nI w - nI (sa_rr J a)) (W : sa_WY P t J v) (S : sa_SY t J v) (K2 : sa_YB73 post n2 n a (sa_mm J t a) r v) : sa_YB56 post (n2 + 1) a v := by
  subst er
  revert ew S K2
  refine sa_WYi (C := fun P J v => sa_w1 P a w → sa_SY t J v → sa_YB73 post n2 n a (sa_mm J t a) (nI w - nI (sa_rr J a)) v → sa_YB56 post (n2 + 1) a v) W ?_
  intro ns jc tc kd p1 p2 p3 ac ja ji jn js jt tj tt ysp yhw ywn yst ypl ydn yak ywt yun yrs yvr yhd ypa ypi ypd ygs ygn ygc W ew S K2
  have ew' : ac (7 * a + 1) = nI w := ew
  obtain ⟨⟨w1, w2, w3, w4⟩, _, _, _, _, _, _, _, _, _, _, z1, z2⟩ := W
  have Z := sa_hs2of z2 S
  refine br_f (nI_ge (b := 4) ha (by decide)) ⟨jc + 1, sa_ynr w3 Z jc 0 (by omega) _ _ (by omega) ?_⟩
  simp (disch := omega) only [wpY_free, wpY_setting, sa_in, nI_clamp, nI_1, nI_add, sa_p0, sa_m7, forall_eq, pk_us, true_and, and_true, true_implies, not_true_eq_false, not_false_eq_true, false_implies, eq_self, ew']
  have q := sa_yrn (w := nI w) (a := nI a) (ja := ja) (ysp := ysp) (ac := ac) (ji := ji) (jn := jn) (tj := tj) (tt := tt) (yst := yst) (ypl := ypl) (ydn := ydn) (yak := yak) (ywt := ywt) (yun := yun) (yrs := yrs) (yvr := yvr) (yhd := yhd) (ypa := ypa) (ypi := ypi) (ypd := ypd) (ygs := ygs) (ygn := ygn) (ygc := ygc) (ns := ns) (tc := tc) w3 Z jc 0 (by omega) (fun r_32 => ∃ n73, wY_begin_73 post (wY_begin_56 post (nI ns) (nI t) (nI jc) (nI tc) n2) (nI a) (nI ns) (nI t) (nI jc) (nI tc) n73 (sa_nr ja js jt t (nI a) jc) r_32 ac ysp ja ji jn yhw ywn tj tt yst ypl ydn yak ywt yun yrs yvr yhd ypa ypi ypd ygs ygn ygc) (jc + 1) (by omega) ⟨n, K2⟩
  refine ⟨jc + 1, ?_⟩
  have e0 : nI w - nI (sa_rn ja js (nI a) 0) = nI w := by
    show nI w - nI 0 = nI w
    rw [nI_0]
    grind
  rw [e0] at q
  exact q
theorem sa_bga {t a : Nat} {P : sa_P} (ha : a < 4) (VA : sa_VA P) (J : sa_J) (u : SX) (v : SY) (VJ : sa_VJ P t J) (W : sa_WX P t J u) (W2 : sa_WY P t J v) (S : sa_SY t J v) :
    ∃ J' u' v', sa_VJ P t J' ∧ sa_Bg t J J' ∧ (∀ b, b < 4 → b ≠ a → sa_BR P t J b → sa_BR P t J' b) ∧ sa_BR P t J' a ∧ sa_WX P t J' u' ∧ sa_AllX u u' ∧ sa_WY P t J' v' ∧ sa_SY t J' v' ∧ sa_AllY v v'
      ∧ (∀ post n2, sa_XB2 post n2 (a + 1) u' → sa_XB2 post (n2 + 1) a u) ∧ (∀ post n2, sa_YB56 post n2 (a + 1) v' → sa_YB56 post (n2 + 1) a v) := by
  have hVA : (∃ d, (1 ≤ d ∧ d ≤ 9) ∧ sa_d0 P a d) ∧ (∃ w, (1 ≤ w ∧ w ≤ 3) ∧ sa_w1 P a w) := by
    obtain ⟨ns, kd, p1, p2, p3, ac⟩ := P
    obtain ⟨⟨d, d1, d2, d3⟩, ⟨w, w1, w2, w3⟩, _⟩ := VA a ha
    exact ⟨⟨d, ⟨d1, d2⟩, d3⟩, ⟨w, ⟨w1, w2⟩, w3⟩⟩
  obtain ⟨⟨d, hd, ed⟩, ⟨w, hw, ew⟩⟩ := hVA
  have rr90 : sa_rr J a ≤ 90 := by
    have : sa_rr J a ≤ sa_jc J := by
      obtain ⟨jc, ja, ji, jn, js, jt, tc, tj, tt⟩ := J
      exact sa_rnb ja js (nI a) jc
    have h9 := (sa_VJa VJ)
    have h9' : sa_jc J ≤ 90 := by
      obtain ⟨jc, ja, ji, jn, js, jt, tc, tj, tt⟩ := J
      exact h9.1
    omega
  by_cases c : sa_rr J a < w
  · have er : nI (w - sa_rr J a) = nI w - nI (sa_rr J a) := (pk_sub (by omega)).symm
    obtain ⟨J', u', v', a1, a2, a3, a4, a5, a6, a7, a8, a9, a10, a11⟩ := sa_bg ha ⟨hd, ed⟩ (w - sa_rr J a) 0 J u v (by omega) VJ W W2 S
    refine ⟨J', u', v', a1, a2, a3, ?_, a5, a6, a7, a8, a9, fun post n2 K => sa_x2 ha ew er W (fun z => ?_) (fun _ => a10 post n2 (w - sa_rr J a + 1) (by omega) K), fun post n2 K => sa_y56 ha ew er W2 S (a11 post n2 (w - sa_rr J a + 1) (by omega) K)⟩
    · obtain ⟨ns, kd, p1, p2, p3, ac⟩ := P
      obtain ⟨jc', ja', ji', jn', js', jt', tc', tj', tt'⟩ := J'
      rcases a4 with a4 | a4
      · exact Or.inl a4
      · refine Or.inr ⟨w, hw.2, ew, ?_⟩
        have e : sa_rn ja' js' (nI a) jc' = sa_rr J a + (w - sa_rr J a) := a4
        omega
    · exact absurd z (nI_nle (by omega) (by omega))
  · have hr : nI w - nI (sa_rr J a) ≤ 0 := by
      rw [Int32.le_iff_toInt_le, pk_sub_toInt (by omega) (by omega), show (0 : Int32).toInt = 0 from by decide]
      omega
    refine ⟨J, u, v, VJ, sa_Bgr, fun _ _ _ h => h, ?_, W, sa_AllXr, W2, S, sa_AllYr, fun post n2 K => sa_x2 (n := 1) ha ew rfl W (fun _ => ?_) (fun z => absurd hr z), fun post n2 K => sa_y56 (n := 1) ha ew rfl W2 S ?_⟩
    · obtain ⟨ns, kd, p1, p2, p3, ac⟩ := P
      obtain ⟨jc, ja, ji, jn, js, jt, tc, tj, tt⟩ := J
      refine Or.inr ⟨w, hw.2, ew, ?_⟩
      have c' : ¬ sa_rn ja js (nI a) jc < w := c
      omega
    · revert K
      refine sa_WXi (C := fun _ _ u => sa_XB2 post n2 (a + 1) u → sa_XB42 post n2 1 a (nI w - nI (sa_rr J a)) (-1) 0 u) W ?_
      intro ns jc tc xhe kd p1 p2 p3 ac ja ji jn js jt tj tt xss xsv xak xaj xgc xgk xgn xhs xhg xhn xou xah xst xpl xft xev xdn xus xis xvr xhd xtk xpd xpa xpi xun xwj W K
      exact sa_xbx (Or.inl hr) K
    · revert K
      refine sa_WYi (C := fun _ _ v => sa_YB56 post n2 (a + 1) v → sa_YB73 post n2 1 a (sa_mm J t a) (nI w - nI (sa_rr J a)) v) W2 ?_
      intro ns jc tc kd p1 p2 p3 ac ja ji jn js jt tj tt ysp yhw ywn yst ypl ydn yak ywt yun yrs yvr yhd ypa ypi ypd ygs ygn ygc W K
      exact sa_ybx (Or.inl hr) K
def sa_YB2 (post : SY → Prop) (n k : Nat) (v : SY) : Prop := match v with | (yns, ynow, yjc, ytc, yac, ysp, yja, yji, yjn, yhw, ywn, ytj, ytt, yst, ypl, ydn, yak, ywt, yun, yrs, yvr, yhd, ypa, ypi, ypd, ygs, ygn, ygc) => wY_begin_2 post yns ynow yjc ytc n (nI k) yac ysp yja yji yjn yhw ywn ytj ytt yst ypl ydn yak ywt yun yrs yvr yhd ypa ypi ypd ygs ygn ygc
def sa_SYk (t : Nat) (J : sa_J) (v : SY) (k : Nat) : Prop := match J, v with | (jc, ja, ji, jn, js, jt, tc, tj, tt), (yns, ynow, yjc, ytc, yac, ysp, yja, yji, yjn, yhw, ywn, ytj, ytt, yst, ypl, ydn, yak, ywt, yun, yrs, yvr, yhd, ypa, ypi, ypd, ygs, ygn, ygc) => ∀ j, j < k → js j = 0 → yhw j = 0 → nI t < jt j
/-- the reference's first loop -/
theorem sa_y2l {t : Nat} {P : sa_P} {J : sa_J} : ∀ d k (v : SY), k + d = sa_jc J → sa_WY P t J v → sa_SYk t J v k →
    ∃ v', sa_WY P t J v' ∧ sa_SY t J v' ∧ sa_AllY v v' ∧ ∀ post n, d < n → (∃ m, sa_YB56 post m 0 v') → sa_YB2 post n k v := by
  intro d
  induction d with
  | zero =>
    intro k v hk W S
    refine ⟨v, W, ?_, sa_AllYr, ?_⟩
    · obtain ⟨jc, ja, ji, jn, js, jt, tc, tj, tt⟩ := J
      obtain ⟨yns, ynow, yjc, ytc, yac, ysp, yja, yji, yjn, yhw, ywn, ytj, ytt, yst, ypl, ydn, yak, ywt, yun, yrs, yvr, yhd, ypa, ypi, ypd, ygs, ygn, ygc⟩ := v
      have hk' : k = jc := hk
      subst hk'
      exact S
    · intro post n hn K
      obtain ⟨n, rfl⟩ : ∃ m, n = m + 1 := ⟨n - 1, by omega⟩
      obtain ⟨m, K⟩ := K
      revert hk K
      refine sa_WYi (C := fun P J v => k + 0 = sa_jc J → sa_YB56 post m 0 v → sa_YB2 post (n + 1) k v) W ?_
      intro ns jc tc kd p1 p2 p3 ac ja ji jn js jt tj tt ysp yhw ywn yst ypl ydn yak ywt yun yrs yvr yhd ypa ypi ypd ygs ygn ygc W hk K
      have hk' : k = jc := hk
      have w3 : jc ≤ 90 := W.1.2.2.1
      exact br_t (nI_le (by omega) (by omega)) ⟨m, K⟩
  | succ d ih =>
    intro k v hk W S
    have ST : ∃ v1, sa_WY P t J v1 ∧ sa_SYk t J v1 (k + 1) ∧ sa_AllY v v1 ∧ ∀ post n, sa_YB2 post n (k + 1) v1 → sa_YB2 post (n + 1) k v := by
      clear ih
      revert hk S
      refine sa_WYi (C := fun P J v => k + (d + 1) = sa_jc J → sa_SYk t J v k → ∃ v1, sa_WY P t J v1 ∧ sa_SYk t J v1 (k + 1) ∧ sa_AllY v v1 ∧ ∀ post n, sa_YB2 post n (k + 1) v1 → sa_YB2 post (n + 1) k v) W ?_
      intro ns jc tc kd p1 p2 p3 ac ja ji jn js jt tj tt ysp yhw ywn yst ypl ydn yak ywt yun yrs yvr yhd ypa ypi ypd ygs ygn ygc W hk S
      have hk' : k + (d + 1) = jc := hk
      have W0 := W
      obtain ⟨⟨w1, w2, w3, w4⟩, _, _, _, _, _, _, _, _, _, _, z1, z2⟩ := W
      have hv : vp_in (nI k) 90 := vp_in_nI (by omega) (by decide)
      have hcl : (nI k).toNatClampNeg = k := nI_clamp (by omega)
      have hc : ¬ nI jc ≤ nI k := nI_ge (by omega) (by omega)
      have zk := z2 k (by omega)
      by_cases c1 : yhw k = 0
      · have ek : js k = 0 ∧ ywn k = jt k := by
          rcases zk with ⟨a, _, b⟩ | ⟨_, b, _⟩ | ⟨_, b⟩ | ⟨_, b⟩
          · exact ⟨a, b⟩
          · exact absurd (b.symm.trans c1) (by decide)
          · exact absurd (b.symm.trans c1) (by decide)
          · exact absurd (b.symm.trans c1) (by decide)
        by_cases c2 : nI t < ywn k
        · refine ⟨(nI ns, nI t, nI jc, nI tc, ac, ysp, ja, ji, jn, yhw, ywn, tj, tt, yst, ypl, ydn, yak, ywt, yun, yrs, yvr, yhd, ypa, ypi, ypd, ygs, ygn, ygc), W0, fun j hj => ?_, sa_AllYr, fun post n K => ?_⟩
          · by_cases e : j = k
            · subst e
              exact fun _ _ => by rw [← ek.2]; exact c2
            · exact S j (by omega)
          · refine br_f hc (And.intro hv ?_)
            rw [hcl, nI_1 k, sa_uself]
            exact br_t c1 (And.intro hv (br_t c2 (And.intro hv (And.intro hv (nm_e (nm_e K))))))
        · refine ⟨(nI ns, nI t, nI jc, nI tc, ac, ysp, ja, ji, jn, upd yhw k 1, ywn, tj, tt, yst, ypl, ydn, yak, ywt, yun, yrs, yvr, yhd, ypa, ypi, ypd, ygs, ygn, ygc), ⟨⟨w1, w2, by omega, by omega⟩, rfl, rfl, rfl, rfl, rfl, rfl, rfl, rfl, rfl, rfl, z1, sa_hwu z2 (fun j hj => ⟨rfl, rfl, pk_un hj, rfl⟩) (by rw [pk_us]; exact Or.inl ⟨ek.1, Or.inr ⟨rfl, by rw [← ek.2]; exact Int32.not_lt.mp c2⟩, ek.2⟩)⟩, fun j hj => ?_, fun i _ => ⟨rfl, rfl, rfl, rfl, rfl, rfl, rfl, fun _ _ => rfl, fun _ _ => rfl, fun _ _ => rfl, fun _ _ => rfl, rfl, fun _ _ => rfl, fun _ _ => rfl, rfl⟩, fun post n K => ?_⟩
          · by_cases e : j = k
            · subst e
              rw [pk_us]
              exact fun _ z => absurd z (by decide)
            · rw [pk_un e]
              exact S j (by omega)
          · refine br_f hc (And.intro hv ?_)
            rw [hcl, nI_1 k]
            exact br_t c1 (And.intro hv (br_f c2 (And.intro hv (nm_e (nm_e K)))))
      · refine ⟨(nI ns, nI t, nI jc, nI tc, ac, ysp, ja, ji, jn, yhw, ywn, tj, tt, yst, ypl, ydn, yak, ywt, yun, yrs, yvr, yhd, ypa, ypi, ypd, ygs, ygn, ygc), W0, fun j hj => ?_, sa_AllYr, fun post n K => ?_⟩
        · by_cases e : j = k
          · subst e
            exact fun _ z => absurd z c1
          · exact S j (by omega)
        · refine br_f hc (And.intro hv ?_)
          rw [hcl, nI_1 k, sa_uself]
          exact br_f c1 (And.intro hv (And.intro hv (nm_e (nm_e K))))
    obtain ⟨v1, a1, a2, a3, a4⟩ := ST
    obtain ⟨v', b1, b2, b3, b4⟩ := ih (k + 1) v1 (by omega) a1 a2
    refine ⟨v', b1, b2, fun i hi => sa_AYt (a3 i hi) (b3 i hi), fun post n hn K => ?_⟩
    obtain ⟨n, rfl⟩ : ∃ m, n = m + 1 := ⟨n - 1, by omega⟩
    exact a4 post n (b4 post n (by omega) K)
theorem sa_AllYt {v v1 v2 : SY} (A : sa_AllY v v1) (B : sa_AllY v1 v2) : sa_AllY v v2 := fun i hi => sa_AYt (A i hi) (B i hi)
/-- attempts begin -/
theorem sa_beg {t : Nat} {P : sa_P} (VA : sa_VA P) (J : sa_J) (u : SX) (v : SY) (VJ : sa_VJ P t J) (W : sa_WX P t J u) (W2 : sa_WY P t J v) :
    ∃ J' u' v', sa_VJ P t J' ∧ sa_Bg t J J' ∧ (∀ b, b < 4 → sa_BR P t J' b) ∧ sa_WX P t J' u' ∧ sa_AllX u u' ∧ sa_WY P t J' v' ∧ sa_SY t J' v' ∧ sa_AllY v v'
      ∧ (∀ post : SX → Prop, post u' → wpX_beginAttempts post u) ∧ (∀ post : SY → Prop, post v' → wpY_begin post v) := by
  obtain ⟨v0, o1, o2, o3, o4⟩ := sa_y2l (sa_jc J) 0 v (by omega) W2 (by
    obtain ⟨jc, ja, ji, jn, js, jt, tc, tj, tt⟩ := J
    obtain ⟨yns, ynow, yjc, ytc, yac, ysp, yja, yji, yjn, yhw, ywn, ytj, ytt, yst, ypl, ydn, yak, ywt, yun, yrs, yvr, yhd, ypa, ypi, ypd, ygs, ygn, ygc⟩ := v
    exact fun j hj => absurd hj (by omega))
  obtain ⟨J1, u1, v1, a1, a2, a3, a4, a5, a6, a7, a8, a9, a10, a11⟩ := sa_bga (a := 0) (by omega) VA J u v0 VJ W o1 o2
  obtain ⟨J2, u2, v2, b1, b2, b3, b4, b5, b6, b7, b8, b9, b10, b11⟩ := sa_bga (a := 1) (by omega) VA J1 u1 v1 a1 a5 a7 a8
  obtain ⟨J3, u3, v3, c1, c2, c3, c4, c5, c6, c7, c8, c9, c10, c11⟩ := sa_bga (a := 2) (by omega) VA J2 u2 v2 b1 b5 b7 b8
  obtain ⟨J4, u4, v4, d1, d2, d3, d4, d5, d6, d7, d8, d9, d10, d11⟩ := sa_bga (a := 3) (by omega) VA J3 u3 v3 c1 c5 c7 c8
  refine ⟨J4, u4, v4, d1, sa_Bgt a2 (sa_Bgt b2 (sa_Bgt c2 d2)), ?_, d5, sa_AllXt a6 (sa_AllXt b6 (sa_AllXt c6 d6)), d7, d8, sa_AllYt o3 (sa_AllYt a9 (sa_AllYt b9 (sa_AllYt c9 d9))), ?_, ?_⟩
  · intro b hb
    have h : b = 0 ∨ b = 1 ∨ b = 2 ∨ b = 3 := by omega
    rcases h with rfl | rfl | rfl | rfl
    · exact d3 0 (by omega) (by omega) (c3 0 (by omega) (by omega) (b3 0 (by omega) (by omega) a4))
    · exact d3 1 (by omega) (by omega) (c3 1 (by omega) (by omega) b4)
    · exact d3 2 (by omega) (by omega) c4
    · exact d4
  · intro post K
    have K4 : sa_XB2 post 1 4 u4 := by
      obtain ⟨xns, xnow, xjc, xtc, xhe, xkd, xp1, xp2, xp3, xac, xja, xji, xjn, xjs, xjt, xtj, xtt, xss, xsv, xak, xaj, xgc, xgk, xgn, xhs, xhg, xhn, xou, xah, xst, xpl, xft, xev, xdn, xus, xis, xvr, xhd, xtk, xpd, xpa, xpi, xun, xwj⟩ := u4
      exact br_t (by decide) K
    have := a10 post 4 (b10 post 3 (c10 post 2 (d10 post 1 K4)))
    obtain ⟨xns, xnow, xjc, xtc, xhe, xkd, xp1, xp2, xp3, xac, xja, xji, xjn, xjs, xjt, xtj, xtt, xss, xsv, xak, xaj, xgc, xgk, xgn, xhs, xhg, xhn, xou, xah, xst, xpl, xft, xev, xdn, xus, xis, xvr, xhd, xtk, xpd, xpa, xpi, xun, xwj⟩ := u
    exact ⟨5, this⟩
  · intro post K
    have K4 : sa_YB56 post 1 4 v4 := by
      obtain ⟨yns, ynow, yjc, ytc, yac, ysp, yja, yji, yjn, yhw, ywn, ytj, ytt, yst, ypl, ydn, yak, ywt, yun, yrs, yvr, yhd, ypa, ypi, ypd, ygs, ygn, ygc⟩ := v4
      exact br_t (by decide) K
    have := o4 post (sa_jc J + 1) (by omega) ⟨5, a11 post 4 (b11 post 3 (c11 post 2 (d11 post 1 K4)))⟩
    obtain ⟨yns, ynow, yjc, ytc, yac, ysp, yja, yji, yjn, yhw, ywn, ytj, ytt, yst, ypl, ydn, yak, ywt, yun, yrs, yvr, yhd, ypa, ypi, ypd, ygs, ygn, ygc⟩ := v
    exact ⟨_, this⟩
end
section
/-! the relation; a workflow goes on, attempts begin -/
def sa_Mid (r : Nat → Prop) (t : Nat) (P : sa_P) (J : sa_J) (A : Nat → Nat) (u : SX) (v : SY) : Prop :=
  (sa_VK P ∧ sa_VA P) ∧ sa_VJ P t J ∧ sa_WX P t J u ∧ sa_WY P t J v ∧ sa_Rn t J (sa_jc J) ∧ (∀ i, i < 3 → sa_Fw (r i) i P t J (A i) u v) ∧ (∀ i, i < 3 → A i ≤ 30) ∧ sa_jc J = A 0 + A 1 + A 2
def sa_Rel (t : Nat) (P : sa_P) (J : sa_J) (A : Nat → Nat) (u : SX) (v : SY) : Prop :=
  sa_Mid (fun _ => True) t P J A u v ∧ sa_SY t J v ∧ ∀ b, b < 4 → sa_BR P t J b
theorem sa_RnN {t : Nat} {J : sa_J} {q x : Int32} (R : sa_Rn t J (sa_jc J)) : sa_Rn t (sa_Jn t J q x) (sa_jc (sa_Jn t J q x)) := by
  obtain ⟨jc, ja, ji, jn, js, jt, tc, tj, tt⟩ := J
  intro j hj e
  have hj' : j < jc + 1 := hj
  by_cases ej : j = jc
  · subst ej
    rw [pk_us] at e
    exact absurd e (by decide)
  · rw [pk_un ej] at e
    rw [pk_un ej]
    exact R j (show j < jc by omega) e
theorem sa_RnX {t : Nat} : ∀ (n : Nat) (J J' : sa_J), sa_Jx t n J J' → sa_Rn t J (sa_jc J) → sa_Rn t J' (sa_jc J') := by
  intro n
  induction n with
  | zero =>
    intro J J' h A
    cases h
    exact A
  | succ n ih =>
    intro J J' h A
    obtain ⟨q, x, _, h⟩ := h
    exact ih _ _ h (sa_RnN A)
theorem sa_updA {A : Nat → Nat} {i n : Nat} (hi : i < 3) : (fun j => if j = i then A i + n else A j) 0 + (fun j => if j = i then A i + n else A j) 1 + (fun j => if j = i then A i + n else A j) 2 = A 0 + A 1 + A 2 + n := by
  rcases sa_3 hi with rfl | rfl | rfl
  · show A 0 + n + A 1 + A 2 = _
    omega
  · show A 0 + (A 1 + n) + A 2 = _
    omega
  · show A 0 + A 1 + (A 2 + n) = _
    omega
theorem sa_sumA {A : Nat → Nat} {i : Nat} (hi : i < 3) (h : ∀ i, i < 3 → A i ≤ 30) : A 0 + A 1 + A 2 + (30 - A i) ≤ 90 := by
  have h0 := h 0 (by omega)
  have h1 := h 1 (by omega)
  have h2 := h 2 (by omega)
  rcases sa_3 hi with rfl | rfl | rfl <;> omega
theorem sa_FwW {r s : Prop} {i t A : Nat} {P : sa_P} {J : sa_J} {u : SX} {v : SY} (h : s → r) (F : sa_Fw r i P t J A u v) : sa_Fw s i P t J A u v := by
  rcases F with F | ⟨on, L, hh, n, f1, f2, f3, f4, f5, f6, f7, f8, f9⟩
  · exact Or.inl F
  · exact Or.inr ⟨on, L, hh, n, f1, f2, f3, f4, f5, f6, f7, f8, fun z => f9 (h z)⟩
/-- workflow i goes on, in both -/
theorem sa_run1 {r : Nat → Prop} {i t : Nat} {P : sa_P} {J : sa_J} {A : Nat → Nat} {u : SX} {v : SY} (hi : i < 3) (M : sa_Mid r t P J A u v) :
    ∃ J' A' u' v', sa_Mid (fun j => j = i ∨ r j) t P J' A' u' v' ∧ (∀ j, j < 3 → j ≠ i → A' j = A j) ∧ (∀ post : SX → Prop, post u' → wpX_goOn post u (nI i)) ∧ (∀ post : SY → Prop, post v' → wpY_work post v (nI i)) := by
  obtain ⟨⟨VK, VA⟩, VJ, W, W2, R, F, hA, hc⟩ := M
  have Ja := sa_VJa VJ
  have s30 := sa_sumA hi hA
  obtain ⟨n, J', u', v', b1, b2, b3, b4, b5, b6, b7, b8⟩ := sa_both hi VK W W2 Ja (by omega) (F i hi)
  have hX : sa_Jx t n J J' ∧ A i + n ≤ 30 := by
    rcases b1 with b1 | ⟨rfl, rfl⟩
    · exact b1
    · exact ⟨rfl, hA i hi⟩
  obtain ⟨Jm, jc'⟩ := sa_JmX n J J' hX.1
  refine ⟨J', fun j => if j = i then A i + n else A j, u', v', ⟨⟨VK, VA⟩, sa_VJx VA n J J' hX.1 (by omega) VJ, b2, b3, sa_RnX n J J' hX.1 R, fun j hj => ?_, fun j hj => ?_, ?_⟩, fun j _ hne => if_neg hne, b7, b8⟩
  · by_cases e : j = i
    · subst e
      show sa_Fw _ j P t J' (if j = j then A j + n else A j) u' v'
      rw [if_pos rfl]
      exact sa_FwW (fun _ => trivial) b4
    · show sa_Fw _ j P t J' (if j = i then A i + n else A j) u' v'
      rw [if_neg e]
      exact sa_FwW (fun z => z.resolve_left e) (sa_FwK (b5 j hj e).1 (b5 j hj e).2 (b6 j hj e) Jm.1 (fun _ => Jm) (F j hj))
  · show (if j = i then A i + n else A j) ≤ 30
    split
    · exact hX.2
    · exact hA j hj
  · rw [sa_updA hi, jc', hc]
theorem sa_BgM {t : Nat} {J J' : sa_J} (B : sa_Bg t J J') : sa_Jm J J' ∧ sa_jc J' = sa_jc J := by
  obtain ⟨jc, ja, ji, jn, js, jt, tc, tj, tt⟩ := J
  obtain ⟨jc', ja', ji', jn', js', jt', tc', tj', tt'⟩ := J'
  obtain ⟨a1, a2, a3, a4, a5, a6, a7, a8⟩ := B
  have e : jc' = jc := a1
  refine ⟨⟨by show jc ≤ jc'; omega, fun j hj h => ⟨h.1, ?_⟩⟩, e⟩
  rcases a8 j hj with ⟨p, _⟩ | ⟨_, p, _⟩
  · show js' j < 2
    rw [p]
    exact h.2
  · show js' j < 2
    rw [p]
    decide
theorem sa_BgR {t : Nat} {J J' : sa_J} (B : sa_Bg t J J') (R : sa_Rn t J (sa_jc J)) : sa_Rn t J' (sa_jc J') := by
  obtain ⟨jc, ja, ji, jn, js, jt, tc, tj, tt⟩ := J
  obtain ⟨jc', ja', ji', jn', js', jt', tc', tj', tt'⟩ := J'
  obtain ⟨a1, a2, a3, a4, a5, a6, a7, a8⟩ := B
  have e : jc' = jc := a1
  subst e
  intro j hj h
  rcases a8 j hj with ⟨p, q⟩ | ⟨_, p, d, d1, d2, d3⟩
  · rw [q]
    exact R j hj (p.symm.trans h)
  · exact ⟨t + d, by omega, by omega, d3⟩
/-- attempts begin, and all is at rest -/
theorem sa_fin {r : Nat → Prop} {t : Nat} {P : sa_P} {J : sa_J} {A : Nat → Nat} {u : SX} {v : SY} (hr : ∀ i, i < 3 → r i) (M : sa_Mid r t P J A u v) :
    ∃ J' u' v', sa_Rel t P J' A u' v' ∧ (∀ post : SX → Prop, post u' → wpX_beginAttempts post u) ∧ (∀ post : SY → Prop, post v' → wpY_begin post v) ∧ sa_AllX u u' ∧ sa_AllY v v' := by
  obtain ⟨⟨VK, VA⟩, VJ, W, W2, R, F, hA, hc⟩ := M
  obtain ⟨J', u', v', a1, a2, a3, a4, a5, a6, a7, a8, a9, a10⟩ := sa_beg VA J u v VJ W W2
  obtain ⟨Jm, jc'⟩ := sa_BgM a2
  exact ⟨J', u', v', ⟨⟨⟨VK, VA⟩, a1, a4, a6, sa_BgR a2 R, fun i hi => sa_FwK (a5 i hi).1 (a5 i hi).2 (a8 i hi) Jm.1 (fun _ => Jm) (sa_FwW (fun _ => hr i hi) (F i hi)), hA, jc'.trans hc⟩, a7, a3⟩, a9, a10, a5, a8⟩
/-! the clock -/
def sa_now (u : SX) (t : Nat) : SX := match u with | (xns, xnow, xjc, xtc, xhe, xkd, xp1, xp2, xp3, xac, xja, xji, xjn, xjs, xjt, xtj, xtt, xss, xsv, xak, xaj, xgc, xgk, xgn, xhs, xhg, xhn, xou, xah, xst, xpl, xft, xev, xdn, xus, xis, xvr, xhd, xtk, xpd, xpa, xpi, xun, xwj) => (xns, nI t, xjc, xtc, xhe, xkd, xp1, xp2, xp3, xac, xja, xji, xjn, xjs, xjt, xtj, xtt, xss, xsv, xak, xaj, xgc, xgk, xgn, xhs, xhg, xhn, xou, xah, xst, xpl, xft, xev, xdn, xus, xis, xvr, xhd, xtk, xpd, xpa, xpi, xun, xwj)
def sa_nowY (v : SY) (t : Nat) : SY := match v with | (yns, ynow, yjc, ytc, yac, ysp, yja, yji, yjn, yhw, ywn, ytj, ytt, yst, ypl, ydn, yak, ywt, yun, yrs, yvr, yhd, ypa, ypi, ypd, ygs, ygn, ygc) => (yns, nI t, yjc, ytc, yac, ysp, yja, yji, yjn, yhw, ywn, ytj, ytt, yst, ypl, ydn, yak, ywt, yun, yrs, yvr, yhd, ypa, ypi, ypd, ygs, ygn, ygc)
theorem sa_nowA {u : SX} {t : Nat} : sa_AllX u (sa_now u t) := by
  obtain ⟨xns, xnow, xjc, xtc, xhe, xkd, xp1, xp2, xp3, xac, xja, xji, xjn, xjs, xjt, xtj, xtt, xss, xsv, xak, xaj, xgc, xgk, xgn, xhs, xhg, xhn, xou, xah, xst, xpl, xft, xev, xdn, xus, xis, xvr, xhd, xtk, xpd, xpa, xpi, xun, xwj⟩ := u
  exact fun i _ => ⟨⟨rfl, rfl⟩, rfl, rfl, fun _ _ => rfl, rfl, fun _ _ => rfl, fun _ _ => rfl, rfl, fun _ _ => rfl, fun _ _ => rfl, rfl, rfl, rfl, rfl, rfl, rfl, rfl, rfl, fun _ _ => rfl, fun _ _ => rfl, fun _ _ => rfl, rfl, fun _ _ => rfl, fun _ _ => rfl, rfl, rfl⟩
theorem sa_nowB {v : SY} {t : Nat} : sa_AllY v (sa_nowY v t) := by
  obtain ⟨yns, ynow, yjc, ytc, yac, ysp, yja, yji, yjn, yhw, ywn, ytj, ytt, yst, ypl, ydn, yak, ywt, yun, yrs, yvr, yhd, ypa, ypi, ypd, ygs, ygn, ygc⟩ := v
  exact fun i _ => ⟨rfl, rfl, rfl, rfl, rfl, rfl, rfl, fun _ _ => rfl, fun _ _ => rfl, fun _ _ => rfl, fun _ _ => rfl, rfl, fun _ _ => rfl, fun _ _ => rfl, rfl⟩
theorem sa_nowW {P : sa_P} {t t' : Nat} {J : sa_J} {u : SX} (h : t' < 1000000) (W : sa_WX P t J u) : sa_WX P t' J (sa_now u t') := by
  obtain ⟨ns, kd, p1, p2, p3, ac⟩ := P
  obtain ⟨jc, ja, ji, jn, js, jt, tc, tj, tt⟩ := J
  obtain ⟨xns, xnow, xjc, xtc, xhe, xkd, xp1, xp2, xp3, xac, xja, xji, xjn, xjs, xjt, xtj, xtt, xss, xsv, xak, xaj, xgc, xgk, xgn, xhs, xhg, xhn, xou, xah, xst, xpl, xft, xev, xdn, xus, xis, xvr, xhd, xtk, xpd, xpa, xpi, xun, xwj⟩ := u
  obtain ⟨⟨w1, w2, w3, w4⟩, x1, x2, x3⟩ := W
  exact ⟨⟨w1, h, w3, w4⟩, x1, rfl, x3⟩
theorem sa_nowV {P : sa_P} {t t' : Nat} {J : sa_J} {v : SY} (h : t' < 1000000) (hle : t ≤ t') (W : sa_WY P t J v) : sa_WY P t' J (sa_nowY v t') := by
  obtain ⟨ns, kd, p1, p2, p3, ac⟩ := P
  obtain ⟨jc, ja, ji, jn, js, jt, tc, tj, tt⟩ := J
  obtain ⟨yns, ynow, yjc, ytc, yac, ysp, yja, yji, yjn, yhw, ywn, ytj, ytt, yst, ypl, ydn, yak, ywt, yun, yrs, yvr, yhd, ypa, ypi, ypd, ygs, ygn, ygc⟩ := v
  obtain ⟨⟨w1, w2, w3, w4⟩, x1, x2, x3, x4, x5, x6, x7, x8, x9, x10, z1, z2⟩ := W
  refine ⟨⟨w1, h, w3, w4⟩, x1, rfl, x3, x4, x5, x6, x7, x8, x9, x10, z1, fun j hj => ?_⟩
  rcases z2 j hj with ⟨a, b | ⟨b, c⟩, d⟩ | z
  · exact Or.inl ⟨a, Or.inl b, d⟩
  · exact Or.inl ⟨a, Or.inr ⟨b, Int32.le_trans c (nI_le hle (by omega))⟩, d⟩
  · exact Or.inr z
/-- no event ahead of r: neither of jobs nor of waits -/
def sa_Ev (t r : Nat) (J : sa_J) (u : SX) : Prop := match J, u with
  | (jc, ja, ji, jn, js, jt, tc, tj, tt), (xns, xnow, xjc, xtc, xhe, xkd, xp1, xp2, xp3, xac, xja, xji, xjn, xjs, xjt, xtj, xtt, xss, xsv, xak, xaj, xgc, xgk, xgn, xhs, xhg, xhn, xou, xah, xst, xpl, xft, xev, xdn, xus, xis, xvr, xhd, xtk, xpd, xpa, xpi, xun, xwj) => (∀ j, j < jc → js j = 1 → nI r ≤ jt j) ∧ (∀ j, j < jc → js j = 0 → nI t < jt j → nI r ≤ jt j) ∧ (∀ i, i < 3 → ¬ xss i = 0 → nI t < xou i → nI r ≤ xou i)
theorem sa_nown {u : SX} {t t' : Nat} : sa_now (sa_now u t) t' = sa_now u t' := by
  obtain ⟨xns, xnow, xjc, xtc, xhe, xkd, xp1, xp2, xp3, xac, xja, xji, xjn, xjs, xjt, xtj, xtt, xss, xsv, xak, xaj, xgc, xgk, xgn, xhs, xhg, xhn, xou, xah, xst, xpl, xft, xev, xdn, xus, xis, xvr, xhd, xtk, xpd, xpa, xpi, xun, xwj⟩ := u
  rfl
end
section
/-! the next time at which something happens -/
section
variable {xhe : Int32} {xss xsv xak xaj xgc xgk xgn xhs xhg xhn xou xah xst xpl xft xev xdn xus xis xvr xhd xtk xpd xpa xpi xun xwj : Nat → Int32} {ns : Nat} {kd p1 p2 p3 ac : Nat → Int32} {jc tc : Nat} {ja ji jn js jt tj tt : Nat → Int32} {t : Nat}
theorem sa_nt6 (h9 : jc ≤ 90) (ht : t < 1000000) (hT : ∀ j, j < jc → ∃ T, T ≤ t + 100 ∧ jt j = nI T ∧ (js j = 1 → t < T)) : ∀ d k r, k + d = jc → t < r → r ≤ 1000000000 → (∀ j, j < k → (js j = 1 → nI r ≤ jt j) ∧ (js j = 0 → nI t < jt j → nI r ≤ jt j)) →
    ∃ r', t < r' ∧ r' ≤ r ∧ (∀ j, j < jc → (js j = 1 → nI r' ≤ jt j) ∧ (js j = 0 → nI t < jt j → nI r' ≤ jt j)) ∧ ∀ (post : Int32 → Prop) n, d < n → (∃ m, wX_nextTime_85 post (nI ns) (nI t) (nI jc) (nI tc) xhe kd p1 p2 p3 ac ja ji jn js jt tj tt xss xsv xak xaj xgc xgk xgn xhs xhg xhn xou xah xst xpl xft xev xdn xus xis xvr xhd xtk xpd xpa xpi xun xwj m (nI r') 0) → wX_nextTime_6 post (nI ns) (nI t) (nI jc) (nI tc) xhe kd p1 p2 p3 ac ja ji jn js jt tj tt xss xsv xak xaj xgc xgk xgn xhs xhg xhn xou xah xst xpl xft xev xdn xus xis xvr xhd xtk xpd xpa xpi xun xwj n (nI r) (nI k) := by
  intro d
  induction d with
  | zero =>
    intro k r hk h1 h2 h3
    have e : k = jc := hk
    subst e
    refine ⟨r, h1, Nat.le_refl _, h3, fun post n hn K => ?_⟩
    obtain ⟨n, rfl⟩ : ∃ m, n = m + 1 := ⟨n - 1, by omega⟩
    exact br_t (Int32.le_refl _) K
  | succ d ih =>
    intro k r hk h1 h2 h3
    obtain ⟨T, T1, T2, T3⟩ := hT k (by omega)
    have hv : vp_in (nI k) 90 := vp_in_nI (by omega) (by decide)
    have hcl : (nI k).toNatClampNeg = k := nI_clamp (by omega)
    have hc : ¬ nI jc ≤ nI k := nI_ge (by omega) (by omega)
    -- keep r
    have keep : (js k = 1 → nI r ≤ jt k) → (js k = 0 → nI t < jt k → nI r ≤ jt k) → (∀ (post : Int32 → Prop) n, wX_nextTime_6 post (nI ns) (nI t) (nI jc) (nI tc) xhe kd p1 p2 p3 ac ja ji jn js jt tj tt xss xsv xak xaj xgc xgk xgn xhs xhg xhn xou xah xst xpl xft xev xdn xus xis xvr xhd xtk xpd xpa xpi xun xwj n (nI r) (nI (k + 1)) → wX_nextTime_6 post (nI ns) (nI t) (nI jc) (nI tc) xhe kd p1 p2 p3 ac ja ji jn js jt tj tt xss xsv xak xaj xgc xgk xgn xhs xhg xhn xou xah xst xpl xft xev xdn xus xis xvr xhd xtk xpd xpa xpi xun xwj (n + 1) (nI r) (nI k)) →
        ∃ r', t < r' ∧ r' ≤ r ∧ (∀ j, j < jc → (js j = 1 → nI r' ≤ jt j) ∧ (js j = 0 → nI t < jt j → nI r' ≤ jt j)) ∧ ∀ (post : Int32 → Prop) n, d + 1 < n → (∃ m, wX_nextTime_85 post (nI ns) (nI t) (nI jc) (nI tc) xhe kd p1 p2 p3 ac ja ji jn js jt tj tt xss xsv xak xaj xgc xgk xgn xhs xhg xhn xou xah xst xpl xft xev xdn xus xis xvr xhd xtk xpd xpa xpi xun xwj m (nI r') 0) → wX_nextTime_6 post (nI ns) (nI t) (nI jc) (nI tc) xhe kd p1 p2 p3 ac ja ji jn js jt tj tt xss xsv xak xaj xgc xgk xgn xhs xhg xhn xou xah xst xpl xft xev xdn xus xis xvr xhd xtk xpd xpa xpi xun xwj n (nI r) (nI k) := by
      intro g1 g2 g3
      obtain ⟨r', a1, a2, a3, a4⟩ := ih (k + 1) r (by omega) h1 h2 (fun j hj => by
        by_cases e : j = k
        · subst e
          exact ⟨g1, g2⟩
        · exact h3 j (by omega))
      refine ⟨r', a1, a2, a3, fun post n hn K => ?_⟩
      obtain ⟨n, rfl⟩ : ∃ m, n = m + 1 := ⟨n - 1, by omega⟩
      exact g3 post n (a4 post n (by omega) K)
    have take : t < T → T < r → (∀ (post : Int32 → Prop) n, wX_nextTime_6 post (nI ns) (nI t) (nI jc) (nI tc) xhe kd p1 p2 p3 ac ja ji jn js jt tj tt xss xsv xak xaj xgc xgk xgn xhs xhg xhn xou xah xst xpl xft xev xdn xus xis xvr xhd xtk xpd xpa xpi xun xwj n (nI T) (nI (k + 1)) → wX_nextTime_6 post (nI ns) (nI t) (nI jc) (nI tc) xhe kd p1 p2 p3 ac ja ji jn js jt tj tt xss xsv xak xaj xgc xgk xgn xhs xhg xhn xou xah xst xpl xft xev xdn xus xis xvr xhd xtk xpd xpa xpi xun xwj (n + 1) (nI r) (nI k)) →
        ∃ r', t < r' ∧ r' ≤ r ∧ (∀ j, j < jc → (js j = 1 → nI r' ≤ jt j) ∧ (js j = 0 → nI t < jt j → nI r' ≤ jt j)) ∧ ∀ (post : Int32 → Prop) n, d + 1 < n → (∃ m, wX_nextTime_85 post (nI ns) (nI t) (nI jc) (nI tc) xhe kd p1 p2 p3 ac ja ji jn js jt tj tt xss xsv xak xaj xgc xgk xgn xhs xhg xhn xou xah xst xpl xft xev xdn xus xis xvr xhd xtk xpd xpa xpi xun xwj m (nI r') 0) → wX_nextTime_6 post (nI ns) (nI t) (nI jc) (nI tc) xhe kd p1 p2 p3 ac ja ji jn js jt tj tt xss xsv xak xaj xgc xgk xgn xhs xhg xhn xou xah xst xpl xft xev xdn xus xis xvr xhd xtk xpd xpa xpi xun xwj n (nI r) (nI k) := by
      intro g1 g2 g3
      obtain ⟨r', a1, a2, a3, a4⟩ := ih (k + 1) T (by omega) g1 (by omega) (fun j hj => by
        by_cases e : j = k
        · subst e
          rw [T2]
          exact ⟨fun _ => Int32.le_refl _, fun _ _ => Int32.le_refl _⟩
        · have q := h3 j (by omega)
          have l : nI T ≤ nI r := nI_le (by omega) (by omega)
          exact ⟨fun z => Int32.le_trans l (q.1 z), fun z z' => Int32.le_trans l (q.2 z z')⟩)
      refine ⟨r', a1, by omega, a3, fun post n hn K => ?_⟩
      obtain ⟨n, rfl⟩ : ∃ m, n = m + 1 := ⟨n - 1, by omega⟩
      exact g3 post n (a4 post n (by omega) K)
    by_cases c1 : js k = 1
    · by_cases c2 : r ≤ T
      · refine keep (fun _ => by rw [T2]; exact nI_le c2 (by omega)) (fun z => absurd (c1.symm.trans z) (by decide)) (fun post n K => ?_)
        refine br_f hc (And.intro hv ?_)
        rw [hcl]
        refine br_t c1 (br_f (by decide) (And.intro hv ?_))
        rw [hcl]
        exact br_t (by rw [T2]; exact nI_le c2 (by omega)) (nm_r (nI_1 k) K)
      · refine take (T3 c1) (by omega) (fun post n K => ?_)
        refine br_f hc (And.intro hv ?_)
        rw [hcl]
        refine br_t c1 (br_f (by decide) (And.intro hv ?_))
        rw [hcl]
        exact br_f (by rw [T2]; exact nI_ge (by omega) (by omega)) (And.intro hv (nm_r T2 (nm_r (nI_1 k) K)))
    · by_cases c3 : js k = 0
      · by_cases c4 : T ≤ t
        · refine keep (fun z => absurd z c1) (fun _ z => ?_) (fun post n K => ?_)
          · rw [T2] at z
            exact absurd z (nI_nlt c4 (by omega))
          · refine br_f hc (And.intro hv ?_)
            rw [hcl]
            exact br_f c1 (And.intro hv (br_t c3 (And.intro hv (br_t (by rw [T2]; exact nI_le c4 (by omega)) (br_t rfl (nm_r (nI_1 k) K))))))
        · by_cases c2 : r ≤ T
          · refine keep (fun z => absurd z c1) (fun _ _ => by rw [T2]; exact nI_le c2 (by omega)) (fun post n K => ?_)
            refine br_f hc (And.intro hv ?_)
            rw [hcl]
            refine br_f c1 (And.intro hv (br_t c3 (And.intro hv (br_f (by rw [T2]; exact nI_ge (by omega) (by omega)) (br_f (by decide) (And.intro hv ?_))))))
            rw [hcl]
            exact br_t (by rw [T2]; exact nI_le c2 (by omega)) (nm_r (nI_1 k) K)
          · refine take (by omega) (by omega) (fun post n K => ?_)
            refine br_f hc (And.intro hv ?_)
            rw [hcl]
            refine br_f c1 (And.intro hv (br_t c3 (And.intro hv (br_f (by rw [T2]; exact nI_ge (by omega) (by omega)) (br_f (by decide) (And.intro hv ?_))))))
            rw [hcl]
            exact br_f (by rw [T2]; exact nI_ge (by omega) (by omega)) (And.intro hv (nm_r T2 (nm_r (nI_1 k) K)))
      · refine keep (fun z => absurd z c1) (fun z => absurd z c3) (fun post n K => ?_)
        refine br_f hc (And.intro hv ?_)
        rw [hcl]
        exact br_f c1 (And.intro hv (br_f c3 (br_t rfl (nm_r (nI_1 k) K))))
theorem sa_nt85 (ht : t < 1000000) (hT : ∀ i, i < 3 → ¬ xss i = 0 → xou i = -1 ∨ ∃ T, T < 2000000 ∧ xou i = nI T) : ∀ d k r, k + d = 3 → t < r → r ≤ 1000000000 → (∀ i, i < k → ¬ xss i = 0 → nI t < xou i → nI r ≤ xou i) →
    ∃ r', t < r' ∧ r' ≤ r ∧ (∀ i, i < 3 → ¬ xss i = 0 → nI t < xou i → nI r' ≤ xou i) ∧ ∀ (post : Int32 → Prop) n, d < n → post (nI r') → wX_nextTime_85 post (nI ns) (nI t) (nI jc) (nI tc) xhe kd p1 p2 p3 ac ja ji jn js jt tj tt xss xsv xak xaj xgc xgk xgn xhs xhg xhn xou xah xst xpl xft xev xdn xus xis xvr xhd xtk xpd xpa xpi xun xwj n (nI r) (nI k) := by
  intro d
  induction d with
  | zero =>
    intro k r hk h1 h2 h3
    have e : k = 3 := hk
    subst e
    refine ⟨r, h1, Nat.le_refl _, h3, fun post n hn K => ?_⟩
    obtain ⟨n, rfl⟩ : ∃ m, n = m + 1 := ⟨n - 1, by omega⟩
    exact br_t (by decide) K
  | succ d ih =>
    intro k r hk h1 h2 h3
    have hv : vp_in (nI k) 3 := vp_in_nI (by omega) (by decide)
    have hcl : (nI k).toNatClampNeg = k := nI_clamp (by omega)
    have hc : ¬ (3 : Int32) ≤ nI k := nI_ge (b := 3) (by omega) (by decide)
    have keep : (¬ xss k = 0 → nI t < xou k → nI r ≤ xou k) → (∀ (post : Int32 → Prop) n, wX_nextTime_85 post (nI ns) (nI t) (nI jc) (nI tc) xhe kd p1 p2 p3 ac ja ji jn js jt tj tt xss xsv xak xaj xgc xgk xgn xhs xhg xhn xou xah xst xpl xft xev xdn xus xis xvr xhd xtk xpd xpa xpi xun xwj n (nI r) (nI (k + 1)) → wX_nextTime_85 post (nI ns) (nI t) (nI jc) (nI tc) xhe kd p1 p2 p3 ac ja ji jn js jt tj tt xss xsv xak xaj xgc xgk xgn xhs xhg xhn xou xah xst xpl xft xev xdn xus xis xvr xhd xtk xpd xpa xpi xun xwj (n + 1) (nI r) (nI k)) →
        ∃ r', t < r' ∧ r' ≤ r ∧ (∀ i, i < 3 → ¬ xss i = 0 → nI t < xou i → nI r' ≤ xou i) ∧ ∀ (post : Int32 → Prop) n, d + 1 < n → post (nI r') → wX_nextTime_85 post (nI ns) (nI t) (nI jc) (nI tc) xhe kd p1 p2 p3 ac ja ji jn js jt tj tt xss xsv xak xaj xgc xgk xgn xhs xhg xhn xou xah xst xpl xft xev xdn xus xis xvr xhd xtk xpd xpa xpi xun xwj n (nI r) (nI k) := by
      intro g1 g3
      obtain ⟨r', a1, a2, a3, a4⟩ := ih (k + 1) r (by omega) h1 h2 (fun j hj => by
        by_cases e : j = k
        · subst e
          exact g1
        · exact h3 j (by omega))
      refine ⟨r', a1, a2, a3, fun post n hn K => ?_⟩
      obtain ⟨n, rfl⟩ : ∃ m, n = m + 1 := ⟨n - 1, by omega⟩
      exact g3 post n (a4 post n (by omega) K)
    by_cases c1 : xss k = 0
    · refine keep (fun z => absurd c1 z) (fun post n K => ?_)
      refine br_f hc (And.intro hv ?_)
      rw [hcl]
      exact br_t c1 (br_t rfl (nm_r (nI_1 k) K))
    · rcases hT k (by omega) c1 with eo | ⟨T, T1, T2⟩
      · refine keep (fun _ z => ?_) (fun post n K => ?_)
        · rw [eo, Int32.lt_iff_toInt_lt, nI_toInt (by omega), show (-1 : Int32).toInt = -1 from by decide] at z
          omega
        · refine br_f hc (And.intro hv ?_)
          rw [hcl]
          refine br_f c1 (And.intro hv (br_t ?_ (br_t rfl (nm_r (nI_1 k) K))))
          rw [eo, Int32.le_iff_toInt_le, nI_toInt (by omega), show (-1 : Int32).toInt = -1 from by decide]
          omega
      · by_cases c4 : T ≤ t
        · refine keep (fun _ z => ?_) (fun post n K => ?_)
          · rw [T2] at z
            exact absurd z (nI_nlt c4 (by omega))
          · refine br_f hc (And.intro hv ?_)
            rw [hcl]
            exact br_f c1 (And.intro hv (br_t (by rw [T2]; exact nI_le c4 (by omega)) (br_t rfl (nm_r (nI_1 k) K))))
        · by_cases c2 : r ≤ T
          · refine keep (fun _ _ => by rw [T2]; exact nI_le c2 (by omega)) (fun post n K => ?_)
            refine br_f hc (And.intro hv ?_)
            rw [hcl]
            refine br_f c1 (And.intro hv (br_f (by rw [T2]; exact nI_ge (by omega) (by omega)) (br_f (by decide) (And.intro hv ?_))))
            rw [hcl]
            exact br_t (by rw [T2]; exact nI_le c2 (by omega)) (nm_r (nI_1 k) K)
          · obtain ⟨r', a1, a2, a3, a4⟩ := ih (k + 1) T (by omega) (by omega) (by omega) (fun j hj => by
              by_cases e : j = k
              · subst e
                rw [T2]
                exact fun _ _ => Int32.le_refl _
              · have l : nI T ≤ nI r := nI_le (by omega) (by omega)
                exact fun z z' => Int32.le_trans l (h3 j (by omega) z z'))
            refine ⟨r', a1, by omega, a3, fun post n hn K => ?_⟩
            obtain ⟨n, rfl⟩ : ∃ m, n = m + 1 := ⟨n - 1, by omega⟩
            refine br_f hc (And.intro hv ?_)
            rw [hcl]
            refine br_f c1 (And.intro hv (br_f (by rw [T2]; exact nI_ge (by omega) (by omega)) (br_f (by decide) (And.intro hv ?_))))
            rw [hcl]
            exact br_f (by rw [T2]; exact nI_ge (by omega) (by omega)) (And.intro hv (nm_r T2 (nm_r (nI_1 k) (a4 post n (by omega) K))))
end
def sa_Ous (u : SX) : Prop := match u with | (xns, xnow, xjc, xtc, xhe, xkd, xp1, xp2, xp3, xac, xja, xji, xjn, xjs, xjt, xtj, xtt, xss, xsv, xak, xaj, xgc, xgk, xgn, xhs, xhg, xhn, xou, xah, xst, xpl, xft, xev, xdn, xus, xis, xvr, xhd, xtk, xpd, xpa, xpi, xun, xwj) => ∀ i, i < 3 → ¬ xss i = 0 → xou i = -1 ∨ ∃ T, T < 2000000 ∧ xou i = nI T
theorem sa_next {t : Nat} {P : sa_P} {J : sa_J} {u : SX} (W : sa_WX P t J u) (V : sa_VJ P t J) (R : sa_Rn t J (sa_jc J)) (O : sa_Ous u) :
    ∃ r, t < r ∧ r ≤ 1000000000 ∧ sa_Ev t r J u ∧ ∀ post : Int32 → Prop, post (nI r) → wpX_nextTime post u := by
  revert V R O
  refine sa_WXi (C := fun P J u => sa_VJ P t J → sa_Rn t J (sa_jc J) → sa_Ous u → ∃ r, t < r ∧ r ≤ 1000000000 ∧ sa_Ev t r J u ∧ ∀ post : Int32 → Prop, post (nI r) → wpX_nextTime post u) W ?_
  intro ns jc tc xhe kd p1 p2 p3 ac ja ji jn js jt tj tt xss xsv xak xaj xgc xgk xgn xhs xhg xhn xou xah xst xpl xft xev xdn xus xis xvr xhd xtk xpd xpa xpi xun xwj W V R O
  obtain ⟨⟨w1, w2, w3, w4⟩, _⟩ := W
  obtain ⟨h9, N, T, h1, h2⟩ := V
  have hT : ∀ j, j < jc → ∃ T, T ≤ t + 100 ∧ jt j = nI T ∧ (js j = 1 → t < T) := by
    intro j hj
    obtain ⟨_, _, e, hle, _⟩ := h1 j hj
    refine ⟨T j, hle, e, fun z => ?_⟩
    obtain ⟨T', q1, q2, q3⟩ := R j hj z
    have : T' = T j := (nI_eq (by omega) (by omega)).mp (q3.symm.trans e)
    omega
  obtain ⟨r1, a1, a2, a3, a4⟩ := sa_nt6 (xhe := xhe) (kd := kd) (p1 := p1) (p2 := p2) (p3 := p3) (ac := ac) (ja := ja) (ji := ji) (jn := jn) (tj := tj) (tt := tt) (xss := xss) (xsv := xsv) (xak := xak) (xaj := xaj) (xgc := xgc) (xgk := xgk) (xgn := xgn) (xhs := xhs) (xhg := xhg) (xhn := xhn) (xou := xou) (xah := xah) (xst := xst) (xpl := xpl) (xft := xft) (xev := xev) (xdn := xdn) (xus := xus) (xis := xis) (xvr := xvr) (xhd := xhd) (xtk := xtk) (xpd := xpd) (xpa := xpa) (xpi := xpi) (xun := xun) (xwj := xwj) (ns := ns) (tc := tc) w3 w2 hT jc 0 1000000000 (by omega) (by omega) (Nat.le_refl _) (fun j hj => absurd hj (by omega))
  obtain ⟨r2, b1, b2, b3, b4⟩ := sa_nt85 (xhe := xhe) (kd := kd) (p1 := p1) (p2 := p2) (p3 := p3) (ac := ac) (ja := ja) (ji := ji) (jn := jn) (js := js) (jt := jt) (tj := tj) (tt := tt) (xss := xss) (xsv := xsv) (xak := xak) (xaj := xaj) (xgc := xgc) (xgk := xgk) (xgn := xgn) (xhs := xhs) (xhg := xhg) (xhn := xhn) (xou := xou) (xah := xah) (xst := xst) (xpl := xpl) (xft := xft) (xev := xev) (xdn := xdn) (xus := xus) (xis := xis) (xvr := xvr) (xhd := xhd) (xtk := xtk) (xpd := xpd) (xpa := xpa) (xpi := xpi) (xun := xun) (xwj := xwj) (ns := ns) (jc := jc) (tc := tc) w2 O 3 0 r1 (by omega) a1 (by omega) (fun j hj => absurd hj (by omega))
  have l : nI r2 ≤ nI r1 := nI_le b2 (by omega)
  exact ⟨r2, b1, by omega, ⟨fun j hj z => Int32.le_trans l ((a3 j hj).1 z), fun j hj z z' => Int32.le_trans l ((a3 j hj).2 z z'), b3⟩, fun post K => ⟨jc + 1, a4 post (jc + 1) (by omega) ⟨4, b4 post 4 (by omega) K⟩⟩⟩
end
section
/-! one unit of time: with an event, in both; without, in the reference alone -/
def sa_Ou1 (i : Nat) (u : SX) : Prop := match u with | (xns, xnow, xjc, xtc, xhe, xkd, xp1, xp2, xp3, xac, xja, xji, xjn, xjs, xjt, xtj, xtt, xss, xsv, xak, xaj, xgc, xgk, xgn, xhs, xhg, xhn, xou, xah, xst, xpl, xft, xev, xdn, xus, xis, xvr, xhd, xtk, xpd, xpa, xpi, xun, xwj) => ¬ xss i = 0 → xou i = -1 ∨ ∃ T, T < 2000000 ∧ xou i = nI T
theorem sa_OusG {u : SX} (h : ∀ i, i < 3 → sa_Ou1 i u) : sa_Ous u := by
  obtain ⟨xns, xnow, xjc, xtc, xhe, xkd, xp1, xp2, xp3, xac, xja, xji, xjn, xjs, xjt, xtj, xtt, xss, xsv, xak, xaj, xgc, xgk, xgn, xhs, xhg, xhn, xou, xah, xst, xpl, xft, xev, xdn, xus, xis, xvr, xhd, xtk, xpd, xpa, xpi, xun, xwj⟩ := u
  exact h
theorem sa_OusF {r : Nat → Prop} {t : Nat} {P : sa_P} {J : sa_J} {A : Nat → Nat} {u : SX} {v : SY} (F : ∀ i, i < 3 → sa_Fw (r i) i P t J (A i) u v) : sa_Ous u := by
  refine sa_OusG (fun i hi => ?_)
  rcases F i hi with ⟨F, _⟩ | ⟨on, L, h, n, f1, f2, f3, f4, f5, _⟩
  · obtain ⟨xns, xnow, xjc, xtc, xhe, xkd, xp1, xp2, xp3, xac, xja, xji, xjn, xjs, xjt, xtj, xtt, xss, xsv, xak, xaj, xgc, xgk, xgn, xhs, xhg, xhn, xou, xah, xst, xpl, xft, xev, xdn, xus, xis, xvr, xhd, xtk, xpd, xpa, xpi, xun, xwj⟩ := u
    obtain ⟨yns, ynow, yjc, ytc, yac, ysp, yja, yji, yjn, yhw, ywn, ytj, ytt, yst, ypl, ydn, yak, ywt, yun, yrs, yvr, yhd, ypa, ypi, ypd, ygs, ygn, ygc⟩ := v
    exact fun z => absurd F.1 z
  · obtain ⟨sv, ak, aj, gc, gk, gn, hs, hg, hn, ou⟩ := L
    obtain ⟨xns, xnow, xjc, xtc, xhe, xkd, xp1, xp2, xp3, xac, xja, xji, xjn, xjs, xjt, xtj, xtt, xss, xsv, xak, xaj, xgc, xgk, xgn, xhs, xhg, xhn, xou, xah, xst, xpl, xft, xev, xdn, xus, xis, xvr, xhd, xtk, xpd, xpa, xpi, xun, xwj⟩ := u
    obtain ⟨_, d1, d2, d3, d4, d5, d6, d7, d8, d9, d10⟩ := f1
    intro _
    rw [d10]
    exact f5
def sa_Ts (t : Nat) (J : sa_J) : Prop := match J with | (jc, ja, ji, jn, js, jt, tc, tj, tt) => ∀ j, j < jc → ∃ T, T ≤ t + 100 ∧ jt j = nI T
theorem sa_VJT {t : Nat} {P : sa_P} {J : sa_J} (V : sa_VJ P t J) : sa_Ts t J := by
  obtain ⟨ns, kd, p1, p2, p3, ac⟩ := P
  obtain ⟨jc, ja, ji, jn, js, jt, tc, tj, tt⟩ := J
  obtain ⟨_, N, T, g1, _⟩ := V
  intro j hj
  obtain ⟨_, _, e, hle, _⟩ := g1 j hj
  exact ⟨T j, hle, e⟩
def sa_nE (t : Nat) (J : sa_J) : Prop := match J with | (jc, ja, ji, jn, js, jt, tc, tj, tt) => ∀ j, j < jc → ¬ (js j = 1 ∧ jt j = nI t)
theorem sa_nEe {t t' r : Nat} {J : sa_J} {u : SX} (h2 : t' < r) (hr : r ≤ 1000000000) (E : sa_Ev t r J u) : sa_nE t' J := by
  obtain ⟨jc, ja, ji, jn, js, jt, tc, tj, tt⟩ := J
  obtain ⟨xns, xnow, xjc, xtc, xhe, xkd, xp1, xp2, xp3, xac, xja, xji, xjn, xjs, xjt, xtj, xtt, xss, xsv, xak, xaj, xgc, xgk, xgn, xhs, xhg, xhn, xou, xah, xst, xpl, xft, xev, xdn, xus, xis, xvr, xhd, xtk, xpd, xpa, xpi, xun, xwj⟩ := u
  intro j hj z
  have q := E.1 j hj z.1
  rw [z.2, nI_leI (by omega) (by omega)] at q
  omega
theorem sa_BRt {t t' r b : Nat} {P : sa_P} {J : sa_J} {u : SX} (h1 : t ≤ t') (h2 : t' < r) (hr : r ≤ 1000000000) (h3 : t' < 1000000) (hT : sa_Ts t J) (E : sa_Ev t r J u) (Bb : sa_BR P t J b) : sa_BR P t' J b := by
  obtain ⟨ns, kd, p1, p2, p3, ac⟩ := P
  obtain ⟨jc, ja, ji, jn, js, jt, tc, tj, tt⟩ := J
  obtain ⟨xns, xnow, xjc, xtc, xhe, xkd, xp1, xp2, xp3, xac, xja, xji, xjn, xjs, xjt, xtj, xtt, xss, xsv, xak, xaj, xgc, xgk, xgn, xhs, xhg, xhn, xou, xah, xst, xpl, xft, xev, xdn, xus, xis, xvr, xhd, xtk, xpd, xpa, xpi, xun, xwj⟩ := u
  rcases Bb with Bb | Bb
  · refine Or.inl (fun j hj z => ?_)
    obtain ⟨T, hT1, hT2⟩ := hT j hj
    by_cases c : nI t < jt j
    · have q := E.2.1 j hj z.2.1 c
      have q3 := z.2.2
      rw [hT2, nI_leI (by omega) (by omega)] at q
      rw [hT2, nI_ltI (by omega) (by omega)] at q3
      omega
    · exact Bb j hj ⟨z.1, z.2.1, c⟩
  · exact Or.inr Bb
theorem sa_Rnt {t t' r : Nat} {J : sa_J} {u : SX} (h1 : t ≤ t') (h2 : t' < r) (hr : r ≤ 1000000000) (h3 : t' < 1000000) (hT : sa_Ts t J) (E : sa_Ev t r J u) : sa_Rn t' J (sa_jc J) := by
  obtain ⟨jc, ja, ji, jn, js, jt, tc, tj, tt⟩ := J
  obtain ⟨xns, xnow, xjc, xtc, xhe, xkd, xp1, xp2, xp3, xac, xja, xji, xjn, xjs, xjt, xtj, xtt, xss, xsv, xak, xaj, xgc, xgk, xgn, xhs, xhg, xhn, xou, xah, xst, xpl, xft, xev, xdn, xus, xis, xvr, xhd, xtk, xpd, xpa, xpi, xun, xwj⟩ := u
  intro j hj z
  obtain ⟨T, hT1, hT2⟩ := hT j hj
  have q := E.1 j hj z
  rw [hT2, nI_leI (by omega) (by omega)] at q
  exact ⟨T, by omega, by omega, hT2⟩
theorem sa_Rne {t t' : Nat} {P : sa_P} {J J1 : sa_J} {u : SX} (h3 : t' < 1000000) (c1 : sa_VJ P t' J) (a2 : sa_jc J1 = sa_jc J) (a3 : match J, J1 with | (jc, ja, ji, jn, js, jt, tc, tj, tt), (jc', ja', ji', jn', js', jt', tc', tj', tt') => (∀ k, k < 0 → js' k = js k ∧ jt' k = jt k) ∧ (∀ k, 0 ≤ k → k < jc → js' k = 1 → js k = 1 ∧ jt' k = jt k ∧ jt k ≠ nI t')) (E : sa_Ev t t' J u) : sa_Rn t' J1 (sa_jc J1) := by
  obtain ⟨ns, kd, p1, p2, p3, ac⟩ := P
  obtain ⟨jc, ja, ji, jn, js, jt, tc, tj, tt⟩ := J
  obtain ⟨jc', ja', ji', jn', js', jt', tc', tj', tt'⟩ := J1
  obtain ⟨xns, xnow, xjc, xtc, xhe, xkd, xp1, xp2, xp3, xac, xja, xji, xjn, xjs, xjt, xtj, xtt, xss, xsv, xak, xaj, xgc, xgk, xgn, xhs, xhg, xhn, xou, xah, xst, xpl, xft, xev, xdn, xus, xis, xvr, xhd, xtk, xpd, xpa, xpi, xun, xwj⟩ := u
  have a2' : jc' = jc := a2
  subst a2'
  intro j hj z
  obtain ⟨z1, z2, z3⟩ := a3.2 j (Nat.zero_le _) hj z
  obtain ⟨_, N, T, g1, _⟩ := c1
  obtain ⟨_, _, e, hle, _⟩ := g1 j hj
  have q := E.1 j hj z1
  have hb : T j < 2 ^ 31 := by omega
  rw [e, nI_leI (by omega) hb] at q
  have ne : T j ≠ t' := fun w => z3 (by rw [e, w])
  exact ⟨T j, by omega, hle, z2.trans e⟩
/-- the clock goes on to t', no later than the next event -/
theorem sa_clock {t t' r : Nat} {P : sa_P} {J : sa_J} {A : Nat → Nat} {u : SX} {v : SY} (h1 : t ≤ t') (h2 : t' ≤ r) (h3 : t' < 1000000) (hr : r ≤ 1000000000) (M : sa_Mid (fun _ => True) t P J A u v) (E : sa_Ev t r J u) :
    sa_VJ P t' J ∧ sa_WX P t' J (sa_now u t') ∧ sa_WY P t' J (sa_nowY v t') ∧ (∀ i, i < 3 → sa_Fw (t' < r) i P t' J (A i) (sa_now u t') (sa_nowY v t')) := by
  obtain ⟨⟨VK, VA⟩, VJ, W, W2, R, F, hA, hc⟩ := M
  refine ⟨sa_VJt h1 VJ, sa_nowW h3 W, sa_nowV h3 h1 W2, fun i hi => ?_⟩
  refine sa_FwK (sa_nowA i hi).1 (sa_nowA i hi).2 (sa_nowB i hi) (Nat.le_refl _) (fun _ => sa_Jmr) ?_
  rcases F i hi with F | ⟨on, L, h, n, f1, f2, f3, f4, f5, f6, f7, f8, f9⟩
  · exact Or.inl F
  · have R0 := f9 trivial
    refine Or.inr ⟨on, L, h, n, f1, f2, sa_HYt R0 f3, f4, f5, f6, f7, f8, fun z => ?_⟩
    intro es
    obtain ⟨hw, R1⟩ := R0 es
    refine ⟨hw, ?_⟩
    rcases R1 with R1 | ⟨Tw, T, hT, hT2, eo⟩
    · exact Or.inl R1
    · refine Or.inr ⟨Tw, T, ?_, hT2, eo⟩
      have q : nI r ≤ nI T := by
        obtain ⟨jc, ja, ji, jn, js, jt, tc, tj, tt⟩ := J
        obtain ⟨sv, ak, aj, gc, gk, gn, hs, hg, hn, ou⟩ := L
        obtain ⟨xns, xnow, xjc, xtc, xhe, xkd, xp1, xp2, xp3, xac, xja, xji, xjn, xjs, xjt, xtj, xtt, xss, xsv, xak, xaj, xgc, xgk, xgn, xhs, xhg, xhn, xou, xah, xst, xpl, xft, xev, xdn, xus, xis, xvr, xhd, xtk, xpd, xpa, xpi, xun, xwj⟩ := u
        obtain ⟨_, d1, d2, d3, d4, d5, d6, d7, d8, d9, d10⟩ := f1
        have eo' : xou i = nI T := d10.trans eo
        have e3 := E.2.2 i hi on
        rw [eo'] at e3
        exact e3 (nI_lt hT (by omega))
      rw [nI_leI (by omega) (by omega)] at q
      omega
def sa_TY (v v' : SY) : Prop := ∃ w1 w2 w3 w4, (∀ post : SY → Prop, post w1 → wpY_endAttempts post v) ∧ (∀ post : SY → Prop, post w2 → wpY_work post w1 0) ∧ (∀ post : SY → Prop, post w3 → wpY_work post w2 1) ∧ (∀ post : SY → Prop, post w4 → wpY_work post w3 2) ∧ (∀ post : SY → Prop, post v' → wpY_begin post w4)
theorem sa_X46s {post : SX → Prop} {n i : Nat} {u : SX} {u' : SX} (hi : i < 3) (T : ∀ post : SX → Prop, post u' → wpX_goOn post u (nI i)) (K : sa_X46 post n (i + 1) u') : sa_X46 post (n + 1) i u := by
  obtain ⟨xns, xnow, xjc, xtc, xhe, xkd, xp1, xp2, xp3, xac, xja, xji, xjn, xjs, xjt, xtj, xtt, xss, xsv, xak, xaj, xgc, xgk, xgn, xhs, xhg, xhn, xou, xah, xst, xpl, xft, xev, xdn, xus, xis, xvr, xhd, xtk, xpd, xpa, xpi, xun, xwj⟩ := u
  refine br_f (nI_ge (b := 3) hi (by decide)) (T _ ?_)
  obtain ⟨xns', xnow', xjc', xtc', xhe', xkd', xp1', xp2', xp3', xac', xja', xji', xjn', xjs', xjt', xtj', xtt', xss', xsv', xak', xaj', xgc', xgk', xgn', xhs', xhg', xhn', xou', xah', xst', xpl', xft', xev', xdn', xus', xis', xvr', xhd', xtk', xpd', xpa', xpi', xun', xwj'⟩ := u'
  exact nm_r (nI_1 i) K
/-- something happens -/
theorem sa_ev {t t' : Nat} {P : sa_P} {J : sa_J} {A : Nat → Nat} {u : SX} {v : SY} (h1 : t ≤ t') (h3 : t' < 1000000) (M : sa_Mid (fun _ => True) t P J A u v) (E : sa_Ev t t' J u) :
    ∃ J' A' u' v', sa_Rel t' P J' A' u' v' ∧ (∀ post : SX → Prop, post u' → wpX_happen post (sa_now u t')) ∧ sa_TY (sa_nowY v t') v' := by
  obtain ⟨c1, c2, c3, c4⟩ := sa_clock h1 (Nat.le_refl _) h3 (by omega) M E
  obtain ⟨⟨VK, VA⟩, VJ, W, W2, R, F, hA, hc⟩ := M
  obtain ⟨J1, u1, v1, a1, a2, a3, a4, a5, a6, a7, a8, a9⟩ := sa_eal VA h3 (sa_jc J) 0 J _ _ (by omega) c1 c2 c3
  have R1 : sa_Rn t' J1 (sa_jc J1) := sa_Rne h3 c1 a2 a3 E
  have M1 : sa_Mid (fun _ => False) t' P J1 A u1 v1 := ⟨⟨VK, VA⟩, a1, a4, a6, R1, fun i hi => sa_FwK (a5 i hi).1 (a5 i hi).2 (a7 i hi) (by omega) (fun z => z.elim) (sa_FwW (fun z => z.elim) (c4 i hi)), hA, a2.trans hc⟩
  obtain ⟨J2, A2, u2, v2, b1, _, b2, b3⟩ := sa_run1 (i := 0) (by omega) M1
  obtain ⟨J3, A3, u3, v3, d1, _, d2, d3⟩ := sa_run1 (i := 1) (by omega) b1
  obtain ⟨J4, A4, u4, v4, e1, _, e2, e3⟩ := sa_run1 (i := 2) (by omega) d1
  obtain ⟨J5, u5, v5, f1, f2, f3, _, _⟩ := sa_fin (fun i hi => by
    rcases sa_3 hi with rfl | rfl | rfl
    · exact Or.inr (Or.inr (Or.inl rfl))
    · exact Or.inr (Or.inl rfl)
    · exact Or.inl rfl) e1
  refine ⟨J5, A4, u5, v5, f1, fun post K => ?_, ⟨v1, v2, v3, v4, fun post K => ?_, b3, d3, e3, f3⟩⟩
  · have K3 : sa_X46 post 1 3 u4 := by
      obtain ⟨xns, xnow, xjc, xtc, xhe, xkd, xp1, xp2, xp3, xac, xja, xji, xjn, xjs, xjt, xtj, xtt, xss, xsv, xak, xaj, xgc, xgk, xgn, xhs, xhg, xhn, xou, xah, xst, xpl, xft, xev, xdn, xus, xis, xvr, xhd, xtk, xpd, xpa, xpi, xun, xwj⟩ := u4
      refine br_t (by decide) (f2 _ ?_)
      obtain ⟨xns', xnow', xjc', xtc', xhe', xkd', xp1', xp2', xp3', xac', xja', xji', xjn', xjs', xjt', xtj', xtt', xss', xsv', xak', xaj', xgc', xgk', xgn', xhs', xhg', xhn', xou', xah', xst', xpl', xft', xev', xdn', xus', xis', xvr', xhd', xtk', xpd', xpa', xpi', xun', xwj'⟩ := u5
      exact K
    have := a8 post (sa_jc J + 1) (by omega) ⟨4, sa_X46s (by omega) b2 (sa_X46s (by omega) d2 (sa_X46s (by omega) e2 K3))⟩
    obtain ⟨xns, xnow, xjc, xtc, xhe, xkd, xp1, xp2, xp3, xac, xja, xji, xjn, xjs, xjt, xtj, xtt, xss, xsv, xak, xaj, xgc, xgk, xgn, xhs, xhg, xhn, xou, xah, xst, xpl, xft, xev, xdn, xus, xis, xvr, xhd, xtk, xpd, xpa, xpi, xun, xwj⟩ := u
    exact ⟨_, this⟩
  · have := a9 post (sa_jc J + 1) (by omega) K
    obtain ⟨yns, ynow, yjc, ytc, yac, ysp, yja, yji, yjn, yhw, ywn, ytj, ytt, yst, ypl, ydn, yak, ywt, yun, yrs, yvr, yhd, ypa, ypi, ypd, ygs, ygn, ygc⟩ := v
    exact ⟨_, this⟩
/-- no attempt ends -/
theorem sa_yen {t : Nat} {P : sa_P} {J : sa_J} (hE : sa_nE t J) : ∀ d j (v : SY), j + d = sa_jc J → sa_WY P t J v →
    ∃ v', sa_WY P t J v' ∧ sa_AllY v v' ∧ ∀ (post : SY → Prop) n, d < n → post v' → sa_YE post n j v := by
  intro d
  induction d with
  | zero =>
    intro j v hj W2
    refine ⟨v, W2, sa_AllYr, ?_⟩
    intro post n hn K
    clear hE
    revert hj K
    refine sa_WYi (C := fun P J v => j + 0 = sa_jc J → post v → sa_YE post n j v) W2 ?_
    intro ns jc tc kd p1 p2 p3 ac ja ji jn js jt tj tt ysp yhw ywn yst ypl ydn yak ywt yun yrs yvr yhd ypa ypi ypd ygs ygn ygc W hj K
    have hj' : j = jc := hj
    have w3 : jc ≤ 90 := W.1.2.2.1
    obtain ⟨n, rfl⟩ : ∃ k, n = k + 1 := ⟨n - 1, by omega⟩
    exact br_t (nI_le (by omega) (by omega)) K
  | succ d ih =>
    intro j v hj W2
    have E : sa_EA P t J j J := by
      obtain ⟨ns, kd, p1, p2, p3, ac⟩ := P
      obtain ⟨jc, ja, ji, jn, js, jt, tc, tj, tt⟩ := J
      have hj' : j + (d + 1) = jc := hj
      exact Or.inl ⟨hE j (by omega), rfl⟩
    obtain ⟨v1, y1, y2, y3⟩ := sa_yea (by omega) W2 E
    obtain ⟨v', b1, b2, b3⟩ := ih (j + 1) v1 (by omega) y1
    refine ⟨v', b1, sa_AllYt y2 b2, fun post n hn K => ?_⟩
    obtain ⟨n, rfl⟩ : ∃ k, n = k + 1 := ⟨n - 1, by omega⟩
    exact y3 post n (b3 post n (by omega) K)
/-- a workflow at rest: work does nothing -/
theorem sa_wrest {i t A : Nat} {P : sa_P} {J : sa_J} {u : SX} {v : SY} (hi : i < 3) (W : sa_WX P t J u) (W2 : sa_WY P t J v) (F : sa_Fw True i P t J A u v) : ∀ post : SY → Prop, post v → wpY_work post v (nI i) := by
  intro post hp
  rcases F with ⟨F, e⟩ | ⟨on, L, h, n, f1, f2, f3, f4, f5, f6, f7, f8, f9⟩
  · exact (sa_goff hi F).2 post hp
  · refine sa_work hi f3 ?_
    by_cases es : sa_st h = 1
    · obtain ⟨hw, R⟩ := f9 trivial es
      obtain ⟨hW, hp20, _⟩ := sa_Iw (sa_WXn W) f4 es hw
      rcases R with ⟨Jw, j, h1, h2, h3⟩ | ⟨Tw, T, hT, hT2, eo⟩
      · exact sa_yo0 es hw (sa_YR hi es hw h2 hp20 h1 h3 Jw W2 f3) post hp
      · exact sa_yo0 es hw (sa_YRt hi es hw (by rw [eo]; exact sa_ne_m1 (by omega)) (by rw [eo]; exact nI_lt hT (by omega)) hW Tw W2 f3) post hp
    · exact ⟨fun _ => hp, fun z => absurd z es, fun z => absurd z es⟩
/-- begin does nothing to the jobs -/
theorem sa_brest {t : Nat} {P : sa_P} {J : sa_J} {v : SY} (VJ : sa_VJ P t J) (B : ∀ b, b < 4 → sa_BR P t J b) (VA : sa_VA P) (W2 : sa_WY P t J v) : ∃ v', sa_WY P t J v' ∧ sa_SY t J v' ∧ sa_AllY v v' ∧ ∀ post : SY → Prop, post v' → wpY_begin post v := by
  obtain ⟨v0, o1, o2, o3, o4⟩ := sa_y2l (sa_jc J) 0 v (by omega) W2 (by
    obtain ⟨jc, ja, ji, jn, js, jt, tc, tj, tt⟩ := J
    obtain ⟨yns, ynow, yjc, ytc, yac, ysp, yja, yji, yjn, yhw, ywn, ytj, ytt, yst, ypl, ydn, yak, ywt, yun, yrs, yvr, yhd, ypa, ypi, ypd, ygs, ygn, ygc⟩ := v
    exact fun j hj => absurd hj (by omega))
  have step : ∀ a, a < 4 → ∀ (post : SY → Prop) n2, sa_YB56 post n2 (a + 1) v0 → sa_YB56 post (n2 + 1) a v0 := by
    intro a ha post n2 K
    have hw : ∃ w, (1 ≤ w ∧ w ≤ 3) ∧ sa_w1 P a w := by
      obtain ⟨ns, kd, p1, p2, p3, ac⟩ := P
      obtain ⟨_, ⟨w, w1, w2, w3⟩, _⟩ := VA a ha
      exact ⟨w, ⟨w1, w2⟩, w3⟩
    obtain ⟨w, hw, ew⟩ := hw
    refine sa_y56 (n := 1) ha ew rfl o1 o2 ?_
    have hx : nI w - nI (sa_rr J a) ≤ 0 ∨ sa_mm J t a = -1 := by
      have Ba := B a ha
      have ew0 := ew
      have h9 := (sa_VJa VJ)
      obtain ⟨ns, kd, p1, p2, p3, ac⟩ := P
      obtain ⟨jc, ja, ji, jn, js, jt, tc, tj, tt⟩ := J
      rcases Ba with Ba | ⟨w', w1, w2, w3⟩
      · refine Or.inr ?_
        rcases sa_nrs ja js jt t (nI a) jc with ⟨h1, _⟩ | ⟨q, h1, h2, h3⟩
        · exact h1
        · exact absurd h3 (Ba q h1)
      · refine Or.inl ?_
        have ew1 : ac (7 * a + 1) = nI w := ew0
        have : w' = w := (nI_eq (by omega) (by omega)).mp (w2.symm.trans ew1)
        subst this
        have rb := sa_rnb ja js (nI a) jc
        have h9' : jc ≤ 90 := h9.1
        rw [Int32.le_iff_toInt_le]
        show (nI w' - nI (sa_rn ja js (nI a) jc)).toInt ≤ _
        rw [pk_sub_toInt (by omega) (by omega), show (0 : Int32).toInt = 0 from by decide]
        omega
    clear ew
    revert K
    refine sa_WYi (C := fun _ _ v0 => sa_YB56 post n2 (a + 1) v0 → sa_YB73 post n2 1 a (sa_mm J t a) (nI w - nI (sa_rr J a)) v0) o1 ?_
    intro ns jc tc kd p1 p2 p3 ac ja ji jn js jt tj tt ysp yhw ywn yst ypl ydn yak ywt yun yrs yvr yhd ypa ypi ypd ygs ygn ygc W K
    exact sa_ybx hx K
  refine ⟨v0, o1, o2, o3, fun post K => ?_⟩
  have K4 : sa_YB56 post 1 4 v0 := by
    obtain ⟨yns, ynow, yjc, ytc, yac, ysp, yja, yji, yjn, yhw, ywn, ytj, ytt, yst, ypl, ydn, yak, ywt, yun, yrs, yvr, yhd, ypa, ypi, ypd, ygs, ygn, ygc⟩ := v0
    exact br_t (by decide) K
  have := o4 post (sa_jc J + 1) (by omega) ⟨5, step 0 (by omega) post 4 (step 1 (by omega) post 3 (step 2 (by omega) post 2 (step 3 (by omega) post 1 K4)))⟩
  obtain ⟨yns, ynow, yjc, ytc, yac, ysp, yja, yji, yjn, yhw, ywn, ytj, ytt, yst, ypl, ydn, yak, ywt, yun, yrs, yvr, yhd, ypa, ypi, ypd, ygs, ygn, ygc⟩ := v
  exact ⟨_, this⟩
/-- nothing happens -/
theorem sa_noev {t t' r : Nat} {P : sa_P} {J : sa_J} {A : Nat → Nat} {u : SX} {v : SY} (h1 : t ≤ t') (h2 : t' < r) (hr : r ≤ 1000000000) (h3 : t' < 1000000) (M : sa_Rel t P J A u v) (E : sa_Ev t r J u) :
    ∃ v', sa_Rel t' P J A (sa_now u t') v' ∧ sa_TY (sa_nowY v t') v' := by
  obtain ⟨M, S, B⟩ := M
  obtain ⟨c1, c2, c3, c4⟩ := sa_clock h1 (Nat.le_of_lt h2) h3 hr M E
  obtain ⟨⟨VK, VA⟩, VJ, W, W2, R, F, hA, hc⟩ := M
  have hT := sa_VJT VJ
  have FF : ∀ i, i < 3 → sa_Fw True i P t' J (A i) (sa_now u t') (sa_nowY v t') := fun i hi => sa_FwW (fun _ => h2) (c4 i hi)
  obtain ⟨w1, a1, a2, a3⟩ := sa_yen (sa_nEe h2 hr E) (sa_jc J) 0 _ (by omega) c3
  have F1 : ∀ i, i < 3 → sa_Fw True i P t' J (A i) (sa_now u t') w1 := fun i hi => sa_FwK (sa_AllXr i hi).1 (sa_AllXr i hi).2 (a2 i hi) (Nat.le_refl _) (fun _ => sa_Jmr) (FF i hi)
  have B' : ∀ b, b < 4 → sa_BR P t' J b := fun b hb => sa_BRt h1 h2 hr h3 hT E (B b hb)
  obtain ⟨v', b1, b2, b3, b4⟩ := sa_brest c1 B' VA a1
  have R' : sa_Rn t' J (sa_jc J) := sa_Rnt h1 h2 hr h3 hT E
  refine ⟨v', ⟨⟨⟨VK, VA⟩, c1, c2, b1, R', fun i hi => sa_FwK (sa_AllXr i hi).1 (sa_AllXr i hi).2 (b3 i hi) (Nat.le_refl _) (fun _ => sa_Jmr) (F1 i hi), hA, hc⟩, b2, B'⟩, w1, w1, w1, w1, fun post K => ?_, sa_wrest (i := 0) (by omega) c2 a1 (F1 0 (by omega)), sa_wrest (i := 1) (by omega) c2 a1 (F1 1 (by omega)), sa_wrest (i := 2) (by omega) c2 a1 (F1 2 (by omega)), b4⟩
  have := a3 post (sa_jc J + 1) (by omega) K
  obtain ⟨yns, ynow, yjc, ytc, yac, ysp, yja, yji, yjn, yhw, ywn, ytj, ytt, yst, ypl, ydn, yak, ywt, yun, yrs, yvr, yhd, ypa, ypi, ypd, ygs, ygn, ygc⟩ := v
  exact ⟨_, this⟩
end
section
/-! advance -/
def sa_XA (post : Int32 → SX → Prop) (g n r k : Nat) (u : SX) : Prop := match u with | (xns, xnow, xjc, xtc, xhe, xkd, xp1, xp2, xp3, xac, xja, xji, xjn, xjs, xjt, xtj, xtt, xss, xsv, xak, xaj, xgc, xgk, xgn, xhs, xhg, xhn, xou, xah, xst, xpl, xft, xev, xdn, xus, xis, xvr, xhd, xtk, xpd, xpa, xpi, xun, xwj) => wX_advance_27 post (nI g) n (nI r) (nI k) xns xnow xjc xtc xhe xkd xp1 xp2 xp3 xac xja xji xjn xjs xjt xtj xtt xss xsv xak xaj xgc xgk xgn xhs xhg xhn xou xah xst xpl xft xev xdn xus xis xvr xhd xtk xpd xpa xpi xun xwj
def sa_YA (post : Int32 → SY → Prop) (m n k : Nat) (v : SY) : Prop := match v with | (yns, ynow, yjc, ytc, yac, ysp, yja, yji, yjn, yhw, ywn, ytj, ytt, yst, ypl, ydn, yak, ywt, yun, yrs, yvr, yhd, ypa, ypi, ypd, ygs, ygn, ygc) => wY_advance_15 post (nI m) n (nI k) yns ynow yjc ytc yac ysp yja yji yjn yhw ywn ytj ytt yst ypl ydn yak ywt yun yrs yvr yhd ypa ypi ypd ygs ygn ygc
def sa_xnow (u : SX) : Int32 := match u with | (xns, xnow, xjc, xtc, xhe, xkd, xp1, xp2, xp3, xac, xja, xji, xjn, xjs, xjt, xtj, xtt, xss, xsv, xak, xaj, xgc, xgk, xgn, xhs, xhg, xhn, xou, xah, xst, xpl, xft, xev, xdn, xus, xis, xvr, xhd, xtk, xpd, xpa, xpi, xun, xwj) => xnow
def sa_ynow (v : SY) : Int32 := match v with | (yns, ynow, yjc, ytc, yac, ysp, yja, yji, yjn, yhw, ywn, ytj, ytt, yst, ypl, ydn, yak, ywt, yun, yrs, yvr, yhd, ypa, ypi, ypd, ygs, ygn, ygc) => ynow
theorem sa_xn {P : sa_P} {t : Nat} {J : sa_J} {u : SX} (W : sa_WX P t J u) : sa_xnow u = nI t := by
  obtain ⟨ns, kd, p1, p2, p3, ac⟩ := P
  obtain ⟨jc, ja, ji, jn, js, jt, tc, tj, tt⟩ := J
  obtain ⟨xns, xnow, xjc, xtc, xhe, xkd, xp1, xp2, xp3, xac, xja, xji, xjn, xjs, xjt, xtj, xtt, xss, xsv, xak, xaj, xgc, xgk, xgn, xhs, xhg, xhn, xou, xah, xst, xpl, xft, xev, xdn, xus, xis, xvr, xhd, xtk, xpd, xpa, xpi, xun, xwj⟩ := u
  exact W.2.2.1
theorem sa_yn {P : sa_P} {t : Nat} {J : sa_J} {v : SY} (W : sa_WY P t J v) : sa_ynow v = nI t := by
  obtain ⟨ns, kd, p1, p2, p3, ac⟩ := P
  obtain ⟨jc, ja, ji, jn, js, jt, tc, tj, tt⟩ := J
  obtain ⟨yns, ynow, yjc, ytc, yac, ysp, yja, yji, yjn, yhw, ywn, ytj, ytt, yst, ypl, ydn, yak, ywt, yun, yrs, yvr, yhd, ypa, ypi, ypd, ygs, ygn, ygc⟩ := v
  exact W.2.2.1
theorem sa_nowid {P : sa_P} {t : Nat} {J : sa_J} {u : SX} (W : sa_WX P t J u) : sa_now u t = u := by
  obtain ⟨ns, kd, p1, p2, p3, ac⟩ := P
  obtain ⟨jc, ja, ji, jn, js, jt, tc, tj, tt⟩ := J
  obtain ⟨xns, xnow, xjc, xtc, xhe, xkd, xp1, xp2, xp3, xac, xja, xji, xjn, xjs, xjt, xtj, xtt, xss, xsv, xak, xaj, xgc, xgk, xgn, xhs, xhg, xhn, xou, xah, xst, xpl, xft, xev, xdn, xus, xis, xvr, xhd, xtk, xpd, xpa, xpi, xun, xwj⟩ := u
  obtain ⟨_, x1, x2, _⟩ := W
  rw [x2]
  rfl
theorem sa_Evt {t t' r : Nat} {J : sa_J} {u : SX} (h : t ≤ t') (h3 : t' < 1000000) (E : sa_Ev t r J (sa_now u t)) : sa_Ev t' r J (sa_now u t') := by
  obtain ⟨jc, ja, ji, jn, js, jt, tc, tj, tt⟩ := J
  obtain ⟨xns, xnow, xjc, xtc, xhe, xkd, xp1, xp2, xp3, xac, xja, xji, xjn, xjs, xjt, xtj, xtt, xss, xsv, xak, xaj, xgc, xgk, xgn, xhs, xhg, xhn, xou, xah, xst, xpl, xft, xev, xdn, xus, xis, xvr, xhd, xtk, xpd, xpa, xpi, xun, xwj⟩ := u
  obtain ⟨a, b, c⟩ := E
  have l : nI t ≤ nI t' := nI_le h (by omega)
  exact ⟨a, fun j hj z z' => b j hj z (Int32.lt_of_le_of_lt l z'), fun i hi z z' => c i hi z (Int32.lt_of_le_of_lt l z')⟩
theorem sa_YAs {post : Int32 → SY → Prop} {m n k t : Nat} {P : sa_P} {J : sa_J} {v v' : SY} (W : sa_WY P t J v) (hk : k < m) (hm : m ≤ 100) (T : sa_TY (sa_nowY v (t + 1)) v') (K : sa_YA post m n (k + 1) v') : sa_YA post m (n + 1) k v := by
  obtain ⟨w1, w2, w3, w4, t1, t2, t3, t4, t5⟩ := T
  have en := sa_yn W
  obtain ⟨yns, ynow, yjc, ytc, yac, ysp, yja, yji, yjn, yhw, ywn, ytj, ytt, yst, ypl, ydn, yak, ywt, yun, yrs, yvr, yhd, ypa, ypi, ypd, ygs, ygn, ygc⟩ := v
  have en' : ynow = nI t := en
  subst en'
  refine br_f (nI_ge hk (by omega)) (nm_r (nI_1 t) (t1 _ ?_))
  obtain ⟨yns1, ynow1, yjc1, ytc1, yac1, ysp1, yja1, yji1, yjn1, yhw1, ywn1, ytj1, ytt1, yst1, ypl1, ydn1, yak1, ywt1, yun1, yrs1, yvr1, yhd1, ypa1, ypi1, ypd1, ygs1, ygn1, ygc1⟩ := w1
  refine t2 _ ?_
  obtain ⟨yns2, ynow2, yjc2, ytc2, yac2, ysp2, yja2, yji2, yjn2, yhw2, ywn2, ytj2, ytt2, yst2, ypl2, ydn2, yak2, ywt2, yun2, yrs2, yvr2, yhd2, ypa2, ypi2, ypd2, ygs2, ygn2, ygc2⟩ := w2
  refine t3 _ ?_
  obtain ⟨yns3, ynow3, yjc3, ytc3, yac3, ysp3, yja3, yji3, yjn3, yhw3, ywn3, ytj3, ytt3, yst3, ypl3, ydn3, yak3, ywt3, yun3, yrs3, yvr3, yhd3, ypa3, ypi3, ypd3, ygs3, ygn3, ygc3⟩ := w3
  refine t4 _ ?_
  obtain ⟨yns4, ynow4, yjc4, ytc4, yac4, ysp4, yja4, yji4, yjn4, yhw4, ywn4, ytj4, ytt4, yst4, ypl4, ydn4, yak4, ywt4, yun4, yrs4, yvr4, yhd4, ypa4, ypi4, ypd4, ygs4, ygn4, ygc4⟩ := w4
  refine t5 _ ?_
  obtain ⟨yns5, ynow5, yjc5, ytc5, yac5, ysp5, yja5, yji5, yjn5, yhw5, ywn5, ytj5, ytt5, yst5, ypl5, ydn5, yak5, ywt5, yun5, yrs5, yvr5, yhd5, ypa5, ypi5, ypd5, ygs5, ygn5, ygc5⟩ := v'
  exact nm_r (nI_1 k) K
theorem sa_XA0 {post : Int32 → SX → Prop} {g n r k : Nat} {u : SX} (h : g < r) (hr : r ≤ 1000000000) (K : post (nI g) (sa_now u g)) : sa_XA post g (n + 1) r k u := by
  obtain ⟨xns, xnow, xjc, xtc, xhe, xkd, xp1, xp2, xp3, xac, xja, xji, xjn, xjs, xjt, xtj, xtt, xss, xsv, xak, xaj, xgc, xgk, xgn, xhs, xhg, xhn, xou, xah, xst, xpl, xft, xev, xdn, xus, xis, xvr, xhd, xtk, xpd, xpa, xpi, xun, xwj⟩ := u
  exact br_c (fun _ => K) (fun _ => br_t (nI_lt h (by omega)) K)
theorem sa_XAs {post : Int32 → SX → Prop} {g n r k r' : Nat} {u u' : SX} (h : r ≤ g) (hg : g < 1000000) (hk : k < 100) (T : ∀ post : SX → Prop, post u' → wpX_happen post (sa_now u r)) (N : ∀ post : Int32 → Prop, post (nI r') → wpX_nextTime post u') (K : sa_XA post g n r' (k + 1) u') : sa_XA post g (n + 1) r k u := by
  obtain ⟨xns, xnow, xjc, xtc, xhe, xkd, xp1, xp2, xp3, xac, xja, xji, xjn, xjs, xjt, xtj, xtt, xss, xsv, xak, xaj, xgc, xgk, xgn, xhs, xhg, xhn, xou, xah, xst, xpl, xft, xev, xdn, xus, xis, xvr, xhd, xtk, xpd, xpa, xpi, xun, xwj⟩ := u
  refine br_f (nI_ge (b := 100) hk (by decide)) (br_f (nI_nlt h (by omega)) (T _ ?_))
  obtain ⟨xns', xnow', xjc', xtc', xhe', xkd', xp1', xp2', xp3', xac', xja', xji', xjn', xjs', xjt', xtj', xtt', xss', xsv', xak', xaj', xgc', xgk', xgn', xhs', xhg', xhn', xou', xah', xst', xpl', xft', xev', xdn', xus', xis', xvr', xhd', xtk', xpd', xpa', xpi', xun', xwj'⟩ := u'
  exact N _ (nm_r (nI_1 k) K)
theorem sa_adv {g : Nat} {P : sa_P} (hg : g < 1000000) : ∀ d t k kk r (J : sa_J) (A : Nat → Nat) (u : SX) (v : SY), t + d = g → t < r → r ≤ 1000000000 → k + d ≤ 100 → kk + d ≤ 100 → sa_Rel t P J A (sa_now u t) v → sa_Ev t r J (sa_now u t) →
    ∃ J' A' u' v', sa_Rel g P J' A' (sa_now u' g) v' ∧ (∀ post n, d < n → post (nI g) (sa_now u' g) → sa_XA post g n r k u) ∧ (∀ post n, d < n → post (nI g) v' → sa_YA post (kk + d) n kk v) := by
  intro d
  induction d with
  | zero =>
    intro t k kk r J A u v ht h1 h2 hk hkk M E
    have e : t = g := ht
    subst e
    refine ⟨J, A, u, v, M, fun post n hn K => ?_, fun post n hn K => ?_⟩
    · obtain ⟨n, rfl⟩ : ∃ m, n = m + 1 := ⟨n - 1, by omega⟩
      exact sa_XA0 h1 h2 K
    · obtain ⟨n, rfl⟩ : ∃ m, n = m + 1 := ⟨n - 1, by omega⟩
      obtain ⟨⟨_, _, _, W2, _⟩, _⟩ := M
      have en := sa_yn W2
      obtain ⟨yns, ynow, yjc, ytc, yac, ysp, yja, yji, yjn, yhw, ywn, ytj, ytt, yst, ypl, ydn, yak, ywt, yun, yrs, yvr, yhd, ypa, ypi, ypd, ygs, ygn, ygc⟩ := v
      have en' : ynow = nI t := en
      subst en'
      exact br_t (Int32.le_refl _) K
  | succ d ih =>
    intro t k kk r J A u v ht h1 h2 hk hkk M E
    have W2 := M.1.2.2.2.1
    have W := M.1.2.2.1
    by_cases c : r = t + 1
    · subst c
      obtain ⟨J1, A1, u1, v1, b1, b2, b3⟩ := sa_ev (t := t) (t' := t + 1) (by omega) (by omega) M.1 E
      rw [sa_nown] at b2
      have W1 := b1.1.2.2.1
      obtain ⟨r', n1, n2, n3, n4⟩ := sa_next W1 b1.1.2.1 b1.1.2.2.2.2.1 (sa_OusF b1.1.2.2.2.2.2.1)
      have id1 := sa_nowid W1
      obtain ⟨J', A', u', v', a1, a2, a3⟩ := ih (t + 1) (k + 1) (kk + 1) r' J1 A1 u1 v1 (by omega) n1 n2 (by omega) (by omega) (by rw [id1]; exact b1) (by rw [id1]; exact n3)
      refine ⟨J', A', u', v', a1, fun post n hn K => ?_, fun post n hn K => ?_⟩
      · obtain ⟨n, rfl⟩ : ∃ m, n = m + 1 := ⟨n - 1, by omega⟩
        exact sa_XAs (by omega) hg (by omega) b2 n4 (a2 post n (by omega) K)
      · obtain ⟨n, rfl⟩ : ∃ m, n = m + 1 := ⟨n - 1, by omega⟩
        refine sa_YAs W2 (by omega) hkk b3 ?_
        have := a3 post n (by omega) K
        rw [show kk + 1 + d = kk + (d + 1) by omega] at this
        exact this
    · obtain ⟨v1, b1, b2⟩ := sa_noev (t := t) (t' := t + 1) (by omega) (by omega) h2 (by omega) M E
      rw [sa_nown] at b1
      obtain ⟨J', A', u', v', a1, a2, a3⟩ := ih (t + 1) k (kk + 1) r J A u v1 (by omega) (by omega) h2 (by omega) (by omega) b1 (sa_Evt (by omega) (by omega) E)
      refine ⟨J', A', u', v', a1, fun post n hn K => a2 post n (by omega) K, fun post n hn K => ?_⟩
      obtain ⟨n, rfl⟩ : ∃ m, n = m + 1 := ⟨n - 1, by omega⟩
      refine sa_YAs W2 (by omega) hkk b2 ?_
      have := a3 post n (by omega) K
      rw [show kk + 1 + d = kk + (d + 1) by omega] at this
      exact this
/-! the owed relation -/
/-- the two objects are at rest at one time t, and show one program, the same jobs and workflows -/
def i_Rel (k : Nat) (u : SX) (v : SY) : Prop := ∃ t P J A, t ≤ 20 * k ∧ sa_Rel t P J A u v
theorem i_up {k : Nat} {u : SX} {v : SY} (h : i_Rel k u v) : i_Rel (k + 5) u v := by
  obtain ⟨t, P, J, A, h1, h2⟩ := h
  exact ⟨t, P, J, A, by omega, h2⟩
theorem sa_isIn {post : Int32 → Prop} {v : SY} {x a b : Int32} (h0 : x < a ∨ b < x → post 0) (h1 : ¬ x < a → ¬ b < x → post 1) : wpY_isIn post v x a b := by
  obtain ⟨yns, ynow, yjc, ytc, yac, ysp, yja, yji, yjn, yhw, ywn, ytj, ytt, yst, ypl, ydn, yak, ywt, yun, yrs, yvr, yhd, ypa, ypi, ypd, ygs, ygn, ygc⟩ := v
  exact br_c (fun c => h0 (Or.inl c)) (fun c => br_c (fun c' => h0 (Or.inr c')) (fun c' => h1 c c'))
theorem sa_out {post : Int32 → Prop} {u : SX} {x a b : Int32} (h0 : ¬ x < a → x ≤ b → post 0) (h1 : x < a ∨ ¬ x ≤ b → post 1) : wpX_out post u x a b := by
  obtain ⟨xns, xnow, xjc, xtc, xhe, xkd, xp1, xp2, xp3, xac, xja, xji, xjn, xjs, xjt, xtj, xtt, xss, xsv, xak, xaj, xgc, xgk, xgn, xhs, xhg, xhn, xou, xah, xst, xpl, xft, xev, xdn, xus, xis, xvr, xhd, xtk, xpd, xpa, xpi, xun, xwj⟩ := u
  exact br_c (fun c => h1 (Or.inl c)) (fun c => br_c (fun c' => h0 c c') (fun c' => h1 (Or.inr c')))
theorem sa_WYn {P : sa_P} {t : Nat} {J : sa_J} {v : SY} (W : sa_WY P t J v) : t < 1000000 := by
  obtain ⟨ns, kd, p1, p2, p3, ac⟩ := P
  obtain ⟨jc, ja, ji, jn, js, jt, tc, tj, tt⟩ := J
  obtain ⟨yns, ynow, yjc, ytc, yac, ysp, yja, yji, yjn, yhw, ywn, ytj, ytt, yst, ypl, ydn, yak, ywt, yun, yrs, yvr, yhd, ypa, ypi, ypd, ygs, ygn, ygc⟩ := v
  exact W.1.2.1
theorem i_vc_advance {k : Nat} {u : SX} {v : SY} (I : i_Rel k u v) (hk : k + 5 ≤ 2560) (v1 : Int32) : wpX_advance (fun r u' => wpY_advance (fun r' v' => r' = r ∧ i_Rel (k + 5) u' v') v v1) u v1 := by
  obtain ⟨t, P, J, A, ht, M⟩ := I
  have W := M.1.2.2.1
  have W2 := M.1.2.2.2.1
  by_cases c0 : v1 < 0
  · have hY : wpY_advance (fun r' v' => r' = -1 ∧ i_Rel (k + 5) u v') v v1 := by
      obtain ⟨yns, ynow, yjc, ytc, yac, ysp, yja, yji, yjn, yhw, ywn, ytj, ytt, yst, ypl, ydn, yak, ywt, yun, yrs, yvr, yhd, ypa, ypi, ypd, ygs, ygn, ygc⟩ := v
      unfold wpY_advance
      dsimp only
      refine sa_isIn (fun _ => br_t rfl ?_) (fun c => absurd c0 c)
      exact ⟨rfl, t, P, J, A, by omega, M⟩
    obtain ⟨xns, xnow, xjc, xtc, xhe, xkd, xp1, xp2, xp3, xac, xja, xji, xjn, xjs, xjt, xtj, xtt, xss, xsv, xak, xaj, xgc, xgk, xgn, xhs, xhg, xhn, xou, xah, xst, xpl, xft, xev, xdn, xus, xis, xvr, xhd, xtk, xpd, xpa, xpi, xun, xwj⟩ := u
    exact br_t c0 hY
  by_cases c1 : v1 ≤ 100
  case neg =>
    have hY : wpY_advance (fun r' v' => r' = -1 ∧ i_Rel (k + 5) u v') v v1 := by
      obtain ⟨yns, ynow, yjc, ytc, yac, ysp, yja, yji, yjn, yhw, ywn, ytj, ytt, yst, ypl, ydn, yak, ywt, yun, yrs, yvr, yhd, ypa, ypi, ypd, ygs, ygn, ygc⟩ := v
      unfold wpY_advance
      dsimp only
      refine sa_isIn (fun _ => br_t rfl ?_) (fun _ c => absurd (Int32.not_lt.mp c) c1)
      exact ⟨rfl, t, P, J, A, by omega, M⟩
    obtain ⟨xns, xnow, xjc, xtc, xhe, xkd, xp1, xp2, xp3, xac, xja, xji, xjn, xjs, xjt, xtj, xtt, xss, xsv, xak, xaj, xgc, xgk, xgn, xhs, xhg, xhn, xou, xah, xst, xpl, xft, xev, xdn, xus, xis, xvr, xhd, xtk, xpd, xpa, xpi, xun, xwj⟩ := u
    exact br_f c0 (br_f c1 hY)
  obtain ⟨d, hd, rfl⟩ := nI_of2 (M := 100) (n := 100) (by decide) c0 c1
  obtain ⟨r, n1, n2, n3, n4⟩ := sa_next W M.1.2.1 M.1.2.2.2.2.1 (sa_OusF M.1.2.2.2.2.2.1)
  have id1 := sa_nowid W
  obtain ⟨J', A', u', v', a1, a2, a3⟩ := sa_adv (g := t + d) (by omega) d t 0 0 r J A u v rfl n1 n2 (by omega) (by omega) (by rw [id1]; exact M) (by rw [id1]; exact n3)
  have hY : wpY_advance (fun r' v' => r' = nI (t + d) ∧ i_Rel (k + 5) (sa_now u' (t + d)) v') v (nI d) := by
    have q := a3 (fun r' v' => r' = nI (t + d) ∧ i_Rel (k + 5) (sa_now u' (t + d)) v') (d + 1) (by omega) ⟨rfl, t + d, P, J', A', by omega, a1⟩
    rw [Nat.zero_add] at q
    clear W2 M a3
    obtain ⟨yns, ynow, yjc, ytc, yac, ysp, yja, yji, yjn, yhw, ywn, ytj, ytt, yst, ypl, ydn, yak, ywt, yun, yrs, yvr, yhd, ypa, ypi, ypd, ygs, ygn, ygc⟩ := v
    unfold wpY_advance
    dsimp only
    refine sa_isIn (fun z => absurd z (fun z => z.elim (fun z => c0 z) (fun z => Int32.not_lt.mpr c1 z))) (fun _ _ => ?_)
    exact br_f (by decide) ⟨d + 1, q⟩
  have hX := a2 (fun r u' => wpY_advance (fun r' v' => r' = r ∧ i_Rel (k + 5) u' v') v (nI d)) (d + 1) (by omega) hY
  have en := sa_xn W
  clear hY a2 id1 n3 M W
  obtain ⟨xns, xnow, xjc, xtc, xhe, xkd, xp1, xp2, xp3, xac, xja, xji, xjn, xjs, xjt, xtj, xtt, xss, xsv, xak, xaj, xgc, xgk, xgn, xhs, xhg, xhn, xou, xah, xst, xpl, xft, xev, xdn, xus, xis, xvr, xhd, xtk, xpd, xpa, xpi, xun, xwj⟩ := u
  have en' : xnow = nI t := en
  subst en'
  exact br_f c0 (br_t c1 (nm_r (nI_add t d) (n4 _ ⟨d + 1, hX⟩)))
end
section
/-! questions about jobs and time -/
theorem sa_XYi {P : sa_P} {t : Nat} {J : sa_J} {u : SX} {v : SY} {C : sa_P → sa_J → SX → SY → Prop} (W : sa_WX P t J u) (W2 : sa_WY P t J v)
    (h : ∀ (ns jc tc : Nat) (xhe : Int32) (kd p1 p2 p3 ac ja ji jn js jt tj tt xss xsv xak xaj xgc xgk xgn xhs xhg xhn xou xah xst xpl xft xev xdn xus xis xvr xhd xtk xpd xpa xpi xun xwj : Nat → Int32) (ysp yhw ywn yst ypl ydn yak ywt yun yrs yvr yhd ypa ypi ypd ygs ygn ygc : Nat → Int32), sa_WX (ns, kd, p1, p2, p3, ac) t (jc, ja, ji, jn, js, jt, tc, tj, tt) (nI ns, nI t, nI jc, nI tc, xhe, kd, p1, p2, p3, ac, ja, ji, jn, js, jt, tj, tt, xss, xsv, xak, xaj, xgc, xgk, xgn, xhs, xhg, xhn, xou, xah, xst, xpl, xft, xev, xdn, xus, xis, xvr, xhd, xtk, xpd, xpa, xpi, xun, xwj) → sa_WY (ns, kd, p1, p2, p3, ac) t (jc, ja, ji, jn, js, jt, tc, tj, tt) (nI ns, nI t, nI jc, nI tc, ac, ysp, ja, ji, jn, yhw, ywn, tj, tt, yst, ypl, ydn, yak, ywt, yun, yrs, yvr, yhd, ypa, ypi, ypd, ygs, ygn, ygc) → C (ns, kd, p1, p2, p3, ac) (jc, ja, ji, jn, js, jt, tc, tj, tt) (nI ns, nI t, nI jc, nI tc, xhe, kd, p1, p2, p3, ac, ja, ji, jn, js, jt, tj, tt, xss, xsv, xak, xaj, xgc, xgk, xgn, xhs, xhg, xhn, xou, xah, xst, xpl, xft, xev, xdn, xus, xis, xvr, xhd, xtk, xpd, xpa, xpi, xun, xwj) (nI ns, nI t, nI jc, nI tc, ac, ysp, ja, ji, jn, yhw, ywn, tj, tt, yst, ypl, ydn, yak, ywt, yun, yrs, yvr, yhd, ypa, ypi, ypd, ygs, ygn, ygc)) : C P J u v := by
  revert W2
  refine sa_WXi (C := fun P J u => sa_WY P t J v → C P J u v) W ?_
  intro ns jc tc xhe kd p1 p2 p3 ac ja ji jn js jt tj tt xss xsv xak xaj xgc xgk xgn xhs xhg xhn xou xah xst xpl xft xev xdn xus xis xvr xhd xtk xpd xpa xpi xun xwj W W2
  obtain ⟨yns, ynow, yjc, ytc, yac, ysp, yja, yji, yjn, yhw, ywn, ytj, ytt, yst, ypl, ydn, yak, ywt, yun, yrs, yvr, yhd, ypa, ypi, ypd, ygs, ygn, ygc⟩ := v
  have W3 := W2
  obtain ⟨_, rfl, rfl, rfl, rfl, rfl, rfl, rfl, rfl, rfl, rfl, z1, z2⟩ := W2
  exact h ns jc tc xhe kd p1 p2 p3 yac yja yji yjn js jt ytj ytt xss xsv xak xaj xgc xgk xgn xhs xhg xhn xou xah xst xpl xft xev xdn xus xis xvr xhd xtk xpd xpa xpi xun xwj ysp yhw ywn yst ypl ydn yak ywt yun yrs yvr yhd ypa ypi ypd ygs ygn ygc W W3
theorem i_vc_time {k : Nat} {u : SX} {v : SY} (I : i_Rel k u v) (hk : k + 5 ≤ 2560) : wpX_time (fun r => wpY_time (fun r' => r' = r ∧ i_Rel (k + 5) u v) v) u := by
  have K := i_up I
  obtain ⟨t, P, J, A, ht, M⟩ := I
  revert K
  generalize i_Rel (k + 5) u v = G
  refine sa_XYi (C := fun P J u v => G → wpX_time (fun r => wpY_time (fun r' => r' = r ∧ G) v) u) M.1.2.2.1 M.1.2.2.2.1 ?_
  intro ns jc tc xhe kd p1 p2 p3 ac ja ji jn js jt tj tt xss xsv xak xaj xgc xgk xgn xhs xhg xhn xou xah xst xpl xft xev xdn xus xis xvr xhd xtk xpd xpa xpi xun xwj ysp yhw ywn yst ypl ydn yak ywt yun yrs yvr yhd ypa ypi ypd ygs ygn ygc W W2 K
  exact ⟨rfl, K⟩
theorem i_vc_jobs {k : Nat} {u : SX} {v : SY} (I : i_Rel k u v) (hk : k + 5 ≤ 2560) : wpX_jobs (fun r => wpY_jobs (fun r' => r' = r ∧ i_Rel (k + 5) u v) v) u := by
  have K := i_up I
  obtain ⟨t, P, J, A, ht, M⟩ := I
  revert K
  generalize i_Rel (k + 5) u v = G
  refine sa_XYi (C := fun P J u v => G → wpX_jobs (fun r => wpY_jobs (fun r' => r' = r ∧ G) v) u) M.1.2.2.1 M.1.2.2.2.1 ?_
  intro ns jc tc xhe kd p1 p2 p3 ac ja ji jn js jt tj tt xss xsv xak xaj xgc xgk xgn xhs xhg xhn xou xah xst xpl xft xev xdn xus xis xvr xhd xtk xpd xpa xpi xun xwj ysp yhw ywn yst ypl ydn yak ywt yun yrs yvr yhd ypa ypi ypd ygs ygn ygc W W2 K
  exact ⟨rfl, K⟩
theorem i_vc_attempts {k : Nat} {u : SX} {v : SY} (I : i_Rel k u v) (hk : k + 5 ≤ 2560) : wpX_attempts (fun r => wpY_attempts (fun r' => r' = r ∧ i_Rel (k + 5) u v) v) u := by
  have K := i_up I
  obtain ⟨t, P, J, A, ht, M⟩ := I
  revert K
  generalize i_Rel (k + 5) u v = G
  refine sa_XYi (C := fun P J u v => G → wpX_attempts (fun r => wpY_attempts (fun r' => r' = r ∧ G) v) u) M.1.2.2.1 M.1.2.2.2.1 ?_
  intro ns jc tc xhe kd p1 p2 p3 ac ja ji jn js jt tj tt xss xsv xak xaj xgc xgk xgn xhs xhg xhn xou xah xst xpl xft xev xdn xus xis xvr xhd xtk xpd xpa xpi xun xwj ysp yhw ywn yst ypl ydn yak ywt yun yrs yvr yhd ypa ypi ypd ygs ygn ygc W W2 K
  exact ⟨rfl, K⟩
theorem i_vc_job {k : Nat} {u : SX} {v : SY} (I : i_Rel k u v) (hk : k + 5 ≤ 2560) (v1 : Int32) (v2 : Int32) : wpX_job (fun r => wpY_job (fun r' => r' = r ∧ i_Rel (k + 5) u v) v v1 v2) u v1 v2 := by
  have K := i_up I
  obtain ⟨t, P, J, A, ht, M⟩ := I
  revert K
  generalize i_Rel (k + 5) u v = G
  refine sa_XYi (C := fun P J u v => G → wpX_job (fun r => wpY_job (fun r' => r' = r ∧ G) v v1 v2) u v1 v2) M.1.2.2.1 M.1.2.2.2.1 ?_
  intro ns jc tc xhe kd p1 p2 p3 ac ja ji jn js jt tj tt xss xsv xak xaj xgc xgk xgn xhs xhg xhn xou xah xst xpl xft xev xdn xus xis xvr xhd xtk xpd xpa xpi xun xwj ysp yhw ywn yst ypl ydn yak ywt yun yrs yvr yhd ypa ypi ypd ygs ygn ygc W W2 K
  obtain ⟨⟨w1, w2, w3, w4⟩, _⟩ := W
  obtain ⟨_, _, _, _, _, _, _, _, _, _, _, z1, z2⟩ := W2
  unfold wpX_job wpY_job
  dsimp only
  refine sa_out (fun a b => ?_) (fun c => ?_)
  · refine br_t rfl ?_
    have hY : ∀ (r : Int32) (X : Prop), X → ((1 : Int32) = 0 → (-1 : Int32) = r ∧ G) ∧ (¬ (1 : Int32) = 0 → X) := fun r X x => br_f (by decide) x
    by_cases c0 : v1 < 0
    · refine br_t c0 (sa_isIn (fun z => ?_) (fun _ _ => br_f (by decide) (br_t c0 ⟨rfl, K⟩)))
      exact absurd z (fun z => z.elim a (fun z => Int32.not_lt.mpr b z))
    · refine br_f c0 ?_
      obtain ⟨j, hj, rfl⟩ := nI_of c0
      by_cases c1 : nI j < nI jc
      · have hj' : j < jc := (nI_ltI hj (by omega)).mp c1
        have hv : vp_in (nI j) 90 := vp_in_nI (by omega) (by decide)
        have hcl : (nI j).toNatClampNeg = j := nI_clamp (by omega)
        refine br_t c1 ?_
        have Y : ∀ (r : Int32), (∀ z0 : Int32, (js j = 2 → z0 = 1) → (js j = 3 → z0 = 0) → ((js j = 0 ∨ js j = 1) → z0 = -1) → wY_job_56 (fun r' => r' = r ∧ G) (nI j) v2 z0 (nI ns) (nI t) (nI jc) (nI tc) ac ysp ja ji jn yhw ywn tj tt yst ypl ydn yak ywt yun yrs yvr yhd ypa ypi ypd ygs ygn ygc) → wpY_isIn (fun r_1 => (r_1 = 0 → (-1 : Int32) = r ∧ G) ∧ (¬ r_1 = 0 → ((nI j < 0 → (-4 : Int32) = r ∧ G) ∧ (¬ nI j < 0 → ((nI j < nI jc → (vp_in (nI j) 90 ∧ ((yhw (nI j).toNatClampNeg = 3 → wY_job_56 (fun r' => r' = r ∧ G) (nI j) v2 1 (nI ns) (nI t) (nI jc) (nI tc) ac ysp ja ji jn yhw ywn tj tt yst ypl ydn yak ywt yun yrs yvr yhd ypa ypi ypd ygs ygn ygc) ∧ (¬ yhw (nI j).toNatClampNeg = 3 → (vp_in (nI j) 90 ∧ ((yhw (nI j).toNatClampNeg = 4 → wY_job_56 (fun r' => r' = r ∧ G) (nI j) v2 0 (nI ns) (nI t) (nI jc) (nI tc) ac ysp ja ji jn yhw ywn tj tt yst ypl ydn yak ywt yun yrs yvr yhd ypa ypi ypd ygs ygn ygc) ∧ (¬ yhw (nI j).toNatClampNeg = 4 → wY_job_56 (fun r' => r' = r ∧ G) (nI j) v2 (-1) (nI ns) (nI t) (nI jc) (nI tc) ac ysp ja ji jn yhw ywn tj tt yst ypl ydn yak ywt yun yrs yvr yhd ypa ypi ypd ygs ygn ygc))))))) ∧ (¬ nI j < nI jc → (-4 : Int32) = r ∧ G)))))) (nI ns, nI t, nI jc, nI tc, ac, ysp, ja, ji, jn, yhw, ywn, tj, tt, yst, ypl, ydn, yak, ywt, yun, yrs, yvr, yhd, ypa, ypi, ypd, ygs, ygn, ygc) v2 0 3 := by
          intro r Z
          refine sa_isIn (fun z => absurd z (fun z => z.elim a (fun z => Int32.not_lt.mpr b z))) (fun _ _ => br_f (by decide) (br_f c0 (br_t c1 (And.intro hv ?_))))
          rw [hcl]
          rcases z2 j hj' with ⟨x, y | ⟨y, _⟩, _⟩ | ⟨x, y, _⟩ | ⟨x, y⟩ | ⟨x, y⟩
          · rw [x] at Z
            rw [y]
            exact br_f (by decide) (And.intro hv (br_f (by decide) (Z (-1) (fun e => absurd e (by decide)) (fun e => absurd e (by decide)) (fun _ => rfl))))
          · rw [x] at Z
            rw [y]
            exact br_f (by decide) (And.intro hv (br_f (by decide) (Z (-1) (fun e => absurd e (by decide)) (fun e => absurd e (by decide)) (fun _ => rfl))))
          · rw [x] at Z
            rw [y]
            exact br_f (by decide) (And.intro hv (br_f (by decide) (Z (-1) (fun e => absurd e (by decide)) (fun e => absurd e (by decide)) (fun _ => rfl))))
          · rw [x] at Z
            rw [y]
            exact br_t rfl (Z 1 (fun _ => rfl) (fun e => absurd e (by decide)) (fun e => e.elim (fun e => absurd e (by decide)) (fun e => absurd e (by decide))))
          · rw [x] at Z
            rw [y]
            exact br_f (by decide) (And.intro hv (br_t rfl (Z 0 (fun e => absurd e (by decide)) (fun _ => rfl) (fun e => e.elim (fun e => absurd e (by decide)) (fun e => absurd e (by decide))))))
        refine br_c (fun e => And.intro hv (Y _ (fun z0 _ _ _ => br_t e (And.intro hv ⟨rfl, K⟩)))) (fun e => br_c (fun e1 => And.intro hv (Y _ (fun z0 _ _ _ => br_f e (br_t e1 (And.intro hv ⟨rfl, K⟩))))) (fun e1 => br_c (fun e2 => And.intro hv (Y _ (fun z0 _ _ _ => br_f e (br_f e1 (br_t e2 (And.intro hv ⟨rfl, K⟩)))))) (fun e2 => And.intro hv ?_)))
        have sj : js j = 0 ∨ js j = 1 ∨ js j = 2 ∨ js j = 3 := by
          rcases z2 j hj' with ⟨x, _⟩ | ⟨x, _⟩ | ⟨x, _⟩ | ⟨x, _⟩
          · exact Or.inl x
          · exact Or.inr (Or.inl x)
          · exact Or.inr (Or.inr (Or.inl x))
          · exact Or.inr (Or.inr (Or.inr x))
        rcases sj with sj | sj | sj | sj
        · refine br_t (by rw [hcl, sj]; decide) (br_t rfl (Y _ (fun z0 _ _ z3 => br_f e (br_f e1 (br_f e2 ⟨z3 (Or.inl sj), K⟩)))))
        · refine br_t (by rw [hcl, sj]; decide) (br_t rfl (Y _ (fun z0 _ _ z3 => br_f e (br_f e1 (br_f e2 ⟨z3 (Or.inr sj), K⟩)))))
        · refine br_f (by rw [hcl, sj]; decide) (br_f (by decide) (And.intro hv (br_t (by rw [hcl]; exact sj) (Y _ (fun z0 z1 _ _ => br_f e (br_f e1 (br_f e2 ⟨z1 sj, K⟩)))))))
        · refine br_f (by rw [hcl, sj]; decide) (br_f (by decide) (And.intro hv (br_f (by rw [hcl, sj]; decide) (Y _ (fun z0 _ z2 _ => br_f e (br_f e1 (br_f e2 ⟨z2 sj, K⟩)))))))
      · refine br_f c1 (sa_isIn (fun z => ?_) (fun _ _ => br_f (by decide) (br_f c0 (br_f c1 ⟨rfl, K⟩))))
        exact absurd z (fun z => z.elim a (fun z => Int32.not_lt.mpr b z))
  · refine br_f (by decide) (sa_isIn (fun _ => br_t rfl ⟨rfl, K⟩) (fun a b => ?_))
    exact absurd c (fun c => c.elim a (fun c => c (Int32.not_lt.mp b)))
theorem i_vc_attempt {k : Nat} {u : SX} {v : SY} (I : i_Rel k u v) (hk : k + 5 ≤ 2560) (v1 : Int32) (v2 : Int32) : wpX_attempt (fun r => wpY_attempt (fun r' => r' = r ∧ i_Rel (k + 5) u v) v v1 v2) u v1 v2 := by
  have K := i_up I
  obtain ⟨t, P, J, A, ht, M⟩ := I
  revert K
  generalize i_Rel (k + 5) u v = G
  refine sa_XYi (C := fun P J u v => G → wpX_attempt (fun r => wpY_attempt (fun r' => r' = r ∧ G) v v1 v2) u v1 v2) M.1.2.2.1 M.1.2.2.2.1 ?_
  intro ns jc tc xhe kd p1 p2 p3 ac ja ji jn js jt tj tt xss xsv xak xaj xgc xgk xgn xhs xhg xhn xou xah xst xpl xft xev xdn xus xis xvr xhd xtk xpd xpa xpi xun xwj ysp yhw ywn yst ypl ydn yak ywt yun yrs yvr yhd ypa ypi ypd ygs ygn ygc W W2 K
  obtain ⟨⟨w1, w2, w3, w4⟩, _⟩ := W
  unfold wpX_attempt wpY_attempt
  dsimp only
  refine sa_out (fun a b => ?_) (fun c => ?_)
  · have ab : ¬ (v2 < 0 ∨ (1 : Int32) < v2) := fun z => z.elim a (fun z => Int32.not_lt.mpr b z)
    refine br_t rfl ?_
    by_cases c0 : v1 < 0
    · exact br_t c0 (sa_isIn (fun z => absurd z ab) (fun _ _ => br_f (by decide) (br_t c0 ⟨rfl, K⟩)))
    · refine br_f c0 ?_
      obtain ⟨j, hj, rfl⟩ := nI_of c0
      by_cases c1 : nI j < nI tc
      · have hj' : j < tc := (nI_ltI hj (by omega)).mp c1
        have hv : vp_in (nI j) 360 := vp_in_nI (by omega) (by decide)
        refine br_t c1 (br_c (fun e => And.intro hv (sa_isIn (fun z => absurd z ab) (fun _ _ => br_f (by decide) (br_f c0 (br_t c1 (br_t e (And.intro hv ⟨rfl, K⟩))))))) (fun e => And.intro hv (sa_isIn (fun z => absurd z ab) (fun _ _ => br_f (by decide) (br_f c0 (br_t c1 (br_f e (And.intro hv ⟨rfl, K⟩))))))))
      · exact br_f c1 (sa_isIn (fun z => absurd z ab) (fun _ _ => br_f (by decide) (br_f c0 (br_f c1 ⟨rfl, K⟩))))
  · refine br_f (by decide) (sa_isIn (fun _ => br_t rfl ⟨rfl, K⟩) (fun a b => ?_))
    exact absurd c (fun c => c.elim a (fun c => c (Int32.not_lt.mp b)))
end
section
/-! questions about workflows -/
/-- what both hold of workflow i, once the component has it at hand -/
def sa_Lk (i : Nat) (P : sa_P) (t : Nat) (J : sa_J) (u : SX) (v : SY) : Prop := sa_off i u v ∨ (sa_on i u ∧ ∃ L h, sa_LX i L u ∧ sa_HX i h u ∧ sa_HY i P t L h v ∧ sa_I P J L h)
theorem sa_lookR {i k : Nat} {u : SX} {v : SY} (hi : i < 3) (I : i_Rel k u v) :
    ∃ u' t P J, i_Rel (k + 5) u' v ∧ sa_Lk i P t J u' v ∧ (sa_on i u ↔ sa_on i u') ∧ (∀ post : SX → Prop, post u' → wpX_goOn post u (nI i)) := by
  obtain ⟨t, P, J, A, ht, ⟨⟨V, VJ, W, W2, R, F, hA, hc⟩, S, B⟩⟩ := I
  obtain ⟨u', a1, a2, a3, a4, a5⟩ := sa_look hi W (F i hi)
  refine ⟨u', t, P, J, ⟨t, P, J, A, by omega, ⟨⟨V, VJ, a1, W2, R, fun j hj => ?_, hA, hc⟩, S, B⟩⟩, ?_, ?_, a5⟩
  · by_cases e : j = i
    · subst e
      exact a2
    · refine sa_FwK (a3 j hj e).1 (a3 j hj e).2 ?_ (Nat.le_refl _) (fun _ => sa_Jmr) (F j hj)
      exact sa_AllYr j hj
  · rcases a4 with a4 | ⟨o1, o2, L, h, b1, b2, b3, b4, _⟩
    · exact Or.inl a4
    · exact Or.inr ⟨o1, L, h, b1, b2, b3, b4⟩
  · rcases a4 with a4 | ⟨o1, o2, _⟩
    · have n2 : ¬ sa_on i u' := by
        obtain ⟨xns, xnow, xjc, xtc, xhe, xkd, xp1, xp2, xp3, xac, xja, xji, xjn, xjs, xjt, xtj, xtt, xss, xsv, xak, xaj, xgc, xgk, xgn, xhs, xhg, xhn, xou, xah, xst, xpl, xft, xev, xdn, xus, xis, xvr, xhd, xtk, xpd, xpa, xpi, xun, xwj⟩ := u'
        obtain ⟨yns, ynow, yjc, ytc, yac, ysp, yja, yji, yjn, yhw, ywn, ytj, ytt, yst, ypl, ydn, yak, ywt, yun, yrs, yvr, yhd, ypa, ypi, ypd, ygs, ygn, ygc⟩ := v
        exact fun z => z a4.1
      refine ⟨fun z => ?_, fun z => absurd z n2⟩
      rcases F i hi with ⟨f, _⟩ | ⟨_, L, h, n, f1, f2, f3, f4, _⟩
      · obtain ⟨xns, xnow, xjc, xtc, xhe, xkd, xp1, xp2, xp3, xac, xja, xji, xjn, xjs, xjt, xtj, xtt, xss, xsv, xak, xaj, xgc, xgk, xgn, xhs, xhg, xhn, xou, xah, xst, xpl, xft, xev, xdn, xus, xis, xvr, xhd, xtk, xpd, xpa, xpi, xun, xwj⟩ := u
        obtain ⟨yns, ynow, yjc, ytc, yac, ysp, yja, yji, yjn, yhw, ywn, ytj, ytt, yst, ypl, ydn, yak, ywt, yun, yrs, yvr, yhd, ypa, ypi, ypd, ygs, ygn, ygc⟩ := v
        exact absurd f.1 z
      · exfalso
        obtain ⟨ns, kd, p1, p2, p3, ac⟩ := P
        obtain ⟨jc, ja, ji, jn, js, jt, tc, tj, tt⟩ := J
        obtain ⟨sv, ak, aj, gc, gk, gn, hs, hg, hn, ou⟩ := L
        obtain ⟨st, pl, ev, dn, us, is, vr, hd, tk, pn, pa, pi, un, wj⟩ := h
        obtain ⟨xns', xnow', xjc', xtc', xhe', xkd', xp1', xp2', xp3', xac', xja', xji', xjn', xjs', xjt', xtj', xtt', xss', xsv', xak', xaj', xgc', xgk', xgn', xhs', xhg', xhn', xou', xah', xst', xpl', xft', xev', xdn', xus', xis', xvr', xhd', xtk', xpd', xpa', xpi', xun', xwj'⟩ := u'
        obtain ⟨yns, ynow, yjc, ytc, yac, ysp, yja, yji, yjn, yhw, ywn, ytj, ytt, yst, ypl, ydn, yak, ywt, yun, yrs, yvr, yhd, ypa, ypi, ypd, ygs, ygn, ygc⟩ := v
        obtain ⟨_, e1, _⟩ := f3
        obtain ⟨_, _, _, _, _, _, _, ⟨m, m1, m2, m3⟩, _⟩ := f4
        have q := a4.2.1
        rw [e1, m3, sa_e0 (by omega)] at q
        omega
    · exact ⟨fun _ => o1, fun _ => o2⟩
/-- the flow's number is wrong, or it is one of three -/
theorem sa_fl3 (x : Int32) : ((x < 0 ∨ ¬ x < 3) ∧ (x < 0 ∨ (2 : Int32) < x)) ∨ (∃ i, i < 3 ∧ x = nI i ∧ ¬ x < 0 ∧ x < 3 ∧ ¬ (2 : Int32) < x) := by
  rcases pk_ix x (n := 3) (by decide) with h | h | ⟨i, hi, rfl⟩
  · exact Or.inl ⟨Or.inl h, Or.inl h⟩
  · have h' : (3 : Int32) ≤ x := h
    refine Or.inl ⟨Or.inr (Int32.not_lt.mpr h'), Or.inr ?_⟩
    rw [Int32.le_iff_toInt_le, show (3 : Int32).toInt = 3 from by decide] at h'
    rw [Int32.lt_iff_toInt_lt, show (2 : Int32).toInt = 2 from by decide]
    omega
  · refine Or.inr ⟨i, hi, rfl, nI_pos (by omega), nI_lt (b := 3) hi (by decide), ?_⟩
    exact nI_nlt (b := i) (a := 2) (by omega) (by decide)
theorem sa_bf1 {post : Int32 → Prop} {u : SX} {x : Int32} (h : x < 0 ∨ ¬ x < 3) (K : post 1) : wpX_badFlow post u x := by
  obtain ⟨xns, xnow, xjc, xtc, xhe, xkd, xp1, xp2, xp3, xac, xja, xji, xjn, xjs, xjt, xtj, xtt, xss, xsv, xak, xaj, xgc, xgk, xgn, xhs, xhg, xhn, xou, xah, xst, xpl, xft, xev, xdn, xus, xis, xvr, xhd, xtk, xpd, xpa, xpi, xun, xwj⟩ := u
  exact br_c (fun _ => K) (fun c => br_f (h.resolve_left c) K)
theorem sa_bf0 {post : Int32 → Prop} {u : SX} {x : Int32} (h : ¬ x < 0) (h2 : x < 3) (K : post 0) : wpX_badFlow post u x := by
  obtain ⟨xns, xnow, xjc, xtc, xhe, xkd, xp1, xp2, xp3, xac, xja, xji, xjn, xjs, xjt, xtj, xtt, xss, xsv, xak, xaj, xgc, xgk, xgn, xhs, xhg, xhn, xou, xah, xst, xpl, xft, xev, xdn, xus, xis, xvr, xhd, xtk, xpd, xpa, xpi, xun, xwj⟩ := u
  exact br_f h (br_t h2 K)
theorem sa_in0 {post : Int32 → Prop} {v : SY} {x : Int32} (h : x < 0 ∨ (2 : Int32) < x) (K : post 0) : wpY_isIn post v x 0 2 := sa_isIn (fun _ => K) (fun a b => absurd h (fun h => h.elim a b))
theorem sa_in1 {post : Int32 → Prop} {v : SY} {x : Int32} (h : ¬ x < 0) (h2 : ¬ (2 : Int32) < x) (K : post 1) : wpY_isIn post v x 0 2 := sa_isIn (fun z => absurd z (fun z => z.elim h h2)) (fun _ _ => K)
/-- hasStarted -/
theorem sa_has {k : Nat} {u : SX} {v : SY} (I : i_Rel k u v) (x : Int32) :
    ∃ b u', i_Rel (k + 5) u' v ∧ ((b = 0 ∧ ((x < 0 ∨ (2 : Int32) < x) ∨ ∃ i, i < 3 ∧ x = nI i ∧ ¬ x < 0 ∧ ¬ (2 : Int32) < x ∧ sa_off i u' v)) ∨ (b = 1 ∧ ∃ i, i < 3 ∧ x = nI i ∧ ¬ x < 0 ∧ ¬ (2 : Int32) < x ∧ ∃ t P J L h, sa_LX i L u' ∧ sa_HX i h u' ∧ sa_HY i P t L h v ∧ sa_I P J L h)) ∧ ∀ post : Int32 → SX → Prop, post b u' → wpX_hasStarted post u x := by
  rcases sa_fl3 x with ⟨h1, h2⟩ | ⟨i, hi, rfl, h0, h3, h2⟩
  · refine ⟨0, u, i_up I, Or.inl ⟨rfl, Or.inl h2⟩, fun post K => ?_⟩
    obtain ⟨xns, xnow, xjc, xtc, xhe, xkd, xp1, xp2, xp3, xac, xja, xji, xjn, xjs, xjt, xtj, xtt, xss, xsv, xak, xaj, xgc, xgk, xgn, xhs, xhg, xhn, xou, xah, xst, xpl, xft, xev, xdn, xus, xis, xvr, xhd, xtk, xpd, xpa, xpi, xun, xwj⟩ := u
    unfold wpX_hasStarted
    dsimp only
    exact sa_bf1 h1 (br_f (by decide) (br_t rfl ⟨rfl, K⟩))
  · obtain ⟨u', t, P, J, a1, a2, a3, a4⟩ := sa_lookR hi I
    have hv : vp_in (nI i) 3 := vp_in_nI hi (by decide)
    have hc : (nI i).toNatClampNeg = i := nI_clamp (by omega)
    by_cases on : sa_on i u
    · have b : ∃ L h, sa_LX i L u' ∧ sa_HX i h u' ∧ sa_HY i P t L h v ∧ sa_I P J L h := by
        rcases a2 with a2 | ⟨_, q⟩
        · exfalso
          have on' := a3.mp on
          obtain ⟨xns, xnow, xjc, xtc, xhe, xkd, xp1, xp2, xp3, xac, xja, xji, xjn, xjs, xjt, xtj, xtt, xss, xsv, xak, xaj, xgc, xgk, xgn, xhs, xhg, xhn, xou, xah, xst, xpl, xft, xev, xdn, xus, xis, xvr, xhd, xtk, xpd, xpa, xpi, xun, xwj⟩ := u'
          obtain ⟨yns, ynow, yjc, ytc, yac, ysp, yja, yji, yjn, yhw, ywn, ytj, ytt, yst, ypl, ydn, yak, ywt, yun, yrs, yvr, yhd, ypa, ypi, ypd, ygs, ygn, ygc⟩ := v
          exact on' a2.1
        · exact q
      obtain ⟨L, h, q⟩ := b
      refine ⟨1, u', a1, Or.inr ⟨rfl, i, hi, rfl, h0, h2, t, P, J, L, h, q⟩, fun post K => ?_⟩
      obtain ⟨xns, xnow, xjc, xtc, xhe, xkd, xp1, xp2, xp3, xac, xja, xji, xjn, xjs, xjt, xtj, xtt, xss, xsv, xak, xaj, xgc, xgk, xgn, xhs, xhg, xhn, xou, xah, xst, xpl, xft, xev, xdn, xus, xis, xvr, xhd, xtk, xpd, xpa, xpi, xun, xwj⟩ := u
      unfold wpX_hasStarted
      dsimp only
      refine sa_bf0 h0 h3 (br_t rfl (And.intro hv (br_f (by rw [hc]; exact on) (br_f (by decide) (a4 _ ?_)))))
      obtain ⟨xns', xnow', xjc', xtc', xhe', xkd', xp1', xp2', xp3', xac', xja', xji', xjn', xjs', xjt', xtj', xtt', xss', xsv', xak', xaj', xgc', xgk', xgn', xhs', xhg', xhn', xou', xah', xst', xpl', xft', xev', xdn', xus', xis', xvr', xhd', xtk', xpd', xpa', xpi', xun', xwj'⟩ := u'
      exact ⟨rfl, K⟩
    · have off : sa_off i u v := by
        obtain ⟨t, P, J, A, ht, ⟨⟨V, VJ, W, W2, R, F, hA, hc⟩, S, B⟩⟩ := I
        rcases F i hi with ⟨f, _⟩ | ⟨o, _⟩
        · exact f
        · exact absurd o on
      refine ⟨0, u, i_up I, Or.inl ⟨rfl, Or.inr ⟨i, hi, rfl, h0, h2, off⟩⟩, fun post K => ?_⟩
      obtain ⟨xns, xnow, xjc, xtc, xhe, xkd, xp1, xp2, xp3, xac, xja, xji, xjn, xjs, xjt, xtj, xtt, xss, xsv, xak, xaj, xgc, xgk, xgn, xhs, xhg, xhn, xou, xah, xst, xpl, xft, xev, xdn, xus, xis, xvr, xhd, xtk, xpd, xpa, xpi, xun, xwj⟩ := u
      obtain ⟨yns, ynow, yjc, ytc, yac, ysp, yja, yji, yjn, yhw, ywn, ytj, ytt, yst, ypl, ydn, yak, ywt, yun, yrs, yvr, yhd, ypa, ypi, ypd, ygs, ygn, ygc⟩ := v
      unfold wpX_hasStarted
      dsimp only
      exact sa_bf0 h0 h3 (br_t rfl (And.intro hv (br_t (by rw [hc]; exact off.1) (br_t rfl ⟨rfl, K⟩))))
theorem i_vc_result {k : Nat} {u : SX} {v : SY} (I : i_Rel k u v) (hk : k + 5 ≤ 2560) (v1 : Int32) : wpX_result (fun r u' => wpY_result (fun r' => r' = r ∧ i_Rel (k + 5) u' v) v v1) u v1 := by
  obtain ⟨b, u', IR, B, T⟩ := sa_has I v1
  clear I
  revert IR
  generalize i_Rel (k + 5) = G
  intro IR
  obtain ⟨xns, xnow, xjc, xtc, xhe, xkd, xp1, xp2, xp3, xac, xja, xji, xjn, xjs, xjt, xtj, xtt, xss, xsv, xak, xaj, xgc, xgk, xgn, xhs, xhg, xhn, xou, xah, xst, xpl, xft, xev, xdn, xus, xis, xvr, xhd, xtk, xpd, xpa, xpi, xun, xwj⟩ := u
  unfold wpX_result
  dsimp only
  refine T _ ?_
  clear T
  rcases B with ⟨rfl, h2 | ⟨i, hi, rfl, h0, h2, off⟩⟩ | ⟨rfl, i, hi, rfl, h0, h2, t, P, J, L, h, X, H, Y, II⟩
  · obtain ⟨xns', xnow', xjc', xtc', xhe', xkd', xp1', xp2', xp3', xac', xja', xji', xjn', xjs', xjt', xtj', xtt', xss', xsv', xak', xaj', xgc', xgk', xgn', xhs', xhg', xhn', xou', xah', xst', xpl', xft', xev', xdn', xus', xis', xvr', xhd', xtk', xpd', xpa', xpi', xun', xwj'⟩ := u'
    obtain ⟨yns, ynow, yjc, ytc, yac, ysp, yja, yji, yjn, yhw, ywn, ytj, ytt, yst, ypl, ydn, yak, ywt, yun, yrs, yvr, yhd, ypa, ypi, ypd, ygs, ygn, ygc⟩ := v
    refine br_t rfl ?_
    unfold wpY_result
    dsimp only
    exact sa_in0 h2 (br_t rfl ⟨rfl, IR⟩)
  · obtain ⟨xns', xnow', xjc', xtc', xhe', xkd', xp1', xp2', xp3', xac', xja', xji', xjn', xjs', xjt', xtj', xtt', xss', xsv', xak', xaj', xgc', xgk', xgn', xhs', xhg', xhn', xou', xah', xst', xpl', xft', xev', xdn', xus', xis', xvr', xhd', xtk', xpd', xpa', xpi', xun', xwj'⟩ := u'
    obtain ⟨yns, ynow, yjc, ytc, yac, ysp, yja, yji, yjn, yhw, ywn, ytj, ytt, yst, ypl, ydn, yak, ywt, yun, yrs, yvr, yhd, ypa, ypi, ypd, ygs, ygn, ygc⟩ := v
    have hv : vp_in (nI i) 3 := vp_in_nI hi (by decide)
    have hc : (nI i).toNatClampNeg = i := nI_clamp (by omega)
    refine br_t rfl ?_
    unfold wpY_result
    dsimp only
    exact sa_in1 h0 h2 (br_f (by decide) (And.intro hv (br_f (by rw [hc, off.2.1]; decide) ⟨rfl, IR⟩)))
  · (obtain ⟨sv, ak, aj, gc, gk, gn, hs, hg, hn, ou⟩ := L); (obtain ⟨st, pl, ev, dn, us, is, vr, hd, tk, pn, pa, pi, un, wj⟩ := h); (obtain ⟨xns', xnow', xjc', xtc', xhe', xkd', xp1', xp2', xp3', xac', xja', xji', xjn', xjs', xjt', xtj', xtt', xss', xsv', xak', xaj', xgc', xgk', xgn', xhs', xhg', xhn', xou', xah', xst', xpl', xft', xev', xdn', xus', xis', xvr', xhd', xtk', xpd', xpa', xpi', xun', xwj'⟩ := u'); (obtain ⟨yns, ynow, yjc, ytc, yac, ysp, yja, yji, yjn, yhw, ywn, ytj, ytt, yst, ypl, ydn, yak, ywt, yun, yrs, yvr, yhd, ypa, ypi, ypd, ygs, ygn, ygc⟩ := v)
    obtain ⟨⟨b1, b2, b3, b4, b5⟩, c1, c2, c3, c4, c5, c6, c7, c8, c9, c10, c11, c12, c13, c14, c15⟩ := H
    obtain ⟨_, e1, e2, e3, e4, e5, e6, e7, e8, e9, e10⟩ := Y
    have hv : vp_in (nI i) 3 := vp_in_nI hi (by decide)
    have hc : (nI i).toNatClampNeg = i := nI_clamp (by omega)
    refine br_f (by decide) (And.intro hv ?_)
    unfold wpY_result
    dsimp only
    rw [hc, c1, c4]
    refine br_c (fun e => And.intro hv (sa_in1 h0 h2 (br_f (by decide) (And.intro hv (br_t (e1.trans e) (And.intro hv ⟨e9 e, IR⟩)))))) (fun e => sa_in1 h0 h2 (br_f (by decide) (And.intro hv (br_f (by rw [e1]; exact e) ⟨rfl, IR⟩))))
theorem i_vc_variable {k : Nat} {u : SX} {v : SY} (I : i_Rel k u v) (hk : k + 5 ≤ 2560) (v1 : Int32) (v2 : Int32) : wpX_variable (fun r u' => wpY_variable (fun r' => r' = r ∧ i_Rel (k + 5) u' v) v v1 v2) u v1 v2 := by
  obtain ⟨b, u', IR, B, T⟩ := sa_has I v1
  clear I
  revert IR
  generalize i_Rel (k + 5) = G
  intro IR
  obtain ⟨xns, xnow, xjc, xtc, xhe, xkd, xp1, xp2, xp3, xac, xja, xji, xjn, xjs, xjt, xtj, xtt, xss, xsv, xak, xaj, xgc, xgk, xgn, xhs, xhg, xhn, xou, xah, xst, xpl, xft, xev, xdn, xus, xis, xvr, xhd, xtk, xpd, xpa, xpi, xun, xwj⟩ := u
  unfold wpX_variable
  dsimp only
  refine T _ ?_
  clear T
  rcases B with ⟨rfl, h2 | ⟨i, hi, rfl, h0, h2, off⟩⟩ | ⟨rfl, i, hi, rfl, h0, h2, t, P, J, L, h, X, H, Y, II⟩
  · obtain ⟨xns', xnow', xjc', xtc', xhe', xkd', xp1', xp2', xp3', xac', xja', xji', xjn', xjs', xjt', xtj', xtt', xss', xsv', xak', xaj', xgc', xgk', xgn', xhs', xhg', xhn', xou', xah', xst', xpl', xft', xev', xdn', xus', xis', xvr', xhd', xtk', xpd', xpa', xpi', xun', xwj'⟩ := u'
    obtain ⟨yns, ynow, yjc, ytc, yac, ysp, yja, yji, yjn, yhw, ywn, ytj, ytt, yst, ypl, ydn, yak, ywt, yun, yrs, yvr, yhd, ypa, ypi, ypd, ygs, ygn, ygc⟩ := v
    refine br_t rfl ?_
    unfold wpY_variable
    dsimp only
    exact sa_in0 h2 (br_t rfl ⟨rfl, IR⟩)
  · obtain ⟨xns', xnow', xjc', xtc', xhe', xkd', xp1', xp2', xp3', xac', xja', xji', xjn', xjs', xjt', xtj', xtt', xss', xsv', xak', xaj', xgc', xgk', xgn', xhs', xhg', xhn', xou', xah', xst', xpl', xft', xev', xdn', xus', xis', xvr', xhd', xtk', xpd', xpa', xpi', xun', xwj'⟩ := u'
    obtain ⟨yns, ynow, yjc, ytc, yac, ysp, yja, yji, yjn, yhw, ywn, ytj, ytt, yst, ypl, ydn, yak, ywt, yun, yrs, yvr, yhd, ypa, ypi, ypd, ygs, ygn, ygc⟩ := v
    have hv : vp_in (nI i) 3 := vp_in_nI hi (by decide)
    have hc : (nI i).toNatClampNeg = i := nI_clamp (by omega)
    refine br_t rfl ?_
    unfold wpY_variable
    dsimp only
    exact sa_in1 h0 h2 (br_f (by decide) (sa_isIn (fun _ => br_t rfl ⟨rfl, IR⟩) (fun _ _ => br_f (by decide) (And.intro hv (br_t (by rw [hc]; exact off.2.1) ⟨rfl, IR⟩)))))
  · (obtain ⟨sv, ak, aj, gc, gk, gn, hs, hg, hn, ou⟩ := L); (obtain ⟨st, pl, ev, dn, us, is, vr, hd, tk, pn, pa, pi, un, wj⟩ := h); (obtain ⟨xns', xnow', xjc', xtc', xhe', xkd', xp1', xp2', xp3', xac', xja', xji', xjn', xjs', xjt', xtj', xtt', xss', xsv', xak', xaj', xgc', xgk', xgn', xhs', xhg', xhn', xou', xah', xst', xpl', xft', xev', xdn', xus', xis', xvr', xhd', xtk', xpd', xpa', xpi', xun', xwj'⟩ := u'); (obtain ⟨yns, ynow, yjc, ytc, yac, ysp, yja, yji, yjn, yhw, ywn, ytj, ytt, yst, ypl, ydn, yak, ywt, yun, yrs, yvr, yhd, ypa, ypi, ypd, ygs, ygn, ygc⟩ := v)
    obtain ⟨⟨b1, b2, b3, b4, b5⟩, c1, c2, c3, c4, c5, c6, c7, c8, c9, c10, c11, c12, c13, c14, c15⟩ := H
    obtain ⟨_, e1, e2, e3, e4, e5, e6, e7, e8, e9, e10⟩ := Y
    have II' := II
    clear II
    have hv : vp_in (nI i) 3 := vp_in_nI hi (by decide)
    have hc : (nI i).toNatClampNeg = i := nI_clamp (by omega)
    refine br_f (by decide) ?_
    unfold wpY_variable
    dsimp only
    rcases pk_ix v2 (n := 4) (by decide) with g | g | ⟨a, ha, rfl⟩
    · exact br_t g (sa_in1 h0 h2 (br_f (by decide) (sa_isIn (fun _ => br_t rfl ⟨rfl, IR⟩) (fun z _ => absurd g z))))
    · have g' : (4 : Int32) ≤ v2 := g
      have g0 : ¬ v2 < 0 := Int32.not_lt.mpr (Int32.le_trans (by decide) g')
      refine br_f g0 (br_t g' (sa_in1 h0 h2 (br_f (by decide) (sa_isIn (fun _ => br_t rfl ⟨rfl, IR⟩) (fun _ z => absurd ?_ z)))))
      rw [Int32.le_iff_toInt_le, show (4 : Int32).toInt = 4 from by decide] at g'
      rw [Int32.lt_iff_toInt_lt, show (3 : Int32).toInt = 3 from by decide]
      omega
    · refine br_f (nI_pos (by omega)) (br_f (nI_ge (b := 4) ha (by decide)) ?_)
      rw [sa_m4, nI_add, nI_clamp (show 4 * i + a < 2 ^ 31 by omega)]
      have n0 : ¬ yst i = 0 := by
        obtain ⟨ns, kd, p1, p2, p3, ac⟩ := P
        obtain ⟨jc, ja, ji, jn, js, jt, tc, tj, tt⟩ := J
        obtain ⟨_, _, _, _, _, _, _, ⟨m, m1, m2, m3⟩, _⟩ := II'
        rw [e1, m3, sa_e0 (by omega)]
        omega
      refine And.intro (vp_in_nI (by omega) (by decide)) (sa_in1 h0 h2 (br_f (by decide) (sa_isIn (fun z => absurd z (fun z => z.elim (nI_pos (by omega)) (nI_nlt (b := a) (a := 3) (by omega) (by decide)))) (fun _ _ => br_f (by decide) (And.intro hv (br_f (by rw [hc]; exact n0) (And.intro (vp_in_nI (by omega) (by decide)) ⟨(e2 a ha).trans (c8 a ha).symm, IR⟩)))))))
theorem i_vc_waitsAt {k : Nat} {u : SX} {v : SY} (I : i_Rel k u v) (hk : k + 5 ≤ 2560) (v1 : Int32) : wpX_waitsAt (fun r u' => wpY_waitsAt (fun r' => r' = r ∧ i_Rel (k + 5) u' v) v v1) u v1 := by
  obtain ⟨b, u', IR, B, T⟩ := sa_has I v1
  clear I
  revert IR
  generalize i_Rel (k + 5) = G
  intro IR
  obtain ⟨xns, xnow, xjc, xtc, xhe, xkd, xp1, xp2, xp3, xac, xja, xji, xjn, xjs, xjt, xtj, xtt, xss, xsv, xak, xaj, xgc, xgk, xgn, xhs, xhg, xhn, xou, xah, xst, xpl, xft, xev, xdn, xus, xis, xvr, xhd, xtk, xpd, xpa, xpi, xun, xwj⟩ := u
  unfold wpX_waitsAt
  dsimp only
  refine T _ ?_
  clear T
  rcases B with ⟨rfl, h2 | ⟨i, hi, rfl, h0, h2, off⟩⟩ | ⟨rfl, i, hi, rfl, h0, h2, t, P, J, L, h, X, H, Y, II⟩
  · obtain ⟨xns', xnow', xjc', xtc', xhe', xkd', xp1', xp2', xp3', xac', xja', xji', xjn', xjs', xjt', xtj', xtt', xss', xsv', xak', xaj', xgc', xgk', xgn', xhs', xhg', xhn', xou', xah', xst', xpl', xft', xev', xdn', xus', xis', xvr', xhd', xtk', xpd', xpa', xpi', xun', xwj'⟩ := u'
    obtain ⟨yns, ynow, yjc, ytc, yac, ysp, yja, yji, yjn, yhw, ywn, ytj, ytt, yst, ypl, ydn, yak, ywt, yun, yrs, yvr, yhd, ypa, ypi, ypd, ygs, ygn, ygc⟩ := v
    refine br_t rfl (br_t rfl ?_)
    unfold wpY_waitsAt
    dsimp only
    exact sa_in0 h2 (br_t rfl ⟨rfl, IR⟩)
  · obtain ⟨xns', xnow', xjc', xtc', xhe', xkd', xp1', xp2', xp3', xac', xja', xji', xjn', xjs', xjt', xtj', xtt', xss', xsv', xak', xaj', xgc', xgk', xgn', xhs', xhg', xhn', xou', xah', xst', xpl', xft', xev', xdn', xus', xis', xvr', xhd', xtk', xpd', xpa', xpi', xun', xwj'⟩ := u'
    obtain ⟨yns, ynow, yjc, ytc, yac, ysp, yja, yji, yjn, yhw, ywn, ytj, ytt, yst, ypl, ydn, yak, ywt, yun, yrs, yvr, yhd, ypa, ypi, ypd, ygs, ygn, ygc⟩ := v
    have hv : vp_in (nI i) 3 := vp_in_nI hi (by decide)
    have hc : (nI i).toNatClampNeg = i := nI_clamp (by omega)
    refine br_t rfl (br_t rfl ?_)
    unfold wpY_waitsAt
    dsimp only
    exact sa_in1 h0 h2 (br_f (by decide) (And.intro hv (br_f (by rw [hc, off.2.1]; decide) ⟨rfl, IR⟩)))
  · (obtain ⟨sv, ak, aj, gc, gk, gn, hs, hg, hn, ou⟩ := L); (obtain ⟨st, pl, ev, dn, us, is, vr, hd, tk, pn, pa, pi, un, wj⟩ := h); (obtain ⟨xns', xnow', xjc', xtc', xhe', xkd', xp1', xp2', xp3', xac', xja', xji', xjn', xjs', xjt', xtj', xtt', xss', xsv', xak', xaj', xgc', xgk', xgn', xhs', xhg', xhn', xou', xah', xst', xpl', xft', xev', xdn', xus', xis', xvr', xhd', xtk', xpd', xpa', xpi', xun', xwj'⟩ := u'); (obtain ⟨yns, ynow, yjc, ytc, yac, ysp, yja, yji, yjn, yhw, ywn, ytj, ytt, yst, ypl, ydn, yak, ywt, yun, yrs, yvr, yhd, ypa, ypi, ypd, ygs, ygn, ygc⟩ := v)
    obtain ⟨⟨b1, b2, b3, b4, b5⟩, c1, c2, c3, c4, c5, c6, c7, c8, c9, c10, c11, c12, c13, c14, c15⟩ := H
    obtain ⟨_, e1, e2, e3, e4, e5, e6, e7, e8, e9, e10⟩ := Y
    have hv : vp_in (nI i) 3 := vp_in_nI hi (by decide)
    have hc : (nI i).toNatClampNeg = i := nI_clamp (by omega)
    refine br_f (by decide) (And.intro hv ?_)
    dsimp only
    rw [hc, c1]
    refine br_c (fun e => br_f (by decide) (And.intro hv ?_)) (fun e => br_t rfl ?_)
    · obtain ⟨q1, _⟩ := e10 e
      rw [hc, c14]
      unfold wpY_waitsAt
      dsimp only
      cases un
      · refine br_t rfl (And.intro hv (sa_in1 h0 h2 (br_f (by decide) (And.intro hv (br_t (by rw [hc]; exact e1.trans e) (And.intro hv ⟨?_, IR⟩))))))
        rw [hc]
        exact q1.trans c2.symm
      · refine br_f (by rw [if_pos rfl]; exact sa_ne_m1 (by omega)) (And.intro hv (sa_in1 h0 h2 (br_f (by decide) (And.intro hv (br_t (by rw [hc]; exact e1.trans e) (And.intro hv ⟨?_, IR⟩))))))
        rw [hc]
        exact q1.trans (c3 rfl).symm
    · unfold wpY_waitsAt
      dsimp only
      exact sa_in1 h0 h2 (br_f (by decide) (And.intro hv (br_f (by rw [hc, e1]; exact e) ⟨rfl, IR⟩)))
theorem i_vc_pile {k : Nat} {u : SX} {v : SY} (I : i_Rel k u v) (hk : k + 5 ≤ 2560) (v1 : Int32) : wpX_pile (fun r u' => wpY_pile (fun r' => r' = r ∧ i_Rel (k + 5) u' v) v v1) u v1 := by
  obtain ⟨b, u', IR, B, T⟩ := sa_has I v1
  clear I
  revert IR
  generalize i_Rel (k + 5) = G
  intro IR
  obtain ⟨xns, xnow, xjc, xtc, xhe, xkd, xp1, xp2, xp3, xac, xja, xji, xjn, xjs, xjt, xtj, xtt, xss, xsv, xak, xaj, xgc, xgk, xgn, xhs, xhg, xhn, xou, xah, xst, xpl, xft, xev, xdn, xus, xis, xvr, xhd, xtk, xpd, xpa, xpi, xun, xwj⟩ := u
  unfold wpX_pile
  dsimp only
  refine T _ ?_
  clear T
  rcases B with ⟨rfl, h2 | ⟨i, hi, rfl, h0, h2, off⟩⟩ | ⟨rfl, i, hi, rfl, h0, h2, t, P, J, L, h, X, H, Y, II⟩
  · obtain ⟨xns', xnow', xjc', xtc', xhe', xkd', xp1', xp2', xp3', xac', xja', xji', xjn', xjs', xjt', xtj', xtt', xss', xsv', xak', xaj', xgc', xgk', xgn', xhs', xhg', xhn', xou', xah', xst', xpl', xft', xev', xdn', xus', xis', xvr', xhd', xtk', xpd', xpa', xpi', xun', xwj'⟩ := u'
    obtain ⟨yns, ynow, yjc, ytc, yac, ysp, yja, yji, yjn, yhw, ywn, ytj, ytt, yst, ypl, ydn, yak, ywt, yun, yrs, yvr, yhd, ypa, ypi, ypd, ygs, ygn, ygc⟩ := v
    refine br_t rfl ?_
    unfold wpY_pile
    dsimp only
    exact sa_in0 h2 (br_t rfl ⟨rfl, IR⟩)
  · obtain ⟨xns', xnow', xjc', xtc', xhe', xkd', xp1', xp2', xp3', xac', xja', xji', xjn', xjs', xjt', xtj', xtt', xss', xsv', xak', xaj', xgc', xgk', xgn', xhs', xhg', xhn', xou', xah', xst', xpl', xft', xev', xdn', xus', xis', xvr', xhd', xtk', xpd', xpa', xpi', xun', xwj'⟩ := u'
    obtain ⟨yns, ynow, yjc, ytc, yac, ysp, yja, yji, yjn, yhw, ywn, ytj, ytt, yst, ypl, ydn, yak, ywt, yun, yrs, yvr, yhd, ypa, ypi, ypd, ygs, ygn, ygc⟩ := v
    have hv : vp_in (nI i) 3 := vp_in_nI hi (by decide)
    have hc : (nI i).toNatClampNeg = i := nI_clamp (by omega)
    refine br_t rfl ?_
    unfold wpY_pile
    dsimp only
    exact sa_in1 h0 h2 (br_f (by decide) (And.intro hv ⟨by rw [hc]; exact off.2.2.1, IR⟩))
  · (obtain ⟨sv, ak, aj, gc, gk, gn, hs, hg, hn, ou⟩ := L); (obtain ⟨st, pl, ev, dn, us, is, vr, hd, tk, pn, pa, pi, un, wj⟩ := h); (obtain ⟨xns', xnow', xjc', xtc', xhe', xkd', xp1', xp2', xp3', xac', xja', xji', xjn', xjs', xjt', xtj', xtt', xss', xsv', xak', xaj', xgc', xgk', xgn', xhs', xhg', xhn', xou', xah', xst', xpl', xft', xev', xdn', xus', xis', xvr', xhd', xtk', xpd', xpa', xpi', xun', xwj'⟩ := u'); (obtain ⟨yns, ynow, yjc, ytc, yac, ysp, yja, yji, yjn, yhw, ywn, ytj, ytt, yst, ypl, ydn, yak, ywt, yun, yrs, yvr, yhd, ypa, ypi, ypd, ygs, ygn, ygc⟩ := v)
    obtain ⟨⟨b1, b2, b3, b4, b5⟩, c1, c2, c3, c4, c5, c6, c7, c8, c9, c10, c11, c12, c13, c14, c15⟩ := H
    obtain ⟨_, e1, e2, e3, e4, e5, e6, e7, e8, e9, e10⟩ := Y
    have hv : vp_in (nI i) 3 := vp_in_nI hi (by decide)
    have hc : (nI i).toNatClampNeg = i := nI_clamp (by omega)
    refine br_f (by decide) (And.intro hv ?_)
    unfold wpY_pile
    dsimp only
    rw [hc, c14]
    cases un
    · exact br_t rfl (And.intro hv (sa_in1 h0 h2 (br_f (by decide) (And.intro hv ⟨e3.trans (c11 rfl).symm, IR⟩))))
    · exact br_f (by rw [if_pos rfl]; exact sa_ne_m1 (by omega)) (And.intro hv (sa_in1 h0 h2 (br_f (by decide) (And.intro hv ⟨e3, IR⟩))))
end
section
/-! state, signals, load -/
theorem i_vc_state {k : Nat} {u : SX} {v : SY} (I : i_Rel k u v) (hk : k + 5 ≤ 2560) (v1 : Int32) : wpX_state (fun r u' => wpY_state (fun r' => r' = r ∧ i_Rel (k + 5) u' v) v v1) u v1 := by
  rcases sa_fl3 v1 with ⟨h1, h2⟩ | ⟨i, hi, rfl, h0, h3, h2⟩
  · have IR := i_up I
    clear I
    revert IR
    generalize i_Rel (k + 5) = G
    intro IR
    obtain ⟨xns, xnow, xjc, xtc, xhe, xkd, xp1, xp2, xp3, xac, xja, xji, xjn, xjs, xjt, xtj, xtt, xss, xsv, xak, xaj, xgc, xgk, xgn, xhs, xhg, xhn, xou, xah, xst, xpl, xft, xev, xdn, xus, xis, xvr, xhd, xtk, xpd, xpa, xpi, xun, xwj⟩ := u
    obtain ⟨yns, ynow, yjc, ytc, yac, ysp, yja, yji, yjn, yhw, ywn, ytj, ytt, yst, ypl, ydn, yak, ywt, yun, yrs, yvr, yhd, ypa, ypi, ypd, ygs, ygn, ygc⟩ := v
    unfold wpX_state wpY_state
    dsimp only
    exact sa_bf1 h1 (br_f (by decide) (sa_in0 h2 (br_t rfl ⟨rfl, IR⟩)))
  · obtain ⟨u', t, P, J, IR, a2, _, a4⟩ := sa_lookR hi I
    clear I
    revert IR
    generalize i_Rel (k + 5) = G
    intro IR
    have hv : vp_in (nI i) 3 := vp_in_nI hi (by decide)
    have hc : (nI i).toNatClampNeg = i := nI_clamp (by omega)
    obtain ⟨xns, xnow, xjc, xtc, xhe, xkd, xp1, xp2, xp3, xac, xja, xji, xjn, xjs, xjt, xtj, xtt, xss, xsv, xak, xaj, xgc, xgk, xgn, xhs, xhg, xhn, xou, xah, xst, xpl, xft, xev, xdn, xus, xis, xvr, xhd, xtk, xpd, xpa, xpi, xun, xwj⟩ := u
    unfold wpX_state
    dsimp only
    refine sa_bf0 h0 h3 (br_t rfl (a4 _ ?_))
    clear a4
    rcases a2 with off | ⟨on, L, h, X, H, Y, II⟩
    · obtain ⟨xns', xnow', xjc', xtc', xhe', xkd', xp1', xp2', xp3', xac', xja', xji', xjn', xjs', xjt', xtj', xtt', xss', xsv', xak', xaj', xgc', xgk', xgn', xhs', xhg', xhn', xou', xah', xst', xpl', xft', xev', xdn', xus', xis', xvr', xhd', xtk', xpd', xpa', xpi', xun', xwj'⟩ := u'
      obtain ⟨yns, ynow, yjc, ytc, yac, ysp, yja, yji, yjn, yhw, ywn, ytj, ytt, yst, ypl, ydn, yak, ywt, yun, yrs, yvr, yhd, ypa, ypi, ypd, ygs, ygn, ygc⟩ := v
      unfold wpY_state
      dsimp only
      exact And.intro hv (br_t (by rw [hc]; exact off.1) (sa_in1 h0 h2 (br_f (by decide) (And.intro hv ⟨by rw [hc]; exact off.2.1, IR⟩))))
    · obtain ⟨sv, ak, aj, gc, gk, gn, hs, hg, hn, ou⟩ := L
      obtain ⟨st, pl, ev, dn, us, is, vr, hd, tk, pn, pa, pi, un, wj⟩ := h
      obtain ⟨xns', xnow', xjc', xtc', xhe', xkd', xp1', xp2', xp3', xac', xja', xji', xjn', xjs', xjt', xtj', xtt', xss', xsv', xak', xaj', xgc', xgk', xgn', xhs', xhg', xhn', xou', xah', xst', xpl', xft', xev', xdn', xus', xis', xvr', xhd', xtk', xpd', xpa', xpi', xun', xwj'⟩ := u'
      obtain ⟨yns, ynow, yjc, ytc, yac, ysp, yja, yji, yjn, yhw, ywn, ytj, ytt, yst, ypl, ydn, yak, ywt, yun, yrs, yvr, yhd, ypa, ypi, ypd, ygs, ygn, ygc⟩ := v
      obtain ⟨_, c1, _⟩ := H
      obtain ⟨_, e1, _⟩ := Y
      unfold wpY_state
      dsimp only
      exact And.intro hv (br_f (by rw [hc]; exact on) (And.intro hv (sa_in1 h0 h2 (br_f (by decide) (And.intro hv ⟨by rw [hc]; exact e1.trans c1.symm, IR⟩)))))
/-- counting signals -/
def sa_sc (tk : Nat → Int32) : Nat → Nat
  | 0 => 0
  | k + 1 => if tk k = 0 then sa_sc tk k + 1 else sa_sc tk k
section
variable {xns xnow xjc xtc xhe : Int32} {xkd xp1 xp2 xp3 xac xja xji xjn xjs xjt xtj xtt xss xsv xak xaj xgc xgk xgn xhs xhg xhn xou xah xst xpl xft xev xdn xus xis xvr xhd xtk xpd xpa xpi xun xwj : Nat → Int32} {i gc : Nat} {tk : Nat → Int32} {post : Int32 → SX → Prop}
theorem sa_xsc (hi : i < 3) (h6 : gc ≤ 6) (e : xgc i = nI gc) (et : ∀ k, k < 6 → xtk (6 * i + k) = tk k) (e01 : ∀ k, k < gc → tk k = 0 ∨ tk k = 1) : ∀ d k, k + d = gc → ∀ n, d < n → post (nI (sa_sc tk gc)) (xns, xnow, xjc, xtc, xhe, xkd, xp1, xp2, xp3, xac, xja, xji, xjn, xjs, xjt, xtj, xtt, xss, xsv, xak, xaj, xgc, xgk, xgn, xhs, xhg, xhn, xou, xah, xst, xpl, xft, xev, xdn, xus, xis, xvr, xhd, xtk, xpd, xpa, xpi, xun, xwj) → wX_signals_11 post (nI i) 1 xns xnow xjc xtc xhe xkd xp1 xp2 xp3 xac xja xji xjn xjs xjt xtj xtt xss xsv xak xaj xgc xgk xgn xhs xhg xhn xou xah xst xpl xft xev xdn xus xis xvr xhd xtk xpd xpa xpi xun xwj n (nI (sa_sc tk k)) (nI k) := by
  intro d
  induction d with
  | zero =>
    intro k hk n hn hp
    have ek : k = gc := hk
    subst ek
    obtain ⟨n, rfl⟩ : ∃ m, n = m + 1 := ⟨n - 1, by omega⟩
    refine br_f (by decide) (And.intro (vp_in_nI hi (by decide)) (br_t ?_ hp))
    rw [nI_clamp (by omega), e]
    exact Int32.le_refl _
  | succ d ih =>
    intro k hk n hn hp
    obtain ⟨n, rfl⟩ : ∃ m, n = m + 1 := ⟨n - 1, by omega⟩
    have K := ih (k + 1) (by omega) n (by omega) hp
    refine br_f (by decide) (And.intro (vp_in_nI hi (by decide)) ?_)
    rw [sa_m6, nI_add, nI_clamp (show i < 2 ^ 31 by omega), nI_clamp (show 6 * i + k < 2 ^ 31 by omega), e, et k (by omega)]
    refine br_f (nI_ge (by omega) (by omega)) (And.intro (vp_in_nI (by omega) (by decide)) ?_)
    rcases e01 k (by omega) with z | z
    · refine nm_r (e' := nI (sa_sc tk (k + 1))) ?_ (nm_r (nI_1 k) K)
      rw [z, nI_1, show sa_sc tk (k + 1) = sa_sc tk k + 1 from if_pos z]
      exact pk_sub (b := 0) (Nat.zero_le _)
    · refine nm_r (e' := nI (sa_sc tk (k + 1))) ?_ (nm_r (nI_1 k) K)
      rw [z, nI_1, show sa_sc tk (k + 1) = sa_sc tk k from if_neg (by rw [z]; decide)]
      exact nI_pred _
end
section
variable {yns ynow yjc ytc : Int32} {yac ysp yja yji yjn yhw ywn ytj ytt yst ypl ydn yak ywt yun yrs yvr yhd ypa ypi ypd ygs ygn ygc : Nat → Int32} {i gc : Nat} {tk gk : Nat → Int32} {post : Int32 → Prop}
theorem sa_ysc (hi : i < 3) (h6 : gc ≤ 6) (e : ygc i = nI gc) (et : ∀ k, k < gc → ygs (6 * i + k) = (if tk k = 0 then gk k else -1)) (g01 : ∀ k, k < gc → gk k = 0 ∨ gk k = 1) : ∀ d k, k + d = gc → ∀ n, d < n → post (nI (sa_sc tk gc)) → wY_signals_4 post (nI i) yns ynow yjc ytc yac ysp yja yji yjn yhw ywn ytj ytt yst ypl ydn yak ywt yun yrs yvr yhd ypa ypi ypd ygs ygn ygc n (nI (sa_sc tk k)) (nI k) := by
  intro d
  induction d with
  | zero =>
    intro k hk n hn hp
    have ek : k = gc := hk
    subst ek
    obtain ⟨n, rfl⟩ : ∃ m, n = m + 1 := ⟨n - 1, by omega⟩
    rw [wY_signals_4]
    refine sa_in1 (nI_pos (by omega)) (nI_nlt (b := i) (a := 2) (by omega) (by decide)) (br_f (by decide) (And.intro (vp_in_nI hi (by decide)) (br_t ?_ hp)))
    rw [nI_clamp (by omega), e]
    exact Int32.le_refl _
  | succ d ih =>
    intro k hk n hn hp
    obtain ⟨n, rfl⟩ : ∃ m, n = m + 1 := ⟨n - 1, by omega⟩
    have K := ih (k + 1) (by omega) n (by omega) hp
    rw [wY_signals_4]
    refine sa_in1 (nI_pos (by omega)) (nI_nlt (b := i) (a := 2) (by omega) (by decide)) (br_f (by decide) (And.intro (vp_in_nI hi (by decide)) ?_))
    rw [sa_m6, nI_add, nI_clamp (show i < 2 ^ 31 by omega), nI_clamp (show 6 * i + k < 2 ^ 31 by omega), e, et k (by omega)]
    refine br_f (nI_ge (by omega) (by omega)) (And.intro (vp_in_nI (by omega) (by decide)) ?_)
    by_cases z : tk k = 0
    · rw [if_pos z]
      rw [show sa_sc tk (k + 1) = sa_sc tk k + 1 from if_pos z] at K
      refine br_f ?_ (nm_r (nI_1 _) (nm_r (nI_1 k) K))
      rcases g01 k (by omega) with q | q
      · rw [q]
        decide
      · rw [q]
        decide
    · rw [if_neg z]
      rw [show sa_sc tk (k + 1) = sa_sc tk k from if_neg z] at K
      exact br_t (by decide) (nm_r (nI_1 k) K)
end
theorem i_vc_signals {k : Nat} {u : SX} {v : SY} (I : i_Rel k u v) (hk : k + 5 ≤ 2560) (v1 : Int32) : wpX_signals (fun r u' => wpY_signals (fun r' => r' = r ∧ i_Rel (k + 5) u' v) v v1) u v1 := by
  obtain ⟨b, u', IR, B, T⟩ := sa_has I v1
  clear I
  revert IR
  generalize i_Rel (k + 5) = G
  intro IR
  obtain ⟨xns, xnow, xjc, xtc, xhe, xkd, xp1, xp2, xp3, xac, xja, xji, xjn, xjs, xjt, xtj, xtt, xss, xsv, xak, xaj, xgc, xgk, xgn, xhs, xhg, xhn, xou, xah, xst, xpl, xft, xev, xdn, xus, xis, xvr, xhd, xtk, xpd, xpa, xpi, xun, xwj⟩ := u
  unfold wpX_signals
  dsimp only
  refine T _ ?_
  clear T
  rcases B with ⟨rfl, h2 | ⟨i, hi, rfl, h0, h2, off⟩⟩ | ⟨rfl, i, hi, rfl, h0, h2, t, P, J, L, h, X, H, Y, II⟩
  · obtain ⟨xns', xnow', xjc', xtc', xhe', xkd', xp1', xp2', xp3', xac', xja', xji', xjn', xjs', xjt', xtj', xtt', xss', xsv', xak', xaj', xgc', xgk', xgn', xhs', xhg', xhn', xou', xah', xst', xpl', xft', xev', xdn', xus', xis', xvr', xhd', xtk', xpd', xpa', xpi', xun', xwj'⟩ := u'
    obtain ⟨yns, ynow, yjc, ytc, yac, ysp, yja, yji, yjn, yhw, ywn, ytj, ytt, yst, ypl, ydn, yak, ywt, yun, yrs, yvr, yhd, ypa, ypi, ypd, ygs, ygn, ygc⟩ := v
    unfold wpY_signals
    dsimp only
    refine ⟨1, br_t rfl ⟨0 + 1, ?_⟩⟩
    rw [wY_signals_4]
    exact sa_in0 h2 (br_t rfl ⟨rfl, IR⟩)
  · obtain ⟨xns', xnow', xjc', xtc', xhe', xkd', xp1', xp2', xp3', xac', xja', xji', xjn', xjs', xjt', xtj', xtt', xss', xsv', xak', xaj', xgc', xgk', xgn', xhs', xhg', xhn', xou', xah', xst', xpl', xft', xev', xdn', xus', xis', xvr', xhd', xtk', xpd', xpa', xpi', xun', xwj'⟩ := u'
    obtain ⟨yns, ynow, yjc, ytc, yac, ysp, yja, yji, yjn, yhw, ywn, ytj, ytt, yst, ypl, ydn, yak, ywt, yun, yrs, yvr, yhd, ypa, ypi, ypd, ygs, ygn, ygc⟩ := v
    have hv : vp_in (nI i) 3 := vp_in_nI hi (by decide)
    have hc : (nI i).toNatClampNeg = i := nI_clamp (by omega)
    unfold wpY_signals
    dsimp only
    refine ⟨1, br_t rfl ⟨0 + 1, ?_⟩⟩
    rw [wY_signals_4]
    refine sa_in1 h0 h2 (br_f (by decide) (And.intro hv (br_t ?_ ⟨rfl, IR⟩)))
    rw [hc, off.2.2.2]
    decide
  · obtain ⟨ns, kd, p1, p2, p3, ac⟩ := P
    obtain ⟨jc, ja, ji, jn, js, jt, tc, tj, tt⟩ := J
    obtain ⟨sv, ak, aj, gc, gk, gn, hs, hg, hn, ou⟩ := L
    obtain ⟨st, pl, ev, dn, us, is, vr, hd, tk, pn, pa, pi, un, wj⟩ := h
    obtain ⟨xns', xnow', xjc', xtc', xhe', xkd', xp1', xp2', xp3', xac', xja', xji', xjn', xjs', xjt', xtj', xtt', xss', xsv', xak', xaj', xgc', xgk', xgn', xhs', xhg', xhn', xou', xah', xst', xpl', xft', xev', xdn', xus', xis', xvr', xhd', xtk', xpd', xpa', xpi', xun', xwj'⟩ := u'
    obtain ⟨yns, ynow, yjc, ytc, yac, ysp, yja, yji, yjn, yhw, ywn, ytj, ytt, yst, ypl, ydn, yak, ywt, yun, yrs, yvr, yhd, ypa, ypi, ypd, ygs, ygn, ygc⟩ := v
    obtain ⟨_, d1, d2, d3, d4, d5, d6, _⟩ := X
    obtain ⟨_, c1, c2, c3, c4, c5, c6, c7, c8, c9, c10, _⟩ := H
    obtain ⟨_, e1, e2, e3, e4, e5, e6, e7, e8, _⟩ := Y
    obtain ⟨⟨_, _, _, _, _, _, _, n8⟩, _, _, _, _, i6, _⟩ := II
    unfold wpY_signals
    dsimp only
    refine ⟨gc + 1, sa_xsc (tk := tk) hi n8 d4 c10 (fun k hk => ((i6 k (by omega)).1 hk).1) gc 0 (by omega) (gc + 1) (by omega) ?_⟩
    exact ⟨gc + 1, sa_ysc (tk := tk) (gk := gk) hi n8 e6 e8 (fun k hk => ((i6 k (by omega)).1 hk).2) gc 0 (by omega) (gc + 1) (by omega) ⟨rfl, IR⟩⟩
/-- load -/
def sa_ld (ja js jt : Nat → Int32) (t : Nat) (a : Int32) : Nat → Nat
  | 0 => 0
  | k + 1 => if ja k = a ∧ js k = 0 ∧ ¬ nI t < jt k then sa_ld ja js jt t a k + 1 else sa_ld ja js jt t a k
section
variable {xhe : Int32} {xss xsv xak xaj xgc xgk xgn xhs xhg xhn xou xah xst xpl xft xev xdn xus xis xvr xhd xtk xpd xpa xpi xun xwj : Nat → Int32} {ns : Nat} {kd p1 p2 p3 ac : Nat → Int32} {jc tc : Nat} {ja ji jn js jt tj tt : Nat → Int32} {t : Nat} {a : Int32} {s : Nat}
theorem sa_xld (h9 : jc ≤ 90) : ∀ d k, k + d = jc → ∀ (post : Int32 → Prop) n, d < n → post (nI (s + sa_ld ja js jt t a jc)) → wX_load_20 post a (nI ns) (nI t) (nI jc) (nI tc) xhe kd p1 p2 p3 ac ja ji jn js jt tj tt xss xsv xak xaj xgc xgk xgn xhs xhg xhn xou xah xst xpl xft xev xdn xus xis xvr xhd xtk xpd xpa xpi xun xwj n (nI (s + sa_ld ja js jt t a k)) (nI k) := by
  intro d
  induction d with
  | zero =>
    intro k hk post n hn hp
    have e : k = jc := hk
    subst e
    obtain ⟨n, rfl⟩ : ∃ m, n = m + 1 := ⟨n - 1, by omega⟩
    exact br_t (Int32.le_refl _) hp
  | succ d ih =>
    intro k hk post n hn hp
    obtain ⟨n, rfl⟩ : ∃ m, n = m + 1 := ⟨n - 1, by omega⟩
    have hv : vp_in (nI k) 90 := vp_in_nI (by omega) (by decide)
    have hcl : (nI k).toNatClampNeg = k := nI_clamp (by omega)
    have K := ih (k + 1) (by omega) post n (by omega) hp
    refine br_f (nI_ge (by omega) (by omega)) (And.intro hv ?_)
    have skip : ¬ (ja k = a ∧ js k = 0 ∧ ¬ nI t < jt k) → wX_load_20 post a (nI ns) (nI t) (nI jc) (nI tc) xhe kd p1 p2 p3 ac ja ji jn js jt tj tt xss xsv xak xaj xgc xgk xgn xhs xhg xhn xou xah xst xpl xft xev xdn xus xis xvr xhd xtk xpd xpa xpi xun xwj n (nI (s + sa_ld ja js jt t a k)) (nI (k + 1)) := by
      intro c
      rw [show sa_ld ja js jt t a (k + 1) = sa_ld ja js jt t a k from if_neg c] at K
      exact K
    rw [hcl]
    refine br_c (fun c1 => And.intro hv (br_c (fun c2 => And.intro hv (br_c (fun c3 => nm_r (nI_1 k) (skip (fun z => z.2.2 c3))) (fun c3 => nm_r (nI_1 _) (nm_r (nI_1 k) ?_)))) (fun c2 => nm_r (nI_1 k) (skip (fun z => c2 z.2.1))))) (fun c1 => nm_r (nI_1 k) (skip (fun z => c1 z.1)))
    rw [show sa_ld ja js jt t a (k + 1) = sa_ld ja js jt t a k + 1 from if_pos ⟨c1, c2, c3⟩] at K
    exact K
end
section
variable {ysp yhw ywn yst ypl ydn yak ywt yun yrs yvr yhd ypa ypi ypd ygs ygn ygc : Nat → Int32} {ns : Nat} {kd p1 p2 p3 ac : Nat → Int32} {jc tc : Nat} {ja ji jn js jt tj tt : Nat → Int32} {t : Nat} {a : Int32}
theorem sa_yld (h9 : jc ≤ 90) (Z : sa_hs2 t jc js jt yhw ywn) : ∀ d k, k + d = jc → ∀ (post : Int32 → Prop) n, d < n → post (nI (sa_rn ja js a jc + sa_ld ja js jt t a jc)) → wY_load_16 post a (nI ns) (nI t) (nI jc) (nI tc) ac ysp ja ji jn yhw ywn tj tt yst ypl ydn yak ywt yun yrs yvr yhd ypa ypi ypd ygs ygn ygc n (nI (sa_rn ja js a k + sa_ld ja js jt t a k)) (nI k) := by
  intro d
  induction d with
  | zero =>
    intro k hk post n hn hp
    have e : k = jc := hk
    subst e
    obtain ⟨n, rfl⟩ : ∃ m, n = m + 1 := ⟨n - 1, by omega⟩
    exact br_t (Int32.le_refl _) hp
  | succ d ih =>
    intro k hk post n hn hp
    obtain ⟨n, rfl⟩ : ∃ m, n = m + 1 := ⟨n - 1, by omega⟩
    have hv : vp_in (nI k) 90 := vp_in_nI (by omega) (by decide)
    have hcl : (nI k).toNatClampNeg = k := nI_clamp (by omega)
    have K := ih (k + 1) (by omega) post n (by omega) hp
    obtain ⟨zr, zn, _⟩ := Z k (by omega)
    refine br_f (nI_ge (by omega) (by omega)) (And.intro hv ?_)
    rw [hcl]
    refine br_c (fun c1 => And.intro hv (br_c (fun c2 => nm_r (nI_1 _) (nm_r (nI_1 k) ?_)) (fun c2 => And.intro hv ?_))) (fun c1 => nm_r (nI_1 k) ?_)
    · have q := zr.mp c2
      rw [show sa_ld ja js jt t a (k + 1) = sa_ld ja js jt t a k + 1 from if_pos ⟨c1, q⟩, show sa_rn ja js a (k + 1) = sa_rn ja js a k from if_neg (fun z => absurd (q.1.symm.trans z.2) (by decide))] at K
      exact K
    · refine br_c (fun c3 => nm_r (nI_1 _) (nm_r (nI_1 k) ?_)) (fun c3 => nm_r (nI_1 k) ?_)
      · have q := zn.mp c3
        rw [show sa_ld ja js jt t a (k + 1) = sa_ld ja js jt t a k from if_neg (fun z => absurd (q.symm.trans z.2.1) (by decide)), show sa_rn ja js a (k + 1) = sa_rn ja js a k + 1 from if_pos ⟨c1, q⟩, Nat.add_right_comm] at K
        exact K
      · rw [show sa_ld ja js jt t a (k + 1) = sa_ld ja js jt t a k from if_neg (fun z => c2 (zr.mpr z.2)), show sa_rn ja js a (k + 1) = sa_rn ja js a k from if_neg (fun z => c3 (zn.mpr z.2))] at K
        exact K
    · rw [show sa_ld ja js jt t a (k + 1) = sa_ld ja js jt t a k from if_neg (fun z => c1 z.1), show sa_rn ja js a (k + 1) = sa_rn ja js a k from if_neg (fun z => c1 z.1)] at K
      exact K
end
theorem i_vc_load {k : Nat} {u : SX} {v : SY} (I : i_Rel k u v) (hk : k + 5 ≤ 2560) (v1 : Int32) : wpX_load (fun r => wpY_load (fun r' => r' = r ∧ i_Rel (k + 5) u v) v v1) u v1 := by
  have K := i_up I
  obtain ⟨t, P, J, A, ht, M⟩ := I
  have S := M.2.1
  revert K S
  generalize i_Rel (k + 5) u v = G
  refine sa_XYi (C := fun P J u v => G → sa_SY t J v → wpX_load (fun r => wpY_load (fun r' => r' = r ∧ G) v v1) u v1) M.1.2.2.1 M.1.2.2.2.1 ?_
  intro ns jc tc xhe kd p1 p2 p3 ac ja ji jn js jt tj tt xss xsv xak xaj xgc xgk xgn xhs xhg xhn xou xah xst xpl xft xev xdn xus xis xvr xhd xtk xpd xpa xpi xun xwj ysp yhw ywn yst ypl ydn yak ywt yun yrs yvr yhd ypa ypi ypd ygs ygn ygc W W2 K S
  obtain ⟨⟨w1, w2, w3, w4⟩, _⟩ := W
  obtain ⟨_, _, _, _, _, _, _, _, _, _, _, z1, z2⟩ := W2
  have Z := sa_hs2of z2 S
  unfold wpX_load wpY_load
  dsimp only
  refine sa_out (fun a b => ?_) (fun c => ?_)
  · refine br_t rfl ?_
    unfold wpX_runningOf
    dsimp only
    refine ⟨jc + 1, sa_xrn w3 jc 0 (by omega) _ _ (by omega) ⟨jc + 1, sa_xld (s := sa_rn ja js v1 jc) w3 jc 0 (by omega) _ _ (by omega) ?_⟩⟩
    refine sa_isIn (fun z => absurd z (fun z => z.elim a (fun z => Int32.not_lt.mpr b z))) (fun _ _ => br_f (by decide) ⟨jc + 1, sa_yld w3 Z jc 0 (by omega) _ _ (by omega) ⟨rfl, K⟩⟩)
  · refine br_f (by decide) (sa_isIn (fun _ => br_t rfl ⟨rfl, K⟩) (fun a b => ?_))
    exact absurd c (fun c => c.elim a (fun c => c (Int32.not_lt.mp b)))
end
section
/-! crash, reset, and the program -/
section
variable {xns xnow xjc xtc xhe : Int32} {xkd xp1 xp2 xp3 xac xja xji xjn xjs xjt xtj xtt xss xsv xak xaj xgc xgk xgn xhs xhg xhn xou xah xst xpl xft xev xdn xus xis xvr xhd xtk xpd xpa xpi xun xwj : Nat → Int32} {c n : Nat} {post : SX → Prop}
theorem sa_cr (hc : c < 3) (K : wX_crash_2 post xns xnow xjc xtc xhe n (nI (c + 1)) xkd xp1 xp2 xp3 xac xja xji xjn xjs xjt xtj xtt xss xsv xak xaj xgc xgk xgn xhs xhg xhn xou (upd xah (0 + c) 0) xst xpl xft xev xdn xus xis xvr xhd xtk xpd xpa xpi xun xwj) : wX_crash_2 post xns xnow xjc xtc xhe (n + 1) (nI c) xkd xp1 xp2 xp3 xac xja xji xjn xjs xjt xtj xtt xss xsv xak xaj xgc xgk xgn xhs xhg xhn xou xah xst xpl xft xev xdn xus xis xvr xhd xtk xpd xpa xpi xun xwj := by
  refine br_f (nI_ge (b := 3) hc (by decide)) (And.intro (vp_in_nI hc (by decide)) ?_)
  rw [nI_clamp (by omega), sa_vn0]
  rw [Nat.zero_add] at K
  exact nm_e (nm_r (nI_1 c) K)
theorem sa_rs (hc : c < 3) (K : wX_reset_2 post xns xnow xjc xtc xhe n (nI (c + 1)) xkd xp1 xp2 xp3 xac xja xji xjn xjs xjt xtj xtt (upd xss c 0) xsv xak xaj (upd xgc c 0) xgk xgn xhs xhg xhn (upd xou c (-1)) (upd xah c 0) xst xpl xft xev xdn xus xis xvr xhd xtk xpd xpa xpi xun xwj) : wX_reset_2 post xns xnow xjc xtc xhe (n + 1) (nI c) xkd xp1 xp2 xp3 xac xja xji xjn xjs xjt xtj xtt xss xsv xak xaj xgc xgk xgn xhs xhg xhn xou xah xst xpl xft xev xdn xus xis xvr xhd xtk xpd xpa xpi xun xwj := by
  have hv : vp_in (nI c) 3 := vp_in_nI hc (by decide)
  refine br_f (nI_ge (b := 3) hc (by decide)) (And.intro hv ?_)
  rw [nI_clamp (by omega), sa_vn0]
  exact nm_e (And.intro hv (nm_e (And.intro hv (nm_e (And.intro hv (nm_e (nm_r (nI_1 c) K)))))))
end
section
variable {yns ynow yjc ytc : Int32} {yac ysp yja yji yjn yhw ywn ytj ytt yst ypl ydn yak ywt yun yrs yvr yhd ypa ypi ypd ygs ygn ygc : Nat → Int32} {c n : Nat} {post : SY → Prop}
theorem sa_yrs (hc : c < 3) (K : wY_reset_17 post yns ynow yjc ytc n (nI (c + 1)) yac ysp yja yji yjn yhw ywn ytj ytt (upd yst c 0) ypl ydn yak ywt yun yrs yvr yhd ypa ypi (upd ypd c 0) ygs ygn (upd ygc c 0)) : wY_reset_17 post yns ynow yjc ytc (n + 1) (nI c) yac ysp yja yji yjn yhw ywn ytj ytt yst ypl ydn yak ywt yun yrs yvr yhd ypa ypi ypd ygs ygn ygc := by
  have hv : vp_in (nI c) 3 := vp_in_nI hc (by decide)
  refine br_f (nI_ge (b := 3) hc (by decide)) (And.intro hv ?_)
  rw [nI_clamp (by omega)]
  exact nm_e (And.intro hv (nm_e (And.intro hv (nm_e (nm_r (nI_1 c) K)))))
end
/-- what is at hand is lost -/
theorem sa_FwC {i t A : Nat} {P : sa_P} {J : sa_J} {u u' : SX} {v : SY} (S : (sa_on i u ↔ sa_on i u') ∧ ¬ sa_ah i u') (X : sa_AX i u u') (F : sa_Fw True i P t J A u v) (Off : sa_off i u v → sa_off i u' v) : sa_Fw True i P t J A u' v := by
  rcases F with ⟨F, e⟩ | ⟨on, L, h, n, f1, f2, f3, f4, f5, f6, f7, f8, f9⟩
  · exact Or.inl ⟨Off F, e⟩
  · exact Or.inr ⟨S.1.mp on, L, h, n, sa_LXa X f1, fun z => absurd z S.2, f3, f4, f5, f6, f7, f8, f9⟩
theorem i_vc_crash {k : Nat} {u : SX} {v : SY} (I : i_Rel k u v) (hk : k + 5 ≤ 2560) : wpX_crash (fun u' => wpY_crash (fun v' => i_Rel (k + 5) u' v') v) u := by
  obtain ⟨t, P, J, A, ht, ⟨⟨V, VJ, W, W2, R, F, hA, hc⟩, S, B⟩⟩ := I
  have key : ∃ u', sa_WX P t J u' ∧ (∀ i, i < 3 → ((sa_on i u ↔ sa_on i u') ∧ ¬ sa_ah i u') ∧ sa_AX i u u' ∧ (sa_off i u v → sa_off i u' v)) ∧ ∀ post : SX → Prop, post u' → wpX_crash post u := by
    clear R F S B hc VJ W2
    refine sa_WXi (C := fun P J u => ∃ u', sa_WX P t J u' ∧ (∀ i, i < 3 → ((sa_on i u ↔ sa_on i u') ∧ ¬ sa_ah i u') ∧ sa_AX i u u' ∧ (sa_off i u v → sa_off i u' v)) ∧ ∀ post : SX → Prop, post u' → wpX_crash post u) W ?_
    intro ns jc tc xhe kd p1 p2 p3 ac ja ji jn js jt tj tt xss xsv xak xaj xgc xgk xgn xhs xhg xhn xou xah xst xpl xft xev xdn xus xis xvr xhd xtk xpd xpa xpi xun xwj W
    obtain ⟨xah', h1, h2, h3⟩ := sa_fill (fun (post : SX → Prop) n c a => wX_crash_2 post (nI ns) (nI t) (nI jc) (nI tc) xhe n (nI c) kd p1 p2 p3 ac ja ji jn js jt tj tt xss xsv xak xaj xgc xgk xgn xhs xhg xhn xou a xst xpl xft xev xdn xus xis xvr xhd xtk xpd xpa xpi xun xwj) 3 0 (fun _ => 0) (fun post n c a hc K => sa_cr hc K) xah
    refine ⟨(nI ns, nI t, nI jc, nI tc, xhe, kd, p1, p2, p3, ac, ja, ji, jn, js, jt, tj, tt, xss, xsv, xak, xaj, xgc, xgk, xgn, xhs, xhg, xhn, xou, xah', xst, xpl, xft, xev, xdn, xus, xis, xvr, xhd, xtk, xpd, xpa, xpi, xun, xwj), ⟨W.1, rfl, rfl, rfl, rfl, rfl, rfl, rfl, rfl, rfl, rfl, rfl, rfl, rfl, rfl, rfl, rfl⟩, fun i hi => ⟨⟨(show (¬ xss i = 0 ↔ ¬ xss i = 0) from Iff.rfl), fun z => z ?_⟩, ⟨rfl, rfl, fun _ _ => rfl, rfl, fun _ _ => rfl, fun _ _ => rfl, rfl, fun _ _ => rfl, fun _ _ => rfl, rfl, rfl, rfl, rfl, rfl, rfl, rfl, rfl, fun _ _ => rfl, fun _ _ => rfl, fun _ _ => rfl, rfl, fun _ _ => rfl, fun _ _ => rfl, rfl, rfl⟩, ?_⟩, fun post K => ⟨1 + 3, h3 post 1 (br_t (by decide) K)⟩⟩
    · have := h1 i hi
      rw [Nat.zero_add] at this
      exact this
    · obtain ⟨yns, ynow, yjc, ytc, yac, ysp, yja, yji, yjn, yhw, ywn, ytj, ytt, yst, ypl, ydn, yak, ywt, yun, yrs, yvr, yhd, ypa, ypi, ypd, ygs, ygn, ygc⟩ := v
      intro z
      obtain ⟨q1, q2, q3, q4⟩ := z
      exact ⟨q1, q2, q3, q4⟩
  obtain ⟨u', a1, a2, a3⟩ := key
  refine a3 _ ?_
  have G : i_Rel (k + 5) u' v := ⟨t, P, J, A, by omega, ⟨⟨V, VJ, a1, W2, R, fun i hi => sa_FwC (a2 i hi).1 (a2 i hi).2.1 (F i hi) (a2 i hi).2.2, hA, hc⟩, S, B⟩⟩
  clear a1 a2 a3 F S B W2
  revert G
  generalize i_Rel (k + 5) u' = Q
  intro G
  obtain ⟨yns, ynow, yjc, ytc, yac, ysp, yja, yji, yjn, yhw, ywn, ytj, ytt, yst, ypl, ydn, yak, ywt, yun, yrs, yvr, yhd, ypa, ypi, ypd, ygs, ygn, ygc⟩ := v
  exact G
/-- nobody works -/
theorem sa_Rel0 {t : Nat} {P : sa_P} {J : sa_J} {u : SX} {v : SY} (V : sa_VK P ∧ sa_VA P) (h0 : match J with | (jc, ja, ji, jn, js, jt, tc, tj, tt) => jc = 0 ∧ tc = 0) (W : sa_WX P t J u) (W2 : sa_WY P t J v) (F : ∀ i, i < 3 → sa_off i u v) : sa_Rel t P J (fun _ => 0) u v := by
  refine ⟨⟨V, ?_, W, W2, ?_, fun i hi => Or.inl ⟨F i hi, rfl⟩, fun _ _ => Nat.zero_le _, ?_⟩, ?_, ?_⟩
  · clear V W W2
    obtain ⟨ns, kd, p1, p2, p3, ac⟩ := P
    obtain ⟨jc, ja, ji, jn, js, jt, tc, tj, tt⟩ := J
    obtain ⟨e1, e2⟩ := h0
    subst e1 e2
    exact ⟨Nat.zero_le _, fun _ => 0, fun _ => 0, fun j hj => absurd hj (by omega), rfl⟩
  · clear V W W2
    obtain ⟨jc, ja, ji, jn, js, jt, tc, tj, tt⟩ := J
    obtain ⟨e1, e2⟩ := h0
    subst e1
    exact fun j hj => absurd (show j < 0 from hj) (by omega)
  · clear V W W2
    obtain ⟨jc, ja, ji, jn, js, jt, tc, tj, tt⟩ := J
    exact h0.1
  · clear V W W2
    obtain ⟨jc, ja, ji, jn, js, jt, tc, tj, tt⟩ := J
    obtain ⟨yns, ynow, yjc, ytc, yac, ysp, yja, yji, yjn, yhw, ywn, ytj, ytt, yst, ypl, ydn, yak, ywt, yun, yrs, yvr, yhd, ypa, ypi, ypd, ygs, ygn, ygc⟩ := v
    obtain ⟨e1, e2⟩ := h0
    subst e1
    exact fun j hj => absurd hj (by omega)
  · clear V W W2
    intro b _
    obtain ⟨ns, kd, p1, p2, p3, ac⟩ := P
    obtain ⟨jc, ja, ji, jn, js, jt, tc, tj, tt⟩ := J
    obtain ⟨e1, e2⟩ := h0
    subst e1
    exact Or.inl (fun j hj => absurd hj (by omega))
theorem i_vc_reset {k : Nat} {u : SX} {v : SY} (I : i_Rel k u v) (hk : k + 5 ≤ 2560) : wpX_reset (fun u' => wpY_reset (fun v' => i_Rel (k + 5) u' v') v) u := by
  obtain ⟨t, P, J, A, ht, ⟨⟨V, VJ, W, W2, R, F, hA, hc⟩, S, B⟩⟩ := I
  clear VJ R F hA hc S B
  revert V
  refine sa_XYi (C := fun P J u v => sa_VK P ∧ sa_VA P → wpX_reset (fun u' => wpY_reset (fun v' => i_Rel (k + 5) u' v') v) u) W W2 ?_
  intro ns jc tc xhe kd p1 p2 p3 ac ja ji jn js jt tj tt xss xsv xak xaj xgc xgk xgn xhs xhg xhn xou xah xst xpl xft xev xdn xus xis xvr xhd xtk xpd xpa xpi xun xwj ysp yhw ywn yst ypl ydn yak ywt yun yrs yvr yhd ypa ypi ypd ygs ygn ygc W W2 V
  obtain ⟨⟨w1, w2, w3, w4⟩, _⟩ := W
  obtain ⟨_, _, _, _, _, _, _, _, _, _, _, z1, z2⟩ := W2
  unfold wpX_reset wpY_reset
  dsimp only
  refine ⟨4, sa_rs (c := 0) (by omega) (sa_rs (c := 1) (by omega) (sa_rs (c := 2) (by omega) (br_t (by decide) ?_)))⟩
  refine ⟨4, sa_yrs (c := 0) (by omega) (sa_yrs (c := 1) (by omega) (sa_yrs (c := 2) (by omega) (br_t (by decide) ?_)))⟩
  refine ⟨0, (ns, kd, p1, p2, p3, ac), (0, ja, ji, jn, js, jt, 0, tj, tt), fun _ => 0, Nat.zero_le _, sa_Rel0 V ⟨rfl, rfl⟩ ⟨⟨w1, by omega, by omega, by omega⟩, rfl, rfl, rfl, rfl, rfl, rfl, rfl, rfl, rfl, rfl, rfl, rfl, rfl, rfl, rfl, rfl⟩ ⟨⟨w1, by omega, by omega, by omega⟩, rfl, rfl, rfl, rfl, rfl, rfl, rfl, rfl, rfl, rfl, z1, fun j hj => absurd hj (by omega)⟩ (fun i hi => ?_)⟩
  have u3 : ∀ (f : Nat → Int32) (x : Int32), upd (upd (upd f 0 x) 1 x) 2 x i = x := by
    intro f x
    rcases sa_3 hi with rfl | rfl | rfl
    · rw [pk_un (by decide), pk_un (by decide), pk_us]
    · rw [pk_un (by decide), pk_us]
    · rw [pk_us]
  exact ⟨u3 _ _, u3 _ _, u3 _ _, u3 _ _⟩
/-- busy -/
def sa_E1 (i : Nat) (u : SX) (v : SY) : Prop := match u, v with | (xns, xnow, xjc, xtc, xhe, xkd, xp1, xp2, xp3, xac, xja, xji, xjn, xjs, xjt, xtj, xtt, xss, xsv, xak, xaj, xgc, xgk, xgn, xhs, xhg, xhn, xou, xah, xst, xpl, xft, xev, xdn, xus, xis, xvr, xhd, xtk, xpd, xpa, xpi, xun, xwj), (yns, ynow, yjc, ytc, yac, ysp, yja, yji, yjn, yhw, ywn, ytj, ytt, yst, ypl, ydn, yak, ywt, yun, yrs, yvr, yhd, ypa, ypi, ypd, ygs, ygn, ygc) => ∃ m, m ≤ 5 ∧ yst i = nI m ∧ (m = 0 ↔ xss i = 0)
theorem sa_E1f {r : Prop} {i t A : Nat} {P : sa_P} {J : sa_J} {u : SX} {v : SY} (F : sa_Fw r i P t J A u v) : sa_E1 i u v ∧ (¬ sa_on i u → sa_off i u v ∧ A = 0) := by
  rcases F with ⟨F, e⟩ | ⟨on, L, h, n, f1, f2, f3, f4, f5, f6, f7, f8, f9⟩
  · refine ⟨?_, fun _ => ⟨F, e⟩⟩
    obtain ⟨xns, xnow, xjc, xtc, xhe, xkd, xp1, xp2, xp3, xac, xja, xji, xjn, xjs, xjt, xtj, xtt, xss, xsv, xak, xaj, xgc, xgk, xgn, xhs, xhg, xhn, xou, xah, xst, xpl, xft, xev, xdn, xus, xis, xvr, xhd, xtk, xpd, xpa, xpi, xun, xwj⟩ := u
    obtain ⟨yns, ynow, yjc, ytc, yac, ysp, yja, yji, yjn, yhw, ywn, ytj, ytt, yst, ypl, ydn, yak, ywt, yun, yrs, yvr, yhd, ypa, ypi, ypd, ygs, ygn, ygc⟩ := v
    exact ⟨0, Nat.zero_le _, F.2.1, fun _ => F.1, fun _ => rfl⟩
  · refine ⟨?_, fun z => absurd on z⟩
    obtain ⟨ns, kd, p1, p2, p3, ac⟩ := P
    obtain ⟨jc, ja, ji, jn, js, jt, tc, tj, tt⟩ := J
    obtain ⟨sv, ak, aj, gc, gk, gn, hs, hg, hn, ou⟩ := L
    obtain ⟨st, pl, ev, dn, us, is, vr, hd, tk, pn, pa, pi, un, wj⟩ := h
    obtain ⟨xns, xnow, xjc, xtc, xhe, xkd, xp1, xp2, xp3, xac, xja, xji, xjn, xjs, xjt, xtj, xtt, xss, xsv, xak, xaj, xgc, xgk, xgn, xhs, xhg, xhn, xou, xah, xst, xpl, xft, xev, xdn, xus, xis, xvr, xhd, xtk, xpd, xpa, xpi, xun, xwj⟩ := u
    obtain ⟨yns, ynow, yjc, ytc, yac, ysp, yja, yji, yjn, yhw, ywn, ytj, ytt, yst, ypl, ydn, yak, ywt, yun, yrs, yvr, yhd, ypa, ypi, ypd, ygs, ygn, ygc⟩ := v
    obtain ⟨_, e1, _⟩ := f3
    obtain ⟨_, _, _, _, _, _, _, ⟨m, m1, m2, m3⟩, _⟩ := f4
    exact ⟨m, m2, e1.trans m3, fun z => absurd z (by omega), fun z => absurd z on⟩
theorem sa_bz {t : Nat} {P : sa_P} {J : sa_J} {A : Nat → Nat} {u : SX} {v : SY} (M : sa_Rel t P J A u v) :
    ∃ b : Int32, (b = 0 ∨ b = 1) ∧ (∀ post : Int32 → Prop, post b → wpX_anyStarted post u) ∧ (∀ post : Int32 → Prop, post b → wpY_isBusy post v) ∧ (b = 0 → (∀ i, i < 3 → sa_off i u v) ∧ sa_jc J = 0) := by
  obtain ⟨⟨V, VJ, W, W2, R, F, hA, hc⟩, S, B⟩ := M
  have E0 := sa_E1f (F 0 (by omega))
  have E1 := sa_E1f (F 1 (by omega))
  have E2 := sa_E1f (F 2 (by omega))
  have all : (∀ i, i < 3 → ¬ sa_on i u) → (∀ i, i < 3 → sa_off i u v) ∧ sa_jc J = 0 := by
    intro h
    refine ⟨fun i hi => ((sa_E1f (F i hi)).2 (h i hi)).1, ?_⟩
    have a0 := (E0.2 (h 0 (by omega))).2
    have a1 := (E1.2 (h 1 (by omega))).2
    have a2 := (E2.2 (h 2 (by omega))).2
    omega
  obtain ⟨E0, _⟩ := E0
  obtain ⟨E1, _⟩ := E1
  obtain ⟨E2, _⟩ := E2
  clear W W2 R F S B VJ hc
  obtain ⟨xns, xnow, xjc, xtc, xhe, xkd, xp1, xp2, xp3, xac, xja, xji, xjn, xjs, xjt, xtj, xtt, xss, xsv, xak, xaj, xgc, xgk, xgn, xhs, xhg, xhn, xou, xah, xst, xpl, xft, xev, xdn, xus, xis, xvr, xhd, xtk, xpd, xpa, xpi, xun, xwj⟩ := u
  obtain ⟨yns, ynow, yjc, ytc, yac, ysp, yja, yji, yjn, yhw, ywn, ytj, ytt, yst, ypl, ydn, yak, ywt, yun, yrs, yvr, yhd, ypa, ypi, ypd, ygs, ygn, ygc⟩ := v
  obtain ⟨m0, a0, b0, c0⟩ := E0
  obtain ⟨m1, a1, b1, c1⟩ := E1
  obtain ⟨m2, a2, b2, c2⟩ := E2
  by_cases z : m0 + m1 + m2 = 0
  · have x0 : xss 0 = 0 := c0.mp (by omega)
    have x1 : xss 1 = 0 := c1.mp (by omega)
    have x2 : xss 2 = 0 := c2.mp (by omega)
    refine ⟨0, Or.inl rfl, fun post K => br_t x0 (br_t x1 (br_t x2 K)), fun post K => br_t ?_ K, fun _ => all (fun i hi => ?_)⟩
    · rw [b0, b1, b2, nI_add, nI_add, z]
      decide
    · rcases sa_3 hi with rfl | rfl | rfl
      · exact fun w => w x0
      · exact fun w => w x1
      · exact fun w => w x2
  · refine ⟨1, Or.inr rfl, fun post K => br_c (fun y0 => br_c (fun y1 => br_c (fun y2 => ?_) (fun _ => K)) (fun _ => K)) (fun _ => K), fun post K => br_f ?_ K, fun e => absurd e (by decide)⟩
    · have q0 := c0.mpr y0
      have q1 := c1.mpr y1
      have q2 := c2.mpr y2
      omega
    · rw [b0, b1, b2, nI_add, nI_add]
      exact nI_nle (by omega) (by omega)
/-- with nobody at work the program may change -/
theorem sa_RelP {t : Nat} {P P' : sa_P} {J : sa_J} {A : Nat → Nat} {u u' : SX} {v v' : SY} (M : sa_Rel t P J A u v) (h0 : sa_jc J = 0) (V : sa_VK P' ∧ sa_VA P') (W : sa_WX P' t J u') (W2 : sa_WY P' t J v') (F : ∀ i, i < 3 → sa_off i u' v') : sa_Rel t P' J (fun _ => 0) u' v' := by
  refine sa_Rel0 V ?_ W W2 F
  obtain ⟨⟨_, VJ, _⟩, _⟩ := M
  clear V W W2
  obtain ⟨ns, kd, p1, p2, p3, ac⟩ := P
  obtain ⟨jc, ja, ji, jn, js, jt, tc, tj, tt⟩ := J
  have e : jc = 0 := h0
  subst e
  obtain ⟨_, N, T, _, h⟩ := VJ
  exact ⟨rfl, h⟩
theorem i_vc_unstep {k : Nat} {u : SX} {v : SY} (I : i_Rel k u v) (hk : k + 5 ≤ 2560) : wpX_unstep (fun r u' => wpY_unstep (fun r' v' => r' = r ∧ i_Rel (k + 5) u' v') v) u := by
  have IR := i_up I
  obtain ⟨t, P, J, A, ht, M⟩ := I
  obtain ⟨b, hb, bX, bY, b0⟩ := sa_bz M
  have W := M.1.2.2.1
  have W2 := M.1.2.2.2.1
  have V := M.1.1
  have RP : ∀ (P' : sa_P) (u' : SX) (v' : SY), b = 0 → sa_VK P' ∧ sa_VA P' → sa_WX P' t J u' → sa_WY P' t J v' → (∀ i, i < 3 → sa_off i u' v') → i_Rel (k + 5) u' v' := fun P' u' v' e V' w w2 F => ⟨t, P', J, fun _ => 0, by omega, sa_RelP M (b0 e).2 V' w w2 F⟩
  have Off : b = 0 → ∀ i, i < 3 → sa_off i u v := fun e => (b0 e).1
  clear b0 M
  revert IR bX bY V RP Off
  generalize i_Rel (k + 5) = G
  refine sa_XYi (C := fun P J u v => G u v → (∀ post : Int32 → Prop, post b → wpX_anyStarted post u) → (∀ post : Int32 → Prop, post b → wpY_isBusy post v) → (sa_VK P ∧ sa_VA P) → (∀ (P' : sa_P) (u' : SX) (v' : SY), b = 0 → sa_VK P' ∧ sa_VA P' → sa_WX P' t J u' → sa_WY P' t J v' → (∀ i, i < 3 → sa_off i u' v') → G u' v') → (b = 0 → ∀ i, i < 3 → sa_off i u v) → wpX_unstep (fun r u' => wpY_unstep (fun r' v' => r' = r ∧ G u' v') v) u) W W2 ?_
  intro ns jc tc xhe kd p1 p2 p3 ac ja ji jn js jt tj tt xss xsv xak xaj xgc xgk xgn xhs xhg xhn xou xah xst xpl xft xev xdn xus xis xvr xhd xtk xpd xpa xpi xun xwj ysp yhw ywn yst ypl ydn yak ywt yun yrs yvr yhd ypa ypi ypd ygs ygn ygc W W2 IR bX bY V RP Off
  obtain ⟨⟨w1, w2, w3, w4⟩, _⟩ := W
  obtain ⟨_, _, _, _, _, _, _, _, _, _, _, z1, z2⟩ := W2
  unfold wpX_unstep wpY_unstep
  dsimp only
  refine bX _ ?_
  rcases hb with rfl | rfl
  · refine br_t rfl ?_
    by_cases c : ns = 0
    · subst c
      exact br_t rfl (bY _ (br_t rfl (br_t rfl ⟨rfl, IR⟩)))
    · obtain ⟨m, rfl⟩ : ∃ m, ns = m + 1 := ⟨ns - 1, by omega⟩
      have c' : ¬ nI (m + 1) = 0 := by rw [sa_e0 (by omega)]; omega
      refine br_f c' (nm_r (nI_pred m) (bY _ (br_t rfl (br_f c' (nm_r (nI_pred m) ⟨rfl, ?_⟩)))))
      refine RP (m, kd, p1, p2, p3, ac) _ _ rfl ⟨fun j hj => V.1 j (Nat.lt_succ_of_lt hj), V.2⟩ ⟨⟨by omega, w2, w3, w4⟩, rfl, rfl, rfl, rfl, rfl, rfl, rfl, rfl, rfl, rfl, rfl, rfl, rfl, rfl, rfl, rfl⟩ ⟨⟨by omega, w2, w3, w4⟩, rfl, rfl, rfl, rfl, rfl, rfl, rfl, rfl, rfl, rfl, fun j hj => z1 j (Nat.lt_succ_of_lt hj), z2⟩ (Off rfl)
  · exact br_f (by decide) (bY _ (br_f (by decide) ⟨rfl, IR⟩))
end
section
/-! activity; the constructors -/
def sa_rg (w : Nat) (x : Int32) : Prop := (w = 0 → ∃ d, 1 ≤ d ∧ d ≤ 9 ∧ x = nI d) ∧ (w = 1 → ∃ d, 1 ≤ d ∧ d ≤ 3 ∧ x = nI d) ∧ (w = 2 → ∃ d, 1 ≤ d ∧ d ≤ 4 ∧ x = nI d) ∧ (w = 3 → ∃ d, d ≤ 9 ∧ x = nI d) ∧ (w = 4 → ∃ d, d ≤ 4 ∧ x = nI d)
theorem sa_VAu {P : sa_P} {a w : Nat} {x : Int32} (hw : w < 7) (r : sa_rg w x) (V : sa_VA P) : match P with | (ns, kd, p1, p2, p3, ac) => sa_VA (ns, kd, p1, p2, p3, upd ac (7 * a + w) x) := by
  obtain ⟨ns, kd, p1, p2, p3, ac⟩ := P
  obtain ⟨r0, r1, r2, r3, r4⟩ := r
  intro b hb
  obtain ⟨v0, v1, v2, v3, v4⟩ := V b hb
  have un : ∀ j, j < 7 → ¬ (b = a ∧ j = w) → upd ac (7 * a + w) x (7 * b + j) = ac (7 * b + j) := fun j hj h => pk_un (by omega)
  refine ⟨?_, ?_, ?_, ?_, ?_⟩
  · by_cases e : b = a ∧ 0 = w
    · obtain ⟨rfl, rfl⟩ := e
      obtain ⟨d, d1, d2, d3⟩ := r0 rfl
      exact ⟨d, d1, d2, (show upd ac (7 * b) x (7 * b) = _ from pk_us).trans d3⟩
    · have := un 0 (by omega) e
      rw [Nat.add_zero] at this
      rw [this]
      exact v0
  · by_cases e : b = a ∧ 1 = w
    · obtain ⟨rfl, rfl⟩ := e
      obtain ⟨d, d1, d2, d3⟩ := r1 rfl
      exact ⟨d, d1, d2, pk_us.trans d3⟩
    · rw [un 1 (by omega) e]
      exact v1
  · by_cases e : b = a ∧ 2 = w
    · obtain ⟨rfl, rfl⟩ := e
      obtain ⟨d, d1, d2, d3⟩ := r2 rfl
      exact ⟨d, d1, d2, pk_us.trans d3⟩
    · rw [un 2 (by omega) e]
      exact v2
  · by_cases e : b = a ∧ 3 = w
    · obtain ⟨rfl, rfl⟩ := e
      obtain ⟨d, d1, d2⟩ := r3 rfl
      exact ⟨d, d1, pk_us.trans d2⟩
    · rw [un 3 (by omega) e]
      exact v3
  · by_cases e : b = a ∧ 4 = w
    · obtain ⟨rfl, rfl⟩ := e
      obtain ⟨d, d1, d2⟩ := r4 rfl
      exact ⟨d, d1, pk_us.trans d2⟩
    · rw [un 4 (by omega) e]
      exact v4
theorem sa_r1 {x M : Int32} {n : Nat} (hM : M.toInt = n) (h : ¬ x < 1) (h5 : x ≤ M) : ∃ d, 1 ≤ d ∧ d ≤ n ∧ x = nI d := by
  have h0 : ¬ x < 0 := fun z => h (Int32.lt_trans z (by decide))
  obtain ⟨d, h1, rfl⟩ := nI_of2 hM h0 h5
  refine ⟨d, ?_, h1, rfl⟩
  rcases Nat.eq_zero_or_pos d with e | e
  · subst e
    exact absurd (by decide) h
  · exact e
theorem sa_r0 {x M : Int32} {n : Nat} (hM : M.toInt = n) (h : ¬ x < 0) (h5 : x ≤ M) : ∃ d, d ≤ n ∧ x = nI d := nI_of2 hM h h5
section
variable {xhe : Int32} {xss xsv xak xaj xgc xgk xgn xhs xhg xhn xou xah xst xpl xft xev xdn xus xis xvr xhd xtk xpd xpa xpi xun xwj : Nat → Int32} {ysp yhw ywn yst ypl ydn yak ywt yun yrs yvr yhd ypa ypi ypd ygs ygn ygc : Nat → Int32} {ns : Nat} {kd p1 p2 p3 ac : Nat → Int32} {jc tc : Nat} {ja ji jn js jt tj tt : Nat → Int32} {t A w : Nat} {x lo hi : Int32} {G : SX → SY → Prop} {b : Int32}
theorem sa_actc (hA : A < 4) (hw : w < 7) (hb : b = 0 ∨ b = 1)
    (bX : ∀ post : Int32 → Prop, post b → wpX_anyStarted post (nI ns, nI t, nI jc, nI tc, xhe, kd, p1, p2, p3, ac, ja, ji, jn, js, jt, tj, tt, xss, xsv, xak, xaj, xgc, xgk, xgn, xhs, xhg, xhn, xou, xah, xst, xpl, xft, xev, xdn, xus, xis, xvr, xhd, xtk, xpd, xpa, xpi, xun, xwj)) (bY : ∀ post : Int32 → Prop, post b → wpY_isBusy post (nI ns, nI t, nI jc, nI tc, ac, ysp, ja, ji, jn, yhw, ywn, tj, tt, yst, ypl, ydn, yak, ywt, yun, yrs, yvr, yhd, ypa, ypi, ypd, ygs, ygn, ygc))
    (hX : ∀ post : Int32 → Prop, (¬ x < lo → x ≤ hi → post 0) → (x < lo ∨ ¬ x ≤ hi → post 1) → wpX_badSetting post (nI ns, nI t, nI jc, nI tc, xhe, kd, p1, p2, p3, ac, ja, ji, jn, js, jt, tj, tt, xss, xsv, xak, xaj, xgc, xgk, xgn, xhs, xhg, xhn, xou, xah, xst, xpl, xft, xev, xdn, xus, xis, xvr, xhd, xtk, xpd, xpa, xpi, xun, xwj) (nI w) x)
    (hY : ∀ post : Int32 → SY → Prop, wY_activity_91 post (nI A) (nI w) x lo hi (nI ns) (nI t) (nI jc) (nI tc) ac ysp ja ji jn yhw ywn tj tt yst ypl ydn yak ywt yun yrs yvr yhd ypa ypi ypd ygs ygn ygc → wpY_activity post (nI ns, nI t, nI jc, nI tc, ac, ysp, ja, ji, jn, yhw, ywn, tj, tt, yst, ypl, ydn, yak, ywt, yun, yrs, yvr, yhd, ypa, ypi, ypd, ygs, ygn, ygc) (nI A) (nI w) x)
    (K : G (nI ns, nI t, nI jc, nI tc, xhe, kd, p1, p2, p3, ac, ja, ji, jn, js, jt, tj, tt, xss, xsv, xak, xaj, xgc, xgk, xgn, xhs, xhg, xhn, xou, xah, xst, xpl, xft, xev, xdn, xus, xis, xvr, xhd, xtk, xpd, xpa, xpi, xun, xwj) (nI ns, nI t, nI jc, nI tc, ac, ysp, ja, ji, jn, yhw, ywn, tj, tt, yst, ypl, ydn, yak, ywt, yun, yrs, yvr, yhd, ypa, ypi, ypd, ygs, ygn, ygc)) (K2 : b = 0 → ¬ x < lo → x ≤ hi → G (nI ns, nI t, nI jc, nI tc, xhe, kd, p1, p2, p3, upd ac (7 * A + w) x, ja, ji, jn, js, jt, tj, tt, xss, xsv, xak, xaj, xgc, xgk, xgn, xhs, xhg, xhn, xou, xah, xst, xpl, xft, xev, xdn, xus, xis, xvr, xhd, xtk, xpd, xpa, xpi, xun, xwj) (nI ns, nI t, nI jc, nI tc, upd ac (7 * A + w) x, ysp, ja, ji, jn, yhw, ywn, tj, tt, yst, ypl, ydn, yak, ywt, yun, yrs, yvr, yhd, ypa, ypi, ypd, ygs, ygn, ygc)) : wpX_activity (fun r u' => wpY_activity (fun r' v' => r' = r ∧ G u' v') (nI ns, nI t, nI jc, nI tc, ac, ysp, ja, ji, jn, yhw, ywn, tj, tt, yst, ypl, ydn, yak, ywt, yun, yrs, yvr, yhd, ypa, ypi, ypd, ygs, ygn, ygc) (nI A) (nI w) x) (nI ns, nI t, nI jc, nI tc, xhe, kd, p1, p2, p3, ac, ja, ji, jn, js, jt, tj, tt, xss, xsv, xak, xaj, xgc, xgk, xgn, xhs, xhg, xhn, xou, xah, xst, xpl, xft, xev, xdn, xus, xis, xvr, xhd, xtk, xpd, xpa, xpi, xun, xwj) (nI A) (nI w) x := by
  have hv : vp_in (nI (7 * A + w)) 28 := vp_in_nI (by omega) (by decide)
  unfold wpX_activity
  dsimp only
  refine sa_out (fun _ _ => br_t rfl (sa_out (fun _ _ => br_t rfl (hX _ (fun q1 q2 => br_t rfl (bX _ ?_)) (fun q => br_f (by decide) ?_))) (fun c => ?_))) (fun c => ?_)
  · have q2' : ¬ hi < x := Int32.not_lt.mpr q2
    rcases hb with rfl | rfl
    · refine br_t rfl ?_
      rw [sa_m7, nI_add, nI_clamp (by omega)]
      refine And.intro hv (nm_e (And.intro hv (nm_e (hY _ (sa_isIn (fun z => absurd z (fun z => z.elim q1 q2')) (fun _ _ => br_f (by decide) (bY _ (br_t rfl ?_))))))))
      rw [sa_m7, nI_add, nI_clamp (by omega)]
      exact And.intro hv (nm_e (And.intro hv (nm_e ⟨rfl, K2 rfl q1 q2⟩)))
    · exact br_f (by decide) (hY _ (sa_isIn (fun z => absurd z (fun z => z.elim q1 q2')) (fun _ _ => br_f (by decide) (bY _ (br_f (by decide) ⟨rfl, K⟩)))))
  · exact hY _ (sa_isIn (fun _ => br_t rfl ⟨rfl, K⟩) (fun a c => absurd q (fun q => q.elim a (fun q => q (Int32.not_lt.mp c)))))
  · exact absurd c (fun c => c.elim (nI_pos (by omega)) (fun c => c (nI_le (b := 6) (by omega) (by decide))))
  · exact absurd c (fun c => c.elim (nI_pos (by omega)) (fun c => c (nI_le (b := 3) (by omega) (by decide))))
end
theorem i_vc_activity {k : Nat} {u : SX} {v : SY} (I : i_Rel k u v) (hk : k + 5 ≤ 2560) (v1 : Int32) (v2 : Int32) (v3 : Int32) : wpX_activity (fun r u' => wpY_activity (fun r' v' => r' = r ∧ i_Rel (k + 5) u' v') v v1 v2 v3) u v1 v2 v3 := by
  have IR := i_up I
  obtain ⟨t, P, J, A, ht, M⟩ := I
  obtain ⟨b, hb, bX, bY, b0⟩ := sa_bz M
  have W := M.1.2.2.1
  have W2 := M.1.2.2.2.1
  have V := M.1.1
  have RP : ∀ (P' : sa_P) (u' : SX) (v' : SY), b = 0 → sa_VK P' ∧ sa_VA P' → sa_WX P' t J u' → sa_WY P' t J v' → (∀ i, i < 3 → sa_off i u' v') → i_Rel (k + 5) u' v' := fun P' u' v' e V' w w2 F => ⟨t, P', J, fun _ => 0, by omega, sa_RelP M (b0 e).2 V' w w2 F⟩
  have Off : b = 0 → ∀ i, i < 3 → sa_off i u v := fun e => (b0 e).1
  clear b0 M
  revert IR bX bY V RP Off
  generalize i_Rel (k + 5) = G
  refine sa_XYi (C := fun P J u v => G u v → (∀ post : Int32 → Prop, post b → wpX_anyStarted post u) → (∀ post : Int32 → Prop, post b → wpY_isBusy post v) → (sa_VK P ∧ sa_VA P) → (∀ (P' : sa_P) (u' : SX) (v' : SY), b = 0 → sa_VK P' ∧ sa_VA P' → sa_WX P' t J u' → sa_WY P' t J v' → (∀ i, i < 3 → sa_off i u' v') → G u' v') → (b = 0 → ∀ i, i < 3 → sa_off i u v) → wpX_activity (fun r u' => wpY_activity (fun r' v' => r' = r ∧ G u' v') v v1 v2 v3) u v1 v2 v3) W W2 ?_
  intro ns jc tc xhe kd p1 p2 p3 ac ja ji jn js jt tj tt xss xsv xak xaj xgc xgk xgn xhs xhg xhn xou xah xst xpl xft xev xdn xus xis xvr xhd xtk xpd xpa xpi xun xwj ysp yhw ywn yst ypl ydn yak ywt yun yrs yvr yhd ypa ypi ypd ygs ygn ygc W W2 IR bX bY V RP Off
  obtain ⟨⟨w1, w2, w3, w4⟩, _⟩ := W
  obtain ⟨_, _, _, _, _, _, _, _, _, _, _, z1, z2⟩ := W2
  have bad : (v1 < 0 ∨ ¬ v1 ≤ 3) ∨ (v2 < 0 ∨ ¬ v2 ≤ 6) → wpX_activity (fun r u' => wpY_activity (fun r' v' => r' = r ∧ G u' v') (nI ns, nI t, nI jc, nI tc, ac, ysp, ja, ji, jn, yhw, ywn, tj, tt, yst, ypl, ydn, yak, ywt, yun, yrs, yvr, yhd, ypa, ypi, ypd, ygs, ygn, ygc) v1 v2 v3) (nI ns, nI t, nI jc, nI tc, xhe, kd, p1, p2, p3, ac, ja, ji, jn, js, jt, tj, tt, xss, xsv, xak, xaj, xgc, xgk, xgn, xhs, xhg, xhn, xou, xah, xst, xpl, xft, xev, xdn, xus, xis, xvr, xhd, xtk, xpd, xpa, xpi, xun, xwj) v1 v2 v3 := by
    intro h
    have Y : wpY_activity (fun r' v' => r' = -1 ∧ G (nI ns, nI t, nI jc, nI tc, xhe, kd, p1, p2, p3, ac, ja, ji, jn, js, jt, tj, tt, xss, xsv, xak, xaj, xgc, xgk, xgn, xhs, xhg, xhn, xou, xah, xst, xpl, xft, xev, xdn, xus, xis, xvr, xhd, xtk, xpd, xpa, xpi, xun, xwj) v') (nI ns, nI t, nI jc, nI tc, ac, ysp, ja, ji, jn, yhw, ywn, tj, tt, yst, ypl, ydn, yak, ywt, yun, yrs, yvr, yhd, ypa, ypi, ypd, ygs, ygn, ygc) v1 v2 v3 := by
      unfold wpY_activity
      dsimp only
      refine sa_isIn (fun _ => br_t rfl ⟨rfl, IR⟩) (fun a c => br_f (by decide) (sa_isIn (fun _ => br_t rfl ⟨rfl, IR⟩) (fun a' c' => ?_)))
      exact absurd h (fun h => h.elim (fun h => h.elim a (fun h => h (Int32.not_lt.mp c))) (fun h => h.elim a' (fun h => h (Int32.not_lt.mp c'))))
    unfold wpX_activity
    dsimp only
    refine sa_out (fun a c => br_t rfl (sa_out (fun a' c' => ?_) (fun _ => br_f (by decide) Y))) (fun _ => br_f (by decide) Y)
    exact absurd h (fun h => h.elim (fun h => h.elim a (fun h => h c)) (fun h => h.elim a' (fun h => h c')))
  by_cases c1 : v1 < 0
  · exact bad (Or.inl (Or.inl c1))
  by_cases c2 : v1 ≤ 3
  case neg => exact bad (Or.inl (Or.inr c2))
  by_cases c3 : v2 < 0
  · exact bad (Or.inr (Or.inl c3))
  by_cases c4 : v2 ≤ 6
  case neg => exact bad (Or.inr (Or.inr c4))
  clear bad
  obtain ⟨A, hA, rfl⟩ := nI_of2 (M := 3) (n := 3) (by decide) c1 c2
  obtain ⟨w, hw, rfl⟩ := nI_of2 (M := 6) (n := 6) (by decide) c3 c4
  have fin : ∀ x : Int32, sa_rg w x → b = 0 → G (nI ns, nI t, nI jc, nI tc, xhe, kd, p1, p2, p3, upd ac (7 * A + w) x, ja, ji, jn, js, jt, tj, tt, xss, xsv, xak, xaj, xgc, xgk, xgn, xhs, xhg, xhn, xou, xah, xst, xpl, xft, xev, xdn, xus, xis, xvr, xhd, xtk, xpd, xpa, xpi, xun, xwj) (nI ns, nI t, nI jc, nI tc, upd ac (7 * A + w) x, ysp, ja, ji, jn, yhw, ywn, tj, tt, yst, ypl, ydn, yak, ywt, yun, yrs, yvr, yhd, ypa, ypi, ypd, ygs, ygn, ygc) := by
    intro x hr e
    refine RP (ns, kd, p1, p2, p3, upd ac (7 * A + w) x) _ _ e ⟨V.1, sa_VAu (P := (ns, kd, p1, p2, p3, ac)) (by omega) hr V.2⟩ ⟨⟨w1, w2, w3, w4⟩, rfl, rfl, rfl, rfl, rfl, rfl, rfl, rfl, rfl, rfl, rfl, rfl, rfl, rfl, rfl, rfl⟩ ⟨⟨w1, w2, w3, w4⟩, rfl, rfl, rfl, rfl, rfl, rfl, rfl, rfl, rfl, rfl, z1, z2⟩ (fun i hi => ?_)
    obtain ⟨q1, q2, q3, q4⟩ := Off e i hi
    exact ⟨q1, q2, q3, q4⟩
  have inA : ∀ X : Prop, (¬ nI A < 0 → ¬ (3 : Int32) < nI A → X) → X := fun X h => h (nI_pos (by omega)) (nI_nlt (b := A) (a := 3) (by omega) (by decide))
  have hw7 : w = 0 ∨ w = 1 ∨ w = 2 ∨ w = 3 ∨ w = 4 ∨ w = 5 ∨ w = 6 := by omega
  have nA0 : ¬ nI A < 0 := nI_pos (by omega)
  have nA3 : ¬ (3 : Int32) < nI A := nI_nlt (b := A) (a := 3) (by omega) (by decide)
  have hYg : ∀ (lo hi : Int32) (post : Int32 → SY → Prop), ¬ nI w < 0 → ¬ (6 : Int32) < nI w → (wY_activity_91 post (nI A) (nI w) v3 lo hi (nI ns) (nI t) (nI jc) (nI tc) ac ysp ja ji jn yhw ywn tj tt yst ypl ydn yak ywt yun yrs yvr yhd ypa ypi ypd ygs ygn ygc → ((3 ≤ nI w → (((5 ≤ nI w → (((nI w = 5 → (wY_activity_53 post (nI A) (nI w) v3 (-9) (nI ns) (nI t) (nI jc) (nI tc) ac ysp ja ji jn yhw ywn tj tt yst ypl ydn yak ywt yun yrs yvr yhd ypa ypi ypd ygs ygn ygc)) ∧ (¬ nI w = 5 → (wY_activity_53 post (nI A) (nI w) v3 (-99) (nI ns) (nI t) (nI jc) (nI tc) ac ysp ja ji jn yhw ywn tj tt yst ypl ydn yak ywt yun yrs yvr yhd ypa ypi ypd ygs ygn ygc))))) ∧ (¬ 5 ≤ nI w → (wY_activity_53 post (nI A) (nI w) v3 0 (nI ns) (nI t) (nI jc) (nI tc) ac ysp ja ji jn yhw ywn tj tt yst ypl ydn yak ywt yun yrs yvr yhd ypa ypi ypd ygs ygn ygc))))) ∧ (¬ 3 ≤ nI w → (wY_activity_53 post (nI A) (nI w) v3 1 (nI ns) (nI t) (nI jc) (nI tc) ac ysp ja ji jn yhw ywn tj tt yst ypl ydn yak ywt yun yrs yvr yhd ypa ypi ypd ygs ygn ygc)))) → wY_activity_91 post (nI A) (nI w) v3 lo hi (nI ns) (nI t) (nI jc) (nI tc) ac ysp ja ji jn yhw ywn tj tt yst ypl ydn yak ywt yun yrs yvr yhd ypa ypi ypd ygs ygn ygc → wpY_activity post (nI ns, nI t, nI jc, nI tc, ac, ysp, ja, ji, jn, yhw, ywn, tj, tt, yst, ypl, ydn, yak, ywt, yun, yrs, yvr, yhd, ypa, ypi, ypd, ygs, ygn, ygc) (nI A) (nI w) v3 := by
    intro lo hi post n0 n6 h K
    unfold wpY_activity
    dsimp only
    exact sa_isIn (fun z => absurd z (fun z => z.elim nA0 nA3)) (fun _ _ => br_f (by decide) (sa_isIn (fun z => absurd z (fun z => z.elim n0 n6)) (fun _ _ => br_f (by decide) (h K))))
  rcases hw7 with rfl | rfl | rfl | rfl | rfl | rfl | rfl
  · refine sa_actc (lo := 1) (hi := 9) (by omega) (by omega) hb bX bY (fun post h0 h1 => ?_) (fun post K => hYg 1 9 post (by decide) (by decide) (fun K => br_f (by decide) (br_f (by decide) (br_f (by decide) (br_f (by decide) (br_f (by decide) K))))) K) IR (fun e q1 q2 => fin v3 ⟨fun _ => sa_r1 (by decide) q1 q2, nofun, nofun, nofun, nofun⟩ e)
    unfold wpX_badSetting
    dsimp only
    exact br_t rfl (sa_out (fun a c => ⟨rfl, h0 a c⟩) (fun c => ⟨rfl, h1 c⟩))
  · refine sa_actc (lo := 1) (hi := 3) (by omega) (by omega) hb bX bY (fun post h0 h1 => ?_) (fun post K => hYg 1 3 post (by decide) (by decide) (fun K => br_f (by decide) (br_t (by decide) K)) K) IR (fun e q1 q2 => fin v3 ⟨nofun, fun _ => sa_r1 (by decide) q1 q2, nofun, nofun, nofun⟩ e)
    unfold wpX_badSetting
    dsimp only
    exact br_f (by decide) (br_t rfl (sa_out (fun a c => ⟨rfl, h0 a c⟩) (fun c => ⟨rfl, h1 c⟩)))
  · refine sa_actc (lo := 1) (hi := 4) (by omega) (by omega) hb bX bY (fun post h0 h1 => ?_) (fun post K => hYg 1 4 post (by decide) (by decide) (fun K => br_f (by decide) (br_f (by decide) (br_t (by decide) K))) K) IR (fun e q1 q2 => fin v3 ⟨nofun, nofun, fun _ => sa_r1 (by decide) q1 q2, nofun, nofun⟩ e)
    unfold wpX_badSetting
    dsimp only
    exact br_f (by decide) (br_f (by decide) (br_t rfl (sa_out (fun a c => ⟨rfl, h0 a c⟩) (fun c => ⟨rfl, h1 c⟩))))
  · refine sa_actc (lo := 0) (hi := 9) (by omega) (by omega) hb bX bY (fun post h0 h1 => ?_) (fun post K => hYg 0 9 post (by decide) (by decide) (fun K => br_t (by decide) (br_f (by decide) (br_f (by decide) (br_f (by decide) (br_f (by decide) (br_f (by decide) K)))))) K) IR (fun e q1 q2 => fin v3 ⟨nofun, nofun, nofun, fun _ => sa_r0 (by decide) q1 q2, nofun⟩ e)
    unfold wpX_badSetting
    dsimp only
    exact br_f (by decide) (br_f (by decide) (br_f (by decide) (br_t rfl (sa_out (fun a c => ⟨rfl, h0 a c⟩) (fun c => ⟨rfl, h1 c⟩)))))
  · refine sa_actc (lo := 0) (hi := 4) (by omega) (by omega) hb bX bY (fun post h0 h1 => ?_) (fun post K => hYg 0 4 post (by decide) (by decide) (fun K => br_t (by decide) (br_f (by decide) (br_f (by decide) (br_f (by decide) (br_t (by decide) K))))) K) IR (fun e q1 q2 => fin v3 ⟨nofun, nofun, nofun, nofun, fun _ => sa_r0 (by decide) q1 q2⟩ e)
    unfold wpX_badSetting
    dsimp only
    exact br_f (by decide) (br_f (by decide) (br_f (by decide) (br_f (by decide) (br_t rfl (sa_out (fun a c => ⟨rfl, h0 a c⟩) (fun c => ⟨rfl, h1 c⟩))))))
  · refine sa_actc (lo := -9) (hi := 9) (by omega) (by omega) hb bX bY (fun post h0 h1 => ?_) (fun post K => hYg (-9) 9 post (by decide) (by decide) (fun K => br_t (by decide) (br_t (by decide) (br_t (by decide) (br_f (by decide) (br_f (by decide) (br_f (by decide) (br_f (by decide) K))))))) K) IR (fun e q1 q2 => fin v3 ⟨nofun, nofun, nofun, nofun, nofun⟩ e)
    unfold wpX_badSetting
    dsimp only
    exact br_f (by decide) (br_f (by decide) (br_f (by decide) (br_f (by decide) (br_f (by decide) (br_t rfl (sa_out (fun a c => ⟨rfl, h0 a c⟩) (fun c => ⟨rfl, h1 c⟩)))))))
  · refine sa_actc (lo := -99) (hi := 99) (by omega) (by omega) hb bX bY (fun post h0 h1 => ?_) (fun post K => hYg (-99) 99 post (by decide) (by decide) (fun K => br_t (by decide) (br_t (by decide) (br_f (by decide) (br_f (by decide) (br_f (by decide) (br_f (by decide) (br_t (by decide) K))))))) K) IR (fun e q1 q2 => fin v3 ⟨nofun, nofun, nofun, nofun, nofun⟩ e)
    unfold wpX_badSetting
    dsimp only
    exact br_f (by decide) (br_f (by decide) (br_f (by decide) (br_f (by decide) (br_f (by decide) (br_f (by decide) (sa_out (fun a c => ⟨rfl, h0 a c⟩) (fun c => ⟨rfl, h1 c⟩)))))))
end
section
/-! start and signal -/
def sa_eqst (i : Nat) (u : SX) (v : SY) : Prop := match u, v with | (xns, xnow, xjc, xtc, xhe, xkd, xp1, xp2, xp3, xac, xja, xji, xjn, xjs, xjt, xtj, xtt, xss, xsv, xak, xaj, xgc, xgk, xgn, xhs, xhg, xhn, xou, xah, xst, xpl, xft, xev, xdn, xus, xis, xvr, xhd, xtk, xpd, xpa, xpi, xun, xwj), (yns, ynow, yjc, ytc, yac, ysp, yja, yji, yjn, yhw, ywn, ytj, ytt, yst, ypl, ydn, yak, ywt, yun, yrs, yvr, yhd, ypa, ypi, ypd, ygs, ygn, ygc) => yst i = xst i
theorem sa_eqh {i t : Nat} {P : sa_P} {L : sa_L} {h : sa_H} {u : SX} {v : SY} (H : sa_HX i h u) (Y : sa_HY i P t L h v) : sa_eqst i u v := by
  obtain ⟨sv, ak, aj, gc, gk, gn, hs, hg, hn, ou⟩ := L
  obtain ⟨st, pl, ev, dn, us, is, vr, hd, tk, pn, pa, pi, un, wj⟩ := h
  obtain ⟨xns, xnow, xjc, xtc, xhe, xkd, xp1, xp2, xp3, xac, xja, xji, xjn, xjs, xjt, xtj, xtt, xss, xsv, xak, xaj, xgc, xgk, xgn, xhs, xhg, xhn, xou, xah, xst, xpl, xft, xev, xdn, xus, xis, xvr, xhd, xtk, xpd, xpa, xpi, xun, xwj⟩ := u
  obtain ⟨yns, ynow, yjc, ytc, yac, ysp, yja, yji, yjn, yhw, ywn, ytj, ytt, yst, ypl, ydn, yak, ywt, yun, yrs, yvr, yhd, ypa, ypi, ypd, ygs, ygn, ygc⟩ := v
  exact Y.2.1.trans H.2.1.symm
theorem sa_eqA {i : Nat} {u u' : SX} {v v' : SY} (X : sa_AX i u u') (Y : sa_AY i v v') (E : sa_eqst i u v) : sa_eqst i u' v' := by
  obtain ⟨xns, xnow, xjc, xtc, xhe, xkd, xp1, xp2, xp3, xac, xja, xji, xjn, xjs, xjt, xtj, xtt, xss, xsv, xak, xaj, xgc, xgk, xgn, xhs, xhg, xhn, xou, xah, xst, xpl, xft, xev, xdn, xus, xis, xvr, xhd, xtk, xpd, xpa, xpi, xun, xwj⟩ := u
  obtain ⟨xns', xnow', xjc', xtc', xhe', xkd', xp1', xp2', xp3', xac', xja', xji', xjn', xjs', xjt', xtj', xtt', xss', xsv', xak', xaj', xgc', xgk', xgn', xhs', xhg', xhn', xou', xah', xst', xpl', xft', xev', xdn', xus', xis', xvr', xhd', xtk', xpd', xpa', xpi', xun', xwj'⟩ := u'
  obtain ⟨yns, ynow, yjc, ytc, yac, ysp, yja, yji, yjn, yhw, ywn, ytj, ytt, yst, ypl, ydn, yak, ywt, yun, yrs, yvr, yhd, ypa, ypi, ypd, ygs, ygn, ygc⟩ := v
  obtain ⟨yns', ynow', yjc', ytc', yac', ysp', yja', yji', yjn', yhw', ywn', ytj', ytt', yst', ypl', ydn', yak', ywt', yun', yrs', yvr', yhd', ypa', ypi', ypd', ygs', ygn', ygc'⟩ := v'
  obtain ⟨_, _, _, _, _, _, _, _, _, _, x1, _⟩ := X
  obtain ⟨y1, _⟩ := Y
  exact y1.trans (Eq.trans E x1.symm)
/-- both go on from a given hand -/
theorem sa_both2 {i t n : Nat} {P : sa_P} {J : sa_J} {L : sa_L} {h : sa_H} {u : SX} {v : SY} (hi : i < 3) (V : sa_VK P) (W : sa_WX P t J u) (W2 : sa_WY P t J v) (Aj : sa_Ja J) (hj : sa_jc J + (30 - sa_ak L) ≤ 90) (on : sa_on i u) (f1 : sa_LX i L u) (f2 : sa_ah i u → sa_HX i h u) (f3 : sa_HY i P t L h v) (f4 : sa_I P J L h) (f5 : sa_Ok L) (f6 : sa_Re P L n (sa_h0 (sa_sv L)) h) (np : ¬ sa_pend h) :
    ∃ n J' u' v', sa_Jx t n J J' ∧ sa_ak L + n ≤ 30 ∧ sa_WX P t J' u' ∧ sa_WY P t J' v' ∧ sa_Fw True i P t J' (sa_ak L + n) u' v' ∧ sa_eqst i u' v' ∧ sa_Fo i u u' ∧ sa_FY i v v' ∧ (∀ post : SX → Prop, post u' → wpX_goOn post u (nI i)) ∧ (∀ post : SY → Prop, post v' → wpY_work post v (nI i)) := by
  obtain ⟨u1, a1, a2, a3, a4, a5⟩ := sa_hand hi W f1 on f2 (sa_IW f4) f6
  obtain ⟨k, m, J', L', h', u', v', ⟨b1, b2, b3, b4⟩, ⟨⟨c1, c2, c3⟩, ⟨d1, d2⟩, d3, d4⟩, e1, e2, e3, e4, e5⟩ := sa_live hi V (sa_m h) h L J u1 v (Nat.le_refl _) ⟨⟨a1, a2, a3⟩, ⟨W2, f3⟩, f4, f5⟩ np Aj hj
  have FG := sa_FGX a4 e2
  have e30 := (sa_Ia d3).2.2.2
  refine ⟨m, J', u', v', b1, by omega, c1, d1, Or.inr ⟨sa_onG FG on, L', h', k + n, c2, fun _ => c3, d2, d3, d4, ?_, b3.symm, fun z => (e1 z).1, fun _ => e1⟩, sa_eqh c3 d2, sa_FoG FG, e3, fun post hp => a5 post (e4 post hp), fun post hp => sa_work hi f3 (e5 post hp)⟩
  rw [sa_svE b2]
  exact sa_ReT n k _ h h' (sa_ReE b2 n _ h f6) b4
/-- .. and attempts begin -/
theorem sa_fin2 {i t n : Nat} {P : sa_P} {J : sa_J} {A : Nat → Nat} {L : sa_L} {h : sa_H} {u u1 : SX} {v v1 : SY} (hi : i < 3) (M : sa_Rel t P J A u v) (hA : A i = sa_ak L) (W : sa_WX P t J u1) (W2 : sa_WY P t J v1) (on : sa_on i u1) (f1 : sa_LX i L u1) (f2 : sa_ah i u1 → sa_HX i h u1) (f3 : sa_HY i P t L h v1) (f4 : sa_I P J L h) (f5 : sa_Ok L) (f6 : sa_Re P L n (sa_h0 (sa_sv L)) h) (np : ¬ sa_pend h) (Fo : sa_Fo i u u1) (FY : sa_FY i v v1) :
    ∃ J' A' u2 v2 u3 v3, sa_Rel t P J' A' u3 v3 ∧ sa_eqst i u3 v3 ∧ (∀ post : SX → Prop, post u2 → wpX_goOn post u1 (nI i)) ∧ (∀ post : SY → Prop, post v2 → wpY_work post v1 (nI i)) ∧ (∀ post : SX → Prop, post u3 → wpX_beginAttempts post u2) ∧ (∀ post : SY → Prop, post v3 → wpY_begin post v2) := by
  obtain ⟨⟨⟨VK, VA⟩, VJ, _, _, R, F, hA30, hc⟩, _, _⟩ := M
  have s30 := sa_sumA hi hA30
  obtain ⟨m, J', u2, v2, b1, b2, b3, b4, b5, b6, b7, b8, b9, b10⟩ := sa_both2 hi VK W W2 (sa_VJa VJ) (by omega) on f1 f2 f3 f4 f5 f6 np
  obtain ⟨Jm, jc'⟩ := sa_JmX m J J' b1
  have M2 : sa_Mid (fun _ => True) t P J' (fun j => if j = i then A i + m else A j) u2 v2 := by
    refine ⟨⟨VK, VA⟩, sa_VJx VA m J J' b1 (by omega) VJ, b3, b4, sa_RnX m J J' b1 R, fun j hj => ?_, fun j hj => ?_, ?_⟩
    · by_cases e : j = i
      · subst e
        show sa_Fw _ j P t J' (if j = j then A j + m else A j) u2 v2
        rw [if_pos rfl, hA]
        exact b5
      · show sa_Fw _ j P t J' (if j = i then A i + m else A j) u2 v2
        rw [if_neg e]
        exact sa_FwK (b7 j hj e).1 (b7 j hj e).2 (b8 j hj e) Jm.1 (fun _ => Jm) (sa_FwK (Fo j hj e).1 (Fo j hj e).2 (FY j hj e) (Nat.le_refl _) (fun _ => sa_Jmr) (F j hj))
    · show (if j = i then A i + m else A j) ≤ 30
      split
      · omega
      · exact hA30 j hj
    · rw [sa_updA hi, jc', hc]
  obtain ⟨J3, u3, v3, c1, c2, c3, c4, c5⟩ := sa_fin (fun _ _ => trivial) M2
  exact ⟨J3, _, u2, v2, u3, v3, c1, sa_eqA (c4 i hi).2 (c5 i hi) b6, b9, b10, c2, c3⟩
section
variable {yns ynow yjc ytc : Int32} {yac ysp yja yji yjn yhw ywn ytj ytt yst ypl ydn yak ywt yun yrs yvr yhd ypa ypi ypd ygs ygn ygc : Nat → Int32} {i n c : Nat} {x : Int32} {post : Int32 → SY → Prop}
theorem sa_ys75 (hi : i < 3) (hc : c < 4) (K : wY_start_75 post (nI i) x yns ynow yjc ytc n (nI (c + 1)) yac ysp yja yji yjn yhw ywn ytj ytt yst ypl ydn yak ywt yun yrs (upd yvr (4 * i + c) (sa_vr0 x c)) yhd ypa ypi ypd ygs ygn ygc) : wY_start_75 post (nI i) x yns ynow yjc ytc (n + 1) (nI c) yac ysp yja yji yjn yhw ywn ytj ytt yst ypl ydn yak ywt yun yrs yvr yhd ypa ypi ypd ygs ygn ygc := by
  refine br_f (nI_ge (b := 4) hc (by decide)) ?_
  by_cases e : c = 0
  · subst e
    refine br_t rfl ?_
    rw [sa_m4, nI_add, nI_1, nI_clamp (by omega)]
    exact ⟨vp_in_nI (by omega) (by decide), nm_e (nm_e K)⟩
  · refine br_f (by rw [sa_e0 (by omega)]; exact e) ?_
    rw [sa_m4, nI_add, nI_1, nI_clamp (by omega)]
    rw [show sa_vr0 x c = 0 from if_neg e] at K
    exact ⟨vp_in_nI (by omega) (by decide), nm_e (nm_e K)⟩
theorem sa_ys107 (hi : i < 3) (hc : c < 3) (K : wY_start_107 post (nI i) yns ynow yjc ytc n (nI (c + 1)) yac ysp yja yji yjn yhw ywn ytj ytt yst ypl ydn yak ywt yun yrs yvr (upd yhd (3 * i + c) (-1)) ypa ypi ypd ygs ygn ygc) : wY_start_107 post (nI i) yns ynow yjc ytc (n + 1) (nI c) yac ysp yja yji yjn yhw ywn ytj ytt yst ypl ydn yak ywt yun yrs yvr yhd ypa ypi ypd ygs ygn ygc := by
  refine br_f (nI_ge (b := 3) hc (by decide)) ?_
  rw [sa_m3, nI_add, nI_1 c, nI_clamp (by omega)]
  exact ⟨vp_in_nI (by omega) (by decide), nm_e (nm_e K)⟩
end
theorem i_vc_start {k : Nat} {u : SX} {v : SY} (I : i_Rel k u v) (hk : k + 5 ≤ 2560) (v1 : Int32) (v2 : Int32) : wpX_start (fun r u' => wpY_start (fun r' v' => r' = r ∧ i_Rel (k + 5) u' v') v v1 v2) u v1 v2 := by
  have IR := i_up I
  obtain ⟨t, P, J, A, ht, M⟩ := I
  have W := M.1.2.2.1
  have W2 := M.1.2.2.2.1
  rcases sa_fl3 v1 with ⟨h1, h2⟩ | ⟨i, hi, rfl, h0, h3, h2⟩
  · clear M W W2
    revert IR
    generalize i_Rel (k + 5) = G
    intro IR
    obtain ⟨xns, xnow, xjc, xtc, xhe, xkd, xp1, xp2, xp3, xac, xja, xji, xjn, xjs, xjt, xtj, xtt, xss, xsv, xak, xaj, xgc, xgk, xgn, xhs, xhg, xhn, xou, xah, xst, xpl, xft, xev, xdn, xus, xis, xvr, xhd, xtk, xpd, xpa, xpi, xun, xwj⟩ := u
    obtain ⟨yns, ynow, yjc, ytc, yac, ysp, yja, yji, yjn, yhw, ywn, ytj, ytt, yst, ypl, ydn, yak, ywt, yun, yrs, yvr, yhd, ypa, ypi, ypd, ygs, ygn, ygc⟩ := v
    unfold wpX_start wpY_start
    dsimp only
    exact sa_bf1 h1 (br_f (by decide) (sa_in0 h2 (br_t rfl ⟨rfl, IR⟩)))
  · have E1 := sa_E1f (M.1.2.2.2.2.2.1 i hi)
    have hv : vp_in (nI i) 3 := vp_in_nI hi (by decide)
    have hc : (nI i).toNatClampNeg = i := nI_clamp (by omega)
    by_cases on : sa_on i u
    · obtain ⟨E1, _⟩ := E1
      clear M W W2
      revert IR
      generalize i_Rel (k + 5) = G
      intro IR
      obtain ⟨xns, xnow, xjc, xtc, xhe, xkd, xp1, xp2, xp3, xac, xja, xji, xjn, xjs, xjt, xtj, xtt, xss, xsv, xak, xaj, xgc, xgk, xgn, xhs, xhg, xhn, xou, xah, xst, xpl, xft, xev, xdn, xus, xis, xvr, xhd, xtk, xpd, xpa, xpi, xun, xwj⟩ := u
      obtain ⟨yns, ynow, yjc, ytc, yac, ysp, yja, yji, yjn, yhw, ywn, ytj, ytt, yst, ypl, ydn, yak, ywt, yun, yrs, yvr, yhd, ypa, ypi, ypd, ygs, ygn, ygc⟩ := v
      obtain ⟨m, m1, m2, m3⟩ := E1
      unfold wpX_start wpY_start
      dsimp only
      refine sa_bf0 h0 h3 (br_t rfl (And.intro hv (br_f (by rw [hc]; exact on) (sa_in1 h0 h2 (br_f (by decide) (And.intro hv (br_f ?_ ⟨rfl, IR⟩)))))))
      rw [hc, m2, sa_e0 (by omega), m3]
      exact on
    · obtain ⟨off, A0⟩ := E1.2 on
      clear E1 on
      have VV := M.1.1
      -- the new states
      have key : ∃ u1 v1', (sa_WX P t J u1 ∧ sa_WY P t J v1' ∧ sa_on i u1 ∧ sa_LX i (v2, 0, fun _ => 0, 0, fun _ => 0, fun _ => 0, 0, fun _ => 0, fun _ => 0, -1) u1 ∧ ¬ sa_ah i u1 ∧ sa_HY i P t (v2, 0, fun _ => 0, 0, fun _ => 0, fun _ => 0, 0, fun _ => 0, fun _ => 0, -1) (sa_h0 v2) v1' ∧ sa_Fo i u u1 ∧ sa_FY i v v1')
          ∧ (∀ (post : Int32 → SX → Prop) (u2 u3 : SX), (∀ post : SX → Prop, post u2 → wpX_goOn post u1 (nI i)) → (∀ post : SX → Prop, post u3 → wpX_beginAttempts post u2) → (match u3 with | (xns, xnow, xjc, xtc, xhe, xkd, xp1, xp2, xp3, xac, xja, xji, xjn, xjs, xjt, xtj, xtt, xss, xsv, xak, xaj, xgc, xgk, xgn, xhs, xhg, xhn, xou, xah, xst, xpl, xft, xev, xdn, xus, xis, xvr, xhd, xtk, xpd, xpa, xpi, xun, xwj) => post (xst i) (xns, xnow, xjc, xtc, xhe, xkd, xp1, xp2, xp3, xac, xja, xji, xjn, xjs, xjt, xtj, xtt, xss, xsv, xak, xaj, xgc, xgk, xgn, xhs, xhg, xhn, xou, xah, xst, xpl, xft, xev, xdn, xus, xis, xvr, xhd, xtk, xpd, xpa, xpi, xun, xwj)) → wpX_start post u (nI i) v2)
          ∧ (∀ (post : Int32 → SY → Prop) (w2 w3 : SY), (∀ post : SY → Prop, post w2 → wpY_work post v1' (nI i)) → (∀ post : SY → Prop, post w3 → wpY_begin post w2) → (match w3 with | (yns, ynow, yjc, ytc, yac, ysp, yja, yji, yjn, yhw, ywn, ytj, ytt, yst, ypl, ydn, yak, ywt, yun, yrs, yvr, yhd, ypa, ypi, ypd, ygs, ygn, ygc) => post (yst i) (yns, ynow, yjc, ytc, yac, ysp, yja, yji, yjn, yhw, ywn, ytj, ytt, yst, ypl, ydn, yak, ywt, yun, yrs, yvr, yhd, ypa, ypi, ypd, ygs, ygn, ygc)) → wpY_start post v (nI i) v2) := by
        clear M VV A0 IR
        revert off
        refine sa_XYi (C := fun P J u v => sa_off i u v → ∃ u1 v1', (sa_WX P t J u1 ∧ sa_WY P t J v1' ∧ sa_on i u1 ∧ sa_LX i (v2, 0, fun _ => 0, 0, fun _ => 0, fun _ => 0, 0, fun _ => 0, fun _ => 0, -1) u1 ∧ ¬ sa_ah i u1 ∧ sa_HY i P t (v2, 0, fun _ => 0, 0, fun _ => 0, fun _ => 0, 0, fun _ => 0, fun _ => 0, -1) (sa_h0 v2) v1' ∧ sa_Fo i u u1 ∧ sa_FY i v v1')
          ∧ (∀ (post : Int32 → SX → Prop) (u2 u3 : SX), (∀ post : SX → Prop, post u2 → wpX_goOn post u1 (nI i)) → (∀ post : SX → Prop, post u3 → wpX_beginAttempts post u2) → (match u3 with | (xns, xnow, xjc, xtc, xhe, xkd, xp1, xp2, xp3, xac, xja, xji, xjn, xjs, xjt, xtj, xtt, xss, xsv, xak, xaj, xgc, xgk, xgn, xhs, xhg, xhn, xou, xah, xst, xpl, xft, xev, xdn, xus, xis, xvr, xhd, xtk, xpd, xpa, xpi, xun, xwj) => post (xst i) (xns, xnow, xjc, xtc, xhe, xkd, xp1, xp2, xp3, xac, xja, xji, xjn, xjs, xjt, xtj, xtt, xss, xsv, xak, xaj, xgc, xgk, xgn, xhs, xhg, xhn, xou, xah, xst, xpl, xft, xev, xdn, xus, xis, xvr, xhd, xtk, xpd, xpa, xpi, xun, xwj)) → wpX_start post u (nI i) v2)
          ∧ (∀ (post : Int32 → SY → Prop) (w2 w3 : SY), (∀ post : SY → Prop, post w2 → wpY_work post v1' (nI i)) → (∀ post : SY → Prop, post w3 → wpY_begin post w2) → (match w3 with | (yns, ynow, yjc, ytc, yac, ysp, yja, yji, yjn, yhw, ywn, ytj, ytt, yst, ypl, ydn, yak, ywt, yun, yrs, yvr, yhd, ypa, ypi, ypd, ygs, ygn, ygc) => post (yst i) (yns, ynow, yjc, ytc, yac, ysp, yja, yji, yjn, yhw, ywn, ytj, ytt, yst, ypl, ydn, yak, ywt, yun, yrs, yvr, yhd, ypa, ypi, ypd, ygs, ygn, ygc)) → wpY_start post v (nI i) v2)) W W2 ?_
        intro ns jc tc xhe kd p1 p2 p3 ac ja ji jn js jt tj tt xss xsv xak xaj xgc xgk xgn xhs xhg xhn xou xah xst xpl xft xev xdn xus xis xvr xhd xtk xpd xpa xpi xun xwj ysp yhw ywn yst ypl ydn yak ywt yun yrs yvr yhd ypa ypi ypd ygs ygn ygc W W2 off
        obtain ⟨⟨w1, w2, w3, w4⟩, _⟩ := W
        obtain ⟨_, _, _, _, _, _, _, _, _, _, _, z1, z2⟩ := W2
        obtain ⟨yvr', q1, q2, q3⟩ := sa_fill (fun (post : Int32 → SY → Prop) n c a => wY_start_75 post (nI i) v2 (nI ns) (nI t) (nI jc) (nI tc) n (nI c) ac ysp ja ji jn yhw ywn tj tt (upd yst i 1) (upd ypl i 0) (upd ydn i 0) (upd yak i 0) (upd ywt i 0) yun yrs a yhd ypa ypi (upd ypd i 0) ygs ygn (upd ygc i 0)) 4 (4 * i) (sa_vr0 v2) (fun post n c a hc K => sa_ys75 hi hc K) yvr
        obtain ⟨yhd', r1, r2, r3⟩ := sa_fill (fun (post : Int32 → SY → Prop) n c a => wY_start_107 post (nI i) (nI ns) (nI t) (nI jc) (nI tc) n (nI c) ac ysp ja ji jn yhw ywn tj tt (upd yst i 1) (upd ypl i 0) (upd ydn i 0) (upd yak i 0) (upd ywt i 0) yun yrs yvr' a ypa ypi (upd ypd i 0) ygs ygn (upd ygc i 0)) 3 (3 * i) (fun _ => -1) (fun post n c a hc K => sa_ys107 hi hc K) yhd
        refine ⟨(nI ns, nI t, nI jc, nI tc, xhe, kd, p1, p2, p3, ac, ja, ji, jn, js, jt, tj, tt, upd xss i 1, upd xsv i v2, upd xak i 0, xaj, upd xgc i 0, xgk, xgn, upd xhs i 0, xhg, xhn, upd xou i (-1), upd xah i 0, xst, xpl, xft, xev, xdn, xus, xis, xvr, xhd, xtk, xpd, xpa, xpi, xun, xwj), (nI ns, nI t, nI jc, nI tc, ac, ysp, ja, ji, jn, yhw, ywn, tj, tt, upd yst i 1, upd ypl i 0, upd ydn i 0, upd yak i 0, upd ywt i 0, yun, yrs, yvr', yhd', ypa, ypi, upd ypd i 0, ygs, ygn, upd ygc i 0), ⟨⟨⟨w1, w2, w3, w4⟩, rfl, rfl, rfl, rfl, rfl, rfl, rfl, rfl, rfl, rfl, rfl, rfl, rfl, rfl, rfl, rfl⟩, ⟨⟨w1, w2, w3, w4⟩, rfl, rfl, rfl, rfl, rfl, rfl, rfl, rfl, rfl, rfl, z1, z2⟩, ?_, ⟨⟨by omega, by omega, by omega⟩, pk_us, pk_us, fun k hk => absurd hk (by omega), pk_us, fun k hk => absurd hk (by omega), fun k hk => absurd hk (by omega), pk_us, fun k hk => absurd hk (by omega), fun k hk => absurd hk (by omega), pk_us⟩, ?_, ?_, ?_, ?_⟩, ?_, ?_⟩
        · show ¬ upd xss i 1 i = 0
          rw [pk_us]
          decide
        · show ¬ ¬ upd xah i 0 i = 0
          rw [pk_us]
          exact fun z => z rfl
        · exact ⟨⟨by omega, by omega, by omega, by omega, by omega⟩, pk_us, q1, pk_us, fun k hk => absurd hk (by omega), fun k hk => absurd hk (by omega), pk_us, fun k hk => absurd hk (by omega), fun k hk => absurd hk (by omega), fun e => absurd e (by decide), fun _ => ⟨pk_us, pk_us, pk_us, r1, Or.inl ⟨rfl, pk_us⟩⟩⟩
        · exact fun i' hi' hne => ⟨⟨pk_un hne, pk_un hne⟩, pk_un hne, pk_un hne, fun _ _ => rfl, pk_un hne, fun _ _ => rfl, fun _ _ => rfl, pk_un hne, fun _ _ => rfl, fun _ _ => rfl, pk_un hne, rfl, rfl, rfl, rfl, rfl, rfl, rfl, fun _ _ => rfl, fun _ _ => rfl, fun _ _ => rfl, rfl, fun _ _ => rfl, fun _ _ => rfl, rfl, rfl⟩
        · exact fun i' hi' hne => ⟨pk_un hne, pk_un hne, pk_un hne, pk_un hne, pk_un hne, rfl, rfl, fun k hk => q2 _ (by omega), fun k hk => r2 _ (by omega), fun _ _ => rfl, fun _ _ => rfl, pk_un hne, fun _ _ => rfl, fun _ _ => rfl, pk_un hne⟩
        · intro post u2 u3 G B K
          unfold wpX_start
          dsimp only
          refine sa_bf0 h0 h3 (br_t rfl (And.intro hv ?_))
          rw [hc, sa_vn1, sa_vn0]
          refine br_t off.1 (And.intro hv (nm_e (And.intro hv (nm_e (And.intro hv (nm_e (And.intro hv (nm_e (And.intro hv (nm_e (And.intro hv (nm_e (And.intro hv (nm_e (G _ ?_)))))))))))))))
          obtain ⟨xns, xnow, xjc, xtc, xhe, xkd, xp1, xp2, xp3, xac, xja, xji, xjn, xjs, xjt, xtj, xtt, xss, xsv, xak, xaj, xgc, xgk, xgn, xhs, xhg, xhn, xou, xah, xst, xpl, xft, xev, xdn, xus, xis, xvr, xhd, xtk, xpd, xpa, xpi, xun, xwj⟩ := u2
          refine B _ ?_
          obtain ⟨xns, xnow, xjc, xtc, xhe, xkd, xp1, xp2, xp3, xac, xja, xji, xjn, xjs, xjt, xtj, xtt, xss, xsv, xak, xaj, xgc, xgk, xgn, xhs, xhg, xhn, xou, xah, xst, xpl, xft, xev, xdn, xus, xis, xvr, xhd, xtk, xpd, xpa, xpi, xun, xwj⟩ := u3
          exact And.intro hv K
        · intro post x2 x3 G B K
          unfold wpY_start
          dsimp only
          refine sa_in1 h0 h2 (br_f (by decide) (And.intro hv ?_))
          rw [hc]
          refine br_t off.2.1 (And.intro hv (nm_e (And.intro hv (nm_e (And.intro hv (nm_e (And.intro hv (nm_e (And.intro hv (nm_e (And.intro hv (nm_e (And.intro hv (nm_e ⟨1 + 4, q3 post 1 (br_t (by decide) ⟨1 + 3, r3 post 1 (br_t (by decide) (G _ ?_))⟩)⟩))))))))))))))
          obtain ⟨yns, ynow, yjc, ytc, yac, ysp, yja, yji, yjn, yhw, ywn, ytj, ytt, yst, ypl, ydn, yak, ywt, yun, yrs, yvr, yhd, ypa, ypi, ypd, ygs, ygn, ygc⟩ := x2
          refine B _ ?_
          obtain ⟨yns, ynow, yjc, ytc, yac, ysp, yja, yji, yjn, yhw, ywn, ytj, ytt, yst, ypl, ydn, yak, ywt, yun, yrs, yvr, yhd, ypa, ypi, ypd, ygs, ygn, ygc⟩ := x3
          refine And.intro hv ?_
          rw [hc]
          exact K
      obtain ⟨u1, v1', ⟨k1, k2, k3, k4, k5, k6, k7, k8⟩, kX, kY⟩ := key
      have I0 : sa_I P J (v2, 0, fun _ => 0, 0, fun _ => 0, fun _ => 0, 0, fun _ => 0, fun _ => 0, -1) (sa_h0 v2) := by
        clear k1 k2 k3 k4 k5 k6 k7 k8 kX kY M W W2 VV
        obtain ⟨ns, kd, p1, p2, p3, ac⟩ := P
        obtain ⟨jc, ja, ji, jn, js, jt, tc, tj, tt⟩ := J
        exact ⟨⟨rfl, rfl, by omega, by omega, by omega, by omega, by omega, by omega⟩, fun e => absurd rfl e, fun _ _ => Or.inl rfl, fun _ e => absurd rfl e, fun _ => nofun, fun k hk => ⟨fun z => absurd z (by omega), fun _ => rfl⟩, fun _ => rfl, ⟨1, by omega, by omega, rfl⟩, fun k hk => absurd hk (by omega)⟩
      obtain ⟨J', A', u2, w2, u3, w3, d1, d2, d3, d4, d5, d6⟩ := sa_fin2 (n := 0) (L := (v2, 0, fun _ => 0, 0, fun _ => 0, fun _ => 0, 0, fun _ => 0, fun _ => 0, -1)) (h := sa_h0 v2) hi M A0 k1 k2 k3 k4 (fun z => absurd z k5) k6 I0 (Or.inl rfl) rfl (fun z => nomatch z.2.1) k7 k8
      have IR3 : i_Rel (k + 5) u3 w3 := ⟨t, P, J', A', by omega, d1⟩
      clear d1 M IR
      revert IR3
      generalize i_Rel (k + 5) = G
      intro IR3
      refine kX _ u2 u3 d3 d5 ?_
      obtain ⟨xns, xnow, xjc, xtc, xhe, xkd, xp1, xp2, xp3, xac, xja, xji, xjn, xjs, xjt, xtj, xtt, xss, xsv, xak, xaj, xgc, xgk, xgn, xhs, xhg, xhn, xou, xah, xst, xpl, xft, xev, xdn, xus, xis, xvr, xhd, xtk, xpd, xpa, xpi, xun, xwj⟩ := u3
      refine kY _ w2 w3 d4 d6 ?_
      obtain ⟨yns, ynow, yjc, ytc, yac, ysp, yja, yji, yjn, yhw, ywn, ytj, ytt, yst, ypl, ydn, yak, ywt, yun, yrs, yvr, yhd, ypa, ypi, ypd, ygs, ygn, ygc⟩ := w3
      exact ⟨d2, IR3⟩
end
section
/-! signal -/
def sa_Lg (L : sa_L) (s x : Int32) : sa_L := match L with | (sv, ak, aj, gc, gk, gn, hs, hg, hn, ou) => (sv, ak, aj, gc + 1, upd gk gc s, upd gn gc x, hs, hg, hn, ou)
def sa_gc (L : sa_L) : Nat := match L with | (sv, ak, aj, gc, gk, gn, hs, hg, hn, ou) => gc
theorem sa_ExG {L : sa_L} {s x : Int32} : sa_Ex L (sa_Lg L s x) := by
  obtain ⟨sv, ak, aj, gc, gk, gn, hs, hg, hn, ou⟩ := L
  exact ⟨rfl, Nat.le_refl _, fun _ _ => rfl, Nat.le_succ _, fun k hk => ⟨pk_un (by omega), pk_un (by omega)⟩, Nat.le_refl _, fun _ _ => ⟨rfl, rfl⟩⟩
theorem sa_IG {P : sa_P} {J : sa_J} {L : sa_L} {h : sa_H} {s x : Int32} (hsg : s = 0 ∨ s = 1) (h6 : sa_gc L < 6) (I : sa_I P J L h) : sa_I P J (sa_Lg L s x) h ∧ (match L, h with | (sv, ak, aj, gc, gk, gn, hs, hg, hn, ou), (st, pl, ev, dn, us, is, vr, hd, tk, pn, pa, pi, un, wj) => tk gc = 0) := by
  obtain ⟨ns, kd, p1, p2, p3, ac⟩ := P
  obtain ⟨jc, ja, ji, jn, js, jt, tc, tj, tt⟩ := J
  obtain ⟨sv, ak, aj, gc, gk, gn, hs, hg, hn, ou⟩ := L
  obtain ⟨st, pl, ev, dn, us, is, vr, hd, tk, pn, pa, pi, un, wj⟩ := h
  have h6' : gc < 6 := h6
  obtain ⟨⟨n1, n2, n3, n4, n5, n6, n7, n8⟩, i2, i3, i4, i5, i6, i7, i8, i9⟩ := I
  refine ⟨⟨⟨n1, n2, n3, n4, n5, n6, n7, by omega⟩, i2, i3, i4, i5, fun k hk => ?_, i7, i8, i9⟩, (i6 gc h6').2 (Nat.le_refl _)⟩
  obtain ⟨a, b⟩ := i6 k hk
  refine ⟨fun z => ?_, fun z => b (by omega)⟩
  by_cases e : k = gc
  · subst e
    rw [pk_us]
    exact ⟨Or.inl (b (Nat.le_refl _)), hsg⟩
  · rw [pk_un e]
    exact a (by omega)
theorem sa_akG {L : sa_L} {s x : Int32} : sa_ak (sa_Lg L s x) = sa_ak L := by
  obtain ⟨sv, ak, aj, gc, gk, gn, hs, hg, hn, ou⟩ := L
  rfl
theorem sa_svG {L : sa_L} {s x : Int32} : sa_sv (sa_Lg L s x) = sa_sv L := by
  obtain ⟨sv, ak, aj, gc, gk, gn, hs, hg, hn, ou⟩ := L
  rfl
theorem sa_OkG {L : sa_L} {s x : Int32} (h : sa_Ok L) : sa_Ok (sa_Lg L s x) := by
  obtain ⟨sv, ak, aj, gc, gk, gn, hs, hg, hn, ou⟩ := L
  exact h
def sa_sgX (u : SX) (i g : Nat) (s x : Int32) : SX := match u with | (xns, xnow, xjc, xtc, xhe, xkd, xp1, xp2, xp3, xac, xja, xji, xjn, xjs, xjt, xtj, xtt, xss, xsv, xak, xaj, xgc, xgk, xgn, xhs, xhg, xhn, xou, xah, xst, xpl, xft, xev, xdn, xus, xis, xvr, xhd, xtk, xpd, xpa, xpi, xun, xwj) => (xns, xnow, xjc, xtc, xhe, xkd, xp1, xp2, xp3, xac, xja, xji, xjn, xjs, xjt, xtj, xtt, xss, xsv, xak, xaj, upd xgc i (nI (g + 1)), upd xgk (6 * i + g) s, upd xgn (6 * i + g) x, xhs, xhg, xhn, xou, xah, xst, xpl, xft, xev, xdn, xus, xis, xvr, xhd, xtk, xpd, xpa, xpi, xun, xwj)
def sa_sgY (v : SY) (i g : Nat) (s x : Int32) : SY := match v with | (yns, ynow, yjc, ytc, yac, ysp, yja, yji, yjn, yhw, ywn, ytj, ytt, yst, ypl, ydn, yak, ywt, yun, yrs, yvr, yhd, ypa, ypi, ypd, ygs, ygn, ygc) => (yns, ynow, yjc, ytc, yac, ysp, yja, yji, yjn, yhw, ywn, ytj, ytt, yst, ypl, ydn, yak, ywt, yun, yrs, yvr, yhd, ypa, ypi, ypd, upd ygs (6 * i + g) s, upd ygn (6 * i + g) x, upd ygc i (nI (g + 1)))
theorem sa_sgXl {i t : Nat} {P : sa_P} {J : sa_J} {L : sa_L} {h : sa_H} {u : SX} {s x : Int32} (hi : i < 3) (g6 : sa_gc L < 6) (W : sa_WX P t J u) (X : sa_LX i L u) (H : sa_HX i h u) (on : sa_on i u) :
    sa_WX P t J (sa_sgX u i (sa_gc L) s x) ∧ sa_LX i (sa_Lg L s x) (sa_sgX u i (sa_gc L) s x) ∧ sa_HX i h (sa_sgX u i (sa_gc L) s x) ∧ sa_on i (sa_sgX u i (sa_gc L) s x) ∧ sa_Fo i u (sa_sgX u i (sa_gc L) s x) := by
  obtain ⟨ns, kd, p1, p2, p3, ac⟩ := P
  obtain ⟨jc, ja, ji, jn, js, jt, tc, tj, tt⟩ := J
  obtain ⟨sv, ak, aj, gc, gk, gn, hs, hg, hn, ou⟩ := L
  obtain ⟨st, pl, ev, dn, us, is, vr, hd, tk, pn, pa, pi, un, wj⟩ := h
  obtain ⟨xns, xnow, xjc, xtc, xhe, xkd, xp1, xp2, xp3, xac, xja, xji, xjn, xjs, xjt, xtj, xtt, xss, xsv, xak, xaj, xgc, xgk, xgn, xhs, xhg, xhn, xou, xah, xst, xpl, xft, xev, xdn, xus, xis, xvr, xhd, xtk, xpd, xpa, xpi, xun, xwj⟩ := u
  have g6' : gc < 6 := g6
  obtain ⟨w0, w1, w2, w3, w4, w5, w6, w7, w8, w9, w10, w11, w12, w13, w14, w15, w16⟩ := W
  obtain ⟨⟨l1, l2, l3⟩, d1, d2, d3, d4, d5, d6, d7, d8, d9, d10⟩ := X
  obtain ⟨b0, c1, c2, c3, c4, c5, c6, c7, c8, c9, c10, c11, c12, c13, c14, c15⟩ := H
  refine ⟨⟨w0, w1, w2, w3, w4, w5, w6, w7, w8, w9, w10, w11, w12, w13, w14, w15, w16⟩, ⟨⟨l1, by omega, l3⟩, d1, d2, d3, pk_us, sa_ua d5, sa_ua d6, d7, d8, d9, d10⟩, ⟨b0, c1, c2, c3, c4, c5, c6, c7, c8, c9, c10, c11, c12, c13, c14, c15⟩, (show ¬ xss i = 0 from on), fun i' hi' hne => ⟨⟨rfl, rfl⟩, rfl, rfl, fun _ _ => rfl, pk_un hne, fun k hk => pk_un (show 6 * i' + k ≠ 6 * i + gc by omega), fun k hk => pk_un (show 6 * i' + k ≠ 6 * i + gc by omega), rfl, fun _ _ => rfl, fun _ _ => rfl, rfl, rfl, rfl, rfl, rfl, rfl, rfl, rfl, fun _ _ => rfl, fun _ _ => rfl, fun _ _ => rfl, rfl, fun _ _ => rfl, fun _ _ => rfl, rfl, rfl⟩⟩
theorem sa_sgYl {i t : Nat} {P : sa_P} {J : sa_J} {L : sa_L} {h : sa_H} {v : SY} {s x : Int32} (hi : i < 3) (g6 : sa_gc L < 6) (W : sa_WY P t J v) (H : sa_HY i P t L h v) (tk0 : match L, h with | (sv, ak, aj, gc, gk, gn, hs, hg, hn, ou), (st, pl, ev, dn, us, is, vr, hd, tk, pn, pa, pi, un, wj) => tk gc = 0) :
    sa_WY P t J (sa_sgY v i (sa_gc L) s x) ∧ sa_HY i P t (sa_Lg L s x) h (sa_sgY v i (sa_gc L) s x) ∧ sa_FY i v (sa_sgY v i (sa_gc L) s x) := by
  obtain ⟨ns, kd, p1, p2, p3, ac⟩ := P
  obtain ⟨jc, ja, ji, jn, js, jt, tc, tj, tt⟩ := J
  obtain ⟨sv, ak, aj, gc, gk, gn, hs, hg, hn, ou⟩ := L
  obtain ⟨st, pl, ev, dn, us, is, vr, hd, tk, pn, pa, pi, un, wj⟩ := h
  obtain ⟨yns, ynow, yjc, ytc, yac, ysp, yja, yji, yjn, yhw, ywn, ytj, ytt, yst, ypl, ydn, yak, ywt, yun, yrs, yvr, yhd, ypa, ypi, ypd, ygs, ygn, ygc⟩ := v
  have g6' : gc < 6 := g6
  have tk0' : tk gc = 0 := tk0
  obtain ⟨w0, w1, w2, w3, w4, w5, w6, w7, w8, w9, w10, w11, w12⟩ := W
  obtain ⟨⟨b1, b2, b3, b4, b5⟩, e1, e2, e3, e4, e5, e6, e7, e8, e9, e10⟩ := H
  refine ⟨⟨w0, w1, w2, w3, w4, w5, w6, w7, w8, w9, w10, w11, w12⟩, ⟨⟨b1, b2, b3, b4, by omega⟩, e1, e2, e3, e4, e5, pk_us, sa_ua e7, fun k hk => ?_, e9, fun e => ?_⟩, fun i' hi' hne => ⟨rfl, rfl, rfl, rfl, rfl, rfl, rfl, fun _ _ => rfl, fun _ _ => rfl, fun _ _ => rfl, fun _ _ => rfl, rfl, fun k hk => pk_un (show 6 * i' + k ≠ 6 * i + gc by omega), fun k hk => pk_un (show 6 * i' + k ≠ 6 * i + gc by omega), pk_un hne⟩⟩
  · show upd ygs (6 * i + gc) s (6 * i + k) = (if tk k = 0 then upd gk gc s k else -1)
    by_cases ek : k = gc
    · subst ek
      rw [pk_us, pk_us, if_pos tk0']
    · rw [pk_un (by omega), pk_un ek]
      exact e8 k (by omega)
  · obtain ⟨q1, q2, q3, q4, q5⟩ := e10 e
    exact ⟨q1, q2, q3, q4, q5⟩
theorem i_vc_signal {k : Nat} {u : SX} {v : SY} (I : i_Rel k u v) (hk : k + 5 ≤ 2560) (v1 : Int32) (v2 : Int32) (v3 : Int32) : wpX_signal (fun r u' => wpY_signal (fun r' v' => r' = r ∧ i_Rel (k + 5) u' v') v v1 v2 v3) u v1 v2 v3 := by
  have IR := i_up I
  rcases sa_fl3 v1 with ⟨h1, h2⟩ | ⟨i, hi, rfl, h0, h3, h2⟩
  · clear I
    revert IR
    generalize i_Rel (k + 5) = G
    intro IR
    obtain ⟨xns, xnow, xjc, xtc, xhe, xkd, xp1, xp2, xp3, xac, xja, xji, xjn, xjs, xjt, xtj, xtt, xss, xsv, xak, xaj, xgc, xgk, xgn, xhs, xhg, xhn, xou, xah, xst, xpl, xft, xev, xdn, xus, xis, xvr, xhd, xtk, xpd, xpa, xpi, xun, xwj⟩ := u
    obtain ⟨yns, ynow, yjc, ytc, yac, ysp, yja, yji, yjn, yhw, ywn, ytj, ytt, yst, ypl, ydn, yak, ywt, yun, yrs, yvr, yhd, ypa, ypi, ypd, ygs, ygn, ygc⟩ := v
    unfold wpX_signal wpY_signal
    dsimp only
    exact sa_bf1 h1 (br_f (by decide) (sa_in0 h2 (br_t rfl ⟨rfl, IR⟩)))
  have hv : vp_in (nI i) 3 := vp_in_nI hi (by decide)
  have hc : (nI i).toNatClampNeg = i := nI_clamp (by omega)
  by_cases c : ¬ v2 < 0 ∧ v2 ≤ 1
  case neg =>
    have c' : v2 < 0 ∨ ¬ v2 ≤ 1 := by
      by_cases z : v2 < 0
      · exact Or.inl z
      · exact Or.inr (fun z' => c ⟨z, z'⟩)
    clear I
    revert IR
    generalize i_Rel (k + 5) = G
    intro IR
    obtain ⟨xns, xnow, xjc, xtc, xhe, xkd, xp1, xp2, xp3, xac, xja, xji, xjn, xjs, xjt, xtj, xtt, xss, xsv, xak, xaj, xgc, xgk, xgn, xhs, xhg, xhn, xou, xah, xst, xpl, xft, xev, xdn, xus, xis, xvr, xhd, xtk, xpd, xpa, xpi, xun, xwj⟩ := u
    obtain ⟨yns, ynow, yjc, ytc, yac, ysp, yja, yji, yjn, yhw, ywn, ytj, ytt, yst, ypl, ydn, yak, ywt, yun, yrs, yvr, yhd, ypa, ypi, ypd, ygs, ygn, ygc⟩ := v
    unfold wpX_signal wpY_signal
    dsimp only
    refine sa_bf0 h0 h3 (br_t rfl (sa_out (fun a b => absurd ⟨a, b⟩ c) (fun _ => br_f (by decide) (sa_in1 h0 h2 (br_f (by decide) (sa_isIn (fun _ => br_t rfl ⟨rfl, IR⟩) (fun a b => ?_)))))))
    exact absurd ⟨a, Int32.not_lt.mp b⟩ c
  obtain ⟨ca, cb⟩ := c
  have cb' : ¬ (1 : Int32) < v2 := Int32.not_lt.mpr cb
  have hs : v2 = 0 ∨ v2 = 1 := by
    obtain ⟨j, hj, rfl⟩ := nI_of2 (M := 1) (n := 1) (by decide) ca cb
    have : j = 0 ∨ j = 1 := by omega
    rcases this with rfl | rfl
    · exact Or.inl rfl
    · exact Or.inr rfl
  obtain ⟨t, P, J, A, ht, M⟩ := I
  have W := M.1.2.2.1
  have W2 := M.1.2.2.2.1
  rcases M.1.2.2.2.2.2.1 i hi with ⟨off, A0⟩ | ⟨on, L, h, n, f1, f2, f3, f4, f5, f6, f7, f8, f9⟩
  · have g1 := (sa_goff hi off).1
    clear M W W2
    revert IR
    generalize i_Rel (k + 5) = G
    intro IR
    obtain ⟨xns, xnow, xjc, xtc, xhe, xkd, xp1, xp2, xp3, xac, xja, xji, xjn, xjs, xjt, xtj, xtt, xss, xsv, xak, xaj, xgc, xgk, xgn, xhs, xhg, xhn, xou, xah, xst, xpl, xft, xev, xdn, xus, xis, xvr, xhd, xtk, xpd, xpa, xpi, xun, xwj⟩ := u
    obtain ⟨yns, ynow, yjc, ytc, yac, ysp, yja, yji, yjn, yhw, ywn, ytj, ytt, yst, ypl, ydn, yak, ywt, yun, yrs, yvr, yhd, ypa, ypi, ypd, ygs, ygn, ygc⟩ := v
    unfold wpX_signal wpY_signal
    dsimp only
    refine sa_bf0 h0 h3 (br_t rfl (sa_out (fun _ _ => br_t rfl (g1 _ (And.intro hv (br_t (by rw [hc]; exact off.1) ?_)))) (fun z => absurd z (fun z => z.elim ca (fun z => z cb)))))
    refine sa_in1 h0 h2 (br_f (by decide) (sa_isIn (fun z => absurd z (fun z => z.elim ca cb')) (fun _ _ => br_f (by decide) (And.intro hv (br_f ?_ ⟨rfl, IR⟩)))))
    rw [hc, off.2.1]
    decide
  · -- at hand
    obtain ⟨u1, a1, a2, a3, a4, a5⟩ := sa_hand hi W f1 on f2 (sa_IW f4) f6
    have Fo1 := sa_FoG a4
    have on1 := sa_onG a4 on
    have g1 : ∀ post : SX → Prop, post u1 → wpX_goOn post u (nI i) := by
      intro post hp
      refine a5 post ?_
      by_cases es : sa_st h = 1
      · obtain ⟨hw, R⟩ := f9 trivial es
        obtain ⟨i1, _⟩ := sa_Ia f4
        rcases R with ⟨Jw, j, h1, h2, h3⟩ | ⟨Tw, T, hT, hT2, eo⟩
        · exact sa_XR hi i1 es hw h2 h3 Jw a1 a2 a3 post hp
        · exact sa_XRt hi i1 es hw (by rw [eo]; exact sa_ne_m1 (by omega)) (by rw [eo]; exact nI_lt hT (by omega)) Tw a1 a2 a3 post hp
      · exact ⟨fun _ => hp, fun z => absurd z es, fun z => absurd z es⟩
    have M1 : sa_Rel t P J A u1 v := by
      obtain ⟨⟨V, VJ, W, W2, R, F, hA, hc⟩, S, B⟩ := M
      refine ⟨⟨V, VJ, a1, W2, R, fun j hj => ?_, hA, hc⟩, S, B⟩
      by_cases e : j = i
      · subst e
        exact Or.inr ⟨on1, L, h, n, a2, fun _ => a3, f3, f4, f5, f6, f7, f8, f9⟩
      · exact sa_FwK (Fo1 j hj e).1 (Fo1 j hj e).2 (sa_AllYr j hj) (Nat.le_refl _) (fun _ => sa_Jmr) (F j hj)
    have IR1 : i_Rel (k + 5) u1 v := ⟨t, P, J, A, by omega, M1⟩
    have np : ¬ sa_pend h := fun z => f8 z.1 z.2.2
    by_cases es : sa_st h = 1
    case neg =>
      clear M M1 W W2 a1 a2 a4 a5 Fo1 f1 f2 f4 f5 f6 f7 f8 f9 np on IR
      revert IR1
      generalize i_Rel (k + 5) = G
      intro IR1
      obtain ⟨ns, kd, p1, p2, p3, ac⟩ := P
      obtain ⟨sv, ak, aj, gc, gk, gn, hs, hg, hn, ou⟩ := L
      obtain ⟨st, pl, ev, dn, us, is, vr, hd, tk, pn, pa, pi, un, wj⟩ := h
      obtain ⟨xns, xnow, xjc, xtc, xhe, xkd, xp1, xp2, xp3, xac, xja, xji, xjn, xjs, xjt, xtj, xtt, xss, xsv, xak, xaj, xgc, xgk, xgn, xhs, xhg, xhn, xou, xah, xst, xpl, xft, xev, xdn, xus, xis, xvr, xhd, xtk, xpd, xpa, xpi, xun, xwj⟩ := u
      obtain ⟨xns', xnow', xjc', xtc', xhe', xkd', xp1', xp2', xp3', xac', xja', xji', xjn', xjs', xjt', xtj', xtt', xss', xsv', xak', xaj', xgc', xgk', xgn', xhs', xhg', xhn', xou', xah', xst', xpl', xft', xev', xdn', xus', xis', xvr', xhd', xtk', xpd', xpa', xpi', xun', xwj'⟩ := u1
      obtain ⟨yns, ynow, yjc, ytc, yac, ysp, yja, yji, yjn, yhw, ywn, ytj, ytt, yst, ypl, ydn, yak, ywt, yun, yrs, yvr, yhd, ypa, ypi, ypd, ygs, ygn, ygc⟩ := v
      obtain ⟨_, c1, _⟩ := a3
      obtain ⟨_, e1, _⟩ := f3
      unfold wpX_signal wpY_signal
      dsimp only
      refine sa_bf0 h0 h3 (br_t rfl (sa_out (fun _ _ => br_t rfl (g1 _ ?_)) (fun z => absurd z (fun z => z.elim ca (fun z => z cb)))))
      dsimp only
      refine And.intro hv (br_f (by rw [hc]; exact on1) (And.intro hv (br_f (by rw [hc, c1]; exact es) ?_)))
      exact sa_in1 h0 h2 (br_f (by decide) (sa_isIn (fun z => absurd z (fun z => z.elim ca cb')) (fun _ _ => br_f (by decide) (And.intro hv (br_f (by rw [hc, e1]; exact es) ⟨rfl, IR1⟩)))))
    by_cases eg : sa_gc L = 6
    · clear M M1 W W2 a1 a4 a5 Fo1 f1 f2 f4 f5 f6 f7 f8 f9 np on IR
      revert IR1
      generalize i_Rel (k + 5) = G
      intro IR1
      obtain ⟨ns, kd, p1, p2, p3, ac⟩ := P
      obtain ⟨sv, ak, aj, gc, gk, gn, hs, hg, hn, ou⟩ := L
      obtain ⟨st, pl, ev, dn, us, is, vr, hd, tk, pn, pa, pi, un, wj⟩ := h
      obtain ⟨xns, xnow, xjc, xtc, xhe, xkd, xp1, xp2, xp3, xac, xja, xji, xjn, xjs, xjt, xtj, xtt, xss, xsv, xak, xaj, xgc, xgk, xgn, xhs, xhg, xhn, xou, xah, xst, xpl, xft, xev, xdn, xus, xis, xvr, xhd, xtk, xpd, xpa, xpi, xun, xwj⟩ := u
      obtain ⟨xns', xnow', xjc', xtc', xhe', xkd', xp1', xp2', xp3', xac', xja', xji', xjn', xjs', xjt', xtj', xtt', xss', xsv', xak', xaj', xgc', xgk', xgn', xhs', xhg', xhn', xou', xah', xst', xpl', xft', xev', xdn', xus', xis', xvr', xhd', xtk', xpd', xpa', xpi', xun', xwj'⟩ := u1
      obtain ⟨yns, ynow, yjc, ytc, yac, ysp, yja, yji, yjn, yhw, ywn, ytj, ytt, yst, ypl, ydn, yak, ywt, yun, yrs, yvr, yhd, ypa, ypi, ypd, ygs, ygn, ygc⟩ := v
      have eg' : gc = 6 := eg
      subst eg'
      obtain ⟨_, d1, d2, d3, d4, _⟩ := a2
      obtain ⟨_, c1, _⟩ := a3
      obtain ⟨_, e1, e2, e3, e4, e5, e6, _⟩ := f3
      unfold wpX_signal wpY_signal
      dsimp only
      refine sa_bf0 h0 h3 (br_t rfl (sa_out (fun _ _ => br_t rfl (g1 _ ?_)) (fun z => absurd z (fun z => z.elim ca (fun z => z cb)))))
      dsimp only
      refine And.intro hv (br_f (by rw [hc]; exact on1) (And.intro hv (br_t (by rw [hc, c1]; exact es) (And.intro hv (br_t (by rw [hc]; exact d4) ?_)))))
      exact sa_in1 h0 h2 (br_f (by decide) (sa_isIn (fun z => absurd z (fun z => z.elim ca cb')) (fun _ _ => br_f (by decide) (And.intro hv (br_t (by rw [hc, e1]; exact es) (And.intro hv (br_t (by rw [hc]; exact e6) ⟨rfl, IR1⟩)))))))
    · have g6 : sa_gc L < 6 := by
        clear M M1 W W2 a1 a2 a3 a4 a5 Fo1 g1 IR1
        obtain ⟨ns, kd, p1, p2, p3, ac⟩ := P
        obtain ⟨jc, ja, ji, jn, js, jt, tc, tj, tt⟩ := J
        obtain ⟨sv, ak, aj, gc, gk, gn, hs, hg, hn, ou⟩ := L
        obtain ⟨st, pl, ev, dn, us, is, vr, hd, tk, pn, pa, pi, un, wj⟩ := h
        obtain ⟨⟨n1, n2, n3, n4, n5, n6, n7, n8⟩, _⟩ := f4
        have eg' : ¬ gc = 6 := eg
        show gc < 6
        omega
      obtain ⟨IG, tk0⟩ := sa_IG (x := v3) hs g6 f4
      have ah1 : sa_ah i u1 := by
        obtain ⟨a4, _⟩ := a4
        clear M M1 W W2 a1 a2 a3 a5 Fo1 g1 IR1
        obtain ⟨xns, xnow, xjc, xtc, xhe, xkd, xp1, xp2, xp3, xac, xja, xji, xjn, xjs, xjt, xtj, xtt, xss, xsv, xak, xaj, xgc, xgk, xgn, xhs, xhg, xhn, xou, xah, xst, xpl, xft, xev, xdn, xus, xis, xvr, xhd, xtk, xpd, xpa, xpi, xun, xwj⟩ := u
        obtain ⟨xns', xnow', xjc', xtc', xhe', xkd', xp1', xp2', xp3', xac', xja', xji', xjn', xjs', xjt', xtj', xtt', xss', xsv', xak', xaj', xgc', xgk', xgn', xhs', xhg', xhn', xou', xah', xst', xpl', xft', xev', xdn', xus', xis', xvr', xhd', xtk', xpd', xpa', xpi', xun', xwj'⟩ := u1
        exact a4.2.2
      obtain ⟨X1, X2, X3, X4, X5⟩ := sa_sgXl (s := v2) (x := v3) hi g6 a1 a2 a3 on1
      obtain ⟨Y1, Y2, Y3⟩ := sa_sgYl (s := v2) (x := v3) hi g6 W2 f3 tk0
      have Fo2 : sa_Fo i u1 (sa_sgX u1 i (sa_gc L) v2 v3) := X5
      obtain ⟨J', A', u2, w2, u3, w3, d1, d2, d3, d4, d5, d6⟩ := sa_fin2 (n := n) (L := sa_Lg L v2 v3) (h := h) hi M1 (f7.trans sa_akG.symm) X1 Y1 X4 X2 (fun _ => X3) Y2 IG (sa_OkG f5) (by rw [sa_svG]; exact sa_ReE sa_ExG n _ h f6) np Fo2 Y3
      have IR3 : i_Rel (k + 5) u3 w3 := ⟨t, P, J', A', by omega, d1⟩
      clear d1 M M1 IR IR1 W W2 a1 a4 a5 Fo1 Fo2 f1 f2 f4 f5 f6 f7 f8 f9 np on IG X1 X2 X3 X4 X5 Y1 Y2 Y3 ah1 tk0
      revert IR3
      generalize i_Rel (k + 5) = G
      intro IR3
      obtain ⟨ns, kd, p1, p2, p3, ac⟩ := P
      obtain ⟨sv, ak, aj, gc, gk, gn, hs, hg, hn, ou⟩ := L
      obtain ⟨st, pl, ev, dn, us, is, vr, hd, tk, pn, pa, pi, un, wj⟩ := h
      obtain ⟨xns, xnow, xjc, xtc, xhe, xkd, xp1, xp2, xp3, xac, xja, xji, xjn, xjs, xjt, xtj, xtt, xss, xsv, xak, xaj, xgc, xgk, xgn, xhs, xhg, xhn, xou, xah, xst, xpl, xft, xev, xdn, xus, xis, xvr, xhd, xtk, xpd, xpa, xpi, xun, xwj⟩ := u
      obtain ⟨xns', xnow', xjc', xtc', xhe', xkd', xp1', xp2', xp3', xac', xja', xji', xjn', xjs', xjt', xtj', xtt', xss', xsv', xak', xaj', xgc', xgk', xgn', xhs', xhg', xhn', xou', xah', xst', xpl', xft', xev', xdn', xus', xis', xvr', xhd', xtk', xpd', xpa', xpi', xun', xwj'⟩ := u1
      obtain ⟨yns, ynow, yjc, ytc, yac, ysp, yja, yji, yjn, yhw, ywn, ytj, ytt, yst, ypl, ydn, yak, ywt, yun, yrs, yvr, yhd, ypa, ypi, ypd, ygs, ygn, ygc⟩ := v
      have g6' : gc < 6 := g6
      obtain ⟨_, q1, q2, q3, q4, _⟩ := a2
      obtain ⟨_, c1, _⟩ := a3
      obtain ⟨_, e1, e2, e3, e4, e5, e6, _⟩ := f3
      have hn6 : ¬ nI gc = 6 := by
        rw [sa_e6 (by omega)]
        omega
      have hv18 : vp_in (nI (6 * i + gc)) 18 := vp_in_nI (by omega) (by decide)
      have hc18 : (nI (6 * i + gc)).toNatClampNeg = 6 * i + gc := nI_clamp (by omega)
      unfold wpX_signal
      dsimp only
      refine sa_bf0 h0 h3 (br_t rfl (sa_out (fun _ _ => br_t rfl (g1 _ ?_)) (fun z => absurd z (fun z => z.elim ca (fun z => z cb)))))
      dsimp only
      refine And.intro hv (br_f (by rw [hc]; exact on1) (And.intro hv (br_t (by rw [hc, c1]; exact es) (And.intro hv (br_f (by rw [hc, q4]; exact hn6) (And.intro hv ?_))))))
      rw [hc, q4, sa_m6, nI_add, nI_1]
      refine nm_e (And.intro hv18 ?_)
      rw [hc18]
      refine nm_e (And.intro hv18 (nm_e (And.intro hv (And.intro hv (nm_e (d3 _ ?_))))))
      obtain ⟨xns, xnow, xjc, xtc, xhe, xkd, xp1, xp2, xp3, xac, xja, xji, xjn, xjs, xjt, xtj, xtt, xss, xsv, xak, xaj, xgc, xgk, xgn, xhs, xhg, xhn, xou, xah, xst, xpl, xft, xev, xdn, xus, xis, xvr, xhd, xtk, xpd, xpa, xpi, xun, xwj⟩ := u2
      refine d5 _ ?_
      obtain ⟨xns, xnow, xjc, xtc, xhe, xkd, xp1, xp2, xp3, xac, xja, xji, xjn, xjs, xjt, xtj, xtt, xss, xsv, xak, xaj, xgc, xgk, xgn, xhs, xhg, xhn, xou, xah, xst, xpl, xft, xev, xdn, xus, xis, xvr, xhd, xtk, xpd, xpa, xpi, xun, xwj⟩ := u3
      dsimp only
      refine And.intro hv ?_
      unfold wpY_signal
      dsimp only
      refine sa_in1 h0 h2 (br_f (by decide) (sa_isIn (fun z => absurd z (fun z => z.elim ca cb')) (fun _ _ => br_f (by decide) (And.intro hv ?_))))
      rw [hc, e6, sa_m6, nI_add, nI_1, hc18]
      refine br_t (e1.trans es) (And.intro hv (br_f hn6 (And.intro hv (And.intro hv18 (nm_e (And.intro hv (And.intro hv18 (nm_e (And.intro hv (And.intro hv (nm_e (d4 _ ?_))))))))))))
      obtain ⟨yns, ynow, yjc, ytc, yac, ysp, yja, yji, yjn, yhw, ywn, ytj, ytt, yst, ypl, ydn, yak, ywt, yun, yrs, yvr, yhd, ypa, ypi, ypd, ygs, ygn, ygc⟩ := w2
      refine d6 _ ?_
      obtain ⟨yns, ynow, yjc, ytc, yac, ysp, yja, yji, yjn, yhw, ywn, ytj, ytt, yst, ypl, ydn, yak, ywt, yun, yrs, yvr, yhd, ypa, ypi, ypd, ygs, ygn, ygc⟩ := w3
      dsimp only
      refine And.intro hv ?_
      try rw [hc]
      exact ⟨d2, IR3⟩
end
section
/-! step -/
def sa_o (x a b : Int32) : Int32 := if ¬ x < a ∧ x ≤ b then 0 else 1
def sa_n (x a b : Int32) : Int32 := if ¬ x < a ∧ x ≤ b then 1 else 0
theorem sa_rng (x a b : Int32) : (sa_o x a b = 0 ∧ sa_n x a b = 1 ∧ ¬ x < a ∧ x ≤ b) ∨ (sa_o x a b = 1 ∧ sa_n x a b = 0) := by
  by_cases c : ¬ x < a ∧ x ≤ b
  · exact Or.inl ⟨if_pos c, if_pos c, c⟩
  · exact Or.inr ⟨if_neg c, if_neg c⟩
section
variable {xns xnow xjc xtc xhe : Int32} {xkd xp1 xp2 xp3 xac xja xji xjn xjs xjt xtj xtt xss xsv xak xaj xgc xgk xgn xhs xhg xhn xou xah xst xpl xft xev xdn xus xis xvr xhd xtk xpd xpa xpi xun xwj : Nat → Int32} {post : Int32 → Prop} {x a b : Int32}
theorem sa_outI : wpX_out post (xns, xnow, xjc, xtc, xhe, xkd, xp1, xp2, xp3, xac, xja, xji, xjn, xjs, xjt, xtj, xtt, xss, xsv, xak, xaj, xgc, xgk, xgn, xhs, xhg, xhn, xou, xah, xst, xpl, xft, xev, xdn, xus, xis, xvr, xhd, xtk, xpd, xpa, xpi, xun, xwj) x a b = post (sa_o x a b) := by
  apply propext
  by_cases c1 : x < a
  · rw [show sa_o x a b = 1 from if_neg (fun z => z.1 c1)]
    exact ⟨fun h => h.1 c1, fun h => br_t c1 h⟩
  · by_cases c2 : x ≤ b
    · rw [show sa_o x a b = 0 from if_pos ⟨c1, c2⟩]
      exact ⟨fun h => (h.2 c1).1 c2, fun h => br_f c1 (br_t c2 h)⟩
    · rw [show sa_o x a b = 1 from if_neg (fun z => c2 z.2)]
      exact ⟨fun h => (h.2 c1).2 c2, fun h => br_f c1 (br_f c2 h)⟩
end
section
variable {yns ynow yjc ytc : Int32} {yac ysp yja yji yjn yhw ywn ytj ytt yst ypl ydn yak ywt yun yrs yvr yhd ypa ypi ypd ygs ygn ygc : Nat → Int32} {post : Int32 → Prop} {x a b : Int32}
theorem sa_inI : wpY_isIn post (yns, ynow, yjc, ytc, yac, ysp, yja, yji, yjn, yhw, ywn, ytj, ytt, yst, ypl, ydn, yak, ywt, yun, yrs, yvr, yhd, ypa, ypi, ypd, ygs, ygn, ygc) x a b = post (sa_n x a b) := by
  apply propext
  by_cases c1 : x < a
  · rw [show sa_n x a b = 0 from if_neg (fun z => z.1 c1)]
    exact ⟨fun h => h.1 c1, fun h => br_t c1 h⟩
  · by_cases c2 : x ≤ b
    · rw [show sa_n x a b = 1 from if_pos ⟨c1, c2⟩]
      exact ⟨fun h => (h.2 c1).2 (Int32.not_lt.mpr c2), fun h => br_f c1 (br_f (Int32.not_lt.mpr c2) h)⟩
    · rw [show sa_n x a b = 0 from if_neg (fun z => c2 z.2)]
      exact ⟨fun h => (h.2 c1).1 (Int32.not_le.mp c2), fun h => br_f c1 (br_t (Int32.not_le.mp c2) h)⟩
end
def sa_sv2 (k p q r : Int32) (u : SX) (v : SY) : Prop := (sa_VS k p q r ∧ (∀ post : Int32 → Prop, post 0 → wpX_badStep post u k p q r) ∧ (∀ post : Int32 → Prop, post 1 → wpY_fits post v k p q r)) ∨ ((∀ post : Int32 → Prop, post 1 → wpX_badStep post u k p q r) ∧ (∀ post : Int32 → Prop, post 0 → wpY_fits post v k p q r))
section
variable {xns xnow xjc xtc xhe : Int32} {xkd xp1 xp2 xp3 xac xja xji xjn xjs xjt xtj xtt xss xsv xak xaj xgc xgk xgn xhs xhg xhn xou xah xst xpl xft xev xdn xus xis xvr xhd xtk xpd xpa xpi xun xwj : Nat → Int32} {yns ynow yjc ytc : Int32} {yac ysp yja yji yjn yhw ywn ytj ytt yst ypl ydn yak ywt yun yrs yvr yhd ypa ypi ypd ygs ygn ygc : Nat → Int32} {p q r : Int32}
theorem sa_sv_0 : sa_sv2 0 p q r (xns, xnow, xjc, xtc, xhe, xkd, xp1, xp2, xp3, xac, xja, xji, xjn, xjs, xjt, xtj, xtt, xss, xsv, xak, xaj, xgc, xgk, xgn, xhs, xhg, xhn, xou, xah, xst, xpl, xft, xev, xdn, xus, xis, xvr, xhd, xtk, xpd, xpa, xpi, xun, xwj) (yns, ynow, yjc, ytc, yac, ysp, yja, yji, yjn, yhw, ywn, ytj, ytt, yst, ypl, ydn, yak, ywt, yun, yrs, yvr, yhd, ypa, ypi, ypd, ygs, ygn, ygc) := by
  have kn : ¬ (0 : Int32) < 0 := by decide
  rcases sa_rng p 0 3 with ⟨o0, n0, i0⟩ | ⟨o0, n0⟩
  · rcases sa_rng q (-99) 99 with ⟨o1, n1, i1⟩ | ⟨o1, n1⟩
    · obtain ⟨c0, l0, f0⟩ := sa_r0 (n := 3) (by decide) i0.1 i0.2
      refine Or.inl ⟨Or.inl ⟨rfl, c0, by omega, f0⟩, fun post K => ?_, fun post K => ?_⟩
      · simp only [wpX_badStep, wX_badStep_61, sa_outI, o0, o1, sa_k0, sa_k1, true_and, and_true, true_implies, not_true_eq_false, not_false_eq_true, false_implies, eq_self, sa_n0, sa_n1]
        exact K
      · simp only [wpY_fits, wY_fits_91, sa_inI, kn, n0, n1, sa_k0, sa_kl0, sa_k1, true_and, and_true, true_implies, not_true_eq_false, not_false_eq_true, false_implies, eq_self, sa_n0, sa_n1]
        exact K
    · refine Or.inr ⟨fun post K => ?_, fun post K => ?_⟩
      · simp only [wpX_badStep, wX_badStep_61, sa_outI, o0, o1, sa_k0, sa_k1, true_and, and_true, true_implies, not_true_eq_false, not_false_eq_true, false_implies, eq_self, sa_n0, sa_n1]
        exact K
      · simp only [wpY_fits, wY_fits_91, sa_inI, kn, n0, n1, sa_k0, sa_kl0, sa_k1, true_and, and_true, true_implies, not_true_eq_false, not_false_eq_true, false_implies, eq_self, sa_n0, sa_n1]
        exact K
  · rcases sa_rng q (-99) 99 with ⟨o1, n1, i1⟩ | ⟨o1, n1⟩
    · refine Or.inr ⟨fun post K => ?_, fun post K => ?_⟩
      · simp only [wpX_badStep, wX_badStep_61, sa_outI, o0, o1, sa_k0, sa_k1, true_and, and_true, true_implies, not_true_eq_false, not_false_eq_true, false_implies, eq_self, sa_n0, sa_n1]
        exact K
      · simp only [wpY_fits, wY_fits_91, sa_inI, kn, n0, n1, sa_k0, sa_kl0, sa_k1, true_and, and_true, true_implies, not_true_eq_false, not_false_eq_true, false_implies, eq_self, sa_n0, sa_n1]
        exact K
    · refine Or.inr ⟨fun post K => ?_, fun post K => ?_⟩
      · simp only [wpX_badStep, wX_badStep_61, sa_outI, o0, o1, sa_k0, sa_k1, true_and, and_true, true_implies, not_true_eq_false, not_false_eq_true, false_implies, eq_self, sa_n0, sa_n1]
        exact K
      · simp only [wpY_fits, wY_fits_91, sa_inI, kn, n0, n1, sa_k0, sa_kl0, sa_k1, true_and, and_true, true_implies, not_true_eq_false, not_false_eq_true, false_implies, eq_self, sa_n0, sa_n1]
        exact K
theorem sa_sv_1 : sa_sv2 1 p q r (xns, xnow, xjc, xtc, xhe, xkd, xp1, xp2, xp3, xac, xja, xji, xjn, xjs, xjt, xtj, xtt, xss, xsv, xak, xaj, xgc, xgk, xgn, xhs, xhg, xhn, xou, xah, xst, xpl, xft, xev, xdn, xus, xis, xvr, xhd, xtk, xpd, xpa, xpi, xun, xwj) (yns, ynow, yjc, ytc, yac, ysp, yja, yji, yjn, yhw, ywn, ytj, ytt, yst, ypl, ydn, yak, ywt, yun, yrs, yvr, yhd, ypa, ypi, ypd, ygs, ygn, ygc) := by
  have kn : ¬ (1 : Int32) < 0 := by decide
  rcases sa_rng p 0 3 with ⟨o0, n0, i0⟩ | ⟨o0, n0⟩
  · rcases sa_rng q 0 3 with ⟨o1, n1, i1⟩ | ⟨o1, n1⟩
    · obtain ⟨c0, l0, f0⟩ := sa_r0 (n := 3) (by decide) i0.1 i0.2
      obtain ⟨c1, l1, f1⟩ := sa_r0 (n := 3) (by decide) i1.1 i1.2
      refine Or.inl ⟨Or.inr (Or.inl ⟨Or.inl rfl, c0, c1, by omega, by omega, f0, f1⟩), fun post K => ?_, fun post K => ?_⟩
      · simp only [wpX_badStep, wX_badStep_61, sa_outI, o0, o1, sa_k1, sa_k1, true_and, and_true, true_implies, not_true_eq_false, not_false_eq_true, false_implies, eq_self, sa_n0, sa_n1]
        exact K
      · simp only [wpY_fits, wY_fits_91, sa_inI, kn, n0, n1, sa_k1, sa_kl1, sa_k1, true_and, and_true, true_implies, not_true_eq_false, not_false_eq_true, false_implies, eq_self, sa_n0, sa_n1]
        exact K
    · refine Or.inr ⟨fun post K => ?_, fun post K => ?_⟩
      · simp only [wpX_badStep, wX_badStep_61, sa_outI, o0, o1, sa_k1, sa_k1, true_and, and_true, true_implies, not_true_eq_false, not_false_eq_true, false_implies, eq_self, sa_n0, sa_n1]
        exact K
      · simp only [wpY_fits, wY_fits_91, sa_inI, kn, n0, n1, sa_k1, sa_kl1, sa_k1, true_and, and_true, true_implies, not_true_eq_false, not_false_eq_true, false_implies, eq_self, sa_n0, sa_n1]
        exact K
  · rcases sa_rng q 0 3 with ⟨o1, n1, i1⟩ | ⟨o1, n1⟩
    · refine Or.inr ⟨fun post K => ?_, fun post K => ?_⟩
      · simp only [wpX_badStep, wX_badStep_61, sa_outI, o0, o1, sa_k1, sa_k1, true_and, and_true, true_implies, not_true_eq_false, not_false_eq_true, false_implies, eq_self, sa_n0, sa_n1]
        exact K
      · simp only [wpY_fits, wY_fits_91, sa_inI, kn, n0, n1, sa_k1, sa_kl1, sa_k1, true_and, and_true, true_implies, not_true_eq_false, not_false_eq_true, false_implies, eq_self, sa_n0, sa_n1]
        exact K
    · refine Or.inr ⟨fun post K => ?_, fun post K => ?_⟩
      · simp only [wpX_badStep, wX_badStep_61, sa_outI, o0, o1, sa_k1, sa_k1, true_and, and_true, true_implies, not_true_eq_false, not_false_eq_true, false_implies, eq_self, sa_n0, sa_n1]
        exact K
      · simp only [wpY_fits, wY_fits_91, sa_inI, kn, n0, n1, sa_k1, sa_kl1, sa_k1, true_and, and_true, true_implies, not_true_eq_false, not_false_eq_true, false_implies, eq_self, sa_n0, sa_n1]
        exact K
theorem sa_sv_2 : sa_sv2 2 p q r (xns, xnow, xjc, xtc, xhe, xkd, xp1, xp2, xp3, xac, xja, xji, xjn, xjs, xjt, xtj, xtt, xss, xsv, xak, xaj, xgc, xgk, xgn, xhs, xhg, xhn, xou, xah, xst, xpl, xft, xev, xdn, xus, xis, xvr, xhd, xtk, xpd, xpa, xpi, xun, xwj) (yns, ynow, yjc, ytc, yac, ysp, yja, yji, yjn, yhw, ywn, ytj, ytt, yst, ypl, ydn, yak, ywt, yun, yrs, yvr, yhd, ypa, ypi, ypd, ygs, ygn, ygc) := by
  have kn : ¬ (2 : Int32) < 0 := by decide
  rcases sa_rng p 0 3 with ⟨o0, n0, i0⟩ | ⟨o0, n0⟩
  · rcases sa_rng q 0 3 with ⟨o1, n1, i1⟩ | ⟨o1, n1⟩
    · obtain ⟨c0, l0, f0⟩ := sa_r0 (n := 3) (by decide) i0.1 i0.2
      obtain ⟨c1, l1, f1⟩ := sa_r0 (n := 3) (by decide) i1.1 i1.2
      refine Or.inl ⟨Or.inr (Or.inl ⟨Or.inr (Or.inl rfl), c0, c1, by omega, by omega, f0, f1⟩), fun post K => ?_, fun post K => ?_⟩
      · simp only [wpX_badStep, wX_badStep_61, sa_outI, o0, o1, sa_k2, sa_k1, true_and, and_true, true_implies, not_true_eq_false, not_false_eq_true, false_implies, eq_self, sa_n0, sa_n1]
        exact K
      · simp only [wpY_fits, wY_fits_91, sa_inI, kn, n0, n1, sa_k2, sa_kl2, sa_k1, true_and, and_true, true_implies, not_true_eq_false, not_false_eq_true, false_implies, eq_self, sa_n0, sa_n1]
        exact K
    · refine Or.inr ⟨fun post K => ?_, fun post K => ?_⟩
      · simp only [wpX_badStep, wX_badStep_61, sa_outI, o0, o1, sa_k2, sa_k1, true_and, and_true, true_implies, not_true_eq_false, not_false_eq_true, false_implies, eq_self, sa_n0, sa_n1]
        exact K
      · simp only [wpY_fits, wY_fits_91, sa_inI, kn, n0, n1, sa_k2, sa_kl2, sa_k1, true_and, and_true, true_implies, not_true_eq_false, not_false_eq_true, false_implies, eq_self, sa_n0, sa_n1]
        exact K
  · rcases sa_rng q 0 3 with ⟨o1, n1, i1⟩ | ⟨o1, n1⟩
    · refine Or.inr ⟨fun post K => ?_, fun post K => ?_⟩
      · simp only [wpX_badStep, wX_badStep_61, sa_outI, o0, o1, sa_k2, sa_k1, true_and, and_true, true_implies, not_true_eq_false, not_false_eq_true, false_implies, eq_self, sa_n0, sa_n1]
        exact K
      · simp only [wpY_fits, wY_fits_91, sa_inI, kn, n0, n1, sa_k2, sa_kl2, sa_k1, true_and, and_true, true_implies, not_true_eq_false, not_false_eq_true, false_implies, eq_self, sa_n0, sa_n1]
        exact K
    · refine Or.inr ⟨fun post K => ?_, fun post K => ?_⟩
      · simp only [wpX_badStep, wX_badStep_61, sa_outI, o0, o1, sa_k2, sa_k1, true_and, and_true, true_implies, not_true_eq_false, not_false_eq_true, false_implies, eq_self, sa_n0, sa_n1]
        exact K
      · simp only [wpY_fits, wY_fits_91, sa_inI, kn, n0, n1, sa_k2, sa_kl2, sa_k1, true_and, and_true, true_implies, not_true_eq_false, not_false_eq_true, false_implies, eq_self, sa_n0, sa_n1]
        exact K
theorem sa_sv_3 : sa_sv2 3 p q r (xns, xnow, xjc, xtc, xhe, xkd, xp1, xp2, xp3, xac, xja, xji, xjn, xjs, xjt, xtj, xtt, xss, xsv, xak, xaj, xgc, xgk, xgn, xhs, xhg, xhn, xou, xah, xst, xpl, xft, xev, xdn, xus, xis, xvr, xhd, xtk, xpd, xpa, xpi, xun, xwj) (yns, ynow, yjc, ytc, yac, ysp, yja, yji, yjn, yhw, ywn, ytj, ytt, yst, ypl, ydn, yak, ywt, yun, yrs, yvr, yhd, ypa, ypi, ypd, ygs, ygn, ygc) := by
  have kn : ¬ (3 : Int32) < 0 := by decide
  rcases sa_rng p 0 3 with ⟨o0, n0, i0⟩ | ⟨o0, n0⟩
  · rcases sa_rng q 0 3 with ⟨o1, n1, i1⟩ | ⟨o1, n1⟩
    · rcases sa_rng r 0 3 with ⟨o2, n2, i2⟩ | ⟨o2, n2⟩
      · obtain ⟨c0, l0, f0⟩ := sa_r0 (n := 3) (by decide) i0.1 i0.2
        obtain ⟨c1, l1, f1⟩ := sa_r0 (n := 3) (by decide) i1.1 i1.2
        obtain ⟨c2, l2, f2⟩ := sa_r0 (n := 3) (by decide) i2.1 i2.2
        refine Or.inl ⟨Or.inr (Or.inr (Or.inl ⟨rfl, c0, c1, c2, by omega, by omega, by omega, f0, f1, f2⟩)), fun post K => ?_, fun post K => ?_⟩
        · simp only [wpX_badStep, wX_badStep_61, sa_outI, o0, o1, o2, sa_k3, sa_k1, true_and, and_true, true_implies, not_true_eq_false, not_false_eq_true, false_implies, eq_self, sa_n0, sa_n1]
          exact K
        · simp only [wpY_fits, wY_fits_91, sa_inI, kn, n0, n1, n2, sa_k3, sa_kl3, sa_k1, true_and, and_true, true_implies, not_true_eq_false, not_false_eq_true, false_implies, eq_self, sa_n0, sa_n1]
          exact K
      · refine Or.inr ⟨fun post K => ?_, fun post K => ?_⟩
        · simp only [wpX_badStep, wX_badStep_61, sa_outI, o0, o1, o2, sa_k3, sa_k1, true_and, and_true, true_implies, not_true_eq_false, not_false_eq_true, false_implies, eq_self, sa_n0, sa_n1]
          exact K
        · simp only [wpY_fits, wY_fits_91, sa_inI, kn, n0, n1, n2, sa_k3, sa_kl3, sa_k1, true_and, and_true, true_implies, not_true_eq_false, not_false_eq_true, false_implies, eq_self, sa_n0, sa_n1]
          exact K
    · rcases sa_rng r 0 3 with ⟨o2, n2, i2⟩ | ⟨o2, n2⟩
      · refine Or.inr ⟨fun post K => ?_, fun post K => ?_⟩
        · simp only [wpX_badStep, wX_badStep_61, sa_outI, o0, o1, o2, sa_k3, sa_k1, true_and, and_true, true_implies, not_true_eq_false, not_false_eq_true, false_implies, eq_self, sa_n0, sa_n1]
          exact K
        · simp only [wpY_fits, wY_fits_91, sa_inI, kn, n0, n1, n2, sa_k3, sa_kl3, sa_k1, true_and, and_true, true_implies, not_true_eq_false, not_false_eq_true, false_implies, eq_self, sa_n0, sa_n1]
          exact K
      · refine Or.inr ⟨fun post K => ?_, fun post K => ?_⟩
        · simp only [wpX_badStep, wX_badStep_61, sa_outI, o0, o1, o2, sa_k3, sa_k1, true_and, and_true, true_implies, not_true_eq_false, not_false_eq_true, false_implies, eq_self, sa_n0, sa_n1]
          exact K
        · simp only [wpY_fits, wY_fits_91, sa_inI, kn, n0, n1, n2, sa_k3, sa_kl3, sa_k1, true_and, and_true, true_implies, not_true_eq_false, not_false_eq_true, false_implies, eq_self, sa_n0, sa_n1]
          exact K
  · rcases sa_rng q 0 3 with ⟨o1, n1, i1⟩ | ⟨o1, n1⟩
    · rcases sa_rng r 0 3 with ⟨o2, n2, i2⟩ | ⟨o2, n2⟩
      · refine Or.inr ⟨fun post K => ?_, fun post K => ?_⟩
        · simp only [wpX_badStep, wX_badStep_61, sa_outI, o0, o1, o2, sa_k3, sa_k1, true_and, and_true, true_implies, not_true_eq_false, not_false_eq_true, false_implies, eq_self, sa_n0, sa_n1]
          exact K
        · simp only [wpY_fits, wY_fits_91, sa_inI, kn, n0, n1, n2, sa_k3, sa_kl3, sa_k1, true_and, and_true, true_implies, not_true_eq_false, not_false_eq_true, false_implies, eq_self, sa_n0, sa_n1]
          exact K
      · refine Or.inr ⟨fun post K => ?_, fun post K => ?_⟩
        · simp only [wpX_badStep, wX_badStep_61, sa_outI, o0, o1, o2, sa_k3, sa_k1, true_and, and_true, true_implies, not_true_eq_false, not_false_eq_true, false_implies, eq_self, sa_n0, sa_n1]
          exact K
        · simp only [wpY_fits, wY_fits_91, sa_inI, kn, n0, n1, n2, sa_k3, sa_kl3, sa_k1, true_and, and_true, true_implies, not_true_eq_false, not_false_eq_true, false_implies, eq_self, sa_n0, sa_n1]
          exact K
    · rcases sa_rng r 0 3 with ⟨o2, n2, i2⟩ | ⟨o2, n2⟩
      · refine Or.inr ⟨fun post K => ?_, fun post K => ?_⟩
        · simp only [wpX_badStep, wX_badStep_61, sa_outI, o0, o1, o2, sa_k3, sa_k1, true_and, and_true, true_implies, not_true_eq_false, not_false_eq_true, false_implies, eq_self, sa_n0, sa_n1]
          exact K
        · simp only [wpY_fits, wY_fits_91, sa_inI, kn, n0, n1, n2, sa_k3, sa_kl3, sa_k1, true_and, and_true, true_implies, not_true_eq_false, not_false_eq_true, false_implies, eq_self, sa_n0, sa_n1]
          exact K
      · refine Or.inr ⟨fun post K => ?_, fun post K => ?_⟩
        · simp only [wpX_badStep, wX_badStep_61, sa_outI, o0, o1, o2, sa_k3, sa_k1, true_and, and_true, true_implies, not_true_eq_false, not_false_eq_true, false_implies, eq_self, sa_n0, sa_n1]
          exact K
        · simp only [wpY_fits, wY_fits_91, sa_inI, kn, n0, n1, n2, sa_k3, sa_kl3, sa_k1, true_and, and_true, true_implies, not_true_eq_false, not_false_eq_true, false_implies, eq_self, sa_n0, sa_n1]
          exact K
theorem sa_sv_4 : sa_sv2 4 p q r (xns, xnow, xjc, xtc, xhe, xkd, xp1, xp2, xp3, xac, xja, xji, xjn, xjs, xjt, xtj, xtt, xss, xsv, xak, xaj, xgc, xgk, xgn, xhs, xhg, xhn, xou, xah, xst, xpl, xft, xev, xdn, xus, xis, xvr, xhd, xtk, xpd, xpa, xpi, xun, xwj) (yns, ynow, yjc, ytc, yac, ysp, yja, yji, yjn, yhw, ywn, ytj, ytt, yst, ypl, ydn, yak, ywt, yun, yrs, yvr, yhd, ypa, ypi, ypd, ygs, ygn, ygc) := by
  have kn : ¬ (4 : Int32) < 0 := by decide
  rcases sa_rng p 0 3 with ⟨o0, n0, i0⟩ | ⟨o0, n0⟩
  · rcases sa_rng q 0 3 with ⟨o1, n1, i1⟩ | ⟨o1, n1⟩
    · rcases sa_rng r 0 2 with ⟨o2, n2, i2⟩ | ⟨o2, n2⟩
      · obtain ⟨c0, l0, f0⟩ := sa_r0 (n := 3) (by decide) i0.1 i0.2
        obtain ⟨c1, l1, f1⟩ := sa_r0 (n := 3) (by decide) i1.1 i1.2
        obtain ⟨c2, l2, f2⟩ := sa_r0 (n := 2) (by decide) i2.1 i2.2
        refine Or.inl ⟨Or.inr (Or.inr (Or.inr (Or.inl ⟨rfl, c0, c1, c2, by omega, by omega, by omega, f0, f1, f2⟩))), fun post K => ?_, fun post K => ?_⟩
        · simp only [wpX_badStep, wX_badStep_61, sa_outI, o0, o1, o2, sa_k4, sa_k1, true_and, and_true, true_implies, not_true_eq_false, not_false_eq_true, false_implies, eq_self, sa_n0, sa_n1]
          exact K
        · simp only [wpY_fits, wY_fits_91, sa_inI, kn, n0, n1, n2, sa_k4, sa_kl4, sa_k1, true_and, and_true, true_implies, not_true_eq_false, not_false_eq_true, false_implies, eq_self, sa_n0, sa_n1]
          exact K
      · refine Or.inr ⟨fun post K => ?_, fun post K => ?_⟩
        · simp only [wpX_badStep, wX_badStep_61, sa_outI, o0, o1, o2, sa_k4, sa_k1, true_and, and_true, true_implies, not_true_eq_false, not_false_eq_true, false_implies, eq_self, sa_n0, sa_n1]
          exact K
        · simp only [wpY_fits, wY_fits_91, sa_inI, kn, n0, n1, n2, sa_k4, sa_kl4, sa_k1, true_and, and_true, true_implies, not_true_eq_false, not_false_eq_true, false_implies, eq_self, sa_n0, sa_n1]
          exact K
    · rcases sa_rng r 0 2 with ⟨o2, n2, i2⟩ | ⟨o2, n2⟩
      · refine Or.inr ⟨fun post K => ?_, fun post K => ?_⟩
        · simp only [wpX_badStep, wX_badStep_61, sa_outI, o0, o1, o2, sa_k4, sa_k1, true_and, and_true, true_implies, not_true_eq_false, not_false_eq_true, false_implies, eq_self, sa_n0, sa_n1]
          exact K
        · simp only [wpY_fits, wY_fits_91, sa_inI, kn, n0, n1, n2, sa_k4, sa_kl4, sa_k1, true_and, and_true, true_implies, not_true_eq_false, not_false_eq_true, false_implies, eq_self, sa_n0, sa_n1]
          exact K
      · refine Or.inr ⟨fun post K => ?_, fun post K => ?_⟩
        · simp only [wpX_badStep, wX_badStep_61, sa_outI, o0, o1, o2, sa_k4, sa_k1, true_and, and_true, true_implies, not_true_eq_false, not_false_eq_true, false_implies, eq_self, sa_n0, sa_n1]
          exact K
        · simp only [wpY_fits, wY_fits_91, sa_inI, kn, n0, n1, n2, sa_k4, sa_kl4, sa_k1, true_and, and_true, true_implies, not_true_eq_false, not_false_eq_true, false_implies, eq_self, sa_n0, sa_n1]
          exact K
  · rcases sa_rng q 0 3 with ⟨o1, n1, i1⟩ | ⟨o1, n1⟩
    · rcases sa_rng r 0 2 with ⟨o2, n2, i2⟩ | ⟨o2, n2⟩
      · refine Or.inr ⟨fun post K => ?_, fun post K => ?_⟩
        · simp only [wpX_badStep, wX_badStep_61, sa_outI, o0, o1, o2, sa_k4, sa_k1, true_and, and_true, true_implies, not_true_eq_false, not_false_eq_true, false_implies, eq_self, sa_n0, sa_n1]
          exact K
        · simp only [wpY_fits, wY_fits_91, sa_inI, kn, n0, n1, n2, sa_k4, sa_kl4, sa_k1, true_and, and_true, true_implies, not_true_eq_false, not_false_eq_true, false_implies, eq_self, sa_n0, sa_n1]
          exact K
      · refine Or.inr ⟨fun post K => ?_, fun post K => ?_⟩
        · simp only [wpX_badStep, wX_badStep_61, sa_outI, o0, o1, o2, sa_k4, sa_k1, true_and, and_true, true_implies, not_true_eq_false, not_false_eq_true, false_implies, eq_self, sa_n0, sa_n1]
          exact K
        · simp only [wpY_fits, wY_fits_91, sa_inI, kn, n0, n1, n2, sa_k4, sa_kl4, sa_k1, true_and, and_true, true_implies, not_true_eq_false, not_false_eq_true, false_implies, eq_self, sa_n0, sa_n1]
          exact K
    · rcases sa_rng r 0 2 with ⟨o2, n2, i2⟩ | ⟨o2, n2⟩
      · refine Or.inr ⟨fun post K => ?_, fun post K => ?_⟩
        · simp only [wpX_badStep, wX_badStep_61, sa_outI, o0, o1, o2, sa_k4, sa_k1, true_and, and_true, true_implies, not_true_eq_false, not_false_eq_true, false_implies, eq_self, sa_n0, sa_n1]
          exact K
        · simp only [wpY_fits, wY_fits_91, sa_inI, kn, n0, n1, n2, sa_k4, sa_kl4, sa_k1, true_and, and_true, true_implies, not_true_eq_false, not_false_eq_true, false_implies, eq_self, sa_n0, sa_n1]
          exact K
      · refine Or.inr ⟨fun post K => ?_, fun post K => ?_⟩
        · simp only [wpX_badStep, wX_badStep_61, sa_outI, o0, o1, o2, sa_k4, sa_k1, true_and, and_true, true_implies, not_true_eq_false, not_false_eq_true, false_implies, eq_self, sa_n0, sa_n1]
          exact K
        · simp only [wpY_fits, wY_fits_91, sa_inI, kn, n0, n1, n2, sa_k4, sa_kl4, sa_k1, true_and, and_true, true_implies, not_true_eq_false, not_false_eq_true, false_implies, eq_self, sa_n0, sa_n1]
          exact K
theorem sa_sv_5 : sa_sv2 5 p q r (xns, xnow, xjc, xtc, xhe, xkd, xp1, xp2, xp3, xac, xja, xji, xjn, xjs, xjt, xtj, xtt, xss, xsv, xak, xaj, xgc, xgk, xgn, xhs, xhg, xhn, xou, xah, xst, xpl, xft, xev, xdn, xus, xis, xvr, xhd, xtk, xpd, xpa, xpi, xun, xwj) (yns, ynow, yjc, ytc, yac, ysp, yja, yji, yjn, yhw, ywn, ytj, ytt, yst, ypl, ydn, yak, ywt, yun, yrs, yvr, yhd, ypa, ypi, ypd, ygs, ygn, ygc) := by
  have kn : ¬ (5 : Int32) < 0 := by decide
  rcases sa_rng p 0 2 with ⟨o0, n0, i0⟩ | ⟨o0, n0⟩
  · rcases sa_rng q 0 3 with ⟨o1, n1, i1⟩ | ⟨o1, n1⟩
    · obtain ⟨c0, l0, f0⟩ := sa_r0 (n := 2) (by decide) i0.1 i0.2
      obtain ⟨c1, l1, f1⟩ := sa_r0 (n := 3) (by decide) i1.1 i1.2
      refine Or.inl ⟨Or.inr (Or.inr (Or.inr (Or.inr (Or.inl ⟨rfl, c0, c1, by omega, by omega, f0, f1⟩)))), fun post K => ?_, fun post K => ?_⟩
      · simp only [wpX_badStep, wX_badStep_61, sa_outI, o0, o1, sa_k5, sa_k1, true_and, and_true, true_implies, not_true_eq_false, not_false_eq_true, false_implies, eq_self, sa_n0, sa_n1]
        exact K
      · simp only [wpY_fits, wY_fits_91, sa_inI, kn, n0, n1, sa_k5, sa_kl5, sa_k1, true_and, and_true, true_implies, not_true_eq_false, not_false_eq_true, false_implies, eq_self, sa_n0, sa_n1]
        exact K
    · refine Or.inr ⟨fun post K => ?_, fun post K => ?_⟩
      · simp only [wpX_badStep, wX_badStep_61, sa_outI, o0, o1, sa_k5, sa_k1, true_and, and_true, true_implies, not_true_eq_false, not_false_eq_true, false_implies, eq_self, sa_n0, sa_n1]
        exact K
      · simp only [wpY_fits, wY_fits_91, sa_inI, kn, n0, n1, sa_k5, sa_kl5, sa_k1, true_and, and_true, true_implies, not_true_eq_false, not_false_eq_true, false_implies, eq_self, sa_n0, sa_n1]
        exact K
  · rcases sa_rng q 0 3 with ⟨o1, n1, i1⟩ | ⟨o1, n1⟩
    · refine Or.inr ⟨fun post K => ?_, fun post K => ?_⟩
      · simp only [wpX_badStep, wX_badStep_61, sa_outI, o0, o1, sa_k5, sa_k1, true_and, and_true, true_implies, not_true_eq_false, not_false_eq_true, false_implies, eq_self, sa_n0, sa_n1]
        exact K
      · simp only [wpY_fits, wY_fits_91, sa_inI, kn, n0, n1, sa_k5, sa_kl5, sa_k1, true_and, and_true, true_implies, not_true_eq_false, not_false_eq_true, false_implies, eq_self, sa_n0, sa_n1]
        exact K
    · refine Or.inr ⟨fun post K => ?_, fun post K => ?_⟩
      · simp only [wpX_badStep, wX_badStep_61, sa_outI, o0, o1, sa_k5, sa_k1, true_and, and_true, true_implies, not_true_eq_false, not_false_eq_true, false_implies, eq_self, sa_n0, sa_n1]
        exact K
      · simp only [wpY_fits, wY_fits_91, sa_inI, kn, n0, n1, sa_k5, sa_kl5, sa_k1, true_and, and_true, true_implies, not_true_eq_false, not_false_eq_true, false_implies, eq_self, sa_n0, sa_n1]
        exact K
theorem sa_sv_6 : sa_sv2 6 p q r (xns, xnow, xjc, xtc, xhe, xkd, xp1, xp2, xp3, xac, xja, xji, xjn, xjs, xjt, xtj, xtt, xss, xsv, xak, xaj, xgc, xgk, xgn, xhs, xhg, xhn, xou, xah, xst, xpl, xft, xev, xdn, xus, xis, xvr, xhd, xtk, xpd, xpa, xpi, xun, xwj) (yns, ynow, yjc, ytc, yac, ysp, yja, yji, yjn, yhw, ywn, ytj, ytt, yst, ypl, ydn, yak, ywt, yun, yrs, yvr, yhd, ypa, ypi, ypd, ygs, ygn, ygc) := by
  have kn : ¬ (6 : Int32) < 0 := by decide
  rcases sa_rng p 0 3 with ⟨o0, n0, i0⟩ | ⟨o0, n0⟩
  · rcases sa_rng q 0 3 with ⟨o1, n1, i1⟩ | ⟨o1, n1⟩
    · obtain ⟨c0, l0, f0⟩ := sa_r0 (n := 3) (by decide) i0.1 i0.2
      obtain ⟨c1, l1, f1⟩ := sa_r0 (n := 3) (by decide) i1.1 i1.2
      refine Or.inl ⟨Or.inr (Or.inl ⟨Or.inr (Or.inr rfl), c0, c1, by omega, by omega, f0, f1⟩), fun post K => ?_, fun post K => ?_⟩
      · simp only [wpX_badStep, wX_badStep_61, sa_outI, o0, o1, sa_k6, sa_k1, true_and, and_true, true_implies, not_true_eq_false, not_false_eq_true, false_implies, eq_self, sa_n0, sa_n1]
        exact K
      · simp only [wpY_fits, wY_fits_91, sa_inI, kn, n0, n1, sa_k6, sa_kl6, sa_k1, true_and, and_true, true_implies, not_true_eq_false, not_false_eq_true, false_implies, eq_self, sa_n0, sa_n1]
        exact K
    · refine Or.inr ⟨fun post K => ?_, fun post K => ?_⟩
      · simp only [wpX_badStep, wX_badStep_61, sa_outI, o0, o1, sa_k6, sa_k1, true_and, and_true, true_implies, not_true_eq_false, not_false_eq_true, false_implies, eq_self, sa_n0, sa_n1]
        exact K
      · simp only [wpY_fits, wY_fits_91, sa_inI, kn, n0, n1, sa_k6, sa_kl6, sa_k1, true_and, and_true, true_implies, not_true_eq_false, not_false_eq_true, false_implies, eq_self, sa_n0, sa_n1]
        exact K
  · rcases sa_rng q 0 3 with ⟨o1, n1, i1⟩ | ⟨o1, n1⟩
    · refine Or.inr ⟨fun post K => ?_, fun post K => ?_⟩
      · simp only [wpX_badStep, wX_badStep_61, sa_outI, o0, o1, sa_k6, sa_k1, true_and, and_true, true_implies, not_true_eq_false, not_false_eq_true, false_implies, eq_self, sa_n0, sa_n1]
        exact K
      · simp only [wpY_fits, wY_fits_91, sa_inI, kn, n0, n1, sa_k6, sa_kl6, sa_k1, true_and, and_true, true_implies, not_true_eq_false, not_false_eq_true, false_implies, eq_self, sa_n0, sa_n1]
        exact K
    · refine Or.inr ⟨fun post K => ?_, fun post K => ?_⟩
      · simp only [wpX_badStep, wX_badStep_61, sa_outI, o0, o1, sa_k6, sa_k1, true_and, and_true, true_implies, not_true_eq_false, not_false_eq_true, false_implies, eq_self, sa_n0, sa_n1]
        exact K
      · simp only [wpY_fits, wY_fits_91, sa_inI, kn, n0, n1, sa_k6, sa_kl6, sa_k1, true_and, and_true, true_implies, not_true_eq_false, not_false_eq_true, false_implies, eq_self, sa_n0, sa_n1]
        exact K
theorem sa_sv_7 : sa_sv2 7 p q r (xns, xnow, xjc, xtc, xhe, xkd, xp1, xp2, xp3, xac, xja, xji, xjn, xjs, xjt, xtj, xtt, xss, xsv, xak, xaj, xgc, xgk, xgn, xhs, xhg, xhn, xou, xah, xst, xpl, xft, xev, xdn, xus, xis, xvr, xhd, xtk, xpd, xpa, xpi, xun, xwj) (yns, ynow, yjc, ytc, yac, ysp, yja, yji, yjn, yhw, ywn, ytj, ytt, yst, ypl, ydn, yak, ywt, yun, yrs, yvr, yhd, ypa, ypi, ypd, ygs, ygn, ygc) := by
  have kn : ¬ (7 : Int32) < 0 := by decide
  rcases sa_rng p 0 3 with ⟨o0, n0, i0⟩ | ⟨o0, n0⟩
  · obtain ⟨c0, l0, f0⟩ := sa_r0 (n := 3) (by decide) i0.1 i0.2
    refine Or.inl ⟨Or.inr (Or.inr (Or.inr (Or.inr (Or.inr (Or.inl ⟨rfl, c0, by omega, f0⟩))))), fun post K => ?_, fun post K => ?_⟩
    · simp only [wpX_badStep, wX_badStep_61, sa_outI, o0, sa_k7, sa_k1, true_and, and_true, true_implies, not_true_eq_false, not_false_eq_true, false_implies, eq_self, sa_n0, sa_n1]
      exact K
    · simp only [wpY_fits, wY_fits_91, sa_inI, kn, n0, sa_k7, sa_kl7, sa_k1, true_and, and_true, true_implies, not_true_eq_false, not_false_eq_true, false_implies, eq_self, sa_n0, sa_n1]
      exact K
  · refine Or.inr ⟨fun post K => ?_, fun post K => ?_⟩
    · simp only [wpX_badStep, wX_badStep_61, sa_outI, o0, sa_k7, sa_k1, true_and, and_true, true_implies, not_true_eq_false, not_false_eq_true, false_implies, eq_self, sa_n0, sa_n1]
      exact K
    · simp only [wpY_fits, wY_fits_91, sa_inI, kn, n0, sa_k7, sa_kl7, sa_k1, true_and, and_true, true_implies, not_true_eq_false, not_false_eq_true, false_implies, eq_self, sa_n0, sa_n1]
      exact K
theorem sa_sv_8 : sa_sv2 8 p q r (xns, xnow, xjc, xtc, xhe, xkd, xp1, xp2, xp3, xac, xja, xji, xjn, xjs, xjt, xtj, xtt, xss, xsv, xak, xaj, xgc, xgk, xgn, xhs, xhg, xhn, xou, xah, xst, xpl, xft, xev, xdn, xus, xis, xvr, xhd, xtk, xpd, xpa, xpi, xun, xwj) (yns, ynow, yjc, ytc, yac, ysp, yja, yji, yjn, yhw, ywn, ytj, ytt, yst, ypl, ydn, yak, ywt, yun, yrs, yvr, yhd, ypa, ypi, ypd, ygs, ygn, ygc) := by
  have kn : ¬ (8 : Int32) < 0 := by decide
  rcases sa_rng p 0 19 with ⟨o0, n0, i0⟩ | ⟨o0, n0⟩
  · obtain ⟨c0, l0, f0⟩ := sa_r0 (n := 19) (by decide) i0.1 i0.2
    refine Or.inl ⟨Or.inr (Or.inr (Or.inr (Or.inr (Or.inr (Or.inr (Or.inl ⟨rfl, c0, by omega, f0⟩)))))), fun post K => ?_, fun post K => ?_⟩
    · simp only [wpX_badStep, wX_badStep_61, sa_outI, o0, sa_k8, sa_k1, true_and, and_true, true_implies, not_true_eq_false, not_false_eq_true, false_implies, eq_self, sa_n0, sa_n1]
      exact K
    · simp only [wpY_fits, wY_fits_91, sa_inI, kn, n0, sa_k8, sa_kl8, sa_k1, true_and, and_true, true_implies, not_true_eq_false, not_false_eq_true, false_implies, eq_self, sa_n0, sa_n1]
      exact K
  · refine Or.inr ⟨fun post K => ?_, fun post K => ?_⟩
    · simp only [wpX_badStep, wX_badStep_61, sa_outI, o0, sa_k8, sa_k1, true_and, and_true, true_implies, not_true_eq_false, not_false_eq_true, false_implies, eq_self, sa_n0, sa_n1]
      exact K
    · simp only [wpY_fits, wY_fits_91, sa_inI, kn, n0, sa_k8, sa_kl8, sa_k1, true_and, and_true, true_implies, not_true_eq_false, not_false_eq_true, false_implies, eq_self, sa_n0, sa_n1]
      exact K
theorem sa_sv_9 : sa_sv2 9 p q r (xns, xnow, xjc, xtc, xhe, xkd, xp1, xp2, xp3, xac, xja, xji, xjn, xjs, xjt, xtj, xtt, xss, xsv, xak, xaj, xgc, xgk, xgn, xhs, xhg, xhn, xou, xah, xst, xpl, xft, xev, xdn, xus, xis, xvr, xhd, xtk, xpd, xpa, xpi, xun, xwj) (yns, ynow, yjc, ytc, yac, ysp, yja, yji, yjn, yhw, ywn, ytj, ytt, yst, ypl, ydn, yak, ywt, yun, yrs, yvr, yhd, ypa, ypi, ypd, ygs, ygn, ygc) := by
  have kn : ¬ (9 : Int32) < 0 := by decide
  rcases sa_rng p 0 3 with ⟨o0, n0, i0⟩ | ⟨o0, n0⟩
  · rcases sa_rng q 0 3 with ⟨o1, n1, i1⟩ | ⟨o1, n1⟩
    · rcases sa_rng r 0 19 with ⟨o2, n2, i2⟩ | ⟨o2, n2⟩
      · obtain ⟨c0, l0, f0⟩ := sa_r0 (n := 3) (by decide) i0.1 i0.2
        obtain ⟨c1, l1, f1⟩ := sa_r0 (n := 3) (by decide) i1.1 i1.2
        obtain ⟨c2, l2, f2⟩ := sa_r0 (n := 19) (by decide) i2.1 i2.2
        refine Or.inl ⟨Or.inr (Or.inr (Or.inr (Or.inr (Or.inr (Or.inr (Or.inr (Or.inl ⟨rfl, c0, c1, c2, by omega, by omega, by omega, f0, f1, f2⟩))))))), fun post K => ?_, fun post K => ?_⟩
        · simp only [wpX_badStep, wX_badStep_61, sa_outI, o0, o1, o2, sa_k9, sa_k1, true_and, and_true, true_implies, not_true_eq_false, not_false_eq_true, false_implies, eq_self, sa_n0, sa_n1]
          exact K
        · simp only [wpY_fits, wY_fits_91, sa_inI, kn, n0, n1, n2, sa_k9, sa_kl9, sa_k1, true_and, and_true, true_implies, not_true_eq_false, not_false_eq_true, false_implies, eq_self, sa_n0, sa_n1]
          exact K
      · refine Or.inr ⟨fun post K => ?_, fun post K => ?_⟩
        · simp only [wpX_badStep, wX_badStep_61, sa_outI, o0, o1, o2, sa_k9, sa_k1, true_and, and_true, true_implies, not_true_eq_false, not_false_eq_true, false_implies, eq_self, sa_n0, sa_n1]
          exact K
        · simp only [wpY_fits, wY_fits_91, sa_inI, kn, n0, n1, n2, sa_k9, sa_kl9, sa_k1, true_and, and_true, true_implies, not_true_eq_false, not_false_eq_true, false_implies, eq_self, sa_n0, sa_n1]
          exact K
    · rcases sa_rng r 0 19 with ⟨o2, n2, i2⟩ | ⟨o2, n2⟩
      · refine Or.inr ⟨fun post K => ?_, fun post K => ?_⟩
        · simp only [wpX_badStep, wX_badStep_61, sa_outI, o0, o1, o2, sa_k9, sa_k1, true_and, and_true, true_implies, not_true_eq_false, not_false_eq_true, false_implies, eq_self, sa_n0, sa_n1]
          exact K
        · simp only [wpY_fits, wY_fits_91, sa_inI, kn, n0, n1, n2, sa_k9, sa_kl9, sa_k1, true_and, and_true, true_implies, not_true_eq_false, not_false_eq_true, false_implies, eq_self, sa_n0, sa_n1]
          exact K
      · refine Or.inr ⟨fun post K => ?_, fun post K => ?_⟩
        · simp only [wpX_badStep, wX_badStep_61, sa_outI, o0, o1, o2, sa_k9, sa_k1, true_and, and_true, true_implies, not_true_eq_false, not_false_eq_true, false_implies, eq_self, sa_n0, sa_n1]
          exact K
        · simp only [wpY_fits, wY_fits_91, sa_inI, kn, n0, n1, n2, sa_k9, sa_kl9, sa_k1, true_and, and_true, true_implies, not_true_eq_false, not_false_eq_true, false_implies, eq_self, sa_n0, sa_n1]
          exact K
  · rcases sa_rng q 0 3 with ⟨o1, n1, i1⟩ | ⟨o1, n1⟩
    · rcases sa_rng r 0 19 with ⟨o2, n2, i2⟩ | ⟨o2, n2⟩
      · refine Or.inr ⟨fun post K => ?_, fun post K => ?_⟩
        · simp only [wpX_badStep, wX_badStep_61, sa_outI, o0, o1, o2, sa_k9, sa_k1, true_and, and_true, true_implies, not_true_eq_false, not_false_eq_true, false_implies, eq_self, sa_n0, sa_n1]
          exact K
        · simp only [wpY_fits, wY_fits_91, sa_inI, kn, n0, n1, n2, sa_k9, sa_kl9, sa_k1, true_and, and_true, true_implies, not_true_eq_false, not_false_eq_true, false_implies, eq_self, sa_n0, sa_n1]
          exact K
      · refine Or.inr ⟨fun post K => ?_, fun post K => ?_⟩
        · simp only [wpX_badStep, wX_badStep_61, sa_outI, o0, o1, o2, sa_k9, sa_k1, true_and, and_true, true_implies, not_true_eq_false, not_false_eq_true, false_implies, eq_self, sa_n0, sa_n1]
          exact K
        · simp only [wpY_fits, wY_fits_91, sa_inI, kn, n0, n1, n2, sa_k9, sa_kl9, sa_k1, true_and, and_true, true_implies, not_true_eq_false, not_false_eq_true, false_implies, eq_self, sa_n0, sa_n1]
          exact K
    · rcases sa_rng r 0 19 with ⟨o2, n2, i2⟩ | ⟨o2, n2⟩
      · refine Or.inr ⟨fun post K => ?_, fun post K => ?_⟩
        · simp only [wpX_badStep, wX_badStep_61, sa_outI, o0, o1, o2, sa_k9, sa_k1, true_and, and_true, true_implies, not_true_eq_false, not_false_eq_true, false_implies, eq_self, sa_n0, sa_n1]
          exact K
        · simp only [wpY_fits, wY_fits_91, sa_inI, kn, n0, n1, n2, sa_k9, sa_kl9, sa_k1, true_and, and_true, true_implies, not_true_eq_false, not_false_eq_true, false_implies, eq_self, sa_n0, sa_n1]
          exact K
      · refine Or.inr ⟨fun post K => ?_, fun post K => ?_⟩
        · simp only [wpX_badStep, wX_badStep_61, sa_outI, o0, o1, o2, sa_k9, sa_k1, true_and, and_true, true_implies, not_true_eq_false, not_false_eq_true, false_implies, eq_self, sa_n0, sa_n1]
          exact K
        · simp only [wpY_fits, wY_fits_91, sa_inI, kn, n0, n1, n2, sa_k9, sa_kl9, sa_k1, true_and, and_true, true_implies, not_true_eq_false, not_false_eq_true, false_implies, eq_self, sa_n0, sa_n1]
          exact K
theorem sa_sv_10 : sa_sv2 10 p q r (xns, xnow, xjc, xtc, xhe, xkd, xp1, xp2, xp3, xac, xja, xji, xjn, xjs, xjt, xtj, xtt, xss, xsv, xak, xaj, xgc, xgk, xgn, xhs, xhg, xhn, xou, xah, xst, xpl, xft, xev, xdn, xus, xis, xvr, xhd, xtk, xpd, xpa, xpi, xun, xwj) (yns, ynow, yjc, ytc, yac, ysp, yja, yji, yjn, yhw, ywn, ytj, ytt, yst, ypl, ydn, yak, ywt, yun, yrs, yvr, yhd, ypa, ypi, ypd, ygs, ygn, ygc) := by
  have kn : ¬ (10 : Int32) < 0 := by decide
  rcases sa_rng p 0 1 with ⟨o0, n0, i0⟩ | ⟨o0, n0⟩
  · rcases sa_rng q 0 3 with ⟨o1, n1, i1⟩ | ⟨o1, n1⟩
    · rcases sa_rng r 1 50 with ⟨o2, n2, i2⟩ | ⟨o2, n2⟩
      · obtain ⟨c0, l0, f0⟩ := sa_r0 (n := 1) (by decide) i0.1 i0.2
        obtain ⟨c1, l1, f1⟩ := sa_r0 (n := 3) (by decide) i1.1 i1.2
        obtain ⟨c2, w2, l2, f2⟩ := sa_r1 (n := 50) (by decide) i2.1 i2.2
        refine Or.inl ⟨Or.inr (Or.inr (Or.inr (Or.inr (Or.inr (Or.inr (Or.inr (Or.inr (Or.inl ⟨rfl, c0, c1, c2, by omega, by omega, ⟨w2, l2⟩, f0, f1, f2⟩)))))))), fun post K => ?_, fun post K => ?_⟩
        · simp only [wpX_badStep, wX_badStep_61, sa_outI, o0, o1, o2, sa_k10, sa_k1, true_and, and_true, true_implies, not_true_eq_false, not_false_eq_true, false_implies, eq_self, sa_n0, sa_n1]
          exact K
        · simp only [wpY_fits, wY_fits_91, sa_inI, kn, n0, n1, n2, sa_k10, sa_kl10, sa_k1, true_and, and_true, true_implies, not_true_eq_false, not_false_eq_true, false_implies, eq_self, sa_n0, sa_n1]
          exact K
      · refine Or.inr ⟨fun post K => ?_, fun post K => ?_⟩
        · simp only [wpX_badStep, wX_badStep_61, sa_outI, o0, o1, o2, sa_k10, sa_k1, true_and, and_true, true_implies, not_true_eq_false, not_false_eq_true, false_implies, eq_self, sa_n0, sa_n1]
          exact K
        · simp only [wpY_fits, wY_fits_91, sa_inI, kn, n0, n1, n2, sa_k10, sa_kl10, sa_k1, true_and, and_true, true_implies, not_true_eq_false, not_false_eq_true, false_implies, eq_self, sa_n0, sa_n1]
          exact K
    · rcases sa_rng r 1 50 with ⟨o2, n2, i2⟩ | ⟨o2, n2⟩
      · refine Or.inr ⟨fun post K => ?_, fun post K => ?_⟩
        · simp only [wpX_badStep, wX_badStep_61, sa_outI, o0, o1, o2, sa_k10, sa_k1, true_and, and_true, true_implies, not_true_eq_false, not_false_eq_true, false_implies, eq_self, sa_n0, sa_n1]
          exact K
        · simp only [wpY_fits, wY_fits_91, sa_inI, kn, n0, n1, n2, sa_k10, sa_kl10, sa_k1, true_and, and_true, true_implies, not_true_eq_false, not_false_eq_true, false_implies, eq_self, sa_n0, sa_n1]
          exact K
      · refine Or.inr ⟨fun post K => ?_, fun post K => ?_⟩
        · simp only [wpX_badStep, wX_badStep_61, sa_outI, o0, o1, o2, sa_k10, sa_k1, true_and, and_true, true_implies, not_true_eq_false, not_false_eq_true, false_implies, eq_self, sa_n0, sa_n1]
          exact K
        · simp only [wpY_fits, wY_fits_91, sa_inI, kn, n0, n1, n2, sa_k10, sa_kl10, sa_k1, true_and, and_true, true_implies, not_true_eq_false, not_false_eq_true, false_implies, eq_self, sa_n0, sa_n1]
          exact K
  · rcases sa_rng q 0 3 with ⟨o1, n1, i1⟩ | ⟨o1, n1⟩
    · rcases sa_rng r 1 50 with ⟨o2, n2, i2⟩ | ⟨o2, n2⟩
      · refine Or.inr ⟨fun post K => ?_, fun post K => ?_⟩
        · simp only [wpX_badStep, wX_badStep_61, sa_outI, o0, o1, o2, sa_k10, sa_k1, true_and, and_true, true_implies, not_true_eq_false, not_false_eq_true, false_implies, eq_self, sa_n0, sa_n1]
          exact K
        · simp only [wpY_fits, wY_fits_91, sa_inI, kn, n0, n1, n2, sa_k10, sa_kl10, sa_k1, true_and, and_true, true_implies, not_true_eq_false, not_false_eq_true, false_implies, eq_self, sa_n0, sa_n1]
          exact K
      · refine Or.inr ⟨fun post K => ?_, fun post K => ?_⟩
        · simp only [wpX_badStep, wX_badStep_61, sa_outI, o0, o1, o2, sa_k10, sa_k1, true_and, and_true, true_implies, not_true_eq_false, not_false_eq_true, false_implies, eq_self, sa_n0, sa_n1]
          exact K
        · simp only [wpY_fits, wY_fits_91, sa_inI, kn, n0, n1, n2, sa_k10, sa_kl10, sa_k1, true_and, and_true, true_implies, not_true_eq_false, not_false_eq_true, false_implies, eq_self, sa_n0, sa_n1]
          exact K
    · rcases sa_rng r 1 50 with ⟨o2, n2, i2⟩ | ⟨o2, n2⟩
      · refine Or.inr ⟨fun post K => ?_, fun post K => ?_⟩
        · simp only [wpX_badStep, wX_badStep_61, sa_outI, o0, o1, o2, sa_k10, sa_k1, true_and, and_true, true_implies, not_true_eq_false, not_false_eq_true, false_implies, eq_self, sa_n0, sa_n1]
          exact K
        · simp only [wpY_fits, wY_fits_91, sa_inI, kn, n0, n1, n2, sa_k10, sa_kl10, sa_k1, true_and, and_true, true_implies, not_true_eq_false, not_false_eq_true, false_implies, eq_self, sa_n0, sa_n1]
          exact K
      · refine Or.inr ⟨fun post K => ?_, fun post K => ?_⟩
        · simp only [wpX_badStep, wX_badStep_61, sa_outI, o0, o1, o2, sa_k10, sa_k1, true_and, and_true, true_implies, not_true_eq_false, not_false_eq_true, false_implies, eq_self, sa_n0, sa_n1]
          exact K
        · simp only [wpY_fits, wY_fits_91, sa_inI, kn, n0, n1, n2, sa_k10, sa_kl10, sa_k1, true_and, and_true, true_implies, not_true_eq_false, not_false_eq_true, false_implies, eq_self, sa_n0, sa_n1]
          exact K
theorem sa_sv_11 : sa_sv2 11 p q r (xns, xnow, xjc, xtc, xhe, xkd, xp1, xp2, xp3, xac, xja, xji, xjn, xjs, xjt, xtj, xtt, xss, xsv, xak, xaj, xgc, xgk, xgn, xhs, xhg, xhn, xou, xah, xst, xpl, xft, xev, xdn, xus, xis, xvr, xhd, xtk, xpd, xpa, xpi, xun, xwj) (yns, ynow, yjc, ytc, yac, ysp, yja, yji, yjn, yhw, ywn, ytj, ytt, yst, ypl, ydn, yak, ywt, yun, yrs, yvr, yhd, ypa, ypi, ypd, ygs, ygn, ygc) := by
  have kn : ¬ (11 : Int32) < 0 := by decide
  rcases sa_rng p 0 3 with ⟨o0, n0, i0⟩ | ⟨o0, n0⟩
  · obtain ⟨c0, l0, f0⟩ := sa_r0 (n := 3) (by decide) i0.1 i0.2
    refine Or.inl ⟨Or.inr (Or.inr (Or.inr (Or.inr (Or.inr (Or.inr (Or.inr (Or.inr (Or.inr (Or.inl ⟨rfl, c0, by omega, f0⟩))))))))), fun post K => ?_, fun post K => ?_⟩
    · simp only [wpX_badStep, wX_badStep_61, sa_outI, o0, sa_k11, sa_k1, true_and, and_true, true_implies, not_true_eq_false, not_false_eq_true, false_implies, eq_self, sa_n0, sa_n1]
      exact K
    · simp only [wpY_fits, wY_fits_91, sa_inI, kn, n0, sa_k11, sa_kl11, sa_k1, true_and, and_true, true_implies, not_true_eq_false, not_false_eq_true, false_implies, eq_self, sa_n0, sa_n1]
      exact K
  · refine Or.inr ⟨fun post K => ?_, fun post K => ?_⟩
    · simp only [wpX_badStep, wX_badStep_61, sa_outI, o0, sa_k11, sa_k1, true_and, and_true, true_implies, not_true_eq_false, not_false_eq_true, false_implies, eq_self, sa_n0, sa_n1]
      exact K
    · simp only [wpY_fits, wY_fits_91, sa_inI, kn, n0, sa_k11, sa_kl11, sa_k1, true_and, and_true, true_implies, not_true_eq_false, not_false_eq_true, false_implies, eq_self, sa_n0, sa_n1]
      exact K
theorem sa_sv_12 : sa_sv2 12 p q r (xns, xnow, xjc, xtc, xhe, xkd, xp1, xp2, xp3, xac, xja, xji, xjn, xjs, xjt, xtj, xtt, xss, xsv, xak, xaj, xgc, xgk, xgn, xhs, xhg, xhn, xou, xah, xst, xpl, xft, xev, xdn, xus, xis, xvr, xhd, xtk, xpd, xpa, xpi, xun, xwj) (yns, ynow, yjc, ytc, yac, ysp, yja, yji, yjn, yhw, ywn, ytj, ytt, yst, ypl, ydn, yak, ywt, yun, yrs, yvr, yhd, ypa, ypi, ypd, ygs, ygn, ygc) := by
  have kn : ¬ (12 : Int32) < 0 := by decide
  refine Or.inl ⟨Or.inr (Or.inr (Or.inr (Or.inr (Or.inr (Or.inr (Or.inr (Or.inr (Or.inr (Or.inr (rfl)))))))))), fun post K => ?_, fun post K => ?_⟩
  · simp only [wpX_badStep, wX_badStep_61, sa_outI, sa_k12, sa_k1, true_and, and_true, true_implies, not_true_eq_false, not_false_eq_true, false_implies, eq_self, sa_n0, sa_n1]
    exact K
  · simp only [wpY_fits, wY_fits_91, sa_inI, kn, sa_k12, sa_kl12, sa_k1, true_and, and_true, true_implies, not_true_eq_false, not_false_eq_true, false_implies, eq_self, sa_n0, sa_n1]
    exact K
end
section
variable {xhe : Int32} {xss xsv xak xaj xgc xgk xgn xhs xhg xhn xou xah xst xpl xft xev xdn xus xis xvr xhd xtk xpd xpa xpi xun xwj : Nat → Int32} {ysp yhw ywn yst ypl ydn yak ywt yun yrs yvr yhd ypa ypi ypd ygs ygn ygc : Nat → Int32} {ns : Nat} {kd p1 p2 p3 ac : Nat → Int32} {jc tc : Nat} {ja ji jn js jt tj tt : Nat → Int32} {t : Nat} {k p q r : Int32} {G : SX → SY → Prop} {b : Int32}
theorem sa_stepM (h20 : ns ≤ 20) (hb : b = 0 ∨ b = 1) (bX : ∀ post : Int32 → Prop, post b → wpX_anyStarted post (nI ns, nI t, nI jc, nI tc, xhe, kd, p1, p2, p3, ac, ja, ji, jn, js, jt, tj, tt, xss, xsv, xak, xaj, xgc, xgk, xgn, xhs, xhg, xhn, xou, xah, xst, xpl, xft, xev, xdn, xus, xis, xvr, xhd, xtk, xpd, xpa, xpi, xun, xwj)) (bY : ∀ post : Int32 → Prop, post b → wpY_isBusy post (nI ns, nI t, nI jc, nI tc, ac, ysp, ja, ji, jn, yhw, ywn, tj, tt, yst, ypl, ydn, yak, ywt, yun, yrs, yvr, yhd, ypa, ypi, ypd, ygs, ygn, ygc)) (k0 : ¬ k < 0) (k12 : k ≤ 12) (S : sa_sv2 k p q r (nI ns, nI t, nI jc, nI tc, xhe, kd, p1, p2, p3, ac, ja, ji, jn, js, jt, tj, tt, xss, xsv, xak, xaj, xgc, xgk, xgn, xhs, xhg, xhn, xou, xah, xst, xpl, xft, xev, xdn, xus, xis, xvr, xhd, xtk, xpd, xpa, xpi, xun, xwj) (nI ns, nI t, nI jc, nI tc, ac, ysp, ja, ji, jn, yhw, ywn, tj, tt, yst, ypl, ydn, yak, ywt, yun, yrs, yvr, yhd, ypa, ypi, ypd, ygs, ygn, ygc)) (K : G (nI ns, nI t, nI jc, nI tc, xhe, kd, p1, p2, p3, ac, ja, ji, jn, js, jt, tj, tt, xss, xsv, xak, xaj, xgc, xgk, xgn, xhs, xhg, xhn, xou, xah, xst, xpl, xft, xev, xdn, xus, xis, xvr, xhd, xtk, xpd, xpa, xpi, xun, xwj) (nI ns, nI t, nI jc, nI tc, ac, ysp, ja, ji, jn, yhw, ywn, tj, tt, yst, ypl, ydn, yak, ywt, yun, yrs, yvr, yhd, ypa, ypi, ypd, ygs, ygn, ygc))
    (K2 : b = 0 → ns < 20 → sa_VS k p q r → G (nI (ns + 1), nI t, nI jc, nI tc, xhe, upd kd ns k, upd p1 ns p, upd p2 ns q, upd p3 ns r, ac, ja, ji, jn, js, jt, tj, tt, xss, xsv, xak, xaj, xgc, xgk, xgn, xhs, xhg, xhn, xou, xah, xst, xpl, xft, xev, xdn, xus, xis, xvr, xhd, xtk, xpd, xpa, xpi, xun, xwj) (nI (ns + 1), nI t, nI jc, nI tc, ac, upd (upd (upd (upd ysp (4 * ns) k) (4 * ns + 1) p) (4 * ns + 2) q) (4 * ns + 3) r, ja, ji, jn, yhw, ywn, tj, tt, yst, ypl, ydn, yak, ywt, yun, yrs, yvr, yhd, ypa, ypi, ypd, ygs, ygn, ygc)) : wpX_step (fun r' u' => wpY_step (fun s v' => s = r' ∧ G u' v') (nI ns, nI t, nI jc, nI tc, ac, ysp, ja, ji, jn, yhw, ywn, tj, tt, yst, ypl, ydn, yak, ywt, yun, yrs, yvr, yhd, ypa, ypi, ypd, ygs, ygn, ygc) k p q r) (nI ns, nI t, nI jc, nI tc, xhe, kd, p1, p2, p3, ac, ja, ji, jn, js, jt, tj, tt, xss, xsv, xak, xaj, xgc, xgk, xgn, xhs, xhg, xhn, xou, xah, xst, xpl, xft, xev, xdn, xus, xis, xvr, xhd, xtk, xpd, xpa, xpi, xun, xwj) k p q r := by
  unfold wpX_step wpY_step
  dsimp only
  refine sa_out (fun _ _ => br_t rfl ?_) (fun z => absurd z (fun z => z.elim k0 (fun z => z k12)))
  rcases S with ⟨V, SX0, SY1⟩ | ⟨SX1, SY0⟩
  · refine SX0 _ (br_t rfl (bX _ ?_))
    rcases hb with rfl | rfl
    · refine br_t rfl ?_
      by_cases c : ns = 20
      · subst c
        exact br_t rfl (SY1 _ (br_f (by decide) (bY _ (br_t rfl (br_t rfl ⟨rfl, K⟩)))))
      · have c' : ¬ nI ns = 20 := by
          rw [sa_e20 (by omega)]
          exact c
        have hv : vp_in (nI ns) 20 := vp_in_nI (by omega) (by decide)
        have hc : (nI ns).toNatClampNeg = ns := nI_clamp (by omega)
        refine br_f c' ?_
        rw [hc]
        refine And.intro hv (nm_e (And.intro hv (nm_e (And.intro hv (nm_e (And.intro hv (nm_e (nm_r (nI_1 ns) ?_))))))))
        refine SY1 _ (br_f (by decide) (bY _ (br_t rfl (br_f c' ?_))))
        rw [sa_m4, nI_1 (4 * ns), sa_p2, sa_p3, nI_clamp (show 4 * ns < 2 ^ 31 by omega), nI_clamp (show 4 * ns + 1 < 2 ^ 31 by omega), nI_clamp (show 4 * ns + 2 < 2 ^ 31 by omega), nI_clamp (show 4 * ns + 3 < 2 ^ 31 by omega)]
        exact And.intro (vp_in_nI (by omega) (by decide)) (nm_e (And.intro (vp_in_nI (by omega) (by decide)) (nm_e (And.intro (vp_in_nI (by omega) (by decide)) (nm_e (And.intro (vp_in_nI (by omega) (by decide)) (nm_e (nm_r (nI_1 ns) ⟨rfl, K2 rfl (by omega) V⟩))))))))
    · exact br_f (by decide) (SY1 _ (br_f (by decide) (bY _ (br_f (by decide) ⟨rfl, K⟩))))
  · exact SX1 _ (br_f (by decide) (SY0 _ (br_t rfl ⟨rfl, K⟩)))
theorem sa_fitsx (h : k < 0 ∨ ¬ k ≤ 12) {post : Int32 → Prop} (K : post 0) : wpY_fits post (nI ns, nI t, nI jc, nI tc, ac, ysp, ja, ji, jn, yhw, ywn, tj, tt, yst, ypl, ydn, yak, ywt, yun, yrs, yvr, yhd, ypa, ypi, ypd, ygs, ygn, ygc) k p q r := by
  simp only [wpY_fits, sa_inI]
  rcases h with h | h
  · have a3 : ¬ (3 : Int32) ≤ k := fun z => by
      rw [Int32.lt_iff_toInt_lt, show (0 : Int32).toInt = 0 from by decide] at h
      rw [Int32.le_iff_toInt_le, show (3 : Int32).toInt = 3 from by decide] at z
      omega
    exact br_f a3 (br_t h K)
  · have hh : ∀ n : Int32, n ≤ 12 → n ≤ k := fun n hn => Int32.le_of_lt (Int32.lt_of_le_of_lt hn (Int32.not_le.mp h))
    refine br_t (hh 3 (by decide)) (br_t (hh 5 (by decide)) (br_t (hh 8 (by decide)) (br_t (hh 11 (by decide)) (br_f (fun z => h (by rw [z]; decide)) (br_f (fun z => h (by rw [z]; decide)) K)))))
end
theorem i_vc_step {k : Nat} {u : SX} {v : SY} (I : i_Rel k u v) (hk : k + 5 ≤ 2560) (v1 : Int32) (v2 : Int32) (v3 : Int32) (v4 : Int32) : wpX_step (fun r u' => wpY_step (fun r' v' => r' = r ∧ i_Rel (k + 5) u' v') v v1 v2 v3 v4) u v1 v2 v3 v4 := by
  have IR := i_up I
  obtain ⟨t, P, J, A, ht, M⟩ := I
  obtain ⟨b, hb, bX, bY, b0⟩ := sa_bz M
  have W := M.1.2.2.1
  have W2 := M.1.2.2.2.1
  have V := M.1.1
  have RP : ∀ (P' : sa_P) (u' : SX) (v' : SY), b = 0 → sa_VK P' ∧ sa_VA P' → sa_WX P' t J u' → sa_WY P' t J v' → (∀ i, i < 3 → sa_off i u' v') → i_Rel (k + 5) u' v' := fun P' u' v' e V' w w2 F => ⟨t, P', J, fun _ => 0, by omega, sa_RelP M (b0 e).2 V' w w2 F⟩
  have Off : b = 0 → ∀ i, i < 3 → sa_off i u v := fun e => (b0 e).1
  clear b0 M
  revert IR bX bY V RP Off
  generalize i_Rel (k + 5) = G
  refine sa_XYi (C := fun P J u v => G u v → (∀ post : Int32 → Prop, post b → wpX_anyStarted post u) → (∀ post : Int32 → Prop, post b → wpY_isBusy post v) → (sa_VK P ∧ sa_VA P) → (∀ (P' : sa_P) (u' : SX) (v' : SY), b = 0 → sa_VK P' ∧ sa_VA P' → sa_WX P' t J u' → sa_WY P' t J v' → (∀ i, i < 3 → sa_off i u' v') → G u' v') → (b = 0 → ∀ i, i < 3 → sa_off i u v) → wpX_step (fun r u' => wpY_step (fun r' v' => r' = r ∧ G u' v') v v1 v2 v3 v4) u v1 v2 v3 v4) W W2 ?_
  intro ns jc tc xhe kd p1 p2 p3 ac ja ji jn js jt tj tt xss xsv xak xaj xgc xgk xgn xhs xhg xhn xou xah xst xpl xft xev xdn xus xis xvr xhd xtk xpd xpa xpi xun xwj ysp yhw ywn yst ypl ydn yak ywt yun yrs yvr yhd ypa ypi ypd ygs ygn ygc W W2 IR bX bY V RP Off
  obtain ⟨⟨w1, w2, w3, w4⟩, _⟩ := W
  obtain ⟨_, _, _, _, _, _, _, _, _, _, _, z1, z2⟩ := W2
  by_cases c : ¬ v1 < 0 ∧ v1 ≤ 12
  case neg =>
    have c' : v1 < 0 ∨ ¬ v1 ≤ 12 := by
      by_cases z : v1 < 0
      · exact Or.inl z
      · exact Or.inr (fun z' => c ⟨z, z'⟩)
    unfold wpX_step wpY_step
    dsimp only
    exact sa_out (fun a d => absurd ⟨a, d⟩ c) (fun _ => br_f (by decide) (sa_fitsx c' (br_t rfl ⟨rfl, IR⟩)))
  obtain ⟨c0, c12⟩ := c
  have S : sa_sv2 v1 v2 v3 v4 (nI ns, nI t, nI jc, nI tc, xhe, kd, p1, p2, p3, ac, ja, ji, jn, js, jt, tj, tt, xss, xsv, xak, xaj, xgc, xgk, xgn, xhs, xhg, xhn, xou, xah, xst, xpl, xft, xev, xdn, xus, xis, xvr, xhd, xtk, xpd, xpa, xpi, xun, xwj) (nI ns, nI t, nI jc, nI tc, ac, ysp, ja, ji, jn, yhw, ywn, tj, tt, yst, ypl, ydn, yak, ywt, yun, yrs, yvr, yhd, ypa, ypi, ypd, ygs, ygn, ygc) := by
    obtain ⟨m, hm, rfl⟩ := nI_of2 (M := 12) (n := 12) (by decide) c0 c12
    have h13 : m = 0 ∨ m = 1 ∨ m = 2 ∨ m = 3 ∨ m = 4 ∨ m = 5 ∨ m = 6 ∨ m = 7 ∨ m = 8 ∨ m = 9 ∨ m = 10 ∨ m = 11 ∨ m = 12 := by omega
    rcases h13 with rfl | rfl | rfl | rfl | rfl | rfl | rfl | rfl | rfl | rfl | rfl | rfl | rfl
    · rw [show nI 0 = 0 from rfl]
      exact sa_sv_0
    · rw [show nI 1 = 1 from rfl]
      exact sa_sv_1
    · rw [show nI 2 = 2 from rfl]
      exact sa_sv_2
    · rw [show nI 3 = 3 from rfl]
      exact sa_sv_3
    · rw [show nI 4 = 4 from rfl]
      exact sa_sv_4
    · rw [show nI 5 = 5 from rfl]
      exact sa_sv_5
    · rw [show nI 6 = 6 from rfl]
      exact sa_sv_6
    · rw [show nI 7 = 7 from rfl]
      exact sa_sv_7
    · rw [show nI 8 = 8 from rfl]
      exact sa_sv_8
    · rw [show nI 9 = 9 from rfl]
      exact sa_sv_9
    · rw [show nI 10 = 10 from rfl]
      exact sa_sv_10
    · rw [show nI 11 = 11 from rfl]
      exact sa_sv_11
    · rw [show nI 12 = 12 from rfl]
      exact sa_sv_12
  refine sa_stepM w1 hb bX bY c0 c12 S IR (fun e h20 VS => ?_)
  refine RP (ns + 1, upd kd ns v1, upd p1 ns v2, upd p2 ns v3, upd p3 ns v4, ac) _ _ e ⟨fun j hj => ?_, V.2⟩ ⟨⟨by omega, w2, w3, w4⟩, rfl, rfl, rfl, rfl, rfl, rfl, rfl, rfl, rfl, rfl, rfl, rfl, rfl, rfl, rfl, rfl⟩ ⟨⟨by omega, w2, w3, w4⟩, rfl, rfl, rfl, rfl, rfl, rfl, rfl, rfl, rfl, rfl, fun j hj => ?_, z2⟩ (fun i hi => ?_)
  · by_cases ej : j = ns
    · subst ej
      rw [pk_us, pk_us, pk_us, pk_us]
      exact VS
    · rw [pk_un ej, pk_un ej, pk_un ej, pk_un ej]
      exact V.1 j (show j < ns by omega)
  · by_cases ej : j = ns
    · subst ej
      refine ⟨?_, ?_, ?_, ?_⟩
      · rw [pk_un (by omega), pk_un (by omega), pk_un (by omega), pk_us, pk_us]
      · rw [pk_un (by omega), pk_un (by omega), pk_us, pk_us]
      · rw [pk_un (by omega), pk_us, pk_us]
      · rw [pk_us, pk_us]
    · obtain ⟨q1, q2, q3, q4⟩ := z1 j (by omega)
      refine ⟨?_, ?_, ?_, ?_⟩
      · rw [pk_un (by omega), pk_un (by omega), pk_un (by omega), pk_un (by omega), pk_un ej]
        exact q1
      · rw [pk_un (by omega), pk_un (by omega), pk_un (by omega), pk_un (by omega), pk_un ej]
        exact q2
      · rw [pk_un (by omega), pk_un (by omega), pk_un (by omega), pk_un (by omega), pk_un ej]
        exact q3
      · rw [pk_un (by omega), pk_un (by omega), pk_un (by omega), pk_un (by omega), pk_un ej]
        exact q4
  · obtain ⟨q1, q2, q3, q4⟩ := Off e i hi
    exact ⟨q1, q2, q3, q4⟩
end
section
/-! the constructors -/
section
variable {xns xnow xjc xtc xhe : Int32} {xkd xp1 xp2 xp3 xac xja xji xjn xjs xjt xtj xtt xss xsv xak xaj xgc xgk xgn xhs xhg xhn xou xah xst xpl xft xev xdn xus xis xvr xhd xtk xpd xpa xpi xun xwj : Nat → Int32} {c n : Nat} {post : SX → Prop}
theorem sa_ix (hc : c < 4) (K : wX_init_307 post xns xnow xjc xtc xhe n (nI (c + 1)) xkd xp1 xp2 xp3 (upd (upd (upd (upd xac (7 * c) 1) (7 * c + 1) 1) (7 * c + 2) 1) (7 * c + 5) 1) xja xji xjn xjs xjt xtj xtt xss xsv xak xaj xgc xgk xgn xhs xhg xhn xou xah xst xpl xft xev xdn xus xis xvr xhd xtk xpd xpa xpi xun xwj) : wX_init_307 post xns xnow xjc xtc xhe (n + 1) (nI c) xkd xp1 xp2 xp3 xac xja xji xjn xjs xjt xtj xtt xss xsv xak xaj xgc xgk xgn xhs xhg xhn xou xah xst xpl xft xev xdn xus xis xvr xhd xtk xpd xpa xpi xun xwj := by
  refine br_f (nI_ge (b := 4) hc (by decide)) ?_
  rw [sa_m7, sa_p0, nI_1 (7 * c), sa_p2, sa_p5, nI_clamp (show 7 * c < 2 ^ 31 by omega), nI_clamp (show 7 * c + 1 < 2 ^ 31 by omega), nI_clamp (show 7 * c + 2 < 2 ^ 31 by omega), nI_clamp (show 7 * c + 5 < 2 ^ 31 by omega)]
  exact And.intro (vp_in_nI (by omega) (by decide)) (nm_e (And.intro (vp_in_nI (by omega) (by decide)) (nm_e (And.intro (vp_in_nI (by omega) (by decide)) (nm_e (And.intro (vp_in_nI (by omega) (by decide)) (nm_e (nm_r (nI_1 c) K))))))))
end
def sa_d6 (d : Nat) : Int32 := if d = 3 then 0 else if d = 4 then 0 else 1
section
variable {yns ynow yjc ytc : Int32} {yac ysp yja yji yjn yhw ywn ytj ytt yst ypl ydn yak ywt yun yrs yvr yhd ypa ypi ypd ygs ygn ygc : Nat → Int32} {c d n n2 : Nat} {post : SY → Prop}
theorem sa_iy (hc : c < 4) (hd : d < 6) (K : wY_init_200 post (wY_init_193 post yns ynow yjc ytc n2) (nI c) yns ynow yjc ytc n (nI (d + 1)) (upd yac (7 * c + d) (sa_d6 d)) ysp yja yji yjn yhw ywn ytj ytt yst ypl ydn yak ywt yun yrs yvr yhd ypa ypi ypd ygs ygn ygc) : wY_init_200 post (wY_init_193 post yns ynow yjc ytc n2) (nI c) yns ynow yjc ytc (n + 1) (nI d) yac ysp yja yji yjn yhw ywn ytj ytt yst ypl ydn yak ywt yun yrs yvr yhd ypa ypi ypd ygs ygn ygc := by
  refine br_f (nI_ge (b := 6) hd (by decide)) ?_
  rw [sa_m7, nI_add, nI_clamp (show 7 * c + d < 2 ^ 31 by omega)]
  have hv : vp_in (nI (7 * c + d)) 28 := vp_in_nI (by omega) (by decide)
  by_cases e3 : d = 3
  · rw [show sa_d6 d = 0 from if_pos e3] at K
    exact br_t (by rw [e3]; rfl) (And.intro hv (nm_e (nm_r (nI_1 d) K)))
  · have n3 : ¬ nI d = 3 := fun z => e3 ((nI_eq (b := 3) (by omega) (by decide)).mp z)
    by_cases e4 : d = 4
    · rw [show sa_d6 d = 0 from (if_neg e3).trans (if_pos e4)] at K
      exact br_f n3 (br_t (by rw [e4]; rfl) (And.intro hv (nm_e (nm_r (nI_1 d) K))))
    · have n4 : ¬ nI d = 4 := fun z => e4 ((nI_eq (b := 4) (by omega) (by decide)).mp z)
      rw [show sa_d6 d = 1 from (if_neg e3).trans (if_neg e4)] at K
      exact br_f n3 (br_f n4 (And.intro hv (nm_e (nm_r (nI_1 d) K))))
theorem sa_iy6 (hc : c < 4) (K : wY_init_193 post yns ynow yjc ytc n2 (nI (c + 1)) (upd (upd (upd (upd (upd (upd yac (7 * c + 0) (sa_d6 0)) (7 * c + 1) (sa_d6 1)) (7 * c + 2) (sa_d6 2)) (7 * c + 3) (sa_d6 3)) (7 * c + 4) (sa_d6 4)) (7 * c + 5) (sa_d6 5)) ysp yja yji yjn yhw ywn ytj ytt yst ypl ydn yak ywt yun yrs yvr yhd ypa ypi ypd ygs ygn ygc) : wY_init_193 post yns ynow yjc ytc (n2 + 1) (nI c) yac ysp yja yji yjn yhw ywn ytj ytt yst ypl ydn yak ywt yun yrs yvr yhd ypa ypi ypd ygs ygn ygc := by
  refine br_f (nI_ge (b := 4) hc (by decide)) ⟨7, ?_⟩
  exact sa_iy (d := 0) hc (by omega) (sa_iy (d := 1) hc (by omega) (sa_iy (d := 2) hc (by omega) (sa_iy (d := 3) hc (by omega) (sa_iy (d := 4) hc (by omega) (sa_iy (d := 5) hc (by omega) (br_t (by decide) (nm_r (nI_1 c) K)))))))
end
def sa_acX (f : Nat → Int32) (c : Nat) : Nat → Int32 := upd (upd (upd (upd f (7 * c) 1) (7 * c + 1) 1) (7 * c + 2) 1) (7 * c + 5) 1
def sa_acY (f : Nat → Int32) (c : Nat) : Nat → Int32 := upd (upd (upd (upd (upd (upd f (7 * c + 0) (sa_d6 0)) (7 * c + 1) (sa_d6 1)) (7 * c + 2) (sa_d6 2)) (7 * c + 3) (sa_d6 3)) (7 * c + 4) (sa_d6 4)) (7 * c + 5) (sa_d6 5)
theorem sa_ac28 : ∀ j : Fin 28, sa_acX (sa_acX (sa_acX (sa_acX (fun _ => 0) 0) 1) 2) 3 j.val = sa_acY (sa_acY (sa_acY (sa_acY (fun _ => 0) 0) 1) 2) 3 j.val := by decide
theorem sa_acXn {f : Nat → Int32} {c j : Nat} (hc : c < 4) (h : 28 ≤ j) : sa_acX f c j = f j := by
  unfold sa_acX
  rw [pk_un (by omega), pk_un (by omega), pk_un (by omega), pk_un (by omega)]
theorem sa_acYn {f : Nat → Int32} {c j : Nat} (hc : c < 4) (h : 28 ≤ j) : sa_acY f c j = f j := by
  unfold sa_acY
  rw [pk_un (by omega), pk_un (by omega), pk_un (by omega), pk_un (by omega), pk_un (by omega), pk_un (by omega)]
theorem sa_acE : sa_acY (sa_acY (sa_acY (sa_acY (fun _ => 0) 0) 1) 2) 3 = sa_acX (sa_acX (sa_acX (sa_acX (fun _ => 0) 0) 1) 2) 3 := by
  funext j
  by_cases h : j < 28
  · exact (sa_ac28 ⟨j, h⟩).symm
  · rw [sa_acXn (by omega) (by omega), sa_acXn (by omega) (by omega), sa_acXn (by omega) (by omega), sa_acXn (by omega) (by omega), sa_acYn (by omega) (by omega), sa_acYn (by omega) (by omega), sa_acYn (by omega) (by omega), sa_acYn (by omega) (by omega)]
theorem i_vc0 : wpX_init (fun u => wpY_init (fun v => i_Rel 0 u v)) := by
  refine ⟨5, sa_ix (c := 0) (by omega) (sa_ix (c := 1) (by omega) (sa_ix (c := 2) (by omega) (sa_ix (c := 3) (by omega) (br_t (by decide) ?_))))⟩
  refine ⟨5, sa_iy6 (c := 0) (by omega) (sa_iy6 (c := 1) (by omega) (sa_iy6 (c := 2) (by omega) (sa_iy6 (c := 3) (by omega) (br_t (by decide) ?_))))⟩
  refine ⟨0, (0, (fun _ => 0), (fun _ => 0), (fun _ => 0), (fun _ => 0), sa_acX (sa_acX (sa_acX (sa_acX (fun _ => 0) 0) 1) 2) 3), (0, (fun _ => 0), (fun _ => 0), (fun _ => 0), (fun _ => 0), (fun _ => 0), 0, (fun _ => 0), (fun _ => 0)), fun _ => 0, Nat.le_refl _, sa_Rel0 ⟨fun k hk => absurd hk (by omega), ?_⟩ ⟨rfl, rfl⟩ ⟨⟨by omega, by omega, by omega, by omega⟩, rfl, rfl, rfl, rfl, rfl, rfl, rfl, rfl, rfl, rfl, rfl, rfl, rfl, rfl, rfl, rfl⟩ ⟨⟨by omega, by omega, by omega, by omega⟩, rfl, rfl, rfl, rfl, sa_acE, rfl, rfl, rfl, rfl, rfl, fun k hk => absurd hk (by omega), fun k hk => absurd hk (by omega)⟩ (fun i hi => ⟨rfl, rfl, rfl, rfl⟩)⟩
  intro a ha
  have : a = 0 ∨ a = 1 ∨ a = 2 ∨ a = 3 := by omega
  rcases this with rfl | rfl | rfl | rfl
  · exact ⟨⟨1, by omega, by omega, by decide⟩, ⟨1, by omega, by omega, by decide⟩, ⟨1, by omega, by omega, by decide⟩, ⟨0, by omega, by decide⟩, ⟨0, by omega, by decide⟩⟩
  · exact ⟨⟨1, by omega, by omega, by decide⟩, ⟨1, by omega, by omega, by decide⟩, ⟨1, by omega, by omega, by decide⟩, ⟨0, by omega, by decide⟩, ⟨0, by omega, by decide⟩⟩
  · exact ⟨⟨1, by omega, by omega, by decide⟩, ⟨1, by omega, by omega, by decide⟩, ⟨1, by omega, by omega, by decide⟩, ⟨0, by omega, by decide⟩, ⟨0, by omega, by decide⟩⟩
  · exact ⟨⟨1, by omega, by omega, by decide⟩, ⟨1, by omega, by omega, by decide⟩, ⟨1, by omega, by omega, by decide⟩, ⟨0, by omega, by decide⟩, ⟨0, by omega, by decide⟩⟩
end
