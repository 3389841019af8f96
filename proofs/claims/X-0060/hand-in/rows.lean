section
/-! pure rows to paste: stores, nI and lN arithmetic, masks, shifts, narrowing, branches by naturals (pk_le, pk_lt, pk_eq), loops (lp1 .. lp16: the measure of the state; rp1 ..: recursion), negatives. Take what you need -/
theorem pk_us {f : Nat → Int32} {k : Nat} {x : Int32} : upd f k x k = x := if_pos rfl
theorem pk_un {f : Nat → Int32} {k j : Nat} {x : Int32} (h : j ≠ k) : upd f k x j = f j := if_neg h
theorem pk_uLs {f : Nat → Int64} {k : Nat} {x : Int64} : vp_updL f k x k = x := if_pos rfl
theorem pk_uLn {f : Nat → Int64} {k j : Nat} {x : Int64} (h : j ≠ k) : vp_updL f k x j = f j := if_neg h
theorem pk_sub {a b : Nat} (h : b ≤ a) : nI a - nI b = nI (a - b) := by
  obtain ⟨c, rfl⟩ : ∃ c, a = c + b := ⟨a - b, by omega⟩
  rw [← nI_add, Int32.add_sub_cancel, Nat.add_sub_cancel]
theorem pk_m1 (n : Nat) : nI (n + 1) + (-1) = nI n := by
  rw [← nI_1, Int32.add_assoc, show (1 : Int32) + (-1) = 0 from rfl, Int32.add_zero]
theorem pk_mul (a b : Nat) : nI a * nI b = nI (a * b) := (Int32.ofNat_mul a b).symm
theorem pk_div {a d : Nat} (ha : a < 2 ^ 31) (h0 : 0 < d) (hd : d < 2 ^ 31) : nI a / nI d = nI (a / d) := by
  apply Int32.toInt_inj.mp
  rw [lg_idiv_nonneg (by rw [nI_toInt ha]; omega) (by rw [nI_toInt hd]; omega), nI_toInt ha, nI_toInt hd, nI_toInt (Nat.lt_of_le_of_lt (Nat.div_le_self a d) ha)]
  first | rfl | exact (Int.natCast_ediv _ _).symm
theorem pk_rem {a d : Nat} (ha : a < 2 ^ 31) (h0 : 0 < d) (hd : d < 2 ^ 31) : nI a - nI a / nI d * nI d = nI (a % d) := by
  rw [pk_div ha h0 hd, pk_mul, pk_sub (Nat.div_mul_le_self a d)]
  exact congrArg nI (by have := Nat.div_add_mod' a d; omega)
theorem pk_sub_toInt {a b : Nat} (ha : a < 2 ^ 30) (hb : b < 2 ^ 30) : (nI a - nI b).toInt = (a : Int) - b := by
  rw [Int32.toInt_sub, nI_toInt (by omega), nI_toInt (by omega)]
  exact Int.bmod_eq_of_le (by omega) (by omega)
theorem pk_sneg {a b : Nat} (hb : b < 2 ^ 30) (h : a < b) : nI a - nI b < 0 := by
  rw [Int32.lt_iff_toInt_lt, pk_sub_toInt (by omega) hb, show (0 : Int32).toInt = 0 from by decide]
  omega
theorem pk_ix (x : Int32) {n : Nat} (hn : n < 2 ^ 31) : x < 0 ∨ nI n ≤ x ∨ ∃ j : Nat, j < n ∧ x = nI j := by
  by_cases h : x < 0
  · exact Or.inl h
  · obtain ⟨j, hj, rfl⟩ := nI_of h
    by_cases h2 : j < n
    · exact Or.inr (Or.inr ⟨j, h2, rfl⟩)
    · exact Or.inr (Or.inl (nI_le (by omega) hj))
theorem pk_le {x y : Int32} {A B : Prop} (a b : Nat) (f : a ≤ b → A) (g : b < a → B) (hx : x = nI a := by rfl) (hy : y = nI b := by rfl) (ha : a < 2 ^ 31 := by omega) (hb : b < 2 ^ 31 := by omega) : (x ≤ y → A) ∧ (¬ x ≤ y → B) := by
  subst hx hy
  rw [nI_leI ha hb]
  exact ⟨f, fun z => g (by omega)⟩
theorem pk_lt {x y : Int32} {A B : Prop} (a b : Nat) (f : a < b → A) (g : b ≤ a → B) (hx : x = nI a := by rfl) (hy : y = nI b := by rfl) (ha : a < 2 ^ 31 := by omega) (hb : b < 2 ^ 31 := by omega) : (x < y → A) ∧ (¬ x < y → B) := by
  subst hx hy
  rw [nI_ltI ha hb]
  exact ⟨f, fun z => g (by omega)⟩
theorem pk_eq {x y : Int32} {A B : Prop} (a b : Nat) (f : a = b → A) (g : a ≠ b → B) (hx : x = nI a := by rfl) (hy : y = nI b := by rfl) (ha : a < 2 ^ 31 := by omega) (hb : b < 2 ^ 31 := by omega) : (x = y → A) ∧ (¬ x = y → B) := by
  subst hx hy
  rw [nI_eq ha hb]
  exact ⟨f, g⟩
theorem pk_in {x : Int32} (n N : Nat) (h : n < N) (hx : x = nI n := by rfl) (hN : N < 2 ^ 31 := by omega) : vp_in x N := by
  subst hx
  exact vp_in_nI h hN
theorem pk_cl {x : Int32} (n : Nat) (hx : x = nI n := by rfl) (h : n < 2 ^ 31 := by omega) : x.toNatClampNeg = n := by
  subst hx
  exact nI_clamp h
theorem pk_tn {n : Nat} (h : n < 2 ^ 32) : (nI n).toBitVec.toNat = n := Nat.mod_eq_of_lt h
theorem pk_and (x : Int32) {m : Int32} (k : Nat) (hm : m.toBitVec.toNat = 2 ^ k - 1) : x &&& m = nI (x.toBitVec.toNat % 2 ^ k) := by
  apply Int32.toBitVec_inj.mp
  apply BitVec.eq_of_toNat_eq
  rw [Int32.toBitVec_and, BitVec.toNat_and, hm, Nat.and_two_pow_sub_one_eq_mod]
  show _ = (BitVec.ofNat 32 _).toNat
  rw [BitVec.toNat_ofNat]
  exact (Nat.mod_eq_of_lt (Nat.lt_of_le_of_lt (Nat.mod_le _ _) x.toBitVec.isLt)).symm
theorem pk_andN {n : Nat} (h : n < 2 ^ 32) {m : Int32} (k : Nat) (hm : m.toBitVec.toNat = 2 ^ k - 1) : nI n &&& m = nI (n % 2 ^ k) := by
  rw [pk_and _ k hm, pk_tn h]
theorem pk_andE (x : Int32) {m : Int32} (k : Nat) (hm : m.toBitVec.toNat = 2 ^ k - 1) : ∃ j : Nat, j < 2 ^ k ∧ x &&& m = nI j := ⟨_, Nat.mod_lt _ (Nat.two_pow_pos k), pk_and x k hm⟩
theorem pk_andIn (x : Int32) {m : Int32} (k : Nat) (hm : m.toBitVec.toNat = 2 ^ k - 1) (hk : k ≤ 30) : vp_in (x &&& m) (2 ^ k) := by
  obtain ⟨j, hj, e⟩ := pk_andE x k hm
  rw [e]
  exact vp_in_nI hj (Nat.lt_of_le_of_lt (Nat.pow_le_pow_right (by decide) hk) (by decide))
end
section
theorem sk_m2 (a : Nat) : nI a * 2 = nI (a * 2) := pk_mul a 2
theorem sk_m3 (a : Nat) : nI a * 3 = nI (a * 3) := pk_mul a 3
theorem sk_m4 (a : Nat) : nI a * 4 = nI (a * 4) := pk_mul a 4
theorem sk_m8 (a : Nat) : nI a * 8 = nI (a * 8) := pk_mul a 8
theorem sk_m16 (a : Nat) : nI a * 16 = nI (a * 16) := pk_mul a 16
theorem sk_2m (a : Nat) : 2 * nI a = nI (a * 2) := by rw [Int32.mul_comm]; exact pk_mul a 2
theorem sk_3m (a : Nat) : 3 * nI a = nI (a * 3) := by rw [Int32.mul_comm]; exact pk_mul a 3
theorem sk_4m (a : Nat) : 4 * nI a = nI (a * 4) := by rw [Int32.mul_comm]; exact pk_mul a 4
theorem sk_11m (a : Nat) : 11 * nI a = nI (a * 11) := by rw [Int32.mul_comm]; exact pk_mul a 11
theorem sk_16m (a : Nat) : 16 * nI a = nI (a * 16) := by rw [Int32.mul_comm]; exact pk_mul a 16
theorem sk_a0 (a : Nat) : nI a + 0 = nI a := Int32.add_zero _
theorem sk_a2 (a : Nat) : nI a + 2 = nI (a + 2) := nI_add a 2
theorem sk_a8 (a : Nat) : nI a + 8 = nI (a + 8) := nI_add a 8
theorem sk_a10 (a : Nat) : nI a + 10 = nI (a + 10) := nI_add a 10
theorem sk_d3 {g : Nat} (h : g < 2 ^ 31) : nI g / 3 = nI (g / 3) := pk_div h (by decide) (by decide)
theorem sk_30 : ¬ (3 : Int32) = 0 := by decide
theorem sk_and1 (x : Int32) : ∃ s : Nat, s < 2 ∧ x &&& 1 = nI s := pk_andE x 1 (by decide)
theorem sk_and7 (x : Int32) : ∃ s : Nat, s < 8 ∧ x &&& 7 = nI s := pk_andE x 3 (by decide)
theorem sk_and15 (x : Int32) : ∃ s : Nat, s < 16 ∧ x &&& 15 = nI s := pk_andE x 4 (by decide)
theorem sk_and3 {n : Nat} (h : n < 2 ^ 32) : nI n &&& 3 = nI (n % 4) := pk_andN h 2 (by decide)
theorem sk_t0 : (0 : Int32).toInt = 0 := by decide
theorem sk_t1 : (1 : Int32).toInt = 1 := by decide
theorem sk_tm1 : (-1 : Int32).toInt = -1 := by decide
theorem sk_upS (f : Nat → Int32) (k : Nat) : upd f k (f k) = f := by
  funext j
  show (if j = k then f k else f j) = f j
  by_cases e : j = k
  · rw [if_pos e, e]
  · rw [if_neg e]
theorem sk_upU (f : Nat → Int32) (k : Nat) (a b : Int32) : upd (upd f k a) k b = upd f k b := by
  funext j
  show (if j = k then b else (if j = k then a else f j)) = (if j = k then b else f j)
  by_cases e : j = k
  · rw [if_pos e, if_pos e]
  · rw [if_neg e, if_neg e, if_neg e]
theorem sk_q0 : ¬ (0 : Int32) = 1 ∧ ¬ (0 : Int32) = 2 ∧ ¬ (0 : Int32) = 3 ∧ ¬ (0 : Int32) = 4 ∧ ¬ (0 : Int32) = 5 ∧ ¬ (0 : Int32) = 6 ∧ ¬ (0 : Int32) = 7 ∧ ¬ (0 : Int32) = 8 ∧ ¬ (0 : Int32) = 9 ∧ ¬ (0 : Int32) = 10 ∧ ¬ (0 : Int32) = 11 ∧ ¬ (0 : Int32) = 12 ∧ ¬ (0 : Int32) = 13 ∧ ¬ (0 : Int32) = 14 ∧ ¬ (0 : Int32) = 15 := by decide
theorem sk_q1 : ¬ (1 : Int32) = 0 ∧ ¬ (1 : Int32) = 2 ∧ ¬ (1 : Int32) = 3 ∧ ¬ (1 : Int32) = 4 ∧ ¬ (1 : Int32) = 5 ∧ ¬ (1 : Int32) = 6 ∧ ¬ (1 : Int32) = 7 ∧ ¬ (1 : Int32) = 8 ∧ ¬ (1 : Int32) = 9 ∧ ¬ (1 : Int32) = 10 ∧ ¬ (1 : Int32) = 11 ∧ ¬ (1 : Int32) = 12 ∧ ¬ (1 : Int32) = 13 ∧ ¬ (1 : Int32) = 14 ∧ ¬ (1 : Int32) = 15 := by decide
theorem sk_q2 : ¬ (2 : Int32) = 0 ∧ ¬ (2 : Int32) = 1 ∧ ¬ (2 : Int32) = 3 ∧ ¬ (2 : Int32) = 4 ∧ ¬ (2 : Int32) = 5 ∧ ¬ (2 : Int32) = 6 ∧ ¬ (2 : Int32) = 7 ∧ ¬ (2 : Int32) = 8 ∧ ¬ (2 : Int32) = 9 ∧ ¬ (2 : Int32) = 10 ∧ ¬ (2 : Int32) = 11 ∧ ¬ (2 : Int32) = 12 ∧ ¬ (2 : Int32) = 13 ∧ ¬ (2 : Int32) = 14 ∧ ¬ (2 : Int32) = 15 := by decide
theorem sk_q3 : ¬ (3 : Int32) = 0 ∧ ¬ (3 : Int32) = 1 ∧ ¬ (3 : Int32) = 2 ∧ ¬ (3 : Int32) = 4 ∧ ¬ (3 : Int32) = 5 ∧ ¬ (3 : Int32) = 6 ∧ ¬ (3 : Int32) = 7 ∧ ¬ (3 : Int32) = 8 ∧ ¬ (3 : Int32) = 9 ∧ ¬ (3 : Int32) = 10 ∧ ¬ (3 : Int32) = 11 ∧ ¬ (3 : Int32) = 12 ∧ ¬ (3 : Int32) = 13 ∧ ¬ (3 : Int32) = 14 ∧ ¬ (3 : Int32) = 15 := by decide
theorem sk_q4 : ¬ (4 : Int32) = 0 ∧ ¬ (4 : Int32) = 1 ∧ ¬ (4 : Int32) = 2 ∧ ¬ (4 : Int32) = 3 ∧ ¬ (4 : Int32) = 5 ∧ ¬ (4 : Int32) = 6 ∧ ¬ (4 : Int32) = 7 ∧ ¬ (4 : Int32) = 8 ∧ ¬ (4 : Int32) = 9 ∧ ¬ (4 : Int32) = 10 ∧ ¬ (4 : Int32) = 11 ∧ ¬ (4 : Int32) = 12 ∧ ¬ (4 : Int32) = 13 ∧ ¬ (4 : Int32) = 14 ∧ ¬ (4 : Int32) = 15 := by decide
theorem sk_q5 : ¬ (5 : Int32) = 0 ∧ ¬ (5 : Int32) = 1 ∧ ¬ (5 : Int32) = 2 ∧ ¬ (5 : Int32) = 3 ∧ ¬ (5 : Int32) = 4 ∧ ¬ (5 : Int32) = 6 ∧ ¬ (5 : Int32) = 7 ∧ ¬ (5 : Int32) = 8 ∧ ¬ (5 : Int32) = 9 ∧ ¬ (5 : Int32) = 10 ∧ ¬ (5 : Int32) = 11 ∧ ¬ (5 : Int32) = 12 ∧ ¬ (5 : Int32) = 13 ∧ ¬ (5 : Int32) = 14 ∧ ¬ (5 : Int32) = 15 := by decide
theorem sk_q6 : ¬ (6 : Int32) = 0 ∧ ¬ (6 : Int32) = 1 ∧ ¬ (6 : Int32) = 2 ∧ ¬ (6 : Int32) = 3 ∧ ¬ (6 : Int32) = 4 ∧ ¬ (6 : Int32) = 5 ∧ ¬ (6 : Int32) = 7 ∧ ¬ (6 : Int32) = 8 ∧ ¬ (6 : Int32) = 9 ∧ ¬ (6 : Int32) = 10 ∧ ¬ (6 : Int32) = 11 ∧ ¬ (6 : Int32) = 12 ∧ ¬ (6 : Int32) = 13 ∧ ¬ (6 : Int32) = 14 ∧ ¬ (6 : Int32) = 15 := by decide
theorem sk_q7 : ¬ (7 : Int32) = 0 ∧ ¬ (7 : Int32) = 1 ∧ ¬ (7 : Int32) = 2 ∧ ¬ (7 : Int32) = 3 ∧ ¬ (7 : Int32) = 4 ∧ ¬ (7 : Int32) = 5 ∧ ¬ (7 : Int32) = 6 ∧ ¬ (7 : Int32) = 8 ∧ ¬ (7 : Int32) = 9 ∧ ¬ (7 : Int32) = 10 ∧ ¬ (7 : Int32) = 11 ∧ ¬ (7 : Int32) = 12 ∧ ¬ (7 : Int32) = 13 ∧ ¬ (7 : Int32) = 14 ∧ ¬ (7 : Int32) = 15 := by decide
theorem sk_q8 : ¬ (8 : Int32) = 0 ∧ ¬ (8 : Int32) = 1 ∧ ¬ (8 : Int32) = 2 ∧ ¬ (8 : Int32) = 3 ∧ ¬ (8 : Int32) = 4 ∧ ¬ (8 : Int32) = 5 ∧ ¬ (8 : Int32) = 6 ∧ ¬ (8 : Int32) = 7 ∧ ¬ (8 : Int32) = 9 ∧ ¬ (8 : Int32) = 10 ∧ ¬ (8 : Int32) = 11 ∧ ¬ (8 : Int32) = 12 ∧ ¬ (8 : Int32) = 13 ∧ ¬ (8 : Int32) = 14 ∧ ¬ (8 : Int32) = 15 := by decide
theorem sk_q9 : ¬ (9 : Int32) = 0 ∧ ¬ (9 : Int32) = 1 ∧ ¬ (9 : Int32) = 2 ∧ ¬ (9 : Int32) = 3 ∧ ¬ (9 : Int32) = 4 ∧ ¬ (9 : Int32) = 5 ∧ ¬ (9 : Int32) = 6 ∧ ¬ (9 : Int32) = 7 ∧ ¬ (9 : Int32) = 8 ∧ ¬ (9 : Int32) = 10 ∧ ¬ (9 : Int32) = 11 ∧ ¬ (9 : Int32) = 12 ∧ ¬ (9 : Int32) = 13 ∧ ¬ (9 : Int32) = 14 ∧ ¬ (9 : Int32) = 15 := by decide
theorem sk_q10 : ¬ (10 : Int32) = 0 ∧ ¬ (10 : Int32) = 1 ∧ ¬ (10 : Int32) = 2 ∧ ¬ (10 : Int32) = 3 ∧ ¬ (10 : Int32) = 4 ∧ ¬ (10 : Int32) = 5 ∧ ¬ (10 : Int32) = 6 ∧ ¬ (10 : Int32) = 7 ∧ ¬ (10 : Int32) = 8 ∧ ¬ (10 : Int32) = 9 ∧ ¬ (10 : Int32) = 11 ∧ ¬ (10 : Int32) = 12 ∧ ¬ (10 : Int32) = 13 ∧ ¬ (10 : Int32) = 14 ∧ ¬ (10 : Int32) = 15 := by decide
theorem sk_q11 : ¬ (11 : Int32) = 0 ∧ ¬ (11 : Int32) = 1 ∧ ¬ (11 : Int32) = 2 ∧ ¬ (11 : Int32) = 3 ∧ ¬ (11 : Int32) = 4 ∧ ¬ (11 : Int32) = 5 ∧ ¬ (11 : Int32) = 6 ∧ ¬ (11 : Int32) = 7 ∧ ¬ (11 : Int32) = 8 ∧ ¬ (11 : Int32) = 9 ∧ ¬ (11 : Int32) = 10 ∧ ¬ (11 : Int32) = 12 ∧ ¬ (11 : Int32) = 13 ∧ ¬ (11 : Int32) = 14 ∧ ¬ (11 : Int32) = 15 := by decide
theorem sk_q12 : ¬ (12 : Int32) = 0 ∧ ¬ (12 : Int32) = 1 ∧ ¬ (12 : Int32) = 2 ∧ ¬ (12 : Int32) = 3 ∧ ¬ (12 : Int32) = 4 ∧ ¬ (12 : Int32) = 5 ∧ ¬ (12 : Int32) = 6 ∧ ¬ (12 : Int32) = 7 ∧ ¬ (12 : Int32) = 8 ∧ ¬ (12 : Int32) = 9 ∧ ¬ (12 : Int32) = 10 ∧ ¬ (12 : Int32) = 11 ∧ ¬ (12 : Int32) = 13 ∧ ¬ (12 : Int32) = 14 ∧ ¬ (12 : Int32) = 15 := by decide
theorem sk_q13 : ¬ (13 : Int32) = 0 ∧ ¬ (13 : Int32) = 1 ∧ ¬ (13 : Int32) = 2 ∧ ¬ (13 : Int32) = 3 ∧ ¬ (13 : Int32) = 4 ∧ ¬ (13 : Int32) = 5 ∧ ¬ (13 : Int32) = 6 ∧ ¬ (13 : Int32) = 7 ∧ ¬ (13 : Int32) = 8 ∧ ¬ (13 : Int32) = 9 ∧ ¬ (13 : Int32) = 10 ∧ ¬ (13 : Int32) = 11 ∧ ¬ (13 : Int32) = 12 ∧ ¬ (13 : Int32) = 14 ∧ ¬ (13 : Int32) = 15 := by decide
theorem sk_q14 : ¬ (14 : Int32) = 0 ∧ ¬ (14 : Int32) = 1 ∧ ¬ (14 : Int32) = 2 ∧ ¬ (14 : Int32) = 3 ∧ ¬ (14 : Int32) = 4 ∧ ¬ (14 : Int32) = 5 ∧ ¬ (14 : Int32) = 6 ∧ ¬ (14 : Int32) = 7 ∧ ¬ (14 : Int32) = 8 ∧ ¬ (14 : Int32) = 9 ∧ ¬ (14 : Int32) = 10 ∧ ¬ (14 : Int32) = 11 ∧ ¬ (14 : Int32) = 12 ∧ ¬ (14 : Int32) = 13 ∧ ¬ (14 : Int32) = 15 := by decide
theorem sk_q15 : ¬ (15 : Int32) = 0 ∧ ¬ (15 : Int32) = 1 ∧ ¬ (15 : Int32) = 2 ∧ ¬ (15 : Int32) = 3 ∧ ¬ (15 : Int32) = 4 ∧ ¬ (15 : Int32) = 5 ∧ ¬ (15 : Int32) = 6 ∧ ¬ (15 : Int32) = 7 ∧ ¬ (15 : Int32) = 8 ∧ ¬ (15 : Int32) = 9 ∧ ¬ (15 : Int32) = 10 ∧ ¬ (15 : Int32) = 11 ∧ ¬ (15 : Int32) = 12 ∧ ¬ (15 : Int32) = 13 ∧ ¬ (15 : Int32) = 14 := by decide
def sk_no (_ : Nat) : Prop := False
def sk_z (_ : Nat) : Nat := 0
-- ready order
def sk_at (rd : Nat → Int32) (b : Nat) (L : List Nat) : Prop := ∀ j x, L[j]? = some x → rd (b + j) = nI x
def sk_ROp (E : Nat → Prop) (rd rc st pl : Nat → Int32) (p : Nat) (L : List Nat) : Prop :=
  rc p = nI L.length ∧ sk_at rd (p * 3) L ∧ (∀ g, g ∈ L ↔ g / 3 = p ∧ st g = 1 ∧ ¬ E g) ∧ L.Pairwise (fun a b => (pl a).toInt < (pl b).toInt)
def sk_RO (P : Nat) (E : Nat → Prop) (B : Nat) (rd rc st pl : Nat → Int32) (sp : Int32) : Prop :=
  (0 ≤ sp.toInt ∧ sp.toInt ≤ B) ∧ (∀ g, g < 12 → st g = 1 → g % 3 < P ∧ (pl g).toInt ≤ sp.toInt) ∧
  ∀ p, p < 4 → ∃ L : List Nat, sk_ROp E rd rc st pl p L
theorem sk_nd {pl : Nat → Int32} {p : Nat} (L : List Nat) (hm : ∀ x, x ∈ L → x / 3 = p) (hp : L.Pairwise (fun a b => (pl a).toInt < (pl b).toInt)) : L.length ≤ 3 := by
  match L, hm, hp with
  | [], _, _ => exact Nat.zero_le _
  | [_], _, _ => show 1 ≤ 3; omega
  | [_, _], _, _ => show 2 ≤ 3; omega
  | [_, _, _], _, _ => show 3 ≤ 3; omega
  | a :: b :: c :: d :: l, hm, hp =>
    exfalso
    have ha := hm a (by simp)
    have hb := hm b (by simp)
    have hc := hm c (by simp)
    have hd := hm d (by simp)
    have q1 := (List.pairwise_cons.mp hp)
    have q2 := (List.pairwise_cons.mp q1.2)
    have q3 := (List.pairwise_cons.mp q2.2)
    have h1 := q1.1 b (by simp)
    have h2 := q1.1 c (by simp)
    have h3 := q1.1 d (by simp)
    have h4 := q2.1 c (by simp)
    have h5 := q2.1 d (by simp)
    have h6 := q3.1 d (by simp)
    have n1 : a ≠ b := fun e => by rw [e] at h1; omega
    have n2 : a ≠ c := fun e => by rw [e] at h2; omega
    have n3 : a ≠ d := fun e => by rw [e] at h3; omega
    have n4 : b ≠ c := fun e => by rw [e] at h4; omega
    have n5 : b ≠ d := fun e => by rw [e] at h5; omega
    have n6 : c ≠ d := fun e => by rw [e] at h6; omega
    omega
theorem sk_len {E : Nat → Prop} {rd rc st pl : Nat → Int32} {p : Nat} {L : List Nat} (h : sk_ROp E rd rc st pl p L) : L.length ≤ 3 :=
  sk_nd L (fun x hx => ((h.2.2.1 x).1 hx).1) h.2.2.2
theorem sk_jlt {L : List Nat} {j x : Nat} (h : L[j]? = some x) : j < L.length := (List.getElem?_eq_some_iff.mp h).1
theorem sk_RO_congr {P B : Nat} {E E' : Nat → Prop} {rd rc st pl : Nat → Int32} {sp : Int32} (h : sk_RO P E B rd rc st pl sp) (hE : ∀ g, g < 12 → st g = 1 → g % 3 < P → (E' g ↔ E g)) : sk_RO P E' B rd rc st pl sp := by
  refine ⟨h.1, h.2.1, fun p hp => ?_⟩
  obtain ⟨L, l1, l2, l3, l4⟩ := h.2.2 p hp
  refine ⟨L, l1, l2, fun g => ?_, l4⟩
  rw [l3 g]
  constructor
  · intro z
    exact ⟨z.1, z.2.1, fun e => z.2.2 ((hE g (by omega) z.2.1 (h.2.1 g (by omega) z.2.1).1).1 e)⟩
  · intro z
    exact ⟨z.1, z.2.1, fun e => z.2.2 ((hE g (by omega) z.2.1 (h.2.1 g (by omega) z.2.1).1).2 e)⟩
theorem sk_RO_mono {P B B' : Nat} {E : Nat → Prop} {rd rc st pl : Nat → Int32} {sp : Int32} (h : sk_RO P E B rd rc st pl sp) (hB : B ≤ B') : sk_RO P E B' rd rc st pl sp :=
  ⟨⟨h.1.1, by have := h.1.2; omega⟩, h.2⟩
theorem sk_RO_off {P B : Nat} {E E' : Nat → Prop} {rd rc st pl rd' : Nat → Int32} {sp : Int32} (h : sk_RO P E B rd rc st pl sp) {g : Nat} {v : Int32} (hv : v ≠ 1) (hE : ∀ x, x ≠ g → (E' x ↔ E x)) {L : List Nat} (hL : sk_ROp E rd rc st pl (g / 3) L)
    (ha : sk_at rd' (g / 3 * 3) (L.filter (fun x => x != g))) (ho : ∀ k, (k < g / 3 * 3 ∨ g / 3 * 3 + 3 ≤ k) → rd' k = rd k) :
    sk_RO P E' B rd' (upd rc (g / 3) (nI (L.filter (fun x => x != g)).length)) (upd st g v) pl sp := by
  obtain ⟨h1, h2, h3⟩ := h
  refine ⟨h1, ?_, ?_⟩
  · intro x hx hs
    by_cases e : x = g
    · rw [e, pk_us] at hs; exact absurd hs hv
    · rw [pk_un e] at hs; exact h2 x hx hs
  · intro p hp
    by_cases ep : p = g / 3
    · rw [ep]
      refine ⟨L.filter (fun x => x != g), pk_us, ha, ?_, hL.2.2.2.filter _⟩
      intro x
      rw [List.mem_filter, hL.2.2.1 x]
      by_cases e : x = g
      · rw [e, pk_us]
        constructor
        · intro z; exact absurd z.2 (by simp)
        · intro z; exact absurd z.2.1 hv
      · rw [pk_un e, hE x e]
        constructor
        · intro z; exact z.1
        · intro z; exact ⟨z, by simp [e]⟩
    · obtain ⟨M, m1, m2, m3, m4⟩ := h3 p hp
      have hl : M.length ≤ 3 := sk_nd M (fun x hx => ((m3 x).1 hx).1) m4
      refine ⟨M, by rw [pk_un ep]; exact m1, ?_, ?_, m4⟩
      · intro j x hj
        have hj3 := sk_jlt hj
        rw [ho _ (by omega)]; exact m2 j x hj
      · intro x
        rw [m3 x]
        by_cases e : x = g
        · rw [e]
          exact ⟨fun z => absurd z.1.symm ep, fun z => absurd z.1.symm ep⟩
        · rw [pk_un e, hE x e]
theorem sk_sp1 {sp : Int32} {B : Nat} (h0 : 0 ≤ sp.toInt) (h1 : sp.toInt ≤ B) (hB : B < 2 ^ 30) : (sp + 1).toInt = sp.toInt + 1 := by
  have e := Jvm.Kit.i32_add (x := sp) (y := 1) (by rw [sk_t1]; omega) (by rw [sk_t1]; omega)
  rw [sk_t1] at e
  exact e
theorem sk_RO_rdy {P B : Nat} {E E' : Nat → Prop} {rd rc st pl : Nat → Int32} {sp : Int32} (h : sk_RO P E B rd rc st pl sp) (hB : B < 2 ^ 30) {g : Nat} (hg : g < 12) (hq : g % 3 < P) (hs : st g ≠ 1) (hE : ∀ x, x ≠ g → (E' x ↔ E x)) (hEg : ¬ E' g) :
    ∃ n, n < 3 ∧ rc (g / 3) = nI n ∧ sk_RO P E' (B + 1) (upd rd (g / 3 * 3 + n) (nI g)) (upd rc (g / 3) (nI (n + 1))) (upd st g 1) (upd pl g (sp + 1)) (sp + 1) := by
  obtain ⟨h1, h2, h3⟩ := h
  have hsp := sk_sp1 h1.1 h1.2 hB
  obtain ⟨L, l1, l2, l3, l4⟩ := h3 (g / 3) (by omega)
  have hnm : g ∉ L := fun z => hs ((l3 g).1 z).2.1
  have hne : ∀ x, x ∈ L → x ≠ g := fun x hx e => hnm (by rw [← e]; exact hx)
  have pw : (L ++ [g]).Pairwise (fun a b => (upd pl g (sp + 1) a).toInt < (upd pl g (sp + 1) b).toInt) := by
    rw [List.pairwise_append]
    refine ⟨?_, by simp, ?_⟩
    · refine l4.imp_of_mem ?_
      intro a b ha hb hab
      rw [pk_un (hne a ha), pk_un (hne b hb)]; exact hab
    · intro a ha b hb
      have eb : b = g := by simpa using hb
      rw [eb, pk_us, pk_un (hne a ha), hsp]
      have h12 := ((l3 a).1 ha).1
      have := (h2 a (by omega) ((l3 a).1 ha).2.1).2
      omega
  have mm : ∀ x, x ∈ L ++ [g] ↔ x / 3 = g / 3 ∧ upd st g 1 x = 1 ∧ ¬ E' x := by
    intro x
    by_cases e : x = g
    · rw [e, pk_us]
      exact ⟨fun _ => ⟨rfl, rfl, hEg⟩, fun _ => by simp⟩
    · rw [pk_un e, hE x e, ← l3 x]
      simp [e]
  have hl : (L ++ [g]).length ≤ 3 := sk_nd _ (fun x hx => ((mm x).1 hx).1) pw
  have hl2 : (L ++ [g]).length = L.length + 1 := by simp
  have hn3 : L.length < 3 := by omega
  refine ⟨L.length, hn3, l1, ⟨by omega, by omega⟩, ?_, ?_⟩
  · intro x hx hs'
    by_cases e : x = g
    · rw [e, pk_us]; exact ⟨hq, Int.le_refl _⟩
    · rw [pk_un e] at hs' ⊢
      have := h2 x hx hs'
      exact ⟨this.1, by omega⟩
  · intro p hp
    by_cases ep : p = g / 3
    · rw [ep]
      refine ⟨L ++ [g], by rw [pk_us, hl2], ?_, mm, pw⟩
      intro j x hj
      rw [List.getElem?_append] at hj
      by_cases hjl : j < L.length
      · rw [if_pos hjl] at hj
        rw [pk_un (by omega)]
        exact l2 j x hj
      · rw [if_neg hjl] at hj
        have hj2 := sk_jlt hj
        have hj3 : j - L.length < 1 := hj2
        have ej : j = L.length := by omega
        rw [ej, Nat.sub_self] at hj
        have ex : x = g := by
          have : some g = some x := hj
          exact (Option.some.inj this).symm
        rw [ej, pk_us, ex]
    · obtain ⟨M, m1, m2, m3, m4⟩ := h3 p hp
      have hlM : M.length ≤ 3 := sk_nd M (fun x hx => ((m3 x).1 hx).1) m4
      have hgM : ∀ x, x ∈ M → x ≠ g := fun x hx e => ep (by rw [← e]; exact ((m3 x).1 hx).1.symm)
      refine ⟨M, by rw [pk_un ep]; exact m1, ?_, ?_, ?_⟩
      · intro j x hj
        have hj3 := sk_jlt hj
        rw [pk_un (by omega)]; exact m2 j x hj
      · intro x
        rw [m3 x]
        by_cases e : x = g
        · rw [e]
          exact ⟨fun z => absurd z.1.symm ep, fun z => absurd z.1.symm ep⟩
        · rw [pk_un e, hE x e]
      · refine m4.imp_of_mem ?_
        intro a b ha hb hab
        rw [pk_un (hgM a ha), pk_un (hgM b hb)]; exact hab
end
section
-- waits
def sk_WA (st xw yw : Nat → Int32) : Prop := ∀ g, g < 12 → ((st g = 3 ∨ st g = 4) → xw g = yw g) ∧ (¬ (st g = 3 ∨ st g = 4) → xw g = -1)
theorem sk_WA_at {st xw yw st' xw' yw' : Nat → Int32} (h : sk_WA st xw yw) (g : Nat) (he : ∀ x, x ≠ g → st' x = st x ∧ xw' x = xw x ∧ yw' x = yw x)
    (hg : ((st' g = 3 ∨ st' g = 4) → xw' g = yw' g) ∧ (¬ (st' g = 3 ∨ st' g = 4) → xw' g = -1)) : sk_WA st' xw' yw' := by
  intro x hx
  by_cases e : x = g
  · rw [e]; exact hg
  · obtain ⟨e1, e2, e3⟩ := he x e
    rw [e1, e2, e3]; exact h x hx
-- progress
def sk_PG (K : Nat) (st pg : Nat → Int32) : Prop :=
  (∀ g, g < 12 → ∃ n, n < K ∧ pg g = nI n ∧ (0 < n → st g = 1)) ∧ (∀ g h, g < 12 → h < 12 → g / 3 = h / 3 → pg g ≠ 0 → pg h ≠ 0 → g = h)
theorem sk_PG_at {K : Nat} {st pg st' pg' : Nat → Int32} (h : sk_PG K st pg) (hK : 0 < K) (g : Nat) (he : ∀ x, x ≠ g → st' x = st x ∧ pg' x = pg x) (h0 : pg' g = 0) : sk_PG K st' pg' := by
  constructor
  · intro x hx
    by_cases e : x = g
    · exact ⟨0, hK, by rw [e]; exact h0, fun z => absurd z (by decide)⟩
    · obtain ⟨e1, e2⟩ := he x e
      rw [e1, e2]; exact h.1 x hx
  · intro x y hx hy hxy h1 h2
    by_cases e : x = g
    · rw [e] at h1; exact absurd h0 h1
    · by_cases e' : y = g
      · rw [e'] at h2; exact absurd h0 h2
      · rw [(he x e).2] at h1
        rw [(he y e').2] at h2
        exact h.2 x y hx hy hxy h1 h2
theorem sk_PG_inc {K : Nat} {st pg : Nat → Int32} (h : sk_PG K st pg) {g : Nat} (hs : st g = 1) (hu : ∀ x, x < 12 → x / 3 = g / 3 → x ≠ g → pg x = 0) {n : Nat} (hn : n < K) : sk_PG K st (upd pg g (nI n)) := by
  constructor
  · intro x hx
    by_cases e : x = g
    · exact ⟨n, hn, by rw [e, pk_us], fun _ => by rw [e]; exact hs⟩
    · rw [pk_un e]; exact h.1 x hx
  · intro x y hx hy hxy h1 h2
    by_cases e : x = g
    · by_cases e' : y = g
      · rw [e, e']
      · rw [pk_un e'] at h2
        exact absurd (hu y hy (by rw [← hxy, e]) e') h2
    · by_cases e' : y = g
      · rw [pk_un e] at h1
        exact absurd (hu x hx (by rw [hxy, e']) e) h1
      · rw [pk_un e] at h1
        rw [pk_un e'] at h2
        exact h.2 x y hx hy hxy h1 h2
theorem sk_PG_0 {K : Nat} {st pg : Nat → Int32} (h : sk_PG K st pg) {g : Nat} (hg : g < 12) (hs : st g ≠ 1) : pg g = 0 := by
  obtain ⟨n, _, e, z⟩ := h.1 g hg
  by_cases hn : 0 < n
  · exact absurd (z hn) hs
  · have : n = 0 := by omega
    rw [e, this]; rfl
-- timers
def sk_TM (nt : Int32) (st dl wk : Nat → Int32) : Prop := ∀ g, g < 12 → (0 ≤ dl g → nt ≤ dl g) ∧ (st g = 2 → nt ≤ wk g)
theorem sk_TM_at {nt nt' : Int32} {st dl wk st' dl' wk' : Nat → Int32} (h : sk_TM nt st dl wk) (hn : nt' ≤ nt) (g : Nat) (he : ∀ x, x ≠ g → st' x = st x ∧ dl' x = dl x ∧ wk' x = wk x)
    (hg : (0 ≤ dl' g → nt' ≤ dl' g) ∧ (st' g = 2 → nt' ≤ wk' g)) : sk_TM nt' st' dl' wk' := by
  intro x hx
  by_cases e : x = g
  · rw [e]; exact hg
  · obtain ⟨e1, e2, e3⟩ := he x e
    rw [e1, e2, e3]
    exact ⟨fun z => Int32.le_trans hn ((h x hx).1 z), fun z => Int32.le_trans hn ((h x hx).2 z)⟩
-- the processes that are not there
def sk_QD (P : Nat) (st dl : Nat → Int32) : Prop := ∀ g, g < 12 → P ≤ g % 3 → st g = 0 ∧ dl g = -1
theorem sk_QD_at {P : Nat} {st dl st' dl' : Nat → Int32} (h : sk_QD P st dl) (g : Nat) (he : ∀ x, x ≠ g → st' x = st x ∧ dl' x = dl x) (hg : P ≤ g % 3 → st' g = 0 ∧ dl' g = -1) : sk_QD P st' dl' := by
  intro x hx hp
  by_cases e : x = g
  · rw [e] at hp ⊢; exact hg hp
  · obtain ⟨e1, e2⟩ := he x e
    rw [e1, e2]; exact h x hx hp
-- program counters
def sk_PC (pc : Nat → Int32) : Prop := ∀ g, g < 12 → ∃ n, n ≤ 16 ∧ pc g = nI n
theorem sk_PC_u {pc : Nat → Int32} (h : sk_PC pc) {g n : Nat} (hn : n ≤ 16) : sk_PC (upd pc g (nI n)) := by
  intro x hx
  by_cases e : x = g
  · exact ⟨n, hn, by rw [e, pk_us]⟩
  · rw [pk_un e]; exact h x hx
-- words
def sk_WD (me se np wd : Nat → Int32) : Prop := ∀ p, p < 4 → (∀ i, i < 8 → wd (p * 11 + i) = me (p * 8 + i)) ∧ (∀ s, s < 2 → wd (p * 11 + 8 + s) = se (p * 2 + s)) ∧ wd (p * 11 + 10) = np p
theorem sk_WD_me {me se np wd : Nat → Int32} (h : sk_WD me se np wd) {p i : Nat} (hi : i < 8) (v : Int32) : sk_WD (upd me (p * 8 + i) v) se np (upd wd (p * 11 + i) v) := by
  intro q hq
  obtain ⟨h1, h2, h3⟩ := h q hq
  refine ⟨fun j hj => ?_, fun s hs => ?_, ?_⟩
  · by_cases e : q = p ∧ j = i
    · rw [e.1, e.2, pk_us, pk_us]
    · rw [pk_un (by omega), pk_un (by omega)]; exact h1 j hj
  · rw [pk_un (by omega)]; exact h2 s hs
  · rw [pk_un (by omega)]; exact h3
theorem sk_WD_se {me se np wd : Nat → Int32} (h : sk_WD me se np wd) {p i : Nat} (hi : i < 2) (v : Int32) : sk_WD me (upd se (p * 2 + i) v) np (upd wd (p * 11 + 8 + i) v) := by
  intro q hq
  obtain ⟨h1, h2, h3⟩ := h q hq
  refine ⟨fun j hj => ?_, fun s hs => ?_, ?_⟩
  · rw [pk_un (by omega)]; exact h1 j hj
  · by_cases e : q = p ∧ s = i
    · rw [e.1, e.2, pk_us, pk_us]
    · rw [pk_un (by omega), pk_un (by omega)]; exact h2 s hs
  · rw [pk_un (by omega)]; exact h3
theorem sk_WD_np {me se np wd : Nat → Int32} (h : sk_WD me se np wd) {p : Nat} (v : Int32) : sk_WD me se (upd np p v) (upd wd (p * 11 + 10) v) := by
  intro q hq
  obtain ⟨h1, h2, h3⟩ := h q hq
  refine ⟨fun j hj => ?_, fun s hs => ?_, ?_⟩
  · rw [pk_un (by omega)]; exact h1 j hj
  · rw [pk_un (by omega)]; exact h2 s hs
  · by_cases e : q = p
    · rw [e, pk_us, pk_us]
    · rw [pk_un (by omega), pk_un e]; exact h3
-- rings: m of the n messages are drained already
def sk_ring (m : Nat) (sl hd ct : Nat → Int32) (s : Nat) (q qc : Nat → Int32) (c : Nat) : Prop :=
  ∃ h n, h < 4 ∧ n ≤ 4 ∧ m ≤ n ∧ hd s = nI ((h + m) % 4) ∧ ct s = nI (n - m) ∧ qc c = nI n ∧ ∀ i, m ≤ i → i < n → sl (s * 4 + (h + i) % 4) = q (c * 4 + i)
def sk_RG (M : Nat → Nat) (sl hd ct ot oc nn nc : Nat → Int32) : Prop := ∀ c, c < 6 → sk_ring (M c) sl hd ct (c * 2) ot oc c ∧ sk_ring 0 sl hd ct (c * 2 + 1) nn nc c
theorem sk_ring_fr {m : Nat} {sl hd ct sl' hd' ct' q qc q' qc' : Nat → Int32} {s c : Nat} (h : sk_ring m sl hd ct s q qc c) (h1 : ∀ j, j < 4 → sl' (s * 4 + j) = sl (s * 4 + j)) (h2 : hd' s = hd s) (h3 : ct' s = ct s)
    (h4 : ∀ j, j < 4 → q' (c * 4 + j) = q (c * 4 + j)) (h5 : qc' c = qc c) : sk_ring m sl' hd' ct' s q' qc' c := by
  obtain ⟨h, n, a1, a2, a3, a4, a5, a6, a7⟩ := h
  refine ⟨h, n, a1, a2, a3, by rw [h2]; exact a4, by rw [h3]; exact a5, by rw [h5]; exact a6, fun i hm hi => ?_⟩
  rw [h1 _ (Nat.mod_lt _ (by decide)), h4 i (by omega)]
  exact a7 i hm hi
theorem sk_ring_app {sl hd ct' q qc' : Nat → Int32} {s c h n : Nat} {v : Int32} (hh : h < 4) (hn : n < 4) (e1 : hd s = nI h) (hi : ∀ i, i < n → sl (s * 4 + (h + i) % 4) = q (c * 4 + i)) (e2 : ct' s = nI (n + 1)) (e3 : qc' c = nI (n + 1)) :
    sk_ring 0 (upd sl (s * 4 + (h + n) % 4) v) hd ct' s (upd q (c * 4 + n) v) qc' c := by
  refine ⟨h, n + 1, hh, by omega, by omega, by rw [e1, Nat.add_zero, Nat.mod_eq_of_lt hh], e2, e3, fun i _ hi' => ?_⟩
  by_cases e : i = n
  · rw [e, pk_us, pk_us]
  · rw [pk_un (by omega), pk_un (by omega)]
    exact hi i (by omega)
theorem sk_ring_0 {m : Nat} {sl hd ct ct' q' qc' : Nat → Int32} {s c : Nat} {q0 qc0 : Nat → Int32} (h : sk_ring m sl hd ct s q0 qc0 c) (e2 : ct' s = 0) (e3 : qc' c = 0) : sk_ring 0 sl hd ct' s q' qc' c := by
  obtain ⟨h, n, a1, a2, a3, a4, a5, a6, a7⟩ := h
  refine ⟨(h + m) % 4, 0, Nat.mod_lt _ (by decide), by omega, by omega, ?_, e2, e3, fun i _ hi => absurd hi (by omega)⟩
  rw [Nat.add_zero, Nat.mod_mod]; exact a4
def sk_R (P K : Nat) (E : Nat → Prop) (M : Nat → Nat) (B : Nat) (np : Nat → Int32) (nt : Int32) (me se rd rc pc st pg dl wk xw sl hd ct : Nat → Int32) (sp : Int32) (yw pl wd ot oc nn nc : Nat → Int32) : Prop :=
  sk_RO P E B rd rc st pl sp ∧ sk_WA st xw yw ∧ sk_PG K st pg ∧ sk_TM nt st dl wk ∧ sk_QD P st dl ∧ sk_PC pc ∧ sk_WD me se np wd ∧ sk_RG M sl hd ct ot oc nn nc
end
section
section S04
variable {de sd wn nt sp : Int32} {fo fl la me se np ac ta rd rc op ag cl pr bu aa pc st pg dl wk us xw ws so ds kd pa lo ar sl hd ct yw pl wd ot oc nn nc : Nat → Int32} {P K t F o N B : Nat} {E : Nat → Prop} {M : Nat → Nat}
theorem sk_unl_lp {g p len : Nat} (hp : p < 4) (hg : g < 12) (hl : len ≤ 3) : ∀ (Q A : List Nat) (i : Nat) (rd : Nat → Int32), A.length ≤ i → i + Q.length = len → sk_at rd (p * 3) A → sk_at rd (p * 3 + i) Q → (∀ x, x ∈ Q → x < 12) →
    ∃ rd', sk_at rd' (p * 3) (A ++ Q.filter (fun x => x != g)) ∧ (∀ k, (k < p * 3 ∨ p * 3 + 3 ≤ k) → rd' k = rd k) ∧ ∀ post : SX → Prop, post (nI P, de, nI K, sd, nI t, wn, nI F, nI o, nt, nI N, fo, fl, me, se, np, ac, ta, rd', upd rc p (nI (A ++ Q.filter (fun x => x != g)).length), op, ag, cl, pr, bu, aa, pc, st, pg, dl, wk, us, xw, ws, so, ds, kd, pa, lo, ar, sl, hd, ct) → ∀ n, Q.length < n → wX_unlist_17 post (nI g) (nI p) (nI len) (nI P) de (nI K) sd (nI t) wn (nI F) (nI o) nt (nI N) n (nI A.length) (nI i) fo fl me se np ac ta rd rc op ag cl pr bu aa pc st pg dl wk us xw ws so ds kd pa lo ar sl hd ct := by
  intro Q
  induction Q with
  | nil =>
    intro A i rd h1 h2 h3 h4 h5
    have e : A ++ List.filter (fun x => x != g) [] = A := by simp
    have h2' : i = len := by simpa using h2
    rw [e]
    refine ⟨rd, h3, fun _ _ => rfl, fun post h n hn => ?_⟩
    cases n with
    | zero => exact absurd hn (Nat.lt_irrefl _)
    | succ n => exact br_t (nI_le (by omega) (by omega)) (And.intro (vp_in_nI hp (by omega)) (nm_r (e' := upd rc p (nI A.length)) (by rw [nI_clamp (by omega)]) h))
  | cons x Q ih =>
    intro A i rd h1 h2 h3 h4 h5
    have hL : (x :: Q).length = Q.length + 1 := rfl
    have hx : x < 12 := h5 x (by simp)
    have e12 : vp_in (nI p * 3 + nI i) 12 := by rw [sk_m3, nI_add]; exact vp_in_nI (by omega) (by omega)
    have hx6 : rd (nI p * 3 + nI i).toNatClampNeg = nI x := by
      rw [sk_m3, nI_add, nI_clamp (by omega)]
      exact h4 0 x rfl
    have hnl : ¬ nI len ≤ nI i := nI_ge (by omega) (by omega)
    by_cases e : x = g
    · have hf : (x :: Q).filter (fun y => y != g) = Q.filter (fun y => y != g) := by simp [e]
      rw [hf]
      obtain ⟨rd', a1, a2, a3⟩ := ih A (i + 1) rd (by omega) (by omega) h3 (fun j y hj => by
        have := h4 (j + 1) y hj
        rw [← this]; exact congrArg rd (by omega)) (fun y hy => h5 y (List.mem_cons_of_mem _ hy))
      refine ⟨rd', a1, a2, fun post h n hn => ?_⟩
      cases n with
      | zero => exact absurd hn (Nat.not_lt_zero _)
      | succ n => exact br_f hnl (And.intro e12 (nm_r hx6 (br_t (by rw [e]) (nm_r (nI_1 i) (a3 post h n (by omega))))))
    · have hf : A ++ (x :: Q).filter (fun y => y != g) = (A ++ [x]) ++ Q.filter (fun y => y != g) := by simp [e]
      rw [hf]
      have hA : (A ++ [x]).length = A.length + 1 := by simp
      have e12' : vp_in (nI p * 3 + nI A.length) 12 := by rw [sk_m3, nI_add]; exact vp_in_nI (by omega) (by omega)
      obtain ⟨rd', a1, a2, a3⟩ := ih (A ++ [x]) (i + 1) (upd rd (p * 3 + A.length) (nI x)) (by omega) (by omega)
        (fun j y hj => by
          rw [List.getElem?_append] at hj
          by_cases hjl : j < A.length
          · rw [if_pos hjl] at hj
            rw [pk_un (by omega)]; exact h3 j y hj
          · rw [if_neg hjl] at hj
            have hj2 := sk_jlt hj
            have hj3 : j - A.length < 1 := hj2
            have ej : j = A.length := by omega
            rw [ej, Nat.sub_self] at hj
            have ex : x = y := Option.some.inj hj
            rw [ej, pk_us, ex])
        (fun j y hj => by
          have := h4 (j + 1) y hj
          rw [pk_un (by omega), ← this]; exact congrArg rd (by omega)) (fun y hy => h5 y (List.mem_cons_of_mem _ hy))
      rw [hA] at a3
      refine ⟨rd', a1, fun k hk => by rw [a2 k hk, pk_un (by omega)], fun post h n hn => ?_⟩
      cases n with
      | zero => exact absurd hn (Nat.not_lt_zero _)
      | succ n =>
        refine br_f hnl (And.intro e12 (nm_r hx6 (br_f (fun z => e ((nI_eq (by omega) (by omega)).1 z)) (And.intro e12' (nm_r (e' := upd rd (p * 3 + A.length) (nI x)) (by rw [sk_m3, nI_add, nI_clamp (by omega)]) (nm_r (nI_1 A.length) (nm_r (nI_1 i) ?_)))))))
        have hA' : (A ++ [x] ++ Q.filter (fun y => y != g)).length = (A ++ [x] ++ Q.filter (fun y => y != g)).length := rfl
        exact a3 post h n (by omega)
theorem sk_unl (h : sk_RO P E B rd rc st pl sp) {g : Nat} (hg : g < 12) : ∃ rd' rc', (∀ v E', v ≠ 1 → (∀ x, x ≠ g → (E' x ↔ E x)) → sk_RO P E' B rd' rc' (upd st g v) pl sp) ∧ (∀ post : SX → Prop, post (nI P, de, nI K, sd, nI t, wn, nI F, nI o, nt, nI N, fo, fl, me, se, np, ac, ta, rd', rc', op, ag, cl, pr, bu, aa, pc, st, pg, dl, wk, us, xw, ws, so, ds, kd, pa, lo, ar, sl, hd, ct) → wpX_unlist post (nI P, de, nI K, sd, nI t, wn, nI F, nI o, nt, nI N, fo, fl, me, se, np, ac, ta, rd, rc, op, ag, cl, pr, bu, aa, pc, st, pg, dl, wk, us, xw, ws, so, ds, kd, pa, lo, ar, sl, hd, ct) (nI g)) := by
  obtain ⟨L, hL⟩ := h.2.2 (g / 3) (by omega)
  have hl := sk_len hL
  obtain ⟨rd', a1, a2, a3⟩ := sk_unl_lp (P := P) (de := de) (K := K) (sd := sd) (t := t) (wn := wn) (F := F) (o := o) (nt := nt) (N := N) (fo := fo) (fl := fl) (me := me) (se := se) (np := np) (ac := ac) (ta := ta) (rc := rc) (op := op) (ag := ag) (cl := cl) (pr := pr) (bu := bu) (aa := aa) (pc := pc) (st := st) (pg := pg) (dl := dl) (wk := wk) (us := us) (xw := xw) (ws := ws) (so := so) (ds := ds) (kd := kd) (pa := pa) (lo := lo) (ar := ar) (sl := sl) (hd := hd) (ct := ct) (show g / 3 < 4 by omega) hg hl L [] 0 rd (Nat.le_refl _) (by simp) (fun j x hj => by simp at hj) hL.2.1 (fun x hx => by have := ((hL.2.2.1 x).1 hx).1; omega)
  refine ⟨rd', upd rc (g / 3) (nI (L.filter (fun x => x != g)).length), fun v E' hv hE => sk_RO_off h hv hE hL a1 a2, fun post hp => ?_⟩
  exact And.intro sk_30 (nm_r (sk_d3 (by omega)) (And.intro (vp_in_nI (by omega) (by omega)) (nm_r (e' := nI L.length) (by rw [nI_clamp (by omega)]; exact hL.1) ⟨L.length + 1, a3 post hp _ (Nat.lt_succ_self _)⟩)))
end S04
end
section
section S05
variable {de sd wn nt sp : Int32} {fo fl la me se np ac ta rd rc op ag cl pr bu aa pc st pg dl wk us xw ws so ds kd pa lo ar sl hd ct yw pl wd ot oc nn nc : Nat → Int32} {P K t F o N B : Nat} {E : Nat → Prop} {M : Nat → Nat}
theorem sk_stop (R : sk_R P K E M B np nt me se rd rc pc st pg dl wk xw sl hd ct sp yw pl wd ot oc nn nc) (hK : 0 < K) {g : Nat} (hg : g < 12) {E' : Nat → Prop} (hE : ∀ x, x ≠ g → (E' x ↔ E x)) : ∃ rd' rc', sk_R P K E' M B np nt me se rd' rc' pc (upd st g 0) (upd pg g 0) (upd dl g (-1)) wk (upd xw g (-1)) sl hd ct sp yw pl wd ot oc nn nc ∧
    (∀ post : SX → Prop, post (nI P, de, nI K, sd, nI t, wn, nI F, nI o, nt, nI N, fo, fl, me, se, np, ac, ta, rd', rc', op, ag, cl, pr, bu, aa, pc, upd st g 0, upd pg g 0, upd dl g (-1), wk, us, upd xw g (-1), ws, so, ds, kd, pa, lo, ar, sl, hd, ct) → wpX_stop post (nI P, de, nI K, sd, nI t, wn, nI F, nI o, nt, nI N, fo, fl, me, se, np, ac, ta, rd, rc, op, ag, cl, pr, bu, aa, pc, st, pg, dl, wk, us, xw, ws, so, ds, kd, pa, lo, ar, sl, hd, ct) (nI g)) ∧
    (∀ post : SY → Prop, post (nI P, de, nI K, nI t, nI F, wn, nI N, sp, sd, fo, la, op, ag, cl, pr, bu, aa, pc, upd st g 0, upd pg g 0, us, upd dl g (-1), wk, yw, ws, pl, wd, ac, ta, so, ds, kd, pa, lo, ar, ot, oc, nn, nc) → wpY_stop post (nI P, de, nI K, nI t, nI F, wn, nI N, sp, sd, fo, la, op, ag, cl, pr, bu, aa, pc, st, pg, us, dl, wk, yw, ws, pl, wd, ac, ta, so, ds, kd, pa, lo, ar, ot, oc, nn, nc) (nI g)) := by
  obtain ⟨r1, r2, r3, r4, r5, r6, r7, r8⟩ := R
  obtain ⟨rd', rc', u1, u2⟩ := sk_unl (P := P) (de := de) (K := K) (sd := sd) (t := t) (wn := wn) (F := F) (o := o) (nt := nt) (N := N) (fo := fo) (fl := fl) (me := me) (se := se) (np := np) (ac := ac) (ta := ta) (rd := rd) (rc := rc) (op := op) (ag := ag) (cl := cl) (pr := pr) (bu := bu) (aa := aa) (pc := pc) (st := st) (pg := pg) (dl := dl) (wk := wk) (us := us) (xw := xw) (ws := ws) (so := so) (ds := ds) (kd := kd) (pa := pa) (lo := lo) (ar := ar) (sl := sl) (hd := hd) (ct := ct) r1 hg
  have i12 : vp_in (nI g) 12 := vp_in_nI hg (by omega)
  have cg : (nI g).toNatClampNeg = g := nI_clamp (by omega)
  refine ⟨rd', rc', ⟨u1 0 E' (by decide) hE, ?_, ?_, ?_, ?_, r6, r7, r8⟩, fun post h => ?_, fun post h => ?_⟩
  · exact sk_WA_at r2 g (fun x e => ⟨pk_un e, pk_un e, rfl⟩) ⟨fun z => by rw [pk_us] at z; exact absurd z (by decide), fun _ => pk_us⟩
  · exact sk_PG_at r3 hK g (fun x e => ⟨pk_un e, pk_un e⟩) pk_us
  · exact sk_TM_at r4 (Int32.le_refl _) g (fun x e => ⟨pk_un e, pk_un e, rfl⟩) ⟨fun z => by rw [pk_us] at z; exact absurd z (by decide), fun z => by rw [pk_us] at z; exact absurd z (by decide)⟩
  · exact sk_QD_at r5 g (fun x e => ⟨pk_un e, pk_un e⟩) (fun _ => ⟨pk_us, pk_us⟩)
  · unfold wpX_stop
    refine u2 _ ?_
    simp only [cg, i12, false_implies, true_implies, not_false_eq_true, not_true_eq_false, true_and, and_true, forall_eq, eq_self, Int32.reduceLT, Int32.reduceLE]
    exact h
  · simp only [wpY_stop, cg, i12, false_implies, true_implies, not_false_eq_true, not_true_eq_false, true_and, and_true, forall_eq, eq_self, Int32.reduceLT, Int32.reduceLE]
    exact h
theorem sk_rdy (R : sk_R P K E M B np nt me se rd rc pc st pg dl wk xw sl hd ct sp yw pl wd ot oc nn nc) (hB : B < 2 ^ 30) (hK : 0 < K) {g : Nat} (hg : g < 12) (hq : g % 3 < P) (hs : st g ≠ 1) {E' : Nat → Prop} (hE : ∀ x, x ≠ g → (E' x ↔ E x)) (hEg : ¬ E' g) :
    ∃ rd' rc', sk_R P K E' M (B + 1) np nt me se rd' rc' pc (upd st g 1) pg dl wk (upd xw g (-1)) sl hd ct (sp + 1) yw (upd pl g (sp + 1)) wd ot oc nn nc ∧
    (∀ post : SX → Prop, post (nI P, de, nI K, sd, nI t, wn, nI F, nI o, nt, nI N, fo, fl, me, se, np, ac, ta, rd', rc', op, ag, cl, pr, bu, aa, pc, upd st g 1, pg, dl, wk, us, upd xw g (-1), ws, so, ds, kd, pa, lo, ar, sl, hd, ct) → wpX_makeReady post (nI P, de, nI K, sd, nI t, wn, nI F, nI o, nt, nI N, fo, fl, me, se, np, ac, ta, rd, rc, op, ag, cl, pr, bu, aa, pc, st, pg, dl, wk, us, xw, ws, so, ds, kd, pa, lo, ar, sl, hd, ct) (nI g)) ∧
    (∀ post : SY → Prop, post (nI P, de, nI K, nI t, nI F, wn, nI N, sp + 1, sd, fo, la, op, ag, cl, pr, bu, aa, pc, upd st g 1, pg, us, dl, wk, yw, ws, upd pl g (sp + 1), wd, ac, ta, so, ds, kd, pa, lo, ar, ot, oc, nn, nc) → wpY_ready post (nI P, de, nI K, nI t, nI F, wn, nI N, sp, sd, fo, la, op, ag, cl, pr, bu, aa, pc, st, pg, us, dl, wk, yw, ws, pl, wd, ac, ta, so, ds, kd, pa, lo, ar, ot, oc, nn, nc) (nI g)) := by
  obtain ⟨r1, r2, r3, r4, r5, r6, r7, r8⟩ := R
  obtain ⟨n, hn, hrc, u1⟩ := sk_RO_rdy r1 hB hg hq hs hE hEg
  have i12 : vp_in (nI g) 12 := vp_in_nI hg (by omega)
  have cg : (nI g).toNatClampNeg = g := nI_clamp (by omega)
  have ip : vp_in (nI (g / 3)) 4 := vp_in_nI (by omega) (by omega)
  have cp : (nI (g / 3)).toNatClampNeg = g / 3 := nI_clamp (by omega)
  have ix : vp_in (nI (g / 3 * 3 + n)) 12 := vp_in_nI (by omega) (by omega)
  have cx : (nI (g / 3 * 3 + n)).toNatClampNeg = g / 3 * 3 + n := nI_clamp (by omega)
  have nl : ¬ (3 : Int32) ≤ nI n := nI_ge (b := 3) hn (by decide)
  have p0 := sk_PG_0 r3 hg hs
  refine ⟨_, _, ⟨u1, ?_, ?_, ?_, ?_, r6, r7, r8⟩, fun post h => ?_, fun post h => ?_⟩
  · exact sk_WA_at r2 g (fun x e => ⟨pk_un e, pk_un e, rfl⟩) ⟨fun z => by rw [pk_us] at z; exact absurd z (by decide), fun _ => pk_us⟩
  · exact sk_PG_at r3 hK g (fun x e => ⟨pk_un e, rfl⟩) p0
  · exact sk_TM_at r4 (Int32.le_refl _) g (fun x e => ⟨pk_un e, rfl, rfl⟩) ⟨(r4 g hg).1, fun z => by rw [pk_us] at z; exact absurd z (by decide)⟩
  · exact sk_QD_at r5 g (fun x e => ⟨pk_un e, rfl⟩) (fun z => absurd hq (by omega))
  · simp only [wpX_makeReady, sk_30, sk_d3 (show g < 2 ^ 31 by omega), cg, i12, ip, cp, hrc, sk_m3, nI_add, nI_1, ix, cx, nl, false_implies, true_implies, not_false_eq_true, not_true_eq_false, true_and, and_true, forall_eq, eq_self, Int32.reduceLT, Int32.reduceLE]
    exact h
  · simp only [wpY_ready, cg, i12, false_implies, true_implies, not_false_eq_true, not_true_eq_false, true_and, and_true, forall_eq, eq_self, Int32.reduceLT, Int32.reduceLE]
    exact h
theorem sk_note (a : Int32) : ∃ nt', nt' ≤ nt ∧ nt' ≤ a ∧ ∀ post : SX → Prop, post (nI P, de, nI K, sd, nI t, wn, nI F, nI o, nt', nI N, fo, fl, me, se, np, ac, ta, rd, rc, op, ag, cl, pr, bu, aa, pc, st, pg, dl, wk, us, xw, ws, so, ds, kd, pa, lo, ar, sl, hd, ct) → wpX_noteTimer post (nI P, de, nI K, sd, nI t, wn, nI F, nI o, nt, nI N, fo, fl, me, se, np, ac, ta, rd, rc, op, ag, cl, pr, bu, aa, pc, st, pg, dl, wk, us, xw, ws, so, ds, kd, pa, lo, ar, sl, hd, ct) a := by
  by_cases h : nt ≤ a
  · exact ⟨nt, Int32.le_refl _, h, fun post hp => br_t h hp⟩
  · exact ⟨a, Int32.le_of_lt (Int32.not_le.mp h), Int32.le_refl _, fun post hp => br_f h hp⟩
theorem sk_rearm (R : sk_R P K E M B np nt me se rd rc pc st pg dl wk xw sl hd ct sp yw pl wd ot oc nn nc) {g : Nat} (hg : g < 12) (hq : g % 3 < P) : ∃ nt' dl', sk_R P K E M B np nt' me se rd rc pc st pg dl' wk xw sl hd ct sp yw pl wd ot oc nn nc ∧ ((bu g = 0 ∧ dl' = dl) ∨ (¬ bu g = 0 ∧ dl' = upd dl g (nI t + bu g))) ∧
    (∀ post : SX → Prop, post (nI P, de, nI K, sd, nI t, wn, nI F, nI o, nt', nI N, fo, fl, me, se, np, ac, ta, rd, rc, op, ag, cl, pr, bu, aa, pc, st, pg, dl', wk, us, xw, ws, so, ds, kd, pa, lo, ar, sl, hd, ct) → wpX_rearm post (nI P, de, nI K, sd, nI t, wn, nI F, nI o, nt, nI N, fo, fl, me, se, np, ac, ta, rd, rc, op, ag, cl, pr, bu, aa, pc, st, pg, dl, wk, us, xw, ws, so, ds, kd, pa, lo, ar, sl, hd, ct) (nI g)) := by
  obtain ⟨r1, r2, r3, r4, r5, r6, r7, r8⟩ := R
  have i12 : vp_in (nI g) 12 := vp_in_nI hg (by omega)
  have cg : (nI g).toNatClampNeg = g := nI_clamp (by omega)
  by_cases hb : bu g = 0
  · refine ⟨nt, dl, ⟨r1, r2, r3, r4, r5, r6, r7, r8⟩, Or.inl ⟨hb, rfl⟩, fun post h => ?_⟩
    simp only [wpX_rearm, cg, i12, hb, false_implies, true_implies, not_false_eq_true, not_true_eq_false, true_and, and_true, forall_eq, eq_self, Int32.reduceLT, Int32.reduceLE]
    exact h
  · obtain ⟨nt', n1, n2, n3⟩ := sk_note (P := P) (de := de) (K := K) (sd := sd) (t := t) (wn := wn) (F := F) (o := o) (nt := nt) (N := N) (fo := fo) (fl := fl) (me := me) (se := se) (np := np) (ac := ac) (ta := ta) (rd := rd) (rc := rc) (op := op) (ag := ag) (cl := cl) (pr := pr) (bu := bu) (aa := aa) (pc := pc) (st := st) (pg := pg) (dl := upd dl g (nI t + bu g)) (wk := wk) (us := us) (xw := xw) (ws := ws) (so := so) (ds := ds) (kd := kd) (pa := pa) (lo := lo) (ar := ar) (sl := sl) (hd := hd) (ct := ct) (nI t + bu g)
    refine ⟨nt', upd dl g (nI t + bu g), ⟨r1, r2, r3, ?_, ?_, r6, r7, r8⟩, Or.inr ⟨hb, rfl⟩, fun post h => ?_⟩
    · exact sk_TM_at r4 n1 g (fun x e => ⟨rfl, pk_un e, rfl⟩) ⟨fun _ => by rw [pk_us]; exact n2, fun z => Int32.le_trans n1 ((r4 g hg).2 z)⟩
    · exact sk_QD_at r5 g (fun x e => ⟨rfl, pk_un e⟩) (fun z => absurd hq (by omega))
    · simp only [wpX_rearm, cg, i12, hb, pk_us, false_implies, true_implies, not_false_eq_true, not_true_eq_false, true_and, and_true, forall_eq, eq_self, Int32.reduceLT, Int32.reduceLE]
      exact n3 _ h
end S05
end
section
def sk_Sim (P : Nat) (de : Int32) (K : Nat) (sd : Int32) (t : Nat) (wn : Int32) (F o N : Nat) (fo fl la np ac op ag cl pr bu so ds kd pa : Nat → Int32) (E : Nat → Prop) (M : Nat → Nat) (B : Nat) (WX : (SX → Prop) → Prop) (WY : (SY → Prop) → Prop) : Prop :=
  ∀ Q : Prop, (∀ (nt : Int32) (me se ta rd rc aa pc st pg dl wk us xw ws lo ar sl hd ct : Nat → Int32) (sp : Int32) (yw pl wd ot oc nn nc : Nat → Int32), sk_R P K E M B np nt me se rd rc pc st pg dl wk xw sl hd ct sp yw pl wd ot oc nn nc → (∀ post : SX → Prop, post (nI P, de, nI K, sd, nI t, wn, nI F, nI o, nt, nI N, fo, fl, me, se, np, ac, ta, rd, rc, op, ag, cl, pr, bu, aa, pc, st, pg, dl, wk, us, xw, ws, so, ds, kd, pa, lo, ar, sl, hd, ct) → WX post) → (∀ post : SY → Prop, post (nI P, de, nI K, nI t, nI F, wn, nI N, sp, sd, fo, la, op, ag, cl, pr, bu, aa, pc, st, pg, us, dl, wk, yw, ws, pl, wd, ac, ta, so, ds, kd, pa, lo, ar, ot, oc, nn, nc) → WY post) → Q) → Q
theorem sk_R_mono {P K B B' : Nat} {E : Nat → Prop} {M : Nat → Nat} {np : Nat → Int32} {nt : Int32} {me se rd rc pc st pg dl wk xw sl hd ct : Nat → Int32} {sp : Int32} {yw pl wd ot oc nn nc : Nat → Int32} (R : sk_R P K E M B np nt me se rd rc pc st pg dl wk xw sl hd ct sp yw pl wd ot oc nn nc) (h : B ≤ B') : sk_R P K E M B' np nt me se rd rc pc st pg dl wk xw sl hd ct sp yw pl wd ot oc nn nc :=
  ⟨sk_RO_mono R.1 h, R.2⟩
section S06
variable {de sd wn nt sp : Int32} {fo fl la me se np ac ta rd rc op ag cl pr bu aa pc st pg dl wk us xw ws so ds kd pa lo ar sl hd ct yw pl wd ot oc nn nc : Nat → Int32} {P K t F o N B : Nat} {E : Nat → Prop} {M : Nat → Nat}
theorem sk_begin (R : sk_R P K E M B np nt me se rd rc pc st pg dl wk xw sl hd ct sp yw pl wd ot oc nn nc) (hK : 0 < K) (hB : B < 2 ^ 30) {g : Nat} (hg : g < 12) (hq : g % 3 < P) {E' : Nat → Prop} (hE : ∀ x, x ≠ g → (E' x ↔ E x)) (hEg : ¬ E' g) (hcl : ∃ n, n ≤ 16 ∧ cl g = nI n) (hbu : ∃ n, n < 100 ∧ bu g = nI n) :
    ∃ nt' rd' rc' st' dl' xw' sp' pl', sk_R P K E' M (B + 1) np nt' me se rd' rc' (upd pc g 0) st' (upd pg g 0) dl' wk xw' sl hd ct sp' yw pl' wd ot oc nn nc ∧
    (∀ post : SX → Prop, post (nI P, de, nI K, sd, nI t, wn, nI F, nI o, nt', nI N, fo, fl, me, se, np, ac, ta, rd', rc', op, ag, cl, pr, bu, upd aa g 0, upd pc g 0, st', upd pg g 0, dl', wk, us, xw', ws, so, ds, kd, pa, lo, ar, sl, hd, ct) → wpX_begin post (nI P, de, nI K, sd, nI t, wn, nI F, nI o, nt, nI N, fo, fl, me, se, np, ac, ta, rd, rc, op, ag, cl, pr, bu, aa, pc, st, pg, dl, wk, us, xw, ws, so, ds, kd, pa, lo, ar, sl, hd, ct) (nI g)) ∧
    (∀ post : SY → Prop, post (nI P, de, nI K, nI t, nI F, wn, nI N, sp', sd, fo, la, op, ag, cl, pr, bu, upd aa g 0, upd pc g 0, st', upd pg g 0, us, dl', wk, yw, ws, pl', wd, ac, ta, so, ds, kd, pa, lo, ar, ot, oc, nn, nc) → wpY_begin post (nI P, de, nI K, nI t, nI F, wn, nI N, sp, sd, fo, la, op, ag, cl, pr, bu, aa, pc, st, pg, us, dl, wk, yw, ws, pl, wd, ac, ta, so, ds, kd, pa, lo, ar, ot, oc, nn, nc) (nI g)) := by
  obtain ⟨rd1, rc1, R1, x1, y1⟩ := sk_stop (P := P) (de := de) (K := K) (sd := sd) (t := t) (wn := wn) (F := F) (o := o) (nt := nt) (N := N) (fo := fo) (fl := fl) (me := me) (se := se) (np := np) (ac := ac) (ta := ta) (rd := rd) (rc := rc) (op := op) (ag := ag) (cl := cl) (pr := pr) (bu := bu) (aa := aa) (pc := pc) (st := st) (pg := pg) (dl := dl) (wk := wk) (us := us) (xw := xw) (ws := ws) (so := so) (ds := ds) (kd := kd) (pa := pa) (lo := lo) (ar := ar) (sl := sl) (hd := hd) (ct := ct) (sp := sp) (la := la) (yw := yw) (pl := pl) (wd := wd) (ot := ot) (oc := oc) (nn := nn) (nc := nc) (E := E) (M := M) (B := B) R hK hg (E' := E') hE
  have i12 : vp_in (nI g) 12 := vp_in_nI hg (by omega)
  have cg : (nI g).toNatClampNeg = g := nI_clamp (by omega)
  have hpc : sk_PC (upd pc g 0) := sk_PC_u (n := 0) R.2.2.2.2.2.1 (by omega)
  have R2 : sk_R P K E' M B np nt me se rd1 rc1 (upd pc g 0) (upd st g 0) (upd pg g 0) (upd dl g (-1)) wk (upd xw g (-1)) sl hd ct sp yw pl wd ot oc nn nc := ⟨R1.1, R1.2.1, R1.2.2.1, R1.2.2.2.1, R1.2.2.2.2.1, hpc, R1.2.2.2.2.2.2⟩
  obtain ⟨n, hn, en⟩ := hcl
  by_cases hn0 : n = 0
  · have c0 : cl g ≤ 0 := by rw [en, hn0]; exact Int32.le_refl _
    refine ⟨nt, rd1, rc1, upd st g 0, upd dl g (-1), upd xw g (-1), sp, pl, sk_R_mono R2 (by omega), fun post h => ?_, fun post h => ?_⟩
    · unfold wpX_begin
      refine x1 _ ?_
      simp only [cg, i12, c0, false_implies, true_implies, not_false_eq_true, not_true_eq_false, true_and, and_true, forall_eq, eq_self, Int32.reduceLT, Int32.reduceLE]
      exact h
    · unfold wpY_begin
      refine y1 _ ?_
      simp only [wY_begin_33, cg, i12, c0, false_implies, true_implies, not_false_eq_true, not_true_eq_false, true_and, and_true, forall_eq, eq_self, Int32.reduceLT, Int32.reduceLE]
      exact h
  · have c0 : ¬ cl g ≤ 0 := by rw [en]; exact nI_nle (by omega) (by omega)
    obtain ⟨rd2, rc2, R3, x2, y2⟩ := sk_rdy (P := P) (de := de) (K := K) (sd := sd) (t := t) (wn := wn) (F := F) (o := o) (nt := nt) (N := N) (fo := fo) (fl := fl) (me := me) (se := se) (np := np) (ac := ac) (ta := ta) (rd := rd1) (rc := rc1) (op := op) (ag := ag) (cl := cl) (pr := pr) (bu := bu) (aa := upd aa g 0) (pc := upd pc g 0) (st := upd st g 0) (pg := upd pg g 0) (dl := upd dl g (-1)) (wk := wk) (us := us) (xw := upd xw g (-1)) (ws := ws) (so := so) (ds := ds) (kd := kd) (pa := pa) (lo := lo) (ar := ar) (sl := sl) (hd := hd) (ct := ct) (sp := sp) (la := la) (yw := yw) (pl := pl) (wd := wd) (ot := ot) (oc := oc) (nn := nn) (nc := nc) (E := E') (M := M) (B := B) R2 hB hK hg hq (by rw [pk_us]; decide) (E' := E') (fun _ _ => Iff.rfl) hEg
    obtain ⟨nt3, dl3, R4, hd3, x3⟩ := sk_rearm (P := P) (de := de) (K := K) (sd := sd) (t := t) (wn := wn) (F := F) (o := o) (nt := nt) (N := N) (fo := fo) (fl := fl) (me := me) (se := se) (np := np) (ac := ac) (ta := ta) (rd := rd2) (rc := rc2) (op := op) (ag := ag) (cl := cl) (pr := pr) (bu := bu) (aa := upd aa g 0) (pc := upd pc g 0) (st := upd (upd st g 0) g 1) (pg := upd pg g 0) (dl := upd dl g (-1)) (wk := wk) (us := us) (xw := upd (upd xw g (-1)) g (-1)) (ws := ws) (so := so) (ds := ds) (kd := kd) (pa := pa) (lo := lo) (ar := ar) (sl := sl) (hd := hd) (ct := ct) (sp := sp + 1) (yw := yw) (pl := upd pl g (sp + 1)) (wd := wd) (ot := ot) (oc := oc) (nn := nn) (nc := nc) (E := E') (M := M) (B := B + 1) R3 hg hq
    refine ⟨nt3, rd2, rc2, upd (upd st g 0) g 1, dl3, upd (upd xw g (-1)) g (-1), sp + 1, upd pl g (sp + 1), R4, fun post h => ?_, fun post h => ?_⟩
    · unfold wpX_begin
      refine x1 _ ?_
      simp only [cg, i12, c0, false_implies, true_implies, not_false_eq_true, not_true_eq_false, true_and, and_true, forall_eq, eq_self, Int32.reduceLT, Int32.reduceLE]
      exact x2 _ (x3 _ h)
    · unfold wpY_begin
      refine y1 _ ?_
      simp only [cg, i12, c0, false_implies, true_implies, not_false_eq_true, not_true_eq_false, true_and, and_true, forall_eq, eq_self, Int32.reduceLT, Int32.reduceLE]
      refine y2 _ ?_
      obtain ⟨b, hb, eb⟩ := hbu
      rcases hd3 with ⟨hb0, hd⟩ | ⟨hb0, hd⟩
      · have b0 : bu g ≤ 0 := by rw [hb0]; exact Int32.le_refl _
        rw [hd] at h
        simp only [wY_begin_33, cg, i12, c0, b0, false_implies, true_implies, not_false_eq_true, not_true_eq_false, true_and, and_true, forall_eq, eq_self, Int32.reduceLT, Int32.reduceLE]
        exact h
      · have b0 : ¬ bu g ≤ 0 := by
          rw [eb]; rw [eb] at hb0
          exact nI_nle (by rcases Nat.eq_zero_or_pos b with z | z; · exact absurd (by rw [z]; rfl) hb0
                           · exact z) (by omega)
        rw [hd] at h
        simp only [wY_begin_33, cg, i12, c0, b0, false_implies, true_implies, not_false_eq_true, not_true_eq_false, true_and, and_true, forall_eq, eq_self, Int32.reduceLT, Int32.reduceLE]
        exact h
end S06
end
section
section S07
variable {de sd wn : Int32} {fo fl la np ac op ag cl pr bu so ds kd pa : Nat → Int32} {P K t F o N : Nat} {E : Nat → Prop} {M : Nat → Nat}
theorem sk_bgn (hP : P ≤ 3) (hK : 0 < K) (hcl : ∀ g, g < 12 → ∃ n, n ≤ 16 ∧ cl g = nI n) (hbu : ∀ g, g < 12 → ∃ n, n < 100 ∧ bu g = nI n) {p : Nat} (hp : p < 4) (Ef : Nat → Nat → Prop) (hE1 : ∀ q x, x ≠ p * 3 + q → (Ef (q + 1) x ↔ Ef q x)) (hE2 : ∀ q, ¬ Ef (q + 1) (p * 3 + q)) :
    ∀ (d q B : Nat) (nt : Int32) (me se ta rd rc aa pc st pg dl wk us xw ws lo ar sl hd ct : Nat → Int32) (sp : Int32) (yw pl wd ot oc nn nc : Nat → Int32), q + d = P → B + d < 2 ^ 30 → sk_R P K (Ef q) M B np nt me se rd rc pc st pg dl wk xw sl hd ct sp yw pl wd ot oc nn nc → ∀ Q : Prop, (∀ (nt1 : Int32) (me1 se1 ta1 rd1 rc1 aa1 pc1 st1 pg1 dl1 wk1 us1 xw1 ws1 lo1 ar1 sl1 hd1 ct1 : Nat → Int32) (sp1 : Int32) (yw1 pl1 wd1 ot1 oc1 nn1 nc1 : Nat → Int32), sk_R P K (Ef P) M (B + d) np nt1 me1 se1 rd1 rc1 pc1 st1 pg1 dl1 wk1 xw1 sl1 hd1 ct1 sp1 yw1 pl1 wd1 ot1 oc1 nn1 nc1 →
      (∀ post : SX → Prop, post (nI P, de, nI K, sd, nI t, wn, nI F, nI o, nt1, nI N, fo, fl, me1, se1, np, ac, ta1, rd1, rc1, op, ag, cl, pr, bu, aa1, pc1, st1, pg1, dl1, wk1, us1, xw1, ws1, so, ds, kd, pa, lo1, ar1, sl1, hd1, ct1) → ∀ n, d < n → wX_beginAll_2 post (nI p) n (nI q) (nI P) de (nI K) sd (nI t) wn (nI F) (nI o) nt (nI N) fo fl me se np ac ta rd rc op ag cl pr bu aa pc st pg dl wk us xw ws so ds kd pa lo ar sl hd ct) →
      (∀ (post : Int32 → SY → Prop) J, J (nI (p + 1)) (nI P) de (nI K) (nI t) (nI F) wn (nI N) sp1 sd fo la op ag cl pr bu aa1 pc1 st1 pg1 us1 dl1 wk1 yw1 ws1 pl1 wd1 ac ta1 so ds kd pa lo1 ar1 ot1 oc1 nn1 nc1 → ∀ n, d < n → wY_start_30 post J (nI p) n (nI q) (nI P) de (nI K) (nI t) (nI F) wn (nI N) sp sd fo la op ag cl pr bu aa pc st pg us dl wk yw ws pl wd ac ta so ds kd pa lo ar ot oc nn nc) →
      (∀ post : SY → Prop, post (nI P, de, nI K, nI t, nI F, wn, nI N, sp1, sd, fo, la, op, ag, cl, pr, bu, aa1, pc1, st1, pg1, us1, dl1, wk1, yw1, ws1, pl1, wd1, ac, upd ta1 (p * 3 + 2) (ta1 (p * 3 + 2) + 1), so, ds, kd, pa, lo1, ar1, ot1, oc1, nn1, nc1) → ∀ n, d < n → wY_restart_85 post (nI p) n (nI q) (nI P) de (nI K) (nI t) (nI F) wn (nI N) sp sd fo la op ag cl pr bu aa pc st pg us dl wk yw ws pl wd ac ta so ds kd pa lo ar ot oc nn nc) → Q) → Q := by
  intro d
  induction d with
  | zero =>
    intro q B nt me se ta rd rc aa pc st pg dl wk us xw ws lo ar sl hd ct sp yw pl wd ot oc nn nc hq hB R Q k
    have e : q = P := by omega
    have le : nI P ≤ nI q := nI_le (by omega) (by omega)
    rw [e] at R
    refine k nt me se ta rd rc aa pc st pg dl wk us xw ws lo ar sl hd ct sp yw pl wd ot oc nn nc R ?_ ?_ ?_
    · intro post h n hn
      cases n with
      | zero => exact absurd hn (Nat.lt_irrefl _)
      | succ n => exact br_t le h
    · intro post J h n hn
      cases n with
      | zero => exact absurd hn (Nat.lt_irrefl _)
      | succ n => exact br_t le (nm_r (nI_1 p) h)
    · intro post h n hn
      have i2 : vp_in (nI p * 3 + 2) 12 := by rw [sk_m3, sk_a2]; exact vp_in_nI (by omega) (by omega)
      have j2 : vp_in (3 * nI p + 2) 12 := by rw [sk_3m, sk_a2]; exact vp_in_nI (by omega) (by omega)
      have c2 : (3 * nI p + 2).toNatClampNeg = p * 3 + 2 := by rw [sk_3m, sk_a2]; exact nI_clamp (by omega)
      cases n with
      | zero => exact absurd hn (Nat.lt_irrefl _)
      | succ n => exact br_t le (And.intro j2 (And.intro j2 (nm_r (by rw [c2]) h)))
  | succ d ih =>
    intro q B nt me se ta rd rc aa pc st pg dl wk us xw ws lo ar sl hd ct sp yw pl wd ot oc nn nc hq hB R Q k
    have nle : ¬ nI P ≤ nI q := nI_ge (by omega) (by omega)
    have hg : p * 3 + q < 12 := by omega
    obtain ⟨nt2, rd2, rc2, st2, dl2, xw2, sp2, pl2, R2, x2, y2⟩ := sk_begin (P := P) (de := de) (K := K) (sd := sd) (t := t) (wn := wn) (F := F) (o := o) (nt := nt) (N := N) (fo := fo) (fl := fl) (me := me) (se := se) (np := np) (ac := ac) (ta := ta) (rd := rd) (rc := rc) (op := op) (ag := ag) (cl := cl) (pr := pr) (bu := bu) (aa := aa) (pc := pc) (st := st) (pg := pg) (dl := dl) (wk := wk) (us := us) (xw := xw) (ws := ws) (so := so) (ds := ds) (kd := kd) (pa := pa) (lo := lo) (ar := ar) (sl := sl) (hd := hd) (ct := ct) (sp := sp) (la := la) (yw := yw) (pl := pl) (wd := wd) (ot := ot) (oc := oc) (nn := nn) (nc := nc) (E := Ef q) (M := M) (B := B) R hK (by omega) hg (by omega) (E' := Ef (q + 1)) (hE1 q) (hE2 q) (hcl _ hg) (hbu _ hg)
    have eX : nI p * 3 + nI q = nI (p * 3 + q) := by rw [sk_m3, nI_add]
    have eY : 3 * nI p + nI q = nI (p * 3 + q) := by rw [sk_3m, nI_add]
    refine ih (q + 1) (B + 1) nt2 me se ta rd2 rc2 (upd aa (p * 3 + q) 0) (upd pc (p * 3 + q) 0) st2 (upd pg (p * 3 + q) 0) dl2 wk us xw2 ws lo ar sl hd ct sp2 yw pl2 wd ot oc nn nc (by omega) (by omega) R2 Q ?_
    intro nt1 me1 se1 ta1 rd1 rc1 aa1 pc1 st1 pg1 dl1 wk1 us1 xw1 ws1 lo1 ar1 sl1 hd1 ct1 sp1 yw1 pl1 wd1 ot1 oc1 nn1 nc1 R1 a b c
    refine k nt1 me1 se1 ta1 rd1 rc1 aa1 pc1 st1 pg1 dl1 wk1 us1 xw1 ws1 lo1 ar1 sl1 hd1 ct1 sp1 yw1 pl1 wd1 ot1 oc1 nn1 nc1 (sk_R_mono R1 (by omega)) ?_ ?_ ?_
    · intro post h n hn
      cases n with
      | zero => exact absurd hn (Nat.not_lt_zero _)
      | succ n =>
        refine br_f nle ?_
        rw [eX]
        refine x2 _ ?_
        exact nm_r (nI_1 q) (a post h n (by omega))
    · intro post J h n hn
      cases n with
      | zero => exact absurd hn (Nat.not_lt_zero _)
      | succ n =>
        refine br_f nle ?_
        rw [eY]
        refine y2 _ ?_
        exact nm_r (nI_1 q) (b post J h n (by omega))
    · intro post h n hn
      cases n with
      | zero => exact absurd hn (Nat.not_lt_zero _)
      | succ n =>
        refine br_f nle ?_
        rw [eY]
        refine y2 _ ?_
        exact nm_r (nI_1 q) (c post h n (by omega))
end S07
end
section
section S08
variable {de sd wn nt sp : Int32} {fo fl la me se np ac ta rd rc op ag cl pr bu aa pc st pg dl wk us xw ws so ds kd pa lo ar sl hd ct yw pl wd ot oc nn nc : Nat → Int32} {P K t F o N B : Nat} {E : Nat → Prop} {M : Nat → Nat}
theorem sk_halt (hP : P ≤ 3) (hK : 0 < K) {p : Nat} (hp : p < 4) : ∀ (d q : Nat) (rd rc st pg dl xw : Nat → Int32), q + d = P → sk_R P K E M B np nt me se rd rc pc st pg dl wk xw sl hd ct sp yw pl wd ot oc nn nc → ∃ rd' rc' st' pg' dl' xw', sk_R P K E M B np nt me se rd' rc' pc st' pg' dl' wk xw' sl hd ct sp yw pl wd ot oc nn nc ∧
    (∀ post : SX → Prop, post (nI P, de, nI K, sd, nI t, wn, nI F, nI o, nt, nI N, fo, fl, me, se, np, ac, ta, rd', rc', op, ag, cl, pr, bu, aa, pc, st', pg', dl', wk, us, xw', ws, so, ds, kd, pa, lo, ar, sl, hd, ct) → ∀ n, d < n → wX_haltPartition_2 post (nI p) n (nI q) (nI P) de (nI K) sd (nI t) wn (nI F) (nI o) nt (nI N) fo fl me se np ac ta rd rc op ag cl pr bu aa pc st pg dl wk us xw ws so ds kd pa lo ar sl hd ct) ∧
    (∀ post : SY → Prop, post (nI P, de, nI K, nI t, nI F, wn, nI N, sp, sd, fo, la, op, ag, cl, pr, bu, aa, pc, st', pg', us, dl', wk, yw, ws, pl, wd, ac, ta, so, ds, kd, pa, lo, ar, ot, oc, nn, nc) → ∀ n, d < n → wY_raise_68 post (nI p) n (nI q) (nI P) de (nI K) (nI t) (nI F) wn (nI N) sp sd fo la op ag cl pr bu aa pc st pg us dl wk yw ws pl wd ac ta so ds kd pa lo ar ot oc nn nc) := by
  intro d
  induction d with
  | zero =>
    intro q rd rc st pg dl xw hq R
    have le : nI P ≤ nI q := nI_le (by omega) (by omega)
    refine ⟨rd, rc, st, pg, dl, xw, R, fun post h n hn => ?_, fun post h n hn => ?_⟩
    · cases n with
      | zero => exact absurd hn (Nat.lt_irrefl _)
      | succ n => exact br_t le h
    · cases n with
      | zero => exact absurd hn (Nat.lt_irrefl _)
      | succ n => exact br_t le h
  | succ d ih =>
    intro q rd rc st pg dl xw hq R
    have nle : ¬ nI P ≤ nI q := nI_ge (by omega) (by omega)
    have eX : nI p * 3 + nI q = nI (p * 3 + q) := by rw [sk_m3, nI_add]
    have eY : 3 * nI p + nI q = nI (p * 3 + q) := by rw [sk_3m, nI_add]
    obtain ⟨rd1, rc1, R1, x1, y1⟩ := sk_stop (P := P) (de := de) (K := K) (sd := sd) (t := t) (wn := wn) (F := F) (o := o) (nt := nt) (N := N) (fo := fo) (fl := fl) (me := me) (se := se) (np := np) (ac := ac) (ta := ta) (rd := rd) (rc := rc) (op := op) (ag := ag) (cl := cl) (pr := pr) (bu := bu) (aa := aa) (pc := pc) (st := st) (pg := pg) (dl := dl) (wk := wk) (us := us) (xw := xw) (ws := ws) (so := so) (ds := ds) (kd := kd) (pa := pa) (lo := lo) (ar := ar) (sl := sl) (hd := hd) (ct := ct) (sp := sp) (la := la) (yw := yw) (pl := pl) (wd := wd) (ot := ot) (oc := oc) (nn := nn) (nc := nc) (E := E) (M := M) (B := B) R hK (show p * 3 + q < 12 by omega) (E' := E) (fun _ _ => Iff.rfl)
    obtain ⟨rd2, rc2, st2, pg2, dl2, xw2, R2, x2, y2⟩ := ih (q + 1) rd1 rc1 _ _ _ _ (by omega) R1
    refine ⟨rd2, rc2, st2, pg2, dl2, xw2, R2, fun post h n hn => ?_, fun post h n hn => ?_⟩
    · cases n with
      | zero => exact absurd hn (Nat.not_lt_zero _)
      | succ n =>
        refine br_f nle ?_
        rw [eX]
        refine x1 _ ?_
        exact nm_r (nI_1 q) (x2 post h n (by omega))
    · cases n with
      | zero => exact absurd hn (Nat.not_lt_zero _)
      | succ n =>
        refine br_f nle ?_
        rw [eY]
        refine y1 _ ?_
        exact nm_r (nI_1 q) (y2 post h n (by omega))
theorem sk_xmem {p : Nat} (hp : p < 4) : ∀ (d i : Nat) (me : Nat → Int32), i + d = 8 → ∃ me' : Nat → Int32, (∀ j, i ≤ j → j < 8 → me' (p * 8 + j) = 0) ∧ (∀ k, (k < p * 8 + i ∨ p * 8 + 8 ≤ k) → me' k = me k) ∧
    ∀ post : SX → Prop, (∀ f, wX_restartPartition_2 post (nI p) (nI P) de (nI K) sd (nI t) wn (nI F) (nI o) nt (nI N) (f + 1) (nI 8) fo fl me' se np ac ta rd rc op ag cl pr bu aa pc st pg dl wk us xw ws so ds kd pa lo ar sl hd ct) → ∀ n, d < n → wX_restartPartition_2 post (nI p) (nI P) de (nI K) sd (nI t) wn (nI F) (nI o) nt (nI N) n (nI i) fo fl me se np ac ta rd rc op ag cl pr bu aa pc st pg dl wk us xw ws so ds kd pa lo ar sl hd ct := by
  intro d
  induction d with
  | zero =>
    intro i me hi
    have e : i = 8 := by omega
    refine ⟨me, fun j h1 h2 => absurd h1 (by omega), fun _ _ => rfl, fun post h n hn => ?_⟩
    cases n with
    | zero => exact absurd hn (Nat.lt_irrefl _)
    | succ n => rw [e]; exact h n
  | succ d ih =>
    intro i me hi
    obtain ⟨me', a1, a2, a3⟩ := ih (i + 1) (upd me (p * 8 + i) 0) (by omega)
    refine ⟨me', fun j h1 h2 => ?_, fun k hk => ?_, fun post h n hn => ?_⟩
    · by_cases e : j = i
      · rw [e, a2 _ (by omega), pk_us]
      · exact a1 j (by omega) h2
    · rw [a2 k (by omega), pk_un (by omega)]
    · have i32 : vp_in (nI p * 8 + nI i) 32 := by rw [sk_m8, nI_add]; exact vp_in_nI (by omega) (by omega)
      cases n with
      | zero => exact absurd hn (Nat.not_lt_zero _)
      | succ n => exact br_f (nI_ge (b := 8) (by omega) (by decide)) (And.intro i32 (nm_r (e' := upd me (p * 8 + i) 0) (by rw [sk_m8, nI_add, nI_clamp (by omega)]) (nm_r (nI_1 i) (a3 post h n (by omega)))))
theorem sk_ymem {p : Nat} (hp : p < 4) : ∀ (d i : Nat) (wd : Nat → Int32), i + d = 10 → ∃ wd' : Nat → Int32, (∀ j, i ≤ j → j < 10 → wd' (p * 11 + j) = 0) ∧ (∀ k, (k < p * 11 + i ∨ p * 11 + 10 ≤ k) → wd' k = wd k) ∧
    ∀ post : SY → Prop, (∀ f, wY_restart_2 post (nI p) (nI P) de (nI K) (nI t) (nI F) wn (nI N) sp sd (f + 1) (nI 10) fo la op ag cl pr bu aa pc st pg us dl wk yw ws pl wd' ac ta so ds kd pa lo ar ot oc nn nc) → ∀ n, d < n → wY_restart_2 post (nI p) (nI P) de (nI K) (nI t) (nI F) wn (nI N) sp sd n (nI i) fo la op ag cl pr bu aa pc st pg us dl wk yw ws pl wd ac ta so ds kd pa lo ar ot oc nn nc := by
  intro d
  induction d with
  | zero =>
    intro i wd hi
    have e : i = 10 := by omega
    refine ⟨wd, fun j h1 h2 => absurd h1 (by omega), fun _ _ => rfl, fun post h n hn => ?_⟩
    cases n with
    | zero => exact absurd hn (Nat.lt_irrefl _)
    | succ n => rw [e]; exact h n
  | succ d ih =>
    intro i wd hi
    obtain ⟨wd', a1, a2, a3⟩ := ih (i + 1) (upd wd (p * 11 + i) 0) (by omega)
    refine ⟨wd', fun j h1 h2 => ?_, fun k hk => ?_, fun post h n hn => ?_⟩
    · by_cases e : j = i
      · rw [e, a2 _ (by omega), pk_us]
      · exact a1 j (by omega) h2
    · rw [a2 k (by omega), pk_un (by omega)]
    · have i44 : vp_in (11 * nI p + nI i) 44 := by rw [sk_11m, nI_add]; exact vp_in_nI (by omega) (by omega)
      cases n with
      | zero => exact absurd hn (Nat.not_lt_zero _)
      | succ n => exact br_f (nI_ge (b := 10) (by omega) (by decide)) (And.intro i44 (nm_r (e' := upd wd (p * 11 + i) 0) (by rw [sk_11m, nI_add, nI_clamp (by omega)]) (nm_r (nI_1 i) (a3 post h n (by omega)))))
theorem sk_WD_rs {wd' me' : Nat → Int32} (h : sk_WD me se np wd) {p : Nat} (hm1 : ∀ j, j < 8 → me' (p * 8 + j) = 0) (hm2 : ∀ k, (k < p * 8 ∨ p * 8 + 8 ≤ k) → me' k = me k) (hw1 : ∀ j, j < 10 → wd' (p * 11 + j) = 0) (hw2 : ∀ k, (k < p * 11 ∨ p * 11 + 10 ≤ k) → wd' k = wd k) :
    sk_WD me' (upd (upd se (p * 2) 0) (p * 2 + 1) 0) np wd' := by
  intro q hq
  obtain ⟨h1, h2, h3⟩ := h q hq
  by_cases e : q = p
  · rw [e] at h1 h2 h3 ⊢
    refine ⟨fun i hi => by rw [hw1 i (by omega), hm1 i hi], fun s hs => ?_, by rw [hw2 _ (by omega)]; exact h3⟩
    have a := hw1 (8 + s) (by omega)
    rw [← Nat.add_assoc] at a
    rw [a]
    by_cases es : s = 1
    · rw [es, pk_us]
    · have : s = 0 := by omega
      rw [this, pk_un (by omega), Nat.add_zero, pk_us]
  · refine ⟨fun i hi => by rw [hw2 _ (by omega), hm2 _ (by omega)]; exact h1 i hi, fun s hs => ?_, by rw [hw2 _ (by omega)]; exact h3⟩
    rw [hw2 _ (by omega), pk_un (by omega), pk_un (by omega)]; exact h2 s hs
theorem sk_RO_clr (h : sk_RO P sk_no B rd rc st pl sp) {p : Nat} : sk_RO P (fun x => x / 3 = p ∧ 0 ≤ x % 3) B rd (upd rc p 0) st pl sp := by
  refine ⟨h.1, h.2.1, fun q hq => ?_⟩
  by_cases e : q = p
  · rw [e]
    refine ⟨[], by rw [pk_us]; rfl, fun j x hj => by simp at hj, fun g => ?_, List.Pairwise.nil⟩
    constructor
    · intro z; exact absurd z (by simp)
    · intro z; exact absurd ⟨z.1, Nat.zero_le _⟩ z.2.2
  · obtain ⟨L, l1, l2, l3, l4⟩ := h.2.2 q hq
    refine ⟨L, by rw [pk_un e]; exact l1, l2, fun g => ?_, l4⟩
    rw [l3 g]
    constructor
    · intro z; exact ⟨z.1, z.2.1, fun w => e (by rw [← z.1, w.1])⟩
    · intro z; exact ⟨z.1, z.2.1, fun w => w⟩
end S08
end
section
section S09
variable {de sd wn nt sp : Int32} {fo fl la me se np ac ta rd rc op ag cl pr bu aa pc st pg dl wk us xw ws so ds kd pa lo ar sl hd ct yw pl wd ot oc nn nc : Nat → Int32} {P K t F o N B : Nat} {E : Nat → Prop} {M : Nat → Nat}
theorem sk_RG_out0 (h : sk_RG sk_z sl hd ct ot oc nn nc) {c : Nat} : sk_RG sk_z sl hd (upd ct (c * 2) 0) ot (upd oc c 0) nn nc := by
  intro x hx
  obtain ⟨h1, h2⟩ := h x hx
  refine ⟨?_, sk_ring_fr h2 (fun _ _ => rfl) rfl (pk_un (by omega)) (fun _ _ => rfl) rfl⟩
  by_cases e : x = c
  · rw [e] at h1 ⊢; exact sk_ring_0 h1 pk_us pk_us
  · exact sk_ring_fr h1 (fun _ _ => rfl) rfl (pk_un (by omega)) (fun _ _ => rfl) (pk_un e)
theorem sk_RG_in0 (h : sk_RG M sl hd ct ot oc nn nc) {c : Nat} : sk_RG M sl hd (upd ct (c * 2 + 1) 0) ot oc nn (upd nc c 0) := by
  intro x hx
  obtain ⟨h1, h2⟩ := h x hx
  refine ⟨sk_ring_fr h1 (fun _ _ => rfl) rfl (pk_un (by omega)) (fun _ _ => rfl) rfl, ?_⟩
  by_cases e : x = c
  · rw [e] at h2 ⊢; exact sk_ring_0 h2 pk_us pk_us
  · exact sk_ring_fr h2 (fun _ _ => rfl) rfl (pk_un (by omega)) (fun _ _ => rfl) (pk_un e)
theorem sk_rch1 {p c : Nat} (hc : c < 6) (h : sk_RG sk_z sl hd ct ot oc nn nc) : ∃ lo' ct' nc', sk_RG sk_z sl hd ct' ot oc nn nc' ∧
    (∀ (post : SX → Prop) J, J (nI (c + 1)) fo fl me se np ac ta rd rc op ag cl pr bu aa pc st pg dl wk us xw ws so ds kd pa lo' ar sl hd ct' → wX_restartPartition_77 post J (nI p) (nI c) (nI P) de (nI K) sd (nI t) wn (nI F) (nI o) nt (nI N) fo fl me se np ac ta rd rc op ag cl pr bu aa pc st pg dl wk us xw ws so ds kd pa lo ar sl hd ct) ∧
    (∀ (post : SY → Prop) J, J (nI (c + 1)) fo la op ag cl pr bu aa pc st pg us dl wk yw ws pl wd ac ta so ds kd pa lo' ar ot oc nn nc' → wY_restart_53 post J (nI p) (nI c) (nI P) de (nI K) (nI t) (nI F) wn (nI N) sp sd fo la op ag cl pr bu aa pc st pg us dl wk yw ws pl wd ac ta so ds kd pa lo ar ot oc nn nc) := by
  have i6 : vp_in (nI c) 6 := vp_in_nI hc (by omega)
  have cc : (nI c).toNatClampNeg = c := nI_clamp (by omega)
  have i1 : vp_in (nI (c * 2 + 1)) 12 := vp_in_nI (by omega) (by omega)
  have c1 : (nI (c * 2 + 1)).toNatClampNeg = c * 2 + 1 := nI_clamp (by omega)
  by_cases e : ds c = nI p
  · refine ⟨upd lo c 0, upd ct (c * 2 + 1) 0, upd nc c 0, sk_RG_in0 h, fun post J hJ => ?_, fun post J hJ => ?_⟩
    · simp only [wX_restartPartition_77, i6, cc, e, sk_m2, nI_1, i1, c1, false_implies, true_implies, not_false_eq_true, not_true_eq_false, true_and, and_true, forall_eq, eq_self, Int32.reduceLT, Int32.reduceLE]
      exact hJ
    · simp only [wY_restart_53, i6, cc, e, nI_1, false_implies, true_implies, not_false_eq_true, not_true_eq_false, true_and, and_true, forall_eq, eq_self, Int32.reduceLT, Int32.reduceLE]
      exact hJ
  · refine ⟨lo, ct, nc, h, fun post J hJ => ?_, fun post J hJ => ?_⟩
    · simp only [wX_restartPartition_77, i6, cc, e, nI_1, false_implies, true_implies, not_false_eq_true, not_true_eq_false, true_and, and_true, forall_eq, eq_self, Int32.reduceLT, Int32.reduceLE]
      exact hJ
    · simp only [wY_restart_53, i6, cc, e, nI_1, false_implies, true_implies, not_false_eq_true, not_true_eq_false, true_and, and_true, forall_eq, eq_self, Int32.reduceLT, Int32.reduceLE]
      exact hJ
theorem sk_rch {p : Nat} (hN : N ≤ 6) : ∀ (d c : Nat) (lo ct oc nc : Nat → Int32), c + d = N → sk_RG sk_z sl hd ct ot oc nn nc → ∃ lo' ct' oc' nc', sk_RG sk_z sl hd ct' ot oc' nn nc' ∧
    (∀ post : SX → Prop, (∀ f, wX_restartPartition_48 post (nI p) (nI P) de (nI K) sd (nI t) wn (nI F) (nI o) nt (nI N) (f + 1) (nI N) fo fl me se np ac ta rd rc op ag cl pr bu aa pc st pg dl wk us xw ws so ds kd pa lo' ar sl hd ct') → ∀ n, d < n → wX_restartPartition_48 post (nI p) (nI P) de (nI K) sd (nI t) wn (nI F) (nI o) nt (nI N) n (nI c) fo fl me se np ac ta rd rc op ag cl pr bu aa pc st pg dl wk us xw ws so ds kd pa lo ar sl hd ct) ∧
    (∀ post : SY → Prop, (∀ f, wY_restart_28 post (nI p) (nI P) de (nI K) (nI t) (nI F) wn (nI N) sp sd (f + 1) (nI N) fo la op ag cl pr bu aa pc st pg us dl wk yw ws pl wd ac ta so ds kd pa lo' ar ot oc' nn nc') → ∀ n, d < n → wY_restart_28 post (nI p) (nI P) de (nI K) (nI t) (nI F) wn (nI N) sp sd n (nI c) fo la op ag cl pr bu aa pc st pg us dl wk yw ws pl wd ac ta so ds kd pa lo ar ot oc nn nc) := by
  intro d
  induction d with
  | zero =>
    intro c lo ct oc nc hc h
    have e : c = N := by omega
    refine ⟨lo, ct, oc, nc, h, fun post h n hn => ?_, fun post h n hn => ?_⟩
    · cases n with
      | zero => exact absurd hn (Nat.lt_irrefl _)
      | succ n => rw [e]; exact h n
    · cases n with
      | zero => exact absurd hn (Nat.lt_irrefl _)
      | succ n => rw [e]; exact h n
  | succ d ih =>
    intro c lo ct oc nc hc h
    have nle : ¬ nI N ≤ nI c := nI_ge (by omega) (by omega)
    have i6 : vp_in (nI c) 6 := vp_in_nI (by omega) (by omega)
    have cc : (nI c).toNatClampNeg = c := nI_clamp (by omega)
    have i0 : vp_in (nI c * 2 + 0) 12 := by rw [sk_m2, sk_a0]; exact vp_in_nI (by omega) (by omega)
    have c0 : (nI c * 2 + 0).toNatClampNeg = c * 2 := by rw [sk_m2, sk_a0]; exact nI_clamp (by omega)
    by_cases e : so c = nI p
    · obtain ⟨lo1, ct1, nc1, h1, x1, y1⟩ := sk_rch1 (P := P) (de := de) (K := K) (sd := sd) (t := t) (wn := wn) (F := F) (o := o) (nt := nt) (N := N) (fo := fo) (fl := fl) (me := me) (se := se) (np := np) (ac := ac) (ta := ta) (rd := rd) (rc := rc) (op := op) (ag := ag) (cl := cl) (pr := pr) (bu := bu) (aa := aa) (pc := pc) (st := st) (pg := pg) (dl := dl) (wk := wk) (us := us) (xw := xw) (ws := ws) (so := so) (ds := ds) (kd := kd) (pa := pa) (lo := lo) (ar := ar) (sl := sl) (hd := hd) (ct := upd ct (c * 2) 0) (sp := sp) (la := la) (yw := yw) (pl := pl) (wd := wd) (ot := ot) (oc := upd oc c 0) (nn := nn) (nc := nc) (p := p) (show c < 6 by omega) (sk_RG_out0 h)
      obtain ⟨lo2, ct2, oc2, nc2, h2, x2, y2⟩ := ih (c + 1) lo1 ct1 (upd oc c 0) nc1 (by omega) h1
      refine ⟨lo2, ct2, oc2, nc2, h2, fun post hh n hn => ?_, fun post hh n hn => ?_⟩
      · cases n with
        | zero => exact absurd hn (Nat.not_lt_zero _)
        | succ n => exact br_f nle (And.intro i6 (br_t (by rw [cc]; exact e) (And.intro i0 (nm_r (by rw [c0]) (x1 post _ (x2 post hh n (by omega)))))))
      · cases n with
        | zero => exact absurd hn (Nat.not_lt_zero _)
        | succ n => exact br_f nle (And.intro i6 (br_t (by rw [cc]; exact e) (And.intro i6 (nm_r (by rw [cc]) (y1 post _ (y2 post hh n (by omega)))))))
    · obtain ⟨lo1, ct1, nc1, h1, x1, y1⟩ := sk_rch1 (P := P) (de := de) (K := K) (sd := sd) (t := t) (wn := wn) (F := F) (o := o) (nt := nt) (N := N) (fo := fo) (fl := fl) (me := me) (se := se) (np := np) (ac := ac) (ta := ta) (rd := rd) (rc := rc) (op := op) (ag := ag) (cl := cl) (pr := pr) (bu := bu) (aa := aa) (pc := pc) (st := st) (pg := pg) (dl := dl) (wk := wk) (us := us) (xw := xw) (ws := ws) (so := so) (ds := ds) (kd := kd) (pa := pa) (lo := lo) (ar := ar) (sl := sl) (hd := hd) (ct := ct) (sp := sp) (la := la) (yw := yw) (pl := pl) (wd := wd) (ot := ot) (oc := oc) (nn := nn) (nc := nc) (p := p) (show c < 6 by omega) h
      obtain ⟨lo2, ct2, oc2, nc2, h2, x2, y2⟩ := ih (c + 1) lo1 ct1 oc nc1 (by omega) h1
      refine ⟨lo2, ct2, oc2, nc2, h2, fun post hh n hn => ?_, fun post hh n hn => ?_⟩
      · cases n with
        | zero => exact absurd hn (Nat.not_lt_zero _)
        | succ n => exact br_f nle (And.intro i6 (br_f (by rw [cc]; exact e) (x1 post _ (x2 post hh n (by omega)))))
      · cases n with
        | zero => exact absurd hn (Nat.not_lt_zero _)
        | succ n => exact br_f nle (And.intro i6 (br_f (by rw [cc]; exact e) (y1 post _ (y2 post hh n (by omega)))))
theorem sk_restart (hP : P ≤ 3) (hK : 0 < K) (hN : N ≤ 6) (hcl : ∀ g, g < 12 → ∃ n, n ≤ 16 ∧ cl g = nI n) (hbu : ∀ g, g < 12 → ∃ n, n < 100 ∧ bu g = nI n) (R : sk_R P K sk_no sk_z B np nt me se rd rc pc st pg dl wk xw sl hd ct sp yw pl wd ot oc nn nc) (hB : B + 3 < 2 ^ 30) {p : Nat} (hp : p < 4) : sk_Sim P de K sd t wn F o N fo fl la np ac op ag cl pr bu so ds kd pa sk_no sk_z (B + 3) (fun post => wpX_restartPartition post (nI P, de, nI K, sd, nI t, wn, nI F, nI o, nt, nI N, fo, fl, me, se, np, ac, ta, rd, rc, op, ag, cl, pr, bu, aa, pc, st, pg, dl, wk, us, xw, ws, so, ds, kd, pa, lo, ar, sl, hd, ct) (nI p)) (fun post => wpY_restart post (nI P, de, nI K, nI t, nI F, wn, nI N, sp, sd, fo, la, op, ag, cl, pr, bu, aa, pc, st, pg, us, dl, wk, yw, ws, pl, wd, ac, ta, so, ds, kd, pa, lo, ar, ot, oc, nn, nc) (nI p)) := by
  intro Q k
  obtain ⟨r1, r2, r3, r4, r5, r6, r7, r8⟩ := R
  obtain ⟨me1, a1, a2, a3⟩ := sk_xmem (P := P) (de := de) (K := K) (sd := sd) (t := t) (wn := wn) (F := F) (o := o) (nt := nt) (N := N) (fo := fo) (fl := fl) (se := se) (np := np) (ac := ac) (ta := ta) (rd := rd) (rc := rc) (op := op) (ag := ag) (cl := cl) (pr := pr) (bu := bu) (aa := aa) (pc := pc) (st := st) (pg := pg) (dl := dl) (wk := wk) (us := us) (xw := xw) (ws := ws) (so := so) (ds := ds) (kd := kd) (pa := pa) (lo := lo) (ar := ar) (sl := sl) (hd := hd) (ct := ct) hp 8 0 me rfl
  obtain ⟨wd1, b1, b2, b3⟩ := sk_ymem (P := P) (de := de) (K := K) (t := t) (F := F) (wn := wn) (N := N) (sp := sp) (sd := sd) (fo := fo) (la := la) (op := op) (ag := ag) (cl := cl) (pr := pr) (bu := bu) (aa := aa) (pc := pc) (st := st) (pg := pg) (us := us) (dl := dl) (wk := wk) (yw := yw) (ws := ws) (pl := pl) (ac := ac) (ta := ta) (so := so) (ds := ds) (kd := kd) (pa := pa) (lo := lo) (ar := ar) (ot := ot) (oc := oc) (nn := nn) (nc := nc) hp 10 0 wd rfl
  obtain ⟨lo1, ct1, oc1, nc1, d1, d2, d3⟩ := sk_rch (P := P) (de := de) (K := K) (sd := sd) (t := t) (wn := wn) (F := F) (o := o) (nt := nt) (N := N) (fo := fo) (fl := fl) (me := me1) (se := upd (upd se (p * 2) 0) (p * 2 + 1) 0) (np := np) (ac := ac) (ta := ta) (rd := rd) (rc := rc) (op := op) (ag := ag) (cl := cl) (pr := pr) (bu := bu) (aa := aa) (pc := pc) (st := st) (pg := pg) (dl := dl) (wk := wk) (us := us) (xw := xw) (ws := ws) (so := so) (ds := ds) (kd := kd) (pa := pa) (ar := ar) (sl := sl) (hd := hd) (sp := sp) (la := la) (yw := yw) (pl := pl) (wd := wd1) (ot := ot) (nn := nn) (p := p) hN N 0 lo ct oc nc (by omega) r8
  have w1 := sk_WD_rs r7 (fun j hj => a1 j (by omega) hj) (fun k hk => a2 k (by omega)) (fun j hj => b1 j (by omega) hj) (fun k hk => b2 k (by omega))
  refine sk_bgn (de := de) (sd := sd) (wn := wn) (fo := fo) (fl := fl) (la := la) (np := np) (ac := ac) (op := op) (ag := ag) (cl := cl) (pr := pr) (bu := bu) (so := so) (ds := ds) (kd := kd) (pa := pa) (P := P) (K := K) (t := t) (F := F) (o := o) (N := N) (M := sk_z) hP hK hcl hbu hp (fun q x => x / 3 = p ∧ q ≤ x % 3) (fun q x hx => by constructor <;> (intro z; exact ⟨z.1, by omega⟩)) (fun q z => by omega) P 0 B
    nt me1 (upd (upd se (p * 2) 0) (p * 2 + 1) 0) ta rd (upd rc p 0) aa pc st pg dl wk us xw ws lo1 ar sl hd ct1 sp yw pl wd1 ot oc1 nn nc1 (by omega) (by omega) ⟨sk_RO_clr r1, r2, r3, r4, r5, r6, w1, d1⟩ Q ?_
  intro nt2 me2 se2 ta2 rd2 rc2 aa2 pc2 st2 pg2 dl2 wk2 us2 xw2 ws2 lo2 ar2 sl2 hd2 ct2 sp2 yw2 pl2 wd2 ot2 oc2 nn2 nc2 R2 x2 _ y2
  have i0 : vp_in (nI p * 2) 8 := by rw [sk_m2]; exact vp_in_nI (by omega) (by omega)
  have c0 : (nI p * 2).toNatClampNeg = p * 2 := by rw [sk_m2]; exact nI_clamp (by omega)
  have i1 : vp_in (nI p * 2 + 1) 8 := by rw [sk_m2, nI_1]; exact vp_in_nI (by omega) (by omega)
  have c1 : (nI p * 2 + 1).toNatClampNeg = p * 2 + 1 := by rw [sk_m2, nI_1]; exact nI_clamp (by omega)
  have i2 : vp_in (nI p * 3 + 2) 12 := by rw [sk_m3, sk_a2]; exact vp_in_nI (by omega) (by omega)
  have c2 : (nI p * 3 + 2).toNatClampNeg = p * 3 + 2 := by rw [sk_m3, sk_a2]; exact nI_clamp (by omega)
  have ip : vp_in (nI p) 4 := vp_in_nI hp (by omega)
  have cp : (nI p).toNatClampNeg = p := nI_clamp (by omega)
  have R3 : sk_R P K sk_no sk_z (B + 3) np nt2 me2 se2 rd2 rc2 pc2 st2 pg2 dl2 wk2 xw2 sl2 hd2 ct2 sp2 yw2 pl2 wd2 ot2 oc2 nn2 nc2 := ⟨sk_RO_mono (sk_RO_congr R2.1 (fun g _ _ h3 => ⟨fun z => z.elim, fun z => absurd z.2 (by omega)⟩)) (by omega), R2.2⟩
  refine k nt2 me2 se2 (upd ta2 (p * 3 + 2) (ta2 (p * 3 + 2) + 1)) rd2 rc2 aa2 pc2 st2 pg2 dl2 wk2 us2 xw2 ws2 lo2 ar2 sl2 hd2 ct2 sp2 yw2 pl2 wd2 ot2 oc2 nn2 nc2 R3 (fun post h => ?_) (fun post h => ?_)
  · refine ⟨9, a3 post (fun f => br_t (Int32.le_refl _) ?_) 9 (by omega)⟩
    refine And.intro i0 (nm_r (e' := upd se (p * 2) 0) (by rw [c0]) (And.intro i1 (nm_r (e' := upd (upd se (p * 2) 0) (p * 2 + 1) 0) (by rw [c1]) ⟨N + 1, d2 post (fun f => br_t (Int32.le_refl _) ?_) _ (Nat.lt_succ_self _)⟩)))
    refine And.intro ip (nm_r (e' := upd rc p 0) (by rw [cp]) ⟨P + 1, x2 _ ?_ _ (Nat.lt_succ_self _)⟩)
    exact And.intro i2 (And.intro i2 (nm_r (by rw [c2]) h))
  · refine ⟨11, b3 post (fun f => br_t (Int32.le_refl _) ?_) 11 (by omega)⟩
    refine ⟨N + 1, d3 post (fun f => br_t (Int32.le_refl _) ?_) _ (Nat.lt_succ_self _)⟩
    exact ⟨P + 1, y2 _ h _ (Nat.lt_succ_self _)⟩
end S09
end
section
section S10
variable {de sd wn nt sp : Int32} {fo fl la me se np ac ta rd rc op ag cl pr bu aa pc st pg dl wk us xw ws so ds kd pa lo ar sl hd ct yw pl wd ot oc nn nc : Nat → Int32} {P K t F o N B : Nat} {E : Nat → Prop} {M : Nat → Nat}
theorem sk_raise (hP : P ≤ 3) (hK : 0 < K) (hN : N ≤ 6) (hcl : ∀ g, g < 12 → ∃ n, n ≤ 16 ∧ cl g = nI n) (hbu : ∀ g, g < 12 → ∃ n, n < 100 ∧ bu g = nI n) (R : sk_R P K sk_no sk_z B np nt me se rd rc pc st pg dl wk xw sl hd ct sp yw pl wd ot oc nn nc) (hB : B + 3 < 2 ^ 30) {g k : Nat} (hg : g < 12) (hq : g % 3 < P) (hk : k < 2) : sk_Sim P de K sd t wn F o N fo fl la np ac op ag cl pr bu so ds kd pa sk_no sk_z (B + 3) (fun post => wpX_raise post (nI P, de, nI K, sd, nI t, wn, nI F, nI o, nt, nI N, fo, fl, me, se, np, ac, ta, rd, rc, op, ag, cl, pr, bu, aa, pc, st, pg, dl, wk, us, xw, ws, so, ds, kd, pa, lo, ar, sl, hd, ct) (nI g) (nI k)) (fun post => wpY_raise post (nI P, de, nI K, nI t, nI F, wn, nI N, sp, sd, fo, la, op, ag, cl, pr, bu, aa, pc, st, pg, us, dl, wk, yw, ws, pl, wd, ac, ta, so, ds, kd, pa, lo, ar, ot, oc, nn, nc) (nI (g / 3)) (nI g) (nI k)) := by
  intro Q kk
  have e1 : nI (g / 3) * 3 + nI k = nI (g / 3 * 3 + k) := by rw [sk_m3, nI_add]
  have e2 : 3 * nI (g / 3) + nI k = nI (g / 3 * 3 + k) := by rw [sk_3m, nI_add]
  have e3 : nI (g / 3) * 2 + nI k = nI (g / 3 * 2 + k) := by rw [sk_m2, nI_add]
  have e4 : 2 * nI (g / 3) + nI k = nI (g / 3 * 2 + k) := by rw [sk_2m, nI_add]
  have i1 : vp_in (nI (g / 3 * 3 + k)) 12 := vp_in_nI (by omega) (by omega)
  have c1 : (nI (g / 3 * 3 + k)).toNatClampNeg = g / 3 * 3 + k := nI_clamp (by omega)
  have i2 : vp_in (nI (g / 3 * 2 + k)) 8 := vp_in_nI (by omega) (by omega)
  have c2 : (nI (g / 3 * 2 + k)).toNatClampNeg = g / 3 * 2 + k := nI_clamp (by omega)
  have d3 := sk_d3 (show g < 2 ^ 31 by omega)
  by_cases h1 : ac (g / 3 * 2 + k) = 1
  · obtain ⟨rd1, rc1, R1, x1, y1⟩ := sk_stop (P := P) (de := de) (K := K) (sd := sd) (t := t) (wn := wn) (F := F) (o := o) (nt := nt) (N := N) (fo := fo) (fl := fl) (me := me) (se := se) (np := np) (ac := ac) (ta := upd ta (g / 3 * 3 + k) (ta (g / 3 * 3 + k) + 1)) (rd := rd) (rc := rc) (op := op) (ag := ag) (cl := cl) (pr := pr) (bu := bu) (aa := aa) (pc := pc) (st := st) (pg := pg) (dl := dl) (wk := wk) (us := us) (xw := xw) (ws := ws) (so := so) (ds := ds) (kd := kd) (pa := pa) (lo := lo) (ar := ar) (sl := sl) (hd := hd) (ct := ct) (sp := sp) (la := la) (yw := yw) (pl := pl) (wd := wd) (ot := ot) (oc := oc) (nn := nn) (nc := nc) (E := sk_no) (M := sk_z) (B := B) R hK hg (E' := sk_no) (fun _ _ => Iff.rfl)
    refine kk nt me se (upd ta (g / 3 * 3 + k) (ta (g / 3 * 3 + k) + 1)) rd1 rc1 aa pc (upd st g 0) (upd pg g 0) (upd dl g (-1)) wk us (upd xw g (-1)) ws lo ar sl hd ct sp yw pl wd ot oc nn nc (sk_R_mono R1 (by omega)) (fun post h => ?_) (fun post h => ?_)
    · simp only [wpX_raise, d3, e1, e3, i1, c1, i2, c2, h1, sk_30, sk_q1, false_implies, true_implies, not_false_eq_true, not_true_eq_false, true_and, and_true, forall_eq, eq_self, Int32.reduceLT, Int32.reduceLE]
      exact x1 _ h
    · simp only [wpY_raise, e2, e4, i1, c1, i2, c2, h1, sk_q1, false_implies, true_implies, not_false_eq_true, not_true_eq_false, true_and, and_true, forall_eq, eq_self, Int32.reduceLT, Int32.reduceLE]
      refine y1 _ ?_
      simp only [wY_raise_37, wY_raise_48, wY_raise_59, sk_q1, false_implies, true_implies, not_false_eq_true, not_true_eq_false, true_and, and_true, forall_eq, eq_self, Int32.reduceLT, Int32.reduceLE]
      exact h
  by_cases h2 : ac (g / 3 * 2 + k) = 2
  · obtain ⟨nt1, rd1, rc1, st1, dl1, xw1, sp1, pl1, R1, x1, y1⟩ := sk_begin (P := P) (de := de) (K := K) (sd := sd) (t := t) (wn := wn) (F := F) (o := o) (nt := nt) (N := N) (fo := fo) (fl := fl) (me := me) (se := se) (np := np) (ac := ac) (ta := upd ta (g / 3 * 3 + k) (ta (g / 3 * 3 + k) + 1)) (rd := rd) (rc := rc) (op := op) (ag := ag) (cl := cl) (pr := pr) (bu := bu) (aa := aa) (pc := pc) (st := st) (pg := pg) (dl := dl) (wk := wk) (us := us) (xw := xw) (ws := ws) (so := so) (ds := ds) (kd := kd) (pa := pa) (lo := lo) (ar := ar) (sl := sl) (hd := hd) (ct := ct) (sp := sp) (la := la) (yw := yw) (pl := pl) (wd := wd) (ot := ot) (oc := oc) (nn := nn) (nc := nc) (E := sk_no) (M := sk_z) (B := B) R hK (by omega) hg hq (E' := sk_no) (fun _ _ => Iff.rfl) (fun z => z) (hcl g hg) (hbu g hg)
    refine kk nt1 me se (upd ta (g / 3 * 3 + k) (ta (g / 3 * 3 + k) + 1)) rd1 rc1 (upd aa g 0) (upd pc g 0) st1 (upd pg g 0) dl1 wk us xw1 ws lo ar sl hd ct sp1 yw pl1 wd ot oc nn nc (sk_R_mono R1 (by omega)) (fun post h => ?_) (fun post h => ?_)
    · simp only [wpX_raise, d3, e1, e3, i1, c1, i2, c2, h2, sk_30, sk_q2, false_implies, true_implies, not_false_eq_true, not_true_eq_false, true_and, and_true, forall_eq, eq_self, Int32.reduceLT, Int32.reduceLE]
      exact x1 _ h
    · simp only [wpY_raise, wY_raise_37, e2, e4, i1, c1, i2, c2, h2, sk_q2, false_implies, true_implies, not_false_eq_true, not_true_eq_false, true_and, and_true, forall_eq, eq_self, Int32.reduceLT, Int32.reduceLE]
      refine y1 _ ?_
      simp only [wY_raise_48, wY_raise_59, sk_q2, false_implies, true_implies, not_false_eq_true, not_true_eq_false, true_and, and_true, forall_eq, eq_self, Int32.reduceLT, Int32.reduceLE]
      exact h
  by_cases h3 : ac (g / 3 * 2 + k) = 3
  · refine sk_restart (P := P) (de := de) (K := K) (sd := sd) (t := t) (wn := wn) (F := F) (o := o) (nt := nt) (N := N) (fo := fo) (fl := fl) (me := me) (se := se) (np := np) (ac := ac) (ta := upd ta (g / 3 * 3 + k) (ta (g / 3 * 3 + k) + 1)) (rd := rd) (rc := rc) (op := op) (ag := ag) (cl := cl) (pr := pr) (bu := bu) (aa := aa) (pc := pc) (st := st) (pg := pg) (dl := dl) (wk := wk) (us := us) (xw := xw) (ws := ws) (so := so) (ds := ds) (kd := kd) (pa := pa) (lo := lo) (ar := ar) (sl := sl) (hd := hd) (ct := ct) (sp := sp) (la := la) (yw := yw) (pl := pl) (wd := wd) (ot := ot) (oc := oc) (nn := nn) (nc := nc) (B := B) hP hK hN hcl hbu R hB (show g / 3 < 4 by omega) Q ?_
    intro nt1 me1 se1 ta1 rd1 rc1 aa1 pc1 st1 pg1 dl1 wk1 us1 xw1 ws1 lo1 ar1 sl1 hd1 ct1 sp1 yw1 pl1 wd1 ot1 oc1 nn1 nc1 R1 x1 y1
    refine kk nt1 me1 se1 ta1 rd1 rc1 aa1 pc1 st1 pg1 dl1 wk1 us1 xw1 ws1 lo1 ar1 sl1 hd1 ct1 sp1 yw1 pl1 wd1 ot1 oc1 nn1 nc1 R1 (fun post h => ?_) (fun post h => ?_)
    · simp only [wpX_raise, d3, e1, e3, i1, c1, i2, c2, h3, sk_30, sk_q3, false_implies, true_implies, not_false_eq_true, not_true_eq_false, true_and, and_true, forall_eq, eq_self, Int32.reduceLT, Int32.reduceLE]
      exact x1 _ h
    · simp only [wpY_raise, wY_raise_37, wY_raise_48, e2, e4, i1, c1, i2, c2, h3, sk_q3, false_implies, true_implies, not_false_eq_true, not_true_eq_false, true_and, and_true, forall_eq, eq_self, Int32.reduceLT, Int32.reduceLE]
      refine y1 _ ?_
      simp only [wY_raise_59, sk_q3, false_implies, true_implies, not_false_eq_true, not_true_eq_false, true_and, and_true, forall_eq, eq_self, Int32.reduceLT, Int32.reduceLE]
      exact h
  by_cases h4 : ac (g / 3 * 2 + k) = 4
  · obtain ⟨rd1, rc1, st1, pg1, dl1, xw1, R1, x1, y1⟩ := sk_halt (P := P) (de := de) (K := K) (sd := sd) (t := t) (wn := wn) (F := F) (o := o) (nt := nt) (N := N) (fo := fo) (fl := fl) (me := me) (se := se) (np := np) (ac := ac) (ta := upd ta (g / 3 * 3 + k) (ta (g / 3 * 3 + k) + 1)) (op := op) (ag := ag) (cl := cl) (pr := pr) (bu := bu) (aa := aa) (pc := pc) (wk := wk) (us := us) (ws := ws) (so := so) (ds := ds) (kd := kd) (pa := pa) (lo := lo) (ar := ar) (sl := sl) (hd := hd) (ct := ct) (sp := sp) (la := la) (yw := yw) (pl := pl) (wd := wd) (ot := ot) (oc := oc) (nn := nn) (nc := nc) (E := sk_no) (M := sk_z) (B := B) hP hK (show g / 3 < 4 by omega) P 0 rd rc st pg dl xw (by omega) R
    refine kk nt me se (upd ta (g / 3 * 3 + k) (ta (g / 3 * 3 + k) + 1)) rd1 rc1 aa pc st1 pg1 dl1 wk us xw1 ws lo ar sl hd ct sp yw pl wd ot oc nn nc (sk_R_mono R1 (by omega)) (fun post h => ?_) (fun post h => ?_)
    · simp only [wpX_raise, d3, e1, e3, i1, c1, i2, c2, h4, sk_30, sk_q4, false_implies, true_implies, not_false_eq_true, not_true_eq_false, true_and, and_true, forall_eq, eq_self, Int32.reduceLT, Int32.reduceLE]
      exact ⟨P + 1, x1 _ h _ (Nat.lt_succ_self _)⟩
    · simp only [wpY_raise, wY_raise_37, wY_raise_48, wY_raise_59, e2, e4, i1, c1, i2, c2, h4, sk_q4, false_implies, true_implies, not_false_eq_true, not_true_eq_false, true_and, and_true, forall_eq, eq_self, Int32.reduceLT, Int32.reduceLE]
      exact ⟨P + 1, y1 _ h _ (Nat.lt_succ_self _)⟩
  · refine kk nt me se (upd ta (g / 3 * 3 + k) (ta (g / 3 * 3 + k) + 1)) rd rc aa pc st pg dl wk us xw ws lo ar sl hd ct sp yw pl wd ot oc nn nc (sk_R_mono R (by omega)) (fun post h => ?_) (fun post h => ?_)
    · by_cases q1 : ac (g / 3 * 2 + k) < 1
      · simp only [wpX_raise, d3, e1, e3, i1, c1, i2, c2, q1, sk_30, false_implies, true_implies, not_false_eq_true, not_true_eq_false, true_and, and_true, forall_eq, eq_self, Int32.reduceLT, Int32.reduceLE]
        exact h
      · by_cases q2 : 4 < ac (g / 3 * 2 + k)
        · simp only [wpX_raise, d3, e1, e3, i1, c1, i2, c2, q1, q2, sk_30, false_implies, true_implies, not_false_eq_true, not_true_eq_false, true_and, and_true, forall_eq, eq_self, Int32.reduceLT, Int32.reduceLE]
          exact h
        · simp only [wpX_raise, d3, e1, e3, i1, c1, i2, c2, q1, q2, h1, h2, h3, h4, sk_30, false_implies, true_implies, not_false_eq_true, not_true_eq_false, true_and, and_true, forall_eq, eq_self, Int32.reduceLT, Int32.reduceLE]
    · simp only [wpY_raise, wY_raise_37, wY_raise_48, wY_raise_59, e2, e4, i1, c1, i2, c2, h1, h2, h3, h4, false_implies, true_implies, not_false_eq_true, not_true_eq_false, true_and, and_true, forall_eq, eq_self, Int32.reduceLT, Int32.reduceLE]
      exact h
end S10
end
section
section S11
variable {de sd wn nt sp : Int32} {fo fl la me se np ac ta rd rc op ag cl pr bu aa pc st pg dl wk us xw ws so ds kd pa lo ar sl hd ct yw pl wd ot oc nn nc : Nat → Int32} {P K t F o N B : Nat} {E : Nat → Prop} {M : Nat → Nat}
theorem sk_wake (hK : 0 < K) : ∀ (d i B : Nat) (rd rc st xw : Nat → Int32) (sp : Int32) (pl : Nat → Int32), i + d = 12 → B + d < 2 ^ 30 → sk_R P K sk_no M B np nt me se rd rc pc st pg dl wk xw sl hd ct sp yw pl wd ot oc nn nc → ∃ rd' rc' st' xw' sp' pl', sk_R P K sk_no M (B + d) np nt me se rd' rc' pc st' pg dl wk xw' sl hd ct sp' yw pl' wd ot oc nn nc ∧
    (∀ post : SX → Prop, post (nI P, de, nI K, sd, nI t, wn, nI F, nI o, nt, nI N, fo, fl, me, se, np, ac, ta, rd', rc', op, ag, cl, pr, bu, aa, pc, st', pg, dl, wk, us, xw', ws, so, ds, kd, pa, lo, ar, sl, hd, ct) → ∀ n, d < n → wX_wakeDelayed_2 post n (nI i) (nI P) de (nI K) sd (nI t) wn (nI F) (nI o) nt (nI N) fo fl me se np ac ta rd rc op ag cl pr bu aa pc st pg dl wk us xw ws so ds kd pa lo ar sl hd ct) ∧
    (∀ post : SY → Prop, (∀ f, wY_tick_2 post (f + 1) (nI 12) (nI P) de (nI K) (nI t) (nI F) wn (nI N) sp' sd fo la op ag cl pr bu aa pc st' pg us dl wk yw ws pl' wd ac ta so ds kd pa lo ar ot oc nn nc) → ∀ n, d < n → wY_tick_2 post n (nI i) (nI P) de (nI K) (nI t) (nI F) wn (nI N) sp sd fo la op ag cl pr bu aa pc st pg us dl wk yw ws pl wd ac ta so ds kd pa lo ar ot oc nn nc) := by
  intro d
  induction d with
  | zero =>
    intro i B rd rc st xw sp pl hi hB R
    have e : i = 12 := by omega
    refine ⟨rd, rc, st, xw, sp, pl, R, fun post h n hn => ?_, fun post h n hn => ?_⟩
    · cases n with
      | zero => exact absurd hn (Nat.lt_irrefl _)
      | succ n => rw [e]; exact br_t (Int32.le_refl _) h
    · cases n with
      | zero => exact absurd hn (Nat.lt_irrefl _)
      | succ n => rw [e]; exact h n
  | succ d ih =>
    intro i B rd rc st xw sp pl hi hB R
    have nle : ¬ (12 : Int32) ≤ nI i := nI_ge (b := 12) (by omega) (by decide)
    have i12 : vp_in (nI i) 12 := vp_in_nI (by omega) (by omega)
    have cg : (nI i).toNatClampNeg = i := nI_clamp (by omega)
    by_cases h1 : st i = 2
    · by_cases h2 : wk i = nI t
      · have hq : i % 3 < P := by
          by_cases z : P ≤ i % 3
          · have := (R.2.2.2.2.1 i (by omega) z).1
            rw [h1] at this
            exact absurd this (by decide)
          · omega
        obtain ⟨rd1, rc1, R1, x1, y1⟩ := sk_rdy (P := P) (de := de) (K := K) (sd := sd) (t := t) (wn := wn) (F := F) (o := o) (nt := nt) (N := N) (fo := fo) (fl := fl) (me := me) (se := se) (np := np) (ac := ac) (ta := ta) (rd := rd) (rc := rc) (op := op) (ag := ag) (cl := cl) (pr := pr) (bu := bu) (aa := aa) (pc := pc) (st := st) (pg := pg) (dl := dl) (wk := wk) (us := us) (xw := xw) (ws := ws) (so := so) (ds := ds) (kd := kd) (pa := pa) (lo := lo) (ar := ar) (sl := sl) (hd := hd) (ct := ct) (sp := sp) (la := la) (yw := yw) (pl := pl) (wd := wd) (ot := ot) (oc := oc) (nn := nn) (nc := nc) (E := sk_no) (M := M) (B := B) R (by omega) hK (show i < 12 by omega) hq (by rw [h1]; decide) (E' := sk_no) (fun _ _ => Iff.rfl) (fun z => z)
        obtain ⟨rd2, rc2, st2, xw2, sp2, pl2, R2, x2, y2⟩ := ih (i + 1) (B + 1) rd1 rc1 _ _ _ _ (by omega) (by omega) R1
        refine ⟨rd2, rc2, st2, xw2, sp2, pl2, sk_R_mono R2 (by omega), fun post h n hn => ?_, fun post h n hn => ?_⟩
        · cases n with
          | zero => exact absurd hn (Nat.not_lt_zero _)
          | succ n => exact br_f nle (And.intro i12 (br_t (by rw [cg]; exact h1) (And.intro i12 (br_t (by rw [cg]; exact h2) (x1 _ (nm_r (nI_1 i) (x2 post h n (by omega))))))))
        · cases n with
          | zero => exact absurd hn (Nat.not_lt_zero _)
          | succ n => exact br_f nle (And.intro i12 (br_t (by rw [cg]; exact h1) (And.intro i12 (br_t (by rw [cg]; exact h2) (y1 _ (nm_r (nI_1 i) (y2 post h n (by omega))))))))
      · obtain ⟨rd2, rc2, st2, xw2, sp2, pl2, R2, x2, y2⟩ := ih (i + 1) B rd rc st xw sp pl (by omega) (by omega) R
        refine ⟨rd2, rc2, st2, xw2, sp2, pl2, sk_R_mono R2 (by omega), fun post h n hn => ?_, fun post h n hn => ?_⟩
        · cases n with
          | zero => exact absurd hn (Nat.not_lt_zero _)
          | succ n => exact br_f nle (And.intro i12 (br_t (by rw [cg]; exact h1) (And.intro i12 (br_f (by rw [cg]; exact h2) (nm_r (nI_1 i) (x2 post h n (by omega)))))))
        · cases n with
          | zero => exact absurd hn (Nat.not_lt_zero _)
          | succ n => exact br_f nle (And.intro i12 (br_t (by rw [cg]; exact h1) (And.intro i12 (br_f (by rw [cg]; exact h2) (nm_r (nI_1 i) (y2 post h n (by omega)))))))
    · obtain ⟨rd2, rc2, st2, xw2, sp2, pl2, R2, x2, y2⟩ := ih (i + 1) B rd rc st xw sp pl (by omega) (by omega) R
      refine ⟨rd2, rc2, st2, xw2, sp2, pl2, sk_R_mono R2 (by omega), fun post h n hn => ?_, fun post h n hn => ?_⟩
      · cases n with
        | zero => exact absurd hn (Nat.not_lt_zero _)
        | succ n => exact br_f nle (And.intro i12 (br_f (by rw [cg]; exact h1) (nm_r (nI_1 i) (x2 post h n (by omega)))))
      · cases n with
        | zero => exact absurd hn (Nat.not_lt_zero _)
        | succ n => exact br_f nle (And.intro i12 (br_f (by rw [cg]; exact h1) (nm_r (nI_1 i) (y2 post h n (by omega)))))
theorem sk_ywake0 (hw : ∀ g, g < 12 → st g = 2 → ¬ wk g = nI t) (post : SY → Prop) (h : ∀ f, wY_tick_2 post (f + 1) (nI 12) (nI P) de (nI K) (nI t) (nI F) wn (nI N) sp sd fo la op ag cl pr bu aa pc st pg us dl wk yw ws pl wd ac ta so ds kd pa lo ar ot oc nn nc) : ∀ (d i : Nat), i + d = 12 → ∀ n, d < n → wY_tick_2 post n (nI i) (nI P) de (nI K) (nI t) (nI F) wn (nI N) sp sd fo la op ag cl pr bu aa pc st pg us dl wk yw ws pl wd ac ta so ds kd pa lo ar ot oc nn nc := by
  intro d
  induction d with
  | zero =>
    intro i hi n hn
    have e : i = 12 := by omega
    cases n with
    | zero => exact absurd hn (Nat.lt_irrefl _)
    | succ n => rw [e]; exact h n
  | succ d ih =>
    intro i hi n hn
    have nle : ¬ (12 : Int32) ≤ nI i := nI_ge (b := 12) (by omega) (by decide)
    have i12 : vp_in (nI i) 12 := vp_in_nI (by omega) (by omega)
    have cg : (nI i).toNatClampNeg = i := nI_clamp (by omega)
    cases n with
    | zero => exact absurd hn (Nat.not_lt_zero _)
    | succ n =>
      have hr := ih (i + 1) (by omega) n (by omega)
      by_cases h1 : st i = 2
      · exact br_f nle (And.intro i12 (br_t (by rw [cg]; exact h1) (And.intro i12 (br_f (by rw [cg]; exact hw i (by omega) h1) (nm_r (nI_1 i) hr)))))
      · exact br_f nle (And.intro i12 (br_f (by rw [cg]; exact h1) (nm_r (nI_1 i) hr)))
theorem sk_yfire0 (hw : ∀ g, g < 12 → ¬ dl g = nI t) (post : SY → Prop) (h : ∀ f, wY_tick_44 post (f + 1) (nI 12) (nI P) de (nI K) (nI t) (nI F) wn (nI N) sp sd fo la op ag cl pr bu aa pc st pg us dl wk yw ws pl wd ac ta so ds kd pa lo ar ot oc nn nc) : ∀ (d i : Nat), i + d = 12 → ∀ n, d < n → wY_tick_44 post n (nI i) (nI P) de (nI K) (nI t) (nI F) wn (nI N) sp sd fo la op ag cl pr bu aa pc st pg us dl wk yw ws pl wd ac ta so ds kd pa lo ar ot oc nn nc := by
  intro d
  induction d with
  | zero =>
    intro i hi n hn
    have e : i = 12 := by omega
    cases n with
    | zero => exact absurd hn (Nat.lt_irrefl _)
    | succ n => rw [e]; exact h n
  | succ d ih =>
    intro i hi n hn
    have nle : ¬ (12 : Int32) ≤ nI i := nI_ge (b := 12) (by omega) (by decide)
    have i12 : vp_in (nI i) 12 := vp_in_nI (by omega) (by omega)
    have cg : (nI i).toNatClampNeg = i := nI_clamp (by omega)
    cases n with
    | zero => exact absurd hn (Nat.not_lt_zero _)
    | succ n => exact br_f nle (And.intro i12 (br_f (by rw [cg]; exact hw i (by omega)) (nm_r (nI_1 i) (ih (i + 1) (by omega) n (by omega)))))
theorem sk_fnt34 {i : Nat} (hi : i < 12) : ∃ nt', nt' ≤ nt ∧ (st i = 2 → nt' ≤ wk i) ∧ ∀ (post : SX → Prop) J, J (nI (i + 1)) (nI P) de (nI K) sd (nI t) wn (nI F) (nI o) nt' (nI N) fo fl me se np ac ta rd rc op ag cl pr bu aa pc st pg dl wk us xw ws so ds kd pa lo ar sl hd ct → wX_findNextTimer_34 post J (nI i) (nI P) de (nI K) sd (nI t) wn (nI F) (nI o) nt (nI N) fo fl me se np ac ta rd rc op ag cl pr bu aa pc st pg dl wk us xw ws so ds kd pa lo ar sl hd ct := by
  have i12 : vp_in (nI i) 12 := vp_in_nI (by omega) (by omega)
  have cg : (nI i).toNatClampNeg = i := nI_clamp (by omega)
  by_cases h : st i = 2
  · obtain ⟨nt', n1, n2, n3⟩ := sk_note (P := P) (de := de) (K := K) (sd := sd) (t := t) (wn := wn) (F := F) (o := o) (nt := nt) (N := N) (fo := fo) (fl := fl) (me := me) (se := se) (np := np) (ac := ac) (ta := ta) (rd := rd) (rc := rc) (op := op) (ag := ag) (cl := cl) (pr := pr) (bu := bu) (aa := aa) (pc := pc) (st := st) (pg := pg) (dl := dl) (wk := wk) (us := us) (xw := xw) (ws := ws) (so := so) (ds := ds) (kd := kd) (pa := pa) (lo := lo) (ar := ar) (sl := sl) (hd := hd) (ct := ct) (wk i)
    refine ⟨nt', n1, fun _ => n2, fun post J hJ => And.intro i12 (br_t (by rw [cg]; exact h) (And.intro i12 ?_))⟩
    rw [cg]
    exact n3 _ (nm_r (nI_1 i) hJ)
  · exact ⟨nt, Int32.le_refl _, fun z => absurd z h, fun post J hJ => And.intro i12 (br_f (by rw [cg]; exact h) (nm_r (nI_1 i) hJ))⟩
theorem sk_fnt : ∀ (d i : Nat) (nt : Int32), i + d = 12 → (∀ g, g < i → (0 ≤ dl g → nt ≤ dl g) ∧ (st g = 2 → nt ≤ wk g)) → ∃ nt', sk_TM nt' st dl wk ∧ ∀ post : SX → Prop, post (nI P, de, nI K, sd, nI t, wn, nI F, nI o, nt', nI N, fo, fl, me, se, np, ac, ta, rd, rc, op, ag, cl, pr, bu, aa, pc, st, pg, dl, wk, us, xw, ws, so, ds, kd, pa, lo, ar, sl, hd, ct) → ∀ n, d < n → wX_findNextTimer_9 post n (nI i) (nI P) de (nI K) sd (nI t) wn (nI F) (nI o) nt (nI N) fo fl me se np ac ta rd rc op ag cl pr bu aa pc st pg dl wk us xw ws so ds kd pa lo ar sl hd ct := by
  intro d
  induction d with
  | zero =>
    intro i nt hi h
    have e : i = 12 := by omega
    refine ⟨nt, fun g hg => h g (by omega), fun post hp n hn => ?_⟩
    cases n with
    | zero => exact absurd hn (Nat.lt_irrefl _)
    | succ n => rw [e]; exact br_t (Int32.le_refl _) hp
  | succ d ih =>
    intro i nt hi h
    have nle : ¬ (12 : Int32) ≤ nI i := nI_ge (b := 12) (by omega) (by decide)
    have i12 : vp_in (nI i) 12 := vp_in_nI (by omega) (by omega)
    have cg : (nI i).toNatClampNeg = i := nI_clamp (by omega)
    by_cases hdl : dl i < 0
    · obtain ⟨nt1, a1, a2, a3⟩ := sk_fnt34 (P := P) (de := de) (K := K) (sd := sd) (t := t) (wn := wn) (F := F) (o := o) (nt := nt) (N := N) (fo := fo) (fl := fl) (me := me) (se := se) (np := np) (ac := ac) (ta := ta) (rd := rd) (rc := rc) (op := op) (ag := ag) (cl := cl) (pr := pr) (bu := bu) (aa := aa) (pc := pc) (st := st) (pg := pg) (dl := dl) (wk := wk) (us := us) (xw := xw) (ws := ws) (so := so) (ds := ds) (kd := kd) (pa := pa) (lo := lo) (ar := ar) (sl := sl) (hd := hd) (ct := ct) (show i < 12 by omega)
      obtain ⟨nt2, b1, b2⟩ := ih (i + 1) nt1 (by omega) (fun g hg => by
        by_cases e : g = i
        · rw [e]; exact ⟨fun z => absurd hdl (Int32.not_lt.mpr z), a2⟩
        · have := h g (by omega)
          exact ⟨fun z => Int32.le_trans a1 (this.1 z), fun z => Int32.le_trans a1 (this.2 z)⟩)
      refine ⟨nt2, b1, fun post hp n hn => ?_⟩
      cases n with
      | zero => exact absurd hn (Nat.not_lt_zero _)
      | succ n => exact br_f nle (And.intro i12 (br_t (by rw [cg]; exact hdl) (a3 post _ (b2 post hp n (by omega)))))
    · obtain ⟨nt0, m1, m2, m3⟩ := sk_note (P := P) (de := de) (K := K) (sd := sd) (t := t) (wn := wn) (F := F) (o := o) (nt := nt) (N := N) (fo := fo) (fl := fl) (me := me) (se := se) (np := np) (ac := ac) (ta := ta) (rd := rd) (rc := rc) (op := op) (ag := ag) (cl := cl) (pr := pr) (bu := bu) (aa := aa) (pc := pc) (st := st) (pg := pg) (dl := dl) (wk := wk) (us := us) (xw := xw) (ws := ws) (so := so) (ds := ds) (kd := kd) (pa := pa) (lo := lo) (ar := ar) (sl := sl) (hd := hd) (ct := ct) (dl i)
      obtain ⟨nt1, a1, a2, a3⟩ := sk_fnt34 (P := P) (de := de) (K := K) (sd := sd) (t := t) (wn := wn) (F := F) (o := o) (nt := nt0) (N := N) (fo := fo) (fl := fl) (me := me) (se := se) (np := np) (ac := ac) (ta := ta) (rd := rd) (rc := rc) (op := op) (ag := ag) (cl := cl) (pr := pr) (bu := bu) (aa := aa) (pc := pc) (st := st) (pg := pg) (dl := dl) (wk := wk) (us := us) (xw := xw) (ws := ws) (so := so) (ds := ds) (kd := kd) (pa := pa) (lo := lo) (ar := ar) (sl := sl) (hd := hd) (ct := ct) (show i < 12 by omega)
      obtain ⟨nt2, b1, b2⟩ := ih (i + 1) nt1 (by omega) (fun g hg => by
        by_cases e : g = i
        · rw [e]; exact ⟨fun _ => Int32.le_trans a1 m2, a2⟩
        · have := h g (by omega)
          exact ⟨fun z => Int32.le_trans a1 (Int32.le_trans m1 (this.1 z)), fun z => Int32.le_trans a1 (Int32.le_trans m1 (this.2 z))⟩)
      refine ⟨nt2, b1, fun post hp n hn => ?_⟩
      cases n with
      | zero => exact absurd hn (Nat.not_lt_zero _)
      | succ n =>
        refine br_f nle (And.intro i12 (br_f (by rw [cg]; exact hdl) (And.intro i12 ?_)))
        rw [cg]
        exact m3 _ (a3 post _ (b2 post hp n (by omega)))
theorem sk_fire (hP : P ≤ 3) (hK : 0 < K) (hN : N ≤ 6) (hcl : ∀ g, g < 12 → ∃ n, n ≤ 16 ∧ cl g = nI n) (hbu : ∀ g, g < 12 → ∃ n, n < 100 ∧ bu g = nI n) (ht : t < 2 ^ 31) : ∀ (d i B : Nat) (nt : Int32) (me se ta rd rc aa pc st pg dl wk us xw ws lo ar sl hd ct : Nat → Int32) (sp : Int32) (yw pl wd ot oc nn nc : Nat → Int32), i + d = 12 → B + 3 * d < 2 ^ 30 → sk_R P K sk_no sk_z B np nt me se rd rc pc st pg dl wk xw sl hd ct sp yw pl wd ot oc nn nc → ∀ Q : Prop, (∀ (nt1 : Int32) (me1 se1 ta1 rd1 rc1 aa1 pc1 st1 pg1 dl1 wk1 us1 xw1 ws1 lo1 ar1 sl1 hd1 ct1 : Nat → Int32) (sp1 : Int32) (yw1 pl1 wd1 ot1 oc1 nn1 nc1 : Nat → Int32), sk_R P K sk_no sk_z (B + 3 * d) np nt1 me1 se1 rd1 rc1 pc1 st1 pg1 dl1 wk1 xw1 sl1 hd1 ct1 sp1 yw1 pl1 wd1 ot1 oc1 nn1 nc1 →
    (∀ post : SX → Prop, post (nI P, de, nI K, sd, nI t, wn, nI F, nI o, nt1, nI N, fo, fl, me1, se1, np, ac, ta1, rd1, rc1, op, ag, cl, pr, bu, aa1, pc1, st1, pg1, dl1, wk1, us1, xw1, ws1, so, ds, kd, pa, lo1, ar1, sl1, hd1, ct1) → ∀ n, d < n → wX_fireDeadlines_2 post n (nI i) (nI P) de (nI K) sd (nI t) wn (nI F) (nI o) nt (nI N) fo fl me se np ac ta rd rc op ag cl pr bu aa pc st pg dl wk us xw ws so ds kd pa lo ar sl hd ct) →
    (∀ post : SY → Prop, (∀ f, wY_tick_44 post (f + 1) (nI 12) (nI P) de (nI K) (nI t) (nI F) wn (nI N) sp1 sd fo la op ag cl pr bu aa1 pc1 st1 pg1 us1 dl1 wk1 yw1 ws1 pl1 wd1 ac ta1 so ds kd pa lo1 ar1 ot1 oc1 nn1 nc1) → ∀ n, d < n → wY_tick_44 post n (nI i) (nI P) de (nI K) (nI t) (nI F) wn (nI N) sp sd fo la op ag cl pr bu aa pc st pg us dl wk yw ws pl wd ac ta so ds kd pa lo ar ot oc nn nc) → Q) → Q := by
  intro d
  induction d with
  | zero =>
    intro i B nt me se ta rd rc aa pc st pg dl wk us xw ws lo ar sl hd ct sp yw pl wd ot oc nn nc hi hB R Q k
    have e : i = 12 := by omega
    refine k nt me se ta rd rc aa pc st pg dl wk us xw ws lo ar sl hd ct sp yw pl wd ot oc nn nc R (fun post h n hn => ?_) (fun post h n hn => ?_)
    · cases n with
      | zero => exact absurd hn (Nat.lt_irrefl _)
      | succ n => rw [e]; exact br_t (Int32.le_refl _) h
    · cases n with
      | zero => exact absurd hn (Nat.lt_irrefl _)
      | succ n => rw [e]; exact h n
  | succ d ih =>
    intro i B nt me se ta rd rc aa pc st pg dl wk us xw ws lo ar sl hd ct sp yw pl wd ot oc nn nc hi hB R Q k
    have nle : ¬ (12 : Int32) ≤ nI i := nI_ge (b := 12) (by omega) (by decide)
    have i12 : vp_in (nI i) 12 := vp_in_nI (by omega) (by omega)
    have cg : (nI i).toNatClampNeg = i := nI_clamp (by omega)
    by_cases h1 : dl i = nI t
    · have hq : i % 3 < P := by
        by_cases z : P ≤ i % 3
        · have e := (R.2.2.2.2.1 i (by omega) z).2
          rw [h1] at e
          have := nI_pos (n := t) ht
          rw [e] at this
          exact absurd (by decide) this
        · omega
      have R0 : sk_R P K sk_no sk_z B np nt me se rd rc pc st pg (upd dl i (-1)) wk xw sl hd ct sp yw pl wd ot oc nn nc := ⟨R.1, R.2.1, R.2.2.1, sk_TM_at R.2.2.2.1 (Int32.le_refl _) i (fun x e => ⟨rfl, pk_un e, rfl⟩) ⟨fun z => by rw [pk_us] at z; exact absurd z (by decide), (R.2.2.2.1 i (by omega)).2⟩,
        sk_QD_at R.2.2.2.2.1 i (fun x e => ⟨rfl, pk_un e⟩) (fun z => absurd hq (by omega)), R.2.2.2.2.2⟩
      refine sk_raise (P := P) (de := de) (K := K) (sd := sd) (t := t) (wn := wn) (F := F) (o := o) (nt := nt) (N := N) (fo := fo) (fl := fl) (me := me) (se := se) (np := np) (ac := ac) (ta := ta) (rd := rd) (rc := rc) (op := op) (ag := ag) (cl := cl) (pr := pr) (bu := bu) (aa := aa) (pc := pc) (st := st) (pg := pg) (dl := upd dl i (-1)) (wk := wk) (us := us) (xw := xw) (ws := ws) (so := so) (ds := ds) (kd := kd) (pa := pa) (lo := lo) (ar := ar) (sl := sl) (hd := hd) (ct := ct) (sp := sp) (la := la) (yw := yw) (pl := pl) (wd := wd) (ot := ot) (oc := oc) (nn := nn) (nc := nc) (B := B) hP hK hN hcl hbu R0 (by omega) (show i < 12 by omega) hq (show 0 < 2 by omega) Q ?_
      intro nt1 me1 se1 ta1 rd1 rc1 aa1 pc1 st1 pg1 dl1 wk1 us1 xw1 ws1 lo1 ar1 sl1 hd1 ct1 sp1 yw1 pl1 wd1 ot1 oc1 nn1 nc1 R1 x1 y1
      refine ih (i + 1) (B + 3) nt1 me1 se1 ta1 rd1 rc1 aa1 pc1 st1 pg1 dl1 wk1 us1 xw1 ws1 lo1 ar1 sl1 hd1 ct1 sp1 yw1 pl1 wd1 ot1 oc1 nn1 nc1 (by omega) (by omega) R1 Q ?_
      intro nt2 me2 se2 ta2 rd2 rc2 aa2 pc2 st2 pg2 dl2 wk2 us2 xw2 ws2 lo2 ar2 sl2 hd2 ct2 sp2 yw2 pl2 wd2 ot2 oc2 nn2 nc2 R2 x2 y2
      refine k nt2 me2 se2 ta2 rd2 rc2 aa2 pc2 st2 pg2 dl2 wk2 us2 xw2 ws2 lo2 ar2 sl2 hd2 ct2 sp2 yw2 pl2 wd2 ot2 oc2 nn2 nc2 (sk_R_mono R2 (by omega)) (fun post h n hn => ?_) (fun post h n hn => ?_)
      · cases n with
        | zero => exact absurd hn (Nat.not_lt_zero _)
        | succ n => exact br_f nle (And.intro i12 (br_t (by rw [cg]; exact h1) (And.intro i12 (nm_r (by rw [cg]) (x1 _ (nm_r (nI_1 i) (x2 post h n (by omega))))))))
      · cases n with
        | zero => exact absurd hn (Nat.not_lt_zero _)
        | succ n =>
          refine br_f nle (And.intro i12 (br_t (by rw [cg]; exact h1) (And.intro i12 (nm_r (e' := upd dl i (-1)) (by rw [cg]) (And.intro sk_30 ?_)))))
          rw [sk_d3 (show i < 2 ^ 31 by omega)]
          exact y1 _ (nm_r (nI_1 i) (y2 post h n (by omega)))
    · refine ih (i + 1) B nt me se ta rd rc aa pc st pg dl wk us xw ws lo ar sl hd ct sp yw pl wd ot oc nn nc (by omega) (by omega) R Q ?_
      intro nt2 me2 se2 ta2 rd2 rc2 aa2 pc2 st2 pg2 dl2 wk2 us2 xw2 ws2 lo2 ar2 sl2 hd2 ct2 sp2 yw2 pl2 wd2 ot2 oc2 nn2 nc2 R2 x2 y2
      refine k nt2 me2 se2 ta2 rd2 rc2 aa2 pc2 st2 pg2 dl2 wk2 us2 xw2 ws2 lo2 ar2 sl2 hd2 ct2 sp2 yw2 pl2 wd2 ot2 oc2 nn2 nc2 (sk_R_mono R2 (by omega)) (fun post h n hn => ?_) (fun post h n hn => ?_)
      · cases n with
        | zero => exact absurd hn (Nat.not_lt_zero _)
        | succ n => exact br_f nle (And.intro i12 (br_f (by rw [cg]; exact h1) (nm_r (nI_1 i) (x2 post h n (by omega)))))
      · cases n with
        | zero => exact absurd hn (Nat.not_lt_zero _)
        | succ n => exact br_f nle (And.intro i12 (br_f (by rw [cg]; exact h1) (nm_r (nI_1 i) (y2 post h n (by omega)))))
end S11
end
section
def sk_bt (pr pl : Nat → Int32) (b h : Nat) : Prop := pr h < pr b ∨ (pr h = pr b ∧ (pl b).toInt < (pl h).toInt)
def sk_best (pr pl : Nat → Int32) (S : Nat → Prop) (r : Int32) : Prop := ((∀ y, ¬ S y) ∧ r = -1) ∨ ∃ c, r = nI c ∧ S c ∧ ∀ y, S y → y ≠ c → sk_bt pr pl c y
theorem sk_bt_tr {pr pl : Nat → Int32} {a b c : Nat} (h1 : sk_bt pr pl a b) (h2 : sk_bt pr pl b c) : sk_bt pr pl a c := by
  rcases h1 with h1 | ⟨h1, h1'⟩
  · rcases h2 with h2 | ⟨h2, h2'⟩
    · exact Or.inl (Int32.lt_trans h2 h1)
    · exact Or.inl (by rw [h2]; exact h1)
  · rcases h2 with h2 | ⟨h2, h2'⟩
    · exact Or.inl (by rw [← h1]; exact h2)
    · exact Or.inr ⟨by rw [h2, h1], by omega⟩
theorem sk_bt_as {pr pl : Nat → Int32} {a b : Nat} (h1 : sk_bt pr pl a b) (h2 : sk_bt pr pl b a) : False := by
  have := sk_bt_tr h1 h2
  rcases this with h | ⟨_, h⟩
  · exact Int32.lt_irrefl h
  · omega
theorem sk_best_uq {pr pl : Nat → Int32} {S : Nat → Prop} {r r' : Int32} (h : sk_best pr pl S r) (h' : sk_best pr pl S r') : r = r' := by
  rcases h with ⟨h1, h2⟩ | ⟨c, h1, h2, h3⟩
  · rcases h' with ⟨k1, k2⟩ | ⟨c', k1, k2, k3⟩
    · rw [h2, k2]
    · exact absurd k2 (h1 _)
  · rcases h' with ⟨k1, k2⟩ | ⟨c', k1, k2, k3⟩
    · exact absurd h2 (k1 _)
    · by_cases e : c = c'
      · rw [h1, k1, e]
      · exact (sk_bt_as (h3 c' k2 (fun z => e z.symm)) (k3 c h2 e)).elim
theorem sk_best_cg {pr pl : Nat → Int32} {S S' : Nat → Prop} {r : Int32} (h : sk_best pr pl S r) (e : ∀ y, S' y ↔ S y) : sk_best pr pl S' r := by
  rcases h with ⟨h1, h2⟩ | ⟨c, h1, h2, h3⟩
  · exact Or.inl ⟨fun y z => h1 y ((e y).1 z), h2⟩
  · exact Or.inr ⟨c, h1, (e c).2 h2, fun y z => h3 y ((e y).1 z)⟩
theorem sk_best_1 {pr pl : Nat → Int32} {S : Nat → Prop} (x : Nat) (h1 : ∀ y, ¬ S y) : sk_best pr pl (fun y => S y ∨ y = x) (nI x) :=
  Or.inr ⟨x, rfl, Or.inr rfl, fun y hy e => by rcases hy with hy | hy; · exact absurd hy (h1 y)
                                               · exact absurd hy e⟩
theorem sk_best_k {pr pl : Nat → Int32} {S : Nat → Prop} {c x : Nat} (h2 : S c) (h3 : ∀ y, S y → y ≠ c → sk_bt pr pl c y) (hx : sk_bt pr pl c x) : sk_best pr pl (fun y => S y ∨ y = x) (nI c) :=
  Or.inr ⟨c, rfl, Or.inl h2, fun y hy e => by rcases hy with hy | hy; · exact h3 y hy e
                                              · rw [hy]; exact hx⟩
theorem sk_best_n {pr pl : Nat → Int32} {S : Nat → Prop} {c x : Nat} (h3 : ∀ y, S y → y ≠ c → sk_bt pr pl c y) (hx : sk_bt pr pl x c) : sk_best pr pl (fun y => S y ∨ y = x) (nI x) :=
  Or.inr ⟨x, rfl, Or.inr rfl, fun y hy e => by
    rcases hy with hy | hy
    · by_cases ec : y = c
      · rw [ec]; exact hx
      · exact sk_bt_tr hx (h3 y hy ec)
    · exact absurd hy e⟩
theorem sk_pw {pl : Nat → Int32} : ∀ {L : List Nat}, L.Pairwise (fun a b => (pl a).toInt < (pl b).toInt) → ∀ {x y}, x ∈ L → y ∈ L → x ≠ y → (pl x).toInt < (pl y).toInt ∨ (pl y).toInt < (pl x).toInt := by
  intro L
  induction L with
  | nil => intro _ x y hx; exact absurd hx (by simp)
  | cons a L ih =>
    intro h x y hx hy e
    have h' := List.pairwise_cons.mp h
    rcases List.mem_cons.mp hx with hx | hx
    · rcases List.mem_cons.mp hy with hy | hy
      · exact absurd (by rw [hx, hy]) e
      · rw [hx]; exact Or.inl (h'.1 y hy)
    · rcases List.mem_cons.mp hy with hy | hy
      · rw [hy]; exact Or.inr (h'.1 x hx)
      · exact ih h'.2 hx hy e
theorem sk_m1lt : (-1 : Int32) < 0 := by decide
section S12
variable {de sd wn nt sp : Int32} {fo fl la me se np ac ta rd rc op ag cl pr bu aa pc st pg dl wk us xw ws so ds kd pa lo ar sl hd ct yw pl wd ot oc nn nc : Nat → Int32} {P K t F o N B : Nat} {E : Nat → Prop} {M : Nat → Nat}
theorem sk_pickA {p len h : Nat} (hp : p < 4) (hl : len ≤ 3) (hr : rc p = nI len) (hh : ¬ pg h ≤ 0) : ∀ (Q : List Nat) (i : Nat) (b : Int32), i + Q.length = len → sk_at rd (p * 3 + i) Q → (∀ x, x ∈ Q → x < 12 ∧ (x ≠ h → pg x = 0)) → h ∈ Q → (b = -1 ∨ ∃ c, c < 12 ∧ b = nI c) →
    ∀ post : Int32 → Prop, post (nI h) → ∀ n, Q.length < n → wX_pick_4 post (nI p) (nI P) de (nI K) sd (nI t) wn (nI F) (nI o) nt (nI N) fo fl me se np ac ta rd rc op ag cl pr bu aa pc st pg dl wk us xw ws so ds kd pa lo ar sl hd ct n b (nI i) := by
  intro Q
  induction Q with
  | nil => intro i b _ _ _ hm; exact absurd hm (by simp)
  | cons x Q ih =>
    intro i b hi ha hx hm hb post hpost n hn
    have hL : (x :: Q).length = Q.length + 1 := rfl
    have ip : vp_in (nI p) 4 := vp_in_nI hp (by omega)
    have cp : (nI p).toNatClampNeg = p := nI_clamp (by omega)
    have nle : ¬ rc (nI p).toNatClampNeg ≤ nI i := by rw [cp, hr]; exact nI_ge (by omega) (by omega)
    have e12 : vp_in (nI p * 3 + nI i) 12 := by rw [sk_m3, nI_add]; exact vp_in_nI (by omega) (by omega)
    have hx6 : rd (nI p * 3 + nI i).toNatClampNeg = nI x := by
      rw [sk_m3, nI_add, nI_clamp (by omega)]
      exact ha 0 x rfl
    have x12 := (hx x (by simp)).1
    have ix : vp_in (nI x) 12 := vp_in_nI x12 (by omega)
    have cx : (nI x).toNatClampNeg = x := nI_clamp (by omega)
    cases n with
    | zero => exact absurd hn (Nat.not_lt_zero _)
    | succ n =>
      by_cases e : x = h
      · exact And.intro ip (br_f nle (And.intro e12 (nm_r hx6 (And.intro ix (br_f (by rw [cx, e]; exact hh) (by rw [e]; exact hpost))))))
      · have hm' : h ∈ Q := by
          rcases List.mem_cons.mp hm with z | z
          · exact absurd z.symm e
          · exact z
        have p0 : pg (nI x).toNatClampNeg ≤ 0 := by rw [cx, (hx x (by simp)).2 e]; exact Int32.le_refl _
        have nx : ∀ b', (b' = -1 ∨ ∃ c, c < 12 ∧ b' = nI c) → wX_pick_4 post (nI p) (nI P) de (nI K) sd (nI t) wn (nI F) (nI o) nt (nI N) fo fl me se np ac ta rd rc op ag cl pr bu aa pc st pg dl wk us xw ws so ds kd pa lo ar sl hd ct n b' (nI (i + 1)) := fun b' hb' =>
          ih (i + 1) b' (by omega) (fun j y hj => by have := ha (j + 1) y hj; rw [← this]; exact congrArg rd (by omega)) (fun y hy => hx y (List.mem_cons_of_mem _ hy)) hm' hb' post hpost n (by omega)
        rcases hb with hb | ⟨c, c12, hb⟩
        · exact And.intro ip (br_f nle (And.intro e12 (nm_r hx6 (And.intro ix (br_t p0 (br_t (by rw [hb]; exact sk_m1lt) (nm_r (nI_1 i) (nx _ (Or.inr ⟨x, x12, rfl⟩)))))))))
        · have ic : vp_in b 12 := by rw [hb]; exact vp_in_nI c12 (by omega)
          have nb : ¬ b < 0 := by rw [hb]; exact nI_pos (by omega)
          exact And.intro ip (br_f nle (And.intro e12 (nm_r hx6 (And.intro ix (br_t p0 (br_f nb (And.intro ix (And.intro ic (br_c (fun _ => nm_r (nI_1 i) (nx _ (Or.inr ⟨c, c12, hb⟩))) (fun _ => nm_r (nI_1 i) (nx _ (Or.inr ⟨x, x12, rfl⟩)))))))))))) 
theorem sk_pickB {p len : Nat} (hp : p < 4) (hl : len ≤ 3) (hr : rc p = nI len) : ∀ (Q : List Nat) (S : Nat → Prop) (i : Nat) (b : Int32), i + Q.length = len → sk_at rd (p * 3 + i) Q → (∀ x, x ∈ Q → x < 12 ∧ pg x = 0) → (∀ x, S x → x < 12) → sk_best pr pl S b →
    (∀ x y, S x → y ∈ Q → (pl x).toInt < (pl y).toInt) → Q.Pairwise (fun a b => (pl a).toInt < (pl b).toInt) →
    ∃ r, sk_best pr pl (fun y => S y ∨ y ∈ Q) r ∧ ∀ post : Int32 → Prop, post r → ∀ n, Q.length < n → wX_pick_4 post (nI p) (nI P) de (nI K) sd (nI t) wn (nI F) (nI o) nt (nI N) fo fl me se np ac ta rd rc op ag cl pr bu aa pc st pg dl wk us xw ws so ds kd pa lo ar sl hd ct n b (nI i) := by
  intro Q
  have ip : vp_in (nI p) 4 := vp_in_nI hp (by omega)
  have cp : (nI p).toNatClampNeg = p := nI_clamp (by omega)
  induction Q with
  | nil =>
    intro S i b hi _ _ _ hb _ _
    refine ⟨b, sk_best_cg hb (fun y => by simp), fun post hpost n hn => ?_⟩
    have hi' : i = len := by simpa using hi
    cases n with
    | zero => exact absurd hn (Nat.not_lt_zero _)
    | succ n => exact And.intro ip (br_t (by rw [cp, hr]; exact nI_le (by omega) (by omega)) hpost)
  | cons x Q ih =>
    intro S i b hi ha hx hS hb hSQ hpw
    have hL : (x :: Q).length = Q.length + 1 := rfl
    have nle : ¬ rc (nI p).toNatClampNeg ≤ nI i := by rw [cp, hr]; exact nI_ge (by omega) (by omega)
    have e12 : vp_in (nI p * 3 + nI i) 12 := by rw [sk_m3, nI_add]; exact vp_in_nI (by omega) (by omega)
    have hx6 : rd (nI p * 3 + nI i).toNatClampNeg = nI x := by
      rw [sk_m3, nI_add, nI_clamp (by omega)]
      exact ha 0 x rfl
    have x12 := (hx x (by simp)).1
    have ix : vp_in (nI x) 12 := vp_in_nI x12 (by omega)
    have cx : (nI x).toNatClampNeg = x := nI_clamp (by omega)
    have p0 : pg (nI x).toNatClampNeg ≤ 0 := by rw [cx, (hx x (by simp)).2]; exact Int32.le_refl _
    have hpw' := List.pairwise_cons.mp hpw
    have go : ∀ b', sk_best pr pl (fun y => S y ∨ y = x) b' → ∃ r, sk_best pr pl (fun y => S y ∨ y ∈ x :: Q) r ∧ ∀ post : Int32 → Prop, post r → ∀ n, Q.length < n → wX_pick_4 post (nI p) (nI P) de (nI K) sd (nI t) wn (nI F) (nI o) nt (nI N) fo fl me se np ac ta rd rc op ag cl pr bu aa pc st pg dl wk us xw ws so ds kd pa lo ar sl hd ct n b' (nI (i + 1)) := by
      intro b' hb'
      obtain ⟨r, r1, r2⟩ := ih (fun y => S y ∨ y = x) (i + 1) b' (by omega) (fun j y hj => by have := ha (j + 1) y hj; rw [← this]; exact congrArg rd (by omega)) (fun y hy => hx y (List.mem_cons_of_mem _ hy))
        (fun y hy => by rcases hy with hy | hy; · exact hS y hy
                        · rw [hy]; exact x12) hb'
        (fun y z hy hz => by rcases hy with hy | hy; · exact hSQ y z hy (List.mem_cons_of_mem _ hz)
                             · rw [hy]; exact hpw'.1 z hz) hpw'.2
      exact ⟨r, sk_best_cg r1 (fun y => by rw [List.mem_cons, or_assoc]), r2⟩
    rcases hb with ⟨hb1, hb2⟩ | ⟨c, hb1, hb2, hb3⟩
    · obtain ⟨r, r1, r2⟩ := go (nI x) (sk_best_1 x hb1)
      refine ⟨r, r1, fun post hpost n hn => ?_⟩
      cases n with
      | zero => exact absurd hn (Nat.not_lt_zero _)
      | succ n => exact And.intro ip (br_f nle (And.intro e12 (nm_r hx6 (And.intro ix (br_t p0 (br_t (by rw [hb2]; exact sk_m1lt) (nm_r (nI_1 i) (r2 post hpost n (by omega)))))))))
    · have c12 := hS c hb2
      have ic : vp_in b 12 := by rw [hb1]; exact vp_in_nI c12 (by omega)
      have cb : b.toNatClampNeg = c := by rw [hb1]; exact nI_clamp (by omega)
      have nb : ¬ b < 0 := by rw [hb1]; exact nI_pos (by omega)
      by_cases hc : pr x ≤ pr c
      · obtain ⟨r, r1, r2⟩ := go b (by
          rw [hb1]
          refine sk_best_k hb2 hb3 ?_
          by_cases he : pr x = pr c
          · exact Or.inr ⟨he, hSQ c x hb2 (by simp)⟩
          · exact Or.inl (Int32.lt_of_le_of_ne hc he))
        refine ⟨r, r1, fun post hpost n hn => ?_⟩
        cases n with
        | zero => exact absurd hn (Nat.not_lt_zero _)
        | succ n => exact And.intro ip (br_f nle (And.intro e12 (nm_r hx6 (And.intro ix (br_t p0 (br_f nb (And.intro ix (And.intro ic (br_t (by rw [cx, cb]; exact hc) (nm_r (nI_1 i) (r2 post hpost n (by omega))))))))))))
      · obtain ⟨r, r1, r2⟩ := go (nI x) (sk_best_n hb3 (Or.inl (Int32.not_le.mp hc)))
        refine ⟨r, r1, fun post hpost n hn => ?_⟩
        cases n with
        | zero => exact absurd hn (Nat.not_lt_zero _)
        | succ n => exact And.intro ip (br_f nle (And.intro e12 (nm_r hx6 (And.intro ix (br_t p0 (br_f nb (And.intro ix (And.intro ic (br_f (by rw [cx, cb]; exact hc) (nm_r (nI_1 i) (r2 post hpost n (by omega))))))))))))
theorem sk_choA {p h : Nat} (hP : P ≤ 3) (hp : p < 4) (hh : ¬ pg h ≤ 0) (h1 : p * 3 ≤ h) (h2 : h < p * 3 + P) (h3 : ∀ x, p * 3 ≤ x → x < p * 3 + P → x ≠ h → pg x = 0) (post : Int32 → Prop) (hpost : post (nI (h - p * 3))) : ∀ (d i : Nat) (b : Int32), i + d = p * 3 + P → p * 3 ≤ i → i ≤ h → (b = -1 ∨ ∃ c, c < 12 ∧ b = nI c) →
    ∀ n, d < n → wY_chosen_17 post (nI p) (nI P) de (nI K) (nI t) (nI F) wn (nI N) sp sd fo la op ag cl pr bu aa pc st pg us dl wk yw ws pl wd ac ta so ds kd pa lo ar ot oc nn nc n b (nI i) := by
  intro d
  induction d with
  | zero => intro i b hi _ hih; omega
  | succ d ih =>
    intro i b hi hi3 hih hb n hn
    have nle : ¬ 3 * nI p + nI P ≤ nI i := by rw [sk_3m, nI_add]; exact nI_ge (by omega) (by omega)
    have ii : vp_in (nI i) 12 := vp_in_nI (by omega) (by omega)
    have ci : (nI i).toNatClampNeg = i := nI_clamp (by omega)
    cases n with
    | zero => exact absurd hn (Nat.not_lt_zero _)
    | succ n =>
      by_cases e : i = h
      · refine br_f nle (And.intro ii (br_f (by rw [ci, e]; exact hh) ?_))
        rw [sk_3m, pk_sub hi3, e]
        exact hpost
      · have p0 : pg (nI i).toNatClampNeg ≤ 0 := by rw [ci, h3 i hi3 (by omega) e]; exact Int32.le_refl _
        have nx : ∀ b', (b' = -1 ∨ ∃ c, c < 12 ∧ b' = nI c) → wY_chosen_17 post (nI p) (nI P) de (nI K) (nI t) (nI F) wn (nI N) sp sd fo la op ag cl pr bu aa pc st pg us dl wk yw ws pl wd ac ta so ds kd pa lo ar ot oc nn nc n b' (nI (i + 1)) := fun b' hb' => ih (i + 1) b' (by omega) (by omega) (by omega) hb' n (by omega)
        have nxi := nx (nI i) (Or.inr ⟨i, by omega, rfl⟩)
        have nxb := nx b hb
        refine br_f nle (And.intro ii (br_t p0 (And.intro ii (br_c (fun _ => ?_) (fun _ => nm_r (nI_1 i) nxb)))))
        rcases hb with hb | ⟨c, c12, hb⟩
        · exact br_t (by rw [hb]; exact sk_m1lt) (nm_r (nI_1 i) nxi)
        · have ic : vp_in b 12 := by rw [hb]; exact vp_in_nI c12 (by omega)
          have nb : ¬ b < 0 := by rw [hb]; exact nI_pos (by omega)
          exact br_f nb (And.intro ii (And.intro ic (br_c (fun _ => nm_r (nI_1 i) nxi) (fun _ => And.intro ii (And.intro ic (br_c (fun _ => And.intro ii (And.intro ic (br_c (fun _ => nm_r (nI_1 i) nxb) (fun _ => nm_r (nI_1 i) nxi)))) (fun _ => nm_r (nI_1 i) nxb)))))))
theorem sk_choB {p : Nat} (hP : P ≤ 3) (hp : p < 4) (h3 : ∀ x, p * 3 ≤ x → x < p * 3 + P → pg x = 0) (hne : ∀ x y, x / 3 = p → y / 3 = p → st x = 1 → st y = 1 → x ≠ y → (pl x).toInt < (pl y).toInt ∨ (pl y).toInt < (pl x).toInt) :
    ∀ (d i : Nat) (b : Int32), i + d = p * 3 + P → p * 3 ≤ i → sk_best pr pl (fun y => p * 3 ≤ y ∧ y < i ∧ st y = 1) b → ∃ r, sk_best pr pl (fun y => p * 3 ≤ y ∧ y < p * 3 + P ∧ st y = 1) r ∧
    ∀ post : Int32 → Prop, ((r < 0 → post (-1)) ∧ (∀ c, r = nI c → p * 3 ≤ c → c < 12 → post (nI (c - p * 3)))) → ∀ n, d < n → wY_chosen_17 post (nI p) (nI P) de (nI K) (nI t) (nI F) wn (nI N) sp sd fo la op ag cl pr bu aa pc st pg us dl wk yw ws pl wd ac ta so ds kd pa lo ar ot oc nn nc n b (nI i) := by
  intro d
  induction d with
  | zero =>
    intro i b hi hi3 hb
    have e : i = p * 3 + P := by omega
    rw [e] at hb
    refine ⟨b, hb, fun post hpost n hn => ?_⟩
    have le : 3 * nI p + nI P ≤ nI i := by rw [sk_3m, nI_add]; exact nI_le (by omega) (by omega)
    cases n with
    | zero => exact absurd hn (Nat.lt_irrefl _)
    | succ n =>
      refine br_t le ?_
      rcases hb with ⟨_, hb2⟩ | ⟨c, hb1, hb2, _⟩
      · exact br_f (by rw [hb2]; decide) (hpost.1 (by rw [hb2]; exact sk_m1lt))
      · refine br_t (by rw [hb1]; exact nI_pos' (by omega)) ?_
        have := hpost.2 c hb1 hb2.1 (by omega)
        rw [hb1, sk_3m, pk_sub hb2.1]
        exact this
  | succ d ih =>
    intro i b hi hi3 hb
    have nle : ¬ 3 * nI p + nI P ≤ nI i := by rw [sk_3m, nI_add]; exact nI_ge (by omega) (by omega)
    have ii : vp_in (nI i) 12 := vp_in_nI (by omega) (by omega)
    have ci : (nI i).toNatClampNeg = i := nI_clamp (by omega)
    have p0 : pg (nI i).toNatClampNeg ≤ 0 := by rw [ci, h3 i hi3 (by omega)]; exact Int32.le_refl _
    by_cases hs : st i = 1
    · have hs' : st (nI i).toNatClampNeg = 1 := by rw [ci]; exact hs
      have go : ∀ b', sk_best pr pl (fun y => (p * 3 ≤ y ∧ y < i ∧ st y = 1) ∨ y = i) b' → ∃ r, sk_best pr pl (fun y => p * 3 ≤ y ∧ y < p * 3 + P ∧ st y = 1) r ∧
          ∀ post : Int32 → Prop, ((r < 0 → post (-1)) ∧ (∀ c, r = nI c → p * 3 ≤ c → c < 12 → post (nI (c - p * 3)))) → ∀ n, d < n → wY_chosen_17 post (nI p) (nI P) de (nI K) (nI t) (nI F) wn (nI N) sp sd fo la op ag cl pr bu aa pc st pg us dl wk yw ws pl wd ac ta so ds kd pa lo ar ot oc nn nc n b' (nI (i + 1)) := by
        intro b' hb'
        refine ih (i + 1) b' (by omega) (by omega) (sk_best_cg hb' (fun y => ?_))
        constructor
        · intro z
          by_cases e : y = i
          · exact Or.inr e
          · exact Or.inl ⟨z.1, by omega, z.2.2⟩
        · intro z
          rcases z with z | z
          · exact ⟨z.1, by omega, z.2.2⟩
          · rw [z]; exact ⟨hi3, by omega, hs⟩
      rcases hb with ⟨hb1, hb2⟩ | ⟨c, hb1, hb2, hb3⟩
      · obtain ⟨r, r1, r2⟩ := go (nI i) (sk_best_1 i hb1)
        refine ⟨r, r1, fun post hpost n hn => ?_⟩
        cases n with
        | zero => exact absurd hn (Nat.not_lt_zero _)
        | succ n => exact br_f nle (And.intro ii (br_t p0 (And.intro ii (br_t hs' (br_t (by rw [hb2]; exact sk_m1lt) (nm_r (nI_1 i) (r2 post hpost n (by omega))))))))
      · have ic : vp_in b 12 := by rw [hb1]; exact vp_in_nI (by omega) (by omega)
        have cb : b.toNatClampNeg = c := by rw [hb1]; exact nI_clamp (by omega)
        have nb : ¬ b < 0 := by rw [hb1]; exact nI_pos (by omega)
        have hpl := hne c i (by omega) (by omega) hb2.2.2 hs (by omega)
        by_cases q1 : pr c < pr i
        · obtain ⟨r, r1, r2⟩ := go (nI i) (sk_best_n hb3 (Or.inl q1))
          refine ⟨r, r1, fun post hpost n hn => ?_⟩
          cases n with
          | zero => exact absurd hn (Nat.not_lt_zero _)
          | succ n => exact br_f nle (And.intro ii (br_t p0 (And.intro ii (br_t hs' (br_f nb (And.intro ii (And.intro ic (br_t (by rw [ci, cb]; exact q1) (nm_r (nI_1 i) (r2 post hpost n (by omega)))))))))))
        · by_cases q2 : pr i = pr c
          · by_cases q3 : pl c ≤ pl i
            · obtain ⟨r, r1, r2⟩ := go b (by rw [hb1]; exact sk_best_k hb2 hb3 (Or.inr ⟨q2, by rw [Int32.le_iff_toInt_le] at q3; omega⟩))
              refine ⟨r, r1, fun post hpost n hn => ?_⟩
              cases n with
              | zero => exact absurd hn (Nat.not_lt_zero _)
              | succ n => exact br_f nle (And.intro ii (br_t p0 (And.intro ii (br_t hs' (br_f nb (And.intro ii (And.intro ic (br_f (by rw [ci, cb]; exact q1) (And.intro ii (And.intro ic (br_t (by rw [ci, cb]; exact q2) (And.intro ii (And.intro ic (br_t (by rw [ci, cb]; exact q3) (nm_r (nI_1 i) (r2 post hpost n (by omega)))))))))))))))))
            · obtain ⟨r, r1, r2⟩ := go (nI i) (sk_best_n hb3 (Or.inr ⟨q2.symm, by rw [Int32.le_iff_toInt_le] at q3; omega⟩))
              refine ⟨r, r1, fun post hpost n hn => ?_⟩
              cases n with
              | zero => exact absurd hn (Nat.not_lt_zero _)
              | succ n => exact br_f nle (And.intro ii (br_t p0 (And.intro ii (br_t hs' (br_f nb (And.intro ii (And.intro ic (br_f (by rw [ci, cb]; exact q1) (And.intro ii (And.intro ic (br_t (by rw [ci, cb]; exact q2) (And.intro ii (And.intro ic (br_f (by rw [ci, cb]; exact q3) (nm_r (nI_1 i) (r2 post hpost n (by omega)))))))))))))))))
          · obtain ⟨r, r1, r2⟩ := go b (by rw [hb1]; exact sk_best_k hb2 hb3 (Or.inl (Int32.lt_of_le_of_ne (Int32.not_lt.mp q1) q2)))
            refine ⟨r, r1, fun post hpost n hn => ?_⟩
            cases n with
            | zero => exact absurd hn (Nat.not_lt_zero _)
            | succ n => exact br_f nle (And.intro ii (br_t p0 (And.intro ii (br_t hs' (br_f nb (And.intro ii (And.intro ic (br_f (by rw [ci, cb]; exact q1) (And.intro ii (And.intro ic (br_f (by rw [ci, cb]; exact q2) (nm_r (nI_1 i) (r2 post hpost n (by omega))))))))))))))
    · obtain ⟨r, r1, r2⟩ := ih (i + 1) b (by omega) (by omega) (sk_best_cg hb (fun y => by
        constructor
        · intro z
          by_cases e : y = i
          · rw [e] at z; exact absurd z.2.2 hs
          · exact ⟨z.1, by omega, z.2.2⟩
        · intro z; exact ⟨z.1, by omega, z.2.2⟩))
      refine ⟨r, r1, fun post hpost n hn => ?_⟩
      cases n with
      | zero => exact absurd hn (Nat.not_lt_zero _)
      | succ n => exact br_f nle (And.intro ii (br_t p0 (And.intro ii (br_f (by rw [ci]; exact hs) (nm_r (nI_1 i) (r2 post hpost n (by omega)))))))
end S12
end
section
section S13
variable {de sd wn nt sp : Int32} {fo fl la me se np ac ta rd rc op ag cl pr bu aa pc st pg dl wk us xw ws so ds kd pa lo ar sl hd ct yw pl wd ot oc nn nc : Nat → Int32} {P K t F o N B : Nat} {E : Nat → Prop} {M : Nat → Nat}
theorem sk_npos {n : Nat} (h : ¬ nI n = 0) (hn : n < 2 ^ 31) : ¬ nI n ≤ 0 := by
  rcases Nat.eq_zero_or_pos n with z | z
  · exact absurd (by rw [z]; rfl) h
  · exact nI_nle z hn
theorem sk_pick (R : sk_R P K sk_no M B np nt me se rd rc pc st pg dl wk xw sl hd ct sp yw pl wd ot oc nn nc) (hP : P ≤ 3) (hK4 : K ≤ 4) {p : Nat} (hp : p < 4) :
    ((∀ x, x / 3 = p → st x ≠ 1) ∧ (∀ post : Int32 → Prop, post (-1) → wpX_pick post (nI P, de, nI K, sd, nI t, wn, nI F, nI o, nt, nI N, fo, fl, me, se, np, ac, ta, rd, rc, op, ag, cl, pr, bu, aa, pc, st, pg, dl, wk, us, xw, ws, so, ds, kd, pa, lo, ar, sl, hd, ct) (nI p)) ∧ (∀ post : Int32 → Prop, post (-1) → wpY_chosen post (nI P, de, nI K, nI t, nI F, wn, nI N, sp, sd, fo, la, op, ag, cl, pr, bu, aa, pc, st, pg, us, dl, wk, yw, ws, pl, wd, ac, ta, so, ds, kd, pa, lo, ar, ot, oc, nn, nc) (nI p))) ∨
    ∃ g, g / 3 = p ∧ g % 3 < P ∧ st g = 1 ∧ (∀ x, x < 12 → x / 3 = p → x ≠ g → pg x = 0) ∧ (∀ post : Int32 → Prop, post (nI g) → wpX_pick post (nI P, de, nI K, sd, nI t, wn, nI F, nI o, nt, nI N, fo, fl, me, se, np, ac, ta, rd, rc, op, ag, cl, pr, bu, aa, pc, st, pg, dl, wk, us, xw, ws, so, ds, kd, pa, lo, ar, sl, hd, ct) (nI p)) ∧ (∀ post : Int32 → Prop, post (nI (g - p * 3)) → wpY_chosen post (nI P, de, nI K, nI t, nI F, wn, nI N, sp, sd, fo, la, op, ag, cl, pr, bu, aa, pc, st, pg, us, dl, wk, yw, ws, pl, wd, ac, ta, so, ds, kd, pa, lo, ar, ot, oc, nn, nc) (nI p)) := by
  obtain ⟨r1, r2, r3, r4, r5, r6, r7, r8⟩ := R
  obtain ⟨L, l1, l2, l3, l4⟩ := r1.2.2 p hp
  have hl := sk_nd L (fun x hx => ((l3 x).1 hx).1) l4
  have p0 : ¬ nI p < 0 := nI_pos (by omega)
  have p3 : nI p ≤ 3 := nI_le (b := 3) (by omega) (by decide)
  have m3 : 3 * nI p = nI (p * 3) := sk_3m p
  have hmem : ∀ x, x ∈ L ↔ x / 3 = p ∧ st x = 1 := fun x => by
    rw [l3 x]
    exact ⟨fun z => ⟨z.1, z.2.1⟩, fun z => ⟨z.1, z.2, fun w => w⟩⟩
  by_cases hA : ∃ h, h ∈ L ∧ pg h ≠ 0
  · obtain ⟨h, hL, hg⟩ := hA
    have e3 := ((hmem h).1 hL).1
    have es := ((hmem h).1 hL).2
    have hq := (r1.2.1 h (by omega) es).1
    have hot : ∀ x, x < 12 → x / 3 = p → x ≠ h → pg x = 0 := fun x hx hxp e => by
      by_cases z : pg x = 0
      · exact z
      · exact absurd (r3.2 x h hx (by omega) (by omega) z hg) e
    have hnl : ¬ pg h ≤ 0 := by
      obtain ⟨n, hn, en, _⟩ := r3.1 h (by omega)
      rw [en] at hg ⊢
      exact sk_npos hg (by omega)
    refine Or.inr ⟨h, e3, hq, es, hot, fun post hpost => ?_, fun post hpost => ?_⟩
    · exact ⟨L.length + 1, sk_pickA (P := P) (de := de) (K := K) (sd := sd) (t := t) (wn := wn) (F := F) (o := o) (nt := nt) (N := N) (fo := fo) (fl := fl) (me := me) (se := se) (np := np) (ac := ac) (ta := ta) (rd := rd) (rc := rc) (op := op) (ag := ag) (cl := cl) (pr := pr) (bu := bu) (aa := aa) (pc := pc) (st := st) (pg := pg) (dl := dl) (wk := wk) (us := us) (xw := xw) (ws := ws) (so := so) (ds := ds) (kd := kd) (pa := pa) (lo := lo) (ar := ar) (sl := sl) (hd := hd) (ct := ct) hp hl l1 hnl L 0 (-1) (by omega) l2 (fun x hx => by
        have := ((hmem x).1 hx).1
        exact ⟨by omega, fun e => hot x (by omega) this e⟩) hL (Or.inl rfl) post hpost _ (Nat.lt_succ_self _)⟩
    · exact br_f p0 (br_t p3 (nm_r m3 ⟨P + 1, sk_choA (P := P) (de := de) (K := K) (t := t) (F := F) (wn := wn) (N := N) (sp := sp) (sd := sd) (fo := fo) (la := la) (op := op) (ag := ag) (cl := cl) (pr := pr) (bu := bu) (aa := aa) (pc := pc) (st := st) (pg := pg) (us := us) (dl := dl) (wk := wk) (yw := yw) (ws := ws) (pl := pl) (wd := wd) (ac := ac) (ta := ta) (so := so) (ds := ds) (kd := kd) (pa := pa) (lo := lo) (ar := ar) (ot := ot) (oc := oc) (nn := nn) (nc := nc) hP hp hnl (by omega) (by omega) (fun x h1 h2 e => hot x (by omega) (by omega) e) post hpost P (p * 3) (-1) (by omega) (by omega) (by omega) (Or.inl rfl) _ (Nat.lt_succ_self _)⟩))
  · have hz : ∀ x, x < 12 → x / 3 = p → pg x = 0 := fun x hx hxp => by
      by_cases hs : st x = 1
      · by_cases z : pg x = 0
        · exact z
        · exact absurd ⟨x, (hmem x).2 ⟨hxp, hs⟩, z⟩ hA
      · exact sk_PG_0 r3 hx hs
    obtain ⟨r, b1, b2⟩ := sk_pickB (P := P) (de := de) (K := K) (sd := sd) (t := t) (wn := wn) (F := F) (o := o) (nt := nt) (N := N) (fo := fo) (fl := fl) (me := me) (se := se) (np := np) (ac := ac) (ta := ta) (rd := rd) (rc := rc) (op := op) (ag := ag) (cl := cl) (pr := pr) (bu := bu) (aa := aa) (pc := pc) (st := st) (pg := pg) (dl := dl) (wk := wk) (us := us) (xw := xw) (ws := ws) (so := so) (ds := ds) (kd := kd) (pa := pa) (lo := lo) (ar := ar) (sl := sl) (hd := hd) (ct := ct) (pl := pl) hp hl l1 L (fun _ => False) 0 (-1) (by omega) l2 (fun x hx => by
        have := ((hmem x).1 hx).1
        exact ⟨by omega, hz x (by omega) this⟩) (fun x z => z.elim) (Or.inl ⟨fun y z => z, rfl⟩) (fun x y z => z.elim) l4
    obtain ⟨r', c1, c2⟩ := sk_choB (P := P) (de := de) (K := K) (t := t) (F := F) (wn := wn) (N := N) (sp := sp) (sd := sd) (fo := fo) (la := la) (op := op) (ag := ag) (cl := cl) (pr := pr) (bu := bu) (aa := aa) (pc := pc) (st := st) (pg := pg) (us := us) (dl := dl) (wk := wk) (yw := yw) (ws := ws) (pl := pl) (wd := wd) (ac := ac) (ta := ta) (so := so) (ds := ds) (kd := kd) (pa := pa) (lo := lo) (ar := ar) (ot := ot) (oc := oc) (nn := nn) (nc := nc) hP hp (fun x h1 h2 => hz x (by omega) (by omega)) (fun x y hx hy hsx hsy e => sk_pw l4 ((hmem x).2 ⟨hx, hsx⟩) ((hmem y).2 ⟨hy, hsy⟩) e) P (p * 3) (-1) (by omega) (by omega) (Or.inl ⟨fun y z => by omega, rfl⟩)
    have er : r' = r := sk_best_uq c1 (sk_best_cg b1 (fun y => by
      constructor
      · intro z
        exact Or.inr ((hmem y).2 ⟨by omega, z.2.2⟩)
      · intro z
        rcases z with z | z
        · exact z.elim
        · have := (hmem y).1 z
          have q := (r1.2.1 y (by omega) this.2).1
          exact ⟨by omega, by omega, this.2⟩))
    rw [er] at c1 c2
    rcases c1 with ⟨d1, d2⟩ | ⟨c, d1, d2, _⟩
    · refine Or.inl ⟨fun x hx hs => ?_, fun post hpost => ?_, fun post hpost => ?_⟩
      · have q := (r1.2.1 x (by omega) hs).1
        exact d1 x ⟨by omega, by omega, hs⟩
      · exact ⟨L.length + 1, b2 post (by rw [d2]; exact hpost) _ (Nat.lt_succ_self _)⟩
      · exact br_f p0 (br_t p3 (nm_r m3 ⟨P + 1, c2 post ⟨fun _ => hpost, fun c e h1 h2 => by
          rw [d2] at e
          have := nI_pos (n := c) (by omega)
          rw [← e] at this
          exact absurd sk_m1lt this⟩ _ (Nat.lt_succ_self _)⟩))
    · refine Or.inr ⟨c, by omega, by omega, d2.2.2, fun x hx hxp _ => hz x hx hxp, fun post hpost => ?_, fun post hpost => ?_⟩
      · exact ⟨L.length + 1, b2 post (by rw [d1]; exact hpost) _ (Nat.lt_succ_self _)⟩
      · exact br_f p0 (br_t p3 (nm_r m3 ⟨P + 1, c2 post ⟨fun z => absurd z (by rw [d1]; exact nI_pos (by omega)), fun c' e h1 h2 => by
          rw [d1] at e
          rw [← (nI_eq (by omega) (by omega)).1 e]
          exact hpost⟩ _ (Nat.lt_succ_self _)⟩))
theorem sk_bw {p s : Nat} {w : Int32} (hP : P ≤ 3) (hp : p < 4) (hs : s = 3 ∨ s = 4) (hW : sk_WA st xw yw) : ∀ (d i : Nat) (b : Int32), i + d = p * 3 + P → p * 3 ≤ i → (b = -1 ∨ ∃ c, b = nI c ∧ p * 3 ≤ c ∧ c < p * 3 + P ∧ st c = nI s) →
    ∃ r, (r = -1 ∨ ∃ c, r = nI c ∧ p * 3 ≤ c ∧ c < p * 3 + P ∧ st c = nI s) ∧
    (∀ post : Int32 → Prop, post r → ∀ n, d < n → wX_bestWaiter_8 post (nI p) (nI s) w (nI P) de (nI K) sd (nI t) wn (nI F) (nI o) nt (nI N) fo fl me se np ac ta rd rc op ag cl pr bu aa pc st pg dl wk us xw ws so ds kd pa lo ar sl hd ct n b (nI i)) ∧
    (∀ post : Int32 → Prop, post r → ∀ n, d < n → wY_best_8 post (nI p) (nI s) w (nI P) de (nI K) (nI t) (nI F) wn (nI N) sp sd fo la op ag cl pr bu aa pc st pg us dl wk yw ws pl wd ac ta so ds kd pa lo ar ot oc nn nc n b (nI i)) := by
  intro d
  induction d with
  | zero =>
    intro i b hi hi3 hb
    have le : nI p * 3 + nI P ≤ nI i := by rw [sk_m3, nI_add]; exact nI_le (by omega) (by omega)
    have le' : 3 * nI p + nI P ≤ nI i := by rw [sk_3m, nI_add]; exact nI_le (by omega) (by omega)
    refine ⟨b, hb, fun post h n hn => ?_, fun post h n hn => ?_⟩
    · cases n with
      | zero => exact absurd hn (Nat.lt_irrefl _)
      | succ n => exact br_t le h
    · cases n with
      | zero => exact absurd hn (Nat.lt_irrefl _)
      | succ n => exact br_t le' h
  | succ d ih =>
    intro i b hi hi3 hb
    have nle : ¬ nI p * 3 + nI P ≤ nI i := by rw [sk_m3, nI_add]; exact nI_ge (by omega) (by omega)
    have nle' : ¬ 3 * nI p + nI P ≤ nI i := by rw [sk_3m, nI_add]; exact nI_ge (by omega) (by omega)
    have ii : vp_in (nI i) 12 := vp_in_nI (by omega) (by omega)
    have ci : (nI i).toNatClampNeg = i := nI_clamp (by omega)
    by_cases q1 : st i = nI s
    · have q1' : st (nI i).toNatClampNeg = nI s := by rw [ci]; exact q1
      have exy : xw i = yw i := (hW i (by omega)).1 (by rw [q1]; rcases hs with z | z <;> rw [z] <;> decide)
      by_cases q2 : xw i = w
      · have q2x : xw (nI i).toNatClampNeg = w := by rw [ci]; exact q2
        have q2y : yw (nI i).toNatClampNeg = w := by rw [ci, ← exy]; exact q2
        have hbi : (nI i = -1 ∨ ∃ c, nI i = nI c ∧ p * 3 ≤ c ∧ c < p * 3 + P ∧ st c = nI s) := Or.inr ⟨i, rfl, hi3, by omega, q1⟩
        obtain ⟨ri, i1, i2, i3⟩ := ih (i + 1) (nI i) (by omega) (by omega) hbi
        rcases hb with hb | ⟨c, hb, c1, c2, c3⟩
        · refine ⟨ri, i1, fun post h n hn => ?_, fun post h n hn => ?_⟩
          · cases n with
            | zero => exact absurd hn (Nat.not_lt_zero _)
            | succ n => exact br_f nle (And.intro ii (br_t q1' (And.intro ii (br_t q2x (br_t (by rw [hb]; exact sk_m1lt) (nm_r (nI_1 i) (i2 post h n (by omega))))))))
          · cases n with
            | zero => exact absurd hn (Nat.not_lt_zero _)
            | succ n => exact br_f nle' (And.intro ii (br_t q1' (And.intro ii (br_t q2y (br_t (by rw [hb]; exact sk_m1lt) (nm_r (nI_1 i) (i3 post h n (by omega))))))))
        · have ic : vp_in b 12 := by rw [hb]; exact vp_in_nI (by omega) (by omega)
          have cb : b.toNatClampNeg = c := by rw [hb]; exact nI_clamp (by omega)
          have nb : ¬ b < 0 := by rw [hb]; exact nI_pos (by omega)
          obtain ⟨rb, b1, b2, b3⟩ := ih (i + 1) b (by omega) (by omega) (Or.inr ⟨c, hb, c1, c2, c3⟩)
          have n10 : ¬ (1 : Int32) = 0 := by decide
          by_cases w1 : pr i = pr c
          · have w0 : ¬ pr b.toNatClampNeg < pr (nI i).toNatClampNeg := by rw [ci, cb, w1]; exact Int32.lt_irrefl
            have w1' : pr (nI i).toNatClampNeg = pr b.toNatClampNeg := by rw [ci, cb]; exact w1
            by_cases w2 : ws c ≤ ws i
            · have w2' : ws b.toNatClampNeg ≤ ws (nI i).toNatClampNeg := by rw [ci, cb]; exact w2
              refine ⟨rb, b1, fun post h n hn => ?_, fun post h n hn => ?_⟩
              · cases n with
                | zero => exact absurd hn (Nat.not_lt_zero _)
                | succ n =>
                  refine br_f nle (And.intro ii (br_t q1' (And.intro ii (br_t q2x (br_f nb ?_)))))
                  exact And.intro ii (And.intro ic (br_t w1' (And.intro ii (And.intro ic (br_t w2' (br_t rfl (nm_r (nI_1 i) (b2 post h n (by omega)))))))))
              · cases n with
                | zero => exact absurd hn (Nat.not_lt_zero _)
                | succ n =>
                  refine br_f nle' (And.intro ii (br_t q1' (And.intro ii (br_t q2y (br_f nb ?_)))))
                  exact And.intro ii (And.intro ic (br_f w0 (And.intro ii (And.intro ic (br_t w1' (And.intro ii (And.intro ic (br_t w2' (nm_r (nI_1 i) (b3 post h n (by omega)))))))))))
            · have w2' : ¬ ws b.toNatClampNeg ≤ ws (nI i).toNatClampNeg := by rw [ci, cb]; exact w2
              refine ⟨ri, i1, fun post h n hn => ?_, fun post h n hn => ?_⟩
              · cases n with
                | zero => exact absurd hn (Nat.not_lt_zero _)
                | succ n =>
                  refine br_f nle (And.intro ii (br_t q1' (And.intro ii (br_t q2x (br_f nb ?_)))))
                  exact And.intro ii (And.intro ic (br_t w1' (And.intro ii (And.intro ic (br_f w2' (br_f n10 (nm_r (nI_1 i) (i2 post h n (by omega)))))))))
              · cases n with
                | zero => exact absurd hn (Nat.not_lt_zero _)
                | succ n =>
                  refine br_f nle' (And.intro ii (br_t q1' (And.intro ii (br_t q2y (br_f nb ?_)))))
                  exact And.intro ii (And.intro ic (br_f w0 (And.intro ii (And.intro ic (br_t w1' (And.intro ii (And.intro ic (br_f w2' (nm_r (nI_1 i) (i3 post h n (by omega)))))))))))
          · have w1' : ¬ pr (nI i).toNatClampNeg = pr b.toNatClampNeg := by rw [ci, cb]; exact w1
            by_cases w2 : pr i ≤ pr c
            · have w2' : pr (nI i).toNatClampNeg ≤ pr b.toNatClampNeg := by rw [ci, cb]; exact w2
              have w0 : ¬ pr b.toNatClampNeg < pr (nI i).toNatClampNeg := Int32.not_lt.mpr w2'
              refine ⟨rb, b1, fun post h n hn => ?_, fun post h n hn => ?_⟩
              · cases n with
                | zero => exact absurd hn (Nat.not_lt_zero _)
                | succ n =>
                  refine br_f nle (And.intro ii (br_t q1' (And.intro ii (br_t q2x (br_f nb ?_)))))
                  exact And.intro ii (And.intro ic (br_f w1' (And.intro ii (And.intro ic (br_t w2' (br_t rfl (nm_r (nI_1 i) (b2 post h n (by omega)))))))))
              · cases n with
                | zero => exact absurd hn (Nat.not_lt_zero _)
                | succ n =>
                  refine br_f nle' (And.intro ii (br_t q1' (And.intro ii (br_t q2y (br_f nb ?_)))))
                  exact And.intro ii (And.intro ic (br_f w0 (And.intro ii (And.intro ic (br_f w1' (nm_r (nI_1 i) (b3 post h n (by omega))))))))
            · have w2' : ¬ pr (nI i).toNatClampNeg ≤ pr b.toNatClampNeg := by rw [ci, cb]; exact w2
              have w0 : pr b.toNatClampNeg < pr (nI i).toNatClampNeg := Int32.not_le.mp w2'
              refine ⟨ri, i1, fun post h n hn => ?_, fun post h n hn => ?_⟩
              · cases n with
                | zero => exact absurd hn (Nat.not_lt_zero _)
                | succ n =>
                  refine br_f nle (And.intro ii (br_t q1' (And.intro ii (br_t q2x (br_f nb ?_)))))
                  exact And.intro ii (And.intro ic (br_f w1' (And.intro ii (And.intro ic (br_f w2' (br_f n10 (nm_r (nI_1 i) (i2 post h n (by omega)))))))))
              · cases n with
                | zero => exact absurd hn (Nat.not_lt_zero _)
                | succ n =>
                  refine br_f nle' (And.intro ii (br_t q1' (And.intro ii (br_t q2y (br_f nb ?_)))))
                  exact And.intro ii (And.intro ic (br_t w0 (nm_r (nI_1 i) (i3 post h n (by omega)))))
      · have q2x : ¬ xw (nI i).toNatClampNeg = w := by rw [ci]; exact q2
        have q2y : ¬ yw (nI i).toNatClampNeg = w := by rw [ci, ← exy]; exact q2
        obtain ⟨rb, b1, b2, b3⟩ := ih (i + 1) b (by omega) (by omega) hb
        refine ⟨rb, b1, fun post h n hn => ?_, fun post h n hn => ?_⟩
        · cases n with
          | zero => exact absurd hn (Nat.not_lt_zero _)
          | succ n => exact br_f nle (And.intro ii (br_t q1' (And.intro ii (br_f q2x (nm_r (nI_1 i) (b2 post h n (by omega)))))))
        · cases n with
          | zero => exact absurd hn (Nat.not_lt_zero _)
          | succ n => exact br_f nle' (And.intro ii (br_t q1' (And.intro ii (br_f q2y (nm_r (nI_1 i) (b3 post h n (by omega)))))))
    · have q1' : ¬ st (nI i).toNatClampNeg = nI s := by rw [ci]; exact q1
      obtain ⟨rb, b1, b2, b3⟩ := ih (i + 1) b (by omega) (by omega) hb
      refine ⟨rb, b1, fun post h n hn => ?_, fun post h n hn => ?_⟩
      · cases n with
        | zero => exact absurd hn (Nat.not_lt_zero _)
        | succ n => exact br_f nle (And.intro ii (br_f q1' (nm_r (nI_1 i) (b2 post h n (by omega)))))
      · cases n with
        | zero => exact absurd hn (Nat.not_lt_zero _)
        | succ n => exact br_f nle' (And.intro ii (br_f q1' (nm_r (nI_1 i) (b3 post h n (by omega)))))
theorem sk_bwait {p s : Nat} {w : Int32} (hP : P ≤ 3) (hp : p < 4) (hs : s = 3 ∨ s = 4) (hW : sk_WA st xw yw) : ∃ r, (r = -1 ∨ ∃ c, r = nI c ∧ p * 3 ≤ c ∧ c < p * 3 + P ∧ st c = nI s) ∧
    (∀ post : Int32 → Prop, post r → wpX_bestWaiter post (nI P, de, nI K, sd, nI t, wn, nI F, nI o, nt, nI N, fo, fl, me, se, np, ac, ta, rd, rc, op, ag, cl, pr, bu, aa, pc, st, pg, dl, wk, us, xw, ws, so, ds, kd, pa, lo, ar, sl, hd, ct) (nI p) (nI s) w) ∧ (∀ post : Int32 → Prop, post r → wpY_best post (nI P, de, nI K, nI t, nI F, wn, nI N, sp, sd, fo, la, op, ag, cl, pr, bu, aa, pc, st, pg, us, dl, wk, yw, ws, pl, wd, ac, ta, so, ds, kd, pa, lo, ar, ot, oc, nn, nc) (nI p) (nI s) w) := by
  obtain ⟨r, h1, h2, h3⟩ := sk_bw (P := P) (de := de) (K := K) (sd := sd) (t := t) (wn := wn) (F := F) (o := o) (nt := nt) (N := N) (fo := fo) (fl := fl) (me := me) (se := se) (np := np) (ac := ac) (ta := ta) (rd := rd) (rc := rc) (op := op) (ag := ag) (cl := cl) (pr := pr) (bu := bu) (aa := aa) (pc := pc) (st := st) (pg := pg) (dl := dl) (wk := wk) (us := us) (xw := xw) (ws := ws) (so := so) (ds := ds) (kd := kd) (pa := pa) (lo := lo) (ar := ar) (sl := sl) (hd := hd) (ct := ct) (sp := sp) (la := la) (yw := yw) (pl := pl) (wd := wd) (ot := ot) (oc := oc) (nn := nn) (nc := nc) (w := w) hP hp hs hW P (p * 3) (-1) (by omega) (by omega) (Or.inl rfl)
  exact ⟨r, h1, fun post h => nm_r (sk_m3 p) ⟨P + 1, h2 post h _ (Nat.lt_succ_self _)⟩, fun post h => nm_r (sk_3m p) ⟨P + 1, h3 post h _ (Nat.lt_succ_self _)⟩⟩
end S13
end
section
def sk_mc (c m : Nat) : Nat → Nat := fun x => if x = c then m else 0
theorem sk_mc_0 (c : Nat) : sk_mc c 0 = sk_z := by
  funext x
  show (if x = c then 0 else 0) = 0
  by_cases e : x = c
  · rw [if_pos e]
  · rw [if_neg e]
theorem sk_mc_s (c m : Nat) : sk_mc c m c = m := if_pos rfl
theorem sk_mc_n {c m x : Nat} (h : x ≠ c) : sk_mc c m x = 0 := if_neg h
section S14
variable {de sd wn nt sp : Int32} {fo fl la me se np ac ta rd rc op ag cl pr bu aa pc st pg dl wk us xw ws so ds kd pa lo ar sl hd ct yw pl wd ot oc nn nc : Nat → Int32} {P K t F o N B : Nat} {E : Nat → Prop} {M : Nat → Nat}
theorem sk_RG_inapp (h : sk_RG M sl hd ct ot oc nn nc) {c h0 n : Nat} {v : Int32} (hh : h0 < 4) (hn : n < 4) (e1 : hd (c * 2 + 1) = nI h0) (hi : ∀ i, i < n → sl ((c * 2 + 1) * 4 + (h0 + i) % 4) = nn (c * 4 + i)) {ct' : Nat → Int32} (hct : ct' (c * 2 + 1) = nI (n + 1)) (hct' : ∀ x, x ≠ c * 2 + 1 → ct' x = ct x) :
    sk_RG M (upd sl ((c * 2 + 1) * 4 + (h0 + n) % 4) v) hd ct' ot oc (upd nn (c * 4 + n) v) (upd nc c (nI (n + 1))) := by
  intro x hx
  obtain ⟨h1, h2⟩ := h x hx
  refine ⟨sk_ring_fr h1 (fun j hj => pk_un (by omega)) rfl (hct' _ (by omega)) (fun _ _ => rfl) rfl, ?_⟩
  by_cases e : x = c
  · rw [e]; exact sk_ring_app hh hn e1 hi hct pk_us
  · exact sk_ring_fr h2 (fun j hj => pk_un (by omega)) rfl (hct' _ (by omega)) (fun j hj => pk_un (by omega)) (pk_un e)
theorem sk_RG_outapp (h : sk_RG sk_z sl hd ct ot oc nn nc) {c h0 n : Nat} {v : Int32} (hh : h0 < 4) (hn : n < 4) (e1 : hd (c * 2) = nI h0) (hi : ∀ i, i < n → sl (c * 2 * 4 + (h0 + i) % 4) = ot (c * 4 + i)) {ct' : Nat → Int32} (hct : ct' (c * 2) = nI (n + 1)) (hct' : ∀ x, x ≠ c * 2 → ct' x = ct x) :
    sk_RG sk_z (upd sl (c * 2 * 4 + (h0 + n) % 4) v) hd ct' (upd ot (c * 4 + n) v) (upd oc c (nI (n + 1))) nn nc := by
  intro x hx
  obtain ⟨h1, h2⟩ := h x hx
  refine ⟨?_, sk_ring_fr h2 (fun j hj => pk_un (by omega)) rfl (hct' _ (by omega)) (fun _ _ => rfl) rfl⟩
  by_cases e : x = c
  · rw [e]; exact sk_ring_app hh hn e1 hi hct pk_us
  · exact sk_ring_fr h1 (fun j hj => pk_un (by omega)) rfl (hct' _ (by omega)) (fun j hj => pk_un (by omega)) (pk_un e)
theorem sk_app {s h n : Nat} (hs : s < 12) (hh : h < 4) (hn : n ≤ 4) (e1 : hd s = nI h) (e2 : ct s = nI n) {v : Int32} (post : SX → Prop) (hp : post (nI P, de, nI K, sd, nI t, wn, nI F, nI o, nt, nI N, fo, fl, me, se, np, ac, ta, rd, rc, op, ag, cl, pr, bu, aa, pc, st, pg, dl, wk, us, xw, ws, so, ds, kd, pa, lo, ar, upd sl (s * 4 + (h + n) % 4) v, hd, upd ct s (nI (n + 1)))) : wpX_append post (nI P, de, nI K, sd, nI t, wn, nI F, nI o, nt, nI N, fo, fl, me, se, np, ac, ta, rd, rc, op, ag, cl, pr, bu, aa, pc, st, pg, dl, wk, us, xw, ws, so, ds, kd, pa, lo, ar, sl, hd, ct) (nI s) v := by
  have is : vp_in (nI s) 12 := vp_in_nI hs (by omega)
  have cs : (nI s).toNatClampNeg = s := nI_clamp (by omega)
  have ix : vp_in (nI (s * 4 + (h + n) % 4)) 48 := vp_in_nI (by omega) (by omega)
  have cx : (nI (s * 4 + (h + n) % 4)).toNatClampNeg = s * 4 + (h + n) % 4 := nI_clamp (by omega)
  have a3 : nI (h + n) &&& 3 = nI ((h + n) % 4) := sk_and3 (by omega)
  simp only [wpX_append, is, cs, e1, e2, nI_add, a3, sk_m4, ix, cx, nI_1, false_implies, true_implies, not_false_eq_true, not_true_eq_false, true_and, and_true, forall_eq, eq_self, Int32.reduceLT, Int32.reduceLE]
  exact hp
theorem sk_take {s h n : Nat} (hs : s < 12) (hh : h < 4) (hn : n < 4) (e1 : hd s = nI h) (e2 : ct s = nI (n + 1)) (post : Int32 → SX → Prop) (hp : post (sl (s * 4 + h)) (nI P, de, nI K, sd, nI t, wn, nI F, nI o, nt, nI N, fo, fl, me, se, np, ac, ta, rd, rc, op, ag, cl, pr, bu, aa, pc, st, pg, dl, wk, us, xw, ws, so, ds, kd, pa, lo, ar, sl, upd hd s (nI ((h + 1) % 4)), upd ct s (nI n))) : wpX_takeOldest post (nI P, de, nI K, sd, nI t, wn, nI F, nI o, nt, nI N, fo, fl, me, se, np, ac, ta, rd, rc, op, ag, cl, pr, bu, aa, pc, st, pg, dl, wk, us, xw, ws, so, ds, kd, pa, lo, ar, sl, hd, ct) (nI s) := by
  have is : vp_in (nI s) 12 := vp_in_nI hs (by omega)
  have cs : (nI s).toNatClampNeg = s := nI_clamp (by omega)
  have ix : vp_in (nI (s * 4 + h)) 48 := vp_in_nI (by omega) (by omega)
  have cx : (nI (s * 4 + h)).toNatClampNeg = s * 4 + h := nI_clamp (by omega)
  have a3 : nI (h + 1) &&& 3 = nI ((h + 1) % 4) := sk_and3 (by omega)
  simp only [wpX_takeOldest, is, cs, e1, e2, nI_add, nI_1, a3, sk_m4, ix, cx, nI_pred, false_implies, true_implies, not_false_eq_true, not_true_eq_false, true_and, and_true, forall_eq, eq_self, Int32.reduceLT, Int32.reduceLE]
  exact hp
theorem sk_deliver (R : sk_R P K sk_no M B np nt me se rd rc pc st pg dl wk xw sl hd ct sp yw pl wd ot oc nn nc) (hK : 0 < K) (hP : P ≤ 3) (hB : B + 1 < 2 ^ 30) (hN : N ≤ 6) {c : Nat} (hc : c < N) (hds : ∃ d, d < 4 ∧ ds c = nI d) (hpa : ¬ kd c = 0 → ∃ m, m ≤ 4 ∧ pa c = nI m) (v : Int32) :
    ∃ rd' rc' aa' st' xw' lo' ar' sl' ct' sp' pl' nn' nc', sk_R P K sk_no M (B + 1) np nt me se rd' rc' pc st' pg dl wk xw' sl' hd ct' sp' yw pl' wd ot oc nn' nc' ∧
    (∀ post : SX → Prop, post (nI P, de, nI K, sd, nI t, wn, nI F, nI o, nt, nI N, fo, fl, me, se, np, ac, ta, rd', rc', op, ag, cl, pr, bu, aa', pc, st', pg, dl, wk, us, xw', ws, so, ds, kd, pa, lo', ar', sl', hd, ct') → wpX_deliver post (nI P, de, nI K, sd, nI t, wn, nI F, nI o, nt, nI N, fo, fl, me, se, np, ac, ta, rd, rc, op, ag, cl, pr, bu, aa, pc, st, pg, dl, wk, us, xw, ws, so, ds, kd, pa, lo, ar, sl, hd, ct) (nI c) v) ∧
    (∀ post : SY → Prop, post (nI P, de, nI K, nI t, nI F, wn, nI N, sp', sd, fo, la, op, ag, cl, pr, bu, aa', pc, st', pg, us, dl, wk, yw, ws, pl', wd, ac, ta, so, ds, kd, pa, lo', ar', ot, oc, nn', nc') → wpY_deliver post (nI P, de, nI K, nI t, nI F, wn, nI N, sp, sd, fo, la, op, ag, cl, pr, bu, aa, pc, st, pg, us, dl, wk, yw, ws, pl, wd, ac, ta, so, ds, kd, pa, lo, ar, ot, oc, nn, nc) (nI c) v) := by
  have Ro := R
  obtain ⟨r1, r2, r3, r4, r5, r6, r7, r8⟩ := R
  have i6 : vp_in (nI c) 6 := vp_in_nI (by omega) (by omega)
  have cc : (nI c).toNatClampNeg = c := nI_clamp (by omega)
  have ex : nI c * 2 + 1 = nI (c * 2 + 1) := by rw [sk_m2, nI_1]
  have i1 : vp_in (nI (c * 2 + 1)) 12 := vp_in_nI (by omega) (by omega)
  have c1 : (nI (c * 2 + 1)).toNatClampNeg = c * 2 + 1 := nI_clamp (by omega)
  have i24 : vp_in (nI (c * 4)) 24 := vp_in_nI (by omega) (by omega)
  have c24 : (nI (c * 4)).toNatClampNeg = c * 4 := nI_clamp (by omega)
  obtain ⟨h, n, q1, q2, q3, q4, q5, q6, q7⟩ := (r8 c (by omega)).2
  have q4' : hd (c * 2 + 1) = nI h := by rw [q4, Nat.add_zero, Nat.mod_eq_of_lt q1]
  have q5' : ct (c * 2 + 1) = nI n := q5
  by_cases hk : kd c = 0
  · refine ⟨rd, rc, aa, st, xw, lo, upd ar c (nI t + 1), upd sl ((c * 2 + 1) * 4 + (h + 0) % 4) v, upd (upd ct (c * 2 + 1) 0) (c * 2 + 1) (nI (0 + 1)), sp, pl, upd nn (c * 4 + 0) v, upd nc c (nI (0 + 1)), ⟨sk_RO_mono r1 (by omega), r2, r3, r4, r5, r6, r7, ?_⟩, fun post hp => ?_, fun post hp => ?_⟩
    · exact sk_RG_inapp r8 q1 (by omega) q4' (fun i hi => absurd hi (by omega)) pk_us (fun x e => by rw [pk_un e, pk_un e])
    · simp only [wpX_deliver, ex, i6, cc, i1, c1, hk, false_implies, true_implies, not_false_eq_true, not_true_eq_false, true_and, and_true, forall_eq, eq_self, Int32.reduceLT, Int32.reduceLE]
      refine sk_app (P := P) (de := de) (K := K) (sd := sd) (t := t) (wn := wn) (F := F) (o := o) (nt := nt) (N := N) (fo := fo) (fl := fl) (me := me) (se := se) (np := np) (ac := ac) (ta := ta) (rd := rd) (rc := rc) (op := op) (ag := ag) (cl := cl) (pr := pr) (bu := bu) (aa := aa) (pc := pc) (st := st) (pg := pg) (dl := dl) (wk := wk) (us := us) (xw := xw) (ws := ws) (so := so) (ds := ds) (kd := kd) (pa := pa) (lo := lo) (ar := ar) (sl := sl) (hd := hd) (ct := upd ct (c * 2 + 1) 0) (show c * 2 + 1 < 12 by omega) q1 (Nat.zero_le _) q4' pk_us _ ?_
      simp only [i6, cc, false_implies, true_implies, not_false_eq_true, not_true_eq_false, true_and, and_true, forall_eq, eq_self, Int32.reduceLT, Int32.reduceLE]
      exact hp
    · simp only [wpY_deliver, i6, cc, sk_4m, i24, c24, hk, false_implies, true_implies, not_false_eq_true, not_true_eq_false, true_and, and_true, forall_eq, eq_self, Int32.reduceLT, Int32.reduceLE]
      exact hp
  · obtain ⟨m, hm, em⟩ := hpa hk
    obtain ⟨d, hd4, ed⟩ := hds
    obtain ⟨r, w1, w2, w3⟩ := sk_bwait (P := P) (de := de) (K := K) (sd := sd) (t := t) (wn := wn) (F := F) (o := o) (nt := nt) (N := N) (fo := fo) (fl := fl) (me := me) (se := se) (np := np) (ac := ac) (ta := ta) (rd := rd) (rc := rc) (op := op) (ag := ag) (cl := cl) (pr := pr) (bu := bu) (aa := aa) (pc := pc) (st := st) (pg := pg) (dl := dl) (wk := wk) (us := us) (xw := xw) (ws := ws) (so := so) (ds := ds) (kd := kd) (pa := pa) (lo := lo) (ar := ar) (sl := sl) (hd := hd) (ct := ct) (sp := sp) (la := la) (yw := yw) (pl := pl) (wd := wd) (ot := ot) (oc := oc) (nn := nn) (nc := nc) (p := d) (s := 4) (w := nI c) hP hd4 (Or.inr rfl) r2
    rcases w1 with w1 | ⟨g, w1, g1, g2, g3⟩
    · have rn : r < 0 := by rw [w1]; exact sk_m1lt
      by_cases hmn : m ≤ n
      · have le : nI m ≤ nI n := nI_le hmn (by omega)
        refine ⟨rd, rc, aa, st, xw, upd lo c (lo c + 1), ar, sl, ct, sp, pl, nn, nc, sk_R_mono Ro (by omega), fun post hp => ?_, fun post hp => ?_⟩
        · simp only [wpX_deliver, ex, i6, cc, i1, c1, hk, ed, false_implies, true_implies, not_false_eq_true, not_true_eq_false, true_and, and_true, forall_eq, eq_self, Int32.reduceLT, Int32.reduceLE]
          refine w2 _ ?_
          simp only [rn, i6, cc, i1, c1, em, q5', le, false_implies, true_implies, not_false_eq_true, not_true_eq_false, true_and, and_true, forall_eq, eq_self, Int32.reduceLT, Int32.reduceLE]
          exact hp
        · simp only [wpY_deliver, i6, cc, hk, ed, false_implies, true_implies, not_false_eq_true, not_true_eq_false, true_and, and_true, forall_eq, eq_self, Int32.reduceLT, Int32.reduceLE]
          refine w3 _ ?_
          simp only [rn, i6, cc, em, q6, le, false_implies, true_implies, not_false_eq_true, not_true_eq_false, true_and, and_true, forall_eq, eq_self, Int32.reduceLT, Int32.reduceLE]
          exact hp
      · have nle : ¬ nI m ≤ nI n := nI_ge (by omega) (by omega)
        have i24' : vp_in (nI (c * 4 + n)) 24 := vp_in_nI (by omega) (by omega)
        have c24' : (nI (c * 4 + n)).toNatClampNeg = c * 4 + n := nI_clamp (by omega)
        refine ⟨rd, rc, aa, st, xw, lo, ar, upd sl ((c * 2 + 1) * 4 + (h + n) % 4) v, upd ct (c * 2 + 1) (nI (n + 1)), sp, pl, upd nn (c * 4 + n) v, upd nc c (nI (n + 1)), ⟨sk_RO_mono r1 (by omega), r2, r3, r4, r5, r6, r7, ?_⟩, fun post hp => ?_, fun post hp => ?_⟩
        · exact sk_RG_inapp r8 q1 (by omega) q4' (fun i hi => q7 i (Nat.zero_le _) hi) pk_us (fun x e => pk_un e)
        · simp only [wpX_deliver, ex, i6, cc, i1, c1, hk, ed, false_implies, true_implies, not_false_eq_true, not_true_eq_false, true_and, and_true, forall_eq, eq_self, Int32.reduceLT, Int32.reduceLE]
          refine w2 _ ?_
          simp only [rn, i6, cc, i1, c1, em, q5', nle, false_implies, true_implies, not_false_eq_true, not_true_eq_false, true_and, and_true, forall_eq, eq_self, Int32.reduceLT, Int32.reduceLE]
          exact sk_app (P := P) (de := de) (K := K) (sd := sd) (t := t) (wn := wn) (F := F) (o := o) (nt := nt) (N := N) (fo := fo) (fl := fl) (me := me) (se := se) (np := np) (ac := ac) (ta := ta) (rd := rd) (rc := rc) (op := op) (ag := ag) (cl := cl) (pr := pr) (bu := bu) (aa := aa) (pc := pc) (st := st) (pg := pg) (dl := dl) (wk := wk) (us := us) (xw := xw) (ws := ws) (so := so) (ds := ds) (kd := kd) (pa := pa) (lo := lo) (ar := ar) (sl := sl) (hd := hd) (ct := ct) (show c * 2 + 1 < 12 by omega) q1 q2 q4' q5' _ hp
        · simp only [wpY_deliver, i6, cc, hk, ed, false_implies, true_implies, not_false_eq_true, not_true_eq_false, true_and, and_true, forall_eq, eq_self, Int32.reduceLT, Int32.reduceLE]
          refine w3 _ ?_
          simp only [rn, i6, cc, em, q6, nle, sk_4m, nI_add, i24', c24', nI_1, false_implies, true_implies, not_false_eq_true, not_true_eq_false, true_and, and_true, forall_eq, eq_self, Int32.reduceLT, Int32.reduceLE]
          exact hp
    · have rn : ¬ nI g < 0 := nI_pos (by omega)
      have ig : vp_in (nI g) 12 := vp_in_nI (by omega) (by omega)
      have cg : (nI g).toNatClampNeg = g := nI_clamp (by omega)
      rw [w1] at w2 w3
      obtain ⟨rd1, rc1, R1, x1, y1⟩ := sk_rdy (P := P) (de := de) (K := K) (sd := sd) (t := t) (wn := wn) (F := F) (o := o) (nt := nt) (N := N) (fo := fo) (fl := fl) (me := me) (se := se) (np := np) (ac := ac) (ta := ta) (rd := rd) (rc := rc) (op := op) (ag := ag) (cl := cl) (pr := pr) (bu := bu) (aa := upd aa g v) (pc := pc) (st := st) (pg := pg) (dl := dl) (wk := wk) (us := us) (xw := xw) (ws := ws) (so := so) (ds := ds) (kd := kd) (pa := pa) (lo := lo) (ar := ar) (sl := sl) (hd := hd) (ct := ct) (sp := sp) (la := la) (yw := yw) (pl := pl) (wd := wd) (ot := ot) (oc := oc) (nn := nn) (nc := nc) (E := sk_no) (M := M) (B := B) Ro (by omega) hK (show g < 12 by omega) (by omega) (by rw [g3]; decide) (E' := sk_no) (fun _ _ => Iff.rfl) (fun z => z)
      refine ⟨rd1, rc1, upd aa g v, upd st g 1, upd xw g (-1), lo, ar, sl, ct, sp + 1, upd pl g (sp + 1), nn, nc, R1, fun post hp => ?_, fun post hp => ?_⟩
      · simp only [wpX_deliver, ex, i6, cc, i1, c1, hk, ed, false_implies, true_implies, not_false_eq_true, not_true_eq_false, true_and, and_true, forall_eq, eq_self, Int32.reduceLT, Int32.reduceLE]
        refine w2 _ ?_
        simp only [rn, ig, cg, false_implies, true_implies, not_false_eq_true, not_true_eq_false, true_and, and_true, forall_eq, eq_self, Int32.reduceLT, Int32.reduceLE]
        exact x1 _ hp
      · simp only [wpY_deliver, i6, cc, hk, ed, false_implies, true_implies, not_false_eq_true, not_true_eq_false, true_and, and_true, forall_eq, eq_self, Int32.reduceLT, Int32.reduceLE]
        refine w3 _ ?_
        simp only [rn, ig, cg, false_implies, true_implies, not_false_eq_true, not_true_eq_false, true_and, and_true, forall_eq, eq_self, Int32.reduceLT, Int32.reduceLE]
        exact y1 _ hp
end S14
end
section
section S15
variable {de sd wn nt sp : Int32} {fo fl la me se np ac ta rd rc op ag cl pr bu aa pc st pg dl wk us xw ws so ds kd pa lo ar sl hd ct yw pl wd ot oc nn nc : Nat → Int32} {P K t F o N B : Nat} {E : Nat → Prop} {M : Nat → Nat}
theorem sk_RG_take {c m : Nat} (hc : c < 6) (h : sk_RG (sk_mc c m) sl hd ct ot oc nn nc) {n : Nat} (hn : n ≤ 4) (hmn : m < n) (hoc : oc c = nI n) :
    ∃ h0, h0 < 4 ∧ hd (c * 2) = nI h0 ∧ ct (c * 2) = nI (n - m - 1 + 1) ∧ sl (c * 2 * 4 + h0) = ot (c * 4 + m) ∧ sk_RG (sk_mc c (m + 1)) sl (upd hd (c * 2) (nI ((h0 + 1) % 4))) (upd ct (c * 2) (nI (n - m - 1))) ot oc nn nc := by
  have hcc := (h c hc).1
  rw [sk_mc_s] at hcc
  obtain ⟨h0, n', q1, q2, q3, q4, q5, q6, q7⟩ := hcc
  have en : n' = n := by
    rw [hoc] at q6
    exact ((nI_eq (by omega) (by omega)).1 q6).symm
  rw [en] at q2 q3 q5 q6 q7
  refine ⟨(h0 + m) % 4, Nat.mod_lt _ (by decide), q4, by rw [q5]; exact congrArg nI (by omega), q7 m (Nat.le_refl _) hmn, fun x hx => ?_⟩
  obtain ⟨h1, h2⟩ := h x hx
  refine ⟨?_, sk_ring_fr h2 (fun _ _ => rfl) (pk_un (by omega)) (pk_un (by omega)) (fun _ _ => rfl) rfl⟩
  by_cases e : x = c
  · rw [e, sk_mc_s]
    exact ⟨h0, n, q1, q2, by omega, by rw [pk_us]; exact congrArg nI (by omega), by rw [pk_us]; exact congrArg nI (by omega), hoc, fun i hi1 hi2 => q7 i (by omega) hi2⟩
  · rw [sk_mc_n e] at h1 ⊢
    exact sk_ring_fr h1 (fun _ _ => rfl) (pk_un (by omega)) (pk_un (by omega)) (fun _ _ => rfl) rfl
theorem sk_RG_end {c n : Nat} (hc : c < 6) (h : sk_RG (sk_mc c n) sl hd ct ot oc nn nc) (hn : n ≤ 4) (hoc : oc c = nI n) : sk_RG sk_z sl hd ct ot (upd oc c 0) nn nc := by
  have hcc := (h c hc).1
  rw [sk_mc_s] at hcc
  have hcc0 := hcc
  obtain ⟨h0, n', q1, q2, q3, q4, q5, q6, q7⟩ := hcc
  have en : n' = n := by
    rw [hoc] at q6
    exact ((nI_eq (by omega) (by omega)).1 q6).symm
  have ct0 : ct (c * 2) = 0 := by
    rw [q5, en, Nat.sub_self]; rfl
  intro x hx
  obtain ⟨h1, h2⟩ := h x hx
  refine ⟨?_, sk_ring_fr h2 (fun _ _ => rfl) rfl rfl (fun _ _ => rfl) rfl⟩
  by_cases e : x = c
  · rw [e]; exact sk_ring_0 hcc0 ct0 pk_us
  · rw [sk_mc_n e] at h1
    exact sk_ring_fr h1 (fun _ _ => rfl) rfl rfl (fun _ _ => rfl) (pk_un e)
theorem sk_drain_lp (hK : 0 < K) (hP : P ≤ 3) (hN : N ≤ 6) {c : Nat} (hc : c < N) (hds : ∃ d, d < 4 ∧ ds c = nI d) (hpa : ¬ kd c = 0 → ∃ m, m ≤ 4 ∧ pa c = nI m) {n : Nat} (hn : n ≤ 4) (hoc : oc c = nI n) (w : Int32) :
    ∀ (j m B : Nat) (rd rc aa st xw lo ar sl hd ct : Nat → Int32) (sp : Int32) (pl nn nc : Nat → Int32), m + j = n → B + j < 2 ^ 30 → sk_R P K sk_no (sk_mc c m) B np nt me se rd rc pc st pg dl wk xw sl hd ct sp yw pl wd ot oc nn nc →
    ∃ rd' rc' aa' st' xw' lo' ar' sl' hd' ct' sp' pl' nn' nc', sk_R P K sk_no (sk_mc c n) (B + j) np nt me se rd' rc' pc st' pg dl wk xw' sl' hd' ct' sp' yw pl' wd ot oc nn' nc' ∧
    (∀ post : SX → Prop, post (nI P, de, nI K, sd, nI t, wn, nI F, nI o, nt, nI N, fo, fl, me, se, np, ac, ta, rd', rc', op, ag, cl, pr, bu, aa', pc, st', pg, dl, wk, us, xw', ws, so, ds, kd, pa, lo', ar', sl', hd', ct') → ∀ f, j < f → wX_drain_13 post (nI c) (nI (c * 2)) f (nI j) (nI P) de (nI K) sd (nI t) wn (nI F) (nI o) nt (nI N) fo fl me se np ac ta rd rc op ag cl pr bu aa pc st pg dl wk us xw ws so ds kd pa lo ar sl hd ct) ∧
    (∀ (post : SY → Prop) J, J (nI (c + 1)) (nI P) de (nI K) (nI t) (nI F) wn (nI N) sp' sd fo la op ag cl pr bu aa' pc st' pg us dl wk yw ws pl' wd ac ta so ds kd pa lo' ar' ot (upd oc c 0) nn' nc' → ∀ f, j < f → wY_send_22 post J w (nI c) f (nI m) (nI P) de (nI K) (nI t) (nI F) wn (nI N) sp sd fo la op ag cl pr bu aa pc st pg us dl wk yw ws pl wd ac ta so ds kd pa lo ar ot oc nn nc) := by
  have i6 : vp_in (nI c) 6 := vp_in_nI (by omega) (by omega)
  have cc : (nI c).toNatClampNeg = c := nI_clamp (by omega)
  intro j
  induction j with
  | zero =>
    intro m B rd rc aa st xw lo ar sl hd ct sp pl nn nc hm hB R
    have em : m = n := by omega
    rw [em] at R
    refine ⟨rd, rc, aa, st, xw, lo, ar, sl, hd, ct, sp, pl, nn, nc, R, fun post h f hf => ?_, fun post J h f hf => ?_⟩
    · cases f with
      | zero => exact absurd hf (Nat.lt_irrefl _)
      | succ f => exact br_t (Int32.le_refl _) h
    · cases f with
      | zero => exact absurd hf (Nat.lt_irrefl _)
      | succ f =>
        by_cases h4 : 4 ≤ m
        · exact br_t (nI_le (a := 4) h4 (by omega)) (And.intro i6 (nm_r (by rw [cc]) (nm_r (nI_1 c) h)))
        · exact br_f (nI_ge (b := 4) (by omega) (by decide)) (And.intro i6 (br_t (by rw [cc, hoc]; exact nI_le (by omega) (by omega)) (And.intro i6 (nm_r (by rw [cc]) (nm_r (nI_1 c) h)))))
  | succ j ih =>
    intro m B rd rc aa st xw lo ar sl hd ct sp pl nn nc hm hB R
    obtain ⟨r1, r2, r3, r4, r5, r6, r7, r8⟩ := R
    obtain ⟨h0, t1, t2, t3, t4, t5⟩ := sk_RG_take (show c < 6 by omega) r8 hn (show m < n by omega) hoc
    have ej : n - m - 1 = j := by omega
    rw [ej] at t3 t5
    obtain ⟨rd1, rc1, aa1, st1, xw1, lo1, ar1, sl1, ct1, sp1, pl1, nn1, nc1, R1, x1, y1⟩ := sk_deliver (P := P) (de := de) (K := K) (sd := sd) (t := t) (wn := wn) (F := F) (o := o) (nt := nt) (N := N) (fo := fo) (fl := fl) (me := me) (se := se) (np := np) (ac := ac) (ta := ta) (rd := rd) (rc := rc) (op := op) (ag := ag) (cl := cl) (pr := pr) (bu := bu) (aa := aa) (pc := pc) (st := st) (pg := pg) (dl := dl) (wk := wk) (us := us) (xw := xw) (ws := ws) (so := so) (ds := ds) (kd := kd) (pa := pa) (lo := lo) (ar := ar) (sl := sl) (hd := upd hd (c * 2) (nI ((h0 + 1) % 4))) (ct := upd ct (c * 2) (nI j)) (sp := sp) (la := la) (yw := yw) (pl := pl) (wd := wd) (ot := ot) (oc := oc) (nn := nn) (nc := nc) (M := sk_mc c (m + 1)) (B := B) ⟨r1, r2, r3, r4, r5, r6, r7, t5⟩ hK hP (by omega) hN hc hds hpa (ot (c * 4 + m))
    obtain ⟨rd2, rc2, aa2, st2, xw2, lo2, ar2, sl2, hd2, ct2, sp2, pl2, nn2, nc2, R2, x2, y2⟩ := ih (m + 1) (B + 1) rd1 rc1 aa1 st1 xw1 lo1 ar1 sl1 (upd hd (c * 2) (nI ((h0 + 1) % 4))) ct1 sp1 pl1 nn1 nc1 (by omega) (by omega) R1
    refine ⟨rd2, rc2, aa2, st2, xw2, lo2, ar2, sl2, hd2, ct2, sp2, pl2, nn2, nc2, sk_R_mono R2 (by omega), fun post h f hf => ?_, fun post J h f hf => ?_⟩
    · cases f with
      | zero => exact absurd hf (Nat.not_lt_zero _)
      | succ f =>
        refine br_f (nI_nle (by omega) (by omega)) ?_
        refine sk_take (P := P) (de := de) (K := K) (sd := sd) (t := t) (wn := wn) (F := F) (o := o) (nt := nt) (N := N) (fo := fo) (fl := fl) (me := me) (se := se) (np := np) (ac := ac) (ta := ta) (rd := rd) (rc := rc) (op := op) (ag := ag) (cl := cl) (pr := pr) (bu := bu) (aa := aa) (pc := pc) (st := st) (pg := pg) (dl := dl) (wk := wk) (us := us) (xw := xw) (ws := ws) (so := so) (ds := ds) (kd := kd) (pa := pa) (lo := lo) (ar := ar) (sl := sl) (hd := hd) (ct := ct) (show c * 2 < 12 by omega) t1 (show j < 4 by omega) t2 t3 _ ?_
        rw [t4]
        refine x1 _ ?_
        exact nm_r (pk_m1 j) (x2 post h f (by omega))
    · have i24 : vp_in (4 * nI c + nI m) 24 := by rw [sk_4m, nI_add]; exact vp_in_nI (by omega) (by omega)
      have c24 : (4 * nI c + nI m).toNatClampNeg = c * 4 + m := by rw [sk_4m, nI_add]; exact nI_clamp (by omega)
      cases f with
      | zero => exact absurd hf (Nat.not_lt_zero _)
      | succ f =>
        refine br_f (nI_ge (b := 4) (by omega) (by decide)) (And.intro i6 (br_f (by rw [cc, hoc]; exact nI_ge (by omega) (by omega)) (And.intro i24 ?_)))
        rw [c24]
        refine y1 _ ?_
        exact nm_r (nI_1 m) (y2 post J h f (by omega))
theorem sk_drain (hK : 0 < K) (hP : P ≤ 3) (hN : N ≤ 6) {c : Nat} (hc : c < N) (hds : ∃ d, d < 4 ∧ ds c = nI d) (hpa : ¬ kd c = 0 → ∃ m, m ≤ 4 ∧ pa c = nI m) (w : Int32) (hB : B + 4 < 2 ^ 30) (R : sk_R P K sk_no sk_z B np nt me se rd rc pc st pg dl wk xw sl hd ct sp yw pl wd ot oc nn nc) :
    ∃ rd' rc' aa' st' xw' lo' ar' sl' hd' ct' sp' pl' nn' nc', sk_R P K sk_no sk_z (B + 4) np nt me se rd' rc' pc st' pg dl wk xw' sl' hd' ct' sp' yw pl' wd ot (upd oc c 0) nn' nc' ∧
    (∀ post : SX → Prop, post (nI P, de, nI K, sd, nI t, wn, nI F, nI o, nt, nI N, fo, fl, me, se, np, ac, ta, rd', rc', op, ag, cl, pr, bu, aa', pc, st', pg, dl, wk, us, xw', ws, so, ds, kd, pa, lo', ar', sl', hd', ct') → wpX_drain post (nI P, de, nI K, sd, nI t, wn, nI F, nI o, nt, nI N, fo, fl, me, se, np, ac, ta, rd, rc, op, ag, cl, pr, bu, aa, pc, st, pg, dl, wk, us, xw, ws, so, ds, kd, pa, lo, ar, sl, hd, ct) (nI c)) ∧
    (∀ (post : SY → Prop) J, J (nI (c + 1)) (nI P) de (nI K) (nI t) (nI F) wn (nI N) sp' sd fo la op ag cl pr bu aa' pc st' pg us dl wk yw ws pl' wd ac ta so ds kd pa lo' ar' ot (upd oc c 0) nn' nc' → ∃ f, wY_send_22 post J w (nI c) f 0 (nI P) de (nI K) (nI t) (nI F) wn (nI N) sp sd fo la op ag cl pr bu aa pc st pg us dl wk yw ws pl wd ac ta so ds kd pa lo ar ot oc nn nc) := by
  have R' := R
  obtain ⟨h0, n, q1, q2, q3, q4, q5, q6, q7⟩ := (R.2.2.2.2.2.2.2 c (by omega)).1
  rw [← sk_mc_0 c] at R'
  obtain ⟨rd', rc', aa', st', xw', lo', ar', sl', hd', ct', sp', pl', nn', nc', R1, x1, y1⟩ := sk_drain_lp (P := P) (de := de) (K := K) (sd := sd) (t := t) (wn := wn) (F := F) (o := o) (nt := nt) (N := N) (fo := fo) (fl := fl) (me := me) (se := se) (np := np) (ac := ac) (ta := ta) (op := op) (ag := ag) (cl := cl) (pr := pr) (bu := bu) (pc := pc) (pg := pg) (dl := dl) (wk := wk) (us := us) (ws := ws) (so := so) (ds := ds) (kd := kd) (pa := pa) (la := la) (yw := yw) (wd := wd) (ot := ot) (oc := oc) hK hP hN hc hds hpa q2 q6 w n 0 B rd rc aa st xw lo ar sl hd ct sp pl nn nc (by omega) (by omega) R'
  have i0 : vp_in (nI c * 2 + 0) 12 := by rw [sk_m2, sk_a0]; exact vp_in_nI (by omega) (by omega)
  have e0 : nI c * 2 + 0 = nI (c * 2) := by rw [sk_m2, sk_a0]
  have i0' : vp_in (nI (c * 2)) 12 := vp_in_nI (by omega) (by omega)
  refine ⟨rd', rc', aa', st', xw', lo', ar', sl', hd', ct', sp', pl', nn', nc', ⟨sk_RO_mono R1.1 (by omega), R1.2.1, R1.2.2.1, R1.2.2.2.1, R1.2.2.2.2.1, R1.2.2.2.2.2.1, R1.2.2.2.2.2.2.1, sk_RG_end (by omega) R1.2.2.2.2.2.2.2 q2 q6⟩, fun post h => ?_, fun post J h => ?_⟩
  · exact nm_r e0 (And.intro i0' (nm_r (e' := nI n) (by rw [nI_clamp (by omega), q5]; rfl) ⟨n + 1, x1 post h _ (Nat.lt_succ_self _)⟩))
  · exact ⟨n + 1, y1 post J h _ (Nat.lt_succ_self _)⟩
theorem sk_flush (hK : 0 < K) (hP : P ≤ 3) (hN : N ≤ 6) (hds : ∀ c, c < N → ∃ d, d < 4 ∧ ds c = nI d) (hpa : ∀ c, c < N → ¬ kd c = 0 → ∃ m, m ≤ 4 ∧ pa c = nI m) (w : Int32) :
    ∀ (d c B : Nat) (rd rc aa st xw lo ar sl hd ct : Nat → Int32) (sp : Int32) (pl nn nc oc : Nat → Int32), c + d = N → B + 4 * d < 2 ^ 30 → sk_R P K sk_no sk_z B np nt me se rd rc pc st pg dl wk xw sl hd ct sp yw pl wd ot oc nn nc →
    ∃ rd' rc' aa' st' xw' lo' ar' sl' hd' ct' sp' pl' nn' nc' oc', sk_R P K sk_no sk_z (B + 4 * d) np nt me se rd' rc' pc st' pg dl wk xw' sl' hd' ct' sp' yw pl' wd ot oc' nn' nc' ∧
    (∀ post : SX → Prop, post (nI P, de, nI K, sd, nI t, wn, nI F, nI o, nt, nI N, fo, fl, me, se, np, ac, ta, rd', rc', op, ag, cl, pr, bu, aa', pc, st', pg, dl, wk, us, xw', ws, so, ds, kd, pa, lo', ar', sl', hd', ct') → ∀ f, d < f → wX_flush_2 post w f (nI c) (nI P) de (nI K) sd (nI t) wn (nI F) (nI o) nt (nI N) fo fl me se np ac ta rd rc op ag cl pr bu aa pc st pg dl wk us xw ws so ds kd pa lo ar sl hd ct) ∧
    (∀ post : SY → Prop, post (nI P, de, nI K, nI t, nI F, wn, nI N, sp', sd, fo, la, op, ag, cl, pr, bu, aa', pc, st', pg, us, dl, wk, yw, ws, pl', wd, ac, ta, so, ds, kd, pa, lo', ar', ot, oc', nn', nc') → ∀ f, d < f → wY_send_2 post w f (nI c) (nI P) de (nI K) (nI t) (nI F) wn (nI N) sp sd fo la op ag cl pr bu aa pc st pg us dl wk yw ws pl wd ac ta so ds kd pa lo ar ot oc nn nc) := by
  intro d
  induction d with
  | zero =>
    intro c B rd rc aa st xw lo ar sl hd ct sp pl nn nc oc hc hB R
    have le : nI N ≤ nI c := nI_le (by omega) (by omega)
    refine ⟨rd, rc, aa, st, xw, lo, ar, sl, hd, ct, sp, pl, nn, nc, oc, R, fun post h f hf => ?_, fun post h f hf => ?_⟩
    · cases f with
      | zero => exact absurd hf (Nat.lt_irrefl _)
      | succ f => exact br_t le h
    · cases f with
      | zero => exact absurd hf (Nat.lt_irrefl _)
      | succ f => exact br_t le h
  | succ d ih =>
    intro c B rd rc aa st xw lo ar sl hd ct sp pl nn nc oc hc hB R
    have nle : ¬ nI N ≤ nI c := nI_ge (by omega) (by omega)
    have i6 : vp_in (nI c) 6 := vp_in_nI (by omega) (by omega)
    have cc : (nI c).toNatClampNeg = c := nI_clamp (by omega)
    by_cases e : so c = w
    · obtain ⟨rd1, rc1, aa1, st1, xw1, lo1, ar1, sl1, hd1, ct1, sp1, pl1, nn1, nc1, R1, x1, y1⟩ := sk_drain (P := P) (de := de) (K := K) (sd := sd) (t := t) (wn := wn) (F := F) (o := o) (nt := nt) (N := N) (fo := fo) (fl := fl) (me := me) (se := se) (np := np) (ac := ac) (ta := ta) (rd := rd) (rc := rc) (op := op) (ag := ag) (cl := cl) (pr := pr) (bu := bu) (aa := aa) (pc := pc) (st := st) (pg := pg) (dl := dl) (wk := wk) (us := us) (xw := xw) (ws := ws) (so := so) (ds := ds) (kd := kd) (pa := pa) (lo := lo) (ar := ar) (sl := sl) (hd := hd) (ct := ct) (sp := sp) (la := la) (yw := yw) (pl := pl) (wd := wd) (ot := ot) (oc := oc) (nn := nn) (nc := nc) (B := B) hK hP hN (show c < N by omega) (hds c (by omega)) (hpa c (by omega)) w (by omega) R
      obtain ⟨rd2, rc2, aa2, st2, xw2, lo2, ar2, sl2, hd2, ct2, sp2, pl2, nn2, nc2, oc2, R2, x2, y2⟩ := ih (c + 1) (B + 4) rd1 rc1 aa1 st1 xw1 lo1 ar1 sl1 hd1 ct1 sp1 pl1 nn1 nc1 (upd oc c 0) (by omega) (by omega) R1
      refine ⟨rd2, rc2, aa2, st2, xw2, lo2, ar2, sl2, hd2, ct2, sp2, pl2, nn2, nc2, oc2, sk_R_mono R2 (by omega), fun post h f hf => ?_, fun post h f hf => ?_⟩
      · cases f with
        | zero => exact absurd hf (Nat.not_lt_zero _)
        | succ f => exact br_f nle (And.intro i6 (br_t (by rw [cc]; exact e) (x1 _ (nm_r (nI_1 c) (x2 post h f (by omega))))))
      · cases f with
        | zero => exact absurd hf (Nat.not_lt_zero _)
        | succ f => exact br_f nle (And.intro i6 (br_t (by rw [cc]; exact e) (y1 post _ (y2 post h f (by omega)))))
    · obtain ⟨rd2, rc2, aa2, st2, xw2, lo2, ar2, sl2, hd2, ct2, sp2, pl2, nn2, nc2, oc2, R2, x2, y2⟩ := ih (c + 1) B rd rc aa st xw lo ar sl hd ct sp pl nn nc oc (by omega) (by omega) R
      refine ⟨rd2, rc2, aa2, st2, xw2, lo2, ar2, sl2, hd2, ct2, sp2, pl2, nn2, nc2, oc2, sk_R_mono R2 (by omega), fun post h f hf => ?_, fun post h f hf => ?_⟩
      · cases f with
        | zero => exact absurd hf (Nat.not_lt_zero _)
        | succ f => exact br_f nle (And.intro i6 (br_f (by rw [cc]; exact e) (nm_r (nI_1 c) (x2 post h f (by omega)))))
      · cases f with
        | zero => exact absurd hf (Nat.not_lt_zero _)
        | succ f => exact br_f nle (And.intro i6 (br_f (by rw [cc]; exact e) (nm_r (nI_1 c) (y2 post h f (by omega)))))
end S15
end
section
section S16
variable {de sd wn nt sp : Int32} {fo fl la me se np ac ta rd rc op ag cl pr bu aa pc st pg dl wk us xw ws so ds kd pa lo ar sl hd ct yw pl wd ot oc nn nc : Nat → Int32} {P K t F o N B : Nat} {E : Nat → Prop} {M : Nat → Nat}
theorem sk_clamp (v l h : Int32) (hlh : l ≤ h) : ∃ r, l ≤ r ∧ r ≤ h ∧ (∀ (post : Int32 → Prop) (u : SX), post r → wpX_clamp post u v l h) ∧ (∀ (post : Int32 → Prop) (u : SY), post r → wpY_clamp post u v l h) := by
  by_cases h1 : l ≤ v
  · by_cases h2 : v ≤ h
    · exact ⟨v, h1, h2, fun post u hp => br_t h1 (br_t h2 hp), fun post u hp => br_t h1 (br_t h2 hp)⟩
    · exact ⟨h, hlh, Int32.le_refl _, fun post u hp => br_t h1 (br_f h2 hp), fun post u hp => br_t h1 (br_f h2 hp)⟩
  · exact ⟨l, Int32.le_refl _, hlh, fun post u hp => br_f h1 hp, fun post u hp => br_f h1 hp⟩
theorem sk_xstop {p g : Nat} {u' : SX} (hg : g < 12) {a L : Nat} (hL : L ≤ 16) (ha : a ≤ 16) (e1 : pc g = nI a) (e2 : cl g = nI L) (h0 : L ≤ a ∨ op (g * 16 + a) = 0) (w : ∀ post : SX → Prop, post u' → wpX_stop post (nI P, de, nI K, sd, nI t, wn, nI F, nI o, nt, nI N, fo, fl, me, se, np, ac, ta, rd, rc, op, ag, cl, pr, bu, aa, pc, st, pg, dl, wk, us, xw, ws, so, ds, kd, pa, lo, ar, sl, hd, ct) (nI g)) (post : SX → Prop) (h : post u') : wpX_execute post (nI P, de, nI K, sd, nI t, wn, nI F, nI o, nt, nI N, fo, fl, me, se, np, ac, ta, rd, rc, op, ag, cl, pr, bu, aa, pc, st, pg, dl, wk, us, xw, ws, so, ds, kd, pa, lo, ar, sl, hd, ct) (nI p) (nI g) := by
  have i12 : vp_in (nI g) 12 := vp_in_nI hg (by omega)
  have cg : (nI g).toNatClampNeg = g := nI_clamp (by omega)
  by_cases hLa : L ≤ a
  · have q1 : ¬ nI a < nI L := nI_nlt hLa (by omega)
    simp only [wpX_execute, i12, cg, e1, e2, q1, false_implies, true_implies, not_false_eq_true, not_true_eq_false, true_and, and_true, forall_eq, eq_self, Int32.reduceLT, Int32.reduceLE]
    exact w _ h
  · have q1 : nI a < nI L := nI_lt (by omega) (by omega)
    have ix : vp_in (nI (g * 16 + a)) 192 := vp_in_nI (by omega) (by omega)
    have cx : (nI (g * 16 + a)).toNatClampNeg = g * 16 + a := nI_clamp (by omega)
    have h0' : op (g * 16 + a) = 0 := by rcases h0 with z | z; · exact absurd z hLa
                                         · exact z
    simp only [wpX_execute, i12, cg, e1, e2, q1, sk_m16, nI_add, ix, cx, h0', false_implies, true_implies, not_false_eq_true, not_true_eq_false, true_and, and_true, forall_eq, eq_self, Int32.reduceLT, Int32.reduceLE]
    exact w _ h
theorem sk_ystop {p g : Nat} {u' : SY} (hg : g < 12) {a L : Nat} (hL : L ≤ 16) (ha : a ≤ 16) (e1 : pc g = nI a) (e2 : cl g = nI L) (h0 : L ≤ a ∨ op (g * 16 + a) = 0) (w : ∀ post : SY → Prop, post u' → wpY_stop post (nI P, de, nI K, nI t, nI F, wn, nI N, sp, sd, fo, la, op, ag, cl, pr, bu, aa, pc, st, pg, upd us g (us g + 1), dl, wk, yw, ws, pl, wd, ac, ta, so, ds, kd, pa, lo, ar, ot, oc, nn, nc) (nI g)) (post : SY → Prop) (h : post u') : wpY_execute post (nI P, de, nI K, nI t, nI F, wn, nI N, sp, sd, fo, la, op, ag, cl, pr, bu, aa, pc, st, pg, us, dl, wk, yw, ws, pl, wd, ac, ta, so, ds, kd, pa, lo, ar, ot, oc, nn, nc) (nI p) (nI g) := by
  have i12 : vp_in (nI g) 12 := vp_in_nI hg (by omega)
  have cg : (nI g).toNatClampNeg = g := nI_clamp (by omega)
  by_cases hLa : L ≤ a
  · have q1 : nI L ≤ nI a := nI_le hLa (by omega)
    simp only [wpY_execute, i12, cg, e1, e2, q1, wY_execute_45, false_implies, true_implies, not_false_eq_true, not_true_eq_false, true_and, and_true, forall_eq, eq_self, Int32.reduceLT, Int32.reduceLE]
    exact w _ h
  · have q1 : ¬ nI L ≤ nI a := nI_ge (by omega) (by omega)
    have ix : vp_in (nI (g * 16 + a)) 192 := vp_in_nI (by omega) (by omega)
    have cx : (nI (g * 16 + a)).toNatClampNeg = g * 16 + a := nI_clamp (by omega)
    have h0' : op (g * 16 + a) = 0 := by rcases h0 with z | z; · exact absurd z hLa
                                         · exact z
    simp only [wpY_execute, i12, cg, e1, e2, q1, sk_16m, nI_add, ix, cx, h0', wY_execute_45, false_implies, true_implies, not_false_eq_true, not_true_eq_false, true_and, and_true, forall_eq, eq_self, Int32.reduceLT, Int32.reduceLE]
    exact w _ h
theorem sk_xcomp {p g : Nat} {u' : SX} (hg : g < 12) {a L q : Nat} {v : Int32} (hL : L ≤ 16) (ha : a < L) (e1 : pc g = nI a) (e2 : cl g = nI L) (e3 : op (g * 16 + a) = nI q) (e4 : ag (g * 16 + a) = v) (hq : 0 < q) (hq8 : q ≤ 8) (w : ∀ post : SX → Prop, post u' → wpX_compute post (nI P, de, nI K, sd, nI t, wn, nI F, nI o, nt, nI N, fo, fl, me, se, np, ac, ta, rd, rc, op, ag, cl, pr, bu, aa, upd pc g (nI (a + 1)), st, pg, dl, wk, us, xw, ws, so, ds, kd, pa, lo, ar, sl, hd, ct) (nI p) (nI g) (nI q) v) (post : SX → Prop) (h : post u') : wpX_execute post (nI P, de, nI K, sd, nI t, wn, nI F, nI o, nt, nI N, fo, fl, me, se, np, ac, ta, rd, rc, op, ag, cl, pr, bu, aa, pc, st, pg, dl, wk, us, xw, ws, so, ds, kd, pa, lo, ar, sl, hd, ct) (nI p) (nI g) := by
  have i12 : vp_in (nI g) 12 := vp_in_nI hg (by omega)
  have cg : (nI g).toNatClampNeg = g := nI_clamp (by omega)
  have q1 : nI a < nI L := nI_lt (by omega) (by omega)
  have ix : vp_in (nI (g * 16 + a)) 192 := vp_in_nI (by omega) (by omega)
  have cx : (nI (g * 16 + a)).toNatClampNeg = g * 16 + a := nI_clamp (by omega)
  have q2 : ¬ nI q = 0 := nI_ne0 hq (by omega)
  have q3 : ¬ 8 < nI q := nI_nlt (a := 8) hq8 (by omega)
  simp only [wpX_execute, i12, cg, e1, e2, q1, sk_m16, nI_add, ix, cx, e3, e4, q2, q3, nI_1, false_implies, true_implies, not_false_eq_true, not_true_eq_false, true_and, and_true, forall_eq, eq_self, Int32.reduceLT, Int32.reduceLE]
  exact w _ h
theorem sk_yfront {p g : Nat} (hg : g < 12) {a L q s7 s1 : Nat} {v : Int32} (hL : L ≤ 16) (ha : a < L) (e1 : pc g = nI a) (e2 : cl g = nI L) (e3 : op (g * 16 + a) = nI q) (e4 : ag (g * 16 + a) = v) (hq : 0 < q) (hq8 : q ≤ 8) (e7 : v &&& 7 = nI s7) (e8 : v &&& 1 = nI s1) (post : SY → Prop) (h : wY_execute_137 post (nI p) (nI g) (nI q) v (nI (p * 11 + s7)) (nI (p * 11 + 8 + s1)) (nI P) de (nI K) (nI t) (nI F) wn (nI N) sp sd fo la op ag cl pr bu aa pc st pg (upd us g (us g + 1)) dl wk yw ws pl wd ac ta so ds kd pa lo ar ot oc nn nc) : wpY_execute post (nI P, de, nI K, nI t, nI F, wn, nI N, sp, sd, fo, la, op, ag, cl, pr, bu, aa, pc, st, pg, us, dl, wk, yw, ws, pl, wd, ac, ta, so, ds, kd, pa, lo, ar, ot, oc, nn, nc) (nI p) (nI g) := by
  have i12 : vp_in (nI g) 12 := vp_in_nI hg (by omega)
  have cg : (nI g).toNatClampNeg = g := nI_clamp (by omega)
  have q1 : ¬ nI L ≤ nI a := nI_ge (by omega) (by omega)
  have ix : vp_in (nI (g * 16 + a)) 192 := vp_in_nI (by omega) (by omega)
  have cx : (nI (g * 16 + a)).toNatClampNeg = g * 16 + a := nI_clamp (by omega)
  have q2 : ¬ nI q = 0 := nI_ne0 hq (by omega)
  have q3 : nI q < 9 := nI_lt (b := 9) (by omega) (by decide)
  simp only [wpY_execute, i12, cg, e1, e2, q1, sk_16m, nI_add, ix, cx, e3, e4, wY_execute_45, q2, q3, e7, e8, sk_11m, sk_a8, false_implies, true_implies, not_false_eq_true, not_true_eq_false, true_and, and_true, forall_eq, eq_self, Int32.reduceLT, Int32.reduceLE]
  exact h
theorem sk_xserv {p g : Nat} {u' : SX} (hg : g < 12) {a L q b : Nat} {v : Int32} (hL : L ≤ 16) (ha : a < L) (e1 : pc g = nI a) (e2 : cl g = nI L) (e3 : op (g * 16 + a) = nI q) (e4 : ag (g * 16 + a) = v) (hq : 9 ≤ q) (hq8 : q < 16) (eb : pg g = nI b) (hK4 : K ≤ 4) (hbK : K ≤ b + 1) (hb4 : b < 4) (w : ∀ post : SX → Prop, post u' → wpX_serve post (nI P, de, nI K, sd, nI t, wn, nI F, nI o, nt, nI N, fo, fl, me, se, np, ac, ta, rd, rc, op, ag, cl, pr, bu, aa, upd pc g (nI (a + 1)), st, upd pg g 0, dl, wk, us, xw, ws, so, ds, kd, pa, lo, ar, sl, hd, ct) (nI p) (nI g) (nI q) v) (post : SX → Prop) (h : post u') : wpX_execute post (nI P, de, nI K, sd, nI t, wn, nI F, nI o, nt, nI N, fo, fl, me, se, np, ac, ta, rd, rc, op, ag, cl, pr, bu, aa, pc, st, pg, dl, wk, us, xw, ws, so, ds, kd, pa, lo, ar, sl, hd, ct) (nI p) (nI g) := by
  have i12 : vp_in (nI g) 12 := vp_in_nI hg (by omega)
  have cg : (nI g).toNatClampNeg = g := nI_clamp (by omega)
  have q1 : nI a < nI L := nI_lt (by omega) (by omega)
  have ix : vp_in (nI (g * 16 + a)) 192 := vp_in_nI (by omega) (by omega)
  have cx : (nI (g * 16 + a)).toNatClampNeg = g * 16 + a := nI_clamp (by omega)
  have q2 : ¬ nI q = 0 := nI_ne0 (by omega) (by omega)
  have q3 : 8 < nI q := nI_lt (a := 8) (by omega) (by omega)
  have q4 : nI K ≤ nI (b + 1) := nI_le hbK (by omega)
  simp only [wpX_execute, i12, cg, e1, e2, q1, sk_m16, nI_add, ix, cx, e3, e4, q2, q3, nI_1, wpX_serviceComplete, eb, pk_us, q4, sk_upU, sk_q1, false_implies, true_implies, not_false_eq_true, not_true_eq_false, true_and, and_true, forall_eq, eq_self, Int32.reduceLT, Int32.reduceLE]
  exact w _ h
theorem sk_xserv0 {p g : Nat} (hg : g < 12) {a L q b : Nat} (hL : L ≤ 16) (ha : a < L) (e1 : pc g = nI a) (e2 : cl g = nI L) (e3 : op (g * 16 + a) = nI q) (hq : 9 ≤ q) (hq8 : q < 16) (eb : pg g = nI b) (hK4 : K ≤ 4) (hbK : b + 1 < K) (post : SX → Prop) (h : post (nI P, de, nI K, sd, nI t, wn, nI F, nI o, nt, nI N, fo, fl, me, se, np, ac, ta, rd, rc, op, ag, cl, pr, bu, aa, pc, st, upd pg g (nI (b + 1)), dl, wk, us, xw, ws, so, ds, kd, pa, lo, ar, sl, hd, ct)) : wpX_execute post (nI P, de, nI K, sd, nI t, wn, nI F, nI o, nt, nI N, fo, fl, me, se, np, ac, ta, rd, rc, op, ag, cl, pr, bu, aa, pc, st, pg, dl, wk, us, xw, ws, so, ds, kd, pa, lo, ar, sl, hd, ct) (nI p) (nI g) := by
  have i12 : vp_in (nI g) 12 := vp_in_nI hg (by omega)
  have cg : (nI g).toNatClampNeg = g := nI_clamp (by omega)
  have q1 : nI a < nI L := nI_lt (by omega) (by omega)
  have ix : vp_in (nI (g * 16 + a)) 192 := vp_in_nI (by omega) (by omega)
  have cx : (nI (g * 16 + a)).toNatClampNeg = g * 16 + a := nI_clamp (by omega)
  have q2 : ¬ nI q = 0 := nI_ne0 (by omega) (by omega)
  have q3 : 8 < nI q := nI_lt (a := 8) (by omega) (by omega)
  have q4 : ¬ nI K ≤ nI (b + 1) := nI_ge hbK (by omega)
  simp only [wpX_execute, i12, cg, e1, e2, q1, sk_m16, nI_add, ix, cx, e3, q2, q3, nI_1, wpX_serviceComplete, eb, pk_us, q4, false_implies, true_implies, not_false_eq_true, not_true_eq_false, true_and, and_true, forall_eq, eq_self, Int32.reduceLT, Int32.reduceLE]
  exact h
theorem sk_yserv {p g : Nat} (hg : g < 12) {a L q b s7 s1 : Nat} {v : Int32} (hL : L ≤ 16) (ha : a < L) (e1 : pc g = nI a) (e2 : cl g = nI L) (e3 : op (g * 16 + a) = nI q) (e4 : ag (g * 16 + a) = v) (hq : 9 ≤ q) (hq8 : q < 16) (eb : pg g = nI b) (hK4 : K ≤ 4) (hbK : K ≤ b + 1) (hb4 : b < 4) (e7 : v &&& 7 = nI s7) (e8 : v &&& 1 = nI s1) (post : SY → Prop) (h : wY_execute_137 post (nI p) (nI g) (nI q) v (nI (p * 11 + s7)) (nI (p * 11 + 8 + s1)) (nI P) de (nI K) (nI t) (nI F) wn (nI N) sp sd fo la op ag cl pr bu aa pc st (upd pg g 0) (upd us g (us g + 1)) dl wk yw ws pl wd ac ta so ds kd pa lo ar ot oc nn nc) : wpY_execute post (nI P, de, nI K, nI t, nI F, wn, nI N, sp, sd, fo, la, op, ag, cl, pr, bu, aa, pc, st, pg, us, dl, wk, yw, ws, pl, wd, ac, ta, so, ds, kd, pa, lo, ar, ot, oc, nn, nc) (nI p) (nI g) := by
  have i12 : vp_in (nI g) 12 := vp_in_nI hg (by omega)
  have cg : (nI g).toNatClampNeg = g := nI_clamp (by omega)
  have q1 : ¬ nI L ≤ nI a := nI_ge (by omega) (by omega)
  have ix : vp_in (nI (g * 16 + a)) 192 := vp_in_nI (by omega) (by omega)
  have cx : (nI (g * 16 + a)).toNatClampNeg = g * 16 + a := nI_clamp (by omega)
  have q2 : ¬ nI q = 0 := nI_ne0 (by omega) (by omega)
  have q3 : ¬ nI q < 9 := nI_nlt (b := 9) (by omega) (by omega)
  have q4 : nI K ≤ nI (b + 1) := nI_le hbK (by omega)
  simp only [wpY_execute, i12, cg, e1, e2, q1, sk_16m, nI_add, ix, cx, e3, e4, wY_execute_45, q2, q3, e7, e8, sk_11m, sk_a8, nI_1, eb, pk_us, q4, sk_upU, false_implies, true_implies, not_false_eq_true, not_true_eq_false, true_and, and_true, forall_eq, eq_self, Int32.reduceLT, Int32.reduceLE]
  exact h
theorem sk_yserv0 {p g : Nat} (hg : g < 12) {a L q b : Nat} (hL : L ≤ 16) (ha : a < L) (e1 : pc g = nI a) (e2 : cl g = nI L) (e3 : op (g * 16 + a) = nI q) (hq : 9 ≤ q) (hq8 : q < 16) (eb : pg g = nI b) (hK4 : K ≤ 4) (hbK : b + 1 < K) (post : SY → Prop) (h : post (nI P, de, nI K, nI t, nI F, wn, nI N, sp, sd, fo, la, op, ag, cl, pr, bu, aa, pc, st, upd pg g (nI (b + 1)), upd us g (us g + 1), dl, wk, yw, ws, pl, wd, ac, ta, so, ds, kd, pa, lo, ar, ot, oc, nn, nc)) : wpY_execute post (nI P, de, nI K, nI t, nI F, wn, nI N, sp, sd, fo, la, op, ag, cl, pr, bu, aa, pc, st, pg, us, dl, wk, yw, ws, pl, wd, ac, ta, so, ds, kd, pa, lo, ar, ot, oc, nn, nc) (nI p) (nI g) := by
  have i12 : vp_in (nI g) 12 := vp_in_nI hg (by omega)
  have cg : (nI g).toNatClampNeg = g := nI_clamp (by omega)
  have q1 : ¬ nI L ≤ nI a := nI_ge (by omega) (by omega)
  have ix : vp_in (nI (g * 16 + a)) 192 := vp_in_nI (by omega) (by omega)
  have cx : (nI (g * 16 + a)).toNatClampNeg = g * 16 + a := nI_clamp (by omega)
  have q2 : ¬ nI q = 0 := nI_ne0 (by omega) (by omega)
  have q3 : ¬ nI q < 9 := nI_nlt (b := 9) (by omega) (by omega)
  have q4 : ¬ nI K ≤ nI (b + 1) := nI_ge hbK (by omega)
  simp only [wpY_execute, i12, cg, e1, e2, q1, sk_16m, nI_add, ix, cx, e3, wY_execute_45, q2, q3, nI_1, eb, pk_us, q4, false_implies, true_implies, not_false_eq_true, not_true_eq_false, true_and, and_true, forall_eq, eq_self, Int32.reduceLT, Int32.reduceLE]
  exact h
end S16
end
section
section S17
variable {de sd wn nt sp : Int32} {fo fl la me se np ac ta rd rc op ag cl pr bu aa pc st pg dl wk us xw ws so ds kd pa lo ar sl hd ct yw pl wd ot oc nn nc : Nat → Int32} {P K t F o N B : Nat} {E : Nat → Prop} {M : Nat → Nat}
theorem sk_comp {p g a q s7 s1 : Nat} {v : Int32} (hp : p < 4) (hg : g < 12) (ha : a < 16) (e1 : pc g = nI a) (R : sk_R P K E M B np nt me se rd rc (upd pc g (nI (a + 1))) st pg dl wk xw sl hd ct sp yw pl wd ot oc nn nc) (h7 : s7 < 8) (e7 : v &&& 7 = nI s7) (hq : 0 < q) (hq8 : q ≤ 8) :
    sk_Sim P de K sd t wn F o N fo fl la np ac op ag cl pr bu so ds kd pa E M B (fun post => wpX_compute post (nI P, de, nI K, sd, nI t, wn, nI F, nI o, nt, nI N, fo, fl, me, se, np, ac, ta, rd, rc, op, ag, cl, pr, bu, aa, upd pc g (nI (a + 1)), st, pg, dl, wk, us, xw, ws, so, ds, kd, pa, lo, ar, sl, hd, ct) (nI p) (nI g) (nI q) v) (fun post => wY_execute_137 post (nI p) (nI g) (nI q) v (nI (p * 11 + s7)) (nI (p * 11 + 8 + s1)) (nI P) de (nI K) (nI t) (nI F) wn (nI N) sp sd fo la op ag cl pr bu aa pc st pg us dl wk yw ws pl wd ac ta so ds kd pa lo ar ot oc nn nc) := by
  intro Q k
  have i12 : vp_in (nI g) 12 := vp_in_nI hg (by omega)
  have cg : (nI g).toNatClampNeg = g := nI_clamp (by omega)
  have epc : upd pc (nI g).toNatClampNeg (pc (nI g).toNatClampNeg + 1) = upd pc g (nI (a + 1)) := by rw [cg, e1, nI_1]
  have ex : nI p * 8 + (v &&& 7) = nI (p * 8 + s7) := by rw [e7, sk_m8, nI_add]
  have i32 : vp_in (nI (p * 8 + s7)) 32 := vp_in_nI (by omega) (by omega)
  have c32 : (nI (p * 8 + s7)).toNatClampNeg = p * 8 + s7 := nI_clamp (by omega)
  have i44 : vp_in (nI (p * 11 + s7)) 44 := vp_in_nI (by omega) (by omega)
  have c44 : (nI (p * 11 + s7)).toNatClampNeg = p * 11 + s7 := nI_clamp (by omega)
  have ip : vp_in (nI p) 4 := vp_in_nI hp (by omega)
  have cp : (nI p).toNatClampNeg = p := nI_clamp (by omega)
  have i10 : vp_in (nI (p * 11 + 10)) 44 := vp_in_nI (by omega) (by omega)
  have c10 : (nI (p * 11 + 10)).toNatClampNeg = p * 11 + 10 := nI_clamp (by omega)
  obtain ⟨r1, r2, r3, r4, r5, r6, r7, r8⟩ := R
  have w7 := (r7 p hp).1 s7 h7
  have w10 := (r7 p hp).2.2
  have hc : q = 1 ∨ q = 2 ∨ q = 3 ∨ q = 4 ∨ q = 5 ∨ q = 6 ∨ q = 7 ∨ q = 8 := by omega
  rcases hc with rfl | rfl | rfl | rfl | rfl | rfl | rfl | rfl
  · refine k nt me se ta rd rc (upd aa g v) (upd pc g (nI (a + 1))) st pg dl wk us xw ws lo ar sl hd ct sp yw pl wd ot oc nn nc ⟨r1, r2, r3, r4, r5, r6, r7, r8⟩ (fun post h => ?_) (fun post h => ?_)
    · refine nm_r ex (br_f (by decide) (br_f (by decide) (br_t rfl ?_)))
      simp only [i12, cg, i32, c32, ip, cp, false_implies, true_implies, not_false_eq_true, not_true_eq_false, true_and, and_true, forall_eq, eq_self, Int32.reduceLT, Int32.reduceLE]
      exact h
    · refine And.intro i12 (And.intro i12 (nm_r epc (br_t rfl ?_)))
      simp only [i12, cg, i44, c44, w7, sk_11m, sk_a10, i10, c10, w10, false_implies, true_implies, not_false_eq_true, not_true_eq_false, true_and, and_true, forall_eq, eq_self, Int32.reduceLT, Int32.reduceLE]
      exact h
  · refine k nt me se ta rd rc (upd aa g (me (p * 8 + s7))) (upd pc g (nI (a + 1))) st pg dl wk us xw ws lo ar sl hd ct sp yw pl wd ot oc nn nc ⟨r1, r2, r3, r4, r5, r6, r7, r8⟩ (fun post h => ?_) (fun post h => ?_)
    · refine nm_r ex (br_f (by decide) (br_f (by decide) (br_f (by decide) (br_t rfl ?_))))
      simp only [i12, cg, i32, c32, ip, cp, false_implies, true_implies, not_false_eq_true, not_true_eq_false, true_and, and_true, forall_eq, eq_self, Int32.reduceLT, Int32.reduceLE]
      exact h
    · refine And.intro i12 (And.intro i12 (nm_r epc (br_f (by decide) (br_t rfl ?_))))
      simp only [i12, cg, i44, c44, w7, sk_11m, sk_a10, i10, c10, w10, false_implies, true_implies, not_false_eq_true, not_true_eq_false, true_and, and_true, forall_eq, eq_self, Int32.reduceLT, Int32.reduceLE]
      exact h
  · refine k nt (upd me (p * 8 + s7) (aa g)) se ta rd rc aa (upd pc g (nI (a + 1))) st pg dl wk us xw ws lo ar sl hd ct sp yw pl (upd wd (p * 11 + s7) (aa g)) ot oc nn nc ⟨r1, r2, r3, r4, r5, r6, sk_WD_me r7 h7 _, r8⟩ (fun post h => ?_) (fun post h => ?_)
    · refine nm_r ex (br_f (by decide) (br_f (by decide) (br_f (by decide) (br_f (by decide) (br_t rfl ?_)))))
      simp only [i12, cg, i32, c32, ip, cp, false_implies, true_implies, not_false_eq_true, not_true_eq_false, true_and, and_true, forall_eq, eq_self, Int32.reduceLT, Int32.reduceLE]
      exact h
    · refine And.intro i12 (And.intro i12 (nm_r epc (br_f (by decide) (br_f (by decide) (br_t rfl ?_)))))
      simp only [i12, cg, i44, c44, w7, sk_11m, sk_a10, i10, c10, w10, false_implies, true_implies, not_false_eq_true, not_true_eq_false, true_and, and_true, forall_eq, eq_self, Int32.reduceLT, Int32.reduceLE]
      exact h
  · refine k nt me se ta rd rc (upd aa g (aa g + me (p * 8 + s7))) (upd pc g (nI (a + 1))) st pg dl wk us xw ws lo ar sl hd ct sp yw pl wd ot oc nn nc ⟨r1, r2, r3, r4, r5, r6, r7, r8⟩ (fun post h => ?_) (fun post h => ?_)
    · refine nm_r ex (br_f (by decide) (br_f (by decide) (br_f (by decide) (br_f (by decide) (br_f (by decide) (br_t rfl ?_))))))
      simp only [i12, cg, i32, c32, ip, cp, false_implies, true_implies, not_false_eq_true, not_true_eq_false, true_and, and_true, forall_eq, eq_self, Int32.reduceLT, Int32.reduceLE]
      exact h
    · refine And.intro i12 (And.intro i12 (nm_r epc (br_f (by decide) (br_f (by decide) (br_f (by decide) (br_t rfl ?_))))))
      simp only [i12, cg, i44, c44, w7, sk_11m, sk_a10, i10, c10, w10, false_implies, true_implies, not_false_eq_true, not_true_eq_false, true_and, and_true, forall_eq, eq_self, Int32.reduceLT, Int32.reduceLE]
      exact h
  · refine k nt me se ta rd rc (upd aa g (aa g + v)) (upd pc g (nI (a + 1))) st pg dl wk us xw ws lo ar sl hd ct sp yw pl wd ot oc nn nc ⟨r1, r2, r3, r4, r5, r6, r7, r8⟩ (fun post h => ?_) (fun post h => ?_)
    · refine nm_r ex (br_f (by decide) (br_f (by decide) (br_f (by decide) (br_f (by decide) (br_f (by decide) (br_f (by decide) (br_t rfl ?_)))))))
      simp only [i12, cg, i32, c32, ip, cp, false_implies, true_implies, not_false_eq_true, not_true_eq_false, true_and, and_true, forall_eq, eq_self, Int32.reduceLT, Int32.reduceLE]
      exact h
    · refine And.intro i12 (And.intro i12 (nm_r epc (br_f (by decide) (br_f (by decide) (br_f (by decide) (br_f (by decide) (br_t rfl ?_)))))))
      simp only [i12, cg, i44, c44, w7, sk_11m, sk_a10, i10, c10, w10, false_implies, true_implies, not_false_eq_true, not_true_eq_false, true_and, and_true, forall_eq, eq_self, Int32.reduceLT, Int32.reduceLE]
      exact h
  · obtain ⟨j, hj, ej⟩ := sk_and15 v
    by_cases h0 : aa g = 0
    · refine k nt me se ta rd rc aa (upd pc g (nI (a + 1))) st pg dl wk us xw ws lo ar sl hd ct sp yw pl wd ot oc nn nc ⟨r1, r2, r3, r4, r5, r6, r7, r8⟩ (fun post h => ?_) (fun post h => ?_)
      · refine nm_r ex (br_f (by decide) (br_f (by decide) (br_f (by decide) (br_f (by decide) (br_f (by decide) (br_f (by decide) (br_f (by decide) (br_t rfl ?_))))))))
        simp only [i12, cg, h0, false_implies, true_implies, not_false_eq_true, not_true_eq_false, true_and, and_true, forall_eq, eq_self, Int32.reduceLT, Int32.reduceLE]
        exact h
      · refine And.intro i12 (And.intro i12 (nm_r epc (br_f (by decide) (br_f (by decide) (br_f (by decide) (br_f (by decide) (br_f (by decide) (br_t rfl ?_))))))))
        simp only [i12, cg, h0, sk_upS, false_implies, true_implies, not_false_eq_true, not_true_eq_false, true_and, and_true, forall_eq, eq_self, Int32.reduceLT, Int32.reduceLE]
        exact h
    · refine k nt me se ta rd rc aa (upd pc g (v &&& 15)) st pg dl wk us xw ws lo ar sl hd ct sp yw pl wd ot oc nn nc ⟨r1, r2, r3, r4, r5, by rw [ej]; exact sk_upU pc g (nI (a + 1)) (nI j) ▸ sk_PC_u r6 (show j ≤ 16 by omega), r7, r8⟩ (fun post h => ?_) (fun post h => ?_)
      · refine nm_r ex (br_f (by decide) (br_f (by decide) (br_f (by decide) (br_f (by decide) (br_f (by decide) (br_f (by decide) (br_f (by decide) (br_t rfl ?_))))))))
        simp only [i12, cg, h0, sk_upU, false_implies, true_implies, not_false_eq_true, not_true_eq_false, true_and, and_true, forall_eq, eq_self, Int32.reduceLT, Int32.reduceLE]
        exact h
      · refine And.intro i12 (And.intro i12 (nm_r epc (br_f (by decide) (br_f (by decide) (br_f (by decide) (br_f (by decide) (br_f (by decide) (br_t rfl ?_))))))))
        simp only [i12, cg, h0, sk_upU, false_implies, true_implies, not_false_eq_true, not_true_eq_false, true_and, and_true, forall_eq, eq_self, Int32.reduceLT, Int32.reduceLE]
        exact h
  · refine k nt me se ta rd rc (upd aa g (np p)) (upd pc g (nI (a + 1))) st pg dl wk us xw ws lo ar sl hd ct sp yw pl wd ot oc nn nc ⟨r1, r2, r3, r4, r5, r6, r7, r8⟩ (fun post h => ?_) (fun post h => ?_)
    · refine nm_r ex (br_f (by decide) (br_f (by decide) (br_f (by decide) (br_f (by decide) (br_f (by decide) (br_f (by decide) (br_f (by decide) (br_f (by decide) (br_t rfl ?_)))))))))
      simp only [i12, cg, i32, c32, ip, cp, false_implies, true_implies, not_false_eq_true, not_true_eq_false, true_and, and_true, forall_eq, eq_self, Int32.reduceLT, Int32.reduceLE]
      exact h
    · refine And.intro i12 (And.intro i12 (nm_r epc (br_f (by decide) (br_f (by decide) (br_f (by decide) (br_f (by decide) (br_f (by decide) (br_f (by decide) (br_t rfl ?_)))))))))
      simp only [i12, cg, i44, c44, w7, sk_11m, sk_a10, i10, c10, w10, false_implies, true_implies, not_false_eq_true, not_true_eq_false, true_and, and_true, forall_eq, eq_self, Int32.reduceLT, Int32.reduceLE]
      exact h
  · refine k nt me se ta rd rc (upd aa g (nI t)) (upd pc g (nI (a + 1))) st pg dl wk us xw ws lo ar sl hd ct sp yw pl wd ot oc nn nc ⟨r1, r2, r3, r4, r5, r6, r7, r8⟩ (fun post h => ?_) (fun post h => ?_)
    · refine nm_r ex (br_f (by decide) (br_t (by decide) ?_))
      simp only [i12, cg, i32, c32, ip, cp, false_implies, true_implies, not_false_eq_true, not_true_eq_false, true_and, and_true, forall_eq, eq_self, Int32.reduceLT, Int32.reduceLE]
      exact h
    · refine And.intro i12 (And.intro i12 (nm_r epc (br_f (by decide) (br_f (by decide) (br_f (by decide) (br_f (by decide) (br_f (by decide) (br_f (by decide) (br_f (by decide) (br_t rfl ?_))))))))))
      simp only [i12, cg, i44, c44, w7, sk_11m, sk_a10, i10, c10, w10, false_implies, true_implies, not_false_eq_true, not_true_eq_false, true_and, and_true, forall_eq, eq_self, Int32.reduceLT, Int32.reduceLE]
      exact h
end S17
end
section
section S18
variable {de sd wn nt sp : Int32} {fo fl la me se np ac ta rd rc op ag cl pr bu aa pc st pg dl wk us xw ws so ds kd pa lo ar sl hd ct yw pl wd ot oc nn nc : Nat → Int32} {P K t F o N B : Nat} {E : Nat → Prop} {M : Nat → Nat}
theorem sk_block (R : sk_R P K E M B np nt me se rd rc pc st pg dl wk xw sl hd ct sp yw pl wd ot oc nn nc) (hK : 0 < K) {g s : Nat} {w : Int32} (hg : g < 12) (hq : g % 3 < P) (hs : s = 3 ∨ s = 4) (h0 : pg g = 0) {E' : Nat → Prop} (hE : ∀ x, x ≠ g → (E' x ↔ E x)) : ∃ rd' rc', sk_R P K E' M B np nt me se rd' rc' pc (upd st g (nI s)) pg dl wk (upd xw g w) sl hd ct sp (upd yw g w) pl wd ot oc nn nc ∧
    (∀ post : SX → Prop, post (nI P, de, nI K, sd, nI t, wn, nI F, nI o, nt, nI N, fo, fl, me, se, np, ac, ta, rd', rc', op, ag, cl, pr, bu, aa, pc, upd st g (nI s), pg, dl, wk, us, upd xw g w, upd ws g (nI t), so, ds, kd, pa, lo, ar, sl, hd, ct) → wpX_block post (nI P, de, nI K, sd, nI t, wn, nI F, nI o, nt, nI N, fo, fl, me, se, np, ac, ta, rd, rc, op, ag, cl, pr, bu, aa, pc, st, pg, dl, wk, us, xw, ws, so, ds, kd, pa, lo, ar, sl, hd, ct) (nI g) (nI s) w) ∧
    (∀ post : SY → Prop, post (nI P, de, nI K, nI t, nI F, wn, nI N, sp, sd, fo, la, op, ag, cl, pr, bu, aa, pc, upd st g (nI s), pg, us, dl, wk, upd yw g w, upd ws g (nI t), pl, wd, ac, ta, so, ds, kd, pa, lo, ar, ot, oc, nn, nc) → wpY_block post (nI P, de, nI K, nI t, nI F, wn, nI N, sp, sd, fo, la, op, ag, cl, pr, bu, aa, pc, st, pg, us, dl, wk, yw, ws, pl, wd, ac, ta, so, ds, kd, pa, lo, ar, ot, oc, nn, nc) (nI g) (nI s) w) := by
  obtain ⟨r1, r2, r3, r4, r5, r6, r7, r8⟩ := R
  obtain ⟨rd', rc', u1, u2⟩ := sk_unl (P := P) (de := de) (K := K) (sd := sd) (t := t) (wn := wn) (F := F) (o := o) (nt := nt) (N := N) (fo := fo) (fl := fl) (me := me) (se := se) (np := np) (ac := ac) (ta := ta) (rd := rd) (rc := rc) (op := op) (ag := ag) (cl := cl) (pr := pr) (bu := bu) (aa := aa) (pc := pc) (st := st) (pg := pg) (dl := dl) (wk := wk) (us := us) (xw := xw) (ws := ws) (so := so) (ds := ds) (kd := kd) (pa := pa) (lo := lo) (ar := ar) (sl := sl) (hd := hd) (ct := ct) r1 hg
  have i12 : vp_in (nI g) 12 := vp_in_nI hg (by omega)
  have cg : (nI g).toNatClampNeg = g := nI_clamp (by omega)
  have s34 : nI s = 3 ∨ nI s = 4 := by rcases hs with z | z <;> rw [z]; · exact Or.inl rfl
                                       · exact Or.inr rfl
  have s1 : nI s ≠ 1 := by rcases hs with z | z <;> rw [z] <;> decide
  have s2 : ¬ nI s = 2 := by rcases hs with z | z <;> rw [z] <;> decide
  refine ⟨rd', rc', ⟨u1 (nI s) E' s1 hE, ?_, ?_, ?_, ?_, r6, r7, r8⟩, fun post h => ?_, fun post h => ?_⟩
  · exact sk_WA_at r2 g (fun x e => ⟨pk_un e, pk_un e, pk_un e⟩) ⟨fun _ => by rw [pk_us, pk_us], fun z => absurd (by rw [pk_us]; exact s34) z⟩
  · exact sk_PG_at r3 hK g (fun x e => ⟨pk_un e, rfl⟩) h0
  · exact sk_TM_at r4 (Int32.le_refl _) g (fun x e => ⟨pk_un e, rfl, rfl⟩) ⟨(r4 g hg).1, fun z => by rw [pk_us] at z; exact absurd z s2⟩
  · exact sk_QD_at r5 g (fun x e => ⟨pk_un e, rfl⟩) (fun z => absurd hq (by omega))
  · unfold wpX_block
    refine u2 _ ?_
    simp only [cg, i12, false_implies, true_implies, not_false_eq_true, not_true_eq_false, true_and, and_true, forall_eq, eq_self, Int32.reduceLT, Int32.reduceLE]
    exact h
  · simp only [wpY_block, cg, i12, false_implies, true_implies, not_false_eq_true, not_true_eq_false, true_and, and_true, forall_eq, eq_self, Int32.reduceLT, Int32.reduceLE]
    exact h
theorem sk_sv9 {p g a s7 s1 : Nat} {v : Int32} (hg : g < 12) (hgp : g / 3 = p) (hq : g % 3 < P) (ha : a < 16) (e1 : pc g = nI a) (R : sk_R P K sk_no sk_z B np nt me se rd rc (upd pc g (nI (a + 1))) st pg dl wk xw sl hd ct sp yw pl wd ot oc nn nc) (hs : st g = 1) (h0 : pg g = 0) (h1 : s1 < 2) (e8 : v &&& 1 = nI s1) (hK : 0 < K) : sk_Sim P de K sd t wn F o N fo fl la np ac op ag cl pr bu so ds kd pa sk_no sk_z B (fun post => wpX_serve post (nI P, de, nI K, sd, nI t, wn, nI F, nI o, nt, nI N, fo, fl, me, se, np, ac, ta, rd, rc, op, ag, cl, pr, bu, aa, upd pc g (nI (a + 1)), st, pg, dl, wk, us, xw, ws, so, ds, kd, pa, lo, ar, sl, hd, ct) (nI p) (nI g) (nI 9) v) (fun post => wY_execute_137 post (nI p) (nI g) (nI 9) v (nI (p * 11 + s7)) (nI (p * 11 + 8 + s1)) (nI P) de (nI K) (nI t) (nI F) wn (nI N) sp sd fo la op ag cl pr bu aa pc st pg us dl wk yw ws pl wd ac ta so ds kd pa lo ar ot oc nn nc) := by
  intro Q k
  have i12 : vp_in (nI g) 12 := vp_in_nI hg (by omega)
  have cg : (nI g).toNatClampNeg = g := nI_clamp (by omega)
  have epc : upd pc (nI g).toNatClampNeg (pc (nI g).toNatClampNeg + 1) = upd pc g (nI (a + 1)) := by rw [cg, e1, nI_1]
  obtain ⟨r1, r2, r3, r4, r5, r6, r7, r8⟩ := R
  obtain ⟨r, _, _, c1, c2⟩ := sk_clamp v 1 63 (by decide)
  obtain ⟨rd', rc', u1, u2⟩ := sk_unl (P := P) (de := de) (K := K) (sd := sd) (t := t) (wn := wn) (F := F) (o := o) (nt := nt) (N := N) (fo := fo) (fl := fl) (me := me) (se := se) (np := np) (ac := ac) (ta := ta) (rd := rd) (rc := rc) (op := op) (ag := ag) (cl := cl) (pr := pr) (bu := bu) (aa := aa) (pc := upd pc g (nI (a + 1))) (st := st) (pg := pg) (dl := dl) (wk := wk) (us := us) (xw := xw) (ws := ws) (so := so) (ds := ds) (kd := kd) (pa := pa) (lo := lo) (ar := ar) (sl := sl) (hd := hd) (ct := ct) r1 hg
  obtain ⟨nt', n1, n2, n3⟩ := sk_note (P := P) (de := de) (K := K) (sd := sd) (t := t) (wn := wn) (F := F) (o := o) (nt := nt) (N := N) (fo := fo) (fl := fl) (me := me) (se := se) (np := np) (ac := ac) (ta := ta) (rd := rd') (rc := rc') (op := op) (ag := ag) (cl := cl) (pr := pr) (bu := bu) (aa := aa) (pc := upd pc g (nI (a + 1))) (st := upd st g 2) (pg := pg) (dl := dl) (wk := upd wk g (nI t + r)) (us := us) (xw := xw) (ws := ws) (so := so) (ds := ds) (kd := kd) (pa := pa) (lo := lo) (ar := ar) (sl := sl) (hd := hd) (ct := ct) (nI t + r)
  have hx : xw g = -1 := (r2 g hg).2 (by rw [hs]; decide)
  refine k nt' me se ta rd' rc' aa (upd pc g (nI (a + 1))) (upd st g 2) pg dl (upd wk g (nI t + r)) us xw ws lo ar sl hd ct sp yw pl wd ot oc nn nc ⟨u1 2 sk_no (by decide) (fun _ _ => Iff.rfl), ?_, ?_, ?_, ?_, r6, r7, r8⟩ (fun post h => ?_) (fun post h => ?_)
  · exact sk_WA_at r2 g (fun x e => ⟨pk_un e, rfl, rfl⟩) ⟨fun z => by rw [pk_us] at z; exact absurd z (by decide), fun _ => hx⟩
  · exact sk_PG_at r3 hK g (fun x e => ⟨pk_un e, rfl⟩) h0
  · exact sk_TM_at r4 n1 g (fun x e => ⟨pk_un e, rfl, pk_un e⟩) ⟨fun z => Int32.le_trans n1 ((r4 g hg).1 z), fun _ => by rw [pk_us]; exact n2⟩
  · exact sk_QD_at r5 g (fun x e => ⟨pk_un e, rfl⟩) (fun z => absurd hq (by omega))
  · refine (br_f (by decide) (br_f (by decide) (br_t rfl ?_)))
    unfold wpX_delay
    refine c1 _ _ ?_
    refine u2 _ ?_
    simp only [cg, i12, pk_us, false_implies, true_implies, not_false_eq_true, not_true_eq_false, true_and, and_true, forall_eq, eq_self, Int32.reduceLT, Int32.reduceLE]
    exact n3 _ h
  · refine And.intro i12 (And.intro i12 (nm_r epc (br_f (by decide) (br_f (by decide) (br_f (by decide) (br_f (by decide) (br_f (by decide) (br_f (by decide) (br_f (by decide) (br_f (by decide) (br_t rfl ?_)))))))))))
    refine c2 _ _ ?_
    simp only [cg, i12, false_implies, true_implies, not_false_eq_true, not_true_eq_false, true_and, and_true, forall_eq, eq_self, Int32.reduceLT, Int32.reduceLE]
    exact h
theorem sk_sv10 {p g a s7 s1 : Nat} {v : Int32} (hg : g < 12) (hgp : g / 3 = p) (hq : g % 3 < P) (ha : a < 16) (e1 : pc g = nI a) (R : sk_R P K sk_no sk_z B np nt me se rd rc (upd pc g (nI (a + 1))) st pg dl wk xw sl hd ct sp yw pl wd ot oc nn nc) (hs : st g = 1) (h0 : pg g = 0) (h1 : s1 < 2) (e8 : v &&& 1 = nI s1) (hK : 0 < K) : sk_Sim P de K sd t wn F o N fo fl la np ac op ag cl pr bu so ds kd pa sk_no sk_z B (fun post => wpX_serve post (nI P, de, nI K, sd, nI t, wn, nI F, nI o, nt, nI N, fo, fl, me, se, np, ac, ta, rd, rc, op, ag, cl, pr, bu, aa, upd pc g (nI (a + 1)), st, pg, dl, wk, us, xw, ws, so, ds, kd, pa, lo, ar, sl, hd, ct) (nI p) (nI g) (nI 10) v) (fun post => wY_execute_137 post (nI p) (nI g) (nI 10) v (nI (p * 11 + s7)) (nI (p * 11 + 8 + s1)) (nI P) de (nI K) (nI t) (nI F) wn (nI N) sp sd fo la op ag cl pr bu aa pc st pg us dl wk yw ws pl wd ac ta so ds kd pa lo ar ot oc nn nc) := by
  intro Q k
  have i12 : vp_in (nI g) 12 := vp_in_nI hg (by omega)
  have cg : (nI g).toNatClampNeg = g := nI_clamp (by omega)
  have epc : upd pc (nI g).toNatClampNeg (pc (nI g).toNatClampNeg + 1) = upd pc g (nI (a + 1)) := by rw [cg, e1, nI_1]
  have ix : vp_in (nI (p * 2 + s1)) 8 := vp_in_nI (by omega) (by omega)
  have cx : (nI (p * 2 + s1)).toNatClampNeg = p * 2 + s1 := nI_clamp (by omega)
  have iy : vp_in (nI (p * 11 + 8 + s1)) 44 := vp_in_nI (by omega) (by omega)
  have cy : (nI (p * 11 + 8 + s1)).toNatClampNeg = p * 11 + 8 + s1 := nI_clamp (by omega)
  have w8 := (R.2.2.2.2.2.2.1 p (by omega)).2.1 s1 h1
  by_cases hse : se (p * 2 + s1) ≤ 0
  · obtain ⟨rd', rc', R1, x1, y1⟩ := sk_block (P := P) (de := de) (K := K) (sd := sd) (t := t) (wn := wn) (F := F) (o := o) (nt := nt) (N := N) (fo := fo) (fl := fl) (me := me) (se := se) (np := np) (ac := ac) (ta := ta) (rd := rd) (rc := rc) (op := op) (ag := ag) (cl := cl) (pr := pr) (bu := bu) (aa := aa) (pc := upd pc g (nI (a + 1))) (st := st) (pg := pg) (dl := dl) (wk := wk) (us := us) (xw := xw) (ws := ws) (so := so) (ds := ds) (kd := kd) (pa := pa) (lo := lo) (ar := ar) (sl := sl) (hd := hd) (ct := ct) (sp := sp) (la := la) (yw := yw) (pl := pl) (wd := wd) (ot := ot) (oc := oc) (nn := nn) (nc := nc) (E := sk_no) (M := sk_z) (B := B) (s := 3) (w := nI s1) R hK hg hq (Or.inl rfl) h0 (E' := sk_no) (fun _ _ => Iff.rfl)
    refine k nt me se ta rd' rc' aa (upd pc g (nI (a + 1))) (upd st g (nI 3)) pg dl wk us (upd xw g (nI s1)) (upd ws g (nI t)) lo ar sl hd ct sp (upd yw g (nI s1)) pl wd ot oc nn nc R1 (fun post h => ?_) (fun post h => ?_)
    · refine (br_f (by decide) (br_f (by decide) (br_f (by decide) (br_t rfl ?_))))
      simp only [wpX_semP, e8, sk_m2, nI_add, ix, cx, hse, false_implies, true_implies, not_false_eq_true, not_true_eq_false, true_and, and_true, forall_eq, eq_self, Int32.reduceLT, Int32.reduceLE]
      exact x1 _ h
    · refine And.intro i12 (And.intro i12 (nm_r epc (br_f (by decide) (br_f (by decide) (br_f (by decide) (br_f (by decide) (br_f (by decide) (br_f (by decide) (br_f (by decide) (br_f (by decide) (br_f (by decide) (br_t rfl ?_))))))))))))
      simp only [e8, iy, cy, w8, hse, false_implies, true_implies, not_false_eq_true, not_true_eq_false, true_and, and_true, forall_eq, eq_self, Int32.reduceLT, Int32.reduceLE]
      exact y1 _ h
  · refine k nt me (upd se (p * 2 + s1) (se (p * 2 + s1) - 1)) ta rd rc aa (upd pc g (nI (a + 1))) st pg dl wk us xw ws lo ar sl hd ct sp yw pl (upd wd (p * 11 + 8 + s1) (se (p * 2 + s1) - 1)) ot oc nn nc ⟨R.1, R.2.1, R.2.2.1, R.2.2.2.1, R.2.2.2.2.1, R.2.2.2.2.2.1, sk_WD_se R.2.2.2.2.2.2.1 h1 _, R.2.2.2.2.2.2.2⟩ (fun post h => ?_) (fun post h => ?_)
    · refine (br_f (by decide) (br_f (by decide) (br_f (by decide) (br_t rfl ?_))))
      simp only [wpX_semP, e8, sk_m2, nI_add, ix, cx, hse, false_implies, true_implies, not_false_eq_true, not_true_eq_false, true_and, and_true, forall_eq, eq_self, Int32.reduceLT, Int32.reduceLE]
      exact h
    · refine And.intro i12 (And.intro i12 (nm_r epc (br_f (by decide) (br_f (by decide) (br_f (by decide) (br_f (by decide) (br_f (by decide) (br_f (by decide) (br_f (by decide) (br_f (by decide) (br_f (by decide) (br_t rfl ?_))))))))))))
      simp only [e8, iy, cy, w8, hse, false_implies, true_implies, not_false_eq_true, not_true_eq_false, true_and, and_true, forall_eq, eq_self, Int32.reduceLT, Int32.reduceLE]
      exact h
theorem sk_sv11 {p g a s7 s1 : Nat} {v : Int32} (hg : g < 12) (hgp : g / 3 = p) (hq : g % 3 < P) (ha : a < 16) (e1 : pc g = nI a) (R : sk_R P K sk_no sk_z B np nt me se rd rc (upd pc g (nI (a + 1))) st pg dl wk xw sl hd ct sp yw pl wd ot oc nn nc) (hs : st g = 1) (h0 : pg g = 0) (h1 : s1 < 2) (e8 : v &&& 1 = nI s1) (hK : 0 < K) (hP : P ≤ 3) (hB : B + 1 < 2 ^ 30) : sk_Sim P de K sd t wn F o N fo fl la np ac op ag cl pr bu so ds kd pa sk_no sk_z (B + 1) (fun post => wpX_serve post (nI P, de, nI K, sd, nI t, wn, nI F, nI o, nt, nI N, fo, fl, me, se, np, ac, ta, rd, rc, op, ag, cl, pr, bu, aa, upd pc g (nI (a + 1)), st, pg, dl, wk, us, xw, ws, so, ds, kd, pa, lo, ar, sl, hd, ct) (nI p) (nI g) (nI 11) v) (fun post => wY_execute_137 post (nI p) (nI g) (nI 11) v (nI (p * 11 + s7)) (nI (p * 11 + 8 + s1)) (nI P) de (nI K) (nI t) (nI F) wn (nI N) sp sd fo la op ag cl pr bu aa pc st pg us dl wk yw ws pl wd ac ta so ds kd pa lo ar ot oc nn nc) := by
  intro Q k
  have i12 : vp_in (nI g) 12 := vp_in_nI hg (by omega)
  have cg : (nI g).toNatClampNeg = g := nI_clamp (by omega)
  have epc : upd pc (nI g).toNatClampNeg (pc (nI g).toNatClampNeg + 1) = upd pc g (nI (a + 1)) := by rw [cg, e1, nI_1]
  have ix : vp_in (nI (p * 2 + s1)) 8 := vp_in_nI (by omega) (by omega)
  have cx : (nI (p * 2 + s1)).toNatClampNeg = p * 2 + s1 := nI_clamp (by omega)
  have iy : vp_in (nI (p * 11 + 8 + s1)) 44 := vp_in_nI (by omega) (by omega)
  have cy : (nI (p * 11 + 8 + s1)).toNatClampNeg = p * 11 + 8 + s1 := nI_clamp (by omega)
  have w8 := (R.2.2.2.2.2.2.1 p (by omega)).2.1 s1 h1
  obtain ⟨r, w1, w2, w3⟩ := sk_bwait (P := P) (de := de) (K := K) (sd := sd) (t := t) (wn := wn) (F := F) (o := o) (nt := nt) (N := N) (fo := fo) (fl := fl) (me := me) (se := se) (np := np) (ac := ac) (ta := ta) (rd := rd) (rc := rc) (op := op) (ag := ag) (cl := cl) (pr := pr) (bu := bu) (aa := aa) (pc := upd pc g (nI (a + 1))) (st := st) (pg := pg) (dl := dl) (wk := wk) (us := us) (xw := xw) (ws := ws) (so := so) (ds := ds) (kd := kd) (pa := pa) (lo := lo) (ar := ar) (sl := sl) (hd := hd) (ct := ct) (sp := sp) (la := la) (yw := yw) (pl := pl) (wd := wd) (ot := ot) (oc := oc) (nn := nn) (nc := nc) (p := p) (s := 3) (w := nI s1) hP (by omega) (Or.inl rfl) R.2.1
  rcases w1 with w1 | ⟨c, w1, g1, g2, g3⟩
  · have rn : r < 0 := by rw [w1]; exact sk_m1lt
    by_cases hse : 15 ≤ se (p * 2 + s1)
    · refine k nt me se ta rd rc aa (upd pc g (nI (a + 1))) st pg dl wk us xw ws lo ar sl hd ct sp yw pl wd ot oc nn nc (sk_R_mono R (by omega)) (fun post h => ?_) (fun post h => ?_)
      · refine (br_f (by decide) (br_f (by decide) (br_f (by decide) (br_f (by decide) (br_t rfl ?_)))))
        unfold wpX_semV
        rw [e8]
        refine w2 _ ?_
        simp only [rn, sk_m2, nI_add, ix, cx, hse, false_implies, true_implies, not_false_eq_true, not_true_eq_false, true_and, and_true, forall_eq, eq_self, Int32.reduceLT, Int32.reduceLE]
        exact h
      · refine And.intro i12 (And.intro i12 (nm_r epc (br_f (by decide) (br_f (by decide) (br_f (by decide) (br_f (by decide) (br_f (by decide) (br_f (by decide) (br_f (by decide) (br_f (by decide) (br_f (by decide) (br_f (by decide) (br_t rfl ?_)))))))))))))
        rw [e8]
        refine w3 _ ?_
        simp only [rn, iy, cy, w8, hse, false_implies, true_implies, not_false_eq_true, not_true_eq_false, true_and, and_true, forall_eq, eq_self, Int32.reduceLT, Int32.reduceLE]
        exact h
    · refine k nt me (upd se (p * 2 + s1) (se (p * 2 + s1) + 1)) ta rd rc aa (upd pc g (nI (a + 1))) st pg dl wk us xw ws lo ar sl hd ct sp yw pl (upd wd (p * 11 + 8 + s1) (se (p * 2 + s1) + 1)) ot oc nn nc ⟨sk_RO_mono R.1 (by omega), R.2.1, R.2.2.1, R.2.2.2.1, R.2.2.2.2.1, R.2.2.2.2.2.1, sk_WD_se R.2.2.2.2.2.2.1 h1 _, R.2.2.2.2.2.2.2⟩ (fun post h => ?_) (fun post h => ?_)
      · refine (br_f (by decide) (br_f (by decide) (br_f (by decide) (br_f (by decide) (br_t rfl ?_)))))
        unfold wpX_semV
        rw [e8]
        refine w2 _ ?_
        simp only [rn, sk_m2, nI_add, ix, cx, hse, false_implies, true_implies, not_false_eq_true, not_true_eq_false, true_and, and_true, forall_eq, eq_self, Int32.reduceLT, Int32.reduceLE]
        exact h
      · refine And.intro i12 (And.intro i12 (nm_r epc (br_f (by decide) (br_f (by decide) (br_f (by decide) (br_f (by decide) (br_f (by decide) (br_f (by decide) (br_f (by decide) (br_f (by decide) (br_f (by decide) (br_f (by decide) (br_t rfl ?_)))))))))))))
        rw [e8]
        refine w3 _ ?_
        simp only [rn, iy, cy, w8, hse, false_implies, true_implies, not_false_eq_true, not_true_eq_false, true_and, and_true, forall_eq, eq_self, Int32.reduceLT, Int32.reduceLE]
        exact h
  · have rn : ¬ nI c < 0 := nI_pos (by omega)
    rw [w1] at w2 w3
    obtain ⟨rd1, rc1, R1, x1, y1⟩ := sk_rdy (P := P) (de := de) (K := K) (sd := sd) (t := t) (wn := wn) (F := F) (o := o) (nt := nt) (N := N) (fo := fo) (fl := fl) (me := me) (se := se) (np := np) (ac := ac) (ta := ta) (rd := rd) (rc := rc) (op := op) (ag := ag) (cl := cl) (pr := pr) (bu := bu) (aa := aa) (pc := upd pc g (nI (a + 1))) (st := st) (pg := pg) (dl := dl) (wk := wk) (us := us) (xw := xw) (ws := ws) (so := so) (ds := ds) (kd := kd) (pa := pa) (lo := lo) (ar := ar) (sl := sl) (hd := hd) (ct := ct) (sp := sp) (la := la) (yw := yw) (pl := pl) (wd := wd) (ot := ot) (oc := oc) (nn := nn) (nc := nc) (E := sk_no) (M := sk_z) (B := B) R (by omega) hK (show c < 12 by omega) (by omega) (by rw [g3]; decide) (E' := sk_no) (fun _ _ => Iff.rfl) (fun z => z)
    refine k nt me se ta rd1 rc1 aa (upd pc g (nI (a + 1))) (upd st c 1) pg dl wk us (upd xw c (-1)) ws lo ar sl hd ct (sp + 1) yw (upd pl c (sp + 1)) wd ot oc nn nc R1 (fun post h => ?_) (fun post h => ?_)
    · refine (br_f (by decide) (br_f (by decide) (br_f (by decide) (br_f (by decide) (br_t rfl ?_)))))
      unfold wpX_semV
      rw [e8]
      refine w2 _ ?_
      simp only [rn, false_implies, true_implies, not_false_eq_true, not_true_eq_false, true_and, and_true, forall_eq, eq_self, Int32.reduceLT, Int32.reduceLE]
      exact x1 _ h
    · refine And.intro i12 (And.intro i12 (nm_r epc (br_f (by decide) (br_f (by decide) (br_f (by decide) (br_f (by decide) (br_f (by decide) (br_f (by decide) (br_f (by decide) (br_f (by decide) (br_f (by decide) (br_f (by decide) (br_t rfl ?_)))))))))))))
      rw [e8]
      refine w3 _ ?_
      simp only [rn, false_implies, true_implies, not_false_eq_true, not_true_eq_false, true_and, and_true, forall_eq, eq_self, Int32.reduceLT, Int32.reduceLE]
      exact y1 _ h
theorem sk_sv14 {p g a s7 s1 : Nat} {v : Int32} (hg : g < 12) (hgp : g / 3 = p) (hq : g % 3 < P) (ha : a < 16) (e1 : pc g = nI a) (R : sk_R P K sk_no sk_z B np nt me se rd rc (upd pc g (nI (a + 1))) st pg dl wk xw sl hd ct sp yw pl wd ot oc nn nc) (hs : st g = 1) (h0 : pg g = 0) (h1 : s1 < 2) (e8 : v &&& 1 = nI s1) : sk_Sim P de K sd t wn F o N fo fl la np ac op ag cl pr bu so ds kd pa sk_no sk_z B (fun post => wpX_serve post (nI P, de, nI K, sd, nI t, wn, nI F, nI o, nt, nI N, fo, fl, me, se, np, ac, ta, rd, rc, op, ag, cl, pr, bu, aa, upd pc g (nI (a + 1)), st, pg, dl, wk, us, xw, ws, so, ds, kd, pa, lo, ar, sl, hd, ct) (nI p) (nI g) (nI 14) v) (fun post => wY_execute_137 post (nI p) (nI g) (nI 14) v (nI (p * 11 + s7)) (nI (p * 11 + 8 + s1)) (nI P) de (nI K) (nI t) (nI F) wn (nI N) sp sd fo la op ag cl pr bu aa pc st pg us dl wk yw ws pl wd ac ta so ds kd pa lo ar ot oc nn nc) := by
  intro Q k
  have i12 : vp_in (nI g) 12 := vp_in_nI hg (by omega)
  have cg : (nI g).toNatClampNeg = g := nI_clamp (by omega)
  have epc : upd pc (nI g).toNatClampNeg (pc (nI g).toNatClampNeg + 1) = upd pc g (nI (a + 1)) := by rw [cg, e1, nI_1]
  obtain ⟨nt1, dl1, R1, hd1, x1⟩ := sk_rearm (P := P) (de := de) (K := K) (sd := sd) (t := t) (wn := wn) (F := F) (o := o) (nt := nt) (N := N) (fo := fo) (fl := fl) (me := me) (se := se) (np := np) (ac := ac) (ta := ta) (rd := rd) (rc := rc) (op := op) (ag := ag) (cl := cl) (pr := pr) (bu := bu) (aa := aa) (pc := upd pc g (nI (a + 1))) (st := st) (pg := pg) (dl := dl) (wk := wk) (us := us) (xw := xw) (ws := ws) (so := so) (ds := ds) (kd := kd) (pa := pa) (lo := lo) (ar := ar) (sl := sl) (hd := hd) (ct := ct) (sp := sp) (yw := yw) (pl := pl) (wd := wd) (ot := ot) (oc := oc) (nn := nn) (nc := nc) (E := sk_no) (M := sk_z) (B := B) R hg hq
  refine k nt1 me se ta rd rc aa (upd pc g (nI (a + 1))) st pg dl1 wk us xw ws lo ar sl hd ct sp yw pl wd ot oc nn nc R1 (fun post h => ?_) (fun post h => ?_)
  · refine (br_f (by decide) (br_f (by decide) (br_f (by decide) (br_f (by decide) (br_f (by decide) (br_f (by decide) (br_f (by decide) (br_t rfl ?_))))))))
    exact x1 _ h
  · refine And.intro i12 (And.intro i12 (nm_r epc (br_f (by decide) (br_f (by decide) (br_f (by decide) (br_f (by decide) (br_f (by decide) (br_f (by decide) (br_f (by decide) (br_f (by decide) (br_f (by decide) (br_f (by decide) (br_f (by decide) (br_f (by decide) (br_f (by decide) (br_t rfl ?_))))))))))))))))
    rcases hd1 with ⟨hb, e⟩ | ⟨hb, e⟩
    · rw [e] at h
      simp only [i12, cg, hb, sk_upS, false_implies, true_implies, not_false_eq_true, not_true_eq_false, true_and, and_true, forall_eq, eq_self, Int32.reduceLT, Int32.reduceLE]
      exact h
    · rw [e] at h
      simp only [i12, cg, hb, false_implies, true_implies, not_false_eq_true, not_true_eq_false, true_and, and_true, forall_eq, eq_self, Int32.reduceLT, Int32.reduceLE]
      exact h
theorem sk_sv15 (hP : P ≤ 3) (hK : 0 < K) (hN : N ≤ 6) (hcl : ∀ g, g < 12 → ∃ n, n ≤ 16 ∧ cl g = nI n) (hbu : ∀ g, g < 12 → ∃ n, n < 100 ∧ bu g = nI n) {p g a s7 s1 : Nat} {v : Int32} (hg : g < 12) (hgp : g / 3 = p) (hq : g % 3 < P) (ha : a < 16) (e1 : pc g = nI a) (R : sk_R P K sk_no sk_z B np nt me se rd rc (upd pc g (nI (a + 1))) st pg dl wk xw sl hd ct sp yw pl wd ot oc nn nc) (hs : st g = 1) (h0 : pg g = 0) (h1 : s1 < 2) (e8 : v &&& 1 = nI s1) (hB : B + 3 < 2 ^ 30) : sk_Sim P de K sd t wn F o N fo fl la np ac op ag cl pr bu so ds kd pa sk_no sk_z (B + 3) (fun post => wpX_serve post (nI P, de, nI K, sd, nI t, wn, nI F, nI o, nt, nI N, fo, fl, me, se, np, ac, ta, rd, rc, op, ag, cl, pr, bu, aa, upd pc g (nI (a + 1)), st, pg, dl, wk, us, xw, ws, so, ds, kd, pa, lo, ar, sl, hd, ct) (nI p) (nI g) (nI 15) v) (fun post => wY_execute_137 post (nI p) (nI g) (nI 15) v (nI (p * 11 + s7)) (nI (p * 11 + 8 + s1)) (nI P) de (nI K) (nI t) (nI F) wn (nI N) sp sd fo la op ag cl pr bu aa pc st pg us dl wk yw ws pl wd ac ta so ds kd pa lo ar ot oc nn nc) := by
  intro Q k
  have i12 : vp_in (nI g) 12 := vp_in_nI hg (by omega)
  have cg : (nI g).toNatClampNeg = g := nI_clamp (by omega)
  have epc : upd pc (nI g).toNatClampNeg (pc (nI g).toNatClampNeg + 1) = upd pc g (nI (a + 1)) := by rw [cg, e1, nI_1]
  refine sk_raise (P := P) (de := de) (K := K) (sd := sd) (t := t) (wn := wn) (F := F) (o := o) (nt := nt) (N := N) (fo := fo) (fl := fl) (me := me) (se := se) (np := np) (ac := ac) (ta := ta) (rd := rd) (rc := rc) (op := op) (ag := ag) (cl := cl) (pr := pr) (bu := bu) (aa := aa) (pc := upd pc g (nI (a + 1))) (st := st) (pg := pg) (dl := dl) (wk := wk) (us := us) (xw := xw) (ws := ws) (so := so) (ds := ds) (kd := kd) (pa := pa) (lo := lo) (ar := ar) (sl := sl) (hd := hd) (ct := ct) (sp := sp) (la := la) (yw := yw) (pl := pl) (wd := wd) (ot := ot) (oc := oc) (nn := nn) (nc := nc) (B := B) hP hK hN hcl hbu R hB hg hq (show 1 < 2 by omega) Q ?_
  intro nt1 me1 se1 ta1 rd1 rc1 aa1 pc1 st1 pg1 dl1 wk1 us1 xw1 ws1 lo1 ar1 sl1 hd1 ct1 sp1 yw1 pl1 wd1 ot1 oc1 nn1 nc1 R1 x1 y1
  rw [hgp] at y1
  refine k nt1 me1 se1 ta1 rd1 rc1 aa1 pc1 st1 pg1 dl1 wk1 us1 xw1 ws1 lo1 ar1 sl1 hd1 ct1 sp1 yw1 pl1 wd1 ot1 oc1 nn1 nc1 R1 (fun post h => ?_) (fun post h => ?_)
  · refine (br_f (by decide) (br_t (by decide) ?_))
    exact x1 _ h
  · refine And.intro i12 (And.intro i12 (nm_r epc (br_f (by decide) (br_f (by decide) (br_f (by decide) (br_f (by decide) (br_f (by decide) (br_f (by decide) (br_f (by decide) (br_f (by decide) (br_f (by decide) (br_f (by decide) (br_f (by decide) (br_f (by decide) (br_f (by decide) (br_f (by decide) ?_))))))))))))))))
    exact y1 _ h
end S18
end
section
section S19
variable {de sd wn nt sp : Int32} {fo fl la me se np ac ta rd rc op ag cl pr bu aa pc st pg dl wk us xw ws so ds kd pa lo ar sl hd ct yw pl wd ot oc nn nc : Nat → Int32} {P K t F o N B : Nat} {E : Nat → Prop} {M : Nat → Nat}
theorem sk_chan (v : Int32) (hN : N ≤ 6) : (v < 0) ∨ (¬ v < 0 ∧ nI N ≤ v) ∨ ∃ c, c < N ∧ v = nI c ∧ ¬ v < 0 ∧ ¬ nI N ≤ v := by
  by_cases h : v < 0
  · exact Or.inl h
  · by_cases h2 : nI N ≤ v
    · exact Or.inr (Or.inl ⟨h, h2⟩)
    · rcases pk_ix v (n := N) (by omega) with z | z | ⟨j, hj, e⟩
      · exact absurd z h
      · exact absurd z h2
      · exact Or.inr (Or.inr ⟨j, hj, e, h, h2⟩)
theorem sk_sv12 (hP : P ≤ 3) (hK : 0 < K) (hN : N ≤ 6) (hcl : ∀ g, g < 12 → ∃ n, n ≤ 16 ∧ cl g = nI n) (hbu : ∀ g, g < 12 → ∃ n, n < 100 ∧ bu g = nI n) {p g a s7 s1 : Nat} {v : Int32} (hg : g < 12) (hgp : g / 3 = p) (hq : g % 3 < P) (ha : a < 16) (e1 : pc g = nI a) (R : sk_R P K sk_no sk_z B np nt me se rd rc (upd pc g (nI (a + 1))) st pg dl wk xw sl hd ct sp yw pl wd ot oc nn nc) (hs : st g = 1) (h0 : pg g = 0) (h1 : s1 < 2) (e8 : v &&& 1 = nI s1) (hB : B + 3 < 2 ^ 30) (hpa : ∀ c, c < N → ¬ kd c = 0 → ∃ m, m ≤ 4 ∧ pa c = nI m) : sk_Sim P de K sd t wn F o N fo fl la np ac op ag cl pr bu so ds kd pa sk_no sk_z (B + 3) (fun post => wpX_serve post (nI P, de, nI K, sd, nI t, wn, nI F, nI o, nt, nI N, fo, fl, me, se, np, ac, ta, rd, rc, op, ag, cl, pr, bu, aa, upd pc g (nI (a + 1)), st, pg, dl, wk, us, xw, ws, so, ds, kd, pa, lo, ar, sl, hd, ct) (nI p) (nI g) (nI 12) v) (fun post => wY_execute_137 post (nI p) (nI g) (nI 12) v (nI (p * 11 + s7)) (nI (p * 11 + 8 + s1)) (nI P) de (nI K) (nI t) (nI F) wn (nI N) sp sd fo la op ag cl pr bu aa pc st pg us dl wk yw ws pl wd ac ta so ds kd pa lo ar ot oc nn nc) := by
  intro Q k
  have i12 : vp_in (nI g) 12 := vp_in_nI hg (by omega)
  have cg : (nI g).toNatClampNeg = g := nI_clamp (by omega)
  have epc : upd pc (nI g).toNatClampNeg (pc (nI g).toNatClampNeg + 1) = upd pc g (nI (a + 1)) := by rw [cg, e1, nI_1]
  rcases sk_chan v hN with hv | ⟨hv, hv2⟩ | ⟨c, hc, rfl, hv, hv2⟩
  · refine sk_raise (P := P) (de := de) (K := K) (sd := sd) (t := t) (wn := wn) (F := F) (o := o) (nt := nt) (N := N) (fo := fo) (fl := fl) (me := me) (se := se) (np := np) (ac := ac) (ta := ta) (rd := rd) (rc := rc) (op := op) (ag := ag) (cl := cl) (pr := pr) (bu := bu) (aa := aa) (pc := upd pc g (nI (a + 1))) (st := st) (pg := pg) (dl := dl) (wk := wk) (us := us) (xw := xw) (ws := ws) (so := so) (ds := ds) (kd := kd) (pa := pa) (lo := lo) (ar := ar) (sl := sl) (hd := hd) (ct := ct) (sp := sp) (la := la) (yw := yw) (pl := pl) (wd := wd) (ot := ot) (oc := oc) (nn := nn) (nc := nc) (B := B) hP hK hN hcl hbu R hB hg hq (show 1 < 2 by omega) Q ?_
    intro nt1 me1 se1 ta1 rd1 rc1 aa1 pc1 st1 pg1 dl1 wk1 us1 xw1 ws1 lo1 ar1 sl1 hd1 ct1 sp1 yw1 pl1 wd1 ot1 oc1 nn1 nc1 R1 x1 y1
    rw [hgp] at y1
    refine k nt1 me1 se1 ta1 rd1 rc1 aa1 pc1 st1 pg1 dl1 wk1 us1 xw1 ws1 lo1 ar1 sl1 hd1 ct1 sp1 yw1 pl1 wd1 ot1 oc1 nn1 nc1 R1 (fun post h => ?_) (fun post h => ?_)
    · refine (br_f (by decide) (br_f (by decide) (br_f (by decide) (br_f (by decide) (br_f (by decide) (br_t rfl ?_))))))
      simp only [wpX_put, wpX_isChannel, hv, wX_put_18, false_implies, true_implies, not_false_eq_true, not_true_eq_false, true_and, and_true, forall_eq, eq_self, Int32.reduceLT, Int32.reduceLE]
      exact x1 _ h
    · refine And.intro i12 (And.intro i12 (nm_r epc (br_f (by decide) (br_f (by decide) (br_f (by decide) (br_f (by decide) (br_f (by decide) (br_f (by decide) (br_f (by decide) (br_f (by decide) (br_f (by decide) (br_f (by decide) (br_f (by decide) (br_t rfl ?_))))))))))))))
      simp only [wpY_put, hv, wY_put_22, false_implies, true_implies, not_false_eq_true, not_true_eq_false, true_and, and_true, forall_eq, eq_self, Int32.reduceLT, Int32.reduceLE]
      exact y1 _ h
  · refine sk_raise (P := P) (de := de) (K := K) (sd := sd) (t := t) (wn := wn) (F := F) (o := o) (nt := nt) (N := N) (fo := fo) (fl := fl) (me := me) (se := se) (np := np) (ac := ac) (ta := ta) (rd := rd) (rc := rc) (op := op) (ag := ag) (cl := cl) (pr := pr) (bu := bu) (aa := aa) (pc := upd pc g (nI (a + 1))) (st := st) (pg := pg) (dl := dl) (wk := wk) (us := us) (xw := xw) (ws := ws) (so := so) (ds := ds) (kd := kd) (pa := pa) (lo := lo) (ar := ar) (sl := sl) (hd := hd) (ct := ct) (sp := sp) (la := la) (yw := yw) (pl := pl) (wd := wd) (ot := ot) (oc := oc) (nn := nn) (nc := nc) (B := B) hP hK hN hcl hbu R hB hg hq (show 1 < 2 by omega) Q ?_
    intro nt1 me1 se1 ta1 rd1 rc1 aa1 pc1 st1 pg1 dl1 wk1 us1 xw1 ws1 lo1 ar1 sl1 hd1 ct1 sp1 yw1 pl1 wd1 ot1 oc1 nn1 nc1 R1 x1 y1
    rw [hgp] at y1
    refine k nt1 me1 se1 ta1 rd1 rc1 aa1 pc1 st1 pg1 dl1 wk1 us1 xw1 ws1 lo1 ar1 sl1 hd1 ct1 sp1 yw1 pl1 wd1 ot1 oc1 nn1 nc1 R1 (fun post h => ?_) (fun post h => ?_)
    · refine (br_f (by decide) (br_f (by decide) (br_f (by decide) (br_f (by decide) (br_f (by decide) (br_t rfl ?_))))))
      simp only [wpX_put, wpX_isChannel, hv, hv2, wX_put_18, false_implies, true_implies, not_false_eq_true, not_true_eq_false, true_and, and_true, forall_eq, eq_self, Int32.reduceLT, Int32.reduceLE]
      exact x1 _ h
    · refine And.intro i12 (And.intro i12 (nm_r epc (br_f (by decide) (br_f (by decide) (br_f (by decide) (br_f (by decide) (br_f (by decide) (br_f (by decide) (br_f (by decide) (br_f (by decide) (br_f (by decide) (br_f (by decide) (br_f (by decide) (br_t rfl ?_))))))))))))))
      simp only [wpY_put, hv, hv2, wY_put_22, false_implies, true_implies, not_false_eq_true, not_true_eq_false, true_and, and_true, forall_eq, eq_self, Int32.reduceLT, Int32.reduceLE]
      exact y1 _ h
  · have i6 : vp_in (nI c) 6 := vp_in_nI (by omega) (by omega)
    have cc : (nI c).toNatClampNeg = c := nI_clamp (by omega)
    have is : vp_in (nI (c * 2)) 12 := vp_in_nI (by omega) (by omega)
    have cs : (nI (c * 2)).toNatClampNeg = c * 2 := nI_clamp (by omega)
    by_cases hso : so c = nI p
    · obtain ⟨h0', n, q1, q2, q3, q4, q5, q6, q7⟩ := (R.2.2.2.2.2.2.2 c (by omega)).1
      have q4' : hd (c * 2) = nI h0' := by rw [q4]; exact congrArg nI (Nat.mod_eq_of_lt q1)
      have q5' : ct (c * 2) = nI n := q5
      have i24 : vp_in (nI (c * 4)) 24 := vp_in_nI (by omega) (by omega)
      have c24 : (nI (c * 4)).toNatClampNeg = c * 4 := nI_clamp (by omega)
      by_cases hk : kd c = 0
      · refine k nt me se ta rd rc (upd aa g 1) (upd pc g (nI (a + 1))) st pg dl wk us xw ws lo ar (upd sl (c * 2 * 4 + (h0' + 0) % 4) (aa g)) hd (upd (upd ct (c * 2) 0) (c * 2) (nI (0 + 1))) sp yw pl wd (upd ot (c * 4 + 0) (aa g)) (upd oc c (nI (0 + 1))) nn nc
          ⟨sk_RO_mono R.1 (by omega), R.2.1, R.2.2.1, R.2.2.2.1, R.2.2.2.2.1, R.2.2.2.2.2.1, R.2.2.2.2.2.2.1, sk_RG_outapp R.2.2.2.2.2.2.2 q1 (by omega) q4' (fun i hi => absurd hi (by omega)) pk_us (fun x e => by rw [pk_un e, pk_un e])⟩ (fun post h => ?_) (fun post h => ?_)
        · refine (br_f (by decide) (br_f (by decide) (br_f (by decide) (br_f (by decide) (br_f (by decide) (br_t rfl ?_))))))
          simp only [wpX_put, wpX_isChannel, hv, hv2, i6, cc, hso, sk_m2, sk_a0, hk, is, cs, wX_put_76, i12, cg, sk_q1, false_implies, true_implies, not_false_eq_true, not_true_eq_false, true_and, and_true, forall_eq, eq_self, Int32.reduceLT, Int32.reduceLE]
          refine sk_app (P := P) (de := de) (K := K) (sd := sd) (t := t) (wn := wn) (F := F) (o := o) (nt := nt) (N := N) (fo := fo) (fl := fl) (me := me) (se := se) (np := np) (ac := ac) (ta := ta) (rd := rd) (rc := rc) (op := op) (ag := ag) (cl := cl) (pr := pr) (bu := bu) (aa := aa) (pc := upd pc g (nI (a + 1))) (st := st) (pg := pg) (dl := dl) (wk := wk) (us := us) (xw := xw) (ws := ws) (so := so) (ds := ds) (kd := kd) (pa := pa) (lo := lo) (ar := ar) (sl := sl) (hd := hd) (ct := upd ct (c * 2) 0) (show c * 2 < 12 by omega) q1 (Nat.zero_le _) q4' pk_us _ ?_
          simp only [i12, cg, false_implies, true_implies, not_false_eq_true, not_true_eq_false, true_and, and_true, forall_eq, eq_self, Int32.reduceLT, Int32.reduceLE]
          exact h
        · refine And.intro i12 (And.intro i12 (nm_r epc (br_f (by decide) (br_f (by decide) (br_f (by decide) (br_f (by decide) (br_f (by decide) (br_f (by decide) (br_f (by decide) (br_f (by decide) (br_f (by decide) (br_f (by decide) (br_f (by decide) (br_t rfl ?_))))))))))))))
          simp only [wpY_put, hv, hv2, i6, cc, hso, hk, i12, cg, sk_4m, i24, c24, false_implies, true_implies, not_false_eq_true, not_true_eq_false, true_and, and_true, forall_eq, eq_self, Int32.reduceLT, Int32.reduceLE]
          exact h
      · obtain ⟨m, hm, em⟩ := hpa c hc hk
        by_cases hnm : n < m
        · have t1 : nI n < nI m := nI_lt hnm (by omega)
          have t2 : ¬ nI m ≤ nI n := nI_ge hnm (by omega)
          have i24' : vp_in (nI (c * 4 + n)) 24 := vp_in_nI (by omega) (by omega)
          have c24' : (nI (c * 4 + n)).toNatClampNeg = c * 4 + n := nI_clamp (by omega)
          refine k nt me se ta rd rc (upd aa g 1) (upd pc g (nI (a + 1))) st pg dl wk us xw ws lo ar (upd sl (c * 2 * 4 + (h0' + n) % 4) (aa g)) hd (upd ct (c * 2) (nI (n + 1))) sp yw pl wd (upd ot (c * 4 + n) (aa g)) (upd oc c (nI (n + 1))) nn nc
            ⟨sk_RO_mono R.1 (by omega), R.2.1, R.2.2.1, R.2.2.2.1, R.2.2.2.2.1, R.2.2.2.2.2.1, R.2.2.2.2.2.2.1, sk_RG_outapp R.2.2.2.2.2.2.2 q1 (by omega) q4' (fun i hi => q7 i (Nat.zero_le _) hi) pk_us (fun x e => pk_un e)⟩ (fun post h => ?_) (fun post h => ?_)
          · refine (br_f (by decide) (br_f (by decide) (br_f (by decide) (br_f (by decide) (br_f (by decide) (br_t rfl ?_))))))
            simp only [wpX_put, wpX_isChannel, hv, hv2, i6, cc, hso, sk_m2, sk_a0, hk, is, cs, q5', em, t1, wX_put_76, i12, cg, sk_q1, false_implies, true_implies, not_false_eq_true, not_true_eq_false, true_and, and_true, forall_eq, eq_self, Int32.reduceLT, Int32.reduceLE]
            refine sk_app (P := P) (de := de) (K := K) (sd := sd) (t := t) (wn := wn) (F := F) (o := o) (nt := nt) (N := N) (fo := fo) (fl := fl) (me := me) (se := se) (np := np) (ac := ac) (ta := ta) (rd := rd) (rc := rc) (op := op) (ag := ag) (cl := cl) (pr := pr) (bu := bu) (aa := aa) (pc := upd pc g (nI (a + 1))) (st := st) (pg := pg) (dl := dl) (wk := wk) (us := us) (xw := xw) (ws := ws) (so := so) (ds := ds) (kd := kd) (pa := pa) (lo := lo) (ar := ar) (sl := sl) (hd := hd) (ct := ct) (show c * 2 < 12 by omega) q1 q2 q4' q5' _ ?_
            simp only [i12, cg, false_implies, true_implies, not_false_eq_true, not_true_eq_false, true_and, and_true, forall_eq, eq_self, Int32.reduceLT, Int32.reduceLE]
            exact h
          · refine And.intro i12 (And.intro i12 (nm_r epc (br_f (by decide) (br_f (by decide) (br_f (by decide) (br_f (by decide) (br_f (by decide) (br_f (by decide) (br_f (by decide) (br_f (by decide) (br_f (by decide) (br_f (by decide) (br_f (by decide) (br_t rfl ?_))))))))))))))
            simp only [wpY_put, hv, hv2, i6, cc, hso, hk, i12, cg, em, q6, t2, sk_4m, nI_add, i24', c24', nI_1, false_implies, true_implies, not_false_eq_true, not_true_eq_false, true_and, and_true, forall_eq, eq_self, Int32.reduceLT, Int32.reduceLE]
            exact h
        · have t1 : ¬ nI n < nI m := nI_nlt (by omega) (by omega)
          have t2 : nI m ≤ nI n := nI_le (by omega) (by omega)
          refine k nt me se ta rd rc (upd aa g 0) (upd pc g (nI (a + 1))) st pg dl wk us xw ws lo ar sl hd ct sp yw pl wd ot oc nn nc (sk_R_mono R (by omega)) (fun post h => ?_) (fun post h => ?_)
          · refine (br_f (by decide) (br_f (by decide) (br_f (by decide) (br_f (by decide) (br_f (by decide) (br_t rfl ?_))))))
            simp only [wpX_put, wpX_isChannel, hv, hv2, i6, cc, hso, sk_m2, sk_a0, hk, is, cs, q5', em, t1, i12, cg, sk_q1, false_implies, true_implies, not_false_eq_true, not_true_eq_false, true_and, and_true, forall_eq, eq_self, Int32.reduceLT, Int32.reduceLE]
            exact h
          · refine And.intro i12 (And.intro i12 (nm_r epc (br_f (by decide) (br_f (by decide) (br_f (by decide) (br_f (by decide) (br_f (by decide) (br_f (by decide) (br_f (by decide) (br_f (by decide) (br_f (by decide) (br_f (by decide) (br_f (by decide) (br_t rfl ?_))))))))))))))
            simp only [wpY_put, hv, hv2, i6, cc, hso, hk, i12, cg, em, q6, t2, false_implies, true_implies, not_false_eq_true, not_true_eq_false, true_and, and_true, forall_eq, eq_self, Int32.reduceLT, Int32.reduceLE]
            exact h
    · refine sk_raise (P := P) (de := de) (K := K) (sd := sd) (t := t) (wn := wn) (F := F) (o := o) (nt := nt) (N := N) (fo := fo) (fl := fl) (me := me) (se := se) (np := np) (ac := ac) (ta := ta) (rd := rd) (rc := rc) (op := op) (ag := ag) (cl := cl) (pr := pr) (bu := bu) (aa := aa) (pc := upd pc g (nI (a + 1))) (st := st) (pg := pg) (dl := dl) (wk := wk) (us := us) (xw := xw) (ws := ws) (so := so) (ds := ds) (kd := kd) (pa := pa) (lo := lo) (ar := ar) (sl := sl) (hd := hd) (ct := ct) (sp := sp) (la := la) (yw := yw) (pl := pl) (wd := wd) (ot := ot) (oc := oc) (nn := nn) (nc := nc) (B := B) hP hK hN hcl hbu R hB hg hq (show 1 < 2 by omega) Q ?_
      intro nt1 me1 se1 ta1 rd1 rc1 aa1 pc1 st1 pg1 dl1 wk1 us1 xw1 ws1 lo1 ar1 sl1 hd1 ct1 sp1 yw1 pl1 wd1 ot1 oc1 nn1 nc1 R1 x1 y1
      rw [hgp] at y1
      refine k nt1 me1 se1 ta1 rd1 rc1 aa1 pc1 st1 pg1 dl1 wk1 us1 xw1 ws1 lo1 ar1 sl1 hd1 ct1 sp1 yw1 pl1 wd1 ot1 oc1 nn1 nc1 R1 (fun post h => ?_) (fun post h => ?_)
      · refine (br_f (by decide) (br_f (by decide) (br_f (by decide) (br_f (by decide) (br_f (by decide) (br_t rfl ?_))))))
        simp only [wpX_put, wpX_isChannel, hv, hv2, i6, cc, hso, wX_put_18, sk_q1, false_implies, true_implies, not_false_eq_true, not_true_eq_false, true_and, and_true, forall_eq, eq_self, Int32.reduceLT, Int32.reduceLE]
        exact x1 _ h
      · refine And.intro i12 (And.intro i12 (nm_r epc (br_f (by decide) (br_f (by decide) (br_f (by decide) (br_f (by decide) (br_f (by decide) (br_f (by decide) (br_f (by decide) (br_f (by decide) (br_f (by decide) (br_f (by decide) (br_f (by decide) (br_t rfl ?_))))))))))))))
        simp only [wpY_put, hv, hv2, i6, cc, hso, wY_put_22, false_implies, true_implies, not_false_eq_true, not_true_eq_false, true_and, and_true, forall_eq, eq_self, Int32.reduceLT, Int32.reduceLE]
        exact y1 _ h
theorem sk_shift {c : Nat} (hc : c < 6) : ∀ (d i : Nat) (nn : Nat → Int32), i + d = 4 → 1 ≤ i → ∃ nn' : Nat → Int32, (∀ j, i ≤ j + 1 → j + 1 < 4 → nn' (c * 4 + j) = nn (c * 4 + j + 1)) ∧ (∀ x, (x + 1 < c * 4 + i ∨ c * 4 + 3 ≤ x) → nn' x = nn x) ∧
    ∀ post : SY → Prop, (∀ f, wY_get_127 post (nI c) (nI P) de (nI K) (nI t) (nI F) wn (nI N) sp sd (f + 1) (nI 4) fo la op ag cl pr bu aa pc st pg us dl wk yw ws pl wd ac ta so ds kd pa lo ar ot oc nn' nc) → ∀ n, d < n → wY_get_127 post (nI c) (nI P) de (nI K) (nI t) (nI F) wn (nI N) sp sd n (nI i) fo la op ag cl pr bu aa pc st pg us dl wk yw ws pl wd ac ta so ds kd pa lo ar ot oc nn nc := by
  intro d
  induction d with
  | zero =>
    intro i nn hi h1
    have e : i = 4 := by omega
    refine ⟨nn, fun j h1 h2 => absurd h2 (by omega), fun _ _ => rfl, fun post h n hn => ?_⟩
    cases n with
    | zero => exact absurd hn (Nat.lt_irrefl _)
    | succ n => rw [e]; exact h n
  | succ d ih =>
    intro i nn hi h1
    obtain ⟨nn', a1, a2, a3⟩ := ih (i + 1) (upd nn (c * 4 + i - 1) (nn (c * 4 + i))) (by omega) (by omega)
    refine ⟨nn', fun j hj1 hj2 => ?_, fun x hx => ?_, fun post h n hn => ?_⟩
    · by_cases e : i = j + 1
      · rw [a2 _ (by omega)]
        have e2 : c * 4 + j = c * 4 + i - 1 := by omega
        rw [e2, pk_us]
        exact congrArg nn (by omega)
      · rw [a1 j (by omega) hj2, pk_un (by omega)]
    · rw [a2 x (by omega), pk_un (by omega)]
    · have i1 : vp_in (4 * nI c + nI i) 24 := by rw [sk_4m, nI_add]; exact vp_in_nI (by omega) (by omega)
      have c1 : (4 * nI c + nI i).toNatClampNeg = c * 4 + i := by rw [sk_4m, nI_add]; exact nI_clamp (by omega)
      have e2 : 4 * nI c + nI i - 1 = nI (c * 4 + i - 1) := by
        rw [sk_4m, nI_add]
        exact pk_sub (b := 1) (by omega)
      have i2 : vp_in (4 * nI c + nI i - 1) 24 := by rw [e2]; exact vp_in_nI (by omega) (by omega)
      have c2 : (4 * nI c + nI i - 1).toNatClampNeg = c * 4 + i - 1 := by rw [e2]; exact nI_clamp (by omega)
      cases n with
      | zero => exact absurd hn (Nat.not_lt_zero _)
      | succ n => exact br_f (nI_ge (b := 4) (by omega) (by decide)) (And.intro i1 (And.intro i2 (nm_r (by rw [c1, c2]) (nm_r (nI_1 i) (a3 post h n (by omega))))))
theorem sk_RG_get (h : sk_RG M sl hd ct ot oc nn nc) {c h0 n : Nat} {nn' : Nat → Int32} (hh : h0 < 4) (hn : n < 4) (hi : ∀ i, i < n + 1 → sl ((c * 2 + 1) * 4 + (h0 + i) % 4) = nn (c * 4 + i))
    (a1 : ∀ j, j + 1 < 4 → nn' (c * 4 + j) = nn (c * 4 + j + 1)) (a2 : ∀ x, (x < c * 4 ∨ c * 4 + 3 ≤ x) → nn' x = nn x) :
    sk_RG M sl (upd hd (c * 2 + 1) (nI ((h0 + 1) % 4))) (upd ct (c * 2 + 1) (nI n)) ot oc nn' (upd nc c (nI n)) := by
  intro x hx
  obtain ⟨h1, h2⟩ := h x hx
  refine ⟨sk_ring_fr h1 (fun _ _ => rfl) (pk_un (by omega)) (pk_un (by omega)) (fun _ _ => rfl) rfl, ?_⟩
  by_cases e : x = c
  · rw [e]
    refine ⟨(h0 + 1) % 4, n, Nat.mod_lt _ (by decide), by omega, by omega, by rw [pk_us]; exact congrArg nI (by omega), pk_us, pk_us, fun i _ hin => ?_⟩
    rw [a1 i (by omega)]
    have := hi (i + 1) (by omega)
    rw [← Nat.add_assoc (c * 4)] at this
    rw [← this]
    exact congrArg sl (by omega)
  · exact sk_ring_fr h2 (fun _ _ => rfl) (pk_un (by omega)) (pk_un (by omega)) (fun j hj => a2 _ (by omega)) (pk_un e)
theorem sk_sv13 (hP : P ≤ 3) (hK : 0 < K) (hN : N ≤ 6) (hcl : ∀ g, g < 12 → ∃ n, n ≤ 16 ∧ cl g = nI n) (hbu : ∀ g, g < 12 → ∃ n, n < 100 ∧ bu g = nI n) {p g a s7 s1 : Nat} {v : Int32} (hg : g < 12) (hgp : g / 3 = p) (hq : g % 3 < P) (ha : a < 16) (e1 : pc g = nI a) (R : sk_R P K sk_no sk_z B np nt me se rd rc (upd pc g (nI (a + 1))) st pg dl wk xw sl hd ct sp yw pl wd ot oc nn nc) (hs : st g = 1) (h0 : pg g = 0) (h1 : s1 < 2) (e8 : v &&& 1 = nI s1) (hB : B + 3 < 2 ^ 30) : sk_Sim P de K sd t wn F o N fo fl la np ac op ag cl pr bu so ds kd pa sk_no sk_z (B + 3) (fun post => wpX_serve post (nI P, de, nI K, sd, nI t, wn, nI F, nI o, nt, nI N, fo, fl, me, se, np, ac, ta, rd, rc, op, ag, cl, pr, bu, aa, upd pc g (nI (a + 1)), st, pg, dl, wk, us, xw, ws, so, ds, kd, pa, lo, ar, sl, hd, ct) (nI p) (nI g) (nI 13) v) (fun post => wY_execute_137 post (nI p) (nI g) (nI 13) v (nI (p * 11 + s7)) (nI (p * 11 + 8 + s1)) (nI P) de (nI K) (nI t) (nI F) wn (nI N) sp sd fo la op ag cl pr bu aa pc st pg us dl wk yw ws pl wd ac ta so ds kd pa lo ar ot oc nn nc) := by
  intro Q k
  have i12 : vp_in (nI g) 12 := vp_in_nI hg (by omega)
  have cg : (nI g).toNatClampNeg = g := nI_clamp (by omega)
  have epc : upd pc (nI g).toNatClampNeg (pc (nI g).toNatClampNeg + 1) = upd pc g (nI (a + 1)) := by rw [cg, e1, nI_1]
  rcases sk_chan v hN with hv | ⟨hv, hv2⟩ | ⟨c, hc, rfl, hv, hv2⟩
  · refine sk_raise (P := P) (de := de) (K := K) (sd := sd) (t := t) (wn := wn) (F := F) (o := o) (nt := nt) (N := N) (fo := fo) (fl := fl) (me := me) (se := se) (np := np) (ac := ac) (ta := ta) (rd := rd) (rc := rc) (op := op) (ag := ag) (cl := cl) (pr := pr) (bu := bu) (aa := aa) (pc := upd pc g (nI (a + 1))) (st := st) (pg := pg) (dl := dl) (wk := wk) (us := us) (xw := xw) (ws := ws) (so := so) (ds := ds) (kd := kd) (pa := pa) (lo := lo) (ar := ar) (sl := sl) (hd := hd) (ct := ct) (sp := sp) (la := la) (yw := yw) (pl := pl) (wd := wd) (ot := ot) (oc := oc) (nn := nn) (nc := nc) (B := B) hP hK hN hcl hbu R hB hg hq (show 1 < 2 by omega) Q ?_
    intro nt1 me1 se1 ta1 rd1 rc1 aa1 pc1 st1 pg1 dl1 wk1 us1 xw1 ws1 lo1 ar1 sl1 hd1 ct1 sp1 yw1 pl1 wd1 ot1 oc1 nn1 nc1 R1 x1 y1
    rw [hgp] at y1
    refine k nt1 me1 se1 ta1 rd1 rc1 aa1 pc1 st1 pg1 dl1 wk1 us1 xw1 ws1 lo1 ar1 sl1 hd1 ct1 sp1 yw1 pl1 wd1 ot1 oc1 nn1 nc1 R1 (fun post h => ?_) (fun post h => ?_)
    · refine (br_f (by decide) (br_f (by decide) (br_f (by decide) (br_f (by decide) (br_f (by decide) (br_f (by decide) (br_t rfl ?_)))))))
      simp only [wpX_get, wpX_isChannel, hv, wX_get_18, false_implies, true_implies, not_false_eq_true, not_true_eq_false, true_and, and_true, forall_eq, eq_self, Int32.reduceLT, Int32.reduceLE]
      exact x1 _ h
    · refine And.intro i12 (And.intro i12 (nm_r epc (br_f (by decide) (br_f (by decide) (br_f (by decide) (br_f (by decide) (br_f (by decide) (br_f (by decide) (br_f (by decide) (br_f (by decide) (br_f (by decide) (br_f (by decide) (br_f (by decide) (br_f (by decide) (br_t rfl ?_)))))))))))))))
      simp only [wpY_get, hv, wY_get_22, false_implies, true_implies, not_false_eq_true, not_true_eq_false, true_and, and_true, forall_eq, eq_self, Int32.reduceLT, Int32.reduceLE]
      exact y1 _ h
  · refine sk_raise (P := P) (de := de) (K := K) (sd := sd) (t := t) (wn := wn) (F := F) (o := o) (nt := nt) (N := N) (fo := fo) (fl := fl) (me := me) (se := se) (np := np) (ac := ac) (ta := ta) (rd := rd) (rc := rc) (op := op) (ag := ag) (cl := cl) (pr := pr) (bu := bu) (aa := aa) (pc := upd pc g (nI (a + 1))) (st := st) (pg := pg) (dl := dl) (wk := wk) (us := us) (xw := xw) (ws := ws) (so := so) (ds := ds) (kd := kd) (pa := pa) (lo := lo) (ar := ar) (sl := sl) (hd := hd) (ct := ct) (sp := sp) (la := la) (yw := yw) (pl := pl) (wd := wd) (ot := ot) (oc := oc) (nn := nn) (nc := nc) (B := B) hP hK hN hcl hbu R hB hg hq (show 1 < 2 by omega) Q ?_
    intro nt1 me1 se1 ta1 rd1 rc1 aa1 pc1 st1 pg1 dl1 wk1 us1 xw1 ws1 lo1 ar1 sl1 hd1 ct1 sp1 yw1 pl1 wd1 ot1 oc1 nn1 nc1 R1 x1 y1
    rw [hgp] at y1
    refine k nt1 me1 se1 ta1 rd1 rc1 aa1 pc1 st1 pg1 dl1 wk1 us1 xw1 ws1 lo1 ar1 sl1 hd1 ct1 sp1 yw1 pl1 wd1 ot1 oc1 nn1 nc1 R1 (fun post h => ?_) (fun post h => ?_)
    · refine (br_f (by decide) (br_f (by decide) (br_f (by decide) (br_f (by decide) (br_f (by decide) (br_f (by decide) (br_t rfl ?_)))))))
      simp only [wpX_get, wpX_isChannel, hv, hv2, wX_get_18, false_implies, true_implies, not_false_eq_true, not_true_eq_false, true_and, and_true, forall_eq, eq_self, Int32.reduceLT, Int32.reduceLE]
      exact x1 _ h
    · refine And.intro i12 (And.intro i12 (nm_r epc (br_f (by decide) (br_f (by decide) (br_f (by decide) (br_f (by decide) (br_f (by decide) (br_f (by decide) (br_f (by decide) (br_f (by decide) (br_f (by decide) (br_f (by decide) (br_f (by decide) (br_f (by decide) (br_t rfl ?_)))))))))))))))
      simp only [wpY_get, hv, hv2, wY_get_22, false_implies, true_implies, not_false_eq_true, not_true_eq_false, true_and, and_true, forall_eq, eq_self, Int32.reduceLT, Int32.reduceLE]
      exact y1 _ h
  · have i6 : vp_in (nI c) 6 := vp_in_nI (by omega) (by omega)
    have cc : (nI c).toNatClampNeg = c := nI_clamp (by omega)
    have is : vp_in (nI (c * 2 + 1)) 12 := vp_in_nI (by omega) (by omega)
    have cs : (nI (c * 2 + 1)).toNatClampNeg = c * 2 + 1 := nI_clamp (by omega)
    by_cases hds : ds c = nI p
    · obtain ⟨h0', n, q1, q2, q3, q4, q5, q6, q7⟩ := (R.2.2.2.2.2.2.2 c (by omega)).2
      have q4' : hd (c * 2 + 1) = nI h0' := by rw [q4]; exact congrArg nI (Nat.mod_eq_of_lt q1)
      have q5' : ct (c * 2 + 1) = nI n := q5
      have i24 : vp_in (nI (c * 4)) 24 := vp_in_nI (by omega) (by omega)
      have c24 : (nI (c * 4)).toNatClampNeg = c * 4 := nI_clamp (by omega)
      have i48 : vp_in (nI ((c * 2 + 1) * 4 + h0')) 48 := vp_in_nI (by omega) (by omega)
      have c48 : (nI ((c * 2 + 1) * 4 + h0')).toNatClampNeg = (c * 2 + 1) * 4 + h0' := nI_clamp (by omega)
      by_cases hk : kd c = 0
      · by_cases hn0 : n = 0
        · have t1 : nI n ≤ 0 := by rw [hn0]; exact Int32.le_refl _
          refine k nt me se ta rd rc (upd aa g (-1)) (upd pc g (nI (a + 1))) st pg dl wk us xw ws lo ar sl hd ct sp yw pl wd ot oc nn nc (sk_R_mono R (by omega)) (fun post h => ?_) (fun post h => ?_)
          · refine (br_f (by decide) (br_f (by decide) (br_f (by decide) (br_f (by decide) (br_f (by decide) (br_f (by decide) (br_t rfl ?_)))))))
            simp only [wpX_get, wpX_isChannel, hv, hv2, i6, cc, hds, sk_m2, nI_1, hk, is, cs, q5', t1, wX_get_75, wX_get_76, i12, cg, sk_q1, false_implies, true_implies, not_false_eq_true, not_true_eq_false, true_and, and_true, forall_eq, eq_self, Int32.reduceLT, Int32.reduceLE]
            exact h
          · refine And.intro i12 (And.intro i12 (nm_r epc (br_f (by decide) (br_f (by decide) (br_f (by decide) (br_f (by decide) (br_f (by decide) (br_f (by decide) (br_f (by decide) (br_f (by decide) (br_f (by decide) (br_f (by decide) (br_f (by decide) (br_f (by decide) (br_t rfl ?_)))))))))))))))
            simp only [wpY_get, hv, hv2, i6, cc, hds, hk, i12, cg, q6, t1, false_implies, true_implies, not_false_eq_true, not_true_eq_false, true_and, and_true, forall_eq, eq_self, Int32.reduceLT, Int32.reduceLE]
            exact h
        · have t1 : ¬ nI n ≤ 0 := nI_nle (by omega) (by omega)
          by_cases hf : pa c < nI t - ar c
          · refine k nt me se ta rd rc (upd aa g (-1)) (upd pc g (nI (a + 1))) st pg dl wk us xw ws lo ar sl hd ct sp yw pl wd ot oc nn nc (sk_R_mono R (by omega)) (fun post h => ?_) (fun post h => ?_)
            · refine (br_f (by decide) (br_f (by decide) (br_f (by decide) (br_f (by decide) (br_f (by decide) (br_f (by decide) (br_t rfl ?_)))))))
              simp only [wpX_get, wpX_isChannel, hv, hv2, i6, cc, hds, sk_m2, nI_1, hk, is, cs, q5', t1, hf, wX_get_75, wX_get_76, i12, cg, sk_q1, false_implies, true_implies, not_false_eq_true, not_true_eq_false, true_and, and_true, forall_eq, eq_self, Int32.reduceLT, Int32.reduceLE]
              exact h
            · refine And.intro i12 (And.intro i12 (nm_r epc (br_f (by decide) (br_f (by decide) (br_f (by decide) (br_f (by decide) (br_f (by decide) (br_f (by decide) (br_f (by decide) (br_f (by decide) (br_f (by decide) (br_f (by decide) (br_f (by decide) (br_f (by decide) (br_t rfl ?_)))))))))))))))
              simp only [wpY_get, hv, hv2, i6, cc, hds, hk, i12, cg, q6, t1, hf, false_implies, true_implies, not_false_eq_true, not_true_eq_false, true_and, and_true, forall_eq, eq_self, Int32.reduceLT, Int32.reduceLE]
              exact h
          · have q7' : sl ((c * 2 + 1) * 4 + h0') = nn (c * 4) := by
              have := q7 0 (Nat.zero_le _) (by omega)
              rw [show (h0' + 0) % 4 = h0' from Nat.mod_eq_of_lt q1] at this
              exact this
            refine k nt me se ta rd rc (upd aa g (nn (c * 4))) (upd pc g (nI (a + 1))) st pg dl wk us xw ws lo ar sl hd ct sp yw pl wd ot oc nn nc (sk_R_mono R (by omega)) (fun post h => ?_) (fun post h => ?_)
            · refine (br_f (by decide) (br_f (by decide) (br_f (by decide) (br_f (by decide) (br_f (by decide) (br_f (by decide) (br_t rfl ?_)))))))
              simp only [wpX_get, wpX_isChannel, hv, hv2, i6, cc, hds, sk_m2, nI_1, hk, is, cs, q5', t1, hf, wX_get_76, i12, cg, sk_q1, q4', sk_m4, nI_add, i48, c48, q7', false_implies, true_implies, not_false_eq_true, not_true_eq_false, true_and, and_true, forall_eq, eq_self, Int32.reduceLT, Int32.reduceLE]
              exact h
            · refine And.intro i12 (And.intro i12 (nm_r epc (br_f (by decide) (br_f (by decide) (br_f (by decide) (br_f (by decide) (br_f (by decide) (br_f (by decide) (br_f (by decide) (br_f (by decide) (br_f (by decide) (br_f (by decide) (br_f (by decide) (br_f (by decide) (br_t rfl ?_)))))))))))))))
              simp only [wpY_get, hv, hv2, i6, cc, hds, hk, i12, cg, q6, t1, hf, sk_4m, i24, c24, false_implies, true_implies, not_false_eq_true, not_true_eq_false, true_and, and_true, forall_eq, eq_self, Int32.reduceLT, Int32.reduceLE]
              exact h
      · by_cases hn0 : n = 0
        · have t1 : nI n ≤ 0 := by rw [hn0]; exact Int32.le_refl _
          have t2 : nI n = 0 := by rw [hn0]; rfl
          obtain ⟨rd', rc', R1, x1, y1⟩ := sk_block (P := P) (de := de) (K := K) (sd := sd) (t := t) (wn := wn) (F := F) (o := o) (nt := nt) (N := N) (fo := fo) (fl := fl) (me := me) (se := se) (np := np) (ac := ac) (ta := ta) (rd := rd) (rc := rc) (op := op) (ag := ag) (cl := cl) (pr := pr) (bu := bu) (aa := aa) (pc := upd pc g (nI (a + 1))) (st := st) (pg := pg) (dl := dl) (wk := wk) (us := us) (xw := xw) (ws := ws) (so := so) (ds := ds) (kd := kd) (pa := pa) (lo := lo) (ar := ar) (sl := sl) (hd := hd) (ct := ct) (sp := sp) (la := la) (yw := yw) (pl := pl) (wd := wd) (ot := ot) (oc := oc) (nn := nn) (nc := nc) (E := sk_no) (M := sk_z) (B := B) (s := 4) (w := nI c) R hK hg hq (Or.inr rfl) h0 (E' := sk_no) (fun _ _ => Iff.rfl)
          refine k nt me se ta rd' rc' aa (upd pc g (nI (a + 1))) (upd st g (nI 4)) pg dl wk us (upd xw g (nI c)) (upd ws g (nI t)) lo ar sl hd ct sp (upd yw g (nI c)) pl wd ot oc nn nc (sk_R_mono R1 (by omega)) (fun post h => ?_) (fun post h => ?_)
          · refine (br_f (by decide) (br_f (by decide) (br_f (by decide) (br_f (by decide) (br_f (by decide) (br_f (by decide) (br_t rfl ?_)))))))
            simp only [wpX_get, wpX_isChannel, hv, hv2, i6, cc, hds, sk_m2, nI_1, hk, is, cs, q5', t1, sk_q1, false_implies, true_implies, not_false_eq_true, not_true_eq_false, true_and, and_true, forall_eq, eq_self, Int32.reduceLT, Int32.reduceLE]
            exact x1 _ h
          · refine And.intro i12 (And.intro i12 (nm_r epc (br_f (by decide) (br_f (by decide) (br_f (by decide) (br_f (by decide) (br_f (by decide) (br_f (by decide) (br_f (by decide) (br_f (by decide) (br_f (by decide) (br_f (by decide) (br_f (by decide) (br_f (by decide) (br_t rfl ?_)))))))))))))))
            simp only [wpY_get, hv, hv2, i6, cc, hds, hk, q6, t2, false_implies, true_implies, not_false_eq_true, not_true_eq_false, true_and, and_true, forall_eq, eq_self, Int32.reduceLT, Int32.reduceLE]
            exact y1 _ h
        · have t1 : ¬ nI n ≤ 0 := nI_nle (by omega) (by omega)
          have t2 : ¬ nI n = 0 := nI_ne0 (by omega) (by omega)
          obtain ⟨m, rfl⟩ : ∃ m, n = m + 1 := ⟨n - 1, by omega⟩
          have q7' : sl ((c * 2 + 1) * 4 + h0') = nn (c * 4) := by
            have := q7 0 (Nat.zero_le _) (by omega)
            rw [show (h0' + 0) % 4 = h0' from Nat.mod_eq_of_lt q1] at this
            exact this
          obtain ⟨nn', a1, a2, a3⟩ := sk_shift (P := P) (de := de) (K := K) (t := t) (F := F) (wn := wn) (N := N) (sp := sp) (sd := sd) (fo := fo) (la := la) (op := op) (ag := ag) (cl := cl) (pr := pr) (bu := bu) (aa := upd aa g (nn (c * 4))) (pc := upd pc g (nI (a + 1))) (st := st) (pg := pg) (us := us) (dl := dl) (wk := wk) (yw := yw) (ws := ws) (pl := pl) (wd := wd) (ac := ac) (ta := ta) (so := so) (ds := ds) (kd := kd) (pa := pa) (lo := lo) (ar := ar) (ot := ot) (oc := oc) (nc := nc) (show c < 6 by omega) 3 1 nn (by omega) (by omega)
          refine k nt me se ta rd rc (upd aa g (nn (c * 4))) (upd pc g (nI (a + 1))) st pg dl wk us xw ws lo ar sl (upd hd (c * 2 + 1) (nI ((h0' + 1) % 4))) (upd ct (c * 2 + 1) (nI m)) sp yw pl wd ot oc nn' (upd nc c (nI m))
            ⟨sk_RO_mono R.1 (by omega), R.2.1, R.2.2.1, R.2.2.2.1, R.2.2.2.2.1, R.2.2.2.2.2.1, R.2.2.2.2.2.2.1, sk_RG_get R.2.2.2.2.2.2.2 q1 (by omega) (fun i hi => q7 i (Nat.zero_le _) hi) (fun j hj => a1 j (by omega) hj) (fun x hx => a2 x (by omega))⟩ (fun post h => ?_) (fun post h => ?_)
          · refine (br_f (by decide) (br_f (by decide) (br_f (by decide) (br_f (by decide) (br_f (by decide) (br_f (by decide) (br_t rfl ?_)))))))
            simp only [wpX_get, wpX_isChannel, hv, hv2, i6, cc, hds, sk_m2, nI_1, hk, is, cs, q5', t1, sk_q1, false_implies, true_implies, not_false_eq_true, not_true_eq_false, true_and, and_true, forall_eq, eq_self, Int32.reduceLT, Int32.reduceLE]
            refine sk_take (P := P) (de := de) (K := K) (sd := sd) (t := t) (wn := wn) (F := F) (o := o) (nt := nt) (N := N) (fo := fo) (fl := fl) (me := me) (se := se) (np := np) (ac := ac) (ta := ta) (rd := rd) (rc := rc) (op := op) (ag := ag) (cl := cl) (pr := pr) (bu := bu) (aa := aa) (pc := upd pc g (nI (a + 1))) (st := st) (pg := pg) (dl := dl) (wk := wk) (us := us) (xw := xw) (ws := ws) (so := so) (ds := ds) (kd := kd) (pa := pa) (lo := lo) (ar := ar) (sl := sl) (hd := hd) (ct := ct) (show c * 2 + 1 < 12 by omega) q1 (show m < 4 by omega) q4' q5' _ ?_
            simp only [i12, cg, q7', false_implies, true_implies, not_false_eq_true, not_true_eq_false, true_and, and_true, forall_eq, eq_self, Int32.reduceLT, Int32.reduceLE]
            exact h
          · refine And.intro i12 (And.intro i12 (nm_r epc (br_f (by decide) (br_f (by decide) (br_f (by decide) (br_f (by decide) (br_f (by decide) (br_f (by decide) (br_f (by decide) (br_f (by decide) (br_f (by decide) (br_f (by decide) (br_f (by decide) (br_f (by decide) (br_t rfl ?_)))))))))))))))
            simp only [wpY_get, hv, hv2, i6, cc, hds, hk, q6, t2, i12, cg, sk_4m, i24, c24, false_implies, true_implies, not_false_eq_true, not_true_eq_false, true_and, and_true, forall_eq, eq_self, Int32.reduceLT, Int32.reduceLE]
            refine ⟨4, a3 post (fun f => br_t (Int32.le_refl _) ?_) 4 (by omega)⟩
            simp only [i6, cc, q6, nI_pred, false_implies, true_implies, not_false_eq_true, not_true_eq_false, true_and, and_true, forall_eq, eq_self, Int32.reduceLT, Int32.reduceLE]
            exact h
    · refine sk_raise (P := P) (de := de) (K := K) (sd := sd) (t := t) (wn := wn) (F := F) (o := o) (nt := nt) (N := N) (fo := fo) (fl := fl) (me := me) (se := se) (np := np) (ac := ac) (ta := ta) (rd := rd) (rc := rc) (op := op) (ag := ag) (cl := cl) (pr := pr) (bu := bu) (aa := aa) (pc := upd pc g (nI (a + 1))) (st := st) (pg := pg) (dl := dl) (wk := wk) (us := us) (xw := xw) (ws := ws) (so := so) (ds := ds) (kd := kd) (pa := pa) (lo := lo) (ar := ar) (sl := sl) (hd := hd) (ct := ct) (sp := sp) (la := la) (yw := yw) (pl := pl) (wd := wd) (ot := ot) (oc := oc) (nn := nn) (nc := nc) (B := B) hP hK hN hcl hbu R hB hg hq (show 1 < 2 by omega) Q ?_
      intro nt1 me1 se1 ta1 rd1 rc1 aa1 pc1 st1 pg1 dl1 wk1 us1 xw1 ws1 lo1 ar1 sl1 hd1 ct1 sp1 yw1 pl1 wd1 ot1 oc1 nn1 nc1 R1 x1 y1
      rw [hgp] at y1
      refine k nt1 me1 se1 ta1 rd1 rc1 aa1 pc1 st1 pg1 dl1 wk1 us1 xw1 ws1 lo1 ar1 sl1 hd1 ct1 sp1 yw1 pl1 wd1 ot1 oc1 nn1 nc1 R1 (fun post h => ?_) (fun post h => ?_)
      · refine (br_f (by decide) (br_f (by decide) (br_f (by decide) (br_f (by decide) (br_f (by decide) (br_f (by decide) (br_t rfl ?_)))))))
        simp only [wpX_get, wpX_isChannel, hv, hv2, i6, cc, hds, wX_get_18, sk_q1, false_implies, true_implies, not_false_eq_true, not_true_eq_false, true_and, and_true, forall_eq, eq_self, Int32.reduceLT, Int32.reduceLE]
        exact x1 _ h
      · refine And.intro i12 (And.intro i12 (nm_r epc (br_f (by decide) (br_f (by decide) (br_f (by decide) (br_f (by decide) (br_f (by decide) (br_f (by decide) (br_f (by decide) (br_f (by decide) (br_f (by decide) (br_f (by decide) (br_f (by decide) (br_f (by decide) (br_t rfl ?_)))))))))))))))
        simp only [wpY_get, hv, hv2, i6, cc, hds, wY_get_22, false_implies, true_implies, not_false_eq_true, not_true_eq_false, true_and, and_true, forall_eq, eq_self, Int32.reduceLT, Int32.reduceLE]
        exact y1 _ h
end S19
end
section
section S20
variable {de sd wn nt sp : Int32} {fo fl la me se np ac ta rd rc op ag cl pr bu aa pc st pg dl wk us xw ws so ds kd pa lo ar sl hd ct yw pl wd ot oc nn nc : Nat → Int32} {P K t F o N B : Nat} {E : Nat → Prop} {M : Nat → Nat}
theorem sk_exec (hP : P ≤ 3) (hK : 0 < K) (hN : N ≤ 6) (hcl : ∀ g, g < 12 → ∃ n, n ≤ 16 ∧ cl g = nI n) (hbu : ∀ g, g < 12 → ∃ n, n < 100 ∧ bu g = nI n) (hK4 : K ≤ 4) (hop : ∀ i, i < 192 → ∃ q, q < 16 ∧ op i = nI q) (hds : ∀ c, c < N → ∃ d, d < 4 ∧ ds c = nI d) (hpa : ∀ c, c < N → ¬ kd c = 0 → ∃ m, m ≤ 4 ∧ pa c = nI m) (R : sk_R P K sk_no sk_z B np nt me se rd rc pc st pg dl wk xw sl hd ct sp yw pl wd ot oc nn nc) (hB : B + 3 < 2 ^ 30) {p g : Nat} (hg : g < 12) (hgp : g / 3 = p) (hq : g % 3 < P) (hs : st g = 1) (hu : ∀ x, x < 12 → x / 3 = p → x ≠ g → pg x = 0) :
    sk_Sim P de K sd t wn F o N fo fl la np ac op ag cl pr bu so ds kd pa sk_no sk_z (B + 3) (fun post => wpX_execute post (nI P, de, nI K, sd, nI t, wn, nI F, nI o, nt, nI N, fo, fl, me, se, np, ac, ta, rd, rc, op, ag, cl, pr, bu, aa, pc, st, pg, dl, wk, upd us g (us g + 1), xw, ws, so, ds, kd, pa, lo, ar, sl, hd, ct) (nI p) (nI g)) (fun post => wpY_execute post (nI P, de, nI K, nI t, nI F, wn, nI N, sp, sd, fo, la, op, ag, cl, pr, bu, aa, pc, st, pg, us, dl, wk, yw, ws, pl, wd, ac, ta, so, ds, kd, pa, lo, ar, ot, oc, nn, nc) (nI p) (nI g)) := by
  intro Q k
  obtain ⟨a, ha, ea⟩ := R.2.2.2.2.2.1 g hg
  obtain ⟨L, hL, eL⟩ := hcl g hg
  obtain ⟨b, hb, eb, _⟩ := R.2.2.1.1 g hg
  by_cases hst : L ≤ a ∨ op (g * 16 + a) = 0
  · obtain ⟨rd1, rc1, R1, x1, y1⟩ := sk_stop (P := P) (de := de) (K := K) (sd := sd) (t := t) (wn := wn) (F := F) (o := o) (nt := nt) (N := N) (fo := fo) (fl := fl) (me := me) (se := se) (np := np) (ac := ac) (ta := ta) (rd := rd) (rc := rc) (op := op) (ag := ag) (cl := cl) (pr := pr) (bu := bu) (aa := aa) (pc := pc) (st := st) (pg := pg) (dl := dl) (wk := wk) (us := upd us g (us g + 1)) (xw := xw) (ws := ws) (so := so) (ds := ds) (kd := kd) (pa := pa) (lo := lo) (ar := ar) (sl := sl) (hd := hd) (ct := ct) (sp := sp) (la := la) (yw := yw) (pl := pl) (wd := wd) (ot := ot) (oc := oc) (nn := nn) (nc := nc) (E := sk_no) (M := sk_z) (B := B) R hK hg (E' := sk_no) (fun _ _ => Iff.rfl)
    exact k nt me se ta rd1 rc1 aa pc (upd st g 0) (upd pg g 0) (upd dl g (-1)) wk (upd us g (us g + 1)) (upd xw g (-1)) ws lo ar sl hd ct sp yw pl wd ot oc nn nc (sk_R_mono R1 (by omega)) (fun post h => sk_xstop hg hL ha ea eL hst x1 post h) (fun post h => sk_ystop hg hL ha ea eL hst y1 post h)
  · have haL : a < L := by
      by_cases z : a < L
      · exact z
      · exact absurd (Or.inl (by omega)) hst
    obtain ⟨q, hq16, eq⟩ := hop (g * 16 + a) (by omega)
    have hq0 : 0 < q := by
      rcases Nat.eq_zero_or_pos q with z | z
      · exact absurd (Or.inr (by rw [eq, z]; rfl)) hst
      · exact z
    obtain ⟨s7, h7, e7⟩ := sk_and7 (ag (g * 16 + a))
    obtain ⟨s1, h1, e8⟩ := sk_and1 (ag (g * 16 + a))
    have hpc : sk_PC (upd pc g (nI (a + 1))) := sk_PC_u R.2.2.2.2.2.1 (by omega)
    by_cases hq8 : q ≤ 8
    · have R1 : sk_R P K sk_no sk_z B np nt me se rd rc (upd pc g (nI (a + 1))) st pg dl wk xw sl hd ct sp yw pl wd ot oc nn nc := ⟨R.1, R.2.1, R.2.2.1, R.2.2.2.1, R.2.2.2.2.1, hpc, R.2.2.2.2.2.2⟩
      refine sk_comp (P := P) (de := de) (K := K) (sd := sd) (t := t) (wn := wn) (F := F) (o := o) (nt := nt) (N := N) (fo := fo) (fl := fl) (me := me) (se := se) (np := np) (ac := ac) (ta := ta) (rd := rd) (rc := rc) (op := op) (ag := ag) (cl := cl) (pr := pr) (bu := bu) (aa := aa) (pc := pc) (st := st) (pg := pg) (dl := dl) (wk := wk) (us := upd us g (us g + 1)) (xw := xw) (ws := ws) (so := so) (ds := ds) (kd := kd) (pa := pa) (lo := lo) (ar := ar) (sl := sl) (hd := hd) (ct := ct) (sp := sp) (la := la) (yw := yw) (pl := pl) (wd := wd) (ot := ot) (oc := oc) (nn := nn) (nc := nc) (E := sk_no) (M := sk_z) (B := B) (s1 := s1) (show p < 4 by omega) hg (by omega) ea R1 h7 e7 hq0 hq8 Q ?_
      intro nt1 me1 se1 ta1 rd1 rc1 aa1 pc1 st1 pg1 dl1 wk1 us1 xw1 ws1 lo1 ar1 sl1 hd1 ct1 sp1 yw1 pl1 wd1 ot1 oc1 nn1 nc1 R2 x1 y1
      exact k nt1 me1 se1 ta1 rd1 rc1 aa1 pc1 st1 pg1 dl1 wk1 us1 xw1 ws1 lo1 ar1 sl1 hd1 ct1 sp1 yw1 pl1 wd1 ot1 oc1 nn1 nc1 (sk_R_mono R2 (by omega)) (fun post h => sk_xcomp hg hL haL ea eL eq rfl hq0 hq8 x1 post h) (fun post h => sk_yfront hg hL haL ea eL eq rfl hq0 hq8 e7 e8 post (y1 post h))
    · by_cases hbK : K ≤ b + 1
      · have R1 : sk_R P K sk_no sk_z B np nt me se rd rc (upd pc g (nI (a + 1))) st (upd pg g 0) dl wk xw sl hd ct sp yw pl wd ot oc nn nc := ⟨R.1, R.2.1, sk_PG_at R.2.2.1 hK g (fun x e => ⟨rfl, pk_un e⟩) pk_us, R.2.2.2.1, R.2.2.2.2.1, hpc, R.2.2.2.2.2.2⟩
        have hc : q = 9 ∨ q = 10 ∨ q = 11 ∨ q = 12 ∨ q = 13 ∨ q = 14 ∨ q = 15 := by omega
        rcases hc with rfl | rfl | rfl | rfl | rfl | rfl | rfl
        · refine sk_sv9 (P := P) (de := de) (K := K) (sd := sd) (t := t) (wn := wn) (F := F) (o := o) (nt := nt) (N := N) (fo := fo) (fl := fl) (me := me) (se := se) (np := np) (ac := ac) (ta := ta) (rd := rd) (rc := rc) (op := op) (ag := ag) (cl := cl) (pr := pr) (bu := bu) (aa := aa) (pc := pc) (st := st) (pg := upd pg g 0) (dl := dl) (wk := wk) (us := upd us g (us g + 1)) (xw := xw) (ws := ws) (so := so) (ds := ds) (kd := kd) (pa := pa) (lo := lo) (ar := ar) (sl := sl) (hd := hd) (ct := ct) (sp := sp) (la := la) (yw := yw) (pl := pl) (wd := wd) (ot := ot) (oc := oc) (nn := nn) (nc := nc) (B := B) (s7 := s7) hg hgp hq (by omega) ea R1 hs pk_us h1 e8 hK Q ?_
          intro nt1 me1 se1 ta1 rd1 rc1 aa1 pc1 st1 pg1 dl1 wk1 us1 xw1 ws1 lo1 ar1 sl1 hd1 ct1 sp1 yw1 pl1 wd1 ot1 oc1 nn1 nc1 R2 x1 y1
          exact k nt1 me1 se1 ta1 rd1 rc1 aa1 pc1 st1 pg1 dl1 wk1 us1 xw1 ws1 lo1 ar1 sl1 hd1 ct1 sp1 yw1 pl1 wd1 ot1 oc1 nn1 nc1 (sk_R_mono R2 (by omega)) (fun post h => sk_xserv hg hL haL ea eL eq rfl (by omega) (by omega) eb hK4 hbK (by omega) x1 post h) (fun post h => sk_yserv hg hL haL ea eL eq rfl (by omega) (by omega) eb hK4 hbK (by omega) e7 e8 post (y1 post h))
        · refine sk_sv10 (P := P) (de := de) (K := K) (sd := sd) (t := t) (wn := wn) (F := F) (o := o) (nt := nt) (N := N) (fo := fo) (fl := fl) (me := me) (se := se) (np := np) (ac := ac) (ta := ta) (rd := rd) (rc := rc) (op := op) (ag := ag) (cl := cl) (pr := pr) (bu := bu) (aa := aa) (pc := pc) (st := st) (pg := upd pg g 0) (dl := dl) (wk := wk) (us := upd us g (us g + 1)) (xw := xw) (ws := ws) (so := so) (ds := ds) (kd := kd) (pa := pa) (lo := lo) (ar := ar) (sl := sl) (hd := hd) (ct := ct) (sp := sp) (la := la) (yw := yw) (pl := pl) (wd := wd) (ot := ot) (oc := oc) (nn := nn) (nc := nc) (B := B) (s7 := s7) hg hgp hq (by omega) ea R1 hs pk_us h1 e8 hK Q ?_
          intro nt1 me1 se1 ta1 rd1 rc1 aa1 pc1 st1 pg1 dl1 wk1 us1 xw1 ws1 lo1 ar1 sl1 hd1 ct1 sp1 yw1 pl1 wd1 ot1 oc1 nn1 nc1 R2 x1 y1
          exact k nt1 me1 se1 ta1 rd1 rc1 aa1 pc1 st1 pg1 dl1 wk1 us1 xw1 ws1 lo1 ar1 sl1 hd1 ct1 sp1 yw1 pl1 wd1 ot1 oc1 nn1 nc1 (sk_R_mono R2 (by omega)) (fun post h => sk_xserv hg hL haL ea eL eq rfl (by omega) (by omega) eb hK4 hbK (by omega) x1 post h) (fun post h => sk_yserv hg hL haL ea eL eq rfl (by omega) (by omega) eb hK4 hbK (by omega) e7 e8 post (y1 post h))
        · refine sk_sv11 (P := P) (de := de) (K := K) (sd := sd) (t := t) (wn := wn) (F := F) (o := o) (nt := nt) (N := N) (fo := fo) (fl := fl) (me := me) (se := se) (np := np) (ac := ac) (ta := ta) (rd := rd) (rc := rc) (op := op) (ag := ag) (cl := cl) (pr := pr) (bu := bu) (aa := aa) (pc := pc) (st := st) (pg := upd pg g 0) (dl := dl) (wk := wk) (us := upd us g (us g + 1)) (xw := xw) (ws := ws) (so := so) (ds := ds) (kd := kd) (pa := pa) (lo := lo) (ar := ar) (sl := sl) (hd := hd) (ct := ct) (sp := sp) (la := la) (yw := yw) (pl := pl) (wd := wd) (ot := ot) (oc := oc) (nn := nn) (nc := nc) (B := B) (s7 := s7) hg hgp hq (by omega) ea R1 hs pk_us h1 e8 hK hP (by omega) Q ?_
          intro nt1 me1 se1 ta1 rd1 rc1 aa1 pc1 st1 pg1 dl1 wk1 us1 xw1 ws1 lo1 ar1 sl1 hd1 ct1 sp1 yw1 pl1 wd1 ot1 oc1 nn1 nc1 R2 x1 y1
          exact k nt1 me1 se1 ta1 rd1 rc1 aa1 pc1 st1 pg1 dl1 wk1 us1 xw1 ws1 lo1 ar1 sl1 hd1 ct1 sp1 yw1 pl1 wd1 ot1 oc1 nn1 nc1 (sk_R_mono R2 (by omega)) (fun post h => sk_xserv hg hL haL ea eL eq rfl (by omega) (by omega) eb hK4 hbK (by omega) x1 post h) (fun post h => sk_yserv hg hL haL ea eL eq rfl (by omega) (by omega) eb hK4 hbK (by omega) e7 e8 post (y1 post h))
        · refine sk_sv12 (P := P) (de := de) (K := K) (sd := sd) (t := t) (wn := wn) (F := F) (o := o) (nt := nt) (N := N) (fo := fo) (fl := fl) (me := me) (se := se) (np := np) (ac := ac) (ta := ta) (rd := rd) (rc := rc) (op := op) (ag := ag) (cl := cl) (pr := pr) (bu := bu) (aa := aa) (pc := pc) (st := st) (pg := upd pg g 0) (dl := dl) (wk := wk) (us := upd us g (us g + 1)) (xw := xw) (ws := ws) (so := so) (ds := ds) (kd := kd) (pa := pa) (lo := lo) (ar := ar) (sl := sl) (hd := hd) (ct := ct) (sp := sp) (la := la) (yw := yw) (pl := pl) (wd := wd) (ot := ot) (oc := oc) (nn := nn) (nc := nc) (B := B) hP hK hN hcl hbu (s7 := s7) hg hgp hq (by omega) ea R1 hs pk_us h1 e8 hB hpa Q ?_
          intro nt1 me1 se1 ta1 rd1 rc1 aa1 pc1 st1 pg1 dl1 wk1 us1 xw1 ws1 lo1 ar1 sl1 hd1 ct1 sp1 yw1 pl1 wd1 ot1 oc1 nn1 nc1 R2 x1 y1
          exact k nt1 me1 se1 ta1 rd1 rc1 aa1 pc1 st1 pg1 dl1 wk1 us1 xw1 ws1 lo1 ar1 sl1 hd1 ct1 sp1 yw1 pl1 wd1 ot1 oc1 nn1 nc1 (sk_R_mono R2 (by omega)) (fun post h => sk_xserv hg hL haL ea eL eq rfl (by omega) (by omega) eb hK4 hbK (by omega) x1 post h) (fun post h => sk_yserv hg hL haL ea eL eq rfl (by omega) (by omega) eb hK4 hbK (by omega) e7 e8 post (y1 post h))
        · refine sk_sv13 (P := P) (de := de) (K := K) (sd := sd) (t := t) (wn := wn) (F := F) (o := o) (nt := nt) (N := N) (fo := fo) (fl := fl) (me := me) (se := se) (np := np) (ac := ac) (ta := ta) (rd := rd) (rc := rc) (op := op) (ag := ag) (cl := cl) (pr := pr) (bu := bu) (aa := aa) (pc := pc) (st := st) (pg := upd pg g 0) (dl := dl) (wk := wk) (us := upd us g (us g + 1)) (xw := xw) (ws := ws) (so := so) (ds := ds) (kd := kd) (pa := pa) (lo := lo) (ar := ar) (sl := sl) (hd := hd) (ct := ct) (sp := sp) (la := la) (yw := yw) (pl := pl) (wd := wd) (ot := ot) (oc := oc) (nn := nn) (nc := nc) (B := B) hP hK hN hcl hbu (s7 := s7) hg hgp hq (by omega) ea R1 hs pk_us h1 e8 hB Q ?_
          intro nt1 me1 se1 ta1 rd1 rc1 aa1 pc1 st1 pg1 dl1 wk1 us1 xw1 ws1 lo1 ar1 sl1 hd1 ct1 sp1 yw1 pl1 wd1 ot1 oc1 nn1 nc1 R2 x1 y1
          exact k nt1 me1 se1 ta1 rd1 rc1 aa1 pc1 st1 pg1 dl1 wk1 us1 xw1 ws1 lo1 ar1 sl1 hd1 ct1 sp1 yw1 pl1 wd1 ot1 oc1 nn1 nc1 (sk_R_mono R2 (by omega)) (fun post h => sk_xserv hg hL haL ea eL eq rfl (by omega) (by omega) eb hK4 hbK (by omega) x1 post h) (fun post h => sk_yserv hg hL haL ea eL eq rfl (by omega) (by omega) eb hK4 hbK (by omega) e7 e8 post (y1 post h))
        · refine sk_sv14 (P := P) (de := de) (K := K) (sd := sd) (t := t) (wn := wn) (F := F) (o := o) (nt := nt) (N := N) (fo := fo) (fl := fl) (me := me) (se := se) (np := np) (ac := ac) (ta := ta) (rd := rd) (rc := rc) (op := op) (ag := ag) (cl := cl) (pr := pr) (bu := bu) (aa := aa) (pc := pc) (st := st) (pg := upd pg g 0) (dl := dl) (wk := wk) (us := upd us g (us g + 1)) (xw := xw) (ws := ws) (so := so) (ds := ds) (kd := kd) (pa := pa) (lo := lo) (ar := ar) (sl := sl) (hd := hd) (ct := ct) (sp := sp) (la := la) (yw := yw) (pl := pl) (wd := wd) (ot := ot) (oc := oc) (nn := nn) (nc := nc) (B := B) (s7 := s7) hg hgp hq (by omega) ea R1 hs pk_us h1 e8 Q ?_
          intro nt1 me1 se1 ta1 rd1 rc1 aa1 pc1 st1 pg1 dl1 wk1 us1 xw1 ws1 lo1 ar1 sl1 hd1 ct1 sp1 yw1 pl1 wd1 ot1 oc1 nn1 nc1 R2 x1 y1
          exact k nt1 me1 se1 ta1 rd1 rc1 aa1 pc1 st1 pg1 dl1 wk1 us1 xw1 ws1 lo1 ar1 sl1 hd1 ct1 sp1 yw1 pl1 wd1 ot1 oc1 nn1 nc1 (sk_R_mono R2 (by omega)) (fun post h => sk_xserv hg hL haL ea eL eq rfl (by omega) (by omega) eb hK4 hbK (by omega) x1 post h) (fun post h => sk_yserv hg hL haL ea eL eq rfl (by omega) (by omega) eb hK4 hbK (by omega) e7 e8 post (y1 post h))
        · refine sk_sv15 (P := P) (de := de) (K := K) (sd := sd) (t := t) (wn := wn) (F := F) (o := o) (nt := nt) (N := N) (fo := fo) (fl := fl) (me := me) (se := se) (np := np) (ac := ac) (ta := ta) (rd := rd) (rc := rc) (op := op) (ag := ag) (cl := cl) (pr := pr) (bu := bu) (aa := aa) (pc := pc) (st := st) (pg := upd pg g 0) (dl := dl) (wk := wk) (us := upd us g (us g + 1)) (xw := xw) (ws := ws) (so := so) (ds := ds) (kd := kd) (pa := pa) (lo := lo) (ar := ar) (sl := sl) (hd := hd) (ct := ct) (sp := sp) (la := la) (yw := yw) (pl := pl) (wd := wd) (ot := ot) (oc := oc) (nn := nn) (nc := nc) (B := B) hP hK hN hcl hbu (s7 := s7) hg hgp hq (by omega) ea R1 hs pk_us h1 e8 hB Q ?_
          intro nt1 me1 se1 ta1 rd1 rc1 aa1 pc1 st1 pg1 dl1 wk1 us1 xw1 ws1 lo1 ar1 sl1 hd1 ct1 sp1 yw1 pl1 wd1 ot1 oc1 nn1 nc1 R2 x1 y1
          exact k nt1 me1 se1 ta1 rd1 rc1 aa1 pc1 st1 pg1 dl1 wk1 us1 xw1 ws1 lo1 ar1 sl1 hd1 ct1 sp1 yw1 pl1 wd1 ot1 oc1 nn1 nc1 (sk_R_mono R2 (by omega)) (fun post h => sk_xserv hg hL haL ea eL eq rfl (by omega) (by omega) eb hK4 hbK (by omega) x1 post h) (fun post h => sk_yserv hg hL haL ea eL eq rfl (by omega) (by omega) eb hK4 hbK (by omega) e7 e8 post (y1 post h))
      · exact k nt me se ta rd rc aa pc st (upd pg g (nI (b + 1))) dl wk (upd us g (us g + 1)) xw ws lo ar sl hd ct sp yw pl wd ot oc nn nc ⟨sk_RO_mono R.1 (by omega), R.2.1, sk_PG_inc R.2.2.1 hs (fun x hx hxp e => hu x hx (by omega) e) (by omega), R.2.2.2⟩ (fun post h => sk_xserv0 hg hL haL ea eL eq (by omega) (by omega) eb hK4 (by omega) post h) (fun post h => sk_yserv0 hg hL haL ea eL eq (by omega) (by omega) eb hK4 (by omega) post h)
end S20
end
section
theorem sk_mod1 {t F : Nat} (hF0 : 0 < F) : (t + 1) % F = if t % F + 1 < F then t % F + 1 else 0 := by
  have h := Nat.mod_lt t hF0
  rw [← Nat.mod_add_mod]
  by_cases e : t % F + 1 < F
  · rw [if_pos e]; exact Nat.mod_eq_of_lt e
  · rw [if_neg e]
    have : t % F + 1 = F := by omega
    rw [this, Nat.mod_self]
section S21
variable {de sd wn nt sp : Int32} {fo fl la me se np ac ta rd rc op ag cl pr bu aa pc st pg dl wk us xw ws so ds kd pa lo ar sl hd ct yw pl wd ot oc nn nc : Nat → Int32} {P K t F o N B : Nat} {E : Nat → Prop} {M : Nat → Nat}
theorem sk_adv1 (hF0 : 0 < F) (hF : F ≤ 128) (ho : o = t % F) (post : SX → Prop) (h : post (nI P, de, nI K, sd, nI (t + 1), wn, nI F, nI ((t + 1) % F), nt, nI N, fo, fl, me, se, np, ac, ta, rd, rc, op, ag, cl, pr, bu, aa, pc, st, pg, dl, wk, us, xw, ws, so, ds, kd, pa, lo, ar, sl, hd, ct)) : wX_tick_85 post (nI P) de (nI K) sd (nI t) wn (nI F) (nI o) nt (nI N) fo fl me se np ac ta rd rc op ag cl pr bu aa pc st pg dl wk us xw ws so ds kd pa lo ar sl hd ct := by
  have hm := Nat.mod_lt t hF0
  unfold wX_tick_85
  rw [sk_mod1 hF0, ← ho] at h
  by_cases e : o + 1 < F
  · rw [if_pos e] at h
    have l : nI (o + 1) < nI F := nI_lt e (by omega)
    simp only [wpX_advance, nI_1, l, false_implies, true_implies, not_false_eq_true, not_true_eq_false, true_and, and_true, forall_eq, eq_self, Int32.reduceLT, Int32.reduceLE]
    exact h
  · rw [if_neg e] at h
    have l : ¬ nI (o + 1) < nI F := nI_nlt (by omega) (by omega)
    simp only [wpX_advance, nI_1, l, false_implies, true_implies, not_false_eq_true, not_true_eq_false, true_and, and_true, forall_eq, eq_self, Int32.reduceLT, Int32.reduceLE]
    exact h
theorem sk_tail (hP : P ≤ 3) (hK : 0 < K) (hN : N ≤ 6) (hds : ∀ c, c < N → ∃ d, d < 4 ∧ ds c = nI d) (hpa : ∀ c, c < N → ¬ kd c = 0 → ∃ m, m ≤ 4 ∧ pa c = nI m) (hF0 : 0 < F) (hF : F ≤ 128) (ht : t < 16000) (ho : o = t % F) (hfo : ∀ i, i < F → ∃ w, w ≤ 4 ∧ fo i = nI w) (hfl : ∀ i, i < F → ∃ l, i ≤ l ∧ l < F ∧ fl i = nI l) (hla : ∀ i, i < F → (la i = 0 ↔ ¬ nI i = fl i)) (R : sk_R P K sk_no sk_z B np nt me se rd rc pc st pg dl wk xw sl hd ct sp yw pl wd ot oc nn nc) (hB : B + 24 < 2 ^ 30) (w : Int32) :
    sk_Sim P de K sd (t + 1) wn F ((t + 1) % F) N fo fl la np ac op ag cl pr bu so ds kd pa sk_no sk_z (B + 24) (fun post => wX_tick_64 post w (nI P) de (nI K) sd (nI t) wn (nI F) (nI o) nt (nI N) fo fl me se np ac ta rd rc op ag cl pr bu aa pc st pg dl wk us xw ws so ds kd pa lo ar sl hd ct) (fun post => wY_tick_138 post (nI o) w (nI P) de (nI K) (nI t) (nI F) wn (nI N) sp sd fo la op ag cl pr bu aa pc st pg us dl wk yw ws pl wd ac ta so ds kd pa lo ar ot oc nn nc) := by
  intro Q k
  have hm := Nat.mod_lt t hF0
  have io : vp_in (nI o) 128 := vp_in_nI (by omega) (by omega)
  have co : (nI o).toNatClampNeg = o := nI_clamp (by omega)
  by_cases e : nI o = fl o
  · have l0 : ¬ la o = 0 := fun z => (hla o (by omega)).1 z e
    obtain ⟨rd', rc', aa', st', xw', lo', ar', sl', hd', ct', sp', pl', nn', nc', oc', R1, x1, y1⟩ := sk_flush (P := P) (de := de) (K := K) (sd := sd) (t := t) (wn := wn) (F := F) (o := o) (nt := nt) (N := N) (fo := fo) (fl := fl) (me := me) (se := se) (np := np) (ac := ac) (ta := ta) (op := op) (ag := ag) (cl := cl) (pr := pr) (bu := bu) (pc := pc) (pg := pg) (dl := dl) (wk := wk) (us := us) (ws := ws) (so := so) (ds := ds) (kd := kd) (pa := pa) (la := la) (yw := yw) (wd := wd) (ot := ot) hK hP hN hds hpa w N 0 B rd rc aa st xw lo ar sl hd ct sp pl nn nc oc (by omega) (by omega) R
    refine k nt me se ta rd' rc' aa' pc st' pg dl wk us xw' ws lo' ar' sl' hd' ct' sp' yw pl' wd ot oc' nn' nc' (sk_R_mono R1 (by omega)) (fun post h => ?_) (fun post h => ?_)
    · refine And.intro io (br_t (by rw [co]; exact e) ⟨N + 1, x1 _ ?_ _ (Nat.lt_succ_self _)⟩)
      exact sk_adv1 hF0 hF ho post h
    · refine And.intro io (br_f (by rw [co]; exact l0) ⟨N + 1, y1 _ ?_ _ (Nat.lt_succ_self _)⟩)
      exact nm_r (nI_1 t) h
  · have l0 : la o = 0 := (hla o (by omega)).2 e
    refine k nt me se ta rd rc aa pc st pg dl wk us xw ws lo ar sl hd ct sp yw pl wd ot oc nn nc (sk_R_mono R (by omega)) (fun post h => ?_) (fun post h => ?_)
    · exact And.intro io (br_f (by rw [co]; exact e) (sk_adv1 hF0 hF ho post h))
    · exact And.intro io (br_t (by rw [co]; exact l0) (nm_r (nI_1 t) h))
theorem sk_mid (hP : P ≤ 3) (hK : 0 < K) (hN : N ≤ 6) (hcl : ∀ g, g < 12 → ∃ n, n ≤ 16 ∧ cl g = nI n) (hbu : ∀ g, g < 12 → ∃ n, n < 100 ∧ bu g = nI n) (hK4 : K ≤ 4) (hop : ∀ i, i < 192 → ∃ q, q < 16 ∧ op i = nI q) (hds : ∀ c, c < N → ∃ d, d < 4 ∧ ds c = nI d) (hpa : ∀ c, c < N → ¬ kd c = 0 → ∃ m, m ≤ 4 ∧ pa c = nI m) (hF0 : 0 < F) (hF : F ≤ 128) (ht : t < 16000) (ho : o = t % F) (hfo : ∀ i, i < F → ∃ w, w ≤ 4 ∧ fo i = nI w) (hfl : ∀ i, i < F → ∃ l, i ≤ l ∧ l < F ∧ fl i = nI l) (hla : ∀ i, i < F → (la i = 0 ↔ ¬ nI i = fl i)) (R : sk_R P K sk_no sk_z B np nt me se rd rc pc st pg dl wk xw sl hd ct sp yw pl wd ot oc nn nc) (hB : B + 27 < 2 ^ 30) :
    sk_Sim P de K sd (t + 1) wn F ((t + 1) % F) N fo fl la np ac op ag cl pr bu so ds kd pa sk_no sk_z (B + 27) (fun post => wX_tick_23 post (nI P) de (nI K) sd (nI t) wn (nI F) (nI o) nt (nI N) fo fl me se np ac ta rd rc op ag cl pr bu aa pc st pg dl wk us xw ws so ds kd pa lo ar sl hd ct) (fun post => wY_tick_105 post (nI o) (nI P) de (nI K) (nI t) (nI F) wn (nI N) sp sd fo la op ag cl pr bu aa pc st pg us dl wk yw ws pl wd ac ta so ds kd pa lo ar ot oc nn nc) := by
  intro Q k
  have hm := Nat.mod_lt t hF0
  have io : vp_in (nI o) 128 := vp_in_nI (by omega) (by omega)
  have co : (nI o).toNatClampNeg = o := nI_clamp (by omega)
  obtain ⟨w, hw, ew⟩ := hfo o (by omega)
  have ew' : fo (nI o).toNatClampNeg = nI w := by rw [co]; exact ew
  by_cases hw4 : w = 4
  · have w4 : nI w = 4 := by rw [hw4]; rfl
    refine k nt me se ta rd rc aa pc st pg dl wk us xw ws lo ar sl hd ct sp yw pl wd ot oc nn nc (sk_R_mono R (by omega)) (fun post h => ?_) (fun post h => ?_)
    · exact And.intro io (nm_r ew' (br_t w4 (sk_adv1 hF0 hF ho post h)))
    · exact And.intro io (nm_r ew' (br_t w4 (nm_r (nI_1 t) h)))
  · have w4 : ¬ nI w = 4 := fun z => hw4 ((nI_eq (b := 4) (by omega) (by decide)).1 z)
    rcases sk_pick (P := P) (de := de) (K := K) (sd := sd) (t := t) (wn := wn) (F := F) (o := o) (nt := nt) (N := N) (fo := fo) (fl := fl) (me := me) (se := se) (np := np) (ac := ac) (ta := ta) (rd := rd) (rc := rc) (op := op) (ag := ag) (cl := cl) (pr := pr) (bu := bu) (aa := aa) (pc := pc) (st := st) (pg := pg) (dl := dl) (wk := wk) (us := us) (xw := xw) (ws := ws) (so := so) (ds := ds) (kd := kd) (pa := pa) (lo := lo) (ar := ar) (sl := sl) (hd := hd) (ct := ct) (sp := sp) (la := la) (yw := yw) (pl := pl) (wd := wd) (ot := ot) (oc := oc) (nn := nn) (nc := nc) (M := sk_z) (B := B) R hP hK4 (show w < 4 by omega) with ⟨_, x1, y1⟩ | ⟨g, g1, g2, g3, g4, x1, y1⟩
    · refine sk_tail (P := P) (de := de) (K := K) (sd := sd) (t := t) (wn := wn) (F := F) (o := o) (nt := nt) (N := N) (fo := fo) (fl := fl) (me := me) (se := se) (np := np) (ac := ac) (ta := ta) (rd := rd) (rc := rc) (op := op) (ag := ag) (cl := cl) (pr := pr) (bu := bu) (aa := aa) (pc := pc) (st := st) (pg := pg) (dl := dl) (wk := wk) (us := us) (xw := xw) (ws := ws) (so := so) (ds := ds) (kd := kd) (pa := pa) (lo := lo) (ar := ar) (sl := sl) (hd := hd) (ct := ct) (sp := sp) (la := la) (yw := yw) (pl := pl) (wd := wd) (ot := ot) (oc := oc) (nn := nn) (nc := nc) (B := B) hP hK hN hds hpa hF0 hF ht ho hfo hfl hla R (by omega) (nI w) Q ?_
      intro nt1 me1 se1 ta1 rd1 rc1 aa1 pc1 st1 pg1 dl1 wk1 us1 xw1 ws1 lo1 ar1 sl1 hd1 ct1 sp1 yw1 pl1 wd1 ot1 oc1 nn1 nc1 R1 x2 y2
      refine k nt1 me1 se1 ta1 rd1 rc1 aa1 pc1 st1 pg1 dl1 wk1 us1 xw1 ws1 lo1 ar1 sl1 hd1 ct1 sp1 yw1 pl1 wd1 ot1 oc1 nn1 nc1 (sk_R_mono R1 (by omega)) (fun post h => ?_) (fun post h => ?_)
      · exact And.intro io (nm_r ew' (br_f w4 (x1 _ (br_t sk_m1lt (x2 post h)))))
      · exact And.intro io (nm_r ew' (br_f w4 (y1 _ (br_t sk_m1lt (y2 post h)))))
    · have g12 : g < 12 := by omega
      have ig : vp_in (nI g) 12 := vp_in_nI g12 (by omega)
      have cg : (nI g).toNatClampNeg = g := nI_clamp (by omega)
      refine sk_exec (P := P) (de := de) (K := K) (sd := sd) (t := t) (wn := wn) (F := F) (o := o) (nt := nt) (N := N) (fo := fo) (fl := fl) (me := me) (se := se) (np := np) (ac := ac) (ta := ta) (rd := rd) (rc := rc) (op := op) (ag := ag) (cl := cl) (pr := pr) (bu := bu) (aa := aa) (pc := pc) (st := st) (pg := pg) (dl := dl) (wk := wk) (us := us) (xw := xw) (ws := ws) (so := so) (ds := ds) (kd := kd) (pa := pa) (lo := lo) (ar := ar) (sl := sl) (hd := hd) (ct := ct) (sp := sp) (la := la) (yw := yw) (pl := pl) (wd := wd) (ot := ot) (oc := oc) (nn := nn) (nc := nc) (B := B) hP hK hN hcl hbu hK4 hop hds hpa R (by omega) g12 g1 g2 g3 g4 Q ?_
      intro nt1 me1 se1 ta1 rd1 rc1 aa1 pc1 st1 pg1 dl1 wk1 us1 xw1 ws1 lo1 ar1 sl1 hd1 ct1 sp1 yw1 pl1 wd1 ot1 oc1 nn1 nc1 R1 x2 y2
      refine sk_tail (P := P) (de := de) (K := K) (sd := sd) (t := t) (wn := wn) (F := F) (o := o) (nt := nt1) (N := N) (fo := fo) (fl := fl) (me := me1) (se := se1) (np := np) (ac := ac) (ta := ta1) (rd := rd1) (rc := rc1) (op := op) (ag := ag) (cl := cl) (pr := pr) (bu := bu) (aa := aa1) (pc := pc1) (st := st1) (pg := pg1) (dl := dl1) (wk := wk1) (us := us1) (xw := xw1) (ws := ws1) (so := so) (ds := ds) (kd := kd) (pa := pa) (lo := lo1) (ar := ar1) (sl := sl1) (hd := hd1) (ct := ct1) (sp := sp1) (la := la) (yw := yw1) (pl := pl1) (wd := wd1) (ot := ot1) (oc := oc1) (nn := nn1) (nc := nc1) (B := B + 3) hP hK hN hds hpa hF0 hF ht ho hfo hfl hla R1 (by omega) (nI w) Q ?_
      intro nt2 me2 se2 ta2 rd2 rc2 aa2 pc2 st2 pg2 dl2 wk2 us2 xw2 ws2 lo2 ar2 sl2 hd2 ct2 sp2 yw2 pl2 wd2 ot2 oc2 nn2 nc2 R2 x3 y3
      refine k nt2 me2 se2 ta2 rd2 rc2 aa2 pc2 st2 pg2 dl2 wk2 us2 xw2 ws2 lo2 ar2 sl2 hd2 ct2 sp2 yw2 pl2 wd2 ot2 oc2 nn2 nc2 (sk_R_mono R2 (by omega)) (fun post h => ?_) (fun post h => ?_)
      · refine And.intro io (nm_r ew' (br_f w4 (x1 _ (br_f (nI_pos (by omega)) (And.intro ig (And.intro ig (nm_r (e' := upd us g (us g + 1)) (by rw [cg]) ?_)))))))
        exact x2 _ (x3 post h)
      · refine And.intro io (nm_r ew' (br_f w4 (y1 _ (br_f (nI_pos (by omega)) ?_))))
        have eg : 3 * nI w + nI (g - w * 3) = nI g := by rw [sk_3m, nI_add]; exact congrArg nI (by omega)
        rw [eg]
        exact y2 _ (y3 post h)
theorem sk_tick (hP : P ≤ 3) (hK : 0 < K) (hN : N ≤ 6) (hcl : ∀ g, g < 12 → ∃ n, n ≤ 16 ∧ cl g = nI n) (hbu : ∀ g, g < 12 → ∃ n, n < 100 ∧ bu g = nI n) (hK4 : K ≤ 4) (hop : ∀ i, i < 192 → ∃ q, q < 16 ∧ op i = nI q) (hds : ∀ c, c < N → ∃ d, d < 4 ∧ ds c = nI d) (hpa : ∀ c, c < N → ¬ kd c = 0 → ∃ m, m ≤ 4 ∧ pa c = nI m) (hF0 : 0 < F) (hF : F ≤ 128) (ht : t < 16000) (ho : o = t % F) (hfo : ∀ i, i < F → ∃ w, w ≤ 4 ∧ fo i = nI w) (hfl : ∀ i, i < F → ∃ l, i ≤ l ∧ l < F ∧ fl i = nI l) (hla : ∀ i, i < F → (la i = 0 ↔ ¬ nI i = fl i)) (R : sk_R P K sk_no sk_z B np nt me se rd rc pc st pg dl wk xw sl hd ct sp yw pl wd ot oc nn nc) (hB : B + 75 < 2 ^ 30) :
    sk_Sim P de K sd (t + 1) wn F ((t + 1) % F) N fo fl la np ac op ag cl pr bu so ds kd pa sk_no sk_z (B + 75) (fun post => wpX_tick post (nI P, de, nI K, sd, nI t, wn, nI F, nI o, nt, nI N, fo, fl, me, se, np, ac, ta, rd, rc, op, ag, cl, pr, bu, aa, pc, st, pg, dl, wk, us, xw, ws, so, ds, kd, pa, lo, ar, sl, hd, ct)) (fun post => wpY_tick post (nI P, de, nI K, nI t, nI F, wn, nI N, sp, sd, fo, la, op, ag, cl, pr, bu, aa, pc, st, pg, us, dl, wk, yw, ws, pl, wd, ac, ta, so, ds, kd, pa, lo, ar, ot, oc, nn, nc)) := by
  intro Q k
  have hm := Nat.mod_lt t hF0
  have f1 : ¬ nI F ≤ 0 := nI_nle hF0 (by omega)
  have f2 : ¬ nI F = 0 := nI_ne0 hF0 (by omega)
  have f3 : nI t - nI t / nI F * nI F = nI o := by rw [pk_rem (by omega) hF0 (by omega), ho]
  by_cases hn : nI t < nt
  · refine sk_mid (P := P) (de := de) (K := K) (sd := sd) (t := t) (wn := wn) (F := F) (o := o) (nt := nt) (N := N) (fo := fo) (fl := fl) (me := me) (se := se) (np := np) (ac := ac) (ta := ta) (rd := rd) (rc := rc) (op := op) (ag := ag) (cl := cl) (pr := pr) (bu := bu) (aa := aa) (pc := pc) (st := st) (pg := pg) (dl := dl) (wk := wk) (us := us) (xw := xw) (ws := ws) (so := so) (ds := ds) (kd := kd) (pa := pa) (lo := lo) (ar := ar) (sl := sl) (hd := hd) (ct := ct) (sp := sp) (la := la) (yw := yw) (pl := pl) (wd := wd) (ot := ot) (oc := oc) (nn := nn) (nc := nc) (B := B) hP hK hN hcl hbu hK4 hop hds hpa hF0 hF ht ho hfo hfl hla R (by omega) Q ?_
    intro nt1 me1 se1 ta1 rd1 rc1 aa1 pc1 st1 pg1 dl1 wk1 us1 xw1 ws1 lo1 ar1 sl1 hd1 ct1 sp1 yw1 pl1 wd1 ot1 oc1 nn1 nc1 R1 x1 y1
    refine k nt1 me1 se1 ta1 rd1 rc1 aa1 pc1 st1 pg1 dl1 wk1 us1 xw1 ws1 lo1 ar1 sl1 hd1 ct1 sp1 yw1 pl1 wd1 ot1 oc1 nn1 nc1 (sk_R_mono R1 (by omega)) (fun post h => ?_) (fun post h => ?_)
    · exact br_t hn (x1 post h)
    · refine ⟨13, sk_ywake0 (fun g hg hs z => ?_) post (fun f => br_t (Int32.le_refl _) ⟨13, sk_yfire0 (fun g hg z => ?_) post (fun f => br_t (Int32.le_refl _) (br_f f1 (And.intro f2 ?_))) 12 0 (by omega) 13 (by omega)⟩) 12 0 (by omega) 13 (by omega)⟩
      · have := (R.2.2.2.1 g hg).2 hs
        rw [z] at this
        exact absurd hn (Int32.not_lt.mpr this)
      · have := (R.2.2.2.1 g hg).1 (by rw [z]; exact nI_pos' (by omega))
        rw [z] at this
        exact absurd hn (Int32.not_lt.mpr this)
      · rw [f3]
        exact y1 post h
  · obtain ⟨rd1, rc1, st1, xw1, sp1, pl1, R1, x1, y1⟩ := sk_wake (P := P) (de := de) (K := K) (sd := sd) (t := t) (wn := wn) (F := F) (o := o) (nt := nt) (N := N) (fo := fo) (fl := fl) (me := me) (se := se) (np := np) (ac := ac) (ta := ta) (op := op) (ag := ag) (cl := cl) (pr := pr) (bu := bu) (aa := aa) (pc := pc) (pg := pg) (dl := dl) (wk := wk) (us := us) (ws := ws) (so := so) (ds := ds) (kd := kd) (pa := pa) (lo := lo) (ar := ar) (sl := sl) (hd := hd) (ct := ct) (la := la) (yw := yw) (wd := wd) (ot := ot) (oc := oc) (nn := nn) (nc := nc) (M := sk_z) hK 12 0 B rd rc st xw sp pl (by omega) (by omega) R
    refine sk_fire (de := de) (sd := sd) (wn := wn) (fo := fo) (fl := fl) (la := la) (np := np) (ac := ac) (op := op) (ag := ag) (cl := cl) (pr := pr) (bu := bu) (so := so) (ds := ds) (kd := kd) (pa := pa) (P := P) (K := K) (t := t) (F := F) (o := o) (N := N) hP hK hN hcl hbu (by omega) 12 0 (B + 12) nt me se ta rd1 rc1 aa pc st1 pg dl wk us xw1 ws lo ar sl hd ct sp1 yw pl1 wd ot oc nn nc (by omega) (by omega) R1 Q ?_
    intro nt2 me2 se2 ta2 rd2 rc2 aa2 pc2 st2 pg2 dl2 wk2 us2 xw2 ws2 lo2 ar2 sl2 hd2 ct2 sp2 yw2 pl2 wd2 ot2 oc2 nn2 nc2 R2 x2 y2
    obtain ⟨nt3, t3, x3⟩ := sk_fnt (P := P) (de := de) (K := K) (sd := sd) (t := t) (wn := wn) (F := F) (o := o) (N := N) (fo := fo) (fl := fl) (me := me2) (se := se2) (np := np) (ac := ac) (ta := ta2) (rd := rd2) (rc := rc2) (op := op) (ag := ag) (cl := cl) (pr := pr) (bu := bu) (aa := aa2) (pc := pc2) (st := st2) (pg := pg2) (dl := dl2) (wk := wk2) (us := us2) (xw := xw2) (ws := ws2) (so := so) (ds := ds) (kd := kd) (pa := pa) (lo := lo2) (ar := ar2) (sl := sl2) (hd := hd2) (ct := ct2) 12 0 16000 (by omega) (fun g hg => absurd hg (by omega))
    have R3 : sk_R P K sk_no sk_z (B + 12 + 3 * 12) np nt3 me2 se2 rd2 rc2 pc2 st2 pg2 dl2 wk2 xw2 sl2 hd2 ct2 sp2 yw2 pl2 wd2 ot2 oc2 nn2 nc2 := ⟨R2.1, R2.2.1, R2.2.2.1, t3, R2.2.2.2.2⟩
    refine sk_mid (P := P) (de := de) (K := K) (sd := sd) (t := t) (wn := wn) (F := F) (o := o) (nt := nt3) (N := N) (fo := fo) (fl := fl) (me := me2) (se := se2) (np := np) (ac := ac) (ta := ta2) (rd := rd2) (rc := rc2) (op := op) (ag := ag) (cl := cl) (pr := pr) (bu := bu) (aa := aa2) (pc := pc2) (st := st2) (pg := pg2) (dl := dl2) (wk := wk2) (us := us2) (xw := xw2) (ws := ws2) (so := so) (ds := ds) (kd := kd) (pa := pa) (lo := lo2) (ar := ar2) (sl := sl2) (hd := hd2) (ct := ct2) (sp := sp2) (la := la) (yw := yw2) (pl := pl2) (wd := wd2) (ot := ot2) (oc := oc2) (nn := nn2) (nc := nc2) (B := B + 12 + 3 * 12) hP hK hN hcl hbu hK4 hop hds hpa hF0 hF ht ho hfo hfl hla R3 (by omega) Q ?_
    intro nt4 me4 se4 ta4 rd4 rc4 aa4 pc4 st4 pg4 dl4 wk4 us4 xw4 ws4 lo4 ar4 sl4 hd4 ct4 sp4 yw4 pl4 wd4 ot4 oc4 nn4 nc4 R4 x4 y4
    refine k nt4 me4 se4 ta4 rd4 rc4 aa4 pc4 st4 pg4 dl4 wk4 us4 xw4 ws4 lo4 ar4 sl4 hd4 ct4 sp4 yw4 pl4 wd4 ot4 oc4 nn4 nc4 (sk_R_mono R4 (by omega)) (fun post h => ?_) (fun post h => ?_)
    · refine br_f hn ⟨13, x1 _ ?_ 13 (by omega)⟩
      refine ⟨13, x2 _ ?_ 13 (by omega)⟩
      refine ⟨13, x3 _ ?_ 13 (by omega)⟩
      exact x4 post h
    · refine ⟨13, y1 post (fun f => br_t (Int32.le_refl _) ⟨13, y2 post (fun f => br_t (Int32.le_refl _) (br_f f1 (And.intro f2 ?_))) 13 (by omega)⟩) 13 (by omega)⟩
      rw [f3]
      exact y4 post h
end S21
end
section
theorem sk_modd {t F d : Nat} (h : t % F + d < F) : (t + d) % F = t % F + d := by
  rw [← Nat.mod_add_mod]; exact Nat.mod_eq_of_lt h
section S22
variable {de sd wn nt sp : Int32} {fo fl la me se np ac ta rd rc op ag cl pr bu aa pc st pg dl wk us xw ws so ds kd pa lo ar sl hd ct yw pl wd ot oc nn nc : Nat → Int32} {P K t F o N B : Nat} {E : Nat → Prop} {M : Nat → Nat}
theorem sk_skip (hF0 : 0 < F) (hF : F ≤ 128) (hfo : ∀ i, i < F → ∃ w, w ≤ 4 ∧ fo i = nI w) (hfl : ∀ i, i < F → ∃ l, i ≤ l ∧ l < F ∧ fl i = nI l) (hla : ∀ i, i < F → (la i = 0 ↔ ¬ nI i = fl i)) (hfr : ∀ i l, i < F → l < F → fl i = nI l → ∀ j, i ≤ j → j ≤ l → fl j = nI l ∧ fo j = fo i) (R : sk_R P K sk_no sk_z B np nt me se rd rc pc st pg dl wk xw sl hd ct sp yw pl wd ot oc nn nc) (hP : P ≤ 3) (hK4 : K ≤ 4) {lim : Nat} (hlim : lim ≤ 16000) (htl : t < lim) :
    ∃ t', t ≤ t' ∧ t' ≤ lim ∧ (∀ s, t ≤ s → s < t' → nI s < nt ∧ la (s % F) = 0 ∧ (fo (s % F) = 4 ∨ ∃ w, w < 4 ∧ fo (s % F) = nI w ∧ ∀ x, x / 3 = w → st x ≠ 1)) ∧
    (∀ post : SX → Prop, post (nI P, de, nI K, sd, nI t', wn, nI F, nI (t' % F), nt, nI N, fo, fl, me, se, np, ac, ta, rd, rc, op, ag, cl, pr, bu, aa, pc, st, pg, dl, wk, us, xw, ws, so, ds, kd, pa, lo, ar, sl, hd, ct) → wpX_skipIdle post (nI P, de, nI K, sd, nI t, wn, nI F, nI (t % F), nt, nI N, fo, fl, me, se, np, ac, ta, rd, rc, op, ag, cl, pr, bu, aa, pc, st, pg, dl, wk, us, xw, ws, so, ds, kd, pa, lo, ar, sl, hd, ct) (nI lim)) := by
  have hm := Nat.mod_lt t hF0
  have io : vp_in (nI (t % F)) 128 := vp_in_nI (by omega) (by omega)
  have co : (nI (t % F)).toNatClampNeg = t % F := nI_clamp (by omega)
  obtain ⟨l, l1, l2, l3⟩ := hfl (t % F) hm
  obtain ⟨w, hw, ew⟩ := hfo (t % F) hm
  have ew' : fo (nI (t % F)).toNatClampNeg = nI w := by rw [co]; exact ew
  -- the jump, once the owner is known to be idle
  have jump : (fo (t % F) = 4 ∨ ∃ w, w < 4 ∧ fo (t % F) = nI w ∧ ∀ x, x / 3 = w → st x ≠ 1) → ∃ t', t ≤ t' ∧ t' ≤ lim ∧ (∀ s, t ≤ s → s < t' → nI s < nt ∧ la (s % F) = 0 ∧ (fo (s % F) = 4 ∨ ∃ w, w < 4 ∧ fo (s % F) = nI w ∧ ∀ x, x / 3 = w → st x ≠ 1)) ∧
      (∀ post : SX → Prop, post (nI P, de, nI K, sd, nI t', wn, nI F, nI (t' % F), nt, nI N, fo, fl, me, se, np, ac, ta, rd, rc, op, ag, cl, pr, bu, aa, pc, st, pg, dl, wk, us, xw, ws, so, ds, kd, pa, lo, ar, sl, hd, ct) → wX_skipIdle_25 post (nI lim) (nI P) de (nI K) sd (nI t) wn (nI F) (nI (t % F)) nt (nI N) fo fl me se np ac ta rd rc op ag cl pr bu aa pc st pg dl wk us xw ws so ds kd pa lo ar sl hd ct) := by
    intro hid
    have e3 : nI t + fl (nI (t % F)).toNatClampNeg - nI (t % F) = nI (t + l - t % F) := by rw [co, l3, nI_add, pk_sub (by omega)]
    have key : ∀ U : Int32, U ≤ nI (t + l - t % F) → U ≤ nt → U ≤ nI lim → ∃ t', t ≤ t' ∧ t' ≤ lim ∧ (∀ s, t ≤ s → s < t' → nI s < nt ∧ la (s % F) = 0 ∧ (fo (s % F) = 4 ∨ ∃ w, w < 4 ∧ fo (s % F) = nI w ∧ ∀ x, x / 3 = w → st x ≠ 1)) ∧
        (∀ post : SX → Prop, post (nI P, de, nI K, sd, nI t', wn, nI F, nI (t' % F), nt, nI N, fo, fl, me, se, np, ac, ta, rd, rc, op, ag, cl, pr, bu, aa, pc, st, pg, dl, wk, us, xw, ws, so, ds, kd, pa, lo, ar, sl, hd, ct) → wX_skipIdle_65 post U (nI P) de (nI K) sd (nI t) wn (nI F) (nI (t % F)) nt (nI N) fo fl me se np ac ta rd rc op ag cl pr bu aa pc st pg dl wk us xw ws so ds kd pa lo ar sl hd ct) := by
      intro U u1 u2 u3
      by_cases hU : U ≤ nI t
      · exact ⟨t, Nat.le_refl _, by omega, fun s h1 h2 => absurd h2 (by omega), fun post h => br_t hU h⟩
      · have hU0 : ¬ U < 0 := fun z => hU (Int32.le_trans (Int32.le_of_lt z) (nI_pos' (by omega)))
        obtain ⟨j, hj, rfl⟩ := nI_of hU0
        rw [nI_leI hj (by omega)] at hU u1 u3
        refine ⟨j, by omega, u3, fun s h1 h2 => ?_, fun post h => ?_⟩
        · have hs : s % F = t % F + (s - t) := by
            have := sk_modd (t := t) (F := F) (d := s - t) (by omega)
            rw [← this]; exact congrArg (· % F) (by omega)
          obtain ⟨f1, f2⟩ := hfr (t % F) l hm l2 l3 (s % F) (by omega) (by omega)
          refine ⟨Int32.lt_of_lt_of_le (nI_lt h2 hj) u2, (hla (s % F) (by omega)).2 ?_, ?_⟩
          · rw [f1]
            intro z
            have := (nI_eq (by omega) (by omega)).1 z
            omega
          · rw [f2]; exact hid
        · have hs : j % F = t % F + (j - t) := by
            have := sk_modd (t := t) (F := F) (d := j - t) (by omega)
            rw [← this]; exact congrArg (· % F) (by omega)
          rw [hs] at h
          have e4 : nI j - nI t = nI (j - t) := pk_sub (by omega)
          have e5 : nI t + nI (j - t) = nI j := by rw [nI_add]; exact congrArg nI (by omega)
          have e6 : nI (t % F) + nI (j - t) = nI (t % F + (j - t)) := nI_add _ _
          have e7 : nI (t % F + (j - t)) < nI F := nI_lt (by omega) (by omega)
          have e8 : ¬ nI j ≤ nI t := by rw [nI_leI hj (by omega)]; omega
          refine br_f e8 ?_
          simp only [wpX_advance, e4, e5, e6, e7, false_implies, true_implies, not_false_eq_true, not_true_eq_false, true_and, and_true, forall_eq, eq_self, Int32.reduceLT, Int32.reduceLE]
          exact h
    by_cases h1 : nI (t + l - t % F) ≤ nt
    · by_cases h2 : nI (t + l - t % F) ≤ nI lim
      · obtain ⟨t', a1, a2, a3, a4⟩ := key _ (Int32.le_refl _) h1 h2
        exact ⟨t', a1, a2, a3, fun post h => And.intro io (nm_r e3 (br_t h1 (br_t h2 (a4 post h))))⟩
      · obtain ⟨t', a1, a2, a3, a4⟩ := key (nI lim) (Int32.le_of_lt (Int32.not_le.mp h2)) (Int32.le_trans (Int32.le_of_lt (Int32.not_le.mp h2)) h1) (Int32.le_refl _)
        exact ⟨t', a1, a2, a3, fun post h => And.intro io (nm_r e3 (br_t h1 (br_f h2 (a4 post h))))⟩
    · by_cases h2 : nt ≤ nI lim
      · obtain ⟨t', a1, a2, a3, a4⟩ := key nt (Int32.le_of_lt (Int32.not_le.mp h1)) (Int32.le_refl _) h2
        exact ⟨t', a1, a2, a3, fun post h => And.intro io (nm_r e3 (br_f h1 (br_t h2 (a4 post h))))⟩
      · obtain ⟨t', a1, a2, a3, a4⟩ := key (nI lim) (Int32.le_trans (Int32.le_of_lt (Int32.not_le.mp h2)) (Int32.le_of_lt (Int32.not_le.mp h1))) (Int32.le_of_lt (Int32.not_le.mp h2)) (Int32.le_refl _)
        exact ⟨t', a1, a2, a3, fun post h => And.intro io (nm_r e3 (br_f h1 (br_f h2 (a4 post h))))⟩
  by_cases hw4 : w = 4
  · have w4 : nI w = 4 := by rw [hw4]; rfl
    obtain ⟨t', a1, a2, a3, a4⟩ := jump (Or.inl (by rw [ew, w4]))
    exact ⟨t', a1, a2, a3, fun post h => And.intro io (nm_r ew' (br_t w4 (a4 post h)))⟩
  · have w4 : ¬ nI w = 4 := fun z => hw4 ((nI_eq (b := 4) (by omega) (by decide)).1 z)
    have iw : vp_in (nI w) 4 := vp_in_nI (by omega) (by omega)
    have cw : (nI w).toNatClampNeg = w := nI_clamp (by omega)
    obtain ⟨L, m1, m2, m3, m4⟩ := R.1.2.2 w (by omega)
    have hl := sk_nd L (fun x hx => ((m3 x).1 hx).1) m4
    by_cases hL : L.length = 0
    · have r0 : rc (nI w).toNatClampNeg ≤ 0 := by rw [cw, m1, hL]; exact Int32.le_refl _
      have hLn : L = [] := List.length_eq_zero_iff.mp hL
      obtain ⟨t', a1, a2, a3, a4⟩ := jump (Or.inr ⟨w, by omega, ew, fun x hx hs => by
        have := (m3 x).2 ⟨hx, hs, fun z => z⟩
        rw [hLn] at this
        exact absurd this (by simp)⟩)
      exact ⟨t', a1, a2, a3, fun post h => And.intro io (nm_r ew' (br_f w4 (And.intro iw (br_t r0 (a4 post h)))))⟩
    · have r0 : ¬ rc (nI w).toNatClampNeg ≤ 0 := by rw [cw, m1]; exact nI_nle (by omega) (by omega)
      exact ⟨t, Nat.le_refl _, by omega, fun s h1 h2 => absurd h2 (by omega), fun post h => And.intro io (nm_r ew' (br_f w4 (And.intro iw (br_f r0 h))))⟩
theorem sk_yidle (hF0 : 0 < F) (hF : F ≤ 128) (R : sk_R P K sk_no sk_z B np nt me se rd rc pc st pg dl wk xw sl hd ct sp yw pl wd ot oc nn nc) (hP : P ≤ 3) (hK4 : K ≤ 4) (ht : t < 16000) (h1 : nI t < nt) (h2 : la (t % F) = 0) (h3 : fo (t % F) = 4 ∨ ∃ w, w < 4 ∧ fo (t % F) = nI w ∧ ∀ x, x / 3 = w → st x ≠ 1) (post : SY → Prop) (h : post (nI P, de, nI K, nI (t + 1), nI F, wn, nI N, sp, sd, fo, la, op, ag, cl, pr, bu, aa, pc, st, pg, us, dl, wk, yw, ws, pl, wd, ac, ta, so, ds, kd, pa, lo, ar, ot, oc, nn, nc)) : wpY_tick post (nI P, de, nI K, nI t, nI F, wn, nI N, sp, sd, fo, la, op, ag, cl, pr, bu, aa, pc, st, pg, us, dl, wk, yw, ws, pl, wd, ac, ta, so, ds, kd, pa, lo, ar, ot, oc, nn, nc) := by
  have hm := Nat.mod_lt t hF0
  have f1 : ¬ nI F ≤ 0 := nI_nle hF0 (by omega)
  have f2 : ¬ nI F = 0 := nI_ne0 hF0 (by omega)
  have f3 : nI t - nI t / nI F * nI F = nI (t % F) := pk_rem (by omega) hF0 (by omega)
  have io : vp_in (nI (t % F)) 128 := vp_in_nI (by omega) (by omega)
  have co : (nI (t % F)).toNatClampNeg = t % F := nI_clamp (by omega)
  refine ⟨13, sk_ywake0 (fun g hg hs z => ?_) post (fun f => br_t (Int32.le_refl _) ⟨13, sk_yfire0 (fun g hg z => ?_) post (fun f => br_t (Int32.le_refl _) (br_f f1 (And.intro f2 ?_))) 12 0 (by omega) 13 (by omega)⟩) 12 0 (by omega) 13 (by omega)⟩
  · have := (R.2.2.2.1 g hg).2 hs
    rw [z] at this
    exact absurd h1 (Int32.not_lt.mpr this)
  · have := (R.2.2.2.1 g hg).1 (by rw [z]; exact nI_pos' (by omega))
    rw [z] at this
    exact absurd h1 (Int32.not_lt.mpr this)
  · rw [f3]
    rcases h3 with h3 | ⟨w, hw, ew, hn⟩
    · exact And.intro io (nm_r (by rw [co]; exact h3) (br_t rfl (nm_r (nI_1 t) h)))
    · have w4 : ¬ nI w = 4 := fun z => by have := (nI_eq (b := 4) (by omega) (by decide)).1 z; omega
      rcases sk_pick (P := P) (de := de) (K := K) (sd := sd) (t := t) (wn := wn) (F := F) (o := 0) (nt := nt) (N := N) (fo := fo) (fl := fo) (me := me) (se := se) (np := np) (ac := ac) (ta := ta) (rd := rd) (rc := rc) (op := op) (ag := ag) (cl := cl) (pr := pr) (bu := bu) (aa := aa) (pc := pc) (st := st) (pg := pg) (dl := dl) (wk := wk) (us := us) (xw := xw) (ws := ws) (so := so) (ds := ds) (kd := kd) (pa := pa) (lo := lo) (ar := ar) (sl := sl) (hd := hd) (ct := ct) (sp := sp) (la := la) (yw := yw) (pl := pl) (wd := wd) (ot := ot) (oc := oc) (nn := nn) (nc := nc) (M := sk_z) (B := B) R hP hK4 hw with ⟨_, _, y1⟩ | ⟨g, g1, g2, g3, g4, x1, y1⟩
      · exact And.intro io (nm_r (by rw [co]; exact ew) (br_f w4 (y1 _ (br_t sk_m1lt (And.intro io (br_t (by rw [co]; exact h2) (nm_r (nI_1 t) h)))))))
      · exact absurd g3 (hn g g1)
theorem sk_yskip (hF0 : 0 < F) (hF : F ≤ 128) (R : sk_R P K sk_no sk_z B np nt me se rd rc pc st pg dl wk xw sl hd ct sp yw pl wd ot oc nn nc) (hP : P ≤ 3) (hK4 : K ≤ 4) {t' kk : Nat} (ht' : t' ≤ 16000) (hkk : kk ≤ 64) (hid : ∀ s, s < t' → t ≤ s → nI s < nt ∧ la (s % F) = 0 ∧ (fo (s % F) = 4 ∨ ∃ w, w < 4 ∧ fo (s % F) = nI w ∧ ∀ x, x / 3 = w → st x ≠ 1)) (post : Int32 → SY → Prop) :
    ∀ (d s j n : Nat), s + d = t' → t ≤ s → j + d ≤ kk → wY_run_20 post (nI kk) n (nI (j + d)) (nI P) de (nI K) (nI t') (nI F) wn (nI N) sp sd fo la op ag cl pr bu aa pc st pg us dl wk yw ws pl wd ac ta so ds kd pa lo ar ot oc nn nc → wY_run_20 post (nI kk) (n + d) (nI j) (nI P) de (nI K) (nI s) (nI F) wn (nI N) sp sd fo la op ag cl pr bu aa pc st pg us dl wk yw ws pl wd ac ta so ds kd pa lo ar ot oc nn nc := by
  intro d
  induction d with
  | zero =>
    intro s j n hs _ hj h
    have e : s = t' := by omega
    rw [e]
    exact h
  | succ d ih =>
    intro s j n hs hts hj h
    obtain ⟨i1, i2, i3⟩ := hid s (by omega) hts
    have hn := ih (s + 1) (j + 1) n (by omega) (by omega) (by omega) (by
      have e : j + 1 + d = j + (d + 1) := by omega
      rw [e]; exact h)
    refine br_f (nI_ge (by omega) (by omega)) (br_f (nI_ge (b := 16000) (by omega) (by decide)) ?_)
    refine sk_yidle (t := s) hF0 hF R hP hK4 (by omega) i1 i2 i3 _ ?_
    exact nm_r (nI_1 j) hn
end S22
end
section
section S23
variable {de sd wn : Int32} {fo fl la np ac op ag cl pr bu so ds kd pa : Nat → Int32} {P K t F o N : Nat} {E : Nat → Prop} {M : Nat → Nat}
theorem sk_runlp (hP : P ≤ 3) (hK : 0 < K) (hN : N ≤ 6) (hcl : ∀ g, g < 12 → ∃ n, n ≤ 16 ∧ cl g = nI n) (hbu : ∀ g, g < 12 → ∃ n, n < 100 ∧ bu g = nI n) (hK4 : K ≤ 4) (hop : ∀ i, i < 192 → ∃ q, q < 16 ∧ op i = nI q) (hds : ∀ c, c < N → ∃ d, d < 4 ∧ ds c = nI d) (hpa : ∀ c, c < N → ¬ kd c = 0 → ∃ m, m ≤ 4 ∧ pa c = nI m) (hF0 : 0 < F) (hF : F ≤ 128) (hfo : ∀ i, i < F → ∃ w, w ≤ 4 ∧ fo i = nI w) (hfl : ∀ i, i < F → ∃ l, i ≤ l ∧ l < F ∧ fl i = nI l) (hla : ∀ i, i < F → (la i = 0 ↔ ¬ nI i = fl i)) (hfr : ∀ i l, i < F → l < F → fl i = nI l → ∀ j, i ≤ j → j ≤ l → fl j = nI l ∧ fo j = fo i) {lim kk : Nat} (hlim : lim ≤ 16000) (hkk : kk ≤ 64) : ∀ (m d : Nat), d < m → ∀ (t B i j : Nat) (nt : Int32) (me se ta rd rc aa pc st pg dl wk us xw ws lo ar sl hd ct : Nat → Int32) (sp : Int32) (yw pl wd ot oc nn nc : Nat → Int32), t + d = lim → i + d ≤ 64 → j + d ≤ kk → (j + d = kk ∨ lim = 16000) → B + 75 * d < 2 ^ 30 → sk_R P K sk_no sk_z B np nt me se rd rc pc st pg dl wk xw sl hd ct sp yw pl wd ot oc nn nc → ∀ Q : Prop, (∀ (nt1 : Int32) (me1 se1 ta1 rd1 rc1 aa1 pc1 st1 pg1 dl1 wk1 us1 xw1 ws1 lo1 ar1 sl1 hd1 ct1 : Nat → Int32) (sp1 : Int32) (yw1 pl1 wd1 ot1 oc1 nn1 nc1 : Nat → Int32), sk_R P K sk_no sk_z (B + 75 * d) np nt1 me1 se1 rd1 rc1 pc1 st1 pg1 dl1 wk1 xw1 sl1 hd1 ct1 sp1 yw1 pl1 wd1 ot1 oc1 nn1 nc1 →
    (∀ post : Int32 → SX → Prop, post (nI lim) (nI P, de, nI K, sd, nI lim, wn, nI F, nI (lim % F), nt1, nI N, fo, fl, me1, se1, np, ac, ta1, rd1, rc1, op, ag, cl, pr, bu, aa1, pc1, st1, pg1, dl1, wk1, us1, xw1, ws1, so, ds, kd, pa, lo1, ar1, sl1, hd1, ct1) → ∀ n, d < n → wX_run_36 post (nI lim) n (nI i) (nI P) de (nI K) sd (nI t) wn (nI F) (nI (t % F)) nt (nI N) fo fl me se np ac ta rd rc op ag cl pr bu aa pc st pg dl wk us xw ws so ds kd pa lo ar sl hd ct) →
    (∀ post : Int32 → SY → Prop, post (nI lim) (nI P, de, nI K, nI lim, nI F, wn, nI N, sp1, sd, fo, la, op, ag, cl, pr, bu, aa1, pc1, st1, pg1, us1, dl1, wk1, yw1, ws1, pl1, wd1, ac, ta1, so, ds, kd, pa, lo1, ar1, ot1, oc1, nn1, nc1) → ∀ n, d < n → wY_run_20 post (nI kk) n (nI j) (nI P) de (nI K) (nI t) (nI F) wn (nI N) sp sd fo la op ag cl pr bu aa pc st pg us dl wk yw ws pl wd ac ta so ds kd pa lo ar ot oc nn nc) → Q) → Q := by
  intro m
  induction m with
  | zero => intro d hd; exact absurd hd (Nat.not_lt_zero _)
  | succ m ih =>
    intro d hdm t B i j nt me se ta rd rc aa pc st pg dl wk us xw ws lo ar sl hd ct sp yw pl wd ot oc nn nc ht hi hj hjk hB R Q k
    by_cases hd0 : d = 0
    · have e : t = lim := by omega
      rw [← e] at hlim ih k hjk
      have le : nI t ≤ nI t := Int32.le_refl _
      refine k nt me se ta rd rc aa pc st pg dl wk us xw ws lo ar sl hd ct sp yw pl wd ot oc nn nc (sk_R_mono R (by omega)) (fun post h n hn => ?_) (fun post h n hn => ?_)
      · cases n with
        | zero => exact absurd hn (Nat.not_lt_zero _)
        | succ n =>
          by_cases h64 : 64 ≤ i
          · exact br_t (nI_le (a := 64) h64 (by omega)) h
          · exact br_f (nI_ge (b := 64) (by omega) (by decide)) (br_t le h)
      · cases n with
        | zero => exact absurd hn (Nat.not_lt_zero _)
        | succ n =>
          by_cases hkj : kk ≤ j
          · exact br_t (nI_le hkj (by omega)) h
          · refine br_f (nI_ge (by omega) (by omega)) (br_t ?_ h)
            exact nI_le (a := 16000) (by omega) (by omega)
    · obtain ⟨t', a1, a2, a3, a4⟩ := sk_skip (P := P) (de := de) (K := K) (sd := sd) (t := t) (wn := wn) (F := F) (nt := nt) (N := N) (fo := fo) (fl := fl) (me := me) (se := se) (np := np) (ac := ac) (ta := ta) (rd := rd) (rc := rc) (op := op) (ag := ag) (cl := cl) (pr := pr) (bu := bu) (aa := aa) (pc := pc) (st := st) (pg := pg) (dl := dl) (wk := wk) (us := us) (xw := xw) (ws := ws) (so := so) (ds := ds) (kd := kd) (pa := pa) (lo := lo) (ar := ar) (sl := sl) (hd := hd) (ct := ct) (sp := sp) (la := la) (yw := yw) (pl := pl) (wd := wd) (ot := ot) (oc := oc) (nn := nn) (nc := nc) (B := B) hF0 hF hfo hfl hla hfr R hP hK4 hlim (show t < lim by omega)
      by_cases htl : t' = lim
      · rw [htl] at a3 a4
        refine k nt me se ta rd rc aa pc st pg dl wk us xw ws lo ar sl hd ct sp yw pl wd ot oc nn nc (sk_R_mono R (by omega)) (fun post h n hn => ?_) (fun post h n hn => ?_)
        · have xe : ∀ n, 0 < n → wX_run_36 post (nI lim) n (nI (i + 1)) (nI P) de (nI K) sd (nI lim) wn (nI F) (nI (lim % F)) nt (nI N) fo fl me se np ac ta rd rc op ag cl pr bu aa pc st pg dl wk us xw ws so ds kd pa lo ar sl hd ct := by
            intro n hn
            cases n with
            | zero => exact absurd hn (Nat.lt_irrefl _)
            | succ n =>
              by_cases h64 : 64 ≤ i + 1
              · exact br_t (nI_le (a := 64) h64 (by omega)) h
              · exact br_f (nI_ge (b := 64) (by omega) (by decide)) (br_t (Int32.le_refl _) h)
          cases n with
          | zero => exact absurd hn (Nat.not_lt_zero _)
          | succ n =>
            refine br_f (nI_ge (b := 64) (by omega) (by decide)) (br_f (nI_ge (by omega) (by omega)) (a4 _ ?_))
            exact br_t (Int32.le_refl _) (nm_r (nI_1 i) (xe n (by omega)))
        · have ye : ∀ n, 0 < n → wY_run_20 post (nI kk) n (nI (j + d)) (nI P) de (nI K) (nI lim) (nI F) wn (nI N) sp sd fo la op ag cl pr bu aa pc st pg us dl wk yw ws pl wd ac ta so ds kd pa lo ar ot oc nn nc := by
            intro n hn
            cases n with
            | zero => exact absurd hn (Nat.lt_irrefl _)
            | succ n =>
              by_cases hkj : kk ≤ j + d
              · exact br_t (nI_le hkj (by omega)) h
              · refine br_f (nI_ge (by omega) (by omega)) (br_t ?_ h)
                exact nI_le (a := 16000) (by omega) (by omega)
          have en : n = (n - d) + d := by omega
          rw [en]
          exact sk_yskip hF0 hF R hP hK4 hlim hkk (fun s h1 h2 => a3 s h2 h1) post d t j (n - d) (by omega) (Nat.le_refl _) hj (ye _ (by omega))
      · refine sk_tick (P := P) (de := de) (K := K) (sd := sd) (t := t') (wn := wn) (F := F) (o := t' % F) (nt := nt) (N := N) (fo := fo) (fl := fl) (me := me) (se := se) (np := np) (ac := ac) (ta := ta) (rd := rd) (rc := rc) (op := op) (ag := ag) (cl := cl) (pr := pr) (bu := bu) (aa := aa) (pc := pc) (st := st) (pg := pg) (dl := dl) (wk := wk) (us := us) (xw := xw) (ws := ws) (so := so) (ds := ds) (kd := kd) (pa := pa) (lo := lo) (ar := ar) (sl := sl) (hd := hd) (ct := ct) (sp := sp) (la := la) (yw := yw) (pl := pl) (wd := wd) (ot := ot) (oc := oc) (nn := nn) (nc := nc) (B := B) hP hK hN hcl hbu hK4 hop hds hpa hF0 hF (by omega) rfl hfo hfl hla R (by omega) Q ?_
        intro nt1 me1 se1 ta1 rd1 rc1 aa1 pc1 st1 pg1 dl1 wk1 us1 xw1 ws1 lo1 ar1 sl1 hd1 ct1 sp1 yw1 pl1 wd1 ot1 oc1 nn1 nc1 R1 x1 y1
        refine ih (lim - (t' + 1)) (by omega) (t' + 1) (B + 75) (i + 1) (j + (t' - t) + 1) nt1 me1 se1 ta1 rd1 rc1 aa1 pc1 st1 pg1 dl1 wk1 us1 xw1 ws1 lo1 ar1 sl1 hd1 ct1 sp1 yw1 pl1 wd1 ot1 oc1 nn1 nc1 (by omega) (by omega) (by omega) (by omega) (by omega) R1 Q ?_
        intro nt2 me2 se2 ta2 rd2 rc2 aa2 pc2 st2 pg2 dl2 wk2 us2 xw2 ws2 lo2 ar2 sl2 hd2 ct2 sp2 yw2 pl2 wd2 ot2 oc2 nn2 nc2 R2 x2 y2
        refine k nt2 me2 se2 ta2 rd2 rc2 aa2 pc2 st2 pg2 dl2 wk2 us2 xw2 ws2 lo2 ar2 sl2 hd2 ct2 sp2 yw2 pl2 wd2 ot2 oc2 nn2 nc2 (sk_R_mono R2 (by omega)) (fun post h n hn => ?_) (fun post h n hn => ?_)
        · cases n with
          | zero => exact absurd hn (Nat.not_lt_zero _)
          | succ n =>
            refine br_f (nI_ge (b := 64) (by omega) (by decide)) (br_f (nI_ge (by omega) (by omega)) (a4 _ ?_))
            refine br_f (nI_ge (by omega) (by omega)) (x1 _ ?_)
            exact nm_r (nI_1 i) (x2 post h n (by omega))
        · have en : n = (n - (t' - t) - 1 + 1) + (t' - t) := by omega
          rw [en]
          refine sk_yskip hF0 hF R hP hK4 (show t' ≤ 16000 by omega) hkk (fun s h1 h2 => a3 s h2 h1) post (t' - t) t j (n - (t' - t) - 1 + 1) (by omega) (Nat.le_refl _) (by omega) ?_
          refine br_f (nI_ge (by omega) (by omega)) (br_f (nI_ge (b := 16000) (by omega) (by decide)) (y1 _ ?_))
          exact nm_r (nI_1 (j + (t' - t))) (y2 post h _ (by omega))
end S23
end
section
def sk_C (P : Nat) (de : Int32) (K : Nat) (sd : Int32) (t : Nat) (wn : Int32) (F o N B : Nat) (fo fl la cl op bu ds kd pa : Nat → Int32) : Prop :=
  1 ≤ P ∧ P ≤ 3 ∧ (∃ D, 1 ≤ D ∧ D ≤ 4 ∧ de = nI D) ∧ 0 < K ∧ K ≤ 4 ∧ N ≤ 6 ∧ (∃ W, W ≤ 8 ∧ wn = nI W ∧ F ≤ 16 * W ∧ W ≤ F) ∧ t ≤ 16000 ∧ o = t % F ∧ ((sd = 0 ∧ t = 0 ∧ B = 0) ∨ (sd = 1 ∧ 0 < F ∧ B = 100 * t + 12)) ∧
  (∀ g, g < 12 → ∃ n, n ≤ 16 ∧ cl g = nI n) ∧ (∀ i, i < 192 → ∃ q, q < 16 ∧ op i = nI q) ∧ (∀ g, g < 12 → ∃ n, n < 100 ∧ bu g = nI n) ∧ (∀ c, c < N → ∃ d, d < 4 ∧ ds c = nI d) ∧ (∀ c, c < N → ¬ kd c = 0 → ∃ m, m ≤ 4 ∧ pa c = nI m) ∧
  (∀ i, i < F → ∃ w, w ≤ 4 ∧ fo i = nI w) ∧ (∀ i, i < F → ∃ l, i ≤ l ∧ l < F ∧ fl i = nI l) ∧ (∀ i, i < F → (la i = 0 ↔ ¬ nI i = fl i)) ∧ (∀ i l, i < F → l < F → fl i = nI l → ∀ j, i ≤ j → j ≤ l → fl j = nI l ∧ fo j = fo i) ∧ (∀ i, F ≤ i → la i = 0)
/-- the two kernels: one set of names for what both keep alike, sk_C for the set-up, sk_R for the running state; as the least relation that holds such pairs -/
def i_Rel (k : Nat) (u : SX) (v : SY) : Prop := ∀ Pr : SX → SY → Prop, (∀ (P K t F o N B : Nat) (de sd wn : Int32) (fo fl la np ac op ag cl pr bu so ds kd pa : Nat → Int32) (nt : Int32) (me se ta rd rc aa pc st pg dl wk us xw ws lo ar sl hd ct : Nat → Int32) (sp : Int32) (yw pl wd ot oc nn nc : Nat → Int32), sk_C P de K sd t wn F o N B fo fl la cl op bu ds kd pa → sk_R P K sk_no sk_z B np nt me se rd rc pc st pg dl wk xw sl hd ct sp yw pl wd ot oc nn nc → Pr (nI P, de, nI K, sd, nI t, wn, nI F, nI o, nt, nI N, fo, fl, me, se, np, ac, ta, rd, rc, op, ag, cl, pr, bu, aa, pc, st, pg, dl, wk, us, xw, ws, so, ds, kd, pa, lo, ar, sl, hd, ct) (nI P, de, nI K, nI t, nI F, wn, nI N, sp, sd, fo, la, op, ag, cl, pr, bu, aa, pc, st, pg, us, dl, wk, yw, ws, pl, wd, ac, ta, so, ds, kd, pa, lo, ar, ot, oc, nn, nc)) → Pr u v
theorem i_up {k : Nat} {u : SX} {v : SY} (h : i_Rel k u v) : i_Rel (k + 5) u v := h
section S24
variable {de sd wn nt sp : Int32} {fo fl la me se np ac ta rd rc op ag cl pr bu aa pc st pg dl wk us xw ws so ds kd pa lo ar sl hd ct yw pl wd ot oc nn nc : Nat → Int32} {P K t F o N B : Nat} {E : Nat → Prop} {M : Nat → Nat}
theorem sk_mk {k : Nat} (hC : sk_C P de K sd t wn F o N B fo fl la cl op bu ds kd pa) (R : sk_R P K sk_no sk_z B np nt me se rd rc pc st pg dl wk xw sl hd ct sp yw pl wd ot oc nn nc) : i_Rel k (nI P, de, nI K, sd, nI t, wn, nI F, nI o, nt, nI N, fo, fl, me, se, np, ac, ta, rd, rc, op, ag, cl, pr, bu, aa, pc, st, pg, dl, wk, us, xw, ws, so, ds, kd, pa, lo, ar, sl, hd, ct) (nI P, de, nI K, nI t, nI F, wn, nI N, sp, sd, fo, la, op, ag, cl, pr, bu, aa, pc, st, pg, us, dl, wk, yw, ws, pl, wd, ac, ta, so, ds, kd, pa, lo, ar, ot, oc, nn, nc) := fun Pr h => h P K t F o N B de sd wn fo fl la np ac op ag cl pr bu so ds kd pa nt me se ta rd rc aa pc st pg dl wk us xw ws lo ar sl hd ct sp yw pl wd ot oc nn nc hC R
theorem sk_int {x : Int32} {l h : Nat} (hl : nI l ≤ x) (hh : x ≤ nI h) (h31 : h < 2 ^ 31) (hl31 : l < 2 ^ 31) : ∃ n, l ≤ n ∧ n ≤ h ∧ x = nI n := by
  have h0 : ¬ x < 0 := Int32.not_lt.mpr (Int32.le_trans (nI_pos' hl31) hl)
  obtain ⟨j, hj, rfl⟩ := nI_of h0
  rw [nI_leI hl31 hj] at hl
  rw [nI_leI hj h31] at hh
  exact ⟨j, hl, hh, rfl⟩
theorem sk_initlp : ∀ (d i : Nat) (dl xw : Nat → Int32), i + d = 12 → (∀ j, j < i → dl j = -1 ∧ xw j = -1) → ∃ dl' xw' : Nat → Int32, (∀ j, j < 12 → dl' j = -1 ∧ xw' j = -1) ∧
    (∀ post : SX → Prop, post (nI P, de, nI K, sd, nI t, wn, nI F, nI o, nt, nI N, fo, fl, me, se, np, ac, ta, rd, rc, op, ag, cl, pr, bu, aa, pc, st, pg, dl', wk, us, xw', ws, so, ds, kd, pa, lo, ar, sl, hd, ct) → ∀ n, d < n → wX_init_305 post (nI P) de (nI K) sd (nI t) wn (nI F) (nI o) nt (nI N) n (nI i) fo fl me se np ac ta rd rc op ag cl pr bu aa pc st pg dl wk us xw ws so ds kd pa lo ar sl hd ct) ∧
    (∀ post : SY → Prop, post (nI P, de, nI K, nI t, nI F, wn, nI N, sp, sd, fo, la, op, ag, cl, pr, bu, aa, pc, st, pg, us, dl', wk, yw, ws, pl, wd, ac, ta, so, ds, kd, pa, lo, ar, ot, oc, nn, nc) → ∀ n, d < n → wY_init_284 post (nI P) de (nI K) (nI t) (nI F) wn (nI N) sp sd n (nI i) fo la op ag cl pr bu aa pc st pg us dl wk yw ws pl wd ac ta so ds kd pa lo ar ot oc nn nc) := by
  intro d
  induction d with
  | zero =>
    intro i dl xw hi h
    have e : i = 12 := by omega
    refine ⟨dl, xw, fun j hj => h j (by omega), fun post hp n hn => ?_, fun post hp n hn => ?_⟩
    · cases n with
      | zero => exact absurd hn (Nat.lt_irrefl _)
      | succ n => rw [e]; exact br_t (Int32.le_refl _) hp
    · cases n with
      | zero => exact absurd hn (Nat.lt_irrefl _)
      | succ n => rw [e]; exact br_t (Int32.le_refl _) hp
  | succ d ih =>
    intro i dl xw hi h
    have nle : ¬ (12 : Int32) ≤ nI i := nI_ge (b := 12) (by omega) (by decide)
    have i12 : vp_in (nI i) 12 := vp_in_nI (by omega) (by omega)
    have cg : (nI i).toNatClampNeg = i := nI_clamp (by omega)
    obtain ⟨dl', xw', a1, a2, a3⟩ := ih (i + 1) (upd dl i (-1)) (upd xw i (-1)) (by omega) (fun j hj => by
      by_cases e : j = i
      · rw [e, pk_us, pk_us]; exact ⟨rfl, rfl⟩
      · rw [pk_un e, pk_un e]; exact h j (by omega))
    refine ⟨dl', xw', a1, fun post hp n hn => ?_, fun post hp n hn => ?_⟩
    · cases n with
      | zero => exact absurd hn (Nat.not_lt_zero _)
      | succ n => exact br_f nle (And.intro i12 (nm_r (by rw [cg]) (And.intro i12 (nm_r (by rw [cg]) (nm_r (nI_1 i) (a2 post hp n (by omega)))))))
    · cases n with
      | zero => exact absurd hn (Nat.not_lt_zero _)
      | succ n => exact br_f nle (And.intro i12 (nm_r (by rw [cg]) (nm_r (nI_1 i) (a3 post hp n (by omega)))))
end S24
theorem sk_R0 {P K : Nat} (hK : 0 < K) {dl xw : Nat → Int32} (h : ∀ j, j < 12 → dl j = -1 ∧ xw j = -1) : sk_R P K sk_no sk_z 0 (fun _ => 0) 16000 (fun _ => 0) (fun _ => 0) (fun _ => 0) (fun _ => 0) (fun _ => 0) (fun _ => 0) (fun _ => 0) dl (fun _ => 0) xw (fun _ => 0) (fun _ => 0) (fun _ => 0) 0 (fun _ => 0) (fun _ => 0) (fun _ => 0) (fun _ => 0) (fun _ => 0) (fun _ => 0) (fun _ => 0) := by
  have n01 : ¬ (0 : Int32) = 1 := by decide
  have n02 : ¬ (0 : Int32) = 2 := by decide
  have n34 : ¬ ((0 : Int32) = 3 ∨ (0 : Int32) = 4) := by decide
  refine ⟨⟨⟨by decide, by decide⟩, fun g _ hs => absurd hs n01, fun p hp => ⟨[], rfl, fun j x hj => by simp at hj, fun g => ?_, List.Pairwise.nil⟩⟩, fun g hg => ⟨fun z => absurd z n34, fun _ => (h g hg).2⟩, ⟨fun g _ => ⟨0, hK, rfl, fun z => absurd z (by decide)⟩, fun g h _ _ _ z => absurd rfl z⟩,
    fun g hg => ⟨fun z => by rw [(h g hg).1] at z; exact absurd z (by decide), fun z => absurd z n02⟩, fun g hg _ => ⟨rfl, (h g hg).1⟩, fun g _ => ⟨0, by omega, rfl⟩, fun p _ => ⟨fun _ _ => rfl, fun _ _ => rfl, rfl⟩,
    fun c _ => ⟨⟨0, 0, by omega, by omega, Nat.le_refl _, rfl, rfl, rfl, fun i _ hi => absurd hi (by omega)⟩, ⟨0, 0, by omega, by omega, Nat.le_refl _, rfl, rfl, rfl, fun i _ hi => absurd hi (by omega)⟩⟩⟩
  constructor
  · intro z; exact absurd z (by simp)
  · intro z; exact absurd z.2.1 n01
theorem i_vc0 (k0 : Int32) (k1 : Int32) (k2 : Int32) : wpX_init (fun u => wpY_init (fun v => i_Rel 3 u v) k0 k1 k2) k0 k1 k2 := by
  obtain ⟨r0, a0, b0, x0, y0⟩ := sk_clamp k0 1 3 (by decide)
  obtain ⟨r1, a1, b1, x1, y1⟩ := sk_clamp k1 1 4 (by decide)
  obtain ⟨r2, a2, b2, x2, y2⟩ := sk_clamp k2 1 4 (by decide)
  obtain ⟨P, p1, p2, rfl⟩ := sk_int (l := 1) (h := 3) a0 b0 (by decide) (by decide)
  obtain ⟨D, d1, d2, rfl⟩ := sk_int (l := 1) (h := 4) a1 b1 (by decide) (by decide)
  obtain ⟨K, c1, c2, rfl⟩ := sk_int (l := 1) (h := 4) a2 b2 (by decide) (by decide)
  obtain ⟨dl, xw, h, hX, hY⟩ := sk_initlp (P := P) (de := nI D) (K := K) (sd := 0) (t := 0) (wn := 0) (F := 0) (o := 0) (nt := 16000) (N := 0) (sp := 0) (fo := fun _ => 0) (fl := fun _ => 0) (me := fun _ => 0) (se := fun _ => 0) (np := fun _ => 0) (ac := fun _ => 0) (ta := fun _ => 0) (rd := fun _ => 0) (rc := fun _ => 0) (op := fun _ => 0) (ag := fun _ => 0) (cl := fun _ => 0) (pr := fun _ => 0) (bu := fun _ => 0) (aa := fun _ => 0) (pc := fun _ => 0) (st := fun _ => 0) (pg := fun _ => 0) (wk := fun _ => 0) (us := fun _ => 0) (ws := fun _ => 0) (so := fun _ => 0) (ds := fun _ => 0) (kd := fun _ => 0) (pa := fun _ => 0) (lo := fun _ => 0) (ar := fun _ => 0) (sl := fun _ => 0) (hd := fun _ => 0) (ct := fun _ => 0) (la := fun _ => 0) (yw := fun _ => 0) (pl := fun _ => 0) (wd := fun _ => 0) (ot := fun _ => 0) (oc := fun _ => 0) (nn := fun _ => 0) (nc := fun _ => 0) 12 0 (fun _ => 0) (fun _ => 0) (by omega) (fun j hj => absurd hj (by omega))
  refine x0 _ _ (x1 _ _ (x2 _ _ ⟨13, hX _ ?_ 13 (by omega)⟩))
  refine y0 _ _ (y1 _ _ (y2 _ _ ⟨13, hY _ ?_ 13 (by omega)⟩))
  refine sk_mk (B := 0) ?_ (sk_R0 (by omega) h)
  exact ⟨p1, p2, ⟨D, d1, d2, rfl⟩, by omega, c2, by omega, ⟨0, by omega, rfl, by omega, by omega⟩, by omega, rfl, Or.inl ⟨rfl, rfl, rfl⟩, fun g _ => ⟨0, by omega, rfl⟩, fun i _ => ⟨0, by omega, rfl⟩, fun g _ => ⟨0, by omega, rfl⟩,
    fun c hc => absurd hc (by omega), fun c hc => absurd hc (by omega), fun i hi => absurd hi (by omega), fun i hi => absurd hi (by omega), fun i hi => absurd hi (by omega), fun i l hi => absurd hi (by omega), fun i _ => rfl⟩
end
section
section S25
variable {de sd wn nt sp : Int32} {fo fl la me se np ac ta rd rc op ag cl pr bu aa pc st pg dl wk us xw ws so ds kd pa lo ar sl hd ct yw pl wd ot oc nn nc : Nat → Int32} {P K t F o N B : Nat} {E : Nat → Prop} {M : Nat → Nat}
theorem sk_par (v : Int32) : (v < 0) ∨ (¬ v < 0 ∧ 3 < v ∧ ¬ v ≤ 3 ∧ 4 ≤ v) ∨ ∃ a, a < 4 ∧ v = nI a ∧ ¬ v < 0 ∧ ¬ 3 < v ∧ v ≤ 3 ∧ ¬ 4 ≤ v := by
  rcases pk_ix v (n := 4) (by decide) with z | z | ⟨j, hj, e⟩
  · exact Or.inl z
  · have z' : (4 : Int32) ≤ v := z
    have l3 : (3 : Int32) < v := Int32.lt_of_lt_of_le (by decide) z'
    have l0 : ¬ v < 0 := Int32.not_lt.mpr (Int32.le_trans (by decide) z')
    exact Or.inr (Or.inl ⟨l0, l3, Int32.not_le.mpr l3, z'⟩)
  · rw [e]
    exact Or.inr (Or.inr ⟨j, hj, rfl, nI_pos (by omega), nI_nlt (a := 3) (by omega) (by omega), nI_le (b := 3) (by omega) (by decide), nI_ge (b := 4) hj (by decide)⟩)
theorem sk_isp (hP : P ≤ 3) (v1 v2 : Int32) : ((∀ post : Int32 → Prop, post 0 → wpX_isProcess post (nI P, de, nI K, sd, nI t, wn, nI F, nI o, nt, nI N, fo, fl, me, se, np, ac, ta, rd, rc, op, ag, cl, pr, bu, aa, pc, st, pg, dl, wk, us, xw, ws, so, ds, kd, pa, lo, ar, sl, hd, ct) v1 v2) ∧ (∀ post : Int32 → Prop, post 1 → wpY_bad post (nI P, de, nI K, nI t, nI F, wn, nI N, sp, sd, fo, la, op, ag, cl, pr, bu, aa, pc, st, pg, us, dl, wk, yw, ws, pl, wd, ac, ta, so, ds, kd, pa, lo, ar, ot, oc, nn, nc) v1 v2)) ∨
    ∃ a b, a < 4 ∧ b < P ∧ v1 = nI a ∧ v2 = nI b ∧ (∀ post : Int32 → Prop, post 1 → wpX_isProcess post (nI P, de, nI K, sd, nI t, wn, nI F, nI o, nt, nI N, fo, fl, me, se, np, ac, ta, rd, rc, op, ag, cl, pr, bu, aa, pc, st, pg, dl, wk, us, xw, ws, so, ds, kd, pa, lo, ar, sl, hd, ct) v1 v2) ∧ (∀ post : Int32 → Prop, post 0 → wpY_bad post (nI P, de, nI K, nI t, nI F, wn, nI N, sp, sd, fo, la, op, ag, cl, pr, bu, aa, pc, st, pg, us, dl, wk, yw, ws, pl, wd, ac, ta, so, ds, kd, pa, lo, ar, ot, oc, nn, nc) v1 v2) := by
  rcases sk_par v1 with z | ⟨z, z3, _, z4⟩ | ⟨a, ha, e, z, z3, _, z4⟩
  · exact Or.inl ⟨fun post h => br_t z h, fun post h => br_t z h⟩
  · exact Or.inl ⟨fun post h => br_f z (br_t z4 h), fun post h => br_f z (br_t z3 h)⟩
  · rcases pk_ix v2 (n := P) (by omega) with w | w | ⟨b, hb, e2⟩
    · exact Or.inl ⟨fun post h => br_f z (br_f z4 (br_t w h)), fun post h => br_f z (br_f z3 (br_t w h))⟩
    · have w0 : ¬ v2 < 0 := Int32.not_lt.mpr (Int32.le_trans (nI_pos' (by omega)) w)
      exact Or.inl ⟨fun post h => br_f z (br_f z4 (br_f w0 (br_t w h))), fun post h => br_f z (br_f z3 (br_f w0 (br_f (Int32.not_lt.mpr w) h)))⟩
    · have w0 : ¬ v2 < 0 := by rw [e2]; exact nI_pos (by omega)
      have w1 : ¬ nI P ≤ v2 := by rw [e2]; exact nI_ge hb (by omega)
      have w2 : v2 < nI P := by rw [e2]; exact nI_lt hb (by omega)
      exact Or.inr ⟨a, b, ha, hb, e, e2, fun post h => br_f z (br_f z4 (br_f w0 (br_f w1 h))), fun post h => br_f z (br_f z3 (br_f w0 (br_t w2 h)))⟩
end S25
theorem i_vc_process {k : Nat} {u : SX} {v : SY} (I : i_Rel k u v) (hk : k + 5 ≤ 2563) (v1 : Int32) (v2 : Int32) (v3 : Int32) (v4 : Int32) : wpX_process (fun r u' => wpY_process (fun r' v' => r' = r ∧ i_Rel (k + 5) u' v') v v1 v2 v3 v4) u v1 v2 v3 v4 := by
  refine I (fun u v => wpX_process (fun r u' => wpY_process (fun r' v' => r' = r ∧ i_Rel (k + 5) u' v') v v1 v2 v3 v4) u v1 v2 v3 v4) ?_
  intro P K t F o N B de sd wn fo fl la np ac op ag cl pr bu so ds kd pa nt me se ta rd rc aa pc st pg dl wk us xw ws lo ar sl hd ct sp yw pl wd ot oc nn nc hC R
  have J : i_Rel (k + 5) (nI P, de, nI K, sd, nI t, wn, nI F, nI o, nt, nI N, fo, fl, me, se, np, ac, ta, rd, rc, op, ag, cl, pr, bu, aa, pc, st, pg, dl, wk, us, xw, ws, so, ds, kd, pa, lo, ar, sl, hd, ct) (nI P, de, nI K, nI t, nI F, wn, nI N, sp, sd, fo, la, op, ag, cl, pr, bu, aa, pc, st, pg, us, dl, wk, yw, ws, pl, wd, ac, ta, so, ds, kd, pa, lo, ar, ot, oc, nn, nc) := sk_mk hC R
  obtain ⟨hP1, hP, hD, hK, hK4, hN, hW, ht, ho, hsd, hcl, hop, hbu, hds, hpa, hfo, hfl, hla, hfr, hlz⟩ := hC
  by_cases hs : sd = 0
  · rcases sk_isp (P := P) (de := de) (K := K) (sd := sd) (t := t) (wn := wn) (F := F) (o := o) (nt := nt) (N := N) (fo := fo) (fl := fl) (me := me) (se := se) (np := np) (ac := ac) (ta := ta) (rd := rd) (rc := rc) (op := op) (ag := ag) (cl := cl) (pr := pr) (bu := bu) (aa := aa) (pc := pc) (st := st) (pg := pg) (dl := dl) (wk := wk) (us := us) (xw := xw) (ws := ws) (so := so) (ds := ds) (kd := kd) (pa := pa) (lo := lo) (ar := ar) (sl := sl) (hd := hd) (ct := ct) (sp := sp) (la := la) (yw := yw) (pl := pl) (wd := wd) (ot := ot) (oc := oc) (nn := nn) (nc := nc) hP v1 v2 with ⟨x1, y1⟩ | ⟨a, b, ha, hb, rfl, rfl, x1, y1⟩
    · refine br_t hs (x1 _ (br_t rfl (br_t hs (y1 _ (br_f (by decide) ⟨rfl, J⟩)))))
    · by_cases h1 : v3 < 0
      · exact br_t hs (x1 _ (br_f (by decide) (br_t h1 (br_t hs (y1 _ (br_t rfl (br_t h1 ⟨rfl, J⟩)))))))
      by_cases h2 : 3 < v3
      · exact br_t hs (x1 _ (br_f (by decide) (br_f h1 (br_t h2 (br_t hs (y1 _ (br_t rfl (br_f h1 (br_t h2 ⟨rfl, J⟩)))))))))
      by_cases h3 : v4 < 0
      · exact br_t hs (x1 _ (br_f (by decide) (br_f h1 (br_f h2 (br_t h3 (br_t hs (y1 _ (br_t rfl (br_f h1 (br_f h2 (br_t h3 ⟨rfl, J⟩)))))))))))
      by_cases h4 : v4 ≤ 99
      · have iX : vp_in (nI a * 3 + nI b) 12 := by rw [sk_m3, nI_add]; exact vp_in_nI (by omega) (by omega)
        have cX : (nI a * 3 + nI b).toNatClampNeg = a * 3 + b := by rw [sk_m3, nI_add]; exact nI_clamp (by omega)
        have iY : vp_in (3 * nI a + nI b) 12 := by rw [sk_3m, nI_add]; exact vp_in_nI (by omega) (by omega)
        have cY : (3 * nI a + nI b).toNatClampNeg = a * 3 + b := by rw [sk_3m, nI_add]; exact nI_clamp (by omega)
        obtain ⟨n, hn, rfl⟩ := nI_of2 (n := 99) (by decide) h3 h4
        refine br_t hs (x1 _ (br_f (by decide) (br_f h1 (br_f h2 (br_f h3 (br_t h4 (And.intro iX (nm_r (e' := upd pr (a * 3 + b) v3) (by rw [cX]) (And.intro iX (nm_r (e' := upd bu (a * 3 + b) (nI n)) (by rw [cX]) ?_)))))))))) 
        refine br_t hs (y1 _ (br_t rfl (br_f h1 (br_f h2 (br_f h3 (br_t h4 (And.intro iY (nm_r (e' := upd pr (a * 3 + b) v3) (by rw [cY]) (And.intro iY (nm_r (e' := upd bu (a * 3 + b) (nI n)) (by rw [cY]) ⟨rfl, ?_⟩)))))))))) 
        refine sk_mk (B := B) ⟨hP1, hP, hD, hK, hK4, hN, hW, ht, ho, hsd, hcl, hop, fun g hg => ?_, hds, hpa, hfo, hfl, hla, hfr, hlz⟩ R
        by_cases e : g = a * 3 + b
        · exact ⟨n, by omega, by rw [e, pk_us]⟩
        · rw [pk_un e]; exact hbu g hg
      · exact br_t hs (x1 _ (br_f (by decide) (br_f h1 (br_f h2 (br_f h3 (br_f h4 (br_t hs (y1 _ (br_t rfl (br_f h1 (br_f h2 (br_f h3 (br_f h4 ⟨rfl, J⟩)))))))))))))
  · exact br_f hs (br_f hs ⟨rfl, J⟩)
theorem i_vc_emit {k : Nat} {u : SX} {v : SY} (I : i_Rel k u v) (hk : k + 5 ≤ 2563) (v1 : Int32) (v2 : Int32) (v3 : Int32) (v4 : Int32) : wpX_emit (fun r u' => wpY_emit (fun r' v' => r' = r ∧ i_Rel (k + 5) u' v') v v1 v2 v3 v4) u v1 v2 v3 v4 := by
  refine I (fun u v => wpX_emit (fun r u' => wpY_emit (fun r' v' => r' = r ∧ i_Rel (k + 5) u' v') v v1 v2 v3 v4) u v1 v2 v3 v4) ?_
  intro P K t F o N B de sd wn fo fl la np ac op ag cl pr bu so ds kd pa nt me se ta rd rc aa pc st pg dl wk us xw ws lo ar sl hd ct sp yw pl wd ot oc nn nc hC R
  have J : i_Rel (k + 5) (nI P, de, nI K, sd, nI t, wn, nI F, nI o, nt, nI N, fo, fl, me, se, np, ac, ta, rd, rc, op, ag, cl, pr, bu, aa, pc, st, pg, dl, wk, us, xw, ws, so, ds, kd, pa, lo, ar, sl, hd, ct) (nI P, de, nI K, nI t, nI F, wn, nI N, sp, sd, fo, la, op, ag, cl, pr, bu, aa, pc, st, pg, us, dl, wk, yw, ws, pl, wd, ac, ta, so, ds, kd, pa, lo, ar, ot, oc, nn, nc) := sk_mk hC R
  obtain ⟨hP1, hP, hD, hK, hK4, hN, hW, ht, ho, hsd, hcl, hop, hbu, hds, hpa, hfo, hfl, hla, hfr, hlz⟩ := hC
  by_cases hs : sd = 0
  · rcases sk_isp (P := P) (de := de) (K := K) (sd := sd) (t := t) (wn := wn) (F := F) (o := o) (nt := nt) (N := N) (fo := fo) (fl := fl) (me := me) (se := se) (np := np) (ac := ac) (ta := ta) (rd := rd) (rc := rc) (op := op) (ag := ag) (cl := cl) (pr := pr) (bu := bu) (aa := aa) (pc := pc) (st := st) (pg := pg) (dl := dl) (wk := wk) (us := us) (xw := xw) (ws := ws) (so := so) (ds := ds) (kd := kd) (pa := pa) (lo := lo) (ar := ar) (sl := sl) (hd := hd) (ct := ct) (sp := sp) (la := la) (yw := yw) (pl := pl) (wd := wd) (ot := ot) (oc := oc) (nn := nn) (nc := nc) hP v1 v2 with ⟨x1, y1⟩ | ⟨a, b, ha, hb, rfl, rfl, x1, y1⟩
    · refine br_t hs (x1 _ (br_t rfl (br_t hs (y1 _ (br_f (by decide) ⟨rfl, J⟩)))))
    · by_cases h1 : v3 < 0
      · exact br_t hs (x1 _ (br_f (by decide) (br_t h1 (br_t hs (y1 _ (br_t rfl (br_t h1 ⟨rfl, J⟩)))))))
      have eX : nI a * 3 + nI b = nI (a * 3 + b) := by rw [sk_m3, nI_add]
      have eY : 3 * nI a + nI b = nI (a * 3 + b) := by rw [sk_3m, nI_add]
      have i12 : vp_in (nI (a * 3 + b)) 12 := vp_in_nI (by omega) (by omega)
      have cg : (nI (a * 3 + b)).toNatClampNeg = a * 3 + b := nI_clamp (by omega)
      by_cases h2 : v3 ≤ 15
      · have h2' : ¬ 15 < v3 := Int32.not_lt.mpr h2
        obtain ⟨n, hn, en⟩ := hcl (a * 3 + b) (by omega)
        by_cases hn16 : n = 16
        · have h3 : ¬ nI n < 16 := nI_nlt (b := 16) (by omega) (by omega)
          refine br_t hs (x1 _ (br_f (by decide) (br_f h1 (br_t h2 (nm_r eX (And.intro i12 (br_f (by rw [cg, en]; exact h3) ?_)))))))
          refine br_t hs (y1 _ (br_t rfl (br_f h1 (br_f h2' ?_))))
          rw [eY]
          exact And.intro i12 (br_f (by rw [cg, en]; exact h3) ⟨rfl, J⟩)
        · have h3 : nI n < 16 := nI_lt (b := 16) (by omega) (by decide)
          obtain ⟨q, hq, rfl⟩ := nI_of2 (n := 15) (by decide) h1 h2
          have ix : vp_in (nI ((a * 3 + b) * 16 + n)) 192 := vp_in_nI (by omega) (by omega)
          have cx : (nI ((a * 3 + b) * 16 + n)).toNatClampNeg = (a * 3 + b) * 16 + n := nI_clamp (by omega)
          refine br_t hs (x1 _ (br_f (by decide) (br_f h1 (br_t h2 (nm_r eX (And.intro i12 (br_t (by rw [cg, en]; exact h3) ?_)))))))
          simp only [i12, cg, en, sk_m16, nI_add, ix, cx, nI_1, false_implies, true_implies, not_false_eq_true, not_true_eq_false, true_and, and_true, forall_eq, eq_self, Int32.reduceLT, Int32.reduceLE]
          refine br_t hs (y1 _ (br_t rfl (br_f h1 (br_f h2' ?_))))
          simp only [eY, i12, cg, en, h3, sk_16m, nI_add, ix, cx, nI_1, false_implies, true_implies, not_false_eq_true, not_true_eq_false, true_and, and_true, forall_eq, eq_self, Int32.reduceLT, Int32.reduceLE]
          refine sk_mk (B := B) ⟨hP1, hP, hD, hK, hK4, hN, hW, ht, ho, hsd, fun g hg => ?_, fun i hi => ?_, hbu, hds, hpa, hfo, hfl, hla, hfr, hlz⟩ R
          · by_cases e : g = a * 3 + b
            · exact ⟨n + 1, by omega, by rw [e, pk_us]⟩
            · rw [pk_un e]; exact hcl g hg
          · by_cases e : i = (a * 3 + b) * 16 + n
            · exact ⟨q, by omega, by rw [e, pk_us]⟩
            · rw [pk_un e]; exact hop i hi
      · have h2' : 15 < v3 := Int32.not_le.mp h2
        exact br_t hs (x1 _ (br_f (by decide) (br_f h1 (br_f h2 (br_t hs (y1 _ (br_t rfl (br_f h1 (br_t h2' ⟨rfl, J⟩)))))))))
  · exact br_f hs (br_f hs ⟨rfl, J⟩)
theorem i_vc_health {k : Nat} {u : SX} {v : SY} (I : i_Rel k u v) (hk : k + 5 ≤ 2563) (v1 : Int32) (v2 : Int32) (v3 : Int32) : wpX_health (fun r u' => wpY_health (fun r' v' => r' = r ∧ i_Rel (k + 5) u' v') v v1 v2 v3) u v1 v2 v3 := by
  refine I (fun u v => wpX_health (fun r u' => wpY_health (fun r' v' => r' = r ∧ i_Rel (k + 5) u' v') v v1 v2 v3) u v1 v2 v3) ?_
  intro P K t F o N B de sd wn fo fl la np ac op ag cl pr bu so ds kd pa nt me se ta rd rc aa pc st pg dl wk us xw ws lo ar sl hd ct sp yw pl wd ot oc nn nc hC R
  have J : i_Rel (k + 5) (nI P, de, nI K, sd, nI t, wn, nI F, nI o, nt, nI N, fo, fl, me, se, np, ac, ta, rd, rc, op, ag, cl, pr, bu, aa, pc, st, pg, dl, wk, us, xw, ws, so, ds, kd, pa, lo, ar, sl, hd, ct) (nI P, de, nI K, nI t, nI F, wn, nI N, sp, sd, fo, la, op, ag, cl, pr, bu, aa, pc, st, pg, us, dl, wk, yw, ws, pl, wd, ac, ta, so, ds, kd, pa, lo, ar, ot, oc, nn, nc) := sk_mk hC R
  by_cases hs : sd = 0
  · rcases sk_par v1 with z | ⟨z, z3, _, z4⟩ | ⟨a, ha, rfl, z, z3, _, z4⟩
    · exact br_t hs (br_t z (br_t rfl (br_t hs (br_t z ⟨rfl, J⟩))))
    · exact br_t hs (br_f z (br_t z4 (br_t rfl (br_t hs (br_f z (br_t z3 ⟨rfl, J⟩))))))
    · have n10 : ¬ (1 : Int32) = 0 := by decide
      have fin : ∀ c, c < 2 → v2 = nI c → ¬ v2 < 0 → ¬ 1 < v2 → wX_health_26 (fun r u' => wpY_health (fun r' v' => r' = r ∧ i_Rel (k + 5) u' v') (nI P, de, nI K, nI t, nI F, wn, nI N, sp, sd, fo, la, op, ag, cl, pr, bu, aa, pc, st, pg, us, dl, wk, yw, ws, pl, wd, ac, ta, so, ds, kd, pa, lo, ar, ot, oc, nn, nc) (nI a) v2 v3) (nI a) v2 v3 (nI P) de (nI K) sd (nI t) wn (nI F) (nI o) nt (nI N) fo fl me se np ac ta rd rc op ag cl pr bu aa pc st pg dl wk us xw ws so ds kd pa lo ar sl hd ct := by
        intro c hc ec l0 l1
        have eX : nI a * 2 + v2 = nI (a * 2 + c) := by rw [ec, sk_m2, nI_add]
        have eY : 2 * nI a + v2 = nI (a * 2 + c) := by rw [ec, sk_2m, nI_add]
        have i8 : vp_in (nI (a * 2 + c)) 8 := vp_in_nI (by omega) (by omega)
        have c8 : (nI (a * 2 + c)).toNatClampNeg = a * 2 + c := nI_clamp (by omega)
        by_cases h1 : v3 < 0
        · exact br_t h1 (br_t hs (br_f z (br_f z3 (br_f l0 (br_f l1 (br_t h1 ⟨rfl, J⟩))))))
        by_cases h2 : v3 ≤ 4
        · refine br_f h1 (br_t h2 ?_)
          simp only [eX, i8, c8, false_implies, true_implies, not_false_eq_true, not_true_eq_false, true_and, and_true, forall_eq, eq_self, Int32.reduceLT, Int32.reduceLE]
          refine br_t hs (br_f z (br_f z3 (br_f l0 (br_f l1 (br_f h1 (br_t h2 ?_))))))
          simp only [eY, i8, c8, false_implies, true_implies, not_false_eq_true, not_true_eq_false, true_and, and_true, forall_eq, eq_self, Int32.reduceLT, Int32.reduceLE]
          exact sk_mk hC R
        · exact br_f h1 (br_f h2 (br_t hs (br_f z (br_f z3 (br_f l0 (br_f l1 (br_f h1 (br_f h2 ⟨rfl, J⟩))))))))
      by_cases h0 : v2 = 0
      · exact br_t hs (br_f z (br_f z4 (br_f n10 (br_t h0 (fin 0 (by omega) h0 (by rw [h0]; decide) (by rw [h0]; decide))))))
      · by_cases h1 : v2 = 1
        · exact br_t hs (br_f z (br_f z4 (br_f n10 (br_f h0 (br_t h1 (fin 1 (by omega) h1 (by rw [h1]; decide) (by rw [h1]; decide)))))))
        · refine br_t hs (br_f z (br_f z4 (br_f n10 (br_f h0 (br_f h1 (br_t hs (br_f z (br_f z3 ?_))))))))
          by_cases l0 : v2 < 0
          · exact br_t l0 ⟨rfl, J⟩
          · by_cases l1 : 1 < v2
            · exact br_f l0 (br_t l1 ⟨rfl, J⟩)
            · exfalso
              obtain ⟨j, hj, e⟩ := nI_of2 (n := 1) (x := v2) (M := 1) (by decide) l0 (Int32.not_lt.mp l1)
              rcases Nat.eq_zero_or_pos j with q | q
              · exact h0 (by rw [e, q]; rfl)
              · have : j = 1 := by omega
                exact h1 (by rw [e, this]; rfl)
  · exact br_f hs (br_f hs ⟨rfl, J⟩)
theorem i_vc_input {k : Nat} {u : SX} {v : SY} (I : i_Rel k u v) (hk : k + 5 ≤ 2563) (v1 : Int32) (v2 : Int32) : wpX_input (fun r u' => wpY_input (fun r' v' => r' = r ∧ i_Rel (k + 5) u' v') v v1 v2) u v1 v2 := by
  refine I (fun u v => wpX_input (fun r u' => wpY_input (fun r' v' => r' = r ∧ i_Rel (k + 5) u' v') v v1 v2) u v1 v2) ?_
  intro P K t F o N B de sd wn fo fl la np ac op ag cl pr bu so ds kd pa nt me se ta rd rc aa pc st pg dl wk us xw ws lo ar sl hd ct sp yw pl wd ot oc nn nc hC R
  have J : i_Rel (k + 5) (nI P, de, nI K, sd, nI t, wn, nI F, nI o, nt, nI N, fo, fl, me, se, np, ac, ta, rd, rc, op, ag, cl, pr, bu, aa, pc, st, pg, dl, wk, us, xw, ws, so, ds, kd, pa, lo, ar, sl, hd, ct) (nI P, de, nI K, nI t, nI F, wn, nI N, sp, sd, fo, la, op, ag, cl, pr, bu, aa, pc, st, pg, us, dl, wk, yw, ws, pl, wd, ac, ta, so, ds, kd, pa, lo, ar, ot, oc, nn, nc) := sk_mk hC R
  rcases sk_par v1 with z | ⟨z, _, z3, z4⟩ | ⟨a, ha, rfl, z, _, z3, z4⟩
  · exact br_t z (br_t rfl (br_t z ⟨rfl, J⟩))
  · exact br_f z (br_t z4 (br_t rfl (br_f z (br_f z3 ⟨rfl, J⟩))))
  · have n10 : ¬ (1 : Int32) = 0 := by decide
    have i4 : vp_in (nI a) 4 := vp_in_nI ha (by omega)
    have c4 : (nI a).toNatClampNeg = a := nI_clamp (by omega)
    have i44 : vp_in (11 * nI a + 10) 44 := by rw [sk_11m, sk_a10]; exact vp_in_nI (by omega) (by omega)
    have c44 : (11 * nI a + 10).toNatClampNeg = a * 11 + 10 := by rw [sk_11m, sk_a10]; exact nI_clamp (by omega)
    refine br_f z (br_f z4 (br_f n10 (And.intro i4 (nm_r (e' := upd np a v2) (by rw [c4]) ?_))))
    refine br_f z (br_t z3 (And.intro i44 (nm_r (e' := upd wd (a * 11 + 10) v2) (by rw [c44]) ⟨rfl, ?_⟩)))
    exact sk_mk hC ⟨R.1, R.2.1, R.2.2.1, R.2.2.2.1, R.2.2.2.2.1, R.2.2.2.2.2.1, sk_WD_np R.2.2.2.2.2.2.1 v2, R.2.2.2.2.2.2.2⟩
end
section
section S26
variable {de sd wn nt sp : Int32} {fo fl la me se np ac ta rd rc op ag cl pr bu aa pc st pg dl wk us xw ws so ds kd pa lo ar sl hd ct yw pl wd ot oc nn nc : Nat → Int32} {P K t F o N B : Nat} {E : Nat → Prop} {M : Nat → Nat}
theorem sk_winlp {w len : Nat} (hF : F + len ≤ 128) (hl : 0 < len) : ∀ (d i : Nat) (fo fl : Nat → Int32), i + d = len → ∃ fo' fl' : Nat → Int32, (∀ x, x < F + i → fo' x = fo x ∧ fl' x = fl x) ∧ (∀ x, F + i ≤ x → x < F + len → fo' x = nI w ∧ fl' x = nI (F + len - 1)) ∧
    (∀ post : Int32 → SX → Prop, wX_window_89 post (nI len) (nI P) de (nI K) sd (nI t) wn (nI F) (nI o) nt (nI N) fo' fl' me se np ac ta rd rc op ag cl pr bu aa pc st pg dl wk us xw ws so ds kd pa lo ar sl hd ct → ∀ n, d < n → wX_window_53 post (nI w) (nI len) (nI (F + len - 1)) (nI P) de (nI K) sd (nI t) wn (nI F) (nI o) nt (nI N) n (nI (F + i)) fo fl me se np ac ta rd rc op ag cl pr bu aa pc st pg dl wk us xw ws so ds kd pa lo ar sl hd ct) ∧
    (∀ post : Int32 → SY → Prop, (∀ f, wY_window_40 post (nI w) (nI len) (nI P) de (nI K) (nI t) (nI F) wn (nI N) sp sd (f + 1) (nI len) fo' la op ag cl pr bu aa pc st pg us dl wk yw ws pl wd ac ta so ds kd pa lo ar ot oc nn nc) → ∀ n, d < n → wY_window_40 post (nI w) (nI len) (nI P) de (nI K) (nI t) (nI F) wn (nI N) sp sd n (nI i) fo la op ag cl pr bu aa pc st pg us dl wk yw ws pl wd ac ta so ds kd pa lo ar ot oc nn nc) := by
  intro d
  induction d with
  | zero =>
    intro i fo fl hi
    have e : i = len := by omega
    refine ⟨fo, fl, fun _ _ => ⟨rfl, rfl⟩, fun x h1 h2 => absurd h2 (by omega), fun post h n hn => ?_, fun post h n hn => ?_⟩
    · cases n with
      | zero => exact absurd hn (Nat.lt_irrefl _)
      | succ n => exact br_t (nI_lt (by omega) (by omega)) h
    · cases n with
      | zero => exact absurd hn (Nat.lt_irrefl _)
      | succ n => rw [e]; exact h n
  | succ d ih =>
    intro i fo fl hi
    obtain ⟨fo', fl', a1, a2, a3, a4⟩ := ih (i + 1) (upd fo (F + i) (nI w)) (upd fl (F + i) (nI (F + len - 1))) (by omega)
    have i128 : vp_in (nI (F + i)) 128 := vp_in_nI (by omega) (by omega)
    have c128 : (nI (F + i)).toNatClampNeg = F + i := nI_clamp (by omega)
    refine ⟨fo', fl', fun x hx => ?_, fun x h1 h2 => ?_, fun post h n hn => ?_, fun post h n hn => ?_⟩
    · obtain ⟨b1, b2⟩ := a1 x (by omega)
      rw [b1, b2, pk_un (by omega), pk_un (by omega)]; exact ⟨rfl, rfl⟩
    · by_cases e : x = F + i
      · obtain ⟨b1, b2⟩ := a1 x (by omega)
        rw [b1, b2, e, pk_us, pk_us]; exact ⟨rfl, rfl⟩
      · exact a2 x (by omega) h2
    · cases n with
      | zero => exact absurd hn (Nat.not_lt_zero _)
      | succ n => exact br_f (nI_nlt (by omega) (by omega)) (br_f (nI_ge (b := 128) (by omega) (by decide)) (And.intro i128 (nm_r (by rw [c128]) (And.intro i128 (nm_r (by rw [c128]) (nm_r (nI_1 (F + i)) (a3 post h n (by omega))))))))
    · have iY : vp_in (nI F + nI i) 128 := by rw [nI_add]; exact i128
      have cY : (nI F + nI i).toNatClampNeg = F + i := by rw [nI_add]; exact c128
      cases n with
      | zero => exact absurd hn (Nat.not_lt_zero _)
      | succ n => exact br_f (nI_ge (by omega) (by omega)) (And.intro iY (nm_r (by rw [cY]) (nm_r (nI_1 i) (a4 post h n (by omega)))))
theorem sk_C_win {w len : Nat} (hC : sk_C P de K sd t wn F o N B fo fl la cl op bu ds kd pa) (hs : sd = 0) (hw : w ≤ 4) (hl1 : 1 ≤ len) (hl2 : len ≤ 16) {W : Nat} (hW8 : W < 8) (eW : wn = nI W) {fo' fl' : Nat → Int32} (a1 : ∀ x, x < F → fo' x = fo x ∧ fl' x = fl x) (a2 : ∀ x, F ≤ x → x < F + len → fo' x = nI w ∧ fl' x = nI (F + len - 1)) :
    sk_C P de K sd t (nI (W + 1)) (F + len) o N B fo' fl' (upd la (F + len - 1) 1) cl op bu ds kd pa := by
  obtain ⟨hP1, hP, hD, hK, hK4, hN, hW, ht, ho, hsd, hcl, hop, hbu, hds, hpa, hfo, hfl, hla, hfr, hlz⟩ := hC
  obtain ⟨W', w1, w2, w3, w4⟩ := hW
  have eWW : W' = W := by rw [w2] at eW; exact (nI_eq (by omega) (by omega)).1 eW
  have t0 : t = 0 ∧ B = 0 := by
    rcases hsd with z | z
    · exact z.2
    · rw [hs] at z; exact absurd z.1 (by decide)
  refine ⟨hP1, hP, hD, hK, hK4, hN, ⟨W + 1, by omega, rfl, by omega, by omega⟩, ht, ?_, Or.inl ⟨hs, t0⟩, hcl, hop, hbu, hds, hpa, fun i hi => ?_, fun i hi => ?_, fun i hi => ?_, fun i l hi hl e j hj1 hj2 => ?_, fun i hi => ?_⟩
  · rw [ho, t0.1, Nat.zero_mod, Nat.zero_mod]
  · by_cases e : i < F
    · rw [(a1 i e).1]; exact hfo i e
    · exact ⟨w, hw, (a2 i (by omega) hi).1⟩
  · by_cases e : i < F
    · rw [(a1 i e).2]
      obtain ⟨l, l1, l2, l3⟩ := hfl i e
      exact ⟨l, l1, by omega, l3⟩
    · exact ⟨F + len - 1, by omega, by omega, (a2 i (by omega) hi).2⟩
  · by_cases e : i < F
    · rw [(a1 i e).2, pk_un (by omega)]; exact hla i e
    · rw [(a2 i (by omega) hi).2]
      by_cases e2 : i = F + len - 1
      · rw [e2, pk_us]
        exact ⟨fun z => absurd z (by decide), fun z => absurd rfl z⟩
      · rw [pk_un e2, hlz i (by omega)]
        exact ⟨fun _ z => e2 ((nI_eq (by omega) (by omega)).1 z), fun _ => rfl⟩
  · by_cases ei : i < F
    · rw [(a1 i ei).2] at e
      obtain ⟨l0, l1, l2, l3⟩ := hfl i ei
      have el : l0 = l := by rw [l3] at e; exact (nI_eq (by omega) (by omega)).1 e
      have jF : j < F := by omega
      rw [(a1 j jF).1, (a1 j jF).2, (a1 i ei).1]
      exact hfr i l ei (by omega) e j hj1 hj2
    · have e' := (a2 i (by omega) hi).2
      rw [e'] at e
      have el := (nI_eq (by omega) (by omega)).1 e
      rw [(a2 j (by omega) (by omega)).1, (a2 j (by omega) (by omega)).2, (a2 i (by omega) hi).1, el]
      exact ⟨rfl, rfl⟩
  · rw [pk_un (by omega)]; exact hlz i (by omega)
end S26
theorem i_vc_window {k : Nat} {u : SX} {v : SY} (I : i_Rel k u v) (hk : k + 5 ≤ 2563) (v1 : Int32) (v2 : Int32) : wpX_window (fun r u' => wpY_window (fun r' v' => r' = r ∧ i_Rel (k + 5) u' v') v v1 v2) u v1 v2 := by
  refine I (fun u v => wpX_window (fun r u' => wpY_window (fun r' v' => r' = r ∧ i_Rel (k + 5) u' v') v v1 v2) u v1 v2) ?_
  intro P K t F o N B de sd wn fo fl la np ac op ag cl pr bu so ds kd pa nt me se ta rd rc aa pc st pg dl wk us xw ws lo ar sl hd ct sp yw pl wd ot oc nn nc hC R
  have J : i_Rel (k + 5) (nI P, de, nI K, sd, nI t, wn, nI F, nI o, nt, nI N, fo, fl, me, se, np, ac, ta, rd, rc, op, ag, cl, pr, bu, aa, pc, st, pg, dl, wk, us, xw, ws, so, ds, kd, pa, lo, ar, sl, hd, ct) (nI P, de, nI K, nI t, nI F, wn, nI N, sp, sd, fo, la, op, ag, cl, pr, bu, aa, pc, st, pg, us, dl, wk, yw, ws, pl, wd, ac, ta, so, ds, kd, pa, lo, ar, ot, oc, nn, nc) := sk_mk hC R
  have hC' := hC
  obtain ⟨hP1, hP, hD, hK, hK4, hN, hW, ht, ho, hsd, hcl, hop, hbu, hds, hpa, hfo, hfl, hla, hfr, hlz⟩ := hC
  by_cases hs : sd = 0
  · by_cases h1 : v1 < 0
    · exact br_t hs (br_t h1 (br_t hs (br_t h1 ⟨rfl, J⟩)))
    by_cases h2 : 4 < v1
    · exact br_t hs (br_f h1 (br_t h2 (br_t hs (br_f h1 (br_t h2 ⟨rfl, J⟩)))))
    by_cases h3 : v2 < 1
    · exact br_t hs (br_f h1 (br_f h2 (br_t h3 (br_t hs (br_f h1 (br_f h2 (br_t h3 ⟨rfl, J⟩)))))))
    by_cases h4 : 16 < v2
    · exact br_t hs (br_f h1 (br_f h2 (br_f h3 (br_t h4 (br_t hs (br_f h1 (br_f h2 (br_f h3 (br_t h4 ⟨rfl, J⟩)))))))))
    obtain ⟨W, w1, w2, w3, w4⟩ := hW
    by_cases h5 : wn < 8
    · obtain ⟨w, hw, rfl⟩ := nI_of2 (n := 4) (M := 4) (by decide) h1 (Int32.not_lt.mp h2)
      obtain ⟨len, l1, l2, rfl⟩ := sk_int (l := 1) (h := 16) (Int32.not_lt.mp h3) (Int32.not_lt.mp h4) (by decide) (by decide)
      have hW8 : W < 8 := by
        rw [w2] at h5
        exact (nI_ltI (b := 8) (by omega) (by decide)).1 h5
      obtain ⟨fo', fl', a1, a2, a3, a4⟩ := sk_winlp (P := P) (de := de) (K := K) (sd := sd) (t := t) (wn := wn) (F := F) (o := o) (nt := nt) (N := N) (me := me) (se := se) (np := np) (ac := ac) (ta := ta) (rd := rd) (rc := rc) (op := op) (ag := ag) (cl := cl) (pr := pr) (bu := bu) (aa := aa) (pc := pc) (st := st) (pg := pg) (dl := dl) (wk := wk) (us := us) (xw := xw) (ws := ws) (so := so) (ds := ds) (kd := kd) (pa := pa) (lo := lo) (ar := ar) (sl := sl) (hd := hd) (ct := ct) (sp := sp) (la := la) (yw := yw) (pl := pl) (wd := wd) (ot := ot) (oc := oc) (nn := nn) (nc := nc) (w := w) (len := len) (by omega) (by omega) len 0 fo fl (by omega)
      have eL : nI F + nI len - 1 = nI (F + len - 1) := by rw [nI_add]; exact pk_sub (b := 1) (by omega)
      have iL : vp_in (nI (F + len - 1)) 128 := vp_in_nI (by omega) (by omega)
      have cL : (nI (F + len - 1)).toNatClampNeg = F + len - 1 := nI_clamp (by omega)
      have eV : vp_nar .boolean 1 = 1 := rfl
      have eP : nI (F + len) - 1 = nI (F + len - 1) := pk_sub (b := 1) (by omega)
      refine br_t hs (br_f h1 (br_f h2 (br_f h3 (br_f h4 (br_t h5 (nm_r eL ⟨len + 1, a3 _ ?_ _ (Nat.lt_succ_self _)⟩))))))
      refine nm_r (nI_add F len) (nm_r (e' := nI (W + 1)) (by rw [w2, nI_1]) ?_)
      refine br_t hs (br_f h1 (br_f h2 (br_f h3 (br_f h4 (br_t h5 ⟨len + 1, a4 _ (fun f => br_t (Int32.le_refl _) ?_) _ (Nat.lt_succ_self _)⟩)))))
      refine nm_r (nI_add F len) ?_
      simp only [eP, iL, cL, eV, w2, nI_1, false_implies, true_implies, not_false_eq_true, not_true_eq_false, true_and, and_true, forall_eq, eq_self, Int32.reduceLT, Int32.reduceLE]
      exact sk_mk (sk_C_win hC' hs hw l1 l2 hW8 w2 (fun x hx => a1 x (by omega)) (fun x hx1 hx2 => a2 x (by omega) hx2)) R
    · exact br_t hs (br_f h1 (br_f h2 (br_f h3 (br_f h4 (br_f h5 (br_t hs (br_f h1 (br_f h2 (br_f h3 (br_f h4 (br_f h5 ⟨rfl, J⟩)))))))))))
  · exact br_f hs (br_f hs ⟨rfl, J⟩)
end
section
section S27
variable {de sd wn : Int32} {fo fl la np ac op ag cl pr bu so ds kd pa : Nat → Int32} {P K t F o N : Nat} {E : Nat → Prop} {M : Nat → Nat}
theorem sk_startlp (hP : P ≤ 3) (hK : 0 < K) (hN : N ≤ 6) (hcl : ∀ g, g < 12 → ∃ n, n ≤ 16 ∧ cl g = nI n) (hbu : ∀ g, g < 12 → ∃ n, n < 100 ∧ bu g = nI n) : ∀ (d p B : Nat) (nt : Int32) (me se ta rd rc aa pc st pg dl wk us xw ws lo ar sl hd ct : Nat → Int32) (sp : Int32) (yw pl wd ot oc nn nc : Nat → Int32), p + d = 4 → B + 3 * d < 2 ^ 30 → sk_R P K sk_no sk_z B np nt me se rd rc pc st pg dl wk xw sl hd ct sp yw pl wd ot oc nn nc → ∀ Q : Prop, (∀ (nt1 : Int32) (me1 se1 ta1 rd1 rc1 aa1 pc1 st1 pg1 dl1 wk1 us1 xw1 ws1 lo1 ar1 sl1 hd1 ct1 : Nat → Int32) (sp1 : Int32) (yw1 pl1 wd1 ot1 oc1 nn1 nc1 : Nat → Int32), sk_R P K sk_no sk_z (B + 3 * d) np nt1 me1 se1 rd1 rc1 pc1 st1 pg1 dl1 wk1 xw1 sl1 hd1 ct1 sp1 yw1 pl1 wd1 ot1 oc1 nn1 nc1 →
    (∀ post : Int32 → SX → Prop, post 1 (nI P, de, nI K, sd, nI t, wn, nI F, nI o, nt1, nI N, fo, fl, me1, se1, np, ac, ta1, rd1, rc1, op, ag, cl, pr, bu, aa1, pc1, st1, pg1, dl1, wk1, us1, xw1, ws1, so, ds, kd, pa, lo1, ar1, sl1, hd1, ct1) → ∀ n, d < n → wX_start_23 post n (nI p) (nI P) de (nI K) sd (nI t) wn (nI F) (nI o) nt (nI N) fo fl me se np ac ta rd rc op ag cl pr bu aa pc st pg dl wk us xw ws so ds kd pa lo ar sl hd ct) →
    (∀ post : Int32 → SY → Prop, post 1 (nI P, de, nI K, nI t, nI F, wn, nI N, sp1, sd, fo, la, op, ag, cl, pr, bu, aa1, pc1, st1, pg1, us1, dl1, wk1, yw1, ws1, pl1, wd1, ac, ta1, so, ds, kd, pa, lo1, ar1, ot1, oc1, nn1, nc1) → ∀ n, d < n → wY_start_23 post n (nI p) (nI P) de (nI K) (nI t) (nI F) wn (nI N) sp sd fo la op ag cl pr bu aa pc st pg us dl wk yw ws pl wd ac ta so ds kd pa lo ar ot oc nn nc) → Q) → Q := by
  intro d
  induction d with
  | zero =>
    intro p B nt me se ta rd rc aa pc st pg dl wk us xw ws lo ar sl hd ct sp yw pl wd ot oc nn nc hp hB R Q k
    have e : p = 4 := by omega
    refine k nt me se ta rd rc aa pc st pg dl wk us xw ws lo ar sl hd ct sp yw pl wd ot oc nn nc R (fun post h n hn => ?_) (fun post h n hn => ?_)
    · cases n with
      | zero => exact absurd hn (Nat.lt_irrefl _)
      | succ n => rw [e]; exact br_t (Int32.le_refl _) h
    · cases n with
      | zero => exact absurd hn (Nat.lt_irrefl _)
      | succ n => rw [e]; exact br_t (Int32.le_refl _) h
  | succ d ih =>
    intro p B nt me se ta rd rc aa pc st pg dl wk us xw ws lo ar sl hd ct sp yw pl wd ot oc nn nc hp hB R Q k
    have nle : ¬ (4 : Int32) ≤ nI p := nI_ge (b := 4) (by omega) (by decide)
    refine sk_bgn (de := de) (sd := sd) (wn := wn) (fo := fo) (fl := fl) (la := la) (np := np) (ac := ac) (op := op) (ag := ag) (cl := cl) (pr := pr) (bu := bu) (so := so) (ds := ds) (kd := kd) (pa := pa) (P := P) (K := K) (t := t) (F := F) (o := o) (N := N) (M := sk_z) hP hK hcl hbu (show p < 4 by omega) (fun _ => sk_no) (fun _ _ _ => Iff.rfl) (fun _ z => z) P 0 B nt me se ta rd rc aa pc st pg dl wk us xw ws lo ar sl hd ct sp yw pl wd ot oc nn nc (by omega) (by omega) R Q ?_
    intro nt1 me1 se1 ta1 rd1 rc1 aa1 pc1 st1 pg1 dl1 wk1 us1 xw1 ws1 lo1 ar1 sl1 hd1 ct1 sp1 yw1 pl1 wd1 ot1 oc1 nn1 nc1 R1 x1 y1 _
    refine ih (p + 1) (B + 3) nt1 me1 se1 ta1 rd1 rc1 aa1 pc1 st1 pg1 dl1 wk1 us1 xw1 ws1 lo1 ar1 sl1 hd1 ct1 sp1 yw1 pl1 wd1 ot1 oc1 nn1 nc1 (by omega) (by omega) (sk_R_mono R1 (by omega)) Q ?_
    intro nt2 me2 se2 ta2 rd2 rc2 aa2 pc2 st2 pg2 dl2 wk2 us2 xw2 ws2 lo2 ar2 sl2 hd2 ct2 sp2 yw2 pl2 wd2 ot2 oc2 nn2 nc2 R2 x2 y2
    refine k nt2 me2 se2 ta2 rd2 rc2 aa2 pc2 st2 pg2 dl2 wk2 us2 xw2 ws2 lo2 ar2 sl2 hd2 ct2 sp2 yw2 pl2 wd2 ot2 oc2 nn2 nc2 (sk_R_mono R2 (by omega)) (fun post h n hn => ?_) (fun post h n hn => ?_)
    · cases n with
      | zero => exact absurd hn (Nat.not_lt_zero _)
      | succ n =>
        refine br_f nle ⟨P + 1, x1 _ ?_ _ (Nat.lt_succ_self _)⟩
        exact nm_r (nI_1 p) (x2 post h n (by omega))
    · cases n with
      | zero => exact absurd hn (Nat.not_lt_zero _)
      | succ n => exact br_f nle ⟨P + 1, y1 post _ (y2 post h n (by omega)) _ (Nat.lt_succ_self _)⟩
end S27
theorem i_vc_start {k : Nat} {u : SX} {v : SY} (I : i_Rel k u v) (hk : k + 5 ≤ 2563) : wpX_start (fun r u' => wpY_start (fun r' v' => r' = r ∧ i_Rel (k + 5) u' v') v) u := by
  refine I (fun u v => wpX_start (fun r u' => wpY_start (fun r' v' => r' = r ∧ i_Rel (k + 5) u' v') v) u) ?_
  intro P K t F o N B de sd wn fo fl la np ac op ag cl pr bu so ds kd pa nt me se ta rd rc aa pc st pg dl wk us xw ws lo ar sl hd ct sp yw pl wd ot oc nn nc hC R
  have J : i_Rel (k + 5) (nI P, de, nI K, sd, nI t, wn, nI F, nI o, nt, nI N, fo, fl, me, se, np, ac, ta, rd, rc, op, ag, cl, pr, bu, aa, pc, st, pg, dl, wk, us, xw, ws, so, ds, kd, pa, lo, ar, sl, hd, ct) (nI P, de, nI K, nI t, nI F, wn, nI N, sp, sd, fo, la, op, ag, cl, pr, bu, aa, pc, st, pg, us, dl, wk, yw, ws, pl, wd, ac, ta, so, ds, kd, pa, lo, ar, ot, oc, nn, nc) := sk_mk hC R
  obtain ⟨hP1, hP, hD, hK, hK4, hN, hW, ht, ho, hsd, hcl, hop, hbu, hds, hpa, hfo, hfl, hla, hfr, hlz⟩ := hC
  by_cases hs : sd = 0
  · by_cases hw0 : wn = 0
    · exact br_t hs (br_t hw0 (br_t hs (br_t hw0 ⟨rfl, J⟩)))
    · obtain ⟨W, w1, w2, w3, w4⟩ := hW
      have hW0 : 0 < W := by
        rcases Nat.eq_zero_or_pos W with z | z
        · exact absurd (by rw [w2, z]; rfl) hw0
        · exact z
      have tB : t = 0 ∧ B = 0 := by
        rcases hsd with z | z
        · exact z.2
        · rw [hs] at z; exact absurd z.1 (by decide)
      refine sk_startlp (de := de) (sd := 1) (wn := wn) (fo := fo) (fl := fl) (la := la) (np := np) (ac := ac) (op := op) (ag := ag) (cl := cl) (pr := pr) (bu := bu) (so := so) (ds := ds) (kd := kd) (pa := pa) (P := P) (K := K) (t := t) (F := F) (o := o) (N := N) hP hK hN hcl hbu 4 0 B nt me se ta rd rc aa pc st pg dl wk us xw ws lo ar sl hd ct sp yw pl wd ot oc nn nc (by omega) (by omega) R _ ?_
      intro nt1 me1 se1 ta1 rd1 rc1 aa1 pc1 st1 pg1 dl1 wk1 us1 xw1 ws1 lo1 ar1 sl1 hd1 ct1 sp1 yw1 pl1 wd1 ot1 oc1 nn1 nc1 R1 x1 y1
      refine br_t hs (br_f hw0 ⟨5, x1 _ ?_ 5 (by omega)⟩)
      refine br_t hs (br_f hw0 ⟨5, y1 _ ⟨rfl, ?_⟩ 5 (by omega)⟩)
      exact sk_mk (B := B + 3 * 4) ⟨hP1, hP, hD, hK, hK4, hN, ⟨W, w1, w2, w3, w4⟩, ht, ho, Or.inr ⟨rfl, by omega, by omega⟩, hcl, hop, hbu, hds, hpa, hfo, hfl, hla, hfr, hlz⟩ R1
  · exact br_f hs (br_f hs ⟨rfl, J⟩)
theorem i_vc_run {k : Nat} {u : SX} {v : SY} (I : i_Rel k u v) (hk : k + 5 ≤ 2563) (v1 : Int32) : wpX_run (fun r u' => wpY_run (fun r' v' => r' = r ∧ i_Rel (k + 5) u' v') v v1) u v1 := by
  refine I (fun u v => wpX_run (fun r u' => wpY_run (fun r' v' => r' = r ∧ i_Rel (k + 5) u' v') v v1) u v1) ?_
  intro P K t F o N B de sd wn fo fl la np ac op ag cl pr bu so ds kd pa nt me se ta rd rc aa pc st pg dl wk us xw ws lo ar sl hd ct sp yw pl wd ot oc nn nc hC R
  have J : i_Rel (k + 5) (nI P, de, nI K, sd, nI t, wn, nI F, nI o, nt, nI N, fo, fl, me, se, np, ac, ta, rd, rc, op, ag, cl, pr, bu, aa, pc, st, pg, dl, wk, us, xw, ws, so, ds, kd, pa, lo, ar, sl, hd, ct) (nI P, de, nI K, nI t, nI F, wn, nI N, sp, sd, fo, la, op, ag, cl, pr, bu, aa, pc, st, pg, us, dl, wk, yw, ws, pl, wd, ac, ta, so, ds, kd, pa, lo, ar, ot, oc, nn, nc) := sk_mk hC R
  obtain ⟨hP1, hP, hD, hK, hK4, hN, hW, ht, ho, hsd, hcl, hop, hbu, hds, hpa, hfo, hfl, hla, hfr, hlz⟩ := hC
  by_cases hs : sd = 0
  · exact br_t hs (br_t hs ⟨rfl, J⟩)
  · have h1 : sd = 1 ∧ 0 < F ∧ B = 100 * t + 12 := by
      rcases hsd with z | z
      · exact absurd z.1 hs
      · exact z
    obtain ⟨s1, hF0, hBt⟩ := h1
    obtain ⟨r, a1, a2, c1, c2⟩ := sk_clamp v1 0 64 (by decide)
    obtain ⟨kk, _, k2, rfl⟩ := sk_int (l := 0) (h := 64) a1 a2 (by decide) (by decide)
    obtain ⟨W, w1, w2, w3, w4⟩ := hW
    have hF : F ≤ 128 := by omega
    have main : ∀ lim d, t + d = lim → d ≤ kk → lim ≤ 16000 → (d = kk ∨ lim = 16000) → ∃ n, wX_run_36 (fun r u' => wpY_run (fun r' v' => r' = r ∧ i_Rel (k + 5) u' v') (nI P, de, nI K, nI t, nI F, wn, nI N, sp, sd, fo, la, op, ag, cl, pr, bu, aa, pc, st, pg, us, dl, wk, yw, ws, pl, wd, ac, ta, so, ds, kd, pa, lo, ar, ot, oc, nn, nc) v1) (nI lim) n 0 (nI P) de (nI K) sd (nI t) wn (nI F) (nI o) nt (nI N) fo fl me se np ac ta rd rc op ag cl pr bu aa pc st pg dl wk us xw ws so ds kd pa lo ar sl hd ct := by
      intro lim d hdt hdk hlim hdl
      refine sk_runlp (de := de) (sd := sd) (wn := wn) (fo := fo) (fl := fl) (la := la) (np := np) (ac := ac) (op := op) (ag := ag) (cl := cl) (pr := pr) (bu := bu) (so := so) (ds := ds) (kd := kd) (pa := pa) (P := P) (K := K) (F := F) (N := N) hP hK hN hcl hbu hK4 hop hds hpa hF0 hF hfo hfl hla hfr hlim k2 (d + 1) d (Nat.lt_succ_self _) t B 0 0 nt me se ta rd rc aa pc st pg dl wk us xw ws lo ar sl hd ct sp yw pl wd ot oc nn nc hdt (by omega) (by omega) (by omega) (by omega) R _ ?_
      intro nt1 me1 se1 ta1 rd1 rc1 aa1 pc1 st1 pg1 dl1 wk1 us1 xw1 ws1 lo1 ar1 sl1 hd1 ct1 sp1 yw1 pl1 wd1 ot1 oc1 nn1 nc1 R1 x1 y1
      rw [← ho] at x1
      refine ⟨d + 1, x1 _ ?_ _ (Nat.lt_succ_self _)⟩
      refine br_f hs (c2 _ _ ⟨d + 1, y1 _ ⟨rfl, ?_⟩ _ (Nat.lt_succ_self _)⟩)
      exact sk_mk (B := 100 * lim + 12) ⟨hP1, hP, hD, hK, hK4, hN, ⟨W, w1, w2, w3, w4⟩, hlim, rfl, Or.inr ⟨s1, hF0, rfl⟩, hcl, hop, hbu, hds, hpa, hfo, hfl, hla, hfr, hlz⟩ (sk_R_mono R1 (by omega))
    refine br_f hs (c1 _ _ (nm_r (nI_add t kk) ?_))
    by_cases hl : t + kk ≤ 16000
    · exact br_t (nI_le (b := 16000) hl (by decide)) (main (t + kk) kk rfl (Nat.le_refl _) hl (Or.inl rfl))
    · exact br_f (nI_ge (a := 16000) (by omega) (by omega)) (main 16000 (16000 - t) (by omega) (by omega) (Nat.le_refl _) (Or.inr rfl))
end
section
theorem i_vc_channel {k : Nat} {u : SX} {v : SY} (I : i_Rel k u v) (hk : k + 5 ≤ 2563) (v1 : Int32) (v2 : Int32) (v3 : Int32) (v4 : Int32) : wpX_channel (fun r u' => wpY_channel (fun r' v' => r' = r ∧ i_Rel (k + 5) u' v') v v1 v2 v3 v4) u v1 v2 v3 v4 := by
  refine I (fun u v => wpX_channel (fun r u' => wpY_channel (fun r' v' => r' = r ∧ i_Rel (k + 5) u' v') v v1 v2 v3 v4) u v1 v2 v3 v4) ?_
  intro P K t F o N B de sd wn fo fl la np ac op ag cl pr bu so ds kd pa nt me se ta rd rc aa pc st pg dl wk us xw ws lo ar sl hd ct sp yw pl wd ot oc nn nc hC R
  have J : i_Rel (k + 5) (nI P, de, nI K, sd, nI t, wn, nI F, nI o, nt, nI N, fo, fl, me, se, np, ac, ta, rd, rc, op, ag, cl, pr, bu, aa, pc, st, pg, dl, wk, us, xw, ws, so, ds, kd, pa, lo, ar, sl, hd, ct) (nI P, de, nI K, nI t, nI F, wn, nI N, sp, sd, fo, la, op, ag, cl, pr, bu, aa, pc, st, pg, us, dl, wk, yw, ws, pl, wd, ac, ta, so, ds, kd, pa, lo, ar, ot, oc, nn, nc) := sk_mk hC R
  obtain ⟨hP1, hP, hD, hK, hK4, hN, hW, ht, ho, hsd, hcl, hop, hbu, hds, hpa, hfo, hfl, hla, hfr, hlz⟩ := hC
  have n10 : ¬ (1 : Int32) = 0 := by decide
  by_cases hs : sd = 0
  · rcases sk_par v1 with z | ⟨z, z3, _, z4⟩ | ⟨a, ha, rfl, z, z3, _, z4⟩
    · exact br_t hs (br_t z (br_t rfl (br_t hs (br_t z ⟨rfl, J⟩))))
    · exact br_t hs (br_f z (br_t z4 (br_t rfl (br_t hs (br_f z (br_t z3 ⟨rfl, J⟩))))))
    rcases sk_par v2 with w | ⟨w, w3, _, w4⟩ | ⟨b, hb, rfl, w, w3, _, w4⟩
    · exact br_t hs (br_f z (br_f z4 (br_f n10 (br_t w (br_t rfl (br_t hs (br_f z (br_f z3 (br_t w ⟨rfl, J⟩)))))))))
    · exact br_t hs (br_f z (br_f z4 (br_f n10 (br_f w (br_t w4 (br_t rfl (br_t hs (br_f z (br_f z3 (br_f w (br_t w3 ⟨rfl, J⟩)))))))))))
    by_cases hab : nI a = nI b
    · exact br_t hs (br_f z (br_f z4 (br_f n10 (br_f w (br_f w4 (br_f n10 (br_t hab (br_t hs (br_f z (br_f z3 (br_f w (br_f w3 (br_t hab ⟨rfl, J⟩)))))))))))))
    have fin : ¬ v3 < 0 → ¬ 1 < v3 → wX_channel_39 (fun r u' => wpY_channel (fun r' v' => r' = r ∧ i_Rel (k + 5) u' v') (nI P, de, nI K, nI t, nI F, wn, nI N, sp, sd, fo, la, op, ag, cl, pr, bu, aa, pc, st, pg, us, dl, wk, yw, ws, pl, wd, ac, ta, so, ds, kd, pa, lo, ar, ot, oc, nn, nc) (nI a) (nI b) v3 v4) (nI a) (nI b) v3 v4 (nI P) de (nI K) sd (nI t) wn (nI F) (nI o) nt (nI N) fo fl me se np ac ta rd rc op ag cl pr bu aa pc st pg dl wk us xw ws so ds kd pa lo ar sl hd ct := by
      intro l0 l1
      by_cases hN6 : N < 6
      · have n6 : nI N < 6 := nI_lt (b := 6) hN6 (by decide)
        have i6 : vp_in (nI N) 6 := vp_in_nI hN6 (by omega)
        have c6 : (nI N).toNatClampNeg = N := nI_clamp (by omega)
        have eN : nI (N + 1) - 1 = nI N := nI_pred N
        have go : ∀ z0 r : Int32, (∀ (post : Int32 → Prop) (u : SX), post r → wpX_clamp post u v4 1 z0) → (∀ (post : Int32 → Prop) (u : SY), post r → wpY_clamp post u v4 1 z0) → (v3 = 0 ∨ ∃ m, m ≤ 4 ∧ r = nI m) → ((v3 = 0 ∧ z0 = 63) ∨ (¬ v3 = 0 ∧ z0 = de)) →
            wX_channel_69 (fun r u' => wpY_channel (fun r' v' => r' = r ∧ i_Rel (k + 5) u' v') (nI P, de, nI K, nI t, nI F, wn, nI N, sp, sd, fo, la, op, ag, cl, pr, bu, aa, pc, st, pg, us, dl, wk, yw, ws, pl, wd, ac, ta, so, ds, kd, pa, lo, ar, ot, oc, nn, nc) (nI a) (nI b) v3 v4) (nI a) (nI b) v3 v4 (nI N) z0 (nI P) de (nI K) sd (nI t) wn (nI F) (nI o) nt (nI N) fo fl me se np ac ta rd rc op ag cl pr bu aa pc st pg dl wk us xw ws so ds kd pa lo ar sl hd ct := by
          intro z0 r c1 c2 hr hz
          have last : i_Rel (k + 5) (nI P, de, nI K, sd, nI t, wn, nI F, nI o, nt, nI (N + 1), fo, fl, me, se, np, ac, ta, rd, rc, op, ag, cl, pr, bu, aa, pc, st, pg, dl, wk, us, xw, ws, upd so N (nI a), upd ds N (nI b), upd kd N v3, upd pa N r, lo, ar, sl, hd, ct) (nI P, de, nI K, nI t, nI F, wn, nI (N + 1), sp, sd, fo, la, op, ag, cl, pr, bu, aa, pc, st, pg, us, dl, wk, yw, ws, pl, wd, ac, ta, upd so N (nI a), upd ds N (nI b), upd kd N v3, upd pa N r, lo, ar, ot, oc, nn, nc) := by
            refine sk_mk (B := B) ⟨hP1, hP, hD, hK, hK4, by omega, hW, ht, ho, hsd, hcl, hop, hbu, fun c hc => ?_, fun c hc hkd => ?_, hfo, hfl, hla, hfr, hlz⟩ R
            · by_cases e : c = N
              · exact ⟨b, hb, by rw [e, pk_us]⟩
              · rw [pk_un e]; exact hds c (by omega)
            · by_cases e : c = N
              · rw [e, pk_us] at hkd
                rcases hr with q | ⟨m, hm, q⟩
                · exact absurd q hkd
                · exact ⟨m, hm, by rw [e, pk_us]; exact q⟩
              · rw [pk_un e] at hkd ⊢; exact hpa c (by omega) hkd
          unfold wX_channel_69
          simp only [i6, c6, false_implies, true_implies, not_false_eq_true, not_true_eq_false, true_and, and_true, forall_eq, eq_self, Int32.reduceLT, Int32.reduceLE]
          refine c1 _ _ ?_
          simp only [i6, c6, nI_1, false_implies, true_implies, not_false_eq_true, not_true_eq_false, true_and, and_true, forall_eq, eq_self, Int32.reduceLT, Int32.reduceLE]
          refine br_t hs (br_f z (br_f z3 (br_f w (br_f w3 (br_f hab (br_f l0 (br_f l1 (br_t n6 ?_))))))))
          simp only [i6, c6, false_implies, true_implies, not_false_eq_true, not_true_eq_false, true_and, and_true, forall_eq, eq_self, Int32.reduceLT, Int32.reduceLE]
          rcases hz with ⟨q1, q2⟩ | ⟨q1, q2⟩
          · rw [q2] at c2
            refine br_t q1 ?_
            unfold wY_channel_95
            refine c2 _ _ ?_
            simp only [i6, c6, nI_1, eN, false_implies, true_implies, not_false_eq_true, not_true_eq_false, true_and, and_true, forall_eq, eq_self, Int32.reduceLT, Int32.reduceLE]
            exact last
          · rw [q2] at c2
            refine br_f q1 ?_
            unfold wY_channel_95
            refine c2 _ _ ?_
            simp only [i6, c6, nI_1, eN, false_implies, true_implies, not_false_eq_true, not_true_eq_false, true_and, and_true, forall_eq, eq_self, Int32.reduceLT, Int32.reduceLE]
            exact last
        by_cases h0 : v3 = 0
        · obtain ⟨r, _, _, c1, c2⟩ := sk_clamp v4 1 63 (by decide)
          exact br_t n6 (br_t h0 (go 63 r c1 c2 (Or.inl h0) (Or.inl ⟨h0, rfl⟩)))
        · obtain ⟨D, d1, d2, eD⟩ := hD
          obtain ⟨r, r1, r2, c1, c2⟩ := sk_clamp v4 1 de (by rw [eD]; exact nI_le (a := 1) d1 (by omega))
          have hr : ∃ m, m ≤ 4 ∧ r = nI m := by
            rw [eD] at r2
            obtain ⟨m, _, m2, e⟩ := sk_int (l := 1) r1 r2 (by omega) (by decide)
            exact ⟨m, by omega, e⟩
          exact br_t n6 (br_f h0 (go de r c1 c2 (Or.inr hr) (Or.inr ⟨h0, rfl⟩)))
      · have n6 : ¬ nI N < 6 := nI_nlt (b := 6) (by omega) (by omega)
        exact br_f n6 (br_t hs (br_f z (br_f z3 (br_f w (br_f w3 (br_f hab (br_f l0 (br_f l1 (br_f n6 ⟨rfl, J⟩)))))))))
    by_cases h0 : v3 = 0
    · exact br_t hs (br_f z (br_f z4 (br_f n10 (br_f w (br_f w4 (br_f n10 (br_f hab (br_t h0 (fin (by rw [h0]; decide) (by rw [h0]; decide))))))))))
    by_cases h1 : v3 = 1
    · exact br_t hs (br_f z (br_f z4 (br_f n10 (br_f w (br_f w4 (br_f n10 (br_f hab (br_f h0 (br_t h1 (fin (by rw [h1]; decide) (by rw [h1]; decide)))))))))))
    · refine br_t hs (br_f z (br_f z4 (br_f n10 (br_f w (br_f w4 (br_f n10 (br_f hab (br_f h0 (br_f h1 ?_)))))))))
      refine br_t hs (br_f z (br_f z3 (br_f w (br_f w3 (br_f hab ?_)))))
      by_cases l0 : v3 < 0
      · exact br_t l0 ⟨rfl, J⟩
      · by_cases l1 : 1 < v3
        · exact br_f l0 (br_t l1 ⟨rfl, J⟩)
        · exfalso
          obtain ⟨j, hj, e⟩ := nI_of2 (n := 1) (x := v3) (M := 1) (by decide) l0 (Int32.not_lt.mp l1)
          rcases Nat.eq_zero_or_pos j with q | q
          · exact h0 (by rw [e, q]; rfl)
          · have : j = 1 := by omega
            exact h1 (by rw [e, this]; rfl)
  · exact br_f hs (br_f hs ⟨rfl, J⟩)
end
section
theorem i_vc_state {k : Nat} {u : SX} {v : SY} (I : i_Rel k u v) (hk : k + 5 ≤ 2563) (v1 : Int32) (v2 : Int32) : wpX_state (fun r => wpY_state (fun r' => r' = r ∧ i_Rel (k + 5) u v) v v1 v2) u v1 v2 := by
  refine I (fun u v => wpX_state (fun r => wpY_state (fun r' => r' = r ∧ i_Rel (k + 5) u v) v v1 v2) u v1 v2) ?_
  intro P K t F o N B de sd wn fo fl la np ac op ag cl pr bu so ds kd pa nt me se ta rd rc aa pc st pg dl wk us xw ws lo ar sl hd ct sp yw pl wd ot oc nn nc hC R
  have J : i_Rel (k + 5) (nI P, de, nI K, sd, nI t, wn, nI F, nI o, nt, nI N, fo, fl, me, se, np, ac, ta, rd, rc, op, ag, cl, pr, bu, aa, pc, st, pg, dl, wk, us, xw, ws, so, ds, kd, pa, lo, ar, sl, hd, ct) (nI P, de, nI K, nI t, nI F, wn, nI N, sp, sd, fo, la, op, ag, cl, pr, bu, aa, pc, st, pg, us, dl, wk, yw, ws, pl, wd, ac, ta, so, ds, kd, pa, lo, ar, ot, oc, nn, nc) := sk_mk hC R
  obtain ⟨hP1, hP, hD, hK, hK4, hN, hW, ht, ho, hsd, hcl, hop, hbu, hds, hpa, hfo, hfl, hla, hfr, hlz⟩ := hC
  rcases sk_isp (P := P) (de := de) (K := K) (sd := sd) (t := t) (wn := wn) (F := F) (o := o) (nt := nt) (N := N) (fo := fo) (fl := fl) (me := me) (se := se) (np := np) (ac := ac) (ta := ta) (rd := rd) (rc := rc) (op := op) (ag := ag) (cl := cl) (pr := pr) (bu := bu) (aa := aa) (pc := pc) (st := st) (pg := pg) (dl := dl) (wk := wk) (us := us) (xw := xw) (ws := ws) (so := so) (ds := ds) (kd := kd) (pa := pa) (lo := lo) (ar := ar) (sl := sl) (hd := hd) (ct := ct) (sp := sp) (la := la) (yw := yw) (pl := pl) (wd := wd) (ot := ot) (oc := oc) (nn := nn) (nc := nc) hP v1 v2 with ⟨x1, y1⟩ | ⟨a, b, ha, hb, rfl, rfl, x1, y1⟩
  · unfold wpX_state
    refine x1 _ (br_t rfl ?_)
    unfold wpY_state
    exact y1 _ (br_f (by decide) ⟨rfl, J⟩)
  · have iX : vp_in (nI a * 3 + nI b) 12 := by rw [sk_m3, nI_add]; exact vp_in_nI (by omega) (by omega)
    have cX : (nI a * 3 + nI b).toNatClampNeg = a * 3 + b := by rw [sk_m3, nI_add]; exact nI_clamp (by omega)
    have iY : vp_in (3 * nI a + nI b) 12 := by rw [sk_3m, nI_add]; exact vp_in_nI (by omega) (by omega)
    have cY : (3 * nI a + nI b).toNatClampNeg = a * 3 + b := by rw [sk_3m, nI_add]; exact nI_clamp (by omega)
    unfold wpX_state
    refine x1 _ (br_f (by decide) (And.intro iX ?_))
    unfold wpY_state
    exact y1 _ (br_t rfl (And.intro iY ⟨by rw [cX, cY], J⟩))
theorem i_vc_acc {k : Nat} {u : SX} {v : SY} (I : i_Rel k u v) (hk : k + 5 ≤ 2563) (v1 : Int32) (v2 : Int32) : wpX_acc (fun r => wpY_acc (fun r' => r' = r ∧ i_Rel (k + 5) u v) v v1 v2) u v1 v2 := by
  refine I (fun u v => wpX_acc (fun r => wpY_acc (fun r' => r' = r ∧ i_Rel (k + 5) u v) v v1 v2) u v1 v2) ?_
  intro P K t F o N B de sd wn fo fl la np ac op ag cl pr bu so ds kd pa nt me se ta rd rc aa pc st pg dl wk us xw ws lo ar sl hd ct sp yw pl wd ot oc nn nc hC R
  have J : i_Rel (k + 5) (nI P, de, nI K, sd, nI t, wn, nI F, nI o, nt, nI N, fo, fl, me, se, np, ac, ta, rd, rc, op, ag, cl, pr, bu, aa, pc, st, pg, dl, wk, us, xw, ws, so, ds, kd, pa, lo, ar, sl, hd, ct) (nI P, de, nI K, nI t, nI F, wn, nI N, sp, sd, fo, la, op, ag, cl, pr, bu, aa, pc, st, pg, us, dl, wk, yw, ws, pl, wd, ac, ta, so, ds, kd, pa, lo, ar, ot, oc, nn, nc) := sk_mk hC R
  obtain ⟨hP1, hP, hD, hK, hK4, hN, hW, ht, ho, hsd, hcl, hop, hbu, hds, hpa, hfo, hfl, hla, hfr, hlz⟩ := hC
  rcases sk_isp (P := P) (de := de) (K := K) (sd := sd) (t := t) (wn := wn) (F := F) (o := o) (nt := nt) (N := N) (fo := fo) (fl := fl) (me := me) (se := se) (np := np) (ac := ac) (ta := ta) (rd := rd) (rc := rc) (op := op) (ag := ag) (cl := cl) (pr := pr) (bu := bu) (aa := aa) (pc := pc) (st := st) (pg := pg) (dl := dl) (wk := wk) (us := us) (xw := xw) (ws := ws) (so := so) (ds := ds) (kd := kd) (pa := pa) (lo := lo) (ar := ar) (sl := sl) (hd := hd) (ct := ct) (sp := sp) (la := la) (yw := yw) (pl := pl) (wd := wd) (ot := ot) (oc := oc) (nn := nn) (nc := nc) hP v1 v2 with ⟨x1, y1⟩ | ⟨a, b, ha, hb, rfl, rfl, x1, y1⟩
  · unfold wpX_acc
    refine x1 _ (br_t rfl ?_)
    unfold wpY_acc
    exact y1 _ (br_f (by decide) ⟨rfl, J⟩)
  · have iX : vp_in (nI a * 3 + nI b) 12 := by rw [sk_m3, nI_add]; exact vp_in_nI (by omega) (by omega)
    have cX : (nI a * 3 + nI b).toNatClampNeg = a * 3 + b := by rw [sk_m3, nI_add]; exact nI_clamp (by omega)
    have iY : vp_in (3 * nI a + nI b) 12 := by rw [sk_3m, nI_add]; exact vp_in_nI (by omega) (by omega)
    have cY : (3 * nI a + nI b).toNatClampNeg = a * 3 + b := by rw [sk_3m, nI_add]; exact nI_clamp (by omega)
    unfold wpX_acc
    refine x1 _ (br_f (by decide) (And.intro iX ?_))
    unfold wpY_acc
    exact y1 _ (br_t rfl (And.intro iY ⟨by rw [cX, cY], J⟩))
theorem i_vc_pc {k : Nat} {u : SX} {v : SY} (I : i_Rel k u v) (hk : k + 5 ≤ 2563) (v1 : Int32) (v2 : Int32) : wpX_pc (fun r => wpY_pc (fun r' => r' = r ∧ i_Rel (k + 5) u v) v v1 v2) u v1 v2 := by
  refine I (fun u v => wpX_pc (fun r => wpY_pc (fun r' => r' = r ∧ i_Rel (k + 5) u v) v v1 v2) u v1 v2) ?_
  intro P K t F o N B de sd wn fo fl la np ac op ag cl pr bu so ds kd pa nt me se ta rd rc aa pc st pg dl wk us xw ws lo ar sl hd ct sp yw pl wd ot oc nn nc hC R
  have J : i_Rel (k + 5) (nI P, de, nI K, sd, nI t, wn, nI F, nI o, nt, nI N, fo, fl, me, se, np, ac, ta, rd, rc, op, ag, cl, pr, bu, aa, pc, st, pg, dl, wk, us, xw, ws, so, ds, kd, pa, lo, ar, sl, hd, ct) (nI P, de, nI K, nI t, nI F, wn, nI N, sp, sd, fo, la, op, ag, cl, pr, bu, aa, pc, st, pg, us, dl, wk, yw, ws, pl, wd, ac, ta, so, ds, kd, pa, lo, ar, ot, oc, nn, nc) := sk_mk hC R
  obtain ⟨hP1, hP, hD, hK, hK4, hN, hW, ht, ho, hsd, hcl, hop, hbu, hds, hpa, hfo, hfl, hla, hfr, hlz⟩ := hC
  rcases sk_isp (P := P) (de := de) (K := K) (sd := sd) (t := t) (wn := wn) (F := F) (o := o) (nt := nt) (N := N) (fo := fo) (fl := fl) (me := me) (se := se) (np := np) (ac := ac) (ta := ta) (rd := rd) (rc := rc) (op := op) (ag := ag) (cl := cl) (pr := pr) (bu := bu) (aa := aa) (pc := pc) (st := st) (pg := pg) (dl := dl) (wk := wk) (us := us) (xw := xw) (ws := ws) (so := so) (ds := ds) (kd := kd) (pa := pa) (lo := lo) (ar := ar) (sl := sl) (hd := hd) (ct := ct) (sp := sp) (la := la) (yw := yw) (pl := pl) (wd := wd) (ot := ot) (oc := oc) (nn := nn) (nc := nc) hP v1 v2 with ⟨x1, y1⟩ | ⟨a, b, ha, hb, rfl, rfl, x1, y1⟩
  · unfold wpX_pc
    refine x1 _ (br_t rfl ?_)
    unfold wpY_pc
    exact y1 _ (br_f (by decide) ⟨rfl, J⟩)
  · have iX : vp_in (nI a * 3 + nI b) 12 := by rw [sk_m3, nI_add]; exact vp_in_nI (by omega) (by omega)
    have cX : (nI a * 3 + nI b).toNatClampNeg = a * 3 + b := by rw [sk_m3, nI_add]; exact nI_clamp (by omega)
    have iY : vp_in (3 * nI a + nI b) 12 := by rw [sk_3m, nI_add]; exact vp_in_nI (by omega) (by omega)
    have cY : (3 * nI a + nI b).toNatClampNeg = a * 3 + b := by rw [sk_3m, nI_add]; exact nI_clamp (by omega)
    unfold wpX_pc
    refine x1 _ (br_f (by decide) (And.intro iX ?_))
    unfold wpY_pc
    exact y1 _ (br_t rfl (And.intro iY ⟨by rw [cX, cY], J⟩))
theorem i_vc_word {k : Nat} {u : SX} {v : SY} (I : i_Rel k u v) (hk : k + 5 ≤ 2563) (v1 : Int32) (v2 : Int32) : wpX_word (fun r => wpY_word (fun r' => r' = r ∧ i_Rel (k + 5) u v) v v1 v2) u v1 v2 := by
  refine I (fun u v => wpX_word (fun r => wpY_word (fun r' => r' = r ∧ i_Rel (k + 5) u v) v v1 v2) u v1 v2) ?_
  intro P K t F o N B de sd wn fo fl la np ac op ag cl pr bu so ds kd pa nt me se ta rd rc aa pc st pg dl wk us xw ws lo ar sl hd ct sp yw pl wd ot oc nn nc hC R
  have J : i_Rel (k + 5) (nI P, de, nI K, sd, nI t, wn, nI F, nI o, nt, nI N, fo, fl, me, se, np, ac, ta, rd, rc, op, ag, cl, pr, bu, aa, pc, st, pg, dl, wk, us, xw, ws, so, ds, kd, pa, lo, ar, sl, hd, ct) (nI P, de, nI K, nI t, nI F, wn, nI N, sp, sd, fo, la, op, ag, cl, pr, bu, aa, pc, st, pg, us, dl, wk, yw, ws, pl, wd, ac, ta, so, ds, kd, pa, lo, ar, ot, oc, nn, nc) := sk_mk hC R
  have n10 : ¬ (1 : Int32) = 0 := by decide
  rcases sk_par v1 with z | ⟨z, z3, _, z4⟩ | ⟨a, ha, rfl, z, z3, _, z4⟩
  · exact br_t z (br_t rfl (br_t z ⟨rfl, J⟩))
  · exact br_f z (br_t z4 (br_t rfl (br_f z (br_t z3 ⟨rfl, J⟩))))
  · by_cases h1 : v2 < 0
    · exact br_f z (br_f z4 (br_f n10 (br_t h1 (br_f z (br_f z3 (br_t h1 ⟨rfl, J⟩))))))
    by_cases h2 : v2 ≤ 10
    · obtain ⟨i, hi, rfl⟩ := nI_of2 (n := 10) (by decide) h1 h2
      obtain ⟨q1, q2, q3⟩ := R.2.2.2.2.2.2.1 a ha
      have iY : vp_in (11 * nI a + nI i) 44 := by rw [sk_11m, nI_add]; exact vp_in_nI (by omega) (by omega)
      have cY : (11 * nI a + nI i).toNatClampNeg = a * 11 + i := by rw [sk_11m, nI_add]; exact nI_clamp (by omega)
      by_cases h8 : 8 ≤ i
      · have l8 : (8 : Int32) ≤ nI i := nI_le (a := 8) h8 (by omega)
        by_cases h10 : 10 ≤ i
        · have l10 : (10 : Int32) ≤ nI i := nI_le (a := 10) h10 (by omega)
          have i4 : vp_in (nI a) 4 := vp_in_nI ha (by omega)
          have c4 : (nI a).toNatClampNeg = a := nI_clamp (by omega)
          have e : i = 10 := by omega
          refine br_f z (br_f z4 (br_f n10 (br_f h1 (br_t h2 (br_t l8 (br_t l10 (And.intro i4 ?_)))))))
          exact br_f z (br_f z3 (br_f h1 (br_t h2 (And.intro iY ⟨by rw [cY, c4, e]; exact q3, J⟩))))
        · have l10 : ¬ (10 : Int32) ≤ nI i := nI_ge (b := 10) (by omega) (by decide)
          have eX : nI a * 2 + nI i - 8 = nI (a * 2 + (i - 8)) := by
            rw [sk_m2, nI_add]
            exact (pk_sub (b := 8) (by omega)).trans (congrArg nI (by omega))
          have iX : vp_in (nI a * 2 + nI i - 8) 8 := by rw [eX]; exact vp_in_nI (by omega) (by omega)
          have cX : (nI a * 2 + nI i - 8).toNatClampNeg = a * 2 + (i - 8) := by rw [eX]; exact nI_clamp (by omega)
          have e : a * 11 + i = a * 11 + 8 + (i - 8) := by omega
          refine br_f z (br_f z4 (br_f n10 (br_f h1 (br_t h2 (br_t l8 (br_f l10 (And.intro iX ?_)))))))
          exact br_f z (br_f z3 (br_f h1 (br_t h2 (And.intro iY ⟨by rw [cY, cX, e]; exact q2 _ (by omega), J⟩))))
      · have l8 : ¬ (8 : Int32) ≤ nI i := nI_ge (b := 8) (by omega) (by decide)
        have iX : vp_in (nI a * 8 + nI i) 32 := by rw [sk_m8, nI_add]; exact vp_in_nI (by omega) (by omega)
        have cX : (nI a * 8 + nI i).toNatClampNeg = a * 8 + i := by rw [sk_m8, nI_add]; exact nI_clamp (by omega)
        refine br_f z (br_f z4 (br_f n10 (br_f h1 (br_t h2 (br_f l8 (And.intro iX ?_))))))
        exact br_f z (br_f z3 (br_f h1 (br_t h2 (And.intro iY ⟨by rw [cY, cX]; exact q1 i (by omega), J⟩))))
    · exact br_f z (br_f z4 (br_f n10 (br_f h1 (br_f h2 (br_f z (br_f z3 (br_f h1 (br_f h2 ⟨rfl, J⟩))))))))
theorem i_vc_clock {k : Nat} {u : SX} {v : SY} (I : i_Rel k u v) (hk : k + 5 ≤ 2563) (v1 : Int32) (v2 : Int32) (v3 : Int32) : wpX_clock (fun r => wpY_clock (fun r' => r' = r ∧ i_Rel (k + 5) u v) v v1 v2 v3) u v1 v2 v3 := by
  refine I (fun u v => wpX_clock (fun r => wpY_clock (fun r' => r' = r ∧ i_Rel (k + 5) u v) v v1 v2 v3) u v1 v2 v3) ?_
  intro P K t F o N B de sd wn fo fl la np ac op ag cl pr bu so ds kd pa nt me se ta rd rc aa pc st pg dl wk us xw ws lo ar sl hd ct sp yw pl wd ot oc nn nc hC R
  have J : i_Rel (k + 5) (nI P, de, nI K, sd, nI t, wn, nI F, nI o, nt, nI N, fo, fl, me, se, np, ac, ta, rd, rc, op, ag, cl, pr, bu, aa, pc, st, pg, dl, wk, us, xw, ws, so, ds, kd, pa, lo, ar, sl, hd, ct) (nI P, de, nI K, nI t, nI F, wn, nI N, sp, sd, fo, la, op, ag, cl, pr, bu, aa, pc, st, pg, us, dl, wk, yw, ws, pl, wd, ac, ta, so, ds, kd, pa, lo, ar, ot, oc, nn, nc) := sk_mk hC R
  obtain ⟨hP1, hP, hD, hK, hK4, hN, hW, ht, ho, hsd, hcl, hop, hbu, hds, hpa, hfo, hfl, hla, hfr, hlz⟩ := hC
  have n10 : ¬ (1 : Int32) = 0 := by decide
  rcases sk_isp (P := P) (de := de) (K := K) (sd := sd) (t := t) (wn := wn) (F := F) (o := o) (nt := nt) (N := N) (fo := fo) (fl := fl) (me := me) (se := se) (np := np) (ac := ac) (ta := ta) (rd := rd) (rc := rc) (op := op) (ag := ag) (cl := cl) (pr := pr) (bu := bu) (aa := aa) (pc := pc) (st := st) (pg := pg) (dl := dl) (wk := wk) (us := us) (xw := xw) (ws := ws) (so := so) (ds := ds) (kd := kd) (pa := pa) (lo := lo) (ar := ar) (sl := sl) (hd := hd) (ct := ct) (sp := sp) (la := la) (yw := yw) (pl := pl) (wd := wd) (ot := ot) (oc := oc) (nn := nn) (nc := nc) hP v1 v2 with ⟨x1, y1⟩ | ⟨a, b, ha, hb, rfl, rfl, x1, y1⟩
  · unfold wpX_clock
    refine x1 _ (br_t rfl ?_)
    unfold wpY_clock
    exact y1 _ (br_f (by decide) ⟨rfl, J⟩)
  · have eX : nI a * 3 + nI b = nI (a * 3 + b) := by rw [sk_m3, nI_add]
    have eY : 3 * nI a + nI b = nI (a * 3 + b) := by rw [sk_3m, nI_add]
    have i12 : vp_in (nI (a * 3 + b)) 12 := vp_in_nI (by omega) (by omega)
    have cg : (nI (a * 3 + b)).toNatClampNeg = a * 3 + b := nI_clamp (by omega)
    by_cases h1 : v3 < 0
    · unfold wpX_clock
      refine x1 _ (br_f n10 (nm_r eX (br_t h1 ?_)))
      unfold wpY_clock
      exact y1 _ (br_t rfl (br_t h1 ⟨rfl, J⟩))
    by_cases h2 : v3 ≤ 4
    · have h2' : ¬ 4 < v3 := Int32.not_lt.mpr h2
      by_cases w0 : v3 = 0
      · by_cases hd0 : 0 ≤ dl (a * 3 + b)
        · unfold wpX_clock
          refine x1 _ (br_f n10 (nm_r eX (br_f h1 (br_f h2' (br_t w0 (And.intro i12 (br_t (by rw [cg]; exact hd0) (And.intro i12 ?_))))))))
          unfold wpY_clock
          exact y1 _ (br_t rfl (br_f h1 (br_t h2 (nm_r eY (br_t w0 (And.intro i12 (br_t (by rw [cg]; exact hd0) (And.intro i12 ⟨rfl, J⟩))))))))
        · unfold wpX_clock
          refine x1 _ (br_f n10 (nm_r eX (br_f h1 (br_f h2' (br_t w0 (And.intro i12 (br_f (by rw [cg]; exact hd0) ?_)))))))
          unfold wpY_clock
          exact y1 _ (br_t rfl (br_f h1 (br_t h2 (nm_r eY (br_t w0 (And.intro i12 (br_f (by rw [cg]; exact hd0) ⟨rfl, J⟩)))))))
      by_cases w1 : v3 = 1
      · by_cases hst : st (a * 3 + b) = 2
        · unfold wpX_clock
          refine x1 _ (br_f n10 (nm_r eX (br_f h1 (br_f h2' (br_f w0 (br_t w1 (And.intro i12 (br_t (by rw [cg]; exact hst) (And.intro i12 ?_)))))))))
          unfold wpY_clock
          exact y1 _ (br_t rfl (br_f h1 (br_t h2 (nm_r eY (br_f w0 (br_t w1 (And.intro i12 (br_t (by rw [cg]; exact hst) (And.intro i12 ⟨rfl, J⟩)))))))))
        · unfold wpX_clock
          refine x1 _ (br_f n10 (nm_r eX (br_f h1 (br_f h2' (br_f w0 (br_t w1 (And.intro i12 (br_f (by rw [cg]; exact hst) ?_))))))))
          unfold wpY_clock
          exact y1 _ (br_t rfl (br_f h1 (br_t h2 (nm_r eY (br_f w0 (br_t w1 (And.intro i12 (br_f (by rw [cg]; exact hst) ⟨rfl, J⟩))))))))
      by_cases w2 : v3 = 2
      · unfold wpX_clock
        refine x1 _ (br_f n10 (nm_r eX (br_f h1 (br_f h2' (br_f w0 (br_f w1 (br_t w2 (And.intro i12 ?_))))))))
        unfold wpY_clock
        exact y1 _ (br_t rfl (br_f h1 (br_t h2 (nm_r eY (br_f w0 (br_f w1 (br_t w2 (And.intro i12 ⟨rfl, J⟩))))))))
      by_cases w3 : v3 = 3
      · unfold wpX_clock
        refine x1 _ (br_f n10 (nm_r eX (br_f h1 (br_f h2' (br_f w0 (br_f w1 (br_f w2 (br_t w3 (And.intro i12 ?_)))))))))
        unfold wpY_clock
        exact y1 _ (br_t rfl (br_f h1 (br_t h2 (nm_r eY (br_f w0 (br_f w1 (br_f w2 (br_t w3 (And.intro i12 ⟨rfl, J⟩)))))))))
      have w4 : v3 = 4 := by
        obtain ⟨i, hi, e⟩ := nI_of2 (n := 4) (by decide) h1 h2
        have c : i = 0 ∨ i = 1 ∨ i = 2 ∨ i = 3 ∨ i = 4 := by omega
        rcases c with rfl | rfl | rfl | rfl | rfl
        · exact absurd e w0
        · exact absurd e w1
        · exact absurd e w2
        · exact absurd e w3
        · exact e
      obtain ⟨a1, a2⟩ := R.2.1 (a * 3 + b) (by omega)
      unfold wpX_clock
      refine x1 _ (br_f n10 (nm_r eX (br_f h1 (br_f h2' (br_f w0 (br_f w1 (br_f w2 (br_f w3 (br_t w4 (And.intro i12 ?_))))))))))
      unfold wpY_clock
      refine y1 _ (br_t rfl (br_f h1 (br_t h2 (nm_r eY (br_f w0 (br_f w1 (br_f w2 (br_f w3 (And.intro i12 ?_)))))))))
      by_cases s3 : st (a * 3 + b) = 3
      · exact br_t (by rw [cg]; exact s3) (And.intro i12 ⟨by rw [cg]; exact (a1 (Or.inl s3)).symm, J⟩)
      · refine br_f (by rw [cg]; exact s3) (And.intro i12 ?_)
        by_cases s4 : st (a * 3 + b) = 4
        · exact br_t (by rw [cg]; exact s4) (And.intro i12 ⟨by rw [cg]; exact (a1 (Or.inr s4)).symm, J⟩)
        · exact br_f (by rw [cg]; exact s4) ⟨by rw [cg]; exact (a2 (fun z => z.elim s3 s4)).symm, J⟩
    · have h2' : 4 < v3 := Int32.not_le.mp h2
      unfold wpX_clock
      refine x1 _ (br_f n10 (nm_r eX (br_f h1 (br_t h2' ?_))))
      unfold wpY_clock
      exact y1 _ (br_t rfl (br_f h1 (br_f h2 ⟨rfl, J⟩)))
theorem i_vc_tally {k : Nat} {u : SX} {v : SY} (I : i_Rel k u v) (hk : k + 5 ≤ 2563) (v1 : Int32) (v2 : Int32) : wpX_tally (fun r => wpY_tally (fun r' => r' = r ∧ i_Rel (k + 5) u v) v v1 v2) u v1 v2 := by
  refine I (fun u v => wpX_tally (fun r => wpY_tally (fun r' => r' = r ∧ i_Rel (k + 5) u v) v v1 v2) u v1 v2) ?_
  intro P K t F o N B de sd wn fo fl la np ac op ag cl pr bu so ds kd pa nt me se ta rd rc aa pc st pg dl wk us xw ws lo ar sl hd ct sp yw pl wd ot oc nn nc hC R
  have J : i_Rel (k + 5) (nI P, de, nI K, sd, nI t, wn, nI F, nI o, nt, nI N, fo, fl, me, se, np, ac, ta, rd, rc, op, ag, cl, pr, bu, aa, pc, st, pg, dl, wk, us, xw, ws, so, ds, kd, pa, lo, ar, sl, hd, ct) (nI P, de, nI K, nI t, nI F, wn, nI N, sp, sd, fo, la, op, ag, cl, pr, bu, aa, pc, st, pg, us, dl, wk, yw, ws, pl, wd, ac, ta, so, ds, kd, pa, lo, ar, ot, oc, nn, nc) := sk_mk hC R
  have n10 : ¬ (1 : Int32) = 0 := by decide
  rcases sk_par v1 with z | ⟨z, z3, _, z4⟩ | ⟨a, ha, rfl, z, z3, _, z4⟩
  · exact br_t z (br_t rfl (br_t z ⟨rfl, J⟩))
  · exact br_f z (br_t z4 (br_t rfl (br_f z (br_t z3 ⟨rfl, J⟩))))
  · by_cases h1 : v2 < 0
    · exact br_f z (br_f z4 (br_f n10 (br_t h1 (br_f z (br_f z3 (br_t h1 ⟨rfl, J⟩))))))
    by_cases h2 : v2 ≤ 2
    · obtain ⟨b, hb, rfl⟩ := nI_of2 (n := 2) (by decide) h1 h2
      have iX : vp_in (nI a * 3 + nI b) 12 := by rw [sk_m3, nI_add]; exact vp_in_nI (by omega) (by omega)
      have cX : (nI a * 3 + nI b).toNatClampNeg = a * 3 + b := by rw [sk_m3, nI_add]; exact nI_clamp (by omega)
      have iY : vp_in (3 * nI a + nI b) 12 := by rw [sk_3m, nI_add]; exact vp_in_nI (by omega) (by omega)
      have cY : (3 * nI a + nI b).toNatClampNeg = a * 3 + b := by rw [sk_3m, nI_add]; exact nI_clamp (by omega)
      exact br_f z (br_f z4 (br_f n10 (br_f h1 (br_t h2 (And.intro iX (br_f z (br_f z3 (br_f h1 (br_t h2 (And.intro iY ⟨by rw [cX, cY], J⟩))))))))))
    · exact br_f z (br_f z4 (br_f n10 (br_f h1 (br_f h2 (br_f z (br_f z3 (br_f h1 (br_f h2 ⟨rfl, J⟩))))))))
theorem i_vc_chosen {k : Nat} {u : SX} {v : SY} (I : i_Rel k u v) (hk : k + 5 ≤ 2563) (v1 : Int32) : wpX_chosen (fun r => wpY_chosen (fun r' => r' = r ∧ i_Rel (k + 5) u v) v v1) u v1 := by
  refine I (fun u v => wpX_chosen (fun r => wpY_chosen (fun r' => r' = r ∧ i_Rel (k + 5) u v) v v1) u v1) ?_
  intro P K t F o N B de sd wn fo fl la np ac op ag cl pr bu so ds kd pa nt me se ta rd rc aa pc st pg dl wk us xw ws lo ar sl hd ct sp yw pl wd ot oc nn nc hC R
  have J : i_Rel (k + 5) (nI P, de, nI K, sd, nI t, wn, nI F, nI o, nt, nI N, fo, fl, me, se, np, ac, ta, rd, rc, op, ag, cl, pr, bu, aa, pc, st, pg, dl, wk, us, xw, ws, so, ds, kd, pa, lo, ar, sl, hd, ct) (nI P, de, nI K, nI t, nI F, wn, nI N, sp, sd, fo, la, op, ag, cl, pr, bu, aa, pc, st, pg, us, dl, wk, yw, ws, pl, wd, ac, ta, so, ds, kd, pa, lo, ar, ot, oc, nn, nc) := sk_mk hC R
  obtain ⟨hP1, hP, hD, hK, hK4, hN, hW, ht, ho, hsd, hcl, hop, hbu, hds, hpa, hfo, hfl, hla, hfr, hlz⟩ := hC
  have n10 : ¬ (1 : Int32) = 0 := by decide
  rcases sk_par v1 with z | ⟨z, _, z3, z4⟩ | ⟨a, ha, rfl, z, _, z3, z4⟩
  · exact br_t z (br_t rfl (br_t z ⟨rfl, J⟩))
  · exact br_f z (br_t z4 (br_t rfl (br_f z (br_f z3 ⟨rfl, J⟩))))
  · rcases sk_pick (P := P) (de := de) (K := K) (sd := sd) (t := t) (wn := wn) (F := F) (o := o) (nt := nt) (N := N) (fo := fo) (fl := fl) (me := me) (se := se) (np := np) (ac := ac) (ta := ta) (rd := rd) (rc := rc) (op := op) (ag := ag) (cl := cl) (pr := pr) (bu := bu) (aa := aa) (pc := pc) (st := st) (pg := pg) (dl := dl) (wk := wk) (us := us) (xw := xw) (ws := ws) (so := so) (ds := ds) (kd := kd) (pa := pa) (lo := lo) (ar := ar) (sl := sl) (hd := hd) (ct := ct) (sp := sp) (la := la) (yw := yw) (pl := pl) (wd := wd) (ot := ot) (oc := oc) (nn := nn) (nc := nc) (M := sk_z) (B := B) R hP hK4 ha with ⟨_, x1, y1⟩ | ⟨g, g1, g2, g3, g4, x1, y1⟩
    · exact br_f z (br_f z4 (br_f n10 (x1 _ (br_f (by decide) (y1 _ ⟨rfl, J⟩)))))
    · have e : nI g - nI a * 3 = nI (g - a * 3) := by rw [sk_m3]; exact pk_sub (by omega)
      exact br_f z (br_f z4 (br_f n10 (x1 _ (br_t (nI_pos' (by omega)) (y1 _ ⟨by rw [e], J⟩)))))
theorem i_vc_port {k : Nat} {u : SX} {v : SY} (I : i_Rel k u v) (hk : k + 5 ≤ 2563) (v1 : Int32) (v2 : Int32) (v3 : Int32) : wpX_port (fun r => wpY_port (fun r' => r' = r ∧ i_Rel (k + 5) u v) v v1 v2 v3) u v1 v2 v3 := by
  refine I (fun u v => wpX_port (fun r => wpY_port (fun r' => r' = r ∧ i_Rel (k + 5) u v) v v1 v2 v3) u v1 v2 v3) ?_
  intro P K t F o N B de sd wn fo fl la np ac op ag cl pr bu so ds kd pa nt me se ta rd rc aa pc st pg dl wk us xw ws lo ar sl hd ct sp yw pl wd ot oc nn nc hC R
  have J : i_Rel (k + 5) (nI P, de, nI K, sd, nI t, wn, nI F, nI o, nt, nI N, fo, fl, me, se, np, ac, ta, rd, rc, op, ag, cl, pr, bu, aa, pc, st, pg, dl, wk, us, xw, ws, so, ds, kd, pa, lo, ar, sl, hd, ct) (nI P, de, nI K, nI t, nI F, wn, nI N, sp, sd, fo, la, op, ag, cl, pr, bu, aa, pc, st, pg, us, dl, wk, yw, ws, pl, wd, ac, ta, so, ds, kd, pa, lo, ar, ot, oc, nn, nc) := sk_mk hC R
  obtain ⟨hP1, hP, hD, hK, hK4, hN, hW, ht, ho, hsd, hcl, hop, hbu, hds, hpa, hfo, hfl, hla, hfr, hlz⟩ := hC
  have n10 : ¬ (1 : Int32) = 0 := by decide
  rcases sk_chan v1 hN with hv | ⟨hv, hv2⟩ | ⟨c, hc, rfl, hv, hv2⟩
  · exact br_t hv (br_t rfl (br_t hv ⟨rfl, J⟩))
  · exact br_f hv (br_t hv2 (br_t rfl (br_f hv (br_t hv2 ⟨rfl, J⟩))))
  · have i6 : vp_in (nI c) 6 := vp_in_nI (by omega) (by omega)
    have cc : (nI c).toNatClampNeg = c := nI_clamp (by omega)
    have i0 : vp_in (nI c * 2 + 0) 12 := by rw [sk_m2, sk_a0]; exact vp_in_nI (by omega) (by omega)
    have c0 : (nI c * 2 + 0).toNatClampNeg = c * 2 := by rw [sk_m2, sk_a0]; exact nI_clamp (by omega)
    have i1 : vp_in (nI c * 2 + 1) 12 := by rw [sk_m2, nI_1]; exact vp_in_nI (by omega) (by omega)
    have c1 : (nI c * 2 + 1).toNatClampNeg = c * 2 + 1 := by rw [sk_m2, nI_1]; exact nI_clamp (by omega)
    obtain ⟨⟨h, n, p1, p2, _, p4, p5, p6, p7⟩, ⟨h', n', q1, q2, _, q4, q5, q6, q7⟩⟩ := R.2.2.2.2.2.2.2 c (by omega)
    have p4' : hd (c * 2) = nI h := by rw [p4]; exact congrArg nI (Nat.mod_eq_of_lt p1)
    have p5' : ct (c * 2) = nI n := p5
    have q4' : hd (c * 2 + 1) = nI h' := by rw [q4]; exact congrArg nI (Nat.mod_eq_of_lt q1)
    have q5' : ct (c * 2 + 1) = nI n' := q5
    have n1 : (1 : Int32) = 1 := rfl
    by_cases h1 : v2 < 0
    · exact br_f hv (br_f hv2 (br_f n10 (br_t h1 (br_f hv (br_f hv2 (br_t h1 ⟨rfl, J⟩))))))
    by_cases h2 : v2 ≤ 3
    · have h2' : ¬ 3 < v2 := Int32.not_lt.mpr h2
      obtain ⟨i, hi, rfl⟩ := nI_of2 (n := 3) (by decide) h1 h2
      have hc4 : i = 0 ∨ i = 1 ∨ i = 2 ∨ i = 3 := by omega
      rcases hc4 with rfl | rfl | rfl | rfl
      · refine br_f hv (br_f hv2 (br_f n10 (br_f h1 (br_f h2' (br_t rfl ?_)))))
        by_cases m1 : v3 = -1
        · refine br_t m1 (And.intro i0 ?_)
          refine br_f hv (br_f hv2 (br_f h1 (br_t h2 (br_f (by decide) (br_f (by decide) (br_t rfl (And.intro i6 ?_)))))))
          exact br_t m1 ⟨by rw [cc, c0, p6, p5'], J⟩
        by_cases m2 : v3 < 0
        · refine br_f m1 (br_t m2 ?_)
          refine br_f hv (br_f hv2 (br_f h1 (br_t h2 (br_f (by decide) (br_f (by decide) (br_t rfl (And.intro i6 ?_)))))))
          exact br_f m1 (br_t m2 ⟨rfl, J⟩)
        by_cases m3 : v3 < nI n
        · obtain ⟨j, hj, rfl⟩ := nI_of m2
          have hjn : j < n := (nI_ltI hj (by omega)).1 m3
          have eX : (nI c * 2 + 0) * 4 + (hd (nI c * 2 + 0).toNatClampNeg + nI j &&& 3) = nI (c * 2 * 4 + (h + j) % 4) := by
            rw [c0, p4', nI_add, sk_and3 (by omega), sk_m2, sk_a0, sk_m4, nI_add]
          have iX : vp_in ((nI c * 2 + 0) * 4 + (hd (nI c * 2 + 0).toNatClampNeg + nI j &&& 3)) 48 := by rw [eX]; exact vp_in_nI (by omega) (by omega)
          have eYi : vp_in (4 * nI c + nI j) 24 := by rw [sk_4m, nI_add]; exact vp_in_nI (by omega) (by omega)
          have eY : (4 * nI c + nI j).toNatClampNeg = c * 4 + j := by rw [sk_4m, nI_add]; exact nI_clamp (by omega)
          refine br_f m1 (br_f m2 (And.intro i0 (br_t (by rw [c0, p5']; exact m3) (And.intro i0 (And.intro iX ?_)))))
          refine br_f hv (br_f hv2 (br_f h1 (br_t h2 (br_f (by decide) (br_f (by decide) (br_t rfl (And.intro i6 ?_)))))))
          refine br_f m1 (br_f m2 (br_t (by rw [cc, p6]; exact m3) (br_t rfl (And.intro eYi ⟨?_, J⟩))))
          rw [eX, eY, nI_clamp (by omega)]
          exact (p7 j (Nat.zero_le _) hjn).symm
        · refine br_f m1 (br_f m2 (And.intro i0 (br_f (by rw [c0, p5']; exact m3) ?_)))
          refine br_f hv (br_f hv2 (br_f h1 (br_t h2 (br_f (by decide) (br_f (by decide) (br_t rfl (And.intro i6 ?_)))))))
          exact br_f m1 (br_f m2 (br_f (by rw [cc, p6]; exact m3) ⟨rfl, J⟩))
      · refine br_f hv (br_f hv2 (br_f n10 (br_f h1 (br_f h2' (br_f (by decide) (br_t rfl ?_))))))
        by_cases m1 : v3 = -1
        · refine br_t m1 (And.intro i1 ?_)
          refine br_f hv (br_f hv2 (br_f h1 (br_t h2 (br_f (by decide) (br_f (by decide) (br_f (by decide) (And.intro i6 ?_)))))))
          exact br_t m1 ⟨by rw [cc, c1, q6, q5'], J⟩
        by_cases m2 : v3 < 0
        · refine br_f m1 (br_t m2 ?_)
          refine br_f hv (br_f hv2 (br_f h1 (br_t h2 (br_f (by decide) (br_f (by decide) (br_f (by decide) (And.intro i6 ?_)))))))
          exact br_f m1 (br_t m2 ⟨rfl, J⟩)
        by_cases m3 : v3 < nI n'
        · obtain ⟨j, hj, rfl⟩ := nI_of m2
          have hjn : j < n' := (nI_ltI hj (by omega)).1 m3
          have eX : (nI c * 2 + 1) * 4 + (hd (nI c * 2 + 1).toNatClampNeg + nI j &&& 3) = nI ((c * 2 + 1) * 4 + (h' + j) % 4) := by
            rw [c1, q4', nI_add, sk_and3 (by omega), sk_m2, nI_1, sk_m4, nI_add]
          have iX : vp_in ((nI c * 2 + 1) * 4 + (hd (nI c * 2 + 1).toNatClampNeg + nI j &&& 3)) 48 := by rw [eX]; exact vp_in_nI (by omega) (by omega)
          have eYi : vp_in (4 * nI c + nI j) 24 := by rw [sk_4m, nI_add]; exact vp_in_nI (by omega) (by omega)
          have eY : (4 * nI c + nI j).toNatClampNeg = c * 4 + j := by rw [sk_4m, nI_add]; exact nI_clamp (by omega)
          refine br_f m1 (br_f m2 (And.intro i1 (br_t (by rw [c1, q5']; exact m3) (And.intro i1 (And.intro iX ?_)))))
          refine br_f hv (br_f hv2 (br_f h1 (br_t h2 (br_f (by decide) (br_f (by decide) (br_f (by decide) (And.intro i6 ?_)))))))
          refine br_f m1 (br_f m2 (br_t (by rw [cc, q6]; exact m3) (br_f (by decide) (And.intro eYi ⟨?_, J⟩))))
          rw [eX, eY, nI_clamp (by omega)]
          exact (q7 j (Nat.zero_le _) hjn).symm
        · refine br_f m1 (br_f m2 (And.intro i1 (br_f (by rw [c1, q5']; exact m3) ?_)))
          refine br_f hv (br_f hv2 (br_f h1 (br_t h2 (br_f (by decide) (br_f (by decide) (br_f (by decide) (And.intro i6 ?_)))))))
          exact br_f m1 (br_f m2 (br_f (by rw [cc, q6]; exact m3) ⟨rfl, J⟩))
      · refine br_f hv (br_f hv2 (br_f n10 (br_f h1 (br_f h2' (br_f (by decide) (br_f (by decide) (br_t rfl (And.intro i6 ?_))))))))
        exact br_f hv (br_f hv2 (br_f h1 (br_t h2 (br_t rfl (And.intro i6 ⟨rfl, J⟩)))))
      · refine br_f hv (br_f hv2 (br_f n10 (br_f h1 (br_f h2' (br_f (by decide) (br_f (by decide) (br_f (by decide) (br_t rfl (And.intro i6 ?_)))))))))
        by_cases hk0 : kd c = 0
        · have hk' : kd (nI c).toNatClampNeg = 0 := by rw [cc]; exact hk0
          by_cases hn0 : n' = 0
          · have z0 : ct (nI c * 2 + 1).toNatClampNeg = 0 := by rw [c1, q5', hn0]; rfl
            have z1 : nc (nI c).toNatClampNeg ≤ 0 := by rw [cc, q6, hn0]; exact Int32.le_refl _
            refine br_t hk' (And.intro i1 (br_t z0 ?_))
            exact br_f hv (br_f hv2 (br_f h1 (br_t h2 (br_f (by decide) (br_t rfl (And.intro i6 (br_t hk' (And.intro i6 (br_t z1 ⟨rfl, J⟩)))))))))
          · have z0 : ¬ ct (nI c * 2 + 1).toNatClampNeg = 0 := by rw [c1, q5']; exact nI_ne0 (by omega) (by omega)
            have z1 : ¬ nc (nI c).toNatClampNeg ≤ 0 := by rw [cc, q6]; exact nI_nle (by omega) (by omega)
            refine br_t hk' (And.intro i1 (br_f z0 (And.intro i6 ?_)))
            exact br_f hv (br_f hv2 (br_f h1 (br_t h2 (br_f (by decide) (br_t rfl (And.intro i6 (br_t hk' (And.intro i6 (br_f z1 (And.intro i6 ⟨rfl, J⟩))))))))))
        · have hk' : ¬ kd (nI c).toNatClampNeg = 0 := by rw [cc]; exact hk0
          refine br_f hk' ?_
          exact br_f hv (br_f hv2 (br_f h1 (br_t h2 (br_f (by decide) (br_t rfl (And.intro i6 (br_f hk' ⟨rfl, J⟩)))))))
    · have h2' : 3 < v2 := Int32.not_le.mp h2
      exact br_f hv (br_f hv2 (br_f n10 (br_f h1 (br_t h2' (br_f hv (br_f hv2 (br_f h1 (br_f h2 ⟨rfl, J⟩))))))))
end
