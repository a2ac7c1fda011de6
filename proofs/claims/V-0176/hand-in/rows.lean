section
theorem pk_us {f : Nat → Int32} {k : Nat} {x : Int32} : upd f k x k = x := if_pos rfl
theorem pk_un {f : Nat → Int32} {k j : Nat} {x : Int32} (h : j ≠ k) : upd f k x j = f j := if_neg h
theorem pk_sub {a b : Nat} (h : b ≤ a) : nI a - nI b = nI (a - b) := by
  obtain ⟨c, rfl⟩ : ∃ c, a = c + b := ⟨a - b, by omega⟩
  rw [← nI_add, Int32.add_sub_cancel, Nat.add_sub_cancel]
theorem pk_m1 (n : Nat) : nI (n + 1) + (-1) = nI n := by
  rw [← nI_1, Int32.add_assoc, show (1 : Int32) + (-1) = 0 from rfl, Int32.add_zero]
theorem pk_mul (a b : Nat) : nI a * nI b = nI (a * b) := (Int32.ofNat_mul a b).symm
theorem pk_div {a d : Nat} (ha : a < 2 ^ 31) (h0 : 0 < d) (hd : d < 2 ^ 31) : nI a / nI d = nI (a / d) := by
  apply Int32.toInt_inj.mp
  rw [lg_idiv_nonneg (by rw [nI_toInt ha]; omega) (by rw [nI_toInt hd]; omega), nI_toInt ha, nI_toInt hd, nI_toInt (Nat.lt_of_le_of_lt (Nat.div_le_self a d) ha)]
  first | rfl | exact (Int.natCast_ediv _ _).symm
theorem pk_rem {a d : Nat} (ha : a < 2 ^ 31) (h0 : 0 < d) (hd : d < 2 ^ 31) : nI a - nI a / nI d * nI d = nI (a % d) := by
  rw [pk_div ha h0 hd, pk_mul, pk_sub (Nat.div_mul_le_self a d)]
  exact congrArg nI (by have := Nat.div_add_mod' a d; omega)
theorem pk_sub_toInt {a b : Nat} (ha : a < 2 ^ 30) (hb : b < 2 ^ 30) : (nI a - nI b).toInt = (a : Int) - b := by
  rw [Int32.toInt_sub, nI_toInt (by omega), nI_toInt (by omega)]
  exact Int.bmod_eq_of_le (by omega) (by omega)
theorem pk_sneg {a b : Nat} (hb : b < 2 ^ 30) (h : a < b) : nI a - nI b < 0 := by
  rw [Int32.lt_iff_toInt_lt, pk_sub_toInt (by omega) hb, show (0 : Int32).toInt = 0 from by decide]
  omega
theorem pk_ix (x : Int32) {n : Nat} (hn : n < 2 ^ 31) : x < 0 ∨ nI n ≤ x ∨ ∃ j : Nat, j < n ∧ x = nI j := by
  by_cases h : x < 0
  · exact Or.inl h
  · obtain ⟨j, hj, rfl⟩ := nI_of h
    by_cases h2 : j < n
    · exact Or.inr (Or.inr ⟨j, h2, rfl⟩)
    · exact Or.inr (Or.inl (nI_le (by omega) hj))
theorem pk_le {x y : Int32} {A B : Prop} (a b : Nat) (f : a ≤ b → A) (g : b < a → B) (hx : x = nI a := by rfl) (hy : y = nI b := by rfl) (ha : a < 2 ^ 31 := by omega) (hb : b < 2 ^ 31 := by omega) : (x ≤ y → A) ∧ (¬ x ≤ y → B) := by
  subst hx hy
  rw [nI_leI ha hb]
  exact ⟨f, fun z => g (by omega)⟩
theorem pk_lt {x y : Int32} {A B : Prop} (a b : Nat) (f : a < b → A) (g : b ≤ a → B) (hx : x = nI a := by rfl) (hy : y = nI b := by rfl) (ha : a < 2 ^ 31 := by omega) (hb : b < 2 ^ 31 := by omega) : (x < y → A) ∧ (¬ x < y → B) := by
  subst hx hy
  rw [nI_ltI ha hb]
  exact ⟨f, fun z => g (by omega)⟩
theorem pk_eq {x y : Int32} {A B : Prop} (a b : Nat) (f : a = b → A) (g : a ≠ b → B) (hx : x = nI a := by rfl) (hy : y = nI b := by rfl) (ha : a < 2 ^ 31 := by omega) (hb : b < 2 ^ 31 := by omega) : (x = y → A) ∧ (¬ x = y → B) := by
  subst hx hy
  rw [nI_eq ha hb]
  exact ⟨f, g⟩
theorem pk_in {x : Int32} (n N : Nat) (h : n < N) (hx : x = nI n := by rfl) (hN : N < 2 ^ 31 := by omega) : vp_in x N := by
  subst hx
  exact vp_in_nI h hN
theorem pk_cl {x : Int32} (n : Nat) (hx : x = nI n := by rfl) (h : n < 2 ^ 31 := by omega) : x.toNatClampNeg = n := by
  subst hx
  exact nI_clamp h
theorem pk_tn {n : Nat} (h : n < 2 ^ 32) : (nI n).toBitVec.toNat = n := Nat.mod_eq_of_lt h
theorem pk_and (x : Int32) {m : Int32} (k : Nat) (hm : m.toBitVec.toNat = 2 ^ k - 1) : x &&& m = nI (x.toBitVec.toNat % 2 ^ k) := by
  apply Int32.toBitVec_inj.mp
  apply BitVec.eq_of_toNat_eq
  rw [Int32.toBitVec_and, BitVec.toNat_and, hm, Nat.and_two_pow_sub_one_eq_mod]
  show _ = (BitVec.ofNat 32 _).toNat
  rw [BitVec.toNat_ofNat]
  exact (Nat.mod_eq_of_lt (Nat.lt_of_le_of_lt (Nat.mod_le _ _) x.toBitVec.isLt)).symm
theorem pk_andN {n : Nat} (h : n < 2 ^ 32) {m : Int32} (k : Nat) (hm : m.toBitVec.toNat = 2 ^ k - 1) : nI n &&& m = nI (n % 2 ^ k) := by
  rw [pk_and _ k hm, pk_tn h]
theorem pk_andE (x : Int32) {m : Int32} (k : Nat) (hm : m.toBitVec.toNat = 2 ^ k - 1) : ∃ j : Nat, j < 2 ^ k ∧ x &&& m = nI j := ⟨_, Nat.mod_lt _ (Nat.two_pow_pos k), pk_and x k hm⟩
theorem na_l1 {i : Nat} (h : i < 2 ^ 31) : ((1 : Int32) ≤ nI i) ↔ 1 ≤ i := nI_leI (a := 1) (by omega) h
theorem na_g1 {i : Nat} (h : i < 2 ^ 31) : (nI i ≤ (1 : Int32)) ↔ i ≤ 1 := nI_leI (b := 1) h (by omega)
theorem na_ll1 {i : Nat} (h : i < 2 ^ 31) : ((1 : Int32) < nI i) ↔ 1 < i := nI_ltI (a := 1) (by omega) h
theorem na_gl1 {i : Nat} (h : i < 2 ^ 31) : (nI i < (1 : Int32)) ↔ i < 1 := nI_ltI (b := 1) h (by omega)
theorem na_e1 {i : Nat} (h : i < 2 ^ 31) : (nI i = (1 : Int32)) ↔ i = 1 := nI_eq (b := 1) h (by omega)
theorem na_ap1 (i : Nat) : nI i + (1 : Int32) = nI (i + 1) := nI_add i 1
theorem na_pa1 (i : Nat) : (1 : Int32) + nI i = nI (1 + i) := nI_add 1 i
theorem na_m1 (i : Nat) : (1 : Int32) * nI i = nI (1 * i) := pk_mul 1 i
theorem na_mr1 (i : Nat) : nI i * (1 : Int32) = nI (i * 1) := pk_mul i 1
theorem na_s1 {i : Nat} (h : 1 ≤ i) : nI i - (1 : Int32) = nI (i - 1) := pk_sub h
theorem na_l2 {i : Nat} (h : i < 2 ^ 31) : ((2 : Int32) ≤ nI i) ↔ 2 ≤ i := nI_leI (a := 2) (by omega) h
theorem na_g2 {i : Nat} (h : i < 2 ^ 31) : (nI i ≤ (2 : Int32)) ↔ i ≤ 2 := nI_leI (b := 2) h (by omega)
theorem na_ll2 {i : Nat} (h : i < 2 ^ 31) : ((2 : Int32) < nI i) ↔ 2 < i := nI_ltI (a := 2) (by omega) h
theorem na_gl2 {i : Nat} (h : i < 2 ^ 31) : (nI i < (2 : Int32)) ↔ i < 2 := nI_ltI (b := 2) h (by omega)
theorem na_e2 {i : Nat} (h : i < 2 ^ 31) : (nI i = (2 : Int32)) ↔ i = 2 := nI_eq (b := 2) h (by omega)
theorem na_ap2 (i : Nat) : nI i + (2 : Int32) = nI (i + 2) := nI_add i 2
theorem na_pa2 (i : Nat) : (2 : Int32) + nI i = nI (2 + i) := nI_add 2 i
theorem na_m2 (i : Nat) : (2 : Int32) * nI i = nI (2 * i) := pk_mul 2 i
theorem na_mr2 (i : Nat) : nI i * (2 : Int32) = nI (i * 2) := pk_mul i 2
theorem na_s2 {i : Nat} (h : 2 ≤ i) : nI i - (2 : Int32) = nI (i - 2) := pk_sub h
theorem na_l3 {i : Nat} (h : i < 2 ^ 31) : ((3 : Int32) ≤ nI i) ↔ 3 ≤ i := nI_leI (a := 3) (by omega) h
theorem na_g3 {i : Nat} (h : i < 2 ^ 31) : (nI i ≤ (3 : Int32)) ↔ i ≤ 3 := nI_leI (b := 3) h (by omega)
theorem na_ll3 {i : Nat} (h : i < 2 ^ 31) : ((3 : Int32) < nI i) ↔ 3 < i := nI_ltI (a := 3) (by omega) h
theorem na_gl3 {i : Nat} (h : i < 2 ^ 31) : (nI i < (3 : Int32)) ↔ i < 3 := nI_ltI (b := 3) h (by omega)
theorem na_e3 {i : Nat} (h : i < 2 ^ 31) : (nI i = (3 : Int32)) ↔ i = 3 := nI_eq (b := 3) h (by omega)
theorem na_ap3 (i : Nat) : nI i + (3 : Int32) = nI (i + 3) := nI_add i 3
theorem na_pa3 (i : Nat) : (3 : Int32) + nI i = nI (3 + i) := nI_add 3 i
theorem na_m3 (i : Nat) : (3 : Int32) * nI i = nI (3 * i) := pk_mul 3 i
theorem na_mr3 (i : Nat) : nI i * (3 : Int32) = nI (i * 3) := pk_mul i 3
theorem na_s3 {i : Nat} (h : 3 ≤ i) : nI i - (3 : Int32) = nI (i - 3) := pk_sub h
theorem na_l4 {i : Nat} (h : i < 2 ^ 31) : ((4 : Int32) ≤ nI i) ↔ 4 ≤ i := nI_leI (a := 4) (by omega) h
theorem na_g4 {i : Nat} (h : i < 2 ^ 31) : (nI i ≤ (4 : Int32)) ↔ i ≤ 4 := nI_leI (b := 4) h (by omega)
theorem na_ll4 {i : Nat} (h : i < 2 ^ 31) : ((4 : Int32) < nI i) ↔ 4 < i := nI_ltI (a := 4) (by omega) h
theorem na_gl4 {i : Nat} (h : i < 2 ^ 31) : (nI i < (4 : Int32)) ↔ i < 4 := nI_ltI (b := 4) h (by omega)
theorem na_e4 {i : Nat} (h : i < 2 ^ 31) : (nI i = (4 : Int32)) ↔ i = 4 := nI_eq (b := 4) h (by omega)
theorem na_ap4 (i : Nat) : nI i + (4 : Int32) = nI (i + 4) := nI_add i 4
theorem na_pa4 (i : Nat) : (4 : Int32) + nI i = nI (4 + i) := nI_add 4 i
theorem na_m4 (i : Nat) : (4 : Int32) * nI i = nI (4 * i) := pk_mul 4 i
theorem na_mr4 (i : Nat) : nI i * (4 : Int32) = nI (i * 4) := pk_mul i 4
theorem na_s4 {i : Nat} (h : 4 ≤ i) : nI i - (4 : Int32) = nI (i - 4) := pk_sub h
theorem na_l5 {i : Nat} (h : i < 2 ^ 31) : ((5 : Int32) ≤ nI i) ↔ 5 ≤ i := nI_leI (a := 5) (by omega) h
theorem na_g5 {i : Nat} (h : i < 2 ^ 31) : (nI i ≤ (5 : Int32)) ↔ i ≤ 5 := nI_leI (b := 5) h (by omega)
theorem na_ll5 {i : Nat} (h : i < 2 ^ 31) : ((5 : Int32) < nI i) ↔ 5 < i := nI_ltI (a := 5) (by omega) h
theorem na_gl5 {i : Nat} (h : i < 2 ^ 31) : (nI i < (5 : Int32)) ↔ i < 5 := nI_ltI (b := 5) h (by omega)
theorem na_e5 {i : Nat} (h : i < 2 ^ 31) : (nI i = (5 : Int32)) ↔ i = 5 := nI_eq (b := 5) h (by omega)
theorem na_ap5 (i : Nat) : nI i + (5 : Int32) = nI (i + 5) := nI_add i 5
theorem na_pa5 (i : Nat) : (5 : Int32) + nI i = nI (5 + i) := nI_add 5 i
theorem na_m5 (i : Nat) : (5 : Int32) * nI i = nI (5 * i) := pk_mul 5 i
theorem na_mr5 (i : Nat) : nI i * (5 : Int32) = nI (i * 5) := pk_mul i 5
theorem na_s5 {i : Nat} (h : 5 ≤ i) : nI i - (5 : Int32) = nI (i - 5) := pk_sub h
theorem na_l6 {i : Nat} (h : i < 2 ^ 31) : ((6 : Int32) ≤ nI i) ↔ 6 ≤ i := nI_leI (a := 6) (by omega) h
theorem na_g6 {i : Nat} (h : i < 2 ^ 31) : (nI i ≤ (6 : Int32)) ↔ i ≤ 6 := nI_leI (b := 6) h (by omega)
theorem na_ll6 {i : Nat} (h : i < 2 ^ 31) : ((6 : Int32) < nI i) ↔ 6 < i := nI_ltI (a := 6) (by omega) h
theorem na_gl6 {i : Nat} (h : i < 2 ^ 31) : (nI i < (6 : Int32)) ↔ i < 6 := nI_ltI (b := 6) h (by omega)
theorem na_e6 {i : Nat} (h : i < 2 ^ 31) : (nI i = (6 : Int32)) ↔ i = 6 := nI_eq (b := 6) h (by omega)
theorem na_ap6 (i : Nat) : nI i + (6 : Int32) = nI (i + 6) := nI_add i 6
theorem na_pa6 (i : Nat) : (6 : Int32) + nI i = nI (6 + i) := nI_add 6 i
theorem na_m6 (i : Nat) : (6 : Int32) * nI i = nI (6 * i) := pk_mul 6 i
theorem na_mr6 (i : Nat) : nI i * (6 : Int32) = nI (i * 6) := pk_mul i 6
theorem na_s6 {i : Nat} (h : 6 ≤ i) : nI i - (6 : Int32) = nI (i - 6) := pk_sub h
theorem na_l7 {i : Nat} (h : i < 2 ^ 31) : ((7 : Int32) ≤ nI i) ↔ 7 ≤ i := nI_leI (a := 7) (by omega) h
theorem na_g7 {i : Nat} (h : i < 2 ^ 31) : (nI i ≤ (7 : Int32)) ↔ i ≤ 7 := nI_leI (b := 7) h (by omega)
theorem na_ll7 {i : Nat} (h : i < 2 ^ 31) : ((7 : Int32) < nI i) ↔ 7 < i := nI_ltI (a := 7) (by omega) h
theorem na_gl7 {i : Nat} (h : i < 2 ^ 31) : (nI i < (7 : Int32)) ↔ i < 7 := nI_ltI (b := 7) h (by omega)
theorem na_e7 {i : Nat} (h : i < 2 ^ 31) : (nI i = (7 : Int32)) ↔ i = 7 := nI_eq (b := 7) h (by omega)
theorem na_ap7 (i : Nat) : nI i + (7 : Int32) = nI (i + 7) := nI_add i 7
theorem na_pa7 (i : Nat) : (7 : Int32) + nI i = nI (7 + i) := nI_add 7 i
theorem na_m7 (i : Nat) : (7 : Int32) * nI i = nI (7 * i) := pk_mul 7 i
theorem na_mr7 (i : Nat) : nI i * (7 : Int32) = nI (i * 7) := pk_mul i 7
theorem na_s7 {i : Nat} (h : 7 ≤ i) : nI i - (7 : Int32) = nI (i - 7) := pk_sub h
theorem na_l8 {i : Nat} (h : i < 2 ^ 31) : ((8 : Int32) ≤ nI i) ↔ 8 ≤ i := nI_leI (a := 8) (by omega) h
theorem na_g8 {i : Nat} (h : i < 2 ^ 31) : (nI i ≤ (8 : Int32)) ↔ i ≤ 8 := nI_leI (b := 8) h (by omega)
theorem na_ll8 {i : Nat} (h : i < 2 ^ 31) : ((8 : Int32) < nI i) ↔ 8 < i := nI_ltI (a := 8) (by omega) h
theorem na_gl8 {i : Nat} (h : i < 2 ^ 31) : (nI i < (8 : Int32)) ↔ i < 8 := nI_ltI (b := 8) h (by omega)
theorem na_e8 {i : Nat} (h : i < 2 ^ 31) : (nI i = (8 : Int32)) ↔ i = 8 := nI_eq (b := 8) h (by omega)
theorem na_ap8 (i : Nat) : nI i + (8 : Int32) = nI (i + 8) := nI_add i 8
theorem na_pa8 (i : Nat) : (8 : Int32) + nI i = nI (8 + i) := nI_add 8 i
theorem na_m8 (i : Nat) : (8 : Int32) * nI i = nI (8 * i) := pk_mul 8 i
theorem na_mr8 (i : Nat) : nI i * (8 : Int32) = nI (i * 8) := pk_mul i 8
theorem na_s8 {i : Nat} (h : 8 ≤ i) : nI i - (8 : Int32) = nI (i - 8) := pk_sub h
theorem na_l9 {i : Nat} (h : i < 2 ^ 31) : ((9 : Int32) ≤ nI i) ↔ 9 ≤ i := nI_leI (a := 9) (by omega) h
theorem na_g9 {i : Nat} (h : i < 2 ^ 31) : (nI i ≤ (9 : Int32)) ↔ i ≤ 9 := nI_leI (b := 9) h (by omega)
theorem na_ll9 {i : Nat} (h : i < 2 ^ 31) : ((9 : Int32) < nI i) ↔ 9 < i := nI_ltI (a := 9) (by omega) h
theorem na_gl9 {i : Nat} (h : i < 2 ^ 31) : (nI i < (9 : Int32)) ↔ i < 9 := nI_ltI (b := 9) h (by omega)
theorem na_e9 {i : Nat} (h : i < 2 ^ 31) : (nI i = (9 : Int32)) ↔ i = 9 := nI_eq (b := 9) h (by omega)
theorem na_ap9 (i : Nat) : nI i + (9 : Int32) = nI (i + 9) := nI_add i 9
theorem na_pa9 (i : Nat) : (9 : Int32) + nI i = nI (9 + i) := nI_add 9 i
theorem na_m9 (i : Nat) : (9 : Int32) * nI i = nI (9 * i) := pk_mul 9 i
theorem na_mr9 (i : Nat) : nI i * (9 : Int32) = nI (i * 9) := pk_mul i 9
theorem na_s9 {i : Nat} (h : 9 ≤ i) : nI i - (9 : Int32) = nI (i - 9) := pk_sub h
theorem na_l10 {i : Nat} (h : i < 2 ^ 31) : ((10 : Int32) ≤ nI i) ↔ 10 ≤ i := nI_leI (a := 10) (by omega) h
theorem na_g10 {i : Nat} (h : i < 2 ^ 31) : (nI i ≤ (10 : Int32)) ↔ i ≤ 10 := nI_leI (b := 10) h (by omega)
theorem na_ll10 {i : Nat} (h : i < 2 ^ 31) : ((10 : Int32) < nI i) ↔ 10 < i := nI_ltI (a := 10) (by omega) h
theorem na_gl10 {i : Nat} (h : i < 2 ^ 31) : (nI i < (10 : Int32)) ↔ i < 10 := nI_ltI (b := 10) h (by omega)
theorem na_e10 {i : Nat} (h : i < 2 ^ 31) : (nI i = (10 : Int32)) ↔ i = 10 := nI_eq (b := 10) h (by omega)
theorem na_ap10 (i : Nat) : nI i + (10 : Int32) = nI (i + 10) := nI_add i 10
theorem na_pa10 (i : Nat) : (10 : Int32) + nI i = nI (10 + i) := nI_add 10 i
theorem na_m10 (i : Nat) : (10 : Int32) * nI i = nI (10 * i) := pk_mul 10 i
theorem na_mr10 (i : Nat) : nI i * (10 : Int32) = nI (i * 10) := pk_mul i 10
theorem na_s10 {i : Nat} (h : 10 ≤ i) : nI i - (10 : Int32) = nI (i - 10) := pk_sub h
theorem na_l11 {i : Nat} (h : i < 2 ^ 31) : ((11 : Int32) ≤ nI i) ↔ 11 ≤ i := nI_leI (a := 11) (by omega) h
theorem na_g11 {i : Nat} (h : i < 2 ^ 31) : (nI i ≤ (11 : Int32)) ↔ i ≤ 11 := nI_leI (b := 11) h (by omega)
theorem na_ll11 {i : Nat} (h : i < 2 ^ 31) : ((11 : Int32) < nI i) ↔ 11 < i := nI_ltI (a := 11) (by omega) h
theorem na_gl11 {i : Nat} (h : i < 2 ^ 31) : (nI i < (11 : Int32)) ↔ i < 11 := nI_ltI (b := 11) h (by omega)
theorem na_e11 {i : Nat} (h : i < 2 ^ 31) : (nI i = (11 : Int32)) ↔ i = 11 := nI_eq (b := 11) h (by omega)
theorem na_ap11 (i : Nat) : nI i + (11 : Int32) = nI (i + 11) := nI_add i 11
theorem na_pa11 (i : Nat) : (11 : Int32) + nI i = nI (11 + i) := nI_add 11 i
theorem na_m11 (i : Nat) : (11 : Int32) * nI i = nI (11 * i) := pk_mul 11 i
theorem na_mr11 (i : Nat) : nI i * (11 : Int32) = nI (i * 11) := pk_mul i 11
theorem na_s11 {i : Nat} (h : 11 ≤ i) : nI i - (11 : Int32) = nI (i - 11) := pk_sub h
theorem na_l12 {i : Nat} (h : i < 2 ^ 31) : ((12 : Int32) ≤ nI i) ↔ 12 ≤ i := nI_leI (a := 12) (by omega) h
theorem na_g12 {i : Nat} (h : i < 2 ^ 31) : (nI i ≤ (12 : Int32)) ↔ i ≤ 12 := nI_leI (b := 12) h (by omega)
theorem na_ll12 {i : Nat} (h : i < 2 ^ 31) : ((12 : Int32) < nI i) ↔ 12 < i := nI_ltI (a := 12) (by omega) h
theorem na_gl12 {i : Nat} (h : i < 2 ^ 31) : (nI i < (12 : Int32)) ↔ i < 12 := nI_ltI (b := 12) h (by omega)
theorem na_e12 {i : Nat} (h : i < 2 ^ 31) : (nI i = (12 : Int32)) ↔ i = 12 := nI_eq (b := 12) h (by omega)
theorem na_ap12 (i : Nat) : nI i + (12 : Int32) = nI (i + 12) := nI_add i 12
theorem na_pa12 (i : Nat) : (12 : Int32) + nI i = nI (12 + i) := nI_add 12 i
theorem na_m12 (i : Nat) : (12 : Int32) * nI i = nI (12 * i) := pk_mul 12 i
theorem na_mr12 (i : Nat) : nI i * (12 : Int32) = nI (i * 12) := pk_mul i 12
theorem na_s12 {i : Nat} (h : 12 ≤ i) : nI i - (12 : Int32) = nI (i - 12) := pk_sub h
theorem na_l13 {i : Nat} (h : i < 2 ^ 31) : ((13 : Int32) ≤ nI i) ↔ 13 ≤ i := nI_leI (a := 13) (by omega) h
theorem na_g13 {i : Nat} (h : i < 2 ^ 31) : (nI i ≤ (13 : Int32)) ↔ i ≤ 13 := nI_leI (b := 13) h (by omega)
theorem na_ll13 {i : Nat} (h : i < 2 ^ 31) : ((13 : Int32) < nI i) ↔ 13 < i := nI_ltI (a := 13) (by omega) h
theorem na_gl13 {i : Nat} (h : i < 2 ^ 31) : (nI i < (13 : Int32)) ↔ i < 13 := nI_ltI (b := 13) h (by omega)
theorem na_e13 {i : Nat} (h : i < 2 ^ 31) : (nI i = (13 : Int32)) ↔ i = 13 := nI_eq (b := 13) h (by omega)
theorem na_ap13 (i : Nat) : nI i + (13 : Int32) = nI (i + 13) := nI_add i 13
theorem na_pa13 (i : Nat) : (13 : Int32) + nI i = nI (13 + i) := nI_add 13 i
theorem na_m13 (i : Nat) : (13 : Int32) * nI i = nI (13 * i) := pk_mul 13 i
theorem na_mr13 (i : Nat) : nI i * (13 : Int32) = nI (i * 13) := pk_mul i 13
theorem na_s13 {i : Nat} (h : 13 ≤ i) : nI i - (13 : Int32) = nI (i - 13) := pk_sub h
theorem na_l14 {i : Nat} (h : i < 2 ^ 31) : ((14 : Int32) ≤ nI i) ↔ 14 ≤ i := nI_leI (a := 14) (by omega) h
theorem na_g14 {i : Nat} (h : i < 2 ^ 31) : (nI i ≤ (14 : Int32)) ↔ i ≤ 14 := nI_leI (b := 14) h (by omega)
theorem na_ll14 {i : Nat} (h : i < 2 ^ 31) : ((14 : Int32) < nI i) ↔ 14 < i := nI_ltI (a := 14) (by omega) h
theorem na_gl14 {i : Nat} (h : i < 2 ^ 31) : (nI i < (14 : Int32)) ↔ i < 14 := nI_ltI (b := 14) h (by omega)
theorem na_e14 {i : Nat} (h : i < 2 ^ 31) : (nI i = (14 : Int32)) ↔ i = 14 := nI_eq (b := 14) h (by omega)
theorem na_ap14 (i : Nat) : nI i + (14 : Int32) = nI (i + 14) := nI_add i 14
theorem na_pa14 (i : Nat) : (14 : Int32) + nI i = nI (14 + i) := nI_add 14 i
theorem na_m14 (i : Nat) : (14 : Int32) * nI i = nI (14 * i) := pk_mul 14 i
theorem na_mr14 (i : Nat) : nI i * (14 : Int32) = nI (i * 14) := pk_mul i 14
theorem na_s14 {i : Nat} (h : 14 ≤ i) : nI i - (14 : Int32) = nI (i - 14) := pk_sub h
theorem na_l15 {i : Nat} (h : i < 2 ^ 31) : ((15 : Int32) ≤ nI i) ↔ 15 ≤ i := nI_leI (a := 15) (by omega) h
theorem na_g15 {i : Nat} (h : i < 2 ^ 31) : (nI i ≤ (15 : Int32)) ↔ i ≤ 15 := nI_leI (b := 15) h (by omega)
theorem na_ll15 {i : Nat} (h : i < 2 ^ 31) : ((15 : Int32) < nI i) ↔ 15 < i := nI_ltI (a := 15) (by omega) h
theorem na_gl15 {i : Nat} (h : i < 2 ^ 31) : (nI i < (15 : Int32)) ↔ i < 15 := nI_ltI (b := 15) h (by omega)
theorem na_e15 {i : Nat} (h : i < 2 ^ 31) : (nI i = (15 : Int32)) ↔ i = 15 := nI_eq (b := 15) h (by omega)
theorem na_ap15 (i : Nat) : nI i + (15 : Int32) = nI (i + 15) := nI_add i 15
theorem na_pa15 (i : Nat) : (15 : Int32) + nI i = nI (15 + i) := nI_add 15 i
theorem na_m15 (i : Nat) : (15 : Int32) * nI i = nI (15 * i) := pk_mul 15 i
theorem na_mr15 (i : Nat) : nI i * (15 : Int32) = nI (i * 15) := pk_mul i 15
theorem na_s15 {i : Nat} (h : 15 ≤ i) : nI i - (15 : Int32) = nI (i - 15) := pk_sub h
theorem na_l16 {i : Nat} (h : i < 2 ^ 31) : ((16 : Int32) ≤ nI i) ↔ 16 ≤ i := nI_leI (a := 16) (by omega) h
theorem na_g16 {i : Nat} (h : i < 2 ^ 31) : (nI i ≤ (16 : Int32)) ↔ i ≤ 16 := nI_leI (b := 16) h (by omega)
theorem na_ll16 {i : Nat} (h : i < 2 ^ 31) : ((16 : Int32) < nI i) ↔ 16 < i := nI_ltI (a := 16) (by omega) h
theorem na_gl16 {i : Nat} (h : i < 2 ^ 31) : (nI i < (16 : Int32)) ↔ i < 16 := nI_ltI (b := 16) h (by omega)
theorem na_e16 {i : Nat} (h : i < 2 ^ 31) : (nI i = (16 : Int32)) ↔ i = 16 := nI_eq (b := 16) h (by omega)
theorem na_ap16 (i : Nat) : nI i + (16 : Int32) = nI (i + 16) := nI_add i 16
theorem na_pa16 (i : Nat) : (16 : Int32) + nI i = nI (16 + i) := nI_add 16 i
theorem na_m16 (i : Nat) : (16 : Int32) * nI i = nI (16 * i) := pk_mul 16 i
theorem na_mr16 (i : Nat) : nI i * (16 : Int32) = nI (i * 16) := pk_mul i 16
theorem na_s16 {i : Nat} (h : 16 ≤ i) : nI i - (16 : Int32) = nI (i - 16) := pk_sub h
theorem na_l24 {i : Nat} (h : i < 2 ^ 31) : ((24 : Int32) ≤ nI i) ↔ 24 ≤ i := nI_leI (a := 24) (by omega) h
theorem na_g24 {i : Nat} (h : i < 2 ^ 31) : (nI i ≤ (24 : Int32)) ↔ i ≤ 24 := nI_leI (b := 24) h (by omega)
theorem na_ll24 {i : Nat} (h : i < 2 ^ 31) : ((24 : Int32) < nI i) ↔ 24 < i := nI_ltI (a := 24) (by omega) h
theorem na_gl24 {i : Nat} (h : i < 2 ^ 31) : (nI i < (24 : Int32)) ↔ i < 24 := nI_ltI (b := 24) h (by omega)
theorem na_e24 {i : Nat} (h : i < 2 ^ 31) : (nI i = (24 : Int32)) ↔ i = 24 := nI_eq (b := 24) h (by omega)
theorem na_ap24 (i : Nat) : nI i + (24 : Int32) = nI (i + 24) := nI_add i 24
theorem na_pa24 (i : Nat) : (24 : Int32) + nI i = nI (24 + i) := nI_add 24 i
theorem na_m24 (i : Nat) : (24 : Int32) * nI i = nI (24 * i) := pk_mul 24 i
theorem na_mr24 (i : Nat) : nI i * (24 : Int32) = nI (i * 24) := pk_mul i 24
theorem na_s24 {i : Nat} (h : 24 ≤ i) : nI i - (24 : Int32) = nI (i - 24) := pk_sub h
theorem na_l31 {i : Nat} (h : i < 2 ^ 31) : ((31 : Int32) ≤ nI i) ↔ 31 ≤ i := nI_leI (a := 31) (by omega) h
theorem na_g31 {i : Nat} (h : i < 2 ^ 31) : (nI i ≤ (31 : Int32)) ↔ i ≤ 31 := nI_leI (b := 31) h (by omega)
theorem na_ll31 {i : Nat} (h : i < 2 ^ 31) : ((31 : Int32) < nI i) ↔ 31 < i := nI_ltI (a := 31) (by omega) h
theorem na_gl31 {i : Nat} (h : i < 2 ^ 31) : (nI i < (31 : Int32)) ↔ i < 31 := nI_ltI (b := 31) h (by omega)
theorem na_e31 {i : Nat} (h : i < 2 ^ 31) : (nI i = (31 : Int32)) ↔ i = 31 := nI_eq (b := 31) h (by omega)
theorem na_ap31 (i : Nat) : nI i + (31 : Int32) = nI (i + 31) := nI_add i 31
theorem na_pa31 (i : Nat) : (31 : Int32) + nI i = nI (31 + i) := nI_add 31 i
theorem na_m31 (i : Nat) : (31 : Int32) * nI i = nI (31 * i) := pk_mul 31 i
theorem na_mr31 (i : Nat) : nI i * (31 : Int32) = nI (i * 31) := pk_mul i 31
theorem na_s31 {i : Nat} (h : 31 ≤ i) : nI i - (31 : Int32) = nI (i - 31) := pk_sub h
theorem na_l32 {i : Nat} (h : i < 2 ^ 31) : ((32 : Int32) ≤ nI i) ↔ 32 ≤ i := nI_leI (a := 32) (by omega) h
theorem na_g32 {i : Nat} (h : i < 2 ^ 31) : (nI i ≤ (32 : Int32)) ↔ i ≤ 32 := nI_leI (b := 32) h (by omega)
theorem na_ll32 {i : Nat} (h : i < 2 ^ 31) : ((32 : Int32) < nI i) ↔ 32 < i := nI_ltI (a := 32) (by omega) h
theorem na_gl32 {i : Nat} (h : i < 2 ^ 31) : (nI i < (32 : Int32)) ↔ i < 32 := nI_ltI (b := 32) h (by omega)
theorem na_e32 {i : Nat} (h : i < 2 ^ 31) : (nI i = (32 : Int32)) ↔ i = 32 := nI_eq (b := 32) h (by omega)
theorem na_ap32 (i : Nat) : nI i + (32 : Int32) = nI (i + 32) := nI_add i 32
theorem na_pa32 (i : Nat) : (32 : Int32) + nI i = nI (32 + i) := nI_add 32 i
theorem na_m32 (i : Nat) : (32 : Int32) * nI i = nI (32 * i) := pk_mul 32 i
theorem na_mr32 (i : Nat) : nI i * (32 : Int32) = nI (i * 32) := pk_mul i 32
theorem na_s32 {i : Nat} (h : 32 ≤ i) : nI i - (32 : Int32) = nI (i - 32) := pk_sub h
theorem na_l40 {i : Nat} (h : i < 2 ^ 31) : ((40 : Int32) ≤ nI i) ↔ 40 ≤ i := nI_leI (a := 40) (by omega) h
theorem na_g40 {i : Nat} (h : i < 2 ^ 31) : (nI i ≤ (40 : Int32)) ↔ i ≤ 40 := nI_leI (b := 40) h (by omega)
theorem na_ll40 {i : Nat} (h : i < 2 ^ 31) : ((40 : Int32) < nI i) ↔ 40 < i := nI_ltI (a := 40) (by omega) h
theorem na_gl40 {i : Nat} (h : i < 2 ^ 31) : (nI i < (40 : Int32)) ↔ i < 40 := nI_ltI (b := 40) h (by omega)
theorem na_e40 {i : Nat} (h : i < 2 ^ 31) : (nI i = (40 : Int32)) ↔ i = 40 := nI_eq (b := 40) h (by omega)
theorem na_ap40 (i : Nat) : nI i + (40 : Int32) = nI (i + 40) := nI_add i 40
theorem na_pa40 (i : Nat) : (40 : Int32) + nI i = nI (40 + i) := nI_add 40 i
theorem na_m40 (i : Nat) : (40 : Int32) * nI i = nI (40 * i) := pk_mul 40 i
theorem na_mr40 (i : Nat) : nI i * (40 : Int32) = nI (i * 40) := pk_mul i 40
theorem na_s40 {i : Nat} (h : 40 ≤ i) : nI i - (40 : Int32) = nI (i - 40) := pk_sub h
theorem na_l45 {i : Nat} (h : i < 2 ^ 31) : ((45 : Int32) ≤ nI i) ↔ 45 ≤ i := nI_leI (a := 45) (by omega) h
theorem na_g45 {i : Nat} (h : i < 2 ^ 31) : (nI i ≤ (45 : Int32)) ↔ i ≤ 45 := nI_leI (b := 45) h (by omega)
theorem na_ll45 {i : Nat} (h : i < 2 ^ 31) : ((45 : Int32) < nI i) ↔ 45 < i := nI_ltI (a := 45) (by omega) h
theorem na_gl45 {i : Nat} (h : i < 2 ^ 31) : (nI i < (45 : Int32)) ↔ i < 45 := nI_ltI (b := 45) h (by omega)
theorem na_e45 {i : Nat} (h : i < 2 ^ 31) : (nI i = (45 : Int32)) ↔ i = 45 := nI_eq (b := 45) h (by omega)
theorem na_ap45 (i : Nat) : nI i + (45 : Int32) = nI (i + 45) := nI_add i 45
theorem na_pa45 (i : Nat) : (45 : Int32) + nI i = nI (45 + i) := nI_add 45 i
theorem na_m45 (i : Nat) : (45 : Int32) * nI i = nI (45 * i) := pk_mul 45 i
theorem na_mr45 (i : Nat) : nI i * (45 : Int32) = nI (i * 45) := pk_mul i 45
theorem na_s45 {i : Nat} (h : 45 ≤ i) : nI i - (45 : Int32) = nI (i - 45) := pk_sub h
theorem na_l48 {i : Nat} (h : i < 2 ^ 31) : ((48 : Int32) ≤ nI i) ↔ 48 ≤ i := nI_leI (a := 48) (by omega) h
theorem na_g48 {i : Nat} (h : i < 2 ^ 31) : (nI i ≤ (48 : Int32)) ↔ i ≤ 48 := nI_leI (b := 48) h (by omega)
theorem na_ll48 {i : Nat} (h : i < 2 ^ 31) : ((48 : Int32) < nI i) ↔ 48 < i := nI_ltI (a := 48) (by omega) h
theorem na_gl48 {i : Nat} (h : i < 2 ^ 31) : (nI i < (48 : Int32)) ↔ i < 48 := nI_ltI (b := 48) h (by omega)
theorem na_e48 {i : Nat} (h : i < 2 ^ 31) : (nI i = (48 : Int32)) ↔ i = 48 := nI_eq (b := 48) h (by omega)
theorem na_ap48 (i : Nat) : nI i + (48 : Int32) = nI (i + 48) := nI_add i 48
theorem na_pa48 (i : Nat) : (48 : Int32) + nI i = nI (48 + i) := nI_add 48 i
theorem na_m48 (i : Nat) : (48 : Int32) * nI i = nI (48 * i) := pk_mul 48 i
theorem na_mr48 (i : Nat) : nI i * (48 : Int32) = nI (i * 48) := pk_mul i 48
theorem na_s48 {i : Nat} (h : 48 ≤ i) : nI i - (48 : Int32) = nI (i - 48) := pk_sub h
theorem na_l51 {i : Nat} (h : i < 2 ^ 31) : ((51 : Int32) ≤ nI i) ↔ 51 ≤ i := nI_leI (a := 51) (by omega) h
theorem na_g51 {i : Nat} (h : i < 2 ^ 31) : (nI i ≤ (51 : Int32)) ↔ i ≤ 51 := nI_leI (b := 51) h (by omega)
theorem na_ll51 {i : Nat} (h : i < 2 ^ 31) : ((51 : Int32) < nI i) ↔ 51 < i := nI_ltI (a := 51) (by omega) h
theorem na_gl51 {i : Nat} (h : i < 2 ^ 31) : (nI i < (51 : Int32)) ↔ i < 51 := nI_ltI (b := 51) h (by omega)
theorem na_e51 {i : Nat} (h : i < 2 ^ 31) : (nI i = (51 : Int32)) ↔ i = 51 := nI_eq (b := 51) h (by omega)
theorem na_ap51 (i : Nat) : nI i + (51 : Int32) = nI (i + 51) := nI_add i 51
theorem na_pa51 (i : Nat) : (51 : Int32) + nI i = nI (51 + i) := nI_add 51 i
theorem na_m51 (i : Nat) : (51 : Int32) * nI i = nI (51 * i) := pk_mul 51 i
theorem na_mr51 (i : Nat) : nI i * (51 : Int32) = nI (i * 51) := pk_mul i 51
theorem na_s51 {i : Nat} (h : 51 ≤ i) : nI i - (51 : Int32) = nI (i - 51) := pk_sub h
theorem na_l256 {i : Nat} (h : i < 2 ^ 31) : ((256 : Int32) ≤ nI i) ↔ 256 ≤ i := nI_leI (a := 256) (by omega) h
theorem na_g256 {i : Nat} (h : i < 2 ^ 31) : (nI i ≤ (256 : Int32)) ↔ i ≤ 256 := nI_leI (b := 256) h (by omega)
theorem na_ll256 {i : Nat} (h : i < 2 ^ 31) : ((256 : Int32) < nI i) ↔ 256 < i := nI_ltI (a := 256) (by omega) h
theorem na_gl256 {i : Nat} (h : i < 2 ^ 31) : (nI i < (256 : Int32)) ↔ i < 256 := nI_ltI (b := 256) h (by omega)
theorem na_e256 {i : Nat} (h : i < 2 ^ 31) : (nI i = (256 : Int32)) ↔ i = 256 := nI_eq (b := 256) h (by omega)
theorem na_ap256 (i : Nat) : nI i + (256 : Int32) = nI (i + 256) := nI_add i 256
theorem na_pa256 (i : Nat) : (256 : Int32) + nI i = nI (256 + i) := nI_add 256 i
theorem na_m256 (i : Nat) : (256 : Int32) * nI i = nI (256 * i) := pk_mul 256 i
theorem na_mr256 (i : Nat) : nI i * (256 : Int32) = nI (i * 256) := pk_mul i 256
theorem na_s256 {i : Nat} (h : 256 ≤ i) : nI i - (256 : Int32) = nI (i - 256) := pk_sub h
theorem na_l480 {i : Nat} (h : i < 2 ^ 31) : ((480 : Int32) ≤ nI i) ↔ 480 ≤ i := nI_leI (a := 480) (by omega) h
theorem na_g480 {i : Nat} (h : i < 2 ^ 31) : (nI i ≤ (480 : Int32)) ↔ i ≤ 480 := nI_leI (b := 480) h (by omega)
theorem na_ll480 {i : Nat} (h : i < 2 ^ 31) : ((480 : Int32) < nI i) ↔ 480 < i := nI_ltI (a := 480) (by omega) h
theorem na_gl480 {i : Nat} (h : i < 2 ^ 31) : (nI i < (480 : Int32)) ↔ i < 480 := nI_ltI (b := 480) h (by omega)
theorem na_e480 {i : Nat} (h : i < 2 ^ 31) : (nI i = (480 : Int32)) ↔ i = 480 := nI_eq (b := 480) h (by omega)
theorem na_ap480 (i : Nat) : nI i + (480 : Int32) = nI (i + 480) := nI_add i 480
theorem na_pa480 (i : Nat) : (480 : Int32) + nI i = nI (480 + i) := nI_add 480 i
theorem na_m480 (i : Nat) : (480 : Int32) * nI i = nI (480 * i) := pk_mul 480 i
theorem na_mr480 (i : Nat) : nI i * (480 : Int32) = nI (i * 480) := pk_mul i 480
theorem na_s480 {i : Nat} (h : 480 ≤ i) : nI i - (480 : Int32) = nI (i - 480) := pk_sub h
theorem na_l512 {i : Nat} (h : i < 2 ^ 31) : ((512 : Int32) ≤ nI i) ↔ 512 ≤ i := nI_leI (a := 512) (by omega) h
theorem na_g512 {i : Nat} (h : i < 2 ^ 31) : (nI i ≤ (512 : Int32)) ↔ i ≤ 512 := nI_leI (b := 512) h (by omega)
theorem na_ll512 {i : Nat} (h : i < 2 ^ 31) : ((512 : Int32) < nI i) ↔ 512 < i := nI_ltI (a := 512) (by omega) h
theorem na_gl512 {i : Nat} (h : i < 2 ^ 31) : (nI i < (512 : Int32)) ↔ i < 512 := nI_ltI (b := 512) h (by omega)
theorem na_e512 {i : Nat} (h : i < 2 ^ 31) : (nI i = (512 : Int32)) ↔ i = 512 := nI_eq (b := 512) h (by omega)
theorem na_ap512 (i : Nat) : nI i + (512 : Int32) = nI (i + 512) := nI_add i 512
theorem na_pa512 (i : Nat) : (512 : Int32) + nI i = nI (512 + i) := nI_add 512 i
theorem na_m512 (i : Nat) : (512 : Int32) * nI i = nI (512 * i) := pk_mul 512 i
theorem na_mr512 (i : Nat) : nI i * (512 : Int32) = nI (i * 512) := pk_mul i 512
theorem na_s512 {i : Nat} (h : 512 ≤ i) : nI i - (512 : Int32) = nI (i - 512) := pk_sub h
theorem na_l1536 {i : Nat} (h : i < 2 ^ 31) : ((1536 : Int32) ≤ nI i) ↔ 1536 ≤ i := nI_leI (a := 1536) (by omega) h
theorem na_g1536 {i : Nat} (h : i < 2 ^ 31) : (nI i ≤ (1536 : Int32)) ↔ i ≤ 1536 := nI_leI (b := 1536) h (by omega)
theorem na_ll1536 {i : Nat} (h : i < 2 ^ 31) : ((1536 : Int32) < nI i) ↔ 1536 < i := nI_ltI (a := 1536) (by omega) h
theorem na_gl1536 {i : Nat} (h : i < 2 ^ 31) : (nI i < (1536 : Int32)) ↔ i < 1536 := nI_ltI (b := 1536) h (by omega)
theorem na_e1536 {i : Nat} (h : i < 2 ^ 31) : (nI i = (1536 : Int32)) ↔ i = 1536 := nI_eq (b := 1536) h (by omega)
theorem na_ap1536 (i : Nat) : nI i + (1536 : Int32) = nI (i + 1536) := nI_add i 1536
theorem na_pa1536 (i : Nat) : (1536 : Int32) + nI i = nI (1536 + i) := nI_add 1536 i
theorem na_m1536 (i : Nat) : (1536 : Int32) * nI i = nI (1536 * i) := pk_mul 1536 i
theorem na_mr1536 (i : Nat) : nI i * (1536 : Int32) = nI (i * 1536) := pk_mul i 1536
theorem na_s1536 {i : Nat} (h : 1536 ≤ i) : nI i - (1536 : Int32) = nI (i - 1536) := pk_sub h
theorem na_l1568 {i : Nat} (h : i < 2 ^ 31) : ((1568 : Int32) ≤ nI i) ↔ 1568 ≤ i := nI_leI (a := 1568) (by omega) h
theorem na_g1568 {i : Nat} (h : i < 2 ^ 31) : (nI i ≤ (1568 : Int32)) ↔ i ≤ 1568 := nI_leI (b := 1568) h (by omega)
theorem na_ll1568 {i : Nat} (h : i < 2 ^ 31) : ((1568 : Int32) < nI i) ↔ 1568 < i := nI_ltI (a := 1568) (by omega) h
theorem na_gl1568 {i : Nat} (h : i < 2 ^ 31) : (nI i < (1568 : Int32)) ↔ i < 1568 := nI_ltI (b := 1568) h (by omega)
theorem na_e1568 {i : Nat} (h : i < 2 ^ 31) : (nI i = (1568 : Int32)) ↔ i = 1568 := nI_eq (b := 1568) h (by omega)
theorem na_ap1568 (i : Nat) : nI i + (1568 : Int32) = nI (i + 1568) := nI_add i 1568
theorem na_pa1568 (i : Nat) : (1568 : Int32) + nI i = nI (1568 + i) := nI_add 1568 i
theorem na_m1568 (i : Nat) : (1568 : Int32) * nI i = nI (1568 * i) := pk_mul 1568 i
theorem na_mr1568 (i : Nat) : nI i * (1568 : Int32) = nI (i * 1568) := pk_mul i 1568
theorem na_s1568 {i : Nat} (h : 1568 ≤ i) : nI i - (1568 : Int32) = nI (i - 1568) := pk_sub h
theorem na_l0 {i : Nat} (h : i < 2 ^ 31) : ((0 : Int32) ≤ nI i) ↔ True := iff_of_true (nI_pos' h) trivial
theorem na_g0 {i : Nat} (h : i < 2 ^ 31) : (nI i ≤ (0 : Int32)) ↔ i = 0 := by
  have z := nI_leI (a := i) (b := 0) h (by omega)
  rw [nI_0] at z
  rw [z]; omega
theorem na_ll0 {i : Nat} (h : i < 2 ^ 31) : ((0 : Int32) < nI i) ↔ 0 < i := nI_ltI (a := 0) (by omega) h
theorem na_gl0 {i : Nat} (h : i < 2 ^ 31) : (nI i < (0 : Int32)) ↔ False := iff_of_false (nI_pos h) id
theorem na_e0 {i : Nat} (h : i < 2 ^ 31) : (nI i = (0 : Int32)) ↔ i = 0 := nI_eq (b := 0) h (by omega)
theorem na_p0 (x : Int32) : x + (0 : Int32) = x := Int32.add_zero x
theorem na_0p (x : Int32) : (0 : Int32) + x = x := Int32.zero_add x
theorem na_m1c {i : Nat} (h : i < 2 ^ 31) : (nI i = (-1 : Int32)) ↔ False := by
  refine iff_of_false (fun z => ?_) id
  have a := congrArg Int32.toInt z
  rw [nI_toInt h, show (-1 : Int32).toInt = -1 from by decide] at a
  omega
theorem na_m1l {i : Nat} (h : i < 2 ^ 31) : (nI i ≤ (-1 : Int32)) ↔ False := by
  refine iff_of_false (fun z => ?_) id
  rw [Int32.le_iff_toInt_le, nI_toInt h, show (-1 : Int32).toInt = -1 from by decide] at z
  omega
theorem na_z1 : nI 0 + (-1 : Int32) = -1 := by rw [nI_0]; exact Int32.zero_add _
theorem na_c0 : (0 : Int32).toNatClampNeg = 0 := nI_clamp (n := 0) (by omega)
theorem na_upd {f : Nat → Int32} {k j : Nat} {x : Int32} : upd f k x j = if j = k then x else f j := rfl
theorem na_2u (f : Nat → Int32) (k : Nat) (x y : Int32) : upd (upd f k x) k y = upd f k y := by
  funext j; unfold upd; by_cases h : j = k <;> simp [h]
theorem na_all3 {P : Nat → Prop} (h0 : P 0) (h1 : P 1) (h2 : P 2) : ∀ q, q < 3 → P q := by
  intro q hq
  rcases q with _ | _ | _ | q
  · exact h0
  · exact h1
  · exact h2
  · omega
theorem na_nar {f : Int32} (h : f = 0 ∨ f = 1 ∨ f = 2) : vp_nar .byte f.toInt8.toInt32 = f := by
  rcases h with rfl | rfl | rfl <;> rw [vp_nar_byte] <;> decide
theorem na_nar' {f : Int32} (h : f = 0 ∨ f = 1 ∨ f = 2) : vp_nar .byte f = f := by
  rcases h with rfl | rfl | rfl <;> rw [vp_nar_byte] <;> decide
theorem na_nar0 : vp_nar .byte 0 = 0 := na_nar' (Or.inl rfl)
theorem na_d1 : (2 : Int32) + (-1) = 1 := by decide
theorem na_d2 : (1 : Int32) + (-1) = 0 := by decide
theorem na_d3 : (0 : Int32) + (-1) = -1 := by decide
theorem na_d4 : ((2 : Int32) < 0) ↔ False := by decide
theorem na_d5 : ((1 : Int32) < 0) ↔ False := by decide
theorem na_d6 : ((0 : Int32) < 0) ↔ False := by decide
theorem na_d7 : ((-1 : Int32) < 0) ↔ True := by decide
theorem na_d8 : ((0 : Int32) = 0) ↔ True := by decide
theorem na_d9 : ((1 : Int32) = 0) ↔ False := by decide
theorem na_dup {p q : Prop} : ((p → q) ∧ (¬ p → q)) ↔ q := ⟨fun h => (Classical.em p).elim h.1 h.2, fun h => ⟨fun _ => h, fun _ => h⟩⟩
end
section
abbrev dr_E : Type := Int32 × Int32
abbrev dr_A : Type := Nat × Nat × Nat × Nat × (Nat → dr_E)
def dr_fok (f : Int32) : Prop := f = 0 ∨ f = 1 ∨ f = 2
def dr_eok (e : dr_E) : Prop := dr_fok e.2 ∧ (e.2 ≠ 0 → e.1 = 0)
def dr_sp (c a b : Int32) : Int32 :=
  if c = 0 then a + b else if c = 1 then a - b else if c = 2 then a * b
  else if c = 5 then (if b ≤ a then b else a) else if c = 6 then (if a ≤ b then b else a)
  else if c = 7 then (if a = b then 1 else 0) else (if b ≤ a then 0 else 1)
def dr_pv (c : Int32) (x y : dr_E) : dr_E :=
  if y.2 = 0 then
    (if x.2 = 0 then
      (if c = 3 then (if y.1 = 0 then (0, 1) else (x.1 / y.1, 0))
       else if c = 4 then (if y.1 = 0 then (0, 2) else (x.1 - x.1 / y.1 * y.1, 0))
       else (dr_sp c x.1 y.1, 0))
     else (0, x.2))
  else (0, y.2)
def dr_sm (c b : Int32) : Int32 :=
  if c < 1 then b else if 8 < c then b else if c = 1 then 0 - b
  else if c = 2 then (if b ≤ 0 then (if 0 ≤ b then 0 else -1) else 1)
  else if c = 3 then b else if c = 4 then (if b < 0 then 0 - b else b)
  else if c = 5 then b - 1 else if c = 6 then b + 1
  else if c = 7 then (if b = 0 then 1 else 0) else (if 0 ≤ b then 0 else 1)
def dr_mv (c : Int32) (x : dr_E) : dr_E :=
  if c = 3 then dr_pv 3 (1, 0) x else if x.2 = 0 then (dr_sm c x.1, 0) else (0, x.2)
def dr_id (c : Int32) : Int32 :=
  if c = 2 ∨ c = 3 ∨ c = 7 then 1 else if c = 5 then 2147483647 else if c = 6 then -2147483648 else 0
def dr_fd (c : Int32) (f : Nat → dr_E) : Nat → dr_E → dr_E
  | 0, x => x
  | i + 1, x => dr_fd c f i (dr_pv c (f i) x)
def dr_fold (c : Int32) (f : Nat → dr_E) : Nat → dr_E
  | 0 => (dr_id c, 0)
  | n + 1 => dr_fd c f n (f n)
/-- arrays -/
def dr_ok (M : Nat) : dr_A → Prop
  | (r, e0, e1, e2, el) => r ≤ 3 ∧ e0 ≤ 32 ∧ e1 ≤ 32 ∧ e2 ≤ 32 ∧ (r = 0 → e0 = 1) ∧ (r ≤ 1 → e1 = 1) ∧ (r ≤ 2 → e2 = 1) ∧
    e0 * e1 * e2 ≤ M ∧ ∀ i, i < e0 * e1 * e2 → dr_eok (el i)
def dr_le (r e0 e1 e2 : Nat) : Nat := if r = 3 then e2 else if r = 2 then e1 else e0
def dr_rw (r e0 e1 : Nat) : Nat := if r = 3 then e0 * e1 else if r = 2 then e0 else 1
def dr_mk (w1 w2 : Nat) (g : Nat → Nat → Nat → dr_E) : Nat → dr_E := fun t => g (t / w2 / w1) (t / w2 % w1) (t % w2)
theorem dr_dv {q w l : Nat} (h : l < w) : (q * w + l) / w = q := by
  rw [Nat.add_comm, Nat.add_mul_div_right _ _ (by omega), Nat.div_eq_of_lt h, Nat.zero_add]
theorem dr_md {q w l : Nat} (h : l < w) : (q * w + l) % w = l := by
  rw [Nat.add_comm, Nat.add_mul_mod_self_right, Nat.mod_eq_of_lt h]
theorem dr_mk_at {w1 w2 i j l : Nat} {g : Nat → Nat → Nat → dr_E} (hj : j < w1) (hl : l < w2) : dr_mk w1 w2 g ((i * w1 + j) * w2 + l) = g i j l := by
  unfold dr_mk
  rw [dr_dv hl, dr_md hl, dr_dv hj, dr_md hj]
theorem dr_f2 {q n p m : Nat} (hq : q < n) (hp : p < m) : q * m + p < n * m := by
  have h := Nat.mul_le_mul_right m (show q + 1 ≤ n from hq)
  rw [Nat.succ_mul] at h
  omega
theorem dr_f3 {e0 e1 e2 i0 i1 i2 : Nat} (h0 : i0 < e0) (h1 : i1 < e1) (h2 : i2 < e2) : (i0 * e1 + i1) * e2 + i2 < e0 * e1 * e2 :=
  dr_f2 (dr_f2 h0 h1) h2
theorem dr_un3 {e0 e1 e2 t : Nat} (h : t < e0 * e1 * e2) : ∃ i0 i1 i2, i0 < e0 ∧ i1 < e1 ∧ i2 < e2 ∧ t = (i0 * e1 + i1) * e2 + i2 := by
  have h2 : 0 < e2 := by
    rcases Nat.eq_zero_or_pos e2 with z | z
    · subst z; omega
    · exact z
  have h1 : 0 < e1 := by
    rcases Nat.eq_zero_or_pos e1 with z | z
    · subst z; simp at h
    · exact z
  have d2 : t / e2 < e0 * e1 := by
    rw [Nat.div_lt_iff_lt_mul h2]; exact h
  have d1 : t / e2 / e1 < e0 := by
    rw [Nat.div_lt_iff_lt_mul h1]; exact d2
  refine ⟨t / e2 / e1, t / e2 % e1, t % e2, d1, Nat.mod_lt _ h1, Nat.mod_lt _ h2, ?_⟩
  rw [Nat.div_add_mod' (t / e2) e1, Nat.div_add_mod' t e2]
/-- loops -/
theorem dr_lp3 {σ : Type} (n0 n1 n2 : Nat) (W0 : Nat → Nat → Nat → σ → Prop) (W1 : Nat → Nat → Nat → Nat → Nat → σ → Prop) (W2 : Nat → Nat → Nat → Nat → Nat → Nat → Nat → σ → Prop) (I : Nat → σ → Prop)
    (h0x : ∀ f s, I (n0 * n1 * n2) s → W0 (f + 1) n0 (n0 * n1 * n2) s)
    (h0 : ∀ f i0 t s, i0 < n0 → (∃ f1, W1 f i0 f1 0 t s) → W0 (f + 1) i0 t s)
    (h1x : ∀ f i0 f1 t s, i0 < n0 → W0 f (i0 + 1) t s → W1 f i0 (f1 + 1) n1 t s)
    (h1 : ∀ f i0 f1 i1 t s, i0 < n0 → i1 < n1 → (∃ f2, W2 f i0 f1 i1 f2 0 t s) → W1 f i0 (f1 + 1) i1 t s)
    (h2x : ∀ f i0 f1 i1 f2 t s, i0 < n0 → i1 < n1 → W1 f i0 f1 (i1 + 1) t s → W2 f i0 f1 i1 (f2 + 1) n2 t s)
    (h2 : ∀ f i0 f1 i1 f2 i2 s, i0 < n0 → i1 < n1 → i2 < n2 → I ((i0 * n1 + i1) * n2 + i2) s → (∀ s', I ((i0 * n1 + i1) * n2 + i2 + 1) s' → W2 f i0 f1 i1 f2 (i2 + 1) ((i0 * n1 + i1) * n2 + i2 + 1) s') → W2 f i0 f1 i1 (f2 + 1) i2 ((i0 * n1 + i1) * n2 + i2) s) :
    ∀ s, I 0 s → ∃ f, W0 f 0 0 s := by
  have c2 : ∀ d f i0 f1 i1 i2 s, i0 < n0 → i1 < n1 → i2 + d = n2 → I ((i0 * n1 + i1) * n2 + i2) s → (∀ s', I ((i0 * n1 + (i1 + 1)) * n2) s' → W1 f i0 f1 (i1 + 1) ((i0 * n1 + (i1 + 1)) * n2) s') → W2 f i0 f1 i1 (d + 1) i2 ((i0 * n1 + i1) * n2 + i2) s := by
    intro d
    induction d with
    | zero =>
      intro f i0 f1 i1 i2 s a b e hI k
      have e' : i2 = n2 := by omega
      rw [e'] at hI ⊢
      have q : (i0 * n1 + i1) * n2 + n2 = (i0 * n1 + (i1 + 1)) * n2 := by rw [← Nat.add_assoc, Nat.succ_mul]
      rw [q] at hI ⊢
      exact h2x f i0 f1 i1 0 _ s a b (k s hI)
    | succ d ih =>
      intro f i0 f1 i1 i2 s a b e hI k
      exact h2 f i0 f1 i1 (d + 1) i2 s a b (by omega) hI (fun s' h => ih f i0 f1 i1 (i2 + 1) s' a b (by omega) h k)
  have c1 : ∀ d f i0 i1 s, i0 < n0 → i1 + d = n1 → I ((i0 * n1 + i1) * n2) s → (∀ s', I ((i0 + 1) * n1 * n2) s' → W0 f (i0 + 1) ((i0 + 1) * n1 * n2) s') → W1 f i0 (d + 1) i1 ((i0 * n1 + i1) * n2) s := by
    intro d
    induction d with
    | zero =>
      intro f i0 i1 s a e hI k
      have e' : i1 = n1 := by omega
      rw [e'] at hI ⊢
      have q : i0 * n1 + n1 = (i0 + 1) * n1 := by rw [Nat.succ_mul]
      rw [q] at hI ⊢
      exact h1x f i0 0 _ s a (k s hI)
    | succ d ih =>
      intro f i0 i1 s a e hI k
      exact h1 f i0 (d + 1) i1 _ s a (by omega) ⟨n2 + 1, c2 n2 f i0 (d + 1) i1 0 s a (by omega) (by omega) hI (fun s' h => ih f i0 (i1 + 1) s' a (by omega) h k)⟩
  have c0 : ∀ d i0 s, i0 + d = n0 → I (i0 * n1 * n2) s → W0 (d + 1) i0 (i0 * n1 * n2) s := by
    intro d
    induction d with
    | zero =>
      intro i0 s e hI
      have e' : i0 = n0 := by omega
      rw [e'] at hI ⊢
      exact h0x 0 s hI
    | succ d ih =>
      intro i0 s e hI
      exact h0 (d + 1) i0 _ s (by omega) ⟨n1 + 1, c1 n1 (d + 1) i0 0 s (by omega) (by omega) hI (fun s' h => ih (i0 + 1) s' (by omega) h)⟩
  intro s h
  have z := c0 n0 0 s (by omega) (by rw [Nat.zero_mul, Nat.zero_mul]; exact h)
  rw [Nat.zero_mul, Nat.zero_mul] at z
  exact ⟨_, z⟩
theorem dr_lp2 {σ : Type} (n0 n1 : Nat) (W0 : Nat → Nat → σ → Prop) (W1 : Nat → Nat → Nat → Nat → σ → Prop) (I : Nat → σ → Prop)
    (h0x : ∀ f s, I (n0 * n1) s → W0 (f + 1) n0 s)
    (h0 : ∀ f i0 s, i0 < n0 → (∃ f1, W1 f i0 f1 0 s) → W0 (f + 1) i0 s)
    (h1x : ∀ f i0 f1 s, i0 < n0 → W0 f (i0 + 1) s → W1 f i0 (f1 + 1) n1 s)
    (h1 : ∀ f i0 f1 i1 s, i0 < n0 → i1 < n1 → I (i0 * n1 + i1) s → (∀ s', I (i0 * n1 + i1 + 1) s' → W1 f i0 f1 (i1 + 1) s') → W1 f i0 (f1 + 1) i1 s) :
    ∀ s, I 0 s → ∃ f, W0 f 0 s := by
  have c1 : ∀ d f i0 i1 s, i0 < n0 → i1 + d = n1 → I (i0 * n1 + i1) s → (∀ s', I ((i0 + 1) * n1) s' → W0 f (i0 + 1) s') → W1 f i0 (d + 1) i1 s := by
    intro d
    induction d with
    | zero =>
      intro f i0 i1 s a e hI k
      have e' : i1 = n1 := by omega
      rw [e'] at hI ⊢
      have q : i0 * n1 + n1 = (i0 + 1) * n1 := by rw [Nat.succ_mul]
      rw [q] at hI
      exact h1x f i0 0 s a (k s hI)
    | succ d ih =>
      intro f i0 i1 s a e hI k
      exact h1 f i0 (d + 1) i1 s a (by omega) hI (fun s' h => ih f i0 (i1 + 1) s' a (by omega) h k)
  have c0 : ∀ d i0 s, i0 + d = n0 → I (i0 * n1) s → W0 (d + 1) i0 s := by
    intro d
    induction d with
    | zero =>
      intro i0 s e hI
      have e' : i0 = n0 := by omega
      rw [e'] at hI ⊢
      exact h0x 0 s hI
    | succ d ih =>
      intro i0 s e hI
      exact h0 (d + 1) i0 s (by omega) ⟨n1 + 1, c1 n1 (d + 1) i0 0 s (by omega) (by omega) hI (fun s' h => ih (i0 + 1) s' (by omega) h)⟩
  intro s h
  exact ⟨_, c0 n0 0 s (by omega) (by rw [Nat.zero_mul]; exact h)⟩
/-- an up-counting loop from i0 -/
theorem dr_lp1 {σ : Type} (e : Nat) (W : Nat → Nat → σ → Prop) (I : Nat → σ → Prop)
    (hx : ∀ f s, I e s → W (f + 1) e s)
    (hs : ∀ f i s, i < e → I i s → (∀ s', I (i + 1) s' → W f (i + 1) s') → W (f + 1) i s) (i : Nat) (hi : i ≤ e) (s : σ) (h : I i s) : ∃ f, W f i s :=
  ⟨e - i + 1, loop_i W I e hx hs (e - i + 1) i s hi (by omega) h⟩
/-- programs -/
def dr_ad (ia sd : Nat → Int32) (x0 x1 x2 : Int32) (c : Nat) : Int32 := ia c + x0 * sd (3 * c) + x1 * sd (3 * c + 1) + x2 * sd (3 * c + 2)
def dr_lf (mv mf : Nat → Int32) (k ad : Int32) : dr_E :=
  if k = 1 then (ad, 0) else if ad < 0 then (0, 0) else if 1568 ≤ ad then (0, 0) else (mv ad.toNatClampNeg, mf ad.toNatClampNeg)
def dr_s1 (c : Int32) : List dr_E → Option (List dr_E)
  | x :: s => some (dr_mv c x :: s)
  | [] => none
def dr_s2 (c : Int32) : List dr_E → Option (List dr_E)
  | l :: r :: s => some (dr_pv c l r :: s)
  | _ => none
def dr_st (mv mf ik ia sd : Nat → Int32) (x0 x1 x2 : Int32) (c : Nat) (s : List dr_E) : Option (List dr_E) :=
  if ik c = 2 then dr_s1 (ia c) s
  else if ik c = 3 then dr_s2 (ia c) s
  else some (dr_lf mv mf (ik c) (dr_ad ia sd x0 x1 x2 c) :: s)
def dr_rn (mv mf ik ia sd : Nat → Int32) (x0 x1 x2 : Int32) : Nat → Nat → List dr_E → Option (List dr_E)
  | 0, _, s => some s
  | n + 1, c, s => (dr_st mv mf ik ia sd x0 x1 x2 c s).bind (dr_rn mv mf ik ia sd x0 x1 x2 n (c + 1))
theorem dr_rn_s {mv mf ik ia sd : Nat → Int32} {x0 x1 x2 : Int32} {n c : Nat} {s : List dr_E} :
    dr_rn mv mf ik ia sd x0 x1 x2 (n + 1) c s = (dr_st mv mf ik ia sd x0 x1 x2 c s).bind (dr_rn mv mf ik ia sd x0 x1 x2 n (c + 1)) := by rw [dr_rn]
theorem dr_rn_0 {mv mf ik ia sd : Nat → Int32} {x0 x1 x2 : Int32} {c : Nat} {s : List dr_E} : dr_rn mv mf ik ia sd x0 x1 x2 0 c s = some s := by rw [dr_rn]
theorem dr_rn_1 {mv mf ik ia sd : Nat → Int32} {x0 x1 x2 : Int32} {c : Nat} {s : List dr_E} : dr_rn mv mf ik ia sd x0 x1 x2 1 c s = dr_st mv mf ik ia sd x0 x1 x2 c s := by
  rw [dr_rn_s]
  cases dr_st mv mf ik ia sd x0 x1 x2 c s with
  | none => rfl
  | some s' => rw [Option.bind_some, dr_rn_0]
def dr_ev (S : Nat → Prop) (mv mf ik ia sd : Nat → Int32) (a m : Nat) (x0 x1 x2 : Int32) (v : dr_E) : Prop :=
  ∀ mv' mf' : Nat → Int32, (∀ j, S j → mv' j = mv j ∧ mf' j = mf j) → ∀ s, dr_rn mv' mf' ik ia sd x0 x1 x2 m a s = some (v :: s)
theorem dr_rn_eq {mv mf ik ia sd mv' mf' ik' ia' sd' : Nat → Int32} {x0 x1 x2 y0 y1 y2 : Int32} : ∀ (m c : Nat) (s : List dr_E),
    (∀ d s, c ≤ d → d < c + m → dr_st mv' mf' ik' ia' sd' y0 y1 y2 d s = dr_st mv mf ik ia sd x0 x1 x2 d s) →
    dr_rn mv' mf' ik' ia' sd' y0 y1 y2 m c s = dr_rn mv mf ik ia sd x0 x1 x2 m c s := by
  intro m
  induction m with
  | zero => intro c s _; rw [dr_rn_0, dr_rn_0]
  | succ m ih =>
    intro c s h
    rw [dr_rn_s, dr_rn_s, h c s (Nat.le_refl _) (by omega)]
    refine congrArg _ (funext fun s' => ?_)
    exact ih (c + 1) s' (fun d s h1 h2 => h d s (by omega) (by omega))
theorem dr_rn_app {mv mf ik ia sd : Nat → Int32} {x0 x1 x2 : Int32} {k : Nat} : ∀ (m c : Nat) (s : List dr_E),
    dr_rn mv mf ik ia sd x0 x1 x2 (m + k) c s = (dr_rn mv mf ik ia sd x0 x1 x2 m c s).bind (dr_rn mv mf ik ia sd x0 x1 x2 k (c + m)) := by
  intro m
  induction m with
  | zero => intro c s; rw [Nat.zero_add, dr_rn_0, Option.bind_some, Nat.add_zero]
  | succ m ih =>
    intro c s
    rw [Nat.succ_add, dr_rn_s, dr_rn_s, Option.bind_assoc]
    refine congrArg _ (funext fun s' => ?_)
    rw [ih (c + 1) s', show c + 1 + m = c + (m + 1) from by omega]
theorem dr_ev_map {S : Nat → Prop} {mv mf ik ia sd ik' ia' sd' : Nat → Int32} {a m : Nat} {x0 x1 x2 y0 y1 y2 : Int32} {v : dr_E}
    (h : dr_ev S mv mf ik ia sd a m x0 x1 x2 v)
    (hc : ∀ d, a ≤ d → d < a + m → ik' d = ik d ∧ (ik d = 2 ∨ ik d = 3 → ia' d = ia d) ∧ (¬ (ik d = 2 ∨ ik d = 3) → dr_ad ia' sd' y0 y1 y2 d = dr_ad ia sd x0 x1 x2 d)) :
    dr_ev S mv mf ik' ia' sd' a m y0 y1 y2 v := by
  intro mv' mf' hm s
  rw [← h mv' mf' hm s]
  apply dr_rn_eq
  intro d s h1 h2
  obtain ⟨ek, eo, el⟩ := hc d h1 h2
  unfold dr_st
  rw [ek]
  by_cases k2 : ik d = 2
  · rw [if_pos k2, if_pos k2, eo (Or.inl k2)]
  · rw [if_neg k2, if_neg k2]
    by_cases k3 : ik d = 3
    · rw [if_pos k3, if_pos k3, eo (Or.inr k3)]
    · rw [if_neg k3, if_neg k3, el (fun z => z.elim k2 k3)]
theorem dr_ev_mem {S S' : Nat → Prop} {mv mf mv' mf' ik ia sd : Nat → Int32} {a m : Nat} {x0 x1 x2 : Int32} {v : dr_E}
    (h : dr_ev S mv mf ik ia sd a m x0 x1 x2 v) (hm : ∀ j, S j → S' j ∧ mv' j = mv j ∧ mf' j = mf j) : dr_ev S' mv' mf' ik ia sd a m x0 x1 x2 v := by
  intro m1 m2 h1 s
  refine h m1 m2 (fun j hj => ?_) s
  obtain ⟨a1, a2, a3⟩ := hm j hj
  obtain ⟨b1, b2⟩ := h1 j a1
  exact ⟨b1.trans a2, b2.trans a3⟩
theorem dr_st_2 {mv mf ik ia sd : Nat → Int32} {x0 x1 x2 c : Int32} {d : Nat} {v : dr_E} {s : List dr_E} (h2 : ik d = 2) (hc : ia d = c) : dr_st mv mf ik ia sd x0 x1 x2 d (v :: s) = some (dr_mv c v :: s) := by
  unfold dr_st
  rw [if_pos h2, hc]
  rfl
theorem dr_st_3 {mv mf ik ia sd : Nat → Int32} {x0 x1 x2 c : Int32} {d : Nat} {v w : dr_E} {s : List dr_E} (h3 : ik d = 3) (hc : ia d = c) : dr_st mv mf ik ia sd x0 x1 x2 d (w :: v :: s) = some (dr_pv c w v :: s) := by
  unfold dr_st
  rw [if_neg (by rw [h3]; decide), if_pos h3, hc]
  rfl
theorem dr_st_1 {mv mf ik ia sd : Nat → Int32} {x0 x1 x2 x : Int32} {d : Nat} {s : List dr_E} (h1 : ik d = 1) (hx : dr_ad ia sd x0 x1 x2 d = x) : dr_st mv mf ik ia sd x0 x1 x2 d s = some ((x, 0) :: s) := by
  unfold dr_st dr_lf
  rw [if_neg (by rw [h1]; decide), if_neg (by rw [h1]; decide), if_pos h1, hx]
theorem dr_st_0 {mv mf ik ia sd : Nat → Int32} {x0 x1 x2 : Int32} {d q : Nat} {s : List dr_E} (h0 : ik d = 0) (hx : dr_ad ia sd x0 x1 x2 d = nI q) (hq : q < 1568) : dr_st mv mf ik ia sd x0 x1 x2 d s = some ((mv q, mf q) :: s) := by
  have h : ¬ (1568 : Int32) ≤ nI q := nI_ge (b := 1568) hq (by omega)
  unfold dr_st dr_lf
  rw [if_neg (by rw [h0]; decide), if_neg (by rw [h0]; decide), if_neg (by rw [h0]; decide), hx, if_neg (nI_pos (by omega)), if_neg h, nI_clamp (by omega)]
theorem dr_ev_dy {S : Nat → Prop} {mv mf ik ia sd : Nat → Int32} {a m k : Nat} {x0 x1 x2 c : Int32} {v w : dr_E}
    (hr : dr_ev S mv mf ik ia sd a m x0 x1 x2 v) (hl : dr_ev S mv mf ik ia sd (a + m) k x0 x1 x2 w) (h3 : ik (a + m + k) = 3) (hc : ia (a + m + k) = c) :
    dr_ev S mv mf ik ia sd a (m + k + 1) x0 x1 x2 (dr_pv c w v) := by
  intro m1 m2 h1 s
  rw [dr_rn_app (k := 1) (m + k) a s, dr_rn_app (k := k) m a s, hr m1 m2 h1 s, Option.bind_some, hl m1 m2 h1 (v :: s), Option.bind_some, dr_rn_1, ← Nat.add_assoc, dr_st_3 h3 hc]
theorem dr_ev_mo {S : Nat → Prop} {mv mf ik ia sd : Nat → Int32} {a m : Nat} {x0 x1 x2 c : Int32} {v : dr_E}
    (hr : dr_ev S mv mf ik ia sd a m x0 x1 x2 v) (h2 : ik (a + m) = 2) (hc : ia (a + m) = c) :
    dr_ev S mv mf ik ia sd a (m + 1) x0 x1 x2 (dr_mv c v) := by
  intro m1 m2 h1 s
  rw [dr_rn_app (k := 1) m a s, hr m1 m2 h1 s, Option.bind_some, dr_rn_1, dr_st_2 h2 hc]
theorem dr_ev_sr {S : Nat → Prop} {mv mf ik ia sd : Nat → Int32} {a : Nat} {x0 x1 x2 x : Int32} (h1 : ik a = 1) (hx : dr_ad ia sd x0 x1 x2 a = x) :
    dr_ev S mv mf ik ia sd a 1 x0 x1 x2 (x, 0) := by
  intro m1 m2 _ s
  rw [dr_rn_1, dr_st_1 h1 hx]
theorem dr_ev_ce {S : Nat → Prop} {mv mf ik ia sd : Nat → Int32} {a q : Nat} {x0 x1 x2 : Int32} (h1 : ik a = 0) (hx : dr_ad ia sd x0 x1 x2 a = nI q) (hq : q < 1568) (hS : S q) :
    dr_ev S mv mf ik ia sd a 1 x0 x1 x2 (mv q, mf q) := by
  intro m1 m2 hm s
  rw [dr_rn_1, dr_st_0 h1 hx hq, (hm q hS).1, (hm q hS).2]
end
section
def dr_t2 (r : Nat) (s : Int32) : Int32 := if 2 < r then s else 0
def dr_t1 (r : Nat) (a2 s : Int32) : Int32 := if 2 < r then s * a2 else if 1 < r then s else 0
def dr_t0 (r : Nat) (a1 a2 s : Int32) : Int32 := if 2 < r then s * a2 * a1 else if 1 < r then s * a1 else if 0 < r then s else 0
section
variable {post : SX → Prop} {z0 z1 z2 z3 mc vc mt ll oc ep vn cl ov ou cc : Int32} {tk tv mv mf br be wr we ws ik ia sd pd ix rv rf ne st ns ct gv gf : Nat → Int32}
theorem xa_adopt_s {w i n : Nat} (hw : w < 10) (hi : i < 3) (h : wX_adoptShape_16 post (nI w) z0 z1 z2 z3 mc vc mt ll oc ep vn cl ov ou cc n (nI (i + 1)) tk tv mv mf br be wr (upd we (3 * w + i) (ne i)) ws ik ia sd pd ix rv rf ne st ns ct gv gf) :
    wX_adoptShape_16 post (nI w) z0 z1 z2 z3 mc vc mt ll oc ep vn cl ov ou cc (n + 1) (nI i) tk tv mv mf br be wr we ws ik ia sd pd ix rv rf ne st ns ct gv gf := by
  have h1 : ¬ 3 ≤ i := by omega
  rw [wX_adoptShape_16]
  simp (disch := omega) only [h1, forall_eq, true_and, and_true, true_implies, false_implies, not_true_eq_false, not_false_eq_true, implies_true, forall_const, and_self, nI_leI, nI_ltI, nI_eq, vp_in_nI, nI_clamp, nI_add, pk_mul, pk_m1, nI_pred, nI_1, na_l0, na_g0, na_ll0, na_gl0, na_e0, na_p0, na_0p, na_c0, na_m1c, na_ap2, na_l3, na_l32, na_m3, na_m32, na_mr3, na_mr32, na_d1, na_d2, na_d3, na_d4, na_d5, na_d6, na_d7, na_d8, na_d9, ite_true, ite_false, reduceIte, if_true, if_false]
  exact h
theorem xa_adopt_e {x2 : Int32} {n : Nat} (h : post (z0, z1, z2, z3, mc, vc, mt, ll, oc, ep, vn, cl, ov, ou, cc, tk, tv, mv, mf, br, be, wr, we, ws, ik, ia, sd, pd, ix, rv, rf, ne, st, ns, ct, gv, gf)) : wX_adoptShape_16 post x2 z0 z1 z2 z3 mc vc mt ll oc ep vn cl ov ou cc (n + 1) (nI 3) tk tv mv mf br be wr we ws ik ia sd pd ix rv rf ne st ns ct gv gf := by
  rw [wX_adoptShape_16]
  exact br_t (nI_le (a := 3) (b := 3) (by omega) (by omega)) h
theorem xa_adopt {w : Nat} {p : Int32} (hw : w < 10) (K : post (z0, z1, z2, z3, mc, vc, mt, ll, oc, ep, nI (w + 1), cl, ov, ou, cc, tk, tv, mv, mf, br, be, upd wr w p, upd (upd (upd we (3 * w) (ne 0)) (3 * w + 1) (ne 1)) (3 * w + 2) (ne 2), ws, ik, ia, sd, pd, ix, rv, rf, ne, st, ns, ct, gv, gf)) :
    wpX_adoptShape post (z0, z1, z2, z3, mc, vc, mt, ll, oc, ep, nI (w + 1), cl, ov, ou, cc, tk, tv, mv, mf, br, be, wr, we, ws, ik, ia, sd, pd, ix, rv, rf, ne, st, ns, ct, gv, gf) p := by
  simp (disch := omega) only [wpX_adoptShape, forall_eq, true_and, and_true, true_implies, false_implies, not_true_eq_false, not_false_eq_true, implies_true, forall_const, and_self, nI_leI, nI_ltI, nI_eq, vp_in_nI, nI_clamp, nI_add, pk_mul, pk_m1, nI_pred, nI_1, na_l0, na_g0, na_ll0, na_gl0, na_e0, na_p0, na_0p, na_c0, na_m1c, na_ap2, na_l3, na_l32, na_m3, na_m32, na_mr3, na_mr32, na_d1, na_d2, na_d3, na_d4, na_d5, na_d6, na_d7, na_d8, na_d9, ite_true, ite_false, reduceIte, if_true, if_false]
  exact ⟨4, xa_adopt_s (i := 0) hw (by omega) (xa_adopt_s (i := 1) hw (by omega) (xa_adopt_s (i := 2) hw (by omega) (xa_adopt_e K)))⟩
theorem xa_plan_s {w i n : Nat} (hw : w < 10) (hi : i < 3) (h : wX_planSame_9 post (nI w) z0 z1 z2 z3 mc vc mt ll oc ep vn cl ov ou cc n (nI (i + 1)) tk tv mv mf br be wr we ws ik ia sd pd ix rv rf (upd ne i (we (3 * w + i))) (upd st i 0) ns ct gv gf) :
    wX_planSame_9 post (nI w) z0 z1 z2 z3 mc vc mt ll oc ep vn cl ov ou cc (n + 1) (nI i) tk tv mv mf br be wr we ws ik ia sd pd ix rv rf ne st ns ct gv gf := by
  have h1 : ¬ 3 ≤ i := by omega
  rw [wX_planSame_9]
  simp (disch := omega) only [h1, forall_eq, true_and, and_true, true_implies, false_implies, not_true_eq_false, not_false_eq_true, implies_true, forall_const, and_self, nI_leI, nI_ltI, nI_eq, vp_in_nI, nI_clamp, nI_add, pk_mul, pk_m1, nI_pred, nI_1, na_l0, na_g0, na_ll0, na_gl0, na_e0, na_p0, na_0p, na_c0, na_m1c, na_ap2, na_l3, na_l32, na_m3, na_m32, na_mr3, na_mr32, na_d1, na_d2, na_d3, na_d4, na_d5, na_d6, na_d7, na_d8, na_d9, ite_true, ite_false, reduceIte, if_true, if_false]
  exact h
theorem xa_plan_e {x2 : Int32} {n : Nat} (h : post (z0, z1, z2, z3, mc, vc, mt, ll, oc, ep, vn, cl, ov, ou, cc, tk, tv, mv, mf, br, be, wr, we, ws, ik, ia, sd, pd, ix, rv, rf, ne, st, ns, ct, gv, gf)) : wX_planSame_9 post x2 z0 z1 z2 z3 mc vc mt ll oc ep vn cl ov ou cc (n + 1) (nI 3) tk tv mv mf br be wr we ws ik ia sd pd ix rv rf ne st ns ct gv gf := by
  rw [wX_planSame_9]
  exact br_t (nI_le (a := 3) (b := 3) (by omega) (by omega)) h
theorem xa_plan {w : Nat} (hw : w < 10) (K : post (z0, z1, z2, z3, mc, vc, mt, ll, oc, ep, nI (w + 1), cl, ov, ou, cc, tk, tv, mv, mf, br, be, wr, we, ws, ik, ia, sd, pd, ix, rv, rf, upd (upd (upd ne 0 (we (3 * w))) 1 (we (3 * w + 1))) 2 (we (3 * w + 2)), upd (upd (upd st 0 0) 1 0) 2 0, ns, ct, gv, gf)) :
    wpX_planSame post (z0, z1, z2, z3, mc, vc, mt, ll, oc, ep, nI (w + 1), cl, ov, ou, cc, tk, tv, mv, mf, br, be, wr, we, ws, ik, ia, sd, pd, ix, rv, rf, ne, st, ns, ct, gv, gf) := by
  simp (disch := omega) only [wpX_planSame, forall_eq, true_and, and_true, true_implies, false_implies, not_true_eq_false, not_false_eq_true, implies_true, forall_const, and_self, nI_leI, nI_ltI, nI_eq, vp_in_nI, nI_clamp, nI_add, pk_mul, pk_m1, nI_pred, nI_1, na_l0, na_g0, na_ll0, na_gl0, na_e0, na_p0, na_0p, na_c0, na_m1c, na_ap2, na_l3, na_l32, na_m3, na_m32, na_mr3, na_mr32, na_d1, na_d2, na_d3, na_d4, na_d5, na_d6, na_d7, na_d8, na_d9, ite_true, ite_false, reduceIte, if_true, if_false]
  exact ⟨4, xa_plan_s (i := 0) hw (by omega) (xa_plan_s (i := 1) hw (by omega) (xa_plan_s (i := 2) hw (by omega) (xa_plan_e K)))⟩
theorem xa_add {c : Nat} {p q : Int32} (hc : c < 48) (K : post (z0, z1, z2, z3, mc, vc, mt, ll, oc, ep, vn, nI (c + 1), ov, ou, cc, tk, tv, mv, mf, br, be, wr, we, ws, upd ik c p, upd ia c q, upd (upd (upd sd (3 * c) 0) (3 * c + 1) 0) (3 * c + 2) 0, pd, ix, rv, rf, ne, st, ns, ct, gv, gf)) :
    wpX_addInstruction post (z0, z1, z2, z3, mc, vc, mt, ll, oc, ep, vn, nI c, ov, ou, cc, tk, tv, mv, mf, br, be, wr, we, ws, ik, ia, sd, pd, ix, rv, rf, ne, st, ns, ct, gv, gf) p q := by
  simp (disch := omega) only [wpX_addInstruction, forall_eq, true_and, and_true, true_implies, false_implies, not_true_eq_false, not_false_eq_true, implies_true, forall_const, and_self, nI_leI, nI_ltI, nI_eq, vp_in_nI, nI_clamp, nI_add, pk_mul, pk_m1, nI_pred, nI_1, na_l0, na_g0, na_ll0, na_gl0, na_e0, na_p0, na_0p, na_c0, na_m1c, na_ap2, na_l3, na_l32, na_m3, na_m32, na_mr3, na_mr32, na_d1, na_d2, na_d3, na_d4, na_d5, na_d6, na_d7, na_d8, na_d9, ite_true, ite_false, reduceIte, if_true, if_false]
  exact K
theorem xa_vec {p : Int32} (K : post (z0, z1, z2, z3, mc, vc, mt, ll, oc, ep, vn, cl, ov, ou, cc, tk, tv, mv, mf, br, be, wr, we, ws, ik, ia, sd, pd, ix, rv, rf, upd (upd (upd ne 0 p) 1 1) 2 1, st, ns, ct, gv, gf)) : wpX_planVector post (z0, z1, z2, z3, mc, vc, mt, ll, oc, ep, vn, cl, ov, ou, cc, tk, tv, mv, mf, br, be, wr, we, ws, ik, ia, sd, pd, ix, rv, rf, ne, st, ns, ct, gv, gf) p := by
  simp only [wpX_planVector, forall_eq]
  exact K
theorem xa_open {w : Nat} (hw : w < 10) (K : post (z0, z1, z2, z3, mc, vc, mt, ll, oc, ep, nI (w + 1), cl, ov, ou, cc, tk, tv, mv, mf, br, be, upd wr w 0, upd (upd (upd we (3 * w) 1) (3 * w + 1) 1) (3 * w + 2) 1, upd ws w cl, ik, ia, sd, pd, ix, rv, rf, ne, st, ns, ct, gv, gf)) :
    wpX_openValue post (z0, z1, z2, z3, mc, vc, mt, ll, oc, ep, nI w, cl, ov, ou, cc, tk, tv, mv, mf, br, be, wr, we, ws, ik, ia, sd, pd, ix, rv, rf, ne, st, ns, ct, gv, gf) := by
  simp (disch := omega) only [wpX_openValue, forall_eq, true_and, and_true, true_implies, false_implies, not_true_eq_false, not_false_eq_true, implies_true, forall_const, and_self, nI_leI, nI_ltI, nI_eq, vp_in_nI, nI_clamp, nI_add, pk_mul, pk_m1, nI_pred, nI_1, na_l0, na_g0, na_ll0, na_gl0, na_e0, na_p0, na_0p, na_c0, na_m1c, na_ap2, na_l3, na_l32, na_m3, na_m32, na_mr3, na_mr32, na_d1, na_d2, na_d3, na_d4, na_d5, na_d6, na_d7, na_d8, na_d9, ite_true, ite_false, reduceIte, if_true, if_false]
  exact K
theorem xa_rm {w r c : Nat} {s : Int32} (hw : w < 10) (hc : c < 48) (hr : wr w = nI r) (hr3 : r ≤ 3)
    (K : post (z0, z1, z2, z3, mc, vc, mt, ll, oc, ep, nI (w + 1), cl, ov, ou, cc, tk, tv, mv, mf, br, be, wr, we, ws, ik, ia, upd (upd (upd sd (3 * c + 2) (dr_t2 r s)) (3 * c + 1) (dr_t1 r (we (3 * w + 2)) s)) (3 * c) (dr_t0 r (we (3 * w + 1)) (we (3 * w + 2)) s), pd, ix, rv, rf, ne, st, ns, ct, gv, gf)) :
    wpX_setRowMajor post (z0, z1, z2, z3, mc, vc, mt, ll, oc, ep, nI (w + 1), cl, ov, ou, cc, tk, tv, mv, mf, br, be, wr, we, ws, ik, ia, sd, pd, ix, rv, rf, ne, st, ns, ct, gv, gf) (nI c) s := by
  simp (disch := omega) only [wpX_setRowMajor, forall_eq, true_and, and_true, true_implies, false_implies, not_true_eq_false, not_false_eq_true, implies_true, forall_const, and_self, nI_leI, nI_ltI, nI_eq, vp_in_nI, nI_clamp, nI_add, pk_mul, pk_m1, nI_pred, nI_1, na_l0, na_g0, na_ll0, na_gl0, na_e0, na_p0, na_0p, na_c0, na_m1c, na_ap2, na_l3, na_l32, na_m3, na_m32, na_mr3, na_mr32, na_d1, na_d2, na_d3, na_d4, na_d5, na_d6, na_d7, na_d8, na_d9, ite_true, ite_false, reduceIte, if_true, if_false]
  refine ⟨4, ?_⟩
  have g2 := na_g2 (i := r) (by omega)
  have g1 := na_g1 (i := r) (by omega)
  rcases (show r = 0 ∨ r = 1 ∨ r = 2 ∨ r = 3 by omega) with rfl | rfl | rfl | rfl
  all_goals
    simp only [dr_t2, dr_t1, dr_t0, Nat.reduceLT, if_true, if_false, reduceIte] at K
    simp (disch := omega) only [wX_setRowMajor_13, hr, g1, g2, Nat.reduceLeDiff, Nat.reduceEqDiff, Nat.add_zero, forall_eq, true_and, and_true, true_implies, false_implies, not_true_eq_false, not_false_eq_true, implies_true, forall_const, and_self, nI_leI, nI_ltI, nI_eq, vp_in_nI, nI_clamp, nI_add, pk_mul, pk_m1, nI_pred, nI_1, na_l0, na_g0, na_ll0, na_gl0, na_e0, na_p0, na_0p, na_c0, na_m1c, na_ap2, na_l3, na_l32, na_m3, na_m32, na_mr3, na_mr32, na_d1, na_d2, na_d3, na_d4, na_d5, na_d6, na_d7, na_d8, na_d9, ite_true, ite_false, reduceIte, if_true, if_false]
    exact K
end
section
variable {post : Int32 → Prop} {z0 z1 z2 z3 mc vc mt ll oc ep vn cl ov ou cc : Int32} {tk tv mv mf br be wr we ws ik ia sd pd ix rv rf ne st ns ct gv gf : Nat → Int32}
theorem xa_cnt {w : Nat} (hw : w < 10) (K : post (we (3 * w) * we (3 * w + 1) * we (3 * w + 2))) : wpX_countOf post (z0, z1, z2, z3, mc, vc, mt, ll, oc, ep, vn, cl, ov, ou, cc, tk, tv, mv, mf, br, be, wr, we, ws, ik, ia, sd, pd, ix, rv, rf, ne, st, ns, ct, gv, gf) (nI w) := by
  simp (disch := omega) only [wpX_countOf, forall_eq, true_and, and_true, true_implies, false_implies, not_true_eq_false, not_false_eq_true, implies_true, forall_const, and_self, nI_leI, nI_ltI, nI_eq, vp_in_nI, nI_clamp, nI_add, pk_mul, pk_m1, nI_pred, nI_1, na_l0, na_g0, na_ll0, na_gl0, na_e0, na_p0, na_0p, na_c0, na_m1c, na_ap2, na_l3, na_l32, na_m3, na_m32, na_mr3, na_mr32, na_d1, na_d2, na_d3, na_d4, na_d5, na_d6, na_d7, na_d8, na_d9, ite_true, ite_false, reduceIte, if_true, if_false]
  exact K
end
section
variable {post : SX → Prop} {z0 z1 z2 z3 mc vc mt ll oc ep vn cl ov ou cc : Int32} {tk tv mv mf br be wr we ws ik ia sd pd ix rv rf ne st ns ct gv gf : Nat → Int32}
theorem xa_const {w a : Nat} {x : Int32} (hw : w < 10) (ha : a < 48) (hs : ws w = nI a)
    (K : ∀ sd', (∀ j, j < 3 * a → sd' j = sd j) → sd' (3 * a) = 0 → sd' (3 * a + 1) = 0 → sd' (3 * a + 2) = 0 → post (z0, z1, z2, z3, mc, vc, mt, ll, oc, ep, nI (w + 1), nI (a + 1), ov, ou, cc, tk, tv, mv, mf, br, be, wr, we, ws, upd ik a 1, upd ia a x, sd', pd, ix, rv, rf, ne, st, ns, ct, gv, gf)) :
    wpX_becomeConstant post (z0, z1, z2, z3, mc, vc, mt, ll, oc, ep, nI (w + 1), cl, ov, ou, cc, tk, tv, mv, mf, br, be, wr, we, ws, ik, ia, sd, pd, ix, rv, rf, ne, st, ns, ct, gv, gf) x := by
  simp (disch := omega) only [wpX_becomeConstant, hs, forall_eq, true_and, and_true, true_implies, false_implies, not_true_eq_false, not_false_eq_true, implies_true, forall_const, and_self, nI_leI, nI_ltI, nI_eq, vp_in_nI, nI_clamp, nI_add, pk_mul, pk_m1, nI_pred, nI_1, na_l0, na_g0, na_ll0, na_gl0, na_e0, na_p0, na_0p, na_c0, na_m1c, na_ap2, na_l3, na_l32, na_m3, na_m32, na_mr3, na_mr32, na_d1, na_d2, na_d3, na_d4, na_d5, na_d6, na_d7, na_d8, na_d9, ite_true, ite_false, reduceIte, if_true, if_false]
  refine xa_add ha ?_
  dsimp only
  refine K _ (fun j hj => ?_) ?_ ?_ ?_
  · rw [pk_un (by omega), pk_un (by omega), pk_un (by omega)]
  · rw [pk_un (by omega), pk_un (by omega), pk_us]
  · rw [pk_un (by omega), pk_us]
  · rw [pk_us]
theorem xa_blk {w a r : Nat} {x : Int32} (hw : w < 10) (ha : a < 48) (hs : ws w = nI a) (hr : wr w = nI r) (hr3 : r ≤ 3)
    (K : ∀ sd', (∀ j, j < 3 * a → sd' j = sd j) → sd' (3 * a) = dr_t0 r (we (3 * w + 1)) (we (3 * w + 2)) 1 → sd' (3 * a + 1) = dr_t1 r (we (3 * w + 2)) 1 → sd' (3 * a + 2) = dr_t2 r 1 →
      post (z0, z1, z2, z3, mc, vc, mt, ll, oc, ep, nI (w + 1), nI (a + 1), ov, ou, cc, tk, tv, mv, mf, br, be, wr, we, ws, upd ik a 0, upd ia a x, sd', pd, ix, rv, rf, ne, st, ns, ct, gv, gf)) :
    wpX_becomeBlock post (z0, z1, z2, z3, mc, vc, mt, ll, oc, ep, nI (w + 1), cl, ov, ou, cc, tk, tv, mv, mf, br, be, wr, we, ws, ik, ia, sd, pd, ix, rv, rf, ne, st, ns, ct, gv, gf) x := by
  simp (disch := omega) only [wpX_becomeBlock, hs, forall_eq, true_and, and_true, true_implies, false_implies, not_true_eq_false, not_false_eq_true, implies_true, forall_const, and_self, nI_leI, nI_ltI, nI_eq, vp_in_nI, nI_clamp, nI_add, pk_mul, pk_m1, nI_pred, nI_1, na_l0, na_g0, na_ll0, na_gl0, na_e0, na_p0, na_0p, na_c0, na_m1c, na_ap2, na_l3, na_l32, na_m3, na_m32, na_mr3, na_mr32, na_d1, na_d2, na_d3, na_d4, na_d5, na_d6, na_d7, na_d8, na_d9, ite_true, ite_false, reduceIte, if_true, if_false]
  refine xa_add ha ?_
  simp (disch := omega) only [forall_eq, true_and, and_true, true_implies, false_implies, not_true_eq_false, not_false_eq_true, implies_true, forall_const, and_self, nI_leI, nI_ltI, nI_eq, vp_in_nI, nI_clamp, nI_add, pk_mul, pk_m1, nI_pred, nI_1, na_l0, na_g0, na_ll0, na_gl0, na_e0, na_p0, na_0p, na_c0, na_m1c, na_ap2, na_l3, na_l32, na_m3, na_m32, na_mr3, na_mr32, na_d1, na_d2, na_d3, na_d4, na_d5, na_d6, na_d7, na_d8, na_d9, ite_true, ite_false, reduceIte, if_true, if_false]
  refine xa_rm hw (c := a) ha hr hr3 ?_
  dsimp only
  refine K _ (fun j hj => ?_) ?_ ?_ ?_
  · rw [pk_un (by omega), pk_un (by omega), pk_un (by omega), pk_un (by omega), pk_un (by omega), pk_un (by omega)]
  · rw [pk_us]
  · rw [pk_un (by omega), pk_us]
  · rw [pk_un (by omega), pk_un (by omega), pk_us]
theorem xa_sto {q : Nat} (hq : q < 1568) (hf : dr_fok ou) (K : post (z0, z1, z2, z3, mc, vc, mt, ll, oc, ep, vn, cl, ov, ou, cc, tk, tv, upd mv q ov, upd mf q ou, br, be, wr, we, ws, ik, ia, sd, pd, ix, rv, rf, ne, st, ns, ct, gv, gf)) : wpX_storeOut post (z0, z1, z2, z3, mc, vc, mt, ll, oc, ep, vn, cl, ov, ou, cc, tk, tv, mv, mf, br, be, wr, we, ws, ik, ia, sd, pd, ix, rv, rf, ne, st, ns, ct, gv, gf) (nI q) := by
  simp (disch := omega) only [wpX_storeOut, na_nar hf, forall_eq, true_and, and_true, true_implies, false_implies, not_true_eq_false, not_false_eq_true, implies_true, forall_const, and_self, nI_leI, nI_ltI, nI_eq, vp_in_nI, nI_clamp, nI_add, pk_mul, pk_m1, nI_pred, nI_1, na_l0, na_g0, na_ll0, na_gl0, na_e0, na_p0, na_0p, na_c0, na_m1c, na_ap2, na_l3, na_l32, na_m3, na_m32, na_mr3, na_mr32, na_d1, na_d2, na_d3, na_d4, na_d5, na_d6, na_d7, na_d8, na_d9, ite_true, ite_false, reduceIte, if_true, if_false]
  exact K
end
end
section
def dr_sk : List dr_E → (Nat → Int32) → (Nat → Int32) → Prop
  | [], _, _ => True
  | x :: s, rv, rf => rv s.length = x.1 ∧ rf s.length = x.2 ∧ dr_sk s rv rf
theorem dr_sk_u {k : Nat} {a b : Int32} {rv rf : Nat → Int32} : ∀ {s : List dr_E}, dr_sk s rv rf → s.length ≤ k → dr_sk s (upd rv k a) (upd rf k b)
  | [], _, _ => trivial
  | x :: s, h, hk => by
    have hk' : s.length + 1 ≤ k := hk
    exact ⟨(pk_un (by omega)).trans h.1, (pk_un (by omega)).trans h.2.1, dr_sk_u h.2.2 (by omega)⟩
section
variable {z0 z1 z2 z3 mc vc mt ll oc ep vn cl ov ou cc : Int32} {tk tv mv mf br be wr we ws ik ia sd pd ix rv rf ne st ns ct gv gf : Nat → Int32}
theorem xa_sp {post : Int32 → Prop} {c a b : Int32} (K : post (dr_sp c a b)) : wpX_soundPair post (z0, z1, z2, z3, mc, vc, mt, ll, oc, ep, vn, cl, ov, ou, cc, tk, tv, mv, mf, br, be, wr, we, ws, ik, ia, sd, pd, ix, rv, rf, ne, st, ns, ct, gv, gf) c a b := by
  unfold wpX_soundPair
  dsimp only
  unfold dr_sp at K
  by_cases c0 : c = 0
  · subst c0
    exact br_f (by decide) (br_f (by decide) (br_t rfl K))
  rw [if_neg c0] at K
  by_cases c1 : c = 1
  · subst c1
    exact br_f (by decide) (br_f (by decide) (br_f (by decide) (br_t rfl K)))
  rw [if_neg c1] at K
  by_cases c2 : c = 2
  · subst c2
    exact br_f (by decide) (br_f (by decide) (br_f (by decide) (br_f (by decide) (br_t rfl K))))
  rw [if_neg c2] at K
  by_cases c5 : c = 5
  · subst c5
    refine br_f (by decide) (br_f (by decide) (br_f (by decide) (br_f (by decide) (br_f (by decide) (br_f (by decide) (br_f (by decide) (br_t rfl ?_)))))))
    rw [if_pos rfl] at K
    by_cases h : b ≤ a
    · rw [if_pos h] at K; exact br_t h K
    · rw [if_neg h] at K; exact br_f h K
  rw [if_neg c5] at K
  by_cases c6 : c = 6
  · subst c6
    refine br_f (by decide) (br_f (by decide) (br_f (by decide) (br_f (by decide) (br_f (by decide) (br_f (by decide) (br_f (by decide) (br_f (by decide) (br_t rfl ?_))))))))
    rw [if_pos rfl] at K
    by_cases h : a ≤ b
    · rw [if_pos h] at K; exact br_t h K
    · rw [if_neg h] at K; exact br_f h K
  rw [if_neg c6] at K
  by_cases c7 : c = 7
  · subst c7
    refine br_f (by decide) (br_f (by decide) (br_f (by decide) (br_f (by decide) (br_f (by decide) (br_f (by decide) (br_f (by decide) (br_f (by decide) (br_f (by decide) (br_t rfl ?_)))))))))
    rw [if_pos rfl] at K
    by_cases h : a = b
    · rw [if_pos h] at K; exact br_t h K
    · rw [if_neg h] at K; exact br_f h K
  rw [if_neg c7] at K
  have h93 : wX_soundPair_93 post a b z0 z1 z2 z3 mc vc mt ll oc ep vn cl ov ou cc tk tv mv mf br be wr we ws ik ia sd pd ix rv rf ne st ns ct gv gf := by
    unfold wX_soundPair_93
    by_cases h : b ≤ a
    · rw [if_pos h] at K; exact br_t h K
    · rw [if_neg h] at K; exact br_f h K
  exact ⟨fun _ => h93, fun _ => ⟨fun _ => h93, fun _ => br_f c0 (br_f c1 (br_f c2 ⟨fun _ => h93, fun _ => ⟨fun _ => h93, fun _ => br_f c5 (br_f c6 (br_f c7 trivial))⟩⟩))⟩⟩
theorem xa_sm {post : Int32 → Prop} {c b : Int32} (K : post (dr_sm c b)) : wpX_soundMonad post (z0, z1, z2, z3, mc, vc, mt, ll, oc, ep, vn, cl, ov, ou, cc, tk, tv, mv, mf, br, be, wr, we, ws, ik, ia, sd, pd, ix, rv, rf, ne, st, ns, ct, gv, gf) c b := by
  unfold wpX_soundMonad
  dsimp only
  unfold dr_sm at K
  by_cases h1 : c < 1
  · rw [if_pos h1] at K; exact br_t h1 K
  rw [if_neg h1] at K
  refine br_f h1 ?_
  by_cases h8 : 8 < c
  · rw [if_pos h8] at K; exact br_t h8 K
  rw [if_neg h8] at K
  refine br_f h8 ?_
  by_cases c1 : c = 1
  · rw [if_pos c1] at K; exact br_t c1 K
  rw [if_neg c1] at K
  refine br_f c1 ?_
  by_cases c2 : c = 2
  · rw [if_pos c2] at K
    refine br_t c2 ?_
    by_cases h : b ≤ 0
    · rw [if_pos h] at K
      refine br_t h ?_
      by_cases h' : 0 ≤ b
      · rw [if_pos h'] at K; exact br_t h' K
      · rw [if_neg h'] at K; exact br_f h' K
    · rw [if_neg h] at K; exact br_f h K
  rw [if_neg c2] at K
  refine br_f c2 ?_
  by_cases c3 : c = 3
  · rw [if_pos c3] at K; exact br_t c3 K
  rw [if_neg c3] at K
  refine br_f c3 ?_
  by_cases c4 : c = 4
  · rw [if_pos c4] at K
    refine br_t c4 ?_
    by_cases h : b < 0
    · rw [if_pos h] at K; exact br_t h K
    · rw [if_neg h] at K; exact br_f h K
  rw [if_neg c4] at K
  refine br_f c4 ?_
  by_cases c5 : c = 5
  · rw [if_pos c5] at K; exact br_t c5 K
  rw [if_neg c5] at K
  refine br_f c5 ?_
  by_cases c6 : c = 6
  · rw [if_pos c6] at K; exact br_t c6 K
  rw [if_neg c6] at K
  refine br_f c6 ?_
  by_cases c7 : c = 7
  · rw [if_pos c7] at K
    refine br_t c7 ?_
    by_cases h : b = 0
    · rw [if_pos h] at K; exact br_t h K
    · rw [if_neg h] at K; exact br_f h K
  rw [if_neg c7] at K
  refine br_f c7 ⟨fun _ => ?_, fun _ => trivial⟩
  by_cases h : 0 ≤ b
  · rw [if_pos h] at K; exact br_t h K
  · rw [if_neg h] at K; exact br_f h K
variable {post : SX → Prop}
theorem xa_pair {c : Int32} {x y : dr_E} (K : post (z0, z1, z2, z3, mc, vc, mt, ll, oc, ep, vn, cl, (dr_pv c x y).1, (dr_pv c x y).2, cc, tk, tv, mv, mf, br, be, wr, we, ws, ik, ia, sd, pd, ix, rv, rf, ne, st, ns, ct, gv, gf)) : wpX_pair post (z0, z1, z2, z3, mc, vc, mt, ll, oc, ep, vn, cl, ov, ou, cc, tk, tv, mv, mf, br, be, wr, we, ws, ik, ia, sd, pd, ix, rv, rf, ne, st, ns, ct, gv, gf) c x.1 x.2 y.1 y.2 := by
  unfold wpX_pair
  dsimp only
  by_cases hy : y.2 = 0
  · refine br_t hy ?_
    by_cases hx : x.2 = 0
    · refine br_t hx ?_
      by_cases c3 : c = 3
      · refine br_t c3 ?_
        by_cases y0 : y.1 = 0
        · have e : dr_pv c x y = (0, 1) := by unfold dr_pv; rw [if_pos hy, if_pos hx, if_pos c3, if_pos y0]
          rw [e] at K
          exact br_t y0 K
        · have e : dr_pv c x y = (x.1 / y.1, 0) := by unfold dr_pv; rw [if_pos hy, if_pos hx, if_pos c3, if_neg y0]
          rw [e] at K
          exact br_f y0 ⟨y0, nm_e K⟩
      · refine br_f c3 ?_
        by_cases c4 : c = 4
        · refine br_t c4 ?_
          by_cases y0 : y.1 = 0
          · have e : dr_pv c x y = (0, 2) := by unfold dr_pv; rw [if_pos hy, if_pos hx, if_neg c3, if_pos c4, if_pos y0]
            rw [e] at K
            exact br_t y0 K
          · have e : dr_pv c x y = (x.1 - x.1 / y.1 * y.1, 0) := by unfold dr_pv; rw [if_pos hy, if_pos hx, if_neg c3, if_pos c4, if_neg y0]
            rw [e] at K
            exact br_f y0 ⟨y0, nm_e K⟩
        · refine br_f c4 (xa_sp ?_)
          have e : dr_pv c x y = (dr_sp c x.1 y.1, 0) := by unfold dr_pv; rw [if_pos hy, if_pos hx, if_neg c3, if_neg c4]
          rw [e] at K
          exact K
    · have e : dr_pv c x y = (0, x.2) := by unfold dr_pv; rw [if_pos hy, if_neg hx]
      rw [e] at K
      exact br_f hx K
  · have e : dr_pv c x y = (0, y.2) := by unfold dr_pv; rw [if_neg hy]
    rw [e] at K
    exact br_f hy K
theorem xa_mon {c : Int32} {x : dr_E} (K : post (z0, z1, z2, z3, mc, vc, mt, ll, oc, ep, vn, cl, (dr_mv c x).1, (dr_mv c x).2, cc, tk, tv, mv, mf, br, be, wr, we, ws, ik, ia, sd, pd, ix, rv, rf, ne, st, ns, ct, gv, gf)) : wpX_monad post (z0, z1, z2, z3, mc, vc, mt, ll, oc, ep, vn, cl, ov, ou, cc, tk, tv, mv, mf, br, be, wr, we, ws, ik, ia, sd, pd, ix, rv, rf, ne, st, ns, ct, gv, gf) c x.1 x.2 := by
  unfold wpX_monad
  dsimp only
  by_cases c3 : c = 3
  · refine br_t c3 ?_
    have e : dr_mv c x = dr_pv 3 (1, 0) x := by unfold dr_mv; rw [if_pos c3]
    rw [e] at K
    exact xa_pair (x := (1, 0)) K
  · refine br_f c3 ?_
    by_cases h : x.2 = 0
    · refine br_t h (xa_sm ?_)
      have e : dr_mv c x = (dr_sm c x.1, x.2) := by unfold dr_mv; rw [if_neg c3, if_pos h, h]
      rw [e] at K
      exact K
    · have e : dr_mv c x = (0, x.2) := by unfold dr_mv; rw [if_neg c3, if_neg h]
      rw [e] at K
      exact br_f h K
theorem xa_leaf {c : Nat} (hc : c < 48) (K : post (z0, z1, z2, z3, mc, vc, mt, ll, oc, ep, vn, cl, (dr_lf mv mf (ik c) (dr_ad ia sd (ix 0) (ix 1) (ix 2) c)).1, (dr_lf mv mf (ik c) (dr_ad ia sd (ix 0) (ix 1) (ix 2) c)).2, cc, tk, tv, mv, mf, br, be, wr, we, ws, ik, ia, sd, pd, ix, rv, rf, ne, st, ns, ct, gv, gf)) :
    wpX_loadLeaf post (z0, z1, z2, z3, mc, vc, mt, ll, oc, ep, vn, cl, ov, ou, cc, tk, tv, mv, mf, br, be, wr, we, ws, ik, ia, sd, pd, ix, rv, rf, ne, st, ns, ct, gv, gf) (nI c) := by
  unfold wpX_loadLeaf
  dsimp only
  rw [na_m3, nI_1, na_ap2, nI_clamp (show c < 2 ^ 31 by omega), nI_clamp (show 3 * c < 2 ^ 31 by omega), nI_clamp (show 3 * c + 1 < 2 ^ 31 by omega), nI_clamp (show 3 * c + 2 < 2 ^ 31 by omega)]
  refine ⟨vp_in_nI (by omega) (by omega), vp_in_nI (by omega) (by omega), vp_in_nI (by omega) (by omega), vp_in_nI (by omega) (by omega), ?_⟩
  intro x ex
  have ex' : dr_ad ia sd (ix 0) (ix 1) (ix 2) c = x := ex.symm
  rw [ex'] at K
  refine ⟨vp_in_nI (by omega) (by omega), ?_⟩
  by_cases k1 : ik c = 1
  · have e : dr_lf mv mf (ik c) x = (x, 0) := by unfold dr_lf; rw [if_pos k1]
    rw [e] at K
    exact br_t k1 K
  · refine br_f k1 ?_
    by_cases n0 : x < 0
    · have e : dr_lf mv mf (ik c) x = (0, 0) := by unfold dr_lf; rw [if_neg k1, if_pos n0]
      rw [e] at K
      exact br_t n0 K
    · refine br_f n0 ?_
      by_cases n1 : 1568 ≤ x
      · have e : dr_lf mv mf (ik c) x = (0, 0) := by unfold dr_lf; rw [if_neg k1, if_neg n0, if_pos n1]
        rw [e] at K
        exact br_t n1 K
      · have e : dr_lf mv mf (ik c) x = (mv x.toNatClampNeg, mf x.toNatClampNeg) := by unfold dr_lf; rw [if_neg k1, if_neg n0, if_neg n1]
        rw [e] at K
        obtain ⟨j, hj, rfl⟩ := nI_of n0
        have hj' : j < 1568 := by
          rcases Nat.lt_or_ge j 1568 with z | z
          · exact z
          · exact absurd (nI_le (a := 1568) z hj) n1
        exact br_f n1 ⟨vp_in_nI hj' (by omega), nm_e ⟨vp_in_nI hj' (by omega), nm_e K⟩⟩
theorem xa_run_l {b : Nat} {v : dr_E} (hb : b ≤ 48) (K : ∀ rv rf, post (z0, z1, z2, z3, mc, vc, mt, ll, oc, ep, vn, nI b, v.1, v.2, cc, tk, tv, mv, mf, br, be, wr, we, ws, ik, ia, sd, pd, ix, rv, rf, ne, st, ns, ct, gv, gf)) :
    ∀ (m c : Nat) (s : List dr_E) (rv rf : Nat → Int32) (ov ou : Int32) (n : Nat), c + m = b → m < n → dr_sk s rv rf → s.length ≤ c → (s = [] ∨ ∃ s', s = (ov, ou) :: s') →
      dr_rn mv mf ik ia sd (ix 0) (ix 1) (ix 2) m c s = some [v] → wX_runProgram_14 post n (nI s.length) (nI c) z0 z1 z2 z3 mc vc mt ll oc ep vn (nI b) ov ou cc tk tv mv mf br be wr we ws ik ia sd pd ix rv rf ne st ns ct gv gf := by
  intro m
  induction m with
  | zero =>
    intro c s rv rf ov ou n hc hn hk hl hs hr
    obtain ⟨n, rfl⟩ : ∃ k, n = k + 1 := ⟨n - 1, by omega⟩
    rw [wX_runProgram_14]
    have e : s = [v] := Option.some.inj hr
    rcases hs with z | ⟨s', z⟩
    · rw [z] at e; exact absurd e (by simp)
    · rw [e] at z
      have ev : v = (ov, ou) := (List.cons.inj z).1
      have e2 : c = b := by omega
      have K' := K rv rf
      rw [ev] at K'
      exact br_t (nI_le (by omega) (by omega)) K'
  | succ m ih =>
    intro c s rv rf ov ou n hc hn hk hl hs hr
    obtain ⟨n, rfl⟩ : ∃ k, n = k + 1 := ⟨n - 1, by omega⟩
    rw [wX_runProgram_14]
    refine br_f (nI_ge (by omega) (by omega)) ⟨vp_in_nI (by omega) (by omega), ?_⟩
    rw [nI_clamp (by omega)]
    refine nm_e ?_
    have hr' : (dr_st mv mf ik ia sd (ix 0) (ix 1) (ix 2) c s).bind (dr_rn mv mf ik ia sd (ix 0) (ix 1) (ix 2) m (c + 1)) = some [v] := hr
    unfold dr_st at hr'
    by_cases k2 : ik c = 2
    · refine br_t k2 ?_
      rw [if_pos k2] at hr'
      rcases s with _ | ⟨x, s⟩
      · exact absurd hr' (by simp [dr_s1])
      · have hl' : s.length + 1 ≤ c := hl
        have hr2 : dr_rn mv mf ik ia sd (ix 0) (ix 1) (ix 2) m (c + 1) (dr_mv (ia c) x :: s) = some [v] := hr'
        obtain ⟨hk1, hk2, hk3⟩ := hk
        simp (disch := omega) only [List.length_cons, hk1, hk2, forall_eq, true_and, and_true, true_implies, false_implies, not_true_eq_false, not_false_eq_true, implies_true, forall_const, and_self, nI_leI, nI_ltI, nI_eq, vp_in_nI, nI_clamp, nI_add, pk_mul, pk_m1, nI_pred, nI_1, na_l0, na_g0, na_ll0, na_gl0, na_e0, na_p0, na_0p, na_c0, na_m1c, na_ap2, na_l3, na_l32, na_m3, na_m32, na_mr3, na_mr32, na_d1, na_d2, na_d3, na_d4, na_d5, na_d6, na_d7, na_d8, na_d9, ite_true, ite_false, reduceIte, if_true, if_false]
        refine xa_mon ?_
        dsimp only [wX_runProgram_120]
        simp (disch := omega) only [forall_eq, true_and, and_true, true_implies, false_implies, not_true_eq_false, not_false_eq_true, implies_true, forall_const, and_self, nI_leI, nI_ltI, nI_eq, vp_in_nI, nI_clamp, nI_add, pk_mul, pk_m1, nI_pred, nI_1, na_l0, na_g0, na_ll0, na_gl0, na_e0, na_p0, na_0p, na_c0, na_m1c, na_ap2, na_l3, na_l32, na_m3, na_m32, na_mr3, na_mr32, na_d1, na_d2, na_d3, na_d4, na_d5, na_d6, na_d7, na_d8, na_d9, ite_true, ite_false, reduceIte, if_true, if_false]
        exact ih (c + 1) (dr_mv (ia c) x :: s) _ _ _ _ n (by omega) (by omega) ⟨pk_us, pk_us, dr_sk_u hk3 (Nat.le_refl _)⟩ (by simp only [List.length_cons]; omega) (Or.inr ⟨s, rfl⟩) hr2
    · refine br_f k2 ?_
      rw [if_neg k2] at hr'
      by_cases k3 : ik c = 3
      · refine br_t k3 ?_
        rw [if_pos k3] at hr'
        rcases s with _ | ⟨x, _ | ⟨y, s⟩⟩
        · exact absurd hr' (by simp [dr_s2])
        · exact absurd hr' (by simp [dr_s2])
        · have hl' : s.length + 1 + 1 ≤ c := hl
          have hr2 : dr_rn mv mf ik ia sd (ix 0) (ix 1) (ix 2) m (c + 1) (dr_pv (ia c) x y :: s) = some [v] := hr'
          obtain ⟨hk1, hk2, hk3, hk4, hk5⟩ := hk
          rw [List.length_cons] at hk1 hk2
          simp (disch := omega) only [List.length_cons, hk1, hk2, hk3, hk4, forall_eq, true_and, and_true, true_implies, false_implies, not_true_eq_false, not_false_eq_true, implies_true, forall_const, and_self, nI_leI, nI_ltI, nI_eq, vp_in_nI, nI_clamp, nI_add, pk_mul, pk_m1, nI_pred, nI_1, na_l0, na_g0, na_ll0, na_gl0, na_e0, na_p0, na_0p, na_c0, na_m1c, na_ap2, na_l3, na_l32, na_m3, na_m32, na_mr3, na_mr32, na_d1, na_d2, na_d3, na_d4, na_d5, na_d6, na_d7, na_d8, na_d9, ite_true, ite_false, reduceIte, if_true, if_false]
          refine xa_pair ?_
          dsimp only [wX_runProgram_120]
          simp (disch := omega) only [forall_eq, true_and, and_true, true_implies, false_implies, not_true_eq_false, not_false_eq_true, implies_true, forall_const, and_self, nI_leI, nI_ltI, nI_eq, vp_in_nI, nI_clamp, nI_add, pk_mul, pk_m1, nI_pred, nI_1, na_l0, na_g0, na_ll0, na_gl0, na_e0, na_p0, na_0p, na_c0, na_m1c, na_ap2, na_l3, na_l32, na_m3, na_m32, na_mr3, na_mr32, na_d1, na_d2, na_d3, na_d4, na_d5, na_d6, na_d7, na_d8, na_d9, ite_true, ite_false, reduceIte, if_true, if_false]
          exact ih (c + 1) (dr_pv (ia c) x y :: s) _ _ _ _ n (by omega) (by omega) ⟨pk_us, pk_us, dr_sk_u hk5 (Nat.le_refl _)⟩ (by simp only [List.length_cons]; omega) (Or.inr ⟨s, rfl⟩) hr2
      · refine br_f k3 ?_
        rw [if_neg k3] at hr'
        have hr2 : dr_rn mv mf ik ia sd (ix 0) (ix 1) (ix 2) m (c + 1) (dr_lf mv mf (ik c) (dr_ad ia sd (ix 0) (ix 1) (ix 2) c) :: s) = some [v] := hr'
        refine xa_leaf (by omega) ?_
        dsimp only [wX_runProgram_120]
        simp (disch := omega) only [forall_eq, true_and, and_true, true_implies, false_implies, not_true_eq_false, not_false_eq_true, implies_true, forall_const, and_self, nI_leI, nI_ltI, nI_eq, vp_in_nI, nI_clamp, nI_add, pk_mul, pk_m1, nI_pred, nI_1, na_l0, na_g0, na_ll0, na_gl0, na_e0, na_p0, na_0p, na_c0, na_m1c, na_ap2, na_l3, na_l32, na_m3, na_m32, na_mr3, na_mr32, na_d1, na_d2, na_d3, na_d4, na_d5, na_d6, na_d7, na_d8, na_d9, ite_true, ite_false, reduceIte, if_true, if_false]
        exact ih (c + 1) (_ :: s) _ _ _ _ n (by omega) (by omega) ⟨pk_us, pk_us, dr_sk_u hk (Nat.le_refl _)⟩ (by simp only [List.length_cons]; omega) (Or.inr ⟨s, rfl⟩) hr2
theorem xa_run {w a m : Nat} {v : dr_E} (hw : w < 10) (hs : ws w = nI a) (hb : a + m ≤ 48) (hr : dr_rn mv mf ik ia sd (ix 0) (ix 1) (ix 2) m a [] = some [v])
    (K : ∀ rv rf, post (z0, z1, z2, z3, mc, vc, mt, ll, oc, ep, nI (w + 1), nI (a + m), v.1, v.2, cc, tk, tv, mv, mf, br, be, wr, we, ws, ik, ia, sd, pd, ix, rv, rf, ne, st, ns, ct, gv, gf)) : wpX_runProgram post (z0, z1, z2, z3, mc, vc, mt, ll, oc, ep, nI (w + 1), nI (a + m), ov, ou, cc, tk, tv, mv, mf, br, be, wr, we, ws, ik, ia, sd, pd, ix, rv, rf, ne, st, ns, ct, gv, gf) := by
  simp (disch := omega) only [wpX_runProgram, hs, forall_eq, true_and, and_true, true_implies, false_implies, not_true_eq_false, not_false_eq_true, implies_true, forall_const, and_self, nI_leI, nI_ltI, nI_eq, vp_in_nI, nI_clamp, nI_add, pk_mul, pk_m1, nI_pred, nI_1, na_l0, na_g0, na_ll0, na_gl0, na_e0, na_p0, na_0p, na_c0, na_m1c, na_ap2, na_l3, na_l32, na_m3, na_m32, na_mr3, na_mr32, na_d1, na_d2, na_d3, na_d4, na_d5, na_d6, na_d7, na_d8, na_d9, ite_true, ite_false, reduceIte, if_true, if_false]
  exact ⟨m + 1, xa_run_l hb K m a [] rv rf ov ou (m + 1) rfl (by omega) trivial (Nat.zero_le _) (Or.inl rfl) hr⟩
end
end
section
/-- cells q .. q + t - 1 written with g, the others kept -/
def dr_wr (q : Nat) (g : Nat → dr_E) (mv mf : Nat → Int32) (t : Nat) (mv' mf' : Nat → Int32) : Prop :=
  (∀ j, j < t → mv' (q + j) = (g j).1 ∧ mf' (q + j) = (g j).2) ∧ (∀ j, j < q ∨ q + t ≤ j → mv' j = mv j ∧ mf' j = mf j)
theorem dr_wr0 {q : Nat} {g : Nat → dr_E} {mv mf : Nat → Int32} : dr_wr q g mv mf 0 mv mf := ⟨fun j h => by omega, fun _ _ => ⟨rfl, rfl⟩⟩
theorem dr_wrs {q t : Nat} {g : Nat → dr_E} {mv mf mv' mf' : Nat → Int32} {v : dr_E} (h : dr_wr q g mv mf t mv' mf') (hv : g t = v) :
    dr_wr q g mv mf (t + 1) (upd mv' (q + t) v.1) (upd mf' (q + t) v.2) := by
  refine ⟨fun j hj => ?_, fun j hj => ?_⟩
  · rcases Nat.lt_or_ge j t with z | z
    · rw [pk_un (by omega), pk_un (by omega)]; exact h.1 j z
    · have e : j = t := by omega
      rw [e, pk_us, pk_us, hv]; exact ⟨rfl, rfl⟩
  · rw [pk_un (by omega), pk_un (by omega)]; exact h.2 j (by omega)
theorem dr_wr_S {q t : Nat} {g : Nat → dr_E} {mv mf mv' mf' : Nat → Int32} {S : Nat → Prop} (h : dr_wr q g mv mf t mv' mf') (hS : ∀ j, S j → j < q ∨ q + t ≤ j) :
    ∀ j, S j → mv' j = mv j ∧ mf' j = mf j := fun j hj => h.2 j (hS j hj)
section
variable {post : SX → Prop} {z0 z1 z2 z3 mc vc mt ll oc ep vn cl ov ou cc : Int32} {tk tv mv mf br be wr we ws ik ia sd pd ix rv rf ne st ns ct gv gf : Nat → Int32}
theorem xa_fl_l {w a m ax e : Nat} {c : Int32} {f : Nat → dr_E} {iy : Nat → Int32} (hw : w < 10) (hs : ws w = nI a) (hb : a + m ≤ 48) (hax : ax < 3) (he : e ≤ 32)
    (hr : ∀ j, j < e → dr_rn mv mf ik ia sd (upd iy ax (nI j) 0) (upd iy ax (nI j) 1) (upd iy ax (nI j) 2) m a [] = some [f j]) :
    ∀ (i : Nat) (v : dr_E) (rv rf ix : Nat → Int32) (n : Nat), i ≤ e → i < n → (∀ y, upd ix ax y = upd iy ax y) →
      (∀ rv rf ix, post (z0, z1, z2, z3, mc, vc, mt, ll, oc, ep, nI (w + 1), nI (a + m), (dr_fd c f i v).1, (dr_fd c f i v).2, cc, tk, tv, mv, mf, br, be, wr, we, ws, ik, ia, sd, pd, ix, rv, rf, ne, st, ns, ct, gv, gf)) →
      wX_foldLine_18 post (nI ax) c n (nI i + (-1)) z0 z1 z2 z3 mc vc mt ll oc ep (nI (w + 1)) (nI (a + m)) v.1 v.2 cc tk tv mv mf br be wr we ws ik ia sd pd ix rv rf ne st ns ct gv gf := by
  intro i
  induction i with
  | zero =>
    intro v rv rf ix n _ hn _ K
    obtain ⟨n, rfl⟩ : ∃ k, n = k + 1 := ⟨n - 1, by omega⟩
    rw [wX_foldLine_18, na_z1]
    exact br_t (by decide) (K rv rf ix)
  | succ i ih =>
    intro v rv rf ix n hi hn hix K
    obtain ⟨n, rfl⟩ : ∃ k, n = k + 1 := ⟨n - 1, by omega⟩
    rw [wX_foldLine_18, pk_m1]
    refine br_f (nI_pos (by omega)) ⟨vp_in_nI hax (by omega), ?_⟩
    rw [nI_clamp (by omega), hix]
    refine nm_e ?_
    refine xa_run hw hs hb (hr i (by omega)) ?_
    intro rv' rf'
    dsimp only
    refine xa_pair ?_
    dsimp only
    refine nm_e ?_
    exact ih (dr_pv c (f i) v) rv' rf' _ n (by omega) (by omega) (fun y => na_2u _ _ _ _) K
theorem xa_fl {w a m ax e : Nat} {c : Int32} {f : Nat → dr_E} (hw : w < 10) (hs : ws w = nI a) (hb : a + m ≤ 48) (hax : ax < 3) (he : e + 2 ≤ 32)
    (hr : ∀ j, j < e + 2 → dr_rn mv mf ik ia sd (upd ix ax (nI j) 0) (upd ix ax (nI j) 1) (upd ix ax (nI j) 2) m a [] = some [f j])
    (K : ∀ rv rf ix, post (z0, z1, z2, z3, mc, vc, mt, ll, oc, ep, nI (w + 1), nI (a + m), (dr_fold c f (e + 2)).1, (dr_fold c f (e + 2)).2, cc, tk, tv, mv, mf, br, be, wr, we, ws, ik, ia, sd, pd, ix, rv, rf, ne, st, ns, ct, gv, gf)) :
    wpX_foldLine post (z0, z1, z2, z3, mc, vc, mt, ll, oc, ep, nI (w + 1), nI (a + m), ov, ou, cc, tk, tv, mv, mf, br, be, wr, we, ws, ik, ia, sd, pd, ix, rv, rf, ne, st, ns, ct, gv, gf) (nI ax) (nI (e + 2)) c := by
  unfold wpX_foldLine
  dsimp only
  rw [nI_clamp (show ax < 2 ^ 31 by omega), na_s1 (show 1 ≤ e + 2 by omega), na_s2 (show 2 ≤ e + 2 by omega)]
  refine ⟨vp_in_nI hax (by omega), nm_e ?_⟩
  refine xa_run hw hs hb (hr (e + 1) (by omega)) ?_
  intro rv' rf'
  dsimp only
  refine nm_r (e' := nI (e + 1) + (-1)) (pk_m1 e).symm ?_
  exact ⟨e + 2, xa_fl_l hw hs hb hax he hr (e + 1) (f (e + 1)) rv' rf' _ (e + 2) (by omega) (by omega) (fun y => na_2u _ _ _ _) K⟩
theorem xa_fls {w a m ax e q n0 n1 n2 : Nat} {c : Int32} {F : Nat → Nat → Nat → Nat → dr_E} {g : Nat → dr_E} {S : Nat → Prop} (hw : w < 10) (hs : ws w = nI a) (hb : a + m ≤ 48) (hax : ax < 3) (he : e + 2 ≤ 32)
    (h0 : ne 0 = nI n0) (h1 : ne 1 = nI n1) (h2 : ne 2 = nI n2) (hn0 : n0 ≤ 32) (hn1 : n1 ≤ 32) (hn2 : n2 ≤ 32) (hq : q + 32 ≤ 1568) (hn : n0 * n1 * n2 ≤ 32)
    (hS : ∀ j, S j → j < q ∨ q + 32 ≤ j)
    (hr : ∀ i0 i1 i2 j mv' mf', i0 < n0 → i1 < n1 → i2 < n2 → j < e + 2 → (∀ j, S j → mv' j = mv j ∧ mf' j = mf j) → ∀ iy : Nat → Int32, iy 0 = nI i0 → iy 1 = nI i1 → iy 2 = nI i2 →
      dr_rn mv' mf' ik ia sd (upd iy ax (nI j) 0) (upd iy ax (nI j) 1) (upd iy ax (nI j) 2) m a [] = some [F i0 i1 i2 j])
    (hg : ∀ i0 i1 i2, i0 < n0 → i1 < n1 → i2 < n2 → g ((i0 * n1 + i1) * n2 + i2) = dr_fold c (F i0 i1 i2) (e + 2) ∧ dr_fok (g ((i0 * n1 + i1) * n2 + i2)).2)
    (K : ∀ mv' mf' rv rf ix ov ou, dr_wr q g mv mf (n0 * n1 * n2) mv' mf' → post (z0, z1, z2, z3, mc, vc, mt, ll, oc, ep, nI (w + 1), nI (a + m), ov, ou, cc, tk, tv, mv', mf', br, be, wr, we, ws, ik, ia, sd, pd, ix, rv, rf, ne, st, ns, ct, gv, gf)) :
    wpX_foldLines post (z0, z1, z2, z3, mc, vc, mt, ll, oc, ep, nI (w + 1), nI (a + m), ov, ou, cc, tk, tv, mv, mf, br, be, wr, we, ws, ik, ia, sd, pd, ix, rv, rf, ne, st, ns, ct, gv, gf) (nI q) (nI ax) (nI (e + 2)) c := by
  unfold wpX_foldLines
  dsimp only
  exact dr_lp3 (σ := (Nat → Int32) × (Nat → Int32) × (Nat → Int32) × (Nat → Int32) × (Nat → Int32) × Int32 × Int32) n0 n1 n2
    (fun f i0 t s => wX_foldLines_6 post (nI ax) (nI (e + 2)) c f (nI (q + t)) (nI i0) z0 z1 z2 z3 mc vc mt ll oc ep (nI (w + 1)) (nI (a + m)) s.2.2.2.2.2.1 s.2.2.2.2.2.2 cc tk tv s.1 s.2.1 br be wr we ws ik ia sd pd s.2.2.1 s.2.2.2.1 s.2.2.2.2.1 ne st ns ct gv gf)
    (fun f i0 f1 i1 t s => wX_foldLines_20 post (wX_foldLines_6 post (nI ax) (nI (e + 2)) c f) (nI ax) (nI (e + 2)) c (nI i0) f1 (nI (q + t)) (nI i1) z0 z1 z2 z3 mc vc mt ll oc ep (nI (w + 1)) (nI (a + m)) s.2.2.2.2.2.1 s.2.2.2.2.2.2 cc tk tv s.1 s.2.1 br be wr we ws ik ia sd pd s.2.2.1 s.2.2.2.1 s.2.2.2.2.1 ne st ns ct gv gf)
    (fun f i0 f1 i1 f2 i2 t s => wX_foldLines_34 post (wX_foldLines_6 post (nI ax) (nI (e + 2)) c f) (wX_foldLines_20 post (wX_foldLines_6 post (nI ax) (nI (e + 2)) c f) (nI ax) (nI (e + 2)) c (nI i0) f1) (nI ax) (nI (e + 2)) c (nI i0) (nI i1) f2 (nI (q + t)) (nI i2) z0 z1 z2 z3 mc vc mt ll oc ep (nI (w + 1)) (nI (a + m)) s.2.2.2.2.2.1 s.2.2.2.2.2.2 cc tk tv s.1 s.2.1 br be wr we ws ik ia sd pd s.2.2.1 s.2.2.2.1 s.2.2.2.2.1 ne st ns ct gv gf)
    (fun t s => dr_wr q g mv mf t s.1 s.2.1)
    (fun f s hI => by
      rw [wX_foldLines_6]
      dsimp only
      rw [h0]
      exact br_t (nI_le (Nat.le_refl _) (by omega)) (K _ _ _ _ _ _ _ hI))
    (fun f i0 t s hi hW => by
      rw [wX_foldLines_6]
      dsimp only
      rw [h0]
      exact br_f (nI_ge hi (by omega)) hW)
    (fun f i0 f1 t s hi hW => by
      rw [wX_foldLines_20]
      dsimp only
      rw [h1]
      exact br_t (nI_le (Nat.le_refl _) (by omega)) (nm_r (nI_1 i0) hW))
    (fun f i0 f1 i1 t s hi hj hW => by
      rw [wX_foldLines_20]
      dsimp only
      rw [h1]
      exact br_f (nI_ge hj (by omega)) hW)
    (fun f i0 f1 i1 f2 t s hi hj hW => by
      rw [wX_foldLines_34]
      dsimp only
      rw [h2]
      exact br_t (nI_le (Nat.le_refl _) (by omega)) (nm_r (nI_1 i1) hW))
    (fun f i0 f1 i1 f2 i2 s hi hj hl hI hW => by
      rw [wX_foldLines_34]
      dsimp only
      rw [h2]
      have ht := dr_f3 hi hj hl
      refine br_f (nI_ge hl (by omega)) (nm_e (nm_e (nm_e ?_)))
      refine xa_fl hw hs hb hax he (f := F i0 i1 i2) (fun j hj' => hr i0 i1 i2 j _ _ hi hj hl hj' (dr_wr_S hI (fun j hj => by have := hS j hj; omega)) _ rfl rfl rfl) ?_
      intro rv' rf' ix'
      dsimp only
      rw [← (hg i0 i1 i2 hi hj hl).1]
      refine xa_sto (by omega) (hg i0 i1 i2 hi hj hl).2 ?_
      dsimp only
      refine nm_r (nI_1 _) (nm_r (nI_1 i2) ?_)
      exact hW (_, _, _, _, _, _, _) (dr_wrs hI rfl))
    (mv, mf, ix, rv, rf, ov, ou) dr_wr0
end
end
section
def dr_c8 (c : Int32) : Prop := c = 0 ∨ c = 1 ∨ c = 2 ∨ c = 3 ∨ c = 4 ∨ c = 5 ∨ c = 6 ∨ c = 7 ∨ c = 8
theorem dr_c8n {c : Nat} (h : c ≤ 8) : dr_c8 (nI c) := by
  rcases (show c = 0 ∨ c = 1 ∨ c = 2 ∨ c = 3 ∨ c = 4 ∨ c = 5 ∨ c = 6 ∨ c = 7 ∨ c = 8 by omega) with rfl | rfl | rfl | rfl | rfl | rfl | rfl | rfl | rfl <;> unfold dr_c8 <;> decide
theorem dr_eok0 {x : Int32} : dr_eok (x, 0) := ⟨Or.inl rfl, fun z => absurd rfl z⟩
theorem dr_eokf {f : Int32} (h : dr_fok f) : dr_eok (0, f) := ⟨h, fun _ => rfl⟩
theorem dr_pv_ok {c : Int32} {x y : dr_E} (hx : dr_eok x) (hy : dr_eok y) : dr_eok (dr_pv c x y) := by
  unfold dr_pv
  by_cases y2 : y.2 = 0
  · rw [if_pos y2]
    by_cases x2 : x.2 = 0
    · rw [if_pos x2]
      by_cases c3 : c = 3
      · rw [if_pos c3]
        by_cases y1 : y.1 = 0
        · rw [if_pos y1]; exact dr_eokf (Or.inr (Or.inl rfl))
        · rw [if_neg y1]; exact dr_eok0
      · rw [if_neg c3]
        by_cases c4 : c = 4
        · rw [if_pos c4]
          by_cases y1 : y.1 = 0
          · rw [if_pos y1]; exact dr_eokf (Or.inr (Or.inr rfl))
          · rw [if_neg y1]; exact dr_eok0
        · rw [if_neg c4]; exact dr_eok0
    · rw [if_neg x2]; exact dr_eokf hx.1
  · rw [if_neg y2]; exact dr_eokf hy.1
theorem dr_mv_ok {c : Int32} {x : dr_E} (hx : dr_eok x) : dr_eok (dr_mv c x) := by
  unfold dr_mv
  by_cases c3 : c = 3
  · rw [if_pos c3]; exact dr_pv_ok dr_eok0 hx
  · rw [if_neg c3]
    by_cases h : x.2 = 0
    · rw [if_pos h]; exact dr_eok0
    · rw [if_neg h]; exact dr_eokf hx.1
theorem dr_mv_0 {x : dr_E} (hx : dr_eok x) : dr_mv 0 x = x := by
  unfold dr_mv
  rw [if_neg (by decide)]
  by_cases h : x.2 = 0
  · rw [if_pos h]
    show (x.1, (0 : Int32)) = x
    rw [← h]
  · rw [if_neg h, ← hx.2 h]
theorem dr_fd_ok {c : Int32} {f : Nat → dr_E} : ∀ {n : Nat} {x : dr_E}, (∀ i, i < n → dr_eok (f i)) → dr_eok x → dr_eok (dr_fd c f n x)
  | 0, _, _, hx => hx
  | n + 1, _, h, hx => dr_fd_ok (n := n) (fun i hi => h i (by omega)) (dr_pv_ok (h n (by omega)) hx)
theorem dr_fold_ok {c : Int32} {f : Nat → dr_E} : ∀ {n : Nat}, (∀ i, i < n → dr_eok (f i)) → dr_eok (dr_fold c f n)
  | 0, _ => dr_eok0
  | n + 1, h => dr_fd_ok (n := n) (fun i hi => h i (by omega)) (h n (by omega))
theorem dr_fd_cg {c : Int32} {f g : Nat → dr_E} : ∀ {n : Nat} {x : dr_E}, (∀ i, i < n → f i = g i) → dr_fd c f n x = dr_fd c g n x
  | 0, _, _ => rfl
  | n + 1, x, h => by
    show dr_fd c f n (dr_pv c (f n) x) = dr_fd c g n (dr_pv c (g n) x)
    rw [h n (by omega)]
    exact dr_fd_cg (n := n) (fun i hi => h i (by omega))
theorem dr_fold_cg {c : Int32} {f g : Nat → dr_E} : ∀ {n : Nat}, (∀ i, i < n → f i = g i) → dr_fold c f n = dr_fold c g n
  | 0, _ => rfl
  | n + 1, h => by
    show dr_fd c f n (f n) = dr_fd c g n (g n)
    rw [h n (by omega)]
    exact dr_fd_cg (n := n) (fun i hi => h i (by omega))
theorem dr_pv_f1 {c : Int32} {x y : dr_E} (h : ¬ y.2 = 0) : dr_pv c x y = (0, y.2) := if_neg h
theorem dr_pv_f2 {c : Int32} {x y : dr_E} (h : y.2 = 0) (h' : ¬ x.2 = 0) : dr_pv c x y = (0, x.2) := by unfold dr_pv; rw [if_pos h, if_neg h']
theorem dr_pv_s {c : Int32} {x y : dr_E} (h : y.2 = 0) (h' : x.2 = 0) (c3 : ¬ c = 3) (c4 : ¬ c = 4) : dr_pv c x y = (dr_sp c x.1 y.1, 0) := by
  unfold dr_pv; rw [if_pos h, if_pos h', if_neg c3, if_neg c4]
theorem dr_pv_gen {c d c' d' : Int32} (h3 : ¬ c = 3 ∧ ¬ d = 3 ∧ ¬ c' = 3 ∧ ¬ d' = 3) (h4 : ¬ c = 4 ∧ ¬ d = 4 ∧ ¬ c' = 4 ∧ ¬ d' = 4)
    (h : ∀ a b e, dr_sp c a (dr_sp d b e) = dr_sp c' (dr_sp d' a b) e) (x y z : dr_E) : dr_pv c x (dr_pv d y z) = dr_pv c' (dr_pv d' x y) z := by
  by_cases z2 : z.2 = 0
  · by_cases y2 : y.2 = 0
    · rw [dr_pv_s (c := d) z2 y2 h3.2.1 h4.2.1]
      by_cases x2 : x.2 = 0
      · rw [dr_pv_s (c := d') y2 x2 h3.2.2.2 h4.2.2.2, dr_pv_s (c := c) rfl x2 h3.1 h4.1, dr_pv_s (c := c') z2 rfl h3.2.2.1 h4.2.2.1, h]
      · rw [dr_pv_f2 (c := d') y2 x2, dr_pv_f2 (c := c) rfl x2]
        exact (dr_pv_f2 (c := c') (x := (0, x.2)) z2 x2).symm
    · rw [dr_pv_f2 (c := d) z2 y2, dr_pv_f1 (c := d') y2]
      exact (dr_pv_f1 (c := c) (y := (0, y.2)) y2).trans (dr_pv_f2 (c := c') (x := (0, y.2)) z2 y2).symm
  · rw [dr_pv_f1 (c := d) z2, dr_pv_f1 (c := c') z2]
    exact dr_pv_f1 (c := c) (y := (0, z.2)) z2
theorem dr_min_as (a b e : Int32) : dr_sp 5 a (dr_sp 5 b e) = dr_sp 5 (dr_sp 5 a b) e := by
  have s : ∀ a b : Int32, dr_sp 5 a b = if b ≤ a then b else a := fun a b => rfl
  simp only [s]
  by_cases h1 : e ≤ b
  · by_cases h2 : b ≤ a
    · have h3 : e ≤ a := Int32.le_trans h1 h2
      simp only [h1, h2, h3, if_true]
    · simp only [h1, h2, if_true, if_false]
  · by_cases h2 : b ≤ a
    · simp only [h1, h2, if_true, if_false]
    · have h3 : ¬ e ≤ a := by
        rw [Int32.le_iff_toInt_le] at h1 h2 ⊢; omega
      simp only [h1, h2, h3, if_false]
theorem dr_max_as (a b e : Int32) : dr_sp 6 a (dr_sp 6 b e) = dr_sp 6 (dr_sp 6 a b) e := by
  have s : ∀ a b : Int32, dr_sp 6 a b = if a ≤ b then b else a := fun a b => rfl
  simp only [s]
  by_cases h1 : b ≤ e
  · by_cases h2 : a ≤ b
    · have h3 : a ≤ e := Int32.le_trans h2 h1
      simp only [h1, h2, h3, if_true]
    · simp only [h1, h2, if_true, if_false]
  · by_cases h2 : a ≤ b
    · simp only [h1, h2, if_true, if_false]
    · have h3 : ¬ a ≤ e := by
        rw [Int32.le_iff_toInt_le] at h1 h2 ⊢; omega
      simp only [h1, h2, h3, if_false]
theorem dr_pv_as {c : Int32} (hc : c = 0 ∨ c = 2 ∨ c = 5 ∨ c = 6) (x y z : dr_E) : dr_pv c x (dr_pv c y z) = dr_pv c (dr_pv c x y) z := by
  rcases hc with rfl | rfl | rfl | rfl
  · exact dr_pv_gen (c := 0) (d := 0) (c' := 0) (d' := 0) (by decide) (by decide) (fun a b e => (Int32.add_assoc a b e).symm) x y z
  · exact dr_pv_gen (c := 2) (d := 2) (c' := 2) (d' := 2) (by decide) (by decide) (fun a b e => (Int32.mul_assoc a b e).symm) x y z
  · exact dr_pv_gen (by decide) (by decide) dr_min_as x y z
  · exact dr_pv_gen (by decide) (by decide) dr_max_as x y z
theorem dr_pv_10 (x y z : dr_E) : dr_pv 1 x (dr_pv 1 y z) = dr_pv 0 (dr_pv 1 x y) z :=
  dr_pv_gen (by decide) (by decide) (fun a b e => by show a - (b - e) = a - b + e; grind) x y z
theorem dr_pv_11 (x y z : dr_E) : dr_pv 1 x (dr_pv 0 y z) = dr_pv 1 (dr_pv 1 x y) z :=
  dr_pv_gen (by decide) (by decide) (fun a b e => by show a - (b + e) = a - b - e; grind) x y z
def dr_sg (c : Int32) (i : Nat) : Int32 := if c = 1 then (if i % 2 = 0 then 0 else c) else c
def dr_rf (c : Int32) (f : Nat → dr_E) : Nat → dr_E
  | 0 => f 0
  | i + 1 => dr_pv (dr_sg c (i + 1)) (dr_rf c f i) (f (i + 1))
theorem dr_fd_as {c : Int32} (hc : c = 0 ∨ c = 2 ∨ c = 5 ∨ c = 6) {f : Nat → dr_E} : ∀ (i : Nat) (x y : dr_E), dr_fd c f i (dr_pv c x y) = dr_pv c (dr_fd c f i x) y
  | 0, _, _ => rfl
  | i + 1, x, y => by
    show dr_fd c f i (dr_pv c (f i) (dr_pv c x y)) = dr_pv c (dr_fd c f i (dr_pv c (f i) x)) y
    rw [dr_pv_as hc, dr_fd_as hc i]
theorem dr_fd_s {f : Nat → dr_E} : ∀ (i : Nat) (x y : dr_E), dr_fd 1 f i (dr_pv 1 x y) = dr_pv (if i % 2 = 0 then 1 else 0) (dr_fd 1 f i x) y ∧
    dr_fd 1 f i (dr_pv 0 x y) = dr_pv (if i % 2 = 0 then 0 else 1) (dr_fd 1 f i x) y
  | 0, _, _ => ⟨rfl, rfl⟩
  | i + 1, x, y => by
    have h := dr_fd_s (f := f) i
    refine ⟨?_, ?_⟩
    · show dr_fd 1 f i (dr_pv 1 (f i) (dr_pv 1 x y)) = dr_pv _ (dr_fd 1 f i (dr_pv 1 (f i) x)) y
      rw [dr_pv_10, (h _ _).2]
      rcases Nat.mod_two_eq_zero_or_one i with z | z
      · rw [if_pos z, if_neg (by omega)]
      · rw [if_neg (by omega), if_pos (by omega)]
    · show dr_fd 1 f i (dr_pv 1 (f i) (dr_pv 0 x y)) = dr_pv _ (dr_fd 1 f i (dr_pv 1 (f i) x)) y
      rw [dr_pv_11, (h _ _).1]
      rcases Nat.mod_two_eq_zero_or_one i with z | z
      · rw [if_pos z, if_neg (by omega)]
      · rw [if_neg (by omega), if_pos (by omega)]
theorem dr_rf_fold {c : Int32} (hc : c = 0 ∨ c = 1 ∨ c = 2 ∨ c = 5 ∨ c = 6) (f : Nat → dr_E) : ∀ i, dr_rf c f i = dr_fold c f (i + 1)
  | 0 => rfl
  | i + 1 => by
    show dr_pv (dr_sg c (i + 1)) (dr_rf c f i) (f (i + 1)) = dr_fd c f i (dr_pv c (f i) (f (i + 1)))
    rw [dr_rf_fold hc f i]
    by_cases c1 : c = 1
    · subst c1
      rw [(dr_fd_s i _ _).1]
      show dr_pv (dr_sg 1 (i + 1)) (dr_fd 1 f i (f i)) _ = _
      unfold dr_sg
      rw [if_pos rfl]
      rcases Nat.mod_two_eq_zero_or_one i with z | z
      · rw [if_pos z, if_neg (show ¬ (i + 1) % 2 = 0 by omega)]
      · rw [if_neg (show ¬ i % 2 = 0 by omega), if_pos (show (i + 1) % 2 = 0 by omega)]
    · rw [dr_fd_as (by rcases hc with z | z | z | z | z <;> simp_all) i]
      unfold dr_sg
      rw [if_neg c1]
      rfl
theorem na_err {c : Int32} {P : Prop} (h : c ≠ 0) : c = 0 → P := fun e => absurd e h
end
section
section
variable {post : SX → Prop} {z0 z1 z2 z3 mc vc mt ll oc ep vn cl ov ou cc : Int32} {tk tv mv mf br be wr we ws ik ia sd pd ix rv rf ne st ns ct gv gf : Nat → Int32}
theorem xa_lr {w a m ax e : Nat} {f : Nat → dr_E} (hw : w < 10) (hs : ws w = nI a) (hb : a + m ≤ 48) (hax : ax < 3) (he : e ≤ 32)
    (hr : ∀ j, j < e → dr_rn mv mf ik ia sd (upd ix ax (nI j) 0) (upd ix ax (nI j) 1) (upd ix ax (nI j) 2) m a [] = some [f j])
    (K : ∀ rv rf ix ov ou gv' gf', dr_wr 0 f gv gf e gv' gf' → post (z0, z1, z2, z3, mc, vc, mt, ll, oc, ep, nI (w + 1), nI (a + m), ov, ou, cc, tk, tv, mv, mf, br, be, wr, we, ws, ik, ia, sd, pd, ix, rv, rf, ne, st, ns, ct, gv', gf')) :
    wpX_loadRow post (z0, z1, z2, z3, mc, vc, mt, ll, oc, ep, nI (w + 1), nI (a + m), ov, ou, cc, tk, tv, mv, mf, br, be, wr, we, ws, ik, ia, sd, pd, ix, rv, rf, ne, st, ns, ct, gv, gf) (nI ax) (nI e) := by
  unfold wpX_loadRow
  dsimp only
  exact dr_lp1 (σ := (Nat → Int32) × (Nat → Int32) × (Nat → Int32) × Int32 × Int32 × (Nat → Int32) × (Nat → Int32)) e
    (fun n i s => wX_loadRow_2 post (nI ax) (nI e) n (nI i) z0 z1 z2 z3 mc vc mt ll oc ep (nI (w + 1)) (nI (a + m)) s.2.2.2.1 s.2.2.2.2.1 cc tk tv mv mf br be wr we ws ik ia sd pd s.2.2.1 s.1 s.2.1 ne st ns ct s.2.2.2.2.2.1 s.2.2.2.2.2.2)
    (fun i s => (∀ y, upd s.2.2.1 ax y = upd ix ax y) ∧ dr_wr 0 f gv gf i s.2.2.2.2.2.1 s.2.2.2.2.2.2)
    (fun n s hI => by
      rw [wX_loadRow_2]
      exact br_t (nI_le (Nat.le_refl _) (by omega)) (K _ _ _ _ _ _ _ hI.2))
    (fun n i s hi hI hW => by
      rw [wX_loadRow_2]
      refine br_f (nI_ge hi (by omega)) ⟨vp_in_nI hax (by omega), ?_⟩
      rw [nI_clamp (show ax < 2 ^ 31 by omega), hI.1]
      refine nm_e ?_
      refine xa_run hw hs hb (hr i hi) ?_
      intro rv' rf'
      dsimp only
      rw [nI_clamp (show i < 2 ^ 31 by omega)]
      refine ⟨vp_in_nI (by omega) (by omega), nm_e ⟨vp_in_nI (by omega) (by omega), nm_e (nm_r (nI_1 i) ?_)⟩⟩
      have h := dr_wrs hI.2 (v := f i) rfl
      rw [Nat.zero_add] at h
      exact hW (_, _, _, _, _, _, _) ⟨fun y => na_2u _ _ _ _, h⟩)
    0 (Nat.zero_le _) (rv, rf, ix, ov, ou, gv, gf) ⟨fun _ => rfl, dr_wr0⟩
theorem xa_rf52 {e q T i : Nat} {c x5 : Int32} {J : Int32 → Int32 → Int32 → Int32 → Int32 → Int32 → Int32 → Int32 → Int32 → Int32 → Int32 → Int32 → Int32 → Int32 → Int32 → Int32 → (Nat → Int32) → (Nat → Int32) → (Nat → Int32) → (Nat → Int32) → (Nat → Int32) → (Nat → Int32) → (Nat → Int32) → (Nat → Int32) → (Nat → Int32) → (Nat → Int32) → (Nat → Int32) → (Nat → Int32) → (Nat → Int32) → (Nat → Int32) → (Nat → Int32) → (Nat → Int32) → (Nat → Int32) → (Nat → Int32) → (Nat → Int32) → (Nat → Int32) → (Nat → Int32) → (Nat → Int32) → Prop}
    {v x : dr_E} (hi : i < 32) (hq : q + T + i < 1568) (h1 : gv i = x.1) (h2 : gf i = x.2) (hf : dr_fok (dr_pv x5 v x).2)
    (K : J (nI (i + 1)) z0 z1 z2 z3 mc vc mt ll oc ep vn cl ((dr_pv x5 v x).1) ((dr_pv x5 v x).2) cc tk tv (upd mv (q + (T + i)) (dr_pv x5 v x).1) (upd mf (q + (T + i)) (dr_pv x5 v x).2) br be wr we ws ik ia sd pd ix rv rf ne st ns ct gv gf) :
    wX_runningFolds_52 post J c (nI e) (nI (q + T)) (nI i) x5 z0 z1 z2 z3 mc vc mt ll oc ep vn cl v.1 v.2 cc tk tv mv mf br be wr we ws ik ia sd pd ix rv rf ne st ns ct gv gf := by
  unfold wX_runningFolds_52
  refine ⟨vp_in_nI hi (by omega), vp_in_nI hi (by omega), ?_⟩
  rw [nI_clamp (show i < 2 ^ 31 by omega), h1, h2]
  refine xa_pair ?_
  dsimp only
  rw [nI_add, Nat.add_assoc]
  refine xa_sto (by omega) hf ?_
  dsimp only
  exact nm_r (nI_1 i) K
theorem xa_rf {e q T : Nat} {c : Int32} {f g : Nat → dr_E} {m0 f0 : Nat → Int32} (he : e + 1 ≤ 32) (hq : q + T + (e + 1) ≤ 1568)
    (hg : ∀ j, j < e + 1 → g (T + j) = dr_rf c f j ∧ dr_fok (dr_rf c f j).2) (hw : dr_wr 0 f m0 f0 (e + 1) gv gf) {mw fw : Nat → Int32} (hm : dr_wr q g mw fw T mv mf)
    (K : ∀ ov ou mv mf, dr_wr q g mw fw (T + (e + 1)) mv mf → post (z0, z1, z2, z3, mc, vc, mt, ll, oc, ep, vn, cl, ov, ou, cc, tk, tv, mv, mf, br, be, wr, we, ws, ik, ia, sd, pd, ix, rv, rf, ne, st, ns, ct, gv, gf)) :
    wpX_runningFolds post (z0, z1, z2, z3, mc, vc, mt, ll, oc, ep, vn, cl, ov, ou, cc, tk, tv, mv, mf, br, be, wr, we, ws, ik, ia, sd, pd, ix, rv, rf, ne, st, ns, ct, gv, gf) c (nI (e + 1)) (nI (q + T)) := by
  have h0 := hw.1 0 (by omega)
  rw [Nat.zero_add] at h0
  unfold wpX_runningFolds
  dsimp only
  rw [h0.1, h0.2]
  refine nm_e (nm_e ?_)
  have g0 := hg 0 (by omega)
  refine xa_sto (by omega) g0.2 ?_
  dsimp only
  exact dr_lp1 (σ := Int32 × Int32 × (Nat → Int32) × (Nat → Int32)) (e + 1)
    (fun n i s => wX_runningFolds_28 post c (nI (e + 1)) (nI (q + T)) n (nI i) z0 z1 z2 z3 mc vc mt ll oc ep vn cl s.1 s.2.1 cc tk tv s.2.2.1 s.2.2.2 br be wr we ws ik ia sd pd ix rv rf ne st ns ct gv gf)
    (fun i s => ∃ k, i = k + 1 ∧ (s.1, s.2.1) = dr_rf c f k ∧ dr_wr q g mw fw (T + i) s.2.2.1 s.2.2.2)
    (fun n s hI => by
      rw [wX_runningFolds_28]
      obtain ⟨k, _, _, hI⟩ := hI
      exact br_t (nI_le (Nat.le_refl _) (by omega)) (K _ _ _ _ hI))
    (fun n i s hi hI hW => by
      obtain ⟨k, rfl, ev, hI⟩ := hI
      rw [wX_runningFolds_28]
      refine br_f (nI_ge hi (by omega)) ?_
      have gk := hg (k + 1) (by omega)
      have hx := hw.1 (k + 1) (by omega)
      rw [Nat.zero_add] at hx
      have e1 : s.1 = (dr_rf c f k).1 := congrArg Prod.fst ev
      have e2 : s.2.1 = (dr_rf c f k).2 := congrArg Prod.snd ev
      have fin : ∀ x5, x5 = dr_sg c (k + 1) → wX_runningFolds_52 post (wX_runningFolds_28 post c (nI (e + 1)) (nI (q + T)) n) c (nI (e + 1)) (nI (q + T)) (nI (k + 1)) x5 z0 z1 z2 z3 mc vc mt ll oc ep vn cl s.1 s.2.1 cc tk tv s.2.2.1 s.2.2.2 br be wr we ws ik ia sd pd ix rv rf ne st ns ct gv gf := by
        intro x5 h5
        rw [e1, e2]
        refine xa_rf52 (x := f (k + 1)) (by omega) (by omega) hx.1 hx.2 (by rw [h5]; exact gk.2) ?_
        rw [h5]
        exact hW (_, _, _, _) ⟨k + 1, rfl, rfl, by have := dr_wrs hI gk.1; rw [← Nat.add_assoc T (k + 1) 1] ; exact this⟩
      by_cases c1 : c = 1
      · refine br_t c1 ?_
        have ha : nI (k + 1) &&& (1 : Int32) = nI ((k + 1) % 2) := pk_andN (by omega) 1 (by decide)
        rw [ha]
        by_cases z : (k + 1) % 2 = 0
        · rw [z]
          exact br_t rfl (fin 0 (by unfold dr_sg; rw [if_pos c1, if_pos z]))
        · exact br_f (nI_ne0 (by omega) (by omega)) (fin c (by unfold dr_sg; rw [if_pos c1, if_neg z]))
      · exact br_f c1 (fin c (by unfold dr_sg; rw [if_neg c1])))
    1 (by omega) (_, _, _, _) ⟨0, rfl, rfl, dr_wrs hm g0.1⟩
theorem xa_pf37 {e q T i : Nat} {c : Int32} {J : Int32 → Int32 → Int32 → Int32 → Int32 → Int32 → Int32 → Int32 → Int32 → Int32 → Int32 → Int32 → Int32 → Int32 → Int32 → Int32 → (Nat → Int32) → (Nat → Int32) → (Nat → Int32) → (Nat → Int32) → (Nat → Int32) → (Nat → Int32) → (Nat → Int32) → (Nat → Int32) → (Nat → Int32) → (Nat → Int32) → (Nat → Int32) → (Nat → Int32) → (Nat → Int32) → (Nat → Int32) → (Nat → Int32) → (Nat → Int32) → (Nat → Int32) → (Nat → Int32) → (Nat → Int32) → (Nat → Int32) → (Nat → Int32) → (Nat → Int32) → Prop}
    {f : Nat → dr_E} {v : dr_E} (hi : i < 32) (hq : q + T + i < 1568) (hg : ∀ j, j < i → gv j = (f j).1 ∧ gf j = (f j).2) (hv : dr_fok v.2)
    (K : J (nI (i + 1)) z0 z1 z2 z3 mc vc mt ll oc ep vn cl v.1 v.2 cc tk tv (upd mv (q + (T + i)) v.1) (upd mf (q + (T + i)) v.2) br be wr we ws ik ia sd pd ix rv rf ne st ns ct gv gf) :
    ∀ (k : Nat) (y : dr_E) (n : Nat), k ≤ i → k < n → dr_fd c f k y = v → wX_prefixFolds_37 post J c (nI e) (nI (q + T)) (nI i) n (nI k + (-1)) z0 z1 z2 z3 mc vc mt ll oc ep vn cl y.1 y.2 cc tk tv mv mf br be wr we ws ik ia sd pd ix rv rf ne st ns ct gv gf := by
  intro k
  induction k with
  | zero =>
    intro y n _ hn hy
    obtain ⟨n, rfl⟩ : ∃ k, n = k + 1 := ⟨n - 1, by omega⟩
    rw [wX_prefixFolds_37, na_z1]
    have hy' : y = v := hy
    subst hy'
    refine br_t (by decide) ?_
    rw [nI_add, Nat.add_assoc]
    refine xa_sto (by omega) hv ?_
    dsimp only
    exact nm_r (nI_1 i) K
  | succ k ih =>
    intro y n hk hn hy
    obtain ⟨n, rfl⟩ : ∃ k, n = k + 1 := ⟨n - 1, by omega⟩
    rw [wX_prefixFolds_37, pk_m1]
    refine br_f (nI_pos (by omega)) ⟨vp_in_nI (by omega) (by omega), vp_in_nI (by omega) (by omega), ?_⟩
    rw [nI_clamp (show k < 2 ^ 31 by omega), (hg k (by omega)).1, (hg k (by omega)).2]
    refine xa_pair ?_
    dsimp only
    exact nm_e (ih _ n (by omega) (by omega) hy)
theorem xa_pf {e q T : Nat} {c : Int32} {f g : Nat → dr_E} {m0 f0 : Nat → Int32} (he : e ≤ 32) (hq : q + T + e ≤ 1568)
    (hg : ∀ j, j < e → g (T + j) = dr_fold c f (j + 1) ∧ dr_fok (g (T + j)).2) (hw : dr_wr 0 f m0 f0 e gv gf) {mw fw : Nat → Int32} (hm : dr_wr q g mw fw T mv mf)
    (K : ∀ ov ou mv mf, dr_wr q g mw fw (T + e) mv mf → post (z0, z1, z2, z3, mc, vc, mt, ll, oc, ep, vn, cl, ov, ou, cc, tk, tv, mv, mf, br, be, wr, we, ws, ik, ia, sd, pd, ix, rv, rf, ne, st, ns, ct, gv, gf)) :
    wpX_prefixFolds post (z0, z1, z2, z3, mc, vc, mt, ll, oc, ep, vn, cl, ov, ou, cc, tk, tv, mv, mf, br, be, wr, we, ws, ik, ia, sd, pd, ix, rv, rf, ne, st, ns, ct, gv, gf) c (nI e) (nI (q + T)) := by
  unfold wpX_prefixFolds
  dsimp only
  exact dr_lp1 (σ := Int32 × Int32 × (Nat → Int32) × (Nat → Int32)) e
    (fun n i s => wX_prefixFolds_3 post c (nI e) (nI (q + T)) n (nI i) z0 z1 z2 z3 mc vc mt ll oc ep vn cl s.1 s.2.1 cc tk tv s.2.2.1 s.2.2.2 br be wr we ws ik ia sd pd ix rv rf ne st ns ct gv gf)
    (fun i s => dr_wr q g mw fw (T + i) s.2.2.1 s.2.2.2)
    (fun n s hI => by
      rw [wX_prefixFolds_3]
      exact br_t (nI_le (Nat.le_refl _) (by omega)) (K _ _ _ _ hI))
    (fun n i s hi hI hW => by
      rw [wX_prefixFolds_3]
      have hx : ∀ j, j < e → gv j = (f j).1 ∧ gf j = (f j).2 := fun j hj => by
        have := hw.1 j hj
        rw [Nat.zero_add] at this
        exact this
      refine br_f (nI_ge hi (by omega)) ⟨vp_in_nI (by omega) (by omega), ?_⟩
      rw [nI_clamp (show i < 2 ^ 31 by omega), (hx i hi).1, (hx i hi).2]
      refine nm_e ⟨vp_in_nI (by omega) (by omega), nm_e (nm_r (e' := nI i + (-1)) ?_ ?_)⟩
      · exact Int32.sub_eq_add_neg _ _
      · exact ⟨i + 1, xa_pf37 (v := dr_fold c f (i + 1)) (by omega) (by omega) (fun j hj => hx j (by omega)) (by rw [← (hg i hi).1]; exact (hg i hi).2)
          (hW (_, _, _, _) (dr_wrs hI (hg i hi).1)) i (f i) (i + 1) (Nat.le_refl _) (by omega) rfl⟩)
    0 (Nat.zero_le _) (ov, ou, mv, mf) hm
theorem xa_sr {e q T : Nat} {c : Int32} {f g : Nat → dr_E} {m0 f0 : Nat → Int32} (he : e + 1 ≤ 32) (hq : q + T + (e + 1) ≤ 1568)
    (hg : ∀ j, j < e + 1 → g (T + j) = dr_fold c f (j + 1) ∧ dr_fok (g (T + j)).2) (hw : dr_wr 0 f m0 f0 (e + 1) gv gf) {mw fw : Nat → Int32} (hm : dr_wr q g mw fw T mv mf)
    (K : ∀ ov ou mv mf, dr_wr q g mw fw (T + (e + 1)) mv mf → post (z0, z1, z2, z3, mc, vc, mt, ll, oc, ep, vn, cl, ov, ou, cc, tk, tv, mv, mf, br, be, wr, we, ws, ik, ia, sd, pd, ix, rv, rf, ne, st, ns, ct, gv, gf)) :
    wpX_scanRow post (z0, z1, z2, z3, mc, vc, mt, ll, oc, ep, vn, cl, ov, ou, cc, tk, tv, mv, mf, br, be, wr, we, ws, ik, ia, sd, pd, ix, rv, rf, ne, st, ns, ct, gv, gf) c (nI (e + 1)) (nI (q + T)) := by
  have run : (c = 0 ∨ c = 1 ∨ c = 2 ∨ c = 5 ∨ c = 6) → wX_scanRow_25 post c (nI (e + 1)) (nI (q + T)) z0 z1 z2 z3 mc vc mt ll oc ep vn cl ov ou cc tk tv mv mf br be wr we ws ik ia sd pd ix rv rf ne st ns ct gv gf := by
    intro hc
    unfold wX_scanRow_25
    exact xa_rf he hq (fun j hj => by have := hg j hj; rw [dr_rf_fold hc]; rw [this.1] at this; exact ⟨(hg j hj).1, this.2⟩) hw hm K
  unfold wpX_scanRow
  dsimp only
  by_cases c0 : c = 0
  · exact br_t c0 (run (Or.inl c0))
  by_cases c1 : c = 1
  · exact br_f c0 (br_t c1 (run (Or.inr (Or.inl c1))))
  by_cases c2 : c = 2
  · exact br_f c0 (br_f c1 (br_t c2 (run (Or.inr (Or.inr (Or.inl c2))))))
  by_cases c5 : c = 5
  · exact br_f c0 (br_f c1 (br_f c2 (br_t c5 (run (Or.inr (Or.inr (Or.inr (Or.inl c5))))))))
  by_cases c6 : c = 6
  · exact br_f c0 (br_f c1 (br_f c2 (br_f c5 (br_t c6 (run (Or.inr (Or.inr (Or.inr (Or.inr c6)))))))))
  exact br_f c0 (br_f c1 (br_f c2 (br_f c5 (br_f c6 (xa_pf he hq hg hw hm K)))))
end
end
section
/-- the cells that programs may read: the variables and the blocks of used tokens -/
def dr_S (U : Nat → Prop) (j : Nat) : Prop := j < 256 ∨ ∃ t, U t ∧ 256 + 32 * t ≤ j ∧ j < 288 + 32 * t
theorem dr_S_out {U : Nat → Prop} {t : Nat} (h : ¬ U t) : ∀ j, dr_S U j → j < 256 + 32 * t ∨ 256 + 32 * t + 32 ≤ j := by
  intro j hj
  rcases hj with z | ⟨s, hs, h1, h2⟩
  · omega
  · have : s ≠ t := fun e => h (e ▸ hs)
    omega
theorem dr_S_mono {U : Nat → Prop} {t j : Nat} (h : dr_S U j) : dr_S (fun s => U s ∨ s = t) j := by
  rcases h with z | ⟨s, hs, h1⟩
  · exact Or.inl z
  · exact Or.inr ⟨s, Or.inl hs, h1⟩
theorem dr_S_new {U : Nat → Prop} {t i : Nat} (h : i < 32) : dr_S (fun s => U s ∨ s = t) (256 + 32 * t + i) := Or.inr ⟨t, Or.inr rfl, by omega, by omega⟩
/-- value w of the stack, its program in [a, a + m) -/
def xd_V (S : Nat → Prop) (M : Nat) (mv mf wr we ik ia sd : Nat → Int32) (w a m : Nat) : dr_A → Prop
  | (r, e0, e1, e2, el) => wr w = nI r ∧ we (3 * w) = nI e0 ∧ we (3 * w + 1) = nI e1 ∧ we (3 * w + 2) = nI e2 ∧ dr_ok M (r, e0, e1, e2, el) ∧
    (∀ c q, a ≤ c → c < a + m → q < 3 → (r ≤ q ∨ ik c = 2 ∨ ik c = 3) → sd (3 * c + q) = 0) ∧
    (∀ i0 i1 i2, i0 < e0 → i1 < e1 → i2 < e2 → dr_ev S mv mf ik ia sd a m (nI i0) (nI i1) (nI i2) (el ((i0 * e1 + i1) * e2 + i2)))
def xd_S (S : Nat → Prop) (M : Nat) (mv mf wr we ws ik ia sd : Nat → Int32) : List dr_A → Nat → Prop
  | [], b => b = 0
  | A :: l, b => ∃ a m, b = a + m ∧ 0 < m ∧ ws l.length = nI a ∧ xd_V S M mv mf wr we ik ia sd l.length a m A ∧ xd_S S M mv mf wr we ws ik ia sd l a
theorem dr_ad_cg {ia sd ia' sd' : Nat → Int32} {x0 x1 x2 : Int32} {c : Nat} (h : ia' c = ia c) (hs : ∀ q, q < 3 → sd' (3 * c + q) = sd (3 * c + q)) : dr_ad ia' sd' x0 x1 x2 c = dr_ad ia sd x0 x1 x2 c := by
  unfold dr_ad
  have h0 := hs 0 (by omega)
  have h1 := hs 1 (by omega)
  have h2 := hs 2 (by omega)
  rw [Nat.add_zero] at h0
  rw [h, h0, h1, h2]
theorem xd_V_fr {S S' : Nat → Prop} {M : Nat} {mv mf wr we ik ia sd mv' mf' wr' we' ik' ia' sd' : Nat → Int32} {w a m : Nat} {A : dr_A} (h : xd_V S M mv mf wr we ik ia sd w a m A)
    (hm : ∀ j, S j → S' j ∧ mv' j = mv j ∧ mf' j = mf j) (hw : wr' w = wr w) (he : ∀ q, q < 3 → we' (3 * w + q) = we (3 * w + q))
    (hi : ∀ j, a ≤ j → j < a + m → ik' j = ik j ∧ ia' j = ia j ∧ ∀ q, q < 3 → sd' (3 * j + q) = sd (3 * j + q)) : xd_V S' M mv' mf' wr' we' ik' ia' sd' w a m A := by
  obtain ⟨r, e0, e1, e2, el⟩ := A
  obtain ⟨h1, h2, h3, h4, h5, h6, h7⟩ := h
  have q0 := he 0 (by omega)
  have q1 := he 1 (by omega)
  have q2 := he 2 (by omega)
  rw [Nat.add_zero] at q0
  refine ⟨hw.trans h1, q0.trans h2, q1.trans h3, q2.trans h4, h5, ?_, ?_⟩
  · intro c q hc hc' hq z
    obtain ⟨k1, k2, k3⟩ := hi c hc hc'
    rw [k1] at z
    rw [k3 q hq]
    exact h6 c q hc hc' hq z
  · intro i0 i1 i2 a0 a1 a2
    refine dr_ev_map (dr_ev_mem (h7 i0 i1 i2 a0 a1 a2) hm) ?_
    intro d hd hd'
    obtain ⟨k1, k2, k3⟩ := hi d hd hd'
    exact ⟨k1, fun _ => k2, fun _ => dr_ad_cg k2 k3⟩
theorem xd_S_fr {S S' : Nat → Prop} {M : Nat} {mv mf wr we ws ik ia sd mv' mf' wr' we' ws' ik' ia' sd' : Nat → Int32} (hm : ∀ j, S j → S' j ∧ mv' j = mv j ∧ mf' j = mf j) :
    ∀ (l : List dr_A) (b : Nat), xd_S S M mv mf wr we ws ik ia sd l b → (∀ j, j < l.length → wr' j = wr j ∧ ws' j = ws j ∧ ∀ q, q < 3 → we' (3 * j + q) = we (3 * j + q)) →
      (∀ j, j < b → ik' j = ik j ∧ ia' j = ia j ∧ ∀ q, q < 3 → sd' (3 * j + q) = sd (3 * j + q)) → xd_S S' M mv' mf' wr' we' ws' ik' ia' sd' l b
  | [], _, h, _, _ => h
  | A :: l, b, h, hw, hi => by
    obtain ⟨a, m, rfl, m0, hs, hV, hS⟩ := h
    have hl : l.length < (A :: l).length := Nat.lt_succ_self _
    obtain ⟨w1, w2, w3⟩ := hw l.length hl
    exact ⟨a, m, rfl, m0, w2.trans hs, xd_V_fr hV hm w1 w3 (fun j _ hj => hi j hj), xd_S_fr hm l a hS (fun j hj => hw j (Nat.lt_trans hj hl)) (fun j hj => hi j (by omega))⟩
/-- what stays through an evaluation -/
abbrev xd_K : Type := Int32 × Int32 × Int32 × Int32 × Int32 × Int32 × Int32 × Int32 × Int32 × Int32 × (Nat → Int32) × (Nat → Int32) × (Nat → Int32) × (Nat → Int32) × (Nat → Int32)
def xd_R (k : xd_K) (m0 f0 : Nat → Int32) (M : Nat) (U : Nat → Prop) (l : List dr_A) (B : Nat) : SX → Prop
  | (z0, z1, z2, z3, mc, vc, mt, ll, oc, ep, vn, cl, ov, ou, cc, tk, tv, mv, mf, br, be, wr, we, ws, ik, ia, sd, pd, ix, rv, rf, ne, st, ns, ct, gv, gf) => (z0, z1, z2, z3, mc, vc, mt, ll, oc, ep, tk, tv, br, be, pd) = k ∧ mc = nI M ∧ vn = nI l.length ∧ (∀ j, j < 256 → mv j = m0 j ∧ mf j = f0 j) ∧
    ∃ b, cl = nI b ∧ b + l.length ≤ B ∧ xd_S (dr_S U) M mv mf wr we ws ik ia sd l b
/-- the base alone: what is left after an error -/
def xd_B (k : xd_K) (m0 f0 : Nat → Int32) : SX → Prop
  | (z0, z1, z2, z3, mc, vc, mt, ll, oc, ep, vn, cl, ov, ou, cc, tk, tv, mv, mf, br, be, wr, we, ws, ik, ia, sd, pd, ix, rv, rf, ne, st, ns, ct, gv, gf) => (z0, z1, z2, z3, mc, vc, mt, ll, oc, ep, tk, tv, br, be, pd) = k ∧ (∀ j, j < 256 → mv j = m0 j ∧ mf j = f0 j)
theorem xd_el {P : SX → Prop} (h : ∀ (z0 z1 z2 z3 mc vc mt ll oc ep vn cl ov ou cc : Int32) (tk tv mv mf br be wr we ws ik ia sd pd ix rv rf ne st ns ct gv gf : Nat → Int32), P (z0, z1, z2, z3, mc, vc, mt, ll, oc, ep, vn, cl, ov, ou, cc, tk, tv, mv, mf, br, be, wr, we, ws, ik, ia, sd, pd, ix, rv, rf, ne, st, ns, ct, gv, gf)) (u : SX) : P u :=
  match u with
  | (z0, z1, z2, z3, mc, vc, mt, ll, oc, ep, vn, cl, ov, ou, cc, tk, tv, mv, mf, br, be, wr, we, ws, ik, ia, sd, pd, ix, rv, rf, ne, st, ns, ct, gv, gf) => h z0 z1 z2 z3 mc vc mt ll oc ep vn cl ov ou cc tk tv mv mf br be wr we ws ik ia sd pd ix rv rf ne st ns ct gv gf
theorem xd_RB {k : xd_K} {m0 f0 : Nat → Int32} {M : Nat} {U : Nat → Prop} {l : List dr_A} {B : Nat} {u : SX} (h : xd_R k m0 f0 M U l B u) : xd_B k m0 f0 u := by
  revert h
  refine xd_el (P := fun u => xd_R k m0 f0 M U l B u → xd_B k m0 f0 u) ?_ u
  intros
  rename_i h
  exact ⟨h.1, h.2.2.2.1⟩
theorem xd_top {P : SX → Prop} {k : xd_K} {m0 f0 : Nat → Int32} {M : Nat} {U : Nat → Prop} {A : dr_A} {l : List dr_A} {B : Nat} {u : SX} (R : xd_R k m0 f0 M U (A :: l) B u)
    (h : ∀ (z0 z1 z2 z3 vc mt ll oc ep ov ou cc : Int32) (tk tv mv mf br be wr we ws ik ia sd pd ix rv rf ne st ns ct gv gf : Nat → Int32) (a m : Nat),
      (z0, z1, z2, z3, nI M, vc, mt, ll, oc, ep, tk, tv, br, be, pd) = k → (∀ j, j < 256 → mv j = m0 j ∧ mf j = f0 j) → 0 < m → a + m + l.length + 1 ≤ B → ws l.length = nI a →
      xd_V (dr_S U) M mv mf wr we ik ia sd l.length a m A → xd_S (dr_S U) M mv mf wr we ws ik ia sd l a → P (z0, z1, z2, z3, nI M, vc, mt, ll, oc, ep, nI (l.length + 1), nI (a + m), ov, ou, cc, tk, tv, mv, mf, br, be, wr, we, ws, ik, ia, sd, pd, ix, rv, rf, ne, st, ns, ct, gv, gf)) : P u := by
  revert R
  refine xd_el (P := fun u => xd_R k m0 f0 M U (A :: l) B u → P u) ?_ u
  intro z0 z1 z2 z3 mc vc mt ll oc ep vn cl ov ou cc tk tv mv mf br be wr we ws ik ia sd pd ix rv rf ne st ns ct gv gf
  rintro ⟨hk, rfl, rfl, hmem, b, rfl, hB, a, m, rfl, hm, hs, hV, hS⟩
  simp only [List.length_cons] at hB
  exact h z0 z1 z2 z3 vc mt ll oc ep ov ou cc tk tv mv mf br be wr we ws ik ia sd pd ix rv rf ne st ns ct gv gf a m hk hmem hm (by omega) hs hV hS
section
variable {z0 z1 z2 z3 mc vc mt ll oc ep vn cl ov ou cc : Int32} {tk tv mv mf br be wr we ws ik ia sd pd ix rv rf ne st ns ct gv gf : Nat → Int32}
theorem xd_mk {k : xd_K} {m0 f0 : Nat → Int32} {M : Nat} {U : Nat → Prop} {A : dr_A} {l : List dr_A} {B : Nat} {a m : Nat}
    (hk : (z0, z1, z2, z3, nI M, vc, mt, ll, oc, ep, tk, tv, br, be, pd) = k) (hmem : ∀ j, j < 256 → mv j = m0 j ∧ mf j = f0 j) (hm : 0 < m) (hB : a + m + l.length + 1 ≤ B) (hs : ws l.length = nI a)
    (hV : xd_V (dr_S U) M mv mf wr we ik ia sd l.length a m A) (hS : xd_S (dr_S U) M mv mf wr we ws ik ia sd l a) : xd_R k m0 f0 M U (A :: l) B (z0, z1, z2, z3, nI M, vc, mt, ll, oc, ep, nI (l.length + 1), nI (a + m), ov, ou, cc, tk, tv, mv, mf, br, be, wr, we, ws, ik, ia, sd, pd, ix, rv, rf, ne, st, ns, ct, gv, gf) :=
  ⟨hk, rfl, rfl, hmem, a + m, rfl, by simp only [List.length_cons]; omega, a, m, rfl, hm, hs, hV, hS⟩
end
theorem dr_fl (i0 e1 i1 e2 i2 : Nat) : nI ((i0 * e1 + i1) * e2 + i2) = (nI i0 * nI e1 + nI i1) * nI e2 + nI i2 := by
  rw [← nI_add, ← pk_mul, ← nI_add, ← pk_mul]
theorem dr_ad_rm {ia sd : Nat → Int32} {s : Int32} {a r e0 e1 e2 i0 i1 i2 : Nat} (hr : r ≤ 3) (hr0 : r = 0 → e0 = 1) (hr1 : r ≤ 1 → e1 = 1) (hr2 : r ≤ 2 → e2 = 1) (h0 : i0 < e0) (h1 : i1 < e1) (h2 : i2 < e2)
    (s0 : sd (3 * a) = dr_t0 r (nI e1) (nI e2) s) (s1 : sd (3 * a + 1) = dr_t1 r (nI e2) s) (s2 : sd (3 * a + 2) = dr_t2 r s) :
    dr_ad ia sd (nI i0) (nI i1) (nI i2) a = ia a + nI ((i0 * e1 + i1) * e2 + i2) * s := by
  unfold dr_ad
  rw [s0, s1, s2, dr_fl]
  unfold dr_t0 dr_t1 dr_t2
  have n1 : nI 1 = 1 := rfl
  have n0 : nI 0 = 0 := rfl
  rcases (show r = 0 ∨ r = 1 ∨ r = 2 ∨ r = 3 by omega) with rfl | rfl | rfl | rfl
  · have a0 := hr0 rfl
    have a1 := hr1 (by omega)
    have a2 := hr2 (by omega)
    subst a0 a1 a2
    have b0 : i0 = 0 := by omega
    have b1 : i1 = 0 := by omega
    have b2 : i2 = 0 := by omega
    subst b0 b1 b2
    simp only [Nat.lt_irrefl, Nat.not_lt_zero, if_false, n0, n1]
    grind
  · have a1 := hr1 (by omega)
    have a2 := hr2 (by omega)
    subst a1 a2
    have b1 : i1 = 0 := by omega
    have b2 : i2 = 0 := by omega
    subst b1 b2
    simp only [Nat.reduceLT, if_false, if_true, n0, n1]
    grind
  · have a2 := hr2 (by omega)
    subst a2
    have b2 : i2 = 0 := by omega
    subst b2
    simp only [Nat.reduceLT, if_false, if_true, n0, n1]
    grind
  · simp only [Nat.reduceLT, if_true]
    grind
theorem xd_V_blk {S : Nat → Prop} {M : Nat} {mv mf wr we ik ia sd : Nat → Int32} {w a q r e0 e1 e2 : Nat} {el : Nat → dr_E} (h1 : wr w = nI r) (h2 : we (3 * w) = nI e0) (h3 : we (3 * w + 1) = nI e1) (h4 : we (3 * w + 2) = nI e2)
    (ok : dr_ok M (r, e0, e1, e2, el)) (hk : ik a = 0) (ha : ia a = nI q) (s0 : sd (3 * a) = dr_t0 r (nI e1) (nI e2) 1) (s1 : sd (3 * a + 1) = dr_t1 r (nI e2) 1) (s2 : sd (3 * a + 2) = dr_t2 r 1)
    (hq : q + 32 ≤ 1568) (hM : M ≤ 32) (hS : ∀ i, i < 32 → S (q + i)) (hel : ∀ i, i < e0 * e1 * e2 → mv (q + i) = (el i).1 ∧ mf (q + i) = (el i).2) :
    xd_V S M mv mf wr we ik ia sd w a 1 (r, e0, e1, e2, el) := by
  refine ⟨h1, h2, h3, h4, ok, ?_, ?_⟩
  · intro c q' hc hc' hq' z
    have e : c = a := by omega
    subst e
    rw [hk] at z
    have z' : r ≤ q' := by
      rcases z with z | z | z
      · exact z
      · exact absurd z (by decide)
      · exact absurd z (by decide)
    rcases (show q' = 0 ∨ q' = 1 ∨ q' = 2 by omega) with rfl | rfl | rfl
    · rw [Nat.add_zero, s0]; unfold dr_t0; rw [if_neg (by omega), if_neg (by omega), if_neg (by omega)]
    · rw [s1]; unfold dr_t1; rw [if_neg (by omega), if_neg (by omega)]
    · rw [s2]; unfold dr_t2; rw [if_neg (by omega)]
  · intro i0 i1 i2 a0 a1 a2
    obtain ⟨k1, k2, k3, k4, k5, k6, k7, k8, k9⟩ := ok
    have hf := dr_f3 a0 a1 a2
    have ad := dr_ad_rm (ia := ia) (sd := sd) (s := 1) (a := a) k1 k5 k6 k7 a0 a1 a2 s0 s1 s2
    rw [ha, Int32.mul_one, nI_add] at ad
    have v := dr_ev_ce (S := S) (mv := mv) (mf := mf) hk ad (by omega) (hS _ (by omega))
    rw [(hel _ hf).1, (hel _ hf).2] at v
    exact v
theorem xd_V_cst {S : Nat → Prop} {M : Nat} {mv mf wr we ik ia sd : Nat → Int32} {w a r e0 e1 e2 : Nat} {el : Nat → dr_E} {x : Int32} (h1 : wr w = nI r) (h2 : we (3 * w) = nI e0) (h3 : we (3 * w + 1) = nI e1) (h4 : we (3 * w + 2) = nI e2)
    (ok : dr_ok M (r, e0, e1, e2, el)) (hk : ik a = 1) (ha : ia a = x) (s0 : sd (3 * a) = 0) (s1 : sd (3 * a + 1) = 0) (s2 : sd (3 * a + 2) = 0)
    (hel : ∀ i, i < e0 * e1 * e2 → el i = (x, 0)) : xd_V S M mv mf wr we ik ia sd w a 1 (r, e0, e1, e2, el) := by
  refine ⟨h1, h2, h3, h4, ok, ?_, ?_⟩
  · intro c q' hc hc' hq' z
    have e : c = a := by omega
    subst e
    rcases (show q' = 0 ∨ q' = 1 ∨ q' = 2 by omega) with rfl | rfl | rfl
    · exact s0
    · exact s1
    · exact s2
  · intro i0 i1 i2 a0 a1 a2
    rw [hel _ (dr_f3 a0 a1 a2)]
    refine dr_ev_sr hk ?_
    unfold dr_ad
    rw [s0, s1, s2, ha]
    grind
theorem xd_S_ad {S : Nat → Prop} {M : Nat} {mv mf wr we ws ik ia sd : Nat → Int32} {l : List dr_A} {a : Nat} {p x y z : Int32} (h : xd_S S M mv mf wr we ws ik ia sd l a) :
    xd_S S M mv mf (upd wr l.length p) (upd (upd (upd we (3 * l.length) x) (3 * l.length + 1) y) (3 * l.length + 2) z) ws ik ia sd l a := by
  refine xd_S_fr (fun j hj => ⟨hj, rfl, rfl⟩) l a h (fun j hj => ⟨pk_un (by omega), rfl, fun q hq => ?_⟩) (fun j _ => ⟨rfl, rfl, fun _ _ => rfl⟩)
  rw [pk_un (by omega), pk_un (by omega), pk_un (by omega)]
theorem xd_S_me {U : Nat → Prop} {M t T : Nat} {g : Nat → dr_E} {mv mf mv' mf' wr we ws ik ia sd : Nat → Int32} {l : List dr_A} {a : Nat} (h : xd_S (dr_S U) M mv mf wr we ws ik ia sd l a) (hU : ¬ U t) (hT : T ≤ 32)
    (hw : dr_wr (256 + 32 * t) g mv mf T mv' mf') : xd_S (dr_S (fun s => U s ∨ s = t)) M mv' mf' wr we ws ik ia sd l a := by
  refine xd_S_fr (fun j hj => ?_) l a h (fun j hj => ⟨rfl, rfl, fun _ _ => rfl⟩) (fun j _ => ⟨rfl, rfl, fun _ _ => rfl⟩)
  have o := hw.2 j (by have := dr_S_out hU j hj; omega)
  exact ⟨dr_S_mono hj, o.1, o.2⟩
theorem xd_S_co {S : Nat → Prop} {M : Nat} {mv mf wr we ws ik ia sd ik' ia' sd' : Nat → Int32} {l : List dr_A} {a : Nat} (h : xd_S S M mv mf wr we ws ik ia sd l a)
    (hi : ∀ j, j < a → ik' j = ik j ∧ ia' j = ia j) (hs : ∀ j, j < 3 * a → sd' j = sd j) : xd_S S M mv mf wr we ws ik' ia' sd' l a :=
  xd_S_fr (fun _ hj => ⟨hj, rfl, rfl⟩) l a h (fun _ _ => ⟨rfl, rfl, fun _ _ => rfl⟩) (fun j hj => ⟨(hi j hj).1, (hi j hj).2, fun _ _ => hs _ (by omega)⟩)
theorem xd_S_u {U : Nat → Prop} {M t : Nat} {mv mf wr we ws ik ia sd : Nat → Int32} {l : List dr_A} {a : Nat} (h : xd_S (dr_S U) M mv mf wr we ws ik ia sd l a) : xd_S (dr_S (fun s => U s ∨ s = t)) M mv mf wr we ws ik ia sd l a :=
  xd_S_fr (fun _ hj => ⟨dr_S_mono hj, rfl, rfl⟩) l a h (fun _ _ => ⟨rfl, rfl, fun _ _ => rfl⟩) (fun _ _ => ⟨rfl, rfl, fun _ _ => rfl⟩)
theorem xd_R_u {k : xd_K} {m0 f0 : Nat → Int32} {M : Nat} {U : Nat → Prop} {t : Nat} {l : List dr_A} {B B' : Nat} {u : SX} (h : xd_R k m0 f0 M U l B u) (hB : B ≤ B') : xd_R k m0 f0 M (fun s => U s ∨ s = t) l B' u := by
  revert h
  refine xd_el (P := fun u => xd_R k m0 f0 M U l B u → xd_R k m0 f0 M (fun s => U s ∨ s = t) l B' u) ?_ u
  intro z0 z1 z2 z3 mc vc mt ll oc ep vn cl ov ou cc tk tv mv mf br be wr we ws ik ia sd pd ix rv rf ne st ns ct gv gf
  rintro ⟨h1, h2, h3, h4, b, h5, h6, h7⟩
  exact ⟨h1, h2, h3, h4, b, h5, by omega, xd_S_u h7⟩
end
section
/-- strides rewritten, instruction by instruction -/
def dr_sI (a : Nat) (sd : Nat → Int32) (T : Nat → Nat → Int32) (i : Nat) (s : Nat → Int32) : Prop :=
  (∀ c q, a ≤ c → c < i → q < 3 → s (3 * c + q) = T c q) ∧ (∀ j, j < 3 * a ∨ 3 * i ≤ j → s j = sd j)
theorem dr_sI0 {a : Nat} {sd : Nat → Int32} {T : Nat → Nat → Int32} : dr_sI a sd T a sd := ⟨fun c q h1 h2 _ => by omega, fun _ _ => rfl⟩
theorem dr_sIs {a i : Nat} {sd s s' : Nat → Int32} {T : Nat → Nat → Int32} (h : dr_sI a sd T i s) (ha : a ≤ i) (h1 : ∀ q, q < 3 → s' (3 * i + q) = T i q) (h2 : ∀ j, j < 3 * i ∨ 3 * i + 3 ≤ j → s' j = s j) :
    dr_sI a sd T (i + 1) s' := by
  refine ⟨fun c q hc hc' hq => ?_, fun j hj => ?_⟩
  · rcases Nat.lt_or_ge c i with z | z
    · rw [h2 _ (by omega)]; exact h.1 c q hc z hq
    · have e : c = i := by omega
      rw [e]; exact h1 q hq
  · rw [h2 j (by omega)]; exact h.2 j (by omega)
theorem xd_V_map {S : Nat → Prop} {M : Nat} {mv mf wr we ik ia sd wr' we' ia' sd' : Nat → Int32} {w a m r e0 e1 e2 r' f0 f1 f2 : Nat} {el el' : Nat → dr_E} (h : xd_V S M mv mf wr we ik ia sd w a m (r, e0, e1, e2, el))
    (h1 : wr' w = nI r') (h2 : we' (3 * w) = nI f0) (h3 : we' (3 * w + 1) = nI f1) (h4 : we' (3 * w + 2) = nI f2) (ok : dr_ok M (r', f0, f1, f2, el'))
    (hz : ∀ c q, a ≤ c → c < a + m → q < 3 → (r' ≤ q ∨ ik c = 2 ∨ ik c = 3) → sd' (3 * c + q) = 0) (hop : ∀ c, a ≤ c → c < a + m → (ik c = 2 ∨ ik c = 3) → ia' c = ia c)
    (hmap : ∀ j0 j1 j2, j0 < f0 → j1 < f1 → j2 < f2 → ∃ i0 i1 i2, i0 < e0 ∧ i1 < e1 ∧ i2 < e2 ∧ el' ((j0 * f1 + j1) * f2 + j2) = el ((i0 * e1 + i1) * e2 + i2) ∧
      ∀ c, a ≤ c → c < a + m → dr_ad ia' sd' (nI j0) (nI j1) (nI j2) c = dr_ad ia sd (nI i0) (nI i1) (nI i2) c) : xd_V S M mv mf wr' we' ik ia' sd' w a m (r', f0, f1, f2, el') := by
  obtain ⟨-, -, -, -, -, -, h7⟩ := h
  refine ⟨h1, h2, h3, h4, ok, hz, ?_⟩
  intro j0 j1 j2 a0 a1 a2
  obtain ⟨i0, i1, i2, b0, b1, b2, e, hc⟩ := hmap j0 j1 j2 a0 a1 a2
  rw [e]
  exact dr_ev_map (h7 i0 i1 i2 b0 b1 b2) (fun d h1 h2 => ⟨rfl, hop d h1 h2, fun _ => hc d h1 h2⟩)
theorem dr_nrev {e j : Nat} (h : j < e) : nI (e - 1 - j) = nI e - 1 - nI j := by
  rw [na_s1 (by omega), pk_sub (by omega)]
def dr_rev (r e0 e1 e2 : Nat) (el : Nat → dr_E) : Nat → dr_E := fun n => el (n / dr_le r e0 e1 e2 * dr_le r e0 e1 e2 + (dr_le r e0 e1 e2 - 1 - n % dr_le r e0 e1 e2))
section
variable {post : SX → Prop} {z0 z1 z2 z3 mc vc mt ll oc ep vn cl ov ou cc : Int32} {tk tv mv mf br be wr we ws ik ia sd pd ix rv rf ne st ns ct gv gf : Nat → Int32}
theorem xa_shift {w a m ax : Nat} {y : Int32} (hw : w < 10) (hs : ws w = nI a) (hb : a + m ≤ 48) (hax : ax < 3)
    (K : ∀ ia', (∀ c, a ≤ c → c < a + m → ia' c = ia c + y * sd (3 * c + ax)) → (∀ c, c < a → ia' c = ia c) → post (z0, z1, z2, z3, mc, vc, mt, ll, oc, ep, nI (w + 1), nI (a + m), ov, ou, cc, tk, tv, mv, mf, br, be, wr, we, ws, ik, ia', sd, pd, ix, rv, rf, ne, st, ns, ct, gv, gf)) :
    wpX_shiftAxis post (z0, z1, z2, z3, mc, vc, mt, ll, oc, ep, nI (w + 1), nI (a + m), ov, ou, cc, tk, tv, mv, mf, br, be, wr, we, ws, ik, ia, sd, pd, ix, rv, rf, ne, st, ns, ct, gv, gf) (nI ax) y := by
  simp (disch := omega) only [wpX_shiftAxis, hs, forall_eq, true_and, and_true, true_implies, false_implies, not_true_eq_false, not_false_eq_true, implies_true, forall_const, and_self, nI_leI, nI_ltI, nI_eq, vp_in_nI, nI_clamp, nI_add, pk_mul, pk_m1, nI_pred, nI_1, na_l0, na_g0, na_ll0, na_gl0, na_e0, na_p0, na_0p, na_c0, na_m1c, na_ap2, na_l3, na_l32, na_m3, na_m32, na_mr3, na_mr32, na_d1, na_d2, na_d3, na_d4, na_d5, na_d6, na_d7, na_d8, na_d9, ite_true, ite_false, reduceIte, if_true, if_false]
  exact dr_lp1 (σ := Nat → Int32) (a + m) (fun n i s => wX_shiftAxis_12 post (nI ax) y z0 z1 z2 z3 mc vc mt ll oc ep (nI (w + 1)) (nI (a + m)) ov ou cc n (nI i) tk tv mv mf br be wr we ws ik s sd pd ix rv rf ne st ns ct gv gf)
    (fun i s => (∀ c, a ≤ c → c < i → s c = ia c + y * sd (3 * c + ax)) ∧ (∀ c, c < a ∨ i ≤ c → s c = ia c) ∧ a ≤ i)
    (fun n s hI => by
      rw [wX_shiftAxis_12]
      exact br_t (nI_le (Nat.le_refl _) (by omega)) (K s hI.1 (fun c hc => hI.2.1 c (Or.inl hc))))
    (fun n i s hi hI hW => by
      have hn : ¬ (a + m ≤ i) := by omega
      rw [wX_shiftAxis_12]
      simp (disch := omega) only [hn, forall_eq, true_and, and_true, true_implies, false_implies, not_true_eq_false, not_false_eq_true, implies_true, forall_const, and_self, nI_leI, nI_ltI, nI_eq, vp_in_nI, nI_clamp, nI_add, pk_mul, pk_m1, nI_pred, nI_1, na_l0, na_g0, na_ll0, na_gl0, na_e0, na_p0, na_0p, na_c0, na_m1c, na_ap2, na_l3, na_l32, na_m3, na_m32, na_mr3, na_mr32, na_d1, na_d2, na_d3, na_d4, na_d5, na_d6, na_d7, na_d8, na_d9, ite_true, ite_false, reduceIte, if_true, if_false]
      refine hW _ ⟨fun c h1 h2 => ?_, fun c hc => ?_, by omega⟩
      · rcases Nat.lt_or_ge c i with z | z
        · rw [pk_un (by omega)]; exact hI.1 c h1 z
        · have e : c = i := by omega
          rw [e, pk_us, hI.2.1 i (Or.inr (Nat.le_refl _))]
      · rw [pk_un (by omega)]; exact hI.2.1 c (by omega))
    a (by omega) ia ⟨fun c h1 h2 => by omega, fun _ _ => rfl, Nat.le_refl _⟩
theorem xa_neg {a m ax : Nat} (hb : a + m ≤ 48) (hax : ax < 3)
    (K : ∀ sd', (∀ c q, a ≤ c → c < a + m → q < 3 → sd' (3 * c + q) = if q = ax then -(sd (3 * c + q)) else sd (3 * c + q)) → (∀ j, j < 3 * a → sd' j = sd j) → post (z0, z1, z2, z3, mc, vc, mt, ll, oc, ep, vn, nI (a + m), ov, ou, cc, tk, tv, mv, mf, br, be, wr, we, ws, ik, ia, sd', pd, ix, rv, rf, ne, st, ns, ct, gv, gf)) :
    ∃ n, wX_reverse_45 post (nI ax) z0 z1 z2 z3 mc vc mt ll oc ep vn (nI (a + m)) ov ou cc n (nI a) tk tv mv mf br be wr we ws ik ia sd pd ix rv rf ne st ns ct gv gf :=
  dr_lp1 (σ := Nat → Int32) (a + m) (fun n i s => wX_reverse_45 post (nI ax) z0 z1 z2 z3 mc vc mt ll oc ep vn (nI (a + m)) ov ou cc n (nI i) tk tv mv mf br be wr we ws ik ia s pd ix rv rf ne st ns ct gv gf)
    (fun i s => dr_sI a sd (fun c q => if q = ax then -(sd (3 * c + q)) else sd (3 * c + q)) i s ∧ a ≤ i)
    (fun n s hI => by
      rw [wX_reverse_45]
      exact br_t (nI_le (Nat.le_refl _) (by omega)) (K s hI.1.1 (fun c hc => hI.1.2 c (Or.inl hc))))
    (fun n i s hi hI hW => by
      have hn : ¬ (a + m ≤ i) := by omega
      rw [wX_reverse_45]
      simp (disch := omega) only [hn, forall_eq, true_and, and_true, true_implies, false_implies, not_true_eq_false, not_false_eq_true, implies_true, forall_const, and_self, nI_leI, nI_ltI, nI_eq, vp_in_nI, nI_clamp, nI_add, pk_mul, pk_m1, nI_pred, nI_1, na_l0, na_g0, na_ll0, na_gl0, na_e0, na_p0, na_0p, na_c0, na_m1c, na_ap2, na_l3, na_l32, na_m3, na_m32, na_mr3, na_mr32, na_d1, na_d2, na_d3, na_d4, na_d5, na_d6, na_d7, na_d8, na_d9, ite_true, ite_false, reduceIte, if_true, if_false]
      refine hW _ ⟨dr_sIs hI.1 hI.2 (fun q hq => ?_) (fun j hj => pk_un (by omega)), by omega⟩
      by_cases e : q = ax
      · rw [e, pk_us, if_pos rfl, hI.1.2 _ (by omega)]
      · rw [pk_un (by omega), if_neg e, hI.1.2 _ (by omega)])
    a (by omega) sd ⟨dr_sI0, Nat.le_refl _⟩
theorem xa_swap {a m ax : Nat} (hb : a + m ≤ 48) (hax : ax < 3) (hax0 : 0 < ax)
    (K : ∀ sd', (∀ c q, a ≤ c → c < a + m → q < 3 → sd' (3 * c + q) = if q = ax then sd (3 * c) else if q = 0 then sd (3 * c + ax) else sd (3 * c + q)) → (∀ j, j < 3 * a → sd' j = sd j) → post (z0, z1, z2, z3, mc, vc, mt, ll, oc, ep, vn, nI (a + m), ov, ou, cc, tk, tv, mv, mf, br, be, wr, we, ws, ik, ia, sd', pd, ix, rv, rf, ne, st, ns, ct, gv, gf)) :
    ∃ n, wX_reverseAxes_68 post (nI ax) z0 z1 z2 z3 mc vc mt ll oc ep vn (nI (a + m)) ov ou cc n (nI a) tk tv mv mf br be wr we ws ik ia sd pd ix rv rf ne st ns ct gv gf :=
  dr_lp1 (σ := Nat → Int32) (a + m) (fun n i s => wX_reverseAxes_68 post (nI ax) z0 z1 z2 z3 mc vc mt ll oc ep vn (nI (a + m)) ov ou cc n (nI i) tk tv mv mf br be wr we ws ik ia s pd ix rv rf ne st ns ct gv gf)
    (fun i s => dr_sI a sd (fun c q => if q = ax then sd (3 * c) else if q = 0 then sd (3 * c + ax) else sd (3 * c + q)) i s ∧ a ≤ i)
    (fun n s hI => by
      rw [wX_reverseAxes_68]
      exact br_t (nI_le (Nat.le_refl _) (by omega)) (K s hI.1.1 (fun c hc => hI.1.2 c (Or.inl hc))))
    (fun n i s hi hI hW => by
      have hn : ¬ (a + m ≤ i) := by omega
      rw [wX_reverseAxes_68]
      simp (disch := omega) only [hn, forall_eq, true_and, and_true, true_implies, false_implies, not_true_eq_false, not_false_eq_true, implies_true, forall_const, and_self, nI_leI, nI_ltI, nI_eq, vp_in_nI, nI_clamp, nI_add, pk_mul, pk_m1, nI_pred, nI_1, na_l0, na_g0, na_ll0, na_gl0, na_e0, na_p0, na_0p, na_c0, na_m1c, na_ap2, na_l3, na_l32, na_m3, na_m32, na_mr3, na_mr32, na_d1, na_d2, na_d3, na_d4, na_d5, na_d6, na_d7, na_d8, na_d9, ite_true, ite_false, reduceIte, if_true, if_false]
      refine hW _ ⟨dr_sIs hI.1 hI.2 (fun q hq => ?_) (fun j hj => by rw [pk_un (by omega), pk_un (by omega)]), by omega⟩
      by_cases e : q = ax
      · rw [e, pk_us, if_pos rfl, hI.1.2 _ (by omega)]
      · rw [pk_un (by omega), if_neg e]
        by_cases e0 : q = 0
        · rw [e0, Nat.add_zero, pk_us, if_pos rfl, hI.1.2 _ (by omega)]
        · rw [pk_un (by omega), if_neg e0, hI.1.2 _ (by omega)])
    a (by omega) sd ⟨dr_sI0, Nat.le_refl _⟩
end
theorem dr_rev_ok {M r e0 e1 e2 : Nat} {el : Nat → dr_E} (h : dr_ok M (r, e0, e1, e2, el)) (hr : 0 < r) : dr_ok M (r, e0, e1, e2, dr_rev r e0 e1 e2 el) := by
  obtain ⟨k1, k2, k3, k4, k5, k6, k7, k8, k9⟩ := h
  refine ⟨k1, k2, k3, k4, k5, k6, k7, k8, fun i hi => ?_⟩
  unfold dr_rev
  apply k9
  have e : e0 * e1 * e2 = dr_rw r e0 e1 * dr_le r e0 e1 e2 := by
    unfold dr_rw dr_le
    rcases (show r = 1 ∨ r = 2 ∨ r = 3 by omega) with rfl | rfl | rfl
    · rw [k6 (by omega), k7 (by omega)]; simp
    · rw [k7 (by omega)]; simp
    · simp
  rw [e] at hi ⊢
  have hp : 0 < dr_le r e0 e1 e2 := by
    rcases Nat.eq_zero_or_pos (dr_le r e0 e1 e2) with z | z
    · rw [z] at hi; omega
    · exact z
  exact dr_f2 (by rw [Nat.div_lt_iff_lt_mul hp]; exact hi) (by omega)
section
variable {post : SX → Prop} {k : xd_K} {m0 f0 : Nat → Int32} {M : Nat} {U : Nat → Prop} {l : List dr_A} {B : Nat} {u : SX} {r e0 e1 e2 : Nat} {el : Nat → dr_E}
theorem xo_mono {c : Int32} (R : xd_R k m0 f0 M U ((r, e0, e1, e2, el) :: l) B u) (hB : B ≤ 48)
    (K : ∀ u', xd_R k m0 f0 M U ((r, e0, e1, e2, fun i => dr_mv c (el i)) :: l) (B + 1) u' → post u') : wpX_addInstruction post u 2 c := by
  refine xd_top (P := fun u => wpX_addInstruction post u 2 c) R ?_
  intro z0 z1 z2 z3 vc mt ll oc ep ov ou cc tk tv mv mf br be wr we ws ik ia sd pd ix rv rf ne st ns ct gv gf a m hk hmem hm hB' hs hV hS
  refine xa_add (by omega) ?_
  obtain ⟨h1, h2, h3, h4, h5, h6, h7⟩ := hV
  refine K _ (xd_mk (m := m + 1) hk hmem (by omega) (by omega) hs ⟨h1, h2, h3, h4, ?_, ?_, ?_⟩ ?_)
  · obtain ⟨k1, k2, k3, k4, k5, k6, k7, k8, k9⟩ := h5
    exact ⟨k1, k2, k3, k4, k5, k6, k7, k8, fun i hi => dr_mv_ok (k9 i hi)⟩
  · intro d q hd hd' hq z
    rcases Nat.lt_or_ge d (a + m) with y | y
    · rw [pk_un (show d ≠ a + m by omega)] at z
      rw [pk_un (by omega), pk_un (by omega), pk_un (by omega)]
      exact h6 d q hd y hq z
    · have e : d = a + m := by omega
      subst e
      rcases (show q = 0 ∨ q = 1 ∨ q = 2 by omega) with rfl | rfl | rfl
      · rw [pk_un (by omega), pk_un (by omega), Nat.add_zero, pk_us]
      · rw [pk_un (by omega), pk_us]
      · rw [pk_us]
  · intro i0 i1 i2 a0 a1 a2
    refine dr_ev_mo (dr_ev_map (h7 i0 i1 i2 a0 a1 a2) ?_) pk_us pk_us
    intro d hd hd'
    refine ⟨pk_un (by omega), fun _ => pk_un (by omega), fun _ => dr_ad_cg (pk_un (by omega)) (fun q hq => ?_)⟩
    rw [pk_un (by omega), pk_un (by omega), pk_un (by omega)]
  · refine xd_S_co hS (fun j hj => ⟨pk_un (by omega), pk_un (by omega)⟩) (fun j hj => ?_)
    rw [pk_un (by omega), pk_un (by omega), pk_un (by omega)]
theorem xo_reverse (R : xd_R k m0 f0 M U ((r, e0, e1, e2, el) :: l) B u) (hB : B ≤ 48) (hl : l.length < 10) (hr : 0 < r)
    (K : ∀ u', xd_R k m0 f0 M U ((r, e0, e1, e2, dr_rev r e0 e1 e2 el) :: l) B u' → post u') : wpX_reverse post u := by
  refine xd_top (P := fun u => wpX_reverse post u) R ?_
  intro z0 z1 z2 z3 vc mt ll oc ep ov ou cc tk tv mv mf br be wr we ws ik ia sd pd ix rv rf ne st ns ct gv gf a m hk hmem hm hB' hs hV hS
  have hV' := hV
  obtain ⟨h1, h2, h3, h4, h5, h6, h7⟩ := hV'
  have ok := h5
  obtain ⟨k1, k2, k3, k4, k5, k6, k7, k8, k9⟩ := ok
  obtain ⟨ax, rfl⟩ : ∃ x, r = x + 1 := ⟨r - 1, by omega⟩
  simp (disch := omega) only [wpX_reverse, h1, forall_eq, true_and, and_true, true_implies, false_implies, not_true_eq_false, not_false_eq_true, implies_true, forall_const, and_self, nI_leI, nI_ltI, nI_eq, vp_in_nI, nI_clamp, nI_add, pk_mul, pk_m1, nI_pred, nI_1, na_l0, na_g0, na_ll0, na_gl0, na_e0, na_p0, na_0p, na_c0, na_m1c, na_ap2, na_l3, na_l32, na_m3, na_m32, na_mr3, na_mr32, na_d1, na_d2, na_d3, na_d4, na_d5, na_d6, na_d7, na_d8, na_d9, ite_true, ite_false, reduceIte, if_true, if_false]
  refine xa_shift hl hs (by omega) (by omega) ?_
  intro ia' hi1 hi2
  simp (disch := omega) only [hs, forall_eq, true_and, and_true, true_implies, false_implies, not_true_eq_false, not_false_eq_true, implies_true, forall_const, and_self, nI_leI, nI_ltI, nI_eq, vp_in_nI, nI_clamp, nI_add, pk_mul, pk_m1, nI_pred, nI_1, na_l0, na_g0, na_ll0, na_gl0, na_e0, na_p0, na_0p, na_c0, na_m1c, na_ap2, na_l3, na_l32, na_m3, na_m32, na_mr3, na_mr32, na_d1, na_d2, na_d3, na_d4, na_d5, na_d6, na_d7, na_d8, na_d9, ite_true, ite_false, reduceIte, if_true, if_false]
  refine xa_neg (by omega) (by omega) ?_
  intro sd' hs1 hs2
  refine K _ (xd_mk hk hmem hm (by omega) hs (xd_V_map hV h1 h2 h3 h4 (dr_rev_ok h5 hr) ?_ ?_ ?_) (xd_S_co hS (fun j hj => ⟨rfl, hi2 j hj⟩) hs2))
  · intro c q hc hc' hq z
    rw [hs1 c q hc hc' hq, h6 c q hc hc' hq z]
    split <;> rfl
  · intro c hc hc' z
    rw [hi1 c hc hc', h6 c ax hc hc' (by omega) (Or.inr z), Int32.mul_zero, Int32.add_zero]
  · intro j0 j1 j2 a0 a1 a2
    rcases (show ax = 0 ∨ ax = 1 ∨ ax = 2 by omega) with rfl | rfl | rfl
    · have x1 := k6 (by omega)
      have x2 := k7 (by omega)
      subst x1 x2
      have y1 : j1 = 0 := by omega
      have y2 : j2 = 0 := by omega
      subst y1 y2
      refine ⟨e0 - 1 - j0, 0, 0, by omega, by omega, by omega, ?_, ?_⟩
      · unfold dr_rev
        simp only [dr_le, Nat.mul_one, Nat.add_zero, Nat.reduceAdd, Nat.reduceEqDiff, if_false]
        rw [Nat.div_eq_of_lt a0, Nat.mod_eq_of_lt a0, Nat.zero_mul, Nat.zero_add]
      · intro c hc hc'
        have t0 := hs1 c 0 hc hc' (by omega)
        have t1 := hs1 c 1 hc hc' (by omega)
        have t2 := hs1 c 2 hc hc' (by omega)
        simp only [Nat.add_zero, if_true, Nat.reduceEqDiff, if_false] at t0 t1 t2
        have ti := hi1 c hc hc'
        rw [Nat.add_zero] at ti
        unfold dr_ad
        rw [t0, t1, t2, ti, dr_nrev a0, h2]
        grind
    · have x2 := k7 (by omega)
      subst x2
      have y2 : j2 = 0 := by omega
      subst y2
      refine ⟨j0, e1 - 1 - j1, 0, by omega, by omega, by omega, ?_, ?_⟩
      · unfold dr_rev
        simp only [dr_le, Nat.mul_one, Nat.add_zero, Nat.reduceAdd, Nat.reduceEqDiff, if_false, if_true]
        rw [dr_dv a1, dr_md a1]
      · intro c hc hc'
        have t0 := hs1 c 0 hc hc' (by omega)
        have t1 := hs1 c 1 hc hc' (by omega)
        have t2 := hs1 c 2 hc hc' (by omega)
        simp only [Nat.add_zero, if_true, Nat.reduceEqDiff, if_false] at t0 t1 t2
        have ti := hi1 c hc hc'
        unfold dr_ad
        rw [t0, t1, t2, ti, dr_nrev a1, h3]
        grind
    · refine ⟨j0, j1, e2 - 1 - j2, by omega, by omega, by omega, ?_, ?_⟩
      · unfold dr_rev
        simp only [dr_le, Nat.reduceAdd, if_true]
        rw [dr_dv a2, dr_md a2]
      · intro c hc hc'
        have t0 := hs1 c 0 hc hc' (by omega)
        have t1 := hs1 c 1 hc hc' (by omega)
        have t2 := hs1 c 2 hc hc' (by omega)
        simp only [Nat.add_zero, if_true, Nat.reduceEqDiff, if_false] at t0 t1 t2
        have ti := hi1 c hc hc'
        unfold dr_ad
        rw [t0, t1, t2, ti, dr_nrev a2, h4]
        grind
end
end
section
def dr_n (r p e : Nat) : Nat := if r = p + 1 then 1 else e
def dr_red (M : Nat) (c : Int32) : dr_A → Int32 × dr_A
  | (r, e0, e1, e2, el) =>
    if r = 0 then (0, (r, e0, e1, e2, el))
    else if M < dr_rw r e0 e1 then (-15, (r, e0, e1, e2, el))
    else (0, (r - 1, dr_n r 0 e0, dr_n r 1 e1, dr_n r 2 e2, fun q => dr_fold c (fun p => el (q * dr_le r e0 e1 e2 + p)) (dr_le r e0 e1 e2)))
def dr_scan (c : Int32) : dr_A → dr_A
  | (r, e0, e1, e2, el) =>
    if r = 0 then (r, e0, e1, e2, el)
    else (r, e0, e1, e2, fun n => dr_fold c (fun p => el (n / dr_le r e0 e1 e2 * dr_le r e0 e1 e2 + p)) (n % dr_le r e0 e1 e2 + 1))
theorem dr_rwle {M r e0 e1 e2 : Nat} {el : Nat → dr_E} (h : dr_ok M (r, e0, e1, e2, el)) : e0 * e1 * e2 = dr_rw r e0 e1 * dr_le r e0 e1 e2 := by
  obtain ⟨k1, k2, k3, k4, k5, k6, k7, k8, k9⟩ := h
  unfold dr_rw dr_le
  rcases (show r = 0 ∨ r = 1 ∨ r = 2 ∨ r = 3 by omega) with rfl | rfl | rfl | rfl
  · rw [k6 (by omega), k7 (by omega)]; simp
  · rw [k6 (by omega), k7 (by omega)]; simp
  · rw [k7 (by omega)]; simp
  · simp
theorem dr_nprod {M r e0 e1 e2 : Nat} {el : Nat → dr_E} (h : dr_ok M (r, e0, e1, e2, el)) (hr : 0 < r) : dr_n r 0 e0 * dr_n r 1 e1 * dr_n r 2 e2 = dr_rw r e0 e1 := by
  obtain ⟨k1, k2, k3, k4, k5, k6, k7, k8, k9⟩ := h
  unfold dr_rw dr_n
  rcases (show r = 1 ∨ r = 2 ∨ r = 3 by omega) with rfl | rfl | rfl
  · rw [k6 (by omega), k7 (by omega)]; simp
  · rw [k7 (by omega)]; simp
  · simp
theorem dr_rw_le {M r e0 e1 e2 : Nat} {el : Nat → dr_E} (h : dr_ok M (r, e0, e1, e2, el)) : dr_rw r e0 e1 ≤ 1024 ∧ dr_le r e0 e1 e2 ≤ 32 := by
  obtain ⟨k1, k2, k3, k4, k5, k6, k7, k8, k9⟩ := h
  have := Nat.mul_le_mul k2 k3
  unfold dr_rw dr_le
  refine ⟨?_, ?_⟩
  · split
    · omega
    · split <;> omega
  · split
    · omega
    · split <;> omega
/-- a line along the last axis -/
theorem dr_line {M ax e0 e1 e2 i0 i1 i2 p : Nat} {el : Nat → dr_E} (h : dr_ok M (ax + 1, e0, e1, e2, el)) (h0 : i0 < dr_n (ax + 1) 0 e0) (h1 : i1 < dr_n (ax + 1) 1 e1) (h2 : i2 < dr_n (ax + 1) 2 e2) (hp : p < dr_le (ax + 1) e0 e1 e2) :
    (if ax = 0 then p else i0) < e0 ∧ (if ax = 1 then p else i1) < e1 ∧ (if ax = 2 then p else i2) < e2 ∧
    ((if ax = 0 then p else i0) * e1 + (if ax = 1 then p else i1)) * e2 + (if ax = 2 then p else i2) = ((i0 * dr_n (ax + 1) 1 e1 + i1) * dr_n (ax + 1) 2 e2 + i2) * dr_le (ax + 1) e0 e1 e2 + p := by
  obtain ⟨k1, k2, k3, k4, k5, k6, k7, k8, k9⟩ := h
  unfold dr_n dr_le at *
  rcases (show ax = 0 ∨ ax = 1 ∨ ax = 2 by omega) with rfl | rfl | rfl
  · have a1 := k6 (by omega)
    have a2 := k7 (by omega)
    subst a1 a2
    simp at h0 h1 h2 hp ⊢
    subst h0 h1 h2
    omega
  · have a2 := k7 (by omega)
    subst a2
    simp at h0 h1 h2 hp ⊢
    subst h1 h2
    simp only [Nat.add_zero]
    simp [*]
  · simp at h0 h1 h2 hp ⊢
    subst h2
    simp only [Nat.add_zero]
    simp [*]
theorem dr_red_ok {M r e0 e1 e2 : Nat} {c : Int32} {el : Nat → dr_E} (h : dr_ok M (r, e0, e1, e2, el)) (hM : dr_rw r e0 e1 ≤ M) (hr : 0 < r) :
    dr_ok M (r - 1, dr_n r 0 e0, dr_n r 1 e1, dr_n r 2 e2, fun q => dr_fold c (fun p => el (q * dr_le r e0 e1 e2 + p)) (dr_le r e0 e1 e2)) := by
  have hp := dr_nprod h hr
  have hrl := dr_rwle h
  obtain ⟨k1, k2, k3, k4, k5, k6, k7, k8, k9⟩ := h
  refine ⟨by omega, ?_, ?_, ?_, ?_, ?_, ?_, by omega, ?_⟩
  · unfold dr_n; split <;> omega
  · unfold dr_n; split <;> omega
  · unfold dr_n; split <;> omega
  · intro z; unfold dr_n; rw [if_pos (by omega)]
  · intro z; unfold dr_n; split
    · rfl
    · exact k6 (by omega)
  · intro z; unfold dr_n; split
    · rfl
    · exact k7 (by omega)
  · intro i hi
    rw [hp] at hi
    exact dr_fold_ok (fun p hp => k9 _ (by rw [hrl]; exact dr_f2 hi hp))
theorem dr_scan_ok {M r e0 e1 e2 : Nat} {c : Int32} {el : Nat → dr_E} (h : dr_ok M (r, e0, e1, e2, el)) (hr : 0 < r) :
    dr_ok M (r, e0, e1, e2, fun n => dr_fold c (fun p => el (n / dr_le r e0 e1 e2 * dr_le r e0 e1 e2 + p)) (n % dr_le r e0 e1 e2 + 1)) := by
  have hrl := dr_rwle h
  obtain ⟨k1, k2, k3, k4, k5, k6, k7, k8, k9⟩ := h
  refine ⟨k1, k2, k3, k4, k5, k6, k7, k8, fun i hi => ?_⟩
  rw [hrl] at hi
  have hp : 0 < dr_le r e0 e1 e2 := by
    rcases Nat.eq_zero_or_pos (dr_le r e0 e1 e2) with z | z
    · rw [z] at hi; omega
    · exact z
  refine dr_fold_ok (fun p hq => k9 _ ?_)
  have := Nat.mod_lt i hp
  rw [hrl]
  exact dr_f2 (by rw [Nat.div_lt_iff_lt_mul hp]; exact hi) (by omega)
theorem xd_R_cg {k : xd_K} {m0 f0 : Nat → Int32} {M : Nat} {U : Nat → Prop} {l : List dr_A} {B : Nat} {u : SX} {r e0 e1 e2 : Nat} {el el' : Nat → dr_E} (h : xd_R k m0 f0 M U ((r, e0, e1, e2, el) :: l) B u)
    (he : ∀ i, i < e0 * e1 * e2 → el' i = el i) : xd_R k m0 f0 M U ((r, e0, e1, e2, el') :: l) B u := by
  refine xd_top (P := fun u => xd_R k m0 f0 M U ((r, e0, e1, e2, el') :: l) B u) h ?_
  intro z0 z1 z2 z3 vc mt ll oc ep ov ou cc tk tv mv mf br be wr we ws ik ia sd pd ix rv rf ne st ns ct gv gf a m hk hmem hm hB' hs hV hS
  obtain ⟨h1, h2, h3, h4, h5, h6, h7⟩ := hV
  refine xd_mk hk hmem hm hB' hs ⟨h1, h2, h3, h4, ?_, h6, ?_⟩ hS
  · obtain ⟨k1, k2, k3, k4, k5, k6, k7, k8, k9⟩ := h5
    exact ⟨k1, k2, k3, k4, k5, k6, k7, k8, fun i hi => by rw [he i hi]; exact k9 i hi⟩
  · intro i0 i1 i2 a0 a1 a2
    rw [he _ (dr_f3 a0 a1 a2)]
    exact h7 i0 i1 i2 a0 a1 a2
section
variable {post : SX → Prop} {z0 z1 z2 z3 mc vc mt ll oc ep vn cl ov ou cc : Int32} {tk tv mv mf br be wr we ws ik ia sd pd ix rv rf ne st ns ct gv gf : Nat → Int32}
theorem xa_ident {post : Int32 → Prop} {c : Int32} (K : post (dr_id c)) : wpX_identity post (z0, z1, z2, z3, mc, vc, mt, ll, oc, ep, vn, cl, ov, ou, cc, tk, tv, mv, mf, br, be, wr, we, ws, ik, ia, sd, pd, ix, rv, rf, ne, st, ns, ct, gv, gf) c := by
  unfold wpX_identity
  dsimp only
  have e : ∀ x, dr_id c = x → post x := fun x e => e ▸ K
  by_cases h2 : c = 2
  · subst h2
    exact br_f (by decide) (br_f (by decide) (br_t rfl (e _ (by decide))))
  by_cases h3 : c = 3
  · subst h3
    exact br_f (by decide) (br_f (by decide) (br_f (by decide) (br_t rfl (e _ (by decide)))))
  by_cases h5 : c = 5
  · subst h5
    exact br_f (by decide) (br_f (by decide) (br_f (by decide) (br_f (by decide) (br_f (by decide) (br_t rfl (e _ (by decide)))))))
  by_cases h6 : c = 6
  · subst h6
    exact br_f (by decide) (br_f (by decide) (br_f (by decide) (br_f (by decide) (br_f (by decide) (br_f (by decide) (br_t rfl (e _ (by decide))))))))
  by_cases h7 : c = 7
  · subst h7
    exact br_f (by decide) (br_f (by decide) (br_f (by decide) (br_f (by decide) (br_f (by decide) (br_f (by decide) (br_f (by decide) (br_t rfl (e _ (by decide)))))))))
  have z : dr_id c = 0 := by
    unfold dr_id
    rw [if_neg (by simp [h2, h3, h7]), if_neg h5, if_neg h6]
  have p0 := e 0 z
  exact ⟨fun _ => p0, fun _ => ⟨fun _ => p0, fun _ => br_f h2 (br_f h3 ⟨fun _ => p0, fun _ => br_f h5 (br_f h6 (br_f h7 trivial))⟩)⟩⟩
theorem xa_red1 {post : Int32 → SX → Prop} {a m ax : Nat} (hb : a + m ≤ 48) (hax : ax < 3)
    (K : ∀ sd', (∀ c q, a ≤ c → c < a + m → q < 3 → sd' (3 * c + q) = if q = ax then 0 else sd (3 * c + q)) → (∀ j, j < 3 * a → sd' j = sd j) → wpX_adoptShape (fun u => match u with | (z0, z1, z2, z3, mc, vc, mt, ll, oc, ep, vn, cl, ov, ou, cc, tk, tv, mv, mf, br, be, wr, we, ws, ik, ia, sd, pd, ix, rv, rf, ne, st, ns, ct, gv, gf) => post 0 (z0, z1, z2, z3, mc, vc, mt, ll, oc, ep, vn, cl, ov, ou, cc, tk, tv, mv, mf, br, be, wr, we, ws, ik, ia, sd, pd, ix, rv, rf, ne, st, ns, ct, gv, gf)) (z0, z1, z2, z3, mc, vc, mt, ll, oc, ep, vn, nI (a + m), ov, ou, cc, tk, tv, mv, mf, br, be, wr, we, ws, ik, ia, sd', pd, ix, rv, rf, ne, st, ns, ct, gv, gf) (nI ax)) :
    ∃ n, wX_reduce_120 post (nI ax) z0 z1 z2 z3 mc vc mt ll oc ep vn (nI (a + m)) ov ou cc n (nI a) tk tv mv mf br be wr we ws ik ia sd pd ix rv rf ne st ns ct gv gf :=
  dr_lp1 (σ := Nat → Int32) (a + m) (fun n i s => wX_reduce_120 post (nI ax) z0 z1 z2 z3 mc vc mt ll oc ep vn (nI (a + m)) ov ou cc n (nI i) tk tv mv mf br be wr we ws ik ia s pd ix rv rf ne st ns ct gv gf)
    (fun i s => dr_sI a sd (fun c q => if q = ax then 0 else sd (3 * c + q)) i s ∧ a ≤ i)
    (fun n s hI => by
      rw [wX_reduce_120]
      exact br_t (nI_le (Nat.le_refl _) (by omega)) (K s hI.1.1 (fun c hc => hI.1.2 c (Or.inl hc))))
    (fun n i s hi hI hW => by
      have hn : ¬ (a + m ≤ i) := by omega
      rw [wX_reduce_120]
      simp (disch := omega) only [hn, forall_eq, true_and, and_true, true_implies, false_implies, not_true_eq_false, not_false_eq_true, implies_true, forall_const, and_self, nI_leI, nI_ltI, nI_eq, vp_in_nI, nI_clamp, nI_add, pk_mul, pk_m1, nI_pred, nI_1, na_l0, na_g0, na_ll0, na_gl0, na_e0, na_p0, na_0p, na_c0, na_m1c, na_ap2, na_l3, na_l32, na_m3, na_m32, na_mr3, na_mr32, na_d1, na_d2, na_d3, na_d4, na_d5, na_d6, na_d7, na_d8, na_d9, ite_true, ite_false, reduceIte, if_true, if_false]
      refine hW _ ⟨dr_sIs hI.1 hI.2 (fun q hq => ?_) (fun j hj => pk_un (by omega)), by omega⟩
      by_cases e : q = ax
      · rw [e, pk_us, if_pos rfl]
      · rw [pk_un (by omega), if_neg e, hI.1.2 _ (by omega)])
    a (by omega) sd ⟨dr_sI0, Nat.le_refl _⟩
theorem xa_scl {w a m ax e q n0 n1 n2 : Nat} {c : Int32} {F : Nat → Nat → Nat → Nat → dr_E} {g : Nat → dr_E} {S : Nat → Prop} (hw : w < 10) (hs : ws w = nI a) (hb : a + m ≤ 48) (hax : ax < 3) (he : e + 2 ≤ 32)
    (h0 : ne 0 = nI n0) (h1 : ne 1 = nI n1) (h2 : ne 2 = nI n2) (hn0 : n0 ≤ 32) (hn1 : n1 ≤ 32) (hn2 : n2 ≤ 32) (hq : q + 32 ≤ 1568) (hn : n0 * n1 * n2 * (e + 2) ≤ 32)
    (hS : ∀ j, S j → j < q ∨ q + 32 ≤ j)
    (hr : ∀ i0 i1 i2 j mv' mf', i0 < n0 → i1 < n1 → i2 < n2 → j < e + 2 → (∀ j, S j → mv' j = mv j ∧ mf' j = mf j) → ∀ iy : Nat → Int32, iy 0 = nI i0 → iy 1 = nI i1 → iy 2 = nI i2 →
      dr_rn mv' mf' ik ia sd (upd iy ax (nI j) 0) (upd iy ax (nI j) 1) (upd iy ax (nI j) 2) m a [] = some [F i0 i1 i2 j])
    (hg : ∀ i0 i1 i2 j, i0 < n0 → i1 < n1 → i2 < n2 → j < e + 2 → g (((i0 * n1 + i1) * n2 + i2) * (e + 2) + j) = dr_fold c (F i0 i1 i2) (j + 1) ∧ dr_fok (g (((i0 * n1 + i1) * n2 + i2) * (e + 2) + j)).2)
    (K : ∀ mv' mf' rv rf ix ov ou gv gf, dr_wr q g mv mf (n0 * n1 * n2 * (e + 2)) mv' mf' → wpX_becomeBlock (fun u => match u with | (z0, z1, z2, z3, mc, vc, mt, ll, oc, ep, vn, cl, ov, ou, cc, tk, tv, mv, mf, br, be, wr, we, ws, ik, ia, sd, pd, ix, rv, rf, ne, st, ns, ct, gv, gf) => post (z0, z1, z2, z3, mc, vc, mt, ll, oc, ep, vn, cl, ov, ou, cc, tk, tv, mv, mf, br, be, wr, we, ws, ik, ia, sd, pd, ix, rv, rf, ne, st, ns, ct, gv, gf)) (z0, z1, z2, z3, mc, vc, mt, ll, oc, ep, nI (w + 1), nI (a + m), ov, ou, cc, tk, tv, mv', mf', br, be, wr, we, ws, ik, ia, sd, pd, ix, rv, rf, ne, st, ns, ct, gv, gf) (nI q)) :
    ∃ n, wX_scan_69 post c (nI ax) (nI (e + 2)) (nI q) n (nI q) 0 z0 z1 z2 z3 mc vc mt ll oc ep (nI (w + 1)) (nI (a + m)) ov ou cc tk tv mv mf br be wr we ws ik ia sd pd ix rv rf ne st ns ct gv gf := by
  have hz := dr_lp3 (σ := (Nat → Int32) × (Nat → Int32) × (Nat → Int32) × (Nat → Int32) × (Nat → Int32) × Int32 × Int32 × (Nat → Int32) × (Nat → Int32)) n0 n1 n2
    (fun f i0 t s => wX_scan_69 post c (nI ax) (nI (e + 2)) (nI q) f (nI (q + t * (e + 2))) (nI i0) z0 z1 z2 z3 mc vc mt ll oc ep (nI (w + 1)) (nI (a + m)) s.2.2.2.2.2.1 s.2.2.2.2.2.2.1 cc tk tv s.1 s.2.1 br be wr we ws ik ia sd pd s.2.2.1 s.2.2.2.1 s.2.2.2.2.1 ne st ns ct s.2.2.2.2.2.2.2.1 s.2.2.2.2.2.2.2.2)
    (fun f i0 f1 i1 t s => wX_scan_83 post (wX_scan_69 post c (nI ax) (nI (e + 2)) (nI q) f) c (nI ax) (nI (e + 2)) (nI q) (nI i0) f1 (nI (q + t * (e + 2))) (nI i1) z0 z1 z2 z3 mc vc mt ll oc ep (nI (w + 1)) (nI (a + m)) s.2.2.2.2.2.1 s.2.2.2.2.2.2.1 cc tk tv s.1 s.2.1 br be wr we ws ik ia sd pd s.2.2.1 s.2.2.2.1 s.2.2.2.2.1 ne st ns ct s.2.2.2.2.2.2.2.1 s.2.2.2.2.2.2.2.2)
    (fun f i0 f1 i1 f2 i2 t s => wX_scan_97 post (wX_scan_69 post c (nI ax) (nI (e + 2)) (nI q) f) (wX_scan_83 post (wX_scan_69 post c (nI ax) (nI (e + 2)) (nI q) f) c (nI ax) (nI (e + 2)) (nI q) (nI i0) f1) c (nI ax) (nI (e + 2)) (nI q) (nI i0) (nI i1) f2 (nI (q + t * (e + 2))) (nI i2) z0 z1 z2 z3 mc vc mt ll oc ep (nI (w + 1)) (nI (a + m)) s.2.2.2.2.2.1 s.2.2.2.2.2.2.1 cc tk tv s.1 s.2.1 br be wr we ws ik ia sd pd s.2.2.1 s.2.2.2.1 s.2.2.2.2.1 ne st ns ct s.2.2.2.2.2.2.2.1 s.2.2.2.2.2.2.2.2)
    (fun t s => dr_wr q g mv mf (t * (e + 2)) s.1 s.2.1)
    (fun f s hI => by
      rw [wX_scan_69]
      dsimp only
      rw [h0]
      exact br_t (nI_le (Nat.le_refl _) (by omega)) (K _ _ _ _ _ _ _ _ _ hI))
    (fun f i0 t s hi hW => by
      rw [wX_scan_69]
      dsimp only
      rw [h0]
      exact br_f (nI_ge hi (by omega)) hW)
    (fun f i0 f1 t s hi hW => by
      rw [wX_scan_83]
      dsimp only
      rw [h1]
      exact br_t (nI_le (Nat.le_refl _) (by omega)) (nm_r (nI_1 i0) hW))
    (fun f i0 f1 i1 t s hi hj hW => by
      rw [wX_scan_83]
      dsimp only
      rw [h1]
      exact br_f (nI_ge hj (by omega)) hW)
    (fun f i0 f1 i1 f2 t s hi hj hW => by
      rw [wX_scan_97]
      dsimp only
      rw [h2]
      exact br_t (nI_le (Nat.le_refl _) (by omega)) (nm_r (nI_1 i1) hW))
    (fun f i0 f1 i1 f2 i2 s hi hj hl hI hW => by
      rw [wX_scan_97]
      dsimp only
      rw [h2]
      have ht := dr_f3 hi hj hl
      have ht2 := Nat.mul_le_mul_right (e + 2) (show (i0 * n1 + i1) * n2 + i2 + 1 ≤ n0 * n1 * n2 from ht)
      rw [Nat.succ_mul] at ht2
      refine br_f (nI_ge hl (by omega)) (nm_e (nm_e (nm_e ?_)))
      refine xa_lr hw hs hb hax he (f := F i0 i1 i2) (fun j hj' => hr i0 i1 i2 j _ _ hi hj hl hj' (dr_wr_S hI (fun j hj => by have := hS j hj; omega)) _ rfl rfl rfl) ?_
      intro rv' rf' ix' ov' ou' gv' gf' hg'
      dsimp only
      refine xa_sr (e := e + 1) he (by omega) (fun j hj' => hg i0 i1 i2 j hi hj hl hj') hg' hI ?_
      intro ov2 ou2 mv2 mf2 h2'
      dsimp only
      refine nm_r (e' := nI (q + ((i0 * n1 + i1) * n2 + i2 + 1) * (e + 2))) ?_ (nm_r (nI_1 i2) ?_)
      · rw [nI_add, Nat.succ_mul]; exact congrArg nI (by omega)
      · refine hW (_, _, _, _, _, _, _, _, _) ?_
        rw [Nat.succ_mul]
        exact h2')
    (mv, mf, ix, rv, rf, ov, ou, gv, gf) (by rw [Nat.zero_mul]; exact dr_wr0)
  rw [Nat.zero_mul, Nat.add_zero] at hz
  exact hz
end
end
section
theorem dr_u30 {f : Nat → Int32} {p : Nat} {x y z : Int32} : upd (upd (upd f p x) (p + 1) y) (p + 2) z p = x := by rw [pk_un (by omega), pk_un (by omega), pk_us]
theorem dr_u31 {f : Nat → Int32} {p : Nat} {x y z : Int32} : upd (upd (upd f p x) (p + 1) y) (p + 2) z (p + 1) = y := by rw [pk_un (by omega), pk_us]
theorem dr_u32 {f : Nat → Int32} {p : Nat} {x y z : Int32} : upd (upd (upd f p x) (p + 1) y) (p + 2) z (p + 2) = z := pk_us
theorem dr_nex {ne we : Nat → Int32} {w ax e0 e1 e2 : Nat} (h2 : we (3 * w) = nI e0) (h3 : we (3 * w + 1) = nI e1) (h4 : we (3 * w + 2) = nI e2) (hax : ax < 3) :
    upd (upd (upd (upd ne 0 (we (3 * w))) 1 (we (3 * w + 1))) 2 (we (3 * w + 2))) ax 1 0 = nI (dr_n (ax + 1) 0 e0) ∧
    upd (upd (upd (upd ne 0 (we (3 * w))) 1 (we (3 * w + 1))) 2 (we (3 * w + 2))) ax 1 1 = nI (dr_n (ax + 1) 1 e1) ∧
    upd (upd (upd (upd ne 0 (we (3 * w))) 1 (we (3 * w + 1))) 2 (we (3 * w + 2))) ax 1 2 = nI (dr_n (ax + 1) 2 e2) := by
  have n1 : nI 1 = 1 := rfl
  rcases (show ax = 0 ∨ ax = 1 ∨ ax = 2 by omega) with rfl | rfl | rfl <;> simp [upd, dr_n, h2, h3, h4, n1]
theorem dr_wle {we : Nat → Int32} {w ax e0 e1 e2 : Nat} (h2 : we (3 * w) = nI e0) (h3 : we (3 * w + 1) = nI e1) (h4 : we (3 * w + 2) = nI e2) (hax : ax < 3) : we (3 * w + ax) = nI (dr_le (ax + 1) e0 e1 e2) := by
  rcases (show ax = 0 ∨ ax = 1 ∨ ax = 2 by omega) with rfl | rfl | rfl
  · exact h2
  · exact h3
  · exact h4
section
variable {z0 z1 z2 z3 mc vc mt ll oc ep vn cl ov ou cc : Int32} {tk tv mv mf br be wr we ws ik ia sd pd ix rv rf ne st ns ct gv gf : Nat → Int32}
theorem xd_fin_blk {k : xd_K} {m0 f0 : Nat → Int32} {M : Nat} {U : Nat → Prop} {l : List dr_A} {B a t r n0 n1 n2 : Nat} {g : Nat → dr_E} {mv' mf' sd' : Nat → Int32}
    (hk : (z0, z1, z2, z3, nI M, vc, mt, ll, oc, ep, tk, tv, br, be, pd) = k) (hmem : ∀ j, j < 256 → mv j = m0 j ∧ mf j = f0 j) (hB : a + 1 + l.length + 1 ≤ B) (hs : ws l.length = nI a)
    (hS : xd_S (dr_S U) M mv mf wr we ws ik ia sd l a) (hM : M ≤ 32) (hU : ¬ U t) (ht : t < 40) (h0 : ne 0 = nI n0) (h1 : ne 1 = nI n1) (h2 : ne 2 = nI n2) (ok : dr_ok M (r, n0, n1, n2, g))
    (hw : dr_wr (256 + 32 * t) g mv mf (n0 * n1 * n2) mv' mf') (q1 : ∀ j, j < 3 * a → sd' j = sd j)
    (q2 : sd' (3 * a) = dr_t0 r (upd (upd (upd we (3 * l.length) (ne 0)) (3 * l.length + 1) (ne 1)) (3 * l.length + 2) (ne 2) (3 * l.length + 1)) (upd (upd (upd we (3 * l.length) (ne 0)) (3 * l.length + 1) (ne 1)) (3 * l.length + 2) (ne 2) (3 * l.length + 2)) 1)
    (q3 : sd' (3 * a + 1) = dr_t1 r (upd (upd (upd we (3 * l.length) (ne 0)) (3 * l.length + 1) (ne 1)) (3 * l.length + 2) (ne 2) (3 * l.length + 2)) 1) (q4 : sd' (3 * a + 2) = dr_t2 r 1) :
    xd_R k m0 f0 M (fun s => U s ∨ s = t) ((r, n0, n1, n2, g) :: l) B
      (z0, z1, z2, z3, nI M, vc, mt, ll, oc, ep, nI (l.length + 1), nI (a + 1), ov, ou, cc, tk, tv, mv', mf', br, be, upd wr l.length (nI r), upd (upd (upd we (3 * l.length) (ne 0)) (3 * l.length + 1) (ne 1)) (3 * l.length + 2) (ne 2), ws, upd ik a 0, upd ia a (nI (256 + 32 * t)), sd', pd, ix, rv, rf, ne, st, ns, ct, gv, gf) := by
  rw [dr_u31, dr_u32, h1, h2] at q2
  rw [dr_u32, h2] at q3
  have k8 := ok.2.2.2.2.2.2.2.1
  refine xd_mk (m := 1) hk (fun j hj => ?_) (by omega) hB hs ?_ ?_
  · have o := hw.2 j (by omega)
    exact ⟨o.1.trans (hmem j hj).1, o.2.trans (hmem j hj).2⟩
  · exact xd_V_blk pk_us (dr_u30.trans h0) (dr_u31.trans h1) (dr_u32.trans h2) ok pk_us pk_us q2 q3 q4 (by omega) hM (fun i hi => dr_S_new hi) hw.1
  · exact xd_S_co (xd_S_ad (xd_S_me hS hU (by omega) hw)) (fun j hj => ⟨pk_un (by omega), pk_un (by omega)⟩) q1
theorem xd_fin_cst {k : xd_K} {m0 f0 : Nat → Int32} {M : Nat} {U : Nat → Prop} {l : List dr_A} {B a r n0 n1 n2 : Nat} {g : Nat → dr_E} {x : Int32} {sd' : Nat → Int32}
    (hk : (z0, z1, z2, z3, nI M, vc, mt, ll, oc, ep, tk, tv, br, be, pd) = k) (hmem : ∀ j, j < 256 → mv j = m0 j ∧ mf j = f0 j) (hB : a + 1 + l.length + 1 ≤ B) (hs : ws l.length = nI a)
    (hS : xd_S (dr_S U) M mv mf wr we ws ik ia sd l a) (h0 : ne 0 = nI n0) (h1 : ne 1 = nI n1) (h2 : ne 2 = nI n2) (ok : dr_ok M (r, n0, n1, n2, g))
    (hel : ∀ i, i < n0 * n1 * n2 → g i = (x, 0)) (q1 : ∀ j, j < 3 * a → sd' j = sd j) (q2 : sd' (3 * a) = 0) (q3 : sd' (3 * a + 1) = 0) (q4 : sd' (3 * a + 2) = 0) :
    xd_R k m0 f0 M U ((r, n0, n1, n2, g) :: l) B
      (z0, z1, z2, z3, nI M, vc, mt, ll, oc, ep, nI (l.length + 1), nI (a + 1), ov, ou, cc, tk, tv, mv, mf, br, be, upd wr l.length (nI r), upd (upd (upd we (3 * l.length) (ne 0)) (3 * l.length + 1) (ne 1)) (3 * l.length + 2) (ne 2), ws, upd ik a 1, upd ia a x, sd', pd, ix, rv, rf, ne, st, ns, ct, gv, gf) := by
  refine xd_mk (m := 1) hk hmem (by omega) hB hs ?_ ?_
  · exact xd_V_cst pk_us (dr_u30.trans h0) (dr_u31.trans h1) (dr_u32.trans h2) ok pk_us pk_us q2 q3 q4 hel
  · exact xd_S_co (xd_S_ad hS) (fun j hj => ⟨pk_un (by omega), pk_un (by omega)⟩) q1
end
theorem dr_ixl {iy : Nat → Int32} {ax i0 i1 i2 j : Nat} (hax : ax < 3) (h0 : iy 0 = nI i0) (h1 : iy 1 = nI i1) (h2 : iy 2 = nI i2) :
    upd iy ax (nI j) 0 = nI (if ax = 0 then j else i0) ∧ upd iy ax (nI j) 1 = nI (if ax = 1 then j else i1) ∧ upd iy ax (nI j) 2 = nI (if ax = 2 then j else i2) := by
  rcases (show ax = 0 ∨ ax = 1 ∨ ax = 2 by omega) with rfl | rfl | rfl <;> simp [upd, h0, h1, h2]
section
variable {k : xd_K} {m0 f0 : Nat → Int32} {M : Nat} {U : Nat → Prop} {l : List dr_A} {B : Nat} {u : SX} {r e0 e1 e2 : Nat} {el : Nat → dr_E}
theorem xo_reduce {post : Int32 → SX → Prop} {t : Nat} {c : Int32} (R : xd_R k m0 f0 M U ((r, e0, e1, e2, el) :: l) B u) (hB : B ≤ 48) (hl : l.length < 10) (hM : M ≤ 32) (hU : ¬ U t) (ht : t < 40)
    (K : ∀ u', xd_B k m0 f0 u' → ((dr_red M c (r, e0, e1, e2, el)).1 = 0 → xd_R k m0 f0 M (fun s => U s ∨ s = t) ((dr_red M c (r, e0, e1, e2, el)).2 :: l) B u') → post (dr_red M c (r, e0, e1, e2, el)).1 u') :
    wpX_reduce post u (nI t) c := by
  refine xd_top (P := fun u => wpX_reduce post u (nI t) c) R ?_
  intro z0 z1 z2 z3 vc mt ll oc ep ov ou cc tk tv mv mf br be wr we ws ik ia sd pd ix rv rf ne st ns ct gv gf a m hk hmem hm hB' hs hV hS
  have R' : xd_R k m0 f0 M U ((r, e0, e1, e2, el) :: l) B (z0, z1, z2, z3, nI M, vc, mt, ll, oc, ep, nI (l.length + 1), nI (a + m), ov, ou, cc, tk, tv, mv, mf, br, be, wr, we, ws, ik, ia, sd, pd, ix, rv, rf, ne, st, ns, ct, gv, gf) := xd_mk hk hmem hm hB' hs hV hS
  have hV' := hV
  obtain ⟨h1, h2, h3, h4, h5, h6, h7⟩ := hV'
  unfold wpX_reduce
  dsimp only
  refine nm_r (nI_pred l.length) ⟨vp_in_nI hl (by omega), ?_⟩
  rw [nI_clamp (show l.length < 2 ^ 31 by omega), h1]
  by_cases hr : r = 0
  · subst hr
    refine nm_e (br_f (by decide) ?_)
    have e : dr_red M c (0, e0, e1, e2, el) = (0, (0, e0, e1, e2, el)) := rfl
    rw [e] at K
    exact K _ (xd_RB R') (fun _ => xd_R_u R' (Nat.le_refl _))
  · obtain ⟨ax, rfl⟩ : ∃ x, r = x + 1 := ⟨r - 1, by omega⟩
    have ok := h5
    obtain ⟨k1, k2, k3, k4, k5, k6, k7, k8, k9⟩ := ok
    have hrl := dr_rwle h5
    obtain ⟨b1, b2⟩ := dr_rw_le h5
    have hp := dr_nprod h5 (by omega)
    refine nm_r (nI_pred ax) (br_t (nI_pos' (by omega)) ?_)
    rw [na_m3, nI_add, nI_clamp (show 3 * l.length + ax < 2 ^ 31 by omega), dr_wle h2 h3 h4 (by omega)]
    refine ⟨vp_in_nI (by omega) (by omega), nm_e ?_⟩
    refine xa_plan hl ?_
    dsimp only
    rw [nI_clamp (show ax < 2 ^ 31 by omega)]
    refine ⟨vp_in_nI (by omega) (by omega), ?_⟩
    intro ne' hne
    obtain ⟨n0', n1', n2'⟩ := dr_nex (ne := ne) h2 h3 h4 (show ax < 3 by omega)
    rw [← hne] at n0' n1' n2'
    clear hne
    rw [n0', n1', n2', pk_mul, pk_mul, hp]
    by_cases hle : dr_rw (ax + 1) e0 e1 ≤ M
    · refine br_t (nI_le hle (by omega)) ?_
      have e : dr_red M c (ax + 1, e0, e1, e2, el) = (0, (ax, dr_n (ax + 1) 0 e0, dr_n (ax + 1) 1 e1, dr_n (ax + 1) 2 e2, fun q => dr_fold c (fun p => el (q * dr_le (ax + 1) e0 e1 e2 + p)) (dr_le (ax + 1) e0 e1 e2))) := by
        unfold dr_red
        dsimp only
        rw [if_neg (by omega), if_neg (by omega)]
        rfl
      rw [e] at K
      have K' : ∀ u', xd_R k m0 f0 M (fun s => U s ∨ s = t) ((ax, dr_n (ax + 1) 0 e0, dr_n (ax + 1) 1 e1, dr_n (ax + 1) 2 e2, fun q => dr_fold c (fun p => el (q * dr_le (ax + 1) e0 e1 e2 + p)) (dr_le (ax + 1) e0 e1 e2)) :: l) B u' → post 0 u' := fun u' h => K u' (xd_RB h) (fun _ => h)
      clear K
      have okr := dr_red_ok (c := c) h5 hle (by omega)
      rcases (show dr_le (ax + 1) e0 e1 e2 = 0 ∨ dr_le (ax + 1) e0 e1 e2 = 1 ∨ ∃ d, dr_le (ax + 1) e0 e1 e2 = d + 2 from by
        rcases Nat.lt_or_ge (dr_le (ax + 1) e0 e1 e2) 2 with z | z
        · omega
        · exact Or.inr (Or.inr ⟨dr_le (ax + 1) e0 e1 e2 - 2, by omega⟩)) with z | z | ⟨d, z⟩
      · rw [z] at K' okr ⊢
        refine br_t rfl ?_
        refine xa_ident ?_
        refine xa_const hl (by omega) hs ?_
        intro sd' q1 q2 q3 q4
        dsimp only
        refine xa_adopt hl ?_
        dsimp only
        exact K' _ (xd_R_u (xd_fin_cst hk hmem (by omega) hs hS n0' n1' n2' okr (fun i hi => rfl) q1 q2 q3 q4) (Nat.le_refl _))
      · rw [z]
        refine br_f (by decide) (br_t rfl ?_)
        rw [hs]
        refine ⟨vp_in_nI hl (by omega), nm_e ?_⟩
        refine xa_red1 (by omega) (by omega) ?_
        intro sd' s1 s2
        refine xa_adopt hl ?_
        dsimp only
        refine K' _ (xd_R_u (xd_mk hk hmem hm hB' hs (xd_V_map hV pk_us (dr_u30.trans n0') (dr_u31.trans n1') (dr_u32.trans n2') okr ?_ (fun _ _ _ _ => rfl) ?_) (xd_S_co (xd_S_ad hS) (fun j hj => ⟨rfl, rfl⟩) s2)) (Nat.le_refl _))
        · intro d q hd hd' hq y
          rw [s1 d q hd hd' hq]
          by_cases eq : q = ax
          · rw [if_pos eq]
          · rw [if_neg eq]
            exact h6 d q hd hd' hq (y.elim (fun z => Or.inl (by omega)) Or.inr)
        · intro j0 j1 j2 a0 a1 a2
          have li := dr_line (p := 0) h5 a0 a1 a2 (by omega)
          refine ⟨_, _, _, li.1, li.2.1, li.2.2.1, ?_, ?_⟩
          · rw [li.2.2.2, z]
            rfl
          · intro d hd hd'
            have t0 := s1 d 0 hd hd' (by omega)
            have t1 := s1 d 1 hd hd' (by omega)
            have t2 := s1 d 2 hd hd' (by omega)
            unfold dr_ad
            rcases (show ax = 0 ∨ ax = 1 ∨ ax = 2 by omega) with rfl | rfl | rfl
            all_goals
              simp only [Nat.add_zero, if_true, Nat.reduceEqDiff, if_false] at t0 t1 t2 ⊢
              rw [t0, t1, t2]
              have n0 : nI 0 = 0 := rfl
              rw [n0]
              grind
      · rw [z]
        refine br_f (nI_ne0 (by omega) (by omega)) (br_f (fun y => ?_) ?_)
        · have y' := (na_e1 (i := d + 2) (by omega)).mp y
          omega
        unfold wpX_blockOf
        dsimp only
        rw [na_m32, na_pa256]
        have hcnt : dr_n (ax + 1) 0 e0 * dr_n (ax + 1) 1 e1 * dr_n (ax + 1) 2 e2 ≤ 32 := by omega
        refine xa_fls (S := dr_S U) (F := fun i0 i1 i2 p => el (((i0 * dr_n (ax + 1) 1 e1 + i1) * dr_n (ax + 1) 2 e2 + i2) * dr_le (ax + 1) e0 e1 e2 + p)) (g := fun q => dr_fold c (fun p => el (q * dr_le (ax + 1) e0 e1 e2 + p)) (dr_le (ax + 1) e0 e1 e2)) hl hs (by omega) (by omega) (by omega) n0' n1' n2' okr.2.1 okr.2.2.1 okr.2.2.2.1 (by omega) hcnt (dr_S_out hU) ?_ ?_ ?_
        · intro i0 i1 i2 j mv' mf' a0 a1 a2 hj hm' iy y0 y1 y2
          have li := dr_line (p := j) h5 a0 a1 a2 (by omega)
          obtain ⟨x0, x1, x2⟩ := dr_ixl (j := j) (show ax < 3 by omega) y0 y1 y2
          rw [x0, x1, x2, ← li.2.2.2]
          exact h7 _ _ _ li.1 li.2.1 li.2.2.1 mv' mf' hm' []
        · intro i0 i1 i2 a0 a1 a2
          refine ⟨by rw [z], ?_⟩
          exact (okr.2.2.2.2.2.2.2.2 _ (dr_f3 a0 a1 a2)).1
        · intro mv' mf' rv' rf' ix' ov' ou' hw
          dsimp only
          refine xa_adopt hl ?_
          dsimp only
          refine xa_blk hl (by omega) hs pk_us (by omega) ?_
          intro sd' q1 q2 q3 q4
          dsimp only
          exact K' _ (xd_fin_blk hk hmem (by omega) hs hS hM hU ht n0' n1' n2' okr hw q1 q2 q3 q4)
    · refine br_f (nI_ge (by omega) (by omega)) ?_
      have e : dr_red M c (ax + 1, e0, e1, e2, el) = (-15, (ax + 1, e0, e1, e2, el)) := by
        unfold dr_red
        dsimp only
        rw [if_neg (by omega), if_pos (by omega)]
      rw [e] at K
      exact K _ ⟨hk, hmem⟩ (na_err (c := -15) (by decide))
end
end
section
def dr_iota (M : Nat) : dr_A → Int32 × dr_A
  | (r, e0, e1, e2, el) =>
    if 1 < r then (-11, (r, e0, e1, e2, el)) else if e0 * e1 * e2 ≠ 1 then (-12, (r, e0, e1, e2, el)) else if (el 0).2 ≠ 0 then (-13, (r, e0, e1, e2, el))
    else if (el 0).1 < 0 then (-14, (r, e0, e1, e2, el)) else if nI M < (el 0).1 then (-15, (r, e0, e1, e2, el))
    else (0, (1, (el 0).1.toNatClampNeg, 1, 1, fun i => (nI i, 0)))
def dr_shp : dr_A → dr_A
  | (r, e0, e1, e2, _) => (1, r, 1, 1, fun i => (nI (if i = 0 then e0 else if i = 1 then e1 else e2), 0))
def dr_fst : dr_A → dr_A
  | (_, e0, e1, e2, el) => (0, 1, 1, 1, fun _ => if e0 * e1 * e2 = 0 then (0, 0) else el 0)
theorem xd_V_ser {S : Nat → Prop} {M : Nat} {mv mf wr we ik ia sd : Nat → Int32} {w a r e0 e1 e2 : Nat} {el : Nat → dr_E} {x s : Int32} (h1 : wr w = nI r) (h2 : we (3 * w) = nI e0) (h3 : we (3 * w + 1) = nI e1) (h4 : we (3 * w + 2) = nI e2)
    (ok : dr_ok M (r, e0, e1, e2, el)) (hk : ik a = 1) (ha : ia a = x) (s0 : sd (3 * a) = dr_t0 r (nI e1) (nI e2) s) (s1 : sd (3 * a + 1) = dr_t1 r (nI e2) s) (s2 : sd (3 * a + 2) = dr_t2 r s)
    (hel : ∀ i, i < e0 * e1 * e2 → el i = (x + nI i * s, 0)) : xd_V S M mv mf wr we ik ia sd w a 1 (r, e0, e1, e2, el) := by
  refine ⟨h1, h2, h3, h4, ok, ?_, ?_⟩
  · intro c q' hc hc' hq' z
    have e : c = a := by omega
    subst e
    rw [hk] at z
    have z' : r ≤ q' := by
      rcases z with z | z | z
      · exact z
      · exact absurd z (by decide)
      · exact absurd z (by decide)
    rcases (show q' = 0 ∨ q' = 1 ∨ q' = 2 by omega) with rfl | rfl | rfl
    · rw [Nat.add_zero, s0]; unfold dr_t0; rw [if_neg (by omega), if_neg (by omega), if_neg (by omega)]
    · rw [s1]; unfold dr_t1; rw [if_neg (by omega), if_neg (by omega)]
    · rw [s2]; unfold dr_t2; rw [if_neg (by omega)]
  · intro i0 i1 i2 a0 a1 a2
    obtain ⟨k1, k2, k3, k4, k5, k6, k7, k8, k9⟩ := ok
    have ad := dr_ad_rm (ia := ia) (sd := sd) (s := s) (a := a) k1 k5 k6 k7 a0 a1 a2 s0 s1 s2
    rw [hel _ (dr_f3 a0 a1 a2)]
    rw [ha] at ad
    exact dr_ev_sr hk ad
section
variable {k : xd_K} {m0 f0 : Nat → Int32} {M : Nat} {U : Nat → Prop} {l : List dr_A} {B : Nat} {u : SX} {r e0 e1 e2 : Nat} {el : Nat → dr_E}
theorem xo_scan {post : SX → Prop} {t : Nat} {c : Int32} (R : xd_R k m0 f0 M U ((r, e0, e1, e2, el) :: l) B u) (hB : B ≤ 48) (hl : l.length < 10) (hM : M ≤ 32) (hU : ¬ U t) (ht : t < 40)
    (K : ∀ u', xd_R k m0 f0 M (fun s => U s ∨ s = t) (dr_scan c (r, e0, e1, e2, el) :: l) B u' → post u') : wpX_scan post u (nI t) c := by
  refine xd_top (P := fun u => wpX_scan post u (nI t) c) R ?_
  intro z0 z1 z2 z3 vc mt ll oc ep ov ou cc tk tv mv mf br be wr we ws ik ia sd pd ix rv rf ne st ns ct gv gf a m hk hmem hm hB' hs hV hS
  have R' : xd_R k m0 f0 M U ((r, e0, e1, e2, el) :: l) B (z0, z1, z2, z3, nI M, vc, mt, ll, oc, ep, nI (l.length + 1), nI (a + m), ov, ou, cc, tk, tv, mv, mf, br, be, wr, we, ws, ik, ia, sd, pd, ix, rv, rf, ne, st, ns, ct, gv, gf) := xd_mk hk hmem hm hB' hs hV hS
  have hV' := hV
  obtain ⟨h1, h2, h3, h4, h5, h6, h7⟩ := hV'
  unfold wpX_scan
  dsimp only
  refine nm_r (nI_pred l.length) ⟨vp_in_nI hl (by omega), ?_⟩
  rw [nI_clamp (show l.length < 2 ^ 31 by omega), h1]
  by_cases hr : r = 0
  · subst hr
    refine nm_e (br_f (by decide) ?_)
    exact K _ (xd_R_u R' (Nat.le_refl _))
  · obtain ⟨ax, rfl⟩ : ∃ x, r = x + 1 := ⟨r - 1, by omega⟩
    have ok := h5
    obtain ⟨k1, k2, k3, k4, k5, k6, k7, k8, k9⟩ := ok
    have hrl := dr_rwle h5
    obtain ⟨b1, b2⟩ := dr_rw_le h5
    have hp := dr_nprod h5 (by omega)
    have e : dr_scan c (ax + 1, e0, e1, e2, el) = (ax + 1, e0, e1, e2, fun n => dr_fold c (fun p => el (n / dr_le (ax + 1) e0 e1 e2 * dr_le (ax + 1) e0 e1 e2 + p)) (n % dr_le (ax + 1) e0 e1 e2 + 1)) := by
      unfold dr_scan
      dsimp only
      rw [if_neg (by omega)]
    rw [e] at K
    have okr := dr_scan_ok (c := c) h5 (by omega)
    refine nm_r (nI_pred ax) (br_t (nI_pos' (by omega)) ?_)
    rw [na_m3, nI_add, nI_clamp (show 3 * l.length + ax < 2 ^ 31 by omega), dr_wle h2 h3 h4 (by omega)]
    refine ⟨vp_in_nI (by omega) (by omega), nm_e ?_⟩
    rcases Nat.lt_or_ge (dr_le (ax + 1) e0 e1 e2) 2 with z | z
    · refine br_f (nI_ge (b := 2) z (by omega)) ?_
      refine K _ (xd_R_u (xd_R_cg R' (fun i hi => ?_)) (Nat.le_refl _))
      have z1 : dr_le (ax + 1) e0 e1 e2 = 1 := by
        rcases (show dr_le (ax + 1) e0 e1 e2 = 0 ∨ dr_le (ax + 1) e0 e1 e2 = 1 by omega) with y | y
        · rw [hrl, y] at hi; omega
        · exact y
      rw [z1, Nat.div_one, Nat.mul_one, Nat.mod_one]
      rfl
    · obtain ⟨d, z⟩ : ∃ d, dr_le (ax + 1) e0 e1 e2 = d + 2 := ⟨dr_le (ax + 1) e0 e1 e2 - 2, by omega⟩
      rw [z]
      refine br_t (nI_le (a := 2) (by omega) (by omega)) ?_
      refine xa_plan hl ?_
      dsimp only
      rw [nI_clamp (show ax < 2 ^ 31 by omega)]
      refine ⟨vp_in_nI (by omega) (by omega), ?_⟩
      intro ne' hne
      obtain ⟨n0', n1', n2'⟩ := dr_nex (ne := ne) h2 h3 h4 (show ax < 3 by omega)
      rw [← hne] at n0' n1' n2'
      clear hne
      unfold wpX_blockOf
      dsimp only
      rw [na_m32, na_pa256]
      have hcnt : dr_n (ax + 1) 0 e0 * dr_n (ax + 1) 1 e1 * dr_n (ax + 1) 2 e2 * (d + 2) = e0 * e1 * e2 := by rw [hp, hrl, z]
      have hx0 : dr_n (ax + 1) 0 e0 ≤ 32 := by unfold dr_n; split <;> omega
      have hx1 : dr_n (ax + 1) 1 e1 ≤ 32 := by unfold dr_n; split <;> omega
      have hx2 : dr_n (ax + 1) 2 e2 ≤ 32 := by unfold dr_n; split <;> omega
      refine xa_scl (S := dr_S U) (F := fun i0 i1 i2 p => el (((i0 * dr_n (ax + 1) 1 e1 + i1) * dr_n (ax + 1) 2 e2 + i2) * (d + 2) + p)) (g := fun n => dr_fold c (fun p => el (n / dr_le (ax + 1) e0 e1 e2 * dr_le (ax + 1) e0 e1 e2 + p)) (n % dr_le (ax + 1) e0 e1 e2 + 1)) hl hs (by omega) (by omega) (by omega) n0' n1' n2' hx0 hx1 hx2 (by omega) (by omega) (dr_S_out hU) ?_ ?_ ?_
      · intro i0 i1 i2 j mv' mf' a0 a1 a2 hj hm' iy y0 y1 y2
        have li := dr_line (p := j) h5 a0 a1 a2 (by omega)
        obtain ⟨x0, x1, x2⟩ := dr_ixl (j := j) (show ax < 3 by omega) y0 y1 y2
        rw [x0, x1, x2, ← z, ← li.2.2.2]
        exact h7 _ _ _ li.1 li.2.1 li.2.2.1 mv' mf' hm' []
      · intro i0 i1 i2 j a0 a1 a2 hj
        have hb : ((i0 * dr_n (ax + 1) 1 e1 + i1) * dr_n (ax + 1) 2 e2 + i2) * (d + 2) + j < e0 * e1 * e2 := by
          rw [← hcnt]
          exact dr_f2 (dr_f3 a0 a1 a2) hj
        refine ⟨?_, (okr.2.2.2.2.2.2.2.2 _ hb).1⟩
        rw [z, dr_dv hj, dr_md hj]
      · intro mv' mf' rv' rf' ix' ov' ou' gv' gf' hw
        rw [hcnt] at hw
        refine xa_blk hl (by omega) hs h1 k1 ?_
        intro sd' q1 q2 q3 q4
        rw [h3, h4] at q2
        rw [h4] at q3
        dsimp only
        refine K _ (xd_mk (m := 1) hk (fun j hj => ?_) (by omega) (by omega) hs (xd_V_blk h1 h2 h3 h4 okr pk_us pk_us q2 q3 q4 (by omega) hM (fun i hi => dr_S_new hi) hw.1) (xd_S_co (xd_S_me hS hU (by omega) hw) (fun j hj => ⟨pk_un (by omega), pk_un (by omega)⟩) q1))
        have o := hw.2 j (by omega)
        exact ⟨o.1.trans (hmem j hj).1, o.2.trans (hmem j hj).2⟩
theorem xo_iota {post : Int32 → SX → Prop} (R : xd_R k m0 f0 M U ((r, e0, e1, e2, el) :: l) B u) (hB : B ≤ 48) (hl : l.length < 10) (hM : M ≤ 32) (hM1 : 1 ≤ M)
    (K : ∀ u', xd_B k m0 f0 u' → ((dr_iota M (r, e0, e1, e2, el)).1 = 0 → xd_R k m0 f0 M U ((dr_iota M (r, e0, e1, e2, el)).2 :: l) B u') → post (dr_iota M (r, e0, e1, e2, el)).1 u') :
    wpX_iota post u := by
  refine xd_top (P := fun u => wpX_iota post u) R ?_
  intro z0 z1 z2 z3 vc mt ll oc ep ov ou cc tk tv mv mf br be wr we ws ik ia sd pd ix rv rf ne st ns ct gv gf a m hk hmem hm hB' hs hV hS
  obtain ⟨h1, h2, h3, h4, h5, h6, h7⟩ := hV
  obtain ⟨k1, k2, k3, k4, k5, k6, k7, k8, k9⟩ := h5
  unfold wpX_iota
  dsimp only
  refine nm_r (nI_pred l.length) ⟨vp_in_nI hl (by omega), ?_⟩
  rw [nI_clamp (show l.length < 2 ^ 31 by omega), h1]
  unfold dr_iota at K
  dsimp only at K
  by_cases hr : 1 < r
  · rw [if_pos hr] at K
    exact br_f (nI_ge (b := r) (a := 1) hr (by omega)) (K _ ⟨hk, hmem⟩ (na_err (c := -11) (by decide)))
  · rw [if_neg hr] at K
    refine br_t (nI_le (b := 1) (by omega) (by omega)) ?_
    refine xa_cnt hl ?_
    rw [h2, h3, h4, pk_mul, pk_mul]
    by_cases hc : e0 * e1 * e2 = 1
    · rw [if_neg (by omega)] at K
      rw [hc]
      refine br_t rfl (nm_e (nm_e (nm_e ?_)))
      have p2 : 0 < e2 := by
        rcases Nat.eq_zero_or_pos e2 with z | z
        · rw [z] at hc; omega
        · exact z
      have p1 : 0 < e1 := by
        rcases Nat.eq_zero_or_pos e1 with z | z
        · rw [z] at hc; simp at hc
        · exact z
      have p0 : 0 < e0 := by
        rcases Nat.eq_zero_or_pos e0 with z | z
        · rw [z] at hc; simp at hc
        · exact z
      have hev := h7 0 0 0 p0 p1 p2 mv mf (fun _ _ => ⟨rfl, rfl⟩) []
      simp only [Nat.zero_mul, Nat.add_zero] at hev
      refine xa_run (v := el 0) hl hs (by omega) hev ?_
      intro rv' rf'
      dsimp only
      by_cases hf : (el 0).2 = 0
      · rw [if_neg (fun z => z hf)] at K
        refine br_t hf ?_
        by_cases hn : (el 0).1 < 0
        · rw [if_pos hn] at K
          exact br_f (Int32.not_le.mpr hn) (K _ ⟨hk, hmem⟩ (na_err (c := -14) (by decide)))
        · rw [if_neg hn] at K
          refine br_t (Int32.not_lt.mp hn) ?_
          by_cases hg : nI M < (el 0).1
          · rw [if_pos hg] at K
            exact br_f (Int32.not_le.mpr hg) (K _ ⟨hk, hmem⟩ (na_err (c := -15) (by decide)))
          · rw [if_neg hg] at K
            refine br_t (Int32.not_lt.mp hg) ?_
            obtain ⟨j, hj, ej⟩ := nI_of hn
            rw [ej, nI_clamp hj] at K
            rw [ej]
            have hjM : j ≤ M := by
              rw [ej] at hg
              rcases Nat.lt_or_ge M j with z | z
              · exact absurd (nI_lt z hj) hg
              · exact z
            have okr : dr_ok M (1, j, 1, 1, fun i => (nI i, 0)) := ⟨by omega, by omega, by omega, by omega, by omega, fun _ => rfl, fun _ => rfl, by omega, fun i _ => dr_eok0⟩
            refine xa_vec ?_
            dsimp only
            refine xa_adopt hl ?_
            dsimp only
            refine xa_const hl (by omega) hs ?_
            intro sd' q1 q2 q3 q4
            dsimp only
            rw [nI_pred]
            refine xa_rm (r := 1) hl (by omega) pk_us (by omega) ?_
            dsimp only
            have K' : ∀ u', xd_R k m0 f0 M U ((1, j, 1, 1, fun i => (nI i, 0)) :: l) B u' → post 0 u' := fun u' h => K u' (xd_RB h) (fun _ => h)
            refine K' _ (xd_mk (m := 1) hk hmem (by omega) (by omega) hs (xd_V_ser (x := 0) (s := 1) pk_us dr_u30 dr_u31 dr_u32 okr pk_us pk_us ?_ ?_ ?_ ?_) (xd_S_co (xd_S_ad hS) (fun j hj => ⟨pk_un (by omega), pk_un (by omega)⟩) (fun j hj => ?_)))
            · rw [pk_us]; rfl
            · rw [pk_un (by omega), pk_us]; rfl
            · rw [pk_un (by omega), pk_un (by omega), pk_us]
            · intro i _
              rw [Int32.mul_one, Int32.zero_add]
            · rw [pk_un (by omega), pk_un (by omega), pk_un (by omega)]
              exact q1 j hj
      · rw [if_pos hf] at K
        exact br_f hf (K _ ⟨hk, hmem⟩ (na_err (c := -13) (by decide)))
    · rw [if_pos hc] at K
      refine br_f (fun y => hc ((na_e1 (by omega)).mp y)) (K _ ⟨hk, hmem⟩ (na_err (c := -12) (by decide)))
theorem xo_shapeOf {post : SX → Prop} {t : Nat} (R : xd_R k m0 f0 M U ((r, e0, e1, e2, el) :: l) B u) (hB : B ≤ 48) (hl : l.length < 10) (hM : M ≤ 32) (hM1 : 4 ≤ M) (hU : ¬ U t) (ht : t < 40)
    (K : ∀ u', xd_R k m0 f0 M (fun s => U s ∨ s = t) (dr_shp (r, e0, e1, e2, el) :: l) B u' → post u') : wpX_shapeOf post u (nI t) := by
  refine xd_top (P := fun u => wpX_shapeOf post u (nI t)) R ?_
  intro z0 z1 z2 z3 vc mt ll oc ep ov ou cc tk tv mv mf br be wr we ws ik ia sd pd ix rv rf ne st ns ct gv gf a m hk hmem hm hB' hs hV hS
  obtain ⟨h1, h2, h3, h4, h5, h6, h7⟩ := hV
  obtain ⟨k1, k2, k3, k4, k5, k6, k7, k8, k9⟩ := h5
  unfold wpX_shapeOf
  dsimp only
  refine nm_r (nI_pred l.length) ⟨vp_in_nI hl (by omega), ?_⟩
  rw [nI_clamp (show l.length < 2 ^ 31 by omega), h1]
  refine nm_e ?_
  unfold wpX_blockOf
  dsimp only
  rw [na_m32, na_pa256]
  have okr : dr_ok M (1, r, 1, 1, fun i => (nI (if i = 0 then e0 else if i = 1 then e1 else e2), 0)) := ⟨by omega, by omega, by omega, by omega, by omega, fun _ => rfl, fun _ => rfl, by omega, fun i _ => dr_eok0⟩
  exact dr_lp1 (σ := (Nat → Int32) × (Nat → Int32)) r
    (fun n i s => wX_shapeOf_24 post (nI l.length) (nI r) (nI (256 + 32 * t)) z0 z1 z2 z3 (nI M) vc mt ll oc ep (nI (l.length + 1)) (nI (a + m)) ov ou cc n (nI i) tk tv s.1 s.2 br be wr we ws ik ia sd pd ix rv rf ne st ns ct gv gf)
    (fun i s => dr_wr (256 + 32 * t) (fun i => (nI (if i = 0 then e0 else if i = 1 then e1 else e2), 0)) mv mf i s.1 s.2)
    (fun n s hI => by
      rw [wX_shapeOf_24]
      refine br_t (nI_le (Nat.le_refl _) (by omega)) ?_
      refine xa_vec ?_
      dsimp only
      refine xa_adopt hl ?_
      dsimp only
      refine xa_blk (r := 1) hl (by omega) hs pk_us (by omega) ?_
      intro sd' q1 q2 q3 q4
      dsimp only
      exact K _ (xd_fin_blk (n0 := r) (n1 := 1) (n2 := 1) (r := 1) hk hmem (by omega) hs hS hM hU ht dr_u30 dr_u31 dr_u32 okr (by rw [Nat.mul_one, Nat.mul_one]; exact hI) q1 q2 q3 q4))
    (fun n i s hi hI hW => by
      have hn : ¬ (r ≤ i) := by omega
      rw [wX_shapeOf_24]
      simp (disch := omega) only [hn, na_nar0, forall_eq, true_and, and_true, true_implies, false_implies, not_true_eq_false, not_false_eq_true, implies_true, forall_const, and_self, nI_leI, nI_ltI, nI_eq, vp_in_nI, nI_clamp, nI_add, pk_mul, pk_m1, nI_pred, nI_1, na_l0, na_g0, na_ll0, na_gl0, na_e0, na_p0, na_0p, na_c0, na_m1c, na_ap2, na_l3, na_l32, na_m3, na_m32, na_mr3, na_mr32, na_d1, na_d2, na_d3, na_d4, na_d5, na_d6, na_d7, na_d8, na_d9, ite_true, ite_false, reduceIte, if_true, if_false]
      have hx : we (3 * l.length + i) = nI (if i = 0 then e0 else if i = 1 then e1 else e2) := by
        rcases (show i = 0 ∨ i = 1 ∨ i = 2 by omega) with rfl | rfl | rfl
        · exact h2
        · exact h3
        · exact h4
      rw [hx]
      exact hW (_, _) (dr_wrs hI rfl))
    0 (Nat.zero_le _) (mv, mf) dr_wr0
theorem xo_first {post : SX → Prop} (R : xd_R k m0 f0 M U ((r, e0, e1, e2, el) :: l) B u) (hB : B ≤ 48) (hl : l.length < 10) (hM : M ≤ 32) (hM1 : 1 ≤ M)
    (K : ∀ u', xd_R k m0 f0 M U (dr_fst (r, e0, e1, e2, el) :: l) B u' → post u') : wpX_first post u := by
  refine xd_top (P := fun u => wpX_first post u) R ?_
  intro z0 z1 z2 z3 vc mt ll oc ep ov ou cc tk tv mv mf br be wr we ws ik ia sd pd ix rv rf ne st ns ct gv gf a m hk hmem hm hB' hs hV hS
  have hV' := hV
  obtain ⟨h1, h2, h3, h4, h5, h6, h7⟩ := hV'
  obtain ⟨k1, k2, k3, k4, k5, k6, k7, k8, k9⟩ := h5
  unfold wpX_first
  dsimp only
  refine nm_r (nI_pred l.length) ?_
  refine xa_cnt hl ?_
  rw [h2, h3, h4, pk_mul, pk_mul]
  refine xa_vec ?_
  dsimp only
  refine xa_adopt hl ?_
  dsimp only
  unfold dr_fst at K
  dsimp only at K
  by_cases hc : e0 * e1 * e2 = 0
  · rw [hc]
    refine br_t rfl ?_
    refine xa_const hl (by omega) hs ?_
    intro sd' q1 q2 q3 q4
    dsimp only
    have okr : dr_ok M (0, 1, 1, 1, fun _ => if e0 * e1 * e2 = 0 then (0, 0) else el 0) := ⟨by omega, by omega, by omega, by omega, by omega, fun _ => rfl, fun _ => rfl, by omega, fun i _ => by dsimp only; rw [if_pos hc]; exact dr_eok0⟩
    exact K _ (xd_fin_cst (n0 := 1) (n1 := 1) (n2 := 1) (r := 0) hk hmem (by omega) hs hS dr_u30 dr_u31 dr_u32 okr (fun i _ => if_pos hc) q1 q2 q3 q4)
  · refine br_f (nI_ne0 (by omega) (by omega)) ⟨vp_in_nI hl (by omega), ?_⟩
    rw [nI_clamp (show l.length < 2 ^ 31 by omega), hs]
    refine nm_e ?_
    have okr : dr_ok M (0, 1, 1, 1, fun _ => if e0 * e1 * e2 = 0 then (0, 0) else el 0) := ⟨by omega, by omega, by omega, by omega, by omega, fun _ => rfl, fun _ => rfl, by omega, fun i _ => by dsimp only; rw [if_neg hc]; exact k9 0 (by omega)⟩
    exact dr_lp1 (σ := Nat → Int32) (a + m)
      (fun n i s => wX_first_40 post n (nI i) z0 z1 z2 z3 (nI M) vc mt ll oc ep (nI (l.length + 1)) (nI (a + m)) ov ou cc tk tv mv mf br be (upd wr l.length 0) (upd (upd (upd we (3 * l.length) (upd (upd (upd ne 0 1) 1 1) 2 1 0)) (3 * l.length + 1) (upd (upd (upd ne 0 1) 1 1) 2 1 1)) (3 * l.length + 2) (upd (upd (upd ne 0 1) 1 1) 2 1 2)) ws ik ia s pd ix rv rf (upd (upd (upd ne 0 1) 1 1) 2 1) st ns ct gv gf)
      (fun i s => dr_sI a sd (fun _ _ => 0) i s ∧ a ≤ i)
      (fun n s hI => by
        rw [wX_first_40]
        refine br_t (nI_le (Nat.le_refl _) (by omega)) ?_
        refine K _ (xd_mk hk hmem hm (by omega) hs (xd_V_map (r' := 0) (f0 := 1) (f1 := 1) (f2 := 1) hV pk_us dr_u30 dr_u31 dr_u32 okr (fun c q h1 h2 hq _ => hI.1.1 c q h1 h2 hq) (fun _ _ _ _ => rfl) ?_) (xd_S_co (xd_S_ad hS) (fun j hj => ⟨rfl, rfl⟩) (fun j hj => hI.1.2 j (Or.inl hj))))
        intro j0 j1 j2 b0 b1 b2
        have p2 : 0 < e2 := by
          rcases Nat.eq_zero_or_pos e2 with z | z
          · rw [z] at hc; omega
          · exact z
        have p1 : 0 < e1 := by
          rcases Nat.eq_zero_or_pos e1 with z | z
          · rw [z] at hc; simp at hc
          · exact z
        have p0 : 0 < e0 := by
          rcases Nat.eq_zero_or_pos e0 with z | z
          · rw [z] at hc; simp at hc
          · exact z
        refine ⟨0, 0, 0, p0, p1, p2, ?_, ?_⟩
        · rw [if_neg hc]
          simp only [Nat.zero_mul, Nat.add_zero]
        · intro c hc1 hc2
          have t0 := hI.1.1 c 0 hc1 hc2 (by omega)
          have t1 := hI.1.1 c 1 hc1 hc2 (by omega)
          have t2 := hI.1.1 c 2 hc1 hc2 (by omega)
          rw [Nat.add_zero] at t0
          unfold dr_ad
          rw [t0, t1, t2]
          have n0 : nI 0 = 0 := rfl
          rw [n0]
          grind)
      (fun n i s hi hI hW => by
        rw [wX_first_40]
        refine br_f (nI_ge hi (by omega)) ?_
        refine xa_rm (r := 0) hl (by omega) pk_us (by omega) ?_
        dsimp only
        refine nm_r (nI_1 i) (hW _ ⟨dr_sIs hI.1 hI.2 (fun q hq => ?_) (fun j hj => by rw [pk_un (by omega), pk_un (by omega), pk_un (by omega)]), by omega⟩)
        rcases (show q = 0 ∨ q = 1 ∨ q = 2 by omega) with rfl | rfl | rfl
        · exact pk_us.trans rfl
        · exact (pk_un (by omega)).trans (pk_us.trans rfl)
        · exact (pk_un (by omega)).trans ((pk_un (by omega)).trans (pk_us.trans rfl)))
      a (by omega) sd ⟨dr_sI0, Nat.le_refl _⟩
end
end
section
def dr_rsh (r' n0 n1 n2 : Nat) : dr_A → dr_A
  | (_, e0, e1, e2, el) => (r', n0, n1, n2, fun i => if e0 * e1 * e2 = 0 then (0, 0) else el (i % (e0 * e1 * e2)))
def dr_lin (a m r w : Nat) (sd we : Nat → Int32) : Prop := ∀ c q, a ≤ c → c < a + m → q + 1 < r → sd (3 * c + q) = sd (3 * c + q + 1) * we (3 * w + q + 1)
theorem dr_ad_lin {ia sd : Nat → Int32} {c ax e1 e2 i0 i1 i2 : Nat} (hax : ax < 3) (h1 : ax = 0 → e1 = 1) (h2 : ax ≤ 1 → e2 = 1) (b1 : i1 < e1) (b2 : i2 < e2)
    (hz : ∀ q, ax < q → q < 3 → sd (3 * c + q) = 0) (hl : ∀ q, q < ax → sd (3 * c + q) = sd (3 * c + q + 1) * (if q = 0 then nI e1 else nI e2)) :
    dr_ad ia sd (nI i0) (nI i1) (nI i2) c = ia c + nI ((i0 * e1 + i1) * e2 + i2) * sd (3 * c + ax) := by
  rw [dr_fl]
  have n1 : nI 1 = 1 := rfl
  have n0 : nI 0 = 0 := rfl
  unfold dr_ad
  rcases (show ax = 0 ∨ ax = 1 ∨ ax = 2 by omega) with rfl | rfl | rfl
  · have x1 := h1 rfl
    have x2 := h2 (by omega)
    subst x1 x2
    have y1 : i1 = 0 := by omega
    have y2 : i2 = 0 := by omega
    subst y1 y2
    rw [hz 1 (by omega) (by omega), hz 2 (by omega) (by omega), n0, n1, Nat.add_zero]
    grind
  · have x2 := h2 (by omega)
    subst x2
    have y2 : i2 = 0 := by omega
    subst y2
    have q0 := hl 0 (by omega)
    rw [if_pos rfl, Nat.add_zero] at q0
    rw [hz 2 (by omega) (by omega), q0, n0, n1]
    grind
  · have q0 := hl 0 (by omega)
    have q1 := hl 1 (by omega)
    rw [if_pos rfl, Nat.add_zero] at q0
    rw [if_neg (by omega)] at q1
    rw [q0, q1]
    grind
section
variable {post : Int32 → Prop} {z0 z1 z2 z3 mc vc mt ll oc ep vn cl ov ou cc : Int32} {tk tv mv mf br be wr we ws ik ia sd pd ix rv rf ne st ns ct gv gf : Nat → Int32}
theorem xa_lin {w a m r : Nat} (hw : w < 10) (hs : ws w = nI a) (hb : a + m ≤ 48) (hr : wr w = nI r) (hr3 : r ≤ 3) (K0 : post 0) (K1 : dr_lin a m r w sd we → post 1) :
    wpX_isLinear post (z0, z1, z2, z3, mc, vc, mt, ll, oc, ep, nI (w + 1), nI (a + m), ov, ou, cc, tk, tv, mv, mf, br, be, wr, we, ws, ik, ia, sd, pd, ix, rv, rf, ne, st, ns, ct, gv, gf) := by
  unfold wpX_isLinear
  dsimp only
  refine nm_r (nI_pred w) ⟨vp_in_nI hw (by omega), ?_⟩
  rw [nI_clamp (show w < 2 ^ 31 by omega), hs]
  refine nm_e ?_
  exact dr_lp1 (σ := Unit) (a + m) (fun n i _ => wX_isLinear_14 post (nI w) z0 z1 z2 z3 mc vc mt ll oc ep (nI (w + 1)) (nI (a + m)) ov ou cc tk tv mv mf br be wr we ws ik ia sd pd ix rv rf ne st ns ct gv gf n (nI i))
    (fun i _ => a ≤ i ∧ ∀ c q, a ≤ c → c < i → q + 1 < r → sd (3 * c + q) = sd (3 * c + q + 1) * we (3 * w + q + 1))
    (fun n s hI => by
      rw [wX_isLinear_14]
      exact br_t (nI_le (Nat.le_refl _) (by omega)) (K1 hI.2))
    (fun n i s hi hI hW => by
      rw [wX_isLinear_14]
      refine br_f (nI_ge hi (by omega)) ?_
      have inner : ∀ d q f, q + d = 3 → d < f → q + 1 ≤ r + 1 → (∀ p, p < q → p + 1 < r → sd (3 * i + p) = sd (3 * i + p + 1) * we (3 * w + p + 1)) →
          wX_isLinear_24 post (wX_isLinear_14 post (nI w) z0 z1 z2 z3 mc vc mt ll oc ep (nI (w + 1)) (nI (a + m)) ov ou cc tk tv mv mf br be wr we ws ik ia sd pd ix rv rf ne st ns ct gv gf n) (nI w) (nI i) z0 z1 z2 z3 mc vc mt ll oc ep (nI (w + 1)) (nI (a + m)) ov ou cc tk tv mv mf br be wr we ws ik ia sd pd ix rv rf ne st ns ct gv gf f (nI q) := by
        intro d
        induction d with
        | zero =>
          intro q f e hf hq hp
          obtain ⟨f, rfl⟩ : ∃ k, f = k + 1 := ⟨f - 1, by omega⟩
          rw [wX_isLinear_24]
          refine ⟨vp_in_nI hw (by omega), ?_⟩
          rw [nI_clamp (show w < 2 ^ 31 by omega), hr, nI_1]
          refine br_t (nI_le (by omega) (by omega)) (nm_r (nI_1 i) (hW () ⟨by omega, fun c q' hc hc' hq' => ?_⟩))
          rcases Nat.lt_or_ge c i with y | y
          · exact hI.2 c q' hc y hq'
          · have e' : c = i := by omega
            rw [e']
            exact hp q' (by omega) hq'
        | succ d ih =>
          intro q f e hf hq hp
          obtain ⟨f, rfl⟩ : ∃ k, f = k + 1 := ⟨f - 1, by omega⟩
          rw [wX_isLinear_24]
          refine ⟨vp_in_nI hw (by omega), ?_⟩
          rw [nI_clamp (show w < 2 ^ 31 by omega), hr, nI_1]
          rcases Nat.lt_or_ge (q + 1) r with y | y
          · refine br_f (nI_ge y (by omega)) ?_
            rw [na_m3, na_m3, nI_add, nI_1, nI_add, nI_1, nI_clamp (show 3 * i + q < 2 ^ 31 by omega), nI_clamp (show 3 * i + q + 1 < 2 ^ 31 by omega), nI_clamp (show 3 * w + q + 1 < 2 ^ 31 by omega)]
            refine ⟨vp_in_nI (by omega) (by omega), vp_in_nI (by omega) (by omega), vp_in_nI (by omega) (by omega), ?_⟩
            by_cases he : sd (3 * i + q) = sd (3 * i + q + 1) * we (3 * w + q + 1)
            · refine br_t he (nm_e (ih (q + 1) f (by omega) (by omega) (by omega) (fun p hp1 hp2 => ?_)))
              rcases Nat.lt_or_ge p q with x | x
              · exact hp p x hp2
              · have e' : p = q := by omega
                rw [e']
                exact he
            · exact br_f he K0
          · refine br_t (nI_le y (by omega)) (nm_r (nI_1 i) (hW () ⟨by omega, fun c q' hc hc' hq' => ?_⟩))
            rcases Nat.lt_or_ge c i with x | x
            · exact hI.2 c q' hc x hq'
            · have e' : c = i := by omega
              rw [e']
              exact hp q' (by omega) hq'
      exact ⟨4, inner 3 0 4 (by omega) (by omega) (by omega) (fun p hp _ => by omega)⟩)
    a (by omega) () ⟨Nat.le_refl _, fun c q h1 h2 _ => by omega⟩
end
theorem dr_cyc {e0 e1 e2 i0 i1 i2 i : Nat} (h0 : i0 < e0) (h1 : i1 < e1) (h2 : i2 < e2) (he : (i0 * e1 + i1) * e2 + i2 = i % (e0 * e1 * e2)) :
    (i2 + 1 < e2 → (i0 * e1 + i1) * e2 + (i2 + 1) = (i + 1) % (e0 * e1 * e2)) ∧
    (¬ i2 + 1 < e2 → i1 + 1 < e1 → (i0 * e1 + (i1 + 1)) * e2 + 0 = (i + 1) % (e0 * e1 * e2)) ∧
    (¬ i2 + 1 < e2 → ¬ i1 + 1 < e1 → i0 + 1 < e0 → ((i0 + 1) * e1 + 0) * e2 + 0 = (i + 1) % (e0 * e1 * e2)) ∧
    (¬ i2 + 1 < e2 → ¬ i1 + 1 < e1 → ¬ i0 + 1 < e0 → (0 * e1 + 0) * e2 + 0 = (i + 1) % (e0 * e1 * e2)) := by
  have hf := dr_f3 h0 h1 h2
  have step : ∀ x, x = (i0 * e1 + i1) * e2 + i2 + 1 → x < e0 * e1 * e2 → x = (i + 1) % (e0 * e1 * e2) := by
    intro x hx hlt
    rw [Nat.add_mod, ← he, Nat.mod_eq_of_lt (a := 1) (by omega), ← hx, Nat.mod_eq_of_lt hlt]
  refine ⟨fun z => step _ rfl (dr_f3 h0 h1 z), fun z y => step _ ?_ (dr_f3 h0 y (by omega)), fun z y x => step _ ?_ (dr_f3 x (by omega) (by omega)), fun z y x => ?_⟩
  · have : e2 = i2 + 1 := by omega
    rw [← Nat.add_assoc, Nat.succ_mul]; omega
  · have z' : e2 = i2 + 1 := by omega
    have y' : e1 = i1 + 1 := by omega
    have q : (i0 + 1) * e1 + 0 = (i0 * e1 + i1) + 1 := by rw [Nat.succ_mul]; omega
    rw [q, Nat.succ_mul]; omega
  · have z' : e2 = i2 + 1 := by omega
    have y' : e1 = i1 + 1 := by omega
    have x' : e0 = i0 + 1 := by omega
    have q : e0 * e1 = (i0 * e1 + i1) + 1 := by
      have : e0 * e1 = (i0 + 1) * e1 := by rw [← x']
      rw [this, Nat.succ_mul]; omega
    have q2 : e0 * e1 * e2 = (i0 * e1 + i1) * e2 + i2 + 1 := by
      rw [q, Nat.succ_mul]; omega
    have q3 : (i + 1) % (e0 * e1 * e2) = 0 := by
      rcases Nat.lt_or_ge 1 (e0 * e1 * e2) with o | o
      · rw [Nat.add_mod, ← he, Nat.mod_eq_of_lt (a := 1) o, ← q2, Nat.mod_self]
      · have o1 : e0 * e1 * e2 = 1 := by omega
        rw [o1, Nat.mod_one]
    rw [q3]; simp
section
variable {post : SX → Prop} {z0 z1 z2 z3 mc vc mt ll oc ep vn cl ov ou cc : Int32} {tk tv mv mf br be wr we ws ik ia sd pd ix rv rf ne st ns ct gv gf : Nat → Int32}
theorem xa_cyc {w a m q want e0 e1 e2 : Nat} {el g : Nat → dr_E} {S : Nat → Prop} (hw : w < 10) (hs : ws w = nI a) (hb : a + m ≤ 48) (h2 : we (3 * w) = nI e0) (h3 : we (3 * w + 1) = nI e1) (h4 : we (3 * w + 2) = nI e2)
    (he0 : e0 ≤ 32) (he1 : e1 ≤ 32) (he2 : e2 ≤ 32) (p0 : 0 < e0) (p1 : 0 < e1) (p2 : 0 < e2) (hq : q + 32 ≤ 1568) (hwant : want ≤ 32) (hS : ∀ j, S j → j < q ∨ q + 32 ≤ j)
    (hr : ∀ i0 i1 i2, i0 < e0 → i1 < e1 → i2 < e2 → dr_ev S mv mf ik ia sd a m (nI i0) (nI i1) (nI i2) (el ((i0 * e1 + i1) * e2 + i2)))
    (hg : ∀ i, i < want → g i = el (i % (e0 * e1 * e2)) ∧ dr_fok (g i).2)
    (K : ∀ mv' mf' rv rf ix ov ou, dr_wr q g mv mf want mv' mf' → post (z0, z1, z2, z3, mc, vc, mt, ll, oc, ep, nI (w + 1), nI (a + m), ov, ou, cc, tk, tv, mv', mf', br, be, wr, we, ws, ik, ia, sd, pd, ix, rv, rf, ne, st, ns, ct, gv, gf)) :
    wpX_cycle post (z0, z1, z2, z3, mc, vc, mt, ll, oc, ep, nI (w + 1), nI (a + m), ov, ou, cc, tk, tv, mv, mf, br, be, wr, we, ws, ik, ia, sd, pd, ix, rv, rf, ne, st, ns, ct, gv, gf) (nI q) (nI want) := by
  unfold wpX_cycle
  dsimp only
  refine nm_r (nI_pred w) ?_
  have key := dr_lp1 (σ := (Nat × Nat × Nat) × (Nat → Int32) × (Nat → Int32) × (Nat → Int32) × (Nat → Int32) × (Nat → Int32) × Int32 × Int32) want
    (fun n i s => wX_cycle_19 post (nI q) (nI want) (nI w) n (nI s.1.1) (nI s.1.2.1) (nI s.1.2.2) (nI i) z0 z1 z2 z3 mc vc mt ll oc ep (nI (w + 1)) (nI (a + m)) s.2.2.2.2.2.2.1 s.2.2.2.2.2.2.2 cc tk tv s.2.1 s.2.2.1 br be wr we ws ik ia sd pd s.2.2.2.1 s.2.2.2.2.1 s.2.2.2.2.2.1 ne st ns ct gv gf)
    (fun i s => s.1.1 < e0 ∧ s.1.2.1 < e1 ∧ s.1.2.2 < e2 ∧ (s.1.1 * e1 + s.1.2.1) * e2 + s.1.2.2 = i % (e0 * e1 * e2) ∧ dr_wr q g mv mf i s.2.1 s.2.2.1)
    (fun n s hI => by
      rw [wX_cycle_19]
      exact br_t (nI_le (Nat.le_refl _) (by omega)) (K _ _ _ _ _ _ _ hI.2.2.2.2))
    (fun n i s hi hI hW => by
      obtain ⟨⟨i0, i1, i2⟩, mv1, mf1, ix1, rv1, rf1, ov1, ou1⟩ := s
      obtain ⟨b0, b1, b2, be, hI⟩ := hI
      dsimp only at b0 b1 b2 be hI
      dsimp only
      rw [wX_cycle_19]
      refine br_f (nI_ge hi (by omega)) (nm_e (nm_e (nm_e ?_)))
      obtain ⟨gi, gf'⟩ := hg i hi
      refine xa_run (v := g i) hw hs hb ?_ ?_
      · rw [gi, ← be]
        exact hr i0 i1 i2 b0 b1 b2 mv1 mf1 (dr_wr_S hI (fun j hj => by have := hS j hj; omega)) []
      intro rv' rf'
      dsimp only
      rw [nI_add]
      refine xa_sto (by omega) gf' ?_
      dsimp only
      obtain ⟨c1, c2, c3, c4⟩ := dr_cyc b0 b1 b2 be
      have hwr := dr_wrs hI (v := g i) rfl
      refine nm_r (nI_1 i2) ?_
      rw [na_m3, na_ap2, nI_clamp (show 3 * w + 2 < 2 ^ 31 by omega), h4]
      refine ⟨vp_in_nI (by omega) (by omega), ?_⟩
      unfold wX_cycle_85 wX_cycle_106
      rw [na_m3, nI_1, nI_clamp (show 3 * w + 1 < 2 ^ 31 by omega), nI_clamp (show 3 * w < 2 ^ 31 by omega), h3, h2]
      rcases Nat.lt_or_ge (i2 + 1) e2 with z | z
      · refine br_t (nI_lt z (by omega)) ⟨vp_in_nI (by omega) (by omega), br_t (nI_lt b1 (by omega)) ⟨vp_in_nI (by omega) (by omega), br_t (nI_lt b0 (by omega)) (nm_r (nI_1 i) ?_)⟩⟩
        exact hW ((i0, i1, i2 + 1), _, _, _, _, _, _, _) ⟨b0, b1, z, c1 z, hwr⟩
      · refine br_f (nI_nlt z (by omega)) (nm_r (nI_1 i1) ⟨vp_in_nI (by omega) (by omega), ?_⟩)
        rcases Nat.lt_or_ge (i1 + 1) e1 with y | y
        · refine br_t (nI_lt y (by omega)) ⟨vp_in_nI (by omega) (by omega), br_t (nI_lt b0 (by omega)) (nm_r (nI_1 i) ?_)⟩
          exact hW ((i0, i1 + 1, 0), _, _, _, _, _, _, _) ⟨b0, y, p2, c2 (by omega) y, hwr⟩
        · refine br_f (nI_nlt y (by omega)) (nm_r (nI_1 i0) ⟨vp_in_nI (by omega) (by omega), ?_⟩)
          rcases Nat.lt_or_ge (i0 + 1) e0 with x | x
          · refine br_t (nI_lt x (by omega)) (nm_r (nI_1 i) ?_)
            exact hW ((i0 + 1, 0, 0), _, _, _, _, _, _, _) ⟨x, p1, p2, c3 (by omega) (by omega) x, hwr⟩
          · refine br_f (nI_nlt x (by omega)) (nm_r (nI_1 i) ?_)
            exact hW ((0, 0, 0), _, _, _, _, _, _, _) ⟨p0, p1, p2, c4 (by omega) (by omega) (by omega), hwr⟩)
    0 (Nat.zero_le _) ((0, 0, 0), mv, mf, ix, rv, rf, ov, ou) ⟨p0, p1, p2, by simp, dr_wr0⟩
  exact key
end
end
section
def dr_tq (r : Nat) (a1 a2 s : Int32) (q : Nat) : Int32 := if q = 0 then dr_t0 r a1 a2 s else if q = 1 then dr_t1 r a2 s else dr_t2 r s
theorem dr_tq_r {r q : Nat} {a1 a2 s : Int32} (h : r ≤ q) (hq : q < 3) : dr_tq r a1 a2 s q = 0 := by
  unfold dr_tq dr_t0 dr_t1 dr_t2
  rcases (show q = 0 ∨ q = 1 ∨ q = 2 by omega) with rfl | rfl | rfl
  · rw [if_pos rfl, if_neg (by omega), if_neg (by omega), if_neg (by omega)]
  · rw [if_neg (by omega), if_pos rfl, if_neg (by omega), if_neg (by omega)]
  · rw [if_neg (by omega), if_neg (by omega), if_neg (by omega)]
theorem dr_tq_0 {r q : Nat} {a1 a2 : Int32} : dr_tq r a1 a2 0 q = 0 := by
  unfold dr_tq dr_t0 dr_t1 dr_t2
  simp only [Int32.zero_mul]
  repeat (first | rfl | split)
section
variable {post : SX → Prop} {z0 z1 z2 z3 mc vc mt ll oc ep vn cl ov ou cc : Int32} {tk tv mv mf br be wr we ws ik ia sd pd ix rv rf ne st ns ct gv gf : Nat → Int32}
theorem xa_r97 {w a m r' hv : Nat} {x6 : Int32} {s : Nat → Int32} (hw : w < 10) (hb : a + m ≤ 48) (hr : wr w = nI r') (hr3 : r' ≤ 3) (hhv : hv < 2 ^ 31)
    (hx : (hv ≤ 1 ∧ ∀ c, s c = 0) ∨ (1 < hv ∧ ∃ ax, ax < 3 ∧ x6 = nI ax ∧ ∀ c, s c = sd (3 * c + ax)))
    (K : ∀ sd', (∀ c q, a ≤ c → c < a + m → q < 3 → sd' (3 * c + q) = dr_tq r' (we (3 * w + 1)) (we (3 * w + 2)) (s c) q) → (∀ j, j < 3 * a → sd' j = sd j) → post (z0, z1, z2, z3, mc, vc, mt, ll, oc, ep, nI (w + 1), nI (a + m), ov, ou, cc, tk, tv, mv, mf, br, be, wr, we, ws, ik, ia, sd', pd, ix, rv, rf, ne, st, ns, ct, gv, gf)) :
    ∃ n, wX_reshapeTo_97 post (nI hv) x6 n (nI a) z0 z1 z2 z3 mc vc mt ll oc ep (nI (w + 1)) (nI (a + m)) ov ou cc tk tv mv mf br be wr we ws ik ia sd pd ix rv rf ne st ns ct gv gf :=
  dr_lp1 (σ := Nat → Int32) (a + m) (fun n i s' => wX_reshapeTo_97 post (nI hv) x6 n (nI i) z0 z1 z2 z3 mc vc mt ll oc ep (nI (w + 1)) (nI (a + m)) ov ou cc tk tv mv mf br be wr we ws ik ia s' pd ix rv rf ne st ns ct gv gf)
    (fun i s' => dr_sI a sd (fun c q => dr_tq r' (we (3 * w + 1)) (we (3 * w + 2)) (s c) q) i s' ∧ a ≤ i)
    (fun n s' hI => by
      rw [wX_reshapeTo_97]
      exact br_t (nI_le (Nat.le_refl _) (by omega)) (K s' hI.1.1 (fun c hc => hI.1.2 c (Or.inl hc))))
    (fun n i s' hi hI hW => by
      rw [wX_reshapeTo_97]
      refine br_f (nI_ge hi (by omega)) ?_
      have fin : ∀ x8, x8 = s i → wX_reshapeTo_134 post (wX_reshapeTo_97 post (nI hv) x6 n) (nI hv) x6 (nI i) x8 z0 z1 z2 z3 mc vc mt ll oc ep (nI (w + 1)) (nI (a + m)) ov ou cc tk tv mv mf br be wr we ws ik ia s' pd ix rv rf ne st ns ct gv gf := by
        intro x8 h8
        unfold wX_reshapeTo_134
        refine xa_rm (r := r') hw (by omega) hr hr3 ?_
        dsimp only
        rw [h8]
        refine nm_r (nI_1 i) (hW _ ⟨dr_sIs hI.1 hI.2 (fun q hq => ?_) (fun j hj => by rw [pk_un (by omega), pk_un (by omega), pk_un (by omega)]), by omega⟩)
        rcases (show q = 0 ∨ q = 1 ∨ q = 2 by omega) with rfl | rfl | rfl
        · exact pk_us.trans rfl
        · exact (pk_un (by omega)).trans (pk_us.trans rfl)
        · exact (pk_un (by omega)).trans ((pk_un (by omega)).trans (pk_us.trans rfl))
      rcases hx with ⟨h1, h2⟩ | ⟨h1, ax, h2, h3, h4⟩
      · exact br_t (nI_le (b := 1) h1 (by omega)) (fin 0 (h2 i).symm)
      · refine br_f (nI_ge (a := 1) h1 hhv) ?_
        rw [h3]
        refine br_f (nI_pos (by omega)) ?_
        rw [na_m3, nI_add, nI_clamp (show 3 * i + ax < 2 ^ 31 by omega)]
        refine ⟨vp_in_nI (by omega) (by omega), nm_e ?_⟩
        rw [← h3]
        exact fin _ ((hI.1.2 _ (by omega)).trans (h4 i).symm))
    a (by omega) sd ⟨dr_sI0, Nat.le_refl _⟩
end
theorem dr_rsh_ok {M r' n0 n1 n2 r e0 e1 e2 : Nat} {el : Nat → dr_E} (h : dr_ok M (r, e0, e1, e2, el)) (h1 : r' ≤ 3) (h2 : n0 ≤ 32) (h3 : n1 ≤ 32) (h4 : n2 ≤ 32) (h5 : r' = 0 → n0 = 1) (h6 : r' ≤ 1 → n1 = 1) (h7 : r' ≤ 2 → n2 = 1) (h8 : n0 * n1 * n2 ≤ M) :
    dr_ok M (dr_rsh r' n0 n1 n2 (r, e0, e1, e2, el)) := by
  refine ⟨h1, h2, h3, h4, h5, h6, h7, h8, fun i hi => ?_⟩
  dsimp only
  by_cases z : e0 * e1 * e2 = 0
  · rw [if_pos z]; exact dr_eok0
  · rw [if_neg z]
    exact h.2.2.2.2.2.2.2.2 _ (Nat.mod_lt _ (by omega))
theorem dr_pos3 {e0 e1 e2 : Nat} (h : ¬ e0 * e1 * e2 = 0) : 0 < e0 ∧ 0 < e1 ∧ 0 < e2 := by
  refine ⟨?_, ?_, ?_⟩
  · rcases Nat.eq_zero_or_pos e0 with z | z
    · rw [z] at h; simp at h
    · exact z
  · rcases Nat.eq_zero_or_pos e1 with z | z
    · rw [z] at h; simp at h
    · exact z
  · rcases Nat.eq_zero_or_pos e2 with z | z
    · rw [z] at h; simp at h
    · exact z
section
variable {post : SX → Prop} {k : xd_K} {m0 f0 : Nat → Int32} {M : Nat} {U : Nat → Prop} {l : List dr_A} {B : Nat} {r e0 e1 e2 : Nat} {el : Nat → dr_E}
variable {z0 z1 z2 z3 mc vc mt ll oc ep vn cl ov ou cc : Int32} {tk tv mv mf br be wr we ws ik ia sd pd ix rv rf ne st ns ct gv gf : Nat → Int32}
theorem xo_rshTo {t a m r' n0 n1 n2 : Nat} (hk : (z0, z1, z2, z3, nI M, vc, mt, ll, oc, ep, tk, tv, br, be, pd) = k) (hmem : ∀ j, j < 256 → mv j = m0 j ∧ mf j = f0 j) (hm : 0 < m) (hB' : a + m + l.length + 1 ≤ B) (hs : ws l.length = nI a)
    (hV : xd_V (dr_S U) M mv mf wr we ik ia sd l.length a m (r, e0, e1, e2, el)) (hS : xd_S (dr_S U) M mv mf wr we ws ik ia sd l a)
    (hB : B ≤ 48) (hl : l.length < 10) (hM : M ≤ 32) (hU : ¬ U t) (ht : t < 40) (g0 : ne 0 = nI n0) (g1 : ne 1 = nI n1) (g2 : ne 2 = nI n2) (okr : dr_ok M (dr_rsh r' n0 n1 n2 (r, e0, e1, e2, el)))
    (K : ∀ u', xd_R k m0 f0 M (fun s => U s ∨ s = t) (dr_rsh r' n0 n1 n2 (r, e0, e1, e2, el) :: l) B u' → post u') :
    wpX_reshapeTo post (z0, z1, z2, z3, nI M, vc, mt, ll, oc, ep, nI (l.length + 1), nI (a + m), ov, ou, cc, tk, tv, mv, mf, br, be, wr, we, ws, ik, ia, sd, pd, ix, rv, rf, ne, st, ns, ct, gv, gf) (nI t) (nI r') := by
  have hV' := hV
  obtain ⟨h1, h2, h3, h4, h5, h6, h7⟩ := hV'
  have ok := h5
  obtain ⟨k1, k2, k3, k4, k5, k6, k7, k8, k9⟩ := ok
  have okr' := okr
  obtain ⟨j1, j2, j3, j4, j5, j6, j7, j8, j9⟩ := okr'
  unfold wpX_reshapeTo
  dsimp only
  refine nm_r (nI_pred l.length) ?_
  refine xa_cnt hl ?_
  rw [h2, h3, h4, pk_mul, pk_mul, g0, g1, g2, pk_mul, pk_mul]
  refine nm_e ?_
  by_cases hc : e0 * e1 * e2 = 0
  · rw [hc]
    refine br_t rfl ?_
    refine xa_adopt hl ?_
    dsimp only
    refine xa_const hl (by omega) hs ?_
    intro sd' q1 q2 q3 q4
    dsimp only
    exact K _ (xd_R_u (xd_fin_cst hk hmem (by omega) hs hS g0 g1 g2 okr (fun i _ => if_pos hc) q1 q2 q3 q4) (Nat.le_refl _))
  refine br_f (nI_ne0 (by omega) (by omega)) ?_
  obtain ⟨p0, p1, p2⟩ := dr_pos3 hc
  have k74 : (e0 * e1 * e2 = 1 ∨ (1 < e0 * e1 * e2 ∧ n0 * n1 * n2 ≤ e0 * e1 * e2 ∧ dr_lin a m r l.length sd we)) →
      wX_reshapeTo_74 post (nI r') (nI l.length) (nI (e0 * e1 * e2)) z0 z1 z2 z3 (nI M) vc mt ll oc ep (nI (l.length + 1)) (nI (a + m)) ov ou cc tk tv mv mf br be wr we ws ik ia sd pd ix rv rf ne st ns ct gv gf := by
    intro hcase
    unfold wX_reshapeTo_74
    refine ⟨vp_in_nI hl (by omega), nm_e ?_⟩
    refine xa_adopt hl ?_
    dsimp only
    rw [nI_clamp (show l.length < 2 ^ 31 by omega), hs, h1]
    refine ⟨vp_in_nI hl (by omega), nm_e ?_⟩
    rcases hcase with hc1 | ⟨hc1, hc2, hc3⟩
    · refine xa_r97 (r' := r') (s := fun _ => 0) hl (by omega) pk_us j1 (by omega) (Or.inl ⟨by omega, fun _ => rfl⟩) ?_
      intro sd' s1 s2
      refine K _ (xd_R_u (xd_mk hk hmem hm hB' hs (xd_V_map hV pk_us (dr_u30.trans g0) (dr_u31.trans g1) (dr_u32.trans g2) okr ?_ (fun _ _ _ _ => rfl) ?_) (xd_S_co (xd_S_ad hS) (fun j hj => ⟨rfl, rfl⟩) s2)) (Nat.le_refl _))
      · intro c q hc hc' hq _
        rw [s1 c q hc hc' hq, dr_tq_0]
      · intro x0 x1 x2 b0 b1 b2
        refine ⟨0, 0, 0, p0, p1, p2, ?_, ?_⟩
        · rw [if_neg hc, hc1, Nat.mod_one]
          simp only [Nat.zero_mul, Nat.add_zero]
        · intro c hc1' hc2'
          have t0 := s1 c 0 hc1' hc2' (by omega)
          have t1 := s1 c 1 hc1' hc2' (by omega)
          have t2 := s1 c 2 hc1' hc2' (by omega)
          rw [dr_tq_0] at t0 t1 t2
          rw [Nat.add_zero] at t0
          unfold dr_ad
          rw [t0, t1, t2]
          have n0' : nI 0 = 0 := rfl
          rw [n0']
          grind
    · have hr0 : 0 < r := by
        rcases Nat.eq_zero_or_pos r with z | z
        · have := k5 z
          have := k6 (by omega)
          have := k7 (by omega)
          subst e0 e1 e2
          omega
        · exact z
      obtain ⟨ax, rfl⟩ : ∃ x, r = x + 1 := ⟨r - 1, by omega⟩
      refine xa_r97 (r' := r') (s := fun c => sd (3 * c + ax)) hl (by omega) pk_us j1 (by omega) (Or.inr ⟨hc1, ax, by omega, nI_pred ax, fun _ => rfl⟩) ?_
      intro sd' s1 s2
      rw [dr_u31, dr_u32, g1, g2] at s1
      refine K _ (xd_R_u (xd_mk hk hmem hm hB' hs (xd_V_map hV pk_us (dr_u30.trans g0) (dr_u31.trans g1) (dr_u32.trans g2) okr ?_ (fun _ _ _ _ => rfl) ?_) (xd_S_co (xd_S_ad hS) (fun j hj => ⟨rfl, rfl⟩) s2)) (Nat.le_refl _))
      · intro c q hc hc' hq z
        rw [s1 c q hc hc' hq]
        rcases z with z | z
        · exact dr_tq_r z hq
        · rw [h6 c ax hc hc' (by omega) (Or.inr z), dr_tq_0]
      · intro x0 x1 x2 b0 b1 b2
        have hlt := dr_f3 b0 b1 b2
        obtain ⟨i0, i1, i2, y0, y1, y2, ye⟩ := dr_un3 (show (x0 * n1 + x1) * n2 + x2 < e0 * e1 * e2 by omega)
        refine ⟨i0, i1, i2, y0, y1, y2, ?_, ?_⟩
        · rw [if_neg hc, Nat.mod_eq_of_lt (by omega), ye]
        · intro c hc1' hc2'
          have t0 := s1 c 0 hc1' hc2' (by omega)
          have t1 := s1 c 1 hc1' hc2' (by omega)
          have t2 := s1 c 2 hc1' hc2' (by omega)
          rw [Nat.add_zero] at t0
          rw [dr_ad_rm (r := r') j1 j5 j6 j7 b0 b1 b2 t0 t1 t2, ye]
          refine (dr_ad_lin (by omega) (fun z => k6 (by omega)) (fun z => k7 (by omega)) y1 y2 (fun q hq hq' => h6 c q hc1' hc2' hq' (Or.inl (by omega))) (fun q hq => ?_)).symm
          rw [hc3 c q hc1' hc2' (by omega)]
          rcases (show q = 0 ∨ q = 1 by omega) with rfl | rfl
          · rw [if_pos rfl, Nat.add_zero, h3]
          · rw [if_neg (by omega), h4]
  have k151 : wX_reshapeTo_151 post (nI t) (nI r') (nI (n0 * n1 * n2)) z0 z1 z2 z3 (nI M) vc mt ll oc ep (nI (l.length + 1)) (nI (a + m)) ov ou cc tk tv mv mf br be wr we ws ik ia sd pd ix rv rf ne st ns ct gv gf := by
    unfold wX_reshapeTo_151 wpX_blockOf
    dsimp only
    rw [na_m32, na_pa256]
    refine xa_cyc (S := dr_S U) (el := el) (g := fun i => if e0 * e1 * e2 = 0 then (0, 0) else el (i % (e0 * e1 * e2))) hl hs (by omega) h2 h3 h4 k2 k3 k4 p0 p1 p2 (by omega) (by omega) (dr_S_out hU) h7 ?_ ?_
    · intro i hi
      exact ⟨if_neg hc, (j9 i hi).1⟩
    · intro mv' mf' rv' rf' ix' ov' ou' hw
      dsimp only
      refine xa_adopt hl ?_
      dsimp only
      refine xa_blk hl (by omega) hs pk_us j1 ?_
      intro sd' q1 q2 q3 q4
      dsimp only
      exact K _ (xd_fin_blk hk hmem (by omega) hs hS hM hU ht g0 g1 g2 okr hw q1 q2 q3 q4)
  by_cases hc1 : e0 * e1 * e2 = 1
  · refine br_t ?_ (k74 (Or.inl hc1))
    rw [hc1]; rfl
  · refine br_f (fun y => hc1 ((na_e1 (by omega)).mp y)) ?_
    rcases Nat.lt_or_ge (e0 * e1 * e2) (n0 * n1 * n2) with z | z
    · exact br_t (nI_lt z (by omega)) k151
    · refine br_f (nI_nlt z (by omega)) ?_
      refine xa_lin hl hs (by omega) h1 k1 ?_ ?_
      · exact br_t rfl k151
      · intro hlin
        exact br_f (by decide) (k74 (Or.inr ⟨by omega, z, hlin⟩))
theorem xo_ravel {u : SX} {t : Nat} (R : xd_R k m0 f0 M U ((r, e0, e1, e2, el) :: l) B u) (hB : B ≤ 48) (hl : l.length < 10) (hM : M ≤ 32) (hU : ¬ U t) (ht : t < 40)
    (K : ∀ u', xd_R k m0 f0 M (fun s => U s ∨ s = t) (dr_rsh 1 (e0 * e1 * e2) 1 1 (r, e0, e1, e2, el) :: l) B u' → post u') : wpX_ravel post u (nI t) := by
  refine xd_top (P := fun u => wpX_ravel post u (nI t)) R ?_
  intro z0 z1 z2 z3 vc mt ll oc ep ov ou cc tk tv mv mf br be wr we ws ik ia sd pd ix rv rf ne st ns ct gv gf a m hk hmem hm hB' hs hV hS
  have hV' := hV
  obtain ⟨h1, h2, h3, h4, h5, h6, h7⟩ := hV'
  unfold wpX_ravel
  dsimp only
  rw [nI_pred]
  refine xa_cnt hl ?_
  rw [h2, h3, h4, pk_mul, pk_mul]
  refine xa_vec ?_
  dsimp only
  have k8 := h5.2.2.2.2.2.2.2.1
  exact xo_rshTo (r' := 1) (n0 := e0 * e1 * e2) (n1 := 1) (n2 := 1) hk hmem hm hB' hs hV hS hB hl hM hU ht dr_u30 dr_u31 dr_u32 (dr_rsh_ok h5 (by omega) (by omega) (by omega) (by omega) (by omega) (fun _ => rfl) (fun _ => rfl) (by omega)) K
end
end
section
section
variable {post : SX → Prop} {z0 z1 z2 z3 mc vc mt ll oc ep vn cl ov ou cc : Int32} {tk tv mv mf br be wr we ws ik ia sd pd ix rv rf ne st ns ct gv gf : Nat → Int32}
theorem xa_ft_e {w n : Nat} {x : Int32} (h : wpX_runProgram post (z0, z1, z2, z3, mc, vc, mt, ll, oc, ep, vn, cl, ov, ou, cc, tk, tv, mv, mf, br, be, wr, we, ws, ik, ia, sd, pd, ix, rv, rf, ne, st, ns, ct, gv, gf)) : wX_fetch_9 post x (nI w) z0 z1 z2 z3 mc vc mt ll oc ep vn cl ov ou cc (n + 1) (nI 3) tk tv mv mf br be wr we ws ik ia sd pd ix rv rf ne st ns ct gv gf := by
  rw [wX_fetch_9]
  exact br_t (nI_le (a := 3) (b := 3) (by omega) (by omega)) h
theorem xa_ft0_s {w p n : Nat} (hw : w < 10) (hp : p < 3) (h1 : ¬ ix p < 0) (h2 : ix p < we (3 * w + p)) (K : wX_fetch_9 post 0 (nI w) z0 z1 z2 z3 mc vc mt ll oc ep vn cl ov ou cc n (nI (p + 1)) tk tv mv mf br be wr we ws ik ia sd pd ix rv rf ne st ns ct gv gf) : wX_fetch_9 post 0 (nI w) z0 z1 z2 z3 mc vc mt ll oc ep vn cl ov ou cc (n + 1) (nI p) tk tv mv mf br be wr we ws ik ia sd pd ix rv rf ne st ns ct gv gf := by
  rw [wX_fetch_9]
  refine br_f (nI_ge (b := 3) hp (by omega)) ?_
  rw [na_m3, nI_add, nI_clamp (show 3 * w + p < 2 ^ 31 by omega)]
  refine ⟨vp_in_nI (by omega) (by omega), nm_e (br_t rfl ?_)⟩
  unfold wX_fetch_52
  rw [nI_clamp (show p < 2 ^ 31 by omega)]
  exact ⟨vp_in_nI hp (by omega), br_f h1 ⟨vp_in_nI hp (by omega), br_t h2 (nm_r (nI_1 p) K)⟩⟩
theorem xa_ft0_o {w p n : Nat} (hw : w < 10) (hp : p < 3) (h : ix p < 0 ∨ ¬ ix p < we (3 * w + p)) (K : post (z0, z1, z2, z3, mc, vc, mt, ll, oc, ep, vn, cl, 0, 0, cc, tk, tv, mv, mf, br, be, wr, we, ws, ik, ia, sd, pd, ix, rv, rf, ne, st, ns, ct, gv, gf)) : wX_fetch_9 post 0 (nI w) z0 z1 z2 z3 mc vc mt ll oc ep vn cl ov ou cc (n + 1) (nI p) tk tv mv mf br be wr we ws ik ia sd pd ix rv rf ne st ns ct gv gf := by
  rw [wX_fetch_9]
  refine br_f (nI_ge (b := 3) hp (by omega)) ?_
  rw [na_m3, nI_add, nI_clamp (show 3 * w + p < 2 ^ 31 by omega)]
  refine ⟨vp_in_nI (by omega) (by omega), nm_e (br_t rfl ?_)⟩
  unfold wX_fetch_52
  rw [nI_clamp (show p < 2 ^ 31 by omega)]
  refine ⟨vp_in_nI hp (by omega), ?_⟩
  by_cases h1 : ix p < 0
  · exact br_t h1 K
  · exact br_f h1 ⟨vp_in_nI hp (by omega), br_f (h.resolve_left h1) K⟩
theorem xa_ft1_s {w p n x e : Nat} (hw : w < 10) (hp : p < 3) (hx : ix p = nI x) (he : we (3 * w + p) = nI e) (he32 : e ≤ 32) (hxe : x < 2 * e)
    (K : ∀ iy : Nat → Int32, iy p = nI (if x < e then x else x - e) → (∀ q, q ≠ p → iy q = ix q) → wX_fetch_9 post 1 (nI w) z0 z1 z2 z3 mc vc mt ll oc ep vn cl ov ou cc n (nI (p + 1)) tk tv mv mf br be wr we ws ik ia sd pd iy rv rf ne st ns ct gv gf) : wX_fetch_9 post 1 (nI w) z0 z1 z2 z3 mc vc mt ll oc ep vn cl ov ou cc (n + 1) (nI p) tk tv mv mf br be wr we ws ik ia sd pd ix rv rf ne st ns ct gv gf := by
  rw [wX_fetch_9]
  refine br_f (nI_ge (b := 3) hp (by omega)) ?_
  rw [na_m3, nI_add, nI_clamp (show 3 * w + p < 2 ^ 31 by omega), he]
  refine ⟨vp_in_nI (by omega) (by omega), nm_e (br_f (by decide) ⟨vp_in_nI hp (by omega), ?_⟩)⟩
  rw [nI_clamp (show p < 2 ^ 31 by omega), hx]
  rcases Nat.lt_or_ge x e with z | z
  · refine br_t (nI_lt z (by omega)) ?_
    unfold wX_fetch_52
    rw [nI_clamp (show p < 2 ^ 31 by omega), hx]
    exact ⟨vp_in_nI hp (by omega), br_f (nI_pos (by omega)) ⟨vp_in_nI hp (by omega), br_t (nI_lt z (by omega)) (nm_r (nI_1 p) (K ix (by rw [hx, if_pos z]) (fun _ _ => rfl)))⟩⟩
  · refine br_f (nI_nlt z (by omega)) ⟨vp_in_nI hp (by omega), vp_in_nI hp (by omega), ?_⟩
    rw [pk_sub z]
    refine nm_e ?_
    unfold wX_fetch_52
    rw [nI_clamp (show p < 2 ^ 31 by omega), pk_us]
    exact ⟨vp_in_nI hp (by omega), br_f (nI_pos (by omega)) ⟨vp_in_nI hp (by omega), br_t (nI_lt (by omega) (by omega)) (nm_r (nI_1 p) (K _ (by rw [pk_us, if_neg (by omega)]) (fun q hq => pk_un hq)))⟩⟩
/-- fetch without wrap: inside, or a fill -/
theorem xa_fetch0 {w a m e0 e1 e2 : Nat} {v : dr_E} (hw : w < 10) (hs : ws w = nI a) (hb : a + m ≤ 48) (h2 : we (3 * w) = nI e0) (h3 : we (3 * w + 1) = nI e1) (h4 : we (3 * w + 2) = nI e2) (b0 : e0 ≤ 32) (b1 : e1 ≤ 32) (b2 : e2 ≤ 32)
    (hin : ∀ j0 j1 j2, j0 < e0 → j1 < e1 → j2 < e2 → ix 0 = nI j0 → ix 1 = nI j1 → ix 2 = nI j2 → dr_rn mv mf ik ia sd (ix 0) (ix 1) (ix 2) m a [] = some [v])
    (hout : (∀ j0 j1 j2, j0 < e0 → j1 < e1 → j2 < e2 → ix 0 = nI j0 → ix 1 = nI j1 → ix 2 = nI j2 → False) → v = (0, 0))
    (K : ∀ rv rf, post (z0, z1, z2, z3, mc, vc, mt, ll, oc, ep, nI (w + 1), nI (a + m), v.1, v.2, cc, tk, tv, mv, mf, br, be, wr, we, ws, ik, ia, sd, pd, ix, rv, rf, ne, st, ns, ct, gv, gf)) : wpX_fetch post (z0, z1, z2, z3, mc, vc, mt, ll, oc, ep, nI (w + 1), nI (a + m), ov, ou, cc, tk, tv, mv, mf, br, be, wr, we, ws, ik, ia, sd, pd, ix, rv, rf, ne, st, ns, ct, gv, gf) 0 := by
  unfold wpX_fetch
  dsimp only
  refine nm_r (nI_pred w) ⟨4, ?_⟩
  have K0 : (∀ j0 j1 j2, j0 < e0 → j1 < e1 → j2 < e2 → ix 0 = nI j0 → ix 1 = nI j1 → ix 2 = nI j2 → False) → post (z0, z1, z2, z3, mc, vc, mt, ll, oc, ep, nI (w + 1), nI (a + m), 0, 0, cc, tk, tv, mv, mf, br, be, wr, we, ws, ik, ia, sd, pd, ix, rv, rf, ne, st, ns, ct, gv, gf) := by
    intro h
    have := K rv rf
    rw [hout h] at this
    exact this
  have lt : ∀ {x : Int32} {e : Nat}, e ≤ 32 → ¬ x < 0 → x < nI e → ∃ j, j < e ∧ x = nI j := by
    intro x e he h1 h2
    obtain ⟨j, hj, rfl⟩ := nI_of h1
    exact ⟨j, (nI_ltI hj (by omega)).mp h2, rfl⟩
  by_cases c0 : ix 0 < 0 ∨ ¬ ix 0 < we (3 * w + 0)
  · refine xa_ft0_o (p := 0) hw (by omega) c0 (K0 (fun j0 j1 j2 y0 y1 y2 x0 x1 x2 => ?_))
    rw [Nat.add_zero, h2, x0] at c0
    exact c0.elim (nI_pos (by omega)) (fun z => z (nI_lt y0 (by omega)))
  have c0' : ¬ ix 0 < 0 ∧ ix 0 < we (3 * w + 0) := ⟨fun z => c0 (Or.inl z), Classical.byContradiction (fun z => c0 (Or.inr z))⟩
  refine xa_ft0_s (p := 0) hw (by omega) c0'.1 c0'.2 ?_
  by_cases c1 : ix 1 < 0 ∨ ¬ ix 1 < we (3 * w + 1)
  · refine xa_ft0_o (p := 1) hw (by omega) c1 (K0 (fun j0 j1 j2 y0 y1 y2 x0 x1 x2 => ?_))
    rw [h3, x1] at c1
    exact c1.elim (nI_pos (by omega)) (fun z => z (nI_lt y1 (by omega)))
  have c1' : ¬ ix 1 < 0 ∧ ix 1 < we (3 * w + 1) := ⟨fun z => c1 (Or.inl z), Classical.byContradiction (fun z => c1 (Or.inr z))⟩
  refine xa_ft0_s (p := 1) hw (by omega) c1'.1 c1'.2 ?_
  by_cases c2 : ix 2 < 0 ∨ ¬ ix 2 < we (3 * w + 2)
  · refine xa_ft0_o (p := 2) hw (by omega) c2 (K0 (fun j0 j1 j2 y0 y1 y2 x0 x1 x2 => ?_))
    rw [h4, x2] at c2
    exact c2.elim (nI_pos (by omega)) (fun z => z (nI_lt y2 (by omega)))
  have c2' : ¬ ix 2 < 0 ∧ ix 2 < we (3 * w + 2) := ⟨fun z => c2 (Or.inl z), Classical.byContradiction (fun z => c2 (Or.inr z))⟩
  refine xa_ft0_s (p := 2) hw (by omega) c2'.1 c2'.2 ?_
  refine xa_ft_e ?_
  have d0 := c0'.2
  rw [Nat.add_zero, h2] at d0
  have d1 := c1'.2
  rw [h3] at d1
  have d2 := c2'.2
  rw [h4] at d2
  obtain ⟨j0, y0, x0⟩ := lt b0 c0'.1 d0
  obtain ⟨j1, y1, x1⟩ := lt b1 c1'.1 d1
  obtain ⟨j2, y2, x2⟩ := lt b2 c2'.1 d2
  exact xa_run hw hs hb (hin j0 j1 j2 y0 y1 y2 x0 x1 x2) K
theorem xa_fetch1 {w a m e0 e1 e2 x0 x1 x2 : Nat} {v : dr_E} (hw : w < 10) (hs : ws w = nI a) (hb : a + m ≤ 48) (h2 : we (3 * w) = nI e0) (h3 : we (3 * w + 1) = nI e1) (h4 : we (3 * w + 2) = nI e2) (b0 : e0 ≤ 32) (b1 : e1 ≤ 32) (b2 : e2 ≤ 32)
    (y0 : ix 0 = nI x0) (y1 : ix 1 = nI x1) (y2 : ix 2 = nI x2) (l0 : x0 < 2 * e0) (l1 : x1 < 2 * e1) (l2 : x2 < 2 * e2)
    (hin : dr_rn mv mf ik ia sd (nI (if x0 < e0 then x0 else x0 - e0)) (nI (if x1 < e1 then x1 else x1 - e1)) (nI (if x2 < e2 then x2 else x2 - e2)) m a [] = some [v])
    (K : ∀ rv rf ix, post (z0, z1, z2, z3, mc, vc, mt, ll, oc, ep, nI (w + 1), nI (a + m), v.1, v.2, cc, tk, tv, mv, mf, br, be, wr, we, ws, ik, ia, sd, pd, ix, rv, rf, ne, st, ns, ct, gv, gf)) : wpX_fetch post (z0, z1, z2, z3, mc, vc, mt, ll, oc, ep, nI (w + 1), nI (a + m), ov, ou, cc, tk, tv, mv, mf, br, be, wr, we, ws, ik, ia, sd, pd, ix, rv, rf, ne, st, ns, ct, gv, gf) 1 := by
  unfold wpX_fetch
  dsimp only
  refine nm_r (nI_pred w) ⟨4, ?_⟩
  refine xa_ft1_s (p := 0) hw (by omega) y0 h2 b0 l0 ?_
  intro i0 p0 p1
  refine xa_ft1_s (p := 1) hw (by omega) ((p1 1 (by omega)).trans y1) h3 b1 l1 ?_
  intro i1 p2 p3
  refine xa_ft1_s (p := 2) hw (by omega) ((p3 2 (by omega)).trans ((p1 2 (by omega)).trans y2)) h4 b2 l2 ?_
  intro i2 p4 p5
  refine xa_ft_e ?_
  have q0 : i2 0 = nI (if x0 < e0 then x0 else x0 - e0) := (p5 0 (by omega)).trans ((p3 0 (by omega)).trans p0)
  have q1 : i2 1 = nI (if x1 < e1 then x1 else x1 - e1) := (p5 1 (by omega)).trans p2
  refine xa_run hw hs hb ?_ (fun rv rf => K rv rf i2)
  rw [q0, q1, p4]
  exact hin
theorem xa_gth {w a m q n0 n1 n2 r : Nat} {wp : Int32} {g : Nat → dr_E} {S : Nat → Prop} (hw : w < 10) (hs : ws w = nI a) (hb : a + m ≤ 48) (hm : 0 < m) (hr : wr w = nI r) (hr3 : r ≤ 3)
    (h0 : ne 0 = nI n0) (h1 : ne 1 = nI n1) (h2 : ne 2 = nI n2) (hn0 : n0 ≤ 32) (hn1 : n1 ≤ 32) (hn2 : n2 ≤ 32) (hq : q + 32 ≤ 1568) (hn : n0 * n1 * n2 ≤ 32)
    (hS : ∀ j, S j → j < q ∨ q + 32 ≤ j) (hg : ∀ i, i < n0 * n1 * n2 → dr_fok (g i).2)
    (hf : ∀ i0 i1 i2 (mv' mf' iy rv rf : Nat → Int32) (ov ou : Int32) (Q : SX → Prop), i0 < n0 → i1 < n1 → i2 < n2 → (∀ j, S j → mv' j = mv j ∧ mf' j = mf j) → iy 0 = nI i0 + st 0 → iy 1 = nI i1 + st 1 → iy 2 = nI i2 + st 2 →
      (∀ rv rf ix, Q (z0, z1, z2, z3, mc, vc, mt, ll, oc, ep, nI (w + 1), nI (a + m), (g ((i0 * n1 + i1) * n2 + i2)).1, (g ((i0 * n1 + i1) * n2 + i2)).2, cc, tk, tv, mv', mf', br, be, wr, we, ws, ik, ia, sd, pd, ix, rv, rf, ne, st, ns, ct, gv, gf)) → wpX_fetch Q (z0, z1, z2, z3, mc, vc, mt, ll, oc, ep, nI (w + 1), nI (a + m), ov, ou, cc, tk, tv, mv', mf', br, be, wr, we, ws, ik, ia, sd, pd, iy, rv, rf, ne, st, ns, ct, gv, gf) wp)
    (K : ∀ mv' mf' rv rf ix ov ou sd', dr_wr q g mv mf (n0 * n1 * n2) mv' mf' → (∀ j, j < 3 * a → sd' j = sd j) →
      sd' (3 * a) = dr_t0 r (upd (upd (upd we (3 * w) (ne 0)) (3 * w + 1) (ne 1)) (3 * w + 2) (ne 2) (3 * w + 1)) (upd (upd (upd we (3 * w) (ne 0)) (3 * w + 1) (ne 1)) (3 * w + 2) (ne 2) (3 * w + 2)) 1 →
      sd' (3 * a + 1) = dr_t1 r (upd (upd (upd we (3 * w) (ne 0)) (3 * w + 1) (ne 1)) (3 * w + 2) (ne 2) (3 * w + 2)) 1 → sd' (3 * a + 2) = dr_t2 r 1 →
      post (z0, z1, z2, z3, mc, vc, mt, ll, oc, ep, nI (w + 1), nI (a + 1), ov, ou, cc, tk, tv, mv', mf', br, be, upd wr w (nI r), upd (upd (upd we (3 * w) (ne 0)) (3 * w + 1) (ne 1)) (3 * w + 2) (ne 2), ws, upd ik a 0, upd ia a (nI q), sd', pd, ix, rv, rf, ne, st, ns, ct, gv, gf)) :
    wpX_gather post (z0, z1, z2, z3, mc, vc, mt, ll, oc, ep, nI (w + 1), nI (a + m), ov, ou, cc, tk, tv, mv, mf, br, be, wr, we, ws, ik, ia, sd, pd, ix, rv, rf, ne, st, ns, ct, gv, gf) (nI q) wp := by
  unfold wpX_gather
  dsimp only
  exact dr_lp3 (σ := (Nat → Int32) × (Nat → Int32) × (Nat → Int32) × (Nat → Int32) × (Nat → Int32) × Int32 × Int32) n0 n1 n2
    (fun f i0 t s => wX_gather_5 post (nI q) wp f (nI (q + t)) (nI i0) z0 z1 z2 z3 mc vc mt ll oc ep (nI (w + 1)) (nI (a + m)) s.2.2.2.2.2.1 s.2.2.2.2.2.2 cc tk tv s.1 s.2.1 br be wr we ws ik ia sd pd s.2.2.1 s.2.2.2.1 s.2.2.2.2.1 ne st ns ct gv gf)
    (fun f i0 f1 i1 t s => wX_gather_19 post (wX_gather_5 post (nI q) wp f) (nI q) wp (nI i0) f1 (nI (q + t)) (nI i1) z0 z1 z2 z3 mc vc mt ll oc ep (nI (w + 1)) (nI (a + m)) s.2.2.2.2.2.1 s.2.2.2.2.2.2 cc tk tv s.1 s.2.1 br be wr we ws ik ia sd pd s.2.2.1 s.2.2.2.1 s.2.2.2.2.1 ne st ns ct gv gf)
    (fun f i0 f1 i1 f2 i2 t s => wX_gather_33 post (wX_gather_5 post (nI q) wp f) (wX_gather_19 post (wX_gather_5 post (nI q) wp f) (nI q) wp (nI i0) f1) (nI q) wp (nI i0) (nI i1) f2 (nI (q + t)) (nI i2) z0 z1 z2 z3 mc vc mt ll oc ep (nI (w + 1)) (nI (a + m)) s.2.2.2.2.2.1 s.2.2.2.2.2.2 cc tk tv s.1 s.2.1 br be wr we ws ik ia sd pd s.2.2.1 s.2.2.2.1 s.2.2.2.2.1 ne st ns ct gv gf)
    (fun t s => dr_wr q g mv mf t s.1 s.2.1)
    (fun f s hI => by
      rw [wX_gather_5]
      dsimp only
      rw [h0]
      refine br_t (nI_le (Nat.le_refl _) (by omega)) ?_
      rw [nI_pred, nI_clamp (show w < 2 ^ 31 by omega), hr]
      refine ⟨vp_in_nI hw (by omega), ?_⟩
      refine xa_adopt hw ?_
      dsimp only
      refine xa_blk hw (by omega) hs pk_us hr3 ?_
      intro sd' q1 q2 q3 q4
      dsimp only
      exact K _ _ _ _ _ _ _ _ hI q1 q2 q3 q4)
    (fun f i0 t s hi hW => by
      rw [wX_gather_5]
      dsimp only
      rw [h0]
      exact br_f (nI_ge hi (by omega)) hW)
    (fun f i0 f1 t s hi hW => by
      rw [wX_gather_19]
      dsimp only
      rw [h1]
      exact br_t (nI_le (Nat.le_refl _) (by omega)) (nm_r (nI_1 i0) hW))
    (fun f i0 f1 i1 t s hi hj hW => by
      rw [wX_gather_19]
      dsimp only
      rw [h1]
      exact br_f (nI_ge hj (by omega)) hW)
    (fun f i0 f1 i1 f2 t s hi hj hW => by
      rw [wX_gather_33]
      dsimp only
      rw [h2]
      exact br_t (nI_le (Nat.le_refl _) (by omega)) (nm_r (nI_1 i1) hW))
    (fun f i0 f1 i1 f2 i2 s hi hj hl hI hW => by
      rw [wX_gather_33]
      dsimp only
      rw [h2]
      have ht := dr_f3 hi hj hl
      refine br_f (nI_ge hl (by omega)) (nm_e (nm_e (nm_e ?_)))
      refine hf i0 i1 i2 _ _ _ _ _ _ _ _ hi hj hl (dr_wr_S hI (fun j hj => by have := hS j hj; omega)) rfl rfl rfl ?_
      intro rv' rf' ix'
      dsimp only
      refine xa_sto (by omega) (hg _ ht) ?_
      dsimp only
      refine nm_r (nI_1 _) (nm_r (nI_1 i2) ?_)
      exact hW (_, _, _, _, _, _, _) (dr_wrs hI rfl))
    (mv, mf, ix, rv, rf, ov, ou) dr_wr0
end
end
section
noncomputable def dr_if {α : Type} (P : Prop) (a b : α) : α := @ite α P (Classical.propDecidable P) a b
theorem dr_if_t {α : Type} {P : Prop} {a b : α} (h : P) : dr_if P a b = a := by unfold dr_if; rw [if_pos h]
theorem dr_if_f {α : Type} {P : Prop} {a b : α} (h : ¬ P) : dr_if P a b = b := by unfold dr_if; rw [if_neg h]
def dr_h (i j l p : Nat) : Nat := if p = 0 then i else if p = 1 then j else l
def dr_gth (σ : Nat → Nat → Nat → Nat → Int) (e0 e1 e2 : Nat) (el : Nat → dr_E) (i j l : Nat) : dr_E :=
  if (0 ≤ σ 0 i j l ∧ σ 0 i j l < e0) ∧ (0 ≤ σ 1 i j l ∧ σ 1 i j l < e1) ∧ (0 ≤ σ 2 i j l ∧ σ 2 i j l < e2) then el (((σ 0 i j l).toNat * e1 + (σ 1 i j l).toNat) * e2 + (σ 2 i j l).toNat) else (0, 0)
/-- reshape -/
def dr_cx (n : Nat) (c : Nat → Int32) (p : Nat) : Nat := if p < n then (c p).toNatClampNeg else 1
noncomputable def dr_reshape (M n : Nat) (c : Nat → Int32) (R : dr_A) : Int32 × dr_A :=
  dr_if (∃ p, p < n ∧ c p < 0) (-14, R) (dr_if (∃ p, p < n ∧ nI M < c p) (-15, R)
    (if M < dr_cx n c 0 * dr_cx n c 1 * dr_cx n c 2 then (-15, R) else (0, dr_rsh n (dr_cx n c 0) (dr_cx n c 1) (dr_cx n c 2) R)))
/-- take -/
def dr_tx (n : Nat) (c : Nat → Int32) (p : Nat) : Nat := if p < n then (c p).toInt.natAbs else 1
def dr_ts (n : Nat) (c : Nat → Int32) (e p : Nat) : Int := if p < n then (if (c p).toInt < 0 then (e : Int) + (c p).toInt else 0) else 0
def dr_tσ (n : Nat) (c : Nat → Int32) (e0 e1 e2 : Nat) (p i j l : Nat) : Int := (dr_h i j l p : Int) + dr_ts n c (dr_h e0 e1 e2 p) p
noncomputable def dr_take (M n : Nat) (c : Nat → Int32) : dr_A → Int32 × dr_A
  | (r, e0, e1, e2, el) => dr_if (∃ p, p < n ∧ (nI M < c p ∨ c p < -nI M)) (-15, (r, e0, e1, e2, el))
    (if M < dr_tx n c 0 * dr_tx n c 1 * dr_tx n c 2 then (-15, (r, e0, e1, e2, el))
     else (0, (r, dr_tx n c 0, dr_tx n c 1, dr_tx n c 2, dr_mk (dr_tx n c 1) (dr_tx n c 2) (dr_gth (dr_tσ n c e0 e1 e2) e0 e1 e2 el))))
/-- drop -/
def dr_dx (n : Nat) (c : Nat → Int32) (e p : Nat) : Nat := if p < n then e - (c p).toInt.natAbs else e
def dr_ds (n : Nat) (c : Nat → Int32) (p : Nat) : Int := if p < n then (if (c p).toInt < 0 then 0 else (c p).toInt) else 0
def dr_dσ (n : Nat) (c : Nat → Int32) (p i j l : Nat) : Int := (dr_h i j l p : Int) + dr_ds n c p
def dr_drop (n : Nat) (c : Nat → Int32) : dr_A → dr_A
  | (r, e0, e1, e2, el) => (r, dr_dx n c e0 0, dr_dx n c e1 1, dr_dx n c e2 2, dr_mk (dr_dx n c e1 1) (dr_dx n c e2 2) (dr_gth (dr_dσ n c) e0 e1 e2 el))
/-- rotate -/
def dr_rσ (c : Int32) (r e0 e1 e2 : Nat) (p i j l : Nat) : Int :=
  if p + 1 = r ∧ 0 < dr_h e0 e1 e2 p then ((dr_h i j l p : Int) + c.toInt) % (dr_h e0 e1 e2 p : Int) else (dr_h i j l p : Int)
def dr_rot (c : Int32) : dr_A → dr_A
  | (r, e0, e1, e2, el) => (r, e0, e1, e2, dr_mk e1 e2 (dr_gth (dr_rσ c r e0 e1 e2) e0 e1 e2 el))
/-- transpose -/
def dr_ls (n : Nat) (d : Nat → Nat) (e q p : Nat) (o : Option Nat) : Option Nat :=
  if p < n ∧ d p = q then (match o with | none => some e | some x => some (if e < x then e else x)) else o
def dr_lst (n : Nat) (d : Nat → Nat) (e0 e1 e2 q : Nat) : Option Nat := dr_ls n d e2 q 2 (dr_ls n d e1 q 1 (dr_ls n d e0 q 0 none))
def dr_gr (n : Nat) (d : Nat → Nat) : Nat :=
  if n = 0 then 0 else if n = 1 then d 0 + 1 else if n = 2 then max (d 0) (d 1) + 1 else max (max (d 0) (d 1)) (d 2) + 1
def dr_nσ (n : Nat) (d : Nat → Nat) (p i j l : Nat) : Int := if p < n then (dr_h i j l (d p) : Int) else (l : Int)
def dr_nd (c : Nat → Int32) (p : Nat) : Nat := (c p).toNatClampNeg
noncomputable def dr_trn (n : Nat) (c : Nat → Int32) : dr_A → Int32 × dr_A
  | (r, e0, e1, e2, el) => dr_if (∃ p, p < n ∧ (c p < 0 ∨ nI n ≤ c p)) (-14, (r, e0, e1, e2, el))
    (dr_if (∃ q, q < dr_gr n (dr_nd c) ∧ dr_lst n (dr_nd c) e0 e1 e2 q = none) (-14, (r, e0, e1, e2, el))
      (0, (dr_gr n (dr_nd c), (dr_lst n (dr_nd c) e0 e1 e2 0).getD 1, (dr_lst n (dr_nd c) e0 e1 e2 1).getD 1, (dr_lst n (dr_nd c) e0 e1 e2 2).getD 1,
        dr_mk ((dr_lst n (dr_nd c) e0 e1 e2 1).getD 1) ((dr_lst n (dr_nd c) e0 e1 e2 2).getD 1) (dr_gth (dr_nσ n (dr_nd c)) e0 e1 e2 el))))
noncomputable def dr_st2 (M code n : Nat) (c : Nat → Int32) (R : dr_A) : Int32 × dr_A :=
  if code = 9 then dr_reshape M n c R else if code = 10 then dr_take M n c R else if code = 11 then (0, dr_drop n c R)
  else if code = 12 then (0, dr_rot (c 0) R) else dr_trn n c R
noncomputable def dr_str (M code : Nat) : dr_A → dr_A → Int32 × dr_A
  | (rl, l0, l1, l2, lel), (r, e0, e1, e2, el) =>
    if 1 < rl then (-11, (r, e0, e1, e2, el))
    else dr_if (¬ (if code = 9 then l0 ≤ 3 else l0 = (if code = 12 then 1 else r))) (-12, (r, e0, e1, e2, el))
      (dr_if (∃ j, j < l0 ∧ (lel j).2 ≠ 0) (-13, (r, e0, e1, e2, el)) (dr_st2 M code l0 (fun p => (lel p).1) (r, e0, e1, e2, el)))
theorem dr_gth_ok {σ : Nat → Nat → Nat → Nat → Int} {e0 e1 e2 : Nat} {el : Nat → dr_E} (h : ∀ i, i < e0 * e1 * e2 → dr_eok (el i)) (i j l : Nat) : dr_eok (dr_gth σ e0 e1 e2 el i j l) := by
  unfold dr_gth
  split
  · rename_i z
    exact h _ (dr_f3 (by omega) (by omega) (by omega))
  · exact dr_eok0
theorem dr_mk_ok {w0 w1 w2 : Nat} {g : Nat → Nat → Nat → dr_E} (h : ∀ i j l, dr_eok (g i j l)) : ∀ t, t < w0 * w1 * w2 → dr_eok (dr_mk w1 w2 g t) := by
  intro t ht
  obtain ⟨i, j, l, a, b, c, rfl⟩ := dr_un3 ht
  rw [dr_mk_at b c]
  exact h i j l
theorem dr_gth_in {σ : Nat → Nat → Nat → Nat → Int} {e0 e1 e2 i j l x0 x1 x2 : Nat} {el : Nat → dr_E} (h0 : σ 0 i j l = x0) (h1 : σ 1 i j l = x1) (h2 : σ 2 i j l = x2) (b0 : x0 < e0) (b1 : x1 < e1) (b2 : x2 < e2) :
    dr_gth σ e0 e1 e2 el i j l = el ((x0 * e1 + x1) * e2 + x2) := by
  unfold dr_gth
  rw [h0, h1, h2, if_pos (by omega)]
  rfl
theorem dr_gth_out {σ : Nat → Nat → Nat → Nat → Int} {e0 e1 e2 i j l : Nat} {el : Nat → dr_E} (h : ∀ x0 x1 x2 : Nat, x0 < e0 → x1 < e1 → x2 < e2 → σ 0 i j l = x0 → σ 1 i j l = x1 → σ 2 i j l = x2 → False) :
    dr_gth σ e0 e1 e2 el i j l = (0, 0) := by
  unfold dr_gth
  rw [if_neg]
  intro z
  exact h (σ 0 i j l).toNat (σ 1 i j l).toNat (σ 2 i j l).toNat (by omega) (by omega) (by omega) (by omega) (by omega) (by omega)
theorem dr_mul3 {a b c x y z : Nat} (h1 : a ≤ x) (h2 : b ≤ y) (h3 : c ≤ z) : a * b * c ≤ x * y * z := Nat.mul_le_mul (Nat.mul_le_mul h1 h2) h3
theorem dr_take_ok {M r e0 e1 e2 : Nat} {c : Nat → Int32} {el : Nat → dr_E} (h : dr_ok M (r, e0, e1, e2, el)) (hM : M ≤ 32) (h1 : ¬ ∃ p, p < r ∧ (nI M < c p ∨ c p < -nI M)) (h2 : dr_tx r c 0 * dr_tx r c 1 * dr_tx r c 2 ≤ M) :
    dr_ok M (r, dr_tx r c 0, dr_tx r c 1, dr_tx r c 2, dr_mk (dr_tx r c 1) (dr_tx r c 2) (dr_gth (dr_tσ r c e0 e1 e2) e0 e1 e2 el)) ∧ ∀ p, p < r → -(M : Int) ≤ (c p).toInt ∧ (c p).toInt ≤ M := by
  obtain ⟨k1, k2, k3, k4, k5, k6, k7, k8, k9⟩ := h
  have hb : ∀ p, p < r → -(M : Int) ≤ (c p).toInt ∧ (c p).toInt ≤ M := by
    intro p hp
    have y1 : ¬ nI M < c p := fun z => h1 ⟨p, hp, Or.inl z⟩
    have y2 : ¬ c p < -nI M := fun z => h1 ⟨p, hp, Or.inr z⟩
    rw [Int32.lt_iff_toInt_lt, nI_toInt (by omega)] at y1
    have e : (-nI M).toInt = -(M : Int) := by
      rw [Int32.toInt_neg, nI_toInt (by omega)]
      exact Int.bmod_eq_of_le (by omega) (by omega)
    rw [Int32.lt_iff_toInt_lt, e] at y2
    omega
  have hx : ∀ p, dr_tx r c p ≤ 32 := by
    intro p
    unfold dr_tx
    by_cases hp : p < r
    · rw [if_pos hp]; have := hb p hp; omega
    · rw [if_neg hp]; omega
  refine ⟨⟨k1, hx 0, hx 1, hx 2, ?_, ?_, ?_, h2, dr_mk_ok (dr_gth_ok k9)⟩, hb⟩
  · intro z; unfold dr_tx; rw [if_neg (by omega)]
  · intro z; unfold dr_tx; rw [if_neg (by omega)]
  · intro z; unfold dr_tx; rw [if_neg (by omega)]
theorem dr_drop_ok {M r e0 e1 e2 : Nat} {c : Nat → Int32} {el : Nat → dr_E} (h : dr_ok M (r, e0, e1, e2, el)) : dr_ok M (dr_drop r c (r, e0, e1, e2, el)) := by
  obtain ⟨k1, k2, k3, k4, k5, k6, k7, k8, k9⟩ := h
  have hx : ∀ e p, dr_dx r c e p ≤ e := by intro e p; unfold dr_dx; split <;> omega
  refine ⟨k1, Nat.le_trans (hx _ _) k2, Nat.le_trans (hx _ _) k3, Nat.le_trans (hx _ _) k4, ?_, ?_, ?_, Nat.le_trans (dr_mul3 (hx _ _) (hx _ _) (hx _ _)) k8, dr_mk_ok (dr_gth_ok k9)⟩
  · intro z; unfold dr_dx; rw [if_neg (by omega)]; exact k5 z
  · intro z; unfold dr_dx; rw [if_neg (by omega)]; exact k6 z
  · intro z; unfold dr_dx; rw [if_neg (by omega)]; exact k7 z
theorem dr_rot_ok {M r e0 e1 e2 : Nat} {c : Int32} {el : Nat → dr_E} (h : dr_ok M (r, e0, e1, e2, el)) : dr_ok M (dr_rot c (r, e0, e1, e2, el)) := by
  obtain ⟨k1, k2, k3, k4, k5, k6, k7, k8, k9⟩ := h
  exact ⟨k1, k2, k3, k4, k5, k6, k7, k8, dr_mk_ok (dr_gth_ok k9)⟩
/-- transposition: facts about least extents -/
theorem dr_ls_hit {n : Nat} {d : Nat → Nat} {e q p : Nat} {o : Option Nat} (h : p < n ∧ d p = q) : ∃ x, dr_ls n d e q p o = some x ∧ x ≤ e := by
  unfold dr_ls
  rw [if_pos h]
  cases o with
  | none => exact ⟨e, rfl, Nat.le_refl _⟩
  | some y => exact ⟨_, rfl, by split <;> omega⟩
theorem dr_ls_mono {n : Nat} {d : Nat → Nat} {e q p y : Nat} : ∃ x, dr_ls n d e q p (some y) = some x ∧ x ≤ y := by
  unfold dr_ls
  by_cases h : p < n ∧ d p = q
  · rw [if_pos h]; exact ⟨_, rfl, by split <;> omega⟩
  · rw [if_neg h]; exact ⟨y, rfl, Nat.le_refl _⟩
theorem dr_lst_le {n : Nat} {d : Nat → Nat} {e0 e1 e2 p : Nat} (hn : n ≤ 3) (hp : p < n) : ∃ x, dr_lst n d e0 e1 e2 (d p) = some x ∧ x ≤ dr_h e0 e1 e2 p := by
  unfold dr_lst
  rcases (show p = 0 ∨ p = 1 ∨ p = 2 by omega) with rfl | rfl | rfl
  · obtain ⟨x, h1, h2⟩ := dr_ls_hit (o := none) (e := e0) (show 0 < n ∧ d 0 = d 0 from ⟨hp, rfl⟩)
    obtain ⟨y, h3, h4⟩ := dr_ls_mono (n := n) (d := d) (e := e1) (q := d 0) (p := 1) (y := x)
    obtain ⟨z, h5, h6⟩ := dr_ls_mono (n := n) (d := d) (e := e2) (q := d 0) (p := 2) (y := y)
    rw [h1, h3, h5]
    exact ⟨z, rfl, by show z ≤ e0; omega⟩
  · obtain ⟨y, h3, h4⟩ := dr_ls_hit (o := dr_ls n d e0 (d 1) 0 none) (e := e1) (show 1 < n ∧ d 1 = d 1 from ⟨hp, rfl⟩)
    obtain ⟨z, h5, h6⟩ := dr_ls_mono (n := n) (d := d) (e := e2) (q := d 1) (p := 2) (y := y)
    rw [h3, h5]
    exact ⟨z, rfl, by show z ≤ e1; omega⟩
  · obtain ⟨z, h5, h6⟩ := dr_ls_hit (o := dr_ls n d e1 (d 2) 1 (dr_ls n d e0 (d 2) 0 none)) (e := e2) (show 2 < n ∧ d 2 = d 2 from ⟨hp, rfl⟩)
    rw [h5]
    exact ⟨z, rfl, h6⟩
theorem dr_ls_miss {n : Nat} {d : Nat → Nat} {e q p : Nat} {o : Option Nat} (h : ¬ (p < n ∧ d p = q)) : dr_ls n d e q p o = o := by
  unfold dr_ls
  rw [if_neg h]
theorem dr_lst_none {n : Nat} {d : Nat → Nat} {e0 e1 e2 q : Nat} (h : ∀ p, p < n → d p ≠ q) : dr_lst n d e0 e1 e2 q = none := by
  unfold dr_lst
  rw [dr_ls_miss (fun z => h 0 z.1 z.2), dr_ls_miss (fun z => h 1 z.1 z.2), dr_ls_miss (fun z => h 2 z.1 z.2)]
theorem dr_ls_b {n : Nat} {d : Nat → Nat} {e q p B : Nat} {o : Option Nat} (he : e ≤ B) (ho : o.getD 1 ≤ B) : (dr_ls n d e q p o).getD 1 ≤ B := by
  unfold dr_ls
  split
  · cases o with
    | none => exact he
    | some y =>
      have ho' : y ≤ B := ho
      show (if e < y then e else y) ≤ B
      split <;> omega
  · exact ho
theorem dr_ls_P {n : Nat} {d : Nat → Nat} {e q p P : Nat} {o : Option Nat} (he : 1 ≤ e) (hP : 1 ≤ P) (ho : o.getD 1 ≤ P) : (dr_ls n d e q p o).getD 1 ≤ P * (if p < n ∧ d p = q then e else 1) := by
  unfold dr_ls
  by_cases h : p < n ∧ d p = q
  · rw [if_pos h, if_pos h]
    cases o with
    | none =>
      show e ≤ P * e
      exact Nat.le_mul_of_pos_left e hP
    | some y =>
      have ho' : y ≤ P := ho
      have h1 : P ≤ P * e := Nat.le_mul_of_pos_right P he
      show (if e < y then e else y) ≤ P * e
      split <;> omega
  · rw [if_neg h, if_neg h, Nat.mul_one]
    exact ho
theorem dr_gr_lt {n : Nat} {d : Nat → Nat} {p : Nat} (hn : n ≤ 3) (hp : p < n) : d p < dr_gr n d := by
  unfold dr_gr
  rcases (show n = 1 ∨ n = 2 ∨ n = 3 by omega) with rfl | rfl | rfl
  · have e : p = 0 := by omega
    subst e; simp
  · rcases (show p = 0 ∨ p = 1 by omega) with rfl | rfl <;> simp <;> omega
  · rcases (show p = 0 ∨ p = 1 ∨ p = 2 by omega) with rfl | rfl | rfl <;> simp <;> omega
theorem dr_gr_le {n : Nat} {d : Nat → Nat} (hn : n ≤ 3) (h : ∀ p, p < n → d p < n) : dr_gr n d ≤ n := by
  unfold dr_gr
  rcases (show n = 0 ∨ n = 1 ∨ n = 2 ∨ n = 3 by omega) with rfl | rfl | rfl | rfl
  · simp
  · have := h 0 (by omega); simp; omega
  · have := h 0 (by omega); have := h 1 (by omega); simp; omega
  · have := h 0 (by omega); have := h 1 (by omega); have := h 2 (by omega); simp; omega
theorem dr_trn_prod {n : Nat} {d : Nat → Nat} {e0 e1 e2 : Nat} (hn : n ≤ 3) (hd : ∀ p, p < n → d p < n) (h0 : n = 0 → e0 = 1) (h1 : n ≤ 1 → e1 = 1) (h2 : n ≤ 2 → e2 = 1) :
    (dr_lst n d e0 e1 e2 0).getD 1 * (dr_lst n d e0 e1 e2 1).getD 1 * (dr_lst n d e0 e1 e2 2).getD 1 ≤ e0 * e1 * e2 := by
  by_cases hz : ∃ p, p < n ∧ dr_h e0 e1 e2 p = 0
  · obtain ⟨p, hp, e⟩ := hz
    obtain ⟨x, hx, hle⟩ := dr_lst_le (e0 := e0) (e1 := e1) (e2 := e2) (d := d) hn hp
    have x0 : x = 0 := by omega
    subst x0
    have hdp := hd p hp
    rcases (show d p = 0 ∨ d p = 1 ∨ d p = 2 by omega) with y | y | y
    · rw [y] at hx; rw [hx]; simp
    · rw [y] at hx; rw [hx]; simp
    · rw [y] at hx; rw [hx]; simp
  · have q0 : 1 ≤ e0 := by
      rcases Nat.eq_zero_or_pos n with z | z
      · rw [h0 z]; omega
      · rcases Nat.eq_zero_or_pos e0 with y | y
        · exact absurd ⟨0, z, y⟩ hz
        · exact y
    have q1 : 1 ≤ e1 := by
      rcases Nat.lt_or_ge 1 n with z | z
      · rcases Nat.eq_zero_or_pos e1 with y | y
        · exact absurd ⟨1, z, y⟩ hz
        · exact y
      · rw [h1 z]; omega
    have q2 : 1 ≤ e2 := by
      rcases Nat.lt_or_ge 2 n with z | z
      · rcases Nat.eq_zero_or_pos e2 with y | y
        · exact absurd ⟨2, z, y⟩ hz
        · exact y
      · rw [h2 z]; omega
    have hq : ∀ q, (dr_lst n d e0 e1 e2 q).getD 1 ≤ 1 * (if 0 < n ∧ d 0 = q then e0 else 1) * (if 1 < n ∧ d 1 = q then e1 else 1) * (if 2 < n ∧ d 2 = q then e2 else 1) := by
      intro q
      have p1 : 1 ≤ (if 0 < n ∧ d 0 = q then e0 else 1) := by split <;> omega
      have p2 : 1 ≤ (if 1 < n ∧ d 1 = q then e1 else 1) := by split <;> omega
      have a1 := dr_ls_P (n := n) (d := d) (q := q) (p := 0) (o := none) q0 (Nat.le_refl 1) (Nat.le_refl 1)
      have a2 := dr_ls_P (n := n) (d := d) (q := q) (p := 1) q1 (by rw [Nat.one_mul]; exact p1) a1
      exact dr_ls_P (n := n) (d := d) (q := q) (p := 2) q2 (by rw [Nat.one_mul]; exact Nat.mul_pos p1 p2) a2
    refine Nat.le_trans (dr_mul3 (hq 0) (hq 1) (hq 2)) ?_
    have dd : ∀ p, p < n → d p = 0 ∨ d p = 1 ∨ d p = 2 := fun p hp => by have := hd p hp; omega
    have f0 : 0 < n ∨ e0 = 1 := by
      rcases Nat.eq_zero_or_pos n with z | z
      · exact Or.inr (h0 z)
      · exact Or.inl z
    have f1 : 1 < n ∨ e1 = 1 := by
      rcases Nat.lt_or_ge 1 n with z | z
      · exact Or.inl z
      · exact Or.inr (h1 z)
    have f2 : 2 < n ∨ e2 = 1 := by
      rcases Nat.lt_or_ge 2 n with z | z
      · exact Or.inl z
      · exact Or.inr (h2 z)
    have t0 : (if 0 < n ∧ d 0 = 0 then e0 else 1) * (if 0 < n ∧ d 0 = 1 then e0 else 1) * (if 0 < n ∧ d 0 = 2 then e0 else 1) ≤ e0 := by
      by_cases z : 0 < n
      · rcases dd 0 z with y | y | y <;> simp [z, y]
      · simp [z]; omega
    have t1 : (if 1 < n ∧ d 1 = 0 then e1 else 1) * (if 1 < n ∧ d 1 = 1 then e1 else 1) * (if 1 < n ∧ d 1 = 2 then e1 else 1) ≤ e1 := by
      by_cases z : 1 < n
      · rcases dd 1 z with y | y | y <;> simp [z, y]
      · simp [z]; omega
    have t2 : (if 2 < n ∧ d 2 = 0 then e2 else 1) * (if 2 < n ∧ d 2 = 1 then e2 else 1) * (if 2 < n ∧ d 2 = 2 then e2 else 1) ≤ e2 := by
      by_cases z : 2 < n
      · rcases dd 2 z with y | y | y <;> simp [z, y]
      · simp [z]; omega
    refine Nat.le_trans (Nat.le_of_eq ?_) (dr_mul3 t0 t1 t2)
    generalize (if 0 < n ∧ d 0 = 0 then e0 else 1) = a0
    generalize (if 0 < n ∧ d 0 = 1 then e0 else 1) = a1
    generalize (if 0 < n ∧ d 0 = 2 then e0 else 1) = a2
    generalize (if 1 < n ∧ d 1 = 0 then e1 else 1) = b0
    generalize (if 1 < n ∧ d 1 = 1 then e1 else 1) = b1
    generalize (if 1 < n ∧ d 1 = 2 then e1 else 1) = b2
    generalize (if 2 < n ∧ d 2 = 0 then e2 else 1) = c0
    generalize (if 2 < n ∧ d 2 = 1 then e2 else 1) = c1
    generalize (if 2 < n ∧ d 2 = 2 then e2 else 1) = c2
    simp only [Nat.one_mul]
    ac_rfl
theorem dr_lst_32 {n : Nat} {d : Nat → Nat} {e0 e1 e2 q : Nat} (h0 : e0 ≤ 32) (h1 : e1 ≤ 32) (h2 : e2 ≤ 32) : (dr_lst n d e0 e1 e2 q).getD 1 ≤ 32 :=
  dr_ls_b h2 (dr_ls_b h1 (dr_ls_b h0 (by show 1 ≤ 32; omega)))
theorem dr_trn_ok {M r e0 e1 e2 : Nat} {d : Nat → Nat} {el : Nat → dr_E} (h : dr_ok M (r, e0, e1, e2, el)) (hd : ∀ p, p < r → d p < r) :
    dr_ok M (dr_gr r d, (dr_lst r d e0 e1 e2 0).getD 1, (dr_lst r d e0 e1 e2 1).getD 1, (dr_lst r d e0 e1 e2 2).getD 1, dr_mk ((dr_lst r d e0 e1 e2 1).getD 1) ((dr_lst r d e0 e1 e2 2).getD 1) (dr_gth (dr_nσ r d) e0 e1 e2 el)) := by
  obtain ⟨k1, k2, k3, k4, k5, k6, k7, k8, k9⟩ := h
  have hg := dr_gr_le k1 hd
  have no : ∀ q, dr_gr r d ≤ q → dr_lst r d e0 e1 e2 q = none := fun q hq => dr_lst_none (fun p hp e => by have := dr_gr_lt (d := d) k1 hp; omega)
  refine ⟨by omega, dr_lst_32 k2 k3 k4, dr_lst_32 k2 k3 k4, dr_lst_32 k2 k3 k4, ?_, ?_, ?_, Nat.le_trans (dr_trn_prod k1 hd k5 k6 k7) k8, dr_mk_ok (dr_gth_ok k9)⟩
  · intro z; rw [no 0 (by omega)]; rfl
  · intro z; rw [no 1 (by omega)]; rfl
  · intro z; rw [no 2 (by omega)]; rfl
end
section
/-- outer and pointwise -/
def dr_ox (rl l0 l1 l2 e0 e1 e2 p : Nat) : Nat := if p < rl then dr_h l0 l1 l2 p else dr_h e0 e1 e2 (p - rl)
def dr_out (M : Nat) (c : Int32) : dr_A → dr_A → Int32 × dr_A
  | (rl, l0, l1, l2, lel), (r, e0, e1, e2, el) =>
    if 3 < rl + r then (-11, (r, e0, e1, e2, el)) else if M < l0 * l1 * l2 * (e0 * e1 * e2) then (-15, (r, e0, e1, e2, el))
    else (0, (rl + r, dr_ox rl l0 l1 l2 e0 e1 e2 0, dr_ox rl l0 l1 l2 e0 e1 e2 1, dr_ox rl l0 l1 l2 e0 e1 e2 2, fun t => dr_pv c (lel (t / (e0 * e1 * e2))) (el (t % (e0 * e1 * e2)))))
def dr_pw (M : Nat) (c : Int32) : dr_A → dr_A → Int32 × dr_A
  | (rl, l0, l1, l2, lel), (r, e0, e1, e2, el) =>
    if rl = 0 ∨ r = 0 then dr_out M c (rl, l0, l1, l2, lel) (r, e0, e1, e2, el)
    else if rl ≠ r then (-11, (r, e0, e1, e2, el))
    else if ¬ (l0 = e0 ∧ l1 = e1 ∧ l2 = e2) then (-12, (r, e0, e1, e2, el))
    else (0, (r, e0, e1, e2, fun i => dr_pv c (lel i) (el i)))
theorem dr_ox_prod {M rl l0 l1 l2 r e0 e1 e2 : Nat} {lel el : Nat → dr_E} (hL : dr_ok M (rl, l0, l1, l2, lel)) (hR : dr_ok M (r, e0, e1, e2, el)) (h : rl + r ≤ 3) :
    dr_ox rl l0 l1 l2 e0 e1 e2 0 * dr_ox rl l0 l1 l2 e0 e1 e2 1 * dr_ox rl l0 l1 l2 e0 e1 e2 2 = l0 * l1 * l2 * (e0 * e1 * e2) := by
  obtain ⟨k1, k2, k3, k4, k5, k6, k7, k8, k9⟩ := hL
  obtain ⟨j1, j2, j3, j4, j5, j6, j7, j8, j9⟩ := hR
  unfold dr_ox dr_h
  rcases (show rl = 0 ∨ rl = 1 ∨ rl = 2 ∨ rl = 3 by omega) with rfl | rfl | rfl | rfl
  · rw [k5 rfl, k6 (by omega), k7 (by omega)]; simp
  · rw [k6 (by omega), k7 (by omega), j7 (by omega)]; simp [Nat.mul_assoc]
  · rw [k7 (by omega), j6 (by omega), j7 (by omega)]; simp [Nat.mul_assoc]
  · rw [j5 (by omega), j6 (by omega), j7 (by omega)]; simp
theorem dr_out_ok {M rl l0 l1 l2 r e0 e1 e2 : Nat} {c : Int32} {lel el : Nat → dr_E} (hL : dr_ok M (rl, l0, l1, l2, lel)) (hR : dr_ok M (r, e0, e1, e2, el)) (h : rl + r ≤ 3) (hM : l0 * l1 * l2 * (e0 * e1 * e2) ≤ M) :
    dr_ok M (rl + r, dr_ox rl l0 l1 l2 e0 e1 e2 0, dr_ox rl l0 l1 l2 e0 e1 e2 1, dr_ox rl l0 l1 l2 e0 e1 e2 2, fun t => dr_pv c (lel (t / (e0 * e1 * e2))) (el (t % (e0 * e1 * e2)))) := by
  have hp := dr_ox_prod hL hR h
  obtain ⟨k1, k2, k3, k4, k5, k6, k7, k8, k9⟩ := hL
  obtain ⟨j1, j2, j3, j4, j5, j6, j7, j8, j9⟩ := hR
  have b : ∀ p, dr_ox rl l0 l1 l2 e0 e1 e2 p ≤ 32 := by
    intro p
    unfold dr_ox dr_h
    repeat (first | omega | split)
  refine ⟨h, b 0, b 1, b 2, ?_, ?_, ?_, by omega, ?_⟩
  · intro z
    have z1 : rl = 0 := by omega
    have z2 : r = 0 := by omega
    subst z1 z2
    exact j5 rfl
  · intro z
    unfold dr_ox dr_h
    rw [if_neg (by omega)]
    rcases (show rl = 0 ∨ rl = 1 by omega) with rfl | rfl
    · simp; exact j6 (by omega)
    · simp; exact j5 (by omega)
  · intro z
    unfold dr_ox dr_h
    rw [if_neg (by omega)]
    rcases (show rl = 0 ∨ rl = 1 ∨ rl = 2 by omega) with rfl | rfl | rfl
    · simp; exact j7 (by omega)
    · simp; exact j6 (by omega)
    · simp; exact j5 (by omega)
  · intro i hi
    rw [hp] at hi
    have h0 : 0 < e0 * e1 * e2 := by
      rcases Nat.eq_zero_or_pos (e0 * e1 * e2) with z | z
      · rw [z] at hi; omega
      · exact z
    exact dr_pv_ok (k9 _ (by rw [Nat.div_lt_iff_lt_mul h0]; exact hi)) (j9 _ (Nat.mod_lt _ h0))
/-- monadic transpose -/
noncomputable def dr_rax : dr_A → dr_A
  | (r, e0, e1, e2, el) => (dr_trn r (fun p => nI (r - 1 - p)) (r, e0, e1, e2, el)).2
theorem dr_rax_0 {r e0 e1 e2 : Nat} {el : Nat → dr_E} (hr : r ≤ 3) : (dr_trn r (fun p => nI (r - 1 - p)) (r, e0, e1, e2, el)).1 = 0 := by
  unfold dr_trn
  dsimp only
  have h1 : ¬ ∃ p, p < r ∧ (nI (r - 1 - p) < 0 ∨ nI r ≤ nI (r - 1 - p)) := by
    rintro ⟨p, hp, w⟩
    rcases w with w | w
    · exact nI_pos (by omega) w
    · exact nI_ge (by omega) (by omega) w
  rw [dr_if_f h1]
  have hd : dr_nd (fun p => nI (r - 1 - p)) = fun p => r - 1 - p := by
    funext p
    unfold dr_nd
    exact nI_clamp (by omega)
  rw [hd]
  have h2 : ¬ ∃ q, q < dr_gr r (fun p => r - 1 - p) ∧ dr_lst r (fun p => r - 1 - p) e0 e1 e2 q = none := by
    rintro ⟨q, hq, w⟩
    have g := dr_gr_le (d := fun p => r - 1 - p) hr (fun p hp => by omega)
    obtain ⟨x, hx, _⟩ := dr_lst_le (e0 := e0) (e1 := e1) (e2 := e2) (d := fun p => r - 1 - p) hr (show r - 1 - q < r by omega)
    have e : r - 1 - (r - 1 - q) = q := by omega
    rw [e, w] at hx
    cases hx
  rw [dr_if_f h2]
noncomputable def dr_mon (M kind code : Nat) : dr_A → Int32 × dr_A
  | (r, e0, e1, e2, el) =>
    if kind = 3 then dr_red M (nI code) (r, e0, e1, e2, el) else if kind = 4 then (0, dr_scan (nI code) (r, e0, e1, e2, el))
    else if code ≤ 8 then (0, (r, e0, e1, e2, fun i => dr_mv (nI code) (el i))) else if code = 14 then dr_iota M (r, e0, e1, e2, el)
    else if code = 9 then (0, dr_shp (r, e0, e1, e2, el)) else if code = 10 then (0, dr_fst (r, e0, e1, e2, el)) else if code = 11 then (0, dr_rsh 1 (e0 * e1 * e2) 1 1 (r, e0, e1, e2, el))
    else if code = 12 then (0, (r, e0, e1, e2, dr_rev r e0 e1 e2 el)) else (0, dr_rax (r, e0, e1, e2, el))
noncomputable def dr_dya (M kind code : Nat) (L R : dr_A) : Int32 × dr_A :=
  if kind = 5 then dr_out M (nI code) L R else if code ≤ 8 then dr_pw M (nI code) L R else dr_str M code L R
end
section
def yd_V (yr ye yi yf : Nat → Int32) (s : Nat) : dr_A → Prop
  | (r, e0, e1, e2, el) => yr s = nI r ∧ ye (s * 3) = nI e0 ∧ ye (s * 3 + 1) = nI e1 ∧ ye (s * 3 + 2) = nI e2 ∧ ∀ i, i < e0 * e1 * e2 → yi (s * 32 + i) = (el i).1 ∧ yf (s * 32 + i) = (el i).2
/-- slots below m are kept -/
def yd_F (m : Nat) (yr ye yi yf yr' ye' yi' yf' : Nat → Int32) : Prop :=
  (∀ s, s < m → yr' s = yr s) ∧ (∀ j, j < m * 3 → ye' j = ye j) ∧ (∀ j, j < m * 32 → yi' j = yi j ∧ yf' j = yf j)
theorem yd_F0 {m : Nat} {yr ye yi yf : Nat → Int32} : yd_F m yr ye yi yf yr ye yi yf := ⟨fun _ _ => rfl, fun _ _ => rfl, fun _ _ => ⟨rfl, rfl⟩⟩
theorem yd_Ft {m : Nat} {yr ye yi yf yr' ye' yi' yf' yr2 ye2 yi2 yf2 : Nat → Int32} (h : yd_F m yr ye yi yf yr' ye' yi' yf') (g : yd_F m yr' ye' yi' yf' yr2 ye2 yi2 yf2) : yd_F m yr ye yi yf yr2 ye2 yi2 yf2 :=
  ⟨fun s hs => (g.1 s hs).trans (h.1 s hs), fun s hs => (g.2.1 s hs).trans (h.2.1 s hs), fun s hs => ⟨(g.2.2 s hs).1.trans (h.2.2 s hs).1, (g.2.2 s hs).2.trans (h.2.2 s hs).2⟩⟩
theorem yd_Fle {m n : Nat} {yr ye yi yf yr' ye' yi' yf' : Nat → Int32} (h : yd_F m yr ye yi yf yr' ye' yi' yf') (hn : n ≤ m) : yd_F n yr ye yi yf yr' ye' yi' yf' :=
  ⟨fun s hs => h.1 s (by omega), fun s hs => h.2.1 s (by omega), fun s hs => h.2.2 s (by omega)⟩
theorem yd_Vf {m s M : Nat} {A : dr_A} {yr ye yi yf yr' ye' yi' yf' : Nat → Int32} (h : yd_F m yr ye yi yf yr' ye' yi' yf') (hs : s < m) (hM : M ≤ 32) (ok : dr_ok M A) (hV : yd_V yr ye yi yf s A) : yd_V yr' ye' yi' yf' s A := by
  obtain ⟨r, e0, e1, e2, el⟩ := A
  obtain ⟨v1, v2, v3, v4, v5⟩ := hV
  have k8 := ok.2.2.2.2.2.2.2.1
  refine ⟨(h.1 s hs).trans v1, (h.2.1 _ (by omega)).trans v2, (h.2.1 _ (by omega)).trans v3, (h.2.1 _ (by omega)).trans v4, fun i hi => ?_⟩
  have z := h.2.2 (s * 32 + i) (by omega)
  exact ⟨z.1.trans (v5 i hi).1, z.2.trans (v5 i hi).2⟩
section
variable {post : SY → Prop} {yc yv yt yu yp : Int32} {yk yw yd yr ye yi yf yq yn yh yz : Nat → Int32}
theorem ya_set {s i : Nat} {x f : Int32} (h : s * 32 + i < 544) (K : post (yc, yv, yt, yu, yp, yk, yw, yd, yr, ye, upd yi (s * 32 + i) x, upd yf (s * 32 + i) f, yq, yn, yh, yz)) : wpY_set post (yc, yv, yt, yu, yp, yk, yw, yd, yr, ye, yi, yf, yq, yn, yh, yz) (nI s) (nI i) x f := by
  simp (disch := omega) only [wpY_set, forall_eq, true_and, and_true, true_implies, false_implies, not_true_eq_false, not_false_eq_true, implies_true, forall_const, and_self, nI_leI, nI_ltI, nI_eq, vp_in_nI, nI_clamp, nI_add, pk_mul, pk_m1, nI_pred, nI_1, na_l0, na_g0, na_ll0, na_gl0, na_e0, na_p0, na_0p, na_c0, na_m1c, na_ap2, na_l3, na_l32, na_m3, na_m32, na_mr3, na_mr32, na_d1, na_d2, na_d3, na_d4, na_d5, na_d6, na_d7, na_d8, na_d9, ite_true, ite_false, reduceIte, if_true, if_false]
  exact K
theorem ya_shape {s : Nat} {p1 p2 p3 p4 : Int32} (h : s < 17) (K : post (yc, yv, yt, yu, yp, yk, yw, yd, upd yr s p1, upd (upd (upd ye (s * 3) p2) (s * 3 + 1) p3) (s * 3 + 2) p4, yi, yf, yq, yn, yh, yz)) : wpY_shape post (yc, yv, yt, yu, yp, yk, yw, yd, yr, ye, yi, yf, yq, yn, yh, yz) (nI s) p1 p2 p3 p4 := by
  simp (disch := omega) only [wpY_shape, forall_eq, true_and, and_true, true_implies, false_implies, not_true_eq_false, not_false_eq_true, implies_true, forall_const, and_self, nI_leI, nI_ltI, nI_eq, vp_in_nI, nI_clamp, nI_add, pk_mul, pk_m1, nI_pred, nI_1, na_l0, na_g0, na_ll0, na_gl0, na_e0, na_p0, na_0p, na_c0, na_m1c, na_ap2, na_l3, na_l32, na_m3, na_m32, na_mr3, na_mr32, na_d1, na_d2, na_d3, na_d4, na_d5, na_d6, na_d7, na_d8, na_d9, ite_true, ite_false, reduceIte, if_true, if_false]
  exact K
theorem ya_copy {a b : Nat} (ha : a < 17) (hb : b < 17) (hab : a ≠ b)
    (K : ∀ yi' yf', dr_wr (b * 32) (fun j => (yi (a * 32 + j), yf (a * 32 + j))) yi yf 32 yi' yf' →
      post (yc, yv, yt, yu, yp, yk, yw, yd, upd yr b (yr a), upd (upd (upd ye (b * 3) (ye (a * 3))) (b * 3 + 1) (ye (a * 3 + 1))) (b * 3 + 2) (ye (a * 3 + 2)), yi', yf', yq, yn, yh, yz)) : wpY_copy post (yc, yv, yt, yu, yp, yk, yw, yd, yr, ye, yi, yf, yq, yn, yh, yz) (nI a) (nI b) := by
  simp (disch := omega) only [wpY_copy, forall_eq, true_and, and_true, true_implies, false_implies, not_true_eq_false, not_false_eq_true, implies_true, forall_const, and_self, nI_leI, nI_ltI, nI_eq, vp_in_nI, nI_clamp, nI_add, pk_mul, pk_m1, nI_pred, nI_1, na_l0, na_g0, na_ll0, na_gl0, na_e0, na_p0, na_0p, na_c0, na_m1c, na_ap2, na_l3, na_l32, na_m3, na_m32, na_mr3, na_mr32, na_d1, na_d2, na_d3, na_d4, na_d5, na_d6, na_d7, na_d8, na_d9, ite_true, ite_false, reduceIte, if_true, if_false]
  refine ya_shape hb ?_
  dsimp only
  exact dr_lp1 (σ := (Nat → Int32) × (Nat → Int32)) 32
    (fun n i s => wY_copy_41 post (nI a) (nI b) n (nI i) yc yv yt yu yp yk yw yd (upd yr b (yr a)) (upd (upd (upd ye (b * 3) (ye (a * 3))) (b * 3 + 1) (ye (a * 3 + 1))) (b * 3 + 2) (ye (a * 3 + 2))) s.1 s.2 yq yn yh yz)
    (fun i s => dr_wr (b * 32) (fun j => (yi (a * 32 + j), yf (a * 32 + j))) yi yf i s.1 s.2)
    (fun n s hI => by
      rw [wY_copy_41]
      exact br_t (nI_le (a := 32) (b := 32) (Nat.le_refl _) (by omega)) (K _ _ hI))
    (fun n i s hi hI hW => by
      rw [wY_copy_41]
      have hn : ¬ (32 ≤ i) := by omega
      have h := hI.2 (a * 32 + i) (by omega)
      simp (disch := omega) only [hn, h, forall_eq, true_and, and_true, true_implies, false_implies, not_true_eq_false, not_false_eq_true, implies_true, forall_const, and_self, nI_leI, nI_ltI, nI_eq, vp_in_nI, nI_clamp, nI_add, pk_mul, pk_m1, nI_pred, nI_1, na_l0, na_g0, na_ll0, na_gl0, na_e0, na_p0, na_0p, na_c0, na_m1c, na_ap2, na_l3, na_l32, na_m3, na_m32, na_mr3, na_mr32, na_d1, na_d2, na_d3, na_d4, na_d5, na_d6, na_d7, na_d8, na_d9, ite_true, ite_false, reduceIte, if_true, if_false]
      refine ya_set (by omega) ?_
      dsimp only
      exact hW (_, _) (dr_wrs hI rfl))
    0 (Nat.zero_le _) (yi, yf) dr_wr0
theorem ya_pair {c : Int32} {x y : dr_E} {t : Nat} (hc : dr_c8 c) (ht : t < 32) (K : post (yc, yv, yt, yu, yp, yk, yw, yd, yr, ye, upd yi (512 + t) (dr_pv c x y).1, upd yf (512 + t) (dr_pv c x y).2, yq, yn, yh, yz)) :
    wpY_pair post (yc, yv, yt, yu, yp, yk, yw, yd, yr, ye, yi, yf, yq, yn, yh, yz) c x.1 x.2 y.1 y.2 (nI t) := by
  have fin : ∀ z f, dr_pv c x y = (z, f) → wY_pair_212 post f z (nI t) 16 yc yv yt yu yp yk yw yd yr ye yi yf yq yn yh yz := by
    intro z f e
    unfold wY_pair_212
    refine ya_set (s := 16) (by omega) ?_
    rw [e] at K
    exact K
  clear K
  obtain ⟨xa, xf⟩ := x
  obtain ⟨ya, yg⟩ := y
  unfold dr_c8 at hc
  dsimp only
  rcases hc with rfl | rfl | rfl | rfl | rfl | rfl | rfl | rfl | rfl
  · by_cases hy : yg = 0 <;> by_cases hx : xf = 0 <;>
    (simp [wpY_pair, wY_pair_11, wY_pair_31, wY_pair_49, wY_pair_85, wY_pair_103, wY_pair_119, wY_pair_136, wY_pair_138, wY_pair_156, wY_pair_158, wY_pair_175, wY_pair_177, wY_pair_194, wY_pair_196, na_dup, hy, hx]
     exact fin _ _ (by simp [dr_pv, dr_sp, hy, hx]))
  · by_cases hy : yg = 0 <;> by_cases hx : xf = 0 <;>
    (simp [wpY_pair, wY_pair_11, wY_pair_31, wY_pair_49, wY_pair_85, wY_pair_103, wY_pair_119, wY_pair_136, wY_pair_138, wY_pair_156, wY_pair_158, wY_pair_175, wY_pair_177, wY_pair_194, wY_pair_196, na_dup, hy, hx]
     exact fin _ _ (by simp [dr_pv, dr_sp, hy, hx]))
  · by_cases hy : yg = 0 <;> by_cases hx : xf = 0 <;>
    (simp [wpY_pair, wY_pair_11, wY_pair_31, wY_pair_49, wY_pair_85, wY_pair_103, wY_pair_119, wY_pair_136, wY_pair_138, wY_pair_156, wY_pair_158, wY_pair_175, wY_pair_177, wY_pair_194, wY_pair_196, na_dup, hy, hx]
     exact fin _ _ (by simp [dr_pv, dr_sp, hy, hx]))
  · by_cases hy : yg = 0 <;> by_cases hx : xf = 0 <;> by_cases y0 : ya = 0 <;>
    (simp [wpY_pair, wY_pair_11, wY_pair_31, wY_pair_49, wY_pair_85, wY_pair_103, wY_pair_119, wY_pair_136, wY_pair_138, wY_pair_156, wY_pair_158, wY_pair_175, wY_pair_177, wY_pair_194, wY_pair_196, na_dup, hy, hx, y0]
     exact fin _ _ (by simp [dr_pv, dr_sp, hy, hx, y0]))
  · by_cases hy : yg = 0 <;> by_cases hx : xf = 0 <;> by_cases y0 : ya = 0 <;>
    (simp [wpY_pair, wY_pair_11, wY_pair_31, wY_pair_49, wY_pair_85, wY_pair_103, wY_pair_119, wY_pair_136, wY_pair_138, wY_pair_156, wY_pair_158, wY_pair_175, wY_pair_177, wY_pair_194, wY_pair_196, na_dup, hy, hx, y0]
     exact fin _ _ (by simp [dr_pv, dr_sp, hy, hx, y0]))
  · by_cases hy : yg = 0 <;> by_cases hx : xf = 0 <;> by_cases h : ya ≤ xa <;>
    (simp [wpY_pair, wY_pair_11, wY_pair_31, wY_pair_49, wY_pair_85, wY_pair_103, wY_pair_119, wY_pair_136, wY_pair_138, wY_pair_156, wY_pair_158, wY_pair_175, wY_pair_177, wY_pair_194, wY_pair_196, na_dup, hy, hx, h]
     exact fin _ _ (by simp [dr_pv, dr_sp, hy, hx, h]))
  · by_cases hy : yg = 0 <;> by_cases hx : xf = 0 <;> by_cases h : xa ≤ ya <;>
    (simp [wpY_pair, wY_pair_11, wY_pair_31, wY_pair_49, wY_pair_85, wY_pair_103, wY_pair_119, wY_pair_136, wY_pair_138, wY_pair_156, wY_pair_158, wY_pair_175, wY_pair_177, wY_pair_194, wY_pair_196, na_dup, hy, hx, h]
     exact fin _ _ (by simp [dr_pv, dr_sp, hy, hx, h]))
  · by_cases hy : yg = 0 <;> by_cases hx : xf = 0 <;> by_cases h : xa = ya <;>
    (simp [wpY_pair, wY_pair_11, wY_pair_31, wY_pair_49, wY_pair_85, wY_pair_103, wY_pair_119, wY_pair_136, wY_pair_138, wY_pair_156, wY_pair_158, wY_pair_175, wY_pair_177, wY_pair_194, wY_pair_196, na_dup, hy, hx, h]
     exact fin _ _ (by simp [dr_pv, dr_sp, hy, hx, h]))
  · by_cases hy : yg = 0 <;> by_cases hx : xf = 0 <;> by_cases h : ya ≤ xa <;>
    (simp [wpY_pair, wY_pair_11, wY_pair_31, wY_pair_49, wY_pair_85, wY_pair_103, wY_pair_119, wY_pair_136, wY_pair_138, wY_pair_156, wY_pair_158, wY_pair_175, wY_pair_177, wY_pair_194, wY_pair_196, na_dup, hy, hx, h]
     exact fin _ _ (by simp [dr_pv, dr_sp, hy, hx, h]))
end
end
section
section
variable {yc yv yt yu yp : Int32} {yk yw yd yr ye yi yf yq yn yh yz : Nat → Int32}
theorem ya_size {post : Int32 → Prop} {s : Nat} (hs : s < 17) (K : post (ye (s * 3) * ye (s * 3 + 1) * ye (s * 3 + 2))) : wpY_size post (yc, yv, yt, yu, yp, yk, yw, yd, yr, ye, yi, yf, yq, yn, yh, yz) (nI s) := by
  simp (disch := omega) only [wpY_size, forall_eq, true_and, and_true, true_implies, false_implies, not_true_eq_false, not_false_eq_true, implies_true, forall_const, and_self, nI_leI, nI_ltI, nI_eq, vp_in_nI, nI_clamp, nI_add, pk_mul, pk_m1, nI_pred, nI_1, na_l0, na_g0, na_ll0, na_gl0, na_e0, na_p0, na_0p, na_c0, na_m1c, na_ap2, na_l3, na_l32, na_m3, na_m32, na_mr3, na_mr32, na_d1, na_d2, na_d3, na_d4, na_d5, na_d6, na_d7, na_d8, na_d9, ite_true, ite_false, reduceIte, if_true, if_false]
  exact K
theorem ya_last {post : Int32 → Prop} {s r e0 e1 e2 : Nat} (hs : s < 17) (hr : yr s = nI r) (hr3 : r ≤ 3) (h0 : ye (s * 3) = nI e0) (h1 : ye (s * 3 + 1) = nI e1) (h2 : ye (s * 3 + 2) = nI e2) (K : post (nI (dr_le r e0 e1 e2))) :
    wpY_last post (yc, yv, yt, yu, yp, yk, yw, yd, yr, ye, yi, yf, yq, yn, yh, yz) (nI s) := by
  unfold wpY_last
  dsimp only
  rw [nI_clamp (show s < 2 ^ 31 by omega), hr, na_mr3]
  refine ⟨vp_in_nI hs (by omega), ?_⟩
  rcases (show r = 0 ∨ r = 1 ∨ r = 2 ∨ r = 3 by omega) with rfl | rfl | rfl | rfl
  · refine br_t (by decide) ?_
    rw [na_p0, nI_clamp (show s * 3 < 2 ^ 31 by omega), h0]
    exact ⟨vp_in_nI (by omega) (by omega), K⟩
  · refine br_f (by decide) ⟨vp_in_nI hs (by omega), ?_⟩
    rw [nI_pred, nI_add, nI_clamp (show s * 3 + 0 < 2 ^ 31 by omega), Nat.add_zero, h0]
    exact ⟨vp_in_nI (by omega) (by omega), K⟩
  · refine br_f (by decide) ⟨vp_in_nI hs (by omega), ?_⟩
    rw [nI_pred, nI_add, nI_clamp (show s * 3 + 1 < 2 ^ 31 by omega), h1]
    exact ⟨vp_in_nI (by omega) (by omega), K⟩
  · refine br_f (by decide) ⟨vp_in_nI hs (by omega), ?_⟩
    rw [nI_pred, nI_add, nI_clamp (show s * 3 + 2 < 2 ^ 31 by omega), h2]
    exact ⟨vp_in_nI (by omega) (by omega), K⟩
theorem ya_rows {post : Int32 → Prop} {s r e0 e1 : Nat} (hs : s < 17) (hr : yr s = nI r) (hr3 : r ≤ 3) (h0 : ye (s * 3) = nI e0) (h1 : ye (s * 3 + 1) = nI e1) (K : post (nI (dr_rw r e0 e1))) :
    wpY_rows post (yc, yv, yt, yu, yp, yk, yw, yd, yr, ye, yi, yf, yq, yn, yh, yz) (nI s) := by
  unfold wpY_rows
  dsimp only
  rw [nI_clamp (show s < 2 ^ 31 by omega), hr, na_mr3, nI_1, nI_clamp (show s * 3 < 2 ^ 31 by omega), nI_clamp (show s * 3 + 1 < 2 ^ 31 by omega), h0, h1, pk_mul]
  refine ⟨vp_in_nI hs (by omega), ?_⟩
  rcases (show r = 0 ∨ r = 1 ∨ r = 2 ∨ r = 3 by omega) with rfl | rfl | rfl | rfl
  · exact br_f (by decide) ⟨vp_in_nI hs (by omega), br_f (by decide) K⟩
  · exact br_f (by decide) ⟨vp_in_nI hs (by omega), br_f (by decide) K⟩
  · exact br_f (by decide) ⟨vp_in_nI hs (by omega), br_t (by decide) ⟨vp_in_nI (by omega) (by omega), K⟩⟩
  · exact br_t (by decide) ⟨vp_in_nI (by omega) (by omega), vp_in_nI (by omega) (by omega), K⟩
variable {post : SY → Prop}
theorem ya_move {t s i : Nat} (ht : t < 32) (hs : s * 32 + i < 544) (K : post (yc, yv, yt, yu, yp, yk, yw, yd, yr, ye, upd yi (512 + t) (yi (s * 32 + i)), upd yf (512 + t) (yf (s * 32 + i)), yq, yn, yh, yz)) : wpY_move post (yc, yv, yt, yu, yp, yk, yw, yd, yr, ye, yi, yf, yq, yn, yh, yz) (nI t) (nI s) (nI i) := by
  simp (disch := omega) only [wpY_move, forall_eq, true_and, and_true, true_implies, false_implies, not_true_eq_false, not_false_eq_true, implies_true, forall_const, and_self, nI_leI, nI_ltI, nI_eq, vp_in_nI, nI_clamp, nI_add, pk_mul, pk_m1, nI_pred, nI_1, na_l0, na_g0, na_ll0, na_gl0, na_e0, na_p0, na_0p, na_c0, na_m1c, na_ap2, na_l3, na_l32, na_m3, na_m32, na_mr3, na_mr32, na_d1, na_d2, na_d3, na_d4, na_d5, na_d6, na_d7, na_d8, na_d9, ite_true, ite_false, reduceIte, if_true, if_false]
  exact ya_set (s := 16) (by omega) K
theorem ya_single {c : Int32} {x : dr_E} {t : Nat} (hc : dr_c8 c) (ht : t < 32) (K : ∀ yi' yf', (∀ j, j ≠ 512 + t → yi' j = yi j ∧ yf' j = yf j) → yi' (512 + t) = (dr_mv c x).1 → yf' (512 + t) = (dr_mv c x).2 → post (yc, yv, yt, yu, yp, yk, yw, yd, yr, ye, yi', yf', yq, yn, yh, yz)) :
    wpY_single post (yc, yv, yt, yu, yp, yk, yw, yd, yr, ye, yi, yf, yq, yn, yh, yz) c x.1 x.2 (nI t) := by
  obtain ⟨xa, xf⟩ := x
  have fin : ∀ y z f, xa = y → xf = f → (c ≠ 3 → dr_mv c (xa, xf) = (z, f)) → wY_single_119 post c y f (nI t) z (nI t) 16 yc yv yt yu yp yk yw yd yr ye yi yf yq yn yh yz := by
    intro y z f ey ef e
    subst ef ey
    unfold wY_single_119
    refine ya_set (s := 16) (by omega) ?_
    dsimp only
    by_cases c3 : c = 3
    · refine br_t c3 ?_
      refine ya_pair (c := 3) (x := (1, 0)) (y := (xa, xf)) (by unfold dr_c8; simp) ht ?_
      have e3 : dr_mv c (xa, xf) = dr_pv 3 (1, 0) (xa, xf) := by unfold dr_mv; rw [if_pos c3]
      rw [e3] at K
      dsimp only
      refine K _ _ (fun j hj => ?_) pk_us pk_us
      exact ⟨(pk_un hj).trans (pk_un hj), (pk_un hj).trans (pk_un hj)⟩
    · refine br_f c3 ?_
      have K' := K (upd yi (512 + t) z) (upd yf (512 + t) xf) (fun j hj => ⟨pk_un hj, pk_un hj⟩)
      rw [e c3] at K'
      exact K' pk_us pk_us
  clear K
  unfold dr_c8 at hc
  dsimp only
  rcases hc with rfl | rfl | rfl | rfl | rfl | rfl | rfl | rfl | rfl
  · by_cases hx : xf = 0 <;>
    (simp [wpY_single, wY_single_14, wY_single_20, wY_single_44, wY_single_68, wY_single_70, wY_single_85, wY_single_87, wY_single_102, wY_single_104, na_dup, hx]
     exact fin _ _ _ (by first | assumption | rfl) (by first | assumption | rfl) (by intro _; simp [dr_mv, dr_sm, hx]))
  · by_cases hx : xf = 0 <;>
    (simp [wpY_single, wY_single_14, wY_single_20, wY_single_44, wY_single_68, wY_single_70, wY_single_85, wY_single_87, wY_single_102, wY_single_104, na_dup, hx]
     exact fin _ _ _ (by first | assumption | rfl) (by first | assumption | rfl) (by intro _; simp [dr_mv, dr_sm, hx]))
  · by_cases h : xa ≤ 0
    · by_cases hx : xf = 0 <;> by_cases h' : 0 ≤ xa <;>
      (simp [wpY_single, wY_single_14, wY_single_20, wY_single_44, wY_single_68, wY_single_70, wY_single_85, wY_single_87, wY_single_102, wY_single_104, na_dup, hx, h, h']
       exact fin _ _ _ (by first | assumption | rfl) (by first | assumption | rfl) (by intro _; simp [dr_mv, dr_sm, hx, h, h']))
    · have h' : 0 ≤ xa := Int32.le_of_lt (Int32.not_le.mp h)
      by_cases hx : xf = 0 <;>
      (simp [wpY_single, wY_single_14, wY_single_20, wY_single_44, wY_single_68, wY_single_70, wY_single_85, wY_single_87, wY_single_102, wY_single_104, na_dup, hx, h, h']
       exact fin _ _ _ (by first | assumption | rfl) (by first | assumption | rfl) (by intro _; simp [dr_mv, dr_sm, hx, h, h']))
  · by_cases hx : xf = 0 <;>
    (simp [wpY_single, wY_single_14, wY_single_20, wY_single_44, wY_single_68, wY_single_70, wY_single_85, wY_single_87, wY_single_102, wY_single_104, na_dup, hx]
     exact fin _ _ _ (by first | assumption | rfl) (by first | assumption | rfl) (fun h => absurd rfl h))
  · have no : ∀ x : Int32, (x < 0 ↔ ¬ 0 ≤ x) := fun x => Int32.not_le.symm
    by_cases hx : xf = 0 <;> by_cases h' : 0 ≤ xa <;>
    (simp [wpY_single, wY_single_14, wY_single_20, wY_single_44, wY_single_68, wY_single_70, wY_single_85, wY_single_87, wY_single_102, wY_single_104, na_dup, hx, h']
     exact fin _ _ _ (by first | assumption | rfl) (by first | assumption | rfl) (by intro _; simp [dr_mv, dr_sm, no, hx, h']))
  · by_cases hx : xf = 0 <;>
    (simp [wpY_single, wY_single_14, wY_single_20, wY_single_44, wY_single_68, wY_single_70, wY_single_85, wY_single_87, wY_single_102, wY_single_104, na_dup, hx]
     exact fin _ _ _ (by first | assumption | rfl) (by first | assumption | rfl) (by intro _; simp [dr_mv, dr_sm, hx]))
  · by_cases hx : xf = 0 <;>
    (simp [wpY_single, wY_single_14, wY_single_20, wY_single_44, wY_single_68, wY_single_70, wY_single_85, wY_single_87, wY_single_102, wY_single_104, na_dup, hx]
     exact fin _ _ _ (by first | assumption | rfl) (by first | assumption | rfl) (by intro _; simp [dr_mv, dr_sm, hx]))
  · by_cases hx : xf = 0 <;> by_cases h : xa = 0 <;>
    (simp [wpY_single, wY_single_14, wY_single_20, wY_single_44, wY_single_68, wY_single_70, wY_single_85, wY_single_87, wY_single_102, wY_single_104, na_dup, hx, h]
     exact fin _ _ _ (by first | assumption | rfl) (by first | assumption | rfl) (by intro _; simp [dr_mv, dr_sm, hx, h]))
  · by_cases hx : xf = 0 <;> by_cases h : 0 ≤ xa <;>
    (simp [wpY_single, wY_single_14, wY_single_20, wY_single_44, wY_single_68, wY_single_70, wY_single_85, wY_single_87, wY_single_102, wY_single_104, na_dup, hx, h]
     exact fin _ _ _ (by first | assumption | rfl) (by first | assumption | rfl) (by intro _; simp [dr_mv, dr_sm, hx, h]))
/-- the fold of n elements from position p on, into element t of the result -/
theorem ya_fold_l {c : Int32} {p t n : Nat} {f : Nat → dr_E} {yi0 yf0 : Nat → Int32} (hc : dr_c8 c) (ht : t < 32) (hp : p + n ≤ 512) (hf : ∀ i, i < n → yi0 (p + i) = (f i).1 ∧ yf0 (p + i) = (f i).2) :
    ∀ (i : Nat) (v : dr_E) (yi yf : Nat → Int32) (q : Nat), i ≤ n → i < q → (∀ j, j ≠ 512 + t → yi j = yi0 j ∧ yf j = yf0 j) → yi (512 + t) = v.1 → yf (512 + t) = v.2 →
      (∀ yi yf, (∀ j, j ≠ 512 + t → yi j = yi0 j ∧ yf j = yf0 j) → yi (512 + t) = (dr_fd c f i v).1 → yf (512 + t) = (dr_fd c f i v).2 → post (yc, yv, yt, yu, yp, yk, yw, yd, yr, ye, yi, yf, yq, yn, yh, yz)) →
      wY_fold_88 post c (nI p) (nI t) q (nI i + (-1)) yc yv yt yu yp yk yw yd yr ye yi yf yq yn yh yz := by
  intro i
  induction i with
  | zero =>
    intro v yi yf q _ hq h1 h2 h3 K
    obtain ⟨q, rfl⟩ : ∃ k, q = k + 1 := ⟨q - 1, by omega⟩
    rw [wY_fold_88, na_z1]
    exact br_t (by decide) (K yi yf h1 h2 h3)
  | succ i ih =>
    intro v yi yf q hi hq h1 h2 h3 K
    obtain ⟨q, rfl⟩ : ∃ k, q = k + 1 := ⟨q - 1, by omega⟩
    rw [wY_fold_88, pk_m1]
    refine br_f (nI_pos (by omega)) ?_
    rw [nI_add, na_pa512, nI_clamp (show p + i < 2 ^ 31 by omega), nI_clamp (show 512 + t < 2 ^ 31 by omega), h2, h3, (h1 (p + i) (by omega)).1, (h1 (p + i) (by omega)).2, (hf i (by omega)).1, (hf i (by omega)).2]
    refine ⟨vp_in_nI (by omega) (by omega), vp_in_nI (by omega) (by omega), vp_in_nI (by omega) (by omega), vp_in_nI (by omega) (by omega), ?_⟩
    refine ya_pair hc ht ?_
    dsimp only
    refine nm_e (ih (dr_pv c (f i) v) _ _ q (by omega) (by omega) (fun j hj => ?_) pk_us pk_us K)
    exact ⟨(pk_un hj).trans (h1 j hj).1, (pk_un hj).trans (h1 j hj).2⟩
theorem ya_fold {c : Int32} {p t n : Nat} {f : Nat → dr_E} (hc : dr_c8 c) (ht : t < 32) (hp : p + n ≤ 512) (hn : n ≤ 32) (hf : ∀ i, i < n → yi (p + i) = (f i).1 ∧ yf (p + i) = (f i).2)
    (K : ∀ yi' yf', (∀ j, j ≠ 512 + t → yi' j = yi j ∧ yf' j = yf j) → yi' (512 + t) = (dr_fold c f n).1 → yf' (512 + t) = (dr_fold c f n).2 → post (yc, yv, yt, yu, yp, yk, yw, yd, yr, ye, yi', yf', yq, yn, yh, yz)) :
    wpY_fold post (yc, yv, yt, yu, yp, yk, yw, yd, yr, ye, yi, yf, yq, yn, yh, yz) c (nI p) (nI n) (nI t) := by
  have k47 : wY_fold_47 post c (nI p) (nI n) (nI t) (dr_id c) (nI t) 16 yc yv yt yu yp yk yw yd yr ye yi yf yq yn yh yz := by
    unfold wY_fold_47
    refine ya_set (s := 16) (by omega) ?_
    dsimp only
    rcases n with _ | n
    · refine br_t (by decide) ?_
      refine nm_e ⟨1, ?_⟩
      rw [wY_fold_88]
      refine br_t (by decide) ?_
      exact K _ _ (fun j hj => ⟨pk_un hj, pk_un hj⟩) pk_us pk_us
    · refine br_f (nI_nle (by omega) (by omega)) ?_
      rw [nI_add, na_s1 (show 1 ≤ p + (n + 1) by omega), show p + (n + 1) - 1 = p + n by omega, nI_clamp (show p + n < 2 ^ 31 by omega)]
      refine ⟨vp_in_nI (by omega) (by omega), vp_in_nI (by omega) (by omega), ?_⟩
      have hn1 : upd yi (16 * 32 + t) (dr_id c) (p + n) = (f n).1 := (pk_un (by omega)).trans (hf n (by omega)).1
      have hn2 : upd yf (16 * 32 + t) 0 (p + n) = (f n).2 := (pk_un (by omega)).trans (hf n (by omega)).2
      rw [hn1, hn2]
      refine ya_set (s := 16) (by omega) ?_
      dsimp only
      refine nm_r (e' := nI n + (-1)) ?_ ⟨n + 1, ?_⟩
      · rcases n with _ | n
        · decide
        · rw [pk_m1, na_s2 (by omega)]; rfl
      · refine ya_fold_l (n := n + 1) (yi0 := yi) (yf0 := yf) hc ht hp hf n (f n) _ _ (n + 1) (by omega) (by omega) (fun j hj => ?_) pk_us pk_us K
        exact ⟨(pk_un hj).trans (pk_un hj), (pk_un hj).trans (pk_un hj)⟩
  have e : ∀ z, dr_id c = z → wY_fold_47 post c (nI p) (nI n) (nI t) z (nI t) 16 yc yv yt yu yp yk yw yd yr ye yi yf yq yn yh yz := fun z e => e ▸ k47
  unfold wpY_fold
  dsimp only
  unfold dr_c8 at hc
  clear K k47
  rcases hc with rfl | rfl | rfl | rfl | rfl | rfl | rfl | rfl | rfl
  · exact br_f (by decide) (br_f (by decide) (br_f (by decide) (br_f (by decide) (br_f (by decide) (e _ (by decide))))))
  · exact br_f (by decide) (br_f (by decide) (br_f (by decide) (br_f (by decide) (br_f (by decide) (e _ (by decide))))))
  · exact br_t rfl (e 1 (by decide))
  · exact br_f (by decide) (br_t rfl (e 1 (by decide)))
  · exact br_f (by decide) (br_f (by decide) (br_f (by decide) (br_f (by decide) (br_f (by decide) (e _ (by decide))))))
  · exact br_f (by decide) (br_f (by decide) (br_f (by decide) (br_t rfl (e _ (by decide)))))
  · exact br_f (by decide) (br_f (by decide) (br_f (by decide) (br_f (by decide) (br_t rfl (e _ (by decide))))))
  · exact br_f (by decide) (br_f (by decide) (br_t rfl (e 1 (by decide))))
  · exact br_f (by decide) (br_f (by decide) (br_f (by decide) (br_f (by decide) (br_f (by decide) (e _ (by decide))))))
end
end
section
theorem dr_wrx {q t : Nat} {g : Nat → dr_E} {mv mf mv' mf' mv2 mf2 : Nat → Int32} (h : dr_wr q g mv mf t mv' mf') (ho : ∀ j, j ≠ q + t → mv2 j = mv' j ∧ mf2 j = mf' j) (h1 : mv2 (q + t) = (g t).1) (h2 : mf2 (q + t) = (g t).2) :
    dr_wr q g mv mf (t + 1) mv2 mf2 := by
  refine ⟨fun j hj => ?_, fun j hj => ?_⟩
  · rcases Nat.lt_or_ge j t with z | z
    · rw [(ho (q + j) (by omega)).1, (ho (q + j) (by omega)).2]; exact h.1 j z
    · have e : j = t := by omega
      rw [e]; exact ⟨h1, h2⟩
  · rw [(ho j (by omega)).1, (ho j (by omega)).2]; exact h.2 j (by omega)
theorem yd_cpF {b : Nat} {g : Nat → dr_E} {yr ye yi yf yi' yf' : Nat → Int32} {x x0 x1 x2 : Int32} (h : dr_wr (b * 32) g yi yf 32 yi' yf') : yd_F b yr ye yi yf (upd yr b x) (upd (upd (upd ye (b * 3) x0) (b * 3 + 1) x1) (b * 3 + 2) x2) yi' yf' := by
  refine ⟨fun s hs => pk_un (by omega), fun j hj => ?_, fun j hj => h.2 j (by omega)⟩
  rw [pk_un (by omega), pk_un (by omega), pk_un (by omega)]
theorem yd_cpV {b s M : Nat} {A : dr_A} {g : Nat → dr_E} {yr ye yi yf yi' yf' : Nat → Int32} {x x0 x1 x2 : Int32} (h : dr_wr (b * 32) g yi yf 32 yi' yf') (hs : s ≠ b) (hM : M ≤ 32) (ok : dr_ok M A) (hV : yd_V yr ye yi yf s A) :
    yd_V (upd yr b x) (upd (upd (upd ye (b * 3) x0) (b * 3 + 1) x1) (b * 3 + 2) x2) yi' yf' s A := by
  obtain ⟨r, e0, e1, e2, el⟩ := A
  obtain ⟨v1, v2, v3, v4, v5⟩ := hV
  have k8 := ok.2.2.2.2.2.2.2.1
  refine ⟨(pk_un hs).trans v1, ?_, ?_, ?_, fun i hi => ?_⟩
  · rw [pk_un (by omega), pk_un (by omega), pk_un (by omega)]; exact v2
  · rw [pk_un (by omega), pk_un (by omega), pk_un (by omega)]; exact v3
  · rw [pk_un (by omega), pk_un (by omega), pk_un (by omega)]; exact v4
  · have o := h.2 (s * 32 + i) (by omega)
    exact ⟨o.1.trans (v5 i hi).1, o.2.trans (v5 i hi).2⟩
theorem yd_cpN {a b M : Nat} {A : dr_A} {yr ye yi yf yi' yf' : Nat → Int32} (h : dr_wr (b * 32) (fun j => (yi (a * 32 + j), yf (a * 32 + j))) yi yf 32 yi' yf') (hM : M ≤ 32) (ok : dr_ok M A) (hV : yd_V yr ye yi yf a A) :
    yd_V (upd yr b (yr a)) (upd (upd (upd ye (b * 3) (ye (a * 3))) (b * 3 + 1) (ye (a * 3 + 1))) (b * 3 + 2) (ye (a * 3 + 2))) yi' yf' b A := by
  obtain ⟨r, e0, e1, e2, el⟩ := A
  obtain ⟨v1, v2, v3, v4, v5⟩ := hV
  have k8 := ok.2.2.2.2.2.2.2.1
  refine ⟨pk_us.trans v1, dr_u30.trans v2, dr_u31.trans v3, dr_u32.trans v4, fun i hi => ?_⟩
  have o := h.1 i (by omega)
  exact ⟨o.1.trans (v5 i hi).1, o.2.trans (v5 i hi).2⟩
section
variable {post : Int32 → SY → Prop} {M s r e0 e1 e2 : Nat} {el : Nat → dr_E} {yc yv yt yu yp : Int32} {yk yw yd yr ye yi yf yq yn yh yz : Nat → Int32}
theorem yo_red {c : Int32} (hM : M ≤ 32) (hs : s < 15) (ok : dr_ok M (r, e0, e1, e2, el)) (hV : yd_V yr ye yi yf s (r, e0, e1, e2, el)) (hc : dr_c8 c)
    (K : ∀ yr' ye' yi' yf', yd_F 15 yr ye yi yf yr' ye' yi' yf' → ((dr_red M c (r, e0, e1, e2, el)).1 = 0 → yd_V yr' ye' yi' yf' 16 (dr_red M c (r, e0, e1, e2, el)).2) → post (dr_red M c (r, e0, e1, e2, el)).1 (nI M, yv, yt, yu, yp, yk, yw, yd, yr', ye', yi', yf', yq, yn, yh, yz)) :
    wpY_along post (nI M, yv, yt, yu, yp, yk, yw, yd, yr, ye, yi, yf, yq, yn, yh, yz) 3 c (nI s) := by
  have hV' := hV
  obtain ⟨v1, v2, v3, v4, v5⟩ := hV'
  have ok' := ok
  obtain ⟨k1, k2, k3, k4, k5, k6, k7, k8, k9⟩ := ok'
  have hrl := dr_rwle ok
  obtain ⟨b1, b2⟩ := dr_rw_le ok
  unfold wpY_along
  dsimp only
  refine ya_last (by omega) v1 k1 v2 v3 v4 ?_
  refine ya_rows (by omega) v1 k1 v2 v3 ?_
  refine ya_copy (b := 16) (by omega) (by omega) (by omega) ?_
  intro yi1 yf1 hw
  dsimp only
  rw [nI_clamp (show s < 2 ^ 31 by omega), pk_un (show s ≠ 16 by omega), v1]
  refine ⟨vp_in_nI (by omega) (by omega), ?_⟩
  have hN := yd_cpN (b := 16) hw hM ok hV
  have hF := yd_cpF (b := 16) (yr := yr) (ye := ye) (x := yr s) (x0 := ye (s * 3)) (x1 := ye (s * 3 + 1)) (x2 := ye (s * 3 + 2)) hw
  rw [v1] at hF hN
  by_cases hr : r = 0
  · subst hr
    refine br_t rfl ?_
    have e : dr_red M c (0, e0, e1, e2, el) = (0, (0, e0, e1, e2, el)) := rfl
    rw [e] at K
    exact K _ _ _ _ (yd_Fle hF (by omega)) (fun _ => hN)
  · obtain ⟨ax, rfl⟩ : ∃ x, r = x + 1 := ⟨r - 1, by omega⟩
    have hp := dr_nprod ok (by omega)
    refine br_f (nI_ne0 (by omega) (by omega)) (br_t rfl ?_)
    by_cases hle : dr_rw (ax + 1) e0 e1 ≤ M
    · refine br_t (nI_le hle (by omega)) ?_
      have e : dr_red M c (ax + 1, e0, e1, e2, el) = (0, (ax, dr_n (ax + 1) 0 e0, dr_n (ax + 1) 1 e1, dr_n (ax + 1) 2 e2, fun q => dr_fold c (fun p => el (q * dr_le (ax + 1) e0 e1 e2 + p)) (dr_le (ax + 1) e0 e1 e2))) := by
        unfold dr_red
        dsimp only
        rw [if_neg (by omega), if_neg (by omega)]
        rfl
      rw [e] at K
      unfold wY_along_49
      rw [nI_clamp (show s < 2 ^ 31 by omega)]
      refine br_t rfl ⟨vp_in_nI (by omega) (by omega), ?_⟩
      rw [pk_un (show s ≠ 16 by omega), v1, nI_pred]
      intro ra hra
      have hra1 : ra s = nI (ax + 1) := by rw [hra, pk_un (by omega), pk_un (by omega), v1]
      refine ⟨vp_in_nI (by omega) (by omega), ?_⟩
      rw [hra1, na_pa48, na_s1 (by omega), show 48 + (ax + 1) - 1 = 48 + ax by omega, nI_clamp (show 48 + ax < 2 ^ 31 by omega)]
      refine ⟨vp_in_nI (by omega) (by omega), nm_e ?_⟩
      have hr16 : ra 16 = nI ax := by rw [hra, pk_us]
      have hFr : ∀ s, s < 15 → ra s = yr s := fun s hs => by rw [hra, pk_un (by omega), pk_un (by omega)]
      clear hra
      have fin : ∀ yi2 yf2, dr_wr 512 (fun q => dr_fold c (fun p => el (q * dr_le (ax + 1) e0 e1 e2 + p)) (dr_le (ax + 1) e0 e1 e2)) yi1 yf1 (dr_rw (ax + 1) e0 e1) yi2 yf2 →
          post 0 (nI M, yv, yt, yu, yp, yk, yw, yd, ra, upd (upd (upd (upd ye (16 * 3) (ye (s * 3))) (16 * 3 + 1) (ye (s * 3 + 1))) (16 * 3 + 2) (ye (s * 3 + 2))) (48 + ax) 1, yi2, yf2, yq, yn, yh, yz) := by
        intro yi2 yf2 h2
        refine K _ _ _ _ ⟨hFr, fun j hj => ?_, fun j hj => ?_⟩ (fun _ => ⟨hr16, ?_, ?_, ?_, fun i hi => ?_⟩)
        · rw [pk_un (by omega), pk_un (by omega), pk_un (by omega), pk_un (by omega)]
        · have o := h2.2 j (by omega)
          have o2 := hw.2 j (by omega)
          exact ⟨o.1.trans o2.1, o.2.trans o2.2⟩
        · unfold dr_n
          by_cases z : ax = 0
          · subst z; rw [if_pos rfl]; exact pk_us
          · rw [if_neg (by omega), pk_un (by omega), pk_un (by omega), pk_un (by omega), pk_us]; exact v2
        · unfold dr_n
          by_cases z : ax = 1
          · subst z; rw [if_pos rfl]; exact pk_us
          · rw [if_neg (by omega), pk_un (by omega), pk_un (by omega), pk_us]; exact v3
        · unfold dr_n
          by_cases z : ax = 2
          · subst z; rw [if_pos rfl]; exact pk_us
          · rw [if_neg (by omega), pk_un (by omega), pk_us]; exact v4
        · rw [hp] at hi
          exact h2.1 i hi
      refine dr_lp1 (σ := (Nat → Int32) × (Nat → Int32)) (dr_rw (ax + 1) e0 e1)
        (fun n i t => wY_along_89 post 3 c (nI s) (nI (dr_le (ax + 1) e0 e1 e2)) (nI (dr_rw (ax + 1) e0 e1)) n (nI i) (nI M) yv yt yu yp yk yw yd ra (upd (upd (upd (upd ye (16 * 3) (ye (s * 3))) (16 * 3 + 1) (ye (s * 3 + 1))) (16 * 3 + 2) (ye (s * 3 + 2))) (48 + ax) 1) t.1 t.2 yq yn yh yz)
        (fun i t => dr_wr 512 (fun q => dr_fold c (fun p => el (q * dr_le (ax + 1) e0 e1 e2 + p)) (dr_le (ax + 1) e0 e1 e2)) yi1 yf1 i t.1 t.2)
        (fun n t hI => by
          rw [wY_along_89]
          refine br_t rfl (br_t (nI_le (Nat.le_refl _) (by omega)) ⟨1, ?_⟩)
          rw [wY_along_129]
          exact br_f (by decide) (fin _ _ hI))
        (fun n i t hi hI hW => by
          rw [wY_along_89]
          have hq := dr_f2 (m := dr_le (ax + 1) e0 e1 e2) (p := dr_le (ax + 1) e0 e1 e2 - 1) hi
          have hb3 := Nat.mul_le_mul_right (dr_le (ax + 1) e0 e1 e2) (show i + 1 ≤ dr_rw (ax + 1) e0 e1 from hi)
          rw [Nat.succ_mul] at hb3
          refine br_t rfl (br_f (nI_ge hi (by omega)) ?_)
          rw [na_mr32, pk_mul, nI_add]
          refine ya_fold (f := fun p => el (i * dr_le (ax + 1) e0 e1 e2 + p)) hc (by omega) (by omega) (by omega) (fun p hp' => ?_) ?_
          · have o := hI.2 (s * 32 + i * dr_le (ax + 1) e0 e1 e2 + p) (by omega)
            have o2 := hw.2 (s * 32 + i * dr_le (ax + 1) e0 e1 e2 + p) (by omega)
            have o3 := v5 (i * dr_le (ax + 1) e0 e1 e2 + p) (by rw [hrl]; exact dr_f2 hi hp')
            rw [← Nat.add_assoc] at o3
            exact ⟨o.1.trans (o2.1.trans o3.1), o.2.trans (o2.2.trans o3.2)⟩
          · intro yi2 yf2 p1 p2 p3
            dsimp only
            exact nm_r (nI_1 i) (hW (yi2, yf2) (dr_wrx hI p1 p2 p3)))
        0 (Nat.zero_le _) (yi1, yf1) dr_wr0
    · refine br_f (nI_ge (by omega) (by omega)) ?_
      have e : dr_red M c (ax + 1, e0, e1, e2, el) = (-15, (ax + 1, e0, e1, e2, el)) := by
        unfold dr_red
        dsimp only
        rw [if_neg (by omega), if_pos (by omega)]
      rw [e] at K
      exact K _ _ _ _ (yd_Fle hF (by omega)) (na_err (c := -15) (by decide))
theorem yo_scan {c : Int32} (hM : M ≤ 32) (hs : s < 15) (ok : dr_ok M (r, e0, e1, e2, el)) (hV : yd_V yr ye yi yf s (r, e0, e1, e2, el)) (hc : dr_c8 c)
    (K : ∀ yr' ye' yi' yf', yd_F 15 yr ye yi yf yr' ye' yi' yf' → yd_V yr' ye' yi' yf' 16 (dr_scan c (r, e0, e1, e2, el)) → post 0 (nI M, yv, yt, yu, yp, yk, yw, yd, yr', ye', yi', yf', yq, yn, yh, yz)) :
    wpY_along post (nI M, yv, yt, yu, yp, yk, yw, yd, yr, ye, yi, yf, yq, yn, yh, yz) 4 c (nI s) := by
  have hV' := hV
  obtain ⟨v1, v2, v3, v4, v5⟩ := hV'
  have ok' := ok
  obtain ⟨k1, k2, k3, k4, k5, k6, k7, k8, k9⟩ := ok'
  have hrl := dr_rwle ok
  obtain ⟨b1, b2⟩ := dr_rw_le ok
  unfold wpY_along
  dsimp only
  refine ya_last (by omega) v1 k1 v2 v3 v4 ?_
  refine ya_rows (by omega) v1 k1 v2 v3 ?_
  refine ya_copy (b := 16) (by omega) (by omega) (by omega) ?_
  intro yi1 yf1 hw
  dsimp only
  rw [nI_clamp (show s < 2 ^ 31 by omega), pk_un (show s ≠ 16 by omega), v1]
  refine ⟨vp_in_nI (by omega) (by omega), ?_⟩
  have hN := yd_cpN (b := 16) hw hM ok hV
  have hF := yd_cpF (b := 16) (yr := yr) (ye := ye) (x := yr s) (x0 := ye (s * 3)) (x1 := ye (s * 3 + 1)) (x2 := ye (s * 3 + 2)) hw
  rw [v1] at hF hN
  by_cases hr : r = 0
  · subst hr
    exact br_t rfl (K _ _ _ _ (yd_Fle hF (by omega)) hN)
  · have e : dr_scan c (r, e0, e1, e2, el) = (r, e0, e1, e2, fun n => dr_fold c (fun p => el (n / dr_le r e0 e1 e2 * dr_le r e0 e1 e2 + p)) (n % dr_le r e0 e1 e2 + 1)) := by
      unfold dr_scan
      dsimp only
      rw [if_neg hr]
    rw [e] at K
    refine br_f (nI_ne0 (by omega) (by omega)) (br_f (by decide) ?_)
    unfold wY_along_49
    refine br_f (by decide) ⟨1, ?_⟩
    rw [wY_along_89]
    refine br_f (by decide) ?_
    refine dr_lp2 (σ := (Nat → Int32) × (Nat → Int32)) (dr_rw r e0 e1) (dr_le r e0 e1 e2)
      (fun n i t => wY_along_129 post 4 c (nI s) (nI (dr_le r e0 e1 e2)) (nI (dr_rw r e0 e1)) n (nI i) (nI M) yv yt yu yp yk yw yd (upd yr 16 (nI r)) (upd (upd (upd ye (16 * 3) (ye (s * 3))) (16 * 3 + 1) (ye (s * 3 + 1))) (16 * 3 + 2) (ye (s * 3 + 2))) t.1 t.2 yq yn yh yz)
      (fun n i f j t => wY_along_144 post (wY_along_129 post 4 c (nI s) (nI (dr_le r e0 e1 e2)) (nI (dr_rw r e0 e1)) n) 4 c (nI s) (nI (dr_le r e0 e1 e2)) (nI (dr_rw r e0 e1)) (nI i) f (nI j) (nI M) yv yt yu yp yk yw yd (upd yr 16 (nI r)) (upd (upd (upd ye (16 * 3) (ye (s * 3))) (16 * 3 + 1) (ye (s * 3 + 1))) (16 * 3 + 2) (ye (s * 3 + 2))) t.1 t.2 yq yn yh yz)
      (fun i t => dr_wr 512 (fun n => dr_fold c (fun p => el (n / dr_le r e0 e1 e2 * dr_le r e0 e1 e2 + p)) (n % dr_le r e0 e1 e2 + 1)) yi1 yf1 i t.1 t.2)
      (fun n t hI => by
        rw [wY_along_129]
        refine br_t rfl (br_t (nI_le (Nat.le_refl _) (by omega)) ?_)
        refine K _ _ _ _ ⟨(yd_Fle hF (by omega)).1, (yd_Fle (n := 15) hF (by omega)).2.1, fun j hj => ?_⟩ ⟨hN.1, hN.2.1, hN.2.2.1, hN.2.2.2.1, fun i hi => ?_⟩
        · have o := hI.2 j (by omega)
          have o2 := hw.2 j (by omega)
          exact ⟨o.1.trans o2.1, o.2.trans o2.2⟩
        · rw [hrl] at hi
          exact hI.1 i hi)
      (fun n i t hi hW => by
        rw [wY_along_129]
        exact br_t rfl (br_f (nI_ge hi (by omega)) hW))
      (fun n i f t hi hW => by
        rw [wY_along_144]
        exact br_t (nI_le (Nat.le_refl _) (by omega)) (nm_r (nI_1 i) hW))
      (fun n i f j t hi hj hI hW => by
        rw [wY_along_144]
        have hb3 := dr_f2 hi hj
        refine br_f (nI_ge hj (by omega)) ?_
        rw [na_mr32, pk_mul, nI_add, nI_1, nI_add]
        refine ya_fold (f := fun p => el (i * dr_le r e0 e1 e2 + p)) hc (by omega) (by omega) (by omega) (fun p hp' => ?_) ?_
        · have o := hI.2 (s * 32 + i * dr_le r e0 e1 e2 + p) (by omega)
          have o2 := hw.2 (s * 32 + i * dr_le r e0 e1 e2 + p) (by omega)
          have o3 := v5 (i * dr_le r e0 e1 e2 + p) (by rw [hrl]; exact dr_f2 hi (by omega))
          rw [← Nat.add_assoc] at o3
          exact ⟨o.1.trans (o2.1.trans o3.1), o.2.trans (o2.2.trans o3.2)⟩
        · intro yi2 yf2 p1 p2 p3
          dsimp only
          refine nm_e (hW (yi2, yf2) (dr_wrx hI p1 ?_ ?_))
          · refine p2.trans ?_
            rw [dr_dv hj, dr_md hj]
          · refine p3.trans ?_
            rw [dr_dv hj, dr_md hj])
      (yi1, yf1) dr_wr0
end
end
section
section
variable {post : Int32 → SY → Prop} {M s r e0 e1 e2 : Nat} {el : Nat → dr_E} {yc yv yt yu yp : Int32} {yk yw yd yr ye yi yf yq yn yh yz : Nat → Int32}
section
variable {x2 x3 x4 x5 x6 : Int32}
theorem ym_290 (h13 : ¬ x2 = 13) (K : post 0 (yc, yv, yt, yu, yp, yk, yw, yd, yr, ye, yi, yf, yq, yn, yh, yz)) : wY_monadic_290 post x2 x3 yc yv yt yu yp yk yw yd yr ye yi yf yq yn yh yz := by unfold wY_monadic_290; exact br_f h13 K
theorem ym_229 (h12 : ¬ x2 = 12) (h13 : ¬ x2 = 13) (K : post 0 (yc, yv, yt, yu, yp, yk, yw, yd, yr, ye, yi, yf, yq, yn, yh, yz)) : ∃ n, wY_monadic_229 post x2 x3 x5 x6 n 0 yc yv yt yu yp yk yw yd yr ye yi yf yq yn yh yz := ⟨1, by rw [wY_monadic_229]; exact br_f h12 (ym_290 h13 K)⟩
theorem ym_209 (h11 : ¬ x2 = 11) (h : ∃ n, wY_monadic_229 post x2 x3 x5 x6 n 0 yc yv yt yu yp yk yw yd yr ye yi yf yq yn yh yz) : wY_monadic_209 post x2 x3 x4 x5 x6 yc yv yt yu yp yk yw yd yr ye yi yf yq yn yh yz := by unfold wY_monadic_209; exact br_f h11 h
theorem ym_193 (h10 : ¬ x2 = 10) (h : wY_monadic_209 post x2 x3 x4 x5 x6 yc yv yt yu yp yk yw yd yr ye yi yf yq yn yh yz) : wY_monadic_193 post x2 x3 x4 x5 x6 yc yv yt yu yp yk yw yd yr ye yi yf yq yn yh yz := by unfold wY_monadic_193; exact br_f h10 h
theorem ym_173 (h10 : ¬ x2 = 10) (h : wY_monadic_209 post x2 x3 x4 x5 x6 yc yv yt yu yp yk yw yd yr ye yi yf yq yn yh yz) : wY_monadic_173 post x2 x3 x4 x5 x6 yc yv yt yu yp yk yw yd yr ye yi yf yq yn yh yz := by unfold wY_monadic_173; exact br_f h10 (ym_193 h10 h)
theorem ym_152 (h9 : ¬ x2 = 9) (h : wY_monadic_173 post x2 x3 x4 x5 x6 yc yv yt yu yp yk yw yd yr ye yi yf yq yn yh yz) : wY_monadic_152 post x2 x3 x4 x5 x6 yc yv yt yu yp yk yw yd yr ye yi yf yq yn yh yz := by unfold wY_monadic_152; exact br_f h9 h
theorem ym_109 (h9 : ¬ x2 = 9) (h : wY_monadic_173 post x2 x3 x4 x5 x6 yc yv yt yu yp yk yw yd yr ye yi yf yq yn yh yz) : ∃ n, wY_monadic_109 post x2 x3 x4 x5 x6 n 0 yc yv yt yu yp yk yw yd yr ye yi yf yq yn yh yz := ⟨1, by rw [wY_monadic_109]; exact br_f h9 (ym_152 h9 h)⟩
end
theorem yo_iota (hM : M ≤ 32) (hs : s < 15) (ok : dr_ok M (r, e0, e1, e2, el)) (hV : yd_V yr ye yi yf s (r, e0, e1, e2, el)) (hM1 : 1 ≤ M)
    (K : ∀ yr' ye' yi' yf', yd_F 15 yr ye yi yf yr' ye' yi' yf' → ((dr_iota M (r, e0, e1, e2, el)).1 = 0 → yd_V yr' ye' yi' yf' 16 (dr_iota M (r, e0, e1, e2, el)).2) → post (dr_iota M (r, e0, e1, e2, el)).1 (nI M, yv, yt, yu, yp, yk, yw, yd, yr', ye', yi', yf', yq, yn, yh, yz)) :
    wpY_iota post (nI M, yv, yt, yu, yp, yk, yw, yd, yr, ye, yi, yf, yq, yn, yh, yz) (nI s) := by
  obtain ⟨v1, v2, v3, v4, v5⟩ := hV
  obtain ⟨k1, k2, k3, k4, k5, k6, k7, k8, k9⟩ := ok
  unfold wpY_iota
  dsimp only
  rw [na_mr32, nI_clamp (show s < 2 ^ 31 by omega), nI_clamp (show s * 32 < 2 ^ 31 by omega), v1]
  refine ⟨vp_in_nI (by omega) (by omega), nm_e ⟨vp_in_nI (by omega) (by omega), ?_⟩⟩
  unfold dr_iota at K
  dsimp only at K
  by_cases hr : 1 < r
  · rw [if_pos hr] at K
    exact br_f (nI_ge (b := r) (a := 1) hr (by omega)) (K _ _ _ _ yd_F0 (na_err (c := -11) (by decide)))
  · rw [if_neg hr] at K
    refine br_t (nI_le (b := 1) (by omega) (by omega)) ?_
    refine ya_size (by omega) ?_
    rw [v2, v3, v4, pk_mul, pk_mul]
    by_cases hc : e0 * e1 * e2 = 1
    · rw [if_neg (by omega)] at K
      have o := v5 0 (by omega)
      rw [Nat.add_zero] at o
      rw [hc, o.1, o.2]
      refine br_t rfl ⟨vp_in_nI (by omega) (by omega), ?_⟩
      by_cases hf : (el 0).2 = 0
      · rw [if_neg (fun z => z hf)] at K
        refine br_t hf ?_
        by_cases hn : (el 0).1 < 0
        · rw [if_pos hn] at K
          refine br_t hn ?_
          unfold wY_iota_62
          exact br_f (Int32.not_le.mpr hn) (K _ _ _ _ yd_F0 (na_err (c := -14) (by decide)))
        · rw [if_neg hn] at K
          refine br_f hn ?_
          by_cases hg : nI M < (el 0).1
          · rw [if_pos hg] at K
            refine br_f (Int32.not_le.mpr hg) ?_
            unfold wY_iota_62
            exact br_t (Int32.not_lt.mp hn) (K _ _ _ _ yd_F0 (na_err (c := -15) (by decide)))
          · rw [if_neg hg] at K
            refine br_t (Int32.not_lt.mp hg) ?_
            obtain ⟨j, hj, ej⟩ := nI_of hn
            rw [ej, nI_clamp hj] at K
            rw [ej]
            have hjM : j ≤ M := by
              rw [ej] at hg
              rcases Nat.lt_or_ge M j with z | z
              · exact absurd (nI_lt z hj) hg
              · exact z
            refine ya_shape (s := 16) (by omega) ?_
            dsimp only
            refine dr_lp1 (σ := (Nat → Int32) × (Nat → Int32)) j
              (fun n i t => wY_iota_86 post (nI j) n (nI i) (nI M) yv yt yu yp yk yw yd (upd yr 16 1) (upd (upd (upd ye (16 * 3) (nI j)) (16 * 3 + 1) 1) (16 * 3 + 2) 1) t.1 t.2 yq yn yh yz)
              (fun i t => dr_wr 512 (fun i => (nI i, 0)) yi yf i t.1 t.2)
              (fun n t hI => by
                rw [wY_iota_86]
                refine br_t (nI_le (Nat.le_refl _) (by omega)) (K _ _ _ _ ⟨fun s hs => pk_un (by omega), fun j hj => ?_, fun j hj => hI.2 j (by omega)⟩ (fun _ => ⟨pk_us, dr_u30, dr_u31, dr_u32, fun i hi => hI.1 i (by omega)⟩))
                rw [pk_un (by omega), pk_un (by omega), pk_un (by omega)])
              (fun n i t hi hI hW => by
                rw [wY_iota_86]
                refine br_f (nI_ge hi (by omega)) ?_
                refine ya_set (s := 16) (by omega) ?_
                dsimp only
                exact nm_r (nI_1 i) (hW (_, _) (dr_wrs hI rfl)))
              0 (Nat.zero_le _) (yi, yf) dr_wr0
      · rw [if_pos hf] at K
        exact br_f hf (K _ _ _ _ yd_F0 (na_err (c := -13) (by decide)))
    · rw [if_pos hc] at K
      exact br_f (fun y => hc ((na_e1 (by omega)).mp y)) (K _ _ _ _ yd_F0 (na_err (c := -12) (by decide)))
/-- the opening of every monadic function but iota -/
theorem yo_open {c : Int32} (hM : M ≤ 32) (hs : s < 15) (ok : dr_ok M (r, e0, e1, e2, el)) (hV : yd_V yr ye yi yf s (r, e0, e1, e2, el)) (hc : ¬ c = 14)
    (K : ∀ yi' yf', dr_wr 512 (fun j => (yi (s * 32 + j), yf (s * 32 + j))) yi yf 32 yi' yf' → yd_V (upd yr 16 (nI r)) (upd (upd (upd ye 48 (nI e0)) 49 (nI e1)) 50 (nI e2)) yi' yf' 16 (r, e0, e1, e2, el) →
      ∃ n, wY_monadic_56 post c (nI s) (nI (e0 * e1 * e2)) (nI (dr_le r e0 e1 e2)) (nI (dr_rw r e0 e1)) n 0 (nI M) yv yt yu yp yk yw yd (upd yr 16 (nI r)) (upd (upd (upd ye 48 (nI e0)) 49 (nI e1)) 50 (nI e2)) yi' yf' yq yn yh yz) :
    wpY_monadic post (nI M, yv, yt, yu, yp, yk, yw, yd, yr, ye, yi, yf, yq, yn, yh, yz) 2 c (nI s) := by
  have hV' := hV
  obtain ⟨v1, v2, v3, v4, v5⟩ := hV'
  have k1 := ok.1
  unfold wpY_monadic
  dsimp only
  refine br_t rfl (br_f hc ?_)
  refine ya_size (by omega) ?_
  rw [v2, v3, v4, pk_mul, pk_mul]
  refine ya_last (by omega) v1 k1 v2 v3 v4 ?_
  refine ya_rows (by omega) v1 k1 v2 v3 ?_
  refine ya_copy (b := 16) (by omega) (by omega) (by omega) ?_
  intro yi1 yf1 hw
  dsimp only
  have hN := yd_cpN (b := 16) hw hM ok hV
  rw [v1, v2, v3, v4] at hN
  rw [v1, v2, v3, v4]
  exact K yi1 yf1 hw hN
theorem yo_mono {c : Int32} (hM : M ≤ 32) (hs : s < 15) (ok : dr_ok M (r, e0, e1, e2, el)) (hV : yd_V yr ye yi yf s (r, e0, e1, e2, el)) (hc : dr_c8 c)
    (K : ∀ yr' ye' yi' yf', yd_F 15 yr ye yi yf yr' ye' yi' yf' → yd_V yr' ye' yi' yf' 16 (r, e0, e1, e2, fun i => dr_mv c (el i)) → post 0 (nI M, yv, yt, yu, yp, yk, yw, yd, yr', ye', yi', yf', yq, yn, yh, yz)) :
    wpY_monadic post (nI M, yv, yt, yu, yp, yk, yw, yd, yr, ye, yi, yf, yq, yn, yh, yz) 2 c (nI s) := by
  have hcs : ¬ c = 14 ∧ ¬ c = 9 ∧ ¬ c = 10 ∧ ¬ c = 11 ∧ ¬ c = 12 ∧ ¬ c = 13 ∧ ¬ 8 < c := by
    unfold dr_c8 at hc
    rcases hc with rfl | rfl | rfl | rfl | rfl | rfl | rfl | rfl | rfl <;> decide
  obtain ⟨h14, h9, h10, h11, h12, h13, h8⟩ := hcs
  have k8 := ok.2.2.2.2.2.2.2.1
  refine yo_open hM hs ok hV h14 ?_
  intro yi1 yf1 hw hN
  obtain ⟨v1, v2, v3, v4, v5⟩ := hV
  refine dr_lp1 (σ := (Nat → Int32) × (Nat → Int32)) (e0 * e1 * e2)
    (fun n i t => wY_monadic_56 post c (nI s) (nI (e0 * e1 * e2)) (nI (dr_le r e0 e1 e2)) (nI (dr_rw r e0 e1)) n (nI i) (nI M) yv yt yu yp yk yw yd (upd yr 16 (nI r)) (upd (upd (upd ye 48 (nI e0)) 49 (nI e1)) 50 (nI e2)) t.1 t.2 yq yn yh yz)
    (fun i t => dr_wr 512 (fun i => dr_mv c (el i)) yi1 yf1 i t.1 t.2)
    (fun n t hI => by
      rw [wY_monadic_56]
      refine br_f h8 (br_t (nI_le (Nat.le_refl _) (by omega)) ?_)
      refine ym_109 h9 (ym_173 h10 (ym_209 h11 (ym_229 h12 h13 ?_)))
      refine K _ _ _ _ ⟨fun s hs => pk_un (by omega), fun j hj => ?_, fun j hj => ?_⟩ ⟨hN.1, hN.2.1, hN.2.2.1, hN.2.2.2.1, fun i hi => hI.1 i hi⟩
      · rw [pk_un (by omega), pk_un (by omega), pk_un (by omega)]
      · have o := hI.2 j (by omega)
        have o2 := hw.2 j (by omega)
        exact ⟨o.1.trans o2.1, o.2.trans o2.2⟩)
    (fun n i t hi hI hW => by
      rw [wY_monadic_56]
      refine br_f h8 (br_f (nI_ge hi (by omega)) ?_)
      have o := hI.2 (s * 32 + i) (by omega)
      have o2 := hw.2 (s * 32 + i) (by omega)
      have o3 := v5 i hi
      rw [na_mr32, nI_add, nI_clamp (show s * 32 + i < 2 ^ 31 by omega), o.1, o.2, o2.1, o2.2, o3.1, o3.2]
      refine ⟨vp_in_nI (by omega) (by omega), vp_in_nI (by omega) (by omega), ?_⟩
      refine ya_single hc (by omega) ?_
      intro yi2 yf2 p1 p2 p3
      dsimp only
      exact nm_r (nI_1 i) (hW (yi2, yf2) (dr_wrx hI p1 p2 p3)))
    0 (Nat.zero_le _) (yi1, yf1) dr_wr0
theorem yo_shape (hM : M ≤ 32) (hs : s < 15) (ok : dr_ok M (r, e0, e1, e2, el)) (hV : yd_V yr ye yi yf s (r, e0, e1, e2, el))
    (K : ∀ yr' ye' yi' yf', yd_F 15 yr ye yi yf yr' ye' yi' yf' → yd_V yr' ye' yi' yf' 16 (dr_shp (r, e0, e1, e2, el)) → post 0 (nI M, yv, yt, yu, yp, yk, yw, yd, yr', ye', yi', yf', yq, yn, yh, yz)) :
    wpY_monadic post (nI M, yv, yt, yu, yp, yk, yw, yd, yr, ye, yi, yf, yq, yn, yh, yz) 2 9 (nI s) := by
  have k1 := ok.1
  refine yo_open hM hs ok hV (by decide) ?_
  intro yi1 yf1 hw hN
  obtain ⟨v1, v2, v3, v4, v5⟩ := hV
  refine ⟨1, ?_⟩
  rw [wY_monadic_56]
  refine br_t (by decide) ?_
  refine dr_lp1 (σ := (Nat → Int32) × (Nat → Int32)) r
    (fun n i t => wY_monadic_109 post 9 (nI s) (nI (e0 * e1 * e2)) (nI (dr_le r e0 e1 e2)) (nI (dr_rw r e0 e1)) n (nI i) (nI M) yv yt yu yp yk yw yd (upd yr 16 (nI r)) (upd (upd (upd ye 48 (nI e0)) 49 (nI e1)) 50 (nI e2)) t.1 t.2 yq yn yh yz)
    (fun i t => dr_wr 512 (fun i => (nI (if i = 0 then e0 else if i = 1 then e1 else e2), 0)) yi1 yf1 i t.1 t.2)
    (fun n t hI => by
      rw [wY_monadic_109]
      dsimp only
      rw [nI_clamp (show s < 2 ^ 31 by omega), pk_un (show s ≠ 16 by omega), v1]
      refine br_t rfl ⟨vp_in_nI (by omega) (by omega), br_t (nI_le (Nat.le_refl _) (by omega)) ?_⟩
      unfold wY_monadic_152
      rw [nI_clamp (show s < 2 ^ 31 by omega), pk_un (show s ≠ 16 by omega), v1]
      refine br_t rfl ⟨vp_in_nI (by omega) (by omega), ?_⟩
      refine ya_shape (s := 16) (by omega) ?_
      dsimp only
      refine ym_173 (by decide) (ym_209 (by decide) (ym_229 (by decide) (by decide) ?_))
      refine K _ _ _ _ ⟨fun s hs => ?_, fun j hj => ?_, fun j hj => ?_⟩ ⟨pk_us, dr_u30, dr_u31, dr_u32, fun i hi => hI.1 i (by omega)⟩
      · rw [pk_un (by omega), pk_un (by omega)]
      · rw [pk_un (by omega), pk_un (by omega), pk_un (by omega), pk_un (by omega), pk_un (by omega), pk_un (by omega)]
      · have o := hI.2 j (by omega)
        have o2 := hw.2 j (by omega)
        exact ⟨o.1.trans o2.1, o.2.trans o2.2⟩)
    (fun n i t hi hI hW => by
      rw [wY_monadic_109]
      dsimp only
      rw [nI_clamp (show s < 2 ^ 31 by omega), pk_un (show s ≠ 16 by omega), v1]
      refine br_t rfl ⟨vp_in_nI (by omega) (by omega), br_f (nI_ge hi (by omega)) ?_⟩
      have hx : ye (s * 3 + i) = nI (if i = 0 then e0 else if i = 1 then e1 else e2) := by
        rcases (show i = 0 ∨ i = 1 ∨ i = 2 by omega) with rfl | rfl | rfl
        · exact v2
        · exact v3
        · exact v4
      rw [na_mr3, nI_add, nI_clamp (show s * 3 + i < 2 ^ 31 by omega), pk_un (by omega), pk_un (by omega), pk_un (by omega), hx]
      refine ⟨vp_in_nI (by omega) (by omega), ?_⟩
      refine ya_set (s := 16) (by omega) ?_
      dsimp only
      exact nm_r (nI_1 i) (hW (_, _) (dr_wrs hI rfl)))
    0 (Nat.zero_le _) (yi1, yf1) dr_wr0
theorem yo_first (hM : M ≤ 32) (hs : s < 15) (ok : dr_ok M (r, e0, e1, e2, el)) (hV : yd_V yr ye yi yf s (r, e0, e1, e2, el))
    (K : ∀ yr' ye' yi' yf', yd_F 15 yr ye yi yf yr' ye' yi' yf' → yd_V yr' ye' yi' yf' 16 (dr_fst (r, e0, e1, e2, el)) → post 0 (nI M, yv, yt, yu, yp, yk, yw, yd, yr', ye', yi', yf', yq, yn, yh, yz)) :
    wpY_monadic post (nI M, yv, yt, yu, yp, yk, yw, yd, yr, ye, yi, yf, yq, yn, yh, yz) 2 10 (nI s) := by
  have k8 := ok.2.2.2.2.2.2.2.1
  refine yo_open hM hs ok hV (by decide) ?_
  intro yi1 yf1 hw hN
  refine ⟨1, ?_⟩
  rw [wY_monadic_56]
  refine br_t (by decide) (ym_109 (by decide) ?_)
  unfold wY_monadic_173
  refine br_t rfl ?_
  unfold wY_monadic_193
  by_cases hc : e0 * e1 * e2 = 0
  · rw [hc]
    refine br_t rfl ?_
    refine ya_set (s := 16) (i := 0) (by omega) ?_
    dsimp only
    refine br_t rfl ?_
    refine ya_shape (s := 16) (by omega) ?_
    dsimp only
    refine ym_209 (by decide) (ym_229 (by decide) (by decide) ?_)
    refine K _ _ _ _ ⟨fun s hs => ?_, fun j hj => ?_, fun j hj => ?_⟩ ⟨pk_us, dr_u30, dr_u31, dr_u32, fun i hi => ?_⟩
    · rw [pk_un (by omega), pk_un (by omega)]
    · rw [pk_un (by omega), pk_un (by omega), pk_un (by omega), pk_un (by omega), pk_un (by omega), pk_un (by omega)]
    · rw [pk_un (by omega), pk_un (by omega)]
      exact hw.2 j (by omega)
    · have e : i = 0 := by omega
      subst e
      rw [if_pos hc]
      exact ⟨pk_us, pk_us⟩
  · refine br_f (nI_ne0 (by omega) (by omega)) (br_t rfl ?_)
    refine ya_shape (s := 16) (by omega) ?_
    dsimp only
    refine ym_209 (by decide) (ym_229 (by decide) (by decide) ?_)
    refine K _ _ _ _ ⟨fun s hs => ?_, fun j hj => ?_, fun j hj => hw.2 j (by omega)⟩ ⟨pk_us, dr_u30, dr_u31, dr_u32, fun i hi => ?_⟩
    · rw [pk_un (by omega), pk_un (by omega)]
    · rw [pk_un (by omega), pk_un (by omega), pk_un (by omega), pk_un (by omega), pk_un (by omega), pk_un (by omega)]
    · have e : i = 0 := by omega
      subst e
      rw [if_neg hc]
      exact hN.2.2.2.2 0 (by omega)
theorem yo_ravel (hM : M ≤ 32) (hs : s < 15) (ok : dr_ok M (r, e0, e1, e2, el)) (hV : yd_V yr ye yi yf s (r, e0, e1, e2, el))
    (K : ∀ yr' ye' yi' yf', yd_F 15 yr ye yi yf yr' ye' yi' yf' → yd_V yr' ye' yi' yf' 16 (dr_rsh 1 (e0 * e1 * e2) 1 1 (r, e0, e1, e2, el)) → post 0 (nI M, yv, yt, yu, yp, yk, yw, yd, yr', ye', yi', yf', yq, yn, yh, yz)) :
    wpY_monadic post (nI M, yv, yt, yu, yp, yk, yw, yd, yr, ye, yi, yf, yq, yn, yh, yz) 2 11 (nI s) := by
  have k8 := ok.2.2.2.2.2.2.2.1
  refine yo_open hM hs ok hV (by decide) ?_
  intro yi1 yf1 hw hN
  refine ⟨1, ?_⟩
  rw [wY_monadic_56]
  refine br_t (by decide) (ym_109 (by decide) (ym_173 (by decide) ?_))
  unfold wY_monadic_209
  refine br_t rfl ?_
  refine ya_shape (s := 16) (by omega) ?_
  dsimp only
  refine ym_229 (by decide) (by decide) ?_
  refine K _ _ _ _ ⟨fun s hs => ?_, fun j hj => ?_, fun j hj => hw.2 j (by omega)⟩ ⟨pk_us, dr_u30, dr_u31, dr_u32, fun i hi => ?_⟩
  · rw [pk_un (by omega), pk_un (by omega)]
  · rw [pk_un (by omega), pk_un (by omega), pk_un (by omega), pk_un (by omega), pk_un (by omega), pk_un (by omega)]
  · rw [Nat.mul_one, Nat.mul_one] at hi
    dsimp only
    rw [if_neg (show ¬ e0 * e1 * e2 = 0 by omega), Nat.mod_eq_of_lt hi]
    exact hN.2.2.2.2 i hi
theorem yo_rev (hM : M ≤ 32) (hs : s < 15) (ok : dr_ok M (r, e0, e1, e2, el)) (hV : yd_V yr ye yi yf s (r, e0, e1, e2, el))
    (K : ∀ yr' ye' yi' yf', yd_F 15 yr ye yi yf yr' ye' yi' yf' → yd_V yr' ye' yi' yf' 16 (r, e0, e1, e2, dr_rev r e0 e1 e2 el) → post 0 (nI M, yv, yt, yu, yp, yk, yw, yd, yr', ye', yi', yf', yq, yn, yh, yz)) :
    wpY_monadic post (nI M, yv, yt, yu, yp, yk, yw, yd, yr, ye, yi, yf, yq, yn, yh, yz) 2 12 (nI s) := by
  have k8 := ok.2.2.2.2.2.2.2.1
  have hrl := dr_rwle ok
  obtain ⟨b1, b2⟩ := dr_rw_le ok
  refine yo_open hM hs ok hV (by decide) ?_
  intro yi1 yf1 hw hN
  obtain ⟨v1, v2, v3, v4, v5⟩ := hV
  refine ⟨1, ?_⟩
  rw [wY_monadic_56]
  refine br_t (by decide) (ym_109 (by decide) (ym_173 (by decide) (ym_209 (by decide) ?_)))
  refine dr_lp2 (σ := (Nat → Int32) × (Nat → Int32)) (dr_rw r e0 e1) (dr_le r e0 e1 e2)
    (fun n i t => wY_monadic_229 post 12 (nI s) (nI (dr_le r e0 e1 e2)) (nI (dr_rw r e0 e1)) n (nI i) (nI M) yv yt yu yp yk yw yd (upd yr 16 (nI r)) (upd (upd (upd ye 48 (nI e0)) 49 (nI e1)) 50 (nI e2)) t.1 t.2 yq yn yh yz)
    (fun n i f j t => wY_monadic_245 post (wY_monadic_229 post 12 (nI s) (nI (dr_le r e0 e1 e2)) (nI (dr_rw r e0 e1)) n) 12 (nI s) (nI (dr_le r e0 e1 e2)) (nI (dr_rw r e0 e1)) (nI i) f (nI j) (nI M) yv yt yu yp yk yw yd (upd yr 16 (nI r)) (upd (upd (upd ye 48 (nI e0)) 49 (nI e1)) 50 (nI e2)) t.1 t.2 yq yn yh yz)
    (fun i t => dr_wr 512 (dr_rev r e0 e1 e2 el) yi1 yf1 i t.1 t.2)
    (fun n t hI => by
      rw [wY_monadic_229]
      refine br_t rfl (br_t (nI_le (Nat.le_refl _) (by omega)) (ym_290 (by decide) ?_))
      refine K _ _ _ _ ⟨fun s hs => pk_un (by omega), fun j hj => ?_, fun j hj => ?_⟩ ⟨hN.1, hN.2.1, hN.2.2.1, hN.2.2.2.1, fun i hi => ?_⟩
      · rw [pk_un (by omega), pk_un (by omega), pk_un (by omega)]
      · have o := hI.2 j (by omega)
        have o2 := hw.2 j (by omega)
        exact ⟨o.1.trans o2.1, o.2.trans o2.2⟩
      · rw [hrl] at hi
        exact hI.1 i hi)
    (fun n i t hi hW => by
      rw [wY_monadic_229]
      exact br_t rfl (br_f (nI_ge hi (by omega)) hW))
    (fun n i f t hi hW => by
      rw [wY_monadic_245]
      exact br_t (nI_le (Nat.le_refl _) (by omega)) (nm_r (nI_1 i) hW))
    (fun n i f j t hi hj hI hW => by
      rw [wY_monadic_245]
      have hb3 := dr_f2 hi hj
      have hb4 := dr_f2 (p := dr_le r e0 e1 e2 - 1 - j) hi (show dr_le r e0 e1 e2 - 1 - j < dr_le r e0 e1 e2 by omega)
      refine br_f (nI_ge hj (by omega)) ?_
      rw [pk_mul, nI_add, nI_add, na_s1 (by omega), pk_sub (by omega), show i * dr_le r e0 e1 e2 + dr_le r e0 e1 e2 - 1 - j = i * dr_le r e0 e1 e2 + (dr_le r e0 e1 e2 - 1 - j) by omega]
      refine ya_move (by omega) (by omega) ?_
      have o := hI.2 (s * 32 + (i * dr_le r e0 e1 e2 + (dr_le r e0 e1 e2 - 1 - j))) (by omega)
      have o2 := hw.2 (s * 32 + (i * dr_le r e0 e1 e2 + (dr_le r e0 e1 e2 - 1 - j))) (by omega)
      have o3 := v5 (i * dr_le r e0 e1 e2 + (dr_le r e0 e1 e2 - 1 - j)) (by rw [hrl]; exact hb4)
      dsimp only
      rw [o.1, o.2, o2.1, o2.2, o3.1, o3.2]
      refine nm_r (nI_1 j) (hW (_, _) (dr_wrs hI ?_))
      unfold dr_rev
      rw [dr_dv hj, dr_md hj])
    (yi1, yf1) dr_wr0
end
end
section
section
variable {yc yv yt yu yp : Int32} {yk yw yd yr ye yi yf yq yn yh yz : Nat → Int32}
theorem ya_index {post : Int32 → Prop} {s e0 e1 e2 : Nat} {a b c : Int32} (hs : s < 17) (h0 : ye (s * 3) = nI e0) (h1 : ye (s * 3 + 1) = nI e1) (h2 : ye (s * 3 + 2) = nI e2) (b0 : e0 ≤ 32) (b1 : e1 ≤ 32) (b2 : e2 ≤ 32)
    (hin : ∀ j0 j1 j2, j0 < e0 → j1 < e1 → j2 < e2 → a = nI j0 → b = nI j1 → c = nI j2 → post (nI ((j0 * e1 + j1) * e2 + j2)))
    (hout : (∀ j0 j1 j2, j0 < e0 → j1 < e1 → j2 < e2 → a = nI j0 → b = nI j1 → c = nI j2 → False) → post (-1)) : wpY_index post (yc, yv, yt, yu, yp, yk, yw, yd, yr, ye, yi, yf, yq, yn, yh, yz) (nI s) a b c := by
  unfold wpY_index
  dsimp only
  rw [na_mr3, nI_1, na_ap2, nI_clamp (show s * 3 < 2 ^ 31 by omega), nI_clamp (show s * 3 + 1 < 2 ^ 31 by omega), nI_clamp (show s * 3 + 2 < 2 ^ 31 by omega), h0, h1, h2]
  by_cases a0 : a < 0
  · exact br_t a0 (hout (fun j0 j1 j2 y0 y1 y2 x0 x1 x2 => nI_pos (by omega) (x0 ▸ a0)))
  refine br_f a0 ?_
  by_cases a1 : b < 0
  · exact br_t a1 (hout (fun j0 j1 j2 y0 y1 y2 x0 x1 x2 => nI_pos (by omega) (x1 ▸ a1)))
  refine br_f a1 ?_
  by_cases a2 : c < 0
  · exact br_t a2 (hout (fun j0 j1 j2 y0 y1 y2 x0 x1 x2 => nI_pos (by omega) (x2 ▸ a2)))
  refine br_f a2 ⟨vp_in_nI (by omega) (by omega), ?_⟩
  obtain ⟨j0, q0, rfl⟩ := nI_of a0
  obtain ⟨j1, q1, rfl⟩ := nI_of a1
  obtain ⟨j2, q2, rfl⟩ := nI_of a2
  rcases Nat.lt_or_ge j0 e0 with z0 | z0
  rotate_left
  · refine br_t (nI_le z0 q0) (hout (fun i0 i1 i2 y0 y1 y2 x0 x1 x2 => ?_))
    have := (nI_eq q0 (by omega)).mp x0
    omega
  refine br_f (nI_ge z0 (by omega)) ⟨vp_in_nI (by omega) (by omega), ?_⟩
  rcases Nat.lt_or_ge j1 e1 with z1 | z1
  rotate_left
  · refine br_t (nI_le z1 q1) (hout (fun i0 i1 i2 y0 y1 y2 x0 x1 x2 => ?_))
    have := (nI_eq q1 (by omega)).mp x1
    omega
  refine br_f (nI_ge z1 (by omega)) ⟨vp_in_nI (by omega) (by omega), ?_⟩
  rcases Nat.lt_or_ge j2 e2 with z2 | z2
  rotate_left
  · refine br_f (nI_nlt z2 q2) (hout (fun i0 i1 i2 y0 y1 y2 x0 x1 x2 => ?_))
    have := (nI_eq q2 (by omega)).mp x2
    omega
  refine br_t (nI_lt z2 (by omega)) ⟨vp_in_nI (by omega) (by omega), vp_in_nI (by omega) (by omega), ?_⟩
  rw [← dr_fl]
  exact hin j0 j1 j2 z0 z1 z2 rfl rfl rfl
variable {post : Int32 → SY → Prop}
theorem ys_584 {J1 J2 J3 : (Int32 → Int32 → Int32 → Int32 → Int32 → Int32 → Int32 → (Nat → Int32) → (Nat → Int32) → (Nat → Int32) → (Nat → Int32) → (Nat → Int32) → (Nat → Int32) → (Nat → Int32) → (Nat → Int32) → (Nat → Int32) → (Nat → Int32) → (Nat → Int32) → Prop)} {code x4 x8 x9 : Int32} {s t l : Nat} {v : dr_E} {x11 : Int32} (ht : t < 32) (hs : s < 15)
    (hx : (x11 = -1 ∧ v = (0, 0)) ∨ ∃ q, q < 32 ∧ x11 = nI q ∧ yi (s * 32 + q) = v.1 ∧ yf (s * 32 + q) = v.2)
    (K : J3 (nI (t + 1)) (nI (l + 1)) yc yv yt yu yp yk yw yd yr ye (upd yi (512 + t) v.1) (upd yf (512 + t) v.2) yq yn yh yz) :
    wY_structure_584 post J1 J2 J3 code (nI s) x4 (nI t) x8 x9 (nI l) x11 yc yv yt yu yp yk yw yd yr ye yi yf yq yn yh yz := by
  unfold wY_structure_584
  rcases hx with ⟨h1, h2⟩ | ⟨q, hq, h1, h2, h3⟩
  · refine br_t h1 ?_
    refine ya_set (s := 16) (by omega) ?_
    dsimp only
    rw [h2] at K
    exact nm_r (nI_1 t) (nm_r (nI_1 l) K)
  · rw [h1]
    refine br_f (fun z => (na_m1c (by omega)).mp z) ?_
    refine ya_move ht (by omega) ?_
    dsimp only
    rw [h2, h3]
    exact nm_r (nI_1 t) (nm_r (nI_1 l) K)
theorem ys_510 {J1 J2 J3 : (Int32 → Int32 → Int32 → Int32 → Int32 → Int32 → Int32 → (Nat → Int32) → (Nat → Int32) → (Nat → Int32) → (Nat → Int32) → (Nat → Int32) → (Nat → Int32) → (Nat → Int32) → (Nat → Int32) → (Nat → Int32) → (Nat → Int32) → (Nat → Int32) → Prop)} {code x4 x7 x8 x9 x10 : Int32} {s : Nat} {X : Nat → Int32}
    (hsrc : ∀ p yz (Q : Int32 → Prop), p < 3 → Q (X p) → wpY_source Q (yc, yv, yt, yu, yp, yk, yw, yd, yr, ye, yi, yf, yq, yn, yh, yz) code (nI p) (nI s))
    (K : ∀ yz, yz 0 = X 0 → yz 1 = X 1 → yz 2 = X 2 → wpY_index (fun r_60 => (((code = 9 → (((x4 ≤ 0 → (wY_structure_582 post J1 J2 J3 code (nI s) x4 x7 x8 x9 x10 (-1) yc yv yt yu yp yk yw yd yr ye yi yf yq yn yh yz)) ∧ (¬ x4 ≤ 0 → (¬ x4 = 0 ∧ (wY_structure_582 post J1 J2 J3 code (nI s) x4 x7 x8 x9 x10 (x7 - x7 / x4 * x4) yc yv yt yu yp yk yw yd yr ye yi yf yq yn yh yz)))))) ∧ (¬ code = 9 → (wY_structure_584 post J1 J2 J3 code (nI s) x4 x7 x8 x9 x10 r_60 yc yv yt yu yp yk yw yd yr ye yi yf yq yn yh yz))))) (yc, yv, yt, yu, yp, yk, yw, yd, yr, ye, yi, yf, yq, yn, yh, yz) (nI s) (yz 0) (yz 1) (yz 2)) :
    ∃ n, wY_structure_510 post J1 J2 J3 code (nI s) x4 x7 x8 x9 x10 yc yv yt yu yp n 0 yk yw yd yr ye yi yf yq yn yh yz := by
  have st : ∀ p n yz, p < 3 → (∀ yz', yz' p = X p → (∀ q, q ≠ p → yz' q = yz q) → wY_structure_510 post J1 J2 J3 code (nI s) x4 x7 x8 x9 x10 yc yv yt yu yp n (nI (p + 1)) yk yw yd yr ye yi yf yq yn yh yz') →
      wY_structure_510 post J1 J2 J3 code (nI s) x4 x7 x8 x9 x10 yc yv yt yu yp (n + 1) (nI p) yk yw yd yr ye yi yf yq yn yh yz := by
    intro p n yz hp k
    rw [wY_structure_510]
    refine br_f (nI_ge (b := 3) hp (by omega)) (hsrc p yz _ hp ?_)
    rw [nI_clamp (show p < 2 ^ 31 by omega)]
    exact ⟨vp_in_nI hp (by omega), nm_e (nm_r (nI_1 p) (k _ pk_us (fun q hq => pk_un hq)))⟩
  refine ⟨4, st 0 3 yz (by omega) (fun z1 a1 a2 => st 1 2 z1 (by omega) (fun z2 b1 b2 => st 2 1 z2 (by omega) (fun z3 c1 c2 => ?_)))⟩
  rw [wY_structure_510]
  refine br_t (nI_le (a := 3) (b := 3) (by omega) (by omega)) ?_
  exact K z3 ((c2 0 (by omega)).trans ((b2 0 (by omega)).trans a1)) ((c2 1 (by omega)).trans b1) c1
theorem ys_loops {code m : Int32} {s w0 w1 w2 : Nat} {g : Nat → dr_E} (h0 : yn 0 = nI w0) (h1 : yn 1 = nI w1) (h2 : yn 2 = nI w2) (b0 : w0 ≤ 32) (b1 : w1 ≤ 32) (b2 : w2 ≤ 32)
    (hstep : ∀ i j l yi' yf' yh yz (J1 J2 J3 : (Int32 → Int32 → Int32 → Int32 → Int32 → Int32 → Int32 → (Nat → Int32) → (Nat → Int32) → (Nat → Int32) → (Nat → Int32) → (Nat → Int32) → (Nat → Int32) → (Nat → Int32) → (Nat → Int32) → (Nat → Int32) → (Nat → Int32) → (Nat → Int32) → Prop)), i < w0 → j < w1 → l < w2 → dr_wr 512 g yi yf ((i * w1 + j) * w2 + l) yi' yf' → yh 0 = nI i → yh 1 = nI j → yh 2 = nI l →
      (∀ yz, J3 (nI ((i * w1 + j) * w2 + l + 1)) (nI (l + 1)) yc yv yt yu yp yk yw yd yr ye (upd yi' (512 + ((i * w1 + j) * w2 + l)) (g ((i * w1 + j) * w2 + l)).1) (upd yf' (512 + ((i * w1 + j) * w2 + l)) (g ((i * w1 + j) * w2 + l)).2) yq yn yh yz) →
      ∃ n, wY_structure_510 post J1 J2 J3 code (nI s) m (nI ((i * w1 + j) * w2 + l)) (nI i) (nI j) (nI l) yc yv yt yu yp n 0 yk yw yd yr ye yi' yf' yq yn yh yz)
    (K : ∀ yi' yf' yh yz, dr_wr 512 g yi yf (w0 * w1 * w2) yi' yf' → post 0 (yc, yv, yt, yu, yp, yk, yw, yd, yr, ye, yi', yf', yq, yn, yh, yz)) :
    ∃ n, wY_structure_444 post code (nI s) m n 0 0 yc yv yt yu yp yk yw yd yr ye yi yf yq yn yh yz :=
  dr_lp3 (σ := (Nat → Int32) × (Nat → Int32) × (Nat → Int32) × (Nat → Int32)) w0 w1 w2
    (fun f i0 t u => wY_structure_444 post code (nI s) m f (nI t) (nI i0) yc yv yt yu yp yk yw yd yr ye u.1 u.2.1 yq yn u.2.2.1 u.2.2.2)
    (fun f i0 f1 i1 t u => wY_structure_458 post (wY_structure_444 post code (nI s) m f) code (nI s) m (nI i0) f1 (nI t) (nI i1) yc yv yt yu yp yk yw yd yr ye u.1 u.2.1 yq yn u.2.2.1 u.2.2.2)
    (fun f i0 f1 i1 f2 i2 t u => wY_structure_472 post (wY_structure_444 post code (nI s) m f) (wY_structure_458 post (wY_structure_444 post code (nI s) m f) code (nI s) m (nI i0) f1) code (nI s) m (nI i0) (nI i1) f2 (nI t) (nI i2) yc yv yt yu yp yk yw yd yr ye u.1 u.2.1 yq yn u.2.2.1 u.2.2.2)
    (fun t u => dr_wr 512 g yi yf t u.1 u.2.1)
    (fun f u hI => by
      rw [wY_structure_444]
      dsimp only
      rw [h0]
      exact br_t (nI_le (Nat.le_refl _) (by omega)) (K _ _ _ _ hI))
    (fun f i0 t u hi hW => by
      rw [wY_structure_444]
      dsimp only
      rw [h0]
      exact br_f (nI_ge hi (by omega)) hW)
    (fun f i0 f1 t u hi hW => by
      rw [wY_structure_458]
      dsimp only
      rw [h1]
      exact br_t (nI_le (Nat.le_refl _) (by omega)) (nm_r (nI_1 i0) hW))
    (fun f i0 f1 i1 t u hi hj hW => by
      rw [wY_structure_458]
      dsimp only
      rw [h1]
      exact br_f (nI_ge hj (by omega)) hW)
    (fun f i0 f1 i1 f2 t u hi hj hW => by
      rw [wY_structure_472]
      dsimp only
      rw [h2]
      exact br_t (nI_le (Nat.le_refl _) (by omega)) (nm_r (nI_1 i1) hW))
    (fun f i0 f1 i1 f2 i2 u hi hj hl hI hW => by
      rw [wY_structure_472]
      dsimp only
      rw [h2]
      refine br_f (nI_ge hl (by omega)) (nm_e (nm_e (nm_e ?_)))
      exact hstep i0 i1 i2 _ _ _ _ _ _ _ hi hj hl hI rfl rfl rfl (fun yz => hW (_, _, _, yz) (dr_wrs hI rfl)))
    (yi, yf, yh, yz) dr_wr0
/-- one step of the controls -/
theorem ys_110_s {code m x5 x6 x7 z : Int32} {s n p q : Nat} (hp : p < 3) (hn : n ≤ 3) (hz1 : p < n → z = yi (480 + p)) (hz2 : ¬ p < n → z = if code = 11 then 0 else if code = 13 then 2 else 1)
    (hb : p < n → ((code = 9 ∧ z < 0) ∨ (code = 13 ∧ (z < 0 ∨ nI n ≤ z))) → post (-14) (yc, yv, yt, yu, yp, yk, yw, yd, yr, ye, yi, yf, upd yq p z, yn, yh, yz))
    (K : ¬ (p < n ∧ ((code = 9 ∧ z < 0) ∨ (code = 13 ∧ (z < 0 ∨ nI n ≤ z)))) → wY_structure_110 post code (nI s) (nI n) m x6 x7 yc yv yt yu yp q (if p < n then (if z ≤ x5 then x5 else z) else x5) (nI (p + 1)) yk yw yd yr ye yi yf (upd yq p z) yn yh yz) :
    wY_structure_110 post code (nI s) (nI n) m x6 x7 yc yv yt yu yp (q + 1) x5 (nI p) yk yw yd yr ye yi yf yq yn yh yz := by
  rw [wY_structure_110]
  refine br_f (nI_ge (b := 3) hp (by omega)) ?_
  have k216 : ¬ (p < n ∧ ((code = 9 ∧ z < 0) ∨ (code = 13 ∧ (z < 0 ∨ nI n ≤ z)))) → wY_structure_216 post (wY_structure_110 post code (nI s) (nI n) m x6 x7 yc yv yt yu yp q) code (nI s) (nI n) m x5 x6 x7 (nI p) yc yv yt yu yp yk yw yd yr ye yi yf (upd yq p z) yn yh yz := by
    intro h
    have K' := K h
    unfold wY_structure_216
    rw [nI_clamp (show p < 2 ^ 31 by omega), pk_us]
    rcases Nat.lt_or_ge p n with y | y
    · rw [if_pos y] at K'
      refine br_f (nI_ge y (by omega)) ⟨vp_in_nI hp (by omega), ?_⟩
      by_cases w : z ≤ x5
      · rw [if_pos w] at K'
        exact br_t w (nm_r (nI_1 p) K')
      · rw [if_neg w] at K'
        exact br_f w ⟨vp_in_nI hp (by omega), nm_e (nm_r (nI_1 p) K')⟩
    · rw [if_neg (by omega)] at K'
      exact br_t (nI_le y (by omega)) (nm_r (nI_1 p) K')
  have k163 : wY_structure_163 post (wY_structure_110 post code (nI s) (nI n) m x6 x7 yc yv yt yu yp q) code (nI s) (nI n) m x5 x6 x7 (nI p) z (nI p) yc yv yt yu yp yk yw yd yr ye yi yf yq yn yh yz := by
    unfold wY_structure_163
    rw [nI_clamp (show p < 2 ^ 31 by omega)]
    refine ⟨vp_in_nI hp (by omega), nm_e ?_⟩
    rcases Nat.lt_or_ge p n with y | y
    · refine br_f (nI_ge y (by omega)) ?_
      have k186 : ¬ (code = 9 ∧ z < 0) → wY_structure_186 post (wY_structure_110 post code (nI s) (nI n) m x6 x7 yc yv yt yu yp q) code (nI s) (nI n) m x5 x6 x7 (nI p) yc yv yt yu yp yk yw yd yr ye yi yf (upd yq p z) yn yh yz := by
        intro h9
        unfold wY_structure_186
        rw [nI_clamp (show p < 2 ^ 31 by omega), pk_us]
        by_cases c13 : code = 13
        · refine br_t c13 ⟨vp_in_nI hp (by omega), ?_⟩
          by_cases w1 : z < 0
          · exact br_t w1 (hb y (Or.inr ⟨c13, Or.inl w1⟩))
          · refine br_f w1 ⟨vp_in_nI hp (by omega), ?_⟩
            by_cases w2 : z < nI n
            · refine br_t w2 (k216 (fun h => ?_))
              rcases h.2 with w | w
              · exact h9 w
              · exact w.2.elim w1 (fun w3 => Int32.not_le.mpr w2 w3)
            · exact br_f w2 (hb y (Or.inr ⟨c13, Or.inr (Int32.not_lt.mp w2)⟩))
        · refine br_f c13 (k216 (fun h => ?_))
          rcases h.2 with w | w
          · exact h9 w
          · exact c13 w.1
      by_cases c9 : code = 9
      · refine br_t c9 ⟨vp_in_nI hp (by omega), ?_⟩
        rw [pk_us]
        by_cases w : z < 0
        · exact br_t w (hb y (Or.inl ⟨c9, w⟩))
        · exact br_f w (k186 (fun h => w h.2))
      · exact br_f c9 (k186 (fun h => c9 h.1))
    · exact br_t (nI_le y (by omega)) (k216 (fun h => by omega))
  rcases Nat.lt_or_ge p n with y | y
  · refine br_f (nI_ge y (by omega)) ?_
    rw [na_pa480, nI_clamp (show 480 + p < 2 ^ 31 by omega), ← hz1 y]
    exact ⟨vp_in_nI (by omega) (by omega), k163⟩
  · refine br_t (nI_le y (by omega)) ?_
    have hz := hz2 (by omega)
    by_cases c11 : code = 11
    · rw [if_pos c11] at hz
      rw [hz] at k163
      exact br_t c11 k163
    · rw [if_neg c11] at hz
      by_cases c13 : code = 13
      · rw [if_pos c13] at hz
        rw [hz] at k163
        exact br_f c11 (br_t c13 k163)
      · rw [if_neg c13] at hz
        rw [hz] at k163
        exact br_f c11 (br_f c13 k163)
def dr_G (n : Nat) (c : Nat → Int32) : Nat → Int32
  | 0 => -1
  | p + 1 => if p < n then (if c p ≤ dr_G n c p then dr_G n c p else c p) else dr_G n c p
/-- the controls -/
theorem ys_A {code m x6 x7 : Int32} {s n : Nat} {c : Nat → Int32} (hn : n ≤ 3) (hc : ∀ p, p < n → yi (480 + p) = c p)
    (hb : (∃ p, p < n ∧ ((code = 9 ∧ c p < 0) ∨ (code = 13 ∧ (c p < 0 ∨ nI n ≤ c p)))) → ∀ yq, post (-14) (yc, yv, yt, yu, yp, yk, yw, yd, yr, ye, yi, yf, yq, yn, yh, yz))
    (K : (¬ ∃ p, p < n ∧ ((code = 9 ∧ c p < 0) ∨ (code = 13 ∧ (c p < 0 ∨ nI n ≤ c p)))) → ∀ yq, (∀ p, p < n → yq p = c p) → (∀ p, n ≤ p → p < 3 → yq p = if code = 11 then 0 else if code = 13 then 2 else 1) →
      ∃ q, wY_structure_252 post code (nI s) (nI n) m (dr_G n c 3) x7 yc yv yt yu yp q x6 0 yk yw yd yr ye yi yf yq yn yh yz) :
    ∃ q, wY_structure_110 post code (nI s) (nI n) m x6 x7 yc yv yt yu yp q (-1) 0 yk yw yd yr ye yi yf yq yn yh yz := by
  have z : ∀ p, ∃ z, (p < n → z = yi (480 + p) ∧ z = c p) ∧ (¬ p < n → z = if code = 11 then 0 else if code = 13 then 2 else 1) := by
    intro p
    rcases Nat.lt_or_ge p n with y | y
    · exact ⟨c p, fun _ => ⟨(hc p y).symm, rfl⟩, fun h => absurd y h⟩
    · exact ⟨_, fun h => by omega, fun _ => rfl⟩
  obtain ⟨z0, p0, q0⟩ := z 0
  obtain ⟨z1, p1, q1⟩ := z 1
  obtain ⟨z2, p2, q2⟩ := z 2
  have e : ∀ p zp x5, (p < n → zp = yi (480 + p) ∧ zp = c p) → (if p < n then (if zp ≤ x5 then x5 else zp) else x5) = if p < n then (if c p ≤ x5 then x5 else c p) else x5 := by
    intro p zp x5 h
    by_cases y : p < n
    · rw [if_pos y, if_pos y, (h y).2]
    · rw [if_neg y, if_neg y]
  refine ⟨4, ys_110_s (p := 0) (z := z0) (by omega) hn (fun h => (p0 h).1) q0 (fun h w => hb ⟨0, h, by rw [← (p0 h).2]; exact w⟩ _) (fun g0 => ?_)⟩
  refine ys_110_s (p := 1) (z := z1) (by omega) hn (fun h => (p1 h).1) q1 (fun h w => hb ⟨1, h, by rw [← (p1 h).2]; exact w⟩ _) (fun g1 => ?_)
  refine ys_110_s (p := 2) (z := z2) (by omega) hn (fun h => (p2 h).1) q2 (fun h w => hb ⟨2, h, by rw [← (p2 h).2]; exact w⟩ _) (fun g2 => ?_)
  rw [e 2 z2 _ p2, e 1 z1 _ p1, e 0 z0 _ p0]
  rw [wY_structure_110]
  refine br_t (nI_le (a := 3) (b := 3) (by omega) (by omega)) ?_
  refine K ?_ _ ?_ ?_
  · rintro ⟨p, hp, w⟩
    rcases (show p = 0 ∨ p = 1 ∨ p = 2 by omega) with rfl | rfl | rfl
    · exact g0 ⟨hp, by rw [(p0 hp).2]; exact w⟩
    · exact g1 ⟨hp, by rw [(p1 hp).2]; exact w⟩
    · exact g2 ⟨hp, by rw [(p2 hp).2]; exact w⟩
  · intro p hp
    rcases (show p = 0 ∨ p = 1 ∨ p = 2 by omega) with rfl | rfl | rfl
    · exact dr_u30.trans (p0 hp).2
    · exact dr_u31.trans (p1 hp).2
    · exact dr_u32.trans (p2 hp).2
  · intro p hp hp3
    rcases (show p = 0 ∨ p = 1 ∨ p = 2 by omega) with rfl | rfl | rfl
    · exact dr_u30.trans (q0 (by omega))
    · exact dr_u31.trans (q1 (by omega))
    · exact dr_u32.trans (q2 (by omega))
/-- one step of the wanted extents -/
theorem ys_252_s {code m x3 x5 x6 x7 W : Int32} {M s q n : Nat} (hq : q < 3) (hr : (code = 9 ∨ code = 10) → (nI M < yq q ∨ yq q < -nI M) → post (-15) (nI M, yv, yt, yu, yp, yk, yw, yd, yr, ye, yi, yf, yq, yn, yh, yz))
    (hw : ∀ Q : Int32 → Prop, Q W → wpY_wanted Q (nI M, yv, yt, yu, yp, yk, yw, yd, yr, ye, yi, yf, yq, yn, yh, yz) code (nI q) x3 (nI s)) (hd : W = -1 → ¬ x5 < nI q → ∀ yn, post (-14) (nI M, yv, yt, yu, yp, yk, yw, yd, yr, ye, yi, yf, yq, yn, yh, yz))
    (K : ¬ ((code = 9 ∨ code = 10) ∧ (nI M < yq q ∨ yq q < -nI M)) → ¬ (W = -1 ∧ ¬ x5 < nI q) → ∀ yn', yn' q = (if W = -1 then 1 else W) → (∀ p, p ≠ q → yn' p = yn p) → wY_structure_252 post code (nI s) x3 m x5 x7 (nI M) yv yt yu yp n (x6 * (if W = -1 then 1 else W)) (nI (q + 1)) yk yw yd yr ye yi yf yq yn' yh yz) :
    wY_structure_252 post code (nI s) x3 m x5 x7 (nI M) yv yt yu yp (n + 1) x6 (nI q) yk yw yd yr ye yi yf yq yn yh yz := by
  rw [wY_structure_252]
  refine br_f (nI_ge (b := 3) hq (by omega)) ?_
  have k302 : ¬ ((code = 9 ∨ code = 10) ∧ (nI M < yq q ∨ yq q < -nI M)) → wY_structure_302 post (wY_structure_252 post code (nI s) x3 m x5 x7 (nI M) yv yt yu yp n) code (nI s) x3 m x5 x6 x7 (nI q) (nI M) yv yt yu yp yk yw yd yr ye yi yf yq yn yh yz := by
    intro hok
    unfold wY_structure_302
    refine hw _ ?_
    rw [nI_clamp (show q < 2 ^ 31 by omega)]
    refine ⟨vp_in_nI hq (by omega), nm_e ⟨vp_in_nI hq (by omega), ?_⟩⟩
    rw [pk_us]
    have k339 : ¬ (W = -1 ∧ ¬ x5 < nI q) → wY_structure_339 post (wY_structure_252 post code (nI s) x3 m x5 x7 (nI M) yv yt yu yp n) code (nI s) x3 m x5 x6 x7 (nI q) (nI M) yv yt yu yp yk yw yd yr ye yi yf yq (upd yn q W) yh yz := by
      intro hok2
      have K' := K hok hok2
      unfold wY_structure_339 wY_structure_358
      rw [nI_clamp (show q < 2 ^ 31 by omega), pk_us]
      refine ⟨vp_in_nI hq (by omega), ?_⟩
      by_cases w : W = -1
      · simp only [w, if_true] at K'
        refine br_t w ⟨vp_in_nI hq (by omega), nm_e ⟨vp_in_nI hq (by omega), ?_⟩⟩
        rw [pk_us]
        exact nm_e (nm_r (nI_1 q) (K' _ pk_us (fun p hp => (pk_un hp).trans (pk_un hp))))
      · simp only [w, if_false] at K'
        exact br_f w ⟨vp_in_nI hq (by omega), nm_e (nm_r (nI_1 q) (K' _ pk_us (fun p hp => pk_un hp)))⟩
    by_cases w : W = -1
    · refine br_t w ?_
      by_cases w2 : x5 < nI q
      · exact br_t w2 (k339 (fun h => h.2 w2))
      · exact br_f w2 (hd w w2 _)
    · exact br_f w (k339 (fun h => w h.1))
  have k270 : (code = 9 ∨ code = 10) → wY_structure_270 post (wY_structure_252 post code (nI s) x3 m x5 x7 (nI M) yv yt yu yp n) code (nI s) x3 m x5 x6 x7 (nI q) (nI M) yv yt yu yp yk yw yd yr ye yi yf yq yn yh yz := by
    intro hcd
    unfold wY_structure_270
    rw [nI_clamp (show q < 2 ^ 31 by omega)]
    refine ⟨vp_in_nI hq (by omega), ?_⟩
    by_cases w1 : nI M < yq q
    · exact br_t w1 (hr hcd (Or.inl w1))
    · refine br_f w1 ⟨vp_in_nI hq (by omega), ?_⟩
      by_cases w2 : -nI M ≤ yq q
      · exact br_t w2 (k302 (fun h => h.2.elim w1 (fun w => Int32.not_le.mpr w w2)))
      · exact br_f w2 (hr hcd (Or.inr (Int32.not_le.mp w2)))
  by_cases c9 : code = 9
  · exact br_t c9 (k270 (Or.inl c9))
  · refine br_f c9 ?_
    by_cases c10 : code = 10
    · exact br_t c10 (k270 (Or.inr c10))
    · exact br_f c10 (k302 (fun h => h.1.elim c9 c10))
end
end
section
theorem dr_i32_inj {x : Int32} {n : Nat} (hn : n < 2 ^ 31) (h : x.toInt = n) : x = nI n := by
  apply Int32.toInt_inj.mp
  rw [h, nI_toInt hn]
section
variable {post : Int32 → SY → Prop} {M s r e0 e1 e2 rl l0 l1 l2 : Nat} {el lel : Nat → dr_E} {yc yv yt yu yp : Int32} {yk yw yd yr ye yi yf yq yn yh yz : Nat → Int32}
theorem ys_head {code : Nat} (hcode : 9 ≤ code ∧ code ≤ 13) (hs : s < 15) (hM : M ≤ 32) (okL : dr_ok M (rl, l0, l1, l2, lel)) (okR : dr_ok M (r, e0, e1, e2, el)) (hL : yd_V yr ye yi yf 15 (rl, l0, l1, l2, lel)) (hR : yd_V yr ye yi yf s (r, e0, e1, e2, el))
    (K11 : 1 < rl → post (-11) (yc, yv, yt, yu, yp, yk, yw, yd, yr, ye, yi, yf, yq, yn, yh, yz)) (K12 : ¬ 1 < rl → ¬ (if code = 9 then l0 ≤ 3 else l0 = (if code = 12 then 1 else r)) → post (-12) (yc, yv, yt, yu, yp, yk, yw, yd, yr, ye, yi, yf, yq, yn, yh, yz))
    (K13 : ¬ 1 < rl → (if code = 9 then l0 ≤ 3 else l0 = (if code = 12 then 1 else r)) → (∃ j, j < l0 ∧ (lel j).2 ≠ 0) → post (-13) (yc, yv, yt, yu, yp, yk, yw, yd, yr, ye, yi, yf, yq, yn, yh, yz))
    (K : ¬ 1 < rl → (if code = 9 then l0 ≤ 3 else l0 = (if code = 12 then 1 else r)) → l0 ≤ 3 → (¬ ∃ j, j < l0 ∧ (lel j).2 ≠ 0) → (∀ p, p < l0 → yi (480 + p) = (lel p).1) → ∃ n, wY_structure_110 post (nI code) (nI s) (nI l0) (nI (e0 * e1 * e2)) 1 0 yc yv yt yu yp n (-1) 0 yk yw yd yr ye yi yf yq yn yh yz) :
    wpY_structure post (yc, yv, yt, yu, yp, yk, yw, yd, yr, ye, yi, yf, yq, yn, yh, yz) (nI code) (nI s) := by
  obtain ⟨v1, v2, v3, v4, v5⟩ := hR
  obtain ⟨u1, u2, u3, u4, u5⟩ := hL
  obtain ⟨k1, k2, k3, k4, k5, k6, k7, k8, k9⟩ := okL
  have r3 := okR.1
  have e1' : ye 45 = nI l0 := u2
  have e2' : yr 15 = nI rl := u1
  unfold wpY_structure
  dsimp only
  rw [e1', e2']
  refine nm_e ?_
  refine ya_size (by omega) ?_
  rw [v2, v3, v4, pk_mul, pk_mul]
  by_cases hr : 1 < rl
  · exact br_f (nI_ge (b := rl) (a := 1) hr (by omega)) (K11 hr)
  refine br_t (nI_le (b := 1) (by omega) (by omega)) ?_
  have q1 := k6 (by omega)
  have q2 := k7 (by omega)
  subst q1 q2
  rw [Nat.mul_one, Nat.mul_one] at u5
  have k78 : (if code = 9 then l0 ≤ 3 else l0 = (if code = 12 then 1 else r)) → ∃ n, wY_structure_78 post (nI code) (nI s) (nI l0) (nI (e0 * e1 * e2)) (-1) 1 0 yc yv yt yu yp yk yw yd yr ye yi yf yq yn yh yz n 0 := by
    intro hcond
    have l3 : l0 ≤ 3 := by
      by_cases c9 : code = 9
      · rw [if_pos c9] at hcond; exact hcond
      · rw [if_neg c9] at hcond
        by_cases c12 : code = 12
        · rw [if_pos c12] at hcond; omega
        · rw [if_neg c12] at hcond; omega
    exact dr_lp1 (σ := Unit) l0 (fun n i _ => wY_structure_78 post (nI code) (nI s) (nI l0) (nI (e0 * e1 * e2)) (-1) 1 0 yc yv yt yu yp yk yw yd yr ye yi yf yq yn yh yz n (nI i)) (fun i _ => ∀ j, j < i → (lel j).2 = 0)
      (fun n _ hI => by
        rw [wY_structure_78]
        refine br_t (nI_le (Nat.le_refl _) (by omega)) (K hr hcond l3 ?_ (fun p hp => (u5 p hp).1))
        rintro ⟨j, hj, w⟩
        exact w (hI j hj))
      (fun n i _ hi hI hW => by
        rw [wY_structure_78]
        refine br_f (nI_ge hi (by omega)) ?_
        have o := (u5 i hi).2
        rw [na_pa480, nI_clamp (show 480 + i < 2 ^ 31 by omega), o]
        refine ⟨vp_in_nI (by omega) (by omega), ?_⟩
        by_cases w : (lel i).2 = 0
        · refine br_t w (nm_r (nI_1 i) (hW () (fun j hj => ?_)))
          rcases Nat.lt_or_ge j i with y | y
          · exact hI j y
          · have e : j = i := by omega
            rw [e]; exact w
        · exact br_f w (K13 hr hcond ⟨i, hi, w⟩))
      0 (Nat.zero_le _) () (fun j hj => by omega)
  have k69 : ∀ z0 : Nat, z0 ≤ 3 → (l0 = z0 ↔ (if code = 9 then l0 ≤ 3 else l0 = (if code = 12 then 1 else r))) → wY_structure_69 post (nI code) (nI s) (nI l0) (nI (e0 * e1 * e2)) (-1) 1 0 (nI z0) (nI l0) yc yv yt yu yp yk yw yd yr ye yi yf yq yn yh yz := by
    intro z0 hz h
    unfold wY_structure_69
    by_cases w : l0 = z0
    · exact br_t (congrArg nI w) (k78 (h.mp w))
    · exact br_f (fun y => w ((nI_eq (by omega) (by omega)).mp y)) (K12 hr (fun y => w (h.mpr y)))
  rcases (show code = 9 ∨ code = 10 ∨ code = 11 ∨ code = 12 ∨ code = 13 by omega) with rfl | rfl | rfl | rfl | rfl
  · refine br_t rfl ?_
    rcases Nat.lt_or_ge 3 l0 with y | y
    · exact br_f (nI_ge (a := 3) y (by omega)) (K12 hr (by rw [if_pos rfl]; omega))
    · exact br_t (nI_le (b := 3) y (by omega)) (k78 (by rw [if_pos rfl]; exact y))
  · refine br_f (by decide) (br_f (by decide) ⟨vp_in_nI (by omega) (by omega), ?_⟩)
    rw [nI_clamp (show s < 2 ^ 31 by omega), v1]
    exact k69 r r3 (by simp)
  · refine br_f (by decide) (br_f (by decide) ⟨vp_in_nI (by omega) (by omega), ?_⟩)
    rw [nI_clamp (show s < 2 ^ 31 by omega), v1]
    exact k69 r r3 (by simp)
  · exact br_f (by decide) (br_t rfl (k69 1 (by omega) (by simp)))
  · refine br_f (by decide) (br_f (by decide) ⟨vp_in_nI (by omega) (by omega), ?_⟩)
    rw [nI_clamp (show s < 2 ^ 31 by omega), v1]
    exact k69 r r3 (by simp)
theorem ys_252_e {code m x5 : Int32} {n q w0 w1 w2 r' : Nat} {g : Nat → dr_E} (hs : s < 15) (hM : M ≤ 32) (hn : n < 2 ^ 31)
    (hrk : (code = 9 → n = r') ∧ (¬ code = 9 → code = 13 → x5 + 1 = nI r') ∧ (¬ code = 9 → ¬ code = 13 → yr s = nI r'))
    (h0 : yn 0 = nI w0) (h1 : yn 1 = nI w1) (h2 : yn 2 = nI w2) (b0 : w0 ≤ 32) (b1 : w1 ≤ 32) (b2 : w2 ≤ 32) (hbig : w0 * w1 * w2 < 2 ^ 31) (hp : M < w0 * w1 * w2 → post (-15) (nI M, yv, yt, yu, yp, yk, yw, yd, yr, ye, yi, yf, yq, yn, yh, yz))
    (hstep : w0 * w1 * w2 ≤ M → ∀ i j l yi' yf' yh yz (J1 J2 J3 : (Int32 → Int32 → Int32 → Int32 → Int32 → Int32 → Int32 → (Nat → Int32) → (Nat → Int32) → (Nat → Int32) → (Nat → Int32) → (Nat → Int32) → (Nat → Int32) → (Nat → Int32) → (Nat → Int32) → (Nat → Int32) → (Nat → Int32) → (Nat → Int32) → Prop)), i < w0 → j < w1 → l < w2 → dr_wr 512 g yi yf ((i * w1 + j) * w2 + l) yi' yf' → yh 0 = nI i → yh 1 = nI j → yh 2 = nI l →
      (∀ yz, J3 (nI ((i * w1 + j) * w2 + l + 1)) (nI (l + 1)) (nI M) yv yt yu yp yk yw yd (upd yr 16 (nI r')) (upd (upd (upd ye 48 (nI w0)) 49 (nI w1)) 50 (nI w2)) (upd yi' (512 + ((i * w1 + j) * w2 + l)) (g ((i * w1 + j) * w2 + l)).1) (upd yf' (512 + ((i * w1 + j) * w2 + l)) (g ((i * w1 + j) * w2 + l)).2) yq yn yh yz) →
      ∃ n, wY_structure_510 post J1 J2 J3 code (nI s) m (nI ((i * w1 + j) * w2 + l)) (nI i) (nI j) (nI l) (nI M) yv yt yu yp n 0 yk yw yd (upd yr 16 (nI r')) (upd (upd (upd ye 48 (nI w0)) 49 (nI w1)) 50 (nI w2)) yi' yf' yq yn yh yz)
    (K : w0 * w1 * w2 ≤ M → ∀ yr' ye' yi' yf' yh yz, yd_F 15 yr ye yi yf yr' ye' yi' yf' → yd_V yr' ye' yi' yf' 16 (r', w0, w1, w2, g) → post 0 (nI M, yv, yt, yu, yp, yk, yw, yd, yr', ye', yi', yf', yq, yn, yh, yz)) :
    wY_structure_252 post code (nI s) (nI n) m x5 0 (nI M) yv yt yu yp (q + 1) (nI (w0 * w1 * w2)) (nI 3) yk yw yd yr ye yi yf yq yn yh yz := by
  rw [wY_structure_252]
  refine br_t (nI_le (a := 3) (b := 3) (by omega) (by omega)) ?_
  rcases Nat.lt_or_ge M (w0 * w1 * w2) with y | y
  · exact br_f (nI_ge y hbig) (hp y)
  refine br_t (nI_le y (by omega)) ?_
  have k420 : wY_structure_420 post code (nI s) m 0 (nI r') 16 (nI M) yv yt yu yp yk yw yd yr ye yi yf yq yn yh yz := by
    unfold wY_structure_420
    refine ya_shape (s := 16) (by omega) ?_
    dsimp only
    rw [h0, h1, h2]
    refine ys_loops (w0 := w0) (w1 := w1) (w2 := w2) (g := g) h0 h1 h2 b0 b1 b2 (hstep y) ?_
    intro yi' yf' yh' yz' hw
    refine K y _ _ _ _ _ _ ⟨fun s hs => pk_un (by omega), fun j hj => ?_, fun j hj => hw.2 j (by omega)⟩ ⟨pk_us, dr_u30, dr_u31, dr_u32, fun i hi => hw.1 i hi⟩
    rw [pk_un (by omega), pk_un (by omega), pk_un (by omega)]
  by_cases c9 : code = 9
  · rw [hrk.1 c9]
    exact br_t c9 k420
  · refine br_f c9 ?_
    by_cases c13 : code = 13
    · rw [hrk.2.1 c9 c13]
      exact br_t c13 k420
    · refine br_f c13 ⟨vp_in_nI (by omega) (by omega), ?_⟩
      rw [nI_clamp (show s < 2 ^ 31 by omega), hrk.2.2 c9 c13]
      exact k420
/-- a step of the result by indices (all codes but reshape) -/
theorem ys_step_g {J1 J2 J3 : (Int32 → Int32 → Int32 → Int32 → Int32 → Int32 → Int32 → (Nat → Int32) → (Nat → Int32) → (Nat → Int32) → (Nat → Int32) → (Nat → Int32) → (Nat → Int32) → (Nat → Int32) → (Nat → Int32) → (Nat → Int32) → (Nat → Int32) → (Nat → Int32) → Prop)} {code m : Int32} {i j l t : Nat} {σ : Nat → Nat → Nat → Nat → Int} {X : Nat → Int32} {v : dr_E} (hs : s < 15) (ht : t < 32) (hM : M ≤ 32) (ok : dr_ok M (r, e0, e1, e2, el)) (hc9 : ¬ code = 9)
    (h0 : ye (s * 3) = nI e0) (h1 : ye (s * 3 + 1) = nI e1) (h2 : ye (s * 3 + 2) = nI e2) (hel : ∀ i, i < e0 * e1 * e2 → yi (s * 32 + i) = (el i).1 ∧ yf (s * 32 + i) = (el i).2)
    (hsrc : ∀ p yz (Q : Int32 → Prop), p < 3 → Q (X p) → wpY_source Q (yc, yv, yt, yu, yp, yk, yw, yd, yr, ye, yi, yf, yq, yn, yh, yz) code (nI p) (nI s)) (hX : ∀ p, p < 3 → (X p).toInt = σ p i j l) (hv : v = dr_gth σ e0 e1 e2 el i j l)
    (K : ∀ yz, J3 (nI (t + 1)) (nI (l + 1)) yc yv yt yu yp yk yw yd yr ye (upd yi (512 + t) v.1) (upd yf (512 + t) v.2) yq yn yh yz) :
    ∃ n, wY_structure_510 post J1 J2 J3 code (nI s) m (nI t) (nI i) (nI j) (nI l) yc yv yt yu yp n 0 yk yw yd yr ye yi yf yq yn yh yz := by
  obtain ⟨k1, k2, k3, k4, k5, k6, k7, k8, k9⟩ := ok
  refine ys_510 hsrc ?_
  intro yz q0 q1 q2
  rw [q0, q1, q2]
  refine ya_index (by omega) h0 h1 h2 k2 k3 k4 ?_ ?_
  · intro j0 j1 j2 y0 y1 y2 x0 x1 x2
    refine br_f hc9 ?_
    have z0 := hX 0 (by omega)
    have z1 := hX 1 (by omega)
    have z2 := hX 2 (by omega)
    rw [x0, nI_toInt (by omega)] at z0
    rw [x1, nI_toInt (by omega)] at z1
    rw [x2, nI_toInt (by omega)] at z2
    have hf := dr_f3 y0 y1 y2
    have hv' := hv.trans (dr_gth_in z0.symm z1.symm z2.symm y0 y1 y2)
    refine ys_584 (v := v) ht hs (Or.inr ⟨_, by omega, rfl, ?_, ?_⟩) (K yz)
    · rw [hv']; exact (hel _ hf).1
    · rw [hv']; exact (hel _ hf).2
  · intro hno
    refine br_f hc9 ?_
    refine ys_584 (v := v) ht hs (Or.inl ⟨rfl, hv.trans (dr_gth_out (fun x0 x1 x2 y0 y1 y2 z0 z1 z2 => ?_))⟩) (K yz)
    rw [← hX 0 (by omega)] at z0
    rw [← hX 1 (by omega)] at z1
    rw [← hX 2 (by omega)] at z2
    exact hno x0 x1 x2 y0 y1 y2 (dr_i32_inj (by omega) z0) (dr_i32_inj (by omega) z1) (dr_i32_inj (by omega) z2)
end
section
variable {post : Int32 → Prop} {s p : Nat} {yc yv yt yu yp : Int32} {yk yw yd yr ye yi yf yq yn yh yz : Nat → Int32}
theorem ya_src9 (hp : p < 3) (hs : s < 17) (K : post (yh p)) : wpY_source post (yc, yv, yt, yu, yp, yk, yw, yd, yr, ye, yi, yf, yq, yn, yh, yz) 9 (nI p) (nI s) := by
  unfold wpY_source wY_source_108
  dsimp only
  rw [nI_clamp (show p < 2 ^ 31 by omega), na_mr3, nI_add, nI_clamp (show s * 3 + p < 2 ^ 31 by omega)]
  exact ⟨vp_in_nI hp (by omega), nm_e ⟨vp_in_nI (by omega) (by omega), nm_e (br_f (by decide) (br_f (by decide) (br_f (by decide) (br_f (by decide) ⟨vp_in_nI hp (by omega), K⟩))))⟩⟩
theorem ya_src10 (hp : p < 3) (hs : s < 17) (K : post (if yq p < 0 then yh p + ye (s * 3 + p) + yq p else yh p)) : wpY_source post (yc, yv, yt, yu, yp, yk, yw, yd, yr, ye, yi, yf, yq, yn, yh, yz) 10 (nI p) (nI s) := by
  unfold wpY_source
  dsimp only
  rw [nI_clamp (show p < 2 ^ 31 by omega), na_mr3, nI_add, nI_clamp (show s * 3 + p < 2 ^ 31 by omega)]
  refine ⟨vp_in_nI hp (by omega), nm_e ⟨vp_in_nI (by omega) (by omega), nm_e (br_t rfl ?_)⟩⟩
  by_cases w : yq p < 0
  · rw [if_pos w] at K
    exact br_t w ⟨vp_in_nI hp (by omega), K⟩
  · rw [if_neg w] at K
    exact br_f w ⟨vp_in_nI hp (by omega), K⟩
theorem ya_src11 (hp : p < 3) (hs : s < 17) (K : post (if yq p < 0 then yh p else yh p + yq p)) : wpY_source post (yc, yv, yt, yu, yp, yk, yw, yd, yr, ye, yi, yf, yq, yn, yh, yz) 11 (nI p) (nI s) := by
  unfold wpY_source
  dsimp only
  rw [nI_clamp (show p < 2 ^ 31 by omega), na_mr3, nI_add, nI_clamp (show s * 3 + p < 2 ^ 31 by omega)]
  refine ⟨vp_in_nI hp (by omega), nm_e ⟨vp_in_nI (by omega) (by omega), nm_e (br_f (by decide) (br_t rfl ?_))⟩⟩
  by_cases w : yq p < 0
  · rw [if_pos w] at K
    exact br_t w ⟨vp_in_nI hp (by omega), K⟩
  · rw [if_neg w] at K
    exact br_f w ⟨vp_in_nI hp (by omega), K⟩
theorem ya_src13 {d : Nat} (hp : p < 3) (hs : s < 17) (hd : yq p = nI d) (hd3 : d < 3) (K : post (yh d)) : wpY_source post (yc, yv, yt, yu, yp, yk, yw, yd, yr, ye, yi, yf, yq, yn, yh, yz) 13 (nI p) (nI s) := by
  unfold wpY_source
  dsimp only
  rw [nI_clamp (show p < 2 ^ 31 by omega), na_mr3, nI_add, nI_clamp (show s * 3 + p < 2 ^ 31 by omega), hd]
  refine ⟨vp_in_nI hp (by omega), nm_e ⟨vp_in_nI (by omega) (by omega), nm_e (br_f (by decide) (br_f (by decide) (br_t rfl ?_)))⟩⟩
  refine br_f (nI_pos (by omega)) (br_f (nI_ge (b := 3) hd3 (by omega)) ?_)
  rw [nI_clamp (show d < 2 ^ 31 by omega)]
  exact ⟨vp_in_nI hd3 (by omega), K⟩
theorem dr_rem64 {h c : Int32} {e i : Nat} (hi : i ≤ 32) (hh : h = nI i) (he : 0 < e) (he32 : e ≤ 32) (x : Int64) (hx : x = (h.toInt64 + c.toInt64) - (h.toInt64 + c.toInt64) / (nI e).toInt64 * (nI e).toInt64) :
    (0 ≤ x → x.toInt32 = nI (((i : Int) + c.toInt) % e).toNat) ∧ (¬ 0 ≤ x → (x + (nI e).toInt64).toInt32 = nI (((i : Int) + c.toInt) % e).toNat) := by
  have c1 := c.le_toInt
  have c2 := c.toInt_lt
  have a1 : (h.toInt64 + c.toInt64).toInt = (i : Int) + c.toInt := by
    rw [Int64.toInt_add, Int32.toInt_toInt64, Int32.toInt_toInt64, hh, nI_toInt (by omega)]
    exact Int.bmod_eq_of_le (by omega) (by omega)
  have a2 : (nI e).toInt64.toInt = (e : Int) := by rw [Int32.toInt_toInt64, nI_toInt (by omega)]
  generalize (h.toInt64 + c.toInt64) = y at a1 hx
  have a3 : (y / (nI e).toInt64).toInt = y.toInt.tdiv e := by
    rw [Int64.toInt_div, a2]
    have : (y.toInt.tdiv e).natAbs ≤ y.toInt.natAbs := by
      rw [Int.natAbs_tdiv]; exact Nat.div_le_self _ _
    exact Int.bmod_eq_of_le (by omega) (by omega)
  have a4 : x.toInt = y.toInt.tmod e := by
    rw [hx, Int64.toInt_sub, Int64.toInt_mul, a3, a2]
    have h1 := Int.tmod_add_tdiv_mul y.toInt e
    have h2 : (y.toInt.tdiv e * e).natAbs ≤ y.toInt.natAbs := by
      rw [Int.natAbs_mul, Int.natAbs_tdiv]
      exact Nat.div_mul_le_self y.toInt.natAbs (e : Int).natAbs
    have h3 : (y.toInt.tdiv e * e).bmod (2 ^ 64) = y.toInt.tdiv e * e := Int.bmod_eq_of_le (by omega) (by omega)
    rw [h3]
    have h4 : y.toInt - y.toInt.tdiv e * e = y.toInt.tmod e := by omega
    rw [h4]
    have h5 : (y.toInt.tmod e).natAbs ≤ y.toInt.natAbs := by
      rw [Int.natAbs_tmod]; exact Nat.mod_le _ _
    exact Int.bmod_eq_of_le (by omega) (by omega)
  have b1 : (y.toInt.tmod e).natAbs < e := by
    rw [Int.natAbs_tmod]
    exact Nat.mod_lt _ (by simpa using he)
  have b2 := Int.emod_nonneg y.toInt (show (e : Int) ≠ 0 by omega)
  have b3 := Int.emod_lt_of_pos y.toInt (show (0 : Int) < e by omega)
  have b4 : y.toInt % e = if 0 ≤ y.toInt.tmod e then y.toInt.tmod e else y.toInt.tmod e + e := by
    have d1 := Int.tmod_add_tdiv_mul y.toInt e
    have d2 := Int.emod_add_ediv_mul y.toInt e
    split
    · rename_i z
      have := Int.emod_emod_of_dvd y.toInt (show (e : Int) ∣ e from Int.dvd_refl _)
      have w : y.toInt % e = (y.toInt.tmod e) % e := by
        conv => lhs; rw [← d1]
        rw [Int.add_mul_emod_self_right]
      rw [w, Int.emod_eq_of_lt z (by omega)]
    · rename_i z
      have w : y.toInt % e = (y.toInt.tmod e + e) % e := by
        conv => lhs; rw [← d1]
        rw [Int.add_mul_emod_self_right, Int.add_emod_right]
      rw [w, Int.emod_eq_of_lt (by omega) (by omega)]
  rw [← a1]
  have lx : (0 ≤ x) ↔ 0 ≤ x.toInt := by rw [Int64.le_iff_toInt_le]; rfl
  refine ⟨fun hx0 => ?_, fun hx0 => ?_⟩
  · rw [lx, a4] at hx0
    apply Int32.toInt_inj.mp
    rw [Int64.toInt_toInt32, a4, nI_toInt (by omega), b4, if_pos hx0]
    rw [Int.bmod_eq_of_le (by omega) (by omega)]
    omega
  · rw [lx, a4] at hx0
    apply Int32.toInt_inj.mp
    rw [Int64.toInt_toInt32, Int64.toInt_add, a4, a2, nI_toInt (by omega), b4, if_neg hx0]
    have hb : (y.toInt.tmod e + e).bmod (2 ^ 64) = y.toInt.tmod e + e := Int.bmod_eq_of_le (by omega) (by omega)
    rw [hb, Int.bmod_eq_of_le (by omega) (by omega)]
    omega
theorem ya_src12 {r e i : Nat} (hp : p < 3) (hs : s < 17) (hr : yr s = nI r) (hr3 : r ≤ 3) (he : ye (s * 3 + p) = nI e) (he32 : e ≤ 32) (hi : yh p = nI i) (hi32 : i ≤ 32)
    (K : post (nI (if p + 1 = r ∧ 0 < e then ((i : Int) + (yq 0).toInt) % e else (i : Int)).toNat)) : wpY_source post (yc, yv, yt, yu, yp, yk, yw, yd, yr, ye, yi, yf, yq, yn, yh, yz) 12 (nI p) (nI s) := by
  unfold wpY_source wY_source_108
  dsimp only
  rw [nI_clamp (show p < 2 ^ 31 by omega), nI_clamp (show s < 2 ^ 31 by omega), na_mr3, nI_add, nI_clamp (show s * 3 + p < 2 ^ 31 by omega), he, hi, hr]
  refine ⟨vp_in_nI hp (by omega), nm_e ⟨vp_in_nI (by omega) (by omega), nm_e (br_f (by decide) (br_f (by decide) (br_f (by decide) (br_t rfl ⟨vp_in_nI hs (by omega), ?_⟩))))⟩⟩
  have hrm : nI p = nI r - 1 ↔ p + 1 = r := by
    rcases r with _ | r
    · refine iff_of_false (fun z => ?_) (by omega)
      have e2 : nI 0 - 1 = -1 := by decide
      rw [e2] at z
      exact (na_m1c (by omega)).mp z
    · rw [nI_pred, nI_eq (by omega) (by omega)]; omega
  by_cases w : p + 1 = r
  · refine br_t (hrm.mpr w) ?_
    rcases Nat.eq_zero_or_pos e with y | y
    · rw [if_neg (by omega)] at K
      subst y
      exact br_f (by decide) ⟨vp_in_nI hp (by omega), K⟩
    · rw [if_pos ⟨w, y⟩] at K
      refine br_t (nI_lt (a := 0) y (by omega)) ⟨vp_in_nI hp (by omega), ?_, ?_⟩
      · intro z
        have z' := congrArg Int64.toInt z
        rw [Int32.toInt_toInt64, nI_toInt (by omega)] at z'
        have : (0 : Int64).toInt = 0 := rfl
        omega
      · intro x hx
        obtain ⟨f1, f2⟩ := dr_rem64 (c := yq 0) hi32 rfl y he32 x hx
        by_cases x0 : 0 ≤ x
        · refine br_t x0 ?_
          rw [f1 x0]; exact K
        · refine br_f x0 ?_
          rw [f2 x0]; exact K
  · rw [if_neg (fun z => w z.1)] at K
    exact br_f (fun z => w (hrm.mp z)) ⟨vp_in_nI hp (by omega), K⟩
end
end
section
def dr_oi : Option Nat → Int32
  | none => -1
  | some x => nI x
section
variable {post : Int32 → Prop} {s q : Nat} {yc yv yt yu yp : Int32} {yk yw yd yr ye yi yf yq yn yh yz : Nat → Int32}
theorem ya_want_a {code x3 : Int32} (hc : code = 9 ∨ code = 10) (hq : q < 3) (hs : s < 17) (K : post (if 0 ≤ yq q then yq q else -(yq q))) : wpY_wanted post (yc, yv, yt, yu, yp, yk, yw, yd, yr, ye, yi, yf, yq, yn, yh, yz) code (nI q) x3 (nI s) := by
  unfold wpY_wanted wY_wanted_36
  dsimp only
  rw [nI_clamp (show q < 2 ^ 31 by omega), na_mr3, nI_add, nI_clamp (show s * 3 + q < 2 ^ 31 by omega)]
  refine ⟨vp_in_nI hq (by omega), nm_e ⟨vp_in_nI (by omega) (by omega), nm_e ?_⟩⟩
  have k : ((0 ≤ yq q → post (yq q)) ∧ (¬ 0 ≤ yq q → post (-(yq q)))) := by
    by_cases w : 0 ≤ yq q
    · rw [if_pos w] at K; exact br_t w K
    · rw [if_neg w] at K; exact br_f w K
  rcases hc with rfl | rfl
  · exact br_t rfl k
  · exact br_f (by decide) (br_t rfl k)
theorem ya_want_11 {x3 : Int32} {e : Nat} (hq : q < 3) (hs : s < 17) (he : ye (s * 3 + q) = nI e) (he32 : e ≤ 32) (K : post (nI (e - (yq q).toInt.natAbs))) : wpY_wanted post (yc, yv, yt, yu, yp, yk, yw, yd, yr, ye, yi, yf, yq, yn, yh, yz) 11 (nI q) x3 (nI s) := by
  unfold wpY_wanted
  dsimp only
  rw [nI_clamp (show q < 2 ^ 31 by omega), na_mr3, nI_add, nI_clamp (show s * 3 + q < 2 ^ 31 by omega), he]
  refine ⟨vp_in_nI hq (by omega), nm_e ⟨vp_in_nI (by omega) (by omega), nm_e (br_f (by decide) (br_f (by decide) (br_t rfl ?_)))⟩⟩
  have c1 := (yq q).le_toInt
  have c2 := (yq q).toInt_lt
  have z : (0 : Int32).toInt = 0 := rfl
  have en : (-nI e).toInt = -(e : Int) := by
    rw [Int32.toInt_neg, nI_toInt (by omega)]
    exact Int.bmod_eq_of_le (by omega) (by omega)
  by_cases w : yq q < 0
  · refine br_t w ?_
    rw [Int32.lt_iff_toInt_lt, z] at w
    by_cases w2 : -nI e ≤ yq q
    · refine br_t w2 ?_
      rw [Int32.le_iff_toInt_le, en] at w2
      have e1 : nI e + yq q = nI (e - (yq q).toInt.natAbs) := by
        apply Int32.toInt_inj.mp
        rw [Int32.toInt_add, nI_toInt (by omega), nI_toInt (by omega)]
        rw [Int.bmod_eq_of_le (by omega) (by omega)]
        omega
      rw [e1]; exact K
    · refine br_f w2 ?_
      rw [Int32.le_iff_toInt_le, en] at w2
      have e1 : e - (yq q).toInt.natAbs = 0 := by omega
      rw [e1] at K
      exact K
  · refine br_f w ?_
    rw [Int32.lt_iff_toInt_lt, z] at w
    by_cases w2 : yq q ≤ nI e
    · refine br_t w2 ?_
      rw [Int32.le_iff_toInt_le, nI_toInt (by omega)] at w2
      have e1 : nI e - yq q = nI (e - (yq q).toInt.natAbs) := by
        apply Int32.toInt_inj.mp
        rw [Int32.toInt_sub, nI_toInt (by omega), nI_toInt (by omega)]
        rw [Int.bmod_eq_of_le (by omega) (by omega)]
        omega
      rw [e1]; exact K
    · refine br_f w2 ?_
      rw [Int32.le_iff_toInt_le, nI_toInt (by omega)] at w2
      have e1 : e - (yq q).toInt.natAbs = 0 := by omega
      rw [e1] at K
      exact K
theorem ya_want_12 {x3 : Int32} (hq : q < 3) (hs : s < 17) (K : post (ye (s * 3 + q))) : wpY_wanted post (yc, yv, yt, yu, yp, yk, yw, yd, yr, ye, yi, yf, yq, yn, yh, yz) 12 (nI q) x3 (nI s) := by
  unfold wpY_wanted
  dsimp only
  rw [nI_clamp (show q < 2 ^ 31 by omega), na_mr3, nI_add, nI_clamp (show s * 3 + q < 2 ^ 31 by omega)]
  exact ⟨vp_in_nI hq (by omega), nm_e ⟨vp_in_nI (by omega) (by omega), nm_e (br_f (by decide) (br_f (by decide) (br_f (by decide) (br_t rfl K))))⟩⟩
theorem ya_want_13 {n e0 e1 e2 : Nat} {d : Nat → Nat} (hn : n ≤ 3) (hq : q < 3) (hs : s < 17) (h0 : ye (s * 3) = nI e0) (h1 : ye (s * 3 + 1) = nI e1) (h2 : ye (s * 3 + 2) = nI e2) (b0 : e0 ≤ 32) (b1 : e1 ≤ 32) (b2 : e2 ≤ 32)
    (hd : ∀ p, p < n → yq p = nI (d p) ∧ d p < 3) (K : post (dr_oi (dr_lst n d e0 e1 e2 q))) : wpY_wanted post (yc, yv, yt, yu, yp, yk, yw, yd, yr, ye, yi, yf, yq, yn, yh, yz) 13 (nI q) (nI n) (nI s) := by
  unfold wpY_wanted
  dsimp only
  rw [nI_clamp (show q < 2 ^ 31 by omega), na_mr3, nI_add, nI_clamp (show s * 3 + q < 2 ^ 31 by omega)]
  refine ⟨vp_in_nI hq (by omega), nm_e ⟨vp_in_nI (by omega) (by omega), nm_e (br_f (by decide) (br_f (by decide) (br_f (by decide) (br_f (by decide) ?_))))⟩⟩
  have hb : ∀ o : Option Nat, (∀ x, o = some x → x ≤ 32) → ∀ p e, e ≤ 32 → (∀ x, dr_ls n d e q p o = some x → x ≤ 32) := by
    intro o ho p e he x hx
    unfold dr_ls at hx
    split at hx
    · cases o with
      | none => have := Option.some.inj hx; omega
      | some y =>
        have h3 := ho y rfl
        have h4 := Option.some.inj hx
        split at h4 <;> omega
    · exact ho x hx
  have st : ∀ p f o e, p < 3 → ye (s * 3 + p) = nI e → e ≤ 32 → (∀ x, o = some x → x ≤ 32) → (p < n → wY_wanted_110 post (nI q) (nI n) (nI s) yc yv yt yu yp yk yw yd yr ye yi yf yq yn yh yz f (dr_oi (dr_ls n d e q p o)) (nI (p + 1))) → (¬ p < n → post (dr_oi o)) →
      wY_wanted_110 post (nI q) (nI n) (nI s) yc yv yt yu yp yk yw yd yr ye yi yf yq yn yh yz (f + 1) (dr_oi o) (nI p) := by
    intro p f o e hp he he32 ho k1 k2
    rw [wY_wanted_110]
    rcases Nat.lt_or_ge p n with y | y
    · have k1' := k1 y
      refine br_f (nI_ge y (by omega)) (br_f (nI_ge (b := 3) hp (by omega)) ?_)
      have k156 : wY_wanted_110 post (nI q) (nI n) (nI s) yc yv yt yu yp yk yw yd yr ye yi yf yq yn yh yz f (nI e) (nI (p + 1)) → wY_wanted_156 post (wY_wanted_110 post (nI q) (nI n) (nI s) yc yv yt yu yp yk yw yd yr ye yi yf yq yn yh yz f) (nI q) (nI n) (nI s) (nI p) yc yv yt yu yp yk yw yd yr ye yi yf yq yn yh yz := by
        intro h
        unfold wY_wanted_156
        rw [na_mr3, nI_add, nI_clamp (show s * 3 + p < 2 ^ 31 by omega), he]
        exact ⟨vp_in_nI (by omega) (by omega), nm_e (nm_r (nI_1 p) h)⟩
      rw [nI_clamp (show p < 2 ^ 31 by omega), (hd p y).1, na_mr3, nI_add, nI_clamp (show s * 3 + p < 2 ^ 31 by omega), he]
      refine ⟨vp_in_nI hp (by omega), ?_⟩
      have hdp := (hd p y).2
      by_cases w : d p = q
      · refine br_t (congrArg nI w) ?_
        unfold dr_ls at k1'
        rw [if_pos ⟨y, w⟩] at k1'
        cases o with
        | none => exact br_t rfl (k156 k1')
        | some x =>
          have x32 := ho x rfl
          refine br_f (fun z => (na_m1c (by omega)).mp z) ⟨vp_in_nI (by omega) (by omega), ?_⟩
          dsimp only at k1'
          rcases Nat.lt_or_ge e x with v | v
          · rw [if_pos v] at k1'
            exact br_f (nI_ge v (by omega)) (k156 k1')
          · rw [if_neg (by omega)] at k1'
            exact br_t (nI_le v (by omega)) (nm_r (nI_1 p) k1')
      · refine br_f (fun z => w ((nI_eq (by omega) (by omega)).mp z)) (nm_r (nI_1 p) ?_)
        rw [dr_ls_miss (fun z => w z.2)] at k1'
        exact k1'
    · exact br_t (nI_le y (by omega)) (k2 (by omega))
  unfold dr_lst at K
  have o1 := hb none (fun x h => by cases h) 0 e0 b0
  have o2 := hb _ o1 1 e1 b1
  refine ⟨4, st 0 3 none e0 (by omega) h0 b0 (fun x h => by cases h) (fun n0 => st 1 2 _ e1 (by omega) h1 b1 o1 (fun n1 => st 2 1 _ e2 (by omega) h2 b2 o2 (fun n2 => ?_) (fun n2 => ?_)) (fun n1 => ?_)) (fun n0 => ?_)⟩
  · rw [wY_wanted_110]
    exact br_t (nI_le (by omega) (by omega)) K
  · rw [dr_ls_miss (fun z => n2 z.1)] at K
    exact K
  · rw [dr_ls_miss (p := 2) (fun z => by omega), dr_ls_miss (p := 1) (fun z => n1 z.1)] at K
    exact K
  · rw [dr_ls_miss (p := 2) (fun z => by omega), dr_ls_miss (p := 1) (fun z => by omega), dr_ls_miss (p := 0) (fun z => n0 z.1)] at K
    exact K
end
section
variable {post : Int32 → SY → Prop} {M s r e0 e1 e2 rl l0 l1 l2 : Nat} {el lel : Nat → dr_E} {yc yv yt yu yp : Int32} {yk yw yd yr ye yi yf yq yn yh yz : Nat → Int32}
theorem ys_B {code m x3 x5 x7 : Int32} {W : Nat → Int32} {w : Nat → Nat} (hr : ∀ q, q < 3 → (code = 9 ∨ code = 10) → (nI M < yq q ∨ yq q < -nI M) → ∀ yn, post (-15) (nI M, yv, yt, yu, yp, yk, yw, yd, yr, ye, yi, yf, yq, yn, yh, yz))
    (hw : ∀ q, q < 3 → ∀ yn (Q : Int32 → Prop), Q (W q) → wpY_wanted Q (nI M, yv, yt, yu, yp, yk, yw, yd, yr, ye, yi, yf, yq, yn, yh, yz) code (nI q) x3 (nI s)) (hd : ∀ q, q < 3 → W q = -1 → ¬ x5 < nI q → ∀ yn, post (-14) (nI M, yv, yt, yu, yp, yk, yw, yd, yr, ye, yi, yf, yq, yn, yh, yz))
    (hW : ∀ q, q < 3 → ¬ ((code = 9 ∨ code = 10) ∧ (nI M < yq q ∨ yq q < -nI M)) → ¬ (W q = -1 ∧ ¬ x5 < nI q) → (if W q = -1 then 1 else W q) = nI (w q))
    (K : (∀ q, q < 3 → ¬ ((code = 9 ∨ code = 10) ∧ (nI M < yq q ∨ yq q < -nI M))) → (∀ q, q < 3 → ¬ (W q = -1 ∧ ¬ x5 < nI q)) → ∀ yn, yn 0 = nI (w 0) → yn 1 = nI (w 1) → yn 2 = nI (w 2) →
      wY_structure_252 post code (nI s) x3 m x5 x7 (nI M) yv yt yu yp 1 (nI (w 0 * w 1 * w 2)) (nI 3) yk yw yd yr ye yi yf yq yn yh yz) :
    ∃ n, wY_structure_252 post code (nI s) x3 m x5 x7 (nI M) yv yt yu yp n 1 0 yk yw yd yr ye yi yf yq yn yh yz := by
  refine ⟨4, ?_⟩
  refine ys_252_s (q := 0) (by omega) (fun h1 h2 => hr 0 (by omega) h1 h2 _) (hw 0 (by omega) _) (fun h1 h2 => hd 0 (by omega) h1 h2) (fun a0 b0 y0 c0 d0 => ?_)
  rw [hW 0 (by omega) a0 b0] at c0 ⊢
  refine ys_252_s (q := 1) (by omega) (fun h1 h2 => hr 1 (by omega) h1 h2 _) (hw 1 (by omega) _) (fun h1 h2 => hd 1 (by omega) h1 h2) (fun a1 b1 y1 c1 d1 => ?_)
  rw [hW 1 (by omega) a1 b1] at c1 ⊢
  refine ys_252_s (q := 2) (by omega) (fun h1 h2 => hr 2 (by omega) h1 h2 _) (hw 2 (by omega) _) (fun h1 h2 => hd 2 (by omega) h1 h2) (fun a2 b2 y2 c2 d2 => ?_)
  rw [hW 2 (by omega) a2 b2] at c2 ⊢
  rw [Int32.one_mul, pk_mul, pk_mul]
  exact K (na_all3 a0 a1 a2) (na_all3 b0 b1 b2) y2 ((d2 0 (by omega)).trans ((d1 0 (by omega)).trans c0)) ((d2 1 (by omega)).trans c1) c2
/-- the head of the structural functions -/
theorem yo_str {code : Nat} (hcode : 9 ≤ code ∧ code ≤ 13) (hs : s < 15) (hM : M ≤ 32) (okL : dr_ok M (rl, l0, l1, l2, lel)) (okR : dr_ok M (r, e0, e1, e2, el)) (hL : yd_V yr ye yi yf 15 (rl, l0, l1, l2, lel)) (hR : yd_V yr ye yi yf s (r, e0, e1, e2, el))
    (H : (if code = 9 then l0 ≤ 3 else l0 = (if code = 12 then 1 else r)) → l0 ≤ 3 → (∀ p, p < l0 → yi (480 + p) = (lel p).1) →
      (∀ yr' ye' yi' yf' yq yn yh yz, yd_F 15 yr ye yi yf yr' ye' yi' yf' → ((dr_st2 M code l0 (fun p => (lel p).1) (r, e0, e1, e2, el)).1 = 0 → yd_V yr' ye' yi' yf' 16 (dr_st2 M code l0 (fun p => (lel p).1) (r, e0, e1, e2, el)).2) →
        post (dr_st2 M code l0 (fun p => (lel p).1) (r, e0, e1, e2, el)).1 (nI M, yv, yt, yu, yp, yk, yw, yd, yr', ye', yi', yf', yq, yn, yh, yz)) →
      ∃ n, wY_structure_110 post (nI code) (nI s) (nI l0) (nI (e0 * e1 * e2)) 1 0 (nI M) yv yt yu yp n (-1) 0 yk yw yd yr ye yi yf yq yn yh yz)
    (K : ∀ yr' ye' yi' yf' yq yn yh yz, yd_F 15 yr ye yi yf yr' ye' yi' yf' → ((dr_str M code (rl, l0, l1, l2, lel) (r, e0, e1, e2, el)).1 = 0 → yd_V yr' ye' yi' yf' 16 (dr_str M code (rl, l0, l1, l2, lel) (r, e0, e1, e2, el)).2) →
      post (dr_str M code (rl, l0, l1, l2, lel) (r, e0, e1, e2, el)).1 (nI M, yv, yt, yu, yp, yk, yw, yd, yr', ye', yi', yf', yq, yn, yh, yz)) :
    wpY_structure post (nI M, yv, yt, yu, yp, yk, yw, yd, yr, ye, yi, yf, yq, yn, yh, yz) (nI code) (nI s) := by
  unfold dr_str at K
  dsimp only at K
  refine ys_head hcode hs hM okL okR hL hR ?_ ?_ ?_ ?_
  · intro h
    rw [if_pos h] at K
    exact K _ _ _ _ _ _ _ _ yd_F0 (na_err (c := -11) (by decide))
  · intro h1 h2
    rw [if_neg h1, dr_if_t h2] at K
    exact K _ _ _ _ _ _ _ _ yd_F0 (na_err (c := -12) (by decide))
  · intro h1 h2 h3
    rw [if_neg h1, dr_if_f (fun z => z h2), dr_if_t h3] at K
    exact K _ _ _ _ _ _ _ _ yd_F0 (na_err (c := -13) (by decide))
  · intro h1 h2 h3 h4 h5
    rw [if_neg h1, dr_if_f (fun z => z h2), dr_if_f h4] at K
    exact H h2 h3 h5 K
end
end
section
theorem dr_negM {M : Nat} (hM : M ≤ 32) : (-nI M).toInt = -(M : Int) := by
  rw [Int32.toInt_neg, nI_toInt (by omega)]
  exact Int.bmod_eq_of_le (by omega) (by omega)
theorem dr_abs_ne {x : Int32} : ¬ (if 0 ≤ x then x else -x) = -1 := by
  by_cases h : 0 ≤ x
  · rw [if_pos h]
    intro z
    rw [z] at h
    exact absurd h (by decide)
  · rw [if_neg h]
    intro z
    have : x = 1 := by
      have e := congrArg (fun y => -y) z
      simpa using e
    rw [this] at h
    exact absurd h (by decide)
section
variable {post : Int32 → SY → Prop} {M s r e0 e1 e2 n : Nat} {el : Nat → dr_E} {c : Nat → Int32} {yc yv yt yu yp : Int32} {yk yw yd yr ye yi yf yq yn yh yz : Nat → Int32}
theorem ys_step_9 {J1 J2 J3 : (Int32 → Int32 → Int32 → Int32 → Int32 → Int32 → Int32 → (Nat → Int32) → (Nat → Int32) → (Nat → Int32) → (Nat → Int32) → (Nat → Int32) → (Nat → Int32) → (Nat → Int32) → (Nat → Int32) → (Nat → Int32) → (Nat → Int32) → (Nat → Int32) → Prop)} {i j l t : Nat} {v : dr_E} (hs : s < 15) (ht : t < 32) (hM : M ≤ 32) (ok : dr_ok M (r, e0, e1, e2, el))
    (h0 : ye (s * 3) = nI e0) (h1 : ye (s * 3 + 1) = nI e1) (h2 : ye (s * 3 + 2) = nI e2) (hel : ∀ i, i < e0 * e1 * e2 → yi (s * 32 + i) = (el i).1 ∧ yf (s * 32 + i) = (el i).2)
    (hv : v = if e0 * e1 * e2 = 0 then (0, 0) else el (t % (e0 * e1 * e2)))
    (K : ∀ yz, J3 (nI (t + 1)) (nI (l + 1)) yc yv yt yu yp yk yw yd yr ye (upd yi (512 + t) v.1) (upd yf (512 + t) v.2) yq yn yh yz) :
    ∃ q, wY_structure_510 post J1 J2 J3 9 (nI s) (nI (e0 * e1 * e2)) (nI t) (nI i) (nI j) (nI l) yc yv yt yu yp q 0 yk yw yd yr ye yi yf yq yn yh yz := by
  obtain ⟨k1, k2, k3, k4, k5, k6, k7, k8, k9⟩ := ok
  refine ys_510 (X := yh) (fun p yz Q hp hQ => ya_src9 hp (by omega) hQ) ?_
  intro yz _ _ _
  have k : ∀ r_60 : Int32, (((9 : Int32) = 9 → (((nI (e0 * e1 * e2) ≤ 0 → (wY_structure_582 post J1 J2 J3 9 (nI s) (nI (e0 * e1 * e2)) (nI t) (nI i) (nI j) (nI l) (-1) yc yv yt yu yp yk yw yd yr ye yi yf yq yn yh yz)) ∧ (¬ nI (e0 * e1 * e2) ≤ 0 → (¬ nI (e0 * e1 * e2) = 0 ∧ (wY_structure_582 post J1 J2 J3 9 (nI s) (nI (e0 * e1 * e2)) (nI t) (nI i) (nI j) (nI l) (nI t - nI t / nI (e0 * e1 * e2) * nI (e0 * e1 * e2)) yc yv yt yu yp yk yw yd yr ye yi yf yq yn yh yz)))))) ∧ (¬ (9 : Int32) = 9 → (wY_structure_584 post J1 J2 J3 9 (nI s) (nI (e0 * e1 * e2)) (nI t) (nI i) (nI j) (nI l) r_60 yc yv yt yu yp yk yw yd yr ye yi yf yq yn yh yz))) := by
    intro r_60
    refine br_t rfl ?_
    unfold wY_structure_582
    by_cases z : e0 * e1 * e2 = 0
    · rw [if_pos z] at hv
      refine br_t ?_ (ys_584 ht hs (Or.inl ⟨rfl, hv⟩) (K yz))
      rw [z]; decide
    · rw [if_neg z] at hv
      refine br_f (nI_nle (by omega) (by omega)) ⟨nI_ne0 (by omega) (by omega), ?_⟩
      rw [pk_rem (by omega) (by omega) (by omega)]
      have hm := Nat.mod_lt t (show 0 < e0 * e1 * e2 by omega)
      exact ys_584 ht hs (Or.inr ⟨_, by omega, rfl, by rw [hv]; exact (hel _ hm).1, by rw [hv]; exact (hel _ hm).2⟩) (K yz)
  exact ya_index (by omega) h0 h1 h2 k2 k3 k4 (fun _ _ _ _ _ _ _ _ _ => k _) (fun _ => k _)
theorem yo_h9 (hn : n ≤ 3) (hc : ∀ p, p < n → yi (480 + p) = c p) (hs : s < 15) (hM : M ≤ 32) (hM1 : 4 ≤ M) (ok : dr_ok M (r, e0, e1, e2, el)) (hR : yd_V yr ye yi yf s (r, e0, e1, e2, el))
    (K : ∀ yr' ye' yi' yf' yq yn yh yz, yd_F 15 yr ye yi yf yr' ye' yi' yf' → ((dr_reshape M n c (r, e0, e1, e2, el)).1 = 0 → yd_V yr' ye' yi' yf' 16 (dr_reshape M n c (r, e0, e1, e2, el)).2) →
      post (dr_reshape M n c (r, e0, e1, e2, el)).1 (nI M, yv, yt, yu, yp, yk, yw, yd, yr', ye', yi', yf', yq, yn, yh, yz)) :
    ∃ q, wY_structure_110 post 9 (nI s) (nI n) (nI (e0 * e1 * e2)) 1 0 (nI M) yv yt yu yp q (-1) 0 yk yw yd yr ye yi yf yq yn yh yz := by
  obtain ⟨v1, v2, v3, v4, v5⟩ := hR
  refine ys_A (c := c) hn hc ?_ ?_
  · rintro ⟨p, hp, w⟩ yq
    have w' : c p < 0 := by
      rcases w with w | w
      · exact w.2
      · exact absurd w.1 (by decide)
    have e : dr_reshape M n c (r, e0, e1, e2, el) = (-14, (r, e0, e1, e2, el)) := dr_if_t ⟨p, hp, w'⟩
    rw [e] at K
    exact K _ _ _ _ _ _ _ _ yd_F0 (na_err (c := -14) (by decide))
  intro hgood yq g1 g2
  have hneg : ¬ ∃ p, p < n ∧ c p < 0 := fun ⟨p, hp, w⟩ => hgood ⟨p, hp, Or.inl ⟨rfl, w⟩⟩
  unfold dr_reshape at K
  rw [dr_if_f hneg] at K
  have hy : ∀ q, q < 3 → yq q = nI (dr_cx n c q) ∧ dr_cx n c q < 2 ^ 31 := by
    intro q hq
    unfold dr_cx
    by_cases z : q < n
    · rw [if_pos z, g1 q z]
      obtain ⟨j, hj, e⟩ := nI_of (x := c q) (fun w => hneg ⟨q, z, w⟩)
      rw [e, nI_clamp hj]
      exact ⟨rfl, hj⟩
    · rw [if_neg z, g2 q (by omega) hq, if_neg (by decide), if_neg (by decide)]
      exact ⟨rfl, by omega⟩
  refine ys_B (W := fun q => nI (dr_cx n c q)) (w := dr_cx n c) ?_ ?_ ?_ ?_ ?_
  · intro q hq _ hbad yn
    obtain ⟨y1, y2⟩ := hy q hq
    have hb : nI M < yq q := by
      rcases hbad with w | w
      · exact w
      · rw [y1, Int32.lt_iff_toInt_lt, nI_toInt y2, dr_negM hM] at w
        omega
    have hq' : q < n := by
      rcases Nat.lt_or_ge q n with z | z
      · exact z
      · rw [g2 q z hq, if_neg (by decide), if_neg (by decide)] at hb
        have := (nI_ltI (a := M) (b := 1) (by omega) (by omega)).mp hb
        omega
    rw [g1 q hq'] at hb
    rw [dr_if_t ⟨q, hq', hb⟩] at K
    exact K _ _ _ _ _ _ _ _ yd_F0 (na_err (c := -15) (by decide))
  · intro q hq yn Q hQ
    obtain ⟨y1, y2⟩ := hy q hq
    refine ya_want_a (Or.inl rfl) hq (by omega) ?_
    rw [y1, if_pos (nI_pos' y2)]
    exact hQ
  · intro q hq z
    exact absurd z (fun z => (na_m1c (hy q hq).2).mp z)
  · intro q hq _ _
    exact if_neg (fun z => (na_m1c (hy q hq).2).mp z)
  · intro ha _ yn y0 y1 y2
    have hle : ∀ q, q < 3 → dr_cx n c q ≤ M := by
      intro q hq
      obtain ⟨z1, z2⟩ := hy q hq
      rcases Nat.lt_or_ge M (dr_cx n c q) with w | w
      · exact absurd ⟨Or.inl rfl, Or.inl (by rw [z1]; exact nI_lt w z2)⟩ (ha q hq)
      · exact w
    have hlim : ¬ ∃ p, p < n ∧ nI M < c p := fun ⟨p, hp, w⟩ => ha p (by omega) ⟨Or.inl rfl, Or.inl (by rw [g1 p hp]; exact w)⟩
    rw [dr_if_f hlim] at K
    have c0 := hle 0 (by omega)
    have c1 := hle 1 (by omega)
    have c2 := hle 2 (by omega)
    have hbig := dr_mul3 (Nat.le_trans c0 hM) (Nat.le_trans c1 hM) (Nat.le_trans c2 hM)
    refine ys_252_e (r' := n) (g := fun i => if e0 * e1 * e2 = 0 then (0, 0) else el (i % (e0 * e1 * e2))) hs hM (by omega) ⟨fun _ => rfl, fun z => absurd rfl z, fun z => absurd rfl z⟩ y0 y1 y2 (by omega) (by omega) (by omega) (by omega) ?_ ?_ ?_
    · intro hp
      rw [if_pos hp] at K
      exact K _ _ _ _ _ _ _ _ yd_F0 (na_err (c := -15) (by decide))
    · intro hp i j l yi' yf' yh yz J1 J2 J3 hi hj hl hwr _ _ _ k
      have ht := dr_f3 hi hj hl
      refine ys_step_9 hs (by omega) hM ok ?_ ?_ ?_ ?_ rfl k
      · rw [pk_un (by omega), pk_un (by omega), pk_un (by omega)]; exact v2
      · rw [pk_un (by omega), pk_un (by omega), pk_un (by omega)]; exact v3
      · rw [pk_un (by omega), pk_un (by omega), pk_un (by omega)]; exact v4
      · intro i hi
        have k8 := ok.2.2.2.2.2.2.2.1
        have o := hwr.2 (s * 32 + i) (by omega)
        exact ⟨o.1.trans (v5 i hi).1, o.2.trans (v5 i hi).2⟩
    · intro hp yr' ye' yi' yf' yh yz hF hV
      rw [if_neg (by omega)] at K
      exact K _ _ _ _ _ _ _ _ hF (fun _ => hV)
theorem yo_h10 (hn : n = r) (hc : ∀ p, p < n → yi (480 + p) = c p) (hs : s < 15) (hM : M ≤ 32) (hM1 : 4 ≤ M) (ok : dr_ok M (r, e0, e1, e2, el)) (hR : yd_V yr ye yi yf s (r, e0, e1, e2, el))
    (K : ∀ yr' ye' yi' yf' yq yn yh yz, yd_F 15 yr ye yi yf yr' ye' yi' yf' → ((dr_take M n c (r, e0, e1, e2, el)).1 = 0 → yd_V yr' ye' yi' yf' 16 (dr_take M n c (r, e0, e1, e2, el)).2) →
      post (dr_take M n c (r, e0, e1, e2, el)).1 (nI M, yv, yt, yu, yp, yk, yw, yd, yr', ye', yi', yf', yq, yn, yh, yz)) :
    ∃ q, wY_structure_110 post 10 (nI s) (nI n) (nI (e0 * e1 * e2)) 1 0 (nI M) yv yt yu yp q (-1) 0 yk yw yd yr ye yi yf yq yn yh yz := by
  subst hn
  obtain ⟨v1, v2, v3, v4, v5⟩ := hR
  have ok' := ok
  obtain ⟨k1, k2, k3, k4, k5, k6, k7, k8, k9⟩ := ok'
  refine ys_A (c := c) k1 hc ?_ ?_
  · rintro ⟨p, hp, w⟩ yq
    rcases w with w | w
    · exact absurd w.1 (by decide)
    · exact absurd w.1 (by decide)
  intro _ yq g1 g2
  unfold dr_take at K
  dsimp only at K
  refine ys_B (W := fun q => if 0 ≤ yq q then yq q else -(yq q)) (w := dr_tx n c) ?_ ?_ ?_ ?_ ?_
  · intro q hq _ hbad yn
    have hq' : q < n := by
      rcases Nat.lt_or_ge q n with z | z
      · exact z
      · rw [g2 q z hq, if_neg (by decide), if_neg (by decide)] at hbad
        rcases hbad with w | w
        · have := (nI_ltI (a := M) (b := 1) (by omega) (by omega)).mp w
          omega
        · rw [Int32.lt_iff_toInt_lt, dr_negM hM] at w
          have : (1 : Int32).toInt = 1 := rfl
          omega
    rw [g1 q hq'] at hbad
    rw [dr_if_t ⟨q, hq', hbad⟩] at K
    exact K _ _ _ _ _ _ _ _ yd_F0 (na_err (c := -15) (by decide))
  · intro q hq yn Q hQ
    exact ya_want_a (Or.inr rfl) hq (by omega) hQ
  · intro q hq z
    exact absurd z dr_abs_ne
  · intro q hq ha _
    rw [if_neg dr_abs_ne]
    unfold dr_tx
    by_cases z : q < n
    · rw [if_pos z, g1 q z]
      have y1 : ¬ nI M < c q := fun w => ha ⟨Or.inr rfl, Or.inl (by rw [g1 q z]; exact w)⟩
      have y2 : ¬ c q < -nI M := fun w => ha ⟨Or.inr rfl, Or.inr (by rw [g1 q z]; exact w)⟩
      rw [Int32.lt_iff_toInt_lt, nI_toInt (by omega)] at y1
      rw [Int32.lt_iff_toInt_lt, dr_negM hM] at y2
      have z0 : (0 : Int32).toInt = 0 := rfl
      by_cases w : 0 ≤ c q
      · rw [if_pos w]
        rw [Int32.le_iff_toInt_le, z0] at w
        exact dr_i32_inj (by omega) (by omega)
      · rw [if_neg w]
        rw [Int32.le_iff_toInt_le, z0] at w
        refine dr_i32_inj (by omega) ?_
        rw [Int32.toInt_neg, Int.bmod_eq_of_le (by omega) (by omega)]
        omega
    · rw [if_neg z, g2 q (by omega) hq]
      decide
  · intro ha _ yn y0 y1 y2
    have hlim : ¬ ∃ p, p < n ∧ (nI M < c p ∨ c p < -nI M) := fun ⟨p, hp, w⟩ => ha p (by omega) ⟨Or.inr rfl, by rw [g1 p hp]; exact w⟩
    rw [dr_if_f hlim] at K
    have hb : ∀ p, p < n → -(M : Int) ≤ (c p).toInt ∧ (c p).toInt ≤ M := by
      intro p hp
      have y1 : ¬ nI M < c p := fun w => hlim ⟨p, hp, Or.inl w⟩
      have y2 : ¬ c p < -nI M := fun w => hlim ⟨p, hp, Or.inr w⟩
      rw [Int32.lt_iff_toInt_lt, nI_toInt (by omega)] at y1
      rw [Int32.lt_iff_toInt_lt, dr_negM hM] at y2
      omega
    have hx : ∀ p, dr_tx n c p ≤ 32 := by
      intro p
      unfold dr_tx
      by_cases hp : p < n
      · rw [if_pos hp]; have := hb p hp; omega
      · rw [if_neg hp]; omega
    have hbig := dr_mul3 (hx 0) (hx 1) (hx 2)
    refine ys_252_e (r' := n) (g := dr_mk (dr_tx n c 1) (dr_tx n c 2) (dr_gth (dr_tσ n c e0 e1 e2) e0 e1 e2 el)) hs hM (by omega) ⟨fun z => absurd z (by decide), fun _ z => absurd z (by decide), fun _ _ => v1⟩ y0 y1 y2 (hx 0) (hx 1) (hx 2) (by omega) ?_ ?_ ?_
    · intro hp
      rw [if_pos hp] at K
      exact K _ _ _ _ _ _ _ _ yd_F0 (na_err (c := -15) (by decide))
    · intro hp i j l yi' yf' yh yz J1 J2 J3 hi hj hl hwr q0 q1 q2 k
      have ht := dr_f3 hi hj hl
      have hye : ∀ p, p < 3 → upd (upd (upd ye 48 (nI (dr_tx n c 0))) 49 (nI (dr_tx n c 1))) 50 (nI (dr_tx n c 2)) (s * 3 + p) = nI (dr_h e0 e1 e2 p) ∧ dr_h e0 e1 e2 p ≤ 32 := by
        intro p hp
        rw [pk_un (by omega), pk_un (by omega), pk_un (by omega)]
        rcases (show p = 0 ∨ p = 1 ∨ p = 2 by omega) with rfl | rfl | rfl
        · exact ⟨v2, k2⟩
        · exact ⟨v3, k3⟩
        · exact ⟨v4, k4⟩
      have hyh : ∀ p, p < 3 → yh p = nI (dr_h i j l p) ∧ dr_h i j l p ≤ 32 := by
        intro p hp
        have a0 := hx 0
        have a1 := hx 1
        have a2 := hx 2
        rcases (show p = 0 ∨ p = 1 ∨ p = 2 by omega) with rfl | rfl | rfl
        · exact ⟨q0, by show i ≤ 32; omega⟩
        · exact ⟨q1, by show j ≤ 32; omega⟩
        · exact ⟨q2, by show l ≤ 32; omega⟩
      refine ys_step_g (σ := dr_tσ n c e0 e1 e2) (X := fun p => if yq p < 0 then yh p + nI (dr_h e0 e1 e2 p) + yq p else yh p) hs (by omega) hM ok (by decide) ?_ ?_ ?_ ?_ ?_ ?_ (dr_mk_at hj hl) k
      · exact (hye 0 (by omega)).1
      · exact (hye 1 (by omega)).1
      · exact (hye 2 (by omega)).1
      · intro i hi
        have o := hwr.2 (s * 32 + i) (by omega)
        exact ⟨o.1.trans (v5 i hi).1, o.2.trans (v5 i hi).2⟩
      · intro p yz Q hp hQ
        refine ya_src10 hp (by omega) ?_
        rw [(hye p hp).1]
        exact hQ
      · intro p hp
        obtain ⟨f1, f2⟩ := hyh p hp
        obtain ⟨f3, f4⟩ := hye p hp
        have z0 : (0 : Int32).toInt = 0 := rfl
        unfold dr_tσ dr_ts
        by_cases z : p < n
        · have hbp := hb p z
          rw [if_pos z, g1 p z]
          by_cases w : c p < 0
          · rw [if_pos w, f1, nI_add, Int32.toInt_add, nI_toInt (by omega)]
            rw [Int32.lt_iff_toInt_lt, z0] at w
            rw [if_pos w, Int.bmod_eq_of_le (by omega) (by omega)]
            omega
          · rw [if_neg w, f1, nI_toInt (by omega)]
            rw [Int32.lt_iff_toInt_lt, z0] at w
            rw [if_neg w]
            omega
        · rw [if_neg z, g2 p (by omega) hp, if_neg (show ¬ (10 : Int32) = 11 by decide), if_neg (show ¬ (10 : Int32) = 13 by decide), if_neg (by decide), f1, nI_toInt (by omega)]
          omega
    · intro hp yr' ye' yi' yf' yh yz hF hV
      rw [if_neg (by omega)] at K
      exact K _ _ _ _ _ _ _ _ hF (fun _ => hV)
end
end
section
theorem dr_G3 {n : Nat} {c : Nat → Int32} {d : Nat → Nat} (hn : n ≤ 3) (h : ∀ p, p < n → c p = nI (d p) ∧ d p < 3) : dr_G n c 3 = nI (dr_gr n d) + (-1) := by
  have m1 : ∀ k, k < 3 → ¬ nI k ≤ (-1 : Int32) := fun k hk z => (na_m1l (by omega)).mp z
  have mx : ∀ {a b : Nat}, a < 3 → b < 3 → (if nI b ≤ nI a then nI a else nI b) = nI (max a b) := by
    intro a b ha hb
    by_cases w : nI b ≤ nI a
    · rw [if_pos w]
      have := (nI_leI (by omega) (by omega)).mp w
      exact congrArg nI (by omega)
    · rw [if_neg w]
      have : ¬ b ≤ a := fun y => w ((nI_leI (by omega) (by omega)).mpr y)
      exact congrArg nI (by omega)
  rcases (show n = 0 ∨ n = 1 ∨ n = 2 ∨ n = 3 by omega) with rfl | rfl | rfl | rfl
  · unfold dr_G dr_G dr_G dr_G dr_gr
    simp only [Nat.not_lt_zero, if_false, if_true]
    decide
  · obtain ⟨a1, a2⟩ := h 0 (by omega)
    simp only [dr_G, dr_gr, Nat.lt_irrefl, Nat.reduceLT, if_false, if_true, Nat.one_ne_zero, Nat.zero_lt_one, a1, m1 _ a2]
    rw [pk_m1]
  · obtain ⟨a1, a2⟩ := h 0 (by omega)
    obtain ⟨b1, b2⟩ := h 1 (by omega)
    simp only [dr_G, dr_gr, Nat.lt_irrefl, Nat.reduceLT, if_false, if_true, Nat.reduceEqDiff, a1, b1, m1 _ a2]
    rw [pk_m1, mx a2 b2]
  · obtain ⟨a1, a2⟩ := h 0 (by omega)
    obtain ⟨b1, b2⟩ := h 1 (by omega)
    obtain ⟨c1, c2⟩ := h 2 (by omega)
    simp only [dr_G, dr_gr, Nat.reduceLT, if_false, if_true, Nat.reduceEqDiff, a1, b1, c1, m1 _ a2]
    rw [pk_m1, mx a2 b2, mx (by omega) c2]
section
variable {post : Int32 → SY → Prop} {M s r e0 e1 e2 n : Nat} {el : Nat → dr_E} {c : Nat → Int32} {yc yv yt yu yp : Int32} {yk yw yd yr ye yi yf yq yn yh yz : Nat → Int32}
theorem yo_h11 (hn : n = r) (hc : ∀ p, p < n → yi (480 + p) = c p) (hs : s < 15) (hM : M ≤ 32) (ok : dr_ok M (r, e0, e1, e2, el)) (hR : yd_V yr ye yi yf s (r, e0, e1, e2, el))
    (K : ∀ yr' ye' yi' yf' yq yn yh yz, yd_F 15 yr ye yi yf yr' ye' yi' yf' → yd_V yr' ye' yi' yf' 16 (dr_drop n c (r, e0, e1, e2, el)) → post 0 (nI M, yv, yt, yu, yp, yk, yw, yd, yr', ye', yi', yf', yq, yn, yh, yz)) :
    ∃ q, wY_structure_110 post 11 (nI s) (nI n) (nI (e0 * e1 * e2)) 1 0 (nI M) yv yt yu yp q (-1) 0 yk yw yd yr ye yi yf yq yn yh yz := by
  subst hn
  obtain ⟨v1, v2, v3, v4, v5⟩ := hR
  have okr := dr_drop_ok (c := c) ok
  have ok' := ok
  obtain ⟨k1, k2, k3, k4, k5, k6, k7, k8, k9⟩ := ok'
  obtain ⟨j1, j2, j3, j4, j5, j6, j7, j8, j9⟩ := okr
  refine ys_A (c := c) k1 hc ?_ ?_
  · rintro ⟨p, hp, w⟩ yq
    rcases w with w | w
    · exact absurd w.1 (by decide)
    · exact absurd w.1 (by decide)
  intro _ yq g1 g2
  have hye0 : ∀ p, p < 3 → ye (s * 3 + p) = nI (dr_h e0 e1 e2 p) ∧ dr_h e0 e1 e2 p ≤ 32 := by
    intro p hp
    rcases (show p = 0 ∨ p = 1 ∨ p = 2 by omega) with rfl | rfl | rfl
    · exact ⟨v2, k2⟩
    · exact ⟨v3, k3⟩
    · exact ⟨v4, k4⟩
  have hdx : ∀ q, q < 3 → dr_h e0 e1 e2 q - (yq q).toInt.natAbs = dr_dx n c (dr_h e0 e1 e2 q) q := by
    intro q hq
    unfold dr_dx
    by_cases z : q < n
    · rw [if_pos z, g1 q z]
    · rw [if_neg z, g2 q (by omega) hq]
      rfl
  refine ys_B (W := fun q => nI (dr_dx n c (dr_h e0 e1 e2 q) q)) (w := fun q => dr_dx n c (dr_h e0 e1 e2 q) q) ?_ ?_ ?_ ?_ ?_
  · intro q hq w
    rcases w with w | w
    · exact absurd w (by decide)
    · exact absurd w (by decide)
  · intro q hq yn Q hQ
    refine ya_want_11 hq (by omega) (hye0 q hq).1 (hye0 q hq).2 ?_
    rw [hdx q hq]
    exact hQ
  · intro q hq z
    have := (hye0 q hq).2
    exact absurd z (fun z => (na_m1c (by unfold dr_dx; split <;> omega)).mp z)
  · intro q hq _ _
    have := (hye0 q hq).2
    exact if_neg (fun z => (na_m1c (by unfold dr_dx; split <;> omega)).mp z)
  · intro _ _ yn y0 y1 y2
    refine ys_252_e (w0 := dr_dx n c e0 0) (w1 := dr_dx n c e1 1) (w2 := dr_dx n c e2 2) (r' := n) (g := dr_mk (dr_dx n c e1 1) (dr_dx n c e2 2) (dr_gth (dr_dσ n c) e0 e1 e2 el)) hs hM (by omega) ⟨fun z => absurd z (by decide), fun _ z => absurd z (by decide), fun _ _ => v1⟩ y0 y1 y2 j2 j3 j4 (by omega) (fun h => by omega) ?_ ?_
    · intro hp i j l yi' yf' yh yz J1 J2 J3 hi hj hl hwr q0 q1 q2 k
      have ht := dr_f3 hi hj hl
      have hye : ∀ p, p < 3 → upd (upd (upd ye 48 (nI (dr_dx n c e0 0))) 49 (nI (dr_dx n c e1 1))) 50 (nI (dr_dx n c e2 2)) (s * 3 + p) = nI (dr_h e0 e1 e2 p) := by
        intro p hp
        rw [pk_un (by omega), pk_un (by omega), pk_un (by omega)]
        exact (hye0 p hp).1
      have hyh : ∀ p, p < 3 → yh p = nI (dr_h i j l p) ∧ dr_h i j l p < dr_dx n c (dr_h e0 e1 e2 p) p := by
        intro p hp
        rcases (show p = 0 ∨ p = 1 ∨ p = 2 by omega) with rfl | rfl | rfl
        · exact ⟨q0, hi⟩
        · exact ⟨q1, hj⟩
        · exact ⟨q2, hl⟩
      refine ys_step_g (σ := dr_dσ n c) (X := fun p => if yq p < 0 then yh p else yh p + yq p) hs (by omega) hM ok (by decide) (hye 0 (by omega)) (hye 1 (by omega)) (hye 2 (by omega)) ?_ ?_ ?_ (dr_mk_at hj hl) k
      · intro i hi
        have o := hwr.2 (s * 32 + i) (by omega)
        exact ⟨o.1.trans (v5 i hi).1, o.2.trans (v5 i hi).2⟩
      · intro p yz Q hp hQ
        exact ya_src11 hp (by omega) hQ
      · intro p hp
        obtain ⟨f1, f2⟩ := hyh p hp
        have f4 := (hye0 p hp).2
        have z0 : (0 : Int32).toInt = 0 := rfl
        unfold dr_dx at f2
        unfold dr_dσ dr_ds
        by_cases z : p < n
        · rw [if_pos z] at f2 ⊢
          rw [g1 p z]
          by_cases w : c p < 0
          · rw [if_pos w, f1, nI_toInt (by omega)]
            rw [Int32.lt_iff_toInt_lt, z0] at w
            rw [if_pos w]
            omega
          · rw [if_neg w, f1, Int32.toInt_add, nI_toInt (by omega)]
            rw [Int32.lt_iff_toInt_lt, z0] at w
            rw [if_neg w, Int.bmod_eq_of_le (by omega) (by omega)]
        · rw [if_neg z] at f2 ⊢
          rw [g2 p (by omega) hp, if_pos (show (11 : Int32) = 11 from rfl), if_neg (by decide), Int32.add_zero, f1, nI_toInt (by omega)]
          omega
    · intro hp yr' ye' yi' yf' yh yz hF hV
      exact K _ _ _ _ _ _ _ _ hF hV
theorem yo_h12 (hn : n = 1) (hc : ∀ p, p < n → yi (480 + p) = c p) (hs : s < 15) (hM : M ≤ 32) (ok : dr_ok M (r, e0, e1, e2, el)) (hR : yd_V yr ye yi yf s (r, e0, e1, e2, el))
    (K : ∀ yr' ye' yi' yf' yq yn yh yz, yd_F 15 yr ye yi yf yr' ye' yi' yf' → yd_V yr' ye' yi' yf' 16 (dr_rot (c 0) (r, e0, e1, e2, el)) → post 0 (nI M, yv, yt, yu, yp, yk, yw, yd, yr', ye', yi', yf', yq, yn, yh, yz)) :
    ∃ q, wY_structure_110 post 12 (nI s) (nI n) (nI (e0 * e1 * e2)) 1 0 (nI M) yv yt yu yp q (-1) 0 yk yw yd yr ye yi yf yq yn yh yz := by
  subst hn
  obtain ⟨v1, v2, v3, v4, v5⟩ := hR
  have ok' := ok
  obtain ⟨k1, k2, k3, k4, k5, k6, k7, k8, k9⟩ := ok'
  refine ys_A (c := c) (by omega) hc ?_ ?_
  · rintro ⟨p, hp, w⟩ yq
    rcases w with w | w
    · exact absurd w.1 (by decide)
    · exact absurd w.1 (by decide)
  intro _ yq g1 g2
  have hye0 : ∀ p, p < 3 → ye (s * 3 + p) = nI (dr_h e0 e1 e2 p) ∧ dr_h e0 e1 e2 p ≤ 32 := by
    intro p hp
    rcases (show p = 0 ∨ p = 1 ∨ p = 2 by omega) with rfl | rfl | rfl
    · exact ⟨v2, k2⟩
    · exact ⟨v3, k3⟩
    · exact ⟨v4, k4⟩
  refine ys_B (W := fun q => nI (dr_h e0 e1 e2 q)) (w := fun q => dr_h e0 e1 e2 q) ?_ ?_ ?_ ?_ ?_
  · intro q hq w
    rcases w with w | w
    · exact absurd w (by decide)
    · exact absurd w (by decide)
  · intro q hq yn Q hQ
    refine ya_want_12 hq (by omega) ?_
    rw [(hye0 q hq).1]
    exact hQ
  · intro q hq z
    have := (hye0 q hq).2
    exact absurd z (fun z => (na_m1c (by omega)).mp z)
  · intro q hq _ _
    have := (hye0 q hq).2
    exact if_neg (fun z => (na_m1c (by omega)).mp z)
  · intro _ _ yn y0 y1 y2
    refine ys_252_e (w0 := e0) (w1 := e1) (w2 := e2) (r' := r) (g := dr_mk e1 e2 (dr_gth (dr_rσ (c 0) r e0 e1 e2) e0 e1 e2 el)) hs hM (by omega) ⟨fun z => absurd z (by decide), fun _ z => absurd z (by decide), fun _ _ => v1⟩ y0 y1 y2 k2 k3 k4 (by omega) (fun h => by omega) ?_ ?_
    · intro hp i j l yi' yf' yh yz J1 J2 J3 hi hj hl hwr q0 q1 q2 k
      have ht := dr_f3 hi hj hl
      have hye : ∀ p, p < 3 → upd (upd (upd ye 48 (nI e0)) 49 (nI e1)) 50 (nI e2) (s * 3 + p) = nI (dr_h e0 e1 e2 p) := by
        intro p hp
        rw [pk_un (by omega), pk_un (by omega), pk_un (by omega)]
        exact (hye0 p hp).1
      have hyh : ∀ p, p < 3 → yh p = nI (dr_h i j l p) ∧ dr_h i j l p < dr_h e0 e1 e2 p := by
        intro p hp
        rcases (show p = 0 ∨ p = 1 ∨ p = 2 by omega) with rfl | rfl | rfl
        · exact ⟨q0, hi⟩
        · exact ⟨q1, hj⟩
        · exact ⟨q2, hl⟩
      have hσ : ∀ p, p < 3 → 0 ≤ dr_rσ (c 0) r e0 e1 e2 p i j l ∧ dr_rσ (c 0) r e0 e1 e2 p i j l < 32 := by
        intro p hp
        have f2 := (hyh p hp).2
        have f4 := (hye0 p hp).2
        unfold dr_rσ
        split
        · have b2 := Int.emod_nonneg ((dr_h i j l p : Int) + (c 0).toInt) (show ((dr_h e0 e1 e2 p : Nat) : Int) ≠ 0 by omega)
          have b3 := Int.emod_lt_of_pos ((dr_h i j l p : Int) + (c 0).toInt) (show (0 : Int) < ((dr_h e0 e1 e2 p : Nat) : Int) by omega)
          omega
        · omega
      refine ys_step_g (σ := dr_rσ (c 0) r e0 e1 e2) (X := fun p => nI (dr_rσ (c 0) r e0 e1 e2 p i j l).toNat) hs (by omega) hM ok (by decide) (hye 0 (by omega)) (hye 1 (by omega)) (hye 2 (by omega)) ?_ ?_ ?_ (dr_mk_at hj hl) k
      · intro i hi
        have o := hwr.2 (s * 32 + i) (by omega)
        exact ⟨o.1.trans (v5 i hi).1, o.2.trans (v5 i hi).2⟩
      · intro p yz Q hp hQ
        have f2 := (hyh p hp).2
        have f4 := (hye0 p hp).2
        refine ya_src12 (r := r) (e := dr_h e0 e1 e2 p) (i := dr_h i j l p) hp (by omega) ((pk_un (by omega)).trans v1) k1 (hye p hp) f4 (hyh p hp).1 (by omega) ?_
        rw [g1 0 (by omega)]
        exact hQ
      · intro p hp
        have := hσ p hp
        rw [nI_toInt (by omega)]
        omega
    · intro hp yr' ye' yi' yf' yh yz hF hV
      exact K _ _ _ _ _ _ _ _ hF hV
theorem yo_h13 (hn : n = r) (hc : ∀ p, p < n → yi (480 + p) = c p) (hs : s < 15) (hM : M ≤ 32) (ok : dr_ok M (r, e0, e1, e2, el)) (hR : yd_V yr ye yi yf s (r, e0, e1, e2, el))
    (K : ∀ yr' ye' yi' yf' yq yn yh yz, yd_F 15 yr ye yi yf yr' ye' yi' yf' → ((dr_trn n c (r, e0, e1, e2, el)).1 = 0 → yd_V yr' ye' yi' yf' 16 (dr_trn n c (r, e0, e1, e2, el)).2) →
      post (dr_trn n c (r, e0, e1, e2, el)).1 (nI M, yv, yt, yu, yp, yk, yw, yd, yr', ye', yi', yf', yq, yn, yh, yz)) :
    ∃ q, wY_structure_110 post 13 (nI s) (nI n) (nI (e0 * e1 * e2)) 1 0 (nI M) yv yt yu yp q (-1) 0 yk yw yd yr ye yi yf yq yn yh yz := by
  subst hn
  obtain ⟨v1, v2, v3, v4, v5⟩ := hR
  have ok' := ok
  obtain ⟨k1, k2, k3, k4, k5, k6, k7, k8, k9⟩ := ok'
  unfold dr_trn at K
  dsimp only at K
  refine ys_A (c := c) k1 hc ?_ ?_
  · rintro ⟨p, hp, w⟩ yq
    have w' : c p < 0 ∨ nI n ≤ c p := by
      rcases w with w | w
      · exact absurd w.1 (by decide)
      · exact w.2
    rw [dr_if_t ⟨p, hp, w'⟩] at K
    exact K _ _ _ _ _ _ _ _ yd_F0 (na_err (c := -14) (by decide))
  intro hgood yq g1 g2
  have hok1 : ¬ ∃ p, p < n ∧ (c p < 0 ∨ nI n ≤ c p) := fun ⟨p, hp, w⟩ => hgood ⟨p, hp, Or.inr ⟨rfl, w⟩⟩
  rw [dr_if_f hok1] at K
  have hd : ∀ p, p < n → c p = nI (dr_nd c p) ∧ dr_nd c p < n := by
    intro p hp
    obtain ⟨j, hj, e⟩ := nI_of (x := c p) (fun w => hok1 ⟨p, hp, Or.inl w⟩)
    unfold dr_nd
    rw [e, nI_clamp hj]
    refine ⟨rfl, ?_⟩
    rcases Nat.lt_or_ge j n with z | z
    · exact z
    · exact absurd ⟨p, hp, Or.inr (by rw [e]; exact nI_le z hj)⟩ hok1
  have okr := dr_trn_ok (d := dr_nd c) ok (fun p hp => (hd p hp).2)
  obtain ⟨j1, j2, j3, j4, j5, j6, j7, j8, j9⟩ := okr
  have hG := dr_G3 (d := dr_nd c) k1 (fun p hp => ⟨(hd p hp).1, by have := (hd p hp).2; omega⟩)
  have hgr := dr_gr_le (d := dr_nd c) k1 (fun p hp => (hd p hp).2)
  have hGlt : ∀ q, q < 3 → (dr_G n c 3 < nI q ↔ dr_gr n (dr_nd c) ≤ q) := by
    intro q hq
    rw [hG]
    rcases Nat.eq_zero_or_pos (dr_gr n (dr_nd c)) with z | z
    · rw [z, na_z1]
      refine iff_of_true ?_ (by omega)
      rw [Int32.lt_iff_toInt_lt, nI_toInt (by omega)]
      have : (-1 : Int32).toInt = -1 := by decide
      omega
    · obtain ⟨g, hg⟩ : ∃ g, dr_gr n (dr_nd c) = g + 1 := ⟨dr_gr n (dr_nd c) - 1, by omega⟩
      rw [hg, pk_m1, nI_ltI (by omega) (by omega)]
      omega
  have hoi : ∀ q, q < 3 → (dr_oi (dr_lst n (dr_nd c) e0 e1 e2 q) = -1 ↔ dr_lst n (dr_nd c) e0 e1 e2 q = none) := by
    intro q hq
    have b := dr_lst_32 (n := n) (d := dr_nd c) (q := q) k2 k3 k4
    cases h : dr_lst n (dr_nd c) e0 e1 e2 q with
    | none => exact iff_of_true rfl rfl
    | some x =>
      rw [h] at b
      have b' : x ≤ 32 := b
      exact iff_of_false (fun z => (na_m1c (by omega)).mp z) (by simp)
  refine ys_B (W := fun q => dr_oi (dr_lst n (dr_nd c) e0 e1 e2 q)) (w := fun q => (dr_lst n (dr_nd c) e0 e1 e2 q).getD 1) ?_ ?_ ?_ ?_ ?_
  · intro q hq w
    rcases w with w | w
    · exact absurd w (by decide)
    · exact absurd w (by decide)
  · intro q hq yn Q hQ
    refine ya_want_13 (d := dr_nd c) k1 hq (by omega) v2 v3 v4 k2 k3 k4 (fun p hp => ?_) hQ
    have := hd p hp
    exact ⟨(g1 p hp).trans this.1, by omega⟩
  · intro q hq z z2 yn
    have h1 := (hoi q hq).mp z
    have h2 : q < dr_gr n (dr_nd c) := by
      rcases Nat.lt_or_ge q (dr_gr n (dr_nd c)) with y | y
      · exact y
      · exact absurd ((hGlt q hq).mpr y) z2
    rw [dr_if_t ⟨q, h2, h1⟩] at K
    exact K _ _ _ _ _ _ _ _ yd_F0 (na_err (c := -14) (by decide))
  · intro q hq _ _
    by_cases z : dr_lst n (dr_nd c) e0 e1 e2 q = none
    · rw [if_pos ((hoi q hq).mpr z), z]
      rfl
    · rw [if_neg (fun y => z ((hoi q hq).mp y))]
      cases h : dr_lst n (dr_nd c) e0 e1 e2 q with
      | none => exact absurd h z
      | some x => rfl
  · intro _ hb yn y0 y1 y2
    have hok2 : ¬ ∃ q, q < dr_gr n (dr_nd c) ∧ dr_lst n (dr_nd c) e0 e1 e2 q = none := by
      rintro ⟨q, h1, h2⟩
      refine hb q (by omega) ⟨(hoi q (by omega)).mpr h2, fun z => ?_⟩
      have := (hGlt q (by omega)).mp z
      omega
    rw [dr_if_f hok2] at K
    refine ys_252_e (r' := dr_gr n (dr_nd c)) (g := dr_mk ((dr_lst n (dr_nd c) e0 e1 e2 1).getD 1) ((dr_lst n (dr_nd c) e0 e1 e2 2).getD 1) (dr_gth (dr_nσ n (dr_nd c)) e0 e1 e2 el)) hs hM (by omega) ⟨fun z => absurd z (by decide), fun _ _ => ?_, fun _ z => absurd rfl z⟩ y0 y1 y2 j2 j3 j4 (by omega) (fun h => by omega) ?_ ?_
    · rw [hG, Int32.add_assoc]
      have : (-1 : Int32) + 1 = 0 := by decide
      rw [this, Int32.add_zero]
    · intro hp i j l yi' yf' yh yz J1 J2 J3 hi hj hl hwr q0 q1 q2 k
      have ht := dr_f3 hi hj hl
      have hye : ∀ p, p < 3 → upd (upd (upd ye 48 (nI ((dr_lst n (dr_nd c) e0 e1 e2 0).getD 1))) 49 (nI ((dr_lst n (dr_nd c) e0 e1 e2 1).getD 1))) 50 (nI ((dr_lst n (dr_nd c) e0 e1 e2 2).getD 1)) (s * 3 + p) = ye (s * 3 + p) := by
        intro p hp
        rw [pk_un (by omega), pk_un (by omega), pk_un (by omega)]
      have hyh : ∀ p, p < 3 → yh p = nI (dr_h i j l p) ∧ dr_h i j l p < 32 := by
        intro p hp
        rcases (show p = 0 ∨ p = 1 ∨ p = 2 by omega) with rfl | rfl | rfl
        · exact ⟨q0, by show i < 32; omega⟩
        · exact ⟨q1, by show j < 32; omega⟩
        · exact ⟨q2, by show l < 32; omega⟩
      refine ys_step_g (σ := dr_nσ n (dr_nd c)) (X := fun p => yh (if p < n then dr_nd c p else 2)) hs (by omega) hM ok (by decide) ((hye 0 (by omega)).trans v2) ((hye 1 (by omega)).trans v3) ((hye 2 (by omega)).trans v4) ?_ ?_ ?_ (dr_mk_at hj hl) k
      · intro i hi
        have o := hwr.2 (s * 32 + i) (by omega)
        exact ⟨o.1.trans (v5 i hi).1, o.2.trans (v5 i hi).2⟩
      · intro p yz Q hp hQ
        by_cases z : p < n
        · rw [if_pos z] at hQ
          have := hd p z
          exact ya_src13 hp (by omega) ((g1 p z).trans this.1) (by omega) hQ
        · rw [if_neg z] at hQ
          exact ya_src13 (d := 2) hp (by omega) (by rw [g2 p (by omega) hp]; decide) (by omega) hQ
      · intro p hp
        unfold dr_nσ
        by_cases z : p < n
        · have := hd p z
          have hh := hyh (dr_nd c p) (by omega)
          rw [if_pos z, if_pos z, hh.1, nI_toInt (by omega)]
        · have hh := hyh 2 (by omega)
          rw [if_neg z, if_neg z, hh.1, nI_toInt (by omega)]
          rfl
    · intro hp yr' ye' yi' yf' yh yz hF hV
      exact K _ _ _ _ _ _ _ _ hF (fun _ => hV)
end
end
section
section
variable {post : Int32 → SY → Prop} {M s r e0 e1 e2 rl l0 l1 l2 : Nat} {el lel : Nat → dr_E} {yc yv yt yu yp : Int32} {yk yw yd yr ye yi yf yq yn yh yz : Nat → Int32}
theorem yo_struct {code : Nat} (hcode : 9 ≤ code ∧ code ≤ 13) (hs : s < 15) (hM : M ≤ 32) (hM1 : 4 ≤ M) (okL : dr_ok M (rl, l0, l1, l2, lel)) (okR : dr_ok M (r, e0, e1, e2, el)) (hL : yd_V yr ye yi yf 15 (rl, l0, l1, l2, lel)) (hR : yd_V yr ye yi yf s (r, e0, e1, e2, el))
    (K : ∀ yr' ye' yi' yf' yq yn yh yz, yd_F 15 yr ye yi yf yr' ye' yi' yf' → ((dr_str M code (rl, l0, l1, l2, lel) (r, e0, e1, e2, el)).1 = 0 → yd_V yr' ye' yi' yf' 16 (dr_str M code (rl, l0, l1, l2, lel) (r, e0, e1, e2, el)).2) →
      post (dr_str M code (rl, l0, l1, l2, lel) (r, e0, e1, e2, el)).1 (nI M, yv, yt, yu, yp, yk, yw, yd, yr', ye', yi', yf', yq, yn, yh, yz)) :
    wpY_structure post (nI M, yv, yt, yu, yp, yk, yw, yd, yr, ye, yi, yf, yq, yn, yh, yz) (nI code) (nI s) := by
  refine yo_str hcode hs hM okL okR hL hR ?_ K
  intro hcond hn hc K2
  rcases (show code = 9 ∨ code = 10 ∨ code = 11 ∨ code = 12 ∨ code = 13 by omega) with rfl | rfl | rfl | rfl | rfl
  · have e : dr_st2 M 9 l0 (fun p => (lel p).1) (r, e0, e1, e2, el) = dr_reshape M l0 (fun p => (lel p).1) (r, e0, e1, e2, el) := by unfold dr_st2; rw [if_pos rfl]
    rw [e] at K2
    exact yo_h9 hn hc hs hM hM1 okR hR K2
  · have e : dr_st2 M 10 l0 (fun p => (lel p).1) (r, e0, e1, e2, el) = dr_take M l0 (fun p => (lel p).1) (r, e0, e1, e2, el) := by unfold dr_st2; rw [if_neg (by omega), if_pos rfl]
    rw [e] at K2
    rw [if_neg (by omega), if_neg (by omega)] at hcond
    exact yo_h10 hcond hc hs hM hM1 okR hR K2
  · have e : dr_st2 M 11 l0 (fun p => (lel p).1) (r, e0, e1, e2, el) = (0, dr_drop l0 (fun p => (lel p).1) (r, e0, e1, e2, el)) := by unfold dr_st2; rw [if_neg (by omega), if_neg (by omega), if_pos rfl]
    rw [e] at K2
    rw [if_neg (by omega), if_neg (by omega)] at hcond
    exact yo_h11 hcond hc hs hM okR hR (fun a b c d e f g h i j => K2 a b c d e f g h i (fun _ => j))
  · have e : dr_st2 M 12 l0 (fun p => (lel p).1) (r, e0, e1, e2, el) = (0, dr_rot (lel 0).1 (r, e0, e1, e2, el)) := by unfold dr_st2; rw [if_neg (by omega), if_neg (by omega), if_neg (by omega), if_pos rfl]
    rw [e] at K2
    rw [if_neg (by omega), if_pos rfl] at hcond
    exact yo_h12 hcond hc hs hM okR hR (fun a b c d e f g h i j => K2 a b c d e f g h i (fun _ => j))
  · have e : dr_st2 M 13 l0 (fun p => (lel p).1) (r, e0, e1, e2, el) = dr_trn l0 (fun p => (lel p).1) (r, e0, e1, e2, el) := by unfold dr_st2; rw [if_neg (by omega), if_neg (by omega), if_neg (by omega), if_neg (by omega)]
    rw [e] at K2
    rw [if_neg (by omega), if_neg (by omega)] at hcond
    exact yo_h13 hcond hc hs hM okR hR K2
theorem yo_rax (hM : M ≤ 32) (hM1 : 4 ≤ M) (hs : s < 15) (ok : dr_ok M (r, e0, e1, e2, el)) (hV : yd_V yr ye yi yf s (r, e0, e1, e2, el))
    (K : ∀ yr' ye' yi' yf' yq yn yh yz, yd_F 15 yr ye yi yf yr' ye' yi' yf' → yd_V yr' ye' yi' yf' 16 (dr_rax (r, e0, e1, e2, el)) → post 0 (nI M, yv, yt, yu, yp, yk, yw, yd, yr', ye', yi', yf', yq, yn, yh, yz)) :
    wpY_monadic post (nI M, yv, yt, yu, yp, yk, yw, yd, yr, ye, yi, yf, yq, yn, yh, yz) 2 13 (nI s) := by
  have k8 := ok.2.2.2.2.2.2.2.1
  have k1 := ok.1
  refine yo_open hM hs ok hV (by decide) ?_
  intro yi1 yf1 hw hN
  have hV' := hV
  obtain ⟨v1, v2, v3, v4, v5⟩ := hV'
  refine ⟨1, ?_⟩
  rw [wY_monadic_56]
  refine br_t (by decide) (ym_109 (by decide) (ym_173 (by decide) (ym_209 (by decide) ⟨1, ?_⟩)))
  rw [wY_monadic_229]
  refine br_f (by decide) ?_
  unfold wY_monadic_290
  rw [nI_clamp (show s < 2 ^ 31 by omega), pk_un (show s ≠ 16 by omega), v1]
  refine br_t rfl ⟨vp_in_nI (by omega) (by omega), ?_⟩
  refine ya_shape (s := 15) (by omega) ?_
  dsimp only
  have hrs : upd (upd yr 16 (nI r)) 15 1 s = nI r := by rw [pk_un (by omega), pk_un (by omega), v1]
  refine dr_lp1 (σ := (Nat → Int32) × (Nat → Int32)) r
    (fun n i t => wY_monadic_316 post (nI s) n (nI i) (nI M) yv yt yu yp yk yw yd (upd (upd yr 16 (nI r)) 15 1) (upd (upd (upd (upd (upd (upd ye 48 (nI e0)) 49 (nI e1)) 50 (nI e2)) (15 * 3) (nI r)) (15 * 3 + 1) 1) (15 * 3 + 2) 1) t.1 t.2 yq yn yh yz)
    (fun i t => dr_wr 480 (fun p => (nI (r - 1 - p), 0)) yi1 yf1 i t.1 t.2)
    (fun n t hI => by
      rw [wY_monadic_316]
      dsimp only
      rw [nI_clamp (show s < 2 ^ 31 by omega), hrs]
      refine ⟨vp_in_nI (by omega) (by omega), br_t (nI_le (Nat.le_refl _) (by omega)) ?_⟩
      have okL : dr_ok M (1, r, 1, 1, fun p => (nI (r - 1 - p), 0)) := ⟨by omega, by omega, by omega, by omega, by omega, fun _ => rfl, fun _ => rfl, by omega, fun i _ => dr_eok0⟩
      have hF1 : yd_F 15 yr ye yi yf (upd (upd yr 16 (nI r)) 15 1) (upd (upd (upd (upd (upd (upd ye 48 (nI e0)) 49 (nI e1)) 50 (nI e2)) (15 * 3) (nI r)) (15 * 3 + 1) 1) (15 * 3 + 2) 1) t.1 t.2 := by
        refine ⟨fun s hs => ?_, fun j hj => ?_, fun j hj => ?_⟩
        · rw [pk_un (by omega), pk_un (by omega)]
        · rw [pk_un (by omega), pk_un (by omega), pk_un (by omega), pk_un (by omega), pk_un (by omega), pk_un (by omega)]
        · have o := hI.2 j (by omega)
          have o2 := hw.2 j (by omega)
          exact ⟨o.1.trans o2.1, o.2.trans o2.2⟩
      refine yo_struct (code := 13) (by omega) hs hM hM1 okL ok ⟨pk_us, dr_u30, dr_u31, dr_u32, fun i hi => ?_⟩ (yd_Vf hF1 hs hM ok hV) ?_
      · rw [Nat.mul_one, Nat.mul_one] at hi
        exact hI.1 i hi
      · intro yr' ye' yi' yf' yq yn yh yz hF2 h16
        have e : dr_str M 13 (1, r, 1, 1, fun p => (nI (r - 1 - p), 0)) (r, e0, e1, e2, el) = dr_trn r (fun p => nI (r - 1 - p)) (r, e0, e1, e2, el) := by
          unfold dr_str
          dsimp only
          rw [if_neg (by omega), dr_if_f (by simp), dr_if_f (by rintro ⟨j, _, h⟩; exact h rfl)]
          unfold dr_st2
          rw [if_neg (by omega), if_neg (by omega), if_neg (by omega), if_neg (by omega)]
        rw [e] at h16 ⊢
        have z0 := dr_rax_0 (e0 := e0) (e1 := e1) (e2 := e2) (el := el) k1
        rw [z0]
        exact K _ _ _ _ _ _ _ _ (yd_Ft hF1 hF2) (h16 z0))
    (fun n i t hi hI hW => by
      rw [wY_monadic_316]
      dsimp only
      rw [nI_clamp (show s < 2 ^ 31 by omega), hrs, na_s1 (by omega), pk_sub (by omega)]
      refine ⟨vp_in_nI (by omega) (by omega), br_f (nI_ge hi (by omega)) ⟨vp_in_nI (by omega) (by omega), ?_⟩⟩
      refine ya_set (s := 15) (by omega) ?_
      dsimp only
      exact nm_r (nI_1 i) (hW (_, _) (dr_wrs hI rfl)))
    0 (Nat.zero_le _) (yi1, yf1) dr_wr0
theorem yo_outer {c : Int32} (hc : dr_c8 c) (hs : s < 15) (hM : M ≤ 32) (okL : dr_ok M (rl, l0, l1, l2, lel)) (okR : dr_ok M (r, e0, e1, e2, el)) (hL : yd_V yr ye yi yf 15 (rl, l0, l1, l2, lel)) (hR : yd_V yr ye yi yf s (r, e0, e1, e2, el))
    (K : ∀ yr' ye' yi' yf', yd_F 15 yr ye yi yf yr' ye' yi' yf' → ((dr_out M c (rl, l0, l1, l2, lel) (r, e0, e1, e2, el)).1 = 0 → yd_V yr' ye' yi' yf' 16 (dr_out M c (rl, l0, l1, l2, lel) (r, e0, e1, e2, el)).2) →
      post (dr_out M c (rl, l0, l1, l2, lel) (r, e0, e1, e2, el)).1 (nI M, yv, yt, yu, yp, yk, yw, yd, yr', ye', yi', yf', yq, yn, yh, yz)) :
    wpY_outer post (nI M, yv, yt, yu, yp, yk, yw, yd, yr, ye, yi, yf, yq, yn, yh, yz) c (nI s) := by
  obtain ⟨v1, v2, v3, v4, v5⟩ := hR
  obtain ⟨u1, u2, u3, u4, u5⟩ := hL
  have okL' := okL
  have okR' := okR
  obtain ⟨k1, k2, k3, k4, k5, k6, k7, k8, k9⟩ := okL'
  obtain ⟨j1, j2, j3, j4, j5, j6, j7, j8, j9⟩ := okR'
  unfold dr_out at K
  dsimp only at K
  have u1' : yr 15 = nI rl := u1
  have hbig : l0 * l1 * l2 * (e0 * e1 * e2) ≤ 32 * 32 := Nat.mul_le_mul (by omega) (by omega)
  unfold wpY_outer
  dsimp only
  refine ya_size (s := 15) (by omega) ?_
  rw [u2, u3, u4, pk_mul, pk_mul]
  refine ya_size (by omega) ?_
  rw [v2, v3, v4, pk_mul, pk_mul, u1', nI_clamp (show s < 2 ^ 31 by omega), v1, pk_mul]
  refine nm_e ⟨vp_in_nI (by omega) (by omega), ?_⟩
  rw [nI_add]
  by_cases hr : 3 < rl + r
  · rw [if_pos hr] at K
    exact br_f (nI_ge (a := 3) hr (by omega)) (K _ _ _ _ yd_F0 (na_err (c := -11) (by decide)))
  rw [if_neg hr] at K
  refine br_t (nI_le (b := 3) (by omega) (by omega)) ?_
  by_cases hl : M < l0 * l1 * l2 * (e0 * e1 * e2)
  · rw [if_pos hl] at K
    exact br_f (nI_ge hl (by omega)) (K _ _ _ _ yd_F0 (na_err (c := -15) (by decide)))
  rw [if_neg hl] at K
  refine br_t (nI_le (by omega) (by omega)) ?_
  have hp := dr_ox_prod okL okR (by omega)
  have hL3 : ∀ p, p < 3 → ye (45 + p) = nI (dr_h l0 l1 l2 p) := by
    intro p hp
    rcases (show p = 0 ∨ p = 1 ∨ p = 2 by omega) with rfl | rfl | rfl
    · exact u2
    · exact u3
    · exact u4
  have hR3 : ∀ p, p < 3 → ye (s * 3 + p) = nI (dr_h e0 e1 e2 p) := by
    intro p hp
    rcases (show p = 0 ∨ p = 1 ∨ p = 2 by omega) with rfl | rfl | rfl
    · exact v2
    · exact v3
    · exact v4
  refine dr_lp1 (σ := Nat → Int32) 3
    (fun n i t => wY_outer_56 post c (nI s) (nI (l0 * l1 * l2)) (nI (e0 * e1 * e2)) (nI rl) (nI M) yv yt yu yp n (nI i) yk yw yd yr t yi yf yq yn yh yz)
    (fun i t => (∀ p, p < i → t (48 + p) = nI (dr_ox rl l0 l1 l2 e0 e1 e2 p)) ∧ (∀ j, j < 48 → t j = ye j))
    (fun n t hI => by
      rw [wY_outer_56]
      dsimp only
      rw [nI_clamp (show s < 2 ^ 31 by omega), v1]
      refine br_t (nI_le (a := 3) (b := 3) (by omega) (by omega)) ⟨vp_in_nI (by omega) (by omega), nm_e ?_⟩
      rw [nI_add]
      refine dr_lp2 (σ := (Nat → Int32) × (Nat → Int32)) (l0 * l1 * l2) (e0 * e1 * e2)
        (fun n i x => wY_outer_131 post c (nI s) (nI (l0 * l1 * l2)) (nI (e0 * e1 * e2)) n (nI i) (nI M) yv yt yu yp yk yw yd (upd yr 16 (nI (rl + r))) t x.1 x.2 yq yn yh yz)
        (fun n i f j x => wY_outer_140 post (wY_outer_131 post c (nI s) (nI (l0 * l1 * l2)) (nI (e0 * e1 * e2)) n) c (nI s) (nI (l0 * l1 * l2)) (nI (e0 * e1 * e2)) (nI i) f (nI j) (nI M) yv yt yu yp yk yw yd (upd yr 16 (nI (rl + r))) t x.1 x.2 yq yn yh yz)
        (fun i x => dr_wr 512 (fun t => dr_pv c (lel (t / (e0 * e1 * e2))) (el (t % (e0 * e1 * e2)))) yi yf i x.1 x.2)
        (fun n x hW => by
          rw [wY_outer_131]
          refine br_t (nI_le (Nat.le_refl _) (by omega)) ?_
          refine K _ _ _ _ ⟨fun s hs => pk_un (by omega), fun j hj => hI.2 j (by omega), fun j hj => hW.2 j (by omega)⟩ (fun _ => ⟨pk_us, hI.1 0 (by omega), hI.1 1 (by omega), hI.1 2 (by omega), fun i hi => ?_⟩)
          rw [hp] at hi
          exact hW.1 i hi)
        (fun n i x hi hW => by
          rw [wY_outer_131]
          exact br_f (nI_ge hi (by omega)) hW)
        (fun n i f x hi hW => by
          rw [wY_outer_140]
          exact br_t (nI_le (Nat.le_refl _) (by omega)) (nm_r (nI_1 i) hW))
        (fun n i f j x hi hj hJ hW => by
          rw [wY_outer_140]
          have hb := dr_f2 hi hj
          refine br_f (nI_ge hj (by omega)) ?_
          have o1 := hJ.2 (480 + i) (by omega)
          have o2 := hJ.2 (s * 32 + j) (by omega)
          have o3 := u5 i hi
          have o4 := v5 j hj
          rw [na_pa480, na_mr32, nI_add, pk_mul, nI_add, nI_clamp (show 480 + i < 2 ^ 31 by omega), nI_clamp (show s * 32 + j < 2 ^ 31 by omega), o1.1, o1.2, o2.1, o2.2, o4.1, o4.2]
          refine ⟨vp_in_nI (by omega) (by omega), vp_in_nI (by omega) (by omega), vp_in_nI (by omega) (by omega), vp_in_nI (by omega) (by omega), ?_⟩
          have o3' : yi (480 + i) = (lel i).1 ∧ yf (480 + i) = (lel i).2 := o3
          rw [o3'.1, o3'.2]
          refine ya_pair hc (by omega) ?_
          dsimp only
          refine nm_r (nI_1 j) (hW (_, _) (dr_wrs hJ ?_))
          rw [dr_dv hj, dr_md hj])
        (yi, yf) dr_wr0)
    (fun n i t hi hI hW => by
      rw [wY_outer_56]
      refine br_f (nI_ge (b := 3) hi (by omega)) ?_
      have fin : ∀ x, x = nI (dr_ox rl l0 l1 l2 e0 e1 e2 i) → wY_outer_56 post c (nI s) (nI (l0 * l1 * l2)) (nI (e0 * e1 * e2)) (nI rl) (nI M) yv yt yu yp n (nI (i + 1)) yk yw yd yr (upd t (48 + i) x) yi yf yq yn yh yz := by
        intro x hx
        refine hW _ ⟨fun p hp => ?_, fun j hj => (pk_un (by omega)).trans (hI.2 j hj)⟩
        rcases Nat.lt_or_ge p i with z | z
        · exact (pk_un (by omega)).trans (hI.1 p z)
        · have e : p = i := by omega
          rw [e]
          exact pk_us.trans hx
      rcases Nat.lt_or_ge i rl with z | z
      · refine br_f (nI_ge z (by omega)) ?_
        rw [na_pa45, na_pa48, nI_clamp (show 45 + i < 2 ^ 31 by omega), nI_clamp (show 48 + i < 2 ^ 31 by omega)]
        refine ⟨vp_in_nI (by omega) (by omega), vp_in_nI (by omega) (by omega), nm_e (nm_r (nI_1 i) (fin _ ?_))⟩
        rw [hI.2 _ (by omega), hL3 i hi]
        unfold dr_ox
        rw [if_pos z]
      · refine br_t (nI_le z (by omega)) ?_
        rw [na_mr3, nI_add, pk_sub (by omega), na_pa48, nI_clamp (show s * 3 + i - rl < 2 ^ 31 by omega), nI_clamp (show 48 + i < 2 ^ 31 by omega), show s * 3 + i - rl = s * 3 + (i - rl) by omega]
        refine ⟨vp_in_nI (by omega) (by omega), vp_in_nI (by omega) (by omega), nm_e (nm_r (nI_1 i) (fin _ ?_))⟩
        rw [hI.2 _ (by omega), hR3 (i - rl) (by omega)]
        unfold dr_ox
        rw [if_neg (by omega)])
    0 (by omega) ye ⟨fun p hp => by omega, fun _ _ => rfl⟩
end
end
section
section
variable {post : Int32 → SY → Prop} {M s r e0 e1 e2 rl l0 l1 l2 : Nat} {el lel : Nat → dr_E} {yc yv yt yu yp : Int32} {yk yw yd yr ye yi yf yq yn yh yz : Nat → Int32}
theorem yo_pw {c : Int32} (hc : dr_c8 c) (hs : s < 15) (hM : M ≤ 32) (okL : dr_ok M (rl, l0, l1, l2, lel)) (okR : dr_ok M (r, e0, e1, e2, el)) (hL : yd_V yr ye yi yf 15 (rl, l0, l1, l2, lel)) (hR : yd_V yr ye yi yf s (r, e0, e1, e2, el)) {x1 : Int32} (h5 : ¬ x1 = 5)
    (K : ∀ yr' ye' yi' yf', yd_F 15 yr ye yi yf yr' ye' yi' yf' → ((dr_pw M c (rl, l0, l1, l2, lel) (r, e0, e1, e2, el)).1 = 0 → yd_V yr' ye' yi' yf' 16 (dr_pw M c (rl, l0, l1, l2, lel) (r, e0, e1, e2, el)).2) →
      post (dr_pw M c (rl, l0, l1, l2, lel) (r, e0, e1, e2, el)).1 (nI M, yv, yt, yu, yp, yk, yw, yd, yr', ye', yi', yf', yq, yn, yh, yz)) :
    wY_dyadic_18 post x1 c (nI s) (nI M) yv yt yu yp yk yw yd yr ye yi yf yq yn yh yz := by
  have hR' := hR
  have hL' := hL
  obtain ⟨v1, v2, v3, v4, v5⟩ := hR'
  obtain ⟨u1, u2, u3, u4, u5⟩ := hL'
  have u1' : yr 15 = nI rl := u1
  have r3 := okR.1
  have rl3 := okL.1
  have hout : (rl = 0 ∨ r = 0) → wY_dyadic_42 post c (nI s) (nI M) yv yt yu yp yk yw yd yr ye yi yf yq yn yh yz := by
    intro h
    unfold dr_pw at K
    dsimp only at K
    rw [if_pos h] at K
    unfold wY_dyadic_42
    exact yo_outer hc hs hM okL okR hL hR K
  unfold wY_dyadic_18
  rw [nI_clamp (show s < 2 ^ 31 by omega), v1, u1']
  refine br_f h5 ?_
  by_cases h1 : rl = 0
  · exact br_t (by rw [h1]; rfl) (hout (Or.inl h1))
  refine br_f (nI_ne0 (by omega) (by omega)) ⟨vp_in_nI (by omega) (by omega), ?_⟩
  by_cases h2 : r = 0
  · exact br_t (by rw [h2]; rfl) (hout (Or.inr h2))
  refine br_f (nI_ne0 (by omega) (by omega)) ⟨vp_in_nI (by omega) (by omega), ?_⟩
  unfold dr_pw at K
  dsimp only at K
  rw [if_neg (by omega)] at K
  by_cases h3 : rl = r
  · rw [if_neg (by omega)] at K
    refine br_t (congrArg nI h3) ?_
    have hL3 : ∀ p, p < 3 → ye (45 + p) = nI (dr_h l0 l1 l2 p) ∧ dr_h l0 l1 l2 p ≤ 32 := by
      intro p hp
      rcases (show p = 0 ∨ p = 1 ∨ p = 2 by omega) with rfl | rfl | rfl
      · exact ⟨u2, okL.2.1⟩
      · exact ⟨u3, okL.2.2.1⟩
      · exact ⟨u4, okL.2.2.2.1⟩
    have hR3 : ∀ p, p < 3 → ye (s * 3 + p) = nI (dr_h e0 e1 e2 p) ∧ dr_h e0 e1 e2 p ≤ 32 := by
      intro p hp
      rcases (show p = 0 ∨ p = 1 ∨ p = 2 by omega) with rfl | rfl | rfl
      · exact ⟨v2, okR.2.1⟩
      · exact ⟨v3, okR.2.2.1⟩
      · exact ⟨v4, okR.2.2.2.1⟩
    refine dr_lp1 (σ := Unit) 3 (fun n i _ => wY_dyadic_71 post c (nI s) (nI M) yv yt yu yp yk yw yd yr ye yi yf yq yn yh yz n (nI i)) (fun i _ => ∀ p, p < i → dr_h l0 l1 l2 p = dr_h e0 e1 e2 p) ?_ ?_ 0 (by omega) () (fun p hp => by omega)
    · intro n _ hI
      have a0 : l0 = e0 := hI 0 (by omega)
      have a1 : l1 = e1 := hI 1 (by omega)
      have a2 : l2 = e2 := hI 2 (by omega)
      rw [if_neg (by simp [a0, a1, a2])] at K
      rw [wY_dyadic_71]
      refine br_t (nI_le (a := 3) (b := 3) (by omega) (by omega)) ?_
      refine ya_copy (b := 16) (by omega) (by omega) (by omega) ?_
      intro yi1 yf1 hw
      dsimp only
      have k8 := okR.2.2.2.2.2.2.2.1
      have hN := yd_cpN (b := 16) hw hM okR hR
      have hF := yd_cpF (b := 16) (yr := yr) (ye := ye) (x := yr s) (x0 := ye (s * 3)) (x1 := ye (s * 3 + 1)) (x2 := ye (s * 3 + 2)) hw
      rw [v1, v2, v3, v4] at hN hF
      rw [v1, v2, v3, v4]
      refine dr_lp1 (σ := (Nat → Int32) × (Nat → Int32)) (e0 * e1 * e2)
        (fun n i t => wY_dyadic_120 post c (nI s) n (nI i) (nI M) yv yt yu yp yk yw yd (upd yr 16 (nI r)) (upd (upd (upd ye (16 * 3) (nI e0)) (16 * 3 + 1) (nI e1)) (16 * 3 + 2) (nI e2)) t.1 t.2 yq yn yh yz)
        (fun i t => dr_wr 512 (fun i => dr_pv c (lel i) (el i)) yi1 yf1 i t.1 t.2)
        (fun n t hJ => by
          rw [wY_dyadic_120]
          refine ya_size (by omega) ?_
          rw [hF.2.1 (s * 3) (by omega), hF.2.1 (s * 3 + 1) (by omega), hF.2.1 (s * 3 + 2) (by omega), v2, v3, v4, pk_mul, pk_mul]
          refine br_t (nI_le (Nat.le_refl _) (by omega)) ?_
          refine K _ _ _ _ ⟨fun s hs => hF.1 s (by omega), fun j hj => hF.2.1 j (by omega), fun j hj => ?_⟩ (fun _ => ⟨hN.1, hN.2.1, hN.2.2.1, hN.2.2.2.1, fun i hi => hJ.1 i hi⟩)
          have o := hJ.2 j (by omega)
          have o2 := hw.2 j (by omega)
          exact ⟨o.1.trans o2.1, o.2.trans o2.2⟩)
        (fun n i t hi hJ hW => by
          rw [wY_dyadic_120]
          refine ya_size (by omega) ?_
          rw [hF.2.1 (s * 3) (by omega), hF.2.1 (s * 3 + 1) (by omega), hF.2.1 (s * 3 + 2) (by omega), v2, v3, v4, pk_mul, pk_mul]
          refine br_f (nI_ge hi (by omega)) ?_
          have o1 := hJ.2 (480 + i) (by omega)
          have o2 := hJ.2 (s * 32 + i) (by omega)
          have p1 := hw.2 (480 + i) (by omega)
          have p2 := hw.2 (s * 32 + i) (by omega)
          have o3 : yi (480 + i) = (lel i).1 ∧ yf (480 + i) = (lel i).2 := u5 i (by rw [a0, a1, a2]; exact hi)
          have o4 := v5 i hi
          rw [na_pa480, na_mr32, nI_add, nI_clamp (show 480 + i < 2 ^ 31 by omega), nI_clamp (show s * 32 + i < 2 ^ 31 by omega), o1.1, o1.2, o2.1, o2.2, p1.1, p1.2, p2.1, p2.2, o4.1, o4.2, o3.1, o3.2]
          refine ⟨vp_in_nI (by omega) (by omega), vp_in_nI (by omega) (by omega), vp_in_nI (by omega) (by omega), vp_in_nI (by omega) (by omega), ?_⟩
          refine ya_pair hc (by omega) ?_
          dsimp only
          exact nm_r (nI_1 i) (hW (_, _) (dr_wrs hJ rfl)))
        0 (Nat.zero_le _) (yi1, yf1) dr_wr0
    · intro n i _ hi hI hW
      rw [wY_dyadic_71]
      refine br_f (nI_ge (b := 3) hi (by omega)) ?_
      rw [na_pa45, na_mr3, nI_add, nI_clamp (show 45 + i < 2 ^ 31 by omega), nI_clamp (show s * 3 + i < 2 ^ 31 by omega), (hL3 i hi).1, (hR3 i hi).1]
      refine ⟨vp_in_nI (by omega) (by omega), vp_in_nI (by omega) (by omega), ?_⟩
      have b1 := (hL3 i hi).2
      have b2 := (hR3 i hi).2
      by_cases w : dr_h l0 l1 l2 i = dr_h e0 e1 e2 i
      · refine br_t (congrArg nI w) (nm_r (nI_1 i) (hW () (fun p hp => ?_)))
        rcases Nat.lt_or_ge p i with z | z
        · exact hI p z
        · have e : p = i := by omega
          rw [e]; exact w
      · have hne : ¬ (l0 = e0 ∧ l1 = e1 ∧ l2 = e2) := by
          rintro ⟨a0, a1, a2⟩
          rw [a0, a1, a2] at w
          exact w rfl
        rw [if_pos hne] at K
        exact br_f (fun z => w ((nI_eq (by omega) (by omega)).mp z)) (K _ _ _ _ yd_F0 (na_err (c := -12) (by decide)))
  · rw [if_pos h3] at K
    exact br_f (fun z => h3 ((nI_eq (by omega) (by omega)).mp z)) (K _ _ _ _ yd_F0 (na_err (c := -11) (by decide)))
theorem yo_mon {kind code : Nat} (hk : (kind = 2 ∧ code ≤ 14) ∨ (kind = 3 ∧ code ≤ 8) ∨ (kind = 4 ∧ code ≤ 8)) (hs : s < 15) (hM : M ≤ 32) (hM1 : 4 ≤ M) (ok : dr_ok M (r, e0, e1, e2, el)) (hV : yd_V yr ye yi yf s (r, e0, e1, e2, el))
    (K : ∀ yr' ye' yi' yf' yq yn yh yz, yd_F 15 yr ye yi yf yr' ye' yi' yf' → ((dr_mon M kind code (r, e0, e1, e2, el)).1 = 0 → yd_V yr' ye' yi' yf' 16 (dr_mon M kind code (r, e0, e1, e2, el)).2) →
      post (dr_mon M kind code (r, e0, e1, e2, el)).1 (nI M, yv, yt, yu, yp, yk, yw, yd, yr', ye', yi', yf', yq, yn, yh, yz)) :
    wpY_monadic post (nI M, yv, yt, yu, yp, yk, yw, yd, yr, ye, yi, yf, yq, yn, yh, yz) (nI kind) (nI code) (nI s) := by
  unfold dr_mon at K
  dsimp only at K
  rcases hk with ⟨rfl, hc⟩ | ⟨rfl, hc⟩ | ⟨rfl, hc⟩
  · rw [if_neg (by omega), if_neg (by omega)] at K
    rcases Nat.lt_or_ge 8 code with h8 | h8
    · rw [if_neg (by omega)] at K
      rcases (show code = 9 ∨ code = 10 ∨ code = 11 ∨ code = 12 ∨ code = 13 ∨ code = 14 by omega) with rfl | rfl | rfl | rfl | rfl | rfl
      · rw [if_neg (by omega), if_pos rfl] at K
        exact yo_shape hM hs ok hV (fun a b c d f h => K a b c d _ _ _ _ f (fun _ => h))
      · rw [if_neg (by omega), if_neg (by omega), if_pos rfl] at K
        exact yo_first hM hs ok hV (fun a b c d f h => K a b c d _ _ _ _ f (fun _ => h))
      · rw [if_neg (by omega), if_neg (by omega), if_neg (by omega), if_pos rfl] at K
        exact yo_ravel hM hs ok hV (fun a b c d f h => K a b c d _ _ _ _ f (fun _ => h))
      · rw [if_neg (by omega), if_neg (by omega), if_neg (by omega), if_neg (by omega), if_pos rfl] at K
        exact yo_rev hM hs ok hV (fun a b c d f h => K a b c d _ _ _ _ f (fun _ => h))
      · rw [if_neg (by omega), if_neg (by omega), if_neg (by omega), if_neg (by omega), if_neg (by omega)] at K
        exact yo_rax hM hM1 hs ok hV (fun a b c d e g i j f h => K a b c d e g i j f (fun _ => h))
      · rw [if_pos rfl] at K
        unfold wpY_monadic
        dsimp only
        refine br_t rfl (br_t rfl ?_)
        exact yo_iota hM hs ok hV (by omega) (fun a b c d f h => K a b c d _ _ _ _ f h)
    · rw [if_pos h8] at K
      exact yo_mono hM hs ok hV (dr_c8n h8) (fun a b c d f h => K a b c d _ _ _ _ f (fun _ => h))
  · rw [if_pos rfl] at K
    unfold wpY_monadic
    dsimp only
    refine br_f (by decide) ?_
    exact yo_red hM hs ok hV (dr_c8n hc) (fun a b c d f h => K a b c d _ _ _ _ f h)
  · rw [if_neg (by omega), if_pos rfl] at K
    unfold wpY_monadic
    dsimp only
    refine br_f (by decide) ?_
    exact yo_scan hM hs ok hV (dr_c8n hc) (fun a b c d f h => K a b c d _ _ _ _ f (fun _ => h))
theorem yo_dya {kind code : Nat} (hk : (kind = 2 ∧ code ≤ 13) ∨ (kind = 5 ∧ code ≤ 8)) (hs : s < 15) (hM : M ≤ 32) (hM1 : 4 ≤ M) (okL : dr_ok M (rl, l0, l1, l2, lel)) (okR : dr_ok M (r, e0, e1, e2, el)) (hL : yd_V yr ye yi yf 15 (rl, l0, l1, l2, lel)) (hR : yd_V yr ye yi yf s (r, e0, e1, e2, el))
    (K : ∀ yr' ye' yi' yf' yq yn yh yz, yd_F 15 yr ye yi yf yr' ye' yi' yf' → ((dr_dya M kind code (rl, l0, l1, l2, lel) (r, e0, e1, e2, el)).1 = 0 → yd_V yr' ye' yi' yf' 16 (dr_dya M kind code (rl, l0, l1, l2, lel) (r, e0, e1, e2, el)).2) →
      post (dr_dya M kind code (rl, l0, l1, l2, lel) (r, e0, e1, e2, el)).1 (nI M, yv, yt, yu, yp, yk, yw, yd, yr', ye', yi', yf', yq, yn, yh, yz)) :
    wpY_dyadic post (nI M, yv, yt, yu, yp, yk, yw, yd, yr, ye, yi, yf, yq, yn, yh, yz) (nI kind) (nI code) (nI s) := by
  unfold dr_dya at K
  unfold wpY_dyadic
  dsimp only
  rcases hk with ⟨rfl, hc⟩ | ⟨rfl, hc⟩
  · rw [if_neg (by omega)] at K
    refine br_t rfl ?_
    rcases Nat.lt_or_ge 8 code with h8 | h8
    · rw [if_neg (by omega)] at K
      refine br_f (nI_nlt (b := 9) (by omega) (by omega)) ?_
      exact yo_struct (by omega) hs hM hM1 okL okR hL hR K
    · rw [if_pos h8] at K
      refine br_t (nI_lt (b := 9) (by omega) (by omega)) ?_
      exact yo_pw (dr_c8n h8) hs hM okL okR hL hR (by decide) (fun a b c d f h => K a b c d _ _ _ _ f h)
  · rw [if_pos rfl] at K
    refine br_f (by decide) ?_
    unfold wY_dyadic_18 wY_dyadic_42
    refine br_t rfl ?_
    exact yo_outer (dr_c8n hc) hs hM okL okR hL hR (fun a b c d f h => K a b c d _ _ _ _ f h)
end
end
section
theorem xd_top2 {P : SX → Prop} {k : xd_K} {m0 f0 : Nat → Int32} {M : Nat} {U : Nat → Prop} {AL AR : dr_A} {l : List dr_A} {B : Nat} {u : SX} (R : xd_R k m0 f0 M U (AL :: AR :: l) B u)
    (h : ∀ (z0 z1 z2 z3 vc mt ll oc ep ov ou cc : Int32) (tk tv mv mf br be wr we ws ik ia sd pd ix rv rf ne st ns ct gv gf : Nat → Int32) (a m q : Nat),
      (z0, z1, z2, z3, nI M, vc, mt, ll, oc, ep, tk, tv, br, be, pd) = k → (∀ j, j < 256 → mv j = m0 j ∧ mf j = f0 j) → 0 < m → 0 < q → a + m + q + l.length + 2 ≤ B → ws l.length = nI a → ws (l.length + 1) = nI (a + m) →
      xd_V (dr_S U) M mv mf wr we ik ia sd l.length a m AR → xd_V (dr_S U) M mv mf wr we ik ia sd (l.length + 1) (a + m) q AL → xd_S (dr_S U) M mv mf wr we ws ik ia sd l a → P (z0, z1, z2, z3, nI M, vc, mt, ll, oc, ep, nI (l.length + 1 + 1), nI (a + m + q), ov, ou, cc, tk, tv, mv, mf, br, be, wr, we, ws, ik, ia, sd, pd, ix, rv, rf, ne, st, ns, ct, gv, gf)) : P u := by
  refine xd_top R ?_
  intro z0 z1 z2 z3 vc mt ll oc ep ov ou cc tk tv mv mf br be wr we ws ik ia sd pd ix rv rf ne st ns ct gv gf a' q hk hmem hq hB hs hV hS
  obtain ⟨a, m, rfl, hm, hs2, hV2, hS2⟩ := hS
  simp only [List.length_cons] at hB
  exact h z0 z1 z2 z3 vc mt ll oc ep ov ou cc tk tv mv mf br be wr we ws ik ia sd pd ix rv rf ne st ns ct gv gf a m q hk hmem hm hq (by omega) hs2 hs hV2 hV hS2
/-- a scalar's program gives its element at all indices -/
theorem xd_V_sc {S : Nat → Prop} {M : Nat} {mv mf wr we ik ia sd : Nat → Int32} {w a m e0 e1 e2 : Nat} {el : Nat → dr_E} {x0 x1 x2 : Int32} (h : xd_V S M mv mf wr we ik ia sd w a m (0, e0, e1, e2, el)) :
    dr_ev S mv mf ik ia sd a m x0 x1 x2 (el 0) := by
  obtain ⟨-, -, -, -, ok, hz, h7⟩ := h
  obtain ⟨k1, k2, k3, k4, k5, k6, k7, k8, k9⟩ := ok
  have a0 := k5 rfl
  have a1 := k6 (by omega)
  have a2 := k7 (by omega)
  subst a0 a1 a2
  have hv := h7 0 0 0 (by omega) (by omega) (by omega)
  simp only [Nat.zero_mul, Nat.add_zero] at hv
  refine dr_ev_map hv (fun d h1 h2 => ⟨rfl, fun _ => rfl, fun _ => ?_⟩)
  have t0 := hz d 0 h1 h2 (by omega) (Or.inl (by omega))
  have t1 := hz d 1 h1 h2 (by omega) (Or.inl (by omega))
  have t2 := hz d 2 h1 h2 (by omega) (Or.inl (by omega))
  rw [Nat.add_zero] at t0
  unfold dr_ad
  rw [t0, t1, t2]
  simp only [Int32.mul_zero]
section
variable {k : xd_K} {m0 f0 : Nat → Int32} {M : Nat} {U : Nat → Prop} {l : List dr_A} {B : Nat} {u : SX} {r e0 e1 e2 rl l0 l1 l2 : Nat} {el lel : Nat → dr_E}
section
variable {z0 z1 z2 z3 mc vc mt ll oc ep vn cl ov ou cc : Int32} {tk tv mv mf br be wr we ws ik ia sd pd ix rv rf ne st ns ct gv gf : Nat → Int32}
/-- two programs joined by a dyadic instruction -/
theorem xd_join {a m q r' f0' f1' f2' : Nat} {g : Nat → dr_E} {c : Int32} {sd' wr' we' : Nat → Int32} (hk : (z0, z1, z2, z3, nI M, vc, mt, ll, oc, ep, tk, tv, br, be, pd) = k) (hmem : ∀ j, j < 256 → mv j = m0 j ∧ mf j = f0 j) (hm : 0 < m) (hB : a + m + q + l.length + 2 ≤ B) (hs : ws l.length = nI a)
    (hS : xd_S (dr_S U) M mv mf wr we ws ik ia sd l a) (h1 : wr' l.length = nI r') (h2 : we' (3 * l.length) = nI f0') (h3 : we' (3 * l.length + 1) = nI f1') (h4 : we' (3 * l.length + 2) = nI f2') (ok : dr_ok M (r', f0', f1', f2', g))
    (hw : ∀ j, j < l.length → wr' j = wr j ∧ ∀ q, q < 3 → we' (3 * j + q) = we (3 * j + q)) (hsd : ∀ j, j < 3 * a → sd' j = sd j)
    (hz : ∀ d q', a ≤ d → d < a + m + q → q' < 3 → (r' ≤ q' ∨ ik d = 2 ∨ ik d = 3) → sd' (3 * d + q') = 0)
    (hev : ∀ i0 i1 i2, i0 < f0' → i1 < f1' → i2 < f2' → ∃ x y, dr_ev (dr_S U) mv mf ik ia sd' a m (nI i0) (nI i1) (nI i2) x ∧ dr_ev (dr_S U) mv mf ik ia sd' (a + m) q (nI i0) (nI i1) (nI i2) y ∧ g ((i0 * f1' + i1) * f2' + i2) = dr_pv c y x) :
    xd_R k m0 f0 M U ((r', f0', f1', f2', g) :: l) B (z0, z1, z2, z3, nI M, vc, mt, ll, oc, ep, nI (l.length + 1), nI (a + m + q + 1), ov, ou, cc, tk, tv, mv, mf, br, be, wr', we', ws, upd ik (a + m + q) 3, upd ia (a + m + q) c, upd (upd (upd sd' (3 * (a + m + q)) 0) (3 * (a + m + q) + 1) 0) (3 * (a + m + q) + 2) 0, pd, ix, rv, rf, ne, st, ns, ct, gv, gf) := by
  have e : a + m + q + 1 = a + (m + q + 1) := by omega
  rw [e]
  refine xd_mk (m := m + q + 1) hk hmem (by omega) (by omega) hs ⟨h1, h2, h3, h4, ok, ?_, ?_⟩ ?_
  · intro d q' hd hd' hq z
    rcases Nat.lt_or_ge d (a + m + q) with y | y
    · rw [pk_un (show d ≠ a + m + q by omega)] at z
      rw [pk_un (by omega), pk_un (by omega), pk_un (by omega)]
      exact hz d q' hd y hq z
    · have e : d = a + m + q := by omega
      subst e
      rcases (show q' = 0 ∨ q' = 1 ∨ q' = 2 by omega) with rfl | rfl | rfl
      · rw [pk_un (by omega), pk_un (by omega), Nat.add_zero, pk_us]
      · rw [pk_un (by omega), pk_us]
      · rw [pk_us]
  · intro i0 i1 i2 b0 b1 b2
    obtain ⟨x, y, hx, hy, hg⟩ := hev i0 i1 i2 b0 b1 b2
    rw [hg]
    have cg : ∀ d, d < a + m + q → upd ik (a + m + q) 3 d = ik d ∧ (ik d = 2 ∨ ik d = 3 → upd ia (a + m + q) c d = ia d) ∧ (¬ (ik d = 2 ∨ ik d = 3) → dr_ad (upd ia (a + m + q) c) (upd (upd (upd sd' (3 * (a + m + q)) 0) (3 * (a + m + q) + 1) 0) (3 * (a + m + q) + 2) 0) (nI i0) (nI i1) (nI i2) d = dr_ad ia sd' (nI i0) (nI i1) (nI i2) d) := by
      intro d hd
      refine ⟨pk_un (by omega), fun _ => pk_un (by omega), fun _ => dr_ad_cg (pk_un (by omega)) (fun q hq => ?_)⟩
      rw [pk_un (by omega), pk_un (by omega), pk_un (by omega)]
    exact dr_ev_dy (dr_ev_map hx (fun d _ h2 => cg d (by omega))) (dr_ev_map hy (fun d _ h2 => cg d (by omega))) pk_us pk_us
  · refine xd_S_fr (fun _ hj => ⟨hj, rfl, rfl⟩) l a hS (fun j hj => ⟨(hw j hj).1, rfl, (hw j hj).2⟩) (fun j hj => ⟨pk_un (by omega), pk_un (by omega), fun q hq => ?_⟩)
    rw [pk_un (by omega), pk_un (by omega), pk_un (by omega)]
    exact hsd _ (by omega)
end
theorem xo_pw {post : Int32 → SX → Prop} {c : Int32} (R : xd_R k m0 f0 M U ((rl, l0, l1, l2, lel) :: (r, e0, e1, e2, el) :: l) B u) (hB : B ≤ 48) (hl : l.length + 1 < 10) (hM : M ≤ 32)
    (K : ∀ u', xd_B k m0 f0 u' → ((dr_pw M c (rl, l0, l1, l2, lel) (r, e0, e1, e2, el)).1 = 0 → xd_R k m0 f0 M U ((dr_pw M c (rl, l0, l1, l2, lel) (r, e0, e1, e2, el)).2 :: l) B u') → post (dr_pw M c (rl, l0, l1, l2, lel) (r, e0, e1, e2, el)).1 u') :
    wpX_pointwise post u c := by
  refine xd_top2 (P := fun u => wpX_pointwise post u c) R ?_
  intro z0 z1 z2 z3 vc mt ll oc ep ov ou cc tk tv mv mf br be wr we ws ik ia sd pd ix rv rf ne st ns ct gv gf a m q hk hmem hm hq hB' hs hs1 hVR hVL hS
  have hVR' := hVR
  have hVL' := hVL
  obtain ⟨h1, h2, h3, h4, h5, h6, h7⟩ := hVR'
  obtain ⟨g1, g2, g3, g4, g5, g6, g7⟩ := hVL'
  have ok := h5
  have okL := g5
  obtain ⟨k1, k2, k3, k4, k5, k6, k7, k8, k9⟩ := ok
  obtain ⟨j1, j2, j3, j4, j5, j6, j7, j8, j9⟩ := okL
  have hz : ∀ r', r ≤ r' → rl ≤ r' → ∀ d q', a ≤ d → d < a + m + q → q' < 3 → (r' ≤ q' ∨ ik d = 2 ∨ ik d = 3) → sd (3 * d + q') = 0 := by
    intro r' hr1 hr2 d q' hd hd' hq' z
    rcases Nat.lt_or_ge d (a + m) with y | y
    · exact h6 d q' hd y hq' (z.elim (fun z => Or.inl (by omega)) Or.inr)
    · exact g6 d q' y hd' hq' (z.elim (fun z => Or.inl (by omega)) Or.inr)
  unfold wpX_pointwise
  dsimp only
  refine nm_r (nI_pred (l.length + 1)) (nm_r (nI_pred l.length) ⟨vp_in_nI hl (by omega), ?_⟩)
  rw [nI_clamp (show l.length + 1 < 2 ^ 31 by omega), nI_clamp (show l.length < 2 ^ 31 by omega), g1, h1]
  have k151 : ∀ r', ∀ wr' we' f0' f1' f2' g, dr_pw M c (rl, l0, l1, l2, lel) (r, e0, e1, e2, el) = (0, (r', f0', f1', f2', g)) → wr' l.length = nI r' → we' (3 * l.length) = nI f0' → we' (3 * l.length + 1) = nI f1' → we' (3 * l.length + 2) = nI f2' → dr_ok M (r', f0', f1', f2', g) →
      (∀ j, j < l.length → wr' j = wr j ∧ ∀ q, q < 3 → we' (3 * j + q) = we (3 * j + q)) → r ≤ r' → rl ≤ r' →
      (∀ i0 i1 i2, i0 < f0' → i1 < f1' → i2 < f2' → ∃ x y, dr_ev (dr_S U) mv mf ik ia sd a m (nI i0) (nI i1) (nI i2) x ∧ dr_ev (dr_S U) mv mf ik ia sd (a + m) q (nI i0) (nI i1) (nI i2) y ∧ g ((i0 * f1' + i1) * f2' + i2) = dr_pv c y x) →
      wX_pointwise_151 post c (nI (l.length + 1)) z0 z1 z2 z3 (nI M) vc mt ll oc ep (nI (l.length + 1 + 1)) (nI (a + m + q)) ov ou cc tk tv mv mf br be wr' we' ws ik ia sd pd ix rv rf ne st ns ct gv gf := by
    intro r' wr' we' f0' f1' f2' g he w1 w2 w3 w4 w5 w6 w7 w8 w9
    rw [he] at K
    unfold wX_pointwise_151
    refine xa_add (by omega) ?_
    dsimp only
    have R2 := xd_join (z0 := z0) (z1 := z1) (z2 := z2) (z3 := z3) (vc := vc) (mt := mt) (ll := ll) (oc := oc) (ep := ep) (ov := ov) (ou := ou) (cc := cc) (tk := tk) (tv := tv) (br := br) (be := be) (pd := pd) (ix := ix) (rv := rv) (rf := rf) (ne := ne) (st := st) (ns := ns) (ct := ct) (gv := gv) (gf := gf) (sd' := sd) (c := c) hk hmem hm hB' hs hS w1 w2 w3 w4 w5 w6 (fun _ _ => rfl) (hz r' w7 w8) w9
    exact K _ (xd_RB R2) (fun _ => R2)
  by_cases hr1 : rl = 0
  · refine br_t (by rw [hr1]; rfl) ?_
    unfold wX_pointwise_93
    rw [nI_clamp (show l.length < 2 ^ 31 by omega), nI_clamp (show l.length + 1 < 2 ^ 31 by omega), h1, g1]
    refine ⟨vp_in_nI (by omega) (by omega), ?_⟩
    have c1 : l0 * l1 * l2 = 1 := by rw [j5 hr1, j6 (by omega), j7 (by omega)]
    have epw : dr_pw M c (rl, l0, l1, l2, lel) (r, e0, e1, e2, el) = (0, (rl + r, dr_ox rl l0 l1 l2 e0 e1 e2 0, dr_ox rl l0 l1 l2 e0 e1 e2 1, dr_ox rl l0 l1 l2 e0 e1 e2 2, fun t => dr_pv c (lel (t / (e0 * e1 * e2))) (el (t % (e0 * e1 * e2))))) := by
      unfold dr_pw dr_out
      dsimp only
      rw [if_pos (Or.inl hr1), if_neg (by omega), if_neg (by rw [c1]; omega)]
    have okr := dr_out_ok (c := c) g5 h5 (by omega) (by rw [c1]; omega)
    subst hr1
    have ox : ∀ p, dr_ox 0 l0 l1 l2 e0 e1 e2 p = dr_h e0 e1 e2 p := fun p => rfl
    rw [ox, ox, ox, Nat.zero_add] at epw okr
    have hev : ∀ i0 i1 i2, i0 < e0 → i1 < e1 → i2 < e2 → ∃ x y, dr_ev (dr_S U) mv mf ik ia sd a m (nI i0) (nI i1) (nI i2) x ∧ dr_ev (dr_S U) mv mf ik ia sd (a + m) q (nI i0) (nI i1) (nI i2) y ∧ (fun t => dr_pv c (lel (t / (e0 * e1 * e2))) (el (t % (e0 * e1 * e2)))) ((i0 * e1 + i1) * e2 + i2) = dr_pv c y x := by
      intro i0 i1 i2 b0 b1 b2
      have hf := dr_f3 b0 b1 b2
      refine ⟨_, _, h7 i0 i1 i2 b0 b1 b2, xd_V_sc hVL, ?_⟩
      dsimp only
      rw [Nat.div_eq_of_lt hf, Nat.mod_eq_of_lt hf]
    by_cases hr2 : r = 0
    · refine br_t (by rw [hr2]; rfl) ⟨vp_in_nI hl (by omega), vp_in_nI (by omega) (by omega), nm_e ?_⟩
      refine dr_lp1 (σ := Nat → Int32) 3 (fun n i s => wX_pointwise_117 post c (nI (l.length + 1)) (nI l.length) z0 z1 z2 z3 (nI M) vc mt ll oc ep (nI (l.length + 1 + 1)) (nI (a + m + q)) ov ou cc n (nI i) tk tv mv mf br be (upd wr l.length (nI 0)) s ws ik ia sd pd ix rv rf ne st ns ct gv gf)
        (fun i s => (∀ p, p < 3 → s (3 * l.length + p) = nI (dr_h e0 e1 e2 p)) ∧ (∀ j, j < 3 * l.length ∨ 3 * l.length + 3 ≤ j → s j = we j)) ?_ ?_ 0 (by omega) we ⟨na_all3 h2 h3 h4, fun _ _ => rfl⟩
      · intro n s hI
        rw [wX_pointwise_117]
        refine br_t (nI_le (a := 3) (b := 3) (by omega) (by omega)) ?_
        refine k151 r (upd wr l.length (nI 0)) s e0 e1 e2 _ epw (by rw [hr2]; exact pk_us) (hI.1 0 (by omega)) (hI.1 1 (by omega)) (hI.1 2 (by omega)) okr (fun j hj => ⟨pk_un (by omega), fun q hq => hI.2 _ (by omega)⟩) (Nat.le_refl _) (by omega) hev
      · intro n i s hi hI hW
        rw [wX_pointwise_117]
        have hn : ¬ (3 ≤ i) := by omega
        have hx : s (3 * (l.length + 1) + i) = nI (dr_h e0 e1 e2 i) := by
          rw [hI.2 _ (by omega)]
          have a0 := k5 hr2
          have a1 := k6 (by omega)
          have a2 := k7 (by omega)
          have b0 := j5 rfl
          have b1 := j6 (by omega)
          have b2 := j7 (by omega)
          rcases (show i = 0 ∨ i = 1 ∨ i = 2 by omega) with rfl | rfl | rfl
          · rw [Nat.add_zero, g2, b0]; show nI 1 = nI e0; rw [a0]
          · rw [g3, b1]; show nI 1 = nI e1; rw [a1]
          · rw [g4, b2]; show nI 1 = nI e2; rw [a2]
        simp (disch := omega) only [hn, hx, forall_eq, true_and, and_true, true_implies, false_implies, not_true_eq_false, not_false_eq_true, implies_true, forall_const, and_self, nI_leI, nI_ltI, nI_eq, vp_in_nI, nI_clamp, nI_add, pk_mul, pk_m1, nI_pred, nI_1, na_l0, na_g0, na_ll0, na_gl0, na_e0, na_p0, na_0p, na_c0, na_m1c, na_ap2, na_l3, na_l32, na_m3, na_m32, na_mr3, na_mr32, na_d1, na_d2, na_d3, na_d4, na_d5, na_d6, na_d7, na_d8, na_d9, ite_true, ite_false, reduceIte, if_true, if_false]
        refine hW _ ⟨fun p hp => ?_, fun j hj => (pk_un (by omega)).trans (hI.2 j hj)⟩
        by_cases e : p = i
        · rw [e, pk_us]
        · rw [pk_un (by omega)]; exact hI.1 p hp
    · refine br_f (nI_ne0 (by omega) (by omega)) ?_
      exact k151 r wr we e0 e1 e2 _ epw h1 h2 h3 h4 okr (fun _ _ => ⟨rfl, fun _ _ => rfl⟩) (Nat.le_refl _) (by omega) hev
  · refine br_f (nI_ne0 (by omega) (by omega)) ⟨vp_in_nI (by omega) (by omega), ?_⟩
    by_cases hr2 : r = 0
    · refine br_t (by rw [hr2]; rfl) ?_
      unfold wX_pointwise_93
      rw [nI_clamp (show l.length < 2 ^ 31 by omega), nI_clamp (show l.length + 1 < 2 ^ 31 by omega), h1, g1]
      have c1 : e0 * e1 * e2 = 1 := by rw [k5 hr2, k6 (by omega), k7 (by omega)]
      have epw : dr_pw M c (rl, l0, l1, l2, lel) (r, e0, e1, e2, el) = (0, (rl + r, dr_ox rl l0 l1 l2 e0 e1 e2 0, dr_ox rl l0 l1 l2 e0 e1 e2 1, dr_ox rl l0 l1 l2 e0 e1 e2 2, fun t => dr_pv c (lel (t / (e0 * e1 * e2))) (el (t % (e0 * e1 * e2))))) := by
        unfold dr_pw dr_out
        dsimp only
        rw [if_pos (Or.inr hr2), if_neg (by omega), if_neg (by rw [c1]; omega)]
      have okr := dr_out_ok (c := c) g5 h5 (by omega) (by rw [c1]; omega)
      have a0 := k5 hr2
      have a1 := k6 (by omega)
      have a2 := k7 (by omega)
      have ox : ∀ p, p < 3 → dr_ox rl l0 l1 l2 e0 e1 e2 p = dr_h l0 l1 l2 p := by
        intro p hp
        unfold dr_ox
        by_cases y : p < rl
        · rw [if_pos y]
        · rw [if_neg y, a0, a1, a2]
          have : ∀ x, dr_h 1 1 1 x = 1 := by intro x; unfold dr_h; repeat (first | rfl | split)
          rw [this]
          rcases (show p = 1 ∨ p = 2 by omega) with rfl | rfl
          · exact (j6 (by omega)).symm
          · exact (j7 (by omega)).symm
      rw [ox 0 (by omega), ox 1 (by omega), ox 2 (by omega), hr2, Nat.add_zero] at epw okr
      refine ⟨vp_in_nI (by omega) (by omega), br_t (by rw [hr2]; rfl) ⟨vp_in_nI hl (by omega), vp_in_nI (by omega) (by omega), nm_e ?_⟩⟩
      refine dr_lp1 (σ := Nat → Int32) 3 (fun n i s => wX_pointwise_117 post c (nI (l.length + 1)) (nI l.length) z0 z1 z2 z3 (nI M) vc mt ll oc ep (nI (l.length + 1 + 1)) (nI (a + m + q)) ov ou cc n (nI i) tk tv mv mf br be (upd wr l.length (nI rl)) s ws ik ia sd pd ix rv rf ne st ns ct gv gf)
        (fun i s => (∀ p, p < i → s (3 * l.length + p) = nI (dr_h l0 l1 l2 p)) ∧ (∀ j, j < 3 * l.length ∨ 3 * l.length + 3 ≤ j → s j = we j)) ?_ ?_ 0 (by omega) we ⟨fun p hp => by omega, fun _ _ => rfl⟩
      · intro n s hI
        rw [wX_pointwise_117]
        refine br_t (nI_le (a := 3) (b := 3) (by omega) (by omega)) ?_
        refine k151 rl (upd wr l.length (nI rl)) s l0 l1 l2 _ (by rw [hr2]; exact epw) pk_us (hI.1 0 (by omega)) (hI.1 1 (by omega)) (hI.1 2 (by omega)) okr (fun j hj => ⟨pk_un (by omega), fun q hq => hI.2 _ (by omega)⟩) (by omega) (Nat.le_refl _) ?_
        intro i0 i1 i2 b0 b1 b2
        subst hr2
        refine ⟨_, _, xd_V_sc hVR, g7 i0 i1 i2 b0 b1 b2, ?_⟩
        rw [c1, Nat.div_one, Nat.mod_one]
      · intro n i s hi hI hW
        rw [wX_pointwise_117]
        have hn : ¬ (3 ≤ i) := by omega
        have hx : s (3 * (l.length + 1) + i) = nI (dr_h l0 l1 l2 i) := by
          rw [hI.2 _ (by omega)]
          rcases (show i = 0 ∨ i = 1 ∨ i = 2 by omega) with rfl | rfl | rfl
          · exact g2
          · exact g3
          · exact g4
        simp (disch := omega) only [hn, hx, forall_eq, true_and, and_true, true_implies, false_implies, not_true_eq_false, not_false_eq_true, implies_true, forall_const, and_self, nI_leI, nI_ltI, nI_eq, vp_in_nI, nI_clamp, nI_add, pk_mul, pk_m1, nI_pred, nI_1, na_l0, na_g0, na_ll0, na_gl0, na_e0, na_p0, na_0p, na_c0, na_m1c, na_ap2, na_l3, na_l32, na_m3, na_m32, na_mr3, na_mr32, na_d1, na_d2, na_d3, na_d4, na_d5, na_d6, na_d7, na_d8, na_d9, ite_true, ite_false, reduceIte, if_true, if_false]
        refine hW _ ⟨fun p hp => ?_, fun j hj => (pk_un (by omega)).trans (hI.2 j hj)⟩
        by_cases e : p = i
        · rw [e, pk_us]
        · rw [pk_un (by omega)]; exact hI.1 p (by omega)
    · refine br_f (nI_ne0 (by omega) (by omega)) ⟨vp_in_nI hl (by omega), vp_in_nI (by omega) (by omega), ?_⟩
      unfold dr_pw at K k151
      dsimp only at K k151
      rw [if_neg (by omega)] at K k151
      by_cases h : rl = r
      · rw [if_neg (by omega)] at K k151
        refine br_t (congrArg nI h) ?_
        have hL3 : ∀ p, p < 3 → we (3 * (l.length + 1) + p) = nI (dr_h l0 l1 l2 p) ∧ dr_h l0 l1 l2 p ≤ 32 := by
          intro p hp
          rcases (show p = 0 ∨ p = 1 ∨ p = 2 by omega) with rfl | rfl | rfl
          · exact ⟨g2, j2⟩
          · exact ⟨g3, j3⟩
          · exact ⟨g4, j4⟩
        have hR3 : ∀ p, p < 3 → we (3 * l.length + p) = nI (dr_h e0 e1 e2 p) ∧ dr_h e0 e1 e2 p ≤ 32 := by
          intro p hp
          rcases (show p = 0 ∨ p = 1 ∨ p = 2 by omega) with rfl | rfl | rfl
          · exact ⟨h2, k2⟩
          · exact ⟨h3, k3⟩
          · exact ⟨h4, k4⟩
        refine dr_lp1 (σ := Unit) 3 (fun n i _ => wX_pointwise_50 post c (nI (l.length + 1)) (nI l.length) z0 z1 z2 z3 (nI M) vc mt ll oc ep (nI (l.length + 1 + 1)) (nI (a + m + q)) ov ou cc tk tv mv mf br be wr we ws ik ia sd pd ix rv rf ne st ns ct gv gf n (nI i)) (fun i _ => ∀ p, p < i → dr_h l0 l1 l2 p = dr_h e0 e1 e2 p) ?_ ?_ 0 (by omega) () (fun p hp => by omega)
        · intro n _ hI
          have a0 : l0 = e0 := hI 0 (by omega)
          have a1 : l1 = e1 := hI 1 (by omega)
          have a2 : l2 = e2 := hI 2 (by omega)
          rw [if_neg (by simp [a0, a1, a2])] at K k151
          rw [wX_pointwise_50]
          refine br_t (nI_le (a := 3) (b := 3) (by omega) (by omega)) ?_
          refine k151 r wr we e0 e1 e2 _ rfl h1 h2 h3 h4 ⟨k1, k2, k3, k4, k5, k6, k7, k8, fun i hi => dr_pv_ok (j9 i (by rw [a0, a1, a2]; exact hi)) (k9 i hi)⟩ (fun _ _ => ⟨rfl, fun _ _ => rfl⟩) (Nat.le_refl _) (by omega) ?_
          intro i0 i1 i2 b0 b1 b2
          subst a0 a1 a2
          exact ⟨_, _, h7 i0 i1 i2 b0 b1 b2, g7 i0 i1 i2 b0 b1 b2, rfl⟩
        · intro n i _ hi hI hW
          rw [wX_pointwise_50]
          refine br_f (nI_ge (b := 3) hi (by omega)) ?_
          rw [na_m3, na_m3, nI_add, nI_add, nI_clamp (show 3 * (l.length + 1) + i < 2 ^ 31 by omega), nI_clamp (show 3 * l.length + i < 2 ^ 31 by omega), (hL3 i hi).1, (hR3 i hi).1]
          refine ⟨vp_in_nI (by omega) (by omega), vp_in_nI (by omega) (by omega), ?_⟩
          have b1 := (hL3 i hi).2
          have b2 := (hR3 i hi).2
          by_cases w : dr_h l0 l1 l2 i = dr_h e0 e1 e2 i
          · refine br_t (congrArg nI w) (nm_r (nI_1 i) (hW () (fun p hp => ?_)))
            rcases Nat.lt_or_ge p i with z | z
            · exact hI p z
            · have e : p = i := by omega
              rw [e]; exact w
          · have hne : ¬ (l0 = e0 ∧ l1 = e1 ∧ l2 = e2) := by
              rintro ⟨a0, a1, a2⟩
              rw [a0, a1, a2] at w
              exact w rfl
            rw [if_pos hne] at K
            exact br_f (fun z => w ((nI_eq (by omega) (by omega)).mp z)) (K _ ⟨hk, hmem⟩ (na_err (c := -12) (by decide)))
      · rw [if_pos h] at K
        exact br_f (fun z => h ((nI_eq (by omega) (by omega)).mp z)) (K _ ⟨hk, hmem⟩ (na_err (c := -11) (by decide)))
end
end
section
/-- indices of an outer result, back to the two operands -/
theorem dr_oix {M rl l0 l1 l2 r e0 e1 e2 i0 i1 i2 : Nat} {lel el : Nat → dr_E} (hL : dr_ok M (rl, l0, l1, l2, lel)) (hR : dr_ok M (r, e0, e1, e2, el)) (h : rl + r ≤ 3)
    (b0 : i0 < dr_ox rl l0 l1 l2 e0 e1 e2 0) (b1 : i1 < dr_ox rl l0 l1 l2 e0 e1 e2 1) (b2 : i2 < dr_ox rl l0 l1 l2 e0 e1 e2 2) :
    ∃ p0 p1 p2 q0 q1 q2, (p0 < l0 ∧ p1 < l1 ∧ p2 < l2) ∧ (q0 < e0 ∧ q1 < e1 ∧ q2 < e2) ∧
      ((i0 * dr_ox rl l0 l1 l2 e0 e1 e2 1 + i1) * dr_ox rl l0 l1 l2 e0 e1 e2 2 + i2) / (e0 * e1 * e2) = (p0 * l1 + p1) * l2 + p2 ∧
      ((i0 * dr_ox rl l0 l1 l2 e0 e1 e2 1 + i1) * dr_ox rl l0 l1 l2 e0 e1 e2 2 + i2) % (e0 * e1 * e2) = (q0 * e1 + q1) * e2 + q2 ∧
      (p0 = if 0 < rl then i0 else 0) ∧ (p1 = if 1 < rl then i1 else 0) ∧ (p2 = if 2 < rl then i2 else 0) ∧
      (∀ j, j < 3 → (if j = 0 then q0 else if j = 1 then q1 else q2) = if j + rl < 3 then dr_h i0 i1 i2 (j + rl) else 0) := by
  obtain ⟨k1, k2, k3, k4, k5, k6, k7, k8, k9⟩ := hL
  obtain ⟨j1, j2, j3, j4, j5, j6, j7, j8, j9⟩ := hR
  unfold dr_ox dr_h at b0 b1 b2
  rcases (show rl = 0 ∨ rl = 1 ∨ rl = 2 ∨ rl = 3 by omega) with rfl | rfl | rfl | rfl
  · have a0 := k5 rfl
    have a1 := k6 (by omega)
    have a2 := k7 (by omega)
    subst a0 a1 a2
    simp at b0 b1 b2
    have hf := dr_f3 b0 b1 b2
    refine ⟨0, 0, 0, i0, i1, i2, by omega, ⟨b0, b1, b2⟩, ?_, ?_, by simp, by simp, by simp, na_all3 rfl rfl rfl⟩
    · exact Nat.div_eq_of_lt hf
    · exact Nat.mod_eq_of_lt hf
  · have a1 := k6 (by omega)
    have a2 := k7 (by omega)
    have c2 := j7 (by omega)
    subst a1 a2 c2
    simp at b0 b1 b2
    have hf := dr_f2 b1 b2
    have e : (i0 * e0 + i1) * e1 + i2 = i0 * (e0 * e1 * 1) + (i1 * e1 + i2) := by
      rw [Nat.add_mul, Nat.mul_one, Nat.mul_assoc]; omega
    have hf' : i1 * e1 + i2 < e0 * e1 * 1 := by omega
    refine ⟨i0, 0, 0, i1, i2, 0, by omega, ⟨b1, b2, by omega⟩, ?_, ?_, by simp, by simp, by simp, na_all3 rfl rfl rfl⟩
    · show ((i0 * e0 + i1) * e1 + i2) / (e0 * e1 * 1) = _
      rw [e, dr_dv hf']; omega
    · show ((i0 * e0 + i1) * e1 + i2) % (e0 * e1 * 1) = _
      rw [e, dr_md hf']; omega
  · have a2 := k7 (by omega)
    have c1 := j6 (by omega)
    have c2 := j7 (by omega)
    subst a2 c1 c2
    simp at b0 b1 b2
    have hf' : i2 < e0 * 1 * 1 := by omega
    refine ⟨i0, i1, 0, i2, 0, 0, by omega, ⟨b2, by omega, by omega⟩, ?_, ?_, by simp, by simp, by simp, na_all3 rfl rfl rfl⟩
    · show ((i0 * l1 + i1) * e0 + i2) / (e0 * 1 * 1) = _
      have e : (i0 * l1 + i1) * e0 + i2 = (i0 * l1 + i1) * (e0 * 1 * 1) + i2 := by rw [Nat.mul_one, Nat.mul_one]
      rw [e, dr_dv hf']; omega
    · show ((i0 * l1 + i1) * e0 + i2) % (e0 * 1 * 1) = _
      have e : (i0 * l1 + i1) * e0 + i2 = (i0 * l1 + i1) * (e0 * 1 * 1) + i2 := by rw [Nat.mul_one, Nat.mul_one]
      rw [e, dr_md hf']; omega
  · have c0 := j5 (by omega)
    have c1 := j6 (by omega)
    have c2 := j7 (by omega)
    subst c0 c1 c2
    simp at b0 b1 b2
    refine ⟨i0, i1, i2, 0, 0, 0, ⟨b0, b1, b2⟩, by omega, ?_, ?_, by simp, by simp, by simp, na_all3 rfl rfl rfl⟩
    · show ((i0 * l1 + i1) * l2 + i2) / (1 * 1 * 1) = _
      simp
    · show ((i0 * l1 + i1) * l2 + i2) % (1 * 1 * 1) = _
      simp [Nat.mod_one]
section
variable {post : Int32 → SX → Prop} {z0 z1 z2 z3 mc vc mt ll oc ep vn cl ov ou cc : Int32} {tk tv mv mf br be wr we ws ik ia sd pd ix rv rf ne st ns ct gv gf : Nat → Int32}
theorem xa_out90 {J : Int32 → (Nat → Int32) → (Nat → Int32) → (Nat → Int32) → (Nat → Int32) → (Nat → Int32) → (Nat → Int32) → (Nat → Int32) → (Nat → Int32) → (Nat → Int32) → (Nat → Int32) → (Nat → Int32) → (Nat → Int32) → (Nat → Int32) → (Nat → Int32) → (Nat → Int32) → (Nat → Int32) → (Nat → Int32) → (Nat → Int32) → (Nat → Int32) → (Nat → Int32) → (Nat → Int32) → (Nat → Int32) → Prop}
    {x1 x2 x3 x5 : Int32} {d rl : Nat} (hd : d < 48) (hrl : rl ≤ 3) (K : ∀ sd', (∀ q, q < 3 → sd' (3 * d + q) = if q < rl then 0 else sd (3 * d + (q - rl))) → (∀ j, j < 3 * d ∨ 3 * d + 3 ≤ j → sd' j = sd j) → J (nI (d + 1)) tk tv mv mf br be wr we ws ik ia sd' pd ix rv rf ne st ns ct gv gf) :
    ∃ n, wX_outer_90 post J x1 x2 x3 (nI rl) x5 (nI d) z0 z1 z2 z3 mc vc mt ll oc ep vn cl ov ou cc n 2 tk tv mv mf br be wr we ws ik ia sd pd ix rv rf ne st ns ct gv gf := by
  have st : ∀ (i n : Nat) (s : Nat → Int32), i ≤ 3 → i < n → (∀ q, i ≤ q → q < 3 → s (3 * d + q) = if q < rl then 0 else sd (3 * d + (q - rl))) → (∀ j, j < 3 * d + i ∨ 3 * d + 3 ≤ j → s j = sd j) →
      wX_outer_90 post J x1 x2 x3 (nI rl) x5 (nI d) z0 z1 z2 z3 mc vc mt ll oc ep vn cl ov ou cc n (nI i + (-1)) tk tv mv mf br be wr we ws ik ia s pd ix rv rf ne st ns ct gv gf := by
    intro i
    induction i with
    | zero =>
      intro n s _ hn h1 h2
      obtain ⟨n, rfl⟩ : ∃ k, n = k + 1 := ⟨n - 1, by omega⟩
      rw [wX_outer_90, na_z1]
      exact br_t (by decide) (nm_r (nI_1 d) (K s (fun q hq => h1 q (by omega) hq) (fun j hj => h2 j (by omega))))
    | succ i ih =>
      intro n s hi hn h1 h2
      obtain ⟨n, rfl⟩ : ∃ k, n = k + 1 := ⟨n - 1, by omega⟩
      rw [wX_outer_90, pk_m1]
      refine br_f (nI_pos (by omega)) ?_
      rcases Nat.lt_or_ge i rl with z | z
      · refine br_t (nI_lt z (by omega)) ?_
        rw [na_m3, nI_add, nI_clamp (show 3 * d + i < 2 ^ 31 by omega)]
        refine ⟨vp_in_nI (by omega) (by omega), nm_e (nm_e (ih n _ (by omega) (by omega) (fun q hq hq3 => ?_) (fun j hj => (pk_un (by omega)).trans (h2 j (by omega)))))⟩
        by_cases e : q = i
        · rw [e, pk_us, if_pos z]
        · rw [pk_un (by omega)]; exact h1 q (by omega) hq3
      · refine br_f (nI_nlt z (by omega)) ?_
        rw [na_m3, nI_add, pk_sub (by omega), nI_clamp (show 3 * d + i < 2 ^ 31 by omega), nI_clamp (show 3 * d + i - rl < 2 ^ 31 by omega)]
        refine ⟨vp_in_nI (by omega) (by omega), vp_in_nI (by omega) (by omega), nm_e (nm_e (ih n _ (by omega) (by omega) (fun q hq hq3 => ?_) (fun j hj => (pk_un (by omega)).trans (h2 j (by omega)))))⟩
        by_cases e : q = i
        · rw [e, pk_us, if_neg (by omega), h2 _ (by omega), show 3 * d + i - rl = 3 * d + (i - rl) by omega]
        · rw [pk_un (by omega)]; exact h1 q (by omega) hq3
  have r := st 3 4 sd (by omega) (by omega) (fun q h1 h2 => by omega) (fun _ _ => rfl)
  rw [pk_m1] at r
  exact ⟨4, r⟩
end
section
variable {k : xd_K} {m0 f0 : Nat → Int32} {M : Nat} {U : Nat → Prop} {l : List dr_A} {B : Nat} {u : SX} {r e0 e1 e2 rl l0 l1 l2 : Nat} {el lel : Nat → dr_E}
theorem xo_outer {post : Int32 → SX → Prop} {c : Int32} (R : xd_R k m0 f0 M U ((rl, l0, l1, l2, lel) :: (r, e0, e1, e2, el) :: l) B u) (hB : B ≤ 48) (hl : l.length + 1 < 10) (hM : M ≤ 32)
    (K : ∀ u', xd_B k m0 f0 u' → ((dr_out M c (rl, l0, l1, l2, lel) (r, e0, e1, e2, el)).1 = 0 → xd_R k m0 f0 M U ((dr_out M c (rl, l0, l1, l2, lel) (r, e0, e1, e2, el)).2 :: l) B u') → post (dr_out M c (rl, l0, l1, l2, lel) (r, e0, e1, e2, el)).1 u') :
    wpX_outer post u c := by
  refine xd_top2 (P := fun u => wpX_outer post u c) R ?_
  intro z0 z1 z2 z3 vc mt ll oc ep ov ou cc tk tv mv mf br be wr we ws ik ia sd pd ix rv rf ne st ns ct gv gf a m q hk hmem hm hq hB' hs hs1 hVR hVL hS
  obtain ⟨h1, h2, h3, h4, h5, h6, h7⟩ := hVR
  obtain ⟨g1, g2, g3, g4, g5, g6, g7⟩ := hVL
  have ok := h5
  have okL := g5
  obtain ⟨k1, k2, k3, k4, k5, k6, k7, k8, k9⟩ := ok
  obtain ⟨j1, j2, j3, j4, j5, j6, j7, j8, j9⟩ := okL
  have hbig : l0 * l1 * l2 * (e0 * e1 * e2) ≤ 32 * 32 := Nat.mul_le_mul (by omega) (by omega)
  unfold dr_out at K
  dsimp only at K
  unfold wpX_outer
  dsimp only
  refine nm_r (nI_pred (l.length + 1)) (nm_r (nI_pred l.length) ⟨vp_in_nI hl (by omega), ?_⟩)
  rw [nI_clamp (show l.length + 1 < 2 ^ 31 by omega), nI_clamp (show l.length < 2 ^ 31 by omega), g1, h1]
  refine nm_e ⟨vp_in_nI (by omega) (by omega), nm_e ?_⟩
  rw [nI_add]
  by_cases hr : 3 < rl + r
  · rw [if_pos hr] at K
    exact br_f (nI_ge (a := 3) hr (by omega)) (K _ ⟨hk, hmem⟩ (na_err (c := -11) (by decide)))
  rw [if_neg hr] at K
  refine br_t (nI_le (b := 3) (by omega) (by omega)) ?_
  refine xa_cnt (w := l.length + 1) hl ?_
  refine xa_cnt (w := l.length) (by omega) ?_
  rw [g2, g3, g4, h2, h3, h4, pk_mul, pk_mul, pk_mul, pk_mul, pk_mul]
  by_cases hlim : M < l0 * l1 * l2 * (e0 * e1 * e2)
  · rw [if_pos hlim] at K
    exact br_f (nI_ge hlim (by omega)) (K _ ⟨hk, hmem⟩ (na_err (c := -15) (by decide)))
  rw [if_neg hlim] at K
  refine br_t (nI_le (by omega) (by omega)) ⟨vp_in_nI (by omega) (by omega), ?_⟩
  rw [hs]
  refine nm_e ?_
  have okr := dr_out_ok (c := c) g5 h5 (by omega) (by omega)
  have K' : ∀ u', xd_R k m0 f0 M U ((rl + r, dr_ox rl l0 l1 l2 e0 e1 e2 0, dr_ox rl l0 l1 l2 e0 e1 e2 1, dr_ox rl l0 l1 l2 e0 e1 e2 2, fun t => dr_pv c (lel (t / (e0 * e1 * e2))) (el (t % (e0 * e1 * e2)))) :: l) B u' → post 0 u' := fun u' h => K u' (xd_RB h) (fun _ => h)
  clear K
  have hL3 : ∀ p, p < 3 → we (3 * (l.length + 1) + p) = nI (dr_h l0 l1 l2 p) := na_all3 g2 g3 g4
  have hR3 : ∀ p, p < 3 → we (3 * l.length + p) = nI (dr_h e0 e1 e2 p) := na_all3 h2 h3 h4
  refine dr_lp1 (σ := Nat → Int32) (a + m) (fun n i s => wX_outer_76 post c (nI (l.length + 1)) (nI l.length) (nI rl) (nI r) z0 z1 z2 z3 (nI M) vc mt ll oc ep (nI (l.length + 1 + 1)) (nI (a + m + q)) ov ou cc n (nI i) tk tv mv mf br be wr we ws ik ia s pd ix rv rf ne st ns ct gv gf)
    (fun i s => dr_sI a sd (fun d q => if q < rl then 0 else sd (3 * d + (q - rl))) i s ∧ a ≤ i) ?_ ?_ a (by omega) sd ⟨dr_sI0, Nat.le_refl _⟩
  · intro n sd' hI
    rw [wX_outer_76]
    dsimp only
    rw [nI_clamp (show l.length + 1 < 2 ^ 31 by omega), hs1]
    refine ⟨vp_in_nI hl (by omega), br_t (nI_le (Nat.le_refl _) (by omega)) ?_⟩
    refine dr_lp1 (σ := Nat → Int32) 3 (fun n i s => wX_outer_148 post c (nI (l.length + 1)) (nI l.length) (nI rl) (nI r) z0 z1 z2 z3 (nI M) vc mt ll oc ep (nI (l.length + 1 + 1)) (nI (a + m + q)) ov ou cc n (nI i) tk tv mv mf br be wr we ws ik ia sd' pd ix rv rf s st ns ct gv gf)
      (fun i s => ∀ p, p < i → s p = nI (dr_ox rl l0 l1 l2 e0 e1 e2 p)) ?_ ?_ 0 (by omega) ne (fun p hp => by omega)
    · intro n ne' hN
      rw [wX_outer_148]
      refine br_t (nI_le (a := 3) (b := 3) (by omega) (by omega)) ?_
      rw [nI_add]
      refine xa_adopt (w := l.length) (by omega) ?_
      dsimp only
      refine xa_add (by omega) ?_
      dsimp only
      refine K' _ (xd_join (c := c) hk hmem hm hB' hs hS pk_us (dr_u30.trans (hN 0 (by omega))) (dr_u31.trans (hN 1 (by omega))) (dr_u32.trans (hN 2 (by omega))) okr (fun j hj => ⟨pk_un (by omega), fun q hq => ?_⟩) (fun j hj => hI.1.2 j (Or.inl hj)) ?_ ?_)
      · rw [pk_un (by omega), pk_un (by omega), pk_un (by omega)]
      · intro d q' hd hd' hq' z
        rcases Nat.lt_or_ge d (a + m) with y | y
        · rw [hI.1.1 d q' hd y hq']
          dsimp only
          by_cases w : q' < rl
          · rw [if_pos w]
          · rw [if_neg w]
            exact h6 d (q' - rl) hd y (by omega) (z.elim (fun z => Or.inl (by omega)) Or.inr)
        · rw [hI.1.2 _ (by omega)]
          exact g6 d q' y hd' hq' (z.elim (fun z => Or.inl (by omega)) Or.inr)
      · intro i0 i1 i2 b0 b1 b2
        obtain ⟨p0, p1, p2, q0, q1, q2, ⟨x0, x1, x2⟩, ⟨y0, y1, y2⟩, hdv, hmd, hp0, hp1, hp2, hqq⟩ := dr_oix g5 h5 (by omega) b0 b1 b2
        refine ⟨el ((q0 * e1 + q1) * e2 + q2), lel ((p0 * l1 + p1) * l2 + p2), ?_, ?_, ?_⟩
        · refine dr_ev_map (h7 q0 q1 q2 y0 y1 y2) (fun d hd hd' => ⟨rfl, fun _ => rfl, fun _ => ?_⟩)
          have t0 := hI.1.1 d 0 hd hd' (by omega)
          have t1 := hI.1.1 d 1 hd hd' (by omega)
          have t2 := hI.1.1 d 2 hd hd' (by omega)
          rw [Nat.add_zero] at t0
          have s0 := h6 d 0 hd hd' (by omega)
          have s1 := h6 d 1 hd hd' (by omega)
          have s2 := h6 d 2 hd hd' (by omega)
          rw [Nat.add_zero] at s0
          have w0 := hqq 0 (by omega)
          have w1 := hqq 1 (by omega)
          have w2 := hqq 2 (by omega)
          unfold dr_ad
          have n0 : nI 0 = 0 := rfl
          rcases (show rl = 0 ∨ rl = 1 ∨ rl = 2 ∨ rl = 3 by omega) with rfl | rfl | rfl | rfl
          · simp [dr_h] at w0 w1 w2 t0 t1 t2
            rw [t0, t1, t2, w0, w1, w2]
          · simp [dr_h] at w0 w1 w2 t0 t1 t2
            rw [t0, t1, t2, w0, w1, w2, s2 (Or.inl (by omega))]
            grind
          · simp [dr_h] at w0 w1 w2 t0 t1 t2
            rw [t0, t1, t2, w0, w1, w2, s2 (Or.inl (by omega)), s1 (Or.inl (by omega))]
            grind
          · simp [dr_h] at w0 w1 w2 t0 t1 t2
            rw [t0, t1, t2, s2 (Or.inl (by omega)), s1 (Or.inl (by omega)), s0 (Or.inl (by omega))]
            grind
        · refine dr_ev_map (g7 p0 p1 p2 x0 x1 x2) (fun d hd hd' => ⟨rfl, fun _ => rfl, fun _ => ?_⟩)
          have s0 := g6 d 0 hd hd' (by omega)
          have s1 := g6 d 1 hd hd' (by omega)
          have s2 := g6 d 2 hd hd' (by omega)
          rw [Nat.add_zero] at s0
          unfold dr_ad
          rw [hI.1.2 (3 * d) (by omega), hI.1.2 (3 * d + 1) (by omega), hI.1.2 (3 * d + 2) (by omega), hp0, hp1, hp2]
          rcases (show rl = 0 ∨ rl = 1 ∨ rl = 2 ∨ rl = 3 by omega) with rfl | rfl | rfl | rfl
          · rw [s0 (Or.inl (by omega)), s1 (Or.inl (by omega)), s2 (Or.inl (by omega))]
            simp only [Int32.mul_zero]
          · rw [s1 (Or.inl (by omega)), s2 (Or.inl (by omega))]
            simp only [Int32.mul_zero, if_pos (show 0 < 1 by omega)]
          · rw [s2 (Or.inl (by omega))]
            simp only [Int32.mul_zero, if_pos (show 0 < 2 by omega), if_pos (show 1 < 2 by omega)]
          · simp only [if_pos (show 0 < 3 by omega), if_pos (show 1 < 3 by omega), if_pos (show 2 < 3 by omega)]
        · rw [hdv, hmd]
    · intro n i s hi hN hW
      rw [wX_outer_148]
      refine br_f (nI_ge (b := 3) hi (by omega)) ?_
      have fin : ∀ x, x = nI (dr_ox rl l0 l1 l2 e0 e1 e2 i) → wX_outer_148 post c (nI (l.length + 1)) (nI l.length) (nI rl) (nI r) z0 z1 z2 z3 (nI M) vc mt ll oc ep (nI (l.length + 1 + 1)) (nI (a + m + q)) ov ou cc n (nI (i + 1)) tk tv mv mf br be wr we ws ik ia sd' pd ix rv rf (upd s i x) st ns ct gv gf := by
        intro x hx
        refine hW _ (fun p hp => ?_)
        rcases Nat.lt_or_ge p i with z | z
        · exact (pk_un (by omega)).trans (hN p z)
        · have e : p = i := by omega
          rw [e]
          exact pk_us.trans hx
      rcases Nat.lt_or_ge i rl with z | z
      · refine br_f (nI_ge z (by omega)) ?_
        rw [na_m3, nI_add, nI_clamp (show 3 * (l.length + 1) + i < 2 ^ 31 by omega), nI_clamp (show i < 2 ^ 31 by omega)]
        refine ⟨vp_in_nI (by omega) (by omega), vp_in_nI (by omega) (by omega), nm_e (nm_r (nI_1 i) (fin _ ?_))⟩
        rw [hL3 i hi]
        unfold dr_ox
        rw [if_pos z]
      · refine br_t (nI_le z (by omega)) ?_
        rw [na_m3, nI_add, pk_sub (by omega), nI_clamp (show 3 * l.length + i - rl < 2 ^ 31 by omega), nI_clamp (show i < 2 ^ 31 by omega), show 3 * l.length + i - rl = 3 * l.length + (i - rl) by omega]
        refine ⟨vp_in_nI (by omega) (by omega), vp_in_nI (by omega) (by omega), nm_e (nm_r (nI_1 i) (fin _ ?_))⟩
        rw [hR3 (i - rl) (by omega)]
        unfold dr_ox
        rw [if_neg (by omega)]
  · intro n i s hi hI hW
    rw [wX_outer_76]
    dsimp only
    rw [nI_clamp (show l.length + 1 < 2 ^ 31 by omega), hs1]
    refine ⟨vp_in_nI hl (by omega), br_f (nI_ge hi (by omega)) ?_⟩
    refine xa_out90 (by omega) j1 ?_
    intro s' t1 t2
    refine hW s' ⟨dr_sIs hI.1 hI.2 (fun q hq => ?_) t2, by omega⟩
    rw [t1 q hq]
    by_cases w : q < rl
    · rw [if_pos w, if_pos w]
    · rw [if_neg w, if_neg w, hI.1.2 _ (by omega)]
end
end
section
def xd_C (n : Nat) (c : Nat → Int32) : SX → Prop
  | (z0, z1, z2, z3, mc, vc, mt, ll, oc, ep, vn, cl, ov, ou, cc, tk, tv, mv, mf, br, be, wr, we, ws, ik, ia, sd, pd, ix, rv, rf, ne, st, ns, ct, gv, gf) => cc = nI n ∧ ∀ p, p < n → ct p = c p
theorem xd_topC {P : SX → Prop} {k : xd_K} {m0 f0 : Nat → Int32} {M : Nat} {U : Nat → Prop} {A : dr_A} {l : List dr_A} {B n : Nat} {c : Nat → Int32} {u : SX} (R : xd_R k m0 f0 M U (A :: l) B u) (C : xd_C n c u)
    (h : ∀ (z0 z1 z2 z3 vc mt ll oc ep ov ou : Int32) (tk tv mv mf br be wr we ws ik ia sd pd ix rv rf ne st ns ct gv gf : Nat → Int32) (a m : Nat),
      (z0, z1, z2, z3, nI M, vc, mt, ll, oc, ep, tk, tv, br, be, pd) = k → (∀ j, j < 256 → mv j = m0 j ∧ mf j = f0 j) → 0 < m → a + m + l.length + 1 ≤ B → ws l.length = nI a →
      xd_V (dr_S U) M mv mf wr we ik ia sd l.length a m A → xd_S (dr_S U) M mv mf wr we ws ik ia sd l a → (∀ p, p < n → ct p = c p) → P (z0, z1, z2, z3, nI M, vc, mt, ll, oc, ep, nI (l.length + 1), nI (a + m), ov, ou, nI n, tk, tv, mv, mf, br, be, wr, we, ws, ik, ia, sd, pd, ix, rv, rf, ne, st, ns, ct, gv, gf)) : P u := by
  revert C
  refine xd_top (P := fun u => xd_C n c u → P u) R ?_
  intro z0 z1 z2 z3 vc mt ll oc ep ov ou cc tk tv mv mf br be wr we ws ik ia sd pd ix rv rf ne st ns ct gv gf a m hk hmem hm hB' hs hV hS
  rintro ⟨rfl, hc⟩
  exact h z0 z1 z2 z3 vc mt ll oc ep ov ou tk tv mv mf br be wr we ws ik ia sd pd ix rv rf ne st ns ct gv gf a m hk hmem hm hB' hs hV hS hc
section
variable {k : xd_K} {m0 f0 : Nat → Int32} {M : Nat} {U : Nat → Prop} {l : List dr_A} {B : Nat} {u : SX} {r e0 e1 e2 rl l0 l1 l2 : Nat} {el lel : Nat → dr_E}
theorem xo_ctl {post : Int32 → SX → Prop} {code : Nat} (hcode : 9 ≤ code ∧ code ≤ 13) (R : xd_R k m0 f0 M U ((rl, l0, l1, l2, lel) :: (r, e0, e1, e2, el) :: l) B u) (hB : B ≤ 48) (hl : l.length + 1 < 10) (hM : M ≤ 32)
    (K11 : 1 < rl → ∀ u', xd_B k m0 f0 u' → post (-11) u') (K12 : ¬ 1 < rl → ¬ (if code = 9 then l0 ≤ 3 else l0 = (if code = 12 then 1 else r)) → ∀ u', xd_B k m0 f0 u' → post (-12) u')
    (K13 : ¬ 1 < rl → (if code = 9 then l0 ≤ 3 else l0 = (if code = 12 then 1 else r)) → (∃ j, j < l0 ∧ (lel j).2 ≠ 0) → ∀ u', xd_B k m0 f0 u' → post (-13) u')
    (K : ¬ 1 < rl → (if code = 9 then l0 ≤ 3 else l0 = (if code = 12 then 1 else r)) → l0 ≤ 3 → (¬ ∃ j, j < l0 ∧ (lel j).2 ≠ 0) → ∀ u', xd_R k m0 f0 M U ((r, e0, e1, e2, el) :: l) B u' → xd_C l0 (fun p => (lel p).1) u' → post 0 u') :
    wpX_takeControls post u (nI code) := by
  refine xd_top2 (P := fun u => wpX_takeControls post u (nI code)) R ?_
  intro z0 z1 z2 z3 vc mt ll oc ep ov ou cc tk tv mv mf br be wr we ws ik ia sd pd ix rv rf ne st ns ct gv gf a m q hk hmem hm hq hB' hs hs1 hVR hVL hS
  have hVR' := hVR
  obtain ⟨h1, h2, h3, h4, h5, h6, h7⟩ := hVR'
  obtain ⟨g1, g2, g3, g4, g5, g6, g7⟩ := hVL
  have r3 := h5.1
  obtain ⟨j1, j2, j3, j4, j5, j6, j7, j8, j9⟩ := g5
  unfold wpX_takeControls
  dsimp only
  refine nm_r (nI_pred (l.length + 1)) ⟨vp_in_nI hl (by omega), ?_⟩
  rw [nI_clamp (show l.length + 1 < 2 ^ 31 by omega), g1]
  by_cases hr : 1 < rl
  · exact br_f (nI_ge (b := rl) (a := 1) hr (by omega)) (K11 hr _ ⟨hk, hmem⟩)
  refine br_t (nI_le (b := 1) (by omega) (by omega)) ?_
  have q1 := j6 (by omega)
  have q2 := j7 (by omega)
  subst q1 q2
  refine xa_cnt (w := l.length + 1) hl ?_
  rw [g2, g3, g4, pk_mul, pk_mul, nI_pred, nI_clamp (show l.length < 2 ^ 31 by omega), h1, Nat.mul_one, Nat.mul_one]
  refine ⟨vp_in_nI (by omega) (by omega), nm_e ?_⟩
  have k68 : (if code = 9 then l0 ≤ 3 else l0 = (if code = 12 then 1 else r)) → wX_takeControls_68 post (nI (l.length + 1)) (nI l0) z0 z1 z2 z3 (nI M) vc mt ll oc ep (nI (l.length + 1 + 1)) (nI (a + m + q)) ov ou cc tk tv mv mf br be wr we ws ik ia sd pd ix rv rf ne st ns ct gv gf := by
    intro hcond
    have l3 : l0 ≤ 3 := by
      by_cases c9 : code = 9
      · rw [if_pos c9] at hcond; exact hcond
      · rw [if_neg c9] at hcond
        by_cases c12 : code = 12
        · rw [if_pos c12] at hcond; omega
        · rw [if_neg c12] at hcond; omega
    unfold wX_takeControls_68
    refine nm_e (nm_e ?_)
    refine dr_lp1 (σ := (Nat → Int32) × (Nat → Int32) × (Nat → Int32) × (Nat → Int32) × Int32 × Int32) l0
      (fun n i s => wX_takeControls_85 post (nI (l.length + 1)) (nI l0) n (nI i) z0 z1 z2 z3 (nI M) vc mt ll oc ep (nI (l.length + 1 + 1)) (nI (a + m + q)) s.2.2.2.2.1 s.2.2.2.2.2 cc tk tv mv mf br be wr we ws ik ia sd pd s.1 s.2.1 s.2.2.1 ne st ns s.2.2.2.1 gv gf)
      (fun i s => s.1 1 = 0 ∧ s.1 2 = 0 ∧ (∀ p, p < i → s.2.2.2.1 p = (lel p).1) ∧ (∀ p, p < i → (lel p).2 = 0)) ?_ ?_ 0 (Nat.zero_le _) (_, rv, rf, ct, ov, ou) ⟨rfl, rfl, fun p hp => by omega, fun p hp => by omega⟩
    · intro n s hI
      rw [wX_takeControls_85]
      refine br_t (nI_le (Nat.le_refl _) (by omega)) ?_
      unfold wX_takeControls_136
      rw [nI_clamp (show l.length + 1 < 2 ^ 31 by omega), hs1]
      refine ⟨vp_in_nI hl (by omega), nm_e ?_⟩
      refine K hr hcond l3 ?_ _ (xd_mk hk hmem hm (by omega) hs hVR hS) ⟨rfl, hI.2.2.1⟩
      rintro ⟨j, hj, w⟩
      exact w (hI.2.2.2 j hj)
    · intro n i s hi hI hW
      rw [wX_takeControls_85]
      refine br_f (nI_ge hi (by omega)) (br_f (nI_ge (b := 3) (by omega) (by omega)) (nm_e ?_))
      have hev := g7 i 0 0 (by omega) (by omega) (by omega) mv mf (fun _ _ => ⟨rfl, rfl⟩) []
      simp only [Nat.mul_one, Nat.add_zero] at hev
      refine xa_run (a := a + m) (v := lel i) hl hs1 (by omega) ?_ ?_
      · have x0 : upd s.1 0 (nI i) 0 = nI i := pk_us
        have x1 : upd s.1 0 (nI i) 1 = nI 0 := (pk_un (by omega)).trans hI.1
        have x2 : upd s.1 0 (nI i) 2 = nI 0 := (pk_un (by omega)).trans hI.2.1
        rw [x0, x1, x2]
        exact hev
      intro rv' rf'
      dsimp only
      by_cases w : (lel i).2 = 0
      · refine br_t w ⟨vp_in_nI (by omega) (by omega), ?_⟩
        rw [nI_clamp (show i < 2 ^ 31 by omega)]
        have y1 : upd s.1 0 (nI i) 1 = 0 := (pk_un (by omega)).trans hI.1
        have y2 : upd s.1 0 (nI i) 2 = 0 := (pk_un (by omega)).trans hI.2.1
        refine nm_e (nm_r (nI_1 i) (hW (upd s.1 0 (nI i), rv', rf', upd s.2.2.2.1 i (lel i).1, (lel i).1, (lel i).2) ⟨y1, y2, fun p hp => ?_, fun p hp => ?_⟩))
        · rcases Nat.lt_or_ge p i with y | y
          · exact (pk_un (by omega)).trans (hI.2.2.1 p y)
          · have e : p = i := by omega
            rw [e]; exact pk_us
        · rcases Nat.lt_or_ge p i with y | y
          · exact hI.2.2.2 p y
          · have e : p = i := by omega
            rw [e]; exact w
      · exact br_f w (K13 hr hcond ⟨i, hi, w⟩ _ ⟨hk, hmem⟩)
  have k45 : ∀ zz : Nat, zz ≤ 3 → (code ≠ 9 → (l0 = zz ↔ (if code = 9 then l0 ≤ 3 else l0 = (if code = 12 then 1 else r)))) → wX_takeControls_45 post (nI code) (nI (l.length + 1)) (nI l0) (nI zz) z0 z1 z2 z3 (nI M) vc mt ll oc ep (nI (l.length + 1 + 1)) (nI (a + m + q)) ov ou cc tk tv mv mf br be wr we ws ik ia sd pd ix rv rf ne st ns ct gv gf := by
    intro z0' hz h
    unfold wX_takeControls_45
    by_cases c9 : code = 9
    · refine br_t (congrArg nI c9) ?_
      rcases Nat.lt_or_ge 3 l0 with y | y
      · exact br_f (nI_ge (a := 3) y (by omega)) (K12 hr (by rw [if_pos c9]; omega) _ ⟨hk, hmem⟩)
      · exact br_t (nI_le (b := 3) y (by omega)) (k68 (by rw [if_pos c9]; exact y))
    · refine br_f (fun y => c9 ((na_e9 (by omega)).mp y)) ?_
      have h' := h c9
      by_cases w : l0 = z0'
      · exact br_t (congrArg nI w) (k68 (h'.mp w))
      · exact br_f (fun y => w ((nI_eq (by omega) (by omega)).mp y)) (K12 hr (fun y => w (h'.mpr y)) _ ⟨hk, hmem⟩)
  by_cases c12 : code = 12
  · refine br_t (congrArg nI c12) (k45 1 (by omega) (fun c9 => ?_))
    rw [if_neg c9, if_pos c12]
  · refine br_f (fun y => c12 ((na_e12 (by omega)).mp y)) (k45 r r3 (fun c9 => ?_))
    rw [if_neg c9, if_neg c12]
theorem xo_reshape {post : Int32 → SX → Prop} {t n : Nat} {c : Nat → Int32} (R : xd_R k m0 f0 M U ((r, e0, e1, e2, el) :: l) B u) (C : xd_C n c u) (hn : n ≤ 3) (hB : B ≤ 48) (hl : l.length < 10) (hM : M ≤ 32) (hM1 : 4 ≤ M) (hU : ¬ U t) (ht : t < 40)
    (K : ∀ u', xd_B k m0 f0 u' → ((dr_reshape M n c (r, e0, e1, e2, el)).1 = 0 → xd_R k m0 f0 M (fun s => U s ∨ s = t) ((dr_reshape M n c (r, e0, e1, e2, el)).2 :: l) B u') → post (dr_reshape M n c (r, e0, e1, e2, el)).1 u') :
    wpX_reshape post u (nI t) := by
  refine xd_topC (P := fun u => wpX_reshape post u (nI t)) R C ?_
  intro z0 z1 z2 z3 vc mt ll oc ep ov ou tk tv mv mf br be wr we ws ik ia sd pd ix rv rf ne st ns ct gv gf a m hk hmem hm hB' hs hV hS hct
  have h5 := hV.2.2.2.2.1
  unfold wpX_reshape
  dsimp only
  unfold dr_reshape at K
  refine dr_lp1 (σ := Unit) n (fun f i _ => wX_reshape_7 post (nI t) (nI n) z0 z1 z2 z3 (nI M) vc mt ll oc ep (nI (l.length + 1)) (nI (a + m)) ov ou (nI n) tk tv mv mf br be wr we ws ik ia sd pd ix rv rf ne st ns ct gv gf f (nI i)) (fun i _ => ∀ p, p < i → ¬ c p < 0) ?_ ?_ 0 (Nat.zero_le _) () (fun p hp => by omega)
  · intro f _ hI
    have h1 : ¬ ∃ p, p < n ∧ c p < 0 := fun ⟨p, hp, w⟩ => hI p hp w
    rw [dr_if_f h1] at K
    rw [wX_reshape_7]
    refine br_t (nI_le (Nat.le_refl _) (by omega)) ?_
    refine xa_vec ?_
    dsimp only
    refine dr_lp1 (σ := Nat → Int32) n (fun f i s => wX_reshape_37 post (nI t) (nI n) z0 z1 z2 z3 (nI M) vc mt ll oc ep (nI (l.length + 1)) (nI (a + m)) ov ou (nI n) f (nI i) tk tv mv mf br be wr we ws ik ia sd pd ix rv rf s st ns ct gv gf)
      (fun i s => (∀ p, p < i → s p = c p ∧ ¬ nI M < c p) ∧ (∀ p, i ≤ p → p < 3 → s p = 1)) ?_ ?_ 0 (Nat.zero_le _) (upd (upd (upd ne 0 1) 1 1) 2 1) ⟨fun p hp => by omega, fun p _ hp => na_all3 (P := fun p => upd (upd (upd ne 0 1) 1 1) 2 1 p = 1) rfl rfl rfl p hp⟩
    · intro f s hI2
      have h2 : ¬ ∃ p, p < n ∧ nI M < c p := fun ⟨p, hp, w⟩ => (hI2.1 p hp).2 w
      rw [dr_if_f h2] at K
      have hx : ∀ p, p < 3 → s p = nI (dr_cx n c p) ∧ dr_cx n c p ≤ 32 := by
        intro p hp
        unfold dr_cx
        by_cases z : p < n
        · obtain ⟨j, hj, e⟩ := nI_of (x := c p) (hI p z)
          have hb := (hI2.1 p z).2
          rw [if_pos z, (hI2.1 p z).1, e, nI_clamp hj]
          rw [e] at hb
          refine ⟨rfl, ?_⟩
          rcases Nat.lt_or_ge M j with y | y
          · exact absurd (nI_lt y hj) hb
          · omega
        · rw [if_neg z, hI2.2 p (by omega) hp]
          exact ⟨rfl, by omega⟩
      have hbig := dr_mul3 (hx 0 (by omega)).2 (hx 1 (by omega)).2 (hx 2 (by omega)).2
      rw [wX_reshape_37]
      dsimp only
      rw [(hx 0 (by omega)).1, (hx 1 (by omega)).1, (hx 2 (by omega)).1, pk_mul, pk_mul]
      refine br_t (nI_le (Nat.le_refl _) (by omega)) ?_
      by_cases hlim : M < dr_cx n c 0 * dr_cx n c 1 * dr_cx n c 2
      · rw [if_pos hlim] at K
        exact br_f (nI_ge hlim (by omega)) (K _ ⟨hk, hmem⟩ (na_err (c := -15) (by decide)))
      · rw [if_neg hlim] at K
        refine br_t (nI_le (by omega) (by omega)) ?_
        refine xo_rshTo (r' := n) hk hmem hm hB' hs hV hS hB hl hM hU ht (hx 0 (by omega)).1 (hx 1 (by omega)).1 (hx 2 (by omega)).1 (dr_rsh_ok h5 hn (hx 0 (by omega)).2 (hx 1 (by omega)).2 (hx 2 (by omega)).2 ?_ ?_ ?_ (by omega)) ?_
        · intro z; unfold dr_cx; rw [if_neg (by omega)]
        · intro z; unfold dr_cx; rw [if_neg (by omega)]
        · intro z; unfold dr_cx; rw [if_neg (by omega)]
        · intro u' hu
          exact K _ (xd_RB hu) (fun _ => hu)
    · intro f i s hi hI2 hW
      rw [wX_reshape_37]
      dsimp only
      rw [nI_clamp (show i < 2 ^ 31 by omega), hct i hi]
      refine br_f (nI_ge hi (by omega)) ⟨vp_in_nI (by omega) (by omega), ?_⟩
      by_cases w : nI M < c i
      · rw [dr_if_t ⟨i, hi, w⟩] at K
        exact br_f (Int32.not_le.mpr w) (K _ ⟨hk, hmem⟩ (na_err (c := -15) (by decide)))
      · refine br_t (Int32.not_lt.mp w) ⟨vp_in_nI (by omega) (by omega), vp_in_nI (by omega) (by omega), nm_e (nm_r (nI_1 i) (hW _ ⟨fun p hp => ?_, fun p hp hp3 => (pk_un (by omega)).trans (hI2.2 p (by omega) hp3)⟩))⟩
        rcases Nat.lt_or_ge p i with y | y
        · exact ⟨(pk_un (by omega)).trans (hI2.1 p y).1, (hI2.1 p y).2⟩
        · have e : p = i := by omega
          rw [e]; exact ⟨pk_us, w⟩
  · intro f i _ hi hI hW
    rw [wX_reshape_7]
    dsimp only
    rw [nI_clamp (show i < 2 ^ 31 by omega), hct i hi]
    refine br_f (nI_ge hi (by omega)) ⟨vp_in_nI (by omega) (by omega), ?_⟩
    by_cases w : c i < 0
    · rw [dr_if_t ⟨i, hi, w⟩] at K
      exact br_f (Int32.not_le.mpr w) (K _ ⟨hk, hmem⟩ (na_err (c := -14) (by decide)))
    · refine br_t (Int32.not_lt.mp w) (nm_r (nI_1 i) (hW () (fun p hp => ?_)))
      rcases Nat.lt_or_ge p i with y | y
      · exact hI p y
      · have e : p = i := by omega
        rw [e]; exact w
end
end
section
def dr_sh (st sd : Nat → Int32) (d : Nat) : Nat → Int32
  | 0 => 0
  | p + 1 => dr_sh st sd d p + st p * sd (3 * d + p)
theorem dr_sh_0 {st sd : Nat → Int32} {d : Nat} : ∀ {i : Nat}, (∀ p, p < i → sd (3 * d + p) = 0) → dr_sh st sd d i = 0
  | 0, _ => rfl
  | i + 1, h => by
    show dr_sh st sd d i + st i * sd (3 * d + i) = 0
    rw [dr_sh_0 (fun p hp => h p (by omega)), h i (by omega), Int32.mul_zero, Int32.add_zero]
/-- the address after shifts by x p on the axes below r -/
theorem dr_ad_sh {ia ia' sd st : Nat → Int32} {d r j0 j1 j2 i0 i1 i2 : Nat} (hr : r ≤ 3) (hi : ia' d = ia d + dr_sh st sd d r) (hz : ∀ p, r ≤ p → p < 3 → sd (3 * d + p) = 0)
    (h0 : 0 < r → nI i0 = nI j0 + st 0) (h1 : 1 < r → nI i1 = nI j1 + st 1) (h2 : 2 < r → nI i2 = nI j2 + st 2) : dr_ad ia' sd (nI j0) (nI j1) (nI j2) d = dr_ad ia sd (nI i0) (nI i1) (nI i2) d := by
  unfold dr_ad
  rw [hi]
  rcases (show r = 0 ∨ r = 1 ∨ r = 2 ∨ r = 3 by omega) with rfl | rfl | rfl | rfl
  · have z0 := hz 0 (by omega) (by omega)
    have z1 := hz 1 (by omega) (by omega)
    have z2 := hz 2 (by omega) (by omega)
    rw [Nat.add_zero] at z0
    rw [z0, z1, z2]
    simp only [dr_sh, Int32.mul_zero, Int32.add_zero]
  · have z1 := hz 1 (by omega) (by omega)
    have z2 := hz 2 (by omega) (by omega)
    rw [z1, z2, h0 (by omega)]
    simp only [dr_sh, Nat.add_zero]
    grind
  · have z2 := hz 2 (by omega) (by omega)
    rw [z2, h0 (by omega), h1 (by omega)]
    simp only [dr_sh, Nat.add_zero]
    grind
  · rw [h0 (by omega), h1 (by omega), h2 (by omega)]
    simp only [dr_sh, Nat.add_zero]
    grind
section
variable {post : Int32 → SX → Prop} {z0 z1 z2 z3 mc vc mt ll oc ep vn cl ov ou cc : Int32} {tk tv mv mf br be wr we ws ik ia sd pd ix rv rf ne st ns ct gv gf : Nat → Int32}
theorem xa_t197 {w a m n : Nat} (hw : w < 10) (hs : ws w = nI a) (hb : a + m ≤ 48) (hn : n ≤ 3)
    (K : ∀ ia', (∀ d, a ≤ d → d < a + m → ia' d = ia d + dr_sh st sd d n) → (∀ d, d < a → ia' d = ia d) → wpX_adoptShape (fun u => match u with | (z0, z1, z2, z3, mc, vc, mt, ll, oc, ep, vn, cl, ov, ou, cc, tk, tv, mv, mf, br, be, wr, we, ws, ik, ia, sd, pd, ix, rv, rf, ne, st, ns, ct, gv, gf) => post 0 (z0, z1, z2, z3, mc, vc, mt, ll, oc, ep, vn, cl, ov, ou, cc, tk, tv, mv, mf, br, be, wr, we, ws, ik, ia, sd, pd, ix, rv, rf, ne, st, ns, ct, gv, gf)) (z0, z1, z2, z3, mc, vc, mt, ll, oc, ep, nI (w + 1), nI (a + m), ov, ou, cc, tk, tv, mv, mf, br, be, wr, we, ws, ik, ia', sd, pd, ix, rv, rf, ne, st, ns, ct, gv, gf) (wr w)) :
    ∃ q, wX_take_197 post (nI w) (nI n) q 0 z0 z1 z2 z3 mc vc mt ll oc ep (nI (w + 1)) (nI (a + m)) ov ou cc tk tv mv mf br be wr we ws ik ia sd pd ix rv rf ne st ns ct gv gf :=
  dr_lp1 (σ := Nat → Int32) n (fun q i s => wX_take_197 post (nI w) (nI n) q (nI i) z0 z1 z2 z3 mc vc mt ll oc ep (nI (w + 1)) (nI (a + m)) ov ou cc tk tv mv mf br be wr we ws ik s sd pd ix rv rf ne st ns ct gv gf)
    (fun i s => (∀ d, a ≤ d → d < a + m → s d = ia d + dr_sh st sd d i) ∧ (∀ d, d < a → s d = ia d))
    (fun q s hI => by
      rw [wX_take_197]
      dsimp only
      rw [nI_clamp (show w < 2 ^ 31 by omega)]
      exact br_t (nI_le (Nat.le_refl _) (by omega)) ⟨vp_in_nI hw (by omega), K s hI.1 hI.2⟩)
    (fun q i s hi hI hW => by
      rw [wX_take_197]
      dsimp only
      rw [nI_clamp (show i < 2 ^ 31 by omega)]
      refine br_f (nI_ge hi (by omega)) ⟨vp_in_nI (by omega) (by omega), ?_⟩
      refine xa_shift hw hs hb (by omega) ?_
      intro ia' p1 p2
      dsimp only
      refine nm_r (nI_1 i) (hW ia' ⟨fun d h1 h2 => ?_, fun d hd => (p2 d hd).trans (hI.2 d hd)⟩)
      rw [p1 d h1 h2, hI.1 d h1 h2, Int32.add_assoc]
      rfl)
    0 (Nat.zero_le _) ia ⟨fun d _ _ => (Int32.add_zero _).symm, fun _ _ => rfl⟩
end
section
variable {k : xd_K} {m0 f0 : Nat → Int32} {M : Nat} {U : Nat → Prop} {l : List dr_A} {B : Nat} {u : SX} {r e0 e1 e2 : Nat} {el : Nat → dr_E}
theorem xo_take {post : Int32 → SX → Prop} {t n : Nat} {c : Nat → Int32} (R : xd_R k m0 f0 M U ((r, e0, e1, e2, el) :: l) B u) (C : xd_C n c u) (hn : n = r) (hB : B ≤ 48) (hl : l.length < 10) (hM : M ≤ 32) (hU : ¬ U t) (ht : t < 40)
    (K : ∀ u', xd_B k m0 f0 u' → ((dr_take M n c (r, e0, e1, e2, el)).1 = 0 → xd_R k m0 f0 M (fun s => U s ∨ s = t) ((dr_take M n c (r, e0, e1, e2, el)).2 :: l) B u') → post (dr_take M n c (r, e0, e1, e2, el)).1 u') :
    wpX_take post u (nI t) := by
  subst hn
  refine xd_topC (P := fun u => wpX_take post u (nI t)) R C ?_
  intro z0 z1 z2 z3 vc mt ll oc ep ov ou tk tv mv mf br be wr we ws ik ia sd pd ix rv rf ne st ns ct gv gf a m hk hmem hm hB' hs hV hS hct
  have hV' := hV
  obtain ⟨h1, h2, h3, h4, h5, h6, h7⟩ := hV'
  have ok := h5
  obtain ⟨k1, k2, k3, k4, k5, k6, k7, k8, k9⟩ := ok
  have hw3 : ∀ p, p < 3 → we (3 * l.length + p) = nI (dr_h e0 e1 e2 p) ∧ dr_h e0 e1 e2 p ≤ 32 := by
    intro p hp
    rcases (show p = 0 ∨ p = 1 ∨ p = 2 by omega) with rfl | rfl | rfl
    · exact ⟨h2, k2⟩
    · exact ⟨h3, k3⟩
    · exact ⟨h4, k4⟩
  have he1 : ∀ p, n ≤ p → p < 3 → dr_h e0 e1 e2 p = 1 := by
    intro p hp hp3
    rcases (show p = 0 ∨ p = 1 ∨ p = 2 by omega) with rfl | rfl | rfl
    · exact k5 (by omega)
    · exact k6 (by omega)
    · exact k7 (by omega)
  unfold dr_take at K
  dsimp only at K
  unfold wpX_take
  dsimp only
  refine nm_r (nI_pred l.length) ?_
  refine dr_lp1 (σ := Unit) n (fun f i _ => wX_take_15 post (nI t) (nI l.length) (nI n) z0 z1 z2 z3 (nI M) vc mt ll oc ep (nI (l.length + 1)) (nI (a + m)) ov ou (nI n) tk tv mv mf br be wr we ws ik ia sd pd ix rv rf ne st ns ct gv gf f (nI i)) (fun i _ => ∀ p, p < i → ¬ (nI M < c p ∨ c p < -nI M)) ?_ ?_ 0 (Nat.zero_le _) () (fun p hp => by omega)
  · intro f _ hI
    have hlim : ¬ ∃ p, p < n ∧ (nI M < c p ∨ c p < -nI M) := fun ⟨p, hp, w⟩ => hI p hp w
    rw [dr_if_f hlim] at K
    have hb : ∀ p, p < n → -(M : Int) ≤ (c p).toInt ∧ (c p).toInt ≤ M := by
      intro p hp
      have y1 : ¬ nI M < c p := fun w => hlim ⟨p, hp, Or.inl w⟩
      have y2 : ¬ c p < -nI M := fun w => hlim ⟨p, hp, Or.inr w⟩
      have en : (-nI M).toInt = -(M : Int) := by
        rw [Int32.toInt_neg, nI_toInt (by omega)]
        exact Int.bmod_eq_of_le (by omega) (by omega)
      rw [Int32.lt_iff_toInt_lt, nI_toInt (by omega)] at y1
      rw [Int32.lt_iff_toInt_lt, en] at y2
      omega
    have hx : ∀ p, dr_tx n c p ≤ 32 := by
      intro p
      unfold dr_tx
      by_cases hp : p < n
      · rw [if_pos hp]; have := hb p hp; omega
      · rw [if_neg hp]; omega
    have zz : (0 : Int32).toInt = 0 := rfl
    rw [wX_take_15]
    refine br_t (nI_le (Nat.le_refl _) (by omega)) ?_
    refine xa_plan hl ?_
    dsimp only
    refine dr_lp1 (σ := (Int32 × (Nat → Int32) × (Nat → Int32))) n (fun f i s => wX_take_69 post (nI t) (nI l.length) (nI n) z0 z1 z2 z3 (nI M) vc mt ll oc ep (nI (l.length + 1)) (nI (a + m)) ov ou (nI n) f s.1 (nI i) tk tv mv mf br be wr we ws ik ia sd pd ix rv rf s.2.1 s.2.2 ns ct gv gf)
      (fun i s => (∀ p, p < 3 → s.2.1 p = nI (if p < i then dr_tx n c p else dr_h e0 e1 e2 p)) ∧ (∀ p, p < 3 → (s.2.2 p).toInt = if p < i then dr_ts n c (dr_h e0 e1 e2 p) p else 0) ∧
        ((s.1 = 1 ∧ ∀ p, p < i → dr_tx n c p ≤ dr_h e0 e1 e2 p) ∨ s.1 = 0)) ?_ ?_ 0 (Nat.zero_le _) (1, upd (upd (upd ne 0 (we (3 * l.length))) 1 (we (3 * l.length + 1))) 2 (we (3 * l.length + 2)), upd (upd (upd st 0 0) 1 0) 2 0)
      ⟨na_all3 h2 h3 h4, na_all3 rfl rfl rfl, Or.inl ⟨rfl, fun p hp => by omega⟩⟩
    · intro f s hI2
      obtain ⟨x4, ne', st'⟩ := s
      obtain ⟨n1, n2, n3⟩ := hI2
      dsimp only at n1 n2 n3 ⊢
      have hne : ∀ p, p < 3 → ne' p = nI (dr_tx n c p) := by
        intro p hp
        rw [n1 p hp]
        by_cases z : p < n
        · rw [if_pos z]
        · rw [if_neg z, he1 p (by omega) hp]
          unfold dr_tx
          rw [if_neg z]
      have hst : ∀ p, p < 3 → (st' p).toInt = dr_ts n c (dr_h e0 e1 e2 p) p := by
        intro p hp
        rw [n2 p hp]
        by_cases z : p < n
        · rw [if_pos z]
        · rw [if_neg z]
          unfold dr_ts
          rw [if_neg z]
      have hts : ∀ p, p < 3 → -32 ≤ dr_ts n c (dr_h e0 e1 e2 p) p ∧ dr_ts n c (dr_h e0 e1 e2 p) p ≤ 32 := by
        intro p hp
        have w1 := (hw3 p hp).2
        unfold dr_ts
        by_cases z : p < n
        · have := hb p z
          rw [if_pos z]
          split <;> omega
        · rw [if_neg z]; omega
      have hbig := dr_mul3 (hx 0) (hx 1) (hx 2)
      rw [wX_take_69]
      dsimp only
      rw [hne 0 (by omega), hne 1 (by omega), hne 2 (by omega), pk_mul, pk_mul]
      refine br_t (nI_le (Nat.le_refl _) (by omega)) ?_
      by_cases hp : M < dr_tx n c 0 * dr_tx n c 1 * dr_tx n c 2
      · rw [if_pos hp] at K
        exact br_f (nI_ge hp (by omega)) (K _ ⟨hk, hmem⟩ (na_err (c := -15) (by decide)))
      rw [if_neg hp] at K
      refine br_t (nI_le (by omega) (by omega)) ?_
      have okr := (dr_take_ok h5 hM hlim (by omega)).1
      have K' : ∀ u', xd_R k m0 f0 M (fun s => U s ∨ s = t) ((n, dr_tx n c 0, dr_tx n c 1, dr_tx n c 2, dr_mk (dr_tx n c 1) (dr_tx n c 2) (dr_gth (dr_tσ n c e0 e1 e2) e0 e1 e2 el)) :: l) B u' → post 0 u' := fun u' h => K u' (xd_RB h) (fun _ => h)
      clear K
      rcases n3 with ⟨e4, hwi⟩ | e4
      · rw [e4]
        refine br_f (by decide) ?_
        refine xa_t197 hl hs (by omega) k1 ?_
        intro ia' p1 p2
        rw [h1]
        refine xa_adopt hl ?_
        dsimp only
        refine K' _ (xd_R_u (xd_mk hk hmem hm hB' hs (xd_V_map hV pk_us (dr_u30.trans (hne 0 (by omega))) (dr_u31.trans (hne 1 (by omega))) (dr_u32.trans (hne 2 (by omega))) okr h6 ?_ ?_) (xd_S_co (xd_S_ad hS) (fun j hj => ⟨rfl, p2 j hj⟩) (fun _ _ => rfl))) (Nat.le_refl _))
        · intro d hd hd' z
          rw [p1 d hd hd', dr_sh_0 (fun p hp => h6 d p hd hd' (by omega) (Or.inr z)), Int32.add_zero]
        · intro x0 x1 x2 b0 b1 b2
          have hsh : ∀ p, p < 3 → ∀ x, x < dr_tx n c p → ∃ i, i < dr_h e0 e1 e2 p ∧ ((x : Int) + dr_ts n c (dr_h e0 e1 e2 p) p = i) ∧ (p < n → nI i = nI x + st' p) := by
            intro p hp x hx'
            have w1 := (hw3 p hp).2
            have w2 := hst p hp
            have w3 := hts p hp
            have w4 : 0 ≤ (x : Int) + dr_ts n c (dr_h e0 e1 e2 p) p ∧ (x : Int) + dr_ts n c (dr_h e0 e1 e2 p) p < dr_h e0 e1 e2 p := by
              unfold dr_ts
              by_cases z : p < n
              · have v1 := hb p z
                have v2 := hwi p z
                unfold dr_tx at hx' v2
                rw [if_pos z] at hx' v2 ⊢
                split <;> omega
              · unfold dr_tx at hx'
                rw [if_neg z] at hx' ⊢
                rw [he1 p (by omega) hp]
                omega
            refine ⟨((x : Int) + dr_ts n c (dr_h e0 e1 e2 p) p).toNat, by omega, by omega, fun z => ?_⟩
            apply Int32.toInt_inj.mp
            rw [Int32.toInt_add, nI_toInt (by omega), nI_toInt (by omega), w2]
            rw [Int.bmod_eq_of_le (by omega) (by omega)]
            omega
          obtain ⟨i0, c0, d0, f0⟩ := hsh 0 (by omega) x0 b0
          obtain ⟨i1, c1, d1, f1⟩ := hsh 1 (by omega) x1 b1
          obtain ⟨i2, c2, d2, f2⟩ := hsh 2 (by omega) x2 b2
          refine ⟨i0, i1, i2, c0, c1, c2, ?_, ?_⟩
          · rw [dr_mk_at b1 b2]
            exact dr_gth_in d0 d1 d2 c0 c1 c2
          · intro d hd hd'
            exact dr_ad_sh k1 (p1 d hd hd') (fun p hp hp3 => h6 d p hd hd' hp3 (Or.inl hp)) f0 f1 f2
      · rw [e4]
        refine br_t rfl ?_
        unfold wpX_blockOf
        dsimp only
        rw [na_m32, na_pa256]
        refine xa_gth (S := dr_S U) (r := n) (g := dr_mk (dr_tx n c 1) (dr_tx n c 2) (dr_gth (dr_tσ n c e0 e1 e2) e0 e1 e2 el)) hl hs (by omega) hm h1 k1 (hne 0 (by omega)) (hne 1 (by omega)) (hne 2 (by omega)) (hx 0) (hx 1) (hx 2) (by omega) (by omega) (dr_S_out hU) (fun i hi => (okr.2.2.2.2.2.2.2.2 i hi).1) ?_ ?_
        · intro i0 i1 i2 mv' mf' iy rv' rf' ov' ou' Q b0 b1 b2 hm' y0 y1 y2 kk
          have hi32 : ∀ p, p < 3 → dr_h i0 i1 i2 p ≤ 32 := by
            have a0 := hx 0
            have a1 := hx 1
            have a2 := hx 2
            exact na_all3 (by show i0 ≤ 32; omega) (by show i1 ≤ 32; omega) (by show i2 ≤ 32; omega)
          have hy : ∀ p, p < 3 → iy p = nI (dr_h i0 i1 i2 p) + st' p := na_all3 y0 y1 y2
          have hyi : ∀ p, p < 3 → (iy p).toInt = dr_tσ n c e0 e1 e2 p i0 i1 i2 := by
            intro p hp
            have w1 := hi32 p hp
            have w3 := hts p hp
            rw [hy p hp, Int32.toInt_add, nI_toInt (by omega), hst p hp]
            exact Int.bmod_eq_of_le (by omega) (by omega)
          refine xa_fetch0 hl hs (by omega) h2 h3 h4 k2 k3 k4 ?_ ?_ (fun rv rf => kk rv rf iy)
          · intro x0 x1 x2 c0 c1 c2 d0 d1 d2
            have v0 := hyi 0 (by omega)
            have v1 := hyi 1 (by omega)
            have v2 := hyi 2 (by omega)
            rw [d0, nI_toInt (by omega)] at v0
            rw [d1, nI_toInt (by omega)] at v1
            rw [d2, nI_toInt (by omega)] at v2
            rw [d0, d1, d2, dr_mk_at b1 b2, dr_gth_in v0.symm v1.symm v2.symm c0 c1 c2]
            exact h7 x0 x1 x2 c0 c1 c2 mv' mf' hm' []
          · intro hno
            rw [dr_mk_at b1 b2]
            refine dr_gth_out (fun x0 x1 x2 c0 c1 c2 d0 d1 d2 => ?_)
            have inj : ∀ p x : Nat, p < 3 → x ≤ 32 → dr_tσ n c e0 e1 e2 p i0 i1 i2 = x → iy p = nI x := by
              intro p x hp hx' he
              apply Int32.toInt_inj.mp
              rw [hyi p hp, he, nI_toInt (by omega)]
            exact hno x0 x1 x2 c0 c1 c2 (inj 0 x0 (by omega) (by omega) d0) (inj 1 x1 (by omega) (by omega) d1) (inj 2 x2 (by omega) (by omega) d2)
        · intro mv' mf' rv' rf' ix' ov' ou' sd' hw q1 q2 q3 q4
          exact K' _ (xd_fin_blk hk hmem (by omega) hs hS hM hU ht (hne 0 (by omega)) (hne 1 (by omega)) (hne 2 (by omega)) okr hw q1 q2 q3 q4)
    · intro f i s hi hI2 hW
      obtain ⟨x4, ne', st'⟩ := s
      obtain ⟨n1, n2, n3⟩ := hI2
      dsimp only at n1 n2 n3 ⊢
      have hi3 : i < 3 := by omega
      have hbi := hb i hi
      have w1 := (hw3 i hi3).2
      rw [wX_take_69]
      dsimp only
      refine br_f (nI_ge hi (by omega)) ?_
      rw [na_m3, nI_add, nI_clamp (show i < 2 ^ 31 by omega), nI_clamp (show 3 * l.length + i < 2 ^ 31 by omega), hct i hi, (hw3 i hi3).1]
      refine ⟨vp_in_nI hi3 (by omega), nm_e ⟨vp_in_nI (by omega) (by omega), nm_e ?_⟩⟩
      have k137 : ∀ z : Int32, z.toInt = dr_ts n c (dr_h e0 e1 e2 i) i → wX_take_137 post (wX_take_69 post (nI t) (nI l.length) (nI n) z0 z1 z2 z3 (nI M) vc mt ll oc ep (nI (l.length + 1)) (nI (a + m)) ov ou (nI n) f) (nI t) (nI l.length) (nI n) x4 (nI i) (nI (dr_h e0 e1 e2 i)) z (nI i) z0 z1 z2 z3 (nI M) vc mt ll oc ep (nI (l.length + 1)) (nI (a + m)) ov ou (nI n) tk tv mv mf br be wr we ws ik ia sd pd ix rv rf (upd ne' i (nI (dr_tx n c i))) st' ns ct gv gf := by
        intro z hz
        have fin : ∀ x5, ((x5 = 1 ∧ ∀ p, p < i + 1 → dr_tx n c p ≤ dr_h e0 e1 e2 p) ∨ x5 = 0) → wX_take_69 post (nI t) (nI l.length) (nI n) z0 z1 z2 z3 (nI M) vc mt ll oc ep (nI (l.length + 1)) (nI (a + m)) ov ou (nI n) f x5 (nI (i + 1)) tk tv mv mf br be wr we ws ik ia sd pd ix rv rf (upd ne' i (nI (dr_tx n c i))) (upd st' i z) ns ct gv gf := by
          intro x5 h5'
          refine hW (x5, upd ne' i (nI (dr_tx n c i)), upd st' i z) ⟨fun p hp => ?_, fun p hp => ?_, h5'⟩
          · show upd ne' i (nI (dr_tx n c i)) p = _
            by_cases e : p = i
            · rw [e, if_pos (by omega)]; exact pk_us
            · refine (pk_un e).trans ((n1 p hp).trans ?_)
              by_cases y : p < i
              · rw [if_pos y, if_pos (by omega)]
              · rw [if_neg y, if_neg (by omega)]
          · show (upd st' i z p).toInt = _
            by_cases e : p = i
            · rw [e, if_pos (by omega)]
              have : upd st' i z i = z := pk_us
              rw [this]; exact hz
            · have : upd st' i z p = st' p := pk_un e
              rw [this, n2 p hp]
              by_cases y : p < i
              · rw [if_pos y, if_pos (by omega)]
              · rw [if_neg y, if_neg (by omega)]
        unfold wX_take_137
        rw [nI_clamp (show i < 2 ^ 31 by omega), pk_us]
        refine ⟨vp_in_nI hi3 (by omega), nm_e ⟨vp_in_nI hi3 (by omega), ?_⟩⟩
        have hxi := hx i
        rcases Nat.lt_or_ge (dr_h e0 e1 e2 i) (dr_tx n c i) with y | y
        · exact br_f (nI_ge y (by omega)) (nm_r (nI_1 i) (fin 0 (Or.inr rfl)))
        · refine br_t (nI_le y (by omega)) (nm_r (nI_1 i) (fin x4 ?_))
          rcases n3 with ⟨e4, hwi⟩ | e4
          · refine Or.inl ⟨e4, fun p hp => ?_⟩
            rcases Nat.lt_or_ge p i with v | v
            · exact hwi p v
            · have e : p = i := by omega
              rw [e]; exact y
          · exact Or.inr e4
      have e1 : dr_ts n c (dr_h e0 e1 e2 i) i = if (c i).toInt < 0 then (dr_h e0 e1 e2 i : Int) + (c i).toInt else 0 := by unfold dr_ts; rw [if_pos hi]
      have e2' : dr_tx n c i = (c i).toInt.natAbs := by unfold dr_tx; rw [if_pos hi]
      by_cases w : c i < 0
      · refine br_t w ?_
        have w' := w
        rw [Int32.lt_iff_toInt_lt, zz] at w'
        have ez : -(c i) = nI (dr_tx n c i) := by
          apply Int32.toInt_inj.mp
          rw [Int32.toInt_neg, nI_toInt (by omega)]
          rw [Int.bmod_eq_of_le (by omega) (by omega)]
          omega
        rw [ez]
        unfold wX_take_116
        rw [nI_clamp (show i < 2 ^ 31 by omega)]
        refine ⟨vp_in_nI hi3 (by omega), nm_e (br_t w (k137 _ ?_))⟩
        rw [Int32.toInt_add, nI_toInt (by omega), e1, if_pos w']
        exact Int.bmod_eq_of_le (by omega) (by omega)
      · refine br_f w ?_
        have w' := w
        rw [Int32.lt_iff_toInt_lt, zz] at w'
        have ez : c i = nI (dr_tx n c i) := by
          apply Int32.toInt_inj.mp
          rw [nI_toInt (by omega)]
          omega
        unfold wX_take_116
        rw [nI_clamp (show i < 2 ^ 31 by omega)]
        refine ⟨vp_in_nI hi3 (by omega), ?_⟩
        intro nx hnx
        rw [ez] at hnx
        rw [hnx]
        refine br_f w (k137 0 ?_)
        rw [e1, if_neg w']
        rfl
  · intro f i _ hi hI hW
    rw [wX_take_15]
    dsimp only
    rw [nI_clamp (show i < 2 ^ 31 by omega), hct i hi]
    refine br_f (nI_ge hi (by omega)) ⟨vp_in_nI (by omega) (by omega), ?_⟩
    by_cases w : nI M < c i
    · rw [dr_if_t ⟨i, hi, Or.inl w⟩] at K
      exact br_t w (K _ ⟨hk, hmem⟩ (na_err (c := -15) (by decide)))
    · refine br_f w ⟨vp_in_nI (by omega) (by omega), ?_⟩
      by_cases w2 : c i < -nI M
      · rw [dr_if_t ⟨i, hi, Or.inr w2⟩] at K
        exact br_f (Int32.not_le.mpr w2) (K _ ⟨hk, hmem⟩ (na_err (c := -15) (by decide)))
      · refine br_t (Int32.not_lt.mp w2) (nm_r (nI_1 i) (hW () (fun p hp => ?_)))
        rcases Nat.lt_or_ge p i with y | y
        · exact hI p y
        · have e : p = i := by omega
          rw [e]; exact fun z => z.elim w w2
end
end
section
theorem dr_rem32 {c : Int32} {e : Nat} (he : 0 < e) (he32 : e ≤ 32) (x : Int32) (hx : x = c - c / nI e * nI e) :
    (0 ≤ x → x = nI (c.toInt % e).toNat) ∧ (¬ 0 ≤ x → x + nI e = nI (c.toInt % e).toNat) := by
  have c1 := c.le_toInt
  have c2 := c.toInt_lt
  have a2 : (nI e).toInt = (e : Int) := nI_toInt (by omega)
  have a3 : (c / nI e).toInt = c.toInt.tdiv e := by
    rw [Int32.toInt_div, a2]
    rcases Nat.lt_or_ge 1 e with y | y
    · have : (c.toInt.tdiv e).natAbs ≤ c.toInt.natAbs / 2 := by
        rw [Int.natAbs_tdiv]
        exact Nat.div_le_div_left (show 2 ≤ (e : Int).natAbs by omega) (by omega)
      exact Int.bmod_eq_of_le (by omega) (by omega)
    · have e1 : (e : Int) = 1 := by omega
      rw [e1, Int.tdiv_one]
      exact Int.bmod_eq_of_le (by omega) (by omega)
  have h2 : (c.toInt.tdiv e * e).natAbs ≤ c.toInt.natAbs := by
    rw [Int.natAbs_mul, Int.natAbs_tdiv]
    exact Nat.div_mul_le_self c.toInt.natAbs (e : Int).natAbs
  have h1 := Int.tmod_add_tdiv_mul c.toInt e
  have b1 : (c.toInt.tmod e).natAbs < e := by
    rw [Int.natAbs_tmod]
    exact Nat.mod_lt _ (by simpa using he)
  have h6 : 0 ≤ c.toInt → 0 ≤ c.toInt.tmod e := fun h => Int.tmod_nonneg _ h
  have h8 : 0 ≤ c.toInt → 0 ≤ c.toInt.tdiv e * e := fun h => Int.mul_nonneg (Int.tdiv_nonneg h (by omega)) (by omega)
  have a4 : x.toInt = c.toInt.tmod e := by
    rw [hx, Int32.toInt_sub, Int32.toInt_mul, a3, a2]
    have h3 : (c.toInt.tdiv e * e).bmod (2 ^ 32) = c.toInt.tdiv e * e := Int.bmod_eq_of_le (by omega) (by omega)
    rw [h3]
    have h4 : c.toInt - c.toInt.tdiv e * e = c.toInt.tmod e := by omega
    rw [h4]
    exact Int.bmod_eq_of_le (by omega) (by omega)
  have b2 := Int.emod_nonneg c.toInt (show (e : Int) ≠ 0 by omega)
  have b3 := Int.emod_lt_of_pos c.toInt (show (0 : Int) < e by omega)
  have b4 : c.toInt % e = if 0 ≤ c.toInt.tmod e then c.toInt.tmod e else c.toInt.tmod e + e := by
    split
    · rename_i z
      have w : c.toInt % e = (c.toInt.tmod e) % e := by
        conv => lhs; rw [← h1]
        rw [Int.add_mul_emod_self_right]
      rw [w, Int.emod_eq_of_lt z (by omega)]
    · rename_i z
      have w : c.toInt % e = (c.toInt.tmod e + e) % e := by
        conv => lhs; rw [← h1]
        rw [Int.add_mul_emod_self_right, Int.add_emod_right]
      rw [w, Int.emod_eq_of_lt (by omega) (by omega)]
  have lx : (0 ≤ x) ↔ 0 ≤ x.toInt := by rw [Int32.le_iff_toInt_le]; rfl
  refine ⟨fun hx0 => ?_, fun hx0 => ?_⟩
  · rw [lx, a4] at hx0
    apply Int32.toInt_inj.mp
    rw [a4, nI_toInt (by omega), b4, if_pos hx0]
    omega
  · rw [lx, a4] at hx0
    apply Int32.toInt_inj.mp
    rw [Int32.toInt_add, a4, a2, nI_toInt (by omega), b4, if_neg hx0]
    rw [Int.bmod_eq_of_le (by omega) (by omega)]
    omega
section
variable {k : xd_K} {m0 f0 : Nat → Int32} {M : Nat} {U : Nat → Prop} {l : List dr_A} {B : Nat} {u : SX} {r e0 e1 e2 : Nat} {el : Nat → dr_E}
theorem xo_drop {post : SX → Prop} {n : Nat} {c : Nat → Int32} (R : xd_R k m0 f0 M U ((r, e0, e1, e2, el) :: l) B u) (C : xd_C n c u) (hn : n = r) (hB : B ≤ 48) (hl : l.length < 10)
    (K : ∀ u', xd_R k m0 f0 M U (dr_drop n c (r, e0, e1, e2, el) :: l) B u' → post u') : wpX_drop post u := by
  subst hn
  refine xd_topC (P := fun u => wpX_drop post u) R C ?_
  intro z0 z1 z2 z3 vc mt ll oc ep ov ou tk tv mv mf br be wr we ws ik ia sd pd ix rv rf ne st ns ct gv gf a m hk hmem hm hB' hs hV hS hct
  have hV' := hV
  obtain ⟨h1, h2, h3, h4, h5, h6, h7⟩ := hV'
  have okr := dr_drop_ok (c := c) h5
  have ok := h5
  obtain ⟨k1, k2, k3, k4, k5, k6, k7, k8, k9⟩ := ok
  have hw3 : ∀ p, p < 3 → we (3 * l.length + p) = nI (dr_h e0 e1 e2 p) ∧ dr_h e0 e1 e2 p ≤ 32 := by
    intro p hp
    rcases (show p = 0 ∨ p = 1 ∨ p = 2 by omega) with rfl | rfl | rfl
    · exact ⟨h2, k2⟩
    · exact ⟨h3, k3⟩
    · exact ⟨h4, k4⟩
  have zz : (0 : Int32).toInt = 0 := rfl
  unfold wpX_drop
  dsimp only
  refine nm_r (nI_pred l.length) ?_
  refine dr_lp1 (σ := (Nat → Int32) × (Nat → Int32)) n (fun f i s => wX_drop_14 post (nI l.length) (nI n) f (nI i) z0 z1 z2 z3 (nI M) vc mt ll oc ep (nI (l.length + 1)) (nI (a + m)) ov ou (nI n) tk tv mv mf br be wr s.2 ws ik s.1 sd pd ix rv rf ne st ns ct gv gf)
    (fun i s => (∀ p, p < 3 → s.2 (3 * l.length + p) = nI (if p < i then dr_dx n c (dr_h e0 e1 e2 p) p else dr_h e0 e1 e2 p)) ∧ (∀ j, j < 3 * l.length → s.2 j = we j) ∧
      (∀ d, a ≤ d → d < a + m → s.1 d = ia d + dr_sh (fun p => if 0 < (c p).toInt then nI (min (c p).toInt.natAbs (dr_h e0 e1 e2 p)) else 0) sd d i) ∧ (∀ d, d < a → s.1 d = ia d)) ?_ ?_ 0 (Nat.zero_le _) (ia, we)
    ⟨na_all3 h2 h3 h4, fun _ _ => rfl, fun d _ _ => (Int32.add_zero _).symm, fun _ _ => rfl⟩
  · intro f s hI
    obtain ⟨ia', we'⟩ := s
    obtain ⟨n1, n2, n3, n4⟩ := hI
    dsimp only at n1 n2 n3 n4 ⊢
    rw [wX_drop_14]
    refine br_t (nI_le (Nat.le_refl _) (by omega)) ?_
    have hwe : ∀ p, p < 3 → we' (3 * l.length + p) = nI (dr_dx n c (dr_h e0 e1 e2 p) p) := by
      intro p hp
      rw [n1 p hp]
      by_cases z : p < n
      · rw [if_pos z]
      · rw [if_neg z]
        unfold dr_dx
        rw [if_neg z]
    refine K _ (xd_mk hk hmem hm hB' hs (xd_V_map hV h1 (hwe 0 (by omega)) (hwe 1 (by omega)) (hwe 2 (by omega)) okr h6 ?_ ?_) (xd_S_fr (fun _ hj => ⟨hj, rfl, rfl⟩) l a hS (fun j hj => ⟨rfl, rfl, fun q hq => n2 _ (by omega)⟩) (fun j hj => ⟨rfl, n4 j hj, fun _ _ => rfl⟩)))
    · intro d hd hd' z
      rw [n3 d hd hd', dr_sh_0 (fun p hp => h6 d p hd hd' (by omega) (Or.inr z)), Int32.add_zero]
    · intro x0 x1 x2 b0 b1 b2
      have hsh : ∀ p, p < 3 → ∀ x, x < dr_dx n c (dr_h e0 e1 e2 p) p → ∃ i, i < dr_h e0 e1 e2 p ∧ ((x : Int) + dr_ds n c p = i) ∧ (p < n → nI i = nI x + (fun p => if 0 < (c p).toInt then nI (min (c p).toInt.natAbs (dr_h e0 e1 e2 p)) else 0) p) := by
        intro p hp x hx'
        have w1 := (hw3 p hp).2
        unfold dr_dx at hx'
        unfold dr_ds
        by_cases z : p < n
        · rw [if_pos z] at hx' ⊢
          by_cases y : 0 < (c p).toInt
          · refine ⟨x + (c p).toInt.natAbs, by omega, ?_, fun _ => ?_⟩
            · rw [if_neg (by omega)]; omega
            · dsimp only
              rw [if_pos y, nI_add]
              exact congrArg nI (by omega)
          · refine ⟨x, by omega, ?_, fun _ => ?_⟩
            · by_cases v : (c p).toInt < 0
              · rw [if_pos v]; omega
              · rw [if_neg v]; omega
            · dsimp only
              rw [if_neg y, Int32.add_zero]
        · rw [if_neg z] at hx' ⊢
          exact ⟨x, hx', by omega, fun y => absurd y z⟩
      obtain ⟨i0, c0, d0, f0⟩ := hsh 0 (by omega) x0 b0
      obtain ⟨i1, c1, d1, f1⟩ := hsh 1 (by omega) x1 b1
      obtain ⟨i2, c2, d2, f2⟩ := hsh 2 (by omega) x2 b2
      refine ⟨i0, i1, i2, c0, c1, c2, ?_, ?_⟩
      · rw [dr_mk_at b1 b2]
        exact dr_gth_in d0 d1 d2 c0 c1 c2
      · intro d hd hd'
        exact dr_ad_sh k1 (n3 d hd hd') (fun p hp hp3 => h6 d p hd hd' hp3 (Or.inl hp)) f0 f1 f2
  · intro f i s hi hI hW
    obtain ⟨ia', we'⟩ := s
    obtain ⟨n1, n2, n3, n4⟩ := hI
    dsimp only at n1 n2 n3 n4 ⊢
    have hi3 : i < 3 := by omega
    have w1 := (hw3 i hi3).2
    have c1 := (c i).le_toInt
    have c2 := (c i).toInt_lt
    have hwei := n1 i hi3
    rw [if_neg (Nat.lt_irrefl i)] at hwei
    rw [wX_drop_14]
    dsimp only
    refine br_f (nI_ge hi (by omega)) ?_
    rw [na_m3, nI_add, nI_clamp (show i < 2 ^ 31 by omega), nI_clamp (show 3 * l.length + i < 2 ^ 31 by omega), hct i hi, hwei]
    refine ⟨vp_in_nI hi3 (by omega), nm_e ⟨vp_in_nI (by omega) (by omega), nm_e ?_⟩⟩
    have k92 : ∀ ia2 (x6 : Int32), x6 = nI (min (c i).toInt.natAbs (dr_h e0 e1 e2 i)) → (∀ d, a ≤ d → d < a + m → ia2 d = ia d + dr_sh (fun p => if 0 < (c p).toInt then nI (min (c p).toInt.natAbs (dr_h e0 e1 e2 p)) else 0) sd d (i + 1)) → (∀ d, d < a → ia2 d = ia d) →
        wX_drop_92 post (wX_drop_14 post (nI l.length) (nI n) f) (nI l.length) (nI n) (nI i) (nI (dr_h e0 e1 e2 i)) x6 z0 z1 z2 z3 (nI M) vc mt ll oc ep (nI (l.length + 1)) (nI (a + m)) ov ou (nI n) tk tv mv mf br be wr we' ws ik ia2 sd pd ix rv rf ne st ns ct gv gf := by
      intro ia2 x6 h6' h7' h8'
      unfold wX_drop_92
      rw [na_m3, nI_add, nI_clamp (show 3 * l.length + i < 2 ^ 31 by omega), h6', pk_sub (by omega)]
      refine ⟨vp_in_nI (by omega) (by omega), nm_e (nm_r (nI_1 i) (hW (ia2, upd we' (3 * l.length + i) (nI (dr_h e0 e1 e2 i - min (c i).toInt.natAbs (dr_h e0 e1 e2 i)))) ⟨fun p hp => ?_, fun j hj => (pk_un (by omega)).trans (n2 j hj), h7', h8'⟩))⟩
      show upd we' (3 * l.length + i) _ (3 * l.length + p) = _
      by_cases e : p = i
      · rw [e, pk_us, if_pos (by omega)]
        unfold dr_dx
        rw [if_pos hi]
        exact congrArg nI (by omega)
      · rw [pk_un (by omega), n1 p hp]
        by_cases y : p < i
        · rw [if_pos y, if_pos (by omega)]
        · rw [if_neg y, if_neg (by omega)]
    have k80 : ∀ x6, x6 = nI (min (c i).toInt.natAbs (dr_h e0 e1 e2 i)) → wX_drop_80 post (wX_drop_14 post (nI l.length) (nI n) f) (nI l.length) (nI n) (nI i) (c i) (nI (dr_h e0 e1 e2 i)) x6 z0 z1 z2 z3 (nI M) vc mt ll oc ep (nI (l.length + 1)) (nI (a + m)) ov ou (nI n) tk tv mv mf br be wr we' ws ik ia' sd pd ix rv rf ne st ns ct gv gf := by
      intro x6 h6'
      unfold wX_drop_80
      by_cases w : c i ≤ 0
      · refine br_t w (k92 ia' x6 h6' (fun d hd hd' => ?_) n4)
        rw [Int32.le_iff_toInt_le, zz] at w
        show _ = ia d + (dr_sh _ sd d i + (if 0 < (c i).toInt then nI (min (c i).toInt.natAbs (dr_h e0 e1 e2 i)) else 0) * sd (3 * d + i))
        rw [n3 d hd hd', if_neg (by omega), Int32.zero_mul, Int32.add_zero]
      · refine br_f w ?_
        rw [Int32.le_iff_toInt_le, zz] at w
        refine xa_shift hl hs (by omega) hi3 ?_
        intro ia2 p1 p2
        dsimp only
        refine k92 ia2 x6 h6' (fun d hd hd' => ?_) (fun d hd => (p2 d hd).trans (n4 d hd))
        show _ = ia d + (dr_sh _ sd d i + (if 0 < (c i).toInt then nI (min (c i).toInt.natAbs (dr_h e0 e1 e2 i)) else 0) * sd (3 * d + i))
        rw [p1 d hd hd', n3 d hd hd', if_pos (by omega), h6', Int32.add_assoc]
    have en : (-nI (dr_h e0 e1 e2 i)).toInt = -(dr_h e0 e1 e2 i : Int) := by
      rw [Int32.toInt_neg, nI_toInt (by omega)]
      exact Int.bmod_eq_of_le (by omega) (by omega)
    unfold wX_drop_62
    by_cases w : c i < 0
    · refine br_t w (br_f (Int32.not_le.mpr w) ?_)
      rw [Int32.lt_iff_toInt_lt, zz] at w
      by_cases w2 : c i ≤ -nI (dr_h e0 e1 e2 i)
      · refine br_t w2 (k80 _ ?_)
        rw [Int32.le_iff_toInt_le, en] at w2
        exact congrArg nI (by omega)
      · refine br_f w2 (nm_e (k80 _ ?_))
        rw [Int32.le_iff_toInt_le, en] at w2
        apply Int32.toInt_inj.mp
        rw [Int32.toInt_neg, nI_toInt (by omega)]
        rw [Int.bmod_eq_of_le (by omega) (by omega)]
        omega
    · refine br_f w ?_
      by_cases w2 : nI (dr_h e0 e1 e2 i) ≤ c i
      · refine br_t w2 (br_t (Int32.not_lt.mp w) (k80 _ ?_))
        rw [Int32.lt_iff_toInt_lt, zz] at w
        rw [Int32.le_iff_toInt_le, nI_toInt (by omega)] at w2
        exact congrArg nI (by omega)
      · refine br_f w2 (k80 _ ?_)
        rw [Int32.lt_iff_toInt_lt, zz] at w
        rw [Int32.le_iff_toInt_le, nI_toInt (by omega)] at w2
        apply Int32.toInt_inj.mp
        rw [nI_toInt (by omega)]
        omega
theorem xo_rotate {post : SX → Prop} {t : Nat} {c : Nat → Int32} (R : xd_R k m0 f0 M U ((r, e0, e1, e2, el) :: l) B u) (C : xd_C 1 c u) (hB : B ≤ 48) (hl : l.length < 10) (hM : M ≤ 32) (hU : ¬ U t) (ht : t < 40)
    (K : ∀ u', xd_R k m0 f0 M (fun s => U s ∨ s = t) (dr_rot (c 0) (r, e0, e1, e2, el) :: l) B u' → post u') : wpX_rotate post u (nI t) := by
  refine xd_topC (P := fun u => wpX_rotate post u (nI t)) R C ?_
  intro z0 z1 z2 z3 vc mt ll oc ep ov ou tk tv mv mf br be wr we ws ik ia sd pd ix rv rf ne st ns ct gv gf a m hk hmem hm hB' hs hV hS hct
  have hV' := hV
  obtain ⟨h1, h2, h3, h4, h5, h6, h7⟩ := hV'
  have R' : xd_R k m0 f0 M U ((r, e0, e1, e2, el) :: l) B (z0, z1, z2, z3, nI M, vc, mt, ll, oc, ep, nI (l.length + 1), nI (a + m), ov, ou, nI 1, tk, tv, mv, mf, br, be, wr, we, ws, ik, ia, sd, pd, ix, rv, rf, ne, st, ns, ct, gv, gf) := xd_mk hk hmem hm hB' hs hV hS
  have okr := dr_rot_ok (c := c 0) h5
  have ok := h5
  obtain ⟨k1, k2, k3, k4, k5, k6, k7, k8, k9⟩ := ok
  have hw3 : ∀ p, p < 3 → we (3 * l.length + p) = nI (dr_h e0 e1 e2 p) ∧ dr_h e0 e1 e2 p ≤ 32 := by
    intro p hp
    rcases (show p = 0 ∨ p = 1 ∨ p = 2 by omega) with rfl | rfl | rfl
    · exact ⟨h2, k2⟩
    · exact ⟨h3, k3⟩
    · exact ⟨h4, k4⟩
  have same : (∀ i0 i1 i2, i0 < e0 → i1 < e1 → i2 < e2 → ∀ p, p < 3 → dr_rσ (c 0) r e0 e1 e2 p i0 i1 i2 = (dr_h i0 i1 i2 p : Int)) → post (z0, z1, z2, z3, nI M, vc, mt, ll, oc, ep, nI (l.length + 1), nI (a + m), ov, ou, nI 1, tk, tv, mv, mf, br, be, wr, we, ws, ik, ia, sd, pd, ix, rv, rf, ne, st, ns, ct, gv, gf) := by
    intro h
    refine K _ (xd_R_u (xd_R_cg R' (fun i hi => ?_)) (Nat.le_refl _))
    obtain ⟨i0, i1, i2, b0, b1, b2, rfl⟩ := dr_un3 hi
    rw [dr_mk_at b1 b2]
    have q := h i0 i1 i2 b0 b1 b2
    exact dr_gth_in (q 0 (by omega)) (q 1 (by omega)) (q 2 (by omega)) b0 b1 b2
  have hc0 : ct 0 = c 0 := hct 0 (by omega)
  unfold wpX_rotate
  dsimp only
  rw [hc0]
  refine nm_r (nI_pred l.length) ⟨vp_in_nI hl (by omega), ?_⟩
  rw [nI_clamp (show l.length < 2 ^ 31 by omega), h1]
  by_cases hr : r = 0
  · subst hr
    refine nm_e (br_f (by decide) (same (fun i0 i1 i2 b0 b1 b2 p hp => ?_)))
    unfold dr_rσ
    rw [if_neg (by omega)]
  obtain ⟨ax, rfl⟩ : ∃ x, r = x + 1 := ⟨r - 1, by omega⟩
  have hax : ax < 3 := by omega
  have e32 := (hw3 ax hax).2
  refine nm_r (nI_pred ax) (br_t (nI_pos' (by omega)) ?_)
  rw [na_m3, nI_add, nI_clamp (show 3 * l.length + ax < 2 ^ 31 by omega), (hw3 ax hax).1]
  refine ⟨vp_in_nI (by omega) (by omega), nm_e ?_⟩
  rcases Nat.eq_zero_or_pos (dr_h e0 e1 e2 ax) with y | y
  · rw [y]
    refine br_f (by decide) (same (fun i0 i1 i2 b0 b1 b2 p hp => ?_))
    unfold dr_rσ
    by_cases z : p = ax
    · rw [z, if_neg (by omega)]
    · rw [if_neg (by omega)]
  refine br_t (nI_lt (a := 0) y (by omega)) ⟨nI_ne0 y (by omega), ?_⟩
  have b2 := Int.emod_nonneg (c 0).toInt (show (dr_h e0 e1 e2 ax : Int) ≠ 0 by omega)
  have b3 := Int.emod_lt_of_pos (c 0).toInt (show (0 : Int) < dr_h e0 e1 e2 ax by omega)
  obtain ⟨rr, hrr⟩ : ∃ rr : Nat, (c 0).toInt % (dr_h e0 e1 e2 ax : Int) = rr := ⟨((c 0).toInt % (dr_h e0 e1 e2 ax : Int)).toNat, by omega⟩
  have hσ : ∀ i : Nat, i < dr_h e0 e1 e2 ax → ((i : Int) + (c 0).toInt) % (dr_h e0 e1 e2 ax : Int) = ((if i + rr < dr_h e0 e1 e2 ax then i + rr else i + rr - dr_h e0 e1 e2 ax : Nat) : Int) := by
    intro i hi
    have d := Int.emod_add_ediv_mul (c 0).toInt (dr_h e0 e1 e2 ax : Int)
    have e : (i : Int) + (c 0).toInt = ((i : Int) + rr) + (c 0).toInt / (dr_h e0 e1 e2 ax : Int) * (dr_h e0 e1 e2 ax : Int) := by omega
    rw [e, Int.add_mul_emod_self_right]
    split
    · rw [Int.emod_eq_of_lt (by omega) (by omega)]; omega
    · have e2 : (i : Int) + rr = ((i : Int) + rr - dr_h e0 e1 e2 ax) + dr_h e0 e1 e2 ax := by omega
      rw [e2, Int.add_emod_right, Int.emod_eq_of_lt (by omega) (by omega)]
      omega
  have k62 : wX_rotate_62 post (nI t) (nI ax) (nI rr) z0 z1 z2 z3 (nI M) vc mt ll oc ep (nI (l.length + 1)) (nI (a + m)) ov ou (nI 1) tk tv mv mf br be wr we ws ik ia sd pd ix rv rf ne st ns ct gv gf := by
    unfold wX_rotate_62
    rcases Nat.eq_zero_or_pos rr with v | v
    · rw [v]
      refine br_t rfl (same (fun i0 i1 i2 b0 b1 b2 p hp => ?_))
      unfold dr_rσ
      by_cases z : p = ax
      · have hpi : dr_h i0 i1 i2 ax < dr_h e0 e1 e2 ax := na_all3 (P := fun p => dr_h i0 i1 i2 p < dr_h e0 e1 e2 p) b0 b1 b2 ax hax
        rw [z, if_pos ⟨rfl, y⟩, hσ _ hpi, v, Nat.add_zero, if_pos hpi]
      · rw [if_neg (by omega)]
    · refine br_f (nI_ne0 v (by omega)) ?_
      refine xa_plan hl ?_
      dsimp only
      rw [nI_clamp (show ax < 2 ^ 31 by omega)]
      refine ⟨vp_in_nI hax (by omega), ?_⟩
      intro st' hst'
      have hst : ∀ p, p < 3 → st' p = nI (if p = ax then rr else 0) := by
        intro p hp
        rw [hst']
        by_cases z : p = ax
        · rw [z, pk_us, if_pos rfl]
        · rw [pk_un z, if_neg z]
          exact na_all3 (P := fun p => upd (upd (upd st 0 0) 1 0) 2 0 p = nI 0) rfl rfl rfl p hp
      clear hst'
      unfold wpX_blockOf
      dsimp only
      rw [na_m32, na_pa256]
      refine xa_gth (S := dr_S U) (r := ax + 1) (n0 := e0) (n1 := e1) (n2 := e2) (g := dr_mk e1 e2 (dr_gth (dr_rσ (c 0) (ax + 1) e0 e1 e2) e0 e1 e2 el)) hl hs (by omega) hm h1 k1 h2 h3 h4 k2 k3 k4 (by omega) (by omega) (dr_S_out hU) (fun i hi => (okr.2.2.2.2.2.2.2.2 i hi).1) ?_ ?_
      · intro i0 i1 i2 mv' mf' iy rv' rf' ov' ou' Q b0 b1 b2 hm' y0 y1 y2 kk
        have hpi : ∀ p, p < 3 → dr_h i0 i1 i2 p < dr_h e0 e1 e2 p := na_all3 (P := fun p => dr_h i0 i1 i2 p < dr_h e0 e1 e2 p) b0 b1 b2
        have hy : ∀ p, p < 3 → iy p = nI (dr_h i0 i1 i2 p + if p = ax then rr else 0) := by
          have hy0 : ∀ p, p < 3 → iy p = nI (dr_h i0 i1 i2 p) + st' p := na_all3 y0 y1 y2
          intro p hp
          rw [hy0 p hp, hst p hp, nI_add]
        have hlt : ∀ p, p < 3 → dr_h i0 i1 i2 p + (if p = ax then rr else 0) < 2 * dr_h e0 e1 e2 p := by
          intro p hp
          have := hpi p hp
          by_cases z : p = ax
          · rw [if_pos z]; subst z; omega
          · rw [if_neg z]; omega
        have hj : ∀ p, p < 3 → dr_rσ (c 0) (ax + 1) e0 e1 e2 p i0 i1 i2 = ((if dr_h i0 i1 i2 p + (if p = ax then rr else 0) < dr_h e0 e1 e2 p then dr_h i0 i1 i2 p + (if p = ax then rr else 0) else dr_h i0 i1 i2 p + (if p = ax then rr else 0) - dr_h e0 e1 e2 p : Nat) : Int) ∧ (if dr_h i0 i1 i2 p + (if p = ax then rr else 0) < dr_h e0 e1 e2 p then dr_h i0 i1 i2 p + (if p = ax then rr else 0) else dr_h i0 i1 i2 p + (if p = ax then rr else 0) - dr_h e0 e1 e2 p) < dr_h e0 e1 e2 p := by
          intro p hp
          have q1 := hpi p hp
          have q2 := hlt p hp
          have q3 : ∀ v : Nat, dr_h i0 i1 i2 p + v < 2 * dr_h e0 e1 e2 p → (if dr_h i0 i1 i2 p + v < dr_h e0 e1 e2 p then dr_h i0 i1 i2 p + v else dr_h i0 i1 i2 p + v - dr_h e0 e1 e2 p) < dr_h e0 e1 e2 p := by
            intro v hv
            split <;> omega
          refine ⟨?_, q3 _ q2⟩
          unfold dr_rσ
          by_cases z : p = ax
          · subst z
            rw [if_pos ⟨rfl, y⟩, hσ _ q1]
            simp only [if_pos]
          · rw [if_neg (by omega)]
            simp only [if_neg z, Nat.add_zero, if_pos q1]
        refine xa_fetch1 hl hs (by omega) h2 h3 h4 k2 k3 k4 (hy 0 (by omega)) (hy 1 (by omega)) (hy 2 (by omega)) (hlt 0 (by omega)) (hlt 1 (by omega)) (hlt 2 (by omega)) ?_ kk
        have hg := dr_gth_in (e0 := e0) (e1 := e1) (e2 := e2) (el := el) (hj 0 (by omega)).1 (hj 1 (by omega)).1 (hj 2 (by omega)).1 (hj 0 (by omega)).2 (hj 1 (by omega)).2 (hj 2 (by omega)).2
        rw [dr_mk_at b1 b2, hg]
        exact h7 _ _ _ (hj 0 (by omega)).2 (hj 1 (by omega)).2 (hj 2 (by omega)).2 mv' mf' hm' []
      · intro mv' mf' rv' rf' ix' ov' ou' sd' hw q1 q2 q3 q4
        exact K _ (xd_fin_blk hk hmem (by omega) hs hS hM hU ht h2 h3 h4 okr hw q1 q2 q3 q4)
  intro x5 hx5
  obtain ⟨f1, f2⟩ := dr_rem32 y e32 x5 hx5
  rw [hrr] at f1 f2
  by_cases w : 0 ≤ x5
  · refine br_t w ?_
    rw [f1 w]
    exact k62
  · refine br_f w (nm_r (f2 w) ?_)
    exact k62
end
end
section
def dr_pr (d : Nat → Nat) (sd : Nat → Int32) (c q : Nat) : Nat → Int32
  | 0 => 0
  | p + 1 => dr_pr d sd c q p + (if d p = q then sd (3 * c + p) else 0)
def dr_xs (d : Nat → Nat) (sd X : Nat → Int32) (c : Nat) : Nat → Int32
  | 0 => 0
  | p + 1 => dr_xs d sd X c p + X (d p) * sd (3 * c + p)
theorem dr_pr_sum {d : Nat → Nat} {sd X : Nat → Int32} {c : Nat} : ∀ {n : Nat}, (∀ p, p < n → d p < 3) →
    X 0 * dr_pr d sd c 0 n + X 1 * dr_pr d sd c 1 n + X 2 * dr_pr d sd c 2 n = dr_xs d sd X c n
  | 0, _ => by
    show X 0 * 0 + X 1 * 0 + X 2 * 0 = 0
    simp only [Int32.mul_zero, Int32.add_zero]
  | n + 1, h => by
    have ih := dr_pr_sum (X := X) (sd := sd) (c := c) (n := n) (fun p hp => h p (by omega))
    have hn := h n (by omega)
    show X 0 * (dr_pr d sd c 0 n + (if d n = 0 then sd (3 * c + n) else 0)) + X 1 * (dr_pr d sd c 1 n + (if d n = 1 then sd (3 * c + n) else 0)) + X 2 * (dr_pr d sd c 2 n + (if d n = 2 then sd (3 * c + n) else 0)) = dr_xs d sd X c n + X (d n) * sd (3 * c + n)
    rw [← ih]
    rcases (show d n = 0 ∨ d n = 1 ∨ d n = 2 by omega) with e | e | e
    · rw [e]; simp; grind
    · rw [e]; simp; grind
    · rw [e]; simp; grind
theorem dr_pr_0 {d : Nat → Nat} {sd : Nat → Int32} {c q : Nat} : ∀ {n : Nat}, (∀ p, p < n → d p = q → sd (3 * c + p) = 0) → dr_pr d sd c q n = 0
  | 0, _ => rfl
  | n + 1, h => by
    show dr_pr d sd c q n + (if d n = q then sd (3 * c + n) else 0) = 0
    rw [dr_pr_0 (fun p hp => h p (by omega))]
    by_cases e : d n = q
    · rw [if_pos e, h n (by omega) e, Int32.add_zero]
    · rw [if_neg e, Int32.add_zero]
theorem dr_G_n {n : Nat} {c : Nat → Int32} (hn : n ≤ 3) : dr_G n c n = dr_G n c 3 := by
  rcases (show n = 0 ∨ n = 1 ∨ n = 2 ∨ n = 3 by omega) with rfl | rfl | rfl | rfl
  · simp [dr_G]
  · simp [dr_G]
  · simp [dr_G]
  · rfl
section
variable {z0 z1 z2 z3 mc vc mt ll oc ep vn cl ov ou cc : Int32} {tk tv mv mf br be wr we ws ik ia sd pd ix rv rf ne st ns ct gv gf : Nat → Int32}
theorem xa_perm {post : SX → Prop} {c n : Nat} {d : Nat → Nat} (hc : c < 48) (hn : n ≤ 3) (hct : ∀ p, p < n → ct p = nI (d p) ∧ d p < 3)
    (K : ∀ sd' ns, (∀ q, q < 3 → sd' (3 * c + q) = dr_pr d sd c q n) → (∀ j, j < 3 * c ∨ 3 * c + 3 ≤ j → sd' j = sd j) → post (z0, z1, z2, z3, mc, vc, mt, ll, oc, ep, vn, cl, ov, ou, cc, tk, tv, mv, mf, br, be, wr, we, ws, ik, ia, sd', pd, ix, rv, rf, ne, st, ns, ct, gv, gf)) : wpX_permuteStrides post (z0, z1, z2, z3, mc, vc, mt, ll, oc, ep, vn, cl, ov, ou, cc, tk, tv, mv, mf, br, be, wr, we, ws, ik, ia, sd, pd, ix, rv, rf, ne, st, ns, ct, gv, gf) (nI c) (nI n) := by
  unfold wpX_permuteStrides
  dsimp only
  refine nm_e (nm_e (nm_e ?_))
  refine dr_lp1 (σ := Nat → Int32) n (fun f i s => wX_permuteStrides_23 post (nI c) (nI n) z0 z1 z2 z3 mc vc mt ll oc ep vn cl ov ou cc f (nI i) tk tv mv mf br be wr we ws ik ia sd pd ix rv rf ne st s ct gv gf) (fun i s => ∀ q, q < 3 → s q = dr_pr d sd c q i) ?_ ?_ 0 (Nat.zero_le _) (upd (upd (upd ns 0 0) 1 0) 2 0) (na_all3 rfl rfl rfl)
  · intro f s hI
    rw [wX_permuteStrides_23]
    refine br_t (nI_le (Nat.le_refl _) (by omega)) ?_
    refine dr_lp1 (σ := Nat → Int32) 3 (fun f i s' => wX_permuteStrides_60 post (nI c) z0 z1 z2 z3 mc vc mt ll oc ep vn cl ov ou cc f (nI i) tk tv mv mf br be wr we ws ik ia s' pd ix rv rf ne st s ct gv gf) (fun i s' => (∀ q, q < i → s' (3 * c + q) = dr_pr d sd c q n) ∧ (∀ j, j < 3 * c ∨ 3 * c + 3 ≤ j → s' j = sd j)) ?_ ?_ 0 (by omega) sd ⟨fun q hq => by omega, fun _ _ => rfl⟩
    · intro f s' hI2
      rw [wX_permuteStrides_60]
      exact br_t (nI_le (a := 3) (b := 3) (by omega) (by omega)) (K s' s hI2.1 hI2.2)
    · intro f i s' hi hI2 hW
      rw [wX_permuteStrides_60]
      dsimp only
      rw [na_m3, nI_add, nI_clamp (show i < 2 ^ 31 by omega), nI_clamp (show 3 * c + i < 2 ^ 31 by omega), hI i hi]
      refine br_f (nI_ge (b := 3) hi (by omega)) ⟨vp_in_nI hi (by omega), vp_in_nI (by omega) (by omega), nm_e (nm_r (nI_1 i) (hW _ ⟨fun q hq => ?_, fun j hj => (pk_un (by omega)).trans (hI2.2 j hj)⟩))⟩
      rcases Nat.lt_or_ge q i with y | y
      · exact (pk_un (by omega)).trans (hI2.1 q y)
      · have e : q = i := by omega
        rw [e]; exact pk_us
  · intro f i s hi hI hW
    obtain ⟨t1, t2⟩ := hct i hi
    rw [wX_permuteStrides_23]
    dsimp only
    rw [na_m3, nI_add, nI_clamp (show i < 2 ^ 31 by omega), nI_clamp (show 3 * c + i < 2 ^ 31 by omega), t1, nI_clamp (show d i < 2 ^ 31 by omega), hI (d i) t2]
    refine br_f (nI_ge hi (by omega)) ⟨vp_in_nI (by omega) (by omega), vp_in_nI t2 (by omega), vp_in_nI (by omega) (by omega), vp_in_nI t2 (by omega), nm_e (nm_r (nI_1 i) (hW _ (fun q hq => ?_)))⟩
    show _ = dr_pr d sd c q i + (if d i = q then sd (3 * c + i) else 0)
    by_cases e : q = d i
    · rw [if_pos e.symm, e]; exact pk_us
    · rw [if_neg (fun z => e z.symm), Int32.add_zero]
      exact (pk_un e).trans (hI q hq)
variable {post : Int32 → SX → Prop}
/-- the least extent of the axes sent to q -/
theorem xa_t92 {J : Int32 → (Nat → Int32) → (Nat → Int32) → (Nat → Int32) → (Nat → Int32) → (Nat → Int32) → (Nat → Int32) → (Nat → Int32) → (Nat → Int32) → (Nat → Int32) → (Nat → Int32) → (Nat → Int32) → (Nat → Int32) → (Nat → Int32) → (Nat → Int32) → (Nat → Int32) → (Nat → Int32) → (Nat → Int32) → (Nat → Int32) → (Nat → Int32) → (Nat → Int32) → (Nat → Int32) → (Nat → Int32) → Prop}
    {w n q e0 e1 e2 : Nat} {d : Nat → Nat} {x3 : Int32} (hw : w < 10) (hn : n ≤ 3) (hq : q < 3) (h2 : we (3 * w) = nI e0) (h3 : we (3 * w + 1) = nI e1) (h4 : we (3 * w + 2) = nI e2) (k2 : e0 ≤ 32) (k3 : e1 ≤ 32) (k4 : e2 ≤ 32)
    (hct : ∀ p, p < n → ct p = nI (d p) ∧ d p < 3) (hne : ne q = 1) (K0 : dr_lst n d e0 e1 e2 q = none → ∀ ne, post (-14) (z0, z1, z2, z3, mc, vc, mt, ll, oc, ep, vn, cl, ov, ou, cc, tk, tv, mv, mf, br, be, wr, we, ws, ik, ia, sd, pd, ix, rv, rf, ne, st, ns, ct, gv, gf))
    (K1 : ∀ x ne', dr_lst n d e0 e1 e2 q = some x → ne' q = nI x → (∀ p, p ≠ q → ne' p = ne p) → J (nI (q + 1)) tk tv mv mf br be wr we ws ik ia sd pd ix rv rf ne' st ns ct gv gf) :
    ∃ f, wX_transpose_92 post J (nI w) (nI n) x3 (nI q) z0 z1 z2 z3 mc vc mt ll oc ep vn cl ov ou cc f 0 0 tk tv mv mf br be wr we ws ik ia sd pd ix rv rf ne st ns ct gv gf := by
  have sq : ∀ p f o e (nx : Nat → Int32) (x5 : Int32), p < 3 → we (3 * w + p) = nI e → e ≤ 32 → (∀ x, o = some x → x ≤ 32) → ((o = none ∧ x5 = 0) ∨ (∃ x, o = some x ∧ x5 = 1 ∧ nx q = nI x)) →
      (p < n → ∀ nx' x5', ((dr_ls n d e q p o = none ∧ x5' = 0) ∨ (∃ x, dr_ls n d e q p o = some x ∧ x5' = 1 ∧ nx' q = nI x)) → (∀ p, p ≠ q → nx' p = nx p) → wX_transpose_92 post J (nI w) (nI n) x3 (nI q) z0 z1 z2 z3 mc vc mt ll oc ep vn cl ov ou cc f x5' (nI (p + 1)) tk tv mv mf br be wr we ws ik ia sd pd ix rv rf nx' st ns ct gv gf) →
      (¬ p < n → (x5 = 0 → post (-14) (z0, z1, z2, z3, mc, vc, mt, ll, oc, ep, vn, cl, ov, ou, cc, tk, tv, mv, mf, br, be, wr, we, ws, ik, ia, sd, pd, ix, rv, rf, nx, st, ns, ct, gv, gf)) ∧ (¬ x5 = 0 → J (nI (q + 1)) tk tv mv mf br be wr we ws ik ia sd pd ix rv rf nx st ns ct gv gf)) →
      wX_transpose_92 post J (nI w) (nI n) x3 (nI q) z0 z1 z2 z3 mc vc mt ll oc ep vn cl ov ou cc (f + 1) x5 (nI p) tk tv mv mf br be wr we ws ik ia sd pd ix rv rf nx st ns ct gv gf := by
    intro p f o e nx x5 hp he he32 ho hx k1 k2
    rw [wX_transpose_92]
    rcases Nat.lt_or_ge p n with y | y
    · refine br_f (nI_ge y (by omega)) ?_
      have k1' := k1 y
      obtain ⟨t1, t2⟩ := hct p y
      rw [na_m3, nI_add, nI_clamp (show p < 2 ^ 31 by omega), nI_clamp (show q < 2 ^ 31 by omega), nI_clamp (show 3 * w + p < 2 ^ 31 by omega), he, t1]
      refine ⟨vp_in_nI (by omega) (by omega), nm_e ⟨vp_in_nI hp (by omega), ?_⟩⟩
      have k140 : dr_ls n d e q p o = some e → wX_transpose_140 post J (wX_transpose_92 post J (nI w) (nI n) x3 (nI q) z0 z1 z2 z3 mc vc mt ll oc ep vn cl ov ou cc f) (nI w) (nI n) x3 (nI q) (nI p) (nI e) z0 z1 z2 z3 mc vc mt ll oc ep vn cl ov ou cc tk tv mv mf br be wr we ws ik ia sd pd ix rv rf nx st ns ct gv gf → True := fun _ _ => trivial
      have c140 : dr_ls n d e q p o = some e → ∀ J80, wX_transpose_140 post J80 (wX_transpose_92 post J (nI w) (nI n) x3 (nI q) z0 z1 z2 z3 mc vc mt ll oc ep vn cl ov ou cc f) (nI w) (nI n) x3 (nI q) (nI p) (nI e) z0 z1 z2 z3 mc vc mt ll oc ep vn cl ov ou cc tk tv mv mf br be wr we ws ik ia sd pd ix rv rf nx st ns ct gv gf := by
        intro h J80
        unfold wX_transpose_140
        rw [nI_clamp (show q < 2 ^ 31 by omega)]
        exact ⟨vp_in_nI hq (by omega), nm_e (nm_r (nI_1 p) (k1' _ 1 (Or.inr ⟨e, h, rfl, pk_us⟩) (fun p hp => pk_un hp)))⟩
      by_cases v : d p = q
      · refine br_t (congrArg nI v) ?_
        rcases hx with ⟨ho1, hx5⟩ | ⟨x, ho1, hx5, hxq⟩
        · refine br_t hx5 (c140 ?_ _)
          unfold dr_ls
          rw [if_pos ⟨y, v⟩, ho1]
        · have x32 := ho x ho1
          rw [hx5]
          refine br_f (by decide) ⟨vp_in_nI hq (by omega), ?_⟩
          rw [hxq]
          rcases Nat.lt_or_ge e x with u | u
          · refine br_f (nI_ge u (by omega)) (c140 ?_ _)
            unfold dr_ls
            rw [if_pos ⟨y, v⟩, ho1]
            dsimp only
            rw [if_pos u]
          · refine br_t (nI_le u (by omega)) (nm_r (nI_1 p) (k1' nx 1 (Or.inr ⟨x, ?_, rfl, hxq⟩) (fun _ _ => rfl)))
            unfold dr_ls
            rw [if_pos ⟨y, v⟩, ho1]
            dsimp only
            rw [if_neg (by omega)]
      · refine br_f (fun z => v ((nI_eq (by omega) (by omega)).mp z)) (nm_r (nI_1 p) (k1' nx x5 ?_ (fun _ _ => rfl)))
        rw [dr_ls_miss (fun z => v z.2)]
        exact hx
    · exact br_t (nI_le y (by omega)) (by
        have k2' := k2 (by omega)
        exact ⟨k2'.1, fun z => nm_r (nI_1 q) (k2'.2 z)⟩)
  have hb : ∀ o : Option Nat, (∀ x, o = some x → x ≤ 32) → ∀ p e, e ≤ 32 → (∀ x, dr_ls n d e q p o = some x → x ≤ 32) := by
    intro o ho p e he x hx
    unfold dr_ls at hx
    split at hx
    · cases o with
      | none => have := Option.some.inj hx; omega
      | some y =>
        have h3 := ho y rfl
        have h4 := Option.some.inj hx
        split at h4 <;> omega
    · exact ho x hx
  have fin : ∀ (nx : Nat → Int32) (x5 : Int32), ((dr_lst n d e0 e1 e2 q = none ∧ x5 = 0) ∨ (∃ x, dr_lst n d e0 e1 e2 q = some x ∧ x5 = 1 ∧ nx q = nI x)) → (∀ p, p ≠ q → nx p = ne p) → (x5 = 0 → post (-14) (z0, z1, z2, z3, mc, vc, mt, ll, oc, ep, vn, cl, ov, ou, cc, tk, tv, mv, mf, br, be, wr, we, ws, ik, ia, sd, pd, ix, rv, rf, nx, st, ns, ct, gv, gf)) ∧ (¬ x5 = 0 → J (nI (q + 1)) tk tv mv mf br be wr we ws ik ia sd pd ix rv rf nx st ns ct gv gf) := by
    intro nx x5 h hk
    rcases h with ⟨h1, h5⟩ | ⟨x, h1, h5, h6⟩
    · exact ⟨fun _ => K0 h1 nx, fun z => absurd h5 z⟩
    · exact ⟨fun z => absurd (h5.symm.trans z) (by decide), fun _ => K1 x nx h1 h6 hk⟩
  have o1 := hb none (fun x h => by cases h) 0 e0 k2
  have o2 := hb _ o1 1 e1 k3
  refine ⟨4, sq 0 3 none e0 ne 0 (by omega) h2 k2 (fun x h => by cases h) (Or.inl ⟨rfl, rfl⟩) (fun n0 nx x5 a1 a2 => sq 1 2 _ e1 nx x5 (by omega) h3 k3 o1 a1 (fun n1 ny y5 b1 b2 => sq 2 1 _ e2 ny y5 (by omega) h4 k4 o2 b1 (fun n2 nz z5 c1 c2 => ?_) (fun n2 => ?_)) (fun n1 => ?_)) (fun n0 => ?_)⟩
  · rw [wX_transpose_92]
    have f := fin nz z5 c1 (fun p hp => (c2 p hp).trans ((b2 p hp).trans (a2 p hp)))
    exact br_t (nI_le (by omega) (by omega)) ⟨f.1, fun z => nm_r (nI_1 q) (f.2 z)⟩
  · refine fin ny y5 ?_ (fun p hp => (b2 p hp).trans (a2 p hp))
    unfold dr_lst
    rw [dr_ls_miss (p := 2) (fun z => n2 z.1)]
    exact b1
  · refine fin nx x5 ?_ a2
    unfold dr_lst
    rw [dr_ls_miss (p := 2) (fun z => by omega), dr_ls_miss (p := 1) (fun z => n1 z.1)]
    exact a1
  · refine fin ne 0 (Or.inl ⟨?_, rfl⟩) (fun _ _ => rfl)
    unfold dr_lst
    rw [dr_ls_miss (p := 2) (fun z => by omega), dr_ls_miss (p := 1) (fun z => by omega), dr_ls_miss (p := 0) (fun z => n0 z.1)]
end
section
variable {k : xd_K} {m0 f0 : Nat → Int32} {M : Nat} {U : Nat → Prop} {l : List dr_A} {B : Nat} {u : SX} {r e0 e1 e2 : Nat} {el : Nat → dr_E}
theorem xo_trn {post : Int32 → SX → Prop} {n : Nat} {c : Nat → Int32} (R : xd_R k m0 f0 M U ((r, e0, e1, e2, el) :: l) B u) (C : xd_C n c u) (hn : n = r) (hB : B ≤ 48) (hl : l.length < 10)
    (K : ∀ u', xd_B k m0 f0 u' → ((dr_trn n c (r, e0, e1, e2, el)).1 = 0 → xd_R k m0 f0 M U ((dr_trn n c (r, e0, e1, e2, el)).2 :: l) B u') → post (dr_trn n c (r, e0, e1, e2, el)).1 u') :
    wpX_transpose post u := by
  subst hn
  refine xd_topC (P := fun u => wpX_transpose post u) R C ?_
  intro z0 z1 z2 z3 vc mt ll oc ep ov ou tk tv mv mf br be wr we ws ik ia sd pd ix rv rf ne st ns ct gv gf a m hk hmem hm hB' hs hV hS hct
  have hV' := hV
  obtain ⟨h1, h2, h3, h4, h5, h6, h7⟩ := hV'
  have ok := h5
  obtain ⟨k1, k2, k3, k4, k5, k6, k7, k8, k9⟩ := ok
  unfold dr_trn at K
  dsimp only at K
  unfold wpX_transpose
  dsimp only
  refine nm_r (nI_pred l.length) ?_
  refine dr_lp1 (σ := Int32) n (fun f i s => wX_transpose_17 post (nI l.length) (nI n) z0 z1 z2 z3 (nI M) vc mt ll oc ep (nI (l.length + 1)) (nI (a + m)) ov ou (nI n) tk tv mv mf br be wr we ws ik ia sd pd ix rv rf ne st ns ct gv gf f s (nI i)) (fun i s => s = dr_G n c i ∧ ∀ p, p < i → ¬ (c p < 0 ∨ nI n ≤ c p)) ?_ ?_ 0 (Nat.zero_le _) (-1) ⟨rfl, fun p hp => by omega⟩
  · intro f s hI
    obtain ⟨hsG, hgood⟩ := hI
    have hok1 : ¬ ∃ p, p < n ∧ (c p < 0 ∨ nI n ≤ c p) := fun ⟨p, hp, w⟩ => hgood p hp w
    rw [dr_if_f hok1] at K
    have hd : ∀ p, p < n → c p = nI (dr_nd c p) ∧ dr_nd c p < n := by
      intro p hp
      obtain ⟨j, hj, e⟩ := nI_of (x := c p) (fun w => hok1 ⟨p, hp, Or.inl w⟩)
      unfold dr_nd
      rw [e, nI_clamp hj]
      refine ⟨rfl, ?_⟩
      rcases Nat.lt_or_ge j n with z | z
      · exact z
      · exact absurd ⟨p, hp, Or.inr (by rw [e]; exact nI_le z hj)⟩ hok1
    have hctd : ∀ p, p < n → ct p = nI (dr_nd c p) ∧ dr_nd c p < 3 := fun p hp => ⟨(hct p hp).trans (hd p hp).1, by have := (hd p hp).2; omega⟩
    have okr := dr_trn_ok (d := dr_nd c) h5 (fun p hp => (hd p hp).2)
    have hG := dr_G3 (d := dr_nd c) k1 (fun p hp => ⟨(hd p hp).1, by have := (hd p hp).2; omega⟩)
    rw [dr_G_n k1, hG] at hsG
    have hgr := dr_gr_le (d := dr_nd c) k1 (fun p hp => (hd p hp).2)
    have hslt : ∀ q, q < 4 → (s < nI q ↔ dr_gr n (dr_nd c) ≤ q) := by
      intro q hq
      rw [hsG]
      rcases Nat.eq_zero_or_pos (dr_gr n (dr_nd c)) with z | z
      · rw [z, na_z1]
        refine iff_of_true ?_ (by omega)
        rw [Int32.lt_iff_toInt_lt, nI_toInt (by omega)]
        have : (-1 : Int32).toInt = -1 := by decide
        omega
      · obtain ⟨g, hg⟩ : ∃ g, dr_gr n (dr_nd c) = g + 1 := ⟨dr_gr n (dr_nd c) - 1, by omega⟩
        rw [hg, pk_m1, nI_ltI (by omega) (by omega)]
        omega
    have hs1 : s + 1 = nI (dr_gr n (dr_nd c)) := by
      rw [hsG, Int32.add_assoc]
      have : (-1 : Int32) + 1 = 0 := by decide
      rw [this, Int32.add_zero]
    rw [wX_transpose_17]
    refine br_t (nI_le (Nat.le_refl _) (by omega)) ?_
    refine xa_vec ?_
    dsimp only
    refine dr_lp1 (σ := Nat → Int32) (dr_gr n (dr_nd c)) (fun f i x => wX_transpose_80 post (nI l.length) (nI n) s z0 z1 z2 z3 (nI M) vc mt ll oc ep (nI (l.length + 1)) (nI (a + m)) ov ou (nI n) f (nI i) tk tv mv mf br be wr we ws ik ia sd pd ix rv rf x st ns ct gv gf)
      (fun i x => (∀ q, q < i → ∃ y, dr_lst n (dr_nd c) e0 e1 e2 q = some y ∧ x q = nI y) ∧ (∀ q, i ≤ q → q < 3 → x q = 1)) ?_ ?_ 0 (Nat.zero_le _) (upd (upd (upd ne 0 1) 1 1) 2 1) ⟨fun q hq => by omega, fun q _ hq => na_all3 (P := fun p => upd (upd (upd ne 0 1) 1 1) 2 1 p = 1) rfl rfl rfl q hq⟩
    · intro f x hX
      have hok2 : ¬ ∃ q, q < dr_gr n (dr_nd c) ∧ dr_lst n (dr_nd c) e0 e1 e2 q = none := by
        rintro ⟨q, q1, q2⟩
        obtain ⟨y, y1, _⟩ := hX.1 q q1
        rw [q2] at y1
        cases y1
      rw [dr_if_f hok2] at K
      have hxq : ∀ q, q < 3 → x q = nI ((dr_lst n (dr_nd c) e0 e1 e2 q).getD 1) := by
        intro q hq
        rcases Nat.lt_or_ge q (dr_gr n (dr_nd c)) with y | y
        · obtain ⟨z, y1, y2⟩ := hX.1 q y
          rw [y1, y2]; rfl
        · rw [hX.2 q y hq, dr_lst_none (fun p hp e => by have := dr_gr_lt (d := dr_nd c) k1 hp; omega)]
          rfl
      have K' : ∀ u', xd_R k m0 f0 M U ((dr_gr n (dr_nd c), (dr_lst n (dr_nd c) e0 e1 e2 0).getD 1, (dr_lst n (dr_nd c) e0 e1 e2 1).getD 1, (dr_lst n (dr_nd c) e0 e1 e2 2).getD 1, dr_mk ((dr_lst n (dr_nd c) e0 e1 e2 1).getD 1) ((dr_lst n (dr_nd c) e0 e1 e2 2).getD 1) (dr_gth (dr_nσ n (dr_nd c)) e0 e1 e2 el)) :: l) B u' → post 0 u' := fun u' h => K u' (xd_RB h) (fun _ => h)
      clear K
      rw [wX_transpose_80]
      refine br_t ((hslt _ (by omega)).mpr (Nat.le_refl _)) ?_
      rcases Nat.eq_zero_or_pos n with y | y
      · refine br_t (by rw [y]; rfl) ?_
        subst y
        have a0 := k5 rfl
        have a1 := k6 (by omega)
        have a2 := k7 (by omega)
        subst a0 a1 a2
        have e0' : ∀ q, (dr_lst 0 (dr_nd c) 1 1 1 q).getD 1 = 1 := fun q => by rw [dr_lst_none (fun p hp => by omega)]; rfl
        rw [e0' 0, e0' 1, e0' 2] at K'
        have R' : xd_R k m0 f0 M U ((0, 1, 1, 1, el) :: l) B (z0, z1, z2, z3, nI M, vc, mt, ll, oc, ep, nI (l.length + 1), nI (a + m), ov, ou, nI 0, tk, tv, mv, mf, br, be, wr, we, ws, ik, ia, sd, pd, ix, rv, rf, x, st, ns, ct, gv, gf) := xd_mk hk hmem hm hB' hs hV hS
        refine K' _ (xd_R_cg R' (fun i hi => ?_))
        have ei : i = 0 := by omega
        subst ei
        have := dr_mk_at (w1 := 1) (w2 := 1) (i := 0) (j := 0) (l := 0) (g := dr_gth (dr_nσ 0 (dr_nd c)) 1 1 1 el) (by omega) (by omega)
        rw [show (0 * 1 + 0) * 1 + 0 = 0 from rfl] at this
        rw [this]
        exact dr_gth_in (x0 := 0) (x1 := 0) (x2 := 0) rfl rfl rfl (by omega) (by omega) (by omega)
      · refine br_f (nI_ne0 y (by omega)) ⟨vp_in_nI hl (by omega), ?_⟩
        rw [nI_clamp (show l.length < 2 ^ 31 by omega), hs]
        refine nm_e ?_
        refine dr_lp1 (σ := (Nat → Int32) × (Nat → Int32)) (a + m) (fun f i v => wX_transpose_186 post (nI n) s f (nI i) z0 z1 z2 z3 (nI M) vc mt ll oc ep (nI (l.length + 1)) (nI (a + m)) ov ou (nI n) tk tv mv mf br be wr we ws ik ia v.1 pd ix rv rf x st v.2 ct gv gf)
          (fun i v => dr_sI a sd (fun d q => dr_pr (dr_nd c) sd d q n) i v.1 ∧ a ≤ i) ?_ ?_ a (by omega) (sd, ns) ⟨dr_sI0, Nat.le_refl _⟩
        · intro f v hv
          rw [wX_transpose_186]
          refine br_t (nI_le (Nat.le_refl _) (by omega)) ?_
          rw [hs1]
          refine xa_adopt hl ?_
          dsimp only
          refine K' _ (xd_mk hk hmem hm hB' hs (xd_V_map hV pk_us (dr_u30.trans (hxq 0 (by omega))) (dr_u31.trans (hxq 1 (by omega))) (dr_u32.trans (hxq 2 (by omega))) okr ?_ (fun _ _ _ _ => rfl) ?_) (xd_S_co (xd_S_ad hS) (fun j hj => ⟨rfl, rfl⟩) (fun j hj => hv.1.2 j (Or.inl hj))))
          · intro d q hd' hd'' hq z
            rw [hv.1.1 d q hd' hd'' hq]
            refine dr_pr_0 (fun p hp e => ?_)
            rcases z with z | z
            · have := dr_gr_lt (d := dr_nd c) k1 hp
              omega
            · exact h6 d p hd' hd'' (by omega) (Or.inr z)
          · intro x0 x1 x2 b0 b1 b2
            have hh : ∀ q, q < 3 → dr_h x0 x1 x2 q < (dr_lst n (dr_nd c) e0 e1 e2 q).getD 1 := na_all3 (P := fun q => dr_h x0 x1 x2 q < (dr_lst n (dr_nd c) e0 e1 e2 q).getD 1) b0 b1 b2
            have hsrc : ∀ p, p < 3 → ∃ i, i < dr_h e0 e1 e2 p ∧ dr_nσ n (dr_nd c) p x0 x1 x2 = (i : Int) ∧ (p < n → i = dr_h x0 x1 x2 (dr_nd c p)) := by
              intro p hp
              unfold dr_nσ
              by_cases z : p < n
              · have q1 := hh (dr_nd c p) (by have := (hd p z).2; omega)
                obtain ⟨y, y1, y2⟩ := dr_lst_le (e0 := e0) (e1 := e1) (e2 := e2) (d := dr_nd c) k1 z
                rw [y1] at q1
                have q2 : dr_h x0 x1 x2 (dr_nd c p) < y := q1
                exact ⟨_, by omega, by rw [if_pos z], fun _ => rfl⟩
              · have e1' : dr_h e0 e1 e2 p = 1 := by
                  rcases (show p = 0 ∨ p = 1 ∨ p = 2 by omega) with rfl | rfl | rfl
                  · exact k5 (by omega)
                  · exact k6 (by omega)
                  · exact k7 (by omega)
                have x2z : x2 = 0 := by
                  have q1 := hh 2 (by omega)
                  rw [dr_lst_none (fun p' hp' e => by have := (hd p' hp').2; omega)] at q1
                  have q2 : x2 < 1 := q1
                  omega
                exact ⟨0, by omega, by rw [if_neg z, x2z], fun y => absurd y z⟩
            obtain ⟨i0, c0, d0, g0⟩ := hsrc 0 (by omega)
            obtain ⟨i1, c1, d1, g1⟩ := hsrc 1 (by omega)
            obtain ⟨i2, c2, d2, g2⟩ := hsrc 2 (by omega)
            refine ⟨i0, i1, i2, c0, c1, c2, ?_, ?_⟩
            · rw [dr_mk_at b1 b2]
              exact dr_gth_in d0 d1 d2 c0 c1 c2
            · intro d hd' hd''
              have t0 := hv.1.1 d 0 hd' hd'' (by omega)
              have t1 := hv.1.1 d 1 hd' hd'' (by omega)
              have t2 := hv.1.1 d 2 hd' hd'' (by omega)
              rw [Nat.add_zero] at t0
              have sum := dr_pr_sum (d := dr_nd c) (sd := sd) (X := fun q => nI (dr_h x0 x1 x2 q)) (c := d) (n := n) (fun p hp => (hctd p hp).2)
              have sum' : nI x0 * dr_pr (dr_nd c) sd d 0 n + nI x1 * dr_pr (dr_nd c) sd d 1 n + nI x2 * dr_pr (dr_nd c) sd d 2 n = dr_xs (dr_nd c) sd (fun q => nI (dr_h x0 x1 x2 q)) d n := sum
              have s0 := h6 d 0 hd' hd'' (by omega)
              have s1 := h6 d 1 hd' hd'' (by omega)
              have s2 := h6 d 2 hd' hd'' (by omega)
              rw [Nat.add_zero] at s0
              unfold dr_ad
              rw [t0, t1, t2]
              rcases (show n = 1 ∨ n = 2 ∨ n = 3 by omega) with rfl | rfl | rfl
              · simp only [dr_xs, Nat.add_zero] at sum'
                rw [← g0 (by omega)] at sum'
                rw [s1 (Or.inl (by omega)), s2 (Or.inl (by omega))]
                grind
              · simp only [dr_xs, Nat.add_zero] at sum'
                rw [← g0 (by omega), ← g1 (by omega)] at sum'
                rw [s2 (Or.inl (by omega))]
                grind
              · simp only [dr_xs, Nat.add_zero] at sum'
                rw [← g0 (by omega), ← g1 (by omega), ← g2 (by omega)] at sum'
                grind
        · intro f i v hi hv hW
          rw [wX_transpose_186]
          refine br_f (nI_ge hi (by omega)) ?_
          refine xa_perm (d := dr_nd c) (by omega) k1 hctd ?_
          intro sd' ns' t1 t2
          dsimp only
          refine nm_r (nI_1 i) (hW (sd', ns') ⟨dr_sIs hv.1 hv.2 (fun q hq => ?_) t2, by omega⟩)
          refine (t1 q hq).trans ?_
          have cg : ∀ p, p ≤ n → dr_pr (dr_nd c) v.1 i q p = dr_pr (dr_nd c) sd i q p := by
            intro p
            induction p with
            | zero => intro _; rfl
            | succ p ih =>
              intro hp
              show dr_pr (dr_nd c) v.1 i q p + (if dr_nd c p = q then v.1 (3 * i + p) else 0) = dr_pr (dr_nd c) sd i q p + (if dr_nd c p = q then sd (3 * i + p) else 0)
              rw [ih (by omega), hv.1.2 _ (by omega)]
          exact cg n (Nat.le_refl _)
    · intro f i x hi hX hW
      rw [wX_transpose_80]
      refine br_f (fun z => ?_) ?_
      · have := (hslt i (by omega)).mp z
        omega
      refine xa_t92 (d := dr_nd c) hl k1 (by omega) h2 h3 h4 k2 k3 k4 hctd (hX.2 i (Nat.le_refl _) (by omega)) ?_ ?_
      · intro h ne'
        rw [dr_if_t ⟨i, hi, h⟩] at K
        exact K _ ⟨hk, hmem⟩ (na_err (c := -14) (by decide))
      · intro y ne' y1 y2 y3
        refine hW ne' ⟨fun q hq => ?_, fun q hq hq3 => (y3 q (by omega)).trans (hX.2 q (by omega) hq3)⟩
        rcases Nat.lt_or_ge q i with z | z
        · obtain ⟨v, v1, v2⟩ := hX.1 q z
          exact ⟨v, v1, (y3 q (by omega)).trans v2⟩
        · have e : q = i := by omega
          rw [e]; exact ⟨y, y1, y2⟩
  · intro f i s hi hI hW
    obtain ⟨hsG, hgood⟩ := hI
    rw [wX_transpose_17]
    dsimp only
    rw [nI_clamp (show i < 2 ^ 31 by omega), hct i hi]
    refine br_f (nI_ge hi (by omega)) ⟨vp_in_nI (by omega) (by omega), ?_⟩
    by_cases w1 : c i < 0
    · rw [dr_if_t ⟨i, hi, Or.inl w1⟩] at K
      exact br_t w1 (K _ ⟨hk, hmem⟩ (na_err (c := -14) (by decide)))
    refine br_f w1 ⟨vp_in_nI (by omega) (by omega), ?_⟩
    by_cases w2 : nI n ≤ c i
    · rw [dr_if_t ⟨i, hi, Or.inr w2⟩] at K
      exact br_f (Int32.not_lt.mpr w2) (K _ ⟨hk, hmem⟩ (na_err (c := -14) (by decide)))
    refine br_t (Int32.not_le.mp w2) ⟨vp_in_nI (by omega) (by omega), ?_⟩
    have hg : ∀ p, p < i + 1 → ¬ (c p < 0 ∨ nI n ≤ c p) := by
      intro p hp
      rcases Nat.lt_or_ge p i with y | y
      · exact hgood p y
      · have e : p = i := by omega
        rw [e]; exact fun z => z.elim w1 w2
    by_cases w3 : c i ≤ s
    · refine br_t w3 (nm_r (nI_1 i) (hW s ⟨?_, hg⟩))
      show s = if i < n then (if c i ≤ dr_G n c i then dr_G n c i else c i) else dr_G n c i
      rw [if_pos hi, ← hsG, if_pos w3]
    · refine br_f w3 ⟨vp_in_nI (by omega) (by omega), nm_e (nm_r (nI_1 i) (hW (c i) ⟨?_, hg⟩))⟩
      show c i = if i < n then (if c i ≤ dr_G n c i then dr_G n c i else c i) else dr_G n c i
      rw [if_pos hi, ← hsG, if_neg w3]
end
end
section
theorem dr_rax_eq {r e0 e1 e2 : Nat} {el : Nat → dr_E} (hr : r ≤ 3) : dr_rax (r, e0, e1, e2, el) = (dr_gr r (fun p => r - 1 - p), (dr_lst r (fun p => r - 1 - p) e0 e1 e2 0).getD 1, (dr_lst r (fun p => r - 1 - p) e0 e1 e2 1).getD 1, (dr_lst r (fun p => r - 1 - p) e0 e1 e2 2).getD 1,
    dr_mk ((dr_lst r (fun p => r - 1 - p) e0 e1 e2 1).getD 1) ((dr_lst r (fun p => r - 1 - p) e0 e1 e2 2).getD 1) (dr_gth (dr_nσ r (fun p => r - 1 - p)) e0 e1 e2 el)) := by
  have h1 : ¬ ∃ p, p < r ∧ (nI (r - 1 - p) < 0 ∨ nI r ≤ nI (r - 1 - p)) := by
    rintro ⟨p, hp, w⟩
    rcases w with w | w
    · exact nI_pos (by omega) w
    · exact nI_ge (by omega) (by omega) w
  have hd : dr_nd (fun p => nI (r - 1 - p)) = fun p => r - 1 - p := by
    funext p
    unfold dr_nd
    exact nI_clamp (by omega)
  have h2 : ¬ ∃ q, q < dr_gr r (fun p => r - 1 - p) ∧ dr_lst r (fun p => r - 1 - p) e0 e1 e2 q = none := by
    rintro ⟨q, hq, w⟩
    have g := dr_gr_le (d := fun p => r - 1 - p) hr (fun p hp => by omega)
    obtain ⟨x, hx, _⟩ := dr_lst_le (e0 := e0) (e1 := e1) (e2 := e2) (d := fun p => r - 1 - p) hr (show r - 1 - q < r by omega)
    have e : r - 1 - (r - 1 - q) = q := by omega
    rw [e, w] at hx
    cases hx
  unfold dr_rax dr_trn
  dsimp only
  rw [dr_if_f h1, hd, dr_if_f h2]
theorem dr_rax_ok {M r e0 e1 e2 : Nat} {el : Nat → dr_E} (h : dr_ok M (r, e0, e1, e2, el)) : dr_ok M (dr_rax (r, e0, e1, e2, el)) := by
  rw [dr_rax_eq h.1]
  exact dr_trn_ok h (fun p hp => by omega)
theorem dr_rax2 {e0 e1 e2 : Nat} {el : Nat → dr_E} : dr_rax (2, e0, e1, e2, el) = (2, e1, e0, 1, dr_mk e0 1 (dr_gth (dr_nσ 2 (fun p => 2 - 1 - p)) e0 e1 e2 el)) := by
  rw [dr_rax_eq (by omega)]
  simp [dr_gr, dr_lst, dr_ls]
theorem dr_rax3 {e0 e1 e2 : Nat} {el : Nat → dr_E} : dr_rax (3, e0, e1, e2, el) = (3, e2, e1, e0, dr_mk e1 e0 (dr_gth (dr_nσ 3 (fun p => 3 - 1 - p)) e0 e1 e2 el)) := by
  rw [dr_rax_eq (by omega)]
  simp [dr_gr, dr_lst, dr_ls]
theorem dr_rax1 {e0 e1 e2 : Nat} {el : Nat → dr_E} : dr_rax (1, e0, e1, e2, el) = (1, e0, 1, 1, dr_mk 1 1 (dr_gth (dr_nσ 1 (fun p => 1 - 1 - p)) e0 e1 e2 el)) := by
  rw [dr_rax_eq (by omega)]
  simp [dr_gr, dr_lst, dr_ls]
theorem dr_rax0 {e0 e1 e2 : Nat} {el : Nat → dr_E} : dr_rax (0, e0, e1, e2, el) = (0, 1, 1, 1, dr_mk 1 1 (dr_gth (dr_nσ 0 (fun p => 0 - 1 - p)) e0 e1 e2 el)) := by
  rw [dr_rax_eq (by omega)]
  simp [dr_gr, dr_lst, dr_ls]
section
variable {k : xd_K} {m0 f0 : Nat → Int32} {M : Nat} {U : Nat → Prop} {l : List dr_A} {B : Nat} {u : SX} {r e0 e1 e2 : Nat} {el : Nat → dr_E}
theorem xo_rax {post : SX → Prop} (R : xd_R k m0 f0 M U ((r, e0, e1, e2, el) :: l) B u) (hB : B ≤ 48) (hl : l.length < 10)
    (K : ∀ u', xd_R k m0 f0 M U (dr_rax (r, e0, e1, e2, el) :: l) B u' → post u') : wpX_reverseAxes post u := by
  refine xd_top (P := fun u => wpX_reverseAxes post u) R ?_
  intro z0 z1 z2 z3 vc mt ll oc ep ov ou cc tk tv mv mf br be wr we ws ik ia sd pd ix rv rf ne st ns ct gv gf a m hk hmem hm hB' hs hV hS
  have R' : xd_R k m0 f0 M U ((r, e0, e1, e2, el) :: l) B (z0, z1, z2, z3, nI M, vc, mt, ll, oc, ep, nI (l.length + 1), nI (a + m), ov, ou, cc, tk, tv, mv, mf, br, be, wr, we, ws, ik, ia, sd, pd, ix, rv, rf, ne, st, ns, ct, gv, gf) := xd_mk hk hmem hm hB' hs hV hS
  have hV' := hV
  obtain ⟨h1, h2, h3, h4, h5, h6, h7⟩ := hV'
  have okr := dr_rax_ok h5
  have ok := h5
  obtain ⟨k1, k2, k3, k4, k5, k6, k7, k8, k9⟩ := ok
  unfold wpX_reverseAxes
  dsimp only
  refine nm_r (nI_pred l.length) ⟨vp_in_nI hl (by omega), ?_⟩
  rw [nI_clamp (show l.length < 2 ^ 31 by omega), h1]
  rcases (show r = 0 ∨ r = 1 ∨ r = 2 ∨ r = 3 by omega) with rfl | rfl | rfl | rfl
  · refine nm_e (br_f (by decide) ?_)
    rw [dr_rax0] at K
    have a0 := k5 rfl
    have a1 := k6 (by omega)
    have a2 := k7 (by omega)
    subst a0 a1 a2
    refine K _ (xd_R_cg R' (fun i hi => ?_))
    have ei : i = 0 := by omega
    subst ei
    have := dr_mk_at (w1 := 1) (w2 := 1) (i := 0) (j := 0) (l := 0) (g := dr_gth (dr_nσ 0 (fun p => 0 - 1 - p)) 1 1 1 el) (by omega) (by omega)
    rw [show (0 * 1 + 0) * 1 + 0 = 0 from rfl] at this
    rw [this]
    exact dr_gth_in (x0 := 0) (x1 := 0) (x2 := 0) rfl rfl rfl (by omega) (by omega) (by omega)
  · refine nm_e (br_f (by decide) ?_)
    rw [dr_rax1] at K
    have a1 := k6 (by omega)
    have a2 := k7 (by omega)
    subst a1 a2
    refine K _ (xd_R_cg R' (fun i hi => ?_))
    rw [Nat.mul_one, Nat.mul_one] at hi
    have := dr_mk_at (w1 := 1) (w2 := 1) (i := i) (j := 0) (l := 0) (g := dr_gth (dr_nσ 1 (fun p => 1 - 1 - p)) e0 1 1 el) (by omega) (by omega)
    have ei : (i * 1 + 0) * 1 + 0 = i := by omega
    rw [ei] at this
    rw [this]
    refine (dr_gth_in (x0 := i) (x1 := 0) (x2 := 0) rfl rfl rfl hi (by omega) (by omega)).trans ?_
    rw [ei]
  · refine nm_r (nI_pred 1) (br_t (by decide) ?_)
    rw [dr_rax2] at K okr
    have n1 : nI (3 * l.length) + nI 1 = nI (3 * l.length + 1) := nI_add _ _
    rw [na_m3, n1, nI_clamp (show 3 * l.length < 2 ^ 31 by omega), nI_clamp (show 3 * l.length + 1 < 2 ^ 31 by omega), h2, h3, hs]
    refine ⟨vp_in_nI (by omega) (by omega), nm_e ⟨vp_in_nI (by omega) (by omega), vp_in_nI (by omega) (by omega), nm_e ⟨vp_in_nI (by omega) (by omega), nm_e ⟨vp_in_nI hl (by omega), nm_e ?_⟩⟩⟩⟩
    refine xa_swap (ax := 1) (by omega) (by omega) (by omega) ?_
    intro sd' s1 s2
    have a2 := k7 (by omega)
    subst a2
    refine K _ (xd_mk hk hmem hm hB' hs (xd_V_map hV h1 ?_ ?_ ?_ okr ?_ (fun _ _ _ _ => rfl) ?_) (xd_S_fr (fun _ hj => ⟨hj, rfl, rfl⟩) l a hS (fun j hj => ⟨rfl, rfl, fun q hq => ?_⟩) (fun j hj => ⟨rfl, rfl, fun q hq => s2 _ (by omega)⟩)))
    · rw [pk_un (by omega), pk_us]
    · rw [pk_us]
    · rw [pk_un (by omega), pk_un (by omega)]; exact h4
    · intro d q hd hd' hq z
      rw [s1 d q hd hd' hq]
      rcases z with z | z
      · rw [if_neg (by omega), if_neg (by omega)]
        exact h6 d q hd hd' hq (Or.inl z)
      · have t0 := h6 d 0 hd hd' (by omega) (Or.inr z)
        have t1 := h6 d 1 hd hd' (by omega) (Or.inr z)
        rw [Nat.add_zero] at t0
        rw [t0, t1, h6 d q hd hd' hq (Or.inr z)]
        repeat (first | rfl | split)
    · intro x0 x1 x2 b0 b1 b2
      have y2 : x2 = 0 := by omega
      subst y2
      refine ⟨x1, x0, 0, b1, b0, by omega, ?_, ?_⟩
      · rw [dr_mk_at b1 b2]
        exact dr_gth_in rfl rfl rfl b1 b0 (by omega)
      · intro d hd hd'
        have t0 := s1 d 0 hd hd' (by omega)
        have t1 := s1 d 1 hd hd' (by omega)
        have t2 := s1 d 2 hd hd' (by omega)
        simp only [Nat.add_zero, if_true, Nat.reduceEqDiff, if_false] at t0 t1 t2
        unfold dr_ad
        rw [t0, t1, t2]
        grind
    · rw [pk_un (by omega), pk_un (by omega)]
  · refine nm_r (nI_pred 2) (br_t (by decide) ?_)
    rw [dr_rax3] at K okr
    have n2 : nI (3 * l.length) + nI 2 = nI (3 * l.length + 2) := nI_add _ _
    rw [na_m3, n2, nI_clamp (show 3 * l.length < 2 ^ 31 by omega), nI_clamp (show 3 * l.length + 2 < 2 ^ 31 by omega), h2, h4, hs]
    refine ⟨vp_in_nI (by omega) (by omega), nm_e ⟨vp_in_nI (by omega) (by omega), vp_in_nI (by omega) (by omega), nm_e ⟨vp_in_nI (by omega) (by omega), nm_e ⟨vp_in_nI hl (by omega), nm_e ?_⟩⟩⟩⟩
    refine xa_swap (ax := 2) (by omega) (by omega) (by omega) ?_
    intro sd' s1 s2
    refine K _ (xd_mk hk hmem hm hB' hs (xd_V_map hV h1 ?_ ?_ ?_ okr ?_ (fun _ _ _ _ => rfl) ?_) (xd_S_fr (fun _ hj => ⟨hj, rfl, rfl⟩) l a hS (fun j hj => ⟨rfl, rfl, fun q hq => ?_⟩) (fun j hj => ⟨rfl, rfl, fun q hq => s2 _ (by omega)⟩)))
    · rw [pk_un (by omega), pk_us]
    · rw [pk_un (by omega), pk_un (by omega)]; exact h3
    · rw [pk_us]
    · intro d q hd hd' hq z
      rw [s1 d q hd hd' hq]
      rcases z with z | z
      · omega
      · have t0 := h6 d 0 hd hd' (by omega) (Or.inr z)
        have t2 := h6 d 2 hd hd' (by omega) (Or.inr z)
        rw [Nat.add_zero] at t0
        rw [t0, t2, h6 d q hd hd' hq (Or.inr z)]
        repeat (first | rfl | split)
    · intro x0 x1 x2 b0 b1 b2
      refine ⟨x2, x1, x0, b2, b1, b0, ?_, ?_⟩
      · rw [dr_mk_at b1 b2]
        exact dr_gth_in rfl rfl rfl b2 b1 b0
      · intro d hd hd'
        have t0 := s1 d 0 hd hd' (by omega)
        have t1 := s1 d 1 hd hd' (by omega)
        have t2 := s1 d 2 hd hd' (by omega)
        simp only [Nat.add_zero, if_true, Nat.reduceEqDiff, if_false] at t0 t1 t2
        unfold dr_ad
        rw [t0, t1, t2]
        grind
    · rw [pk_un (by omega), pk_un (by omega)]
end
end
section
def xd_tk : xd_K → Nat → Int32
  | (_, _, _, _, _, _, _, _, _, _, tk, _, _, _, _) => tk
def xd_tv : xd_K → Nat → Int32
  | (_, _, _, _, _, _, _, _, _, _, _, tv, _, _, _) => tv
theorem xd_R_w {k : xd_K} {m0 f0 : Nat → Int32} {M : Nat} {U : Nat → Prop} {l : List dr_A} {B B' : Nat} {u : SX} (h : xd_R k m0 f0 M U l B u) (hB : B ≤ B') : xd_R k m0 f0 M U l B' u := by
  revert h
  refine xd_el (P := fun u => xd_R k m0 f0 M U l B u → xd_R k m0 f0 M U l B' u) ?_ u
  intro z0 z1 z2 z3 mc vc mt ll oc ep vn cl ov ou cc tk tv mv mf br be wr we ws ik ia sd pd ix rv rf ne st ns ct gv gf
  rintro ⟨h1, h2, h3, h4, b, h5, h6, h7⟩
  exact ⟨h1, h2, h3, h4, b, h5, by omega, h7⟩
section
variable {k : xd_K} {m0 f0 : Nat → Int32} {M : Nat} {U : Nat → Prop} {l : List dr_A} {B : Nat} {u : SX} {r e0 e1 e2 rl l0 l1 l2 : Nat} {el lel : Nat → dr_E}
theorem xo_mon {post : Int32 → SX → Prop} {t kind code : Nat} (R : xd_R k m0 f0 M U ((r, e0, e1, e2, el) :: l) B u) (hkt : xd_tk k t = nI kind) (hvt : xd_tv k t = nI code)
    (hkc : (kind = 2 ∧ code ≤ 14) ∨ (kind = 3 ∧ code ≤ 8) ∨ (kind = 4 ∧ code ≤ 8)) (hB : B ≤ 48) (hl : l.length < 10) (hM : M ≤ 32) (hM1 : 4 ≤ M) (hU : ¬ U t) (ht : t < 40)
    (K : ∀ u', xd_B k m0 f0 u' → ((dr_mon M kind code (r, e0, e1, e2, el)).1 = 0 → xd_R k m0 f0 M (fun s => U s ∨ s = t) ((dr_mon M kind code (r, e0, e1, e2, el)).2 :: l) (B + 1) u') → post (dr_mon M kind code (r, e0, e1, e2, el)).1 u') :
    wpX_applyMonadic post u (nI t) := by
  induction u using xd_el
  rename_i z0 z1 z2 z3 mc vc mt ll oc ep vn cl ov ou cc tk tv mv mf br be wr we ws ik ia sd pd ix rv rf ne st ns ct gv gf
  have hk1 : tk t = nI kind := by
    have := hkt
    rw [← R.1] at this
    exact this
  have hv1 : tv t = nI code := by
    have := hvt
    rw [← R.1] at this
    exact this
  have hokA : ∀ i, i < e0 * e1 * e2 → dr_eok (el i) := by
    obtain ⟨_, _, _, _, b, _, _, a', m', _, _, _, hV, _⟩ := R
    exact hV.2.2.2.2.1.2.2.2.2.2.2.2.2
  have hokr : r ≤ 3 := by
    obtain ⟨_, _, _, _, b, _, _, a', m', _, _, _, hV, _⟩ := R
    exact hV.2.2.2.2.1.1
  have hok0 : r = 0 → e0 = 1 ∧ e1 = 1 ∧ e2 = 1 := by
    obtain ⟨_, _, _, _, b, _, _, a', m', _, _, _, hV, _⟩ := R
    intro z
    have o := hV.2.2.2.2.1
    exact ⟨o.2.2.2.2.1 z, o.2.2.2.2.2.1 (by omega), o.2.2.2.2.2.2.1 (by omega)⟩
  unfold wpX_applyMonadic
  dsimp only
  rw [nI_clamp (show t < 2 ^ 31 by omega), hk1, hv1]
  refine ⟨vp_in_nI ht (by omega), nm_e ⟨vp_in_nI ht (by omega), nm_e ?_⟩⟩
  unfold dr_mon at K
  dsimp only at K
  rcases hkc with ⟨rfl, hc⟩ | ⟨rfl, hc⟩ | ⟨rfl, hc⟩
  · rw [if_neg (by omega), if_neg (by omega)] at K
    refine br_f (by decide) (br_f (by decide) ?_)
    rcases Nat.lt_or_ge 8 code with h8 | h8
    · rw [if_neg (by omega)] at K
      refine br_t (nI_lt (a := 8) h8 (by omega)) ?_
      rcases (show code = 9 ∨ code = 10 ∨ code = 11 ∨ code = 12 ∨ code = 13 ∨ code = 14 by omega) with rfl | rfl | rfl | rfl | rfl | rfl
      · rw [if_neg (by omega), if_pos rfl] at K
        refine br_f (by decide) (br_t rfl ?_)
        refine xo_shapeOf R hB hl hM hM1 hU ht ?_
        intro u'
        induction u' using xd_el
        rename_i z0 z1 z2 z3 mc vc mt ll oc ep vn cl ov ou cc tk tv mv mf br be wr we ws ik ia sd pd ix rv rf ne st ns ct gv gf
        intro hr
        have hr' := xd_R_w hr (show B ≤ B + 1 by omega)
        exact K _ (xd_RB hr) (fun _ => hr')
      · rw [if_neg (by omega), if_neg (by omega), if_pos rfl] at K
        refine br_f (by decide) (br_f (by decide) (br_t rfl ?_))
        refine xo_first R hB hl hM (by omega) ?_
        intro u'
        induction u' using xd_el
        rename_i z0 z1 z2 z3 mc vc mt ll oc ep vn cl ov ou cc tk tv mv mf br be wr we ws ik ia sd pd ix rv rf ne st ns ct gv gf
        intro hr
        exact K _ (xd_RB hr) (fun _ => xd_R_u hr (by omega))
      · rw [if_neg (by omega), if_neg (by omega), if_neg (by omega), if_pos rfl] at K
        refine br_f (by decide) (br_f (by decide) (br_f (by decide) (br_t rfl ?_)))
        refine xo_ravel R hB hl hM hU ht ?_
        intro u'
        induction u' using xd_el
        rename_i z0 z1 z2 z3 mc vc mt ll oc ep vn cl ov ou cc tk tv mv mf br be wr we ws ik ia sd pd ix rv rf ne st ns ct gv gf
        intro hr
        have hr' := xd_R_w hr (show B ≤ B + 1 by omega)
        exact K _ (xd_RB hr) (fun _ => hr')
      · rw [if_neg (by omega), if_neg (by omega), if_neg (by omega), if_neg (by omega), if_pos rfl] at K
        refine br_f (by decide) (br_f (by decide) (br_f (by decide) (br_f (by decide) (br_t rfl ?_))))
        rcases Nat.eq_zero_or_pos r with z | z
        · have hz : ∀ i, i < e0 * e1 * e2 → dr_rev r e0 e1 e2 el i = el i := by
            intro i hi
            obtain ⟨a0, a1, a2⟩ := hok0 z
            subst a0 a1 a2
            have ei : i = 0 := by omega
            subst ei
            unfold dr_rev dr_le
            rw [if_neg (by omega), if_neg (by omega)]
          refine xd_top (P := fun u => wpX_reverse (fun u => match u with | (z0, z1, z2, z3, mc, vc, mt, ll, oc, ep, vn, cl, ov, ou, cc, tk, tv, mv, mf, br, be, wr, we, ws, ik, ia, sd, pd, ix, rv, rf, ne, st, ns, ct, gv, gf) => post 0 (z0, z1, z2, z3, mc, vc, mt, ll, oc, ep, vn, cl, ov, ou, cc, tk, tv, mv, mf, br, be, wr, we, ws, ik, ia, sd, pd, ix, rv, rf, ne, st, ns, ct, gv, gf)) u) R ?_
          intro z0 z1 z2 z3 vc mt ll oc ep ov ou cc tk tv mv mf br be wr we ws ik ia sd pd ix rv rf ne st ns ct gv gf a m hk hmem hm hB' hs hV hS
          have R2 : xd_R k m0 f0 M U ((r, e0, e1, e2, el) :: l) B (z0, z1, z2, z3, nI M, vc, mt, ll, oc, ep, nI (l.length + 1), nI (a + m), ov, ou, cc, tk, tv, mv, mf, br, be, wr, we, ws, ik, ia, sd, pd, ix, rv, rf, ne, st, ns, ct, gv, gf) := xd_mk hk hmem hm hB' hs hV hS
          unfold wpX_reverse
          dsimp only
          refine nm_r (nI_pred l.length) ⟨vp_in_nI hl (by omega), ?_⟩
          rw [nI_clamp (show l.length < 2 ^ 31 by omega), hV.1, z]
          refine nm_e (br_f (by decide) ?_)
          have hr := xd_R_cg R2 hz
          exact K _ (xd_RB hr) (fun _ => xd_R_u hr (by omega))
        · refine xo_reverse R hB hl z ?_
          intro u'
          induction u' using xd_el
          rename_i z0 z1 z2 z3 mc vc mt ll oc ep vn cl ov ou cc tk tv mv mf br be wr we ws ik ia sd pd ix rv rf ne st ns ct gv gf
          intro hr
          exact K _ (xd_RB hr) (fun _ => xd_R_u hr (by omega))
      · rw [if_neg (by omega), if_neg (by omega), if_neg (by omega), if_neg (by omega), if_neg (by omega)] at K
        refine br_f (by decide) (br_f (by decide) (br_f (by decide) (br_f (by decide) (br_f (by decide) ?_))))
        refine xo_rax R hB hl ?_
        intro u'
        induction u' using xd_el
        rename_i z0 z1 z2 z3 mc vc mt ll oc ep vn cl ov ou cc tk tv mv mf br be wr we ws ik ia sd pd ix rv rf ne st ns ct gv gf
        intro hr
        exact K _ (xd_RB hr) (fun _ => xd_R_u hr (by omega))
      · rw [if_pos rfl] at K
        refine br_t rfl ?_
        refine xo_iota R hB hl hM (by omega) ?_
        intro u'
        induction u' using xd_el
        rename_i z0 z1 z2 z3 mc vc mt ll oc ep vn cl ov ou cc tk tv mv mf br be wr we ws ik ia sd pd ix rv rf ne st ns ct gv gf
        intro hb hr
        exact K _ hb (fun h => xd_R_u (hr h) (by omega))
    · rw [if_pos h8] at K
      refine br_f (nI_nlt (a := 8) h8 (by omega)) ?_
      rcases Nat.eq_zero_or_pos code with z | z
      · subst z
        refine br_t rfl ?_
        have hr := xd_R_cg (el' := fun i => dr_mv (nI 0) (el i)) R (fun i hi => dr_mv_0 (hokA i hi))
        exact K _ (xd_RB hr) (fun _ => xd_R_u hr (by omega))
      · refine br_f (nI_ne0 z (by omega)) ?_
        refine xo_mono R hB ?_
        intro u'
        induction u' using xd_el
        rename_i z0 z1 z2 z3 mc vc mt ll oc ep vn cl ov ou cc tk tv mv mf br be wr we ws ik ia sd pd ix rv rf ne st ns ct gv gf
        intro hr
        exact K _ (xd_RB hr) (fun _ => xd_R_u hr (by omega))
  · rw [if_pos rfl] at K
    refine br_t rfl ?_
    refine xo_reduce R hB hl hM hU ht ?_
    intro u'
    induction u' using xd_el
    rename_i z0 z1 z2 z3 mc vc mt ll oc ep vn cl ov ou cc tk tv mv mf br be wr we ws ik ia sd pd ix rv rf ne st ns ct gv gf
    intro hb hr
    exact K _ hb (fun h => xd_R_w (hr h) (by omega))
  · rw [if_neg (by omega), if_pos rfl] at K
    refine br_f (by decide) (br_t rfl ?_)
    refine xo_scan R hB hl hM hU ht ?_
    intro u'
    induction u' using xd_el
    rename_i z0 z1 z2 z3 mc vc mt ll oc ep vn cl ov ou cc tk tv mv mf br be wr we ws ik ia sd pd ix rv rf ne st ns ct gv gf
    intro hr
    have hr' := xd_R_w hr (show B ≤ B + 1 by omega)
    exact K _ (xd_RB hr) (fun _ => hr')
theorem xo_dya {post : Int32 → SX → Prop} {t kind code : Nat} (R : xd_R k m0 f0 M U ((rl, l0, l1, l2, lel) :: (r, e0, e1, e2, el) :: l) B u) (hkt : xd_tk k t = nI kind) (hvt : xd_tv k t = nI code)
    (hkc : (kind = 2 ∧ code ≤ 13) ∨ (kind = 5 ∧ code ≤ 8)) (hB : B ≤ 48) (hl : l.length + 1 < 10) (hM : M ≤ 32) (hM1 : 4 ≤ M) (hU : ¬ U t) (ht : t < 40)
    (K : ∀ u', xd_B k m0 f0 u' → ((dr_dya M kind code (rl, l0, l1, l2, lel) (r, e0, e1, e2, el)).1 = 0 → xd_R k m0 f0 M (fun s => U s ∨ s = t) ((dr_dya M kind code (rl, l0, l1, l2, lel) (r, e0, e1, e2, el)).2 :: l) B u') → post (dr_dya M kind code (rl, l0, l1, l2, lel) (r, e0, e1, e2, el)).1 u') :
    wpX_applyDyadic post u (nI t) := by
  induction u using xd_el
  rename_i z0 z1 z2 z3 mc vc mt ll oc ep vn cl ov ou cc tk tv mv mf br be wr we ws ik ia sd pd ix rv rf ne st ns ct gv gf
  have hk1 : tk t = nI kind := by
    have := hkt
    rw [← R.1] at this
    exact this
  have hv1 : tv t = nI code := by
    have := hvt
    rw [← R.1] at this
    exact this
  unfold wpX_applyDyadic
  dsimp only
  rw [nI_clamp (show t < 2 ^ 31 by omega), hk1, hv1]
  refine ⟨vp_in_nI ht (by omega), nm_e ⟨vp_in_nI ht (by omega), ?_⟩⟩
  unfold dr_dya at K
  rcases hkc with ⟨rfl, hc⟩ | ⟨rfl, hc⟩
  · rw [if_neg (by omega)] at K
    refine br_f (by decide) ?_
    rcases Nat.lt_or_ge 8 code with h8 | h8
    · rw [if_neg (by omega)] at K
      refine br_t (nI_lt (a := 8) h8 (by omega)) ?_
      unfold dr_str at K
      dsimp only at K
      refine xo_ctl (by omega) R hB hl hM ?_ ?_ ?_ ?_
      · intro h1
        rw [if_pos h1] at K
        intro u'
        induction u' using xd_el
        rename_i z0 z1 z2 z3 mc vc mt ll oc ep vn cl ov ou cc tk tv mv mf br be wr we ws ik ia sd pd ix rv rf ne st ns ct gv gf
        intro hb
        exact br_f (by decide) (K _ hb (na_err (c := -11) (by decide)))
      · intro h1 h2
        rw [if_neg h1, dr_if_t h2] at K
        intro u'
        induction u' using xd_el
        rename_i z0 z1 z2 z3 mc vc mt ll oc ep vn cl ov ou cc tk tv mv mf br be wr we ws ik ia sd pd ix rv rf ne st ns ct gv gf
        intro hb
        exact br_f (by decide) (K _ hb (na_err (c := -12) (by decide)))
      · intro h1 h2 h3
        rw [if_neg h1, dr_if_f (fun z => z h2), dr_if_t h3] at K
        intro u'
        induction u' using xd_el
        rename_i z0 z1 z2 z3 mc vc mt ll oc ep vn cl ov ou cc tk tv mv mf br be wr we ws ik ia sd pd ix rv rf ne st ns ct gv gf
        intro hb
        exact br_f (by decide) (K _ hb (na_err (c := -13) (by decide)))
      · intro h1 h2 h3 h4
        rw [if_neg h1, dr_if_f (fun z => z h2), dr_if_f h4] at K
        intro u'
        induction u' using xd_el
        rename_i z0 z1 z2 z3 mc vc mt ll oc ep vn cl ov ou cc tk tv mv mf br be wr we ws ik ia sd pd ix rv rf ne st ns ct gv gf
        intro R1 C1
        refine br_t rfl ?_
        unfold dr_st2 at K
        rcases (show code = 9 ∨ code = 10 ∨ code = 11 ∨ code = 12 ∨ code = 13 by omega) with rfl | rfl | rfl | rfl | rfl
        · rw [if_pos rfl] at K
          refine br_t rfl ?_
          refine xo_reshape R1 C1 h3 hB (by omega) hM hM1 hU ht ?_
          intro u'
          induction u' using xd_el
          rename_i z0 z1 z2 z3 mc vc mt ll oc ep vn cl ov ou cc tk tv mv mf br be wr we ws ik ia sd pd ix rv rf ne st ns ct gv gf
          intro hb hr
          exact K _ hb hr
        · rw [if_neg (by omega), if_pos rfl] at K
          rw [if_neg (by omega), if_neg (by omega)] at h2
          refine br_f (by decide) (br_t rfl ?_)
          refine xo_take R1 C1 h2 hB (by omega) hM hU ht ?_
          intro u'
          induction u' using xd_el
          rename_i z0 z1 z2 z3 mc vc mt ll oc ep vn cl ov ou cc tk tv mv mf br be wr we ws ik ia sd pd ix rv rf ne st ns ct gv gf
          intro hb hr
          exact K _ hb hr
        · rw [if_neg (by omega), if_neg (by omega), if_pos rfl] at K
          rw [if_neg (by omega), if_neg (by omega)] at h2
          refine br_f (by decide) (br_f (by decide) (br_t rfl ?_))
          refine xo_drop R1 C1 h2 hB (by omega) ?_
          intro u'
          induction u' using xd_el
          rename_i z0 z1 z2 z3 mc vc mt ll oc ep vn cl ov ou cc tk tv mv mf br be wr we ws ik ia sd pd ix rv rf ne st ns ct gv gf
          intro hr
          exact K _ (xd_RB hr) (fun _ => xd_R_u hr (Nat.le_refl _))
        · rw [if_neg (by omega), if_neg (by omega), if_neg (by omega), if_pos rfl] at K
          rw [if_neg (by omega), if_pos rfl] at h2
          subst h2
          refine br_f (by decide) (br_f (by decide) (br_f (by decide) (br_t rfl ?_)))
          refine xo_rotate R1 C1 hB (by omega) hM hU ht ?_
          intro u'
          induction u' using xd_el
          rename_i z0 z1 z2 z3 mc vc mt ll oc ep vn cl ov ou cc tk tv mv mf br be wr we ws ik ia sd pd ix rv rf ne st ns ct gv gf
          intro hr
          exact K _ (xd_RB hr) (fun _ => hr)
        · rw [if_neg (by omega), if_neg (by omega), if_neg (by omega), if_neg (by omega)] at K
          rw [if_neg (by omega), if_neg (by omega)] at h2
          refine br_f (by decide) (br_f (by decide) (br_f (by decide) (br_f (by decide) ?_)))
          refine xo_trn R1 C1 h2 hB (by omega) ?_
          intro u'
          induction u' using xd_el
          rename_i z0 z1 z2 z3 mc vc mt ll oc ep vn cl ov ou cc tk tv mv mf br be wr we ws ik ia sd pd ix rv rf ne st ns ct gv gf
          intro hb hr
          exact K _ hb (fun h => xd_R_u (hr h) (Nat.le_refl _))
    · rw [if_pos h8] at K
      refine br_f (nI_nlt (a := 8) h8 (by omega)) ?_
      refine xo_pw R hB hl hM ?_
      intro u'
      induction u' using xd_el
      rename_i z0 z1 z2 z3 mc vc mt ll oc ep vn cl ov ou cc tk tv mv mf br be wr we ws ik ia sd pd ix rv rf ne st ns ct gv gf
      intro hb hr
      exact K _ hb (fun h => xd_R_u (hr h) (Nat.le_refl _))
  · rw [if_pos rfl] at K
    refine br_t rfl ?_
    refine xo_outer R hB hl hM ?_
    intro u'
    induction u' using xd_el
    rename_i z0 z1 z2 z3 mc vc mt ll oc ep vn cl ov ou cc tk tv mv mf br be wr we ws ik ia sd pd ix rv rf ne st ns ct gv gf
    intro hb hr
    exact K _ hb (fun h => xd_R_u (hr h) (Nat.le_refl _))
end
end
section
/-- the length of the run of numbers from token i on -/
def dr_run (K : Nat → Int32) (n : Nat) : Nat → Nat → Nat
  | 0, _ => 0
  | f + 1, i => if i < n ∧ K i = 0 then dr_run K n f (i + 1) + 1 else 0
theorem dr_run_s {K : Nat → Int32} {n : Nat} (f i : Nat) : dr_run K n (f + 1) i = if i < n ∧ K i = 0 then dr_run K n f (i + 1) + 1 else 0 := rfl
theorem dr_run_z {K : Nat → Int32} {n : Nat} (i : Nat) : dr_run K n 0 i = 0 := rfl
theorem dr_run_le {K : Nat → Int32} {n : Nat} : ∀ f i, dr_run K n f i ≤ f
  | 0, _ => Nat.le_refl _
  | f + 1, i => by
    unfold dr_run
    split
    · have := dr_run_le (K := K) (n := n) f (i + 1); omega
    · omega
theorem dr_run_all {K : Nat → Int32} {n : Nat} : ∀ f i j, j < dr_run K n f i → i + j < n ∧ K (i + j) = 0
  | 0, _, j, h => by unfold dr_run at h; omega
  | f + 1, i, j, h => by
    unfold dr_run at h
    split at h
    · rename_i z
      rcases j with _ | j
      · exact z
      · have := dr_run_all (K := K) (n := n) f (i + 1) j (by omega)
        rw [show i + (j + 1) = i + 1 + j by omega]
        exact this
    · omega
def dr_num (K L : Nat → Int32) (n i : Nat) : dr_A := (if dr_run K n 32 i = 1 then 0 else 1, dr_run K n 32 i, 1, 1, fun j => (L (i + j), 0))
theorem dr_num_ok {M : Nat} {K L : Nat → Int32} {n i : Nat} (h : dr_run K n 32 i ≤ M) (hM1 : 1 ≤ M) : dr_ok M (dr_num K L n i) := by
  have := dr_run_le (K := K) (n := n) 32 i
  refine ⟨by split <;> omega, this, by omega, by omega, ?_, fun _ => rfl, fun _ => rfl, by omega, fun j _ => dr_eok0⟩
  intro z
  split at z
  · rename_i y; exact y
  · omega
def xd_br : xd_K → Nat → Int32
  | (_, _, _, _, _, _, _, _, _, _, _, _, br, _, _) => br
def xd_be : xd_K → Nat → Int32
  | (_, _, _, _, _, _, _, _, _, _, _, _, _, be, _) => be
def xd_ll : xd_K → Int32
  | (_, _, _, _, _, _, _, ll, _, _, _, _, _, _, _) => ll
section
variable {k : xd_K} {m0 f0 : Nat → Int32} {M : Nat} {U : Nat → Prop} {l : List dr_A} {B : Nat} {u : SX} {r e0 e1 e2 : Nat} {el : Nat → dr_E}
section
variable {z0 z1 z2 z3 mc vc mt ll oc ep vn cl ov ou cc : Int32} {tk tv mv mf br be wr we ws ik ia sd pd ix rv rf ne st ns ct gv gf : Nat → Int32}
/-- a pushed block -/
theorem xd_push {b q : Nat} {g : Nat → dr_E} {n0 n1 n2 : Nat} {U' : Nat → Prop} {mv' mf' sd' we' : Nat → Int32} {wr0 : Int32} (hk : (z0, z1, z2, z3, nI M, vc, mt, ll, oc, ep, tk, tv, br, be, pd) = k) (hmem : ∀ j, j < 256 → mv' j = m0 j ∧ mf' j = f0 j) (hB : b + l.length ≤ B)
    (hS : xd_S (dr_S U) M mv mf wr we ws ik ia sd l b) (hM : M ≤ 32) (hSS : ∀ j, dr_S U j → dr_S U' j ∧ mv' j = mv j ∧ mf' j = mf j) (hSn : ∀ i, i < 32 → dr_S U' (q + i)) (hq : q + 32 ≤ 1568)
    (h0 : ne 0 = nI n0) (h1 : ne 1 = nI n1) (h2 : ne 2 = nI n2) (ok : dr_ok M (r, n0, n1, n2, g)) (hg : ∀ i, i < n0 * n1 * n2 → mv' (q + i) = (g i).1 ∧ mf' (q + i) = (g i).2)
    (hwe : ∀ j, j < 3 * l.length → we' j = we j) (q1 : ∀ j, j < 3 * b → sd' j = sd j)
    (q2 : sd' (3 * b) = dr_t0 r (upd (upd (upd we' (3 * l.length) (ne 0)) (3 * l.length + 1) (ne 1)) (3 * l.length + 2) (ne 2) (3 * l.length + 1)) (upd (upd (upd we' (3 * l.length) (ne 0)) (3 * l.length + 1) (ne 1)) (3 * l.length + 2) (ne 2) (3 * l.length + 2)) 1)
    (q3 : sd' (3 * b + 1) = dr_t1 r (upd (upd (upd we' (3 * l.length) (ne 0)) (3 * l.length + 1) (ne 1)) (3 * l.length + 2) (ne 2) (3 * l.length + 2)) 1) (q4 : sd' (3 * b + 2) = dr_t2 r 1) :
    xd_R k m0 f0 M U' ((r, n0, n1, n2, g) :: l) (B + 2)
      (z0, z1, z2, z3, nI M, vc, mt, ll, oc, ep, nI (l.length + 1), nI (b + 1), ov, ou, cc, tk, tv, mv', mf', br, be, upd (upd wr l.length wr0) l.length (nI r), upd (upd (upd we' (3 * l.length) (ne 0)) (3 * l.length + 1) (ne 1)) (3 * l.length + 2) (ne 2), upd ws l.length (nI b), upd ik b 0, upd ia b (nI q), sd', pd, ix, rv, rf, ne, st, ns, ct, gv, gf) := by
  rw [dr_u31, dr_u32, h1, h2] at q2
  rw [dr_u32, h2] at q3
  refine xd_mk (m := 1) hk hmem (by omega) (by omega) pk_us ?_ ?_
  · exact xd_V_blk pk_us (dr_u30.trans h0) (dr_u31.trans h1) (dr_u32.trans h2) ok pk_us pk_us q2 q3 q4 hq hM hSn hg
  · refine xd_S_fr hSS l b hS (fun j hj => ⟨?_, pk_un (by omega), fun q hq => ?_⟩) (fun j hj => ⟨pk_un (by omega), pk_un (by omega), fun q hq => q1 _ (by omega)⟩)
    · rw [pk_un (by omega), pk_un (by omega)]
    · rw [pk_un (by omega), pk_un (by omega), pk_un (by omega)]
      exact hwe _ (by omega)
end
theorem xo_pushVar {post : SX → Prop} {v : Nat} (R : xd_R k m0 f0 M U l B u) (hv : v < 8) (ok : dr_ok M (r, e0, e1, e2, el)) (hbr : xd_br k v = nI r) (hb0 : xd_be k (3 * v) = nI e0) (hb1 : xd_be k (3 * v + 1) = nI e1) (hb2 : xd_be k (3 * v + 2) = nI e2)
    (hm0 : ∀ i, i < e0 * e1 * e2 → m0 (32 * v + i) = (el i).1 ∧ f0 (32 * v + i) = (el i).2) (hl : l.length < 10) (hB : B ≤ 46) (hM : M ≤ 32)
    (K : ∀ u', xd_R k m0 f0 M U ((r, e0, e1, e2, el) :: l) (B + 2) u' → post u') : wpX_pushVariable post u (nI v) := by
  induction u using xd_el
  rename_i z0 z1 z2 z3 mc vc mt ll oc ep vn cl ov ou cc tk tv mv mf br be wr we ws ik ia sd pd ix rv rf ne st ns ct gv gf
  obtain ⟨hk, rfl, rfl, hmem, b, rfl, hBb, hS⟩ := R
  subst hk
  have k8 := ok.2.2.2.2.2.2.2.1
  unfold wpX_pushVariable
  dsimp only
  refine xa_open hl ?_
  dsimp only
  have hb3 : ∀ p, p < 3 → be (3 * v + p) = nI (dr_h e0 e1 e2 p) := na_all3 hb0 hb1 hb2
  refine dr_lp1 (σ := Nat → Int32) 3 (fun f i s => wX_pushVariable_6 post (nI v) z0 z1 z2 z3 (nI M) vc mt ll oc ep (nI (l.length + 1)) (nI b) ov ou cc f (nI i) tk tv mv mf br be (upd wr l.length 0) (upd (upd (upd we (3 * l.length) 1) (3 * l.length + 1) 1) (3 * l.length + 2) 1) (upd ws l.length (nI b)) ik ia sd pd ix rv rf s st ns ct gv gf)
    (fun i s => ∀ p, p < i → s p = nI (dr_h e0 e1 e2 p)) ?_ ?_ 0 (by omega) ne (fun p hp => by omega)
  · intro f s hI
    have hbr' : br v = nI r := hbr
    rw [wX_pushVariable_6]
    dsimp only
    rw [nI_clamp (show v < 2 ^ 31 by omega), hbr', na_m32]
    refine br_t (nI_le (a := 3) (b := 3) (by omega) (by omega)) ⟨vp_in_nI hv (by omega), ?_⟩
    refine xa_adopt hl ?_
    dsimp only
    refine xa_blk hl (a := b) (by omega) pk_us pk_us ok.1 ?_
    intro sd' q1 q2 q3 q4
    dsimp only
    refine K _ (xd_push rfl hmem hBb hS hM (fun j hj => ⟨hj, rfl, rfl⟩) (fun i hi => Or.inl (by omega)) (by omega) (hI 0 (by omega)) (hI 1 (by omega)) (hI 2 (by omega)) ok (fun i hi => ?_) (fun j hj => ?_) q1 q2 q3 q4)
    · have o := hmem (32 * v + i) (by omega)
      exact ⟨o.1.trans (hm0 i hi).1, o.2.trans (hm0 i hi).2⟩
    · rw [pk_un (by omega), pk_un (by omega), pk_un (by omega)]
  · intro f i s hi hI hW
    rw [wX_pushVariable_6]
    dsimp only
    rw [na_m3, nI_add, nI_clamp (show i < 2 ^ 31 by omega), nI_clamp (show 3 * v + i < 2 ^ 31 by omega), hb3 i hi]
    refine br_f (nI_ge (b := 3) hi (by omega)) ⟨vp_in_nI (by omega) (by omega), vp_in_nI hi (by omega), nm_e (nm_r (nI_1 i) (hW _ (fun p hp => ?_)))⟩
    rcases Nat.lt_or_ge p i with y | y
    · exact (pk_un (by omega)).trans (hI p y)
    · have e : p = i := by omega
      rw [e]; exact pk_us
theorem xo_pushNum {post : SX → Prop} {t n : Nat} (R : xd_R k m0 f0 M U l B u) (hn : xd_ll k = nI n) (hn40 : n ≤ 40) (ht : t < n) (h0 : xd_tk k t = 0) (hrun : dr_run (xd_tk k) n 32 t ≤ M) (hU : ¬ U t) (hl : l.length < 10) (hB : B ≤ 46) (hM : M ≤ 32) (hM1 : 1 ≤ M)
    (K : ∀ u', xd_R k m0 f0 M (fun s => U s ∨ s = t) (dr_num (xd_tk k) (xd_tv k) n t :: l) (B + 2) u' → post u') : wpX_pushNumbers post u (nI t) := by
  induction u using xd_el
  rename_i z0 z1 z2 z3 mc vc mt ll oc ep vn cl ov ou cc tk tv mv mf br be wr we ws ik ia sd pd ix rv rf ne st ns ct gv gf
  obtain ⟨hk, rfl, rfl, hmem, b, rfl, hBb, hS⟩ := R
  subst hk
  have hnl : ll = nI n := hn
  subst hnl
  have htk : tk t = 0 := h0
  have K' : ∀ u', xd_R (z0, z1, z2, z3, nI M, vc, mt, nI n, oc, ep, tk, tv, br, be, pd) m0 f0 M (fun s => U s ∨ s = t) (dr_num tk tv n t :: l) (B + 2) u' → post u' := K
  clear K hn h0
  have hrun' : dr_run tk n 32 t ≤ M := hrun
  have okr := dr_num_ok (L := tv) hrun' hM1
  have h32 := dr_run_le (K := tk) (n := n) 32 t
  unfold wpX_pushNumbers wpX_blockOf
  dsimp only
  rw [na_m32, na_pa256]
  have fin : ∀ mv' mf', dr_wr (256 + 32 * t) (fun j => (tv (t + j), 0)) mv mf (dr_run tk n 32 t) mv' mf' → wX_pushNumbers_69 post (nI t) (nI (256 + 32 * t)) (nI (dr_run tk n 32 t)) z0 z1 z2 z3 (nI M) vc mt (nI n) oc ep (nI l.length) (nI b) ov ou cc tk tv mv' mf' br be wr we ws ik ia sd pd ix rv rf ne st ns ct gv gf := by
    intro mv' mf' hw
    have hSS : ∀ j, dr_S U j → dr_S (fun s => U s ∨ s = t) j ∧ mv' j = mv j ∧ mf' j = mf j := by
      intro j hj
      have o := hw.2 j (by have := dr_S_out hU j hj; omega)
      exact ⟨dr_S_mono hj, o.1, o.2⟩
    have hmem' : ∀ j, j < 256 → mv' j = m0 j ∧ mf' j = f0 j := by
      intro j hj
      have o := hw.2 j (by omega)
      exact ⟨o.1.trans (hmem j hj).1, o.2.trans (hmem j hj).2⟩
    unfold wX_pushNumbers_69
    refine xa_open hl ?_
    dsimp only
    by_cases h1 : dr_run tk n 32 t = 1
    · unfold dr_num at K' okr
      rw [if_pos h1, h1] at K' okr
      refine br_t (by rw [h1]; rfl) ⟨vp_in_nI (by omega) (by omega), ?_⟩
      rw [nI_clamp (show t < 2 ^ 31 by omega)]
      refine xa_add (by omega) ?_
      dsimp only
      refine K' _ (xd_mk (m := 1) rfl hmem' (by omega) (by omega) pk_us (xd_V_cst (x := tv t) pk_us dr_u30 dr_u31 dr_u32 okr pk_us pk_us ?_ ?_ ?_ ?_) (xd_S_fr hSS l b hS (fun j hj => ⟨pk_un (by omega), pk_un (by omega), fun q hq => ?_⟩) (fun j hj => ⟨pk_un (by omega), pk_un (by omega), fun q hq => ?_⟩)))
      · rw [pk_un (by omega), pk_un (by omega), pk_us]
      · rw [pk_un (by omega), pk_us]
      · rw [pk_us]
      · intro i hi
        have e : i = 0 := by omega
        subst e
        rfl
      · rw [pk_un (by omega), pk_un (by omega), pk_un (by omega)]
      · rw [pk_un (by omega), pk_un (by omega), pk_un (by omega)]
    · unfold dr_num at K' okr
      rw [if_neg h1] at K' okr
      refine br_f (fun z => h1 ((na_e1 (by omega)).mp z)) ?_
      refine xa_vec ?_
      dsimp only
      refine xa_adopt hl ?_
      dsimp only
      refine xa_blk (r := 1) hl (a := b) (by omega) pk_us pk_us (by omega) ?_
      intro sd' q1 q2 q3 q4
      dsimp only
      refine K' _ (xd_push (r := 1) (n0 := dr_run tk n 32 t) (n1 := 1) (n2 := 1) rfl hmem' hBb hS hM hSS (fun i hi => dr_S_new hi) (by omega) dr_u30 dr_u31 dr_u32 okr (fun i hi => hw.1 i (by omega)) (fun j hj => ?_) q1 q2 q3 q4)
      rw [pk_un (by omega), pk_un (by omega), pk_un (by omega)]
  have lp : ∀ (f c : Nat) (mv' mf' : Nat → Int32) (q : Nat), c + f = 32 → f < q → c + dr_run tk n f (t + c) = dr_run tk n 32 t → t + c ≤ n → dr_wr (256 + 32 * t) (fun j => (tv (t + j), 0)) mv mf c mv' mf' →
      wX_pushNumbers_11 post (nI t) (nI (256 + 32 * t)) z0 z1 z2 z3 (nI M) vc mt (nI n) oc ep (nI l.length) (nI b) ov ou cc q (nI c) (nI (t + c)) tk tv mv' mf' br be wr we ws ik ia sd pd ix rv rf ne st ns ct gv gf := by
    intro f
    induction f with
    | zero =>
      intro c mv' mf' q hc hq he htn hw
      obtain ⟨q, rfl⟩ : ∃ k, q = k + 1 := ⟨q - 1, by omega⟩
      have e : c = dr_run tk n 32 t := by rw [dr_run_z] at he; omega
      have F := fin mv' mf' (e ▸ hw)
      rw [← e] at F
      rw [wX_pushNumbers_11]
      rcases Nat.lt_or_ge (t + c) n with y | y
      · refine br_f (nI_ge y (by omega)) ⟨vp_in_nI (by omega) (by omega), ?_⟩
        rw [nI_clamp (show t + c < 2 ^ 31 by omega)]
        by_cases z : tk (t + c) = 0
        · exact br_t z (br_t (nI_le (a := 32) (by omega) (by omega)) F)
        · exact br_f z F
      · exact br_t (nI_le y (by omega)) F
    | succ f ih =>
      intro c mv' mf' q hc hq he htn hw
      obtain ⟨q, rfl⟩ : ∃ k, q = k + 1 := ⟨q - 1, by omega⟩
      rw [wX_pushNumbers_11]
      rw [dr_run_s f (t + c)] at he
      rcases Nat.lt_or_ge (t + c) n with y | y
      · refine br_f (nI_ge y (by omega)) ⟨vp_in_nI (by omega) (by omega), ?_⟩
        rw [nI_clamp (show t + c < 2 ^ 31 by omega)]
        by_cases z : tk (t + c) = 0
        · rw [if_pos ⟨y, z⟩] at he
          refine br_t z (br_f (nI_ge (b := 32) (by omega) (by omega)) ⟨vp_in_nI (by omega) (by omega), ?_⟩)
          rw [nI_add, nI_clamp (show 256 + 32 * t + c < 2 ^ 31 by omega), na_nar0]
          refine ⟨vp_in_nI (by omega) (by omega), nm_e ⟨vp_in_nI (by omega) (by omega), nm_e (nm_r (nI_1 c) (nm_r (nI_1 (t + c)) ?_))⟩⟩
          exact ih (c + 1) _ _ q (by omega) (by omega) (by rw [← Nat.add_assoc]; omega) (by omega) (dr_wrs hw rfl)
        · rw [if_neg (fun w => z w.2)] at he
          have e : c = dr_run tk n 32 t := by omega
          have F := fin mv' mf' (e ▸ hw)
          rw [← e] at F
          exact br_f z F
      · rw [if_neg (by omega)] at he
        have e : c = dr_run tk n 32 t := by omega
        have F := fin mv' mf' (e ▸ hw)
        rw [← e] at F
        exact br_t (nI_le y (by omega)) F
  exact ⟨33, lp 32 0 mv mf 33 (by omega) (by omega) (by rw [Nat.add_zero]; omega) (by omega) dr_wr0⟩
theorem xo_store {post : SX → Prop} {v : Nat} (R : xd_R k m0 f0 M U [(r, e0, e1, e2, el)] B u) (hv : v < 8) (hB : B ≤ 46) (hM : M ≤ 32) (hU : ∀ t, U t → t < 40)
    (K : ∀ (z0 z1 z2 z3 vc mt ll oc ep vn cl ov ou cc : Int32) (tk tv mv mf br be wr we ws ik ia sd pd ix rv rf ne st ns ct gv gf : Nat → Int32), (z0, z1, z2, z3, nI M, vc, mt, ll, oc, ep, tk, tv, br, be, pd) = k →
      (∀ i, i < e0 * e1 * e2 → mv (32 * v + i) = (el i).1 ∧ mf (32 * v + i) = (el i).2) → (∀ j, j < 256 → j < 32 * v ∨ 32 * v + 32 ≤ j → mv j = m0 j ∧ mf j = f0 j) →
      post (z0, z1, z2, z3, nI M, vc, mt, ll, oc, ep, vn, cl, ov, ou, cc, tk, tv, mv, mf, upd br v (nI r), upd (upd (upd be (3 * v) (nI e0)) (3 * v + 1) (nI e1)) (3 * v + 2) (nI e2), wr, we, ws, ik, ia, sd, pd, ix, rv, rf, ne, st, ns, ct, gv, gf)) : wpX_storeResult post u (nI v) := by
  refine xd_top (P := fun u => wpX_storeResult post u (nI v)) R ?_
  intro z0 z1 z2 z3 vc mt ll oc ep ov ou cc tk tv mv mf br be wr we ws ik ia sd pd ix rv rf ne st ns ct gv gf a m hk hmem hm hB' hs hV hS
  have hl : ([] : List dr_A).length < 10 := by simp
  obtain ⟨h1, h2, h3, h4, h5, h6, h7⟩ := hV
  have ok := h5
  obtain ⟨k1, k2, k3, k4, k5, k6, k7, k8, k9⟩ := ok
  simp only [List.length_nil, Nat.mul_zero, Nat.zero_add] at h1 h2 h3 h4 hs hB' ⊢
  unfold wpX_storeResult
  dsimp only
  refine xa_plan (w := 0) (by omega) ?_
  dsimp only
  have hSo : ∀ j, dr_S U j → j < 1536 ∨ 1536 + 32 ≤ j := by
    intro j hj
    rcases hj with z | ⟨t, ht, y1, y2⟩
    · omega
    · have := hU t ht
      omega
  refine xa_gth (w := 0) (q := 1536) (S := dr_S U) (n0 := e0) (n1 := e1) (n2 := e2) (r := r) (g := el) (by omega) hs (by omega) hm h1 k1 h2 h3 h4 k2 k3 k4 (by omega) (by omega) hSo (fun i hi => (k9 i hi).1) ?_ ?_
  · intro i0 i1 i2 mv' mf' iy rv' rf' ov' ou' Q b0 b1 b2 hm' y0 y1 y2 kk
    have z0' : iy 0 = nI i0 := y0.trans (Int32.add_zero _)
    have z1' : iy 1 = nI i1 := y1.trans (Int32.add_zero _)
    have z2' : iy 2 = nI i2 := y2.trans (Int32.add_zero _)
    refine xa_fetch0 (w := 0) (by omega) hs (by omega) h2 h3 h4 k2 k3 k4 ?_ ?_ (fun rv rf => kk rv rf iy)
    · intro x0 x1 x2 c0 c1 c2 d0 d1 d2
      rw [z0', z1', z2']
      exact h7 i0 i1 i2 b0 b1 b2 mv' mf' hm' []
    · intro hno
      exact absurd (hno i0 i1 i2 b0 b1 b2 z0' z1' z2') id
  · intro mv' mf' rv' rf' ix' ov' ou' sd' hw q1 q2 q3 q4
    dsimp only
    refine nm_r (nI_pred 0) ?_
    refine xa_cnt (w := 0) (by omega) ?_
    have w0 : upd (upd (upd we (3 * 0) (we 0)) (3 * 0 + 1) (we 1)) (3 * 0 + 2) (we 2) (3 * 0) = nI e0 := dr_u30.trans h2
    have w1 : upd (upd (upd we (3 * 0) (we 0)) (3 * 0 + 1) (we 1)) (3 * 0 + 2) (we 2) (3 * 0 + 1) = nI e1 := dr_u31.trans h3
    have w2 : upd (upd (upd we (3 * 0) (we 0)) (3 * 0 + 1) (we 1)) (3 * 0 + 2) (we 2) (3 * 0 + 2) = nI e2 := dr_u32.trans h4
    have wn : ∀ p, p < 3 → upd (upd (upd we (3 * 0) (we 0)) (3 * 0 + 1) (we 1)) (3 * 0 + 2) (we 2) (3 * 0 + p) = nI (dr_h e0 e1 e2 p) := na_all3 w0 w1 w2
    have c1 : upd (upd (upd we (3 * 0) (upd (upd (upd ne 0 (we (3 * 0))) 1 (we (3 * 0 + 1))) 2 (we (3 * 0 + 2)) 0)) (3 * 0 + 1) (upd (upd (upd ne 0 (we (3 * 0))) 1 (we (3 * 0 + 1))) 2 (we (3 * 0 + 2)) 1)) (3 * 0 + 2) (upd (upd (upd ne 0 (we (3 * 0))) 1 (we (3 * 0 + 1))) 2 (we (3 * 0 + 2)) 2) = upd (upd (upd we (3 * 0) (we 0)) (3 * 0 + 1) (we 1)) (3 * 0 + 2) (we 2) := rfl
    rw [c1, w0, w1, w2, pk_mul, pk_mul]
    refine dr_lp1 (σ := (Nat → Int32) × (Nat → Int32)) (e0 * e1 * e2) (fun f i s => wX_storeResult_28 post (nI v) (nI 0) (nI (e0 * e1 * e2)) z0 z1 z2 z3 (nI M) vc mt ll oc ep (nI (0 + 1)) (nI (a + 1)) ov' ou' cc f (nI i) tk tv s.1 s.2 br be (upd wr 0 (nI r)) (upd (upd (upd we (3 * 0) (we 0)) (3 * 0 + 1) (we 1)) (3 * 0 + 2) (we 2)) ws (upd ik a 0) (upd ia a (nI 1536)) sd' pd ix' rv' rf' (upd (upd (upd ne 0 (we (3 * 0))) 1 (we (3 * 0 + 1))) 2 (we (3 * 0 + 2))) (upd (upd (upd st 0 0) 1 0) 2 0) ns ct gv gf)
      (fun i s => dr_wr (32 * v) el mv' mf' i s.1 s.2) ?_ ?_ 0 (Nat.zero_le _) (mv', mf') dr_wr0
    · intro f s hI
      rw [wX_storeResult_28]
      dsimp only
      rw [nI_clamp (show 0 < 2 ^ 31 by omega), nI_clamp (show v < 2 ^ 31 by omega), pk_us]
      refine br_t (nI_le (Nat.le_refl _) (by omega)) ⟨vp_in_nI (by omega) (by omega), vp_in_nI hv (by omega), nm_e ?_⟩
      refine dr_lp1 (σ := Nat → Int32) 3 (fun f i x => wX_storeResult_101 post (nI v) (nI 0) z0 z1 z2 z3 (nI M) vc mt ll oc ep (nI (0 + 1)) (nI (a + 1)) ov' ou' cc f (nI i) tk tv s.1 s.2 (upd br v (nI r)) x (upd wr 0 (nI r)) (upd (upd (upd we (3 * 0) (we 0)) (3 * 0 + 1) (we 1)) (3 * 0 + 2) (we 2)) ws (upd ik a 0) (upd ia a (nI 1536)) sd' pd ix' rv' rf' (upd (upd (upd ne 0 (we (3 * 0))) 1 (we (3 * 0 + 1))) 2 (we (3 * 0 + 2))) (upd (upd (upd st 0 0) 1 0) 2 0) ns ct gv gf)
        (fun i x => (i = 0 → x = be) ∧ (i = 1 → x = upd be (3 * v) (nI e0)) ∧ (i = 2 → x = upd (upd be (3 * v) (nI e0)) (3 * v + 1) (nI e1)) ∧ (i = 3 → x = upd (upd (upd be (3 * v) (nI e0)) (3 * v + 1) (nI e1)) (3 * v + 2) (nI e2))) ?_ ?_ 0 (by omega) be ⟨fun _ => rfl, fun h => by omega, fun h => by omega, fun h => by omega⟩
      · intro f x hX
        rw [wX_storeResult_101]
        refine br_t (nI_le (a := 3) (b := 3) (by omega) (by omega)) ?_
        rw [hX.2.2.2 rfl]
        refine K _ _ _ _ _ _ _ _ _ _ _ _ _ _ _ _ _ _ _ _ _ _ _ _ _ _ _ _ _ _ _ _ _ _ _ _ hk hI.1 (fun j hj hj2 => ?_)
        have o := hI.2 j (by omega)
        have o2 := hw.2 j (by omega)
        exact ⟨o.1.trans (o2.1.trans (hmem j hj).1), o.2.trans (o2.2.trans (hmem j hj).2)⟩
      · intro f i x hi hX hW
        rw [wX_storeResult_101]
        dsimp only
        rw [na_m3, na_m3, nI_add, nI_add, nI_clamp (show 3 * 0 + i < 2 ^ 31 by omega), nI_clamp (show 3 * v + i < 2 ^ 31 by omega), wn i hi]
        refine br_f (nI_ge (b := 3) hi (by omega)) ⟨vp_in_nI (by omega) (by omega), vp_in_nI (by omega) (by omega), nm_e (nm_r (nI_1 i) (hW _ ?_))⟩
        rcases (show i = 0 ∨ i = 1 ∨ i = 2 by omega) with rfl | rfl | rfl
        · exact ⟨fun h => by omega, fun _ => by rw [hX.1 rfl]; rfl, fun h => by omega, fun h => by omega⟩
        · exact ⟨fun h => by omega, fun h => by omega, fun _ => by rw [hX.2.1 rfl]; rfl, fun h => by omega⟩
        · exact ⟨fun h => by omega, fun h => by omega, fun h => by omega, fun _ => by rw [hX.2.2.1 rfl]; rfl⟩
    · intro f i s hi hI hW
      rw [wX_storeResult_28]
      dsimp only
      have o := hI.2 (1536 + i) (by omega)
      have o2 := hw.1 i hi
      rw [na_m32, nI_add, na_pa1536, nI_clamp (show 1536 + i < 2 ^ 31 by omega), nI_clamp (show 32 * v + i < 2 ^ 31 by omega), o.1, o.2, o2.1, o2.2, na_nar' (k9 i hi).1]
      exact br_f (nI_ge hi (by omega)) ⟨vp_in_nI (by omega) (by omega), vp_in_nI (by omega) (by omega), nm_e ⟨vp_in_nI (by omega) (by omega), vp_in_nI (by omega) (by omega), nm_e (nm_r (nI_1 i) (hW (_, _) (dr_wrs hI rfl)))⟩⟩
end
end
section
def dr_end (x : Int32) : Prop := x = 0 ∨ x = 1 ∨ x = 7
def dr_dep (K : Nat → Int32) : Nat → Int
  | 0 => 0
  | j + 1 => dr_dep K j + (if K j = 6 then 1 else if K j = 7 then -1 else 0)
def dr_set (K : Nat → Int32) (j : Nat) : Prop := 0 < j ∧ dr_end (K (j - 1))
/-- a token by itself -/
def dr_tok (nv : Nat) (x y : Int32) : Prop := ∃ kd, kd ≤ 7 ∧ x = nI kd ∧ (kd = 1 → ∃ v, v < nv ∧ y = nI v) ∧ (kd = 2 → ∃ c, c ≤ 14 ∧ y = nI c) ∧ (kd = 3 ∨ kd = 4 ∨ kd = 5 → ∃ c, c ≤ 8 ∧ y = nI c)
def dr_wf (M nv : Nat) (K L : Nat → Int32) (n : Nat) : Prop :=
  (∀ j, j < n → dr_tok nv (K j) (L j)) ∧
  (∀ j, j < n → (dr_set K j → K j = 5 ∨ (K j = 2 ∧ L j ≠ 14) ∨ K j = 7 ∨ (K j = 0 ∧ K (j - 1) = 0)) ∧ (¬ dr_set K j → K j ≠ 5 ∧ K j ≠ 7)) ∧
  (∀ j, j ≤ n → 0 ≤ dr_dep K j ∧ dr_dep K j ≤ 6) ∧
  (∀ i, ¬ ∀ j, j ≤ M → i + j < n ∧ K (i + j) = 0)
theorem dr_wf_le {M nv : Nat} {K L : Nat → Int32} {n m : Nat} (h : dr_wf M nv K L n) (hm : m ≤ n) : dr_wf M nv K L m :=
  ⟨fun j hj => h.1 j (by omega), fun j hj => h.2.1 j (by omega), fun j hj => h.2.2.1 j (by omega), fun i hi => h.2.2.2 i (fun j hj => ⟨by have := (hi j hj).1; omega, (hi j hj).2⟩)⟩
theorem dr_wf_run {M nv : Nat} {K L : Nat → Int32} {n i : Nat} (h : dr_wf M nv K L n) : dr_run K n 32 i ≤ M := by
  rcases Nat.lt_or_ge M (dr_run K n 32 i) with z | z
  · exact absurd (fun j hj => dr_run_all 32 i j (by omega)) (h.2.2.2 i)
  · exact z
/-- a token's kind by cases -/
theorem dr_wf_k {M nv : Nat} {K L : Nat → Int32} {n j : Nat} (h : dr_wf M nv K L n) (hj : j < n) :
    (K j = 0) ∨ (K j = 1 ∧ ∃ v, v < nv ∧ L j = nI v) ∨ (∃ kd c, K j = nI kd ∧ L j = nI c ∧ ((kd = 2 ∧ c ≤ 14) ∨ (kd = 3 ∧ c ≤ 8) ∨ (kd = 4 ∧ c ≤ 8) ∨ (kd = 5 ∧ c ≤ 8))) ∨ K j = 6 ∨ K j = 7 := by
  obtain ⟨kd, h1, h2, h3, h4, h5⟩ := h.1 j hj
  rcases (show kd = 0 ∨ kd = 1 ∨ kd = 2 ∨ kd = 3 ∨ kd = 4 ∨ kd = 5 ∨ kd = 6 ∨ kd = 7 by omega) with rfl | rfl | rfl | rfl | rfl | rfl | rfl | rfl
  · exact Or.inl h2
  · exact Or.inr (Or.inl ⟨h2, h3 rfl⟩)
  · obtain ⟨c, c1, c2⟩ := h4 rfl
    exact Or.inr (Or.inr (Or.inl ⟨2, c, h2, c2, Or.inl ⟨rfl, c1⟩⟩))
  · obtain ⟨c, c1, c2⟩ := h5 (by omega)
    exact Or.inr (Or.inr (Or.inl ⟨3, c, h2, c2, Or.inr (Or.inl ⟨rfl, c1⟩)⟩))
  · obtain ⟨c, c1, c2⟩ := h5 (by omega)
    exact Or.inr (Or.inr (Or.inl ⟨4, c, h2, c2, Or.inr (Or.inr (Or.inl ⟨rfl, c1⟩))⟩))
  · obtain ⟨c, c1, c2⟩ := h5 (by omega)
    exact Or.inr (Or.inr (Or.inl ⟨5, c, h2, c2, Or.inr (Or.inr (Or.inr ⟨rfl, c1⟩))⟩))
  · exact Or.inr (Or.inr (Or.inr (Or.inl h2)))
  · exact Or.inr (Or.inr (Or.inr (Or.inr h2)))
/-- stack by levels -/
def dr_stk (acc : Nat → Option dr_A) : Nat → List dr_A
  | 0 => []
  | m + 1 => (acc m).toList ++ dr_stk acc m
theorem dr_stk_cg {acc acc' : Nat → Option dr_A} : ∀ {m : Nat}, (∀ q, q < m → acc' q = acc q) → dr_stk acc' m = dr_stk acc m
  | 0, _ => rfl
  | m + 1, h => by
    show (acc' m).toList ++ dr_stk acc' m = (acc m).toList ++ dr_stk acc m
    rw [h m (by omega), dr_stk_cg (fun q hq => h q (by omega))]
theorem dr_stk_len {acc : Nat → Option dr_A} : ∀ m, (dr_stk acc m).length ≤ m
  | 0 => Nat.le_refl _
  | m + 1 => by
    have := dr_stk_len (acc := acc) m
    show ((acc m).toList ++ dr_stk acc m).length ≤ m + 1
    rw [List.length_append]
    cases acc m with
    | none => simp; omega
    | some A => simp; omega
theorem dr_stk_some {acc : Nat → Option dr_A} {m : Nat} {A : dr_A} (h : acc m = some A) : dr_stk acc (m + 1) = A :: dr_stk acc m := by
  show (acc m).toList ++ dr_stk acc m = _
  rw [h]; rfl
theorem dr_stk_none {acc : Nat → Option dr_A} {m : Nat} (h : acc m = none) : dr_stk acc (m + 1) = dr_stk acc m := by
  show (acc m).toList ++ dr_stk acc m = _
  rw [h]; rfl
def dr_up {α : Type} (f : Nat → Option α) (m : Nat) (x : Option α) : Nat → Option α := fun j => if j = m then x else f j
theorem dr_up_s {α : Type} {f : Nat → Option α} {m : Nat} {x : Option α} : dr_up f m x m = x := if_pos rfl
theorem dr_up_n {α : Type} {f : Nat → Option α} {m j : Nat} {x : Option α} (h : j ≠ m) : dr_up f m x j = f j := if_neg h
theorem dr_stk_up {acc : Nat → Option dr_A} {m : Nat} {x : Option dr_A} : dr_stk (dr_up acc m x) m = dr_stk acc m := dr_stk_cg (fun q hq => dr_up_n (by omega))
def dr_rdy (K : Nat → Int32) (n i : Nat) : Prop := i = n ∨ dr_set K i
/-- a dyadic token -/
def dr_dt (K L : Nat → Int32) (t : Nat) : Prop := ∃ kd c, K t = nI kd ∧ L t = nI c ∧ ((kd = 2 ∧ c ≤ 13) ∨ (kd = 5 ∧ c ≤ 8))
/-- the state of an evaluation before token i - 1 -/
def dr_inv (M : Nat) (K L : Nat → Int32) (n i lev : Nat) (acc : Nat → Option dr_A) (p : Nat → Option Nat) (U : Nat → Prop) : Prop :=
  i ≤ n ∧ dr_dep K i = lev ∧ lev ≤ 6 ∧ (∀ q, q < lev → (acc q = none ↔ p q = none)) ∧
  (dr_rdy K n i → (acc lev = none ↔ p lev = none)) ∧ (¬ dr_rdy K n i → acc lev ≠ none ∧ p lev = none) ∧
  (∀ q t, q ≤ lev → p q = some t → i ≤ t ∧ t < n ∧ ¬ U t ∧ dr_dt K L t) ∧ (∀ q q' t, q ≤ lev → q' ≤ lev → p q = some t → p q' = some t → q = q') ∧
  (∀ t, U t → i ≤ t ∧ t < n) ∧ (∀ q A, q ≤ lev → acc q = some A → dr_ok M A)
section
variable {yc yv yt yu yp : Int32} {yk yw yd yr ye yi yf yq yn yh yz : Nat → Int32}
theorem ya_num {post : SY → Prop} {n t : Nat} (hn : n ≤ 40) (ht : t ≤ n)
    (K : ∀ yr' ye' yi' yf', yd_F 15 yr ye yi yf yr' ye' yi' yf' → yd_V yr' ye' yi' yf' 15 (dr_num yk yw n t) → post (yc, yv, yt, nI n, yp, yk, yw, yd, yr', ye', yi', yf', yq, yn, yh, yz)) : wpY_numbers post (yc, yv, yt, nI n, yp, yk, yw, yd, yr, ye, yi, yf, yq, yn, yh, yz) (nI t) := by
  unfold wpY_numbers
  dsimp only
  have h32 := dr_run_le (K := yk) (n := n) 32 t
  have fin : ∀ yi' yf', dr_wr 480 (fun j => (yw (t + j), 0)) yi yf (dr_run yk n 32 t) yi' yf' → wY_numbers_50 post (nI (dr_run yk n 32 t)) yc yv yt (nI n) yp yk yw yd yr ye yi' yf' yq yn yh yz := by
    intro yi' yf' hw
    have k63 : ∀ z : Nat, z = (if dr_run yk n 32 t = 1 then 0 else 1) → wY_numbers_63 post (nI (dr_run yk n 32 t)) (nI z) 15 yc yv yt (nI n) yp yk yw yd yr ye yi' yf' yq yn yh yz := by
      intro z hz
      unfold wY_numbers_63
      refine ya_shape (s := 15) (by omega) ?_
      dsimp only
      refine K _ _ _ _ ⟨fun s hs => pk_un (by omega), fun j hj => ?_, fun j hj => hw.2 j (by omega)⟩ ⟨by rw [← hz]; exact pk_us, dr_u30, dr_u31, dr_u32, fun i hi => hw.1 i (by omega)⟩
      rw [pk_un (by omega), pk_un (by omega), pk_un (by omega)]
    unfold wY_numbers_50
    by_cases h1 : dr_run yk n 32 t = 1
    · exact br_t (by rw [h1]; rfl) (k63 0 (by rw [if_pos h1]))
    · exact br_f (fun z => h1 ((na_e1 (by omega)).mp z)) (k63 1 (by rw [if_neg h1]))
  have lp : ∀ (f c : Nat) (yi' yf' : Nat → Int32) (q : Nat), c + f = 32 → f < q → c + dr_run yk n f (t + c) = dr_run yk n 32 t → t + c ≤ n → dr_wr 480 (fun j => (yw (t + j), 0)) yi yf c yi' yf' →
      wY_numbers_4 post q (nI c) (nI (t + c)) yc yv yt (nI n) yp yk yw yd yr ye yi' yf' yq yn yh yz := by
    intro f
    induction f with
    | zero =>
      intro c yi' yf' q hc hq he htn hw
      obtain ⟨q, rfl⟩ : ∃ k, q = k + 1 := ⟨q - 1, by omega⟩
      have e : c = dr_run yk n 32 t := by rw [dr_run_z] at he; omega
      have F := fin yi' yf' (e ▸ hw)
      rw [← e] at F
      rw [wY_numbers_4]
      rcases Nat.lt_or_ge (t + c) n with y | y
      · exact br_f (nI_ge y (by omega)) (br_t (nI_le (a := 32) (by omega) (by omega)) F)
      · exact br_t (nI_le y (by omega)) F
    | succ f ih =>
      intro c yi' yf' q hc hq he htn hw
      obtain ⟨q, rfl⟩ : ∃ k, q = k + 1 := ⟨q - 1, by omega⟩
      rw [wY_numbers_4]
      rw [dr_run_s f (t + c)] at he
      rcases Nat.lt_or_ge (t + c) n with y | y
      · refine br_f (nI_ge y (by omega)) (br_f (nI_ge (b := 32) (by omega) (by omega)) ⟨vp_in_nI (by omega) (by omega), ?_⟩)
        rw [nI_clamp (show t + c < 2 ^ 31 by omega)]
        by_cases z : yk (t + c) = 0
        · rw [if_pos ⟨y, z⟩] at he
          refine br_t z ⟨vp_in_nI (by omega) (by omega), ?_⟩
          refine ya_set (s := 15) (by omega) ?_
          dsimp only
          refine nm_r (nI_1 c) (nm_r (nI_1 (t + c)) ?_)
          exact ih (c + 1) _ _ q (by omega) (by omega) (by rw [← Nat.add_assoc]; omega) (by omega) (dr_wrs hw rfl)
        · rw [if_neg (fun w => z w.2)] at he
          have e : c = dr_run yk n 32 t := by omega
          have F := fin yi' yf' (e ▸ hw)
          rw [← e] at F
          exact br_f z F
      · rw [if_neg (by omega)] at he
        have e : c = dr_run yk n 32 t := by omega
        have F := fin yi' yf' (e ▸ hw)
        rw [← e] at F
        exact br_t (nI_le y (by omega)) F
  exact ⟨33, lp 32 0 yi yf 33 (by omega) (by omega) (by rw [Nat.add_zero]; omega) (by omega) dr_wr0⟩
end
end
section
def xd_ev26 (post : Int32 → SX → Prop) (f : Nat) (x1 x2 : Int32) : SX → Prop
  | (z0, z1, z2, z3, mc, vc, mt, ll, oc, ep, vn, cl, ov, ou, cc, tk, tv, mv, mf, br, be, wr, we, ws, ik, ia, sd, pd, ix, rv, rf, ne, st, ns, ct, gv, gf) => wX_evaluate_26 post f x1 x2 z0 z1 z2 z3 mc vc mt ll oc ep vn cl ov ou cc tk tv mv mf br be wr we ws ik ia sd pd ix rv rf ne st ns ct gv gf
def xd_163 (post : Int32 → SX → Prop) (f : Nat) (x1 x2 : Int32) : SX → Prop
  | (z0, z1, z2, z3, mc, vc, mt, ll, oc, ep, vn, cl, ov, ou, cc, tk, tv, mv, mf, br, be, wr, we, ws, ik, ia, sd, pd, ix, rv, rf, ne, st, ns, ct, gv, gf) => wX_evaluate_163 post (wX_evaluate_26 post f) x1 x2 0 z0 z1 z2 z3 mc vc mt ll oc ep vn cl ov ou cc tk tv mv mf br be wr we ws ik ia sd pd ix rv rf ne st ns ct gv gf
section
variable {z0 z1 z2 z3 vc mt oc ep : Int32} {tk tv br be pd : Nat → Int32} {m0 f0 : Nat → Int32} {M n : Nat} {U : Nat → Prop} {l : List dr_A} {B : Nat} {u : SX} {post : Int32 → SX → Prop} {p : Nat → Option Nat} {lev j f : Nat}
theorem xd_kel {P : SX → Prop} (R : xd_R (z0, z1, z2, z3, nI M, vc, mt, nI n, oc, ep, tk, tv, br, be, pd) m0 f0 M U l B u)
    (h : ∀ (vn cl ov ou cc : Int32) (mv mf wr we ws ik ia sd ix rv rf ne st ns ct gv gf : Nat → Int32), xd_R (z0, z1, z2, z3, nI M, vc, mt, nI n, oc, ep, tk, tv, br, be, pd) m0 f0 M U l B (z0, z1, z2, z3, nI M, vc, mt, nI n, oc, ep, vn, cl, ov, ou, cc, tk, tv, mv, mf, br, be, wr, we, ws, ik, ia, sd, pd, ix, rv, rf, ne, st, ns, ct, gv, gf) → P (z0, z1, z2, z3, nI M, vc, mt, nI n, oc, ep, vn, cl, ov, ou, cc, tk, tv, mv, mf, br, be, wr, we, ws, ik, ia, sd, pd, ix, rv, rf, ne, st, ns, ct, gv, gf)) : P u := by
  induction u using xd_el
  rename_i z0' z1' z2' z3' mc' vc' mt' ll' oc' ep' vn cl ov ou cc tk' tv' mv mf br' be' wr we ws ik ia sd pd' ix rv rf ne st ns ct gv gf
  have hk := R.1
  simp only [Prod.mk.injEq] at hk
  obtain ⟨rfl, rfl, rfl, rfl, rfl, rfl, rfl, rfl, rfl, rfl, rfl, rfl, rfl, rfl, rfl⟩ := hk
  exact h _ _ _ _ _ _ _ _ _ _ _ _ _ _ _ _ _ _ _ _ _ _ R
def xd_cont (post : Int32 → SX → Prop) (z0 z1 z2 z3 vc mt oc ep : Int32) (tk tv br be m0 f0 : Nat → Int32) (M n lev i : Nat) (l : List dr_A) (p : Nat → Option Nat) (U : Nat → Prop) (B f : Nat) : Prop :=
  ∀ (pd : Nat → Int32) (u : SX), (∀ q, q ≤ lev → pd q = dr_oi (p q)) → xd_R (z0, z1, z2, z3, nI M, vc, mt, nI n, oc, ep, tk, tv, br, be, pd) m0 f0 M U l B u → xd_ev26 post f (nI lev) (nI i + (-1)) u
def xd_cerr (post : Int32 → SX → Prop) (z0 z1 z2 z3 vc mt oc : Int32) (tk tv br be m0 f0 : Nat → Int32) (M n : Nat) (rc ep' : Int32) : Prop :=
  ∀ (pd : Nat → Int32) (u : SX), xd_B (z0, z1, z2, z3, nI M, vc, mt, nI n, oc, ep', tk, tv, br, be, pd) m0 f0 u → post rc u
theorem xe_192 {x4 x5 : Int32} {z0 z1 z2 z3 mc vc mt ll oc ep vn cl ov ou cc : Int32} {tk tv mv mf br be wr we ws ik ia sd pd ix rv rf ne st ns ct gv gf : Nat → Int32} (h0 : x4 = 0 → wX_evaluate_26 post f (nI lev) (nI j + (-1)) z0 z1 z2 z3 mc vc mt ll oc ep vn cl ov ou cc tk tv mv mf br be wr we ws ik ia sd pd ix rv rf ne st ns ct gv gf) (h1 : x4 ≠ 0 → post x4 (z0, z1, z2, z3, mc, vc, mt, ll, oc, x5, vn, cl, ov, ou, cc, tk, tv, mv, mf, br, be, wr, we, ws, ik, ia, sd, pd, ix, rv, rf, ne, st, ns, ct, gv, gf)) :
    wX_evaluate_192 post (wX_evaluate_26 post f) (nI lev) (nI j) x4 x5 z0 z1 z2 z3 mc vc mt ll oc ep vn cl ov ou cc tk tv mv mf br be wr we ws ik ia sd pd ix rv rf ne st ns ct gv gf := by
  unfold wX_evaluate_192
  by_cases z : x4 = 0
  · exact br_t z (nm_e (h0 z))
  · exact br_f z (h1 z)
theorem xe_ends {Q : Int32 → Prop} {x : Int32} {z0 z1 z2 z3 mc vc mt ll oc ep vn cl ov ou cc : Int32} {tk tv mv mf br be wr we ws ik ia sd pd ix rv rf ne st ns ct gv gf : Nat → Int32} (h1 : dr_end x → Q 1) (h0 : ¬ dr_end x → Q 0) : wpX_endsOperand Q (z0, z1, z2, z3, mc, vc, mt, ll, oc, ep, vn, cl, ov, ou, cc, tk, tv, mv, mf, br, be, wr, we, ws, ik, ia, sd, pd, ix, rv, rf, ne, st, ns, ct, gv, gf) x := by
  unfold wpX_endsOperand
  dsimp only
  by_cases a : x = 0
  · exact br_t a (h1 (Or.inl a))
  by_cases b : x = 1
  · exact br_f a (br_t b (h1 (Or.inr (Or.inl b))))
  by_cases c : x = 7
  · exact br_f a (br_f b (br_t c (h1 (Or.inr (Or.inr c)))))
  exact br_f a (br_f b (br_f c (h0 (fun z => z.elim a (fun z => z.elim b c)))))
theorem xe_fk {Q : Int32 → Prop} {kd : Nat} {z0 z1 z2 z3 mc vc mt ll oc ep vn cl ov ou cc : Int32} {tk tv mv mf br be wr we ws ik ia sd pd ix rv rf ne st ns ct gv gf : Nat → Int32} (hk : kd ≤ 7) (h1 : 2 ≤ kd → kd ≤ 5 → Q 1) (h0 : (kd < 2 ∨ 5 < kd) → Q 0) : wpX_isFunctionKind Q (z0, z1, z2, z3, mc, vc, mt, ll, oc, ep, vn, cl, ov, ou, cc, tk, tv, mv, mf, br, be, wr, we, ws, ik, ia, sd, pd, ix, rv, rf, ne, st, ns, ct, gv, gf) (nI kd) := by
  unfold wpX_isFunctionKind
  dsimp only
  rcases Nat.lt_or_ge kd 2 with a | a
  · exact br_t (nI_lt (b := 2) a (by omega)) (h0 (Or.inl a))
  · refine br_f (nI_nlt (b := 2) a (by omega)) ?_
    rcases Nat.lt_or_ge 5 kd with b | b
    · exact br_t (nI_lt (a := 5) b (by omega)) (h0 (Or.inr b))
    · exact br_f (nI_nlt (a := 5) b (by omega)) (h1 a b)
theorem xe_close (hj : j < 40) (hk : tk j = 7) (hlev : lev + 1 ≤ 6) (H : xd_cont post z0 z1 z2 z3 vc mt oc ep tk tv br be m0 f0 M n (lev + 1) j l (dr_up p (lev + 1) none) U B f) :
    xd_cont post z0 z1 z2 z3 vc mt oc ep tk tv br be m0 f0 M n lev (j + 1) l p U B (f + 1) := by
  intro pd u hpd R
  refine xd_kel (P := fun u => xd_ev26 post (f + 1) (nI lev) (nI (j + 1) + (-1)) u) R ?_
  intro vn cl ov ou cc mv mf wr we ws ik ia sd ix rv rf ne st ns ct gv gf R
  show wX_evaluate_26 post (f + 1) (nI lev) (nI (j + 1) + (-1)) z0 z1 z2 z3 (nI M) vc mt (nI n) oc ep vn cl ov ou cc tk tv mv mf br be wr we ws ik ia sd pd ix rv rf ne st ns ct gv gf
  rw [wX_evaluate_26, pk_m1]
  dsimp only
  rw [nI_clamp (show j < 2 ^ 31 by omega), hk]
  refine br_f (nI_pos (by omega)) ⟨vp_in_nI hj (by omega), nm_e (br_t rfl (nm_r (nI_1 lev) ⟨vp_in_nI (by omega) (by omega), ?_⟩))⟩
  rw [nI_clamp (show lev + 1 < 2 ^ 31 by omega)]
  refine nm_e (xe_192 (fun _ => ?_) (fun z => absurd rfl z))
  refine H (upd pd (lev + 1) (-1)) (z0, z1, z2, z3, nI M, vc, mt, nI n, oc, ep, vn, cl, ov, ou, cc, tk, tv, mv, mf, br, be, wr, we, ws, ik, ia, sd, upd pd (lev + 1) (-1), ix, rv, rf, ne, st, ns, ct, gv, gf) (fun q hq => ?_) ⟨rfl, R.2⟩
  by_cases e : q = lev + 1
  · rw [e, dr_up_s, pk_us]; rfl
  · rw [dr_up_n e, pk_un e]; exact hpd q (by omega)
theorem xe_skip (hj : j < 40) (hk : tk j = 0) (hj0 : 0 < j) (hk1 : tk (j - 1) = 0) (H : xd_cont post z0 z1 z2 z3 vc mt oc ep tk tv br be m0 f0 M n lev j l p U B f) :
    xd_cont post z0 z1 z2 z3 vc mt oc ep tk tv br be m0 f0 M n lev (j + 1) l p U B (f + 1) := by
  intro pd u hpd R
  refine xd_kel (P := fun u => xd_ev26 post (f + 1) (nI lev) (nI (j + 1) + (-1)) u) R ?_
  intro vn cl ov ou cc mv mf wr we ws ik ia sd ix rv rf ne st ns ct gv gf R
  show wX_evaluate_26 post (f + 1) (nI lev) (nI (j + 1) + (-1)) z0 z1 z2 z3 (nI M) vc mt (nI n) oc ep vn cl ov ou cc tk tv mv mf br be wr we ws ik ia sd pd ix rv rf ne st ns ct gv gf
  rw [wX_evaluate_26, pk_m1]
  dsimp only
  rw [nI_clamp (show j < 2 ^ 31 by omega), hk]
  refine br_f (nI_pos (by omega)) ⟨vp_in_nI hj (by omega), nm_e (br_f (by decide) (xe_fk (kd := 0) (by omega) (fun h => by omega) (fun _ => br_t rfl (br_t rfl (br_f (nI_ne0 hj0 (by omega)) ?_)))))⟩
  rw [na_s1 (by omega), nI_clamp (show j - 1 < 2 ^ 31 by omega)]
  refine ⟨vp_in_nI (by omega) (by omega), br_t hk1 (xe_192 (fun _ => ?_) (fun z => absurd rfl z))⟩
  exact H pd (z0, z1, z2, z3, nI M, vc, mt, nI n, oc, ep, vn, cl, ov, ou, cc, tk, tv, mv, mf, br, be, wr, we, ws, ik, ia, sd, pd, ix, rv, rf, ne, st, ns, ct, gv, gf) hpd R
theorem xe_wait {kd : Nat} (hj : j < 40) (hk : tk j = nI kd) (hkd : 2 ≤ kd ∧ kd ≤ 5) (hset : dr_set tk j) (hlev : lev ≤ 6) (H : xd_cont post z0 z1 z2 z3 vc mt oc ep tk tv br be m0 f0 M n lev j l (dr_up p lev (some j)) U B f) :
    xd_cont post z0 z1 z2 z3 vc mt oc ep tk tv br be m0 f0 M n lev (j + 1) l p U B (f + 1) := by
  intro pd u hpd R
  refine xd_kel (P := fun u => xd_ev26 post (f + 1) (nI lev) (nI (j + 1) + (-1)) u) R ?_
  intro vn cl ov ou cc mv mf wr we ws ik ia sd ix rv rf ne st ns ct gv gf R
  have hj0 := hset.1
  show wX_evaluate_26 post (f + 1) (nI lev) (nI (j + 1) + (-1)) z0 z1 z2 z3 (nI M) vc mt (nI n) oc ep vn cl ov ou cc tk tv mv mf br be wr we ws ik ia sd pd ix rv rf ne st ns ct gv gf
  rw [wX_evaluate_26, pk_m1]
  dsimp only
  rw [nI_clamp (show j < 2 ^ 31 by omega), hk]
  refine br_f (nI_pos (by omega)) ⟨vp_in_nI hj (by omega), nm_e (br_f (fun z => ?_) (xe_fk (kd := kd) (by omega) (fun _ _ => br_f (by decide) (br_f (nI_nle hj0 (by omega)) ?_)) (fun h => by omega)))⟩
  · have := (na_e7 (by omega)).mp z
    omega
  rw [na_s1 (by omega), nI_clamp (show j - 1 < 2 ^ 31 by omega)]
  refine ⟨vp_in_nI (by omega) (by omega), xe_ends (fun _ => br_f (by decide) ⟨vp_in_nI (by omega) (by omega), ?_⟩) (fun z => absurd hset.2 z)⟩
  rw [nI_clamp (show lev < 2 ^ 31 by omega)]
  refine nm_e (xe_192 (fun _ => ?_) (fun z => absurd rfl z))
  refine H (upd pd lev (nI j)) (z0, z1, z2, z3, nI M, vc, mt, nI n, oc, ep, vn, cl, ov, ou, cc, tk, tv, mv, mf, br, be, wr, we, ws, ik, ia, sd, upd pd lev (nI j), ix, rv, rf, ne, st, ns, ct, gv, gf) (fun q hq => ?_) ⟨rfl, R.2⟩
  by_cases e : q = lev
  · rw [e, dr_up_s, pk_us]; rfl
  · rw [dr_up_n e, pk_un e]; exact hpd q (by omega)
theorem xe_mon {kd code : Nat} {r e0 e1 e2 : Nat} {el : Nat → dr_E} (hj : j < 40) (hk : tk j = nI kd) (hv : tv j = nI code) (hkc : (kd = 2 ∧ code ≤ 14) ∨ (kd = 3 ∧ code ≤ 8) ∨ (kd = 4 ∧ code ≤ 8)) (hset : ¬ dr_set tk j)
    (hB : B ≤ 48) (hl : l.length < 10) (hM : M ≤ 32) (hM1 : 4 ≤ M) (hU : ¬ U j)
    (H0 : (dr_mon M kd code (r, e0, e1, e2, el)).1 = 0 → xd_cont post z0 z1 z2 z3 vc mt oc ep tk tv br be m0 f0 M n lev j ((dr_mon M kd code (r, e0, e1, e2, el)).2 :: l) p (fun s => U s ∨ s = j) (B + 1) f)
    (H1 : (dr_mon M kd code (r, e0, e1, e2, el)).1 ≠ 0 → xd_cerr post z0 z1 z2 z3 vc mt oc tk tv br be m0 f0 M n (dr_mon M kd code (r, e0, e1, e2, el)).1 (nI j)) :
    xd_cont post z0 z1 z2 z3 vc mt oc ep tk tv br be m0 f0 M n lev (j + 1) ((r, e0, e1, e2, el) :: l) p U B (f + 1) := by
  intro pd u hpd R
  refine xd_kel (P := fun u => xd_ev26 post (f + 1) (nI lev) (nI (j + 1) + (-1)) u) R ?_
  intro vn cl ov ou cc mv mf wr we ws ik ia sd ix rv rf ne st ns ct gv gf R
  show wX_evaluate_26 post (f + 1) (nI lev) (nI (j + 1) + (-1)) z0 z1 z2 z3 (nI M) vc mt (nI n) oc ep vn cl ov ou cc tk tv mv mf br be wr we ws ik ia sd pd ix rv rf ne st ns ct gv gf
  have k99 : wX_evaluate_99 post (wX_evaluate_26 post f) (nI lev) (nI j) (nI j) z0 z1 z2 z3 (nI M) vc mt (nI n) oc ep vn cl ov ou cc tk tv mv mf br be wr we ws ik ia sd pd ix rv rf ne st ns ct gv gf := by
    unfold wX_evaluate_99
    refine xo_mon (kind := kd) (code := code) R hk hv hkc hB hl hM hM1 hU hj ?_
    intro u' hb hr
    induction u' using xd_el
    rename_i z0' z1' z2' z3' mc' vc' mt' ll' oc' ep' vn' cl' ov' ou' cc' tk' tv' mv' mf' br' be' wr' we' ws' ik' ia' sd' pd' ix' rv' rf' ne' st' ns' ct' gv' gf'
    refine xe_192 (fun z => ?_) (fun z => ?_)
    · exact H0 z pd _ hpd (hr z)
    · refine H1 z pd' _ ?_
      obtain ⟨h1, h2⟩ := hb
      simp only [Prod.mk.injEq] at h1
      obtain ⟨rfl, rfl, rfl, rfl, rfl, rfl, rfl, rfl, rfl, rfl, rfl, rfl, rfl, rfl, rfl⟩ := h1
      exact ⟨rfl, h2⟩
  rw [wX_evaluate_26, pk_m1]
  dsimp only
  rw [nI_clamp (show j < 2 ^ 31 by omega), hk]
  refine br_f (nI_pos (by omega)) ⟨vp_in_nI hj (by omega), nm_e (br_f (fun z => ?_) (xe_fk (kd := kd) (by omega) (fun _ _ => br_f (by decide) ?_) (fun h => by omega)))⟩
  · have := (na_e7 (by omega)).mp z
    omega
  rcases Nat.eq_zero_or_pos j with y | y
  · exact br_t (by rw [y]; decide) k99
  · refine br_f (nI_nle y (by omega)) ?_
    rw [na_s1 (by omega), nI_clamp (show j - 1 < 2 ^ 31 by omega)]
    exact ⟨vp_in_nI (by omega) (by omega), xe_ends (fun z => absurd ⟨y, z⟩ hset) (fun _ => br_t rfl k99)⟩
theorem xe_163n {A : dr_A} (hp : p lev = none) (hlev : lev ≤ 6) (H : xd_cont post z0 z1 z2 z3 vc mt oc ep tk tv br be m0 f0 M n lev j (A :: l) p U B f) (hpd : ∀ q, q ≤ lev → pd q = dr_oi (p q)) (R : xd_R (z0, z1, z2, z3, nI M, vc, mt, nI n, oc, ep, tk, tv, br, be, pd) m0 f0 M U (A :: l) B u) :
    xd_163 post f (nI lev) (nI j) u := by
  refine xd_kel (P := fun u => xd_163 post f (nI lev) (nI j) u) R ?_
  intro vn cl ov ou cc mv mf wr we ws ik ia sd ix rv rf ne st ns ct gv gf R
  show wX_evaluate_163 post (wX_evaluate_26 post f) (nI lev) (nI j) 0 z0 z1 z2 z3 (nI M) vc mt (nI n) oc ep vn cl ov ou cc tk tv mv mf br be wr we ws ik ia sd pd ix rv rf ne st ns ct gv gf
  unfold wX_evaluate_163
  have hq := hpd lev (Nat.le_refl _)
  rw [hp] at hq
  have hq' : pd lev = -1 := hq
  rw [nI_clamp (show lev < 2 ^ 31 by omega), hq']
  refine ⟨vp_in_nI (by omega) (by omega), nm_e (br_t rfl (xe_192 (fun _ => ?_) (fun z => absurd rfl z)))⟩
  exact H pd (z0, z1, z2, z3, nI M, vc, mt, nI n, oc, ep, vn, cl, ov, ou, cc, tk, tv, mv, mf, br, be, wr, we, ws, ik, ia, sd, pd, ix, rv, rf, ne, st, ns, ct, gv, gf) hpd R
theorem xe_163s {t kd code : Nat} {r e0 e1 e2 rl l0 l1 l2 : Nat} {el lel : Nat → dr_E} (hp : p lev = some t) (ht : t < 40) (hk : tk t = nI kd) (hv : tv t = nI code) (hkc : (kd = 2 ∧ code ≤ 13) ∨ (kd = 5 ∧ code ≤ 8)) (hlev : lev ≤ 6)
    (hB : B ≤ 48) (hl : l.length + 1 < 10) (hM : M ≤ 32) (hM1 : 4 ≤ M) (hU : ¬ U t)
    (H0 : (dr_dya M kd code (rl, l0, l1, l2, lel) (r, e0, e1, e2, el)).1 = 0 → xd_cont post z0 z1 z2 z3 vc mt oc ep tk tv br be m0 f0 M n lev j ((dr_dya M kd code (rl, l0, l1, l2, lel) (r, e0, e1, e2, el)).2 :: l) (dr_up p lev none) (fun s => U s ∨ s = t) B f)
    (H1 : (dr_dya M kd code (rl, l0, l1, l2, lel) (r, e0, e1, e2, el)).1 ≠ 0 → xd_cerr post z0 z1 z2 z3 vc mt oc tk tv br be m0 f0 M n (dr_dya M kd code (rl, l0, l1, l2, lel) (r, e0, e1, e2, el)).1 (nI t))
    (hpd : ∀ q, q ≤ lev → pd q = dr_oi (p q)) (R : xd_R (z0, z1, z2, z3, nI M, vc, mt, nI n, oc, ep, tk, tv, br, be, pd) m0 f0 M U ((rl, l0, l1, l2, lel) :: (r, e0, e1, e2, el) :: l) B u) :
    xd_163 post f (nI lev) (nI j) u := by
  refine xd_kel (P := fun u => xd_163 post f (nI lev) (nI j) u) R ?_
  intro vn cl ov ou cc mv mf wr we ws ik ia sd ix rv rf ne st ns ct gv gf R
  show wX_evaluate_163 post (wX_evaluate_26 post f) (nI lev) (nI j) 0 z0 z1 z2 z3 (nI M) vc mt (nI n) oc ep vn cl ov ou cc tk tv mv mf br be wr we ws ik ia sd pd ix rv rf ne st ns ct gv gf
  unfold wX_evaluate_163
  have hq := hpd lev (Nat.le_refl _)
  rw [hp] at hq
  have hq' : pd lev = nI t := hq
  rw [nI_clamp (show lev < 2 ^ 31 by omega), hq']
  refine ⟨vp_in_nI (by omega) (by omega), nm_e (br_f (fun z => (na_m1c (by omega)).mp z) ⟨vp_in_nI (by omega) (by omega), nm_e ?_⟩)⟩
  have R2 : xd_R (z0, z1, z2, z3, nI M, vc, mt, nI n, oc, ep, tk, tv, br, be, upd pd lev (-1)) m0 f0 M U ((rl, l0, l1, l2, lel) :: (r, e0, e1, e2, el) :: l) B (z0, z1, z2, z3, nI M, vc, mt, nI n, oc, ep, vn, cl, ov, ou, cc, tk, tv, mv, mf, br, be, wr, we, ws, ik, ia, sd, upd pd lev (-1), ix, rv, rf, ne, st, ns, ct, gv, gf) := ⟨rfl, R.2⟩
  refine xo_dya (kind := kd) (code := code) R2 hk hv hkc hB hl hM hM1 hU ht ?_
  intro u' hb hr
  induction u' using xd_el
  rename_i z0' z1' z2' z3' mc' vc' mt' ll' oc' ep' vn' cl' ov' ou' cc' tk' tv' mv' mf' br' be' wr' we' ws' ik' ia' sd' pd' ix' rv' rf' ne' st' ns' ct' gv' gf'
  refine xe_192 (fun z => ?_) (fun z => ?_)
  · refine H0 z (upd pd lev (-1)) _ (fun q hq => ?_) (hr z)
    by_cases e : q = lev
    · rw [e, dr_up_s, pk_us]; rfl
    · rw [dr_up_n e, pk_un e]; exact hpd q hq
  · refine H1 z pd' _ ?_
    obtain ⟨h1, h2⟩ := hb
    simp only [Prod.mk.injEq] at h1
    obtain ⟨rfl, rfl, rfl, rfl, rfl, rfl, rfl, rfl, rfl, rfl, rfl, rfl, rfl, rfl, rfl⟩ := h1
    exact ⟨rfl, h2⟩
theorem xe_var {v : Nat} {r e0 e1 e2 : Nat} {el : Nat → dr_E} (hj : j < 40) (hk : tk j = 1) (hv : tv j = nI v) (hv8 : v < 8) (ok : dr_ok M (r, e0, e1, e2, el)) (hbr : br v = nI r) (hb0 : be (3 * v) = nI e0) (hb1 : be (3 * v + 1) = nI e1) (hb2 : be (3 * v + 2) = nI e2)
    (hm0 : ∀ i, i < e0 * e1 * e2 → m0 (32 * v + i) = (el i).1 ∧ f0 (32 * v + i) = (el i).2) (hl : l.length < 10) (hB : B ≤ 46) (hM : M ≤ 32)
    (H : ∀ pd u, (∀ q, q ≤ lev → pd q = dr_oi (p q)) → xd_R (z0, z1, z2, z3, nI M, vc, mt, nI n, oc, ep, tk, tv, br, be, pd) m0 f0 M U ((r, e0, e1, e2, el) :: l) (B + 2) u → xd_163 post f (nI lev) (nI j) u) :
    xd_cont post z0 z1 z2 z3 vc mt oc ep tk tv br be m0 f0 M n lev (j + 1) l p U B (f + 1) := by
  intro pd u hpd R
  refine xd_kel (P := fun u => xd_ev26 post (f + 1) (nI lev) (nI (j + 1) + (-1)) u) R ?_
  intro vn cl ov ou cc mv mf wr we ws ik ia sd ix rv rf ne st ns ct gv gf R
  show wX_evaluate_26 post (f + 1) (nI lev) (nI (j + 1) + (-1)) z0 z1 z2 z3 (nI M) vc mt (nI n) oc ep vn cl ov ou cc tk tv mv mf br be wr we ws ik ia sd pd ix rv rf ne st ns ct gv gf
  rw [wX_evaluate_26, pk_m1]
  dsimp only
  rw [nI_clamp (show j < 2 ^ 31 by omega), hk]
  refine br_f (nI_pos (by omega)) ⟨vp_in_nI hj (by omega), nm_e (br_f (by decide) (xe_fk (kd := 1) (by omega) (fun h => by omega) (fun _ => br_t rfl (br_f (by decide) ?_))))⟩
  unfold wX_evaluate_128
  rw [nI_clamp (show j < 2 ^ 31 by omega), hv]
  refine br_f (by decide) (br_t rfl ⟨vp_in_nI hj (by omega), ?_⟩)
  refine xo_pushVar R hv8 ok hbr hb0 hb1 hb2 hm0 hl hB hM ?_
  intro u' hr
  have := H pd u' hpd hr
  induction u' using xd_el
  exact this
theorem xe_num (hj : j < n) (hn : n ≤ 40) (hk : tk j = 0) (hle : j = 0 ∨ tk (j - 1) ≠ 0) (hrun : dr_run tk n 32 j ≤ M) (hU : ¬ U j) (hl : l.length < 10) (hB : B ≤ 46) (hM : M ≤ 32) (hM1 : 1 ≤ M)
    (H : ∀ pd u, (∀ q, q ≤ lev → pd q = dr_oi (p q)) → xd_R (z0, z1, z2, z3, nI M, vc, mt, nI n, oc, ep, tk, tv, br, be, pd) m0 f0 M (fun s => U s ∨ s = j) (dr_num tk tv n j :: l) (B + 2) u → xd_163 post f (nI lev) (nI j) u) :
    xd_cont post z0 z1 z2 z3 vc mt oc ep tk tv br be m0 f0 M n lev (j + 1) l p U B (f + 1) := by
  intro pd u hpd R
  refine xd_kel (P := fun u => xd_ev26 post (f + 1) (nI lev) (nI (j + 1) + (-1)) u) R ?_
  intro vn cl ov ou cc mv mf wr we ws ik ia sd ix rv rf ne st ns ct gv gf R
  show wX_evaluate_26 post (f + 1) (nI lev) (nI (j + 1) + (-1)) z0 z1 z2 z3 (nI M) vc mt (nI n) oc ep vn cl ov ou cc tk tv mv mf br be wr we ws ik ia sd pd ix rv rf ne st ns ct gv gf
  have k128 : wX_evaluate_128 post (wX_evaluate_26 post f) (nI lev) (nI j) 0 0 z0 z1 z2 z3 (nI M) vc mt (nI n) oc ep vn cl ov ou cc tk tv mv mf br be wr we ws ik ia sd pd ix rv rf ne st ns ct gv gf := by
    unfold wX_evaluate_128
    refine br_f (by decide) (br_f (by decide) ?_)
    refine xo_pushNum R rfl hn hj hk hrun hU hl hB hM hM1 ?_
    intro u' hr
    have := H pd u' hpd hr
    induction u' using xd_el
    exact this
  rw [wX_evaluate_26, pk_m1]
  dsimp only
  rw [nI_clamp (show j < 2 ^ 31 by omega), hk]
  refine br_f (nI_pos (by omega)) ⟨vp_in_nI (by omega) (by omega), nm_e (br_f (by decide) (xe_fk (kd := 0) (by omega) (fun h => by omega) (fun _ => br_t rfl (br_t rfl ?_))))⟩
  rcases Nat.eq_zero_or_pos j with y | y
  · exact br_t (by rw [y]; rfl) k128
  · refine br_f (nI_ne0 y (by omega)) ?_
    rw [na_s1 (by omega), nI_clamp (show j - 1 < 2 ^ 31 by omega)]
    exact ⟨vp_in_nI (by omega) (by omega), br_f (hle.resolve_left (by omega)) k128⟩
theorem xe_open (hj : j < 40) (hk : tk j = 6) (H : ∀ pd u, (∀ q, q ≤ lev → pd q = dr_oi (p q)) → xd_R (z0, z1, z2, z3, nI M, vc, mt, nI n, oc, ep, tk, tv, br, be, pd) m0 f0 M U l B u → xd_163 post f (nI lev) (nI j) u) :
    xd_cont post z0 z1 z2 z3 vc mt oc ep tk tv br be m0 f0 M n (lev + 1) (j + 1) l p U B (f + 1) := by
  intro pd u hpd R
  have h := H pd u (fun q hq => hpd q (by omega)) R
  revert h
  refine xd_kel (P := fun u => xd_163 post f (nI lev) (nI j) u → xd_ev26 post (f + 1) (nI (lev + 1)) (nI (j + 1) + (-1)) u) R ?_
  intro vn cl ov ou cc mv mf wr we ws ik ia sd ix rv rf ne st ns ct gv gf R h
  show wX_evaluate_26 post (f + 1) (nI (lev + 1)) (nI (j + 1) + (-1)) z0 z1 z2 z3 (nI M) vc mt (nI n) oc ep vn cl ov ou cc tk tv mv mf br be wr we ws ik ia sd pd ix rv rf ne st ns ct gv gf
  rw [wX_evaluate_26, pk_m1]
  dsimp only
  rw [nI_clamp (show j < 2 ^ 31 by omega), hk]
  refine br_f (nI_pos (by omega)) ⟨vp_in_nI hj (by omega), nm_e (br_f (by decide) (xe_fk (kd := 6) (by omega) (fun h => by omega) (fun _ => br_t rfl (br_f (by decide) ?_))))⟩
  unfold wX_evaluate_128
  exact br_t rfl (nm_r (pk_m1 lev) h)
end
end
section
def yd_R (V : Nat → dr_A) (lev : Nat) (acc : Nat → Option dr_A) (p : Nat → Option Nat) (yd yr ye yi yf : Nat → Int32) : Prop :=
  (∀ q, q ≤ lev → yd q = dr_oi (p q)) ∧ (∀ v, v < 8 → yd_V yr ye yi yf v (V v)) ∧ (∀ q A, q ≤ lev → acc q = some A → yd_V yr ye yi yf (8 + q) A)
section
variable {yv yt yp x1 : Int32} {yk yw : Nat → Int32} {M n : Nat} {V : Nat → dr_A} {post : Int32 → SY → Prop} {acc : Nat → Option dr_A} {p : Nat → Option Nat} {lev j f : Nat}
def yd_cont (post : Int32 → SY → Prop) (yv yt yp x1 : Int32) (yk yw : Nat → Int32) (M n : Nat) (V : Nat → dr_A) (lev i : Nat) (acc : Nat → Option dr_A) (p : Nat → Option Nat) (f : Nat) : Prop :=
  ∀ yd yr ye yi yf yq yn yh yz : Nat → Int32, yd_R V lev acc p yd yr ye yi yf → wY_assign_41 post x1 f (nI lev) (nI i + (-1)) (nI M) yv yt (nI n) yp yk yw yd yr ye yi yf yq yn yh yz
def yd_cerr (post : Int32 → SY → Prop) (yv yt : Int32) (yk yw : Nat → Int32) (M n : Nat) (V : Nat → dr_A) (rc yp : Int32) : Prop :=
  ∀ yd yr ye yi yf yq yn yh yz : Nat → Int32, (∀ v, v < 8 → yd_V yr ye yi yf v (V v)) → post rc (nI M, yv, yt, nI n, yp, yk, yw, yd, yr, ye, yi, yf, yq, yn, yh, yz)
theorem yd_R_F {yd yr ye yi yf yr' ye' yi' yf' : Nat → Int32} (h : yd_R V lev acc p yd yr ye yi yf) (hF : yd_F 15 yr ye yi yf yr' ye' yi' yf') (hM : M ≤ 32) (hlev : lev ≤ 6) (hV : ∀ v, v < 8 → dr_ok M (V v)) (hA : ∀ q A, q ≤ lev → acc q = some A → dr_ok M A) : yd_R V lev acc p yd yr' ye' yi' yf' :=
  ⟨h.1, fun v hv => yd_Vf hF (by omega) hM (hV v hv) (h.2.1 v hv), fun q A hq ha => yd_Vf hF (by omega) hM (hA q A hq ha) (h.2.2 q A hq ha)⟩
section
variable {yc yv yt yu yp : Int32} {yk yw yd yr ye yi yf yq yn yh yz : Nat → Int32}
theorem ye_ends {Q : Int32 → Prop} (hj : j ≤ n) (hn : n ≤ 40) (h1 : dr_set yk j → Q 1) (h0 : ¬ dr_set yk j → Q 0) : wpY_endsOperand Q (yc, yv, yt, nI n, yp, yk, yw, yd, yr, ye, yi, yf, yq, yn, yh, yz) (nI j - 1) := by
  unfold wpY_endsOperand
  dsimp only
  rcases Nat.eq_zero_or_pos j with y | y
  · refine br_t (by rw [y]; decide) (h0 (fun z => ?_))
    have := z.1
    omega
  · rw [na_s1 y]
    refine br_f (nI_pos (by omega)) (br_f (nI_ge (show j - 1 < n by omega) (by omega)) ⟨vp_in_nI (by omega) (by omega), ?_⟩)
    rw [nI_clamp (show j - 1 < 2 ^ 31 by omega)]
    by_cases a : yk (j - 1) = 0
    · exact br_t a (h1 ⟨y, Or.inl a⟩)
    refine br_f a ⟨vp_in_nI (by omega) (by omega), ?_⟩
    by_cases b : yk (j - 1) = 1
    · exact br_t b (h1 ⟨y, Or.inr (Or.inl b)⟩)
    refine br_f b ⟨vp_in_nI (by omega) (by omega), ?_⟩
    by_cases c : yk (j - 1) = 7
    · exact br_t c (h1 ⟨y, Or.inr (Or.inr c)⟩)
    · exact br_f c (h0 (fun z => z.2.elim a (fun z => z.elim b c)))
/-- after an application -/
theorem ye_351 {rc x8 : Int32} {A : dr_A} (hlev : lev ≤ 6) (hM : M ≤ 32) (hV : ∀ v, v < 8 → dr_ok M (V v)) (hA : ∀ q A, q < lev → acc q = some A → dr_ok M A)
    (hR1 : ∀ q, q ≤ lev → yd q = dr_oi (p q)) (hR2 : ∀ v, v < 8 → yd_V yr ye yi yf v (V v)) (hR3 : ∀ q A, q < lev → acc q = some A → yd_V yr ye yi yf (8 + q) A) (h16 : rc = 0 → yd_V yr ye yi yf 16 A ∧ dr_ok M A)
    (H0 : rc = 0 → yd_cont post yv yt yp x1 yk yw M n V lev j (dr_up acc lev (some A)) p f) (H1 : rc ≠ 0 → yd_cerr post yv yt yk yw M n V rc x8) :
    wY_assign_351 post (wY_assign_41 post x1 f) x1 (nI lev) (nI j) x8 rc (nI M) yv yt (nI n) yp yk yw yd yr ye yi yf yq yn yh yz := by
  unfold wY_assign_351 wY_assign_364
  by_cases z : rc = 0
  · refine br_t z (br_t z ?_)
    obtain ⟨h16', hok⟩ := h16 z
    rw [na_pa8]
    refine ya_copy (a := 16) (b := 8 + lev) (by omega) (by omega) (by omega) ?_
    intro yi' yf' hw
    dsimp only
    refine nm_e (H0 z _ _ _ _ _ _ _ _ _ ⟨hR1, fun v hv => ?_, fun q B hq hB => ?_⟩)
    · exact yd_cpV hw (by omega) hM (hV v hv) (hR2 v hv)
    · by_cases e : q = lev
      · subst e
        rw [dr_up_s] at hB
        have e2 := Option.some.inj hB
        subst e2
        exact yd_cpN hw hM hok h16'
      · rw [dr_up_n e] at hB
        exact yd_cpV hw (by omega) hM (hA q B (by omega) hB) (hR3 q B (by omega) hB)
  · refine br_f z (br_f z ?_)
    exact H1 z _ _ _ _ _ _ _ _ _ hR2
/-- an operand is in slot 15 -/
theorem ye_209 {A : dr_A} {x4 : Int32} (hlev : lev ≤ 6) (hM : M ≤ 32) (hM1 : 4 ≤ M) (hV : ∀ v, v < 8 → dr_ok M (V v)) (hA : ∀ q A, q ≤ lev → acc q = some A → dr_ok M A) (okA : dr_ok M A)
    (hR : yd_R V lev acc p yd yr ye yi yf) (h15 : yd_V yr ye yi yf 15 A)
    (Hn : p lev = none → yd_cont post yv yt yp x1 yk yw M n V lev j (dr_up acc lev (some A)) p f)
    (Hs : ∀ t, p lev = some t → ∃ kd code RR, t < 40 ∧ yk t = nI kd ∧ yw t = nI code ∧ ((kd = 2 ∧ code ≤ 13) ∨ (kd = 5 ∧ code ≤ 8)) ∧ acc lev = some RR ∧
      ((dr_dya M kd code A RR).1 = 0 → dr_ok M (dr_dya M kd code A RR).2 ∧ yd_cont post yv yt yp x1 yk yw M n V lev j (dr_up acc lev (some (dr_dya M kd code A RR).2)) (dr_up p lev none) f) ∧
      ((dr_dya M kd code A RR).1 ≠ 0 → yd_cerr post yv yt yk yw M n V (dr_dya M kd code A RR).1 (nI t))) :
    wY_assign_209 post (wY_assign_41 post x1 f) x1 (nI lev) (nI j) x4 0 0 1 (nI M) yv yt (nI n) yp yk yw yd yr ye yi yf yq yn yh yz := by
  obtain ⟨hR1, hR2, hR3⟩ := hR
  have hq := hR1 lev (Nat.le_refl _)
  unfold wY_assign_209
  refine br_t rfl (br_t rfl (br_f (by decide) ⟨vp_in_nI (by omega) (by omega), ?_⟩))
  rw [nI_clamp (show lev < 2 ^ 31 by omega)]
  cases hp : p lev with
  | none =>
    rw [hp] at hq
    have hq' : yd lev = -1 := hq
    rw [hq']
    unfold wY_assign_242
    refine br_f (by decide) (br_t rfl ?_)
    rw [na_pa8]
    refine ya_copy (a := 15) (b := 8 + lev) (by omega) (by omega) (by omega) ?_
    intro yi' yf' hw
    dsimp only
    unfold wY_assign_265 wY_assign_277 wY_assign_284 wY_assign_296
    rw [nI_clamp (show lev < 2 ^ 31 by omega)]
    refine br_f (by decide) ⟨vp_in_nI (by omega) (by omega), nm_e (br_t rfl (br_t rfl (nm_e ?_)))⟩
    refine Hn hp _ _ _ _ _ _ _ _ _ ⟨fun q hq2 => ?_, fun v hv => ?_, fun q B hq2 hB => ?_⟩
    · by_cases e : q = lev
      · rw [e, hp, pk_us]; rfl
      · rw [pk_un e]; exact hR1 q hq2
    · exact yd_cpV hw (by omega) hM (hV v hv) (hR2 v hv)
    · by_cases e : q = lev
      · subst e
        rw [dr_up_s] at hB
        have e2 := Option.some.inj hB
        subst e2
        exact yd_cpN hw hM okA h15
      · rw [dr_up_n e] at hB
        exact yd_cpV hw (by omega) hM (hA q B (by omega) hB) (hR3 q B (by omega) hB)
  | some t =>
    obtain ⟨kd, code, RR, ht, hk, hv, hkc, hacc, H0, H1⟩ := Hs t hp
    rw [hp] at hq
    have hq' : yd lev = nI t := hq
    rw [hq']
    have hne : ¬ nI t = (-1 : Int32) := fun z => (na_m1c (by omega)).mp z
    unfold wY_assign_242 wY_assign_265 wY_assign_277 wY_assign_284 wY_assign_296
    rw [nI_clamp (show lev < 2 ^ 31 by omega), nI_clamp (show t < 2 ^ 31 by omega), hk, hv, na_pa8]
    refine br_f (by decide) (br_f hne (br_f (by decide) ⟨vp_in_nI (by omega) (by omega), nm_e (br_t rfl (br_f hne (br_t rfl ⟨vp_in_nI ht (by omega), vp_in_nI ht (by omega), ?_⟩)))⟩))
    obtain ⟨rl, l0, l1, l2, lel⟩ := A
    obtain ⟨r, e0, e1, e2, el⟩ := RR
    have okR := hA lev _ (Nat.le_refl _) hacc
    refine yo_dya hkc (by omega) hM hM1 okA okR h15 (hR3 lev _ (Nat.le_refl _) hacc) ?_
    intro yr' ye' yi' yf' yq' yn' yh' yz' hF h16
    dsimp only
    refine ye_351 (A := (dr_dya M kd code (rl, l0, l1, l2, lel) (r, e0, e1, e2, el)).2) (acc := acc) (p := dr_up p lev none) hlev hM hV (fun q A hq ha => hA q A (by omega) ha) (fun q hq2 => ?_) (fun v hv => yd_Vf hF (by omega) hM (hV v hv) (hR2 v hv)) (fun q A hq ha => yd_Vf hF (by omega) hM (hA q A (by omega) ha) (hR3 q A (by omega) ha)) (fun z => ⟨h16 z, (H0 z).1⟩) (fun z => (H0 z).2) H1
    by_cases e : q = lev
    · rw [e, dr_up_s, pk_us]; rfl
    · rw [dr_up_n e, pk_un e]; exact hR1 q hq2
end
theorem ye_close (hj : j < n) (hn : n ≤ 40) (hk : yk j = 7) (hlev : lev + 1 ≤ 6) (hacc : acc (lev + 1) = none) (H : yd_cont post yv yt yp x1 yk yw M n V (lev + 1) j acc (dr_up p (lev + 1) none) f) :
    yd_cont post yv yt yp x1 yk yw M n V lev (j + 1) acc p (f + 1) := by
  intro yd yr ye yi yf yq yn yh yz hR
  obtain ⟨hR1, hR2, hR3⟩ := hR
  rw [wY_assign_41, pk_m1]
  dsimp only
  rw [nI_clamp (show j < 2 ^ 31 by omega), hk]
  refine br_f (nI_pos (by omega)) ⟨vp_in_nI (by omega) (by omega), nm_e (br_f (by decide) (br_t (by decide) ?_))⟩
  unfold wY_assign_69 wY_assign_70 wY_assign_91 wY_assign_92
  refine br_t rfl (br_f (by decide) (br_f (by decide) (br_f (by decide) ?_)))
  unfold wY_assign_131 wY_assign_132 wY_assign_144 wY_assign_162 wY_assign_179 wY_assign_193
  refine br_f (by decide) (br_f (by decide) (br_f (by decide) (br_f (by decide) (br_t rfl (br_f (nI_ge (b := 6) (by omega) (by omega)) (nm_r (nI_1 lev) ?_))))))
  unfold wY_assign_209 wY_assign_242 wY_assign_265
  refine br_t rfl (br_t rfl (br_t rfl (br_t rfl (br_t rfl (br_t rfl ?_)))))
  unfold wY_assign_277 wY_assign_284 wY_assign_296
  rw [nI_clamp (show lev + 1 < 2 ^ 31 by omega)]
  refine ⟨vp_in_nI (by omega) (by omega), nm_e (br_t rfl (br_t rfl (nm_e ?_)))⟩
  refine H _ _ _ _ _ _ _ _ _ ⟨fun q hq => ?_, hR2, fun q A hq hA => ?_⟩
  · by_cases e : q = lev + 1
    · rw [e, dr_up_s, pk_us]; rfl
    · rw [dr_up_n e, pk_un e]; exact hR1 q (by omega)
  · by_cases e : q = lev + 1
    · rw [e, hacc] at hA; cases hA
    · exact hR3 q A (by omega) hA
theorem ye_skip (hj : j < n) (hn : n ≤ 40) (hk : yk j = 0) (hj0 : 0 < j) (hk1 : yk (j - 1) = 0) (hlev : lev ≤ 6) (hM : M ≤ 32) (hV : ∀ v, v < 8 → dr_ok M (V v)) (hA : ∀ q A, q ≤ lev → acc q = some A → dr_ok M A)
    (H : yd_cont post yv yt yp x1 yk yw M n V lev j acc p f) : yd_cont post yv yt yp x1 yk yw M n V lev (j + 1) acc p (f + 1) := by
  intro yd yr ye yi yf yq yn yh yz hR
  rw [wY_assign_41, pk_m1]
  dsimp only
  rw [nI_clamp (show j < 2 ^ 31 by omega), hk]
  refine br_f (nI_pos (by omega)) ⟨vp_in_nI (by omega) (by omega), nm_e (br_t (by decide) ?_)⟩
  unfold wY_assign_69 wY_assign_70 wY_assign_91 wY_assign_92
  rw [na_s1 (by omega), nI_clamp (show j - 1 < 2 ^ 31 by omega)]
  refine br_t rfl (br_f (by decide) (br_f (by decide) (br_t rfl (br_f (nI_ne0 hj0 (by omega)) ⟨vp_in_nI (by omega) (by omega), br_t hk1 ?_⟩))))
  unfold wY_assign_131 wY_assign_132
  refine br_t rfl ?_
  refine ya_num hn (by omega) ?_
  intro yr' ye' yi' yf' hF _
  dsimp only
  unfold wY_assign_144 wY_assign_162 wY_assign_179 wY_assign_193
  refine br_f (by decide) (br_f (by decide) (br_f (by decide) (br_f (by decide) ?_)))
  unfold wY_assign_209 wY_assign_242 wY_assign_265 wY_assign_284 wY_assign_296
  refine br_t rfl (br_t rfl (br_t rfl (br_t rfl (br_t rfl (br_f (by decide) (br_t rfl (br_t rfl (nm_e ?_))))))))
  exact H _ _ _ _ _ _ _ _ _ (yd_R_F hR hF hM hlev hV hA)
theorem ye_wait {kd : Nat} (hj : j < n) (hn : n ≤ 40) (hk : yk j = nI kd) (hkd : 2 ≤ kd ∧ kd ≤ 5) (hset : dr_set yk j) (hlev : lev ≤ 6) (H : yd_cont post yv yt yp x1 yk yw M n V lev j acc (dr_up p lev (some j)) f) :
    yd_cont post yv yt yp x1 yk yw M n V lev (j + 1) acc p (f + 1) := by
  intro yd yr ye yi yf yq yn yh yz hR
  obtain ⟨hR1, hR2, hR3⟩ := hR
  have n1 : ¬ nI kd = (1 : Int32) := fun z => by have := (na_e1 (by omega)).mp z; omega
  have n0 : ¬ nI kd = (0 : Int32) := nI_ne0 (by omega) (by omega)
  have n6 : ¬ nI kd = (6 : Int32) := fun z => by have := (na_e6 (by omega)).mp z; omega
  have n7 : ¬ nI kd = (7 : Int32) := fun z => by have := (na_e7 (by omega)).mp z; omega
  rw [wY_assign_41, pk_m1]
  dsimp only
  rw [nI_clamp (show j < 2 ^ 31 by omega), hk]
  refine br_f (nI_pos (by omega)) ⟨vp_in_nI (by omega) (by omega), nm_e (br_f (nI_nlt (b := 2) (by omega) (by omega)) (br_f (nI_nlt (a := 5) (by omega) (by omega)) ?_))⟩
  unfold wY_assign_70
  refine br_f (by decide) (ye_ends (by omega) hn (fun _ => br_f (by decide) ?_) (fun z => absurd hset z))
  unfold wY_assign_92
  refine br_f n1 (br_f n6 (br_f n0 ?_))
  unfold wY_assign_131 wY_assign_132 wY_assign_144 wY_assign_162 wY_assign_179 wY_assign_193
  refine br_f n0 (br_f n1 (br_f n6 (br_f n6 (br_f n7 ?_))))
  unfold wY_assign_209 wY_assign_242 wY_assign_265 wY_assign_284 wY_assign_296
  rw [nI_clamp (show lev < 2 ^ 31 by omega)]
  refine br_f (by decide) (br_t rfl (br_t rfl (br_f n7 (br_f (by decide) ⟨vp_in_nI (by omega) (by omega), nm_e (br_t rfl (nm_e ?_))⟩))))
  refine H _ _ _ _ _ _ _ _ _ ⟨fun q hq => ?_, hR2, hR3⟩
  by_cases e : q = lev
  · rw [e, dr_up_s, pk_us]; rfl
  · rw [dr_up_n e, pk_un e]; exact hR1 q hq
theorem ye_mon {kd code : Nat} {A : dr_A} (hj : j < n) (hn : n ≤ 40) (hk : yk j = nI kd) (hv : yw j = nI code) (hkc : (kd = 2 ∧ code ≤ 14) ∨ (kd = 3 ∧ code ≤ 8) ∨ (kd = 4 ∧ code ≤ 8)) (hset : ¬ dr_set yk j) (hacc : acc lev = some A)
    (hlev : lev ≤ 6) (hM : M ≤ 32) (hM1 : 4 ≤ M) (hV : ∀ v, v < 8 → dr_ok M (V v)) (hA : ∀ q A, q ≤ lev → acc q = some A → dr_ok M A)
    (H0 : (dr_mon M kd code A).1 = 0 → dr_ok M (dr_mon M kd code A).2 ∧ yd_cont post yv yt yp x1 yk yw M n V lev j (dr_up acc lev (some (dr_mon M kd code A).2)) p f)
    (H1 : (dr_mon M kd code A).1 ≠ 0 → yd_cerr post yv yt yk yw M n V (dr_mon M kd code A).1 (nI j)) :
    yd_cont post yv yt yp x1 yk yw M n V lev (j + 1) acc p (f + 1) := by
  intro yd yr ye yi yf yq yn yh yz hR
  obtain ⟨hR1, hR2, hR3⟩ := hR
  have n1 : ¬ nI kd = (1 : Int32) := fun z => by have := (na_e1 (by omega)).mp z; omega
  have n0 : ¬ nI kd = (0 : Int32) := nI_ne0 (by omega) (by omega)
  have n6 : ¬ nI kd = (6 : Int32) := fun z => by have := (na_e6 (by omega)).mp z; omega
  have n7 : ¬ nI kd = (7 : Int32) := fun z => by have := (na_e7 (by omega)).mp z; omega
  rw [wY_assign_41, pk_m1]
  dsimp only
  rw [nI_clamp (show j < 2 ^ 31 by omega), hk]
  refine br_f (nI_pos (by omega)) ⟨vp_in_nI (by omega) (by omega), nm_e (br_f (nI_nlt (b := 2) (by omega) (by omega)) (br_f (nI_nlt (a := 5) (by omega) (by omega)) ?_))⟩
  unfold wY_assign_70
  refine br_f (by decide) (ye_ends (by omega) hn (fun z => absurd z hset) (fun _ => br_t rfl ?_))
  unfold wY_assign_91 wY_assign_92
  refine br_f n1 (br_f n6 (br_f n0 ?_))
  unfold wY_assign_131 wY_assign_132 wY_assign_144 wY_assign_162 wY_assign_179 wY_assign_193
  refine br_f n0 (br_f n1 (br_f n6 (br_f n6 (br_f n7 ?_))))
  unfold wY_assign_209 wY_assign_242 wY_assign_265 wY_assign_284 wY_assign_296
  rw [nI_clamp (show j < 2 ^ 31 by omega), hv, na_pa8]
  refine br_t rfl (br_f (by decide) (br_t rfl (br_t rfl (br_f n7 (br_t rfl (br_f (fun z => (na_m1c (by omega)).mp z) (br_f (by decide) ⟨vp_in_nI (by omega) (by omega), ?_⟩)))))))
  obtain ⟨r, e0, e1, e2, el⟩ := A
  have ok := hA lev _ (Nat.le_refl _) hacc
  refine yo_mon hkc (by omega) hM hM1 ok (hR3 lev _ (Nat.le_refl _) hacc) ?_
  intro yr' ye' yi' yf' yq' yn' yh' yz' hF h16
  dsimp only
  exact ye_351 (A := (dr_mon M kd code (r, e0, e1, e2, el)).2) (acc := acc) (p := p) hlev hM hV (fun q A hq ha => hA q A (by omega) ha) hR1 (fun v hv => yd_Vf hF (by omega) hM (hV v hv) (hR2 v hv)) (fun q A hq ha => yd_Vf hF (by omega) hM (hA q A (by omega) ha) (hR3 q A (by omega) ha)) (fun z => ⟨h16 z, (H0 z).1⟩) (fun z => (H0 z).2) H1
theorem ye_var {v : Nat} (hj : j < n) (hn : n ≤ 40) (hk : yk j = 1) (hv : yw j = nI v) (hv8 : v < 8) (hlev : lev ≤ 6) (hM : M ≤ 32) (hV : ∀ v, v < 8 → dr_ok M (V v)) (hA : ∀ q A, q ≤ lev → acc q = some A → dr_ok M A)
    (H : ∀ yd yr ye yi yf yq yn yh yz : Nat → Int32, yd_R V lev acc p yd yr ye yi yf → yd_V yr ye yi yf 15 (V v) → wY_assign_209 post (wY_assign_41 post x1 f) x1 (nI lev) (nI j) 1 0 0 1 (nI M) yv yt (nI n) yp yk yw yd yr ye yi yf yq yn yh yz) :
    yd_cont post yv yt yp x1 yk yw M n V lev (j + 1) acc p (f + 1) := by
  intro yd yr ye yi yf yq yn yh yz hR
  rw [wY_assign_41, pk_m1]
  dsimp only
  rw [nI_clamp (show j < 2 ^ 31 by omega), hk]
  refine br_f (nI_pos (by omega)) ⟨vp_in_nI (by omega) (by omega), nm_e (br_t (by decide) ?_)⟩
  unfold wY_assign_69 wY_assign_70 wY_assign_91 wY_assign_92
  refine br_t rfl (br_t rfl ?_)
  unfold wY_assign_127 wY_assign_132 wY_assign_144
  rw [nI_clamp (show j < 2 ^ 31 by omega), hv]
  refine br_f (by decide) (br_t rfl ⟨vp_in_nI (by omega) (by omega), ?_⟩)
  refine ya_copy (a := v) (b := 15) (by omega) (by omega) (by omega) ?_
  intro yi' yf' hw
  dsimp only
  unfold wY_assign_162 wY_assign_179 wY_assign_193
  refine br_f (by decide) (br_f (by decide) (br_f (by decide) ?_))
  exact H _ _ _ _ _ _ _ _ _ (yd_R_F hR (yd_cpF (x := yr v) (x0 := ye (v * 3)) (x1 := ye (v * 3 + 1)) (x2 := ye (v * 3 + 2)) hw) hM hlev hV hA) (yd_cpN hw hM (hV v hv8) (hR.2.1 v hv8))
theorem ye_num (hj : j < n) (hn : n ≤ 40) (hk : yk j = 0) (hle : j = 0 ∨ yk (j - 1) ≠ 0) (hlev : lev ≤ 6) (hM : M ≤ 32) (hV : ∀ v, v < 8 → dr_ok M (V v)) (hA : ∀ q A, q ≤ lev → acc q = some A → dr_ok M A)
    (H : ∀ yd yr ye yi yf yq yn yh yz : Nat → Int32, yd_R V lev acc p yd yr ye yi yf → yd_V yr ye yi yf 15 (dr_num yk yw n j) → wY_assign_209 post (wY_assign_41 post x1 f) x1 (nI lev) (nI j) 0 0 0 1 (nI M) yv yt (nI n) yp yk yw yd yr ye yi yf yq yn yh yz) :
    yd_cont post yv yt yp x1 yk yw M n V lev (j + 1) acc p (f + 1) := by
  intro yd yr ye yi yf yq yn yh yz hR
  have k127 : wY_assign_127 post (wY_assign_41 post x1 f) x1 (nI lev) (nI j) 0 0 0 (nI M) yv yt (nI n) yp yk yw yd yr ye yi yf yq yn yh yz := by
    unfold wY_assign_127 wY_assign_132
    refine br_t rfl ?_
    refine ya_num hn (by omega) ?_
    intro yr' ye' yi' yf' hF h15
    dsimp only
    unfold wY_assign_144 wY_assign_162 wY_assign_179 wY_assign_193
    refine br_f (by decide) (br_f (by decide) (br_f (by decide) (br_f (by decide) ?_)))
    exact H _ _ _ _ _ _ _ _ _ (yd_R_F hR hF hM hlev hV hA) h15
  rw [wY_assign_41, pk_m1]
  dsimp only
  rw [nI_clamp (show j < 2 ^ 31 by omega), hk]
  refine br_f (nI_pos (by omega)) ⟨vp_in_nI (by omega) (by omega), nm_e (br_t (by decide) ?_)⟩
  unfold wY_assign_69 wY_assign_70 wY_assign_91 wY_assign_92
  refine br_t rfl (br_f (by decide) (br_f (by decide) (br_t rfl ?_)))
  rcases Nat.eq_zero_or_pos j with y | y
  · exact br_t (by rw [y]; rfl) k127
  · rw [na_s1 (by omega), nI_clamp (show j - 1 < 2 ^ 31 by omega)]
    exact br_f (nI_ne0 y (by omega)) ⟨vp_in_nI (by omega) (by omega), br_f (hle.resolve_left (by omega)) k127⟩
theorem ye_open {A : dr_A} (hj : j < n) (hn : n ≤ 40) (hk : yk j = 6) (hlev : lev + 1 ≤ 6) (hacc : acc (lev + 1) = some A) (hM : M ≤ 32) (hV : ∀ v, v < 8 → dr_ok M (V v)) (hA : ∀ q A, q ≤ lev + 1 → acc q = some A → dr_ok M A)
    (H : ∀ yd yr ye yi yf yq yn yh yz : Nat → Int32, yd_R V lev acc p yd yr ye yi yf → yd_V yr ye yi yf 15 A → wY_assign_209 post (wY_assign_41 post x1 f) x1 (nI lev) (nI j) 6 0 0 1 (nI M) yv yt (nI n) yp yk yw yd yr ye yi yf yq yn yh yz) :
    yd_cont post yv yt yp x1 yk yw M n V (lev + 1) (j + 1) acc p (f + 1) := by
  intro yd yr ye yi yf yq yn yh yz hR
  rw [wY_assign_41, pk_m1]
  dsimp only
  rw [nI_clamp (show j < 2 ^ 31 by omega), hk]
  refine br_f (nI_pos (by omega)) ⟨vp_in_nI (by omega) (by omega), nm_e (br_f (by decide) (br_t (by decide) ?_))⟩
  unfold wY_assign_69 wY_assign_70 wY_assign_91 wY_assign_92
  refine br_t rfl (br_f (by decide) (br_t rfl ?_))
  unfold wY_assign_127 wY_assign_132 wY_assign_144 wY_assign_162
  rw [na_pa8]
  refine br_f (by decide) (br_f (by decide) (br_t rfl ?_))
  refine ya_copy (a := 8 + (lev + 1)) (b := 15) (by omega) (by omega) (by omega) ?_
  intro yi' yf' hw
  dsimp only
  unfold wY_assign_179 wY_assign_193
  refine br_t rfl (br_f (nI_nle (by omega) (by omega)) (nm_r (pk_m1 lev) (br_f (by decide) ?_)))
  have hR' := yd_R_F hR (yd_cpF (x := yr (8 + (lev + 1))) (x0 := ye ((8 + (lev + 1)) * 3)) (x1 := ye ((8 + (lev + 1)) * 3 + 1)) (x2 := ye ((8 + (lev + 1)) * 3 + 2)) hw) hM hlev hV hA
  exact H _ _ _ _ _ _ _ _ _ ⟨fun q hq => hR'.1 q (by omega), hR'.2.1, fun q B hq hB => hR'.2.2 q B (by omega) hB⟩ (yd_cpN hw hM (hA _ _ (Nat.le_refl _) hacc) (hR.2.2 _ _ (Nat.le_refl _) hacc))
end
end
section
theorem dr_if_p {α : Type} {P : Prop} {a b : α} {Q : α → Prop} (h1 : P → Q a) (h0 : ¬ P → Q b) : Q (dr_if P a b) := by
  by_cases h : P
  · rw [dr_if_t h]; exact h1 h
  · rw [dr_if_f h]; exact h0 h
theorem dr_ite_p {α : Type} {P : Prop} [Decidable P] {a b : α} {Q : α → Prop} (h1 : P → Q a) (h0 : ¬ P → Q b) : Q (if P then a else b) := by
  by_cases h : P
  · rw [if_pos h]; exact h1 h
  · rw [if_neg h]; exact h0 h
theorem dr_mon_ok {M kd code : Nat} (hM : M ≤ 32) (hM1 : 4 ≤ M) : ∀ {A : dr_A}, dr_ok M A → dr_ok M (dr_mon M kd code A).2 := by
  rintro ⟨r, e0, e1, e2, el⟩ h
  have h' := h
  obtain ⟨k1, k2, k3, k4, k5, k6, k7, k8, k9⟩ := h'
  unfold dr_mon
  refine dr_ite_p (Q := fun z : Int32 × dr_A => dr_ok M z.2) (fun _ => ?_) (fun _ => ?_)
  · unfold dr_red
    refine dr_ite_p (Q := fun z : Int32 × dr_A => dr_ok M z.2) (fun _ => h) (fun z => dr_ite_p (Q := fun z : Int32 × dr_A => dr_ok M z.2) (fun _ => h) (fun y => ?_))
    exact dr_red_ok h (by omega) (by omega)
  refine dr_ite_p (Q := fun z : Int32 × dr_A => dr_ok M z.2) (fun _ => ?_) (fun _ => ?_)
  · unfold dr_scan
    show dr_ok M (if r = 0 then _ else _)
    refine dr_ite_p (Q := fun z => dr_ok M z) (fun _ => h) (fun z => ?_)
    exact dr_scan_ok h (by omega)
  refine dr_ite_p (Q := fun z : Int32 × dr_A => dr_ok M z.2) (fun _ => ?_) (fun _ => ?_)
  · exact ⟨k1, k2, k3, k4, k5, k6, k7, k8, fun i hi => dr_mv_ok (k9 i hi)⟩
  refine dr_ite_p (Q := fun z : Int32 × dr_A => dr_ok M z.2) (fun _ => ?_) (fun _ => ?_)
  · unfold dr_iota
    refine dr_ite_p (Q := fun z : Int32 × dr_A => dr_ok M z.2) (fun _ => h) (fun _ => dr_ite_p (Q := fun z : Int32 × dr_A => dr_ok M z.2) (fun _ => h) (fun _ => dr_ite_p (Q := fun z : Int32 × dr_A => dr_ok M z.2) (fun _ => h) (fun _ => dr_ite_p (Q := fun z : Int32 × dr_A => dr_ok M z.2) (fun _ => h) (fun z => dr_ite_p (Q := fun z : Int32 × dr_A => dr_ok M z.2) (fun _ => h) (fun y => ?_)))))
    obtain ⟨j, hj, e⟩ := nI_of (x := (el 0).1) z
    rw [e] at y
    have hjM : j ≤ M := by
      rcases Nat.lt_or_ge M j with w | w
      · exact absurd (nI_lt w hj) y
      · exact w
    show dr_ok M (1, (el 0).1.toNatClampNeg, 1, 1, fun i => (nI i, 0))
    rw [e, nI_clamp hj]
    exact ⟨by omega, by omega, by omega, by omega, fun z => by omega, fun _ => rfl, fun _ => rfl, by omega, fun i _ => ⟨Or.inl rfl, fun z => absurd rfl z⟩⟩
  refine dr_ite_p (Q := fun z : Int32 × dr_A => dr_ok M z.2) (fun _ => ?_) (fun _ => ?_)
  · exact ⟨by omega, by omega, by omega, by omega, fun z => by omega, fun _ => rfl, fun _ => rfl, by omega, fun i _ => ⟨Or.inl rfl, fun z => absurd rfl z⟩⟩
  refine dr_ite_p (Q := fun z : Int32 × dr_A => dr_ok M z.2) (fun _ => ?_) (fun _ => ?_)
  · refine ⟨by omega, by omega, by omega, by omega, fun _ => rfl, fun _ => rfl, fun _ => rfl, by omega, fun i _ => ?_⟩
    show dr_eok (if e0 * e1 * e2 = 0 then (0, 0) else el 0)
    refine dr_ite_p (Q := fun z => dr_eok z) (fun _ => dr_eok0) (fun z => k9 0 (by omega))
  refine dr_ite_p (Q := fun z : Int32 × dr_A => dr_ok M z.2) (fun _ => ?_) (fun _ => ?_)
  · exact dr_rsh_ok h (by omega) (by omega) (by omega) (by omega) (fun z => by omega) (fun _ => rfl) (fun _ => rfl) (by omega)
  refine dr_ite_p (Q := fun z : Int32 × dr_A => dr_ok M z.2) (fun _ => ?_) (fun _ => dr_rax_ok h)
  rcases Nat.eq_zero_or_pos r with y | y
  · refine ⟨k1, k2, k3, k4, k5, k6, k7, k8, fun i hi => k9 _ ?_⟩
    have a0 := k5 y
    have a1 := k6 (by omega)
    have a2 := k7 (by omega)
    subst a0 a1 a2 y
    unfold dr_le
    simp
    omega
  · exact dr_rev_ok h y
theorem dr_out_ok2 {M : Nat} {c : Int32} : ∀ {L R : dr_A}, dr_ok M L → dr_ok M R → dr_ok M (dr_out M c L R).2 := by
  rintro ⟨rl, l0, l1, l2, lel⟩ ⟨r, e0, e1, e2, el⟩ hL hR
  unfold dr_out
  exact dr_ite_p (Q := fun z : Int32 × dr_A => dr_ok M z.2) (fun _ => hR) (fun a => dr_ite_p (Q := fun z : Int32 × dr_A => dr_ok M z.2) (fun _ => hR) (fun b => dr_out_ok hL hR (by omega) (by omega)))
theorem dr_dya_ok {M kd code : Nat} (hM : M ≤ 32) (hM1 : 4 ≤ M) (hk : (kd = 2 ∧ code ≤ 13) ∨ (kd = 5 ∧ code ≤ 8)) : ∀ {L R : dr_A}, dr_ok M L → dr_ok M R → dr_ok M (dr_dya M kd code L R).2 := by
  rintro ⟨rl, l0, l1, l2, lel⟩ ⟨r, e0, e1, e2, el⟩ hL hR
  have hL' := hL
  have hR' := hR
  obtain ⟨k1, k2, k3, k4, k5, k6, k7, k8, k9⟩ := hL'
  obtain ⟨j1, j2, j3, j4, j5, j6, j7, j8, j9⟩ := hR'
  unfold dr_dya
  refine dr_ite_p (Q := fun z : Int32 × dr_A => dr_ok M z.2) (fun _ => dr_out_ok2 hL hR) (fun _ => ?_)
  refine dr_ite_p (Q := fun z : Int32 × dr_A => dr_ok M z.2) (fun _ => ?_) (fun hc => ?_)
  · unfold dr_pw
    refine dr_ite_p (Q := fun z : Int32 × dr_A => dr_ok M z.2) (fun _ => dr_out_ok2 hL hR) (fun _ => dr_ite_p (Q := fun z : Int32 × dr_A => dr_ok M z.2) (fun _ => hR) (fun _ => dr_ite_p (Q := fun z : Int32 × dr_A => dr_ok M z.2) (fun _ => hR) (fun b => ?_)))
    have b' := Classical.not_not.mp b
    obtain ⟨rfl, rfl, rfl⟩ := b'
    exact ⟨j1, j2, j3, j4, j5, j6, j7, j8, fun i hi => dr_pv_ok (k9 i hi) (j9 i hi)⟩
  unfold dr_str
  refine dr_ite_p (Q := fun z : Int32 × dr_A => dr_ok M z.2) (fun _ => hR) (fun _ => dr_if_p (Q := fun z : Int32 × dr_A => dr_ok M z.2) (fun _ => hR) (fun hl => dr_if_p (Q := fun z : Int32 × dr_A => dr_ok M z.2) (fun _ => hR) (fun _ => ?_)))
  have hl' := Classical.not_not.mp hl
  unfold dr_st2
  refine dr_ite_p (Q := fun z : Int32 × dr_A => dr_ok M z.2) (fun h9 => ?_) (fun h9 => ?_)
  · rw [if_pos h9] at hl'
    unfold dr_reshape
    refine dr_if_p (Q := fun z : Int32 × dr_A => dr_ok M z.2) (fun _ => hR) (fun hI => dr_if_p (Q := fun z : Int32 × dr_A => dr_ok M z.2) (fun _ => hR) (fun hJ => dr_ite_p (Q := fun z : Int32 × dr_A => dr_ok M z.2) (fun _ => hR) (fun hp => ?_)))
    have hx : ∀ p, dr_cx l0 (fun p => (lel p).1) p ≤ 32 := by
      intro p
      unfold dr_cx
      refine dr_ite_p (Q := fun z => z ≤ 32) (fun z => ?_) (fun _ => by omega)
      obtain ⟨j, hj, e⟩ := nI_of (x := (lel p).1) (fun w => hI ⟨p, z, w⟩)
      show ((lel p).1).toNatClampNeg ≤ 32
      rw [e, nI_clamp hj]
      rcases Nat.lt_or_ge M j with y | y
      · exact absurd ⟨p, z, by show nI M < (lel p).1; rw [e]; exact nI_lt y hj⟩ hJ
      · omega
    exact dr_rsh_ok hR hl' (hx 0) (hx 1) (hx 2) (fun z => by unfold dr_cx; rw [if_neg (by omega)]) (fun z => by unfold dr_cx; rw [if_neg (by omega)]) (fun z => by unfold dr_cx; rw [if_neg (by omega)]) (by omega)
  rw [if_neg h9] at hl'
  refine dr_ite_p (Q := fun z : Int32 × dr_A => dr_ok M z.2) (fun h10 => ?_) (fun h10 => ?_)
  · rw [if_neg (by omega)] at hl'
    subst hl'
    unfold dr_take
    refine dr_if_p (Q := fun z : Int32 × dr_A => dr_ok M z.2) (fun _ => hR) (fun hI => dr_ite_p (Q := fun z : Int32 × dr_A => dr_ok M z.2) (fun _ => hR) (fun hp => ?_))
    exact (dr_take_ok hR hM hI (by omega)).1
  refine dr_ite_p (Q := fun z : Int32 × dr_A => dr_ok M z.2) (fun h11 => ?_) (fun h11 => ?_)
  · rw [if_neg (by omega)] at hl'
    subst hl'
    exact dr_drop_ok hR
  refine dr_ite_p (Q := fun z : Int32 × dr_A => dr_ok M z.2) (fun h12 => dr_rot_ok hR) (fun h12 => ?_)
  rw [if_neg (by omega)] at hl'
  subst hl'
  unfold dr_trn
  refine dr_if_p (Q := fun z : Int32 × dr_A => dr_ok M z.2) (fun _ => hR) (fun hI => dr_if_p (Q := fun z : Int32 × dr_A => dr_ok M z.2) (fun _ => hR) (fun hJ => ?_))
  refine dr_trn_ok hR (fun p hp => ?_)
  have w1 : ¬ (lel p).1 < 0 := fun w => hI ⟨p, hp, Or.inl w⟩
  have w2 : ¬ nI l0 ≤ (lel p).1 := fun w => hI ⟨p, hp, Or.inr w⟩
  obtain ⟨j, hj, e⟩ := nI_of w1
  unfold dr_nd
  show ((lel p).1).toNatClampNeg < l0
  rw [e, nI_clamp hj]
  rw [e] at w2
  rcases Nat.lt_or_ge j l0 with y | y
  · exact y
  · exact absurd (nI_le y hj) w2
end
section
def xd_fin (post : Int32 → SX → Prop) (z0 z1 z2 z3 vc mt oc ep : Int32) (tk tv br be m0 f0 : Nat → Int32) (M n : Nat) (rc pl : Int32) (A : dr_A) : Prop :=
  (rc = 0 → ∀ (pd : Nat → Int32) (u : SX) (U : Nat → Prop), (∀ t, U t → t < 40) → xd_R (z0, z1, z2, z3, nI M, vc, mt, nI n, oc, ep, tk, tv, br, be, pd) m0 f0 M U [A] 46 u → post 0 u) ∧ (rc ≠ 0 → xd_cerr post z0 z1 z2 z3 vc mt oc tk tv br be m0 f0 M n rc pl)
def yd_fin (post : Int32 → SY → Prop) (yv yt : Int32) (yk yw : Nat → Int32) (M n w : Nat) (V : Nat → dr_A) (rc pl : Int32) (A : dr_A) : Prop :=
  (rc = 0 → ∀ yd yr ye yi yf yq yn yh yz : Nat → Int32, (∀ v, v < 8 → v ≠ w → yd_V yr ye yi yf v (V v)) → yd_V yr ye yi yf w A → post 0 (nI M, yv, yt, 0, -1, yk, yw, yd, yr, ye, yi, yf, yq, yn, yh, yz)) ∧ (rc ≠ 0 → yd_cerr post yv yt yk yw M n V rc pl)
def xd_vr (br be m0 f0 : Nat → Int32) (v : Nat) : dr_A → Prop
  | (r, e0, e1, e2, el) => br v = nI r ∧ be (3 * v) = nI e0 ∧ be (3 * v + 1) = nI e1 ∧ be (3 * v + 2) = nI e2 ∧ ∀ i, i < e0 * e1 * e2 → m0 (32 * v + i) = (el i).1 ∧ f0 (32 * v + i) = (el i).2
def dr_res (z0 z1 z2 z3 vc mt oc ep yv yt yp : Int32) (tk tv br be m0 f0 : Nat → Int32) (M n w : Nat) (V : Nat → dr_A) (i lev : Nat) (acc : Nat → Option dr_A) (p : Nat → Option Nat) (U : Nat → Prop) : Prop :=
  ∃ (rc pl : Int32) (A : dr_A), (rc = 0 → dr_ok M A) ∧
    (∀ post, xd_fin post z0 z1 z2 z3 vc mt oc ep tk tv br be m0 f0 M n rc pl A → ∀ f B, i < f → B ≤ n - i + 1 → (dr_rdy tk n i → B ≤ n - i) → xd_cont post z0 z1 z2 z3 vc mt oc ep tk tv br be m0 f0 M n lev i (dr_stk acc (lev + 1)) p U B f) ∧
    (∀ post, yd_fin post yv yt tk tv M n w V rc pl A → ∀ f, i < f → yd_cont post yv yt yp (nI w) tk tv M n V lev i acc p f)
def dr_res2 (z0 z1 z2 z3 vc mt oc ep yv yt yp : Int32) (tk tv br be m0 f0 : Nat → Int32) (M n w : Nat) (V : Nat → dr_A) (j lev : Nat) (acc : Nat → Option dr_A) (p : Nat → Option Nat) (U : Nat → Prop) (A : dr_A) : Prop :=
  ∃ (rc pl : Int32) (RR : dr_A), (rc = 0 → dr_ok M RR) ∧
    (∀ post, xd_fin post z0 z1 z2 z3 vc mt oc ep tk tv br be m0 f0 M n rc pl RR → ∀ f B, j < f → B ≤ n - j + 1 → ∀ (pd : Nat → Int32) (u : SX), (∀ q, q ≤ lev → pd q = dr_oi (p q)) → xd_R (z0, z1, z2, z3, nI M, vc, mt, nI n, oc, ep, tk, tv, br, be, pd) m0 f0 M U (A :: dr_stk acc (lev + 1)) B u → xd_163 post f (nI lev) (nI j) u) ∧
    (∀ post, yd_fin post yv yt tk tv M n w V rc pl RR → ∀ f, j < f → ∀ (x4 : Int32) (yd yr ye yi yf yq yn yh yz : Nat → Int32), yd_R V lev acc p yd yr ye yi yf → yd_V yr ye yi yf 15 A → wY_assign_209 post (wY_assign_41 post (nI w) f) (nI w) (nI lev) (nI j) x4 0 0 1 (nI M) yv yt (nI n) yp tk tv yd yr ye yi yf yq yn yh yz)
section
variable {z0 z1 z2 z3 vc mt oc ep yv yt yp : Int32} {tk tv br be m0 f0 : Nat → Int32} {M n w : Nat} {V : Nat → dr_A} {j lev : Nat} {acc : Nat → Option dr_A} {p : Nat → Option Nat} {U : Nat → Prop}
theorem dr_opd {A : dr_A} (hM : M ≤ 32) (hM1 : 4 ≤ M) (hn : n ≤ 40) (hV : ∀ v, v < 8 → dr_ok M (V v)) (hj : j < n) (hdep : dr_dep tk j = lev) (hlev : lev ≤ 6)
    (h1 : ∀ q, q ≤ lev → (acc q = none ↔ p q = none)) (hset : ¬ dr_set tk j) (h3 : ∀ q t, q ≤ lev → p q = some t → j ≤ t ∧ t < n ∧ ¬ U t ∧ dr_dt tk tv t) (h4 : ∀ q q' t, q ≤ lev → q' ≤ lev → p q = some t → p q' = some t → q = q')
    (h5 : ∀ t, U t → j ≤ t ∧ t < n) (hA : ∀ q A, q ≤ lev → acc q = some A → dr_ok M A) (okA : dr_ok M A)
    (IH : ∀ acc' p' U', dr_inv M tk tv n j lev acc' p' U' → dr_res z0 z1 z2 z3 vc mt oc ep yv yt yp tk tv br be m0 f0 M n w V j lev acc' p' U') : dr_res2 z0 z1 z2 z3 vc mt oc ep yv yt yp tk tv br be m0 f0 M n w V j lev acc p U A := by
  have hnr : ¬ dr_rdy tk n j := fun z => z.elim (fun z => by omega) hset
  have okup : ∀ B, dr_ok M B → ∀ q C, q ≤ lev → dr_up acc lev (some B) q = some C → dr_ok M C := by
    intro B hB q C hq hC
    by_cases e : q = lev
    · rw [e, dr_up_s] at hC
      exact Option.some.inj hC ▸ hB
    · rw [dr_up_n e] at hC
      exact hA q C hq hC
  cases hp : p lev with
  | none =>
    have ha : acc lev = none := (h1 lev (Nat.le_refl _)).mpr hp
    obtain ⟨rc, pl, RR, k1, k2, k3⟩ := IH (dr_up acc lev (some A)) p U ⟨by omega, hdep, hlev, fun q hq => by rw [dr_up_n (by omega)]; exact h1 q (by omega), fun z => absurd z hnr, fun _ => ⟨by rw [dr_up_s]; exact Option.some_ne_none _, hp⟩, h3, h4, h5, okup A okA⟩
    refine ⟨rc, pl, RR, k1, fun post hf f B hjf hB pd u hpd R => ?_, fun post hf f hjf x4 yd yr ye yi yf yq yn yh yz hR h15 => ?_⟩
    · rw [dr_stk_none ha] at R
      have c := k2 post hf f B hjf hB (fun z => absurd z hnr)
      rw [dr_stk_some dr_up_s, dr_stk_up] at c
      exact xe_163n hp hlev c hpd R
    · exact ye_209 hlev hM hM1 hV hA okA hR h15 (fun _ => k3 post hf f hjf) (fun t ht => by rw [hp] at ht; cases ht)
  | some t =>
    obtain ⟨t1, t2, t3, kd, c, hk, hv, hkc⟩ := h3 lev t (Nat.le_refl _) hp
    cases ha : acc lev with
    | none =>
      have := (h1 lev (Nat.le_refl _)).mp ha
      rw [hp] at this
      cases this
    | some RA =>
      have okR := hA lev RA (Nat.le_refl _) ha
      have okD := dr_dya_ok hM hM1 hkc okA okR
      have hl : (dr_stk acc lev).length ≤ lev := dr_stk_len lev
      by_cases z : (dr_dya M kd c A RA).1 = 0
      · have inv : dr_inv M tk tv n j lev (dr_up acc lev (some (dr_dya M kd c A RA).2)) (dr_up p lev none) (fun s => U s ∨ s = t) := by
          refine ⟨by omega, hdep, hlev, fun q hq => by rw [dr_up_n (by omega), dr_up_n (by omega)]; exact h1 q (by omega), fun z => absurd z hnr, fun _ => ⟨by rw [dr_up_s]; exact Option.some_ne_none _, dr_up_s⟩, ?_, ?_, ?_, okup _ okD⟩
          · intro q t' hq ht'
            by_cases e : q = lev
            · rw [e, dr_up_s] at ht'; cases ht'
            · rw [dr_up_n e] at ht'
              obtain ⟨a1, a2, a3, a4⟩ := h3 q t' hq ht'
              refine ⟨a1, a2, fun y => y.elim a3 (fun y => e ?_), a4⟩
              subst y
              exact h4 q lev t' hq (Nat.le_refl _) ht' hp
          · intro q q' t' hq hq' ht ht'
            by_cases e : q = lev
            · rw [e, dr_up_s] at ht; cases ht
            by_cases e' : q' = lev
            · rw [e', dr_up_s] at ht'; cases ht'
            rw [dr_up_n e] at ht
            rw [dr_up_n e'] at ht'
            exact h4 q q' t' hq hq' ht ht'
          · intro s hs
            rcases hs with hs | hs
            · exact h5 s hs
            · subst hs; exact ⟨t1, t2⟩
        obtain ⟨rc, pl, RR, k1, k2, k3⟩ := IH _ _ _ inv
        refine ⟨rc, pl, RR, k1, fun post hf f B hjf hB pd u hpd R => ?_, fun post hf f hjf x4 yd yr ye yi yf yq yn yh yz hR h15 => ?_⟩
        · rw [dr_stk_some ha] at R
          have cc := k2 post hf f B hjf hB (fun z => absurd z hnr)
          rw [dr_stk_some dr_up_s, dr_stk_up] at cc
          obtain ⟨rl, l0, l1, l2, lel⟩ := A
          obtain ⟨r, e0, e1, e2, el⟩ := RA
          exact xe_163s hp (by omega) hk hv hkc hlev (by omega) (by omega) hM hM1 t3 (fun _ => cc) (fun y => absurd z y) hpd R
        · refine ye_209 hlev hM hM1 hV hA okA hR h15 (fun y => by rw [hp] at y; cases y) (fun t' ht' => ?_)
          rw [hp] at ht'
          have e := Option.some.inj ht'
          subst e
          exact ⟨kd, c, RA, by omega, hk, hv, hkc, ha, fun _ => ⟨okD, k3 post hf f hjf⟩, fun y => absurd z y⟩
      · refine ⟨(dr_dya M kd c A RA).1, nI t, A, fun _ => okA, fun post hf f B hjf hB pd u hpd R => ?_, fun post hf f hjf x4 yd yr ye yi yf yq yn yh yz hR h15 => ?_⟩
        · rw [dr_stk_some ha] at R
          obtain ⟨rl, l0, l1, l2, lel⟩ := A
          obtain ⟨r, e0, e1, e2, el⟩ := RA
          exact xe_163s hp (by omega) hk hv hkc hlev (by omega) (by omega) hM hM1 t3 (fun y => absurd y z) (fun y => hf.2 y) hpd R
        · refine ye_209 hlev hM hM1 hV hA okA hR h15 (fun y => by rw [hp] at y; cases y) (fun t' ht' => ?_)
          rw [hp] at ht'
          have e := Option.some.inj ht'
          subst e
          exact ⟨kd, c, RA, by omega, hk, hv, hkc, ha, fun y => absurd y z, fun y => hf.2 y⟩
end
end
section
section
variable {z0 z1 z2 z3 vc mt oc ep yv yt yp : Int32} {tk tv br be m0 f0 : Nat → Int32} {M n w nv : Nat} {V : Nat → dr_A}
theorem dr_eval (hM : M ≤ 32) (hM1 : 4 ≤ M) (hn : n ≤ 40) (hV : ∀ v, v < 8 → dr_ok M (V v)) (hX : ∀ v, v < 8 → xd_vr br be m0 f0 v (V v)) (hwf : dr_wf M nv tk tv n) (hnv : nv ≤ 8) (hc : dr_set tk n) (hw : w < 8) :
    ∀ (i lev : Nat) (acc : Nat → Option dr_A) (p : Nat → Option Nat) (U : Nat → Prop), dr_inv M tk tv n i lev acc p U → dr_res z0 z1 z2 z3 vc mt oc ep yv yt yp tk tv br be m0 f0 M n w V i lev acc p U := by
  intro i
  induction i with
  | zero =>
    intro lev acc p U ⟨i1, i2, i3, i4, i5, i6, i7, i8, i9, i10⟩
    have i2' : (0 : Int) = lev := i2
    have el : lev = 0 := by omega
    subst el
    have hn0 := hc.1
    have hnr : ¬ dr_rdy tk n 0 := fun z => z.elim (fun z => by omega) (fun z => by have := z.1; omega)
    obtain ⟨ha, hp⟩ := i6 hnr
    cases hA : acc 0 with
    | none => exact absurd hA ha
    | some A =>
      have okA := i10 0 A (Nat.le_refl _) hA
      refine ⟨0, -1, A, fun _ => okA, fun post hf f B hif hB _ pd u hpd R => ?_, fun post hf f hif yd yr ye yi yf yq yn yh yz hR => ?_⟩
      · obtain ⟨f, rfl⟩ : ∃ k, f = k + 1 := ⟨f - 1, by omega⟩
        rw [dr_stk_some hA] at R
        have R' : xd_R (z0, z1, z2, z3, nI M, vc, mt, nI n, oc, ep, tk, tv, br, be, pd) m0 f0 M U [A] 46 u := xd_R_w R (by omega)
        have F := hf.1 rfl pd u U (fun t ht => by have := i9 t ht; omega) R'
        induction u using xd_el
        show wX_evaluate_26 post (f + 1) (nI 0) (nI 0 + (-1)) _ _ _ _ _ _ _ _ _ _ _ _ _ _ _ _ _ _ _ _ _ _ _ _ _ _ _ _ _ _ _ _ _ _ _ _ _
        rw [wX_evaluate_26]
        exact br_t (by decide) F
      · obtain ⟨f, rfl⟩ : ∃ k, f = k + 1 := ⟨f - 1, by omega⟩
        rw [wY_assign_41]
        refine br_t (by decide) ?_
        refine ya_copy (a := 8) (b := w) (by omega) (by omega) (by omega) ?_
        intro yi' yf' hw'
        dsimp only
        refine hf.1 rfl _ _ _ _ _ _ _ _ _ (fun v hv hvw => yd_cpV hw' hvw hM (hV v hv) (hR.2.1 v hv)) ?_
        exact yd_cpN hw' hM okA (hR.2.2 0 A (Nat.le_refl _) hA)
  | succ j ih =>
    intro lev acc p U ⟨i1, i2, i3, i4, i5, i6, i7, i8, i9, i10⟩
    have hj : j < n := i1
    have hdj := hwf.2.2.1 j (by omega)
    have hwj := hwf.2.1 j hj
    have d1 : dr_dep tk j + (if tk j = 6 then 1 else if tk j = 7 then -1 else 0) = lev := i2
    have hstk : (dr_stk acc (lev + 1)).length ≤ lev + 1 := dr_stk_len (lev + 1)
    have hUj : ¬ U j := fun z => by have := i9 j z; omega
    have rdy1 : ¬ dr_end (tk j) → ¬ dr_rdy tk n (j + 1) := by
      intro h z
      rcases z with z | z
      · rw [← z] at hc; exact h hc.2
      · exact h z.2
    have h3' : ∀ q t, q ≤ lev → p q = some t → j ≤ t ∧ t < n ∧ ¬ U t ∧ dr_dt tk tv t := fun q t hq ht => by
      obtain ⟨a1, a2, a3, a4⟩ := i7 q t hq ht
      exact ⟨by omega, a2, a3, a4⟩
    have h5' : ∀ t, U t → j ≤ t ∧ t < n := fun t ht => by have := i9 t ht; omega
    rcases dr_wf_k hwf hj with hk | ⟨hk, v, hv, hvv⟩ | ⟨kd, c, hk, hvc, hkc⟩ | hk | hk
    · -- a number
      have hr : dr_rdy tk n (j + 1) := Or.inr ⟨by omega, Or.inl hk⟩
      rw [if_neg (by rw [hk]; decide), if_neg (by rw [hk]; decide)] at d1
      by_cases hs : 0 < j ∧ tk (j - 1) = 0
      · have hset : dr_set tk j := ⟨hs.1, Or.inl hs.2⟩
        obtain ⟨rc, pl, RR, k1, k2, k3⟩ := ih lev acc p U ⟨by omega, by omega, i3, i4, fun _ => i5 hr, fun z => absurd (Or.inr hset) z, h3', i8, h5', i10⟩
        refine ⟨rc, pl, RR, k1, fun post hf f B hif hB hB2 => ?_, fun post hf f hif => ?_⟩
        · obtain ⟨f, rfl⟩ : ∃ k, f = k + 1 := ⟨f - 1, by omega⟩
          have := hB2 hr
          exact xe_skip (by omega) hk hs.1 hs.2 (k2 post hf f B (by omega) (by omega) (fun _ => by omega))
        · obtain ⟨f, rfl⟩ : ∃ k, f = k + 1 := ⟨f - 1, by omega⟩
          exact ye_skip hj hn hk hs.1 hs.2 i3 hM hV i10 (k3 post hf f (by omega))
      · have hset : ¬ dr_set tk j := by
          intro z
          rcases hwj.1 z with y | y | y | y
          · rw [hk] at y; exact absurd y (by decide)
          · rw [hk] at y; exact absurd y.1 (by decide)
          · rw [hk] at y; exact absurd y (by decide)
          · exact hs ⟨z.1, y.2⟩
        have hle : j = 0 ∨ tk (j - 1) ≠ 0 := by
          rcases Nat.eq_zero_or_pos j with y | y
          · exact Or.inl y
          · exact Or.inr (fun z => hs ⟨y, z⟩)
        have hrun : dr_run tk n 32 j ≤ M := dr_wf_run hwf
        obtain ⟨rc, pl, RR, k1, k2, k3⟩ := dr_opd (acc := acc) (p := p) (U := fun s => U s ∨ s = j) (A := dr_num tk tv n j) hM hM1 hn hV hj (by omega) i3 (fun q hq => by rcases Nat.lt_or_ge q lev with y | y; exact i4 q y; rw [show q = lev by omega]; exact i5 hr) hset
          (fun q t hq ht => by
            obtain ⟨a1, a2, a3, a4⟩ := i7 q t hq ht
            exact ⟨by omega, a2, fun z => z.elim a3 (fun z => by omega), a4⟩) i8 (fun t ht => ht.elim (h5' t) (fun z => by omega)) i10 (dr_num_ok hrun (by omega)) (fun acc' p' U' h => ih lev acc' p' U' h)
        refine ⟨rc, pl, RR, k1, fun post hf f B hif hB hB2 => ?_, fun post hf f hif => ?_⟩
        · obtain ⟨f, rfl⟩ : ∃ k, f = k + 1 := ⟨f - 1, by omega⟩
          have := hB2 hr
          exact xe_num hj hn hk hle hrun hUj (by omega) (by omega) hM (by omega) (fun pd u hpd R => k2 post hf f (B + 2) (by omega) (by omega) pd u hpd R)
        · obtain ⟨f, rfl⟩ : ∃ k, f = k + 1 := ⟨f - 1, by omega⟩
          exact ye_num hj hn hk hle i3 hM hV i10 (fun yd yr ye yi yf yq yn yh yz hR h15 => k3 post hf f (by omega) 0 yd yr ye yi yf yq yn yh yz hR h15)
    · -- a variable
      have hr : dr_rdy tk n (j + 1) := Or.inr ⟨by omega, Or.inr (Or.inl hk)⟩
      rw [if_neg (by rw [hk]; decide), if_neg (by rw [hk]; decide)] at d1
      have hset : ¬ dr_set tk j := by
        intro z
        rcases hwj.1 z with y | y | y | y
        · rw [hk] at y; exact absurd y (by decide)
        · rw [hk] at y; exact absurd y.1 (by decide)
        · rw [hk] at y; exact absurd y (by decide)
        · rw [hk] at y; exact absurd y.1 (by decide)
      have okv := hV v (by omega)
      have hxv := hX v (by omega)
      obtain ⟨rc, pl, RR, k1, k2, k3⟩ := dr_opd (acc := acc) (p := p) (U := U) (A := V v) hM hM1 hn hV hj (by omega) i3 (fun q hq => by rcases Nat.lt_or_ge q lev with y | y; exact i4 q y; rw [show q = lev by omega]; exact i5 hr) hset
        h3' i8 h5' i10 okv (fun acc' p' U' h => ih lev acc' p' U' h)
      refine ⟨rc, pl, RR, k1, fun post hf f B hif hB hB2 => ?_, fun post hf f hif => ?_⟩
      · obtain ⟨f, rfl⟩ : ∃ k, f = k + 1 := ⟨f - 1, by omega⟩
        have hb := hB2 hr
        have k2' := k2 post hf f (B + 2) (by omega) (by omega)
        revert hxv okv k2'
        generalize V v = A
        obtain ⟨r, e0, e1, e2, el⟩ := A
        intro okv hxv k2'
        obtain ⟨x1, x2, x3, x4, x5⟩ := hxv
        exact xe_var (v := v) (by omega) hk hvv (by omega) okv x1 x2 x3 x4 x5 (by omega) (by omega) hM (fun pd u hpd R => k2' pd u hpd R)
      · obtain ⟨f, rfl⟩ : ∃ k, f = k + 1 := ⟨f - 1, by omega⟩
        exact ye_var hj hn hk hvv (by omega) i3 hM hV i10 (fun yd yr ye yi yf yq yn yh yz hR h15 => k3 post hf f (by omega) 1 yd yr ye yi yf yq yn yh yz hR h15)
    · -- a function
      have n0 : ¬ tk j = 0 := by rw [hk]; exact nI_ne0 (by omega) (by omega)
      have n1 : ¬ tk j = 1 := by rw [hk]; exact fun z => by have := (na_e1 (by omega)).mp z; omega
      have n6 : ¬ tk j = 6 := by rw [hk]; exact fun z => by have := (na_e6 (by omega)).mp z; omega
      have n7 : ¬ tk j = 7 := by rw [hk]; exact fun z => by have := (na_e7 (by omega)).mp z; omega
      have hnr := rdy1 (fun z => z.elim n0 (fun z => z.elim n1 n7))
      obtain ⟨ha, hp⟩ := i6 hnr
      rw [if_neg n6, if_neg n7] at d1
      by_cases hset : dr_set tk j
      · have hdt : dr_dt tk tv j := by
          refine ⟨kd, c, hk, hvc, ?_⟩
          rcases hwj.1 hset with y | y | y | y
          · rw [hk] at y
            have := (na_e5 (by omega)).mp y
            omega
          · have y1 := y.1
            have y2 := y.2
            rw [hk] at y1
            have := (na_e2 (by omega)).mp y1
            have : c ≠ 14 := fun z => y2 (by rw [hvc, z]; rfl)
            omega
          · exact absurd y n7
          · exact absurd y.1 n0
        have inv : dr_inv M tk tv n j lev acc (dr_up p lev (some j)) U := by
          refine ⟨by omega, by omega, i3, fun q hq => by rw [dr_up_n (by omega)]; exact i4 q hq, fun _ => ⟨fun z => absurd z ha, fun z => by rw [dr_up_s] at z; cases z⟩, fun z => absurd (Or.inr hset) z, ?_, ?_, h5', i10⟩
          · intro q t hq ht
            by_cases e : q = lev
            · rw [e, dr_up_s] at ht
              have e2 := Option.some.inj ht
              subst e2
              exact ⟨Nat.le_refl _, hj, hUj, hdt⟩
            · rw [dr_up_n e] at ht
              exact h3' q t hq ht
          · intro q q' t hq hq' ht ht'
            by_cases e : q = lev
            · by_cases e' : q' = lev
              · omega
              · rw [e, dr_up_s] at ht
                rw [dr_up_n e'] at ht'
                have e2 := Option.some.inj ht
                have := (i7 q' t hq' ht').1
                omega
            · rw [dr_up_n e] at ht
              by_cases e' : q' = lev
              · rw [e', dr_up_s] at ht'
                have e2 := Option.some.inj ht'
                have := (i7 q t hq ht).1
                omega
              · rw [dr_up_n e'] at ht'
                exact i8 q q' t hq hq' ht ht'
        obtain ⟨rc, pl, RR, k1, k2, k3⟩ := ih lev acc (dr_up p lev (some j)) U inv
        refine ⟨rc, pl, RR, k1, fun post hf f B hif hB hB2 => ?_, fun post hf f hif => ?_⟩
        · obtain ⟨f, rfl⟩ : ∃ k, f = k + 1 := ⟨f - 1, by omega⟩
          exact xe_wait (kd := kd) (by omega) hk (by omega) hset i3 (k2 post hf f B (by omega) (by omega) (fun _ => by omega))
        · obtain ⟨f, rfl⟩ : ∃ k, f = k + 1 := ⟨f - 1, by omega⟩
          exact ye_wait (kd := kd) hj hn hk (by omega) hset i3 (k3 post hf f (by omega))
      · have hnj : ¬ dr_rdy tk n j := fun z => z.elim (fun z => by omega) hset
        have hkc' : (kd = 2 ∧ c ≤ 14) ∨ (kd = 3 ∧ c ≤ 8) ∨ (kd = 4 ∧ c ≤ 8) := by
          have : kd ≠ 5 := fun z => (hwj.2 hset).1 (by rw [hk, z]; rfl)
          omega
        cases hA : acc lev with
        | none => exact absurd hA ha
        | some A =>
          have okA := i10 lev A (Nat.le_refl _) hA
          have okD : dr_ok M (dr_mon M kd c A).2 := dr_mon_ok hM hM1 okA
          have hl : (dr_stk acc lev).length ≤ lev := dr_stk_len lev
          by_cases z : (dr_mon M kd c A).1 = 0
          · have inv : dr_inv M tk tv n j lev (dr_up acc lev (some (dr_mon M kd c A).2)) p (fun s => U s ∨ s = j) := by
              refine ⟨by omega, by omega, i3, fun q hq => by rw [dr_up_n (by omega)]; exact i4 q hq, fun z => absurd z hnj, fun _ => ⟨by rw [dr_up_s]; exact Option.some_ne_none _, hp⟩, ?_, i8, fun t ht => ht.elim (h5' t) (fun z => by omega), ?_⟩
              · intro q t hq ht
                obtain ⟨a1, a2, a3, a4⟩ := i7 q t hq ht
                exact ⟨by omega, a2, fun z => z.elim a3 (fun z => by omega), a4⟩
              · intro q C hq hC
                by_cases e : q = lev
                · rw [e, dr_up_s] at hC
                  exact Option.some.inj hC ▸ okD
                · rw [dr_up_n e] at hC
                  exact i10 q C hq hC
            obtain ⟨rc, pl, RR, k1, k2, k3⟩ := ih lev _ p _ inv
            refine ⟨rc, pl, RR, k1, fun post hf f B hif hB hB2 => ?_, fun post hf f hif => ?_⟩
            · obtain ⟨f, rfl⟩ : ∃ k, f = k + 1 := ⟨f - 1, by omega⟩
              have cc := k2 post hf f (B + 1) (by omega) (by omega) (fun z => absurd z hnj)
              rw [dr_stk_some dr_up_s, dr_stk_up] at cc
              rw [dr_stk_some hA]
              obtain ⟨r, e0, e1, e2, el⟩ := A
              exact xe_mon (by omega) hk hvc hkc' hset (by omega) (by omega) hM hM1 hUj (fun _ => cc) (fun y => absurd z y)
            · obtain ⟨f, rfl⟩ : ∃ k, f = k + 1 := ⟨f - 1, by omega⟩
              exact ye_mon hj hn hk hvc hkc' hset hA i3 hM hM1 hV i10 (fun _ => ⟨okD, k3 post hf f (by omega)⟩) (fun y => absurd z y)
          · refine ⟨(dr_mon M kd c A).1, nI j, A, fun _ => okA, fun post hf f B hif hB hB2 => ?_, fun post hf f hif => ?_⟩
            · obtain ⟨f, rfl⟩ : ∃ k, f = k + 1 := ⟨f - 1, by omega⟩
              rw [dr_stk_some hA]
              obtain ⟨r, e0, e1, e2, el⟩ := A
              exact xe_mon (by omega) hk hvc hkc' hset (by omega) (by omega) hM hM1 hUj (fun y => absurd y z) (fun y => hf.2 y)
            · obtain ⟨f, rfl⟩ : ∃ k, f = k + 1 := ⟨f - 1, by omega⟩
              exact ye_mon hj hn hk hvc hkc' hset hA i3 hM hM1 hV i10 (fun y => absurd y z) (fun y => hf.2 y)
    · -- an opening
      have n0 : ¬ tk j = 0 := by rw [hk]; decide
      have n1 : ¬ tk j = 1 := by rw [hk]; decide
      have n7 : ¬ tk j = 7 := by rw [hk]; decide
      have hnr := rdy1 (fun z => z.elim n0 (fun z => z.elim n1 n7))
      obtain ⟨ha, hp⟩ := i6 hnr
      rw [if_pos hk] at d1
      have hset : ¬ dr_set tk j := by
        intro z
        rcases hwj.1 z with y | y | y | y
        · rw [hk] at y; exact absurd y (by decide)
        · rw [hk] at y; exact absurd y.1 (by decide)
        · exact n7 y
        · exact n0 y.1
      cases lev with
      | zero => omega
      | succ lev =>
        cases hA : acc (lev + 1) with
        | none => exact absurd hA ha
        | some A =>
          have okA := i10 (lev + 1) A (Nat.le_refl _) hA
          obtain ⟨rc, pl, RR, k1, k2, k3⟩ := dr_opd (acc := acc) (p := p) (U := U) (A := A) (lev := lev) hM hM1 hn hV hj (by omega) (by omega) (fun q hq => i4 q (by omega)) hset
            (fun q t hq ht => h3' q t (by omega) ht) (fun q q' t hq hq' => i8 q q' t (by omega) (by omega)) h5' (fun q C hq => i10 q C (by omega)) okA (fun acc' p' U' h => ih lev acc' p' U' h)
          refine ⟨rc, pl, RR, k1, fun post hf f B hif hB hB2 => ?_, fun post hf f hif => ?_⟩
          · obtain ⟨f, rfl⟩ : ∃ k, f = k + 1 := ⟨f - 1, by omega⟩
            rw [dr_stk_some hA]
            exact xe_open (by omega) hk (fun pd u hpd R => k2 post hf f B (by omega) (by omega) pd u hpd R)
          · obtain ⟨f, rfl⟩ : ∃ k, f = k + 1 := ⟨f - 1, by omega⟩
            exact ye_open hj hn hk i3 hA hM hV i10 (fun yd yr ye yi yf yq yn yh yz hR h15 => k3 post hf f (by omega) 6 yd yr ye yi yf yq yn yh yz hR h15)
    · -- a closing
      have hr : dr_rdy tk n (j + 1) := Or.inr ⟨by omega, Or.inr (Or.inr hk)⟩
      rw [if_neg (by rw [hk]; decide), if_pos hk] at d1
      have hset : dr_set tk j := by
        by_cases y : dr_set tk j
        · exact y
        · exact absurd hk (hwj.2 y).2
      have inv : dr_inv M tk tv n j (lev + 1) (dr_up acc (lev + 1) none) (dr_up p (lev + 1) none) U := by
        refine ⟨by omega, by omega, by omega, fun q hq => ?_, fun _ => by rw [dr_up_s, dr_up_s]; exact ⟨fun _ => rfl, fun _ => rfl⟩, fun z => absurd (Or.inr hset) z, ?_, ?_, h5', ?_⟩
        · rw [dr_up_n (by omega), dr_up_n (by omega)]
          rcases Nat.lt_or_ge q lev with y | y
          · exact i4 q y
          · rw [show q = lev by omega]; exact i5 hr
        · intro q t hq ht
          by_cases e : q = lev + 1
          · rw [e, dr_up_s] at ht; cases ht
          · rw [dr_up_n e] at ht
            exact h3' q t (by omega) ht
        · intro q q' t hq hq' ht ht'
          by_cases e : q = lev + 1
          · rw [e, dr_up_s] at ht; cases ht
          by_cases e' : q' = lev + 1
          · rw [e', dr_up_s] at ht'; cases ht'
          rw [dr_up_n e] at ht
          rw [dr_up_n e'] at ht'
          exact i8 q q' t (by omega) (by omega) ht ht'
        · intro q C hq hC
          by_cases e : q = lev + 1
          · rw [e, dr_up_s] at hC; cases hC
          · rw [dr_up_n e] at hC
            exact i10 q C (by omega) hC
      obtain ⟨rc, pl, RR, k1, k2, k3⟩ := ih (lev + 1) _ _ U inv
      refine ⟨rc, pl, RR, k1, fun post hf f B hif hB hB2 => ?_, fun post hf f hif => ?_⟩
      · obtain ⟨f, rfl⟩ : ∃ k, f = k + 1 := ⟨f - 1, by omega⟩
        have hb := hB2 hr
        have cc := k2 post hf f B (by omega) (by omega) (fun _ => by omega)
        rw [dr_stk_none dr_up_s, dr_stk_up] at cc
        exact xe_close (by omega) hk (by omega) cc
      · obtain ⟨f, rfl⟩ : ∃ k, f = k + 1 := ⟨f - 1, by omega⟩
        intro yd yr ye yi yf yq yn yh yz hR
        refine ye_close (acc := dr_up acc (lev + 1) none) (p := p) hj hn hk (by omega) dr_up_s (k3 post hf f (by omega)) yd yr ye yi yf yq yn yh yz ⟨hR.1, hR.2.1, fun q C hq hC => ?_⟩
        rw [dr_up_n (by omega)] at hC
        exact hR.2.2 q C hq hC
end
end
section
def dr_fc (M nv nt n : Nat) (V : Nat → dr_A) (tk tv br be mv mf yr ye yi yf : Nat → Int32) : Prop :=
  4 ≤ M ∧ M ≤ 32 ∧ 1 ≤ nv ∧ nv ≤ 8 ∧ nt ≤ 40 ∧ n ≤ nt ∧ dr_wf M nv tk tv n ∧ (∀ v, v < 8 → dr_ok M (V v)) ∧ (∀ v, v < 8 → xd_vr br be mv mf v (V v)) ∧ (∀ v, v < 8 → yd_V yr ye yi yf v (V v))
def dr_Rel : SX → SY → Prop
  | (z0, z1, z2, z3, mc, vc, mt, ll, oc, ep, vn, cl, ov, ou, cc, tk, tv, mv, mf, br, be, wr, we, ws, ik, ia, sd, pd, ix, rv, rf, ne, st, ns, ct, gv, gf), (yc, yv, yt, yu, yp, yk, yw, yd, yr, ye, yi, yf, yq, yn, yh, yz) => ∃ (M nv nt n : Nat) (V : Nat → dr_A), (mc, yc, vc, yv, mt, yt, ll, yu, oc, yp, yk, yw) = (nI M, nI M, nI nv, nI nv, nI nt, nI nt, nI n, nI n, nI (dr_dep tk n).toNat, ep, tk, tv) ∧ dr_fc M nv nt n V tk tv br be mv mf yr ye yi yf
def i_Rel (k : Nat) (u : SX) (v : SY) : Prop := dr_Rel u v
theorem i_up {k : Nat} {u : SX} {v : SY} (h : i_Rel k u v) : i_Rel (k + 5) u v := h
theorem yd_el {P : SY → Prop} (h : ∀ (yc yv yt yu yp : Int32) (yk yw yd yr ye yi yf yq yn yh yz : Nat → Int32), P (yc, yv, yt, yu, yp, yk, yw, yd, yr, ye, yi, yf, yq, yn, yh, yz)) (u : SY) : P u :=
  match u with
  | (yc, yv, yt, yu, yp, yk, yw, yd, yr, ye, yi, yf, yq, yn, yh, yz) => h yc yv yt yu yp yk yw yd yr ye yi yf yq yn yh yz
theorem dr_rel_el {P : SX → SY → Prop} {u : SX} {v : SY} (I : dr_Rel u v)
    (h : ∀ (M nv nt n : Nat) (V : Nat → dr_A) (z0 z1 z2 z3 ep vn cl ov ou cc : Int32) (tk tv mv mf br be wr we ws ik ia sd pd ix rv rf ne st ns ct gv gf yd yr ye yi yf yq yn yh yz : Nat → Int32), dr_fc M nv nt n V tk tv br be mv mf yr ye yi yf →
      dr_Rel (z0, z1, z2, z3, nI M, nI nv, nI nt, nI n, nI (dr_dep tk n).toNat, ep, vn, cl, ov, ou, cc, tk, tv, mv, mf, br, be, wr, we, ws, ik, ia, sd, pd, ix, rv, rf, ne, st, ns, ct, gv, gf) (nI M, nI nv, nI nt, nI n, ep, tk, tv, yd, yr, ye, yi, yf, yq, yn, yh, yz) →
      P (z0, z1, z2, z3, nI M, nI nv, nI nt, nI n, nI (dr_dep tk n).toNat, ep, vn, cl, ov, ou, cc, tk, tv, mv, mf, br, be, wr, we, ws, ik, ia, sd, pd, ix, rv, rf, ne, st, ns, ct, gv, gf) (nI M, nI nv, nI nt, nI n, ep, tk, tv, yd, yr, ye, yi, yf, yq, yn, yh, yz)) : P u v := by
  induction u using xd_el
  rename_i z0 z1 z2 z3 mc vc mt ll oc ep vn cl ov ou cc tk tv mv mf br be wr we ws ik ia sd pd ix rv rf ne st ns ct gv gf
  induction v using yd_el
  rename_i yc yv yt yu yp yk yw yd yr ye yi yf yq yn yh yz
  have I2 := I
  obtain ⟨M, nv, nt, n, V, he, hf⟩ := I
  simp only [Prod.mk.injEq] at he
  obtain ⟨rfl, rfl, rfl, rfl, rfl, rfl, rfl, rfl, rfl, rfl, rfl, rfl⟩ := he
  exact h _ _ _ _ _ _ _ _ _ _ _ _ _ _ _ _ _ _ _ _ _ _ _ _ _ _ _ _ _ _ _ _ _ _ _ _ _ _ _ _ _ _ _ _ _ _ hf I2
theorem dr_vs (x : Int32) {nv : Nat} (h : nv ≤ 8) : (x < 0 ∨ ¬ x < nI nv) ∨ ∃ v, v < nv ∧ x = nI v := by
  by_cases z : x < 0
  · exact Or.inl (Or.inl z)
  obtain ⟨v, hv, rfl⟩ := nI_of z
  rcases Nat.lt_or_ge v nv with y | y
  · exact Or.inr ⟨v, y, rfl⟩
  · exact Or.inl (Or.inr (nI_nlt y hv))
theorem br_bad {x c : Int32} {a b : Prop} (hx : x < 0 ∨ ¬ x < c) (ha : a) : (x < 0 → a) ∧ (¬ x < 0 → ((x < c → b) ∧ (¬ x < c → a))) := by
  by_cases y : x < 0
  · exact br_t y ha
  · exact br_f y (br_f (hx.resolve_left y) ha)
theorem br_bad2 {x c : Int32} {a b : Prop} (hx : x < 0 ∨ ¬ x < c) (ha : a) : (x < 0 → a) ∧ (¬ x < 0 → ((c ≤ x → a) ∧ (¬ c ≤ x → b))) := by
  by_cases y : x < 0
  · exact br_t y ha
  · exact br_f y (br_t (Int32.not_lt.mp (hx.resolve_left y)) ha)
theorem br_ok {v nv : Nat} {a b : Prop} (hv : v < nv) (hnv : nv ≤ 8) (hb : b) : (nI v < 0 → a) ∧ (¬ nI v < 0 → ((nI v < nI nv → b) ∧ (¬ nI v < nI nv → a))) :=
  br_f (nI_pos (by omega)) (br_t (nI_lt hv (by omega)) hb)
theorem br_ok2 {v nv : Nat} {a b : Prop} (hv : v < nv) (hnv : nv ≤ 8) (hb : b) : (nI v < 0 → a) ∧ (¬ nI v < 0 → ((nI nv ≤ nI v → a) ∧ (¬ nI nv ≤ nI v → b))) :=
  br_f (nI_pos (by omega)) (br_f (nI_ge hv (by omega)) hb)
section
variable {Q : Int32 → Prop} {z0 z1 z2 z3 mc vc mt ll oc ep vn cl ov ou cc : Int32} {tk tv mv mf br be wr we ws ik ia sd pd ix rv rf ne st ns ct gv gf : Nat → Int32} {nv M : Nat} {r e0 e1 e2 v : Nat} {el : Nat → dr_E}
theorem xb_bad {x : Int32} (hx : x < 0 ∨ ¬ x < nI nv) (h : Q 1) : wpX_badVariable Q (z0, z1, z2, z3, mc, nI nv, mt, ll, oc, ep, vn, cl, ov, ou, cc, tk, tv, mv, mf, br, be, wr, we, ws, ik, ia, sd, pd, ix, rv, rf, ne, st, ns, ct, gv, gf) x := by
  unfold wpX_badVariable
  exact br_bad hx h
theorem xb_ok (hv : v < nv) (hnv : nv ≤ 8) (h : Q 0) : wpX_badVariable Q (z0, z1, z2, z3, mc, nI nv, mt, ll, oc, ep, vn, cl, ov, ou, cc, tk, tv, mv, mf, br, be, wr, we, ws, ik, ia, sd, pd, ix, rv, rf, ne, st, ns, ct, gv, gf) (nI v) := by
  unfold wpX_badVariable
  exact br_ok hv hnv h
theorem xb_count (hv : v < nv) (hnv : nv ≤ 8) (hx : xd_vr br be mv mf v (r, e0, e1, e2, el)) (h : Q (nI (e0 * e1 * e2))) : wpX_count Q (z0, z1, z2, z3, mc, nI nv, mt, ll, oc, ep, vn, cl, ov, ou, cc, tk, tv, mv, mf, br, be, wr, we, ws, ik, ia, sd, pd, ix, rv, rf, ne, st, ns, ct, gv, gf) (nI v) := by
  obtain ⟨x1, x2, x3, x4, x5⟩ := hx
  unfold wpX_count
  refine xb_ok hv hnv (br_t rfl ?_)
  simp (disch := omega) only [forall_eq, true_and, and_true, true_implies, false_implies, not_true_eq_false, not_false_eq_true, implies_true, forall_const, and_self, nI_leI, nI_ltI, nI_eq, vp_in_nI, nI_clamp, nI_add, pk_mul, pk_m1, nI_pred, nI_1, na_l0, na_g0, na_ll0, na_gl0, na_e0, na_p0, na_0p, na_c0, na_m1c, na_ap2, na_l3, na_l32, na_m3, na_m32, na_mr3, na_mr32, na_d1, na_d2, na_d3, na_d4, na_d5, na_d6, na_d7, na_d8, na_d9, ite_true, ite_false, reduceIte, if_true, if_false, x2, x3, x4]
  exact h
end
section
variable {Q : Int32 → Prop} {yc yv yt yu yp : Int32} {yk yw yd yr ye yi yf yq yn yh yz : Nat → Int32} {nv M : Nat} {r e0 e1 e2 v : Nat} {el : Nat → dr_E}
theorem yb_size (hv : v < 17) (hy : yd_V yr ye yi yf v (r, e0, e1, e2, el)) (h : Q (nI (e0 * e1 * e2))) : wpY_size Q (yc, yv, yt, yu, yp, yk, yw, yd, yr, ye, yi, yf, yq, yn, yh, yz) (nI v) := by
  obtain ⟨y1, y2, y3, y4, y5⟩ := hy
  refine ya_size hv ?_
  rw [y2, y3, y4, pk_mul, pk_mul]
  exact h
theorem yb_count (hv : v < nv) (hnv : nv ≤ 8) (hy : yd_V yr ye yi yf v (r, e0, e1, e2, el)) (h : Q (nI (e0 * e1 * e2))) : wpY_count Q (yc, nI nv, yt, yu, yp, yk, yw, yd, yr, ye, yi, yf, yq, yn, yh, yz) (nI v) := by
  unfold wpY_count
  exact br_ok hv hnv (yb_size (by omega) hy h)
theorem yb_fault (hv : v < nv) (hnv : nv ≤ 8) (hM : M ≤ 32) (ok : dr_ok M (r, e0, e1, e2, el)) (hy : yd_V yr ye yi yf v (r, e0, e1, e2, el)) {i : Nat} (hi : i < e0 * e1 * e2) (h : Q (el i).2) : wpY_fault Q (yc, nI nv, yt, yu, yp, yk, yw, yd, yr, ye, yi, yf, yq, yn, yh, yz) (nI v) (nI i) := by
  have hy' := hy.2.2.2.2 i hi
  have k8 := ok.2.2.2.2.2.2.2.1
  unfold wpY_fault
  refine br_ok2 hv hnv (br_f (nI_pos (by omega)) (yb_size (by omega) hy (br_t (nI_lt hi (by omega)) ?_)))
  simp (disch := omega) only [forall_eq, true_and, and_true, true_implies, false_implies, not_true_eq_false, not_false_eq_true, implies_true, forall_const, and_self, nI_leI, nI_ltI, nI_eq, vp_in_nI, nI_clamp, nI_add, pk_mul, pk_m1, nI_pred, nI_1, na_l0, na_g0, na_ll0, na_gl0, na_e0, na_p0, na_0p, na_c0, na_m1c, na_ap2, na_l3, na_l32, na_m3, na_m32, na_mr3, na_mr32, na_d1, na_d2, na_d3, na_d4, na_d5, na_d6, na_d7, na_d8, na_d9, ite_true, ite_false, reduceIte, if_true, if_false, hy'.2]
  exact h
theorem yb_fault_out (hv : v < nv) (hnv : nv ≤ 8) (hM : M ≤ 32) (ok : dr_ok M (r, e0, e1, e2, el)) (hy : yd_V yr ye yi yf v (r, e0, e1, e2, el)) {x : Int32} (hx : x < 0 ∨ ¬ x < nI (e0 * e1 * e2)) (h : Q (-2)) : wpY_fault Q (yc, nI nv, yt, yu, yp, yk, yw, yd, yr, ye, yi, yf, yq, yn, yh, yz) (nI v) x := by
  unfold wpY_fault
  refine br_ok2 hv hnv ?_
  by_cases z : x < 0
  · exact br_t z h
  · exact br_f z (yb_size (by omega) hy (br_f (hx.resolve_left z) h))
theorem yb_fault_bad {x : Int32} {y : Int32} (hx : x < 0 ∨ ¬ x < nI nv) (h : Q (-2)) : wpY_fault Q (yc, nI nv, yt, yu, yp, yk, yw, yd, yr, ye, yi, yf, yq, yn, yh, yz) x y := by
  unfold wpY_fault
  exact br_bad2 hx h
theorem yb_elem (hv : v < nv) (hnv : nv ≤ 8) (hM : M ≤ 32) (ok : dr_ok M (r, e0, e1, e2, el)) (hy : yd_V yr ye yi yf v (r, e0, e1, e2, el)) {i : Nat} (hi : i < e0 * e1 * e2) (h : Q (el i).1) : wpY_element Q (yc, nI nv, yt, yu, yp, yk, yw, yd, yr, ye, yi, yf, yq, yn, yh, yz) (nI v) (nI i) := by
  have hy' := hy.2.2.2.2 i hi
  have k8 := ok.2.2.2.2.2.2.2.1
  have k9 := ok.2.2.2.2.2.2.2.2 i hi
  unfold wpY_element
  refine yb_fault hv hnv hM ok hy hi ?_
  by_cases z : (el i).2 = 0
  · refine br_t z ?_
    simp (disch := omega) only [forall_eq, true_and, and_true, true_implies, false_implies, not_true_eq_false, not_false_eq_true, implies_true, forall_const, and_self, nI_leI, nI_ltI, nI_eq, vp_in_nI, nI_clamp, nI_add, pk_mul, pk_m1, nI_pred, nI_1, na_l0, na_g0, na_ll0, na_gl0, na_e0, na_p0, na_0p, na_c0, na_m1c, na_ap2, na_l3, na_l32, na_m3, na_m32, na_mr3, na_mr32, na_d1, na_d2, na_d3, na_d4, na_d5, na_d6, na_d7, na_d8, na_d9, ite_true, ite_false, reduceIte, if_true, if_false, hy'.1]
    exact h
  · refine br_f z ?_
    rw [k9.2 z] at h
    exact h
theorem yb_elem_out (hv : v < nv) (hnv : nv ≤ 8) (hM : M ≤ 32) (ok : dr_ok M (r, e0, e1, e2, el)) (hy : yd_V yr ye yi yf v (r, e0, e1, e2, el)) {x : Int32} (hx : x < 0 ∨ ¬ x < nI (e0 * e1 * e2)) (h : Q 0) : wpY_element Q (yc, nI nv, yt, yu, yp, yk, yw, yd, yr, ye, yi, yf, yq, yn, yh, yz) (nI v) x := by
  unfold wpY_element
  exact yb_fault_out hv hnv hM ok hy hx (br_f (by decide) h)
theorem yb_elem_bad {x y : Int32} (hx : x < 0 ∨ ¬ x < nI nv) (h : Q 0) : wpY_element Q (yc, nI nv, yt, yu, yp, yk, yw, yd, yr, ye, yi, yf, yq, yn, yh, yz) x y := by
  unfold wpY_element
  exact yb_fault_bad hx (br_f (by decide) h)
end
/-- a position in a value -/
theorem dr_ps (x : Int32) {c : Nat} (h : c < 2 ^ 31) : (x < 0 ∨ ¬ x < nI c) ∨ ∃ i, i < c ∧ x = nI i := by
  by_cases z : x < 0
  · exact Or.inl (Or.inl z)
  obtain ⟨v, hv, rfl⟩ := nI_of z
  rcases Nat.lt_or_ge v c with y | y
  · exact Or.inr ⟨v, y, rfl⟩
  · exact Or.inl (Or.inr (nI_nlt y hv))
end
section
section
variable {Q : Int32 → Prop} {z0 z1 z2 z3 mc vc mt ll oc ep vn cl ov ou cc : Int32} {tk tv mv mf br be wr we ws ik ia sd pd ix rv rf ne st ns ct gv gf : Nat → Int32} {n : Nat}
theorem xb_settled (hn : n ≤ 40) (h1 : dr_set tk n → Q 1) (h0 : ¬ dr_set tk n → Q 0) : wpX_settled Q (z0, z1, z2, z3, mc, vc, mt, nI n, oc, ep, vn, cl, ov, ou, cc, tk, tv, mv, mf, br, be, wr, we, ws, ik, ia, sd, pd, ix, rv, rf, ne, st, ns, ct, gv, gf) := by
  unfold wpX_settled
  dsimp only
  rcases Nat.eq_zero_or_pos n with y | y
  · exact br_t (by rw [y]; decide) (h0 (fun z => by have := z.1; omega))
  · rw [na_s1 y, nI_clamp (by omega)]
    refine br_f (nI_nle y (by omega)) ⟨vp_in_nI (by omega) (by omega), xe_ends (fun z => br_f (by decide) (h1 ⟨y, z⟩)) (fun z => br_t rfl (h0 (fun w => z w.2)))⟩
theorem xb_complete {d : Nat} (hn : n ≤ 40) (hd : d ≤ 6) (h1 : dr_set tk n → d = 0 → Q 1) (h0 : ¬ (dr_set tk n ∧ d = 0) → Q 0) : wpX_complete Q (z0, z1, z2, z3, mc, vc, mt, nI n, nI d, ep, vn, cl, ov, ou, cc, tk, tv, mv, mf, br, be, wr, we, ws, ik, ia, sd, pd, ix, rv, rf, ne, st, ns, ct, gv, gf) := by
  unfold wpX_complete
  dsimp only
  rcases Nat.eq_zero_or_pos d with y | y
  · refine br_t (by rw [y]; rfl) (xb_settled hn (fun z => br_f (by decide) (h1 z y)) (fun z => br_t rfl (h0 (fun w => z w.1))))
  · exact br_f (nI_ne0 y (by omega)) (h0 (fun w => by have := w.2; omega))
end
section
variable {Q : Int32 → Prop} {yc yv yt yu yp : Int32} {yk yw yd yr ye yi yf yq yn yh yz : Nat → Int32} {n : Nat}
theorem yb_depth (hn : n ≤ 40) (hd : ∀ j, j ≤ n → 0 ≤ dr_dep yk j ∧ dr_dep yk j ≤ 6) (h : Q (nI (dr_dep yk n).toNat)) : wpY_depth Q (yc, yv, yt, nI n, yp, yk, yw, yd, yr, ye, yi, yf, yq, yn, yh, yz) := by
  unfold wpY_depth
  dsimp only
  refine dr_lp1 (σ := Unit) n (fun f i _ => wY_depth_4 Q yc yv yt (nI n) yp yk yw yd yr ye yi yf yq yn yh yz f (nI (dr_dep yk i).toNat) (nI i)) (fun _ _ => True) ?_ ?_ 0 (Nat.zero_le _) () trivial
  · intro f s _
    rw [wY_depth_4]
    exact br_t (nI_le (Nat.le_refl _) (by omega)) h
  · intro f i s hi _ hW
    have W := hW () trivial
    have a := hd i (by omega)
    have b := hd (i + 1) (by omega)
    have e : dr_dep yk (i + 1) = dr_dep yk i + (if yk i = 6 then 1 else if yk i = 7 then -1 else 0) := rfl
    rw [wY_depth_4]
    dsimp only
    rw [nI_clamp (show i < 2 ^ 31 by omega)]
    refine br_f (nI_ge hi (by omega)) ⟨vp_in_nI (by omega) (by omega), ?_⟩
    by_cases k6 : yk i = 6
    · rw [if_pos k6] at e
      refine br_t k6 (nm_r (nI_1 _) (nm_r (nI_1 i) ?_))
      rw [show (dr_dep yk (i + 1)).toNat = (dr_dep yk i).toNat + 1 by omega] at W
      exact W
    rw [if_neg k6] at e
    refine br_f k6 ⟨vp_in_nI (by omega) (by omega), ?_⟩
    by_cases k7 : yk i = 7
    · rw [if_pos k7] at e
      refine br_t k7 ?_
      rw [show (dr_dep yk i).toNat = (dr_dep yk (i + 1)).toNat + 1 by omega]
      exact nm_r (pk_m1 _) (nm_r (nI_1 i) W)
    · rw [if_neg k7] at e
      refine br_f k7 ?_
      rw [show (dr_dep yk (i + 1)).toNat = (dr_dep yk i).toNat by omega] at W
      exact nm_r (Int32.add_zero _) (nm_r (nI_1 i) W)
theorem yb_complete (hn : n ≤ 40) (hd : ∀ j, j ≤ n → 0 ≤ dr_dep yk j ∧ dr_dep yk j ≤ 6) (h1 : dr_set yk n → (dr_dep yk n).toNat = 0 → Q 1) (h0 : ¬ (dr_set yk n ∧ (dr_dep yk n).toNat = 0) → Q 0) : wpY_complete Q (yc, yv, yt, nI n, yp, yk, yw, yd, yr, ye, yi, yf, yq, yn, yh, yz) := by
  unfold wpY_complete
  dsimp only
  have := hd n (Nat.le_refl _)
  refine ye_ends (Nat.le_refl _) hn (fun z => br_f (by decide) (yb_depth hn hd ?_)) (fun z => br_t rfl (h0 (fun w => z w.1)))
  rcases Nat.eq_zero_or_pos (dr_dep yk n).toNat with y | y
  · exact br_t (by rw [y]; rfl) (h1 z y)
  · exact br_f (nI_ne0 y (by omega)) (h0 (fun w => by have := w.2; omega))
end
theorem i_vc_clear {k : Nat} {u : SX} {v : SY} (I : i_Rel k u v) (hk : k + 5 ≤ 2563) : wpX_clear (fun u' => wpY_clear (fun v' => i_Rel (k + 5) u' v') v) u := by
  refine dr_rel_el (P := fun u v => wpX_clear (fun u' => wpY_clear (fun v' => i_Rel (k + 5) u' v') v) u) I ?_
  intro M nv nt n V z0 z1 z2 z3 ep vn cl ov ou cc tk tv mv mf br be wr we ws ik ia sd pd ix rv rf ne st ns ct gv gf yd yr ye yi yf yq yn yh yz F I; have F2 := F; obtain ⟨f1, f2, f3, f4, f5, f6, f7, f8, f9, f10⟩ := F
  exact ⟨M, nv, nt, 0, V, rfl, f1, f2, f3, f4, f5, Nat.zero_le _, dr_wf_le f7 (Nat.zero_le _), f8, f9, f10⟩
theorem i_vc_erase {k : Nat} {u : SX} {v : SY} (I : i_Rel k u v) (hk : k + 5 ≤ 2563) : wpX_erase (fun r u' => wpY_erase (fun r' v' => r' = r ∧ i_Rel (k + 5) u' v') v) u := by
  refine dr_rel_el (P := fun u v => wpX_erase (fun r u' => wpY_erase (fun r' v' => r' = r ∧ i_Rel (k + 5) u' v') v) u) I ?_
  intro M nv nt n V z0 z1 z2 z3 ep vn cl ov ou cc tk tv mv mf br be wr we ws ik ia sd pd ix rv rf ne st ns ct gv gf yd yr ye yi yf yq yn yh yz F I; have F2 := F; obtain ⟨f1, f2, f3, f4, f5, f6, f7, f8, f9, f10⟩ := F
  unfold wpX_erase
  dsimp only
  rcases Nat.eq_zero_or_pos n with y | y
  · subst y
    exact br_t rfl (br_t rfl ⟨rfl, I⟩)
  · obtain ⟨n, rfl⟩ : ∃ m, n = m + 1 := ⟨n - 1, by omega⟩
    have a := f7.2.2.1 n (by omega)
    have b := f7.2.2.1 (n + 1) (by omega)
    have e : dr_dep tk (n + 1) = dr_dep tk n + (if tk n = 6 then 1 else if tk n = 7 then -1 else 0) := rfl
    have Y : ∀ o : Int32, o = nI (dr_dep tk n).toNat → wpY_erase (fun r' v' => r' = 1 ∧ i_Rel (k + 5) (z0, z1, z2, z3, nI M, nI nv, nI nt, nI n, o, ep, vn, cl, ov, ou, cc, tk, tv, mv, mf, br, be, wr, we, ws, ik, ia, sd, pd, ix, rv, rf, ne, st, ns, ct, gv, gf) v') (nI M, nI nv, nI nt, nI (n + 1), ep, tk, tv, yd, yr, ye, yi, yf, yq, yn, yh, yz) := by
      intro o ho
      unfold wpY_erase
      refine br_f (nI_ne0 (by omega) (by omega)) (nm_r (na_s1 (by omega)) ⟨rfl, ?_⟩)
      subst ho
      exact ⟨M, nv, nt, n, V, rfl, f1, f2, f3, f4, f5, by omega, dr_wf_le f7 (by omega), f8, f9, f10⟩
    refine br_f (nI_ne0 (by omega) (by omega)) (nm_r (na_s1 (by omega)) ⟨vp_in_nI (by omega) (by omega), ?_⟩)
    rw [show n + 1 - 1 = n by omega, nI_clamp (show n < 2 ^ 31 by omega)]
    by_cases k6 : tk n = 6
    · rw [if_pos k6] at e
      refine br_t k6 (nm_e (Y _ ?_))
      rw [show (dr_dep tk (n + 1)).toNat = (dr_dep tk n).toNat + 1 by omega, na_s1 (by omega)]
      rfl
    rw [if_neg k6] at e
    refine br_f k6 ⟨vp_in_nI (by omega) (by omega), ?_⟩
    by_cases k7 : tk n = 7
    · rw [if_pos k7] at e
      refine br_t k7 (nm_e (Y _ ?_))
      rw [show (dr_dep tk n).toNat = (dr_dep tk (n + 1)).toNat + 1 by omega]
      exact nI_1 _
    · rw [if_neg k7] at e
      refine br_f k7 (Y _ ?_)
      rw [show (dr_dep tk (n + 1)).toNat = (dr_dep tk n).toNat by omega]
theorem i_vc_length {k : Nat} {u : SX} {v : SY} (I : i_Rel k u v) (hk : k + 5 ≤ 2563) : wpX_length (fun r => wpY_length (fun r' => r' = r ∧ i_Rel (k + 5) u v) v) u := by
  refine dr_rel_el (P := fun u v => wpX_length (fun r => wpY_length (fun r' => r' = r ∧ i_Rel (k + 5) u v) v) u) I ?_
  intro M nv nt n V z0 z1 z2 z3 ep vn cl ov ou cc tk tv mv mf br be wr we ws ik ia sd pd ix rv rf ne st ns ct gv gf yd yr ye yi yf yq yn yh yz F I; have F2 := F; obtain ⟨f1, f2, f3, f4, f5, f6, f7, f8, f9, f10⟩ := F
  exact ⟨rfl, I⟩
theorem i_vc_depth {k : Nat} {u : SX} {v : SY} (I : i_Rel k u v) (hk : k + 5 ≤ 2563) : wpX_depth (fun r => wpY_depth (fun r' => r' = r ∧ i_Rel (k + 5) u v) v) u := by
  refine dr_rel_el (P := fun u v => wpX_depth (fun r => wpY_depth (fun r' => r' = r ∧ i_Rel (k + 5) u v) v) u) I ?_
  intro M nv nt n V z0 z1 z2 z3 ep vn cl ov ou cc tk tv mv mf br be wr we ws ik ia sd pd ix rv rf ne st ns ct gv gf yd yr ye yi yf yq yn yh yz F I; have F2 := F; obtain ⟨f1, f2, f3, f4, f5, f6, f7, f8, f9, f10⟩ := F
  unfold wpX_depth
  exact yb_depth (by omega) f7.2.2.1 ⟨rfl, I⟩
theorem i_vc_complete {k : Nat} {u : SX} {v : SY} (I : i_Rel k u v) (hk : k + 5 ≤ 2563) : wpX_complete (fun r => wpY_complete (fun r' => r' = r ∧ i_Rel (k + 5) u v) v) u := by
  refine dr_rel_el (P := fun u v => wpX_complete (fun r => wpY_complete (fun r' => r' = r ∧ i_Rel (k + 5) u v) v) u) I ?_
  intro M nv nt n V z0 z1 z2 z3 ep vn cl ov ou cc tk tv mv mf br be wr we ws ik ia sd pd ix rv rf ne st ns ct gv gf yd yr ye yi yf yq yn yh yz F I; have F2 := F; obtain ⟨f1, f2, f3, f4, f5, f6, f7, f8, f9, f10⟩ := F
  have a := f7.2.2.1 n (by omega)
  exact xb_complete (by omega) (by omega) (fun h1 h2 => yb_complete (by omega) f7.2.2.1 (fun _ _ => ⟨rfl, I⟩) (fun z => absurd ⟨h1, h2⟩ z)) (fun h => yb_complete (by omega) f7.2.2.1 (fun h1 h2 => absurd ⟨h1, h2⟩ h) (fun _ => ⟨rfl, I⟩))
theorem i_vc_tokenKind {k : Nat} {u : SX} {v : SY} (I : i_Rel k u v) (hk : k + 5 ≤ 2563) (v1 : Int32) : wpX_tokenKind (fun r => wpY_tokenKind (fun r' => r' = r ∧ i_Rel (k + 5) u v) v v1) u v1 := by
  refine dr_rel_el (P := fun u v => wpX_tokenKind (fun r => wpY_tokenKind (fun r' => r' = r ∧ i_Rel (k + 5) u v) v v1) u v1) I ?_
  intro M nv nt n V z0 z1 z2 z3 ep vn cl ov ou cc tk tv mv mf br be wr we ws ik ia sd pd ix rv rf ne st ns ct gv gf yd yr ye yi yf yq yn yh yz F I; have F2 := F; obtain ⟨f1, f2, f3, f4, f5, f6, f7, f8, f9, f10⟩ := F
  unfold wpX_tokenKind wpY_tokenKind
  rcases dr_ps v1 (c := n) (by omega) with h | ⟨i, hi, rfl⟩
  · exact br_bad h (br_bad h ⟨rfl, I⟩)
  · exact br_f (nI_pos (by omega)) (br_t (nI_lt hi (by omega)) ⟨vp_in_nI (by omega) (by omega), br_f (nI_pos (by omega)) (br_t (nI_lt hi (by omega)) ⟨vp_in_nI (by omega) (by omega), rfl, I⟩)⟩)
theorem i_vc_tokenValue {k : Nat} {u : SX} {v : SY} (I : i_Rel k u v) (hk : k + 5 ≤ 2563) (v1 : Int32) : wpX_tokenValue (fun r => wpY_tokenValue (fun r' => r' = r ∧ i_Rel (k + 5) u v) v v1) u v1 := by
  refine dr_rel_el (P := fun u v => wpX_tokenValue (fun r => wpY_tokenValue (fun r' => r' = r ∧ i_Rel (k + 5) u v) v v1) u v1) I ?_
  intro M nv nt n V z0 z1 z2 z3 ep vn cl ov ou cc tk tv mv mf br be wr we ws ik ia sd pd ix rv rf ne st ns ct gv gf yd yr ye yi yf yq yn yh yz F I; have F2 := F; obtain ⟨f1, f2, f3, f4, f5, f6, f7, f8, f9, f10⟩ := F
  unfold wpX_tokenValue wpY_tokenValue
  rcases dr_ps v1 (c := n) (by omega) with h | ⟨i, hi, rfl⟩
  · exact br_bad h (br_bad h ⟨rfl, I⟩)
  · exact br_f (nI_pos (by omega)) (br_t (nI_lt hi (by omega)) ⟨vp_in_nI (by omega) (by omega), br_f (nI_pos (by omega)) (br_t (nI_lt hi (by omega)) ⟨vp_in_nI (by omega) (by omega), rfl, I⟩)⟩)
theorem i_vc_place {k : Nat} {u : SX} {v : SY} (I : i_Rel k u v) (hk : k + 5 ≤ 2563) : wpX_place (fun r => wpY_place (fun r' => r' = r ∧ i_Rel (k + 5) u v) v) u := by
  refine dr_rel_el (P := fun u v => wpX_place (fun r => wpY_place (fun r' => r' = r ∧ i_Rel (k + 5) u v) v) u) I ?_
  intro M nv nt n V z0 z1 z2 z3 ep vn cl ov ou cc tk tv mv mf br be wr we ws ik ia sd pd ix rv rf ne st ns ct gv gf yd yr ye yi yf yq yn yh yz F I; have F2 := F; obtain ⟨f1, f2, f3, f4, f5, f6, f7, f8, f9, f10⟩ := F
  exact ⟨rfl, I⟩
theorem i_vc_rank {k : Nat} {u : SX} {v : SY} (I : i_Rel k u v) (hk : k + 5 ≤ 2563) (v1 : Int32) : wpX_rank (fun r => wpY_rank (fun r' => r' = r ∧ i_Rel (k + 5) u v) v v1) u v1 := by
  refine dr_rel_el (P := fun u v => wpX_rank (fun r => wpY_rank (fun r' => r' = r ∧ i_Rel (k + 5) u v) v v1) u v1) I ?_
  intro M nv nt n V z0 z1 z2 z3 ep vn cl ov ou cc tk tv mv mf br be wr we ws ik ia sd pd ix rv rf ne st ns ct gv gf yd yr ye yi yf yq yn yh yz F I; have F2 := F; obtain ⟨f1, f2, f3, f4, f5, f6, f7, f8, f9, f10⟩ := F
  unfold wpX_rank wpY_rank
  dsimp only
  rcases dr_vs v1 f4 with h | ⟨i, hi, rfl⟩
  · exact xb_bad h (br_f (by decide) (br_bad h ⟨rfl, I⟩))
  · have hx := f9 i (by omega)
    have hy := f10 i (by omega)
    revert hx hy
    generalize V i = A
    obtain ⟨r, e0, e1, e2, el⟩ := A
    intro hx hy
    rw [nI_clamp (show i < 2 ^ 31 by omega)]
    refine xb_ok hi f4 (br_t rfl ⟨vp_in_nI (by omega) (by omega), br_ok hi f4 ⟨vp_in_nI (by omega) (by omega), ?_, I⟩⟩)
    exact hy.1.trans hx.1.symm
theorem i_vc_count {k : Nat} {u : SX} {v : SY} (I : i_Rel k u v) (hk : k + 5 ≤ 2563) (v1 : Int32) : wpX_count (fun r => wpY_count (fun r' => r' = r ∧ i_Rel (k + 5) u v) v v1) u v1 := by
  refine dr_rel_el (P := fun u v => wpX_count (fun r => wpY_count (fun r' => r' = r ∧ i_Rel (k + 5) u v) v v1) u v1) I ?_
  intro M nv nt n V z0 z1 z2 z3 ep vn cl ov ou cc tk tv mv mf br be wr we ws ik ia sd pd ix rv rf ne st ns ct gv gf yd yr ye yi yf yq yn yh yz F I; have F2 := F; obtain ⟨f1, f2, f3, f4, f5, f6, f7, f8, f9, f10⟩ := F
  rcases dr_vs v1 f4 with h | ⟨i, hi, rfl⟩
  · unfold wpX_count
    refine xb_bad h (br_f (by decide) ?_)
    unfold wpY_count
    exact br_bad h ⟨rfl, I⟩
  · have hx := f9 i (by omega)
    have hy := f10 i (by omega)
    revert hx hy
    generalize V i = A
    obtain ⟨r, e0, e1, e2, el⟩ := A
    intro hx hy
    exact xb_count hi f4 hx (yb_count hi f4 hy ⟨rfl, I⟩)
theorem i_vc_extent {k : Nat} {u : SX} {v : SY} (I : i_Rel k u v) (hk : k + 5 ≤ 2563) (v1 : Int32) (v2 : Int32) : wpX_extent (fun r => wpY_extent (fun r' => r' = r ∧ i_Rel (k + 5) u v) v v1 v2) u v1 v2 := by
  refine dr_rel_el (P := fun u v => wpX_extent (fun r => wpY_extent (fun r' => r' = r ∧ i_Rel (k + 5) u v) v v1 v2) u v1 v2) I ?_
  intro M nv nt n V z0 z1 z2 z3 ep vn cl ov ou cc tk tv mv mf br be wr we ws ik ia sd pd ix rv rf ne st ns ct gv gf yd yr ye yi yf yq yn yh yz F I; have F2 := F; obtain ⟨f1, f2, f3, f4, f5, f6, f7, f8, f9, f10⟩ := F
  unfold wpX_extent wpY_extent
  dsimp only
  rcases dr_vs v1 f4 with h | ⟨i, hi, rfl⟩
  · exact xb_bad h (br_f (by decide) (br_bad2 h ⟨rfl, I⟩))
  · have hx := f9 i (by omega)
    have hy := f10 i (by omega)
    have ok := f8 i (by omega)
    revert hx hy ok
    generalize V i = A
    obtain ⟨r, e0, e1, e2, el⟩ := A
    intro hx hy ok
    have hr := ok.1
    rw [nI_clamp (show i < 2 ^ 31 by omega)]
    refine xb_ok hi f4 (br_t rfl ?_)
    by_cases z : v2 < 0
    · exact br_t z (br_ok2 hi f4 (br_t z ⟨rfl, I⟩))
    refine br_f z ⟨vp_in_nI (by omega) (by omega), ?_⟩
    rw [hx.1, hy.1]
    by_cases w : v2 < nI r
    · obtain ⟨q, hq, rfl⟩ := nI_of z
      have hq3 : q < r := by
        rcases Nat.lt_or_ge q r with y | y
        · exact y
        · exact absurd w (nI_nlt y hq)
      have ev : be (3 * i + q) = ye (i * 3 + q) := by
        rcases (show q = 0 ∨ q = 1 ∨ q = 2 by omega) with rfl | rfl | rfl
        · exact hx.2.1.trans hy.2.1.symm
        · exact hx.2.2.1.trans hy.2.2.1.symm
        · exact hx.2.2.2.1.trans hy.2.2.2.1.symm
      refine br_t w ?_
      simp (disch := omega) only [forall_eq, true_and, and_true, true_implies, false_implies, not_true_eq_false, not_false_eq_true, implies_true, forall_const, and_self, nI_leI, nI_ltI, nI_eq, vp_in_nI, nI_clamp, nI_add, pk_mul, pk_m1, nI_pred, nI_1, na_l0, na_g0, na_ll0, na_gl0, na_e0, na_p0, na_0p, na_c0, na_m1c, na_ap2, na_l3, na_l32, na_m3, na_m32, na_mr3, na_mr32, na_d1, na_d2, na_d3, na_d4, na_d5, na_d6, na_d7, na_d8, na_d9, ite_true, ite_false, reduceIte, if_true, if_false]
      exact ⟨fun z => absurd z (by omega), fun _ => ⟨fun _ => ⟨ev.symm, I⟩, fun z => absurd hq3 z⟩⟩
    · exact br_f w (br_ok2 hi f4 (br_f z ⟨vp_in_nI (by omega) (by omega), br_f w ⟨rfl, I⟩⟩))
end
section
theorem dr_inj {a b : Nat} (ha : a < 2 ^ 31) (hb : b < 2 ^ 31) (h : nI a = nI b) : a = b := by
  have := congrArg Int32.toNatClampNeg h
  rw [nI_clamp ha, nI_clamp hb] at this
  exact this
theorem br_in2 {i c : Nat} {a b : Prop} (hi : i < c) (hc : c < 2 ^ 31) (hb : b) : (nI i < 0 → a) ∧ (¬ nI i < 0 → ((nI c ≤ nI i → a) ∧ (¬ nI c ≤ nI i → b))) :=
  br_f (nI_pos (by omega)) (br_f (nI_ge hi (by omega)) hb)
theorem br_in {i c : Nat} {a b : Prop} (hi : i < c) (hc : c < 2 ^ 31) (hb : b) : (nI i < 0 → a) ∧ (¬ nI i < 0 → ((nI i < nI c → b) ∧ (¬ nI i < nI c → a))) :=
  br_f (nI_pos (by omega)) (br_t (nI_lt hi (by omega)) hb)
theorem i_vc_element {k : Nat} {u : SX} {v : SY} (I : i_Rel k u v) (hk : k + 5 ≤ 2563) (v1 : Int32) (v2 : Int32) : wpX_element (fun r => wpY_element (fun r' => r' = r ∧ i_Rel (k + 5) u v) v v1 v2) u v1 v2 := by
  refine dr_rel_el (P := fun u v => wpX_element (fun r => wpY_element (fun r' => r' = r ∧ i_Rel (k + 5) u v) v v1 v2) u v1 v2) I ?_
  intro M nv nt n V z0 z1 z2 z3 ep vn cl ov ou cc tk tv mv mf br be wr we ws ik ia sd pd ix rv rf ne st ns ct gv gf yd yr ye yi yf yq yn yh yz F I; have F2 := F; obtain ⟨f1, f2, f3, f4, f5, f6, f7, f8, f9, f10⟩ := F
  unfold wpX_element
  dsimp only
  rcases dr_vs v1 f4 with h | ⟨i, hi, rfl⟩
  · exact xb_bad h (br_f (by decide) (yb_elem_bad h ⟨rfl, I⟩))
  · have hx := f9 i (by omega)
    have hy := f10 i (by omega)
    have ok := f8 i (by omega)
    revert hx hy ok
    generalize V i = A
    obtain ⟨r, e0, e1, e2, el⟩ := A
    intro hx hy ok
    have k8 := ok.2.2.2.2.2.2.2.1
    refine xb_ok hi f4 (br_t rfl (xb_count hi f4 hx ?_))
    rcases dr_ps v2 (c := e0 * e1 * e2) (by omega) with h | ⟨q, hq, rfl⟩
    · exact br_bad h (yb_elem_out hi f4 f2 ok hy h ⟨rfl, I⟩)
    · refine br_in hq (by omega) ?_
      simp (disch := omega) only [na_m32, nI_add, vp_in_nI, nI_clamp, true_and]
      refine yb_elem hi f4 f2 ok hy hq ?_
      exact ⟨(hx.2.2.2.2 q hq).1.symm, I⟩
theorem i_vc_fault {k : Nat} {u : SX} {v : SY} (I : i_Rel k u v) (hk : k + 5 ≤ 2563) (v1 : Int32) (v2 : Int32) : wpX_fault (fun r => wpY_fault (fun r' => r' = r ∧ i_Rel (k + 5) u v) v v1 v2) u v1 v2 := by
  refine dr_rel_el (P := fun u v => wpX_fault (fun r => wpY_fault (fun r' => r' = r ∧ i_Rel (k + 5) u v) v v1 v2) u v1 v2) I ?_
  intro M nv nt n V z0 z1 z2 z3 ep vn cl ov ou cc tk tv mv mf br be wr we ws ik ia sd pd ix rv rf ne st ns ct gv gf yd yr ye yi yf yq yn yh yz F I; have F2 := F; obtain ⟨f1, f2, f3, f4, f5, f6, f7, f8, f9, f10⟩ := F
  unfold wpX_fault
  dsimp only
  rcases dr_vs v1 f4 with h | ⟨i, hi, rfl⟩
  · exact xb_bad h (br_f (by decide) (yb_fault_bad h ⟨rfl, I⟩))
  · have hx := f9 i (by omega)
    have hy := f10 i (by omega)
    have ok := f8 i (by omega)
    revert hx hy ok
    generalize V i = A
    obtain ⟨r, e0, e1, e2, el⟩ := A
    intro hx hy ok
    have k8 := ok.2.2.2.2.2.2.2.1
    refine xb_ok hi f4 (br_t rfl (xb_count hi f4 hx ?_))
    rcases dr_ps v2 (c := e0 * e1 * e2) (by omega) with h | ⟨q, hq, rfl⟩
    · exact br_bad h (yb_fault_out hi f4 f2 ok hy h ⟨rfl, I⟩)
    · refine br_in hq (by omega) ?_
      simp (disch := omega) only [na_m32, nI_add, vp_in_nI, nI_clamp, true_and]
      refine yb_fault hi f4 f2 ok hy hq ?_
      exact ⟨(hx.2.2.2.2 q hq).2.symm, I⟩
theorem i_vc_at {k : Nat} {u : SX} {v : SY} (I : i_Rel k u v) (hk : k + 5 ≤ 2563) (v1 : Int32) (v2 : Int32) (v3 : Int32) (v4 : Int32) : wpX_at (fun r => wpY_at (fun r' => r' = r ∧ i_Rel (k + 5) u v) v v1 v2 v3 v4) u v1 v2 v3 v4 := by
  refine dr_rel_el (P := fun u v => wpX_at (fun r => wpY_at (fun r' => r' = r ∧ i_Rel (k + 5) u v) v v1 v2 v3 v4) u v1 v2 v3 v4) I ?_
  intro M nv nt n V z0 z1 z2 z3 ep vn cl ov ou cc tk tv mv mf br be wr we ws ik ia sd pd ix rv rf ne st ns ct gv gf yd yr ye yi yf yq yn yh yz F I; have F2 := F; obtain ⟨f1, f2, f3, f4, f5, f6, f7, f8, f9, f10⟩ := F
  unfold wpX_at
  dsimp only
  rcases dr_vs v1 f4 with h | ⟨i, hi, rfl⟩
  · refine xb_bad h (br_f (by decide) ?_)
    unfold wpY_at wY_at_12 wY_at_25
    exact br_bad h (yb_elem_bad h ⟨rfl, I⟩)
  · have hx := f9 i (by omega)
    have hy := f10 i (by omega)
    have ok := f8 i (by omega)
    revert hx hy ok
    generalize V i = A
    obtain ⟨r, e0, e1, e2, el⟩ := A
    intro hx hy ok
    have k8 := ok.2.2.2.2.2.2.2.1
    have b0 := ok.2.1
    have b1 := ok.2.2.1
    have b2 := ok.2.2.2.1
    obtain ⟨x1, x2, x3, x4, x5⟩ := hx
    have YO : (∀ j0 j1 j2, j0 < e0 → j1 < e1 → j2 < e2 → v2 = nI j0 → v3 = nI j1 → v4 = nI j2 → False) → wpY_at (fun r' => r' = 0 ∧ i_Rel (k + 5) (z0, z1, z2, z3, nI M, nI nv, nI nt, nI n, nI (dr_dep tk n).toNat, ep, vn, cl, ov, ou, cc, tk, tv, mv, mf, br, be, wr, we, ws, ik, ia, sd, pd, ix, rv, rf, ne, st, ns, ct, gv, gf) (nI M, nI nv, nI nt, nI n, ep, tk, tv, yd, yr, ye, yi, yf, yq, yn, yh, yz)) (nI M, nI nv, nI nt, nI n, ep, tk, tv, yd, yr, ye, yi, yf, yq, yn, yh, yz) (nI i) v2 v3 v4 := by
      intro ho
      unfold wpY_at wY_at_12 wY_at_25
      refine br_ok hi f4 (ya_index (by omega) hy.2.1 hy.2.2.1 hy.2.2.2.1 b0 b1 b2 (fun j0 j1 j2 h0 h1 h2 a0 a1 a2 => absurd a2 (fun z => ho j0 j1 j2 h0 h1 h2 a0 a1 z)) (fun _ => ?_))
      exact yb_elem_out hi f4 f2 ok hy (Or.inl (by decide)) ⟨rfl, I⟩
    refine xb_ok hi f4 (br_t rfl ?_)
    rw [na_m3, nI_clamp (show 3 * i < 2 ^ 31 by omega), nI_1 (3 * i), nI_clamp (show 3 * i + 1 < 2 ^ 31 by omega), na_ap2, nI_clamp (show 3 * i + 2 < 2 ^ 31 by omega), x2, x3, x4]
    refine ⟨vp_in_nI (by omega) (by omega), nm_e ⟨vp_in_nI (by omega) (by omega), nm_e ⟨vp_in_nI (by omega) (by omega), nm_e ?_⟩⟩⟩
    rcases dr_ps v2 (c := e0) (by omega) with h | ⟨j0, h0, rfl⟩
    · refine br_bad2 h (YO (fun j0 j1 j2 h0 h1 h2 a0 a1 a2 => ?_))
      subst a0
      exact h.elim (nI_pos (by omega)) (fun z => z (nI_lt h0 (by omega)))
    refine br_in2 h0 (by omega) ?_
    rcases dr_ps v3 (c := e1) (by omega) with h | ⟨j1, h1, rfl⟩
    · refine br_bad2 h (YO (fun j0 j1 j2 h0 h1 h2 a0 a1 a2 => ?_))
      subst a1
      exact h.elim (nI_pos (by omega)) (fun z => z (nI_lt h1 (by omega)))
    refine br_in2 h1 (by omega) ?_
    rcases dr_ps v4 (c := e2) (by omega) with h | ⟨j2, h2, rfl⟩
    · refine br_bad h (YO (fun j0 j1 j2 h0 h1 h2 a0 a1 a2 => ?_))
      subst a2
      exact h.elim (nI_pos (by omega)) (fun z => z (nI_lt h2 (by omega)))
    refine br_in h2 (by omega) ?_
    have hq := dr_f3 h0 h1 h2
    have e : nI (32 * i) + (nI j0 * nI e1 + nI j1) * nI e2 + nI j2 = nI (32 * i + ((j0 * e1 + j1) * e2 + j2)) := by
      rw [← nI_add, dr_fl, ← Int32.add_assoc]
    rw [na_m32, e, nI_clamp (by omega)]
    refine ⟨vp_in_nI (by omega) (by omega), ?_⟩
    unfold wpY_at wY_at_12 wY_at_25
    refine br_ok hi f4 (ya_index (by omega) hy.2.1 hy.2.2.1 hy.2.2.2.1 b0 b1 b2 (fun i0 i1 i2 g0 g1 g2 a0 a1 a2 => ?_) (fun z => (z j0 j1 j2 h0 h1 h2 rfl rfl rfl).elim))
    have c0 := dr_inj (by omega) (by omega) a0
    have c1 := dr_inj (by omega) (by omega) a1
    have c2 := dr_inj (by omega) (by omega) a2
    subst c0 c1 c2
    exact yb_elem hi f4 f2 ok hy hq ⟨(x5 _ hq).1.symm, I⟩
def dr_ffv (el : Nat → dr_E) : Nat → Nat → Int32
  | 0, _ => -1
  | d + 1, i => if (el i).2 = 0 then dr_ffv el d (i + 1) else nI i
def dr_fcv (el : Nat → dr_E) : Nat → Nat → Int32 → Int32
  | 0, _, a => a
  | d + 1, i, a => if (el i).2 = 0 then dr_fcv el d (i + 1) a else dr_fcv el d (i + 1) (a + 1)
def dr_smv (el el' : Nat → dr_E) : Nat → Nat → Int32
  | 0, _ => 1
  | d + 1, i => if (el i).2 = (el' i).2 then (if (el i).1 = (el' i).1 then dr_smv el el' d (i + 1) else 0) else 0
section
variable {Q : Int32 → Prop} {z0 z1 z2 z3 mc vc mt ll oc ep vn cl ov ou cc : Int32} {tk tv mv mf br be wr we ws ik ia sd pd ix rv rf ne st ns ct gv gf : Nat → Int32} {nv M : Nat} {r e0 e1 e2 v : Nat} {el : Nat → dr_E}
theorem xb_ff {c : Nat} (hv : v < 8) (hc : c ≤ 32) (hx : ∀ i, i < c → mf (32 * v + i) = (el i).2) : ∀ (d i f : Nat), i + d = c → d < f → Q (dr_ffv el d i) → wX_firstFault_19 Q (nI v) (nI c) z0 z1 z2 z3 mc vc mt ll oc ep vn cl ov ou cc tk tv mv mf br be wr we ws ik ia sd pd ix rv rf ne st ns ct gv gf f (nI i) := by
  intro d
  induction d with
  | zero =>
    intro i f e hf h
    obtain ⟨f, rfl⟩ : ∃ k, f = k + 1 := ⟨f - 1, by omega⟩
    rw [wX_firstFault_19]
    exact br_t (nI_le (by omega) (by omega)) h
  | succ d ih =>
    intro i f e hf h
    obtain ⟨f, rfl⟩ : ∃ k, f = k + 1 := ⟨f - 1, by omega⟩
    rw [wX_firstFault_19]
    dsimp only
    rw [na_m32, nI_add, nI_clamp (show 32 * v + i < 2 ^ 31 by omega), hx i (by omega)]
    refine br_f (nI_ge (by omega) (by omega)) ⟨vp_in_nI (by omega) (by omega), ?_⟩
    rw [dr_ffv] at h
    by_cases z : (el i).2 = 0
    · rw [if_pos z] at h
      exact br_t z (nm_r (nI_1 i) (ih (i + 1) f (by omega) (by omega) h))
    · rw [if_neg z] at h
      exact br_f z h
theorem xb_fc {c : Nat} (hv : v < 8) (hc : c ≤ 32) (hx : ∀ i, i < c → mf (32 * v + i) = (el i).2) : ∀ (d i f : Nat) (a : Int32), i + d = c → d < f → Q (dr_fcv el d i a) → wX_faultCount_22 Q (nI v) (nI c) z0 z1 z2 z3 mc vc mt ll oc ep vn cl ov ou cc tk tv mv mf br be wr we ws ik ia sd pd ix rv rf ne st ns ct gv gf f a (nI i) := by
  intro d
  induction d with
  | zero =>
    intro i f a e hf h
    obtain ⟨f, rfl⟩ : ∃ k, f = k + 1 := ⟨f - 1, by omega⟩
    rw [wX_faultCount_22]
    exact br_t (nI_le (by omega) (by omega)) h
  | succ d ih =>
    intro i f a e hf h
    obtain ⟨f, rfl⟩ : ∃ k, f = k + 1 := ⟨f - 1, by omega⟩
    rw [wX_faultCount_22]
    dsimp only
    rw [na_m32, nI_add, nI_clamp (show 32 * v + i < 2 ^ 31 by omega), hx i (by omega)]
    refine br_f (nI_ge (by omega) (by omega)) ⟨vp_in_nI (by omega) (by omega), ?_⟩
    rw [dr_fcv] at h
    by_cases z : (el i).2 = 0
    · rw [if_pos z] at h
      exact br_t z (nm_r (nI_1 i) (ih (i + 1) f a (by omega) (by omega) h))
    · rw [if_neg z] at h
      exact br_f z (nm_e (nm_r (nI_1 i) (ih (i + 1) f (a + 1) (by omega) (by omega) h)))
theorem xb_sm {c w : Nat} {el' : Nat → dr_E} (hv : v < 8) (hw : w < 8) (hc : c ≤ 32) (hx : ∀ i, i < c → mv (32 * v + i) = (el i).1 ∧ mf (32 * v + i) = (el i).2) (hy : ∀ i, i < c → mv (32 * w + i) = (el' i).1 ∧ mf (32 * w + i) = (el' i).2) :
    ∀ (d i f : Nat), i + d = c → d < f → Q (dr_smv el el' d i) → wX_same_83 Q (nI v) (nI w) (nI c) z0 z1 z2 z3 mc vc mt ll oc ep vn cl ov ou cc tk tv mv mf br be wr we ws ik ia sd pd ix rv rf ne st ns ct gv gf f (nI i) := by
  intro d
  induction d with
  | zero =>
    intro i f e hf h
    obtain ⟨f, rfl⟩ : ∃ k, f = k + 1 := ⟨f - 1, by omega⟩
    rw [wX_same_83]
    exact br_t (nI_le (by omega) (by omega)) h
  | succ d ih =>
    intro i f e hf h
    obtain ⟨f, rfl⟩ : ∃ k, f = k + 1 := ⟨f - 1, by omega⟩
    obtain ⟨a1, a2⟩ := hx i (by omega)
    obtain ⟨b1, b2⟩ := hy i (by omega)
    rw [wX_same_83]
    dsimp only
    rw [na_m32, na_m32, nI_add, nI_add]
    refine br_f (nI_ge (by omega) (by omega)) (nm_e (nm_e ?_))
    rw [nI_clamp (show 32 * v + i < 2 ^ 31 by omega), nI_clamp (show 32 * w + i < 2 ^ 31 by omega), a1, a2, b1, b2]
    refine ⟨vp_in_nI (by omega) (by omega), vp_in_nI (by omega) (by omega), ?_⟩
    rw [dr_smv] at h
    by_cases z : (el i).2 = (el' i).2
    · rw [if_pos z] at h
      refine br_t z ⟨vp_in_nI (by omega) (by omega), vp_in_nI (by omega) (by omega), ?_⟩
      by_cases y : (el i).1 = (el' i).1
      · rw [if_pos y] at h
        exact br_t y (nm_r (nI_1 i) (ih (i + 1) f (by omega) (by omega) h))
      · rw [if_neg y] at h
        exact br_f y h
    · rw [if_neg z] at h
      exact br_f z h
theorem xb_se {w : Nat} {E E' : Nat → Int32} (hv : v < 8) (hw : w < 8) (h1 : ∀ i, i < 3 → be (3 * v + i) = E i) (h2 : ∀ i, i < 3 → be (3 * w + i) = E' i)
    (K : (∀ i, i < 3 → E i = E' i) → wpX_count (fun r_83 => (∃ n83 : Nat, wX_same_83 Q (nI v) (nI w) r_83 z0 z1 z2 z3 mc vc mt ll oc ep vn cl ov ou cc tk tv mv mf br be wr we ws ik ia sd pd ix rv rf ne st ns ct gv gf n83 0)) (z0, z1, z2, z3, mc, vc, mt, ll, oc, ep, vn, cl, ov, ou, cc, tk, tv, mv, mf, br, be, wr, we, ws, ik, ia, sd, pd, ix, rv, rf, ne, st, ns, ct, gv, gf) (nI v)) (K0 : ¬ (∀ i, i < 3 → E i = E' i) → Q 0) :
    ∃ n38 : Nat, wX_same_38 Q (nI v) (nI w) z0 z1 z2 z3 mc vc mt ll oc ep vn cl ov ou cc tk tv mv mf br be wr we ws ik ia sd pd ix rv rf ne st ns ct gv gf n38 0 := by
  refine dr_lp1 (σ := Unit) 3 (fun f i _ => wX_same_38 Q (nI v) (nI w) z0 z1 z2 z3 mc vc mt ll oc ep vn cl ov ou cc tk tv mv mf br be wr we ws ik ia sd pd ix rv rf ne st ns ct gv gf f (nI i)) (fun i _ => ∀ j, j < i → E j = E' j) ?_ ?_ 0 (Nat.zero_le _) () (fun j hj => by omega)
  · intro f s hI
    rw [wX_same_38]
    exact br_t (nI_le (a := 3) (b := 3) (by omega) (by omega)) (K hI)
  · intro f i s hi hI hW
    rw [wX_same_38]
    dsimp only
    rw [na_m3, na_m3, nI_add, nI_add, nI_clamp (show 3 * v + i < 2 ^ 31 by omega), nI_clamp (show 3 * w + i < 2 ^ 31 by omega), h1 i hi, h2 i hi]
    refine br_f (nI_ge (b := 3) (by omega) (by omega)) ⟨vp_in_nI (by omega) (by omega), vp_in_nI (by omega) (by omega), ?_⟩
    by_cases z : E i = E' i
    · refine br_t z (nm_r (nI_1 i) (hW () (fun j hj => ?_)))
      rcases Nat.lt_or_ge j i with y | y
      · exact hI j y
      · rw [show j = i by omega]; exact z
    · exact br_f z (K0 (fun w => z (w i hi)))
end
section
variable {Q : Int32 → Prop} {yc yv yt yu yp : Int32} {yk yw yd yr ye yi yf yq yn yh yz : Nat → Int32} {nv M : Nat} {r e0 e1 e2 v : Nat} {el : Nat → dr_E}
theorem yb_ff (hv : v < nv) (hnv : nv ≤ 8) (hM : M ≤ 32) (ok : dr_ok M (r, e0, e1, e2, el)) (hy : yd_V yr ye yi yf v (r, e0, e1, e2, el)) : ∀ (d i f : Nat), i + d = e0 * e1 * e2 → d < f → Q (dr_ffv el d i) → wY_firstFault_8 Q (nI v) (nI (e0 * e1 * e2)) yc (nI nv) yt yu yp yk yw yd yr ye yi yf yq yn yh yz f (nI i) := by
  have k8 := ok.2.2.2.2.2.2.2.1
  intro d
  induction d with
  | zero =>
    intro i f e hf h
    obtain ⟨f, rfl⟩ : ∃ k, f = k + 1 := ⟨f - 1, by omega⟩
    rw [wY_firstFault_8]
    exact br_t (nI_le (by omega) (by omega)) (br_t (nI_le (a := 0) (by omega) (by omega)) h)
  | succ d ih =>
    intro i f e hf h
    obtain ⟨f, rfl⟩ : ∃ k, f = k + 1 := ⟨f - 1, by omega⟩
    rw [wY_firstFault_8]
    refine br_f (nI_ge (by omega) (by omega)) (yb_fault hv hnv hM ok hy (by omega) ?_)
    rw [dr_ffv] at h
    by_cases z : (el i).2 = 0
    · rw [if_pos z] at h
      exact br_t z (nm_r (nI_1 i) (ih (i + 1) f (by omega) (by omega) h))
    · rw [if_neg z] at h
      exact br_f z h
theorem yb_fc (hv : v < nv) (hnv : nv ≤ 8) (hM : M ≤ 32) (ok : dr_ok M (r, e0, e1, e2, el)) (hy : yd_V yr ye yi yf v (r, e0, e1, e2, el)) : ∀ (d i f : Nat) (a : Int32), i + d = e0 * e1 * e2 → d < f → Q (dr_fcv el d i a) → wY_faultCount_11 Q (nI v) (nI (e0 * e1 * e2)) yc (nI nv) yt yu yp yk yw yd yr ye yi yf yq yn yh yz f a (nI i) := by
  have k8 := ok.2.2.2.2.2.2.2.1
  intro d
  induction d with
  | zero =>
    intro i f a e hf h
    obtain ⟨f, rfl⟩ : ∃ k, f = k + 1 := ⟨f - 1, by omega⟩
    rw [wY_faultCount_11]
    exact br_t (nI_le (by omega) (by omega)) (br_t (nI_le (a := 0) (by omega) (by omega)) h)
  | succ d ih =>
    intro i f a e hf h
    obtain ⟨f, rfl⟩ : ∃ k, f = k + 1 := ⟨f - 1, by omega⟩
    rw [wY_faultCount_11]
    refine br_f (nI_ge (by omega) (by omega)) (yb_fault hv hnv hM ok hy (by omega) ?_)
    rw [dr_fcv] at h
    by_cases z : (el i).2 = 0
    · rw [if_pos z] at h
      exact br_t z (nm_r (nI_1 i) (ih (i + 1) f a (by omega) (by omega) h))
    · rw [if_neg z] at h
      exact br_f z (nm_e (nm_r (nI_1 i) (ih (i + 1) f (a + 1) (by omega) (by omega) h)))
theorem yb_sm {w : Nat} {el' : Nat → dr_E} (hv : v < nv) (hw : w < nv) (hnv : nv ≤ 8) (hM : M ≤ 32) (ok : dr_ok M (r, e0, e1, e2, el)) (hy : yd_V yr ye yi yf v (r, e0, e1, e2, el)) (ok' : dr_ok M (r, e0, e1, e2, el')) (hy' : yd_V yr ye yi yf w (r, e0, e1, e2, el')) :
    ∀ (d i f : Nat), i + d = e0 * e1 * e2 → d < f → Q (dr_smv el el' d i) → wY_same_84 Q (nI v) (nI w) yc (nI nv) yt yu yp yk yw yd yr ye yi yf yq yn yh yz f (nI i) := by
  have k8 := ok.2.2.2.2.2.2.2.1
  intro d
  induction d with
  | zero =>
    intro i f e hf h
    obtain ⟨f, rfl⟩ : ∃ k, f = k + 1 := ⟨f - 1, by omega⟩
    rw [wY_same_84]
    exact yb_size (by omega) hy (br_t (nI_le (by omega) (by omega)) h)
  | succ d ih =>
    intro i f e hf h
    obtain ⟨f, rfl⟩ : ∃ k, f = k + 1 := ⟨f - 1, by omega⟩
    rw [wY_same_84]
    refine yb_size (by omega) hy (br_f (nI_ge (by omega) (by omega)) (yb_fault hv hnv hM ok hy (by omega) (yb_fault hw hnv hM ok' hy' (by omega) ?_)))
    rw [dr_smv] at h
    by_cases z : (el i).2 = (el' i).2
    · rw [if_pos z] at h
      refine br_t z (yb_elem hv hnv hM ok hy (by omega) (yb_elem hw hnv hM ok' hy' (by omega) ?_))
      by_cases y : (el i).1 = (el' i).1
      · rw [if_pos y] at h
        exact br_t y (nm_r (nI_1 i) (ih (i + 1) f (by omega) (by omega) h))
      · rw [if_neg y] at h
        exact br_f y h
    · rw [if_neg z] at h
      exact br_f z h
theorem yb_se {w : Nat} {E E' : Nat → Int32} (hv : v < 8) (hw : w < 8) (h1 : ∀ i, i < 3 → ye (v * 3 + i) = E i) (h2 : ∀ i, i < 3 → ye (w * 3 + i) = E' i)
    (K : (∀ i, i < 3 → E i = E' i) → ∃ n84 : Nat, wY_same_84 Q (nI v) (nI w) yc yv yt yu yp yk yw yd yr ye yi yf yq yn yh yz n84 0) (K0 : ¬ (∀ i, i < 3 → E i = E' i) → Q 0) :
    ∃ n46 : Nat, wY_same_46 Q (nI v) (nI w) yc yv yt yu yp yk yw yd yr ye yi yf yq yn yh yz n46 0 := by
  refine dr_lp1 (σ := Unit) 3 (fun f i _ => wY_same_46 Q (nI v) (nI w) yc yv yt yu yp yk yw yd yr ye yi yf yq yn yh yz f (nI i)) (fun i _ => ∀ j, j < i → E j = E' j) ?_ ?_ 0 (Nat.zero_le _) () (fun j hj => by omega)
  · intro f s hI
    rw [wY_same_46]
    exact br_t (nI_le (a := 3) (b := 3) (by omega) (by omega)) (K hI)
  · intro f i s hi hI hW
    rw [wY_same_46]
    dsimp only
    rw [na_mr3, na_mr3, nI_add, nI_add, nI_clamp (show v * 3 + i < 2 ^ 31 by omega), nI_clamp (show w * 3 + i < 2 ^ 31 by omega), h1 i hi, h2 i hi]
    refine br_f (nI_ge (b := 3) (by omega) (by omega)) ⟨vp_in_nI (by omega) (by omega), vp_in_nI (by omega) (by omega), ?_⟩
    by_cases z : E i = E' i
    · refine br_t z (nm_r (nI_1 i) (hW () (fun j hj => ?_)))
      rcases Nat.lt_or_ge j i with y | y
      · exact hI j y
      · rw [show j = i by omega]; exact z
    · exact br_f z (K0 (fun w => z (w i hi)))
end
end
section
theorem i_vc_firstFault {k : Nat} {u : SX} {v : SY} (I : i_Rel k u v) (hk : k + 5 ≤ 2563) (v1 : Int32) : wpX_firstFault (fun r => wpY_firstFault (fun r' => r' = r ∧ i_Rel (k + 5) u v) v v1) u v1 := by
  refine dr_rel_el (P := fun u v => wpX_firstFault (fun r => wpY_firstFault (fun r' => r' = r ∧ i_Rel (k + 5) u v) v v1) u v1) I ?_
  intro M nv nt n V z0 z1 z2 z3 ep vn cl ov ou cc tk tv mv mf br be wr we ws ik ia sd pd ix rv rf ne st ns ct gv gf yd yr ye yi yf yq yn yh yz F I; have F2 := F; obtain ⟨f1, f2, f3, f4, f5, f6, f7, f8, f9, f10⟩ := F
  unfold wpX_firstFault
  dsimp only
  rcases dr_vs v1 f4 with h | ⟨i, hi, rfl⟩
  · refine xb_bad h (br_f (by decide) ?_)
    unfold wpY_firstFault wpY_count
    refine br_bad h ⟨1, ?_⟩
    rw [wY_firstFault_8]
    exact br_t (by decide) (br_f (by decide) ⟨rfl, I⟩)
  · have hx := f9 i (by omega)
    have hy := f10 i (by omega)
    have ok := f8 i (by omega)
    revert hx hy ok
    generalize V i = A
    obtain ⟨r, e0, e1, e2, el⟩ := A
    intro hx hy ok
    have k8 := ok.2.2.2.2.2.2.2.1
    refine xb_ok hi f4 (br_t rfl (xb_count hi f4 hx ⟨33, xb_ff (el := el) (by omega) (by omega) (fun i hi => (hx.2.2.2.2 i hi).2) (e0 * e1 * e2) 0 33 (by omega) (by omega) ?_⟩))
    unfold wpY_firstFault
    exact yb_count hi f4 hy ⟨33, yb_ff hi f4 f2 ok hy (e0 * e1 * e2) 0 33 (by omega) (by omega) ⟨rfl, I⟩⟩
theorem i_vc_faultCount {k : Nat} {u : SX} {v : SY} (I : i_Rel k u v) (hk : k + 5 ≤ 2563) (v1 : Int32) : wpX_faultCount (fun r => wpY_faultCount (fun r' => r' = r ∧ i_Rel (k + 5) u v) v v1) u v1 := by
  refine dr_rel_el (P := fun u v => wpX_faultCount (fun r => wpY_faultCount (fun r' => r' = r ∧ i_Rel (k + 5) u v) v v1) u v1) I ?_
  intro M nv nt n V z0 z1 z2 z3 ep vn cl ov ou cc tk tv mv mf br be wr we ws ik ia sd pd ix rv rf ne st ns ct gv gf yd yr ye yi yf yq yn yh yz F I; have F2 := F; obtain ⟨f1, f2, f3, f4, f5, f6, f7, f8, f9, f10⟩ := F
  unfold wpX_faultCount
  dsimp only
  rcases dr_vs v1 f4 with h | ⟨i, hi, rfl⟩
  · refine xb_bad h (br_f (by decide) ?_)
    unfold wpY_faultCount wpY_count
    refine br_bad h ⟨1, ?_⟩
    rw [wY_faultCount_11]
    exact br_t (by decide) (br_f (by decide) ⟨rfl, I⟩)
  · have hx := f9 i (by omega)
    have hy := f10 i (by omega)
    have ok := f8 i (by omega)
    revert hx hy ok
    generalize V i = A
    obtain ⟨r, e0, e1, e2, el⟩ := A
    intro hx hy ok
    have k8 := ok.2.2.2.2.2.2.2.1
    refine xb_ok hi f4 (br_t rfl (xb_count hi f4 hx ⟨33, xb_fc (el := el) (by omega) (by omega) (fun i hi => (hx.2.2.2.2 i hi).2) (e0 * e1 * e2) 0 33 0 (by omega) (by omega) ?_⟩))
    unfold wpY_faultCount
    exact yb_count hi f4 hy ⟨33, yb_fc hi f4 f2 ok hy (e0 * e1 * e2) 0 33 0 (by omega) (by omega) ⟨rfl, I⟩⟩
theorem i_vc_same {k : Nat} {u : SX} {v : SY} (I : i_Rel k u v) (hk : k + 5 ≤ 2563) (v1 : Int32) (v2 : Int32) : wpX_same (fun r => wpY_same (fun r' => r' = r ∧ i_Rel (k + 5) u v) v v1 v2) u v1 v2 := by
  refine dr_rel_el (P := fun u v => wpX_same (fun r => wpY_same (fun r' => r' = r ∧ i_Rel (k + 5) u v) v v1 v2) u v1 v2) I ?_
  intro M nv nt n V z0 z1 z2 z3 ep vn cl ov ou cc tk tv mv mf br be wr we ws ik ia sd pd ix rv rf ne st ns ct gv gf yd yr ye yi yf yq yn yh yz F I; have F2 := F; obtain ⟨f1, f2, f3, f4, f5, f6, f7, f8, f9, f10⟩ := F
  unfold wpX_same
  dsimp only
  rcases dr_vs v1 f4 with h | ⟨i, hi, rfl⟩
  · refine xb_bad h (br_f (by decide) ?_)
    unfold wpY_same
    exact br_bad2 h ⟨rfl, I⟩
  refine xb_ok hi f4 (br_t rfl ?_)
  rcases dr_vs v2 f4 with h | ⟨j, hj, rfl⟩
  · refine xb_bad h (br_f (by decide) ?_)
    unfold wpY_same
    exact br_ok2 hi f4 (br_bad h ⟨rfl, I⟩)
  have hx := f9 i (by omega)
  have hy := f10 i (by omega)
  have ok := f8 i (by omega)
  have hx' := f9 j (by omega)
  have hy' := f10 j (by omega)
  have ok' := f8 j (by omega)
  revert hx hy ok hx' hy' ok'
  generalize V i = A
  generalize V j = A'
  obtain ⟨r, e0, e1, e2, el⟩ := A
  obtain ⟨r', e0', e1', e2', el'⟩ := A'
  intro hx hy ok hx' hy' ok'
  have k8 := ok.2.2.2.2.2.2.2.1
  have kr := ok.1
  have kr' := ok'.1
  have hE : ∀ q, q < 3 → be (3 * i + q) = nI (dr_h e0 e1 e2 q) := na_all3 hx.2.1 hx.2.2.1 hx.2.2.2.1
  have hE' : ∀ q, q < 3 → be (3 * j + q) = nI (dr_h e0' e1' e2' q) := na_all3 hx'.2.1 hx'.2.2.1 hx'.2.2.2.1
  have hG : ∀ q, q < 3 → ye (i * 3 + q) = nI (dr_h e0 e1 e2 q) := na_all3 hy.2.1 hy.2.2.1 hy.2.2.2.1
  have hG' : ∀ q, q < 3 → ye (j * 3 + q) = nI (dr_h e0' e1' e2' q) := na_all3 hy'.2.1 hy'.2.2.1 hy'.2.2.2.1
  refine xb_ok hj f4 (br_t rfl ⟨vp_in_nI (by omega) (by omega), vp_in_nI (by omega) (by omega), ?_⟩)
  unfold wpY_same
  dsimp only
  rw [nI_clamp (show i < 2 ^ 31 by omega), nI_clamp (show j < 2 ^ 31 by omega), hx.1, hx'.1, hy.1, hy'.1]
  by_cases z : nI r = nI r'
  · have er := dr_inj (by omega) (by omega) z
    subst er
    refine br_t rfl (xb_se (E := fun q => nI (dr_h e0 e1 e2 q)) (E' := fun q => nI (dr_h e0' e1' e2' q)) (by omega) (by omega) hE hE' (fun he => ?_) (fun he => ?_))
    · have g0 : e0 = e0' := dr_inj (Nat.lt_of_le_of_lt ok.2.1 (by omega)) (Nat.lt_of_le_of_lt ok'.2.1 (by omega)) (he 0 (by omega))
      have g1 : e1 = e1' := dr_inj (Nat.lt_of_le_of_lt ok.2.2.1 (by omega)) (Nat.lt_of_le_of_lt ok'.2.2.1 (by omega)) (he 1 (by omega))
      have g2 : e2 = e2' := dr_inj (Nat.lt_of_le_of_lt ok.2.2.2.1 (by omega)) (Nat.lt_of_le_of_lt ok'.2.2.2.1 (by omega)) (he 2 (by omega))
      subst g0 g1 g2
      refine xb_count hi f4 hx ⟨33, xb_sm (el := el) (el' := el') (by omega) (by omega) (by omega) hx.2.2.2.2 hx'.2.2.2.2 (e0 * e1 * e2) 0 33 (by omega) (by omega) ?_⟩
      refine br_ok2 hi f4 (br_ok hj f4 ⟨vp_in_nI (by omega) (by omega), vp_in_nI (by omega) (by omega), br_t rfl ?_⟩)
      exact yb_se (E := fun q => nI (dr_h e0 e1 e2 q)) (E' := fun q => nI (dr_h e0 e1 e2 q)) (by omega) (by omega) hG hG' (fun _ => ⟨33, yb_sm hi hj f4 f2 ok hy ok' hy' (e0 * e1 * e2) 0 33 (by omega) (by omega) ⟨rfl, I⟩⟩) (fun he => absurd (fun _ _ => rfl) he)
    · refine br_ok2 hi f4 (br_ok hj f4 ⟨vp_in_nI (by omega) (by omega), vp_in_nI (by omega) (by omega), br_t rfl ?_⟩)
      exact yb_se (E := fun q => nI (dr_h e0 e1 e2 q)) (E' := fun q => nI (dr_h e0' e1' e2' q)) (by omega) (by omega) hG hG' (fun he' => absurd he' he) (fun _ => ⟨rfl, I⟩)
  · exact br_f z (br_ok2 hi f4 (br_ok hj f4 ⟨vp_in_nI (by omega) (by omega), vp_in_nI (by omega) (by omega), br_f z ⟨rfl, I⟩⟩))
end
section
def dr_tr (K : Nat → Int32) : Nat → Nat
  | 0 => 0
  | j + 1 => if K j = 0 then dr_tr K j + 1 else 0
theorem dr_tr_le {K : Nat → Int32} : ∀ n, dr_tr K n ≤ n
  | 0 => Nat.le_refl _
  | n + 1 => by
    have := dr_tr_le (K := K) n
    show (if K n = 0 then dr_tr K n + 1 else 0) ≤ n + 1
    split <;> omega
theorem dr_tr_all {K : Nat → Int32} : ∀ (n m : Nat), m ≤ dr_tr K n → ∀ j, j < n → n - m ≤ j → K j = 0
  | 0, m, _, j, hj, _ => by omega
  | n + 1, m, h, j, hj, hm => by
    have h' : m ≤ (if K n = 0 then dr_tr K n + 1 else 0) := h
    by_cases z : K n = 0
    · rw [if_pos z] at h'
      by_cases e : j = n
      · rw [e]; exact z
      · exact dr_tr_all n (m - 1) (by omega) j (by omega) (by omega)
    · rw [if_neg z] at h'
      omega
theorem dr_tr_ge {K : Nat → Int32} : ∀ (m n : Nat), m ≤ n → (∀ j, j < n → n - m ≤ j → K j = 0) → m ≤ dr_tr K n
  | 0, _, _, _ => Nat.zero_le _
  | m + 1, 0, h, _ => by omega
  | m + 1, n + 1, h, hz => by
    show m + 1 ≤ (if K n = 0 then dr_tr K n + 1 else 0)
    rw [if_pos (hz n (by omega) (by omega))]
    have := dr_tr_ge m n (by omega) (fun j hj hm => hz j (by omega) (by omega))
    omega
def dr_gv (nv kd : Nat) (y : Int32) : Prop := (kd = 1 → ∃ v, v < nv ∧ y = nI v) ∧ (kd = 2 → ∃ c, c ≤ 14 ∧ y = nI c) ∧ (kd = 3 ∨ kd = 4 ∨ kd = 5 → ∃ c, c ≤ 8 ∧ y = nI c)
def dr_ft (K : Nat → Int32) (n d kd : Nat) (y : Int32) : Prop :=
  (dr_set K n → kd = 5 ∨ (kd = 2 ∧ y ≠ 14) ∨ (kd = 7 ∧ 1 ≤ d) ∨ (kd = 0 ∧ K (n - 1) = 0)) ∧ (¬ dr_set K n → kd ≠ 5 ∧ kd ≠ 7)
theorem br_bad3 {x : Int32} {m : Nat} {a b : Prop} (hm : m < 2 ^ 30) (hx : x < 0 ∨ ¬ x < nI (m + 1)) (ha : a) : (x < 0 → a) ∧ (¬ x < 0 → ((nI m < x → a) ∧ (¬ nI m < x → b))) := by
  by_cases y : x < 0
  · exact br_t y ha
  · have h := hx.resolve_left y
    obtain ⟨v, hv, rfl⟩ := nI_of y
    refine br_f y (br_t ?_ ha)
    rcases Nat.lt_or_ge v (m + 1) with z | z
    · exact absurd (nI_lt z (by omega)) h
    · exact nI_lt (by omega) hv
theorem br_in3 {i m : Nat} {a b : Prop} (hi : i ≤ m) (hm : m < 2 ^ 31) (hb : b) : (nI i < 0 → a) ∧ (¬ nI i < 0 → ((nI m < nI i → a) ∧ (¬ nI m < nI i → b))) :=
  br_f (nI_pos (by omega)) (br_f (nI_nlt hi (by omega)) hb)
theorem dr_gv1 {nv : Nat} {y : Int32} (h : y < 0 ∨ ¬ y < nI nv) (hnv : nv ≤ 8) : ¬ dr_gv nv 1 y := by
  rintro ⟨g, _, _⟩
  obtain ⟨v, hv, rfl⟩ := g rfl
  exact h.elim (nI_pos (by omega)) (fun z => z (nI_lt hv (by omega)))
theorem dr_gv2 {nv : Nat} {y : Int32} (h : y < 0 ∨ ¬ y < nI 15) : ¬ dr_gv nv 2 y := by
  rintro ⟨_, g, _⟩
  obtain ⟨v, hv, rfl⟩ := g rfl
  exact h.elim (nI_pos (by omega)) (fun z => z (nI_lt (by omega) (by omega)))
theorem dr_gv3 {nv kd : Nat} {y : Int32} (h : y < 0 ∨ ¬ y < nI 9) (hk : kd = 3 ∨ kd = 4 ∨ kd = 5) : ¬ dr_gv nv kd y := by
  rintro ⟨_, _, g⟩
  obtain ⟨v, hv, rfl⟩ := g hk
  exact h.elim (nI_pos (by omega)) (fun z => z (nI_lt (by omega) (by omega)))
section
variable {Q : Int32 → Prop} {z0 z1 z2 z3 mc vc mt ll oc ep vn cl ov ou cc : Int32} {tk tv mv mf br be wr we ws ik ia sd pd ix rv rf ne st ns ct gv gf : Nat → Int32} {nv M n d kd : Nat} {y : Int32}
theorem xb_good (hkd : kd ≤ 7) (hnv : nv ≤ 8) (h1 : dr_gv nv kd y → Q 1) (h0 : ¬ dr_gv nv kd y → Q 0) : wpX_goodValue Q (z0, z1, z2, z3, mc, nI nv, mt, ll, oc, ep, vn, cl, ov, ou, cc, tk, tv, mv, mf, br, be, wr, we, ws, ik, ia, sd, pd, ix, rv, rf, ne, st, ns, ct, gv, gf) (nI kd) y := by
  unfold wpX_goodValue
  dsimp only
  by_cases e1 : kd = 1
  · subst e1
    refine br_t rfl ?_
    rcases dr_ps y (c := nv) (by omega) with h | ⟨i, hi, rfl⟩
    · exact br_bad2 h (h0 (dr_gv1 h hnv))
    · exact br_in2 hi (by omega) (h1 ⟨fun _ => ⟨i, hi, rfl⟩, fun z => by omega, fun z => by omega⟩)
  refine br_f (fun z => e1 ((na_e1 (by omega)).mp z)) ?_
  by_cases e2 : kd = 2
  · subst e2
    refine br_t rfl ?_
    rcases dr_ps y (c := 15) (by omega) with h | ⟨i, hi, rfl⟩
    · exact br_bad3 (m := 14) (by omega) h (h0 (dr_gv2 h))
    · exact br_in3 (m := 14) (by omega) (by omega) (h1 ⟨fun z => by omega, fun _ => ⟨i, by omega, rfl⟩, fun z => by omega⟩)
  refine br_f (fun z => e2 ((na_e2 (by omega)).mp z)) ?_
  refine xe_fk hkd (fun a b => br_f (by decide) ?_) (fun a => br_t rfl (h1 ⟨fun z => by omega, fun z => by omega, fun z => by omega⟩))
  rcases dr_ps y (c := 9) (by omega) with h | ⟨i, hi, rfl⟩
  · exact br_bad3 (m := 8) (by omega) h (h0 (dr_gv3 h (by omega)))
  · exact br_in3 (m := 8) (by omega) (by omega) (h1 ⟨fun z => by omega, fun z => by omega, fun _ => ⟨i, by omega, rfl⟩⟩)
theorem xb_fits (hkd : kd ≤ 7) (hn : n ≤ 40) (hd : d ≤ 6) (h1 : dr_ft tk n d kd y → Q 1) (h0 : ¬ dr_ft tk n d kd y → Q 0) : wpX_fits Q (z0, z1, z2, z3, mc, vc, mt, nI n, nI d, ep, vn, cl, ov, ou, cc, tk, tv, mv, mf, br, be, wr, we, ws, ik, ia, sd, pd, ix, rv, rf, ne, st, ns, ct, gv, gf) (nI kd) y := by
  unfold wpX_fits
  dsimp only
  refine xb_settled hn (fun hs => br_f (by decide) ?_) (fun hs => br_t rfl ?_)
  · have T : (kd = 5 ∨ (kd = 2 ∧ y ≠ 14) ∨ (kd = 7 ∧ 1 ≤ d) ∨ (kd = 0 ∧ tk (n - 1) = 0)) → Q 1 := fun z => h1 ⟨fun _ => z, fun w => absurd hs w⟩
    have N : ¬ (kd = 5 ∨ (kd = 2 ∧ y ≠ 14) ∨ (kd = 7 ∧ 1 ≤ d) ∨ (kd = 0 ∧ tk (n - 1) = 0)) → Q 0 := fun z => h0 (fun w => z (w.1 hs))
    by_cases e5 : kd = 5
    · exact br_t (by rw [e5]; rfl) (T (Or.inl e5))
    refine br_f (fun z => e5 ((na_e5 (by omega)).mp z)) ?_
    by_cases e2 : kd = 2
    · refine br_t (by rw [e2]; rfl) ?_
      by_cases z : y = 14
      · exact br_t z (N (fun w => by rcases w with w | w | w | w; omega; exact w.2 z; omega; omega))
      · exact br_f z (T (Or.inr (Or.inl ⟨e2, z⟩)))
    refine br_f (fun z => e2 ((na_e2 (by omega)).mp z)) ?_
    by_cases e7 : kd = 7
    · refine br_t (by rw [e7]; rfl) ?_
      rcases Nat.eq_zero_or_pos d with z | z
      · exact br_t (nI_lt (b := 1) (by omega) (by omega)) (N (fun w => by omega))
      · exact br_f (nI_nlt (b := 1) (by omega) (by omega)) (T (Or.inr (Or.inr (Or.inl ⟨e7, z⟩))))
    refine br_f (fun z => e7 ((na_e7 (by omega)).mp z)) ?_
    have n0 := hs.1
    by_cases e0 : kd = 0
    · rw [na_s1 n0, nI_clamp (show n - 1 < 2 ^ 31 by omega)]
      refine br_t (by rw [e0]; rfl) ⟨vp_in_nI (by omega) (by omega), ?_⟩
      by_cases z : tk (n - 1) = 0
      · exact br_t z (T (Or.inr (Or.inr (Or.inr ⟨e0, z⟩))))
      · exact br_f z (N (fun w => by rcases w with w | w | w | w; omega; omega; omega; exact z w.2))
    · exact br_f (nI_ne0 (by omega) (by omega)) (N (fun w => by omega))
  · by_cases e5 : kd = 5
    · exact br_t (by rw [e5]; rfl) (h0 (fun w => (w.2 hs).1 e5))
    refine br_f (fun z => e5 ((na_e5 (by omega)).mp z)) ?_
    by_cases e7 : kd = 7
    · exact br_t (by rw [e7]; rfl) (h0 (fun w => (w.2 hs).2 e7))
    · exact br_f (fun z => e7 ((na_e7 (by omega)).mp z)) (h1 ⟨fun w => absurd w hs, fun _ => ⟨e5, e7⟩⟩)
theorem xb_full (hn : n ≤ 40) (hM : M ≤ 32) (h1 : M ≤ dr_tr tk n → Q 1) (h0 : ¬ M ≤ dr_tr tk n → Q 0) : wpX_runIsFull Q (z0, z1, z2, z3, nI M, vc, mt, nI n, oc, ep, vn, cl, ov, ou, cc, tk, tv, mv, mf, br, be, wr, we, ws, ik, ia, sd, pd, ix, rv, rf, ne, st, ns, ct, gv, gf) := by
  unfold wpX_runIsFull
  dsimp only
  have hle := dr_tr_le (K := tk) n
  rcases Nat.lt_or_ge n M with z | z
  · exact br_f (nI_ge z (by omega)) (h0 (by omega))
  · refine br_t (nI_le z (by omega)) (nm_r (pk_sub z) ?_)
    refine dr_lp1 (σ := Unit) n (fun f i _ => wX_runIsFull_23 Q z0 z1 z2 z3 (nI M) vc mt (nI n) oc ep vn cl ov ou cc tk tv mv mf br be wr we ws ik ia sd pd ix rv rf ne st ns ct gv gf f (nI i)) (fun i _ => n - M ≤ i ∧ ∀ j, n - M ≤ j → j < i → tk j = 0) ?_ ?_ (n - M) (by omega) () ⟨Nat.le_refl _, fun j h1 h2 => by omega⟩
    · intro f s hI
      rw [wX_runIsFull_23]
      exact br_t (nI_le (Nat.le_refl _) (by omega)) (h1 (dr_tr_ge M n z (fun j hj hm => hI.2 j hm hj)))
    · intro f i s hi hI hW
      rw [wX_runIsFull_23]
      dsimp only
      rw [nI_clamp (show i < 2 ^ 31 by omega)]
      refine br_f (nI_ge hi (by omega)) ⟨vp_in_nI (by omega) (by omega), ?_⟩
      by_cases y : tk i = 0
      · refine br_t y (nm_r (nI_1 i) (hW () ⟨by omega, fun j hj hji => ?_⟩))
        by_cases e : j = i
        · rw [e]; exact y
        · exact hI.2 j hj (by omega)
      · exact br_f y (h0 (fun w => y (dr_tr_all n M w i hi hI.1)))
theorem xb_put69 {post : Int32 → SX → Prop} {d' : Nat} (hkd : kd ≤ 7) (hn : n < 40) (hM : M ≤ 32) (hd6 : kd = 6 → d' = d + 1) (hd7 : kd = 7 → d = d' + 1) (hd0 : kd ≠ 6 → kd ≠ 7 → d' = d)
    (h7 : kd = 0 → M ≤ dr_tr tk n → post (-7) (z0, z1, z2, z3, nI M, vc, mt, nI n, nI d, ep, vn, cl, ov, ou, cc, tk, tv, mv, mf, br, be, wr, we, ws, ik, ia, sd, pd, ix, rv, rf, ne, st, ns, ct, gv, gf)) (h : (kd = 0 → ¬ M ≤ dr_tr tk n) → post 0 (z0, z1, z2, z3, nI M, vc, mt, nI (n + 1), nI d', ep, vn, cl, ov, ou, cc, upd tk n (nI kd), upd tv n (if kd = 6 ∨ kd = 7 then 0 else y), mv, mf, br, be, wr, we, ws, ik, ia, sd, pd, ix, rv, rf, ne, st, ns, ct, gv, gf)) :
    wX_put_69 post (nI kd) y z0 z1 z2 z3 (nI M) vc mt (nI n) (nI d) ep vn cl ov ou cc tk tv mv mf br be wr we ws ik ia sd pd ix rv rf ne st ns ct gv gf := by
  have k83 : (kd = 0 → ¬ M ≤ dr_tr tk n) → wX_put_83 post (nI kd) y z0 z1 z2 z3 (nI M) vc mt (nI n) (nI d) ep vn cl ov ou cc tk tv mv mf br be wr we ws ik ia sd pd ix rv rf ne st ns ct gv gf := by
    intro g
    have h := h g
    unfold wX_put_83
    rw [nI_clamp (show n < 2 ^ 31 by omega)]
    refine ⟨vp_in_nI hn (by omega), nm_e ⟨vp_in_nI hn (by omega), nm_e ?_⟩⟩
    by_cases e6 : kd = 6
    · rw [if_pos (Or.inl e6), hd6 e6] at h
      refine br_t (by rw [e6]; rfl) ⟨vp_in_nI hn (by omega), nm_r (na_2u _ _ _ _) (nm_r (nI_1 d) ?_)⟩
      unfold wX_put_158
      exact nm_r (nI_1 n) h
    refine br_f (fun z => e6 ((na_e6 (by omega)).mp z)) ?_
    by_cases e7 : kd = 7
    · rw [if_pos (Or.inr e7)] at h
      refine br_t (by rw [e7]; rfl) ⟨vp_in_nI hn (by omega), nm_r (na_2u _ _ _ _) (nm_r (e' := nI d') (by rw [hd7 e7, na_s1 (by omega)]; rfl) ?_)⟩
      unfold wX_put_158
      exact nm_r (nI_1 n) h
    refine br_f (fun z => e7 ((na_e7 (by omega)).mp z)) ?_
    rw [if_neg (by omega), hd0 e6 e7] at h
    unfold wX_put_158
    exact nm_r (nI_1 n) h
  unfold wX_put_69
  by_cases e0 : kd = 0
  · refine br_t (by rw [e0]; rfl) (xb_full (by omega) hM (fun z => br_f (by decide) (h7 e0 z)) (fun z => br_t rfl (k83 (fun _ => z))))
  · exact br_f (nI_ne0 (by omega) (by omega)) (k83 (fun z => absurd z e0))
end
section
variable {post : Int32 → SY → Prop} {yc yv yt yu yp : Int32} {yk yw yd yr ye yi yf yq yn yh yz : Nat → Int32} {nv M n nt d kd : Nat} {y : Int32}
theorem yb_put1 (hkd : kd ≤ 7) (hnv : nv ≤ 8) (h1 : dr_gv nv kd y → wY_put_60 post (nI kd) y yc (nI nv) yt yu yp yk yw yd yr ye yi yf yq yn yh yz) (h0 : ¬ dr_gv nv kd y → post (-2) (yc, nI nv, yt, yu, yp, yk, yw, yd, yr, ye, yi, yf, yq, yn, yh, yz)) : wpY_put post (yc, nI nv, yt, yu, yp, yk, yw, yd, yr, ye, yi, yf, yq, yn, yh, yz) (nI kd) y := by
  unfold wpY_put wY_put_37
  dsimp only
  refine br_f (nI_pos (by omega)) (br_t (nI_le (a := kd) (b := 7) hkd (by omega)) ?_)
  by_cases e1 : kd = 1
  · subst e1
    refine br_t rfl (br_f (by decide) (br_f (by decide) ?_))
    rcases dr_ps y (c := nv) (by omega) with h | ⟨i, hi, rfl⟩
    · exact br_bad h (h0 (dr_gv1 h hnv))
    · exact br_in hi (by omega) (h1 ⟨fun _ => ⟨i, hi, rfl⟩, fun z => by omega, fun z => by omega⟩)
  refine br_f (fun z => e1 ((na_e1 (by omega)).mp z)) ?_
  by_cases e2 : kd = 2
  · subst e2
    refine br_t rfl (br_f (by decide) (br_f (by decide) ?_))
    rcases dr_ps y (c := 15) (by omega) with h | ⟨i, hi, rfl⟩
    · exact br_bad h (h0 (dr_gv2 h))
    · exact br_in (c := 15) hi (by omega) (h1 ⟨fun z => by omega, fun _ => ⟨i, by omega, rfl⟩, fun z => by omega⟩)
  refine br_f (fun z => e2 ((na_e2 (by omega)).mp z)) ?_
  rcases Nat.eq_zero_or_pos kd with z | z
  · exact br_t (nI_lt (b := 1) (by omega) (by omega)) (h1 ⟨fun z => by omega, fun z => by omega, fun z => by omega⟩)
  refine br_f (nI_nlt (b := 1) (by omega) (by omega)) ?_
  rcases Nat.lt_or_ge 5 kd with w | w
  · exact br_t (nI_lt (a := 5) w (by omega)) (h1 ⟨fun z => by omega, fun z => by omega, fun z => by omega⟩)
  refine br_f (nI_nlt (a := 5) w (by omega)) ?_
  rcases dr_ps y (c := 9) (by omega) with h | ⟨i, hi, rfl⟩
  · exact br_bad h (h0 (dr_gv3 h (by omega)))
  · exact br_in (c := 9) hi (by omega) (h1 ⟨fun z => by omega, fun z => by omega, fun _ => ⟨i, by omega, rfl⟩⟩)
theorem yb_put60 (hkd : kd ≤ 7) (hn : n ≤ nt) (hnt : nt ≤ 40) (hdp : ∀ j, j ≤ n → 0 ≤ dr_dep yk j ∧ dr_dep yk j ≤ 6) (hd : d = (dr_dep yk n).toNat)
    (h4 : ¬ n < nt → post (-4) (yc, yv, nI nt, nI n, yp, yk, yw, yd, yr, ye, yi, yf, yq, yn, yh, yz)) (h5 : n < nt → ¬ dr_ft yk n d kd y → post (-5) (yc, yv, nI nt, nI n, yp, yk, yw, yd, yr, ye, yi, yf, yq, yn, yh, yz))
    (h : n < nt → dr_ft yk n d kd y → wY_put_221 post (nI kd) y (nI d) (nI (dr_tr yk n)) yc yv (nI nt) (nI n) yp yk yw yd yr ye yi yf yq yn yh yz) : wY_put_60 post (nI kd) y yc yv (nI nt) (nI n) yp yk yw yd yr ye yi yf yq yn yh yz := by
  unfold wY_put_60
  rcases Nat.lt_or_ge n nt with hlt | hlt
  rotate_left
  · exact br_f (nI_nlt hlt (by omega)) (h4 (by omega))
  refine br_t (nI_lt hlt (by omega)) ?_
  have h5 := h5 hlt
  have h := h hlt
  have hd6 : d ≤ 6 := by have := hdp n (Nat.le_refl _); omega
  have htr := dr_tr_le (K := yk) n
  have lp : ∀ x4 : Int32, ((x4 = 0 → (((nI kd = 5 → (post (-5) (yc, yv, nI nt, nI n, yp, yk, yw, yd, yr, ye, yi, yf, yq, yn, yh, yz))) ∧ (¬ nI kd = 5 → (((nI kd = 7 → (post (-5) (yc, yv, nI nt, nI n, yp, yk, yw, yd, yr, ye, yi, yf, yq, yn, yh, yz))) ∧ (¬ nI kd = 7 → (wY_put_152 post (nI kd) y x4 (nI d) (nI (dr_tr yk n)) yc yv (nI nt) (nI n) yp yk yw yd yr ye yi yf yq yn yh yz)))))))) ∧ (¬ x4 = 0 → (wY_put_152 post (nI kd) y x4 (nI d) (nI (dr_tr yk n)) yc yv (nI nt) (nI n) yp yk yw yd yr ye yi yf yq yn yh yz))) →
      ∃ n98 : Nat, wY_put_98 post (nI kd) y x4 (nI d) yc yv (nI nt) (nI n) yp yk yw yd yr ye yi yf yq yn yh yz n98 0 0 := by
    intro x4 hend
    refine dr_lp1 (σ := Unit) n (fun f i _ => wY_put_98 post (nI kd) y x4 (nI d) yc yv (nI nt) (nI n) yp yk yw yd yr ye yi yf yq yn yh yz f (nI (dr_tr yk i)) (nI i)) (fun _ _ => True) ?_ ?_ 0 (Nat.zero_le _) () trivial
    · intro f s _
      rw [wY_put_98]
      exact br_t (nI_le (Nat.le_refl _) (by omega)) hend
    · intro f i s hi _ hW
      have W := hW () trivial
      have e : dr_tr yk (i + 1) = (if yk i = 0 then dr_tr yk i + 1 else 0) := rfl
      rw [wY_put_98]
      dsimp only
      rw [nI_clamp (show i < 2 ^ 31 by omega)]
      refine br_f (nI_ge hi (by omega)) ⟨vp_in_nI (by omega) (by omega), ?_⟩
      by_cases z : yk i = 0
      · rw [if_pos z] at e
        rw [e] at W
        exact br_t z (nm_r (nI_1 _) (nm_r (nI_1 i) W))
      · rw [if_neg z] at e
        rw [e] at W
        exact br_f z (nm_r (nI_1 i) W)
  refine ye_ends (by omega) (by omega) (fun hs => yb_depth (by omega) hdp ?_) (fun hs => yb_depth (by omega) hdp ?_)
  · rw [← hd]
    refine lp 1 (br_f (by decide) ?_)
    have T : (kd = 5 ∨ (kd = 2 ∧ y ≠ 14) ∨ (kd = 7 ∧ 1 ≤ d) ∨ (kd = 0 ∧ yk (n - 1) = 0)) → wY_put_221 post (nI kd) y (nI d) (nI (dr_tr yk n)) yc yv (nI nt) (nI n) yp yk yw yd yr ye yi yf yq yn yh yz := fun z => h ⟨fun _ => z, fun w => absurd hs w⟩
    have N : ¬ (kd = 5 ∨ (kd = 2 ∧ y ≠ 14) ∨ (kd = 7 ∧ 1 ≤ d) ∨ (kd = 0 ∧ yk (n - 1) = 0)) → post (-5) (yc, yv, nI nt, nI n, yp, yk, yw, yd, yr, ye, yi, yf, yq, yn, yh, yz) := fun z => h5 (fun w => z (w.1 hs))
    have n0 := hs.1
    unfold wY_put_152 wY_put_181 wY_put_197 wY_put_209
    refine br_f (by decide) ?_
    by_cases e1 : kd = 1
    · exact br_t (by rw [e1]; rfl) (N (fun w => by omega))
    refine br_f (fun z => e1 ((na_e1 (by omega)).mp z)) ?_
    by_cases e6 : kd = 6
    · exact br_t (by rw [e6]; rfl) (N (fun w => by omega))
    refine br_f (fun z => e6 ((na_e6 (by omega)).mp z)) ?_
    by_cases e3 : kd = 3
    · exact br_t (by rw [e3]; rfl) (N (fun w => by omega))
    refine br_f (fun z => e3 ((na_e3 (by omega)).mp z)) ?_
    by_cases e4 : kd = 4
    · exact br_t (by rw [e4]; rfl) (N (fun w => by omega))
    refine br_f (fun z => e4 ((na_e4 (by omega)).mp z)) (br_f (by decide) ?_)
    by_cases e2 : kd = 2
    · refine br_t (by rw [e2]; rfl) ?_
      by_cases z : y = 14
      · exact br_t z (N (fun w => by rcases w with w | w | w | w; omega; exact w.2 z; omega; omega))
      · refine br_f z (br_f (fun z => absurd ((na_e7 (by omega)).mp z) (by omega)) (br_f (nI_ne0 (by omega) (by omega)) (T (Or.inr (Or.inl ⟨e2, z⟩)))))
    refine br_f (fun z => e2 ((na_e2 (by omega)).mp z)) ?_
    by_cases e7 : kd = 7
    · refine br_t (by rw [e7]; rfl) ?_
      rcases Nat.eq_zero_or_pos d with z | z
      · exact br_t (nI_lt (b := 1) (by omega) (by omega)) (N (fun w => by omega))
      · exact br_f (nI_nlt (b := 1) (by omega) (by omega)) (br_f (nI_ne0 (by omega) (by omega)) (T (Or.inr (Or.inr (Or.inl ⟨e7, z⟩)))))
    refine br_f (fun z => e7 ((na_e7 (by omega)).mp z)) ?_
    by_cases e0 : kd = 0
    · refine br_t (by rw [e0]; rfl) ?_
      obtain ⟨m, rfl⟩ : ∃ m, n = m + 1 := ⟨n - 1, by omega⟩
      have et : dr_tr yk (m + 1) = (if yk m = 0 then dr_tr yk m + 1 else 0) := rfl
      by_cases z : yk m = 0
      · rw [if_pos z] at et
        exact br_f (nI_ne0 (by omega) (by omega)) (T (Or.inr (Or.inr (Or.inr ⟨e0, z⟩))))
      · rw [if_neg z] at et
        exact br_t (by rw [et]; rfl) (N (fun w => by rcases w with w | w | w | w; omega; omega; omega; exact z w.2))
    · exact br_f (nI_ne0 (by omega) (by omega)) (T (by omega))
  · rw [← hd]
    refine lp 0 (br_t rfl ?_)
    by_cases e5 : kd = 5
    · exact br_t (by rw [e5]; rfl) (h5 (fun w => (w.2 hs).1 e5))
    refine br_f (fun z => e5 ((na_e5 (by omega)).mp z)) ?_
    by_cases e7 : kd = 7
    · exact br_t (by rw [e7]; rfl) (h5 (fun w => (w.2 hs).2 e7))
    refine br_f (fun z => e7 ((na_e7 (by omega)).mp z)) ?_
    unfold wY_put_152 wY_put_181
    exact br_t rfl (br_t rfl (h ⟨fun w => absurd w hs, fun _ => ⟨e5, e7⟩⟩))
theorem yb_put221 (hkd : kd ≤ 7) (hn : n < 40) (hM : M ≤ 32) (hd : d ≤ 6) 
    (h6 : kd = 6 → ¬ d < 6 → post (-6) (nI M, yv, yt, nI n, yp, yk, yw, yd, yr, ye, yi, yf, yq, yn, yh, yz)) (h7 : (kd = 6 → d < 6) → kd = 0 → M ≤ dr_tr yk n → post (-7) (nI M, yv, yt, nI n, yp, yk, yw, yd, yr, ye, yi, yf, yq, yn, yh, yz))
    (h : (kd = 6 → d < 6) → (kd = 0 → ¬ M ≤ dr_tr yk n) → post 0 (nI M, yv, yt, nI (n + 1), yp, upd yk n (nI kd), upd yw n (if kd = 6 ∨ kd = 7 then 0 else y), yd, yr, ye, yi, yf, yq, yn, yh, yz)) :
    wY_put_221 post (nI kd) y (nI d) (nI (dr_tr yk n)) (nI M) yv yt (nI n) yp yk yw yd yr ye yi yf yq yn yh yz := by
  have htr := dr_tr_le (K := yk) n
  have k253 : (kd = 6 → d < 6) → (kd = 0 → ¬ M ≤ dr_tr yk n) → wY_put_253 post (nI kd) y (nI M) yv yt (nI n) yp yk yw yd yr ye yi yf yq yn yh yz := by
    intro g g'
    have h := h g g'
    unfold wY_put_253 wY_put_283 wY_put_288
    rw [nI_clamp (show n < 2 ^ 31 by omega)]
    refine ⟨vp_in_nI hn (by omega), nm_e ?_⟩
    by_cases e6 : kd = 6
    · rw [if_pos (Or.inl e6)] at h
      exact br_t (by rw [e6]; rfl) ⟨vp_in_nI hn (by omega), nm_e (nm_r (nI_1 n) h)⟩
    refine br_f (fun z => e6 ((na_e6 (by omega)).mp z)) ?_
    by_cases e7 : kd = 7
    · rw [if_pos (Or.inr e7)] at h
      exact br_t (by rw [e7]; rfl) ⟨vp_in_nI hn (by omega), nm_e (nm_r (nI_1 n) h)⟩
    rw [if_neg (by omega)] at h
    exact br_f (fun z => e7 ((na_e7 (by omega)).mp z)) ⟨vp_in_nI hn (by omega), nm_e (nm_r (nI_1 n) h)⟩
  have k237 : (kd = 6 → d < 6) → wY_put_237 post (nI kd) y (nI (dr_tr yk n)) (nI M) yv yt (nI n) yp yk yw yd yr ye yi yf yq yn yh yz := by
    intro g
    unfold wY_put_237
    by_cases e0 : kd = 0
    · refine br_t (by rw [e0]; rfl) ?_
      rcases Nat.lt_or_ge (dr_tr yk n) M with z | z
      · exact br_t (nI_lt z (by omega)) (k253 g (fun _ => by omega))
      · exact br_f (nI_nlt z (by omega)) (h7 g e0 z)
    · exact br_f (nI_ne0 (by omega) (by omega)) (k253 g (fun z => absurd z e0))
  unfold wY_put_221
  by_cases e6 : kd = 6
  · refine br_t (by rw [e6]; rfl) ?_
    rcases Nat.lt_or_ge d 6 with z | z
    · exact br_t (nI_lt (b := 6) z (by omega)) (k237 (fun _ => z))
    · exact br_f (nI_nlt (b := 6) z (by omega)) (h6 e6 (by omega))
  · exact br_f (fun z => e6 ((na_e6 (by omega)).mp z)) (k237 (fun z => absurd z e6))
end
end
section
theorem dr_dep_cg {K K' : Nat → Int32} : ∀ j, (∀ q, q < j → K' q = K q) → dr_dep K' j = dr_dep K j
  | 0, _ => rfl
  | j + 1, h => by
    show dr_dep K' j + (if K' j = 6 then 1 else if K' j = 7 then -1 else 0) = dr_dep K j + (if K j = 6 then 1 else if K j = 7 then -1 else 0)
    rw [dr_dep_cg j (fun q hq => h q (by omega)), h j (by omega)]
theorem dr_dep_put {K : Nat → Int32} {n kd : Nat} (hkd : kd ≤ 7) : dr_dep (upd K n (nI kd)) (n + 1) = dr_dep K n + (if kd = 6 then 1 else if kd = 7 then -1 else 0) := by
  show dr_dep (upd K n (nI kd)) n + (if upd K n (nI kd) n = 6 then 1 else if upd K n (nI kd) n = 7 then -1 else 0) = _
  rw [dr_dep_cg (K := K) n (fun q hq => pk_un (by omega)), pk_us]
  by_cases e6 : kd = 6
  · rw [if_pos e6, if_pos (by rw [e6]; rfl)]
  rw [if_neg e6, if_neg (fun z => e6 ((na_e6 (by omega)).mp z))]
  by_cases e7 : kd = 7
  · rw [if_pos e7, if_pos (by rw [e7]; rfl)]
  · rw [if_neg e7, if_neg (fun z => e7 ((na_e7 (by omega)).mp z))]
theorem dr_wf_put {M nv n kd d : Nat} {K L : Nat → Int32} {y : Int32} (hwf : dr_wf M nv K L n) (hM : 4 ≤ M) (hkd : kd ≤ 7) (hg : dr_gv nv kd y) (hf : dr_ft K n d kd y) (hd : d = (dr_dep K n).toNat) (h6 : kd = 6 → d < 6) (h0 : kd = 0 → ¬ M ≤ dr_tr K n) :
    dr_wf M nv (upd K n (nI kd)) (upd L n (if kd = 6 ∨ kd = 7 then 0 else y)) (n + 1) := by
  have hset : ∀ j, j ≤ n → (dr_set (upd K n (nI kd)) j ↔ dr_set K j) := by
    intro j hj
    unfold dr_set
    by_cases z : 0 < j
    · rw [pk_un (by omega)]
    · exact ⟨fun w => absurd w.1 z, fun w => absurd w.1 z⟩
  have dn := hwf.2.2.1 n (Nat.le_refl _)
  refine ⟨fun j hj => ?_, fun j hj => ?_, fun j hj => ?_, fun i hi => ?_⟩
  · by_cases e : j = n
    · subst e
      rw [pk_us, pk_us]
      refine ⟨kd, hkd, rfl, fun z => ?_, fun z => ?_, fun z => ?_⟩
      · rw [if_neg (by omega)]; exact hg.1 z
      · rw [if_neg (by omega)]; exact hg.2.1 z
      · rw [if_neg (by omega)]; exact hg.2.2 z
    · rw [pk_un e, pk_un e]
      exact hwf.1 j (by omega)
  · by_cases e : j = n
    · subst e
      rw [hset j (Nat.le_refl _), pk_us, pk_us]
      refine ⟨fun z => ?_, fun z => ?_⟩
      · rcases hf.1 z with w | w | w | w
        · exact Or.inl (by rw [w]; rfl)
        · refine Or.inr (Or.inl ⟨by rw [w.1]; rfl, ?_⟩)
          rw [if_neg (by omega)]; exact w.2
        · exact Or.inr (Or.inr (Or.inl (by rw [w.1]; rfl)))
        · have := z.1
          refine Or.inr (Or.inr (Or.inr ⟨by rw [w.1]; rfl, ?_⟩))
          rw [pk_un (by omega)]; exact w.2
      · exact ⟨fun w => (hf.2 z).1 ((na_e5 (by omega)).mp w), fun w => (hf.2 z).2 ((na_e7 (by omega)).mp w)⟩
    · have h := hwf.2.1 j (by omega)
      rw [hset j (by omega), pk_un e, pk_un e, pk_un (by omega)]
      exact h
  · by_cases e : j = n + 1
    · subst e
      rw [dr_dep_put hkd]
      have f7 : kd = 7 → 1 ≤ d := by
        intro z
        by_cases w : dr_set K n
        · have := hf.1 w; omega
        · exact absurd z (hf.2 w).2
      by_cases e6 : kd = 6
      · rw [if_pos e6]; have := h6 e6; omega
      rw [if_neg e6]
      by_cases e7 : kd = 7
      · rw [if_pos e7]; have := f7 e7; omega
      · rw [if_neg e7]; omega
    · rw [dr_dep_cg (K := K) j (fun q hq => pk_un (by omega))]
      exact hwf.2.2.1 j (by omega)
  · have hl := (hi M (Nat.le_refl _)).1
    rcases Nat.lt_or_ge (i + M) n with z | z
    · refine hwf.2.2.2 i (fun j hj => ⟨by omega, ?_⟩)
      have := (hi j hj).2
      rw [pk_un (by omega)] at this
      exact this
    · have e : i + M = n := by omega
      have hk := (hi M (Nat.le_refl _)).2
      rw [e, pk_us] at hk
      have k0 : kd = 0 := by
        rcases Nat.eq_zero_or_pos kd with w | w
        · exact w
        · exact absurd hk (nI_ne0 w (by omega))
      refine h0 k0 (dr_tr_ge M n (by omega) (fun j hj hm => ?_))
      have := (hi (j - i) (by omega)).2
      rw [show i + (j - i) = j by omega, pk_un (by omega)] at this
      exact this
theorem i_vc_put {k : Nat} {u : SX} {v : SY} (I : i_Rel k u v) (hk : k + 5 ≤ 2563) (v1 : Int32) (v2 : Int32) : wpX_put (fun r u' => wpY_put (fun r' v' => r' = r ∧ i_Rel (k + 5) u' v') v v1 v2) u v1 v2 := by
  refine dr_rel_el (P := fun u v => wpX_put (fun r u' => wpY_put (fun r' v' => r' = r ∧ i_Rel (k + 5) u' v') v v1 v2) u v1 v2) I ?_
  intro M nv nt n V z0 z1 z2 z3 ep vn cl ov ou cc tk tv mv mf br be wr we ws ik ia sd pd ix rv rf ne st ns ct gv gf yd yr ye yi yf yq yn yh yz F I; have F2 := F; obtain ⟨f1, f2, f3, f4, f5, f6, f7, f8, f9, f10⟩ := F
  by_cases z : v1 < 0
  · unfold wpX_put wpY_put
    exact br_t z (br_t z ⟨rfl, I⟩)
  by_cases z7 : v1 ≤ 7
  rotate_left
  · unfold wpX_put wpY_put
    exact br_f z (br_f z7 (br_f z (br_f z7 ⟨rfl, I⟩)))
  obtain ⟨kd, hkd, rfl⟩ := nI_of z
  have hkd7 : kd ≤ 7 := by
    rcases Nat.lt_or_ge 7 kd with w | w
    · exact absurd z7 (nI_ge (a := 7) w hkd)
    · exact w
  have dn := f7.2.2.1 n (Nat.le_refl _)
  generalize hd : (dr_dep tk n).toNat = d at *
  have hd6 : d ≤ 6 := by omega
  unfold wpX_put
  dsimp only
  refine br_f z (br_t z7 (xb_good hkd7 f4 (fun g => br_f (by decide) ?_) (fun g => br_t rfl (yb_put1 hkd7 f4 (fun g' => absurd g' g) (fun _ => ⟨rfl, I⟩)))))
  rcases Nat.lt_or_ge n nt with hlt | hlt
  rotate_left
  · refine br_f (nI_nlt hlt (by omega)) (yb_put1 hkd7 f4 (fun _ => ?_) (fun g' => absurd g g'))
    exact yb_put60 hkd7 f6 f5 f7.2.2.1 hd.symm (fun _ => ⟨rfl, I⟩) (fun w => by omega) (fun w => by omega)
  refine br_t (nI_lt hlt (by omega)) (xb_fits hkd7 (by omega) hd6 (fun hf => br_f (by decide) ?_) (fun hf => br_t rfl ?_))
  rotate_left
  · refine yb_put1 hkd7 f4 (fun _ => ?_) (fun g' => absurd g g')
    exact yb_put60 hkd7 f6 f5 f7.2.2.1 hd.symm (fun w => absurd hlt w) (fun _ _ => ⟨rfl, I⟩) (fun _ w => absurd w hf)
  have k69 : (kd = 6 → d < 6) → wX_put_69 (fun r u' => wpY_put (fun r' v' => r' = r ∧ i_Rel (k + 5) u' v') (nI M, nI nv, nI nt, nI n, ep, tk, tv, yd, yr, ye, yi, yf, yq, yn, yh, yz) (nI kd) v2) (nI kd) v2 z0 z1 z2 z3 (nI M) (nI nv) (nI nt) (nI n) (nI d) ep vn cl ov ou cc tk tv mv mf br be wr we ws ik ia sd pd ix rv rf ne st ns ct gv gf := by
    intro h6
    have dp := dr_dep_put (K := tk) (n := n) hkd7
    have f77 : kd = 7 → 1 ≤ d := by
      intro z
      by_cases w : dr_set tk n
      · have := hf.1 w; omega
      · exact absurd z (hf.2 w).2
    refine xb_put69 (d' := (dr_dep (upd tk n (nI kd)) (n + 1)).toNat) hkd7 (by omega) f2 (fun e => ?_) (fun e => ?_) (fun e e' => ?_) (fun e w => ?_) (fun w => ?_)
    · rw [dp, if_pos e]; omega
    · have := f77 e
      rw [dp, if_neg (by omega), if_pos e]; omega
    · rw [dp, if_neg e, if_neg e']; omega
    · refine yb_put1 hkd7 f4 (fun _ => ?_) (fun g' => absurd g g')
      refine yb_put60 hkd7 f6 f5 f7.2.2.1 hd.symm (fun w => absurd hlt w) (fun _ w => absurd hf w) (fun _ _ => ?_)
      exact yb_put221 hkd7 (by omega) f2 hd6 (fun e6 => by omega) (fun _ _ _ => ⟨rfl, I⟩) (fun _ w' => absurd w (w' e))
    · refine yb_put1 hkd7 f4 (fun _ => ?_) (fun g' => absurd g g')
      refine yb_put60 hkd7 f6 f5 f7.2.2.1 hd.symm (fun w => absurd hlt w) (fun _ w => absurd hf w) (fun _ _ => ?_)
      refine yb_put221 hkd7 (by omega) f2 hd6 (fun e6 w => absurd (h6 e6) w) (fun _ e w' => absurd w' (w e)) (fun _ _ => ⟨rfl, ?_⟩)
      exact ⟨M, nv, nt, n + 1, V, rfl, f1, f2, f3, f4, f5, hlt, dr_wf_put f7 f1 hkd7 g hf hd.symm h6 w, f8, f9, f10⟩
  by_cases e6 : kd = 6
  · refine br_t (by rw [e6]; rfl) ?_
    rcases Nat.lt_or_ge d 6 with w | w
    · exact br_t (nI_lt (b := 6) w (by omega)) (k69 (fun _ => w))
    · refine br_f (nI_nlt (b := 6) w (by omega)) (yb_put1 hkd7 f4 (fun _ => ?_) (fun g' => absurd g g'))
      refine yb_put60 hkd7 f6 f5 f7.2.2.1 hd.symm (fun w => absurd hlt w) (fun _ w => absurd hf w) (fun _ _ => ?_)
      exact yb_put221 hkd7 (by omega) f2 hd6 (fun _ _ => ⟨rfl, I⟩) (fun w' => absurd (w' e6) (by omega)) (fun w' => absurd (w' e6) (by omega))
  · exact br_f (fun z => e6 ((na_e6 (by omega)).mp z)) (k69 (fun z => absurd z e6))
end
section
theorem dr_cl (x : Int32) {lo hi : Nat} (h : lo ≤ hi) (hh : hi < 2 ^ 31) :
    ∃ c, lo ≤ c ∧ c ≤ hi ∧ (∀ (Q : Int32 → Prop) (u : SX), Q (nI c) → wpX_clamp Q u x (nI lo) (nI hi)) ∧ (∀ (Q : Int32 → Prop) (u : SY), Q (nI c) → wpY_clamp Q u x (nI lo) (nI hi)) := by
  have hX : ∀ (Q : Int32 → Prop) (u : SX), ((nI lo ≤ x → (((x ≤ nI hi → (Q x)) ∧ (¬ x ≤ nI hi → (Q (nI hi)))))) ∧ (¬ nI lo ≤ x → (Q (nI lo)))) → wpX_clamp Q u x (nI lo) (nI hi) := by
    intro Q u hq
    induction u using xd_el
    exact hq
  have hY : ∀ (Q : Int32 → Prop) (u : SY), ((nI lo ≤ x → (((x ≤ nI hi → (Q x)) ∧ (¬ x ≤ nI hi → (Q (nI hi)))))) ∧ (¬ nI lo ≤ x → (Q (nI lo)))) → wpY_clamp Q u x (nI lo) (nI hi) := by
    intro Q u hq
    induction u using yd_el
    exact hq
  by_cases a : nI lo ≤ x
  · by_cases b : x ≤ nI hi
    · have x0 : ¬ x < 0 := by
        intro z
        rw [Int32.le_iff_toInt_le, nI_toInt (by omega)] at a
        rw [Int32.lt_iff_toInt_lt] at z
        have e0 : (0 : Int32).toInt = 0 := rfl
        omega
      obtain ⟨v, hv, rfl⟩ := nI_of x0
      have h1 : lo ≤ v := by
        rcases Nat.lt_or_ge v lo with w | w
        · exact absurd a (nI_ge w (by omega))
        · exact w
      have h2 : v ≤ hi := by
        rcases Nat.lt_or_ge hi v with w | w
        · exact absurd b (nI_ge w hv)
        · exact w
      exact ⟨v, h1, h2, fun Q u hq => hX Q u (br_t a (br_t b hq)), fun Q u hq => hY Q u (br_t a (br_t b hq))⟩
    · exact ⟨hi, h, Nat.le_refl _, fun Q u hq => hX Q u (br_t a (br_f b hq)), fun Q u hq => hY Q u (br_t a (br_f b hq))⟩
  · exact ⟨lo, Nat.le_refl _, h, fun Q u hq => hX Q u (br_f a hq), fun Q u hq => hY Q u (br_f a hq)⟩
theorem i_vc0 (k0 : Int32) (k1 : Int32) (k2 : Int32) : wpX_init (fun u => wpY_init (fun v => i_Rel 3 u v) k0 k1 k2) k0 k1 k2 := by
  obtain ⟨M, a1, a2, a3, a4⟩ := dr_cl k0 (lo := 4) (hi := 32) (by omega) (by omega)
  obtain ⟨nv, b1, b2, b3, b4⟩ := dr_cl k1 (lo := 1) (hi := 8) (by omega) (by omega)
  obtain ⟨nt, c1, c2, c3, c4⟩ := dr_cl k2 (lo := 8) (hi := 40) (by omega) (by omega)
  unfold wpX_init
  refine a3 _ _ (b3 _ _ (c3 _ _ ?_))
  refine dr_lp1 (σ := Nat → Int32) 24 (fun f i s => wX_init_238 (fun u => wpY_init (fun v => i_Rel 3 u v) k0 k1 k2) 0 1 2 3 (nI M) (nI nv) (nI nt) 0 0 0 0 0 0 0 0 f (nI i) (fun _ => 0) (fun _ => 0) (fun _ => 0) (fun _ => 0) (fun _ => 0) s (fun _ => 0) (fun _ => 0) (fun _ => 0) (fun _ => 0) (fun _ => 0) (fun _ => 0) (fun _ => 0) (fun _ => 0) (fun _ => 0) (fun _ => 0) (fun _ => 0) (fun _ => 0) (fun _ => 0) (fun _ => 0) (fun _ => 0) (fun _ => 0))
    (fun i s => ∀ j, j < i → s j = 1) ?_ ?_ 0 (Nat.zero_le _) (fun _ => 0) (fun j hj => by omega)
  · intro f s hI
    rw [wX_init_238]
    refine br_t (nI_le (a := 24) (b := 24) (by omega) (by omega)) ?_
    unfold wpY_init
    refine a4 _ _ (b4 _ _ (c4 _ _ ?_))
    refine dr_lp1 (σ := Nat → Int32) 51 (fun f i s' => wY_init_135 (fun v => i_Rel 3 (0, 1, 2, 3, nI M, nI nv, nI nt, 0, 0, -1, 0, 0, 0, 0, 0, (fun _ => 0), (fun _ => 0), (fun _ => 0), (fun _ => 0), (fun _ => 0), s, (fun _ => 0), (fun _ => 0), (fun _ => 0), (fun _ => 0), (fun _ => 0), (fun _ => 0), (fun _ => 0), (fun _ => 0), (fun _ => 0), (fun _ => 0), (fun _ => 0), (fun _ => 0), (fun _ => 0), (fun _ => 0), (fun _ => 0), (fun _ => 0)) v) (nI M) (nI nv) (nI nt) 0 (-1) f (nI i) (fun _ => 0) (fun _ => 0) (fun _ => 0) (fun _ => 0) s' (fun _ => 0) (fun _ => 0) (fun _ => 0) (fun _ => 0) (fun _ => 0) (fun _ => 0))
      (fun i s => ∀ j, j < i → s j = 1) ?_ ?_ 0 (Nat.zero_le _) (fun _ => 0) (fun j hj => by omega)
    · intro f s' hI'
      rw [wY_init_135]
      refine br_t (nI_le (a := 51) (b := 51) (by omega) (by omega)) ?_
      refine ⟨M, nv, nt, 0, fun _ => (0, 1, 1, 1, fun _ => (0, 0)), rfl, a1, a2, b1, b2, c2, Nat.zero_le _, ?_, fun v hv => ?_, fun v hv => ?_, fun v hv => ?_⟩
      · refine ⟨fun j hj => by omega, fun j hj => by omega, fun j hj => ?_, fun i hi => by have := (hi 0 (by omega)).1; omega⟩
        have e : j = 0 := by omega
        subst e
        exact ⟨Int.le_refl _, by show (0 : Int) ≤ 6; omega⟩
      · exact ⟨by omega, by omega, by omega, by omega, fun _ => rfl, fun _ => rfl, fun _ => rfl, by omega, fun i _ => ⟨Or.inl rfl, fun z => absurd rfl z⟩⟩
      · exact ⟨rfl, hI _ (by omega), hI _ (by omega), hI _ (by omega), fun i _ => ⟨rfl, rfl⟩⟩
      · exact ⟨rfl, hI' _ (by omega), hI' _ (by omega), hI' _ (by omega), fun i _ => ⟨rfl, rfl⟩⟩
    · intro f i s' hi hI' hW
      rw [wY_init_135]
      dsimp only
      rw [nI_clamp (show i < 2 ^ 31 by omega)]
      refine br_f (nI_ge (b := 51) hi (by omega)) ⟨vp_in_nI hi (by omega), nm_e (nm_r (nI_1 i) (hW _ (fun j hj => ?_)))⟩
      by_cases e : j = i
      · rw [e, pk_us]
      · rw [pk_un e]; exact hI' j (by omega)
  · intro f i s hi hI hW
    rw [wX_init_238]
    dsimp only
    rw [nI_clamp (show i < 2 ^ 31 by omega)]
    refine br_f (nI_ge (b := 24) hi (by omega)) ⟨vp_in_nI hi (by omega), nm_e (nm_r (nI_1 i) (hW _ (fun j hj => ?_)))⟩
    by_cases e : j = i
    · rw [e, pk_us]
    · rw [pk_un e]; exact hI j (by omega)
end
section
section
variable {M nv nt n w : Nat} {V : Nat → dr_A} {ep rc pl : Int32} {A : dr_A} {tk tv yd yr ye yi yf yq yn yh yz : Nat → Int32} {post : Int32 → SY → Prop}
theorem yb_assign (hw : w < nv) (hnv : nv ≤ 8) (hn : n ≤ 40) (hdp : ∀ j, j ≤ n → 0 ≤ dr_dep tk j ∧ dr_dep tk j ≤ 6) (hs : dr_set tk n) (hd : (dr_dep tk n).toNat = 0) (hy : ∀ v, v < 8 → yd_V yr ye yi yf v (V v))
    (k3 : ∀ post, yd_fin post (nI nv) (nI nt) tk tv M n w V rc pl A → ∀ f, n < f → yd_cont post (nI nv) (nI nt) ep (nI w) tk tv M n V 0 n (fun _ => none) (fun _ => none) f)
    (hf : yd_fin post (nI nv) (nI nt) tk tv M n w V rc pl A) : wpY_assign post (nI M, nI nv, nI nt, nI n, ep, tk, tv, yd, yr, ye, yi, yf, yq, yn, yh, yz) (nI w) := by
  have n0 := hs.1
  obtain ⟨m, rfl⟩ : ∃ m, n = m + 1 := ⟨n - 1, by omega⟩
  unfold wpY_assign
  refine br_ok hw hnv (yb_complete hn hdp (fun _ _ => br_f (by decide) (nm_e (nm_r (e' := nI (m + 1) + (-1)) (by rw [na_s1 (by omega), pk_m1]; rfl) ⟨m + 2, ?_⟩))) (fun z => absurd ⟨hs, hd⟩ z))
  refine k3 post hf (m + 2) (by omega) _ _ _ _ _ _ _ _ _ ⟨fun q hq => ?_, hy, fun q B _ hB => by cases hB⟩
  have e : q = 0 := by omega
  rw [e, pk_us]; rfl
end
section
variable {z0 z1 z2 z3 vc mt oc ep ov ou cc vn cl rc pl : Int32} {tk tv mv mf br be wr we ws ik ia sd pd ix rv rf ne st ns ct gv gf : Nat → Int32} {M n : Nat} {A : dr_A} {post : Int32 → SX → Prop}
theorem xb_eval (n0 : 0 < n) (k2 : ∀ post, xd_fin post z0 z1 z2 z3 vc mt oc ep tk tv br be mv mf M n rc pl A → ∀ f B, n < f → B ≤ n - n + 1 → (dr_rdy tk n n → B ≤ n - n) → xd_cont post z0 z1 z2 z3 vc mt oc ep tk tv br be mv mf M n 0 n (dr_stk (fun _ => none) (0 + 1)) (fun _ => none) (fun _ => False) B f)
    (hf : xd_fin post z0 z1 z2 z3 vc mt oc ep tk tv br be mv mf M n rc pl A) : wpX_evaluate post (z0, z1, z2, z3, nI M, vc, mt, nI n, oc, ep, vn, cl, ov, ou, cc, tk, tv, mv, mf, br, be, wr, we, ws, ik, ia, sd, pd, ix, rv, rf, ne, st, ns, ct, gv, gf) := by
  obtain ⟨m, rfl⟩ : ∃ m, n = m + 1 := ⟨n - 1, by omega⟩
  unfold wpX_evaluate
  refine nm_e (nm_r (e' := nI (m + 1) + (-1)) (by rw [na_s1 (by omega), pk_m1]; rfl) ⟨m + 2, ?_⟩)
  have C := k2 post hf (m + 2) 0 (by omega) (by omega) (fun _ => by omega) (upd pd 0 (-1)) (z0, z1, z2, z3, nI M, vc, mt, nI (m + 1), oc, ep, 0, 0, ov, ou, cc, tk, tv, mv, mf, br, be, wr, we, ws, ik, ia, sd, upd pd 0 (-1), ix, rv, rf, ne, st, ns, ct, gv, gf) (fun q hq => by rw [show q = 0 by omega, pk_us]; rfl) ⟨rfl, rfl, rfl, fun j _ => ⟨rfl, rfl⟩, 0, rfl, Nat.le_refl _, rfl⟩
  exact C
end
theorem i_vc_assign {k : Nat} {u : SX} {v : SY} (I : i_Rel k u v) (hk : k + 5 ≤ 2563) (v1 : Int32) : wpX_assign (fun r u' => wpY_assign (fun r' v' => r' = r ∧ i_Rel (k + 5) u' v') v v1) u v1 := by
  refine dr_rel_el (P := fun u v => wpX_assign (fun r u' => wpY_assign (fun r' v' => r' = r ∧ i_Rel (k + 5) u' v') v v1) u v1) I ?_
  intro M nv nt n V z0 z1 z2 z3 ep vn cl ov ou cc tk tv mv mf br be wr we ws ik ia sd pd ix rv rf ne st ns ct gv gf yd yr ye yi yf yq yn yh yz F I; have F2 := F; obtain ⟨f1, f2, f3, f4, f5, f6, f7, f8, f9, f10⟩ := F
  have dn := f7.2.2.1 n (Nat.le_refl _)
  unfold wpX_assign
  dsimp only
  rcases dr_vs v1 f4 with h | ⟨w, hw, rfl⟩
  · refine xb_bad h (br_f (by decide) ?_)
    unfold wpY_assign
    exact br_bad h ⟨rfl, I⟩
  refine xb_ok hw f4 (br_t rfl (xb_complete (by omega) (by omega) (fun hs hd => br_f (by decide) ?_) (fun hc => br_t rfl ?_)))
  rotate_left
  · unfold wpY_assign
    exact br_ok hw f4 (yb_complete (by omega) f7.2.2.1 (fun z1 z2 => absurd ⟨z1, z2⟩ hc) (fun _ => br_t rfl ⟨rfl, I⟩))
  have n0 := hs.1
  have inv : dr_inv M tk tv n n 0 (fun _ => none) (fun _ => none) (fun _ => False) :=
    ⟨Nat.le_refl _, by omega, by omega, fun q hq => by omega, fun _ => ⟨fun _ => rfl, fun _ => rfl⟩, fun z => absurd (Or.inl rfl) z, (fun q t _ z => by cases z), (fun q q' t _ _ z => by cases z), (fun t z => False.elim z), (fun q A _ z => by cases z)⟩
  obtain ⟨rc, pl, A, k1, k2, k3⟩ := dr_eval (z0 := z0) (z1 := z1) (z2 := z2) (z3 := z3) (vc := nI nv) (mt := nI nt) (oc := nI (dr_dep tk n).toNat) (ep := ep) (yv := nI nv) (yt := nI nt) (yp := ep) (br := br) (be := be) (m0 := mv) (f0 := mf) (w := w) f2 f1 (by omega) f8 f9 f7 f4 hs (by omega) n 0 (fun _ => none) (fun _ => none) (fun _ => False) inv
  have Y : ∀ post, yd_fin post (nI nv) (nI nt) tk tv M n w V rc pl A → wpY_assign post (nI M, nI nv, nI nt, nI n, ep, tk, tv, yd, yr, ye, yi, yf, yq, yn, yh, yz) (nI w) :=
    fun post hf => yb_assign hw f4 (by omega) f7.2.2.1 hs hd f10 k3 hf
  clear k3
  refine xb_eval n0 k2 ?_
  refine ⟨fun hrc pd' u U hU R => ?_, fun hrc pd' u hB => ?_⟩
  · have okA := k1 hrc
    obtain ⟨r, e0, e1, e2, el⟩ := A
    have k8 := okA.2.2.2.2.2.2.2.1
    induction u using xd_el
    refine br_t rfl ?_
    refine xo_store R (by omega) (Nat.le_refl _) f2 hU ?_
    intro z0' z1' z2' z3' vc' mt' ll' oc' ep' vn' cl' ov' ou' cc' tk' tv' mv' mf' br' be' wr' we' ws' ik' ia' sd' pd' ix' rv' rf' ne' st' ns' ct' gv' gf' hk' hel hot
    simp only [Prod.mk.injEq, true_and] at hk'
    obtain ⟨rfl, rfl, rfl, rfl, rfl, rfl, rfl, rfl, rfl, rfl, rfl, rfl, rfl, rfl⟩ := hk'
    dsimp only
    refine Y _ ⟨fun _ yd' yr' ye' yi' yf' yq' yn' yh' yz' hoV hA => ⟨rfl, ?_⟩, fun z => absurd hrc z⟩
    refine ⟨M, nv, nt, 0, fun v => if v = w then (r, e0, e1, e2, el) else V v, rfl, f1, f2, f3, f4, f5, Nat.zero_le _, dr_wf_le f7 (Nat.zero_le _), fun v hv => ?_, fun v hv => ?_, fun v hv => ?_⟩
    · dsimp only
      by_cases e : v = w
      · rw [if_pos e]; exact okA
      · rw [if_neg e]; exact f8 v hv
    · dsimp only
      by_cases e : v = w
      · rw [if_pos e, e]
        refine ⟨pk_us, ?_, ?_, pk_us, hel⟩
        · rw [pk_un (by omega), pk_un (by omega), pk_us]
        · rw [pk_un (by omega), pk_us]
      · rw [if_neg e]
        have ok := f8 v hv
        have hx := f9 v hv
        revert ok hx
        generalize V v = B
        obtain ⟨rb, b0, b1, b2, bl⟩ := B
        rintro ok ⟨x1, x2, x3, x4, x5⟩
        have k8' := ok.2.2.2.2.2.2.2.1
        refine ⟨(pk_un e).trans x1, ?_, ?_, ?_, fun i hi => ?_⟩
        · rw [pk_un (by omega), pk_un (by omega), pk_un (by omega)]; exact x2
        · rw [pk_un (by omega), pk_un (by omega), pk_un (by omega)]; exact x3
        · rw [pk_un (by omega), pk_un (by omega), pk_un (by omega)]; exact x4
        · have o := hot (32 * v + i) (by omega) (by omega)
          exact ⟨o.1.trans (x5 i hi).1, o.2.trans (x5 i hi).2⟩
    · dsimp only
      by_cases e : v = w
      · rw [if_pos e, e]; exact hA
      · rw [if_neg e]; exact hoV v hv e
  · induction u using xd_el
    rename_i z0' z1' z2' z3' mc' vc' mt' ll' oc' ep' vn' cl' ov' ou' cc' tk' tv' mv' mf' br' be' wr' we' ws' ik' ia' sd' pd'' ix' rv' rf' ne' st' ns' ct' gv' gf'
    obtain ⟨h1, h2⟩ := hB
    simp only [Prod.mk.injEq] at h1
    obtain ⟨rfl, rfl, rfl, rfl, rfl, rfl, rfl, rfl, rfl, rfl, rfl, rfl, rfl, rfl, rfl⟩ := h1
    refine br_f hrc ?_
    refine Y _ ⟨fun z => absurd z hrc, fun _ yd' yr' ye' yi' yf' yq' yn' yh' yz' hyV => ⟨rfl, ?_⟩⟩
    refine ⟨M, nv, nt, n, V, rfl, f1, f2, f3, f4, f5, f6, f7, f8, fun v hv => ?_, hyV⟩
    have ok := f8 v hv
    have hx := f9 v hv
    revert ok hx
    generalize V v = B
    obtain ⟨rb, b0, b1, b2, bl⟩ := B
    rintro ok ⟨x1, x2, x3, x4, x5⟩
    have k8' := ok.2.2.2.2.2.2.2.1
    refine ⟨x1, x2, x3, x4, fun i hi => ?_⟩
    have o := h2 (32 * v + i) (by omega)
    exact ⟨o.1.trans (x5 i hi).1, o.2.trans (x5 i hi).2⟩
end
