section
/-! rows pasted from the kit's PURE-ROWS and BITS (starting text), then small arithmetic -/
theorem pk_us {f : Nat → Int32} {k : Nat} {x : Int32} : upd f k x k = x := if_pos rfl
theorem pk_un {f : Nat → Int32} {k j : Nat} {x : Int32} (h : j ≠ k) : upd f k x j = f j := if_neg h
theorem pk_uLs {f : Nat → Int64} {k : Nat} {x : Int64} : vp_updL f k x k = x := if_pos rfl
theorem pk_uLn {f : Nat → Int64} {k j : Nat} {x : Int64} (h : j ≠ k) : vp_updL f k x j = f j := if_neg h
theorem pk_sub {a b : Nat} (h : b ≤ a) : nI a - nI b = nI (a - b) := by
  obtain ⟨c, rfl⟩ : ∃ c, a = c + b := ⟨a - b, by omega⟩
  rw [← nI_add, Int32.add_sub_cancel, Nat.add_sub_cancel]
theorem pk_m1 (n : Nat) : nI (n + 1) + (-1) = nI n := by
  rw [← nI_1, Int32.add_assoc, show (1 : Int32) + (-1) = 0 from rfl, Int32.add_zero]
theorem pk_mul (a b : Nat) : nI a * nI b = nI (a * b) := (Int32.ofNat_mul a b).symm
theorem pk_div {a d : Nat} (ha : a < 2 ^ 31) (h0 : 0 < d) (hd : d < 2 ^ 31) : nI a / nI d = nI (a / d) := by
  apply Int32.toInt_inj.mp
  rw [lg_idiv_nonneg (by rw [nI_toInt ha]; omega) (by rw [nI_toInt hd]; omega), nI_toInt ha, nI_toInt hd, nI_toInt (Nat.lt_of_le_of_lt (Nat.div_le_self a d) ha)]
  first | rfl | exact (Int.natCast_ediv _ _).symm
theorem pk_rem {a d : Nat} (ha : a < 2 ^ 31) (h0 : 0 < d) (hd : d < 2 ^ 31) : nI a - nI a / nI d * nI d = nI (a % d) := by
  rw [pk_div ha h0 hd, pk_mul, pk_sub (Nat.div_mul_le_self a d)]
  exact congrArg nI (by have := Nat.div_add_mod' a d; omega)
theorem pk_sub_toInt {a b : Nat} (ha : a < 2 ^ 30) (hb : b < 2 ^ 30) : (nI a - nI b).toInt = (a : Int) - b := by
  rw [Int32.toInt_sub, nI_toInt (by omega), nI_toInt (by omega)]
  exact Int.bmod_eq_of_le (by omega) (by omega)
theorem pk_sneg {a b : Nat} (hb : b < 2 ^ 30) (h : a < b) : nI a - nI b < 0 := by
  rw [Int32.lt_iff_toInt_lt, pk_sub_toInt (by omega) hb, show (0 : Int32).toInt = 0 from by decide]
  omega
theorem pk_ix (x : Int32) {n : Nat} (hn : n < 2 ^ 31) : x < 0 ∨ nI n ≤ x ∨ ∃ j : Nat, j < n ∧ x = nI j := by
  by_cases h : x < 0
  · exact Or.inl h
  · obtain ⟨j, hj, rfl⟩ := nI_of h
    by_cases h2 : j < n
    · exact Or.inr (Or.inr ⟨j, h2, rfl⟩)
    · exact Or.inr (Or.inl (nI_le (by omega) hj))
theorem pk_le {x y : Int32} {A B : Prop} (a b : Nat) (f : a ≤ b → A) (g : b < a → B) (hx : x = nI a := by rfl) (hy : y = nI b := by rfl) (ha : a < 2 ^ 31 := by omega) (hb : b < 2 ^ 31 := by omega) : (x ≤ y → A) ∧ (¬ x ≤ y → B) := by
  subst hx hy
  rw [nI_leI ha hb]
  exact ⟨f, fun z => g (by omega)⟩
theorem pk_lt {x y : Int32} {A B : Prop} (a b : Nat) (f : a < b → A) (g : b ≤ a → B) (hx : x = nI a := by rfl) (hy : y = nI b := by rfl) (ha : a < 2 ^ 31 := by omega) (hb : b < 2 ^ 31 := by omega) : (x < y → A) ∧ (¬ x < y → B) := by
  subst hx hy
  rw [nI_ltI ha hb]
  exact ⟨f, fun z => g (by omega)⟩
theorem pk_eq {x y : Int32} {A B : Prop} (a b : Nat) (f : a = b → A) (g : a ≠ b → B) (hx : x = nI a := by rfl) (hy : y = nI b := by rfl) (ha : a < 2 ^ 31 := by omega) (hb : b < 2 ^ 31 := by omega) : (x = y → A) ∧ (¬ x = y → B) := by
  subst hx hy
  rw [nI_eq ha hb]
  exact ⟨f, g⟩
theorem pk_in {x : Int32} (n N : Nat) (h : n < N) (hx : x = nI n := by rfl) (hN : N < 2 ^ 31 := by omega) : vp_in x N := by
  subst hx
  exact vp_in_nI h hN
theorem pk_cl {x : Int32} (n : Nat) (hx : x = nI n := by rfl) (h : n < 2 ^ 31 := by omega) : x.toNatClampNeg = n := by
  subst hx
  exact nI_clamp h
theorem sb_m1 {p : Nat} (h : 0 < p) : nI p + (-1) = nI (p - 1) := by
  obtain ⟨q, rfl⟩ : ∃ q, p = q + 1 := ⟨p - 1, by omega⟩
  exact pk_m1 q
theorem wb_tb (n : Nat) : (lN n).toBitVec = BitVec.ofNat 64 n := rfl
theorem wb_inj {a b : Int64} (h : a.toBitVec = b.toBitVec) : a = b := Int64.toBitVec_inj.mp h
theorem wb_c : ∀ k, k < 64 → ((nI k).toInt64 &&& 63) = lN k := by decide +kernel
theorem wb_sm : ∀ k, k < 64 → (BitVec.ofNat 64 k).smod 64 = BitVec.ofNat 64 k := by decide +kernel
theorem qa_a1 (a : Nat) : nI a + 1 = nI (a + 1) := nI_add a 1
theorem qa_a2 (a : Nat) : nI a + 2 = nI (a + 2) := nI_add a 2
theorem qa_a3 (a : Nat) : nI a + 3 = nI (a + 3) := nI_add a 3
theorem qa_a4 (a : Nat) : nI a + 4 = nI (a + 4) := nI_add a 4
theorem qa_a5 (a : Nat) : nI a + 5 = nI (a + 5) := nI_add a 5
theorem qa_a6 (a : Nat) : nI a + 6 = nI (a + 6) := nI_add a 6
theorem qa_a7 (a : Nat) : nI a + 7 = nI (a + 7) := nI_add a 7
theorem qa_a8 (a : Nat) : nI a + 8 = nI (a + 8) := nI_add a 8
theorem qa_a56 (a : Nat) : nI a + 56 = nI (a + 56) := nI_add a 56
theorem qa_m6 (a : Nat) : nI a * 6 = nI (a * 6) := pk_mul a 6
theorem qa_m7 (a : Nat) : nI a * 7 = nI (a * 7) := pk_mul a 7
theorem qa_m8 (a : Nat) : nI a * 8 = nI (a * 8) := pk_mul a 8
theorem qa_m56 (a : Nat) : nI a * 56 = nI (a * 56) := pk_mul a 56
theorem qa_l2 (a : Nat) : 2 + nI a = nI (2 + a) := nI_add 2 a
theorem qa_l37 (a : Nat) : 37 + nI a = nI (37 + a) := nI_add 37 a
theorem qa_l2016 (a : Nat) : 2016 + nI a = nI (2016 + a) := nI_add 2016 a
theorem qa_lel0 {a : Nat} (h : a < 2 ^ 31) : (0 : Int32) ≤ nI a ↔ 0 ≤ a := nI_leI (a := 0) (by decide) h
theorem qa_ler0 {a : Nat} (h : a < 2 ^ 31) : nI a ≤ (0 : Int32) ↔ a ≤ 0 := nI_leI (b := 0) h (by decide)
theorem qa_ltl0 {a : Nat} (h : a < 2 ^ 31) : (0 : Int32) < nI a ↔ 0 < a := nI_ltI (a := 0) (by decide) h
theorem qa_ltr0 {a : Nat} (h : a < 2 ^ 31) : nI a < (0 : Int32) ↔ a < 0 := nI_ltI (b := 0) h (by decide)
theorem qa_eqr0 {a : Nat} (h : a < 2 ^ 31) : nI a = (0 : Int32) ↔ a = 0 := nI_eq (b := 0) h (by decide)
theorem qa_lel1 {a : Nat} (h : a < 2 ^ 31) : (1 : Int32) ≤ nI a ↔ 1 ≤ a := nI_leI (a := 1) (by decide) h
theorem qa_ler1 {a : Nat} (h : a < 2 ^ 31) : nI a ≤ (1 : Int32) ↔ a ≤ 1 := nI_leI (b := 1) h (by decide)
theorem qa_ltl1 {a : Nat} (h : a < 2 ^ 31) : (1 : Int32) < nI a ↔ 1 < a := nI_ltI (a := 1) (by decide) h
theorem qa_ltr1 {a : Nat} (h : a < 2 ^ 31) : nI a < (1 : Int32) ↔ a < 1 := nI_ltI (b := 1) h (by decide)
theorem qa_eqr1 {a : Nat} (h : a < 2 ^ 31) : nI a = (1 : Int32) ↔ a = 1 := nI_eq (b := 1) h (by decide)
theorem qa_lel2 {a : Nat} (h : a < 2 ^ 31) : (2 : Int32) ≤ nI a ↔ 2 ≤ a := nI_leI (a := 2) (by decide) h
theorem qa_ler2 {a : Nat} (h : a < 2 ^ 31) : nI a ≤ (2 : Int32) ↔ a ≤ 2 := nI_leI (b := 2) h (by decide)
theorem qa_ltl2 {a : Nat} (h : a < 2 ^ 31) : (2 : Int32) < nI a ↔ 2 < a := nI_ltI (a := 2) (by decide) h
theorem qa_ltr2 {a : Nat} (h : a < 2 ^ 31) : nI a < (2 : Int32) ↔ a < 2 := nI_ltI (b := 2) h (by decide)
theorem qa_eqr2 {a : Nat} (h : a < 2 ^ 31) : nI a = (2 : Int32) ↔ a = 2 := nI_eq (b := 2) h (by decide)
theorem qa_lel3 {a : Nat} (h : a < 2 ^ 31) : (3 : Int32) ≤ nI a ↔ 3 ≤ a := nI_leI (a := 3) (by decide) h
theorem qa_ler3 {a : Nat} (h : a < 2 ^ 31) : nI a ≤ (3 : Int32) ↔ a ≤ 3 := nI_leI (b := 3) h (by decide)
theorem qa_ltl3 {a : Nat} (h : a < 2 ^ 31) : (3 : Int32) < nI a ↔ 3 < a := nI_ltI (a := 3) (by decide) h
theorem qa_ltr3 {a : Nat} (h : a < 2 ^ 31) : nI a < (3 : Int32) ↔ a < 3 := nI_ltI (b := 3) h (by decide)
theorem qa_eqr3 {a : Nat} (h : a < 2 ^ 31) : nI a = (3 : Int32) ↔ a = 3 := nI_eq (b := 3) h (by decide)
theorem qa_lel4 {a : Nat} (h : a < 2 ^ 31) : (4 : Int32) ≤ nI a ↔ 4 ≤ a := nI_leI (a := 4) (by decide) h
theorem qa_ler4 {a : Nat} (h : a < 2 ^ 31) : nI a ≤ (4 : Int32) ↔ a ≤ 4 := nI_leI (b := 4) h (by decide)
theorem qa_ltl4 {a : Nat} (h : a < 2 ^ 31) : (4 : Int32) < nI a ↔ 4 < a := nI_ltI (a := 4) (by decide) h
theorem qa_ltr4 {a : Nat} (h : a < 2 ^ 31) : nI a < (4 : Int32) ↔ a < 4 := nI_ltI (b := 4) h (by decide)
theorem qa_eqr4 {a : Nat} (h : a < 2 ^ 31) : nI a = (4 : Int32) ↔ a = 4 := nI_eq (b := 4) h (by decide)
theorem qa_lel5 {a : Nat} (h : a < 2 ^ 31) : (5 : Int32) ≤ nI a ↔ 5 ≤ a := nI_leI (a := 5) (by decide) h
theorem qa_ler5 {a : Nat} (h : a < 2 ^ 31) : nI a ≤ (5 : Int32) ↔ a ≤ 5 := nI_leI (b := 5) h (by decide)
theorem qa_ltl5 {a : Nat} (h : a < 2 ^ 31) : (5 : Int32) < nI a ↔ 5 < a := nI_ltI (a := 5) (by decide) h
theorem qa_ltr5 {a : Nat} (h : a < 2 ^ 31) : nI a < (5 : Int32) ↔ a < 5 := nI_ltI (b := 5) h (by decide)
theorem qa_eqr5 {a : Nat} (h : a < 2 ^ 31) : nI a = (5 : Int32) ↔ a = 5 := nI_eq (b := 5) h (by decide)
theorem qa_lel6 {a : Nat} (h : a < 2 ^ 31) : (6 : Int32) ≤ nI a ↔ 6 ≤ a := nI_leI (a := 6) (by decide) h
theorem qa_ler6 {a : Nat} (h : a < 2 ^ 31) : nI a ≤ (6 : Int32) ↔ a ≤ 6 := nI_leI (b := 6) h (by decide)
theorem qa_ltl6 {a : Nat} (h : a < 2 ^ 31) : (6 : Int32) < nI a ↔ 6 < a := nI_ltI (a := 6) (by decide) h
theorem qa_ltr6 {a : Nat} (h : a < 2 ^ 31) : nI a < (6 : Int32) ↔ a < 6 := nI_ltI (b := 6) h (by decide)
theorem qa_eqr6 {a : Nat} (h : a < 2 ^ 31) : nI a = (6 : Int32) ↔ a = 6 := nI_eq (b := 6) h (by decide)
theorem qa_lel7 {a : Nat} (h : a < 2 ^ 31) : (7 : Int32) ≤ nI a ↔ 7 ≤ a := nI_leI (a := 7) (by decide) h
theorem qa_ler7 {a : Nat} (h : a < 2 ^ 31) : nI a ≤ (7 : Int32) ↔ a ≤ 7 := nI_leI (b := 7) h (by decide)
theorem qa_ltl7 {a : Nat} (h : a < 2 ^ 31) : (7 : Int32) < nI a ↔ 7 < a := nI_ltI (a := 7) (by decide) h
theorem qa_ltr7 {a : Nat} (h : a < 2 ^ 31) : nI a < (7 : Int32) ↔ a < 7 := nI_ltI (b := 7) h (by decide)
theorem qa_eqr7 {a : Nat} (h : a < 2 ^ 31) : nI a = (7 : Int32) ↔ a = 7 := nI_eq (b := 7) h (by decide)
theorem qa_lel8 {a : Nat} (h : a < 2 ^ 31) : (8 : Int32) ≤ nI a ↔ 8 ≤ a := nI_leI (a := 8) (by decide) h
theorem qa_ler8 {a : Nat} (h : a < 2 ^ 31) : nI a ≤ (8 : Int32) ↔ a ≤ 8 := nI_leI (b := 8) h (by decide)
theorem qa_ltl8 {a : Nat} (h : a < 2 ^ 31) : (8 : Int32) < nI a ↔ 8 < a := nI_ltI (a := 8) (by decide) h
theorem qa_ltr8 {a : Nat} (h : a < 2 ^ 31) : nI a < (8 : Int32) ↔ a < 8 := nI_ltI (b := 8) h (by decide)
theorem qa_eqr8 {a : Nat} (h : a < 2 ^ 31) : nI a = (8 : Int32) ↔ a = 8 := nI_eq (b := 8) h (by decide)
theorem qa_lel36 {a : Nat} (h : a < 2 ^ 31) : (36 : Int32) ≤ nI a ↔ 36 ≤ a := nI_leI (a := 36) (by decide) h
theorem qa_ler36 {a : Nat} (h : a < 2 ^ 31) : nI a ≤ (36 : Int32) ↔ a ≤ 36 := nI_leI (b := 36) h (by decide)
theorem qa_ltl36 {a : Nat} (h : a < 2 ^ 31) : (36 : Int32) < nI a ↔ 36 < a := nI_ltI (a := 36) (by decide) h
theorem qa_ltr36 {a : Nat} (h : a < 2 ^ 31) : nI a < (36 : Int32) ↔ a < 36 := nI_ltI (b := 36) h (by decide)
theorem qa_eqr36 {a : Nat} (h : a < 2 ^ 31) : nI a = (36 : Int32) ↔ a = 36 := nI_eq (b := 36) h (by decide)
theorem qa_lel37 {a : Nat} (h : a < 2 ^ 31) : (37 : Int32) ≤ nI a ↔ 37 ≤ a := nI_leI (a := 37) (by decide) h
theorem qa_ler37 {a : Nat} (h : a < 2 ^ 31) : nI a ≤ (37 : Int32) ↔ a ≤ 37 := nI_leI (b := 37) h (by decide)
theorem qa_ltl37 {a : Nat} (h : a < 2 ^ 31) : (37 : Int32) < nI a ↔ 37 < a := nI_ltI (a := 37) (by decide) h
theorem qa_ltr37 {a : Nat} (h : a < 2 ^ 31) : nI a < (37 : Int32) ↔ a < 37 := nI_ltI (b := 37) h (by decide)
theorem qa_eqr37 {a : Nat} (h : a < 2 ^ 31) : nI a = (37 : Int32) ↔ a = 37 := nI_eq (b := 37) h (by decide)
theorem qa_lel56 {a : Nat} (h : a < 2 ^ 31) : (56 : Int32) ≤ nI a ↔ 56 ≤ a := nI_leI (a := 56) (by decide) h
theorem qa_ler56 {a : Nat} (h : a < 2 ^ 31) : nI a ≤ (56 : Int32) ↔ a ≤ 56 := nI_leI (b := 56) h (by decide)
theorem qa_ltl56 {a : Nat} (h : a < 2 ^ 31) : (56 : Int32) < nI a ↔ 56 < a := nI_ltI (a := 56) (by decide) h
theorem qa_ltr56 {a : Nat} (h : a < 2 ^ 31) : nI a < (56 : Int32) ↔ a < 56 := nI_ltI (b := 56) h (by decide)
theorem qa_eqr56 {a : Nat} (h : a < 2 ^ 31) : nI a = (56 : Int32) ↔ a = 56 := nI_eq (b := 56) h (by decide)
theorem qa_lel2016 {a : Nat} (h : a < 2 ^ 31) : (2016 : Int32) ≤ nI a ↔ 2016 ≤ a := nI_leI (a := 2016) (by decide) h
theorem qa_ler2016 {a : Nat} (h : a < 2 ^ 31) : nI a ≤ (2016 : Int32) ↔ a ≤ 2016 := nI_leI (b := 2016) h (by decide)
theorem qa_ltl2016 {a : Nat} (h : a < 2 ^ 31) : (2016 : Int32) < nI a ↔ 2016 < a := nI_ltI (a := 2016) (by decide) h
theorem qa_ltr2016 {a : Nat} (h : a < 2 ^ 31) : nI a < (2016 : Int32) ↔ a < 2016 := nI_ltI (b := 2016) h (by decide)
theorem qa_eqr2016 {a : Nat} (h : a < 2 ^ 31) : nI a = (2016 : Int32) ↔ a = 2016 := nI_eq (b := 2016) h (by decide)
theorem qa_cl0 : (0 : Int32).toNatClampNeg = 0 := by decide
theorem qa_in {n N : Nat} (h : n < N) (hN : N < 2 ^ 31) : vp_in (nI n) N = True := eq_true (vp_in_nI h hN)
theorem qa_s1 {a : Nat} (h : 1 ≤ a) : nI a - 1 = nI (a - 1) := pk_sub (b := 1) h
theorem qa_s2 {a : Nat} (h : 2 ≤ a) : nI a - 2 = nI (a - 2) := pk_sub (b := 2) h
theorem qa_s8 {a : Nat} (h : 8 ≤ a) : nI a - 8 = nI (a - 8) := pk_sub (b := 8) h
theorem qa_div6 {a : Nat} (h : a < 2 ^ 31) : nI a / 6 = nI (a / 6) := pk_div (d := 6) h (by decide) (by decide)
theorem qa_div8 {a : Nat} (h : a < 2 ^ 31) : nI a / 8 = nI (a / 8) := pk_div (d := 8) h (by decide) (by decide)
theorem qa_div56 {a : Nat} (h : a < 2 ^ 31) : nI a / 56 = nI (a / 56) := pk_div (d := 56) h (by decide) (by decide)
theorem qa_rem6 {a : Nat} (h : a < 2 ^ 31) : nI a - nI a / 6 * 6 = nI (a % 6) := pk_rem (d := 6) h (by decide) (by decide)
theorem qa_rem56 {a : Nat} (h : a < 2 ^ 31) : nI a - nI a / 56 * 56 = nI (a % 56) := pk_rem (d := 56) h (by decide) (by decide)
theorem qa_n6 : ¬ (6 : Int32) = 0 := by decide
theorem qa_n8 : ¬ (8 : Int32) = 0 := by decide
theorem qa_n56 : ¬ (56 : Int32) = 0 := by decide
theorem qa_nar1 : vp_nar .boolean 1 = 1 := rfl
theorem qa_nar0 : vp_nar .boolean 0 = 0 := rfl
theorem qa_nb0 : narrow .boolean (.int 0) = .int 0 := rfl
theorem qa_nb1 : narrow .boolean (.int 1) = .int 1 := rfl
theorem qa_f8 {P : Nat → Prop} (h0 : P 0) (h1 : P 1) (h2 : P 2) (h3 : P 3) (h4 : P 4) (h5 : P 5) (h6 : P 6) (h7 : P 7) : ∀ f, f < 8 → P f := by
  intro f hf
  match f, hf with
  | 0, _ => exact h0
  | 1, _ => exact h1
  | 2, _ => exact h2
  | 3, _ => exact h3
  | 4, _ => exact h4
  | 5, _ => exact h5
  | 6, _ => exact h6
  | 7, _ => exact h7
theorem qa_dr {r top row : Nat} (h : top ≤ r) : nI r + (nI row - nI top) = nI (r - top + row) := by
  obtain ⟨k, rfl⟩ : ∃ k, r = k + top := ⟨r - top, by omega⟩
  rw [← nI_add, Nat.add_sub_cancel, ← nI_add]
  grind
theorem qa_tI {a : Nat} (h : a < 2 ^ 31) : (nI a).toInt = (a : Int) := nI_toInt h
theorem qa_sd {a b c : Nat} (ha : a < 1000) (hb : b < 1000) (hc : c < 1000) : (nI a - (nI b - nI c)).toInt = (a : Int) - b + c := by
  rw [Int32.toInt_sub, pk_sub_toInt (by omega) (by omega), nI_toInt (by omega)]
  rw [Int.bmod_eq_of_le (by omega) (by omega)]
  omega
/-- an if over a proposition -/
noncomputable def qa_b (P : Prop) : Bool := @decide P (Classical.propDecidable P)
theorem qa_bt {P : Prop} (h : P) : qa_b P = true := by unfold qa_b; exact @decide_eq_true P (Classical.propDecidable P) h
theorem qa_bf {P : Prop} (h : ¬ P) : qa_b P = false := by unfold qa_b; exact @decide_eq_false P (Classical.propDecidable P) h
theorem qa_bi {P : Prop} : qa_b P = true ↔ P := by unfold qa_b; exact @decide_eq_true_iff P (Classical.propDecidable P)
theorem qa_bif {P : Prop} : qa_b P = false ↔ ¬ P := by unfold qa_b; exact @decide_eq_false_iff_not P (Classical.propDecidable P)
/-! bits of a long -/
def qa_tb (w : Int64) (i : Nat) : Bool := w.toBitVec.getLsbD i
theorem qa_sh {k : Nat} (hk : k < 64) : ((1 : Int64) <<< ((nI k).toInt64 &&& 63)).toBitVec = BitVec.twoPow 64 k := by
  rw [wb_c k hk, Int64.toBitVec_shiftLeft, wb_tb, wb_sm k hk, BitVec.shiftLeft_eq']
  rw [BitVec.toNat_ofNat, Nat.mod_eq_of_lt (show k < 2 ^ 64 by omega)]
  apply BitVec.eq_of_getLsbD_eq
  intro i hi
  rw [BitVec.getLsbD_twoPow, BitVec.getLsbD_shiftLeft]
  show (decide (i < 64) && !decide (i < k) && (1#64).getLsbD (i - k)) = _
  rw [BitVec.getLsbD_one]
  by_cases e : k = i
  · subst e; simp [hi]
  · by_cases l : i < k
    · simp [l]; omega
    · have l2 : ¬ (i - k = 0) := by omega
      simp [l2, e, l]
theorem qa_tb0 (i : Nat) : qa_tb 0 i = false := by
  show (0#64).getLsbD i = false
  simp
theorem qa_tbo (a b : Int64) (i : Nat) : qa_tb (a ||| b) i = (qa_tb a i || qa_tb b i) := by
  unfold qa_tb; rw [Int64.toBitVec_or, BitVec.getLsbD_or]
theorem qa_tbs {a : Int64} {k : Nat} (hk : k < 64) (i : Nat) : qa_tb (a ||| ((1 : Int64) <<< ((nI k).toInt64 &&& 63))) i = (qa_tb a i || decide (i = k)) := by
  rw [qa_tbo]
  congr 1
  unfold qa_tb
  rw [qa_sh hk, BitVec.getLsbD_twoPow]
  by_cases e : i = k
  · subst e; simp [hk]
  · simp [e]; omega
theorem qa_tz {x : Int64} : x = 0 ↔ ∀ i, i < 64 → qa_tb x i = false := by
  constructor
  · intro h i _; rw [h]; exact qa_tb0 i
  · intro h
    apply wb_inj
    apply BitVec.eq_of_getLsbD_eq
    intro i hi
    rw [show x.toBitVec.getLsbD i = qa_tb x i from rfl, h i hi]
    simp
theorem qa_tba (a b : Int64) (i : Nat) : qa_tb (a &&& b) i = (qa_tb a i && qa_tb b i) := by
  unfold qa_tb; rw [Int64.toBitVec_and, BitVec.getLsbD_and]
theorem qa_tbk {k i : Nat} (hk : k < 64) : qa_tb ((1 : Int64) <<< ((nI k).toInt64 &&& 63)) i = decide (i = k) := by
  unfold qa_tb
  rw [qa_sh hk, BitVec.getLsbD_twoPow]
  by_cases e : i = k
  · subst e; simp [hk]
  · simp [e]; omega
theorem qa_tand {a : Int64} {k : Nat} (hk : k < 64) : (a &&& ((1 : Int64) <<< ((nI k).toInt64 &&& 63))) = 0 ↔ qa_tb a k = false := by
  rw [qa_tz]
  constructor
  · intro h
    have := h k hk
    rw [qa_tba, qa_tbk hk] at this
    simpa using this
  · intro h i hi
    rw [qa_tba, qa_tbk hk]
    by_cases e : i = k
    · subst e; rw [h]; rfl
    · simp [e]
theorem qa_tnot {a b : Int64} : (a &&& (b ^^^ (-1))) = 0 ↔ ∀ i, i < 64 → qa_tb a i = true → qa_tb b i = true := by
  rw [qa_tz]
  have e : ∀ i, i < 64 → qa_tb (b ^^^ (-1)) i = !qa_tb b i := by
    intro i hi
    unfold qa_tb
    rw [Int64.toBitVec_xor, BitVec.getLsbD_xor, show (-1 : Int64).toBitVec = BitVec.allOnes 64 from rfl, BitVec.getLsbD_allOnes]
    simp [hi]
  constructor
  · intro h i hi ha
    have := h i hi
    rw [qa_tba, e i hi, ha] at this
    simpa using this
  · intro h i hi
    rw [qa_tba, e i hi]
    have := h i hi
    cases h1 : qa_tb a i
    · rfl
    · rw [this h1]; rfl
end
section
/-! the abstract picture: tokens, slots -/
/-- a live token -/
abbrev qt_lv (t : Nat → Int32) : Prop := ¬ t 0 = 1 ∧ ¬ t 0 = 3 ∧ t 1 = 0
def qt_bot (t : Nat → Int32) : Int32 := if t 0 = 2 then t 2 else t 5
def qt_rgt (t : Nat → Int32) : Int32 := if t 0 = 2 then t 3 else t 6
/-- the reference's layout of a token -/
def qt_yv (t : Nat → Int32) : Nat → Int32 := fun f => if t 0 = 2 ∧ 5 ≤ f then t (f - 3) else t f
def qt_put (k v : Int32) : Nat → Int32 := fun f => if f = 0 then k else if f = 1 then v else 0
def qt_LV (R C : Nat) (t : Nat → Int32) : Prop :=
  ∃ r c r' c' m m' : Nat, r ≤ r' ∧ r' < R ∧ c ≤ c' ∧ c' < C ∧ m < 4 ∧ m' < 4 ∧ t 2 = nI r ∧ t 3 = nI c ∧ t 4 = nI m ∧ qt_bot t = nI r' ∧ qt_rgt t = nI c' ∧
    (¬ t 0 = 2 → t 7 = nI m') ∧ (t 0 = 2 → t 5 = 0 ∧ t 6 = 0 ∧ t 7 = 0)
/-- a kind that names cells -/
abbrev qt_rk (k : Int32) : Prop := k = 2 ∨ k = 4 ∨ k = 5 ∨ k = 6
def qt_VT (R C : Nat) (t : Nat → Int32) : Prop :=
  t 0 = 1 ∨ (t 0 = 3 ∧ ∃ k : Nat, 1 ≤ k ∧ k ≤ 5 ∧ t 1 = nI k) ∨ (qt_rk (t 0) ∧ ((t 1 = 1 ∧ ∀ f, 2 ≤ f → f < 8 → t f = 0) ∨ (t 1 = 0 ∧ qt_LV R C t)))
/-- tok is tok0 but for the token at b, which is t -/
def qt_Tf (tok0 tok : Nat → Int32) (b : Nat) (t : Nat → Int32) : Prop := (∀ f, f < 8 → tok (b + f) = t f) ∧ ∀ j, (j < b ∨ b + 8 ≤ j) → tok j = tok0 j
theorem qt_Tf_r {tok : Nat → Int32} {b : Nat} {t : Nat → Int32} (h : ∀ f, f < 8 → tok (b + f) = t f) : qt_Tf tok tok b t := ⟨h, fun _ _ => rfl⟩
theorem qt_Tf_u {tok0 tok : Nat → Int32} {b : Nat} {t : Nat → Int32} (h : qt_Tf tok0 tok b t) {k : Nat} (hk : k < 8) (v : Int32) : qt_Tf tok0 (upd tok (b + k) v) b (upd t k v) := by
  refine ⟨fun f hf => ?_, fun j hj => ?_⟩
  · by_cases e : f = k
    · subst e; rw [pk_us, pk_us]
    · rw [pk_un (by omega), pk_un e]; exact h.1 f hf
  · rw [pk_un (by omega)]; exact h.2 j hj
theorem qt_Tf_c {tok0 tok : Nat → Int32} {b : Nat} {t t' : Nat → Int32} (h : qt_Tf tok0 tok b t) (e : ∀ f, f < 8 → t f = t' f) : qt_Tf tok0 tok b t' :=
  ⟨fun f hf => (h.1 f hf).trans (e f hf), h.2⟩
/-- slot s of the component, of the reference, holds n tokens t -/
def qt_MX (tok cnt : Nat → Int32) (s n : Nat) (t : Nat → Nat → Int32) : Prop := cnt s = nI n ∧ ∀ i, i < n → ∀ f, f < 8 → tok (s * 56 + i * 8 + f) = t i f
def qt_MY (tok cnt : Nat → Int32) (s n : Nat) (t : Nat → Nat → Int32) : Prop := cnt s = nI n ∧ ∀ i, i < n → ∀ f, f < 8 → tok (s * 56 + i * 8 + f) = qt_yv (t i) f
def qt_ut {α : Type} (t : Nat → α) (i : Nat) (x : α) : Nat → α := fun j => if j = i then x else t j
theorem qt_us {α : Type} {t : Nat → α} {i : Nat} {x : α} : qt_ut t i x i = x := if_pos rfl
theorem qt_un {α : Type} {t : Nat → α} {i j : Nat} {x : α} (h : j ≠ i) : qt_ut t i x j = t j := if_neg h
/-- only slot d differs -/
def qt_Fr (tok cnt tok' cnt' : Nat → Int32) (d : Nat) : Prop := ∀ s, s ≠ d → cnt' s = cnt s ∧ ∀ j, j < 56 → tok' (s * 56 + j) = tok (s * 56 + j)
theorem qt_MX_f {tok cnt tok' cnt' : Nat → Int32} {d s n : Nat} {t : Nat → Nat → Int32} (h : qt_Fr tok cnt tok' cnt' d) (e : s ≠ d) (hn : n ≤ 7) (m : qt_MX tok cnt s n t) : qt_MX tok' cnt' s n t := by
  refine ⟨(h s e).1.trans m.1, fun i hi f hf => ?_⟩
  have := (h s e).2 (i * 8 + f) (by omega)
  rw [← Nat.add_assoc] at this
  rw [this]; exact m.2 i hi f hf
theorem qt_MY_f {tok cnt tok' cnt' : Nat → Int32} {d s n : Nat} {t : Nat → Nat → Int32} (h : qt_Fr tok cnt tok' cnt' d) (e : s ≠ d) (hn : n ≤ 7) (m : qt_MY tok cnt s n t) : qt_MY tok' cnt' s n t := by
  refine ⟨(h s e).1.trans m.1, fun i hi f hf => ?_⟩
  have := (h s e).2 (i * 8 + f) (by omega)
  rw [← Nat.add_assoc] at this
  rw [this]; exact m.2 i hi f hf
theorem qt_MX_t {tok cnt tok' : Nat → Int32} {s n i : Nat} {t : Nat → Nat → Int32} {x : Nat → Int32} (m : qt_MX tok cnt s n t) (h : qt_Tf tok tok' (s * 56 + i * 8) x) : qt_MX tok' cnt s n (qt_ut t i x) := by
  refine ⟨m.1, fun j hj f hf => ?_⟩
  by_cases e : j = i
  · subst e; rw [qt_us]; exact h.1 f hf
  · rw [qt_un e, h.2 _ (by omega)]; exact m.2 j hj f hf
theorem qt_MY_t {tok cnt tok' : Nat → Int32} {s n i : Nat} {t : Nat → Nat → Int32} {x : Nat → Int32} (m : qt_MY tok cnt s n t) (h : qt_Tf tok tok' (s * 56 + i * 8) (qt_yv x)) : qt_MY tok' cnt s n (qt_ut t i x) := by
  refine ⟨m.1, fun j hj f hf => ?_⟩
  by_cases e : j = i
  · subst e; rw [qt_us]; exact h.1 f hf
  · rw [qt_un e, h.2 _ (by omega)]; exact m.2 j hj f hf
theorem qt_MX_o {tok cnt tok' : Nat → Int32} {s s' n i : Nat} {t : Nat → Nat → Int32} {x : Nat → Int32} (m : qt_MX tok cnt s n t) (h : qt_Tf tok tok' (s' * 56 + i * 8) x) (e : s ≠ s') (hi : i < 7) (hn : n ≤ 7) : qt_MX tok' cnt s n t :=
  ⟨m.1, fun j hj f hf => by rw [h.2 _ (by omega)]; exact m.2 j hj f hf⟩
theorem qt_MY_o {tok cnt tok' : Nat → Int32} {s s' n i : Nat} {t : Nat → Nat → Int32} {x : Nat → Int32} (m : qt_MY tok cnt s n t) (h : qt_Tf tok tok' (s' * 56 + i * 8) x) (e : s ≠ s') (hi : i < 7) (hn : n ≤ 7) : qt_MY tok' cnt s n t :=
  ⟨m.1, fun j hj f hf => by rw [h.2 _ (by omega)]; exact m.2 j hj f hf⟩
theorem qt_MX_c {tok cnt : Nat → Int32} {s n : Nat} {t t' : Nat → Nat → Int32} (m : qt_MX tok cnt s n t) (e : ∀ i, i < n → ∀ f, f < 8 → t i f = t' i f) : qt_MX tok cnt s n t' :=
  ⟨m.1, fun i hi f hf => (m.2 i hi f hf).trans (e i hi f hf)⟩
theorem qt_MY_c {tok cnt : Nat → Int32} {s n : Nat} {t t' : Nat → Nat → Int32} (m : qt_MY tok cnt s n t) (e : ∀ i, i < n → t i = t' i) : qt_MY tok cnt s n t' :=
  ⟨m.1, fun i hi f hf => (m.2 i hi f hf).trans (by rw [e i hi])⟩
theorem qt_MX_k {tok cnt cnt' : Nat → Int32} {s n : Nat} {t : Nat → Nat → Int32} (m : qt_MX tok cnt s n t) (e : cnt' s = cnt s) : qt_MX tok cnt' s n t := ⟨e.trans m.1, m.2⟩
theorem qt_MY_k {tok cnt cnt' : Nat → Int32} {s n : Nat} {t : Nat → Nat → Int32} (m : qt_MY tok cnt s n t) (e : cnt' s = cnt s) : qt_MY tok cnt' s n t := ⟨e.trans m.1, m.2⟩
/-! the stack's depth -/
def qt_tak (t : Nat → Int32) : Nat := if t 0 = 6 then 1 else if t 0 = 3 then (if t 1 = 5 then 3 else 2) else 0
def qt_dep (T : Nat → Nat → Int32) : Nat → Nat
  | 0 => 0
  | i + 1 => qt_dep T i - qt_tak (T i) + 1
def qt_WF (n : Nat) (T : Nat → Nat → Int32) : Prop :=
  (∀ i, i < n → qt_tak (T i) ≤ qt_dep T i ∧ ((qt_tak (T i) = 1 ∨ qt_tak (T i) = 3) → qt_dep T i = qt_tak (T i) ∧ i + 1 = n)) ∧ qt_dep T n = 1
theorem qt_dep_le (T : Nat → Nat → Int32) : ∀ i, qt_dep T i ≤ i
  | 0 => Nat.le_refl _
  | i + 1 => by have := qt_dep_le T i; show qt_dep T i - qt_tak (T i) + 1 ≤ i + 1; omega
theorem qt_dep_c {T T' : Nat → Nat → Int32} : ∀ i, (∀ j, j < i → qt_tak (T' j) = qt_tak (T j)) → qt_dep T' i = qt_dep T i
  | 0, _ => rfl
  | i + 1, h => by
    show qt_dep T' i - qt_tak (T' i) + 1 = qt_dep T i - qt_tak (T i) + 1
    rw [qt_dep_c i (fun j hj => h j (by omega)), h i (by omega)]
theorem qt_WF_c {n : Nat} {T T' : Nat → Nat → Int32} (h : ∀ j, j < n → qt_tak (T' j) = qt_tak (T j)) (w : qt_WF n T) : qt_WF n T' := by
  refine ⟨fun i hi => ?_, ?_⟩
  · rw [h i hi, qt_dep_c i (fun j hj => h j (by omega))]; exact w.1 i hi
  · rw [qt_dep_c n h]; exact w.2
/-- a formula's tokens are valid -/
def qt_VF (R C n : Nat) (t : Nat → Nat → Int32) : Prop := n ≤ 7 ∧ ∀ i, i < n → qt_VT R C (t i)
/-- a formula: its count, its tokens -/
abbrev qt_Fm : Type := Nat × (Nat → Nat → Int32)
def qt_z : qt_Fm := (0, fun _ _ => 0)
/-- the same formula -/
def qt_fe (f g : qt_Fm) : Prop := f.1 = g.1 ∧ ∀ i, i < f.1 → f.2 i = g.2 i
theorem qt_fe_r (f : qt_Fm) : qt_fe f f := ⟨rfl, fun _ _ => rfl⟩
theorem qt_fe_s {f g : qt_Fm} (h : qt_fe f g) : qt_fe g f := ⟨h.1.symm, fun i hi => (h.2 i (by rw [h.1]; exact hi)).symm⟩
theorem qt_fe_t {f g k : qt_Fm} (h : qt_fe f g) (h' : qt_fe g k) : qt_fe f k := ⟨h.1.trans h'.1, fun i hi => (h.2 i hi).trans (h'.2 i (by rw [← h.1]; exact hi))⟩
theorem qt_fe_e {f g : qt_Fm} (h : f = g) : qt_fe f g := h ▸ qt_fe_r f
theorem qt_fe_0 {f g : qt_Fm} (h : f.1 = 0) (h' : g.1 = 0) : qt_fe f g := ⟨h.trans h'.symm, fun i hi => absurd hi (by omega)⟩
/-- the first b slots hold the formulas F -/
def qt_AX (b : Nat) (tok cnt : Nat → Int32) (F : Nat → qt_Fm) : Prop := ∀ s, s < b → (F s).1 ≤ 7 ∧ qt_MX tok cnt s (F s).1 (F s).2
def qt_AY (b : Nat) (tok cnt : Nat → Int32) (F : Nat → qt_Fm) : Prop := ∀ s, s < b → (F s).1 ≤ 7 ∧ qt_MY tok cnt s (F s).1 (F s).2
theorem qt_AX_e {b : Nat} {tok cnt : Nat → Int32} {F F' : Nat → qt_Fm} (h : qt_AX b tok cnt F) (e : ∀ s, s < b → qt_fe (F s) (F' s)) : qt_AX b tok cnt F' := by
  intro s hs
  obtain ⟨a, m⟩ := h s hs
  obtain ⟨e1, e2⟩ := e s hs
  refine ⟨by omega, ?_⟩
  rw [← e1]
  exact qt_MX_c m (fun i hi f _ => by rw [e2 i hi])
theorem qt_AX_le {b b' : Nat} {tok cnt : Nat → Int32} {F : Nat → qt_Fm} (h : qt_AX b tok cnt F) (l : b' ≤ b) : qt_AX b' tok cnt F := fun s hs => h s (by omega)
theorem qt_AX_d {b d : Nat} {tok cnt tok' cnt' : Nat → Int32} {F : Nat → qt_Fm} {f : qt_Fm} (h : qt_AX b tok cnt F) (hf : f.1 ≤ 7) (m : qt_MX tok' cnt' d f.1 f.2) (fr : qt_Fr tok cnt tok' cnt' d) : qt_AX b tok' cnt' (qt_ut F d f) := by
  intro s hs
  by_cases e : s = d
  · subst e; rw [qt_us]; exact ⟨hf, m⟩
  · rw [qt_un e]; exact ⟨(h s hs).1, qt_MX_f fr e (h s hs).1 (h s hs).2⟩
theorem qt_AX_s {b : Nat} {tok cnt tok' cnt' : Nat → Int32} {F : Nat → qt_Fm} {f : qt_Fm} (h : qt_AX b tok cnt F) (hf : f.1 ≤ 7) (m : qt_MX tok' cnt' b f.1 f.2) (fr : qt_Fr tok cnt tok' cnt' b) : qt_AX (b + 1) tok' cnt' (qt_ut F b f) := by
  intro s hs
  by_cases e : s = b
  · subst e; rw [qt_us]; exact ⟨hf, m⟩
  · rw [qt_un e]; exact ⟨(h s (by omega)).1, qt_MX_f fr e (h s (by omega)).1 (h s (by omega)).2⟩
theorem qt_AX_0 {b d : Nat} {tok cnt : Nat → Int32} {F : Nat → qt_Fm} (h : qt_AX b tok cnt F) : qt_AX b tok (upd cnt d 0) (qt_ut F d qt_z) := by
  intro s hs
  by_cases e : s = d
  · subst e; rw [qt_us]; exact ⟨Nat.zero_le _, pk_us, fun i hi => absurd hi (Nat.not_lt_zero i)⟩
  · rw [qt_un e]; exact ⟨(h s hs).1, qt_MX_k (h s hs).2 (pk_un e)⟩
theorem qt_AX_t {b s i : Nat} {tok cnt tok' : Nat → Int32} {F : Nat → qt_Fm} {x : Nat → Int32} (h : qt_AX b tok cnt F) (hi : i < 7) (T : qt_Tf tok tok' (s * 56 + i * 8) (x)) : qt_AX b tok' cnt (qt_ut F s ((F s).1, qt_ut (F s).2 i x)) := by
  intro s' hs
  by_cases e : s' = s
  · subst e; rw [qt_us]; exact ⟨(h s' hs).1, qt_MX_t (h s' hs).2 T⟩
  · rw [qt_un e]; exact ⟨(h s' hs).1, qt_MX_o (h s' hs).2 T e hi (h s' hs).1⟩
theorem qt_AY_e {b : Nat} {tok cnt : Nat → Int32} {F F' : Nat → qt_Fm} (h : qt_AY b tok cnt F) (e : ∀ s, s < b → qt_fe (F s) (F' s)) : qt_AY b tok cnt F' := by
  intro s hs
  obtain ⟨a, m⟩ := h s hs
  obtain ⟨e1, e2⟩ := e s hs
  refine ⟨by omega, ?_⟩
  rw [← e1]
  exact qt_MY_c m (e2)
theorem qt_AY_le {b b' : Nat} {tok cnt : Nat → Int32} {F : Nat → qt_Fm} (h : qt_AY b tok cnt F) (l : b' ≤ b) : qt_AY b' tok cnt F := fun s hs => h s (by omega)
theorem qt_AY_d {b d : Nat} {tok cnt tok' cnt' : Nat → Int32} {F : Nat → qt_Fm} {f : qt_Fm} (h : qt_AY b tok cnt F) (hf : f.1 ≤ 7) (m : qt_MY tok' cnt' d f.1 f.2) (fr : qt_Fr tok cnt tok' cnt' d) : qt_AY b tok' cnt' (qt_ut F d f) := by
  intro s hs
  by_cases e : s = d
  · subst e; rw [qt_us]; exact ⟨hf, m⟩
  · rw [qt_un e]; exact ⟨(h s hs).1, qt_MY_f fr e (h s hs).1 (h s hs).2⟩
theorem qt_AY_s {b : Nat} {tok cnt tok' cnt' : Nat → Int32} {F : Nat → qt_Fm} {f : qt_Fm} (h : qt_AY b tok cnt F) (hf : f.1 ≤ 7) (m : qt_MY tok' cnt' b f.1 f.2) (fr : qt_Fr tok cnt tok' cnt' b) : qt_AY (b + 1) tok' cnt' (qt_ut F b f) := by
  intro s hs
  by_cases e : s = b
  · subst e; rw [qt_us]; exact ⟨hf, m⟩
  · rw [qt_un e]; exact ⟨(h s (by omega)).1, qt_MY_f fr e (h s (by omega)).1 (h s (by omega)).2⟩
theorem qt_AY_0 {b d : Nat} {tok cnt : Nat → Int32} {F : Nat → qt_Fm} (h : qt_AY b tok cnt F) : qt_AY b tok (upd cnt d 0) (qt_ut F d qt_z) := by
  intro s hs
  by_cases e : s = d
  · subst e; rw [qt_us]; exact ⟨Nat.zero_le _, pk_us, fun i hi => absurd hi (Nat.not_lt_zero i)⟩
  · rw [qt_un e]; exact ⟨(h s hs).1, qt_MY_k (h s hs).2 (pk_un e)⟩
theorem qt_AY_t {b s i : Nat} {tok cnt tok' : Nat → Int32} {F : Nat → qt_Fm} {x : Nat → Int32} (h : qt_AY b tok cnt F) (hi : i < 7) (T : qt_Tf tok tok' (s * 56 + i * 8) (qt_yv x)) : qt_AY b tok' cnt (qt_ut F s ((F s).1, qt_ut (F s).2 i x)) := by
  intro s' hs
  by_cases e : s' = s
  · subst e; rw [qt_us]; exact ⟨(h s' hs).1, qt_MY_t (h s' hs).2 T⟩
  · rw [qt_un e]; exact ⟨(h s' hs).1, qt_MY_o (h s' hs).2 T e hi (h s' hs).1⟩
/-- the cells of a sheet are valid -/
def qt_VC (R C : Nat) (G : Nat → qt_Fm) : Prop := ∀ s, s < 36 → qt_VF R C (G s).1 (G s).2 ∧ (0 < (G s).1 → s / 6 < R ∧ s % 6 < C ∧ qt_WF (G s).1 (G s).2)
/-- a cell of the sheet -/
def qt_in (R C : Nat) (p q : Int32) : Prop := ∃ r c : Nat, r < R ∧ c < C ∧ p = nI r ∧ q = nI c
/-- every live token rewritten -/
def qt_mt (g : (Nat → Int32) → Nat → Int32) (t : Nat → Int32) : Nat → Int32 := if qt_lv t then g t else t
def qt_mp (g : (Nat → Int32) → Nat → Int32) (f : qt_Fm) : qt_Fm := (f.1, fun i => qt_mt g (f.2 i))
end
section
/-! the component's small methods -/
def qt_co (ax l k : Nat) : Nat := if ax = 0 then l * 6 + k else k * 6 + l
def qt_sz (R C ax : Nat) : Nat := if ax = 0 then R else C
def qt_kd (n : Nat) (t : Nat → Nat → Int32) : Int32 := if n = 0 then 0 else if qt_tak (t (n - 1)) = 1 ∨ qt_tak (t (n - 1)) = 3 then 2 else 1
theorem qt_ax {v : Int32} : v = 0 ∨ v = 1 ↔ ∃ ax : Nat, ax < 2 ∧ v = nI ax := by
  constructor
  · rintro (h | h)
    · exact ⟨0, by decide, h⟩
    · exact ⟨1, by decide, h⟩
  · rintro ⟨ax, h, e⟩
    match ax, h with
    | 0, _ => exact Or.inl e
    | 1, _ => exact Or.inr e
theorem qt_in_r {R C : Nat} {p q : Int32} {r c : Nat} (hR : R < 100) (hC : C < 100) (hr : r < 2 ^ 31) (hc : c < 2 ^ 31) : qt_in R C (nI r) (nI c) ↔ r < R ∧ c < C := by
  constructor
  · rintro ⟨a, b, ha, hb, ea, eb⟩
    rw [nI_eq hr (by omega)] at ea
    rw [nI_eq hc (by omega)] at eb
    omega
  · rintro ⟨h, h'⟩
    exact ⟨r, c, h, h', rfl, rfl⟩
section
variable {nr nc st sl sb sr sta oe oh ow : Int32} {stl : Int64} {tok cnt stt val own sv se out : Nat → Int32} {rch nds : Nat → Int64}
theorem qx_base {post : Int32 → Prop} {s i : Nat} (h : post (nI (s * 56 + i * 8))) : wpX_base post (nr, nc, st, sl, sb, sr, sta, stl, oe, oh, ow, tok, cnt, stt, val, own, rch, nds, sv, se, out) (nI s) (nI i) := by
  show post ((nI s * 7 + nI i) * 8)
  rw [qa_m7, nI_add, qa_m8, show (s * 7 + i) * 8 = s * 56 + i * 8 by omega]
  exact h
theorem qx_inS {R C : Nat} (hR : R < 100) (hC : C < 100) {post : Int32 → Prop} {p q : Int32} (h1 : qt_in R C p q → post 1) (h0 : ¬ qt_in R C p q → post 0) : wpX_inSheet post (nI R, nI C, st, sl, sb, sr, sta, stl, oe, oh, ow, tok, cnt, stt, val, own, rch, nds, sv, se, out) p q := by
  by_cases a : p < 0
  · refine br_t a (h0 ?_)
    rintro ⟨r, c, hr, hc, e, -⟩
    rw [e] at a
    exact nI_pos (by omega) a
  obtain ⟨r, hr, rfl⟩ := nI_of a
  refine br_f a ?_
  by_cases b : nI R ≤ nI r
  · refine br_t b (h0 ?_)
    rintro ⟨r2, c, hr2, hc, e, -⟩
    rw [nI_leI (by omega) hr] at b
    rw [nI_eq hr (by omega)] at e
    omega
  refine br_f b ?_
  by_cases a2 : q < 0
  · refine br_t a2 (h0 ?_)
    rintro ⟨r, c, hr, hc, -, e⟩
    rw [e] at a2
    exact nI_pos (by omega) a2
  obtain ⟨c, hc, rfl⟩ := nI_of a2
  refine br_f a2 ?_
  by_cases b2 : nI C ≤ nI c
  · refine br_t b2 (h0 ?_)
    rintro ⟨r2, c2, hr2, hc2, -, e⟩
    rw [nI_leI (by omega) hc] at b2
    rw [nI_eq hc (by omega)] at e
    omega
  refine br_f b2 (h1 ⟨r, c, ?_, ?_, rfl, rfl⟩)
  · rw [nI_leI (by omega) hr] at b; omega
  · rw [nI_leI (by omega) hc] at b2; omega
theorem qx_live {post : Int32 → Prop} {b : Nat} {t : Nat → Int32} (hb : b + 8 ≤ 4088) (ht : ∀ f, f < 8 → tok (b + f) = t f) (h1 : qt_lv t → post 1) (h0 : ¬ qt_lv t → post 0) : wpX_isLive post (nr, nc, st, sl, sb, sr, sta, stl, oe, oh, ow, tok, cnt, stt, val, own, rch, nds, sv, se, out) (nI b) := by
  have k0 : tok b = t 0 := ht 0 (by decide)
  have k1 : tok (b + 1) = t 1 := ht 1 (by decide)
  simp (disch := omega) only [wpX_isLive, k0, k1, nI_add, pk_mul, qa_a1, qa_a2, qa_a3, qa_a4, qa_a5, qa_a6, qa_a7, qa_a8, qa_a56, qa_m6, qa_m7, qa_m8, qa_m56, qa_l2, qa_l37, qa_l2016, qa_in, nI_clamp, forall_eq, true_and, qa_cl0, nI_leI, nI_ltI, nI_eq, not_false_eq_true, pk_sub, qa_s1, qa_s2, qa_s8]
  exact br_c (fun a => h0 (fun z => z.1 a)) (fun a => br_c (fun c => h0 (fun z => z.2.1 c)) (fun c => br_c (fun d => h1 ⟨a, c, d⟩) (fun d => h0 (fun z => d z.2.2))))
theorem qx_bot {post : Int32 → Prop} {b : Nat} {t : Nat → Int32} (hb : b + 8 ≤ 4088) (ht : ∀ f, f < 8 → tok (b + f) = t f) (h : post (qt_bot t)) : wpX_bottomOf post (nr, nc, st, sl, sb, sr, sta, stl, oe, oh, ow, tok, cnt, stt, val, own, rch, nds, sv, se, out) (nI b) := by
  have k0 : tok b = t 0 := ht 0 (by decide)
  have k2 : tok (b + 2) = t 2 := ht 2 (by decide)
  have k5 : tok (b + 5) = t 5 := ht 5 (by decide)
  simp (disch := omega) only [wpX_bottomOf, k0, k2, k5, nI_add, pk_mul, qa_a1, qa_a2, qa_a3, qa_a4, qa_a5, qa_a6, qa_a7, qa_a8, qa_a56, qa_m6, qa_m7, qa_m8, qa_m56, qa_l2, qa_l37, qa_l2016, qa_in, nI_clamp, forall_eq, true_and, qa_cl0, nI_leI, nI_ltI, nI_eq, not_false_eq_true, pk_sub, qa_s1, qa_s2, qa_s8]
  unfold qt_bot at h
  by_cases e : t 0 = 2
  · rw [if_pos e] at h; exact br_t e h
  · rw [if_neg e] at h; exact br_f e h
theorem qx_rgt {post : Int32 → Prop} {b : Nat} {t : Nat → Int32} (hb : b + 8 ≤ 4088) (ht : ∀ f, f < 8 → tok (b + f) = t f) (h : post (qt_rgt t)) : wpX_rightOf post (nr, nc, st, sl, sb, sr, sta, stl, oe, oh, ow, tok, cnt, stt, val, own, rch, nds, sv, se, out) (nI b) := by
  have k0 : tok b = t 0 := ht 0 (by decide)
  have k2 : tok (b + 3) = t 3 := ht 3 (by decide)
  have k5 : tok (b + 6) = t 6 := ht 6 (by decide)
  simp (disch := omega) only [wpX_rightOf, k0, k2, k5, nI_add, pk_mul, qa_a1, qa_a2, qa_a3, qa_a4, qa_a5, qa_a6, qa_a7, qa_a8, qa_a56, qa_m6, qa_m7, qa_m8, qa_m56, qa_l2, qa_l37, qa_l2016, qa_in, nI_clamp, forall_eq, true_and, qa_cl0, nI_leI, nI_ltI, nI_eq, not_false_eq_true, pk_sub, qa_s1, qa_s2, qa_s8]
  unfold qt_rgt at h
  by_cases e : t 0 = 2
  · rw [if_pos e] at h; exact br_t e h
  · rw [if_neg e] at h; exact br_f e h
theorem qx_size {post : Int32 → Prop} {R C ax : Nat} (ha : ax < 2) (h : post (nI (qt_sz R C ax))) : wpX_size post (nI R, nI C, st, sl, sb, sr, sta, stl, oe, oh, ow, tok, cnt, stt, val, own, rch, nds, sv, se, out) (nI ax) := by
  match ax, ha with
  | 0, _ => exact br_t rfl h
  | 1, _ => exact br_f (by decide) (br_t rfl h)
theorem qx_size' {post : Int32 → Prop} {R C ax : Nat} (ha : ax < 2) (h : post (nI (qt_sz C R ax))) : wpX_size post (nI R, nI C, st, sl, sb, sr, sta, stl, oe, oh, ow, tok, cnt, stt, val, own, rch, nds, sv, se, out) (1 - nI ax) := by
  match ax, ha with
  | 0, _ => exact br_f (by decide) (br_t (by decide) h)
  | 1, _ => exact br_t (by decide) h
theorem qx_co {post : Int32 → Prop} {ax l k : Nat} (ha : ax < 2) (h : post (nI (qt_co ax l k))) : wpX_cellOn post (nr, nc, st, sl, sb, sr, sta, stl, oe, oh, ow, tok, cnt, stt, val, own, rch, nds, sv, se, out) (nI ax) (nI l) (nI k) := by
  match ax, ha with
  | 0, _ =>
    refine br_t rfl ?_
    rw [qa_m6, nI_add]; exact h
  | 1, _ =>
    refine br_f (by decide) ?_
    rw [qa_m6, nI_add]; exact h
theorem qx_kind {post : Int32 → Prop} {s n : Nat} {t : Nat → Nat → Int32} (m : qt_MX tok cnt s n t) (hs : s < 73) (hn : n ≤ 7) (h : post (qt_kd n t)) : wpX_kindOf post (nr, nc, st, sl, sb, sr, sta, stl, oe, oh, ow, tok, cnt, stt, val, own, rch, nds, sv, se, out) (nI s) := by
  unfold qt_kd at h
  simp (disch := omega) only [wpX_kindOf, m.1, qa_eqr0, nI_add, pk_mul, qa_a1, qa_a2, qa_a3, qa_a4, qa_a5, qa_a6, qa_a7, qa_a8, qa_a56, qa_m6, qa_m7, qa_m8, qa_m56, qa_l2, qa_l37, qa_l2016, qa_in, nI_clamp, forall_eq, true_and, qa_cl0, nI_leI, nI_ltI, nI_eq, not_false_eq_true, pk_sub, qa_s1, qa_s2, qa_s8]
  by_cases e : n = 0
  · rw [if_pos e] at h
    exact br_t e h
  · rw [if_neg e] at h
    refine br_f e ?_
    rw [qa_s1 (by omega)]
    refine qx_base ?_
    have k0 : tok (s * 56 + (n - 1) * 8) = t (n - 1) 0 := m.2 (n - 1) (by omega) 0 (by decide)
    have k1 : tok (s * 56 + (n - 1) * 8 + 1) = t (n - 1) 1 := m.2 (n - 1) (by omega) 1 (by decide)
    simp (disch := omega) only [k0, k1, nI_add, pk_mul, qa_a1, qa_a2, qa_a3, qa_a4, qa_a5, qa_a6, qa_a7, qa_a8, qa_a56, qa_m6, qa_m7, qa_m8, qa_m56, qa_l2, qa_l37, qa_l2016, qa_in, nI_clamp, forall_eq, true_and, qa_cl0, nI_leI, nI_ltI, nI_eq, not_false_eq_true, pk_sub, qa_s1, qa_s2, qa_s8]
    unfold qt_tak at h
    by_cases e6 : t (n - 1) 0 = 6
    · refine br_t e6 ?_
      rw [if_pos e6] at h
      exact h
    · refine br_f e6 ?_
      rw [if_neg e6] at h
      by_cases e3 : t (n - 1) 0 = 3
      · refine br_t e3 ?_
        rw [if_pos e3] at h
        by_cases e5 : t (n - 1) 1 = 5
        · refine br_t e5 ?_
          rw [if_pos e5] at h
          exact h
        · refine br_f e5 ?_
          rw [if_neg e5] at h
          exact h
      · refine br_f e3 ?_
        rw [if_neg e3] at h
        exact h
end
end
section
/-! operations on one token: pure, and the component's walks -/
def qt_exc (t : Nat → Int32) (ax : Nat) (bit : Int32) : Nat → Int32 :=
  upd (upd (upd (upd t (2 + ax) (t (5 + ax))) (5 + ax) (t (2 + ax))) 4 ((t 4 &&& (bit ^^^ (-1))) ||| (t 7 &&& bit))) 7 ((t 7 &&& (bit ^^^ (-1))) ||| (t 4 &&& bit))
def qt_or1 (t : Nat → Int32) : Nat → Int32 := if t 3 ≤ t 6 then t else qt_exc t 1 2
def qt_ord (t : Nat → Int32) : Nat → Int32 := qt_or1 (if t 2 ≤ t 5 then t else qt_exc t 0 1)
def qt_gr1 (ax : Nat) (at' : Int32) (t : Nat → Int32) : Nat → Int32 := if t 0 = 2 then t else if t (5 + ax) < at' then t else upd t (5 + ax) (t (5 + ax) + 1)
def qt_gro (ax : Nat) (at' : Int32) (t : Nat → Int32) : Nat → Int32 := qt_gr1 ax at' (if t (2 + ax) < at' then t else upd t (2 + ax) (t (2 + ax) + 1))
def qt_sh1 (ax : Nat) (at' : Int32) (z : Int32) (t : Nat → Int32) : Nat → Int32 := if z = 0 then (if t (5 + ax) < at' then t else upd t (5 + ax) (t (5 + ax) - 1)) else t
def qt_sh2 (ax : Nat) (at' : Int32) (z : Int32) (t : Nat → Int32) : Nat → Int32 := qt_sh1 ax at' z (if t (2 + ax) ≤ at' then t else upd t (2 + ax) (t (2 + ax) - 1))
def qt_shr (ax : Nat) (at' : Int32) (t : Nat → Int32) : Nat → Int32 :=
  if t (2 + ax) = at' ∧ (t 0 = 2 ∨ t (5 + ax) = at') then qt_put (t 0) 1 else qt_sh2 ax at' (if t 0 = 2 then 1 else 0) t
def qt_sc1 (k : Nat) (dc m : Int32) (t : Nat → Int32) : Nat → Int32 := if m &&& 2 = 0 then upd t (k + 1) (t (k + 1) + dc) else t
def qt_sco (k : Nat) (dr dc : Int32) (t : Nat → Int32) : Nat → Int32 := qt_sc1 k dc (t (k + 2)) (if t (k + 2) &&& 1 = 0 then upd t k (t k + dr) else t)
noncomputable def qt_shf (R C : Nat) (dr dc : Int32) (t : Nat → Int32) : Nat → Int32 :=
  if t 0 = 2 then (if qa_b (qt_in R C (qt_sco 2 dr dc t 2) (qt_sco 2 dr dc t 3)) then qt_sco 2 dr dc t else qt_put (t 0) 1)
  else if qa_b (qt_in R C (qt_sco 2 dr dc t 2) (qt_sco 2 dr dc t 3) ∧ qt_in R C (qt_sco 5 dr dc (qt_sco 2 dr dc t) 5) (qt_sco 5 dr dc (qt_sco 2 dr dc t) 6)) then qt_ord (qt_sco 5 dr dc (qt_sco 2 dr dc t)) else qt_put (t 0) 1
abbrev qt_li (t : Nat → Int32) (a b c d : Int32) : Prop := ¬ t 2 < a ∧ ¬ t 3 < b ∧ ¬ c < qt_bot t ∧ ¬ d < qt_rgt t
def qt_mv1 (dr dc : Int32) (t : Nat → Int32) : Nat → Int32 :=
  if t 0 = 2 then upd (upd t 2 (t 2 + dr)) 3 (t 3 + dc) else upd (upd (upd (upd t 2 (t 2 + dr)) 3 (t 3 + dc)) 5 (t 5 + dr)) 6 (t 6 + dc)
def qt_mov (st sl sb sr dr dc : Int32) (t : Nat → Int32) : Nat → Int32 :=
  if qt_li t st sl sb sr then qt_mv1 dr dc t else if qt_li t (st + dr) (sl + dc) (sb + dr) (sr + dc) then qt_put (t 0) 1 else t
section
variable {nr nc st sl sb sr sta oe oh ow : Int32} {stl : Int64} {tok cnt stt val own sv se out : Nat → Int32} {rch nds : Nat → Int64}
theorem qx_lose11 {tok0 : Nat → Int32} {b : Nat} {k v : Int32} {post : SX → Prop} (hb : b + 8 ≤ 4088) : ∀ (d j : Nat) (tok t : Nat → Int32), j + d = 8 → 2 ≤ j → (∀ f, f < j → t f = qt_put k v f) → qt_Tf tok0 tok b t →
    (∀ tok', qt_Tf tok0 tok' b (qt_put k v) → post (nr, nc, st, sl, sb, sr, sta, stl, oe, oh, ow, tok', cnt, stt, val, own, rch, nds, sv, se, out)) → ∀ n, d < n → wX_lose_11 post  (nI b) nr nc st sl sb sr sta stl oe oh ow n (nI j) tok cnt stt val own rch nds sv se out := by
  intro d
  induction d with
  | zero =>
    intro j tok t hj h2 ht hT h n hn
    obtain ⟨n, rfl⟩ : ∃ m, n = m + 1 := ⟨n - 1, by omega⟩
    simp (disch := omega) only [wX_lose_11, qa_lel8, nI_add, pk_mul, qa_a1, qa_a2, qa_a3, qa_a4, qa_a5, qa_a6, qa_a7, qa_a8, qa_a56, qa_m6, qa_m7, qa_m8, qa_m56, qa_l2, qa_l37, qa_l2016, qa_in, nI_clamp, forall_eq, true_and, qa_cl0, nI_leI, nI_ltI, nI_eq, not_false_eq_true, pk_sub, qa_s1, qa_s2, qa_s8]
    exact br_t (by omega) (h _ (qt_Tf_c hT (fun f hf => ht f (by omega))))
  | succ d ih =>
    intro j tok t hj h2 ht hT h n hn
    obtain ⟨n, rfl⟩ : ∃ m, n = m + 1 := ⟨n - 1, by omega⟩
    simp (disch := omega) only [wX_lose_11, qa_lel8, nI_add, pk_mul, qa_a1, qa_a2, qa_a3, qa_a4, qa_a5, qa_a6, qa_a7, qa_a8, qa_a56, qa_m6, qa_m7, qa_m8, qa_m56, qa_l2, qa_l37, qa_l2016, qa_in, nI_clamp, forall_eq, true_and, qa_cl0, nI_leI, nI_ltI, nI_eq, not_false_eq_true, pk_sub, qa_s1, qa_s2, qa_s8]
    refine br_f (by omega) (ih (j + 1) _ _ (by omega) (by omega) ?_ (qt_Tf_u hT (by omega) 0) h n (by omega))
    intro f hf
    by_cases e : f = j
    · subst e
      rw [pk_us]
      unfold qt_put
      rw [if_neg (by omega), if_neg (by omega)]
    · rw [pk_un e]; exact ht f (by omega)
theorem qx_app47 {tok0 : Nat → Int32} {b : Nat} {k v : Int32} {post : Int32 → SX → Prop} (hb : b + 8 ≤ 4088) : ∀ (d j : Nat) (tok t : Nat → Int32), j + d = 8 → 2 ≤ j → (∀ f, f < j → t f = qt_put k v f) → qt_Tf tok0 tok b t →
    (∀ tok', qt_Tf tok0 tok' b (qt_put k v) → post 0 (nr, nc, st, sl, sb, sr, sta, stl, oe, oh, ow, tok', upd cnt 36 (cnt 36 + 1), stt, val, own, rch, nds, sv, se, out)) → ∀ n, d < n → wX_append_47 post  (nI b) nr nc st sl sb sr sta stl oe oh ow n (nI j) tok cnt stt val own rch nds sv se out := by
  intro d
  induction d with
  | zero =>
    intro j tok t hj h2 ht hT h n hn
    obtain ⟨n, rfl⟩ : ∃ m, n = m + 1 := ⟨n - 1, by omega⟩
    simp (disch := omega) only [wX_append_47, qa_lel8, nI_add, pk_mul, qa_a1, qa_a2, qa_a3, qa_a4, qa_a5, qa_a6, qa_a7, qa_a8, qa_a56, qa_m6, qa_m7, qa_m8, qa_m56, qa_l2, qa_l37, qa_l2016, qa_in, nI_clamp, forall_eq, true_and, qa_cl0, nI_leI, nI_ltI, nI_eq, not_false_eq_true, pk_sub, qa_s1, qa_s2, qa_s8]
    exact br_t (by omega) (h _ (qt_Tf_c hT (fun f hf => ht f (by omega))))
  | succ d ih =>
    intro j tok t hj h2 ht hT h n hn
    obtain ⟨n, rfl⟩ : ∃ m, n = m + 1 := ⟨n - 1, by omega⟩
    simp (disch := omega) only [wX_append_47, qa_lel8, nI_add, pk_mul, qa_a1, qa_a2, qa_a3, qa_a4, qa_a5, qa_a6, qa_a7, qa_a8, qa_a56, qa_m6, qa_m7, qa_m8, qa_m56, qa_l2, qa_l37, qa_l2016, qa_in, nI_clamp, forall_eq, true_and, qa_cl0, nI_leI, nI_ltI, nI_eq, not_false_eq_true, pk_sub, qa_s1, qa_s2, qa_s8]
    refine br_f (by omega) (ih (j + 1) _ _ (by omega) (by omega) ?_ (qt_Tf_u hT (by omega) 0) h n (by omega))
    intro f hf
    by_cases e : f = j
    · subst e
      rw [pk_us]
      unfold qt_put
      rw [if_neg (by omega), if_neg (by omega)]
    · rw [pk_un e]; exact ht f (by omega)
theorem qx_setN49 {tok0 : Nat → Int32} {b : Nat} {k v : Int32} {post : Int32 → SX → Prop} {s : Nat} (hs : s < 36) (hb : b + 8 ≤ 4088) : ∀ (d j : Nat) (tok t : Nat → Int32), j + d = 8 → 2 ≤ j → (∀ f, f < j → t f = qt_put k v f) → qt_Tf tok0 tok b t →
    (∀ tok', qt_Tf tok0 tok' b (qt_put k v) → post 0 (nr, nc, st, sl, sb, sr, 1, stl, oe, oh, ow, tok', upd cnt s 1, stt, val, own, rch, nds, sv, se, out)) → ∀ n, d < n → wX_setNumber_49 post (nI s) (nI b) nr nc st sl sb sr sta stl oe oh ow n (nI j) tok cnt stt val own rch nds sv se out := by
  intro d
  induction d with
  | zero =>
    intro j tok t hj h2 ht hT h n hn
    obtain ⟨n, rfl⟩ : ∃ m, n = m + 1 := ⟨n - 1, by omega⟩
    simp (disch := omega) only [wX_setNumber_49, qa_lel8, nI_add, pk_mul, qa_a1, qa_a2, qa_a3, qa_a4, qa_a5, qa_a6, qa_a7, qa_a8, qa_a56, qa_m6, qa_m7, qa_m8, qa_m56, qa_l2, qa_l37, qa_l2016, qa_in, nI_clamp, forall_eq, true_and, qa_cl0, nI_leI, nI_ltI, nI_eq, not_false_eq_true, pk_sub, qa_s1, qa_s2, qa_s8]
    exact br_t (by omega) (h _ (qt_Tf_c hT (fun f hf => ht f (by omega))))
  | succ d ih =>
    intro j tok t hj h2 ht hT h n hn
    obtain ⟨n, rfl⟩ : ∃ m, n = m + 1 := ⟨n - 1, by omega⟩
    simp (disch := omega) only [wX_setNumber_49, qa_lel8, nI_add, pk_mul, qa_a1, qa_a2, qa_a3, qa_a4, qa_a5, qa_a6, qa_a7, qa_a8, qa_a56, qa_m6, qa_m7, qa_m8, qa_m56, qa_l2, qa_l37, qa_l2016, qa_in, nI_clamp, forall_eq, true_and, qa_cl0, nI_leI, nI_ltI, nI_eq, not_false_eq_true, pk_sub, qa_s1, qa_s2, qa_s8]
    refine br_f (by omega) (ih (j + 1) _ _ (by omega) (by omega) ?_ (qt_Tf_u hT (by omega) 0) h n (by omega))
    intro f hf
    by_cases e : f = j
    · subst e
      rw [pk_us]
      unfold qt_put
      rw [if_neg (by omega), if_neg (by omega)]
    · rw [pk_un e]; exact ht f (by omega)
variable {tok0 : Nat → Int32} {b : Nat} {t : Nat → Int32}
theorem qx_lose {post : SX → Prop} (hb : b + 8 ≤ 4088) (hT : qt_Tf tok0 tok b t) (h : ∀ tok', qt_Tf tok0 tok' b (qt_put (t 0) 1) → post (nr, nc, st, sl, sb, sr, sta, stl, oe, oh, ow, tok', cnt, stt, val, own, rch, nds, sv, se, out)) : wpX_lose post (nr, nc, st, sl, sb, sr, sta, stl, oe, oh, ow, tok, cnt, stt, val, own, rch, nds, sv, se, out) (nI b) := by
  simp (disch := omega) only [wpX_lose, nI_add, pk_mul, qa_a1, qa_a2, qa_a3, qa_a4, qa_a5, qa_a6, qa_a7, qa_a8, qa_a56, qa_m6, qa_m7, qa_m8, qa_m56, qa_l2, qa_l37, qa_l2016, qa_in, nI_clamp, forall_eq, true_and, qa_cl0, nI_leI, nI_ltI, nI_eq, not_false_eq_true, pk_sub, qa_s1, qa_s2, qa_s8]
  refine ⟨7, qx_lose11 (k := t 0) (v := 1) hb 6 2 _ _ (by decide) (by decide) ?_ (qt_Tf_u hT (k := 1) (by decide) 1) h 7 (by decide)⟩
  intro f hf
  match f, hf with
  | 0, _ => rfl
  | 1, _ => rfl
theorem qx_exc {post : SX → Prop} {ax : Nat} {bit : Int32} (ha : ax < 2) (hb : b + 8 ≤ 4088) (hT : qt_Tf tok0 tok b t) (h : ∀ tok', qt_Tf tok0 tok' b (qt_exc t ax bit) → post (nr, nc, st, sl, sb, sr, sta, stl, oe, oh, ow, tok', cnt, stt, val, own, rch, nds, sv, se, out)) : wpX_exchange post (nr, nc, st, sl, sb, sr, sta, stl, oe, oh, ow, tok, cnt, stt, val, own, rch, nds, sv, se, out) (nI b) (nI ax) bit := by
  have r2 := hT.1 (2 + ax) (by omega)
  have r5 := hT.1 (5 + ax) (by omega)
  have r4 := hT.1 4 (by decide)
  have r7 := hT.1 7 (by decide)
  simp (disch := omega) only [wpX_exchange, Nat.add_assoc, pk_un, r2, r5, r4, r7, nI_add, pk_mul, qa_a1, qa_a2, qa_a3, qa_a4, qa_a5, qa_a6, qa_a7, qa_a8, qa_a56, qa_m6, qa_m7, qa_m8, qa_m56, qa_l2, qa_l37, qa_l2016, qa_in, nI_clamp, forall_eq, true_and, qa_cl0, nI_leI, nI_ltI, nI_eq, not_false_eq_true, pk_sub, qa_s1, qa_s2, qa_s8]
  exact h _ (qt_Tf_u (qt_Tf_u (qt_Tf_u (qt_Tf_u hT (by omega) _) (by omega) _) (by decide) _) (by decide) _)
theorem qx_or1 {post : SX → Prop} (hb : b + 8 ≤ 4088) (hT : qt_Tf tok0 tok b t) (h : ∀ tok', qt_Tf tok0 tok' b (qt_or1 t) → post (nr, nc, st, sl, sb, sr, sta, stl, oe, oh, ow, tok', cnt, stt, val, own, rch, nds, sv, se, out)) : wX_orderRange_26 post (nI b) nr nc st sl sb sr sta stl oe oh ow tok cnt stt val own rch nds sv se out := by
  have r3 := hT.1 3 (by decide)
  have r6 := hT.1 6 (by decide)
  simp (disch := omega) only [wX_orderRange_26, r3, r6, nI_add, pk_mul, qa_a1, qa_a2, qa_a3, qa_a4, qa_a5, qa_a6, qa_a7, qa_a8, qa_a56, qa_m6, qa_m7, qa_m8, qa_m56, qa_l2, qa_l37, qa_l2016, qa_in, nI_clamp, forall_eq, true_and, qa_cl0, nI_leI, nI_ltI, nI_eq, not_false_eq_true, pk_sub, qa_s1, qa_s2, qa_s8]
  unfold qt_or1 at h
  by_cases e : t 3 ≤ t 6
  · rw [if_pos e] at h
    exact br_t e (h _ hT)
  · rw [if_neg e] at h
    exact br_f e (qx_exc (ax := 1) (bit := 2) (by decide) hb hT (fun tok' T' => h _ T'))
theorem qx_ord {post : SX → Prop} (hb : b + 8 ≤ 4088) (hT : qt_Tf tok0 tok b t) (h : ∀ tok', qt_Tf tok0 tok' b (qt_ord t) → post (nr, nc, st, sl, sb, sr, sta, stl, oe, oh, ow, tok', cnt, stt, val, own, rch, nds, sv, se, out)) : wpX_orderRange post (nr, nc, st, sl, sb, sr, sta, stl, oe, oh, ow, tok, cnt, stt, val, own, rch, nds, sv, se, out) (nI b) := by
  have r3 := hT.1 2 (by decide)
  have r6 := hT.1 5 (by decide)
  simp (disch := omega) only [wpX_orderRange, r3, r6, nI_add, pk_mul, qa_a1, qa_a2, qa_a3, qa_a4, qa_a5, qa_a6, qa_a7, qa_a8, qa_a56, qa_m6, qa_m7, qa_m8, qa_m56, qa_l2, qa_l37, qa_l2016, qa_in, nI_clamp, forall_eq, true_and, qa_cl0, nI_leI, nI_ltI, nI_eq, not_false_eq_true, pk_sub, qa_s1, qa_s2, qa_s8]
  unfold qt_ord at h
  by_cases e : t 2 ≤ t 5
  · rw [if_pos e] at h
    exact br_t e (qx_or1 hb hT h)
  · rw [if_neg e] at h
    exact br_f e (qx_exc (ax := 0) (bit := 1) (by decide) hb hT (fun tok' T' => qx_or1 hb T' h))
theorem qx_gr1 {post : SX → Prop} {ax : Nat} {at' : Int32} (ha : ax < 2) (hb : b + 8 ≤ 4088) (hT : qt_Tf tok0 tok b t) (h : ∀ tok', qt_Tf tok0 tok' b (qt_gr1 ax at' t) → post (nr, nc, st, sl, sb, sr, sta, stl, oe, oh, ow, tok', cnt, stt, val, own, rch, nds, sv, se, out)) : wX_growToken_36 post (nI b) at' (nI (b + (5 + ax))) nr nc st sl sb sr sta stl oe oh ow tok cnt stt val own rch nds sv se out := by
  have r0 : tok b = t 0 := hT.1 0 (by decide)
  have r5 := hT.1 (5 + ax) (by omega)
  simp (disch := omega) only [wX_growToken_36, r0, r5, nI_add, pk_mul, qa_a1, qa_a2, qa_a3, qa_a4, qa_a5, qa_a6, qa_a7, qa_a8, qa_a56, qa_m6, qa_m7, qa_m8, qa_m56, qa_l2, qa_l37, qa_l2016, qa_in, nI_clamp, forall_eq, true_and, qa_cl0, nI_leI, nI_ltI, nI_eq, not_false_eq_true, pk_sub, qa_s1, qa_s2, qa_s8]
  unfold qt_gr1 at h
  by_cases e : t 0 = 2
  · rw [if_pos e] at h
    exact br_t e (h _ hT)
  · rw [if_neg e] at h
    refine br_f e ?_
    by_cases e2 : t (5 + ax) < at'
    · rw [if_pos e2] at h
      exact br_t e2 (h _ hT)
    · rw [if_neg e2] at h
      exact br_f e2 (h _ (qt_Tf_u hT (by omega) _))
theorem qx_gro {post : SX → Prop} {ax : Nat} {at' : Int32} (ha : ax < 2) (hb : b + 8 ≤ 4088) (hT : qt_Tf tok0 tok b t) (h : ∀ tok', qt_Tf tok0 tok' b (qt_gro ax at' t) → post (nr, nc, st, sl, sb, sr, sta, stl, oe, oh, ow, tok', cnt, stt, val, own, rch, nds, sv, se, out)) : wpX_growToken post (nr, nc, st, sl, sb, sr, sta, stl, oe, oh, ow, tok, cnt, stt, val, own, rch, nds, sv, se, out) (nI b) (nI ax) at' := by
  have r2 := hT.1 (2 + ax) (by omega)
  simp (disch := omega) only [wpX_growToken, Nat.add_assoc, r2, nI_add, pk_mul, qa_a1, qa_a2, qa_a3, qa_a4, qa_a5, qa_a6, qa_a7, qa_a8, qa_a56, qa_m6, qa_m7, qa_m8, qa_m56, qa_l2, qa_l37, qa_l2016, qa_in, nI_clamp, forall_eq, true_and, qa_cl0, nI_leI, nI_ltI, nI_eq, not_false_eq_true, pk_sub, qa_s1, qa_s2, qa_s8]
  unfold qt_gro at h
  by_cases e : t (2 + ax) < at'
  · rw [if_pos e] at h
    exact br_t e (qx_gr1 ha hb hT h)
  · rw [if_neg e] at h
    exact br_f e (qx_gr1 ha hb (qt_Tf_u hT (by omega) _) h)
theorem qx_sh1 {post : SX → Prop} {ax : Nat} {at' z : Int32} (ha : ax < 2) (hb : b + 8 ≤ 4088) (hT : qt_Tf tok0 tok b t) (h : ∀ tok', qt_Tf tok0 tok' b (qt_sh1 ax at' z t) → post (nr, nc, st, sl, sb, sr, sta, stl, oe, oh, ow, tok', cnt, stt, val, own, rch, nds, sv, se, out)) : wX_shrinkToken_86 post at' (nI (b + (5 + ax))) z nr nc st sl sb sr sta stl oe oh ow tok cnt stt val own rch nds sv se out := by
  have r5 := hT.1 (5 + ax) (by omega)
  simp (disch := omega) only [wX_shrinkToken_86, r5, nI_add, pk_mul, qa_a1, qa_a2, qa_a3, qa_a4, qa_a5, qa_a6, qa_a7, qa_a8, qa_a56, qa_m6, qa_m7, qa_m8, qa_m56, qa_l2, qa_l37, qa_l2016, qa_in, nI_clamp, forall_eq, true_and, qa_cl0, nI_leI, nI_ltI, nI_eq, not_false_eq_true, pk_sub, qa_s1, qa_s2, qa_s8]
  unfold qt_sh1 at h
  by_cases e : z = 0
  · rw [if_pos e] at h
    refine br_t e ?_
    by_cases e2 : t (5 + ax) < at'
    · rw [if_pos e2] at h
      exact br_t e2 (h _ hT)
    · rw [if_neg e2] at h
      exact br_f e2 (h _ (qt_Tf_u hT (by omega) _))
  · rw [if_neg e] at h
    exact br_f e (h _ hT)
theorem qx_sh2 {post : SX → Prop} {ax : Nat} {at' z : Int32} (ha : ax < 2) (hb : b + 8 ≤ 4088) (hT : qt_Tf tok0 tok b t) (h : ∀ tok', qt_Tf tok0 tok' b (qt_sh2 ax at' z t) → post (nr, nc, st, sl, sb, sr, sta, stl, oe, oh, ow, tok', cnt, stt, val, own, rch, nds, sv, se, out)) : wX_shrinkToken_64 post at' (nI (b + (2 + ax))) (nI (b + (5 + ax))) z nr nc st sl sb sr sta stl oe oh ow tok cnt stt val own rch nds sv se out := by
  have r2 := hT.1 (2 + ax) (by omega)
  simp (disch := omega) only [wX_shrinkToken_64, r2, nI_add, pk_mul, qa_a1, qa_a2, qa_a3, qa_a4, qa_a5, qa_a6, qa_a7, qa_a8, qa_a56, qa_m6, qa_m7, qa_m8, qa_m56, qa_l2, qa_l37, qa_l2016, qa_in, nI_clamp, forall_eq, true_and, qa_cl0, nI_leI, nI_ltI, nI_eq, not_false_eq_true, pk_sub, qa_s1, qa_s2, qa_s8]
  unfold qt_sh2 at h
  by_cases e : t (2 + ax) ≤ at'
  · rw [if_pos e] at h
    exact br_t e (qx_sh1 ha hb hT h)
  · rw [if_neg e] at h
    exact br_f e (qx_sh1 ha hb (qt_Tf_u hT (by omega) _) h)
theorem qx_shr {post : SX → Prop} {ax : Nat} {at' : Int32} (ha : ax < 2) (hb : b + 8 ≤ 4088) (hT : qt_Tf tok0 tok b t) (h : ∀ tok', qt_Tf tok0 tok' b (qt_shr ax at' t) → post (nr, nc, st, sl, sb, sr, sta, stl, oe, oh, ow, tok', cnt, stt, val, own, rch, nds, sv, se, out)) : wpX_shrinkToken post (nr, nc, st, sl, sb, sr, sta, stl, oe, oh, ow, tok, cnt, stt, val, own, rch, nds, sv, se, out) (nI b) (nI ax) at' := by
  have r0 : tok b = t 0 := hT.1 0 (by decide)
  have r2 := hT.1 (2 + ax) (by omega)
  have r5 := hT.1 (5 + ax) (by omega)
  simp (disch := omega) only [wpX_shrinkToken, wX_shrinkToken_29, wX_shrinkToken_58, Nat.add_assoc, r0, r2, r5, nI_add, pk_mul, qa_a1, qa_a2, qa_a3, qa_a4, qa_a5, qa_a6, qa_a7, qa_a8, qa_a56, qa_m6, qa_m7, qa_m8, qa_m56, qa_l2, qa_l37, qa_l2016, qa_in, nI_clamp, forall_eq, true_and, qa_cl0, nI_leI, nI_ltI, nI_eq, not_false_eq_true, pk_sub, qa_s1, qa_s2, qa_s8]
  unfold qt_shr at h
  by_cases e0 : t 0 = 2
  · refine br_t e0 ?_
    by_cases e2 : t (2 + ax) = at'
    · rw [if_pos ⟨e2, Or.inl e0⟩] at h
      exact br_t e2 (br_f (by decide) (qx_lose hb hT (fun tok' T' => h _ T')))
    · rw [if_neg (fun z => e2 z.1), if_pos e0] at h
      exact br_f e2 (qx_sh2 ha hb hT h)
  · refine br_f e0 ?_
    by_cases e2 : t (2 + ax) = at'
    · refine br_t e2 (br_t (by decide) ?_)
      by_cases e5 : t (5 + ax) = at'
      · rw [if_pos ⟨e2, Or.inr e5⟩] at h
        exact br_t e5 (qx_lose hb hT (fun tok' T' => h _ T'))
      · rw [if_neg (fun z => z.2.elim e0 e5), if_neg e0] at h
        exact br_f e5 (qx_sh2 ha hb hT h)
    · rw [if_neg (fun z => e2 z.1), if_neg e0] at h
      exact br_f e2 (qx_sh2 ha hb hT h)
theorem qx_sc1 {post : SX → Prop} {k : Nat} {dc m : Int32} (hk : k < 6) (hb : b + 8 ≤ 4088) (hT : qt_Tf tok0 tok b t) (h : ∀ tok', qt_Tf tok0 tok' b (qt_sc1 k dc m t) → post (nr, nc, st, sl, sb, sr, sta, stl, oe, oh, ow, tok', cnt, stt, val, own, rch, nds, sv, se, out)) : wX_shiftCorner_27 post (nI (b + k)) dc m nr nc st sl sb sr sta stl oe oh ow tok cnt stt val own rch nds sv se out := by
  have r1 := hT.1 (k + 1) (by omega)
  simp (disch := omega) only [wX_shiftCorner_27, Nat.add_assoc, r1, nI_add, pk_mul, qa_a1, qa_a2, qa_a3, qa_a4, qa_a5, qa_a6, qa_a7, qa_a8, qa_a56, qa_m6, qa_m7, qa_m8, qa_m56, qa_l2, qa_l37, qa_l2016, qa_in, nI_clamp, forall_eq, true_and, qa_cl0, nI_leI, nI_ltI, nI_eq, not_false_eq_true, pk_sub, qa_s1, qa_s2, qa_s8]
  unfold qt_sc1 at h
  by_cases e : m &&& 2 = 0
  · rw [if_pos e] at h
    exact br_t e (h _ (qt_Tf_u hT (by omega) _))
  · rw [if_neg e] at h
    exact br_f e (h _ hT)
theorem qx_sco {post : SX → Prop} {k : Nat} {dr dc : Int32} (hk : k < 6) (hb : b + 8 ≤ 4088) (hT : qt_Tf tok0 tok b t) (h : ∀ tok', qt_Tf tok0 tok' b (qt_sco k dr dc t) → post (nr, nc, st, sl, sb, sr, sta, stl, oe, oh, ow, tok', cnt, stt, val, own, rch, nds, sv, se, out)) : wpX_shiftCorner post (nr, nc, st, sl, sb, sr, sta, stl, oe, oh, ow, tok, cnt, stt, val, own, rch, nds, sv, se, out) (nI (b + k)) dr dc := by
  have r1 := hT.1 (k + 2) (by omega)
  have r0 := hT.1 k (by omega)
  simp (disch := omega) only [wpX_shiftCorner, Nat.add_assoc, r1, r0, nI_add, pk_mul, qa_a1, qa_a2, qa_a3, qa_a4, qa_a5, qa_a6, qa_a7, qa_a8, qa_a56, qa_m6, qa_m7, qa_m8, qa_m56, qa_l2, qa_l37, qa_l2016, qa_in, nI_clamp, forall_eq, true_and, qa_cl0, nI_leI, nI_ltI, nI_eq, not_false_eq_true, pk_sub, qa_s1, qa_s2, qa_s8]
  unfold qt_sco at h
  by_cases e : t (k + 2) &&& 1 = 0
  · rw [if_pos e] at h
    exact br_t e (qx_sc1 hk hb (qt_Tf_u hT (by omega) _) h)
  · rw [if_neg e] at h
    exact br_f e (qx_sc1 hk hb hT h)
end
end
section
/-! the component: shiftToken, moveToken, copySlot and the loops over slots -/
theorem qt_sco_o {k f : Nat} {dr dc : Int32} {t : Nat → Int32} (h : f ≠ k) (h' : f ≠ k + 1) : qt_sco k dr dc t f = t f := by
  unfold qt_sco qt_sc1
  split <;> split <;> simp only [pk_un h, pk_un h', ne_eq, not_false_eq_true]
section
variable {nr nc st sl sb sr sta oe oh ow : Int32} {stl : Int64} {tok cnt stt val own sv se out : Nat → Int32} {rch nds : Nat → Int64}
variable {tok0 : Nat → Int32} {b : Nat} {t : Nat → Int32}
theorem qx_sf86 {post : SX → Prop} {z : Int32} (hb : b + 8 ≤ 4088) (hT : qt_Tf tok0 tok b t) (h0 : z = 0 → ∀ tok', qt_Tf tok0 tok' b (qt_put (t 0) 1) → post (nr, nc, st, sl, sb, sr, sta, stl, oe, oh, ow, tok', cnt, stt, val, own, rch, nds, sv, se, out)) (h1 : ¬ z = 0 → t 0 = 2 → post (nr, nc, st, sl, sb, sr, sta, stl, oe, oh, ow, tok, cnt, stt, val, own, rch, nds, sv, se, out))
    (h2 : ¬ z = 0 → ¬ t 0 = 2 → ∀ tok', qt_Tf tok0 tok' b (qt_ord t) → post (nr, nc, st, sl, sb, sr, sta, stl, oe, oh, ow, tok', cnt, stt, val, own, rch, nds, sv, se, out)) : wX_shiftToken_86 post (nI b) z nr nc st sl sb sr sta stl oe oh ow tok cnt stt val own rch nds sv se out := by
  have r0 : tok b = t 0 := hT.1 0 (by decide)
  simp (disch := omega) only [wX_shiftToken_86, r0, nI_add, pk_mul, qa_a1, qa_a2, qa_a3, qa_a4, qa_a5, qa_a6, qa_a7, qa_a8, qa_a56, qa_m6, qa_m7, qa_m8, qa_m56, qa_l2, qa_l37, qa_l2016, qa_in, nI_clamp, forall_eq, true_and, qa_cl0, nI_leI, nI_ltI, nI_eq, not_false_eq_true, pk_sub, qa_s1, qa_s2, qa_s8]
  exact br_c (fun e => qx_lose hb hT (fun tok' T' => h0 e _ T')) (fun e => br_c (fun e2 => h1 e e2) (fun e2 => qx_ord hb hT (fun tok' T' => h2 e e2 _ T')))
theorem qx_shf {post : SX → Prop} {R C : Nat} {dr dc : Int32} (hR : R < 100) (hC : C < 100) (hb : b + 8 ≤ 4088) (hT : qt_Tf tok0 tok b t) (h : ∀ tok', qt_Tf tok0 tok' b (qt_shf R C dr dc t) → post (nI R, nI C, st, sl, sb, sr, sta, stl, oe, oh, ow, tok', cnt, stt, val, own, rch, nds, sv, se, out)) :
    wpX_shiftToken post (nI R, nI C, st, sl, sb, sr, sta, stl, oe, oh, ow, tok, cnt, stt, val, own, rch, nds, sv, se, out) (nI b) dr dc := by
  unfold qt_shf at h
  simp (disch := omega) only [wpX_shiftToken, nI_add, pk_mul, qa_a1, qa_a2, qa_a3, qa_a4, qa_a5, qa_a6, qa_a7, qa_a8, qa_a56, qa_m6, qa_m7, qa_m8, qa_m56, qa_l2, qa_l37, qa_l2016, qa_in, nI_clamp, forall_eq, true_and, qa_cl0, nI_leI, nI_ltI, nI_eq, not_false_eq_true, pk_sub, qa_s1, qa_s2, qa_s8]
  refine qx_sco (k := 2) (by decide) hb hT (fun tok1 T1 => ?_)
  have a0 : qt_sco 2 dr dc t 0 = t 0 := qt_sco_o (by decide) (by decide)
  have r0 : tok1 b = t 0 := (T1.1 0 (by decide)).trans a0
  have r2 := T1.1 2 (by decide)
  have r3 := T1.1 3 (by decide)
  have q0 : qt_sco 5 dr dc (qt_sco 2 dr dc t) 0 = t 0 := (qt_sco_o (by decide) (by decide)).trans a0
  simp only [r0, r2, r3]
  by_cases e0 : t 0 = 2
  · rw [if_pos e0] at h
    refine qx_inS hR hC (fun i1 => ?_) (fun i1 => ?_)
    · refine br_t e0 (qx_sf86 hb T1 (fun z => absurd z (by decide)) (fun _ _ => ?_) (fun _ z => absurd (a0.trans e0) z))
      rw [if_pos (qa_bt i1)] at h
      exact h _ T1
    · refine br_t e0 (qx_sf86 hb T1 (fun _ tok' T' => ?_) (fun z => absurd rfl z) (fun z => absurd rfl z))
      rw [if_neg (by rw [qa_bf i1]; decide), ← a0] at h
      exact h _ T'
  · rw [if_neg e0] at h
    refine qx_inS hR hC (fun i1 => ?_) (fun i1 => ?_)
    · refine br_f e0 (qx_sco (k := 5) (by decide) hb T1 (fun tok2 T2 => ?_))
      have r5 := T2.1 5 (by decide)
      have r6 := T2.1 6 (by decide)
      refine br_f (by decide) ?_
      simp only [r5, r6]
      refine qx_inS hR hC (fun i2 => ?_) (fun i2 => ?_)
      · refine br_f (by decide) (qx_sf86 hb T2 (fun z => absurd z (by decide)) (fun _ z => absurd (q0.symm.trans z) e0) (fun _ _ tok' T' => ?_))
        rw [if_pos (qa_bt ⟨i1, i2⟩)] at h
        exact h _ T'
      · refine br_t (by decide) (qx_sf86 hb T2 (fun _ tok' T' => ?_) (fun z => absurd rfl z) (fun z => absurd rfl z))
        rw [if_neg (by rw [qa_bf (fun z => i2 z.2)]; decide), ← q0] at h
        exact h _ T'
    · refine br_f e0 (qx_sco (k := 5) (by decide) hb T1 (fun tok2 T2 => ?_))
      refine br_t (by decide) ?_
      refine (qx_sf86 hb T2 (fun _ tok' T' => ?_) (fun z => absurd rfl z) (fun z => absurd rfl z))
      rw [if_neg (by rw [qa_bf (fun z => i1 z.1)]; decide), ← q0] at h
      exact h _ T'
theorem qx_lies {post : Int32 → Prop} {p1 p2 p3 p4 : Int32} (hb : b + 8 ≤ 4088) (ht : ∀ f, f < 8 → tok (b + f) = t f) (h1 : qt_li t p1 p2 p3 p4 → post 1) (h0 : ¬ qt_li t p1 p2 p3 p4 → post 0) : wpX_liesIn post (nr, nc, st, sl, sb, sr, sta, stl, oe, oh, ow, tok, cnt, stt, val, own, rch, nds, sv, se, out) (nI b) p1 p2 p3 p4 := by
  have r2 := ht 2 (by decide)
  have r3 := ht 3 (by decide)
  simp (disch := omega) only [wpX_liesIn, r2, r3, nI_add, pk_mul, qa_a1, qa_a2, qa_a3, qa_a4, qa_a5, qa_a6, qa_a7, qa_a8, qa_a56, qa_m6, qa_m7, qa_m8, qa_m56, qa_l2, qa_l37, qa_l2016, qa_in, nI_clamp, forall_eq, true_and, qa_cl0, nI_leI, nI_ltI, nI_eq, not_false_eq_true, pk_sub, qa_s1, qa_s2, qa_s8]
  refine qx_bot hb ht ?_
  refine qx_rgt hb ht ?_
  exact br_c (fun a => h0 (fun z => z.1 a)) (fun a => br_c (fun c => h0 (fun z => z.2.1 c)) (fun c => br_c (fun d => h0 (fun z => z.2.2.1 d)) (fun d => br_c (fun e => h0 (fun z => z.2.2.2 e)) (fun e => h1 ⟨a, c, d, e⟩))))
theorem qx_mov {post : SX → Prop} {dr dc : Int32} (hb : b + 8 ≤ 4088) (hT : qt_Tf tok0 tok b t) (h : ∀ tok', qt_Tf tok0 tok' b (qt_mov st sl sb sr dr dc t) → post (nr, nc, st, sl, sb, sr, sta, stl, oe, oh, ow, tok', cnt, stt, val, own, rch, nds, sv, se, out)) : wpX_moveToken post (nr, nc, st, sl, sb, sr, sta, stl, oe, oh, ow, tok, cnt, stt, val, own, rch, nds, sv, se, out) (nI b) dr dc := by
  have r0 : tok b = t 0 := hT.1 0 (by decide)
  have r2 := hT.1 2 (by decide)
  have r3 := hT.1 3 (by decide)
  have r5 := hT.1 5 (by decide)
  have r6 := hT.1 6 (by decide)
  unfold qt_mov at h
  simp (disch := omega) only [wpX_moveToken, pk_un, r0, r2, r3, r5, r6, nI_add, pk_mul, qa_a1, qa_a2, qa_a3, qa_a4, qa_a5, qa_a6, qa_a7, qa_a8, qa_a56, qa_m6, qa_m7, qa_m8, qa_m56, qa_l2, qa_l37, qa_l2016, qa_in, nI_clamp, forall_eq, true_and, qa_cl0, nI_leI, nI_ltI, nI_eq, not_false_eq_true, pk_sub, qa_s1, qa_s2, qa_s8]
  refine qx_lies hb hT.1 (fun l => ?_) (fun l => ?_)
  · rw [if_pos l] at h
    unfold qt_mv1 at h
    refine br_f (by decide) ?_
    by_cases e0 : t 0 = 2
    · rw [if_pos e0] at h
      exact br_t e0 (h _ (qt_Tf_u (qt_Tf_u hT (by decide) _) (by decide) _))
    · rw [if_neg e0] at h
      exact br_f e0 (h _ (qt_Tf_u (qt_Tf_u (qt_Tf_u (qt_Tf_u hT (by decide) _) (by decide) _) (by decide) _) (by decide) _))
  · rw [if_neg l] at h
    refine br_t (by decide) ?_
    refine qx_lies hb hT.1 (fun l2 => ?_) (fun l2 => ?_)
    · rw [if_pos l2] at h
      exact br_f (by decide) (qx_lose hb hT (fun tok' T' => h _ T'))
    · rw [if_neg l2] at h
      exact br_t (by decide) (h _ hT)
theorem qx_cs25 {post : SX → Prop} {s d n : Nat} (hs : s < 73) (hd : d < 73) (hn : n ≤ 7) (hsd : s ≠ d) (hc : cnt s = nI n) : ∀ (k j : Nat) (tok : Nat → Int32), j + k = n * 8 → (∀ x, x < j → tok (d * 56 + x) = tok0 (s * 56 + x)) → (∀ x, (x < d * 56 ∨ d * 56 + n * 8 ≤ x) → tok x = tok0 x) →
    (∀ tok', (∀ x, x < n * 8 → tok' (d * 56 + x) = tok0 (s * 56 + x)) → (∀ x, (x < d * 56 ∨ d * 56 + n * 8 ≤ x) → tok' x = tok0 x) → post (nr, nc, st, sl, sb, sr, sta, stl, oe, oh, ow, tok', upd cnt d (nI n), stt, val, own, rch, nds, sv, se, out)) → ∀ m, k < m → wX_copySlot_25 post (nI s) (nI d) (nI (s * 56)) (nI (d * 56)) (nI (n * 8)) nr nc st sl sb sr sta stl oe oh ow m (nI j) tok cnt stt val own rch nds sv se out := by
  intro k
  induction k with
  | zero =>
    intro j tok hj ha hb h m hm
    obtain ⟨m, rfl⟩ : ∃ z, m = z + 1 := ⟨m - 1, by omega⟩
    simp (disch := omega) only [wX_copySlot_25, hc, nI_add, pk_mul, qa_a1, qa_a2, qa_a3, qa_a4, qa_a5, qa_a6, qa_a7, qa_a8, qa_a56, qa_m6, qa_m7, qa_m8, qa_m56, qa_l2, qa_l37, qa_l2016, qa_in, nI_clamp, forall_eq, true_and, qa_cl0, nI_leI, nI_ltI, nI_eq, not_false_eq_true, pk_sub, qa_s1, qa_s2, qa_s8]
    exact br_t (by omega) (h _ (fun x hx => ha x (by omega)) hb)
  | succ k ih =>
    intro j tok hj ha hb h m hm
    obtain ⟨m, rfl⟩ : ∃ z, m = z + 1 := ⟨m - 1, by omega⟩
    have e1 : tok (s * 56 + j) = tok0 (s * 56 + j) := hb _ (by omega)
    simp (disch := omega) only [wX_copySlot_25, hc, e1, nI_add, pk_mul, qa_a1, qa_a2, qa_a3, qa_a4, qa_a5, qa_a6, qa_a7, qa_a8, qa_a56, qa_m6, qa_m7, qa_m8, qa_m56, qa_l2, qa_l37, qa_l2016, qa_in, nI_clamp, forall_eq, true_and, qa_cl0, nI_leI, nI_ltI, nI_eq, not_false_eq_true, pk_sub, qa_s1, qa_s2, qa_s8]
    refine br_f (by omega) (ih (j + 1) _ (by omega) ?_ ?_ h m (by omega))
    · intro x hx
      by_cases e : x = j
      · subst e; rw [pk_us]
      · rw [pk_un (by omega)]; exact ha x (by omega)
    · intro x hx
      rw [pk_un (by omega)]; exact hb x hx
theorem qx_cs {post : SX → Prop} {s d n : Nat} {f : Nat → Nat → Int32} (hs : s < 73) (hd : d < 73) (hn : n ≤ 7) (hsd : s ≠ d) (hm : qt_MX tok cnt s n f)
    (h : ∀ tok' cnt', qt_MX tok' cnt' d n f → qt_Fr tok cnt tok' cnt' d → post (nr, nc, st, sl, sb, sr, sta, stl, oe, oh, ow, tok', cnt', stt, val, own, rch, nds, sv, se, out)) : wpX_copySlot post (nr, nc, st, sl, sb, sr, sta, stl, oe, oh, ow, tok, cnt, stt, val, own, rch, nds, sv, se, out) (nI s) (nI d) := by
  simp (disch := omega) only [wpX_copySlot, hm.1, nI_add, pk_mul, qa_a1, qa_a2, qa_a3, qa_a4, qa_a5, qa_a6, qa_a7, qa_a8, qa_a56, qa_m6, qa_m7, qa_m8, qa_m56, qa_l2, qa_l37, qa_l2016, qa_in, nI_clamp, forall_eq, true_and, qa_cl0, nI_leI, nI_ltI, nI_eq, not_false_eq_true, pk_sub, qa_s1, qa_s2, qa_s8]
  refine ⟨n * 8 + 1, qx_cs25 (tok0 := tok) hs hd hn hsd hm.1 (n * 8) 0 tok (by omega) (fun x hx => absurd hx (Nat.not_lt_zero x)) (fun _ _ => rfl) (fun tok' h1 h2 => h _ _ ⟨pk_us, fun i hi g hg => ?_⟩ (fun s' e => ⟨pk_un e, fun j hj => h2 _ (by omega)⟩)) _ (by omega)⟩
  have := h1 (i * 8 + g) (by omega)
  rw [← Nat.add_assoc, ← Nat.add_assoc] at this
  rw [this]
  exact hm.2 i hi g hg
theorem qx_csA {post : SX → Prop} {q s d : Nat} {F : Nat → qt_Fm} (hq : q ≤ 73) (hs : s < q) (hd : d < 73) (hsd : s ≠ d) (hA : qt_AX q tok cnt F) (h : ∀ tok' cnt', qt_AX q tok' cnt' (qt_ut F d (F s)) → post (nr, nc, st, sl, sb, sr, sta, stl, oe, oh, ow, tok', cnt', stt, val, own, rch, nds, sv, se, out)) : wpX_copySlot post (nr, nc, st, sl, sb, sr, sta, stl, oe, oh, ow, tok, cnt, stt, val, own, rch, nds, sv, se, out) (nI s) (nI d) :=
  qx_cs (by omega) hd (hA s hs).1 hsd (hA s hs).2 (fun _ _ m fr => h _ _ (qt_AX_d hA (hA s hs).1 m fr))
end
end
section
/-! the component: backup, copyLine, blankLine, the loops over all tokens, copyFormula -/
/-- slots 37 .. filled up to k -/
def qt_bk (F : Nat → qt_Fm) (k : Nat) : Nat → qt_Fm := fun s => if 37 ≤ s ∧ s < 37 + k then F (s - 37) else F s
def qt_ln (ax s : Nat) : Nat := if ax = 0 then s / 6 else s % 6
def qt_ot (ax s : Nat) : Nat := if ax = 0 then s % 6 else s / 6
def qt_cl (F : Nat → qt_Fm) (ax fr to k : Nat) : Nat → qt_Fm := fun s => if qt_ln ax s = to ∧ qt_ot ax s < k then F (qt_co ax fr (qt_ot ax s)) else F s
def qt_bl (F : Nat → qt_Fm) (ax l k : Nat) : Nat → qt_Fm := fun s => if qt_ln ax s = l ∧ qt_ot ax s < k then qt_z else F s
theorem qt_co_ln {ax l k : Nat} (hl : l < 6) (hk : k < 6) : qt_ln ax (qt_co ax l k) = l := by
  unfold qt_ln qt_co
  split <;> omega
theorem qt_co_ot {ax l k : Nat} (hl : l < 6) (hk : k < 6) : qt_ot ax (qt_co ax l k) = k := by
  unfold qt_ot qt_co
  split <;> omega
theorem qt_co_lt {ax l k : Nat} (hl : l < 6) (hk : k < 6) : qt_co ax l k < 36 := by
  unfold qt_co
  split <;> omega
theorem qt_co_e {ax l k s : Nat} (h1 : qt_ln ax s = l) (h2 : qt_ot ax s = k) : s = qt_co ax l k := by
  unfold qt_ln at h1
  unfold qt_ot at h2
  unfold qt_co
  split at h1 <;> simp_all <;> omega
theorem qt_cl_s {F : Nat → qt_Fm} {ax fr to k : Nat} (hf : fr < 6) (ht : to < 6) (hk : k < 6) (e : fr ≠ to) (s : Nat) : qt_ut (qt_cl F ax fr to k) (qt_co ax to k) (qt_cl F ax fr to k (qt_co ax fr k)) s = qt_cl F ax fr to (k + 1) s := by
  have x1 : qt_cl F ax fr to k (qt_co ax fr k) = F (qt_co ax fr k) := by
    unfold qt_cl
    rw [if_neg (by rw [qt_co_ln hf hk]; omega)]
  rw [x1]
  by_cases c : s = qt_co ax to k
  · subst c
    rw [qt_us]
    unfold qt_cl
    rw [qt_co_ln ht hk, qt_co_ot ht hk, if_pos ⟨rfl, Nat.lt_succ_self k⟩]
  · rw [qt_un c]
    unfold qt_cl
    by_cases d : qt_ln ax s = to ∧ qt_ot ax s < k
    · rw [if_pos d, if_pos ⟨d.1, by omega⟩]
    · rw [if_neg d, if_neg]
      rintro ⟨d1, d2⟩
      by_cases z : qt_ot ax s = k
      · exact c (qt_co_e d1 z)
      · exact d ⟨d1, by omega⟩
theorem qt_bl_s {F : Nat → qt_Fm} {ax l k : Nat} (hl : l < 6) (hk : k < 6) (s : Nat) : qt_ut (qt_bl F ax l k) (qt_co ax l k) qt_z s = qt_bl F ax l (k + 1) s := by
  by_cases c : s = qt_co ax l k
  · subst c
    rw [qt_us]
    unfold qt_bl
    rw [qt_co_ln hl hk, qt_co_ot hl hk, if_pos ⟨rfl, Nat.lt_succ_self k⟩]
  · rw [qt_un c]
    unfold qt_bl
    by_cases d : qt_ln ax s = l ∧ qt_ot ax s < k
    · rw [if_pos d, if_pos ⟨d.1, by omega⟩]
    · rw [if_neg d, if_neg]
      rintro ⟨d1, d2⟩
      by_cases z : qt_ot ax s = k
      · exact c (qt_co_e d1 z)
      · exact d ⟨d1, by omega⟩
theorem qt_bk_s {F : Nat → qt_Fm} {k : Nat} (hk : k < 36) (s : Nat) : qt_ut (qt_bk F k) (37 + k) (qt_bk F k k) s = qt_bk F (k + 1) s := by
  have x1 : qt_bk F k k = F k := by unfold qt_bk; rw [if_neg (by omega)]
  rw [x1]
  by_cases c : s = 37 + k
  · subst c
    rw [qt_us]
    unfold qt_bk
    rw [if_pos (by omega), Nat.add_sub_cancel_left]
  · rw [qt_un c]
    unfold qt_bk
    by_cases d : 37 ≤ s ∧ s < 37 + k
    · rw [if_pos d, if_pos (by omega)]
    · rw [if_neg d, if_neg (by omega)]
/-- the state of a pass over all tokens: cell c, token i next -/
def qt_ps (g : (Nat → Int32) → Nat → Int32) (F : Nat → qt_Fm) (c i : Nat) : Nat → qt_Fm := fun s => ((F s).1, fun j => if s < c ∨ (s = c ∧ j < i) then qt_mt g ((F s).2 j) else (F s).2 j)
theorem qt_ps_n {g : (Nat → Int32) → Nat → Int32} {F : Nat → qt_Fm} {c i : Nat} (hi : (F c).1 ≤ i) (s : Nat) : qt_fe (qt_ps g F c i s) (qt_ps g F (c + 1) 0 s) := by
  refine ⟨rfl, fun j hj => ?_⟩
  have hj' : j < (F s).1 := hj
  show (if _ then _ else _) = (if _ then _ else _)
  by_cases e : s < c ∨ (s = c ∧ j < i)
  · rw [if_pos e, if_pos (by omega)]
  · rw [if_neg e, if_neg]
    rintro (d | d)
    · have : s = c := by omega
      subst this
      omega
    · omega
theorem qt_ps_t {g : (Nat → Int32) → Nat → Int32} {F : Nat → qt_Fm} {c i : Nat} {x : Nat → Int32} (hx : x = qt_mt g ((F c).2 i)) (s : Nat) : qt_fe (qt_ut (qt_ps g F c i) c ((qt_ps g F c i c).1, qt_ut (qt_ps g F c i c).2 i x) s) (qt_ps g F c (i + 1) s) := by
  by_cases e : s = c
  · subst e
    rw [qt_us]
    refine ⟨rfl, fun j _ => ?_⟩
    show qt_ut (qt_ps g F s i s).2 i x j = (qt_ps g F s (i + 1) s).2 j
    by_cases d : j = i
    · subst d
      rw [qt_us]
      show x = (if _ then _ else _)
      rw [if_pos (Or.inr ⟨rfl, Nat.lt_succ_self j⟩), hx]
    · rw [qt_un d]
      show (if _ then _ else _) = (if _ then _ else _)
      by_cases k : s < s ∨ (s = s ∧ j < i)
      · rw [if_pos k, if_pos (by omega)]
      · rw [if_neg k, if_neg (by omega)]
  · rw [qt_un e]
    refine ⟨rfl, fun j _ => ?_⟩
    show (if _ then _ else _) = (if _ then _ else _)
    by_cases k : s < c ∨ (s = c ∧ j < i)
    · rw [if_pos k, if_pos (by omega)]
    · rw [if_neg k, if_neg (by omega)]
theorem qt_ps_0 {g : (Nat → Int32) → Nat → Int32} {F : Nat → qt_Fm} (s : Nat) : qt_fe (F s) (qt_ps g F 0 0 s) := by
  refine ⟨rfl, fun j _ => ?_⟩
  show _ = (if _ then _ else _)
  rw [if_neg (by omega)]
theorem qt_ps_i {g : (Nat → Int32) → Nat → Int32} {F : Nat → qt_Fm} {c i : Nat} : (qt_ps g F c i c).2 i = (F c).2 i := by
  show (if _ then _ else _) = _
  rw [if_neg (by omega)]
theorem qt_ps_d {g : (Nat → Int32) → Nat → Int32} {F : Nat → qt_Fm} {c i : Nat} (hx : ¬ qt_lv ((F c).2 i)) (s : Nat) : qt_fe (qt_ps g F c i s) (qt_ps g F c (i + 1) s) := by
  refine ⟨rfl, fun j _ => ?_⟩
  show (if _ then _ else _) = (if _ then _ else _)
  by_cases k : s < c ∨ (s = c ∧ j < i)
  · rw [if_pos k, if_pos (by omega)]
  · rw [if_neg k]
    by_cases k2 : s < c ∨ (s = c ∧ j < i + 1)
    · have e1 : s = c := by omega
      subst e1
      have e2 : j = i := by omega
      subst e2
      rw [if_pos k2]
      unfold qt_mt
      rw [if_neg hx]
    · rw [if_neg k2]
/-- the state of a pass over slot c -/
def qt_pc (g : (Nat → Int32) → Nat → Int32) (F : Nat → qt_Fm) (c i : Nat) : Nat → qt_Fm := fun s => ((F s).1, fun j => if s = c ∧ j < i then qt_mt g ((F s).2 j) else (F s).2 j)
theorem qt_pc_0 {g : (Nat → Int32) → Nat → Int32} {F : Nat → qt_Fm} {c : Nat} (s : Nat) : qt_fe (F s) (qt_pc g F c 0 s) := by
  refine ⟨rfl, fun j _ => ?_⟩
  show _ = (if _ then _ else _)
  rw [if_neg (by omega)]
theorem qt_pc_i {g : (Nat → Int32) → Nat → Int32} {F : Nat → qt_Fm} {c i : Nat} : (qt_pc g F c i c).2 i = (F c).2 i := by
  show (if _ then _ else _) = _
  rw [if_neg (by omega)]
theorem qt_pc_n {g : (Nat → Int32) → Nat → Int32} {F : Nat → qt_Fm} {c i : Nat} (hi : (F c).1 ≤ i) (s : Nat) : qt_fe (qt_pc g F c i s) (qt_ut F c (qt_mp g (F c)) s) := by
  by_cases e : s = c
  · subst e
    rw [qt_us]
    refine ⟨rfl, fun j hj => ?_⟩
    have hj' : j < (F s).1 := hj
    show (if _ then _ else _) = _
    rw [if_pos ⟨rfl, by omega⟩]
    rfl
  · rw [qt_un e]
    refine ⟨rfl, fun j hj => ?_⟩
    show (if _ then _ else _) = _
    rw [if_neg (fun z => e z.1)]
theorem qt_pc_t {g : (Nat → Int32) → Nat → Int32} {F : Nat → qt_Fm} {c i : Nat} {x : Nat → Int32} (hx : x = qt_mt g ((F c).2 i)) (s : Nat) : qt_fe (qt_ut (qt_pc g F c i) c ((qt_pc g F c i c).1, qt_ut (qt_pc g F c i c).2 i x) s) (qt_pc g F c (i + 1) s) := by
  by_cases e : s = c
  · subst e
    rw [qt_us]
    refine ⟨rfl, fun j _ => ?_⟩
    show qt_ut (qt_pc g F s i s).2 i x j = (qt_pc g F s (i + 1) s).2 j
    by_cases d : j = i
    · subst d
      rw [qt_us]
      show x = (if _ then _ else _)
      rw [if_pos ⟨rfl, Nat.lt_succ_self j⟩, hx]
    · rw [qt_un d]
      show (if _ then _ else _) = (if _ then _ else _)
      by_cases k : s = s ∧ j < i
      · rw [if_pos k, if_pos (by omega)]
      · rw [if_neg k, if_neg (by omega)]
  · rw [qt_un e]
    refine ⟨rfl, fun j _ => ?_⟩
    show (if _ then _ else _) = (if _ then _ else _)
    rw [if_neg (fun z => e z.1), if_neg (fun z => e z.1)]
theorem qt_pc_d {g : (Nat → Int32) → Nat → Int32} {F : Nat → qt_Fm} {c i : Nat} (hx : ¬ (i < (F c).1 ∧ qt_lv ((F c).2 i))) (s : Nat) : qt_fe (qt_pc g F c i s) (qt_pc g F c (i + 1) s) := by
  refine ⟨rfl, fun j hj => ?_⟩
  have hj' : j < (F s).1 := hj
  show (if _ then _ else _) = (if _ then _ else _)
  by_cases k : s = c ∧ j < i
  · rw [if_pos k, if_pos (by omega)]
  · rw [if_neg k]
    by_cases k2 : s = c ∧ j < i + 1
    · obtain ⟨e1, -⟩ := id k2
      subst e1
      have e2 : j = i := by omega
      subst e2
      rw [if_pos k2]
      unfold qt_mt
      rw [if_neg (fun z => hx ⟨hj', z⟩)]
    · rw [if_neg k2]
section
variable {nr nc st sl sb sr sta oe oh ow : Int32} {stl : Int64} {tok cnt stt val own sv se out : Nat → Int32} {rch nds : Nat → Int64}
theorem qx_bk2 {post : SX → Prop} {F : Nat → qt_Fm} : ∀ (d k : Nat) (tok cnt : Nat → Int32), k + d = 36 → qt_AX (37 + k) tok cnt (qt_bk F k) → (∀ tok' cnt', qt_AX 73 tok' cnt' (qt_bk F 36) → post (nr, nc, st, sl, sb, sr, sta, stl, oe, oh, ow, tok', cnt', stt, val, own, rch, nds, sv, se, out)) → ∀ n, d < n → wX_backup_2 post n (nI k) nr nc st sl sb sr sta stl oe oh ow tok cnt stt val own rch nds sv se out := by
  intro d
  induction d with
  | zero =>
    intro k tok cnt hk hA h n hn
    obtain ⟨n, rfl⟩ : ∃ z, n = z + 1 := ⟨n - 1, by omega⟩
    obtain rfl : k = 36 := by omega
    simp (disch := omega) only [wX_backup_2, nI_add, pk_mul, qa_a1, qa_a2, qa_a3, qa_a4, qa_a5, qa_a6, qa_a7, qa_a8, qa_a56, qa_m6, qa_m7, qa_m8, qa_m56, qa_l2, qa_l37, qa_l2016, qa_in, nI_clamp, forall_eq, true_and, qa_cl0, nI_leI, nI_ltI, nI_eq, not_false_eq_true, pk_sub, qa_s1, qa_s2, qa_s8]
    exact br_t (by decide) (h _ _ hA)
  | succ d ih =>
    intro k tok cnt hk hA h n hn
    obtain ⟨n, rfl⟩ : ∃ z, n = z + 1 := ⟨n - 1, by omega⟩
    simp (disch := omega) only [wX_backup_2, qa_lel36, nI_add, pk_mul, qa_a1, qa_a2, qa_a3, qa_a4, qa_a5, qa_a6, qa_a7, qa_a8, qa_a56, qa_m6, qa_m7, qa_m8, qa_m56, qa_l2, qa_l37, qa_l2016, qa_in, nI_clamp, forall_eq, true_and, qa_cl0, nI_leI, nI_ltI, nI_eq, not_false_eq_true, pk_sub, qa_s1, qa_s2, qa_s8]
    refine br_f (by omega) ?_
    have hA0 := hA k (by omega)
    refine qx_cs (by omega) (by omega) hA0.1 (by omega) hA0.2 (fun tok' cnt' m fr => ?_)
    exact ih (k + 1) _ _ (by omega) (qt_AX_e (qt_AX_s hA hA0.1 m fr) (fun s _ => qt_fe_e (qt_bk_s (by omega) s))) h n (by omega)
theorem qx_bk {post : SX → Prop} {F : Nat → qt_Fm} (hA : qt_AX 37 tok cnt F) (h : ∀ tok' cnt', qt_AX 73 tok' cnt' (qt_bk F 36) → post (nr, nc, st, sl, sb, sr, sta, stl, oe, oh, ow, tok', cnt', stt, val, own, rch, nds, sv, se, out)) : wpX_backup post (nr, nc, st, sl, sb, sr, sta, stl, oe, oh, ow, tok, cnt, stt, val, own, rch, nds, sv, se, out) := by
  unfold wpX_backup
  refine ⟨37, qx_bk2 36 0 _ _ (by decide) (qt_AX_e hA (fun s hs => qt_fe_e ?_)) h 37 (by decide)⟩
  unfold qt_bk
  rw [if_neg (by omega)]
theorem qx_cl12 {post : SX → Prop} {F : Nat → qt_Fm} {q ax fr to ac : Nat} (hq : 37 ≤ q) (hq' : q ≤ 73) (ha : ax < 2) (hf : fr < 6) (ht : to < 6) (hac : ac ≤ 6) (e : fr ≠ to) : ∀ (d k : Nat) (tok cnt : Nat → Int32), k + d = ac → qt_AX q tok cnt (qt_cl F ax fr to k) → (∀ tok' cnt', qt_AX q tok' cnt' (qt_cl F ax fr to ac) → post (nr, nc, st, sl, sb, sr, sta, stl, oe, oh, ow, tok', cnt', stt, val, own, rch, nds, sv, se, out)) → ∀ n, d < n → wX_copyLine_12 post (nI ax) (nI fr) (nI to) (nI ac) n (nI k) nr nc st sl sb sr sta stl oe oh ow tok cnt stt val own rch nds sv se out := by
  intro d
  induction d with
  | zero =>
    intro k tok cnt hk hA h n hn
    obtain ⟨n, rfl⟩ : ∃ z, n = z + 1 := ⟨n - 1, by omega⟩
    obtain rfl : k = ac := by omega
    simp (disch := omega) only [wX_copyLine_12, nI_add, pk_mul, qa_a1, qa_a2, qa_a3, qa_a4, qa_a5, qa_a6, qa_a7, qa_a8, qa_a56, qa_m6, qa_m7, qa_m8, qa_m56, qa_l2, qa_l37, qa_l2016, qa_in, nI_clamp, forall_eq, true_and, qa_cl0, nI_leI, nI_ltI, nI_eq, not_false_eq_true, pk_sub, qa_s1, qa_s2, qa_s8]
    exact br_t (by omega) (h _ _ hA)
  | succ d ih =>
    intro k tok cnt hk hA h n hn
    obtain ⟨n, rfl⟩ : ∃ z, n = z + 1 := ⟨n - 1, by omega⟩
    simp (disch := omega) only [wX_copyLine_12, nI_add, pk_mul, qa_a1, qa_a2, qa_a3, qa_a4, qa_a5, qa_a6, qa_a7, qa_a8, qa_a56, qa_m6, qa_m7, qa_m8, qa_m56, qa_l2, qa_l37, qa_l2016, qa_in, nI_clamp, forall_eq, true_and, qa_cl0, nI_leI, nI_ltI, nI_eq, not_false_eq_true, pk_sub, qa_s1, qa_s2, qa_s8]
    refine br_f (by omega) ?_
    refine qx_co ha ?_
    refine qx_co ha ?_
    have k1 := qt_co_lt (ax := ax) hf (show k < 6 by omega)
    have k2 := qt_co_lt (ax := ax) ht (show k < 6 by omega)
    have k3 : qt_co ax fr k ≠ qt_co ax to k := by
      intro z
      have := congrArg (qt_ln ax) z
      rw [qt_co_ln hf (by omega), qt_co_ln ht (by omega)] at this
      exact e this
    refine qx_csA hq' (by omega) (by omega) k3 hA (fun tok' cnt' hA' => ?_)
    exact ih (k + 1) _ _ (by omega) (qt_AX_e hA' (fun s _ => qt_fe_e (qt_cl_s hf ht (by omega) e s))) h n (by omega)
theorem qx_cl {post : SX → Prop} {F : Nat → qt_Fm} {R C q ax fr to : Nat} (hR : R ≤ 6) (hC : C ≤ 6) (hq : 37 ≤ q) (hq' : q ≤ 73) (ha : ax < 2) (hf : fr < 6) (ht : to < 6) (e : fr ≠ to) (hA : qt_AX q tok cnt F)
    (h : ∀ tok' cnt', qt_AX q tok' cnt' (qt_cl F ax fr to (qt_sz C R ax)) → post (nI R, nI C, st, sl, sb, sr, sta, stl, oe, oh, ow, tok', cnt', stt, val, own, rch, nds, sv, se, out)) : wpX_copyLine post (nI R, nI C, st, sl, sb, sr, sta, stl, oe, oh, ow, tok, cnt, stt, val, own, rch, nds, sv, se, out) (nI ax) (nI fr) (nI to) := by
  unfold wpX_copyLine
  refine qx_size' ha ?_
  have hac : qt_sz C R ax ≤ 6 := by unfold qt_sz; split <;> omega
  refine ⟨8, qx_cl12 hq hq' ha hf ht hac e _ 0 _ _ (Nat.zero_add _) (qt_AX_e hA (fun s hs => qt_fe_e ?_)) h 8 (by omega)⟩
  unfold qt_cl
  rw [if_neg (by omega)]
theorem qx_bl11 {post : SX → Prop} {F : Nat → qt_Fm} {q ax l ac : Nat} (hq : 37 ≤ q) (hq' : q ≤ 73) (ha : ax < 2) (hl : l < 6) (hac : ac ≤ 6) : ∀ (d k : Nat) (cnt : Nat → Int32), k + d = ac → qt_AX q tok cnt (qt_bl F ax l k) → (∀ cnt', qt_AX q tok cnt' (qt_bl F ax l ac) → post (nr, nc, st, sl, sb, sr, sta, stl, oe, oh, ow, tok, cnt', stt, val, own, rch, nds, sv, se, out)) → ∀ n, d < n → wX_blankLine_11 post (nI ax) (nI l) (nI ac) nr nc st sl sb sr sta stl oe oh ow n (nI k) tok cnt stt val own rch nds sv se out := by
  intro d
  induction d with
  | zero =>
    intro k cnt hk hA h n hn
    obtain ⟨n, rfl⟩ : ∃ z, n = z + 1 := ⟨n - 1, by omega⟩
    obtain rfl : k = ac := by omega
    simp (disch := omega) only [wX_blankLine_11, nI_add, pk_mul, qa_a1, qa_a2, qa_a3, qa_a4, qa_a5, qa_a6, qa_a7, qa_a8, qa_a56, qa_m6, qa_m7, qa_m8, qa_m56, qa_l2, qa_l37, qa_l2016, qa_in, nI_clamp, forall_eq, true_and, qa_cl0, nI_leI, nI_ltI, nI_eq, not_false_eq_true, pk_sub, qa_s1, qa_s2, qa_s8]
    exact br_t (by omega) (h _ hA)
  | succ d ih =>
    intro k cnt hk hA h n hn
    obtain ⟨n, rfl⟩ : ∃ z, n = z + 1 := ⟨n - 1, by omega⟩
    simp (disch := omega) only [wX_blankLine_11, nI_add, pk_mul, qa_a1, qa_a2, qa_a3, qa_a4, qa_a5, qa_a6, qa_a7, qa_a8, qa_a56, qa_m6, qa_m7, qa_m8, qa_m56, qa_l2, qa_l37, qa_l2016, qa_in, nI_clamp, forall_eq, true_and, qa_cl0, nI_leI, nI_ltI, nI_eq, not_false_eq_true, pk_sub, qa_s1, qa_s2, qa_s8]
    refine br_f (by omega) ?_
    refine qx_co ha ?_
    have k2 := qt_co_lt (ax := ax) hl (show k < 6 by omega)
    simp (disch := omega) only [nI_add, pk_mul, qa_a1, qa_a2, qa_a3, qa_a4, qa_a5, qa_a6, qa_a7, qa_a8, qa_a56, qa_m6, qa_m7, qa_m8, qa_m56, qa_l2, qa_l37, qa_l2016, qa_in, nI_clamp, forall_eq, true_and, qa_cl0, nI_leI, nI_ltI, nI_eq, not_false_eq_true, pk_sub, qa_s1, qa_s2, qa_s8]
    exact ih (k + 1) _ (by omega) (qt_AX_e (qt_AX_0 hA) (fun s _ => qt_fe_e (qt_bl_s hl (by omega) s))) h n (by omega)
theorem qx_bl {post : SX → Prop} {F : Nat → qt_Fm} {R C q ax l : Nat} (hR : R ≤ 6) (hC : C ≤ 6) (hq : 37 ≤ q) (hq' : q ≤ 73) (ha : ax < 2) (hl : l < 6) (hA : qt_AX q tok cnt F)
    (h : ∀ cnt', qt_AX q tok cnt' (qt_bl F ax l (qt_sz C R ax)) → post (nI R, nI C, st, sl, sb, sr, sta, stl, oe, oh, ow, tok, cnt', stt, val, own, rch, nds, sv, se, out)) : wpX_blankLine post (nI R, nI C, st, sl, sb, sr, sta, stl, oe, oh, ow, tok, cnt, stt, val, own, rch, nds, sv, se, out) (nI ax) (nI l) := by
  unfold wpX_blankLine
  refine qx_size' ha ?_
  have hac : qt_sz C R ax ≤ 6 := by unfold qt_sz; split <;> omega
  refine ⟨8, qx_bl11 hq hq' ha hl hac _ 0 _ (Nat.zero_add _) (qt_AX_e hA (fun s hs => qt_fe_e ?_)) h 8 (by omega)⟩
  unfold qt_bl
  rw [if_neg (by omega)]
theorem qx_ins88 {post : Int32 → SX → Prop} {F : Nat → qt_Fm} {q c : Nat} {ax : Nat} {at' : Int32} (ha : ax < 2) {J : Int32 → Int32 → Int32 → Int32 → Int32 → Int32 → Int32 → Int32 → Int64 → Int32 → Int32 → Int32 → (Nat → Int32) → (Nat → Int32) → (Nat → Int32) → (Nat → Int32) → (Nat → Int32) → (Nat → Int64) → (Nat → Int64) → (Nat → Int32) → (Nat → Int32) → (Nat → Int32) → Prop}
    (hc : c < 36) (hq : 37 ≤ q) : ∀ (d i : Nat) (tok : Nat → Int32), i + d = (F c).1 → qt_AX q tok cnt (qt_ps (qt_gro ax at') F c i) → (∀ tok', qt_AX q tok' cnt (qt_ps (qt_gro ax at') F (c + 1) 0) → J (nI (c + 1)) nr nc st sl sb sr sta stl oe oh ow tok' cnt stt val own rch nds sv se out) → ∀ n, d < n → wX_insertLine_88 post J (nI ax) at' (nI c) n (nI i) nr nc st sl sb sr sta stl oe oh ow tok cnt stt val own rch nds sv se out := by
  intro d
  induction d with
  | zero =>
    intro i tok hi hA h n hn
    obtain ⟨n, rfl⟩ : ∃ z, n = z + 1 := ⟨n - 1, by omega⟩
    have m := (hA c (by omega)).2
    have b7 := (hA c (by omega)).1
    have m1 : cnt c = nI (F c).1 := m.1
    have b7' : (F c).1 ≤ 7 := b7
    simp (disch := omega) only [wX_insertLine_88, m1, nI_add, pk_mul, qa_a1, qa_a2, qa_a3, qa_a4, qa_a5, qa_a6, qa_a7, qa_a8, qa_a56, qa_m6, qa_m7, qa_m8, qa_m56, qa_l2, qa_l37, qa_l2016, qa_in, nI_clamp, forall_eq, true_and, qa_cl0, nI_leI, nI_ltI, nI_eq, not_false_eq_true, pk_sub, qa_s1, qa_s2, qa_s8]
    exact br_t (by omega) (h _ (qt_AX_e hA (fun s _ => qt_ps_n (by omega) s)))
  | succ d ih =>
    intro i tok hi hA h n hn
    obtain ⟨n, rfl⟩ : ∃ z, n = z + 1 := ⟨n - 1, by omega⟩
    have m := (hA c (by omega)).2
    have b7 := (hA c (by omega)).1
    have m1 : cnt c = nI (F c).1 := m.1
    have b7' : (F c).1 ≤ 7 := b7
    have ht : ∀ f, f < 8 → tok (c * 56 + i * 8 + f) = (F c).2 i f := fun f hf => (m.2 i (show i < (F c).1 by omega) f hf).trans (by rw [qt_ps_i])
    have hb : c * 56 + i * 8 + 8 ≤ 4088 := by omega
    simp (disch := omega) only [wX_insertLine_88, m1, nI_add, pk_mul, qa_a1, qa_a2, qa_a3, qa_a4, qa_a5, qa_a6, qa_a7, qa_a8, qa_a56, qa_m6, qa_m7, qa_m8, qa_m56, qa_l2, qa_l37, qa_l2016, qa_in, nI_clamp, forall_eq, true_and, qa_cl0, nI_leI, nI_ltI, nI_eq, not_false_eq_true, pk_sub, qa_s1, qa_s2, qa_s8]
    refine br_f (by omega) ?_
    refine qx_base ?_
    refine qx_live hb ht (fun l => ?_) (fun l => ?_)
    · refine br_f (by decide) ?_
      refine qx_gro ha hb (qt_Tf_r ht) (fun tok' T' => ?_)
      refine ih (i + 1) tok' (by omega) (qt_AX_e (qt_AX_t hA (by omega) T') (fun s _ => qt_ps_t ?_ s)) h n (by omega)
      unfold qt_mt
      rw [if_pos l]
    · refine br_t (by decide) ?_
      exact ih (i + 1) tok (by omega) (qt_AX_e hA (fun s _ => qt_ps_d l s)) h n (by omega)
theorem qx_ins78 {post : Int32 → SX → Prop} {F : Nat → qt_Fm} {q : Nat} {ax : Nat} {at' : Int32} (ha : ax < 2) (hq : 37 ≤ q) : ∀ (d c : Nat) (tok : Nat → Int32), c + d = 36 → qt_AX q tok cnt (qt_ps (qt_gro ax at') F c 0) → (∀ tok', qt_AX q tok' cnt (qt_ps (qt_gro ax at') F 36 0) → post 0 (nr, nc, st, sl, sb, sr, 1, stl, oe, oh, ow, tok', cnt, stt, val, own, rch, nds, sv, se, out)) → ∀ n, d < n → wX_insertLine_78 post (nI ax) at' n (nI c) nr nc st sl sb sr sta stl oe oh ow tok cnt stt val own rch nds sv se out := by
  intro d
  induction d with
  | zero =>
    intro c tok hc hA h n hn
    obtain ⟨n, rfl⟩ : ∃ z, n = z + 1 := ⟨n - 1, by omega⟩
    obtain rfl : c = 36 := by omega
    simp (disch := omega) only [wX_insertLine_78, nI_add, pk_mul, qa_a1, qa_a2, qa_a3, qa_a4, qa_a5, qa_a6, qa_a7, qa_a8, qa_a56, qa_m6, qa_m7, qa_m8, qa_m56, qa_l2, qa_l37, qa_l2016, qa_in, nI_clamp, forall_eq, true_and, qa_cl0, nI_leI, nI_ltI, nI_eq, not_false_eq_true, pk_sub, qa_s1, qa_s2, qa_s8]
    exact br_t (by decide) (h _ hA)
  | succ d ih =>
    intro c tok hc hA h n hn
    obtain ⟨n, rfl⟩ : ∃ z, n = z + 1 := ⟨n - 1, by omega⟩
    simp (disch := omega) only [wX_insertLine_78, qa_lel36, nI_add, pk_mul, qa_a1, qa_a2, qa_a3, qa_a4, qa_a5, qa_a6, qa_a7, qa_a8, qa_a56, qa_m6, qa_m7, qa_m8, qa_m56, qa_l2, qa_l37, qa_l2016, qa_in, nI_clamp, forall_eq, true_and, qa_cl0, nI_leI, nI_ltI, nI_eq, not_false_eq_true, pk_sub, qa_s1, qa_s2, qa_s8]
    refine br_f (by omega) ?_
    have b7 : (F c).1 ≤ 7 := (hA c (by omega)).1
    exact ⟨8, qx_ins88 ha (by omega) hq (F c).1 0 tok (Nat.zero_add _) hA (fun tok' hA' => ih (c + 1) tok' (by omega) hA' h n (by omega)) 8 (by omega)⟩
theorem qx_del77 {post : Int32 → SX → Prop} {F : Nat → qt_Fm} {q c : Nat} {ax : Nat} {at' : Int32} (ha : ax < 2) {J : Int32 → Int32 → Int32 → Int32 → Int32 → Int32 → Int32 → Int32 → Int64 → Int32 → Int32 → Int32 → (Nat → Int32) → (Nat → Int32) → (Nat → Int32) → (Nat → Int32) → (Nat → Int32) → (Nat → Int64) → (Nat → Int64) → (Nat → Int32) → (Nat → Int32) → (Nat → Int32) → Prop}
    (hc : c < 36) (hq : 37 ≤ q) : ∀ (d i : Nat) (tok : Nat → Int32), i + d = (F c).1 → qt_AX q tok cnt (qt_ps (qt_shr ax at') F c i) → (∀ tok', qt_AX q tok' cnt (qt_ps (qt_shr ax at') F (c + 1) 0) → J (nI (c + 1)) nr nc st sl sb sr sta stl oe oh ow tok' cnt stt val own rch nds sv se out) → ∀ n, d < n → wX_deleteLine_77 post J (nI ax) at' (nI c) n (nI i) nr nc st sl sb sr sta stl oe oh ow tok cnt stt val own rch nds sv se out := by
  intro d
  induction d with
  | zero =>
    intro i tok hi hA h n hn
    obtain ⟨n, rfl⟩ : ∃ z, n = z + 1 := ⟨n - 1, by omega⟩
    have m := (hA c (by omega)).2
    have b7 := (hA c (by omega)).1
    have m1 : cnt c = nI (F c).1 := m.1
    have b7' : (F c).1 ≤ 7 := b7
    simp (disch := omega) only [wX_deleteLine_77, m1, nI_add, pk_mul, qa_a1, qa_a2, qa_a3, qa_a4, qa_a5, qa_a6, qa_a7, qa_a8, qa_a56, qa_m6, qa_m7, qa_m8, qa_m56, qa_l2, qa_l37, qa_l2016, qa_in, nI_clamp, forall_eq, true_and, qa_cl0, nI_leI, nI_ltI, nI_eq, not_false_eq_true, pk_sub, qa_s1, qa_s2, qa_s8]
    exact br_t (by omega) (h _ (qt_AX_e hA (fun s _ => qt_ps_n (by omega) s)))
  | succ d ih =>
    intro i tok hi hA h n hn
    obtain ⟨n, rfl⟩ : ∃ z, n = z + 1 := ⟨n - 1, by omega⟩
    have m := (hA c (by omega)).2
    have b7 := (hA c (by omega)).1
    have m1 : cnt c = nI (F c).1 := m.1
    have b7' : (F c).1 ≤ 7 := b7
    have ht : ∀ f, f < 8 → tok (c * 56 + i * 8 + f) = (F c).2 i f := fun f hf => (m.2 i (show i < (F c).1 by omega) f hf).trans (by rw [qt_ps_i])
    have hb : c * 56 + i * 8 + 8 ≤ 4088 := by omega
    simp (disch := omega) only [wX_deleteLine_77, m1, nI_add, pk_mul, qa_a1, qa_a2, qa_a3, qa_a4, qa_a5, qa_a6, qa_a7, qa_a8, qa_a56, qa_m6, qa_m7, qa_m8, qa_m56, qa_l2, qa_l37, qa_l2016, qa_in, nI_clamp, forall_eq, true_and, qa_cl0, nI_leI, nI_ltI, nI_eq, not_false_eq_true, pk_sub, qa_s1, qa_s2, qa_s8]
    refine br_f (by omega) ?_
    refine qx_base ?_
    refine qx_live hb ht (fun l => ?_) (fun l => ?_)
    · refine br_f (by decide) ?_
      refine qx_shr ha hb (qt_Tf_r ht) (fun tok' T' => ?_)
      refine ih (i + 1) tok' (by omega) (qt_AX_e (qt_AX_t hA (by omega) T') (fun s _ => qt_ps_t ?_ s)) h n (by omega)
      unfold qt_mt
      rw [if_pos l]
    · refine br_t (by decide) ?_
      exact ih (i + 1) tok (by omega) (qt_AX_e hA (fun s _ => qt_ps_d l s)) h n (by omega)
theorem qx_del67 {post : Int32 → SX → Prop} {F : Nat → qt_Fm} {q : Nat} {ax : Nat} {at' : Int32} (ha : ax < 2) (hq : 37 ≤ q) : ∀ (d c : Nat) (tok : Nat → Int32), c + d = 36 → qt_AX q tok cnt (qt_ps (qt_shr ax at') F c 0) → (∀ tok', qt_AX q tok' cnt (qt_ps (qt_shr ax at') F 36 0) → post 0 (nr, nc, st, sl, sb, sr, 1, stl, oe, oh, ow, tok', cnt, stt, val, own, rch, nds, sv, se, out)) → ∀ n, d < n → wX_deleteLine_67 post (nI ax) at' n (nI c) nr nc st sl sb sr sta stl oe oh ow tok cnt stt val own rch nds sv se out := by
  intro d
  induction d with
  | zero =>
    intro c tok hc hA h n hn
    obtain ⟨n, rfl⟩ : ∃ z, n = z + 1 := ⟨n - 1, by omega⟩
    obtain rfl : c = 36 := by omega
    simp (disch := omega) only [wX_deleteLine_67, nI_add, pk_mul, qa_a1, qa_a2, qa_a3, qa_a4, qa_a5, qa_a6, qa_a7, qa_a8, qa_a56, qa_m6, qa_m7, qa_m8, qa_m56, qa_l2, qa_l37, qa_l2016, qa_in, nI_clamp, forall_eq, true_and, qa_cl0, nI_leI, nI_ltI, nI_eq, not_false_eq_true, pk_sub, qa_s1, qa_s2, qa_s8]
    exact br_t (by decide) (h _ hA)
  | succ d ih =>
    intro c tok hc hA h n hn
    obtain ⟨n, rfl⟩ : ∃ z, n = z + 1 := ⟨n - 1, by omega⟩
    simp (disch := omega) only [wX_deleteLine_67, qa_lel36, nI_add, pk_mul, qa_a1, qa_a2, qa_a3, qa_a4, qa_a5, qa_a6, qa_a7, qa_a8, qa_a56, qa_m6, qa_m7, qa_m8, qa_m56, qa_l2, qa_l37, qa_l2016, qa_in, nI_clamp, forall_eq, true_and, qa_cl0, nI_leI, nI_ltI, nI_eq, not_false_eq_true, pk_sub, qa_s1, qa_s2, qa_s8]
    refine br_f (by omega) ?_
    have b7 : (F c).1 ≤ 7 := (hA c (by omega)).1
    exact ⟨8, qx_del77 ha (by omega) hq (F c).1 0 tok (Nat.zero_add _) hA (fun tok' hA' => ih (c + 1) tok' (by omega) hA' h n (by omega)) 8 (by omega)⟩
theorem qx_mov180 {post : Int32 → SX → Prop} {F : Nat → qt_Fm} {q c : Nat} {dr dc : Int32} {J : Int32 → Int32 → Int32 → Int32 → Int32 → Int32 → Int32 → Int32 → Int64 → Int32 → Int32 → Int32 → (Nat → Int32) → (Nat → Int32) → (Nat → Int32) → (Nat → Int32) → (Nat → Int32) → (Nat → Int64) → (Nat → Int64) → (Nat → Int32) → (Nat → Int32) → (Nat → Int32) → Prop}
    (hc : c < 36) (hq : 37 ≤ q) : ∀ (d i : Nat) (tok : Nat → Int32), i + d = (F c).1 → qt_AX q tok cnt (qt_ps (qt_mov st sl sb sr dr dc) F c i) → (∀ tok', qt_AX q tok' cnt (qt_ps (qt_mov st sl sb sr dr dc) F (c + 1) 0) → J (nI (c + 1)) nr nc st sl sb sr sta stl oe oh ow tok' cnt stt val own rch nds sv se out) → ∀ n, d < n → wX_moveTo_180 post J dr dc (nI c) n (nI i) nr nc st sl sb sr sta stl oe oh ow tok cnt stt val own rch nds sv se out := by
  intro d
  induction d with
  | zero =>
    intro i tok hi hA h n hn
    obtain ⟨n, rfl⟩ : ∃ z, n = z + 1 := ⟨n - 1, by omega⟩
    have m := (hA c (by omega)).2
    have b7 := (hA c (by omega)).1
    have m1 : cnt c = nI (F c).1 := m.1
    have b7' : (F c).1 ≤ 7 := b7
    simp (disch := omega) only [wX_moveTo_180, m1, nI_add, pk_mul, qa_a1, qa_a2, qa_a3, qa_a4, qa_a5, qa_a6, qa_a7, qa_a8, qa_a56, qa_m6, qa_m7, qa_m8, qa_m56, qa_l2, qa_l37, qa_l2016, qa_in, nI_clamp, forall_eq, true_and, qa_cl0, nI_leI, nI_ltI, nI_eq, not_false_eq_true, pk_sub, qa_s1, qa_s2, qa_s8]
    exact br_t (by omega) (h _ (qt_AX_e hA (fun s _ => qt_ps_n (by omega) s)))
  | succ d ih =>
    intro i tok hi hA h n hn
    obtain ⟨n, rfl⟩ : ∃ z, n = z + 1 := ⟨n - 1, by omega⟩
    have m := (hA c (by omega)).2
    have b7 := (hA c (by omega)).1
    have m1 : cnt c = nI (F c).1 := m.1
    have b7' : (F c).1 ≤ 7 := b7
    have ht : ∀ f, f < 8 → tok (c * 56 + i * 8 + f) = (F c).2 i f := fun f hf => (m.2 i (show i < (F c).1 by omega) f hf).trans (by rw [qt_ps_i])
    have hb : c * 56 + i * 8 + 8 ≤ 4088 := by omega
    simp (disch := omega) only [wX_moveTo_180, m1, nI_add, pk_mul, qa_a1, qa_a2, qa_a3, qa_a4, qa_a5, qa_a6, qa_a7, qa_a8, qa_a56, qa_m6, qa_m7, qa_m8, qa_m56, qa_l2, qa_l37, qa_l2016, qa_in, nI_clamp, forall_eq, true_and, qa_cl0, nI_leI, nI_ltI, nI_eq, not_false_eq_true, pk_sub, qa_s1, qa_s2, qa_s8]
    refine br_f (by omega) ?_
    refine qx_base ?_
    refine qx_live hb ht (fun l => ?_) (fun l => ?_)
    · refine br_f (by decide) ?_
      refine qx_mov hb (qt_Tf_r ht) (fun tok' T' => ?_)
      refine ih (i + 1) tok' (by omega) (qt_AX_e (qt_AX_t hA (by omega) T') (fun s _ => qt_ps_t ?_ s)) h n (by omega)
      unfold qt_mt
      rw [if_pos l]
    · refine br_t (by decide) ?_
      exact ih (i + 1) tok (by omega) (qt_AX_e hA (fun s _ => qt_ps_d l s)) h n (by omega)
theorem qx_mov170 {post : Int32 → SX → Prop} {F : Nat → qt_Fm} {q : Nat} {dr dc : Int32} (hq : 37 ≤ q) : ∀ (d c : Nat) (tok : Nat → Int32), c + d = 36 → qt_AX q tok cnt (qt_ps (qt_mov st sl sb sr dr dc) F c 0) → (∀ tok', qt_AX q tok' cnt (qt_ps (qt_mov st sl sb sr dr dc) F 36 0) → post 0 (nr, nc, st, sl, sb, sr, 1, stl, oe, oh, ow, tok', cnt, stt, val, own, rch, nds, sv, se, out)) → ∀ n, d < n → wX_moveTo_170 post dr dc n (nI c) nr nc st sl sb sr sta stl oe oh ow tok cnt stt val own rch nds sv se out := by
  intro d
  induction d with
  | zero =>
    intro c tok hc hA h n hn
    obtain ⟨n, rfl⟩ : ∃ z, n = z + 1 := ⟨n - 1, by omega⟩
    obtain rfl : c = 36 := by omega
    simp (disch := omega) only [wX_moveTo_170, nI_add, pk_mul, qa_a1, qa_a2, qa_a3, qa_a4, qa_a5, qa_a6, qa_a7, qa_a8, qa_a56, qa_m6, qa_m7, qa_m8, qa_m56, qa_l2, qa_l37, qa_l2016, qa_in, nI_clamp, forall_eq, true_and, qa_cl0, nI_leI, nI_ltI, nI_eq, not_false_eq_true, pk_sub, qa_s1, qa_s2, qa_s8]
    exact br_t (by decide) (h _ hA)
  | succ d ih =>
    intro c tok hc hA h n hn
    obtain ⟨n, rfl⟩ : ∃ z, n = z + 1 := ⟨n - 1, by omega⟩
    simp (disch := omega) only [wX_moveTo_170, qa_lel36, nI_add, pk_mul, qa_a1, qa_a2, qa_a3, qa_a4, qa_a5, qa_a6, qa_a7, qa_a8, qa_a56, qa_m6, qa_m7, qa_m8, qa_m56, qa_l2, qa_l37, qa_l2016, qa_in, nI_clamp, forall_eq, true_and, qa_cl0, nI_leI, nI_ltI, nI_eq, not_false_eq_true, pk_sub, qa_s1, qa_s2, qa_s8]
    refine br_f (by omega) ?_
    have b7 : (F c).1 ≤ 7 := (hA c (by omega)).1
    exact ⟨8, qx_mov180  (by omega) hq (F c).1 0 tok (Nat.zero_add _) hA (fun tok' hA' => ih (c + 1) tok' (by omega) hA' h n (by omega)) 8 (by omega)⟩
theorem qx_cf9 {post : SX → Prop} {F : Nat → qt_Fm} {q c R C : Nat} {dr dc : Int32} (hR : R < 100) (hC : C < 100) (hc : c < 36) (hq : 37 ≤ q) : ∀ (d i : Nat) (tok : Nat → Int32), i + d = (F c).1 → qt_AX q tok cnt (qt_pc (qt_shf R C dr dc) F c i) →
    (∀ tok', qt_AX q tok' cnt (qt_ut F c (qt_mp (qt_shf R C dr dc) (F c))) → post (nI R, nI C, st, sl, sb, sr, sta, stl, oe, oh, ow, tok', cnt, stt, val, own, rch, nds, sv, se, out)) → ∀ n, d < n → wX_copyFormula_9 post (nI c) dr dc n (nI i) (nI R) (nI C) st sl sb sr sta stl oe oh ow tok cnt stt val own rch nds sv se out := by
  intro d
  induction d with
  | zero =>
    intro i tok hi hA h n hn
    obtain ⟨n, rfl⟩ : ∃ z, n = z + 1 := ⟨n - 1, by omega⟩
    have m := hA c (by omega)
    have m1 : cnt c = nI (F c).1 := m.2.1
    have b7' : (F c).1 ≤ 7 := m.1
    simp (disch := omega) only [wX_copyFormula_9, m1, nI_add, pk_mul, qa_a1, qa_a2, qa_a3, qa_a4, qa_a5, qa_a6, qa_a7, qa_a8, qa_a56, qa_m6, qa_m7, qa_m8, qa_m56, qa_l2, qa_l37, qa_l2016, qa_in, nI_clamp, forall_eq, true_and, qa_cl0, nI_leI, nI_ltI, nI_eq, not_false_eq_true, pk_sub, qa_s1, qa_s2, qa_s8]
    exact br_t (by omega) (h _ (qt_AX_e hA (fun s _ => qt_pc_n (by omega) s)))
  | succ d ih =>
    intro i tok hi hA h n hn
    obtain ⟨n, rfl⟩ : ∃ z, n = z + 1 := ⟨n - 1, by omega⟩
    have m := hA c (by omega)
    have m1 : cnt c = nI (F c).1 := m.2.1
    have b7' : (F c).1 ≤ 7 := m.1
    have ht : ∀ f, f < 8 → tok (c * 56 + i * 8 + f) = (F c).2 i f := fun f hf => (m.2.2 i (show i < (F c).1 by omega) f hf).trans (by rw [qt_pc_i])
    have hb : c * 56 + i * 8 + 8 ≤ 4088 := by omega
    simp (disch := omega) only [wX_copyFormula_9, m1, nI_add, pk_mul, qa_a1, qa_a2, qa_a3, qa_a4, qa_a5, qa_a6, qa_a7, qa_a8, qa_a56, qa_m6, qa_m7, qa_m8, qa_m56, qa_l2, qa_l37, qa_l2016, qa_in, nI_clamp, forall_eq, true_and, qa_cl0, nI_leI, nI_ltI, nI_eq, not_false_eq_true, pk_sub, qa_s1, qa_s2, qa_s8]
    refine br_f (by omega) ?_
    refine qx_base ?_
    refine qx_live hb ht (fun l => ?_) (fun l => ?_)
    · refine br_f (by decide) ?_
      refine qx_shf hR hC hb (qt_Tf_r ht) (fun tok' T' => ?_)
      refine ih (i + 1) tok' (by omega) (qt_AX_e (qt_AX_t hA (by omega) T') (fun s _ => qt_pc_t ?_ s)) h n (by omega)
      unfold qt_mt
      rw [if_pos l]
    · refine br_t (by decide) ?_
      exact ih (i + 1) tok (by omega) (qt_AX_e hA (fun s hs => qt_pc_d (fun z => l z.2) s)) h n (by omega)
theorem qt_pc_mp {g : (Nat → Int32) → Nat → Int32} {F : Nat → qt_Fm} {c s' : Nat} {f : qt_Fm} : qt_ut (qt_ut F c f) c (qt_mp g (qt_ut F c f c)) s' = qt_ut F c (qt_mp g f) s' := by
  by_cases z : s' = c
  · subst z
    rw [qt_us, qt_us, qt_us]
  · rw [qt_un z, qt_un z, qt_un z]
theorem qx_cf {post : SX → Prop} {F : Nat → qt_Fm} {q s c R C : Nat} {dr dc : Int32} (hR : R < 100) (hC : C < 100) (hc : c < 36) (hs : s < q) (hq : 37 ≤ q) (hq' : q ≤ 73) (e : s ≠ c) (hA : qt_AX q tok cnt F)
    (h : ∀ tok' cnt', qt_AX q tok' cnt' (qt_ut F c (qt_mp (qt_shf R C dr dc) (F s))) → post (nI R, nI C, st, sl, sb, sr, sta, stl, oe, oh, ow, tok', cnt', stt, val, own, rch, nds, sv, se, out)) : wpX_copyFormula post (nI R, nI C, st, sl, sb, sr, sta, stl, oe, oh, ow, tok, cnt, stt, val, own, rch, nds, sv, se, out) (nI s) (nI c) dr dc := by
  unfold wpX_copyFormula
  refine qx_csA hq' hs (by omega) e hA (fun tok' cnt' hA' => ?_)
  have b7 : (F s).1 ≤ 7 := (hA s hs).1
  exact ⟨8, qx_cf9 (F := qt_ut F c (F s)) hR hC hc hq (F s).1 0 _ (by rw [qt_us, Nat.zero_add]) (qt_AX_e hA' (fun s' _ => qt_pc_0 s')) (fun tok'' hA'' => h _ _ (qt_AX_e hA'' (fun s' _ => qt_fe_e qt_pc_mp))) 8 (by omega)⟩
end
end
section
/-! the reference's small methods -/
theorem qt_yv_lo {t : Nat → Int32} {f : Nat} (h : f < 5) : qt_yv t f = t f := by unfold qt_yv; rw [if_neg (by omega)]
theorem qt_yv5 {t : Nat → Int32} : qt_yv t 5 = qt_bot t := by
  unfold qt_yv qt_bot
  by_cases e : t 0 = 2
  · rw [if_pos ⟨e, by decide⟩, if_pos e]
  · rw [if_neg (fun z => e z.1), if_neg e]
theorem qt_yv6 {t : Nat → Int32} : qt_yv t 6 = qt_rgt t := by
  unfold qt_yv qt_rgt
  by_cases e : t 0 = 2
  · rw [if_pos ⟨e, by decide⟩, if_pos e]
  · rw [if_neg (fun z => e z.1), if_neg e]
/-- cell k lies in the rectangle -/
abbrev qs_inR (k : Nat) (a b c d : Int32) : Prop := ¬ nI (k / 6) < a ∧ ¬ c < nI (k / 6) ∧ ¬ nI (k % 6) < b ∧ ¬ d < nI (k % 6)
/-- token t names cell k -/
abbrev qs_nm (t : Nat → Int32) (k : Nat) : Prop := qt_lv t ∧ qs_inR k (t 2) (t 3) (qt_bot t) (qt_rgt t)
abbrev qt_ar (f : qt_Fm) : Prop := 0 < f.1 ∧ (qt_tak (f.2 (f.1 - 1)) = 1 ∨ qt_tak (f.2 (f.1 - 1)) = 3)
/-- the selection holds (p, q) -/
abbrev qt_sh (l : Nat → Int32) (p q : Int32) : Prop := ¬ p < l 0 ∧ ¬ l 2 < p ∧ ¬ q < l 1 ∧ ¬ l 3 < q
/-- the selection a b c d put at p q lies in the sheet -/
def qt_ft (R C a b c d : Nat) (p q : Int32) : Prop := ∃ r k : Nat, p = nI r ∧ q = nI k ∧ r + (c - a) < R ∧ k + (d - b) < C
section
variable {yr yc yh yw : Int32} {ycn ytk ysl ysd yst yva yow yli yV yE : Nat → Int32}
theorem qy_inS {R C : Nat} (hR : R < 100) (hC : C < 100) {post : Int32 → Prop} {p q : Int32} (h1 : qt_in R C p q → post 1) (h0 : ¬ qt_in R C p q → post 0) : wpY_inSheet post (nI R, nI C, yh, yw, ycn, ytk, ysl, ysd, yst, yva, yow, yli, yV, yE) p q := by
  by_cases a : p < 0
  · refine br_t a (h0 ?_)
    rintro ⟨r, c, hr, hc, e, -⟩
    rw [e] at a
    exact nI_pos (by omega) a
  obtain ⟨r, hr, rfl⟩ := nI_of a
  refine br_f a ?_
  by_cases b : nI R ≤ nI r
  · refine br_t b (h0 ?_)
    rintro ⟨r2, c, hr2, hc, e, -⟩
    rw [nI_leI (by omega) hr] at b
    rw [nI_eq hr (by omega)] at e
    omega
  refine br_f b ?_
  by_cases a2 : q < 0
  · refine br_t a2 (h0 ?_)
    rintro ⟨r, c, hr, hc, -, e⟩
    rw [e] at a2
    exact nI_pos (by omega) a2
  obtain ⟨c, hc, rfl⟩ := nI_of a2
  refine br_f a2 ?_
  by_cases b2 : nI C ≤ nI c
  · refine br_t b2 (h0 ?_)
    rintro ⟨r2, c2, hr2, hc2, -, e⟩
    rw [nI_leI (by omega) hc] at b2
    rw [nI_eq hc (by omega)] at e
    omega
  refine br_f b2 (h1 ⟨r, c, ?_, ?_, rfl, rfl⟩)
  · rw [nI_leI (by omega) hr] at b; omega
  · rw [nI_leI (by omega) hc] at b2; omega
theorem qy_liv {post : Int32 → Prop} {s i n : Nat} {t : Nat → Int32} (hc : ycn s = nI n) (ht : i < n → ∀ f, f < 8 → ytk (s * 56 + i * 8 + f) = t f) (hs : s < 73) (hi : i < 7) (hn : n ≤ 7) (h1 : i < n → qt_lv t → post 1) (h0 : ¬ (i < n ∧ qt_lv t) → post 0) : wpY_live post (yr, yc, yh, yw, ycn, ytk, ysl, ysd, yst, yva, yow, yli, yV, yE) (nI (s * 56 + i * 8)) := by
  have e1 : (s * 56 + i * 8) / 56 = s := by omega
  have e2 : (s * 56 + i * 8 - s * 56) / 8 = i := by omega
  by_cases hin : i < n
  · have k0 : ytk (s * 56 + i * 8) = t 0 := ht hin 0 (by decide)
    have k1 : ytk (s * 56 + i * 8 + 1) = t 1 := ht hin 1 (by decide)
    simp (disch := omega) only [wpY_live, qa_n56, qa_n8, qa_div56, qa_div8, e1, e2, hc, k0, k1, nI_add, pk_mul, qa_a1, qa_a2, qa_a3, qa_a4, qa_a5, qa_a6, qa_a7, qa_a8, qa_a56, qa_m6, qa_m7, qa_m8, qa_m56, qa_l2, qa_l37, qa_l2016, qa_in, nI_clamp, forall_eq, true_and, qa_cl0, nI_leI, nI_ltI, nI_eq, not_false_eq_true, pk_sub, qa_s1, qa_s2, qa_s8]
    exact br_f (by omega) (br_c (fun a => h0 (fun z => z.2.1 a)) (fun a => br_c (fun c => h0 (fun z => z.2.2.1 c)) (fun c => br_c (fun d => h1 hin ⟨a, c, d⟩) (fun d => h0 (fun z => d z.2.2.2)))))
  · simp (disch := omega) only [wpY_live, qa_n56, qa_n8, qa_div56, qa_div8, e1, e2, hc, nI_add, pk_mul, qa_a1, qa_a2, qa_a3, qa_a4, qa_a5, qa_a6, qa_a7, qa_a8, qa_a56, qa_m6, qa_m7, qa_m8, qa_m56, qa_l2, qa_l37, qa_l2016, qa_in, nI_clamp, forall_eq, true_and, qa_cl0, nI_leI, nI_ltI, nI_eq, not_false_eq_true, pk_sub, qa_s1, qa_s2, qa_s8]
    exact br_t (by omega) (h0 (fun z => hin z.1))
theorem qt_lv_y {t : Nat → Int32} : qt_lv (qt_yv t) ↔ qt_lv t := by
  unfold qt_lv
  rw [qt_yv_lo (by decide), qt_yv_lo (by decide)]
theorem qy_live {post : Int32 → Prop} {s i n : Nat} {t : Nat → Nat → Int32} (m : qt_MY ytk ycn s n t) (hs : s < 73) (hi : i < 7) (hn : n ≤ 7) (h1 : i < n → qt_lv (t i) → post 1) (h0 : ¬ (i < n ∧ qt_lv (t i)) → post 0) : wpY_live post (yr, yc, yh, yw, ycn, ytk, ysl, ysd, yst, yva, yow, yli, yV, yE) (nI (s * 56 + i * 8)) :=
  qy_liv (t := qt_yv (t i)) m.1 (fun hin => m.2 i hin) hs hi hn (fun a l => h1 a (qt_lv_y.mp l)) (fun z => h0 (fun y => z ⟨y.1, qt_lv_y.mpr y.2⟩))
theorem qy_in {post : Int32 → Prop} {k : Nat} {a b c d : Int32} (hk : k < 1000) (h1 : qs_inR k a b c d → post 1) (h0 : ¬ qs_inR k a b c d → post 0) : wpY_in post (yr, yc, yh, yw, ycn, ytk, ysl, ysd, yst, yva, yow, yli, yV, yE) (nI k) a b c d := by
  have e : k - k / 6 * 6 = k % 6 := by omega
  simp (disch := omega) only [wpY_in, qa_n6, qa_div6, e, nI_add, pk_mul, qa_a1, qa_a2, qa_a3, qa_a4, qa_a5, qa_a6, qa_a7, qa_a8, qa_a56, qa_m6, qa_m7, qa_m8, qa_m56, qa_l2, qa_l37, qa_l2016, qa_in, nI_clamp, forall_eq, true_and, qa_cl0, nI_leI, nI_ltI, nI_eq, not_false_eq_true, pk_sub, qa_s1, qa_s2, qa_s8]
  exact br_c (fun x => h0 (fun z => z.1 x)) (fun x => br_c (fun y => h0 (fun z => z.2.1 y)) (fun y => br_c (fun v => h0 (fun z => z.2.2.1 v)) (fun v => br_c (fun w => h0 (fun z => z.2.2.2 w)) (fun w => h1 ⟨x, y, v, w⟩))))
theorem qy_names {post : Int32 → Prop} {s i n k : Nat} {t : Nat → Nat → Int32} (m : qt_MY ytk ycn s n t) (hs : s < 73) (hi : i < 7) (hn : n ≤ 7) (hk : k < 1000) (h1 : i < n → qs_nm (t i) k → post 1) (h0 : ¬ (i < n ∧ qs_nm (t i) k) → post 0) : wpY_names post (yr, yc, yh, yw, ycn, ytk, ysl, ysd, yst, yva, yow, yli, yV, yE) (nI (s * 56 + i * 8)) (nI k) := by
  simp (disch := omega) only [wpY_names, nI_add, pk_mul, qa_a1, qa_a2, qa_a3, qa_a4, qa_a5, qa_a6, qa_a7, qa_a8, qa_a56, qa_m6, qa_m7, qa_m8, qa_m56, qa_l2, qa_l37, qa_l2016, qa_in, nI_clamp, forall_eq, true_and, qa_cl0, nI_leI, nI_ltI, nI_eq, not_false_eq_true, pk_sub, qa_s1, qa_s2, qa_s8]
  refine qy_live m hs hi hn (fun hin l => ?_) (fun l => ?_)
  · have k2 : ytk (s * 56 + i * 8 + 2) = t i 2 := (m.2 i hin 2 (by decide)).trans (qt_yv_lo (by decide))
    have k3 : ytk (s * 56 + i * 8 + 3) = t i 3 := (m.2 i hin 3 (by decide)).trans (qt_yv_lo (by decide))
    have k5 : ytk (s * 56 + i * 8 + 5) = qt_bot (t i) := (m.2 i hin 5 (by decide)).trans qt_yv5
    have k6 : ytk (s * 56 + i * 8 + 6) = qt_rgt (t i) := (m.2 i hin 6 (by decide)).trans qt_yv6
    refine br_f (by decide) ?_
    simp only [k2, k3, k5, k6]
    exact qy_in hk (fun z => br_f (by decide) (h1 hin ⟨l, z⟩)) (fun z => br_t (by decide) (h0 (fun y => z y.2.2)))
  · exact br_t (by decide) (h0 (fun z => l ⟨z.1, z.2.1⟩))
theorem qy_arr {post : Int32 → Prop} {s : Nat} {f : qt_Fm} (m : qt_MY ytk ycn s f.1 f.2) (hs : s < 73) (hn : f.1 ≤ 7) (h1 : qt_ar f → post 1) (h0 : ¬ qt_ar f → post 0) : wpY_isArray post (yr, yc, yh, yw, ycn, ytk, ysl, ysd, yst, yva, yow, yli, yV, yE) (nI s) := by
  obtain ⟨n, t⟩ := f
  by_cases hz : n = 0
  · subst hz
    have m1 : ycn s = nI 0 := m.1
    unfold wpY_isArray
    refine ⟨vp_in_nI hs (by decide), nm_e ⟨vp_in_nI hs (by decide), ?_⟩⟩
    rw [nI_clamp (by omega), m1]
    exact br_t (by decide) (h0 (fun z => absurd z.1 (Nat.lt_irrefl 0)))
  · have hn' : n ≤ 7 := hn
    have m1 : ycn s = nI n := m.1
    have e : s * 56 + n * 8 - 8 = s * 56 + (n - 1) * 8 := by omega
    have k0 : ytk (s * 56 + (n - 1) * 8) = t (n - 1) 0 := (m.2 (n - 1) (show n - 1 < n by omega) 0 (by decide)).trans (qt_yv_lo (by decide))
    have k1 : ytk (s * 56 + (n - 1) * 8 + 1) = t (n - 1) 1 := (m.2 (n - 1) (show n - 1 < n by omega) 1 (by decide)).trans (qt_yv_lo (by decide))
    simp (disch := omega) only [wpY_isArray, m1, qa_ler0, e, k0, k1, nI_add, pk_mul, qa_a1, qa_a2, qa_a3, qa_a4, qa_a5, qa_a6, qa_a7, qa_a8, qa_a56, qa_m6, qa_m7, qa_m8, qa_m56, qa_l2, qa_l37, qa_l2016, qa_in, nI_clamp, forall_eq, true_and, qa_cl0, nI_leI, nI_ltI, nI_eq, not_false_eq_true, pk_sub, qa_s1, qa_s2, qa_s8]
    refine br_f (by omega) ?_
    have h1' : qt_tak (t (n - 1)) = 1 ∨ qt_tak (t (n - 1)) = 3 → post 1 := fun z => h1 ⟨by show 0 < n; omega, z⟩
    have h0' : ¬ (qt_tak (t (n - 1)) = 1 ∨ qt_tak (t (n - 1)) = 3) → post 0 := fun z => h0 (fun y => z y.2)
    unfold qt_tak at h1' h0'
    by_cases e6 : t (n - 1) 0 = 6
    · rw [if_pos e6] at h1'
      exact br_t e6 (h1' (Or.inl rfl))
    · rw [if_neg e6] at h1' h0'
      refine br_f e6 ?_
      by_cases e3 : t (n - 1) 0 = 3
      · rw [if_pos e3] at h1' h0'
        refine br_t e3 ?_
        by_cases e5 : t (n - 1) 1 = 5
        · rw [if_pos e5] at h1'
          exact br_t e5 (h1' (Or.inr rfl))
        · rw [if_neg e5] at h0'
          exact br_f e5 (h0' (by decide))
      · rw [if_neg e3] at h0'
        exact br_f e3 (h0' (by decide))
theorem qy_tak {post : Int32 → Prop} {b : Nat} {t : Nat → Int32} (hb : b + 8 ≤ 4088) (k0 : ytk b = t 0) (k1 : ytk (b + 1) = t 1) (h : post (nI (qt_tak t))) : wpY_takes post (yr, yc, yh, yw, ycn, ytk, ysl, ysd, yst, yva, yow, yli, yV, yE) (nI b) := by
  simp (disch := omega) only [wpY_takes, k0, k1, nI_add, pk_mul, qa_a1, qa_a2, qa_a3, qa_a4, qa_a5, qa_a6, qa_a7, qa_a8, qa_a56, qa_m6, qa_m7, qa_m8, qa_m56, qa_l2, qa_l37, qa_l2016, qa_in, nI_clamp, forall_eq, true_and, qa_cl0, nI_leI, nI_ltI, nI_eq, not_false_eq_true, pk_sub, qa_s1, qa_s2, qa_s8]
  unfold qt_tak at h
  by_cases e6 : t 0 = 6
  · rw [if_pos e6] at h
    exact br_t e6 h
  · rw [if_neg e6] at h
    refine br_f e6 ?_
    by_cases e3 : t 0 = 3
    · rw [if_pos e3] at h
      refine br_t e3 ?_
      by_cases e5 : t 1 = 5
      · rw [if_pos e5] at h
        exact br_t e5 h
      · rw [if_neg e5] at h
        exact br_f e5 h
    · rw [if_neg e3] at h
      exact br_f e3 h
theorem qy_size {post : Int32 → Prop} {R C ax : Nat} (ha : ax < 2) (h : post (nI (qt_sz R C ax))) : wpY_size post (nI R, nI C, yh, yw, ycn, ytk, ysl, ysd, yst, yva, yow, yli, yV, yE) (nI ax) := by
  match ax, ha with
  | 0, _ => exact br_t (by decide) h
  | 1, _ => exact br_f (by decide) (br_t (by decide) h)
theorem qy_line {post : Int32 → Prop} {s ax : Nat} (ha : ax < 2) (hs : s < 1000) (h : post (nI (qt_ln ax s))) : wpY_line post (yr, yc, yh, yw, ycn, ytk, ysl, ysd, yst, yva, yow, yli, yV, yE) (nI s) (nI ax) := by
  match ax, ha with
  | 0, _ =>
    refine br_t (by decide) ⟨qa_n6, ?_⟩
    rw [qa_div6 (by omega)]; exact h
  | 1, _ =>
    refine br_f (by decide) ⟨qa_n6, ?_⟩
    rw [qa_rem6 (by omega)]; exact h
theorem qy_sel {post : Int32 → Prop} {p q : Int32} (h1 : qt_sh ysl p q → post 1) (h0 : ¬ qt_sh ysl p q → post 0) : wpY_selHas post (yr, yc, yh, yw, ycn, ytk, ysl, ysd, yst, yva, yow, yli, yV, yE) p q :=
  br_c (fun x => h0 (fun z => z.1 x)) (fun x => br_c (fun y => h0 (fun z => z.2.1 y)) (fun y => br_c (fun v => h0 (fun z => z.2.2.1 v)) (fun v => br_c (fun w => h0 (fun z => z.2.2.2 w)) (fun w => h1 ⟨x, y, v, w⟩))))
theorem qy_fits {post : Int32 → Prop} {R C a b c d : Nat} {p q : Int32} (hR : R < 100) (hC : C < 100) (hac : a ≤ c) (hbd : b ≤ d) (hc : c < 100) (hd : d < 100) (s0 : ysl 0 = nI a) (s1 : ysl 1 = nI b) (s2 : ysl 2 = nI c) (s3 : ysl 3 = nI d)
    (h1 : qt_ft R C a b c d p q → post 1) (h0 : ¬ qt_ft R C a b c d p q → post 0) : wpY_fits post (nI R, nI C, yh, yw, ycn, ytk, ysl, ysd, yst, yva, yow, yli, yV, yE) p q := by
  unfold wpY_fits
  refine qy_inS hR hC (fun i => ?_) (fun i => ?_)
  · refine br_f (by decide) ?_
    obtain ⟨r, k, hr, hk, rfl, rfl⟩ := i
    rw [s0, s1, s2, s3, nI_add, nI_add, pk_sub (by omega), pk_sub (by omega), nI_leI (by omega) (by omega), nI_leI (by omega) (by omega)]
    by_cases x : R ≤ r + c - a
    · refine br_t x (h0 ?_)
      rintro ⟨r', k', e, -, z, -⟩
      rw [nI_eq (by omega) (by omega)] at e
      omega
    · refine br_f x ?_
      by_cases y : C ≤ k + d - b
      · refine br_t y (h0 ?_)
        rintro ⟨r', k', -, e, -, z⟩
        rw [nI_eq (by omega) (by omega)] at e
        omega
      · exact br_f y (h1 ⟨r, k, rfl, rfl, by omega, by omega⟩)
  · refine br_t (by decide) (h0 ?_)
    rintro ⟨r, k, e1, e2, z1, z2⟩
    exact i ⟨r, k, by omega, by omega, e1, e2⟩
variable {tok0 : Nat → Int32} {b : Nat} {t : Nat → Int32}
theorem qy_put3 {post : SY → Prop} {k v : Int32} (hb : b + 8 ≤ 4088) : ∀ (d j : Nat) (ytk t : Nat → Int32), j + d = 8 → (∀ f, f < j → t f = 0) → qt_Tf tok0 ytk b t → (∀ tok', qt_Tf tok0 tok' b (qt_put k v) → post (yr, yc, yh, yw, ycn, tok', ysl, ysd, yst, yva, yow, yli, yV, yE)) → ∀ n, d < n → wY_put_3 post (nI b) k v yr yc yh yw n (nI j) ycn ytk ysl ysd yst yva yow yli yV yE := by
  intro d
  induction d with
  | zero =>
    intro j ytk t hj ht hT h n hn
    obtain ⟨n, rfl⟩ : ∃ m, n = m + 1 := ⟨n - 1, by omega⟩
    simp (disch := omega) only [wY_put_3, qa_lel8, nI_add, pk_mul, qa_a1, qa_a2, qa_a3, qa_a4, qa_a5, qa_a6, qa_a7, qa_a8, qa_a56, qa_m6, qa_m7, qa_m8, qa_m56, qa_l2, qa_l37, qa_l2016, qa_in, nI_clamp, forall_eq, true_and, qa_cl0, nI_leI, nI_ltI, nI_eq, not_false_eq_true, pk_sub, qa_s1, qa_s2, qa_s8]
    refine br_t (by omega) (h _ (qt_Tf_c (qt_Tf_u (qt_Tf_u (k := 0) hT (by decide) k) (k := 1) (by decide) v) ?_))
    intro f hf
    unfold qt_put
    by_cases e1 : f = 1
    · subst e1; rfl
    · rw [pk_un e1]
      by_cases e0 : f = 0
      · subst e0; rfl
      · rw [pk_un e0, if_neg e0, if_neg e1]; exact ht f (by omega)
  | succ d ih =>
    intro j ytk t hj ht hT h n hn
    obtain ⟨n, rfl⟩ : ∃ m, n = m + 1 := ⟨n - 1, by omega⟩
    simp (disch := omega) only [wY_put_3, qa_lel8, nI_add, pk_mul, qa_a1, qa_a2, qa_a3, qa_a4, qa_a5, qa_a6, qa_a7, qa_a8, qa_a56, qa_m6, qa_m7, qa_m8, qa_m56, qa_l2, qa_l37, qa_l2016, qa_in, nI_clamp, forall_eq, true_and, qa_cl0, nI_leI, nI_ltI, nI_eq, not_false_eq_true, pk_sub, qa_s1, qa_s2, qa_s8]
    refine br_f (by omega) (ih (j + 1) _ _ (by omega) ?_ (qt_Tf_u hT (by omega) 0) h n (by omega))
    intro f hf
    by_cases e : f = j
    · subst e
      rw [pk_us]
    · rw [pk_un e]; exact ht f (by omega)
theorem qy_put {post : SY → Prop} {k v : Int32} (hb : b + 8 ≤ 4088) (hT : qt_Tf tok0 ytk b t) (h : ∀ tok', qt_Tf tok0 tok' b (qt_put k v) → post (yr, yc, yh, yw, ycn, tok', ysl, ysd, yst, yva, yow, yli, yV, yE)) : wpY_put post (yr, yc, yh, yw, ycn, ytk, ysl, ysd, yst, yva, yow, yli, yV, yE) (nI b) k v := by
  unfold wpY_put
  exact ⟨9, qy_put3 hb 8 0 _ _ (by decide) (fun f hf => absurd hf (Nat.not_lt_zero f)) hT h 9 (by decide)⟩
theorem qy_lose {post : SY → Prop} (hb : b + 8 ≤ 4088) (hT : qt_Tf tok0 ytk b t) (h : ∀ tok', qt_Tf tok0 tok' b (qt_put (t 0) 1) → post (yr, yc, yh, yw, ycn, tok', ysl, ysd, yst, yva, yow, yli, yV, yE)) : wpY_lose post (yr, yc, yh, yw, ycn, ytk, ysl, ysd, yst, yva, yow, yli, yV, yE) (nI b) := by
  have r0 : ytk b = t 0 := hT.1 0 (by decide)
  simp (disch := omega) only [wpY_lose, r0, nI_add, pk_mul, qa_a1, qa_a2, qa_a3, qa_a4, qa_a5, qa_a6, qa_a7, qa_a8, qa_a56, qa_m6, qa_m7, qa_m8, qa_m56, qa_l2, qa_l37, qa_l2016, qa_in, nI_clamp, forall_eq, true_and, qa_cl0, nI_leI, nI_ltI, nI_eq, not_false_eq_true, pk_sub, qa_s1, qa_s2, qa_s8]
  exact qy_put hb hT (fun tok' T' => h _ T')
end
end
section
/-! the reference: order, copySlot, save, the loops over all tokens, copyCell -/
def qt_yo (ax : Nat) (t : Nat → Int32) : Nat → Int32 :=
  if t (5 + ax) < t (2 + ax) then upd (upd (upd (upd t (2 + ax) (t (5 + ax))) (5 + ax) (t (2 + ax))) 4 (t 4 - (t 4 &&& nI (ax + 1)) + (t 7 &&& nI (ax + 1)))) 7 (t 7 - (t 7 &&& nI (ax + 1)) + (t 4 &&& nI (ax + 1))) else t
def qt_gk (k : Nat) (at' : Int32) (t : Nat → Int32) : Nat → Int32 := if t k < at' then t else upd t k (t k + 1)
def qt_gy (ax : Nat) (at' : Int32) (t : Nat → Int32) : Nat → Int32 := qt_gk (5 + ax) at' (qt_gk (2 + ax) at' t)
def qt_dy (ax : Nat) (at' : Int32) (t : Nat → Int32) : Nat → Int32 :=
  if t (2 + ax) = at' ∧ t (5 + ax) = at' then qt_put (t 0) 1
  else if t (5 + ax) < at' then (if t (2 + ax) ≤ at' then t else upd t (2 + ax) (t (2 + ax) - 1))
  else upd (if t (2 + ax) ≤ at' then t else upd t (2 + ax) (t (2 + ax) - 1)) (5 + ax) (t (5 + ax) - 1)
def qt_my (l : Nat → Int32) (dr dc : Int32) (t : Nat → Int32) : Nat → Int32 :=
  if qt_sh l (t 2) (t 3) ∧ qt_sh l (t 5) (t 6) then upd (upd (upd (upd t 2 (t 2 + dr)) 3 (t 3 + dc)) 5 (t 5 + dr)) 6 (t 6 + dc)
  else if qt_sh l (t 2 - dr) (t 3 - dc) ∧ qt_sh l (t 5 - dr) (t 6 - dc) then qt_put (t 0) 1 else t
/-- one corner's row, column, shifted where its mark has no bit -/
def qt_cr (k q : Nat) (d bit : Int32) (t : Nat → Int32) : Nat → Int32 := if t (k + 2) &&& bit = 0 then upd t q (t q + d) else t
def qt_cc (dr dc : Int32) (t : Nat → Int32) : Nat → Int32 := qt_cr 5 6 dc 2 (qt_cr 2 3 dc 2 (qt_cr 5 5 dr 1 (qt_cr 2 2 dr 1 t)))
noncomputable def qt_cy (R C : Nat) (dr dc : Int32) (t : Nat → Int32) : Nat → Int32 :=
  if qa_b (qt_in R C (qt_cc dr dc t 2) (qt_cc dr dc t 3) ∧ qt_in R C (qt_cc dr dc t 5) (qt_cc dr dc t 6)) then qt_yo 1 (qt_yo 0 (qt_cc dr dc t)) else qt_put (t 0) 1
/-- the state of the reference's pass over all tokens: token m next -/
def qt_pm (g : (Nat → Int32) → Nat → Int32) (F : Nat → qt_Fm) (m : Nat) : Nat → qt_Fm := fun s => ((F s).1, fun j => if s * 7 + j < m then qt_mt g ((F s).2 j) else (F s).2 j)
theorem qt_pm_t {g : (Nat → Int32) → Nat → Int32} {F : Nat → qt_Fm} {c i : Nat} {x : Nat → Int32} (hi : i < 7) (hx : i < (F c).1 → x = qt_mt g ((F c).2 i)) (s : Nat) (hb : (F s).1 ≤ 7) : qt_fe (qt_ut (qt_pm g F (c * 7 + i)) c ((qt_pm g F (c * 7 + i) c).1, qt_ut (qt_pm g F (c * 7 + i) c).2 i x) s) (qt_pm g F (c * 7 + i + 1) s) := by
  by_cases e : s = c
  · subst e
    rw [qt_us]
    refine ⟨rfl, fun j hj => ?_⟩
    have hj' : j < (F s).1 := hj
    show qt_ut (qt_pm g F (s * 7 + i) s).2 i x j = (qt_pm g F (s * 7 + i + 1) s).2 j
    by_cases d : j = i
    · subst d
      rw [qt_us]
      show x = (if _ then _ else _)
      rw [if_pos (by omega), hx hj']
    · rw [qt_un d]
      show (if _ then _ else _) = (if _ then _ else _)
      by_cases k : s * 7 + j < s * 7 + i
      · rw [if_pos k, if_pos (by omega)]
      · rw [if_neg k, if_neg (by omega)]
  · rw [qt_un e]
    refine ⟨rfl, fun j hj => ?_⟩
    have hj' : j < (F s).1 := hj
    show (if _ then _ else _) = (if _ then _ else _)
    by_cases k : s * 7 + j < c * 7 + i
    · rw [if_pos k, if_pos (by omega)]
    · rw [if_neg k, if_neg (by omega)]
theorem qt_pm_d {g : (Nat → Int32) → Nat → Int32} {F : Nat → qt_Fm} {c i : Nat} (hi : i < 7) (hx : ¬ (i < (F c).1 ∧ qt_lv ((F c).2 i))) (s : Nat) (hb : (F s).1 ≤ 7) : qt_fe (qt_pm g F (c * 7 + i) s) (qt_pm g F (c * 7 + i + 1) s) := by
  refine ⟨rfl, fun j hj => ?_⟩
  have hj' : j < (F s).1 := hj
  show (if _ then _ else _) = (if _ then _ else _)
  by_cases k : s * 7 + j < c * 7 + i
  · rw [if_pos k, if_pos (by omega)]
  · rw [if_neg k]
    by_cases k2 : s * 7 + j < c * 7 + i + 1
    · rw [if_pos k2]
      have e1 : s = c := by omega
      subst e1
      have e2 : j = i := by omega
      subst e2
      unfold qt_mt
      rw [if_neg (fun z => hx ⟨hj', z⟩)]
    · rw [if_neg k2]
theorem qt_pm_0 {g : (Nat → Int32) → Nat → Int32} {F : Nat → qt_Fm} (s : Nat) : qt_fe (F s) (qt_pm g F 0 s) := by
  refine ⟨rfl, fun j _ => ?_⟩
  show (F s).2 j = (if s * 7 + j < 0 then qt_mt g ((F s).2 j) else (F s).2 j)
  rw [if_neg (by omega)]
theorem qt_pm_i {g : (Nat → Int32) → Nat → Int32} {F : Nat → qt_Fm} {c i : Nat} : (qt_pm g F (c * 7 + i) c).2 i = (F c).2 i := by
  show (if _ then _ else _) = _
  rw [if_neg (by omega)]
section
variable {yr yc yh yw : Int32} {ycn ytk ysl ysd yst yva yow yli yV yE : Nat → Int32}
theorem qy_cs14 {tok0 : Nat → Int32} {post : SY → Prop} {s d : Nat} (hs : s < 73) (hd : d < 73) (hsd : s ≠ d) : ∀ (k j : Nat) (ytk : Nat → Int32), j + k = 56 → (∀ x, x < j → ytk (d * 56 + x) = tok0 (s * 56 + x)) → (∀ x, (x < d * 56 ∨ d * 56 + 56 ≤ x) → ytk x = tok0 x) →
    (∀ tok', (∀ x, x < 56 → tok' (d * 56 + x) = tok0 (s * 56 + x)) → (∀ x, (x < d * 56 ∨ d * 56 + 56 ≤ x) → tok' x = tok0 x) → post (yr, yc, yh, yw, ycn, tok', ysl, ysd, yst, yva, yow, yli, yV, yE)) → ∀ m, k < m → wY_copySlot_14 post (nI s) (nI d) yr yc yh yw m (nI j) ycn ytk ysl ysd yst yva yow yli yV yE := by
  intro k
  induction k with
  | zero =>
    intro j ytk hj ha hb h m hm
    obtain ⟨m, rfl⟩ : ∃ z, m = z + 1 := ⟨m - 1, by omega⟩
    simp (disch := omega) only [wY_copySlot_14, qa_lel56, nI_add, pk_mul, qa_a1, qa_a2, qa_a3, qa_a4, qa_a5, qa_a6, qa_a7, qa_a8, qa_a56, qa_m6, qa_m7, qa_m8, qa_m56, qa_l2, qa_l37, qa_l2016, qa_in, nI_clamp, forall_eq, true_and, qa_cl0, nI_leI, nI_ltI, nI_eq, not_false_eq_true, pk_sub, qa_s1, qa_s2, qa_s8]
    exact br_t (by omega) (h _ (fun x hx => ha x (by omega)) hb)
  | succ k ih =>
    intro j ytk hj ha hb h m hm
    obtain ⟨m, rfl⟩ : ∃ z, m = z + 1 := ⟨m - 1, by omega⟩
    have e1 : ytk (s * 56 + j) = tok0 (s * 56 + j) := hb _ (by omega)
    simp (disch := omega) only [wY_copySlot_14, qa_lel56, e1, nI_add, pk_mul, qa_a1, qa_a2, qa_a3, qa_a4, qa_a5, qa_a6, qa_a7, qa_a8, qa_a56, qa_m6, qa_m7, qa_m8, qa_m56, qa_l2, qa_l37, qa_l2016, qa_in, nI_clamp, forall_eq, true_and, qa_cl0, nI_leI, nI_ltI, nI_eq, not_false_eq_true, pk_sub, qa_s1, qa_s2, qa_s8]
    refine br_f (by omega) (ih (j + 1) _ (by omega) ?_ ?_ h m (by omega))
    · intro x hx
      by_cases e : x = j
      · subst e; rw [pk_us]
      · rw [pk_un (by omega)]; exact ha x (by omega)
    · intro x hx
      rw [pk_un (by omega)]; exact hb x hx
theorem qy_cs {post : SY → Prop} {s d n : Nat} {f : Nat → Nat → Int32} (hs : s < 73) (hd : d < 73) (hn : n ≤ 7) (hsd : s ≠ d) (hm : qt_MY ytk ycn s n f)
    (h : ∀ tok' cnt', qt_MY tok' cnt' d n f → qt_Fr ytk ycn tok' cnt' d → post (yr, yc, yh, yw, cnt', tok', ysl, ysd, yst, yva, yow, yli, yV, yE)) : wpY_copySlot post (yr, yc, yh, yw, ycn, ytk, ysl, ysd, yst, yva, yow, yli, yV, yE) (nI s) (nI d) := by
  simp (disch := omega) only [wpY_copySlot, hm.1, nI_add, pk_mul, qa_a1, qa_a2, qa_a3, qa_a4, qa_a5, qa_a6, qa_a7, qa_a8, qa_a56, qa_m6, qa_m7, qa_m8, qa_m56, qa_l2, qa_l37, qa_l2016, qa_in, nI_clamp, forall_eq, true_and, qa_cl0, nI_leI, nI_ltI, nI_eq, not_false_eq_true, pk_sub, qa_s1, qa_s2, qa_s8]
  refine ⟨57, qy_cs14 (tok0 := ytk) hs hd hsd 56 0 ytk (by omega) (fun x hx => absurd hx (Nat.not_lt_zero x)) (fun _ _ => rfl) (fun tok' h1 h2 => h _ _ ⟨pk_us, fun i hi g hg => ?_⟩ (fun s' e => ⟨pk_un e, fun j hj => h2 _ (by omega)⟩)) _ (by omega)⟩
  have := h1 (i * 8 + g) (by omega)
  rw [← Nat.add_assoc, ← Nat.add_assoc] at this
  rw [this]
  exact hm.2 i hi g hg
theorem qy_csA {post : SY → Prop} {q s d : Nat} {F : Nat → qt_Fm} (hq : q ≤ 73) (hs : s < q) (hd : d < 73) (hsd : s ≠ d) (hA : qt_AY q ytk ycn F) (h : ∀ tok' cnt', qt_AY q tok' cnt' (qt_ut F d (F s)) → post (yr, yc, yh, yw, cnt', tok', ysl, ysd, yst, yva, yow, yli, yV, yE)) : wpY_copySlot post (yr, yc, yh, yw, ycn, ytk, ysl, ysd, yst, yva, yow, yli, yV, yE) (nI s) (nI d) :=
  qy_cs (by omega) hd (hA s hs).1 hsd (hA s hs).2 (fun _ _ m fr => h _ _ (qt_AY_d hA (hA s hs).1 m fr))
theorem qy_sv2 {post : SY → Prop} {F : Nat → qt_Fm} : ∀ (d k : Nat) (ytk ycn : Nat → Int32), k + d = 36 → qt_AY (37 + k) ytk ycn (qt_bk F k) → (∀ tok' cnt', qt_AY 73 tok' cnt' (qt_bk F 36) → post (yr, yc, yh, yw, cnt', tok', ysl, ysd, yst, yva, yow, yli, yV, yE)) → ∀ n, d < n → wY_save_2 post n (nI k) yr yc yh yw ycn ytk ysl ysd yst yva yow yli yV yE := by
  intro d
  induction d with
  | zero =>
    intro k tok cnt hk hA h n hn
    obtain ⟨n, rfl⟩ : ∃ z, n = z + 1 := ⟨n - 1, by omega⟩
    obtain rfl : k = 36 := by omega
    simp (disch := omega) only [wY_save_2, nI_add, pk_mul, qa_a1, qa_a2, qa_a3, qa_a4, qa_a5, qa_a6, qa_a7, qa_a8, qa_a56, qa_m6, qa_m7, qa_m8, qa_m56, qa_l2, qa_l37, qa_l2016, qa_in, nI_clamp, forall_eq, true_and, qa_cl0, nI_leI, nI_ltI, nI_eq, not_false_eq_true, pk_sub, qa_s1, qa_s2, qa_s8]
    exact br_t (by decide) (h _ _ hA)
  | succ d ih =>
    intro k tok cnt hk hA h n hn
    obtain ⟨n, rfl⟩ : ∃ z, n = z + 1 := ⟨n - 1, by omega⟩
    simp (disch := omega) only [wY_save_2, qa_lel36, nI_add, pk_mul, qa_a1, qa_a2, qa_a3, qa_a4, qa_a5, qa_a6, qa_a7, qa_a8, qa_a56, qa_m6, qa_m7, qa_m8, qa_m56, qa_l2, qa_l37, qa_l2016, qa_in, nI_clamp, forall_eq, true_and, qa_cl0, nI_leI, nI_ltI, nI_eq, not_false_eq_true, pk_sub, qa_s1, qa_s2, qa_s8]
    refine br_f (by omega) ?_
    have hA0 := hA k (by omega)
    refine qy_cs (by omega) (by omega) hA0.1 (by omega) hA0.2 (fun tok' cnt' m fr => ?_)
    exact ih (k + 1) _ _ (by omega) (qt_AY_e (qt_AY_s hA hA0.1 m fr) (fun s _ => qt_fe_e (qt_bk_s (by omega) s))) h n (by omega)
theorem qy_sv {post : SY → Prop} {F : Nat → qt_Fm} (hA : qt_AY 37 ytk ycn F) (h : ∀ tok' cnt', qt_AY 73 tok' cnt' (qt_bk F 36) → post (yr, yc, yh, yw, cnt', tok', ysl, ysd, yst, yva, yow, yli, yV, yE)) : wpY_save post (yr, yc, yh, yw, ycn, ytk, ysl, ysd, yst, yva, yow, yli, yV, yE) := by
  unfold wpY_save
  refine ⟨37, qy_sv2 36 0 _ _ (by decide) (qt_AY_e hA (fun s hs => qt_fe_e ?_)) h 37 (by decide)⟩
  unfold qt_bk
  rw [if_neg (by omega)]
section
variable {tok0 : Nat → Int32} {b : Nat} {t : Nat → Int32}
theorem qy_or2 {post : SY → Prop} {ax n : Nat} (ha : ax < 2) (hb : b + 8 ≤ 4088) (hT : qt_Tf tok0 ytk b t) (h : ∀ tok', qt_Tf tok0 tok' b (qt_yo ax t) → wY_order_2 post (nI b) yr yc yh yw n (nI (ax + 1)) ycn tok' ysl ysd yst yva yow yli yV yE) : wY_order_2 post (nI b) yr yc yh yw (n + 1) (nI ax) ycn ytk ysl ysd yst yva yow yli yV yE := by
  have r2 := hT.1 (2 + ax) (by omega)
  have r5 := hT.1 (5 + ax) (by omega)
  have r4 := hT.1 4 (by decide)
  have r7 := hT.1 7 (by decide)
  simp (disch := omega) only [wY_order_2, qa_lel2, Nat.add_assoc, r2, r5, r4, r7, nI_add, pk_mul, qa_a1, qa_a2, qa_a3, qa_a4, qa_a5, qa_a6, qa_a7, qa_a8, qa_a56, qa_m6, qa_m7, qa_m8, qa_m56, qa_l2, qa_l37, qa_l2016, qa_in, nI_clamp, forall_eq, true_and, qa_cl0, nI_leI, nI_ltI, nI_eq, not_false_eq_true, pk_sub, qa_s1, qa_s2, qa_s8]
  refine br_f (by omega) ?_
  unfold qt_yo at h
  by_cases e : t (5 + ax) < t (2 + ax)
  · rw [if_pos e] at h
    exact br_t e (h _ (qt_Tf_u (qt_Tf_u (qt_Tf_u (qt_Tf_u hT (by omega) _) (by omega) _) (by decide) _) (by decide) _))
  · rw [if_neg e] at h
    exact br_f e (h _ hT)
theorem qy_ord {post : SY → Prop} (hb : b + 8 ≤ 4088) (hT : qt_Tf tok0 ytk b t) (h : ∀ tok', qt_Tf tok0 tok' b (qt_yo 1 (qt_yo 0 t)) → post (yr, yc, yh, yw, ycn, tok', ysl, ysd, yst, yva, yow, yli, yV, yE)) : wpY_order post (yr, yc, yh, yw, ycn, ytk, ysl, ysd, yst, yva, yow, yli, yV, yE) (nI b) := by
  unfold wpY_order
  refine ⟨3, qy_or2 (ax := 0) (by decide) hb hT (fun tok1 T1 => qy_or2 (ax := 1) (by decide) hb T1 (fun tok2 T2 => ?_))⟩
  simp (disch := omega) only [wY_order_2, nI_add, pk_mul, qa_a1, qa_a2, qa_a3, qa_a4, qa_a5, qa_a6, qa_a7, qa_a8, qa_a56, qa_m6, qa_m7, qa_m8, qa_m56, qa_l2, qa_l37, qa_l2016, qa_in, nI_clamp, forall_eq, true_and, qa_cl0, nI_leI, nI_ltI, nI_eq, not_false_eq_true, pk_sub, qa_s1, qa_s2, qa_s8]
  exact br_t (by decide) (h _ T2)
end
section
variable {tok0 : Nat → Int32} {s i n : Nat} {t : Nat → Int32}
theorem qy_i222 {post : Int32 → SY → Prop} {ax k m : Nat} {at' : Int32} {J : Int32 → (Nat → Int32) → (Nat → Int32) → (Nat → Int32) → (Nat → Int32) → (Nat → Int32) → (Nat → Int32) → (Nat → Int32) → (Nat → Int32) → (Nat → Int32) → (Nat → Int32) → Prop} (hk : k < 7) (hc : ycn s = nI n) (hs : s < 36) (hi : i < n) (hn : n ≤ 7) (hT : qt_Tf tok0 ytk (s * 56 + i * 8) t) (hl : qt_lv t)
    (h : ∀ tok', qt_Tf tok0 tok' (s * 56 + i * 8) (qt_gk k at' t) → wY_insertLine_222 post J (nI ax) at' (nI (s * 56 + i * 8)) yr yc yh yw m (nI (k + 3)) ycn tok' ysl ysd yst yva yow yli yV yE) : wY_insertLine_222 post J (nI ax) at' (nI (s * 56 + i * 8)) yr yc yh yw (m + 1) (nI k) ycn ytk ysl ysd yst yva yow yli yV yE := by
  have rk := hT.1 k (by omega)
  simp (disch := omega) only [wY_insertLine_222, qa_lel7, rk, nI_add, pk_mul, qa_a1, qa_a2, qa_a3, qa_a4, qa_a5, qa_a6, qa_a7, qa_a8, qa_a56, qa_m6, qa_m7, qa_m8, qa_m56, qa_l2, qa_l37, qa_l2016, qa_in, nI_clamp, forall_eq, true_and, qa_cl0, nI_leI, nI_ltI, nI_eq, not_false_eq_true, pk_sub, qa_s1, qa_s2, qa_s8]
  refine br_f (by omega) ?_
  refine qy_liv hc (fun _ => hT.1) (by omega) (by omega) hn (fun _ _ => br_f (by decide) ?_) (fun z => absurd ⟨hi, hl⟩ z)
  unfold qt_gk at h
  by_cases e : t k < at'
  · rw [if_pos e] at h
    exact br_t e (h _ hT)
  · rw [if_neg e] at h
    exact br_f e (h _ (qt_Tf_u hT (by omega) _))
theorem qy_i222x {post : Int32 → SY → Prop} {ax k m : Nat} {at' : Int32} {J : Int32 → (Nat → Int32) → (Nat → Int32) → (Nat → Int32) → (Nat → Int32) → (Nat → Int32) → (Nat → Int32) → (Nat → Int32) → (Nat → Int32) → (Nat → Int32) → (Nat → Int32) → Prop} (hk : 7 ≤ k) (hk' : k < 100)
    (h : J (nI (s * 56 + i * 8 + 8)) ycn ytk ysl ysd yst yva yow yli yV yE) : wY_insertLine_222 post J (nI ax) at' (nI (s * 56 + i * 8)) yr yc yh yw (m + 1) (nI k) ycn ytk ysl ysd yst yva yow yli yV yE := by
  simp (disch := omega) only [wY_insertLine_222, qa_lel7, nI_add, pk_mul, qa_a1, qa_a2, qa_a3, qa_a4, qa_a5, qa_a6, qa_a7, qa_a8, qa_a56, qa_m6, qa_m7, qa_m8, qa_m56, qa_l2, qa_l37, qa_l2016, qa_in, nI_clamp, forall_eq, true_and, qa_cl0, nI_leI, nI_ltI, nI_eq, not_false_eq_true, pk_sub, qa_s1, qa_s2, qa_s8]
  exact br_t (by omega) h
theorem qy_i222d {post : Int32 → SY → Prop} {ax k m : Nat} {at' : Int32} {J : Int32 → (Nat → Int32) → (Nat → Int32) → (Nat → Int32) → (Nat → Int32) → (Nat → Int32) → (Nat → Int32) → (Nat → Int32) → (Nat → Int32) → (Nat → Int32) → (Nat → Int32) → Prop} (hk : k < 7) (hc : ycn s = nI n) (hs : s < 36) (hi : i < 7) (hn : n ≤ 7) (ht : i < n → ∀ f, f < 8 → ytk (s * 56 + i * 8 + f) = t f) (hl : ¬ (i < n ∧ qt_lv t))
    (h : wY_insertLine_222 post J (nI ax) at' (nI (s * 56 + i * 8)) yr yc yh yw m (nI (k + 3)) ycn ytk ysl ysd yst yva yow yli yV yE) : wY_insertLine_222 post J (nI ax) at' (nI (s * 56 + i * 8)) yr yc yh yw (m + 1) (nI k) ycn ytk ysl ysd yst yva yow yli yV yE := by
  simp (disch := omega) only [wY_insertLine_222, qa_lel7, nI_add, pk_mul, qa_a1, qa_a2, qa_a3, qa_a4, qa_a5, qa_a6, qa_a7, qa_a8, qa_a56, qa_m6, qa_m7, qa_m8, qa_m56, qa_l2, qa_l37, qa_l2016, qa_in, nI_clamp, forall_eq, true_and, qa_cl0, nI_leI, nI_ltI, nI_eq, not_false_eq_true, pk_sub, qa_s1, qa_s2, qa_s8]
  refine br_f (by omega) ?_
  exact qy_liv hc ht (by omega) (by omega) hn (fun a b => absurd ⟨a, b⟩ hl) (fun z => br_t (by decide) h)
end
end
end
section
/-! the reference: passes over all tokens -/
theorem qt_gk_lv {k : Nat} {at' : Int32} {t : Nat → Int32} (hk : 2 ≤ k) (h : qt_lv t) : qt_lv (qt_gk k at' t) := by
  unfold qt_gk
  split
  · exact h
  · unfold qt_lv
    rw [pk_un (by omega), pk_un (by omega)]; exact h
section
variable {yr yc yh yw : Int32} {ycn ytk ysl ysd yst yva yow yli yV yE : Nat → Int32}
theorem qy_ins209 {post : Int32 → SY → Prop} {F : Nat → qt_Fm} {q ax : Nat} {at' : Int32} (hq : 37 ≤ q) (ha : ax < 2) (hg : ∀ s i, s < 36 → i < (F s).1 → qt_lv ((F s).2 i) → ∀ f, f < 8 → qt_gy ax at' (qt_yv ((F s).2 i)) f = qt_yv (qt_gro ax at' ((F s).2 i)) f) : ∀ (d m : Nat) (ytk : Nat → Int32), m + d = 252 → qt_AY q ytk ycn (qt_pm (qt_gro ax at') F m) →
    (∀ tok', qt_AY q tok' ycn (qt_pm (qt_gro ax at') F 252) → wpY_settle post (yr, yc, yh, yw, ycn, tok', ysl, ysd, yst, yva, yow, yli, yV, yE)) → ∀ n, d < n → wY_insertLine_209 post (nI ax) at' yr yc yh yw n (nI (m * 8)) ycn ytk ysl ysd yst yva yow yli yV yE := by
  intro d
  induction d with
  | zero =>
    intro m ytk hm hA h n hn
    obtain ⟨n, rfl⟩ : ∃ z, n = z + 1 := ⟨n - 1, by omega⟩
    obtain rfl : m = 252 := by omega
    unfold wY_insertLine_209
    exact br_t (by decide) (h _ hA)
  | succ d ih =>
    intro m ytk hm hA h n hn
    obtain ⟨n, rfl⟩ : ∃ z, n = z + 1 := ⟨n - 1, by omega⟩
    obtain ⟨c, i, hi, rfl⟩ : ∃ c i, i < 7 ∧ m = c * 7 + i := ⟨m / 7, m % 7, by omega, by omega⟩
    have hc : c < 36 := by omega
    have A := hA c (by omega)
    have A1 : (F c).1 ≤ 7 := A.1
    have A2 : ycn c = nI (F c).1 := A.2.1
    have A3 : i < (F c).1 → ∀ f, f < 8 → ytk (c * 56 + i * 8 + f) = qt_yv ((F c).2 i) f := fun hin f hf => (A.2.2 i hin f hf).trans (by rw [qt_pm_i])
    have ih' := fun tok' hA' => ih (c * 7 + i + 1) tok' (by omega) hA' h n (by omega)
    rw [show (c * 7 + i + 1) * 8 = c * 56 + i * 8 + 8 by omega] at ih'
    rw [show (c * 7 + i) * 8 = c * 56 + i * 8 by omega]
    simp (disch := omega) only [wY_insertLine_209, qa_lel2016, nI_add, pk_mul, qa_a1, qa_a2, qa_a3, qa_a4, qa_a5, qa_a6, qa_a7, qa_a8, qa_a56, qa_m6, qa_m7, qa_m8, qa_m56, qa_l2, qa_l37, qa_l2016, qa_in, nI_clamp, forall_eq, true_and, qa_cl0, nI_leI, nI_ltI, nI_eq, not_false_eq_true, pk_sub, qa_s1, qa_s2, qa_s8]
    refine br_f (by omega) ⟨3, ?_⟩
    by_cases hl : i < (F c).1 ∧ qt_lv ((F c).2 i)
    · have l1 : qt_lv (qt_yv ((F c).2 i)) := qt_lv_y.mpr hl.2
      refine qy_i222 (k := 2 + ax) (by omega) A2 hc hl.1 A1 (qt_Tf_r (A3 hl.1)) l1 (fun tok1 T1 => ?_)
      refine qy_i222 (k := 2 + ax + 3) (by omega) A2 hc hl.1 A1 T1 (qt_gk_lv (by omega) l1) (fun tok2 T2 => ?_)
      refine qy_i222x (by omega) (by omega) (ih' tok2 (qt_AY_e (qt_AY_t (x := qt_gro ax at' ((F c).2 i)) hA hi (qt_Tf_c T2 ?_)) (fun s hs => qt_pm_t hi (fun _ => ?_) s (hA s hs).1)))
      · intro f hf
        rw [show 2 + ax + 3 = 5 + ax by omega]
        exact hg c i hc hl.1 hl.2 f hf
      · unfold qt_mt
        rw [if_pos hl.2]
    · have l1 : ¬ (i < (F c).1 ∧ qt_lv (qt_yv ((F c).2 i))) := fun z => hl ⟨z.1, qt_lv_y.mp z.2⟩
      refine qy_i222d (k := 2 + ax) (by omega) A2 hc hi A1 A3 l1 ?_
      refine qy_i222d (k := 2 + ax + 3) (by omega) A2 hc hi A1 A3 l1 ?_
      exact qy_i222x (by omega) (by omega) (ih' ytk (qt_AY_e hA (fun s hs => qt_pm_d hi hl s (hA s hs).1)))
section
variable {tok0 : Nat → Int32} {s i n : Nat} {t : Nat → Int32}
theorem qy_d218 {post : Int32 → SY → Prop} {ax : Nat} {at' z : Int32} {J : Int32 → Int32 → Int32 → Int32 → Int32 → (Nat → Int32) → (Nat → Int32) → (Nat → Int32) → (Nat → Int32) → (Nat → Int32) → (Nat → Int32) → (Nat → Int32) → (Nat → Int32) → (Nat → Int32) → (Nat → Int32) → Prop} (ha : ax < 2) (hc : ycn s = nI n) (hs : s < 36) (hi : i < n) (hn : n ≤ 7) (hT : qt_Tf tok0 ytk (s * 56 + i * 8) t) (hl : qt_lv t)
    (h : ∀ tok', qt_Tf tok0 tok' (s * 56 + i * 8) (if z < at' then t else upd t (5 + ax) (t (5 + ax) - 1)) → J (nI (s * 56 + i * 8 + 8)) yr yc yh yw ycn tok' ysl ysd yst yva yow yli yV yE) : wY_deleteLine_218 post J (nI ax) at' (nI (s * 56 + i * 8)) z yr yc yh yw ycn ytk ysl ysd yst yva yow yli yV yE := by
  have r5 := hT.1 (5 + ax) (by omega)
  have e5 : s * 56 + i * 8 + 5 + ax = s * 56 + i * 8 + (5 + ax) := by omega
  simp (disch := omega) only [wY_deleteLine_218, e5, r5, nI_add, pk_mul, qa_a1, qa_a2, qa_a3, qa_a4, qa_a5, qa_a6, qa_a7, qa_a8, qa_a56, qa_m6, qa_m7, qa_m8, qa_m56, qa_l2, qa_l37, qa_l2016, qa_in, nI_clamp, forall_eq, true_and, qa_cl0, nI_leI, nI_ltI, nI_eq, not_false_eq_true, pk_sub, qa_s1, qa_s2, qa_s8]
  refine qy_liv hc (fun _ => hT.1) (by omega) (by omega) hn (fun _ _ => br_f (by decide) ?_) (fun z => absurd ⟨hi, hl⟩ z)
  by_cases e : z < at'
  · rw [if_pos e] at h
    exact br_t e (h _ hT)
  · rw [if_neg e] at h
    exact br_f e (h _ (qt_Tf_u hT (by omega) _))
theorem qy_d218d {post : Int32 → SY → Prop} {ax : Nat} {at' z : Int32} {J : Int32 → Int32 → Int32 → Int32 → Int32 → (Nat → Int32) → (Nat → Int32) → (Nat → Int32) → (Nat → Int32) → (Nat → Int32) → (Nat → Int32) → (Nat → Int32) → (Nat → Int32) → (Nat → Int32) → (Nat → Int32) → Prop} (ha : ax < 2) (hc : ycn s = nI n) (hs : s < 36) (hi : i < 7) (hn : n ≤ 7) (ht : i < n → ∀ f, f < 8 → ytk (s * 56 + i * 8 + f) = t f) (hl : ¬ (i < n ∧ qt_lv t))
    (h : J (nI (s * 56 + i * 8 + 8)) yr yc yh yw ycn ytk ysl ysd yst yva yow yli yV yE) : wY_deleteLine_218 post J (nI ax) at' (nI (s * 56 + i * 8)) z yr yc yh yw ycn ytk ysl ysd yst yva yow yli yV yE := by
  simp (disch := omega) only [wY_deleteLine_218, nI_add, pk_mul, qa_a1, qa_a2, qa_a3, qa_a4, qa_a5, qa_a6, qa_a7, qa_a8, qa_a56, qa_m6, qa_m7, qa_m8, qa_m56, qa_l2, qa_l37, qa_l2016, qa_in, nI_clamp, forall_eq, true_and, qa_cl0, nI_leI, nI_ltI, nI_eq, not_false_eq_true, pk_sub, qa_s1, qa_s2, qa_s8]
  exact qy_liv hc ht (by omega) hi hn (fun a b => absurd ⟨a, b⟩ hl) (fun _ => br_t (by decide) h)
theorem qy_d188 {post : Int32 → SY → Prop} {ax : Nat} {at' y z : Int32} {J : Int32 → Int32 → Int32 → Int32 → Int32 → (Nat → Int32) → (Nat → Int32) → (Nat → Int32) → (Nat → Int32) → (Nat → Int32) → (Nat → Int32) → (Nat → Int32) → (Nat → Int32) → (Nat → Int32) → (Nat → Int32) → Prop} (ha : ax < 2) (hc : ycn s = nI n) (hs : s < 36) (hi : i < n) (hn : n ≤ 7) (hT : qt_Tf tok0 ytk (s * 56 + i * 8) t) (hl : qt_lv t)
    (h : ∀ tok', qt_Tf tok0 tok' (s * 56 + i * 8) (if z < at' then (if y ≤ at' then t else upd t (2 + ax) (t (2 + ax) - 1)) else upd (if y ≤ at' then t else upd t (2 + ax) (t (2 + ax) - 1)) (5 + ax) (t (5 + ax) - 1)) → J (nI (s * 56 + i * 8 + 8)) yr yc yh yw ycn tok' ysl ysd yst yva yow yli yV yE) : wY_deleteLine_188 post J (nI ax) at' (nI (s * 56 + i * 8)) y z yr yc yh yw ycn ytk ysl ysd yst yva yow yli yV yE := by
  have r2 := hT.1 (2 + ax) (by omega)
  have e2 : s * 56 + i * 8 + 2 + ax = s * 56 + i * 8 + (2 + ax) := by omega
  simp (disch := omega) only [wY_deleteLine_188, e2, r2, nI_add, pk_mul, qa_a1, qa_a2, qa_a3, qa_a4, qa_a5, qa_a6, qa_a7, qa_a8, qa_a56, qa_m6, qa_m7, qa_m8, qa_m56, qa_l2, qa_l37, qa_l2016, qa_in, nI_clamp, forall_eq, true_and, qa_cl0, nI_leI, nI_ltI, nI_eq, not_false_eq_true, pk_sub, qa_s1, qa_s2, qa_s8]
  refine qy_liv hc (fun _ => hT.1) (by omega) (by omega) hn (fun _ _ => br_f (by decide) ?_) (fun z => absurd ⟨hi, hl⟩ z)
  by_cases e : y ≤ at'
  · simp only [if_pos e] at h
    exact br_t e (qy_d218 ha hc hs hi hn hT hl h)
  · simp only [if_neg e] at h
    refine br_f e (qy_d218 ha hc hs hi hn (qt_Tf_u hT (by omega) _) ?_ ?_)
    · unfold qt_lv
      rw [pk_un (by omega), pk_un (by omega)]; exact hl
    · rw [pk_un (show 5 + ax ≠ 2 + ax by omega)]; exact h
theorem qy_d188d {post : Int32 → SY → Prop} {ax : Nat} {at' y z : Int32} {J : Int32 → Int32 → Int32 → Int32 → Int32 → (Nat → Int32) → (Nat → Int32) → (Nat → Int32) → (Nat → Int32) → (Nat → Int32) → (Nat → Int32) → (Nat → Int32) → (Nat → Int32) → (Nat → Int32) → (Nat → Int32) → Prop} (ha : ax < 2) (hc : ycn s = nI n) (hs : s < 36) (hi : i < 7) (hn : n ≤ 7) (ht : i < n → ∀ f, f < 8 → ytk (s * 56 + i * 8 + f) = t f) (hl : ¬ (i < n ∧ qt_lv t))
    (h : J (nI (s * 56 + i * 8 + 8)) yr yc yh yw ycn ytk ysl ysd yst yva yow yli yV yE) : wY_deleteLine_188 post J (nI ax) at' (nI (s * 56 + i * 8)) y z yr yc yh yw ycn ytk ysl ysd yst yva yow yli yV yE := by
  simp (disch := omega) only [wY_deleteLine_188, nI_add, pk_mul, qa_a1, qa_a2, qa_a3, qa_a4, qa_a5, qa_a6, qa_a7, qa_a8, qa_a56, qa_m6, qa_m7, qa_m8, qa_m56, qa_l2, qa_l37, qa_l2016, qa_in, nI_clamp, forall_eq, true_and, qa_cl0, nI_leI, nI_ltI, nI_eq, not_false_eq_true, pk_sub, qa_s1, qa_s2, qa_s8]
  exact qy_liv hc ht (by omega) hi hn (fun a b => absurd ⟨a, b⟩ hl) (fun _ => br_t (by decide) (qy_d218d ha hc hs hi hn ht hl h))
theorem qt_put_nl {k : Int32} : ¬ qt_lv (qt_put k 1) := fun z => absurd z.2.2 (by show ¬ (1 : Int32) = 0; decide)
theorem qy_d127 {post : Int32 → SY → Prop} {ax m : Nat} {at' : Int32} (ha : ax < 2) (hc : ycn s = nI n) (hs : s < 36) (hi : i < n) (hn : n ≤ 7) (hT : qt_Tf tok0 ytk (s * 56 + i * 8) t) (hl : qt_lv t)
    (h : ∀ tok', qt_Tf tok0 tok' (s * 56 + i * 8) (qt_dy ax at' t) → wY_deleteLine_127 post (nI ax) at' m (nI (s * 56 + i * 8 + 8)) yr yc yh yw ycn tok' ysl ysd yst yva yow yli yV yE) : wY_deleteLine_127 post (nI ax) at' (m + 1) (nI (s * 56 + i * 8)) yr yc yh yw ycn ytk ysl ysd yst yva yow yli yV yE := by
  have r2 := hT.1 (2 + ax) (by omega)
  have r5 := hT.1 (5 + ax) (by omega)
  have e2 : s * 56 + i * 8 + 2 + ax = s * 56 + i * 8 + (2 + ax) := by omega
  have e5 : s * 56 + i * 8 + 5 + ax = s * 56 + i * 8 + (5 + ax) := by omega
  simp (disch := omega) only [wY_deleteLine_127, qa_lel2016, e2, e5, r2, r5, nI_add, pk_mul, qa_a1, qa_a2, qa_a3, qa_a4, qa_a5, qa_a6, qa_a7, qa_a8, qa_a56, qa_m6, qa_m7, qa_m8, qa_m56, qa_l2, qa_l37, qa_l2016, qa_in, nI_clamp, forall_eq, true_and, qa_cl0, nI_leI, nI_ltI, nI_eq, not_false_eq_true, pk_sub, qa_s1, qa_s2, qa_s8]
  refine br_f (by omega) ?_
  refine qy_liv hc (fun _ => hT.1) (by omega) (by omega) hn (fun _ _ => br_f (by decide) ?_) (fun z => absurd ⟨hi, hl⟩ z)
  unfold qt_dy at h
  by_cases a2 : t (2 + ax) = at'
  · refine br_t a2 ?_
    by_cases a5 : t (5 + ax) = at'
    · rw [if_pos ⟨a2, a5⟩] at h
      refine br_t a5 (qy_lose (by omega) hT (fun tok' T' => ?_))
      exact qy_d188d (t := qt_put (t 0) 1) ha hc hs (by omega) hn (fun _ => T'.1) (fun z => qt_put_nl z.2) (h _ T')
    · rw [if_neg (fun z => a5 z.2)] at h
      exact br_f a5 (qy_d188 ha hc hs hi hn hT hl h)
  · rw [if_neg (fun z => a2 z.1)] at h
    exact br_f a2 (qy_d188 ha hc hs hi hn hT hl h)
theorem qy_d127d {post : Int32 → SY → Prop} {ax m : Nat} {at' : Int32} (ha : ax < 2) (hc : ycn s = nI n) (hs : s < 36) (hi : i < 7) (hn : n ≤ 7) (ht : i < n → ∀ f, f < 8 → ytk (s * 56 + i * 8 + f) = t f) (hl : ¬ (i < n ∧ qt_lv t))
    (h : wY_deleteLine_127 post (nI ax) at' m (nI (s * 56 + i * 8 + 8)) yr yc yh yw ycn ytk ysl ysd yst yva yow yli yV yE) : wY_deleteLine_127 post (nI ax) at' (m + 1) (nI (s * 56 + i * 8)) yr yc yh yw ycn ytk ysl ysd yst yva yow yli yV yE := by
  simp (disch := omega) only [wY_deleteLine_127, qa_lel2016, nI_add, pk_mul, qa_a1, qa_a2, qa_a3, qa_a4, qa_a5, qa_a6, qa_a7, qa_a8, qa_a56, qa_m6, qa_m7, qa_m8, qa_m56, qa_l2, qa_l37, qa_l2016, qa_in, nI_clamp, forall_eq, true_and, qa_cl0, nI_leI, nI_ltI, nI_eq, not_false_eq_true, pk_sub, qa_s1, qa_s2, qa_s8]
  refine br_f (by omega) ?_
  exact qy_liv hc ht (by omega) hi hn (fun a b => absurd ⟨a, b⟩ hl) (fun _ => br_t (by decide) (qy_d188d ha hc hs hi hn ht hl h))
theorem qy_m243 {post : Int32 → SY → Prop} {k m : Nat} {dr dc x6 x7 x8 x9 : Int32} {J : Int32 → Int32 → Int32 → Int32 → Int32 → (Nat → Int32) → (Nat → Int32) → (Nat → Int32) → (Nat → Int32) → (Nat → Int32) → (Nat → Int32) → (Nat → Int32) → (Nat → Int32) → (Nat → Int32) → (Nat → Int32) → Prop} (hk : k < 7) (hs : s < 36) (hi : i < 7) (hT : qt_Tf tok0 ytk (s * 56 + i * 8) t)
    (h : ∀ tok', qt_Tf tok0 tok' (s * 56 + i * 8) (upd (upd t k (t k + dr)) (k + 1) (t (k + 1) + dc)) → wY_moveTo_243 post J dr dc (nI (s * 56 + i * 8)) x6 x7 x8 x9 1 yr yc yh yw m (nI (k + 3)) ycn tok' ysl ysd yst yva yow yli yV yE) : wY_moveTo_243 post J dr dc (nI (s * 56 + i * 8)) x6 x7 x8 x9 1 yr yc yh yw (m + 1) (nI k) ycn ytk ysl ysd yst yva yow yli yV yE := by
  have rk := hT.1 k (by omega)
  have rk1 := hT.1 (k + 1) (by omega)
  rw [← Nat.add_assoc] at rk1
  unfold wY_moveTo_243
  refine br_f (by rw [qa_lel7 (by omega)]; omega) (br_f (by decide) ?_)
  simp (disch := omega) only [pk_un, rk, rk1, nI_add, pk_mul, qa_a1, qa_a2, qa_a3, qa_a4, qa_a5, qa_a6, qa_a7, qa_a8, qa_a56, qa_m6, qa_m7, qa_m8, qa_m56, qa_l2, qa_l37, qa_l2016, qa_in, nI_clamp, forall_eq, true_and, qa_cl0, nI_leI, nI_ltI, nI_eq, not_false_eq_true, pk_sub, qa_s1, qa_s2, qa_s8]
  have := h _ (qt_Tf_u (qt_Tf_u hT (show k < 8 by omega) _) (show k + 1 < 8 by omega) _)
  rw [← Nat.add_assoc] at this
  exact this
theorem qy_m243z {post : Int32 → SY → Prop} {k m : Nat} {dr dc x6 x7 x8 x9 : Int32} {J : Int32 → Int32 → Int32 → Int32 → Int32 → (Nat → Int32) → (Nat → Int32) → (Nat → Int32) → (Nat → Int32) → (Nat → Int32) → (Nat → Int32) → (Nat → Int32) → (Nat → Int32) → (Nat → Int32) → (Nat → Int32) → Prop} (hk : k < 7)
    (h : wY_moveTo_243 post J dr dc (nI (s * 56 + i * 8)) x6 x7 x8 x9 0 yr yc yh yw m (nI (k + 3)) ycn ytk ysl ysd yst yva yow yli yV yE) : wY_moveTo_243 post J dr dc (nI (s * 56 + i * 8)) x6 x7 x8 x9 0 yr yc yh yw (m + 1) (nI k) ycn ytk ysl ysd yst yva yow yli yV yE := by
  unfold wY_moveTo_243
  refine br_f (by rw [qa_lel7 (by omega)]; omega) (br_t (by decide) ?_)
  simp (disch := omega) only [nI_add, pk_mul, qa_a1, qa_a2, qa_a3, qa_a4, qa_a5, qa_a6, qa_a7, qa_a8, qa_a56, qa_m6, qa_m7, qa_m8, qa_m56, qa_l2, qa_l37, qa_l2016, qa_in, nI_clamp, forall_eq, true_and, qa_cl0, nI_leI, nI_ltI, nI_eq, not_false_eq_true, pk_sub, qa_s1, qa_s2, qa_s8]
  exact h
theorem qy_m146 {post : Int32 → SY → Prop} {m : Nat} {dr dc : Int32} (hc : ycn s = nI n) (hs : s < 36) (hi : i < n) (hn : n ≤ 7) (hT : qt_Tf tok0 ytk (s * 56 + i * 8) t) (hl : qt_lv t)
    (h : ∀ tok', qt_Tf tok0 tok' (s * 56 + i * 8) (qt_my ysl dr dc t) → wY_moveTo_146 post dr dc m (nI (s * 56 + i * 8 + 8)) yr yc yh yw ycn tok' ysl ysd yst yva yow yli yV yE) : wY_moveTo_146 post dr dc (m + 1) (nI (s * 56 + i * 8)) yr yc yh yw ycn ytk ysl ysd yst yva yow yli yV yE := by
  have r2 := hT.1 2 (by decide)
  have r3 := hT.1 3 (by decide)
  have r5 := hT.1 5 (by decide)
  have r6 := hT.1 6 (by decide)
  simp (disch := omega) only [wY_moveTo_146, qa_lel2016, r2, r3, r5, r6, nI_add, pk_mul, qa_a1, qa_a2, qa_a3, qa_a4, qa_a5, qa_a6, qa_a7, qa_a8, qa_a56, qa_m6, qa_m7, qa_m8, qa_m56, qa_l2, qa_l37, qa_l2016, qa_in, nI_clamp, forall_eq, true_and, qa_cl0, nI_leI, nI_ltI, nI_eq, not_false_eq_true, pk_sub, qa_s1, qa_s2, qa_s8]
  refine br_f (by omega) ?_
  refine qy_liv hc (fun _ => hT.1) (by omega) (by omega) hn (fun _ _ => br_f (by decide) ?_) (fun z => absurd ⟨hi, hl⟩ z)
  unfold qt_my at h
  have hz : ¬ (qt_sh ysl (t 2) (t 3) ∧ qt_sh ysl (t 5) (t 6)) → ∃ f, wY_moveTo_243 post (wY_moveTo_146 post dr dc m) dr dc (nI (s * 56 + i * 8)) (t 2) (t 3) (t 5) (t 6) 0 yr yc yh yw f 2 ycn ytk ysl ysd yst yva yow yli yV yE := by
    intro e
    rw [if_neg e] at h
    refine ⟨3, qy_m243z (k := 2) (by decide) (qy_m243z (k := 5) (by decide) ?_)⟩
    unfold wY_moveTo_243
    refine br_t (by decide) (br_t (by decide) ?_)
    simp (disch := omega) only [nI_add, pk_mul, qa_a1, qa_a2, qa_a3, qa_a4, qa_a5, qa_a6, qa_a7, qa_a8, qa_a56, qa_m6, qa_m7, qa_m8, qa_m56, qa_l2, qa_l37, qa_l2016, qa_in, nI_clamp, forall_eq, true_and, qa_cl0, nI_leI, nI_ltI, nI_eq, not_false_eq_true, pk_sub, qa_s1, qa_s2, qa_s8]
    refine qy_sel (fun a => ?_) (fun a => ?_)
    · refine br_f (by decide) ?_
      refine qy_sel (fun b => ?_) (fun b => ?_)
      · rw [if_pos ⟨a, b⟩] at h
        exact br_f (by decide) (qy_lose (by omega) hT (fun tok' T' => h _ T'))
      · rw [if_neg (fun z => b z.2)] at h
        exact br_t (by decide) (h _ hT)
    · rw [if_neg (fun z => a z.1)] at h
      exact br_t (by decide) (h _ hT)
  refine qy_sel (fun a => ?_) (fun a => ?_)
  · refine br_f (by decide) ?_
    refine qy_sel (fun b => ?_) (fun b => ?_)
    · rw [if_pos ⟨a, b⟩] at h
      refine br_f (by decide) ⟨3, qy_m243 (k := 2) (by decide) hs (by omega) hT (fun tok1 T1 => qy_m243 (k := 5) (by decide) hs (by omega) T1 (fun tok2 T2 => ?_))⟩
      unfold wY_moveTo_243
      refine br_t (by decide) (br_f (by decide) ?_)
      simp (disch := omega) only [nI_add, pk_mul, qa_a1, qa_a2, qa_a3, qa_a4, qa_a5, qa_a6, qa_a7, qa_a8, qa_a56, qa_m6, qa_m7, qa_m8, qa_m56, qa_l2, qa_l37, qa_l2016, qa_in, nI_clamp, forall_eq, true_and, qa_cl0, nI_leI, nI_ltI, nI_eq, not_false_eq_true, pk_sub, qa_s1, qa_s2, qa_s8]
      exact h _ T2
    · exact br_t (by decide) (hz (fun z => b z.2))
  · exact br_t (by decide) (hz (fun z => a z.1))
theorem qy_m146d {post : Int32 → SY → Prop} {m : Nat} {dr dc : Int32} (hc : ycn s = nI n) (hs : s < 36) (hi : i < 7) (hn : n ≤ 7) (ht : i < n → ∀ f, f < 8 → ytk (s * 56 + i * 8 + f) = t f) (hl : ¬ (i < n ∧ qt_lv t))
    (h : wY_moveTo_146 post dr dc m (nI (s * 56 + i * 8 + 8)) yr yc yh yw ycn ytk ysl ysd yst yva yow yli yV yE) : wY_moveTo_146 post dr dc (m + 1) (nI (s * 56 + i * 8)) yr yc yh yw ycn ytk ysl ysd yst yva yow yli yV yE := by
  simp (disch := omega) only [wY_moveTo_146, qa_lel2016, nI_add, pk_mul, qa_a1, qa_a2, qa_a3, qa_a4, qa_a5, qa_a6, qa_a7, qa_a8, qa_a56, qa_m6, qa_m7, qa_m8, qa_m56, qa_l2, qa_l37, qa_l2016, qa_in, nI_clamp, forall_eq, true_and, qa_cl0, nI_leI, nI_ltI, nI_eq, not_false_eq_true, pk_sub, qa_s1, qa_s2, qa_s8]
  refine br_f (by omega) ?_
  exact qy_liv hc ht (by omega) hi hn (fun a b => absurd ⟨a, b⟩ hl) (fun _ => br_t (by decide) h)
end
theorem qy_del127 {post : Int32 → SY → Prop} {F : Nat → qt_Fm} {q : Nat} {ax : Nat} {at' : Int32} (ha : ax < 2) (hq : 37 ≤ q) (hg : ∀ s i, s < 36 → i < (F s).1 → qt_lv ((F s).2 i) → ∀ f, f < 8 → qt_dy ax at' (qt_yv ((F s).2 i)) f = qt_yv (qt_shr ax at' ((F s).2 i)) f) : ∀ (d m : Nat) (ytk : Nat → Int32), m + d = 252 → qt_AY q ytk ycn (qt_pm (qt_shr ax at') F m) →
    (∀ tok', qt_AY q tok' ycn (qt_pm (qt_shr ax at') F 252) → wpY_settle post (yr, yc, yh, yw, ycn, tok', ysl, ysd, yst, yva, yow, yli, yV, yE)) → ∀ n, d < n → wY_deleteLine_127 post (nI ax) at' n (nI (m * 8)) yr yc yh yw ycn ytk ysl ysd yst yva yow yli yV yE := by
  intro d
  induction d with
  | zero =>
    intro m ytk hm hA h n hn
    obtain ⟨n, rfl⟩ : ∃ z, n = z + 1 := ⟨n - 1, by omega⟩
    obtain rfl : m = 252 := by omega
    unfold wY_deleteLine_127
    exact br_t (by decide) (h _ hA)
  | succ d ih =>
    intro m ytk hm hA h n hn
    obtain ⟨n, rfl⟩ : ∃ z, n = z + 1 := ⟨n - 1, by omega⟩
    obtain ⟨c, i, hi, rfl⟩ : ∃ c i, i < 7 ∧ m = c * 7 + i := ⟨m / 7, m % 7, by omega, by omega⟩
    have hc : c < 36 := by omega
    have A := hA c (by omega)
    have A1 : (F c).1 ≤ 7 := A.1
    have A2 : ycn c = nI (F c).1 := A.2.1
    have A3 : i < (F c).1 → ∀ f, f < 8 → ytk (c * 56 + i * 8 + f) = qt_yv ((F c).2 i) f := fun hin f hf => (A.2.2 i hin f hf).trans (by rw [qt_pm_i])
    have ih' := fun tok' hA' => ih (c * 7 + i + 1) tok' (by omega) hA' h n (by omega)
    rw [show (c * 7 + i + 1) * 8 = c * 56 + i * 8 + 8 by omega] at ih'
    rw [show (c * 7 + i) * 8 = c * 56 + i * 8 by omega]
    by_cases hl : i < (F c).1 ∧ qt_lv ((F c).2 i)
    · refine qy_d127 ha A2 hc hl.1 A1 (qt_Tf_r (A3 hl.1)) (qt_lv_y.mpr hl.2) (fun tok1 T1 => ?_)
      refine ih' tok1 (qt_AY_e (qt_AY_t (x := qt_shr ax at' ((F c).2 i)) hA hi (qt_Tf_c T1 (hg c i hc hl.1 hl.2))) (fun s hs => qt_pm_t hi (fun _ => ?_) s (hA s hs).1))
      unfold qt_mt
      rw [if_pos hl.2]
    · have l1 : ¬ (i < (F c).1 ∧ qt_lv (qt_yv ((F c).2 i))) := fun z => hl ⟨z.1, qt_lv_y.mp z.2⟩
      exact qy_d127d ha A2 hc hi A1 A3 l1 (ih' ytk (qt_AY_e hA (fun s hs => qt_pm_d hi hl s (hA s hs).1)))
theorem qy_mov146 {post : Int32 → SY → Prop} {F : Nat → qt_Fm} {q : Nat} {st sl sb sr dr dc : Int32} (hq : 37 ≤ q) (hg : ∀ s i, s < 36 → i < (F s).1 → qt_lv ((F s).2 i) → ∀ f, f < 8 → qt_my ysl dr dc (qt_yv ((F s).2 i)) f = qt_yv (qt_mov st sl sb sr dr dc ((F s).2 i)) f) : ∀ (d m : Nat) (ytk : Nat → Int32), m + d = 252 → qt_AY q ytk ycn (qt_pm (qt_mov st sl sb sr dr dc) F m) →
    (∀ tok', qt_AY q tok' ycn (qt_pm (qt_mov st sl sb sr dr dc) F 252) → wpY_settle post (yr, yc, yh, yw, ycn, tok', ysl, ysd, yst, yva, yow, yli, yV, yE)) → ∀ n, d < n → wY_moveTo_146 post dr dc n (nI (m * 8)) yr yc yh yw ycn ytk ysl ysd yst yva yow yli yV yE := by
  intro d
  induction d with
  | zero =>
    intro m ytk hm hA h n hn
    obtain ⟨n, rfl⟩ : ∃ z, n = z + 1 := ⟨n - 1, by omega⟩
    obtain rfl : m = 252 := by omega
    unfold wY_moveTo_146
    exact br_t (by decide) (h _ hA)
  | succ d ih =>
    intro m ytk hm hA h n hn
    obtain ⟨n, rfl⟩ : ∃ z, n = z + 1 := ⟨n - 1, by omega⟩
    obtain ⟨c, i, hi, rfl⟩ : ∃ c i, i < 7 ∧ m = c * 7 + i := ⟨m / 7, m % 7, by omega, by omega⟩
    have hc : c < 36 := by omega
    have A := hA c (by omega)
    have A1 : (F c).1 ≤ 7 := A.1
    have A2 : ycn c = nI (F c).1 := A.2.1
    have A3 : i < (F c).1 → ∀ f, f < 8 → ytk (c * 56 + i * 8 + f) = qt_yv ((F c).2 i) f := fun hin f hf => (A.2.2 i hin f hf).trans (by rw [qt_pm_i])
    have ih' := fun tok' hA' => ih (c * 7 + i + 1) tok' (by omega) hA' h n (by omega)
    rw [show (c * 7 + i + 1) * 8 = c * 56 + i * 8 + 8 by omega] at ih'
    rw [show (c * 7 + i) * 8 = c * 56 + i * 8 by omega]
    by_cases hl : i < (F c).1 ∧ qt_lv ((F c).2 i)
    · refine qy_m146 A2 hc hl.1 A1 (qt_Tf_r (A3 hl.1)) (qt_lv_y.mpr hl.2) (fun tok1 T1 => ?_)
      refine ih' tok1 (qt_AY_e (qt_AY_t (x := qt_mov st sl sb sr dr dc ((F c).2 i)) hA hi (qt_Tf_c T1 (hg c i hc hl.1 hl.2))) (fun s hs => qt_pm_t hi (fun _ => ?_) s (hA s hs).1))
      unfold qt_mt
      rw [if_pos hl.2]
    · have l1 : ¬ (i < (F c).1 ∧ qt_lv (qt_yv ((F c).2 i))) := fun z => hl ⟨z.1, qt_lv_y.mp z.2⟩
      exact qy_m146d A2 hc hi A1 A3 l1 (ih' ytk (qt_AY_e hA (fun s hs => qt_pm_d hi hl s (hA s hs).1)))
section
variable {tok0 : Nat → Int32} {s i n : Nat} {t : Nat → Int32}
theorem qy_c86 {post : SY → Prop} {k m : Nat} {x2 dr dc : Int32} {J : Int32 → Int32 → Int32 → Int32 → Int32 → (Nat → Int32) → (Nat → Int32) → (Nat → Int32) → (Nat → Int32) → (Nat → Int32) → (Nat → Int32) → (Nat → Int32) → (Nat → Int32) → (Nat → Int32) → (Nat → Int32) → Prop} (hk : k < 6) (hs : s < 73) (hi : i < 7) (hT : qt_Tf tok0 ytk (s * 56 + i * 8) t)
    (h : ∀ tok', qt_Tf tok0 tok' (s * 56 + i * 8) (qt_cr k (k + 1) dc 2 t) → wY_copyCell_86 post J x2 dr dc (nI (s * 56 + i * 8)) yr yc yh yw m (nI (k + 3)) ycn tok' ysl ysd yst yva yow yli yV yE) : wY_copyCell_86 post J x2 dr dc (nI (s * 56 + i * 8)) yr yc yh yw (m + 1) (nI k) ycn ytk ysl ysd yst yva yow yli yV yE := by
  have r1 := hT.1 (k + 1) (by omega)
  have r2 := hT.1 (k + 2) (by omega)
  rw [← Nat.add_assoc] at r1 r2
  simp (disch := omega) only [wY_copyCell_86, qa_lel7, r1, r2, nI_add, pk_mul, qa_a1, qa_a2, qa_a3, qa_a4, qa_a5, qa_a6, qa_a7, qa_a8, qa_a56, qa_m6, qa_m7, qa_m8, qa_m56, qa_l2, qa_l37, qa_l2016, qa_in, nI_clamp, forall_eq, true_and, qa_cl0, nI_leI, nI_ltI, nI_eq, not_false_eq_true, pk_sub, qa_s1, qa_s2, qa_s8]
  refine br_f (by omega) ?_
  unfold qt_cr at h
  by_cases e : t (k + 2) &&& 2 = 0
  · rw [if_pos e] at h
    have := h _ (qt_Tf_u hT (show k + 1 < 8 by omega) _)
    rw [← Nat.add_assoc] at this
    exact br_t e this
  · rw [if_neg e] at h
    exact br_f e (h _ hT)
theorem qy_c39 {post : SY → Prop} {k m : Nat} {x2 dr dc : Int32} {J : Int32 → Int32 → Int32 → Int32 → Int32 → (Nat → Int32) → (Nat → Int32) → (Nat → Int32) → (Nat → Int32) → (Nat → Int32) → (Nat → Int32) → (Nat → Int32) → (Nat → Int32) → (Nat → Int32) → (Nat → Int32) → Prop} (hk : k < 6) (hs : s < 73) (hi : i < 7) (hT : qt_Tf tok0 ytk (s * 56 + i * 8) t)
    (h : ∀ tok', qt_Tf tok0 tok' (s * 56 + i * 8) (qt_cr k k dr 1 t) → wY_copyCell_39 post J x2 dr dc (nI (s * 56 + i * 8)) yr yc yh yw m (nI (k + 3)) ycn tok' ysl ysd yst yva yow yli yV yE) : wY_copyCell_39 post J x2 dr dc (nI (s * 56 + i * 8)) yr yc yh yw (m + 1) (nI k) ycn ytk ysl ysd yst yva yow yli yV yE := by
  have r1 := hT.1 k (by omega)
  have r2 := hT.1 (k + 2) (by omega)
  rw [← Nat.add_assoc] at r2
  simp (disch := omega) only [wY_copyCell_39, qa_lel7, r1, r2, nI_add, pk_mul, qa_a1, qa_a2, qa_a3, qa_a4, qa_a5, qa_a6, qa_a7, qa_a8, qa_a56, qa_m6, qa_m7, qa_m8, qa_m56, qa_l2, qa_l37, qa_l2016, qa_in, nI_clamp, forall_eq, true_and, qa_cl0, nI_leI, nI_ltI, nI_eq, not_false_eq_true, pk_sub, qa_s1, qa_s2, qa_s8]
  refine br_f (by omega) ?_
  unfold qt_cr at h
  by_cases e : t (k + 2) &&& 1 = 0
  · rw [if_pos e] at h
    exact br_t e (h _ (qt_Tf_u hT (show k < 8 by omega) _))
  · rw [if_neg e] at h
    exact br_f e (h _ hT)
theorem qt_cr_o {k q f : Nat} {d bit : Int32} {t : Nat → Int32} (h : f ≠ q) : qt_cr k q d bit t f = t f := by
  unfold qt_cr
  split
  · rw [pk_un h]
  · rfl
theorem qy_c12 {post : SY → Prop} {m R C : Nat} {dr dc : Int32} (hR : R < 100) (hC : C < 100) (hc : ycn s = nI n) (hs : s < 36) (hi : i < n) (hn : n ≤ 7) (hT : qt_Tf tok0 ytk (s * 56 + i * 8) t) (hl : qt_lv t)
    (h : ∀ tok', qt_Tf tok0 tok' (s * 56 + i * 8) (qt_cy R C dr dc t) → wY_copyCell_12 post (nI s) dr dc m (nI (s * 56 + i * 8 + 8)) (nI R) (nI C) yh yw ycn tok' ysl ysd yst yva yow yli yV yE) : wY_copyCell_12 post (nI s) dr dc (m + 1) (nI (s * 56 + i * 8)) (nI R) (nI C) yh yw ycn ytk ysl ysd yst yva yow yli yV yE := by
  simp (disch := omega) only [wY_copyCell_12, nI_add, pk_mul, qa_a1, qa_a2, qa_a3, qa_a4, qa_a5, qa_a6, qa_a7, qa_a8, qa_a56, qa_m6, qa_m7, qa_m8, qa_m56, qa_l2, qa_l37, qa_l2016, qa_in, nI_clamp, forall_eq, true_and, qa_cl0, nI_leI, nI_ltI, nI_eq, not_false_eq_true, pk_sub, qa_s1, qa_s2, qa_s8]
  refine br_f (by omega) ?_
  refine qy_liv hc (fun _ => hT.1) (by omega) (by omega) hn (fun _ _ => br_f (by decide) ⟨3, ?_⟩) (fun z => absurd ⟨hi, hl⟩ z)
  refine qy_c39 (k := 2) (by decide) (by omega) (by omega) hT (fun tok1 T1 => qy_c39 (k := 5) (by decide) (by omega) (by omega) T1 (fun tok2 T2 => ?_))
  unfold wY_copyCell_39
  refine br_t (by decide) ⟨3, ?_⟩
  refine qy_c86 (k := 2) (by decide) (by omega) (by omega) T2 (fun tok3 T3 => qy_c86 (k := 5) (by decide) (by omega) (by omega) T3 (fun tok4 T4 => ?_))
  have T4' : qt_Tf tok0 tok4 (s * 56 + i * 8) (qt_cc dr dc t) := T4
  have a0 : qt_cc dr dc t 0 = t 0 := by unfold qt_cc; rw [qt_cr_o (by decide), qt_cr_o (by decide), qt_cr_o (by decide), qt_cr_o (by decide)]
  have r2 := T4'.1 2 (by decide)
  have r3 := T4'.1 3 (by decide)
  have r5 := T4'.1 5 (by decide)
  have r6 := T4'.1 6 (by decide)
  unfold qt_cy at h
  unfold wY_copyCell_86
  refine br_t (by decide) ?_
  simp (disch := omega) only [r2, r3, r5, r6, wY_copyCell_193, nI_add, pk_mul, qa_a1, qa_a2, qa_a3, qa_a4, qa_a5, qa_a6, qa_a7, qa_a8, qa_a56, qa_m6, qa_m7, qa_m8, qa_m56, qa_l2, qa_l37, qa_l2016, qa_in, nI_clamp, forall_eq, true_and, qa_cl0, nI_leI, nI_ltI, nI_eq, not_false_eq_true, pk_sub, qa_s1, qa_s2, qa_s8]
  refine qy_inS hR hC (fun i1 => ?_) (fun i1 => ?_)
  · refine br_f (by decide) ?_
    refine qy_inS hR hC (fun i2 => ?_) (fun i2 => ?_)
    · rw [if_pos (qa_bt ⟨i1, i2⟩)] at h
      exact br_f (by decide) (qy_ord (by omega) T4' (fun tok' T' => h _ T'))
    · rw [if_neg (by rw [qa_bf (fun z => i2 z.2)]; decide), ← a0] at h
      exact br_t (by decide) (qy_lose (by omega) T4' (fun tok' T' => h _ T'))
  · rw [if_neg (by rw [qa_bf (fun z => i1 z.1)]; decide), ← a0] at h
    exact br_t (by decide) (qy_lose (by omega) T4' (fun tok' T' => h _ T'))
theorem qy_c12d {post : SY → Prop} {m : Nat} {dr dc : Int32} (hc : ycn s = nI n) (hs : s < 36) (hi : i < 7) (hn : n ≤ 7) (ht : i < n → ∀ f, f < 8 → ytk (s * 56 + i * 8 + f) = t f) (hl : ¬ (i < n ∧ qt_lv t))
    (h : wY_copyCell_12 post (nI s) dr dc m (nI (s * 56 + i * 8 + 8)) yr yc yh yw ycn ytk ysl ysd yst yva yow yli yV yE) : wY_copyCell_12 post (nI s) dr dc (m + 1) (nI (s * 56 + i * 8)) yr yc yh yw ycn ytk ysl ysd yst yva yow yli yV yE := by
  simp (disch := omega) only [wY_copyCell_12, nI_add, pk_mul, qa_a1, qa_a2, qa_a3, qa_a4, qa_a5, qa_a6, qa_a7, qa_a8, qa_a56, qa_m6, qa_m7, qa_m8, qa_m56, qa_l2, qa_l37, qa_l2016, qa_in, nI_clamp, forall_eq, true_and, qa_cl0, nI_leI, nI_ltI, nI_eq, not_false_eq_true, pk_sub, qa_s1, qa_s2, qa_s8]
  refine br_f (by omega) ?_
  exact qy_liv hc ht (by omega) hi hn (fun a b => absurd ⟨a, b⟩ hl) (fun _ => br_t (by decide) h)
end
theorem qy_cc12 {post : SY → Prop} {F : Nat → qt_Fm} {q c R C : Nat} {dr dc : Int32} (hR : R < 100) (hC : C < 100) (hc : c < 36) (hq : 37 ≤ q) (hg : ∀ i, i < (F c).1 → qt_lv ((F c).2 i) → ∀ f, f < 8 → qt_cy R C dr dc (qt_yv ((F c).2 i)) f = qt_yv (qt_shf R C dr dc ((F c).2 i)) f) : ∀ (d i : Nat) (ytk : Nat → Int32), i + d = 7 →
    qt_AY q ytk ycn (qt_pc (qt_shf R C dr dc) F c i) →
    (∀ tok', qt_AY q tok' ycn (qt_ut F c (qt_mp (qt_shf R C dr dc) (F c))) → post (nI R, nI C, yh, yw, ycn, tok', ysl, ysd, yst, yva, yow, yli, yV, yE)) → ∀ n, d < n → wY_copyCell_12 post (nI c) dr dc n (nI (c * 56 + i * 8)) (nI R) (nI C) yh yw ycn ytk ysl ysd yst yva yow yli yV yE := by
  intro d
  induction d with
  | zero =>
    intro i ytk hi hA h n hn
    obtain ⟨n, rfl⟩ : ∃ z, n = z + 1 := ⟨n - 1, by omega⟩
    have m := hA c (by omega)
    have b7' : (F c).1 ≤ 7 := m.1
    simp (disch := omega) only [wY_copyCell_12, nI_add, pk_mul, qa_a1, qa_a2, qa_a3, qa_a4, qa_a5, qa_a6, qa_a7, qa_a8, qa_a56, qa_m6, qa_m7, qa_m8, qa_m56, qa_l2, qa_l37, qa_l2016, qa_in, nI_clamp, forall_eq, true_and, qa_cl0, nI_leI, nI_ltI, nI_eq, not_false_eq_true, pk_sub, qa_s1, qa_s2, qa_s8]
    exact br_t (by omega) (h _ (qt_AY_e hA (fun s _ => qt_pc_n (by omega) s)))
  | succ d ih =>
    intro i ytk hi hA h n hn
    obtain ⟨n, rfl⟩ : ∃ z, n = z + 1 := ⟨n - 1, by omega⟩
    have m := hA c (by omega)
    have m1 : ycn c = nI (F c).1 := m.2.1
    have b7' : (F c).1 ≤ 7 := m.1
    have ht : i < (F c).1 → ∀ f, f < 8 → ytk (c * 56 + i * 8 + f) = qt_yv ((F c).2 i) f := fun hin f hf => (m.2.2 i hin f hf).trans (by rw [qt_pc_i])
    have ih' := fun tok' hA' => ih (i + 1) tok' (by omega) hA' h n (by omega)
    rw [show c * 56 + (i + 1) * 8 = c * 56 + i * 8 + 8 by omega] at ih'
    by_cases hl : i < (F c).1 ∧ qt_lv ((F c).2 i)
    · refine qy_c12 hR hC m1 hc hl.1 b7' (qt_Tf_r (ht hl.1)) (qt_lv_y.mpr hl.2) (fun tok1 T1 => ?_)
      refine ih' tok1 (qt_AY_e (qt_AY_t (s := c) (i := i) (x := qt_shf R C dr dc ((F c).2 i)) hA (by omega) (qt_Tf_c T1 (hg i hl.1 hl.2))) (fun s _ => qt_pc_t ?_ s))
      unfold qt_mt
      rw [if_pos hl.2]
    · have l1 : ¬ (i < (F c).1 ∧ qt_lv (qt_yv ((F c).2 i))) := fun z => hl ⟨z.1, qt_lv_y.mp z.2⟩
      exact qy_c12d m1 hc (by omega) b7' ht l1 (ih' ytk (qt_AY_e hA (fun s hs => qt_pc_d hl s)))
theorem qy_cc {post : SY → Prop} {F : Nat → qt_Fm} {q s c R C : Nat} {dr dc : Int32} (hR : R < 100) (hC : C < 100) (hc : c < 36) (hs : s < q) (hq : 37 ≤ q) (hq' : q ≤ 73) (e : s ≠ c) (hA : qt_AY q ytk ycn F)
    (hg : ∀ i, i < (F s).1 → qt_lv ((F s).2 i) → ∀ f, f < 8 → qt_cy R C dr dc (qt_yv ((F s).2 i)) f = qt_yv (qt_shf R C dr dc ((F s).2 i)) f)
    (h : ∀ tok' cnt', qt_AY q tok' cnt' (qt_ut F c (qt_mp (qt_shf R C dr dc) (F s))) → post (nI R, nI C, yh, yw, cnt', tok', ysl, ysd, yst, yva, yow, yli, yV, yE)) : wpY_copyCell post (nI R, nI C, yh, yw, ycn, ytk, ysl, ysd, yst, yva, yow, yli, yV, yE) (nI s) (nI c) dr dc := by
  unfold wpY_copyCell
  refine qy_csA hq' hs (by omega) e hA (fun tok' cnt' hA' => ?_)
  refine nm_r (qa_m56 c) ⟨8, ?_⟩
  exact qy_cc12 (F := qt_ut F c (F s)) hR hC hc hq (by rw [qt_us]; exact hg) 7 0 _ (by decide) (qt_AY_e hA' (fun s' _ => qt_pc_0 s')) (fun tok'' hA'' => h _ _ (qt_AY_e hA'' (fun s' _ => qt_fe_e qt_pc_mp))) 8 (by omega)
end
end
section
/-! settling, pure -/
def qs_e0 (t : Nat → Int32) : Int32 := if ¬ t 0 = 1 ∧ ¬ t 0 = 3 ∧ t 1 = 1 then 2 else 0
/-- the first error among the cells below k that t names -/
def qs_fe (t st : Nat → Int32) : Nat → Int32
  | 0 => qs_e0 t
  | k + 1 => if qs_fe t st k = 0 ∧ ¬ st k < 2 ∧ qs_nm t k then st k else qs_fe t st k
/-- the numbers among the cells below k that t names -/
def qs_ls (t st vl : Nat → Int32) : Nat → List Int32
  | 0 => []
  | k + 1 => if st k = 1 ∧ qs_nm t k then qs_ls t st vl k ++ [vl k] else qs_ls t st vl k
def qs_sum (l : List Int32) : Int32 := l.foldl (fun a b => a + b) 0
def qs_ov (t st vl : Nat → Int32) : Int32 := if t 0 = 1 then t 1 else if t 0 = 5 then nI (qs_ls t st vl 36).length else qs_sum (qs_ls t st vl 36)
def qs_op (a x y : Int32) : Int32 := if a = 1 then x + y else if a = 2 then x - y else if a = 3 then x * y else if y ≤ x then 0 else 1
abbrev qs_Stk : Type := (Nat → Int32) × (Nat → Int32)
def qs_push (s : qs_Stk) (d : Nat) (e v : Int32) : qs_Stk := (upd s.1 d e, upd s.2 d (if e = 0 then v else 0))
/-- the stack behind i tokens -/
def qs_E (T : Nat → Nat → Int32) (st vl : Nat → Int32) : Nat → qs_Stk
  | 0 => (fun _ => 0, fun _ => 0)
  | i + 1 =>
    if qt_tak (T i) = 0 then qs_push (qs_E T st vl i) (qt_dep T i) (qs_fe (T i) st 36) (qs_ov (T i) st vl)
    else if qt_tak (T i) = 2 then qs_push (qs_E T st vl i) (qt_dep T i - 2) (if (qs_E T st vl i).1 (qt_dep T i - 2) = 0 then (qs_E T st vl i).1 (qt_dep T i - 1) else (qs_E T st vl i).1 (qt_dep T i - 2)) (qs_op (T i 1) ((qs_E T st vl i).2 (qt_dep T i - 2)) ((qs_E T st vl i).2 (qt_dep T i - 1)))
    else qs_E T st vl i
/-- error, height, width, elements -/
abbrev qs_Res : Type := Int32 × Nat × Nat × (Nat → Int32)
def qs_kl (t st vl : Nat → Int32) (x : Int32) : List Int32 := (qs_ls t st vl 36).filter (fun z => decide (¬ z ≤ x))
def qs_kp (s : qs_Stk) (t st vl : Nat → Int32) : qs_Res :=
  (if s.1 0 = 0 then (if qs_fe t st 36 = 0 then (if (qs_kl t st vl (s.2 0)).length = 0 then 3 else 0) else qs_fe t st 36) else s.1 0, (qs_kl t st vl (s.2 0)).length, 1, fun k => (qs_kl t st vl (s.2 0)).getD k 0)
abbrev qs_ok (x : Int32) : Prop := ¬ x < 1 ∧ ¬ 6 < x
def qs_sq (s : qs_Stk) : qs_Res :=
  (if s.1 0 = 0 then (if s.1 1 = 0 then (if s.1 2 = 0 then (if qs_ok (s.2 0) ∧ qs_ok (s.2 1) then 0 else 3) else s.1 2) else s.1 1) else s.1 0, (s.2 0).toNatClampNeg, (s.2 1).toNatClampNeg, fun k => s.2 2 + nI k)
def qs_res (f : qt_Fm) (st vl : Nat → Int32) : qs_Res :=
  if qt_tak (f.2 (f.1 - 1)) = 1 then qs_kp (qs_E f.2 st vl (f.1 - 1)) (f.2 (f.1 - 1)) st vl
  else if qt_tak (f.2 (f.1 - 1)) = 3 then qs_sq (qs_E f.2 st vl (f.1 - 1))
  else ((qs_E f.2 st vl f.1).1 0, 1, 1, fun _ => (qs_E f.2 st vl f.1).2 0)
/-- settled, status, value, owner (0: none, a + 1: cell a) -/
abbrev qs_St : Type := (Nat → Bool) × (Nat → Int32) × (Nat → Int32) × (Nat → Nat)
/-- nothing entered but a between the corners a and x -/
def qs_rc (G : Nat → qt_Fm) (a x : Nat) : Prop := (∀ s, s < 36 → s ≠ a → 0 < (G s).1 → ¬ (a / 6 ≤ s / 6 ∧ s / 6 ≤ x / 6 ∧ a % 6 ≤ s % 6 ∧ s % 6 ≤ x % 6)) ∧ a / 6 ≤ x / 6 ∧ a % 6 ≤ x % 6
def qs_cor (s x : Nat) : Nat := s / 6 * 6 + x % 6
def qs_need (G : Nat → qt_Fm) (s x : Nat) : Prop :=
  ((G s).1 = 0 ∧ qt_ar (G x) ∧ qs_rc G x s) ∨ (∃ i, i < (G s).1 ∧ qs_nm ((G s).2 i) x) ∨
  (qt_ar (G s) ∧ qt_ar (G x) ∧ x / 6 < s / 6 ∧ s % 6 < x % 6 ∧ (G (qs_cor s x)).1 = 0 ∧ qs_rc G s (qs_cor s x) ∧ qs_rc G x (qs_cor s x))
def qs_can (G : Nat → qt_Fm) (S : Nat → Bool) (s : Nat) : Prop := ∀ x, x < 36 → S x = false → ¬ qs_need G s x
abbrev qs_area (s h w x : Nat) : Prop := s / 6 ≤ x / 6 ∧ x / 6 < s / 6 + h ∧ s % 6 ≤ x % 6 ∧ x % 6 < s % 6 + w
def qs_blk (R C : Nat) (G : Nat → qt_Fm) (ow : Nat → Nat) (s h w : Nat) : Prop :=
  R < s / 6 + h ∨ C < s % 6 + w ∨ ∃ x, x < 36 ∧ x ≠ s ∧ qs_area s h w x ∧ (0 < (G x).1 ∨ (0 < ow x ∧ (ow x - 1) / 6 < s / 6))
noncomputable def qs_sc (R C : Nat) (G : Nat → qt_Fm) (s : Nat) (σ : qs_St) : qs_St :=
  if (G s).1 = 0 then (qt_ut σ.1 s true, upd σ.2.1 s 0, σ.2.2)
  else if (qs_res (G s) σ.2.1 σ.2.2.1).1 ≠ 0 then (qt_ut σ.1 s true, upd σ.2.1 s (qs_res (G s) σ.2.1 σ.2.2.1).1, σ.2.2)
  else if ¬ qt_ar (G s) then (qt_ut σ.1 s true, upd σ.2.1 s 1, upd σ.2.2.1 s ((qs_res (G s) σ.2.1 σ.2.2.1).2.2.2 0), σ.2.2.2)
  else if qa_b (qs_blk R C G σ.2.2.2 s (qs_res (G s) σ.2.1 σ.2.2.1).2.1 (qs_res (G s) σ.2.1 σ.2.2.1).2.2.1) then (qt_ut σ.1 s true, upd σ.2.1 s 4, σ.2.2)
  else (fun x => if qs_area s (qs_res (G s) σ.2.1 σ.2.2.1).2.1 (qs_res (G s) σ.2.1 σ.2.2.1).2.2.1 x then true else σ.1 x,
    fun x => if qs_area s (qs_res (G s) σ.2.1 σ.2.2.1).2.1 (qs_res (G s) σ.2.1 σ.2.2.1).2.2.1 x then 1 else σ.2.1 x,
    fun x => if qs_area s (qs_res (G s) σ.2.1 σ.2.2.1).2.1 (qs_res (G s) σ.2.1 σ.2.2.1).2.2.1 x then (qs_res (G s) σ.2.1 σ.2.2.1).2.2.2 ((x / 6 - s / 6) * (qs_res (G s) σ.2.1 σ.2.2.1).2.2.1 + (x % 6 - s % 6)) else σ.2.2.1 x,
    fun x => if qs_area s (qs_res (G s) σ.2.1 σ.2.2.1).2.1 (qs_res (G s) σ.2.1 σ.2.2.1).2.2.1 x then s + 1 else σ.2.2.2 x)
abbrev qs_sh (R C s : Nat) : Prop := s / 6 < R ∧ s % 6 < C
/-- one step, one pass over the first k cells -/
noncomputable def qs_s1 (R C : Nat) (G : Nat → qt_Fm) (s : Nat) (σ : qs_St) : qs_St := if qa_b (qs_sh R C s ∧ σ.1 s = false ∧ qs_can G σ.1 s) then qs_sc R C G s σ else σ
noncomputable def qs_ps (R C : Nat) (G : Nat → qt_Fm) : Nat → qs_St → qs_St
  | 0, σ => σ
  | k + 1, σ => qs_s1 R C G k (qs_ps R C G k σ)
noncomputable def qs_it (R C : Nat) (G : Nat → qt_Fm) : Nat → qs_St → qs_St
  | 0, σ => σ
  | k + 1, σ => qs_ps R C G 36 (qs_it R C G k σ)
def qs_0 : qs_St := (fun _ => false, fun _ => 5, fun _ => 0, fun _ => 0)
noncomputable def qs_fin (R C : Nat) (G : Nat → qt_Fm) : qs_St := qs_it R C G 36 qs_0
/-! facts: what isn't settled is as at the start -/
def qs_I (σ : qs_St) : Prop := ∀ x, σ.1 x = false → σ.2.1 x = 5 ∧ σ.2.2.1 x = 0 ∧ σ.2.2.2 x = 0
def qs_Le (σ τ : qs_St) : Prop := ∀ x, σ.1 x = true → τ.1 x = true
theorem qs_I0 : qs_I qs_0 := fun _ _ => ⟨rfl, rfl, rfl⟩
theorem qs_utf {S : Nat → Bool} {s x : Nat} (h : qt_ut S s true x = false) : x ≠ s ∧ S x = false := by
  by_cases e : x = s
  · subst e; rw [qt_us] at h; exact absurd h (by decide)
  · rw [qt_un e] at h; exact ⟨e, h⟩
theorem qs_utt {S : Nat → Bool} {s x : Nat} (h : S x = true) : qt_ut S s true x = true := by
  by_cases e : x = s
  · subst e; rw [qt_us]
  · rw [qt_un e]; exact h
theorem qs_sc_I {R C : Nat} {G : Nat → qt_Fm} {s : Nat} {σ : qs_St} (h : qs_I σ) : qs_I (qs_sc R C G s σ) := by
  unfold qs_sc
  split
  · intro x hx
    obtain ⟨e, hx⟩ := qs_utf hx
    exact ⟨(pk_un e).trans (h x hx).1, (h x hx).2⟩
  · split
    · intro x hx
      obtain ⟨e, hx⟩ := qs_utf hx
      exact ⟨(pk_un e).trans (h x hx).1, (h x hx).2⟩
    · split
      · intro x hx
        obtain ⟨e, hx⟩ := qs_utf hx
        exact ⟨(pk_un e).trans (h x hx).1, (pk_un e).trans (h x hx).2.1, (h x hx).2.2⟩
      · split
        · intro x hx
          obtain ⟨e, hx⟩ := qs_utf hx
          exact ⟨(pk_un e).trans (h x hx).1, (h x hx).2⟩
        · intro x hx
          have hx' : (if qs_area s (qs_res (G s) σ.2.1 σ.2.2.1).2.1 (qs_res (G s) σ.2.1 σ.2.2.1).2.2.1 x then true else σ.1 x) = false := hx
          by_cases e : qs_area s (qs_res (G s) σ.2.1 σ.2.2.1).2.1 (qs_res (G s) σ.2.1 σ.2.2.1).2.2.1 x
          · rw [if_pos e] at hx'; exact absurd hx' (by decide)
          · rw [if_neg e] at hx'
            refine ⟨(if_neg e).trans (h x hx').1, (if_neg e).trans (h x hx').2.1, (if_neg e).trans (h x hx').2.2⟩
theorem qs_sc_Le {R C : Nat} {G : Nat → qt_Fm} {s : Nat} {σ : qs_St} : qs_Le σ (qs_sc R C G s σ) := by
  unfold qs_sc
  split
  · exact fun x hx => qs_utt hx
  · split
    · exact fun x hx => qs_utt hx
    · split
      · exact fun x hx => qs_utt hx
      · split
        · exact fun x hx => qs_utt hx
        · intro x hx
          show (if _ then true else σ.1 x) = true
          split
          · rfl
          · exact hx
theorem qs_kl_le (t st vl : Nat → Int32) : ∀ k, (qs_ls t st vl k).length ≤ k
  | 0 => Nat.le_refl _
  | k + 1 => by
    have := qs_kl_le t st vl k
    unfold qs_ls
    split
    · rw [List.length_append]; show _ + 1 ≤ _; omega
    · omega
theorem qs_clamp {x : Int32} (h : qs_ok x) : ∃ n : Nat, 1 ≤ n ∧ n ≤ 6 ∧ x = nI n ∧ x.toNatClampNeg = n := by
  obtain ⟨h1, h2⟩ := h
  have h0 : ¬ x < 0 := fun z => h1 (Int32.lt_trans z (by decide))
  obtain ⟨j, hj, rfl⟩ := nI_of h0
  rw [qa_ltr1 hj] at h1
  rw [qa_ltl6 hj] at h2
  exact ⟨j, by omega, by omega, rfl, nI_clamp hj⟩
/-- a result without error has at least one element -/
theorem qs_res_pos {f : qt_Fm} {st vl : Nat → Int32} (h : (qs_res f st vl).1 = 0) : 0 < (qs_res f st vl).2.1 ∧ 0 < (qs_res f st vl).2.2.1 ∧ (qs_res f st vl).2.1 * (qs_res f st vl).2.2.1 ≤ 36 := by
  revert h
  unfold qs_res
  split
  · intro h
    unfold qs_kp at h ⊢
    have hl : (qs_kl (f.2 (f.1 - 1)) st vl ((qs_E f.2 st vl (f.1 - 1)).2 0)).length ≤ 36 := Nat.le_trans (List.length_filter_le _ _) (qs_kl_le _ _ _ 36)
    have hp : (qs_kl (f.2 (f.1 - 1)) st vl ((qs_E f.2 st vl (f.1 - 1)).2 0)).length ≠ 0 := by
      intro z
      rw [if_pos z] at h
      revert h
      by_cases e1 : (qs_E f.2 st vl (f.1 - 1)).1 0 = 0
      · simp only [if_pos e1]
        by_cases e2 : qs_fe (f.2 (f.1 - 1)) st 36 = 0
        · simp only [if_pos e2]; decide
        · simp only [if_neg e2]; exact e2
      · simp only [if_neg e1]; exact e1
    refine ⟨Nat.pos_of_ne_zero hp, Nat.one_pos, ?_⟩
    show (qs_kl (f.2 (f.1 - 1)) st vl ((qs_E f.2 st vl (f.1 - 1)).2 0)).length * 1 ≤ 36
    omega
  · split
    · intro h
      unfold qs_sq at h ⊢
      have hk : qs_ok ((qs_E f.2 st vl (f.1 - 1)).2 0) ∧ qs_ok ((qs_E f.2 st vl (f.1 - 1)).2 1) := by
        revert h
        by_cases e0 : (qs_E f.2 st vl (f.1 - 1)).1 0 = 0
        · simp only [if_pos e0]
          by_cases e1 : (qs_E f.2 st vl (f.1 - 1)).1 1 = 0
          · simp only [if_pos e1]
            by_cases e2 : (qs_E f.2 st vl (f.1 - 1)).1 2 = 0
            · simp only [if_pos e2]
              by_cases e3 : qs_ok ((qs_E f.2 st vl (f.1 - 1)).2 0) ∧ qs_ok ((qs_E f.2 st vl (f.1 - 1)).2 1)
              · exact fun _ => e3
              · rw [if_neg e3]; intro z; exact absurd z (by decide)
            · simp only [if_neg e2]; exact fun z => absurd z e2
          · simp only [if_neg e1]; exact fun z => absurd z e1
        · simp only [if_neg e0]; exact fun z => absurd z e0
      obtain ⟨n, a1, a2, -, a3⟩ := qs_clamp hk.1
      obtain ⟨m, b1, b2, -, b3⟩ := qs_clamp hk.2
      show 0 < Int32.toNatClampNeg _ ∧ 0 < Int32.toNatClampNeg _ ∧ Int32.toNatClampNeg _ * Int32.toNatClampNeg _ ≤ 36
      rw [a3, b3]
      refine ⟨by omega, by omega, ?_⟩
      exact Nat.le_trans (Nat.mul_le_mul a2 b2) (by decide)
    · intro _
      exact ⟨Nat.one_pos, Nat.one_pos, show 1 * 1 ≤ 36 by decide⟩
theorem qs_sc_s {R C : Nat} {G : Nat → qt_Fm} {s : Nat} {σ : qs_St} : (qs_sc R C G s σ).1 s = true := by
  unfold qs_sc
  split
  · exact qt_us
  · split
    · exact qt_us
    · rename_i hne
      split
      · exact qt_us
      · split
        · exact qt_us
        · show (if _ then true else σ.1 s) = true
          have hz : (qs_res (G s) σ.2.1 σ.2.2.1).1 = 0 := Decidable.not_not.mp hne
          have hp := qs_res_pos hz
          rw [if_pos (by omega)]
theorem qs_s1_I {R C : Nat} {G : Nat → qt_Fm} {s : Nat} {σ : qs_St} (h : qs_I σ) : qs_I (qs_s1 R C G s σ) := by
  unfold qs_s1
  split
  · exact qs_sc_I h
  · exact h
theorem qs_ps_I {R C : Nat} {G : Nat → qt_Fm} {σ : qs_St} (h : qs_I σ) : ∀ k, qs_I (qs_ps R C G k σ)
  | 0 => h
  | k + 1 => qs_s1_I (qs_ps_I h k)
theorem qs_it_I {R C : Nat} {G : Nat → qt_Fm} {σ : qs_St} (h : qs_I σ) : ∀ k, qs_I (qs_it R C G k σ)
  | 0 => h
  | k + 1 => qs_ps_I (qs_it_I h k) 36
/-! counting -/
def qs_mu (R C : Nat) (S : Nat → Bool) : Nat → Nat
  | 0 => 0
  | k + 1 => qs_mu R C S k + (if qs_sh R C k ∧ S k = false then 1 else 0)
theorem qs_mu_le {R C : Nat} {S S' : Nat → Bool} (h : ∀ x, S x = true → S' x = true) : ∀ k, qs_mu R C S' k ≤ qs_mu R C S k
  | 0 => Nat.le_refl _
  | k + 1 => by
    have := qs_mu_le (R := R) (C := C) h k
    unfold qs_mu
    by_cases e : qs_sh R C k ∧ S' k = false
    · rw [if_pos e]
      have : S k = false := by
        cases z : S k
        · rfl
        · rw [h k z] at e; exact absurd e.2 (by decide)
      rw [if_pos ⟨e.1, this⟩]
      omega
    · rw [if_neg e]; omega
theorem qs_mu_lt {R C s : Nat} {S S' : Nat → Bool} (h : ∀ x, S x = true → S' x = true) (hs : qs_sh R C s) (h0 : S s = false) (h1 : S' s = true) : ∀ k, s < k → qs_mu R C S' k < qs_mu R C S k
  | 0, z => absurd z (Nat.not_lt_zero s)
  | k + 1, z => by
    unfold qs_mu
    by_cases e : s = k
    · subst e
      have := qs_mu_le (R := R) (C := C) h s
      rw [if_neg (show ¬ (qs_sh R C s ∧ S' s = false) from fun y => by rw [h1] at y; exact absurd y.2 (by decide)), if_pos (show qs_sh R C s ∧ S s = false from ⟨hs, h0⟩)]
      omega
    · have := qs_mu_lt h hs h0 h1 k (by omega)
      by_cases e : qs_sh R C k ∧ S' k = false
      · rw [if_pos e]
        have : S k = false := by
          cases z : S k
          · rfl
          · rw [h k z] at e; exact absurd e.2 (by decide)
        rw [if_pos ⟨e.1, this⟩]
        omega
      · rw [if_neg e]; omega
theorem qs_mu_b (R C : Nat) (S : Nat → Bool) : ∀ k, qs_mu R C S k ≤ k
  | 0 => Nat.le_refl _
  | k + 1 => by
    have := qs_mu_b R C S k
    unfold qs_mu
    split <;> omega
/-- a fixpoint stays -/
theorem qs_it_f {R C : Nat} {G : Nat → qt_Fm} {σ : qs_St} {k : Nat} (h : qs_it R C G (k + 1) σ = qs_it R C G k σ) : ∀ m, qs_it R C G (k + m) σ = qs_it R C G k σ
  | 0 => rfl
  | m + 1 => by
    show qs_ps R C G 36 (qs_it R C G (k + m) σ) = _
    rw [qs_it_f h m]; exact h
end
section
/-! the component: reach and needs -/
def qs_clr (G : Nat → qt_Fm) (a y x : Nat) : Prop := ∀ s, s < 36 → s ≠ a → 0 < (G s).1 → ¬ (a / 6 ≤ s / 6 ∧ s / 6 < y ∧ a % 6 ≤ s % 6 ∧ s % 6 ≤ x)
def qs_mk (G : Nat → qt_Fm) (C a y x : Nat) (m : Int64) : Prop := ∀ i, i < 64 → (qa_tb m i = true ↔ i < 36 ∧ (i / 6 < y ∨ (i / 6 = y ∧ i % 6 < x)) ∧ i % 6 < C ∧ (G i).1 = 0 ∧ qs_rc G a i)
def qs_lm (G : Nat → qt_Fm) (C a y L : Nat) : Prop := a % 6 ≤ L ∧ L ≤ C ∧ ∀ x, a % 6 ≤ x → x < C → (x < L ↔ qs_clr G a y x)
/-- nothing entered but a in row y from a's column up to x -/
def qs_rw (G : Nat → qt_Fm) (a y x : Nat) : Prop := ∀ s, s < 36 → s ≠ a → s / 6 = y → a % 6 ≤ s % 6 → s % 6 < x → (G s).1 = 0
theorem qs_rw_s {G : Nat → qt_Fm} {a y x : Nat} (h : qs_rw G a y x) (k : y * 6 + x = a ∨ (G (y * 6 + x)).1 = 0) : qs_rw G a y (x + 1) := by
  intro s h1 h2 h3 h4 h5
  by_cases e : s % 6 < x
  · exact h s h1 h2 h3 h4 e
  · have : s = y * 6 + x := by omega
    subst this
    exact k.resolve_left h2
theorem qs_lm_end {G : Nat → qt_Fm} {C a y L : Nat} (h : qs_lm G C a y L) (hr : qs_rw G a y L) : qs_lm G C a (y + 1) L := by
  refine ⟨h.1, h.2.1, fun x h1 h2 => ⟨fun h3 s a1 a2 a3 a4 => ?_, fun h3 => (h.2.2 x h1 h2).mpr (fun s a1 a2 a3 a4 => h3 s a1 a2 a3 ⟨a4.1, by omega, a4.2.2⟩)⟩⟩
  by_cases e : s / 6 = y
  · have := hr s a1 a2 e a4.2.2.1 (by omega)
    omega
  · exact (h.2.2 x h1 h2).mp h3 s a1 a2 a3 ⟨a4.1, by omega, a4.2.2⟩
theorem qs_lm_cut {G : Nat → qt_Fm} {C a y L x : Nat} (h : qs_lm G C a y L) (hr : qs_rw G a y x) (hx : a % 6 ≤ x) (hL : x < L) (hay : a / 6 ≤ y) (hy : y < 6) (hC : C ≤ 6) (hk : y * 6 + x ≠ a) (hn : 0 < (G (y * 6 + x)).1) : qs_lm G C a (y + 1) x := by
  refine ⟨hx, by have := h.2.1; omega, fun z h1 h2 => ⟨fun h3 s a1 a2 a3 a4 => ?_, fun h3 => ?_⟩⟩
  · by_cases e : s / 6 = y
    · have := hr s a1 a2 e a4.2.2.1 (by omega)
      omega
    · exact (h.2.2 z h1 h2).mp (by omega) s a1 a2 a3 ⟨a4.1, by omega, a4.2.2⟩
  · have h6 := h.2.1
    have := h3 (y * 6 + x) (by omega) hk hn
    have e1 : (y * 6 + x) / 6 = y := by omega
    have e2 : (y * 6 + x) % 6 = x := by omega
    rw [e1, e2] at this
    omega
/-- behind a row's end nothing more is reached -/
theorem qs_mk_end {G : Nat → qt_Fm} {C a y L x : Nat} {m : Int64} (h : qs_mk G C a y x m) (hb : ∀ i, i < 36 → i / 6 = y → x ≤ i % 6 → i % 6 < C → (G i).1 = 0 → ¬ qs_rc G a i) : qs_mk G C a (y + 1) 0 m := by
  intro i hi
  rw [h i hi]
  constructor
  · rintro ⟨a1, a2, a3, a4, a5⟩
    exact ⟨a1, Or.inl (by omega), a3, a4, a5⟩
  · rintro ⟨a1, a2, a3, a4, a5⟩
    refine ⟨a1, ?_, a3, a4, a5⟩
    by_cases e : i / 6 = y
    · refine Or.inr ⟨e, ?_⟩
      apply Decidable.byContradiction
      intro z
      exact hb i a1 e (by omega) a3 a4 a5
    · exact Or.inl (by omega)
theorem qs_mk_skip {G : Nat → qt_Fm} {C a y x : Nat} {m : Int64} (h : qs_mk G C a y x m) (hy : y < 6) (hx : x < 6) (hk : ¬ (G (y * 6 + x)).1 = 0) : qs_mk G C a y (x + 1) m := by
  intro i hi
  rw [h i hi]
  constructor
  · rintro ⟨a1, a2, a3⟩
    exact ⟨a1, by omega, a3⟩
  · rintro ⟨a1, a2, a3, a4, a5⟩
    refine ⟨a1, ?_, a3, a4, a5⟩
    by_cases e : i = y * 6 + x
    · subst e; exact absurd a4 hk
    · omega
theorem qs_mk_put {G : Nat → qt_Fm} {C a y x : Nat} {m : Int64} (h : qs_mk G C a y x m) (hy : y < 6) (hx : x < C) (hC : C ≤ 6) (h0 : (G (y * 6 + x)).1 = 0) (hr : qs_rc G a (y * 6 + x)) : qs_mk G C a y (x + 1) (m ||| ((1 : Int64) <<< ((nI (y * 6 + x)).toInt64 &&& 63))) := by
  intro i hi
  rw [qa_tbs (by omega), Bool.or_eq_true, decide_eq_true_eq, h i hi]
  constructor
  · rintro (⟨a1, a2, a3⟩ | e)
    · exact ⟨a1, by omega, a3⟩
    · subst e
      exact ⟨by omega, by omega, by omega, h0, hr⟩
  · rintro ⟨a1, a2, a3, a4, a5⟩
    by_cases e : i = y * 6 + x
    · exact Or.inr e
    · exact Or.inl ⟨a1, by omega, a3, a4, a5⟩
section
variable {nr nc st sl sb sr sta oe oh ow : Int32} {stl : Int64} {tok cnt stt val own sv se out : Nat → Int32} {rch nds : Nat → Int64}
theorem qx_rf23 {post : Int64 → Prop} {G : Nat → qt_Fm} {C a y : Nat} {J : Int64 → Int32 → Int32 → Prop} (hA : qt_AX 36 tok cnt G) (ha : a < 36) (hn : 0 < (G a).1) (hay : a / 6 ≤ y) (hy : y < 6) (hC : C ≤ 6) {L : Nat} (hL : qs_lm G C a y L) (h : ∀ m' L', qs_lm G C a (y + 1) L' → qs_mk G C a (y + 1) 0 m' → J m' (nI L') (nI (y + 1))) :
    ∀ (d x : Nat) (m : Int64), x + d = L → a % 6 ≤ x → qs_rw G a y x → qs_mk G C a y x m → ∀ n, d + 1 < n → wX_reachFrom_23 post J (nI (a / 6)) (nI (a % 6)) (nI y) nr nc st sl sb sr sta stl oe oh ow tok cnt stt val own rch nds sv se out n m (nI L) (nI x) := by
  intro d
  have hLC := hL.2.1
  induction d with
  | zero =>
    intro x m hx hax hr hm n hn'
    obtain ⟨n, rfl⟩ : ∃ z, n = z + 1 := ⟨n - 1, by omega⟩
    obtain rfl : x = L := by omega
    simp (disch := omega) only [wX_reachFrom_23, nI_add, pk_mul, qa_a1, qa_a2, qa_a3, qa_a4, qa_a5, qa_a6, qa_a7, qa_a8, qa_a56, qa_m6, qa_m7, qa_m8, qa_m56, qa_l2, qa_l37, qa_l2016, qa_in, nI_clamp, forall_eq, true_and, qa_cl0, nI_leI, nI_ltI, nI_eq, not_false_eq_true, pk_sub, qa_s1, qa_s2, qa_s8]
    refine br_t (by omega) (h _ _ (qs_lm_end hL hr) (qs_mk_end (L := x) hm (fun i h1 h2 h3 h4 h5 h6 => ?_)))
    have := (hL.2.2 (i % 6) (by omega) h4).mpr (fun s b1 b2 b3 b4 => h6.1 s b1 b2 b3 ⟨b4.1, by omega, b4.2.2.1, by omega⟩)
    omega
  | succ d ih =>
    intro x m hx hax hr hm n hn'
    obtain ⟨n, rfl⟩ : ∃ z, n = z + 1 := ⟨n - 1, by omega⟩
    have A := hA (y * 6 + x) (by omega)
    have m1 : cnt (y * 6 + x) = nI (G (y * 6 + x)).1 := A.2.1
    have A7 := A.1
    have key : ¬ (y = a / 6 ∧ x = a % 6) → wX_reachFrom_55 post J (wX_reachFrom_23 post J (nI (a / 6)) (nI (a % 6)) (nI y) nr nc st sl sb sr sta stl oe oh ow tok cnt stt val own rch nds sv se out n) (nI (a / 6)) (nI (a % 6)) m (nI L) (nI y) (nI x) (nI (y * 6 + x)) nr nc st sl sb sr sta stl oe oh ow tok cnt stt val own rch nds sv se out := by
      intro hne
      have hka : y * 6 + x ≠ a := by omega
      unfold wX_reachFrom_55
      simp (disch := omega) only [m1, qa_ler0, nI_add, pk_mul, qa_a1, qa_a2, qa_a3, qa_a4, qa_a5, qa_a6, qa_a7, qa_a8, qa_a56, qa_m6, qa_m7, qa_m8, qa_m56, qa_l2, qa_l37, qa_l2016, qa_in, nI_clamp, forall_eq, true_and, qa_cl0, nI_leI, nI_ltI, nI_eq, not_false_eq_true, pk_sub, qa_s1, qa_s2, qa_s8]
      by_cases e : (G (y * 6 + x)).1 ≤ 0
      · refine br_t e ?_
        have e0 : (G (y * 6 + x)).1 = 0 := by omega
        refine ih (x + 1) _ (by omega) (by omega) (qs_rw_s hr (Or.inr e0)) (qs_mk_put hm hy (by omega) hC e0 ?_) _ (by omega)
        have e1 : (y * 6 + x) / 6 = y := by omega
        have e2 : (y * 6 + x) % 6 = x := by omega
        refine ⟨fun s b1 b2 b3 b4 => ?_, by omega, by omega⟩
        rw [e1, e2] at b4
        by_cases e3 : s / 6 = y
        · by_cases e4 : s % 6 = x
          · have : s = y * 6 + x := by omega
            subst this
            omega
          · have := hr s b1 b2 e3 b4.2.2.1 (by omega)
            omega
        · exact (hL.2.2 x hax (by omega)).mp (by omega) s b1 b2 b3 ⟨b4.1, by omega, b4.2.2⟩
      · refine br_f e ?_
        have e0 : 0 < (G (y * 6 + x)).1 := by omega
        obtain ⟨p, rfl⟩ : ∃ z, n = z + 1 := ⟨n - 1, by omega⟩
        simp (disch := omega) only [wX_reachFrom_23, nI_add, pk_mul, qa_a1, qa_a2, qa_a3, qa_a4, qa_a5, qa_a6, qa_a7, qa_a8, qa_a56, qa_m6, qa_m7, qa_m8, qa_m56, qa_l2, qa_l37, qa_l2016, qa_in, nI_clamp, forall_eq, true_and, qa_cl0, nI_leI, nI_ltI, nI_eq, not_false_eq_true, pk_sub, qa_s1, qa_s2, qa_s8]
        refine br_t (by omega) (h _ _ (qs_lm_cut hL hr hax (by omega) hay hy hC hka e0) (qs_mk_end (L := x) hm (fun i h1 h2 h3 h4 h5 h6 => ?_)))
        have e1 : (y * 6 + x) / 6 = y := by omega
        have e2 : (y * 6 + x) % 6 = x := by omega
        have := h6.1 (y * 6 + x) (by omega) hka e0
        rw [e1, e2] at this
        omega
    simp (disch := omega) only [wX_reachFrom_23, nI_add, pk_mul, qa_a1, qa_a2, qa_a3, qa_a4, qa_a5, qa_a6, qa_a7, qa_a8, qa_a56, qa_m6, qa_m7, qa_m8, qa_m56, qa_l2, qa_l37, qa_l2016, qa_in, nI_clamp, forall_eq, true_and, qa_cl0, nI_leI, nI_ltI, nI_eq, not_false_eq_true, pk_sub, qa_s1, qa_s2, qa_s8]
    refine br_f (by omega) ?_
    by_cases c1 : y = a / 6
    · refine br_t c1 ?_
      by_cases c2 : x = a % 6
      · refine br_t c2 ?_
        have hka : y * 6 + x = a := by omega
        have hk0 : ¬ (G (y * 6 + x)).1 = 0 := by rw [hka]; omega
        exact ih (x + 1) _ (by omega) (by omega) (qs_rw_s hr (Or.inl hka)) (qs_mk_skip hm hy (by omega) hk0) _ (by omega)
      · exact br_f c2 (key (fun z => c2 z.2))
    · exact br_f c1 (key (fun z => c1 z.1))
theorem qx_rf11 {post : Int64 → Prop} {G : Nat → qt_Fm} {R C a : Nat} (hA : qt_AX 36 tok cnt G) (ha : a < 36) (hn : 0 < (G a).1) (hR : R ≤ 6) (hC : C ≤ 6) (h : ∀ m, qs_mk G C a R 0 m → post m) :
    ∀ (d y L : Nat) (m : Int64), y + d = R → a / 6 ≤ y → qs_lm G C a y L → qs_mk G C a y 0 m → ∀ n, d < n → wX_reachFrom_11 post (nI (a / 6)) (nI (a % 6)) (nI R) (nI C) st sl sb sr sta stl oe oh ow tok cnt stt val own rch nds sv se out n m (nI L) (nI y) := by
  intro d
  induction d with
  | zero =>
    intro y L m hy hay hL hm n hn'
    obtain ⟨n, rfl⟩ : ∃ z, n = z + 1 := ⟨n - 1, by omega⟩
    obtain rfl : y = R := by omega
    simp (disch := omega) only [wX_reachFrom_11, nI_add, pk_mul, qa_a1, qa_a2, qa_a3, qa_a4, qa_a5, qa_a6, qa_a7, qa_a8, qa_a56, qa_m6, qa_m7, qa_m8, qa_m56, qa_l2, qa_l37, qa_l2016, qa_in, nI_clamp, forall_eq, true_and, qa_cl0, nI_leI, nI_ltI, nI_eq, not_false_eq_true, pk_sub, qa_s1, qa_s2, qa_s8]
    exact br_t (by omega) (h _ hm)
  | succ d ih =>
    intro y L m hy hay hL hm n hn'
    obtain ⟨n, rfl⟩ : ∃ z, n = z + 1 := ⟨n - 1, by omega⟩
    have hLC := hL.2.1
    have hLa := hL.1
    simp (disch := omega) only [wX_reachFrom_11, nI_add, pk_mul, qa_a1, qa_a2, qa_a3, qa_a4, qa_a5, qa_a6, qa_a7, qa_a8, qa_a56, qa_m6, qa_m7, qa_m8, qa_m56, qa_l2, qa_l37, qa_l2016, qa_in, nI_clamp, forall_eq, true_and, qa_cl0, nI_leI, nI_ltI, nI_eq, not_false_eq_true, pk_sub, qa_s1, qa_s2, qa_s8]
    refine br_f (by omega) ⟨L + 2, ?_⟩
    refine qx_rf23 hA ha hn hay (by omega) hC hL (fun m' L' h1 h2 => ih (y + 1) L' m' (by omega) (by omega) h1 h2 n (by omega)) (L - a % 6) (a % 6) m (by omega) (Nat.le_refl _) (fun s _ _ _ h4 h5 => by omega) ?_ (L + 2) (by omega)
    intro i hi
    rw [hm i hi]
    constructor
    · rintro ⟨a1, a2, a3⟩
      exact ⟨a1, by omega, a3⟩
    · rintro ⟨a1, a2, a3, a4, a5⟩
      refine ⟨a1, ?_, a3, a4, a5⟩
      rcases a2 with a2 | a2
      · exact Or.inl a2
      · exact absurd a5.2.2 (by omega)
/-- the mask of what array cell s reaches -/
def qs_RM (R C : Nat) (G : Nat → qt_Fm) (s : Nat) (m : Int64) : Prop := ∀ i, i < 64 → (qa_tb m i = true ↔ qt_ar (G s) ∧ i < 36 ∧ qs_sh R C i ∧ (G i).1 = 0 ∧ qs_rc G s i)
theorem qx_rf {post : Int64 → Prop} {G : Nat → qt_Fm} {R C a : Nat} (hA : qt_AX 36 tok cnt G) (ha : a < 36) (hs : qs_sh R C a) (har : qt_ar (G a)) (hR : R ≤ 6) (hC : C ≤ 6) (h : ∀ m, qs_RM R C G a m → post m) : wpX_reachFrom post (nI R, nI C, st, sl, sb, sr, sta, stl, oe, oh, ow, tok, cnt, stt, val, own, rch, nds, sv, se, out) (nI (a / 6)) (nI (a % 6)) := by
  unfold wpX_reachFrom
  refine ⟨R + 1, qx_rf11 hA ha har.1 hR hC (fun m hm => h m (fun i hi => ?_)) (R - a / 6) (a / 6) C 0 (by omega) (Nat.le_refl _) ⟨by omega, Nat.le_refl _, fun x _ _ => ⟨fun _ s _ _ _ z => by omega, fun _ => by omega⟩⟩ (fun i hi => ?_) (R + 1) (by omega)⟩
  · rw [hm i hi]
    constructor
    · rintro ⟨a1, a2, a3, a4, a5⟩
      exact ⟨har, a1, ⟨by omega, a3⟩, a4, a5⟩
    · rintro ⟨-, a1, a3, a4, a5⟩
      exact ⟨a1, by omega, a3.2, a4, a5⟩
  · rw [qa_tb0]
    constructor
    · intro z; exact absurd z (by decide)
    · rintro ⟨a1, a2, a3, a4, a5⟩
      exact absurd a5.2.1 (by omega)
theorem qx_rf' {post : Int64 → Prop} {G : Nat → qt_Fm} {R C a r c : Nat} (hr : a / 6 = r) (hc : a % 6 = c) (hA : qt_AX 36 tok cnt G) (ha : a < 36) (hs : qs_sh R C a) (har : qt_ar (G a)) (hR : R ≤ 6) (hC : C ≤ 6) (h : ∀ m, qs_RM R C G a m → post m) : wpX_reachFrom post (nI R, nI C, st, sl, sb, sr, sta, stl, oe, oh, ow, tok, cnt, stt, val, own, rch, nds, sv, se, out) (nI r) (nI c) := by
  subst hr hc
  exact qx_rf hA ha hs har hR hC h
theorem qt_kd_ar {f : qt_Fm} : qt_kd f.1 f.2 = 2 ↔ qt_ar f := by
  unfold qt_kd
  by_cases e : f.1 = 0
  · rw [if_pos e]
    exact ⟨fun z => absurd z (by decide), fun z => absurd z.1 (by omega)⟩
  · rw [if_neg e]
    by_cases e2 : qt_tak (f.2 (f.1 - 1)) = 1 ∨ qt_tak (f.2 (f.1 - 1)) = 3
    · rw [if_pos e2]
      exact ⟨fun _ => ⟨by omega, e2⟩, fun _ => rfl⟩
    · rw [if_neg e2]
      exact ⟨fun z => absurd z (by decide), fun z => absurd z.2 e2⟩
theorem qt_kd_0 {f : qt_Fm} : qt_kd f.1 f.2 = 0 ↔ f.1 = 0 := by
  unfold qt_kd
  by_cases e : f.1 = 0
  · rw [if_pos e]
    exact ⟨fun _ => e, fun _ => rfl⟩
  · rw [if_neg e]
    refine ⟨fun z => ?_, fun z => absurd z e⟩
    revert z
    split
    · intro z; exact absurd z (by decide)
    · intro z; exact absurd z (by decide)
/-- the cells ahead of (r, c) in the sheet -/
abbrev qs_bf (R C r c s : Nat) : Prop := qs_sh R C s ∧ (s / 6 < r ∨ (s / 6 = r ∧ s % 6 < c))
/-- an array of masks, filled for the cells ahead of (r, c) -/
def qs_fl (Q : Nat → Int64 → Prop) (R C r c : Nat) (a : Nat → Int64) : Prop := ∀ s, s < 36 → (qs_bf R C r c s → Q s (a s)) ∧ (¬ qs_bf R C r c s → a s = 0)
theorem qs_fl_n {Q : Nat → Int64 → Prop} {R C r : Nat} {a : Nat → Int64} (h : qs_fl Q R C r C a) : qs_fl Q R C (r + 1) 0 a := by
  intro s hs
  refine ⟨fun z => (h s hs).1 ⟨z.1, by have := z.1.2; omega⟩, fun z => (h s hs).2 (fun y => z ⟨y.1, by omega⟩)⟩
theorem qs_fl_u {Q : Nat → Int64 → Prop} {R C r c : Nat} {a : Nat → Int64} {m : Int64} (h : qs_fl Q R C r c a) (hr : r < 6) (hc : c < 6) (hin : qs_sh R C (r * 6 + c)) (hm : Q (r * 6 + c) m) : qs_fl Q R C r (c + 1) (vp_updL a (r * 6 + c) m) := by
  intro s hs
  by_cases e : s = r * 6 + c
  · subst e
    rw [pk_uLs]
    exact ⟨fun _ => hm, fun z => absurd ⟨hin, by omega⟩ z⟩
  · rw [pk_uLn e]
    exact ⟨fun z => (h s hs).1 ⟨z.1, by omega⟩, fun z => (h s hs).2 (fun y => z ⟨y.1, by omega⟩)⟩
theorem qs_fl_k {Q : Nat → Int64 → Prop} {R C r c : Nat} {a : Nat → Int64} (h : qs_fl Q R C r c a) (hr : r < 6) (hc : c < 6) (hm : ¬ qs_bf R C r c (r * 6 + c) → a (r * 6 + c) = 0 → Q (r * 6 + c) (a (r * 6 + c))) : qs_fl Q R C r (c + 1) a := by
  intro s hs
  refine ⟨fun z => ?_, fun z => (h s hs).2 (fun y => z ⟨y.1, by omega⟩)⟩
  by_cases e : s = r * 6 + c
  · subst e
    have n : ¬ qs_bf R C r c (r * 6 + c) := fun y => by have := y.2; omega
    exact hm n ((h _ hs).2 n)
  · exact (h s hs).1 ⟨z.1, by omega⟩
theorem qx_fr12 {post : SX → Prop} {G : Nat → qt_Fm} {R C r : Nat} {J : Int32 → (Nat → Int32) → (Nat → Int32) → (Nat → Int32) → (Nat → Int32) → (Nat → Int32) → (Nat → Int64) → (Nat → Int64) → (Nat → Int32) → (Nat → Int32) → (Nat → Int32) → Prop} (hA : qt_AX 36 tok cnt G) (hR : R ≤ 6) (hC : C ≤ 6) (hr : r < R) (h : ∀ rch', qs_fl (qs_RM R C G) R C (r + 1) 0 rch' → J (nI (r + 1)) tok cnt stt val own rch' nds sv se out) :
    ∀ (d c : Nat) (rch : Nat → Int64), c + d = C → qs_fl (qs_RM R C G) R C r c rch → ∀ n, d < n → wX_findReach_12 post J (nI r) (nI R) (nI C) st sl sb sr sta stl oe oh ow n (nI c) tok cnt stt val own rch nds sv se out := by
  intro d
  induction d with
  | zero =>
    intro c rch hc hf n hn
    obtain ⟨n, rfl⟩ : ∃ z, n = z + 1 := ⟨n - 1, by omega⟩
    obtain rfl : c = C := by omega
    simp (disch := omega) only [wX_findReach_12, nI_add, pk_mul, qa_a1, qa_a2, qa_a3, qa_a4, qa_a5, qa_a6, qa_a7, qa_a8, qa_a56, qa_m6, qa_m7, qa_m8, qa_m56, qa_l2, qa_l37, qa_l2016, qa_in, nI_clamp, forall_eq, true_and, qa_cl0, nI_leI, nI_ltI, nI_eq, not_false_eq_true, pk_sub, qa_s1, qa_s2, qa_s8]
    exact br_t (by omega) (h _ (qs_fl_n hf))
  | succ d ih =>
    intro c rch hc hf n hn
    obtain ⟨n, rfl⟩ : ∃ z, n = z + 1 := ⟨n - 1, by omega⟩
    have A := hA (r * 6 + c) (by omega)
    simp (disch := omega) only [wX_findReach_12, nI_add, pk_mul, qa_a1, qa_a2, qa_a3, qa_a4, qa_a5, qa_a6, qa_a7, qa_a8, qa_a56, qa_m6, qa_m7, qa_m8, qa_m56, qa_l2, qa_l37, qa_l2016, qa_in, nI_clamp, forall_eq, true_and, qa_cl0, nI_leI, nI_ltI, nI_eq, not_false_eq_true, pk_sub, qa_s1, qa_s2, qa_s8]
    refine br_f (by omega) ?_
    refine qx_kind A.2 (by omega) A.1 ?_
    have hin : qs_sh R C (r * 6 + c) := by omega
    by_cases e : qt_ar (G (r * 6 + c))
    · refine br_t (qt_kd_ar.mpr e) ?_
      exact qx_rf' (a := r * 6 + c) (by omega) (by omega) hA (by omega) hin e hR hC (fun m hm => ih (c + 1) _ (by omega) (qs_fl_u hf (by omega) (by omega) hin hm) n (by omega))
    · refine br_f (fun z => e (qt_kd_ar.mp z)) ?_
      refine ih (c + 1) _ (by omega) (qs_fl_k hf (by omega) (by omega) (fun _ z => ?_)) n (by omega)
      rw [z]
      intro i _
      rw [qa_tb0]
      exact ⟨fun z => absurd z (by decide), fun z => absurd z.1 e⟩
theorem qx_fr2 {post : SX → Prop} {G : Nat → qt_Fm} {R C : Nat} (hA : qt_AX 36 tok cnt G) (hR : R ≤ 6) (hC : C ≤ 6) (h : ∀ rch', qs_fl (qs_RM R C G) R C R 0 rch' → post (nI R, nI C, st, sl, sb, sr, sta, stl, oe, oh, ow, tok, cnt, stt, val, own, rch', nds, sv, se, out)) :
    ∀ (d r : Nat) (rch : Nat → Int64), r + d = R → qs_fl (qs_RM R C G) R C r 0 rch → ∀ n, d < n → wX_findReach_2 post (nI R) (nI C) st sl sb sr sta stl oe oh ow n (nI r) tok cnt stt val own rch nds sv se out := by
  intro d
  induction d with
  | zero =>
    intro r rch hr hf n hn
    obtain ⟨n, rfl⟩ : ∃ z, n = z + 1 := ⟨n - 1, by omega⟩
    obtain rfl : r = R := by omega
    simp (disch := omega) only [wX_findReach_2, nI_add, pk_mul, qa_a1, qa_a2, qa_a3, qa_a4, qa_a5, qa_a6, qa_a7, qa_a8, qa_a56, qa_m6, qa_m7, qa_m8, qa_m56, qa_l2, qa_l37, qa_l2016, qa_in, nI_clamp, forall_eq, true_and, qa_cl0, nI_leI, nI_ltI, nI_eq, not_false_eq_true, pk_sub, qa_s1, qa_s2, qa_s8]
    exact br_t (by omega) (h _ hf)
  | succ d ih =>
    intro r rch hr hf n hn
    obtain ⟨n, rfl⟩ : ∃ z, n = z + 1 := ⟨n - 1, by omega⟩
    simp (disch := omega) only [wX_findReach_2, nI_add, pk_mul, qa_a1, qa_a2, qa_a3, qa_a4, qa_a5, qa_a6, qa_a7, qa_a8, qa_a56, qa_m6, qa_m7, qa_m8, qa_m56, qa_l2, qa_l37, qa_l2016, qa_in, nI_clamp, forall_eq, true_and, qa_cl0, nI_leI, nI_ltI, nI_eq, not_false_eq_true, pk_sub, qa_s1, qa_s2, qa_s8]
    refine br_f (by omega) ⟨C + 1, ?_⟩
    exact qx_fr12 hA hR hC (by omega) (fun rch' hf' => ih (r + 1) rch' (by omega) hf' n (by omega)) C 0 rch (Nat.zero_add C) hf (C + 1) (by omega)
theorem qx_fr {post : SX → Prop} {G : Nat → qt_Fm} {R C : Nat} (hA : qt_AX 36 tok cnt G) (hV : qt_VC R C G) (hR : R ≤ 6) (hC : C ≤ 6) (h0 : ∀ s, s < 36 → rch s = 0) (h : ∀ rch', (∀ s, s < 36 → qs_RM R C G s (rch' s)) → post (nI R, nI C, st, sl, sb, sr, sta, stl, oe, oh, ow, tok, cnt, stt, val, own, rch', nds, sv, se, out)) : wpX_findReach post (nI R, nI C, st, sl, sb, sr, sta, stl, oe, oh, ow, tok, cnt, stt, val, own, rch, nds, sv, se, out) := by
  unfold wpX_findReach
  refine ⟨R + 1, qx_fr2 hA hR hC (fun rch' hf => h _ (fun s hs => ?_)) R 0 rch (Nat.zero_add R) (fun s hs => ⟨fun z => by have := z.2; omega, fun _ => h0 s hs⟩) (R + 1) (by omega)⟩
  by_cases e : qs_bf R C R 0 s
  · exact (hf s hs).1 e
  · rw [(hf s hs).2 e]
    intro i _
    rw [qa_tb0]
    refine ⟨fun z => absurd z (by decide), fun z => ?_⟩
    have := (hV s hs).2 z.1.1
    exact absurd ⟨⟨this.1, this.2.1⟩, Or.inl this.1⟩ e
end
end
section
/-! the component: needs -/
theorem qt_VT_lv {R C : Nat} {t : Nat → Int32} (h : qt_VT R C t) (l : qt_lv t) : qt_LV R C t ∧ qt_rk (t 0) := by
  rcases h with h | ⟨h, -⟩ | ⟨h, ⟨h1, -⟩ | ⟨-, h2⟩⟩
  · exact absurd h l.1
  · exact absurd h l.2.1
  · rw [l.2.2] at h1; exact absurd h1 (by decide)
  · exact ⟨h2, h⟩
theorem qs_nm_iff {t : Nat → Int32} {r c r' c' k : Nat} (l : qt_lv t) (e2 : t 2 = nI r) (e3 : t 3 = nI c) (e5 : qt_bot t = nI r') (e6 : qt_rgt t = nI c') (hr : r < 100) (hc : c < 100) (hr' : r' < 100) (hc' : c' < 100) (hk : k < 1000) : qs_nm t k ↔ r ≤ k / 6 ∧ k / 6 ≤ r' ∧ c ≤ k % 6 ∧ k % 6 ≤ c' := by
  unfold qs_nm qs_inR
  rw [e2, e3, e5, e6, nI_ltI (by omega) (by omega), nI_ltI (by omega) (by omega), nI_ltI (by omega) (by omega), nI_ltI (by omega) (by omega)]
  constructor
  · rintro ⟨-, a1, a2, a3, a4⟩
    omega
  · intro h
    exact ⟨l, by omega, by omega, by omega, by omega⟩
/-- a mask of B and of the rectangle's cells ahead of (y, x) -/
def qs_nb (B : Nat → Prop) (r c c' y x : Nat) (m : Int64) : Prop := ∀ i, i < 64 → (qa_tb m i = true ↔ B i ∨ (i < 36 ∧ r ≤ i / 6 ∧ c ≤ i % 6 ∧ i % 6 ≤ c' ∧ (i / 6 < y ∨ (i / 6 = y ∧ i % 6 < x))))
section
variable {nr nc st sl sb sr sta oe oh ow : Int32} {stl : Int64} {tok cnt stt val own sv se out : Nat → Int32} {rch nds : Nat → Int64}
theorem qx_rs5 {post : Int64 → Prop} {s : Nat} (hs : s < 36) (h : ∀ m, (∀ i, i < 64 → (qa_tb m i = true ↔ i < 36 ∧ qa_tb (rch i) s = true)) → post m) : ∀ (d a : Nat) (m : Int64), a + d = 36 → (∀ i, i < 64 → (qa_tb m i = true ↔ i < a ∧ qa_tb (rch i) s = true)) → ∀ n, d < n → wX_reachersOf_5 post (nI s) nr nc st sl sb sr sta stl oe oh ow tok cnt stt val own rch nds sv se out n m (nI a) := by
  intro d
  induction d with
  | zero =>
    intro a m ha hm n hn
    obtain ⟨n, rfl⟩ : ∃ z, n = z + 1 := ⟨n - 1, by omega⟩
    obtain rfl : a = 36 := by omega
    unfold wX_reachersOf_5
    exact br_t (by decide) (h _ hm)
  | succ d ih =>
    intro a m ha hm n hn
    obtain ⟨n, rfl⟩ : ∃ z, n = z + 1 := ⟨n - 1, by omega⟩
    simp (disch := omega) only [wX_reachersOf_5, qa_lel36, nI_add, pk_mul, qa_a1, qa_a2, qa_a3, qa_a4, qa_a5, qa_a6, qa_a7, qa_a8, qa_a56, qa_m6, qa_m7, qa_m8, qa_m56, qa_l2, qa_l37, qa_l2016, qa_in, nI_clamp, forall_eq, true_and, qa_cl0, nI_leI, nI_ltI, nI_eq, not_false_eq_true, pk_sub, qa_s1, qa_s2, qa_s8]
    refine br_f (by omega) ?_
    by_cases e : qa_tb (rch a) s = true
    · refine br_f (by rw [qa_tand (by omega), e]; decide) (ih (a + 1) _ (by omega) (fun i hi => ?_) n (by omega))
      rw [qa_tbs (by omega), Bool.or_eq_true, decide_eq_true_eq, hm i hi]
      constructor
      · rintro (⟨a1, a2⟩ | rfl)
        · exact ⟨by omega, a2⟩
        · exact ⟨by omega, e⟩
      · rintro ⟨a1, a2⟩
        by_cases z : i = a
        · exact Or.inr z
        · exact Or.inl ⟨by omega, a2⟩
    · have e' : qa_tb (rch a) s = false := by simpa using e
      refine br_t (by rw [qa_tand (by omega)]; exact e') (ih (a + 1) _ (by omega) (fun i hi => ?_) n (by omega))
      rw [hm i hi]
      constructor
      · rintro ⟨a1, a2⟩; exact ⟨by omega, a2⟩
      · rintro ⟨a1, a2⟩
        by_cases z : i = a
        · subst z; exact absurd a2 e
        · exact ⟨by omega, a2⟩
theorem qx_rs {post : Int64 → Prop} {s : Nat} (hs : s < 36) (h : ∀ m, (∀ i, i < 64 → (qa_tb m i = true ↔ i < 36 ∧ qa_tb (rch i) s = true)) → post m) : wpX_reachersOf post (nr, nc, st, sl, sb, sr, sta, stl, oe, oh, ow, tok, cnt, stt, val, own, rch, nds, sv, se, out) (nI s) := by
  unfold wpX_reachersOf
  refine ⟨37, qx_rs5 hs h 36 0 0 (by decide) (fun i _ => ?_) 37 (by decide)⟩
  rw [qa_tb0]
  exact ⟨fun z => absurd z (by decide), fun z => absurd z.1 (Nat.not_lt_zero i)⟩
theorem qx_nb79 {post : Int64 → Prop} {J5 J61 : Int64 → Int32 → Prop} {x1 x4 x5 x6 : Int32} {B : Nat → Prop} {r c c' y : Nat} (hr : r ≤ y) (hy : y < 6) (hc' : c' < 6) (h : ∀ m, qs_nb B r c c' (y + 1) 0 m → J61 m (nI (y + 1))) :
    ∀ (d x : Nat) (m : Int64), x + d = c' + 1 → c ≤ x → qs_nb B r c c' y x m → ∀ n, d < n → wX_namedBy_79 post J5 J61 x1 x4 x5 x6 (nI c') (nI y) nr nc st sl sb sr sta stl oe oh ow tok cnt stt val own rch nds sv se out n m (nI x) := by
  intro d
  induction d with
  | zero =>
    intro x m hx hc hm n hn
    obtain ⟨n, rfl⟩ : ∃ z, n = z + 1 := ⟨n - 1, by omega⟩
    obtain rfl : x = c' + 1 := by omega
    simp (disch := omega) only [wX_namedBy_79, nI_add, pk_mul, qa_a1, qa_a2, qa_a3, qa_a4, qa_a5, qa_a6, qa_a7, qa_a8, qa_a56, qa_m6, qa_m7, qa_m8, qa_m56, qa_l2, qa_l37, qa_l2016, qa_in, nI_clamp, forall_eq, true_and, qa_cl0, nI_leI, nI_ltI, nI_eq, not_false_eq_true, pk_sub, qa_s1, qa_s2, qa_s8]
    refine br_t (by omega) (h _ (fun i hi => ?_))
    rw [hm i hi]
    constructor
    · rintro (a | a)
      · exact Or.inl a
      · exact Or.inr (by omega)
    · rintro (a | a)
      · exact Or.inl a
      · exact Or.inr (by omega)
  | succ d ih =>
    intro x m hx hc hm n hn
    obtain ⟨n, rfl⟩ : ∃ z, n = z + 1 := ⟨n - 1, by omega⟩
    simp (disch := omega) only [wX_namedBy_79, nI_add, pk_mul, qa_a1, qa_a2, qa_a3, qa_a4, qa_a5, qa_a6, qa_a7, qa_a8, qa_a56, qa_m6, qa_m7, qa_m8, qa_m56, qa_l2, qa_l37, qa_l2016, qa_in, nI_clamp, forall_eq, true_and, qa_cl0, nI_leI, nI_ltI, nI_eq, not_false_eq_true, pk_sub, qa_s1, qa_s2, qa_s8]
    refine br_f (by omega) (ih (x + 1) _ (by omega) (by omega) (fun i hi => ?_) n (by omega))
    rw [qa_tbs (by omega), Bool.or_eq_true, decide_eq_true_eq, hm i hi]
    constructor
    · rintro ((a | a) | rfl)
      · exact Or.inl a
      · exact Or.inr (by omega)
      · exact Or.inr (by omega)
    · rintro (a | a)
      · exact Or.inl (Or.inl a)
      · by_cases z : i = y * 6 + x
        · exact Or.inr z
        · exact Or.inl (Or.inr (by omega))
theorem qx_nb61 {post : Int64 → Prop} {J5 : Int64 → Int32 → Prop} {x1 : Int32} {B : Nat → Prop} {b j r c r' c' : Nat} (hb : b + 8 ≤ 4088) (k3 : tok (b + 3) = nI c) (hr' : r' < 6) (hc' : c' < 6) (hcc : c ≤ c') (h : ∀ m, qs_nb B r c c' (r' + 1) 0 m → J5 m (nI (j + 1))) :
    ∀ (d y : Nat) (m : Int64), y + d = r' + 1 → r ≤ y → qs_nb B r c c' y 0 m → ∀ n, d < n → wX_namedBy_61 post J5 x1 (nI j) (nI b) (nI r') (nI c') nr nc st sl sb sr sta stl oe oh ow tok cnt stt val own rch nds sv se out n m (nI y) := by
  intro d
  induction d with
  | zero =>
    intro y m hy hr hm n hn
    obtain ⟨n, rfl⟩ : ∃ z, n = z + 1 := ⟨n - 1, by omega⟩
    obtain rfl : y = r' + 1 := by omega
    simp (disch := omega) only [wX_namedBy_61, nI_add, pk_mul, qa_a1, qa_a2, qa_a3, qa_a4, qa_a5, qa_a6, qa_a7, qa_a8, qa_a56, qa_m6, qa_m7, qa_m8, qa_m56, qa_l2, qa_l37, qa_l2016, qa_in, nI_clamp, forall_eq, true_and, qa_cl0, nI_leI, nI_ltI, nI_eq, not_false_eq_true, pk_sub, qa_s1, qa_s2, qa_s8]
    exact br_t (by omega) (h _ hm)
  | succ d ih =>
    intro y m hy hr hm n hn
    obtain ⟨n, rfl⟩ : ∃ z, n = z + 1 := ⟨n - 1, by omega⟩
    simp (disch := omega) only [wX_namedBy_61, k3, nI_add, pk_mul, qa_a1, qa_a2, qa_a3, qa_a4, qa_a5, qa_a6, qa_a7, qa_a8, qa_a56, qa_m6, qa_m7, qa_m8, qa_m56, qa_l2, qa_l37, qa_l2016, qa_in, nI_clamp, forall_eq, true_and, qa_cl0, nI_leI, nI_ltI, nI_eq, not_false_eq_true, pk_sub, qa_s1, qa_s2, qa_s8]
    refine br_f (by omega) ⟨8, ?_⟩
    refine qx_nb79 (B := B) hr (by omega) hc' (fun m' hm' => ih (y + 1) m' (by omega) (by omega) hm' n (by omega)) (c' + 1 - c) c m (by omega) (Nat.le_refl _) (fun i hi => ?_) 8 (by omega)
    rw [hm i hi]
    constructor
    · rintro (a | a)
      · exact Or.inl a
      · exact Or.inr (by omega)
    · rintro (a | a)
      · exact Or.inl a
      · exact Or.inr (by omega)
theorem qx_nb5 {post : Int64 → Prop} {R C s : Nat} {f : qt_Fm} (hM : qt_MX tok cnt s f.1 f.2) (hs : s < 36) (hV : qt_VF R C f.1 f.2) (hR : R ≤ 6) (hC : C ≤ 6) (h : ∀ m, (∀ i, i < 64 → (qa_tb m i = true ↔ i < 36 ∧ ∃ j, j < f.1 ∧ qs_nm (f.2 j) i)) → post m) :
    ∀ (d k : Nat) (m : Int64), k + d = f.1 → (∀ i, i < 64 → (qa_tb m i = true ↔ i < 36 ∧ ∃ j, j < k ∧ qs_nm (f.2 j) i)) → ∀ n, d < n → wX_namedBy_5 post (nI s) nr nc st sl sb sr sta stl oe oh ow tok cnt stt val own rch nds sv se out n m (nI k) := by
  intro d
  have h7 := hV.1
  have m1 : cnt s = nI f.1 := hM.1
  induction d with
  | zero =>
    intro k m hk hm n hn
    obtain ⟨n, rfl⟩ : ∃ z, n = z + 1 := ⟨n - 1, by omega⟩
    obtain rfl : k = f.1 := by omega
    simp (disch := omega) only [wX_namedBy_5, m1, nI_add, pk_mul, qa_a1, qa_a2, qa_a3, qa_a4, qa_a5, qa_a6, qa_a7, qa_a8, qa_a56, qa_m6, qa_m7, qa_m8, qa_m56, qa_l2, qa_l37, qa_l2016, qa_in, nI_clamp, forall_eq, true_and, qa_cl0, nI_leI, nI_ltI, nI_eq, not_false_eq_true, pk_sub, qa_s1, qa_s2, qa_s8]
    exact br_t (by omega) (h _ hm)
  | succ d ih =>
    intro k m hk hm n hn
    obtain ⟨n, rfl⟩ : ∃ z, n = z + 1 := ⟨n - 1, by omega⟩
    have ht : ∀ g, g < 8 → tok (s * 56 + k * 8 + g) = f.2 k g := hM.2 k (by omega)
    have hb : s * 56 + k * 8 + 8 ≤ 4088 := by omega
    simp (disch := omega) only [wX_namedBy_5, m1, nI_add, pk_mul, qa_a1, qa_a2, qa_a3, qa_a4, qa_a5, qa_a6, qa_a7, qa_a8, qa_a56, qa_m6, qa_m7, qa_m8, qa_m56, qa_l2, qa_l37, qa_l2016, qa_in, nI_clamp, forall_eq, true_and, qa_cl0, nI_leI, nI_ltI, nI_eq, not_false_eq_true, pk_sub, qa_s1, qa_s2, qa_s8]
    refine br_f (by omega) ?_
    refine qx_base ?_
    refine qx_live hb ht (fun l => ?_) (fun l => ?_)
    · refine br_f (by decide) ?_
      obtain ⟨⟨r, c, r', c', -, -, q1, q2, q3, q4, -, -, e2, e3, -, e5, e6, -⟩, -⟩ := qt_VT_lv (hV.2 k (by omega)) l
      refine qx_bot hb ht ?_
      refine qx_rgt hb ht ?_
      have k2 : tok (s * 56 + k * 8 + 2) = nI r := (ht 2 (by decide)).trans e2
      have k3 : tok (s * 56 + k * 8 + 3) = nI c := (ht 3 (by decide)).trans e3
      rw [e5, e6]
      simp (disch := omega) only [k2, nI_add, pk_mul, qa_a1, qa_a2, qa_a3, qa_a4, qa_a5, qa_a6, qa_a7, qa_a8, qa_a56, qa_m6, qa_m7, qa_m8, qa_m56, qa_l2, qa_l37, qa_l2016, qa_in, nI_clamp, forall_eq, true_and, qa_cl0, nI_leI, nI_ltI, nI_eq, not_false_eq_true, pk_sub, qa_s1, qa_s2, qa_s8]
      refine ⟨8, qx_nb61 (B := fun i => i < 36 ∧ ∃ j, j < k ∧ qs_nm (f.2 j) i) hb k3 (by omega) (by omega) q3 (fun m' hm' => ih (k + 1) m' (by omega) (fun i hi => ?_) n (by omega)) (r' + 1 - r) r m (by omega) (Nat.le_refl _) (fun i hi => ?_) 8 (by omega)⟩
      · rw [hm' i hi]
        have nmi := qs_nm_iff (k := i) l e2 e3 e5 e6 (by omega) (by omega) (by omega) (by omega) (by omega)
        constructor
        · rintro (⟨a1, j, a2, a3⟩ | a)
          · exact ⟨a1, j, by omega, a3⟩
          · exact ⟨a.1, k, by omega, nmi.mpr (by omega)⟩
        · rintro ⟨a1, j, a2, a3⟩
          by_cases z : j = k
          · subst z
            have := nmi.mp a3
            exact Or.inr ⟨a1, by omega, by omega, by omega, by omega⟩
          · exact Or.inl ⟨a1, j, by omega, a3⟩
      · rw [hm i hi]
        constructor
        · exact fun a => Or.inl a
        · rintro (a | a)
          · exact a
          · omega
    · refine br_t (by decide) (ih (k + 1) m (by omega) (fun i hi => ?_) n (by omega))
      rw [hm i hi]
      constructor
      · rintro ⟨a1, j, a2, a3⟩
        exact ⟨a1, j, by omega, a3⟩
      · rintro ⟨a1, j, a2, a3⟩
        by_cases z : j = k
        · subst z; exact absurd a3.1 l
        · exact ⟨a1, j, by omega, a3⟩
theorem qx_nb {post : Int64 → Prop} {R C s : Nat} {f : qt_Fm} (hM : qt_MX tok cnt s f.1 f.2) (hs : s < 36) (hV : qt_VF R C f.1 f.2) (hR : R ≤ 6) (hC : C ≤ 6) (h : ∀ m, (∀ i, i < 64 → (qa_tb m i = true ↔ i < 36 ∧ ∃ j, j < f.1 ∧ qs_nm (f.2 j) i)) → post m) : wpX_namedBy post (nr, nc, st, sl, sb, sr, sta, stl, oe, oh, ow, tok, cnt, stt, val, own, rch, nds, sv, se, out) (nI s) := by
  unfold wpX_namedBy
  refine ⟨8, qx_nb5 hM hs hV hR hC h f.1 0 0 (Nat.zero_add _) (fun i _ => ?_) 8 (by have := hV.1; omega)⟩
  rw [qa_tb0]
  exact ⟨fun z => absurd z (by decide), fun ⟨_, j, z, _⟩ => absurd z (Nat.not_lt_zero j)⟩
/-- the rivals of s = (r, c) ahead of (y, x) -/
def qs_rv (C : Nat) (rch : Nat → Int64) (r c y x : Nat) (m : Int64) : Prop := ∀ i, i < 64 → (qa_tb m i = true ↔ i < 36 ∧ (i / 6 < y ∨ (i / 6 = y ∧ i % 6 < x)) ∧ c < i % 6 ∧ i % 6 < C ∧ qa_tb (rch (r * 6 + c)) (r * 6 + i % 6) = true ∧ qa_tb (rch i) (r * 6 + i % 6) = true)
theorem qx_rv29 {post : Int64 → Prop} {C r c y : Nat} {J : Int64 → Int32 → Prop} (hC : C ≤ 6) (hr : r < 6) (hy : y < 6) (h : ∀ m, qs_rv C rch r c (y + 1) 0 m → J m (nI (y + 1))) :
    ∀ (d x : Nat) (m : Int64), x + d = C → c < x → qs_rv C rch r c y x m → ∀ n, d < n → wX_rivalsOf_29 post J (nI r) (nI c) (rch (r * 6 + c)) (nI y) nr (nI C) st sl sb sr sta stl oe oh ow tok cnt stt val own rch nds sv se out n m (nI x) := by
  intro d
  induction d with
  | zero =>
    intro x m hx hc hm n hn
    obtain ⟨n, rfl⟩ : ∃ z, n = z + 1 := ⟨n - 1, by omega⟩
    obtain rfl : x = C := by omega
    simp (disch := omega) only [wX_rivalsOf_29, nI_add, pk_mul, qa_a1, qa_a2, qa_a3, qa_a4, qa_a5, qa_a6, qa_a7, qa_a8, qa_a56, qa_m6, qa_m7, qa_m8, qa_m56, qa_l2, qa_l37, qa_l2016, qa_in, nI_clamp, forall_eq, true_and, qa_cl0, nI_leI, nI_ltI, nI_eq, not_false_eq_true, pk_sub, qa_s1, qa_s2, qa_s8]
    refine br_t (by omega) (h _ (fun i hi => ?_))
    rw [hm i hi]
    constructor
    · rintro ⟨a1, a2, a3, a4, a5⟩
      exact ⟨a1, by omega, a3, a4, a5⟩
    · rintro ⟨a1, a2, a3, a4, a5⟩
      exact ⟨a1, by omega, a3, a4, a5⟩
  | succ d ih =>
    intro x m hx hc hm n hn
    obtain ⟨n, rfl⟩ : ∃ z, n = z + 1 := ⟨n - 1, by omega⟩
    simp (disch := omega) only [wX_rivalsOf_29, nI_add, pk_mul, qa_a1, qa_a2, qa_a3, qa_a4, qa_a5, qa_a6, qa_a7, qa_a8, qa_a56, qa_m6, qa_m7, qa_m8, qa_m56, qa_l2, qa_l37, qa_l2016, qa_in, nI_clamp, forall_eq, true_and, qa_cl0, nI_leI, nI_ltI, nI_eq, not_false_eq_true, pk_sub, qa_s1, qa_s2, qa_s8]
    refine br_f (by omega) ?_
    have e1 : (y * 6 + x) / 6 = y := by omega
    have e2 : (y * 6 + x) % 6 = x := by omega
    by_cases e : qa_tb (rch (r * 6 + c)) (r * 6 + x) = true ∧ qa_tb (rch (y * 6 + x)) (r * 6 + x) = true
    · refine br_f (by rw [qa_tand (by omega), qa_tba, e.1, e.2]; decide) (ih (x + 1) _ (by omega) (by omega) (fun i hi => ?_) n (by omega))
      rw [qa_tbs (by omega), Bool.or_eq_true, decide_eq_true_eq, hm i hi]
      constructor
      · rintro (⟨a1, a2, a3⟩ | rfl)
        · exact ⟨a1, by omega, a3⟩
        · rw [e1, e2]
          exact ⟨by omega, by omega, by omega, by omega, e⟩
      · rintro ⟨a1, a2, a3⟩
        by_cases z : i = y * 6 + x
        · exact Or.inr z
        · exact Or.inl ⟨a1, by omega, a3⟩
    · have e' : (qa_tb (rch (r * 6 + c)) (r * 6 + x) && qa_tb (rch (y * 6 + x)) (r * 6 + x)) = false := by
        cases z1 : qa_tb (rch (r * 6 + c)) (r * 6 + x)
        · rfl
        · cases z2 : qa_tb (rch (y * 6 + x)) (r * 6 + x)
          · rfl
          · exact absurd ⟨z1, z2⟩ e
      refine br_t (by rw [qa_tand (by omega), qa_tba]; exact e') (ih (x + 1) _ (by omega) (by omega) (fun i hi => ?_) n (by omega))
      rw [hm i hi]
      constructor
      · rintro ⟨a1, a2, a3⟩
        exact ⟨a1, by omega, a3⟩
      · rintro ⟨a1, a2, a3, a4, a5⟩
        by_cases z : i = y * 6 + x
        · subst z
          rw [e2] at a5
          exact absurd a5 e
        · exact ⟨a1, by omega, a3, a4, a5⟩
theorem qx_rv18 {post : Int64 → Prop} {C r c : Nat} (hC : C ≤ 6) (hr : r < 6) (hc : c < C) (h : ∀ m, qs_rv C rch r c r 0 m → post m) :
    ∀ (d y : Nat) (m : Int64), y + d = r → qs_rv C rch r c y 0 m → ∀ n, d < n → wX_rivalsOf_18 post (nI r) (nI c) (rch (r * 6 + c)) nr (nI C) st sl sb sr sta stl oe oh ow tok cnt stt val own rch nds sv se out n m (nI y) := by
  intro d
  induction d with
  | zero =>
    intro y m hy hm n hn
    obtain ⟨n, rfl⟩ : ∃ z, n = z + 1 := ⟨n - 1, by omega⟩
    obtain rfl : y = r := by omega
    simp (disch := omega) only [wX_rivalsOf_18, nI_add, pk_mul, qa_a1, qa_a2, qa_a3, qa_a4, qa_a5, qa_a6, qa_a7, qa_a8, qa_a56, qa_m6, qa_m7, qa_m8, qa_m56, qa_l2, qa_l37, qa_l2016, qa_in, nI_clamp, forall_eq, true_and, qa_cl0, nI_leI, nI_ltI, nI_eq, not_false_eq_true, pk_sub, qa_s1, qa_s2, qa_s8]
    exact br_t (by omega) (h _ hm)
  | succ d ih =>
    intro y m hy hm n hn
    obtain ⟨n, rfl⟩ : ∃ z, n = z + 1 := ⟨n - 1, by omega⟩
    simp (disch := omega) only [wX_rivalsOf_18, nI_add, pk_mul, qa_a1, qa_a2, qa_a3, qa_a4, qa_a5, qa_a6, qa_a7, qa_a8, qa_a56, qa_m6, qa_m7, qa_m8, qa_m56, qa_l2, qa_l37, qa_l2016, qa_in, nI_clamp, forall_eq, true_and, qa_cl0, nI_leI, nI_ltI, nI_eq, not_false_eq_true, pk_sub, qa_s1, qa_s2, qa_s8]
    refine br_f (by omega) ⟨8, ?_⟩
    refine qx_rv29 hC hr (by omega) (fun m' hm' => ih (y + 1) m' (by omega) hm' n (by omega)) (C - (c + 1)) (c + 1) m (by omega) (by omega) (fun i hi => ?_) 8 (by omega)
    rw [hm i hi]
    constructor
    · rintro ⟨a1, a2, a3⟩
      exact ⟨a1, by omega, a3⟩
    · rintro ⟨a1, a2, a3⟩
      exact ⟨a1, by omega, a3⟩
theorem qx_rv {post : Int64 → Prop} {C r c : Nat} (hC : C ≤ 6) (hr : r < 6) (hc : c < C) (h : ∀ m, qs_rv C rch r c r 0 m → post m) : wpX_rivalsOf post (nr, nI C, st, sl, sb, sr, sta, stl, oe, oh, ow, tok, cnt, stt, val, own, rch, nds, sv, se, out) (nI r) (nI c) := by
  simp (disch := omega) only [wpX_rivalsOf, nI_add, pk_mul, qa_a1, qa_a2, qa_a3, qa_a4, qa_a5, qa_a6, qa_a7, qa_a8, qa_a56, qa_m6, qa_m7, qa_m8, qa_m56, qa_l2, qa_l37, qa_l2016, qa_in, nI_clamp, forall_eq, true_and, qa_cl0, nI_leI, nI_ltI, nI_eq, not_false_eq_true, pk_sub, qa_s1, qa_s2, qa_s8]
  refine ⟨7, qx_rv18 hC hr hc h r 0 0 (Nat.zero_add r) (fun i _ => ?_) 7 (by omega)⟩
  rw [qa_tb0]
  exact ⟨fun z => absurd z (by decide), fun ⟨_, z, _⟩ => absurd z (by omega)⟩
/-- the mask of what cell s waits for -/
def qs_NM (G : Nat → qt_Fm) (s : Nat) (m : Int64) : Prop := ∀ i, i < 64 → (qa_tb m i = true ↔ i < 36 ∧ qs_need G s i)
theorem qs_need_0 {R C : Nat} {G : Nat → qt_Fm} {s : Nat} {m : Int64} (hr : ∀ a, a < 36 → qs_RM R C G a (rch a)) (hs : s < 36) (hin : qs_sh R C s) (h0 : (G s).1 = 0) (h : ∀ i, i < 64 → (qa_tb m i = true ↔ i < 36 ∧ qa_tb (rch i) s = true)) : qs_NM G s m := by
  intro i hi
  rw [h i hi]
  constructor
  · rintro ⟨a1, a2⟩
    have := (hr i a1 s (by omega)).mp a2
    exact ⟨a1, Or.inl ⟨h0, this.1, this.2.2.2.2⟩⟩
  · rintro ⟨a1, a2⟩
    refine ⟨a1, (hr i a1 s (by omega)).mpr ?_⟩
    rcases a2 with a | ⟨j, a, -⟩ | a
    · exact ⟨a.2.1, hs, hin, h0, a.2.2⟩
    · rw [h0] at a; exact absurd a (Nat.not_lt_zero j)
    · have := a.1.1; omega
theorem qs_need_1 {G : Nat → qt_Fm} {s : Nat} {m : Int64} (h0 : ¬ (G s).1 = 0) (ha : ¬ qt_ar (G s)) (h : ∀ i, i < 64 → (qa_tb m i = true ↔ i < 36 ∧ ∃ j, j < (G s).1 ∧ qs_nm ((G s).2 j) i)) : qs_NM G s m := by
  intro i hi
  rw [h i hi]
  constructor
  · rintro ⟨a1, a2⟩
    exact ⟨a1, Or.inr (Or.inl a2)⟩
  · rintro ⟨a1, a2⟩
    refine ⟨a1, ?_⟩
    rcases a2 with a | a | a
    · exact absurd a.1 h0
    · exact a
    · exact absurd a.1 ha
theorem qs_need_2 {R C r c : Nat} {G : Nat → qt_Fm} {m m' : Int64} (hr : ∀ a, a < 36 → qs_RM R C G a (rch a)) (hV : qt_VC R C G) (hR : R ≤ 6) (hC : C ≤ 6) (hr6 : r < R) (hc6 : c < C) (ha : qt_ar (G (r * 6 + c))) (h : ∀ i, i < 64 → (qa_tb m i = true ↔ i < 36 ∧ ∃ j, j < (G (r * 6 + c)).1 ∧ qs_nm ((G (r * 6 + c)).2 j) i)) (h' : qs_rv C rch r c r 0 m') : qs_NM G (r * 6 + c) (m ||| m') := by
  intro i hi
  have e1 : (r * 6 + c) / 6 = r := by omega
  have e2 : (r * 6 + c) % 6 = c := by omega
  have ec : qs_cor (r * 6 + c) i = r * 6 + i % 6 := by unfold qs_cor; omega
  have d1 : (r * 6 + i % 6) / 6 = r := by omega
  have d2 : (r * 6 + i % 6) % 6 = i % 6 := by omega
  rw [qa_tbo, Bool.or_eq_true, h i hi, h' i hi]
  constructor
  · rintro (⟨a1, a2⟩ | ⟨a1, a2, a3, a4, a5, a6⟩)
    · exact ⟨a1, Or.inr (Or.inl a2)⟩
    · have b5 := (hr _ (by omega) _ (by omega)).mp a5
      have b6 := (hr _ a1 _ (by omega)).mp a6
      refine ⟨a1, Or.inr (Or.inr ⟨ha, b6.1, by omega, by omega, ?_⟩)⟩
      rw [ec]
      exact ⟨b5.2.2.2.1, b5.2.2.2.2, b6.2.2.2.2⟩
  · rintro ⟨a1, a2⟩
    rcases a2 with a | a | a
    · have := a.1; have := ha.1; omega
    · exact Or.inl ⟨a1, a⟩
    · refine Or.inr ⟨a1, by omega, by omega, ?_⟩
      obtain ⟨-, b2, b3, b4, b5, b6, b7⟩ := a
      rw [ec] at b5 b6 b7
      have hi6 := (hV i a1).2 b2.1
      have hsh : qs_sh R C (r * 6 + i % 6) := by unfold qs_sh; omega
      exact ⟨hi6.2.1, (hr _ (by omega) _ (by omega)).mpr ⟨ha, by omega, hsh, b5, b6⟩, (hr _ a1 _ (by omega)).mpr ⟨b2, by omega, hsh, b5, b7⟩⟩
theorem qx_fn12 {post : SX → Prop} {G : Nat → qt_Fm} {R C r : Nat} {J : Int32 → (Nat → Int32) → (Nat → Int32) → (Nat → Int32) → (Nat → Int32) → (Nat → Int32) → (Nat → Int64) → (Nat → Int64) → (Nat → Int32) → (Nat → Int32) → (Nat → Int32) → Prop} (hA : qt_AX 36 tok cnt G) (hV : qt_VC R C G) (hrm : ∀ a, a < 36 → qs_RM R C G a (rch a)) (hR : R ≤ 6) (hC : C ≤ 6) (hr : r < R) (h : ∀ nds', qs_fl (qs_NM G) R C (r + 1) 0 nds' → J (nI (r + 1)) tok cnt stt val own rch nds' sv se out) :
    ∀ (d c : Nat) (nds : Nat → Int64), c + d = C → qs_fl (qs_NM G) R C r c nds → ∀ n, d < n → wX_findNeeds_12 post J (nI r) (nI R) (nI C) st sl sb sr sta stl oe oh ow n (nI c) tok cnt stt val own rch nds sv se out := by
  intro d
  induction d with
  | zero =>
    intro c nds hc hf n hn
    obtain ⟨n, rfl⟩ : ∃ z, n = z + 1 := ⟨n - 1, by omega⟩
    obtain rfl : c = C := by omega
    simp (disch := omega) only [wX_findNeeds_12, nI_add, pk_mul, qa_a1, qa_a2, qa_a3, qa_a4, qa_a5, qa_a6, qa_a7, qa_a8, qa_a56, qa_m6, qa_m7, qa_m8, qa_m56, qa_l2, qa_l37, qa_l2016, qa_in, nI_clamp, forall_eq, true_and, qa_cl0, nI_leI, nI_ltI, nI_eq, not_false_eq_true, pk_sub, qa_s1, qa_s2, qa_s8]
    exact br_t (by omega) (h _ (qs_fl_n hf))
  | succ d ih =>
    intro c nds hc hf n hn
    obtain ⟨n, rfl⟩ : ∃ z, n = z + 1 := ⟨n - 1, by omega⟩
    have A := hA (r * 6 + c) (by omega)
    have hV1 := (hV (r * 6 + c) (by omega)).1
    simp (disch := omega) only [wX_findNeeds_12, nI_add, pk_mul, qa_a1, qa_a2, qa_a3, qa_a4, qa_a5, qa_a6, qa_a7, qa_a8, qa_a56, qa_m6, qa_m7, qa_m8, qa_m56, qa_l2, qa_l37, qa_l2016, qa_in, nI_clamp, forall_eq, true_and, qa_cl0, nI_leI, nI_ltI, nI_eq, not_false_eq_true, pk_sub, qa_s1, qa_s2, qa_s8]
    refine br_f (by omega) ?_
    refine qx_kind A.2 (by omega) A.1 ?_
    have hin : qs_sh R C (r * 6 + c) := by unfold qs_sh; omega
    by_cases e0 : (G (r * 6 + c)).1 = 0
    · refine br_t (qt_kd_0.mpr e0) ?_
      exact qx_rs (by omega) (fun m hm => ih (c + 1) _ (by omega) (qs_fl_u hf (by omega) (by omega) hin (qs_need_0 hrm (by omega) hin e0 hm)) n (by omega))
    · refine br_f (fun z => e0 (qt_kd_0.mp z)) ?_
      refine qx_nb A.2 (by omega) hV1 hR hC (fun m hm => ?_)
      by_cases e : qt_ar (G (r * 6 + c))
      · refine br_t (qt_kd_ar.mpr e) ?_
        exact qx_rv hC (by omega) (by omega) (fun m' hm' => ih (c + 1) _ (by omega) (qs_fl_u hf (by omega) (by omega) hin (qs_need_2 hrm hV hR hC hr (by omega) e hm hm')) n (by omega))
      · refine br_f (fun z => e (qt_kd_ar.mp z)) ?_
        exact ih (c + 1) _ (by omega) (qs_fl_u hf (by omega) (by omega) hin (qs_need_1 e0 e hm)) n (by omega)
theorem qx_fn2 {post : SX → Prop} {G : Nat → qt_Fm} {R C : Nat} (hA : qt_AX 36 tok cnt G) (hV : qt_VC R C G) (hrm : ∀ a, a < 36 → qs_RM R C G a (rch a)) (hR : R ≤ 6) (hC : C ≤ 6) (h : ∀ nds', qs_fl (qs_NM G) R C R 0 nds' → post (nI R, nI C, st, sl, sb, sr, sta, stl, oe, oh, ow, tok, cnt, stt, val, own, rch, nds', sv, se, out)) :
    ∀ (d r : Nat) (nds : Nat → Int64), r + d = R → qs_fl (qs_NM G) R C r 0 nds → ∀ n, d < n → wX_findNeeds_2 post (nI R) (nI C) st sl sb sr sta stl oe oh ow n (nI r) tok cnt stt val own rch nds sv se out := by
  intro d
  induction d with
  | zero =>
    intro r nds hr hf n hn
    obtain ⟨n, rfl⟩ : ∃ z, n = z + 1 := ⟨n - 1, by omega⟩
    obtain rfl : r = R := by omega
    simp (disch := omega) only [wX_findNeeds_2, nI_add, pk_mul, qa_a1, qa_a2, qa_a3, qa_a4, qa_a5, qa_a6, qa_a7, qa_a8, qa_a56, qa_m6, qa_m7, qa_m8, qa_m56, qa_l2, qa_l37, qa_l2016, qa_in, nI_clamp, forall_eq, true_and, qa_cl0, nI_leI, nI_ltI, nI_eq, not_false_eq_true, pk_sub, qa_s1, qa_s2, qa_s8]
    exact br_t (by omega) (h _ hf)
  | succ d ih =>
    intro r nds hr hf n hn
    obtain ⟨n, rfl⟩ : ∃ z, n = z + 1 := ⟨n - 1, by omega⟩
    simp (disch := omega) only [wX_findNeeds_2, nI_add, pk_mul, qa_a1, qa_a2, qa_a3, qa_a4, qa_a5, qa_a6, qa_a7, qa_a8, qa_a56, qa_m6, qa_m7, qa_m8, qa_m56, qa_l2, qa_l37, qa_l2016, qa_in, nI_clamp, forall_eq, true_and, qa_cl0, nI_leI, nI_ltI, nI_eq, not_false_eq_true, pk_sub, qa_s1, qa_s2, qa_s8]
    refine br_f (by omega) ⟨C + 1, ?_⟩
    exact qx_fn12 hA hV hrm hR hC (by omega) (fun nds' hf' => ih (r + 1) nds' (by omega) hf' n (by omega)) C 0 nds (Nat.zero_add C) hf (C + 1) (by omega)
theorem qx_fn {post : SX → Prop} {G : Nat → qt_Fm} {R C : Nat} (hA : qt_AX 36 tok cnt G) (hV : qt_VC R C G) (hrm : ∀ a, a < 36 → qs_RM R C G a (rch a)) (hR : R ≤ 6) (hC : C ≤ 6) (h0 : ∀ s, s < 36 → nds s = 0) (h : ∀ nds', (∀ s, s < 36 → qs_sh R C s → qs_NM G s (nds' s)) → post (nI R, nI C, st, sl, sb, sr, sta, stl, oe, oh, ow, tok, cnt, stt, val, own, rch, nds', sv, se, out)) : wpX_findNeeds post (nI R, nI C, st, sl, sb, sr, sta, stl, oe, oh, ow, tok, cnt, stt, val, own, rch, nds, sv, se, out) := by
  unfold wpX_findNeeds
  refine ⟨R + 1, qx_fn2 hA hV hrm hR hC (fun nds' hf => h _ (fun s hs hin => (hf s hs).1 ⟨hin, Or.inl hin.1⟩)) R 0 nds (Nat.zero_add R) (fun s hs => ⟨fun z => by have := z.2; omega, fun _ => h0 s hs⟩) (R + 1) (by omega)⟩
end
end
section
/-! the component: evaluation -/
theorem qs_fe_skip {t st : Nat → Int32} {a : Nat} : ∀ (d : Nat), (∀ k, a ≤ k → k < a + d → ¬ qs_nm t k) → qs_fe t st (a + d) = qs_fe t st a
  | 0, _ => rfl
  | d + 1, h => by
    show (if _ ∧ _ ∧ qs_nm t (a + d) then _ else _) = _
    rw [if_neg (fun z => h (a + d) (by omega) (by omega) z.2.2)]
    exact qs_fe_skip d (fun k h1 h2 => h k h1 (by omega))
theorem qs_fe_nz {t st : Nat → Int32} {a : Nat} (e : ¬ qs_fe t st a = 0) : ∀ (d : Nat), qs_fe t st (a + d) = qs_fe t st a
  | 0 => rfl
  | d + 1 => by
    show (if qs_fe t st (a + d) = 0 ∧ _ then _ else _) = _
    have ih := qs_fe_nz (st := st) e d
    rw [if_neg (fun z => e (ih.symm.trans z.1))]
    exact ih
theorem qs_fe_skip' {t st : Nat → Int32} {a b : Nat} (hab : a ≤ b) (h : ∀ k, a ≤ k → k < b → ¬ qs_nm t k) : qs_fe t st b = qs_fe t st a := by
  obtain ⟨d, rfl⟩ : ∃ d, b = a + d := ⟨b - a, by omega⟩
  exact qs_fe_skip d h
theorem qs_fe_nz' {t st : Nat → Int32} {a b : Nat} (hab : a ≤ b) (e : ¬ qs_fe t st a = 0) : qs_fe t st b = qs_fe t st a := by
  obtain ⟨d, rfl⟩ : ∃ d, b = a + d := ⟨b - a, by omega⟩
  exact qs_fe_nz e d
theorem qs_ls_skip {t st vl : Nat → Int32} {a : Nat} : ∀ (d : Nat), (∀ k, a ≤ k → k < a + d → ¬ qs_nm t k) → qs_ls t st vl (a + d) = qs_ls t st vl a
  | 0, _ => rfl
  | d + 1, h => by
    show (if _ ∧ qs_nm t (a + d) then _ else _) = _
    rw [if_neg (fun z => h (a + d) (by omega) (by omega) z.2)]
    exact qs_ls_skip d (fun k h1 h2 => h k h1 (by omega))
theorem qs_ls_skip' {t st vl : Nat → Int32} {a b : Nat} (hab : a ≤ b) (h : ∀ k, a ≤ k → k < b → ¬ qs_nm t k) : qs_ls t st vl b = qs_ls t st vl a := by
  obtain ⟨d, rfl⟩ : ∃ d, b = a + d := ⟨b - a, by omega⟩
  exact qs_ls_skip d h
theorem qs_fe_dead {t st : Nat → Int32} (h : ¬ qt_lv t) (k : Nat) : qs_fe t st k = qs_e0 t := by
  have := qs_fe_skip (t := t) (st := st) (a := 0) k (fun _ _ _ z => h z.1)
  rw [Nat.zero_add] at this
  exact this
theorem qs_sum_a {l : List Int32} {v : Int32} : qs_sum (l ++ [v]) = qs_sum l + v := by unfold qs_sum; rw [List.foldl_append]; rfl
/-- an array's first places hold a list -/
def qs_hl (a : Nat → Int32) (l : List Int32) : Prop := ∀ i, i < l.length → a i = l.getD i 0
theorem qs_hl_a {a : Nat → Int32} {l : List Int32} {v : Int32} (h : qs_hl a l) : qs_hl (upd a l.length v) (l ++ [v]) := by
  intro i hi
  rw [List.length_append] at hi
  have hi' : i < l.length + 1 := hi
  by_cases e : i = l.length
  · subst e
    rw [pk_us, List.getD_eq_getElem?_getD, List.getElem?_append_right (Nat.le_refl _)]
    simp
  · rw [pk_un e, List.getD_eq_getElem?_getD, List.getElem?_append_left (by omega), ← List.getD_eq_getElem?_getD]
    exact h i (by omega)
/-- what X's result says -/
def qs_RX (r : qs_Res) (oe oh ow : Int32) (out : Nat → Int32) : Prop := oe = r.1 ∧ (r.1 = 0 → oh = nI r.2.1 ∧ ow = nI r.2.2.1 ∧ ∀ k, k < r.2.1 * r.2.2.1 → out k = r.2.2.2 k)
/-- the stack's first d places -/
def qs_SM (s : qs_Stk) (d : Nat) (sv se : Nat → Int32) : Prop := ∀ k, k < d → se k = s.1 k ∧ (s.1 k = 0 → sv k = s.2 k)
section
variable {nr nc st sl sb sr sta oe oh ow : Int32} {stl : Int64} {tok cnt stt val own sv se out : Nat → Int32} {rch nds : Nat → Int64}
section
variable {b : Nat} {t st' vl' : Nat → Int32} {r c r' c' : Nat}
theorem qx_er48 {post : Int32 → Prop} {J : Int32 → Prop} {x1 x2 : Int32} {y : Nat} (hr' : r' < 6) (hc' : c' < 6) (hcc : c ≤ c') (hn : ∀ k, k < 1000 → (qs_nm t k ↔ r ≤ k / 6 ∧ k / 6 ≤ r' ∧ c ≤ k % 6 ∧ k % 6 ≤ c')) (hst : ∀ k, k < 36 → qs_nm t k → stt k = st' k) (hry : r ≤ y) (hyr : y ≤ r') (hp : post (qs_fe t st' 36)) (h : qs_fe t st' ((y + 1) * 6) = 0 → J (nI (y + 1))) :
    ∀ (d x : Nat), x + d = c' + 1 → c ≤ x → qs_fe t st' (y * 6 + x) = 0 → ∀ n, d < n → wX_errorIn_48 post J x1 x2 (nI c') (nI y) nr nc st sl sb sr sta stl oe oh ow tok cnt stt val own rch nds sv se out n (nI x) := by
  intro d
  induction d with
  | zero =>
    intro x hx hc hf n hn'
    obtain ⟨n, rfl⟩ : ∃ z, n = z + 1 := ⟨n - 1, by omega⟩
    obtain rfl : x = c' + 1 := by omega
    simp (disch := omega) only [wX_errorIn_48, nI_add, pk_mul, qa_a1, qa_a2, qa_a3, qa_a4, qa_a5, qa_a6, qa_a7, qa_a8, qa_a56, qa_m6, qa_m7, qa_m8, qa_m56, qa_l2, qa_l37, qa_l2016, qa_in, nI_clamp, forall_eq, true_and, qa_cl0, nI_leI, nI_ltI, nI_eq, not_false_eq_true, pk_sub, qa_s1, qa_s2, qa_s8]
    refine br_t (by omega) (h ?_)
    rw [qs_fe_skip' (a := y * 6 + (c' + 1)) (by omega) (fun k h1 h2 => ?_)]
    · exact hf
    · rw [hn k (by omega)]; omega
  | succ d ih =>
    intro x hx hc hf n hn'
    obtain ⟨n, rfl⟩ : ∃ z, n = z + 1 := ⟨n - 1, by omega⟩
    have hnm : qs_nm t (y * 6 + x) := (hn _ (by omega)).mpr (by omega)
    have hk := hst (y * 6 + x) (by omega) hnm
    simp (disch := omega) only [wX_errorIn_48, hk, nI_add, pk_mul, qa_a1, qa_a2, qa_a3, qa_a4, qa_a5, qa_a6, qa_a7, qa_a8, qa_a56, qa_m6, qa_m7, qa_m8, qa_m56, qa_l2, qa_l37, qa_l2016, qa_in, nI_clamp, forall_eq, true_and, qa_cl0, nI_leI, nI_ltI, nI_eq, not_false_eq_true, pk_sub, qa_s1, qa_s2, qa_s8]
    refine br_f (by omega) ?_
    have hs : qs_fe t st' (y * 6 + x + 1) = if qs_fe t st' (y * 6 + x) = 0 ∧ ¬ st' (y * 6 + x) < 2 ∧ qs_nm t (y * 6 + x) then st' (y * 6 + x) else qs_fe t st' (y * 6 + x) := rfl
    by_cases e : st' (y * 6 + x) < 2
    · rw [if_neg (fun z => z.2.1 e)] at hs
      exact br_t e (ih (x + 1) (by omega) (by omega) (hs.trans hf) n (by omega))
    · rw [if_pos ⟨hf, e, hnm⟩] at hs
      refine br_f e ?_
      have nz : ¬ qs_fe t st' (y * 6 + x + 1) = 0 := by
        rw [hs]
        intro z
        rw [z] at e
        exact e (by decide)
      rw [qs_fe_nz' (a := y * 6 + x + 1) (by omega) nz, hs] at hp
      exact hp
theorem qx_er32 {post : Int32 → Prop} (hb : b + 8 ≤ 4088) (k3 : tok (b + 3) = nI c) (hr' : r' < 6) (hc' : c' < 6) (hcc : c ≤ c') (hn : ∀ k, k < 1000 → (qs_nm t k ↔ r ≤ k / 6 ∧ k / 6 ≤ r' ∧ c ≤ k % 6 ∧ k % 6 ≤ c')) (hst : ∀ k, k < 36 → qs_nm t k → stt k = st' k) (hp : post (qs_fe t st' 36)) :
    ∀ (d y : Nat), y + d = r' + 1 → r ≤ y → qs_fe t st' (y * 6) = 0 → ∀ n, d < n → wX_errorIn_32 post (nI b) (nI r') (nI c') nr nc st sl sb sr sta stl oe oh ow tok cnt stt val own rch nds sv se out n (nI y) := by
  intro d
  induction d with
  | zero =>
    intro y hy hr hf n hn'
    obtain ⟨n, rfl⟩ : ∃ z, n = z + 1 := ⟨n - 1, by omega⟩
    obtain rfl : y = r' + 1 := by omega
    simp (disch := omega) only [wX_errorIn_32, nI_add, pk_mul, qa_a1, qa_a2, qa_a3, qa_a4, qa_a5, qa_a6, qa_a7, qa_a8, qa_a56, qa_m6, qa_m7, qa_m8, qa_m56, qa_l2, qa_l37, qa_l2016, qa_in, nI_clamp, forall_eq, true_and, qa_cl0, nI_leI, nI_ltI, nI_eq, not_false_eq_true, pk_sub, qa_s1, qa_s2, qa_s8]
    rw [qs_fe_skip' (a := (r' + 1) * 6) (b := 36) (by omega) (fun k h1 h2 => by rw [hn k (by omega)]; omega), hf] at hp
    exact br_t (by omega) hp
  | succ d ih =>
    intro y hy hr hf n hn'
    obtain ⟨n, rfl⟩ : ∃ z, n = z + 1 := ⟨n - 1, by omega⟩
    simp (disch := omega) only [wX_errorIn_32, k3, nI_add, pk_mul, qa_a1, qa_a2, qa_a3, qa_a4, qa_a5, qa_a6, qa_a7, qa_a8, qa_a56, qa_m6, qa_m7, qa_m8, qa_m56, qa_l2, qa_l37, qa_l2016, qa_in, nI_clamp, forall_eq, true_and, qa_cl0, nI_leI, nI_ltI, nI_eq, not_false_eq_true, pk_sub, qa_s1, qa_s2, qa_s8]
    refine br_f (by omega) ⟨8, qx_er48 hr' hc' hcc hn hst hr (by omega) hp (fun z => ih (y + 1) (by omega) (by omega) z n (by omega)) (c' + 1 - c) c (by omega) (Nat.le_refl _) ?_ 8 (by omega)⟩
    rw [qs_fe_skip' (a := y * 6) (by omega) (fun k h1 h2 => ?_)]
    · exact hf
    · rw [hn k (by omega)]; omega
theorem qx_er {post : Int32 → Prop} {R C : Nat} (hR : R ≤ 6) (hC : C ≤ 6) (hb : b + 8 ≤ 4088) (ht : ∀ f, f < 8 → tok (b + f) = t f) (hv : qt_VT R C t) (hk : qt_rk (t 0)) (hst : ∀ k, k < 36 → qs_nm t k → stt k = st' k) (hp : post (qs_fe t st' 36)) : wpX_errorIn post (nr, nc, st, sl, sb, sr, sta, stl, oe, oh, ow, tok, cnt, stt, val, own, rch, nds, sv, se, out) (nI b) := by
  simp (disch := omega) only [wpX_errorIn, nI_add, pk_mul, qa_a1, qa_a2, qa_a3, qa_a4, qa_a5, qa_a6, qa_a7, qa_a8, qa_a56, qa_m6, qa_m7, qa_m8, qa_m56, qa_l2, qa_l37, qa_l2016, qa_in, nI_clamp, forall_eq, true_and, qa_cl0, nI_leI, nI_ltI, nI_eq, not_false_eq_true, pk_sub, qa_s1, qa_s2, qa_s8]
  refine qx_live hb ht (fun l => ?_) (fun l => ?_)
  · refine br_f (by decide) ?_
    obtain ⟨⟨r, c, r', c', -, -, q1, q2, q3, q4, -, -, e2, e3, -, e5, e6, -⟩, -⟩ := qt_VT_lv hv l
    refine qx_bot hb ht ?_
    refine qx_rgt hb ht ?_
    have k2 : tok (b + 2) = nI r := (ht 2 (by decide)).trans e2
    have k3 : tok (b + 3) = nI c := (ht 3 (by decide)).trans e3
    rw [e5, e6]
    simp (disch := omega) only [k2, nI_add, pk_mul, qa_a1, qa_a2, qa_a3, qa_a4, qa_a5, qa_a6, qa_a7, qa_a8, qa_a56, qa_m6, qa_m7, qa_m8, qa_m56, qa_l2, qa_l37, qa_l2016, qa_in, nI_clamp, forall_eq, true_and, qa_cl0, nI_leI, nI_ltI, nI_eq, not_false_eq_true, pk_sub, qa_s1, qa_s2, qa_s8]
    have hn : ∀ k, k < 1000 → (qs_nm t k ↔ r ≤ k / 6 ∧ k / 6 ≤ r' ∧ c ≤ k % 6 ∧ k % 6 ≤ c') := fun k hk => qs_nm_iff l e2 e3 e5 e6 (by omega) (by omega) (by omega) (by omega) hk
    refine ⟨8, qx_er32 hb k3 (by omega) (by omega) q3 hn hst hp (r' + 1 - r) r (by omega) (Nat.le_refl _) ?_ 8 (by omega)⟩
    rw [qs_fe_skip' (a := 0) (by omega) (fun k h1 h2 => by rw [hn k (by omega)]; omega)]
    show qs_e0 t = 0
    unfold qs_e0
    rw [if_neg (fun z => by rw [l.2.2] at z; exact absurd z.2.2 (by decide))]
  · refine br_t (by decide) ?_
    rw [qs_fe_dead l] at hp
    have e1 : t 1 = 1 := by
      rcases hv with h | ⟨h, -⟩ | ⟨-, ⟨h1, -⟩ | ⟨h1, -⟩⟩
      · rw [h] at hk; exact absurd hk (by decide)
      · rw [h] at hk; exact absurd hk (by decide)
      · exact h1
      · refine absurd ⟨?_, ?_, h1⟩ l
        · intro z; rw [z] at hk; exact absurd hk (by decide)
        · intro z; rw [z] at hk; exact absurd hk (by decide)
    unfold qs_e0 at hp
    rw [if_pos ⟨fun z => by rw [z] at hk; exact absurd hk (by decide), fun z => by rw [z] at hk; exact absurd hk (by decide), e1⟩] at hp
    exact hp
theorem qx_op104 {post : SX → Prop} {J : Int32 → Int32 → Int32 → Prop} {x1 x2 x6 : Int32} {y : Nat} (hr' : r' < 6) (hc' : c' < 6) (hcc : c ≤ c') (hn : ∀ k, k < 1000 → (qs_nm t k ↔ r ≤ k / 6 ∧ k / 6 ≤ r' ∧ c ≤ k % 6 ∧ k % 6 ≤ c')) (hst : ∀ k, k < 36 → qs_nm t k → stt k = st' k ∧ val k = vl' k) (hry : r ≤ y) (hyr : y ≤ r') (h : J (qs_sum (qs_ls t st' vl' ((y + 1) * 6))) (nI (qs_ls t st' vl' ((y + 1) * 6)).length) (nI (y + 1))) :
    ∀ (d x : Nat), x + d = c' + 1 → c ≤ x → ∀ n, d < n → wX_operand_104 post J x1 x2 x6 (nI c') (nI y) nr nc st sl sb sr sta stl oe oh ow tok cnt stt val own rch nds sv se out n (qs_sum (qs_ls t st' vl' (y * 6 + x))) (nI (qs_ls t st' vl' (y * 6 + x)).length) (nI x) := by
  intro d
  induction d with
  | zero =>
    intro x hx hc n hn'
    obtain ⟨n, rfl⟩ : ∃ z, n = z + 1 := ⟨n - 1, by omega⟩
    obtain rfl : x = c' + 1 := by omega
    simp (disch := omega) only [wX_operand_104, nI_add, pk_mul, qa_a1, qa_a2, qa_a3, qa_a4, qa_a5, qa_a6, qa_a7, qa_a8, qa_a56, qa_m6, qa_m7, qa_m8, qa_m56, qa_l2, qa_l37, qa_l2016, qa_in, nI_clamp, forall_eq, true_and, qa_cl0, nI_leI, nI_ltI, nI_eq, not_false_eq_true, pk_sub, qa_s1, qa_s2, qa_s8]
    rw [qs_ls_skip' (a := y * 6 + (c' + 1)) (by omega) (fun k h1 h2 => by rw [hn k (by omega)]; omega)] at h
    exact br_t (by omega) h
  | succ d ih =>
    intro x hx hc n hn'
    obtain ⟨n, rfl⟩ : ∃ z, n = z + 1 := ⟨n - 1, by omega⟩
    have hnm : qs_nm t (y * 6 + x) := (hn _ (by omega)).mpr (by omega)
    have hk := hst (y * 6 + x) (by omega) hnm
    simp (disch := omega) only [wX_operand_104, hk.1, hk.2, nI_add, pk_mul, qa_a1, qa_a2, qa_a3, qa_a4, qa_a5, qa_a6, qa_a7, qa_a8, qa_a56, qa_m6, qa_m7, qa_m8, qa_m56, qa_l2, qa_l37, qa_l2016, qa_in, nI_clamp, forall_eq, true_and, qa_cl0, nI_leI, nI_ltI, nI_eq, not_false_eq_true, pk_sub, qa_s1, qa_s2, qa_s8]
    refine br_f (by omega) ?_
    have ih' := ih (x + 1) (by omega) (by omega) n (by omega)
    rw [← Nat.add_assoc] at ih'
    have hs : qs_ls t st' vl' (y * 6 + x + 1) = if st' (y * 6 + x) = 1 ∧ qs_nm t (y * 6 + x) then qs_ls t st' vl' (y * 6 + x) ++ [vl' (y * 6 + x)] else qs_ls t st' vl' (y * 6 + x) := rfl
    by_cases e : st' (y * 6 + x) = 1
    · rw [if_pos ⟨e, hnm⟩] at hs
      rw [hs, qs_sum_a, List.length_append] at ih'
      exact br_t e ih'
    · rw [if_neg (fun z => e z.1)] at hs
      rw [hs] at ih'
      exact br_f e ih'
theorem qx_op87 {post : SX → Prop} {p : Nat} (hp : p < 8) (hb : b + 8 ≤ 4088) (k0 : tok b = t 0) (k3 : tok (b + 3) = nI c) (hr' : r' < 6) (hc' : c' < 6) (hcc : c ≤ c') (hn : ∀ k, k < 1000 → (qs_nm t k ↔ r ≤ k / 6 ∧ k / 6 ≤ r' ∧ c ≤ k % 6 ∧ k % 6 ≤ c')) (hst : ∀ k, k < 36 → qs_nm t k → stt k = st' k ∧ val k = vl' k) (h1 : ¬ t 0 = 1) (h : post (nr, nc, st, sl, sb, sr, sta, stl, oe, oh, ow, tok, cnt, stt, val, own, rch, nds, upd sv p (qs_ov t st' vl'), se, out)) :
    ∀ (d y : Nat), y + d = r' + 1 → r ≤ y → ∀ n, d < n → wX_operand_87 post (nI b) (nI p) (nI r') (nI c') nr nc st sl sb sr sta stl oe oh ow tok cnt stt val own rch nds sv se out n (qs_sum (qs_ls t st' vl' (y * 6))) (nI (qs_ls t st' vl' (y * 6)).length) (nI y) := by
  intro d
  induction d with
  | zero =>
    intro y hy hr n hn'
    obtain ⟨n, rfl⟩ : ∃ z, n = z + 1 := ⟨n - 1, by omega⟩
    obtain rfl : y = r' + 1 := by omega
    unfold qs_ov at h
    rw [if_neg h1, qs_ls_skip' (a := (r' + 1) * 6) (b := 36) (by omega) (fun k h1 h2 => by rw [hn k (by omega)]; omega)] at h
    simp (disch := omega) only [wX_operand_87, k0, nI_add, pk_mul, qa_a1, qa_a2, qa_a3, qa_a4, qa_a5, qa_a6, qa_a7, qa_a8, qa_a56, qa_m6, qa_m7, qa_m8, qa_m56, qa_l2, qa_l37, qa_l2016, qa_in, nI_clamp, forall_eq, true_and, qa_cl0, nI_leI, nI_ltI, nI_eq, not_false_eq_true, pk_sub, qa_s1, qa_s2, qa_s8]
    refine br_t (by omega) ?_
    by_cases e : t 0 = 5
    · rw [if_pos e] at h
      exact br_t e h
    · rw [if_neg e] at h
      exact br_f e h
  | succ d ih =>
    intro y hy hr n hn'
    obtain ⟨n, rfl⟩ : ∃ z, n = z + 1 := ⟨n - 1, by omega⟩
    simp (disch := omega) only [wX_operand_87, k3, nI_add, pk_mul, qa_a1, qa_a2, qa_a3, qa_a4, qa_a5, qa_a6, qa_a7, qa_a8, qa_a56, qa_m6, qa_m7, qa_m8, qa_m56, qa_l2, qa_l37, qa_l2016, qa_in, nI_clamp, forall_eq, true_and, qa_cl0, nI_leI, nI_ltI, nI_eq, not_false_eq_true, pk_sub, qa_s1, qa_s2, qa_s8]
    have := qx_op104 (post := post) (J := wX_operand_87 post (nI b) (nI p) (nI r') (nI c') nr nc st sl sb sr sta stl oe oh ow tok cnt stt val own rch nds sv se out n) (x1 := nI b) (x2 := nI p) (x6 := nI r') (nr := nr) (nc := nc) (st := st) (sl := sl) (sb := sb) (sr := sr) (sta := sta) (stl := stl) (oe := oe) (oh := oh) (ow := ow) (tok := tok) (cnt := cnt) (own := own) (rch := rch) (nds := nds) (sv := sv) (se := se) (out := out) hr' hc' hcc hn hst hr (by omega) (ih (y + 1) (by omega) (by omega) n (by omega)) (c' + 1 - c) c (by omega) (Nat.le_refl _) 8 (by omega)
    rw [qs_ls_skip' (a := y * 6) (b := y * 6 + c) (by omega) (fun k h1 h2 => by rw [hn k (by omega)]; omega)] at this
    exact br_f (by omega) ⟨8, this⟩
theorem qx_op {post : SX → Prop} {R C p : Nat} (hp : p < 8) (hR : R ≤ 6) (hC : C ≤ 6) (hb : b + 8 ≤ 4088) (ht : ∀ f, f < 8 → tok (b + f) = t f) (hv : qt_VT R C t) (hk3 : ¬ t 0 = 3) (hst : ∀ k, k < 36 → qs_nm t k → stt k = st' k ∧ val k = vl' k)
    (h : ∀ sv' se', (∀ k, k ≠ p → sv' k = sv k ∧ se' k = se k) → se' p = qs_fe t st' 36 → (qs_fe t st' 36 = 0 → sv' p = qs_ov t st' vl') → post (nr, nc, st, sl, sb, sr, sta, stl, oe, oh, ow, tok, cnt, stt, val, own, rch, nds, sv', se', out)) : wpX_operand post (nr, nc, st, sl, sb, sr, sta, stl, oe, oh, ow, tok, cnt, stt, val, own, rch, nds, sv, se, out) (nI b) (nI p) := by
  have k0 : tok b = t 0 := ht 0 (by decide)
  have k1 : tok (b + 1) = t 1 := ht 1 (by decide)
  simp (disch := omega) only [wpX_operand, k0, k1, nI_add, pk_mul, qa_a1, qa_a2, qa_a3, qa_a4, qa_a5, qa_a6, qa_a7, qa_a8, qa_a56, qa_m6, qa_m7, qa_m8, qa_m56, qa_l2, qa_l37, qa_l2016, qa_in, nI_clamp, forall_eq, true_and, qa_cl0, nI_leI, nI_ltI, nI_eq, not_false_eq_true, pk_sub, qa_s1, qa_s2, qa_s8]
  by_cases e1 : t 0 = 1
  · refine br_t e1 (h _ _ (fun k hk => ⟨by rw [pk_un hk, pk_un hk], pk_un hk⟩) ?_ (fun _ => ?_))
    · rw [pk_us, qs_fe_dead (fun z => z.1 e1)]
      unfold qs_e0
      rw [if_neg (fun z => z.1 e1)]
    · rw [pk_us]
      unfold qs_ov
      rw [if_pos e1]
  · refine br_f e1 ?_
    have hk : qt_rk (t 0) := by
      rcases hv with h | ⟨h, -⟩ | ⟨h, -⟩
      · exact absurd h e1
      · exact absurd h hk3
      · exact h
    refine qx_er hR hC hb ht hv hk (fun k a1 a2 => (hst k a1 a2).1) ?_
    by_cases e : qs_fe t st' 36 = 0
    · refine br_t e ?_
      have l : qt_lv t := by
        apply Decidable.byContradiction
        intro l
        rw [qs_fe_dead l] at e
        unfold qs_e0 at e
        have e1' : t 1 = 1 := by
          rcases hv with h | ⟨h, -⟩ | ⟨-, ⟨h1, -⟩ | ⟨h1, -⟩⟩
          · exact absurd h e1
          · exact absurd h hk3
          · exact h1
          · exact absurd ⟨e1, hk3, h1⟩ l
        rw [if_pos ⟨e1, hk3, e1'⟩] at e
        exact absurd e (by decide)
      obtain ⟨⟨r, c, r', c', -, -, q1, q2, q3, q4, -, -, e2, e3, -, e5, e6, -⟩, -⟩ := qt_VT_lv hv l
      refine qx_bot hb ht ?_
      refine qx_rgt hb ht ?_
      have k2 : tok (b + 2) = nI r := (ht 2 (by decide)).trans e2
      have k3 : tok (b + 3) = nI c := (ht 3 (by decide)).trans e3
      rw [e5, e6]
      simp (disch := omega) only [k2, nI_add, pk_mul, qa_a1, qa_a2, qa_a3, qa_a4, qa_a5, qa_a6, qa_a7, qa_a8, qa_a56, qa_m6, qa_m7, qa_m8, qa_m56, qa_l2, qa_l37, qa_l2016, qa_in, nI_clamp, forall_eq, true_and, qa_cl0, nI_leI, nI_ltI, nI_eq, not_false_eq_true, pk_sub, qa_s1, qa_s2, qa_s8]
      have hn : ∀ k, k < 1000 → (qs_nm t k ↔ r ≤ k / 6 ∧ k / 6 ≤ r' ∧ c ≤ k % 6 ∧ k % 6 ≤ c') := fun k hk => qs_nm_iff l e2 e3 e5 e6 (by omega) (by omega) (by omega) (by omega) hk
      have fin := h (upd (upd sv p 0) p (qs_ov t st' vl')) (upd se p 0) (fun k hk => ⟨by rw [pk_un hk, pk_un hk], pk_un hk⟩) (by rw [pk_us, e]) (fun _ => pk_us)
      have := qx_op87 (post := post) (nr := nr) (nc := nc) (st := st) (sl := sl) (sb := sb) (sr := sr) (sta := sta) (stl := stl) (oe := oe) (oh := oh) (ow := ow) (cnt := cnt) (own := own) (rch := rch) (nds := nds) (out := out) hp hb k0 k3 (by omega) (by omega) q3 hn hst e1 fin (r' + 1 - r) r (by omega) (Nat.le_refl _) 8 (by omega)
      rw [qs_ls_skip' (a := 0) (b := r * 6) (by omega) (fun k h1 h2 => by rw [hn k (by omega)]; omega)] at this
      exact ⟨8, this⟩
    · refine br_f e (h _ _ (fun k hk => ⟨pk_un hk, by rw [pk_un hk, pk_un hk]⟩) pk_us (fun z => absurd z e))
end
theorem qx_cmb {post : SX → Prop} {p : Nat} {a : Int32} (hp : p < 7) (h : ∀ sv' se', (∀ k, k ≠ p → sv' k = sv k ∧ se' k = se k) → se' p = (if se p = 0 then se (p + 1) else se p) → (se p = 0 → se (p + 1) = 0 → sv' p = qs_op a (sv p) (sv (p + 1))) → post (nr, nc, st, sl, sb, sr, sta, stl, oe, oh, ow, tok, cnt, stt, val, own, rch, nds, sv', se', out)) : wpX_combine post (nr, nc, st, sl, sb, sr, sta, stl, oe, oh, ow, tok, cnt, stt, val, own, rch, nds, sv, se, out) a (nI p) := by
  simp (disch := omega) only [wpX_combine, nI_add, pk_mul, qa_a1, qa_a2, qa_a3, qa_a4, qa_a5, qa_a6, qa_a7, qa_a8, qa_a56, qa_m6, qa_m7, qa_m8, qa_m56, qa_l2, qa_l37, qa_l2016, qa_in, nI_clamp, forall_eq, true_and, qa_cl0, nI_leI, nI_ltI, nI_eq, not_false_eq_true, pk_sub, qa_s1, qa_s2, qa_s8]
  by_cases e0 : se p = 0
  · refine br_t e0 ?_
    by_cases e1 : se (p + 1) = 0
    · refine br_t e1 ?_
      have fin : ∀ v, v = qs_op a (sv p) (sv (p + 1)) → post (nr, nc, st, sl, sb, sr, sta, stl, oe, oh, ow, tok, cnt, stt, val, own, rch, nds, upd sv p v, se, out) := fun v hv => h _ _ (fun k hk => ⟨pk_un hk, rfl⟩) (by rw [if_pos e0, e0, e1]) (fun _ _ => by rw [pk_us, hv])
      unfold qs_op at fin
      by_cases a1 : a = 1
      · exact br_t a1 (fin _ (by rw [if_pos a1]))
      · refine br_f a1 ?_
        by_cases a2 : a = 2
        · exact br_t a2 (fin _ (by rw [if_neg a1, if_pos a2]))
        · refine br_f a2 ?_
          by_cases a3 : a = 3
          · exact br_t a3 (fin _ (by rw [if_neg a1, if_neg a2, if_pos a3]))
          · refine br_f a3 ?_
            by_cases a4 : sv (p + 1) ≤ sv p
            · exact br_t a4 (fin _ (by rw [if_neg a1, if_neg a2, if_neg a3, if_pos a4]))
            · exact br_f a4 (fin _ (by rw [if_neg a1, if_neg a2, if_neg a3, if_neg a4]))
    · exact br_f e1 (h _ _ (fun k hk => ⟨rfl, pk_un hk⟩) (by rw [pk_us, if_pos e0]) (fun _ z => absurd z e1))
  · exact br_f e0 (h _ _ (fun k hk => ⟨rfl, rfl⟩) (by rw [if_neg e0]) (fun z => absurd z e0))
theorem qx_sq97 {post : SX → Prop} {m : Nat} (hm : m ≤ 36) (h : ∀ out', (∀ k, k < m → out' k = sv 2 + nI k) → post (nr, nc, st, sl, sb, sr, sta, stl, oe, oh, ow, tok, cnt, stt, val, own, rch, nds, sv, se, out')) : ∀ (d k : Nat) (out : Nat → Int32), k + d = m → (∀ j, j < k → out j = sv 2 + nI j) → ∀ n, d < n → wX_sequence_97 post (nI m) nr nc st sl sb sr sta stl oe oh ow n (nI k) tok cnt stt val own rch nds sv se out := by
  intro d
  induction d with
  | zero =>
    intro k out hk ho n hn
    obtain ⟨n, rfl⟩ : ∃ z, n = z + 1 := ⟨n - 1, by omega⟩
    obtain rfl : k = m := by omega
    simp (disch := omega) only [wX_sequence_97, nI_add, pk_mul, qa_a1, qa_a2, qa_a3, qa_a4, qa_a5, qa_a6, qa_a7, qa_a8, qa_a56, qa_m6, qa_m7, qa_m8, qa_m56, qa_l2, qa_l37, qa_l2016, qa_in, nI_clamp, forall_eq, true_and, qa_cl0, nI_leI, nI_ltI, nI_eq, not_false_eq_true, pk_sub, qa_s1, qa_s2, qa_s8]
    exact br_t (by omega) (h _ ho)
  | succ d ih =>
    intro k out hk ho n hn
    obtain ⟨n, rfl⟩ : ∃ z, n = z + 1 := ⟨n - 1, by omega⟩
    simp (disch := omega) only [wX_sequence_97, nI_add, pk_mul, qa_a1, qa_a2, qa_a3, qa_a4, qa_a5, qa_a6, qa_a7, qa_a8, qa_a56, qa_m6, qa_m7, qa_m8, qa_m56, qa_l2, qa_l37, qa_l2016, qa_in, nI_clamp, forall_eq, true_and, qa_cl0, nI_leI, nI_ltI, nI_eq, not_false_eq_true, pk_sub, qa_s1, qa_s2, qa_s8]
    refine br_f (by omega) (ih (k + 1) _ (by omega) (fun j hj => ?_) n (by omega))
    by_cases e : j = k
    · subst e; rw [pk_us]
    · rw [pk_un e]; exact ho j (by omega)
theorem qx_sq {post : SX → Prop} {s : qs_Stk} (hs : qs_SM s 3 sv se) (h : ∀ oe' oh' ow' out', qs_RX (qs_sq s) oe' oh' ow' out' → post (nr, nc, st, sl, sb, sr, sta, stl, oe', oh', ow', tok, cnt, stt, val, own, rch, nds, sv, se, out')) : wpX_sequence post (nr, nc, st, sl, sb, sr, sta, stl, oe, oh, ow, tok, cnt, stt, val, own, rch, nds, sv, se, out) := by
  obtain ⟨s0, v0⟩ := hs 0 (by decide)
  obtain ⟨s1, v1⟩ := hs 1 (by decide)
  obtain ⟨s2, v2⟩ := hs 2 (by decide)
  unfold qs_sq at h
  unfold wpX_sequence
  refine ⟨4, ?_⟩
  unfold wX_sequence_7
  refine br_f (by decide) ⟨vp_in_nI (n := 0) (by decide) (by decide), ?_⟩
  show (se 0 = 0 → _) ∧ (¬ se 0 = 0 → _)
  by_cases e0 : s.1 0 = 0
  · refine br_t (s0.trans e0) (nm_e ?_)
    unfold wX_sequence_7
    refine br_f (by decide) ⟨vp_in_nI (n := 1) (by decide) (by decide), ?_⟩
    show (se 1 = 0 → _) ∧ (¬ se 1 = 0 → _)
    by_cases e1 : s.1 1 = 0
    · refine br_t (s1.trans e1) (nm_e ?_)
      unfold wX_sequence_7
      refine br_f (by decide) ⟨vp_in_nI (n := 2) (by decide) (by decide), ?_⟩
      show (se 2 = 0 → _) ∧ (¬ se 2 = 0 → _)
      by_cases e2 : s.1 2 = 0
      · refine br_t (s2.trans e2) (nm_e ?_)
        unfold wX_sequence_7
        refine br_t (by decide) (nm_r (v0 e0) (nm_r (v1 e1) ?_))
        rw [if_pos e0, if_pos e1, if_pos e2] at h
        have bad : ¬ (qs_ok (s.2 0) ∧ qs_ok (s.2 1)) → post (nr, nc, st, sl, sb, sr, sta, stl, 3, oh, ow, tok, cnt, stt, val, own, rch, nds, sv, se, out) := by
          intro z
          rw [if_neg z] at h
          exact h _ _ _ _ ⟨rfl, fun y => absurd y (show ¬ (3 : Int32) = 0 by decide)⟩
        by_cases a1 : s.2 0 < 1
        · exact br_t a1 (bad (fun z => z.1.1 a1))
        · refine br_f a1 ?_
          by_cases a2 : 6 < s.2 0
          · exact br_t a2 (bad (fun z => z.1.2 a2))
          · refine br_f a2 ?_
            by_cases a3 : s.2 1 < 1
            · exact br_t a3 (bad (fun z => z.2.1 a3))
            · refine br_f a3 ?_
              by_cases a4 : s.2 1 ≤ 6
              · have a4' : ¬ 6 < s.2 1 := Int32.not_lt.mpr a4
                rw [if_pos ⟨⟨a1, a2⟩, ⟨a3, a4'⟩⟩] at h
                obtain ⟨hh, b1, b2, b3, b4⟩ := qs_clamp ⟨a1, a2⟩
                obtain ⟨ww, c1, c2, c3, c4⟩ := qs_clamp ⟨a3, a4'⟩
                refine br_t a4 ?_
                rw [b3, c3, pk_mul]
                refine nm_e ⟨37, ?_⟩
                have hm : hh * ww ≤ 36 := Nat.le_trans (Nat.mul_le_mul b2 c2) (by decide)
                refine qx_sq97 hm (fun out' ho => h _ _ _ _ ⟨rfl, fun _ => ⟨?_, ?_, fun k hk => ?_⟩⟩) (hh * ww) 0 out (Nat.zero_add _) (fun j hj => absurd hj (Nat.not_lt_zero j)) 37 (by omega)
                · show nI hh = nI (Int32.toNatClampNeg _)
                  rw [b4]
                · show nI ww = nI (Int32.toNatClampNeg _)
                  rw [c4]
                · have hk' : k < (s.2 0).toNatClampNeg * (s.2 1).toNatClampNeg := hk
                  rw [b4, c4] at hk'
                  rw [ho k hk', v2 e2]
              · exact br_f a4 (bad (fun z => a4 (Int32.not_lt.mp z.2.2)))
      · rw [if_pos e0, if_pos e1, if_neg e2] at h
        refine br_f (fun z => e2 (s2.symm.trans z)) ⟨vp_in_nI (n := 2) (by decide) (by decide), nm_r (e' := s.1 2) s2 (h _ _ _ _ ⟨rfl, fun z => absurd z e2⟩)⟩
    · rw [if_pos e0, if_neg e1] at h
      refine br_f (fun z => e1 (s1.symm.trans z)) ⟨vp_in_nI (n := 1) (by decide) (by decide), nm_r (e' := s.1 1) s1 (h _ _ _ _ ⟨rfl, fun z => absurd z e1⟩)⟩
  · rw [if_neg e0] at h
    refine br_f (fun z => e0 (s0.symm.trans z)) ⟨vp_in_nI (n := 0) (by decide) (by decide), nm_r (e' := s.1 0) s0 (h _ _ _ _ ⟨rfl, fun z => absurd z e0⟩)⟩
end
end
section
/-! the component: keep, evaluate -/
def qs_k (t st vl : Nat → Int32) (x : Int32) (k : Nat) : List Int32 := (qs_ls t st vl k).filter (fun z => decide (¬ z ≤ x))
theorem qs_k_le (t st vl : Nat → Int32) (x : Int32) (k : Nat) : (qs_k t st vl x k).length ≤ k := Nat.le_trans (List.length_filter_le _ _) (qs_kl_le t st vl k)
section
variable {nr nc st sl sb sr sta oe oh ow : Int32} {stl : Int64} {tok cnt stt val own sv se out : Nat → Int32} {rch nds : Nat → Int64}
section
variable {b : Nat} {t st' vl' : Nat → Int32} {r c r' c' : Nat} {v : Int32}
theorem qx_kp76 {post : SX → Prop} {J : Int32 → Int32 → (Nat → Int32) → (Nat → Int32) → (Nat → Int32) → (Nat → Int32) → (Nat → Int32) → (Nat → Int64) → (Nat → Int64) → (Nat → Int32) → (Nat → Int32) → (Nat → Int32) → Prop} {x1 x3 : Int32} {y : Nat} (hv : sv 0 = v) (hr' : r' < 6) (hc' : c' < 6) (hcc : c ≤ c') (hn : ∀ k, k < 1000 → (qs_nm t k ↔ r ≤ k / 6 ∧ k / 6 ≤ r' ∧ c ≤ k % 6 ∧ k % 6 ≤ c')) (hst : ∀ k, k < 36 → qs_nm t k → stt k = st' k ∧ val k = vl' k) (hry : r ≤ y) (hyr : y ≤ r') (h : ∀ out', qs_hl out' (qs_k t st' vl' v ((y + 1) * 6)) → J (nI (qs_k t st' vl' v ((y + 1) * 6)).length) (nI (y + 1)) tok cnt stt val own rch nds sv se out') :
    ∀ (d x : Nat) (out : Nat → Int32), x + d = c' + 1 → c ≤ x → qs_hl out (qs_k t st' vl' v (y * 6 + x)) → ∀ n, d < n → wX_keep_76 post J x1 x3 (nI c') (nI y) nr nc st sl sb sr sta stl oe oh ow n (nI (qs_k t st' vl' v (y * 6 + x)).length) (nI x) tok cnt stt val own rch nds sv se out := by
  intro d
  induction d with
  | zero =>
    intro x out hx hc ho n hn'
    obtain ⟨n, rfl⟩ : ∃ z, n = z + 1 := ⟨n - 1, by omega⟩
    obtain rfl : x = c' + 1 := by omega
    simp (disch := omega) only [wX_keep_76, nI_add, pk_mul, qa_a1, qa_a2, qa_a3, qa_a4, qa_a5, qa_a6, qa_a7, qa_a8, qa_a56, qa_m6, qa_m7, qa_m8, qa_m56, qa_l2, qa_l37, qa_l2016, qa_in, nI_clamp, forall_eq, true_and, qa_cl0, nI_leI, nI_ltI, nI_eq, not_false_eq_true, pk_sub, qa_s1, qa_s2, qa_s8]
    unfold qs_k at h ho ⊢
    rw [qs_ls_skip' (a := y * 6 + (c' + 1)) (b := (y + 1) * 6) (by omega) (fun k h1 h2 => by rw [hn k (by omega)]; omega)] at h
    exact br_t (by omega) (h _ ho)
  | succ d ih =>
    intro x out hx hc ho n hn'
    obtain ⟨n, rfl⟩ : ∃ z, n = z + 1 := ⟨n - 1, by omega⟩
    have hnm : qs_nm t (y * 6 + x) := (hn _ (by omega)).mpr (by omega)
    have hk := hst (y * 6 + x) (by omega) hnm
    have hl := qs_k_le t st' vl' v (y * 6 + x)
    simp (disch := omega) only [wX_keep_76, hk.1, hk.2, hv, qa_lel36, nI_add, pk_mul, qa_a1, qa_a2, qa_a3, qa_a4, qa_a5, qa_a6, qa_a7, qa_a8, qa_a56, qa_m6, qa_m7, qa_m8, qa_m56, qa_l2, qa_l37, qa_l2016, qa_in, nI_clamp, forall_eq, true_and, qa_cl0, nI_leI, nI_ltI, nI_eq, not_false_eq_true, pk_sub, qa_s1, qa_s2, qa_s8]
    refine br_f (by omega) ?_
    have ih' := fun out' ho' => ih (x + 1) out' (by omega) (by omega) ho' n (by omega)
    rw [← Nat.add_assoc] at ih'
    have hs : qs_ls t st' vl' (y * 6 + x + 1) = if st' (y * 6 + x) = 1 ∧ qs_nm t (y * 6 + x) then qs_ls t st' vl' (y * 6 + x) ++ [vl' (y * 6 + x)] else qs_ls t st' vl' (y * 6 + x) := rfl
    by_cases e : st' (y * 6 + x) = 1
    · rw [if_pos ⟨e, hnm⟩] at hs
      refine br_t e ?_
      by_cases e2 : vl' (y * 6 + x) ≤ v
      · have hs2 : qs_k t st' vl' v (y * 6 + x + 1) = qs_k t st' vl' v (y * 6 + x) := by
          unfold qs_k
          rw [hs, List.filter_append]
          simp [e2]
        rw [hs2] at ih'
        exact br_t e2 (ih' _ ho)
      · have hs2 : qs_k t st' vl' v (y * 6 + x + 1) = qs_k t st' vl' v (y * 6 + x) ++ [vl' (y * 6 + x)] := by
          unfold qs_k
          rw [hs, List.filter_append]
          have e2' : v < vl' (y * 6 + x) := Int32.not_le.mp e2
          simp [e2']
        rw [hs2, List.length_append] at ih'
        exact br_f e2 (br_f (by omega) (ih' _ (qs_hl_a ho)))
    · rw [if_neg (fun z => e z.1)] at hs
      have hs2 : qs_k t st' vl' v (y * 6 + x + 1) = qs_k t st' vl' v (y * 6 + x) := by unfold qs_k; rw [hs]
      rw [hs2] at ih'
      exact br_f e (ih' _ ho)
theorem qx_kp60 {post : SX → Prop} (hv : sv 0 = v) (hb : b + 8 ≤ 4088) (k3 : tok (b + 3) = nI c) (hr' : r' < 6) (hc' : c' < 6) (hcc : c ≤ c') (hn : ∀ k, k < 1000 → (qs_nm t k ↔ r ≤ k / 6 ∧ k / 6 ≤ r' ∧ c ≤ k % 6 ∧ k % 6 ≤ c')) (hst : ∀ k, k < 36 → qs_nm t k → stt k = st' k ∧ val k = vl' k)
    (h0 : (qs_kl t st' vl' v).length = 0 → ∀ out', post (nr, nc, st, sl, sb, sr, sta, stl, 3, nI (qs_kl t st' vl' v).length, 1, tok, cnt, stt, val, own, rch, nds, sv, se, out')) (h1 : ¬ (qs_kl t st' vl' v).length = 0 → ∀ out', qs_hl out' (qs_kl t st' vl' v) → post (nr, nc, st, sl, sb, sr, sta, stl, oe, nI (qs_kl t st' vl' v).length, 1, tok, cnt, stt, val, own, rch, nds, sv, se, out')) :
    ∀ (d y : Nat) (out : Nat → Int32), y + d = r' + 1 → r ≤ y → qs_hl out (qs_k t st' vl' v (y * 6)) → ∀ n, d < n → wX_keep_60 post (nI b) (nI r') (nI c') nr nc st sl sb sr sta stl oe oh ow n (nI (qs_k t st' vl' v (y * 6)).length) (nI y) tok cnt stt val own rch nds sv se out := by
  intro d
  induction d with
  | zero =>
    intro y out hy hr ho n hn'
    obtain ⟨n, rfl⟩ : ∃ z, n = z + 1 := ⟨n - 1, by omega⟩
    obtain rfl : y = r' + 1 := by omega
    have hz : qs_k t st' vl' v ((r' + 1) * 6) = qs_kl t st' vl' v := by
      unfold qs_k qs_kl
      rw [qs_ls_skip' (a := (r' + 1) * 6) (b := 36) (by omega) (fun k h1 h2 => by rw [hn k (by omega)]; omega)]
    have hl := qs_k_le t st' vl' v ((r' + 1) * 6)
    rw [hz] at ho hl ⊢
    simp (disch := omega) only [wX_keep_60, qa_eqr0, nI_add, pk_mul, qa_a1, qa_a2, qa_a3, qa_a4, qa_a5, qa_a6, qa_a7, qa_a8, qa_a56, qa_m6, qa_m7, qa_m8, qa_m56, qa_l2, qa_l37, qa_l2016, qa_in, nI_clamp, forall_eq, true_and, qa_cl0, nI_leI, nI_ltI, nI_eq, not_false_eq_true, pk_sub, qa_s1, qa_s2, qa_s8]
    refine br_t (by omega) ?_
    by_cases e : (qs_kl t st' vl' v).length = 0
    · exact br_t e (h0 e _)
    · exact br_f e (h1 e _ ho)
  | succ d ih =>
    intro y out hy hr ho n hn'
    obtain ⟨n, rfl⟩ : ∃ z, n = z + 1 := ⟨n - 1, by omega⟩
    simp (disch := omega) only [wX_keep_60, k3, nI_add, pk_mul, qa_a1, qa_a2, qa_a3, qa_a4, qa_a5, qa_a6, qa_a7, qa_a8, qa_a56, qa_m6, qa_m7, qa_m8, qa_m56, qa_l2, qa_l37, qa_l2016, qa_in, nI_clamp, forall_eq, true_and, qa_cl0, nI_leI, nI_ltI, nI_eq, not_false_eq_true, pk_sub, qa_s1, qa_s2, qa_s8]
    have e0 : qs_k t st' vl' v (y * 6 + c) = qs_k t st' vl' v (y * 6) := by
      unfold qs_k
      rw [qs_ls_skip' (a := y * 6) (b := y * 6 + c) (by omega) (fun k h1 h2 => by rw [hn k (by omega)]; omega)]
    rw [← e0] at ho ⊢
    exact br_f (by omega) ⟨8, qx_kp76 hv hr' hc' hcc hn hst hr (by omega) (fun out' ho' => ih (y + 1) out' (by omega) (by omega) ho' n (by omega)) (c' + 1 - c) c out (by omega) (Nat.le_refl _) ho 8 (by omega)⟩
theorem qx_kp {post : SX → Prop} {R C : Nat} {s : qs_Stk} (hs : qs_SM s 1 sv se) (hR : R ≤ 6) (hC : C ≤ 6) (hb : b + 8 ≤ 4088) (ht : ∀ f, f < 8 → tok (b + f) = t f) (hv : qt_VT R C t) (hk6 : t 0 = 6) (hst : ∀ k, k < 36 → qs_nm t k → stt k = st' k ∧ val k = vl' k)
    (h : ∀ oe' oh' ow' out', qs_RX (qs_kp s t st' vl') oe' oh' ow' out' → post (nr, nc, st, sl, sb, sr, sta, stl, oe', oh', ow', tok, cnt, stt, val, own, rch, nds, sv, se, out')) : wpX_keep post (nr, nc, st, sl, sb, sr, sta, stl, oe, oh, ow, tok, cnt, stt, val, own, rch, nds, sv, se, out) (nI b) := by
  obtain ⟨s0, v0⟩ := hs 0 (by decide)
  unfold qs_kp at h
  simp (disch := omega) only [wpX_keep, s0, nI_add, pk_mul, qa_a1, qa_a2, qa_a3, qa_a4, qa_a5, qa_a6, qa_a7, qa_a8, qa_a56, qa_m6, qa_m7, qa_m8, qa_m56, qa_l2, qa_l37, qa_l2016, qa_in, nI_clamp, forall_eq, true_and, qa_cl0, nI_leI, nI_ltI, nI_eq, not_false_eq_true, pk_sub, qa_s1, qa_s2, qa_s8]
  by_cases e0 : s.1 0 = 0
  · refine br_t e0 ?_
    rw [if_pos e0] at h
    refine qx_er hR hC hb ht hv (by rw [hk6]; decide) (fun k a1 a2 => (hst k a1 a2).1) ?_
    have hl : qs_fe t st' 36 = 0 → qt_lv t := by
      intro e
      apply Decidable.byContradiction
      intro l
      rw [qs_fe_dead l] at e
      unfold qs_e0 at e
      have e1' : t 1 = 1 := by
        rcases hv with h | ⟨h, -⟩ | ⟨-, ⟨h1, -⟩ | ⟨h1, -⟩⟩
        · rw [hk6] at h; exact absurd h (by decide)
        · rw [hk6] at h; exact absurd h (by decide)
        · exact h1
        · exact absurd ⟨by rw [hk6]; decide, by rw [hk6]; decide, h1⟩ l
      rw [if_pos ⟨by rw [hk6]; decide, by rw [hk6]; decide, e1'⟩] at e
      exact absurd e (by decide)
    generalize qs_fe t st' 36 = w at h hl ⊢
    by_cases e : w = 0
    · refine br_t e ?_
      rw [if_pos e] at h
      have l : qt_lv t := hl e
      obtain ⟨⟨r, c, r', c', -, -, q1, q2, q3, q4, -, -, e2, e3, -, e5, e6, -⟩, -⟩ := qt_VT_lv hv l
      refine qx_bot hb ht ?_
      refine qx_rgt hb ht ?_
      have k2 : tok (b + 2) = nI r := (ht 2 (by decide)).trans e2
      have k3 : tok (b + 3) = nI c := (ht 3 (by decide)).trans e3
      rw [e5, e6]
      simp (disch := omega) only [k2, nI_add, pk_mul, qa_a1, qa_a2, qa_a3, qa_a4, qa_a5, qa_a6, qa_a7, qa_a8, qa_a56, qa_m6, qa_m7, qa_m8, qa_m56, qa_l2, qa_l37, qa_l2016, qa_in, nI_clamp, forall_eq, true_and, qa_cl0, nI_leI, nI_ltI, nI_eq, not_false_eq_true, pk_sub, qa_s1, qa_s2, qa_s8]
      have hn : ∀ k, k < 1000 → (qs_nm t k ↔ r ≤ k / 6 ∧ k / 6 ≤ r' ∧ c ≤ k % 6 ∧ k % 6 ≤ c') := fun k hk => qs_nm_iff l e2 e3 e5 e6 (by omega) (by omega) (by omega) (by omega) hk
      have z0 : qs_k t st' vl' (s.2 0) (r * 6) = [] := by
        unfold qs_k
        rw [qs_ls_skip' (a := 0) (b := r * 6) (by omega) (fun k h1 h2 => by rw [hn k (by omega)]; omega)]
        rfl
      have key := qx_kp60 (post := post) (v := s.2 0) (t := t) (st' := st') (vl' := vl') (r := r) (nr := nr) (nc := nc) (st := st) (sl := sl) (sb := sb) (sr := sr) (sta := sta) (stl := stl) (oe := w) (oh := oh) (ow := ow) (cnt := cnt) (own := own) (rch := rch) (nds := nds) (se := se) (v0 e0) hb k3 (by omega) (by omega) q3 hn hst
        (fun e3 out' => h _ _ _ _ ⟨by rw [if_pos e3], fun z => by rw [if_pos e3] at z; exact absurd z (show ¬ (3 : Int32) = 0 by decide)⟩)
        (fun e3 out' ho => h _ _ _ _ ⟨by rw [if_neg e3]; exact e, fun _ => ⟨rfl, rfl, fun k hk => ho k (by have hk' : k < (qs_kl t st' vl' (s.2 0)).length * 1 := hk; omega)⟩⟩)
        (r' + 1 - r) r out (by omega) (Nat.le_refl _) (by rw [z0]; exact fun i hi => absurd hi (Nat.not_lt_zero i)) 8 (by omega)
      rw [z0] at key
      exact ⟨8, key⟩
    · refine br_f e ?_
      rw [if_neg e] at h
      exact h _ _ _ _ ⟨rfl, fun z => absurd z e⟩
  · refine br_f e0 ?_
    rw [if_neg e0] at h
    exact h _ _ _ _ ⟨rfl, fun z => absurd z e0⟩
end
theorem qt_tak0 {t : Nat → Int32} (h6 : ¬ t 0 = 6) (h3 : ¬ t 0 = 3) : qt_tak t = 0 := by unfold qt_tak; rw [if_neg h6, if_neg h3]
theorem qt_tak1 {t : Nat → Int32} (h6 : t 0 = 6) : qt_tak t = 1 := by unfold qt_tak; rw [if_pos h6]
theorem qt_tak2 {t : Nat → Int32} (h6 : ¬ t 0 = 6) (h3 : t 0 = 3) (h5 : ¬ t 1 = 5) : qt_tak t = 2 := by unfold qt_tak; rw [if_neg h6, if_pos h3, if_neg h5]
theorem qt_tak3 {t : Nat → Int32} (h6 : ¬ t 0 = 6) (h3 : t 0 = 3) (h5 : t 1 = 5) : qt_tak t = 3 := by unfold qt_tak; rw [if_neg h6, if_pos h3, if_pos h5]
theorem qs_res_s {f : qt_Fm} {st vl : Nat → Int32} (h1 : ¬ qt_tak (f.2 (f.1 - 1)) = 1) (h3 : ¬ qt_tak (f.2 (f.1 - 1)) = 3) : qs_res f st vl = ((qs_E f.2 st vl f.1).1 0, 1, 1, fun _ => (qs_E f.2 st vl f.1).2 0) := by
  unfold qs_res; rw [if_neg h1, if_neg h3]
theorem qx_ev12 {post : SX → Prop} {R C s : Nat} {f : qt_Fm} {st' vl' : Nat → Int32} (hM : qt_MX tok cnt s f.1 f.2) (hs : s < 36) (hV : qt_VF R C f.1 f.2) (hW : qt_WF f.1 f.2) (hR : R ≤ 6) (hC : C ≤ 6) (hst : ∀ j, j < f.1 → ∀ k, k < 36 → qs_nm (f.2 j) k → stt k = st' k ∧ val k = vl' k)
    (h : ∀ sv' se' oe' oh' ow' out', qs_RX (qs_res f st' vl') oe' oh' ow' out' → post (nr, nc, st, sl, sb, sr, sta, stl, oe', oh', ow', tok, cnt, stt, val, own, rch, nds, sv', se', out')) :
    ∀ (d i : Nat) (sv se : Nat → Int32), i + d = f.1 → qs_SM (qs_E f.2 st' vl' i) (qt_dep f.2 i) sv se → (d = 0 → qt_tak (f.2 (f.1 - 1)) ≠ 1 ∧ qt_tak (f.2 (f.1 - 1)) ≠ 3) → ∀ n, d < n → wX_evaluate_12 post (nI s) (nI f.1) n (nI (qt_dep f.2 i)) (nI i) nr nc st sl sb sr sta stl oe oh ow tok cnt stt val own rch nds sv se out := by
  intro d
  have h7 := hV.1
  induction d with
  | zero =>
    intro i sv se hi hS hd n hn
    obtain ⟨n, rfl⟩ : ∃ z, n = z + 1 := ⟨n - 1, by omega⟩
    obtain rfl : i = f.1 := by omega
    obtain ⟨d1, d3⟩ := hd rfl
    rw [qs_res_s d1 d3] at h
    have h0 := hS 0 (by rw [hW.2]; decide)
    simp (disch := omega) only [wX_evaluate_12, nI_add, pk_mul, qa_a1, qa_a2, qa_a3, qa_a4, qa_a5, qa_a6, qa_a7, qa_a8, qa_a56, qa_m6, qa_m7, qa_m8, qa_m56, qa_l2, qa_l37, qa_l2016, qa_in, nI_clamp, forall_eq, true_and, qa_cl0, nI_leI, nI_ltI, nI_eq, not_false_eq_true, pk_sub, qa_s1, qa_s2, qa_s8]
    refine br_t (by omega) (h _ _ _ _ _ _ ⟨h0.1, fun z => ⟨rfl, rfl, fun k hk => ?_⟩⟩)
    have hk' : k < 1 * 1 := hk
    obtain rfl : k = 0 := by omega
    rw [pk_us]
    exact h0.2 z
  | succ d ih =>
    intro i sv se hi hS hd n hn
    obtain ⟨n, rfl⟩ : ∃ z, n = z + 1 := ⟨n - 1, by omega⟩
    have ht : ∀ g, g < 8 → tok (s * 56 + i * 8 + g) = f.2 i g := hM.2 i (by omega)
    have hb : s * 56 + i * 8 + 8 ≤ 4088 := by omega
    have k0 : tok (s * 56 + i * 8) = f.2 i 0 := ht 0 (by decide)
    have k1 : tok (s * 56 + i * 8 + 1) = f.2 i 1 := ht 1 (by decide)
    have hv := hV.2 i (by omega)
    have hw := hW.1 i (by omega)
    have hdl := qt_dep_le f.2 i
    have hds : qt_dep f.2 (i + 1) = qt_dep f.2 i - qt_tak (f.2 i) + 1 := rfl
    have hlast : ∀ d', d = d' → qt_tak (f.2 i) ≠ 1 → qt_tak (f.2 i) ≠ 3 → (d = 0 → qt_tak (f.2 (f.1 - 1)) ≠ 1 ∧ qt_tak (f.2 (f.1 - 1)) ≠ 3) := by
      intro _ _ a1 a3 z
      rw [show f.1 - 1 = i by omega]
      exact ⟨a1, a3⟩
    simp (disch := omega) only [wX_evaluate_12, nI_add, pk_mul, qa_a1, qa_a2, qa_a3, qa_a4, qa_a5, qa_a6, qa_a7, qa_a8, qa_a56, qa_m6, qa_m7, qa_m8, qa_m56, qa_l2, qa_l37, qa_l2016, qa_in, nI_clamp, forall_eq, true_and, qa_cl0, nI_leI, nI_ltI, nI_eq, not_false_eq_true, pk_sub, qa_s1, qa_s2, qa_s8]
    refine br_f (by omega) ?_
    refine qx_base ?_
    simp (disch := omega) only [k0, k1, nI_add, pk_mul, qa_a1, qa_a2, qa_a3, qa_a4, qa_a5, qa_a6, qa_a7, qa_a8, qa_a56, qa_m6, qa_m7, qa_m8, qa_m56, qa_l2, qa_l37, qa_l2016, qa_in, nI_clamp, forall_eq, true_and, qa_cl0, nI_leI, nI_ltI, nI_eq, not_false_eq_true, pk_sub, qa_s1, qa_s2, qa_s8]
    by_cases e6 : f.2 i 0 = 6
    · refine br_t e6 ?_
      have tk := qt_tak1 e6
      have hw2 := hw.2 (Or.inl tk)
      rw [hw2.1, tk] at hS
      have hr : qs_res f st' vl' = qs_kp (qs_E f.2 st' vl' i) (f.2 i) st' vl' := by
        unfold qs_res
        rw [show f.1 - 1 = i by omega, if_pos tk]
      rw [hr] at h
      exact qx_kp hS hR hC hb ht hv e6 (hst i (by omega)) (fun _ _ _ _ hh => h _ _ _ _ _ _ hh)
    · refine br_f e6 ?_
      by_cases e3 : f.2 i 0 = 3
      · refine br_t e3 ?_
        by_cases e5 : f.2 i 1 = 5
        · refine br_t e5 ?_
          have tk := qt_tak3 e6 e3 e5
          have hw2 := hw.2 (Or.inr tk)
          rw [hw2.1, tk] at hS
          have hr : qs_res f st' vl' = qs_sq (qs_E f.2 st' vl' i) := by
            unfold qs_res
            rw [show f.1 - 1 = i by omega, if_neg (by rw [tk]; decide), if_pos tk]
          rw [hr] at h
          exact qx_sq hS (fun _ _ _ _ hh => h _ _ _ _ _ _ hh)
        · refine br_f e5 ?_
          have tk := qt_tak2 e6 e3 e5
          have hw1 := hw.1
          rw [tk] at hw1 hds
          rw [sb_m1 (by omega)]
          simp (disch := omega) only [nI_add, pk_mul, qa_a1, qa_a2, qa_a3, qa_a4, qa_a5, qa_a6, qa_a7, qa_a8, qa_a56, qa_m6, qa_m7, qa_m8, qa_m56, qa_l2, qa_l37, qa_l2016, qa_in, nI_clamp, forall_eq, true_and, qa_cl0, nI_leI, nI_ltI, nI_eq, not_false_eq_true, pk_sub, qa_s1, qa_s2, qa_s8]
          rw [show qt_dep f.2 i - 1 - 1 = qt_dep f.2 i - 2 by omega]
          refine qx_cmb (by omega) (fun sv' se' g1 g2 g3 => ?_)
          have hE : qs_E f.2 st' vl' (i + 1) = qs_push (qs_E f.2 st' vl' i) (qt_dep f.2 i - 2) (if (qs_E f.2 st' vl' i).1 (qt_dep f.2 i - 2) = 0 then (qs_E f.2 st' vl' i).1 (qt_dep f.2 i - 1) else (qs_E f.2 st' vl' i).1 (qt_dep f.2 i - 2)) (qs_op (f.2 i 1) ((qs_E f.2 st' vl' i).2 (qt_dep f.2 i - 2)) ((qs_E f.2 st' vl' i).2 (qt_dep f.2 i - 1))) := by
            show (if _ then _ else if _ then _ else _) = _
            rw [if_neg (by rw [tk]; decide), if_pos tk]
          have := ih (i + 1) sv' se' (by omega) (by
            intro k hk
            rw [hds] at hk
            rw [hE]
            unfold qs_push
            have p1 := hS (qt_dep f.2 i - 2) (by omega)
            have p2 := hS (qt_dep f.2 i - 1) (by omega)
            rw [show qt_dep f.2 i - 2 + 1 = qt_dep f.2 i - 1 by omega] at g2 g3
            by_cases ek : k = qt_dep f.2 i - 2
            · subst ek
              show _ = upd _ _ _ _ ∧ (upd _ _ _ _ = 0 → _ = upd _ _ _ _)
              rw [pk_us, pk_us, g2, p1.1, p2.1]
              refine ⟨rfl, fun z => ?_⟩
              rw [if_pos z]
              by_cases y1 : (qs_E f.2 st' vl' i).1 (qt_dep f.2 i - 2) = 0
              · rw [if_pos y1] at z
                rw [g3 (p1.1.trans y1) (p2.1.trans z), p1.2 y1, p2.2 z]
              · rw [if_neg y1] at z; exact absurd z y1
            · show _ = upd _ _ _ _ ∧ (upd _ _ _ _ = 0 → _ = upd _ _ _ _)
              rw [pk_un ek, pk_un ek, (g1 k ek).1, (g1 k ek).2]
              exact hS k (by omega)) (hlast d rfl (by rw [tk]; decide) (by rw [tk]; decide)) n (by omega)
          rw [hds, show qt_dep f.2 i - 2 + 1 = qt_dep f.2 i - 1 by omega] at this
          exact this
      · refine br_f e3 ?_
        have tk := qt_tak0 e6 e3
        rw [tk] at hds
        refine qx_op (by omega) hR hC hb ht hv e3 (hst i (by omega)) (fun sv' se' g1 g2 g3 => ?_)
        have hE : qs_E f.2 st' vl' (i + 1) = qs_push (qs_E f.2 st' vl' i) (qt_dep f.2 i) (qs_fe (f.2 i) st' 36) (qs_ov (f.2 i) st' vl') := by
          show (if _ then _ else if _ then _ else _) = _
          rw [if_pos tk]
        have := ih (i + 1) sv' se' (by omega) (by
          intro k hk
          rw [hds] at hk
          rw [hE]
          unfold qs_push
          by_cases ek : k = qt_dep f.2 i
          · subst ek
            show _ = upd _ _ _ _ ∧ (upd _ _ _ _ = 0 → _ = upd _ _ _ _)
            rw [pk_us, pk_us]
            refine ⟨g2, fun z => ?_⟩
            rw [if_pos z]
            exact g3 z
          · show _ = upd _ _ _ _ ∧ (upd _ _ _ _ = 0 → _ = upd _ _ _ _)
            rw [pk_un ek, pk_un ek, (g1 k ek).1, (g1 k ek).2]
            exact hS k (by omega)) (hlast d rfl (by rw [tk]; decide) (by rw [tk]; decide)) n (by omega)
        rw [hds, Nat.sub_zero] at this
        exact this
theorem qx_ev {post : SX → Prop} {R C s : Nat} {f : qt_Fm} {st' vl' : Nat → Int32} (hM : qt_MX tok cnt s f.1 f.2) (hs : s < 36) (hV : qt_VF R C f.1 f.2) (hW : qt_WF f.1 f.2) (h0 : 0 < f.1) (hR : R ≤ 6) (hC : C ≤ 6) (hst : ∀ j, j < f.1 → ∀ k, k < 36 → qs_nm (f.2 j) k → stt k = st' k ∧ val k = vl' k)
    (h : ∀ sv' se' oe' oh' ow' out', qs_RX (qs_res f st' vl') oe' oh' ow' out' → post (nr, nc, st, sl, sb, sr, sta, stl, oe', oh', ow', tok, cnt, stt, val, own, rch, nds, sv', se', out')) : wpX_evaluate post (nr, nc, st, sl, sb, sr, sta, stl, oe, oh, ow, tok, cnt, stt, val, own, rch, nds, sv, se, out) (nI s) := by
  have h7 := hV.1
  simp (disch := omega) only [wpX_evaluate, hM.1, nI_add, pk_mul, qa_a1, qa_a2, qa_a3, qa_a4, qa_a5, qa_a6, qa_a7, qa_a8, qa_a56, qa_m6, qa_m7, qa_m8, qa_m56, qa_l2, qa_l37, qa_l2016, qa_in, nI_clamp, forall_eq, true_and, qa_cl0, nI_leI, nI_ltI, nI_eq, not_false_eq_true, pk_sub, qa_s1, qa_s2, qa_s8]
  exact ⟨8, qx_ev12 hM hs hV hW hR hC hst h f.1 0 sv se (Nat.zero_add _) (fun k hk => absurd hk (Nat.not_lt_zero k)) (fun z => absurd z (by omega)) 8 (by omega)⟩
end
end
section
/-! the component: settling -/
def qs_xo (o : Nat) : Int32 := if o = 0 then -1 else nI (o - 1)
/-- X's arrays hold σ on the sheet -/
def qs_XM (R C : Nat) (σ : qs_St) (stl : Int64) (stt val own : Nat → Int32) : Prop := ∀ s, s < 36 → qs_sh R C s → qa_tb stl s = σ.1 s ∧ stt s = σ.2.1 s ∧ val s = σ.2.2.1 s ∧ own s = qs_xo (σ.2.2.2 s)
def qs_O (σ : qs_St) : Prop := ∀ x, σ.2.2.2 x ≤ 36
theorem qs_sc_O {R C : Nat} {G : Nat → qt_Fm} {s : Nat} {σ : qs_St} (hs : s < 36) (h : qs_O σ) : qs_O (qs_sc R C G s σ) := by
  unfold qs_sc
  split
  · exact h
  · split
    · exact h
    · split
      · exact h
      · split
        · exact h
        · intro x
          show (if _ then s + 1 else σ.2.2.2 x) ≤ 36
          split
          · exact hs
          · exact h x
theorem qs_s1_O {R C : Nat} {G : Nat → qt_Fm} {s : Nat} {σ : qs_St} (hs : s < 36) (h : qs_O σ) : qs_O (qs_s1 R C G s σ) := by
  unfold qs_s1
  split
  · exact qs_sc_O hs h
  · exact h
theorem qs_ps_O {R C : Nat} {G : Nat → qt_Fm} {σ : qs_St} (h : qs_O σ) : ∀ k, k ≤ 36 → qs_O (qs_ps R C G k σ)
  | 0, _ => h
  | k + 1, hk => qs_s1_O (by omega) (qs_ps_O h k (by omega))
theorem qs_it_O {R C : Nat} {G : Nat → qt_Fm} {σ : qs_St} (h : qs_O σ) : ∀ k, qs_O (qs_it R C G k σ)
  | 0 => h
  | k + 1 => qs_ps_O (qs_it_O h k) 36 (Nat.le_refl _)
theorem qs_O0 : qs_O qs_0 := fun _ => Nat.zero_le _
theorem qs_ps_Le {R C : Nat} {G : Nat → qt_Fm} {σ : qs_St} {k : Nat} : ∀ d, qs_Le (qs_ps R C G k σ) (qs_ps R C G (k + d) σ)
  | 0 => fun _ h => h
  | d + 1 => by
    intro x hx
    have := qs_ps_Le (R := R) (C := C) (G := G) (σ := σ) (k := k) d x hx
    show (qs_s1 R C G (k + d) _).1 x = true
    unfold qs_s1
    split
    · exact qs_sc_Le x this
    · exact this
theorem qs_ps_skip {R C : Nat} {G : Nat → qt_Fm} {σ : qs_St} {k : Nat} : ∀ d, (∀ x, k ≤ x → x < k + d → ¬ qs_sh R C x) → qs_ps R C G (k + d) σ = qs_ps R C G k σ
  | 0, _ => rfl
  | d + 1, h => by
    show qs_s1 R C G (k + d) (qs_ps R C G (k + d) σ) = _
    rw [qs_ps_skip d (fun x h1 h2 => h x h1 (by omega))]
    unfold qs_s1
    rw [if_neg (by rw [qa_bf (fun z => h (k + d) (by omega) (by omega) z.1)]; decide)]
theorem qs_ps_skip' {R C : Nat} {G : Nat → qt_Fm} {σ : qs_St} {a b : Nat} (hab : a ≤ b) (h : ∀ x, a ≤ x → x < b → ¬ qs_sh R C x) : qs_ps R C G b σ = qs_ps R C G a σ := by
  obtain ⟨d, rfl⟩ : ∃ d, b = a + d := ⟨b - a, by omega⟩
  exact qs_ps_skip d h
/-- a named cell lies in the sheet -/
theorem qs_nm_in {R C k : Nat} {t : Nat → Int32} (hR : R ≤ 6) (hC : C ≤ 6) (hv : qt_VT R C t) (hk : k < 1000) (h : qs_nm t k) : qs_sh R C k := by
  obtain ⟨⟨r, c, r', c', -, -, q1, q2, q3, q4, -, -, e2, e3, -, e5, e6, -⟩, -⟩ := qt_VT_lv hv h.1
  have := (qs_nm_iff h.1 e2 e3 e5 e6 (by omega) (by omega) (by omega) (by omega) hk).mp h
  unfold qs_sh
  omega
theorem qs_need_in {R C s x : Nat} {G : Nat → qt_Fm} (hR : R ≤ 6) (hC : C ≤ 6) (hV : qt_VC R C G) (hs : s < 36) (hx : x < 36) (h : qs_need G s x) : qs_sh R C x := by
  rcases h with h | ⟨i, h1, h2⟩ | h
  · have := (hV x hx).2 h.2.1.1
    exact ⟨this.1, this.2.1⟩
  · exact qs_nm_in hR hC ((hV s hs).1.2 i h1) (by omega) h2
  · have := (hV x hx).2 h.2.1.1
    exact ⟨this.1, this.2.1⟩
theorem qs_can_iff {R C s : Nat} {G : Nat → qt_Fm} {σ : qs_St} {m stl : Int64} (hR : R ≤ 6) (hC : C ≤ 6) (hV : qt_VC R C G) (hs : s < 36) (hm : qs_NM G s m) (hS : ∀ x, x < 36 → qs_sh R C x → qa_tb stl x = σ.1 x) : (m &&& (stl ^^^ (-1))) = 0 ↔ qs_can G σ.1 s := by
  rw [qa_tnot]
  constructor
  · intro h x hx h0 hn
    have := h x (by omega) ((hm x (by omega)).mpr ⟨hx, hn⟩)
    rw [hS x hx (qs_need_in hR hC hV hs hx hn), h0] at this
    exact absurd this (by decide)
  · intro h i hi hb
    obtain ⟨hx, hn⟩ := (hm i hi).mp hb
    rw [hS i hx (qs_need_in hR hC hV hs hx hn)]
    cases z : σ.1 i
    · exact absurd hn (h i hx z)
    · rfl
/-- a cell that can't be taken -/
abbrev qs_bad (G : Nat → qt_Fm) (ow : Nat → Nat) (s x : Nat) : Prop := x ≠ s ∧ (0 < (G x).1 ∨ (0 < ow x ∧ (ow x - 1) / 6 < s / 6))
section
variable {nr nc st sl sb sr sta oe oh ow : Int32} {stl : Int64} {tok cnt stt val own sv se out : Nat → Int32} {rch nds : Nat → Int64}
section
variable {G : Nat → qt_Fm} {ow' : Nat → Nat} {R C s h w : Nat}
theorem qx_ib53 {post : Int32 → Prop} {J : Int32 → Prop} {i : Nat} (hA : qt_AX 36 tok cnt G) (hs : s < 36) (hR : R ≤ 6) (hC : C ≤ 6) (hh : s / 6 + h ≤ R) (hw : s % 6 + w ≤ C) (ho : ∀ x, x < 36 → qs_sh R C x → own x = qs_xo (ow' x)) (hb : ∀ x, ow' x ≤ 36) (h0 : ow' s = 0) (hi : i < h) (hp : (∃ x, x < 36 ∧ qs_area s h w x ∧ qs_bad G ow' s x) → post 1) (hJ : (∀ x, qs_area s h w x → x / 6 < s / 6 + (i + 1) → ¬ qs_bad G ow' s x) → J (nI (i + 1))) :
    ∀ (d j : Nat), j + d = w → (∀ x, qs_area s h w x → (x / 6 < s / 6 + i ∨ (x / 6 = s / 6 + i ∧ x % 6 < s % 6 + j)) → ¬ qs_bad G ow' s x) → ∀ n, d < n → wX_isBlocked_53 post J (nI s) (nI (s / 6)) (nI (s % 6)) (nI i) nr nc st sl sb sr sta stl oe oh (nI w) tok cnt stt val own rch nds sv se out n (nI j) := by
  intro d
  induction d with
  | zero =>
    intro j hj hI n hn
    obtain ⟨n, rfl⟩ : ∃ z, n = z + 1 := ⟨n - 1, by omega⟩
    obtain rfl : j = w := by omega
    simp (disch := omega) only [wX_isBlocked_53, nI_add, pk_mul, qa_a1, qa_a2, qa_a3, qa_a4, qa_a5, qa_a6, qa_a7, qa_a8, qa_a56, qa_m6, qa_m7, qa_m8, qa_m56, qa_l2, qa_l37, qa_l2016, qa_in, nI_clamp, forall_eq, true_and, qa_cl0, nI_leI, nI_ltI, nI_eq, not_false_eq_true, pk_sub, qa_s1, qa_s2, qa_s8]
    refine br_t (by omega) (hJ (fun x a1 a2 => hI x a1 (by have := a1.2.2.2; omega)))
  | succ d ih =>
    intro j hj hI n hn
    obtain ⟨n, rfl⟩ : ∃ z, n = z + 1 := ⟨n - 1, by omega⟩
    have e0 : (s / 6 + i) * 6 + s % 6 + j < 36 := by omega
    generalize hx : (s / 6 + i) * 6 + s % 6 + j = x at e0
    have ex1 : x / 6 = s / 6 + i := by omega
    have ex2 : x % 6 = s % 6 + j := by omega
    have har : qs_area s h w x := by unfold qs_area; omega
    have hin : qs_sh R C x := by unfold qs_sh; omega
    have A := hA x e0
    have m1 : cnt x = nI (G x).1 := A.2.1
    have A7 := A.1
    have o1 := ho x e0 hin
    have b1 := hb x
    have step : ¬ qs_bad G ow' s x → wX_isBlocked_53 post J (nI s) (nI (s / 6)) (nI (s % 6)) (nI i) nr nc st sl sb sr sta stl oe oh (nI w) tok cnt stt val own rch nds sv se out n (nI (j + 1)) := by
      intro hnb
      refine ih (j + 1) (by omega) (fun y a1 a2 => ?_) n (by omega)
      by_cases e : y = x
      · subst e; exact hnb
      · exact hI y a1 (by omega)
    have k94 : (x = s ∨ (G x).1 = 0) → wX_isBlocked_94 post J (wX_isBlocked_53 post J (nI s) (nI (s / 6)) (nI (s % 6)) (nI i) nr nc st sl sb sr sta stl oe oh (nI w) tok cnt stt val own rch nds sv se out n) (nI s) (nI (s / 6)) (nI (s % 6)) (nI i) (nI j) (nI x) nr nc st sl sb sr sta stl oe oh (nI w) tok cnt stt val own rch nds sv se out := by
      intro hor
      simp (disch := omega) only [wX_isBlocked_94, o1, qa_n6, nI_add, pk_mul, qa_a1, qa_a2, qa_a3, qa_a4, qa_a5, qa_a6, qa_a7, qa_a8, qa_a56, qa_m6, qa_m7, qa_m8, qa_m56, qa_l2, qa_l37, qa_l2016, qa_in, nI_clamp, forall_eq, true_and, qa_cl0, nI_leI, nI_ltI, nI_eq, not_false_eq_true, pk_sub, qa_s1, qa_s2, qa_s8]
      by_cases z : ow' x = 0
      · have : qs_xo (ow' x) = -1 := by unfold qs_xo; rw [if_pos z]
        rw [this]
        exact br_t (by decide) (step (fun y => by rcases y.2 with y2 | y2 <;> rcases hor with q | q <;> first | exact y.1 q | omega))
      · have hx' : qs_xo (ow' x) = nI (ow' x - 1) := by unfold qs_xo; rw [if_neg z]
        rw [hx', qa_ltr0 (by omega), qa_div6 (by omega), nI_leI (by omega) (by omega)]
        refine br_f (by omega) ?_
        have hne : x ≠ s := by
          intro y
          subst y
          exact z h0
        by_cases q : s / 6 ≤ (ow' x - 1) / 6
        · refine br_t q (step (fun y => ?_))
          rcases y.2 with y2 | y2
          · rcases hor with q' | q'
            · exact hne q'
            · omega
          · omega
        · exact br_f q (hp ⟨x, e0, har, hne, Or.inr ⟨by omega, by omega⟩⟩)
    simp (disch := omega) only [wX_isBlocked_53, nI_add, pk_mul, qa_a1, qa_a2, qa_a3, qa_a4, qa_a5, qa_a6, qa_a7, qa_a8, qa_a56, qa_m6, qa_m7, qa_m8, qa_m56, qa_l2, qa_l37, qa_l2016, qa_in, nI_clamp, forall_eq, true_and, qa_cl0, nI_leI, nI_ltI, nI_eq, not_false_eq_true, pk_sub, qa_s1, qa_s2, qa_s8]
    simp only [hx]
    refine br_f (by omega) ?_
    simp (disch := omega) only [m1, qa_ler0, nI_add, pk_mul, qa_a1, qa_a2, qa_a3, qa_a4, qa_a5, qa_a6, qa_a7, qa_a8, qa_a56, qa_m6, qa_m7, qa_m8, qa_m56, qa_l2, qa_l37, qa_l2016, qa_in, nI_clamp, forall_eq, true_and, qa_cl0, nI_leI, nI_ltI, nI_eq, not_false_eq_true, pk_sub, qa_s1, qa_s2, qa_s8]
    by_cases c1 : x = s
    · exact br_t c1 (k94 (Or.inl c1))
    · refine br_f c1 ?_
      by_cases c2 : (G x).1 ≤ 0
      · exact br_t c2 (k94 (Or.inr (by omega)))
      · exact br_f c2 (hp ⟨x, e0, har, c1, Or.inl (by omega)⟩)
theorem qx_ib41 {post : Int32 → Prop} (hA : qt_AX 36 tok cnt G) (hs : s < 36) (hR : R ≤ 6) (hC : C ≤ 6) (hh : s / 6 + h ≤ R) (hw : s % 6 + w ≤ C) (ho : ∀ x, x < 36 → qs_sh R C x → own x = qs_xo (ow' x)) (hb : ∀ x, ow' x ≤ 36) (h0 : ow' s = 0) (hp : (∃ x, x < 36 ∧ qs_area s h w x ∧ qs_bad G ow' s x) → post 1) (hJ : (∀ x, qs_area s h w x → ¬ qs_bad G ow' s x) → post 0) :
    ∀ (d i : Nat), i + d = h → (∀ x, qs_area s h w x → x / 6 < s / 6 + i → ¬ qs_bad G ow' s x) → ∀ n, d < n → wX_isBlocked_41 post (nI s) (nI (s / 6)) (nI (s % 6)) nr nc st sl sb sr sta stl oe (nI h) (nI w) tok cnt stt val own rch nds sv se out n (nI i) := by
  intro d
  induction d with
  | zero =>
    intro i hi hI n hn
    obtain ⟨n, rfl⟩ : ∃ z, n = z + 1 := ⟨n - 1, by omega⟩
    obtain rfl : i = h := by omega
    simp (disch := omega) only [wX_isBlocked_41, nI_add, pk_mul, qa_a1, qa_a2, qa_a3, qa_a4, qa_a5, qa_a6, qa_a7, qa_a8, qa_a56, qa_m6, qa_m7, qa_m8, qa_m56, qa_l2, qa_l37, qa_l2016, qa_in, nI_clamp, forall_eq, true_and, qa_cl0, nI_leI, nI_ltI, nI_eq, not_false_eq_true, pk_sub, qa_s1, qa_s2, qa_s8]
    exact br_t (by omega) (hJ (fun x a1 => hI x a1 (by have := a1.2.1; omega)))
  | succ d ih =>
    intro i hi hI n hn
    obtain ⟨n, rfl⟩ : ∃ z, n = z + 1 := ⟨n - 1, by omega⟩
    simp (disch := omega) only [wX_isBlocked_41, nI_add, pk_mul, qa_a1, qa_a2, qa_a3, qa_a4, qa_a5, qa_a6, qa_a7, qa_a8, qa_a56, qa_m6, qa_m7, qa_m8, qa_m56, qa_l2, qa_l37, qa_l2016, qa_in, nI_clamp, forall_eq, true_and, qa_cl0, nI_leI, nI_ltI, nI_eq, not_false_eq_true, pk_sub, qa_s1, qa_s2, qa_s8]
    refine br_f (by omega) ⟨w + 1, ?_⟩
    exact qx_ib53 hA hs hR hC hh hw ho hb h0 (by omega) hp (fun hI' => ih (i + 1) (by omega) hI' n (by omega)) w 0 (Nat.zero_add w) (fun x a1 a2 => hI x a1 (by have := a1.2.2.1; omega)) (w + 1) (by omega)
theorem qx_ib {post : Int32 → Prop} (hA : qt_AX 36 tok cnt G) (hs : s < 36) (hR : R ≤ 6) (hC : C ≤ 6) (hh : h ≤ 36) (hw : w ≤ 36) (ho : ∀ x, x < 36 → qs_sh R C x → own x = qs_xo (ow' x)) (hb : ∀ x, ow' x ≤ 36) (h0 : ow' s = 0) (h1 : qs_blk R C G ow' s h w → post 1) (h2 : ¬ qs_blk R C G ow' s h w → post 0) : wpX_isBlocked post (nI R, nI C, st, sl, sb, sr, sta, stl, oe, nI h, nI w, tok, cnt, stt, val, own, rch, nds, sv, se, out) (nI s) := by
  have e : s - s / 6 * 6 = s % 6 := by omega
  simp (disch := omega) only [wpX_isBlocked, qa_n6, qa_div6, e, nI_add, pk_mul, qa_a1, qa_a2, qa_a3, qa_a4, qa_a5, qa_a6, qa_a7, qa_a8, qa_a56, qa_m6, qa_m7, qa_m8, qa_m56, qa_l2, qa_l37, qa_l2016, qa_in, nI_clamp, forall_eq, true_and, qa_cl0, nI_leI, nI_ltI, nI_eq, not_false_eq_true, pk_sub, qa_s1, qa_s2, qa_s8]
  by_cases c1 : R < s / 6 + h
  · exact br_t c1 (h1 (Or.inl c1))
  · refine br_f c1 ?_
    by_cases c2 : s % 6 + w ≤ C
    · refine br_t c2 ⟨h + 1, qx_ib41 hA hs hR hC (by omega) c2 ho hb h0 (fun ⟨x, a1, a2, a3⟩ => h1 (Or.inr (Or.inr ⟨x, a1, a3.1, a2, a3.2⟩))) (fun hI => h2 ?_) h 0 (Nat.zero_add h) (fun x a1 a2 => by have := a1.1; omega) (h + 1) (by omega)⟩
      rintro (z | z | ⟨x, a1, a2, a3, a4⟩)
      · omega
      · omega
      · exact hI x a3 ⟨a2, a4⟩
    · exact br_f c2 (h1 (Or.inr (Or.inl (by omega))))
/-- ahead of (i, j) the area is given away -/
def qs_SP (s h w i j : Nat) (out : Nat → Int32) (stl stl' : Int64) (stt val own stt' val' own' : Nat → Int32) : Prop :=
  ∀ x, x < 36 → ((qs_area s h w x ∧ (x / 6 < s / 6 + i ∨ (x / 6 = s / 6 + i ∧ x % 6 < s % 6 + j))) → qa_tb stl' x = true ∧ stt' x = 1 ∧ val' x = out ((x / 6 - s / 6) * w + (x % 6 - s % 6)) ∧ own' x = nI s) ∧
    (¬ (qs_area s h w x ∧ (x / 6 < s / 6 + i ∨ (x / 6 = s / 6 + i ∧ x % 6 < s % 6 + j))) → qa_tb stl' x = qa_tb stl x ∧ stt' x = stt x ∧ val' x = val x ∧ own' x = own x)
theorem qs_SP_n {i : Nat} {out' : Nat → Int32} {stl1 stl' : Int64} {stt1 val1 own1 stt' val' own' : Nat → Int32} (hI : qs_SP s h w i w out' stl1 stl' stt1 val1 own1 stt' val' own') : qs_SP s h w (i + 1) 0 out' stl1 stl' stt1 val1 own1 stt' val' own' := by
  intro x hx
  refine ⟨fun z => (hI x hx).1 ⟨z.1, ?_⟩, fun z => (hI x hx).2 (fun y => z ⟨y.1, ?_⟩)⟩
  · have := z.1.2.2.2; omega
  · omega
theorem qx_sp12 {post : SX → Prop} {stl0 : Int64} {stt0 val0 own0 : Nat → Int32} {J : Int32 → Int64 → (Nat → Int32) → (Nat → Int32) → (Nat → Int32) → (Nat → Int32) → (Nat → Int32) → (Nat → Int64) → (Nat → Int64) → (Nat → Int32) → (Nat → Int32) → (Nat → Int32) → Prop} {i : Nat} (hs : s < 36) (hh : s / 6 + h ≤ 6) (hw : s % 6 + w ≤ 6) (hi : i < h)
    (hJ : ∀ stl' stt' val' own', qs_SP s h w (i + 1) 0 out stl0 stl' stt0 val0 own0 stt' val' own' → J (nI (i + 1)) stl' tok cnt stt' val' own' rch nds sv se out) :
    ∀ (d j : Nat) (stl : Int64) (stt val own : Nat → Int32), j + d = w → qs_SP s h w i j out stl0 stl stt0 val0 own0 stt val own → ∀ n, d < n → wX_spill_12 post J (nI s) (nI i) nr nc st sl sb sr sta oe oh (nI w) n (nI j) stl tok cnt stt val own rch nds sv se out := by
  intro d
  induction d with
  | zero =>
    intro j stl stt val own hj hI n hn
    obtain ⟨n, rfl⟩ : ∃ z, n = z + 1 := ⟨n - 1, by omega⟩
    obtain rfl : j = w := by omega
    simp (disch := omega) only [wX_spill_12, nI_add, pk_mul, qa_a1, qa_a2, qa_a3, qa_a4, qa_a5, qa_a6, qa_a7, qa_a8, qa_a56, qa_m6, qa_m7, qa_m8, qa_m56, qa_l2, qa_l37, qa_l2016, qa_in, nI_clamp, forall_eq, true_and, qa_cl0, nI_leI, nI_ltI, nI_eq, not_false_eq_true, pk_sub, qa_s1, qa_s2, qa_s8]
    exact br_t (by omega) (hJ _ _ _ _ (qs_SP_n hI))
  | succ d ih =>
    intro j stl stt val own hj hI n hn
    obtain ⟨n, rfl⟩ : ∃ z, n = z + 1 := ⟨n - 1, by omega⟩
    have hiw : i * w ≤ 5 * w := Nat.mul_le_mul_right w (by omega)
    have hq : i * w + j < 36 := by omega
    have e0 : s + i * 6 + j < 36 := by omega
    simp (disch := omega) only [wX_spill_12, nI_add, pk_mul, qa_a1, qa_a2, qa_a3, qa_a4, qa_a5, qa_a6, qa_a7, qa_a8, qa_a56, qa_m6, qa_m7, qa_m8, qa_m56, qa_l2, qa_l37, qa_l2016, qa_in, nI_clamp, forall_eq, true_and, qa_cl0, nI_leI, nI_ltI, nI_eq, not_false_eq_true, pk_sub, qa_s1, qa_s2, qa_s8]
    refine br_f (by omega) (ih (j + 1) _ _ _ _ (by omega) (fun x hx => ?_) n (by omega))
    by_cases e : x = s + i * 6 + j
    · subst e
      have e1 : (s + i * 6 + j) / 6 - s / 6 = i := by omega
      have e2 : (s + i * 6 + j) % 6 - s % 6 = j := by omega
      refine ⟨fun _ => ?_, fun z => absurd ⟨by unfold qs_area; omega, by omega⟩ z⟩
      rw [qa_tbs (by omega), pk_us, pk_us, pk_us, e1, e2]
      exact ⟨by simp, rfl, rfl, rfl⟩
    · rw [qa_tbs (by omega), pk_un e, pk_un e, pk_un e]
      have d1 : decide (x = s + i * 6 + j) = false := decide_eq_false e
      rw [d1, Bool.or_false]
      refine ⟨fun z => (hI x hx).1 ⟨z.1, ?_⟩, fun z => (hI x hx).2 (fun y => z ⟨y.1, ?_⟩)⟩
      · have := z.1; omega
      · omega
theorem qx_sp2 {post : SX → Prop} {stl0 : Int64} {stt0 val0 own0 : Nat → Int32} (hs : s < 36) (hh : s / 6 + h ≤ 6) (hw : s % 6 + w ≤ 6)
    (hJ : ∀ stl' stt' val' own', qs_SP s h w h 0 out stl0 stl' stt0 val0 own0 stt' val' own' → post (nr, nc, st, sl, sb, sr, sta, stl', oe, nI h, nI w, tok, cnt, stt', val', own', rch, nds, sv, se, out)) :
    ∀ (d i : Nat) (stl : Int64) (stt val own : Nat → Int32), i + d = h → qs_SP s h w i 0 out stl0 stl stt0 val0 own0 stt val own → ∀ n, d < n → wX_spill_2 post (nI s) nr nc st sl sb sr sta oe (nI h) (nI w) n (nI i) stl tok cnt stt val own rch nds sv se out := by
  intro d
  induction d with
  | zero =>
    intro i stl stt val own hi hI n hn
    obtain ⟨n, rfl⟩ : ∃ z, n = z + 1 := ⟨n - 1, by omega⟩
    obtain rfl : i = h := by omega
    simp (disch := omega) only [wX_spill_2, nI_add, pk_mul, qa_a1, qa_a2, qa_a3, qa_a4, qa_a5, qa_a6, qa_a7, qa_a8, qa_a56, qa_m6, qa_m7, qa_m8, qa_m56, qa_l2, qa_l37, qa_l2016, qa_in, nI_clamp, forall_eq, true_and, qa_cl0, nI_leI, nI_ltI, nI_eq, not_false_eq_true, pk_sub, qa_s1, qa_s2, qa_s8]
    exact br_t (by omega) (hJ _ _ _ _ hI)
  | succ d ih =>
    intro i stl stt val own hi hI n hn
    obtain ⟨n, rfl⟩ : ∃ z, n = z + 1 := ⟨n - 1, by omega⟩
    simp (disch := omega) only [wX_spill_2, nI_add, pk_mul, qa_a1, qa_a2, qa_a3, qa_a4, qa_a5, qa_a6, qa_a7, qa_a8, qa_a56, qa_m6, qa_m7, qa_m8, qa_m56, qa_l2, qa_l37, qa_l2016, qa_in, nI_clamp, forall_eq, true_and, qa_cl0, nI_leI, nI_ltI, nI_eq, not_false_eq_true, pk_sub, qa_s1, qa_s2, qa_s8]
    refine br_f (by omega) ⟨w + 1, ?_⟩
    exact qx_sp12 hs hh hw (by omega) (fun _ _ _ _ hI' => ih (i + 1) _ _ _ _ (by omega) hI' n (by omega)) w 0 _ _ _ _ (Nat.zero_add w) hI (w + 1) (by omega)
theorem qx_sp {post : SX → Prop} (hs : s < 36) (hh : s / 6 + h ≤ 6) (hw : s % 6 + w ≤ 6)
    (hJ : ∀ stl' stt' val' own', (∀ x, x < 36 → (qs_area s h w x → qa_tb stl' x = true ∧ stt' x = 1 ∧ val' x = out ((x / 6 - s / 6) * w + (x % 6 - s % 6)) ∧ own' x = nI s) ∧ (¬ qs_area s h w x → qa_tb stl' x = qa_tb stl x ∧ stt' x = stt x ∧ val' x = val x ∧ own' x = own x)) → post (nr, nc, st, sl, sb, sr, sta, stl', oe, nI h, nI w, tok, cnt, stt', val', own', rch, nds, sv, se, out)) : wpX_spill post (nr, nc, st, sl, sb, sr, sta, stl, oe, nI h, nI w, tok, cnt, stt, val, own, rch, nds, sv, se, out) (nI s) := by
  unfold wpX_spill
  refine ⟨h + 1, qx_sp2 hs hh hw (fun _ _ _ _ hI => hJ _ _ _ _ (fun x hx => ⟨fun z => (hI x hx).1 ⟨z, Or.inl z.2.1⟩, fun z => (hI x hx).2 (fun y => z y.1)⟩)) h 0 _ _ _ _ (Nat.zero_add h) (fun x hx => ⟨fun z => ?_, fun _ => ⟨rfl, rfl, rfl, rfl⟩⟩) (h + 1) (by omega)⟩
  have := z.1; omega
end
theorem qx_sc {post : SX → Prop} {G : Nat → qt_Fm} {R C s : Nat} {σ : qs_St} (hA : qt_AX 36 tok cnt G) (hV : qt_VC R C G) (hR : R ≤ 6) (hC : C ≤ 6) (hs : s < 36) (hin : qs_sh R C s) (hI : qs_I σ) (hO : qs_O σ) (h0 : σ.1 s = false) (hM : qs_XM R C σ stl stt val own)
    (h : ∀ stl' oe' oh' ow' stt' val' own' sv' se' out', qs_XM R C (qs_sc R C G s σ) stl' stt' val' own' → post (nI R, nI C, st, sl, sb, sr, sta, stl', oe', oh', ow', tok, cnt, stt', val', own', rch, nds, sv', se', out')) : wpX_settleCell post (nI R, nI C, st, sl, sb, sr, sta, stl, oe, oh, ow, tok, cnt, stt, val, own, rch, nds, sv, se, out) (nI s) := by
  have A := hA s hs
  have A7 := A.1
  have m1 : cnt s = nI (G s).1 := A.2.1
  obtain ⟨i5, i0, iw⟩ := hI s h0
  have hS : ∀ x, x < 36 → qs_sh R C x → qa_tb (stl ||| ((1 : Int64) <<< ((nI s).toInt64 &&& 63))) x = qt_ut σ.1 s true x := by
    intro x hx hxi
    rw [qa_tbs (by omega)]
    by_cases e : x = s
    · subst e; rw [qt_us]; simp
    · rw [qt_un e, decide_eq_false e, Bool.or_false]; exact (hM x hx hxi).1
  unfold qs_sc at h
  simp (disch := omega) only [wpX_settleCell, m1, qa_eqr0, nI_add, pk_mul, qa_a1, qa_a2, qa_a3, qa_a4, qa_a5, qa_a6, qa_a7, qa_a8, qa_a56, qa_m6, qa_m7, qa_m8, qa_m56, qa_l2, qa_l37, qa_l2016, qa_in, nI_clamp, forall_eq, true_and, qa_cl0, nI_leI, nI_ltI, nI_eq, not_false_eq_true, pk_sub, qa_s1, qa_s2, qa_s8]
  by_cases e0 : (G s).1 = 0
  · refine br_t e0 ?_
    rw [if_pos e0] at h
    refine h _ _ _ _ _ _ _ _ _ _ (fun x hx hxi => ⟨hS x hx hxi, ?_, (hM x hx hxi).2.2⟩)
    show upd stt s 0 x = upd σ.2.1 s 0 x
    by_cases e : x = s
    · subst e; rw [pk_us, pk_us]
    · rw [pk_un e, pk_un e]; exact (hM x hx hxi).2.1
  · refine br_f e0 ?_
    rw [if_neg e0] at h
    have hV1 := hV s hs
    have hW := (hV1.2 (by omega)).2.2
    refine qx_ev (f := G s) (st' := σ.2.1) (vl' := σ.2.2.1) A.2 hs hV1.1 hW (by omega) hR hC (fun j hj k hk hn => ?_) (fun sv' se' oe' oh' ow' out' hr => ?_)
    · have hki := qs_nm_in hR hC (hV1.1.2 j hj) (by omega) hn
      exact ⟨(hM k hk hki).2.1, (hM k hk hki).2.2.1⟩
    · obtain ⟨r1, r2⟩ := hr
      have hpos := qs_res_pos (f := G s) (st := σ.2.1) (vl := σ.2.2.1)
      generalize qs_res (G s) σ.2.1 σ.2.2.1 = res at h r1 r2 hpos
      obtain ⟨re, rh, rw', ro⟩ := res
      have r1' : oe' = re := r1
      by_cases e1 : re = 0
      · have hq : ¬ ((re, rh, rw', ro) : qs_Res).1 ≠ 0 := fun z => z e1
        rw [if_neg hq] at h
        obtain ⟨r3, r4, r5⟩ := r2 e1
        obtain ⟨p1, p2, p3⟩ := hpos e1
        have r3' : oh' = nI rh := r3
        have r4' : ow' = nI rw' := r4
        have p1' : 0 < rh := p1
        have p2' : 0 < rw' := p2
        have p3' : rh * rw' ≤ 36 := p3
        have hrh : rh ≤ 36 := Nat.le_trans (Nat.le_mul_of_pos_right rh p2') p3'
        have hrw : rw' ≤ 36 := Nat.le_trans (Nat.le_mul_of_pos_left rw' p1') p3'
        refine br_t (r1'.trans e1) ?_
        refine qx_kind A.2 (by omega) A.1 ?_
        by_cases e2 : qt_ar (G s)
        · refine br_f (by rw [qt_kd_ar.mpr e2]; decide) ?_
          rw [if_neg (fun z => z e2)] at h
          rw [r3', r4'] at *
          refine qx_ib (ow' := σ.2.2.2) hA hs hR hC hrh hrw (fun x hx hxi => (hM x hx hxi).2.2.2) hO iw (fun hb => ?_) (fun hb => ?_)
          · refine br_f (by decide) ?_
            rw [if_pos (qa_bt hb)] at h
            simp (disch := omega) only [nI_add, pk_mul, qa_a1, qa_a2, qa_a3, qa_a4, qa_a5, qa_a6, qa_a7, qa_a8, qa_a56, qa_m6, qa_m7, qa_m8, qa_m56, qa_l2, qa_l37, qa_l2016, qa_in, nI_clamp, forall_eq, true_and, qa_cl0, nI_leI, nI_ltI, nI_eq, not_false_eq_true, pk_sub, qa_s1, qa_s2, qa_s8]
            refine h _ _ _ _ _ _ _ _ _ _ (fun x hx hxi => ⟨hS x hx hxi, ?_, (hM x hx hxi).2.2⟩)
            show upd stt s 4 x = upd σ.2.1 s 4 x
            by_cases e : x = s
            · subst e; rw [pk_us, pk_us]
            · rw [pk_un e, pk_un e]; exact (hM x hx hxi).2.1
          · refine br_t (by decide) ?_
            rw [if_neg (by rw [qa_bf hb]; decide)] at h
            have b1 : s / 6 + rh ≤ R := Nat.le_of_not_lt (fun z => hb (Or.inl z))
            have b2 : s % 6 + rw' ≤ C := Nat.le_of_not_lt (fun z => hb (Or.inr (Or.inl z)))
            refine qx_sp hs (by omega) (by omega) (fun stl' stt' val' own' hsp => h _ _ _ _ _ _ _ _ _ _ (fun x hx hxi => ?_))
            show qa_tb stl' x = (if qs_area s rh rw' x then true else σ.1 x) ∧ stt' x = (if qs_area s rh rw' x then 1 else σ.2.1 x) ∧ val' x = (if qs_area s rh rw' x then ro ((x / 6 - s / 6) * rw' + (x % 6 - s % 6)) else σ.2.2.1 x) ∧ own' x = qs_xo (if qs_area s rh rw' x then s + 1 else σ.2.2.2 x)
            by_cases ea : qs_area s rh rw' x
            · obtain ⟨q1, q2, q3, q4⟩ := (hsp x hx).1 ea
              rw [if_pos ea, if_pos ea, if_pos ea, if_pos ea, q1, q2, q3, q4]
              refine ⟨rfl, rfl, r5 _ ?_, by unfold qs_xo; rw [if_neg (by omega), Nat.add_sub_cancel]⟩
              show (x / 6 - s / 6) * rw' + (x % 6 - s % 6) < rh * rw'
              have ha := ea
              unfold qs_area at ha
              have l1 : (x / 6 - s / 6 + 1) * rw' ≤ rh * rw' := Nat.mul_le_mul_right rw' (by omega)
              rw [Nat.add_mul, Nat.one_mul] at l1
              omega
            · obtain ⟨q1, q2, q3, q4⟩ := (hsp x hx).2 ea
              rw [if_neg ea, if_neg ea, if_neg ea, if_neg ea, q1, q2, q3, q4]
              have hxs : x ≠ s := by
                intro z
                subst z
                exact ea ⟨Nat.le_refl _, by omega, Nat.le_refl _, by omega⟩
              have := hS x hx hxi
              rw [qt_un hxs] at this
              exact ⟨this, (hM x hx hxi).2⟩
        · have hk1 : qt_kd (G s).1 (G s).2 = 1 := by
            unfold qt_kd
            rw [if_neg e0, if_neg (fun z => e2 ⟨by omega, z⟩)]
          refine br_t hk1 ?_
          rw [if_pos e2] at h
          simp (disch := omega) only [nI_add, pk_mul, qa_a1, qa_a2, qa_a3, qa_a4, qa_a5, qa_a6, qa_a7, qa_a8, qa_a56, qa_m6, qa_m7, qa_m8, qa_m56, qa_l2, qa_l37, qa_l2016, qa_in, nI_clamp, forall_eq, true_and, qa_cl0, nI_leI, nI_ltI, nI_eq, not_false_eq_true, pk_sub, qa_s1, qa_s2, qa_s8]
          refine h _ _ _ _ _ _ _ _ _ _ (fun x hx hxi => ⟨hS x hx hxi, ?_, ?_, (hM x hx hxi).2.2.2⟩)
          · show upd stt s 1 x = upd σ.2.1 s 1 x
            by_cases e : x = s
            · subst e; rw [pk_us, pk_us]
            · rw [pk_un e, pk_un e]; exact (hM x hx hxi).2.1
          · show upd val s (out' 0) x = upd σ.2.2.1 s (ro 0) x
            by_cases e : x = s
            · subst e
              rw [pk_us, pk_us]
              exact r5 0 (Nat.mul_pos p1' p2')
            · rw [pk_un e, pk_un e]; exact (hM x hx hxi).2.2.1
      · have hq : ((re, rh, rw', ro) : qs_Res).1 ≠ 0 := e1
        rw [if_pos hq] at h
        refine br_f (fun z => e1 (r1'.symm.trans z)) ?_
        simp (disch := omega) only [nI_add, pk_mul, qa_a1, qa_a2, qa_a3, qa_a4, qa_a5, qa_a6, qa_a7, qa_a8, qa_a56, qa_m6, qa_m7, qa_m8, qa_m56, qa_l2, qa_l37, qa_l2016, qa_in, nI_clamp, forall_eq, true_and, qa_cl0, nI_leI, nI_ltI, nI_eq, not_false_eq_true, pk_sub, qa_s1, qa_s2, qa_s8]
        refine h _ _ _ _ _ _ _ _ _ _ (fun x hx hxi => ⟨hS x hx hxi, ?_, (hM x hx hxi).2.2⟩)
        show upd stt s oe' x = upd σ.2.1 s re x
        rw [r1']
        by_cases e : x = s
        · subst e; rw [pk_us, pk_us]
        · rw [pk_un e, pk_un e]; exact (hM x hx hxi).2.1
end
end
section
/-! the component: settlePass, refresh -/
section
variable {nr nc st sl sb sr sta oe oh ow : Int32} {stl : Int64} {tok cnt stt val own sv se out : Nat → Int32} {rch nds : Nat → Int64}
/-- what a pass so far has done: σ at its start, τ now, f the flag -/
def qs_pg (R C : Nat) (σ τ : qs_St) (f : Int32) : Prop := (f = 0 ∧ τ = σ) ∨ (f = 1 ∧ qs_mu R C τ.1 36 < qs_mu R C σ.1 36)
theorem qs_s1_y {R C s : Nat} {G : Nat → qt_Fm} {σ : qs_St} (h1 : qs_sh R C s) (h2 : σ.1 s = false) (h3 : qs_can G σ.1 s) : qs_s1 R C G s σ = qs_sc R C G s σ := by
  unfold qs_s1; rw [if_pos (qa_bt ⟨h1, h2, h3⟩)]
theorem qs_s1_n {R C s : Nat} {G : Nat → qt_Fm} {σ : qs_St} (h : ¬ (σ.1 s = false ∧ qs_can G σ.1 s)) : qs_s1 R C G s σ = σ := by
  unfold qs_s1; rw [if_neg (by rw [qa_bf (fun z => h z.2)]; decide)]
theorem qs_pg_s {R C s : Nat} {G : Nat → qt_Fm} {σ τ : qs_St} {f : Int32} (hs : s < 36) (h : qs_pg R C σ τ f) (h1 : qs_sh R C s) (h2 : τ.1 s = false) : qs_pg R C σ (qs_sc R C G s τ) 1 := by
  have hlt := qs_mu_lt (R := R) (C := C) (S := τ.1) (S' := (qs_sc R C G s τ).1) qs_sc_Le h1 h2 qs_sc_s 36 hs
  rcases h with ⟨-, rfl⟩ | ⟨-, h⟩
  · exact Or.inr ⟨rfl, hlt⟩
  · exact Or.inr ⟨rfl, Nat.lt_trans hlt h⟩
theorem qx_sp14 {post : Int32 → SX → Prop} {G : Nat → qt_Fm} {R C r : Nat} {σ0 : qs_St} {J : Int32 → Int32 → Int32 → Int32 → Int32 → Int32 → Int32 → Int32 → Int32 → Int64 → Int32 → Int32 → Int32 → (Nat → Int32) → (Nat → Int32) → (Nat → Int32) → (Nat → Int32) → (Nat → Int32) → (Nat → Int64) → (Nat → Int64) → (Nat → Int32) → (Nat → Int32) → (Nat → Int32) → Prop}
    (hA : qt_AX 36 tok cnt G) (hV : qt_VC R C G) (hR : R ≤ 6) (hC : C ≤ 6) (hr : r < R) (hI : qs_I σ0) (hO : qs_O σ0) (hN : ∀ s, s < 36 → qs_sh R C s → qs_NM G s (nds s))
    (h : ∀ f stl' oe' oh' ow' stt' val' own' sv' se' out', qs_XM R C (qs_ps R C G ((r + 1) * 6) σ0) stl' stt' val' own' → qs_pg R C σ0 (qs_ps R C G ((r + 1) * 6) σ0) f → J f (nI (r + 1)) (nI R) (nI C) st sl sb sr sta stl' oe' oh' ow' tok cnt stt' val' own' rch nds sv' se' out') :
    ∀ (d c : Nat) (f : Int32) (stl : Int64) (oe oh ow : Int32) (stt val own sv se out : Nat → Int32), c + d = C → qs_XM R C (qs_ps R C G (r * 6 + c) σ0) stl stt val own → qs_pg R C σ0 (qs_ps R C G (r * 6 + c) σ0) f → ∀ n, d < n → wX_settlePass_14 post J (nI r) n f (nI c) (nI R) (nI C) st sl sb sr sta stl oe oh ow tok cnt stt val own rch nds sv se out := by
  intro d
  induction d with
  | zero =>
    intro c f stl oe oh ow stt val own sv se out hc hM hp n hn
    obtain ⟨n, rfl⟩ : ∃ z, n = z + 1 := ⟨n - 1, by omega⟩
    obtain rfl : c = C := by omega
    simp (disch := omega) only [wX_settlePass_14, nI_add, pk_mul, qa_a1, qa_a2, qa_a3, qa_a4, qa_a5, qa_a6, qa_a7, qa_a8, qa_a56, qa_m6, qa_m7, qa_m8, qa_m56, qa_l2, qa_l37, qa_l2016, qa_in, nI_clamp, forall_eq, true_and, qa_cl0, nI_leI, nI_ltI, nI_eq, not_false_eq_true, pk_sub, qa_s1, qa_s2, qa_s8]
    have e : qs_ps R c G ((r + 1) * 6) σ0 = qs_ps R c G (r * 6 + c) σ0 := qs_ps_skip' (by omega) (fun x h1 h2 => by unfold qs_sh; omega)
    rw [e] at h
    exact br_t (by omega) (h _ _ _ _ _ _ _ _ _ _ _ hM hp)
  | succ d ih =>
    intro c f stl oe oh ow stt val own sv se out hc hM hp n hn
    obtain ⟨n, rfl⟩ : ∃ z, n = z + 1 := ⟨n - 1, by omega⟩
    have hk : r * 6 + c < 36 := by omega
    have hin : qs_sh R C (r * 6 + c) := by unfold qs_sh; omega
    have hIk := qs_ps_I (R := R) (C := C) (G := G) hI (r * 6 + c)
    have hOk := qs_ps_O (R := R) (C := C) (G := G) hO (r * 6 + c) (by omega)
    have hst : qs_ps R C G (r * 6 + (c + 1)) σ0 = qs_s1 R C G (r * 6 + c) (qs_ps R C G (r * 6 + c) σ0) := rfl
    have ih' := ih (c + 1)
    rw [hst] at ih'
    generalize qs_ps R C G (r * 6 + c) σ0 = τ at hM hp hIk hOk ih'
    have hb := (hM _ hk hin).1
    have hcan := qs_can_iff (σ := τ) hR hC hV hk (hN _ hk hin) (fun x hx hxi => (hM x hx hxi).1)
    have no : ¬ (τ.1 (r * 6 + c) = false ∧ qs_can G τ.1 (r * 6 + c)) → wX_settlePass_14 post J (nI r) n f (nI (c + 1)) (nI R) (nI C) st sl sb sr sta stl oe oh ow tok cnt stt val own rch nds sv se out := by
      intro z
      rw [qs_s1_n z] at ih'
      exact ih' _ _ _ _ _ _ _ _ _ _ _ (by omega) hM hp n (by omega)
    simp (disch := omega) only [wX_settlePass_14, nI_add, pk_mul, qa_a1, qa_a2, qa_a3, qa_a4, qa_a5, qa_a6, qa_a7, qa_a8, qa_a56, qa_m6, qa_m7, qa_m8, qa_m56, qa_l2, qa_l37, qa_l2016, qa_in, nI_clamp, forall_eq, true_and, qa_cl0, nI_leI, nI_ltI, nI_eq, not_false_eq_true, pk_sub, qa_s1, qa_s2, qa_s8]
    refine br_f (by omega) ?_
    by_cases e0 : τ.1 (r * 6 + c) = false
    · refine br_t (by rw [qa_tand (by omega), hb]; exact e0) ?_
      unfold wX_settlePass_49
      refine br_f (by decide) ⟨vp_in_nI hk (by decide), ?_⟩
      simp (disch := omega) only [nI_add, pk_mul, qa_a1, qa_a2, qa_a3, qa_a4, qa_a5, qa_a6, qa_a7, qa_a8, qa_a56, qa_m6, qa_m7, qa_m8, qa_m56, qa_l2, qa_l37, qa_l2016, qa_in, nI_clamp, forall_eq, true_and, qa_cl0, nI_leI, nI_ltI, nI_eq, not_false_eq_true, pk_sub, qa_s1, qa_s2, qa_s8]
      by_cases e1 : qs_can G τ.1 (r * 6 + c)
      · refine br_t (hcan.mpr e1) ?_
        rw [qs_s1_y hin e0 e1] at ih'
        exact qx_sc hA hV hR hC hk hin hIk hOk e0 hM (fun stl' oe' oh' ow' stt' val' own' sv' se' out' hM' => ih' _ _ _ _ _ _ _ _ _ _ _ (by omega) hM' (qs_pg_s hk hp hin e0) n (by omega))
      · exact br_f (fun z => e1 (hcan.mp z)) (no (fun z => e1 z.2))
    · refine br_f (by rw [qa_tand (by omega), hb]; exact e0) ?_
      unfold wX_settlePass_49
      refine br_t (by decide) ?_
      simp (disch := omega) only [nI_add, pk_mul, qa_a1, qa_a2, qa_a3, qa_a4, qa_a5, qa_a6, qa_a7, qa_a8, qa_a56, qa_m6, qa_m7, qa_m8, qa_m56, qa_l2, qa_l37, qa_l2016, qa_in, nI_clamp, forall_eq, true_and, qa_cl0, nI_leI, nI_ltI, nI_eq, not_false_eq_true, pk_sub, qa_s1, qa_s2, qa_s8]
      exact no (fun z => e0 z.1)
theorem qx_sp4 {post : Int32 → SX → Prop} {G : Nat → qt_Fm} {R C : Nat} {σ0 : qs_St}
    (hA : qt_AX 36 tok cnt G) (hV : qt_VC R C G) (hR : R ≤ 6) (hC : C ≤ 6) (hI : qs_I σ0) (hO : qs_O σ0) (hN : ∀ s, s < 36 → qs_sh R C s → qs_NM G s (nds s))
    (h : ∀ f stl' oe' oh' ow' stt' val' own' sv' se' out', qs_XM R C (qs_ps R C G 36 σ0) stl' stt' val' own' → qs_pg R C σ0 (qs_ps R C G 36 σ0) f → post f (nI R, nI C, st, sl, sb, sr, sta, stl', oe', oh', ow', tok, cnt, stt', val', own', rch, nds, sv', se', out')) :
    ∀ (d r : Nat) (f : Int32) (stl : Int64) (oe oh ow : Int32) (stt val own sv se out : Nat → Int32), r + d = R → qs_XM R C (qs_ps R C G (r * 6) σ0) stl stt val own → qs_pg R C σ0 (qs_ps R C G (r * 6) σ0) f → ∀ n, d < n → wX_settlePass_4 post n f (nI r) (nI R) (nI C) st sl sb sr sta stl oe oh ow tok cnt stt val own rch nds sv se out := by
  intro d
  induction d with
  | zero =>
    intro r f stl oe oh ow stt val own sv se out hr hM hp n hn
    obtain ⟨n, rfl⟩ : ∃ z, n = z + 1 := ⟨n - 1, by omega⟩
    obtain rfl : r = R := by omega
    simp (disch := omega) only [wX_settlePass_4, nI_add, pk_mul, qa_a1, qa_a2, qa_a3, qa_a4, qa_a5, qa_a6, qa_a7, qa_a8, qa_a56, qa_m6, qa_m7, qa_m8, qa_m56, qa_l2, qa_l37, qa_l2016, qa_in, nI_clamp, forall_eq, true_and, qa_cl0, nI_leI, nI_ltI, nI_eq, not_false_eq_true, pk_sub, qa_s1, qa_s2, qa_s8]
    have e : qs_ps r C G 36 σ0 = qs_ps r C G (r * 6) σ0 := qs_ps_skip' (by omega) (fun x h1 h2 => by unfold qs_sh; omega)
    rw [e] at h
    refine br_t (by omega) ⟨?_, h _ _ _ _ _ _ _ _ _ _ _ hM hp⟩
    rcases hp with ⟨z, -⟩ | ⟨z, -⟩
    · rw [z]; rfl
    · rw [z]; rfl
  | succ d ih =>
    intro r f stl oe oh ow stt val own sv se out hr hM hp n hn
    obtain ⟨n, rfl⟩ : ∃ z, n = z + 1 := ⟨n - 1, by omega⟩
    simp (disch := omega) only [wX_settlePass_4, nI_add, pk_mul, qa_a1, qa_a2, qa_a3, qa_a4, qa_a5, qa_a6, qa_a7, qa_a8, qa_a56, qa_m6, qa_m7, qa_m8, qa_m56, qa_l2, qa_l37, qa_l2016, qa_in, nI_clamp, forall_eq, true_and, qa_cl0, nI_leI, nI_ltI, nI_eq, not_false_eq_true, pk_sub, qa_s1, qa_s2, qa_s8]
    refine br_f (by omega) ⟨C + 1, ?_⟩
    exact qx_sp14 hA hV hR hC (by omega) hI hO hN (fun _ _ _ _ _ _ _ _ _ _ _ hM' hp' => ih (r + 1) _ _ _ _ _ _ _ _ _ _ _ (by omega) hM' hp' n (by omega)) C 0 f _ _ _ _ _ _ _ _ _ _ (Nat.zero_add C) hM hp (C + 1) (by omega)
theorem qx_pass {post : Int32 → SX → Prop} {G : Nat → qt_Fm} {R C : Nat} {σ0 : qs_St}
    (hA : qt_AX 36 tok cnt G) (hV : qt_VC R C G) (hR : R ≤ 6) (hC : C ≤ 6) (hI : qs_I σ0) (hO : qs_O σ0) (hN : ∀ s, s < 36 → qs_sh R C s → qs_NM G s (nds s)) (hM : qs_XM R C σ0 stl stt val own)
    (h : ∀ f stl' oe' oh' ow' stt' val' own' sv' se' out', qs_XM R C (qs_ps R C G 36 σ0) stl' stt' val' own' → qs_pg R C σ0 (qs_ps R C G 36 σ0) f → post f (nI R, nI C, st, sl, sb, sr, sta, stl', oe', oh', ow', tok, cnt, stt', val', own', rch, nds, sv', se', out')) : wpX_settlePass post (nI R, nI C, st, sl, sb, sr, sta, stl, oe, oh, ow, tok, cnt, stt, val, own, rch, nds, sv, se, out) := by
  unfold wpX_settlePass
  exact ⟨R + 1, qx_sp4 hA hV hR hC hI hO hN h R 0 0 _ _ _ _ _ _ _ _ _ _ (Nat.zero_add R) hM (Or.inl ⟨rfl, rfl⟩) (R + 1) (by omega)⟩
theorem qx_rf79 {post : SX → Prop} {G : Nat → qt_Fm} {R C : Nat} (hA : qt_AX 36 tok cnt G) (hV : qt_VC R C G) (hR : R ≤ 6) (hC : C ≤ 6) (hN : ∀ s, s < 36 → qs_sh R C s → qs_NM G s (nds s))
    (h : ∀ stl' oe' oh' ow' stt' val' own' sv' se' out', qs_XM R C (qs_fin R C G) stl' stt' val' own' → post (nI R, nI C, st, sl, sb, sr, sta, stl', oe', oh', ow', tok, cnt, stt', val', own', rch, nds, sv', se', out')) :
    ∀ (d p : Nat) (f : Int32) (stl : Int64) (oe oh ow : Int32) (stt val own sv se out : Nat → Int32), p + d = 37 → qs_XM R C (qs_it R C G p qs_0) stl stt val own → ((f = 0 ∧ qs_it R C G p qs_0 = qs_fin R C G) ∨ (f = 1 ∧ qs_mu R C (qs_it R C G p qs_0).1 36 + p ≤ 36)) → ∀ n, d < n → wX_refresh_79 post n f (nI p) (nI R) (nI C) st sl sb sr sta stl oe oh ow tok cnt stt val own rch nds sv se out := by
  intro d
  induction d with
  | zero =>
    intro p f stl oe oh ow stt val own sv se out hp hM hf n hn
    obtain ⟨n, rfl⟩ : ∃ z, n = z + 1 := ⟨n - 1, by omega⟩
    obtain rfl : p = 37 := by omega
    unfold wX_refresh_79
    rcases hf with ⟨-, e⟩ | ⟨-, e⟩
    · rw [e] at hM
      exact br_t (by decide) (h _ _ _ _ _ _ _ _ _ _ hM)
    · omega
  | succ d ih =>
    intro p f stl oe oh ow stt val own sv se out hp hM hf n hn
    obtain ⟨n, rfl⟩ : ∃ z, n = z + 1 := ⟨n - 1, by omega⟩
    simp (disch := omega) only [wX_refresh_79, qa_lel37, nI_add, pk_mul, qa_a1, qa_a2, qa_a3, qa_a4, qa_a5, qa_a6, qa_a7, qa_a8, qa_a56, qa_m6, qa_m7, qa_m8, qa_m56, qa_l2, qa_l37, qa_l2016, qa_in, nI_clamp, forall_eq, true_and, qa_cl0, nI_leI, nI_ltI, nI_eq, not_false_eq_true, pk_sub, qa_s1, qa_s2, qa_s8]
    refine br_f (by omega) ?_
    rcases hf with ⟨f0, e⟩ | ⟨f1, e⟩
    · rw [e] at hM
      exact br_t f0 (h _ _ _ _ _ _ _ _ _ _ hM)
    · refine br_f (by rw [f1]; decide) ?_
      refine qx_pass hA hV hR hC (qs_it_I qs_I0 p) (qs_it_O qs_O0 p) hN hM (fun f' stl' oe' oh' ow' stt' val' own' sv' se' out' hM' hg => ?_)
      refine ih (p + 1) f' _ _ _ _ _ _ _ _ _ _ (by omega) hM' ?_ n (by omega)
      rcases hg with ⟨g0, ge⟩ | ⟨g1, ge⟩
      · refine Or.inl ⟨g0, ?_⟩
        have ge' : qs_it R C G (p + 1) qs_0 = qs_it R C G p qs_0 := ge
        have := qs_it_f ge' (36 - p)
        rw [show p + (36 - p) = 36 by omega] at this
        exact ge'.trans this.symm
      · refine Or.inr ⟨g1, ?_⟩
        have ge' : qs_mu R C (qs_it R C G (p + 1) qs_0).1 36 < qs_mu R C (qs_it R C G p qs_0).1 36 := ge
        omega
theorem qx_rf20 {post : SX → Prop} {G : Nat → qt_Fm} {R C : Nat} (hA : qt_AX 36 tok cnt G) (hV : qt_VC R C G) (hR : R ≤ 6) (hC : C ≤ 6)
    (h : ∀ stl' oe' oh' ow' stt' val' own' rch' nds' sv' se' out', qs_XM R C (qs_fin R C G) stl' stt' val' own' → post (nI R, nI C, st, sl, sb, sr, 0, stl', oe', oh', ow', tok, cnt, stt', val', own', rch', nds', sv', se', out')) :
    ∀ (d k : Nat) (stt val own : Nat → Int32) (rch nds : Nat → Int64), k + d = 36 → (∀ s, s < k → stt s = 5 ∧ val s = 0 ∧ own s = -1 ∧ rch s = 0 ∧ nds s = 0) → ∀ n, d < n → wX_refresh_20 post (nI R) (nI C) st sl sb sr 0 0 oe oh ow n (nI k) tok cnt stt val own rch nds sv se out := by
  intro d
  induction d with
  | zero =>
    intro k stt val own rch nds hk hZ n hn
    obtain ⟨n, rfl⟩ : ∃ z, n = z + 1 := ⟨n - 1, by omega⟩
    obtain rfl : k = 36 := by omega
    unfold wX_refresh_20
    refine br_t (by decide) ?_
    refine qx_fr hA hV hR hC (fun s hs => (hZ s hs).2.2.2.1) (fun rch' hrm => ?_)
    refine qx_fn hA hV hrm hR hC (fun s hs => (hZ s hs).2.2.2.2) (fun nds' hnm => ?_)
    refine ⟨38, qx_rf79 hA hV hR hC hnm (fun stl' oe' oh' ow' stt' val' own' sv' se' out' hM => h _ _ _ _ _ _ _ _ _ _ _ _ hM) 37 0 1 _ _ _ _ _ _ _ _ _ _ (by decide) (fun s hs hin => ?_) (Or.inr ⟨rfl, ?_⟩) 38 (by decide)⟩
    · obtain ⟨a1, a2, a3, -⟩ := hZ s hs
      exact ⟨qa_tb0 s, a1, a2, a3⟩
    · have hb := qs_mu_b R C (qs_it R C G 0 qs_0).1 36
      generalize qs_mu R C (qs_it R C G 0 qs_0).1 36 = w at hb ⊢
      omega
  | succ d ih =>
    intro k stt val own rch nds hk hZ n hn
    obtain ⟨n, rfl⟩ : ∃ z, n = z + 1 := ⟨n - 1, by omega⟩
    simp (disch := omega) only [wX_refresh_20, qa_lel36, nI_add, pk_mul, qa_a1, qa_a2, qa_a3, qa_a4, qa_a5, qa_a6, qa_a7, qa_a8, qa_a56, qa_m6, qa_m7, qa_m8, qa_m56, qa_l2, qa_l37, qa_l2016, qa_in, nI_clamp, forall_eq, true_and, qa_cl0, nI_leI, nI_ltI, nI_eq, not_false_eq_true, pk_sub, qa_s1, qa_s2, qa_s8]
    refine br_f (by omega) (ih (k + 1) _ _ _ _ _ (by omega) (fun s hs => ?_) n (by omega))
    by_cases e : s = k
    · subst e
      rw [pk_us, pk_us, pk_us, pk_uLs, pk_uLs]
      exact ⟨rfl, rfl, rfl, rfl, rfl⟩
    · rw [pk_un e, pk_un e, pk_un e, pk_uLn e, pk_uLn e]
      exact hZ s (by omega)
theorem qx_refresh {post : SX → Prop} {G : Nat → qt_Fm} {R C : Nat} (hA : qt_AX 36 tok cnt G) (hV : qt_VC R C G) (hR : R ≤ 6) (hC : C ≤ 6) (h0 : sta = 0 → qs_XM R C (qs_fin R C G) stl stt val own)
    (h : ∀ stl' oe' oh' ow' stt' val' own' rch' nds' sv' se' out', qs_XM R C (qs_fin R C G) stl' stt' val' own' → post (nI R, nI C, st, sl, sb, sr, 0, stl', oe', oh', ow', tok, cnt, stt', val', own', rch', nds', sv', se', out')) : wpX_refresh post (nI R, nI C, st, sl, sb, sr, sta, stl, oe, oh, ow, tok, cnt, stt, val, own, rch, nds, sv, se, out) := by
  unfold wpX_refresh
  by_cases e : sta = 0
  · have := h _ oe oh ow _ _ _ rch nds sv se out (h0 e)
    subst e
    exact br_t rfl this
  · exact br_f e ⟨37, qx_rf20 hA hV hR hC h 36 0 _ _ _ _ _ (by decide) (fun s hs => absurd hs (Nat.not_lt_zero s)) 37 (by decide)⟩
end
end
section
/-! the reference: reaches, canSettle -/
theorem qs_inR_iff {k a b c d : Nat} (hk : k < 1000) (ha : a < 1000) (hb : b < 1000) (hc : c < 1000) (hd : d < 1000) : qs_inR k (nI a) (nI b) (nI c) (nI d) ↔ a ≤ k / 6 ∧ k / 6 ≤ c ∧ b ≤ k % 6 ∧ k % 6 ≤ d := by
  unfold qs_inR
  rw [nI_ltI (by omega) (by omega), nI_ltI (by omega) (by omega), nI_ltI (by omega) (by omega), nI_ltI (by omega) (by omega)]
  omega
section
variable {yr yc yh yw : Int32} {ycn ytk ysl ysd yst yva yow yli yV yE : Nat → Int32}
theorem qy_rc2 {post : Int32 → Prop} {G : Nat → qt_Fm} {a x : Nat} (hA : qt_AY 36 ytk ycn G) (ha : a < 36) (hx : x < 36) (h1 : qs_rc G a x → post 1) (h0 : ¬ qs_rc G a x → post 0) :
    ∀ (d s : Nat), s + d = 36 → (∀ k, k < s → k ≠ a → 0 < (G k).1 → ¬ (a / 6 ≤ k / 6 ∧ k / 6 ≤ x / 6 ∧ a % 6 ≤ k % 6 ∧ k % 6 ≤ x % 6)) → ∀ n, d < n → wY_reaches_2 post (nI a) (nI x) yr yc yh yw ycn ytk ysl ysd yst yva yow yli yV yE n (nI s) := by
  intro d
  have e : ∀ k, k - k / 6 * 6 = k % 6 := fun k => by omega
  induction d with
  | zero =>
    intro s hs hI n hn
    obtain ⟨n, rfl⟩ : ∃ z, n = z + 1 := ⟨n - 1, by omega⟩
    obtain rfl : s = 36 := by omega
    simp (disch := omega) only [wY_reaches_2, qa_n6, qa_div6, e, qa_lel36, nI_add, pk_mul, qa_a1, qa_a2, qa_a3, qa_a4, qa_a5, qa_a6, qa_a7, qa_a8, qa_a56, qa_m6, qa_m7, qa_m8, qa_m56, qa_l2, qa_l37, qa_l2016, qa_in, nI_clamp, forall_eq, true_and, qa_cl0, nI_leI, nI_ltI, nI_eq, not_false_eq_true, pk_sub, qa_s1, qa_s2, qa_s8]
    refine br_t (by omega) ?_
    refine qy_in (by omega) (fun z => ?_) (fun z => ?_)
    · have z' := (qs_inR_iff (c := 5) (d := 5) (by omega) (by omega) (by omega) (by omega) (by omega)).mp z
      exact ⟨rfl, h1 ⟨hI, by omega, by omega⟩⟩
    · refine ⟨rfl, h0 (fun y => z ?_)⟩
      exact (qs_inR_iff (c := 5) (d := 5) (by omega) (by omega) (by omega) (by omega) (by omega)).mpr ⟨y.2.1, by omega, y.2.2, by omega⟩
  | succ d ih =>
    intro s hs hI n hn
    obtain ⟨n, rfl⟩ : ∃ z, n = z + 1 := ⟨n - 1, by omega⟩
    have A := hA s (by omega)
    have A7 := A.1
    have m1 : ycn s = nI (G s).1 := A.2.1
    have next : (s = a ∨ (G s).1 = 0 ∨ ¬ (a / 6 ≤ s / 6 ∧ s / 6 ≤ x / 6 ∧ a % 6 ≤ s % 6 ∧ s % 6 ≤ x % 6)) → wY_reaches_2 post (nI a) (nI x) yr yc yh yw ycn ytk ysl ysd yst yva yow yli yV yE n (nI (s + 1)) := by
      intro q
      refine ih (s + 1) (by omega) (fun k h1 h2 h3 h4 => ?_) n (by omega)
      by_cases z : k = s
      · subst z
        rcases q with q | q | q
        · exact h2 q
        · omega
        · exact q h4
      · exact hI k (by omega) h2 h3 h4
    simp (disch := omega) only [wY_reaches_2, qa_n6, qa_div6, e, qa_lel36, m1, qa_ler0, nI_add, pk_mul, qa_a1, qa_a2, qa_a3, qa_a4, qa_a5, qa_a6, qa_a7, qa_a8, qa_a56, qa_m6, qa_m7, qa_m8, qa_m56, qa_l2, qa_l37, qa_l2016, qa_in, nI_clamp, forall_eq, true_and, qa_cl0, nI_leI, nI_ltI, nI_eq, not_false_eq_true, pk_sub, qa_s1, qa_s2, qa_s8]
    refine br_f (by omega) ?_
    by_cases c1 : s = a
    · exact br_t c1 (next (Or.inl c1))
    · refine br_f c1 ?_
      by_cases c2 : (G s).1 ≤ 0
      · exact br_t c2 (next (Or.inr (Or.inl (by omega))))
      · refine br_f c2 ?_
        refine qy_in (by omega) (fun z => ?_) (fun z => ?_)
        · have z' := (qs_inR_iff (by omega) (by omega) (by omega) (by omega) (by omega)).mp z
          exact br_f (by decide) (h0 (fun y => y.1 s (by omega) c1 (by omega) ⟨z'.1, z'.2.1, z'.2.2.1, z'.2.2.2⟩))
        · exact br_t (by decide) (next (Or.inr (Or.inr (fun y => z ((qs_inR_iff (by omega) (by omega) (by omega) (by omega) (by omega)).mpr ⟨y.1, y.2.1, y.2.2.1, y.2.2.2⟩)))))
theorem qy_rc {post : Int32 → Prop} {G : Nat → qt_Fm} {a x : Nat} (hA : qt_AY 36 ytk ycn G) (ha : a < 36) (hx : x < 36) (h1 : qs_rc G a x → post 1) (h0 : ¬ qs_rc G a x → post 0) : wpY_reaches post (yr, yc, yh, yw, ycn, ytk, ysl, ysd, yst, yva, yow, yli, yV, yE) (nI a) (nI x) := by
  unfold wpY_reaches
  exact ⟨37, qy_rc2 hA ha hx h1 h0 36 0 (by decide) (fun k hk => absurd hk (Nat.not_lt_zero k)) 37 (by decide)⟩
theorem qy_cs66 {post : Int32 → Prop} {G : Nat → qt_Fm} {s x : Nat} {J : Int32 → Prop} (hA : qt_AY 36 ytk ycn G) (hs : s < 36) (hx : x < 36) (hA1 : ¬ ((G s).1 = 0 ∧ qt_ar (G x) ∧ qs_rc G x s)) (h0 : qs_need G s x → post 0) (hJ : ¬ qs_need G s x → J (nI (x + 1))) :
    ∀ (d i : Nat), i + d = 7 → (∀ j, j < i → j < (G s).1 → ¬ qs_nm ((G s).2 j) x) → ∀ n, d < n → wY_canSettle_66 post J (nI s) (nI x) (nI (qs_cor s x)) yr yc yh yw ycn ytk ysl ysd yst yva yow yli yV yE n (nI (s * 56 + i * 8)) := by
  intro d
  have A := hA s hs
  have Ax := hA x hx
  have hcor : qs_cor s x < 36 := by unfold qs_cor; omega
  have Ac := hA _ hcor
  have Ac7 := Ac.1
  have m1 : ycn (qs_cor s x) = nI (G (qs_cor s x)).1 := Ac.2.1
  have A7 := A.1
  have e : ∀ k, k - k / 6 * 6 = k % 6 := fun k => by omega
  induction d with
  | zero =>
    intro i hi hI n hn
    obtain ⟨n, rfl⟩ : ∃ z, n = z + 1 := ⟨n - 1, by omega⟩
    obtain rfl : i = 7 := by omega
    simp (disch := omega) only [wY_canSettle_66, qa_n6, qa_div6, e, m1, qa_eqr0, nI_add, pk_mul, qa_a1, qa_a2, qa_a3, qa_a4, qa_a5, qa_a6, qa_a7, qa_a8, qa_a56, qa_m6, qa_m7, qa_m8, qa_m56, qa_l2, qa_l37, qa_l2016, qa_in, nI_clamp, forall_eq, true_and, qa_cl0, nI_leI, nI_ltI, nI_eq, not_false_eq_true, pk_sub, qa_s1, qa_s2, qa_s8]
    refine br_t (by omega) ?_
    have hN : ¬ (qt_ar (G s) ∧ qt_ar (G x) ∧ x / 6 < s / 6 ∧ s % 6 < x % 6 ∧ (G (qs_cor s x)).1 = 0 ∧ qs_rc G s (qs_cor s x) ∧ qs_rc G x (qs_cor s x)) → J (nI (x + 1)) := by
      intro z
      refine hJ (fun y => ?_)
      rcases y with y | ⟨j, y1, y2⟩ | y
      · exact hA1 y
      · exact hI j (by omega) y1 y2
      · exact z y
    refine qy_arr A.2 (by omega) A.1 (fun a1 => ?_) (fun a1 => br_t (by decide) (hN (fun z => a1 z.1)))
    refine br_f (by decide) ?_
    refine qy_arr Ax.2 (by omega) Ax.1 (fun a2 => ?_) (fun a2 => br_t (by decide) (hN (fun z => a2 z.2.1)))
    refine br_f (by decide) ?_
    by_cases a3 : s / 6 ≤ x / 6
    · exact br_t a3 (hN (fun z => by have := z.2.2.1; omega))
    · refine br_f a3 ?_
      by_cases a4 : x % 6 ≤ s % 6
      · exact br_t a4 (hN (fun z => by have := z.2.2.2.1; omega))
      · refine br_f a4 ?_
        by_cases a5 : (G (qs_cor s x)).1 = 0
        · refine br_t a5 ?_
          refine qy_rc hA hs hcor (fun a6 => ?_) (fun a6 => br_t (by decide) (hN (fun z => a6 z.2.2.2.2.2.1)))
          refine br_f (by decide) ?_
          refine qy_rc hA hx hcor (fun a7 => ?_) (fun a7 => br_t (by decide) (hN (fun z => a7 z.2.2.2.2.2.2)))
          exact br_f (by decide) (h0 (Or.inr (Or.inr ⟨a1, a2, by omega, by omega, a5, a6, a7⟩)))
        · exact br_f a5 (hN (fun z => a5 z.2.2.2.2.1))
  | succ d ih =>
    intro i hi hI n hn
    obtain ⟨n, rfl⟩ : ∃ z, n = z + 1 := ⟨n - 1, by omega⟩
    have ih' := ih (i + 1) (by omega)
    rw [show s * 56 + (i + 1) * 8 = s * 56 + i * 8 + 8 by omega] at ih'
    simp (disch := omega) only [wY_canSettle_66, nI_add, pk_mul, qa_a1, qa_a2, qa_a3, qa_a4, qa_a5, qa_a6, qa_a7, qa_a8, qa_a56, qa_m6, qa_m7, qa_m8, qa_m56, qa_l2, qa_l37, qa_l2016, qa_in, nI_clamp, forall_eq, true_and, qa_cl0, nI_leI, nI_ltI, nI_eq, not_false_eq_true, pk_sub, qa_s1, qa_s2, qa_s8]
    refine br_f (by omega) ?_
    refine qy_names A.2 (by omega) (by omega) A.1 (by omega) (fun hin hnm => ?_) (fun hno => ?_)
    · exact br_f (by decide) (h0 (Or.inr (Or.inl ⟨i, hin, hnm⟩)))
    · refine br_t (by decide) (ih' (fun j h1 h2 h3 => ?_) n (by omega))
      by_cases z : j = i
      · subst z; exact hno ⟨h2, h3⟩
      · exact hI j (by omega) h2 h3
theorem qy_cs2 {post : Int32 → Prop} {G : Nat → qt_Fm} {s : Nat} (hA : qt_AY 36 ytk ycn G) (hs : s < 36) (h1 : (∀ x, x < 36 → ysd x = 0 → ¬ qs_need G s x) → post 1) (h0 : (∃ x, x < 36 ∧ ysd x = 0 ∧ qs_need G s x) → post 0) :
    ∀ (d x : Nat), x + d = 36 → (∀ k, k < x → ysd k = 0 → ¬ qs_need G s k) → ∀ n, d < n → wY_canSettle_2 post (nI s) yr yc yh yw ycn ytk ysl ysd yst yva yow yli yV yE n (nI x) := by
  intro d
  have A := hA s hs
  have A7 := A.1
  have m1 : ycn s = nI (G s).1 := A.2.1
  have e : ∀ k, k - k / 6 * 6 = k % 6 := fun k => by omega
  induction d with
  | zero =>
    intro x hx hI n hn
    obtain ⟨n, rfl⟩ : ∃ z, n = z + 1 := ⟨n - 1, by omega⟩
    obtain rfl : x = 36 := by omega
    unfold wY_canSettle_2
    exact br_t (by decide) (h1 hI)
  | succ d ih =>
    intro x hx hI n hn
    obtain ⟨n, rfl⟩ : ∃ z, n = z + 1 := ⟨n - 1, by omega⟩
    have ec : s - s % 6 + x % 6 = qs_cor s x := by unfold qs_cor; omega
    have Ax := hA x (by omega)
    have next : (ysd x = 0 → ¬ qs_need G s x) → wY_canSettle_2 post (nI s) yr yc yh yw ycn ytk ysl ysd yst yva yow yli yV yE n (nI (x + 1)) := by
      intro q
      refine ih (x + 1) (by omega) (fun k h1 h2 => ?_) n (by omega)
      by_cases z : k = x
      · subst z; exact q h2
      · exact hI k (by omega) h2
    simp (disch := omega) only [wY_canSettle_2, qa_n6, qa_div6, e, ec, qa_lel36, m1, qa_eqr0, nI_add, pk_mul, qa_a1, qa_a2, qa_a3, qa_a4, qa_a5, qa_a6, qa_a7, qa_a8, qa_a56, qa_m6, qa_m7, qa_m8, qa_m56, qa_l2, qa_l37, qa_l2016, qa_in, nI_clamp, forall_eq, true_and, qa_cl0, nI_leI, nI_ltI, nI_eq, not_false_eq_true, pk_sub, qa_s1, qa_s2, qa_s8]
    refine br_f (by omega) ?_
    by_cases c0 : ysd x = 0
    · refine br_t c0 ?_
      have go : ¬ ((G s).1 = 0 ∧ qt_ar (G x) ∧ qs_rc G x s) → ∃ n66, wY_canSettle_66 post (wY_canSettle_2 post (nI s) yr yc yh yw ycn ytk ysl ysd yst yva yow yli yV yE n) (nI s) (nI x) (nI (qs_cor s x)) yr yc yh yw ycn ytk ysl ysd yst yva yow yli yV yE n66 (nI (s * 56)) := by
        intro q
        exact ⟨8, qy_cs66 hA hs (by omega) q (fun z => h0 ⟨x, by omega, c0, z⟩) (fun z => next (fun _ => z)) 7 0 (by decide) (fun j hj => absurd hj (Nat.not_lt_zero j)) 8 (by decide)⟩
      by_cases c1 : (G s).1 = 0
      · refine br_t c1 ?_
        refine qy_arr Ax.2 (by omega) Ax.1 (fun a1 => ?_) (fun a1 => br_t (by decide) (go (fun z => a1 z.2.1)))
        refine br_f (by decide) ?_
        refine qy_rc hA (by omega) hs (fun a2 => ?_) (fun a2 => br_t (by decide) (go (fun z => a2 z.2.2)))
        exact br_f (by decide) (h0 ⟨x, by omega, c0, Or.inl ⟨c1, a1, a2⟩⟩)
      · exact br_f c1 (go (fun z => c1 z.1))
    · exact br_f c0 (next (fun z => absurd z c0))
theorem qy_can {post : Int32 → Prop} {G : Nat → qt_Fm} {s : Nat} (hA : qt_AY 36 ytk ycn G) (hs : s < 36) (h1 : (∀ x, x < 36 → ysd x = 0 → ¬ qs_need G s x) → post 1) (h0 : (∃ x, x < 36 ∧ ysd x = 0 ∧ qs_need G s x) → post 0) : wpY_canSettle post (yr, yc, yh, yw, ycn, ytk, ysl, ysd, yst, yva, yow, yli, yV, yE) (nI s) := by
  unfold wpY_canSettle
  exact ⟨37, qy_cs2 hA hs h1 h0 36 0 (by decide) (fun k hk => absurd hk (Nat.not_lt_zero k)) 37 (by decide)⟩
end
end
section
/-! the reference: evaluation -/
/-- the deepest error of m items at d, else e -/
def qs_gg (E : Nat → Int32) (d : Nat) (e : Int32) (m : Nat) : Nat → Int32
  | 0 => e
  | r + 1 => if E (d + (m - (r + 1))) = 0 then qs_gg E d e m r else E (d + (m - (r + 1)))
/-- what Y's result says -/
def qs_RY (a : Prop) (r : qs_Res) (yh yw : Int32) (yli yV yE : Nat → Int32) : Prop := yE 0 = r.1 ∧ (¬ r.1 = 0 ∨ a → yV 0 = 0) ∧ (r.1 = 0 → ¬ a → yV 0 = r.2.2.2 0) ∧ (r.1 = 0 → a → yh = nI r.2.1 ∧ yw = nI r.2.2.1 ∧ ∀ k, k < r.2.1 * r.2.2.1 → yli k = r.2.2.2 k)
def qs_SY (s : qs_Stk) (d : Nat) (yV yE : Nat → Int32) : Prop := ∀ k, k < d → yE k = s.1 k ∧ yV k = s.2 k
theorem qs_E_z {T : Nat → Nat → Int32} {st vl : Nat → Int32} : ∀ i k, ¬ (qs_E T st vl i).1 k = 0 → (qs_E T st vl i).2 k = 0
  | 0, _, _ => rfl
  | i + 1, k, h => by
    have ps : ∀ (s : qs_Stk) (d : Nat) (e v : Int32), (∀ j, ¬ s.1 j = 0 → s.2 j = 0) → ¬ (qs_push s d e v).1 k = 0 → (qs_push s d e v).2 k = 0 := by
      intro s d e v hs
      show ¬ upd s.1 d e k = 0 → upd s.2 d (if e = 0 then v else 0) k = 0
      by_cases z : k = d
      · subst z
        rw [pk_us, pk_us]
        intro y
        rw [if_neg y]
      · rw [pk_un z, pk_un z]; exact hs k
    revert h
    unfold qs_E
    split
    · exact ps _ _ _ _ (fun j => qs_E_z i j)
    · split
      · exact ps _ _ _ _ (fun j => qs_E_z i j)
      · exact qs_E_z i k
section
variable {yr yc yh yw : Int32} {ycn ytk ysl ysd yst yva yow yli yV yE : Nat → Int32}
variable {J : Int32 → Int32 → Int32 → Int32 → (Nat → Int32) → (Nat → Int32) → (Nat → Int32) → (Nat → Int32) → (Nat → Int32) → (Nat → Int32) → (Nat → Int32) → (Nat → Int32) → (Nat → Int32) → (Nat → Int32) → Prop}
variable {post : SY → Prop} {x1 x2 x3 x4 x5 x6 x7 x8 x9 x10 x11 x12 : Int32}
section
variable {s i n : Nat} {T : Nat → Nat → Int32} {st' vl' : Nat → Int32}
theorem qy_ev84 (m : qt_MY ytk ycn s n T) (hs : s < 36) (hi : i < n) (hn : n ≤ 7) (hst : ∀ k, k < 36 → qs_nm (T i) k → yst k = st' k) (h : ∃ f, wY_evaluate_135 post J x1 x2 (nI (s * 56 + i * 8)) x4 x5 x6 (qs_fe (T i) st' 36) yr yc yh yw f x7 x8 0 ycn ytk ysl ysd yst yva yow yli yV yE) :
    ∀ (d k : Nat), k + d = 36 → ∀ f, d < f → wY_evaluate_84 post J x1 x2 (nI (s * 56 + i * 8)) x4 x5 x6 x7 x8 yr yc yh yw ycn ytk ysl ysd yst yva yow yli yV yE f (qs_fe (T i) st' k) (nI k) := by
  intro d
  induction d with
  | zero =>
    intro k hk f hf
    obtain ⟨f, rfl⟩ : ∃ z, f = z + 1 := ⟨f - 1, by omega⟩
    obtain rfl : k = 36 := by omega
    unfold wY_evaluate_84
    exact br_t (by decide) h
  | succ d ih =>
    intro k hk f hf
    obtain ⟨f, rfl⟩ : ∃ z, f = z + 1 := ⟨f - 1, by omega⟩
    have ih' := ih (k + 1) (by omega) f (by omega)
    have hs' : qs_fe (T i) st' (k + 1) = if qs_fe (T i) st' k = 0 ∧ ¬ st' k < 2 ∧ qs_nm (T i) k then st' k else qs_fe (T i) st' k := rfl
    rw [hs'] at ih'
    have hstk := hst k (by omega)
    generalize qs_fe (T i) st' k = e at ih' ⊢
    simp (disch := omega) only [wY_evaluate_84, qa_lel36, nI_add, pk_mul, qa_a1, qa_a2, qa_a3, qa_a4, qa_a5, qa_a6, qa_a7, qa_a8, qa_a56, qa_m6, qa_m7, qa_m8, qa_m56, qa_l2, qa_l37, qa_l2016, qa_in, nI_clamp, forall_eq, true_and, qa_cl0, nI_leI, nI_ltI, nI_eq, not_false_eq_true, pk_sub, qa_s1, qa_s2, qa_s8]
    refine br_f (by omega) ?_
    by_cases e0 : e = 0
    · refine br_t e0 ?_
      by_cases c1 : yst k < 2
      · refine br_t c1 ?_
        rw [if_neg] at ih'
        · exact ih'
        · rintro ⟨-, z2, z3⟩
          rw [hstk z3] at c1
          exact z2 c1
      · refine br_f c1 ?_
        refine qy_names m (by omega) (by omega) hn (by omega) (fun _ hnm => ?_) (fun hno => ?_)
        · rw [hstk hnm] at c1 ⊢
          rw [if_pos ⟨e0, c1, hnm⟩] at ih'
          exact br_f (by decide) ih'
        · rw [if_neg (fun z => hno ⟨hi, z.2.2⟩)] at ih'
          exact br_t (by decide) ih'
    · refine br_f e0 ?_
      rw [if_neg (fun z => e0 z.1)] at ih'
      exact ih'
theorem qy_ev135 (m : qt_MY ytk ycn s n T) (hs : s < 36) (hi : i < n) (hn : n ≤ 7) (hst : ∀ k, k < 36 → qs_nm (T i) k → yst k = st' k ∧ yva k = vl' k) (h : ∀ yli', qs_hl yli' (qs_ls (T i) st' vl' 36) → ∃ f, wY_evaluate_209 post J x1 (x2 - x6) (nI (s * 56 + i * 8)) x4 x5 x6 (nI (qs_ls (T i) st' vl' 36).length) (qs_sum (qs_ls (T i) st' vl' 36)) yr yc yh yw ycn ytk ysl ysd yst yva yow yli' yV yE f x9 (x6 - 1)) :
    ∀ (d k : Nat) (yli : Nat → Int32), k + d = 36 → qs_hl yli (qs_ls (T i) st' vl' k) → ∀ f, d < f → wY_evaluate_135 post J x1 x2 (nI (s * 56 + i * 8)) x4 x5 x6 x9 yr yc yh yw f (nI (qs_ls (T i) st' vl' k).length) (qs_sum (qs_ls (T i) st' vl' k)) (nI k) ycn ytk ysl ysd yst yva yow yli yV yE := by
  intro d
  induction d with
  | zero =>
    intro k yli hk hl f hf
    obtain ⟨f, rfl⟩ : ∃ z, f = z + 1 := ⟨f - 1, by omega⟩
    obtain rfl : k = 36 := by omega
    unfold wY_evaluate_135
    exact br_t (by decide) (nm_e (nm_e (h _ hl)))
  | succ d ih =>
    intro k yli hk hl f hf
    obtain ⟨f, rfl⟩ : ∃ z, f = z + 1 := ⟨f - 1, by omega⟩
    have ih' := fun yli' hl' => ih (k + 1) yli' (by omega) hl' f (by omega)
    have hs' : qs_ls (T i) st' vl' (k + 1) = if st' k = 1 ∧ qs_nm (T i) k then qs_ls (T i) st' vl' k ++ [vl' k] else qs_ls (T i) st' vl' k := rfl
    rw [hs'] at ih'
    have hstk := hst k (by omega)
    have hle := qs_kl_le (T i) st' vl' k
    generalize qs_ls (T i) st' vl' k = l at ih' hl hle ⊢
    simp (disch := omega) only [wY_evaluate_135, qa_lel36, nI_add, pk_mul, qa_a1, qa_a2, qa_a3, qa_a4, qa_a5, qa_a6, qa_a7, qa_a8, qa_a56, qa_m6, qa_m7, qa_m8, qa_m56, qa_l2, qa_l37, qa_l2016, qa_in, nI_clamp, forall_eq, true_and, qa_cl0, nI_leI, nI_ltI, nI_eq, not_false_eq_true, pk_sub, qa_s1, qa_s2, qa_s8]
    refine br_f (by omega) ?_
    by_cases c1 : yst k = 1
    · refine br_t c1 ?_
      refine qy_names m (by omega) (by omega) hn (by omega) (fun _ hnm => ?_) (fun hno => ?_)
      · obtain ⟨q1, q2⟩ := hstk hnm
        rw [if_pos ⟨q1.symm.trans c1, hnm⟩, qs_sum_a, List.length_append] at ih'
        refine br_f (by decide) ?_
        rw [q2]
        exact ih' _ (qs_hl_a hl)
      · rw [if_neg (fun z => hno ⟨hi, z.2⟩)] at ih'
        exact br_t (by decide) (ih' _ hl)
    · refine br_f c1 ?_
      rw [if_neg (fun z => c1 ((hstk z.2).1.trans z.1))] at ih'
      exact ih' _ hl
end
theorem qy_ev209 {d m : Nat} {e0 : Int32} (hm : m ≤ 3) (hd : d ≤ 6) (h : (x6 = 3 → wY_evaluate_284 post J x1 (nI d) x3 x4 x5 x6 x7 x8 (qs_gg yE d e0 m m) (yV d) (yV (d + 1)) (yV (d + 2)) (yV d) yr yc yh yw ycn ytk ysl ysd yst yva yow yli yV yE) ∧ (¬ x6 = 3 → wY_evaluate_284 post J x1 (nI d) x3 x4 x5 x6 x7 x8 (qs_gg yE d e0 m m) (yV d) (yV (d + 1)) (yV (d + 2)) 0 yr yc yh yw ycn ytk ysl ysd yst yva yow yli yV yE)) :
    ∀ (r q : Nat), r + q = m → ∀ f, r < f → wY_evaluate_209 post J x1 (nI d) x3 x4 x5 x6 x7 x8 yr yc yh yw ycn ytk ysl ysd yst yva yow yli yV yE f (qs_gg yE d e0 m q) (nI r - 1) := by
  intro r
  induction r with
  | zero =>
    intro q hq f hf
    obtain ⟨f, rfl⟩ : ∃ z, f = z + 1 := ⟨f - 1, by omega⟩
    obtain rfl : q = m := by omega
    unfold wY_evaluate_209
    refine br_t (show nI 0 - 1 < 0 by decide) ?_
    simp (disch := omega) only [nI_add, pk_mul, qa_a1, qa_a2, qa_a3, qa_a4, qa_a5, qa_a6, qa_a7, qa_a8, qa_a56, qa_m6, qa_m7, qa_m8, qa_m56, qa_l2, qa_l37, qa_l2016, qa_in, nI_clamp, forall_eq, true_and, qa_cl0, nI_leI, nI_ltI, nI_eq, not_false_eq_true, pk_sub, qa_s1, qa_s2, qa_s8]
    exact h
  | succ r ih =>
    intro q hq f hf
    obtain ⟨f, rfl⟩ : ∃ z, f = z + 1 := ⟨f - 1, by omega⟩
    have ih' := ih (q + 1) (by omega) f (by omega)
    have hs' : qs_gg yE d e0 m (q + 1) = if yE (d + (m - (q + 1))) = 0 then qs_gg yE d e0 m q else yE (d + (m - (q + 1))) := rfl
    rw [hs', show m - (q + 1) = r by omega] at ih'
    rw [nI_pred]
    unfold wY_evaluate_209
    have hr1 : nI r + (-1) = nI r - 1 := by
      rw [Int32.sub_eq_add_neg]
    simp (disch := omega) only [hr1, qa_ltr0, nI_add, pk_mul, qa_a1, qa_a2, qa_a3, qa_a4, qa_a5, qa_a6, qa_a7, qa_a8, qa_a56, qa_m6, qa_m7, qa_m8, qa_m56, qa_l2, qa_l37, qa_l2016, qa_in, nI_clamp, forall_eq, true_and, qa_cl0, nI_leI, nI_ltI, nI_eq, not_false_eq_true, pk_sub, qa_s1, qa_s2, qa_s8]
    refine br_f (by omega) ?_
    by_cases c1 : yE (d + r) = 0
    · rw [if_pos c1] at ih'
      exact br_t c1 ih'
    · rw [if_neg c1] at ih'
      exact br_f c1 ih'
theorem qy_ev306n (h6 : ¬ x6 = 3) (h : ∃ f, wY_evaluate_340 post J x1 x2 x3 x4 x5 x6 x7 x8 x9 x10 x11 yr yc yw f 0 yh ycn ytk ysl ysd yst yva yow yli yV yE) : ∀ (d k : Nat), k + d = 36 → ∀ f, d < f → wY_evaluate_306 post J x1 x2 x3 x4 x5 x6 x7 x8 x9 x10 x11 x12 yr yc yh yw f (nI k) ycn ytk ysl ysd yst yva yow yli yV yE := by
  intro d
  induction d with
  | zero =>
    intro k hk f hf
    obtain ⟨f, rfl⟩ : ∃ z, f = z + 1 := ⟨f - 1, by omega⟩
    obtain rfl : k = 36 := by omega
    unfold wY_evaluate_306
    exact br_t (by decide) h
  | succ d ih =>
    intro k hk f hf
    obtain ⟨f, rfl⟩ : ∃ z, f = z + 1 := ⟨f - 1, by omega⟩
    simp (disch := omega) only [wY_evaluate_306, qa_lel36, nI_add, pk_mul, qa_a1, qa_a2, qa_a3, qa_a4, qa_a5, qa_a6, qa_a7, qa_a8, qa_a56, qa_m6, qa_m7, qa_m8, qa_m56, qa_l2, qa_l37, qa_l2016, qa_in, nI_clamp, forall_eq, true_and, qa_cl0, nI_leI, nI_ltI, nI_eq, not_false_eq_true, pk_sub, qa_s1, qa_s2, qa_s8]
    exact br_f (by omega) (br_f h6 (ih (k + 1) (by omega) f (by omega)))
theorem qy_ev306y (h6 : x6 = 3) (h : ∀ yli', (∀ k, k < 36 → yli' k = x12 + nI k) → ∃ f, wY_evaluate_340 post J x1 x2 x3 x4 x5 x6 x7 x8 x9 x10 x11 yr yc yw f 0 yh ycn ytk ysl ysd yst yva yow yli' yV yE) : ∀ (d k : Nat) (yli : Nat → Int32), k + d = 36 → (∀ j, j < k → yli j = x12 + nI j) → ∀ f, d < f → wY_evaluate_306 post J x1 x2 x3 x4 x5 x6 x7 x8 x9 x10 x11 x12 yr yc yh yw f (nI k) ycn ytk ysl ysd yst yva yow yli yV yE := by
  intro d
  induction d with
  | zero =>
    intro k yli hk hl f hf
    obtain ⟨f, rfl⟩ : ∃ z, f = z + 1 := ⟨f - 1, by omega⟩
    obtain rfl : k = 36 := by omega
    unfold wY_evaluate_306
    exact br_t (by decide) (h _ hl)
  | succ d ih =>
    intro k yli hk hl f hf
    obtain ⟨f, rfl⟩ : ∃ z, f = z + 1 := ⟨f - 1, by omega⟩
    simp (disch := omega) only [wY_evaluate_306, qa_lel36, nI_add, pk_mul, qa_a1, qa_a2, qa_a3, qa_a4, qa_a5, qa_a6, qa_a7, qa_a8, qa_a56, qa_m6, qa_m7, qa_m8, qa_m56, qa_l2, qa_l37, qa_l2016, qa_in, nI_clamp, forall_eq, true_and, qa_cl0, nI_leI, nI_ltI, nI_eq, not_false_eq_true, pk_sub, qa_s1, qa_s2, qa_s8]
    refine br_f (by omega) (br_t h6 (ih (k + 1) _ (by omega) (fun j hj => ?_) f (by omega)))
    by_cases z : j = k
    · subst z; rw [pk_us]
    · rw [pk_un z]; exact hl j (by omega)
theorem qy_ev340n {m : Nat} (hm : m ≤ 36) (h6 : ¬ x6 = 1) (h : wY_evaluate_418 post J x1 x2 x3 x4 x5 x6 (nI m) x8 x9 x10 x11 yr yc yh yw ycn ytk ysl ysd yst yva yow yli yV yE) : ∀ (d k : Nat), k + d = m → ∀ f, d < f → wY_evaluate_340 post J x1 x2 x3 x4 x5 x6 (nI m) x8 x9 x10 x11 yr yc yw f (nI k) yh ycn ytk ysl ysd yst yva yow yli yV yE := by
  intro d
  induction d with
  | zero =>
    intro k hk f hf
    obtain ⟨f, rfl⟩ : ∃ z, f = z + 1 := ⟨f - 1, by omega⟩
    obtain rfl : k = m := by omega
    simp (disch := omega) only [wY_evaluate_340, nI_add, pk_mul, qa_a1, qa_a2, qa_a3, qa_a4, qa_a5, qa_a6, qa_a7, qa_a8, qa_a56, qa_m6, qa_m7, qa_m8, qa_m56, qa_l2, qa_l37, qa_l2016, qa_in, nI_clamp, forall_eq, true_and, qa_cl0, nI_leI, nI_ltI, nI_eq, not_false_eq_true, pk_sub, qa_s1, qa_s2, qa_s8]
    refine br_t (by omega) (br_c (fun _ => br_f h6 h) (fun _ => h))
  | succ d ih =>
    intro k hk f hf
    obtain ⟨f, rfl⟩ : ∃ z, f = z + 1 := ⟨f - 1, by omega⟩
    simp (disch := omega) only [wY_evaluate_340, nI_add, pk_mul, qa_a1, qa_a2, qa_a3, qa_a4, qa_a5, qa_a6, qa_a7, qa_a8, qa_a56, qa_m6, qa_m7, qa_m8, qa_m56, qa_l2, qa_l37, qa_l2016, qa_in, nI_clamp, forall_eq, true_and, qa_cl0, nI_leI, nI_ltI, nI_eq, not_false_eq_true, pk_sub, qa_s1, qa_s2, qa_s8]
    exact br_f (by omega) (br_f h6 (ih (k + 1) (by omega) f (by omega)))
/-- the filter in its place -/
def qs_fp (l : List Int32) (x : Int32) (k : Nat) : List Int32 := (l.take k).filter (fun z => decide (¬ z ≤ x))
theorem qs_fp_le (l : List Int32) (x : Int32) (k : Nat) : (qs_fp l x k).length ≤ k := by
  unfold qs_fp
  exact Nat.le_trans (List.length_filter_le _ _) (List.length_take_le k l)
theorem qs_fp_s {l : List Int32} {x : Int32} {k : Nat} (hk : k < l.length) : qs_fp l x (k + 1) = if l.getD k 0 ≤ x then qs_fp l x k else qs_fp l x k ++ [l.getD k 0] := by
  unfold qs_fp
  have e : l.getD k 0 = l[k] := by rw [List.getD_eq_getElem?_getD, List.getElem?_eq_getElem hk]; rfl
  rw [List.take_succ_eq_append_getElem hk, List.filter_append, e]
  by_cases c : l[k] ≤ x
  · rw [if_pos c]; simp [c]
  · rw [if_neg c]
    have c' : x < l[k] := Int32.not_le.mp c
    simp [c']
theorem qy_ev340y {l : List Int32} (hm : l.length ≤ 36) (h6 : x6 = 1) (h : ∀ yli', qs_hl yli' (qs_fp l x10 l.length) → wY_evaluate_418 post J x1 x2 x3 x4 x5 x6 (nI l.length) x8 (if x9 = 0 ∧ (qs_fp l x10 l.length).length = 0 then 3 else x9) x10 x11 yr yc (nI (qs_fp l x10 l.length).length) yw ycn ytk ysl ysd yst yva yow yli' yV yE) :
    ∀ (d k : Nat) (yli : Nat → Int32), k + d = l.length → qs_hl yli (qs_fp l x10 k) → (∀ j, k ≤ j → j < l.length → yli j = l.getD j 0) → ∀ f, d < f → wY_evaluate_340 post J x1 x2 x3 x4 x5 x6 (nI l.length) x8 x9 x10 x11 yr yc yw f (nI k) (nI (qs_fp l x10 k).length) ycn ytk ysl ysd yst yva yow yli yV yE := by
  intro d
  induction d with
  | zero =>
    intro k yli hk hl hl2 f hf
    obtain ⟨f, rfl⟩ : ∃ z, f = z + 1 := ⟨f - 1, by omega⟩
    obtain rfl : k = l.length := by omega
    have h' := h _ hl
    have hle := qs_fp_le l x10 l.length
    generalize qs_fp l x10 l.length = p at h' hl hle ⊢
    simp (disch := omega) only [wY_evaluate_340, qa_eqr0, nI_add, pk_mul, qa_a1, qa_a2, qa_a3, qa_a4, qa_a5, qa_a6, qa_a7, qa_a8, qa_a56, qa_m6, qa_m7, qa_m8, qa_m56, qa_l2, qa_l37, qa_l2016, qa_in, nI_clamp, forall_eq, true_and, qa_cl0, nI_leI, nI_ltI, nI_eq, not_false_eq_true, pk_sub, qa_s1, qa_s2, qa_s8]
    refine br_t (by omega) ?_
    by_cases c9 : x9 = 0
    · refine br_t c9 (br_t h6 ?_)
      by_cases cp : p.length = 0
      · rw [if_pos ⟨c9, cp⟩] at h'
        exact br_t cp h'
      · rw [if_neg (fun z => cp z.2)] at h'
        exact br_f cp h'
    · rw [if_neg (fun z => c9 z.1)] at h'
      exact br_f c9 h'
  | succ d ih =>
    intro k yli hk hl hl2 f hf
    obtain ⟨f, rfl⟩ : ∃ z, f = z + 1 := ⟨f - 1, by omega⟩
    have ih' := fun yli' h1 h2 => ih (k + 1) yli' (by omega) h1 h2 f (by omega)
    rw [qs_fp_s (by omega)] at ih'
    have hle := qs_fp_le l x10 k
    have hk2 := hl2 k (Nat.le_refl _) (by omega)
    generalize qs_fp l x10 k = p at ih' hl hle ⊢
    simp (disch := omega) only [wY_evaluate_340, hk2, nI_add, pk_mul, qa_a1, qa_a2, qa_a3, qa_a4, qa_a5, qa_a6, qa_a7, qa_a8, qa_a56, qa_m6, qa_m7, qa_m8, qa_m56, qa_l2, qa_l37, qa_l2016, qa_in, nI_clamp, forall_eq, true_and, qa_cl0, nI_leI, nI_ltI, nI_eq, not_false_eq_true, pk_sub, qa_s1, qa_s2, qa_s8]
    refine br_f (by omega) (br_t h6 ?_)
    by_cases c : l.getD k 0 ≤ x10
    · rw [if_pos c] at ih'
      exact br_t c (ih' _ hl (fun j h1 h2 => hl2 j (by omega) h2))
    · rw [if_neg c, List.length_append] at ih'
      exact br_f c (ih' _ (qs_hl_a hl) (fun j h1 h2 => by rw [pk_un (by omega)]; exact hl2 j (by omega) h2))
theorem qy_ev554 {d b : Nat} {v : Int32} (hd : d ≤ 6) (h : J (nI (d + 1)) (nI (b + 8)) yh yw ycn ytk ysl ysd yst yva yow yli (upd yV d (if x9 = 0 then v else 0)) (upd yE d x9)) : wY_evaluate_554 post J x1 (nI d) (nI b) x9 v yr yc yh yw ycn ytk ysl ysd yst yva yow yli yV yE := by
  simp (disch := omega) only [wY_evaluate_554, nI_add, pk_mul, qa_a1, qa_a2, qa_a3, qa_a4, qa_a5, qa_a6, qa_a7, qa_a8, qa_a56, qa_m6, qa_m7, qa_m8, qa_m56, qa_l2, qa_l37, qa_l2016, qa_in, nI_clamp, forall_eq, true_and, qa_cl0, nI_leI, nI_ltI, nI_eq, not_false_eq_true, pk_sub, qa_s1, qa_s2, qa_s8]
  by_cases c : x9 = 0
  · rw [if_pos c] at h
    exact br_t c h
  · rw [if_neg c] at h
    exact br_f c h
/-- the value of a token -/
def qs_tv (x4 x5 x6 x7 x8 x10 x11 : Int32) : Int32 := if x4 = 1 then x5 else if x4 = 5 then x7 else if x6 = 0 then x8 else if x6 = 2 then qs_op x5 x10 x11 else 0
theorem qy_ev458 {d b : Nat} (hd : d ≤ 6) (h : J (nI (d + 1)) (nI (b + 8)) yh yw ycn ytk ysl ysd yst yva yow yli (upd yV d (if x9 = 0 then qs_tv x4 x5 x6 x7 x8 x10 x11 else 0)) (upd yE d x9)) : wY_evaluate_458 post J x1 (nI d) (nI b) x4 x5 x6 x7 x8 x9 x10 x11 yr yc yh yw ycn ytk ysl ysd yst yva yow yli yV yE := by
  have fin : ∀ v, v = qs_tv x4 x5 x6 x7 x8 x10 x11 → wY_evaluate_554 post J x1 (nI d) (nI b) x9 v yr yc yh yw ycn ytk ysl ysd yst yva yow yli yV yE := by
    intro v hv
    rw [← hv] at h
    exact qy_ev554 hd h
  unfold qs_tv qs_op at fin
  unfold wY_evaluate_458
  by_cases a1 : x4 = 1
  · exact br_t a1 (fin _ (by rw [if_pos a1]))
  · refine br_f a1 ?_
    by_cases a2 : x4 = 5
    · exact br_t a2 (fin _ (by rw [if_neg a1, if_pos a2]))
    · refine br_f a2 ?_
      by_cases a3 : x6 = 0
      · exact br_t a3 (fin _ (by rw [if_neg a1, if_neg a2, if_pos a3]))
      · refine br_f a3 ?_
        by_cases a4 : x6 = 2
        · refine br_t a4 ?_
          by_cases b1 : x5 = 1
          · exact br_t b1 (fin _ (by rw [if_neg a1, if_neg a2, if_neg a3, if_pos a4, if_pos b1]))
          · refine br_f b1 ?_
            by_cases b2 : x5 = 2
            · exact br_t b2 (fin _ (by rw [if_neg a1, if_neg a2, if_neg a3, if_pos a4, if_neg b1, if_pos b2]))
            · refine br_f b2 ?_
              by_cases b3 : x5 = 3
              · exact br_t b3 (fin _ (by rw [if_neg a1, if_neg a2, if_neg a3, if_pos a4, if_neg b1, if_neg b2, if_pos b3]))
              · refine br_f b3 ?_
                by_cases b4 : x11 ≤ x10
                · exact br_t b4 (fin _ (by rw [if_neg a1, if_neg a2, if_neg a3, if_pos a4, if_neg b1, if_neg b2, if_neg b3, if_pos b4]))
                · exact br_f b4 (fin _ (by rw [if_neg a1, if_neg a2, if_neg a3, if_pos a4, if_neg b1, if_neg b2, if_neg b3, if_neg b4]))
        · exact br_f a4 (fin _ (by rw [if_neg a1, if_neg a2, if_neg a3, if_neg a4]))
theorem qy_ev418 {d b : Nat} (hd : d ≤ 6) (h : ∀ e, e = (if x9 = 0 ∧ x6 = 3 ∧ ¬ (qs_ok x10 ∧ qs_ok x11) then 3 else x9) → J (nI (d + 1)) (nI (b + 8)) yh yw ycn ytk ysl ysd yst yva yow yli (upd yV d (if e = 0 then qs_tv x4 x5 x6 x7 x8 x10 x11 else 0)) (upd yE d e)) : wY_evaluate_418 post J x1 (nI d) (nI b) x4 x5 x6 x7 x8 x9 x10 x11 yr yc yh yw ycn ytk ysl ysd yst yva yow yli yV yE := by
  unfold wY_evaluate_418
  by_cases a1 : x9 = 0
  · refine br_t a1 ?_
    by_cases a2 : x6 = 3
    · refine br_t a2 ?_
      have bad : ¬ (qs_ok x10 ∧ qs_ok x11) → wY_evaluate_455 post J x1 (nI d) (nI b) x4 x5 x6 x7 x8 x10 x11 yr yc yh yw ycn ytk ysl ysd yst yva yow yli yV yE := by
        intro z
        unfold wY_evaluate_455
        exact qy_ev458 hd (h 3 (by rw [if_pos ⟨a1, a2, z⟩]))
      by_cases b1 : x10 < 1
      · exact br_t b1 (bad (fun z => z.1.1 b1))
      · refine br_f b1 ?_
        by_cases b2 : 6 < x10
        · exact br_t b2 (bad (fun z => z.1.2 b2))
        · refine br_f b2 ?_
          by_cases b3 : x11 < 1
          · exact br_t b3 (bad (fun z => z.2.1 b3))
          · refine br_f b3 ?_
            by_cases b4 : x11 ≤ 6
            · exact br_t b4 (qy_ev458 hd (h x9 (by rw [if_neg (fun z => z.2.2 ⟨⟨b1, b2⟩, b3, Int32.not_lt.mpr b4⟩)])))
            · exact br_f b4 (bad (fun z => b4 (Int32.not_lt.mp z.2.2)))
    · exact br_f a2 (qy_ev458 hd (h x9 (by rw [if_neg (fun z => a2 z.2.1)])))
  · exact br_f a1 (qy_ev458 hd (h x9 (by rw [if_neg (fun z => a1 z.1)])))
end
end
section
/-! the reference: a formula's value -/
section
variable {yr yc yh yw : Int32} {ycn ytk ysl ysd yst yva yow yli yV yE : Nat → Int32}
section
variable {post : SY → Prop} {s i n f d tk : Nat} {T : Nat → Nat → Int32} {st' vl' : Nat → Int32}
theorem qy_core (m : qt_MY ytk ycn s n T) (hs : s < 36) (hi : i < n) (hn : n ≤ 7) (hst : ∀ k, k < 36 → qs_nm (T i) k → yst k = st' k ∧ yva k = vl' k) (htk : qt_tak (T i) = tk) (htd : tk ≤ d) (hd : d ≤ 6) (ht3 : tk ≤ 3)
    (H : ∀ yli', qs_hl yli' (qs_ls (T i) st' vl' 36) → (nI tk = 3 → wY_evaluate_284 post (wY_evaluate_7 post (nI s) yr yc f) (nI s) (nI (d - tk)) (nI (s * 56 + i * 8)) (T i 0) (T i 1) (nI tk) (nI (qs_ls (T i) st' vl' 36).length) (qs_sum (qs_ls (T i) st' vl' 36)) (qs_gg yE (d - tk) (qs_fe (T i) st' 36) tk tk) (yV (d - tk)) (yV (d - tk + 1)) (yV (d - tk + 2)) (yV (d - tk)) yr yc yh yw ycn ytk ysl ysd yst yva yow yli' yV yE) ∧
      (¬ nI tk = 3 → wY_evaluate_284 post (wY_evaluate_7 post (nI s) yr yc f) (nI s) (nI (d - tk)) (nI (s * 56 + i * 8)) (T i 0) (T i 1) (nI tk) (nI (qs_ls (T i) st' vl' 36).length) (qs_sum (qs_ls (T i) st' vl' 36)) (qs_gg yE (d - tk) (qs_fe (T i) st' 36) tk tk) (yV (d - tk)) (yV (d - tk + 1)) (yV (d - tk + 2)) 0 yr yc yh yw ycn ytk ysl ysd yst yva yow yli' yV yE)) :
    wY_evaluate_7 post (nI s) yr yc (f + 1) (nI d) (nI (s * 56 + i * 8)) yh yw ycn ytk ysl ysd yst yva yow yli yV yE := by
  have k0 : ytk (s * 56 + i * 8) = T i 0 := (m.2 i hi 0 (by decide)).trans (qt_yv_lo (by decide))
  have k1 : ytk (s * 56 + i * 8 + 1) = T i 1 := (m.2 i hi 1 (by decide)).trans (qt_yv_lo (by decide))
  have m1 : ycn s = nI n := m.1
  simp (disch := omega) only [wY_evaluate_7, m1, k0, k1, nI_add, pk_mul, qa_a1, qa_a2, qa_a3, qa_a4, qa_a5, qa_a6, qa_a7, qa_a8, qa_a56, qa_m6, qa_m7, qa_m8, qa_m56, qa_l2, qa_l37, qa_l2016, qa_in, nI_clamp, forall_eq, true_and, qa_cl0, nI_leI, nI_ltI, nI_eq, not_false_eq_true, pk_sub, qa_s1, qa_s2, qa_s8]
  refine br_f (by omega) ?_
  refine qy_tak (by omega) k0 k1 ?_
  rw [htk]
  have go : ∃ g, wY_evaluate_84 post (wY_evaluate_7 post (nI s) yr yc f) (nI s) (nI d) (nI (s * 56 + i * 8)) (T i 0) (T i 1) (nI tk) 0 0 yr yc yh yw ycn ytk ysl ysd yst yva yow yli yV yE g (qs_fe (T i) st' 0) (nI 0) := by
    refine ⟨37, qy_ev84 m hs hi hn (fun k a b => (hst k a b).1) ⟨37, ?_⟩ 36 0 (by decide) 37 (by decide)⟩
    refine qy_ev135 m hs hi hn hst (fun yli' hl => ⟨5, ?_⟩) 36 0 yli (by decide) (fun j hj => absurd hj (Nat.not_lt_zero j)) 37 (by decide)
    rw [pk_sub htd]
    exact qy_ev209 ht3 (by omega) (H yli' hl) tk 0 (Nat.add_zero tk) 5 (by omega)
  have e0 : qs_fe (T i) st' 0 = qs_e0 (T i) := rfl
  rw [e0] at go
  unfold qs_e0 at go
  by_cases c1 : T i 0 = 1
  · rw [if_neg (fun z => z.1 c1)] at go
    exact br_t c1 go
  · refine br_f c1 ?_
    by_cases c3 : T i 0 = 3
    · rw [if_neg (fun z => z.2.1 c3)] at go
      exact br_t c3 go
    · refine br_f c3 ?_
      by_cases c5 : T i 1 = 1
      · rw [if_pos ⟨c1, c3, c5⟩] at go
        exact br_t c5 go
      · rw [if_neg (fun z => c5 z.2.2)] at go
        exact br_f c5 go
theorem qy_tk0 (m : qt_MY ytk ycn s n T) (hs : s < 36) (hi : i < n) (hn : n ≤ 7) (hst : ∀ k, k < 36 → qs_nm (T i) k → yst k = st' k ∧ yva k = vl' k) (htk : qt_tak (T i) = 0) (hd : d ≤ 6) (hx4 : T i 0 = 1 ∨ T i 0 = 5 ∨ True)
    (h : ∀ yh' yw' yli', wY_evaluate_7 post (nI s) yr yc f (nI (d + 1)) (nI (s * 56 + i * 8 + 8)) yh' yw' ycn ytk ysl ysd yst yva yow yli' (upd yV d (if qs_fe (T i) st' 36 = 0 then qs_ov (T i) st' vl' else 0)) (upd yE d (qs_fe (T i) st' 36))) :
    wY_evaluate_7 post (nI s) yr yc (f + 1) (nI d) (nI (s * 56 + i * 8)) yh yw ycn ytk ysl ysd yst yva yow yli yV yE := by
  refine qy_core m hs hi hn hst htk (Nat.zero_le d) hd (by decide) (fun yli' hl => ⟨fun z => absurd z (by decide), fun _ => ?_⟩)
  have hle := qs_kl_le (T i) st' vl' 36
  unfold wY_evaluate_284
  refine br_f (by decide) ⟨37, qy_ev306n (by decide) ⟨37, ?_⟩ 36 0 (by decide) 37 (by decide)⟩
  refine qy_ev340n hle (by decide) ?_ _ 0 (Nat.zero_add _) 37 (by omega)
  refine qy_ev418 (by omega) (fun e he => ?_)
  rw [if_neg (fun z => absurd z.2.1 (by decide))] at he
  have he' : e = qs_fe (T i) st' 36 := he
  rw [he', Nat.sub_zero]
  have := h 0 1 yli'
  have hv : qs_tv (T i 0) (T i 1) (nI 0) (nI (qs_ls (T i) st' vl' 36).length) (qs_sum (qs_ls (T i) st' vl' 36)) (yV (d - 0)) (yV (d - 0 + 1)) = qs_ov (T i) st' vl' := by
    unfold qs_tv qs_ov
    by_cases a1 : T i 0 = 1
    · rw [if_pos a1, if_pos a1]
    · rw [if_neg a1, if_neg a1]
      by_cases a2 : T i 0 = 5
      · rw [if_pos a2, if_pos a2]
      · rw [if_neg a2, if_neg a2, if_pos (by decide)]
  rw [Nat.sub_zero] at hv
  rw [hv]
  exact this
theorem qy_tk2 (m : qt_MY ytk ycn s n T) (hs : s < 36) (hi : i < n) (hn : n ≤ 7) (hst : ∀ k, k < 36 → qs_nm (T i) k → yst k = st' k ∧ yva k = vl' k) (htk : qt_tak (T i) = 2) (h3 : T i 0 = 3) (hd : d ≤ 6) (hd2 : 2 ≤ d)
    (h : ∀ yh' yw' yli' e, e = (if yE (d - 2) = 0 then yE (d - 1) else yE (d - 2)) → wY_evaluate_7 post (nI s) yr yc f (nI (d - 2 + 1)) (nI (s * 56 + i * 8 + 8)) yh' yw' ycn ytk ysl ysd yst yva yow yli' (upd yV (d - 2) (if e = 0 then qs_op (T i 1) (yV (d - 2)) (yV (d - 1)) else 0)) (upd yE (d - 2) e)) :
    wY_evaluate_7 post (nI s) yr yc (f + 1) (nI d) (nI (s * 56 + i * 8)) yh yw ycn ytk ysl ysd yst yva yow yli yV yE := by
  refine qy_core m hs hi hn hst htk hd2 hd (by decide) (fun yli' hl => ⟨fun z => absurd z (by decide), fun _ => ?_⟩)
  have hle := qs_kl_le (T i) st' vl' 36
  unfold wY_evaluate_284
  refine br_f (by decide) ⟨37, qy_ev306n (by decide) ⟨37, ?_⟩ 36 0 (by decide) 37 (by decide)⟩
  refine qy_ev340n hle (by decide) ?_ _ 0 (Nat.zero_add _) 37 (by omega)
  refine qy_ev418 (by omega) (fun e he => ?_)
  rw [if_neg (fun z => absurd z.2.1 (by decide))] at he
  have hf : qs_fe (T i) st' 36 = 0 := by
    rw [qs_fe_dead (fun z => z.2.1 h3)]
    unfold qs_e0
    rw [if_neg (fun z => z.2.1 h3)]
  rw [hf] at he
  have he' : e = (if yE (d - 2) = 0 then yE (d - 1) else yE (d - 2)) := by
    rw [he]
    show (if yE (d - 2 + (2 - 2)) = 0 then (if yE (d - 2 + (2 - 1)) = 0 then 0 else yE (d - 2 + (2 - 1))) else yE (d - 2 + (2 - 2))) = _
    rw [show d - 2 + (2 - 2) = d - 2 by omega, show d - 2 + (2 - 1) = d - 1 by omega]
    by_cases a1 : yE (d - 2) = 0
    · rw [if_pos a1, if_pos a1]
      by_cases a2 : yE (d - 1) = 0
      · rw [if_pos a2, a2]
      · rw [if_neg a2]
    · rw [if_neg a1, if_neg a1]
  have := h 0 1 yli' e he'
  have hv : qs_tv (T i 0) (T i 1) (nI 2) (nI (qs_ls (T i) st' vl' 36).length) (qs_sum (qs_ls (T i) st' vl' 36)) (yV (d - 2)) (yV (d - 2 + 1)) = qs_op (T i 1) (yV (d - 2)) (yV (d - 1)) := by
    unfold qs_tv
    rw [h3, if_neg (by decide), if_neg (by decide), if_neg (by decide), if_pos (by decide), show d - 2 + 1 = d - 1 by omega]
  rw [hv]
  exact this
theorem qy_tk1 (m : qt_MY ytk ycn s n T) (hs : s < 36) (hi : i < n) (hn : n ≤ 7) (hst : ∀ k, k < 36 → qs_nm (T i) k → yst k = st' k ∧ yva k = vl' k) (htk : qt_tak (T i) = 1) (h6 : T i 0 = 6) (hd : d ≤ 6) (hd1 : 1 ≤ d)
    (h : ∀ e0 e yli', e0 = (if yE (d - 1) = 0 then qs_fe (T i) st' 36 else yE (d - 1)) → e = (if e0 = 0 ∧ (qs_kl (T i) st' vl' (yV (d - 1))).length = 0 then 3 else e0) → qs_hl yli' (qs_kl (T i) st' vl' (yV (d - 1))) →
      wY_evaluate_7 post (nI s) yr yc f (nI (d - 1 + 1)) (nI (s * 56 + i * 8 + 8)) (nI (qs_kl (T i) st' vl' (yV (d - 1))).length) 1 ycn ytk ysl ysd yst yva yow yli' (upd yV (d - 1) 0) (upd yE (d - 1) e)) :
    wY_evaluate_7 post (nI s) yr yc (f + 1) (nI d) (nI (s * 56 + i * 8)) yh yw ycn ytk ysl ysd yst yva yow yli yV yE := by
  refine qy_core m hs hi hn hst htk hd1 hd (by decide) (fun yli' hl => ⟨fun z => absurd z (by decide), fun _ => ?_⟩)
  have hle := qs_kl_le (T i) st' vl' 36
  unfold wY_evaluate_284
  refine br_f (by decide) ⟨37, qy_ev306n (by decide) ⟨37, ?_⟩ 36 0 (by decide) 37 (by decide)⟩
  have hfp : qs_fp (qs_ls (T i) st' vl' 36) (yV (d - 1)) (qs_ls (T i) st' vl' 36).length = qs_kl (T i) st' vl' (yV (d - 1)) := by
    unfold qs_fp qs_kl
    rw [List.take_length]
  have h' := h (qs_gg yE (d - 1) (qs_fe (T i) st' 36) 1 1)
  have hgg : qs_gg yE (d - 1) (qs_fe (T i) st' 36) 1 1 = (if yE (d - 1) = 0 then qs_fe (T i) st' 36 else yE (d - 1)) := rfl
  generalize qs_gg yE (d - 1) (qs_fe (T i) st' 36) 1 1 = g at h' hgg ⊢
  refine qy_ev340y (l := qs_ls (T i) st' vl' 36) hle (by decide) (fun yli2 hl2 => ?_) _ 0 yli' (Nat.zero_add _) (fun j hj => absurd hj (Nat.not_lt_zero j)) (fun j _ hj => hl j hj) 37 (by omega)
  rw [hfp] at hl2 ⊢
  refine qy_ev418 (by omega) (fun e he => ?_)
  rw [if_neg (fun z => absurd z.2.1 (by decide))] at he
  have := h' e yli2 hgg he hl2
  have hv : ∀ a b c q : Int32, qs_tv (T i 0) (T i 1) (nI 1) a b c q = 0 := by
    intro a b c q
    unfold qs_tv
    rw [h6, if_neg (by decide), if_neg (by decide), if_neg (by decide), if_neg (by decide)]
  rw [hv, ite_self]
  exact this
theorem qy_tk3 (m : qt_MY ytk ycn s n T) (hs : s < 36) (hi : i < n) (hn : n ≤ 7) (hst : ∀ k, k < 36 → qs_nm (T i) k → yst k = st' k ∧ yva k = vl' k) (htk : qt_tak (T i) = 3) (h3 : T i 0 = 3) (hd : d = 3)
    (h : ∀ e0 e yli', e0 = (if yE 0 = 0 then (if yE 1 = 0 then (if yE 2 = 0 then 0 else yE 2) else yE 1) else yE 0) → e = (if e0 = 0 ∧ ¬ (qs_ok (yV 0) ∧ qs_ok (yV 1)) then 3 else e0) → (∀ k, k < 36 → yli' k = yV 2 + nI k) →
      wY_evaluate_7 post (nI s) yr yc f (nI 1) (nI (s * 56 + i * 8 + 8)) (yV 0) (yV 1) ycn ytk ysl ysd yst yva yow yli' (upd yV 0 0) (upd yE 0 e)) :
    wY_evaluate_7 post (nI s) yr yc (f + 1) (nI d) (nI (s * 56 + i * 8)) yh yw ycn ytk ysl ysd yst yva yow yli yV yE := by
  subst hd
  refine qy_core m hs hi hn hst htk (by decide) (by decide) (by decide) (fun yli' hl => ⟨fun _ => ?_, fun z => absurd (by decide) z⟩)
  have hle := qs_kl_le (T i) st' vl' 36
  have hf : qs_fe (T i) st' 36 = 0 := by
    rw [qs_fe_dead (fun z => z.2.1 h3)]
    unfold qs_e0
    rw [if_neg (fun z => z.2.1 h3)]
  rw [hf]
  have h' := h (qs_gg yE 0 0 3 3)
  have hgg : qs_gg yE 0 0 3 3 = (if yE 0 = 0 then (if yE 1 = 0 then (if yE 2 = 0 then 0 else yE 2) else yE 1) else yE 0) := rfl
  unfold wY_evaluate_284
  refine br_t (by decide) ⟨37, qy_ev306y (by decide) (fun yli2 hl2 => ⟨37, ?_⟩) 36 0 yli' (by decide) (fun j hj => absurd hj (Nat.not_lt_zero j)) 37 (by decide)⟩
  refine qy_ev340n hle (by decide) ?_ _ 0 (Nat.zero_add _) 37 (by omega)
  refine qy_ev418 (by decide) (fun e he => ?_)
  have hv : ∀ a b c q : Int32, qs_tv (T i 0) (T i 1) (nI 3) a b c q = 0 := by
    intro a b c q
    unfold qs_tv
    rw [h3, if_neg (by decide), if_neg (by decide), if_neg (by decide), if_neg (by decide)]
  rw [hv, ite_self]
  refine h' e yli2 hgg ?_ hl2
  rw [he]
  by_cases a1 : qs_gg yE 0 0 3 3 = 0 ∧ ¬ (qs_ok (yV 0) ∧ qs_ok (yV 1))
  · rw [if_pos a1, if_pos ⟨a1.1, by decide, a1.2⟩]
  · rw [if_neg a1, if_neg (fun z => a1 ⟨z.1, z.2.2⟩)]
end
theorem qy_ev7 {post : SY → Prop} {R C s : Nat} {f : qt_Fm} {st' vl' : Nat → Int32} (hM : qt_MY ytk ycn s f.1 f.2) (hs : s < 36) (hV : qt_VF R C f.1 f.2) (hW : qt_WF f.1 f.2) (hst : ∀ j, j < f.1 → ∀ k, k < 36 → qs_nm (f.2 j) k → yst k = st' k ∧ yva k = vl' k)
    (h : ∀ yh' yw' yli' yV' yE', qs_RY (qt_ar f) (qs_res f st' vl') yh' yw' yli' yV' yE' → post (yr, yc, yh', yw', ycn, ytk, ysl, ysd, yst, yva, yow, yli', yV', yE')) :
    ∀ (d i : Nat) (yh yw : Int32) (yli yV yE : Nat → Int32), i + d = f.1 → ((0 < d ∧ qs_SY (qs_E f.2 st' vl' i) (qt_dep f.2 i) yV yE) ∨ (d = 0 ∧ qs_RY (qt_ar f) (qs_res f st' vl') yh yw yli yV yE)) → ∀ n, d < n → wY_evaluate_7 post (nI s) yr yc n (nI (qt_dep f.2 i)) (nI (s * 56 + i * 8)) yh yw ycn ytk ysl ysd yst yva yow yli yV yE := by
  intro d
  have h7 := hV.1
  have m1 : ycn s = nI f.1 := hM.1
  induction d with
  | zero =>
    intro i yh yw yli yV yE hi hS n hn
    obtain ⟨n, rfl⟩ : ∃ z, n = z + 1 := ⟨n - 1, by omega⟩
    obtain rfl : i = f.1 := by omega
    rcases hS with ⟨z, -⟩ | ⟨-, hS⟩
    · omega
    · simp (disch := omega) only [wY_evaluate_7, m1, nI_add, pk_mul, qa_a1, qa_a2, qa_a3, qa_a4, qa_a5, qa_a6, qa_a7, qa_a8, qa_a56, qa_m6, qa_m7, qa_m8, qa_m56, qa_l2, qa_l37, qa_l2016, qa_in, nI_clamp, forall_eq, true_and, qa_cl0, nI_leI, nI_ltI, nI_eq, not_false_eq_true, pk_sub, qa_s1, qa_s2, qa_s8]
      exact br_t (by omega) (h _ _ _ _ _ hS)
  | succ d ih =>
    intro i yh yw yli yV yE hi hS n hn
    obtain ⟨n, rfl⟩ : ∃ z, n = z + 1 := ⟨n - 1, by omega⟩
    rcases hS with ⟨-, hS⟩ | ⟨z, -⟩
    · have hw := hW.1 i (by omega)
      have hdl := qt_dep_le f.2 i
      have hds : qt_dep f.2 (i + 1) = qt_dep f.2 i - qt_tak (f.2 i) + 1 := rfl
      have ih' := ih (i + 1)
      rw [show s * 56 + (i + 1) * 8 = s * 56 + i * 8 + 8 by omega] at ih'
      -- behind a token that is no array's
      have sc : qt_tak (f.2 i) ≠ 1 → qt_tak (f.2 i) ≠ 3 → ∀ (yh' yw' : Int32) (yli' yV' yE' : Nat → Int32), qs_SY (qs_E f.2 st' vl' (i + 1)) (qt_dep f.2 (i + 1)) yV' yE' → ((0 < d ∧ qs_SY (qs_E f.2 st' vl' (i + 1)) (qt_dep f.2 (i + 1)) yV' yE') ∨ (d = 0 ∧ qs_RY (qt_ar f) (qs_res f st' vl') yh' yw' yli' yV' yE')) := by
        intro a1 a3 yh' yw' yli' yV' yE' q
        by_cases dz : d = 0
        · refine Or.inr ⟨dz, ?_⟩
          have ei : i + 1 = f.1 := by omega
          have ei' : f.1 - 1 = i := by omega
          rw [ei] at q
          obtain ⟨q1, q2⟩ := q 0 (by rw [hW.2]; decide)
          have hna : ¬ qt_ar f := fun z => by
            have := z.2
            rw [ei'] at this
            exact this.elim a1 a3
          have hr := qs_res_s (f := f) (st := st') (vl := vl') (by rw [ei']; exact a1) (by rw [ei']; exact a3)
          rw [hr]
          exact ⟨q1, fun z => q2.trans (qs_E_z _ _ (z.resolve_right hna)), fun _ _ => q2, fun _ z => absurd z hna⟩
        · exact Or.inl ⟨by omega, q⟩
      by_cases e6 : f.2 i 0 = 6
      · have tk := qt_tak1 e6
        have hw2 := hw.2 (Or.inl tk)
        rw [tk] at hw2
        have hd0 : d = 0 := by omega
        have ei' : f.1 - 1 = i := by omega
        have har : qt_ar f := ⟨by omega, Or.inl (by rw [ei']; exact tk)⟩
        have hr : qs_res f st' vl' = qs_kp (qs_E f.2 st' vl' i) (f.2 i) st' vl' := by
          unfold qs_res
          rw [ei', if_pos tk]
        refine qy_tk1 hM hs (by omega) h7 (hst i (by omega)) tk e6 (by omega) (by omega) (fun e0 e yli' he0 he hl => ?_)
        rw [hds, tk] at ih'
        rw [hw2.1] at he0 he hl ih' hS ⊢
        obtain ⟨q1, q2⟩ := hS 0 (by decide)
        refine ih' _ _ _ _ _ (by omega) (Or.inr ⟨hd0, ?_⟩) n (by omega)
        rw [hr]
        unfold qs_kp
        have hE : e = (if (qs_E f.2 st' vl' i).1 0 = 0 then (if qs_fe (f.2 i) st' 36 = 0 then (if (qs_kl (f.2 i) st' vl' ((qs_E f.2 st' vl' i).2 0)).length = 0 then 3 else 0) else qs_fe (f.2 i) st' 36) else (qs_E f.2 st' vl' i).1 0) := by
          have he0' : e0 = (if yE 0 = 0 then qs_fe (f.2 i) st' 36 else yE 0) := he0
          have he' : e = (if e0 = 0 ∧ (qs_kl (f.2 i) st' vl' (yV 0)).length = 0 then 3 else e0) := he
          rw [q1] at he0'
          rw [q2] at he'
          rw [he', he0']
          generalize qs_fe (f.2 i) st' 36 = w
          generalize (qs_E f.2 st' vl' i).1 0 = w2
          by_cases c1 : w2 = 0
          · rw [if_pos c1, if_pos c1]
            by_cases c2 : w = 0
            · rw [if_pos c2]
              by_cases c3 : (qs_kl (f.2 i) st' vl' ((qs_E f.2 st' vl' i).2 0)).length = 0
              · rw [if_pos ⟨c2, c3⟩, if_pos c3]
              · rw [if_neg (fun z => c3 z.2), if_neg c3, c2]
            · rw [if_neg (fun z => c2 z.1), if_neg c2]
          · rw [if_neg c1, if_neg c1, if_neg (fun z => c1 z.1)]
        have hl' : qs_hl yli' (qs_kl (f.2 i) st' vl' (yV 0)) := hl
        rw [q2] at hl'
        refine ⟨hE, fun _ => rfl, fun _ z => absurd har z, fun _ _ => ⟨?_, rfl, fun k hk => ?_⟩⟩
        · show nI (qs_kl (f.2 i) st' vl' (yV 0)).length = _
          rw [q2]
        · have hk' : k < (qs_kl (f.2 i) st' vl' ((qs_E f.2 st' vl' i).2 0)).length * 1 := hk
          exact hl' k (by omega)
      · by_cases e3 : f.2 i 0 = 3
        · by_cases e5 : f.2 i 1 = 5
          · have tk := qt_tak3 e6 e3 e5
            have hw2 := hw.2 (Or.inr tk)
            rw [tk] at hw2
            have hd0 : d = 0 := by omega
            have ei' : f.1 - 1 = i := by omega
            have har : qt_ar f := ⟨by omega, Or.inr (by rw [ei']; exact tk)⟩
            have hr : qs_res f st' vl' = qs_sq (qs_E f.2 st' vl' i) := by
              unfold qs_res
              rw [ei', if_neg (by rw [tk]; decide), if_pos tk]
            refine qy_tk3 hM hs (by omega) h7 (hst i (by omega)) tk e3 hw2.1 (fun e0 e yli' he0 he hl => ?_)
            rw [hds, tk] at ih'
            rw [hw2.1] at hS ih'
            obtain ⟨q1, p1⟩ := hS 0 (by decide)
            obtain ⟨q2, p2⟩ := hS 1 (by decide)
            obtain ⟨q3, p3⟩ := hS 2 (by decide)
            refine ih' _ _ _ _ _ (by omega) (Or.inr ⟨hd0, ?_⟩) n (by omega)
            rw [hr]
            rw [q1, q2, q3] at he0
            rw [p1, p2] at he ⊢
            rw [p3] at hl
            generalize qs_E f.2 st' vl' i = S at he0 he hl ⊢
            unfold qs_sq
            have hE : e = (if S.1 0 = 0 then (if S.1 1 = 0 then (if S.1 2 = 0 then (if qs_ok (S.2 0) ∧ qs_ok (S.2 1) then 0 else 3) else S.1 2) else S.1 1) else S.1 0) := by
              rw [he, he0]
              by_cases c1 : S.1 0 = 0
              · simp only [if_pos c1]
                by_cases c2 : S.1 1 = 0
                · simp only [if_pos c2]
                  by_cases c3 : S.1 2 = 0
                  · simp only [if_pos c3]
                    by_cases c4 : qs_ok (S.2 0) ∧ qs_ok (S.2 1)
                    · rw [if_neg (fun z => z.2 c4), if_pos c4]
                    · rw [if_pos ⟨trivial, c4⟩, if_neg c4]
                  · simp only [if_neg c3]
                    rw [if_neg (fun z => c3 z.1)]
                · simp only [if_neg c2]
                  rw [if_neg (fun z => c2 z.1)]
              · simp only [if_neg c1]
                rw [if_neg (fun z => c1 z.1)]
            refine ⟨hE, fun _ => rfl, fun _ z => absurd har z, fun ez _ => ?_⟩
            have ez' : (if S.1 0 = 0 then (if S.1 1 = 0 then (if S.1 2 = 0 then (if qs_ok (S.2 0) ∧ qs_ok (S.2 1) then 0 else 3) else S.1 2) else S.1 1) else S.1 0) = (0 : Int32) := ez
            have hok : qs_ok (S.2 0) ∧ qs_ok (S.2 1) := by
              apply Decidable.byContradiction
              intro c4
              revert ez'
              by_cases c1 : S.1 0 = 0
              · simp only [if_pos c1]
                by_cases c2 : S.1 1 = 0
                · simp only [if_pos c2]
                  by_cases c3 : S.1 2 = 0
                  · simp only [if_pos c3, if_neg c4]
                    decide
                  · simp only [if_neg c3]; exact c3
                · simp only [if_neg c2]; exact c2
              · simp only [if_neg c1]; exact c1
            obtain ⟨hh, b1, b2, b3, b4⟩ := qs_clamp hok.1
            obtain ⟨ww, c1, c2, c3, c4⟩ := qs_clamp hok.2
            refine ⟨?_, ?_, fun k hk => ?_⟩
            · show S.2 0 = nI (S.2 0).toNatClampNeg
              rw [b4]; exact b3
            · show S.2 1 = nI (S.2 1).toNatClampNeg
              rw [c4]; exact c3
            · have hk' : k < (S.2 0).toNatClampNeg * (S.2 1).toNatClampNeg := hk
              rw [b4, c4] at hk'
              exact hl k (Nat.lt_of_lt_of_le hk' (Nat.le_trans (Nat.mul_le_mul b2 c2) (by decide)))
          · have tk := qt_tak2 e6 e3 e5
            have hw1 := hw.1
            rw [tk] at hw1
            refine qy_tk2 hM hs (by omega) h7 (hst i (by omega)) tk e3 (by omega) hw1 (fun yh' yw' yli' e he => ?_)
            have hE : qs_E f.2 st' vl' (i + 1) = qs_push (qs_E f.2 st' vl' i) (qt_dep f.2 i - 2) (if (qs_E f.2 st' vl' i).1 (qt_dep f.2 i - 2) = 0 then (qs_E f.2 st' vl' i).1 (qt_dep f.2 i - 1) else (qs_E f.2 st' vl' i).1 (qt_dep f.2 i - 2)) (qs_op (f.2 i 1) ((qs_E f.2 st' vl' i).2 (qt_dep f.2 i - 2)) ((qs_E f.2 st' vl' i).2 (qt_dep f.2 i - 1))) := by
              show (if _ then _ else if _ then _ else _) = _
              rw [if_neg (by rw [tk]; decide), if_pos tk]
            obtain ⟨q1, p1⟩ := hS (qt_dep f.2 i - 2) (by omega)
            obtain ⟨q2, p2⟩ := hS (qt_dep f.2 i - 1) (by omega)
            have hq : qs_SY (qs_E f.2 st' vl' (i + 1)) (qt_dep f.2 (i + 1)) (upd yV (qt_dep f.2 i - 2) (if e = 0 then qs_op (f.2 i 1) (yV (qt_dep f.2 i - 2)) (yV (qt_dep f.2 i - 1)) else 0)) (upd yE (qt_dep f.2 i - 2) e) := by
              intro k hk
              rw [hds, tk] at hk
              rw [hE]
              unfold qs_push
              rw [q1, q2] at he
              rw [p1, p2, ← he]
              show upd _ _ _ _ = upd _ _ _ _ ∧ upd _ _ _ _ = upd _ _ _ _
              by_cases ek : k = qt_dep f.2 i - 2
              · subst ek
                rw [pk_us, pk_us, pk_us, pk_us]
                exact ⟨rfl, rfl⟩
              · rw [pk_un ek, pk_un ek, pk_un ek, pk_un ek]
                exact hS k (by omega)
            have := ih' yh' yw' yli' _ _ (by omega) (sc (by rw [tk]; decide) (by rw [tk]; decide) yh' yw' yli' _ _ hq) n (by omega)
            rw [hds, tk] at this
            exact this
        · have tk := qt_tak0 e6 e3
          refine qy_tk0 hM hs (by omega) h7 (hst i (by omega)) tk (by omega) (Or.inr (Or.inr trivial)) (fun yh' yw' yli' => ?_)
          have hE : qs_E f.2 st' vl' (i + 1) = qs_push (qs_E f.2 st' vl' i) (qt_dep f.2 i) (qs_fe (f.2 i) st' 36) (qs_ov (f.2 i) st' vl') := by
            show (if _ then _ else if _ then _ else _) = _
            rw [if_pos tk]
          have hq : qs_SY (qs_E f.2 st' vl' (i + 1)) (qt_dep f.2 (i + 1)) (upd yV (qt_dep f.2 i) (if qs_fe (f.2 i) st' 36 = 0 then qs_ov (f.2 i) st' vl' else 0)) (upd yE (qt_dep f.2 i) (qs_fe (f.2 i) st' 36)) := by
            intro k hk
            rw [hds, tk] at hk
            rw [hE]
            unfold qs_push
            generalize qs_fe (f.2 i) st' 36 = w
            show upd _ _ _ _ = upd _ _ _ _ ∧ upd _ _ _ _ = upd _ _ _ _
            by_cases ek : k = qt_dep f.2 i
            · subst ek
              rw [pk_us, pk_us, pk_us, pk_us]
              exact ⟨rfl, rfl⟩
            · rw [pk_un ek, pk_un ek, pk_un ek, pk_un ek]
              exact hS k (by omega)
          have := ih' yh' yw' yli' _ _ (by omega) (sc (by rw [tk]; decide) (by rw [tk]; decide) yh' yw' yli' _ _ hq) n (by omega)
          rw [hds, tk, Nat.sub_zero] at this
          exact this
    · omega
theorem qy_ev {post : SY → Prop} {R C s : Nat} {f : qt_Fm} {st' vl' : Nat → Int32} (hM : qt_MY ytk ycn s f.1 f.2) (hs : s < 36) (hV : qt_VF R C f.1 f.2) (hW : qt_WF f.1 f.2) (h0 : 0 < f.1) (hst : ∀ j, j < f.1 → ∀ k, k < 36 → qs_nm (f.2 j) k → yst k = st' k ∧ yva k = vl' k)
    (h : ∀ yh' yw' yli' yV' yE', qs_RY (qt_ar f) (qs_res f st' vl') yh' yw' yli' yV' yE' → post (yr, yc, yh', yw', ycn, ytk, ysl, ysd, yst, yva, yow, yli', yV', yE')) : wpY_evaluate post (yr, yc, yh, yw, ycn, ytk, ysl, ysd, yst, yva, yow, yli, yV, yE) (nI s) := by
  have h7 := hV.1
  unfold wpY_evaluate
  refine nm_r (qa_m56 s) ⟨8, ?_⟩
  exact qy_ev7 hM hs hV hW hst h f.1 0 _ _ _ _ _ (Nat.zero_add _) (Or.inl ⟨h0, fun k hk => absurd hk (Nat.not_lt_zero k)⟩) 8 (by omega)
end
end
section
/-! the reference: settling -/
def qs_yo (o : Nat) : Int32 := if o = 0 then -1 else nI ((o - 1) / 6 * 8 + (o - 1) % 6)
def qs_YM (R C : Nat) (σ : qs_St) (ysd yst yva yow : Nat → Int32) : Prop := ∀ s, s < 36 → qs_sh R C s → (ysd s = 0 ↔ σ.1 s = false) ∧ yst s = σ.2.1 s ∧ yva s = σ.2.2.1 s ∧ yow s = qs_yo (σ.2.2.2 s)
theorem qs_can_y {R C s : Nat} {G : Nat → qt_Fm} {σ : qs_St} {ysd : Nat → Int32} (hR : R ≤ 6) (hC : C ≤ 6) (hV : qt_VC R C G) (hs : s < 36) (hS : ∀ x, x < 36 → qs_sh R C x → (ysd x = 0 ↔ σ.1 x = false)) : (∀ x, x < 36 → ysd x = 0 → ¬ qs_need G s x) ↔ qs_can G σ.1 s := by
  constructor
  · intro h x hx h0 hn
    exact h x hx ((hS x hx (qs_need_in hR hC hV hs hx hn)).mpr h0) hn
  · intro h x hx h0 hn
    exact h x hx ((hS x hx (qs_need_in hR hC hV hs hx hn)).mp h0) hn
section
variable {yr yc yh yw : Int32} {ycn ytk ysl ysd yst yva yow yli yV yE : Nat → Int32}
section
variable {G : Nat → qt_Fm} {ow' : Nat → Nat} {R C s h w : Nat} {post : SY → Prop}
theorem qs_area_in {x : Nat} (hs : s < 36) (hx : x < 36) (h1 : 0 < h) (h2 : h ≤ 36) (w1 : 0 < w) (w2 : w ≤ 36) : qs_inR x (nI (s / 6)) (nI (s % 6)) (nI (s / 6 + h - 1)) (nI (s % 6 + w - 1)) ↔ qs_area s h w x := by
  rw [qs_inR_iff (by omega) (by omega) (by omega) (by omega) (by omega)]
  unfold qs_area
  omega
theorem qy_228z (hj : post (yr, yc, yh, yw, ycn, ytk, ysl, ysd, yst, yva, yow, yli, yV, yE)) : ∀ (d k : Nat), k + d = 36 → ∀ n, d < n → wY_settleCell_228 post (nI (s / 6)) (nI (s % 6)) 0 yr yc yh yw n (nI k) ycn ytk ysl ysd yst yva yow yli yV yE := by
  intro d
  induction d with
  | zero =>
    intro k hk n hn
    obtain ⟨n, rfl⟩ : ∃ z, n = z + 1 := ⟨n - 1, by omega⟩
    obtain rfl : k = 36 := by omega
    unfold wY_settleCell_228
    exact br_t (by decide) hj
  | succ d ih =>
    intro k hk n hn
    obtain ⟨n, rfl⟩ : ∃ z, n = z + 1 := ⟨n - 1, by omega⟩
    unfold wY_settleCell_228
    refine br_f (by rw [qa_lel36 (by omega)]; omega) (br_t (by decide) ?_)
    simp (disch := omega) only [nI_add, pk_mul, qa_a1, qa_a2, qa_a3, qa_a4, qa_a5, qa_a6, qa_a7, qa_a8, qa_a56, qa_m6, qa_m7, qa_m8, qa_m56, qa_l2, qa_l37, qa_l2016, qa_in, nI_clamp, forall_eq, true_and, qa_cl0, nI_leI, nI_ltI, nI_eq, not_false_eq_true, pk_sub, qa_s1, qa_s2, qa_s8]
    exact ih (k + 1) (by omega) n (by omega)
/-- ahead of k the area is given away -/
def qs_SQ (s h w k : Nat) (li : Nat → Int32) (ysd yst yva yow ysd' yst' yva' yow' : Nat → Int32) : Prop :=
  ∀ x, x < 36 → ((qs_area s h w x ∧ x < k) → ysd' x = 1 ∧ yst' x = 1 ∧ yva' x = li ((x / 6 - s / 6) * w + (x % 6 - s % 6)) ∧ yow' x = nI (s / 6 * 8 + s % 6)) ∧
    (¬ (qs_area s h w x ∧ x < k) → ysd' x = ysd x ∧ yst' x = yst x ∧ yva' x = yva x ∧ yow' x = yow x)
theorem qy_228y {ysd0 yst0 yva0 yow0 : Nat → Int32} (hs : s < 36) (h1 : 0 < h) (w1 : 0 < w) (hh : s / 6 + h ≤ 6) (hw : s % 6 + w ≤ 6) (hj : ∀ ysd' yst' yva' yow', qs_SQ s h w 36 yli ysd0 yst0 yva0 yow0 ysd' yst' yva' yow' → post (yr, yc, nI h, nI w, ycn, ytk, ysl, ysd', yst', yva', yow', yli, yV, yE)) :
    ∀ (d k : Nat) (ysd yst yva yow : Nat → Int32), k + d = 36 → qs_SQ s h w k yli ysd0 yst0 yva0 yow0 ysd yst yva yow → ∀ n, d < n → wY_settleCell_228 post (nI (s / 6)) (nI (s % 6)) 1 yr yc (nI h) (nI w) n (nI k) ycn ytk ysl ysd yst yva yow yli yV yE := by
  intro d
  induction d with
  | zero =>
    intro k ysd yst yva yow hk hI n hn
    obtain ⟨n, rfl⟩ : ∃ z, n = z + 1 := ⟨n - 1, by omega⟩
    obtain rfl : k = 36 := by omega
    unfold wY_settleCell_228
    exact br_t (by decide) (hj _ _ _ _ hI)
  | succ d ih =>
    intro k ysd yst yva yow hk hI n hn
    obtain ⟨n, rfl⟩ : ∃ z, n = z + 1 := ⟨n - 1, by omega⟩
    unfold wY_settleCell_228
    refine br_f (by rw [qa_lel36 (by omega)]; omega) (br_f (by decide) ?_)
    have e : k - k / 6 * 6 = k % 6 := by omega
    rw [nI_add, nI_add, qa_s1 (by omega), qa_s1 (by omega)]
    refine qy_in (by omega) (fun z => ?_) (fun z => ?_)
    · have ha := (qs_area_in hs (by omega) h1 (by omega) w1 (by omega)).mp z
      have ha' := ha
      unfold qs_area at ha'
      have hmul : (k / 6 - s / 6) * w ≤ 5 * w := Nat.mul_le_mul_right w (by omega)
      have hq : (k / 6 - s / 6) * w + k % 6 - s % 6 < 36 := by omega
      refine br_f (by decide) ?_
      simp (disch := omega) only [qa_n6, qa_div6, e, qa_nar1, nI_add, pk_mul, qa_a1, qa_a2, qa_a3, qa_a4, qa_a5, qa_a6, qa_a7, qa_a8, qa_a56, qa_m6, qa_m7, qa_m8, qa_m56, qa_l2, qa_l37, qa_l2016, qa_in, nI_clamp, forall_eq, true_and, qa_cl0, nI_leI, nI_ltI, nI_eq, not_false_eq_true, pk_sub, qa_s1, qa_s2, qa_s8]
      refine ih (k + 1) _ _ _ _ (by omega) (fun x hx => ?_) n (by omega)
      by_cases ex : x = k
      · subst ex
        rw [pk_us, pk_us, pk_us, pk_us]
        refine ⟨fun _ => ⟨rfl, rfl, ?_, rfl⟩, fun y => absurd ⟨ha, by omega⟩ y⟩
        rw [show (x / 6 - s / 6) * w + x % 6 - s % 6 = (x / 6 - s / 6) * w + (x % 6 - s % 6) by omega]
      · rw [pk_un ex, pk_un ex, pk_un ex, pk_un ex]
        exact ⟨fun y => (hI x hx).1 ⟨y.1, by omega⟩, fun y => (hI x hx).2 (fun v => y ⟨v.1, by omega⟩)⟩
    · have ha : ¬ qs_area s h w k := fun y => z ((qs_area_in hs (by omega) h1 (by omega) w1 (by omega)).mpr y)
      refine br_t (by decide) ?_
      simp (disch := omega) only [nI_add, pk_mul, qa_a1, qa_a2, qa_a3, qa_a4, qa_a5, qa_a6, qa_a7, qa_a8, qa_a56, qa_m6, qa_m7, qa_m8, qa_m56, qa_l2, qa_l37, qa_l2016, qa_in, nI_clamp, forall_eq, true_and, qa_cl0, nI_leI, nI_ltI, nI_eq, not_false_eq_true, pk_sub, qa_s1, qa_s2, qa_s8]
      refine ih (k + 1) _ _ _ _ (by omega) (fun x hx => ?_) n (by omega)
      refine ⟨fun y => (hI x hx).1 ⟨y.1, ?_⟩, fun y => (hI x hx).2 (fun v => y ⟨v.1, by omega⟩)⟩
      by_cases ex : x = k
      · subst ex; exact absurd y.1 ha
      · omega
theorem qy_130z (hA : qt_AY 36 ytk ycn G) (hs : s < 36) (hj : ∃ f, wY_settleCell_228 post (nI (s / 6)) (nI (s % 6)) 0 yr yc yh yw f 0 ycn ytk ysl ysd (upd yst s 4) yva yow yli yV yE) : ∀ (d k : Nat), k + d = 36 → ∀ n, d < n → wY_settleCell_130 post (nI s) (nI (s / 6)) (nI (s % 6)) yr yc yh yw ycn ytk ysl ysd yst yva yow yli yV yE n 0 (nI k) := by
  intro d
  induction d with
  | zero =>
    intro k hk n hn
    obtain ⟨n, rfl⟩ : ∃ z, n = z + 1 := ⟨n - 1, by omega⟩
    obtain rfl : k = 36 := by omega
    unfold wY_settleCell_130
    refine br_t (by decide) (br_t (by decide) ?_)
    simp (disch := omega) only [nI_add, pk_mul, qa_a1, qa_a2, qa_a3, qa_a4, qa_a5, qa_a6, qa_a7, qa_a8, qa_a56, qa_m6, qa_m7, qa_m8, qa_m56, qa_l2, qa_l37, qa_l2016, qa_in, nI_clamp, forall_eq, true_and, qa_cl0, nI_leI, nI_ltI, nI_eq, not_false_eq_true, pk_sub, qa_s1, qa_s2, qa_s8]
    exact hj
  | succ d ih =>
    intro k hk n hn
    obtain ⟨n, rfl⟩ : ∃ z, n = z + 1 := ⟨n - 1, by omega⟩
    have nx := ih (k + 1) (by omega) n (by omega)
    simp (disch := omega) only [wY_settleCell_130, qa_lel36, qa_n8, nI_add, pk_mul, qa_a1, qa_a2, qa_a3, qa_a4, qa_a5, qa_a6, qa_a7, qa_a8, qa_a56, qa_m6, qa_m7, qa_m8, qa_m56, qa_l2, qa_l37, qa_l2016, qa_in, nI_clamp, forall_eq, true_and, qa_cl0, nI_leI, nI_ltI, nI_eq, not_false_eq_true, pk_sub, qa_s1, qa_s2, qa_s8]
    refine br_f (by omega) (br_c (fun _ => nx) (fun _ => ?_))
    refine qy_in (by omega) (fun _ => ?_) (fun _ => br_t (by decide) nx)
    exact br_f (by decide) (br_c (fun _ => nx) (fun _ => br_c (fun _ => nx) (fun _ => br_c (fun _ => nx) (fun _ => nx))))
theorem qy_130y (hA : qt_AY 36 ytk ycn G) (hs : s < 36) (hR : R ≤ 6) (hC : C ≤ 6) (h1 : 0 < h) (w1 : 0 < w) (hh : s / 6 + h ≤ R) (hw : s % 6 + w ≤ C) (ho : ∀ x, x < 36 → qs_sh R C x → yow x = qs_yo (ow' x)) (hb : ∀ x, ow' x ≤ 36)
    (hj0 : (∃ x, x < 36 ∧ qs_area s h w x ∧ qs_bad G ow' s x) → ∃ f, wY_settleCell_228 post (nI (s / 6)) (nI (s % 6)) 0 yr yc (nI h) (nI w) f 0 ycn ytk ysl ysd (upd yst s 4) yva yow yli yV yE) (hj1 : (∀ x, x < 36 → qs_area s h w x → ¬ qs_bad G ow' s x) → ∃ f, wY_settleCell_228 post (nI (s / 6)) (nI (s % 6)) 1 yr yc (nI h) (nI w) f 0 ycn ytk ysl ysd yst yva yow yli yV yE) :
    ∀ (d k : Nat), k + d = 36 → (∀ x, x < k → qs_area s h w x → ¬ qs_bad G ow' s x) → ∀ n, d < n → wY_settleCell_130 post (nI s) (nI (s / 6)) (nI (s % 6)) yr yc (nI h) (nI w) ycn ytk ysl ysd yst yva yow yli yV yE n 1 (nI k) := by
  intro d
  induction d with
  | zero =>
    intro k hk hI n hn
    obtain ⟨n, rfl⟩ : ∃ z, n = z + 1 := ⟨n - 1, by omega⟩
    obtain rfl : k = 36 := by omega
    unfold wY_settleCell_130
    exact br_t (by decide) (br_f (by decide) (hj1 hI))
  | succ d ih =>
    intro k hk hI n hn
    obtain ⟨n, rfl⟩ : ∃ z, n = z + 1 := ⟨n - 1, by omega⟩
    have A := hA k (by omega)
    have A7 := A.1
    have m1 : ycn k = nI (G k).1 := A.2.1
    have nx : (qs_area s h w k → ¬ qs_bad G ow' s k) → wY_settleCell_130 post (nI s) (nI (s / 6)) (nI (s % 6)) yr yc (nI h) (nI w) ycn ytk ysl ysd yst yva yow yli yV yE n 1 (nI (k + 1)) := by
      intro q
      refine ih (k + 1) (by omega) (fun x a1 a2 => ?_) n (by omega)
      by_cases e : x = k
      · subst e; exact q a2
      · exact hI x (by omega) a2
    have no : qs_area s h w k → qs_bad G ow' s k → wY_settleCell_130 post (nI s) (nI (s / 6)) (nI (s % 6)) yr yc (nI h) (nI w) ycn ytk ysl ysd yst yva yow yli yV yE n 0 (nI (k + 1)) :=
      fun q1 q2 => qy_130z hA hs (hj0 ⟨k, by omega, q1, q2⟩) d (k + 1) (by omega) n (by omega)
    simp (disch := omega) only [wY_settleCell_130, qa_lel36, qa_n8, m1, qa_ltl0, nI_add, pk_mul, qa_a1, qa_a2, qa_a3, qa_a4, qa_a5, qa_a6, qa_a7, qa_a8, qa_a56, qa_m6, qa_m7, qa_m8, qa_m56, qa_l2, qa_l37, qa_l2016, qa_in, nI_clamp, forall_eq, true_and, qa_cl0, nI_leI, nI_ltI, nI_eq, not_false_eq_true, pk_sub, qa_s1, qa_s2, qa_s8]
    refine br_f (by omega) ?_
    by_cases c1 : k = s
    · exact br_t c1 (nx (fun _ z => z.1 c1))
    · refine br_f c1 ?_
      refine qy_in (by omega) (fun z => ?_) (fun z => br_t (by decide) (nx (fun y => absurd ((qs_area_in hs (by omega) h1 (by omega) w1 (by omega)).mpr y) z)))
      have ha := (qs_area_in hs (by omega) h1 (by omega) w1 (by omega)).mp z
      have ha' := ha
      unfold qs_area at ha'
      have hin : qs_sh R C k := by unfold qs_sh; omega
      refine br_f (by decide) ?_
      by_cases c2 : 0 < (G k).1
      · exact br_t c2 (no ha ⟨c1, Or.inl c2⟩)
      · refine br_f c2 ?_
        rw [ho k (by omega) hin]
        have b1 := hb k
        by_cases c3 : ow' k = 0
        · have : qs_yo (ow' k) = -1 := by unfold qs_yo; rw [if_pos c3]
          rw [this]
          exact br_t (by decide) (nx (fun _ y => by rcases y.2 with y2 | y2 <;> omega))
        · have : qs_yo (ow' k) = nI ((ow' k - 1) / 6 * 8 + (ow' k - 1) % 6) := by unfold qs_yo; rw [if_neg c3]
          rw [this, qa_ltr0 (by omega), qa_div8 (by omega), nI_leI (by omega) (by omega)]
          refine br_f (by omega) ?_
          by_cases c4 : s / 6 ≤ ((ow' k - 1) / 6 * 8 + (ow' k - 1) % 6) / 8
          · exact br_t c4 (nx (fun _ y => by rcases y.2 with y2 | y2 <;> omega))
          · exact br_f c4 (no ha ⟨c1, Or.inr ⟨by omega, by omega⟩⟩)
end
theorem qy_sc {post : SY → Prop} {G : Nat → qt_Fm} {R C s : Nat} {σ : qs_St} (hA : qt_AY 36 ytk ycn G) (hV : qt_VC R C G) (hR : R ≤ 6) (hC : C ≤ 6) (hs : s < 36) (hin : qs_sh R C s) (hI : qs_I σ) (hO : qs_O σ) (h0 : σ.1 s = false) (hcan : qs_can G σ.1 s) (hM : qs_YM R C σ ysd yst yva yow)
    (h : ∀ yh' yw' ysd' yst' yva' yow' yli' yV' yE', qs_YM R C (qs_sc R C G s σ) ysd' yst' yva' yow' → post (nI R, nI C, yh', yw', ycn, ytk, ysl, ysd', yst', yva', yow', yli', yV', yE')) : wpY_settleCell post (nI R, nI C, yh, yw, ycn, ytk, ysl, ysd, yst, yva, yow, yli, yV, yE) (nI s) := by
  have A := hA s hs
  have A7 := A.1
  have m1 : ycn s = nI (G s).1 := A.2.1
  obtain ⟨i5, i0, iw⟩ := hI s h0
  have e : s - s / 6 * 6 = s % 6 := by omega
  have hS : ∀ x, x < 36 → qs_sh R C x → (upd ysd s 1 x = 0 ↔ qt_ut σ.1 s true x = false) := by
    intro x hx hxi
    by_cases e : x = s
    · subst e; rw [qt_us, pk_us]; decide
    · rw [qt_un e, pk_un e]; exact (hM x hx hxi).1
  unfold qs_sc at h
  simp (disch := omega) only [wpY_settleCell, qa_n6, qa_div6, e, m1, qa_eqr0, qa_nar1, nI_add, pk_mul, qa_a1, qa_a2, qa_a3, qa_a4, qa_a5, qa_a6, qa_a7, qa_a8, qa_a56, qa_m6, qa_m7, qa_m8, qa_m56, qa_l2, qa_l37, qa_l2016, qa_in, nI_clamp, forall_eq, true_and, qa_cl0, nI_leI, nI_ltI, nI_eq, not_false_eq_true, pk_sub, qa_s1, qa_s2, qa_s8]
  by_cases e0 : (G s).1 = 0
  · refine br_t e0 ?_
    rw [if_pos e0] at h
    refine h _ _ _ _ _ _ _ _ _ (fun x hx hxi => ⟨hS x hx hxi, ?_, (hM x hx hxi).2.2⟩)
    show upd yst s 0 x = upd σ.2.1 s 0 x
    by_cases e : x = s
    · subst e; rw [pk_us, pk_us]
    · rw [pk_un e, pk_un e]; exact (hM x hx hxi).2.1
  · refine br_f e0 ?_
    rw [if_neg e0] at h
    have hV1 := hV s hs
    have hW := (hV1.2 (by omega)).2.2
    refine qy_ev (f := G s) (st' := σ.2.1) (vl' := σ.2.2.1) A.2 hs hV1.1 hW (by omega) (fun j hj k hk hn => ?_) (fun yh' yw' yli' yV' yE' hr => ?_)
    · have hki := qs_nm_in hR hC (hV1.1.2 j hj) (by omega) hn
      have hks : k ≠ s := by
        intro z
        subst z
        exact hcan k hk h0 (Or.inr (Or.inl ⟨j, hj, hn⟩))
      exact ⟨(pk_un hks).trans (hM k hk hki).2.1, (hM k hk hki).2.2.1⟩
    · obtain ⟨r1, r2, r3, r4⟩ := hr
      have hpos := qs_res_pos (f := G s) (st := σ.2.1) (vl := σ.2.2.1)
      generalize qs_res (G s) σ.2.1 σ.2.2.1 = res at h r1 r2 r3 r4 hpos
      obtain ⟨re, rh, rw', ro⟩ := res
      have r1' : yE' 0 = re := r1
      by_cases e1 : re = 0
      · have hq : ¬ ((re, rh, rw', ro) : qs_Res).1 ≠ 0 := fun z => z e1
        rw [if_neg hq] at h
        obtain ⟨p1, p2, p3⟩ := hpos e1
        have p1' : 0 < rh := p1
        have p2' : 0 < rw' := p2
        have p3' : rh * rw' ≤ 36 := p3
        have hrh : rh ≤ 36 := Nat.le_trans (Nat.le_mul_of_pos_right rh p2') p3'
        have hrw : rw' ≤ 36 := Nat.le_trans (Nat.le_mul_of_pos_left rw' p1') p3'
        refine br_t (r1'.trans e1) ?_
        simp (disch := omega) only [wY_settleCell_63, nI_add, pk_mul, qa_a1, qa_a2, qa_a3, qa_a4, qa_a5, qa_a6, qa_a7, qa_a8, qa_a56, qa_m6, qa_m7, qa_m8, qa_m56, qa_l2, qa_l37, qa_l2016, qa_in, nI_clamp, forall_eq, true_and, qa_cl0, nI_leI, nI_ltI, nI_eq, not_false_eq_true, pk_sub, qa_s1, qa_s2, qa_s8]
        refine br_t (r1'.trans e1) ?_
        by_cases e2 : qt_ar (G s)
        · refine qy_arr A.2 (by omega) A.1 (fun _ => ?_) (fun z => absurd e2 z)
          refine br_f (by decide) ?_
          rw [if_neg (fun z => z e2)] at h
          obtain ⟨r5, r6, r7⟩ := r4 e1 e2
          have r5' : yh' = nI rh := r5
          have r6' : yw' = nI rw' := r6
          have hv0 : yV' 0 = 0 := r2 (Or.inr e2)
          rw [r5', r6', hv0]
          simp (disch := omega) only [nI_add, pk_mul, qa_a1, qa_a2, qa_a3, qa_a4, qa_a5, qa_a6, qa_a7, qa_a8, qa_a56, qa_m6, qa_m7, qa_m8, qa_m56, qa_l2, qa_l37, qa_l2016, qa_in, nI_clamp, forall_eq, true_and, qa_cl0, nI_leI, nI_ltI, nI_eq, not_false_eq_true, pk_sub, qa_s1, qa_s2, qa_s8]
          have blocked : qs_blk R C G σ.2.2.2 s rh rw' → ∃ f, wY_settleCell_228 post (nI (s / 6)) (nI (s % 6)) 0 (nI R) (nI C) (nI rh) (nI rw') f 0 ycn ytk ysl (upd ysd s 1) (upd (upd (upd yst s 0) s 1) s 4) (upd yva s 0) yow yli' yV' yE' := by
            intro hb
            rw [if_pos (qa_bt hb)] at h
            refine ⟨37, qy_228z (h _ _ _ _ _ _ _ _ _ (fun x hx hxi => ⟨hS x hx hxi, ?_, ?_, (hM x hx hxi).2.2.2⟩)) 36 0 (by decide) 37 (by decide)⟩
            · show _ = upd σ.2.1 s 4 x
              by_cases e : x = s
              · subst e; rw [pk_us, pk_us]
              · rw [pk_un e, pk_un e, pk_un e, pk_un e]; exact (hM x hx hxi).2.1
            · show _ = σ.2.2.1 x
              by_cases e : x = s
              · subst e; rw [pk_us]; exact i0.symm
              · rw [pk_un e]; exact (hM x hx hxi).2.2.1
          by_cases b1 : R < s / 6 + rh
          · exact br_t b1 ⟨37, qy_130z hA hs (blocked (Or.inl b1)) 36 0 (by decide) 37 (by decide)⟩
          · refine br_f b1 ?_
            by_cases b2 : C < s % 6 + rw'
            · exact br_t b2 ⟨37, qy_130z hA hs (blocked (Or.inr (Or.inl b2))) 36 0 (by decide) 37 (by decide)⟩
            · refine br_f b2 ⟨37, qy_130y (ow' := σ.2.2.2) hA hs hR hC p1' p2' (by omega) (by omega) (fun x hx hxi => (hM x hx hxi).2.2.2) hO (fun ⟨x, a1, a2, a3⟩ => blocked (Or.inr (Or.inr ⟨x, a1, a3.1, a2, a3.2⟩))) (fun hnb => ?_) 36 0 (by decide) (fun x hx => absurd hx (Nat.not_lt_zero x)) 37 (by decide)⟩
              have hb : ¬ qs_blk R C G σ.2.2.2 s rh rw' := by
                rintro (z | z | ⟨x, a1, a2, a3, a4⟩)
                · exact b1 z
                · exact b2 z
                · exact hnb x a1 a3 ⟨a2, a4⟩
              rw [if_neg (by rw [qa_bf hb]; decide)] at h
              refine ⟨37, qy_228y hs p1' p2' (by omega) (by omega) (fun ysd' yst' yva' yow' hsq => h _ _ _ _ _ _ _ _ _ (fun x hx hxi => ?_)) 36 0 _ _ _ _ (by decide) (fun x hx => ⟨fun z => absurd z.2 (Nat.not_lt_zero x), fun _ => ⟨rfl, rfl, rfl, rfl⟩⟩) 37 (by decide)⟩
              show (ysd' x = 0 ↔ (if qs_area s rh rw' x then true else σ.1 x) = false) ∧ yst' x = (if qs_area s rh rw' x then 1 else σ.2.1 x) ∧ yva' x = (if qs_area s rh rw' x then ro ((x / 6 - s / 6) * rw' + (x % 6 - s % 6)) else σ.2.2.1 x) ∧ yow' x = qs_yo (if qs_area s rh rw' x then s + 1 else σ.2.2.2 x)
              by_cases ea : qs_area s rh rw' x
              · obtain ⟨q1, q2, q3, q4⟩ := (hsq x hx).1 ⟨ea, hx⟩
                rw [if_pos ea, if_pos ea, if_pos ea, if_pos ea, q1, q2, q3, q4]
                refine ⟨by decide, rfl, r7 _ ?_, by unfold qs_yo; rw [if_neg (by omega), Nat.add_sub_cancel]⟩
                show (x / 6 - s / 6) * rw' + (x % 6 - s % 6) < rh * rw'
                have ha := ea
                unfold qs_area at ha
                have l1 : (x / 6 - s / 6 + 1) * rw' ≤ rh * rw' := Nat.mul_le_mul_right rw' (by omega)
                rw [Nat.add_mul, Nat.one_mul] at l1
                omega
              · obtain ⟨q1, q2, q3, q4⟩ := (hsq x hx).2 (fun z => ea z.1)
                have hxs : x ≠ s := by
                  intro z
                  subst z
                  exact ea ⟨Nat.le_refl _, by omega, Nat.le_refl _, by omega⟩
                rw [pk_un hxs] at q1 q3
                rw [pk_un hxs, pk_un hxs] at q2
                rw [if_neg ea, if_neg ea, if_neg ea, if_neg ea, q1, q2, q3, q4]
                exact hM x hx hxi
        · refine qy_arr A.2 (by omega) A.1 (fun z => absurd z e2) (fun _ => ?_)
          refine br_t (by decide) ?_
          rw [if_pos e2] at h
          have hv0 : yV' 0 = ro 0 := r3 e1 e2
          refine h _ _ _ _ _ _ _ _ _ (fun x hx hxi => ⟨hS x hx hxi, ?_, ?_, (hM x hx hxi).2.2.2⟩)
          · show upd (upd yst s 0) s 1 x = upd σ.2.1 s 1 x
            by_cases e : x = s
            · subst e; rw [pk_us, pk_us]
            · rw [pk_un e, pk_un e, pk_un e]; exact (hM x hx hxi).2.1
          · show upd yva s (yV' 0) x = upd σ.2.2.1 s (ro 0) x
            rw [hv0]
            by_cases e : x = s
            · subst e; rw [pk_us, pk_us]
            · rw [pk_un e, pk_un e]; exact (hM x hx hxi).2.2.1
      · have hq : ((re, rh, rw', ro) : qs_Res).1 ≠ 0 := e1
        rw [if_pos hq] at h
        have hv0 : yV' 0 = 0 := r2 (Or.inl e1)
        refine br_f (fun z => e1 (r1'.symm.trans z)) ?_
        simp (disch := omega) only [wY_settleCell_63, nI_add, pk_mul, qa_a1, qa_a2, qa_a3, qa_a4, qa_a5, qa_a6, qa_a7, qa_a8, qa_a56, qa_m6, qa_m7, qa_m8, qa_m56, qa_l2, qa_l37, qa_l2016, qa_in, nI_clamp, forall_eq, true_and, qa_cl0, nI_leI, nI_ltI, nI_eq, not_false_eq_true, pk_sub, qa_s1, qa_s2, qa_s8]
        refine br_f (fun z => e1 (r1'.symm.trans z)) ?_
        refine h _ _ _ _ _ _ _ _ _ (fun x hx hxi => ⟨hS x hx hxi, ?_, ?_, (hM x hx hxi).2.2.2⟩)
        · show upd (upd yst s 0) s (yE' 0) x = upd σ.2.1 s re x
          rw [r1']
          by_cases e : x = s
          · subst e; rw [pk_us, pk_us]
          · rw [pk_un e, pk_un e, pk_un e]; exact (hM x hx hxi).2.1
        · show upd yva s (yV' 0) x = σ.2.2.1 x
          rw [hv0]
          by_cases e : x = s
          · subst e; rw [pk_us]; exact i0.symm
          · rw [pk_un e]; exact (hM x hx hxi).2.2.1
theorem qy_st52 {post : Int32 → SY → Prop} {G : Nat → qt_Fm} {R C p : Nat} {σ0 : qs_St} {J : Int32 → Int32 → Int32 → Int32 → Int32 → (Nat → Int32) → (Nat → Int32) → (Nat → Int32) → (Nat → Int32) → (Nat → Int32) → (Nat → Int32) → (Nat → Int32) → (Nat → Int32) → (Nat → Int32) → (Nat → Int32) → Prop}
    (hA : qt_AY 36 ytk ycn G) (hV : qt_VC R C G) (hR : R ≤ 6) (hC : C ≤ 6) (hI : qs_I σ0) (hO : qs_O σ0) (h : ∀ yh' yw' ysd' yst' yva' yow' yli' yV' yE', qs_YM R C (qs_ps R C G 36 σ0) ysd' yst' yva' yow' → J (nI (p + 1)) (nI R) (nI C) yh' yw' ycn ytk ysl ysd' yst' yva' yow' yli' yV' yE') :
    ∀ (d k : Nat) (yh yw : Int32) (ysd yst yva yow yli yV yE : Nat → Int32), k + d = 36 → qs_YM R C (qs_ps R C G k σ0) ysd yst yva yow → ∀ n, d < n → wY_settle_52 post J (nI p) n (nI k) (nI R) (nI C) yh yw ycn ytk ysl ysd yst yva yow yli yV yE := by
  intro d
  induction d with
  | zero =>
    intro k yh yw ysd yst yva yow yli yV yE hk hM n hn
    obtain ⟨n, rfl⟩ : ∃ z, n = z + 1 := ⟨n - 1, by omega⟩
    obtain rfl : k = 36 := by omega
    unfold wY_settle_52
    refine br_t (by decide) ?_
    simp (disch := omega) only [nI_add, pk_mul, qa_a1, qa_a2, qa_a3, qa_a4, qa_a5, qa_a6, qa_a7, qa_a8, qa_a56, qa_m6, qa_m7, qa_m8, qa_m56, qa_l2, qa_l37, qa_l2016, qa_in, nI_clamp, forall_eq, true_and, qa_cl0, nI_leI, nI_ltI, nI_eq, not_false_eq_true, pk_sub, qa_s1, qa_s2, qa_s8]
    exact h _ _ _ _ _ _ _ _ _ hM
  | succ d ih =>
    intro k yh yw ysd yst yva yow yli yV yE hk hM n hn
    obtain ⟨n, rfl⟩ : ∃ z, n = z + 1 := ⟨n - 1, by omega⟩
    have hIk := qs_ps_I (R := R) (C := C) (G := G) hI k
    have hOk := qs_ps_O (R := R) (C := C) (G := G) hO k (by omega)
    have hst : qs_ps R C G (k + 1) σ0 = qs_s1 R C G k (qs_ps R C G k σ0) := rfl
    have ih' := ih (k + 1)
    rw [hst] at ih'
    generalize qs_ps R C G k σ0 = τ at hM hIk hOk ih'
    have hcan := qs_can_y (σ := τ) (s := k) (ysd := ysd) hR hC hV (by omega) (fun x hx hxi => (hM x hx hxi).1)
    simp (disch := omega) only [wY_settle_52, qa_lel36, nI_add, pk_mul, qa_a1, qa_a2, qa_a3, qa_a4, qa_a5, qa_a6, qa_a7, qa_a8, qa_a56, qa_m6, qa_m7, qa_m8, qa_m56, qa_l2, qa_l37, qa_l2016, qa_in, nI_clamp, forall_eq, true_and, qa_cl0, nI_leI, nI_ltI, nI_eq, not_false_eq_true, pk_sub, qa_s1, qa_s2, qa_s8]
    refine br_f (by omega) ?_
    by_cases hin : qs_sh R C k
    · have hb := (hM k (by omega) hin).1
      have no : ¬ (τ.1 k = false ∧ qs_can G τ.1 k) → wY_settle_52 post J (nI p) n (nI (k + 1)) (nI R) (nI C) yh yw ycn ytk ysl ysd yst yva yow yli yV yE := by
        intro z
        rw [qs_s1_n z] at ih'
        exact ih' _ _ _ _ _ _ _ _ _ (by omega) hM n (by omega)
      by_cases e0 : ysd k = 0
      · refine br_t e0 ?_
        refine qy_can hA (by omega) (fun hc => ?_) (fun ⟨x, a1, a2, a3⟩ => ?_)
        · have hc' := hcan.mp hc
          have e0' := hb.mp e0
          refine br_f (by decide) ?_
          rw [qs_s1_y hin e0' hc'] at ih'
          exact qy_sc hA hV hR hC (by omega) hin hIk hOk e0' hc' hM (fun _ _ _ _ _ _ _ _ _ hM' => ih' _ _ _ _ _ _ _ _ _ (by omega) hM' n (by omega))
        · exact br_t (by decide) (no (fun z => hcan.mpr z.2 x a1 a2 a3))
      · exact br_f e0 (no (fun z => e0 (hb.mpr z.1)))
    · have hsk : qs_s1 R C G k τ = τ := by
        unfold qs_s1
        rw [if_neg (by rw [qa_bf (fun z => hin z.1)]; decide)]
      rw [hsk] at ih'
      have A := hA k (by omega)
      have hz : (G k).1 = 0 := by
        apply Decidable.byContradiction
        intro z
        have := (hV k (by omega)).2 (by omega)
        exact hin ⟨this.1, this.2.1⟩
      have m1 : ycn k = nI 0 := by have := A.2.1; rw [hz] at this; exact this
      by_cases e0 : ysd k = 0
      · refine br_t e0 ?_
        refine qy_can hA (by omega) (fun hc => ?_) (fun _ => br_t (by decide) (ih' _ _ _ _ _ _ _ _ _ (by omega) hM n (by omega)))
        refine br_f (by decide) ?_
        simp (disch := omega) only [wpY_settleCell, qa_n6, m1, nI_add, pk_mul, qa_a1, qa_a2, qa_a3, qa_a4, qa_a5, qa_a6, qa_a7, qa_a8, qa_a56, qa_m6, qa_m7, qa_m8, qa_m56, qa_l2, qa_l37, qa_l2016, qa_in, nI_clamp, forall_eq, true_and, qa_cl0, nI_leI, nI_ltI, nI_eq, not_false_eq_true, pk_sub, qa_s1, qa_s2, qa_s8]
        refine br_t (by decide) (ih' _ _ _ _ _ _ _ _ _ (by omega) (fun x hx hxi => ?_) n (by omega))
        have hxk : x ≠ k := by
          intro z
          subst z
          exact hin hxi
        rw [pk_un hxk, pk_un hxk]
        exact hM x hx hxi
      · exact br_f e0 (ih' _ _ _ _ _ _ _ _ _ (by omega) hM n (by omega))
theorem qy_st44 {post : Int32 → SY → Prop} {G : Nat → qt_Fm} {R C : Nat} (hA : qt_AY 36 ytk ycn G) (hV : qt_VC R C G) (hR : R ≤ 6) (hC : C ≤ 6)
    (h : ∀ yh' yw' ysd' yst' yva' yow' yli' yV' yE', qs_YM R C (qs_fin R C G) ysd' yst' yva' yow' → post 0 (nI R, nI C, yh', yw', ycn, ytk, ysl, ysd', yst', yva', yow', yli', yV', yE')) :
    ∀ (d p : Nat) (yh yw : Int32) (ysd yst yva yow yli yV yE : Nat → Int32), p + d = 36 → qs_YM R C (qs_it R C G p qs_0) ysd yst yva yow → ∀ n, d < n → wY_settle_44 post n (nI p) (nI R) (nI C) yh yw ycn ytk ysl ysd yst yva yow yli yV yE := by
  intro d
  induction d with
  | zero =>
    intro p yh yw ysd yst yva yow yli yV yE hp hM n hn
    obtain ⟨n, rfl⟩ : ∃ z, n = z + 1 := ⟨n - 1, by omega⟩
    obtain rfl : p = 36 := by omega
    unfold wY_settle_44
    exact br_t (by decide) (h _ _ _ _ _ _ _ _ _ hM)
  | succ d ih =>
    intro p yh yw ysd yst yva yow yli yV yE hp hM n hn
    obtain ⟨n, rfl⟩ : ∃ z, n = z + 1 := ⟨n - 1, by omega⟩
    simp (disch := omega) only [wY_settle_44, qa_lel36, nI_add, pk_mul, qa_a1, qa_a2, qa_a3, qa_a4, qa_a5, qa_a6, qa_a7, qa_a8, qa_a56, qa_m6, qa_m7, qa_m8, qa_m56, qa_l2, qa_l37, qa_l2016, qa_in, nI_clamp, forall_eq, true_and, qa_cl0, nI_leI, nI_ltI, nI_eq, not_false_eq_true, pk_sub, qa_s1, qa_s2, qa_s8]
    refine br_f (by omega) ⟨37, ?_⟩
    exact qy_st52 (σ0 := qs_it R C G p qs_0) hA hV hR hC (qs_it_I qs_I0 p) (qs_it_O qs_O0 p) (fun _ _ _ _ _ _ _ _ _ hM' => ih (p + 1) _ _ _ _ _ _ _ _ _ (by omega) hM' n (by omega)) 36 0 _ _ _ _ _ _ _ _ _ (by decide) hM 37 (by decide)
theorem qy_st2 {post : Int32 → SY → Prop} {G : Nat → qt_Fm} {R C : Nat} (hA : qt_AY 36 ytk ycn G) (hV : qt_VC R C G) (hR : R ≤ 6) (hC : C ≤ 6)
    (h : ∀ yh' yw' ysd' yst' yva' yow' yli' yV' yE', qs_YM R C (qs_fin R C G) ysd' yst' yva' yow' → post 0 (nI R, nI C, yh', yw', ycn, ytk, ysl, ysd', yst', yva', yow', yli', yV', yE')) :
    ∀ (d k : Nat) (ysd yst yva yow : Nat → Int32), k + d = 36 → (∀ s, s < k → ysd s = 0 ∧ yst s = 5 ∧ yva s = 0 ∧ yow s = -1) → ∀ n, d < n → wY_settle_2 post (nI R) (nI C) yh yw n (nI k) ycn ytk ysl ysd yst yva yow yli yV yE := by
  intro d
  induction d with
  | zero =>
    intro k ysd yst yva yow hk hZ n hn
    obtain ⟨n, rfl⟩ : ∃ z, n = z + 1 := ⟨n - 1, by omega⟩
    obtain rfl : k = 36 := by omega
    unfold wY_settle_2
    refine br_t (by decide) ⟨37, qy_st44 hA hV hR hC h 36 0 _ _ _ _ _ _ _ _ _ (by decide) (fun s hs _ => ?_) 37 (by decide)⟩
    obtain ⟨a1, a2, a3, a4⟩ := hZ s hs
    exact ⟨⟨fun _ => rfl, fun _ => a1⟩, a2, a3, a4⟩
  | succ d ih =>
    intro k ysd yst yva yow hk hZ n hn
    obtain ⟨n, rfl⟩ : ∃ z, n = z + 1 := ⟨n - 1, by omega⟩
    simp (disch := omega) only [wY_settle_2, qa_lel36, qa_nar0, nI_add, pk_mul, qa_a1, qa_a2, qa_a3, qa_a4, qa_a5, qa_a6, qa_a7, qa_a8, qa_a56, qa_m6, qa_m7, qa_m8, qa_m56, qa_l2, qa_l37, qa_l2016, qa_in, nI_clamp, forall_eq, true_and, qa_cl0, nI_leI, nI_ltI, nI_eq, not_false_eq_true, pk_sub, qa_s1, qa_s2, qa_s8]
    refine br_f (by omega) (ih (k + 1) _ _ _ _ (by omega) (fun s hs => ?_) n (by omega))
    by_cases e : s = k
    · subst e
      rw [pk_us, pk_us, pk_us, pk_us]
      exact ⟨rfl, rfl, rfl, rfl⟩
    · rw [pk_un e, pk_un e, pk_un e, pk_un e]
      exact hZ s (by omega)
theorem qy_settle {post : Int32 → SY → Prop} {G : Nat → qt_Fm} {R C : Nat} (hA : qt_AY 36 ytk ycn G) (hV : qt_VC R C G) (hR : R ≤ 6) (hC : C ≤ 6)
    (h : ∀ yh' yw' ysd' yst' yva' yow' yli' yV' yE', qs_YM R C (qs_fin R C G) ysd' yst' yva' yow' → post 0 (nI R, nI C, yh', yw', ycn, ytk, ysl, ysd', yst', yva', yow', yli', yV', yE')) : wpY_settle post (nI R, nI C, yh, yw, ycn, ytk, ysl, ysd, yst, yva, yow, yli, yV, yE) := by
  unfold wpY_settle
  exact ⟨37, qy_st2 hA hV hR hC h 36 0 _ _ _ _ (by decide) (fun s hs => absurd hs (Nat.not_lt_zero s)) 37 (by decide)⟩
end
end
section
/-! the token operations: both layouts, validity -/
theorem qt_yvn {t : Nat → Int32} (h : ¬ t 0 = 2) : qt_yv t = t := by
  funext f
  unfold qt_yv
  rw [if_neg (fun z => h z.1)]
theorem qt_yv_put {k : Int32} : qt_yv (qt_put k 1) = qt_put k 1 := by
  funext f
  unfold qt_yv
  by_cases e : qt_put k 1 0 = 2 ∧ 5 ≤ f
  · rw [if_pos e]
    unfold qt_put
    rw [if_neg (by omega), if_neg (by omega), if_neg (by omega), if_neg (by omega)]
  · rw [if_neg e]
theorem qt_le_of {a b : Int32} (h : ¬ a < b) (h' : ¬ a = b) : ¬ a ≤ b := by
  rw [Int32.le_iff_toInt_le]
  rw [Int32.lt_iff_toInt_lt] at h
  have : ¬ a.toInt = b.toInt := fun z => h' (Int32.toInt_inj.mp z)
  omega
theorem qt_le_lt {a b : Int32} (h : a < b) : a ≤ b := by
  rw [Int32.le_iff_toInt_le]
  rw [Int32.lt_iff_toInt_lt] at h
  omega
theorem qt_gy_e {t : Nat → Int32} {ax : Nat} {at' : Int32} (ha : ax < 2) : ∀ f, f < 8 → qt_gy ax at' (qt_yv t) f = qt_yv (qt_gro ax at' t) f := by
  by_cases e : t 0 = 2
  · match ax, ha with
    | 0, _ =>
      by_cases c : t 2 < at'
      · have g : qt_gro 0 at' t = t := by simp [qt_gro, qt_gr1, c, e]
        have y : qt_gy 0 at' (qt_yv t) = qt_yv t := by simp [qt_gy, qt_gk, qt_yv, e, c]
        rw [g, y]; exact fun _ _ => rfl
      · have g : qt_gro 0 at' t = upd t 2 (t 2 + 1) := by simp [qt_gro, qt_gr1, c, upd, e]
        rw [g]
        refine qa_f8 ?_ ?_ ?_ ?_ ?_ ?_ ?_ ?_ <;> simp [qt_gy, qt_gk, qt_yv, e, c, upd]
    | 1, _ =>
      by_cases c : t 3 < at'
      · have g : qt_gro 1 at' t = t := by simp [qt_gro, qt_gr1, c, e]
        have y : qt_gy 1 at' (qt_yv t) = qt_yv t := by simp [qt_gy, qt_gk, qt_yv, e, c]
        rw [g, y]; exact fun _ _ => rfl
      · have g : qt_gro 1 at' t = upd t 3 (t 3 + 1) := by simp [qt_gro, qt_gr1, c, upd, e]
        rw [g]
        refine qa_f8 ?_ ?_ ?_ ?_ ?_ ?_ ?_ ?_ <;> simp [qt_gy, qt_gk, qt_yv, e, c, upd]
  · have g : qt_gro ax at' t = qt_gy ax at' t := by
      unfold qt_gro qt_gr1 qt_gy qt_gk
      by_cases c : t (2 + ax) < at'
      · rw [if_pos c, if_neg e]
      · rw [if_neg c, if_neg (by rw [pk_un (by omega)]; exact e)]
    have g0 : qt_gy ax at' t 0 = t 0 := by
      unfold qt_gy qt_gk
      split <;> split <;> simp only [pk_un (show 0 ≠ 5 + ax by omega), pk_un (show 0 ≠ 2 + ax by omega)]
    rw [g, qt_yvn e, qt_yvn (by rw [g0]; exact e)]
    exact fun _ _ => rfl
theorem qt_dy_e {t : Nat → Int32} {ax : Nat} {at' : Int32} (ha : ax < 2) : ∀ f, f < 8 → qt_dy ax at' (qt_yv t) f = qt_yv (qt_shr ax at' t) f := by
  by_cases e : t 0 = 2
  · have y2 : qt_yv t (2 + ax) = t (2 + ax) := qt_yv_lo (by omega)
    have y5 : qt_yv t (5 + ax) = t (2 + ax) := by
      unfold qt_yv
      rw [if_pos ⟨e, by omega⟩, show 5 + ax - 3 = 2 + ax by omega]
    by_cases c : t (2 + ax) = at'
    · have g : qt_shr ax at' t = qt_put (t 0) 1 := by unfold qt_shr; rw [if_pos ⟨c, Or.inl e⟩]
      have y : qt_dy ax at' (qt_yv t) = qt_put (t 0) 1 := by
        unfold qt_dy
        rw [y2, y5, if_pos ⟨c, c⟩, qt_yv_lo (by decide)]
      rw [g, y, qt_yv_put]; exact fun _ _ => rfl
    · have g : qt_shr ax at' t = if t (2 + ax) ≤ at' then t else upd t (2 + ax) (t (2 + ax) - 1) := by
        unfold qt_shr qt_sh2 qt_sh1
        rw [if_neg (fun z => c z.1), if_pos e, if_neg (by decide)]
      have y : qt_dy ax at' (qt_yv t) = if t (2 + ax) < at' then qt_yv t else upd (upd (qt_yv t) (2 + ax) (t (2 + ax) - 1)) (5 + ax) (t (2 + ax) - 1) := by
        unfold qt_dy
        rw [y2, y5, if_neg (fun z => c z.1)]
        by_cases c2 : t (2 + ax) < at'
        · rw [if_pos c2, if_pos c2, if_pos (qt_le_lt c2)]
        · rw [if_neg c2, if_neg c2, if_neg (qt_le_of c2 c)]
      rw [g, y]
      by_cases c2 : t (2 + ax) < at'
      · rw [if_pos c2, if_pos (qt_le_lt c2)]; exact fun _ _ => rfl
      · rw [if_neg c2, if_neg (qt_le_of c2 c)]
        match ax, ha with
        | 0, _ => refine qa_f8 ?_ ?_ ?_ ?_ ?_ ?_ ?_ ?_ <;> simp [qt_yv, e, upd]
        | 1, _ => refine qa_f8 ?_ ?_ ?_ ?_ ?_ ?_ ?_ ?_ <;> simp [qt_yv, e, upd]
  · rw [qt_yvn e]
    have g : qt_shr ax at' t = qt_dy ax at' t := by
      unfold qt_shr qt_dy
      by_cases c : t (2 + ax) = at' ∧ t (5 + ax) = at'
      · rw [if_pos c, if_pos ⟨c.1, Or.inr c.2⟩]
      · rw [if_neg c, if_neg (fun z => c ⟨z.1, z.2.resolve_left e⟩), if_neg e]
        unfold qt_sh2 qt_sh1
        rw [if_pos rfl]
        by_cases c3 : t (2 + ax) ≤ at'
        · simp only [if_pos c3]
        · simp only [if_neg c3]
          rw [pk_un (show 5 + ax ≠ 2 + ax by omega)]
    have g0 : qt_dy ax at' t 0 = t 0 := by
      unfold qt_dy
      split
      · rfl
      · split
        · split
          · rfl
          · rw [pk_un (by omega)]
        · rw [pk_un (by omega)]
          split
          · rfl
          · rw [pk_un (by omega)]
    rw [g, qt_yvn (by rw [g0]; exact e)]
    exact fun _ _ => rfl
/-- marks -/
theorem qt_mark : ∀ m, m < 4 → ∀ q, q < 4 → ((nI m &&& ((1 : Int32) ^^^ (-1))) ||| (nI q &&& 1)) = nI m - (nI m &&& nI 1) + (nI q &&& nI 1) ∧ ((nI m &&& ((2 : Int32) ^^^ (-1))) ||| (nI q &&& 2)) = nI m - (nI m &&& nI 2) + (nI q &&& nI 2) := by decide +kernel
theorem qt_mark4 : ∀ m, m < 4 → ∀ q, q < 4 → (∃ k, k < 4 ∧ ((nI m &&& ((1 : Int32) ^^^ (-1))) ||| (nI q &&& 1)) = nI k) ∧ (∃ k, k < 4 ∧ ((nI m &&& ((2 : Int32) ^^^ (-1))) ||| (nI q &&& 2)) = nI k) := by decide +kernel
theorem qt_exc_e {t : Nat → Int32} {m q : Nat} (hm : m < 4) (hq : q < 4) (e4 : t 4 = nI m) (e7 : t 7 = nI q) : (if t 2 ≤ t 5 then t else qt_exc t 0 1) = qt_yo 0 t ∧ (if t 3 ≤ t 6 then t else qt_exc t 1 2) = qt_yo 1 t := by
  have h1 := qt_mark m hm q hq
  have h2 := qt_mark q hq m hm
  constructor
  · unfold qt_yo
    by_cases c : t 2 ≤ t 5
    · rw [if_pos c, if_neg (Int32.not_lt.mpr c)]
    · rw [if_neg c, if_pos (Int32.not_le.mp c)]
      unfold qt_exc
      rw [e4, e7, h1.1, h2.1]
  · unfold qt_yo
    by_cases c : t 3 ≤ t 6
    · rw [if_pos c, if_neg (Int32.not_lt.mpr c)]
    · rw [if_neg c, if_pos (Int32.not_le.mp c)]
      unfold qt_exc
      rw [e4, e7, h1.2, h2.2]
/-- what ordering gives: marks stay marks, corners are the old ones in order -/
theorem qt_or_m {t : Nat → Int32} {m q : Nat} (hm : m < 4) (hq : q < 4) (e4 : t 4 = nI m) (e7 : t 7 = nI q) : ∃ m' q', m' < 4 ∧ q' < 4 ∧ (if t 2 ≤ t 5 then t else qt_exc t 0 1) 4 = nI m' ∧ (if t 2 ≤ t 5 then t else qt_exc t 0 1) 7 = nI q' := by
  by_cases c : t 2 ≤ t 5
  · rw [if_pos c]; exact ⟨m, q, hm, hq, e4, e7⟩
  · rw [if_neg c]
    obtain ⟨⟨a, ha, ea⟩, -⟩ := qt_mark4 m hm q hq
    obtain ⟨⟨b, hb, eb⟩, -⟩ := qt_mark4 q hq m hm
    refine ⟨a, b, ha, hb, ?_, ?_⟩
    · rw [← ea, ← e4, ← e7]; rfl
    · rw [← eb, ← e4, ← e7]; rfl
theorem qt_ord_e {t : Nat → Int32} {m q : Nat} (hm : m < 4) (hq : q < 4) (e4 : t 4 = nI m) (e7 : t 7 = nI q) : qt_ord t = qt_yo 1 (qt_yo 0 t) := by
  obtain ⟨m', q', h1, h2, h3, h4⟩ := qt_or_m hm hq e4 e7
  unfold qt_ord qt_or1
  rw [(qt_exc_e h1 h2 h3 h4).2, (qt_exc_e hm hq e4 e7).1]
theorem qt_exc_f {t : Nat → Int32} {bit : Int32} : qt_exc t 0 bit 0 = t 0 ∧ qt_exc t 0 bit 1 = t 1 ∧ qt_exc t 0 bit 2 = t 5 ∧ qt_exc t 0 bit 3 = t 3 ∧ qt_exc t 0 bit 5 = t 2 ∧ qt_exc t 0 bit 6 = t 6 ∧
    qt_exc t 1 bit 0 = t 0 ∧ qt_exc t 1 bit 1 = t 1 ∧ qt_exc t 1 bit 2 = t 2 ∧ qt_exc t 1 bit 3 = t 6 ∧ qt_exc t 1 bit 5 = t 5 ∧ qt_exc t 1 bit 6 = t 3 := by
  simp [qt_exc, upd]
/-- an ordered range is valid -/
theorem qt_ord_LV {R C : Nat} {t : Nat → Int32} {r c r' c' m q : Nat} (hR : R ≤ 6) (hC : C ≤ 6) (h0 : ¬ t 0 = 2) (hr : r < R) (hc : c < C) (hr' : r' < R) (hc' : c' < C) (hm : m < 4) (hq : q < 4) (e2 : t 2 = nI r) (e3 : t 3 = nI c) (e4 : t 4 = nI m) (e5 : t 5 = nI r') (e6 : t 6 = nI c') (e7 : t 7 = nI q) : qt_LV R C (qt_ord t) ∧ qt_ord t 0 = t 0 ∧ qt_ord t 1 = t 1 := by
  obtain ⟨f0, f1, f2, f3, f5, f6, -⟩ := qt_exc_f (t := t) (bit := 1)
  -- behind the rows
  have s1 : ∃ u : Nat → Int32, (if t 2 ≤ t 5 then t else qt_exc t 0 1) = u ∧ u 0 = t 0 ∧ u 1 = t 1 ∧ u 3 = nI c ∧ u 6 = nI c' ∧ (∃ a b m' q', a ≤ b ∧ b < R ∧ m' < 4 ∧ q' < 4 ∧ u 2 = nI a ∧ u 5 = nI b ∧ u 4 = nI m' ∧ u 7 = nI q') := by
    obtain ⟨m', q', g1, g2, g3, g4⟩ := qt_or_m hm hq e4 e7
    refine ⟨_, rfl, ?_⟩
    by_cases z : t 2 ≤ t 5
    · rw [if_pos z] at g3 g4 ⊢
      have z' := z
      rw [e2, e5, nI_leI (by omega) (by omega)] at z'
      exact ⟨rfl, rfl, e3, e6, r, r', m', q', z', hr', g1, g2, e2, e5, g3, g4⟩
    · rw [if_neg z] at g3 g4 ⊢
      have z' := z
      rw [e2, e5, nI_leI (by omega) (by omega)] at z'
      exact ⟨f0, f1, f3.trans e3, f6.trans e6, r', r, m', q', by omega, hr, g1, g2, f2.trans e5, f5.trans e2, g3, g4⟩
  obtain ⟨u, hu, u0, u1, u3, u6, a, b, m', q', hab, hb, hm', hq', u2, u5, u4, u7⟩ := s1
  obtain ⟨-, -, -, -, -, -, v0, v1, v2, v3, v5, v6⟩ := qt_exc_f (t := u) (bit := 2)
  unfold qt_ord qt_or1
  rw [hu]
  by_cases z : u 3 ≤ u 6
  · rw [if_pos z]
    rw [u3, u6, nI_leI (by omega) (by omega)] at z
    refine ⟨⟨a, c, b, c', m', q', hab, hb, z, hc', hm', hq', u2, u3, u4, ?_, ?_, fun _ => u7, fun y => absurd (u0.symm.trans y) h0⟩, u0, u1⟩
    · unfold qt_bot; rw [if_neg (by rw [u0]; exact h0)]; exact u5
    · unfold qt_rgt; rw [if_neg (by rw [u0]; exact h0)]; exact u6
  · rw [if_neg z]
    rw [u3, u6, nI_leI (by omega) (by omega)] at z
    obtain ⟨-, k1, hk1, x1⟩ := qt_mark4 m' hm' q' hq'
    obtain ⟨-, k2, hk2, x2⟩ := qt_mark4 q' hq' m' hm'
    refine ⟨⟨a, c', b, c, k1, k2, hab, hb, by omega, hc, hk1, hk2, v2.trans u2, v3.trans u6, ?_, ?_, ?_, fun _ => ?_, fun y => absurd ((v0.trans u0).symm.trans y) h0⟩, v0.trans u0, v1.trans u1⟩
    · rw [← x1, ← u4, ← u7]; rfl
    · unfold qt_bot; rw [if_neg (by rw [v0, u0]; exact h0)]; exact v5.trans u5
    · unfold qt_rgt; rw [if_neg (by rw [v0, u0]; exact h0)]; exact v6.trans u3
    · rw [← x2, ← u4, ← u7]; rfl
theorem qt_put_VT {R C : Nat} {k : Int32} (h : qt_rk k) : qt_VT R C (qt_put k 1) := by
  refine Or.inr (Or.inr ⟨h, Or.inl ⟨rfl, fun f h1 h2 => ?_⟩⟩)
  unfold qt_put
  rw [if_neg (by omega), if_neg (by omega)]
theorem qt_live_VT {R C : Nat} {t : Nat → Int32} (h : qt_rk (t 0)) (h1 : t 1 = 0) (h2 : qt_LV R C t) : qt_VT R C t := Or.inr (Or.inr ⟨h, Or.inr ⟨h1, h2⟩⟩)
end
section
/-! shifting and moving a token; validity -/
theorem qt_cc_e {t : Nat → Int32} {dr dc : Int32} : qt_cc dr dc t = qt_sco 5 dr dc (qt_sco 2 dr dc t) := by
  funext f
  unfold qt_cc qt_cr qt_sco qt_sc1
  have hf : f = 2 ∨ f = 3 ∨ f = 5 ∨ f = 6 ∨ (f ≠ 2 ∧ f ≠ 3 ∧ f ≠ 5 ∧ f ≠ 6) := by omega
  by_cases a : t 4 &&& 1 = 0 <;> by_cases b : t 4 &&& 2 = 0 <;> by_cases c : t 7 &&& 1 = 0 <;> by_cases d : t 7 &&& 2 = 0 <;> rcases hf with rfl | rfl | rfl | rfl | ⟨h2, h3, h5, h6⟩ <;> simp [upd, *]
theorem qt_cc_y {t : Nat → Int32} {dr dc : Int32} (e : t 0 = 2) : ∀ f, f < 8 → qt_cc dr dc (qt_yv t) f = qt_yv (qt_sco 2 dr dc t) f := by
  have e0 : qt_sco 2 dr dc t 0 = 2 := by rw [qt_sco_o (by decide) (by decide)]; exact e
  by_cases a : t 4 &&& 1 = 0 <;> by_cases b : t 4 &&& 2 = 0 <;> refine qa_f8 ?_ ?_ ?_ ?_ ?_ ?_ ?_ ?_ <;> simp [qt_cc, qt_cr, qt_sco, qt_sc1, qt_yv, upd, *]
theorem qt_LV_ref {R C r c m : Nat} {t : Nat → Int32} (h0 : t 0 = 2) (hr : r < R) (hc : c < C) (hm : m < 4) (e2 : t 2 = nI r) (e3 : t 3 = nI c) (e4 : t 4 = nI m) (e5 : t 5 = 0) (e6 : t 6 = 0) (e7 : t 7 = 0) : qt_LV R C t := by
  refine ⟨r, c, r, c, m, 0, Nat.le_refl _, hr, Nat.le_refl _, hc, hm, by decide, e2, e3, e4, ?_, ?_, fun z => absurd h0 z, fun _ => ⟨e5, e6, e7⟩⟩
  · unfold qt_bot; rw [if_pos h0]; exact e2
  · unfold qt_rgt; rw [if_pos h0]; exact e3
theorem qt_LV_rng {R C r c r' c' m q : Nat} {t : Nat → Int32} (h0 : ¬ t 0 = 2) (hr : r ≤ r') (hr' : r' < R) (hc : c ≤ c') (hc' : c' < C) (hm : m < 4) (hq : q < 4) (e2 : t 2 = nI r) (e3 : t 3 = nI c) (e4 : t 4 = nI m) (e5 : t 5 = nI r') (e6 : t 6 = nI c') (e7 : t 7 = nI q) : qt_LV R C t := by
  refine ⟨r, c, r', c', m, q, hr, hr', hc, hc', hm, hq, e2, e3, e4, ?_, ?_, fun _ => e7, fun z => absurd z h0⟩
  · unfold qt_bot; rw [if_neg h0]; exact e5
  · unfold qt_rgt; rw [if_neg h0]; exact e6
/-- a live token's fields -/
theorem qt_LV_ref' {R C : Nat} {t : Nat → Int32} (h : qt_LV R C t) (h0 : t 0 = 2) : ∃ r c m, r < R ∧ c < C ∧ m < 4 ∧ t 2 = nI r ∧ t 3 = nI c ∧ t 4 = nI m ∧ t 5 = 0 ∧ t 6 = 0 ∧ t 7 = 0 := by
  obtain ⟨r, c, r', c', m, m', q1, q2, q3, q4, q5, q6, e2, e3, e4, e5, e6, e7, e8⟩ := h
  exact ⟨r, c, m, by omega, by omega, q5, e2, e3, e4, e8 h0⟩
theorem qt_LV_rng' {R C : Nat} {t : Nat → Int32} (h : qt_LV R C t) (h0 : ¬ t 0 = 2) : ∃ r c r' c' m q, r ≤ r' ∧ r' < R ∧ c ≤ c' ∧ c' < C ∧ m < 4 ∧ q < 4 ∧ t 2 = nI r ∧ t 3 = nI c ∧ t 4 = nI m ∧ t 5 = nI r' ∧ t 6 = nI c' ∧ t 7 = nI q := by
  obtain ⟨r, c, r', c', m, m', q1, q2, q3, q4, q5, q6, e2, e3, e4, e5, e6, e7, e8⟩ := h
  unfold qt_bot at e5
  unfold qt_rgt at e6
  rw [if_neg h0] at e5 e6
  exact ⟨r, c, r', c', m, m', q1, q2, q3, q4, q5, q6, e2, e3, e4, e5, e6, e7 h0⟩
theorem qt_cy_e {R C : Nat} {t : Nat → Int32} {dr dc : Int32} (h : qt_LV R C t) : ∀ f, f < 8 → qt_cy R C dr dc (qt_yv t) f = qt_yv (qt_shf R C dr dc t) f := by
  by_cases e : t 0 = 2
  · have hy := qt_cc_y (dr := dr) (dc := dc) e
    have e0 : qt_sco 2 dr dc t 0 = 2 := by rw [qt_sco_o (by decide) (by decide)]; exact e
    have h2 := hy 2 (by decide)
    have h3 := hy 3 (by decide)
    have h5 := hy 5 (by decide)
    have h6 := hy 6 (by decide)
    rw [qt_yv_lo (by decide)] at h2 h3
    have y5 : qt_yv (qt_sco 2 dr dc t) 5 = qt_sco 2 dr dc t 2 := by rw [qt_yv5]; unfold qt_bot; rw [if_pos e0]
    have y6 : qt_yv (qt_sco 2 dr dc t) 6 = qt_sco 2 dr dc t 3 := by rw [qt_yv6]; unfold qt_rgt; rw [if_pos e0]
    rw [y5] at h5
    rw [y6] at h6
    unfold qt_cy qt_shf
    rw [h2, h3, h5, h6, if_pos e]
    by_cases i : qt_in R C (qt_sco 2 dr dc t 2) (qt_sco 2 dr dc t 3)
    · rw [if_pos (qa_bt ⟨i, i⟩), if_pos (qa_bt i)]
      have z0 : qt_yo 0 (qt_cc dr dc (qt_yv t)) = qt_cc dr dc (qt_yv t) := by
        unfold qt_yo
        rw [if_neg]
        show ¬ qt_cc dr dc (qt_yv t) 5 < qt_cc dr dc (qt_yv t) 2
        rw [h5, h2]; exact fun z => Int32.lt_irrefl z
      have z1 : qt_yo 1 (qt_cc dr dc (qt_yv t)) = qt_cc dr dc (qt_yv t) := by
        unfold qt_yo
        rw [if_neg]
        show ¬ qt_cc dr dc (qt_yv t) 6 < qt_cc dr dc (qt_yv t) 3
        rw [h6, h3]; exact fun z => Int32.lt_irrefl z
      rw [z0, z1]
      exact hy
    · rw [if_neg (by rw [qa_bf (fun z => i z.1)]; decide), if_neg (by rw [qa_bf i]; decide), qt_yv_put, qt_yv_lo (by decide)]
      exact fun _ _ => rfl
  · rw [qt_yvn e]
    unfold qt_cy qt_shf
    rw [if_neg e, qt_cc_e]
    have f0 : ∀ k, k ≠ 2 → k ≠ 3 → k ≠ 5 → k ≠ 6 → qt_sco 5 dr dc (qt_sco 2 dr dc t) k = t k := fun k a1 a2 a3 a4 => by rw [qt_sco_o a3 a4, qt_sco_o a1 a2]
    have f2 : qt_sco 5 dr dc (qt_sco 2 dr dc t) 2 = qt_sco 2 dr dc t 2 := qt_sco_o (by decide) (by decide)
    have f3 : qt_sco 5 dr dc (qt_sco 2 dr dc t) 3 = qt_sco 2 dr dc t 3 := qt_sco_o (by decide) (by decide)
    rw [f2, f3]
    obtain ⟨r, c, r', c', m, q, -, -, -, -, hm, hq, -, -, e4, -, -, e7⟩ := qt_LV_rng' h e
    have g0 : ∀ u : Nat → Int32, qt_yo 1 (qt_yo 0 u) 0 = u 0 := by
      intro u
      unfold qt_yo
      split <;> split <;> simp [upd]
    by_cases i : qt_in R C (qt_sco 2 dr dc t 2) (qt_sco 2 dr dc t 3) ∧ qt_in R C (qt_sco 5 dr dc (qt_sco 2 dr dc t) 5) (qt_sco 5 dr dc (qt_sco 2 dr dc t) 6)
    · rw [if_pos (qa_bt i), if_pos (qa_bt i), qt_ord_e hm hq ((f0 4 (by decide) (by decide) (by decide) (by decide)).trans e4) ((f0 7 (by decide) (by decide) (by decide) (by decide)).trans e7)]
      rw [qt_yvn (by rw [g0, f0 0 (by decide) (by decide) (by decide) (by decide)]; exact e)]
      exact fun _ _ => rfl
    · rw [if_neg (by rw [qa_bf i]; decide), if_neg (by rw [qa_bf i]; decide), qt_yv_put]
      exact fun _ _ => rfl
/-- valid again, of the same kind -/
def qt_ok (R C : Nat) (t u : Nat → Int32) : Prop := qt_VT R C u ∧ u 0 = t 0
theorem qt_shf_ok {R C : Nat} {t : Nat → Int32} {dr dc : Int32} (hR : R ≤ 6) (hC : C ≤ 6) (hv : qt_VT R C t) (l : qt_lv t) : qt_ok R C t (qt_shf R C dr dc t) := by
  obtain ⟨h, hk⟩ := qt_VT_lv hv l
  unfold qt_shf
  by_cases e : t 0 = 2
  · rw [if_pos e]
    by_cases i : qt_in R C (qt_sco 2 dr dc t 2) (qt_sco 2 dr dc t 3)
    · rw [if_pos (qa_bt i)]
      obtain ⟨r, c, m, -, -, hm, -, -, e4, e5, e6, e7⟩ := qt_LV_ref' h e
      obtain ⟨a, b, ha, hb, ea, eb⟩ := i
      have o : ∀ k, k ≠ 2 → k ≠ 3 → qt_sco 2 dr dc t k = t k := fun k a1 a2 => qt_sco_o a1 a2
      refine ⟨qt_live_VT (by rw [o 0 (by decide) (by decide)]; exact hk) (by rw [o 1 (by decide) (by decide)]; exact l.2.2) (qt_LV_ref (by rw [o 0 (by decide) (by decide)]; exact e) ha hb hm ea eb (by rw [o 4 (by decide) (by decide)]; exact e4) (by rw [o 5 (by decide) (by decide)]; exact e5) (by rw [o 6 (by decide) (by decide)]; exact e6) (by rw [o 7 (by decide) (by decide)]; exact e7)), o 0 (by decide) (by decide)⟩
    · rw [if_neg (by rw [qa_bf i]; decide)]
      exact ⟨qt_put_VT hk, rfl⟩
  · rw [if_neg e]
    have f0 : ∀ k, k ≠ 2 → k ≠ 3 → k ≠ 5 → k ≠ 6 → qt_sco 5 dr dc (qt_sco 2 dr dc t) k = t k := fun k a1 a2 a3 a4 => by rw [qt_sco_o a3 a4, qt_sco_o a1 a2]
    have f2 : qt_sco 5 dr dc (qt_sco 2 dr dc t) 2 = qt_sco 2 dr dc t 2 := qt_sco_o (by decide) (by decide)
    have f3 : qt_sco 5 dr dc (qt_sco 2 dr dc t) 3 = qt_sco 2 dr dc t 3 := qt_sco_o (by decide) (by decide)
    obtain ⟨r, c, r', c', m, q, -, -, -, -, hm, hq, -, -, e4, -, -, e7⟩ := qt_LV_rng' h e
    by_cases i : qt_in R C (qt_sco 2 dr dc t 2) (qt_sco 2 dr dc t 3) ∧ qt_in R C (qt_sco 5 dr dc (qt_sco 2 dr dc t) 5) (qt_sco 5 dr dc (qt_sco 2 dr dc t) 6)
    · rw [if_pos (qa_bt i)]
      obtain ⟨⟨a, b, ha, hb, ea, eb⟩, a', b', ha', hb', ea', eb'⟩ := i
      have z0 := f0 0 (by decide) (by decide) (by decide) (by decide)
      have z1 := f0 1 (by decide) (by decide) (by decide) (by decide)
      obtain ⟨g1, g2, g3⟩ := qt_ord_LV (t := qt_sco 5 dr dc (qt_sco 2 dr dc t)) hR hC (by rw [z0]; exact e) ha hb ha' hb' hm hq (f2.trans ea) (f3.trans eb) ((f0 4 (by decide) (by decide) (by decide) (by decide)).trans e4) ea' eb' ((f0 7 (by decide) (by decide) (by decide) (by decide)).trans e7)
      exact ⟨qt_live_VT (by rw [g2, z0]; exact hk) (by rw [g3, z1]; exact l.2.2) g1, g2.trans z0⟩
    · rw [if_neg (by rw [qa_bf i]; decide)]
      exact ⟨qt_put_VT hk, rfl⟩
/-- rows of an inserted, a deleted line -/
theorem qt_gro_ok {R C ax a : Nat} {t : Nat → Int32} (ha : ax < 2) (hR : R ≤ 6) (hC : C ≤ 6) (haa : a < 6) (hv : qt_VT R C t) (l : qt_lv t) (hx : ax = 0 → ∀ r, qt_bot t = nI r → r < R → r + 1 < R) (hy : ax = 1 → ∀ c, qt_rgt t = nI c → c < C → c + 1 < C) : qt_ok R C t (qt_gro ax (nI a) t) := by
  obtain ⟨h, hk⟩ := qt_VT_lv hv l
  have o0 : qt_gro ax (nI a) t 0 = t 0 := by
    unfold qt_gro qt_gr1
    split <;> split <;> try split
    all_goals simp only [pk_un (show 0 ≠ 5 + ax by omega), pk_un (show 0 ≠ 2 + ax by omega)]
  have o1 : qt_gro ax (nI a) t 1 = t 1 := by
    unfold qt_gro qt_gr1
    split <;> split <;> try split
    all_goals simp only [pk_un (show 1 ≠ 5 + ax by omega), pk_un (show 1 ≠ 2 + ax by omega)]
  refine ⟨qt_live_VT (by rw [o0]; exact hk) (by rw [o1]; exact l.2.2) ?_, o0⟩
  by_cases e : t 0 = 2
  · obtain ⟨r, c, m, hr, hc, hm, e2, e3, e4, e5, e6, e7⟩ := qt_LV_ref' h e
    match ax, ha with
    | 0, _ =>
      have := hx rfl r (by unfold qt_bot; rw [if_pos e]; exact e2) hr
      by_cases z : t 2 < nI a
      · have g : qt_gro 0 (nI a) t = t := by simp [qt_gro, qt_gr1, z, e]
        rw [g]; exact h
      · have g : qt_gro 0 (nI a) t = upd t 2 (t 2 + 1) := by simp [qt_gro, qt_gr1, z, upd, e]
        rw [g]
        refine qt_LV_ref (r := r + 1) (c := c) (m := m) ?_ this hc hm ?_ ?_ ?_ ?_ ?_ ?_ <;> simp [upd, e, e2, e3, e4, e5, e6, e7, nI_1]
    | 1, _ =>
      have := hy rfl c (by unfold qt_rgt; rw [if_pos e]; exact e3) hc
      by_cases z : t 3 < nI a
      · have g : qt_gro 1 (nI a) t = t := by simp [qt_gro, qt_gr1, z, e]
        rw [g]; exact h
      · have g : qt_gro 1 (nI a) t = upd t 3 (t 3 + 1) := by simp [qt_gro, qt_gr1, z, upd, e]
        rw [g]
        refine qt_LV_ref (r := r) (c := c + 1) (m := m) ?_ hr this hm ?_ ?_ ?_ ?_ ?_ ?_ <;> simp [upd, e, e2, e3, e4, e5, e6, e7, nI_1]
  · obtain ⟨r, c, r', c', m, q, hr, hr', hc, hc', hm, hq, e2, e3, e4, e5, e6, e7⟩ := qt_LV_rng' h e
    match ax, ha with
    | 0, _ =>
      have := hx rfl r' (by unfold qt_bot; rw [if_neg e]; exact e5) hr'
      have g2 : qt_gro 0 (nI a) t = fun f => if f = 2 then nI (if r < a then r else r + 1) else if f = 5 then nI (if r' < a then r' else r' + 1) else t f := by
        funext f
        by_cases z : r < a <;> by_cases z' : r' < a <;> by_cases f2 : f = 2 <;> by_cases f5 : f = 5 <;> simp (disch := omega) [qt_gro, qt_gr1, upd, e, e2, e5, nI_ltI, z, z', f2, f5, nI_1]
      rw [g2]
      refine qt_LV_rng (r := if r < a then r else r + 1) (c := c) (r' := if r' < a then r' else r' + 1) (c' := c') (m := m) (q := q) ?_ ?_ ?_ hc hc' hm hq ?_ ?_ ?_ ?_ ?_ ?_ <;> first | (simp [e, e3, e4, e6, e7]; done) | (split <;> split <;> omega) | (split <;> omega)
    | 1, _ =>
      have := hy rfl c' (by unfold qt_rgt; rw [if_neg e]; exact e6) hc'
      have g2 : qt_gro 1 (nI a) t = fun f => if f = 3 then nI (if c < a then c else c + 1) else if f = 6 then nI (if c' < a then c' else c' + 1) else t f := by
        funext f
        by_cases z : c < a <;> by_cases z' : c' < a <;> by_cases f2 : f = 3 <;> by_cases f5 : f = 6 <;> simp (disch := omega) [qt_gro, qt_gr1, upd, e, e3, e6, nI_ltI, z, z', f2, f5, nI_1]
      rw [g2]
      refine qt_LV_rng (r := r) (c := if c < a then c else c + 1) (r' := r') (c' := if c' < a then c' else c' + 1) (m := m) (q := q) ?_ hr hr' ?_ ?_ hm hq ?_ ?_ ?_ ?_ ?_ ?_ <;> first | (simp [e, e2, e4, e5, e7]; done) | (split <;> split <;> omega) | (split <;> omega)
theorem qt_shr_ok {R C ax a : Nat} {t : Nat → Int32} (ha : ax < 2) (hR : R ≤ 6) (hC : C ≤ 6) (haa : a < 6) (hv : qt_VT R C t) (l : qt_lv t) : qt_ok R C t (qt_shr ax (nI a) t) := by
  obtain ⟨h, hk⟩ := qt_VT_lv hv l
  by_cases lost : t (2 + ax) = nI a ∧ (t 0 = 2 ∨ t (5 + ax) = nI a)
  · have g : qt_shr ax (nI a) t = qt_put (t 0) 1 := by unfold qt_shr; rw [if_pos lost]
    rw [g]
    exact ⟨qt_put_VT hk, rfl⟩
  have o0 : qt_shr ax (nI a) t 0 = t 0 := by
    unfold qt_shr qt_sh2 qt_sh1
    rw [if_neg lost]
    split <;> split <;> try split
    all_goals try split
    all_goals simp only [pk_un (show 0 ≠ 5 + ax by omega), pk_un (show 0 ≠ 2 + ax by omega)]
  have o1 : qt_shr ax (nI a) t 1 = t 1 := by
    unfold qt_shr qt_sh2 qt_sh1
    rw [if_neg lost]
    split <;> split <;> try split
    all_goals try split
    all_goals simp only [pk_un (show 1 ≠ 5 + ax by omega), pk_un (show 1 ≠ 2 + ax by omega)]
  refine ⟨qt_live_VT (by rw [o0]; exact hk) (by rw [o1]; exact l.2.2) ?_, o0⟩
  by_cases e : t 0 = 2
  · obtain ⟨r, c, m, hr, hc, hm, e2, e3, e4, e5, e6, e7⟩ := qt_LV_ref' h e
    match ax, ha with
    | 0, _ =>
      have nl : ¬ r = a := fun z => lost ⟨by show t 2 = nI a; rw [e2, z], Or.inl e⟩
      have g : qt_shr 0 (nI a) t = fun f => if f = 2 then nI (if r ≤ a then r else r - 1) else t f := by
        funext f
        by_cases z : r ≤ a <;> by_cases f2 : f = 2 <;> simp (disch := omega) [qt_shr, qt_sh2, qt_sh1, upd, e, e2, nI_eq, nI_leI, nl, z, f2, qa_s1]
      rw [g]
      refine qt_LV_ref (r := if r ≤ a then r else r - 1) (c := c) (m := m) ?_ ?_ hc hm ?_ ?_ ?_ ?_ ?_ ?_ <;> first | (simp [e, e3, e4, e5, e6, e7]; done) | (split <;> omega)
    | 1, _ =>
      have nl : ¬ c = a := fun z => lost ⟨by show t 3 = nI a; rw [e3, z], Or.inl e⟩
      have g : qt_shr 1 (nI a) t = fun f => if f = 3 then nI (if c ≤ a then c else c - 1) else t f := by
        funext f
        by_cases z : c ≤ a <;> by_cases f2 : f = 3 <;> simp (disch := omega) [qt_shr, qt_sh2, qt_sh1, upd, e, e3, nI_eq, nI_leI, nl, z, f2, qa_s1]
      rw [g]
      refine qt_LV_ref (r := r) (c := if c ≤ a then c else c - 1) (m := m) ?_ hr ?_ hm ?_ ?_ ?_ ?_ ?_ ?_ <;> first | (simp [e, e2, e4, e5, e6, e7]; done) | (split <;> omega)
  · obtain ⟨r, c, r', c', m, q, hr, hr', hc, hc', hm, hq, e2, e3, e4, e5, e6, e7⟩ := qt_LV_rng' h e
    match ax, ha with
    | 0, _ =>
      have nl : ¬ (r = a ∧ r' = a) := fun z => lost ⟨by show t 2 = nI a; rw [e2, z.1], Or.inr (by show t 5 = nI a; rw [e5, z.2])⟩
      have g : qt_shr 0 (nI a) t = fun f => if f = 2 then nI (if r ≤ a then r else r - 1) else if f = 5 then nI (if r' < a then r' else r' - 1) else t f := by
        have nl' : ¬ (t (2 + 0) = nI a ∧ (t 0 = 2 ∨ t (5 + 0) = nI a)) := lost
        funext f
        unfold qt_shr
        rw [if_neg nl', if_neg e]
        by_cases z : r ≤ a <;> by_cases z' : r' < a <;> by_cases f2 : f = 2 <;> by_cases f5 : f = 5 <;> simp (disch := omega) [qt_sh2, qt_sh1, upd, e2, e5, nI_ltI, nI_leI, z, z', f2, f5, qa_s1]
      rw [g]
      refine qt_LV_rng (r := if r ≤ a then r else r - 1) (c := c) (r' := if r' < a then r' else r' - 1) (c' := c') (m := m) (q := q) ?_ ?_ ?_ hc hc' hm hq ?_ ?_ ?_ ?_ ?_ ?_ <;> first | (simp [e, e3, e4, e6, e7]; done) | (split <;> split <;> omega) | (split <;> omega)
    | 1, _ =>
      have nl : ¬ (c = a ∧ c' = a) := fun z => lost ⟨by show t 3 = nI a; rw [e3, z.1], Or.inr (by show t 6 = nI a; rw [e6, z.2])⟩
      have g : qt_shr 1 (nI a) t = fun f => if f = 3 then nI (if c ≤ a then c else c - 1) else if f = 6 then nI (if c' < a then c' else c' - 1) else t f := by
        have nl' : ¬ (t (2 + 1) = nI a ∧ (t 0 = 2 ∨ t (5 + 1) = nI a)) := lost
        funext f
        unfold qt_shr
        rw [if_neg nl', if_neg e]
        by_cases z : c ≤ a <;> by_cases z' : c' < a <;> by_cases f2 : f = 3 <;> by_cases f5 : f = 6 <;> simp (disch := omega) [qt_sh2, qt_sh1, upd, e3, e6, nI_ltI, nI_leI, z, z', f2, f5, qa_s1]
      rw [g]
      refine qt_LV_rng (r := r) (c := if c ≤ a then c else c - 1) (r' := r') (c' := if c' < a then c' else c' - 1) (m := m) (q := q) ?_ hr hr' ?_ ?_ hm hq ?_ ?_ ?_ ?_ ?_ ?_ <;> first | (simp [e, e2, e4, e5, e7]; done) | (split <;> split <;> omega) | (split <;> omega)
end
section
/-! moving a token -/
theorem qt_sh_iff {l : Nat → Int32} {a b c d r k : Nat} (l0 : l 0 = nI a) (l1 : l 1 = nI b) (l2 : l 2 = nI c) (l3 : l 3 = nI d) (ha : a < 100) (hb : b < 100) (hc : c < 100) (hd : d < 100) (hr : r < 100) (hk : k < 100) : qt_sh l (nI r) (nI k) ↔ a ≤ r ∧ r ≤ c ∧ b ≤ k ∧ k ≤ d := by
  unfold qt_sh
  rw [l0, l1, l2, l3, nI_ltI (by omega) (by omega), nI_ltI (by omega) (by omega), nI_ltI (by omega) (by omega), nI_ltI (by omega) (by omega)]
  omega
theorem qt_sh_d {l : Nat → Int32} {a b c d r k row col : Nat} (l0 : l 0 = nI a) (l1 : l 1 = nI b) (l2 : l 2 = nI c) (l3 : l 3 = nI d) (ha : a < 100) (hb : b < 100) (hc : c < 100) (hd : d < 100) (hr : r < 100) (hk : k < 100) (hrow : row < 100) (hcol : col < 100) : qt_sh l (nI r - (nI row - nI a)) (nI k - (nI col - nI b)) ↔ row ≤ r ∧ r + a ≤ c + row ∧ col ≤ k ∧ k + b ≤ d + col := by
  unfold qt_sh
  have t1 := qa_sd (a := r) (b := row) (c := a) (by omega) (by omega) (by omega)
  have t2 := qa_sd (a := k) (b := col) (c := b) (by omega) (by omega) (by omega)
  rw [l0, l1, l2, l3, Int32.lt_iff_toInt_lt, Int32.lt_iff_toInt_lt, Int32.lt_iff_toInt_lt, Int32.lt_iff_toInt_lt, t1, t2, nI_toInt (by omega), nI_toInt (by omega), nI_toInt (by omega), nI_toInt (by omega)]
  omega
theorem qt_li_iff {t : Nat → Int32} {r k r' k' a b c d : Nat} (e2 : t 2 = nI r) (e3 : t 3 = nI k) (e5 : qt_bot t = nI r') (e6 : qt_rgt t = nI k') (ha : a < 1000) (hb : b < 1000) (hc : c < 1000) (hd : d < 1000) (h1 : r < 100) (h2 : k < 100) (h3 : r' < 100) (h4 : k' < 100) : qt_li t (nI a) (nI b) (nI c) (nI d) ↔ a ≤ r ∧ b ≤ k ∧ r' ≤ c ∧ k' ≤ d := by
  unfold qt_li
  rw [e2, e3, e5, e6, nI_ltI (by omega) (by omega), nI_ltI (by omega) (by omega), nI_ltI (by omega) (by omega), nI_ltI (by omega) (by omega)]
  omega
section
variable {R C a b c d row col : Nat} {l t : Nat → Int32}
theorem qt_my_e (hR : R ≤ 6) (hC : C ≤ 6) (l0 : l 0 = nI a) (l1 : l 1 = nI b) (l2 : l 2 = nI c) (l3 : l 3 = nI d) (hac : a ≤ c) (hbd : b ≤ d) (hc : c < 6) (hd : d < 6) (hrow : row < 6) (hcol : col < 6) (h : qt_LV R C t) : ∀ f, f < 8 → qt_my l (nI row - nI a) (nI col - nI b) (qt_yv t) f = qt_yv (qt_mov (nI a) (nI b) (nI c) (nI d) (nI row - nI a) (nI col - nI b) t) f := by
  obtain ⟨r, k, r', k', m, m', q1, q2, q3, q4, q5, q6, e2, e3, e4, e5, e6, e7, e8⟩ := id h
  have y2 : qt_yv t 2 = nI r := (qt_yv_lo (by decide)).trans e2
  have y3 : qt_yv t 3 = nI k := (qt_yv_lo (by decide)).trans e3
  have y5 : qt_yv t 5 = nI r' := qt_yv5.trans e5
  have y6 : qt_yv t 6 = nI k' := qt_yv6.trans e6
  have i1 := qt_sh_iff (r := r) (k := k) l0 l1 l2 l3 (by omega) (by omega) (by omega) (by omega) (by omega) (by omega)
  have i2 := qt_sh_iff (r := r') (k := k') l0 l1 l2 l3 (by omega) (by omega) (by omega) (by omega) (by omega) (by omega)
  have j1 := qt_sh_d (r := r) (k := k) (row := row) (col := col) l0 l1 l2 l3 (by omega) (by omega) (by omega) (by omega) (by omega) (by omega) (by omega) (by omega)
  have j2 := qt_sh_d (r := r') (k := k') (row := row) (col := col) l0 l1 l2 l3 (by omega) (by omega) (by omega) (by omega) (by omega) (by omega) (by omega) (by omega)
  have k1 := qt_li_iff (a := a) (b := b) (c := c) (d := d) e2 e3 e5 e6 (by omega) (by omega) (by omega) (by omega) (by omega) (by omega) (by omega) (by omega)
  have k2 := qt_li_iff (a := row) (b := col) (c := c - a + row) (d := d - b + col) e2 e3 e5 e6 (by omega) (by omega) (by omega) (by omega) (by omega) (by omega) (by omega) (by omega)
  have za := qa_dr (r := a) (top := a) (row := row) (Nat.le_refl a)
  have zb := qa_dr (r := b) (top := b) (row := col) (Nat.le_refl b)
  have zc := qa_dr (r := c) (top := a) (row := row) hac
  have zd := qa_dr (r := d) (top := b) (row := col) hbd
  rw [Nat.sub_self, Nat.zero_add] at za zb
  unfold qt_my qt_mov
  rw [za, zb, zc, zd, y2, y3, y5, y6, qt_yv_lo (f := 0) (by decide)]
  by_cases c1 : a ≤ r ∧ b ≤ k ∧ r' ≤ c ∧ k' ≤ d
  · rw [if_pos (k1.mpr c1), if_pos ⟨i1.mpr (by omega), i2.mpr (by omega)⟩]
    unfold qt_mv1
    by_cases e : t 0 = 2
    · rw [if_pos e]
      have b5 : nI r' = t 2 := by rw [← e5]; unfold qt_bot; rw [if_pos e]
      have b6 : nI k' = t 3 := by rw [← e6]; unfold qt_rgt; rw [if_pos e]
      rw [b5, b6, ← e2, ← e3]
      refine qa_f8 ?_ ?_ ?_ ?_ ?_ ?_ ?_ ?_ <;> simp [qt_yv, upd, e]
    · rw [if_neg e]
      have b5 : nI r' = t 5 := by rw [← e5]; unfold qt_bot; rw [if_neg e]
      have b6 : nI k' = t 6 := by rw [← e6]; unfold qt_rgt; rw [if_neg e]
      rw [b5, b6, ← e2, ← e3, qt_yvn e]
      refine qa_f8 ?_ ?_ ?_ ?_ ?_ ?_ ?_ ?_ <;> simp [qt_yv, upd, e]
  · rw [if_neg (fun z => c1 (k1.mp z)), if_neg (fun z => c1 (by have := i1.mp z.1; have := i2.mp z.2; omega))]
    by_cases c2 : row ≤ r ∧ col ≤ k ∧ r' ≤ c - a + row ∧ k' ≤ d - b + col
    · rw [if_pos (k2.mpr c2), if_pos ⟨j1.mpr (by omega), j2.mpr (by omega)⟩, qt_yv_put]
      exact fun _ _ => rfl
    · rw [if_neg (fun z => c2 (k2.mp z)), if_neg (fun z => c2 (by have := j1.mp z.1; have := j2.mp z.2; omega))]
      exact fun _ _ => rfl
theorem qt_mov_ok (hR : R ≤ 6) (hC : C ≤ 6) (hac : a ≤ c) (hbd : b ≤ d) (hc : c < 6) (hd : d < 6) (hrow : row + (c - a) < R) (hcol : col + (d - b) < C) (hv : qt_VT R C t) (lv : qt_lv t) : qt_ok R C t (qt_mov (nI a) (nI b) (nI c) (nI d) (nI row - nI a) (nI col - nI b) t) := by
  obtain ⟨h, hk⟩ := qt_VT_lv hv lv
  unfold qt_mov
  by_cases c1 : qt_li t (nI a) (nI b) (nI c) (nI d)
  · rw [if_pos c1]
    unfold qt_mv1
    by_cases e : t 0 = 2
    · rw [if_pos e]
      obtain ⟨r, k, m, hr, hk', hm, e2, e3, e4, e5, e6, e7⟩ := qt_LV_ref' h e
      have k1 := (qt_li_iff (t := t) (a := a) (b := b) (c := c) (d := d) e2 e3 (show qt_bot t = nI r by unfold qt_bot; rw [if_pos e]; exact e2) (show qt_rgt t = nI k by unfold qt_rgt; rw [if_pos e]; exact e3) (by omega) (by omega) (by omega) (by omega) (by omega) (by omega) (by omega) (by omega)).mp c1
      refine ⟨qt_live_VT (by simpa [upd] using hk) (by simpa [upd] using lv.2.2) (qt_LV_ref (r := r - a + row) (c := k - b + col) (m := m) ?_ (by omega) (by omega) hm ?_ ?_ ?_ ?_ ?_ ?_), by simp [upd]⟩
      · simpa [upd] using e
      · have : nI r + (nI row - nI a) = nI (r - a + row) := qa_dr (by omega)
        simp [upd, e2, this]
      · have : nI k + (nI col - nI b) = nI (k - b + col) := qa_dr (by omega)
        simp [upd, e3, this]
      · simpa [upd] using e4
      · simpa [upd] using e5
      · simpa [upd] using e6
      · simpa [upd] using e7
    · rw [if_neg e]
      obtain ⟨r, k, r', k', m, q, hr, hr', hk1, hk1', hm, hq, e2, e3, e4, e5, e6, e7⟩ := qt_LV_rng' h e
      have k1 := (qt_li_iff (t := t) (a := a) (b := b) (c := c) (d := d) e2 e3 (show qt_bot t = nI r' by unfold qt_bot; rw [if_neg e]; exact e5) (show qt_rgt t = nI k' by unfold qt_rgt; rw [if_neg e]; exact e6) (by omega) (by omega) (by omega) (by omega) (by omega) (by omega) (by omega) (by omega)).mp c1
      refine ⟨qt_live_VT (by simpa [upd] using hk) (by simpa [upd] using lv.2.2) (qt_LV_rng (r := r - a + row) (c := k - b + col) (r' := r' - a + row) (c' := k' - b + col) (m := m) (q := q) ?_ (by omega) (by omega) (by omega) (by omega) hm hq ?_ ?_ ?_ ?_ ?_ ?_), by simp [upd]⟩
      · simpa [upd] using e
      · have : nI r + (nI row - nI a) = nI (r - a + row) := qa_dr (by omega)
        simp [upd, e2, this]
      · have : nI k + (nI col - nI b) = nI (k - b + col) := qa_dr (by omega)
        simp [upd, e3, this]
      · simpa [upd] using e4
      · have : nI r' + (nI row - nI a) = nI (r' - a + row) := qa_dr (by omega)
        simp [upd, e5, this]
      · have : nI k' + (nI col - nI b) = nI (k' - b + col) := qa_dr (by omega)
        simp [upd, e6, this]
      · simpa [upd] using e7
  · rw [if_neg c1]
    split
    · exact ⟨qt_put_VT hk, rfl⟩
    · exact ⟨hv, rfl⟩
end
/-- a map of the live tokens keeps a formula well-formed and valid -/
theorem qt_mt_tak {R C : Nat} {g : (Nat → Int32) → Nat → Int32} {t : Nat → Int32} (h : qt_lv t → qt_ok R C t (g t)) : qt_tak (qt_mt g t) = qt_tak t := by
  unfold qt_mt
  by_cases l : qt_lv t
  · rw [if_pos l]
    have := (h l).2
    unfold qt_tak
    rw [this, if_neg l.2.1, if_neg l.2.1]
  · rw [if_neg l]
theorem qt_mp_V {R C : Nat} {g : (Nat → Int32) → Nat → Int32} {f : qt_Fm} (hV : qt_VF R C f.1 f.2) (h : ∀ i, i < f.1 → qt_lv (f.2 i) → qt_ok R C (f.2 i) (g (f.2 i))) : qt_VF R C (qt_mp g f).1 (qt_mp g f).2 ∧ (qt_WF f.1 f.2 → qt_WF (qt_mp g f).1 (qt_mp g f).2) := by
  refine ⟨⟨hV.1, fun i hi => ?_⟩, fun w => qt_WF_c (fun j hj => ?_) w⟩
  · show qt_VT R C (qt_mt g (f.2 i))
    unfold qt_mt
    by_cases l : qt_lv (f.2 i)
    · rw [if_pos l]; exact (h i hi l).1
    · rw [if_neg l]; exact hV.2 i hi
  · exact qt_mt_tak (h j hj)
end
section
/-! the component: insertLine, deleteLine -/
def qt_st (ax : Nat) : Nat := if ax = 0 then 6 else 1
def qt_hi (ax : Nat) (t : Nat → Int32) : Int32 := if ax = 0 then qt_bot t else qt_rgt t
/-- the last line is in use -/
def qt_use (F : Nat → qt_Fm) (ax n : Nat) : Prop := (∃ s, s < 36 ∧ 0 < (F s).1 ∧ qt_ln ax s = n - 1) ∨ (∃ s i, s < 36 ∧ i < (F s).1 ∧ qt_lv ((F s).2 i) ∧ qt_hi ax ((F s).2 i) = nI (n - 1))
def qt_is (F : Nat → qt_Fm) (ax a n : Nat) : Nat → qt_Fm := fun s => if qt_ln ax s < a then F s else if qt_ln ax s = a then qt_z else if qt_ln ax s < n then F (s - qt_st ax) else F s
def qt_ds (F : Nat → qt_Fm) (ax a n : Nat) : Nat → qt_Fm := fun s => if qt_ln ax s < a then F s else if qt_ln ax s + 1 < n then F (s + qt_st ax) else if qt_ln ax s + 1 = n then qt_z else F s
/-- a map over the cells -/
def qt_mc (g : (Nat → Int32) → Nat → Int32) (F H : Nat → qt_Fm) : Nat → qt_Fm := fun s => if s < 36 then qt_mp g (H s) else F s
def qt_sf (F : Nat → qt_Fm) (ax n ac l : Nat) : Nat → qt_Fm := fun s => if l < qt_ln ax s ∧ qt_ln ax s < n ∧ qt_ot ax s < ac then F (s - qt_st ax) else F s
def qt_df (F : Nat → qt_Fm) (ax a ac l : Nat) : Nat → qt_Fm := fun s => if a ≤ qt_ln ax s ∧ qt_ln ax s + 1 < l ∧ qt_ot ax s < ac then F (s + qt_st ax) else F s
/-- outside the sheet the cells are blank -/
def qt_out (F : Nat → qt_Fm) (ax n ac : Nat) : Prop := ∀ s, s < 36 → (n ≤ qt_ln ax s ∨ ac ≤ qt_ot ax s) → (F s).1 = 0
theorem qt_ln_lt {ax s : Nat} (hs : s < 36) : qt_ln ax s < 6 ∧ qt_ot ax s < 6 := by
  unfold qt_ln qt_ot
  split <;> omega
theorem qt_st_dn {ax s l : Nat} (ha : ax < 2) (hs : s < 36) (h : qt_ln ax s = l + 1) : qt_co ax l (qt_ot ax s) = s - qt_st ax ∧ qt_st ax ≤ s ∧ qt_ln ax (s - qt_st ax) = l ∧ qt_ot ax (s - qt_st ax) = qt_ot ax s := by
  unfold qt_ln at h
  unfold qt_co qt_st qt_ln qt_ot
  by_cases e : ax = 0
  · simp only [if_pos e] at *; omega
  · simp only [if_neg e] at *; omega
theorem qt_st_up {ax s l : Nat} (ha : ax < 2) (hs : s < 36) (h : qt_ln ax s + 1 = l) (hl : l < 6) : qt_co ax l (qt_ot ax s) = s + qt_st ax ∧ s + qt_st ax < 36 ∧ qt_ln ax (s + qt_st ax) = l ∧ qt_ot ax (s + qt_st ax) = qt_ot ax s := by
  unfold qt_ln at h
  unfold qt_co qt_st qt_ln qt_ot
  by_cases e : ax = 0
  · simp only [if_pos e] at *; omega
  · simp only [if_neg e] at *; omega
theorem qt_big {ax s l ac : Nat} (ha : ax < 2) (hs : 36 ≤ s) (hl : l < 6) (hac : ac ≤ 6) : ¬ (qt_ln ax s = l ∧ qt_ot ax s < ac) := by
  unfold qt_ln qt_ot
  by_cases e : ax = 0
  · simp only [if_pos e]; omega
  · simp only [if_neg e]; omega
theorem qt_big2 {ax s n ac : Nat} (ha : ax < 2) (hs : 36 ≤ s) (hn : n ≤ 6) (hac : ac ≤ 6) : ¬ (qt_ln ax s < n ∧ qt_ot ax s < ac) := by
  unfold qt_ln qt_ot
  by_cases e : ax = 0
  · simp only [if_pos e]; omega
  · simp only [if_neg e]; omega
theorem qt_sf_s {F : Nat → qt_Fm} {ax n ac l s : Nat} (ha : ax < 2) (hn : n ≤ 6) (hac : ac ≤ 6) (hl : l + 1 < n) : qt_cl (qt_sf F ax n ac (l + 1)) ax l (l + 1) ac s = qt_sf F ax n ac l s := by
  by_cases hs : s < 36
  · by_cases c : qt_ln ax s = l + 1 ∧ qt_ot ax s < ac
    · obtain ⟨d1, d2, d3, d4⟩ := qt_st_dn ha hs c.1
      have x1 : qt_cl (qt_sf F ax n ac (l + 1)) ax l (l + 1) ac s = qt_sf F ax n ac (l + 1) (s - qt_st ax) := by
        unfold qt_cl
        rw [if_pos c, d1]
      rw [x1]
      unfold qt_sf
      rw [if_neg (by omega), if_pos (by omega)]
    · have x1 : qt_cl (qt_sf F ax n ac (l + 1)) ax l (l + 1) ac s = qt_sf F ax n ac (l + 1) s := by
        unfold qt_cl
        rw [if_neg c]
      rw [x1]
      unfold qt_sf
      by_cases d : l + 1 < qt_ln ax s ∧ qt_ln ax s < n ∧ qt_ot ax s < ac
      · rw [if_pos d, if_pos (by omega)]
      · rw [if_neg d, if_neg (by omega)]
  · have x1 : qt_cl (qt_sf F ax n ac (l + 1)) ax l (l + 1) ac s = qt_sf F ax n ac (l + 1) s := by
      unfold qt_cl
      rw [if_neg (qt_big ha (by omega) (by omega) hac)]
    have b := qt_big2 (ax := ax) (s := s) ha (by omega) hn hac
    rw [x1]
    unfold qt_sf
    rw [if_neg (fun z => b ⟨z.2.1, z.2.2⟩), if_neg (fun z => b ⟨z.2.1, z.2.2⟩)]
theorem qt_df_s {F : Nat → qt_Fm} {ax a ac l s : Nat} (ha : ax < 2) (hac : ac ≤ 6) (hl : l < 6) (hal : a < l) : qt_cl (qt_df F ax a ac l) ax l (l - 1) ac s = qt_df F ax a ac (l + 1) s := by
  by_cases hs : s < 36
  · by_cases c : qt_ln ax s = l - 1 ∧ qt_ot ax s < ac
    · obtain ⟨d1, d2, d3, d4⟩ := qt_st_up (ax := ax) (s := s) (l := l) ha hs (by omega) hl
      have x1 : qt_cl (qt_df F ax a ac l) ax l (l - 1) ac s = qt_df F ax a ac l (s + qt_st ax) := by
        unfold qt_cl
        rw [if_pos c, d1]
      rw [x1]
      unfold qt_df
      rw [if_neg (by omega), if_pos (by omega)]
    · have x1 : qt_cl (qt_df F ax a ac l) ax l (l - 1) ac s = qt_df F ax a ac l s := by
        unfold qt_cl
        rw [if_neg c]
      rw [x1]
      unfold qt_df
      by_cases d : a ≤ qt_ln ax s ∧ qt_ln ax s + 1 < l ∧ qt_ot ax s < ac
      · rw [if_pos d, if_pos (by omega)]
      · rw [if_neg d, if_neg (by omega)]
  · have x1 : qt_cl (qt_df F ax a ac l) ax l (l - 1) ac s = qt_df F ax a ac l s := by
      unfold qt_cl
      rw [if_neg (qt_big ha (by omega) (by omega) hac)]
    have b := qt_big2 (ax := ax) (s := s) (n := 6) ha (by omega) (by omega) hac
    rw [x1]
    unfold qt_df
    rw [if_neg (fun z => b ⟨by omega, z.2.2⟩), if_neg (fun z => b ⟨by omega, z.2.2⟩)]
theorem qt_is_x {F : Nat → qt_Fm} {ax a n ac s : Nat} (ha : ax < 2) (hn : n ≤ 6) (hac : ac ≤ 6) (han : a < n) (ho : qt_out F ax n ac) (hs : s < 36) : qt_fe (qt_bl (qt_sf F ax n ac a) ax a ac s) (qt_is F ax a n s) := by
  unfold qt_bl qt_is
  by_cases c0 : qt_ot ax s < ac
  · by_cases c1 : qt_ln ax s = a
    · rw [if_pos ⟨c1, c0⟩, if_neg (by omega), if_pos c1]; exact qt_fe_r _
    · rw [if_neg (fun z => c1 z.1)]
      unfold qt_sf
      by_cases c2 : qt_ln ax s < a
      · rw [if_neg (by omega), if_pos c2]; exact qt_fe_r _
      · rw [if_neg c2, if_neg c1]
        by_cases c3 : qt_ln ax s < n
        · rw [if_pos (by omega), if_pos c3]; exact qt_fe_r _
        · rw [if_neg (by omega), if_neg c3]; exact qt_fe_r _
  · rw [if_neg (fun z => c0 z.2)]
    have z1 := ho s hs (Or.inr (by omega))
    have x1 : qt_sf F ax n ac a s = F s := by unfold qt_sf; rw [if_neg (fun z => c0 z.2.2)]
    rw [x1]
    by_cases c2 : qt_ln ax s < a
    · rw [if_pos c2]; exact qt_fe_r _
    · rw [if_neg c2]
      by_cases c1 : qt_ln ax s = a
      · rw [if_pos c1]; exact qt_fe_0 z1 rfl
      · rw [if_neg c1]
        by_cases c3 : qt_ln ax s < n
        · rw [if_pos c3]
          obtain ⟨d1, d2, d3, d4⟩ := qt_st_dn (ax := ax) (s := s) (l := qt_ln ax s - 1) ha hs (by omega)
          exact qt_fe_0 z1 (ho _ (by omega) (Or.inr (by omega)))
        · rw [if_neg c3]; exact qt_fe_r _
theorem qt_ds_x {F : Nat → qt_Fm} {ax a n ac s : Nat} (ha : ax < 2) (hn : n ≤ 6) (hac : ac ≤ 6) (han : a < n) (ho : qt_out F ax n ac) (hs : s < 36) : qt_fe (qt_bl (qt_df F ax a ac n) ax (n - 1) ac s) (qt_ds F ax a n s) := by
  unfold qt_bl qt_ds
  by_cases c0 : qt_ot ax s < ac
  · by_cases c1 : qt_ln ax s = n - 1
    · rw [if_pos ⟨c1, c0⟩, if_neg (by omega), if_neg (by omega), if_pos (by omega)]; exact qt_fe_r _
    · rw [if_neg (fun z => c1 z.1)]
      unfold qt_df
      by_cases c2 : qt_ln ax s < a
      · rw [if_neg (by omega), if_pos c2]; exact qt_fe_r _
      · rw [if_neg c2]
        by_cases c3 : qt_ln ax s + 1 < n
        · rw [if_pos (by omega), if_pos c3]; exact qt_fe_r _
        · rw [if_neg (by omega), if_neg c3, if_neg (by omega)]; exact qt_fe_r _
  · rw [if_neg (fun z => c0 z.2)]
    have z1 := ho s hs (Or.inr (by omega))
    have x1 : qt_df F ax a ac n s = F s := by unfold qt_df; rw [if_neg (fun z => c0 z.2.2)]
    rw [x1]
    by_cases c2 : qt_ln ax s < a
    · rw [if_pos c2]; exact qt_fe_r _
    · rw [if_neg c2]
      by_cases c3 : qt_ln ax s + 1 < n
      · rw [if_pos c3]
        obtain ⟨d1, d2, d3, d4⟩ := qt_st_up (ax := ax) (s := s) (l := qt_ln ax s + 1) ha hs rfl (by omega)
        exact qt_fe_0 z1 (ho _ d2 (Or.inr (by omega)))
      · rw [if_neg c3]
        by_cases c4 : qt_ln ax s + 1 = n
        · rw [if_pos c4]; exact qt_fe_0 z1 rfl
        · rw [if_neg c4]; exact qt_fe_r _
theorem qt_mp_fe {g : (Nat → Int32) → Nat → Int32} {f h : qt_Fm} (e : qt_fe f h) : qt_fe (qt_mp g f) (qt_mp g h) := ⟨e.1, fun i hi => by
  show qt_mt g (f.2 i) = qt_mt g (h.2 i)
  rw [e.2 i hi]⟩
theorem qt_ps_36 {g : (Nat → Int32) → Nat → Int32} {F : Nat → qt_Fm} {s : Nat} (hs : s < 36) : qt_fe (qt_ps g F 36 0 s) (qt_mp g (F s)) := by
  refine ⟨rfl, fun j _ => ?_⟩
  show (if _ then _ else _) = _
  rw [if_pos (Or.inl hs)]
  rfl
theorem qt_ps_k {g : (Nat → Int32) → Nat → Int32} {F : Nat → qt_Fm} {s : Nat} (hs : 36 ≤ s) : qt_fe (qt_ps g F 36 0 s) (F s) := by
  refine ⟨rfl, fun j _ => ?_⟩
  show (if _ then _ else _) = _
  rw [if_neg (by omega)]
section
variable {nr nc st sl sb sr sta oe oh ow : Int32} {stl : Int64} {tok cnt stt val own sv se out : Nat → Int32} {rch nds : Nat → Int64}
theorem qx_lu58 {post : Int32 → Prop} {F : Nat → qt_Fm} {ax n c : Nat} {J : Int32 → Prop} (hA : qt_AX 37 tok cnt F) (ha : ax < 2) (hc : c < 36) (hp : (∃ i, i < (F c).1 ∧ qt_lv ((F c).2 i) ∧ qt_hi ax ((F c).2 i) = nI (n - 1)) → post 1) (hJ : (∀ i, i < (F c).1 → qt_lv ((F c).2 i) → ¬ qt_hi ax ((F c).2 i) = nI (n - 1)) → J (nI (c + 1))) :
    ∀ (d i : Nat), i + d = (F c).1 → (∀ j, j < i → qt_lv ((F c).2 j) → ¬ qt_hi ax ((F c).2 j) = nI (n - 1)) → ∀ f, d < f → wX_lineInUse_58 post J (nI ax) (nI (n - 1)) (nI c) nr nc st sl sb sr sta stl oe oh ow tok cnt stt val own rch nds sv se out f (nI i) := by
  intro d
  have m := hA c (by omega)
  have m1 : cnt c = nI (F c).1 := m.2.1
  have b7 := m.1
  induction d with
  | zero =>
    intro i hi hI f hf
    obtain ⟨f, rfl⟩ : ∃ z, f = z + 1 := ⟨f - 1, by omega⟩
    obtain rfl : i = (F c).1 := by omega
    simp (disch := omega) only [wX_lineInUse_58, m1, nI_add, pk_mul, qa_a1, qa_a2, qa_a3, qa_a4, qa_a5, qa_a6, qa_a7, qa_a8, qa_a56, qa_m6, qa_m7, qa_m8, qa_m56, qa_l2, qa_l37, qa_l2016, qa_in, nI_clamp, forall_eq, true_and, qa_cl0, nI_leI, nI_ltI, nI_eq, not_false_eq_true, pk_sub, qa_s1, qa_s2, qa_s8]
    exact br_t (by omega) (hJ hI)
  | succ d ih =>
    intro i hi hI f hf
    obtain ⟨f, rfl⟩ : ∃ z, f = z + 1 := ⟨f - 1, by omega⟩
    have ht : ∀ g, g < 8 → tok (c * 56 + i * 8 + g) = (F c).2 i g := m.2.2 i (by omega)
    have hb : c * 56 + i * 8 + 8 ≤ 4088 := by omega
    have nx : (qt_lv ((F c).2 i) → ¬ qt_hi ax ((F c).2 i) = nI (n - 1)) → wX_lineInUse_58 post J (nI ax) (nI (n - 1)) (nI c) nr nc st sl sb sr sta stl oe oh ow tok cnt stt val own rch nds sv se out f (nI (i + 1)) := by
      intro q
      refine ih (i + 1) (by omega) (fun j a1 a2 => ?_) f (by omega)
      by_cases e : j = i
      · subst e; exact q a2
      · exact hI j (by omega) a2
    simp (disch := omega) only [wX_lineInUse_58, m1, nI_add, pk_mul, qa_a1, qa_a2, qa_a3, qa_a4, qa_a5, qa_a6, qa_a7, qa_a8, qa_a56, qa_m6, qa_m7, qa_m8, qa_m56, qa_l2, qa_l37, qa_l2016, qa_in, nI_clamp, forall_eq, true_and, qa_cl0, nI_leI, nI_ltI, nI_eq, not_false_eq_true, pk_sub, qa_s1, qa_s2, qa_s8]
    refine br_f (by omega) ?_
    refine qx_base ?_
    refine qx_live hb ht (fun l => ?_) (fun l => br_t (by decide) (nx (fun z => absurd z l)))
    refine br_f (by decide) ?_
    have fin : ∀ v, v = qt_hi ax ((F c).2 i) → wX_lineInUse_108 post J (wX_lineInUse_58 post J (nI ax) (nI (n - 1)) (nI c) nr nc st sl sb sr sta stl oe oh ow tok cnt stt val own rch nds sv se out f) (nI ax) (nI (n - 1)) (nI c) (nI i) v nr nc st sl sb sr sta stl oe oh ow tok cnt stt val own rch nds sv se out := by
      intro v hv
      unfold wX_lineInUse_108
      by_cases e : v = nI (n - 1)
      · exact br_t e (hp ⟨i, by omega, l, hv.symm.trans e⟩)
      · refine br_f e ?_
        simp (disch := omega) only [nI_add, pk_mul, qa_a1, qa_a2, qa_a3, qa_a4, qa_a5, qa_a6, qa_a7, qa_a8, qa_a56, qa_m6, qa_m7, qa_m8, qa_m56, qa_l2, qa_l37, qa_l2016, qa_in, nI_clamp, forall_eq, true_and, qa_cl0, nI_leI, nI_ltI, nI_eq, not_false_eq_true, pk_sub, qa_s1, qa_s2, qa_s8]
        exact nx (fun _ z => e (hv.trans z))
    match ax, ha with
    | 0, _ => exact br_t (by decide) (qx_bot hb ht (fin _ rfl))
    | 1, _ => exact br_f (by decide) (qx_rgt hb ht (fin _ rfl))
theorem qx_lu48 {post : Int32 → Prop} {F : Nat → qt_Fm} {ax n : Nat} (hA : qt_AX 37 tok cnt F) (ha : ax < 2) (hp : (∃ s i, s < 36 ∧ i < (F s).1 ∧ qt_lv ((F s).2 i) ∧ qt_hi ax ((F s).2 i) = nI (n - 1)) → post 1) (h0 : (∀ s i, s < 36 → i < (F s).1 → qt_lv ((F s).2 i) → ¬ qt_hi ax ((F s).2 i) = nI (n - 1)) → post 0) :
    ∀ (d c : Nat), c + d = 36 → (∀ s i, s < c → i < (F s).1 → qt_lv ((F s).2 i) → ¬ qt_hi ax ((F s).2 i) = nI (n - 1)) → ∀ f, d < f → wX_lineInUse_48 post (nI ax) (nI (n - 1)) nr nc st sl sb sr sta stl oe oh ow tok cnt stt val own rch nds sv se out f (nI c) := by
  intro d
  induction d with
  | zero =>
    intro c hc hI f hf
    obtain ⟨f, rfl⟩ : ∃ z, f = z + 1 := ⟨f - 1, by omega⟩
    obtain rfl : c = 36 := by omega
    unfold wX_lineInUse_48
    exact br_t (by decide) (h0 hI)
  | succ d ih =>
    intro c hc hI f hf
    obtain ⟨f, rfl⟩ : ∃ z, f = z + 1 := ⟨f - 1, by omega⟩
    have b7 := (hA c (by omega)).1
    simp (disch := omega) only [wX_lineInUse_48, qa_lel36, nI_add, pk_mul, qa_a1, qa_a2, qa_a3, qa_a4, qa_a5, qa_a6, qa_a7, qa_a8, qa_a56, qa_m6, qa_m7, qa_m8, qa_m56, qa_l2, qa_l37, qa_l2016, qa_in, nI_clamp, forall_eq, true_and, qa_cl0, nI_leI, nI_ltI, nI_eq, not_false_eq_true, pk_sub, qa_s1, qa_s2, qa_s8]
    refine br_f (by omega) ⟨8, qx_lu58 hA ha (by omega) (fun ⟨i, a1, a2, a3⟩ => hp ⟨c, i, by omega, a1, a2, a3⟩) (fun q => ih (c + 1) (by omega) (fun s i a1 a2 a3 => ?_) f (by omega)) _ 0 (Nat.zero_add _) (fun j hj => absurd hj (Nat.not_lt_zero j)) 8 (by omega)⟩
    by_cases e : s = c
    · subst e; exact q i a2 a3
    · exact hI s i (by omega) a2 a3
theorem qx_lu11 {post : Int32 → Prop} {F : Nat → qt_Fm} {ax n ac : Nat} (hA : qt_AX 37 tok cnt F) (ha : ax < 2) (hn : n ≤ 6) (hn0 : 0 < n) (hac : ac ≤ 6) (ho : qt_out F ax n ac) (h1 : qt_use F ax n → post 1) (h0 : ¬ qt_use F ax n → post 0) :
    ∀ (d k : Nat), k + d = ac → (∀ s, s < 36 → qt_ln ax s = n - 1 → qt_ot ax s < k → (F s).1 = 0) → ∀ f, d < f → wX_lineInUse_11 post (nI ax) (nI (n - 1)) (nI ac) nr nc st sl sb sr sta stl oe oh ow tok cnt stt val own rch nds sv se out f (nI k) := by
  intro d
  induction d with
  | zero =>
    intro k hk hI f hf
    obtain ⟨f, rfl⟩ : ∃ z, f = z + 1 := ⟨f - 1, by omega⟩
    obtain rfl : k = ac := by omega
    simp (disch := omega) only [wX_lineInUse_11, nI_add, pk_mul, qa_a1, qa_a2, qa_a3, qa_a4, qa_a5, qa_a6, qa_a7, qa_a8, qa_a56, qa_m6, qa_m7, qa_m8, qa_m56, qa_l2, qa_l37, qa_l2016, qa_in, nI_clamp, forall_eq, true_and, qa_cl0, nI_leI, nI_ltI, nI_eq, not_false_eq_true, pk_sub, qa_s1, qa_s2, qa_s8]
    refine br_t (by omega) ⟨37, qx_lu48 hA ha (fun z => h1 (Or.inr z)) (fun q => h0 ?_) 36 0 (by decide) (fun s i hs => absurd hs (Nat.not_lt_zero s)) 37 (by decide)⟩
    rintro (⟨s, a1, a2, a3⟩ | ⟨s, i, a1, a2, a3, a4⟩)
    · by_cases e : qt_ot ax s < k
      · have := hI s a1 a3 e; omega
      · have := ho s a1 (Or.inr (by omega)); omega
    · exact q s i a1 a2 a3 a4
  | succ d ih =>
    intro k hk hI f hf
    obtain ⟨f, rfl⟩ : ∃ z, f = z + 1 := ⟨f - 1, by omega⟩
    simp (disch := omega) only [wX_lineInUse_11, nI_add, pk_mul, qa_a1, qa_a2, qa_a3, qa_a4, qa_a5, qa_a6, qa_a7, qa_a8, qa_a56, qa_m6, qa_m7, qa_m8, qa_m56, qa_l2, qa_l37, qa_l2016, qa_in, nI_clamp, forall_eq, true_and, qa_cl0, nI_leI, nI_ltI, nI_eq, not_false_eq_true, pk_sub, qa_s1, qa_s2, qa_s8]
    refine br_f (by omega) ?_
    refine qx_co ha ?_
    have hl : n - 1 < 6 := by omega
    have hk6 : k < 6 := by omega
    have k1 := qt_co_lt (ax := ax) hl hk6
    have A := hA _ (show qt_co ax (n - 1) k < 37 by omega)
    have m1 : cnt (qt_co ax (n - 1) k) = nI (F (qt_co ax (n - 1) k)).1 := A.2.1
    have A7 := A.1
    simp (disch := omega) only [m1, qa_ler0, nI_add, pk_mul, qa_a1, qa_a2, qa_a3, qa_a4, qa_a5, qa_a6, qa_a7, qa_a8, qa_a56, qa_m6, qa_m7, qa_m8, qa_m56, qa_l2, qa_l37, qa_l2016, qa_in, nI_clamp, forall_eq, true_and, qa_cl0, nI_leI, nI_ltI, nI_eq, not_false_eq_true, pk_sub, qa_s1, qa_s2, qa_s8]
    by_cases e : (F (qt_co ax (n - 1) k)).1 ≤ 0
    · refine br_t e (ih (k + 1) (by omega) (fun s a1 a2 a3 => ?_) f (by omega))
      by_cases z : qt_ot ax s = k
      · have := qt_co_e a2 z
        rw [this]; omega
      · exact hI s a1 a2 (by omega)
    · exact br_f e (h1 (Or.inl ⟨_, k1, by omega, qt_co_ln hl hk6⟩))
theorem qx_lu {post : Int32 → Prop} {F : Nat → qt_Fm} {R C ax : Nat} (hA : qt_AX 37 tok cnt F) (ha : ax < 2) (hR : R ≤ 6) (hC : C ≤ 6) (hR0 : 0 < R) (hC0 : 0 < C) (ho : qt_out F ax (qt_sz R C ax) (qt_sz C R ax)) (h1 : qt_use F ax (qt_sz R C ax) → post 1) (h0 : ¬ qt_use F ax (qt_sz R C ax) → post 0) : wpX_lineInUse post (nI R, nI C, st, sl, sb, sr, sta, stl, oe, oh, ow, tok, cnt, stt, val, own, rch, nds, sv, se, out) (nI ax) (nI (qt_sz R C ax - 1)) := by
  unfold wpX_lineInUse
  refine qx_size' ha ?_
  have hac : qt_sz C R ax ≤ 6 := by unfold qt_sz; split <;> omega
  have hn : qt_sz R C ax ≤ 6 ∧ 0 < qt_sz R C ax := by unfold qt_sz; split <;> omega
  exact ⟨8, qx_lu11 hA ha hn.1 hn.2 hac ho h1 h0 _ 0 (Nat.zero_add _) (fun s _ _ z => absurd z (Nat.not_lt_zero _)) 8 (by omega)⟩
theorem qx_in46 {post : Int32 → SX → Prop} {F : Nat → qt_Fm} {R C ax a : Nat} (ha : ax < 2) (hR : R ≤ 6) (hC : C ≤ 6) (han : a < qt_sz R C ax) (ho : qt_out F ax (qt_sz R C ax) (qt_sz C R ax))
    (h : ∀ tok' cnt', qt_AX 37 tok' cnt' (qt_mc (qt_gro ax (nI a)) F (qt_is F ax a (qt_sz R C ax))) → post 0 (nI R, nI C, st, sl, sb, sr, 1, stl, oe, oh, ow, tok', cnt', stt, val, own, rch, nds, sv, se, out)) :
    ∀ (d k : Nat) (tok cnt : Nat → Int32), k = a + d → k < qt_sz R C ax → qt_AX 37 tok cnt (qt_sf F ax (qt_sz R C ax) (qt_sz C R ax) k) → ∀ f, d < f → wX_insertLine_46 post (nI ax) (nI a) f (nI k - 1) (nI R) (nI C) st sl sb sr sta stl oe oh ow tok cnt stt val own rch nds sv se out := by
  have hac : qt_sz C R ax ≤ 6 := by unfold qt_sz; split <;> omega
  have hn : qt_sz R C ax ≤ 6 := by unfold qt_sz; split <;> omega
  intro d
  induction d with
  | zero =>
    intro k tok cnt hk hkn hA f hf
    obtain ⟨f, rfl⟩ : ∃ z, f = z + 1 := ⟨f - 1, by omega⟩
    obtain rfl : k = a := by omega
    have lt : nI k - 1 < nI k := by
      have e1 : (nI k - 1).toInt = (k : Int) - 1 := pk_sub_toInt (a := k) (b := 1) (by omega) (by decide)
      rw [Int32.lt_iff_toInt_lt, nI_toInt (by omega), e1]
      omega
    unfold wX_insertLine_46
    refine br_t lt ?_
    refine qx_bl hR hC (Nat.le_refl 37) (by decide) ha (by omega) hA (fun cnt' hA' => ?_)
    refine ⟨37, qx_ins78 ha (Nat.le_refl 37) 36 0 _ (by decide) (qt_AX_e hA' (fun s _ => qt_ps_0 s)) (fun tok' hA'' => h _ _ (qt_AX_e hA'' (fun s hs => ?_))) 37 (by decide)⟩
    unfold qt_mc
    by_cases z : s < 36
    · rw [if_pos z]
      exact qt_fe_t (qt_ps_36 z) (qt_mp_fe (qt_is_x ha hn hac han ho z))
    · rw [if_neg z]
      refine qt_fe_t (qt_ps_k (by omega)) (qt_fe_e ?_)
      have b1 := qt_big (ax := ax) (s := s) (l := k) (ac := qt_sz C R ax) ha (by omega) (by omega) hac
      have b2 := qt_big2 (ax := ax) (s := s) (n := qt_sz R C ax) (ac := qt_sz C R ax) ha (by omega) hn hac
      unfold qt_bl qt_sf
      rw [if_neg b1, if_neg (fun z => b2 ⟨z.2.1, z.2.2⟩)]
  | succ d ih =>
    intro k tok cnt hk hkn hA f hf
    obtain ⟨f, rfl⟩ : ∃ z, f = z + 1 := ⟨f - 1, by omega⟩
    obtain ⟨l, rfl⟩ : ∃ l, k = l + 1 := ⟨k - 1, by omega⟩
    rw [nI_pred]
    simp (disch := omega) only [wX_insertLine_46, nI_add, pk_mul, qa_a1, qa_a2, qa_a3, qa_a4, qa_a5, qa_a6, qa_a7, qa_a8, qa_a56, qa_m6, qa_m7, qa_m8, qa_m56, qa_l2, qa_l37, qa_l2016, qa_in, nI_clamp, forall_eq, true_and, qa_cl0, nI_leI, nI_ltI, nI_eq, not_false_eq_true, pk_sub, qa_s1, qa_s2, qa_s8]
    refine br_f (by omega) ?_
    refine qx_cl hR hC (Nat.le_refl 37) (by decide) ha (by omega) (by omega) (by omega) hA (fun tok' cnt' hA' => ?_)
    have hm : nI l + (-1) = nI l - 1 := by rw [Int32.sub_eq_add_neg]
    simp (disch := omega) only [hm, nI_add, pk_mul, qa_a1, qa_a2, qa_a3, qa_a4, qa_a5, qa_a6, qa_a7, qa_a8, qa_a56, qa_m6, qa_m7, qa_m8, qa_m56, qa_l2, qa_l37, qa_l2016, qa_in, nI_clamp, forall_eq, true_and, qa_cl0, nI_leI, nI_ltI, nI_eq, not_false_eq_true, pk_sub, qa_s1, qa_s2, qa_s8]
    exact ih l _ _ (by omega) (by omega) (qt_AX_e hA' (fun s _ => qt_fe_e (qt_sf_s ha hn hac (by omega)))) f (by omega)
theorem qx_ins {post : Int32 → SX → Prop} {F : Nat → qt_Fm} {R C ax : Nat} {v : Int32} (ha : ax < 2) (hR : R ≤ 6) (hC : C ≤ 6) (hR3 : 3 ≤ R) (hC3 : 3 ≤ C) (ho : qt_out F ax (qt_sz R C ax) (qt_sz C R ax)) (hA : qt_AX 37 tok cnt F)
    (hb : (¬ ∃ a, a < qt_sz R C ax ∧ v = nI a) → post 1 (nI R, nI C, st, sl, sb, sr, sta, stl, oe, oh, ow, tok, cnt, stt, val, own, rch, nds, sv, se, out)) (hu : (∃ a, a < qt_sz R C ax ∧ v = nI a) → qt_use F ax (qt_sz R C ax) → post 2 (nI R, nI C, st, sl, sb, sr, sta, stl, oe, oh, ow, tok, cnt, stt, val, own, rch, nds, sv, se, out))
    (h : ∀ a, a < qt_sz R C ax → v = nI a → ¬ qt_use F ax (qt_sz R C ax) → ∀ tok' cnt', qt_AX 37 tok' cnt' (qt_mc (qt_gro ax (nI a)) F (qt_is F ax a (qt_sz R C ax))) → post 0 (nI R, nI C, st, sl, sb, sr, 1, stl, oe, oh, ow, tok', cnt', stt, val, own, rch, nds, sv, se, out)) : wpX_insertLine post (nI R, nI C, st, sl, sb, sr, sta, stl, oe, oh, ow, tok, cnt, stt, val, own, rch, nds, sv, se, out) (nI ax) v := by
  have hn : qt_sz R C ax ≤ 6 ∧ 3 ≤ qt_sz R C ax := by unfold qt_sz; split <;> omega
  have key : wX_insertLine_11 post (nI ax) v (nI R) (nI C) st sl sb sr sta stl oe oh ow tok cnt stt val own rch nds sv se out := by
    unfold wX_insertLine_11
    refine qx_size ha ?_
    by_cases c1 : v < 0
    · refine br_t c1 (hb ?_)
      rintro ⟨a, h1, rfl⟩
      exact nI_pos (by omega) c1
    obtain ⟨a, ha', rfl⟩ := nI_of c1
    refine br_f c1 ?_
    rw [nI_ltI ha' (by omega)]
    by_cases c2 : a < qt_sz R C ax
    · refine br_t c2 ?_
      rw [qa_s1 (by omega)]
      refine qx_lu hA ha hR hC (by omega) (by omega) ho (fun z => br_f (by decide) (hu ⟨a, c2, rfl⟩ z)) (fun z => br_t (by decide) ?_)
      have e2 : nI (qt_sz R C ax) - 2 = nI (qt_sz R C ax - 1) - 1 := by
        rw [qa_s2 (by omega), qa_s1 (by omega)]
        exact congrArg nI (by omega)
      refine nm_r e2 ⟨8, qx_in46 ha hR hC c2 ho (fun tok' cnt' hA' => h a c2 rfl z tok' cnt' hA') (qt_sz R C ax - 1 - a) (qt_sz R C ax - 1) _ _ (by omega) (by omega) (qt_AX_e hA (fun s _ => qt_fe_e ?_)) 8 (by omega)⟩
      unfold qt_sf
      rw [if_neg (by omega)]
    · refine br_f c2 (hb ?_)
      rintro ⟨a', h1, e⟩
      rw [nI_eq ha' (by omega)] at e
      omega
  match ax, ha with
  | 0, _ => exact br_t (by decide) key
  | 1, _ => exact br_f (by decide) (br_t (by decide) key)
theorem qx_de33 {post : Int32 → SX → Prop} {F : Nat → qt_Fm} {R C ax a : Nat} (ha : ax < 2) (hR : R ≤ 6) (hC : C ≤ 6) (han : a < qt_sz R C ax) (ho : qt_out F ax (qt_sz R C ax) (qt_sz C R ax))
    (h : ∀ tok' cnt', qt_AX 37 tok' cnt' (qt_mc (qt_shr ax (nI a)) F (qt_ds F ax a (qt_sz R C ax))) → post 0 (nI R, nI C, st, sl, sb, sr, 1, stl, oe, oh, ow, tok', cnt', stt, val, own, rch, nds, sv, se, out)) :
    ∀ (d l : Nat) (tok cnt : Nat → Int32), l + d = qt_sz R C ax → a < l → qt_AX 37 tok cnt (qt_df F ax a (qt_sz C R ax) l) → ∀ f, d < f → wX_deleteLine_33 post (nI ax) (nI a) (nI (qt_sz R C ax)) f (nI l) (nI R) (nI C) st sl sb sr sta stl oe oh ow tok cnt stt val own rch nds sv se out := by
  have hac : qt_sz C R ax ≤ 6 := by unfold qt_sz; split <;> omega
  have hn : qt_sz R C ax ≤ 6 := by unfold qt_sz; split <;> omega
  intro d
  induction d with
  | zero =>
    intro l tok cnt hl hal hA f hf
    obtain ⟨f, rfl⟩ : ∃ z, f = z + 1 := ⟨f - 1, by omega⟩
    obtain rfl : l = qt_sz R C ax := by omega
    simp (disch := omega) only [wX_deleteLine_33, nI_add, pk_mul, qa_a1, qa_a2, qa_a3, qa_a4, qa_a5, qa_a6, qa_a7, qa_a8, qa_a56, qa_m6, qa_m7, qa_m8, qa_m56, qa_l2, qa_l37, qa_l2016, qa_in, nI_clamp, forall_eq, true_and, qa_cl0, nI_leI, nI_ltI, nI_eq, not_false_eq_true, pk_sub, qa_s1, qa_s2, qa_s8]
    refine br_t (by omega) ?_
    refine qx_bl hR hC (Nat.le_refl 37) (by decide) ha (by omega) hA (fun cnt' hA' => ?_)
    refine ⟨37, qx_del67 ha (Nat.le_refl 37) 36 0 _ (by decide) (qt_AX_e hA' (fun s _ => qt_ps_0 s)) (fun tok' hA'' => h _ _ (qt_AX_e hA'' (fun s hs => ?_))) 37 (by decide)⟩
    unfold qt_mc
    by_cases z : s < 36
    · rw [if_pos z]
      exact qt_fe_t (qt_ps_36 z) (qt_mp_fe (qt_ds_x ha hn hac han ho z))
    · rw [if_neg z]
      refine qt_fe_t (qt_ps_k (by omega)) (qt_fe_e ?_)
      have b1 := qt_big (ax := ax) (s := s) (l := qt_sz R C ax - 1) (ac := qt_sz C R ax) ha (by omega) (by omega) hac
      have b2 := qt_big2 (ax := ax) (s := s) (n := qt_sz R C ax) (ac := qt_sz C R ax) ha (by omega) hn hac
      unfold qt_bl qt_df
      rw [if_neg b1, if_neg (fun z => b2 ⟨by omega, z.2.2⟩)]
  | succ d ih =>
    intro l tok cnt hl hal hA f hf
    obtain ⟨f, rfl⟩ : ∃ z, f = z + 1 := ⟨f - 1, by omega⟩
    simp (disch := omega) only [wX_deleteLine_33, nI_add, pk_mul, qa_a1, qa_a2, qa_a3, qa_a4, qa_a5, qa_a6, qa_a7, qa_a8, qa_a56, qa_m6, qa_m7, qa_m8, qa_m56, qa_l2, qa_l37, qa_l2016, qa_in, nI_clamp, forall_eq, true_and, qa_cl0, nI_leI, nI_ltI, nI_eq, not_false_eq_true, pk_sub, qa_s1, qa_s2, qa_s8]
    refine br_f (by omega) ?_
    refine qx_cl hR hC (Nat.le_refl 37) (by decide) ha (by omega) (by omega) (by omega) hA (fun tok' cnt' hA' => ?_)
    exact ih (l + 1) _ _ (by omega) (by omega) (qt_AX_e hA' (fun s _ => qt_fe_e (qt_df_s ha hac (by omega) hal))) f (by omega)
theorem qx_del {post : Int32 → SX → Prop} {F : Nat → qt_Fm} {R C ax : Nat} {v : Int32} (ha : ax < 2) (hR : R ≤ 6) (hC : C ≤ 6) (hR3 : 3 ≤ R) (hC3 : 3 ≤ C) (ho : qt_out F ax (qt_sz R C ax) (qt_sz C R ax)) (hA : qt_AX 37 tok cnt F)
    (hb : (¬ ∃ a, a < qt_sz R C ax ∧ v = nI a) → post 1 (nI R, nI C, st, sl, sb, sr, sta, stl, oe, oh, ow, tok, cnt, stt, val, own, rch, nds, sv, se, out))
    (h : ∀ a, a < qt_sz R C ax → v = nI a → ∀ tok' cnt', qt_AX 37 tok' cnt' (qt_mc (qt_shr ax (nI a)) F (qt_ds F ax a (qt_sz R C ax))) → post 0 (nI R, nI C, st, sl, sb, sr, 1, stl, oe, oh, ow, tok', cnt', stt, val, own, rch, nds, sv, se, out)) : wpX_deleteLine post (nI R, nI C, st, sl, sb, sr, sta, stl, oe, oh, ow, tok, cnt, stt, val, own, rch, nds, sv, se, out) (nI ax) v := by
  have hn : qt_sz R C ax ≤ 6 ∧ 3 ≤ qt_sz R C ax := by unfold qt_sz; split <;> omega
  have key : wX_deleteLine_11 post (nI ax) v (nI R) (nI C) st sl sb sr sta stl oe oh ow tok cnt stt val own rch nds sv se out := by
    unfold wX_deleteLine_11
    refine qx_size ha ?_
    by_cases c1 : v < 0
    · refine br_t c1 (hb ?_)
      rintro ⟨a, h1, rfl⟩
      exact nI_pos (by omega) c1
    obtain ⟨a, ha', rfl⟩ := nI_of c1
    refine br_f c1 ?_
    rw [nI_ltI ha' (by omega)]
    by_cases c2 : a < qt_sz R C ax
    · refine br_t c2 ?_
      refine nm_r (nI_1 a) ⟨8, qx_de33 ha hR hC c2 ho (fun tok' cnt' hA' => h a c2 rfl tok' cnt' hA') (qt_sz R C ax - (a + 1)) (a + 1) _ _ (by omega) (by omega) (qt_AX_e hA (fun s _ => qt_fe_e ?_)) 8 (by omega)⟩
      unfold qt_df
      rw [if_neg (by omega)]
    · refine br_f c2 (hb ?_)
      rintro ⟨a', h1, e⟩
      rw [nI_eq ha' (by omega)] at e
      omega
  match ax, ha with
  | 0, _ => exact br_t (by decide) key
  | 1, _ => exact br_f (by decide) (br_t (by decide) key)
end
end
section
/-! the component: moveTo, copyTo, fill -/
abbrev qt_sel (a b c d s : Nat) : Prop := a ≤ s / 6 ∧ s / 6 ≤ c ∧ b ≤ s % 6 ∧ s % 6 ≤ d
abbrev qt_ahd (r k s : Nat) : Prop := s / 6 < r ∨ (s / 6 = r ∧ s % 6 < k)
abbrev qt_dst (a b c d row col s : Nat) : Prop := row ≤ s / 6 ∧ s / 6 + a ≤ c + row ∧ col ≤ s % 6 ∧ s % 6 + b ≤ d + col
def qt_so (a b row col s : Nat) : Nat := (s / 6 - row + a) * 6 + (s % 6 - col + b)
/-- blanked, copied ahead of (r, k) -/
def qt_zs (F : Nat → qt_Fm) (a b c d r k : Nat) : Nat → qt_Fm := fun s => if qt_sel a b c d s ∧ qt_ahd r k s then qt_z else F s
def qt_cm (f : qt_Fm → qt_Fm) (F P : Nat → qt_Fm) (a b c d row col r k : Nat) : Nat → qt_Fm := fun s => if qt_dst a b c d row col s ∧ qt_ahd r k (qt_so a b row col s) then f (F (qt_so a b row col s)) else P s
theorem qt_so_f {a b c d row col s : Nat} (hc : c < 6) (hd : d < 6) (h : qt_dst a b c d row col s) : qt_so a b row col s / 6 = s / 6 - row + a ∧ qt_so a b row col s % 6 = s % 6 - col + b := by
  unfold qt_so; omega
theorem qt_zs_s {F : Nat → qt_Fm} {a b c d r k s : Nat} (hd : d < 6) (hr : a ≤ r ∧ r ≤ c) (hk : b ≤ k ∧ k ≤ d) : qt_ut (qt_zs F a b c d r k) (r * 6 + k) qt_z s = qt_zs F a b c d r (k + 1) s := by
  by_cases e : s = r * 6 + k
  · subst e
    rw [qt_us]
    unfold qt_zs
    rw [if_pos (by omega)]
  · rw [qt_un e]
    unfold qt_zs
    by_cases z : qt_sel a b c d s ∧ qt_ahd r k s
    · rw [if_pos z, if_pos (by omega)]
    · rw [if_neg z, if_neg (by omega)]
theorem qt_zs_n {F : Nat → qt_Fm} {a b c d r s : Nat} (hr : a ≤ r ∧ r ≤ c) : qt_zs F a b c d r (d + 1) s = qt_zs F a b c d (r + 1) b s := by
  unfold qt_zs
  by_cases z : qt_sel a b c d s ∧ qt_ahd r (d + 1) s
  · rw [if_pos z, if_pos (by omega)]
  · rw [if_neg z, if_neg (by omega)]
theorem qt_cm_s {f : qt_Fm → qt_Fm} {F P : Nat → qt_Fm} {a b c d row col r k s : Nat} (hc : c < 6) (hd : d < 6) (hrow : row + (c - a) < 6) (hcol : col + (d - b) < 6) (hr : a ≤ r ∧ r ≤ c) (hk : b ≤ k ∧ k ≤ d) : qt_ut (qt_cm f F P a b c d row col r k) ((r - a + row) * 6 + k - b + col) (f (F (r * 6 + k))) s = qt_cm f F P a b c d row col r (k + 1) s := by
  have e0 : (r - a + row) * 6 + k - b + col = (r - a + row) * 6 + (k - b + col) := by omega
  by_cases e : s = (r - a + row) * 6 + k - b + col
  · subst e
    rw [qt_us]
    have e1 : ((r - a + row) * 6 + k - b + col) / 6 = r - a + row := by omega
    have e2 : ((r - a + row) * 6 + k - b + col) % 6 = k - b + col := by omega
    have hq : qt_dst a b c d row col ((r - a + row) * 6 + k - b + col) := by unfold qt_dst; omega
    have hs : qt_so a b row col ((r - a + row) * 6 + k - b + col) = r * 6 + k := by
      unfold qt_so
      rw [e1, e2]; omega
    unfold qt_cm
    rw [hs, if_pos ⟨hq, by unfold qt_ahd; omega⟩]
  · rw [qt_un e]
    unfold qt_cm
    by_cases z : qt_dst a b c d row col s
    · obtain ⟨f1, f2⟩ := qt_so_f hc hd z
      by_cases y : qt_ahd r k (qt_so a b row col s)
      · rw [if_pos ⟨z, y⟩, if_pos ⟨z, by unfold qt_ahd at *; omega⟩]
      · rw [if_neg (fun v => y v.2), if_neg]
        rintro ⟨-, v⟩
        unfold qt_ahd at y v
        unfold qt_dst at z
        omega
    · rw [if_neg (fun v => z v.1), if_neg (fun v => z v.1)]
theorem qt_cm_n {f : qt_Fm → qt_Fm} {F P : Nat → qt_Fm} {a b c d row col r s : Nat} (hc : c < 6) (hd : d < 6) (hr : a ≤ r ∧ r ≤ c) : qt_cm f F P a b c d row col r (d + 1) s = qt_cm f F P a b c d row col (r + 1) b s := by
  unfold qt_cm
  by_cases z : qt_dst a b c d row col s
  · obtain ⟨f1, f2⟩ := qt_so_f hc hd z
    by_cases y : qt_ahd r (d + 1) (qt_so a b row col s)
    · rw [if_pos ⟨z, y⟩, if_pos ⟨z, by unfold qt_ahd at *; omega⟩]
    · rw [if_neg (fun v => y v.2), if_neg]
      rintro ⟨-, v⟩
      unfold qt_ahd at y v
      unfold qt_dst at z
      omega
  · rw [if_neg (fun v => z v.1), if_neg (fun v => z v.1)]
theorem qt_cm_0 {f : qt_Fm → qt_Fm} {F P : Nat → qt_Fm} {a b c d row col s : Nat} (hc : c < 6) (hd : d < 6) : qt_cm f F P a b c d row col a b s = P s := by
  unfold qt_cm
  rw [if_neg]
  rintro ⟨z, v⟩
  obtain ⟨f1, f2⟩ := qt_so_f hc hd z
  unfold qt_ahd at v
  omega
theorem qt_cm_e {f : qt_Fm → qt_Fm} {F P : Nat → qt_Fm} {a b c d row col s : Nat} (hc : c < 6) (hd : d < 6) : qt_cm f F P a b c d row col (c + 1) b s = if qt_dst a b c d row col s then f (F (qt_so a b row col s)) else P s := by
  unfold qt_cm
  by_cases z : qt_dst a b c d row col s
  · obtain ⟨f1, f2⟩ := qt_so_f hc hd z
    rw [if_pos z, if_pos ⟨z, by unfold qt_ahd; unfold qt_dst at z; omega⟩]
  · rw [if_neg z, if_neg (fun v => z v.1)]
theorem qt_zs_e {F : Nat → qt_Fm} {a b c d s : Nat} : qt_zs F a b c d (c + 1) b s = if qt_sel a b c d s then qt_z else F s := by
  unfold qt_zs
  by_cases z : qt_sel a b c d s
  · rw [if_pos z, if_pos ⟨z, by omega⟩]
  · rw [if_neg z, if_neg (fun v => z v.1)]
/-- the cells behind a move, a copy -/
def qt_mvF (F : Nat → qt_Fm) (a b c d row col : Nat) : Nat → qt_Fm := fun s => if qt_dst a b c d row col s then F (qt_so a b row col s) else if qt_sel a b c d s then qt_z else F s
noncomputable def qt_cpF (R C : Nat) (F : Nat → qt_Fm) (a b c d row col : Nat) : Nat → qt_Fm := fun s => if qt_dst a b c d row col s then qt_mp (qt_shf R C (nI row - nI a) (nI col - nI b)) (F (qt_so a b row col s)) else F s
noncomputable def qt_fi (R C : Nat) (F : Nat → qt_Fm) (ax a b : Nat) : Nat → qt_Fm := fun s =>
  if ax = 0 then (if a < s / 6 then qt_mp (qt_shf R C (nI (s / 6) - nI a) 0) (F (a * 6 + s % 6)) else F s)
  else (if b < s % 6 then qt_mp (qt_shf R C 0 (nI (s % 6) - nI b)) (F (s / 6 * 6 + b)) else F s)
noncomputable def qt_fs (R C : Nat) (F : Nat → qt_Fm) (ax a b c d r k : Nat) : Nat → qt_Fm := fun s => if qt_sel a b c d s ∧ qt_ahd r k s then qt_fi R C F ax a b s else F s
noncomputable def qt_flF (R C : Nat) (F : Nat → qt_Fm) (ax a b c d : Nat) : Nat → qt_Fm := fun s => if qt_sel a b c d s then qt_fi R C F ax a b s else F s
section
variable {nr nc st sl sb sr sta oe oh ow : Int32} {stl : Int64} {tok cnt stt val own sv se out : Nat → Int32} {rch nds : Nat → Int64}
theorem qx_ft {post : Int32 → Prop} {R C a b c d : Nat} {p q : Int32} (hR : R < 100) (hC : C < 100) (hac : a ≤ c) (hbd : b ≤ d) (hc : c < 100) (hd : d < 100)
    (h1 : qt_ft R C a b c d p q → post 1) (h0 : ¬ qt_ft R C a b c d p q → post 0) : wpX_destinationFits post (nI R, nI C, nI a, nI b, nI c, nI d, sta, stl, oe, oh, ow, tok, cnt, stt, val, own, rch, nds, sv, se, out) p q := by
  unfold wpX_destinationFits
  refine qx_inS hR hC (fun i => ?_) (fun i => ?_)
  · refine br_f (by decide) ?_
    obtain ⟨r, k, hr, hk, rfl, rfl⟩ := i
    rw [nI_add, nI_add, pk_sub (by omega), pk_sub (by omega)]
    refine qx_inS hR hC (fun i => ?_) (fun i => ?_)
    · refine ⟨rfl, h1 ⟨r, k, rfl, rfl, ?_⟩⟩
      have := (qt_in_r (p := 0) (q := 0) hR hC (by omega) (by omega)).mp i
      omega
    · refine ⟨rfl, h0 ?_⟩
      rintro ⟨r', k', e1, e2, z1, z2⟩
      rw [nI_eq (by omega) (by omega)] at e1 e2
      exact i ((qt_in_r (p := 0) (q := 0) hR hC (by omega) (by omega)).mpr (by omega))
  · refine br_t (by decide) (h0 ?_)
    rintro ⟨r, k, e1, e2, z1, z2⟩
    exact i ⟨r, k, by omega, by omega, e1, e2⟩
section
variable {F : Nat → qt_Fm} {R C a b c d row col : Nat}
theorem qx_mv62 {post : Int32 → SX → Prop} {P : Nat → qt_Fm} {dr dc : Int32} {r : Nat} {J : Int32 → (Nat → Int32) → (Nat → Int32) → (Nat → Int32) → (Nat → Int32) → (Nat → Int32) → (Nat → Int64) → (Nat → Int64) → (Nat → Int32) → (Nat → Int32) → (Nat → Int32) → Prop} (hc : c < 6) (hd : d < 6) (hr : a ≤ r ∧ r ≤ c) (h : ∀ cnt', qt_AX 73 tok cnt' (qt_zs P a b c d (r + 1) b) → J (nI (r + 1)) tok cnt' stt val own rch nds sv se out) :
    ∀ (e k : Nat) (cnt : Nat → Int32), k + e = d + 1 → b ≤ k → qt_AX 73 tok cnt (qt_zs P a b c d r k) → ∀ n, e < n → wX_moveTo_62 post J dr dc (nI r) nr nc (nI a) (nI b) (nI c) (nI d) sta stl oe oh ow n (nI k) tok cnt stt val own rch nds sv se out := by
  intro e
  induction e with
  | zero =>
    intro k cnt hk hb hA n hn
    obtain ⟨n, rfl⟩ : ∃ z, n = z + 1 := ⟨n - 1, by omega⟩
    obtain rfl : k = d + 1 := by omega
    simp (disch := omega) only [wX_moveTo_62, nI_add, pk_mul, qa_a1, qa_a2, qa_a3, qa_a4, qa_a5, qa_a6, qa_a7, qa_a8, qa_a56, qa_m6, qa_m7, qa_m8, qa_m56, qa_l2, qa_l37, qa_l2016, qa_in, nI_clamp, forall_eq, true_and, qa_cl0, nI_leI, nI_ltI, nI_eq, not_false_eq_true, pk_sub, qa_s1, qa_s2, qa_s8]
    exact br_t (by omega) (h _ (qt_AX_e hA (fun s _ => qt_fe_e (qt_zs_n hr))))
  | succ e ih =>
    intro k cnt hk hb hA n hn
    obtain ⟨n, rfl⟩ : ∃ z, n = z + 1 := ⟨n - 1, by omega⟩
    simp (disch := omega) only [wX_moveTo_62, nI_add, pk_mul, qa_a1, qa_a2, qa_a3, qa_a4, qa_a5, qa_a6, qa_a7, qa_a8, qa_a56, qa_m6, qa_m7, qa_m8, qa_m56, qa_l2, qa_l37, qa_l2016, qa_in, nI_clamp, forall_eq, true_and, qa_cl0, nI_leI, nI_ltI, nI_eq, not_false_eq_true, pk_sub, qa_s1, qa_s2, qa_s8]
    exact br_f (by omega) (ih (k + 1) _ (by omega) (by omega) (qt_AX_e (qt_AX_0 hA) (fun s _ => qt_fe_e (qt_zs_s hd hr ⟨hb, by omega⟩))) n (by omega))
theorem qx_mv118 {post : Int32 → SX → Prop} {P : Nat → qt_Fm} {r : Nat} {J : Int32 → Int32 → Int32 → Int32 → Int32 → Int32 → Int32 → Int32 → Int64 → Int32 → Int32 → Int32 → (Nat → Int32) → (Nat → Int32) → (Nat → Int32) → (Nat → Int32) → (Nat → Int32) → (Nat → Int64) → (Nat → Int64) → (Nat → Int32) → (Nat → Int32) → (Nat → Int32) → Prop} (hc : c < 6) (hd : d < 6) (hrow : row + (c - a) < 6) (hcol : col + (d - b) < 6) (hr : a ≤ r ∧ r ≤ c) (hP : ∀ s, s < 36 → P (37 + s) = F s) (h : ∀ tok' cnt', qt_AX 73 tok' cnt' (qt_cm id F P a b c d row col (r + 1) b) → J (nI (r + 1)) nr nc (nI a) (nI b) (nI c) (nI d) sta stl oe oh ow tok' cnt' stt val own rch nds sv se out) :
    ∀ (e k : Nat) (tok cnt : Nat → Int32), k + e = d + 1 → b ≤ k → qt_AX 73 tok cnt (qt_cm id F P a b c d row col r k) → ∀ n, e < n → wX_moveTo_118 post J (nI row - nI a) (nI col - nI b) (nI r) n (nI k) nr nc (nI a) (nI b) (nI c) (nI d) sta stl oe oh ow tok cnt stt val own rch nds sv se out := by
  intro e
  induction e with
  | zero =>
    intro k tok cnt hk hb hA n hn
    obtain ⟨n, rfl⟩ : ∃ z, n = z + 1 := ⟨n - 1, by omega⟩
    obtain rfl : k = d + 1 := by omega
    unfold wX_moveTo_118
    refine br_t (by rw [nI_ltI (by omega) (by omega)]; omega) (nm_r (nI_1 r) (h _ _ (qt_AX_e hA (fun s _ => qt_fe_e (qt_cm_n hc hd hr)))))
  | succ e ih =>
    intro k tok cnt hk hb hA n hn
    obtain ⟨n, rfl⟩ : ∃ z, n = z + 1 := ⟨n - 1, by omega⟩
    unfold wX_moveTo_118
    refine br_f (by rw [nI_ltI (by omega) (by omega)]; omega) ?_
    rw [qa_m6, qa_l37, nI_add, qa_dr hr.1, qa_m6, nI_add, qa_dr (by omega)]
    have hsrc : qt_cm id F P a b c d row col r k (37 + r * 6 + k) = id (F (r * 6 + k)) := by
      unfold qt_cm
      rw [if_neg (fun z => by have := z.1; unfold qt_dst at this; omega), show 37 + r * 6 + k = 37 + (r * 6 + k) by omega, hP _ (by omega)]
      rfl
    refine qx_csA (Nat.le_refl 73) (by omega) (by omega) (by omega) hA (fun tok' cnt' hA' => ?_)
    rw [hsrc] at hA'
    refine nm_r (nI_1 k) (ih (k + 1) _ _ (by omega) (by omega) (qt_AX_e hA' (fun s _ => qt_fe_e (qt_cm_s hc hd hrow hcol hr ⟨hb, by omega⟩))) n (by omega))
theorem qx_mv103 {post : Int32 → SX → Prop} {P : Nat → qt_Fm} (hc : c < 6) (hd : d < 6) (hbd : b ≤ d) (hrow : row + (c - a) < 6) (hcol : col + (d - b) < 6) (hP : ∀ s, s < 36 → P (37 + s) = F s) (h : ∀ tok' cnt', qt_AX 73 tok' cnt' (qt_ps (qt_mov (nI a) (nI b) (nI c) (nI d) (nI row - nI a) (nI col - nI b)) (qt_cm id F P a b c d row col (c + 1) b) 36 0) → post 0 (nr, nc, nI a, nI b, nI c, nI d, 1, stl, oe, oh, ow, tok', cnt', stt, val, own, rch, nds, sv, se, out)) :
    ∀ (e r : Nat) (tok cnt : Nat → Int32), r + e = c + 1 → a ≤ r → qt_AX 73 tok cnt (qt_cm id F P a b c d row col r b) → ∀ n, e < n → wX_moveTo_103 post (nI row - nI a) (nI col - nI b) n (nI r) nr nc (nI a) (nI b) (nI c) (nI d) sta stl oe oh ow tok cnt stt val own rch nds sv se out := by
  intro e
  induction e with
  | zero =>
    intro r tok cnt hr ha hA n hn
    obtain ⟨n, rfl⟩ : ∃ z, n = z + 1 := ⟨n - 1, by omega⟩
    obtain rfl : r = c + 1 := by omega
    unfold wX_moveTo_103
    refine br_t (by rw [nI_ltI (by omega) (by omega)]; omega) ⟨37, qx_mov170 (q := 73) (by decide) 36 0 _ (by decide) (qt_AX_e hA (fun s _ => qt_ps_0 s)) (fun tok' hA' => h _ _ hA') 37 (by decide)⟩
  | succ e ih =>
    intro r tok cnt hr ha hA n hn
    obtain ⟨n, rfl⟩ : ∃ z, n = z + 1 := ⟨n - 1, by omega⟩
    unfold wX_moveTo_103
    refine br_f (by rw [nI_ltI (by omega) (by omega)]; omega) ⟨8, ?_⟩
    exact qx_mv118 hc hd hrow hcol ⟨ha, by omega⟩ hP (fun tok' cnt' hA' => ih (r + 1) _ _ (by omega) (by omega) hA' n (by omega)) (d + 1 - b) b _ _ (by omega) (Nat.le_refl _) hA 8 (by omega)
theorem qx_mv47 {post : Int32 → SX → Prop} {P : Nat → qt_Fm} {dr dc : Int32} (hc : c < 6) (hd : d < 6) (hbd : b ≤ d) (h : ∀ cnt', qt_AX 73 tok cnt' (qt_zs P a b c d (c + 1) b) → ∃ f, wX_moveTo_103 post dr dc f (nI a) nr nc (nI a) (nI b) (nI c) (nI d) sta stl oe oh ow tok cnt' stt val own rch nds sv se out) :
    ∀ (e r : Nat) (cnt : Nat → Int32), r + e = c + 1 → a ≤ r → qt_AX 73 tok cnt (qt_zs P a b c d r b) → ∀ n, e < n → wX_moveTo_47 post dr dc nr nc (nI a) (nI b) (nI c) (nI d) sta stl oe oh ow n (nI r) tok cnt stt val own rch nds sv se out := by
  intro e
  induction e with
  | zero =>
    intro r cnt hr ha hA n hn
    obtain ⟨n, rfl⟩ : ∃ z, n = z + 1 := ⟨n - 1, by omega⟩
    obtain rfl : r = c + 1 := by omega
    simp (disch := omega) only [wX_moveTo_47, nI_add, pk_mul, qa_a1, qa_a2, qa_a3, qa_a4, qa_a5, qa_a6, qa_a7, qa_a8, qa_a56, qa_m6, qa_m7, qa_m8, qa_m56, qa_l2, qa_l37, qa_l2016, qa_in, nI_clamp, forall_eq, true_and, qa_cl0, nI_leI, nI_ltI, nI_eq, not_false_eq_true, pk_sub, qa_s1, qa_s2, qa_s8]
    exact br_t (by omega) (h _ hA)
  | succ e ih =>
    intro r cnt hr ha hA n hn
    obtain ⟨n, rfl⟩ : ∃ z, n = z + 1 := ⟨n - 1, by omega⟩
    simp (disch := omega) only [wX_moveTo_47, nI_add, pk_mul, qa_a1, qa_a2, qa_a3, qa_a4, qa_a5, qa_a6, qa_a7, qa_a8, qa_a56, qa_m6, qa_m7, qa_m8, qa_m56, qa_l2, qa_l37, qa_l2016, qa_in, nI_clamp, forall_eq, true_and, qa_cl0, nI_leI, nI_ltI, nI_eq, not_false_eq_true, pk_sub, qa_s1, qa_s2, qa_s8]
    refine br_f (by omega) ⟨8, ?_⟩
    exact qx_mv62 hc hd ⟨ha, by omega⟩ (fun cnt' hA' => ih (r + 1) _ (by omega) (by omega) hA' n (by omega)) (d + 1 - b) b _ (by omega) (Nat.le_refl _) hA 8 (by omega)
theorem qx_mv {post : Int32 → SX → Prop} {p q : Int32} (hR : R ≤ 6) (hC : C ≤ 6) (hac : a ≤ c) (hbd : b ≤ d) (hc : c < 6) (hd : d < 6) (hA : qt_AX 37 tok cnt F)
    (hb : ¬ qt_ft R C a b c d p q → post 1 (nI R, nI C, nI a, nI b, nI c, nI d, sta, stl, oe, oh, ow, tok, cnt, stt, val, own, rch, nds, sv, se, out)) (hz : p = nI a → q = nI b → qt_ft R C a b c d p q → post 0 (nI R, nI C, nI a, nI b, nI c, nI d, sta, stl, oe, oh, ow, tok, cnt, stt, val, own, rch, nds, sv, se, out))
    (h : ∀ row col, p = nI row → q = nI col → row + (c - a) < R → col + (d - b) < C → ¬ (row = a ∧ col = b) → ∀ tok' cnt', qt_AX 37 tok' cnt' (qt_mc (qt_mov (nI a) (nI b) (nI c) (nI d) (nI row - nI a) (nI col - nI b)) F (qt_mvF F a b c d row col)) → post 0 (nI R, nI C, nI a, nI b, nI c, nI d, 1, stl, oe, oh, ow, tok', cnt', stt, val, own, rch, nds, sv, se, out)) :
    wpX_moveTo post (nI R, nI C, nI a, nI b, nI c, nI d, sta, stl, oe, oh, ow, tok, cnt, stt, val, own, rch, nds, sv, se, out) p q := by
  unfold wpX_moveTo
  refine qx_ft (by omega) (by omega) hac hbd (by omega) (by omega) (fun hf => ?_) (fun hf => br_t (by decide) (hb hf))
  refine br_f (by decide) (nm_e (nm_e ?_))
  obtain ⟨row, col, rfl, rfl, h1, h2⟩ := id hf
  have z1 : nI row - nI a = 0 ↔ row = a := by
    rw [← Int32.toInt_inj, pk_sub_toInt (by omega) (by omega), show (0 : Int32).toInt = 0 from by decide]
    omega
  have z2 : nI col - nI b = 0 ↔ col = b := by
    rw [← Int32.toInt_inj, pk_sub_toInt (by omega) (by omega), show (0 : Int32).toInt = 0 from by decide]
    omega
  have go : ¬ (row = a ∧ col = b) → wX_moveTo_37 post (nI row - nI a) (nI col - nI b) (nI R) (nI C) (nI a) (nI b) (nI c) (nI d) sta stl oe oh ow tok cnt stt val own rch nds sv se out := by
    intro hne
    unfold wX_moveTo_37
    refine qx_bk hA (fun tok1 cnt1 hA1 => ?_)
    refine ⟨8, qx_mv47 (P := qt_bk F 36) hc hd hbd (fun cnt2 hA2 => ⟨8, ?_⟩) (c + 1 - a) a _ (by omega) (Nat.le_refl _) (qt_AX_e hA1 (fun s _ => qt_fe_e ?_)) 8 (by omega)⟩
    · refine qx_mv103 (F := F) (P := qt_zs (qt_bk F 36) a b c d (c + 1) b) hc hd hbd (by omega) (by omega) (fun s hs => ?_) (fun tok3 cnt3 hA3 => h row col rfl rfl h1 h2 hne _ _ (qt_AX_e (qt_AX_le hA3 (by decide)) (fun s hs => ?_))) (c + 1 - a) a _ _ (by omega) (Nat.le_refl _) (qt_AX_e hA2 (fun s _ => qt_fe_e (qt_cm_0 hc hd).symm)) 8 (by omega)
      · rw [qt_zs_e, if_neg (fun z => by unfold qt_sel at z; omega)]
        unfold qt_bk
        rw [if_pos (by omega), Nat.add_sub_cancel_left]
      · unfold qt_mc
        by_cases y : s < 36
        · rw [if_pos y]
          refine qt_fe_t (qt_ps_36 y) (qt_mp_fe (qt_fe_e ?_))
          rw [qt_cm_e hc hd, qt_zs_e]
          unfold qt_mvF
          have : qt_bk F 36 s = F s := by unfold qt_bk; rw [if_neg (by omega)]
          rw [this]
          rfl
        · rw [if_neg y]
          refine qt_fe_t (qt_ps_k (by omega)) (qt_fe_e ?_)
          obtain rfl : s = 36 := by omega
          rw [qt_cm_e hc hd, qt_zs_e, if_neg (fun z => by unfold qt_dst at z; omega), if_neg (fun z => by unfold qt_sel at z; omega)]
          unfold qt_bk
          rw [if_neg (by omega)]
    · unfold qt_zs
      rw [if_neg (by omega)]
  by_cases c1 : row = a
  · refine br_t (z1.mpr c1) ?_
    by_cases c2 : col = b
    · exact br_t (z2.mpr c2) (hz (by rw [c1]) (by rw [c2]) hf)
    · exact br_f (fun z => c2 (z2.mp z)) (go (fun z => c2 z.2))
  · exact br_f (fun z => c1 (z1.mp z)) (go (fun z => c1 z.1))
theorem qx_cp51 {post : Int32 → SX → Prop} {P : Nat → qt_Fm} {r : Nat} {J : Int32 → Int32 → Int32 → Int32 → Int32 → Int32 → Int32 → Int32 → Int64 → Int32 → Int32 → Int32 → (Nat → Int32) → (Nat → Int32) → (Nat → Int32) → (Nat → Int32) → (Nat → Int32) → (Nat → Int64) → (Nat → Int64) → (Nat → Int32) → (Nat → Int32) → (Nat → Int32) → Prop} (hR : R ≤ 6) (hC : C ≤ 6) (hc : c < 6) (hd : d < 6) (hrow : row + (c - a) < 6) (hcol : col + (d - b) < 6) (hr : a ≤ r ∧ r ≤ c) (hP : ∀ s, s < 36 → P (37 + s) = F s) (h : ∀ tok' cnt', qt_AX 73 tok' cnt' (qt_cm (qt_mp (qt_shf R C (nI row - nI a) (nI col - nI b))) F P a b c d row col (r + 1) b) → J (nI (r + 1)) (nI R) (nI C) (nI a) (nI b) (nI c) (nI d) sta stl oe oh ow tok' cnt' stt val own rch nds sv se out) :
    ∀ (e k : Nat) (tok cnt : Nat → Int32), k + e = d + 1 → b ≤ k → qt_AX 73 tok cnt (qt_cm (qt_mp (qt_shf R C (nI row - nI a) (nI col - nI b))) F P a b c d row col r k) → ∀ n, e < n → wX_copyTo_51 post J (nI row - nI a) (nI col - nI b) (nI r) n (nI k) (nI R) (nI C) (nI a) (nI b) (nI c) (nI d) sta stl oe oh ow tok cnt stt val own rch nds sv se out := by
  intro e
  induction e with
  | zero =>
    intro k tok cnt hk hb hA n hn
    obtain ⟨n, rfl⟩ : ∃ z, n = z + 1 := ⟨n - 1, by omega⟩
    obtain rfl : k = d + 1 := by omega
    unfold wX_copyTo_51
    refine br_t (by rw [nI_ltI (by omega) (by omega)]; omega) (nm_r (nI_1 r) (h _ _ (qt_AX_e hA (fun s _ => qt_fe_e (qt_cm_n hc hd hr)))))
  | succ e ih =>
    intro k tok cnt hk hb hA n hn
    obtain ⟨n, rfl⟩ : ∃ z, n = z + 1 := ⟨n - 1, by omega⟩
    unfold wX_copyTo_51
    refine br_f (by rw [nI_ltI (by omega) (by omega)]; omega) ?_
    rw [qa_m6, qa_l37, nI_add, qa_dr hr.1, qa_m6, nI_add, qa_dr (by omega)]
    have hsrc : qt_cm (qt_mp (qt_shf R C (nI row - nI a) (nI col - nI b))) F P a b c d row col r k (37 + r * 6 + k) = F (r * 6 + k) := by
      unfold qt_cm
      rw [if_neg (fun z => by have := z.1; unfold qt_dst at this; omega), show 37 + r * 6 + k = 37 + (r * 6 + k) by omega, hP _ (by omega)]
    refine qx_cf (by omega) (by omega) (by omega) (by omega) (by decide) (Nat.le_refl 73) (by omega) hA (fun tok' cnt' hA' => ?_)
    rw [hsrc] at hA'
    refine nm_r (nI_1 k) (ih (k + 1) _ _ (by omega) (by omega) (qt_AX_e hA' (fun s _ => qt_fe_e (qt_cm_s hc hd hrow hcol hr ⟨hb, by omega⟩))) n (by omega))
theorem qx_cp36 {post : Int32 → SX → Prop} {P : Nat → qt_Fm} (hR : R ≤ 6) (hC : C ≤ 6) (hc : c < 6) (hd : d < 6) (hbd : b ≤ d) (hrow : row + (c - a) < 6) (hcol : col + (d - b) < 6) (hP : ∀ s, s < 36 → P (37 + s) = F s) (h : ∀ tok' cnt', qt_AX 73 tok' cnt' (qt_cm (qt_mp (qt_shf R C (nI row - nI a) (nI col - nI b))) F P a b c d row col (c + 1) b) → post 0 (nI R, nI C, nI a, nI b, nI c, nI d, 1, stl, oe, oh, ow, tok', cnt', stt, val, own, rch, nds, sv, se, out)) :
    ∀ (e r : Nat) (tok cnt : Nat → Int32), r + e = c + 1 → a ≤ r → qt_AX 73 tok cnt (qt_cm (qt_mp (qt_shf R C (nI row - nI a) (nI col - nI b))) F P a b c d row col r b) → ∀ n, e < n → wX_copyTo_36 post (nI row - nI a) (nI col - nI b) n (nI r) (nI R) (nI C) (nI a) (nI b) (nI c) (nI d) sta stl oe oh ow tok cnt stt val own rch nds sv se out := by
  intro e
  induction e with
  | zero =>
    intro r tok cnt hr ha hA n hn
    obtain ⟨n, rfl⟩ : ∃ z, n = z + 1 := ⟨n - 1, by omega⟩
    obtain rfl : r = c + 1 := by omega
    unfold wX_copyTo_36
    exact br_t (by rw [nI_ltI (by omega) (by omega)]; omega) (h _ _ hA)
  | succ e ih =>
    intro r tok cnt hr ha hA n hn
    obtain ⟨n, rfl⟩ : ∃ z, n = z + 1 := ⟨n - 1, by omega⟩
    unfold wX_copyTo_36
    refine br_f (by rw [nI_ltI (by omega) (by omega)]; omega) ⟨8, ?_⟩
    exact qx_cp51 hR hC hc hd hrow hcol ⟨ha, by omega⟩ hP (fun tok' cnt' hA' => ih (r + 1) _ _ (by omega) (by omega) hA' n (by omega)) (d + 1 - b) b _ _ (by omega) (Nat.le_refl _) hA 8 (by omega)
theorem qx_cp {post : Int32 → SX → Prop} {p q : Int32} (hR : R ≤ 6) (hC : C ≤ 6) (hac : a ≤ c) (hbd : b ≤ d) (hc : c < 6) (hd : d < 6) (hA : qt_AX 37 tok cnt F)
    (hb : ¬ qt_ft R C a b c d p q → post 1 (nI R, nI C, nI a, nI b, nI c, nI d, sta, stl, oe, oh, ow, tok, cnt, stt, val, own, rch, nds, sv, se, out))
    (h : ∀ row col, p = nI row → q = nI col → row + (c - a) < R → col + (d - b) < C → ∀ tok' cnt', qt_AX 37 tok' cnt' (qt_cpF R C F a b c d row col) → post 0 (nI R, nI C, nI a, nI b, nI c, nI d, 1, stl, oe, oh, ow, tok', cnt', stt, val, own, rch, nds, sv, se, out)) :
    wpX_copyTo post (nI R, nI C, nI a, nI b, nI c, nI d, sta, stl, oe, oh, ow, tok, cnt, stt, val, own, rch, nds, sv, se, out) p q := by
  unfold wpX_copyTo
  refine qx_ft (by omega) (by omega) hac hbd (by omega) (by omega) (fun hf => ?_) (fun hf => br_t (by decide) (hb hf))
  refine br_f (by decide) (nm_e (nm_e ?_))
  obtain ⟨row, col, rfl, rfl, h1, h2⟩ := id hf
  refine qx_bk hA (fun tok1 cnt1 hA1 => ?_)
  refine ⟨8, qx_cp36 (F := F) (P := qt_bk F 36) hR hC hc hd hbd (by omega) (by omega) (fun s hs => ?_) (fun tok3 cnt3 hA3 => h row col rfl rfl h1 h2 _ _ (qt_AX_e (qt_AX_le hA3 (by decide)) (fun s hs => qt_fe_e ?_))) (c + 1 - a) a _ _ (by omega) (Nat.le_refl _) (qt_AX_e hA1 (fun s _ => qt_fe_e (qt_cm_0 hc hd).symm)) 8 (by omega)⟩
  · unfold qt_bk
    rw [if_pos (by omega), Nat.add_sub_cancel_left]
  · rw [qt_cm_e hc hd]
    unfold qt_cpF
    have : qt_bk F 36 s = F s := by unfold qt_bk; rw [if_neg (by omega)]
    rw [this]
theorem qt_fs_s {ax r k s : Nat} (hd : d < 6) (hr : a ≤ r ∧ r ≤ c) (hk : b ≤ k ∧ k ≤ d) : qt_ut (qt_fs R C F ax a b c d r k) (r * 6 + k) (qt_fi R C F ax a b (r * 6 + k)) s = qt_fs R C F ax a b c d r (k + 1) s := by
  by_cases e : s = r * 6 + k
  · subst e
    rw [qt_us]
    unfold qt_fs
    rw [if_pos (by omega)]
  · rw [qt_un e]
    unfold qt_fs
    by_cases z : qt_sel a b c d s ∧ qt_ahd r k s
    · rw [if_pos z, if_pos (by omega)]
    · rw [if_neg z, if_neg (by omega)]
theorem qt_fs_k {ax r k s : Nat} (hd : d < 6) (hr : a ≤ r ∧ r ≤ c) (hk : b ≤ k ∧ k ≤ d) (he : qt_fi R C F ax a b (r * 6 + k) = F (r * 6 + k)) : qt_fs R C F ax a b c d r k s = qt_fs R C F ax a b c d r (k + 1) s := by
  unfold qt_fs
  by_cases e : s = r * 6 + k
  · subst e
    rw [if_neg (by omega), if_pos (by omega), he]
  · by_cases z : qt_sel a b c d s ∧ qt_ahd r k s
    · rw [if_pos z, if_pos (by omega)]
    · rw [if_neg z, if_neg (by omega)]
theorem qt_fs_n {ax r s : Nat} (hr : a ≤ r ∧ r ≤ c) : qt_fs R C F ax a b c d r (d + 1) s = qt_fs R C F ax a b c d (r + 1) b s := by
  unfold qt_fs
  by_cases z : qt_sel a b c d s ∧ qt_ahd r (d + 1) s
  · rw [if_pos z, if_pos (by omega)]
  · rw [if_neg z, if_neg (by omega)]
theorem qx_fi29 {post : Int32 → SX → Prop} {ax r : Nat} {J : Int32 → Int32 → Int32 → Int32 → Int32 → Int32 → Int32 → Int32 → Int64 → Int32 → Int32 → Int32 → (Nat → Int32) → (Nat → Int32) → (Nat → Int32) → (Nat → Int32) → (Nat → Int32) → (Nat → Int64) → (Nat → Int64) → (Nat → Int32) → (Nat → Int32) → (Nat → Int32) → Prop} (hax : ax < 2) (hR : R ≤ 6) (hC : C ≤ 6) (hc : c < 6) (hd : d < 6) (hr : a ≤ r ∧ r ≤ c) (h : ∀ tok' cnt', qt_AX 37 tok' cnt' (qt_fs R C F ax a b c d (r + 1) b) → J (nI (r + 1)) (nI R) (nI C) (nI a) (nI b) (nI c) (nI d) sta stl oe oh ow tok' cnt' stt val own rch nds sv se out) :
    ∀ (e k : Nat) (tok cnt : Nat → Int32), k + e = d + 1 → b ≤ k → qt_AX 37 tok cnt (qt_fs R C F ax a b c d r k) → ∀ n, e < n → wX_fill_29 post J (nI ax) (nI r) n (nI k) (nI R) (nI C) (nI a) (nI b) (nI c) (nI d) sta stl oe oh ow tok cnt stt val own rch nds sv se out := by
  intro e
  induction e with
  | zero =>
    intro k tok cnt hk hb hA n hn
    obtain ⟨n, rfl⟩ : ∃ z, n = z + 1 := ⟨n - 1, by omega⟩
    obtain rfl : k = d + 1 := by omega
    unfold wX_fill_29
    refine br_t (by rw [nI_ltI (by omega) (by omega)]; omega) (nm_r (nI_1 r) (h _ _ (qt_AX_e hA (fun s _ => qt_fe_e (qt_fs_n hr)))))
  | succ e ih =>
    intro k tok cnt hk hb hA n hn
    obtain ⟨n, rfl⟩ : ∃ z, n = z + 1 := ⟨n - 1, by omega⟩
    have hkk : b ≤ k ∧ k ≤ d := ⟨hb, by omega⟩
    have e1 : (r * 6 + k) / 6 = r := by omega
    have e2 : (r * 6 + k) % 6 = k := by omega
    have skip : qt_fi R C F ax a b (r * 6 + k) = F (r * 6 + k) → wX_fill_29 post J (nI ax) (nI r) n (nI (k + 1)) (nI R) (nI C) (nI a) (nI b) (nI c) (nI d) sta stl oe oh ow tok cnt stt val own rch nds sv se out :=
      fun he => ih (k + 1) _ _ (by omega) (by omega) (qt_AX_e hA (fun s _ => qt_fe_e (qt_fs_k hd hr hkk he))) n (by omega)
    unfold wX_fill_29
    refine br_f (by rw [nI_ltI (by omega) (by omega)]; omega) ?_
    match ax, hax with
    | 0, _ =>
      refine br_t (by decide) ?_
      rw [nI_leI (by omega) (by omega)]
      by_cases z : r ≤ a
      · refine br_t z ?_
        unfold wX_fill_78
        refine br_f (by decide) (nm_r (nI_1 k) (skip ?_))
        unfold qt_fi
        rw [if_pos rfl, if_neg (by omega)]
      · refine br_f z ?_
        rw [qa_m6, nI_add, qa_m6, nI_add]
        have hsrc : qt_fs R C F 0 a b c d r k (a * 6 + k) = F (a * 6 + k) := by
          unfold qt_fs
          by_cases y : qt_sel a b c d (a * 6 + k) ∧ qt_ahd r k (a * 6 + k)
          · rw [if_pos y]
            unfold qt_fi
            rw [if_pos rfl, if_neg (by omega)]
          · rw [if_neg y]
        have hfi : qt_fi R C F 0 a b (r * 6 + k) = qt_mp (qt_shf R C (nI r - nI a) 0) (F (a * 6 + k)) := by
          unfold qt_fi
          rw [if_pos rfl, e1, e2, if_pos (by omega)]
        refine qx_cf (by omega) (by omega) (by omega) (by omega) (by decide) (by decide) (by omega) hA (fun tok' cnt' hA' => ?_)
        rw [hsrc, ← hfi] at hA'
        exact nm_r (nI_1 k) (ih (k + 1) _ _ (by omega) (by omega) (qt_AX_e hA' (fun s _ => qt_fe_e (qt_fs_s hd hr hkk))) n (by omega))
    | 1, _ =>
      refine br_f (by decide) ?_
      unfold wX_fill_78
      refine br_t (by decide) ?_
      rw [nI_leI (by omega) (by omega)]
      by_cases z : k ≤ b
      · refine br_t z (nm_r (nI_1 k) (skip ?_))
        unfold qt_fi
        rw [if_neg (by decide), if_neg (by omega)]
      · refine br_f z ?_
        rw [qa_m6, nI_add, nI_add]
        have hsrc : qt_fs R C F 1 a b c d r k (r * 6 + b) = F (r * 6 + b) := by
          unfold qt_fs
          by_cases y : qt_sel a b c d (r * 6 + b) ∧ qt_ahd r k (r * 6 + b)
          · rw [if_pos y]
            unfold qt_fi
            rw [if_neg (by decide), if_neg (by omega)]
          · rw [if_neg y]
        have hfi : qt_fi R C F 1 a b (r * 6 + k) = qt_mp (qt_shf R C 0 (nI k - nI b)) (F (r * 6 + b)) := by
          unfold qt_fi
          rw [if_neg (by decide), e1, e2, if_pos (by omega)]
        refine qx_cf (by omega) (by omega) (by omega) (by omega) (by decide) (by decide) (by omega) hA (fun tok' cnt' hA' => ?_)
        rw [hsrc, ← hfi] at hA'
        exact nm_r (nI_1 k) (ih (k + 1) _ _ (by omega) (by omega) (qt_AX_e hA' (fun s _ => qt_fe_e (qt_fs_s hd hr hkk))) n (by omega))
theorem qx_fi16 {post : Int32 → SX → Prop} {ax : Nat} (hax : ax < 2) (hR : R ≤ 6) (hC : C ≤ 6) (hc : c < 6) (hd : d < 6) (hbd : b ≤ d) (h : ∀ tok' cnt', qt_AX 37 tok' cnt' (qt_fs R C F ax a b c d (c + 1) b) → post 0 (nI R, nI C, nI a, nI b, nI c, nI d, 1, stl, oe, oh, ow, tok', cnt', stt, val, own, rch, nds, sv, se, out)) :
    ∀ (e r : Nat) (tok cnt : Nat → Int32), r + e = c + 1 → a ≤ r → qt_AX 37 tok cnt (qt_fs R C F ax a b c d r b) → ∀ n, e < n → wX_fill_16 post (nI ax) n (nI r) (nI R) (nI C) (nI a) (nI b) (nI c) (nI d) sta stl oe oh ow tok cnt stt val own rch nds sv se out := by
  intro e
  induction e with
  | zero =>
    intro r tok cnt hr ha hA n hn
    obtain ⟨n, rfl⟩ : ∃ z, n = z + 1 := ⟨n - 1, by omega⟩
    obtain rfl : r = c + 1 := by omega
    unfold wX_fill_16
    exact br_t (by rw [nI_ltI (by omega) (by omega)]; omega) (h _ _ hA)
  | succ e ih =>
    intro r tok cnt hr ha hA n hn
    obtain ⟨n, rfl⟩ : ∃ z, n = z + 1 := ⟨n - 1, by omega⟩
    unfold wX_fill_16
    refine br_f (by rw [nI_ltI (by omega) (by omega)]; omega) ⟨8, ?_⟩
    exact qx_fi29 hax hR hC hc hd ⟨ha, by omega⟩ (fun tok' cnt' hA' => ih (r + 1) _ _ (by omega) (by omega) hA' n (by omega)) (d + 1 - b) b _ _ (by omega) (Nat.le_refl _) hA 8 (by omega)
theorem qx_fi {post : Int32 → SX → Prop} {ax : Nat} (hax : ax < 2) (hR : R ≤ 6) (hC : C ≤ 6) (hac : a ≤ c) (hbd : b ≤ d) (hc : c < 6) (hd : d < 6) (hA : qt_AX 37 tok cnt F)
    (h : ∀ tok' cnt', qt_AX 37 tok' cnt' (qt_flF R C F ax a b c d) → post 0 (nI R, nI C, nI a, nI b, nI c, nI d, 1, stl, oe, oh, ow, tok', cnt', stt, val, own, rch, nds, sv, se, out)) :
    wpX_fill post (nI R, nI C, nI a, nI b, nI c, nI d, sta, stl, oe, oh, ow, tok, cnt, stt, val, own, rch, nds, sv, se, out) (nI ax) := by
  have key : ∃ f, wX_fill_16 post (nI ax) f (nI a) (nI R) (nI C) (nI a) (nI b) (nI c) (nI d) sta stl oe oh ow tok cnt stt val own rch nds sv se out := by
    refine ⟨8, qx_fi16 (F := F) hax hR hC hc hd hbd (fun tok' cnt' hA' => h _ _ (qt_AX_e hA' (fun s _ => qt_fe_e ?_))) (c + 1 - a) a _ _ (by omega) (Nat.le_refl _) (qt_AX_e hA (fun s _ => qt_fe_e ?_)) 8 (by omega)⟩
    · unfold qt_fs qt_flF
      by_cases z : qt_sel a b c d s
      · rw [if_pos z, if_pos ⟨z, by omega⟩]
      · rw [if_neg z, if_neg (fun v => z v.1)]
    · unfold qt_fs
      rw [if_neg (by omega)]
  unfold wpX_fill
  match ax, hax with
  | 0, _ => exact br_t (by decide) key
  | 1, _ => exact br_f (by decide) (br_t (by decide) key)
end
end
end
section
/-! the reference: insertLine, deleteLine -/
def qt_yz (F : Nat → qt_Fm) (ax a k : Nat) : Nat → qt_Fm := fun s => if s < k ∧ qt_ln ax s = a then qt_z else F s
def qt_yi (F P : Nat → qt_Fm) (ax a n k : Nat) : Nat → qt_Fm := fun s => if s < k ∧ a < qt_ln ax s ∧ qt_ln ax s < n then F (s - qt_st ax) else P s
def qt_yd (F P : Nat → qt_Fm) (ax a n k : Nat) : Nat → qt_Fm := fun s => if s < k ∧ a ≤ qt_ln ax s ∧ qt_ln ax s + 1 < n then F (s + qt_st ax) else P s
theorem qt_yz_s {F : Nat → qt_Fm} {ax a k s : Nat} (h : qt_ln ax k = a) : qt_ut (qt_yz F ax a k) k qt_z s = qt_yz F ax a (k + 1) s := by
  by_cases e : s = k
  · subst e; rw [qt_us]; unfold qt_yz; rw [if_pos ⟨Nat.lt_succ_self s, h⟩]
  · rw [qt_un e]; unfold qt_yz
    by_cases z : s < k ∧ qt_ln ax s = a
    · rw [if_pos z, if_pos ⟨by omega, z.2⟩]
    · rw [if_neg z, if_neg (fun y => z ⟨by omega, y.2⟩)]
theorem qt_yz_k {F : Nat → qt_Fm} {ax a k s : Nat} (h : ¬ qt_ln ax k = a) : qt_yz F ax a k s = qt_yz F ax a (k + 1) s := by
  unfold qt_yz
  by_cases z : s < k ∧ qt_ln ax s = a
  · rw [if_pos z, if_pos ⟨by omega, z.2⟩]
  · rw [if_neg z, if_neg]
    rintro ⟨y1, y2⟩
    by_cases e : s = k
    · subst e; exact h y2
    · exact z ⟨by omega, y2⟩
theorem qt_yi_s {F P : Nat → qt_Fm} {ax a n k s : Nat} (h : a < qt_ln ax k ∧ qt_ln ax k < n) : qt_ut (qt_yi F P ax a n k) k (F (k - qt_st ax)) s = qt_yi F P ax a n (k + 1) s := by
  by_cases e : s = k
  · subst e; rw [qt_us]; unfold qt_yi; rw [if_pos ⟨Nat.lt_succ_self s, h⟩]
  · rw [qt_un e]; unfold qt_yi
    by_cases z : s < k ∧ a < qt_ln ax s ∧ qt_ln ax s < n
    · rw [if_pos z, if_pos ⟨by omega, z.2⟩]
    · rw [if_neg z, if_neg (fun y => z ⟨by omega, y.2⟩)]
theorem qt_yi_k {F P : Nat → qt_Fm} {ax a n k s : Nat} (h : ¬ (a < qt_ln ax k ∧ qt_ln ax k < n)) : qt_yi F P ax a n k s = qt_yi F P ax a n (k + 1) s := by
  unfold qt_yi
  by_cases z : s < k ∧ a < qt_ln ax s ∧ qt_ln ax s < n
  · rw [if_pos z, if_pos ⟨by omega, z.2⟩]
  · rw [if_neg z, if_neg]
    rintro ⟨y1, y2⟩
    by_cases e : s = k
    · subst e; exact h y2
    · exact z ⟨by omega, y2⟩
theorem qt_yd_s {F P : Nat → qt_Fm} {ax a n k s : Nat} (h : a ≤ qt_ln ax k ∧ qt_ln ax k + 1 < n) : qt_ut (qt_yd F P ax a n k) k (F (k + qt_st ax)) s = qt_yd F P ax a n (k + 1) s := by
  by_cases e : s = k
  · subst e; rw [qt_us]; unfold qt_yd; rw [if_pos ⟨Nat.lt_succ_self s, h⟩]
  · rw [qt_un e]; unfold qt_yd
    by_cases z : s < k ∧ a ≤ qt_ln ax s ∧ qt_ln ax s + 1 < n
    · rw [if_pos z, if_pos ⟨by omega, z.2⟩]
    · rw [if_neg z, if_neg (fun y => z ⟨by omega, y.2⟩)]
theorem qt_yd_k {F P : Nat → qt_Fm} {ax a n k s : Nat} (h : ¬ (a ≤ qt_ln ax k ∧ qt_ln ax k + 1 < n)) : qt_yd F P ax a n k s = qt_yd F P ax a n (k + 1) s := by
  unfold qt_yd
  by_cases z : s < k ∧ a ≤ qt_ln ax s ∧ qt_ln ax s + 1 < n
  · rw [if_pos z, if_pos ⟨by omega, z.2⟩]
  · rw [if_neg z, if_neg]
    rintro ⟨y1, y2⟩
    by_cases e : s = k
    · subst e; exact h y2
    · exact z ⟨by omega, y2⟩
theorem qt_pm_252 {g : (Nat → Int32) → Nat → Int32} {F : Nat → qt_Fm} {s : Nat} (hs : s < 36) (h7 : (F s).1 ≤ 7) : qt_fe (qt_pm g F 252 s) (qt_mp g (F s)) := by
  refine ⟨rfl, fun j hj => ?_⟩
  have hj' : j < (F s).1 := hj
  show (if _ then _ else _) = _
  rw [if_pos (by omega)]
  rfl
theorem qt_pm_big {g : (Nat → Int32) → Nat → Int32} {F : Nat → qt_Fm} {s : Nat} (hs : 36 ≤ s) : qt_fe (qt_pm g F 252 s) (F s) := by
  refine ⟨rfl, fun j hj => ?_⟩
  show (if _ then _ else _) = _
  rw [if_neg (by omega)]
theorem qt_bk_o {F : Nat → qt_Fm} {s : Nat} (hs : s < 36) : qt_bk F 36 (37 + s) = F s := by
  unfold qt_bk
  rw [if_pos (by omega), Nat.add_sub_cancel_left]
theorem qt_bk_l {F : Nat → qt_Fm} {s : Nat} (hs : s < 37) : qt_bk F 36 s = F s := by
  unfold qt_bk
  rw [if_neg (by omega)]
theorem qt_hi_y {ax : Nat} (ha : ax < 2) {t : Nat → Int32} : qt_yv t (5 + ax) = qt_hi ax t := by
  match ax, ha with
  | 0, _ => exact qt_yv5
  | 1, _ => exact qt_yv6
section
variable {yr yc yh yw : Int32} {ycn ytk ysl ysd yst yva yow yli yV yE : Nat → Int32}
section
variable {F : Nat → qt_Fm} {R C ax a n : Nat}
theorem qy_in157 {post : Int32 → SY → Prop} {P : Nat → qt_Fm} (ha : ax < 2) (hn : n ≤ 6) (hP : ∀ s, s < 36 → P (37 + s) = F s) (han : a < n) (h : ∀ tok' cnt', qt_AY 73 tok' cnt' (qt_yi F P ax a n 36) → ∃ f, wY_insertLine_209 post (nI ax) (nI a) yr yc yh yw f 0 cnt' tok' ysl ysd yst yva yow yli yV yE) :
    ∀ (d k : Nat) (ytk ycn : Nat → Int32), k + d = 36 → qt_AY 73 ytk ycn (qt_yi F P ax a n k) → ∀ f, d < f → wY_insertLine_157 post (nI ax) (nI a) (nI n) (nI (qt_st ax)) f (nI k) yr yc yh yw ycn ytk ysl ysd yst yva yow yli yV yE := by
  intro d
  induction d with
  | zero =>
    intro k ytk ycn hk hA f hf
    obtain ⟨f, rfl⟩ : ∃ z, f = z + 1 := ⟨f - 1, by omega⟩
    obtain rfl : k = 36 := by omega
    unfold wY_insertLine_157
    exact br_t (by decide) (h _ _ hA)
  | succ d ih =>
    intro k ytk ycn hk hA f hf
    obtain ⟨f, rfl⟩ : ∃ z, f = z + 1 := ⟨f - 1, by omega⟩
    have hl := (qt_ln_lt (ax := ax) (s := k) (by omega)).1
    have skip : ¬ (a < qt_ln ax k ∧ qt_ln ax k < n) → wY_insertLine_157 post (nI ax) (nI a) (nI n) (nI (qt_st ax)) f (nI (k + 1)) yr yc yh yw ycn ytk ysl ysd yst yva yow yli yV yE :=
      fun z => ih (k + 1) _ _ (by omega) (qt_AY_e hA (fun s _ => qt_fe_e (qt_yi_k z))) f (by omega)
    simp (disch := omega) only [wY_insertLine_157, qa_lel36, nI_add, pk_mul, qa_a1, qa_a2, qa_a3, qa_a4, qa_a5, qa_a6, qa_a7, qa_a8, qa_a56, qa_m6, qa_m7, qa_m8, qa_m56, qa_l2, qa_l37, qa_l2016, qa_in, nI_clamp, forall_eq, true_and, qa_cl0, nI_leI, nI_ltI, nI_eq, not_false_eq_true, pk_sub, qa_s1, qa_s2, qa_s8]
    refine br_f (by omega) ?_
    refine qy_line ha (by omega) ?_
    rw [nI_leI (by omega) (by omega)]
    by_cases c1 : qt_ln ax k ≤ a
    · exact br_t c1 (skip (by omega))
    · refine br_f c1 ?_
      refine qy_line ha (by omega) ?_
      rw [nI_leI (by omega) (by omega)]
      by_cases c2 : n ≤ qt_ln ax k
      · exact br_t c2 (skip (by omega))
      · refine br_f c2 ?_
        obtain ⟨d1, d2, d3, d4⟩ := qt_st_dn (ax := ax) (s := k) (l := qt_ln ax k - 1) ha (by omega) (by omega)
        rw [pk_sub (by omega)]
        have hsrc : qt_yi F P ax a n k (37 + k - qt_st ax) = F (k - qt_st ax) := by
          unfold qt_yi
          rw [if_neg (by omega), show 37 + k - qt_st ax = 37 + (k - qt_st ax) by omega, hP _ (by omega)]
        refine qy_csA (Nat.le_refl 73) (by omega) (by omega) (by omega) hA (fun tok' cnt' hA' => ?_)
        rw [hsrc] at hA'
        exact ih (k + 1) _ _ (by omega) (qt_AY_e hA' (fun s _ => qt_fe_e (qt_yi_s ⟨by omega, by omega⟩))) f (by omega)
theorem qy_in122 {post : Int32 → SY → Prop} {x3 x4 : Int32} {P : Nat → qt_Fm} (ha : ax < 2) (haa : a < 6) (h : ∀ cnt', qt_AY 73 ytk cnt' (qt_yz P ax a 36) → ∃ f, wY_insertLine_157 post (nI ax) (nI a) x3 x4 f 0 yr yc yh yw cnt' ytk ysl ysd yst yva yow yli yV yE) :
    ∀ (d k : Nat) (ycn : Nat → Int32), k + d = 36 → qt_AY 73 ytk ycn (qt_yz P ax a k) → ∀ f, d < f → wY_insertLine_122 post (nI ax) (nI a) x3 x4 yr yc yh yw f (nI k) ycn ytk ysl ysd yst yva yow yli yV yE := by
  intro d
  induction d with
  | zero =>
    intro k ycn hk hA f hf
    obtain ⟨f, rfl⟩ : ∃ z, f = z + 1 := ⟨f - 1, by omega⟩
    obtain rfl : k = 36 := by omega
    unfold wY_insertLine_122
    exact br_t (by decide) (h _ hA)
  | succ d ih =>
    intro k ycn hk hA f hf
    obtain ⟨f, rfl⟩ : ∃ z, f = z + 1 := ⟨f - 1, by omega⟩
    have hl := (qt_ln_lt (ax := ax) (s := k) (by omega)).1
    simp (disch := omega) only [wY_insertLine_122, qa_lel36, nI_add, pk_mul, qa_a1, qa_a2, qa_a3, qa_a4, qa_a5, qa_a6, qa_a7, qa_a8, qa_a56, qa_m6, qa_m7, qa_m8, qa_m56, qa_l2, qa_l37, qa_l2016, qa_in, nI_clamp, forall_eq, true_and, qa_cl0, nI_leI, nI_ltI, nI_eq, not_false_eq_true, pk_sub, qa_s1, qa_s2, qa_s8]
    refine br_f (by omega) ?_
    refine qy_line ha (by omega) ?_
    rw [nI_eq (by omega) (by omega)]
    by_cases c1 : qt_ln ax k = a
    · exact br_t c1 (ih (k + 1) _ (by omega) (qt_AY_e (qt_AY_0 hA) (fun s _ => qt_fe_e (qt_yz_s c1))) f (by omega))
    · exact br_f c1 (ih (k + 1) _ (by omega) (qt_AY_e hA (fun s _ => qt_fe_e (qt_yz_k c1))) f (by omega))
theorem qy_in73 {post : Int32 → SY → Prop} (ha : ax < 2) (hR : R ≤ 6) (hC : C ≤ 6) (hn : n ≤ 6) (han : a < n) (hA : qt_AY 37 ytk ycn F) (hu : (∃ s i, s < 36 ∧ i < (F s).1 ∧ qt_lv ((F s).2 i) ∧ qt_hi ax ((F s).2 i) = nI (n - 1)) → post 2 (yr, yc, yh, yw, ycn, ytk, ysl, ysd, yst, yva, yow, yli, yV, yE))
    (h : (∀ s i, s < 36 → i < (F s).1 → qt_lv ((F s).2 i) → ¬ qt_hi ax ((F s).2 i) = nI (n - 1)) → ∀ tok' cnt', qt_AY 37 tok' cnt' (qt_mc (qt_gro ax (nI a)) F (qt_is F ax a n)) → wpY_settle post (yr, yc, yh, yw, cnt', tok', ysl, ysd, yst, yva, yow, yli, yV, yE)) :
    ∀ (d m : Nat), m + d = 252 → (∀ s i, s * 7 + i < m → i < (F s).1 → s < 36 → qt_lv ((F s).2 i) → ¬ qt_hi ax ((F s).2 i) = nI (n - 1)) → ∀ f, d < f → wY_insertLine_73 post (nI ax) (nI a) (nI n) (nI (qt_st ax)) yr yc yh yw ycn ytk ysl ysd yst yva yow yli yV yE f (nI (m * 8)) := by
  intro d
  induction d with
  | zero =>
    intro m hm hI f hf
    obtain ⟨f, rfl⟩ : ∃ z, f = z + 1 := ⟨f - 1, by omega⟩
    obtain rfl : m = 252 := by omega
    unfold wY_insertLine_73
    refine br_t (by decide) ?_
    refine qy_sv hA (fun tok1 cnt1 hA1 => ?_)
    have hall : ∀ s i, s < 36 → i < (F s).1 → qt_lv ((F s).2 i) → ¬ qt_hi ax ((F s).2 i) = nI (n - 1) := fun s i a1 a2 a3 => hI s i (by have := (hA s (by omega)).1; omega) a2 a1 a3
    refine ⟨37, qy_in122 (P := qt_bk F 36) ha (by omega) (fun cnt2 hA2 => ⟨37, ?_⟩) 36 0 _ (by decide) (qt_AY_e hA1 (fun s _ => qt_fe_e ?_)) 37 (by decide)⟩
    · refine qy_in157 (F := F) (P := qt_yz (qt_bk F 36) ax a 36) ha hn (fun s hs => ?_) han (fun tok3 cnt3 hA3 => ⟨253, ?_⟩) 36 0 _ _ (by decide) (qt_AY_e hA2 (fun s _ => qt_fe_e ?_)) 37 (by decide)
      · unfold qt_yz
        rw [if_neg (by omega), qt_bk_o hs]
      · refine qy_ins209 (F := qt_yi F (qt_yz (qt_bk F 36) ax a 36) ax a n 36) (q := 73) (by decide) ha (fun s i _ _ _ => qt_gy_e ha) 252 0 _ (by decide) (qt_AY_e hA3 (fun s _ => qt_pm_0 s)) (fun tok4 hA4 => h hall _ _ (qt_AY_e (qt_AY_le hA4 (by decide)) (fun s hs => ?_))) 253 (by decide)
        have h7 := (hA3 s (by omega)).1
        unfold qt_mc
        by_cases z : s < 36
        · rw [if_pos z]
          refine qt_fe_t (qt_pm_252 z h7) (qt_mp_fe (qt_fe_e ?_))
          unfold qt_yi qt_is
          by_cases c2 : qt_ln ax s < a
          · rw [if_neg (by omega), if_pos c2]
            unfold qt_yz
            rw [if_neg (by omega), qt_bk_l (by omega)]
          · by_cases c1 : qt_ln ax s = a
            · rw [if_neg (by omega), if_neg c2, if_pos c1]
              unfold qt_yz
              rw [if_pos ⟨z, c1⟩]
            · by_cases c3 : qt_ln ax s < n
              · rw [if_pos (by omega), if_neg c2, if_neg c1, if_pos c3]
              · rw [if_neg (by omega), if_neg c2, if_neg c1, if_neg c3]
                unfold qt_yz
                rw [if_neg (by omega), qt_bk_l (by omega)]
        · rw [if_neg z]
          refine qt_fe_t (qt_pm_big (by omega)) (qt_fe_e ?_)
          unfold qt_yi qt_yz
          rw [if_neg (by omega), if_neg (by omega), qt_bk_l hs]
      · unfold qt_yi
        rw [if_neg (by omega)]
    · unfold qt_yz
      rw [if_neg (by omega)]
  | succ d ih =>
    intro m hm hI f hf
    obtain ⟨f, rfl⟩ : ∃ z, f = z + 1 := ⟨f - 1, by omega⟩
    obtain ⟨c, i, hi, rfl⟩ : ∃ c i, i < 7 ∧ m = c * 7 + i := ⟨m / 7, m % 7, by omega, by omega⟩
    have hc : c < 36 := by omega
    have A := hA c (by omega)
    have A1 : (F c).1 ≤ 7 := A.1
    have A2 : ycn c = nI (F c).1 := A.2.1
    have nx : (i < (F c).1 → qt_lv ((F c).2 i) → ¬ qt_hi ax ((F c).2 i) = nI (n - 1)) → wY_insertLine_73 post (nI ax) (nI a) (nI n) (nI (qt_st ax)) yr yc yh yw ycn ytk ysl ysd yst yva yow yli yV yE f (nI (c * 56 + i * 8 + 8)) := by
      intro q
      have := ih (c * 7 + i + 1) (by omega) (fun s j a1 a2 a3 a4 => ?_) f (by omega)
      · rw [show (c * 7 + i + 1) * 8 = c * 56 + i * 8 + 8 by omega] at this
        exact this
      · have h7 := (hA s (by omega)).1
        by_cases e : s = c ∧ j = i
        · obtain ⟨rfl, rfl⟩ := e
          exact q a2 a4
        · exact hI s j (by omega) a2 a3 a4
    rw [show (c * 7 + i) * 8 = c * 56 + i * 8 by omega]
    have e5 : c * 56 + i * 8 + 5 + ax = c * 56 + i * 8 + (5 + ax) := by omega
    simp (disch := omega) only [wY_insertLine_73, qa_lel2016, e5, nI_add, pk_mul, qa_a1, qa_a2, qa_a3, qa_a4, qa_a5, qa_a6, qa_a7, qa_a8, qa_a56, qa_m6, qa_m7, qa_m8, qa_m56, qa_l2, qa_l37, qa_l2016, qa_in, nI_clamp, forall_eq, true_and, qa_cl0, nI_leI, nI_ltI, nI_eq, not_false_eq_true, pk_sub, qa_s1, qa_s2, qa_s8]
    refine br_f (by omega) ?_
    refine qy_live A.2 (by omega) hi A1 (fun hin l => ?_) (fun l => br_t (by decide) (nx (fun y1 y2 => absurd ⟨y1, y2⟩ l)))
    refine br_f (by decide) ?_
    have hv : ytk (c * 56 + i * 8 + (5 + ax)) = qt_hi ax ((F c).2 i) := (A.2.2 i hin (5 + ax) (by omega)).trans (qt_hi_y ha)
    rw [hv]
    by_cases e : qt_hi ax ((F c).2 i) = nI (n - 1)
    · exact br_t e (hu ⟨c, i, hc, hin, l, e⟩)
    · exact br_f e (nx (fun _ _ => e))
theorem qy_in32 {post : Int32 → SY → Prop} (ha : ax < 2) (hR : R ≤ 6) (hC : C ≤ 6) (hn : n ≤ 6) (han : a < n) (hA : qt_AY 37 ytk ycn F) (hu : qt_use F ax n → post 2 (yr, yc, yh, yw, ycn, ytk, ysl, ysd, yst, yva, yow, yli, yV, yE))
    (h : ¬ qt_use F ax n → ∀ tok' cnt', qt_AY 37 tok' cnt' (qt_mc (qt_gro ax (nI a)) F (qt_is F ax a n)) → wpY_settle post (yr, yc, yh, yw, cnt', tok', ysl, ysd, yst, yva, yow, yli, yV, yE)) :
    ∀ (d k : Nat), k + d = 36 → (∀ s, s < k → 0 < (F s).1 → ¬ qt_ln ax s = n - 1) → ∀ f, d < f → wY_insertLine_32 post (nI ax) (nI a) (nI n) (nI (qt_st ax)) yr yc yh yw ycn ytk ysl ysd yst yva yow yli yV yE f (nI k) := by
  intro d
  induction d with
  | zero =>
    intro k hk hI f hf
    obtain ⟨f, rfl⟩ : ∃ z, f = z + 1 := ⟨f - 1, by omega⟩
    obtain rfl : k = 36 := by omega
    unfold wY_insertLine_32
    refine br_t (by decide) ⟨253, qy_in73 ha hR hC hn han hA (fun z => hu (Or.inr z)) (fun hall => h ?_) 252 0 (by decide) (fun s i z => absurd z (Nat.not_lt_zero _)) 253 (by decide)⟩
    rintro (⟨s, a1, a2, a3⟩ | ⟨s, i, a1, a2, a3, a4⟩)
    · exact hI s a1 a2 a3
    · exact hall s i a1 a2 a3 a4
  | succ d ih =>
    intro k hk hI f hf
    obtain ⟨f, rfl⟩ : ∃ z, f = z + 1 := ⟨f - 1, by omega⟩
    have hl := (qt_ln_lt (ax := ax) (s := k) (by omega)).1
    have A := hA k (by omega)
    have A1 := A.1
    have A2 : ycn k = nI (F k).1 := A.2.1
    have nx : (0 < (F k).1 → ¬ qt_ln ax k = n - 1) → wY_insertLine_32 post (nI ax) (nI a) (nI n) (nI (qt_st ax)) yr yc yh yw ycn ytk ysl ysd yst yva yow yli yV yE f (nI (k + 1)) := by
      intro q
      refine ih (k + 1) (by omega) (fun s a1 a2 => ?_) f (by omega)
      by_cases e : s = k
      · subst e; exact q a2
      · exact hI s (by omega) a2
    simp (disch := omega) only [wY_insertLine_32, qa_lel36, A2, qa_ler0, nI_add, pk_mul, qa_a1, qa_a2, qa_a3, qa_a4, qa_a5, qa_a6, qa_a7, qa_a8, qa_a56, qa_m6, qa_m7, qa_m8, qa_m56, qa_l2, qa_l37, qa_l2016, qa_in, nI_clamp, forall_eq, true_and, qa_cl0, nI_leI, nI_ltI, nI_eq, not_false_eq_true, pk_sub, qa_s1, qa_s2, qa_s8]
    refine br_f (by omega) ?_
    by_cases c1 : (F k).1 ≤ 0
    · exact br_t c1 (nx (by omega))
    · refine br_f c1 ?_
      refine qy_line ha (by omega) ?_
      rw [nI_eq (by omega) (by omega)]
      by_cases c2 : qt_ln ax k = n - 1
      · exact br_t c2 (hu (Or.inl ⟨k, by omega, by omega, c2⟩))
      · exact br_f c2 (nx (fun _ => c2))
theorem qy_de73 {post : Int32 → SY → Prop} {P : Nat → qt_Fm} (ha : ax < 2) (hn : n ≤ 6) (hP : ∀ s, s < 36 → P (37 + s) = F s) (han : a < n) (h : ∀ tok' cnt', qt_AY 73 tok' cnt' (qt_yd F P ax a n 36) → ∃ f, wY_deleteLine_127 post (nI ax) (nI a) f 0 yr yc yh yw cnt' tok' ysl ysd yst yva yow yli yV yE) :
    ∀ (d k : Nat) (ytk ycn : Nat → Int32), k + d = 36 → qt_AY 73 ytk ycn (qt_yd F P ax a n k) → ∀ f, d < f → wY_deleteLine_73 post (nI ax) (nI a) (nI n) (nI (qt_st ax)) f (nI k) yr yc yh yw ycn ytk ysl ysd yst yva yow yli yV yE := by
  intro d
  induction d with
  | zero =>
    intro k ytk ycn hk hA f hf
    obtain ⟨f, rfl⟩ : ∃ z, f = z + 1 := ⟨f - 1, by omega⟩
    obtain rfl : k = 36 := by omega
    unfold wY_deleteLine_73
    exact br_t (by decide) (h _ _ hA)
  | succ d ih =>
    intro k ytk ycn hk hA f hf
    obtain ⟨f, rfl⟩ : ∃ z, f = z + 1 := ⟨f - 1, by omega⟩
    have hl := (qt_ln_lt (ax := ax) (s := k) (by omega)).1
    have skip : ¬ (a ≤ qt_ln ax k ∧ qt_ln ax k + 1 < n) → wY_deleteLine_73 post (nI ax) (nI a) (nI n) (nI (qt_st ax)) f (nI (k + 1)) yr yc yh yw ycn ytk ysl ysd yst yva yow yli yV yE :=
      fun z => ih (k + 1) _ _ (by omega) (qt_AY_e hA (fun s _ => qt_fe_e (qt_yd_k z))) f (by omega)
    simp (disch := omega) only [wY_deleteLine_73, qa_lel36, nI_add, pk_mul, qa_a1, qa_a2, qa_a3, qa_a4, qa_a5, qa_a6, qa_a7, qa_a8, qa_a56, qa_m6, qa_m7, qa_m8, qa_m56, qa_l2, qa_l37, qa_l2016, qa_in, nI_clamp, forall_eq, true_and, qa_cl0, nI_leI, nI_ltI, nI_eq, not_false_eq_true, pk_sub, qa_s1, qa_s2, qa_s8]
    refine br_f (by omega) ?_
    refine qy_line ha (by omega) ?_
    rw [nI_ltI (by omega) (by omega)]
    by_cases c1 : qt_ln ax k < a
    · exact br_t c1 (skip (by omega))
    · refine br_f c1 ?_
      refine qy_line ha (by omega) ?_
      rw [nI_leI (by omega) (by omega)]
      by_cases c2 : n - 1 ≤ qt_ln ax k
      · exact br_t c2 (skip (by omega))
      · refine br_f c2 ?_
        obtain ⟨d1, d2, d3, d4⟩ := qt_st_up (ax := ax) (s := k) (l := qt_ln ax k + 1) ha (by omega) rfl (by omega)
        have hsrc : qt_yd F P ax a n k (37 + k + qt_st ax) = F (k + qt_st ax) := by
          unfold qt_yd
          rw [if_neg (by omega), show 37 + k + qt_st ax = 37 + (k + qt_st ax) by omega, hP _ (by omega)]
        refine qy_csA (Nat.le_refl 73) (by omega) (by omega) (by omega) hA (fun tok' cnt' hA' => ?_)
        rw [hsrc] at hA'
        exact ih (k + 1) _ _ (by omega) (qt_AY_e hA' (fun s _ => qt_fe_e (qt_yd_s ⟨by omega, by omega⟩))) f (by omega)
theorem qy_de36 {post : Int32 → SY → Prop} {x2 x4 : Int32} {P : Nat → qt_Fm} (ha : ax < 2) (hn : n ≤ 6) (hn0 : 0 < n) (h : ∀ cnt', qt_AY 73 ytk cnt' (qt_yz P ax (n - 1) 36) → ∃ f, wY_deleteLine_73 post (nI ax) x2 (nI n) x4 f 0 yr yc yh yw cnt' ytk ysl ysd yst yva yow yli yV yE) :
    ∀ (d k : Nat) (ycn : Nat → Int32), k + d = 36 → qt_AY 73 ytk ycn (qt_yz P ax (n - 1) k) → ∀ f, d < f → wY_deleteLine_36 post (nI ax) x2 (nI n) x4 yr yc yh yw f (nI k) ycn ytk ysl ysd yst yva yow yli yV yE := by
  intro d
  induction d with
  | zero =>
    intro k ycn hk hA f hf
    obtain ⟨f, rfl⟩ : ∃ z, f = z + 1 := ⟨f - 1, by omega⟩
    obtain rfl : k = 36 := by omega
    unfold wY_deleteLine_36
    exact br_t (by decide) (h _ hA)
  | succ d ih =>
    intro k ycn hk hA f hf
    obtain ⟨f, rfl⟩ : ∃ z, f = z + 1 := ⟨f - 1, by omega⟩
    have hl := (qt_ln_lt (ax := ax) (s := k) (by omega)).1
    simp (disch := omega) only [wY_deleteLine_36, qa_lel36, nI_add, pk_mul, qa_a1, qa_a2, qa_a3, qa_a4, qa_a5, qa_a6, qa_a7, qa_a8, qa_a56, qa_m6, qa_m7, qa_m8, qa_m56, qa_l2, qa_l37, qa_l2016, qa_in, nI_clamp, forall_eq, true_and, qa_cl0, nI_leI, nI_ltI, nI_eq, not_false_eq_true, pk_sub, qa_s1, qa_s2, qa_s8]
    refine br_f (by omega) ?_
    refine qy_line ha (by omega) ?_
    rw [nI_eq (by omega) (by omega)]
    by_cases c1 : qt_ln ax k = n - 1
    · exact br_t c1 (ih (k + 1) _ (by omega) (qt_AY_e (qt_AY_0 hA) (fun s _ => qt_fe_e (qt_yz_s c1))) f (by omega))
    · exact br_f c1 (ih (k + 1) _ (by omega) (qt_AY_e hA (fun s _ => qt_fe_e (qt_yz_k c1))) f (by omega))
end
theorem qy_ins {post : Int32 → SY → Prop} {F : Nat → qt_Fm} {R C ax : Nat} {v : Int32} (ha : ax < 2) (hR : R ≤ 6) (hC : C ≤ 6) (hA : qt_AY 37 ytk ycn F)
    (hb : (¬ ∃ a, a < qt_sz R C ax ∧ v = nI a) → post 1 (nI R, nI C, yh, yw, ycn, ytk, ysl, ysd, yst, yva, yow, yli, yV, yE)) (hu : (∃ a, a < qt_sz R C ax ∧ v = nI a) → qt_use F ax (qt_sz R C ax) → post 2 (nI R, nI C, yh, yw, ycn, ytk, ysl, ysd, yst, yva, yow, yli, yV, yE))
    (h : ∀ a, a < qt_sz R C ax → v = nI a → ¬ qt_use F ax (qt_sz R C ax) → ∀ tok' cnt', qt_AY 37 tok' cnt' (qt_mc (qt_gro ax (nI a)) F (qt_is F ax a (qt_sz R C ax))) → wpY_settle post (nI R, nI C, yh, yw, cnt', tok', ysl, ysd, yst, yva, yow, yli, yV, yE)) : wpY_insertLine post (nI R, nI C, yh, yw, ycn, ytk, ysl, ysd, yst, yva, yow, yli, yV, yE) (nI ax) v := by
  have hn : qt_sz R C ax ≤ 6 := by unfold qt_sz; split <;> omega
  have key : wY_insertLine_16 post (nI ax) v (nI (qt_sz R C ax)) (nI (qt_st ax)) (nI R) (nI C) yh yw ycn ytk ysl ysd yst yva yow yli yV yE := by
    unfold wY_insertLine_16
    by_cases c1 : v < 0
    · refine br_t c1 (hb ?_)
      rintro ⟨a, h1, rfl⟩
      exact nI_pos (by omega) c1
    obtain ⟨a, ha', rfl⟩ := nI_of c1
    refine br_f c1 ?_
    rw [nI_ltI ha' (by omega)]
    by_cases c2 : a < qt_sz R C ax
    · exact br_t c2 ⟨37, qy_in32 ha hR hC hn c2 hA (fun z => hu ⟨a, c2, rfl⟩ z) (fun z tok' cnt' hA' => h a c2 rfl z _ _ hA') 36 0 (by decide) (fun s hs => absurd hs (Nat.not_lt_zero s)) 37 (by decide)⟩
    · refine br_f c2 (hb ?_)
      rintro ⟨a', h1, e⟩
      rw [nI_eq ha' (by omega)] at e
      omega
  unfold wpY_insertLine
  refine qy_size ha ?_
  match ax, ha with
  | 0, _ => exact br_t (by decide) key
  | 1, _ => exact br_f (by decide) key
theorem qy_del {post : Int32 → SY → Prop} {F : Nat → qt_Fm} {R C ax : Nat} {v : Int32} (ha : ax < 2) (hR : R ≤ 6) (hC : C ≤ 6) (hA : qt_AY 37 ytk ycn F)
    (hb : (¬ ∃ a, a < qt_sz R C ax ∧ v = nI a) → post 1 (nI R, nI C, yh, yw, ycn, ytk, ysl, ysd, yst, yva, yow, yli, yV, yE))
    (h : ∀ a, a < qt_sz R C ax → v = nI a → ∀ tok' cnt', qt_AY 37 tok' cnt' (qt_mc (qt_shr ax (nI a)) F (qt_ds F ax a (qt_sz R C ax))) → wpY_settle post (nI R, nI C, yh, yw, cnt', tok', ysl, ysd, yst, yva, yow, yli, yV, yE)) : wpY_deleteLine post (nI R, nI C, yh, yw, ycn, ytk, ysl, ysd, yst, yva, yow, yli, yV, yE) (nI ax) v := by
  have hn : qt_sz R C ax ≤ 6 := by unfold qt_sz; split <;> omega
  have key : wY_deleteLine_16 post (nI ax) v (nI (qt_sz R C ax)) (nI (qt_st ax)) (nI R) (nI C) yh yw ycn ytk ysl ysd yst yva yow yli yV yE := by
    unfold wY_deleteLine_16
    by_cases c1 : v < 0
    · refine br_t c1 (hb ?_)
      rintro ⟨a, h1, rfl⟩
      exact nI_pos (by omega) c1
    obtain ⟨a, ha', rfl⟩ := nI_of c1
    refine br_f c1 ?_
    rw [nI_ltI ha' (by omega)]
    by_cases c2 : a < qt_sz R C ax
    · refine br_t c2 ?_
      have h' := h a c2 rfl
      generalize qt_sz R C ax = n at hn c2 h' ⊢
      refine qy_sv hA (fun tok1 cnt1 hA1 => ?_)
      refine ⟨37, qy_de36 (P := qt_bk F 36) ha hn (by omega) (fun cnt2 hA2 => ⟨37, ?_⟩) 36 0 _ (by decide) (qt_AY_e hA1 (fun s _ => qt_fe_e ?_)) 37 (by decide)⟩
      · refine qy_de73 (F := F) (P := qt_yz (qt_bk F 36) ax (n - 1) 36) ha hn (fun s hs => ?_) c2 (fun tok3 cnt3 hA3 => ⟨253, ?_⟩) 36 0 _ _ (by decide) (qt_AY_e hA2 (fun s _ => qt_fe_e ?_)) 37 (by decide)
        · unfold qt_yz
          rw [if_neg (by omega), qt_bk_o hs]
        · refine qy_del127 (F := qt_yd F (qt_yz (qt_bk F 36) ax (n - 1) 36) ax a n 36) (q := 73) ha (by decide) (fun s i _ _ _ => qt_dy_e ha) 252 0 _ (by decide) (qt_AY_e hA3 (fun s _ => qt_pm_0 s)) (fun tok4 hA4 => h' _ _ (qt_AY_e (qt_AY_le hA4 (by decide)) (fun s hs => ?_))) 253 (by decide)
          have h7 := (hA3 s (by omega)).1
          unfold qt_mc
          by_cases z : s < 36
          · rw [if_pos z]
            refine qt_fe_t (qt_pm_252 z h7) (qt_mp_fe (qt_fe_e ?_))
            unfold qt_yd qt_ds
            by_cases c2 : qt_ln ax s < a
            · rw [if_neg (by omega), if_pos c2]
              unfold qt_yz
              rw [if_neg (by omega), qt_bk_l (by omega)]
            · by_cases c3 : qt_ln ax s + 1 < n
              · rw [if_pos (by omega), if_neg c2, if_pos c3]
              · by_cases c1 : qt_ln ax s + 1 = n
                · rw [if_neg (by omega), if_neg c2, if_neg c3, if_pos c1]
                  unfold qt_yz
                  rw [if_pos ⟨z, by omega⟩]
                · rw [if_neg (by omega), if_neg c2, if_neg c3, if_neg c1]
                  unfold qt_yz
                  rw [if_neg (by omega), qt_bk_l (by omega)]
          · rw [if_neg z]
            refine qt_fe_t (qt_pm_big (by omega)) (qt_fe_e ?_)
            unfold qt_yd qt_yz
            rw [if_neg (by omega), if_neg (by omega), qt_bk_l hs]
        · unfold qt_yd
          rw [if_neg (by omega)]
      · unfold qt_yz
        rw [if_neg (by omega)]
    · refine br_f c2 (hb ?_)
      rintro ⟨a', h1, e⟩
      rw [nI_eq ha' (by omega)] at e
      omega
  unfold wpY_deleteLine
  refine qy_size ha ?_
  match ax, ha with
  | 0, _ => exact br_t (by decide) key
  | 1, _ => exact br_f (by decide) key
theorem qa_neg1 {v : Int32} (h : ¬ v < 0) : ¬ v < -1 := fun z => h (Int32.lt_trans z (by decide))
theorem qy_insb {post : Int32 → SY → Prop} {p v : Int32} (h0 : ¬ p = 0) (h1 : ¬ p = 1) (h : post 1 (yr, yc, yh, yw, ycn, ytk, ysl, ysd, yst, yva, yow, yli, yV, yE)) : wpY_insertLine post (yr, yc, yh, yw, ycn, ytk, ysl, ysd, yst, yva, yow, yli, yV, yE) p v := by
  refine br_f h0 (br_f h1 (br_f h0 ?_))
  by_cases c : v < 0
  · exact br_t c h
  · exact br_f c (br_f (qa_neg1 c) h)
theorem qy_delb {post : Int32 → SY → Prop} {p v : Int32} (h0 : ¬ p = 0) (h1 : ¬ p = 1) (h : post 1 (yr, yc, yh, yw, ycn, ytk, ysl, ysd, yst, yva, yow, yli, yV, yE)) : wpY_deleteLine post (yr, yc, yh, yw, ycn, ytk, ysl, ysd, yst, yva, yow, yli, yV, yE) p v := by
  refine br_f h0 (br_f h1 (br_f h0 ?_))
  by_cases c : v < 0
  · exact br_t c h
  · exact br_f c (br_f (qa_neg1 c) h)
end
end
section
/-! the reference: moveTo, copyTo, fill -/
theorem qa_sub6 {x y p q r t : Nat} (h : y + p * 6 + q = x + r * 6 + t) : nI x - (nI p - nI r) * 6 - (nI q - nI t) = nI y := by
  have e : nI y + nI p * 6 + nI q = nI x + nI r * 6 + nI t := by
    rw [qa_m6, qa_m6, nI_add, nI_add, nI_add, nI_add, h]
  grind
theorem qa_add6 {x y p q r t : Nat} (h : x + p * 6 + q = y + r * 6 + t) : nI x + (nI p - nI r) * 6 + (nI q - nI t) = nI y := by
  have e : nI x + nI p * 6 + nI q = nI y + nI r * 6 + nI t := by
    rw [qa_m6, qa_m6, nI_add, nI_add, nI_add, nI_add, h]
  grind
def qt_mz (F : Nat → qt_Fm) (a b c d k : Nat) : Nat → qt_Fm := fun s => if s < k ∧ qt_sel a b c d s then qt_z else F s
def qt_mm (F P : Nat → qt_Fm) (a b c d row col k : Nat) : Nat → qt_Fm := fun s => if s < k ∧ qt_dst a b c d row col s then F (qt_so a b row col s) else P s
noncomputable def qt_mq (R C : Nat) (F P : Nat → qt_Fm) (a b c d row col k : Nat) : Nat → qt_Fm := fun s => if qt_dst a b c d row col s ∧ qt_so a b row col s < k then qt_mp (qt_shf R C (nI row - nI a) (nI col - nI b)) (F (qt_so a b row col s)) else P s
noncomputable def qt_mf (R C : Nat) (F : Nat → qt_Fm) (ax a b c d k : Nat) : Nat → qt_Fm := fun s => if s < k ∧ qt_sel a b c d s then qt_fi R C F ax a b s else F s
theorem qt_mz_s {P : Nat → qt_Fm} {a b c d : Nat} {k s : Nat} (hk : qt_sel a b c d k) : qt_ut (qt_mz P a b c d k) k (qt_z) s = qt_mz P a b c d (k + 1) s := by
  by_cases e : s = k
  · subst e; rw [qt_us]; unfold qt_mz; rw [if_pos ⟨Nat.lt_succ_self s, hk⟩]
  · rw [qt_un e]; unfold qt_mz
    by_cases z : s < k ∧ qt_sel a b c d s
    · rw [if_pos z, if_pos ⟨by omega, z.2⟩]
    · rw [if_neg z, if_neg (fun y => z ⟨by omega, y.2⟩)]
theorem qt_mz_k {P : Nat → qt_Fm} {a b c d : Nat} {k s : Nat} (hk : ¬ qt_sel a b c d k) : qt_mz P a b c d k s = qt_mz P a b c d (k + 1) s := by
  unfold qt_mz
  by_cases z : s < k ∧ qt_sel a b c d s
  · rw [if_pos z, if_pos ⟨by omega, z.2⟩]
  · rw [if_neg z, if_neg]
    rintro ⟨y1, y2⟩
    by_cases e : s = k
    · subst e; exact hk y2
    · exact z ⟨by omega, y2⟩
theorem qt_mm_s {F P : Nat → qt_Fm} {a b c d row col : Nat} {k s : Nat} (hk : qt_dst a b c d row col k) : qt_ut (qt_mm F P a b c d row col k) k (F (qt_so a b row col k)) s = qt_mm F P a b c d row col (k + 1) s := by
  by_cases e : s = k
  · subst e; rw [qt_us]; unfold qt_mm; rw [if_pos ⟨Nat.lt_succ_self s, hk⟩]
  · rw [qt_un e]; unfold qt_mm
    by_cases z : s < k ∧ qt_dst a b c d row col s
    · rw [if_pos z, if_pos ⟨by omega, z.2⟩]
    · rw [if_neg z, if_neg (fun y => z ⟨by omega, y.2⟩)]
theorem qt_mm_k {F P : Nat → qt_Fm} {a b c d row col : Nat} {k s : Nat} (hk : ¬ qt_dst a b c d row col k) : qt_mm F P a b c d row col k s = qt_mm F P a b c d row col (k + 1) s := by
  unfold qt_mm
  by_cases z : s < k ∧ qt_dst a b c d row col s
  · rw [if_pos z, if_pos ⟨by omega, z.2⟩]
  · rw [if_neg z, if_neg]
    rintro ⟨y1, y2⟩
    by_cases e : s = k
    · subst e; exact hk y2
    · exact z ⟨by omega, y2⟩
theorem qt_mf_s {F : Nat → qt_Fm} {R C ax a b c d : Nat} {k s : Nat} (hk : qt_sel a b c d k) : qt_ut (qt_mf R C F ax a b c d k) k (qt_fi R C F ax a b k) s = qt_mf R C F ax a b c d (k + 1) s := by
  by_cases e : s = k
  · subst e; rw [qt_us]; unfold qt_mf; rw [if_pos ⟨Nat.lt_succ_self s, hk⟩]
  · rw [qt_un e]; unfold qt_mf
    by_cases z : s < k ∧ qt_sel a b c d s
    · rw [if_pos z, if_pos ⟨by omega, z.2⟩]
    · rw [if_neg z, if_neg (fun y => z ⟨by omega, y.2⟩)]
theorem qt_mf_k {F : Nat → qt_Fm} {R C ax a b c d : Nat} {k s : Nat} (hk : ¬ qt_sel a b c d k) : qt_mf R C F ax a b c d k s = qt_mf R C F ax a b c d (k + 1) s := by
  unfold qt_mf
  by_cases z : s < k ∧ qt_sel a b c d s
  · rw [if_pos z, if_pos ⟨by omega, z.2⟩]
  · rw [if_neg z, if_neg]
    rintro ⟨y1, y2⟩
    by_cases e : s = k
    · subst e; exact hk y2
    · exact z ⟨by omega, y2⟩
section
variable {yr yc yh yw : Int32} {ycn ytk ysl ysd yst yva yow yli yV yE : Nat → Int32}
section
variable {F : Nat → qt_Fm} {R C a b c d row col : Nat}
theorem qy_mv48 {post : Int32 → SY → Prop} {dr dc : Int32} {P : Nat → qt_Fm} (l0 : ysl 0 = nI a) (l1 : ysl 1 = nI b) (l2 : ysl 2 = nI c) (l3 : ysl 3 = nI d) (hac : a ≤ c) (hbd : b ≤ d) (hc : c < 6) (hd : d < 6) (h : ∀ cnt', qt_AY 73 ytk cnt' (qt_mz P a b c d 36) → ∃ f, wY_moveTo_89 post dr dc f 0 yr yc yh yw cnt' ytk ysl ysd yst yva yow yli yV yE) :
    ∀ (e k : Nat) (ycn : Nat → Int32), k + e = 36 → qt_AY 73 ytk ycn (qt_mz P a b c d k) → ∀ f, e < f → wY_moveTo_48 post dr dc yr yc yh yw f (nI k) ycn ytk ysl ysd yst yva yow yli yV yE := by
  intro e
  induction e with
  | zero =>
    intro k ycn hk hA f hf
    obtain ⟨f, rfl⟩ : ∃ z, f = z + 1 := ⟨f - 1, by omega⟩
    obtain rfl : k = 36 := by omega
    unfold wY_moveTo_48
    exact br_t (by decide) (h _ hA)
  | succ e ih =>
    intro k ycn hk hA f hf
    obtain ⟨f, rfl⟩ : ∃ z, f = z + 1 := ⟨f - 1, by omega⟩
    have e6 : k - k / 6 * 6 = k % 6 := by omega
    have hi := qt_sh_iff (r := k / 6) (k := k % 6) l0 l1 l2 l3 (by omega) (by omega) (by omega) (by omega) (by omega) (by omega)
    simp (disch := omega) only [wY_moveTo_48, qa_lel36, qa_n6, qa_div6, e6, nI_add, pk_mul, qa_a1, qa_a2, qa_a3, qa_a4, qa_a5, qa_a6, qa_a7, qa_a8, qa_a56, qa_m6, qa_m7, qa_m8, qa_m56, qa_l2, qa_l37, qa_l2016, qa_in, nI_clamp, forall_eq, true_and, qa_cl0, nI_leI, nI_ltI, nI_eq, not_false_eq_true, pk_sub, qa_s1, qa_s2, qa_s8]
    refine br_f (by omega) ?_
    refine qy_sel (fun z => ?_) (fun z => ?_)
    · exact br_f (by decide) (ih (k + 1) _ (by omega) (qt_AY_e (qt_AY_0 hA) (fun s _ => qt_fe_e (qt_mz_s (by have := hi.mp z; unfold qt_sel; omega)))) f (by omega))
    · exact br_t (by decide) (ih (k + 1) _ (by omega) (qt_AY_e hA (fun s _ => qt_fe_e (qt_mz_k (fun y => z (hi.mpr (by unfold qt_sel at y; omega)))))) f (by omega))
theorem qy_mv89 {post : Int32 → SY → Prop} {P : Nat → qt_Fm} (l0 : ysl 0 = nI a) (l1 : ysl 1 = nI b) (l2 : ysl 2 = nI c) (l3 : ysl 3 = nI d) (hac : a ≤ c) (hbd : b ≤ d) (hc : c < 6) (hd : d < 6) (hrow : row + (c - a) < 6) (hcol : col + (d - b) < 6) (hP : ∀ s, s < 36 → P (37 + s) = F s) (h : ∀ tok' cnt', qt_AY 73 tok' cnt' (qt_mm F P a b c d row col 36) → ∃ f, wY_moveTo_146 post (nI row - nI a) (nI col - nI b) f 0 yr yc yh yw cnt' tok' ysl ysd yst yva yow yli yV yE) :
    ∀ (e k : Nat) (ytk ycn : Nat → Int32), k + e = 36 → qt_AY 73 ytk ycn (qt_mm F P a b c d row col k) → ∀ f, e < f → wY_moveTo_89 post (nI row - nI a) (nI col - nI b) f (nI k) yr yc yh yw ycn ytk ysl ysd yst yva yow yli yV yE := by
  intro e
  induction e with
  | zero =>
    intro k ytk ycn hk hA f hf
    obtain ⟨f, rfl⟩ : ∃ z, f = z + 1 := ⟨f - 1, by omega⟩
    obtain rfl : k = 36 := by omega
    unfold wY_moveTo_89
    exact br_t (by decide) (h _ _ hA)
  | succ e ih =>
    intro k ytk ycn hk hA f hf
    obtain ⟨f, rfl⟩ : ∃ z, f = z + 1 := ⟨f - 1, by omega⟩
    have hi := qt_sh_d (r := k / 6) (k := k % 6) (row := row) (col := col) l0 l1 l2 l3 (by omega) (by omega) (by omega) (by omega) (by omega) (by omega) (by omega) (by omega)
    unfold wY_moveTo_89
    refine br_f (by rw [qa_lel36 (by omega)]; omega) ⟨qa_n6, qa_n6, ?_⟩
    rw [qa_div6 (by omega), show nI k - nI (k / 6) * 6 = nI (k % 6) by rw [qa_m6, pk_sub (by omega)]; exact congrArg nI (by omega)]
    refine qy_sel (fun z => ?_) (fun z => ?_)
    · have z' : qt_dst a b c d row col k := hi.mp z
      obtain ⟨f1, f2⟩ := qt_so_f hc hd z'
      refine br_f (by decide) ?_
      have hso : qt_so a b row col k < 36 := by unfold qt_dst at z'; omega
      rw [qa_l37, qa_sub6 (y := 37 + qt_so a b row col k) (by unfold qt_so; unfold qt_dst at z'; omega)]
      have hsrc : qt_mm F P a b c d row col k (37 + qt_so a b row col k) = F (qt_so a b row col k) := by
        unfold qt_mm
        rw [if_neg (by omega), hP _ hso]
      refine qy_csA (Nat.le_refl 73) (by omega) (by omega) (by omega) hA (fun tok' cnt' hA' => ?_)
      rw [hsrc] at hA'
      refine nm_r (nI_1 k) (ih (k + 1) _ _ (by omega) (qt_AY_e hA' (fun s _ => qt_fe_e (qt_mm_s z'))) f (by omega))
    · exact br_t (by decide) (nm_r (nI_1 k) (ih (k + 1) _ _ (by omega) (qt_AY_e hA (fun s _ => qt_fe_e (qt_mm_k (fun y => z (hi.mpr y))))) f (by omega)))
theorem qy_mv {post : Int32 → SY → Prop} {p q : Int32} (l0 : ysl 0 = nI a) (l1 : ysl 1 = nI b) (l2 : ysl 2 = nI c) (l3 : ysl 3 = nI d) (hR : R ≤ 6) (hC : C ≤ 6) (hac : a ≤ c) (hbd : b ≤ d) (hc : c < 6) (hd : d < 6) (hA : qt_AY 37 ytk ycn F) (hV : qt_VC R C F)
    (hb : ¬ qt_ft R C a b c d p q → post 1 (nI R, nI C, yh, yw, ycn, ytk, ysl, ysd, yst, yva, yow, yli, yV, yE)) (hz : p = nI a → q = nI b → qt_ft R C a b c d p q → post 0 (nI R, nI C, yh, yw, ycn, ytk, ysl, ysd, yst, yva, yow, yli, yV, yE))
    (h : ∀ row col, p = nI row → q = nI col → row + (c - a) < R → col + (d - b) < C → ¬ (row = a ∧ col = b) → ∀ tok' cnt', qt_AY 37 tok' cnt' (qt_mc (qt_mov (nI a) (nI b) (nI c) (nI d) (nI row - nI a) (nI col - nI b)) F (qt_mvF F a b c d row col)) → wpY_settle post (nI R, nI C, yh, yw, cnt', tok', ysl, ysd, yst, yva, yow, yli, yV, yE)) :
    wpY_moveTo post (nI R, nI C, yh, yw, ycn, ytk, ysl, ysd, yst, yva, yow, yli, yV, yE) p q := by
  unfold wpY_moveTo
  refine nm_r (by rw [l0]) (nm_r (by rw [l1]) ?_)
  refine qy_fits (by omega) (by omega) hac hbd (by omega) (by omega) l0 l1 l2 l3 (fun hf => ?_) (fun hf => br_t (by decide) (hb hf))
  refine br_f (by decide) ?_
  obtain ⟨row, col, rfl, rfl, h1, h2⟩ := id hf
  have z1 : nI row - nI a = 0 ↔ row = a := by
    rw [← Int32.toInt_inj, pk_sub_toInt (by omega) (by omega), show (0 : Int32).toInt = 0 from by decide]
    omega
  have z2 : nI col - nI b = 0 ↔ col = b := by
    rw [← Int32.toInt_inj, pk_sub_toInt (by omega) (by omega), show (0 : Int32).toInt = 0 from by decide]
    omega
  have go : ¬ (row = a ∧ col = b) → wY_moveTo_41 post (nI row - nI a) (nI col - nI b) (nI R) (nI C) yh yw ycn ytk ysl ysd yst yva yow yli yV yE := by
    intro hne
    unfold wY_moveTo_41
    refine qy_sv hA (fun tok1 cnt1 hA1 => ?_)
    refine ⟨37, qy_mv48 (P := qt_bk F 36) l0 l1 l2 l3 hac hbd hc hd (fun cnt2 hA2 => ⟨37, ?_⟩) 36 0 _ (by decide) (qt_AY_e hA1 (fun s _ => qt_fe_e ?_)) 37 (by decide)⟩
    · refine qy_mv89 (F := F) (P := qt_mz (qt_bk F 36) a b c d 36) l0 l1 l2 l3 hac hbd hc hd (by omega) (by omega) (fun s hs => ?_) (fun tok3 cnt3 hA3 => ⟨253, ?_⟩) 36 0 _ _ (by decide) (qt_AY_e hA2 (fun s _ => qt_fe_e ?_)) 37 (by decide)
      · unfold qt_mz
        rw [if_neg (by omega), qt_bk_o hs]
      · have hH : ∀ s, s < 37 → qt_mm F (qt_mz (qt_bk F 36) a b c d 36) a b c d row col 36 s = (if s < 36 then qt_mvF F a b c d row col s else F s) := by
          intro s hs
          unfold qt_mm qt_mz qt_mvF
          by_cases y : s < 36
          · rw [if_pos y, qt_bk_l hs]
            by_cases y1 : qt_dst a b c d row col s
            · rw [if_pos ⟨y, y1⟩, if_pos y1]
            · rw [if_neg (fun v => y1 v.2), if_neg y1]
              by_cases y2 : qt_sel a b c d s
              · rw [if_pos ⟨y, y2⟩, if_pos y2]
              · rw [if_neg (fun v => y2 v.2), if_neg y2]
          · rw [if_neg (fun v => y v.1), if_neg (fun v => y v.1), if_neg y, qt_bk_l hs]
        refine qy_mov146 (F := qt_mm F (qt_mz (qt_bk F 36) a b c d 36) a b c d row col 36) (st := nI a) (sl := nI b) (sb := nI c) (sr := nI d) (q := 73) (by decide) (fun s i hs hi hl => ?_) 252 0 _ (by decide) (qt_AY_e hA3 (fun s _ => qt_pm_0 s)) (fun tok4 hA4 => h row col rfl rfl h1 h2 hne _ _ (qt_AY_e (qt_AY_le hA4 (by decide)) (fun s hs => ?_))) 253 (by decide)
        · have hval : qt_VT R C ((qt_mm F (qt_mz (qt_bk F 36) a b c d 36) a b c d row col 36 s).2 i) := by
            rw [hH s (by omega), if_pos hs] at hi ⊢
            unfold qt_mvF at hi ⊢
            by_cases y1 : qt_dst a b c d row col s
            · rw [if_pos y1] at hi ⊢
              obtain ⟨f1, f2⟩ := qt_so_f hc hd y1
              exact (hV _ (by unfold qt_dst at y1; omega)).1.2 i hi
            · rw [if_neg y1] at hi ⊢
              by_cases y2 : qt_sel a b c d s
              · rw [if_pos y2] at hi
                exact absurd hi (Nat.not_lt_zero i)
              · rw [if_neg y2] at hi ⊢
                exact (hV s hs).1.2 i hi
          exact qt_my_e hR hC l0 l1 l2 l3 hac hbd hc hd (by omega) (by omega) (qt_VT_lv hval hl).1
        · have h7 := (hA3 s (by omega)).1
          unfold qt_mc
          by_cases z : s < 36
          · rw [if_pos z]
            refine qt_fe_t (qt_pm_252 z h7) (qt_mp_fe (qt_fe_e ?_))
            rw [hH s hs, if_pos z]
          · rw [if_neg z]
            refine qt_fe_t (qt_pm_big (by omega)) (qt_fe_e ?_)
            rw [hH s hs, if_neg z]
      · unfold qt_mm
        rw [if_neg (by omega)]
    · unfold qt_mz
      rw [if_neg (by omega)]
  by_cases c1 : row = a
  · refine br_t (z1.mpr c1) ?_
    by_cases c2 : col = b
    · exact br_t (z2.mpr c2) (hz (by rw [c1]) (by rw [c2]) hf)
    · exact br_f (fun z => c2 (z2.mp z)) (go (fun z => c2 z.2))
  · exact br_f (fun z => c1 (z1.mp z)) (go (fun z => c1 z.1))
theorem qt_mq_s {P : Nat → qt_Fm} {k s : Nat} (hc : c < 6) (hd : d < 6) (hrow : row + (c - a) < 6) (hcol : col + (d - b) < 6) (hk : qt_sel a b c d k) : qt_ut (qt_mq R C F P a b c d row col k) ((k / 6 - a + row) * 6 + (k % 6 - b + col)) (qt_mp (qt_shf R C (nI row - nI a) (nI col - nI b)) (F k)) s = qt_mq R C F P a b c d row col (k + 1) s := by
  by_cases e : s = (k / 6 - a + row) * 6 + (k % 6 - b + col)
  · subst e
    rw [qt_us]
    have e1 : ((k / 6 - a + row) * 6 + (k % 6 - b + col)) / 6 = k / 6 - a + row := by omega
    have e2 : ((k / 6 - a + row) * 6 + (k % 6 - b + col)) % 6 = k % 6 - b + col := by omega
    have hq : qt_dst a b c d row col ((k / 6 - a + row) * 6 + (k % 6 - b + col)) := by unfold qt_dst; omega
    have hs : qt_so a b row col ((k / 6 - a + row) * 6 + (k % 6 - b + col)) = k := by
      unfold qt_so
      rw [e1, e2]; omega
    unfold qt_mq
    rw [hs, if_pos ⟨hq, Nat.lt_succ_self k⟩]
  · rw [qt_un e]
    unfold qt_mq
    by_cases z : qt_dst a b c d row col s
    · have hs : qt_so a b row col s ≠ k := by
        intro v
        obtain ⟨f1, f2⟩ := qt_so_f hc hd z
        rw [v] at f1 f2
        unfold qt_dst at z
        omega
      by_cases y : qt_so a b row col s < k
      · rw [if_pos ⟨z, y⟩, if_pos ⟨z, by omega⟩]
      · rw [if_neg (fun v => y v.2), if_neg (fun v => y (by omega))]
    · rw [if_neg (fun v => z v.1), if_neg (fun v => z v.1)]
theorem qt_mq_k {P : Nat → qt_Fm} {k s : Nat} (hc : c < 6) (hd : d < 6) (hk : ¬ qt_sel a b c d k) : qt_mq R C F P a b c d row col k s = qt_mq R C F P a b c d row col (k + 1) s := by
  unfold qt_mq
  by_cases z : qt_dst a b c d row col s
  · have hs : qt_so a b row col s ≠ k := by
      intro v
      obtain ⟨f1, f2⟩ := qt_so_f hc hd z
      rw [v] at f1 f2
      unfold qt_dst at z
      exact hk (by unfold qt_sel; omega)
    by_cases y : qt_so a b row col s < k
    · rw [if_pos ⟨z, y⟩, if_pos ⟨z, by omega⟩]
    · rw [if_neg (fun v => y v.2), if_neg (fun v => y (by omega))]
  · rw [if_neg (fun v => z v.1), if_neg (fun v => z v.1)]
theorem qy_cp37 {post : Int32 → SY → Prop} {P : Nat → qt_Fm} (l0 : ysl 0 = nI a) (l1 : ysl 1 = nI b) (l2 : ysl 2 = nI c) (l3 : ysl 3 = nI d) (hR : R ≤ 6) (hC : C ≤ 6) (hac : a ≤ c) (hbd : b ≤ d) (hc : c < 6) (hd : d < 6) (hrow : row + (c - a) < 6) (hcol : col + (d - b) < 6) (hV : qt_VC R C F) (hP : ∀ s, s < 36 → P (37 + s) = F s) (h : ∀ tok' cnt', qt_AY 73 tok' cnt' (qt_mq R C F P a b c d row col 36) → wpY_settle post (nI R, nI C, yh, yw, cnt', tok', ysl, ysd, yst, yva, yow, yli, yV, yE)) :
    ∀ (e k : Nat) (ytk ycn : Nat → Int32), k + e = 36 → qt_AY 73 ytk ycn (qt_mq R C F P a b c d row col k) → ∀ f, e < f → wY_copyTo_37 post (nI row - nI a) (nI col - nI b) f (nI k) (nI R) (nI C) yh yw ycn ytk ysl ysd yst yva yow yli yV yE := by
  intro e
  induction e with
  | zero =>
    intro k ytk ycn hk hA f hf
    obtain ⟨f, rfl⟩ : ∃ z, f = z + 1 := ⟨f - 1, by omega⟩
    obtain rfl : k = 36 := by omega
    unfold wY_copyTo_37
    exact br_t (by decide) (h _ _ hA)
  | succ e ih =>
    intro k ytk ycn hk hA f hf
    obtain ⟨f, rfl⟩ : ∃ z, f = z + 1 := ⟨f - 1, by omega⟩
    have hi := qt_sh_iff (r := k / 6) (k := k % 6) l0 l1 l2 l3 (by omega) (by omega) (by omega) (by omega) (by omega) (by omega)
    unfold wY_copyTo_37
    refine br_f (by rw [qa_lel36 (by omega)]; omega) ⟨qa_n6, qa_n6, ?_⟩
    rw [qa_div6 (by omega), show nI k - nI (k / 6) * 6 = nI (k % 6) by rw [qa_m6, pk_sub (by omega)]; exact congrArg nI (by omega)]
    refine qy_sel (fun z => ?_) (fun z => ?_)
    · have z' : qt_sel a b c d k := by have := hi.mp z; unfold qt_sel; omega
      refine br_f (by decide) ?_
      have z'' := z'
      unfold qt_sel at z''
      rw [qa_l37, qa_add6 (y := (k / 6 - a + row) * 6 + (k % 6 - b + col)) (by omega)]
      have hsrc : qt_mq R C F P a b c d row col k (37 + k) = F k := by
        unfold qt_mq
        rw [if_neg (fun v => by have := v.1; unfold qt_dst at this; omega), hP _ (by omega)]
      refine qy_cc (by omega) (by omega) (by omega) (by omega) (by decide) (Nat.le_refl 73) (by omega) hA (fun i hi' hl => ?_) (fun tok' cnt' hA' => ?_)
      · rw [hsrc] at hi' hl ⊢
        exact qt_cy_e (qt_VT_lv ((hV k (by omega)).1.2 i hi') hl).1
      · rw [hsrc] at hA'
        exact nm_r (nI_1 k) (ih (k + 1) _ _ (by omega) (qt_AY_e hA' (fun s _ => qt_fe_e (qt_mq_s hc hd hrow hcol z'))) f (by omega))
    · have z' : ¬ qt_sel a b c d k := fun y => z (hi.mpr (by unfold qt_sel at y; omega))
      exact br_t (by decide) (nm_r (nI_1 k) (ih (k + 1) _ _ (by omega) (qt_AY_e hA (fun s _ => qt_fe_e (qt_mq_k hc hd z'))) f (by omega)))
theorem qy_cp {post : Int32 → SY → Prop} {p q : Int32} (l0 : ysl 0 = nI a) (l1 : ysl 1 = nI b) (l2 : ysl 2 = nI c) (l3 : ysl 3 = nI d) (hR : R ≤ 6) (hC : C ≤ 6) (hac : a ≤ c) (hbd : b ≤ d) (hc : c < 6) (hd : d < 6) (hA : qt_AY 37 ytk ycn F) (hV : qt_VC R C F)
    (hb : ¬ qt_ft R C a b c d p q → post 1 (nI R, nI C, yh, yw, ycn, ytk, ysl, ysd, yst, yva, yow, yli, yV, yE))
    (h : ∀ row col, p = nI row → q = nI col → row + (c - a) < R → col + (d - b) < C → ∀ tok' cnt', qt_AY 37 tok' cnt' (qt_cpF R C F a b c d row col) → wpY_settle post (nI R, nI C, yh, yw, cnt', tok', ysl, ysd, yst, yva, yow, yli, yV, yE)) :
    wpY_copyTo post (nI R, nI C, yh, yw, ycn, ytk, ysl, ysd, yst, yva, yow, yli, yV, yE) p q := by
  unfold wpY_copyTo
  refine nm_r (by rw [l0]) (nm_r (by rw [l1]) ?_)
  refine qy_fits (by omega) (by omega) hac hbd (by omega) (by omega) l0 l1 l2 l3 (fun hf => ?_) (fun hf => br_t (by decide) (hb hf))
  refine br_f (by decide) ?_
  obtain ⟨row, col, rfl, rfl, h1, h2⟩ := id hf
  refine qy_sv hA (fun tok1 cnt1 hA1 => ?_)
  refine ⟨37, qy_cp37 (F := F) (P := qt_bk F 36) l0 l1 l2 l3 hR hC hac hbd hc hd (by omega) (by omega) hV (fun s hs => qt_bk_o hs) (fun tok3 cnt3 hA3 => h row col rfl rfl h1 h2 _ _ (qt_AY_e (qt_AY_le hA3 (by decide)) (fun s hs => qt_fe_e ?_))) 36 0 _ _ (by decide) (qt_AY_e hA1 (fun s _ => qt_fe_e ?_)) 37 (by decide)⟩
  · unfold qt_mq qt_cpF
    by_cases y : qt_dst a b c d row col s
    · obtain ⟨f1, f2⟩ := qt_so_f hc hd y
      rw [if_pos y, if_pos ⟨y, by unfold qt_dst at y; omega⟩]
    · rw [if_neg y, if_neg (fun v => y v.1), qt_bk_l hs]
  · unfold qt_mq
    rw [if_neg (by omega)]
theorem qy_fi13 {post : Int32 → SY → Prop} {ax : Nat} (hax : ax < 2) (l0 : ysl 0 = nI a) (l1 : ysl 1 = nI b) (l2 : ysl 2 = nI c) (l3 : ysl 3 = nI d) (hR : R ≤ 6) (hC : C ≤ 6) (hac : a ≤ c) (hbd : b ≤ d) (hc : c < 6) (hd : d < 6) (hV : qt_VC R C F) (h : ∀ tok' cnt', qt_AY 37 tok' cnt' (qt_mf R C F ax a b c d 36) → wpY_settle post (nI R, nI C, yh, yw, cnt', tok', ysl, ysd, yst, yva, yow, yli, yV, yE)) :
    ∀ (e k : Nat) (ytk ycn : Nat → Int32), k + e = 36 → qt_AY 37 ytk ycn (qt_mf R C F ax a b c d k) → ∀ f, e < f → wY_fill_13 post (nI ax) f (nI k) (nI R) (nI C) yh yw ycn ytk ysl ysd yst yva yow yli yV yE := by
  intro e
  induction e with
  | zero =>
    intro k ytk ycn hk hA f hf
    obtain ⟨f, rfl⟩ : ∃ z, f = z + 1 := ⟨f - 1, by omega⟩
    obtain rfl : k = 36 := by omega
    unfold wY_fill_13
    exact br_t (by decide) (h _ _ hA)
  | succ e ih =>
    intro k ytk ycn hk hA f hf
    obtain ⟨f, rfl⟩ : ∃ z, f = z + 1 := ⟨f - 1, by omega⟩
    have hi := qt_sh_iff (r := k / 6) (k := k % 6) l0 l1 l2 l3 (by omega) (by omega) (by omega) (by omega) (by omega) (by omega)
    have skip : (qt_sel a b c d k → qt_fi R C F ax a b k = F k) → wY_fill_13 post (nI ax) f (nI (k + 1)) (nI R) (nI C) yh yw ycn ytk ysl ysd yst yva yow yli yV yE := by
      intro q
      refine ih (k + 1) _ _ (by omega) (qt_AY_e hA (fun s _ => qt_fe_e ?_)) f (by omega)
      unfold qt_mf
      by_cases y : s = k
      · subst y
        rw [if_neg (by omega)]
        by_cases v : qt_sel a b c d s
        · rw [if_pos ⟨Nat.lt_succ_self s, v⟩, q v]
        · rw [if_neg (fun w => v w.2)]
      · by_cases v : s < k ∧ qt_sel a b c d s
        · rw [if_pos v, if_pos ⟨by omega, v.2⟩]
        · rw [if_neg v, if_neg (fun w => v ⟨by omega, w.2⟩)]
    have rem : nI k - nI (k / 6) * 6 = nI (k % 6) := by rw [qa_m6, pk_sub (by omega)]; exact congrArg nI (by omega)
    have step : ∀ tok' cnt', qt_sel a b c d k → qt_AY 37 tok' cnt' (qt_ut (qt_mf R C F ax a b c d k) k (qt_fi R C F ax a b k)) → wY_fill_13 post (nI ax) f (nI (k + 1)) (nI R) (nI C) yh yw cnt' tok' ysl ysd yst yva yow yli yV yE := by
      intro tok' cnt' v hA'
      exact ih (k + 1) _ _ (by omega) (qt_AY_e hA' (fun s _ => qt_fe_e (qt_mf_s v))) f (by omega)
    unfold wY_fill_13
    refine br_f (by rw [qa_lel36 (by omega)]; omega) ?_
    match ax, hax with
    | 0, _ =>
      refine br_t (by decide) ⟨qa_n6, ?_⟩
      unfold wY_fill_38
      refine br_f (by decide) ?_
      unfold wY_fill_59
      refine ⟨qa_n6, qa_n6, ?_⟩
      rw [qa_div6 (by omega), rem, l0]
      refine qy_sel (fun z => ?_) (fun z => br_t (by decide) (nm_r (nI_1 k) (skip (fun y => absurd (hi.mpr (by unfold qt_sel at y; omega)) z))))
      have z' : qt_sel a b c d k := by have := hi.mp z; unfold qt_sel; omega
      have z'' := z'
      unfold qt_sel at z''
      refine br_f (by decide) ?_
      have e0 : nI (k / 6) - nI a + 0 = nI (k / 6 - a) := by rw [Int32.add_zero, pk_sub (by omega)]
      rw [e0, qa_ler0 (by omega)]
      by_cases c1 : k / 6 - a ≤ 0
      · refine br_t c1 (nm_r (nI_1 k) (skip (fun _ => ?_)))
        unfold qt_fi
        rw [if_pos rfl, if_neg (by omega)]
      · refine br_f c1 ?_
        have e1 : nI k - (nI (k / 6) - nI a) * 6 - 0 = nI (a * 6 + k % 6) := by
          rw [pk_sub (by omega), qa_m6, pk_sub (by omega), Int32.sub_zero]
          exact congrArg nI (by omega)
        rw [e1]
        have hsrc : qt_mf R C F 0 a b c d k (a * 6 + k % 6) = F (a * 6 + k % 6) := by
          unfold qt_mf
          by_cases y : a * 6 + k % 6 < k ∧ qt_sel a b c d (a * 6 + k % 6)
          · rw [if_pos y]
            unfold qt_fi
            rw [if_pos rfl, if_neg (by omega)]
          · rw [if_neg y]
        have hfi : qt_fi R C F 0 a b k = qt_mp (qt_shf R C (nI (k / 6) - nI a) 0) (F (a * 6 + k % 6)) := by
          unfold qt_fi
          rw [if_pos rfl, if_pos (by omega)]
        refine qy_cc (by omega) (by omega) (by omega) (by omega) (by decide) (by decide) (by omega) hA (fun i hi' hl => ?_) (fun tok' cnt' hA' => ?_)
        · rw [hsrc] at hi' hl ⊢
          exact qt_cy_e (qt_VT_lv ((hV _ (by omega)).1.2 i hi') hl).1
        · rw [hsrc, ← hfi] at hA'
          exact nm_r (nI_1 k) (step _ _ z' hA')
    | 1, _ =>
      refine br_f (by decide) ?_
      unfold wY_fill_38
      refine br_t (by decide) ⟨qa_n6, ?_⟩
      unfold wY_fill_59
      refine ⟨qa_n6, qa_n6, ?_⟩
      rw [qa_div6 (by omega), rem, l1]
      refine qy_sel (fun z => ?_) (fun z => br_t (by decide) (nm_r (nI_1 k) (skip (fun y => absurd (hi.mpr (by unfold qt_sel at y; omega)) z))))
      have z' : qt_sel a b c d k := by have := hi.mp z; unfold qt_sel; omega
      have z'' := z'
      unfold qt_sel at z''
      refine br_f (by decide) ?_
      have e0 : 0 + (nI (k % 6) - nI b) = nI (k % 6 - b) := by rw [Int32.zero_add, pk_sub (by omega)]
      rw [e0, qa_ler0 (by omega)]
      by_cases c1 : k % 6 - b ≤ 0
      · refine br_t c1 (nm_r (nI_1 k) (skip (fun _ => ?_)))
        unfold qt_fi
        rw [if_neg (by decide), if_neg (by omega)]
      · refine br_f c1 ?_
        have e1 : nI k - 0 * 6 - (nI (k % 6) - nI b) = nI (k / 6 * 6 + b) := by
          rw [show (0 : Int32) * 6 = 0 by decide, Int32.sub_zero, pk_sub (by omega), pk_sub (by omega)]
          exact congrArg nI (by omega)
        rw [e1]
        have hsrc : qt_mf R C F 1 a b c d k (k / 6 * 6 + b) = F (k / 6 * 6 + b) := by
          unfold qt_mf
          by_cases y : k / 6 * 6 + b < k ∧ qt_sel a b c d (k / 6 * 6 + b)
          · rw [if_pos y]
            unfold qt_fi
            rw [if_neg (by decide), if_neg (by omega)]
          · rw [if_neg y]
        have hfi : qt_fi R C F 1 a b k = qt_mp (qt_shf R C 0 (nI (k % 6) - nI b)) (F (k / 6 * 6 + b)) := by
          unfold qt_fi
          rw [if_neg (by decide), if_pos (by omega)]
        refine qy_cc (by omega) (by omega) (by omega) (by omega) (by decide) (by decide) (by omega) hA (fun i hi' hl => ?_) (fun tok' cnt' hA' => ?_)
        · rw [hsrc] at hi' hl ⊢
          exact qt_cy_e (qt_VT_lv ((hV _ (by omega)).1.2 i hi') hl).1
        · rw [hsrc, ← hfi] at hA'
          exact nm_r (nI_1 k) (step _ _ z' hA')
theorem qy_fi {post : Int32 → SY → Prop} {ax : Nat} (hax : ax < 2) (l0 : ysl 0 = nI a) (l1 : ysl 1 = nI b) (l2 : ysl 2 = nI c) (l3 : ysl 3 = nI d) (hR : R ≤ 6) (hC : C ≤ 6) (hac : a ≤ c) (hbd : b ≤ d) (hc : c < 6) (hd : d < 6) (hA : qt_AY 37 ytk ycn F) (hV : qt_VC R C F)
    (h : ∀ tok' cnt', qt_AY 37 tok' cnt' (qt_flF R C F ax a b c d) → wpY_settle post (nI R, nI C, yh, yw, cnt', tok', ysl, ysd, yst, yva, yow, yli, yV, yE)) : wpY_fill post (nI R, nI C, yh, yw, ycn, ytk, ysl, ysd, yst, yva, yow, yli, yV, yE) (nI ax) := by
  have key : ∃ f, wY_fill_13 post (nI ax) f 0 (nI R) (nI C) yh yw ycn ytk ysl ysd yst yva yow yli yV yE := by
    refine ⟨37, qy_fi13 (F := F) hax l0 l1 l2 l3 hR hC hac hbd hc hd hV (fun tok' cnt' hA' => h _ _ (qt_AY_e hA' (fun s _ => qt_fe_e ?_))) 36 0 _ _ (by decide) (qt_AY_e hA (fun s _ => qt_fe_e ?_)) 37 (by decide)⟩
    · unfold qt_mf qt_flF
      by_cases z : qt_sel a b c d s
      · rw [if_pos z, if_pos ⟨by unfold qt_sel at z; omega, z⟩]
      · rw [if_neg z, if_neg (fun v => z v.2)]
    · unfold qt_mf
      rw [if_neg (by omega)]
  unfold wpY_fill
  match ax, hax with
  | 0, _ => exact br_t (by decide) key
  | 1, _ => exact br_f (by decide) (br_t (by decide) key)
end
end
end
section
/-! the draft and single cells, both sides -/
theorem qt_AX_app {q s n : Nat} {tok cnt tok' cnt' : Nat → Int32} {F : Nat → qt_Fm} {x : Nat → Int32} (h : qt_AX q tok cnt F) (hs : s < q) (hn : (F s).1 = n) (h7 : n < 7) (T : qt_Tf tok tok' (s * 56 + n * 8) ( x)) (hc : cnt' s = nI (n + 1)) (hk : ∀ k, k ≠ s → cnt' k = cnt k) : qt_AX q tok' cnt' (qt_ut F s (n + 1, qt_ut (F s).2 n x)) := by
  intro k hkq
  by_cases e : k = s
  · subst e
    rw [qt_us]
    refine ⟨h7, hc, fun i hi f hf => ?_⟩
    by_cases z : i = n
    · subst z
      show _ =  (qt_ut _ i x i) f
      rw [qt_us]; exact T.1 f hf
    · show _ =  (qt_ut _ n x i) f
      have hi' : i < n + 1 := hi
      rw [qt_un z, T.2 _ (by omega)]
      exact (h k hkq).2.2 i (by omega) f hf
  · rw [qt_un e]
    exact ⟨(h k hkq).1, qt_MX_k (qt_MX_o (h k hkq).2 T e h7 (h k hkq).1) (hk k e)⟩
theorem qt_AX_one {q s : Nat} {tok cnt tok' cnt' : Nat → Int32} {F : Nat → qt_Fm} {x : Nat → Int32} (h : qt_AX q tok cnt F) (T : qt_Tf tok tok' (s * 56) ( x)) (hc : cnt' s = nI 1) (hk : ∀ k, k ≠ s → cnt' k = cnt k) : qt_AX q tok' cnt' (qt_ut F s (1, fun _ => x)) := by
  intro k hkq
  by_cases e : k = s
  · subst e
    rw [qt_us]
    refine ⟨show (1 : Nat) ≤ 7 by decide, hc, fun i hi f hf => ?_⟩
    have hi' : i < 1 := hi
    obtain rfl : i = 0 := by omega
    exact T.1 f hf
  · rw [qt_un e]
    have T' : qt_Tf tok tok' (s * 56 + 0 * 8) ( x) := by rw [Nat.zero_mul, Nat.add_zero]; exact T
    exact ⟨(h k hkq).1, qt_MX_k (qt_MX_o (i := 0) (h k hkq).2 T' e (by decide) (h k hkq).1) (hk k e)⟩
/-- the last two tokens become one -/
theorem qt_AX_join {q s n : Nat} {tok cnt tok' : Nat → Int32} {F : Nat → qt_Fm} {x : Nat → Int32} (h : qt_AX q tok cnt F) (hs : s < q) (hn : (F s).1 = n + 2) (T : qt_Tf tok tok' (s * 56 + n * 8) ( x)) : qt_AX q tok' (upd cnt s (nI (n + 1))) (qt_ut F s (n + 1, qt_ut (F s).2 n x)) := by
  intro k hkq
  by_cases e : k = s
  · subst e
    rw [qt_us]
    have h7 := (h k hkq).1
    refine ⟨show n + 1 ≤ 7 by omega, pk_us, fun i hi f hf => ?_⟩
    have hi' : i < n + 1 := hi
    by_cases z : i = n
    · subst z
      show _ =  (qt_ut _ i x i) f
      rw [qt_us]; exact T.1 f hf
    · show _ =  (qt_ut _ n x i) f
      rw [qt_un z, T.2 _ (by omega)]
      exact (h k hkq).2.2 i (by omega) f hf
  · rw [qt_un e]
    have h7 := (h s hs).1
    exact ⟨(h k hkq).1, qt_MX_k (qt_MX_o (h k hkq).2 T e (by omega) (h k hkq).1) (pk_un e)⟩
theorem qt_AY_app {q s n : Nat} {tok cnt tok' cnt' : Nat → Int32} {F : Nat → qt_Fm} {x : Nat → Int32} (h : qt_AY q tok cnt F) (hs : s < q) (hn : (F s).1 = n) (h7 : n < 7) (T : qt_Tf tok tok' (s * 56 + n * 8) (qt_yv x)) (hc : cnt' s = nI (n + 1)) (hk : ∀ k, k ≠ s → cnt' k = cnt k) : qt_AY q tok' cnt' (qt_ut F s (n + 1, qt_ut (F s).2 n x)) := by
  intro k hkq
  by_cases e : k = s
  · subst e
    rw [qt_us]
    refine ⟨h7, hc, fun i hi f hf => ?_⟩
    by_cases z : i = n
    · subst z
      show _ = qt_yv (qt_ut _ i x i) f
      rw [qt_us]; exact T.1 f hf
    · show _ = qt_yv (qt_ut _ n x i) f
      have hi' : i < n + 1 := hi
      rw [qt_un z, T.2 _ (by omega)]
      exact (h k hkq).2.2 i (by omega) f hf
  · rw [qt_un e]
    exact ⟨(h k hkq).1, qt_MY_k (qt_MY_o (h k hkq).2 T e h7 (h k hkq).1) (hk k e)⟩
theorem qt_AY_one {q s : Nat} {tok cnt tok' cnt' : Nat → Int32} {F : Nat → qt_Fm} {x : Nat → Int32} (h : qt_AY q tok cnt F) (T : qt_Tf tok tok' (s * 56) (qt_yv x)) (hc : cnt' s = nI 1) (hk : ∀ k, k ≠ s → cnt' k = cnt k) : qt_AY q tok' cnt' (qt_ut F s (1, fun _ => x)) := by
  intro k hkq
  by_cases e : k = s
  · subst e
    rw [qt_us]
    refine ⟨show (1 : Nat) ≤ 7 by decide, hc, fun i hi f hf => ?_⟩
    have hi' : i < 1 := hi
    obtain rfl : i = 0 := by omega
    exact T.1 f hf
  · rw [qt_un e]
    have T' : qt_Tf tok tok' (s * 56 + 0 * 8) (qt_yv x) := by rw [Nat.zero_mul, Nat.add_zero]; exact T
    exact ⟨(h k hkq).1, qt_MY_k (qt_MY_o (i := 0) (h k hkq).2 T' e (by decide) (h k hkq).1) (hk k e)⟩
/-- the last two tokens become one -/
theorem qt_AY_join {q s n : Nat} {tok cnt tok' : Nat → Int32} {F : Nat → qt_Fm} {x : Nat → Int32} (h : qt_AY q tok cnt F) (hs : s < q) (hn : (F s).1 = n + 2) (T : qt_Tf tok tok' (s * 56 + n * 8) (qt_yv x)) : qt_AY q tok' (upd cnt s (nI (n + 1))) (qt_ut F s (n + 1, qt_ut (F s).2 n x)) := by
  intro k hkq
  by_cases e : k = s
  · subst e
    rw [qt_us]
    have h7 := (h k hkq).1
    refine ⟨show n + 1 ≤ 7 by omega, pk_us, fun i hi f hf => ?_⟩
    have hi' : i < n + 1 := hi
    by_cases z : i = n
    · subst z
      show _ = qt_yv (qt_ut _ i x i) f
      rw [qt_us]; exact T.1 f hf
    · show _ = qt_yv (qt_ut _ n x i) f
      rw [qt_un z, T.2 _ (by omega)]
      exact (h k hkq).2.2 i (by omega) f hf
  · rw [qt_un e]
    have h7 := (h s hs).1
    exact ⟨(h k hkq).1, qt_MY_k (qt_MY_o (h k hkq).2 T e (by omega) (h k hkq).1) (pk_un e)⟩
theorem qt_yv_put' {k v : Int32} (h : ¬ k = 2) : qt_yv (qt_put k v) = qt_put k v := qt_yvn h
/-- a reference's token -/
def qt_ref (r c m : Int32) : Nat → Int32 := upd (upd (upd (qt_put 2 0) 2 r) 3 c) 4 m
/-- two references joined -/
def qt_jn (k : Int32) (t u : Nat → Int32) : Nat → Int32 := upd (upd (upd (upd t 0 k) 5 (u 2)) 6 (u 3)) 7 (u 4)
def qt_WFp (n : Nat) (T : Nat → Nat → Int32) (i : Nat) : Prop := ∀ j, j < i → qt_tak (T j) ≤ qt_dep T j ∧ ((qt_tak (T j) = 1 ∨ qt_tak (T j) = 3) → qt_dep T j = qt_tak (T j) ∧ j + 1 = n)
theorem qt_WFp_s {n i : Nat} {T : Nat → Nat → Int32} (h : qt_WFp n T i) (h1 : qt_tak (T i) ≤ qt_dep T i) (h2 : (qt_tak (T i) = 1 ∨ qt_tak (T i) = 3) → qt_dep T i = qt_tak (T i) ∧ i + 1 = n) : qt_WFp n T (i + 1) := by
  intro j hj
  by_cases e : j = i
  · subst e; exact ⟨h1, h2⟩
  · exact h j (by omega)
section
variable {nr nc st sl sb sr sta oe oh ow : Int32} {stl : Int64} {tok cnt stt val own sv se out : Nat → Int32} {rch nds : Nat → Int64}
theorem qx_app {post : Int32 → SX → Prop} {F : Nat → qt_Fm} {k v : Int32} (hA : qt_AX 37 tok cnt F) (h2 : ¬ (F 36).1 < 7 → post 2 (nr, nc, st, sl, sb, sr, sta, stl, oe, oh, ow, tok, cnt, stt, val, own, rch, nds, sv, se, out))
    (h : (F 36).1 < 7 → ∀ tok', qt_Tf tok tok' (2016 + (F 36).1 * 8) (qt_put k v) → post 0 (nr, nc, st, sl, sb, sr, sta, stl, oe, oh, ow, tok', upd cnt 36 (nI ((F 36).1 + 1)), stt, val, own, rch, nds, sv, se, out)) : wpX_append post (nr, nc, st, sl, sb, sr, sta, stl, oe, oh, ow, tok, cnt, stt, val, own, rch, nds, sv, se, out) k v := by
  have A := hA 36 (by decide)
  have A7 := A.1
  have m1 : cnt 36 = nI (F 36).1 := A.2.1
  simp (disch := omega) only [wpX_append, m1, qa_ltr7, nI_add, pk_mul, qa_a1, qa_a2, qa_a3, qa_a4, qa_a5, qa_a6, qa_a7, qa_a8, qa_a56, qa_m6, qa_m7, qa_m8, qa_m56, qa_l2, qa_l37, qa_l2016, qa_in, nI_clamp, forall_eq, true_and, qa_cl0, nI_leI, nI_ltI, nI_eq, not_false_eq_true, pk_sub, qa_s1, qa_s2, qa_s8]
  by_cases c : (F 36).1 < 7
  · refine br_t c (qx_base (s := 36) ?_)
    have hb : 36 * 56 + (F 36).1 * 8 + 8 ≤ 4088 := by omega
    have T0 : qt_Tf tok tok (36 * 56 + (F 36).1 * 8) (fun f => tok (36 * 56 + (F 36).1 * 8 + f)) := qt_Tf_r (fun _ _ => rfl)
    simp (disch := omega) only [nI_add, pk_mul, qa_a1, qa_a2, qa_a3, qa_a4, qa_a5, qa_a6, qa_a7, qa_a8, qa_a56, qa_m6, qa_m7, qa_m8, qa_m56, qa_l2, qa_l37, qa_l2016, qa_in, nI_clamp, forall_eq, true_and, qa_cl0, nI_leI, nI_ltI, nI_eq, not_false_eq_true, pk_sub, qa_s1, qa_s2, qa_s8]
    refine ⟨7, qx_app47 (k := k) (v := v) hb 6 2 _ _ (by decide) (by decide) ?_ (qt_Tf_u (qt_Tf_u T0 (k := 0) (by decide) k) (k := 1) (by decide) v) (fun tok' T' => ?_) 7 (by decide)⟩
    · intro f hf
      match f, hf with
      | 0, _ => rfl
      | 1, _ => rfl
    · rw [m1, nI_1]
      exact h c tok' T'
  · exact br_f c (h2 c)
theorem qx_wf12 {post : Int32 → Prop} {n : Nat} {T : Nat → Nat → Int32} (hM : qt_MX tok cnt 36 n T) (hn : n ≤ 7) (h1 : qt_WF n T → post 1) (h0 : ¬ qt_WF n T → post 0) :
    ∀ (d i : Nat), i + d = n → qt_WFp n T i → ∀ f, d < f → wX_wellFormed_12 post (nI n) nr nc st sl sb sr sta stl oe oh ow tok cnt stt val own rch nds sv se out f (nI (qt_dep T i)) (nI i) := by
  intro d
  induction d with
  | zero =>
    intro i hi hw f hf
    obtain ⟨f, rfl⟩ : ∃ z, f = z + 1 := ⟨f - 1, by omega⟩
    obtain rfl : i = n := by omega
    have hdl := qt_dep_le T i
    simp (disch := omega) only [wX_wellFormed_12, qa_eqr1, nI_add, pk_mul, qa_a1, qa_a2, qa_a3, qa_a4, qa_a5, qa_a6, qa_a7, qa_a8, qa_a56, qa_m6, qa_m7, qa_m8, qa_m56, qa_l2, qa_l37, qa_l2016, qa_in, nI_clamp, forall_eq, true_and, qa_cl0, nI_leI, nI_ltI, nI_eq, not_false_eq_true, pk_sub, qa_s1, qa_s2, qa_s8]
    refine br_t (by omega) ?_
    by_cases e : qt_dep T i = 1
    · exact br_t e (h1 ⟨hw, e⟩)
    · exact br_f e (h0 (fun z => e z.2))
  | succ d ih =>
    intro i hi hw f hf
    obtain ⟨f, rfl⟩ : ∃ z, f = z + 1 := ⟨f - 1, by omega⟩
    have hdl := qt_dep_le T i
    have ht := hM.2 i (by omega)
    have k0 : tok (36 * 56 + i * 8) = T i 0 := ht 0 (by decide)
    have k1 : tok (36 * 56 + i * 8 + 1) = T i 1 := ht 1 (by decide)
    have hds : qt_dep T (i + 1) = qt_dep T i - qt_tak (T i) + 1 := rfl
    have bad : ¬ (qt_tak (T i) ≤ qt_dep T i ∧ ((qt_tak (T i) = 1 ∨ qt_tak (T i) = 3) → qt_dep T i = qt_tak (T i) ∧ i + 1 = n)) → post 0 := fun z => h0 (fun y => z (y.1 i (by omega)))
    have go : ∀ k, k = qt_dep T (i + 1) → (qt_tak (T i) ≤ qt_dep T i ∧ ((qt_tak (T i) = 1 ∨ qt_tak (T i) = 3) → qt_dep T i = qt_tak (T i) ∧ i + 1 = n)) → wX_wellFormed_12 post (nI n) nr nc st sl sb sr sta stl oe oh ow tok cnt stt val own rch nds sv se out f (nI k) (nI (i + 1)) := by
      intro k hk q
      rw [hk]
      exact ih (i + 1) (by omega) (qt_WFp_s hw q.1 q.2) f (by omega)
    have key : ∀ z : Int32, (z = 0 ↔ ¬ i + 1 = n) → wX_wellFormed_38 post (wX_wellFormed_12 post (nI n) nr nc st sl sb sr sta stl oe oh ow tok cnt stt val own rch nds sv se out f) (nI (qt_dep T i)) (nI n) (nI i) (nI (36 * 56 + i * 8)) z nr nc st sl sb sr sta stl oe oh ow tok cnt stt val own rch nds sv se out := by
      intro z hz
      unfold wX_wellFormed_38
      simp (disch := omega) only [k0, k1, qa_eqr1, qa_eqr3, qa_lel2, nI_add, pk_mul, qa_a1, qa_a2, qa_a3, qa_a4, qa_a5, qa_a6, qa_a7, qa_a8, qa_a56, qa_m6, qa_m7, qa_m8, qa_m56, qa_l2, qa_l37, qa_l2016, qa_in, nI_clamp, forall_eq, true_and, qa_cl0, nI_leI, nI_ltI, nI_eq, not_false_eq_true, pk_sub, qa_s1, qa_s2, qa_s8]
      by_cases e6 : T i 0 = 6
      · refine br_t e6 ?_
        have tk := qt_tak1 e6
        rw [tk] at bad hds go
        by_cases l : z = 0
        · exact br_t l (bad (fun y => hz.mp l (y.2 (Or.inl rfl)).2))
        · refine br_f l ?_
          have l' : i + 1 = n := Decidable.not_not.mp (fun y => l (hz.mpr y))
          by_cases c : qt_dep T i = 1
          · exact br_t c (go _ (by omega) ⟨by omega, fun _ => ⟨c, l'⟩⟩)
          · exact br_f c (bad (fun y => c (y.2 (Or.inl rfl)).1))
      · refine br_f e6 ?_
        by_cases e3 : T i 0 = 3
        · refine br_t e3 ?_
          by_cases e5 : T i 1 = 5
          · refine br_t e5 ?_
            have tk := qt_tak3 e6 e3 e5
            rw [tk] at bad hds go
            by_cases l : z = 0
            · exact br_t l (bad (fun y => hz.mp l (y.2 (Or.inr rfl)).2))
            · refine br_f l ?_
              have l' : i + 1 = n := Decidable.not_not.mp (fun y => l (hz.mpr y))
              by_cases c : qt_dep T i = 3
              · exact br_t c (go 1 (by omega) ⟨by omega, fun _ => ⟨c, l'⟩⟩)
              · exact br_f c (bad (fun y => c (y.2 (Or.inr rfl)).1))
          · refine br_f e5 ?_
            have tk := qt_tak2 e6 e3 e5
            rw [tk] at bad hds go
            by_cases c : 2 ≤ qt_dep T i
            · refine br_t c ?_
              rw [sb_m1 (by omega)]
              exact go _ (by omega) ⟨by omega, fun y => by omega⟩
            · exact br_f c (bad (fun y => c y.1))
        · refine br_f e3 ?_
          have tk := qt_tak0 e6 e3
          rw [tk] at bad hds go
          exact go _ (by omega) ⟨by omega, fun y => by omega⟩
    simp (disch := omega) only [wX_wellFormed_12, nI_add, pk_mul, qa_a1, qa_a2, qa_a3, qa_a4, qa_a5, qa_a6, qa_a7, qa_a8, qa_a56, qa_m6, qa_m7, qa_m8, qa_m56, qa_l2, qa_l37, qa_l2016, qa_in, nI_clamp, forall_eq, true_and, qa_cl0, nI_leI, nI_ltI, nI_eq, not_false_eq_true, pk_sub, qa_s1, qa_s2, qa_s8]
    refine br_f (by omega) (qx_base (s := 36) ?_)
    by_cases e : i = n - 1
    · exact br_t e (key 1 ⟨fun z => absurd z (by decide), fun z => absurd (show i + 1 = n by omega) z⟩)
    · exact br_f e (key 0 ⟨fun _ => by omega, fun _ => rfl⟩)
theorem qx_wf {post : Int32 → Prop} {n : Nat} {T : Nat → Nat → Int32} (hM : qt_MX tok cnt 36 n T) (hn : n ≤ 7) (h1 : qt_WF n T → post 1) (h0 : ¬ qt_WF n T → post 0) : wpX_wellFormed post (nr, nc, st, sl, sb, sr, sta, stl, oe, oh, ow, tok, cnt, stt, val, own, rch, nds, sv, se, out) := by
  unfold wpX_wellFormed
  refine nm_r hM.1 ⟨8, ?_⟩
  exact qx_wf12 hM hn h1 h0 n 0 (Nat.zero_add n) (fun j hj => absurd hj (Nat.not_lt_zero j)) 8 (by omega)
theorem qx_setN {post : Int32 → SX → Prop} {F : Nat → qt_Fm} {R C : Nat} {p q v : Int32} (hR : R ≤ 6) (hC : C ≤ 6) (hA : qt_AX 37 tok cnt F) (hb : ¬ qt_in R C p q → post 1 (nI R, nI C, st, sl, sb, sr, sta, stl, oe, oh, ow, tok, cnt, stt, val, own, rch, nds, sv, se, out))
    (h : ∀ r c, r < R → c < C → p = nI r → q = nI c → ∀ tok' cnt', qt_AX 37 tok' cnt' (qt_ut F (r * 6 + c) (1, fun _ => qt_put 1 v)) → post 0 (nI R, nI C, st, sl, sb, sr, 1, stl, oe, oh, ow, tok', cnt', stt, val, own, rch, nds, sv, se, out)) : wpX_setNumber post (nI R, nI C, st, sl, sb, sr, sta, stl, oe, oh, ow, tok, cnt, stt, val, own, rch, nds, sv, se, out) p q v := by
  unfold wpX_setNumber
  refine qx_inS (by omega) (by omega) (fun i => ?_) (fun i => br_t (by decide) (hb i))
  refine br_f (by decide) ?_
  obtain ⟨r, c, hr, hc, rfl, rfl⟩ := i
  rw [qa_m6, nI_add]
  refine nm_e (qx_base (i := 0) ?_)
  have hb8 : (r * 6 + c) * 56 + 0 * 8 + 8 ≤ 4088 := by omega
  have T0 : qt_Tf tok tok ((r * 6 + c) * 56 + 0 * 8) (fun f => tok ((r * 6 + c) * 56 + 0 * 8 + f)) := qt_Tf_r (fun _ _ => rfl)
  generalize hB : (r * 6 + c) * 56 + 0 * 8 = B at hb8 T0 ⊢
  simp (disch := omega) only [nI_add, pk_mul, qa_a1, qa_a2, qa_a3, qa_a4, qa_a5, qa_a6, qa_a7, qa_a8, qa_a56, qa_m6, qa_m7, qa_m8, qa_m56, qa_l2, qa_l37, qa_l2016, qa_in, nI_clamp, forall_eq, true_and, qa_cl0, nI_leI, nI_ltI, nI_eq, not_false_eq_true, pk_sub, qa_s1, qa_s2, qa_s8]
  refine ⟨7, qx_setN49 (k := 1) (v := v) (by omega) hb8 6 2 _ _ (by decide) (by decide) ?_ (qt_Tf_u (qt_Tf_u T0 (k := 0) (by decide) 1) (k := 1) (by decide) v) (fun tok' T' => h r c hr hc rfl rfl _ _ (qt_AX_one hA ?_ pk_us (fun k hk => pk_un hk))) 7 (by decide)⟩
  · intro f hf
    match f, hf with
    | 0, _ => rfl
    | 1, _ => rfl
  · rw [show (r * 6 + c) * 56 = B by omega]
    exact T'
end
section
variable {yr yc yh yw : Int32} {ycn ytk ysl ysd yst yva yow yli yV yE : Nat → Int32}
theorem qy_app {post : Int32 → SY → Prop} {F : Nat → qt_Fm} {k v : Int32} (hA : qt_AY 37 ytk ycn F) (h2 : ¬ (F 36).1 < 7 → post 2 (yr, yc, yh, yw, ycn, ytk, ysl, ysd, yst, yva, yow, yli, yV, yE))
    (h : (F 36).1 < 7 → ∀ tok', qt_Tf ytk tok' (2016 + (F 36).1 * 8) (qt_put k v) → post 0 (yr, yc, yh, yw, upd ycn 36 (nI ((F 36).1 + 1)), tok', ysl, ysd, yst, yva, yow, yli, yV, yE)) : wpY_append post (yr, yc, yh, yw, ycn, ytk, ysl, ysd, yst, yva, yow, yli, yV, yE) k v := by
  have A := hA 36 (by decide)
  have A7 := A.1
  have m1 : ycn 36 = nI (F 36).1 := A.2.1
  simp (disch := omega) only [wpY_append, m1, qa_ltr7, nI_add, pk_mul, qa_a1, qa_a2, qa_a3, qa_a4, qa_a5, qa_a6, qa_a7, qa_a8, qa_a56, qa_m6, qa_m7, qa_m8, qa_m56, qa_l2, qa_l37, qa_l2016, qa_in, nI_clamp, forall_eq, true_and, qa_cl0, nI_leI, nI_ltI, nI_eq, not_false_eq_true, pk_sub, qa_s1, qa_s2, qa_s8]
  by_cases c : (F 36).1 < 7
  · refine br_t c ?_
    refine qy_put (by omega) (qt_Tf_r (t := fun f => ytk (2016 + (F 36).1 * 8 + f)) (fun _ _ => rfl)) (fun tok' T' => ?_)
    have := h c tok' T'
    rw [← nI_1, ← m1] at this
    exact this
  · exact br_f c (h2 c)
theorem qy_ar51 {post : Int32 → SY → Prop} {tok0 : Nat → Int32} {b k m : Nat} {t : Nat → Int32} {p q v : Int32} (hk : k < 6) (hb : b + 8 ≤ 4088) (hT : qt_Tf tok0 ytk b t) (h : ∀ tok', qt_Tf tok0 tok' b (upd (upd (upd t k p) (k + 1) q) (k + 2) v) → wY_addRef_51 post p q v (nI b) yr yc yh yw m (nI (k + 3)) ycn tok' ysl ysd yst yva yow yli yV yE) : wY_addRef_51 post p q v (nI b) yr yc yh yw (m + 1) (nI k) ycn ytk ysl ysd yst yva yow yli yV yE := by
  simp (disch := omega) only [wY_addRef_51, qa_lel7, Nat.add_assoc, nI_add, pk_mul, qa_a1, qa_a2, qa_a3, qa_a4, qa_a5, qa_a6, qa_a7, qa_a8, qa_a56, qa_m6, qa_m7, qa_m8, qa_m56, qa_l2, qa_l37, qa_l2016, qa_in, nI_clamp, forall_eq, true_and, qa_cl0, nI_leI, nI_ltI, nI_eq, not_false_eq_true, pk_sub, qa_s1, qa_s2, qa_s8]
  exact br_f (by omega) (h _ (qt_Tf_u (qt_Tf_u (qt_Tf_u hT (by omega) _) (by omega) _) (by omega) _))
theorem qy_jr78 {post : Int32 → SY → Prop} {tok0 : Nat → Int32} {b k m : Nat} {t : Nat → Int32} {x2 v : Int32} (hk : k < 8) (hk5 : 5 ≤ k) (hb : b + 16 ≤ 4088) (hT : qt_Tf tok0 ytk b t) (hv : tok0 (b + 8 + k) = v) (h : ∀ tok', qt_Tf tok0 tok' b (upd t k v) → wY_joinRange_78 post x2 (nI b) yr yc yh yw m (nI (k + 1)) ycn tok' ysl ysd yst yva yow yli yV yE) : wY_joinRange_78 post x2 (nI b) yr yc yh yw (m + 1) (nI k) ycn ytk ysl ysd yst yva yow yli yV yE := by
  have e : ytk (b + 8 + k) = v := (hT.2 _ (by omega)).trans hv
  simp (disch := omega) only [wY_joinRange_78, qa_lel8, e, nI_add, pk_mul, qa_a1, qa_a2, qa_a3, qa_a4, qa_a5, qa_a6, qa_a7, qa_a8, qa_a56, qa_m6, qa_m7, qa_m8, qa_m56, qa_l2, qa_l37, qa_l2016, qa_in, nI_clamp, forall_eq, true_and, qa_cl0, nI_leI, nI_ltI, nI_eq, not_false_eq_true, pk_sub, qa_s1, qa_s2, qa_s8]
  exact br_f (by omega) (h _ (qt_Tf_u hT hk _))
theorem qy_en16 {post : Int32 → SY → Prop} {n r c : Nat} {T : Nat → Nat → Int32} (hM : qt_MY ytk ycn 36 n T) (hn : n ≤ 7) (hr : r < 6) (hc : c < 6) (h0 : ¬ qt_WF n T → post 3 (yr, yc, yh, yw, ycn, ytk, ysl, ysd, yst, yva, yow, yli, yV, yE))
    (h1 : qt_WF n T → ∀ tok' cnt', qt_MY tok' cnt' (r * 6 + c) n T → qt_Fr ytk ycn tok' cnt' (r * 6 + c) → wpY_settle post (yr, yc, yh, yw, upd cnt' 36 0, tok', ysl, ysd, yst, yva, yow, yli, yV, yE)) :
    ∀ (d i : Nat), i + d = n → qt_WFp n T i → ∀ f, d < f → wY_enter_16 post (nI r) (nI c) yr yc yh yw ycn ytk ysl ysd yst yva yow yli yV yE f (nI (qt_dep T i)) (nI i) := by
  intro d
  have m1 : ycn 36 = nI n := hM.1
  induction d with
  | zero =>
    intro i hi hw f hf
    obtain ⟨f, rfl⟩ : ∃ z, f = z + 1 := ⟨f - 1, by omega⟩
    obtain rfl : i = n := by omega
    have hdl := qt_dep_le T i
    simp (disch := omega) only [wY_enter_16, m1, qa_eqr1, nI_add, pk_mul, qa_a1, qa_a2, qa_a3, qa_a4, qa_a5, qa_a6, qa_a7, qa_a8, qa_a56, qa_m6, qa_m7, qa_m8, qa_m56, qa_l2, qa_l37, qa_l2016, qa_in, nI_clamp, forall_eq, true_and, qa_cl0, nI_leI, nI_ltI, nI_eq, not_false_eq_true, pk_sub, qa_s1, qa_s2, qa_s8]
    refine br_t (by omega) ?_
    by_cases e : qt_dep T i = 1
    · refine br_t e ?_
      exact qy_cs (s := 36) (by decide) (by omega) hn (by omega) hM (fun tok' cnt' m fr => h1 ⟨hw, e⟩ _ _ m fr)
    · exact br_f e (h0 (fun z => e z.2))
  | succ d ih =>
    intro i hi hw f hf
    obtain ⟨f, rfl⟩ : ∃ z, f = z + 1 := ⟨f - 1, by omega⟩
    have hdl := qt_dep_le T i
    have k0 : ytk (2016 + i * 8) = T i 0 := (hM.2 i (by omega) 0 (by decide)).trans (qt_yv_lo (by decide))
    have k1 : ytk (2016 + i * 8 + 1) = T i 1 := (hM.2 i (by omega) 1 (by decide)).trans (qt_yv_lo (by decide))
    have hds : qt_dep T (i + 1) = qt_dep T i - qt_tak (T i) + 1 := rfl
    have ht3 : qt_tak (T i) ≤ 3 := by unfold qt_tak; split <;> (try split) <;> (try split) <;> omega
    have bad : ¬ (qt_tak (T i) ≤ qt_dep T i ∧ ((qt_tak (T i) = 1 ∨ qt_tak (T i) = 3) → qt_dep T i = qt_tak (T i) ∧ i + 1 = n)) → post 3 (yr, yc, yh, yw, ycn, ytk, ysl, ysd, yst, yva, yow, yli, yV, yE) := fun z => h0 (fun y => z (y.1 i (by omega)))
    have go : (qt_tak (T i) ≤ qt_dep T i ∧ ((qt_tak (T i) = 1 ∨ qt_tak (T i) = 3) → qt_dep T i = qt_tak (T i) ∧ i + 1 = n)) → wY_enter_95 post (wY_enter_16 post (nI r) (nI c) yr yc yh yw ycn ytk ysl ysd yst yva yow yli yV yE f) (nI r) (nI c) (nI (qt_dep T i)) (nI i) (nI (qt_tak (T i))) yr yc yh yw ycn ytk ysl ysd yst yva yow yli yV yE := by
      intro q
      have := ih (i + 1) (by omega) (qt_WFp_s hw q.1 q.2) f (by omega)
      rw [hds] at this
      have q1 := q.1
      simp (disch := omega) only [wY_enter_95, nI_add, pk_mul, qa_a1, qa_a2, qa_a3, qa_a4, qa_a5, qa_a6, qa_a7, qa_a8, qa_a56, qa_m6, qa_m7, qa_m8, qa_m56, qa_l2, qa_l37, qa_l2016, qa_in, nI_clamp, forall_eq, true_and, qa_cl0, nI_leI, nI_ltI, nI_eq, not_false_eq_true, pk_sub, qa_s1, qa_s2, qa_s8]
      exact this
    have k60 : ∀ z : Int32, (z = 0 ↔ ¬ (qt_tak (T i) = 1 ∨ qt_tak (T i) = 3)) → wY_enter_60 post (wY_enter_16 post (nI r) (nI c) yr yc yh yw ycn ytk ysl ysd yst yva yow yli yV yE f) (nI r) (nI c) (nI (qt_dep T i)) (nI i) (nI (qt_tak (T i))) z yr yc yh yw ycn ytk ysl ysd yst yva yow yli yV yE := by
      intro z hz
      unfold wY_enter_60
      rw [m1, qa_s1 (by omega), nI_ltI (by omega) (by omega), nI_eq (by omega) (by omega), nI_eq (by omega) (by omega)]
      by_cases c1 : qt_dep T i < qt_tak (T i)
      · exact br_t c1 (bad (fun y => by omega))
      · refine br_f c1 ?_
        by_cases c2 : z = 0
        · exact br_t c2 (go ⟨by omega, fun y => absurd y (hz.mp c2)⟩)
        · refine br_f c2 ?_
          have c2' : qt_tak (T i) = 1 ∨ qt_tak (T i) = 3 := Decidable.not_not.mp (fun y => c2 (hz.mpr y))
          by_cases c3 : qt_dep T i = qt_tak (T i)
          · refine br_t c3 ?_
            by_cases c4 : i = n - 1
            · exact br_t c4 (go ⟨by omega, fun _ => ⟨c3, by omega⟩⟩)
            · exact br_f c4 (bad (fun y => by have := (y.2 c2').2; omega))
          · exact br_f c3 (bad (fun y => c3 (y.2 c2').1))
    simp (disch := omega) only [wY_enter_16, m1, nI_add, pk_mul, qa_a1, qa_a2, qa_a3, qa_a4, qa_a5, qa_a6, qa_a7, qa_a8, qa_a56, qa_m6, qa_m7, qa_m8, qa_m56, qa_l2, qa_l37, qa_l2016, qa_in, nI_clamp, forall_eq, true_and, qa_cl0, nI_leI, nI_ltI, nI_eq, not_false_eq_true, pk_sub, qa_s1, qa_s2, qa_s8]
    refine br_f (by omega) ?_
    refine qy_tak (by omega) k0 k1 ?_
    rw [qa_eqr1 (by omega), qa_eqr3 (by omega)]
    by_cases t1 : qt_tak (T i) = 1
    · refine br_t t1 ?_
      unfold wY_enter_55
      exact k60 1 ⟨fun z => absurd z (by decide), fun z => absurd (Or.inl t1) z⟩
    · refine br_f t1 ?_
      by_cases t3 : qt_tak (T i) = 3
      · refine br_t t3 ?_
        unfold wY_enter_55
        exact k60 1 ⟨fun z => absurd z (by decide), fun z => absurd (Or.inr t3) z⟩
      · exact br_f t3 (k60 0 ⟨fun _ z => z.elim t1 t3, fun _ => rfl⟩)
end
end
section
/-! the relation -/
/-- a valid draft: no token of it is lost -/
def qt_VD (R C : Nat) (D : qt_Fm) : Prop := D.1 ≤ 7 ∧ ∀ i, i < D.1 → qt_VT R C (D.2 i) ∧ (qt_rk (D.2 i 0) → D.2 i 1 = 0)
def qr_F (R C a b c d : Nat) (G : Nat → qt_Fm) (D : qt_Fm) (sta : Int32) (stl : Int64) (tok cnt stt val own ycn ytk ysl ysd yst yva yow : Nat → Int32) : Prop :=
  (3 ≤ R ∧ R ≤ 6 ∧ 3 ≤ C ∧ C ≤ 6) ∧ (a ≤ c ∧ c < R ∧ b ≤ d ∧ d < C) ∧ (ysl 0 = nI a ∧ ysl 1 = nI b ∧ ysl 2 = nI c ∧ ysl 3 = nI d) ∧
  qt_AX 37 tok cnt (qt_ut G 36 D) ∧ qt_AY 37 ytk ycn (qt_ut G 36 D) ∧ qt_VC R C G ∧ qt_VD R C D ∧ qs_YM R C (qs_fin R C G) ysd yst yva yow ∧ (sta = 0 → qs_XM R C (qs_fin R C G) stl stt val own)
/-- the relation at the head of a turn: one sheet, one draft, one selection; the reference's outcomes are the sheet's, the component's too where it isn't stale -/
def i_Rel (_ : Nat) (u : SX) (v : SY) : Prop := match u with
  | (nr, nc, st, sl, sb, sr, sta, stl, oe, oh, ow, tok, cnt, stt, val, own, rch, nds, sv, se, out) => match v with
    | (yr, yc, yh, yw, ycn, ytk, ysl, ysd, yst, yva, yow, yli, yV, yE) => ∃ R C a b c d : Nat, ∃ (G : Nat → qt_Fm) (D : qt_Fm), nr = nI R ∧ nc = nI C ∧ st = nI a ∧ sl = nI b ∧ sb = nI c ∧ sr = nI d ∧ yr = nI R ∧ yc = nI C ∧ qr_F R C a b c d G D sta stl tok cnt stt val own ycn ytk ysl ysd yst yva yow
theorem qr_in {k R C a b c d : Nat} {G : Nat → qt_Fm} {D : qt_Fm} {sta oe oh ow yh yw : Int32} {stl : Int64} {tok cnt stt val own sv se out ycn ytk ysl ysd yst yva yow yli yV yE : Nat → Int32} {rch nds : Nat → Int64} (h : qr_F R C a b c d G D sta stl tok cnt stt val own ycn ytk ysl ysd yst yva yow) :
    i_Rel k (nI R, nI C, nI a, nI b, nI c, nI d, sta, stl, oe, oh, ow, tok, cnt, stt, val, own, rch, nds, sv, se, out) (nI R, nI C, yh, yw, ycn, ytk, ysl, ysd, yst, yva, yow, yli, yV, yE) := ⟨R, C, a, b, c, d, G, D, rfl, rfl, rfl, rfl, rfl, rfl, rfl, rfl, h⟩
theorem qr_el {P : SX → SY → Prop} {k : Nat} {u : SX} {v : SY} (h : ∀ (R C a b c d : Nat) (G : Nat → qt_Fm) (D : qt_Fm) (sta oe oh ow yh yw : Int32) (stl : Int64) (tok cnt stt val own sv se out ycn ytk ysl ysd yst yva yow yli yV yE : Nat → Int32) (rch nds : Nat → Int64), qr_F R C a b c d G D sta stl tok cnt stt val own ycn ytk ysl ysd yst yva yow →
    P (nI R, nI C, nI a, nI b, nI c, nI d, sta, stl, oe, oh, ow, tok, cnt, stt, val, own, rch, nds, sv, se, out) (nI R, nI C, yh, yw, ycn, ytk, ysl, ysd, yst, yva, yow, yli, yV, yE)) (I : i_Rel k u v) : P u v := by
  obtain ⟨nr, nc, st, sl, sb, sr, sta, stl, oe, oh, ow, tok, cnt, stt, val, own, rch, nds, sv, se, out⟩ := u
  obtain ⟨yr, yc, yh, yw, ycn, ytk, ysl, ysd, yst, yva, yow, yli, yV, yE⟩ := v
  obtain ⟨R, C, a, b, c, d, G, D, e1, e2, e3, e4, e5, e6, e7, e8, hF⟩ := I
  subst e1 e2 e3 e4 e5 e6 e7 e8
  exact h R C a b c d G D sta oe oh ow yh yw stl tok cnt stt val own sv se out ycn ytk ysl ysd yst yva yow yli yV yE rch nds hF
theorem qt_uu {α : Type} {G : Nat → α} {k : Nat} {x y : α} : qt_ut (qt_ut G k x) k y = qt_ut G k y := by
  funext s
  by_cases e : s = k
  · subst e; rw [qt_us, qt_us]
  · rw [qt_un e, qt_un e, qt_un e]
theorem qt_uc {α : Type} {G : Nat → α} {j k : Nat} {x y : α} (h : j ≠ k) : qt_ut (qt_ut G k x) j y = qt_ut (qt_ut G j y) k x := by
  funext s
  by_cases e : s = j
  · subst e; rw [qt_us, qt_un h, qt_us]
  · rw [qt_un e]
    by_cases e2 : s = k
    · subst e2; rw [qt_us, qt_us]
    · rw [qt_un e2, qt_un e2, qt_un e]
/-- one cell changes -/
theorem qt_VC_u {R C s : Nat} {G : Nat → qt_Fm} {f : qt_Fm} (hV : qt_VC R C G) (h1 : qt_VF R C f.1 f.2) (h2 : 0 < f.1 → s / 6 < R ∧ s % 6 < C ∧ qt_WF f.1 f.2) : qt_VC R C (qt_ut G s f) := by
  intro k hk
  by_cases e : k = s
  · subst e; rw [qt_us]; exact ⟨h1, h2⟩
  · rw [qt_un e]; exact hV k hk
theorem qt_VF_z {R C : Nat} : qt_VF R C qt_z.1 qt_z.2 := ⟨Nat.zero_le _, fun i hi => absurd hi (Nat.not_lt_zero i)⟩
theorem qt_VC_z {R C s : Nat} {G : Nat → qt_Fm} (hV : qt_VC R C G) : qt_VC R C (qt_ut G s qt_z) := qt_VC_u hV qt_VF_z (fun z => absurd z (Nat.not_lt_zero 0))
theorem qt_VC_n {R C r c : Nat} {G : Nat → qt_Fm} {v : Int32} (hr : r < R) (hc : c < C) (hC : C ≤ 6) (hV : qt_VC R C G) : qt_VC R C (qt_ut G (r * 6 + c) (1, fun _ => qt_put 1 v)) := by
  refine qt_VC_u hV ⟨show (1 : Nat) ≤ 7 by decide, fun i _ => Or.inl rfl⟩ (fun _ => ⟨by omega, by omega, ?_⟩)
  have tk : qt_tak (qt_put 1 v) = 0 := qt_tak0 (show ¬ (1 : Int32) = 6 by decide) (show ¬ (1 : Int32) = 3 by decide)
  refine ⟨fun i _ => ?_, ?_⟩
  · show qt_tak (qt_put 1 v) ≤ _ ∧ ((qt_tak (qt_put 1 v) = 1 ∨ qt_tak (qt_put 1 v) = 3) → _)
    rw [tk]
    exact ⟨Nat.zero_le _, fun z => by omega⟩
  · show 0 - qt_tak (qt_put 1 v) + 1 = 1
    rw [tk]
theorem qt_VD_VF {R C : Nat} {D : qt_Fm} (h : qt_VD R C D) : qt_VF R C D.1 D.2 := ⟨h.1, fun i hi => (h.2 i hi).1⟩
/-- lines -/
theorem qt_sh_ln {R C ax s : Nat} (ha : ax < 2) : (s / 6 < R ∧ s % 6 < C) ↔ (qt_ln ax s < qt_sz R C ax ∧ qt_ot ax s < qt_sz C R ax) := by
  unfold qt_ln qt_ot qt_sz
  by_cases e : ax = 0
  · simp only [if_pos e]
  · simp only [if_neg e]; omega
theorem qt_out_V {R C ax : Nat} {G : Nat → qt_Fm} {D : qt_Fm} (ha : ax < 2) (hV : qt_VC R C G) : qt_out (qt_ut G 36 D) ax (qt_sz R C ax) (qt_sz C R ax) := by
  intro s hs h
  rw [qt_un (by omega)]
  apply Decidable.byContradiction
  intro z
  have h1 := (hV s hs).2 (by omega)
  have h2 := (qt_sh_ln ha).mp ⟨h1.1, h1.2.1⟩
  omega
theorem qt_VC_mc {R C : Nat} {g : (Nat → Int32) → Nat → Int32} {F H : Nat → qt_Fm} (h : ∀ s, s < 36 → qt_VF R C (H s).1 (H s).2 ∧ (0 < (H s).1 → s / 6 < R ∧ s % 6 < C ∧ qt_WF (H s).1 (H s).2)) (hg : ∀ s i, s < 36 → i < (H s).1 → qt_lv ((H s).2 i) → qt_ok R C ((H s).2 i) (g ((H s).2 i))) : qt_VC R C (qt_mc g F H) := by
  intro s hs
  have e : qt_mc g F H s = qt_mp g (H s) := by unfold qt_mc; rw [if_pos hs]
  rw [e]
  obtain ⟨h1, h2⟩ := h s hs
  obtain ⟨g1, g2⟩ := qt_mp_V h1 (fun i hi l => hg s i hs hi l)
  exact ⟨g1, fun z => ⟨(h2 z).1, (h2 z).2.1, g2 (h2 z).2.2⟩⟩
theorem qt_VC_ins {R C ax a : Nat} {G : Nat → qt_Fm} {D : qt_Fm} (ha : ax < 2) (hR : R ≤ 6) (hC : C ≤ 6) (hR3 : 3 ≤ R) (hC3 : 3 ≤ C) (han : a < qt_sz R C ax) (hV : qt_VC R C G) (hu : ¬ qt_use (qt_ut G 36 D) ax (qt_sz R C ax)) : qt_VC R C (qt_mc (qt_gro ax (nI a)) (qt_ut G 36 D) (qt_is (qt_ut G 36 D) ax a (qt_sz R C ax))) := by
  have hn : qt_sz R C ax ≤ 6 ∧ 3 ≤ qt_sz R C ax := by unfold qt_sz; split <;> omega
  have FG : ∀ s, s < 36 → qt_ut G 36 D s = G s := fun s hs => qt_un (by omega)
  have hH : ∀ s, s < 36 → qt_is (qt_ut G 36 D) ax a (qt_sz R C ax) s = qt_z ∨ ∃ s', s' < 36 ∧ qt_is (qt_ut G 36 D) ax a (qt_sz R C ax) s = G s' ∧ (0 < (G s').1 → s / 6 < R ∧ s % 6 < C) := by
    intro s hs
    unfold qt_is
    by_cases c2 : qt_ln ax s < a
    · rw [if_pos c2, FG s hs]
      exact Or.inr ⟨s, hs, rfl, fun z => ⟨((hV s hs).2 z).1, ((hV s hs).2 z).2.1⟩⟩
    · rw [if_neg c2]
      by_cases c1 : qt_ln ax s = a
      · rw [if_pos c1]; exact Or.inl rfl
      · rw [if_neg c1]
        by_cases c3 : qt_ln ax s < qt_sz R C ax
        · rw [if_pos c3]
          obtain ⟨d1, d2, d3, d4⟩ := qt_st_dn (ax := ax) (s := s) (l := qt_ln ax s - 1) ha hs (by omega)
          rw [FG _ (by omega)]
          refine Or.inr ⟨_, by omega, rfl, fun z => ?_⟩
          have h1 := (hV _ (by omega)).2 z
          have h2 := (qt_sh_ln (R := R) (C := C) ha).mp ⟨h1.1, h1.2.1⟩
          exact (qt_sh_ln ha).mpr ⟨c3, by omega⟩
        · rw [if_neg c3, FG s hs]
          exact Or.inr ⟨s, hs, rfl, fun z => ⟨((hV s hs).2 z).1, ((hV s hs).2 z).2.1⟩⟩
  refine qt_VC_mc (fun s hs => ?_) (fun s i hs hi l => ?_)
  · rcases hH s hs with e | ⟨s', h1, e, h2⟩
    · rw [e]; exact ⟨qt_VF_z, fun z => absurd z (Nat.not_lt_zero 0)⟩
    · rw [e]
      exact ⟨(hV s' h1).1, fun z => ⟨(h2 z).1, (h2 z).2, ((hV s' h1).2 z).2.2⟩⟩
  · rcases hH s hs with e | ⟨s', h1, e, h2⟩
    · rw [e] at hi; exact absurd hi (Nat.not_lt_zero i)
    · rw [e] at hi l ⊢
      have hno : ¬ qt_hi ax ((G s').2 i) = nI (qt_sz R C ax - 1) := fun z => hu (Or.inr ⟨s', i, h1, by rw [FG s' h1]; exact hi, by rw [FG s' h1]; exact l, by rw [FG s' h1]; exact z⟩)
      refine qt_gro_ok ha hR hC (by omega) ((hV s' h1).1.2 i hi) l (fun z r hr hr2 => ?_) (fun z c hc hc2 => ?_)
      · subst z
        have : ¬ r = R - 1 := fun y => hno (by show qt_bot _ = nI (R - 1); rw [hr, y])
        omega
      · subst z
        have : ¬ c = C - 1 := fun y => hno (by show qt_rgt _ = nI (C - 1); rw [hc, y])
        omega
theorem qt_VC_del {R C ax a : Nat} {G : Nat → qt_Fm} {D : qt_Fm} (ha : ax < 2) (hR : R ≤ 6) (hC : C ≤ 6) (han : a < qt_sz R C ax) (hV : qt_VC R C G) : qt_VC R C (qt_mc (qt_shr ax (nI a)) (qt_ut G 36 D) (qt_ds (qt_ut G 36 D) ax a (qt_sz R C ax))) := by
  have hn : qt_sz R C ax ≤ 6 := by unfold qt_sz; split <;> omega
  have FG : ∀ s, s < 36 → qt_ut G 36 D s = G s := fun s hs => qt_un (by omega)
  have hH : ∀ s, s < 36 → qt_ds (qt_ut G 36 D) ax a (qt_sz R C ax) s = qt_z ∨ ∃ s', s' < 36 ∧ qt_ds (qt_ut G 36 D) ax a (qt_sz R C ax) s = G s' ∧ (0 < (G s').1 → s / 6 < R ∧ s % 6 < C) := by
    intro s hs
    have self : ∃ s', s' < 36 ∧ G s = G s' ∧ (0 < (G s').1 → s / 6 < R ∧ s % 6 < C) := ⟨s, hs, rfl, fun z => ⟨((hV s hs).2 z).1, ((hV s hs).2 z).2.1⟩⟩
    unfold qt_ds
    by_cases c2 : qt_ln ax s < a
    · rw [if_pos c2, FG s hs]; exact Or.inr self
    · rw [if_neg c2]
      by_cases c3 : qt_ln ax s + 1 < qt_sz R C ax
      · rw [if_pos c3]
        obtain ⟨d1, d2, d3, d4⟩ := qt_st_up (ax := ax) (s := s) (l := qt_ln ax s + 1) ha hs rfl (by omega)
        rw [FG _ d2]
        refine Or.inr ⟨_, d2, rfl, fun z => ?_⟩
        have h1 := (hV _ d2).2 z
        have h2 := (qt_sh_ln (R := R) (C := C) ha).mp ⟨h1.1, h1.2.1⟩
        exact (qt_sh_ln ha).mpr ⟨by omega, by omega⟩
      · rw [if_neg c3]
        by_cases c4 : qt_ln ax s + 1 = qt_sz R C ax
        · rw [if_pos c4]; exact Or.inl rfl
        · rw [if_neg c4, FG s hs]; exact Or.inr self
  refine qt_VC_mc (fun s hs => ?_) (fun s i hs hi l => ?_)
  · rcases hH s hs with e | ⟨s', h1, e, h2⟩
    · rw [e]; exact ⟨qt_VF_z, fun z => absurd z (Nat.not_lt_zero 0)⟩
    · rw [e]
      exact ⟨(hV s' h1).1, fun z => ⟨(h2 z).1, (h2 z).2, ((hV s' h1).2 z).2.2⟩⟩
  · rcases hH s hs with e | ⟨s', h1, e, h2⟩
    · rw [e] at hi; exact absurd hi (Nat.not_lt_zero i)
    · rw [e] at hi l ⊢
      exact qt_shr_ok ha hR hC (by omega) ((hV s' h1).1.2 i hi) l
section
variable {R C a b c d row col : Nat} {G : Nat → qt_Fm} {D : qt_Fm}
theorem qt_VC_mov (hR : R ≤ 6) (hC : C ≤ 6) (hac : a ≤ c) (hbd : b ≤ d) (hc : c < R) (hd : d < C) (hrow : row + (c - a) < R) (hcol : col + (d - b) < C) (hV : qt_VC R C G) : qt_VC R C (qt_mc (qt_mov (nI a) (nI b) (nI c) (nI d) (nI row - nI a) (nI col - nI b)) (qt_ut G 36 D) (qt_mvF (qt_ut G 36 D) a b c d row col)) := by
  have FG : ∀ s, s < 36 → qt_ut G 36 D s = G s := fun s hs => qt_un (by omega)
  have hH : ∀ s, s < 36 → qt_mvF (qt_ut G 36 D) a b c d row col s = qt_z ∨ ∃ s', s' < 36 ∧ qt_mvF (qt_ut G 36 D) a b c d row col s = G s' ∧ (0 < (G s').1 → s / 6 < R ∧ s % 6 < C) := by
    intro s hs
    unfold qt_mvF
    by_cases y1 : qt_dst a b c d row col s
    · obtain ⟨f1, f2⟩ := qt_so_f (show c < 6 by omega) (show d < 6 by omega) y1
      have hlt : qt_so a b row col s < 36 := by unfold qt_dst at y1; omega
      rw [if_pos y1, FG _ hlt]
      exact Or.inr ⟨_, hlt, rfl, fun _ => by unfold qt_dst at y1; omega⟩
    · rw [if_neg y1]
      by_cases y2 : qt_sel a b c d s
      · rw [if_pos y2]; exact Or.inl rfl
      · rw [if_neg y2, FG s hs]
        exact Or.inr ⟨s, hs, rfl, fun z => ⟨((hV s hs).2 z).1, ((hV s hs).2 z).2.1⟩⟩
  refine qt_VC_mc (fun s hs => ?_) (fun s i hs hi l => ?_)
  · rcases hH s hs with e | ⟨s', h1, e, h2⟩
    · rw [e]; exact ⟨qt_VF_z, fun z => absurd z (Nat.not_lt_zero 0)⟩
    · rw [e]
      exact ⟨(hV s' h1).1, fun z => ⟨(h2 z).1, (h2 z).2, ((hV s' h1).2 z).2.2⟩⟩
  · rcases hH s hs with e | ⟨s', h1, e, h2⟩
    · rw [e] at hi; exact absurd hi (Nat.not_lt_zero i)
    · rw [e] at hi l ⊢
      exact qt_mov_ok hR hC hac hbd (by omega) (by omega) hrow hcol ((hV s' h1).1.2 i hi) l
theorem qt_VC_shf {s s' : Nat} {dr dc : Int32} (hR : R ≤ 6) (hC : C ≤ 6) (hV : qt_VC R C G) (hs' : s' < 36) (hin : s / 6 < R ∧ s % 6 < C) : qt_VF R C (qt_mp (qt_shf R C dr dc) (G s')).1 (qt_mp (qt_shf R C dr dc) (G s')).2 ∧ (0 < (qt_mp (qt_shf R C dr dc) (G s')).1 → s / 6 < R ∧ s % 6 < C ∧ qt_WF (qt_mp (qt_shf R C dr dc) (G s')).1 (qt_mp (qt_shf R C dr dc) (G s')).2) := by
  obtain ⟨h1, h2⟩ := hV s' hs'
  obtain ⟨g1, g2⟩ := qt_mp_V (g := qt_shf R C dr dc) h1 (fun i hi l => qt_shf_ok hR hC (h1.2 i hi) l)
  exact ⟨g1, fun z => ⟨hin.1, hin.2, g2 (h2 z).2.2⟩⟩
theorem qt_VC_cp (hR : R ≤ 6) (hC : C ≤ 6) (hac : a ≤ c) (hbd : b ≤ d) (hc : c < R) (hd : d < C) (hrow : row + (c - a) < R) (hcol : col + (d - b) < C) (hV : qt_VC R C G) : qt_VC R C (qt_cpF R C (qt_ut G 36 D) a b c d row col) := by
  have FG : ∀ s, s < 36 → qt_ut G 36 D s = G s := fun s hs => qt_un (by omega)
  intro s hs
  unfold qt_cpF
  by_cases y1 : qt_dst a b c d row col s
  · obtain ⟨f1, f2⟩ := qt_so_f (show c < 6 by omega) (show d < 6 by omega) y1
    have hlt : qt_so a b row col s < 36 := by unfold qt_dst at y1; omega
    rw [if_pos y1, FG _ hlt]
    exact qt_VC_shf hR hC hV hlt (by unfold qt_dst at y1; omega)
  · rw [if_neg y1, FG s hs]; exact hV s hs
theorem qt_VC_fi {ax : Nat} (hR : R ≤ 6) (hC : C ≤ 6) (hac : a ≤ c) (hbd : b ≤ d) (hc : c < R) (hd : d < C) (hV : qt_VC R C G) : qt_VC R C (qt_flF R C (qt_ut G 36 D) ax a b c d) := by
  have FG : ∀ s, s < 36 → qt_ut G 36 D s = G s := fun s hs => qt_un (by omega)
  intro s hs
  unfold qt_flF
  by_cases y1 : qt_sel a b c d s
  · have hin : s / 6 < R ∧ s % 6 < C := by unfold qt_sel at y1; omega
    rw [if_pos y1]
    unfold qt_fi
    unfold qt_sel at y1
    by_cases e : ax = 0
    · rw [if_pos e]
      by_cases y2 : a < s / 6
      · rw [if_pos y2, FG _ (by omega)]
        exact qt_VC_shf hR hC hV (by omega) hin
      · rw [if_neg y2, FG s hs]; exact hV s hs
    · rw [if_neg e]
      by_cases y2 : b < s % 6
      · rw [if_pos y2, FG _ (by omega)]
        exact qt_VC_shf hR hC hV (by omega) hin
      · rw [if_neg y2, FG s hs]; exact hV s hs
  · rw [if_neg y1, FG s hs]; exact hV s hs
/-- slot 36 is the draft -/
theorem qt_AX_36 {tok cnt : Nat → Int32} {G' : Nat → qt_Fm} (h : qt_AX 37 tok cnt G') (e : G' 36 = D) : qt_AX 37 tok cnt (qt_ut G' 36 D) := qt_AX_e h (fun s _ => qt_fe_e (by
  by_cases z : s = 36
  · subst z; rw [qt_us]; exact e
  · rw [qt_un z]))
theorem qt_AY_36 {tok cnt : Nat → Int32} {G' : Nat → qt_Fm} (h : qt_AY 37 tok cnt G') (e : G' 36 = D) : qt_AY 37 tok cnt (qt_ut G' 36 D) := qt_AY_e h (fun s _ => qt_fe_e (by
  by_cases z : s = 36
  · subst z; rw [qt_us]; exact e
  · rw [qt_un z]))
theorem qt_AY_c {tok cnt : Nat → Int32} {F : Nat → qt_Fm} (h : qt_AY 37 tok cnt (qt_ut F 36 D)) : qt_AY 36 tok cnt F := fun s hs => by
  have := h s (by omega)
  rw [qt_un (by omega)] at this
  exact this
theorem qt_AX_c {tok cnt : Nat → Int32} {F : Nat → qt_Fm} (h : qt_AX 37 tok cnt (qt_ut F 36 D)) : qt_AX 36 tok cnt F := fun s hs => by
  have := h s (by omega)
  rw [qt_un (by omega)] at this
  exact this
end
end
section
/-! the owed statements: start, draft -/
theorem i_up {k : Nat} {u : SX} {v : SY} (h : i_Rel k u v) : i_Rel (k + 5) u v := h
def qr_cl (p : Int32) : Nat := if 3 ≤ p then (if p ≤ 6 then p.toNatClampNeg else 6) else 3
theorem qr_cl_f (p : Int32) : 3 ≤ qr_cl p ∧ qr_cl p ≤ 6 ∧ (3 ≤ p → p ≤ 6 → p = nI (qr_cl p)) ∧ (3 ≤ p → ¬ p ≤ 6 → qr_cl p = 6) ∧ (¬ 3 ≤ p → qr_cl p = 3) := by
  unfold qr_cl
  by_cases h3 : 3 ≤ p
  · rw [if_pos h3]
    by_cases h6 : p ≤ 6
    · rw [if_pos h6]
      have h0 : ¬ p < 0 := fun z => absurd (Int32.lt_of_le_of_lt h3 z) (by decide)
      obtain ⟨j, hj, rfl⟩ := nI_of h0
      rw [qa_lel3 hj] at h3
      rw [qa_ler6 hj] at h6
      rw [nI_clamp hj]
      exact ⟨h3, h6, fun _ _ => rfl, fun _ z => absurd ((qa_ler6 hj).mpr h6) z, fun z => absurd ((qa_lel3 hj).mpr h3) z⟩
    · rw [if_neg h6]
      exact ⟨by decide, by decide, fun _ z => absurd z h6, fun _ _ => rfl, fun z => absurd h3 z⟩
  · rw [if_neg h3]
    exact ⟨by decide, by decide, fun z => absurd z h3, fun z => absurd z h3, fun _ => rfl⟩
theorem qx_init {post : SX → Prop} {p q : Int32} (h : post (nI (qr_cl p), nI (qr_cl q), 0, 0, 0, 0, 1, 0, 0, 0, 0, (fun _ => 0), (fun _ => 0), (fun _ => 0), (fun _ => 0), (fun _ => 0), (fun _ => 0), (fun _ => 0), (fun _ => 0), (fun _ => 0), (fun _ => 0))) : wpX_init post p q := by
  obtain ⟨-, -, p1, p2, p3⟩ := qr_cl_f p
  obtain ⟨-, -, q1, q2, q3⟩ := qr_cl_f q
  have key : wX_init_107 post q (nI (qr_cl p)) 0 0 0 0 0 0 0 0 0 0 0 (fun _ => 0) (fun _ => 0) (fun _ => 0) (fun _ => 0) (fun _ => 0) (fun _ => 0) (fun _ => 0) (fun _ => 0) (fun _ => 0) (fun _ => 0) := by
    unfold wX_init_107
    by_cases h3 : 3 ≤ q
    · refine br_t h3 ?_
      by_cases h6 : q ≤ 6
      · refine br_t h6 ?_
        rw [← q1 h3 h6] at h
        exact h
      · refine br_f h6 ?_
        rw [q2 h3 h6] at h
        exact h
    · refine br_f h3 ?_
      rw [q3 h3] at h
      exact h
  unfold wpX_init
  by_cases h3 : 3 ≤ p
  · refine br_t h3 ?_
    by_cases h6 : p ≤ 6
    · refine br_t h6 ?_
      rw [← p1 h3 h6] at key
      exact key
    · refine br_f h6 ?_
      rw [p2 h3 h6] at key
      exact key
  · refine br_f h3 ?_
    rw [p3 h3] at key
    exact key
theorem qy_init {post : SY → Prop} {p q : Int32} (h : wpY_settle (fun _ u => post u) (nI (qr_cl p), nI (qr_cl q), 0, 0, (fun _ => 0), (fun _ => 0), (fun _ => 0), (fun _ => 0), (fun _ => 0), (fun _ => 0), (fun _ => 0), (fun _ => 0), (fun _ => 0), (fun _ => 0))) : wpY_init post p q := by
  obtain ⟨-, -, p1, p2, p3⟩ := qr_cl_f p
  obtain ⟨-, -, q1, q2, q3⟩ := qr_cl_f q
  have key : wY_init_106 post q (nI (qr_cl p)) 0 0 0 0 (fun _ => 0) (fun _ => 0) (fun _ => 0) (fun _ => 0) (fun _ => 0) (fun _ => 0) (fun _ => 0) (fun _ => 0) (fun _ => 0) (fun _ => 0) := by
    unfold wY_init_106
    by_cases h3 : 3 ≤ q
    · refine br_t h3 ?_
      by_cases h6 : q ≤ 6
      · refine br_t h6 ?_
        rw [← q1 h3 h6] at h
        exact h
      · refine br_f h6 ?_
        rw [q2 h3 h6] at h
        exact h
    · refine br_f h3 ?_
      rw [q3 h3] at h
      exact h
  unfold wpY_init
  by_cases h3 : 3 ≤ p
  · refine br_t h3 ?_
    by_cases h6 : p ≤ 6
    · refine br_t h6 ?_
      rw [← p1 h3 h6] at key
      exact key
    · refine br_f h6 ?_
      rw [p2 h3 h6] at key
      exact key
  · refine br_f h3 ?_
    rw [p3 h3] at key
    exact key
theorem i_vc0 (k0 : Int32) (k1 : Int32) : wpX_init (fun u => wpY_init (fun v => i_Rel 2 u v) k0 k1) k0 k1 := by
  refine qx_init ?_
  refine qy_init ?_
  obtain ⟨a1, a2, -⟩ := qr_cl_f k0
  obtain ⟨b1, b2, -⟩ := qr_cl_f k1
  have hz : ∀ s, (qt_ut (fun _ : Nat => qt_z) 36 qt_z s) = qt_z := by
    intro s
    unfold qt_ut
    split <;> rfl
  have hX : qt_AX 37 (fun _ => 0) (fun _ => 0) (qt_ut (fun _ => qt_z) 36 qt_z) := by
    intro s _
    rw [hz s]
    exact ⟨Nat.zero_le _, rfl, fun i hi => absurd hi (Nat.not_lt_zero i)⟩
  have hY : qt_AY 37 (fun _ => 0) (fun _ => 0) (qt_ut (fun _ => qt_z) 36 qt_z) := by
    intro s _
    rw [hz s]
    exact ⟨Nat.zero_le _, rfl, fun i hi => absurd hi (Nat.not_lt_zero i)⟩
  have hV : qt_VC (qr_cl k0) (qr_cl k1) (fun _ => qt_z) := fun s _ => ⟨qt_VF_z, fun z => absurd z (Nat.not_lt_zero 0)⟩
  refine qy_settle (qt_AY_c hY) hV a2 b2 (fun yh' yw' ysd' yst' yva' yow' yli' yV' yE' hM => ?_)
  exact qr_in (a := 0) (b := 0) (c := 0) (d := 0) (G := fun _ => qt_z) (D := qt_z) ⟨⟨a1, a2, b1, b2⟩, ⟨Nat.le_refl _, by omega, Nat.le_refl _, by omega⟩, ⟨rfl, rfl, rfl, rfl⟩, hX, hY, hV, ⟨Nat.zero_le _, fun i hi => absurd hi (Nat.not_lt_zero i)⟩, hM, fun z => absurd z (by decide)⟩
theorem i_vc_clearDraft {k : Nat} {u : SX} {v : SY} (I : i_Rel k u v) (hk : k + 5 ≤ 2562) : wpX_clearDraft (fun u' => wpY_clearDraft (fun v' => i_Rel (k + 5) u' v') v) u := by
  refine qr_el (P := fun u v => wpX_clearDraft (fun u' => wpY_clearDraft (fun v' => i_Rel (k + 5) u' v') v) u) ?_ I
  intro R C a b c d G D sta oe oh ow yh yw stl tok cnt stt val own sv se out ycn ytk ysl ysd yst yva yow yli yV yE rch nds ⟨h1, h2, h3, hX, hY, hV, hD, hM, hS⟩
  refine nm_e (nm_e (qr_in (G := G) (D := qt_z) ⟨h1, h2, h3, ?_, ?_, hV, ⟨Nat.zero_le _, fun i hi => absurd hi (Nat.not_lt_zero i)⟩, hM, hS⟩))
  · have := qt_AX_0 (d := 36) hX
    rw [qt_uu] at this
    exact this
  · have := qt_AY_0 (d := 36) hY
    rw [qt_uu] at this
    exact this
/-- a token appended to the draft -/
theorem qr_app {R C : Nat} {D : qt_Fm} {x : Nat → Int32} (hD : qt_VD R C D) (h7 : D.1 < 7) (hx : qt_VT R C x) (hx0 : qt_rk (x 0) → x 1 = 0) : qt_VD R C (D.1 + 1, qt_ut D.2 D.1 x) := by
  refine ⟨h7, fun i hi => ?_⟩
  show qt_VT R C (qt_ut D.2 D.1 x i) ∧ (qt_rk (qt_ut D.2 D.1 x i 0) → qt_ut D.2 D.1 x i 1 = 0)
  have hi' : i < D.1 + 1 := hi
  by_cases e : i = D.1
  · rw [e, qt_us]; exact ⟨hx, hx0⟩
  · rw [qt_un e]; exact hD.2 i (by omega)
theorem qr_appX {G : Nat → qt_Fm} {D : qt_Fm} {tok cnt tok' : Nat → Int32} {x : Nat → Int32} (hX : qt_AX 37 tok cnt (qt_ut G 36 D)) (h7 : D.1 < 7) (T : qt_Tf tok tok' (2016 + D.1 * 8) x) : qt_AX 37 tok' (upd cnt 36 (nI (D.1 + 1))) (qt_ut G 36 (D.1 + 1, qt_ut D.2 D.1 x)) := by
  have := qt_AX_app (s := 36) (n := D.1) hX (by decide) (by rw [qt_us]) h7 T (cnt' := upd cnt 36 (nI (D.1 + 1))) pk_us (fun k hk => pk_un hk)
  rw [qt_uu, qt_us] at this
  exact this
theorem qr_appY {G : Nat → qt_Fm} {D : qt_Fm} {tok cnt tok' : Nat → Int32} {x : Nat → Int32} (hX : qt_AY 37 tok cnt (qt_ut G 36 D)) (h7 : D.1 < 7) (T : qt_Tf tok tok' (2016 + D.1 * 8) (qt_yv x)) : qt_AY 37 tok' (upd cnt 36 (nI (D.1 + 1))) (qt_ut G 36 (D.1 + 1, qt_ut D.2 D.1 x)) := by
  have := qt_AY_app (s := 36) (n := D.1) hX (by decide) (by rw [qt_us]) h7 T (cnt' := upd cnt 36 (nI (D.1 + 1))) pk_us (fun k hk => pk_un hk)
  rw [qt_uu, qt_us] at this
  exact this
theorem i_vc_addNumber {k : Nat} {u : SX} {v : SY} (I : i_Rel k u v) (hk : k + 5 ≤ 2562) (v1 : Int32) : wpX_addNumber (fun r u' => wpY_addNumber (fun r' v' => r' = r ∧ i_Rel (k + 5) u' v') v v1) u v1 := by
  refine qr_el (P := fun u v => wpX_addNumber (fun r u' => wpY_addNumber (fun r' v' => r' = r ∧ i_Rel (k + 5) u' v') v v1) u v1) ?_ I
  intro R C a b c d G D sta oe oh ow yh yw stl tok cnt stt val own sv se out ycn ytk ysl ysd yst yva yow yli yV yE rch nds ⟨h1, h2, h3, hX, hY, hV, hD, hM, hS⟩
  have e36 : (qt_ut G 36 D 36) = D := qt_us
  unfold wpX_addNumber
  refine qx_app hX (fun c7 => ?_) (fun c7 tok' T' => ?_)
  · unfold wpY_addNumber
    refine qy_app hY (fun _ => ?_) (fun z => absurd z c7)
    exact ⟨rfl, qr_in ⟨h1, h2, h3, hX, hY, hV, hD, hM, hS⟩⟩
  · unfold wpY_addNumber
    refine qy_app hY (fun z => absurd c7 z) (fun _ tok2 T2 => ?_)
    rw [e36] at c7 T' T2 ⊢
    refine ⟨rfl, qr_in (G := G) ⟨h1, h2, h3, qr_appX hX c7 T', qr_appY hY c7 (by rw [qt_yv_put' (by decide)]; exact T2), hV, qr_app hD c7 (Or.inl rfl) (fun z => absurd z (show ¬ qt_rk 1 by decide)), hM, hS⟩⟩
theorem i_vc_addOp {k : Nat} {u : SX} {v : SY} (I : i_Rel k u v) (hk : k + 5 ≤ 2562) (v1 : Int32) : wpX_addOp (fun r u' => wpY_addOp (fun r' v' => r' = r ∧ i_Rel (k + 5) u' v') v v1) u v1 := by
  refine qr_el (P := fun u v => wpX_addOp (fun r u' => wpY_addOp (fun r' v' => r' = r ∧ i_Rel (k + 5) u' v') v v1) u v1) ?_ I
  intro R C a b c d G D sta oe oh ow yh yw stl tok cnt stt val own sv se out ycn ytk ysl ysd yst yva yow yli yV yE rch nds ⟨h1, h2, h3, hX, hY, hV, hD, hM, hS⟩
  have e36 : (qt_ut G 36 D 36) = D := qt_us
  by_cases l1 : v1 < 1
  · exact br_t l1 (br_t l1 ⟨rfl, qr_in ⟨h1, h2, h3, hX, hY, hV, hD, hM, hS⟩⟩)
  by_cases l5 : v1 ≤ 5
  · have hop : ∃ j : Nat, 1 ≤ j ∧ j ≤ 5 ∧ v1 = nI j := by
      have h0 : ¬ v1 < 0 := fun z => l1 (Int32.lt_trans z (by decide))
      obtain ⟨j, hj, rfl⟩ := nI_of h0
      rw [qa_ltr1 hj] at l1
      rw [qa_ler5 hj] at l5
      exact ⟨j, by omega, l5, rfl⟩
    refine br_f l1 (br_t l5 ?_)
    refine qx_app hX (fun c7 => ?_) (fun c7 tok' T' => ?_)
    · refine br_f l1 (br_t l5 ?_)
      refine qy_app hY (fun _ => ?_) (fun z => absurd z c7)
      exact ⟨rfl, qr_in ⟨h1, h2, h3, hX, hY, hV, hD, hM, hS⟩⟩
    · refine br_f l1 (br_t l5 ?_)
      refine qy_app hY (fun z => absurd c7 z) (fun _ tok2 T2 => ?_)
      rw [e36] at c7 T' T2 ⊢
      refine ⟨rfl, qr_in (G := G) ⟨h1, h2, h3, qr_appX hX c7 T', qr_appY hY c7 (by rw [qt_yv_put' (by decide)]; exact T2), hV, qr_app hD c7 (Or.inr (Or.inl ⟨rfl, hop⟩)) (fun z => absurd z (show ¬ qt_rk 3 by decide)), hM, hS⟩⟩
  · exact br_f l1 (br_f l5 (br_f l1 (br_f l5 ⟨rfl, qr_in ⟨h1, h2, h3, hX, hY, hV, hD, hM, hS⟩⟩)))
theorem qt_ref_V {R C r c m : Nat} (hr : r < R) (hc : c < C) (hm : m < 4) : qt_VT R C (qt_ref (nI r) (nI c) (nI m)) ∧ (qt_rk (qt_ref (nI r) (nI c) (nI m) 0) → qt_ref (nI r) (nI c) (nI m) 1 = 0) :=
  ⟨qt_live_VT (Or.inl rfl) rfl (qt_LV_ref rfl hr hc hm rfl rfl rfl rfl rfl rfl), fun _ => rfl⟩
theorem i_vc_addRef {k : Nat} {u : SX} {v : SY} (I : i_Rel k u v) (hk : k + 5 ≤ 2562) (v1 : Int32) (v2 : Int32) (v3 : Int32) : wpX_addRef (fun r u' => wpY_addRef (fun r' v' => r' = r ∧ i_Rel (k + 5) u' v') v v1 v2 v3) u v1 v2 v3 := by
  refine qr_el (P := fun u v => wpX_addRef (fun r u' => wpY_addRef (fun r' v' => r' = r ∧ i_Rel (k + 5) u' v') v v1 v2 v3) u v1 v2 v3) ?_ I
  intro R C a b c d G D sta oe oh ow yh yw stl tok cnt stt val own sv se out ycn ytk ysl ysd yst yva yow yli yV yE rch nds ⟨h1, h2, h3, hX, hY, hV, hD, hM, hS⟩
  have e36 : (qt_ut G 36 D 36) = D := qt_us
  have keep : i_Rel (k + 5) (nI R, nI C, nI a, nI b, nI c, nI d, sta, stl, oe, oh, ow, tok, cnt, stt, val, own, rch, nds, sv, se, out) (nI R, nI C, yh, yw, ycn, ytk, ysl, ysd, yst, yva, yow, yli, yV, yE) := qr_in ⟨h1, h2, h3, hX, hY, hV, hD, hM, hS⟩
  have m36 : ycn 36 = nI D.1 := by have := (hY 36 (by decide)).2.1; rw [e36] at this; exact this
  have hD7 := hD.1
  unfold wpX_addRef
  refine qx_inS (by omega) (by omega) (fun i => ?_) (fun i => ?_)
  · refine br_f (by decide) ?_
    have yin : ∀ {post : Int32 → SY → Prop}, (((v3 < 0 → (post 1 (nI R, nI C, yh, yw, ycn, ytk, ysl, ysd, yst, yva, yow, yli, yV, yE))) ∧ (¬ v3 < 0 → (((v3 ≤ 3 → (∀ x4_19 : Int32, x4_19 = 2016 + ((ycn 36) * 8) → wpY_append (fun r_20 u => (((r_20 = 2 → (post 2 u)) ∧ (¬ r_20 = 2 → (match u with | (yr, yc, yh, yw, ycn, ytk, ysl, ysd, yst, yva, yow, yli, yV, yE) => ∃ n51 : Nat, wY_addRef_51 post v1 v2 v3 x4_19 yr yc yh yw n51 2 ycn ytk ysl ysd yst yva yow yli yV yE))))) (nI R, nI C, yh, yw, ycn, ytk, ysl, ysd, yst, yva, yow, yli, yV, yE) 2 0)) ∧ (¬ v3 ≤ 3 → (post 1 (nI R, nI C, yh, yw, ycn, ytk, ysl, ysd, yst, yva, yow, yli, yV, yE)))))))) → wpY_addRef post (nI R, nI C, yh, yw, ycn, ytk, ysl, ysd, yst, yva, yow, yli, yV, yE) v1 v2 v3 := by
      intro post h
      unfold wpY_addRef
      refine qy_inS (by omega) (by omega) (fun _ => br_f (by decide) h) (fun z => absurd i z)
    by_cases n0 : v3 < 0
    · exact br_t n0 (yin (br_t n0 ⟨rfl, keep⟩))
    · refine br_f n0 ?_
      by_cases n3 : v3 ≤ 3
      · refine br_t n3 ?_
        have hm : ∃ j : Nat, j < 4 ∧ v3 = nI j := by
          obtain ⟨j, hj, rfl⟩ := nI_of n0
          rw [qa_ler3 hj] at n3
          exact ⟨j, by omega, rfl⟩
        obtain ⟨r, cc, hr, hc, rfl, rfl⟩ := id i
        obtain ⟨m, hm4, rfl⟩ := hm
        refine qx_app hX (fun c7 => ?_) (fun c7 tok' T' => ?_)
        · refine br_f (by decide) (yin (br_f n0 (br_t n3 (nm_e ?_))))
          refine qy_app hY (fun _ => ?_) (fun z => absurd z c7)
          exact br_t (by decide) ⟨rfl, keep⟩
        · rw [e36] at c7 T' ⊢
          refine br_t (by decide) ?_
          rw [pk_us, qa_s1 (by omega), Nat.add_sub_cancel]
          refine qx_base (s := 36) ?_
          rw [show 36 * 56 = 2016 from rfl]
          have hb : 2016 + D.1 * 8 + 8 ≤ 4088 := by omega
          have T3 : qt_Tf tok (upd (upd (upd tok' (2016 + D.1 * 8 + 2) (nI r)) (2016 + D.1 * 8 + 3) (nI cc)) (2016 + D.1 * 8 + 4) (nI m)) (2016 + D.1 * 8) (qt_ref (nI r) (nI cc) (nI m)) := qt_Tf_u (qt_Tf_u (qt_Tf_u T' (by decide) _) (by decide) _) (by decide) _
          have hrest : wpY_addRef (fun r' v' => r' = 0 ∧ i_Rel (k + 5) (nI R, nI C, nI a, nI b, nI c, nI d, sta, stl, oe, oh, ow, upd (upd (upd tok' (2016 + D.1 * 8 + 2) (nI r)) (2016 + D.1 * 8 + 3) (nI cc)) (2016 + D.1 * 8 + 4) (nI m), upd cnt 36 (nI (D.1 + 1)), stt, val, own, rch, nds, sv, se, out) v') (nI R, nI C, yh, yw, ycn, ytk, ysl, ysd, yst, yva, yow, yli, yV, yE) (nI r) (nI cc) (nI m) := by
            refine yin (br_f n0 (br_t n3 ?_))
            rw [m36, qa_m8, qa_l2016]
            refine nm_e ?_
            refine qy_app hY (fun z => absurd c7 (by rw [e36] at z; exact z)) (fun _ tok2 T2 => ?_)
            rw [e36] at T2 ⊢
            refine br_f (by decide) ⟨3, ?_⟩
            refine qy_ar51 (k := 2) (by decide) hb T2 (fun tok3 T3' => qy_ar51 (k := 5) (by decide) hb T3' (fun tok4 T4 => ?_))
            unfold wY_addRef_51
            refine br_t (by decide) ⟨rfl, qr_in (G := G) ⟨h1, h2, h3, qr_appX hX c7 T3, qr_appY hY c7 (qt_Tf_c T4 ?_), hV, qr_app hD c7 (qt_ref_V hr hc hm4).1 (qt_ref_V hr hc hm4).2, hM, hS⟩⟩
            exact qa_f8 rfl rfl rfl rfl rfl rfl rfl rfl
          simp (disch := omega) only [nI_add, pk_mul, qa_a1, qa_a2, qa_a3, qa_a4, qa_a5, qa_a6, qa_a7, qa_a8, qa_a56, qa_m6, qa_m7, qa_m8, qa_m56, qa_l2, qa_l37, qa_l2016, qa_in, nI_clamp, forall_eq, true_and, qa_cl0, nI_leI, nI_ltI, nI_eq, not_false_eq_true, pk_sub, qa_s1, qa_s2, qa_s8]
          exact hrest
      · exact br_f n3 (yin (br_f n0 (br_f n3 ⟨rfl, keep⟩)))
  · refine br_t (by decide) ?_
    unfold wpY_addRef
    exact qy_inS (by omega) (by omega) (fun z => absurd z i) (fun _ => br_t (by decide) ⟨rfl, keep⟩)
end
section
/-! the owed statements: joinRange, enter, setNumber, erase -/
theorem qt_jn_V {R C : Nat} {t u : Nat → Int32} {k : Int32} (hR : R ≤ 6) (hC : C ≤ 6) (hk : k = 4 ∨ k = 5 ∨ k = 6) (ht : qt_LV R C t) (hu : qt_LV R C u) (t0 : t 0 = 2) (u0 : u 0 = 2) (t1 : t 1 = 0) :
    qt_VT R C (qt_ord (qt_jn k t u)) ∧ (qt_rk (qt_ord (qt_jn k t u) 0) → qt_ord (qt_jn k t u) 1 = 0) ∧ qt_yv (qt_ord (qt_jn k t u)) = qt_yo 1 (qt_yo 0 (qt_jn k t u)) := by
  obtain ⟨r, c, m, hr, hc, hm, e2, e3, e4, -⟩ := qt_LV_ref' ht t0
  obtain ⟨r', c', m', hr', hc', hm', f2, f3, f4, -⟩ := qt_LV_ref' hu u0
  have k2 : ¬ qt_jn k t u 0 = 2 := by
    show ¬ k = 2
    rcases hk with h | h | h <;> rw [h] <;> decide
  obtain ⟨g1, g2, g3⟩ := qt_ord_LV (t := qt_jn k t u) hR hC k2 hr hc hr' hc' hm hm' e2 e3 e4 f2 f3 f4
  have hrk : qt_rk (qt_ord (qt_jn k t u) 0) := by
    rw [g2]
    show qt_rk k
    rcases hk with h | h | h <;> rw [h] <;> decide
  have h1 : qt_ord (qt_jn k t u) 1 = 0 := g3.trans t1
  refine ⟨qt_live_VT hrk h1 g1, fun _ => h1, ?_⟩
  rw [qt_yvn (by rw [g2]; exact k2)]
  exact qt_ord_e (t := qt_jn k t u) hm hm' e4 f4
theorem qt_VD_lv {R C i : Nat} {D : qt_Fm} (hD : qt_VD R C D) (hi : i < D.1) (h2 : D.2 i 0 = 2) : qt_LV R C (D.2 i) ∧ D.2 i 1 = 0 := by
  have h := hD.2 i hi
  have h1 := h.2 (Or.inl h2)
  have l : qt_lv (D.2 i) := ⟨by rw [h2]; decide, by rw [h2]; decide, h1⟩
  exact ⟨(qt_VT_lv h.1 l).1, h1⟩
theorem i_vc_joinRange {k : Nat} {u : SX} {v : SY} (I : i_Rel k u v) (hk : k + 5 ≤ 2562) (v1 : Int32) : wpX_joinRange (fun r u' => wpY_joinRange (fun r' v' => r' = r ∧ i_Rel (k + 5) u' v') v v1) u v1 := by
  refine qr_el (P := fun u v => wpX_joinRange (fun r u' => wpY_joinRange (fun r' v' => r' = r ∧ i_Rel (k + 5) u' v') v v1) u v1) ?_ I
  intro R C a b c d G D sta oe oh ow yh yw stl tok cnt stt val own sv se out ycn ytk ysl ysd yst yva yow yli yV yE rch nds ⟨h1, h2, h3, hX, hY, hV, hD, hM, hS⟩
  have e36 : (qt_ut G 36 D 36) = D := qt_us
  have keep : i_Rel (k + 5) (nI R, nI C, nI a, nI b, nI c, nI d, sta, stl, oe, oh, ow, tok, cnt, stt, val, own, rch, nds, sv, se, out) (nI R, nI C, yh, yw, ycn, ytk, ysl, ysd, yst, yva, yow, yli, yV, yE) := qr_in ⟨h1, h2, h3, hX, hY, hV, hD, hM, hS⟩
  have mX := (hX 36 (by decide)).2
  have mY := (hY 36 (by decide)).2
  rw [e36] at mX mY
  have x36 : cnt 36 = nI D.1 := mX.1
  have y36 : ycn 36 = nI D.1 := mY.1
  have hD7 := hD.1
  -- the reference, by the kind
  have yk : ∀ {post : Int32 → SY → Prop}, ((v1 = 4 ∨ v1 = 5 ∨ v1 = 6) → wY_joinRange_36 post v1 (nI D.1) ((2016 + nI D.1 * 8) - 16) (nI R) (nI C) yh yw ycn ytk ysl ysd yst yva yow yli yV yE) → (¬ (v1 = 4 ∨ v1 = 5 ∨ v1 = 6) → post 1 (nI R, nI C, yh, yw, ycn, ytk, ysl, ysd, yst, yva, yow, yli, yV, yE)) → wpY_joinRange post (nI R, nI C, yh, yw, ycn, ytk, ysl, ysd, yst, yva, yow, yli, yV, yE) v1 := by
    intro post a1 a2
    unfold wpY_joinRange
    refine nm_r y36 (nm_e ?_)
    by_cases c4 : v1 = 4
    · exact br_t c4 (a1 (Or.inl c4))
    · refine br_f c4 ?_
      by_cases c5 : v1 = 5
      · exact br_t c5 (a1 (Or.inr (Or.inl c5)))
      · refine br_f c5 ?_
        by_cases c6 : v1 = 6
        · exact br_t c6 (a1 (Or.inr (Or.inr c6)))
        · exact br_f c6 (a2 (fun z => z.elim c4 (fun y => y.elim c5 c6)))
  unfold wpX_joinRange
  by_cases hkd : v1 = 4 ∨ v1 = 5 ∨ v1 = 6
  · have xk : ∀ {post : Int32 → Prop}, post 1 → wpX_isRangeKind post (nI R, nI C, nI a, nI b, nI c, nI d, sta, stl, oe, oh, ow, tok, cnt, stt, val, own, rch, nds, sv, se, out) v1 := by
      intro post hp
      by_cases c4 : v1 = 4
      · exact br_t c4 hp
      · refine br_f c4 ?_
        by_cases c5 : v1 = 5
        · exact br_t c5 hp
        · exact br_f c5 (br_t (hkd.resolve_left c4 |>.resolve_left c5) hp)
    refine xk (br_f (by decide) ?_)
    rw [x36, qa_lel2 (by omega)]
    by_cases n2 : 2 ≤ D.1
    · refine br_t n2 ?_
      rw [qa_s2 n2]
      refine qx_base (s := 36) ?_
      obtain ⟨n, hn⟩ : ∃ n, D.1 = n + 2 := ⟨D.1 - 2, by omega⟩
      rw [hn, Nat.add_sub_cancel, show 36 * 56 = 2016 from rfl]
      have hb : 2016 + n * 8 + 16 ≤ 4088 := by omega
      have ht : ∀ f, f < 8 → tok (2016 + n * 8 + f) = D.2 n f := mX.2 n (by omega)
      have hu : ∀ f, f < 8 → tok (2016 + n * 8 + 8 + f) = D.2 (n + 1) f := by
        intro f hf
        have := mX.2 (n + 1) (by omega) f hf
        rw [show 36 * 56 + (n + 1) * 8 + f = 2016 + n * 8 + 8 + f by omega] at this
        exact this
      have hty : ∀ f, f < 8 → ytk (2016 + n * 8 + f) = qt_yv (D.2 n) f := mY.2 n (by omega)
      have huy : ∀ f, f < 8 → ytk (2016 + n * 8 + 8 + f) = qt_yv (D.2 (n + 1)) f := by
        intro f hf
        have := mY.2 (n + 1) (by omega) f hf
        rw [show 36 * 56 + (n + 1) * 8 + f = 2016 + n * 8 + 8 + f by omega] at this
        exact this
      have t0 : tok (2016 + n * 8) = D.2 n 0 := ht 0 (by decide)
      have u0 : tok (2016 + n * 8 + 8) = D.2 (n + 1) 0 := hu 0 (by decide)
      have ty0 : ytk (2016 + n * 8) = D.2 n 0 := (hty 0 (by decide)).trans (qt_yv_lo (by decide))
      have uy0 : ytk (2016 + n * 8 + 8) = D.2 (n + 1) 0 := (huy 0 (by decide)).trans (qt_yv_lo (by decide))
      -- the reference behind its first checks
      have y2 : ∀ {post : Int32 → SY → Prop}, ((D.2 n 0 = 2 → ((D.2 (n + 1) 0 = 2 → ∃ f, wY_joinRange_78 post (nI (n + 2)) (nI (2016 + n * 8)) (nI R) (nI C) yh yw f 5 ycn (upd ytk (2016 + n * 8) v1) ysl ysd yst yva yow yli yV yE) ∧ (¬ D.2 (n + 1) 0 = 2 → post 1 (nI R, nI C, yh, yw, ycn, ytk, ysl, ysd, yst, yva, yow, yli, yV, yE)))) ∧ (¬ D.2 n 0 = 2 → post 1 (nI R, nI C, yh, yw, ycn, ytk, ysl, ysd, yst, yva, yow, yli, yV, yE))) → wpY_joinRange post (nI R, nI C, yh, yw, ycn, ytk, ysl, ysd, yst, yva, yow, yli, yV, yE) v1 := by
        intro post hp
        refine yk (fun _ => ?_) (fun z => absurd hkd z)
        have e16 : (2016 + nI D.1 * 8) - 16 = nI (2016 + n * 8) := by
          rw [hn, qa_m8, qa_l2016, show (16 : Int32) = nI 16 from rfl, pk_sub (by omega)]
          exact congrArg nI (by omega)
        rw [e16, hn]
        simp (disch := omega) only [wY_joinRange_36, qa_lel2, ty0, uy0, nI_add, pk_mul, qa_a1, qa_a2, qa_a3, qa_a4, qa_a5, qa_a6, qa_a7, qa_a8, qa_a56, qa_m6, qa_m7, qa_m8, qa_m56, qa_l2, qa_l37, qa_l2016, qa_in, nI_clamp, forall_eq, true_and, qa_cl0, nI_leI, nI_ltI, nI_eq, not_false_eq_true, pk_sub, qa_s1, qa_s2, qa_s8]
        exact br_t (by omega) hp
      have r2 : tok (2016 + n * 8 + 8 + 2) = D.2 (n + 1) 2 := hu 2 (by decide)
      have r3 : tok (2016 + n * 8 + 8 + 3) = D.2 (n + 1) 3 := hu 3 (by decide)
      have r4 : tok (2016 + n * 8 + 8 + 4) = D.2 (n + 1) 4 := hu 4 (by decide)
      simp (disch := omega) only [pk_un, t0, u0, r2, r3, r4, nI_add, pk_mul, qa_a1, qa_a2, qa_a3, qa_a4, qa_a5, qa_a6, qa_a7, qa_a8, qa_a56, qa_m6, qa_m7, qa_m8, qa_m56, qa_l2, qa_l37, qa_l2016, qa_in, nI_clamp, forall_eq, true_and, qa_cl0, nI_leI, nI_ltI, nI_eq, not_false_eq_true, pk_sub, qa_s1, qa_s2, qa_s8]
      by_cases c0 : D.2 n 0 = 2
      · refine br_t c0 ?_
        by_cases d0 : D.2 (n + 1) 0 = 2
        · refine br_t d0 ?_
          have Lt := qt_VD_lv hD (show n < D.1 by omega) c0
          have Lu := qt_VD_lv hD (show n + 1 < D.1 by omega) d0
          obtain ⟨w1, w2, w3⟩ := qt_jn_V (k := v1) (by omega) (by omega) hkd Lt.1 Lu.1 c0 d0 Lt.2
          have hV' : qt_VD R C (n + 1, qt_ut D.2 n (qt_ord (qt_jn v1 (D.2 n) (D.2 (n + 1))))) := by
            refine ⟨show n + 1 ≤ 7 by omega, fun i hi => ?_⟩
            show qt_VT R C (qt_ut D.2 n _ i) ∧ (qt_rk (qt_ut D.2 n _ i 0) → qt_ut D.2 n _ i 1 = 0)
            have hi' : i < n + 1 := hi
            by_cases e : i = n
            · rw [e, qt_us]; exact ⟨w1, w2⟩
            · rw [qt_un e]; exact hD.2 i (by omega)
          have T0 : qt_Tf tok tok (2016 + n * 8) (D.2 n) := qt_Tf_r ht
          have TJ : qt_Tf tok (upd (upd (upd (upd tok (2016 + n * 8) v1) (2016 + n * 8 + 5) (D.2 (n + 1) 2)) (2016 + n * 8 + 6) (D.2 (n + 1) 3)) (2016 + n * 8 + 7) (D.2 (n + 1) 4)) (2016 + n * 8) (qt_jn v1 (D.2 n) (D.2 (n + 1))) := qt_Tf_u (qt_Tf_u (qt_Tf_u (qt_Tf_u T0 (k := 0) (by decide) v1) (by decide) _) (by decide) _) (by decide) _
          refine qx_ord (by omega) TJ (fun tok' T' => ?_)
          have hAX : qt_AX 37 tok' (upd cnt 36 (nI (n + 1))) (qt_ut G 36 (n + 1, qt_ut D.2 n (qt_ord (qt_jn v1 (D.2 n) (D.2 (n + 1)))))) := by
            have := qt_AX_join (s := 36) (n := n) hX (by decide) (by rw [e36]; exact hn) T'
            rw [qt_uu, e36] at this
            exact this
          have hrest : wpY_joinRange (fun r' v' => r' = 0 ∧ i_Rel (k + 5) (nI R, nI C, nI a, nI b, nI c, nI d, sta, stl, oe, oh, ow, tok', upd cnt 36 (nI (n + 1)), stt, val, own, rch, nds, sv, se, out) v') (nI R, nI C, yh, yw, ycn, ytk, ysl, ysd, yst, yva, yow, yli, yV, yE) v1 := by
            refine y2 (br_t c0 (br_t d0 ⟨4, ?_⟩))
            have U0 : qt_Tf ytk ytk (2016 + n * 8) (qt_yv (D.2 n)) := qt_Tf_r hty
            refine qy_jr78 (k := 5) (by decide) (by decide) hb (qt_Tf_u U0 (k := 0) (by decide) v1) ((huy 5 (by decide)).trans (qt_yv5.trans (by unfold qt_bot; rw [if_pos d0]))) (fun tok1 T1 => ?_)
            refine qy_jr78 (k := 6) (by decide) (by decide) hb T1 ((huy 6 (by decide)).trans (qt_yv6.trans (by unfold qt_rgt; rw [if_pos d0]))) (fun tok2 T2 => ?_)
            refine qy_jr78 (k := 7) (by decide) (by decide) hb T2 ((huy 7 (by decide)).trans (show qt_yv (D.2 (n + 1)) 7 = D.2 (n + 1) 4 by unfold qt_yv; rw [if_pos ⟨d0, by decide⟩])) (fun tok3 T3 => ?_)
            have T3' : qt_Tf ytk tok3 (2016 + n * 8) (qt_jn v1 (D.2 n) (D.2 (n + 1))) := by
              refine qt_Tf_c T3 (qa_f8 ?_ ?_ ?_ ?_ ?_ ?_ ?_ ?_)
              · rfl
              · show qt_yv (D.2 n) 1 = D.2 n 1
                exact qt_yv_lo (by decide)
              · show qt_yv (D.2 n) 2 = D.2 n 2
                exact qt_yv_lo (by decide)
              · show qt_yv (D.2 n) 3 = D.2 n 3
                exact qt_yv_lo (by decide)
              · show qt_yv (D.2 n) 4 = D.2 n 4
                exact qt_yv_lo (by decide)
              · rfl
              · rfl
              · rfl
            unfold wY_joinRange_78
            refine br_t (by decide) ?_
            refine qy_ord (by omega) T3' (fun tok4 T4 => ?_)
            have es : nI (n + 2) - 1 = nI (n + 1) := qa_s1 (by omega)
            rw [es]
            refine nm_e ⟨rfl, qr_in (G := G) ⟨h1, h2, h3, hAX, ?_, hV, hV', hM, hS⟩⟩
            have := qt_AY_join (s := 36) (n := n) (x := qt_ord (qt_jn v1 (D.2 n) (D.2 (n + 1)))) hY (by decide) (by rw [e36]; exact hn) (by rw [w3]; exact T4)
            rw [qt_uu, e36] at this
            exact this
          have ec : nI (n + 1) = cnt 36 - 1 := by
            rw [x36, hn]
            exact (qa_s1 (a := n + 2) (by omega)).symm
          rw [ec] at hrest
          exact hrest
        · exact br_f d0 (y2 (br_t c0 (br_f d0 ⟨rfl, keep⟩)))
      · exact br_f c0 (y2 (br_f c0 ⟨rfl, keep⟩))
    · refine br_f n2 (yk (fun _ => ?_) (fun z => absurd hkd z))
      unfold wY_joinRange_36
      exact br_f (by rw [qa_lel2 (by omega)]; exact n2) ⟨rfl, keep⟩
  · have xk : ∀ {post : Int32 → Prop}, post 0 → wpX_isRangeKind post (nI R, nI C, nI a, nI b, nI c, nI d, sta, stl, oe, oh, ow, tok, cnt, stt, val, own, rch, nds, sv, se, out) v1 := by
      intro post hp
      exact br_f (fun z => hkd (Or.inl z)) (br_f (fun z => hkd (Or.inr (Or.inl z))) (br_f (fun z => hkd (Or.inr (Or.inr z))) hp))
    exact xk (br_t (by decide) (yk (fun z => absurd z hkd) (fun _ => ⟨rfl, keep⟩)))
theorem i_vc_enter {k : Nat} {u : SX} {v : SY} (I : i_Rel k u v) (hk : k + 5 ≤ 2562) (v1 : Int32) (v2 : Int32) : wpX_enter (fun r u' => wpY_enter (fun r' v' => r' = r ∧ i_Rel (k + 5) u' v') v v1 v2) u v1 v2 := by
  refine qr_el (P := fun u v => wpX_enter (fun r u' => wpY_enter (fun r' v' => r' = r ∧ i_Rel (k + 5) u' v') v v1 v2) u v1 v2) ?_ I
  intro R C a b c d G D sta oe oh ow yh yw stl tok cnt stt val own sv se out ycn ytk ysl ysd yst yva yow yli yV yE rch nds ⟨h1, h2, h3, hX, hY, hV, hD, hM, hS⟩
  have e36 : (qt_ut G 36 D 36) = D := qt_us
  have keep : i_Rel (k + 5) (nI R, nI C, nI a, nI b, nI c, nI d, sta, stl, oe, oh, ow, tok, cnt, stt, val, own, rch, nds, sv, se, out) (nI R, nI C, yh, yw, ycn, ytk, ysl, ysd, yst, yva, yow, yli, yV, yE) := qr_in ⟨h1, h2, h3, hX, hY, hV, hD, hM, hS⟩
  have mX := (hX 36 (by decide)).2
  have mY := (hY 36 (by decide)).2
  rw [e36] at mX mY
  have hD7 := hD.1
  unfold wpX_enter
  refine qx_inS (by omega) (by omega) (fun i => ?_) (fun i => ?_)
  · refine br_f (by decide) ?_
    obtain ⟨r, cc, hr, hc, rfl, rfl⟩ := id i
    have yin : ∀ {post : Int32 → SY → Prop}, (¬ qt_WF D.1 D.2 → post 3 (nI R, nI C, yh, yw, ycn, ytk, ysl, ysd, yst, yva, yow, yli, yV, yE)) → (qt_WF D.1 D.2 → ∀ tok' cnt', qt_MY tok' cnt' (r * 6 + cc) D.1 D.2 → qt_Fr ytk ycn tok' cnt' (r * 6 + cc) → wpY_settle post (nI R, nI C, yh, yw, upd cnt' 36 0, tok', ysl, ysd, yst, yva, yow, yli, yV, yE)) → wpY_enter post (nI R, nI C, yh, yw, ycn, ytk, ysl, ysd, yst, yva, yow, yli, yV, yE) (nI r) (nI cc) := by
      intro post a1 a2
      unfold wpY_enter
      refine qy_inS (by omega) (by omega) (fun _ => br_f (by decide) ⟨8, ?_⟩) (fun z => absurd i z)
      exact qy_en16 mY hD7 (by omega) (by omega) a1 a2 D.1 0 (Nat.zero_add _) (fun j hj => absurd hj (Nat.not_lt_zero j)) 8 (by omega)
    refine qx_wf mX hD7 (fun w => ?_) (fun w => br_t (by decide) (yin (fun _ => ⟨rfl, keep⟩) (fun z => absurd z w)))
    refine br_f (by decide) ?_
    rw [qa_m6, nI_add]
    refine qx_cs (s := 36) (by decide) (by omega) hD7 (by omega) mX (fun tok' cnt' m fr => ?_)
    refine nm_e (yin (fun z => absurd w z) (fun _ tok2 cnt2 m2 fr2 => ?_))
    have hVn : qt_VC R C (qt_ut G (r * 6 + cc) D) := qt_VC_u hV (qt_VD_VF hD) (fun _ => ⟨by omega, by omega, w⟩)
    have hX' : qt_AX 37 tok' (upd cnt' 36 0) (qt_ut (qt_ut G (r * 6 + cc) D) 36 qt_z) := by
      have := qt_AX_0 (d := 36) (qt_AX_d (f := D) hX hD7 m fr)
      rw [qt_uc (by omega), qt_uu] at this
      rw [qt_uc (by omega)]
      exact this
    have hY' : qt_AY 37 tok2 (upd cnt2 36 0) (qt_ut (qt_ut G (r * 6 + cc) D) 36 qt_z) := by
      have := qt_AY_0 (d := 36) (qt_AY_d (f := D) hY hD7 m2 fr2)
      rw [qt_uc (by omega), qt_uu] at this
      rw [qt_uc (by omega)]
      exact this
    exact qy_settle (qt_AY_c hY') hVn (by omega) (by omega) (fun _ _ _ _ _ _ _ _ _ hM' => ⟨rfl, qr_in (G := qt_ut G (r * 6 + cc) D) (D := qt_z) ⟨h1, h2, h3, hX', hY', hVn, ⟨Nat.zero_le _, fun i hi => absurd hi (Nat.not_lt_zero i)⟩, hM', fun z => absurd z (by decide)⟩⟩)
  · refine br_t (by decide) ?_
    unfold wpY_enter
    exact qy_inS (by omega) (by omega) (fun z => absurd z i) (fun _ => br_t (by decide) ⟨rfl, keep⟩)
theorem i_vc_setNumber {k : Nat} {u : SX} {v : SY} (I : i_Rel k u v) (hk : k + 5 ≤ 2562) (v1 : Int32) (v2 : Int32) (v3 : Int32) : wpX_setNumber (fun r u' => wpY_setNumber (fun r' v' => r' = r ∧ i_Rel (k + 5) u' v') v v1 v2 v3) u v1 v2 v3 := by
  refine qr_el (P := fun u v => wpX_setNumber (fun r u' => wpY_setNumber (fun r' v' => r' = r ∧ i_Rel (k + 5) u' v') v v1 v2 v3) u v1 v2 v3) ?_ I
  intro R C a b c d G D sta oe oh ow yh yw stl tok cnt stt val own sv se out ycn ytk ysl ysd yst yva yow yli yV yE rch nds ⟨h1, h2, h3, hX, hY, hV, hD, hM, hS⟩
  have keep : i_Rel (k + 5) (nI R, nI C, nI a, nI b, nI c, nI d, sta, stl, oe, oh, ow, tok, cnt, stt, val, own, rch, nds, sv, se, out) (nI R, nI C, yh, yw, ycn, ytk, ysl, ysd, yst, yva, yow, yli, yV, yE) := qr_in ⟨h1, h2, h3, hX, hY, hV, hD, hM, hS⟩
  refine qx_setN (by omega) (by omega) hX (fun i => ?_) (fun r cc hr hc e1 e2 tok' cnt' hX' => ?_)
  · unfold wpY_setNumber
    exact qy_inS (by omega) (by omega) (fun z => absurd z i) (fun _ => br_t (by decide) ⟨rfl, keep⟩)
  · subst e1 e2
    have hV' : qt_VC R C (qt_ut G (r * 6 + cc) (1, fun _ => qt_put 1 v3)) := qt_VC_n hr hc (by omega) hV
    rw [qt_uc (by omega)] at hX'
    simp (disch := omega) only [wpY_setNumber, nI_add, pk_mul, qa_a1, qa_a2, qa_a3, qa_a4, qa_a5, qa_a6, qa_a7, qa_a8, qa_a56, qa_m6, qa_m7, qa_m8, qa_m56, qa_l2, qa_l37, qa_l2016, qa_in, nI_clamp, forall_eq, true_and, qa_cl0, nI_leI, nI_ltI, nI_eq, not_false_eq_true, pk_sub, qa_s1, qa_s2, qa_s8]
    refine qy_inS (by omega) (by omega) (fun _ => ?_) (fun z => absurd ⟨r, cc, hr, hc, rfl, rfl⟩ z)
    refine br_f (by decide) ?_
    refine qy_put (by omega) (qt_Tf_r (t := fun f => ytk ((r * 6 + cc) * 56 + f)) (fun _ _ => rfl)) (fun tok2 T2 => ?_)
    have hY' : qt_AY 37 tok2 (upd ycn (r * 6 + cc) 1) (qt_ut (qt_ut G (r * 6 + cc) (1, fun _ => qt_put 1 v3)) 36 D) := by
      have := qt_AY_one (s := r * 6 + cc) (x := qt_put 1 v3) (cnt' := upd ycn (r * 6 + cc) 1) hY (by rw [qt_yv_put' (by decide)]; exact T2) pk_us (fun k hk => pk_un hk)
      rw [qt_uc (by omega)] at this
      exact this
    exact qy_settle (qt_AY_c hY') hV' (by omega) (by omega) (fun _ _ _ _ _ _ _ _ _ hM' => ⟨rfl, qr_in (G := qt_ut G (r * 6 + cc) (1, fun _ => qt_put 1 v3)) (D := D) ⟨h1, h2, h3, hX', hY', hV', hD, hM', fun z => absurd z (by decide)⟩⟩)
theorem i_vc_erase {k : Nat} {u : SX} {v : SY} (I : i_Rel k u v) (hk : k + 5 ≤ 2562) (v1 : Int32) (v2 : Int32) : wpX_erase (fun r u' => wpY_erase (fun r' v' => r' = r ∧ i_Rel (k + 5) u' v') v v1 v2) u v1 v2 := by
  refine qr_el (P := fun u v => wpX_erase (fun r u' => wpY_erase (fun r' v' => r' = r ∧ i_Rel (k + 5) u' v') v v1 v2) u v1 v2) ?_ I
  intro R C a b c d G D sta oe oh ow yh yw stl tok cnt stt val own sv se out ycn ytk ysl ysd yst yva yow yli yV yE rch nds ⟨h1, h2, h3, hX, hY, hV, hD, hM, hS⟩
  have keep : i_Rel (k + 5) (nI R, nI C, nI a, nI b, nI c, nI d, sta, stl, oe, oh, ow, tok, cnt, stt, val, own, rch, nds, sv, se, out) (nI R, nI C, yh, yw, ycn, ytk, ysl, ysd, yst, yva, yow, yli, yV, yE) := qr_in ⟨h1, h2, h3, hX, hY, hV, hD, hM, hS⟩
  unfold wpX_erase
  refine qx_inS (by omega) (by omega) (fun i => ?_) (fun i => ?_)
  · refine br_f (by decide) ?_
    obtain ⟨r, cc, hr, hc, rfl, rfl⟩ := id i
    have hV' : qt_VC R C (qt_ut G (r * 6 + cc) qt_z) := qt_VC_z hV
    have hX' : qt_AX 37 tok (upd cnt (r * 6 + cc) 0) (qt_ut (qt_ut G (r * 6 + cc) qt_z) 36 D) := by
      have := qt_AX_0 (d := r * 6 + cc) hX
      rw [qt_uc (by omega)] at this
      exact this
    have hY' : qt_AY 37 ytk (upd ycn (r * 6 + cc) 0) (qt_ut (qt_ut G (r * 6 + cc) qt_z) 36 D) := by
      have := qt_AY_0 (d := r * 6 + cc) hY
      rw [qt_uc (by omega)] at this
      exact this
    simp (disch := omega) only [wpY_erase, nI_add, pk_mul, qa_a1, qa_a2, qa_a3, qa_a4, qa_a5, qa_a6, qa_a7, qa_a8, qa_a56, qa_m6, qa_m7, qa_m8, qa_m56, qa_l2, qa_l37, qa_l2016, qa_in, nI_clamp, forall_eq, true_and, qa_cl0, nI_leI, nI_ltI, nI_eq, not_false_eq_true, pk_sub, qa_s1, qa_s2, qa_s8]
    refine qy_inS (by omega) (by omega) (fun _ => ?_) (fun z => absurd i z)
    refine br_f (by decide) ?_
    exact qy_settle (qt_AY_c hY') hV' (by omega) (by omega) (fun _ _ _ _ _ _ _ _ _ hM' => ⟨rfl, qr_in (G := qt_ut G (r * 6 + cc) qt_z) (D := D) ⟨h1, h2, h3, hX', hY', hV', hD, hM', fun z => absurd z (by decide)⟩⟩)
  · refine br_t (by decide) ?_
    unfold wpY_erase
    exact qy_inS (by omega) (by omega) (fun z => absurd z i) (fun _ => br_t (by decide) ⟨rfl, keep⟩)
end
section
/-! the owed statements: lines, selection, move, copy, fill -/
theorem i_vc_insertLine {k : Nat} {u : SX} {v : SY} (I : i_Rel k u v) (hk : k + 5 ≤ 2562) (v1 : Int32) (v2 : Int32) : wpX_insertLine (fun r u' => wpY_insertLine (fun r' v' => r' = r ∧ i_Rel (k + 5) u' v') v v1 v2) u v1 v2 := by
  refine qr_el (P := fun u v => wpX_insertLine (fun r u' => wpY_insertLine (fun r' v' => r' = r ∧ i_Rel (k + 5) u' v') v v1 v2) u v1 v2) ?_ I
  intro R C a b c d G D sta oe oh ow yh yw stl tok cnt stt val own sv se out ycn ytk ysl ysd yst yva yow yli yV yE rch nds ⟨h1, h2, h3, hX, hY, hV, hD, hM, hS⟩
  have keep : i_Rel (k + 5) (nI R, nI C, nI a, nI b, nI c, nI d, sta, stl, oe, oh, ow, tok, cnt, stt, val, own, rch, nds, sv, se, out) (nI R, nI C, yh, yw, ycn, ytk, ysl, ysd, yst, yva, yow, yli, yV, yE) := qr_in ⟨h1, h2, h3, hX, hY, hV, hD, hM, hS⟩
  by_cases hax : v1 = 0 ∨ v1 = 1
  · obtain ⟨ax, ha, rfl⟩ := qt_ax.mp hax
    refine qx_ins ha (by omega) (by omega) (by omega) (by omega) (qt_out_V ha hV) hX (fun hb => ?_) (fun hb hu => ?_) (fun at' hat e hnu tok' cnt' hX' => ?_)
    · exact qy_ins ha (by omega) (by omega) hY (fun _ => ⟨rfl, keep⟩) (fun z => absurd z hb) (fun a' h e => absurd ⟨a', h, e⟩ hb)
    · exact qy_ins ha (by omega) (by omega) hY (fun z => absurd hb z) (fun _ _ => ⟨rfl, keep⟩) (fun a' h e z => absurd hu z)
    · refine qy_ins ha (by omega) (by omega) hY (fun z => absurd ⟨at', hat, e⟩ z) (fun _ z => absurd z hnu) (fun a' h' e' _ tok2 cnt2 hY' => ?_)
      have hn : qt_sz R C ax ≤ 6 := by unfold qt_sz; split <;> omega
      have hea : a' = at' := by
        have := e'.symm.trans e
        rw [nI_eq (by omega) (by omega)] at this
        exact this
      subst hea
      have hVn := qt_VC_ins (D := D) ha (by omega) (by omega) (by omega) (by omega) hat hV hnu
      have h36 : qt_mc (qt_gro ax (nI a')) (qt_ut G 36 D) (qt_is (qt_ut G 36 D) ax a' (qt_sz R C ax)) 36 = D := by
        unfold qt_mc
        rw [if_neg (by decide), qt_us]
      have hX2 := qt_AX_36 hX' h36
      have hY2 := qt_AY_36 hY' h36
      exact qy_settle (qt_AY_c hY2) hVn (by omega) (by omega) (fun _ _ _ _ _ _ _ _ _ hM' => ⟨rfl, qr_in ⟨h1, h2, h3, hX2, hY2, hVn, hD, hM', fun z => absurd z (by decide)⟩⟩)
  · have n0 : ¬ v1 = 0 := fun z => hax (Or.inl z)
    have n1 : ¬ v1 = 1 := fun z => hax (Or.inr z)
    exact br_f n0 (br_f n1 (qy_insb n0 n1 ⟨rfl, keep⟩))
theorem i_vc_deleteLine {k : Nat} {u : SX} {v : SY} (I : i_Rel k u v) (hk : k + 5 ≤ 2562) (v1 : Int32) (v2 : Int32) : wpX_deleteLine (fun r u' => wpY_deleteLine (fun r' v' => r' = r ∧ i_Rel (k + 5) u' v') v v1 v2) u v1 v2 := by
  refine qr_el (P := fun u v => wpX_deleteLine (fun r u' => wpY_deleteLine (fun r' v' => r' = r ∧ i_Rel (k + 5) u' v') v v1 v2) u v1 v2) ?_ I
  intro R C a b c d G D sta oe oh ow yh yw stl tok cnt stt val own sv se out ycn ytk ysl ysd yst yva yow yli yV yE rch nds ⟨h1, h2, h3, hX, hY, hV, hD, hM, hS⟩
  have keep : i_Rel (k + 5) (nI R, nI C, nI a, nI b, nI c, nI d, sta, stl, oe, oh, ow, tok, cnt, stt, val, own, rch, nds, sv, se, out) (nI R, nI C, yh, yw, ycn, ytk, ysl, ysd, yst, yva, yow, yli, yV, yE) := qr_in ⟨h1, h2, h3, hX, hY, hV, hD, hM, hS⟩
  by_cases hax : v1 = 0 ∨ v1 = 1
  · obtain ⟨ax, ha, rfl⟩ := qt_ax.mp hax
    refine qx_del ha (by omega) (by omega) (by omega) (by omega) (qt_out_V ha hV) hX (fun hb => ?_) (fun at' hat e tok' cnt' hX' => ?_)
    · exact qy_del ha (by omega) (by omega) hY (fun _ => ⟨rfl, keep⟩) (fun a' h e => absurd ⟨a', h, e⟩ hb)
    · refine qy_del ha (by omega) (by omega) hY (fun z => absurd ⟨at', hat, e⟩ z) (fun a' h' e' tok2 cnt2 hY' => ?_)
      have hn : qt_sz R C ax ≤ 6 := by unfold qt_sz; split <;> omega
      have hea : a' = at' := by
        have := e'.symm.trans e
        rw [nI_eq (by omega) (by omega)] at this
        exact this
      subst hea
      have hVn := qt_VC_del (D := D) ha (by omega) (by omega) hat hV
      have h36 : qt_mc (qt_shr ax (nI a')) (qt_ut G 36 D) (qt_ds (qt_ut G 36 D) ax a' (qt_sz R C ax)) 36 = D := by
        unfold qt_mc
        rw [if_neg (by decide), qt_us]
      have hX2 := qt_AX_36 hX' h36
      have hY2 := qt_AY_36 hY' h36
      exact qy_settle (qt_AY_c hY2) hVn (by omega) (by omega) (fun _ _ _ _ _ _ _ _ _ hM' => ⟨rfl, qr_in ⟨h1, h2, h3, hX2, hY2, hVn, hD, hM', fun z => absurd z (by decide)⟩⟩)
  · have n0 : ¬ v1 = 0 := fun z => hax (Or.inl z)
    have n1 : ¬ v1 = 1 := fun z => hax (Or.inr z)
    exact br_f n0 (br_f n1 (qy_delb n0 n1 ⟨rfl, keep⟩))
theorem qt_VC_36 {R C : Nat} {G : Nat → qt_Fm} {D : qt_Fm} (h : qt_VC R C G) : qt_VC R C (qt_ut G 36 D) := fun s hs => by
  rw [qt_un (by omega)]; exact h s hs
theorem qa_inj {a b : Nat} (ha : a < 2 ^ 31) (hb : b < 2 ^ 31) (h : nI a = nI b) : a = b := (nI_eq ha hb).mp h
theorem i_vc_moveTo {k : Nat} {u : SX} {v : SY} (I : i_Rel k u v) (hk : k + 5 ≤ 2562) (v1 : Int32) (v2 : Int32) : wpX_moveTo (fun r u' => wpY_moveTo (fun r' v' => r' = r ∧ i_Rel (k + 5) u' v') v v1 v2) u v1 v2 := by
  refine qr_el (P := fun u v => wpX_moveTo (fun r u' => wpY_moveTo (fun r' v' => r' = r ∧ i_Rel (k + 5) u' v') v v1 v2) u v1 v2) ?_ I
  intro R C a b c d G D sta oe oh ow yh yw stl tok cnt stt val own sv se out ycn ytk ysl ysd yst yva yow yli yV yE rch nds ⟨h1, h2, h3, hX, hY, hV, hD, hM, hS⟩
  have keep : i_Rel (k + 5) (nI R, nI C, nI a, nI b, nI c, nI d, sta, stl, oe, oh, ow, tok, cnt, stt, val, own, rch, nds, sv, se, out) (nI R, nI C, yh, yw, ycn, ytk, ysl, ysd, yst, yva, yow, yli, yV, yE) := qr_in ⟨h1, h2, h3, hX, hY, hV, hD, hM, hS⟩
  obtain ⟨s0, s1, s2, s3⟩ := id h3
  refine qx_mv (by omega) (by omega) (by omega) (by omega) (by omega) (by omega) hX (fun hb => ?_) (fun e1 e2 hf => ?_) (fun row col e1 e2 g1 g2 g3 tok' cnt' hX' => ?_)
  · exact qy_mv s0 s1 s2 s3 (by omega) (by omega) (by omega) (by omega) (by omega) (by omega) hY (qt_VC_36 hV) (fun _ => ⟨rfl, keep⟩) (fun _ _ z => absurd z hb) (fun row col e1 e2 g1 g2 _ => absurd ⟨row, col, e1, e2, g1, g2⟩ hb)
  · exact qy_mv s0 s1 s2 s3 (by omega) (by omega) (by omega) (by omega) (by omega) (by omega) hY (qt_VC_36 hV) (fun z => absurd hf z) (fun _ _ _ => ⟨rfl, keep⟩) (fun row col f1 f2 g1 g2 g3 => absurd ⟨qa_inj (by omega) (by omega) (f1.symm.trans e1), qa_inj (by omega) (by omega) (f2.symm.trans e2)⟩ g3)
  · refine qy_mv s0 s1 s2 s3 (by omega) (by omega) (by omega) (by omega) (by omega) (by omega) hY (qt_VC_36 hV) (fun z => absurd ⟨row, col, e1, e2, g1, g2⟩ z) (fun f1 f2 _ => absurd ⟨qa_inj (by omega) (by omega) (e1.symm.trans f1), qa_inj (by omega) (by omega) (e2.symm.trans f2)⟩ g3) (fun row' col' f1 f2 _ _ _ tok2 cnt2 hY' => ?_)
    · have hr : row' = row := qa_inj (by omega) (by omega) (f1.symm.trans e1)
      have hc : col' = col := qa_inj (by omega) (by omega) (f2.symm.trans e2)
      subst hr hc
      have hVn := qt_VC_mov (D := D) (G := G) (show R ≤ 6 by omega) (show C ≤ 6 by omega) h2.1 h2.2.2.1 h2.2.1 h2.2.2.2 g1 g2 hV
      have h36 : qt_mc (qt_mov (nI a) (nI b) (nI c) (nI d) (nI row' - nI a) (nI col' - nI b)) (qt_ut G 36 D) (qt_mvF (qt_ut G 36 D) a b c d row' col') 36 = D := by
        unfold qt_mc
        rw [if_neg (by decide), qt_us]
      have hX2 := qt_AX_36 hX' h36
      have hY2 := qt_AY_36 hY' h36
      exact qy_settle (qt_AY_c hY2) hVn (by omega) (by omega) (fun _ _ _ _ _ _ _ _ _ hM' => ⟨rfl, qr_in ⟨h1, h2, h3, hX2, hY2, hVn, hD, hM', fun z => absurd z (by decide)⟩⟩)
theorem i_vc_copyTo {k : Nat} {u : SX} {v : SY} (I : i_Rel k u v) (hk : k + 5 ≤ 2562) (v1 : Int32) (v2 : Int32) : wpX_copyTo (fun r u' => wpY_copyTo (fun r' v' => r' = r ∧ i_Rel (k + 5) u' v') v v1 v2) u v1 v2 := by
  refine qr_el (P := fun u v => wpX_copyTo (fun r u' => wpY_copyTo (fun r' v' => r' = r ∧ i_Rel (k + 5) u' v') v v1 v2) u v1 v2) ?_ I
  intro R C a b c d G D sta oe oh ow yh yw stl tok cnt stt val own sv se out ycn ytk ysl ysd yst yva yow yli yV yE rch nds ⟨h1, h2, h3, hX, hY, hV, hD, hM, hS⟩
  have keep : i_Rel (k + 5) (nI R, nI C, nI a, nI b, nI c, nI d, sta, stl, oe, oh, ow, tok, cnt, stt, val, own, rch, nds, sv, se, out) (nI R, nI C, yh, yw, ycn, ytk, ysl, ysd, yst, yva, yow, yli, yV, yE) := qr_in ⟨h1, h2, h3, hX, hY, hV, hD, hM, hS⟩
  obtain ⟨s0, s1, s2, s3⟩ := id h3
  refine qx_cp (by omega) (by omega) (by omega) (by omega) (by omega) (by omega) hX (fun hb => ?_) (fun row col e1 e2 g1 g2 tok' cnt' hX' => ?_)
  · exact qy_cp s0 s1 s2 s3 (by omega) (by omega) (by omega) (by omega) (by omega) (by omega) hY (qt_VC_36 hV) (fun _ => ⟨rfl, keep⟩) (fun row col e1 e2 g1 g2 => absurd ⟨row, col, e1, e2, g1, g2⟩ hb)
  · refine qy_cp s0 s1 s2 s3 (by omega) (by omega) (by omega) (by omega) (by omega) (by omega) hY (qt_VC_36 hV) (fun z => absurd ⟨row, col, e1, e2, g1, g2⟩ z) (fun row' col' f1 f2 _ _ tok2 cnt2 hY' => ?_)
    have hr : row' = row := by
      have := f1.symm.trans e1
      rw [nI_eq (by omega) (by omega)] at this
      exact this
    have hc : col' = col := by
      have := f2.symm.trans e2
      rw [nI_eq (by omega) (by omega)] at this
      exact this
    subst hr hc
    have hVn := qt_VC_cp (D := D) (G := G) (show R ≤ 6 by omega) (show C ≤ 6 by omega) h2.1 h2.2.2.1 h2.2.1 h2.2.2.2 g1 g2 hV
    have h36 : qt_cpF R C (qt_ut G 36 D) a b c d row' col' 36 = D := by
      unfold qt_cpF
      rw [if_neg (fun z => by unfold qt_dst at z; omega), qt_us]
    have hX2 := qt_AX_36 hX' h36
    have hY2 := qt_AY_36 hY' h36
    exact qy_settle (qt_AY_c hY2) hVn (by omega) (by omega) (fun _ _ _ _ _ _ _ _ _ hM' => ⟨rfl, qr_in ⟨h1, h2, h3, hX2, hY2, hVn, hD, hM', fun z => absurd z (by decide)⟩⟩)
theorem i_vc_fill {k : Nat} {u : SX} {v : SY} (I : i_Rel k u v) (hk : k + 5 ≤ 2562) (v1 : Int32) : wpX_fill (fun r u' => wpY_fill (fun r' v' => r' = r ∧ i_Rel (k + 5) u' v') v v1) u v1 := by
  refine qr_el (P := fun u v => wpX_fill (fun r u' => wpY_fill (fun r' v' => r' = r ∧ i_Rel (k + 5) u' v') v v1) u v1) ?_ I
  intro R C a b c d G D sta oe oh ow yh yw stl tok cnt stt val own sv se out ycn ytk ysl ysd yst yva yow yli yV yE rch nds ⟨h1, h2, h3, hX, hY, hV, hD, hM, hS⟩
  have keep : i_Rel (k + 5) (nI R, nI C, nI a, nI b, nI c, nI d, sta, stl, oe, oh, ow, tok, cnt, stt, val, own, rch, nds, sv, se, out) (nI R, nI C, yh, yw, ycn, ytk, ysl, ysd, yst, yva, yow, yli, yV, yE) := qr_in ⟨h1, h2, h3, hX, hY, hV, hD, hM, hS⟩
  obtain ⟨s0, s1, s2, s3⟩ := id h3
  by_cases hax : v1 = 0 ∨ v1 = 1
  · obtain ⟨ax, ha, rfl⟩ := qt_ax.mp hax
    refine qx_fi ha (by omega) (by omega) (by omega) (by omega) (by omega) (by omega) hX (fun tok' cnt' hX' => ?_)
    refine qy_fi ha s0 s1 s2 s3 (by omega) (by omega) (by omega) (by omega) (by omega) (by omega) hY (qt_VC_36 hV) (fun tok2 cnt2 hY' => ?_)
    have hVn := qt_VC_fi (ax := ax) (D := D) (G := G) (show R ≤ 6 by omega) (show C ≤ 6 by omega) h2.1 h2.2.2.1 h2.2.1 h2.2.2.2 hV
    have h36 : qt_flF R C (qt_ut G 36 D) ax a b c d 36 = D := by
      unfold qt_flF
      rw [if_neg (fun z => by unfold qt_sel at z; omega), qt_us]
    have hX2 := qt_AX_36 hX' h36
    have hY2 := qt_AY_36 hY' h36
    exact qy_settle (qt_AY_c hY2) hVn (by omega) (by omega) (fun _ _ _ _ _ _ _ _ _ hM' => ⟨rfl, qr_in ⟨h1, h2, h3, hX2, hY2, hVn, hD, hM', fun z => absurd z (by decide)⟩⟩)
  · have n0 : ¬ v1 = 0 := fun z => hax (Or.inl z)
    have n1 : ¬ v1 = 1 := fun z => hax (Or.inr z)
    exact br_f n0 (br_f n1 (br_f n0 (br_f n1 ⟨rfl, keep⟩)))
theorem i_vc_select {k : Nat} {u : SX} {v : SY} (I : i_Rel k u v) (hk : k + 5 ≤ 2562) (v1 : Int32) (v2 : Int32) (v3 : Int32) (v4 : Int32) : wpX_select (fun r u' => wpY_select (fun r' v' => r' = r ∧ i_Rel (k + 5) u' v') v v1 v2 v3 v4) u v1 v2 v3 v4 := by
  refine qr_el (P := fun u v => wpX_select (fun r u' => wpY_select (fun r' v' => r' = r ∧ i_Rel (k + 5) u' v') v v1 v2 v3 v4) u v1 v2 v3 v4) ?_ I
  intro R C a b c d G D sta oe oh ow yh yw stl tok cnt stt val own sv se out ycn ytk ysl ysd yst yva yow yli yV yE rch nds ⟨h1, h2, h3, hX, hY, hV, hD, hM, hS⟩
  have keep : i_Rel (k + 5) (nI R, nI C, nI a, nI b, nI c, nI d, sta, stl, oe, oh, ow, tok, cnt, stt, val, own, rch, nds, sv, se, out) (nI R, nI C, yh, yw, ycn, ytk, ysl, ysd, yst, yva, yow, yli, yV, yE) := qr_in ⟨h1, h2, h3, hX, hY, hV, hD, hM, hS⟩
  unfold wpX_select
  refine qx_inS (by omega) (by omega) (fun i1 => ?_) (fun i1 => ?_)
  · refine br_f (by decide) ?_
    refine qx_inS (by omega) (by omega) (fun i2 => ?_) (fun i2 => ?_)
    · refine br_f (by decide) ?_
      obtain ⟨r1, c1, hr1, hc1, rfl, rfl⟩ := id i1
      obtain ⟨r2, c2, hr2, hc2, rfl, rfl⟩ := id i2
      -- one end for both sides
      have fin : ∀ (p q s t : Nat) (ysl' : Nat → Int32), p ≤ s → s < R → q ≤ t → t < C → ysl' 0 = nI p → ysl' 1 = nI q → ysl' 2 = nI s → ysl' 3 = nI t → i_Rel (k + 5) (nI R, nI C, nI p, nI q, nI s, nI t, sta, stl, oe, oh, ow, tok, cnt, stt, val, own, rch, nds, sv, se, out) (nI R, nI C, yh, yw, ycn, ytk, ysl', ysd, yst, yva, yow, yli, yV, yE) :=
        fun p q s t ysl' g1 g2 g3 g4 g5 g6 g7 g8 => qr_in ⟨h1, ⟨g1, g2, g3, g4⟩, ⟨g5, g6, g7, g8⟩, hX, hY, hV, hD, hM, hS⟩
      have yin : ∀ {post : Int32 → SY → Prop}, (((nI r2 ≤ nI r1 → (wY_select_36 post (nI r1) (nI c1) (nI r2) (nI c2) (nI r2) 0 (nI R) (nI C) yh yw ycn ytk ysl ysd yst yva yow yli yV yE)) ∧ (¬ nI r2 ≤ nI r1 → (wY_select_36 post (nI r1) (nI c1) (nI r2) (nI c2) (nI r1) 0 (nI R) (nI C) yh yw ycn ytk ysl ysd yst yva yow yli yV yE)))) → wpY_select post (nI R, nI C, yh, yw, ycn, ytk, ysl, ysd, yst, yva, yow, yli, yV, yE) (nI r1) (nI c1) (nI r2) (nI c2) := by
        intro post h
        unfold wpY_select
        refine qy_inS (by omega) (by omega) (fun _ => br_f (by decide) ?_) (fun z => absurd i1 z)
        exact qy_inS (by omega) (by omega) (fun _ => br_f (by decide) h) (fun z => absurd i2 z)
      by_cases e1 : nI r2 ≤ nI r1
      · have e1' := e1
        rw [nI_leI (by omega) (by omega)] at e1'
        refine br_t e1 ?_
        unfold wX_select_32
        refine br_t e1 ?_
        unfold wX_select_46
        by_cases e2 : nI c2 ≤ nI c1
        · have e2' := e2
          rw [nI_leI (by omega) (by omega)] at e2'
          refine br_t e2 ?_
          unfold wX_select_62
          refine br_t e2 (yin (br_t e1 ?_))
          unfold wY_select_36
          refine ⟨vp_in_nI (n := 0) (by decide) (by decide), nm_e (br_t e1 ?_)⟩
          unfold wY_select_52
          refine ⟨vp_in_nI (n := 2) (by decide) (by decide), nm_e (br_t e2 ?_)⟩
          unfold wY_select_70
          exact ⟨vp_in_nI (n := 1) (by decide) (by decide), nm_e (br_t e2 (nm_e ⟨rfl, fin r2 c2 r1 c1 _ e1' hr1 e2' hc1 rfl rfl rfl rfl⟩))⟩
        · have e2' := e2
          rw [nI_leI (by omega) (by omega)] at e2'
          refine br_f e2 ?_
          unfold wX_select_62
          refine br_f e2 (yin (br_t e1 ?_))
          unfold wY_select_36
          refine ⟨vp_in_nI (n := 0) (by decide) (by decide), nm_e (br_t e1 ?_)⟩
          unfold wY_select_52
          refine ⟨vp_in_nI (n := 2) (by decide) (by decide), nm_e (br_f e2 ?_)⟩
          unfold wY_select_70
          exact ⟨vp_in_nI (n := 1) (by decide) (by decide), nm_e (br_f e2 (nm_e ⟨rfl, fin r2 c1 r1 c2 _ e1' hr1 (by omega) hc2 rfl rfl rfl rfl⟩))⟩
      · have e1' := e1
        rw [nI_leI (by omega) (by omega)] at e1'
        refine br_f e1 ?_
        unfold wX_select_32
        refine br_f e1 ?_
        unfold wX_select_46
        by_cases e2 : nI c2 ≤ nI c1
        · have e2' := e2
          rw [nI_leI (by omega) (by omega)] at e2'
          refine br_t e2 ?_
          unfold wX_select_62
          refine br_t e2 (yin (br_f e1 ?_))
          unfold wY_select_36
          refine ⟨vp_in_nI (n := 0) (by decide) (by decide), nm_e (br_f e1 ?_)⟩
          unfold wY_select_52
          refine ⟨vp_in_nI (n := 2) (by decide) (by decide), nm_e (br_t e2 ?_)⟩
          unfold wY_select_70
          exact ⟨vp_in_nI (n := 1) (by decide) (by decide), nm_e (br_t e2 (nm_e ⟨rfl, fin r1 c2 r2 c1 _ (by omega) hr2 e2' hc1 rfl rfl rfl rfl⟩))⟩
        · have e2' := e2
          rw [nI_leI (by omega) (by omega)] at e2'
          refine br_f e2 ?_
          unfold wX_select_62
          refine br_f e2 (yin (br_f e1 ?_))
          unfold wY_select_36
          refine ⟨vp_in_nI (n := 0) (by decide) (by decide), nm_e (br_f e1 ?_)⟩
          unfold wY_select_52
          refine ⟨vp_in_nI (n := 2) (by decide) (by decide), nm_e (br_f e2 ?_)⟩
          unfold wY_select_70
          exact ⟨vp_in_nI (n := 1) (by decide) (by decide), nm_e (br_f e2 (nm_e ⟨rfl, fin r1 c1 r2 c2 _ (by omega) hr2 (by omega) hc2 rfl rfl rfl rfl⟩))⟩
    · refine br_t (by decide) ?_
      unfold wpY_select
      refine qy_inS (by omega) (by omega) (fun _ => br_f (by decide) ?_) (fun z => absurd i1 z)
      exact qy_inS (by omega) (by omega) (fun z => absurd z i2) (fun _ => br_t (by decide) ⟨rfl, keep⟩)
  · refine br_t (by decide) ?_
    unfold wpY_select
    exact qy_inS (by omega) (by omega) (fun z => absurd z i1) (fun _ => br_t (by decide) ⟨rfl, keep⟩)
end
section
/-! the owed statements: what only asks -/
theorem i_vc_kindAt {k : Nat} {u : SX} {v : SY} (I : i_Rel k u v) (hk : k + 5 ≤ 2562) (v1 : Int32) (v2 : Int32) : wpX_kindAt (fun r => wpY_kindAt (fun r' => r' = r ∧ i_Rel (k + 5) u v) v v1 v2) u v1 v2 := by
  refine qr_el (P := fun u v => wpX_kindAt (fun r => wpY_kindAt (fun r' => r' = r ∧ i_Rel (k + 5) u v) v v1 v2) u v1 v2) ?_ I
  intro R C a b c d G D sta oe oh ow yh yw stl tok cnt stt val own sv se out ycn ytk ysl ysd yst yva yow yli yV yE rch nds ⟨h1, h2, h3, hX, hY, hV, hD, hM, hS⟩
  have keep : i_Rel (k + 5) (nI R, nI C, nI a, nI b, nI c, nI d, sta, stl, oe, oh, ow, tok, cnt, stt, val, own, rch, nds, sv, se, out) (nI R, nI C, yh, yw, ycn, ytk, ysl, ysd, yst, yva, yow, yli, yV, yE) := qr_in ⟨h1, h2, h3, hX, hY, hV, hD, hM, hS⟩
  unfold wpX_kindAt
  refine qx_inS (by omega) (by omega) (fun i => ?_) (fun i => ?_)
  · refine br_f (by decide) ?_
    obtain ⟨r, cc, hr, hc, rfl, rfl⟩ := id i
    have A := qt_AX_c hX (r * 6 + cc) (by omega)
    have B := qt_AY_c hY (r * 6 + cc) (by omega)
    have B1 : ycn (r * 6 + cc) = nI (G (r * 6 + cc)).1 := B.2.1
    have B7 := B.1
    rw [qa_m6, nI_add]
    refine qx_kind A.2 (by omega) A.1 ?_
    simp (disch := omega) only [wpY_kindAt, B1, qa_eqr0, nI_add, pk_mul, qa_a1, qa_a2, qa_a3, qa_a4, qa_a5, qa_a6, qa_a7, qa_a8, qa_a56, qa_m6, qa_m7, qa_m8, qa_m56, qa_l2, qa_l37, qa_l2016, qa_in, nI_clamp, forall_eq, true_and, qa_cl0, nI_leI, nI_ltI, nI_eq, not_false_eq_true, pk_sub, qa_s1, qa_s2, qa_s8]
    refine qy_inS (by omega) (by omega) (fun _ => br_f (by decide) ?_) (fun z => absurd i z)
    by_cases e0 : (G (r * 6 + cc)).1 = 0
    · exact br_t e0 ⟨(qt_kd_0.mpr e0).symm, keep⟩
    · refine br_f e0 ?_
      refine qy_arr B.2 (by omega) B.1 (fun z => br_f (by decide) ⟨(qt_kd_ar.mpr z).symm, keep⟩) (fun z => br_t (by decide) ⟨?_, keep⟩)
      unfold qt_kd
      rw [if_neg e0, if_neg (fun y => z ⟨by omega, y⟩)]
  · refine br_t (by decide) ?_
    unfold wpY_kindAt
    exact qy_inS (by omega) (by omega) (fun z => absurd z i) (fun _ => br_t (by decide) ⟨rfl, keep⟩)
theorem i_vc_statusAt {k : Nat} {u : SX} {v : SY} (I : i_Rel k u v) (hk : k + 5 ≤ 2562) (v1 : Int32) (v2 : Int32) : wpX_statusAt (fun r u' => wpY_statusAt (fun r' => r' = r ∧ i_Rel (k + 5) u' v) v v1 v2) u v1 v2 := by
  refine qr_el (P := fun u v => wpX_statusAt (fun r u' => wpY_statusAt (fun r' => r' = r ∧ i_Rel (k + 5) u' v) v v1 v2) u v1 v2) ?_ I
  intro R C a b c d G D sta oe oh ow yh yw stl tok cnt stt val own sv se out ycn ytk ysl ysd yst yva yow yli yV yE rch nds ⟨h1, h2, h3, hX, hY, hV, hD, hM, hS⟩
  have keep : i_Rel (k + 5) (nI R, nI C, nI a, nI b, nI c, nI d, sta, stl, oe, oh, ow, tok, cnt, stt, val, own, rch, nds, sv, se, out) (nI R, nI C, yh, yw, ycn, ytk, ysl, ysd, yst, yva, yow, yli, yV, yE) := qr_in ⟨h1, h2, h3, hX, hY, hV, hD, hM, hS⟩
  unfold wpX_statusAt
  refine qx_inS (by omega) (by omega) (fun i => ?_) (fun i => ?_)
  · refine br_f (by decide) ?_
    obtain ⟨r, cc, hr, hc, rfl, rfl⟩ := id i
    have hin : qs_sh R C (r * 6 + cc) := by unfold qs_sh; omega
    refine qx_refresh (qt_AX_c hX) hV (by omega) (by omega) hS (fun stl' oe' oh' ow' stt' val' own' rch' nds' sv' se' out' hM' => ?_)
    have keep' : i_Rel (k + 5) (nI R, nI C, nI a, nI b, nI c, nI d, 0, stl', oe', oh', ow', tok, cnt, stt', val', own', rch', nds', sv', se', out') (nI R, nI C, yh, yw, ycn, ytk, ysl, ysd, yst, yva, yow, yli, yV, yE) := qr_in ⟨h1, h2, h3, hX, hY, hV, hD, hM, fun _ => hM'⟩
    have x1 := hM' (r * 6 + cc) (by omega) hin
    have y1 := hM (r * 6 + cc) (by omega) hin
    have yin : ∀ {post : Int32 → Prop}, post (yst (r * 6 + cc)) → wpY_statusAt post (nI R, nI C, yh, yw, ycn, ytk, ysl, ysd, yst, yva, yow, yli, yV, yE) (nI r) (nI cc) := by
      intro post h
      simp (disch := omega) only [wpY_statusAt, nI_add, pk_mul, qa_a1, qa_a2, qa_a3, qa_a4, qa_a5, qa_a6, qa_a7, qa_a8, qa_a56, qa_m6, qa_m7, qa_m8, qa_m56, qa_l2, qa_l37, qa_l2016, qa_in, nI_clamp, forall_eq, true_and, qa_cl0, nI_leI, nI_ltI, nI_eq, not_false_eq_true, pk_sub, qa_s1, qa_s2, qa_s8]
      exact qy_inS (by omega) (by omega) (fun _ => br_f (by decide) h) (fun z => absurd i z)
    rw [qa_m6, nI_add, nI_clamp (by omega)]
    exact ⟨vp_in_nI (by omega) (by decide), yin ⟨y1.2.1.trans x1.2.1.symm, keep'⟩⟩
  · refine br_t (by decide) ?_
    unfold wpY_statusAt
    exact qy_inS (by omega) (by omega) (fun z => absurd z i) (fun _ => br_t (by decide) ⟨rfl, keep⟩)
theorem i_vc_valueAt {k : Nat} {u : SX} {v : SY} (I : i_Rel k u v) (hk : k + 5 ≤ 2562) (v1 : Int32) (v2 : Int32) : wpX_valueAt (fun r u' => wpY_valueAt (fun r' => r' = r ∧ i_Rel (k + 5) u' v) v v1 v2) u v1 v2 := by
  refine qr_el (P := fun u v => wpX_valueAt (fun r u' => wpY_valueAt (fun r' => r' = r ∧ i_Rel (k + 5) u' v) v v1 v2) u v1 v2) ?_ I
  intro R C a b c d G D sta oe oh ow yh yw stl tok cnt stt val own sv se out ycn ytk ysl ysd yst yva yow yli yV yE rch nds ⟨h1, h2, h3, hX, hY, hV, hD, hM, hS⟩
  have keep : i_Rel (k + 5) (nI R, nI C, nI a, nI b, nI c, nI d, sta, stl, oe, oh, ow, tok, cnt, stt, val, own, rch, nds, sv, se, out) (nI R, nI C, yh, yw, ycn, ytk, ysl, ysd, yst, yva, yow, yli, yV, yE) := qr_in ⟨h1, h2, h3, hX, hY, hV, hD, hM, hS⟩
  unfold wpX_valueAt
  refine qx_inS (by omega) (by omega) (fun i => ?_) (fun i => ?_)
  · refine br_f (by decide) ?_
    obtain ⟨r, cc, hr, hc, rfl, rfl⟩ := id i
    have hin : qs_sh R C (r * 6 + cc) := by unfold qs_sh; omega
    refine qx_refresh (qt_AX_c hX) hV (by omega) (by omega) hS (fun stl' oe' oh' ow' stt' val' own' rch' nds' sv' se' out' hM' => ?_)
    have keep' : i_Rel (k + 5) (nI R, nI C, nI a, nI b, nI c, nI d, 0, stl', oe', oh', ow', tok, cnt, stt', val', own', rch', nds', sv', se', out') (nI R, nI C, yh, yw, ycn, ytk, ysl, ysd, yst, yva, yow, yli, yV, yE) := qr_in ⟨h1, h2, h3, hX, hY, hV, hD, hM, fun _ => hM'⟩
    have x1 := hM' (r * 6 + cc) (by omega) hin
    have y1 := hM (r * 6 + cc) (by omega) hin
    have yin : ∀ {post : Int32 → Prop}, post (yva (r * 6 + cc)) → wpY_valueAt post (nI R, nI C, yh, yw, ycn, ytk, ysl, ysd, yst, yva, yow, yli, yV, yE) (nI r) (nI cc) := by
      intro post h
      simp (disch := omega) only [wpY_valueAt, nI_add, pk_mul, qa_a1, qa_a2, qa_a3, qa_a4, qa_a5, qa_a6, qa_a7, qa_a8, qa_a56, qa_m6, qa_m7, qa_m8, qa_m56, qa_l2, qa_l37, qa_l2016, qa_in, nI_clamp, forall_eq, true_and, qa_cl0, nI_leI, nI_ltI, nI_eq, not_false_eq_true, pk_sub, qa_s1, qa_s2, qa_s8]
      exact qy_inS (by omega) (by omega) (fun _ => br_f (by decide) h) (fun z => absurd i z)
    rw [qa_m6, nI_add, nI_clamp (by omega)]
    exact ⟨vp_in_nI (by omega) (by decide), yin ⟨y1.2.2.1.trans x1.2.2.1.symm, keep'⟩⟩
  · refine br_t (by decide) ?_
    unfold wpY_valueAt
    exact qy_inS (by omega) (by omega) (fun z => absurd z i) (fun _ => br_t (by decide) ⟨rfl, keep⟩)
theorem qs_fin_O {R C : Nat} {G : Nat → qt_Fm} : qs_O (qs_fin R C G) := qs_it_O qs_O0 36
theorem qs_own {o : Nat} (ho : o ≤ 36) {A B : Prop} (h0 : qs_yo o = -1 → B) (h1 : ∀ z, qs_yo o = z → z = ((qs_xo o / 6) * 8) + (qs_xo o - qs_xo o / 6 * 6) → A) : (0 ≤ qs_xo o → A) ∧ (¬ 0 ≤ qs_xo o → B) := by
  by_cases z : o = 0
  · have e : qs_xo o = -1 := by unfold qs_xo; rw [if_pos z]
    have e2 : qs_yo o = -1 := by unfold qs_yo; rw [if_pos z]
    rw [e]
    exact br_f (by decide) (h0 e2)
  · have e : qs_xo o = nI (o - 1) := by unfold qs_xo; rw [if_neg z]
    have e2 : qs_yo o = nI ((o - 1) / 6 * 8 + (o - 1) % 6) := by unfold qs_yo; rw [if_neg z]
    refine br_t (by rw [e]; exact nI_pos' (by omega)) (h1 _ e2 ?_)
    rw [e, qa_rem6 (by omega), qa_div6 (by omega), qa_m8, nI_add]
theorem i_vc_ownerAt {k : Nat} {u : SX} {v : SY} (I : i_Rel k u v) (hk : k + 5 ≤ 2562) (v1 : Int32) (v2 : Int32) : wpX_ownerAt (fun r u' => wpY_ownerAt (fun r' => r' = r ∧ i_Rel (k + 5) u' v) v v1 v2) u v1 v2 := by
  refine qr_el (P := fun u v => wpX_ownerAt (fun r u' => wpY_ownerAt (fun r' => r' = r ∧ i_Rel (k + 5) u' v) v v1 v2) u v1 v2) ?_ I
  intro R C a b c d G D sta oe oh ow yh yw stl tok cnt stt val own sv se out ycn ytk ysl ysd yst yva yow yli yV yE rch nds ⟨h1, h2, h3, hX, hY, hV, hD, hM, hS⟩
  have keep : i_Rel (k + 5) (nI R, nI C, nI a, nI b, nI c, nI d, sta, stl, oe, oh, ow, tok, cnt, stt, val, own, rch, nds, sv, se, out) (nI R, nI C, yh, yw, ycn, ytk, ysl, ysd, yst, yva, yow, yli, yV, yE) := qr_in ⟨h1, h2, h3, hX, hY, hV, hD, hM, hS⟩
  unfold wpX_ownerAt
  refine qx_inS (by omega) (by omega) (fun i => ?_) (fun i => ?_)
  · refine br_f (by decide) ?_
    obtain ⟨r, cc, hr, hc, rfl, rfl⟩ := id i
    have hin : qs_sh R C (r * 6 + cc) := by unfold qs_sh; omega
    refine qx_refresh (qt_AX_c hX) hV (by omega) (by omega) hS (fun stl' oe' oh' ow' stt' val' own' rch' nds' sv' se' out' hM' => ?_)
    have keep' : i_Rel (k + 5) (nI R, nI C, nI a, nI b, nI c, nI d, 0, stl', oe', oh', ow', tok, cnt, stt', val', own', rch', nds', sv', se', out') (nI R, nI C, yh, yw, ycn, ytk, ysl, ysd, yst, yva, yow, yli, yV, yE) := qr_in ⟨h1, h2, h3, hX, hY, hV, hD, hM, fun _ => hM'⟩
    have x1 := hM' (r * 6 + cc) (by omega) hin
    have y1 := hM (r * 6 + cc) (by omega) hin
    have yin : ∀ {post : Int32 → Prop}, post (yow (r * 6 + cc)) → wpY_ownerAt post (nI R, nI C, yh, yw, ycn, ytk, ysl, ysd, yst, yva, yow, yli, yV, yE) (nI r) (nI cc) := by
      intro post h
      simp (disch := omega) only [wpY_ownerAt, nI_add, pk_mul, qa_a1, qa_a2, qa_a3, qa_a4, qa_a5, qa_a6, qa_a7, qa_a8, qa_a56, qa_m6, qa_m7, qa_m8, qa_m56, qa_l2, qa_l37, qa_l2016, qa_in, nI_clamp, forall_eq, true_and, qa_cl0, nI_leI, nI_ltI, nI_eq, not_false_eq_true, pk_sub, qa_s1, qa_s2, qa_s8]
      exact qy_inS (by omega) (by omega) (fun _ => br_f (by decide) h) (fun z => absurd i z)
    rw [qa_m6, nI_add, nI_clamp (by omega)]
    refine ⟨vp_in_nI (by omega) (by decide), nm_r x1.2.2.2 ?_⟩
    exact qs_own (qs_fin_O _) (fun e => yin ⟨y1.2.2.2.trans e, keep'⟩) (fun z e1 e2 => ⟨qa_n6, qa_n6, yin ⟨(y1.2.2.2.trans e1).trans e2, keep'⟩⟩)
  · refine br_t (by decide) ?_
    unfold wpY_ownerAt
    exact qy_inS (by omega) (by omega) (fun z => absurd z i) (fun _ => br_t (by decide) ⟨rfl, keep⟩)
theorem i_vc_tokenCount {k : Nat} {u : SX} {v : SY} (I : i_Rel k u v) (hk : k + 5 ≤ 2562) (v1 : Int32) (v2 : Int32) : wpX_tokenCount (fun r => wpY_tokenCount (fun r' => r' = r ∧ i_Rel (k + 5) u v) v v1 v2) u v1 v2 := by
  refine qr_el (P := fun u v => wpX_tokenCount (fun r => wpY_tokenCount (fun r' => r' = r ∧ i_Rel (k + 5) u v) v v1 v2) u v1 v2) ?_ I
  intro R C a b c d G D sta oe oh ow yh yw stl tok cnt stt val own sv se out ycn ytk ysl ysd yst yva yow yli yV yE rch nds ⟨h1, h2, h3, hX, hY, hV, hD, hM, hS⟩
  have keep : i_Rel (k + 5) (nI R, nI C, nI a, nI b, nI c, nI d, sta, stl, oe, oh, ow, tok, cnt, stt, val, own, rch, nds, sv, se, out) (nI R, nI C, yh, yw, ycn, ytk, ysl, ysd, yst, yva, yow, yli, yV, yE) := qr_in ⟨h1, h2, h3, hX, hY, hV, hD, hM, hS⟩
  have ec : ∀ s, s < 37 → ycn s = cnt s := fun s hs => (hY s hs).2.1.trans (hX s hs).2.1.symm
  unfold wpX_tokenCount
  by_cases e : v1 = -1
  · exact br_t e (br_t e ⟨ec 36 (by decide), keep⟩)
  · refine br_f e ?_
    refine qx_inS (by omega) (by omega) (fun i => ?_) (fun i => ?_)
    · refine br_f (by decide) ?_
      obtain ⟨r, cc, hr, hc, rfl, rfl⟩ := id i
      rw [qa_m6, nI_add, nI_clamp (by omega)]
      refine ⟨vp_in_nI (by omega) (by decide), ?_⟩
      simp (disch := omega) only [wpY_tokenCount, nI_add, pk_mul, qa_a1, qa_a2, qa_a3, qa_a4, qa_a5, qa_a6, qa_a7, qa_a8, qa_a56, qa_m6, qa_m7, qa_m8, qa_m56, qa_l2, qa_l37, qa_l2016, qa_in, nI_clamp, forall_eq, true_and, qa_cl0, nI_leI, nI_ltI, nI_eq, not_false_eq_true, pk_sub, qa_s1, qa_s2, qa_s8]
      exact br_f e (qy_inS (by omega) (by omega) (fun _ => br_f (by decide) ⟨ec _ (by omega), keep⟩) (fun z => absurd i z))
    · exact br_t (by decide) (br_f e (qy_inS (by omega) (by omega) (fun z => absurd z i) (fun _ => br_t (by decide) ⟨rfl, keep⟩)))
theorem qr_field {R C : Nat} {t : Nat → Int32} (h : qt_VT R C t) (h0 : t 0 = 2) {f : Nat} (h5 : 5 ≤ f) (h8 : f < 8) : t f = 0 := by
  rcases h with h | ⟨h, -⟩ | ⟨-, ⟨-, h⟩ | ⟨-, h⟩⟩
  · rw [h0] at h; exact absurd h (by decide)
  · rw [h0] at h; exact absurd h (by decide)
  · exact h f (by omega) h8
  · obtain ⟨r, c, m, -, -, -, -, -, -, e5, e6, e7⟩ := qt_LV_ref' h h0
    match f, h5, h8 with
    | 5, _, _ => exact e5
    | 6, _, _ => exact e6
    | 7, _, _ => exact e7
theorem i_vc_tokenField {k : Nat} {u : SX} {v : SY} (I : i_Rel k u v) (hk : k + 5 ≤ 2562) (v1 : Int32) (v2 : Int32) (v3 : Int32) (v4 : Int32) : wpX_tokenField (fun r => wpY_tokenField (fun r' => r' = r ∧ i_Rel (k + 5) u v) v v1 v2 v3 v4) u v1 v2 v3 v4 := by
  refine qr_el (P := fun u v => wpX_tokenField (fun r => wpY_tokenField (fun r' => r' = r ∧ i_Rel (k + 5) u v) v v1 v2 v3 v4) u v1 v2 v3 v4) ?_ I
  intro R C a b c d G D sta oe oh ow yh yw stl tok cnt stt val own sv se out ycn ytk ysl ysd yst yva yow yli yV yE rch nds ⟨h1, h2, h3, hX, hY, hV, hD, hM, hS⟩
  have keep : i_Rel (k + 5) (nI R, nI C, nI a, nI b, nI c, nI d, sta, stl, oe, oh, ow, tok, cnt, stt, val, own, rch, nds, sv, se, out) (nI R, nI C, yh, yw, ycn, ytk, ysl, ysd, yst, yva, yow, yli, yV, yE) := qr_in ⟨h1, h2, h3, hX, hY, hV, hD, hM, hS⟩
  have hVall : ∀ s, s < 37 → ∀ i, i < (qt_ut G 36 D s).1 → qt_VT R C ((qt_ut G 36 D s).2 i) := by
    intro s hs i hi
    by_cases e : s = 36
    · subst e
      rw [qt_us] at hi ⊢
      exact (hD.2 i hi).1
    · rw [qt_un e] at hi ⊢
      exact (hV s (by omega)).1.2 i hi
  -- the slot found, both sides
  have both : ∀ s, s < 37 → wX_tokenField_28 (fun r => wY_tokenField_24 (fun r' => r' = r ∧ i_Rel (k + 5) (nI R, nI C, nI a, nI b, nI c, nI d, sta, stl, oe, oh, ow, tok, cnt, stt, val, own, rch, nds, sv, se, out) (nI R, nI C, yh, yw, ycn, ytk, ysl, ysd, yst, yva, yow, yli, yV, yE)) v3 v4 (ycn s) (nI s) (nI R) (nI C) yh yw ycn ytk ysl ysd yst yva yow yli yV yE) v3 v4 (nI s) (nI R) (nI C) (nI a) (nI b) (nI c) (nI d) sta stl oe oh ow tok cnt stt val own rch nds sv se out := by
    intro s hs
    have A := hX s hs
    have B := hY s hs
    have hVs := hVall s hs
    generalize qt_ut G 36 D s = f at A B hVs
    have A1 : cnt s = nI f.1 := A.2.1
    have B1 : ycn s = nI f.1 := B.2.1
    have A7 := A.1
    rw [B1]
    unfold wX_tokenField_28 wY_tokenField_24
    by_cases n0 : v3 < 0
    · exact br_t n0 (br_t n0 ⟨rfl, keep⟩)
    obtain ⟨i, hi, rfl⟩ := nI_of n0
    refine br_f n0 ⟨vp_in_nI (by omega) (by decide), ?_⟩
    rw [nI_clamp (by omega), A1, nI_leI (by omega) hi]
    by_cases c1 : f.1 ≤ i
    · exact br_t c1 (br_f n0 (br_t c1 ⟨rfl, keep⟩))
    refine br_f c1 ?_
    by_cases n4 : v4 < 0
    · exact br_t n4 (br_f n0 (br_f c1 (br_t n4 ⟨rfl, keep⟩)))
    obtain ⟨g, hg, rfl⟩ := nI_of n4
    refine br_f n4 ?_
    rw [qa_ler7 hg]
    by_cases c7 : g ≤ 7
    · refine br_t c7 ?_
      refine qx_base ?_
      rw [nI_add, nI_clamp (by omega)]
      refine ⟨vp_in_nI (by omega) (by decide), ?_⟩
      refine br_f n0 (br_f c1 (br_f n4 (br_t c7 ?_)))
      have hx := A.2.2 i (by omega) g (by omega)
      have hy := B.2.2 i (by omega) g (by omega)
      have hy0 : ytk (s * 56 + i * 8) = f.2 i 0 := (B.2.2 i (by omega) 0 (by decide)).trans (qt_yv_lo (by decide))
      rw [hx]
      have hv := hVs i (by omega)
      simp (disch := omega) only [wY_tokenField_79, hy0, hy, qa_ler4, nI_add, pk_mul, qa_a1, qa_a2, qa_a3, qa_a4, qa_a5, qa_a6, qa_a7, qa_a8, qa_a56, qa_m6, qa_m7, qa_m8, qa_m56, qa_l2, qa_l37, qa_l2016, qa_in, nI_clamp, forall_eq, true_and, qa_cl0, nI_leI, nI_ltI, nI_eq, not_false_eq_true, pk_sub, qa_s1, qa_s2, qa_s8]
      by_cases e2 : f.2 i 0 = 2
      · refine br_t e2 ?_
        by_cases e4 : g ≤ 4
        · exact br_t e4 ⟨qt_yv_lo (by omega), keep⟩
        · exact br_f e4 ⟨(qr_field hv e2 (by omega) (by omega)).symm, keep⟩
      · exact br_f e2 ⟨by rw [qt_yvn e2], keep⟩
    · exact br_f c7 (br_f n0 (br_f c1 (br_f n4 (br_f c7 ⟨rfl, keep⟩))))
  unfold wpX_tokenField
  by_cases e : v1 = -1
  · refine br_t e ?_
    have := both 36 (by decide)
    have yc' : ∀ {post : Int32 → Prop}, wY_tokenField_24 post v3 v4 (ycn 36) (nI 36) (nI R) (nI C) yh yw ycn ytk ysl ysd yst yva yow yli yV yE → wpY_tokenField post (nI R, nI C, yh, yw, ycn, ytk, ysl, ysd, yst, yva, yow, yli, yV, yE) v1 v2 v3 v4 := by
      intro post h
      exact br_t e (br_t e h)
    have e36 : (36 : Int32) = nI 36 := rfl
    rw [e36]
    have mono : ∀ {p q : Int32 → Prop}, (∀ r, p r → q r) → wX_tokenField_28 p v3 v4 (nI 36) (nI R) (nI C) (nI a) (nI b) (nI c) (nI d) sta stl oe oh ow tok cnt stt val own rch nds sv se out → wX_tokenField_28 q v3 v4 (nI 36) (nI R) (nI C) (nI a) (nI b) (nI c) (nI d) sta stl oe oh ow tok cnt stt val own rch nds sv se out := by
      intro p q hpq h
      unfold wX_tokenField_28 at h ⊢
      exact ⟨fun z => hpq _ (h.1 z), fun z => ⟨(h.2 z).1, fun y => hpq _ ((h.2 z).2.1 y), fun y => ⟨fun w => hpq _ (((h.2 z).2.2 y).1 w), fun w => ⟨fun t => ⟨((((h.2 z).2.2 y).2 w).1 t).1, hpq _ ((((h.2 z).2.2 y).2 w).1 t).2⟩, fun t => hpq _ ((((h.2 z).2.2 y).2 w).2 t)⟩⟩⟩⟩
    exact mono (fun r h => yc' h) this
  · refine br_f e ?_
    refine qx_inS (by omega) (by omega) (fun i => ?_) (fun i => ?_)
    · refine br_f (by decide) ?_
      obtain ⟨r, cc, hr, hc, rfl, rfl⟩ := id i
      rw [qa_m6, nI_add]
      refine nm_e ?_
      have := both (r * 6 + cc) (by omega)
      have yc2 : ∀ {post : Int32 → Prop}, wY_tokenField_24 post v3 v4 (ycn (r * 6 + cc)) (nI (r * 6 + cc)) (nI R) (nI C) yh yw ycn ytk ysl ysd yst yva yow yli yV yE → wpY_tokenField post (nI R, nI C, yh, yw, ycn, ytk, ysl, ysd, yst, yva, yow, yli, yV, yE) (nI r) (nI cc) v3 v4 := by
        intro post h
        refine br_f e ?_
        refine qy_inS (by omega) (by omega) (fun _ => br_f (by decide) ?_) (fun z => absurd i z)
        rw [qa_m6, nI_add, nI_clamp (by omega)]
        exact ⟨vp_in_nI (by omega) (by decide), br_f e h⟩
      have mono : ∀ {p q : Int32 → Prop}, (∀ r, p r → q r) → wX_tokenField_28 p v3 v4 (nI (r * 6 + cc)) (nI R) (nI C) (nI a) (nI b) (nI c) (nI d) sta stl oe oh ow tok cnt stt val own rch nds sv se out → wX_tokenField_28 q v3 v4 (nI (r * 6 + cc)) (nI R) (nI C) (nI a) (nI b) (nI c) (nI d) sta stl oe oh ow tok cnt stt val own rch nds sv se out := by
        intro p q hpq h
        unfold wX_tokenField_28 at h ⊢
        exact ⟨fun z => hpq _ (h.1 z), fun z => ⟨(h.2 z).1, fun y => hpq _ ((h.2 z).2.1 y), fun y => ⟨fun w => hpq _ (((h.2 z).2.2 y).1 w), fun w => ⟨fun t => ⟨((((h.2 z).2.2 y).2 w).1 t).1, hpq _ ((((h.2 z).2.2 y).2 w).1 t).2⟩, fun t => hpq _ ((((h.2 z).2.2 y).2 w).2 t)⟩⟩⟩⟩
      exact mono (fun r h => yc2 h) this
    · refine br_t (by decide) ?_
      refine br_f e ?_
      refine qy_inS (by omega) (by omega) (fun z => absurd z i) (fun _ => br_t (by decide) (br_f e ?_))
      unfold wY_tokenField_24
      by_cases n0 : v3 < 0
      · exact br_t n0 ⟨rfl, keep⟩
      · exact br_f n0 (br_t (Int32.not_lt.mp (qa_neg1 n0)) ⟨rfl, keep⟩)
theorem i_vc_selection {k : Nat} {u : SX} {v : SY} (I : i_Rel k u v) (hk : k + 5 ≤ 2562) (v1 : Int32) : wpX_selection (fun r => wpY_selection (fun r' => r' = r ∧ i_Rel (k + 5) u v) v v1) u v1 := by
  refine qr_el (P := fun u v => wpX_selection (fun r => wpY_selection (fun r' => r' = r ∧ i_Rel (k + 5) u v) v v1) u v1) ?_ I
  intro R C a b c d G D sta oe oh ow yh yw stl tok cnt stt val own sv se out ycn ytk ysl ysd yst yva yow yli yV yE rch nds ⟨h1, h2, h3, hX, hY, hV, hD, hM, hS⟩
  have keep : i_Rel (k + 5) (nI R, nI C, nI a, nI b, nI c, nI d, sta, stl, oe, oh, ow, tok, cnt, stt, val, own, rch, nds, sv, se, out) (nI R, nI C, yh, yw, ycn, ytk, ysl, ysd, yst, yva, yow, yli, yV, yE) := qr_in ⟨h1, h2, h3, hX, hY, hV, hD, hM, hS⟩
  obtain ⟨s0, s1, s2, s3⟩ := id h3
  by_cases c0 : v1 = 0
  · subst c0
    exact br_t rfl (br_f (by decide) (br_t (by decide) ⟨vp_in_nI (n := 0) (by decide) (by decide), s0, keep⟩))
  · refine br_f c0 ?_
    by_cases c1 : v1 = 1
    · subst c1
      exact br_t rfl (br_f (by decide) (br_t (by decide) ⟨vp_in_nI (n := 1) (by decide) (by decide), s1, keep⟩))
    · refine br_f c1 ?_
      by_cases c2 : v1 = 2
      · subst c2
        exact br_t rfl (br_f (by decide) (br_t (by decide) ⟨vp_in_nI (n := 2) (by decide) (by decide), s2, keep⟩))
      · refine br_f c2 ?_
        by_cases c3 : v1 = 3
        · subst c3
          exact br_t rfl (br_f (by decide) (br_t (by decide) ⟨vp_in_nI (n := 3) (by decide) (by decide), s3, keep⟩))
        · refine br_f c3 ?_
          by_cases n0 : v1 < 0
          · exact br_t n0 ⟨rfl, keep⟩
          · refine br_f n0 (br_f (fun z => ?_) ⟨rfl, keep⟩)
            obtain ⟨j, hj, rfl⟩ := nI_of n0
            rw [qa_ler3 hj] at z
            rw [qa_eqr0 hj] at c0
            rw [qa_eqr1 hj] at c1
            rw [qa_eqr2 hj] at c2
            rw [qa_eqr3 hj] at c3
            omega
theorem i_vc_size {k : Nat} {u : SX} {v : SY} (I : i_Rel k u v) (hk : k + 5 ≤ 2562) (v1 : Int32) : wpX_size (fun r => wpY_size (fun r' => r' = r ∧ i_Rel (k + 5) u v) v v1) u v1 := by
  refine qr_el (P := fun u v => wpX_size (fun r => wpY_size (fun r' => r' = r ∧ i_Rel (k + 5) u v) v v1) u v1) ?_ I
  intro R C a b c d G D sta oe oh ow yh yw stl tok cnt stt val own sv se out ycn ytk ysl ysd yst yva yow yli yV yE rch nds hF
  have keep : i_Rel (k + 5) (nI R, nI C, nI a, nI b, nI c, nI d, sta, stl, oe, oh, ow, tok, cnt, stt, val, own, rch, nds, sv, se, out) (nI R, nI C, yh, yw, ycn, ytk, ysl, ysd, yst, yva, yow, yli, yV, yE) := qr_in hF
  by_cases c0 : v1 = 0
  · exact br_t c0 (br_t c0 ⟨rfl, keep⟩)
  · refine br_f c0 ?_
    by_cases c1 : v1 = 1
    · exact br_t c1 (br_f c0 (br_t c1 ⟨rfl, keep⟩))
    · exact br_f c1 (br_f c0 (br_f c1 ⟨rfl, keep⟩))
end
