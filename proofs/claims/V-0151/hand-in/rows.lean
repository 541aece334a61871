section
/-! rows pasted from the starting texts PURE-ROWS and BITS -/
theorem pk_us {f : Nat → Int32} {k : Nat} {x : Int32} : upd f k x k = x := if_pos rfl
theorem pk_un {f : Nat → Int32} {k j : Nat} {x : Int32} (h : j ≠ k) : upd f k x j = f j := if_neg h
theorem pk_uLs {f : Nat → Int64} {k : Nat} {x : Int64} : vp_updL f k x k = x := if_pos rfl
theorem pk_uLn {f : Nat → Int64} {k j : Nat} {x : Int64} (h : j ≠ k) : vp_updL f k x j = f j := if_neg h
theorem pk_sub {a b : Nat} (h : b ≤ a) : nI a - nI b = nI (a - b) := by
  obtain ⟨c, rfl⟩ : ∃ c, a = c + b := ⟨a - b, by omega⟩
  rw [← nI_add, Int32.add_sub_cancel, Nat.add_sub_cancel]
theorem pk_m1 (n : Nat) : nI (n + 1) + (-1) = nI n := by
  rw [← nI_1, Int32.add_assoc, show (1 : Int32) + (-1) = 0 from rfl, Int32.add_zero]
theorem pk_mul (a b : Nat) : nI a * nI b = nI (a * b) := (Int32.ofNat_mul a b).symm
theorem pk_div {a d : Nat} (ha : a < 2 ^ 31) (h0 : 0 < d) (hd : d < 2 ^ 31) : nI a / nI d = nI (a / d) := by
  apply Int32.toInt_inj.mp
  rw [lg_idiv_nonneg (by rw [nI_toInt ha]; omega) (by rw [nI_toInt hd]; omega), nI_toInt ha, nI_toInt hd, nI_toInt (Nat.lt_of_le_of_lt (Nat.div_le_self a d) ha)]
  first | rfl | exact (Int.natCast_ediv _ _).symm
theorem pk_rem {a d : Nat} (ha : a < 2 ^ 31) (h0 : 0 < d) (hd : d < 2 ^ 31) : nI a - nI a / nI d * nI d = nI (a % d) := by
  rw [pk_div ha h0 hd, pk_mul, pk_sub (Nat.div_mul_le_self a d)]
  exact congrArg nI (by have := Nat.div_add_mod' a d; omega)
theorem pk_sub_toInt {a b : Nat} (ha : a < 2 ^ 30) (hb : b < 2 ^ 30) : (nI a - nI b).toInt = (a : Int) - b := by
  rw [Int32.toInt_sub, nI_toInt (by omega), nI_toInt (by omega)]
  exact Int.bmod_eq_of_le (by omega) (by omega)
theorem pk_sneg {a b : Nat} (hb : b < 2 ^ 30) (h : a < b) : nI a - nI b < 0 := by
  rw [Int32.lt_iff_toInt_lt, pk_sub_toInt (by omega) hb, show (0 : Int32).toInt = 0 from by decide]
  omega
theorem pk_ix (x : Int32) {n : Nat} (hn : n < 2 ^ 31) : x < 0 ∨ nI n ≤ x ∨ ∃ j : Nat, j < n ∧ x = nI j := by
  by_cases h : x < 0
  · exact Or.inl h
  · obtain ⟨j, hj, rfl⟩ := nI_of h
    by_cases h2 : j < n
    · exact Or.inr (Or.inr ⟨j, h2, rfl⟩)
    · exact Or.inr (Or.inl (nI_le (by omega) hj))
theorem pk_le {x y : Int32} {A B : Prop} (a b : Nat) (f : a ≤ b → A) (g : b < a → B) (hx : x = nI a := by rfl) (hy : y = nI b := by rfl) (ha : a < 2 ^ 31 := by omega) (hb : b < 2 ^ 31 := by omega) : (x ≤ y → A) ∧ (¬ x ≤ y → B) := by
  subst hx hy
  rw [nI_leI ha hb]
  exact ⟨f, fun z => g (by omega)⟩
theorem pk_lt {x y : Int32} {A B : Prop} (a b : Nat) (f : a < b → A) (g : b ≤ a → B) (hx : x = nI a := by rfl) (hy : y = nI b := by rfl) (ha : a < 2 ^ 31 := by omega) (hb : b < 2 ^ 31 := by omega) : (x < y → A) ∧ (¬ x < y → B) := by
  subst hx hy
  rw [nI_ltI ha hb]
  exact ⟨f, fun z => g (by omega)⟩
theorem pk_eq {x y : Int32} {A B : Prop} (a b : Nat) (f : a = b → A) (g : a ≠ b → B) (hx : x = nI a := by rfl) (hy : y = nI b := by rfl) (ha : a < 2 ^ 31 := by omega) (hb : b < 2 ^ 31 := by omega) : (x = y → A) ∧ (¬ x = y → B) := by
  subst hx hy
  rw [nI_eq ha hb]
  exact ⟨f, g⟩
theorem pk_in {x : Int32} (n N : Nat) (h : n < N) (hx : x = nI n := by rfl) (hN : N < 2 ^ 31 := by omega) : vp_in x N := by
  subst hx
  exact vp_in_nI h hN
theorem pk_cl {x : Int32} (n : Nat) (hx : x = nI n := by rfl) (h : n < 2 ^ 31 := by omega) : x.toNatClampNeg = n := by
  subst hx
  exact nI_clamp h
theorem pk_loop {σ : Type} (W : Nat → Nat → σ → Prop) (I : Nat → σ → Prop) (e i0 : Nat) (s : σ) (hi : i0 ≤ e) (h0 : I i0 s) (hx : ∀ n s, I e s → W (n + 1) e s)
    (hs : ∀ n i s, i < e → I i s → (∀ s', I (i + 1) s' → W n (i + 1) s') → W (n + 1) i s) : ∃ n, W n i0 s :=
  ⟨e + 1, loop_i W I e hx hs (e + 1) i0 s hi (by omega) h0⟩
theorem pk_loopD {σ : Type} (W : Nat → Nat → σ → Prop) (I : Nat → σ → Prop) (hx : ∀ n s, I 0 s → W (n + 1) 0 s)
    (hs : ∀ n i s, I (i + 1) s → (∀ s', I i s' → W n i s') → W (n + 1) (i + 1) s) : ∀ (e : Nat) (s : σ), I e s → W (e + 1) e s := by
  intro e
  induction e with
  | zero => exact fun s h => hx 0 s h
  | succ e ih => exact fun s h => hs (e + 1) e s h (fun s' h' => ih s' h')
theorem pk_least (P : Nat → Prop) (h : ∃ k, P k) : ∃ k, P k ∧ ∀ j, j < k → ¬ P j := by
  obtain ⟨k, hk⟩ := h
  induction k using Nat.strongRecOn with
  | ind k ih =>
    by_cases e : ∃ j, j < k ∧ P j
    · obtain ⟨j, hj, pj⟩ := e
      exact ih j hj pj
    · exact ⟨k, hk, fun j hj pj => e ⟨j, hj, pj⟩⟩
def bt (x : Int32) (i : Nat) : Bool := x.toBitVec.getLsbD i
theorem b_ext {x y : Int32} (h : ∀ i, i < 32 → bt x i = bt y i) : x = y := Int32.toBitVec_inj.mp (BitVec.eq_of_getLsbD_eq (fun i hi => h i hi))
theorem b_or (x y : Int32) (i : Nat) : bt (x ||| y) i = (bt x i || bt y i) := by unfold bt; rw [Int32.toBitVec_or, BitVec.getLsbD_or]
theorem b_and (x y : Int32) (i : Nat) : bt (x &&& y) i = (bt x i && bt y i) := by unfold bt; rw [Int32.toBitVec_and, BitVec.getLsbD_and]
theorem b_xor (x y : Int32) (i : Nat) : bt (x ^^^ y) i = (bt x i ^^ bt y i) := by unfold bt; rw [Int32.toBitVec_xor, BitVec.getLsbD_xor]
theorem b_big {x : Int32} {i : Nat} (h : 32 ≤ i) : bt x i = false := BitVec.getLsbD_of_ge _ _ h
theorem b_255 (i : Nat) : bt 255 i = decide (i < 8) := by
  rcases Nat.lt_or_ge i 32 with h | h
  · exact (by decide +kernel : ∀ i, i < 32 → bt 255 i = decide (i < 8)) i h
  · rw [b_big h, decide_eq_false (by omega)]
theorem b_65535 (i : Nat) : bt 65535 i = decide (i < 16) := by
  rcases Nat.lt_or_ge i 32 with h | h
  · exact (by decide +kernel : ∀ i, i < 32 → bt 65535 i = decide (i < 16)) i h
  · rw [b_big h, decide_eq_false (by omega)]
theorem b_m1 : ∀ i, i < 32 → bt (-1) i = true := by decide +kernel
theorem b_0 (i : Nat) : bt 0 i = false := BitVec.getLsbD_zero
theorem s_l : ∀ n, n < 32 → ((nI n &&& 31).toBitVec.smod 32).toNat = n := by decide +kernel
theorem s_u : ∀ n, n < 32 → (((nI n).toUInt32 &&& Int32.toUInt32 31).toBitVec % 32).toNat = n := by decide +kernel
theorem b_shl (n : Nat) (hn : n < 32) (x : Int32) {i : Nat} (hi : i < 32) : bt (x <<< (nI n &&& 31)) i = (decide (n ≤ i) && bt x (i - n)) := by
  unfold bt
  rw [Int32.toBitVec_shiftLeft]
  show (x.toBitVec <<< ((nI n &&& 31).toBitVec.smod 32).toNat).getLsbD i = _
  rw [s_l n hn, BitVec.getLsbD_shiftLeft]
  rcases Nat.lt_or_ge i n with h | h
  · simp [h, Nat.not_le.mpr h]
  · simp [hi, h, Nat.not_lt.mpr h]
/-! numbers against literals -/
theorem zq_0 {a : Nat} (h : a < 2 ^ 31) : nI a = 0 ↔ a = 0 := nI_eq (b := 0) h (by decide)
theorem zl_0 {a : Nat} (h : a < 2 ^ 31) : nI a < 0 ↔ a < 0 := nI_ltI (b := 0) h (by decide)
theorem zg_0 {a : Nat} (h : a < 2 ^ 31) : (0 : Int32) < nI a ↔ 0 < a := nI_ltI (a := 0) (by decide) h
theorem zm_0 {a : Nat} (h : a < 2 ^ 31) : nI a ≤ 0 ↔ a ≤ 0 := nI_leI (b := 0) h (by decide)
theorem zh_0 {a : Nat} (h : a < 2 ^ 31) : (0 : Int32) ≤ nI a ↔ 0 ≤ a := nI_leI (a := 0) (by decide) h
theorem zq_1 {a : Nat} (h : a < 2 ^ 31) : nI a = 1 ↔ a = 1 := nI_eq (b := 1) h (by decide)
theorem zl_1 {a : Nat} (h : a < 2 ^ 31) : nI a < 1 ↔ a < 1 := nI_ltI (b := 1) h (by decide)
theorem zg_1 {a : Nat} (h : a < 2 ^ 31) : (1 : Int32) < nI a ↔ 1 < a := nI_ltI (a := 1) (by decide) h
theorem zm_1 {a : Nat} (h : a < 2 ^ 31) : nI a ≤ 1 ↔ a ≤ 1 := nI_leI (b := 1) h (by decide)
theorem zh_1 {a : Nat} (h : a < 2 ^ 31) : (1 : Int32) ≤ nI a ↔ 1 ≤ a := nI_leI (a := 1) (by decide) h
theorem zq_2 {a : Nat} (h : a < 2 ^ 31) : nI a = 2 ↔ a = 2 := nI_eq (b := 2) h (by decide)
theorem zl_2 {a : Nat} (h : a < 2 ^ 31) : nI a < 2 ↔ a < 2 := nI_ltI (b := 2) h (by decide)
theorem zg_2 {a : Nat} (h : a < 2 ^ 31) : (2 : Int32) < nI a ↔ 2 < a := nI_ltI (a := 2) (by decide) h
theorem zm_2 {a : Nat} (h : a < 2 ^ 31) : nI a ≤ 2 ↔ a ≤ 2 := nI_leI (b := 2) h (by decide)
theorem zh_2 {a : Nat} (h : a < 2 ^ 31) : (2 : Int32) ≤ nI a ↔ 2 ≤ a := nI_leI (a := 2) (by decide) h
theorem zq_3 {a : Nat} (h : a < 2 ^ 31) : nI a = 3 ↔ a = 3 := nI_eq (b := 3) h (by decide)
theorem zl_3 {a : Nat} (h : a < 2 ^ 31) : nI a < 3 ↔ a < 3 := nI_ltI (b := 3) h (by decide)
theorem zg_3 {a : Nat} (h : a < 2 ^ 31) : (3 : Int32) < nI a ↔ 3 < a := nI_ltI (a := 3) (by decide) h
theorem zm_3 {a : Nat} (h : a < 2 ^ 31) : nI a ≤ 3 ↔ a ≤ 3 := nI_leI (b := 3) h (by decide)
theorem zh_3 {a : Nat} (h : a < 2 ^ 31) : (3 : Int32) ≤ nI a ↔ 3 ≤ a := nI_leI (a := 3) (by decide) h
theorem zq_4 {a : Nat} (h : a < 2 ^ 31) : nI a = 4 ↔ a = 4 := nI_eq (b := 4) h (by decide)
theorem zl_4 {a : Nat} (h : a < 2 ^ 31) : nI a < 4 ↔ a < 4 := nI_ltI (b := 4) h (by decide)
theorem zg_4 {a : Nat} (h : a < 2 ^ 31) : (4 : Int32) < nI a ↔ 4 < a := nI_ltI (a := 4) (by decide) h
theorem zm_4 {a : Nat} (h : a < 2 ^ 31) : nI a ≤ 4 ↔ a ≤ 4 := nI_leI (b := 4) h (by decide)
theorem zh_4 {a : Nat} (h : a < 2 ^ 31) : (4 : Int32) ≤ nI a ↔ 4 ≤ a := nI_leI (a := 4) (by decide) h
theorem zq_5 {a : Nat} (h : a < 2 ^ 31) : nI a = 5 ↔ a = 5 := nI_eq (b := 5) h (by decide)
theorem zl_5 {a : Nat} (h : a < 2 ^ 31) : nI a < 5 ↔ a < 5 := nI_ltI (b := 5) h (by decide)
theorem zg_5 {a : Nat} (h : a < 2 ^ 31) : (5 : Int32) < nI a ↔ 5 < a := nI_ltI (a := 5) (by decide) h
theorem zm_5 {a : Nat} (h : a < 2 ^ 31) : nI a ≤ 5 ↔ a ≤ 5 := nI_leI (b := 5) h (by decide)
theorem zh_5 {a : Nat} (h : a < 2 ^ 31) : (5 : Int32) ≤ nI a ↔ 5 ≤ a := nI_leI (a := 5) (by decide) h
theorem zq_6 {a : Nat} (h : a < 2 ^ 31) : nI a = 6 ↔ a = 6 := nI_eq (b := 6) h (by decide)
theorem zl_6 {a : Nat} (h : a < 2 ^ 31) : nI a < 6 ↔ a < 6 := nI_ltI (b := 6) h (by decide)
theorem zg_6 {a : Nat} (h : a < 2 ^ 31) : (6 : Int32) < nI a ↔ 6 < a := nI_ltI (a := 6) (by decide) h
theorem zm_6 {a : Nat} (h : a < 2 ^ 31) : nI a ≤ 6 ↔ a ≤ 6 := nI_leI (b := 6) h (by decide)
theorem zh_6 {a : Nat} (h : a < 2 ^ 31) : (6 : Int32) ≤ nI a ↔ 6 ≤ a := nI_leI (a := 6) (by decide) h
theorem zq_7 {a : Nat} (h : a < 2 ^ 31) : nI a = 7 ↔ a = 7 := nI_eq (b := 7) h (by decide)
theorem zl_7 {a : Nat} (h : a < 2 ^ 31) : nI a < 7 ↔ a < 7 := nI_ltI (b := 7) h (by decide)
theorem zg_7 {a : Nat} (h : a < 2 ^ 31) : (7 : Int32) < nI a ↔ 7 < a := nI_ltI (a := 7) (by decide) h
theorem zm_7 {a : Nat} (h : a < 2 ^ 31) : nI a ≤ 7 ↔ a ≤ 7 := nI_leI (b := 7) h (by decide)
theorem zh_7 {a : Nat} (h : a < 2 ^ 31) : (7 : Int32) ≤ nI a ↔ 7 ≤ a := nI_leI (a := 7) (by decide) h
theorem zq_8 {a : Nat} (h : a < 2 ^ 31) : nI a = 8 ↔ a = 8 := nI_eq (b := 8) h (by decide)
theorem zl_8 {a : Nat} (h : a < 2 ^ 31) : nI a < 8 ↔ a < 8 := nI_ltI (b := 8) h (by decide)
theorem zg_8 {a : Nat} (h : a < 2 ^ 31) : (8 : Int32) < nI a ↔ 8 < a := nI_ltI (a := 8) (by decide) h
theorem zm_8 {a : Nat} (h : a < 2 ^ 31) : nI a ≤ 8 ↔ a ≤ 8 := nI_leI (b := 8) h (by decide)
theorem zh_8 {a : Nat} (h : a < 2 ^ 31) : (8 : Int32) ≤ nI a ↔ 8 ≤ a := nI_leI (a := 8) (by decide) h
theorem zq_9 {a : Nat} (h : a < 2 ^ 31) : nI a = 9 ↔ a = 9 := nI_eq (b := 9) h (by decide)
theorem zl_9 {a : Nat} (h : a < 2 ^ 31) : nI a < 9 ↔ a < 9 := nI_ltI (b := 9) h (by decide)
theorem zg_9 {a : Nat} (h : a < 2 ^ 31) : (9 : Int32) < nI a ↔ 9 < a := nI_ltI (a := 9) (by decide) h
theorem zm_9 {a : Nat} (h : a < 2 ^ 31) : nI a ≤ 9 ↔ a ≤ 9 := nI_leI (b := 9) h (by decide)
theorem zh_9 {a : Nat} (h : a < 2 ^ 31) : (9 : Int32) ≤ nI a ↔ 9 ≤ a := nI_leI (a := 9) (by decide) h
theorem zq_10 {a : Nat} (h : a < 2 ^ 31) : nI a = 10 ↔ a = 10 := nI_eq (b := 10) h (by decide)
theorem zl_10 {a : Nat} (h : a < 2 ^ 31) : nI a < 10 ↔ a < 10 := nI_ltI (b := 10) h (by decide)
theorem zg_10 {a : Nat} (h : a < 2 ^ 31) : (10 : Int32) < nI a ↔ 10 < a := nI_ltI (a := 10) (by decide) h
theorem zm_10 {a : Nat} (h : a < 2 ^ 31) : nI a ≤ 10 ↔ a ≤ 10 := nI_leI (b := 10) h (by decide)
theorem zh_10 {a : Nat} (h : a < 2 ^ 31) : (10 : Int32) ≤ nI a ↔ 10 ≤ a := nI_leI (a := 10) (by decide) h
theorem zq_11 {a : Nat} (h : a < 2 ^ 31) : nI a = 11 ↔ a = 11 := nI_eq (b := 11) h (by decide)
theorem zl_11 {a : Nat} (h : a < 2 ^ 31) : nI a < 11 ↔ a < 11 := nI_ltI (b := 11) h (by decide)
theorem zg_11 {a : Nat} (h : a < 2 ^ 31) : (11 : Int32) < nI a ↔ 11 < a := nI_ltI (a := 11) (by decide) h
theorem zm_11 {a : Nat} (h : a < 2 ^ 31) : nI a ≤ 11 ↔ a ≤ 11 := nI_leI (b := 11) h (by decide)
theorem zh_11 {a : Nat} (h : a < 2 ^ 31) : (11 : Int32) ≤ nI a ↔ 11 ≤ a := nI_leI (a := 11) (by decide) h
theorem zq_12 {a : Nat} (h : a < 2 ^ 31) : nI a = 12 ↔ a = 12 := nI_eq (b := 12) h (by decide)
theorem zl_12 {a : Nat} (h : a < 2 ^ 31) : nI a < 12 ↔ a < 12 := nI_ltI (b := 12) h (by decide)
theorem zg_12 {a : Nat} (h : a < 2 ^ 31) : (12 : Int32) < nI a ↔ 12 < a := nI_ltI (a := 12) (by decide) h
theorem zm_12 {a : Nat} (h : a < 2 ^ 31) : nI a ≤ 12 ↔ a ≤ 12 := nI_leI (b := 12) h (by decide)
theorem zh_12 {a : Nat} (h : a < 2 ^ 31) : (12 : Int32) ≤ nI a ↔ 12 ≤ a := nI_leI (a := 12) (by decide) h
theorem zq_13 {a : Nat} (h : a < 2 ^ 31) : nI a = 13 ↔ a = 13 := nI_eq (b := 13) h (by decide)
theorem zl_13 {a : Nat} (h : a < 2 ^ 31) : nI a < 13 ↔ a < 13 := nI_ltI (b := 13) h (by decide)
theorem zg_13 {a : Nat} (h : a < 2 ^ 31) : (13 : Int32) < nI a ↔ 13 < a := nI_ltI (a := 13) (by decide) h
theorem zm_13 {a : Nat} (h : a < 2 ^ 31) : nI a ≤ 13 ↔ a ≤ 13 := nI_leI (b := 13) h (by decide)
theorem zh_13 {a : Nat} (h : a < 2 ^ 31) : (13 : Int32) ≤ nI a ↔ 13 ≤ a := nI_leI (a := 13) (by decide) h
theorem zq_14 {a : Nat} (h : a < 2 ^ 31) : nI a = 14 ↔ a = 14 := nI_eq (b := 14) h (by decide)
theorem zl_14 {a : Nat} (h : a < 2 ^ 31) : nI a < 14 ↔ a < 14 := nI_ltI (b := 14) h (by decide)
theorem zg_14 {a : Nat} (h : a < 2 ^ 31) : (14 : Int32) < nI a ↔ 14 < a := nI_ltI (a := 14) (by decide) h
theorem zm_14 {a : Nat} (h : a < 2 ^ 31) : nI a ≤ 14 ↔ a ≤ 14 := nI_leI (b := 14) h (by decide)
theorem zh_14 {a : Nat} (h : a < 2 ^ 31) : (14 : Int32) ≤ nI a ↔ 14 ≤ a := nI_leI (a := 14) (by decide) h
theorem zq_15 {a : Nat} (h : a < 2 ^ 31) : nI a = 15 ↔ a = 15 := nI_eq (b := 15) h (by decide)
theorem zl_15 {a : Nat} (h : a < 2 ^ 31) : nI a < 15 ↔ a < 15 := nI_ltI (b := 15) h (by decide)
theorem zg_15 {a : Nat} (h : a < 2 ^ 31) : (15 : Int32) < nI a ↔ 15 < a := nI_ltI (a := 15) (by decide) h
theorem zm_15 {a : Nat} (h : a < 2 ^ 31) : nI a ≤ 15 ↔ a ≤ 15 := nI_leI (b := 15) h (by decide)
theorem zh_15 {a : Nat} (h : a < 2 ^ 31) : (15 : Int32) ≤ nI a ↔ 15 ≤ a := nI_leI (a := 15) (by decide) h
theorem zq_16 {a : Nat} (h : a < 2 ^ 31) : nI a = 16 ↔ a = 16 := nI_eq (b := 16) h (by decide)
theorem zl_16 {a : Nat} (h : a < 2 ^ 31) : nI a < 16 ↔ a < 16 := nI_ltI (b := 16) h (by decide)
theorem zg_16 {a : Nat} (h : a < 2 ^ 31) : (16 : Int32) < nI a ↔ 16 < a := nI_ltI (a := 16) (by decide) h
theorem zm_16 {a : Nat} (h : a < 2 ^ 31) : nI a ≤ 16 ↔ a ≤ 16 := nI_leI (b := 16) h (by decide)
theorem zh_16 {a : Nat} (h : a < 2 ^ 31) : (16 : Int32) ≤ nI a ↔ 16 ≤ a := nI_leI (a := 16) (by decide) h
theorem zq_17 {a : Nat} (h : a < 2 ^ 31) : nI a = 17 ↔ a = 17 := nI_eq (b := 17) h (by decide)
theorem zl_17 {a : Nat} (h : a < 2 ^ 31) : nI a < 17 ↔ a < 17 := nI_ltI (b := 17) h (by decide)
theorem zg_17 {a : Nat} (h : a < 2 ^ 31) : (17 : Int32) < nI a ↔ 17 < a := nI_ltI (a := 17) (by decide) h
theorem zm_17 {a : Nat} (h : a < 2 ^ 31) : nI a ≤ 17 ↔ a ≤ 17 := nI_leI (b := 17) h (by decide)
theorem zh_17 {a : Nat} (h : a < 2 ^ 31) : (17 : Int32) ≤ nI a ↔ 17 ≤ a := nI_leI (a := 17) (by decide) h
theorem zq_18 {a : Nat} (h : a < 2 ^ 31) : nI a = 18 ↔ a = 18 := nI_eq (b := 18) h (by decide)
theorem zl_18 {a : Nat} (h : a < 2 ^ 31) : nI a < 18 ↔ a < 18 := nI_ltI (b := 18) h (by decide)
theorem zg_18 {a : Nat} (h : a < 2 ^ 31) : (18 : Int32) < nI a ↔ 18 < a := nI_ltI (a := 18) (by decide) h
theorem zm_18 {a : Nat} (h : a < 2 ^ 31) : nI a ≤ 18 ↔ a ≤ 18 := nI_leI (b := 18) h (by decide)
theorem zh_18 {a : Nat} (h : a < 2 ^ 31) : (18 : Int32) ≤ nI a ↔ 18 ≤ a := nI_leI (a := 18) (by decide) h
theorem zq_19 {a : Nat} (h : a < 2 ^ 31) : nI a = 19 ↔ a = 19 := nI_eq (b := 19) h (by decide)
theorem zl_19 {a : Nat} (h : a < 2 ^ 31) : nI a < 19 ↔ a < 19 := nI_ltI (b := 19) h (by decide)
theorem zg_19 {a : Nat} (h : a < 2 ^ 31) : (19 : Int32) < nI a ↔ 19 < a := nI_ltI (a := 19) (by decide) h
theorem zm_19 {a : Nat} (h : a < 2 ^ 31) : nI a ≤ 19 ↔ a ≤ 19 := nI_leI (b := 19) h (by decide)
theorem zh_19 {a : Nat} (h : a < 2 ^ 31) : (19 : Int32) ≤ nI a ↔ 19 ≤ a := nI_leI (a := 19) (by decide) h
theorem zq_24 {a : Nat} (h : a < 2 ^ 31) : nI a = 24 ↔ a = 24 := nI_eq (b := 24) h (by decide)
theorem zl_24 {a : Nat} (h : a < 2 ^ 31) : nI a < 24 ↔ a < 24 := nI_ltI (b := 24) h (by decide)
theorem zg_24 {a : Nat} (h : a < 2 ^ 31) : (24 : Int32) < nI a ↔ 24 < a := nI_ltI (a := 24) (by decide) h
theorem zm_24 {a : Nat} (h : a < 2 ^ 31) : nI a ≤ 24 ↔ a ≤ 24 := nI_leI (b := 24) h (by decide)
theorem zh_24 {a : Nat} (h : a < 2 ^ 31) : (24 : Int32) ≤ nI a ↔ 24 ≤ a := nI_leI (a := 24) (by decide) h
theorem zq_31 {a : Nat} (h : a < 2 ^ 31) : nI a = 31 ↔ a = 31 := nI_eq (b := 31) h (by decide)
theorem zl_31 {a : Nat} (h : a < 2 ^ 31) : nI a < 31 ↔ a < 31 := nI_ltI (b := 31) h (by decide)
theorem zg_31 {a : Nat} (h : a < 2 ^ 31) : (31 : Int32) < nI a ↔ 31 < a := nI_ltI (a := 31) (by decide) h
theorem zm_31 {a : Nat} (h : a < 2 ^ 31) : nI a ≤ 31 ↔ a ≤ 31 := nI_leI (b := 31) h (by decide)
theorem zh_31 {a : Nat} (h : a < 2 ^ 31) : (31 : Int32) ≤ nI a ↔ 31 ≤ a := nI_leI (a := 31) (by decide) h
theorem zq_48 {a : Nat} (h : a < 2 ^ 31) : nI a = 48 ↔ a = 48 := nI_eq (b := 48) h (by decide)
theorem zl_48 {a : Nat} (h : a < 2 ^ 31) : nI a < 48 ↔ a < 48 := nI_ltI (b := 48) h (by decide)
theorem zg_48 {a : Nat} (h : a < 2 ^ 31) : (48 : Int32) < nI a ↔ 48 < a := nI_ltI (a := 48) (by decide) h
theorem zm_48 {a : Nat} (h : a < 2 ^ 31) : nI a ≤ 48 ↔ a ≤ 48 := nI_leI (b := 48) h (by decide)
theorem zh_48 {a : Nat} (h : a < 2 ^ 31) : (48 : Int32) ≤ nI a ↔ 48 ≤ a := nI_leI (a := 48) (by decide) h
theorem za_m4 (a : Nat) : nI a * 4 = nI (4 * a) := by rw [Nat.mul_comm]; exact pk_mul a 4
theorem za_4m (a : Nat) : 4 * nI a = nI (4 * a) := pk_mul 4 a
theorem za_m10 (a : Nat) : nI a * 10 = nI (10 * a) := by rw [Nat.mul_comm]; exact pk_mul a 10
theorem za_m48 (a : Nat) : nI a * 48 = nI (48 * a) := by rw [Nat.mul_comm]; exact pk_mul a 48
theorem za_2m (a : Nat) : 2 * nI a = nI (2 * a) := pk_mul 2 a
theorem za_1a (a : Nat) : 1 + nI a = nI (1 + a) := nI_add 1 a
theorem za_2 (a : Nat) : nI a + 2 = nI (a + 2) := nI_add a 2
theorem za_3 (a : Nat) : nI a + 3 = nI (a + 3) := nI_add a 3
theorem za_48 (a : Nat) : nI a + 48 = nI (a + 48) := nI_add a 48
theorem za_00 (a : Nat) : nI a + 0 = nI a := Int32.add_zero _
theorem za_s1 {a : Nat} (h : 1 ≤ a) : nI a - 1 = nI (a - 1) := pk_sub (b := 1) h
theorem za_1s {a : Nat} (h : a ≤ 1) : 1 - nI a = nI (1 - a) := pk_sub (a := 1) h
theorem za_d2 {a : Nat} (h : a < 2 ^ 31) : nI a / 2 = nI (a / 2) := pk_div (d := 2) h (by decide) (by decide)
theorem za_n1 {a : Nat} (h : a < 2 ^ 31) : ¬ nI a = -1 := by
  intro e
  have := nI_pos (n := a) h
  rw [e] at this
  exact this (by decide)
theorem za_n1' {a : Nat} (h : a < 2 ^ 31) : ¬ (-1 : Int32) = nI a := fun e => za_n1 h e.symm
theorem za_m0 : ((-1 : Int32) < 0) := by decide
theorem za_m1 : ¬ ((0 : Int32) ≤ -1) := by decide
theorem za_20 : ¬ (2 : Int32) = 0 := by decide
theorem za_10 : ¬ (1 : Int32) = 0 := by decide
theorem za_01 : ¬ (0 : Int32) = 1 := by decide
theorem za_b0 : vp_nar .boolean 0 = 0 := by decide
theorem za_b1 : vp_nar .boolean 1 = 1 := by decide
theorem za_bv {x : Int32} (h : x = 0 ∨ x = 1) : vp_nar .boolean x = x := by rcases h with rfl | rfl <;> decide
theorem za_nb {x : Int32} (h : x = 0 ∨ x = 1) : narrow .boolean (.int x) = .int x := by rcases h with rfl | rfl <;> rfl
theorem za_inj {a b : Nat} (h : nI a = nI b) (ha : a < 2 ^ 31) (hb : b < 2 ^ 31) : a = b := (nI_eq ha hb).mp h
theorem za_c0 : (0 : Int32).toNatClampNeg = 0 := by decide
theorem za_ups {f : Nat → Int32} {k : Nat} {x : Int32} : upd f k x k = x := if_pos rfl
theorem za_upe (f : Nat → Int32) (k : Nat) (x : Int32) (j : Nat) : upd f k x j = if j = k then x else f j := rfl
theorem za_uid {f : Nat → Int32} {k : Nat} {x : Int32} (h : f k = x) : upd f k x = f := by
  funext j
  by_cases e : j = k
  · rw [e, pk_us, h]
  · rw [pk_un e]
/-! bits of masks -/
theorem zb_1 : ∀ i, i < 32 → bt 1 i = decide (i = 0) := by decide +kernel
theorem zb_bit {n i : Nat} (hn : n < 32) (hi : i < 32) : bt ((1 : Int32) <<< (nI n &&& 31)) i = decide (i = n) := by
  rw [b_shl n hn 1 hi]
  rcases Nat.lt_or_ge i n with h | h
  · simp [Nat.not_le.mpr h]; omega
  · rw [zb_1 _ (by omega)]; simp [h]; omega
theorem zb_z {x : Int32} : x = 0 ↔ ∀ i, i < 32 → bt x i = false := by
  constructor
  · rintro rfl i _; exact b_0 i
  · intro h; exact b_ext (fun i hi => by rw [h i hi, b_0])
theorem zb_t {x : Int32} {n : Nat} (hn : n < 32) : (x &&& ((1 : Int32) <<< (nI n &&& 31))) = 0 ↔ bt x n = false := by
  rw [zb_z]
  constructor
  · intro h
    have := h n hn
    rw [b_and, zb_bit hn hn] at this
    simpa using this
  · intro h i hi
    rw [b_and, zb_bit hn hi]
    by_cases e : i = n
    · rw [e, h]; rfl
    · simp [e]
theorem zb_o {x : Int32} {n i : Nat} (hn : n < 32) (hi : i < 32) : bt (x ||| ((1 : Int32) <<< (nI n &&& 31))) i = (bt x i || decide (i = n)) := by
  rw [b_or, zb_bit hn hi]
theorem zb_no {x : Int32} {i : Nat} (hi : i < 32) : bt (x ^^^ (-1)) i = !bt x i := by
  rw [b_xor, b_m1 i hi]; simp
theorem zb_sub {x y : Int32} : (x &&& (y ^^^ (-1))) = 0 ↔ ∀ i, i < 32 → bt x i = true → bt y i = true := by
  rw [zb_z]
  constructor
  · intro h i hi hx
    have := h i hi
    rw [b_and, zb_no hi, hx] at this
    simpa using this
  · intro h i hi
    rw [b_and, zb_no hi]
    cases hx : bt x i
    · rfl
    · rw [h i hi hx]; rfl
end
section
/-! the program, read off the arrays -/
def zp_n (a : Nat → Int32) (i : Nat) : Nat := (a i).toNatClampNeg
def zp_ar (k : Nat) : Nat := if k = 1 ∨ k = 2 then 0 else if k = 15 then 3 else if k = 17 ∨ (6 ≤ k ∧ k ≤ 14) then 2 else 1
def zp_fo (k : Nat) : Nat := if k = 16 then 2 else if k = 17 then 1 else if k = 18 then 3 else 0
def zp_op (kd fl : Nat → Int32) (n j : Nat) : Nat := zp_n fl (4 * n + (zp_fo (zp_n kd n) + j))
def zp_V (N : Nat) (rl ck qn : Nat → Int32) (v : Nat) : Prop :=
  (rl v = 0 ∨ rl v = 1) ∧ (ck v = nI (zp_n ck v) ∧ zp_n ck v ≤ 2 * v) ∧ (qn v = -1 ∨ (rl v = 1 ∧ qn v = nI (zp_n qn v) ∧ zp_n qn v < N))
def zp_N (V : Nat) (kd fl : Nat → Int32) (n : Nat) : Prop :=
  kd n = nI (zp_n kd n) ∧ 1 ≤ zp_n kd n ∧ zp_n kd n ≤ 18 ∧
  (∀ j, j < zp_ar (zp_n kd n) → fl (4 * n + (zp_fo (zp_n kd n) + j)) = nI (zp_op kd fl n j) ∧ zp_op kd fl n j < n) ∧
  ((zp_n kd n = 2 ∨ 16 ≤ zp_n kd n) → fl (4 * n) = nI (zp_n fl (4 * n)) ∧ zp_n fl (4 * n) < V) ∧
  ((zp_n kd n = 16 ∨ zp_n kd n = 18) → fl (4 * n + 1) = nI (zp_n fl (4 * n + 1)) ∧ zp_n fl (4 * n + 1) ≤ 1)
def zp_W (V N : Nat) (rl ck qn kd fl : Nat → Int32) : Prop :=
  (∀ v, v < V → zp_V N rl ck qn v) ∧ (∀ n, n < N → zp_N V kd fl n)
/-- node a is operand j of node m -/
def zp_P (N : Nat) (kd fl : Nat → Int32) (a m j : Nat) : Prop := m < N ∧ j < zp_ar (zp_n kd m) ∧ zp_op kd fl m j = a
/-- node a is the root of v -/
def zp_O (V : Nat) (qn : Nat → Int32) (a v : Nat) : Prop := v < V ∧ a < 48 ∧ qn v = nI a
def zp_U (V N : Nat) (qn kd fl : Nat → Int32) : Prop :=
  (∀ a m j m' j', zp_P N kd fl a m j → zp_P N kd fl a m' j' → m' = m ∧ j' = j) ∧
  (∀ a v v', zp_O V qn a v → zp_O V qn a v' → v' = v) ∧
  (∀ a m j v, zp_P N kd fl a m j → zp_O V qn a v → False)
def zp_S (V N : Nat) (qn kd fl us : Nat → Int32) : Prop :=
  ∀ a, a < N → (us a = 0 ∨ us a = 1) ∧ (us a = 1 ↔ (∃ m j, zp_P N kd fl a m j) ∨ (∃ v, zp_O V qn a v))
theorem zp_fa {k j : Nat} (hj : j < zp_ar k) : zp_fo k + j < 4 := by
  revert hj; unfold zp_ar zp_fo
  split
  · intro h; omega
  · split
    · rename_i h; subst h; intro h; simp; omega
    · intro h
      split
      · rename_i hk
        subst hk
        simp at h
        omega
      · split
        · rename_i hk
          subst hk
          simp at h
          omega
        · split
          · rename_i hk
            subst hk
            simp at h
            omega
          · split at h <;> omega
theorem zp_ar3 (k : Nat) : zp_ar k ≤ 3 := by
  unfold zp_ar
  repeat' split
  all_goals omega
theorem zp_N_congr {V : Nat} {kd fl kd' fl' : Nat → Int32} {n : Nat} (hk : kd' n = kd n) (hf : ∀ i, 4 * n ≤ i → i < 4 * n + 4 → fl' i = fl i) (h : zp_N V kd fl n) : zp_N V kd' fl' n := by
  have e : zp_n kd' n = zp_n kd n := congrArg Int32.toNatClampNeg hk
  have eo : ∀ j, j < zp_ar (zp_n kd n) → zp_op kd' fl' n j = zp_op kd fl n j := by
    intro j hj
    have := zp_fa hj
    unfold zp_op zp_n at *
    rw [hk, hf _ (by omega) (by omega)]
  have e0 : fl' (4 * n) = fl (4 * n) := hf _ (by omega) (by omega)
  have e1 : fl' (4 * n + 1) = fl (4 * n + 1) := hf _ (by omega) (by omega)
  have f0 : zp_n fl' (4 * n) = zp_n fl (4 * n) := congrArg Int32.toNatClampNeg e0
  have f1 : zp_n fl' (4 * n + 1) = zp_n fl (4 * n + 1) := congrArg Int32.toNatClampNeg e1
  unfold zp_N at *
  rw [e, hk, e0, e1, f0, f1]
  obtain ⟨h1, h2, h3, h4, h5, h6⟩ := h
  refine ⟨h1, h2, h3, ?_, h5, h6⟩
  intro j hj
  have := zp_fa hj
  rw [eo j hj, hf _ (by omega) (by omega)]
  exact h4 j hj
theorem zp_N_V {V V' : Nat} {kd fl : Nat → Int32} {n : Nat} (hv : V ≤ V') (h : zp_N V kd fl n) : zp_N V' kd fl n := by
  obtain ⟨h1, h2, h3, h4, h5, h6⟩ := h
  exact ⟨h1, h2, h3, h4, fun x => ⟨(h5 x).1, by have := (h5 x).2; omega⟩, h6⟩
theorem zp_op_congr {kd fl kd' fl' : Nat → Int32} {n j : Nat} (hj : j < zp_ar (zp_n kd n)) (hk : kd' n = kd n) (hf : ∀ i, 4 * n ≤ i → i < 4 * n + 4 → fl' i = fl i) : zp_op kd' fl' n j = zp_op kd fl n j := by
  have := zp_fa hj
  unfold zp_op zp_n at *
  rw [hk, hf _ (by omega) (by omega)]
theorem zp_nI {a : Nat → Int32} {i x : Nat} (h : a i = nI x) (hx : x < 2 ^ 31) : zp_n a i = x := by
  unfold zp_n; rw [h, nI_clamp hx]
theorem zp_Oa {V N : Nat} {rl ck qn kd fl : Nat → Int32} (hW : zp_W V N rl ck qn kd fl) {a v : Nat} (o : zp_O V qn a v) : a < N := by
  have hb : a < 2 ^ 31 := Nat.lt_trans o.2.1 (by decide)
  rcases (hW.1 v o.1).2.2 with h | ⟨_, h, h'⟩
  · rw [o.2.2] at h; exact absurd h (za_n1 hb)
  · rw [zp_nI o.2.2 hb] at h'; exact h'
theorem zp_Pa {V N : Nat} {rl ck qn kd fl : Nat → Int32} (hW : zp_W V N rl ck qn kd fl) {a m j : Nat} (p : zp_P N kd fl a m j) : a < m := by
  have := ((hW.2 m p.1).2.2.2.1 j p.2.1).2
  rw [p.2.2] at this; exact this
/-! a new node -/
theorem zp_make {V N : Nat} {rl ck qn kd fl us kd' fl' us' : Nat → Int32} (hW : zp_W V N rl ck qn kd fl) (hU : zp_U V N qn kd fl) (hS : zp_S V N qn kd fl us)
    (hN : N < 48) (hk : ∀ n, n < N → kd' n = kd n) (hf : ∀ i, i < 4 * N → fl' i = fl i) (hn : zp_N V kd' fl' N)
    (hd : ∀ j j', j < zp_ar (zp_n kd' N) → j' < zp_ar (zp_n kd' N) → zp_op kd' fl' N j = zp_op kd' fl' N j' → j = j')
    (hfr : ∀ j, j < zp_ar (zp_n kd' N) → us (zp_op kd' fl' N j) = 0)
    (h0 : us' N = 0) (h1 : ∀ j, j < zp_ar (zp_n kd' N) → us' (zp_op kd' fl' N j) = 1)
    (h2 : ∀ a, a < N → (∀ j, j < zp_ar (zp_n kd' N) → a ≠ zp_op kd' fl' N j) → us' a = us a) :
    zp_W V (N + 1) rl ck qn kd' fl' ∧ zp_U V (N + 1) qn kd' fl' ∧ zp_S V (N + 1) qn kd' fl' us' := by
  have hop : ∀ m j, m < N → j < zp_ar (zp_n kd m) → zp_op kd' fl' m j = zp_op kd fl m j := fun m j hm hj =>
    zp_op_congr hj (hk m hm) (fun i _ hi => hf i (by omega))
  have hkk : ∀ m, m < N → zp_n kd' m = zp_n kd m := fun m hm => congrArg Int32.toNatClampNeg (hk m hm)
  have hlt : ∀ j, j < zp_ar (zp_n kd' N) → zp_op kd' fl' N j < N := fun j hj => (hn.2.2.2.1 j hj).2
  have hP : ∀ a m j, zp_P (N + 1) kd' fl' a m j → zp_P N kd fl a m j ∨ (m = N ∧ j < zp_ar (zp_n kd' N) ∧ zp_op kd' fl' N j = a) := by
    intro a m j ⟨p1, p2, p3⟩
    by_cases e : m = N
    · subst e; exact Or.inr ⟨rfl, p2, p3⟩
    · have hm : m < N := by omega
      rw [hkk m hm] at p2
      exact Or.inl ⟨hm, p2, by rw [← hop m j hm p2]; exact p3⟩
  have hP2 : ∀ a m j, zp_P N kd fl a m j → zp_P (N + 1) kd' fl' a m j := by
    intro a m j ⟨p1, p2, p3⟩
    exact ⟨by omega, by rw [hkk m p1]; exact p2, by rw [hop m j p1 p2]; exact p3⟩
  have hPa : ∀ a m j, zp_P N kd fl a m j → a < N ∧ us a = 1 := by
    intro a m j p
    have ha : a < N := by
      have := ((hW.2 m p.1).2.2.2.1 j p.2.1).2
      rw [p.2.2] at this; have := p.1; omega
    exact ⟨ha, ((hS a ha).2).mpr (Or.inl ⟨m, j, p⟩)⟩
  have hOa : ∀ a v, zp_O V qn a v → a < N ∧ us a = 1 := by
    intro a v o
    have ha : a < N := zp_Oa hW o
    exact ⟨ha, ((hS a ha).2).mpr (Or.inr ⟨v, o⟩)⟩
  refine ⟨⟨?_, ?_⟩, ⟨?_, ?_, ?_⟩, ?_⟩
  · intro v hv
    obtain ⟨a1, a2, a3⟩ := hW.1 v hv
    refine ⟨a1, a2, ?_⟩
    rcases a3 with a3 | ⟨a3, a4, a5⟩
    · exact Or.inl a3
    · exact Or.inr ⟨a3, a4, by omega⟩
  · intro n hnn
    by_cases e : n = N
    · subst e; exact hn
    · exact zp_N_congr (hk n (by omega)) (fun i _ hi => hf i (by omega)) (hW.2 n (by omega))
  · intro a m j m' j' p p'
    rcases hP a m j p with q | ⟨q1, q2, q3⟩ <;> rcases hP a m' j' p' with q' | ⟨q1', q2', q3'⟩
    · exact hU.1 a m j m' j' q q'
    · exfalso
      have := (hPa a m j q).2
      rw [← q3', hfr j' q2'] at this
      exact za_01 this
    · exfalso
      have := (hPa a m' j' q').2
      rw [← q3, hfr j q2] at this
      exact za_01 this
    · exact ⟨by omega, (hd j j' q2 q2' (by rw [q3, q3'])).symm⟩
  · exact hU.2.1
  · intro a m j v p o
    rcases hP a m j p with q | ⟨q1, q2, q3⟩
    · exact hU.2.2 a m j v q o
    · have := (hOa a v o).2
      rw [← q3, hfr j q2] at this
      exact za_01 this
  · intro a ha
    by_cases e : a = N
    · subst e
      refine ⟨Or.inl h0, ?_⟩
      rw [h0]
      refine ⟨fun h => absurd h za_01, ?_⟩
      rintro (⟨m, j, p⟩ | ⟨v, o⟩)
      · rcases hP a m j p with q | ⟨q1, q2, q3⟩
        · have := (hPa a m j q).1; omega
        · have := hlt j q2; omega
      · have := (hOa a v o).1; omega
    · have ha' : a < N := by omega
      by_cases hx : ∃ j, j < zp_ar (zp_n kd' N) ∧ a = zp_op kd' fl' N j
      · obtain ⟨j, hj, rfl⟩ := hx
        rw [h1 j hj]
        exact ⟨Or.inr rfl, fun _ => Or.inl ⟨N, j, by omega, hj, rfl⟩, fun _ => rfl⟩
      · have hx' : ∀ j, j < zp_ar (zp_n kd' N) → a ≠ zp_op kd' fl' N j := fun j hj he => hx ⟨j, hj, he⟩
        rw [h2 a ha' hx']
        refine ⟨(hS a ha').1, ?_⟩
        rw [(hS a ha').2]
        constructor
        · rintro (⟨m, j, p⟩ | o)
          · exact Or.inl ⟨m, j, hP2 a m j p⟩
          · exact Or.inr o
        · rintro (⟨m, j, p⟩ | o)
          · rcases hP a m j p with q | ⟨q1, q2, q3⟩
            · exact Or.inl ⟨m, j, q⟩
            · exact absurd q3.symm (hx' j q2)
          · exact Or.inr o
/-! a new variable -/
theorem zp_var {V N : Nat} {rl ck qn kd fl us : Nat → Int32} {r : Int32} {c : Nat} (hW : zp_W V N rl ck qn kd fl) (hU : zp_U V N qn kd fl) (hS : zp_S V N qn kd fl us) (hV : V ≤ 10)
    (hr : r = 0 ∨ r = 1) (hc : c ≤ 2 * V) :
    zp_W (V + 1) N (upd rl V r) (upd ck V (nI c)) (upd qn V (-1)) kd fl ∧ zp_U (V + 1) N (upd qn V (-1)) kd fl ∧ zp_S (V + 1) N (upd qn V (-1)) kd fl us := by
  have hO : ∀ a v, zp_O (V + 1) (upd qn V (-1)) a v ↔ zp_O V qn a v := by
    intro a v
    constructor
    · intro ⟨o1, o2, o3⟩
      by_cases e : v = V
      · subst e; rw [pk_us] at o3; exact absurd o3 (za_n1' (Nat.lt_trans o2 (by decide)))
      · rw [pk_un e] at o3; exact ⟨by omega, o2, o3⟩
    · intro ⟨o1, o2, o3⟩
      exact ⟨by omega, o2, by rw [pk_un (by omega)]; exact o3⟩
  refine ⟨⟨?_, fun n hn => zp_N_V (by omega) (hW.2 n hn)⟩, ⟨hU.1, ?_, ?_⟩, ?_⟩
  · intro v hv
    by_cases e : v = V
    · subst e
      have hc' : zp_n (upd ck v (nI c)) v = c := zp_nI pk_us (by omega)
      refine ⟨by rw [pk_us]; exact hr, ?_, Or.inl pk_us⟩
      rw [hc', pk_us]; exact ⟨rfl, hc⟩
    · have h := hW.1 v (by omega)
      have e1 : zp_n (upd ck V (nI c)) v = zp_n ck v := congrArg Int32.toNatClampNeg (pk_un e)
      have e2 : zp_n (upd qn V (-1)) v = zp_n qn v := congrArg Int32.toNatClampNeg (pk_un e)
      unfold zp_V at *
      rw [e1, e2, pk_un e, pk_un e, pk_un e]
      exact h
  · intro a v v' o o'
    exact hU.2.1 a v v' ((hO a v).mp o) ((hO a v').mp o')
  · intro a m j v p o
    exact hU.2.2 a m j v p ((hO a v).mp o)
  · intro a ha
    refine ⟨(hS a ha).1, ?_⟩
    rw [(hS a ha).2]
    constructor
    · rintro (p | ⟨v, o⟩)
      · exact Or.inl p
      · exact Or.inr ⟨v, (hO a v).mpr o⟩
    · rintro (p | ⟨v, o⟩)
      · exact Or.inl p
      · exact Or.inr ⟨v, (hO a v).mp o⟩
/-! a definition -/
theorem zp_def {V N : Nat} {rl ck qn kd fl us us' : Nat → Int32} {v a : Nat} (hW : zp_W V N rl ck qn kd fl) (hU : zp_U V N qn kd fl) (hS : zp_S V N qn kd fl us) (hN : N ≤ 48)
    (hv : v < V) (ha : a < N) (hr : rl v = 1) (hf : us a = 0) (h1 : us' a = 1)
    (h0 : ∀ b, zp_O V qn b v → us' b = 0) (h2 : ∀ b, b ≠ a → ¬ zp_O V qn b v → us' b = us b) :
    zp_W V N rl ck (upd qn v (nI a)) kd fl ∧ zp_U V N (upd qn v (nI a)) kd fl ∧ zp_S V N (upd qn v (nI a)) kd fl us' := by
  have hb : a < 2 ^ 31 := Nat.lt_of_lt_of_le ha (by omega)
  have hno : ¬ ((∃ m j, zp_P N kd fl a m j) ∨ (∃ v, zp_O V qn a v)) := by
    rw [← (hS a ha).2, hf]; exact za_01
  have hO : ∀ b w, zp_O V (upd qn v (nI a)) b w ↔ ((w = v ∧ b = a) ∨ (w ≠ v ∧ zp_O V qn b w)) := by
    intro b w
    constructor
    · intro ⟨o1, o2, o3⟩
      by_cases e : w = v
      · subst e; rw [pk_us] at o3
        exact Or.inl ⟨rfl, (za_inj o3 hb (by omega)).symm⟩
      · rw [pk_un e] at o3; exact Or.inr ⟨e, o1, o2, o3⟩
    · rintro (⟨rfl, rfl⟩ | ⟨e, o1, o2, o3⟩)
      · exact ⟨hv, by omega, pk_us⟩
      · exact ⟨o1, o2, by rw [pk_un e]; exact o3⟩
  refine ⟨⟨?_, hW.2⟩, ⟨hU.1, ?_, ?_⟩, ?_⟩
  · intro w hw
    by_cases e : w = v
    · subst e
      have hc' : zp_n (upd qn w (nI a)) w = a := zp_nI pk_us hb
      have h := hW.1 w hw
      refine ⟨h.1, h.2.1, Or.inr ⟨hr, ?_⟩⟩
      rw [hc', pk_us]; exact ⟨rfl, ha⟩
    · have h := hW.1 w hw
      have e2 : zp_n (upd qn v (nI a)) w = zp_n qn w := congrArg Int32.toNatClampNeg (pk_un e)
      unfold zp_V at *
      rw [e2, pk_un e]
      exact h
  · intro b w w' o o'
    rcases (hO b w).mp o with ⟨e1, e2⟩ | ⟨e1, o1⟩ <;> rcases (hO b w').mp o' with ⟨f1, f2⟩ | ⟨f1, o1'⟩
    · omega
    · exact absurd (Or.inr ⟨w', e2 ▸ o1'⟩) hno
    · exact absurd (Or.inr ⟨w, f2 ▸ o1⟩) hno
    · exact hU.2.1 b w w' o1 o1'
  · intro b m j w p o
    rcases (hO b w).mp o with ⟨e1, e2⟩ | ⟨e1, o1⟩
    · exact hno (Or.inl ⟨m, j, e2 ▸ p⟩)
    · exact hU.2.2 b m j w p o1
  · intro b hbN
    by_cases e : b = a
    · subst e
      rw [h1]
      exact ⟨Or.inr rfl, fun _ => Or.inr ⟨v, (hO b v).mpr (Or.inl ⟨rfl, rfl⟩)⟩, fun _ => rfl⟩
    · by_cases o : zp_O V qn b v
      · rw [h0 b o]
        refine ⟨Or.inl rfl, fun h => absurd h za_01, ?_⟩
        rintro (⟨m, j, p⟩ | ⟨w, ow⟩)
        · exact absurd o (fun o => hU.2.2 b m j v p o)
        · rcases (hO b w).mp ow with ⟨e1, e2⟩ | ⟨e1, o1⟩
          · exact absurd e2 e
          · exact absurd (hU.2.1 b v w o o1) e1
      · rw [h2 b e o]
        refine ⟨(hS b hbN).1, ?_⟩
        rw [(hS b hbN).2]
        constructor
        · rintro (p | ⟨w, ow⟩)
          · exact Or.inl p
          · refine Or.inr ⟨w, (hO b w).mpr (Or.inr ⟨?_, ow⟩)⟩
            rintro rfl; exact o ow
        · rintro (p | ⟨w, ow⟩)
          · exact Or.inl p
          · rcases (hO b w).mp ow with ⟨e1, e2⟩ | ⟨e1, o1⟩
            · exact absurd e2 e
            · exact Or.inr ⟨w, o1⟩
theorem zp_zero {rl ck qn kd fl us : Nat → Int32} : zp_W 0 0 rl ck qn kd fl ∧ zp_U 0 0 qn kd fl ∧ zp_S 0 0 qn kd fl us :=
  ⟨⟨fun v h => absurd h (Nat.not_lt_zero v), fun v h => absurd h (Nat.not_lt_zero v)⟩,
   ⟨fun _ _ _ _ _ p _ => absurd p.1 (Nat.not_lt_zero _), fun _ _ _ p _ => absurd p.1 (Nat.not_lt_zero _), fun _ _ _ _ p _ => absurd p.1 (Nat.not_lt_zero _)⟩,
   fun v h => absurd h (Nat.not_lt_zero v)⟩
end
section
/-! the component's small helpers and makeNode -/
section
variable {eS oS aS MV MN MI ph ve fa no vc nc oc sc bc lc pr : Int32} {rl ck qn pd kd fl us lv ex ow de nl vl di re od sA sT bC bS bE sl mV mN se nV nN pS pV : Nat → Int32}
theorem xa_decl1 {post : Int32 → Prop} {V v : Nat} (hV : V ≤ 10) (hv : v < V) (h : post 1) : wpX_isDeclared post (eS, oS, aS, MV, MN, MI, ph, ve, fa, no, nI V, nc, oc, sc, bc, lc, pr, rl, ck, qn, pd, kd, fl, us, lv, ex, ow, de, nl, vl, di, re, od, sA, sT, bC, bS, bE, sl, mV, mN, se, nV, nN, pS, pV) (nI v) :=
  br_f (nI_pos (by omega)) (br_f (nI_ge hv (by omega)) h)
theorem xa_decl0 {post : Int32 → Prop} {V : Nat} {p : Int32} (hV : V ≤ 10) (hn : ¬ ∃ v, v < V ∧ p = nI v) (h : post 0) : wpX_isDeclared post (eS, oS, aS, MV, MN, MI, ph, ve, fa, no, nI V, nc, oc, sc, bc, lc, pr, rl, ck, qn, pd, kd, fl, us, lv, ex, ow, de, nl, vl, di, re, od, sA, sT, bC, bS, bE, sl, mV, mN, se, nV, nN, pS, pV) p := by
  by_cases hp : p < 0
  · exact br_t hp h
  · obtain ⟨j, hj, rfl⟩ := nI_of hp
    have hj' : V ≤ j := Nat.le_of_not_lt (fun hl => hn ⟨j, hl, rfl⟩)
    exact br_f hp (br_t (nI_le hj' hj) h)
theorem xa_free1 {post : Int32 → Prop} {N a : Nat} (hN : N ≤ 48) (ha : a < N) (hu : us a = 0) (h : post 1) : wpX_isFree post (eS, oS, aS, MV, MN, MI, ph, ve, fa, no, vc, nI N, oc, sc, bc, lc, pr, rl, ck, qn, pd, kd, fl, us, lv, ex, ow, de, nl, vl, di, re, od, sA, sT, bC, bS, bE, sl, mV, mN, se, nV, nN, pS, pV) (nI a) :=
  br_f (nI_pos (by omega)) (br_f (nI_ge ha (by omega)) ⟨vp_in_nI (by omega) (by decide), br_t (by rw [nI_clamp (by omega)]; exact hu) h⟩)
theorem xa_free0 {post : Int32 → Prop} {N : Nat} {p : Int32} (hN : N ≤ 48) (hn : ¬ ∃ a, a < N ∧ us a = 0 ∧ p = nI a) (h : post 0) : wpX_isFree post (eS, oS, aS, MV, MN, MI, ph, ve, fa, no, vc, nI N, oc, sc, bc, lc, pr, rl, ck, qn, pd, kd, fl, us, lv, ex, ow, de, nl, vl, di, re, od, sA, sT, bC, bS, bE, sl, mV, mN, se, nV, nN, pS, pV) p := by
  by_cases hp : p < 0
  · exact br_t hp h
  · obtain ⟨j, hj, rfl⟩ := nI_of hp
    refine br_f hp ?_
    by_cases hjN : j < N
    · refine br_f (nI_ge hjN (by omega)) ⟨vp_in_nI (by omega) (by decide), br_f ?_ h⟩
      rw [nI_clamp (by omega)]
      exact fun e => hn ⟨j, hjN, e, rfl⟩
    · exact br_t (nI_le (by omega) hj) h
theorem xa_cnt {post : Int32 → Prop} {k : Nat} (h1 : 1 ≤ k) (h2 : k ≤ 18) (h : post (nI (zp_ar k))) : wpX_operandCount post (eS, oS, aS, MV, MN, MI, ph, ve, fa, no, vc, nc, oc, sc, bc, lc, pr, rl, ck, qn, pd, kd, fl, us, lv, ex, ow, de, nl, vl, di, re, od, sA, sT, bC, bS, bE, sl, mV, mN, se, nV, nN, pS, pV) (nI k) := by
  unfold wpX_operandCount
  have hc : k = 1 ∨ k = 2 ∨ k = 3 ∨ k = 4 ∨ k = 5 ∨ k = 6 ∨ k = 7 ∨ k = 8 ∨ k = 9 ∨ k = 10 ∨ k = 11 ∨ k = 12 ∨ k = 13 ∨ k = 14 ∨ k = 15 ∨ k = 16 ∨ k = 17 ∨ k = 18 := by omega
  rcases hc with rfl | rfl | rfl | rfl | rfl | rfl | rfl | rfl | rfl | rfl | rfl | rfl | rfl | rfl | rfl | rfl | rfl | rfl
  all_goals repeat (first | exact h | refine br_t (by decide) ?_ | refine br_f (by decide) ?_)
theorem xa_op {post : Int32 → Prop} {n j k : Nat} (hn : n < 48) (hk : kd n = nI k) (h18 : k ≤ 18) (hj : zp_fo k + j < 4) (h : post (fl (4 * n + (zp_fo k + j)))) : wpX_operand post (eS, oS, aS, MV, MN, MI, ph, ve, fa, no, vc, nc, oc, sc, bc, lc, pr, rl, ck, qn, pd, kd, fl, us, lv, ex, ow, de, nl, vl, di, re, od, sA, sT, bC, bS, bE, sl, mV, mN, se, nV, nN, pS, pV) (nI n) (nI j) := by
  unfold wpX_operand
  refine ⟨vp_in_nI hn (by decide), nm_r (e' := nI k) (by rw [nI_clamp (by omega)]; exact hk) ?_⟩
  have H : ∀ f, f = zp_fo k → wX_operand_43 post (nI n) (nI j) (nI f) eS oS aS MV MN MI ph ve fa no vc nc oc sc bc lc pr rl ck qn pd kd fl us lv ex ow de nl vl di re od sA sT bC bS bE sl mV mN se nV nN pS pV := by
    intro f hf
    unfold wX_operand_43
    have e : ((nI n * 4) + nI f) + nI j = nI (4 * n + (zp_fo k + j)) := by
      rw [za_m4, nI_add, nI_add, hf, Nat.add_assoc]
    rw [e]
    exact ⟨vp_in_nI (by omega) (by decide), by rw [nI_clamp (by omega)]; exact h⟩
  have hb : k < 2 ^ 31 := by omega
  by_cases h16 : k = 16
  · exact br_t ((zq_16 hb).mpr h16) (H 2 (by rw [h16]; rfl))
  refine br_f (fun e => h16 ((zq_16 hb).mp e)) ?_
  by_cases h17 : k = 17
  · exact br_t ((zq_17 hb).mpr h17) (H 1 (by rw [h17]; rfl))
  refine br_f (fun e => h17 ((zq_17 hb).mp e)) ?_
  by_cases h18 : k = 18
  · exact br_t ((zq_18 hb).mpr h18) (H 3 (by rw [h18]; rfl))
  refine br_f (fun e => h18 ((zq_18 hb).mp e)) (H 0 ?_)
  unfold zp_fo
  rw [if_neg h16, if_neg h17, if_neg h18]
theorem zc_4 {n c : Nat} (hn : n < 48) (hc : c < 4) : (nI (4 * n + c)).toNatClampNeg = 4 * n + c := nI_clamp (by omega)
theorem xa_mk {post : Int32 → SX → Prop} {N mn k : Nat} {f1 f2 f3 f4 : Int32} {kd' fl' : Nat → Int32} (hN : N < mn) (hm : mn ≤ 48) (hk1 : 1 ≤ k) (hk2 : k ≤ 18)
    (ek : kd' = upd kd N (nI k)) (ef : fl' = upd (upd (upd (upd fl (4 * N) f1) (4 * N + 1) f2) (4 * N + 2) f3) (4 * N + 3) f4)
    (hop : ∀ j, j < zp_ar k → fl' (4 * N + (zp_fo k + j)) = nI (zp_op kd' fl' N j) ∧ zp_op kd' fl' N j < N)
    (h : ∀ us' : Nat → Int32, us' N = 0 → (∀ j, j < zp_ar k → us' (zp_op kd' fl' N j) = 1) → (∀ a, a < N → (∀ j, j < zp_ar k → a ≠ zp_op kd' fl' N j) → us' a = us a) → post (nI N) (eS, oS, aS, MV, nI mn, MI, ph, ve, fa, no, vc, nI (N + 1), oc, sc, bc, lc, pr, rl, ck, qn, pd, kd', fl', us', lv, ex, ow, de, nl, vl, di, re, od, sA, sT, bC, bS, bE, sl, mV, mN, se, nV, nN, pS, pV)) :
    wpX_makeNode post (eS, oS, aS, MV, nI mn, MI, ph, ve, fa, no, vc, nI N, oc, sc, bc, lc, pr, rl, ck, qn, pd, kd, fl, us, lv, ex, ow, de, nl, vl, di, re, od, sA, sT, bC, bS, bE, sl, mV, mN, se, nV, nN, pS, pV) (nI k) f1 f2 f3 f4 := by
  have e0 : (nI N).toNatClampNeg = N := nI_clamp (by omega)
  have e1 : nI N * 4 = nI (4 * N) := za_m4 N
  have c1 : (nI (4 * N)).toNatClampNeg = 4 * N := nI_clamp (by omega)
  have c2 : (nI (4 * N + 1)).toNatClampNeg = 4 * N + 1 := nI_clamp (by omega)
  have c3 : (nI (4 * N + 2)).toNatClampNeg = 4 * N + 2 := nI_clamp (by omega)
  have c4 : (nI (4 * N + 3)).toNatClampNeg = 4 * N + 3 := nI_clamp (by omega)
  have kk : kd' N = nI k := by rw [ek, pk_us]
  unfold wpX_makeNode
  dsimp only
  rw [e1, nI_1 (4 * N), za_2, za_3, c1, c2, c3, c4, e0]
  refine br_t (nI_lt hN (by omega)) ⟨vp_in_nI (by omega) (by decide), nm_r ek.symm ⟨vp_in_nI (by omega) (by decide), nm_r (e' := upd us N 0) (by rw [za_b0]) ⟨vp_in_nI (by omega) (by decide), nm_e ⟨vp_in_nI (by omega) (by decide), nm_e ⟨vp_in_nI (by omega) (by decide), nm_e ⟨vp_in_nI (by omega) (by decide), nm_r ef.symm (nm_r (nI_1 N) ?_)⟩⟩⟩⟩⟩⟩
  refine xa_cnt hk1 hk2 ?_
  have A3 := zp_ar3 k
  refine pk_loop (fun n i (us : Nat → Int32) => wX_makeNode_102 post (nI N) (nI (zp_ar k)) eS oS aS MV (nI mn) MI ph ve fa no vc (nI (N + 1)) oc sc bc lc pr n (nI i) rl ck qn pd kd' fl' us lv ex ow de nl vl di re od sA sT bC bS bE sl mV mN se nV nN pS pV)
    (fun i us' => us' N = 0 ∧ (∀ j, j < i → us' (zp_op kd' fl' N j) = 1) ∧ (∀ a, a < N → (∀ j, j < i → a ≠ zp_op kd' fl' N j) → us' a = us a)) (zp_ar k) 0 (upd us N 0) (Nat.zero_le _) ⟨pk_us, fun j hj => absurd hj (Nat.not_lt_zero j), fun a ha _ => pk_un (by omega)⟩ ?_ ?_
  · intro n us' ⟨i1, i2, i3⟩
    exact br_t (nI_le (Nat.le_refl _) (by omega)) (h us' i1 i2 i3)
  · intro n i us' hi ⟨i1, i2, i3⟩ ih
    have hlt := (hop i hi).2
    refine br_f (nI_ge hi (by omega)) (xa_op (by omega) kk hk2 (zp_fa hi) ?_)
    rw [(hop i hi).1]
    refine ⟨vp_in_nI (by omega) (by decide), nm_r (e' := upd us' (zp_op kd' fl' N i) 1) (by rw [za_b1, nI_clamp (by omega)]) (nm_r (nI_1 i) (ih _ ⟨?_, ?_, ?_⟩))⟩
    · rw [pk_un (by omega)]; exact i1
    · intro j hj
      by_cases e : zp_op kd' fl' N j = zp_op kd' fl' N i
      · rw [e, pk_us]
      · rw [pk_un e]
        refine i2 j ?_
        rcases Nat.lt_or_ge j i with hl | hl
        · exact hl
        · exact absurd (by rw [show j = i by omega]) e
    · intro a ha hne
      rw [pk_un (hne i (by omega))]
      exact i3 a ha (fun j hj => hne j (by omega))
theorem xa_mk0 {post : Int32 → SX → Prop} {N mn : Nat} {k f1 f2 f3 f4 : Int32} (hN : mn ≤ N) (hm : N < 2 ^ 31) (h : post (-6) (eS, oS, aS, MV, nI mn, MI, ph, ve, fa, no, vc, nI N, oc, sc, bc, lc, pr, rl, ck, qn, pd, kd, fl, us, lv, ex, ow, de, nl, vl, di, re, od, sA, sT, bC, bS, bE, sl, mV, mN, se, nV, nN, pS, pV)) :
    wpX_makeNode post (eS, oS, aS, MV, nI mn, MI, ph, ve, fa, no, vc, nI N, oc, sc, bc, lc, pr, rl, ck, qn, pd, kd, fl, us, lv, ex, ow, de, nl, vl, di, re, od, sA, sT, bC, bS, bE, sl, mV, mN, se, nV, nN, pS, pV) k f1 f2 f3 f4 := br_f (nI_nlt hN hm) h
end
end
section
/-! the reference's small helpers -/
section
variable {MV MN MI vc nc no ph ve fa : Int32} {rl ck qn pd yl ys yr kd fl yd ye yn vs vv ns nv : Nat → Int32}
theorem ya_var0 {post : Int32 → Prop} {V v : Nat} (hV : V ≤ 10) (hv : v < V) (h : post 0) : wpY_badVar post (MV, MN, MI, nI V, nc, no, ph, ve, fa, rl, ck, qn, pd, yl, ys, yr, kd, fl, yd, ye, yn, vs, vv, ns, nv) (nI v) :=
  br_f (nI_pos (by omega)) (br_t (nI_lt hv (by omega)) h)
theorem ya_var1 {post : Int32 → Prop} {V : Nat} {p : Int32} (hV : V ≤ 10) (hn : ¬ ∃ v, v < V ∧ p = nI v) (h : post 1) : wpY_badVar post (MV, MN, MI, nI V, nc, no, ph, ve, fa, rl, ck, qn, pd, yl, ys, yr, kd, fl, yd, ye, yn, vs, vv, ns, nv) p := by
  by_cases hp : p < 0
  · exact br_t hp h
  · obtain ⟨j, hj, rfl⟩ := nI_of hp
    have hj' : V ≤ j := Nat.le_of_not_lt (fun hl => hn ⟨j, hl, rfl⟩)
    exact br_f hp (br_f (nI_nlt hj' hj) h)
theorem ya_op {post : Int32 → Prop} {n i k : Nat} (hn : n < 48) (hk : kd n = nI k) (h1 : 1 ≤ k) (h18 : k ≤ 18) (hi : i < 3) (h : post (if i < zp_ar k then fl (4 * n + (zp_fo k + i)) else -1)) : wpY_operand post (MV, MN, MI, vc, nc, no, ph, ve, fa, rl, ck, qn, pd, yl, ys, yr, kd, fl, yd, ye, yn, vs, vv, ns, nv) (nI n) (nI i) := by
  have c1 : (nI (4 * n)).toNatClampNeg = 4 * n := nI_clamp (by omega)
  have c2 : (nI (4 * n + 1)).toNatClampNeg = 4 * n + 1 := nI_clamp (by omega)
  have c3 : (nI (4 * n + 2)).toNatClampNeg = 4 * n + 2 := nI_clamp (by omega)
  have c4 : (nI (4 * n + 3)).toNatClampNeg = 4 * n + 3 := nI_clamp (by omega)
  have v1 : vp_in (nI (4 * n)) 192 := vp_in_nI (by omega) (by decide)
  have v2 : vp_in (nI (4 * n + 1)) 192 := vp_in_nI (by omega) (by decide)
  have v3 : vp_in (nI (4 * n + 2)) 192 := vp_in_nI (by omega) (by decide)
  have v4 : vp_in (nI (4 * n + 3)) 192 := vp_in_nI (by omega) (by decide)
  unfold wpY_operand wY_operand_118 wY_operand_140
  refine ⟨vp_in_nI hn (by decide), nm_r (e' := nI k) (by rw [nI_clamp (by omega)]; exact hk) ?_⟩
  rw [za_4m, nI_1 (4 * n), za_2, za_3, c1, c2, c3, c4]
  have hc : k = 1 ∨ k = 2 ∨ k = 3 ∨ k = 4 ∨ k = 5 ∨ k = 6 ∨ k = 7 ∨ k = 8 ∨ k = 9 ∨ k = 10 ∨ k = 11 ∨ k = 12 ∨ k = 13 ∨ k = 14 ∨ k = 15 ∨ k = 16 ∨ k = 17 ∨ k = 18 := by omega
  have hi3 : i = 0 ∨ i = 1 ∨ i = 2 := by omega
  rcases hc with rfl | rfl | rfl | rfl | rfl | rfl | rfl | rfl | rfl | rfl | rfl | rfl | rfl | rfl | rfl | rfl | rfl | rfl <;> rcases hi3 with rfl | rfl | rfl
  all_goals repeat (first | exact h | refine br_t (by decide) ?_ | refine br_f (by decide) ?_ | refine ⟨v1, ?_⟩ | refine ⟨v2, ?_⟩ | refine ⟨v3, ?_⟩ | refine ⟨v4, ?_⟩)
/-- the operand i of a well formed node, as the reference answers it -/
theorem ya_opW {post : Int32 → Prop} {V n i : Nat} (hn : n < 48) (hW : zp_N V kd fl n) (hi : i < 3) (h : post (if i < zp_ar (zp_n kd n) then nI (zp_op kd fl n i) else -1)) : wpY_operand post (MV, MN, MI, vc, nc, no, ph, ve, fa, rl, ck, qn, pd, yl, ys, yr, kd, fl, yd, ye, yn, vs, vv, ns, nv) (nI n) (nI i) := by
  refine ya_op hn hW.1 hW.2.1 hW.2.2.1 hi ?_
  split at h
  · rename_i hl
    rw [if_pos hl, (hW.2.2.2.1 i hl).1]; exact h
  · rename_i hl
    rw [if_neg hl]; exact h
/-- the search for the node above -/
theorem ya_par {post : Int32 → Prop} {V N a : Nat} (hN : N ≤ 48) (hW : ∀ n, n < N → zp_N V kd fl n) (ha : a < 48) (h1 : ∀ m j, zp_P N kd fl a m j → post (nI m)) (h0 : (∀ m j, ¬ zp_P N kd fl a m j) → post (-1)) : wpY_parent post (MV, MN, MI, vc, nI N, no, ph, ve, fa, rl, ck, qn, pd, yl, ys, yr, kd, fl, yd, ye, yn, vs, vv, ns, nv) (nI a) := by
  unfold wpY_parent
  refine pk_loop (fun n i (_ : Unit) => wY_parent_2 post (nI a) MV MN MI vc (nI N) no ph ve fa rl ck qn pd yl ys yr kd fl yd ye yn vs vv ns nv n (nI i)) (fun i _ => ∀ m j, zp_P N kd fl a m j → i ≤ m) N 0 () (Nat.zero_le _) (fun m j _ => Nat.zero_le _) ?_ ?_
  · intro n _ hI
    exact br_t (nI_le (Nat.le_refl _) (by omega)) (h0 (fun m j p => by have := hI m j p; have := p.1; omega))
  · intro n i _ hi hI ih
    refine br_f (nI_ge hi (by omega)) ?_
    refine pk_loop (fun n2 j (_ : Unit) => wY_parent_12 post (wY_parent_2 post (nI a) MV MN MI vc (nI N) no ph ve fa rl ck qn pd yl ys yr kd fl yd ye yn vs vv ns nv n) (nI a) (nI i) MV MN MI vc (nI N) no ph ve fa rl ck qn pd yl ys yr kd fl yd ye yn vs vv ns nv n2 (nI j)) (fun j _ => ∀ j', zp_P N kd fl a i j' → j ≤ j') 3 0 () (by omega) (fun j' _ => Nat.zero_le _) ?_ ?_
    · intro n2 _ hJ
      refine br_t (nI_le (a := 3) (Nat.le_refl _) (by omega)) (nm_r (nI_1 i) (ih () ?_))
      intro m j p
      have h1 := hI m j p
      rcases Nat.lt_or_ge i m with hl | hl
      · exact hl
      · exfalso
        have e : m = i := by omega
        subst e
        have h2 := hJ j p
        have h3 := zp_ar3 (zp_n kd m)
        have h4 := p.2.1
        omega
    · intro n2 j _ hj hJ jh
      refine br_f (nI_ge (b := 3) hj (by omega)) (ya_opW (V := V) (by omega) (hW i hi) hj ?_)
      have hw := hW i hi
      split
      · rename_i hl
        have hlt := (hw.2.2.2.1 j hl).2
        by_cases e : zp_op kd fl i j = a
        · rw [e]; exact br_t rfl (h1 i j ⟨hi, hl, e⟩)
        · refine br_f (fun e' => e (za_inj e' (by omega) (by omega))) (nm_r (nI_1 j) (jh () ?_))
          intro j' p
          have := hJ j' p
          rcases Nat.lt_or_ge j j' with hl' | hl'
          · exact hl'
          · exfalso
            have : j' = j := by omega
            subst this
            exact e p.2.2
      · rename_i hl
        refine br_f (za_n1' (by omega)) (nm_r (nI_1 j) (jh () ?_))
        intro j' p
        have h1 := hJ j' p
        have := p.2.1
        omega
theorem ya_own {post : Int32 → Prop} {V a : Nat} (hV : V ≤ 10) (ha : a < 48) (h1 : ∀ v, zp_O V qn a v → post (nI v)) (h0 : (∀ v, ¬ zp_O V qn a v) → post (-1)) : wpY_owner post (MV, MN, MI, nI V, nc, no, ph, ve, fa, rl, ck, qn, pd, yl, ys, yr, kd, fl, yd, ye, yn, vs, vv, ns, nv) (nI a) := by
  unfold wpY_owner
  refine pk_loop (fun n i (_ : Unit) => wY_owner_2 post (nI a) MV MN MI (nI V) nc no ph ve fa rl ck qn pd yl ys yr kd fl yd ye yn vs vv ns nv n (nI i)) (fun i _ => ∀ v, zp_O V qn a v → i ≤ v) V 0 () (Nat.zero_le _) (fun v _ => Nat.zero_le _) ?_ ?_
  · intro n _ hI
    exact br_t (nI_le (Nat.le_refl _) (by omega)) (h0 (fun v p => by have := hI v p; have := p.1; omega))
  · intro n i _ hi hI ih
    refine br_f (nI_ge hi (by omega)) ⟨vp_in_nI (by omega) (by decide), ?_⟩
    rw [nI_clamp (by omega)]
    by_cases e : qn i = nI a
    · exact br_t e (h1 i ⟨hi, ha, e⟩)
    · refine br_f e (nm_r (nI_1 i) (ih () ?_))
      intro v p
      have := hI v p
      rcases Nat.lt_or_ge i v with hl | hl
      · exact hl
      · exfalso
        have : v = i := by omega
        subst this
        exact e p.2.2
theorem ya_used {post : Int32 → Prop} {V N a : Nat} {us : Nat → Int32} (hV : V ≤ 10) (hN : N ≤ 48) (hW : ∀ n, n < N → zp_N V kd fl n) (hS : zp_S V N qn kd fl us) (ha : a < N) (h : post (us a)) : wpY_used post (MV, MN, MI, nI V, nI N, no, ph, ve, fa, rl, ck, qn, pd, yl, ys, yr, kd, fl, yd, ye, yn, vs, vv, ns, nv) (nI a) := by
  unfold wpY_used
  have hs := hS a ha
  refine ya_par (V := V) hN hW (by omega) ?_ ?_
  · intro m j p
    have e : us a = 1 := hs.2.mpr (Or.inl ⟨m, j, p⟩)
    have := p.1
    rw [e] at h
    exact br_t (nI_pos' (by omega)) h
  · intro hP
    refine br_f (by decide) (ya_own hV (by omega) ?_ ?_)
    · intro v o
      have e : us a = 1 := hs.2.mpr (Or.inr ⟨v, o⟩)
      have := o.1
      rw [e] at h
      exact br_f (nI_pos (by omega)) h
    · intro hO
      have e : us a = 0 := by
        rcases hs.1 with e | e
        · exact e
        · rcases hs.2.mp e with ⟨m, j, p⟩ | ⟨v, o⟩
          · exact absurd p (hP m j)
          · exact absurd o (hO v)
      rw [e] at h
      exact br_t (by decide) h
theorem ya_node0 {post : Int32 → Prop} {V N a : Nat} {us : Nat → Int32} (hV : V ≤ 10) (hN : N ≤ 48) (hW : ∀ n, n < N → zp_N V kd fl n) (hS : zp_S V N qn kd fl us) (ha : a < N) (hu : us a = 0) (h : post 0) : wpY_badNode post (MV, MN, MI, nI V, nI N, no, ph, ve, fa, rl, ck, qn, pd, yl, ys, yr, kd, fl, yd, ye, yn, vs, vv, ns, nv) (nI a) :=
  br_f (nI_pos (by omega)) (br_f (nI_ge ha (by omega)) (ya_used hV hN hW hS ha (br_t hu h)))
theorem ya_node1 {post : Int32 → Prop} {V N : Nat} {p : Int32} {us : Nat → Int32} (hV : V ≤ 10) (hN : N ≤ 48) (hW : ∀ n, n < N → zp_N V kd fl n) (hS : zp_S V N qn kd fl us) (hn : ¬ ∃ a, a < N ∧ us a = 0 ∧ p = nI a) (h : post 1) : wpY_badNode post (MV, MN, MI, nI V, nI N, no, ph, ve, fa, rl, ck, qn, pd, yl, ys, yr, kd, fl, yd, ye, yn, vs, vv, ns, nv) p := by
  by_cases hp : p < 0
  · exact br_t hp h
  · obtain ⟨j, hj, rfl⟩ := nI_of hp
    refine br_f hp ?_
    by_cases hjN : j < N
    · exact br_f (nI_ge hjN (by omega)) (ya_used hV hN hW hS hjN (br_f (fun e => hn ⟨j, hjN, e, rfl⟩) h))
    · exact br_t (nI_le (by omega) hj) h
theorem ya_mk {post : Int32 → SY → Prop} {N mn : Nat} {k f1 f2 f3 f4 : Int32} (hN : N < mn) (hm : mn ≤ 48)
    (h : post (nI N) (MV, nI mn, MI, vc, nI (N + 1), no, ph, ve, fa, rl, ck, qn, pd, yl, ys, yr, upd kd N k, upd (upd (upd (upd fl (4 * N) f1) (4 * N + 1) f2) (4 * N + 2) f3) (4 * N + 3) f4, yd, ye, yn, vs, vv, ns, nv)) :
    wpY_make post (MV, nI mn, MI, vc, nI N, no, ph, ve, fa, rl, ck, qn, pd, yl, ys, yr, kd, fl, yd, ye, yn, vs, vv, ns, nv) k f1 f2 f3 f4 := by
  have e0 : (nI N).toNatClampNeg = N := nI_clamp (by omega)
  have c1 : (nI (4 * N)).toNatClampNeg = 4 * N := nI_clamp (by omega)
  have c2 : (nI (4 * N + 1)).toNatClampNeg = 4 * N + 1 := nI_clamp (by omega)
  have c3 : (nI (4 * N + 2)).toNatClampNeg = 4 * N + 2 := nI_clamp (by omega)
  have c4 : (nI (4 * N + 3)).toNatClampNeg = 4 * N + 3 := nI_clamp (by omega)
  unfold wpY_make
  dsimp only
  rw [za_4m, nI_1 (4 * N), za_2, za_3, c1, c2, c3, c4, e0]
  refine br_t (nI_lt hN (by omega)) ⟨vp_in_nI (by omega) (by decide), nm_e ⟨vp_in_nI (by omega) (by decide), nm_e ⟨vp_in_nI (by omega) (by decide), nm_e ⟨vp_in_nI (by omega) (by decide), nm_e ⟨vp_in_nI (by omega) (by decide), nm_e (nm_r (nI_1 N) ?_)⟩⟩⟩⟩⟩
  rw [nI_pred]
  exact h
theorem ya_mk0 {post : Int32 → SY → Prop} {N mn : Nat} {k f1 f2 f3 f4 : Int32} (hN : mn ≤ N) (hm : N < 2 ^ 31) (h : post (-6) (MV, nI mn, MI, vc, nI N, no, ph, ve, fa, rl, ck, qn, pd, yl, ys, yr, kd, fl, yd, ye, yn, vs, vv, ns, nv)) :
    wpY_make post (MV, nI mn, MI, vc, nI N, no, ph, ve, fa, rl, ck, qn, pd, yl, ys, yr, kd, fl, yd, ye, yn, vs, vv, ns, nv) k f1 f2 f3 f4 := br_f (nI_nlt hN hm) h
end
end
section
/-! what a compiled program is: trees, dependencies, steps, blocks, slots, history -/
def zt_oc (ck kd fl de : Nat → Int32) (m j : Nat) : Nat :=
  if zp_n kd m = 16 then zp_n ck (zp_n fl (4 * m)) else if zp_n kd m = 17 then 1 + 2 * zp_n fl (4 * m) + (1 - j) else if zp_n kd m = 18 then 1 + 2 * zp_n fl (4 * m) + zp_n fl (4 * m + 1) else zp_n de m
def zt_sh (V : Nat) (lv ex ow de : Nat → Int32) (n : Nat) : Prop :=
  (lv n = 0 ∧ ex n = 0 ∧ ow n = -1 ∧ de n = -1) ∨ (lv n = 1 ∧ (ex n = 0 ∨ ex n = 1) ∧ ow n = nI (zp_n ow n) ∧ zp_n ow n < V ∧ de n = nI (zp_n de n) ∧ zp_n de n ≤ 2 * V)
def zt_eq (ck kd fl lv ex ow de : Nat → Int32) (a m j : Nat) : Prop :=
  lv a = lv m ∧ ow a = ow m ∧ ex a = (if zp_n kd m = 5 then 0 else ex m) ∧ (lv m = 1 → de a = nI (zt_oc ck kd fl de m j))
/-- the facts after the nodes from i up have handed on theirs, and of node i - 1 the operands below j -/
def zt_I (V N : Nat) (ck qn kd fl lv ex ow de : Nat → Int32) (S : Nat → Nat → Prop) : Prop :=
  (∀ n, n < N → zt_sh V lv ex ow de n) ∧
  (∀ r v, zp_O V qn r v → lv r = 1 ∧ ex r = 1 ∧ ow r = nI v ∧ de r = ck v) ∧
  (∀ a m j, zp_P N kd fl a m j → S m j → zt_eq ck kd fl lv ex ow de a m j) ∧
  (∀ n, n < N → lv n = 1 → (∃ v, zp_O V qn n v) ∨ (∃ m j, zp_P N kd fl n m j ∧ S m j))
def zt_L (V N : Nat) (ck qn kd fl lv ex ow de : Nat → Int32) : Prop := zt_I V N ck qn kd fl lv ex ow de (fun _ _ => True)
/-- node n offends -/
def zt_off (ck kd fl de : Nat → Int32) (n : Nat) : Prop :=
  (zp_n kd n = 16 ∧ ¬ de n = nI (1 + 2 * zp_n fl (4 * n) + zp_n fl (4 * n + 1))) ∨ ((zp_n kd n = 2 ∨ zp_n kd n = 17 ∨ zp_n kd n = 18) ∧ ¬ de n = ck (zp_n fl (4 * n)))
/-! dependencies -/
def zd_E (ex ow : Nat → Int32) (n : Nat) : Int32 := if ex n = 1 then ow n else -1
def zd_dp (N : Nat) (ck kd fl E : Nat → Int32) (v w : Nat) : Prop :=
  (zp_n ck v ≠ 0 ∧ (zp_n ck v - 1) / 2 = w) ∨ (∃ n, n < N ∧ E n = nI v ∧ (zp_n kd n = 2 ∨ 16 ≤ zp_n kd n) ∧ zp_n fl (4 * n) = w)
def zd_o (V : Nat) (D : Nat → Nat → Prop) (o : Nat → Nat) (q : Nat) : Prop :=
  (∀ i, i < q → o i < V) ∧ (∀ i w, i < q → D (o i) w → ∃ i', i' < i ∧ o i' = w)
def zd_cov (V : Nat) (o : Nat → Nat) (q : Nat) : Prop := q ≤ V ∧ ∀ v, v < V → ∃ i, i < q ∧ o i = v
/-- what is settled at all: the least set -/
def zd_R (V : Nat) (D : Nat → Nat → Prop) (v : Nat) : Prop := ∀ S : Nat → Prop, (∀ x, x < V → (∀ w, D x w → S w) → S x) → S v
/-! lateness -/
def zn_any (kd fl nl : Nat → Int32) (n : Nat) : Int32 :=
  if (0 < zp_ar (zp_n kd n) ∧ ¬ nl (zp_op kd fl n 0) = 0) ∨ (1 < zp_ar (zp_n kd n) ∧ ¬ nl (zp_op kd fl n 1) = 0) ∨ (2 < zp_ar (zp_n kd n) ∧ ¬ nl (zp_op kd fl n 2) = 0) then 1 else 0
def zn_lt (kd fl nl vl : Nat → Int32) (n : Nat) : Int32 :=
  if zp_n kd n = 1 ∨ zp_n kd n = 17 ∨ zp_n kd n = 18 then 0 else if zp_n kd n = 2 then vl (zp_n fl (4 * n)) else if zp_n kd n = 5 then 1 else if zp_n kd n = 14 then nl (zp_op kd fl n 0) else zn_any kd fl nl n
def zn_vl (qn nl : Nat → Int32) (v : Nat) : Int32 := if qn v < 0 then 0 else if nl (zp_n qn v) = 0 then 0 else 1
def zn_01 (a : Nat → Int32) : Prop := ∀ i, a i = 0 ∨ a i = 1
/-! steps -/
def zs_c (ck de sA sT : Nat → Int32) (s : Nat) : Nat := if sA s = 1 then zp_n ck (zp_n sT s) else zp_n de (zp_n sT s)
def zs_has (sA sT : Nat → Int32) (S : Nat) (a : Int32) (x : Nat) : Prop := ∃ s, s < S ∧ sA s = a ∧ sT s = nI x
/-- the inputs of a step (action a, target x, clock c) stand below S -/
def zs_ok (V N : Nat) (ck qn kd fl lv de sA sT : Nat → Int32) (S : Nat) (a : Int32) (x : Nat) : Prop :=
  (a = 0 ∧ x < N ∧ lv x = 1 ∧ (zp_n de x ≠ 0 → zs_has sA sT S 1 ((zp_n de x - 1) / 2)) ∧ ((zp_n kd x = 2 ∨ 16 ≤ zp_n kd x) → zs_has sA sT S 1 (zp_n fl (4 * x))) ∧ (zp_n kd x ≠ 5 → ∀ j, j < zp_ar (zp_n kd x) → zs_has sA sT S 0 (zp_op kd fl x j))) ∨
  (a = 1 ∧ x < V ∧ (zp_n ck x ≠ 0 → zs_has sA sT S 1 ((zp_n ck x - 1) / 2)) ∧ (∀ r, zp_O V qn r x → zs_has sA sT S 0 r)) ∨
  (a = 2 ∧ x < N ∧ lv x = 1 ∧ zp_n kd x = 5 ∧ (zp_n de x ≠ 0 → zs_has sA sT S 1 ((zp_n de x - 1) / 2)) ∧ zs_has sA sT S 0 (zp_op kd fl x 0))
def zs_S (V N : Nat) (ck qn kd fl lv de sA sT : Nat → Int32) (S : Nat) : Prop :=
  ∀ s, s < S → sT s = nI (zp_n sT s) ∧ zp_n sT s < 48 ∧ zs_ok V N ck qn kd fl lv de sA sT s (sA s) (zp_n sT s)
def zs_all (V N : Nat) (kd lv sA sT : Nat → Int32) (S : Nat) : Prop :=
  (∀ v, v < V → zs_has sA sT S 1 v) ∧ (∀ n, n < N → lv n = 1 → zs_has sA sT S 0 n) ∧ (∀ n, n < N → lv n = 1 → zp_n kd n = 5 → zs_has sA sT S 2 n)
def zs_B (S B : Nat) (C : Nat → Nat) (bC bS bE : Nat → Int32) : Prop :=
  B ≤ S ∧ (B = 0 → S = 0) ∧ (0 < B → bS 0 = 0 ∧ bE (B - 1) = nI S) ∧ (∀ b, b + 1 < B → bS (b + 1) = bE b) ∧
  (∀ b, b < B → bS b = nI (zp_n bS b) ∧ bE b = nI (zp_n bE b) ∧ bC b = nI (zp_n bC b) ∧ zp_n bS b < zp_n bE b ∧ zp_n bE b ≤ S ∧ (∀ s, zp_n bS b ≤ s → s < zp_n bE b → C s = zp_n bC b))
/-! slots -/
def zs_L (N L : Nat) (kd lv sl : Nat → Int32) : Prop :=
  (∀ n, n < N → lv n = 1 → (zp_n kd n = 5 ∨ zp_n kd n = 18) → sl n = nI (zp_n sl n) ∧ zp_n sl n < L) ∧
  (∀ n n', n < N → n' < N → lv n = 1 → lv n' = 1 → (zp_n kd n = 5 ∨ zp_n kd n = 18) → (zp_n kd n' = 5 ∨ zp_n kd n' = 18) → zp_n sl n = zp_n sl n' → n = n')
/-! history -/
def zr_P (vs vv : Nat → Int32) (x t : Nat) : Prop :=
  x = 0 ∨ (¬ vs (10 * t + (x - 1) / 2) = 0 ∧ ((¬ vv (10 * t + (x - 1) / 2) = 0) ↔ (x - 1) % 2 = 1))
def zr_last (vs vv : Nat → Int32) (x t u : Nat) : Prop := u < t ∧ zr_P vs vv x u ∧ ∀ u', u < u' → u' < t → ¬ zr_P vs vv x u'
def zr_none (vs vv : Nat → Int32) (x t : Nat) : Prop := ∀ u, u < t → ¬ zr_P vs vv x u
def zr_nil (s : Int32) : Int32 := if s = 2 then 1 else 0
def zr_cx (fl : Nat → Int32) (n : Nat) : Nat := 1 + 2 * zp_n fl (4 * n) + zp_n fl (4 * n + 1)
/-- what slot at holds: what operand a had when clock x was last present before t, else (i, z) -/
def zr_mem (mV mN vs vv ns nv : Nat → Int32) (t q x a : Nat) (i z : Int32) : Prop :=
  (∀ u, zr_last vs vv x t u → mV (48 * t + q) = nv (48 * u + a) ∧ mN (48 * t + q) = zr_nil (ns (48 * u + a))) ∧
  (zr_none vs vv x t → mV (48 * t + q) = i ∧ mN (48 * t + q) = z)
def zr_M (N : Nat) (kd fl lv de sl mV mN vs vv ns nv : Nat → Int32) (t : Nat) : Prop :=
  ∀ n, n < N → lv n = 1 →
    (zp_n kd n = 5 → zr_mem mV mN vs vv ns nv t (zp_n sl n) (zp_n de n) (zp_op kd fl n 0) 0 1) ∧
    (zp_n kd n = 18 → zr_mem mV mN vs vv ns nv t (zp_n sl n) (zr_cx fl n) (zp_op kd fl n 0) (fl (4 * n + 2)) 0)
def zr_S (V : Nat) (se vs vv : Nat → Int32) (t : Nat) : Prop := ∀ d, d ≤ 2 * V → (bt (se t) d = true ↔ ∃ u, u < t ∧ zr_P vs vv d u)
def zr_G (N : Nat) (lv de vs vv ns nv : Nat → Int32) (t : Nat) : Prop :=
  ∀ n, n < N → lv n = 1 → zr_P vs vv (zp_n de n) t → ns (48 * t + n) = 1 ∨ (ns (48 * t + n) = 2 ∧ nv (48 * t + n) = 0)
def zr_R (V : Nat) (pS pV vs vv : Nat → Int32) (t : Nat) : Prop := ∀ v, v < V → pS (10 * t + v) = vs (10 * t + v) ∧ pV (10 * t + v) = vv (10 * t + v) ∧ ¬ vs (10 * t + v) = 3
/-- compiled: all but the history -/
def zz_A (V N S B L : Nat) (rl ck qn kd fl lv ex ow de vl re sA sT bC bS bE sl yl yd ye : Nat → Int32) : Prop :=
  zt_L V N ck qn kd fl lv ex ow de ∧ (∀ n, n < N → lv n = 1 → ¬ zt_off ck kd fl de n) ∧ (∀ v, v < V → rl v = 1 → ¬ qn v = -1) ∧
  (∀ n, n < N → yd n = de n ∧ ye n = zd_E ex ow n) ∧ (∀ v, v < V → yl v = vl v) ∧
  (∃ o q, zd_o V (zd_dp N ck kd fl (zd_E ex ow)) o q ∧ zd_cov V o q) ∧
  (∀ v w, v < V → w < V → (bt (re v) w = true ↔ Relation.TransGen (zd_dp N ck kd fl (zd_E ex ow)) v w)) ∧
  S ≤ 106 ∧ zs_S V N ck qn kd fl lv de sA sT S ∧ zs_all V N kd lv sA sT S ∧ zs_B S B (zs_c ck de sA sT) bC bS bE ∧ L ≤ 48 ∧ zs_L N L kd lv sl
def zz_H (V N t : Nat) (kd fl lv de sl mV mN se pS pV vs vv ns nv : Nat → Int32) : Prop :=
  (∀ u, u < t → zr_R V pS pV vs vv u ∧ zr_G N lv de vs vv ns nv u) ∧
  (∀ u, u ≤ t → zr_M N kd fl lv de sl mV mN vs vv ns nv u ∧ zr_S V se vs vv u)
end
section
/-! the relation -/
def zz_F (MV MN MI ph no vc nc sc bc lc : Int32) (rl ck qn kd fl us lv ex ow de nl vl re sA sT bC bS bE sl mV mN se pS pV yl yd ye vs vv ns nv : Nat → Int32) : Prop :=
  ∃ V N mv mn mi t, vc = nI V ∧ nc = nI N ∧ MV = nI mv ∧ MN = nI mn ∧ MI = nI mi ∧ no = nI t ∧ V ≤ mv ∧ mv ≤ 10 ∧ N ≤ mn ∧ mn ≤ 48 ∧ t ≤ mi ∧ mi ≤ 24 ∧
    zp_W V N rl ck qn kd fl ∧ zp_U V N qn kd fl ∧ zp_S V N qn kd fl us ∧ zn_01 nl ∧ zn_01 vl ∧
    ((ph = 0 ∧ t = 0) ∨ (ph = 1 ∧ ∃ S B L, sc = nI S ∧ bc = nI B ∧ lc = nI L ∧ zz_A V N S B L rl ck qn kd fl lv ex ow de vl re sA sT bC bS bE sl yl yd ye ∧ zz_H V N t kd fl lv de sl mV mN se pS pV vs vv ns nv))
def i_Rel (_ : Nat) (u : SX) (v : SY) : Prop := match u with
  | (eS, oS, aS, MV, MN, MI, ph, ve, fa, no, vc, nc, oc, sc, bc, lc, pr, rl, ck, qn, pd, kd, fl, us, lv, ex, ow, de, nl, vl, di, re, od, sA, sT, bC, bS, bE, sl, mV, mN, se, nV, nN, pS, pV) => match v with
    | (MV', MN', MI', vc', nc', no', ph', ve', fa', rl', ck', qn', pd', yl, ys, yr, kd', fl', yd, ye, yn, vs, vv, ns, nv) =>
      (MV' = MV ∧ MN' = MN ∧ MI' = MI ∧ vc' = vc ∧ nc' = nc ∧ no' = no ∧ ph' = ph ∧ ve' = ve ∧ fa' = fa ∧ rl' = rl ∧ ck' = ck ∧ qn' = qn ∧ pd' = pd ∧ kd' = kd ∧ fl' = fl) ∧ zz_F MV MN MI ph no vc nc sc bc lc rl ck qn kd fl us lv ex ow de nl vl re sA sT bC bS bE sl mV mN se pS pV yl yd ye vs vv ns nv
section
variable {eS oS aS MV MN MI ph ve fa no vc nc oc sc bc lc pr : Int32} {rl ck qn pd kd fl us lv ex ow de nl vl di re od sA sT bC bS bE sl mV mN se nV nN pS pV yl ys yr yd ye yn vs vv ns nv : Nat → Int32}
theorem zz_mk {k : Nat} (h : zz_F MV MN MI ph no vc nc sc bc lc rl ck qn kd fl us lv ex ow de nl vl re sA sT bC bS bE sl mV mN se pS pV yl yd ye vs vv ns nv) : i_Rel k (eS, oS, aS, MV, MN, MI, ph, ve, fa, no, vc, nc, oc, sc, bc, lc, pr, rl, ck, qn, pd, kd, fl, us, lv, ex, ow, de, nl, vl, di, re, od, sA, sT, bC, bS, bE, sl, mV, mN, se, nV, nN, pS, pV) (MV, MN, MI, vc, nc, no, ph, ve, fa, rl, ck, qn, pd, yl, ys, yr, kd, fl, yd, ye, yn, vs, vv, ns, nv) :=
  ⟨⟨rfl, rfl, rfl, rfl, rfl, rfl, rfl, rfl, rfl, rfl, rfl, rfl, rfl, rfl, rfl⟩, h⟩
end
theorem zz_el {k : Nat} {u : SX} {v : SY} {P : SX → SY → Prop} (h : ∀ eS oS aS MV MN MI ph ve fa no vc nc oc sc bc lc pr ys yr yn rl ck qn pd kd fl us lv ex ow de nl vl di re od sA sT bC bS bE sl mV mN se nV nN pS pV yl yd ye vs vv ns nv, zz_F MV MN MI ph no vc nc sc bc lc rl ck qn kd fl us lv ex ow de nl vl re sA sT bC bS bE sl mV mN se pS pV yl yd ye vs vv ns nv → P (eS, oS, aS, MV, MN, MI, ph, ve, fa, no, vc, nc, oc, sc, bc, lc, pr, rl, ck, qn, pd, kd, fl, us, lv, ex, ow, de, nl, vl, di, re, od, sA, sT, bC, bS, bE, sl, mV, mN, se, nV, nN, pS, pV) (MV, MN, MI, vc, nc, no, ph, ve, fa, rl, ck, qn, pd, yl, ys, yr, kd, fl, yd, ye, yn, vs, vv, ns, nv)) (I : i_Rel k u v) : P u v := by
  obtain ⟨eS, oS, aS, MV, MN, MI, ph, ve, fa, no, vc, nc, oc, sc, bc, lc, pr, rl, ck, qn, pd, kd, fl, us, lv, ex, ow, de, nl, vl, di, re, od, sA, sT, bC, bS, bE, sl, mV, mN, se, nV, nN, pS, pV⟩ := u
  obtain ⟨MV', MN', MI', vc', nc', no', ph', ve', fa', rl', ck', qn', pd', yl, ys, yr, kd', fl', yd, ye, yn, vs, vv, ns, nv⟩ := v
  obtain ⟨⟨r1, r2, r3, r4, r5, r6, r7, r8, r9, r10, r11, r12, r13, r14, r15⟩, hF⟩ := I
  subst r1 r2 r3 r4 r5 r6 r7 r8 r9 r10 r11 r12 r13 r14 r15
  exact h _ _ _ _ _ _ _ _ _ _ _ _ _ _ _ _ _ _ _ _ _ _ _ _ _ _ _ _ _ _ _ _ _ _ _ _ _ _ _ _ _ _ _ _ _ _ _ _ _ _ _ _ _ _ _ _ hF
theorem i_up {k : Nat} {u : SX} {v : SY} (h : i_Rel k u v) : i_Rel (k + 5) u v := h
end
section
/-! a new node on both sides -/
theorem zn_ok {V N k : Nat} {kd fl kd' fl' : Nat → Int32} {f1 f2 f3 f4 : Int32} {g : Nat → Nat} (hN : N < 48) (hk1 : 1 ≤ k) (hk2 : k ≤ 18) (hV : V ≤ 10)
    (ek : kd' = upd kd N (nI k)) (ef : fl' = upd (upd (upd (upd fl (4 * N) f1) (4 * N + 1) f2) (4 * N + 2) f3) (4 * N + 3) f4)
    (hg : ∀ j, j < zp_ar k → fl' (4 * N + (zp_fo k + j)) = nI (g j) ∧ g j < N)
    (hc : (k = 2 ∨ 16 ≤ k) → ∃ c, c < V ∧ f1 = nI c) (hb : (k = 16 ∨ k = 18) → ∃ b, b ≤ 1 ∧ f2 = nI b) :
    zp_N V kd' fl' N ∧ zp_n kd' N = k ∧ (∀ j, j < zp_ar k → zp_op kd' fl' N j = g j) := by
  have e : zp_n kd' N = k := zp_nI (by rw [ek, pk_us]) (by omega)
  have eo : ∀ j, j < zp_ar k → zp_op kd' fl' N j = g j := by
    intro j hj
    unfold zp_op
    rw [e]
    exact zp_nI (hg j hj).1 (by have := (hg j hj).2; omega)
  have F0 : fl' (4 * N) = f1 := by rw [ef, pk_un (by omega), pk_un (by omega), pk_un (by omega), pk_us]
  have F1 : fl' (4 * N + 1) = f2 := by rw [ef, pk_un (by omega), pk_un (by omega), pk_us]
  refine ⟨?_, e, eo⟩
  unfold zp_N
  rw [e]
  refine ⟨by rw [ek, pk_us], hk1, hk2, ?_, ?_, ?_⟩
  · intro j hj
    rw [eo j hj]; exact hg j hj
  · intro h
    obtain ⟨c, c1, c2⟩ := hc h
    have : zp_n fl' (4 * N) = c := zp_nI (by rw [F0, c2]) (by omega)
    rw [this, F0]; exact ⟨c2, c1⟩
  · intro h
    obtain ⟨c, c1, c2⟩ := hb h
    have : zp_n fl' (4 * N + 1) = c := zp_nI (by rw [F1, c2]) (by omega)
    rw [this, F1]; exact ⟨c2, c1⟩
section
variable {eS oS aS MV MN MI ph ve fa no vc nc oc sc bc lc pr : Int32} {rl ck qn pd kd fl us lv ex ow de nl vl di re od sA sT bC bS bE sl mV mN se nV nN pS pV yl ys yr yd ye yn vs vv ns nv : Nat → Int32}
theorem zz_mkX {post : Int32 → SX → Prop} {V N mv mn mi k : Nat} {f1 f2 f3 f4 : Int32} {g : Nat → Nat} (hmv : V ≤ mv) (hmv2 : mv ≤ 10) (hmn : N ≤ mn) (hmn2 : mn ≤ 48) (hmi : mi ≤ 24)
    (hW : zp_W V N rl ck qn kd fl) (hU : zp_U V N qn kd fl) (hS : zp_S V N qn kd fl us) (hnl : zn_01 nl) (hvl : zn_01 vl) (hk1 : 1 ≤ k) (hk2 : k ≤ 18)
    (hg : ∀ j, j < zp_ar k → upd (upd (upd (upd fl (4 * N) f1) (4 * N + 1) f2) (4 * N + 2) f3) (4 * N + 3) f4 (4 * N + (zp_fo k + j)) = nI (g j) ∧ g j < N ∧ us (g j) = 0)
    (hgi : ∀ j j', j < zp_ar k → j' < zp_ar k → g j = g j' → j = j')
    (hc : (k = 2 ∨ 16 ≤ k) → ∃ c, c < V ∧ f1 = nI c) (hb : (k = 16 ∨ k = 18) → ∃ b, b ≤ 1 ∧ f2 = nI b)
    (hfull : mn ≤ N → post (-6) (eS, oS, aS, nI mv, nI mn, nI mi, 0, ve, fa, nI 0, nI V, nI N, oc, sc, bc, lc, pr, rl, ck, qn, pd, kd, fl, us, lv, ex, ow, de, nl, vl, di, re, od, sA, sT, bC, bS, bE, sl, mV, mN, se, nV, nN, pS, pV))
    (h : N < mn → ∀ us' : Nat → Int32, zz_F (nI mv) (nI mn) (nI mi) 0 (nI 0) (nI V) (nI (N + 1)) sc bc lc rl ck qn (upd kd N (nI k)) (upd (upd (upd (upd fl (4 * N) f1) (4 * N + 1) f2) (4 * N + 2) f3) (4 * N + 3) f4) us' lv ex ow de nl vl re sA sT bC bS bE sl mV mN se pS pV yl yd ye vs vv ns nv →
      post (nI N) (eS, oS, aS, nI mv, nI mn, nI mi, 0, ve, fa, nI 0, nI V, nI (N + 1), oc, sc, bc, lc, pr, rl, ck, qn, pd, upd kd N (nI k), upd (upd (upd (upd fl (4 * N) f1) (4 * N + 1) f2) (4 * N + 2) f3) (4 * N + 3) f4, us', lv, ex, ow, de, nl, vl, di, re, od, sA, sT, bC, bS, bE, sl, mV, mN, se, nV, nN, pS, pV)) :
    wpX_makeNode post (eS, oS, aS, nI mv, nI mn, nI mi, 0, ve, fa, nI 0, nI V, nI N, oc, sc, bc, lc, pr, rl, ck, qn, pd, kd, fl, us, lv, ex, ow, de, nl, vl, di, re, od, sA, sT, bC, bS, bE, sl, mV, mN, se, nV, nN, pS, pV) (nI k) f1 f2 f3 f4 := by
  rcases Nat.lt_or_ge N mn with hN | hN
  · obtain ⟨o1, o2, o3⟩ := zn_ok (g := g) (kd := kd) (fl := fl) (f1 := f1) (f2 := f2) (f3 := f3) (f4 := f4) (V := V) (by omega) hk1 hk2 (by omega) rfl rfl (fun j hj => ⟨(hg j hj).1, (hg j hj).2.1⟩) hc hb
    refine xa_mk hN hmn2 hk1 hk2 rfl rfl ?_ ?_
    · intro j hj
      rw [o3 j hj]; exact ⟨(hg j hj).1, (hg j hj).2.1⟩
    · intro us' u0 u1 u2
      refine h hN us' ?_
      obtain ⟨w1, w2, w3⟩ := zp_make (us' := us') hW hU hS (by omega) (fun n hn => pk_un (by omega)) (fun i hi => by rw [pk_un (by omega), pk_un (by omega), pk_un (by omega), pk_un (by omega)]) o1
        (by rw [o2]; intro j j' hj hj'; rw [o3 j hj, o3 j' hj']; exact hgi j j' hj hj')
        (by rw [o2]; intro j hj; rw [o3 j hj]; exact (hg j hj).2.2) u0 (by rw [o2]; exact u1) (by rw [o2]; exact u2)
      exact ⟨V, N + 1, mv, mn, mi, 0, rfl, rfl, rfl, rfl, rfl, rfl, hmv, hmv2, by omega, hmn2, by omega, hmi, w1, w2, w3, hnl, hvl, Or.inl ⟨rfl, rfl⟩⟩
  · exact xa_mk0 hN (by omega) (hfull hN)
end
end
section
theorem zp_ar_1 : zp_ar 1 = 0 := by decide
theorem zp_fo_1 : zp_fo 1 = 0 := by decide
theorem zp_ar_2 : zp_ar 2 = 0 := by decide
theorem zp_fo_2 : zp_fo 2 = 0 := by decide
theorem zp_ar_3 : zp_ar 3 = 1 := by decide
theorem zp_fo_3 : zp_fo 3 = 0 := by decide
theorem zp_ar_4 : zp_ar 4 = 1 := by decide
theorem zp_fo_4 : zp_fo 4 = 0 := by decide
theorem zp_ar_5 : zp_ar 5 = 1 := by decide
theorem zp_fo_5 : zp_fo 5 = 0 := by decide
theorem zp_ar_6 : zp_ar 6 = 2 := by decide
theorem zp_fo_6 : zp_fo 6 = 0 := by decide
theorem zp_ar_7 : zp_ar 7 = 2 := by decide
theorem zp_fo_7 : zp_fo 7 = 0 := by decide
theorem zp_ar_8 : zp_ar 8 = 2 := by decide
theorem zp_fo_8 : zp_fo 8 = 0 := by decide
theorem zp_ar_9 : zp_ar 9 = 2 := by decide
theorem zp_fo_9 : zp_fo 9 = 0 := by decide
theorem zp_ar_10 : zp_ar 10 = 2 := by decide
theorem zp_fo_10 : zp_fo 10 = 0 := by decide
theorem zp_ar_11 : zp_ar 11 = 2 := by decide
theorem zp_fo_11 : zp_fo 11 = 0 := by decide
theorem zp_ar_12 : zp_ar 12 = 2 := by decide
theorem zp_fo_12 : zp_fo 12 = 0 := by decide
theorem zp_ar_13 : zp_ar 13 = 2 := by decide
theorem zp_fo_13 : zp_fo 13 = 0 := by decide
theorem zp_ar_14 : zp_ar 14 = 2 := by decide
theorem zp_fo_14 : zp_fo 14 = 0 := by decide
theorem zp_ar_15 : zp_ar 15 = 3 := by decide
theorem zp_fo_15 : zp_fo 15 = 0 := by decide
theorem zp_ar_16 : zp_ar 16 = 1 := by decide
theorem zp_fo_16 : zp_fo 16 = 2 := by decide
theorem zp_ar_17 : zp_ar 17 = 2 := by decide
theorem zp_fo_17 : zp_fo 17 = 1 := by decide
theorem zp_ar_18 : zp_ar 18 = 1 := by decide
theorem zp_fo_18 : zp_fo 18 = 3 := by decide
theorem zp_ar_u {k : Nat} (h1 : 3 ≤ k) (h2 : k ≤ 5) : zp_ar k = 1 ∧ zp_fo k = 0 := by
  have : k = 3 ∨ k = 4 ∨ k = 5 := by omega
  rcases this with rfl | rfl | rfl <;> decide
theorem zp_ar_b {k : Nat} (h1 : 6 ≤ k) (h2 : k ≤ 14) : zp_ar k = 2 ∧ zp_fo k = 0 := by
  have : k = 6 ∨ k = 7 ∨ k = 8 ∨ k = 9 ∨ k = 10 ∨ k = 11 ∨ k = 12 ∨ k = 13 ∨ k = 14 := by omega
  rcases this with rfl | rfl | rfl | rfl | rfl | rfl | rfl | rfl | rfl <;> decide
section
variable {fl : Nat → Int32} {N : Nat} {f1 f2 f3 f4 : Int32}
theorem zf_0 : upd (upd (upd (upd fl (4 * N) f1) (4 * N + 1) f2) (4 * N + 2) f3) (4 * N + 3) f4 (4 * N) = f1 := by rw [pk_un (by omega), pk_un (by omega), pk_un (by omega), pk_us]
theorem zf_1 : upd (upd (upd (upd fl (4 * N) f1) (4 * N + 1) f2) (4 * N + 2) f3) (4 * N + 3) f4 (4 * N + 1) = f2 := by rw [pk_un (by omega), pk_un (by omega), pk_us]
theorem zf_2 : upd (upd (upd (upd fl (4 * N) f1) (4 * N + 1) f2) (4 * N + 2) f3) (4 * N + 3) f4 (4 * N + 2) = f3 := by rw [pk_un (by omega), pk_us]
theorem zf_3 : upd (upd (upd (upd fl (4 * N) f1) (4 * N + 1) f2) (4 * N + 2) f3) (4 * N + 3) f4 (4 * N + 3) = f4 := pk_us
end
theorem i_vc_variable {k : Nat} {u : SX} {v : SY} (I : i_Rel k u v) (hk : k + 5 ≤ 2563) (v1 : Int32) (v2 : Int32) : wpX_variable (fun r u' => wpY_variable (fun r' v' => r' = r ∧ i_Rel (k + 5) u' v') v v1 v2) u v1 v2 := by
  refine zz_el (P := fun u v => wpX_variable (fun r u' => wpY_variable (fun r' v' => r' = r ∧ i_Rel (k + 5) u' v') v v1 v2) u v1 v2) ?_ I
  intro eS oS aS MV MN MI ph ve fa no vc nc oc sc bc lc pr ys yr yn rl ck qn pd kd fl us lv ex ow de nl vl di re od sA sT bC bS bE sl mV mN se nV nN pS pV yl yd ye vs vv ns nv hF
  have hR := hF
  obtain ⟨V, N, mv, mn, mi, t, rfl, rfl, rfl, rfl, rfl, rfl, b1, b2, b3, b4, b5, b6, hW, hU, hS, hnl, hvl, hP⟩ := hF
  have hV10 : V ≤ 10 := by omega
  have hN48 : N ≤ 48 := by omega
  by_cases hp : ph = 0
  · subst hp
    have ht : t = 0 := by
      rcases hP with h | h
      · exact h.2
      · exact absurd h.1 za_01
    subst ht
    by_cases hr : v1 = 0 ∨ v1 = 1
    · by_cases hc : ∃ c, c ≤ 2 * V ∧ v2 = nI c
      · obtain ⟨c, hc, rfl⟩ := hc
        have A : wX_variable_21 (fun r u' => wpY_variable (fun r' v' => r' = r ∧ i_Rel (k + 5) u' v') (nI mv, nI mn, nI mi, nI V, nI N, nI 0, 0, ve, fa, rl, ck, qn, pd, yl, ys, yr, kd, fl, yd, ye, yn, vs, vv, ns, nv) v1 (nI c)) v1 (nI c) eS oS aS (nI mv) (nI mn) (nI mi) 0 ve fa (nI 0) (nI V) (nI N) oc sc bc lc pr rl ck qn pd kd fl us lv ex ow de nl vl di re od sA sT bC bS bE sl mV mN se nV nN pS pV := by
          refine br_f (nI_pos (by omega)) ?_
          rw [za_2m]
          refine br_t (nI_le hc (by omega)) ?_
          rcases Nat.lt_or_ge V mv with hl | hl
          · have c0 : (nI V).toNatClampNeg = V := nI_clamp (by omega)
            rw [c0]
            refine br_t (nI_lt hl (by omega)) ⟨vp_in_nI (by omega) (by decide), nm_e ⟨vp_in_nI (by omega) (by decide), nm_e ⟨vp_in_nI (by omega) (by decide), nm_e ⟨vp_in_nI (by omega) (by decide), nm_e (nm_r (nI_1 V) ?_)⟩⟩⟩⟩
            have B : wY_variable_21 (fun r' v' => r' = nI V ∧ i_Rel (k + 5) (eS, oS, aS, nI mv, nI mn, nI mi, 0, ve, fa, nI 0, nI (V + 1), nI N, oc, sc, bc, lc, pr, upd rl V v1, upd ck V (nI c), upd qn V (-1), upd pd V 0, kd, fl, us, lv, ex, ow, de, nl, vl, di, re, od, sA, sT, bC, bS, bE, sl, mV, mN, se, nV, nN, pS, pV) v') v1 (nI c) (nI mv) (nI mn) (nI mi) (nI V) (nI N) (nI 0) 0 ve fa rl ck qn pd yl ys yr kd fl yd ye yn vs vv ns nv := by
              refine br_f (nI_pos (by omega)) ?_
              rw [za_2m]
              refine br_t (nI_le hc (by omega)) ?_
              rw [c0]
              refine br_t (nI_lt hl (by omega)) ⟨vp_in_nI (by omega) (by decide), nm_e ⟨vp_in_nI (by omega) (by decide), nm_e ⟨vp_in_nI (by omega) (by decide), nm_e ⟨vp_in_nI (by omega) (by decide), nm_e (nm_r (nI_1 V) ?_)⟩⟩⟩⟩
              refine ⟨nI_pred V, zz_mk ?_⟩
              obtain ⟨w1, w2, w3⟩ := zp_var hW hU hS hV10 hr hc
              exact ⟨V + 1, N, mv, mn, mi, 0, rfl, rfl, rfl, rfl, rfl, rfl, by omega, b2, b3, b4, b5, b6, w1, w2, w3, hnl, hvl, Or.inl ⟨rfl, rfl⟩⟩
            rcases hr with rfl | rfl
            · exact br_t rfl (br_t rfl B)
            · exact br_t rfl (br_f za_10 (br_t rfl B))
          · refine br_f (nI_nlt hl (by omega)) ?_
            have B : wY_variable_21 (fun r' v' => r' = -6 ∧ i_Rel (k + 5) (eS, oS, aS, nI mv, nI mn, nI mi, 0, ve, fa, nI 0, nI V, nI N, oc, sc, bc, lc, pr, rl, ck, qn, pd, kd, fl, us, lv, ex, ow, de, nl, vl, di, re, od, sA, sT, bC, bS, bE, sl, mV, mN, se, nV, nN, pS, pV) v') v1 (nI c) (nI mv) (nI mn) (nI mi) (nI V) (nI N) (nI 0) 0 ve fa rl ck qn pd yl ys yr kd fl yd ye yn vs vv ns nv := by
              refine br_f (nI_pos (by omega)) ?_
              rw [za_2m]
              exact br_t (nI_le hc (by omega)) (br_f (nI_nlt hl (by omega)) ⟨rfl, zz_mk hR⟩)
            rcases hr with rfl | rfl
            · exact br_t rfl (br_t rfl B)
            · exact br_t rfl (br_f za_10 (br_t rfl B))
        rcases hr with rfl | rfl
        · exact br_t rfl (br_t rfl A)
        · exact br_t rfl (br_f za_10 (br_t rfl A))
      · have B : wY_variable_21 (fun r' v' => r' = -4 ∧ i_Rel (k + 5) (eS, oS, aS, nI mv, nI mn, nI mi, 0, ve, fa, nI 0, nI V, nI N, oc, sc, bc, lc, pr, rl, ck, qn, pd, kd, fl, us, lv, ex, ow, de, nl, vl, di, re, od, sA, sT, bC, bS, bE, sl, mV, mN, se, nV, nN, pS, pV) v') v1 v2 (nI mv) (nI mn) (nI mi) (nI V) (nI N) (nI 0) 0 ve fa rl ck qn pd yl ys yr kd fl yd ye yn vs vv ns nv := by
          by_cases h0 : v2 < 0
          · exact br_t h0 ⟨rfl, zz_mk hR⟩
          · obtain ⟨j, hj, rfl⟩ := nI_of h0
            refine br_f h0 (br_f ?_ ⟨rfl, zz_mk hR⟩)
            rw [za_2m]
            exact nI_ge (Nat.lt_of_not_le (fun hl => hc ⟨j, hl, rfl⟩)) hj
        have B' : wpY_variable (fun r' v' => r' = -4 ∧ i_Rel (k + 5) (eS, oS, aS, nI mv, nI mn, nI mi, 0, ve, fa, nI 0, nI V, nI N, oc, sc, bc, lc, pr, rl, ck, qn, pd, kd, fl, us, lv, ex, ow, de, nl, vl, di, re, od, sA, sT, bC, bS, bE, sl, mV, mN, se, nV, nN, pS, pV) v') (nI mv, nI mn, nI mi, nI V, nI N, nI 0, 0, ve, fa, rl, ck, qn, pd, yl, ys, yr, kd, fl, yd, ye, yn, vs, vv, ns, nv) v1 v2 := by
          rcases hr with rfl | rfl
          · exact br_t rfl (br_t rfl B)
          · exact br_t rfl (br_f za_10 (br_t rfl B))
        have A : wX_variable_21 (fun r u' => wpY_variable (fun r' v' => r' = r ∧ i_Rel (k + 5) u' v') (nI mv, nI mn, nI mi, nI V, nI N, nI 0, 0, ve, fa, rl, ck, qn, pd, yl, ys, yr, kd, fl, yd, ye, yn, vs, vv, ns, nv) v1 v2) v1 v2 eS oS aS (nI mv) (nI mn) (nI mi) 0 ve fa (nI 0) (nI V) (nI N) oc sc bc lc pr rl ck qn pd kd fl us lv ex ow de nl vl di re od sA sT bC bS bE sl mV mN se nV nN pS pV := by
          by_cases h0 : v2 < 0
          · exact br_t h0 B'
          · obtain ⟨j, hj, rfl⟩ := nI_of h0
            refine br_f h0 (br_f ?_ B')
            rw [za_2m]
            exact nI_ge (Nat.lt_of_not_le (fun hl => hc ⟨j, hl, rfl⟩)) hj
        rcases hr with rfl | rfl
        · exact br_t rfl (br_t rfl A)
        · exact br_t rfl (br_f za_10 (br_t rfl A))
    · exact br_t rfl (br_f (fun e => hr (Or.inl e)) (br_f (fun e => hr (Or.inr e)) (br_t rfl (br_f (fun e => hr (Or.inl e)) (br_f (fun e => hr (Or.inr e)) ⟨rfl, zz_mk hR⟩)))))
  · exact br_f hp (br_f hp ⟨rfl, zz_mk hR⟩)

theorem i_vc_constant {k : Nat} {u : SX} {v : SY} (I : i_Rel k u v) (hk : k + 5 ≤ 2563) (v1 : Int32) : wpX_constant (fun r u' => wpY_constant (fun r' v' => r' = r ∧ i_Rel (k + 5) u' v') v v1) u v1 := by
  refine zz_el (P := fun u v => wpX_constant (fun r u' => wpY_constant (fun r' v' => r' = r ∧ i_Rel (k + 5) u' v') v v1) u v1) ?_ I
  intro eS oS aS MV MN MI ph ve fa no vc nc oc sc bc lc pr ys yr yn rl ck qn pd kd fl us lv ex ow de nl vl di re od sA sT bC bS bE sl mV mN se nV nN pS pV yl yd ye vs vv ns nv hF
  have hR := hF
  obtain ⟨V, N, mv, mn, mi, t, rfl, rfl, rfl, rfl, rfl, rfl, b1, b2, b3, b4, b5, b6, hW, hU, hS, hnl, hvl, hP⟩ := hF
  have hV10 : V ≤ 10 := by omega
  have hN48 : N ≤ 48 := by omega
  by_cases hp : ph = 0
  · subst hp
    have ht : t = 0 := by
      rcases hP with h | h
      · exact h.2
      · exact absurd h.1 za_01
    subst ht
    refine br_t rfl (zz_mkX (k := 1) (g := fun _ => 0) (yl := yl) (yd := yd) (ye := ye) (vs := vs) (vv := vv) (ns := ns) (nv := nv) b1 b2 b3 b4 b6 hW hU hS hnl hvl (by decide) (by decide) ?_ ?_ (by omega) (by omega) ?_ ?_)
    · intro j hj; rw [zp_ar_1] at hj; omega
    · intro j j' hj; rw [zp_ar_1] at hj; omega
    · intro hN; exact br_t rfl (ya_mk0 hN (by omega) ⟨rfl, zz_mk hR⟩)
    · intro hN us' hF'; exact br_t rfl (ya_mk hN b4 ⟨rfl, zz_mk hF'⟩)
  · exact br_f hp (br_f hp ⟨rfl, zz_mk hR⟩)

theorem i_vc_read {k : Nat} {u : SX} {v : SY} (I : i_Rel k u v) (hk : k + 5 ≤ 2563) (v1 : Int32) : wpX_read (fun r u' => wpY_read (fun r' v' => r' = r ∧ i_Rel (k + 5) u' v') v v1) u v1 := by
  refine zz_el (P := fun u v => wpX_read (fun r u' => wpY_read (fun r' v' => r' = r ∧ i_Rel (k + 5) u' v') v v1) u v1) ?_ I
  intro eS oS aS MV MN MI ph ve fa no vc nc oc sc bc lc pr ys yr yn rl ck qn pd kd fl us lv ex ow de nl vl di re od sA sT bC bS bE sl mV mN se nV nN pS pV yl yd ye vs vv ns nv hF
  have hR := hF
  obtain ⟨V, N, mv, mn, mi, t, rfl, rfl, rfl, rfl, rfl, rfl, b1, b2, b3, b4, b5, b6, hW, hU, hS, hnl, hvl, hP⟩ := hF
  have hV10 : V ≤ 10 := by omega
  have hN48 : N ≤ 48 := by omega
  by_cases hp : ph = 0
  · subst hp
    have ht : t = 0 := by
      rcases hP with h | h
      · exact h.2
      · exact absurd h.1 za_01
    subst ht
    by_cases hv : ∃ w, w < V ∧ v1 = nI w
    · obtain ⟨w, hw, rfl⟩ := hv
      refine br_t rfl (xa_decl1 hV10 hw (br_f za_10 (zz_mkX (k := 2) (g := fun _ => 0) (yl := yl) (yd := yd) (ye := ye) (vs := vs) (vv := vv) (ns := ns) (nv := nv) b1 b2 b3 b4 b6 hW hU hS hnl hvl (by decide) (by decide) ?_ ?_ (fun _ => ⟨w, hw, rfl⟩) (by omega) ?_ ?_)))
      · intro j hj; rw [zp_ar_2] at hj; omega
      · intro j j' hj; rw [zp_ar_2] at hj; omega
      · intro hN; exact br_t rfl (ya_var0 hV10 hw (br_t rfl (ya_mk0 hN (by omega) ⟨rfl, zz_mk hR⟩)))
      · intro hN us' hF'; exact br_t rfl (ya_var0 hV10 hw (br_t rfl (ya_mk hN b4 ⟨rfl, zz_mk hF'⟩)))
    · exact br_t rfl (xa_decl0 hV10 hv (br_t rfl (br_t rfl (ya_var1 hV10 hv (br_f za_10 ⟨rfl, zz_mk hR⟩)))))
  · exact br_f hp (br_f hp ⟨rfl, zz_mk hR⟩)

theorem i_vc_unary {k : Nat} {u : SX} {v : SY} (I : i_Rel k u v) (hk : k + 5 ≤ 2563) (v1 : Int32) (v2 : Int32) : wpX_unary (fun r u' => wpY_unary (fun r' v' => r' = r ∧ i_Rel (k + 5) u' v') v v1 v2) u v1 v2 := by
  refine zz_el (P := fun u v => wpX_unary (fun r u' => wpY_unary (fun r' v' => r' = r ∧ i_Rel (k + 5) u' v') v v1 v2) u v1 v2) ?_ I
  intro eS oS aS MV MN MI ph ve fa no vc nc oc sc bc lc pr ys yr yn rl ck qn pd kd fl us lv ex ow de nl vl di re od sA sT bC bS bE sl mV mN se nV nN pS pV yl yd ye vs vv ns nv hF
  have hR := hF
  obtain ⟨V, N, mv, mn, mi, t, rfl, rfl, rfl, rfl, rfl, rfl, b1, b2, b3, b4, b5, b6, hW, hU, hS, hnl, hvl, hP⟩ := hF
  have hV10 : V ≤ 10 := by omega
  have hN48 : N ≤ 48 := by omega
  by_cases hp : ph = 0
  · subst hp
    have ht : t = 0 := by
      rcases hP with h | h
      · exact h.2
      · exact absurd h.1 za_01
    subst ht
    by_cases hkd : ∃ c, 3 ≤ c ∧ c ≤ 5 ∧ v1 = nI c
    · obtain ⟨c, c1, c2, rfl⟩ := hkd
      obtain ⟨har, hfo⟩ := zp_ar_u c1 c2
      have A : wX_unary_27 (fun r u' => wpY_unary (fun r' v' => r' = r ∧ i_Rel (k + 5) u' v') (nI mv, nI mn, nI mi, nI V, nI N, nI 0, 0, ve, fa, rl, ck, qn, pd, yl, ys, yr, kd, fl, yd, ye, yn, vs, vv, ns, nv) (nI c) v2) (nI c) v2 eS oS aS (nI mv) (nI mn) (nI mi) 0 ve fa (nI 0) (nI V) (nI N) oc sc bc lc pr rl ck qn pd kd fl us lv ex ow de nl vl di re od sA sT bC bS bE sl mV mN se nV nN pS pV := by
        unfold wX_unary_27
        by_cases ha : ∃ a, a < N ∧ us a = 0 ∧ v2 = nI a
        · obtain ⟨a, ha, hu, rfl⟩ := ha
          refine xa_free1 hN48 ha hu (br_f za_10 (zz_mkX (k := c) (g := fun _ => a) (yl := yl) (yd := yd) (ye := ye) (vs := vs) (vv := vv) (ns := ns) (nv := nv) b1 b2 b3 b4 b6 hW hU hS hnl hvl (by omega) (by omega) ?_ ?_ (by omega) (by omega) ?_ ?_))
          · intro j hj
            rw [har] at hj
            obtain rfl : j = 0 := by omega
            rw [hfo, show 4 * N + (0 + 0) = 4 * N from rfl, zf_0]
            exact ⟨rfl, ha, hu⟩
          · intro j j' hj hj' _; rw [har] at hj hj'; omega
          · intro hN; exact br_t rfl (br_f (nI_nlt (b := 3) c1 (by omega)) (br_t (nI_le (b := 5) c2 (by decide)) (ya_node0 hV10 hN48 hW.2 hS ha hu (br_t rfl (ya_mk0 hN (by omega) ⟨rfl, zz_mk hR⟩)))))
          · intro hN us' hF'; exact br_t rfl (br_f (nI_nlt (b := 3) c1 (by omega)) (br_t (nI_le (b := 5) c2 (by decide)) (ya_node0 hV10 hN48 hW.2 hS ha hu (br_t rfl (ya_mk hN b4 ⟨rfl, zz_mk hF'⟩)))))
        · exact xa_free0 hN48 ha (br_t rfl (br_t rfl (br_f (nI_nlt (b := 3) c1 (by omega)) (br_t (nI_le (b := 5) c2 (by decide)) (ya_node1 hV10 hN48 hW.2 hS ha (br_f za_10 ⟨rfl, zz_mk hR⟩))))))
      have hcc : c = 3 ∨ c = 4 ∨ c = 5 := by omega
      rcases hcc with rfl | rfl | rfl
      · exact br_t rfl (br_t rfl A)
      · exact br_t rfl (br_f (by decide) (br_t rfl A))
      · exact br_t rfl (br_f (by decide) (br_f (by decide) (br_t rfl A)))
    · have hn : ∀ c, 3 ≤ c → c ≤ 5 → v1 ≠ nI c := fun c c1 c2 e => hkd ⟨c, c1, c2, e⟩
      refine br_t rfl (br_f (hn 3 (by decide) (by decide)) (br_f (hn 4 (by decide) (by decide)) (br_f (hn 5 (by decide) (by decide)) (br_t rfl ?_))))
      by_cases h3 : v1 < 3
      · exact br_t h3 ⟨rfl, zz_mk hR⟩
      · refine br_f h3 (br_f ?_ ⟨rfl, zz_mk hR⟩)
        intro h5
        have h0 : ¬ v1 < 0 := by
          intro h0; exact h3 (Int32.lt_of_lt_of_le h0 (by decide))
        obtain ⟨j, hj, rfl⟩ := nI_of h0
        exact hn j (Nat.le_of_not_lt (fun hl => h3 ((zl_3 hj).mpr hl))) ((zm_5 hj).mp h5) rfl
  · exact br_f hp (br_f hp ⟨rfl, zz_mk hR⟩)

theorem i_vc_binary {k : Nat} {u : SX} {v : SY} (I : i_Rel k u v) (hk : k + 5 ≤ 2563) (v1 : Int32) (v2 : Int32) (v3 : Int32) : wpX_binary (fun r u' => wpY_binary (fun r' v' => r' = r ∧ i_Rel (k + 5) u' v') v v1 v2 v3) u v1 v2 v3 := by
  refine zz_el (P := fun u v => wpX_binary (fun r u' => wpY_binary (fun r' v' => r' = r ∧ i_Rel (k + 5) u' v') v v1 v2 v3) u v1 v2 v3) ?_ I
  intro eS oS aS MV MN MI ph ve fa no vc nc oc sc bc lc pr ys yr yn rl ck qn pd kd fl us lv ex ow de nl vl di re od sA sT bC bS bE sl mV mN se nV nN pS pV yl yd ye vs vv ns nv hF
  have hR := hF
  obtain ⟨V, N, mv, mn, mi, t, rfl, rfl, rfl, rfl, rfl, rfl, b1, b2, b3, b4, b5, b6, hW, hU, hS, hnl, hvl, hP⟩ := hF
  have hV10 : V ≤ 10 := by omega
  have hN48 : N ≤ 48 := by omega
  by_cases hp : ph = 0
  · subst hp
    have ht : t = 0 := by
      rcases hP with h | h
      · exact h.2
      · exact absurd h.1 za_01
    subst ht
    by_cases hkd : ∃ c, 6 ≤ c ∧ c ≤ 14 ∧ v1 = nI c
    · obtain ⟨c, c1, c2, rfl⟩ := hkd
      obtain ⟨har, hfo⟩ := zp_ar_b c1 c2
      refine br_t rfl (br_f (nI_nlt (b := 6) c1 (by omega)) (br_t (nI_le (b := 14) c2 (by decide)) ?_))
      by_cases ha : ∃ a, a < N ∧ us a = 0 ∧ v2 = nI a
      · obtain ⟨a, ha, hu, rfl⟩ := ha
        by_cases hb : ∃ b, b < N ∧ us b = 0 ∧ v3 = nI b
        · obtain ⟨b, hb, hub, rfl⟩ := hb
          refine xa_free1 hN48 ha hu (br_f za_10 (xa_free1 hN48 hb hub (br_f za_10 ?_)))
          by_cases hab : a = b
          · subst hab
            exact br_t rfl (br_t rfl (br_f (nI_nlt (b := 6) c1 (by omega)) (br_t (nI_le (b := 14) c2 (by decide)) (ya_node0 hV10 hN48 hW.2 hS ha hu (br_t rfl (ya_node0 hV10 hN48 hW.2 hS ha hu (br_t rfl (br_t rfl ⟨rfl, zz_mk hR⟩))))))))
          · have hne : ¬ nI a = nI b := fun e => hab (za_inj e (by omega) (by omega))
            refine br_f hne (zz_mkX (k := c) (g := fun j => if j = 0 then a else b) (yl := yl) (yd := yd) (ye := ye) (vs := vs) (vv := vv) (ns := ns) (nv := nv) b1 b2 b3 b4 b6 hW hU hS hnl hvl (by omega) (by omega) ?_ ?_ (by omega) (by omega) ?_ ?_)
            · intro j hj
              rw [har] at hj
              have hj2 : j = 0 ∨ j = 1 := by omega
              rcases hj2 with rfl | rfl
              · rw [hfo, show 4 * N + (0 + 0) = 4 * N from rfl, zf_0]
                exact ⟨rfl, ha, hu⟩
              · rw [hfo, show 4 * N + (0 + 1) = 4 * N + 1 from rfl, zf_1]
                exact ⟨rfl, hb, hub⟩
            · intro j j' hj hj'
              rw [har] at hj hj'
              split <;> split <;> omega
            · intro hN; exact br_t rfl (br_f (nI_nlt (b := 6) c1 (by omega)) (br_t (nI_le (b := 14) c2 (by decide)) (ya_node0 hV10 hN48 hW.2 hS ha hu (br_t rfl (ya_node0 hV10 hN48 hW.2 hS hb hub (br_t rfl (br_f hne (ya_mk0 hN (by omega) ⟨rfl, zz_mk hR⟩))))))))
            · intro hN us' hF'; exact br_t rfl (br_f (nI_nlt (b := 6) c1 (by omega)) (br_t (nI_le (b := 14) c2 (by decide)) (ya_node0 hV10 hN48 hW.2 hS ha hu (br_t rfl (ya_node0 hV10 hN48 hW.2 hS hb hub (br_t rfl (br_f hne (ya_mk hN b4 ⟨rfl, zz_mk hF'⟩))))))))
        · exact xa_free1 hN48 ha hu (br_f za_10 (xa_free0 hN48 hb (br_t rfl (br_t rfl (br_f (nI_nlt (b := 6) c1 (by omega)) (br_t (nI_le (b := 14) c2 (by decide)) (ya_node0 hV10 hN48 hW.2 hS ha hu (br_t rfl (ya_node1 hV10 hN48 hW.2 hS hb (br_f za_10 ⟨rfl, zz_mk hR⟩))))))))))
      · exact xa_free0 hN48 ha (br_t rfl (br_t rfl (br_f (nI_nlt (b := 6) c1 (by omega)) (br_t (nI_le (b := 14) c2 (by decide)) (ya_node1 hV10 hN48 hW.2 hS ha (br_f za_10 ⟨rfl, zz_mk hR⟩))))))
    · have hn : ∀ c, 6 ≤ c → c ≤ 14 → v1 ≠ nI c := fun c c1 c2 e => hkd ⟨c, c1, c2, e⟩
      by_cases h3 : v1 < 6
      · exact br_t rfl (br_t h3 (br_t rfl (br_t h3 ⟨rfl, zz_mk hR⟩)))
      · have h14 : ¬ v1 ≤ 14 := by
          intro h5
          have h0 : ¬ v1 < 0 := by
            intro h0; exact h3 (Int32.lt_of_lt_of_le h0 (by decide))
          obtain ⟨j, hj, rfl⟩ := nI_of h0
          exact hn j (Nat.le_of_not_lt (fun hl => h3 ((zl_6 hj).mpr hl))) ((zm_14 hj).mp h5) rfl
        exact br_t rfl (br_f h3 (br_f h14 (br_t rfl (br_f h3 (br_f h14 ⟨rfl, zz_mk hR⟩)))))
  · exact br_f hp (br_f hp ⟨rfl, zz_mk hR⟩)

theorem i_vc_choose {k : Nat} {u : SX} {v : SY} (I : i_Rel k u v) (hk : k + 5 ≤ 2563) (v1 : Int32) (v2 : Int32) (v3 : Int32) : wpX_choose (fun r u' => wpY_choose (fun r' v' => r' = r ∧ i_Rel (k + 5) u' v') v v1 v2 v3) u v1 v2 v3 := by
  refine zz_el (P := fun u v => wpX_choose (fun r u' => wpY_choose (fun r' v' => r' = r ∧ i_Rel (k + 5) u' v') v v1 v2 v3) u v1 v2 v3) ?_ I
  intro eS oS aS MV MN MI ph ve fa no vc nc oc sc bc lc pr ys yr yn rl ck qn pd kd fl us lv ex ow de nl vl di re od sA sT bC bS bE sl mV mN se nV nN pS pV yl yd ye vs vv ns nv hF
  have hR := hF
  obtain ⟨V, N, mv, mn, mi, t, rfl, rfl, rfl, rfl, rfl, rfl, b1, b2, b3, b4, b5, b6, hW, hU, hS, hnl, hvl, hP⟩ := hF
  have hV10 : V ≤ 10 := by omega
  have hN48 : N ≤ 48 := by omega
  by_cases hp : ph = 0
  · subst hp
    have ht : t = 0 := by
      rcases hP with h | h
      · exact h.2
      · exact absurd h.1 za_01
    subst ht
    refine br_t rfl ?_
    by_cases ha : ∃ a, a < N ∧ us a = 0 ∧ v1 = nI a
    · obtain ⟨a, ha, hu, rfl⟩ := ha
      refine xa_free1 hN48 ha hu (br_f za_10 ?_)
      by_cases hb : ∃ b, b < N ∧ us b = 0 ∧ v2 = nI b
      · obtain ⟨b, hb, hub, rfl⟩ := hb
        refine xa_free1 hN48 hb hub (br_f za_10 ?_)
        by_cases hc : ∃ c, c < N ∧ us c = 0 ∧ v3 = nI c
        · obtain ⟨c, hc, huc, rfl⟩ := hc
          refine xa_free1 hN48 hc huc (br_f za_10 ?_)
          by_cases hab : a = b
          · subst hab
            exact br_t rfl (br_t rfl (ya_node0 hV10 hN48 hW.2 hS ha hu (br_t rfl (ya_node0 hV10 hN48 hW.2 hS hb hub (br_t rfl (ya_node0 hV10 hN48 hW.2 hS hc huc (br_t rfl (br_t rfl ⟨rfl, zz_mk hR⟩))))))))
          have hne : ¬ nI a = nI b := fun e => hab (za_inj e (by omega) (by omega))
          refine br_f hne ?_
          by_cases hac : a = c
          · subst hac
            exact br_t rfl (br_t rfl (ya_node0 hV10 hN48 hW.2 hS ha hu (br_t rfl (ya_node0 hV10 hN48 hW.2 hS hb hub (br_t rfl (ya_node0 hV10 hN48 hW.2 hS hc huc (br_t rfl (br_f hne (br_t rfl ⟨rfl, zz_mk hR⟩)))))))))
          have hne2 : ¬ nI a = nI c := fun e => hac (za_inj e (by omega) (by omega))
          refine br_f hne2 ?_
          by_cases hbc : b = c
          · subst hbc
            exact br_t rfl (br_t rfl (ya_node0 hV10 hN48 hW.2 hS ha hu (br_t rfl (ya_node0 hV10 hN48 hW.2 hS hb hub (br_t rfl (ya_node0 hV10 hN48 hW.2 hS hc huc (br_t rfl (br_f hne (br_f hne2 (br_t rfl ⟨rfl, zz_mk hR⟩))))))))))
          have hne3 : ¬ nI b = nI c := fun e => hbc (za_inj e (by omega) (by omega))
          refine br_f hne3 (zz_mkX (k := 15) (g := fun j => if j = 0 then a else if j = 1 then b else c) (yl := yl) (yd := yd) (ye := ye) (vs := vs) (vv := vv) (ns := ns) (nv := nv) b1 b2 b3 b4 b6 hW hU hS hnl hvl (by decide) (by decide) ?_ ?_ (by omega) (by omega) ?_ ?_)
          · intro j hj
            rw [zp_ar_15] at hj
            have hj2 : j = 0 ∨ j = 1 ∨ j = 2 := by omega
            rcases hj2 with rfl | rfl | rfl
            · rw [zp_fo_15, show 4 * N + (0 + 0) = 4 * N from rfl, zf_0]
              exact ⟨rfl, ha, hu⟩
            · rw [zp_fo_15, show 4 * N + (0 + 1) = 4 * N + 1 from rfl, zf_1]
              exact ⟨rfl, hb, hub⟩
            · rw [zp_fo_15, show 4 * N + (0 + 2) = 4 * N + 2 from rfl, zf_2]
              exact ⟨rfl, hc, huc⟩
          · intro j j' hj hj'
            rw [zp_ar_15] at hj hj'
            split <;> split <;> (try split) <;> (try split) <;> omega
          · intro hN; exact br_t rfl (ya_node0 hV10 hN48 hW.2 hS ha hu (br_t rfl (ya_node0 hV10 hN48 hW.2 hS hb hub (br_t rfl (ya_node0 hV10 hN48 hW.2 hS hc huc (br_t rfl (br_f hne (br_f hne2 (br_f hne3 (ya_mk0 hN (by omega) ⟨rfl, zz_mk hR⟩))))))))))
          · intro hN us' hF'; exact br_t rfl (ya_node0 hV10 hN48 hW.2 hS ha hu (br_t rfl (ya_node0 hV10 hN48 hW.2 hS hb hub (br_t rfl (ya_node0 hV10 hN48 hW.2 hS hc huc (br_t rfl (br_f hne (br_f hne2 (br_f hne3 (ya_mk hN b4 ⟨rfl, zz_mk hF'⟩))))))))))
        · exact xa_free0 hN48 hc (br_t rfl (br_t rfl (ya_node0 hV10 hN48 hW.2 hS ha hu (br_t rfl (ya_node0 hV10 hN48 hW.2 hS hb hub (br_t rfl (ya_node1 hV10 hN48 hW.2 hS hc (br_f za_10 ⟨rfl, zz_mk hR⟩))))))))
      · exact xa_free0 hN48 hb (br_t rfl (br_t rfl (ya_node0 hV10 hN48 hW.2 hS ha hu (br_t rfl (ya_node1 hV10 hN48 hW.2 hS hb (br_f za_10 ⟨rfl, zz_mk hR⟩))))))
    · exact xa_free0 hN48 ha (br_t rfl (br_t rfl (ya_node1 hV10 hN48 hW.2 hS ha (br_f za_10 ⟨rfl, zz_mk hR⟩))))
  · exact br_f hp (br_f hp ⟨rfl, zz_mk hR⟩)

theorem i_vc_merge {k : Nat} {u : SX} {v : SY} (I : i_Rel k u v) (hk : k + 5 ≤ 2563) (v1 : Int32) (v2 : Int32) (v3 : Int32) : wpX_merge (fun r u' => wpY_merge (fun r' v' => r' = r ∧ i_Rel (k + 5) u' v') v v1 v2 v3) u v1 v2 v3 := by
  refine zz_el (P := fun u v => wpX_merge (fun r u' => wpY_merge (fun r' v' => r' = r ∧ i_Rel (k + 5) u' v') v v1 v2 v3) u v1 v2 v3) ?_ I
  intro eS oS aS MV MN MI ph ve fa no vc nc oc sc bc lc pr ys yr yn rl ck qn pd kd fl us lv ex ow de nl vl di re od sA sT bC bS bE sl mV mN se nV nN pS pV yl yd ye vs vv ns nv hF
  have hR := hF
  obtain ⟨V, N, mv, mn, mi, t, rfl, rfl, rfl, rfl, rfl, rfl, b1, b2, b3, b4, b5, b6, hW, hU, hS, hnl, hvl, hP⟩ := hF
  have hV10 : V ≤ 10 := by omega
  have hN48 : N ≤ 48 := by omega
  by_cases hp : ph = 0
  · subst hp
    have ht : t = 0 := by
      rcases hP with h | h
      · exact h.2
      · exact absurd h.1 za_01
    subst ht
    refine br_t rfl ?_
    by_cases hv : ∃ w, w < V ∧ v1 = nI w
    · obtain ⟨w, hw, rfl⟩ := hv
      refine xa_decl1 hV10 hw (br_f za_10 ?_)
      by_cases ha : ∃ a, a < N ∧ us a = 0 ∧ v2 = nI a
      · obtain ⟨a, ha, hu, rfl⟩ := ha
        refine xa_free1 hN48 ha hu (br_f za_10 ?_)
        by_cases hb : ∃ b, b < N ∧ us b = 0 ∧ v3 = nI b
        · obtain ⟨b, hb, hub, rfl⟩ := hb
          refine xa_free1 hN48 hb hub (br_f za_10 ?_)
          by_cases hab : a = b
          · subst hab
            exact br_t rfl (br_t rfl (ya_var0 hV10 hw (br_t rfl (ya_node0 hV10 hN48 hW.2 hS ha hu (br_t rfl (ya_node0 hV10 hN48 hW.2 hS hb hub (br_t rfl (br_t rfl ⟨rfl, zz_mk hR⟩))))))))
          have hne : ¬ nI a = nI b := fun e => hab (za_inj e (by omega) (by omega))
          refine br_f hne (zz_mkX (k := 17) (g := fun j => if j = 0 then a else b) (yl := yl) (yd := yd) (ye := ye) (vs := vs) (vv := vv) (ns := ns) (nv := nv) b1 b2 b3 b4 b6 hW hU hS hnl hvl (by decide) (by decide) ?_ ?_ (fun _ => ⟨w, hw, rfl⟩) (by omega) ?_ ?_)
          · intro j hj
            rw [zp_ar_17] at hj
            have hj2 : j = 0 ∨ j = 1 := by omega
            rcases hj2 with rfl | rfl
            · rw [zp_fo_17, show 4 * N + (1 + 0) = 4 * N + 1 from rfl, zf_1]
              exact ⟨rfl, ha, hu⟩
            · rw [zp_fo_17, show 4 * N + (1 + 1) = 4 * N + 2 from rfl, zf_2]
              exact ⟨rfl, hb, hub⟩
          · intro j j' hj hj'
            rw [zp_ar_17] at hj hj'
            split <;> split <;> omega
          · intro hN; exact br_t rfl (ya_var0 hV10 hw (br_t rfl (ya_node0 hV10 hN48 hW.2 hS ha hu (br_t rfl (ya_node0 hV10 hN48 hW.2 hS hb hub (br_t rfl (br_f hne (ya_mk0 hN (by omega) ⟨rfl, zz_mk hR⟩))))))))
          · intro hN us' hF'; exact br_t rfl (ya_var0 hV10 hw (br_t rfl (ya_node0 hV10 hN48 hW.2 hS ha hu (br_t rfl (ya_node0 hV10 hN48 hW.2 hS hb hub (br_t rfl (br_f hne (ya_mk hN b4 ⟨rfl, zz_mk hF'⟩))))))))
        · exact xa_free0 hN48 hb (br_t rfl (br_t rfl (ya_var0 hV10 hw (br_t rfl (ya_node0 hV10 hN48 hW.2 hS ha hu (br_t rfl (ya_node1 hV10 hN48 hW.2 hS hb (br_f za_10 ⟨rfl, zz_mk hR⟩))))))))
      · exact xa_free0 hN48 ha (br_t rfl (br_t rfl (ya_var0 hV10 hw (br_t rfl (ya_node1 hV10 hN48 hW.2 hS ha (br_f za_10 ⟨rfl, zz_mk hR⟩))))))
    · exact xa_decl0 hV10 hv (br_t rfl (br_t rfl (ya_var1 hV10 hv (br_f za_10 ⟨rfl, zz_mk hR⟩))))
  · exact br_f hp (br_f hp ⟨rfl, zz_mk hR⟩)

theorem i_vc_when {k : Nat} {u : SX} {v : SY} (I : i_Rel k u v) (hk : k + 5 ≤ 2563) (v1 : Int32) (v2 : Int32) (v3 : Int32) : wpX_when (fun r u' => wpY_when (fun r' v' => r' = r ∧ i_Rel (k + 5) u' v') v v1 v2 v3) u v1 v2 v3 := by
  refine zz_el (P := fun u v => wpX_when (fun r u' => wpY_when (fun r' v' => r' = r ∧ i_Rel (k + 5) u' v') v v1 v2 v3) u v1 v2 v3) ?_ I
  intro eS oS aS MV MN MI ph ve fa no vc nc oc sc bc lc pr ys yr yn rl ck qn pd kd fl us lv ex ow de nl vl di re od sA sT bC bS bE sl mV mN se nV nN pS pV yl yd ye vs vv ns nv hF
  have hR := hF
  obtain ⟨V, N, mv, mn, mi, t, rfl, rfl, rfl, rfl, rfl, rfl, b1, b2, b3, b4, b5, b6, hW, hU, hS, hnl, hvl, hP⟩ := hF
  have hV10 : V ≤ 10 := by omega
  have hN48 : N ≤ 48 := by omega
  by_cases hp : ph = 0
  · subst hp
    have ht : t = 0 := by
      rcases hP with h | h
      · exact h.2
      · exact absurd h.1 za_01
    subst ht
    refine br_t rfl ?_
    by_cases hv : ∃ w, w < V ∧ v1 = nI w
    · obtain ⟨w, hw, rfl⟩ := hv
      refine xa_decl1 hV10 hw (br_f za_10 ?_)
      by_cases hb : ∃ b, b ≤ 1 ∧ v2 = nI b
      · obtain ⟨b, hb, rfl⟩ := hb
        have YB : ∀ q : Int32 → SY → Prop, wY_when_32 q (nI w) (nI b) v3 (nI mv) (nI mn) (nI mi) (nI V) (nI N) (nI 0) 0 ve fa rl ck qn pd yl ys yr kd fl yd ye yn vs vv ns nv → wpY_when q (nI mv, nI mn, nI mi, nI V, nI N, nI 0, 0, ve, fa, rl, ck, qn, pd, yl, ys, yr, kd, fl, yd, ye, yn, vs, vv, ns, nv) (nI w) (nI b) v3 := by
          intro q hq
          refine br_t rfl (ya_var0 hV10 hw (br_t rfl ?_))
          have hbb : b = 0 ∨ b = 1 := by omega
          rcases hbb with rfl | rfl
          · exact br_t rfl hq
          · exact br_f (by decide) (br_t rfl hq)
        have A : wX_when_32 (fun r u' => wpY_when (fun r' v' => r' = r ∧ i_Rel (k + 5) u' v') (nI mv, nI mn, nI mi, nI V, nI N, nI 0, 0, ve, fa, rl, ck, qn, pd, yl, ys, yr, kd, fl, yd, ye, yn, vs, vv, ns, nv) (nI w) (nI b) v3) (nI w) (nI b) v3 eS oS aS (nI mv) (nI mn) (nI mi) 0 ve fa (nI 0) (nI V) (nI N) oc sc bc lc pr rl ck qn pd kd fl us lv ex ow de nl vl di re od sA sT bC bS bE sl mV mN se nV nN pS pV := by
          unfold wX_when_32
          by_cases ha : ∃ a, a < N ∧ us a = 0 ∧ v3 = nI a
          · obtain ⟨a, ha, hu, rfl⟩ := ha
            refine xa_free1 hN48 ha hu (br_f za_10 (zz_mkX (k := 16) (g := fun _ => a) (yl := yl) (yd := yd) (ye := ye) (vs := vs) (vv := vv) (ns := ns) (nv := nv) b1 b2 b3 b4 b6 hW hU hS hnl hvl (by decide) (by decide) ?_ ?_ (fun _ => ⟨w, hw, rfl⟩) (fun _ => ⟨b, hb, rfl⟩) ?_ ?_))
            · intro j hj
              rw [zp_ar_16] at hj
              obtain rfl : j = 0 := by omega
              rw [zp_fo_16, show 4 * N + (2 + 0) = 4 * N + 2 from rfl, zf_2]
              exact ⟨rfl, ha, hu⟩
            · intro j j' hj hj' _; rw [zp_ar_16] at hj hj'; omega
            · intro hN; exact YB _ (ya_node0 hV10 hN48 hW.2 hS ha hu (br_t rfl (ya_mk0 hN (by omega) ⟨rfl, zz_mk hR⟩)))
            · intro hN us' hF'; exact YB _ (ya_node0 hV10 hN48 hW.2 hS ha hu (br_t rfl (ya_mk hN b4 ⟨rfl, zz_mk hF'⟩)))
          · exact xa_free0 hN48 ha (br_t rfl (YB _ (ya_node1 hV10 hN48 hW.2 hS ha (br_f za_10 ⟨rfl, zz_mk hR⟩))))
        have hbb : b = 0 ∨ b = 1 := by omega
        rcases hbb with rfl | rfl
        · exact br_t rfl A
        · exact br_f (by decide) (br_t rfl A)
      · have e0 : ¬ v2 = 0 := fun e => hb ⟨0, by decide, e⟩
        have e1 : ¬ v2 = 1 := fun e => hb ⟨1, by decide, e⟩
        exact br_f e0 (br_f e1 (br_t rfl (ya_var0 hV10 hw (br_t rfl (br_f e0 (br_f e1 ⟨rfl, zz_mk hR⟩))))))
    · exact xa_decl0 hV10 hv (br_t rfl (br_t rfl (ya_var1 hV10 hv (br_f za_10 ⟨rfl, zz_mk hR⟩))))
  · exact br_f hp (br_f hp ⟨rfl, zz_mk hR⟩)

theorem i_vc_current {k : Nat} {u : SX} {v : SY} (I : i_Rel k u v) (hk : k + 5 ≤ 2563) (v1 : Int32) (v2 : Int32) (v3 : Int32) (v4 : Int32) : wpX_current (fun r u' => wpY_current (fun r' v' => r' = r ∧ i_Rel (k + 5) u' v') v v1 v2 v3 v4) u v1 v2 v3 v4 := by
  refine zz_el (P := fun u v => wpX_current (fun r u' => wpY_current (fun r' v' => r' = r ∧ i_Rel (k + 5) u' v') v v1 v2 v3 v4) u v1 v2 v3 v4) ?_ I
  intro eS oS aS MV MN MI ph ve fa no vc nc oc sc bc lc pr ys yr yn rl ck qn pd kd fl us lv ex ow de nl vl di re od sA sT bC bS bE sl mV mN se nV nN pS pV yl yd ye vs vv ns nv hF
  have hR := hF
  obtain ⟨V, N, mv, mn, mi, t, rfl, rfl, rfl, rfl, rfl, rfl, b1, b2, b3, b4, b5, b6, hW, hU, hS, hnl, hvl, hP⟩ := hF
  have hV10 : V ≤ 10 := by omega
  have hN48 : N ≤ 48 := by omega
  by_cases hp : ph = 0
  · subst hp
    have ht : t = 0 := by
      rcases hP with h | h
      · exact h.2
      · exact absurd h.1 za_01
    subst ht
    refine br_t rfl ?_
    by_cases hv : ∃ w, w < V ∧ v1 = nI w
    · obtain ⟨w, hw, rfl⟩ := hv
      refine xa_decl1 hV10 hw (br_f za_10 ?_)
      by_cases hb : ∃ b, b ≤ 1 ∧ v2 = nI b
      · obtain ⟨b, hb, rfl⟩ := hb
        have YB : ∀ q : Int32 → SY → Prop, wY_current_32 q (nI w) (nI b) v3 v4 (nI mv) (nI mn) (nI mi) (nI V) (nI N) (nI 0) 0 ve fa rl ck qn pd yl ys yr kd fl yd ye yn vs vv ns nv → wpY_current q (nI mv, nI mn, nI mi, nI V, nI N, nI 0, 0, ve, fa, rl, ck, qn, pd, yl, ys, yr, kd, fl, yd, ye, yn, vs, vv, ns, nv) (nI w) (nI b) v3 v4 := by
          intro q hq
          refine br_t rfl (ya_var0 hV10 hw (br_t rfl ?_))
          have hbb : b = 0 ∨ b = 1 := by omega
          rcases hbb with rfl | rfl
          · exact br_t rfl hq
          · exact br_f (by decide) (br_t rfl hq)
        have A : wX_current_32 (fun r u' => wpY_current (fun r' v' => r' = r ∧ i_Rel (k + 5) u' v') (nI mv, nI mn, nI mi, nI V, nI N, nI 0, 0, ve, fa, rl, ck, qn, pd, yl, ys, yr, kd, fl, yd, ye, yn, vs, vv, ns, nv) (nI w) (nI b) v3 v4) (nI w) (nI b) v3 v4 eS oS aS (nI mv) (nI mn) (nI mi) 0 ve fa (nI 0) (nI V) (nI N) oc sc bc lc pr rl ck qn pd kd fl us lv ex ow de nl vl di re od sA sT bC bS bE sl mV mN se nV nN pS pV := by
          unfold wX_current_32
          by_cases ha : ∃ a, a < N ∧ us a = 0 ∧ v4 = nI a
          · obtain ⟨a, ha, hu, rfl⟩ := ha
            refine xa_free1 hN48 ha hu (br_f za_10 (zz_mkX (k := 18) (g := fun _ => a) (yl := yl) (yd := yd) (ye := ye) (vs := vs) (vv := vv) (ns := ns) (nv := nv) b1 b2 b3 b4 b6 hW hU hS hnl hvl (by decide) (by decide) ?_ ?_ (fun _ => ⟨w, hw, rfl⟩) (fun _ => ⟨b, hb, rfl⟩) ?_ ?_))
            · intro j hj
              rw [zp_ar_18] at hj
              obtain rfl : j = 0 := by omega
              rw [zp_fo_18, show 4 * N + (3 + 0) = 4 * N + 3 from rfl, zf_3]
              exact ⟨rfl, ha, hu⟩
            · intro j j' hj hj' _; rw [zp_ar_18] at hj hj'; omega
            · intro hN; exact YB _ (ya_node0 hV10 hN48 hW.2 hS ha hu (br_t rfl (ya_mk0 hN (by omega) ⟨rfl, zz_mk hR⟩)))
            · intro hN us' hF'; exact YB _ (ya_node0 hV10 hN48 hW.2 hS ha hu (br_t rfl (ya_mk hN b4 ⟨rfl, zz_mk hF'⟩)))
          · exact xa_free0 hN48 ha (br_t rfl (YB _ (ya_node1 hV10 hN48 hW.2 hS ha (br_f za_10 ⟨rfl, zz_mk hR⟩))))
        have hbb : b = 0 ∨ b = 1 := by omega
        rcases hbb with rfl | rfl
        · exact br_t rfl A
        · exact br_f (by decide) (br_t rfl A)
      · have e0 : ¬ v2 = 0 := fun e => hb ⟨0, by decide, e⟩
        have e1 : ¬ v2 = 1 := fun e => hb ⟨1, by decide, e⟩
        exact br_f e0 (br_f e1 (br_t rfl (ya_var0 hV10 hw (br_t rfl (br_f e0 (br_f e1 ⟨rfl, zz_mk hR⟩))))))
    · exact xa_decl0 hV10 hv (br_t rfl (br_t rfl (ya_var1 hV10 hv (br_f za_10 ⟨rfl, zz_mk hR⟩))))
  · exact br_f hp (br_f hp ⟨rfl, zz_mk hR⟩)

theorem i_vc_define {k : Nat} {u : SX} {v : SY} (I : i_Rel k u v) (hk : k + 5 ≤ 2563) (v1 : Int32) (v2 : Int32) : wpX_define (fun r u' => wpY_define (fun r' v' => r' = r ∧ i_Rel (k + 5) u' v') v v1 v2) u v1 v2 := by
  refine zz_el (P := fun u v => wpX_define (fun r u' => wpY_define (fun r' v' => r' = r ∧ i_Rel (k + 5) u' v') v v1 v2) u v1 v2) ?_ I
  intro eS oS aS MV MN MI ph ve fa no vc nc oc sc bc lc pr ys yr yn rl ck qn pd kd fl us lv ex ow de nl vl di re od sA sT bC bS bE sl mV mN se nV nN pS pV yl yd ye vs vv ns nv hF
  have hR := hF
  obtain ⟨V, N, mv, mn, mi, t, rfl, rfl, rfl, rfl, rfl, rfl, b1, b2, b3, b4, b5, b6, hW, hU, hS, hnl, hvl, hP⟩ := hF
  have hV10 : V ≤ 10 := by omega
  have hN48 : N ≤ 48 := by omega
  by_cases hp : ph = 0
  · subst hp
    have ht : t = 0 := by
      rcases hP with h | h
      · exact h.2
      · exact absurd h.1 za_01
    subst ht
    refine br_t rfl ?_
    by_cases hv : ∃ w, w < V ∧ v1 = nI w
    · obtain ⟨w, hw, rfl⟩ := hv
      have cw : (nI w).toNatClampNeg = w := nI_clamp (by omega)
      have iw : vp_in (nI w) 10 := vp_in_nI (by omega) (by decide)
      refine xa_decl1 hV10 hw (br_f za_10 ⟨iw, ?_⟩)
      rw [cw]
      by_cases hr : rl w = 1
      · refine br_t hr ?_
        by_cases ha : ∃ a, a < N ∧ us a = 0 ∧ v2 = nI a
        · obtain ⟨a, ha, hu, rfl⟩ := ha
          have ca : (nI a).toNatClampNeg = a := nI_clamp (by omega)
          have ia : vp_in (nI a) 48 := vp_in_nI (by omega) (by decide)
          refine xa_free1 hN48 ha hu (br_f za_10 ⟨iw, nm_e ?_⟩)
          have Q : ∀ us2 : Nat → Int32, (∀ b, zp_O V qn b w → upd us2 a 1 b = 0) → (∀ b, b ≠ a → ¬ zp_O V qn b w → us2 b = us b) → wX_define_62 (fun r u' => wpY_define (fun r' v' => r' = r ∧ i_Rel (k + 5) u' v') (nI mv, nI mn, nI mi, nI V, nI N, nI 0, 0, ve, fa, rl, ck, qn, pd, yl, ys, yr, kd, fl, yd, ye, yn, vs, vv, ns, nv) (nI w) (nI a)) (nI w) (nI a) eS oS aS (nI mv) (nI mn) (nI mi) 0 ve fa (nI 0) (nI V) (nI N) oc sc bc lc pr rl ck qn pd kd fl us2 lv ex ow de nl vl di re od sA sT bC bS bE sl mV mN se nV nN pS pV := by
            intro us2 q0 q2
            refine ⟨iw, nm_r (e' := upd qn w (nI a)) (by rw [cw]) ⟨ia, nm_r (e' := upd us2 a 1) (by rw [ca, za_b1]) ?_⟩⟩
            refine br_t rfl (ya_var0 hV10 hw (br_t rfl ⟨iw, br_t (by rw [cw]; exact hr) (ya_node0 hV10 hN48 hW.2 hS ha hu (br_t rfl ⟨iw, nm_r (e' := upd qn w (nI a)) (by rw [cw]) ⟨rfl, zz_mk ?_⟩⟩))⟩))
            obtain ⟨w1, w2, w3⟩ := zp_def (us' := upd us2 a 1) hW hU hS hN48 hw ha hr hu pk_us q0 (fun b hb ho => by rw [pk_un hb]; exact q2 b hb ho)
            exact ⟨V, N, mv, mn, mi, 0, rfl, rfl, rfl, rfl, rfl, rfl, b1, b2, b3, b4, b5, b6, w1, w2, w3, hnl, hvl, Or.inl ⟨rfl, rfl⟩⟩
          rcases (hW.1 w hw).2.2 with e | ⟨_, e, e'⟩
          · rw [e]
            refine br_t (by decide) (Q us ?_ ?_)
            · intro b ho
              have := ho.2.2
              have hb := ho.2.1
              rw [e] at this
              exact absurd this (za_n1' (by omega))
            · intro b _ _; rfl
          · rw [e]
            generalize hx : zp_n qn w = x at e e'
            have hxw : zp_O V qn x w := ⟨hw, by omega, e⟩
            have hux : us x = 1 := (hS x e').2.mpr (Or.inr ⟨w, hxw⟩)
            have hxa : x ≠ a := by
              intro h; rw [h, hu] at hux; exact za_01 hux
            have cx : (nI x).toNatClampNeg = x := nI_clamp (by omega)
            refine br_f (nI_pos (by omega)) ⟨vp_in_nI (by omega) (by decide), nm_r (e' := upd us x 0) (by rw [cx, za_b0]) (Q _ ?_ ?_)⟩
            · intro b ho
              have hbx : b = x := by
                have := ho.2.2
                have hb := ho.2.1
                rw [e] at this
                exact (za_inj this (by omega) (by omega)).symm
              rw [hbx, pk_un hxa, pk_us]
            · intro b _ ho
              rw [pk_un]
              rintro rfl
              exact ho hxw
        · exact xa_free0 hN48 ha (br_t rfl (br_t rfl (ya_var0 hV10 hw (br_t rfl ⟨iw, br_t (by rw [cw]; exact hr) (ya_node1 hV10 hN48 hW.2 hS ha (br_f za_10 ⟨rfl, zz_mk hR⟩))⟩))))
      · exact br_f hr (br_t rfl (ya_var0 hV10 hw (br_t rfl ⟨iw, br_f (by rw [cw]; exact hr) ⟨rfl, zz_mk hR⟩⟩)))
    · exact xa_decl0 hV10 hv (br_t rfl (br_t rfl (ya_var1 hV10 hv (br_f za_10 ⟨rfl, zz_mk hR⟩))))
  · exact br_f hp (br_f hp ⟨rfl, zz_mk hR⟩)
end
section
theorem zp_zW {rl ck qn kd fl : Nat → Int32} : zp_W 0 0 rl ck qn kd fl := (zp_zero (us := rl)).1
theorem zp_zU {qn kd fl : Nat → Int32} : zp_U 0 0 qn kd fl := (zp_zero (us := qn) (rl := qn) (ck := qn)).2.1
theorem zp_zS {qn kd fl us : Nat → Int32} : zp_S 0 0 qn kd fl us := (zp_zero (rl := qn) (ck := qn)).2.2
theorem i_vc_clear {k : Nat} {u : SX} {v : SY} (I : i_Rel k u v) (hk : k + 5 ≤ 2563) (v1 : Int32) : wpX_clear (fun r u' => wpY_clear (fun r' v' => r' = r ∧ i_Rel (k + 5) u' v') v v1) u v1 := by
  refine zz_el (P := fun u v => wpX_clear (fun r u' => wpY_clear (fun r' v' => r' = r ∧ i_Rel (k + 5) u' v') v v1) u v1) ?_ I
  intro eS oS aS MV MN MI ph ve fa no vc nc oc sc bc lc pr ys yr yn rl ck qn pd kd fl us lv ex ow de nl vl di re od sA sT bC bS bE sl mV mN se nV nN pS pV yl yd ye vs vv ns nv hF
  have hR := hF
  obtain ⟨V, N, mv, mn, mi, t, rfl, rfl, rfl, rfl, rfl, rfl, b1, b2, b3, b4, b5, b6, hW, hU, hS, hnl, hvl, hP⟩ := hF
  have hV10 : V ≤ 10 := by omega
  have hN48 : N ≤ 48 := by omega
  by_cases h1 : v1 = 1
  · subst h1
    refine br_t rfl (br_f (by decide) ?_)
    unfold wX_clear_28 wpX_resetProgress
    refine br_t rfl (br_f (by decide) ⟨rfl, zz_mk ?_⟩)
    exact ⟨V, N, mv, mn, mi, 0, rfl, rfl, rfl, rfl, rfl, rfl, b1, b2, b3, b4, by omega, b6, hW, hU, hS, hnl, hvl, Or.inl ⟨rfl, rfl⟩⟩
  · by_cases h2 : v1 = 2
    · subst h2
      refine br_f (by decide) (br_t rfl (br_t rfl ?_))
      unfold wX_clear_28 wpX_resetProgress
      refine br_f (by decide) (br_t rfl (br_t rfl ⟨rfl, zz_mk ?_⟩))
      exact ⟨0, 0, mv, mn, mi, 0, rfl, rfl, rfl, rfl, rfl, rfl, by omega, b2, by omega, b4, by omega, b6, zp_zW, zp_zU, zp_zS, hnl, hvl, Or.inl ⟨rfl, rfl⟩⟩
    · exact br_f h1 (br_f h2 (br_f h1 (br_f h2 ⟨rfl, zz_mk hR⟩)))
theorem i_vc_feed {k : Nat} {u : SX} {v : SY} (I : i_Rel k u v) (hk : k + 5 ≤ 2563) (v1 : Int32) (v2 : Int32) : wpX_feed (fun r u' => wpY_feed (fun r' v' => r' = r ∧ i_Rel (k + 5) u' v') v v1 v2) u v1 v2 := by
  refine zz_el (P := fun u v => wpX_feed (fun r u' => wpY_feed (fun r' v' => r' = r ∧ i_Rel (k + 5) u' v') v v1 v2) u v1 v2) ?_ I
  intro eS oS aS MV MN MI ph ve fa no vc nc oc sc bc lc pr ys yr yn rl ck qn pd kd fl us lv ex ow de nl vl di re od sA sT bC bS bE sl mV mN se nV nN pS pV yl yd ye vs vv ns nv hF
  have hR := hF
  obtain ⟨V, N, mv, mn, mi, t, rfl, rfl, rfl, rfl, rfl, rfl, b1, b2, b3, b4, b5, b6, hW, hU, hS, hnl, hvl, hP⟩ := hF
  have hV10 : V ≤ 10 := by omega
  have hN48 : N ≤ 48 := by omega
  by_cases hp : ph = 1
  · refine br_t hp ?_
    by_cases hv : ∃ w, w < V ∧ v1 = nI w
    · obtain ⟨w, hw, rfl⟩ := hv
      have cw : (nI w).toNatClampNeg = w := nI_clamp (by omega)
      have iw : vp_in (nI w) 10 := vp_in_nI (by omega) (by decide)
      refine xa_decl1 hV10 hw (br_f za_10 ⟨iw, ?_⟩)
      rw [cw]
      by_cases hr : rl w = 0
      · exact br_t hr ⟨iw, nm_e (br_t hp (ya_var0 hV10 hw (br_t rfl ⟨iw, br_t (by rw [cw]; exact hr) ⟨iw, nm_r (e' := upd pd w v2) (by rw [cw]) ⟨rfl, zz_mk hR⟩⟩⟩)))⟩
      · exact br_f hr (br_t hp (ya_var0 hV10 hw (br_t rfl ⟨iw, br_f (by rw [cw]; exact hr) ⟨rfl, zz_mk hR⟩⟩)))
    · exact xa_decl0 hV10 hv (br_t rfl (br_t hp (ya_var1 hV10 hv (br_f za_10 ⟨rfl, zz_mk hR⟩))))
  · exact br_f hp (br_f hp ⟨rfl, zz_mk hR⟩)
theorem i_vc_rewind {k : Nat} {u : SX} {v : SY} (I : i_Rel k u v) (hk : k + 5 ≤ 2563) (v1 : Int32) : wpX_rewind (fun r u' => wpY_rewind (fun r' v' => r' = r ∧ i_Rel (k + 5) u' v') v v1) u v1 := by
  refine zz_el (P := fun u v => wpX_rewind (fun r u' => wpY_rewind (fun r' v' => r' = r ∧ i_Rel (k + 5) u' v') v v1) u v1) ?_ I
  intro eS oS aS MV MN MI ph ve fa no vc nc oc sc bc lc pr ys yr yn rl ck qn pd kd fl us lv ex ow de nl vl di re od sA sT bC bS bE sl mV mN se nV nN pS pV yl yd ye vs vv ns nv hF
  have hR := hF
  obtain ⟨V, N, mv, mn, mi, t, rfl, rfl, rfl, rfl, rfl, rfl, b1, b2, b3, b4, b5, b6, hW, hU, hS, hnl, hvl, hP⟩ := hF
  have hV10 : V ≤ 10 := by omega
  have hN48 : N ≤ 48 := by omega
  by_cases hp : ph = 1
  · refine br_t hp ?_
    by_cases h0 : v1 < 0
    · exact br_t h0 (br_t hp (br_t h0 ⟨rfl, zz_mk hR⟩))
    · refine br_f h0 ?_
      by_cases hle : v1 ≤ nI t
      · refine br_t hle (br_t hp (br_f h0 (br_t hle ⟨rfl, zz_mk ?_⟩)))
        obtain ⟨j, hj, rfl⟩ := nI_of h0
        have hjt : j ≤ t := (nI_leI hj (by omega)).mp hle
        refine ⟨V, N, mv, mn, mi, j, rfl, rfl, rfl, rfl, rfl, rfl, b1, b2, b3, b4, by omega, b6, hW, hU, hS, hnl, hvl, ?_⟩
        rcases hP with hP | ⟨h1, S, B, L, s1, s2, s3, hA, hH⟩
        · exact Or.inl ⟨hP.1, by have := hP.2; omega⟩
        · exact Or.inr ⟨h1, S, B, L, s1, s2, s3, hA, fun u hu => hH.1 u (by omega), fun u hu => hH.2 u (by omega)⟩
      · exact br_f hle (br_t hp (br_f h0 (br_f hle ⟨rfl, zz_mk hR⟩)))
  · exact br_f hp (br_f hp ⟨rfl, zz_mk hR⟩)
section
variable {eS oS aS MV MN MI ph ve fa no vc nc oc sc bc lc pr : Int32} {rl ck qn pd kd fl us lv ex ow de nl vl di re od sA sT bC bS bE sl mV mN se nV nN pS pV yl ys yr yd ye yn vs vv ns nv : Nat → Int32}
theorem xs_st1 {post : Int32 → Prop} {V t v u : Nat} (hV : V ≤ 10) (ht : t ≤ 24) (hv : v < V) (hu : u < t) (h : post (pS (10 * u + v))) : wpX_status post (eS, oS, aS, MV, MN, MI, ph, ve, fa, nI t, nI V, nc, oc, sc, bc, lc, pr, rl, ck, qn, pd, kd, fl, us, lv, ex, ow, de, nl, vl, di, re, od, sA, sT, bC, bS, bE, sl, mV, mN, se, nV, nN, pS, pV) (nI v) (nI u) := by
  unfold wpX_status
  refine xa_decl1 hV hv (br_f za_10 (br_f (nI_pos (by omega)) (br_t (nI_lt hu (by omega)) ?_)))
  rw [za_m10, nI_add, nI_clamp (by omega)]
  exact ⟨vp_in_nI (by omega) (by decide), h⟩
theorem xs_st0 {post : Int32 → Prop} {V t : Nat} {p0 p1 : Int32} (hV : V ≤ 10) (ht : t ≤ 24) (hn : ¬ ∃ v u, v < V ∧ u < t ∧ p0 = nI v ∧ p1 = nI u) (h : post (-1)) : wpX_status post (eS, oS, aS, MV, MN, MI, ph, ve, fa, nI t, nI V, nc, oc, sc, bc, lc, pr, rl, ck, qn, pd, kd, fl, us, lv, ex, ow, de, nl, vl, di, re, od, sA, sT, bC, bS, bE, sl, mV, mN, se, nV, nN, pS, pV) p0 p1 := by
  unfold wpX_status
  by_cases hv : ∃ v, v < V ∧ p0 = nI v
  · obtain ⟨v, hv, rfl⟩ := hv
    refine xa_decl1 hV hv (br_f za_10 ?_)
    by_cases h0 : p1 < 0
    · exact br_t h0 h
    · refine br_f h0 (br_f ?_ h)
      obtain ⟨j, hj, rfl⟩ := nI_of h0
      exact fun hl => hn ⟨v, j, hv, (nI_ltI hj (by omega)).mp hl, rfl, rfl⟩
  · exact xa_decl0 hV hv (br_t rfl h)
theorem ys_st1 {post : Int32 → Prop} {V t v u : Nat} (hV : V ≤ 10) (ht : t ≤ 24) (hv : v < V) (hu : u < t) (h : post (vs (10 * u + v))) : wpY_status post (MV, MN, MI, nI V, nc, nI t, ph, ve, fa, rl, ck, qn, pd, yl, ys, yr, kd, fl, yd, ye, yn, vs, vv, ns, nv) (nI v) (nI u) := by
  unfold wpY_status
  refine ya_var0 hV hv (br_t rfl (br_f (nI_pos (by omega)) (br_t (nI_lt hu (by omega)) ?_)))
  rw [za_m10, nI_add, nI_clamp (by omega)]
  exact ⟨vp_in_nI (by omega) (by decide), h⟩
theorem ys_st0 {post : Int32 → Prop} {V t : Nat} {p0 p1 : Int32} (hV : V ≤ 10) (ht : t ≤ 24) (hn : ¬ ∃ v u, v < V ∧ u < t ∧ p0 = nI v ∧ p1 = nI u) (h : post (-1)) : wpY_status post (MV, MN, MI, nI V, nc, nI t, ph, ve, fa, rl, ck, qn, pd, yl, ys, yr, kd, fl, yd, ye, yn, vs, vv, ns, nv) p0 p1 := by
  unfold wpY_status
  by_cases hv : ∃ v, v < V ∧ p0 = nI v
  · obtain ⟨v, hv, rfl⟩ := hv
    refine ya_var0 hV hv (br_t rfl ?_)
    by_cases h0 : p1 < 0
    · exact br_t h0 h
    · refine br_f h0 (br_f ?_ h)
      obtain ⟨j, hj, rfl⟩ := nI_of h0
      exact fun hl => hn ⟨v, j, hv, (nI_ltI hj (by omega)).mp hl, rfl, rfl⟩
  · exact ya_var1 hV hv (br_f za_10 h)
end
theorem i_vc_status {k : Nat} {u : SX} {v : SY} (I : i_Rel k u v) (hk : k + 5 ≤ 2563) (v1 : Int32) (v2 : Int32) : wpX_status (fun r => wpY_status (fun r' => r' = r ∧ i_Rel (k + 5) u v) v v1 v2) u v1 v2 := by
  refine zz_el (P := fun u v => wpX_status (fun r => wpY_status (fun r' => r' = r ∧ i_Rel (k + 5) u v) v v1 v2) u v1 v2) ?_ I
  intro eS oS aS MV MN MI ph ve fa no vc nc oc sc bc lc pr ys yr yn rl ck qn pd kd fl us lv ex ow de nl vl di re od sA sT bC bS bE sl mV mN se nV nN pS pV yl yd ye vs vv ns nv hF
  have hR := hF
  obtain ⟨V, N, mv, mn, mi, t, rfl, rfl, rfl, rfl, rfl, rfl, b1, b2, b3, b4, b5, b6, hW, hU, hS, hnl, hvl, hP⟩ := hF
  have hV10 : V ≤ 10 := by omega
  have hN48 : N ≤ 48 := by omega
  by_cases hq : ∃ w x, w < V ∧ x < t ∧ v1 = nI w ∧ v2 = nI x
  · obtain ⟨w, x, hw, hx, rfl, rfl⟩ := hq
    have hr : pS (10 * x + w) = vs (10 * x + w) ∧ pV (10 * x + w) = vv (10 * x + w) := by
      rcases hP with hP | ⟨h1, S, B, L, s1, s2, s3, hA, hH⟩
      · have := hP.2; omega
      · exact ⟨((hH.1 x hx).1 w hw).1, ((hH.1 x hx).1 w hw).2.1⟩
    exact xs_st1 hV10 (by omega) hw hx (ys_st1 hV10 (by omega) hw hx ⟨hr.1.symm, zz_mk hR⟩)
  · exact xs_st0 hV10 (by omega) hq (ys_st0 hV10 (by omega) hq ⟨rfl, zz_mk hR⟩)
theorem i_vc_value {k : Nat} {u : SX} {v : SY} (I : i_Rel k u v) (hk : k + 5 ≤ 2563) (v1 : Int32) (v2 : Int32) : wpX_value (fun r => wpY_value (fun r' => r' = r ∧ i_Rel (k + 5) u v) v v1 v2) u v1 v2 := by
  refine zz_el (P := fun u v => wpX_value (fun r => wpY_value (fun r' => r' = r ∧ i_Rel (k + 5) u v) v v1 v2) u v1 v2) ?_ I
  intro eS oS aS MV MN MI ph ve fa no vc nc oc sc bc lc pr ys yr yn rl ck qn pd kd fl us lv ex ow de nl vl di re od sA sT bC bS bE sl mV mN se nV nN pS pV yl yd ye vs vv ns nv hF
  have hR := hF
  obtain ⟨V, N, mv, mn, mi, t, rfl, rfl, rfl, rfl, rfl, rfl, b1, b2, b3, b4, b5, b6, hW, hU, hS, hnl, hvl, hP⟩ := hF
  have hV10 : V ≤ 10 := by omega
  have hN48 : N ≤ 48 := by omega
  unfold wpX_value
  by_cases hq : ∃ w x, w < V ∧ x < t ∧ v1 = nI w ∧ v2 = nI x
  · obtain ⟨w, x, hw, hx, rfl, rfl⟩ := hq
    have hr : pS (10 * x + w) = vs (10 * x + w) ∧ pV (10 * x + w) = vv (10 * x + w) := by
      rcases hP with hP | ⟨h1, S, B, L, s1, s2, s3, hA, hH⟩
      · have := hP.2; omega
      · exact ⟨((hH.1 x hx).1 w hw).1, ((hH.1 x hx).1 w hw).2.1⟩
    have ci : (nI (10 * x + w)).toNatClampNeg = 10 * x + w := nI_clamp (by omega)
    have ii : vp_in (nI (10 * x + w)) 240 := vp_in_nI (by omega) (by decide)
    refine xs_st1 hV10 (by omega) hw hx ?_
    by_cases h1 : pS (10 * x + w) = 1
    · refine br_t h1 ?_
      rw [za_m10, nI_add, ci]
      refine ⟨ii, ?_⟩
      unfold wpY_value
      refine ys_st1 hV10 (by omega) hw hx (br_t (by rw [← hr.1]; exact h1) ?_)
      rw [za_m10, nI_add, ci]
      exact ⟨ii, hr.2.symm, zz_mk hR⟩
    · refine br_f h1 ?_
      unfold wpY_value
      exact ys_st1 hV10 (by omega) hw hx (br_f (by rw [← hr.1]; exact h1) ⟨rfl, zz_mk hR⟩)
  · refine xs_st0 hV10 (by omega) hq (br_f (by decide) ?_)
    unfold wpY_value
    exact ys_st0 hV10 (by omega) hq (br_f (by decide) ⟨rfl, zz_mk hR⟩)
theorem i_vc_summary {k : Nat} {u : SX} {v : SY} (I : i_Rel k u v) (hk : k + 5 ≤ 2563) (v1 : Int32) : wpX_summary (fun r => wpY_summary (fun r' => r' = r ∧ i_Rel (k + 5) u v) v v1) u v1 := by
  refine zz_el (P := fun u v => wpX_summary (fun r => wpY_summary (fun r' => r' = r ∧ i_Rel (k + 5) u v) v v1) u v1) ?_ I
  intro eS oS aS MV MN MI ph ve fa no vc nc oc sc bc lc pr ys yr yn rl ck qn pd kd fl us lv ex ow de nl vl di re od sA sT bC bS bE sl mV mN se nV nN pS pV yl yd ye vs vv ns nv hF
  have hR := hF
  obtain ⟨V, N, mv, mn, mi, t, rfl, rfl, rfl, rfl, rfl, rfl, b1, b2, b3, b4, b5, b6, hW, hU, hS, hnl, hvl, hP⟩ := hF
  have hV10 : V ≤ 10 := by omega
  have hN48 : N ≤ 48 := by omega
  by_cases h0 : v1 = 0
  · subst h0
    exact br_f (by decide) (br_f (by decide) (br_t rfl (br_t rfl ⟨rfl, zz_mk hR⟩)))
  by_cases h1 : v1 = 1
  · subst h1
    exact br_f (by decide) (br_f (by decide) (br_f (by decide) (br_t rfl (br_f (by decide) (br_t rfl ⟨rfl, zz_mk hR⟩)))))
  by_cases h2 : v1 = 2
  · subst h2
    exact br_f (by decide) (br_f (by decide) (br_f (by decide) (br_f (by decide) (br_t rfl (br_f (by decide) (br_f (by decide) (br_t rfl ⟨rfl, zz_mk hR⟩)))))))
  by_cases h3 : v1 = 3
  · subst h3
    exact br_f (by decide) (br_f (by decide) (br_f (by decide) (br_f (by decide) (br_f (by decide) (br_t rfl (br_f (by decide) (br_f (by decide) (br_f (by decide) (br_t rfl ⟨rfl, zz_mk hR⟩)))))))))
  by_cases h4 : v1 = 4
  · subst h4
    exact br_f (by decide) (br_f (by decide) (br_f (by decide) (br_f (by decide) (br_f (by decide) (br_f (by decide) (br_t rfl (br_f (by decide) (br_f (by decide) (br_f (by decide) (br_f (by decide) (br_t rfl ⟨rfl, zz_mk hR⟩)))))))))))
  by_cases h5 : v1 = 5
  · subst h5
    exact br_f (by decide) (br_f (by decide) (br_f (by decide) (br_f (by decide) (br_f (by decide) (br_f (by decide) (br_f (by decide) (br_t rfl (br_f (by decide) (br_f (by decide) (br_f (by decide) (br_f (by decide) (br_f (by decide) (br_t rfl ⟨rfl, zz_mk hR⟩)))))))))))))
  have Y : wpY_summary (fun r' => r' = -1 ∧ i_Rel (k + 5) (eS, oS, aS, nI mv, nI mn, nI mi, ph, ve, fa, nI t, nI V, nI N, oc, sc, bc, lc, pr, rl, ck, qn, pd, kd, fl, us, lv, ex, ow, de, nl, vl, di, re, od, sA, sT, bC, bS, bE, sl, mV, mN, se, nV, nN, pS, pV) (nI mv, nI mn, nI mi, nI V, nI N, nI t, ph, ve, fa, rl, ck, qn, pd, yl, ys, yr, kd, fl, yd, ye, yn, vs, vv, ns, nv)) (nI mv, nI mn, nI mi, nI V, nI N, nI t, ph, ve, fa, rl, ck, qn, pd, yl, ys, yr, kd, fl, yd, ye, yn, vs, vv, ns, nv) v1 := br_f h0 (br_f h1 (br_f h2 (br_f h3 (br_f h4 (br_f h5 ⟨rfl, zz_mk hR⟩)))))
  by_cases hn : v1 < 0
  · exact br_t hn Y
  · by_cases h6 : 5 < v1
    · exact br_f hn (br_t h6 Y)
    · obtain ⟨j, hj, rfl⟩ := nI_of hn
      have : j ≤ 5 := Nat.le_of_not_lt (fun hl => h6 ((zg_5 hj).mpr hl))
      rw [zq_0 hj] at h0; rw [zq_1 hj] at h1; rw [zq_2 hj] at h2; rw [zq_3 hj] at h3; rw [zq_4 hj] at h4; rw [zq_5 hj] at h5
      omega
theorem i_vc_variableInfo {k : Nat} {u : SX} {v : SY} (I : i_Rel k u v) (hk : k + 5 ≤ 2563) (v1 : Int32) (v2 : Int32) : wpX_variableInfo (fun r => wpY_variableInfo (fun r' => r' = r ∧ i_Rel (k + 5) u v) v v1 v2) u v1 v2 := by
  refine zz_el (P := fun u v => wpX_variableInfo (fun r => wpY_variableInfo (fun r' => r' = r ∧ i_Rel (k + 5) u v) v v1 v2) u v1 v2) ?_ I
  intro eS oS aS MV MN MI ph ve fa no vc nc oc sc bc lc pr ys yr yn rl ck qn pd kd fl us lv ex ow de nl vl di re od sA sT bC bS bE sl mV mN se nV nN pS pV yl yd ye vs vv ns nv hF
  have hR := hF
  obtain ⟨V, N, mv, mn, mi, t, rfl, rfl, rfl, rfl, rfl, rfl, b1, b2, b3, b4, b5, b6, hW, hU, hS, hnl, hvl, hP⟩ := hF
  have hV10 : V ≤ 10 := by omega
  have hN48 : N ≤ 48 := by omega
  by_cases hv : ∃ w, w < V ∧ v1 = nI w
  · obtain ⟨w, hw, rfl⟩ := hv
    have cw : (nI w).toNatClampNeg = w := nI_clamp (by omega)
    have iw : vp_in (nI w) 10 := vp_in_nI (by omega) (by decide)
    unfold wpX_variableInfo
    refine xa_decl1 hV10 hw (br_f za_10 ?_)
    rw [cw]
    have YB : ∀ q : Int32 → Prop, ((v2 = 0 → q (rl w)) ∧ (v2 = 1 → q (ck w)) ∧ (v2 = 2 → q (qn w)) ∧ (v2 = 3 → q (if ph = 1 then (if rl w = 0 then pd w else 0) else 0)) ∧ (v2 = 4 → q (if ph = 1 then (if yl w = 0 then 0 else 1) else -1)) ∧ (¬ v2 = 0 → ¬ v2 = 1 → ¬ v2 = 2 → ¬ v2 = 3 → ¬ v2 = 4 → q (-1))) → wpY_variableInfo q (nI mv, nI mn, nI mi, nI V, nI N, nI t, ph, ve, fa, rl, ck, qn, pd, yl, ys, yr, kd, fl, yd, ye, yn, vs, vv, ns, nv) (nI w) v2 := by
      intro q ⟨q0, q1, q2, q3, q4, q5⟩
      unfold wpY_variableInfo
      refine ya_var0 hV10 hw (br_t rfl ?_)
      rw [cw]
      refine br_c (fun e => ⟨iw, q0 e⟩) (fun e0 => br_c (fun e => ⟨iw, q1 e⟩) (fun e1 => br_c (fun e => ⟨iw, q2 e⟩) (fun e2 => br_c (fun e => ?_) (fun e3 => br_c (fun e => ?_) (fun e4 => q5 e0 e1 e2 e3 e4)))))
      · have h := q3 e
        by_cases hp : ph = 1
        · rw [if_pos hp] at h
          refine br_t hp ⟨iw, ?_⟩
          by_cases hr : rl w = 0
          · rw [if_pos hr] at h; exact br_t hr ⟨iw, h⟩
          · rw [if_neg hr] at h; exact br_f hr h
        · rw [if_neg hp] at h; exact br_f hp h
      · have h := q4 e
        by_cases hp : ph = 1
        · rw [if_pos hp] at h
          refine br_t hp ⟨iw, ?_⟩
          by_cases hr : yl w = 0
          · rw [if_pos hr] at h; exact br_t hr h
          · rw [if_neg hr] at h; exact br_f hr h
        · rw [if_neg hp] at h; exact br_f hp h
    by_cases h0 : v2 = 0
    · subst h0
      exact br_f (by decide) (br_f (by decide) (br_t rfl ⟨iw, YB _ ⟨fun _ => ⟨rfl, zz_mk hR⟩, fun e => absurd e (by decide), fun e => absurd e (by decide), fun e => absurd e (by decide), fun e => absurd e (by decide), fun e _ _ _ _ => absurd rfl e⟩⟩))
    by_cases h1 : v2 = 1
    · subst h1
      exact br_f (by decide) (br_f (by decide) (br_f (by decide) (br_t rfl ⟨iw, YB _ ⟨fun e => absurd e (by decide), fun _ => ⟨rfl, zz_mk hR⟩, fun e => absurd e (by decide), fun e => absurd e (by decide), fun e => absurd e (by decide), fun _ e _ _ _ => absurd rfl e⟩⟩)))
    by_cases h2 : v2 = 2
    · subst h2
      exact br_f (by decide) (br_f (by decide) (br_f (by decide) (br_f (by decide) (br_t rfl ⟨iw, YB _ ⟨fun e => absurd e (by decide), fun e => absurd e (by decide), fun _ => ⟨rfl, zz_mk hR⟩, fun e => absurd e (by decide), fun e => absurd e (by decide), fun _ _ e _ _ => absurd rfl e⟩⟩))))
    by_cases h3 : v2 = 3
    · subst h3
      refine br_f (by decide) (br_f (by decide) (br_f (by decide) (br_f (by decide) (br_f (by decide) (br_t rfl ?_)))))
      by_cases hp : ph = 1
      · refine br_t hp ⟨iw, ?_⟩
        by_cases hr : rl w = 0
        · exact br_t hr ⟨iw, YB _ ⟨fun e => absurd e (by decide), fun e => absurd e (by decide), fun e => absurd e (by decide), fun _ => ⟨(if_pos hp).trans (if_pos hr), zz_mk hR⟩, fun e => absurd e (by decide), fun _ _ _ e _ => absurd rfl e⟩⟩
        · exact br_f hr (YB _ ⟨fun e => absurd e (by decide), fun e => absurd e (by decide), fun e => absurd e (by decide), fun _ => ⟨(if_pos hp).trans (if_neg hr), zz_mk hR⟩, fun e => absurd e (by decide), fun _ _ _ e _ => absurd rfl e⟩)
      · exact br_f hp (YB _ ⟨fun e => absurd e (by decide), fun e => absurd e (by decide), fun e => absurd e (by decide), fun _ => ⟨if_neg hp, zz_mk hR⟩, fun e => absurd e (by decide), fun _ _ _ e _ => absurd rfl e⟩)
    by_cases h4 : v2 = 4
    · subst h4
      refine br_f (by decide) (br_f (by decide) (br_f (by decide) (br_f (by decide) (br_f (by decide) (br_f (by decide) (br_t rfl ?_))))))
      by_cases hp : ph = 1
      · have hyl : yl w = vl w := by
          rcases hP with hP | ⟨h1, S, B, L, s1, s2, s3, hA, hH⟩
          · exact absurd (hP.1.symm.trans hp) za_01
          · exact hA.2.2.2.2.1 w hw
        refine br_t hp ⟨iw, ?_⟩
        by_cases hr : vl w = 0
        · exact br_t hr (YB _ ⟨fun e => absurd e (by decide), fun e => absurd e (by decide), fun e => absurd e (by decide), fun e => absurd e (by decide), fun _ => ⟨(if_pos hp).trans (if_pos (hyl.trans hr)), zz_mk hR⟩, fun _ _ _ _ e => absurd rfl e⟩)
        · exact br_f hr (YB _ ⟨fun e => absurd e (by decide), fun e => absurd e (by decide), fun e => absurd e (by decide), fun e => absurd e (by decide), fun _ => ⟨(if_pos hp).trans (if_neg (fun e => hr (hyl.symm.trans e))), zz_mk hR⟩, fun _ _ _ _ e => absurd rfl e⟩)
      · exact br_f hp (YB _ ⟨fun e => absurd e (by decide), fun e => absurd e (by decide), fun e => absurd e (by decide), fun e => absurd e (by decide), fun _ => ⟨if_neg hp, zz_mk hR⟩, fun _ _ _ _ e => absurd rfl e⟩)
    by_cases hn : v2 < 0
    · exact br_t hn (YB _ ⟨fun e => absurd e h0, fun e => absurd e h1, fun e => absurd e h2, fun e => absurd e h3, fun e => absurd e h4, fun _ _ _ _ _ => ⟨rfl, zz_mk hR⟩⟩)
    · by_cases h6 : 4 < v2
      · exact br_f hn (br_t h6 (YB _ ⟨fun e => absurd e h0, fun e => absurd e h1, fun e => absurd e h2, fun e => absurd e h3, fun e => absurd e h4, fun _ _ _ _ _ => ⟨rfl, zz_mk hR⟩⟩))
      · obtain ⟨j, hj, rfl⟩ := nI_of hn
        have : j ≤ 4 := Nat.le_of_not_lt (fun hl => h6 ((zg_4 hj).mpr hl))
        rw [zq_0 hj] at h0; rw [zq_1 hj] at h1; rw [zq_2 hj] at h2; rw [zq_3 hj] at h3; rw [zq_4 hj] at h4
        omega
  · unfold wpX_variableInfo
    refine xa_decl0 hV10 hv (br_t rfl ?_)
    unfold wpY_variableInfo
    exact ya_var1 hV10 hv (br_f za_10 ⟨rfl, zz_mk hR⟩)
theorem i_vc_nodeInfo {k : Nat} {u : SX} {v : SY} (I : i_Rel k u v) (hk : k + 5 ≤ 2563) (v1 : Int32) (v2 : Int32) : wpX_nodeInfo (fun r => wpY_nodeInfo (fun r' => r' = r ∧ i_Rel (k + 5) u v) v v1 v2) u v1 v2 := by
  refine zz_el (P := fun u v => wpX_nodeInfo (fun r => wpY_nodeInfo (fun r' => r' = r ∧ i_Rel (k + 5) u v) v v1 v2) u v1 v2) ?_ I
  intro eS oS aS MV MN MI ph ve fa no vc nc oc sc bc lc pr ys yr yn rl ck qn pd kd fl us lv ex ow de nl vl di re od sA sT bC bS bE sl mV mN se nV nN pS pV yl yd ye vs vv ns nv hF
  have hR := hF
  obtain ⟨V, N, mv, mn, mi, t, rfl, rfl, rfl, rfl, rfl, rfl, b1, b2, b3, b4, b5, b6, hW, hU, hS, hnl, hvl, hP⟩ := hF
  have hV10 : V ≤ 10 := by omega
  have hN48 : N ≤ 48 := by omega
  by_cases hn0 : v1 < 0
  · exact br_t hn0 (br_t hn0 ⟨rfl, zz_mk hR⟩)
  · by_cases hnN : v1 < nI N
    · obtain ⟨n, hn, rfl⟩ := nI_of hn0
      have hnl : n < N := (nI_ltI hn (by omega)).mp hnN
      have cn : (nI n).toNatClampNeg = n := nI_clamp hn
      have i4 : vp_in (nI n) 48 := vp_in_nI (by omega) (by decide)
      have hx : ∀ c, c < 4 → vp_in (nI (4 * n + c)) 192 ∧ (nI (4 * n + c)).toNatClampNeg = 4 * n + c := fun c hc => ⟨vp_in_nI (by omega) (by decide), nI_clamp (by omega)⟩
      have Y0 : ∀ q : Int32 → Prop, q (kd n) → wpY_nodeInfo q (nI mv, nI mn, nI mi, nI V, nI N, nI t, ph, ve, fa, rl, ck, qn, pd, yl, ys, yr, kd, fl, yd, ye, yn, vs, vv, ns, nv) (nI n) 0 := by
        intro q h
        refine br_f hn0 (br_t hnN (br_t rfl ⟨i4, ?_⟩))
        rw [cn]; exact h
      have YF : ∀ (c : Nat) (q : Int32 → Prop), c < 4 → q (fl (4 * n + c)) → wpY_nodeInfo q (nI mv, nI mn, nI mi, nI V, nI N, nI t, ph, ve, fa, rl, ck, qn, pd, yl, ys, yr, kd, fl, yd, ye, yn, vs, vv, ns, nv) (nI n) (nI (c + 1)) := by
        intro c q hc h
        refine br_f hn0 (br_t hnN (br_f (fun e => by have := (zq_0 (a := c + 1) (by omega)).mp e; omega) (br_f (fun e => by have := (zl_1 (a := c + 1) (by omega)).mp e; omega) (br_f (fun e => by have := (zg_4 (a := c + 1) (by omega)).mp e; omega) ?_))))
        rw [za_4m, nI_add, show 4 * n + (c + 1) = (4 * n + c) + 1 from rfl, nI_pred, (hx c hc).2]
        exact ⟨(hx c hc).1, h⟩
      have Y5 : ∀ q : Int32 → Prop, q (us n) → wpY_nodeInfo q (nI mv, nI mn, nI mi, nI V, nI N, nI t, ph, ve, fa, rl, ck, qn, pd, yl, ys, yr, kd, fl, yd, ye, yn, vs, vv, ns, nv) (nI n) 5 := by
        intro q h
        refine br_f hn0 (br_t hnN (br_f (by decide) (br_f (by decide) (br_t (by decide) (br_t rfl (ya_used hV10 hN48 hW.2 hS hnl ?_))))))
        rcases (hS n hnl).1 with e | e
        · rw [e] at h ⊢; exact br_t rfl h
        · rw [e] at h ⊢; exact br_f za_10 h
      have Y6 : ∀ q : Int32 → Prop, q (if ph = 1 then yd n else -1) → wpY_nodeInfo q (nI mv, nI mn, nI mi, nI V, nI N, nI t, ph, ve, fa, rl, ck, qn, pd, yl, ys, yr, kd, fl, yd, ye, yn, vs, vv, ns, nv) (nI n) 6 := by
        intro q h
        refine br_f hn0 (br_t hnN (br_f (by decide) (br_f (by decide) (br_t (by decide) (br_f (by decide) (br_t rfl ?_))))))
        by_cases hp : ph = 1
        · rw [if_pos hp] at h
          refine br_t hp ⟨i4, ?_⟩
          rw [cn]; exact h
        · rw [if_neg hp] at h; exact br_f hp h
      have YN : ∀ q : Int32 → Prop, (v2 < 0 ∨ 6 < v2) → q (-1) → wpY_nodeInfo q (nI mv, nI mn, nI mi, nI V, nI N, nI t, ph, ve, fa, rl, ck, qn, pd, yl, ys, yr, kd, fl, yd, ye, yn, vs, vv, ns, nv) (nI n) v2 := by
        intro q h hq
        have h0 : ¬ v2 = 0 := by rintro rfl; rcases h with h | h <;> exact absurd h (by decide)
        have h5 : ¬ v2 = 5 := by rintro rfl; rcases h with h | h <;> exact absurd h (by decide)
        have h6 : ¬ v2 = 6 := by rintro rfl; rcases h with h | h <;> exact absurd h (by decide)
        refine br_f hn0 (br_t hnN (br_f h0 ?_))
        have Z : wY_nodeInfo_48 q (nI n) v2 (nI mv) (nI mn) (nI mi) (nI V) (nI N) (nI t) ph ve fa rl ck qn pd yl ys yr kd fl yd ye yn vs vv ns nv := br_f h5 (br_f h6 hq)
        rcases h with h | h
        · exact br_t (Int32.lt_of_lt_of_le h (by decide)) Z
        · refine br_c (fun _ => Z) (fun _ => br_t (Int32.lt_of_le_of_lt (by decide) h) Z)
      refine br_f hn0 (br_t hnN ?_)
      rw [cn, za_m4, nI_1 (4 * n), za_2, za_3, (hx 1 (by decide)).2, (hx 2 (by decide)).2, (hx 3 (by decide)).2, nI_clamp (n := 4 * n) (by omega)]
      have x0 := (hx 0 (by decide)).1
      rw [Nat.add_zero] at x0
      by_cases h0 : v2 = 0
      · subst h0
        exact br_f (by decide) (br_f (by decide) (br_t rfl ⟨i4, Y0 _ ⟨rfl, zz_mk hR⟩⟩))
      by_cases h1 : v2 = 1
      · subst h1
        exact br_f (by decide) (br_f (by decide) (br_f (by decide) (br_t rfl ⟨x0, YF 0 _ (by decide) ⟨rfl, zz_mk hR⟩⟩)))
      by_cases h2 : v2 = 2
      · subst h2
        exact br_f (by decide) (br_f (by decide) (br_f (by decide) (br_f (by decide) (br_t rfl ⟨(hx 1 (by decide)).1, YF 1 _ (by decide) ⟨rfl, zz_mk hR⟩⟩))))
      by_cases h3 : v2 = 3
      · subst h3
        exact br_f (by decide) (br_f (by decide) (br_f (by decide) (br_f (by decide) (br_f (by decide) (br_t rfl ⟨(hx 2 (by decide)).1, YF 2 _ (by decide) ⟨rfl, zz_mk hR⟩⟩)))))
      by_cases h4 : v2 = 4
      · subst h4
        exact br_f (by decide) (br_f (by decide) (br_f (by decide) (br_f (by decide) (br_f (by decide) (br_f (by decide) (br_t rfl ⟨(hx 3 (by decide)).1, YF 3 _ (by decide) ⟨rfl, zz_mk hR⟩⟩))))))
      by_cases h5 : v2 = 5
      · subst h5
        refine br_f (by decide) (br_f (by decide) (br_f (by decide) (br_f (by decide) (br_f (by decide) (br_f (by decide) (br_f (by decide) (br_t rfl ⟨i4, ?_⟩)))))))
        rcases (hS n hnl).1 with e | e
        · exact br_t e (Y5 _ ⟨e, zz_mk hR⟩)
        · exact br_f (by rw [e]; exact za_10) (Y5 _ ⟨e, zz_mk hR⟩)
      by_cases h6 : v2 = 6
      · subst h6
        refine br_f (by decide) (br_f (by decide) (br_f (by decide) (br_f (by decide) (br_f (by decide) (br_f (by decide) (br_f (by decide) (br_f (by decide) (br_t rfl ?_))))))))
        by_cases hp : ph = 1
        · have hA : yd n = de n ∧ zt_sh V lv ex ow de n := by
            rcases hP with hP | ⟨h1, S, B, L, s1, s2, s3, hA, hH⟩
            · exact absurd (hP.1.symm.trans hp) za_01
            · exact ⟨(hA.2.2.2.1 n hnl).1, hA.1.1 n hnl⟩
          refine br_t hp ⟨i4, ?_⟩
          rcases hA.2 with ⟨e1, e2, e3, e4⟩ | ⟨e1, e2⟩
          · exact br_t e1 (Y6 _ ⟨(if_pos hp).trans (hA.1.trans e4), zz_mk hR⟩)
          · exact br_f (by rw [e1]; exact za_10) ⟨i4, Y6 _ ⟨(if_pos hp).trans hA.1, zz_mk hR⟩⟩
        · exact br_f hp (Y6 _ ⟨if_neg hp, zz_mk hR⟩)
      by_cases hm : v2 < 0
      · exact br_t hm (YN _ (Or.inl hm) ⟨rfl, zz_mk hR⟩)
      · by_cases h7 : 6 < v2
        · exact br_f hm (br_t h7 (YN _ (Or.inr h7) ⟨rfl, zz_mk hR⟩))
        · obtain ⟨j, hj, rfl⟩ := nI_of hm
          have : j ≤ 6 := Nat.le_of_not_lt (fun hl => h7 ((zg_6 hj).mpr hl))
          rw [zq_0 hj] at h0; rw [zq_1 hj] at h1; rw [zq_2 hj] at h2; rw [zq_3 hj] at h3; rw [zq_4 hj] at h4; rw [zq_5 hj] at h5; rw [zq_6 hj] at h6
          omega
    · exact br_f hn0 (br_f hnN (br_f hn0 (br_f hnN ⟨rfl, zz_mk hR⟩)))
end
section
/-! the constructors -/
def zc_cl (p lo hi : Int32) : Int32 := if lo ≤ p then (if p ≤ hi then p else hi) else lo
theorem zc_nI {p : Int32} {lo hi : Nat} (h : lo ≤ hi) (hh : hi < 2 ^ 31) : ∃ m, lo ≤ m ∧ m ≤ hi ∧ zc_cl p (nI lo) (nI hi) = nI m := by
  unfold zc_cl
  by_cases h1 : nI lo ≤ p
  · rw [if_pos h1]
    by_cases h2 : p ≤ nI hi
    · rw [if_pos h2]
      have h0 : ¬ p < 0 := by
        intro h0
        exact nI_pos (n := lo) (by omega) (Int32.lt_of_le_of_lt h1 h0)
      obtain ⟨j, hj, rfl⟩ := nI_of h0
      exact ⟨j, (nI_leI (by omega) hj).mp h1, (nI_leI hj hh).mp h2, rfl⟩
    · rw [if_neg h2]; exact ⟨hi, h, Nat.le_refl _, rfl⟩
  · rw [if_neg h1]; exact ⟨lo, Nat.le_refl _, h, rfl⟩
theorem xa_cl {post : Int32 → Prop} {u : SX} {p lo hi : Int32} (h : post (zc_cl p lo hi)) : wpX_clamp post u p lo hi := by
  unfold zc_cl at h
  unfold wpX_clamp
  refine br_c (fun h1 => ?_) (fun h1 => by rw [if_neg h1] at h; exact h)
  rw [if_pos h1] at h
  exact br_c (fun h2 => by rw [if_pos h2] at h; exact h) (fun h2 => by rw [if_neg h2] at h; exact h)
theorem ya_cl {post : Int32 → Prop} {u : SY} {p lo hi : Int32} (h : post (zc_cl p lo hi)) : wpY_clamp post u p lo hi := by
  unfold zc_cl at h
  unfold wpY_clamp
  refine br_c (fun h1 => ?_) (fun h1 => by rw [if_neg h1] at h; exact h)
  rw [if_pos h1] at h
  exact br_c (fun h2 => by rw [if_pos h2] at h; exact h) (fun h2 => by rw [if_neg h2] at h; exact h)
theorem i_vc0 (k0 : Int32) (k1 : Int32) (k2 : Int32) : wpX_init (fun u => wpY_init (fun v => i_Rel 3 u v) k0 k1 k2) k0 k1 k2 := by
  unfold wpX_init
  refine xa_cl (xa_cl (xa_cl ?_))
  unfold wpX_resetProgress wpY_init
  refine ya_cl (ya_cl (ya_cl ?_))
  obtain ⟨m0, a0, b0, e0⟩ := zc_nI (p := k0) (lo := 2) (hi := 10) (by decide) (by decide)
  obtain ⟨m1, a1, b1, e1⟩ := zc_nI (p := k1) (lo := 8) (hi := 48) (by decide) (by decide)
  obtain ⟨m2, a2, b2, e2⟩ := zc_nI (p := k2) (lo := 4) (hi := 24) (by decide) (by decide)
  have f0 : zc_cl k0 2 10 = nI m0 := e0
  have f1 : zc_cl k1 8 48 = nI m1 := e1
  have f2 : zc_cl k2 4 24 = nI m2 := e2
  rw [f0, f1, f2]
  refine zz_mk ?_
  exact ⟨0, 0, m0, m1, m2, 0, rfl, rfl, rfl, rfl, rfl, rfl, by omega, b0, by omega, b1, by omega, b2, zp_zW, zp_zU, zp_zS, fun _ => Or.inl rfl, fun _ => Or.inl rfl, Or.inl ⟨rfl, rfl⟩⟩
end
section
/-! the trees: liveness, exposure, owner, demanded clock -/
theorem zp_nu {a : Nat → Int32} {k j : Nat} {x : Int32} (h : j ≠ k) : zp_n (upd a k x) j = zp_n a j := congrArg Int32.toNatClampNeg (pk_un h)
theorem zp_nx {a : Nat → Int32} {k : Nat} {x : Int32} : zp_n (upd a k x) k = x.toNatClampNeg := congrArg Int32.toNatClampNeg pk_us
theorem zt_ocg {ck kd fl de de' : Nat → Int32} {m j : Nat} (h : de' m = de m) : zt_oc ck kd fl de' m j = zt_oc ck kd fl de m j := by
  have e : zp_n de' m = zp_n de m := congrArg Int32.toNatClampNeg h
  unfold zt_oc; rw [e]
theorem zt_ocl {V N : Nat} {rl ck qn kd fl de : Nat → Int32} {m j : Nat} (hW : zp_W V N rl ck qn kd fl) (hm : m < N) (hj : j < zp_ar (zp_n kd m)) (hd : zp_n de m ≤ 2 * V) : zt_oc ck kd fl de m j ≤ 2 * V := by
  have hn := hW.2 m hm
  unfold zt_oc
  split
  · rename_i h
    have hc := (hn.2.2.2.2.1 (Or.inr (by omega))).2
    have := (hW.1 _ hc).2.1.2
    omega
  · split
    · rename_i h
      have hc := (hn.2.2.2.2.1 (Or.inr (by omega))).2
      omega
    · split
      · rename_i h
        have hc := (hn.2.2.2.2.1 (Or.inr (by omega))).2
        have hb := (hn.2.2.2.2.2 (Or.inr h)).2
        omega
      · exact hd
theorem zt_cg {V N : Nat} {ck qn kd fl lv ex ow de : Nat → Int32} {S S' : Nat → Nat → Prop} (hS : ∀ m j, j < zp_ar (zp_n kd m) → (S m j ↔ S' m j)) (h : zt_I V N ck qn kd fl lv ex ow de S) : zt_I V N ck qn kd fl lv ex ow de S' := by
  obtain ⟨h1, h2, h3, h4⟩ := h
  refine ⟨h1, h2, fun a m j p s => h3 a m j p ((hS m j p.2.1).mpr s), fun n hn hl => ?_⟩
  rcases h4 n hn hl with h | ⟨m, j, p, s⟩
  · exact Or.inl h
  · exact Or.inr ⟨m, j, p, (hS m j p.2.1).mp s⟩
theorem zt_step {V N : Nat} {rl ck qn kd fl lv ex ow de : Nat → Int32} {S S' : Nat → Nat → Prop} {i j : Nat} (hW : zp_W V N rl ck qn kd fl) (hU : zp_U V N qn kd fl) (hV : V ≤ 10) (hN : N ≤ 48)
    (hi : i < N) (hj : j < zp_ar (zp_n kd i)) (hl : lv i = 1) (hS : ∀ m j', S m j' → i ≤ m ∧ (m = i → j' < j)) (hS' : ∀ m j', S' m j' ↔ S m j' ∨ (m = i ∧ j' = j))
    (h : zt_I V N ck qn kd fl lv ex ow de S) :
    zt_I V N ck qn kd fl (upd lv (zp_op kd fl i j) 1) (upd ex (zp_op kd fl i j) (if zp_n kd i = 5 then 0 else ex i)) (upd ow (zp_op kd fl i j) (ow i)) (upd de (zp_op kd fl i j) (nI (zt_oc ck kd fl de i j))) S' := by
  obtain ⟨h1, h2, h3, h4⟩ := h
  have hp : zp_P N kd fl (zp_op kd fl i j) i j := ⟨hi, hj, rfl⟩
  have ha : zp_op kd fl i j < i := zp_Pa hW hp
  generalize ea : zp_op kd fl i j = a at hp ha
  have hia : i ≠ a := by omega
  have shi := h1 i hi
  rcases shi with shi | ⟨_, s2, s3, s4, s5, s6⟩
  · rw [hl] at shi; exact absurd shi.1 za_10
  refine ⟨?_, ?_, ?_, ?_⟩
  · intro n hn
    by_cases e : n = a
    · subst e
      right
      rw [zp_nx, zp_nx, pk_us, pk_us, pk_us, pk_us, nI_clamp (by have := zt_ocl hW hi hj s6; omega)]
      refine ⟨rfl, ?_, s3, s4, rfl, zt_ocl hW hi hj s6⟩
      split
      · exact Or.inl rfl
      · exact s2
    · have := h1 n hn
      unfold zt_sh at *
      rw [zp_nu e, zp_nu e, pk_un e, pk_un e, pk_un e, pk_un e]
      exact this
  · intro r v o
    have e : r ≠ a := by
      rintro rfl; exact hU.2.2 _ _ _ _ hp o
    rw [pk_un e, pk_un e, pk_un e, pk_un e]
    exact h2 r v o
  · intro a' m j' p s
    rcases (hS' m j').mp s with s | ⟨rfl, rfl⟩
    · have hs := hS m j' s
      have e1 : m ≠ a := by omega
      have e2 : a' ≠ a := by
        rintro rfl
        have := hU.1 _ _ _ _ _ hp p
        have := hs.2 this.1
        omega
      unfold zt_eq
      rw [pk_un e1, pk_un e1, pk_un e1, pk_un e2, pk_un e2, pk_un e2, pk_un e2, zt_ocg (pk_un e1)]
      exact h3 a' m j' p s
    · have e2 : a' = a := by rw [← p.2.2, ← ea]
      subst e2
      unfold zt_eq
      rw [pk_us, pk_us, pk_us, pk_us, pk_un hia, pk_un hia, pk_un hia, zt_ocg (pk_un hia), hl]
      exact ⟨rfl, rfl, rfl, fun _ => rfl⟩
  · intro n hn hl'
    by_cases e : n = a
    · subst e
      exact Or.inr ⟨i, j, hp, (hS' i j).mpr (Or.inr ⟨rfl, rfl⟩)⟩
    · rw [pk_un e] at hl'
      rcases h4 n hn hl' with h | ⟨m, j', p, s⟩
      · exact Or.inl h
      · exact Or.inr ⟨m, j', p, (hS' m j').mpr (Or.inl s)⟩
theorem zt_dead {V N : Nat} {rl ck qn kd fl lv ex ow de : Nat → Int32} {i : Nat} (hW : zp_W V N rl ck qn kd fl) (hU : zp_U V N qn kd fl)
    (hi : i < N) (hl : lv i = 0) (h : zt_I V N ck qn kd fl lv ex ow de (fun m _ => i + 1 ≤ m)) : zt_I V N ck qn kd fl lv ex ow de (fun m _ => i ≤ m) := by
  obtain ⟨h1, h2, h3, h4⟩ := h
  have sh0 : ∀ n, n < N → lv n = 0 → ex n = 0 ∧ ow n = -1 ∧ de n = -1 := by
    intro n hn h0
    rcases h1 n hn with h | h
    · exact h.2
    · rw [h0] at h; exact absurd h.1 za_01
  refine ⟨h1, h2, ?_, ?_⟩
  · intro a m j p s
    by_cases e : m = i
    · subst e
      have ha := zp_Pa hW p
      have hla : lv a = 0 := by
        rcases h1 a (by omega) with h | h
        · exact h.1
        · rcases h4 a (by omega) h.1 with ⟨v, o⟩ | ⟨m', j', p', s'⟩
          · exact absurd o (fun o => hU.2.2 _ _ _ _ p o)
          · have := (hU.1 _ _ _ _ _ p p').1
            omega
      have g1 := sh0 a (by omega) hla
      have g2 := sh0 m hi hl
      refine ⟨by rw [hla, hl], by rw [g1.2.1, g2.2.1], ?_, fun h => ?_⟩
      · rw [g1.1, g2.1]; split <;> rfl
      · rw [hl] at h; exact absurd h za_01
    · exact h3 a m j p (by omega)
  · intro n hn hl'
    rcases h4 n hn hl' with h | ⟨m, j', p, s⟩
    · exact Or.inl h
    · exact Or.inr ⟨m, j', p, by omega⟩
/-- the roots below v have been marked -/
def zt_J (V N : Nat) (ck qn lv ex ow de : Nat → Int32) (v : Nat) : Prop :=
  (∀ n, n < N → zt_sh V lv ex ow de n) ∧ (∀ r w, zp_O V qn r w → w < v → lv r = 1 ∧ ex r = 1 ∧ ow r = nI w ∧ de r = ck w) ∧ (∀ n, n < N → lv n = 1 → ∃ w, zp_O V qn n w)
theorem zt_J0 {V N : Nat} {ck qn lv ex ow de : Nat → Int32} (h : ∀ n, n < N → lv n = 0 ∧ ex n = 0 ∧ ow n = -1 ∧ de n = -1) : zt_J V N ck qn lv ex ow de 0 :=
  ⟨fun n hn => Or.inl (h n hn), fun _ _ _ hw => absurd hw (Nat.not_lt_zero _), fun n hn hl => by rw [(h n hn).1] at hl; exact absurd hl za_01⟩
theorem zt_Js {V N : Nat} {rl ck qn kd fl lv ex ow de : Nat → Int32} {v r : Nat} (hW : zp_W V N rl ck qn kd fl) (hU : zp_U V N qn kd fl) (hV : V ≤ 10) (o : zp_O V qn r v) (h : zt_J V N ck qn lv ex ow de v) :
    zt_J V N ck qn (upd lv r 1) (upd ex r 1) (upd ow r (nI v)) (upd de r (ck v)) (v + 1) := by
  obtain ⟨h1, h2, h3⟩ := h
  have hv := o.1
  have hck := (hW.1 v hv).2.1
  refine ⟨?_, ?_, ?_⟩
  · intro n hn
    by_cases e : n = r
    · subst e
      right
      rw [zp_nx, zp_nx, pk_us, pk_us, pk_us, pk_us, nI_clamp (by omega)]
      refine ⟨rfl, Or.inr rfl, rfl, hv, hck.1, ?_⟩
      have := hck.2
      unfold zp_n at this
      omega
    · have := h1 n hn
      unfold zt_sh at *
      rw [zp_nu e, zp_nu e, pk_un e, pk_un e, pk_un e, pk_un e]
      exact this
  · intro r' w o' hw
    by_cases e : r' = r
    · subst e
      have : w = v := hU.2.1 _ _ _ o o'
      subst this
      rw [pk_us, pk_us, pk_us, pk_us]
      exact ⟨rfl, rfl, rfl, rfl⟩
    · have hw' : w ≠ v := by
        rintro rfl
        have h1 := o'.2.2
        rw [o.2.2] at h1
        exact e (za_inj h1 (by have := o.2.1; omega) (by have := o'.2.1; omega)).symm
      rw [pk_un e, pk_un e, pk_un e, pk_un e]
      exact h2 r' w o' (by omega)
  · intro n hn hl
    by_cases e : n = r
    · subst e; exact ⟨v, o⟩
    · rw [pk_un e] at hl; exact h3 n hn hl
theorem zt_Jn {V N : Nat} {ck qn lv ex ow de : Nat → Int32} {v : Nat} (hq : qn v < 0) (h : zt_J V N ck qn lv ex ow de v) : zt_J V N ck qn lv ex ow de (v + 1) := by
  obtain ⟨h1, h2, h3⟩ := h
  refine ⟨h1, fun r w o hw => ?_, h3⟩
  by_cases e : w = v
  · subst e
    have := o.2.2
    rw [this] at hq
    exact absurd hq (nI_pos (by have := o.2.1; omega))
  · exact h2 r w o (by omega)
theorem zt_JI {V N : Nat} {rl ck qn kd fl lv ex ow de : Nat → Int32} (hW : zp_W V N rl ck qn kd fl) (h : zt_J V N ck qn lv ex ow de V) : zt_I V N ck qn kd fl lv ex ow de (fun m _ => N ≤ m) :=
  ⟨h.1, fun r v o => h.2.1 r v o o.1, fun a m j p s => absurd p.1 (by omega), fun n hn hl => Or.inl (h.2.2 n hn hl)⟩
/-- a counter that runs down to -1 -/
def zx_ : Nat → Int32
  | 0 => -1
  | i + 1 => nI i
theorem zx_d (N : Nat) : nI N - 1 = zx_ N := by
  cases N with
  | zero => decide
  | succ n => exact nI_pred n
theorem zx_s (i : Nat) : nI i + (-1) = zx_ i := by
  cases i with
  | zero => decide
  | succ n => exact pk_m1 n
section
variable {eS oS aS MV MN MI ph ve fa no vc nc oc sc bc lc pr : Int32} {rl ck qn pd kd fl us lv ex ow de nl vl di re od sA sT bC bS bE sl mV mN se nV nN pS pV : Nat → Int32}
theorem xt_oc {post : Int32 → Prop} {V N i j : Nat} (hW : zp_W V N rl ck qn kd fl) (hV : V ≤ 10) (hN : N ≤ 48) (hi : i < N) (hj : j < zp_ar (zp_n kd i)) (hd : de i = nI (zp_n de i)) (h : post (nI (zt_oc ck kd fl de i j))) : wpX_operandClock post (eS, oS, aS, MV, MN, MI, ph, ve, fa, no, vc, nc, oc, sc, bc, lc, pr, rl, ck, qn, pd, kd, fl, us, lv, ex, ow, de, nl, vl, di, re, od, sA, sT, bC, bS, bE, sl, mV, mN, se, nV, nN, pS, pV) (nI i) (nI j) := by
  obtain ⟨n1, n2, n3, n4, n5, n6⟩ := hW.2 i hi
  have c0 : (nI i).toNatClampNeg = i := nI_clamp (by omega)
  have c1 : (nI (4 * i)).toNatClampNeg = 4 * i := nI_clamp (by omega)
  have c2 : (nI (4 * i + 1)).toNatClampNeg = 4 * i + 1 := nI_clamp (by omega)
  have i0 : vp_in (nI i) 48 := vp_in_nI (by omega) (by decide)
  unfold wpX_operandClock
  dsimp only
  rw [za_m4, nI_1 (4 * i), c0, c1, c2]
  refine ⟨vp_in_nI (by omega) (by decide), nm_e ⟨i0, nm_r n1 ?_⟩⟩
  have hb : zp_n kd i < 2 ^ 31 := by omega
  unfold zt_oc at h
  by_cases h16 : zp_n kd i = 16
  · rw [if_pos h16] at h
    obtain ⟨f1, f2⟩ := n5 (Or.inr (by omega))
    refine br_f (fun e => by have := (zl_16 hb).mp e; omega) (br_f (fun e => by have := (zg_18 hb).mp e; omega) (br_t ((zq_16 hb).mpr h16) ?_))
    rw [f1, nI_clamp (by omega)]
    refine ⟨vp_in_nI (by omega) (by decide), ?_⟩
    rw [(hW.1 _ f2).2.1.1]
    exact h
  rw [if_neg h16] at h
  by_cases h17 : zp_n kd i = 17
  · rw [if_pos h17] at h
    obtain ⟨f1, f2⟩ := n5 (Or.inr (by omega))
    refine br_f (fun e => by have := (zl_16 hb).mp e; omega) (br_f (fun e => by have := (zg_18 hb).mp e; omega) (br_f (fun e => h16 ((zq_16 hb).mp e)) (br_t ((zq_17 hb).mpr h17) ?_)))
    have hj1 : j ≤ 1 := by
      have : zp_ar 17 = 2 := by decide
      rw [h17, this] at hj; omega
    rw [f1, za_2m, za_1a, za_1s hj1, nI_add]
    exact h
  rw [if_neg h17] at h
  by_cases h18 : zp_n kd i = 18
  · rw [if_pos h18] at h
    obtain ⟨f1, f2⟩ := n5 (Or.inr (by omega))
    obtain ⟨f3, f4⟩ := n6 (Or.inr h18)
    refine br_f (fun e => by have := (zl_16 hb).mp e; omega) (br_f (fun e => by have := (zg_18 hb).mp e; omega) (br_f (fun e => h16 ((zq_16 hb).mp e)) (br_f (fun e => h17 ((zq_17 hb).mp e)) (br_t ((zq_18 hb).mpr h18) ⟨vp_in_nI (by omega) (by decide), ?_⟩))))
    rw [f1, f3, za_2m, za_1a, nI_add]
    exact h
  rw [if_neg h18] at h
  refine br_t ((zl_16 hb).mpr (by omega)) ⟨i0, ?_⟩
  rw [hd]
  exact h
theorem xt_77 {post : SX → Prop} {J : Int32 → (Nat → Int32) → (Nat → Int32) → (Nat → Int32) → (Nat → Int32) → (Nat → Int32) → (Nat → Int32) → (Nat → Int32) → (Nat → Int32) → (Nat → Int32) → (Nat → Int32) → (Nat → Int32) → (Nat → Int32) → (Nat → Int32) → (Nat → Int32) → (Nat → Int32) → (Nat → Int32) → (Nat → Int32) → (Nat → Int32) → (Nat → Int32) → (Nat → Int32) → (Nat → Int32) → (Nat → Int32) → (Nat → Int32) → (Nat → Int32) → (Nat → Int32) → (Nat → Int32) → (Nat → Int32) → (Nat → Int32) → (Nat → Int32) → Prop} {V N i j a : Nat} {x2 z : Int32} (hW : zp_W V N rl ck qn kd fl) (hV : V ≤ 10) (hN : N ≤ 48) (hi : i < N) (hj : j < zp_ar (zp_n kd i)) (hd : de i = nI (zp_n de i)) (ha : a < N) (hz : z = 0 ∨ z = 1)
    (h : J (nI (j + 1)) rl ck qn pd kd fl us lv (upd ex a z) ow (upd de a (nI (zt_oc ck kd fl de i j))) nl vl di re od sA sT bC bS bE sl mV mN se nV nN pS pV) : wX_analyseOperands_77 post J (nI i) x2 (nI j) (nI a) z (nI a) eS oS aS MV MN MI ph ve fa no vc nc oc sc bc lc pr rl ck qn pd kd fl us lv ex ow de nl vl di re od sA sT bC bS bE sl mV mN se nV nN pS pV := by
  have c0 : (nI a).toNatClampNeg = a := nI_clamp (by omega)
  have i0 : vp_in (nI a) 48 := vp_in_nI (by omega) (by decide)
  unfold wX_analyseOperands_77
  rw [c0, za_bv hz]
  exact ⟨i0, nm_e (xt_oc hW hV hN hi hj hd ⟨i0, nm_e (nm_r (nI_1 j) h)⟩)⟩
theorem xt_ops {post : SX → Prop} {V N i : Nat} (hW : zp_W V N rl ck qn kd fl) (hU : zp_U V N qn kd fl) (hV : V ≤ 10) (hN : N ≤ 48) (hi : i < N) (hl : lv i = 1)
    (hI : zt_I V N ck qn kd fl lv ex ow de (fun m _ => i + 1 ≤ m))
    (h : ∀ lv ex ow de : Nat → Int32, zt_I V N ck qn kd fl lv ex ow de (fun m _ => i ≤ m) → post (eS, oS, aS, MV, MN, MI, ph, ve, fa, no, nI V, nI N, oc, sc, bc, lc, pr, rl, ck, qn, pd, kd, fl, us, lv, ex, ow, de, nl, vl, di, re, od, sA, sT, bC, bS, bE, sl, mV, mN, se, nV, nN, pS, pV)) : wpX_analyseOperands post (eS, oS, aS, MV, MN, MI, ph, ve, fa, no, nI V, nI N, oc, sc, bc, lc, pr, rl, ck, qn, pd, kd, fl, us, lv, ex, ow, de, nl, vl, di, re, od, sA, sT, bC, bS, bE, sl, mV, mN, se, nV, nN, pS, pV) (nI i) := by
  obtain ⟨n1, n2, n3, n4, n5, n6⟩ := hW.2 i hi
  have c0 : (nI i).toNatClampNeg = i := nI_clamp (by omega)
  have i0 : vp_in (nI i) 48 := vp_in_nI (by omega) (by decide)
  have A3 := zp_ar3 (zp_n kd i)
  unfold wpX_analyseOperands
  dsimp only
  rw [c0, n1]
  refine ⟨i0, xa_cnt n2 n3 ?_⟩
  refine pk_loop (fun n j (s : (Nat → Int32) × (Nat → Int32) × (Nat → Int32) × (Nat → Int32)) => wX_analyseOperands_13 post (nI i) (nI (zp_ar (zp_n kd i))) eS oS aS MV MN MI ph ve fa no (nI V) (nI N) oc sc bc lc pr n (nI j) rl ck qn pd kd fl us s.1 s.2.1 s.2.2.1 s.2.2.2 nl vl di re od sA sT bC bS bE sl mV mN se nV nN pS pV)
    (fun j s => s.1 i = 1 ∧ zt_I V N ck qn kd fl s.1 s.2.1 s.2.2.1 s.2.2.2 (fun m j' => i + 1 ≤ m ∨ (m = i ∧ j' < j))) (zp_ar (zp_n kd i)) 0 (lv, ex, ow, de) (Nat.zero_le _) ⟨hl, zt_cg (fun m j _ => by omega) hI⟩ ?_ ?_
  · rintro n ⟨lv, ex, ow, de⟩ ⟨_, hI⟩
    refine br_t (nI_le (Nat.le_refl _) (by omega)) (h lv ex ow de (zt_cg (fun m j hj => ?_) hI))
    constructor
    · rintro (h | ⟨rfl, _⟩) <;> omega
    · intro h
      by_cases e : m = i
      · subst e; exact Or.inr ⟨rfl, hj⟩
      · exact Or.inl (by omega)
  · rintro n j ⟨lv, ex, ow, de⟩ hj ⟨hl, hI⟩ ih
    dsimp only at hl hI ih ⊢
    obtain ⟨o1, o2⟩ := n4 j hj
    refine br_f (nI_ge hj (by omega)) (xa_op (by omega) n1 n3 (zp_fa hj) ?_)
    rw [o1]
    have ha : zp_op kd fl i j < i := o2
    have ca : (nI (zp_op kd fl i j)).toNatClampNeg = zp_op kd fl i j := nI_clamp (by omega)
    have ia : vp_in (nI (zp_op kd fl i j)) 48 := vp_in_nI (by omega) (by decide)
    have st := zt_step (S' := fun m j' => i + 1 ≤ m ∨ (m = i ∧ j' < j + 1)) hW hU hV hN hi hj hl (fun m j' s => by omega) (fun m j' => by omega) hI
    have hd : de i = nI (zp_n de i) := by
      rcases hI.1 i hi with g | g
      · rw [hl] at g; exact absurd g.1 za_10
      · exact g.2.2.2.2.1
    have hex : ex i = 0 ∨ ex i = 1 := by
      rcases hI.1 i hi with g | g
      · exact Or.inl g.2.1
      · exact g.2.1
    have hl' : upd lv (zp_op kd fl i j) 1 i = 1 := by rw [pk_un (by omega)]; exact hl
    have nx := ih (_, _, _, _) ⟨hl', st⟩
    dsimp only at nx
    rw [ca, c0, za_b1]
    refine ⟨ia, nm_e ⟨i0, ia, nm_e ⟨i0, ?_⟩⟩⟩
    rcases hex with hex | hex
    · refine br_t hex ?_
      have e : (if zp_n kd i = 5 then (0 : Int32) else ex i) = 0 := by rw [hex]; split <;> rfl
      rw [e] at nx
      exact xt_77 hW hV hN hi hj hd (by omega) (Or.inl rfl) nx
    · refine br_f (by rw [hex]; exact za_10) ⟨i0, ?_⟩
      have hb : zp_n kd i < 2 ^ 31 := by omega
      rw [n1]
      by_cases h5 : zp_n kd i = 5
      · refine br_t ((zq_5 hb).mpr h5) ?_
        rw [if_pos h5] at nx
        exact xt_77 hW hV hN hi hj hd (by omega) (Or.inl rfl) nx
      · refine br_f (fun e => h5 ((zq_5 hb).mp e)) ?_
        rw [if_neg h5, hex] at nx
        exact xt_77 hW hV hN hi hj hd (by omega) (Or.inr rfl) nx
theorem xt_111 {post : SX → Prop} {V N : Nat} (hW : zp_W V N rl ck qn kd fl) (hU : zp_U V N qn kd fl) (hV : V ≤ 10) (hN : N ≤ 48)
    (hI : zt_I V N ck qn kd fl lv ex ow de (fun m _ => N ≤ m))
    (h : ∀ lv ex ow de : Nat → Int32, zt_L V N ck qn kd fl lv ex ow de → post (eS, oS, aS, MV, MN, MI, ph, ve, fa, no, nI V, nI N, oc, sc, bc, lc, pr, rl, ck, qn, pd, kd, fl, us, lv, ex, ow, de, nl, vl, di, re, od, sA, sT, bC, bS, bE, sl, mV, mN, se, nV, nN, pS, pV)) : wX_analyseTrees_111 post (N + 1) (zx_ N) eS oS aS MV MN MI ph ve fa no (nI V) (nI N) oc sc bc lc pr rl ck qn pd kd fl us lv ex ow de nl vl di re od sA sT bC bS bE sl mV mN se nV nN pS pV := by
  refine pk_loopD (fun n i (s : (Nat → Int32) × (Nat → Int32) × (Nat → Int32) × (Nat → Int32)) => wX_analyseTrees_111 post n (zx_ i) eS oS aS MV MN MI ph ve fa no (nI V) (nI N) oc sc bc lc pr rl ck qn pd kd fl us s.1 s.2.1 s.2.2.1 s.2.2.2 nl vl di re od sA sT bC bS bE sl mV mN se nV nN pS pV)
    (fun i s => i ≤ N ∧ zt_I V N ck qn kd fl s.1 s.2.1 s.2.2.1 s.2.2.2 (fun m _ => i ≤ m)) ?_ ?_ N (lv, ex, ow, de) ⟨Nat.le_refl _, hI⟩
  · rintro n ⟨lv, ex, ow, de⟩ ⟨_, hI⟩
    exact br_t za_m0 (h lv ex ow de (zt_cg (fun m j _ => ⟨fun _ => trivial, fun _ => Nat.zero_le _⟩) hI))
  · rintro n i ⟨lv, ex, ow, de⟩ ⟨hi, hI⟩ ih
    dsimp only at hI ih ⊢
    have c0 : (nI i).toNatClampNeg = i := nI_clamp (by omega)
    have i0 : vp_in (nI i) 48 := vp_in_nI (by omega) (by decide)
    refine br_f (nI_pos (by omega)) ⟨i0, ?_⟩
    show (lv (nI i).toNatClampNeg = 0 → _) ∧ (¬ lv (nI i).toNatClampNeg = 0 → _)
    rw [c0]
    rcases hI.1 i (by omega) with g | g
    · exact br_t g.1 (nm_r (zx_s i) (ih (lv, ex, ow, de) ⟨by omega, zt_dead hW hU (by omega) g.1 hI⟩))
    · refine br_f (by rw [g.1]; exact za_10) (xt_ops hW hU hV hN (by omega) g.1 hI ?_)
      intro lv ex ow de hI'
      exact nm_r (zx_s i) (ih (lv, ex, ow, de) ⟨by omega, hI'⟩)
theorem xt_trees {post : SX → Prop} {V N : Nat} (hW : zp_W V N rl ck qn kd fl) (hU : zp_U V N qn kd fl) (hV : V ≤ 10) (hN : N ≤ 48)
    (h : ∀ lv ex ow de : Nat → Int32, zt_L V N ck qn kd fl lv ex ow de → post (eS, oS, aS, MV, MN, MI, ph, ve, fa, no, nI V, nI N, oc, sc, bc, lc, pr, rl, ck, qn, pd, kd, fl, us, lv, ex, ow, de, nl, vl, di, re, od, sA, sT, bC, bS, bE, sl, mV, mN, se, nV, nN, pS, pV)) : wpX_analyseTrees post (eS, oS, aS, MV, MN, MI, ph, ve, fa, no, nI V, nI N, oc, sc, bc, lc, pr, rl, ck, qn, pd, kd, fl, us, lv, ex, ow, de, nl, vl, di, re, od, sA, sT, bC, bS, bE, sl, mV, mN, se, nV, nN, pS, pV) := by
  unfold wpX_analyseTrees
  refine pk_loop (fun n i (s : (Nat → Int32) × (Nat → Int32) × (Nat → Int32) × (Nat → Int32)) => wX_analyseTrees_2 post eS oS aS MV MN MI ph ve fa no (nI V) (nI N) oc sc bc lc pr n (nI i) rl ck qn pd kd fl us s.1 s.2.1 s.2.2.1 s.2.2.2 nl vl di re od sA sT bC bS bE sl mV mN se nV nN pS pV)
    (fun i s => ∀ n, n < i → s.1 n = 0 ∧ s.2.1 n = 0 ∧ s.2.2.1 n = -1 ∧ s.2.2.2 n = -1) N 0 (lv, ex, ow, de) (Nat.zero_le _) (fun n hn => absurd hn (Nat.not_lt_zero n)) ?_ ?_
  · rintro n ⟨lv, ex, ow, de⟩ hI
    dsimp only at hI
    refine br_t (nI_le (Nat.le_refl _) (by omega)) ?_
    refine pk_loop (fun n i (s : (Nat → Int32) × (Nat → Int32) × (Nat → Int32) × (Nat → Int32)) => wX_analyseTrees_46 post eS oS aS MV MN MI ph ve fa no (nI V) (nI N) oc sc bc lc pr n (nI i) rl ck qn pd kd fl us s.1 s.2.1 s.2.2.1 s.2.2.2 nl vl di re od sA sT bC bS bE sl mV mN se nV nN pS pV)
      (fun i s => zt_J V N ck qn s.1 s.2.1 s.2.2.1 s.2.2.2 i) V 0 (lv, ex, ow, de) (Nat.zero_le _) (zt_J0 hI) ?_ ?_
    · rintro n ⟨lv, ex, ow, de⟩ hJ
      exact br_t (nI_le (Nat.le_refl _) (by omega)) (nm_r (zx_d N) ⟨N + 1, xt_111 hW hU hV hN (zt_JI hW hJ) h⟩)
    · rintro n v ⟨lv, ex, ow, de⟩ hv hJ ih
      dsimp only at hJ ih ⊢
      have cv : (nI v).toNatClampNeg = v := nI_clamp (by omega)
      have iv : vp_in (nI v) 10 := vp_in_nI (by omega) (by decide)
      refine br_f (nI_ge hv (by omega)) ⟨iv, nm_r (e' := qn v) (by rw [cv]) ?_⟩
      rcases (hW.1 v hv).2.2 with e | ⟨_, e, e'⟩
      · have hq : qn v < 0 := by rw [e]; exact za_m0
        exact br_t hq (nm_r (nI_1 v) (ih (lv, ex, ow, de) (zt_Jn hq hJ)))
      · have o : zp_O V qn (zp_n qn v) v := ⟨hv, by omega, e⟩
        rw [e]
        have cr : (nI (zp_n qn v)).toNatClampNeg = zp_n qn v := nI_clamp (by omega)
        have ir : vp_in (nI (zp_n qn v)) 48 := vp_in_nI (by omega) (by decide)
        rw [cr, cv, za_b1]
        exact br_f (nI_pos (by omega)) ⟨ir, nm_e ⟨ir, nm_e ⟨ir, nm_e ⟨iv, ir, nm_e (nm_r (nI_1 v) (ih (_, _, _, _) (zt_Js hW hU hV o hJ)))⟩⟩⟩⟩
  · rintro n i ⟨lv, ex, ow, de⟩ hi hI ih
    dsimp only at hI ih ⊢
    have c0 : (nI i).toNatClampNeg = i := nI_clamp (by omega)
    have i0 : vp_in (nI i) 48 := vp_in_nI (by omega) (by decide)
    refine br_f (nI_ge hi (by omega)) ?_
    rw [c0, za_b0]
    refine ⟨i0, nm_e ⟨i0, nm_e ⟨i0, nm_e ⟨i0, nm_e (nm_r (nI_1 i) (ih (upd lv i 0, upd ex i 0, upd ow i (-1), upd de i (-1)) ?_))⟩⟩⟩⟩
    intro n hn
    dsimp only
    by_cases e : n = i
    · subst e; rw [pk_us, pk_us, pk_us, pk_us]; exact ⟨rfl, rfl, rfl, rfl⟩
    · rw [pk_un e, pk_un e, pk_un e, pk_un e]; exact hI n (by omega)
end
end
section
/-! the reference's place: it climbs to the top of the tree -/
section
variable {MV MN MI vc nc no ph ve fa : Int32} {rl ck qn pd yl ys yr kd fl yd ye yn vs vv ns nv : Nat → Int32}
theorem yt_imp {post : Int32 → Prop} {V N a m j : Nat} (de : Nat → Int32) (hW : zp_W V N rl ck qn kd fl) (hU : zp_U V N qn kd fl) (hV : V ≤ 10) (hN : N ≤ 48) (p : zp_P N kd fl a m j)
    (h : post (if 16 ≤ zp_n kd m then nI (zt_oc ck kd fl de m j) else -1)) : wpY_imposed post (MV, MN, MI, vc, nc, no, ph, ve, fa, rl, ck, qn, pd, yl, ys, yr, kd, fl, yd, ye, yn, vs, vv, ns, nv) (nI m) (nI a) := by
  have hm := p.1
  have hj := p.2.1
  obtain ⟨n1, n2, n3, n4, n5, n6⟩ := hW.2 m hm
  have c0 : (nI m).toNatClampNeg = m := nI_clamp (by omega)
  have c1 : (nI (4 * m)).toNatClampNeg = 4 * m := nI_clamp (by omega)
  have c2 : (nI (4 * m + 1)).toNatClampNeg = 4 * m + 1 := nI_clamp (by omega)
  have i0 : vp_in (nI m) 48 := vp_in_nI (by omega) (by decide)
  have i2 : vp_in (nI (4 * m + 1)) 192 := vp_in_nI (by omega) (by decide)
  have hb : zp_n kd m < 2 ^ 31 := by omega
  unfold wpY_imposed wpY_on
  dsimp only
  rw [za_4m, nI_1 (4 * m), c0, c1, c2, n1]
  refine ⟨vp_in_nI (by omega) (by decide), nm_e ⟨i0, ?_⟩⟩
  by_cases h16 : 16 ≤ zp_n kd m
  · rw [if_pos h16] at h
    obtain ⟨f1, f2⟩ := n5 (Or.inr h16)
    unfold zt_oc at h
    by_cases e16 : zp_n kd m = 16
    · rw [if_pos e16] at h
      refine br_t ((zq_16 hb).mpr e16) ?_
      rw [f1, nI_clamp (by omega)]
      refine ⟨vp_in_nI (by omega) (by decide), ?_⟩
      rw [(hW.1 _ f2).2.1.1]
      exact h
    rw [if_neg e16] at h
    refine br_f (fun e => e16 ((zq_16 hb).mp e)) ⟨i0, ?_⟩
    by_cases e17 : zp_n kd m = 17
    · rw [if_pos e17] at h
      refine br_t ((zq_17 hb).mpr e17) ⟨i2, ?_⟩
      have ar2 : zp_ar 17 = 2 := by decide
      have fo1 : zp_fo 17 = 1 := by decide
      have hj2 := hj
      rw [e17, ar2] at hj2
      have o0 := n4 0 (by rw [e17, ar2]; decide)
      rw [e17, fo1] at o0
      have o1 : fl (4 * m + 1) = nI (zp_op kd fl m 0) := o0.1
      rw [o1, f1, za_2m, za_1a]
      by_cases e : j = 0
      · subst e
        refine br_t (by rw [p.2.2]) ?_
        rw [nI_1]
        exact h
      · have j1 : j = 1 := by omega
        subst j1
        refine br_f ?_ ?_
        · intro e'
          have hlt := o0.2
          have ha := zp_Pa hW p
          have := za_inj e' (by omega) (by omega)
          have := (hU.1 a m 1 m 0 p ⟨hm, by rw [e17, ar2]; decide, this⟩).2
          omega
        · rw [za_00]
          exact h
    rw [if_neg e17] at h
    refine br_f (fun e => e17 ((zq_17 hb).mp e)) ⟨i0, ?_⟩
    have e18 : zp_n kd m = 18 := by omega
    rw [if_pos e18] at h
    obtain ⟨f3, f4⟩ := n6 (Or.inr e18)
    refine br_t ((zq_18 hb).mpr e18) ⟨i2, ?_⟩
    rw [f1, f3, za_2m, za_1a, nI_add]
    exact h
  · rw [if_neg h16] at h
    exact br_f (fun e => by have := (zq_16 hb).mp e; omega) ⟨i0, br_f (fun e => by have := (zq_17 hb).mp e; omega) ⟨i0, br_f (fun e => by have := (zq_18 hb).mp e; omega) h⟩⟩
/-- what the climb has gathered at cur, as the ghost arrays see it -/
def yt_inv (V N : Nat) (ck qn kd fl : Nat → Int32) (n cur : Nat) (d e : Int32) : Prop :=
  (d = -1 ∨ ∃ x, x < 2 ^ 31 ∧ d = nI x) ∧ (e = 0 ∨ e = 1) ∧ ∀ lv ex ow de : Nat → Int32, zt_L V N ck qn kd fl lv ex ow de →
    lv cur = lv n ∧ ow cur = ow n ∧ (lv n = 1 → (d = -1 → de n = de cur) ∧ (¬ d = -1 → de n = d)) ∧ (ex n = 1 ↔ (e = 1 ∧ ex cur = 1))
theorem yt_105 {post : SY → Prop} {n : Nat} {d e r : Int32} (hn : n < 48) (he : e = 0 ∨ e = 1) (h : post (MV, MN, MI, vc, nc, no, ph, ve, fa, rl, ck, qn, pd, yl, ys, yr, kd, fl, upd yd n d, upd ye n (if e = 1 then r else -1), yn, vs, vv, ns, nv)) : wY_place_105 post (nI n) e r d (nI n) MV MN MI vc nc no ph ve fa rl ck qn pd yl ys yr kd fl yd ye yn vs vv ns nv := by
  have c0 : (nI n).toNatClampNeg = n := nI_clamp (by omega)
  have i0 : vp_in (nI n) 48 := vp_in_nI hn (by decide)
  unfold wY_place_105
  rw [c0]
  refine ⟨i0, nm_e ?_⟩
  rcases he with rfl | rfl
  · rw [if_neg za_01] at h; exact br_t rfl ⟨i0, nm_e h⟩
  · rw [if_pos rfl] at h; exact br_f za_10 ⟨i0, nm_e h⟩
theorem yt_69 {post : SY → Prop} {V N n cur : Nat} {d e : Int32} (hW : zp_W V N rl ck qn kd fl) (hV : V ≤ 10) (hN : N ≤ 48) (hn : n < N) (hc : cur < N) (hI : yt_inv V N ck qn kd fl n cur d e) (hP : ∀ m j, ¬ zp_P N kd fl cur m j)
    (h : ∀ d e : Int32, (∀ lv ex ow de : Nat → Int32, zt_L V N ck qn kd fl lv ex ow de → d = de n ∧ e = zd_E ex ow n) → post (MV, MN, MI, nI V, nI N, no, ph, ve, fa, rl, ck, qn, pd, yl, ys, yr, kd, fl, upd yd n d, upd ye n e, yn, vs, vv, ns, nv)) :
    wY_place_69 post (nI n) (nI cur) d e MV MN MI (nI V) (nI N) no ph ve fa rl ck qn pd yl ys yr kd fl yd ye yn vs vv ns nv := by
  obtain ⟨hd, he, hG⟩ := hI
  have sh : ∀ lv ex ow de : Nat → Int32, zt_L V N ck qn kd fl lv ex ow de → ∀ x, x < N → zt_sh V lv ex ow de x := fun lv ex ow de L => L.1
  unfold wY_place_69
  refine ya_own hV (by omega) ?_ ?_
  · intro v o
    have hv := o.1
    have cv : (nI v).toNatClampNeg = v := nI_clamp (by omega)
    refine br_t (nI_pos' (by omega)) ?_
    have key : ∀ d', (d = -1 → d' = ck v) → (¬ d = -1 → d' = d) → ∀ lv ex ow de : Nat → Int32, zt_L V N ck qn kd fl lv ex ow de → d' = de n ∧ (if e = 1 then nI v else -1) = zd_E ex ow n := by
      intro d' h1 h2 lv ex ow de L
      obtain ⟨g1, g2, g3, g4⟩ := hG lv ex ow de L
      obtain ⟨r1, r2, r3, r4⟩ := L.2.1 cur v o
      have gl : lv n = 1 := by rw [← g1]; exact r1
      refine ⟨?_, ?_⟩
      · by_cases hd1 : d = -1
        · rw [h1 hd1, (g3 gl).1 hd1, r4]
        · rw [h2 hd1, (g3 gl).2 hd1]
      · unfold zd_E
        by_cases he1 : e = 1
        · rw [if_pos he1, if_pos (g4.mpr ⟨he1, r2⟩), ← g2, r3]
        · rw [if_neg he1, if_neg (fun h => he1 (g4.mp h).1)]
    rcases hd with rfl | ⟨x, hx, rfl⟩
    · refine br_f za_m1 ⟨vp_in_nI (by omega) (by decide), ?_⟩
      rw [cv]
      exact yt_105 (by omega) he (h _ _ (key _ (fun _ => rfl) (fun h => absurd rfl h)))
    · exact br_t (nI_pos' hx) (yt_105 (by omega) he (h _ _ (key _ (fun h => absurd h (za_n1 hx)) (fun _ => rfl))))
  · intro hO
    refine br_f za_m1 (yt_105 (by omega) he (h _ _ ?_))
    intro lv ex ow de L
    obtain ⟨g1, g2, g3, g4⟩ := hG lv ex ow de L
    have hl : ¬ lv cur = 1 := by
      intro hl
      rcases L.2.2.2 cur hc hl with ⟨v, o⟩ | ⟨m, j, p, _⟩
      · exact hO v o
      · exact hP m j p
    rw [g1] at hl
    rcases L.1 n hn with ⟨s1, s2, s3, s4⟩ | s
    · refine ⟨s4.symm, ?_⟩
      unfold zd_E
      rw [s2, if_neg za_01]
      split <;> rfl
    · exact absurd s.1 hl
theorem yt_10 {post : SY → Prop} {V N n : Nat} (hW : zp_W V N rl ck qn kd fl) (hU : zp_U V N qn kd fl) (hV : V ≤ 10) (hN : N ≤ 48) (hn : n < N)
    (h : ∀ d e : Int32, (∀ lv ex ow de : Nat → Int32, zt_L V N ck qn kd fl lv ex ow de → d = de n ∧ e = zd_E ex ow n) → post (MV, MN, MI, nI V, nI N, no, ph, ve, fa, rl, ck, qn, pd, yl, ys, yr, kd, fl, upd yd n d, upd ye n e, yn, vs, vv, ns, nv)) :
    ∀ (f cur s : Nat) (d e : Int32), N - cur < f → cur < N → s ≤ cur → yt_inv V N ck qn kd fl n cur d e → wY_place_10 post (nI n) MV MN MI (nI V) (nI N) no ph ve fa rl ck qn pd yl ys yr kd fl yd ye yn vs vv ns nv f (nI cur) d e (nI s) := by
  intro f
  induction f with
  | zero => intro cur s d e hf; omega
  | succ f ih =>
    intro cur s d e hf hc hs hI
    refine br_f (nI_ge (by omega) (by omega)) (ya_par (V := V) hN hW.2 (by omega) ?_ ?_)
    · intro m j p
      have hm := p.1
      have ham := zp_Pa hW p
      have cm : (nI m).toNatClampNeg = m := nI_clamp (by omega)
      obtain ⟨hd, he, hG⟩ := hI
      refine br_t (nI_pos' (by omega)) ?_
      have K : ∀ d', (d' = -1 ∨ ∃ x, x < 2 ^ 31 ∧ d' = nI x) → (∀ lv ex ow de : Nat → Int32, zt_L V N ck qn kd fl lv ex ow de → lv n = 1 → (d' = -1 → de n = de m) ∧ (¬ d' = -1 → de n = d')) →
          wY_place_46 post (wY_place_10 post (nI n) MV MN MI (nI V) (nI N) no ph ve fa rl ck qn pd yl ys yr kd fl yd ye yn vs vv ns nv f) (nI n) d' e (nI s) (nI m) MV MN MI (nI V) (nI N) no ph ve fa rl ck qn pd yl ys yr kd fl yd ye yn vs vv ns nv := by
        intro d' hd' hg'
        unfold wY_place_46
        rw [cm, (hW.2 m hm).1]
        have hb : zp_n kd m < 2 ^ 31 := by have := (hW.2 m hm).2.2.1; omega
        have base : ∀ lv ex ow de : Nat → Int32, zt_L V N ck qn kd fl lv ex ow de → lv m = lv n ∧ ow m = ow n ∧ (lv n = 1 → (d' = -1 → de n = de m) ∧ (¬ d' = -1 → de n = d')) := by
          intro lv ex ow de L
          obtain ⟨g1, g2, g3, g4⟩ := hG lv ex ow de L
          obtain ⟨q1, q2, q3, q4⟩ := L.2.2.1 cur m j p trivial
          exact ⟨by rw [← q1, g1], by rw [← q2, g2], hg' lv ex ow de L⟩
        refine ⟨vp_in_nI (by omega) (by decide), ?_⟩
        by_cases h5 : zp_n kd m = 5
        · refine br_t ((zq_5 hb).mpr h5) (nm_r (nI_1 s) (ih m (s + 1) d' 0 (by omega) hm (by omega) ⟨hd', Or.inl rfl, ?_⟩))
          intro lv ex ow de L
          obtain ⟨g1, g2, g3, g4⟩ := hG lv ex ow de L
          obtain ⟨q1, q2, q3, q4⟩ := L.2.2.1 cur m j p trivial
          obtain ⟨b1, b2, b3⟩ := base lv ex ow de L
          refine ⟨b1, b2, b3, ?_⟩
          rw [g4, q3, if_pos h5]
          exact ⟨fun h => absurd h.2 za_01, fun h => absurd h.1 za_01⟩
        · refine br_f (fun e' => h5 ((zq_5 hb).mp e')) (nm_r (nI_1 s) (ih m (s + 1) d' e (by omega) hm (by omega) ⟨hd', he, ?_⟩))
          intro lv ex ow de L
          obtain ⟨g1, g2, g3, g4⟩ := hG lv ex ow de L
          obtain ⟨q1, q2, q3, q4⟩ := L.2.2.1 cur m j p trivial
          obtain ⟨b1, b2, b3⟩ := base lv ex ow de L
          refine ⟨b1, b2, b3, ?_⟩
          rw [g4, q3, if_neg h5]
      rcases hd with rfl | ⟨x, hx, rfl⟩
      · refine br_f za_m1 (yt_imp (fun _ => 0) hW hU hV hN p ?_)
        by_cases h16 : 16 ≤ zp_n kd m
        · have ocl : zt_oc ck kd fl (fun _ => 0) m j ≤ 2 * V := zt_ocl hW hm p.2.1 (Nat.zero_le _)
          have oce : ∀ de : Nat → Int32, zt_oc ck kd fl de m j = zt_oc ck kd fl (fun _ => 0) m j := by
            intro de
            have := (hW.2 m hm).2.2.1
            unfold zt_oc
            split
            · rfl
            · split
              · rfl
              · split
                · rfl
                · omega
          rw [if_pos h16]
          refine K _ (Or.inr ⟨_, by omega, rfl⟩) ?_
          intro lv ex ow de L hl
          refine ⟨fun h => absurd h (za_n1 (by omega)), fun _ => ?_⟩
          obtain ⟨g1, g2, g3, g4⟩ := hG lv ex ow de L
          obtain ⟨q1, q2, q3, q4⟩ := L.2.2.1 cur m j p trivial
          rw [(g3 hl).1 rfl, q4 (by rw [← q1, g1]; exact hl), oce]
        · rw [if_neg h16]
          refine K _ (Or.inl rfl) ?_
          intro lv ex ow de L hl
          refine ⟨fun _ => ?_, fun h => absurd rfl h⟩
          obtain ⟨g1, g2, g3, g4⟩ := hG lv ex ow de L
          obtain ⟨q1, q2, q3, q4⟩ := L.2.2.1 cur m j p trivial
          have lm : lv m = 1 := by rw [← q1, g1]; exact hl
          have oce : zt_oc ck kd fl de m j = zp_n de m := by
            unfold zt_oc
            rw [if_neg (by omega), if_neg (by omega), if_neg (by omega)]
          rw [(g3 hl).1 rfl, q4 lm, oce]
          rcases L.1 m hm with s | s
          · rw [lm] at s; exact absurd s.1 za_10
          · exact s.2.2.2.2.1.symm
      · refine br_t (nI_pos' hx) (K _ (Or.inr ⟨x, hx, rfl⟩) ?_)
        intro lv ex ow de L hl
        refine ⟨fun h => absurd h (za_n1 hx), fun _ => ?_⟩
        obtain ⟨g1, g2, g3, g4⟩ := hG lv ex ow de L
        exact (g3 hl).2 (za_n1 hx)
    · intro hP
      exact br_f za_m1 (yt_69 hW hV hN hn hc hI hP h)
theorem yt_place {post : SY → Prop} {V N n : Nat} (hW : zp_W V N rl ck qn kd fl) (hU : zp_U V N qn kd fl) (hV : V ≤ 10) (hN : N ≤ 48) (hn : n < N)
    (h : ∀ d e : Int32, (∀ lv ex ow de : Nat → Int32, zt_L V N ck qn kd fl lv ex ow de → d = de n ∧ e = zd_E ex ow n) → post (MV, MN, MI, nI V, nI N, no, ph, ve, fa, rl, ck, qn, pd, yl, ys, yr, kd, fl, upd yd n d, upd ye n e, yn, vs, vv, ns, nv)) : wpY_place post (MV, MN, MI, nI V, nI N, no, ph, ve, fa, rl, ck, qn, pd, yl, ys, yr, kd, fl, yd, ye, yn, vs, vv, ns, nv) (nI n) := by
  refine ⟨N + 1, yt_10 hW hU hV hN hn h (N + 1) n 0 (-1) 1 (by omega) hn (Nat.zero_le _) ⟨Or.inl rfl, Or.inr rfl, ?_⟩⟩
  intro lv ex ow de L
  exact ⟨rfl, rfl, fun _ => ⟨fun _ => rfl, fun h => absurd rfl h⟩, ⟨fun h => ⟨rfl, h⟩, fun h => h.2⟩⟩
end
end
section
/-! dependencies, and the reference's settle -/
theorem zd_lt {V N : Nat} {rl ck qn kd fl E : Nat → Int32} {v w : Nat} (hW : zp_W V N rl ck qn kd fl) (hv : v < V) (h : zd_dp N ck kd fl E v w) : w < V := by
  rcases h with ⟨h1, h2⟩ | ⟨n, hn, _, h3, h4⟩
  · have := (hW.1 v hv).2.1.2
    omega
  · have := ((hW.2 n hn).2.2.2.2.1 h3).2
    omega
theorem zd_in {V : Nat} {D : Nat → Nat → Prop} {v : Nat} (hv : v < V) (h : ∀ w, D v w → zd_R V D w) : zd_R V D v := fun S hS => hS v hv (fun w hw => h w hw S hS)
theorem zd_cg {N : Nat} {ck kd fl E E' : Nat → Int32} {v w : Nat} (h : ∀ n, n < N → E' n = E n) (d : zd_dp N ck kd fl E v w) : zd_dp N ck kd fl E' v w := by
  rcases d with d | ⟨n, hn, e, r⟩
  · exact Or.inl d
  · exact Or.inr ⟨n, hn, by rw [h n hn]; exact e, r⟩
section
variable {MV MN MI vc nc no ph ve fa : Int32} {rl ck qn pd yl ys yr kd fl yd ye yn vs vv ns nv : Nat → Int32}
theorem yd_dir {post : Int32 → Prop} {V N v w : Nat} (hW : zp_W V N rl ck qn kd fl) (hV : V ≤ 10) (hN : N ≤ 48) (hv : v < V) (hw : w < V)
    (h1 : zd_dp N ck kd fl ye v w → post 1) (h0 : ¬ zd_dp N ck kd fl ye v w → post 0) : wpY_direct post (MV, MN, MI, vc, nI N, no, ph, ve, fa, rl, ck, qn, pd, yl, ys, yr, kd, fl, yd, ye, yn, vs, vv, ns, nv) (nI v) (nI w) := by
  have cv : (nI v).toNatClampNeg = v := nI_clamp (by omega)
  have iv : vp_in (nI v) 10 := vp_in_nI (by omega) (by decide)
  have hck := (hW.1 v hv).2.1
  have hcb : zp_n ck v < 2 ^ 31 := by omega
  unfold wpY_direct
  dsimp only
  rw [cv, hck.1]
  have LP : ¬ (zp_n ck v ≠ 0 ∧ (zp_n ck v - 1) / 2 = w) → ∃ n, wY_direct_27 post (nI v) (nI w) MV MN MI vc (nI N) no ph ve fa rl ck qn pd yl ys yr kd fl yd ye yn vs vv ns nv n 0 := by
    intro hck'
    refine pk_loop (fun n i (_ : Unit) => wY_direct_27 post (nI v) (nI w) MV MN MI vc (nI N) no ph ve fa rl ck qn pd yl ys yr kd fl yd ye yn vs vv ns nv n (nI i)) (fun i _ => ∀ n, n < i → ¬ (ye n = nI v ∧ (zp_n kd n = 2 ∨ 16 ≤ zp_n kd n) ∧ zp_n fl (4 * n) = w)) N 0 () (Nat.zero_le _) (fun n hn => absurd hn (Nat.not_lt_zero n)) ?_ ?_
    · intro n _ hI
      refine br_t (nI_le (Nat.le_refl _) (by omega)) (h0 ?_)
      rintro (d | ⟨m, hm, d⟩)
      · exact hck' d
      · exact hI m hm d
    · intro n i _ hi hI ih
      have ci : (nI i).toNatClampNeg = i := nI_clamp (by omega)
      have ii : vp_in (nI i) 48 := vp_in_nI (by omega) (by decide)
      have c4 : (nI (4 * i)).toNatClampNeg = 4 * i := nI_clamp (by omega)
      obtain ⟨n1, n2, n3, n4, n5, n6⟩ := hW.2 i hi
      have hb : zp_n kd i < 2 ^ 31 := by omega
      have nx : ¬ (ye i = nI v ∧ (zp_n kd i = 2 ∨ 16 ≤ zp_n kd i) ∧ zp_n fl (4 * i) = w) → ∀ m, m < i + 1 → ¬ (ye m = nI v ∧ (zp_n kd m = 2 ∨ 16 ≤ zp_n kd m) ∧ zp_n fl (4 * m) = w) := by
        intro hn m hm
        by_cases e : m = i
        · subst e; exact hn
        · exact hI m (by omega)
      have K : ye i = nI v → (zp_n kd i = 2 ∨ 16 ≤ zp_n kd i) → wY_direct_66 post (wY_direct_27 post (nI v) (nI w) MV MN MI vc (nI N) no ph ve fa rl ck qn pd yl ys yr kd fl yd ye yn vs vv ns nv n) (nI v) (nI w) (nI i) MV MN MI vc (nI N) no ph ve fa rl ck qn pd yl ys yr kd fl yd ye yn vs vv ns nv := by
        intro e hk
        obtain ⟨f1, f2⟩ := n5 hk
        unfold wY_direct_66
        rw [za_4m, c4, f1]
        refine ⟨vp_in_nI (by omega) (by decide), ?_⟩
        by_cases ew : zp_n fl (4 * i) = w
        · exact br_t (by rw [ew]) (h1 (Or.inr ⟨i, hi, e, hk, ew⟩))
        · exact br_f (fun h => ew (za_inj h (by omega) (by omega))) (nm_r (nI_1 i) (ih () (nx (fun h => ew h.2.2))))
      refine br_f (nI_ge hi (by omega)) ⟨ii, ?_⟩
      rw [ci, n1]
      by_cases e : ye i = nI v
      · refine br_t e ⟨ii, ?_⟩
        by_cases k2 : zp_n kd i = 2
        · exact br_t ((zq_2 hb).mpr k2) (K e (Or.inl k2))
        · refine br_f (fun h => k2 ((zq_2 hb).mp h)) ⟨ii, ?_⟩
          by_cases k16 : 16 ≤ zp_n kd i
          · exact br_f (fun h => by have := (zl_16 hb).mp h; omega) (K e (Or.inr k16))
          · exact br_t ((zl_16 hb).mpr (by omega)) (nm_r (nI_1 i) (ih () (nx (fun h => by have := h.2.1; omega))))
      · exact br_f e (nm_r (nI_1 i) (ih () (nx (fun h => e h.1))))
  refine ⟨iv, ?_⟩
  by_cases h0' : zp_n ck v = 0
  · refine br_t ((zm_0 hcb).mpr (by omega)) (LP (fun h => h.1 h0'))
  · refine br_f (fun h => by have := (zm_0 hcb).mp h; omega) ⟨iv, za_20, ?_⟩
    rw [za_s1 (by omega), za_d2 (by omega)]
    by_cases e : (zp_n ck v - 1) / 2 = w
    · exact br_t (by rw [e]) (h1 (Or.inl ⟨h0', e⟩))
    · exact br_f (fun h => e (za_inj h (by omega) (by omega))) (LP (fun h => e h.2))
/-- what settle leaves -/
def yd_ok (V : Nat) (D : Nat → Nat → Prop) (ys : Nat → Int32) : Prop :=
  (∀ v, v < V → ys v = 0 ∨ ys v = 1) ∧ (∀ v, v < V → ys v = 1 → zd_R V D v)
def yd_J (V : Nat) (D : Nat → Nat → Prop) (ys : Nat → Int32) (s v : Nat) : Prop :=
  yd_ok V D ys ∧ ∀ o q, zd_o V D o q → ∀ i, i < q → (i < s ∨ (i = s ∧ o i < v)) → ys (o i) = 1
theorem yd_st {V N s v : Nat} {ys : Nat → Int32} {x : Int32} {D : Nat → Nat → Prop} (hD : ∀ v w, v < V → D v w → w < V) (hv : v < V)
    (hx : x = 0 ∨ x = 1) (hx1 : x = 1 ↔ ∀ w, w < V → ys w = 0 → ¬ D v w) (h : yd_J V D ys s v) : yd_J V D (upd ys v x) s (v + 1) := by
  obtain ⟨⟨h1, h2⟩, h3⟩ := h
  refine ⟨⟨?_, ?_⟩, ?_⟩
  · intro w hw
    by_cases e : w = v
    · subst e; rw [pk_us]; exact hx
    · rw [pk_un e]; exact h1 w hw
  · intro w hw
    by_cases e : w = v
    · subst e; rw [pk_us]
      intro e1
      refine zd_in hw (fun w' hd => ?_)
      have hw' := hD w w' hw hd
      rcases h1 w' hw' with g | g
      · exact absurd hd (hx1.mp e1 w' hw' g)
      · exact h2 w' hw' g
    · rw [pk_un e]; exact h2 w hw
  · intro o q ho i hi hc
    by_cases e : o i = v
    · rw [e, pk_us, hx1]
      intro w hw hw0 hd
      rw [← e] at hd
      obtain ⟨i', hi', ew⟩ := ho.2 i w hi hd
      have := h3 o q ho i' (by omega) (by omega)
      rw [ew, hw0] at this
      exact za_01 this
    · rw [pk_un e]
      exact h3 o q ho i hi (by omega)
theorem yd_settle {post : SY → Prop} {V N : Nat} (hW : zp_W V N rl ck qn kd fl) (hV : V ≤ 10) (hN : N ≤ 48)
    (h : ∀ ys : Nat → Int32, yd_ok V (zd_dp N ck kd fl ye) ys → (∀ o q, zd_o V (zd_dp N ck kd fl ye) o q → ∀ i, i < q → i < V → ys (o i) = 1) → post (MV, MN, MI, nI V, nI N, no, ph, ve, fa, rl, ck, qn, pd, yl, ys, yr, kd, fl, yd, ye, yn, vs, vv, ns, nv)) : wpY_settle post (MV, MN, MI, nI V, nI N, no, ph, ve, fa, rl, ck, qn, pd, yl, ys, yr, kd, fl, yd, ye, yn, vs, vv, ns, nv) := by
  have hD : ∀ v w, v < V → zd_dp N ck kd fl ye v w → w < V := fun v w hv d => zd_lt hW hv d
  unfold wpY_settle
  refine pk_loop (fun n i (ys : Nat → Int32) => wY_settle_2 post MV MN MI (nI V) (nI N) no ph ve fa n (nI i) rl ck qn pd yl ys yr kd fl yd ye yn vs vv ns nv) (fun i ys => ∀ v, v < i → ys v = 0) V 0 ys (Nat.zero_le _) (fun n hn => absurd hn (Nat.not_lt_zero n)) ?_ ?_
  · intro n ys hI
    refine br_t (nI_le (Nat.le_refl _) (by omega)) ?_
    refine pk_loop (fun n s (ys : Nat → Int32) => wY_settle_25 post MV MN MI (nI V) (nI N) no ph ve fa n (nI s) rl ck qn pd yl ys yr kd fl yd ye yn vs vv ns nv) (fun s ys => yd_J V (zd_dp N ck kd fl ye) ys s 0) V 0 ys (Nat.zero_le _) ?_ ?_ ?_
    · refine ⟨⟨fun v hv => Or.inl (hI v hv), fun v hv e => ?_⟩, fun o q ho i hi hc => by omega⟩
      rw [hI v hv] at e; exact absurd e za_01
    · intro n ys hJ
      exact br_t (nI_le (Nat.le_refl _) (by omega)) (h ys hJ.1 (fun o q ho i hi hV => hJ.2 o q ho i hi (Or.inl hV)))
    · intro n s ys hs hJ ih
      refine br_f (nI_ge hs (by omega)) ?_
      refine pk_loop (fun n2 v (ys : Nat → Int32) => wY_settle_35 post (wY_settle_25 post MV MN MI (nI V) (nI N) no ph ve fa n) (nI s) MV MN MI (nI V) (nI N) no ph ve fa n2 (nI v) rl ck qn pd yl ys yr kd fl yd ye yn vs vv ns nv) (fun v ys => yd_J V (zd_dp N ck kd fl ye) ys s v) V 0 ys (Nat.zero_le _) hJ ?_ ?_
      · intro n2 ys hJ
        refine br_t (nI_le (Nat.le_refl _) (by omega)) (nm_r (nI_1 s) (ih ys ⟨hJ.1, fun o q ho i hi hc => ?_⟩))
        have hov := ho.1 i hi
        exact hJ.2 o q ho i hi (by omega)
      · intro n2 v ys hv hJ ih2
        refine br_f (nI_ge hv (by omega)) ?_
        refine pk_loop (fun n3 w (x : Int32) => wY_settle_48 post (wY_settle_25 post MV MN MI (nI V) (nI N) no ph ve fa n) (wY_settle_35 post (wY_settle_25 post MV MN MI (nI V) (nI N) no ph ve fa n) (nI s) MV MN MI (nI V) (nI N) no ph ve fa n2) (nI s) (nI v) MV MN MI (nI V) (nI N) no ph ve fa rl ck qn pd yl ys yr kd fl yd ye yn vs vv ns nv n3 x (nI w)) (fun w x => (x = 0 ∨ x = 1) ∧ (x = 1 ↔ ∀ w', w' < w → ys w' = 0 → ¬ zd_dp N ck kd fl ye v w')) V 0 1 (Nat.zero_le _) ⟨Or.inr rfl, fun _ w' hw' => absurd hw' (Nat.not_lt_zero w'), fun _ => rfl⟩ ?_ ?_
        · intro n3 x ⟨hx, hx1⟩
          have cv : (nI v).toNatClampNeg = v := nI_clamp (by omega)
          refine br_t (nI_le (Nat.le_refl _) (by omega)) ⟨vp_in_nI (by omega) (by decide), nm_r (e' := upd ys v x) (by rw [cv, za_bv hx]) (nm_r (nI_1 v) (ih2 _ (yd_st (N := N) hD hv hx hx1 hJ)))⟩
        · intro n3 w x hw ⟨hx, hx1⟩ ih3
          have cw : (nI w).toNatClampNeg = w := nI_clamp (by omega)
          refine br_f (nI_ge hw (by omega)) ⟨vp_in_nI (by omega) (by decide), ?_⟩
          rw [cw]
          have ext : ∀ y : Int32, (y = 1 ↔ x = 1 ∧ (ys w = 0 → ¬ zd_dp N ck kd fl ye v w)) → (y = 1 ↔ ∀ w', w' < w + 1 → ys w' = 0 → ¬ zd_dp N ck kd fl ye v w') := by
            intro y hy
            rw [hy, hx1]
            constructor
            · rintro ⟨a, b⟩ w' hw'
              by_cases e : w' = w
              · subst e; exact b
              · exact a w' (by omega)
            · intro a
              exact ⟨fun w' hw' => a w' (by omega), a w (by omega)⟩
          by_cases e : ys w = 0
          · refine br_t e (yd_dir hW hV hN hv hw ?_ ?_)
            · intro d
              exact br_f za_10 (nm_r (nI_1 w) (ih3 0 ⟨Or.inl rfl, ext 0 ⟨fun h => absurd h za_01, fun h => absurd d (h.2 e)⟩⟩))
            · intro d
              exact br_t rfl (nm_r (nI_1 w) (ih3 x ⟨hx, ext x ⟨fun h => ⟨h, fun _ => d⟩, fun h => h.1⟩⟩))
          · exact br_f e (nm_r (nI_1 w) (ih3 x ⟨hx, ext x ⟨fun h => ⟨h, fun h' => absurd h' e⟩, fun h => h.1⟩⟩))
  · intro n i ys hi hI ih
    have ci : (nI i).toNatClampNeg = i := nI_clamp (by omega)
    refine br_f (nI_ge hi (by omega)) ⟨vp_in_nI (by omega) (by decide), nm_r (e' := upd ys i 0) (by rw [ci, za_b0]) (nm_r (nI_1 i) (ih _ ?_))⟩
    intro v hv
    by_cases e : v = i
    · rw [e, pk_us]
    · rw [pk_un e]; exact hI v (by omega)
end
end
section
/-! lateness in the reference -/
theorem zn_any1 {kd fl nl : Nat → Int32} {n j : Nat} (hj : j < zp_ar (zp_n kd n)) (h : ¬ nl (zp_op kd fl n j) = 0) : zn_any kd fl nl n = 1 := by
  have := zp_ar3 (zp_n kd n)
  unfold zn_any
  rw [if_pos]
  have hc : j = 0 ∨ j = 1 ∨ j = 2 := by omega
  rcases hc with rfl | rfl | rfl
  · exact Or.inl ⟨hj, h⟩
  · exact Or.inr (Or.inl ⟨hj, h⟩)
  · exact Or.inr (Or.inr ⟨hj, h⟩)
theorem zn_any0 {kd fl nl : Nat → Int32} {n : Nat} (h : ∀ j, j < zp_ar (zp_n kd n) → nl (zp_op kd fl n j) = 0) : zn_any kd fl nl n = 0 := by
  unfold zn_any
  rw [if_neg]
  rintro (⟨h1, h2⟩ | ⟨h1, h2⟩ | ⟨h1, h2⟩) <;> exact h2 (h _ h1)
theorem zn_any01 {kd fl nl : Nat → Int32} {n : Nat} : zn_any kd fl nl n = 0 ∨ zn_any kd fl nl n = 1 := by
  unfold zn_any; split
  · exact Or.inr rfl
  · exact Or.inl rfl
theorem zn_anyg {kd fl nl nl' : Nat → Int32} {n : Nat} (h : ∀ j, j < zp_ar (zp_n kd n) → nl' (zp_op kd fl n j) = nl (zp_op kd fl n j)) : zn_any kd fl nl' n = zn_any kd fl nl n := by
  by_cases e : ∃ j, j < zp_ar (zp_n kd n) ∧ ¬ nl (zp_op kd fl n j) = 0
  · obtain ⟨j, hj, e⟩ := e
    rw [zn_any1 hj e, zn_any1 hj (by rw [h j hj]; exact e)]
  · have e' : ∀ j, j < zp_ar (zp_n kd n) → nl (zp_op kd fl n j) = 0 := fun j hj => Decidable.byContradiction (fun hn => e ⟨j, hj, hn⟩)
    rw [zn_any0 e', zn_any0 (fun j hj => by rw [h j hj]; exact e' j hj)]
theorem zn_ltg {kd fl nl vl nl' vl' : Nat → Int32} {n : Nat} (hv : zp_n kd n = 2 → vl' (zp_n fl (4 * n)) = vl (zp_n fl (4 * n))) (ho : zp_n kd n ≠ 5 → ∀ j, j < zp_ar (zp_n kd n) → nl' (zp_op kd fl n j) = nl (zp_op kd fl n j)) : zn_lt kd fl nl' vl' n = zn_lt kd fl nl vl n := by
  unfold zn_lt
  split
  · rfl
  · split
    · rename_i h; exact hv h
    · split
      · rfl
      · rename_i h5
        split
        · rename_i h; exact ho h5 0 (by rw [h]; decide)
        · exact zn_anyg (ho h5)
theorem zn_lt01 {V N : Nat} {rl ck qn kd fl nl vl : Nat → Int32} {n : Nat} (hW : zp_W V N rl ck qn kd fl) (hn : n < N) (hv : ∀ v, v < V → vl v = 0 ∨ vl v = 1) (hl : ∀ m, m < N → nl m = 0 ∨ nl m = 1) : zn_lt kd fl nl vl n = 0 ∨ zn_lt kd fl nl vl n = 1 := by
  have w := hW.2 n hn
  unfold zn_lt
  split
  · exact Or.inl rfl
  · split
    · rename_i h; exact hv _ (w.2.2.2.2.1 (Or.inl h)).2
    · split
      · exact Or.inr rfl
      · split
        · rename_i h
          have := (w.2.2.2.1 0 (by rw [h]; decide)).2
          exact hl _ (by omega)
        · exact zn_any01
theorem zn_vl01 {qn nl : Nat → Int32} {v : Nat} : zn_vl qn nl v = 0 ∨ zn_vl qn nl v = 1 := by
  unfold zn_vl; split
  · exact Or.inl rfl
  · split
    · exact Or.inl rfl
    · exact Or.inr rfl
/-- ghost arrays that solve the equations of lateness -/
def zl_G (V N : Nat) (ck qn kd fl lv ex ow de NL VL : Nat → Int32) (o : Nat → Nat) (q : Nat) : Prop :=
  zt_L V N ck qn kd fl lv ex ow de ∧ zd_o V (zd_dp N ck kd fl (zd_E ex ow)) o q ∧ zd_cov V o q ∧ (∀ n, n < N → lv n = 1 → NL n = zn_lt kd fl NL VL n) ∧ (∀ v, v < V → VL v = zn_vl qn NL v)
def zl_01 (V N : Nat) (yn yl : Nat → Int32) : Prop := (∀ v, v < V → yl v = 0 ∨ yl v = 1) ∧ (∀ m, m < N → yn m = 0 ∨ yn m = 1)
def zl_q (ex ow : Nat → Int32) (o : Nat → Nat) (q s m : Nat) : Prop := (∃ i, i < q ∧ i ≤ s ∧ ex m = 1 ∧ ow m = nI (o i)) ∨ q ≤ s
def zl_H (V N : Nat) (ck qn kd fl yn yl : Nat → Int32) (s : Nat) : Prop :=
  zl_01 V N yn yl ∧ ∀ (lv ex ow de NL VL : Nat → Int32) (o : Nat → Nat) (q : Nat), zl_G V N ck qn kd fl lv ex ow de NL VL o q →
    (∀ i, i < q → i < s → yl (o i) = VL (o i)) ∧ (q < s → ∀ m, m < N → lv m = 1 → yn m = NL m)
def zl_N (V N : Nat) (ck qn kd fl yn yl : Nat → Int32) (s n : Nat) : Prop :=
  zl_01 V N yn yl ∧ ∀ (lv ex ow de NL VL : Nat → Int32) (o : Nat → Nat) (q : Nat), zl_G V N ck qn kd fl lv ex ow de NL VL o q →
    (∀ i, i < q → i < s → yl (o i) = VL (o i)) ∧ (∀ m, m < n → lv m = 1 → zl_q ex ow o q s m → yn m = NL m)
def zl_V (V N : Nat) (ck qn kd fl yn yl : Nat → Int32) (s v : Nat) : Prop :=
  zl_01 V N yn yl ∧ ∀ (lv ex ow de NL VL : Nat → Int32) (o : Nat → Nat) (q : Nat), zl_G V N ck qn kd fl lv ex ow de NL VL o q →
    (∀ i, i < q → (i < s ∨ (i ≤ s ∧ o i < v)) → yl (o i) = VL (o i)) ∧ (∀ m, m < N → lv m = 1 → zl_q ex ow o q s m → yn m = NL m)
theorem zl_n {V N : Nat} {rl ck qn kd fl yn yl : Nat → Int32} {s n : Nat} (hW : zp_W V N rl ck qn kd fl) (hn : n < N) (h : zl_N V N ck qn kd fl yn yl s n) : zl_N V N ck qn kd fl (upd yn n (zn_lt kd fl yn yl n)) yl s (n + 1) := by
  obtain ⟨⟨a1, a2⟩, h⟩ := h
  refine ⟨⟨a1, ?_⟩, ?_⟩
  · intro m hm
    by_cases e : m = n
    · rw [e, pk_us]; exact zn_lt01 hW hn a1 a2
    · rw [pk_un e]; exact a2 m hm
  · intro lv ex ow de NL VL o q G
    obtain ⟨h1, h2⟩ := h lv ex ow de NL VL o q G
    refine ⟨h1, ?_⟩
    obtain ⟨L, ho, hcov, g1, g2⟩ := G
    intro m hm hl hq
    by_cases e : m = n
    · subst e
      rw [pk_us, g1 m hn hl]
      have w := hW.2 m hn
      refine zn_ltg ?_ ?_
      · intro k2
        have hc := (w.2.2.2.2.1 (Or.inl k2)).2
        rcases hq with ⟨i, i1, i2, i3, i4⟩ | hq
        · have dp : zd_dp N ck kd fl (zd_E ex ow) (o i) (zp_n fl (4 * m)) := Or.inr ⟨m, hn, by unfold zd_E; rw [if_pos i3]; exact i4, Or.inl k2, rfl⟩
          obtain ⟨i', j1, j2⟩ := ho.2 i _ i1 dp
          rw [← j2]
          exact h1 i' (by omega) (by omega)
        · obtain ⟨i, j1, j2⟩ := hcov.2 _ hc
          rw [← j2]
          exact h1 i j1 (by omega)
      · intro k5 j hj
        have hp : zp_P N kd fl (zp_op kd fl m j) m j := ⟨hn, hj, rfl⟩
        obtain ⟨q1, q2, q3, q4⟩ := L.2.2.1 _ m j hp trivial
        refine h2 _ (zp_Pa hW hp) (by rw [q1]; exact hl) ?_
        rcases hq with ⟨i, i1, i2, i3, i4⟩ | hq
        · exact Or.inl ⟨i, i1, i2, by rw [q3, if_neg k5]; exact i3, by rw [q2]; exact i4⟩
        · exact Or.inr hq
    · rw [pk_un e]; exact h2 m (by omega) hl hq
theorem zl_v {V N : Nat} {rl ck qn kd fl yn yl : Nat → Int32} {s v : Nat} (hW : zp_W V N rl ck qn kd fl) (hN : N ≤ 48) (hv : v < V) (h : zl_V V N ck qn kd fl yn yl s v) : zl_V V N ck qn kd fl yn (upd yl v (zn_vl qn yn v)) s (v + 1) := by
  obtain ⟨⟨a1, a2⟩, h⟩ := h
  refine ⟨⟨?_, a2⟩, ?_⟩
  · intro m hm
    by_cases e : m = v
    · rw [e, pk_us]; exact zn_vl01
    · rw [pk_un e]; exact a1 m hm
  · intro lv ex ow de NL VL o q G
    obtain ⟨h1, h2⟩ := h lv ex ow de NL VL o q G
    refine ⟨?_, h2⟩
    obtain ⟨L, ho, hcov, g1, g2⟩ := G
    intro i hi hc
    by_cases e : o i = v
    · rw [e, pk_us, g2 v hv]
      unfold zn_vl
      rcases (hW.1 v hv).2.2 with e' | ⟨_, e1, e2⟩
      · rw [e', if_pos za_m0, if_pos za_m0]
      · have ho' : zp_O V qn (zp_n qn v) v := ⟨hv, by omega, e1⟩
        obtain ⟨r1, r2, r3, r4⟩ := L.2.1 _ v ho'
        rw [h2 (zp_n qn v) e2 r1 (Or.inl ⟨i, hi, by omega, r2, by rw [e]; exact r3⟩)]
    · rw [pk_un e]
      exact h1 i hi (by omega)
section
variable {MV MN MI vc nc no ph ve fa : Int32} {rl ck qn pd yl ys yr kd fl yd ye yn vs vv ns nv : Nat → Int32}
theorem yl_any {post : Int32 → Prop} {V n : Nat} (hn : n < 48) (hW : zp_N V kd fl n) (h : post (zn_any kd fl yn n)) : wpY_anyLate post (MV, MN, MI, vc, nc, no, ph, ve, fa, rl, ck, qn, pd, yl, ys, yr, kd, fl, yd, ye, yn, vs, vv, ns, nv) (nI n) := by
  unfold wpY_anyLate
  refine pk_loop (fun f i (_ : Unit) => wY_anyLate_2 post (nI n) MV MN MI vc nc no ph ve fa rl ck qn pd yl ys yr kd fl yd ye yn vs vv ns nv f (nI i)) (fun i _ => ∀ j, j < i → j < zp_ar (zp_n kd n) → yn (zp_op kd fl n j) = 0) 3 0 () (by omega) (fun j hj => absurd hj (Nat.not_lt_zero j)) ?_ ?_
  · intro f _ hI
    rw [zn_any0 (fun j hj => hI j (by have := zp_ar3 (zp_n kd n); omega) hj)] at h
    exact br_t (nI_le (a := 3) (Nat.le_refl _) (by omega)) h
  · intro f i _ hi hI ih
    refine br_f (nI_ge (b := 3) hi (by omega)) (ya_opW (V := V) hn hW hi ?_)
    split
    · rename_i hl
      have hlt := (hW.2.2.2.1 i hl).2
      have co : (nI (zp_op kd fl n i)).toNatClampNeg = zp_op kd fl n i := nI_clamp (by omega)
      refine br_f (nI_pos (by omega)) ⟨vp_in_nI (by omega) (by decide), ?_⟩
      rw [co]
      by_cases e : yn (zp_op kd fl n i) = 0
      · refine br_t e (nm_r (nI_1 i) (ih () ?_))
        intro j hj hja
        by_cases e2 : j = i
        · rw [e2]; exact e
        · exact hI j (by omega) hja
      · rw [zn_any1 hl e] at h
        exact br_f e h
    · rename_i hl
      refine br_t za_m0 (nm_r (nI_1 i) (ih () ?_))
      intro j hj hja
      exact hI j (by omega) hja
theorem yl_node {post : Int32 → Prop} {V N n : Nat} (hW : zp_W V N rl ck qn kd fl) (hV : V ≤ 10) (hN : N ≤ 48) (hn : n < N) (h01 : zl_01 V N yn yl) (h : post (zn_lt kd fl yn yl n)) : wpY_lateNode post (MV, MN, MI, vc, nc, no, ph, ve, fa, rl, ck, qn, pd, yl, ys, yr, kd, fl, yd, ye, yn, vs, vv, ns, nv) (nI n) := by
  have w := hW.2 n hn
  obtain ⟨n1, n2, n3, n4, n5, n6⟩ := w
  have c0 : (nI n).toNatClampNeg = n := nI_clamp (by omega)
  have c1 : (nI (4 * n)).toNatClampNeg = 4 * n := nI_clamp (by omega)
  have i4 : vp_in (nI (4 * n)) 192 := vp_in_nI (by omega) (by decide)
  have hb : zp_n kd n < 2 ^ 31 := by omega
  unfold wpY_lateNode
  dsimp only
  rw [za_4m, c0, c1]
  refine ⟨vp_in_nI (by omega) (by decide), nm_r n1 ?_⟩
  unfold zn_lt at h
  by_cases k1 : zp_n kd n = 1
  · rw [if_pos (Or.inl k1)] at h; exact br_t ((zq_1 hb).mpr k1) h
  refine br_f (fun e => k1 ((zq_1 hb).mp e)) ?_
  by_cases k17 : zp_n kd n = 17
  · rw [if_pos (Or.inr (Or.inl k17))] at h; exact br_t ((zq_17 hb).mpr k17) h
  refine br_f (fun e => k17 ((zq_17 hb).mp e)) ?_
  by_cases k18 : zp_n kd n = 18
  · rw [if_pos (Or.inr (Or.inr k18))] at h; exact br_t ((zq_18 hb).mpr k18) h
  refine br_f (fun e => k18 ((zq_18 hb).mp e)) ?_
  rw [if_neg (by omega)] at h
  by_cases k2 : zp_n kd n = 2
  · rw [if_pos k2] at h
    obtain ⟨f1, f2⟩ := n5 (Or.inl k2)
    refine br_t ((zq_2 hb).mpr k2) ⟨i4, ?_⟩
    rw [f1, nI_clamp (by omega)]
    exact ⟨vp_in_nI (by omega) (by decide), za_nb (h01.1 _ f2), h⟩
  refine br_f (fun e => k2 ((zq_2 hb).mp e)) ?_
  rw [if_neg k2] at h
  by_cases k5 : zp_n kd n = 5
  · rw [if_pos k5] at h; exact br_t ((zq_5 hb).mpr k5) h
  refine br_f (fun e => k5 ((zq_5 hb).mp e)) ?_
  rw [if_neg k5] at h
  by_cases k14 : zp_n kd n = 14
  · rw [if_pos k14] at h
    have o0 := n4 0 (by rw [k14]; decide)
    have e0 : 4 * n + (zp_fo (zp_n kd n) + 0) = 4 * n := by rw [k14, zp_fo_14]; rfl
    rw [e0] at o0
    refine br_t ((zq_14 hb).mpr k14) ⟨i4, ?_⟩
    rw [o0.1, nI_clamp (by omega)]
    exact ⟨vp_in_nI (by omega) (by decide), za_nb (h01.2 _ (by omega)), h⟩
  refine br_f (fun e => k14 ((zq_14 hb).mp e)) (yl_any (V := V) (by omega) (hW.2 n hn) ⟨za_nb zn_any01, ?_⟩)
  rw [if_neg k14] at h
  exact h
theorem yl_90 {post : SY → Prop} {J : Int32 → (Nat → Int32) → (Nat → Int32) → (Nat → Int32) → (Nat → Int32) → (Nat → Int32) → (Nat → Int32) → (Nat → Int32) → (Nat → Int32) → (Nat → Int32) → (Nat → Int32) → (Nat → Int32) → (Nat → Int32) → (Nat → Int32) → (Nat → Int32) → (Nat → Int32) → (Nat → Int32) → Prop} {V N s : Nat} (hW : zp_W V N rl ck qn kd fl) (hV : V ≤ 10) (hN : N ≤ 48) (h0 : zl_V V N ck qn kd fl yn yl s 0)
    (h : ∀ yl : Nat → Int32, zl_V V N ck qn kd fl yn yl s V → J (nI (s + 1)) rl ck qn pd yl ys yr kd fl yd ye yn vs vv ns nv) : ∃ f, wY_lateness_90 post J (nI s) MV MN MI (nI V) (nI N) no ph ve fa f 0 rl ck qn pd yl ys yr kd fl yd ye yn vs vv ns nv := by
  refine pk_loop (fun f v (yl : Nat → Int32) => wY_lateness_90 post J (nI s) MV MN MI (nI V) (nI N) no ph ve fa f (nI v) rl ck qn pd yl ys yr kd fl yd ye yn vs vv ns nv) (fun v yl => zl_V V N ck qn kd fl yn yl s v) V 0 yl (Nat.zero_le _) h0 ?_ ?_
  · intro f yl hI
    exact br_t (nI_le (Nat.le_refl _) (by omega)) (nm_r (nI_1 s) (h yl hI))
  · intro f v yl hv hI ih
    have cv : (nI v).toNatClampNeg = v := nI_clamp (by omega)
    have iv : vp_in (nI v) 10 := vp_in_nI (by omega) (by decide)
    have nx := zl_v hW hN hv hI
    refine br_f (nI_ge hv (by omega)) ⟨iv, ?_⟩
    rw [cv]
    unfold zn_vl at nx
    rcases (hW.1 v hv).2.2 with e | ⟨_, e, e'⟩
    · have hq : qn v < 0 := by rw [e]; exact za_m0
      rw [if_pos hq] at nx
      exact br_t hq ⟨iv, nm_r (e' := upd yl v 0) (by rw [za_b0]) (nm_r (nI_1 v) (ih _ nx))⟩
    · have hq : ¬ qn v < 0 := by rw [e]; exact nI_pos (by omega)
      rw [if_neg hq] at nx
      refine br_f hq ⟨iv, ?_⟩
      rw [e, nI_clamp (by omega)]
      refine ⟨vp_in_nI (by omega) (by decide), ?_⟩
      by_cases e1 : yn (zp_n qn v) = 0
      · rw [if_pos e1] at nx
        exact br_t e1 ⟨iv, nm_r (e' := upd yl v 0) (by rw [za_b0]) (nm_r (nI_1 v) (ih _ nx))⟩
      · rw [if_neg e1] at nx
        exact br_f e1 ⟨iv, nm_r (e' := upd yl v 1) (by rw [za_b1]) (nm_r (nI_1 v) (ih _ nx))⟩
theorem yl_63 {post : SY → Prop} {J : Int32 → (Nat → Int32) → (Nat → Int32) → (Nat → Int32) → (Nat → Int32) → (Nat → Int32) → (Nat → Int32) → (Nat → Int32) → (Nat → Int32) → (Nat → Int32) → (Nat → Int32) → (Nat → Int32) → (Nat → Int32) → (Nat → Int32) → (Nat → Int32) → (Nat → Int32) → (Nat → Int32) → Prop} {V N s : Nat} (hW : zp_W V N rl ck qn kd fl) (hV : V ≤ 10) (hN : N ≤ 48) (h0 : zl_N V N ck qn kd fl yn yl s 0)
    (h : ∀ yn yl : Nat → Int32, zl_V V N ck qn kd fl yn yl s V → J (nI (s + 1)) rl ck qn pd yl ys yr kd fl yd ye yn vs vv ns nv) : ∃ f, wY_lateness_63 post J (nI s) MV MN MI (nI V) (nI N) no ph ve fa f 0 rl ck qn pd yl ys yr kd fl yd ye yn vs vv ns nv := by
  refine pk_loop (fun f n (yn : Nat → Int32) => wY_lateness_63 post J (nI s) MV MN MI (nI V) (nI N) no ph ve fa f (nI n) rl ck qn pd yl ys yr kd fl yd ye yn vs vv ns nv) (fun n yn => zl_N V N ck qn kd fl yn yl s n) N 0 yn (Nat.zero_le _) h0 ?_ ?_
  · intro f yn hI
    refine br_t (nI_le (Nat.le_refl _) (by omega)) (yl_90 hW hV hN ⟨hI.1, ?_⟩ (h yn))
    intro lv ex ow de NL VL o q G
    obtain ⟨h1, h2⟩ := hI.2 lv ex ow de NL VL o q G
    exact ⟨fun i hi hc => h1 i hi (by omega), h2⟩
  · intro f n yn hn hI ih
    have cn : (nI n).toNatClampNeg = n := nI_clamp (by omega)
    refine br_f (nI_ge hn (by omega)) (yl_node hW hV hN hn hI.1 ⟨vp_in_nI (by omega) (by decide), nm_r (e' := upd yn n (zn_lt kd fl yn yl n)) ?_ (nm_r (nI_1 n) (ih _ (zl_n hW hn hI)))⟩)
    rw [cn, za_bv (zn_lt01 hW hn hI.1.1 hI.1.2)]
theorem yl_late {post : SY → Prop} {V N : Nat} (hW : zp_W V N rl ck qn kd fl) (hV : V ≤ 10) (hN : N ≤ 48)
    (h : ∀ yn yl : Nat → Int32, zl_01 V N yn yl → (∀ (lv ex ow de NL VL : Nat → Int32) (o : Nat → Nat) (q : Nat), zl_G V N ck qn kd fl lv ex ow de NL VL o q → (∀ v, v < V → yl v = VL v) ∧ (∀ m, m < N → lv m = 1 → yn m = NL m)) → post (MV, MN, MI, nI V, nI N, no, ph, ve, fa, rl, ck, qn, pd, yl, ys, yr, kd, fl, yd, ye, yn, vs, vv, ns, nv)) : wpY_lateness post (MV, MN, MI, nI V, nI N, no, ph, ve, fa, rl, ck, qn, pd, yl, ys, yr, kd, fl, yd, ye, yn, vs, vv, ns, nv) := by
  unfold wpY_lateness
  refine pk_loop (fun f i (yl : Nat → Int32) => wY_lateness_2 post MV MN MI (nI V) (nI N) no ph ve fa f (nI i) rl ck qn pd yl ys yr kd fl yd ye yn vs vv ns nv) (fun i yl => ∀ v, v < i → yl v = 0) V 0 yl (Nat.zero_le _) (fun n hn => absurd hn (Nat.not_lt_zero n)) ?_ ?_
  · intro f yl hI
    refine br_t (nI_le (Nat.le_refl _) (by omega)) ?_
    refine pk_loop (fun f i (yn : Nat → Int32) => wY_lateness_25 post MV MN MI (nI V) (nI N) no ph ve fa f (nI i) rl ck qn pd yl ys yr kd fl yd ye yn vs vv ns nv) (fun i yn => ∀ v, v < i → yn v = 0) N 0 yn (Nat.zero_le _) (fun n hn => absurd hn (Nat.not_lt_zero n)) ?_ ?_
    · intro f yn hI2
      refine br_t (nI_le (Nat.le_refl _) (by omega)) ?_
      refine pk_loop (fun f s (x : (Nat → Int32) × (Nat → Int32)) => wY_lateness_48 post MV MN MI (nI V) (nI N) no ph ve fa f (nI s) rl ck qn pd x.2 ys yr kd fl yd ye x.1 vs vv ns nv) (fun s x => zl_H V N ck qn kd fl x.1 x.2 s) (V + N + 1) 0 (yn, yl) (Nat.zero_le _) ?_ ?_ ?_
      · exact ⟨⟨fun v hv => Or.inl (hI v hv), fun m hm => Or.inl (hI2 m hm)⟩, fun lv ex ow de NL VL o q G => ⟨fun i _ hi => absurd hi (Nat.not_lt_zero i), fun hq => absurd hq (Nat.not_lt_zero q)⟩⟩
      · rintro f ⟨yn, yl⟩ hH
        dsimp only at hH
        refine br_t ?_ (h yn yl hH.1 ?_)
        · rw [nI_add]; exact nI_lt (by omega) (by omega)
        · intro lv ex ow de NL VL o q G
          obtain ⟨h1, h2⟩ := hH.2 lv ex ow de NL VL o q G
          have hq : q ≤ V := G.2.2.1.1
          refine ⟨fun v hv => ?_, fun m hm hl => h2 (by omega) m hm hl⟩
          obtain ⟨i, hi, e⟩ := G.2.2.1.2 v hv
          rw [← e]; exact h1 i hi (by omega)
      · rintro f s ⟨yn, yl⟩ hs hH ih
        dsimp only at hH ih ⊢
        refine br_f ?_ (yl_63 hW hV hN ⟨hH.1, ?_⟩ ?_)
        · rw [nI_add]; exact nI_nlt (by omega) (by omega)
        · intro lv ex ow de NL VL o q G
          exact ⟨(hH.2 lv ex ow de NL VL o q G).1, fun m hm => absurd hm (Nat.not_lt_zero m)⟩
        · intro yn yl hV'
          refine ih (yn, yl) ⟨hV'.1, ?_⟩
          intro lv ex ow de NL VL o q G
          obtain ⟨h1, h2⟩ := hV'.2 lv ex ow de NL VL o q G
          exact ⟨fun i hi hc => h1 i hi (Or.inr ⟨by omega, G.2.1.1 i hi⟩), fun hq m hm hl => h2 m hm hl (Or.inr (by omega))⟩
    · intro f i yn hi hI ih
      have ci : (nI i).toNatClampNeg = i := nI_clamp (by omega)
      refine br_f (nI_ge hi (by omega)) ⟨vp_in_nI (by omega) (by decide), nm_r (e' := upd yn i 0) (by rw [ci, za_b0]) (nm_r (nI_1 i) (ih _ ?_))⟩
      intro v hv
      by_cases e : v = i
      · rw [e, pk_us]
      · rw [pk_un e]; exact hI v (by omega)
  · intro f i yl hi hI ih
    have ci : (nI i).toNatClampNeg = i := nI_clamp (by omega)
    refine br_f (nI_ge hi (by omega)) ⟨vp_in_nI (by omega) (by decide), nm_r (e' := upd yl i 0) (by rw [ci, za_b0]) (nm_r (nI_1 i) (ih _ ?_))⟩
    intro v hv
    by_cases e : v = i
    · rw [e, pk_us]
    · rw [pk_un e]; exact hI v (by omega)
end
end
section
/-! the reference's checks and compile -/
def zl_ck (V N : Nat) (ck kd fl : Nat → Int32) (Lv : Nat → Prop) (w : Nat) : Prop :=
  (∃ v, v < V ∧ zp_n ck v ≠ 0 ∧ (zp_n ck v - 1) / 2 = w) ∨ (∃ n, n < N ∧ Lv n ∧ 16 ≤ zp_n kd n ∧ zp_n fl (4 * n) = w)
def zc_1 (rl qn : Nat → Int32) (v : Nat) : Prop := rl v = 1 ∧ qn v < 0
def zc_5 (kd fl nl : Nat → Int32) (n : Nat) : Prop := (zp_n kd n = 5 ∨ 17 ≤ zp_n kd n) ∧ zn_any kd fl nl n = 1
/-- the first i of n with P: none, or i -/
def zc_f (P : Nat → Prop) (i : Nat) : Prop := P i ∧ ∀ j, j < i → ¬ P j
def zc_z (V : Nat) (pd : Nat → Int32) : Nat → Int32 := fun v => if v < V then 0 else pd v
theorem zc_zs {i : Nat} {pd : Nat → Int32} : upd (zc_z i pd) i 0 = zc_z (i + 1) pd := by
  funext j
  unfold upd zc_z
  by_cases e : j = i
  · rw [if_pos e, if_pos (by omega)]
  · rw [if_neg e]
    by_cases h : j < i
    · rw [if_pos h, if_pos (by omega)]
    · rw [if_neg h, if_neg (by omega)]
theorem zc_z0 {pd : Nat → Int32} : zc_z 0 pd = pd := by
  funext j; unfold zc_z; rw [if_neg (Nat.not_lt_zero j)]
section
variable {MV MN MI vc nc no ph ve fa : Int32} {rl ck qn pd yl ys yr kd fl yd ye yn vs vv ns nv : Nat → Int32}
theorem yc_ck {post : Int32 → Prop} {V N w : Nat} (hW : zp_W V N rl ck qn kd fl) (hV : V ≤ 10) (hN : N ≤ 48) (hw : w < V)
    (h1 : zl_ck V N ck kd fl (fun n => ¬ yd n < 0) w → post 1) (h0 : ¬ zl_ck V N ck kd fl (fun n => ¬ yd n < 0) w → post 0) : wpY_clocks post (MV, MN, MI, nI V, nI N, no, ph, ve, fa, rl, ck, qn, pd, yl, ys, yr, kd, fl, yd, ye, yn, vs, vv, ns, nv) (nI w) := by
  unfold wpY_clocks
  refine pk_loop (fun f v (_ : Unit) => wY_clocks_2 post (nI w) MV MN MI (nI V) (nI N) no ph ve fa rl ck qn pd yl ys yr kd fl yd ye yn vs vv ns nv f (nI v)) (fun i _ => ∀ v, v < i → ¬ (zp_n ck v ≠ 0 ∧ (zp_n ck v - 1) / 2 = w)) V 0 () (Nat.zero_le _) (fun n hn => absurd hn (Nat.not_lt_zero n)) ?_ ?_
  · intro f _ hI
    refine br_t (nI_le (Nat.le_refl _) (by omega)) ?_
    refine pk_loop (fun f i (_ : Unit) => wY_clocks_43 post (nI w) MV MN MI (nI V) (nI N) no ph ve fa rl ck qn pd yl ys yr kd fl yd ye yn vs vv ns nv f (nI i)) (fun i _ => ∀ n, n < i → ¬ (¬ yd n < 0 ∧ 16 ≤ zp_n kd n ∧ zp_n fl (4 * n) = w)) N 0 () (Nat.zero_le _) (fun n hn => absurd hn (Nat.not_lt_zero n)) ?_ ?_
    · intro f _ hI2
      refine br_t (nI_le (Nat.le_refl _) (by omega)) (h0 ?_)
      rintro (⟨v, hv, d⟩ | ⟨n, hn, d⟩)
      · exact hI v hv d
      · exact hI2 n hn d
    · intro f i _ hi hI2 ih
      have ci : (nI i).toNatClampNeg = i := nI_clamp (by omega)
      have ii : vp_in (nI i) 48 := vp_in_nI (by omega) (by decide)
      have c4 : (nI (4 * i)).toNatClampNeg = 4 * i := nI_clamp (by omega)
      obtain ⟨n1, n2, n3, n4, n5, n6⟩ := hW.2 i hi
      have hb : zp_n kd i < 2 ^ 31 := by omega
      have nx : ¬ (¬ yd i < 0 ∧ 16 ≤ zp_n kd i ∧ zp_n fl (4 * i) = w) → ∀ m, m < i + 1 → ¬ (¬ yd m < 0 ∧ 16 ≤ zp_n kd m ∧ zp_n fl (4 * m) = w) := by
        intro hn m hm
        by_cases e : m = i
        · subst e; exact hn
        · exact hI2 m (by omega)
      refine br_f (nI_ge hi (by omega)) ⟨ii, ?_⟩
      rw [ci, n1, za_4m, c4]
      by_cases e : yd i < 0
      · exact br_t e (nm_r (nI_1 i) (ih () (nx (fun h => h.1 e))))
      · refine br_f e ⟨ii, ?_⟩
        by_cases k16 : 16 ≤ zp_n kd i
        · obtain ⟨f1, f2⟩ := n5 (Or.inr k16)
          refine br_f (fun h => by have := (zl_16 hb).mp h; omega) ⟨vp_in_nI (by omega) (by decide), ?_⟩
          rw [f1]
          by_cases ew : zp_n fl (4 * i) = w
          · exact br_t (by rw [ew]) (h1 (Or.inr ⟨i, hi, e, k16, ew⟩))
          · exact br_f (fun h => ew (za_inj h (by omega) (by omega))) (nm_r (nI_1 i) (ih () (nx (fun h => ew h.2.2))))
        · exact br_t ((zl_16 hb).mpr (by omega)) (nm_r (nI_1 i) (ih () (nx (fun h => k16 h.2.1))))
  · intro f v _ hv hI ih
    have cv : (nI v).toNatClampNeg = v := nI_clamp (by omega)
    have iv : vp_in (nI v) 10 := vp_in_nI (by omega) (by decide)
    have hck := (hW.1 v hv).2.1
    have hcb : zp_n ck v < 2 ^ 31 := by omega
    have nx : ¬ (zp_n ck v ≠ 0 ∧ (zp_n ck v - 1) / 2 = w) → ∀ m, m < v + 1 → ¬ (zp_n ck m ≠ 0 ∧ (zp_n ck m - 1) / 2 = w) := by
      intro hn m hm
      by_cases e : m = v
      · subst e; exact hn
      · exact hI m (by omega)
    refine br_f (nI_ge hv (by omega)) ⟨iv, ?_⟩
    rw [cv, hck.1]
    by_cases h0' : zp_n ck v = 0
    · exact br_t ((zm_0 hcb).mpr (by omega)) (nm_r (nI_1 v) (ih () (nx (fun h => h.1 h0'))))
    · refine br_f (fun h => by have := (zm_0 hcb).mp h; omega) ⟨iv, za_20, ?_⟩
      rw [za_s1 (by omega), za_d2 (by omega)]
      by_cases e : (zp_n ck v - 1) / 2 = w
      · exact br_t (by rw [e]) (h1 (Or.inl ⟨v, hv, h0', e⟩))
      · exact br_f (fun h => e (za_inj h (by omega) (by omega))) (nm_r (nI_1 v) (ih () (nx (fun h => e h.2))))
theorem yc_w1 {post : Int32 → Prop} {V v : Nat} (hV : V ≤ 10) (hv : v < V) (h1 : zc_1 rl qn v → post 1) (h0 : ¬ zc_1 rl qn v → post 0) : wpY_wrong post (MV, MN, MI, vc, nc, no, ph, ve, fa, rl, ck, qn, pd, yl, ys, yr, kd, fl, yd, ye, yn, vs, vv, ns, nv) (nI 1) (nI v) := by
  have cv : (nI v).toNatClampNeg = v := nI_clamp (by omega)
  have iv : vp_in (nI v) 10 := vp_in_nI (by omega) (by decide)
  refine br_t rfl ⟨iv, ?_⟩
  rw [cv]
  refine br_c (fun e => ⟨iv, br_c (fun e2 => h0 (fun h => ?_)) (fun e2 => h1 ⟨e, Int32.not_le.mp e2⟩)⟩) (fun e => h0 (fun h => e h.1))
  exact absurd h.2 (Int32.not_lt.mpr e2)
theorem yc_off {post : Int32 → Prop} {V N n : Nat} (hW : zp_W V N rl ck qn kd fl) (hV : V ≤ 10) (hN : N ≤ 48) (hn : n < N) (h1 : zt_off ck kd fl yd n → post 1) (h0 : ¬ zt_off ck kd fl yd n → post 0) : wpY_offending post (MV, MN, MI, vc, nc, no, ph, ve, fa, rl, ck, qn, pd, yl, ys, yr, kd, fl, yd, ye, yn, vs, vv, ns, nv) (nI n) := by
  obtain ⟨n1, n2, n3, n4, n5, n6⟩ := hW.2 n hn
  have c0 : (nI n).toNatClampNeg = n := nI_clamp (by omega)
  have c1 : (nI (4 * n)).toNatClampNeg = 4 * n := nI_clamp (by omega)
  have c2 : (nI (4 * n + 1)).toNatClampNeg = 4 * n + 1 := nI_clamp (by omega)
  have i0 : vp_in (nI n) 48 := vp_in_nI (by omega) (by decide)
  have i4 : vp_in (nI (4 * n)) 192 := vp_in_nI (by omega) (by decide)
  have hb : zp_n kd n < 2 ^ 31 := by omega
  have K : (zp_n kd n = 2 ∨ zp_n kd n = 17 ∨ zp_n kd n = 18) → wY_offending_69 post (nI n) MV MN MI vc nc no ph ve fa rl ck qn pd yl ys yr kd fl yd ye yn vs vv ns nv := by
    intro hk
    obtain ⟨f1, f2⟩ := n5 (by omega)
    unfold wY_offending_69
    rw [za_4m, c0, c1, f1, nI_clamp (by omega)]
    refine ⟨i0, i4, vp_in_nI (by omega) (by decide), br_c (fun e => h0 ?_) (fun e => h1 (Or.inr ⟨hk, e⟩))⟩
    rintro (⟨h, _⟩ | ⟨_, h⟩)
    · omega
    · exact h e
  unfold wpY_offending wpY_on
  dsimp only
  rw [za_4m, nI_1 (4 * n), c0, c1, c2, n1]
  refine ⟨i0, ?_⟩
  by_cases k16 : zp_n kd n = 16
  · obtain ⟨f1, f2⟩ := n5 (by omega)
    obtain ⟨f3, f4⟩ := n6 (Or.inl k16)
    refine br_t ((zq_16 hb).mpr k16) ⟨i0, i4, vp_in_nI (by omega) (by decide), ?_⟩
    rw [f1, f3, za_2m, za_1a, nI_add]
    refine br_c (fun e => h0 ?_) (fun e => h1 (Or.inl ⟨k16, e⟩))
    rintro (⟨_, h⟩ | ⟨h, _⟩)
    · exact h e
    · omega
  · refine br_f (fun e => k16 ((zq_16 hb).mp e)) ⟨i0, ?_⟩
    by_cases k2 : zp_n kd n = 2
    · exact br_t ((zq_2 hb).mpr k2) (K (Or.inl k2))
    · refine br_f (fun e => k2 ((zq_2 hb).mp e)) ⟨i0, ?_⟩
      by_cases k17 : zp_n kd n < 17
      · refine br_t ((zl_17 hb).mpr k17) (h0 ?_)
        rintro (⟨h, _⟩ | ⟨h, _⟩) <;> omega
      · exact br_f (fun e => k17 ((zl_17 hb).mp e)) (K (by omega))
theorem yc_w2 {post : Int32 → Prop} {V N n : Nat} (hW : zp_W V N rl ck qn kd fl) (hV : V ≤ 10) (hN : N ≤ 48) (hn : n < N) (h1 : (¬ yd n < 0 ∧ zt_off ck kd fl yd n) → post 1) (h0 : ¬ (¬ yd n < 0 ∧ zt_off ck kd fl yd n) → post 0) : wpY_wrong post (MV, MN, MI, vc, nc, no, ph, ve, fa, rl, ck, qn, pd, yl, ys, yr, kd, fl, yd, ye, yn, vs, vv, ns, nv) (nI 2) (nI n) := by
  have c0 : (nI n).toNatClampNeg = n := nI_clamp (by omega)
  have i0 : vp_in (nI n) 48 := vp_in_nI (by omega) (by decide)
  refine br_f (by decide) (br_t rfl ⟨i0, ?_⟩)
  rw [c0]
  refine br_c (fun e => h0 (fun h => h.1 e)) (fun e => yc_off hW hV hN hn (fun ho => br_f za_10 (h1 ⟨e, ho⟩)) (fun ho => br_t rfl (h0 (fun h => ho h.2))))
theorem yc_w3 {post : Int32 → Prop} {V v : Nat} (hV : V ≤ 10) (hv : v < V) (h1 : ys v = 0 → post 1) (h0 : ¬ ys v = 0 → post 0) : wpY_wrong post (MV, MN, MI, vc, nc, no, ph, ve, fa, rl, ck, qn, pd, yl, ys, yr, kd, fl, yd, ye, yn, vs, vv, ns, nv) (nI 3) (nI v) := by
  have cv : (nI v).toNatClampNeg = v := nI_clamp (by omega)
  have iv : vp_in (nI v) 10 := vp_in_nI (by omega) (by decide)
  refine br_f (by decide) (br_f (by decide) (br_t rfl ⟨iv, ?_⟩))
  rw [cv]
  exact br_c h1 h0
theorem yc_w4 {post : Int32 → Prop} {V N v : Nat} (hW : zp_W V N rl ck qn kd fl) (hV : V ≤ 10) (hN : N ≤ 48) (hv : v < V) (h1 : (¬ yl v = 0 ∧ zl_ck V N ck kd fl (fun n => ¬ yd n < 0) v) → post 1) (h0 : ¬ (¬ yl v = 0 ∧ zl_ck V N ck kd fl (fun n => ¬ yd n < 0) v) → post 0) : wpY_wrong post (MV, MN, MI, nI V, nI N, no, ph, ve, fa, rl, ck, qn, pd, yl, ys, yr, kd, fl, yd, ye, yn, vs, vv, ns, nv) (nI 4) (nI v) := by
  have cv : (nI v).toNatClampNeg = v := nI_clamp (by omega)
  have iv : vp_in (nI v) 10 := vp_in_nI (by omega) (by decide)
  refine br_f (by decide) (br_f (by decide) (br_f (by decide) (br_t rfl ⟨iv, ?_⟩)))
  rw [cv]
  exact br_c (fun e => h0 (fun h => h.1 e)) (fun e => yc_ck hW hV hN hv (fun hc => br_f za_10 (h1 ⟨e, hc⟩)) (fun hc => br_t rfl (h0 (fun h => hc h.2))))
theorem yc_w5 {post : Int32 → Prop} {V N n : Nat} (hW : zp_W V N rl ck qn kd fl) (hN : N ≤ 48) (hn : n < N) (h1 : (¬ yd n < 0 ∧ zc_5 kd fl yn n) → post 1) (h0 : ¬ (¬ yd n < 0 ∧ zc_5 kd fl yn n) → post 0) : wpY_wrong post (MV, MN, MI, vc, nc, no, ph, ve, fa, rl, ck, qn, pd, yl, ys, yr, kd, fl, yd, ye, yn, vs, vv, ns, nv) (nI 5) (nI n) := by
  obtain ⟨n1, n2, n3, n4, n5, n6⟩ := hW.2 n hn
  have c0 : (nI n).toNatClampNeg = n := nI_clamp (by omega)
  have i0 : vp_in (nI n) 48 := vp_in_nI (by omega) (by decide)
  have hb : zp_n kd n < 2 ^ 31 := by omega
  refine br_f (by decide) (br_f (by decide) (br_f (by decide) (br_f (by decide) ⟨i0, ?_⟩)))
  rw [c0, n1]
  refine br_c (fun e => h0 (fun h => h.1 e)) (fun e => ⟨i0, ?_⟩)
  have K : (zp_n kd n = 5 ∨ 17 ≤ zp_n kd n) → wY_wrong_136 post (nI n) MV MN MI vc nc no ph ve fa rl ck qn pd yl ys yr kd fl yd ye yn vs vv ns nv := by
    intro hk
    unfold wY_wrong_136
    refine yl_any (V := V) (by omega) (hW.2 n hn) ?_
    rcases zn_any01 (kd := kd) (fl := fl) (nl := yn) (n := n) with z | z
    · rw [z]; exact br_t rfl (h0 (fun h => by have := h.2.2; rw [z] at this; exact za_01 this))
    · rw [z]; exact br_f za_10 (h1 ⟨e, hk, z⟩)
  by_cases k5 : zp_n kd n = 5
  · exact br_t ((zq_5 hb).mpr k5) (K (Or.inl k5))
  · refine br_f (fun e => k5 ((zq_5 hb).mp e)) ⟨i0, ?_⟩
    by_cases k17 : zp_n kd n < 17
    · exact br_t ((zl_17 hb).mpr k17) (h0 (fun h => by have := h.2.1; omega))
    · exact br_f (fun e => k17 ((zl_17 hb).mp e)) (K (Or.inr (by omega)))
theorem yc_69 {post : Int32 → SY → Prop} {J : Int32 → Prop} {c M : Nat} {P : Nat → Prop} (hM : M ≤ 48) (hw : ∀ i, i < M → ∀ q : Int32 → Prop, (P i → q 1) → (¬ P i → q 0) → wpY_wrong q (MV, MN, MI, vc, nc, no, ph, ve, fa, rl, ck, qn, pd, yl, ys, yr, kd, fl, yd, ye, yn, vs, vv, ns, nv) (nI c) (nI i))
    (hpass : (∀ i, i < M → ¬ P i) → J (nI (c + 1))) (hfail : ∀ i, i < M → zc_f P i → post (nI c) (MV, MN, MI, vc, nc, no, ph, nI c, nI i, rl, ck, qn, pd, yl, ys, yr, kd, fl, yd, ye, yn, vs, vv, ns, nv)) : ∃ f, wY_compile_69 post J (nI c) (nI M) MV MN MI vc nc no ph ve fa rl ck qn pd yl ys yr kd fl yd ye yn vs vv ns nv f 0 := by
  refine pk_loop (fun f i (_ : Unit) => wY_compile_69 post J (nI c) (nI M) MV MN MI vc nc no ph ve fa rl ck qn pd yl ys yr kd fl yd ye yn vs vv ns nv f (nI i)) (fun i _ => ∀ j, j < i → ¬ P j) M 0 () (Nat.zero_le _) (fun n hn => absurd hn (Nat.not_lt_zero n)) ?_ ?_
  · intro f _ hI
    exact br_t (nI_le (Nat.le_refl _) (by omega)) (nm_r (nI_1 c) (hpass hI))
  · intro f i _ hi hI ih
    refine br_f (nI_ge hi (by omega)) (hw i hi _ ?_ ?_)
    · intro hp
      exact br_f za_10 (hfail i hi ⟨hp, hI⟩)
    · intro hp
      refine br_t rfl (nm_r (nI_1 i) (ih () ?_))
      intro j hj
      by_cases e : j = i
      · rw [e]; exact hp
      · exact hI j (by omega)
theorem yc_132 {post : Int32 → SY → Prop} {V : Nat} (hV : V ≤ 10) (h : post ve (MV, MN, MI, nI V, nc, no, ph, ve, fa, rl, ck, qn, zc_z V pd, yl, ys, yr, kd, fl, yd, ye, yn, vs, vv, ns, nv)) : ∃ f, wY_compile_132 post MV MN MI (nI V) nc no ph ve fa f 0 rl ck qn pd yl ys yr kd fl yd ye yn vs vv ns nv := by
  refine pk_loop (fun f i (p : Nat → Int32) => wY_compile_132 post MV MN MI (nI V) nc no ph ve fa f (nI i) rl ck qn p yl ys yr kd fl yd ye yn vs vv ns nv) (fun i p => p = zc_z i pd) V 0 pd (Nat.zero_le _) zc_z0.symm ?_ ?_
  · rintro f p rfl
    exact br_t (nI_le (Nat.le_refl _) (by omega)) h
  · rintro f i p hi rfl ih
    have ci : (nI i).toNatClampNeg = i := nI_clamp (by omega)
    exact br_f (nI_ge hi (by omega)) ⟨vp_in_nI (by omega) (by decide), nm_r (e' := zc_z (i + 1) pd) (by rw [ci, zc_zs]) (nm_r (nI_1 i) (ih _ rfl))⟩
/-- the five checks one behind another -/
theorem yc_40 {post : Int32 → SY → Prop} {V N : Nat} (hW : zp_W V N rl ck qn kd fl) (hV : V ≤ 10) (hN : N ≤ 48)
    (h1 : ∀ i, i < V → zc_f (zc_1 rl qn) i → post 1 (MV, MN, MI, nI V, nI N, no, ph, 1, nI i, rl, ck, qn, pd, yl, ys, yr, kd, fl, yd, ye, yn, vs, vv, ns, nv))
    (h2 : (∀ i, i < V → ¬ zc_1 rl qn i) → ∀ i, i < N → zc_f (fun n => ¬ yd n < 0 ∧ zt_off ck kd fl yd n) i → post 2 (MV, MN, MI, nI V, nI N, no, ph, 2, nI i, rl, ck, qn, pd, yl, ys, yr, kd, fl, yd, ye, yn, vs, vv, ns, nv))
    (h3 : (∀ i, i < V → ¬ zc_1 rl qn i) → (∀ i, i < N → ¬ (¬ yd i < 0 ∧ zt_off ck kd fl yd i)) → ∀ i, i < V → zc_f (fun v => ys v = 0) i → post 3 (MV, MN, MI, nI V, nI N, no, ph, 3, nI i, rl, ck, qn, pd, yl, ys, yr, kd, fl, yd, ye, yn, vs, vv, ns, nv))
    (h4 : (∀ i, i < V → ¬ zc_1 rl qn i) → (∀ i, i < N → ¬ (¬ yd i < 0 ∧ zt_off ck kd fl yd i)) → (∀ i, i < V → ¬ ys i = 0) → ∀ i, i < V → zc_f (fun v => ¬ yl v = 0 ∧ zl_ck V N ck kd fl (fun n => ¬ yd n < 0) v) i → post 4 (MV, MN, MI, nI V, nI N, no, ph, 4, nI i, rl, ck, qn, pd, yl, ys, yr, kd, fl, yd, ye, yn, vs, vv, ns, nv))
    (h5 : (∀ i, i < V → ¬ zc_1 rl qn i) → (∀ i, i < N → ¬ (¬ yd i < 0 ∧ zt_off ck kd fl yd i)) → (∀ i, i < V → ¬ ys i = 0) → (∀ i, i < V → ¬ (¬ yl i = 0 ∧ zl_ck V N ck kd fl (fun n => ¬ yd n < 0) i)) → ∀ i, i < N → zc_f (fun n => ¬ yd n < 0 ∧ zc_5 kd fl yn n) i → post 5 (MV, MN, MI, nI V, nI N, no, ph, 5, nI i, rl, ck, qn, pd, yl, ys, yr, kd, fl, yd, ye, yn, vs, vv, ns, nv))
    (h6 : (∀ i, i < V → ¬ zc_1 rl qn i) → (∀ i, i < N → ¬ (¬ yd i < 0 ∧ zt_off ck kd fl yd i)) → (∀ i, i < V → ¬ ys i = 0) → (∀ i, i < V → ¬ (¬ yl i = 0 ∧ zl_ck V N ck kd fl (fun n => ¬ yd n < 0) i)) → (∀ i, i < N → ¬ (¬ yd i < 0 ∧ zc_5 kd fl yn i)) → post 0 (MV, MN, MI, nI V, nI N, 0, 1, 0, -1, rl, ck, qn, zc_z V pd, yl, ys, yr, kd, fl, yd, ye, yn, vs, vv, ns, nv)) :
    ∃ f, wY_compile_40 post MV MN MI (nI V) (nI N) no ph ve fa rl ck qn pd yl ys yr kd fl yd ye yn vs vv ns nv f 1 := by
  refine ⟨6, ?_⟩
  refine br_f (by decide) (br_f (by decide) (br_f (by decide) (yc_69 (c := 1) (by omega) (fun i hi q a b => yc_w1 hV hi a b) (fun p1 => ?_) h1)))
  refine br_f (by decide) (br_t (by decide) (yc_69 (c := 2) hN (fun i hi q a b => yc_w2 hW hV hN hi a b) (fun p2 => ?_) (h2 p1)))
  refine br_f (by decide) (br_f (by decide) (br_f (by decide) (yc_69 (c := 3) (by omega) (fun i hi q a b => yc_w3 hV hi a b) (fun p3 => ?_) (h3 p1 p2))))
  refine br_f (by decide) (br_f (by decide) (br_f (by decide) (yc_69 (c := 4) (by omega) (fun i hi q a b => yc_w4 hW hV hN hi a b) (fun p4 => ?_) (h4 p1 p2 p3))))
  refine br_f (by decide) (br_f (by decide) (br_t (by decide) (yc_69 (c := 5) hN (fun i hi q a b => yc_w5 hW hN hi a b) (fun p5 => ?_) (h5 p1 p2 p3 p4))))
  exact br_t (by decide) (yc_132 hV (h6 p1 p2 p3 p4 p5))
theorem yc_comp {post : Int32 → SY → Prop} {V N : Nat} (hW : zp_W V N rl ck qn kd fl) (hU : zp_U V N qn kd fl) (hV : V ≤ 10) (hN : N ≤ 48)
    (h : ∀ yd ye ys yn yl : Nat → Int32, (∀ lv ex ow de : Nat → Int32, zt_L V N ck qn kd fl lv ex ow de → ∀ n, n < N → yd n = de n ∧ ye n = zd_E ex ow n) →
      yd_ok V (zd_dp N ck kd fl ye) ys → (∀ o q, zd_o V (zd_dp N ck kd fl ye) o q → ∀ i, i < q → i < V → ys (o i) = 1) →
      (∀ (lv ex ow de NL VL : Nat → Int32) (o : Nat → Nat) (q : Nat), zl_G V N ck qn kd fl lv ex ow de NL VL o q → (∀ v, v < V → yl v = VL v) ∧ (∀ m, m < N → lv m = 1 → yn m = NL m)) →
      ∃ f, wY_compile_40 post MV MN MI (nI V) (nI N) no 0 ve fa rl ck qn pd yl ys yr kd fl yd ye yn vs vv ns nv f 1) : wpY_compile post (MV, MN, MI, nI V, nI N, no, 0, ve, fa, rl, ck, qn, pd, yl, ys, yr, kd, fl, yd, ye, yn, vs, vv, ns, nv) := by
  refine br_t rfl ?_
  refine pk_loop (fun f i (s : (Nat → Int32) × (Nat → Int32)) => wY_compile_11 post f (nI i) MV MN MI (nI V) (nI N) no 0 ve fa rl ck qn pd yl ys yr kd fl s.1 s.2 yn vs vv ns nv) (fun i s => ∀ lv ex ow de : Nat → Int32, zt_L V N ck qn kd fl lv ex ow de → ∀ n, n < i → s.1 n = de n ∧ s.2 n = zd_E ex ow n) N 0 (yd, ye) (Nat.zero_le _) (fun _ _ _ _ _ n hn => absurd hn (Nat.not_lt_zero n)) ?_ ?_
  · rintro f ⟨yd, ye⟩ hI
    dsimp only at hI
    refine br_t (nI_le (Nat.le_refl _) (by omega)) (yd_settle hW hV hN ?_)
    intro ys s1 s2
    refine yl_late hW hV hN ?_
    intro yn yl _ l2
    exact h yd ye ys yn yl hI s1 s2 l2
  · rintro f i ⟨yd, ye⟩ hi hI ih
    dsimp only at hI ih ⊢
    refine br_f (nI_ge hi (by omega)) (yt_place hW hU hV hN hi ?_)
    intro d e hde
    refine nm_r (nI_1 i) (ih (upd yd i d, upd ye i e) ?_)
    intro lv ex ow de L n hn
    dsimp only
    by_cases e' : n = i
    · rw [e', pk_us, pk_us]; exact hde lv ex ow de L
    · rw [pk_un e', pk_un e']; exact hI lv ex ow de L n (by omega)
end
end
section
/-! the component: missing, offending, dependencies, order -/
theorem zd_0 {ck kd fl E : Nat → Int32} {v w : Nat} : zd_dp 0 ck kd fl E v w ↔ (zp_n ck v ≠ 0 ∧ (zp_n ck v - 1) / 2 = w) :=
  ⟨fun h => h.elim id (fun ⟨n, hn, _⟩ => absurd hn (Nat.not_lt_zero n)), Or.inl⟩
theorem zd_S {N : Nat} {ck kd fl E : Nat → Int32} {v w : Nat} : zd_dp (N + 1) ck kd fl E v w ↔ zd_dp N ck kd fl E v w ∨ (E N = nI v ∧ (zp_n kd N = 2 ∨ 16 ≤ zp_n kd N) ∧ zp_n fl (4 * N) = w) := by
  constructor
  · rintro (h | ⟨n, hn, h⟩)
    · exact Or.inl (Or.inl h)
    · by_cases e : n = N
      · subst e; exact Or.inr h
      · exact Or.inl (Or.inr ⟨n, by omega, h⟩)
  · rintro ((h | ⟨n, hn, h⟩) | h)
    · exact Or.inl h
    · exact Or.inr ⟨n, by omega, h⟩
    · exact Or.inr ⟨N, by omega, h⟩
/-- injective below n into n: onto -/
theorem zd_pig {n : Nat} {o : Nat → Nat} (h1 : ∀ i, i < n → o i < n) (h2 : ∀ i j, i < j → j < n → o i ≠ o j) : ∀ v, v < n → ∃ i, i < n ∧ o i = v := by
  intro v hv
  have hnd : ((List.range n).map o).Nodup := by
    rw [List.nodup_iff_pairwise_ne]
    rw [List.pairwise_map]
    refine List.Pairwise.imp_of_mem ?_ (List.pairwise_lt_range (n := n))
    intro a b ha hb hab
    exact h2 a b hab (List.mem_range.mp hb)
  have := covers_all n ((List.range n).map o) hnd (by
    intro x hx
    obtain ⟨i, hi, rfl⟩ := List.mem_map.mp hx
    exact h1 i (List.mem_range.mp hi)) (by simp) v hv
  obtain ⟨i, hi, e⟩ := List.mem_map.mp this
  exact ⟨i, List.mem_range.mp hi, e⟩
section
variable {eS oS aS MV MN MI ph ve fa no vc nc oc sc bc lc pr : Int32} {rl ck qn pd kd fl us lv ex ow de nl vl di re od sA sT bC bS bE sl mV mN se nV nN pS pV : Nat → Int32}
theorem xc_miss {post : Int32 → Prop} {V : Nat} (hV : V ≤ 10) (h0 : (∀ i, i < V → ¬ zc_1 rl qn i) → post (-1)) (h1 : ∀ i, i < V → zc_f (zc_1 rl qn) i → post (nI i)) : wpX_findMissing post (eS, oS, aS, MV, MN, MI, ph, ve, fa, no, nI V, nc, oc, sc, bc, lc, pr, rl, ck, qn, pd, kd, fl, us, lv, ex, ow, de, nl, vl, di, re, od, sA, sT, bC, bS, bE, sl, mV, mN, se, nV, nN, pS, pV) := by
  unfold wpX_findMissing
  refine pk_loop (fun f i (_ : Unit) => wX_findMissing_2 post eS oS aS MV MN MI ph ve fa no (nI V) nc oc sc bc lc pr rl ck qn pd kd fl us lv ex ow de nl vl di re od sA sT bC bS bE sl mV mN se nV nN pS pV f (nI i)) (fun i _ => ∀ j, j < i → ¬ zc_1 rl qn j) V 0 () (Nat.zero_le _) (fun n hn => absurd hn (Nat.not_lt_zero n)) ?_ ?_
  · intro f _ hI
    exact br_t (nI_le (Nat.le_refl _) (by omega)) (h0 hI)
  · intro f i _ hi hI ih
    have ci : (nI i).toNatClampNeg = i := nI_clamp (by omega)
    have ii : vp_in (nI i) 10 := vp_in_nI (by omega) (by decide)
    have nx : ¬ zc_1 rl qn i → ∀ j, j < i + 1 → ¬ zc_1 rl qn j := by
      intro hn j hj
      by_cases e : j = i
      · rw [e]; exact hn
      · exact hI j (by omega)
    refine br_f (nI_ge hi (by omega)) ⟨ii, ?_⟩
    rw [ci]
    refine br_c (fun e => ⟨ii, br_c (fun e2 => nm_r (nI_1 i) (ih () (nx (fun h => ?_)))) (fun e2 => h1 i hi ⟨⟨e, Int32.not_le.mp e2⟩, hI⟩)⟩) (fun e => nm_r (nI_1 i) (ih () (nx (fun h => e h.1))))
    exact absurd h.2 (Int32.not_lt.mpr e2)
theorem xc_off {post : Int32 → Prop} {V N n : Nat} (hW : zp_W V N rl ck qn kd fl) (hV : V ≤ 10) (hN : N ≤ 48) (hn : n < N) (h1 : zt_off ck kd fl de n → post 1) (h0 : ¬ zt_off ck kd fl de n → post 0) : wpX_isOffending post (eS, oS, aS, MV, MN, MI, ph, ve, fa, no, vc, nc, oc, sc, bc, lc, pr, rl, ck, qn, pd, kd, fl, us, lv, ex, ow, de, nl, vl, di, re, od, sA, sT, bC, bS, bE, sl, mV, mN, se, nV, nN, pS, pV) (nI n) := by
  obtain ⟨n1, n2, n3, n4, n5, n6⟩ := hW.2 n hn
  have c0 : (nI n).toNatClampNeg = n := nI_clamp (by omega)
  have c1 : (nI (4 * n)).toNatClampNeg = 4 * n := nI_clamp (by omega)
  have c2 : (nI (4 * n + 1)).toNatClampNeg = 4 * n + 1 := nI_clamp (by omega)
  have i0 : vp_in (nI n) 48 := vp_in_nI (by omega) (by decide)
  have i4 : vp_in (nI (4 * n)) 192 := vp_in_nI (by omega) (by decide)
  have hb : zp_n kd n < 2 ^ 31 := by omega
  have K : (zp_n kd n = 2 ∨ zp_n kd n = 17 ∨ zp_n kd n = 18) → wX_isOffending_56 post (nI n) (fl (4 * n)) eS oS aS MV MN MI ph ve fa no vc nc oc sc bc lc pr rl ck qn pd kd fl us lv ex ow de nl vl di re od sA sT bC bS bE sl mV mN se nV nN pS pV := by
    intro hk
    obtain ⟨f1, f2⟩ := n5 (by omega)
    unfold wX_isOffending_56
    rw [c0, f1, nI_clamp (by omega)]
    refine ⟨i0, vp_in_nI (by omega) (by decide), br_c (fun e => h0 ?_) (fun e => h1 (Or.inr ⟨hk, e⟩))⟩
    rintro (⟨h, _⟩ | ⟨_, h⟩)
    · omega
    · exact h e
  unfold wpX_isOffending
  dsimp only
  rw [za_m4, nI_1 (4 * n), c0, c1, c2]
  refine ⟨i4, nm_e ⟨i0, nm_r n1 ?_⟩⟩
  by_cases k2 : zp_n kd n = 2
  · exact br_t ((zq_2 hb).mpr k2) (K (Or.inl k2))
  refine br_f (fun e => k2 ((zq_2 hb).mp e)) ?_
  by_cases k16 : zp_n kd n = 16
  · obtain ⟨f1, f2⟩ := n5 (by omega)
    obtain ⟨f3, f4⟩ := n6 (Or.inl k16)
    refine br_t ((zq_16 hb).mpr k16) ⟨i0, vp_in_nI (by omega) (by decide), ?_⟩
    rw [f1, f3, za_2m, za_1a, nI_add]
    refine br_c (fun e => h0 ?_) (fun e => h1 (Or.inl ⟨k16, e⟩))
    rintro (⟨_, h⟩ | ⟨h, _⟩)
    · exact h e
    · omega
  refine br_f (fun e => k16 ((zq_16 hb).mp e)) ?_
  by_cases k17 : zp_n kd n = 17
  · exact br_t ((zq_17 hb).mpr k17) (K (by omega))
  refine br_f (fun e => k17 ((zq_17 hb).mp e)) ?_
  by_cases k18 : zp_n kd n = 18
  · exact br_t ((zq_18 hb).mpr k18) (K (by omega))
  refine br_f (fun e => k18 ((zq_18 hb).mp e)) (h0 ?_)
  rintro (⟨h, _⟩ | ⟨h, _⟩) <;> omega
theorem xc_offs {post : Int32 → Prop} {V N : Nat} (hW : zp_W V N rl ck qn kd fl) (hV : V ≤ 10) (hN : N ≤ 48) (hL : ∀ n, n < N → lv n = 0 ∨ lv n = 1)
    (h0 : (∀ i, i < N → ¬ (lv i = 1 ∧ zt_off ck kd fl de i)) → post (-1)) (h1 : ∀ i, i < N → zc_f (fun n => lv n = 1 ∧ zt_off ck kd fl de n) i → post (nI i)) : wpX_findOffending post (eS, oS, aS, MV, MN, MI, ph, ve, fa, no, vc, nI N, oc, sc, bc, lc, pr, rl, ck, qn, pd, kd, fl, us, lv, ex, ow, de, nl, vl, di, re, od, sA, sT, bC, bS, bE, sl, mV, mN, se, nV, nN, pS, pV) := by
  unfold wpX_findOffending
  refine pk_loop (fun f i (_ : Unit) => wX_findOffending_2 post eS oS aS MV MN MI ph ve fa no vc (nI N) oc sc bc lc pr rl ck qn pd kd fl us lv ex ow de nl vl di re od sA sT bC bS bE sl mV mN se nV nN pS pV f (nI i)) (fun i _ => ∀ j, j < i → ¬ (lv j = 1 ∧ zt_off ck kd fl de j)) N 0 () (Nat.zero_le _) (fun n hn => absurd hn (Nat.not_lt_zero n)) ?_ ?_
  · intro f _ hI
    exact br_t (nI_le (Nat.le_refl _) (by omega)) (h0 hI)
  · intro f i _ hi hI ih
    have ci : (nI i).toNatClampNeg = i := nI_clamp (by omega)
    have ii : vp_in (nI i) 48 := vp_in_nI (by omega) (by decide)
    have nx : ¬ (lv i = 1 ∧ zt_off ck kd fl de i) → ∀ j, j < i + 1 → ¬ (lv j = 1 ∧ zt_off ck kd fl de j) := by
      intro hn j hj
      by_cases e : j = i
      · rw [e]; exact hn
      · exact hI j (by omega)
    refine br_f (nI_ge hi (by omega)) ⟨ii, ?_⟩
    rw [ci]
    rcases hL i hi with e | e
    · exact br_t e (nm_r (nI_1 i) (ih () (nx (fun h => by rw [e] at h; exact za_01 h.1))))
    · refine br_f (by rw [e]; exact za_10) (xc_off hW hV hN hi ?_ ?_)
      · intro ho
        exact br_f za_10 (h1 i hi ⟨⟨e, ho⟩, hI⟩)
      · intro ho
        exact br_t rfl (nm_r (nI_1 i) (ih () (nx (fun h => ho h.2))))
theorem xc_cv {post : Int32 → Prop} {c : Nat} (h1 : 1 ≤ c) (hc : c < 2 ^ 31) (h : post (nI ((c - 1) / 2))) : wpX_clockVariable post (eS, oS, aS, MV, MN, MI, ph, ve, fa, no, vc, nc, oc, sc, bc, lc, pr, rl, ck, qn, pd, kd, fl, us, lv, ex, ow, de, nl, vl, di, re, od, sA, sT, bC, bS, bE, sl, mV, mN, se, nV, nN, pS, pV) (nI c) := by
  unfold wpX_clockVariable
  dsimp only
  rw [za_s1 h1, za_d2 (by omega)]
  exact ⟨za_20, h⟩
theorem xc_nc {post : Int32 → Prop} {k : Nat} (hk : k ≤ 18) (h1 : 16 ≤ k → post 1) (h0 : ¬ 16 ≤ k → post 0) : wpX_namesClock post (eS, oS, aS, MV, MN, MI, ph, ve, fa, no, vc, nc, oc, sc, bc, lc, pr, rl, ck, qn, pd, kd, fl, us, lv, ex, ow, de, nl, vl, di, re, od, sA, sT, bC, bS, bE, sl, mV, mN, se, nV, nN, pS, pV) (nI k) := by
  have hb : k < 2 ^ 31 := by omega
  unfold wpX_namesClock
  refine br_c (fun e => h1 (by have := (zq_16 hb).mp e; omega)) (fun a => br_c (fun e => h1 (by have := (zq_17 hb).mp e; omega)) (fun b => br_c (fun e => h1 (by have := (zq_18 hb).mp e; omega)) (fun c => h0 ?_)))
  intro h
  have : k = 16 ∨ k = 17 ∨ k = 18 := by omega
  rcases this with e | e | e
  · exact a ((zq_16 hb).mpr e)
  · exact b ((zq_17 hb).mpr e)
  · exact c ((zq_18 hb).mpr e)
/-- bits of di are the dependencies -/
def zd_bits (V : Nat) (D : Nat → Nat → Prop) (di : Nat → Int32) : Prop := ∀ v w, v < V → w < 32 → (bt (di v) w = true ↔ D v w)
theorem xc_dep {post : SX → Prop} {V N : Nat} (hW : zp_W V N rl ck qn kd fl) (hV : V ≤ 10) (hN : N ≤ 48) (hL : ∀ n, n < N → zt_sh V lv ex ow de n)
    (h : ∀ di : Nat → Int32, zd_bits V (zd_dp N ck kd fl (zd_E ex ow)) di → post (eS, oS, aS, MV, MN, MI, ph, ve, fa, no, nI V, nI N, oc, sc, bc, lc, pr, rl, ck, qn, pd, kd, fl, us, lv, ex, ow, de, nl, vl, di, re, od, sA, sT, bC, bS, bE, sl, mV, mN, se, nV, nN, pS, pV)) : wpX_collectDependencies post (eS, oS, aS, MV, MN, MI, ph, ve, fa, no, nI V, nI N, oc, sc, bc, lc, pr, rl, ck, qn, pd, kd, fl, us, lv, ex, ow, de, nl, vl, di, re, od, sA, sT, bC, bS, bE, sl, mV, mN, se, nV, nN, pS, pV) := by
  unfold wpX_collectDependencies
  refine pk_loop (fun f i (di : Nat → Int32) => wX_collectDependencies_2 post eS oS aS MV MN MI ph ve fa no (nI V) (nI N) oc sc bc lc pr f (nI i) rl ck qn pd kd fl us lv ex ow de nl vl di re od sA sT bC bS bE sl mV mN se nV nN pS pV) (fun i di => zd_bits i (zd_dp 0 ck kd fl (zd_E ex ow)) di) V 0 di (Nat.zero_le _) (fun v w hv => absurd hv (Nat.not_lt_zero v)) ?_ ?_
  · intro f di hI
    refine br_t (nI_le (Nat.le_refl _) (by omega)) ?_
    refine pk_loop (fun f i (di : Nat → Int32) => wX_collectDependencies_54 post eS oS aS MV MN MI ph ve fa no (nI V) (nI N) oc sc bc lc pr f (nI i) rl ck qn pd kd fl us lv ex ow de nl vl di re od sA sT bC bS bE sl mV mN se nV nN pS pV) (fun i di => zd_bits V (zd_dp i ck kd fl (zd_E ex ow)) di) N 0 di (Nat.zero_le _) hI ?_ ?_
    · intro f di hI
      exact br_t (nI_le (Nat.le_refl _) (by omega)) (h di hI)
    · intro f i di hi hI ih
      have ci : (nI i).toNatClampNeg = i := nI_clamp (by omega)
      have ii : vp_in (nI i) 48 := vp_in_nI (by omega) (by decide)
      have c4 : (nI (4 * i)).toNatClampNeg = 4 * i := nI_clamp (by omega)
      obtain ⟨n1, n2, n3, n4, n5, n6⟩ := hW.2 i hi
      have hb : zp_n kd i < 2 ^ 31 := by omega
      have skip : (∀ v, v < V → ¬ (zd_E ex ow i = nI v ∧ (zp_n kd i = 2 ∨ 16 ≤ zp_n kd i))) → zd_bits V (zd_dp (i + 1) ck kd fl (zd_E ex ow)) di := by
        intro hn v w hv hw
        rw [hI v w hv hw, zd_S]
        exact ⟨Or.inl, fun h => h.elim id (fun h => absurd ⟨h.1, h.2.1⟩ (hn v hv))⟩
      refine br_f (nI_ge hi (by omega)) ⟨ii, ?_⟩
      rw [ci]
      have noE : ¬ ex i = 1 → ∀ v, v < V → ¬ (zd_E ex ow i = nI v ∧ (zp_n kd i = 2 ∨ 16 ≤ zp_n kd i)) := by
        intro hx v hv h
        have h1 := h.1
        unfold zd_E at h1
        rw [if_neg hx] at h1
        exact za_n1' (by omega) h1
      rcases hL i hi with ⟨e1, e2, e3, e4⟩ | ⟨e1, e2, e3, e4, e5⟩
      · exact br_t e1 (nm_r (nI_1 i) (ih di (skip (noE (by rw [e2]; exact za_01)))))
      · refine br_f (by rw [e1]; exact za_10) ⟨ii, ?_⟩
        rcases e2 with e2 | e2
        · exact br_t e2 (nm_r (nI_1 i) (ih di (skip (noE (by rw [e2]; exact za_01)))))
        · refine br_f (by rw [e2]; exact za_10) ⟨ii, nm_r n1 ?_⟩
          have K : (zp_n kd i = 2 ∨ 16 ≤ zp_n kd i) → wX_collectDependencies_100 post (wX_collectDependencies_54 post eS oS aS MV MN MI ph ve fa no (nI V) (nI N) oc sc bc lc pr f) (nI i) eS oS aS MV MN MI ph ve fa no (nI V) (nI N) oc sc bc lc pr rl ck qn pd kd fl us lv ex ow de nl vl di re od sA sT bC bS bE sl mV mN se nV nN pS pV := by
            intro hk
            obtain ⟨f1, f2⟩ := n5 hk
            have io : vp_in (nI (zp_n ow i)) 10 := vp_in_nI (by omega) (by decide)
            unfold wX_collectDependencies_100
            rw [ci, za_m4, c4, e3, f1, nI_clamp (n := zp_n ow i) (by omega)]
            refine ⟨ii, io, vp_in_nI (by omega) (by decide), io, nm_e (nm_r (nI_1 i) (ih _ ?_))⟩
            intro v w hv hw
            rw [zd_S]
            by_cases e : v = zp_n ow i
            · subst e
              rw [pk_us, zb_o (by omega) hw, Bool.or_eq_true, hI _ w hv hw, decide_eq_true_iff]
              have eE : zd_E ex ow i = nI (zp_n ow i) := by unfold zd_E; rw [if_pos e2]; exact e3
              constructor
              · rintro (h | h)
                · exact Or.inl h
                · exact Or.inr ⟨eE, hk, h.symm⟩
              · rintro (h | h)
                · exact Or.inl h
                · exact Or.inr h.2.2.symm
            · rw [pk_un e, hI v w hv hw]
              refine ⟨Or.inl, fun h => h.elim id (fun h => ?_)⟩
              have h1 := h.1
              unfold zd_E at h1
              rw [if_pos e2, e3] at h1
              exact absurd (za_inj h1 (by omega) (by omega)).symm e
          by_cases k2 : zp_n kd i = 2
          · exact br_t ((zq_2 hb).mpr k2) (K (Or.inl k2))
          · refine br_f (fun e => k2 ((zq_2 hb).mp e)) (xc_nc n3 ?_ ?_)
            · intro k16
              exact br_f za_10 (K (Or.inr k16))
            · intro k16
              exact br_t rfl (nm_r (nI_1 i) (ih di (skip (fun v hv h => by have := h.2; omega))))
  · intro f i di hi hI ih
    have ci : (nI i).toNatClampNeg = i := nI_clamp (by omega)
    have ii : vp_in (nI i) 10 := vp_in_nI (by omega) (by decide)
    have hck := (hW.1 i hi).2.1
    have hcb : zp_n ck i < 2 ^ 31 := by omega
    refine br_f (nI_ge hi (by omega)) ⟨ii, ?_⟩
    rw [ci]
    refine nm_e ⟨ii, ?_⟩
    rw [hck.1]
    have old : ∀ x : Int32, (∀ w, w < 32 → (bt x w = true ↔ zd_dp 0 ck kd fl (zd_E ex ow) i w)) → ∀ di' : Nat → Int32, (∀ v, v ≠ i → di' v = di v) → di' i = x → zd_bits (i + 1) (zd_dp 0 ck kd fl (zd_E ex ow)) di' := by
      intro x hx di' h1 h2 v w hv hw
      by_cases e : v = i
      · subst e; rw [h2]; exact hx w hw
      · rw [h1 v e]; exact hI v w (by omega) hw
    by_cases h0' : zp_n ck i = 0
    · refine br_t ((zq_0 hcb).mpr h0') (nm_r (nI_1 i) (ih _ (old 0 ?_ _ (fun v hv => pk_un hv) pk_us)))
      intro w hw
      rw [b_0, zd_0]
      exact ⟨fun h => (Bool.false_ne_true h).elim, fun h => absurd h0' h.1⟩
    · refine br_f (fun h => h0' ((zq_0 hcb).mp h)) ⟨ii, xc_cv (by omega) hcb ⟨ii, nm_e (nm_r (nI_1 i) (ih _ (old _ ?_ _ (fun v hv => by rw [pk_un hv, pk_un hv]) pk_us)))⟩⟩
      intro w hw
      rw [zb_bit (by omega) hw, zd_0, decide_eq_true_iff]
      exact ⟨fun h => ⟨h0', h.symm⟩, fun h => h.2.symm⟩
/-- variable v may be picked when m is settled -/
def zd_rdy (di : Nat → Int32) (m : Int32) (v : Nat) : Prop := bt m v = false ∧ ∀ w, w < 32 → bt (di v) w = true → bt m w = true
theorem xc_pick {post : Int32 → Prop} {V : Nat} {m lc' : Int32} (hV : V ≤ 10) (h0 : (∀ v, v < V → ¬ zd_rdy di m v) → post (-1)) (h1 : ∀ v, v < V → zd_rdy di m v → post (nI v)) : wpX_pickReady post (eS, oS, aS, MV, MN, MI, ph, ve, fa, no, nI V, nc, oc, sc, bc, lc, pr, rl, ck, qn, pd, kd, fl, us, lv, ex, ow, de, nl, vl, di, re, od, sA, sT, bC, bS, bE, sl, mV, mN, se, nV, nN, pS, pV) m lc' := by
  unfold wpX_pickReady
  refine pk_loop (fun f v (x : Int32) => wX_pickReady_5 post m lc' eS oS aS MV MN MI ph ve fa no (nI V) nc oc sc bc lc pr rl ck qn pd kd fl us lv ex ow de nl vl di re od sA sT bC bS bE sl mV mN se nV nN pS pV f x (nI v)) (fun v x => (x = -1 ∧ ∀ w, w < v → ¬ zd_rdy di m w) ∨ (∃ p, x = nI p ∧ p < V ∧ zd_rdy di m p)) V 0 (-1) (Nat.zero_le _) (Or.inl ⟨rfl, fun w hw => absurd hw (Nat.not_lt_zero w)⟩) ?_ ?_
  · rintro f x (⟨rfl, hI⟩ | ⟨p, rfl, hp, hr⟩)
    · exact br_t (nI_le (Nat.le_refl _) (by omega)) (h0 hI)
    · exact br_t (nI_le (Nat.le_refl _) (by omega)) (h1 p hp hr)
  · intro f v x hv hI ih
    have cv : (nI v).toNatClampNeg = v := nI_clamp (by omega)
    have iv : vp_in (nI v) 10 := vp_in_nI (by omega) (by decide)
    refine br_f (nI_ge hv (by omega)) ?_
    rw [zb_t (by omega)]
    have skip : ¬ zd_rdy di m v → wX_pickReady_5 post m lc' eS oS aS MV MN MI ph ve fa no (nI V) nc oc sc bc lc pr rl ck qn pd kd fl us lv ex ow de nl vl di re od sA sT bC bS bE sl mV mN se nV nN pS pV f x (nI (v + 1)) := by
      intro hn
      refine ih x ?_
      rcases hI with ⟨e, hI⟩ | hI
      · refine Or.inl ⟨e, fun w hw => ?_⟩
        by_cases e : w = v
        · rw [e]; exact hn
        · exact hI w (by omega)
      · exact Or.inr hI
    refine br_c (fun hb => ?_) (fun hb => ?_)
    · unfold wX_pickReady_28
      refine br_f za_10 ⟨iv, ?_⟩
      rw [cv, zb_sub]
      refine br_c (fun hd => ⟨iv, br_c (fun _ => h1 v hv ⟨hb, hd⟩) (fun _ => br_c (fun hx => nm_r (nI_1 v) (ih x ?_)) (fun hx => nm_r (nI_1 v) (ih (nI v) (Or.inr ⟨v, rfl, hv, hb, hd⟩))))⟩) (fun hd => nm_r (nI_1 v) (skip (fun h => hd h.2)))
      rcases hI with ⟨e, _⟩ | hI
      · rw [e] at hx; exact absurd hx za_m1
      · exact Or.inr hI
    · unfold wX_pickReady_28
      exact br_t rfl (nm_r (nI_1 v) (skip (fun h => hb h.1)))
/-- the order found so far and the mask of what it holds -/
def zd_M (V : Nat) (D : Nat → Nat → Prop) (od : Nat → Int32) (m : Int32) (q : Nat) : Prop :=
  (∀ i, i < q → od i = nI (zp_n od i)) ∧ zd_o V D (zp_n od) q ∧ (∀ i j, i < j → j < q → zp_n od i ≠ zp_n od j) ∧ (∀ v, v < 32 → (bt m v = true ↔ ∃ i, i < q ∧ zp_n od i = v))
/-- what the order leaves out can't be added -/
def zd_C (V : Nat) (D : Nat → Nat → Prop) (o : Nat → Nat) (q : Nat) : Prop := ∀ v, v < V → (∀ w, D v w → ∃ i, i < q ∧ o i = w) → ∃ i, i < q ∧ o i = v
theorem zd_Ms {V : Nat} {D : Nat → Nat → Prop} {od di : Nat → Int32} {m : Int32} {q v : Nat} (hV : V ≤ 10) (hD : ∀ v w, v < V → D v w → w < V) (hb : zd_bits V D di) (hv : v < V) (hr : zd_rdy di m v) (h : zd_M V D od m q) :
    zd_M V D (upd od q (nI v)) (m ||| ((1 : Int32) <<< (nI v &&& 31))) (q + 1) := by
  obtain ⟨h1, ⟨h2, h3⟩, h4, h5⟩ := h
  have eo : ∀ i, i < q → zp_n (upd od q (nI v)) i = zp_n od i := fun i hi => zp_nu (by omega)
  have eq' : zp_n (upd od q (nI v)) q = v := by rw [zp_nx, nI_clamp (by omega)]
  have hnew : ∀ i, i < q → zp_n od i ≠ v := by
    intro i hi e
    have := (h5 v (by omega)).mpr ⟨i, hi, e⟩
    rw [hr.1] at this
    exact Bool.false_ne_true this
  refine ⟨?_, ⟨?_, ?_⟩, ?_, ?_⟩
  · intro i hi
    by_cases e : i = q
    · rw [e, eq', pk_us]
    · rw [eo i (by omega), pk_un e]; exact h1 i (by omega)
  · intro i hi
    by_cases e : i = q
    · rw [e, eq']; exact hv
    · rw [eo i (by omega)]; exact h2 i (by omega)
  · intro i w hi hd
    by_cases e : i = q
    · rw [e, eq'] at hd
      have hw := hD v w hv hd
      have := hr.2 w (by omega) ((hb v w hv (by omega)).mpr hd)
      obtain ⟨i', a, b⟩ := (h5 w (by omega)).mp this
      exact ⟨i', by omega, by rw [eo i' a]; exact b⟩
    · rw [eo i (by omega)] at hd
      obtain ⟨i', a, b⟩ := h3 i w (by omega) hd
      exact ⟨i', a, by rw [eo i' (by omega)]; exact b⟩
  · intro i j hij hj
    rw [eo i (by omega)]
    by_cases e : j = q
    · rw [e, eq']; exact hnew i (by omega)
    · rw [eo j (by omega)]; exact h4 i j hij (by omega)
  · intro w hw
    rw [zb_o (by omega) hw, Bool.or_eq_true, decide_eq_true_iff, h5 w hw]
    constructor
    · rintro (⟨i, a, b⟩ | e)
      · exact ⟨i, by omega, by rw [eo i a]; exact b⟩
      · exact ⟨q, by omega, by rw [eq', e]⟩
    · rintro ⟨i, a, b⟩
      by_cases e : i = q
      · rw [e, eq'] at b; exact Or.inr b.symm
      · rw [eo i (by omega)] at b; exact Or.inl ⟨i, by omega, b⟩
theorem zd_MC {V : Nat} {D : Nat → Nat → Prop} {od di : Nat → Int32} {m : Int32} {q : Nat} (hV : V ≤ 10) (hD : ∀ v w, v < V → D v w → w < V) (hb : zd_bits V D di) (h : zd_M V D od m q) (hn : ∀ v, v < V → ¬ zd_rdy di m v) : zd_C V D (zp_n od) q := by
  intro v hv hw
  have h5 := h.2.2.2
  rw [← h5 v (by omega)]
  cases e : bt m v with
  | true => rfl
  | false =>
    exact absurd ⟨e, fun w hw32 hd => (h5 w hw32).mpr (hw w ((hb v w hv hw32).mp hd))⟩ (hn v hv)
theorem zd_CM {V : Nat} {D : Nat → Nat → Prop} {od di : Nat → Int32} {m : Int32} {q : Nat} (hV : V ≤ 10) (hD : ∀ v w, v < V → D v w → w < V) (hb : zd_bits V D di) (h : zd_M V D od m q) (hc : zd_C V D (zp_n od) q) : ∀ v, v < V → ¬ zd_rdy di m v := by
  intro v hv hr
  have h5 := h.2.2.2
  have := hc v hv (fun w hd => (h5 w (by have := hD v w hv hd; omega)).mp (hr.2 w (by have := hD v w hv hd; omega) ((hb v w hv (by have := hD v w hv hd; omega)).mpr hd)))
  have := (h5 v (by omega)).mpr this
  rw [hr.1] at this
  exact Bool.false_ne_true this
theorem xc_ord {post : Int32 → SX → Prop} {V N : Nat} {D : Nat → Nat → Prop} (hV : V ≤ 10) (hD : ∀ v w, v < V → D v w → w < V) (hb : zd_bits V D di)
    (h0 : ∀ (od : Nat → Int32) (q : Nat), (∀ i, i < q → od i = nI (zp_n od i)) → (∀ i j, i < j → j < q → zp_n od i ≠ zp_n od j) → zd_o V D (zp_n od) q → zd_cov V (zp_n od) q → post (-1) (eS, oS, aS, MV, MN, MI, ph, ve, fa, no, nI V, nI N, nI q, sc, bc, lc, pr, rl, ck, qn, pd, kd, fl, us, lv, ex, ow, de, nl, vl, di, re, od, sA, sT, bC, bS, bE, sl, mV, mN, se, nV, nN, pS, pV))
    (h1 : ∀ (od : Nat → Int32) (q : Nat), zd_o V D (zp_n od) q → q ≤ V → zd_C V D (zp_n od) q → ∀ i, i < V → zc_f (fun v => ¬ ∃ i, i < q ∧ zp_n od i = v) i → post (nI i) (eS, oS, aS, MV, MN, MI, ph, ve, fa, no, nI V, nI N, nI q, sc, bc, lc, pr, rl, ck, qn, pd, kd, fl, us, lv, ex, ow, de, nl, vl, di, re, od, sA, sT, bC, bS, bE, sl, mV, mN, se, nV, nN, pS, pV)) : wpX_settleVariables post (eS, oS, aS, MV, MN, MI, ph, ve, fa, no, nI V, nI N, oc, sc, bc, lc, pr, rl, ck, qn, pd, kd, fl, us, lv, ex, ow, de, nl, vl, di, re, od, sA, sT, bC, bS, bE, sl, mV, mN, se, nV, nN, pS, pV) := by
  unfold wpX_settleVariables
  refine pk_loop (fun f k (s : Int32 × Int32 × Int32 × (Nat → Int32)) => wX_settleVariables_11 post eS oS aS MV MN MI ph ve fa no (nI V) (nI N) sc bc lc pr f s.1 s.2.1 (nI k) s.2.2.1 rl ck qn pd kd fl us lv ex ow de nl vl di re s.2.2.2 sA sT bC bS bE sl mV mN se nV nN pS pV)
    (fun k s => ∃ q, s.2.2.1 = nI q ∧ q ≤ k ∧ zd_M V D s.2.2.2 s.1 q ∧ (q = k ∨ zd_C V D (zp_n s.2.2.2) q)) V 0 (0, 0, 0, od) (Nat.zero_le _) ?_ ?_ ?_
  · refine ⟨0, rfl, Nat.le_refl _, ⟨fun i hi => absurd hi (Nat.not_lt_zero i), ⟨fun i hi => absurd hi (Nat.not_lt_zero i), fun i w hi => absurd hi (Nat.not_lt_zero i)⟩, fun i j _ hj => absurd hj (Nat.not_lt_zero j), ?_⟩, Or.inl rfl⟩
    intro v hv
    dsimp only
    rw [b_0]
    exact ⟨fun h => (Bool.false_ne_true h).elim, fun ⟨i, hi, _⟩ => absurd hi (Nat.not_lt_zero i)⟩
  · rintro f ⟨m, x2, oc, od⟩ ⟨q, hq, hqV, hM, hc⟩
    dsimp only at hq hM hc ⊢
    subst hq
    have hC : zd_C V D (zp_n od) q := by
      rcases hc with e | hc
      · subst e
        intro v hv _
        exact zd_pig hM.2.1.1 hM.2.2.1 v hv
      · exact hc
    refine br_t (nI_le (Nat.le_refl _) (by omega)) ?_
    refine pk_loop (fun f v (_ : Unit) => wX_settleVariables_76 post m eS oS aS MV MN MI ph ve fa no (nI V) (nI N) (nI q) sc bc lc pr rl ck qn pd kd fl us lv ex ow de nl vl di re od sA sT bC bS bE sl mV mN se nV nN pS pV f (nI v)) (fun i _ => ∀ v, v < i → ∃ j, j < q ∧ zp_n od j = v) V 0 () (Nat.zero_le _) (fun v hv => absurd hv (Nat.not_lt_zero v)) ?_ ?_
    · intro f _ hI
      exact br_t (nI_le (Nat.le_refl _) (by omega)) (h0 od q hM.1 hM.2.2.1 hM.2.1 ⟨hqV, hI⟩)
    · intro f v _ hv hI ih
      refine br_f (nI_ge hv (by omega)) ?_
      rw [zb_t (by omega)]
      refine br_c (fun e => h1 od q hM.2.1 hqV hC v hv ⟨?_, ?_⟩) (fun e => nm_r (nI_1 v) (ih () ?_))
      · intro hx
        have := (hM.2.2.2 v (by omega)).mpr hx
        rw [e] at this
        exact Bool.false_ne_true this
      · intro j hj hn
        exact hn (hI j hj)
      · intro w hw
        by_cases e' : w = v
        · subst e'
          refine (hM.2.2.2 w (by omega)).mp ?_
          cases e2 : bt m w with
          | true => rfl
          | false => exact absurd e2 e
        · exact hI w (by omega)
  · rintro f k ⟨m, x2, oc, od⟩ hk ⟨q, hq, hqk, hM, hc⟩ ih
    dsimp only at hq hM hc ih ⊢
    subst hq
    refine br_f (nI_ge hk (by omega)) (xc_pick hV ?_ ?_)
    · intro hn
      exact br_t za_m0 (nm_r (nI_1 k) (ih (m, x2, nI q, od) ⟨q, rfl, by omega, hM, Or.inr (zd_MC hV hD hb hM hn)⟩))
    · intro v hv hr
      have hqk' : q = k := by
        rcases hc with e | hc
        · exact e
        · exact absurd hr (zd_CM hV hD hb hM hc v hv)
      have cq : (nI q).toNatClampNeg = q := nI_clamp (by omega)
      refine br_f (nI_pos (by omega)) (nm_e ⟨vp_in_nI (by omega) (by decide), nm_e ⟨vp_in_nI (by omega) (by decide), ?_⟩⟩)
      rw [cq]
      exact nm_e (nm_r (nI_1 q) (nm_r (nI_1 k) (ih (_, _, _, upd od q (nI v)) ⟨q + 1, rfl, by omega, zd_Ms hV hD hb hv hr hM, Or.inl (by omega)⟩)))
end
end
section
/-! steps and blocks: pure -/
def zs_cn (p : Nat → Bool) : Nat → Nat
  | 0 => 0
  | n + 1 => zs_cn p n + (if p n = true then 1 else 0)
def zs_sm (f : Nat → Nat) : Nat → Nat
  | 0 => 0
  | n + 1 => zs_sm f n + f n
theorem zs_cnt {p : Nat → Bool} {n : Nat} (h : p n = true) : zs_cn p (n + 1) = zs_cn p n + 1 := by show _ + _ = _; rw [if_pos h]
theorem zs_cnf {p : Nat → Bool} {n : Nat} (h : ¬ p n = true) : zs_cn p (n + 1) = zs_cn p n := by show _ + _ = _; rw [if_neg h]; rfl
theorem zs_cnm {p : Nat → Bool} {a b : Nat} (h : a ≤ b) : zs_cn p a ≤ zs_cn p b := by
  induction b with
  | zero => rw [show a = 0 by omega]; exact Nat.le_refl _
  | succ b ih =>
    by_cases e : a = b + 1
    · rw [e]; exact Nat.le_refl _
    · exact Nat.le_trans (ih (by omega)) (Nat.le_add_right _ _)
theorem zs_cnl {p : Nat → Bool} {n N : Nat} (h : p n = true) (hn : n < N) : zs_cn p n + 1 ≤ zs_cn p N := by
  rw [← zs_cnt h]; exact zs_cnm hn
theorem zs_cnn (p : Nat → Bool) (N : Nat) : zs_cn p N ≤ N := by
  induction N with
  | zero => exact Nat.le_refl _
  | succ n ih => show _ + _ ≤ _; split <;> omega
theorem zs_cn2 {p q : Nat → Bool} {N : Nat} (h : ∀ n, n < N → p n = true → q n = true → False) : zs_cn p N + zs_cn q N ≤ N := by
  induction N with
  | zero => exact Nat.le_refl _
  | succ n ih =>
    have i := ih (fun n hn => h n (by omega))
    show (_ + _) + (_ + _) ≤ _
    by_cases a : p n = true
    · have b : ¬ q n = true := fun b => h n (by omega) a b
      rw [if_pos a, if_neg b]; omega
    · rw [if_neg a]; split <;> omega
theorem zs_smm {f : Nat → Nat} {a b : Nat} (h : a ≤ b) : zs_sm f a ≤ zs_sm f b := by
  induction b with
  | zero => rw [show a = 0 by omega]; exact Nat.le_refl _
  | succ b ih =>
    by_cases e : a = b + 1
    · rw [e]; exact Nat.le_refl _
    · exact Nat.le_trans (ih (by omega)) (Nat.le_add_right _ _)
theorem zs_smc {p : Nat → Nat → Bool} {n : Nat} : ∀ q, zs_sm (fun i => zs_cn (p i) (n + 1)) q = zs_sm (fun i => zs_cn (p i) n) q + zs_sm (fun i => if p i n = true then 1 else 0) q := by
  intro q
  induction q with
  | zero => rfl
  | succ q ih => show _ + (_ + _) = (_ + _) + (_ + _); rw [ih]; dsimp only; omega
theorem zs_sm0 {f : Nat → Nat} {q : Nat} (h : ∀ i, i < q → f i = 0) : zs_sm f q = 0 := by
  induction q with
  | zero => rfl
  | succ q ih => show _ + _ = 0; rw [ih (fun i hi => h i (by omega)), h q (by omega)]
theorem zs_sm1 {p : Nat → Bool} {q : Nat} (h : ∀ i j, i < j → j < q → p i = true → p j = true → False) : zs_sm (fun i => if p i = true then 1 else 0) q ≤ 1 := by
  induction q with
  | zero => exact Nat.zero_le _
  | succ q ih =>
    show _ + _ ≤ 1
    dsimp only
    by_cases a : p q = true
    · rw [if_pos a, zs_sm0]
      · omega
      · intro i hi
        rw [if_neg]
        exact fun b => h i q hi (by omega) b a
    · rw [if_neg a]; exact ih (fun i j hij hj => h i j hij (by omega))
/-- a sum of counts of disjoint sets within e -/
theorem zs_smd {p : Nat → Nat → Bool} {e : Nat → Bool} {N q : Nat} (h1 : ∀ i n, i < q → n < N → p i n = true → e n = true) (h2 : ∀ n, n < N → ∀ i j, i < j → j < q → p i n = true → p j n = true → False) : zs_sm (fun i => zs_cn (p i) N) q ≤ zs_cn e N := by
  induction N with
  | zero => rw [zs_sm0 (f := fun i => zs_cn (p i) 0) (fun i _ => rfl)]; exact Nat.zero_le _
  | succ n ih =>
    rw [zs_smc]
    have i := ih (fun i m hi hm => h1 i m hi (by omega)) (fun m hm => h2 m (by omega))
    show _ ≤ _ + _
    by_cases a : e n = true
    · rw [if_pos a]
      have := zs_sm1 (p := fun i => p i n) (q := q) (h2 n (by omega))
      omega
    · rw [if_neg a, zs_sm0 (f := fun i => if p i n = true then 1 else 0)]
      · omega
      · intro i hi
        rw [if_neg]
        exact fun b => a (h1 i n hi (by omega) b)
/-! one more step -/
section
variable {V N S B c x : Nat} {a : Int32} {ck qn kd fl lv de sA sT bC bS bE : Nat → Int32}
theorem zs_hu {s y : Nat} {b X : Int32} (hs : s ≤ S) : zs_has (upd sA S a) (upd sT S X) s b y ↔ zs_has sA sT s b y := by
  constructor
  · rintro ⟨s', h1, h2, h3⟩
    rw [pk_un (by omega)] at h2 h3
    exact ⟨s', h1, h2, h3⟩
  · rintro ⟨s', h1, h2, h3⟩
    exact ⟨s', h1, by rw [pk_un (by omega)]; exact h2, by rw [pk_un (by omega)]; exact h3⟩
theorem zs_hm {y : Nat} {b X : Int32} (h : zs_has sA sT S b y) : zs_has (upd sA S a) (upd sT S X) (S + 1) b y := by
  obtain ⟨s', h1, h2, h3⟩ := h
  exact ⟨s', by omega, by rw [pk_un (by omega)]; exact h2, by rw [pk_un (by omega)]; exact h3⟩
theorem zs_hn : zs_has (upd sA S a) (upd sT S (nI x)) (S + 1) a x := ⟨S, by omega, pk_us, pk_us⟩
theorem zs_ou {s y : Nat} {b X : Int32} (hs : s ≤ S) (h : zs_ok V N ck qn kd fl lv de sA sT s b y) : zs_ok V N ck qn kd fl lv de (upd sA S a) (upd sT S X) s b y := by
  rcases h with ⟨h1, h2, h3, h4, h5, h6⟩ | ⟨h1, h2, h3, h4⟩ | ⟨h1, h2, h3, h4, h5, h6⟩
  · exact Or.inl ⟨h1, h2, h3, fun e => (zs_hu hs).mpr (h4 e), fun e => (zs_hu hs).mpr (h5 e), fun e j hj => (zs_hu hs).mpr (h6 e j hj)⟩
  · exact Or.inr (Or.inl ⟨h1, h2, fun e => (zs_hu hs).mpr (h3 e), fun r o => (zs_hu hs).mpr (h4 r o)⟩)
  · exact Or.inr (Or.inr ⟨h1, h2, h3, h4, fun e => (zs_hu hs).mpr (h5 e), (zs_hu hs).mpr h6⟩)
theorem zs_Su (hx : x < 48) (hok : zs_ok V N ck qn kd fl lv de sA sT S a x) (h : zs_S V N ck qn kd fl lv de sA sT S) : zs_S V N ck qn kd fl lv de (upd sA S a) (upd sT S (nI x)) (S + 1) := by
  intro s hs
  by_cases e : s = S
  · subst e
    rw [zp_nx, pk_us, pk_us, nI_clamp (by omega)]
    exact ⟨rfl, hx, zs_ou (Nat.le_refl _) hok⟩
  · rw [zp_nu e, pk_un e, pk_un e]
    obtain ⟨h1, h2, h3⟩ := h s (by omega)
    exact ⟨h1, h2, zs_ou (by omega) h3⟩
def zs_cc (ck de : Nat → Int32) (a : Int32) (x : Nat) : Nat := if a = 1 then zp_n ck x else zp_n de x
theorem zs_cu {s : Nat} (hs : s < S) {X : Int32} : zs_c ck de (upd sA S a) (upd sT S X) s = zs_c ck de sA sT s := by
  unfold zs_c; rw [zp_nu (by omega), pk_un (by omega)]
theorem zs_cx (hx : x < 48) : zs_c ck de (upd sA S a) (upd sT S (nI x)) S = zs_cc ck de a x := by
  unfold zs_c zs_cc; rw [zp_nx, pk_us, nI_clamp (by omega)]
theorem zs_B1 {C C' : Nat → Nat} (hS : S < 106) (hB : 0 < B) (he : zp_n bC (B - 1) = c) (h1 : ∀ s, s < S → C' s = C s) (h2 : C' S = c) (h : zs_B S B C bC bS bE) : zs_B (S + 1) B C' bC bS (upd bE (B - 1) (nI (S + 1))) := by
  obtain ⟨g1, g2, g3, g4, g5⟩ := h
  refine ⟨by omega, fun e => by omega, fun _ => ⟨(g3 hB).1, pk_us⟩, ?_, ?_⟩
  · intro b hb
    rw [pk_un (by omega)]; exact g4 b hb
  · intro b hb
    obtain ⟨k1, k2, k3, k4, k5, k6⟩ := g5 b hb
    by_cases e : b = B - 1
    · subst e
      have eE : zp_n bE (B - 1) = S := zp_nI (g3 hB).2 (by omega)
      rw [zp_nx, pk_us, nI_clamp (by omega)]
      refine ⟨k1, rfl, k3, by omega, Nat.le_refl _, ?_⟩
      intro s hs1 hs2
      by_cases e : s = S
      · rw [e, h2, he]
      · rw [h1 s (by omega)]; exact k6 s hs1 (by omega)
    · rw [zp_nu e, pk_un e]
      refine ⟨k1, k2, k3, k4, by omega, ?_⟩
      intro s hs1 hs2
      rw [h1 s (by omega)]; exact k6 s hs1 hs2
theorem zs_B2 {C C' : Nat → Nat} (hS : S < 106) (hc : c < 2 ^ 31) (h1 : ∀ s, s < S → C' s = C s) (h2 : C' S = c) (h : zs_B S B C bC bS bE) : zs_B (S + 1) (B + 1) C' (upd bC B (nI c)) (upd bS B (nI S)) (upd bE B (nI (S + 1))) := by
  obtain ⟨g1, g2, g3, g4, g5⟩ := h
  refine ⟨by omega, fun e => by omega, fun _ => ⟨?_, pk_us⟩, ?_, ?_⟩
  · by_cases e : B = 0
    · rw [e, pk_us, g2 e]; rfl
    · rw [pk_un (by omega)]; exact (g3 (by omega)).1
  · intro b hb
    by_cases e : b + 1 = B
    · rw [e, pk_us, pk_un (by omega)]
      have := (g3 (by omega)).2
      rw [show B - 1 = b by omega] at this
      exact this.symm
    · rw [pk_un e, pk_un (by omega)]; exact g4 b (by omega)
  · intro b hb
    by_cases e : b = B
    · subst e
      rw [zp_nx, zp_nx, zp_nx, pk_us, pk_us, pk_us, nI_clamp (by omega), nI_clamp (by omega), nI_clamp hc]
      refine ⟨rfl, rfl, rfl, by omega, Nat.le_refl _, ?_⟩
      intro s hs1 hs2
      rw [show s = S by omega, h2]
    · rw [zp_nu e, zp_nu e, zp_nu e, pk_un e, pk_un e, pk_un e]
      obtain ⟨k1, k2, k3, k4, k5, k6⟩ := g5 b (by omega)
      refine ⟨k1, k2, k3, k4, by omega, ?_⟩
      intro s hs1 hs2
      rw [h1 s (by omega)]; exact k6 s hs1 hs2
def zs_I (V N : Nat) (ck qn kd fl lv de sA sT bC bS bE : Nat → Int32) (S B : Nat) : Prop :=
  zs_S V N ck qn kd fl lv de sA sT S ∧ zs_B S B (zs_c ck de sA sT) bC bS bE
end
/-- the clock of an exposed node is governed by what its owner depends on -/
theorem zt_CR {V N : Nat} {rl ck qn kd fl lv ex ow de : Nat → Int32} (hW : zp_W V N rl ck qn kd fl) (hV : V ≤ 10) (hL : zt_L V N ck qn kd fl lv ex ow de) :
    ∀ (d n : Nat), N - n ≤ d → n < N → lv n = 1 → ex n = 1 → zp_n de n ≠ 0 →
      zd_dp N ck kd fl (zd_E ex ow) (zp_n ow n) ((zp_n de n - 1) / 2) ∨ ∃ c, zd_dp N ck kd fl (zd_E ex ow) (zp_n ow n) c ∧ zd_dp N ck kd fl (zd_E ex ow) c ((zp_n de n - 1) / 2) := by
  intro d
  induction d with
  | zero => intro n h hn; omega
  | succ d ih =>
    intro n hd hn hl hx hz
    rcases hL.2.2.2 n hn hl with ⟨v, o⟩ | ⟨m, j, p, _⟩
    · obtain ⟨r1, r2, r3, r4⟩ := hL.2.1 n v o
      have hv := o.1
      have ev : zp_n ow n = v := zp_nI r3 (by omega)
      have ed : zp_n de n = zp_n ck v := congrArg Int32.toNatClampNeg r4
      rw [ev, ed]
      rw [ed] at hz
      exact Or.inl (Or.inl ⟨hz, rfl⟩)
    · obtain ⟨q1, q2, q3, q4⟩ := hL.2.2.1 n m j p trivial
      have hm := p.1
      have hnm := zp_Pa hW p
      have h5 : zp_n kd m ≠ 5 := by
        intro h5
        rw [if_pos h5, hx] at q3
        exact za_10 q3
      rw [if_neg h5, hx] at q3
      have lm : lv m = 1 := by rw [← q1]; exact hl
      have shm := hL.1 m hm
      rcases shm with s | ⟨s1, s2, s3, s4, s5, s6⟩
      · rw [lm] at s; exact absurd s.1 za_10
      have eo : zp_n ow n = zp_n ow m := congrArg Int32.toNatClampNeg q2
      have ocl := zt_ocl (de := de) hW hm p.2.1 s6
      have ed : zp_n de n = zt_oc ck kd fl de m j := zp_nI (q4 lm) (by omega)
      have eE : zd_E ex ow m = nI (zp_n ow m) := by unfold zd_E; rw [if_pos q3.symm]; exact s3
      have w := hW.2 m hm
      rw [eo]
      have hoc : zt_oc ck kd fl de m j = if zp_n kd m = 16 then zp_n ck (zp_n fl (4 * m)) else if zp_n kd m = 17 then 1 + 2 * zp_n fl (4 * m) + (1 - j) else if zp_n kd m = 18 then 1 + 2 * zp_n fl (4 * m) + zp_n fl (4 * m + 1) else zp_n de m := rfl
      by_cases k16 : zp_n kd m = 16
      · rw [if_pos k16] at hoc
        right
        refine ⟨zp_n fl (4 * m), Or.inr ⟨m, hm, eE, Or.inr (by omega), rfl⟩, Or.inl ⟨?_, ?_⟩⟩
        · rw [← hoc, ← ed]; exact hz
        · rw [← hoc, ← ed]
      · rw [if_neg k16] at hoc
        by_cases k17 : zp_n kd m = 17
        · rw [if_pos k17] at hoc
          left
          exact Or.inr ⟨m, hm, eE, Or.inr (by omega), by omega⟩
        · rw [if_neg k17] at hoc
          by_cases k18 : zp_n kd m = 18
          · rw [if_pos k18] at hoc
            have := (w.2.2.2.2.2 (Or.inr k18)).2
            left
            exact Or.inr ⟨m, hm, eE, Or.inr (by omega), by omega⟩
          · rw [if_neg k18] at hoc
            rw [ed, hoc]
            exact ih m (by omega) hm lm q3.symm (by rw [← hoc, ← ed]; exact hz)
end
section
/-! buildSteps -/
section
variable {V N S q i n : Nat} {rl ck qn kd fl lv ex ow de sA sT : Nat → Int32} {o : Nat → Nat}
theorem zs_okE (hW : zp_W V N rl ck qn kd fl) (hV : V ≤ 10) (hL : zt_L V N ck qn kd fl lv ex ow de) (ho : zd_o V (zd_dp N ck kd fl (zd_E ex ow)) o q) (hi : i < q) (hn : n < N) (hl : lv n = 1) (hx : ex n = 1) (hw : ow n = nI (o i))
    (h1 : ∀ i', i' < i → zs_has sA sT S 1 (o i')) (h2 : ∀ m, m < n → lv m = 1 → ex m = 1 → ow m = nI (o i) → zs_has sA sT S 0 m) : zs_ok V N ck qn kd fl lv de sA sT S 0 n := by
  have hov := ho.1 i hi
  have eo : zp_n ow n = o i := zp_nI hw (by omega)
  have eE : zd_E ex ow n = nI (o i) := by unfold zd_E; rw [if_pos hx]; exact hw
  have dep : ∀ w, (zd_dp N ck kd fl (zd_E ex ow)) (o i) w → ∃ i', i' < i ∧ o i' = w := fun w d => ho.2 i w hi d
  refine Or.inl ⟨rfl, hn, hl, ?_, ?_, ?_⟩
  · intro hz
    rcases zt_CR hW hV hL N n (by omega) hn hl hx hz with d | ⟨c, d1, d2⟩
    · rw [eo] at d
      obtain ⟨i', a, b⟩ := dep _ d
      rw [← b]; exact h1 i' a
    · rw [eo] at d1
      obtain ⟨i', a, b⟩ := dep _ d1
      rw [← b] at d2
      obtain ⟨i'', a', b'⟩ := ho.2 i' _ (by omega) d2
      rw [← b']; exact h1 i'' (by omega)
  · intro hk
    obtain ⟨i', a, b⟩ := dep _ (Or.inr ⟨n, hn, eE, hk, rfl⟩)
    rw [← b]; exact h1 i' a
  · intro k5 j hj
    have hp : zp_P N kd fl (zp_op kd fl n j) n j := ⟨hn, hj, rfl⟩
    obtain ⟨q1, q2, q3, q4⟩ := hL.2.2.1 _ n j hp trivial
    exact h2 _ (zp_Pa hW hp) (by rw [q1]; exact hl) (by rw [q3, if_neg k5]; exact hx) (by rw [q2]; exact hw)
theorem zs_okS (hW : zp_W V N rl ck qn kd fl) (hL : zt_L V N ck qn kd fl lv ex ow de) (ho : zd_o V (zd_dp N ck kd fl (zd_E ex ow)) o q) (hi : i < q)
    (h1 : ∀ i', i' < i → zs_has sA sT S 1 (o i')) (h2 : ∀ m, m < N → lv m = 1 → ex m = 1 → ow m = nI (o i) → zs_has sA sT S 0 m) : zs_ok V N ck qn kd fl lv de sA sT S 1 (o i) := by
  refine Or.inr (Or.inl ⟨rfl, ho.1 i hi, ?_, ?_⟩)
  · intro hz
    obtain ⟨i', a, b⟩ := ho.2 i _ hi (Or.inl ⟨hz, rfl⟩)
    rw [← b]; exact h1 i' a
  · intro r hr
    obtain ⟨r1, r2, r3, r4⟩ := hL.2.1 r _ hr
    exact h2 r (zp_Oa hW hr) r1 r2 r3
theorem zs_okU (hW : zp_W V N rl ck qn kd fl) (hL : zt_L V N ck qn kd fl lv ex ow de) (hn : n < N) (hl : lv n = 1) (hx : ex n = 0)
    (h1 : ∀ v, v < V → zs_has sA sT S 1 v) (h2 : ∀ m, m < n → lv m = 1 → ex m = 0 → zs_has sA sT S 0 m) : zs_ok V N ck qn kd fl lv de sA sT S 0 n := by
  have sh := hL.1 n hn
  rcases sh with s | ⟨s1, s2, s3, s4, s5, s6⟩
  · rw [hl] at s; exact absurd s.1 za_10
  refine Or.inl ⟨rfl, hn, hl, fun hz => h1 _ (by omega), fun hk => h1 _ ((hW.2 n hn).2.2.2.2.1 hk).2, ?_⟩
  intro k5 j hj
  have hp : zp_P N kd fl (zp_op kd fl n j) n j := ⟨hn, hj, rfl⟩
  obtain ⟨q1, q2, q3, q4⟩ := hL.2.2.1 _ n j hp trivial
  exact h2 _ (zp_Pa hW hp) (by rw [q1]; exact hl) (by rw [q3, if_neg k5]; exact hx)
theorem zs_okP (hW : zp_W V N rl ck qn kd fl) (hL : zt_L V N ck qn kd fl lv ex ow de) (hn : n < N) (hl : lv n = 1) (hk : zp_n kd n = 5)
    (h1 : ∀ v, v < V → zs_has sA sT S 1 v) (h2 : ∀ m, m < N → lv m = 1 → zs_has sA sT S 0 m) : zs_ok V N ck qn kd fl lv de sA sT S 2 n := by
  have sh := hL.1 n hn
  rcases sh with s | ⟨s1, s2, s3, s4, s5, s6⟩
  · rw [hl] at s; exact absurd s.1 za_10
  have hp : zp_P N kd fl (zp_op kd fl n 0) n 0 := ⟨hn, by rw [hk]; decide, rfl⟩
  obtain ⟨q1, q2, q3, q4⟩ := hL.2.2.1 _ n 0 hp trivial
  refine Or.inr (Or.inr ⟨rfl, hn, hl, hk, fun hz => h1 _ (by omega), h2 _ (by have := zp_Pa hW hp; omega) (by rw [q1]; exact hl)⟩)
end
section
variable {eS oS aS MV MN MI ph ve fa no vc nc oc sc bc lc pr : Int32} {rl ck qn pd kd fl us lv ex ow de nl vl di re od sA sT bC bS bE sl mV mN se nV nN pS pV : Nat → Int32}
theorem xb_add {post : SX → Prop} {V N S B x : Nat} {a : Int32} (hS : S < 106) (hx : x < 48) (hI : zs_I V N ck qn kd fl lv de sA sT bC bS bE S B) (hok : zs_ok V N ck qn kd fl lv de sA sT S a x) (hc : zs_cc ck de a x < 2 ^ 31)
    (h : ∀ (B' : Nat) (bC bS bE : Nat → Int32), zs_I V N ck qn kd fl lv de (upd sA S a) (upd sT S (nI x)) bC bS bE (S + 1) B' → post (eS, oS, aS, MV, MN, MI, ph, ve, fa, no, vc, nc, oc, nI (S + 1), nI B', lc, pr, rl, ck, qn, pd, kd, fl, us, lv, ex, ow, de, nl, vl, di, re, od, upd sA S a, upd sT S (nI x), bC, bS, bE, sl, mV, mN, se, nV, nN, pS, pV)) :
    wpX_addStep post (eS, oS, aS, MV, MN, MI, ph, ve, fa, no, vc, nc, oc, nI S, nI B, lc, pr, rl, ck, qn, pd, kd, fl, us, lv, ex, ow, de, nl, vl, di, re, od, sA, sT, bC, bS, bE, sl, mV, mN, se, nV, nN, pS, pV) a (nI x) (nI (zs_cc ck de a x)) := by
  obtain ⟨hSt, hB⟩ := hI
  have hBS := hB.1
  have cS : (nI S).toNatClampNeg = S := nI_clamp (by omega)
  have iS : vp_in (nI S) 106 := vp_in_nI hS (by decide)
  have K1 : 0 < B → zp_n bC (B - 1) = zs_cc ck de a x → wX_addStep_32 post a (nI x) (nI (zs_cc ck de a x)) 0 eS oS aS MV MN MI ph ve fa no vc nc oc (nI S) (nI B) lc pr rl ck qn pd kd fl us lv ex ow de nl vl di re od sA sT bC bS bE sl mV mN se nV nN pS pV := by
    intro h0 he
    have cB : (nI (B - 1)).toNatClampNeg = B - 1 := nI_clamp (by omega)
    unfold wX_addStep_32 wX_addStep_70
    refine br_t rfl ⟨iS, ?_⟩
    rw [cS, za_s1 (by omega), cB]
    exact nm_e ⟨iS, nm_e (nm_r (nI_1 S) ⟨vp_in_nI (by omega) (by decide), nm_e (h B _ _ _ ⟨zs_Su hx hok hSt, zs_B1 hS h0 he (fun s hs => zs_cu hs) (zs_cx hx) hB⟩)⟩)⟩
  have K2 : wX_addStep_32 post a (nI x) (nI (zs_cc ck de a x)) 1 eS oS aS MV MN MI ph ve fa no vc nc oc (nI S) (nI B) lc pr rl ck qn pd kd fl us lv ex ow de nl vl di re od sA sT bC bS bE sl mV mN se nV nN pS pV := by
    have cB : (nI B).toNatClampNeg = B := nI_clamp (by omega)
    have iB : vp_in (nI B) 106 := vp_in_nI (by omega) (by decide)
    unfold wX_addStep_32
    refine br_f za_10 ⟨iB, ?_⟩
    rw [cB]
    refine nm_e ⟨iB, nm_e (nm_r (nI_1 B) ?_)⟩
    unfold wX_addStep_70
    rw [cS, nI_pred, cB]
    exact ⟨iS, nm_e ⟨iS, nm_e (nm_r (nI_1 S) ⟨iB, nm_e (h (B + 1) _ _ _ ⟨zs_Su hx hok hSt, zs_B2 hS hc (fun s hs => zs_cu hs) (zs_cx hx) hB⟩)⟩)⟩⟩
  unfold wpX_addStep
  by_cases h0 : B = 0
  · exact br_t ((zm_0 (by omega)).mpr (by omega)) K2
  · refine br_f (fun e => by have := (zm_0 (a := B) (by omega)).mp e; omega) ?_
    have cB : (nI (B - 1)).toNatClampNeg = B - 1 := nI_clamp (by omega)
    rw [za_s1 (by omega), cB]
    refine ⟨vp_in_nI (by omega) (by decide), ?_⟩
    have kC := (hB.2.2.2.2 (B - 1) (by omega)).2.2.1
    by_cases e : zp_n bC (B - 1) = zs_cc ck de a x
    · exact br_t (by rw [kC, e]) (K1 (by omega) e)
    · refine br_f (fun e' => e ?_) K2
      exact zp_nI e' hc
theorem xb_add0 {post : SX → Prop} {V N S B x : Nat} (hS : S < 106) (hx : x < 48) (hI : zs_I V N ck qn kd fl lv de sA sT bC bS bE S B) (hok : zs_ok V N ck qn kd fl lv de sA sT S 0 x) (hd : de x = nI (zp_n de x)) (hc : zp_n de x < 2 ^ 31)
    (h : ∀ (B' : Nat) (bC bS bE : Nat → Int32), zs_I V N ck qn kd fl lv de (upd sA S 0) (upd sT S (nI x)) bC bS bE (S + 1) B' → post (eS, oS, aS, MV, MN, MI, ph, ve, fa, no, vc, nc, oc, nI (S + 1), nI B', lc, pr, rl, ck, qn, pd, kd, fl, us, lv, ex, ow, de, nl, vl, di, re, od, upd sA S 0, upd sT S (nI x), bC, bS, bE, sl, mV, mN, se, nV, nN, pS, pV)) :
    wpX_addStep post (eS, oS, aS, MV, MN, MI, ph, ve, fa, no, vc, nc, oc, nI S, nI B, lc, pr, rl, ck, qn, pd, kd, fl, us, lv, ex, ow, de, nl, vl, di, re, od, sA, sT, bC, bS, bE, sl, mV, mN, se, nV, nN, pS, pV) 0 (nI x) (de x) := by
  rw [hd]
  exact xb_add (a := 0) hS hx hI hok hc h
theorem xb_add1 {post : SX → Prop} {V N S B x : Nat} (hS : S < 106) (hx : x < 48) (hI : zs_I V N ck qn kd fl lv de sA sT bC bS bE S B) (hok : zs_ok V N ck qn kd fl lv de sA sT S 1 x) (hd : ck x = nI (zp_n ck x)) (hc : zp_n ck x < 2 ^ 31)
    (h : ∀ (B' : Nat) (bC bS bE : Nat → Int32), zs_I V N ck qn kd fl lv de (upd sA S 1) (upd sT S (nI x)) bC bS bE (S + 1) B' → post (eS, oS, aS, MV, MN, MI, ph, ve, fa, no, vc, nc, oc, nI (S + 1), nI B', lc, pr, rl, ck, qn, pd, kd, fl, us, lv, ex, ow, de, nl, vl, di, re, od, upd sA S 1, upd sT S (nI x), bC, bS, bE, sl, mV, mN, se, nV, nN, pS, pV)) :
    wpX_addStep post (eS, oS, aS, MV, MN, MI, ph, ve, fa, no, vc, nc, oc, nI S, nI B, lc, pr, rl, ck, qn, pd, kd, fl, us, lv, ex, ow, de, nl, vl, di, re, od, sA, sT, bC, bS, bE, sl, mV, mN, se, nV, nN, pS, pV) 1 (nI x) (ck x) := by
  rw [hd]
  exact xb_add (a := 1) hS hx hI hok hc h
theorem xb_add2 {post : SX → Prop} {V N S B x c : Nat} (hS : S < 106) (hx : x < 48) (hI : zs_I V N ck qn kd fl lv de sA sT bC bS bE S B) (hok : zs_ok V N ck qn kd fl lv de sA sT S 2 x) (hd : zp_n de x = c) (hc : c < 2 ^ 31)
    (h : ∀ (B' : Nat) (bC bS bE : Nat → Int32), zs_I V N ck qn kd fl lv de (upd sA S 2) (upd sT S (nI x)) bC bS bE (S + 1) B' → post (eS, oS, aS, MV, MN, MI, ph, ve, fa, no, vc, nc, oc, nI (S + 1), nI B', lc, pr, rl, ck, qn, pd, kd, fl, us, lv, ex, ow, de, nl, vl, di, re, od, upd sA S 2, upd sT S (nI x), bC, bS, bE, sl, mV, mN, se, nV, nN, pS, pV)) :
    wpX_addStep post (eS, oS, aS, MV, MN, MI, ph, ve, fa, no, vc, nc, oc, nI S, nI B, lc, pr, rl, ck, qn, pd, kd, fl, us, lv, ex, ow, de, nl, vl, di, re, od, sA, sT, bC, bS, bE, sl, mV, mN, se, nV, nN, pS, pV) 2 (nI x) (nI c) := by
  subst hd
  exact xb_add (a := 2) hS hx hI hok hc h
/-! the sets that are counted -/
def zs_p (lv ex ow : Nat → Int32) (o : Nat → Nat) (i n : Nat) : Bool := decide (lv n = 1 ∧ ex n = 1 ∧ ow n = nI (o i))
def zs_e (lv ex : Nat → Int32) (n : Nat) : Bool := decide (lv n = 1 ∧ ex n = 1)
def zs_u (lv ex : Nat → Int32) (n : Nat) : Bool := decide (lv n = 1 ∧ ex n = 0)
def zs_r (kd lv de : Nat → Int32) (c n : Nat) : Bool := decide (lv n = 1 ∧ kd n = 5 ∧ de n = nI c)
theorem zs_pe {V N q : Nat} {lv ex ow : Nat → Int32} {o : Nat → Nat} (ho : ∀ i, i < q → o i < V) (hV : V ≤ 10) (hinj : ∀ i j, i < j → j < q → o i ≠ o j) {i : Nat} (hi : i ≤ q) : zs_sm (fun i => zs_cn (zs_p lv ex ow o i) N) i ≤ zs_cn (zs_e lv ex) N := by
  refine zs_smd ?_ ?_
  · intro i n _ _ h
    have h := of_decide_eq_true h
    exact decide_eq_true ⟨h.1, h.2.1⟩
  · intro n _ i j hij hj h1 h2
    have h1 := of_decide_eq_true h1
    have h2 := of_decide_eq_true h2
    have e := h1.2.2.symm.trans h2.2.2
    have a := ho i (by omega)
    have b := ho j (by omega)
    exact hinj i j hij (by omega) (za_inj e (by omega) (by omega))
theorem zs_eu {N : Nat} {lv ex : Nat → Int32} : zs_cn (zs_e lv ex) N + zs_cn (zs_u lv ex) N ≤ N := by
  refine zs_cn2 ?_
  intro n _ h1 h2
  have h1 := of_decide_eq_true h1
  have h2 := of_decide_eq_true h2
  rw [h1.2] at h2
  exact za_10 h2.2
theorem zs_rr {N : Nat} {kd lv de : Nat → Int32} {c : Nat} (hc : c ≤ 100) : zs_sm (fun c => zs_cn (zs_r kd lv de c) N) c ≤ N := by
  refine Nat.le_trans (zs_smd (e := fun _ => true) (fun _ _ _ _ _ => rfl) ?_) (zs_cnn _ _)
  intro n _ i j hij hj h1 h2
  have h1 := of_decide_eq_true h1
  have h2 := of_decide_eq_true h2
  have e := h1.2.2.symm.trans h2.2.2
  have := za_inj e (by omega) (by omega)
  omega
/-- what the first pass has put down: the variables before i, and what they own -/
def zs_h1 (N : Nat) (lv ex ow sA sT : Nat → Int32) (o : Nat → Nat) (S i : Nat) : Prop :=
  (∀ i', i' < i → zs_has sA sT S 1 (o i')) ∧ (∀ m i', m < N → i' < i → lv m = 1 → ex m = 1 → ow m = nI (o i') → zs_has sA sT S 0 m)
theorem zs_h1m {N S i : Nat} {lv ex ow sA sT : Nat → Int32} {o : Nat → Nat} {a X : Int32} (h : zs_h1 N lv ex ow sA sT o S i) : zs_h1 N lv ex ow (upd sA S a) (upd sT S X) o (S + 1) i :=
  ⟨fun i' hi => zs_hm (h.1 i' hi), fun m i' hm hi a b c => zs_hm (h.2 m i' hm hi a b c)⟩
theorem xb_161 {post : SX → Prop} {J : Int32 → Int32 → Int32 → Int32 → Int32 → Int32 → Int32 → Int32 → Int32 → Int32 → Int32 → Int32 → Int32 → Int32 → Int32 → Int32 → Int32 → Int32 → (Nat → Int32) → (Nat → Int32) → (Nat → Int32) → (Nat → Int32) → (Nat → Int32) → (Nat → Int32) → (Nat → Int32) → (Nat → Int32) → (Nat → Int32) → (Nat → Int32) → (Nat → Int32) → (Nat → Int32) → (Nat → Int32) → (Nat → Int32) → (Nat → Int32) → (Nat → Int32) → (Nat → Int32) → (Nat → Int32) → (Nat → Int32) → (Nat → Int32) → (Nat → Int32) → (Nat → Int32) → (Nat → Int32) → (Nat → Int32) → (Nat → Int32) → (Nat → Int32) → (Nat → Int32) → (Nat → Int32) → (Nat → Int32) → Prop} {V N c b S0 B0 : Nat} (hW : zp_W V N rl ck qn kd fl) (hV : V ≤ 10) (hN : N ≤ 48) (hL : zt_L V N ck qn kd fl lv ex ow de) (hc : c ≤ 2 * V) (hb : b ≤ 58)
    (hI : zs_I V N ck qn kd fl lv de sA sT bC bS bE S0 B0) (hS : S0 = b + zs_sm (fun c => zs_cn (zs_r kd lv de c) N) c) (h1 : ∀ v, v < V → zs_has sA sT S0 1 v) (h0 : ∀ m, m < N → lv m = 1 → zs_has sA sT S0 0 m) (h2 : ∀ m, m < N → lv m = 1 → zp_n kd m = 5 → zp_n de m < c → zs_has sA sT S0 2 m)
    (h : ∀ (S B : Nat) (sA sT bC bS bE : Nat → Int32), zs_I V N ck qn kd fl lv de sA sT bC bS bE S B → S = b + zs_sm (fun c => zs_cn (zs_r kd lv de c) N) (c + 1) → (∀ v, v < V → zs_has sA sT S 1 v) → (∀ m, m < N → lv m = 1 → zs_has sA sT S 0 m) → (∀ m, m < N → lv m = 1 → zp_n kd m = 5 → zp_n de m < c + 1 → zs_has sA sT S 2 m) →
      J (nI (c + 1)) eS oS aS MV MN MI ph ve fa no (nI V) (nI N) oc (nI S) (nI B) lc pr rl ck qn pd kd fl us lv ex ow de nl vl di re od sA sT bC bS bE sl mV mN se nV nN pS pV) :
    ∃ f, wX_buildSteps_161 post J (nI c) f 0 eS oS aS MV MN MI ph ve fa no (nI V) (nI N) oc (nI S0) (nI B0) lc pr rl ck qn pd kd fl us lv ex ow de nl vl di re od sA sT bC bS bE sl mV mN se nV nN pS pV := by
  refine pk_loop (fun f n (s : Nat × Nat × (Nat → Int32) × (Nat → Int32) × (Nat → Int32) × (Nat → Int32) × (Nat → Int32)) => wX_buildSteps_161 post J (nI c) f (nI n) eS oS aS MV MN MI ph ve fa no (nI V) (nI N) oc (nI s.1) (nI s.2.1) lc pr rl ck qn pd kd fl us lv ex ow de nl vl di re od s.2.2.1 s.2.2.2.1 s.2.2.2.2.1 s.2.2.2.2.2.1 s.2.2.2.2.2.2 sl mV mN se nV nN pS pV)
    (fun n s => zs_I V N ck qn kd fl lv de s.2.2.1 s.2.2.2.1 s.2.2.2.2.1 s.2.2.2.2.2.1 s.2.2.2.2.2.2 s.1 s.2.1 ∧ s.1 = b + zs_sm (fun c => zs_cn (zs_r kd lv de c) N) c + zs_cn (zs_r kd lv de c) n ∧ (∀ v, v < V → zs_has s.2.2.1 s.2.2.2.1 s.1 1 v) ∧ (∀ m, m < N → lv m = 1 → zs_has s.2.2.1 s.2.2.2.1 s.1 0 m) ∧ (∀ m, m < N → lv m = 1 → zp_n kd m = 5 → (zp_n de m < c ∨ (zp_n de m = c ∧ m < n)) → zs_has s.2.2.1 s.2.2.2.1 s.1 2 m)) N 0 (S0, B0, sA, sT, bC, bS, bE) (Nat.zero_le _) ?_ ?_ ?_
  · exact ⟨hI, hS, h1, h0, fun m hm hl hk hd => h2 m hm hl hk (by omega)⟩
  · rintro f ⟨S, B, sA, sT, bC, bS, bE⟩ ⟨j1, j2, j3, j4, j5⟩
    dsimp only at j1 j2 j3 j4 j5
    refine br_t (nI_le (Nat.le_refl _) (by omega)) (nm_r (nI_1 c) (h S B sA sT bC bS bE j1 ?_ j3 j4 (fun m hm hl hk hd => j5 m hm hl hk (by omega))))
    rw [j2]; exact Nat.add_assoc _ _ _
  · rintro f n ⟨S, B, sA, sT, bC, bS, bE⟩ hn ⟨j1, j2, j3, j4, j5⟩ ih
    dsimp only at j1 j2 j3 j4 j5 ih ⊢
    obtain ⟨n1, n2, n3, n4, n5, n6⟩ := hW.2 n hn
    have cn : (nI n).toNatClampNeg = n := nI_clamp (by omega)
    have i0 : vp_in (nI n) 48 := vp_in_nI (by omega) (by decide)
    have hbk : zp_n kd n < 2 ^ 31 := by omega
    have skip : ¬ (lv n = 1 ∧ zp_n kd n = 5 ∧ zp_n de n = c) → wX_buildSteps_161 post J (nI c) f (nI (n + 1)) eS oS aS MV MN MI ph ve fa no (nI V) (nI N) oc (nI S) (nI B) lc pr rl ck qn pd kd fl us lv ex ow de nl vl di re od sA sT bC bS bE sl mV mN se nV nN pS pV := by
      intro hno
      refine ih (S, B, sA, sT, bC, bS, bE) ⟨j1, ?_, j3, j4, ?_⟩
      · dsimp only
        rw [zs_cnf, j2]
        intro hr
        have hr := of_decide_eq_true hr
        refine hno ⟨hr.1, ?_, zp_nI hr.2.2 (by omega)⟩
        have := hr.2.1
        rw [n1] at this
        exact (zq_5 hbk).mp this
      · intro m hm hl hk hd
        refine j5 m hm hl hk ?_
        rcases hd with hd | ⟨hd, hmn⟩
        · exact Or.inl hd
        · by_cases e : m = n
          · subst e; exact absurd ⟨hl, hk, hd⟩ hno
          · exact Or.inr ⟨hd, by omega⟩
    refine br_f (nI_ge hn (by omega)) ⟨i0, ?_⟩
    rw [cn]
    rcases hL.1 n hn with g | ⟨g1, g2, g3, g4, g5, g6⟩
    · exact br_t g.1 (nm_r (nI_1 n) (skip (fun h => by rw [g.1] at h; exact za_01 h.1)))
    · refine br_f (by rw [g1]; exact za_10) ⟨i0, ?_⟩
      rw [n1]
      by_cases k5 : zp_n kd n = 5
      · refine br_t ((zq_5 hbk).mpr k5) ⟨i0, ?_⟩
        rw [g5]
        by_cases ed : zp_n de n = c
        · have hr : zs_r kd lv de c n = true := decide_eq_true ⟨g1, by rw [n1, k5]; rfl, by rw [g5, ed]⟩
          have hlt := zs_cnl hr hn
          have hrr := zs_rr (N := N) (kd := kd) (lv := lv) (de := de) (c := c + 1) (by omega)
          have hS106 : S < 106 := by
            have : zs_sm (fun c => zs_cn (zs_r kd lv de c) N) (c + 1) = zs_sm (fun c => zs_cn (zs_r kd lv de c) N) c + zs_cn (zs_r kd lv de c) N := rfl
            omega
          refine br_t (by rw [ed]) (xb_add2 hS106 (by omega) j1 (zs_okP hW hL hn g1 k5 j3 j4) ed (by omega) ?_)
          intro B' bC bS bE hI'
          refine nm_r (nI_1 n) (ih (S + 1, B', upd sA S 2, upd sT S (nI n), bC, bS, bE) ⟨hI', ?_, ?_, ?_, ?_⟩)
          · dsimp only; rw [zs_cnt hr, j2]; rfl
          · intro v hv; exact zs_hm (j3 v hv)
          · intro m hm hl; exact zs_hm (j4 m hm hl)
          · intro m hm hl hk hd
            by_cases e : m = n
            · subst e; exact zs_hn
            · exact zs_hm (j5 m hm hl hk (by omega))
        · exact br_f (fun e => ed (za_inj e (by omega) (by omega))) (nm_r (nI_1 n) (skip (fun h => ed h.2.2)))
      · exact br_f (fun e => k5 ((zq_5 hbk).mp e)) (nm_r (nI_1 n) (skip (fun h => k5 h.2.1)))
theorem xb_149 {post : SX → Prop} {V N b S0 B0 : Nat} (hW : zp_W V N rl ck qn kd fl) (hV : V ≤ 10) (hN : N ≤ 48) (hL : zt_L V N ck qn kd fl lv ex ow de) (hb : b ≤ 58)
    (hI : zs_I V N ck qn kd fl lv de sA sT bC bS bE S0 B0) (hS : S0 = b) (h1 : ∀ v, v < V → zs_has sA sT S0 1 v) (h0 : ∀ m, m < N → lv m = 1 → zs_has sA sT S0 0 m)
    (h : ∀ (S B : Nat) (sA sT bC bS bE : Nat → Int32), S ≤ 106 → zs_I V N ck qn kd fl lv de sA sT bC bS bE S B → zs_all V N kd lv sA sT S → post (eS, oS, aS, MV, MN, MI, ph, ve, fa, no, nI V, nI N, oc, nI S, nI B, lc, pr, rl, ck, qn, pd, kd, fl, us, lv, ex, ow, de, nl, vl, di, re, od, sA, sT, bC, bS, bE, sl, mV, mN, se, nV, nN, pS, pV)) :
    ∃ f, wX_buildSteps_149 post f 0 eS oS aS MV MN MI ph ve fa no (nI V) (nI N) oc (nI S0) (nI B0) lc pr rl ck qn pd kd fl us lv ex ow de nl vl di re od sA sT bC bS bE sl mV mN se nV nN pS pV := by
  refine pk_loop (fun f c (s : Nat × Nat × (Nat → Int32) × (Nat → Int32) × (Nat → Int32) × (Nat → Int32) × (Nat → Int32)) => wX_buildSteps_149 post f (nI c) eS oS aS MV MN MI ph ve fa no (nI V) (nI N) oc (nI s.1) (nI s.2.1) lc pr rl ck qn pd kd fl us lv ex ow de nl vl di re od s.2.2.1 s.2.2.2.1 s.2.2.2.2.1 s.2.2.2.2.2.1 s.2.2.2.2.2.2 sl mV mN se nV nN pS pV)
    (fun c s => zs_I V N ck qn kd fl lv de s.2.2.1 s.2.2.2.1 s.2.2.2.2.1 s.2.2.2.2.2.1 s.2.2.2.2.2.2 s.1 s.2.1 ∧ s.1 = b + zs_sm (fun c => zs_cn (zs_r kd lv de c) N) c ∧ (∀ v, v < V → zs_has s.2.2.1 s.2.2.2.1 s.1 1 v) ∧ (∀ m, m < N → lv m = 1 → zs_has s.2.2.1 s.2.2.2.1 s.1 0 m) ∧ (∀ m, m < N → lv m = 1 → zp_n kd m = 5 → zp_n de m < c → zs_has s.2.2.1 s.2.2.2.1 s.1 2 m)) (2 * V + 1) 0 (S0, B0, sA, sT, bC, bS, bE) (Nat.zero_le _) ?_ ?_ ?_
  · exact ⟨hI, hS, h1, h0, fun m hm hl hk hd => absurd hd (Nat.not_lt_zero _)⟩
  · rintro f ⟨S, B, sA, sT, bC, bS, bE⟩ ⟨j1, j2, j3, j4, j5⟩
    dsimp only at j1 j2 j3 j4 j5
    have hrr := zs_rr (N := N) (kd := kd) (lv := lv) (de := de) (c := 2 * V + 1) (by omega)
    refine br_t ?_ (h S B sA sT bC bS bE (by omega) j1 ⟨j3, j4, fun m hm hl hk => j5 m hm hl hk ?_⟩)
    · rw [za_2m]; exact nI_lt (by omega) (by omega)
    · rcases hL.1 m hm with g | ⟨g1, g2, g3, g4, g5, g6⟩
      · rw [hl] at g; exact absurd g.1 za_10
      · omega
  · rintro f c ⟨S, B, sA, sT, bC, bS, bE⟩ hc ⟨j1, j2, j3, j4, j5⟩ ih
    dsimp only at j1 j2 j3 j4 j5 ih ⊢
    refine br_f ?_ (xb_161 hW hV hN hL (by omega) hb j1 j2 j3 j4 j5 ?_)
    · rw [za_2m]; exact nI_nlt (by omega) (by omega)
    · intro S B sA sT bC bS bE k1 k2 k3 k4 k5
      exact ih (S, B, sA, sT, bC, bS, bE) ⟨k1, k2, k3, k4, k5⟩
theorem xb_103 {post : SX → Prop} {V N b S0 B0 : Nat} (hW : zp_W V N rl ck qn kd fl) (hV : V ≤ 10) (hN : N ≤ 48) (hL : zt_L V N ck qn kd fl lv ex ow de) (hb : b ≤ zs_cn (zs_e lv ex) N + V)
    (hI : zs_I V N ck qn kd fl lv de sA sT bC bS bE S0 B0) (hS : S0 = b) (h1 : ∀ v, v < V → zs_has sA sT S0 1 v) (h0 : ∀ m, m < N → lv m = 1 → ex m = 1 → zs_has sA sT S0 0 m)
    (h : ∀ (S B : Nat) (sA sT bC bS bE : Nat → Int32), S ≤ 106 → zs_I V N ck qn kd fl lv de sA sT bC bS bE S B → zs_all V N kd lv sA sT S → post (eS, oS, aS, MV, MN, MI, ph, ve, fa, no, nI V, nI N, oc, nI S, nI B, lc, pr, rl, ck, qn, pd, kd, fl, us, lv, ex, ow, de, nl, vl, di, re, od, sA, sT, bC, bS, bE, sl, mV, mN, se, nV, nN, pS, pV)) :
    ∃ f, wX_buildSteps_103 post f 0 eS oS aS MV MN MI ph ve fa no (nI V) (nI N) oc (nI S0) (nI B0) lc pr rl ck qn pd kd fl us lv ex ow de nl vl di re od sA sT bC bS bE sl mV mN se nV nN pS pV := by
  have heu := zs_eu (N := N) (lv := lv) (ex := ex)
  refine pk_loop (fun f n (s : Nat × Nat × (Nat → Int32) × (Nat → Int32) × (Nat → Int32) × (Nat → Int32) × (Nat → Int32)) => wX_buildSteps_103 post f (nI n) eS oS aS MV MN MI ph ve fa no (nI V) (nI N) oc (nI s.1) (nI s.2.1) lc pr rl ck qn pd kd fl us lv ex ow de nl vl di re od s.2.2.1 s.2.2.2.1 s.2.2.2.2.1 s.2.2.2.2.2.1 s.2.2.2.2.2.2 sl mV mN se nV nN pS pV)
    (fun n s => zs_I V N ck qn kd fl lv de s.2.2.1 s.2.2.2.1 s.2.2.2.2.1 s.2.2.2.2.2.1 s.2.2.2.2.2.2 s.1 s.2.1 ∧ s.1 = b + zs_cn (zs_u lv ex) n ∧ (∀ v, v < V → zs_has s.2.2.1 s.2.2.2.1 s.1 1 v) ∧ (∀ m, m < N → lv m = 1 → (ex m = 1 ∨ (ex m = 0 ∧ m < n)) → zs_has s.2.2.1 s.2.2.2.1 s.1 0 m)) N 0 (S0, B0, sA, sT, bC, bS, bE) (Nat.zero_le _) ?_ ?_ ?_
  · exact ⟨hI, hS, h1, fun m hm hl hd => h0 m hm hl (hd.elim id (fun hd => absurd hd.2 (Nat.not_lt_zero _)))⟩
  · rintro f ⟨S, B, sA, sT, bC, bS, bE⟩ ⟨j1, j2, j3, j4⟩
    dsimp only at j1 j2 j3 j4
    refine br_t (nI_le (Nat.le_refl _) (by omega)) (xb_149 (b := S) hW hV hN hL (by omega) j1 rfl j3 ?_ h)
    intro m hm hl
    refine j4 m hm hl ?_
    rcases hL.1 m hm with g | ⟨g1, g2, g3, g4, g5, g6⟩
    · rw [hl] at g; exact absurd g.1 za_10
    · rcases g2 with g2 | g2
      · exact Or.inr ⟨g2, hm⟩
      · exact Or.inl g2
  · rintro f n ⟨S, B, sA, sT, bC, bS, bE⟩ hn ⟨j1, j2, j3, j4⟩ ih
    dsimp only at j1 j2 j3 j4 ih ⊢
    have cn : (nI n).toNatClampNeg = n := nI_clamp (by omega)
    have i0 : vp_in (nI n) 48 := vp_in_nI (by omega) (by decide)
    have skip : ¬ (lv n = 1 ∧ ex n = 0) → wX_buildSteps_103 post f (nI (n + 1)) eS oS aS MV MN MI ph ve fa no (nI V) (nI N) oc (nI S) (nI B) lc pr rl ck qn pd kd fl us lv ex ow de nl vl di re od sA sT bC bS bE sl mV mN se nV nN pS pV := by
      intro hno
      refine ih (S, B, sA, sT, bC, bS, bE) ⟨j1, ?_, j3, ?_⟩
      · dsimp only
        rw [zs_cnf, j2]
        exact fun hr => hno (of_decide_eq_true hr)
      · intro m hm hl hd
        refine j4 m hm hl ?_
        rcases hd with hd | ⟨hd, hmn⟩
        · exact Or.inl hd
        · by_cases e : m = n
          · subst e; exact absurd ⟨hl, hd⟩ hno
          · exact Or.inr ⟨hd, by omega⟩
    refine br_f (nI_ge hn (by omega)) ⟨i0, ?_⟩
    rw [cn]
    rcases hL.1 n hn with g | ⟨g1, g2, g3, g4, g5, g6⟩
    · exact br_t g.1 (nm_r (nI_1 n) (skip (fun h => by rw [g.1] at h; exact za_01 h.1)))
    · refine br_f (by rw [g1]; exact za_10) ⟨i0, ?_⟩
      rcases g2 with g2 | g2
      · have hr : zs_u lv ex n = true := decide_eq_true ⟨g1, g2⟩
        have hlt := zs_cnl hr hn
        refine br_t g2 ⟨i0, xb_add0 (by omega) (by omega) j1 (zs_okU hW hL hn g1 g2 j3 (fun m hm hl hx => j4 m (by omega) hl (Or.inr ⟨hx, hm⟩))) g5 (by omega) ?_⟩
        intro B' bC bS bE hI'
        refine nm_r (nI_1 n) (ih (S + 1, B', upd sA S 0, upd sT S (nI n), bC, bS, bE) ⟨hI', ?_, ?_, ?_⟩)
        · dsimp only; rw [zs_cnt hr, j2]; rfl
        · intro v hv; exact zs_hm (j3 v hv)
        · intro m hm hl hd
          by_cases e : m = n
          · subst e; exact zs_hn
          · exact zs_hm (j4 m hm hl (hd.elim Or.inl (fun h => Or.inr ⟨h.1, by omega⟩)))
      · exact br_f (by rw [g2]; exact za_10) (nm_r (nI_1 n) (skip (fun h => by rw [g2] at h; exact za_10 h.2)))
theorem xb_29 {post : SX → Prop} {J : Int32 → Int32 → Int32 → Int32 → Int32 → Int32 → Int32 → Int32 → Int32 → Int32 → Int32 → Int32 → Int32 → Int32 → Int32 → Int32 → Int32 → Int32 → (Nat → Int32) → (Nat → Int32) → (Nat → Int32) → (Nat → Int32) → (Nat → Int32) → (Nat → Int32) → (Nat → Int32) → (Nat → Int32) → (Nat → Int32) → (Nat → Int32) → (Nat → Int32) → (Nat → Int32) → (Nat → Int32) → (Nat → Int32) → (Nat → Int32) → (Nat → Int32) → (Nat → Int32) → (Nat → Int32) → (Nat → Int32) → (Nat → Int32) → (Nat → Int32) → (Nat → Int32) → (Nat → Int32) → (Nat → Int32) → (Nat → Int32) → (Nat → Int32) → (Nat → Int32) → (Nat → Int32) → (Nat → Int32) → Prop} {V N q i S0 B0 : Nat} {o : Nat → Nat} (hW : zp_W V N rl ck qn kd fl) (hV : V ≤ 10) (hN : N ≤ 48) (hL : zt_L V N ck qn kd fl lv ex ow de) (ho : zd_o V (zd_dp N ck kd fl (zd_E ex ow)) o q) (hq : q ≤ V) (hinj : ∀ i j, i < j → j < q → o i ≠ o j) (hi : i < q)
    (hI : zs_I V N ck qn kd fl lv de sA sT bC bS bE S0 B0) (hS : S0 = zs_sm (fun i => zs_cn (zs_p lv ex ow o i) N) i + i) (h1 : zs_h1 N lv ex ow sA sT o S0 i)
    (h : ∀ (S B : Nat) (sA sT bC bS bE : Nat → Int32), zs_I V N ck qn kd fl lv de sA sT bC bS bE S B → S = zs_sm (fun i => zs_cn (zs_p lv ex ow o i) N) (i + 1) + (i + 1) → zs_h1 N lv ex ow sA sT o S (i + 1) →
      J (nI (i + 1)) eS oS aS MV MN MI ph ve fa no (nI V) (nI N) oc (nI S) (nI B) lc pr rl ck qn pd kd fl us lv ex ow de nl vl di re od sA sT bC bS bE sl mV mN se nV nN pS pV) :
    ∃ f, wX_buildSteps_29 post J (nI i) (nI (o i)) f 0 eS oS aS MV MN MI ph ve fa no (nI V) (nI N) oc (nI S0) (nI B0) lc pr rl ck qn pd kd fl us lv ex ow de nl vl di re od sA sT bC bS bE sl mV mN se nV nN pS pV := by
  have hov := ho.1 i hi
  have hpe := zs_pe (N := N) (lv := lv) (ex := ex) (ow := ow) ho.1 hV hinj (i := i + 1) (by omega)
  have hsm : zs_sm (fun i => zs_cn (zs_p lv ex ow o i) N) (i + 1) = zs_sm (fun i => zs_cn (zs_p lv ex ow o i) N) i + zs_cn (zs_p lv ex ow o i) N := rfl
  have hcn := zs_cnn (zs_e lv ex) N
  refine pk_loop (fun f n (s : Nat × Nat × (Nat → Int32) × (Nat → Int32) × (Nat → Int32) × (Nat → Int32) × (Nat → Int32)) => wX_buildSteps_29 post J (nI i) (nI (o i)) f (nI n) eS oS aS MV MN MI ph ve fa no (nI V) (nI N) oc (nI s.1) (nI s.2.1) lc pr rl ck qn pd kd fl us lv ex ow de nl vl di re od s.2.2.1 s.2.2.2.1 s.2.2.2.2.1 s.2.2.2.2.2.1 s.2.2.2.2.2.2 sl mV mN se nV nN pS pV)
    (fun n s => zs_I V N ck qn kd fl lv de s.2.2.1 s.2.2.2.1 s.2.2.2.2.1 s.2.2.2.2.2.1 s.2.2.2.2.2.2 s.1 s.2.1 ∧ s.1 = zs_sm (fun i => zs_cn (zs_p lv ex ow o i) N) i + i + zs_cn (zs_p lv ex ow o i) n ∧ zs_h1 N lv ex ow s.2.2.1 s.2.2.2.1 o s.1 i ∧ (∀ m, m < n → lv m = 1 → ex m = 1 → ow m = nI (o i) → zs_has s.2.2.1 s.2.2.2.1 s.1 0 m)) N 0 (S0, B0, sA, sT, bC, bS, bE) (Nat.zero_le _) ?_ ?_ ?_
  · exact ⟨hI, hS, h1, fun m hm => absurd hm (Nat.not_lt_zero _)⟩
  · rintro f ⟨S, B, sA, sT, bC, bS, bE⟩ ⟨j1, j2, j3, j4⟩
    dsimp only at j1 j2 j3 j4
    have co : (nI (o i)).toNatClampNeg = o i := nI_clamp (by omega)
    have hck := (hW.1 (o i) hov).2.1
    refine br_t (nI_le (Nat.le_refl _) (by omega)) ⟨vp_in_nI (by omega) (by decide), ?_⟩
    rw [co]
    refine xb_add1 (by omega) (by omega) j1 (zs_okS hW hL ho hi j3.1 j4) hck.1 (by omega) ?_
    intro B' bC bS bE hI'
    refine nm_r (nI_1 i) (h (S + 1) B' _ _ bC bS bE hI' (by omega) ⟨?_, ?_⟩)
    · intro i' hi'
      by_cases e : i' = i
      · subst e; exact zs_hn
      · exact zs_hm (j3.1 i' (by omega))
    · intro m i' hm hi' a b c
      by_cases e : i' = i
      · subst e; exact zs_hm (j4 m hm a b c)
      · exact zs_hm (j3.2 m i' hm (by omega) a b c)
  · rintro f n ⟨S, B, sA, sT, bC, bS, bE⟩ hn ⟨j1, j2, j3, j4⟩ ih
    dsimp only at j1 j2 j3 j4 ih ⊢
    have cn : (nI n).toNatClampNeg = n := nI_clamp (by omega)
    have i0 : vp_in (nI n) 48 := vp_in_nI (by omega) (by decide)
    have skip : ¬ (lv n = 1 ∧ ex n = 1 ∧ ow n = nI (o i)) → wX_buildSteps_29 post J (nI i) (nI (o i)) f (nI (n + 1)) eS oS aS MV MN MI ph ve fa no (nI V) (nI N) oc (nI S) (nI B) lc pr rl ck qn pd kd fl us lv ex ow de nl vl di re od sA sT bC bS bE sl mV mN se nV nN pS pV := by
      intro hno
      refine ih (S, B, sA, sT, bC, bS, bE) ⟨j1, ?_, j3, ?_⟩
      · dsimp only
        rw [zs_cnf, j2]
        exact fun hr => hno (of_decide_eq_true hr)
      · intro m hm a b c
        by_cases e : m = n
        · subst e; exact absurd ⟨a, b, c⟩ hno
        · exact j4 m (by omega) a b c
    refine br_f (nI_ge hn (by omega)) ⟨i0, ?_⟩
    rw [cn]
    rcases hL.1 n hn with g | ⟨g1, g2, g3, g4, g5, g6⟩
    · exact br_t g.1 (nm_r (nI_1 n) (skip (fun h => by rw [g.1] at h; exact za_01 h.1)))
    · refine br_f (by rw [g1]; exact za_10) ⟨i0, ?_⟩
      rcases g2 with g2 | g2
      · exact br_t g2 (nm_r (nI_1 n) (skip (fun h => by rw [g2] at h; exact za_01 h.2.1)))
      · refine br_f (by rw [g2]; exact za_10) ⟨i0, ?_⟩
        by_cases g7 : ow n = nI (o i)
        · have hr : zs_p lv ex ow o i n = true := decide_eq_true ⟨g1, g2, g7⟩
          have hlt := zs_cnl hr hn
          refine br_t g7 ⟨i0, xb_add0 (by omega) (by omega) j1 (zs_okE hW hV hL ho hi hn g1 g2 g7 j3.1 j4) g5 (by omega) ?_⟩
          intro B' bC bS bE hI'
          refine nm_r (nI_1 n) (ih (S + 1, B', upd sA S 0, upd sT S (nI n), bC, bS, bE) ⟨hI', ?_, zs_h1m j3, ?_⟩)
          · dsimp only; rw [zs_cnt hr, j2]; rfl
          · intro m hm a b c
            by_cases e : m = n
            · subst e; exact zs_hn
            · exact zs_hm (j4 m (by omega) a b c)
        · exact br_f g7 (nm_r (nI_1 n) (skip (fun h => g7 h.2.2)))
theorem xb_build {post : SX → Prop} {V N q : Nat} (hW : zp_W V N rl ck qn kd fl) (hV : V ≤ 10) (hN : N ≤ 48) (hL : zt_L V N ck qn kd fl lv ex ow de) (hod : ∀ i, i < q → od i = nI (zp_n od i)) (ho : zd_o V (zd_dp N ck kd fl (zd_E ex ow)) (zp_n od) q) (hcov : zd_cov V (zp_n od) q) (hinj : ∀ i j, i < j → j < q → zp_n od i ≠ zp_n od j)
    (h : ∀ (S B : Nat) (sA sT bC bS bE : Nat → Int32), S ≤ 106 → zs_I V N ck qn kd fl lv de sA sT bC bS bE S B → zs_all V N kd lv sA sT S → post (eS, oS, aS, MV, MN, MI, ph, ve, fa, no, nI V, nI N, nI q, nI S, nI B, lc, pr, rl, ck, qn, pd, kd, fl, us, lv, ex, ow, de, nl, vl, di, re, od, sA, sT, bC, bS, bE, sl, mV, mN, se, nV, nN, pS, pV)) :
    wpX_buildSteps post (eS, oS, aS, MV, MN, MI, ph, ve, fa, no, nI V, nI N, nI q, sc, bc, lc, pr, rl, ck, qn, pd, kd, fl, us, lv, ex, ow, de, nl, vl, di, re, od, sA, sT, bC, bS, bE, sl, mV, mN, se, nV, nN, pS, pV) := by
  have hq := hcov.1
  have hpe := zs_pe (N := N) (lv := lv) (ex := ex) (ow := ow) ho.1 hV hinj (i := q) (Nat.le_refl _)
  unfold wpX_buildSteps
  refine pk_loop (fun f i (s : Nat × Nat × (Nat → Int32) × (Nat → Int32) × (Nat → Int32) × (Nat → Int32) × (Nat → Int32)) => wX_buildSteps_12 post f (nI i) eS oS aS MV MN MI ph ve fa no (nI V) (nI N) (nI q) (nI s.1) (nI s.2.1) lc pr rl ck qn pd kd fl us lv ex ow de nl vl di re od s.2.2.1 s.2.2.2.1 s.2.2.2.2.1 s.2.2.2.2.2.1 s.2.2.2.2.2.2 sl mV mN se nV nN pS pV)
    (fun i s => zs_I V N ck qn kd fl lv de s.2.2.1 s.2.2.2.1 s.2.2.2.2.1 s.2.2.2.2.2.1 s.2.2.2.2.2.2 s.1 s.2.1 ∧ s.1 = zs_sm (fun i => zs_cn (zs_p lv ex ow (zp_n od) i) N) i + i ∧ zs_h1 N lv ex ow s.2.2.1 s.2.2.2.1 (zp_n od) s.1 i) q 0 (0, 0, sA, sT, bC, bS, bE) (Nat.zero_le _) ?_ ?_ ?_
  · exact ⟨⟨fun s hs => absurd hs (Nat.not_lt_zero s), Nat.le_refl _, fun _ => rfl, fun h => absurd h (Nat.lt_irrefl 0), fun b hb => absurd hb (Nat.not_lt_zero _), fun b hb => absurd hb (Nat.not_lt_zero b)⟩, rfl, fun i hi => absurd hi (Nat.not_lt_zero i), fun m i _ hi => absurd hi (Nat.not_lt_zero i)⟩
  · rintro f ⟨S, B, sA, sT, bC, bS, bE⟩ ⟨j1, j2, j3⟩
    dsimp only at j1 j2 j3
    refine br_t (nI_le (Nat.le_refl _) (by omega)) (xb_103 (b := S) hW hV hN hL (by omega) j1 rfl ?_ ?_ h)
    · intro v hv
      obtain ⟨i, a, b⟩ := hcov.2 v hv
      rw [← b]; exact j3.1 i a
    · intro m hm hl hx
      rcases hL.1 m hm with g | ⟨g1, g2, g3, g4, g5, g6⟩
      · rw [hl] at g; exact absurd g.1 za_10
      · obtain ⟨i, a, b⟩ := hcov.2 _ g4
        exact j3.2 m i hm a hl hx (by rw [b]; exact g3)
  · rintro f i ⟨S, B, sA, sT, bC, bS, bE⟩ hi ⟨j1, j2, j3⟩ ih
    dsimp only at j1 j2 j3 ih ⊢
    have ci : (nI i).toNatClampNeg = i := nI_clamp (by omega)
    refine br_f (nI_ge hi (by omega)) ⟨vp_in_nI (by omega) (by decide), nm_r (e' := nI (zp_n od i)) (by rw [ci]; exact hod i hi) (xb_29 hW hV hN hL ho hq hinj hi j1 j2 j3 ?_)⟩
    intro S B sA sT bC bS bE k1 k2 k3
    exact ih (S, B, sA, sT, bC, bS, bE) ⟨k1, k2, k3⟩
end
end
section
/-! lateness in the component -/
def zl_E (qn kd fl sA sT nl vl : Nat → Int32) (s : Nat) : Prop :=
  ∀ s', s' < s → (sA s' = 0 → nl (zp_n sT s') = zn_lt kd fl nl vl (zp_n sT s')) ∧ (sA s' = 1 → vl (zp_n sT s') = zn_vl qn nl (zp_n sT s'))
theorem zl_has {V N S s x : Nat} {ck qn kd fl lv de sA sT : Nat → Int32} {a : Int32} (hS : zs_S V N ck qn kd fl lv de sA sT S) (hs : s ≤ S) (hx : x < 2 ^ 31) (h : zs_has sA sT s a x) : ∃ s', s' < s ∧ sA s' = a ∧ zp_n sT s' = x := by
  obtain ⟨s', h1, h2, h3⟩ := h
  exact ⟨s', h1, h2, zp_nI h3 hx⟩
theorem zl_Ee {V N S s n : Nat} {rl ck qn kd fl lv de sA sT nl vl : Nat → Int32} (hW : zp_W V N rl ck qn kd fl) (hN : N ≤ 48) (hS : zs_S V N ck qn kd fl lv de sA sT S) (hs : s < S) (h0 : sA s = 0) (hn : zp_n sT s = n) (h : zl_E qn kd fl sA sT nl vl s) :
    zl_E qn kd fl sA sT (upd nl n (zn_lt kd fl nl vl n)) vl (s + 1) := by
  have hn48 : n < 48 := by rw [← hn]; exact (hS s hs).2.1
  by_cases hx : ∃ s', s' < s ∧ sA s' = 0 ∧ zp_n sT s' = n
  · obtain ⟨s', a, b, c⟩ := hx
    have e := (h s' a).1 b
    rw [c] at e
    rw [za_uid e]
    intro s'' hs''
    by_cases e2 : s'' = s
    · subst e2
      rw [hn]
      exact ⟨fun _ => e, fun h1 => by rw [h0] at h1; exact absurd h1 za_01⟩
    · exact h s'' (by omega)
  · have no : ∀ s', s' ≤ s → ∀ m, m < 2 ^ 31 → zs_has sA sT s' 0 m → m ≠ n := by
      rintro s' hs' m hm hh rfl
      obtain ⟨s'', a, b, c⟩ := zl_has hS (by omega) hm hh
      exact hx ⟨s'', by omega, b, c⟩
    have selfN : ∀ m, m < N → (zp_n kd m ≠ 5 → ∀ j, j < zp_ar (zp_n kd m) → zp_op kd fl m j ≠ n) → zn_lt kd fl (upd nl n (zn_lt kd fl nl vl n)) vl m = zn_lt kd fl nl vl m := by
      intro m hm hop
      exact zn_ltg (fun _ => rfl) (fun k5 j hj => pk_un (hop k5 j hj))
    have okN : ∀ s', s' < S → sA s' = 0 → s' ≤ s → zp_n sT s' < N ∧ (zp_n kd (zp_n sT s') ≠ 5 → ∀ j, j < zp_ar (zp_n kd (zp_n sT s')) → zp_op kd fl (zp_n sT s') j ≠ n) := by
      intro s' hs' ha hle
      obtain ⟨_, _, ok⟩ := hS s' hs'
      rw [ha] at ok
      rcases ok with ⟨_, g2, g3, g4, g5, g6⟩ | ⟨g1, _⟩ | ⟨g1, _⟩
      · refine ⟨g2, fun k5 j hj => no s' hle _ ?_ (g6 k5 j hj)⟩
        have := ((hW.2 _ g2).2.2.2.1 j hj).2
        omega
      · exact absurd g1 za_01
      · exact absurd g1 (by decide)
    intro s' hs'
    by_cases e2 : s' = s
    · subst e2
      obtain ⟨a, b⟩ := okN s' hs h0 (Nat.le_refl _)
      rw [hn] at a b ⊢
      refine ⟨fun _ => ?_, fun h1 => by rw [h0] at h1; exact absurd h1 za_01⟩
      rw [pk_us, selfN n a b]
    · have hlt : s' < s := by omega
      refine ⟨fun ha => ?_, fun ha => ?_⟩
      · obtain ⟨a, b⟩ := okN s' (by omega) ha (by omega)
        have hne : zp_n sT s' ≠ n := fun e => hx ⟨s', hlt, ha, e⟩
        rw [pk_un hne, selfN _ a b]
        exact (h s' hlt).1 ha
      · rw [(h s' hlt).2 ha]
        obtain ⟨_, _, ok⟩ := hS s' (by omega)
        rw [ha] at ok
        rcases ok with ⟨g1, _⟩ | ⟨_, g2, g3, g4⟩ | ⟨g1, _⟩
        · exact absurd g1 za_10
        · unfold zn_vl
          rcases (hW.1 _ g2).2.2 with e | ⟨_, e, e'⟩
          · rw [e, if_pos za_m0, if_pos za_m0]
          · have o : zp_O V qn (zp_n qn (zp_n sT s')) (zp_n sT s') := ⟨g2, by omega, e⟩
            rw [pk_un (no s' (by omega) _ (by omega) (g4 _ o))]
        · exact absurd g1 (by decide)
theorem zl_Es {V N S s v : Nat} {rl ck qn kd fl lv de sA sT nl vl : Nat → Int32} (hW : zp_W V N rl ck qn kd fl) (hV : V ≤ 10) (hS : zs_S V N ck qn kd fl lv de sA sT S) (hs : s < S) (h1 : sA s = 1) (hv : zp_n sT s = v) (h : zl_E qn kd fl sA sT nl vl s) :
    zl_E qn kd fl sA sT nl (upd vl v (zn_vl qn nl v)) (s + 1) := by
  by_cases hx : ∃ s', s' < s ∧ sA s' = 1 ∧ zp_n sT s' = v
  · obtain ⟨s', a, b, c⟩ := hx
    have e := (h s' a).2 b
    rw [c] at e
    rw [za_uid e]
    intro s'' hs''
    by_cases e2 : s'' = s
    · subst e2
      rw [hv]
      exact ⟨fun h0 => by rw [h1] at h0; exact absurd h0 za_10, fun _ => e⟩
    · exact h s'' (by omega)
  · intro s' hs'
    by_cases e2 : s' = s
    · subst e2
      rw [hv]
      exact ⟨fun h0 => by rw [h1] at h0; exact absurd h0 za_10, fun _ => pk_us⟩
    · have hlt : s' < s := by omega
      refine ⟨fun ha => ?_, fun ha => ?_⟩
      · rw [(h s' hlt).1 ha]
        obtain ⟨_, _, ok⟩ := hS s' (by omega)
        rw [ha] at ok
        rcases ok with ⟨_, g2, g3, g4, g5, g6⟩ | ⟨g1, _⟩ | ⟨g1, _⟩
        · refine (zn_ltg (fun k2 => pk_un ?_) (fun _ _ _ => rfl)).symm
          intro e
          have hf := ((hW.2 _ g2).2.2.2.2.1 (Or.inl k2)).2
          obtain ⟨s'', a, b, c⟩ := zl_has hS (by omega) (by omega) (g5 (Or.inl k2))
          exact hx ⟨s'', by omega, b, by rw [c]; exact e⟩
        · exact absurd g1 za_01
        · exact absurd g1 (by decide)
      · have hne : zp_n sT s' ≠ v := fun e => hx ⟨s', hlt, ha, e⟩
        rw [pk_un hne]
        exact (h s' hlt).2 ha
section
variable {eS oS aS MV MN MI ph ve fa no vc nc oc sc bc lc pr : Int32} {rl ck qn pd kd fl us lv ex ow de nl vl di re od sA sT bC bS bE sl mV mN se nV nN pS pV : Nat → Int32}
theorem xl_any {post : Int32 → Prop} {V n : Nat} (hn : n < 48) (hW : zp_N V kd fl n) (h : post (zn_any kd fl nl n)) : wpX_hasLateOperand post (eS, oS, aS, MV, MN, MI, ph, ve, fa, no, vc, nc, oc, sc, bc, lc, pr, rl, ck, qn, pd, kd, fl, us, lv, ex, ow, de, nl, vl, di, re, od, sA, sT, bC, bS, bE, sl, mV, mN, se, nV, nN, pS, pV) (nI n) := by
  obtain ⟨n1, n2, n3, n4, n5, n6⟩ := hW
  have c0 : (nI n).toNatClampNeg = n := nI_clamp (by omega)
  have A3 := zp_ar3 (zp_n kd n)
  unfold wpX_hasLateOperand
  dsimp only
  rw [c0, n1]
  refine ⟨vp_in_nI hn (by decide), xa_cnt n2 n3 ?_⟩
  refine pk_loop (fun f i (_ : Unit) => wX_hasLateOperand_13 post (nI n) (nI (zp_ar (zp_n kd n))) eS oS aS MV MN MI ph ve fa no vc nc oc sc bc lc pr rl ck qn pd kd fl us lv ex ow de nl vl di re od sA sT bC bS bE sl mV mN se nV nN pS pV f (nI i)) (fun i _ => ∀ j, j < i → nl (zp_op kd fl n j) = 0) (zp_ar (zp_n kd n)) 0 () (Nat.zero_le _) (fun j hj => absurd hj (Nat.not_lt_zero j)) ?_ ?_
  · intro f _ hI
    rw [zn_any0 hI] at h
    exact br_t (nI_le (Nat.le_refl _) (by omega)) h
  · intro f i _ hi hI ih
    obtain ⟨o1, o2⟩ := n4 i hi
    refine br_f (nI_ge hi (by omega)) (xa_op hn n1 n3 (zp_fa hi) ?_)
    rw [o1, nI_clamp (by omega)]
    refine ⟨vp_in_nI (by omega) (by decide), ?_⟩
    by_cases e : nl (zp_op kd fl n i) = 0
    · refine br_t e (nm_r (nI_1 i) (ih () ?_))
      intro j hj
      by_cases e2 : j = i
      · rw [e2]; exact e
      · exact hI j (by omega)
    · rw [zn_any1 hi e] at h
      exact br_f e h
theorem xl_node {post : Int32 → Prop} {V N n : Nat} (hW : zp_W V N rl ck qn kd fl) (hV : V ≤ 10) (hN : N ≤ 48) (hn : n < N) (h1 : zn_01 nl) (h2 : zn_01 vl) (h : post (zn_lt kd fl nl vl n)) : wpX_lateness post (eS, oS, aS, MV, MN, MI, ph, ve, fa, no, vc, nc, oc, sc, bc, lc, pr, rl, ck, qn, pd, kd, fl, us, lv, ex, ow, de, nl, vl, di, re, od, sA, sT, bC, bS, bE, sl, mV, mN, se, nV, nN, pS, pV) (nI n) := by
  obtain ⟨n1, n2, n3, n4, n5, n6⟩ := hW.2 n hn
  have c0 : (nI n).toNatClampNeg = n := nI_clamp (by omega)
  have c1 : (nI (4 * n)).toNatClampNeg = 4 * n := nI_clamp (by omega)
  have i4 : vp_in (nI (4 * n)) 192 := vp_in_nI (by omega) (by decide)
  have hb : zp_n kd n < 2 ^ 31 := by omega
  have K : zn_lt kd fl nl vl n = zn_any kd fl nl n → wX_lateness_124 post (nI n) eS oS aS MV MN MI ph ve fa no vc nc oc sc bc lc pr rl ck qn pd kd fl us lv ex ow de nl vl di re od sA sT bC bS bE sl mV mN se nV nN pS pV := by
    intro e
    unfold wX_lateness_124
    rw [e] at h
    exact xl_any (V := V) (by omega) (hW.2 n hn) ⟨za_nb zn_any01, h⟩
  unfold wpX_lateness
  dsimp only
  rw [za_m4, c0, c1]
  refine ⟨vp_in_nI (by omega) (by decide), ?_⟩
  have hc : zp_n kd n = 1 ∨ zp_n kd n = 2 ∨ zp_n kd n = 3 ∨ zp_n kd n = 4 ∨ zp_n kd n = 5 ∨ zp_n kd n = 6 ∨ zp_n kd n = 7 ∨ zp_n kd n = 8 ∨ zp_n kd n = 9 ∨ zp_n kd n = 10 ∨ zp_n kd n = 11 ∨ zp_n kd n = 12 ∨ zp_n kd n = 13 ∨ zp_n kd n = 14 ∨ zp_n kd n = 15 ∨ zp_n kd n = 16 ∨ zp_n kd n = 17 ∨ zp_n kd n = 18 := by omega
  unfold zn_lt at h K
  rcases hc with e | e | e | e | e | e | e | e | e | e | e | e | e | e | e | e | e | e
  · rw [e] at n1 h
    refine nm_r n1 ?_
    repeat (first | exact h | refine br_t (by decide) ?_ | refine br_f (by decide) ?_)
  · rw [e] at n1 n5 h
    obtain ⟨f1, f2⟩ := n5 (Or.inl rfl)
    refine nm_r n1 ?_
    rw [f1, nI_clamp (by omega)]
    exact br_f (by decide) (br_f (by decide) (br_f (by decide) (br_t (by decide) ⟨i4, vp_in_nI (by omega) (by decide), za_nb (h2 _), h⟩)))
  all_goals try (rw [e] at n1 K; have K := K rfl; refine nm_r n1 ?_; (repeat (first | exact K | refine br_t (by decide) ?_ | refine br_f (by decide) ?_)); done)
  · rw [e] at n1 h
    refine nm_r n1 ?_
    repeat (first | exact h | refine br_t (by decide) ?_ | refine br_f (by decide) ?_)
  · have o0 := n4 0 (by rw [e]; decide)
    rw [e] at n1 h o0
    have e0 : 4 * n + (zp_fo 14 + 0) = 4 * n := by rw [zp_fo_14]; rfl
    rw [e0] at o0
    refine nm_r n1 ?_
    rw [o0.1, nI_clamp (by omega)]
    repeat (first | exact ⟨i4, vp_in_nI (by omega) (by decide), za_nb (h1 _), h⟩ | refine br_t (by decide) ?_ | refine br_f (by decide) ?_)
  · rw [e] at n1 h
    refine nm_r n1 ?_
    repeat (first | exact h | refine br_t (by decide) ?_ | refine br_f (by decide) ?_)
  · rw [e] at n1 h
    refine nm_r n1 ?_
    repeat (first | exact h | refine br_t (by decide) ?_ | refine br_f (by decide) ?_)
end
end
section
/-! the component: the rest of compile -/
theorem zg_head {D : Nat → Nat → Prop} {a c : Nat} (h : Relation.TransGen D a c) : D a c ∨ ∃ b, D a b ∧ Relation.TransGen D b c := by
  induction h with
  | single h => exact Or.inl h
  | tail _ h ih =>
    rcases ih with h1 | ⟨b, h1, h2⟩
    · exact Or.inr ⟨_, h1, Relation.TransGen.single h⟩
    · exact Or.inr ⟨b, h1, Relation.TransGen.tail h2 h⟩
theorem zg_cons {D : Nat → Nat → Prop} {a b c : Nat} (h : D a b) (h2 : Relation.TransGen D b c) : Relation.TransGen D a c := Relation.TransGen.trans (Relation.TransGen.single h) h2
theorem zl_ckS {V N : Nat} {ck kd fl : Nat → Int32} {Lv : Nat → Prop} {w : Nat} : zl_ck V (N + 1) ck kd fl Lv w ↔ zl_ck V N ck kd fl Lv w ∨ (Lv N ∧ 16 ≤ zp_n kd N ∧ zp_n fl (4 * N) = w) := by
  constructor
  · rintro (h | ⟨n, hn, h⟩)
    · exact Or.inl (Or.inl h)
    · by_cases e : n = N
      · subst e; exact Or.inr h
      · exact Or.inl (Or.inr ⟨n, by omega, h⟩)
  · rintro ((h | ⟨n, hn, h⟩) | h)
    · exact Or.inl h
    · exact Or.inr ⟨n, by omega, h⟩
    · exact Or.inr ⟨N, by omega, h⟩
theorem zl_ckV {V : Nat} {ck kd fl : Nat → Int32} {Lv : Nat → Prop} {w : Nat} : zl_ck (V + 1) 0 ck kd fl Lv w ↔ zl_ck V 0 ck kd fl Lv w ∨ (zp_n ck V ≠ 0 ∧ (zp_n ck V - 1) / 2 = w) := by
  constructor
  · rintro (⟨v, hv, h⟩ | ⟨n, hn, h⟩)
    · by_cases e : v = V
      · subst e; exact Or.inr h
      · exact Or.inl (Or.inl ⟨v, by omega, h⟩)
    · exact absurd hn (Nat.not_lt_zero n)
  · rintro ((⟨v, hv, h⟩ | ⟨n, hn, h⟩) | h)
    · exact Or.inl ⟨v, by omega, h⟩
    · exact absurd hn (Nat.not_lt_zero n)
    · exact Or.inl ⟨V, by omega, h⟩
theorem zl_ck0 {ck kd fl : Nat → Int32} {Lv : Nat → Prop} {w : Nat} : ¬ zl_ck 0 0 ck kd fl Lv w := by
  rintro (⟨v, hv, h⟩ | ⟨n, hn, h⟩)
  · exact absurd hv (Nat.not_lt_zero v)
  · exact absurd hn (Nat.not_lt_zero n)
theorem zn_01u {a : Nat → Int32} {k : Nat} {x : Int32} (h : zn_01 a) (hx : x = 0 ∨ x = 1) : zn_01 (upd a k x) := by
  intro i
  by_cases e : i = k
  · rw [e, pk_us]; exact hx
  · rw [pk_un e]; exact h i
section
variable {eS oS aS MV MN MI ph ve fa no vc nc oc sc bc lc pr : Int32} {rl ck qn pd kd fl us lv ex ow de nl vl di re od sA sT bC bS bE sl mV mN se nV nN pS pV : Nat → Int32}
theorem xl_comp {post : SX → Prop} {V N S : Nat} (hW : zp_W V N rl ck qn kd fl) (hV : V ≤ 10) (hN : N ≤ 48) (hS106 : S ≤ 106) (hS : zs_S V N ck qn kd fl lv de sA sT S) (hall : zs_all V N kd lv sA sT S) (h1 : zn_01 nl) (h2 : zn_01 vl)
    (h : ∀ nl vl : Nat → Int32, zn_01 nl → zn_01 vl → (∀ n, n < N → lv n = 1 → nl n = zn_lt kd fl nl vl n) → (∀ v, v < V → vl v = zn_vl qn nl v) → post (eS, oS, aS, MV, MN, MI, ph, ve, fa, no, nI V, nI N, oc, nI S, bc, lc, pr, rl, ck, qn, pd, kd, fl, us, lv, ex, ow, de, nl, vl, di, re, od, sA, sT, bC, bS, bE, sl, mV, mN, se, nV, nN, pS, pV)) : wpX_computeLateness post (eS, oS, aS, MV, MN, MI, ph, ve, fa, no, nI V, nI N, oc, nI S, bc, lc, pr, rl, ck, qn, pd, kd, fl, us, lv, ex, ow, de, nl, vl, di, re, od, sA, sT, bC, bS, bE, sl, mV, mN, se, nV, nN, pS, pV) := by
  unfold wpX_computeLateness
  refine pk_loop (fun f i (s : (Nat → Int32) × (Nat → Int32)) => wX_computeLateness_2 post eS oS aS MV MN MI ph ve fa no (nI V) (nI N) oc (nI S) bc lc pr f (nI i) rl ck qn pd kd fl us lv ex ow de s.1 s.2 di re od sA sT bC bS bE sl mV mN se nV nN pS pV) (fun i s => zn_01 s.1 ∧ zn_01 s.2 ∧ zl_E qn kd fl sA sT s.1 s.2 i) S 0 (nl, vl) (Nat.zero_le _) ⟨h1, h2, fun s' hs' => absurd hs' (Nat.not_lt_zero _)⟩ ?_ ?_
  · rintro f ⟨nl, vl⟩ ⟨j1, j2, j3⟩
    dsimp only at j1 j2 j3
    refine br_t (nI_le (Nat.le_refl _) (by omega)) (h nl vl j1 j2 ?_ ?_)
    · intro n hn hl
      obtain ⟨s, a, b, c⟩ := zl_has hS (Nat.le_refl _) (by omega) (hall.2.1 n hn hl)
      have := (j3 s a).1 b
      rw [c] at this
      exact this
    · intro v hv
      obtain ⟨s, a, b, c⟩ := zl_has hS (Nat.le_refl _) (by omega) (hall.1 v hv)
      have := (j3 s a).2 b
      rw [c] at this
      exact this
  · rintro f s ⟨nl, vl⟩ hs ⟨j1, j2, j3⟩ ih
    dsimp only at j1 j2 j3 ih ⊢
    obtain ⟨t1, t2, t3⟩ := hS s hs
    have cs : (nI s).toNatClampNeg = s := nI_clamp (by omega)
    have is : vp_in (nI s) 106 := vp_in_nI (by omega) (by decide)
    have ct : (nI (zp_n sT s)).toNatClampNeg = zp_n sT s := nI_clamp (by omega)
    refine br_f (nI_ge hs (by omega)) ⟨is, nm_r (e' := nI (zp_n sT s)) (by rw [cs]; exact t1) ⟨is, ?_⟩⟩
    rw [cs]
    rcases t3 with ⟨g1, g2, _⟩ | ⟨g1, g2, _⟩ | ⟨g1, g2, _⟩
    · refine br_t g1 (xl_node hW hV hN g2 j1 j2 ⟨vp_in_nI (by omega) (by decide), ?_⟩)
      have z01 := zn_lt01 (nl := nl) (vl := vl) hW g2 (fun v _ => j2 v) (fun m _ => j1 m)
      rw [ct, za_bv z01]
      exact nm_e (nm_r (nI_1 s) (ih (upd nl (zp_n sT s) (zn_lt kd fl nl vl (zp_n sT s)), vl) ⟨zn_01u j1 z01, j2, zl_Ee hW hN hS hs g1 rfl j3⟩))
    · have iv : vp_in (nI (zp_n sT s)) 10 := vp_in_nI (by omega) (by decide)
      refine br_f (by rw [g1]; exact za_10) ⟨is, br_t g1 ⟨iv, ?_⟩⟩
      rw [ct]
      have nx := ih (nl, upd vl (zp_n sT s) (zn_vl qn nl (zp_n sT s))) ⟨j1, zn_01u j2 zn_vl01, zl_Es hW hV hS hs g1 rfl j3⟩
      dsimp only at nx
      unfold zn_vl at nx
      rcases (hW.1 _ g2).2.2 with e | ⟨_, e, e'⟩
      · have hq : qn (zp_n sT s) < 0 := by rw [e]; exact za_m0
        rw [if_pos hq] at nx
        exact nm_e (br_t hq ⟨iv, nm_r (e' := upd vl (zp_n sT s) 0) (by rw [za_b0]) (nm_r (nI_1 s) nx)⟩)
      · have hq : ¬ qn (zp_n sT s) < 0 := by rw [e]; exact nI_pos (by omega)
        rw [if_neg hq] at nx
        refine nm_r e (br_f (by rw [← e]; exact hq) ?_)
        rw [nI_clamp (n := zp_n qn (zp_n sT s)) (by omega)]
        refine ⟨vp_in_nI (by omega) (by decide), ?_⟩
        by_cases e1 : nl (zp_n qn (zp_n sT s)) = 0
        · rw [if_pos e1] at nx
          exact br_t e1 ⟨iv, nm_r (e' := upd vl (zp_n sT s) 0) (by rw [za_b0]) (nm_r (nI_1 s) nx)⟩
        · rw [if_neg e1] at nx
          exact br_f e1 ⟨iv, nm_r (e' := upd vl (zp_n sT s) 1) (by rw [za_b1]) (nm_r (nI_1 s) nx)⟩
    · refine br_f (by rw [g1]; decide) ⟨is, br_f (by rw [g1]; decide) (nm_r (nI_1 s) (ih (nl, vl) ⟨j1, j2, ?_⟩))⟩
      intro s' hs'
      by_cases e : s' = s
      · subst e
        exact ⟨fun h => by rw [g1] at h; exact absurd h (by decide), fun h => by rw [g1] at h; exact absurd h (by decide)⟩
      · exact j3 s' (by omega)
theorem xl_clk {post : Int32 → Prop} {V N : Nat} (hW : zp_W V N rl ck qn kd fl) (hV : V ≤ 10) (hN : N ≤ 48) (hL : ∀ n, n < N → lv n = 0 ∨ lv n = 1)
    (h0 : (∀ i, i < V → ¬ (¬ vl i = 0 ∧ zl_ck V N ck kd fl (fun n => lv n = 1) i)) → post (-1)) (h1 : ∀ i, i < V → zc_f (fun v => ¬ vl v = 0 ∧ zl_ck V N ck kd fl (fun n => lv n = 1) v) i → post (nI i)) : wpX_findLateClock post (eS, oS, aS, MV, MN, MI, ph, ve, fa, no, nI V, nI N, oc, sc, bc, lc, pr, rl, ck, qn, pd, kd, fl, us, lv, ex, ow, de, nl, vl, di, re, od, sA, sT, bC, bS, bE, sl, mV, mN, se, nV, nN, pS, pV) := by
  unfold wpX_findLateClock
  refine pk_loop (fun f i (m : Int32) => wX_findLateClock_4 post eS oS aS MV MN MI ph ve fa no (nI V) (nI N) oc sc bc lc pr rl ck qn pd kd fl us lv ex ow de nl vl di re od sA sT bC bS bE sl mV mN se nV nN pS pV f m (nI i)) (fun i m => ∀ w, w < 32 → (bt m w = true ↔ zl_ck i 0 ck kd fl (fun n => lv n = 1) w)) V 0 0 (Nat.zero_le _) ?_ ?_ ?_
  · intro w hw
    rw [b_0]
    exact ⟨fun h => (Bool.false_ne_true h).elim, fun h => absurd h zl_ck0⟩
  · intro f m hI
    refine br_t (nI_le (Nat.le_refl _) (by omega)) ?_
    refine pk_loop (fun f i (m : Int32) => wX_findLateClock_46 post eS oS aS MV MN MI ph ve fa no (nI V) (nI N) oc sc bc lc pr rl ck qn pd kd fl us lv ex ow de nl vl di re od sA sT bC bS bE sl mV mN se nV nN pS pV f m (nI i)) (fun i m => ∀ w, w < 32 → (bt m w = true ↔ zl_ck V i ck kd fl (fun n => lv n = 1) w)) N 0 m (Nat.zero_le _) hI ?_ ?_
    · intro f m hI
      refine br_t (nI_le (Nat.le_refl _) (by omega)) ?_
      refine pk_loop (fun f i (_ : Unit) => wX_findLateClock_97 post m eS oS aS MV MN MI ph ve fa no (nI V) (nI N) oc sc bc lc pr rl ck qn pd kd fl us lv ex ow de nl vl di re od sA sT bC bS bE sl mV mN se nV nN pS pV f (nI i)) (fun i _ => ∀ j, j < i → ¬ (¬ vl j = 0 ∧ zl_ck V N ck kd fl (fun n => lv n = 1) j)) V 0 () (Nat.zero_le _) (fun n hn => absurd hn (Nat.not_lt_zero n)) ?_ ?_
      · intro f _ hJ
        exact br_t (nI_le (Nat.le_refl _) (by omega)) (h0 hJ)
      · intro f i _ hi hJ ih
        have ci : (nI i).toNatClampNeg = i := nI_clamp (by omega)
        have nx : ¬ (¬ vl i = 0 ∧ zl_ck V N ck kd fl (fun n => lv n = 1) i) → ∀ j, j < i + 1 → ¬ (¬ vl j = 0 ∧ zl_ck V N ck kd fl (fun n => lv n = 1) j) := by
          intro hn j hj
          by_cases e : j = i
          · rw [e]; exact hn
          · exact hJ j (by omega)
        refine br_f (nI_ge hi (by omega)) ⟨vp_in_nI (by omega) (by decide), ?_⟩
        rw [ci, zb_t (by omega)]
        refine br_c (fun e => nm_r (nI_1 i) (ih () (nx (fun h => h.1 e)))) (fun e => br_c (fun hb => nm_r (nI_1 i) (ih () (nx (fun h => ?_)))) (fun hb => h1 i hi ⟨⟨e, (hI i (by omega)).mp ?_⟩, hJ⟩))
        · have := (hI i (by omega)).mpr h.2
          rw [hb] at this
          exact Bool.false_ne_true this
        · cases e2 : bt m i with
          | true => rfl
          | false => exact absurd e2 hb
    · intro f i m hi hI ih
      have ci : (nI i).toNatClampNeg = i := nI_clamp (by omega)
      have ii : vp_in (nI i) 48 := vp_in_nI (by omega) (by decide)
      have c4 : (nI (4 * i)).toNatClampNeg = 4 * i := nI_clamp (by omega)
      obtain ⟨n1, n2, n3, n4, n5, n6⟩ := hW.2 i hi
      have skip : ¬ (lv i = 1 ∧ 16 ≤ zp_n kd i) → ∀ w, w < 32 → (bt m w = true ↔ zl_ck V (i + 1) ck kd fl (fun n => lv n = 1) w) := by
        intro hn w hw
        rw [hI w hw, zl_ckS]
        exact ⟨Or.inl, fun h => h.elim id (fun h => absurd ⟨h.1, h.2.1⟩ hn)⟩
      refine br_f (nI_ge hi (by omega)) ⟨ii, ?_⟩
      rw [ci]
      rcases hL i hi with e | e
      · exact br_t e (nm_r (nI_1 i) (ih m (skip (fun h => by rw [e] at h; exact za_01 h.1))))
      · refine br_f (by rw [e]; exact za_10) ⟨ii, ?_⟩
        rw [n1]
        refine xc_nc n3 ?_ ?_
        · intro k16
          obtain ⟨f1, f2⟩ := n5 (Or.inr k16)
          refine br_f za_10 ?_
          rw [za_m4, c4, f1]
          refine ⟨vp_in_nI (by omega) (by decide), nm_e (nm_r (nI_1 i) (ih _ ?_))⟩
          intro w hw
          rw [zb_o (by omega) hw, Bool.or_eq_true, hI w hw, decide_eq_true_iff, zl_ckS]
          constructor
          · rintro (h | h)
            · exact Or.inl h
            · exact Or.inr ⟨e, k16, h.symm⟩
          · rintro (h | h)
            · exact Or.inl h
            · exact Or.inr h.2.2.symm
        · intro k16
          exact br_t rfl (nm_r (nI_1 i) (ih m (skip (fun h => k16 h.2))))
  · intro f i m hi hI ih
    have ci : (nI i).toNatClampNeg = i := nI_clamp (by omega)
    have ii : vp_in (nI i) 10 := vp_in_nI (by omega) (by decide)
    have hck := (hW.1 i hi).2.1
    have hcb : zp_n ck i < 2 ^ 31 := by omega
    refine br_f (nI_ge hi (by omega)) ⟨ii, ?_⟩
    rw [ci, hck.1]
    by_cases h0' : zp_n ck i = 0
    · refine br_t ((zq_0 hcb).mpr h0') (nm_r (nI_1 i) (ih m ?_))
      intro w hw
      rw [hI w hw, zl_ckV]
      exact ⟨Or.inl, fun h => h.elim id (fun h => absurd h0' h.1)⟩
    · refine br_f (fun h => h0' ((zq_0 hcb).mp h)) ⟨ii, xc_cv (by omega) hcb (nm_e (nm_r (nI_1 i) (ih _ ?_)))⟩
      intro w hw
      rw [zb_o (by omega) hw, Bool.or_eq_true, hI w hw, decide_eq_true_iff, zl_ckV]
      constructor
      · rintro (h | h)
        · exact Or.inl h
        · exact Or.inr ⟨h0', h.symm⟩
      · rintro (h | h)
        · exact Or.inl h
        · exact Or.inr h.2.symm
theorem xl_nod {post : Int32 → Prop} {V N : Nat} (hW : zp_W V N rl ck qn kd fl) (hN : N ≤ 48) (hL : ∀ n, n < N → lv n = 0 ∨ lv n = 1)
    (h0 : (∀ i, i < N → ¬ (lv i = 1 ∧ zc_5 kd fl nl i)) → post (-1)) (h1 : ∀ i, i < N → zc_f (fun n => lv n = 1 ∧ zc_5 kd fl nl n) i → post (nI i)) : wpX_findLateNode post (eS, oS, aS, MV, MN, MI, ph, ve, fa, no, vc, nI N, oc, sc, bc, lc, pr, rl, ck, qn, pd, kd, fl, us, lv, ex, ow, de, nl, vl, di, re, od, sA, sT, bC, bS, bE, sl, mV, mN, se, nV, nN, pS, pV) := by
  unfold wpX_findLateNode
  refine pk_loop (fun f i (_ : Unit) => wX_findLateNode_2 post eS oS aS MV MN MI ph ve fa no vc (nI N) oc sc bc lc pr rl ck qn pd kd fl us lv ex ow de nl vl di re od sA sT bC bS bE sl mV mN se nV nN pS pV f (nI i)) (fun i _ => ∀ j, j < i → ¬ (lv j = 1 ∧ zc_5 kd fl nl j)) N 0 () (Nat.zero_le _) (fun n hn => absurd hn (Nat.not_lt_zero n)) ?_ ?_
  · intro f _ hI
    exact br_t (nI_le (Nat.le_refl _) (by omega)) (h0 hI)
  · intro f i _ hi hI ih
    have ci : (nI i).toNatClampNeg = i := nI_clamp (by omega)
    have ii : vp_in (nI i) 48 := vp_in_nI (by omega) (by decide)
    obtain ⟨n1, n2, n3, n4, n5, n6⟩ := hW.2 i hi
    have hb : zp_n kd i < 2 ^ 31 := by omega
    have nx : ¬ (lv i = 1 ∧ zc_5 kd fl nl i) → ∀ j, j < i + 1 → ¬ (lv j = 1 ∧ zc_5 kd fl nl j) := by
      intro hn j hj
      by_cases e : j = i
      · rw [e]; exact hn
      · exact hI j (by omega)
    have K1 : (zp_n kd i = 5 ∨ 17 ≤ zp_n kd i) → wX_findLateNode_34 post (wX_findLateNode_2 post eS oS aS MV MN MI ph ve fa no vc (nI N) oc sc bc lc pr rl ck qn pd kd fl us lv ex ow de nl vl di re od sA sT bC bS bE sl mV mN se nV nN pS pV f) (nI i) eS oS aS MV MN MI ph ve fa no vc (nI N) oc sc bc lc pr rl ck qn pd kd fl us lv ex ow de nl vl di re od sA sT bC bS bE sl mV mN se nV nN pS pV := by
      intro hk
      unfold wX_findLateNode_34 wX_findLateNode_39
      rw [ci]
      refine ⟨ii, ?_⟩
      rcases hL i hi with e | e
      · exact br_t e (nm_r (nI_1 i) (ih () (nx (fun h => by rw [e] at h; exact za_01 h.1))))
      · refine br_f (by rw [e]; exact za_10) (br_f za_10 (xl_any (V := V) (by omega) (hW.2 i hi) ?_))
        rcases zn_any01 (kd := kd) (fl := fl) (nl := nl) (n := i) with z | z
        · rw [z]; exact br_t rfl (nm_r (nI_1 i) (ih () (nx (fun h => by have := h.2.2; rw [z] at this; exact za_01 this))))
        · rw [z]; exact br_f za_10 (h1 i hi ⟨⟨e, hk, z⟩, hI⟩)
    refine br_f (nI_ge hi (by omega)) ⟨ii, nm_r (e' := nI (zp_n kd i)) (by rw [ci]; exact n1) ?_⟩
    by_cases k5 : zp_n kd i = 5
    · exact br_t ((zq_5 hb).mpr k5) (K1 (Or.inl k5))
    refine br_f (fun e => k5 ((zq_5 hb).mp e)) ?_
    by_cases k18 : zp_n kd i = 18
    · exact br_t ((zq_18 hb).mpr k18) (K1 (Or.inr (by omega)))
    refine br_f (fun e => k18 ((zq_18 hb).mp e)) ?_
    by_cases k17 : zp_n kd i = 17
    · exact br_t ((zq_17 hb).mpr k17) (K1 (Or.inr (by omega)))
    refine br_f (fun e => k17 ((zq_17 hb).mp e)) ?_
    unfold wX_findLateNode_39
    rw [ci]
    have nn : ¬ (lv i = 1 ∧ zc_5 kd fl nl i) := fun h => by have := h.2.1; omega
    refine ⟨ii, ?_⟩
    rcases hL i hi with e | e
    · exact br_t e (nm_r (nI_1 i) (ih () (nx nn)))
    · exact br_f (by rw [e]; exact za_10) (br_t rfl (nm_r (nI_1 i) (ih () (nx nn))))
theorem xl_close {post : SX → Prop} {V q : Nat} {D : Nat → Nat → Prop} (hV : V ≤ 10) (hD : ∀ v w, v < V → D v w → w < V) (hb : zd_bits V D di) (hod : ∀ i, i < q → od i = nI (zp_n od i)) (ho : zd_o V D (zp_n od) q) (hcov : zd_cov V (zp_n od) q)
    (h : ∀ re : Nat → Int32, (∀ v w, v < V → w < V → (bt (re v) w = true ↔ Relation.TransGen D v w)) → post (eS, oS, aS, MV, MN, MI, ph, ve, fa, no, nI V, nc, nI q, sc, bc, lc, pr, rl, ck, qn, pd, kd, fl, us, lv, ex, ow, de, nl, vl, di, re, od, sA, sT, bC, bS, bE, sl, mV, mN, se, nV, nN, pS, pV)) : wpX_closeDependencies post (eS, oS, aS, MV, MN, MI, ph, ve, fa, no, nI V, nc, nI q, sc, bc, lc, pr, rl, ck, qn, pd, kd, fl, us, lv, ex, ow, de, nl, vl, di, re, od, sA, sT, bC, bS, bE, sl, mV, mN, se, nV, nN, pS, pV) := by
  have hq := hcov.1
  unfold wpX_closeDependencies
  refine pk_loop (fun f i (re : Nat → Int32) => wX_closeDependencies_2 post eS oS aS MV MN MI ph ve fa no (nI V) nc (nI q) sc bc lc pr f (nI i) rl ck qn pd kd fl us lv ex ow de nl vl di re od sA sT bC bS bE sl mV mN se nV nN pS pV) (fun i re => ∀ i' w, i' < i → w < 32 → (bt (re (zp_n od i')) w = true ↔ Relation.TransGen D (zp_n od i') w)) q 0 re (Nat.zero_le _) (fun i' w hi => absurd hi (Nat.not_lt_zero _)) ?_ ?_
  · intro f re hI
    refine br_t (nI_le (Nat.le_refl _) (by omega)) (h re ?_)
    intro v w hv hw
    obtain ⟨i, a, b⟩ := hcov.2 v hv
    rw [← b]; exact hI i w a (by omega)
  · intro f i re hi hI ih
    have ci : (nI i).toNatClampNeg = i := nI_clamp (by omega)
    have hov := ho.1 i hi
    have co : (nI (zp_n od i)).toNatClampNeg = zp_n od i := nI_clamp (by omega)
    have io : vp_in (nI (zp_n od i)) 10 := vp_in_nI (by omega) (by decide)
    refine br_f (nI_ge hi (by omega)) ⟨vp_in_nI (by omega) (by decide), nm_r (e' := nI (zp_n od i)) (by rw [ci]; exact hod i hi) ⟨io, nm_r (e' := di (zp_n od i)) (by rw [co]) ?_⟩⟩
    refine pk_loop (fun f2 w (x : Int32) => wX_closeDependencies_27 post (wX_closeDependencies_2 post eS oS aS MV MN MI ph ve fa no (nI V) nc (nI q) sc bc lc pr f) (nI i) (nI (zp_n od i)) eS oS aS MV MN MI ph ve fa no (nI V) nc (nI q) sc bc lc pr rl ck qn pd kd fl us lv ex ow de nl vl di re od sA sT bC bS bE sl mV mN se nV nN pS pV f2 x (nI w)) (fun w x => ∀ y, y < 32 → (bt x y = true ↔ D (zp_n od i) y ∨ ∃ w', w' < w ∧ D (zp_n od i) w' ∧ Relation.TransGen D w' y)) V 0 (di (zp_n od i)) (Nat.zero_le _) ?_ ?_ ?_
    · intro y hy
      rw [hb _ y hov hy]
      exact ⟨Or.inl, fun h => h.elim id (fun ⟨w', hw', _⟩ => absurd hw' (Nat.not_lt_zero _))⟩
    · intro f2 x hx
      refine br_t (nI_le (Nat.le_refl _) (by omega)) ⟨io, nm_r (e' := upd re (zp_n od i) x) (by rw [co]) (nm_r (nI_1 i) (ih _ ?_))⟩
      have new : ∀ w, w < 32 → (bt x w = true ↔ Relation.TransGen D (zp_n od i) w) := by
        intro w hw
        rw [hx w hw]
        constructor
        · rintro (h | ⟨w', _, h1, h2⟩)
          · exact Relation.TransGen.single h
          · exact zg_cons h1 h2
        · intro h
          rcases zg_head h with h | ⟨b, h1, h2⟩
          · exact Or.inl h
          · exact Or.inr ⟨b, hD _ _ hov h1, h1, h2⟩
      intro i' w hi' hw
      by_cases e : zp_n od i' = zp_n od i
      · rw [e, pk_us]; exact new w hw
      · rw [pk_un e]
        refine hI i' w ?_ hw
        rcases Nat.lt_or_ge i' i with hl | hl
        · exact hl
        · exact absurd (by rw [show i' = i by omega]) e
    · intro f2 w x hw hx ih2
      have cw : (nI w).toNatClampNeg = w := nI_clamp (by omega)
      refine br_f (nI_ge hw (by omega)) ⟨io, ?_⟩
      rw [co, zb_t (by omega)]
      refine br_c (fun e => nm_r (nI_1 w) (ih2 x ?_)) (fun e => ?_)
      · intro y hy
        rw [hx y hy]
        constructor
        · rintro (h | ⟨w', a, b⟩)
          · exact Or.inl h
          · exact Or.inr ⟨w', by omega, b⟩
        · rintro (h | ⟨w', a, b⟩)
          · exact Or.inl h
          · by_cases e' : w' = w
            · subst e'
              have := (hb _ w' hov (by omega)).mpr b.1
              rw [e] at this
              exact (Bool.false_ne_true this).elim
            · exact Or.inr ⟨w', by omega, b⟩
      · have hd : D (zp_n od i) w := by
          refine (hb _ w hov (by omega)).mp ?_
          cases e2 : bt (di (zp_n od i)) w with
          | true => rfl
          | false => exact absurd e2 e
        obtain ⟨i', a, b⟩ := ho.2 i w hi hd
        rw [cw]
        refine ⟨vp_in_nI (by omega) (by decide), nm_e (nm_r (nI_1 w) (ih2 _ ?_))⟩
        intro y hy
        have hr := hI i' y a hy
        rw [b] at hr
        rw [b_or, Bool.or_eq_true, hx y hy, hr]
        constructor
        · rintro ((h | ⟨w', a', b'⟩) | h)
          · exact Or.inl h
          · exact Or.inr ⟨w', by omega, b'⟩
          · exact Or.inr ⟨w, by omega, hd, h⟩
        · rintro (h | ⟨w', a', b'⟩)
          · exact Or.inl (Or.inl h)
          · by_cases e' : w' = w
            · subst e'; exact Or.inr b'.2
            · exact Or.inl (Or.inr ⟨w', by omega, b'⟩)
/-- the slots given so far and what row 0 holds in them -/
def zm_I (kd fl lv sl mV mN : Nat → Int32) (i L : Nat) : Prop :=
  L ≤ i ∧ (∀ n, n < i → lv n = 1 → (zp_n kd n = 5 ∨ zp_n kd n = 18) → sl n = nI (zp_n sl n) ∧ zp_n sl n < L ∧ (zp_n kd n = 5 → mV (zp_n sl n) = 0 ∧ mN (zp_n sl n) = 1) ∧ (zp_n kd n = 18 → mV (zp_n sl n) = fl (4 * n + 2) ∧ mN (zp_n sl n) = 0)) ∧
  (∀ n n', n < i → n' < i → lv n = 1 → lv n' = 1 → (zp_n kd n = 5 ∨ zp_n kd n = 18) → (zp_n kd n' = 5 ∨ zp_n kd n' = 18) → zp_n sl n = zp_n sl n' → n = n')
theorem zm_s {kd fl lv sl mV mN : Nat → Int32} {i L : Nat} {x y : Int32} (hi : i < 48) (hx : zp_n kd i = 5 → x = 0 ∧ y = 1) (hy : zp_n kd i = 18 → x = fl (4 * i + 2) ∧ y = 0) (h : zm_I kd fl lv sl mV mN i L) :
    zm_I kd fl lv (upd sl i (nI L)) (upd mV L x) (upd mN L y) (i + 1) (L + 1) := by
  obtain ⟨h1, h2, h3⟩ := h
  have eL : zp_n (upd sl i (nI L)) i = L := by rw [zp_nx, nI_clamp (by omega)]
  refine ⟨by omega, ?_, ?_⟩
  · intro n hn hl hk
    by_cases e : n = i
    · subst e
      rw [eL, pk_us, pk_us, pk_us]
      exact ⟨rfl, by omega, hx, hy⟩
    · rw [zp_nu e, pk_un e]
      obtain ⟨a, b, c, d⟩ := h2 n (by omega) hl hk
      rw [pk_un (by omega), pk_un (by omega)]
      exact ⟨a, by omega, c, d⟩
  · intro n n' hn hn' hl hl' hk hk'
    by_cases e : n = i <;> by_cases e' : n' = i
    · intro _; omega
    · subst e
      rw [eL, zp_nu e']
      intro hh
      have := (h2 n' (by omega) hl' hk').2.1
      omega
    · subst e'
      rw [eL, zp_nu e]
      intro hh
      have := (h2 n (by omega) hl hk).2.1
      omega
    · rw [zp_nu e, zp_nu e']
      exact h3 n n' (by omega) (by omega) hl hl' hk hk'
theorem zm_n {kd fl lv sl mV mN : Nat → Int32} {i L : Nat} (hn : ¬ (lv i = 1 ∧ (zp_n kd i = 5 ∨ zp_n kd i = 18))) (h : zm_I kd fl lv sl mV mN i L) : zm_I kd fl lv sl mV mN (i + 1) L := by
  obtain ⟨h1, h2, h3⟩ := h
  have ne : ∀ n, n < i + 1 → lv n = 1 → (zp_n kd n = 5 ∨ zp_n kd n = 18) → n < i := by
    intro n hn' hl hk
    by_cases e : n = i
    · subst e; exact absurd ⟨hl, hk⟩ hn
    · omega
  exact ⟨by omega, fun n hn hl hk => h2 n (ne n hn hl hk) hl hk, fun n n' a b c d e f => h3 n n' (ne n a c e) (ne n' b d f) c d e f⟩
theorem xl_start {post : SX → Prop} {V N : Nat} (hW : zp_W V N rl ck qn kd fl) (hV : V ≤ 10) (hN : N ≤ 48) (hL : ∀ n, n < N → lv n = 0 ∨ lv n = 1)
    (h : ∀ (L : Nat) (sl mV mN : Nat → Int32), zm_I kd fl lv sl mV mN N L → post (eS, oS, aS, MV, MN, MI, 1, ve, fa, 0, nI V, nI N, oc, sc, bc, nI L, pr, rl, ck, qn, zc_z V pd, kd, fl, us, lv, ex, ow, de, nl, vl, di, re, od, sA, sT, bC, bS, bE, sl, mV, mN, upd se 0 0, nV, nN, pS, pV)) : wpX_startProgram post (eS, oS, aS, MV, MN, MI, ph, ve, fa, no, nI V, nI N, oc, sc, bc, lc, pr, rl, ck, qn, pd, kd, fl, us, lv, ex, ow, de, nl, vl, di, re, od, sA, sT, bC, bS, bE, sl, mV, mN, se, nV, nN, pS, pV) := by
  unfold wpX_startProgram
  refine pk_loop (fun f i (s : Nat × (Nat → Int32) × (Nat → Int32) × (Nat → Int32)) => wX_startProgram_7 post eS oS aS MV MN MI ph ve fa no (nI V) (nI N) oc sc bc pr f (nI i) (nI s.1) rl ck qn pd kd fl us lv ex ow de nl vl di re od sA sT bC bS bE s.2.1 s.2.2.1 s.2.2.2 se nV nN pS pV) (fun i s => zm_I kd fl lv s.2.1 s.2.2.1 s.2.2.2 i s.1) N 0 (0, sl, mV, mN) (Nat.zero_le _) ?_ ?_ ?_
  · exact ⟨Nat.le_refl _, fun n hn => absurd hn (Nat.not_lt_zero n), fun n n' hn => absurd hn (Nat.not_lt_zero n)⟩
  · rintro f ⟨L, sl, mV, mN⟩ hI
    dsimp only at hI
    refine br_t (nI_le (Nat.le_refl _) (by omega)) (nm_e ?_)
    refine pk_loop (fun f i (p : Nat → Int32) => wX_startProgram_133 post eS oS aS MV MN MI ph ve fa no (nI V) (nI N) oc sc bc (nI L) pr f (nI i) rl ck qn p kd fl us lv ex ow de nl vl di re od sA sT bC bS bE sl mV mN (upd se 0 0) nV nN pS pV) (fun i p => p = zc_z i pd) V 0 pd (Nat.zero_le _) zc_z0.symm ?_ ?_
    · rintro f p rfl
      exact br_t (nI_le (Nat.le_refl _) (by omega)) (h L sl mV mN hI)
    · rintro f i p hi rfl ih
      have ci : (nI i).toNatClampNeg = i := nI_clamp (by omega)
      exact br_f (nI_ge hi (by omega)) ⟨vp_in_nI (by omega) (by decide), nm_r (e' := zc_z (i + 1) pd) (by rw [ci, zc_zs]) (nm_r (nI_1 i) (ih _ rfl))⟩
  · rintro f i ⟨L, sl, mV, mN⟩ hi hI ih
    dsimp only at hI ih ⊢
    have hLi := hI.1
    have ci : (nI i).toNatClampNeg = i := nI_clamp (by omega)
    have ii : vp_in (nI i) 48 := vp_in_nI (by omega) (by decide)
    have cL : (nI L).toNatClampNeg = L := nI_clamp (by omega)
    have iL : vp_in (nI L) 1200 := vp_in_nI (by omega) (by decide)
    have c4 : (nI (4 * i + 2)).toNatClampNeg = 4 * i + 2 := nI_clamp (by omega)
    obtain ⟨n1, n2, n3, n4, n5, n6⟩ := hW.2 i hi
    have hb : zp_n kd i < 2 ^ 31 := by omega
    refine br_f (nI_ge hi (by omega)) ⟨ii, ?_⟩
    rw [ci]
    rcases hL i hi with e | e
    · exact br_t e (nm_r (nI_1 i) (ih (L, sl, mV, mN) (zm_n (fun h => by rw [e] at h; exact za_01 h.1) hI)))
    · refine br_f (by rw [e]; exact za_10) ⟨ii, ?_⟩
      rw [n1]
      by_cases k5 : zp_n kd i = 5
      · refine br_t ((zq_5 hb).mpr k5) ?_
        unfold wX_startProgram_45 wX_startProgram_60 wX_startProgram_97
        rw [ci, cL, n1, za_b1, za_b0]
        exact ⟨ii, br_t ((zq_5 hb).mpr k5) ⟨ii, nm_e (br_f za_10 ⟨iL, nm_e ⟨iL, nm_e (nm_r (nI_1 L) (nm_r (nI_1 i) (ih (L + 1, upd sl i (nI L), upd mV L 0, upd mN L 1) (zm_s (by omega) (fun _ => ⟨rfl, rfl⟩) (fun h => by omega) hI))))⟩⟩)⟩⟩
      · refine br_f (fun e => k5 ((zq_5 hb).mp e)) ⟨ii, ?_⟩
        by_cases k18 : zp_n kd i = 18
        · refine br_t ((zq_18 hb).mpr k18) ?_
          unfold wX_startProgram_45 wX_startProgram_60 wX_startProgram_97
          rw [ci, cL, n1, za_b1, za_b0, za_m4, za_2, c4]
          exact ⟨ii, br_f (fun e => k5 ((zq_5 hb).mp e)) ⟨ii, nm_e (br_t rfl ⟨vp_in_nI (by omega) (by decide), iL, nm_e ⟨iL, nm_e (nm_r (nI_1 L) (nm_r (nI_1 i) (ih (L + 1, upd sl i (nI L), upd mV L (fl (4 * i + 2)), upd mN L 0) (zm_s (by omega) (fun h => by omega) (fun _ => ⟨rfl, rfl⟩) hI))))⟩⟩)⟩⟩
        · exact br_f (fun e => k18 ((zq_18 hb).mp e)) (nm_r (nI_1 i) (ih (L, sl, mV, mN) (zm_n (fun h => by have := h.2; omega) hI)))
end
end
section
/-! compile on both sides -/
theorem zc_fu {P : Nat → Prop} {i j : Nat} (h : zc_f P i) (h' : zc_f P j) : j = i := by
  rcases Nat.lt_trichotomy i j with l | l | l
  · exact absurd h.1 (h'.2 i l)
  · exact l.symm
  · exact absurd h'.1 (h.2 j l)
theorem zc_fe {P Q : Nat → Prop} {i M : Nat} (hi : i < M) (e : ∀ j, j < M → (P j ↔ Q j)) (h : zc_f P i) : zc_f Q i :=
  ⟨(e i hi).mp h.1, fun j hj hq => h.2 j hj ((e j (by omega)).mpr hq)⟩
section
variable {V N : Nat} {rl ck qn kd fl lv ex ow de yd ye ys nl vl yn yl od : Nat → Int32}
theorem zc_lv (hV : V ≤ 10) (hL : zt_L V N ck qn kd fl lv ex ow de) (h1 : ∀ n, n < N → yd n = de n ∧ ye n = zd_E ex ow n) : ∀ n, n < N → (¬ yd n < 0 ↔ lv n = 1) := by
  intro n hn
  rw [(h1 n hn).1]
  rcases hL.1 n hn with ⟨s1, s2, s3, s4⟩ | ⟨s1, s2, s3, s4, s5, s6⟩
  · rw [s1, s4]
    exact ⟨fun h => absurd za_m0 h, fun h => absurd h za_01⟩
  · rw [s1, s5]
    exact ⟨fun _ => rfl, fun _ => nI_pos (by omega)⟩
theorem zc_e2 (hV : V ≤ 10) (hL : zt_L V N ck qn kd fl lv ex ow de) (h1 : ∀ n, n < N → yd n = de n ∧ ye n = zd_E ex ow n) : ∀ n, n < N → ((¬ yd n < 0 ∧ zt_off ck kd fl yd n) ↔ (lv n = 1 ∧ zt_off ck kd fl de n)) := by
  intro n hn
  rw [zc_lv hV hL h1 n hn]
  unfold zt_off
  rw [(h1 n hn).1]
theorem zc_e3 (hW : zp_W V N rl ck qn kd fl) (h1 : ∀ n, n < N → yd n = de n ∧ ye n = zd_E ex ow n) (p2 : yd_ok V (zd_dp N ck kd fl ye) ys) (p3 : ∀ o q, zd_o V (zd_dp N ck kd fl ye) o q → ∀ i, i < q → i < V → ys (o i) = 1)
    {o : Nat → Nat} {q : Nat} (ho : zd_o V (zd_dp N ck kd fl (zd_E ex ow)) o q) (hq : q ≤ V) (hC : zd_C V (zd_dp N ck kd fl (zd_E ex ow)) o q) : ∀ v, v < V → (ys v = 0 ↔ ¬ ∃ i, i < q ∧ o i = v) := by
  have e1 : ∀ v w, zd_dp N ck kd fl ye v w → (zd_dp N ck kd fl (zd_E ex ow)) v w := fun v w => zd_cg (fun n hn => (h1 n hn).2.symm)
  have e2 : ∀ v w, (zd_dp N ck kd fl (zd_E ex ow)) v w → zd_dp N ck kd fl ye v w := fun v w => zd_cg (fun n hn => (h1 n hn).2)
  intro v hv
  constructor
  · rintro h0 ⟨i, hi, e⟩
    have := p3 o q ⟨ho.1, fun i w hi d => ho.2 i w hi (e1 _ _ d)⟩ i hi (by omega)
    rw [e, h0] at this
    exact za_01 this
  · intro hn
    rcases p2.1 v hv with e | e
    · exact e
    · refine absurd (p2.2 v hv e (fun v => ∃ i, i < q ∧ o i = v) ?_) hn
      intro x hx hd
      exact hC x hx (fun w d => hd w (e2 _ _ d))
theorem zc_e4 (hV : V ≤ 10) (hL : zt_L V N ck qn kd fl lv ex ow de) (h1 : ∀ n, n < N → yd n = de n ∧ ye n = zd_E ex ow n) (h2 : ∀ v, v < V → yl v = vl v) :
    ∀ v, v < V → ((¬ yl v = 0 ∧ zl_ck V N ck kd fl (fun n => ¬ yd n < 0) v) ↔ (¬ vl v = 0 ∧ zl_ck V N ck kd fl (fun n => lv n = 1) v)) := by
  intro v hv
  rw [h2 v hv]
  have e : zl_ck V N ck kd fl (fun n => ¬ yd n < 0) v ↔ zl_ck V N ck kd fl (fun n => lv n = 1) v := by
    constructor
    · rintro (h | ⟨n, hn, a, b⟩)
      · exact Or.inl h
      · exact Or.inr ⟨n, hn, (zc_lv hV hL h1 n hn).mp a, b⟩
    · rintro (h | ⟨n, hn, a, b⟩)
      · exact Or.inl h
      · exact Or.inr ⟨n, hn, (zc_lv hV hL h1 n hn).mpr a, b⟩
  rw [e]
theorem zc_e5 (hW : zp_W V N rl ck qn kd fl) (hV : V ≤ 10) (hL : zt_L V N ck qn kd fl lv ex ow de) (h1 : ∀ n, n < N → yd n = de n ∧ ye n = zd_E ex ow n) (h2 : ∀ m, m < N → lv m = 1 → yn m = nl m) :
    ∀ n, n < N → ((¬ yd n < 0 ∧ zc_5 kd fl yn n) ↔ (lv n = 1 ∧ zc_5 kd fl nl n)) := by
  intro n hn
  rw [zc_lv hV hL h1 n hn]
  by_cases hl : lv n = 1
  · have e : zn_any kd fl yn n = zn_any kd fl nl n := by
      refine zn_anyg ?_
      intro j hj
      have hp : zp_P N kd fl (zp_op kd fl n j) n j := ⟨hn, hj, rfl⟩
      exact h2 _ (by have := zp_Pa hW hp; omega) (by rw [(hL.2.2.1 _ n j hp trivial).1]; exact hl)
    unfold zc_5
    rw [e]
  · exact ⟨fun h => absurd h.1 hl, fun h => absurd h.1 hl⟩
end
theorem i_vc_compile {k : Nat} {u : SX} {v : SY} (I : i_Rel k u v) (hk : k + 5 ≤ 2563) : wpX_compile (fun r u' => wpY_compile (fun r' v' => r' = r ∧ i_Rel (k + 5) u' v') v) u := by
  refine zz_el (P := fun u v => wpX_compile (fun r u' => wpY_compile (fun r' v' => r' = r ∧ i_Rel (k + 5) u' v') v) u) ?_ I
  intro eS oS aS MV MN MI ph ve fa no vc nc oc sc bc lc pr ys yr yn rl ck qn pd kd fl us lv ex ow de nl vl di re od sA sT bC bS bE sl mV mN se nV nN pS pV yl yd ye vs vv ns nv hF
  have hR := hF
  obtain ⟨V, N, mv, mn, mi, t, rfl, rfl, rfl, rfl, rfl, rfl, b1, b2, b3, b4, b5, b6, hW, hU, hS, hnl, hvl, hP⟩ := hF
  have hV : V ≤ 10 := by omega
  have hN : N ≤ 48 := by omega
  by_cases hp : ph = 0
  · subst hp
    have ht : t = 0 := by
      rcases hP with h | h
      · exact h.2
      · exact absurd h.1 za_01
    subst ht
    refine br_t rfl (xc_miss hV ?_ ?_)
    · intro x1
      refine br_t za_m0 (xt_trees hW hU hV hN ?_)
      intro lv ex ow de hL
      have hL01 : ∀ n, n < N → lv n = 0 ∨ lv n = 1 := fun n hn => (hL.1 n hn).elim (fun s => Or.inl s.1) (fun s => Or.inr s.1)
      refine xc_offs hW hV hN hL01 ?_ ?_
      · intro x2
        have hD : ∀ v w, v < V → (zd_dp N ck kd fl (zd_E ex ow)) v w → w < V := fun v w hv d => zd_lt hW hv d
        refine br_t za_m0 (xc_dep hW hV hN hL.1 ?_)
        intro di hbits
        refine xc_ord (D := (zd_dp N ck kd fl (zd_E ex ow))) hV hD hbits ?_ ?_
        · intro od q hod hinj ho hcov
          have hC : zd_C V (zd_dp N ck kd fl (zd_E ex ow)) (zp_n od) q := fun v hv _ => hcov.2 v hv
          refine br_t za_m0 (xb_build hW hV hN hL hod ho hcov hinj ?_)
          intro S B sA sT bC bS bE hS106 hI hall
          refine xl_comp hW hV hN hS106 hI.1 hall hnl hvl ?_
          intro nl vl n01 v01 l1 l2
          have G : zl_G V N ck qn kd fl lv ex ow de nl vl (zp_n od) q := ⟨hL, ho, hcov, l1, l2⟩
          have fin : ∀ (sc bc lc : Int32) (sl mV mN se yl yd ye : Nat → Int32), zz_F (nI mv) (nI mn) (nI mi) 0 (nI 0) (nI V) (nI N) sc bc lc rl ck qn kd fl us lv ex ow de nl vl re sA sT bC bS bE sl mV mN se pS pV yl yd ye vs vv ns nv := fun _ _ _ _ _ _ _ _ _ _ =>
            ⟨V, N, mv, mn, mi, 0, rfl, rfl, rfl, rfl, rfl, rfl, b1, b2, b3, b4, b5, b6, hW, hU, hS, n01, v01, Or.inl ⟨rfl, rfl⟩⟩
          refine xl_clk hW hV hN hL01 ?_ ?_
          · intro x4
            refine br_t za_m0 (xl_nod hW hN hL01 ?_ ?_)
            · intro x5
              refine br_t za_m0 (xl_close (D := (zd_dp N ck kd fl (zd_E ex ow))) hV hD hbits hod ho hcov ?_)
              intro re hre
              refine xl_start hW hV hN hL01 ?_
              intro L sl mV mN hm
              refine yc_comp hW hU hV hN ?_
              intro yd ye ys yn yl p1 p2 p3 p4
              have e1 := p1 lv ex ow de hL
              obtain ⟨g1, g2⟩ := p4 lv ex ow de nl vl (zp_n od) q G
              have e2 := zc_e2 hV hL e1
              have e3 := zc_e3 hW e1 p2 p3 ho hcov.1 hC
              have e4 := zc_e4 hV hL e1 g1
              have e5 := zc_e5 hW hV hL e1 g2
              refine yc_40 hW hV hN ?_ ?_ ?_ ?_ ?_ ?_
              · intro i hi h; exact absurd h.1 (x1 i hi)
              · intro _ i hi h; exact absurd ((e2 i hi).mp h.1) (x2 i hi)
              · intro _ _ i hi h; exact absurd (hcov.2 i hi) ((e3 i hi).mp h.1)
              · intro _ _ _ i hi h; exact absurd ((e4 i hi).mp h.1) (x4 i hi)
              · intro _ _ _ _ i hi h; exact absurd ((e5 i hi).mp h.1) (x5 i hi)
              · intro _ _ _ _ _
                refine ⟨rfl, zz_mk ?_⟩
                refine ⟨V, N, mv, mn, mi, 0, rfl, rfl, rfl, rfl, rfl, rfl, b1, b2, b3, b4, b5, b6, hW, hU, hS, n01, v01, Or.inr ⟨rfl, S, B, L, rfl, rfl, rfl, ?_, ?_⟩⟩
                · refine ⟨hL, fun n hn hl ho => x2 n hn ⟨hl, ho⟩, fun v hv hr hq => x1 v hv ⟨hr, by rw [hq]; exact za_m0⟩, e1, g1, ⟨zp_n od, q, ho, hcov⟩, hre, hS106, hI.1, hall, hI.2, by have := hm.1; omega, ?_⟩
                  exact ⟨fun n hn hl hk => ⟨(hm.2.1 n hn hl hk).1, (hm.2.1 n hn hl hk).2.1⟩, hm.2.2⟩
                · refine ⟨fun u hu => absurd hu (Nat.not_lt_zero u), fun u hu => ?_⟩
                  obtain rfl : u = 0 := by omega
                  refine ⟨fun n hn hl => ⟨fun k5 => ⟨fun u h => absurd h.1 (Nat.not_lt_zero u), fun _ => ?_⟩, fun k18 => ⟨fun u h => absurd h.1 (Nat.not_lt_zero u), fun _ => ?_⟩⟩, fun d _ => ?_⟩
                  · have := (hm.2.1 n hn hl (Or.inl k5)).2.2.1 k5
                    rw [Nat.mul_zero, Nat.zero_add]; exact this
                  · have := (hm.2.1 n hn hl (Or.inr k18)).2.2.2 k18
                    rw [Nat.mul_zero, Nat.zero_add]; exact this
                  · rw [pk_us, b_0]
                    exact ⟨fun h => (Bool.false_ne_true h).elim, fun ⟨u, hu, _⟩ => absurd hu (Nat.not_lt_zero u)⟩
            · intro i hi hf
              refine br_f (nI_pos (by omega)) (yc_comp hW hU hV hN ?_)
              intro yd ye ys yn yl p1 p2 p3 p4
              have e1 := p1 lv ex ow de hL
              obtain ⟨g1, g2⟩ := p4 lv ex ow de nl vl (zp_n od) q G
              have e2 := zc_e2 hV hL e1
              have e3 := zc_e3 hW e1 p2 p3 ho hcov.1 hC
              have e4 := zc_e4 hV hL e1 g1
              have e5 := zc_e5 hW hV hL e1 g2
              refine yc_40 hW hV hN ?_ ?_ ?_ ?_ ?_ ?_
              · intro i hi h; exact absurd h.1 (x1 i hi)
              · intro _ i hi h; exact absurd ((e2 i hi).mp h.1) (x2 i hi)
              · intro _ _ i hi h; exact absurd (hcov.2 i hi) ((e3 i hi).mp h.1)
              · intro _ _ _ i hi h; exact absurd ((e4 i hi).mp h.1) (x4 i hi)
              · intro _ _ _ _ j hj h
                obtain rfl := zc_fu hf (zc_fe hj e5 h)
                exact ⟨rfl, zz_mk (fin _ _ _ _ _ _ _ _ _ _)⟩
              · intro _ _ _ _ h; exact absurd ((e5 i hi).mpr hf.1) (h i hi)
          · intro i hi hf
            refine br_f (nI_pos (by omega)) (yc_comp hW hU hV hN ?_)
            intro yd ye ys yn yl p1 p2 p3 p4
            have e1 := p1 lv ex ow de hL
            obtain ⟨g1, g2⟩ := p4 lv ex ow de nl vl (zp_n od) q G
            have e2 := zc_e2 hV hL e1
            have e3 := zc_e3 hW e1 p2 p3 ho hcov.1 hC
            have e4 := zc_e4 hV hL e1 g1
            refine yc_40 hW hV hN ?_ ?_ ?_ ?_ ?_ ?_
            · intro i hi h; exact absurd h.1 (x1 i hi)
            · intro _ i hi h; exact absurd ((e2 i hi).mp h.1) (x2 i hi)
            · intro _ _ i hi h; exact absurd (hcov.2 i hi) ((e3 i hi).mp h.1)
            · intro _ _ _ j hj h
              obtain rfl := zc_fu hf (zc_fe hj e4 h)
              exact ⟨rfl, zz_mk (fin _ _ _ _ _ _ _ _ _ _)⟩
            · intro _ _ _ h; exact absurd ((e4 i hi).mpr hf.1) (h i hi)
            · intro _ _ _ h; exact absurd ((e4 i hi).mpr hf.1) (h i hi)
        · intro od q ho hq hC i hi hf
          refine br_f (nI_pos (by omega)) (yc_comp hW hU hV hN ?_)
          intro yd ye ys yn yl p1 p2 p3 p4
          have e1 := p1 lv ex ow de hL
          have e2 := zc_e2 hV hL e1
          have e3 := zc_e3 hW e1 p2 p3 ho hq hC
          refine yc_40 hW hV hN ?_ ?_ ?_ ?_ ?_ ?_
          · intro i hi h; exact absurd h.1 (x1 i hi)
          · intro _ i hi h; exact absurd ((e2 i hi).mp h.1) (x2 i hi)
          · intro _ _ j hj h
            obtain rfl := zc_fu hf (zc_fe hj e3 h)
            exact ⟨rfl, zz_mk ⟨V, N, mv, mn, mi, 0, rfl, rfl, rfl, rfl, rfl, rfl, b1, b2, b3, b4, b5, b6, hW, hU, hS, hnl, hvl, Or.inl ⟨rfl, rfl⟩⟩⟩
          · intro _ _ h; exact absurd ((e3 i hi).mpr hf.1) (h i hi)
          · intro _ _ h; exact absurd ((e3 i hi).mpr hf.1) (h i hi)
          · intro _ _ h; exact absurd ((e3 i hi).mpr hf.1) (h i hi)
      · intro i hi hf
        refine br_f (nI_pos (by omega)) (yc_comp hW hU hV hN ?_)
        intro yd ye ys yn yl p1 p2 p3 p4
        have e1 := p1 lv ex ow de hL
        have e2 := zc_e2 hV hL e1
        refine yc_40 hW hV hN ?_ ?_ ?_ ?_ ?_ ?_
        · intro i hi h; exact absurd h.1 (x1 i hi)
        · intro _ j hj h
          obtain rfl := zc_fu hf (zc_fe hj e2 h)
          exact ⟨rfl, zz_mk ⟨V, N, mv, mn, mi, 0, rfl, rfl, rfl, rfl, rfl, rfl, b1, b2, b3, b4, b5, b6, hW, hU, hS, hnl, hvl, Or.inl ⟨rfl, rfl⟩⟩⟩
        · intro _ h; exact absurd ((e2 i hi).mpr hf.1) (h i hi)
        · intro _ h; exact absurd ((e2 i hi).mpr hf.1) (h i hi)
        · intro _ h; exact absurd ((e2 i hi).mpr hf.1) (h i hi)
        · intro _ h; exact absurd ((e2 i hi).mpr hf.1) (h i hi)
    · intro i hi hf
      refine br_f (nI_pos (by omega)) (yc_comp hW hU hV hN ?_)
      intro yd ye ys yn yl p1 p2 p3 p4
      refine yc_40 hW hV hN ?_ ?_ ?_ ?_ ?_ ?_
      · intro j hj h
        obtain rfl := zc_fu hf h
        exact ⟨rfl, zz_mk ⟨V, N, mv, mn, mi, 0, rfl, rfl, rfl, rfl, rfl, rfl, b1, b2, b3, b4, b5, b6, hW, hU, hS, hnl, hvl, Or.inl ⟨rfl, rfl⟩⟩⟩
      · intro h; exact absurd hf.1 (h i hi)
      · intro h; exact absurd hf.1 (h i hi)
      · intro h; exact absurd hf.1 (h i hi)
      · intro h; exact absurd hf.1 (h i hi)
      · intro h; exact absurd hf.1 (h i hi)
  · exact br_f hp (br_f hp ⟨rfl, zz_mk hR⟩)
end
section
/-! depends -/
def ze_L (D : Nat → Nat → Prop) (v : Nat) : Nat → Nat → Prop
  | 0, w => D v w
  | L + 1, w => ∃ a, ze_L D v L a ∧ D a w
theorem ze_T {D : Nat → Nat → Prop} {v w : Nat} : Relation.TransGen D v w ↔ ∃ L, ze_L D v L w := by
  constructor
  · intro h
    induction h with
    | single h => exact ⟨0, h⟩
    | tail _ h ih =>
      obtain ⟨L, hL⟩ := ih
      exact ⟨L + 1, _, hL, h⟩
  · rintro ⟨L, hL⟩
    induction L generalizing w with
    | zero => exact Relation.TransGen.single hL
    | succ L ih =>
      obtain ⟨a, h1, h2⟩ := hL
      exact Relation.TransGen.tail (ih h1) h2
theorem ze_b {V q i : Nat} {D : Nat → Nat → Prop} {o : Nat → Nat} (ho : zd_o V D o q) (hi : i < q) : ∀ L w, ze_L D (o i) L w → ∃ j, o j = w ∧ j + L + 1 ≤ i := by
  intro L
  induction L with
  | zero =>
    intro w h
    obtain ⟨j, a, b⟩ := ho.2 i w hi h
    exact ⟨j, b, by omega⟩
  | succ L ih =>
    rintro w ⟨a, h1, h2⟩
    obtain ⟨j, e, hj⟩ := ih a h1
    rw [← e] at h2
    obtain ⟨j', a', b'⟩ := ho.2 j w (by omega) h2
    exact ⟨j', b', by omega⟩
theorem ze_m {D D' : Nat → Nat → Prop} (h : ∀ a b, D a b → D' a b) {v w : Nat} (t : Relation.TransGen D v w) : Relation.TransGen D' v w := by
  induction t with
  | single x => exact Relation.TransGen.single (h _ _ x)
  | tail _ x ih => exact Relation.TransGen.tail ih (h _ _ x)
/-- what the reference has marked -/
def ze_K (V : Nat) (D : Nat → Nat → Prop) (v : Nat) (yr : Nat → Int32) : Prop := ∀ x, x < V → (yr x = 0 ∨ yr x = 1) ∧ (yr x = 1 → Relation.TransGen D v x)
theorem ze_Ku {V v b : Nat} {D : Nat → Nat → Prop} {yr : Nat → Int32} (h : ze_K V D v yr) (hb : Relation.TransGen D v b) : ze_K V D v (upd yr b 1) := by
  intro x hx
  by_cases e : x = b
  · rw [e, pk_us]; exact ⟨Or.inr rfl, fun _ => hb⟩
  · rw [pk_un e]; exact h x hx
theorem ze_mk {yr : Nat → Int32} {b w : Nat} (h : yr w = 1) : upd yr b 1 w = 1 := by
  by_cases e : w = b
  · rw [e, pk_us]
  · rw [pk_un e]; exact h
section
variable {MV MN MI vc nc no ph ve fa : Int32} {rl ck qn pd yl ys yr kd fl yd ye yn vs vv ns nv : Nat → Int32}
theorem ye_dep {post : Int32 → SY → Prop} {V N v w q : Nat} {o : Nat → Nat} (hW : zp_W V N rl ck qn kd fl) (hV : V ≤ 10) (hN : N ≤ 48) (hv : v < V) (hw : w < V) (ho : zd_o V (zd_dp N ck kd fl ye) o q) (hcov : zd_cov V o q)
    (h : ∀ (r : Int32) (yr : Nat → Int32), (r = 0 ∨ r = 1) → (r = 1 ↔ Relation.TransGen (zd_dp N ck kd fl ye) v w) → post r (MV, MN, MI, nI V, nI N, no, ph, ve, fa, rl, ck, qn, pd, yl, ys, yr, kd, fl, yd, ye, yn, vs, vv, ns, nv)) : ∃ f, wY_depends_28 post (nI v) (nI w) MV MN MI (nI V) (nI N) no ph ve fa f 0 rl ck qn pd yl ys yr kd fl yd ye yn vs vv ns nv := by
  have hD : ∀ v w, v < V → zd_dp N ck kd fl ye v w → w < V := fun v w hv d => zd_lt hW hv d
  have hLV : ∀ L w, ze_L (zd_dp N ck kd fl ye) v L w → w < V := by
    intro L
    induction L with
    | zero => intro w h; exact hD v w hv h
    | succ L ih =>
      rintro w ⟨a, h1, h2⟩
      exact hD a w (ih a h1) h2
  refine pk_loop (fun f x (yr : Nat → Int32) => wY_depends_28 post (nI v) (nI w) MV MN MI (nI V) (nI N) no ph ve fa f (nI x) rl ck qn pd yl ys yr kd fl yd ye yn vs vv ns nv) (fun x yr => ∀ y, y < x → (yr y = 0 ∨ yr y = 1) ∧ (yr y = 1 ↔ zd_dp N ck kd fl ye v y)) V 0 yr (Nat.zero_le _) (fun n hn => absurd hn (Nat.not_lt_zero n)) ?_ ?_
  · intro f yr hI
    refine br_t (nI_le (Nat.le_refl _) (by omega)) ?_
    refine pk_loop (fun f s (yr : Nat → Int32) => wY_depends_56 post (nI w) MV MN MI (nI V) (nI N) no ph ve fa f (nI s) rl ck qn pd yl ys yr kd fl yd ye yn vs vv ns nv) (fun s yr => ze_K V (zd_dp N ck kd fl ye) v yr ∧ ∀ L y, L ≤ s → ze_L (zd_dp N ck kd fl ye) v L y → yr y = 1) V 0 yr (Nat.zero_le _) ?_ ?_ ?_
    · refine ⟨fun x hx => ⟨(hI x hx).1, fun e => Relation.TransGen.single ((hI x hx).2.mp e)⟩, ?_⟩
      intro L y hL hy
      obtain rfl : L = 0 := by omega
      exact (hI y (hD v y hv hy)).2.mpr hy
    · intro f yr ⟨hK, hJ⟩
      have cw : (nI w).toNatClampNeg = w := nI_clamp (by omega)
      refine br_t (nI_le (Nat.le_refl _) (by omega)) ⟨vp_in_nI (by omega) (by decide), ?_⟩
      rw [cw]
      refine ⟨za_nb (hK w hw).1, h _ yr (hK w hw).1 ⟨(hK w hw).2, fun t => ?_⟩⟩
      obtain ⟨L, hL⟩ := ze_T.mp t
      obtain ⟨i, hi, e⟩ := hcov.2 v hv
      rw [← e] at hL
      obtain ⟨j, _, hj⟩ := ze_b ho hi L w hL
      rw [e] at hL
      exact hJ L w (by have := hcov.1; omega) hL
    · intro f s yr hs ⟨hK, hJ⟩ ih
      refine br_f (nI_ge hs (by omega)) ?_
      refine pk_loop (fun f2 a (yr : Nat → Int32) => wY_depends_67 post (wY_depends_56 post (nI w) MV MN MI (nI V) (nI N) no ph ve fa f) (nI w) (nI s) MV MN MI (nI V) (nI N) no ph ve fa f2 (nI a) rl ck qn pd yl ys yr kd fl yd ye yn vs vv ns nv) (fun a yr => ze_K V (zd_dp N ck kd fl ye) v yr ∧ (∀ L y, L ≤ s → ze_L (zd_dp N ck kd fl ye) v L y → yr y = 1) ∧ ∀ a' y, a' < a → ze_L (zd_dp N ck kd fl ye) v s a' → zd_dp N ck kd fl ye a' y → yr y = 1) V 0 yr (Nat.zero_le _) ⟨hK, hJ, fun a' y ha => absurd ha (Nat.not_lt_zero _)⟩ ?_ ?_
      · intro f2 yr ⟨hK, hJ, hM⟩
        refine br_t (nI_le (Nat.le_refl _) (by omega)) (nm_r (nI_1 s) (ih yr ⟨hK, ?_⟩))
        intro L y hL hy
        by_cases e : L = s + 1
        · subst e
          obtain ⟨a, h1, h2⟩ := hy
          exact hM a y (hLV s a h1) h1 h2
        · exact hJ L y (by omega) hy
      · intro f2 a yr ha ⟨hK, hJ, hM⟩ ih2
        refine br_f (nI_ge ha (by omega)) ?_
        refine pk_loop (fun f3 b (yr : Nat → Int32) => wY_depends_79 post (wY_depends_56 post (nI w) MV MN MI (nI V) (nI N) no ph ve fa f) (wY_depends_67 post (wY_depends_56 post (nI w) MV MN MI (nI V) (nI N) no ph ve fa f) (nI w) (nI s) MV MN MI (nI V) (nI N) no ph ve fa f2) (nI w) (nI s) (nI a) MV MN MI (nI V) (nI N) no ph ve fa f3 (nI b) rl ck qn pd yl ys yr kd fl yd ye yn vs vv ns nv) (fun b yr => ze_K V (zd_dp N ck kd fl ye) v yr ∧ (∀ L y, L ≤ s → ze_L (zd_dp N ck kd fl ye) v L y → yr y = 1) ∧ (∀ a' y, a' < a → ze_L (zd_dp N ck kd fl ye) v s a' → zd_dp N ck kd fl ye a' y → yr y = 1) ∧ ∀ y, y < b → ze_L (zd_dp N ck kd fl ye) v s a → zd_dp N ck kd fl ye a y → yr y = 1) V 0 yr (Nat.zero_le _) ⟨hK, hJ, hM, fun y hy => absurd hy (Nat.not_lt_zero _)⟩ ?_ ?_
        · intro f3 yr ⟨hK, hJ, hM, hQ⟩
          refine br_t (nI_le (Nat.le_refl _) (by omega)) (nm_r (nI_1 a) (ih2 yr ⟨hK, hJ, ?_⟩))
          intro a' y ha' h1 h2
          by_cases e : a' = a
          · subst e; exact hQ y (hD _ y ha h2) h1 h2
          · exact hM a' y (by omega) h1 h2
        · intro f3 b yr hb ⟨hK, hJ, hM, hQ⟩ ih3
          have ca : (nI a).toNatClampNeg = a := nI_clamp (by omega)
          have cb : (nI b).toNatClampNeg = b := nI_clamp (by omega)
          refine br_f (nI_ge hb (by omega)) ⟨vp_in_nI (by omega) (by decide), ?_⟩
          rw [ca]
          have nx : (ze_L (zd_dp N ck kd fl ye) v s a → zd_dp N ck kd fl ye a b → yr b = 1) → ∀ y, y < b + 1 → ze_L (zd_dp N ck kd fl ye) v s a → zd_dp N ck kd fl ye a y → yr y = 1 := by
            intro hn y hy
            by_cases e : y = b
            · rw [e]; exact hn
            · exact hQ y (by omega)
          by_cases e : yr a = 0
          · refine br_t e (nm_r (nI_1 b) (ih3 yr ⟨hK, hJ, hM, nx (fun h1 _ => ?_)⟩))
            have := hJ s a (Nat.le_refl _) h1
            rw [e] at this
            exact absurd this za_01
          · have ea : yr a = 1 := ((hK a ha).1).resolve_left e
            refine br_f e (yd_dir hW hV hN ha hb ?_ ?_)
            · intro d
              refine br_f za_10 ⟨vp_in_nI (by omega) (by decide), nm_r (e' := upd yr b 1) (by rw [cb, za_b1]) (nm_r (nI_1 b) (ih3 _ ⟨ze_Ku hK (Relation.TransGen.tail ((hK a ha).2 ea) d), fun L y hL hy => ze_mk (hJ L y hL hy), fun a' y a1 a2 a3 => ze_mk (hM a' y a1 a2 a3), ?_⟩))⟩
              intro y hy h1 h2
              by_cases e' : y = b
              · rw [e', pk_us]
              · exact ze_mk (hQ y (by omega) h1 h2)
            · intro d
              exact br_t rfl (nm_r (nI_1 b) (ih3 yr ⟨hK, hJ, hM, nx (fun _ h2 => absurd h2 d)⟩))
  · intro f x yr hx hI ih
    have cx : (nI x).toNatClampNeg = x := nI_clamp (by omega)
    have nx : ∀ z : Int32, (z = 0 ∨ z = 1) → (z = 1 ↔ zd_dp N ck kd fl ye v x) → ∀ y, y < x + 1 → (upd yr x z y = 0 ∨ upd yr x z y = 1) ∧ (upd yr x z y = 1 ↔ zd_dp N ck kd fl ye v y) := by
      intro z h1 h2 y hy
      by_cases e : y = x
      · rw [e, pk_us]; exact ⟨h1, h2⟩
      · rw [pk_un e]; exact hI y (by omega)
    refine br_f (nI_ge hx (by omega)) (yd_dir hW hV hN hv hx ?_ ?_)
    · intro d
      exact ⟨vp_in_nI (by omega) (by decide), nm_r (e' := upd yr x 1) (by rw [cx, za_b1]) (nm_r (nI_1 x) (ih _ (nx 1 (Or.inr rfl) ⟨fun _ => d, fun _ => rfl⟩)))⟩
    · intro d
      exact ⟨vp_in_nI (by omega) (by decide), nm_r (e' := upd yr x 0) (by rw [cx, za_b0]) (nm_r (nI_1 x) (ih _ (nx 0 (Or.inl rfl) ⟨fun h => absurd h za_01, fun h => absurd h d⟩)))⟩
end
theorem i_vc_depends {k : Nat} {u : SX} {v : SY} (I : i_Rel k u v) (hk : k + 5 ≤ 2563) (v1 : Int32) (v2 : Int32) : wpX_depends (fun r => wpY_depends (fun r' v' => r' = r ∧ i_Rel (k + 5) u v') v v1 v2) u v1 v2 := by
  refine zz_el (P := fun u v => wpX_depends (fun r => wpY_depends (fun r' v' => r' = r ∧ i_Rel (k + 5) u v') v v1 v2) u v1 v2) ?_ I
  intro eS oS aS MV MN MI ph ve fa no vc nc oc sc bc lc pr ys yr yn rl ck qn pd kd fl us lv ex ow de nl vl di re od sA sT bC bS bE sl mV mN se nV nN pS pV yl yd ye vs vv ns nv hF
  have hR := hF
  obtain ⟨V, N, mv, mn, mi, t, rfl, rfl, rfl, rfl, rfl, rfl, b1, b2, b3, b4, b5, b6, hW, hU, hS, hnl, hvl, hP⟩ := hF
  have hV : V ≤ 10 := by omega
  have hN : N ≤ 48 := by omega
  by_cases hp : ph = 1
  · refine br_t hp ?_
    by_cases h1 : ∃ w, w < V ∧ v1 = nI w
    · obtain ⟨x, hx, rfl⟩ := h1
      refine xa_decl1 hV hx (br_f za_10 ?_)
      by_cases h2 : ∃ w, w < V ∧ v2 = nI w
      · obtain ⟨w, hw, rfl⟩ := h2
        have cx : (nI x).toNatClampNeg = x := nI_clamp (by omega)
        refine xa_decl1 hV hw (br_f za_10 ⟨vp_in_nI (by omega) (by decide), ?_⟩)
        rw [cx, zb_t (by omega)]
        rcases hP with hP | ⟨_, S, B, L, s1, s2, s3, hA, hH⟩
        · exact absurd (hP.1.symm.trans hp) za_01
        obtain ⟨o, q, ho, hcov⟩ := hA.2.2.2.2.2.1
        have e1 : ∀ a b, zd_dp N ck kd fl ye a b → zd_dp N ck kd fl (zd_E ex ow) a b := fun a b => zd_cg (fun n hn => ((hA.2.2.2.1 n hn).2).symm)
        have e2 : ∀ a b, zd_dp N ck kd fl (zd_E ex ow) a b → zd_dp N ck kd fl ye a b := fun a b => zd_cg (fun n hn => (hA.2.2.2.1 n hn).2)
        have hre := hA.2.2.2.2.2.2.1 x w hx hw
        have fin : ∀ r0 : Int32, (∀ r : Int32, (r = 0 ∨ r = 1) → (r = 1 ↔ bt (re x) w = true) → r = r0) → wpY_depends (fun r' v' => r' = r0 ∧ i_Rel (k + 5) (eS, oS, aS, nI mv, nI mn, nI mi, ph, ve, fa, nI t, nI V, nI N, oc, sc, bc, lc, pr, rl, ck, qn, pd, kd, fl, us, lv, ex, ow, de, nl, vl, di, re, od, sA, sT, bC, bS, bE, sl, mV, mN, se, nV, nN, pS, pV) v') (nI mv, nI mn, nI mi, nI V, nI N, nI t, ph, ve, fa, rl, ck, qn, pd, yl, ys, yr, kd, fl, yd, ye, yn, vs, vv, ns, nv) (nI x) (nI w) := by
          intro r0 hr0
          refine br_t hp (ya_var0 hV hx (br_t rfl (ya_var0 hV hw (br_t rfl (ye_dep hW hV hN hx hw (o := o) (q := q) ⟨ho.1, fun i w hi d => ho.2 i w hi (e1 _ _ d)⟩ hcov ?_)))))
          intro r yr r01 hr
          refine ⟨hr0 r r01 ?_, zz_mk hR⟩
          rw [hr, hre]
          exact ⟨ze_m e1, ze_m e2⟩
        refine br_c (fun e => fin 0 ?_) (fun e => fin 1 ?_)
        · intro r r01 hr
          rcases r01 with r0 | r0
          · exact r0
          · have := hr.mp r0
            rw [e] at this
            exact (Bool.false_ne_true this).elim
        · intro r r01 hr
          refine hr.mpr ?_
          cases e2 : bt (re x) w with
          | true => rfl
          | false => exact absurd e2 e
      · exact xa_decl0 hV h2 (br_t rfl (br_t hp (ya_var0 hV hx (br_t rfl (ya_var1 hV h2 (br_f za_10 ⟨rfl, zz_mk hR⟩))))))
    · exact xa_decl0 hV h1 (br_t rfl (br_t hp (ya_var1 hV h1 (br_f za_10 ⟨rfl, zz_mk hR⟩))))
  · exact br_f hp (br_f hp ⟨rfl, zz_mk hR⟩)
end
section
/-! one instant: the equations of a row -/
def zi_ap (k : Nat) (a b c : Int32) : Int32 :=
  if k = 3 then 0 - a else if k = 4 then (if a = 0 then 1 else 0) else if k = 6 then a + b else if k = 7 then a - b else if k = 8 then a * b else if k = 9 then (if b = 0 then 0 else a / b)
  else if k = 10 then (if b ≤ a then 0 else 1) else if k = 11 then (if a = b then 1 else 0) else if k = 12 then (if a = 0 then 0 else if b = 0 then 0 else 1)
  else if k = 13 then (if a = 0 then (if b = 0 then 0 else 1) else 1) else (if a = 0 then c else b)
def zi_st (k : Nat) : Prop := ¬ k = 1 ∧ ¬ k = 2 ∧ ¬ k = 5 ∧ ¬ k = 14 ∧ ¬ k = 16 ∧ ¬ k = 17 ∧ ¬ k = 18
def zi_a (kd fl nv : Nat → Int32) (t n j : Nat) : Int32 := if j < zp_ar (zp_n kd n) then nv (48 * t + zp_op kd fl n j) else 0
def zi_ny (kd fl ns : Nat → Int32) (t n : Nat) : Prop := ∃ j, j < zp_ar (zp_n kd n) ∧ ns (48 * t + zp_op kd fl n j) = 2
def zi_v (kd fl de vs vv ns nv : Nat → Int32) (t n : Nat) (s x : Int32) : Prop :=
  (zp_n kd n = 1 → s = 1 ∧ x = fl (4 * n)) ∧
  (zp_n kd n = 2 → s = vs (10 * t + zp_n fl (4 * n)) ∧ x = vv (10 * t + zp_n fl (4 * n))) ∧
  (zp_n kd n = 5 → (∀ u, zr_last vs vv (zp_n de n) t u → s = ns (48 * u + zp_op kd fl n 0) ∧ x = nv (48 * u + zp_op kd fl n 0)) ∧ (zr_none vs vv (zp_n de n) t → s = 2 ∧ x = 0)) ∧
  (zp_n kd n = 14 → (zr_none vs vv (zp_n de n) t → s = ns (48 * t + zp_op kd fl n 0) ∧ x = nv (48 * t + zp_op kd fl n 0)) ∧ (¬ zr_none vs vv (zp_n de n) t → s = ns (48 * t + zp_op kd fl n 1) ∧ x = nv (48 * t + zp_op kd fl n 1))) ∧
  (zp_n kd n = 16 → s = ns (48 * t + zp_op kd fl n 0) ∧ x = nv (48 * t + zp_op kd fl n 0)) ∧
  (zp_n kd n = 17 → (¬ vv (10 * t + zp_n fl (4 * n)) = 0 → s = ns (48 * t + zp_op kd fl n 0) ∧ x = nv (48 * t + zp_op kd fl n 0)) ∧ (vv (10 * t + zp_n fl (4 * n)) = 0 → s = ns (48 * t + zp_op kd fl n 1) ∧ x = nv (48 * t + zp_op kd fl n 1))) ∧
  (zp_n kd n = 18 → (∀ u, zr_last vs vv (zr_cx fl n) (t + 1) u → s = ns (48 * u + zp_op kd fl n 0) ∧ x = nv (48 * u + zp_op kd fl n 0)) ∧ (zr_none vs vv (zr_cx fl n) (t + 1) → s = 1 ∧ x = fl (4 * n + 2))) ∧
  (zi_st (zp_n kd n) → (zi_ny kd fl ns t n → s = 2 ∧ x = 0) ∧ (¬ zi_ny kd fl ns t n → s = 1 ∧ x = zi_ap (zp_n kd n) (zi_a kd fl nv t n 0) (zi_a kd fl nv t n 1) (zi_a kd fl nv t n 2)))
def zi_N (kd fl de vs vv ns nv : Nat → Int32) (t n : Nat) : Prop :=
  (zr_P vs vv (zp_n de n) t → zi_v kd fl de vs vv ns nv t n (ns (48 * t + n)) (nv (48 * t + n)) ∧ (ns (48 * t + n) = 1 ∨ (ns (48 * t + n) = 2 ∧ nv (48 * t + n) = 0))) ∧
  (¬ zr_P vs vv (zp_n de n) t → ns (48 * t + n) = 0 ∧ nv (48 * t + n) = 0)
def zi_V (V : Nat) (rl ck qn pd vs vv ns nv : Nat → Int32) (t v : Nat) : Prop :=
  (zr_P vs vv (zp_n ck v) t → (rl v = 0 → vs (10 * t + v) = 1 ∧ vv (10 * t + v) = pd v) ∧ (∀ r, zp_O V qn r v → vs (10 * t + v) = ns (48 * t + r) ∧ vv (10 * t + v) = nv (48 * t + r)) ∧ (vs (10 * t + v) = 1 ∨ (vs (10 * t + v) = 2 ∧ vv (10 * t + v) = 0))) ∧
  (¬ zr_P vs vv (zp_n ck v) t → vs (10 * t + v) = 0 ∧ vv (10 * t + v) = 0)
def zi_R (V N : Nat) (rl ck qn pd kd fl lv de vs vv ns nv : Nat → Int32) (t : Nat) : Prop :=
  (∀ v, v < V → zi_V V rl ck qn pd vs vv ns nv t v) ∧ (∀ n, n < N → lv n = 1 → zi_N kd fl de vs vv ns nv t n)
def zi_B (t : Nat) (vs vv ns nv vs' vv' ns' nv' : Nat → Int32) : Prop :=
  (∀ i, i < 10 * t → vs' i = vs i ∧ vv' i = vv i) ∧ (∀ i, i < 48 * t → ns' i = ns i ∧ nv' i = nv i)
theorem zr_Pc {vs vv vs' vv' : Nat → Int32} {x u : Nat} (h : x ≠ 0 → vs' (10 * u + (x - 1) / 2) = vs (10 * u + (x - 1) / 2) ∧ vv' (10 * u + (x - 1) / 2) = vv (10 * u + (x - 1) / 2)) : zr_P vs' vv' x u ↔ zr_P vs vv x u := by
  unfold zr_P
  by_cases e : x = 0
  · exact ⟨fun _ => Or.inl e, fun _ => Or.inl e⟩
  · obtain ⟨h1, h2⟩ := h e
    rw [h1, h2]
theorem zr_lc {vs vv vs' vv' : Nat → Int32} {x T u : Nat} (h : ∀ w, w < T → (zr_P vs' vv' x w ↔ zr_P vs vv x w)) : zr_last vs' vv' x T u ↔ zr_last vs vv x T u := by
  unfold zr_last
  constructor
  · rintro ⟨a, b, c⟩
    exact ⟨a, (h u a).mp b, fun w h1 h2 hw => c w h1 h2 ((h w h2).mpr hw)⟩
  · rintro ⟨a, b, c⟩
    exact ⟨a, (h u a).mpr b, fun w h1 h2 hw => c w h1 h2 ((h w h2).mp hw)⟩
theorem zr_nc {vs vv vs' vv' : Nat → Int32} {x T : Nat} (h : ∀ w, w < T → (zr_P vs' vv' x w ↔ zr_P vs vv x w)) : zr_none vs' vv' x T ↔ zr_none vs vv x T := by
  unfold zr_none
  exact ⟨fun a u hu hp => a u hu ((h u hu).mpr hp), fun a u hu hp => a u hu ((h u hu).mp hp)⟩
theorem zr_lu {vs vv : Nat → Int32} {x T u u' : Nat} (h : zr_last vs vv x T u) (h' : zr_last vs vv x T u') : u' = u := by
  rcases Nat.lt_trichotomy u u' with l | l | l
  · exact absurd h'.2.1 (h.2.2 u' l h'.1)
  · exact l.symm
  · exact absurd h.2.1 (h'.2.2 u l h.1)
theorem zr_ln {vs vv : Nat → Int32} {x : Nat} (T : Nat) : (∃ u, zr_last vs vv x T u) ∨ zr_none vs vv x T := by
  induction T with
  | zero => exact Or.inr (fun u hu => absurd hu (Nat.not_lt_zero u))
  | succ T ih =>
    by_cases hp : zr_P vs vv x T
    · exact Or.inl ⟨T, by omega, hp, fun w h1 h2 => by omega⟩
    · rcases ih with ⟨u, a, b, c⟩ | h
      · refine Or.inl ⟨u, by omega, b, fun w h1 h2 => ?_⟩
        by_cases e : w = T
        · rw [e]; exact hp
        · exact c w h1 (by omega)
      · refine Or.inr (fun u hu => ?_)
        by_cases e : u = T
        · rw [e]; exact hp
        · exact h u (by omega)
theorem zr_lS {vs vv : Nat → Int32} {x T : Nat} (h : zr_P vs vv x T) : zr_last vs vv x (T + 1) T := ⟨by omega, h, fun w h1 h2 => by omega⟩
theorem zr_lS' {vs vv : Nat → Int32} {x T u : Nat} (h : ¬ zr_P vs vv x T) : zr_last vs vv x (T + 1) u ↔ zr_last vs vv x T u := by
  constructor
  · rintro ⟨a, b, c⟩
    have : u ≠ T := fun e => h (e ▸ b)
    exact ⟨by omega, b, fun w h1 h2 => c w h1 (by omega)⟩
  · rintro ⟨a, b, c⟩
    refine ⟨by omega, b, fun w h1 h2 => ?_⟩
    by_cases e : w = T
    · rw [e]; exact h
    · exact c w h1 (by omega)
theorem zr_nS' {vs vv : Nat → Int32} {x T : Nat} (h : ¬ zr_P vs vv x T) : zr_none vs vv x (T + 1) ↔ zr_none vs vv x T := by
  constructor
  · intro a u hu; exact a u (by omega)
  · intro a u hu
    by_cases e : u = T
    · rw [e]; exact h
    · exact a u (by omega)
theorem zr_nl {vs vv : Nat → Int32} {x T u : Nat} (h : zr_last vs vv x T u) : ¬ zr_none vs vv x T := fun a => a u h.1 h.2.1
section
variable {V N t n : Nat} {rl ck qn pd kd fl lv de vs vv ns nv vs' vv' ns' nv' : Nat → Int32}
theorem zi_Pb (hB : zi_B t vs vv ns nv vs' vv' ns' nv') {x u : Nat} (hx : x ≤ 20) (hu : u < t) : zr_P vs' vv' x u ↔ zr_P vs vv x u :=
  zr_Pc (fun _ => hB.1 _ (by omega))
theorem zi_vc (hW : zp_N V kd fl n) (hV : V ≤ 10) (hn : n < 48) (hd : zp_n de n ≤ 20) (hB : zi_B t vs vv ns nv vs' vv' ns' nv')
    (hf : (zp_n kd n = 2 ∨ 16 ≤ zp_n kd n) → vs' (10 * t + zp_n fl (4 * n)) = vs (10 * t + zp_n fl (4 * n)) ∧ vv' (10 * t + zp_n fl (4 * n)) = vv (10 * t + zp_n fl (4 * n)))
    (ho : zp_n kd n ≠ 5 → ∀ j, j < zp_ar (zp_n kd n) → ns' (48 * t + zp_op kd fl n j) = ns (48 * t + zp_op kd fl n j) ∧ nv' (48 * t + zp_op kd fl n j) = nv (48 * t + zp_op kd fl n j))
    {s x : Int32} (h : zi_v kd fl de vs vv ns nv t n s x) : zi_v kd fl de vs' vv' ns' nv' t n s x := by
  obtain ⟨h1, h2, h3, h4, h5, h6, h7, h8⟩ := h
  obtain ⟨w1, w2, w3, w4, w5, w6⟩ := hW
  have hop : ∀ j u, j < zp_ar (zp_n kd n) → u < t → ns' (48 * u + zp_op kd fl n j) = ns (48 * u + zp_op kd fl n j) ∧ nv' (48 * u + zp_op kd fl n j) = nv (48 * u + zp_op kd fl n j) := by
    intro j u hj hu
    have := (w4 j hj).2
    exact hB.2 _ (by omega)
  refine ⟨h1, ?_, ?_, ?_, ?_, ?_, ?_, ?_⟩
  · intro k
    rw [(hf (Or.inl k)).1, (hf (Or.inl k)).2]; exact h2 k
  · intro k
    have ha : 0 < zp_ar (zp_n kd n) := by rw [k]; decide
    refine ⟨fun u hu => ?_, fun hn => ?_⟩
    · have hu' := (zr_lc (fun w hw => zi_Pb hB hd hw)).mp hu
      rw [(hop 0 u ha hu'.1).1, (hop 0 u ha hu'.1).2]
      exact (h3 k).1 u hu'
    · exact (h3 k).2 ((zr_nc (fun w hw => zi_Pb hB hd hw)).mp hn)
  · intro k
    have a0 : 0 < zp_ar (zp_n kd n) := by rw [k]; decide
    have a1 : 1 < zp_ar (zp_n kd n) := by rw [k]; decide
    have h5 : zp_n kd n ≠ 5 := by omega
    rw [(ho h5 0 a0).1, (ho h5 0 a0).2, (ho h5 1 a1).1, (ho h5 1 a1).2, zr_nc (fun w hw => zi_Pb hB hd hw)]
    exact h4 k
  · intro k
    have a0 : 0 < zp_ar (zp_n kd n) := by rw [k]; decide
    have h5' : zp_n kd n ≠ 5 := by omega
    rw [(ho h5' 0 a0).1, (ho h5' 0 a0).2]
    exact h5 k
  · intro k
    have a0 : 0 < zp_ar (zp_n kd n) := by rw [k]; decide
    have a1 : 1 < zp_ar (zp_n kd n) := by rw [k]; decide
    have h5' : zp_n kd n ≠ 5 := by omega
    rw [(ho h5' 0 a0).1, (ho h5' 0 a0).2, (ho h5' 1 a1).1, (ho h5' 1 a1).2, (hf (Or.inr (by omega))).2]
    exact h6 k
  · intro k
    have a0 : 0 < zp_ar (zp_n kd n) := by rw [k]; decide
    have h5' : zp_n kd n ≠ 5 := by omega
    have f1 := (w5 (Or.inr (by omega))).2
    have f2 := (w6 (Or.inr k)).2
    have hP : ∀ w, w < t + 1 → (zr_P vs' vv' (zr_cx fl n) w ↔ zr_P vs vv (zr_cx fl n) w) := by
      intro w hw
      by_cases e : w = t
      · subst e
        refine zr_Pc (fun _ => ?_)
        have : (zr_cx fl n - 1) / 2 = zp_n fl (4 * n) := by unfold zr_cx; omega
        rw [this]; exact hf (Or.inr (by omega))
      · exact zi_Pb hB (by unfold zr_cx; omega) (by omega)
    refine ⟨fun u hu => ?_, fun hn => (h7 k).2 ((zr_nc hP).mp hn)⟩
    have hu' := (zr_lc hP).mp hu
    by_cases e : u = t
    · subst e
      rw [(ho h5' 0 a0).1, (ho h5' 0 a0).2]
      exact (h7 k).1 u hu'
    · have := hu'.1
      rw [(hop 0 u a0 (by omega)).1, (hop 0 u a0 (by omega)).2]
      exact (h7 k).1 u hu'
  · intro k
    have h5' : zp_n kd n ≠ 5 := k.2.2.1
    have eny : zi_ny kd fl ns' t n ↔ zi_ny kd fl ns t n := by
      constructor
      · rintro ⟨j, a, b⟩; exact ⟨j, a, by rw [← (ho h5' j a).1]; exact b⟩
      · rintro ⟨j, a, b⟩; exact ⟨j, a, by rw [(ho h5' j a).1]; exact b⟩
    have ea : ∀ j, zi_a kd fl nv' t n j = zi_a kd fl nv t n j := by
      intro j
      unfold zi_a
      split
      · rename_i hj; exact (ho h5' j hj).2
      · rfl
    rw [eny, ea, ea, ea]
    exact h8 k
theorem zi_Nc (hW : zp_N V kd fl n) (hV : V ≤ 10) (hn : n < 48) (hd : zp_n de n ≤ 20) (hB : zi_B t vs vv ns nv vs' vv' ns' nv')
    (hc : zp_n de n ≠ 0 → vs' (10 * t + (zp_n de n - 1) / 2) = vs (10 * t + (zp_n de n - 1) / 2) ∧ vv' (10 * t + (zp_n de n - 1) / 2) = vv (10 * t + (zp_n de n - 1) / 2))
    (hf : (zp_n kd n = 2 ∨ 16 ≤ zp_n kd n) → vs' (10 * t + zp_n fl (4 * n)) = vs (10 * t + zp_n fl (4 * n)) ∧ vv' (10 * t + zp_n fl (4 * n)) = vv (10 * t + zp_n fl (4 * n)))
    (ho : zp_n kd n ≠ 5 → ∀ j, j < zp_ar (zp_n kd n) → ns' (48 * t + zp_op kd fl n j) = ns (48 * t + zp_op kd fl n j) ∧ nv' (48 * t + zp_op kd fl n j) = nv (48 * t + zp_op kd fl n j))
    (hs : ns' (48 * t + n) = ns (48 * t + n) ∧ nv' (48 * t + n) = nv (48 * t + n)) (h : zi_N kd fl de vs vv ns nv t n) : zi_N kd fl de vs' vv' ns' nv' t n := by
  unfold zi_N
  rw [hs.1, hs.2, zr_Pc hc]
  exact ⟨fun p => ⟨zi_vc hW hV hn hd hB hf ho (h.1 p).1, (h.1 p).2⟩, h.2⟩
theorem zi_Vc {v : Nat} (hc : zp_n ck v ≠ 0 → vs' (10 * t + (zp_n ck v - 1) / 2) = vs (10 * t + (zp_n ck v - 1) / 2) ∧ vv' (10 * t + (zp_n ck v - 1) / 2) = vv (10 * t + (zp_n ck v - 1) / 2))
    (hr : ∀ r, zp_O V qn r v → ns' (48 * t + r) = ns (48 * t + r) ∧ nv' (48 * t + r) = nv (48 * t + r))
    (hs : vs' (10 * t + v) = vs (10 * t + v) ∧ vv' (10 * t + v) = vv (10 * t + v)) (h : zi_V V rl ck qn pd vs vv ns nv t v) : zi_V V rl ck qn pd vs' vv' ns' nv' t v := by
  unfold zi_V
  rw [hs.1, hs.2, zr_Pc hc]
  refine ⟨fun p => ⟨(h.1 p).1, fun r o => ?_, (h.1 p).2.2⟩, h.2⟩
  rw [(hr r o).1, (hr r o).2]
  exact (h.1 p).2.1 r o
end
end
section
/-! one instant: a row that solves the equations exists -/
theorem zr_P1 {vs vv : Nat → Int32} {c b t : Nat} (hb : b ≤ 1) : zr_P vs vv (1 + 2 * c + b) t ↔ (¬ vs (10 * t + c) = 0 ∧ ((¬ vv (10 * t + c) = 0) ↔ b = 1)) := by
  unfold zr_P
  have e1 : (1 + 2 * c + b - 1) / 2 = c := by omega
  have e2 : (1 + 2 * c + b - 1) % 2 = b := by omega
  rw [e1, e2]
  constructor
  · rintro (h | h)
    · omega
    · exact h
  · exact Or.inr
section
variable {V N t n : Nat} {rl ck qn pd kd fl lv ex ow de vs vv ns nv : Nat → Int32}
theorem zi_ck (hW : zp_W V N rl ck qn kd fl) (hV : V ≤ 10) (hL : zt_L V N ck qn kd fl lv ex ow de) (hoff : ∀ n, n < N → lv n = 1 → ¬ zt_off ck kd fl de n) (hn : n < N) (hl : lv n = 1) :
    (∀ j, j < zp_ar (zp_n kd n) → lv (zp_op kd fl n j) = 1 ∧ zp_op kd fl n j < n ∧ zp_n de (zp_op kd fl n j) = zt_oc ck kd fl de n j) ∧
    (zp_n kd n = 16 → zp_n de n = zr_cx fl n) ∧ ((zp_n kd n = 2 ∨ zp_n kd n = 17 ∨ zp_n kd n = 18) → zp_n de n = zp_n ck (zp_n fl (4 * n))) ∧ zp_n de n ≤ 2 * V ∧ de n = nI (zp_n de n) := by
  have sh := hL.1 n hn
  rcases sh with s | ⟨s1, s2, s3, s4, s5, s6⟩
  · rw [hl] at s; exact absurd s.1 za_10
  have hno := hoff n hn hl
  have w := hW.2 n hn
  refine ⟨?_, ?_, ?_, s6, s5⟩
  · intro j hj
    have hp : zp_P N kd fl (zp_op kd fl n j) n j := ⟨hn, hj, rfl⟩
    obtain ⟨q1, q2, q3, q4⟩ := hL.2.2.1 _ n j hp trivial
    have := zt_ocl (de := de) hW hn hj s6
    exact ⟨by rw [q1]; exact hl, zp_Pa hW hp, zp_nI (q4 hl) (by omega)⟩
  · intro k
    have f1 := (w.2.2.2.2.1 (Or.inr (by omega))).2
    have f2 := (w.2.2.2.2.2 (Or.inl k)).2
    have e : de n = nI (1 + 2 * zp_n fl (4 * n) + zp_n fl (4 * n + 1)) := Decidable.byContradiction (fun h => hno (Or.inl ⟨k, h⟩))
    have e2 : zp_n de n = 1 + 2 * zp_n fl (4 * n) + zp_n fl (4 * n + 1) := zp_nI e (by omega)
    exact e2
  · intro k
    have e : de n = ck (zp_n fl (4 * n)) := Decidable.byContradiction (fun h => hno (Or.inr ⟨k, h⟩))
    exact congrArg Int32.toNatClampNeg e
/-- what a present node must have -/
theorem zi_new (hW : zp_W V N rl ck qn kd fl) (hV : V ≤ 10) (hL : zt_L V N ck qn kd fl lv ex ow de) (hoff : ∀ n, n < N → lv n = 1 → ¬ zt_off ck kd fl de n) (hn : n < N) (hl : lv n = 1) (hP : zr_P vs vv (zp_n de n) t)
    (hG : ∀ u, u < t → zr_G N lv de vs vv ns nv u)
    (hv : (zp_n kd n = 2 ∨ 16 ≤ zp_n kd n) → zi_V V rl ck qn pd vs vv ns nv t (zp_n fl (4 * n)))
    (ho : zp_n kd n ≠ 5 → ∀ j, j < zp_ar (zp_n kd n) → zi_N kd fl de vs vv ns nv t (zp_op kd fl n j)) :
    ∃ s x, zi_v kd fl de vs vv ns nv t n s x ∧ (s = 1 ∨ (s = 2 ∧ x = 0)) := by
  obtain ⟨c1, c2, c3, c4, c5⟩ := zi_ck hW hV hL hoff hn hl
  have w := hW.2 n hn
  have goodop : ∀ j, zp_n kd n ≠ 5 → j < zp_ar (zp_n kd n) → zr_P vs vv (zt_oc ck kd fl de n j) t → ns (48 * t + zp_op kd fl n j) = 1 ∨ (ns (48 * t + zp_op kd fl n j) = 2 ∧ nv (48 * t + zp_op kd fl n j) = 0) := by
    intro j h5 hj hp
    have := (ho h5 j hj).1
    rw [(c1 j hj).2.2] at this
    exact (this hp).2
  have oc_d : zp_n kd n < 16 → ∀ j, zt_oc ck kd fl de n j = zp_n de n := by
    intro h j
    unfold zt_oc
    rw [if_neg (by omega), if_neg (by omega), if_neg (by omega)]
  have hk := w.2.2.1
  have hk1 := w.2.1
  by_cases k1 : zp_n kd n = 1
  · refine ⟨1, fl (4 * n), ⟨fun _ => ⟨rfl, rfl⟩, ?_, ?_, ?_, ?_, ?_, ?_, ?_⟩, Or.inl rfl⟩
    all_goals first | exact (fun h => absurd k1 (by omega)) | exact (fun h => absurd k1 h.1)
  by_cases k2 : zp_n kd n = 2
  · have ev := hv (Or.inl k2)
    have hp : zr_P vs vv (zp_n ck (zp_n fl (4 * n))) t := by rw [← c3 (Or.inl k2)]; exact hP
    refine ⟨_, _, ⟨fun h => absurd h k1, fun _ => ⟨rfl, rfl⟩, ?_, ?_, ?_, ?_, ?_, ?_⟩, (ev.1 hp).2.2⟩
    all_goals first | exact (fun h => absurd k2 (by omega)) | exact (fun h => absurd k2 h.2.1)
  by_cases k5 : zp_n kd n = 5
  · have a0 : 0 < zp_ar (zp_n kd n) := by rw [k5]; decide
    have key : ∃ s x, ((∀ u, zr_last vs vv (zp_n de n) t u → s = ns (48 * u + zp_op kd fl n 0) ∧ x = nv (48 * u + zp_op kd fl n 0)) ∧ (zr_none vs vv (zp_n de n) t → s = 2 ∧ x = 0)) ∧ (s = 1 ∨ (s = 2 ∧ x = 0)) := by
      rcases zr_ln (vs := vs) (vv := vv) (x := zp_n de n) t with ⟨u, hu⟩ | hno
      · refine ⟨ns (48 * u + zp_op kd fl n 0), nv (48 * u + zp_op kd fl n 0), ⟨fun u' hu' => ?_, fun h => absurd h (zr_nl hu)⟩, ?_⟩
        · rw [zr_lu hu hu']; exact ⟨rfl, rfl⟩
        · have := hG u hu.1 (zp_op kd fl n 0) (by have := (c1 0 a0).2.1; omega) (c1 0 a0).1
          rw [(c1 0 a0).2.2, oc_d (by omega)] at this
          exact this hu.2.1
      · exact ⟨2, 0, ⟨fun u hu => absurd hno (zr_nl hu), fun _ => ⟨rfl, rfl⟩⟩, Or.inr ⟨rfl, rfl⟩⟩
    obtain ⟨s, x, h1, h2⟩ := key
    refine ⟨s, x, ⟨fun h => absurd h k1, fun h => absurd h k2, fun _ => h1, ?_, ?_, ?_, ?_, ?_⟩, h2⟩
    all_goals first | exact (fun h => absurd k5 (by omega)) | exact (fun h => absurd k5 h.2.2.1)
  by_cases k14 : zp_n kd n = 14
  · have a0 : 0 < zp_ar (zp_n kd n) := by rw [k14]; decide
    have a1 : 1 < zp_ar (zp_n kd n) := by rw [k14]; decide
    have key : ∃ s x, ((zr_none vs vv (zp_n de n) t → s = ns (48 * t + zp_op kd fl n 0) ∧ x = nv (48 * t + zp_op kd fl n 0)) ∧ (¬ zr_none vs vv (zp_n de n) t → s = ns (48 * t + zp_op kd fl n 1) ∧ x = nv (48 * t + zp_op kd fl n 1))) ∧ (s = 1 ∨ (s = 2 ∧ x = 0)) := by
      by_cases hno : zr_none vs vv (zp_n de n) t
      · exact ⟨_, _, ⟨fun _ => ⟨rfl, rfl⟩, fun h => absurd hno h⟩, goodop 0 k5 a0 (by rw [oc_d (by omega)]; exact hP)⟩
      · exact ⟨_, _, ⟨fun h => absurd h hno, fun _ => ⟨rfl, rfl⟩⟩, goodop 1 k5 a1 (by rw [oc_d (by omega)]; exact hP)⟩
    obtain ⟨s, x, h1, h2⟩ := key
    refine ⟨s, x, ⟨fun h => absurd h k1, fun h => absurd h k2, fun h => absurd h k5, fun _ => h1, ?_, ?_, ?_, ?_⟩, h2⟩
    all_goals first | exact (fun h => absurd k14 (by omega)) | exact (fun h => absurd k14 h.2.2.2.1)
  by_cases k16 : zp_n kd n = 16
  · have a0 : 0 < zp_ar (zp_n kd n) := by rw [k16]; decide
    have ev := hv (Or.inr (by omega))
    have f2 := (w.2.2.2.2.2 (Or.inl k16)).2
    have hp := hP
    rw [c2 k16] at hp
    unfold zr_cx at hp
    rw [zr_P1 f2] at hp
    have hpc : zr_P vs vv (zp_n ck (zp_n fl (4 * n))) t := Classical.byContradiction (fun h => hp.1 (ev.2 h).1)
    have oc : zt_oc ck kd fl de n 0 = zp_n ck (zp_n fl (4 * n)) := by unfold zt_oc; rw [if_pos k16]
    refine ⟨_, _, ⟨fun h => absurd h k1, fun h => absurd h k2, fun h => absurd h k5, fun h => absurd h k14, fun _ => ⟨rfl, rfl⟩, ?_, ?_, ?_⟩, goodop 0 k5 a0 (by rw [oc]; exact hpc)⟩
    all_goals first | exact (fun h => absurd k16 (by omega)) | exact (fun h => absurd k16 h.2.2.2.2.1)
  by_cases k17 : zp_n kd n = 17
  · have a0 : 0 < zp_ar (zp_n kd n) := by rw [k17]; decide
    have a1 : 1 < zp_ar (zp_n kd n) := by rw [k17]; decide
    have ev := hv (Or.inr (by omega))
    have hpc : zr_P vs vv (zp_n ck (zp_n fl (4 * n))) t := by rw [← c3 (Or.inr (Or.inl k17))]; exact hP
    have hvs : ¬ vs (10 * t + zp_n fl (4 * n)) = 0 := by
      rcases (ev.1 hpc).2.2 with e | ⟨e, _⟩ <;> (rw [e]; decide)
    have oc : ∀ j, zt_oc ck kd fl de n j = 1 + 2 * zp_n fl (4 * n) + (1 - j) := by
      intro j; unfold zt_oc; rw [if_neg k16, if_pos k17]
    have key : ∃ s x, ((¬ vv (10 * t + zp_n fl (4 * n)) = 0 → s = ns (48 * t + zp_op kd fl n 0) ∧ x = nv (48 * t + zp_op kd fl n 0)) ∧ (vv (10 * t + zp_n fl (4 * n)) = 0 → s = ns (48 * t + zp_op kd fl n 1) ∧ x = nv (48 * t + zp_op kd fl n 1))) ∧ (s = 1 ∨ (s = 2 ∧ x = 0)) := by
      by_cases hz : vv (10 * t + zp_n fl (4 * n)) = 0
      · refine ⟨_, _, ⟨fun h => absurd hz h, fun _ => ⟨rfl, rfl⟩⟩, goodop 1 k5 a1 ?_⟩
        rw [oc, zr_P1 (by omega)]
        exact ⟨hvs, fun h => absurd hz h, fun h => absurd h (by omega)⟩
      · refine ⟨_, _, ⟨fun _ => ⟨rfl, rfl⟩, fun h => absurd h hz⟩, goodop 0 k5 a0 ?_⟩
        rw [oc, zr_P1 (by omega)]
        exact ⟨hvs, fun _ => by omega, fun _ => hz⟩
    obtain ⟨s, x, h1, h2⟩ := key
    refine ⟨s, x, ⟨fun h => absurd h k1, fun h => absurd h k2, fun h => absurd h k5, fun h => absurd h k14, fun h => absurd h k16, fun _ => h1, ?_, ?_⟩, h2⟩
    all_goals first | exact (fun h => absurd k17 (by omega)) | exact (fun h => absurd k17 h.2.2.2.2.2.1)
  by_cases k18 : zp_n kd n = 18
  · have a0 : 0 < zp_ar (zp_n kd n) := by rw [k18]; decide
    have oc : zt_oc ck kd fl de n 0 = zr_cx fl n := by unfold zt_oc zr_cx; rw [if_neg k16, if_neg k17, if_pos k18]
    have key : ∃ s x, ((∀ u, zr_last vs vv (zr_cx fl n) (t + 1) u → s = ns (48 * u + zp_op kd fl n 0) ∧ x = nv (48 * u + zp_op kd fl n 0)) ∧ (zr_none vs vv (zr_cx fl n) (t + 1) → s = 1 ∧ x = fl (4 * n + 2))) ∧ (s = 1 ∨ (s = 2 ∧ x = 0)) := by
      rcases zr_ln (vs := vs) (vv := vv) (x := zr_cx fl n) (t + 1) with ⟨u, hu⟩ | hno
      · refine ⟨ns (48 * u + zp_op kd fl n 0), nv (48 * u + zp_op kd fl n 0), ⟨fun u' hu' => ?_, fun h => absurd h (zr_nl hu)⟩, ?_⟩
        · rw [zr_lu hu hu']; exact ⟨rfl, rfl⟩
        · by_cases e : u = t
          · subst e
            exact goodop 0 k5 a0 (by rw [oc]; exact hu.2.1)
          · have := hG u (by have := hu.1; omega) (zp_op kd fl n 0) (by have := (c1 0 a0).2.1; omega) (c1 0 a0).1
            rw [(c1 0 a0).2.2, oc] at this
            exact this hu.2.1
      · exact ⟨1, fl (4 * n + 2), ⟨fun u hu => absurd hno (zr_nl hu), fun _ => ⟨rfl, rfl⟩⟩, Or.inl rfl⟩
    obtain ⟨s, x, h1, h2⟩ := key
    refine ⟨s, x, ⟨fun h => absurd h k1, fun h => absurd h k2, fun h => absurd h k5, fun h => absurd h k14, fun h => absurd h k16, fun h => absurd h k17, fun _ => h1, fun h => absurd k18 h.2.2.2.2.2.2⟩, h2⟩
  · have key : ∃ s x : Int32, ((zi_ny kd fl ns t n → s = 2 ∧ x = 0) ∧ (¬ zi_ny kd fl ns t n → s = 1 ∧ x = zi_ap (zp_n kd n) (zi_a kd fl nv t n 0) (zi_a kd fl nv t n 1) (zi_a kd fl nv t n 2))) ∧ (s = 1 ∨ (s = 2 ∧ x = 0)) := by
      by_cases hny : zi_ny kd fl ns t n
      · exact ⟨2, 0, ⟨fun _ => ⟨rfl, rfl⟩, fun h => absurd hny h⟩, Or.inr ⟨rfl, rfl⟩⟩
      · exact ⟨1, _, ⟨fun h => absurd h hny, fun _ => ⟨rfl, rfl⟩⟩, Or.inl rfl⟩
    obtain ⟨s, x, h1, h2⟩ := key
    exact ⟨s, x, ⟨fun h => absurd h k1, fun h => absurd h k2, fun h => absurd h k5, fun h => absurd h k14, fun h => absurd h k16, fun h => absurd h k17, fun h => absurd h k18, fun _ => h1⟩, h2⟩
theorem zr_Gc {vs' vv' ns' nv' : Nat → Int32} (hN : N ≤ 48) (hd : ∀ n, n < N → lv n = 1 → zp_n de n ≤ 20) (hB : zi_B t vs vv ns nv vs' vv' ns' nv') (hG : ∀ u, u < t → zr_G N lv de vs vv ns nv u) : ∀ u, u < t → zr_G N lv de vs' vv' ns' nv' u := by
  intro u hu m hm hl hp
  rw [zi_Pb hB (hd m hm hl) hu] at hp
  rw [(hB.2 (48 * u + m) (by omega)).1, (hB.2 (48 * u + m) (by omega)).2]
  exact hG u hu m hm hl hp
theorem zi_ex {S : Nat} {sA sT : Nat → Int32} (hW : zp_W V N rl ck qn kd fl) (hV : V ≤ 10) (hN : N ≤ 48) (hL : zt_L V N ck qn kd fl lv ex ow de) (hoff : ∀ n, n < N → lv n = 1 → ¬ zt_off ck kd fl de n) (hmiss : ∀ v, v < V → rl v = 1 → ¬ qn v = -1)
    (hS : zs_S V N ck qn kd fl lv de sA sT S) (hall : zs_all V N kd lv sA sT S) (hG : ∀ u, u < t → zr_G N lv de vs vv ns nv u) :
    ∃ vs' vv' ns' nv', zi_B t vs vv ns nv vs' vv' ns' nv' ∧ zi_R V N rl ck qn pd kd fl lv de vs' vv' ns' nv' t := by
  have hd : ∀ n, n < N → lv n = 1 → zp_n de n ≤ 20 := fun n hn hl => by
    have := (zi_ck hW hV hL hoff hn hl).2.2.2.1; omega
  have IND : ∀ s, s ≤ S → ∃ vs' vv' ns' nv' : Nat → Int32, zi_B t vs vv ns nv vs' vv' ns' nv' ∧
      (∀ v, v < V → zs_has sA sT s 1 v → zi_V V rl ck qn pd vs' vv' ns' nv' t v) ∧ (∀ n, n < N → zs_has sA sT s 0 n → zi_N kd fl de vs' vv' ns' nv' t n) := by
    intro s
    induction s with
    | zero =>
      intro _
      exact ⟨vs, vv, ns, nv, ⟨fun _ _ => ⟨rfl, rfl⟩, fun _ _ => ⟨rfl, rfl⟩⟩, fun v _ ⟨s, hs, _⟩ => absurd hs (Nat.not_lt_zero s), fun v _ ⟨s, hs, _⟩ => absurd hs (Nat.not_lt_zero s)⟩
    | succ s ih =>
      intro hs
      obtain ⟨vs1, vv1, ns1, nv1, hB, hv1, hn1⟩ := ih (by omega)
      obtain ⟨t1, t2, t3⟩ := hS s (by omega)
      have step : ∀ a y, zs_has sA sT (s + 1) a y → zs_has sA sT s a y ∨ (sA s = a ∧ nI (zp_n sT s) = nI y) := by
        rintro a y ⟨s', h1, h2, h3⟩
        by_cases e : s' = s
        · subst e; exact Or.inr ⟨h2, by rw [← t1]; exact h3⟩
        · exact Or.inl ⟨s', by omega, h2, h3⟩
      -- the inputs of steps below s
      have okN : ∀ m, m < N → zs_has sA sT s 0 m → lv m = 1 ∧ (zp_n de m ≠ 0 → zs_has sA sT s 1 ((zp_n de m - 1) / 2)) ∧ ((zp_n kd m = 2 ∨ 16 ≤ zp_n kd m) → zs_has sA sT s 1 (zp_n fl (4 * m))) ∧ (zp_n kd m ≠ 5 → ∀ j, j < zp_ar (zp_n kd m) → zs_has sA sT s 0 (zp_op kd fl m j)) := by
        rintro m hm ⟨s', h1, h2, h3⟩
        obtain ⟨_, _, ok⟩ := hS s' (by omega)
        rw [h2, zp_nI h3 (by omega)] at ok
        have up : ∀ a y, zs_has sA sT s' a y → zs_has sA sT s a y := fun a y ⟨s2, q1, q2, q3⟩ => ⟨s2, by omega, q2, q3⟩
        rcases ok with ⟨_, g2, g3, g4, g5, g6⟩ | ⟨g1, _⟩ | ⟨g1, _⟩
        · exact ⟨g3, fun h => up _ _ (g4 h), fun h => up _ _ (g5 h), fun h j hj => up _ _ (g6 h j hj)⟩
        · exact absurd g1 za_01
        · exact absurd g1 (by decide)
      have okV : ∀ v, v < V → zs_has sA sT s 1 v → (zp_n ck v ≠ 0 → zs_has sA sT s 1 ((zp_n ck v - 1) / 2)) ∧ (∀ r, zp_O V qn r v → zs_has sA sT s 0 r) := by
        rintro v hv ⟨s', h1, h2, h3⟩
        obtain ⟨_, _, ok⟩ := hS s' (by omega)
        rw [h2, zp_nI h3 (by omega)] at ok
        have up : ∀ a y, zs_has sA sT s' a y → zs_has sA sT s a y := fun a y ⟨s2, q1, q2, q3⟩ => ⟨s2, by omega, q2, q3⟩
        rcases ok with ⟨g1, _⟩ | ⟨_, g2, g3, g4⟩ | ⟨g1, _⟩
        · exact absurd g1 za_10
        · exact ⟨fun h => up _ _ (g3 h), fun r o => up _ _ (g4 r o)⟩
        · exact absurd g1 (by decide)
      rcases t3 with ⟨g1, g2, g3, g4, g5, g6⟩ | ⟨g1, g2, g3, g4⟩ | ⟨g1, g2, _⟩
      · -- an evaluation
        generalize hx : zp_n sT s = x at *
        by_cases hf : zs_has sA sT s 0 x
        · refine ⟨vs1, vv1, ns1, nv1, hB, fun v hv h => ?_, fun n hn h => ?_⟩
          · rcases step 1 v h with h | ⟨h, _⟩
            · exact hv1 v hv h
            · rw [g1] at h; exact absurd h za_01
          · rcases step 0 n h with h | ⟨_, h⟩
            · exact hn1 n hn h
            · have := za_inj h (by omega) (by omega)
              rw [← this]; exact hn1 x g2 hf
        · have hde := hd x g2 g3
          have ex1 : ∃ s0 x0 : Int32, (zr_P vs1 vv1 (zp_n de x) t → zi_v kd fl de vs1 vv1 ns1 nv1 t x s0 x0 ∧ (s0 = 1 ∨ (s0 = 2 ∧ x0 = 0))) ∧ (¬ zr_P vs1 vv1 (zp_n de x) t → s0 = 0 ∧ x0 = 0) := by
            by_cases hp : zr_P vs1 vv1 (zp_n de x) t
            · obtain ⟨s0, x0, a, b⟩ := zi_new (pd := pd) hW hV hL hoff g2 g3 hp (zr_Gc hN hd hB hG) (fun h => hv1 _ ((hW.2 x g2).2.2.2.2.1 h).2 (g5 h)) (fun h j hj => hn1 _ (by have := ((hW.2 x g2).2.2.2.1 j hj).2; omega) (g6 h j hj))
              exact ⟨s0, x0, fun _ => ⟨a, b⟩, fun h => absurd hp h⟩
            · exact ⟨0, 0, fun h => absurd h hp, fun _ => ⟨rfl, rfl⟩⟩
          obtain ⟨s0, x0, e1, e2⟩ := ex1
          have hB1 : zi_B t vs1 vv1 ns1 nv1 vs1 vv1 (upd ns1 (48 * t + x) s0) (upd nv1 (48 * t + x) x0) :=
            ⟨fun _ _ => ⟨rfl, rfl⟩, fun i hi => ⟨pk_un (by omega), pk_un (by omega)⟩⟩
          have keep : ∀ m, m < N → m ≠ x → upd ns1 (48 * t + x) s0 (48 * t + m) = ns1 (48 * t + m) ∧ upd nv1 (48 * t + x) x0 (48 * t + m) = nv1 (48 * t + m) :=
            fun m _ hm => ⟨pk_un (by omega), pk_un (by omega)⟩
          refine ⟨vs1, vv1, upd ns1 (48 * t + x) s0, upd nv1 (48 * t + x) x0, ⟨hB.1, fun i hi => ?_⟩, fun v hv h => ?_, fun n hn h => ?_⟩
          · rw [(hB1.2 i hi).1, (hB1.2 i hi).2]; exact hB.2 i hi
          · rcases step 1 v h with h | ⟨h, _⟩
            · refine zi_Vc (fun _ => ⟨rfl, rfl⟩) (fun r o => ?_) ⟨rfl, rfl⟩ (hv1 v hv h)
              have hr := zp_Oa hW o
              refine keep r hr ?_
              rintro rfl
              exact hf ((okV v hv h).2 r o)
            · rw [g1] at h; exact absurd h za_01
          · rcases step 0 n h with h | ⟨_, h⟩
            · have ok := okN n hn h
              refine zi_Nc (hW.2 n hn) hV (by omega) (hd n hn ok.1) hB1 (fun _ => ⟨rfl, rfl⟩) (fun _ => ⟨rfl, rfl⟩) (fun h5 j hj => ?_) ?_ (hn1 n hn h)
              · have := ((hW.2 n hn).2.2.2.1 j hj).2
                refine keep _ (by omega) ?_
                intro e
                exact hf (by rw [← e]; exact ok.2.2.2 h5 j hj)
              · refine keep n hn ?_
                rintro rfl
                exact hf h
            · have hxn := za_inj h (by omega) (by omega)
              subst hxn
              refine ⟨fun hp => ?_, fun hp => ?_⟩
              · rw [pk_us, pk_us]
                refine ⟨zi_vc (hW.2 x g2) hV (by omega) hde hB1 (fun _ => ⟨rfl, rfl⟩) (fun h5 j hj => ?_) (e1 hp).1, (e1 hp).2⟩
                have := ((hW.2 x g2).2.2.2.1 j hj).2
                exact keep _ (by omega) (by omega)
              · rw [pk_us, pk_us]; exact e2 hp
      · -- a store
        generalize hx : zp_n sT s = x at *
        by_cases hf : zs_has sA sT s 1 x
        · refine ⟨vs1, vv1, ns1, nv1, hB, fun v hv h => ?_, fun n hn h => ?_⟩
          · rcases step 1 v h with h | ⟨_, h⟩
            · exact hv1 v hv h
            · have := za_inj h (by omega) (by omega)
              rw [← this]; exact hv1 x g2 hf
          · rcases step 0 n h with h | ⟨h, _⟩
            · exact hn1 n hn h
            · rw [g1] at h; exact absurd h za_10
        · have hck := (hW.1 x g2).2.1
          have ex1 : ∃ s0 x0 : Int32, (zr_P vs1 vv1 (zp_n ck x) t → (rl x = 0 → s0 = 1 ∧ x0 = pd x) ∧ (∀ r, zp_O V qn r x → s0 = ns1 (48 * t + r) ∧ x0 = nv1 (48 * t + r)) ∧ (s0 = 1 ∨ (s0 = 2 ∧ x0 = 0))) ∧ (¬ zr_P vs1 vv1 (zp_n ck x) t → s0 = 0 ∧ x0 = 0) := by
            by_cases hp : zr_P vs1 vv1 (zp_n ck x) t
            · rcases (hW.1 x g2).2.2 with e | ⟨e0, e, e'⟩
              · refine ⟨1, pd x, fun _ => ⟨fun _ => ⟨rfl, rfl⟩, fun r o => ?_, Or.inl rfl⟩, fun h => absurd hp h⟩
                have := o.2.2
                rw [e] at this
                exact absurd this (za_n1' (by have := o.2.1; omega))
              · have o : zp_O V qn (zp_n qn x) x := ⟨g2, by omega, e⟩
                refine ⟨ns1 (48 * t + zp_n qn x), nv1 (48 * t + zp_n qn x), fun _ => ⟨fun h => ?_, fun r o' => ?_, ?_⟩, fun h => absurd hp h⟩
                · rw [h] at e0; exact absurd e0 za_01
                · have h1 := o'.2.2
                  rw [e] at h1
                  have := za_inj h1 (by omega) (by have := o'.2.1; omega)
                  rw [this]; exact ⟨rfl, rfl⟩
                · have hn' := hn1 (zp_n qn x) e' (g4 _ o)
                  have hde : zp_n de (zp_n qn x) = zp_n ck x := congrArg Int32.toNatClampNeg (hL.2.1 _ x o).2.2.2
                  have h1 := hn'.1
                  rw [hde] at h1
                  exact (h1 hp).2
            · exact ⟨0, 0, fun h => absurd h hp, fun _ => ⟨rfl, rfl⟩⟩
          obtain ⟨s0, x0, e1, e2⟩ := ex1
          have hB1 : zi_B t vs1 vv1 ns1 nv1 (upd vs1 (10 * t + x) s0) (upd vv1 (10 * t + x) x0) ns1 nv1 :=
            ⟨fun i hi => ⟨pk_un (by omega), pk_un (by omega)⟩, fun _ _ => ⟨rfl, rfl⟩⟩
          have keep : ∀ m, m ≠ x → upd vs1 (10 * t + x) s0 (10 * t + m) = vs1 (10 * t + m) ∧ upd vv1 (10 * t + x) x0 (10 * t + m) = vv1 (10 * t + m) :=
            fun m hm => ⟨pk_un (by omega), pk_un (by omega)⟩
          refine ⟨upd vs1 (10 * t + x) s0, upd vv1 (10 * t + x) x0, ns1, nv1, ⟨fun i hi => ?_, hB.2⟩, fun v hv h => ?_, fun n hn h => ?_⟩
          · rw [(hB1.1 i hi).1, (hB1.1 i hi).2]; exact hB.1 i hi
          · rcases step 1 v h with h | ⟨_, h⟩
            · have ok := okV v hv h
              refine zi_Vc (fun hz => keep _ ?_) (fun r o => ⟨rfl, rfl⟩) (keep v ?_) (hv1 v hv h)
              · intro e; exact hf (by rw [← e]; exact ok.1 hz)
              · rintro rfl; exact hf h
            · have hxn := za_inj h (by omega) (by omega)
              subst hxn
              have hpe : zr_P (upd vs1 (10 * t + x) s0) (upd vv1 (10 * t + x) x0) (zp_n ck x) t ↔ zr_P vs1 vv1 (zp_n ck x) t :=
                zr_Pc (fun hz => keep _ (by omega))
              unfold zi_V
              rw [hpe, pk_us, pk_us]
              exact ⟨e1, e2⟩
          · rcases step 0 n h with h | ⟨h, _⟩
            · have ok := okN n hn h
              refine zi_Nc (hW.2 n hn) hV (by omega) (hd n hn ok.1) hB1 (fun hz => keep _ ?_) (fun hk => keep _ ?_) (fun _ j hj => ⟨rfl, rfl⟩) ⟨rfl, rfl⟩ (hn1 n hn h)
              · intro e; exact hf (by rw [← e]; exact ok.2.1 hz)
              · intro e; exact hf (by rw [← e]; exact ok.2.2.1 hk)
            · rw [g1] at h; exact absurd h za_10
      · -- a save
        refine ⟨vs1, vv1, ns1, nv1, hB, fun v hv h => ?_, fun n hn h => ?_⟩
        · rcases step 1 v h with h | ⟨h, _⟩
          · exact hv1 v hv h
          · rw [g1] at h; exact absurd h (by decide)
        · rcases step 0 n h with h | ⟨h, _⟩
          · exact hn1 n hn h
          · rw [g1] at h; exact absurd h (by decide)
  obtain ⟨vs1, vv1, ns1, nv1, hB, hv1, hn1⟩ := IND S (Nat.le_refl _)
  exact ⟨vs1, vv1, ns1, nv1, hB, fun v hv => hv1 v hv (hall.1 v hv), fun n hn hl => hn1 n hn (hall.2.1 n hn hl)⟩
end
end
section
/-! the component's small walks of an instant -/
theorem zi_ap_3 {a b c : Int32} : zi_ap 3 a b c = (0 - a) := rfl
theorem zi_ap_4 {a b c : Int32} : zi_ap 4 a b c = (if a = 0 then 1 else 0) := rfl
theorem zi_ap_6 {a b c : Int32} : zi_ap 6 a b c = (a + b) := rfl
theorem zi_ap_7 {a b c : Int32} : zi_ap 7 a b c = (a - b) := rfl
theorem zi_ap_8 {a b c : Int32} : zi_ap 8 a b c = (a * b) := rfl
theorem zi_ap_9 {a b c : Int32} : zi_ap 9 a b c = (if b = 0 then 0 else a / b) := rfl
theorem zi_ap_10 {a b c : Int32} : zi_ap 10 a b c = (if b ≤ a then 0 else 1) := rfl
theorem zi_ap_11 {a b c : Int32} : zi_ap 11 a b c = (if a = b then 1 else 0) := rfl
theorem zi_ap_12 {a b c : Int32} : zi_ap 12 a b c = (if a = 0 then 0 else if b = 0 then 0 else 1) := rfl
theorem zi_ap_13 {a b c : Int32} : zi_ap 13 a b c = (if a = 0 then (if b = 0 then 0 else 1) else 1) := rfl
theorem zi_ap_15 {a b c : Int32} : zi_ap 15 a b c = (if a = 0 then c else b) := rfl
theorem zi_sk {k : Nat} (hs : zi_st k) (h1 : 1 ≤ k) (h18 : k ≤ 18) : k = 3 ∨ k = 4 ∨ k = 6 ∨ k = 7 ∨ k = 8 ∨ k = 9 ∨ k = 10 ∨ k = 11 ∨ k = 12 ∨ k = 13 ∨ k = 15 := by
  obtain ⟨a, b, c, d, e, f, g⟩ := hs
  omega
theorem zi_uu {f : Nat → Int32} {k : Nat} {x y : Int32} : upd (upd f k x) k y = upd f k y := by
  funext j
  by_cases e : j = k
  · rw [e, pk_us, pk_us]
  · rw [pk_un e, pk_un e, pk_un e]
theorem zr_n01 (s : Int32) : zr_nil s = 0 ∨ zr_nil s = 1 := by
  unfold zr_nil; split
  · exact Or.inr rfl
  · exact Or.inl rfl
section
variable {eS oS aS MV MN MI ph ve fa no vc nc oc sc bc lc pr : Int32} {rl ck qn pd kd fl us lv ex ow de nl vl di re od sA sT bC bS bE sl mV mN se nV nN pS pV : Nat → Int32}
theorem xe_ap {post : Int32 → Prop} {k : Nat} {a b c : Int32} (hs : zi_st k) (h1 : 1 ≤ k) (h18 : k ≤ 18) (h : post (zi_ap k a b c)) : wpX_apply post (eS, oS, aS, MV, MN, MI, ph, ve, fa, no, vc, nc, oc, sc, bc, lc, pr, rl, ck, qn, pd, kd, fl, us, lv, ex, ow, de, nl, vl, di, re, od, sA, sT, bC, bS, bE, sl, mV, mN, se, nV, nN, pS, pV) (nI k) a b c := by
  unfold wpX_apply
  rcases zi_sk hs h1 h18 with rfl | rfl | rfl | rfl | rfl | rfl | rfl | rfl | rfl | rfl | rfl
  · rw [zi_ap_3] at h
    refine br_f (by decide) (br_f (by decide) (br_t (by decide) ?_))
    exact h
  · rw [zi_ap_4] at h
    refine br_f (by decide) (br_f (by decide) (br_f (by decide) (br_t (by decide) ?_)))
    exact br_c (fun e => by rw [if_pos e] at h; exact h) (fun e => by rw [if_neg e] at h; exact h)
  · rw [zi_ap_6] at h
    refine br_f (by decide) (br_f (by decide) (br_f (by decide) (br_f (by decide) (br_f (by decide) (br_t (by decide) ?_)))))
    exact h
  · rw [zi_ap_7] at h
    refine br_f (by decide) (br_f (by decide) (br_f (by decide) (br_f (by decide) (br_f (by decide) (br_f (by decide) (br_t (by decide) ?_))))))
    exact h
  · rw [zi_ap_8] at h
    refine br_f (by decide) (br_f (by decide) (br_f (by decide) (br_f (by decide) (br_f (by decide) (br_f (by decide) (br_f (by decide) (br_t (by decide) ?_)))))))
    exact h
  · rw [zi_ap_9] at h
    refine br_f (by decide) (br_f (by decide) (br_f (by decide) (br_f (by decide) (br_f (by decide) (br_f (by decide) (br_f (by decide) (br_f (by decide) (br_t (by decide) ?_))))))))
    exact br_c (fun e => by rw [if_pos e] at h; exact h) (fun e => by rw [if_neg e] at h; exact ⟨e, h⟩)
  · rw [zi_ap_10] at h
    refine br_f (by decide) (br_f (by decide) (br_f (by decide) (br_f (by decide) (br_f (by decide) (br_f (by decide) (br_f (by decide) (br_f (by decide) (br_f (by decide) (br_t (by decide) ?_)))))))))
    exact br_c (fun e => by rw [if_pos e] at h; exact h) (fun e => by rw [if_neg e] at h; exact h)
  · rw [zi_ap_11] at h
    refine br_f (by decide) (br_f (by decide) (br_f (by decide) (br_f (by decide) (br_f (by decide) (br_f (by decide) (br_f (by decide) (br_f (by decide) (br_f (by decide) (br_f (by decide) (br_t (by decide) ?_))))))))))
    exact br_c (fun e => by rw [if_pos e] at h; exact h) (fun e => by rw [if_neg e] at h; exact h)
  · rw [zi_ap_12] at h
    refine br_f (by decide) (br_f (by decide) (br_f (by decide) (br_f (by decide) (br_f (by decide) (br_f (by decide) (br_f (by decide) (br_f (by decide) (br_f (by decide) (br_f (by decide) (br_f (by decide) (br_t (by decide) ?_)))))))))))
    exact br_c (fun e => by rw [if_pos e] at h; exact h) (fun e => by rw [if_neg e] at h; exact br_c (fun e2 => by rw [if_pos e2] at h; exact h) (fun e2 => by rw [if_neg e2] at h; exact h))
  · rw [zi_ap_13] at h
    refine br_f (by decide) (br_f (by decide) (br_f (by decide) (br_f (by decide) (br_f (by decide) (br_f (by decide) (br_f (by decide) (br_f (by decide) (br_f (by decide) (br_f (by decide) (br_f (by decide) (br_f (by decide) (br_t (by decide) ?_))))))))))))
    exact br_c (fun e => by rw [if_pos e] at h; exact br_c (fun e2 => by rw [if_pos e2] at h; exact h) (fun e2 => by rw [if_neg e2] at h; exact h)) (fun e => by rw [if_neg e] at h; exact h)
  · rw [zi_ap_15] at h
    refine br_f (by decide) (br_f (by decide) (br_f (by decide) (br_f (by decide) (br_f (by decide) (br_f (by decide) (br_f (by decide) (br_f (by decide) (br_f (by decide) (br_f (by decide) (br_f (by decide) (br_f (by decide) (br_f (by decide) (br_f (by decide) (br_t (by decide) ?_))))))))))))))
    exact br_c (fun e => by rw [if_pos e] at h; exact h) (fun e => by rw [if_neg e] at h; exact h)
theorem xe_copy {post : SX → Prop} {n a : Nat} (hn : n < 48) (ha : a < 48) (h01 : nN a = 0 ∨ nN a = 1) (h : post (eS, oS, aS, MV, MN, MI, ph, ve, fa, no, vc, nc, oc, sc, bc, lc, pr, rl, ck, qn, pd, kd, fl, us, lv, ex, ow, de, nl, vl, di, re, od, sA, sT, bC, bS, bE, sl, mV, mN, se, upd nV n (nV a), upd nN n (nN a), pS, pV)) : wpX_copyNode post (eS, oS, aS, MV, MN, MI, ph, ve, fa, no, vc, nc, oc, sc, bc, lc, pr, rl, ck, qn, pd, kd, fl, us, lv, ex, ow, de, nl, vl, di, re, od, sA, sT, bC, bS, bE, sl, mV, mN, se, nV, nN, pS, pV) (nI n) (nI a) := by
  have cn : (nI n).toNatClampNeg = n := nI_clamp (by omega)
  have ca : (nI a).toNatClampNeg = a := nI_clamp (by omega)
  have i1 : vp_in (nI n) 48 := vp_in_nI hn (by decide)
  have i2 : vp_in (nI a) 48 := vp_in_nI ha (by decide)
  unfold wpX_copyNode
  dsimp only
  rw [cn, ca, za_bv h01]
  exact ⟨i2, i1, nm_e ⟨i2, i1, nm_e h⟩⟩
theorem xe_recall {post : SX → Prop} {n t q : Nat} (hn : n < 48) (ht : t < 24) (hq : q < 48) (hs : sl n = nI q) (h01 : mN (48 * t + q) = 0 ∨ mN (48 * t + q) = 1) (h : post (eS, oS, aS, MV, MN, MI, ph, ve, fa, nI t, vc, nc, oc, sc, bc, lc, pr, rl, ck, qn, pd, kd, fl, us, lv, ex, ow, de, nl, vl, di, re, od, sA, sT, bC, bS, bE, sl, mV, mN, se, upd nV n (mV (48 * t + q)), upd nN n (mN (48 * t + q)), pS, pV)) : wpX_recall post (eS, oS, aS, MV, MN, MI, ph, ve, fa, nI t, vc, nc, oc, sc, bc, lc, pr, rl, ck, qn, pd, kd, fl, us, lv, ex, ow, de, nl, vl, di, re, od, sA, sT, bC, bS, bE, sl, mV, mN, se, nV, nN, pS, pV) (nI n) := by
  have cn : (nI n).toNatClampNeg = n := nI_clamp (by omega)
  have cq : (nI (48 * t + q)).toNatClampNeg = 48 * t + q := nI_clamp (by omega)
  have i1 : vp_in (nI n) 48 := vp_in_nI hn (by decide)
  have i2 : vp_in (nI (48 * t + q)) 1200 := vp_in_nI (by omega) (by decide)
  unfold wpX_recall
  dsimp only
  rw [cn, hs, za_m48, nI_add]
  refine ⟨i1, nm_e ?_⟩
  rw [cq, za_bv h01]
  exact ⟨i2, i1, nm_e ⟨i2, i1, nm_e h⟩⟩
theorem xe_keep {post : SX → Prop} {n a t q : Nat} (hn : n < 48) (ha : a < 48) (ht : t < 24) (hq : q < 48) (hs : sl n = nI q) (h01 : nN a = 0 ∨ nN a = 1) (h : post (eS, oS, aS, MV, MN, MI, ph, ve, fa, nI t, vc, nc, oc, sc, bc, lc, pr, rl, ck, qn, pd, kd, fl, us, lv, ex, ow, de, nl, vl, di, re, od, sA, sT, bC, bS, bE, sl, upd mV (48 * (t + 1) + q) (nV a), upd mN (48 * (t + 1) + q) (nN a), se, nV, nN, pS, pV)) : wpX_keep post (eS, oS, aS, MV, MN, MI, ph, ve, fa, nI t, vc, nc, oc, sc, bc, lc, pr, rl, ck, qn, pd, kd, fl, us, lv, ex, ow, de, nl, vl, di, re, od, sA, sT, bC, bS, bE, sl, mV, mN, se, nV, nN, pS, pV) (nI n) (nI a) := by
  have cn : (nI n).toNatClampNeg = n := nI_clamp (by omega)
  have ca : (nI a).toNatClampNeg = a := nI_clamp (by omega)
  have cq : (nI (48 * (t + 1) + q)).toNatClampNeg = 48 * (t + 1) + q := nI_clamp (by omega)
  have i1 : vp_in (nI n) 48 := vp_in_nI hn (by decide)
  have i3 : vp_in (nI a) 48 := vp_in_nI ha (by decide)
  have i2 : vp_in (nI (48 * (t + 1) + q)) 1200 := vp_in_nI (by omega) (by decide)
  unfold wpX_keep
  dsimp only
  rw [cn, hs, nI_1, za_m48, nI_add]
  refine ⟨i1, nm_e ?_⟩
  rw [cq, ca, za_bv h01]
  exact ⟨i3, i2, nm_e ⟨i3, i2, nm_e h⟩⟩
theorem xe_pres {post : Int32 → Prop} {d : Nat} (hd : d < 32) (h1 : bt pr d = true → post 1) (h0 : bt pr d = false → post 0) : wpX_isPresent post (eS, oS, aS, MV, MN, MI, ph, ve, fa, no, vc, nc, oc, sc, bc, lc, pr, rl, ck, qn, pd, kd, fl, us, lv, ex, ow, de, nl, vl, di, re, od, sA, sT, bC, bS, bE, sl, mV, mN, se, nV, nN, pS, pV) (nI d) := by
  unfold wpX_isPresent
  dsimp only
  rw [zb_t hd]
  refine br_c h0 (fun e => h1 ?_)
  cases e2 : bt pr d with
  | true => rfl
  | false => exact absurd e2 e
theorem xe_strict {post : SX → Prop} {V n : Nat} (hn : n < 48) (hW : zp_N V kd fl n) (hs : zi_st (zp_n kd n))
    (hnil : (∃ j, j < zp_ar (zp_n kd n) ∧ ¬ nN (zp_op kd fl n j) = 0) → post (eS, oS, aS, MV, MN, MI, ph, ve, fa, no, vc, nc, oc, sc, bc, lc, pr, rl, ck, qn, pd, kd, fl, us, lv, ex, ow, de, nl, vl, di, re, od, sA, sT, bC, bS, bE, sl, mV, mN, se, upd nV n 0, upd nN n 1, pS, pV))
    (hok : (∀ j, j < zp_ar (zp_n kd n) → nN (zp_op kd fl n j) = 0) → post (eS, oS, aS, MV, MN, MI, ph, ve, fa, no, vc, nc, oc, sc, bc, lc, pr, rl, ck, qn, pd, kd, fl, us, lv, ex, ow, de, nl, vl, di, re, od, sA, sT, bC, bS, bE, sl, mV, mN, se, upd nV n (zi_ap (zp_n kd n) (if 0 < zp_ar (zp_n kd n) then nV (zp_op kd fl n 0) else 0) (if 1 < zp_ar (zp_n kd n) then nV (zp_op kd fl n 1) else 0) (if 2 < zp_ar (zp_n kd n) then nV (zp_op kd fl n 2) else 0)), upd nN n 0, pS, pV)) : wpX_evaluateStrict post (eS, oS, aS, MV, MN, MI, ph, ve, fa, no, vc, nc, oc, sc, bc, lc, pr, rl, ck, qn, pd, kd, fl, us, lv, ex, ow, de, nl, vl, di, re, od, sA, sT, bC, bS, bE, sl, mV, mN, se, nV, nN, pS, pV) (nI n) := by
  obtain ⟨n1, n2, n3, n4, n5, n6⟩ := hW
  have c0 : (nI n).toNatClampNeg = n := nI_clamp (by omega)
  have i0 : vp_in (nI n) 48 := vp_in_nI hn (by decide)
  have A3 := zp_ar3 (zp_n kd n)
  unfold wpX_evaluateStrict
  dsimp only
  rw [c0, n1]
  refine ⟨i0, xa_cnt n2 n3 ?_⟩
  refine pk_loop (fun f i (s : Int32 × Int32 × Int32 × Int32) => wX_evaluateStrict_25 post (nI n) (nI (zp_ar (zp_n kd n))) eS oS aS MV MN MI ph ve fa no vc nc oc sc bc lc pr rl ck qn pd kd fl us lv ex ow de nl vl di re od sA sT bC bS bE sl mV mN se nV nN pS pV f s.1 s.2.1 s.2.2.1 s.2.2.2 (nI i))
    (fun i s => ((s.1 = 0 ∧ ∀ j, j < i → nN (zp_op kd fl n j) = 0) ∨ (s.1 = 1 ∧ ∃ j, j < zp_ar (zp_n kd n) ∧ ¬ nN (zp_op kd fl n j) = 0)) ∧ s.2.1 = (if 0 < i then nV (zp_op kd fl n 0) else 0) ∧ s.2.2.1 = (if 1 < i then nV (zp_op kd fl n 1) else 0) ∧ s.2.2.2 = (if 2 < i then nV (zp_op kd fl n 2) else 0)) (zp_ar (zp_n kd n)) 0 (0, 0, 0, 0) (Nat.zero_le _) ⟨Or.inl ⟨rfl, fun j hj => absurd hj (Nat.not_lt_zero j)⟩, rfl, rfl, rfl⟩ ?_ ?_
  · rintro f ⟨nil, a, b, c⟩ ⟨h1, h2, h3, h4⟩
    dsimp only at h1 h2 h3 h4
    refine br_t (nI_le (Nat.le_refl _) (by omega)) ⟨i0, ?_⟩
    rw [c0]
    rcases h1 with ⟨e, h1⟩ | ⟨e, h1⟩
    · subst e
      refine nm_r (e' := upd nN n 0) (by rw [za_b0]) ⟨i0, nm_e (br_t rfl ⟨i0, ?_⟩)⟩
      rw [n1]
      refine xe_ap hs n2 n3 ⟨i0, nm_r zi_uu ?_⟩
      rw [h2, h3, h4]
      exact hok h1
    · subst e
      exact nm_r (e' := upd nN n 1) (by rw [za_b1]) ⟨i0, nm_e (br_f za_10 (hnil h1))⟩
  · rintro f i ⟨nil, a, b, c⟩ hi ⟨h1, h2, h3, h4⟩ ih
    dsimp only at h1 h2 h3 h4 ih ⊢
    obtain ⟨o1, o2⟩ := n4 i hi
    refine br_f (nI_ge hi (by omega)) (xa_op hn n1 n3 (zp_fa hi) ?_)
    rw [o1]
    have ca : (nI (zp_op kd fl n i)).toNatClampNeg = zp_op kd fl n i := nI_clamp (by omega)
    have ia : vp_in (nI (zp_op kd fl n i)) 48 := vp_in_nI (by omega) (by decide)
    refine ⟨ia, ?_⟩
    rw [ca]
    have K : ∀ nil', ((nil' = 0 ∧ ∀ j, j < i + 1 → nN (zp_op kd fl n j) = 0) ∨ (nil' = 1 ∧ ∃ j, j < zp_ar (zp_n kd n) ∧ ¬ nN (zp_op kd fl n j) = 0)) → wX_evaluateStrict_52 post (wX_evaluateStrict_25 post (nI n) (nI (zp_ar (zp_n kd n))) eS oS aS MV MN MI ph ve fa no vc nc oc sc bc lc pr rl ck qn pd kd fl us lv ex ow de nl vl di re od sA sT bC bS bE sl mV mN se nV nN pS pV f) (nI n) (nI (zp_ar (zp_n kd n))) nil' a b c (nI i) (nI (zp_op kd fl n i)) eS oS aS MV MN MI ph ve fa no vc nc oc sc bc lc pr rl ck qn pd kd fl us lv ex ow de nl vl di re od sA sT bC bS bE sl mV mN se nV nN pS pV := by
      intro nil' hnil'
      unfold wX_evaluateStrict_52
      rw [ca]
      have hc : i = 0 ∨ i = 1 ∨ i = 2 := by omega
      rcases hc with rfl | rfl | rfl
      · exact br_t rfl ⟨ia, nm_e (nm_r (nI_1 0) (ih (nil', _, b, c) ⟨hnil', rfl, h3, h4⟩))⟩
      · exact br_f (by decide) (br_t rfl ⟨ia, nm_e (nm_r (nI_1 1) (ih (nil', a, _, c) ⟨hnil', h2, rfl, h4⟩))⟩)
      · exact br_f (by decide) (br_f (by decide) ⟨ia, nm_e (nm_r (nI_1 2) (ih (nil', a, b, _) ⟨hnil', h2, h3, rfl⟩))⟩)
    by_cases e : nN (zp_op kd fl n i) = 0
    · refine br_t e (K nil ?_)
      rcases h1 with ⟨e1, h1⟩ | h1
      · refine Or.inl ⟨e1, fun j hj => ?_⟩
        by_cases e2 : j = i
        · rw [e2]; exact e
        · exact h1 j (by omega)
      · exact Or.inr h1
    · exact br_f e (K 1 (Or.inr ⟨rfl, i, hi, e⟩))
end
section
variable {MV MN MI vc nc no ph ve fa : Int32} {rl ck qn pd yl ys yr kd fl yd ye yn vs vv ns nv : Nat → Int32}
theorem ye_ap {post : Int32 → Prop} {k : Nat} {a b c : Int32} (hs : zi_st k) (h1 : 1 ≤ k) (h18 : k ≤ 18) (h : post (zi_ap k a b c)) : wpY_compute post (MV, MN, MI, vc, nc, no, ph, ve, fa, rl, ck, qn, pd, yl, ys, yr, kd, fl, yd, ye, yn, vs, vv, ns, nv) (nI k) a b c := by
  unfold wpY_compute
  rcases zi_sk hs h1 h18 with rfl | rfl | rfl | rfl | rfl | rfl | rfl | rfl | rfl | rfl | rfl
  · rw [zi_ap_3] at h
    refine br_t (by decide) ?_
    exact h
  · rw [zi_ap_4] at h
    refine br_f (by decide) (br_t (by decide) ?_)
    exact br_c (fun e => by rw [if_pos e] at h; exact h) (fun e => by rw [if_neg e] at h; exact h)
  · rw [zi_ap_6] at h
    refine br_f (by decide) (br_f (by decide) (br_t (by decide) ?_))
    exact h
  · rw [zi_ap_7] at h
    refine br_f (by decide) (br_f (by decide) (br_f (by decide) (br_t (by decide) ?_)))
    exact h
  · rw [zi_ap_8] at h
    refine br_f (by decide) (br_f (by decide) (br_f (by decide) (br_f (by decide) (br_t (by decide) ?_))))
    exact h
  · rw [zi_ap_9] at h
    refine br_f (by decide) (br_f (by decide) (br_f (by decide) (br_f (by decide) (br_f (by decide) (br_t (by decide) ?_)))))
    exact br_c (fun e => by rw [if_pos e] at h; exact h) (fun e => by rw [if_neg e] at h; exact ⟨e, h⟩)
  · rw [zi_ap_10] at h
    refine br_f (by decide) (br_f (by decide) (br_f (by decide) (br_f (by decide) (br_f (by decide) (br_f (by decide) (br_t (by decide) ?_))))))
    exact br_c (fun e => by rw [if_pos e] at h; exact h) (fun e => by rw [if_neg e] at h; exact h)
  · rw [zi_ap_11] at h
    refine br_f (by decide) (br_f (by decide) (br_f (by decide) (br_f (by decide) (br_f (by decide) (br_f (by decide) (br_f (by decide) (br_t (by decide) ?_)))))))
    exact br_c (fun e => by rw [if_pos e] at h; exact h) (fun e => by rw [if_neg e] at h; exact h)
  · rw [zi_ap_12] at h
    refine br_f (by decide) (br_f (by decide) (br_f (by decide) (br_f (by decide) (br_f (by decide) (br_f (by decide) (br_f (by decide) (br_f (by decide) (br_t (by decide) ?_))))))))
    exact br_c (fun e => by rw [if_pos e] at h; exact h) (fun e => by rw [if_neg e] at h; exact br_c (fun e2 => by rw [if_pos e2] at h; exact h) (fun e2 => by rw [if_neg e2] at h; exact h))
  · rw [zi_ap_13] at h
    refine br_f (by decide) (br_f (by decide) (br_f (by decide) (br_f (by decide) (br_f (by decide) (br_f (by decide) (br_f (by decide) (br_f (by decide) (br_f (by decide) (br_t (by decide) ?_)))))))))
    exact br_c (fun e => by rw [if_pos e] at h; exact br_c (fun e2 => by rw [if_pos e2] at h; exact h) (fun e2 => by rw [if_neg e2] at h; exact h)) (fun e => by rw [if_neg e] at h; exact h)
  · rw [zi_ap_15] at h
    refine br_f (by decide) (br_f (by decide) (br_f (by decide) (br_f (by decide) (br_f (by decide) (br_f (by decide) (br_f (by decide) (br_f (by decide) (br_f (by decide) (br_f (by decide) ?_)))))))))
    exact br_c (fun e => by rw [if_pos e] at h; exact h) (fun e => by rw [if_neg e] at h; exact h)
end
end
section
/-! the component's instant against a solved row: the invariant -/
def zj_C (V N t S L : Nat) (rl ck qn pd kd fl lv ex ow de sl sA sT mV0 mN0 se vs vv ns nv : Nat → Int32) : Prop :=
  zp_W V N rl ck qn kd fl ∧ V ≤ 10 ∧ N ≤ 48 ∧ t < 24 ∧ L ≤ 48 ∧ zt_L V N ck qn kd fl lv ex ow de ∧ (∀ n, n < N → lv n = 1 → ¬ zt_off ck kd fl de n) ∧ (∀ v, v < V → rl v = 1 → ¬ qn v = -1) ∧
  S ≤ 106 ∧ zs_S V N ck qn kd fl lv de sA sT S ∧ zs_L N L kd lv sl ∧ zi_R V N rl ck qn pd kd fl lv de vs vv ns nv t ∧ zr_M N kd fl lv de sl mV0 mN0 vs vv ns nv t ∧ zr_S V se vs vv t
/-- row t + 1 of the memory: slot q keeps what it had, or (when clock x is present, and the step is done) has what operand a has -/
def zj_m (mV0 mN0 vs vv ns nv mV mN : Nat → Int32) (t q x a : Nat) (done : Prop) : Prop :=
  (done → zr_P vs vv x t → mV (48 * (t + 1) + q) = nv (48 * t + a) ∧ mN (48 * (t + 1) + q) = zr_nil (ns (48 * t + a))) ∧
  (¬ zr_P vs vv x t → mV (48 * (t + 1) + q) = mV0 (48 * t + q) ∧ mN (48 * (t + 1) + q) = mN0 (48 * t + q))
def zj_I (V N t s : Nat) (ck kd fl lv de sl sA sT mV0 mN0 pS0 pV0 vs vv ns nv : Nat → Int32) (pr : Int32) (nV nN mV mN pS pV : Nat → Int32) : Prop :=
  (∀ v, v < V → (¬ zr_P vs vv (zp_n ck v) t → pS (10 * t + v) = 0 ∧ pV (10 * t + v) = 0) ∧ (zr_P vs vv (zp_n ck v) t → zs_has sA sT s 1 v → pS (10 * t + v) = vs (10 * t + v) ∧ pV (10 * t + v) = vv (10 * t + v))) ∧
  (∀ d, d ≤ 2 * V → (bt pr d = true ↔ d = 0 ∨ (zs_has sA sT s 1 ((d - 1) / 2) ∧ zr_P vs vv d t))) ∧
  (∀ n, n < N → lv n = 1 → zs_has sA sT s 0 n → zr_P vs vv (zp_n de n) t → nV n = nv (48 * t + n) ∧ nN n = zr_nil (ns (48 * t + n))) ∧
  (∀ n, n < N → lv n = 1 → (zp_n kd n = 5 → zj_m mV0 mN0 vs vv ns nv mV mN t (zp_n sl n) (zp_n de n) (zp_op kd fl n 0) (zs_has sA sT s 2 n)) ∧ (zp_n kd n = 18 → zj_m mV0 mN0 vs vv ns nv mV mN t (zp_n sl n) (zr_cx fl n) (zp_op kd fl n 0) (zs_has sA sT s 0 n))) ∧
  (∀ i, i < 48 * (t + 1) → mV i = mV0 i ∧ mN i = mN0 i) ∧ (∀ i, i < 10 * t → pS i = pS0 i ∧ pV i = pV0 i)
theorem zs_hs {sA sT : Nat → Int32} {s y : Nat} {a : Int32} : zs_has sA sT (s + 1) a y ↔ zs_has sA sT s a y ∨ (sA s = a ∧ sT s = nI y) := by
  constructor
  · rintro ⟨s', h1, h2, h3⟩
    by_cases e : s' = s
    · subst e; exact Or.inr ⟨h2, h3⟩
    · exact Or.inl ⟨s', by omega, h2, h3⟩
  · rintro (⟨s', h1, h2, h3⟩ | ⟨h2, h3⟩)
    · exact ⟨s', by omega, h2, h3⟩
    · exact ⟨s, by omega, h2, h3⟩
section
variable {V N t S L s x : Nat} {rl ck qn pd kd fl lv ex ow de sl sA sT mV0 mN0 se vs vv ns nv pS0 pV0 nV nN mV mN pS pV : Nat → Int32} {pr : Int32}
theorem zj_dck (C : zj_C V N t S L rl ck qn pd kd fl lv ex ow de sl sA sT mV0 mN0 se vs vv ns nv) {n : Nat} (hn : n < N) (hl : lv n = 1) :
    (∀ j, j < zp_ar (zp_n kd n) → lv (zp_op kd fl n j) = 1 ∧ zp_op kd fl n j < n ∧ zp_n de (zp_op kd fl n j) = zt_oc ck kd fl de n j) ∧
    (zp_n kd n = 16 → zp_n de n = zr_cx fl n) ∧ ((zp_n kd n = 2 ∨ zp_n kd n = 17 ∨ zp_n kd n = 18) → zp_n de n = zp_n ck (zp_n fl (4 * n))) ∧ zp_n de n ≤ 2 * V ∧ de n = nI (zp_n de n) := zi_ck C.1 C.2.1 C.2.2.2.2.2.1 C.2.2.2.2.2.2.1 hn hl
/-- a clock of c that is present shows that c is -/
theorem zj_cx (C : zj_C V N t S L rl ck qn pd kd fl lv ex ow de sl sA sT mV0 mN0 se vs vv ns nv) {d : Nat} (hd : d ≤ 2 * V) (h0 : d ≠ 0) (hp : zr_P vs vv d t) : zr_P vs vv (zp_n ck ((d - 1) / 2)) t := by
  obtain ⟨hW, hV, hN, ht, hL48, hL, hoff, hmiss, hS106, hS, hsl, hR, hM, hSe⟩ := C
  refine Classical.byContradiction (fun h => ?_)
  have := (hR.1 ((d - 1) / 2) (by omega)).2 h
  rcases hp with e | ⟨e, _⟩
  · exact h0 e
  · exact e this.1
theorem zj_sk (C : zj_C V N t S L rl ck qn pd kd fl lv ex ow de sl sA sT mV0 mN0 se vs vv ns nv) (hs : s < S) (hp : ¬ zr_P vs vv (zs_c ck de sA sT s) t) (h : zj_I V N t s ck kd fl lv de sl sA sT mV0 mN0 pS0 pV0 vs vv ns nv pr nV nN mV mN pS pV) : zj_I V N t (s + 1) ck kd fl lv de sl sA sT mV0 mN0 pS0 pV0 vs vv ns nv pr nV nN mV mN pS pV := by
  obtain ⟨h1, h2, h3, h4, h5, h6⟩ := h
  have C' := C
  obtain ⟨hW, hV, hN, ht, hL48, hL, hoff, hmiss, hS106, hS, hsl, hR, hM, hSe⟩ := C
  obtain ⟨t1, t2, t3⟩ := hS s hs
  have tx : ∀ y, y < 2 ^ 31 → sT s = nI y → zp_n sT s = y := fun y hy e => zp_nI e hy
  have n1 : ∀ v, v < V → zr_P vs vv (zp_n ck v) t → zs_has sA sT (s + 1) 1 v → zs_has sA sT s 1 v := by
    intro v hv hpv h
    rcases zs_hs.mp h with h | ⟨a, b⟩
    · exact h
    · exfalso
      apply hp
      unfold zs_c
      rw [if_pos a, tx v (by omega) b]; exact hpv
  have n0 : ∀ n, n < N → zr_P vs vv (zp_n de n) t → zs_has sA sT (s + 1) 0 n → zs_has sA sT s 0 n := by
    intro n hn hpn h
    rcases zs_hs.mp h with h | ⟨a, b⟩
    · exact h
    · exfalso
      apply hp
      unfold zs_c
      rw [if_neg (by rw [a]; exact za_01), tx n (by omega) b]; exact hpn
  have n2 : ∀ n, n < N → zr_P vs vv (zp_n de n) t → zs_has sA sT (s + 1) 2 n → zs_has sA sT s 2 n := by
    intro n hn hpn h
    rcases zs_hs.mp h with h | ⟨a, b⟩
    · exact h
    · exfalso
      apply hp
      unfold zs_c
      rw [if_neg (by rw [a]; decide), tx n (by omega) b]; exact hpn
  have up : ∀ a y, zs_has sA sT s a y → zs_has sA sT (s + 1) a y := fun a y h => zs_hs.mpr (Or.inl h)
  refine ⟨fun v hv => ⟨(h1 v hv).1, fun hpv hh => (h1 v hv).2 hpv (n1 v hv hpv hh)⟩, ?_, fun n hn hl hh hpn => h3 n hn hl (n0 n hn hpn hh) hpn, ?_, h5, h6⟩
  · intro d hd
    rw [h2 d hd]
    constructor
    · rintro (e | ⟨a, b⟩)
      · exact Or.inl e
      · exact Or.inr ⟨up _ _ a, b⟩
    · rintro (e | ⟨a, b⟩)
      · exact Or.inl e
      · by_cases e : d = 0
        · exact Or.inl e
        · exact Or.inr ⟨n1 _ (by omega) (zj_cx C' hd e b) a, b⟩
  · intro n hn hl
    obtain ⟨a, b⟩ := h4 n hn hl
    refine ⟨fun k => ⟨fun hh hpn => (a k).1 (n2 n hn hpn hh) hpn, (a k).2⟩, fun k => ⟨fun hh hpn => (b k).1 (n0 n hn ?_ hh) hpn, (b k).2⟩⟩
    have c := zj_dck C' hn hl
    have w := hW.2 n hn
    have f1 := (w.2.2.2.2.1 (Or.inr (by omega))).2
    have f2 := (w.2.2.2.2.2 (Or.inr k)).2
    have hcx : zr_cx fl n = 1 + 2 * zp_n fl (4 * n) + zp_n fl (4 * n + 1) := rfl
    have := zj_cx C' (d := zr_cx fl n) (by omega) (by omega) hpn
    rw [show (zr_cx fl n - 1) / 2 = zp_n fl (4 * n) by omega] at this
    rw [c.2.2.1 (Or.inr (Or.inr k))]
    exact this
/-- the memory under another write -/
theorem zj_mu {mV0 mN0 vs vv ns nv mV mN : Nat → Int32} {t q x a q' : Nat} {done : Prop} {X Y : Int32} (hq : q' ≠ q) (h : zj_m mV0 mN0 vs vv ns nv mV mN t q x a done) : zj_m mV0 mN0 vs vv ns nv (upd mV (48 * (t + 1) + q') X) (upd mN (48 * (t + 1) + q') Y) t q x a done := by
  unfold zj_m
  rw [pk_un (by omega), pk_un (by omega)]
  exact h
theorem zj_md {mV0 mN0 vs vv ns nv mV mN : Nat → Int32} {t q x a : Nat} {done done' : Prop} (hd : done' → done) (h : zj_m mV0 mN0 vs vv ns nv mV mN t q x a done) : zj_m mV0 mN0 vs vv ns nv mV mN t q x a done' :=
  ⟨fun d => h.1 (hd d), h.2⟩
/-- evaluation of n, which holds no memory that is written now -/
theorem zj_ev (C : zj_C V N t S L rl ck qn pd kd fl lv ex ow de sl sA sT mV0 mN0 se vs vv ns nv) (hs : s < S) (h0 : sA s = 0) {n : Nat} (hn : n < N) (hT : sT s = nI n) (hk : zp_n kd n = 18 → ¬ zr_P vs vv (zr_cx fl n) t) (h : zj_I V N t s ck kd fl lv de sl sA sT mV0 mN0 pS0 pV0 vs vv ns nv pr nV nN mV mN pS pV) :
    zj_I V N t (s + 1) ck kd fl lv de sl sA sT mV0 mN0 pS0 pV0 vs vv ns nv pr (upd nV n (nv (48 * t + n))) (upd nN n (zr_nil (ns (48 * t + n)))) mV mN pS pV := by
  obtain ⟨h1, h2, h3, h4, h5, h6⟩ := h
  obtain ⟨hW, hV, hN, ht, hL48, hL, hoff, hmiss, hS106, hS, hsl, hR, hM, hSe⟩ := C
  have n1 : ∀ (a : Int32) y, a ≠ 0 → (zs_has sA sT (s + 1) a y ↔ zs_has sA sT s a y) := by
    intro a y ha
    rw [zs_hs]
    exact ⟨fun h => h.elim id (fun h => absurd (h.1.symm.trans h0) ha), Or.inl⟩
  refine ⟨fun v hv => by rw [n1 1 v za_10]; exact h1 v hv, fun d hd => by rw [n1 1 _ za_10]; exact h2 d hd, ?_, ?_, h5, h6⟩
  · intro m hm hl hh hp
    by_cases e : m = n
    · subst e; rw [pk_us, pk_us]; exact ⟨rfl, rfl⟩
    · rw [pk_un e, pk_un e]
      refine h3 m hm hl ?_ hp
      rcases zs_hs.mp hh with h | ⟨_, h⟩
      · exact h
      · rw [hT] at h; exact absurd (za_inj h (by omega) (by omega)).symm e
  · intro m hm hl
    obtain ⟨a, b⟩ := h4 m hm hl
    refine ⟨fun k => zj_md (n1 2 m (by decide)).mp (a k), fun k => ?_⟩
    by_cases e : m = n
    · subst e
      exact ⟨fun _ hp => absurd hp (hk k), (b k).2⟩
    · refine zj_md (fun hh => ?_) (b k)
      rcases zs_hs.mp hh with h | ⟨_, h⟩
      · exact h
      · rw [hT] at h; exact absurd (za_inj h (by omega) (by omega)).symm e
/-- evaluation of a hold that takes its operand -/
theorem zj_eh (C : zj_C V N t S L rl ck qn pd kd fl lv ex ow de sl sA sT mV0 mN0 se vs vv ns nv) (hs : s < S) (h0 : sA s = 0) {n : Nat} (hn : n < N) (hl : lv n = 1) (hT : sT s = nI n) (hk : zp_n kd n = 18) (hp : zr_P vs vv (zr_cx fl n) t) (h : zj_I V N t s ck kd fl lv de sl sA sT mV0 mN0 pS0 pV0 vs vv ns nv pr nV nN mV mN pS pV) :
    zj_I V N t (s + 1) ck kd fl lv de sl sA sT mV0 mN0 pS0 pV0 vs vv ns nv pr (upd nV n (nv (48 * t + n))) (upd nN n (zr_nil (ns (48 * t + n)))) (upd mV (48 * (t + 1) + zp_n sl n) (nv (48 * t + zp_op kd fl n 0))) (upd mN (48 * (t + 1) + zp_n sl n) (zr_nil (ns (48 * t + zp_op kd fl n 0)))) pS pV := by
  obtain ⟨h1, h2, h3, h4, h5, h6⟩ := h
  obtain ⟨hW, hV, hN, ht, hL48, hL, hoff, hmiss, hS106, hS, hsl, hR, hM, hSe⟩ := C
  have n1 : ∀ (a : Int32) y, a ≠ 0 → (zs_has sA sT (s + 1) a y ↔ zs_has sA sT s a y) := by
    intro a y ha
    rw [zs_hs]
    exact ⟨fun h => h.elim id (fun h => absurd (h.1.symm.trans h0) ha), Or.inl⟩
  refine ⟨fun v hv => by rw [n1 1 v za_10]; exact h1 v hv, fun d hd => by rw [n1 1 _ za_10]; exact h2 d hd, ?_, ?_, fun i hi => by rw [pk_un (by omega), pk_un (by omega)]; exact h5 i hi, h6⟩
  · intro m hm hl hh hp
    by_cases e : m = n
    · subst e; rw [pk_us, pk_us]; exact ⟨rfl, rfl⟩
    · rw [pk_un e, pk_un e]
      refine h3 m hm hl ?_ hp
      rcases zs_hs.mp hh with h | ⟨_, h⟩
      · exact h
      · rw [hT] at h; exact absurd (za_inj h (by omega) (by omega)).symm e
  · intro m hm hlm
    obtain ⟨a, b⟩ := h4 m hm hlm
    refine ⟨fun k => ?_, fun k => ?_⟩
    · have hne : zp_n sl n ≠ zp_n sl m := by
        intro e
        have := hsl.2 n m hn hm hl hlm (Or.inr hk) (Or.inl k) e
        subst this; omega
      exact zj_mu hne (zj_md (n1 2 m (by decide)).mp (a k))
    · by_cases e : m = n
      · subst e
        refine ⟨fun _ _ => ?_, fun hq => absurd hp hq⟩
        rw [pk_us, pk_us]; exact ⟨rfl, rfl⟩
      · have hne : zp_n sl n ≠ zp_n sl m := fun e' => e (hsl.2 n m hn hm hl hlm (Or.inr hk) (Or.inr k) e').symm
        refine zj_mu hne (zj_md (fun hh => ?_) (b k))
        rcases zs_hs.mp hh with h | ⟨_, h⟩
        · exact h
        · rw [hT] at h; exact absurd (za_inj h (by omega) (by omega)).symm e
/-- saving of a delay -/
theorem zj_sv (C : zj_C V N t S L rl ck qn pd kd fl lv ex ow de sl sA sT mV0 mN0 se vs vv ns nv) (hs : s < S) (h0 : sA s = 2) {n : Nat} (hn : n < N) (hl : lv n = 1) (hT : sT s = nI n) (hk : zp_n kd n = 5) (hp : zr_P vs vv (zp_n de n) t) (h : zj_I V N t s ck kd fl lv de sl sA sT mV0 mN0 pS0 pV0 vs vv ns nv pr nV nN mV mN pS pV) :
    zj_I V N t (s + 1) ck kd fl lv de sl sA sT mV0 mN0 pS0 pV0 vs vv ns nv pr nV nN (upd mV (48 * (t + 1) + zp_n sl n) (nv (48 * t + zp_op kd fl n 0))) (upd mN (48 * (t + 1) + zp_n sl n) (zr_nil (ns (48 * t + zp_op kd fl n 0)))) pS pV := by
  obtain ⟨h1, h2, h3, h4, h5, h6⟩ := h
  obtain ⟨hW, hV, hN, ht, hL48, hL, hoff, hmiss, hS106, hS, hsl, hR, hM, hSe⟩ := C
  have n1 : ∀ (a : Int32) y, a ≠ 2 → (zs_has sA sT (s + 1) a y ↔ zs_has sA sT s a y) := by
    intro a y ha
    rw [zs_hs]
    exact ⟨fun h => h.elim id (fun h => absurd (h.1.symm.trans h0) ha), Or.inl⟩
  refine ⟨fun v hv => by rw [n1 1 v (by decide)]; exact h1 v hv, fun d hd => by rw [n1 1 _ (by decide)]; exact h2 d hd, fun m hm hlm => by rw [n1 0 _ (by decide)]; exact h3 m hm hlm, ?_, fun i hi => by rw [pk_un (by omega), pk_un (by omega)]; exact h5 i hi, h6⟩
  intro m hm hlm
  obtain ⟨a, b⟩ := h4 m hm hlm
  refine ⟨fun k => ?_, fun k => ?_⟩
  · by_cases e : m = n
    · subst e
      refine ⟨fun _ _ => ?_, fun hq => absurd hp hq⟩
      rw [pk_us, pk_us]; exact ⟨rfl, rfl⟩
    · have hne : zp_n sl n ≠ zp_n sl m := fun e' => e (hsl.2 n m hn hm hl hlm (Or.inl hk) (Or.inl k) e').symm
      refine zj_mu hne (zj_md (fun hh => ?_) (a k))
      rcases zs_hs.mp hh with h | ⟨_, h⟩
      · exact h
      · rw [hT] at h; exact absurd (za_inj h (by omega) (by omega)).symm e
  · have hne : zp_n sl n ≠ zp_n sl m := by
      intro e
      have := hsl.2 n m hn hm hl hlm (Or.inl hk) (Or.inr k) e
      subst this; omega
    exact zj_mu hne (zj_md (n1 0 m (by decide)).mp (b k))
/-- storing of a variable -/
theorem zj_st (C : zj_C V N t S L rl ck qn pd kd fl lv ex ow de sl sA sT mV0 mN0 se vs vv ns nv) (hs : s < S) (h0 : sA s = 1) {v b : Nat} (hv : v < V) (hT : sT s = nI v) (hp : zr_P vs vv (zp_n ck v) t) (hb : b ≤ 1) (hbv : (¬ vv (10 * t + v) = 0) ↔ b = 1) (h : zj_I V N t s ck kd fl lv de sl sA sT mV0 mN0 pS0 pV0 vs vv ns nv pr nV nN mV mN pS pV) :
    zj_I V N t (s + 1) ck kd fl lv de sl sA sT mV0 mN0 pS0 pV0 vs vv ns nv (pr ||| ((1 : Int32) <<< (nI (1 + 2 * v + b) &&& 31))) nV nN mV mN (upd pS (10 * t + v) (vs (10 * t + v))) (upd pV (10 * t + v) (vv (10 * t + v))) := by
  obtain ⟨h1, h2, h3, h4, h5, h6⟩ := h
  obtain ⟨hW, hV, hN, ht, hL48, hL, hoff, hmiss, hS106, hS, hsl, hR, hM, hSe⟩ := C
  have n1 : ∀ (a : Int32) y, a ≠ 1 → (zs_has sA sT (s + 1) a y ↔ zs_has sA sT s a y) := by
    intro a y ha
    rw [zs_hs]
    exact ⟨fun h => h.elim id (fun h => absurd (h.1.symm.trans h0) ha), Or.inl⟩
  have nw : ∀ w, w < V → w ≠ v → (zs_has sA sT (s + 1) 1 w ↔ zs_has sA sT s 1 w) := by
    intro w hw hne
    rw [zs_hs]
    refine ⟨fun h => h.elim id (fun h => ?_), Or.inl⟩
    have := h.2
    rw [hT] at this
    exact absurd (za_inj this (by omega) (by omega)).symm hne
  have hvs : ¬ vs (10 * t + v) = 0 := by
    rcases ((hR.1 v hv).1 hp).2.2 with e | ⟨e, _⟩ <;> (rw [e]; decide)
  refine ⟨?_, ?_, fun m hm hlm => by rw [n1 0 _ (by decide)]; exact h3 m hm hlm, ?_, h5, fun i hi => by rw [pk_un (by omega), pk_un (by omega)]; exact h6 i hi⟩
  · intro w hw
    by_cases e : w = v
    · subst e
      rw [pk_us, pk_us]
      exact ⟨fun h => absurd hp h, fun _ _ => ⟨rfl, rfl⟩⟩
    · rw [pk_un (by omega), pk_un (by omega), nw w hw e]
      exact h1 w hw
  · intro d hd
    rw [zb_o (by omega) (by omega), Bool.or_eq_true, decide_eq_true_iff, h2 d hd]
    by_cases e0 : d = 0
    · exact ⟨fun _ => Or.inl e0, fun _ => Or.inl (Or.inl e0)⟩
    · by_cases e : (d - 1) / 2 = v
      · have hd2 : d = 1 + 2 * v + (d - 1) % 2 := by omega
        have hP : zr_P vs vv d t ↔ d = 1 + 2 * v + b := by
          rw [hd2, zr_P1 (by omega)]
          constructor
          · rintro ⟨_, h⟩
            have : (d - 1) % 2 = 1 ↔ b = 1 := h.symm.trans hbv
            omega
          · intro h
            have : (d - 1) % 2 = b := by omega
            rw [this]
            exact ⟨hvs, hbv⟩
        rw [hP, e]
        constructor
        · rintro ((h | h) | h)
          · exact Or.inl h
          · exact Or.inr ⟨zs_hs.mpr (Or.inr ⟨h0, hT⟩), h.2⟩
          · exact Or.inr ⟨zs_hs.mpr (Or.inr ⟨h0, hT⟩), h⟩
        · rintro (h | h)
          · exact Or.inl (Or.inl h)
          · exact Or.inr h.2
      · rw [nw _ (by omega) e]
        constructor
        · rintro (h | h)
          · exact h
          · omega
        · exact Or.inl
  · intro m hm hlm
    obtain ⟨a, b⟩ := h4 m hm hlm
    exact ⟨fun k => zj_md (n1 2 m (by decide)).mp (a k), fun k => zj_md (n1 0 m (by decide)).mp (b k)⟩
end
end
section
/-! the component's evaluate, store and save against a solved row -/
theorem zr_nil1 : zr_nil 1 = 0 := by decide
theorem zr_nil2 : zr_nil 2 = 1 := by decide
section
variable {eS oS aS MV MN MI ph ve fa no vc nc oc sc bc lc pr : Int32} {rl ck qn pd kd fl us lv ex ow de nl vl di re od sA sT bC bS bE sl mV mN se nV nN pS pV : Nat → Int32} {mV0 mN0 pS0 pV0 vs vv ns nv : Nat → Int32}
theorem xe_eval {post : SX → Prop} {V N t S L s n : Nat} (C : zj_C V N t S L rl ck qn pd kd fl lv ex ow de sl sA sT mV0 mN0 se vs vv ns nv) (hs : s < S) (h0 : sA s = 0) (hT : zp_n sT s = n) (hp : zr_P vs vv (zp_n de n) t) (hI : zj_I V N t s ck kd fl lv de sl sA sT mV0 mN0 pS0 pV0 vs vv ns nv pr nV nN mV mN pS pV)
    (hA : (zp_n kd n = 18 → ¬ zr_P vs vv (zr_cx fl n) t) → post (eS, oS, aS, MV, MN, MI, ph, ve, fa, nI t, vc, nc, oc, sc, bc, lc, pr, rl, ck, qn, pd, kd, fl, us, lv, ex, ow, de, nl, vl, di, re, od, sA, sT, bC, bS, bE, sl, mV, mN, se, upd nV n (nv (48 * t + n)), upd nN n (zr_nil (ns (48 * t + n))), pS, pV))
    (hB : zp_n kd n = 18 → zr_P vs vv (zr_cx fl n) t → post (eS, oS, aS, MV, MN, MI, ph, ve, fa, nI t, vc, nc, oc, sc, bc, lc, pr, rl, ck, qn, pd, kd, fl, us, lv, ex, ow, de, nl, vl, di, re, od, sA, sT, bC, bS, bE, sl, upd mV (48 * (t + 1) + zp_n sl n) (nv (48 * t + zp_op kd fl n 0)), upd mN (48 * (t + 1) + zp_n sl n) (zr_nil (ns (48 * t + zp_op kd fl n 0))), se, upd nV n (nv (48 * t + n)), upd nN n (zr_nil (ns (48 * t + n))), pS, pV)) :
    wpX_evaluate post (eS, oS, aS, MV, MN, MI, ph, ve, fa, nI t, vc, nc, oc, sc, bc, lc, pr, rl, ck, qn, pd, kd, fl, us, lv, ex, ow, de, nl, vl, di, re, od, sA, sT, bC, bS, bE, sl, mV, mN, se, nV, nN, pS, pV) (nI n) := by
  have C' := C
  obtain ⟨hW, hV, hN, ht, hL48, hL, hoff, hmiss, hS106, hS, hsl, hR, hM, hSe⟩ := C
  obtain ⟨h1, h2, h3, h4, h5, h6⟩ := hI
  obtain ⟨_, _, ok⟩ := hS s hs
  rw [h0, hT] at ok
  rcases ok with ⟨_, g2, g3, g4, g5, g6⟩ | ⟨e, _⟩ | ⟨e, _⟩
  rotate_left
  · exact absurd e za_01
  · exact absurd e (by decide)
  obtain ⟨c1, c2, c3, c4, c5⟩ := zj_dck C' g2 g3
  obtain ⟨n1, n2, n3, n4, n5, n6⟩ := hW.2 n g2
  obtain ⟨tv, tg⟩ := (hR.2 n g2 g3).1 hp
  obtain ⟨v1, v2, v5, v14, v16, v17, v18, vst⟩ := tv
  have cn : (nI n).toNatClampNeg = n := nI_clamp (by omega)
  have ct : (nI t).toNatClampNeg = t := nI_clamp (by omega)
  have d0 : (nI (4 * n)).toNatClampNeg = 4 * n := nI_clamp (by omega)
  have d1 : (nI (4 * n + 1)).toNatClampNeg = 4 * n + 1 := nI_clamp (by omega)
  have d2 : (nI (4 * n + 2)).toNatClampNeg = 4 * n + 2 := nI_clamp (by omega)
  have d3 : (nI (4 * n + 3)).toNatClampNeg = 4 * n + 3 := nI_clamp (by omega)
  have i0 : vp_in (nI n) 48 := vp_in_nI (by omega) (by decide)
  have j1 : vp_in (nI (4 * n + 1)) 192 := vp_in_nI (by omega) (by decide)
  have j2 : vp_in (nI (4 * n + 2)) 192 := vp_in_nI (by omega) (by decide)
  have j3 : vp_in (nI (4 * n + 3)) 192 := vp_in_nI (by omega) (by decide)
  have H18 : zp_n kd n ≠ 18 → post (eS, oS, aS, MV, MN, MI, ph, ve, fa, nI t, vc, nc, oc, sc, bc, lc, pr, rl, ck, qn, pd, kd, fl, us, lv, ex, ow, de, nl, vl, di, re, od, sA, sT, bC, bS, bE, sl, mV, mN, se, upd nV n (nv (48 * t + n)), upd nN n (zr_nil (ns (48 * t + n))), pS, pV) := fun h => hA (fun k => absurd k h)
  have opl : ∀ j, j < zp_ar (zp_n kd n) → zp_op kd fl n j < 48 := fun j hj => by have := (n4 j hj).2; omega
  have opf : ∀ j, j < zp_ar (zp_n kd n) → zp_n kd n ≠ 5 → zr_P vs vv (zt_oc ck kd fl de n j) t → nV (zp_op kd fl n j) = nv (48 * t + zp_op kd fl n j) ∧ nN (zp_op kd fl n j) = zr_nil (ns (48 * t + zp_op kd fl n j)) := by
    intro j hj k5 hpj
    refine h3 _ (by have := (n4 j hj).2; omega) (c1 j hj).1 (g6 k5 j hj) ?_
    rw [(c1 j hj).2.2]; exact hpj
  have oc_d : zp_n kd n < 16 → ∀ j, zt_oc ck kd fl de n j = zp_n de n := by
    intro h j
    unfold zt_oc
    rw [if_neg (by omega), if_neg (by omega), if_neg (by omega)]
  -- a copy of an operand that has the truth
  have CP : ∀ j, j < zp_ar (zp_n kd n) → zp_n kd n ≠ 5 → zp_n kd n ≠ 18 → zr_P vs vv (zt_oc ck kd fl de n j) t → ns (48 * t + n) = ns (48 * t + zp_op kd fl n j) → nv (48 * t + n) = nv (48 * t + zp_op kd fl n j) → ∀ p : SX → Prop, (p = fun u => match u with | (eS, oS, aS, MV, MN, MI, ph, ve, fa, no, vc, nc, oc, sc, bc, lc, pr, rl, ck, qn, pd, kd, fl, us, lv, ex, ow, de, nl, vl, di, re, od, sA, sT, bC, bS, bE, sl, mV, mN, se, nV, nN, pS, pV) => post (eS, oS, aS, MV, MN, MI, ph, ve, fa, no, vc, nc, oc, sc, bc, lc, pr, rl, ck, qn, pd, kd, fl, us, lv, ex, ow, de, nl, vl, di, re, od, sA, sT, bC, bS, bE, sl, mV, mN, se, nV, nN, pS, pV)) → wpX_copyNode p (eS, oS, aS, MV, MN, MI, ph, ve, fa, nI t, vc, nc, oc, sc, bc, lc, pr, rl, ck, qn, pd, kd, fl, us, lv, ex, ow, de, nl, vl, di, re, od, sA, sT, bC, bS, bE, sl, mV, mN, se, nV, nN, pS, pV) (nI n) (nI (zp_op kd fl n j)) := by
    intro j hj k5 k18 hpj e1 e2 p hpe
    obtain ⟨a, b⟩ := opf j hj k5 hpj
    refine xe_copy (by omega) (opl j hj) (by rw [b]; exact zr_n01 _) ?_
    rw [hpe, a, b, ← e1, ← e2]
    exact H18 k18
  have K : zi_st (zp_n kd n) → wX_evaluate_304 post (nI n) eS oS aS MV MN MI ph ve fa (nI t) vc nc oc sc bc lc pr rl ck qn pd kd fl us lv ex ow de nl vl di re od sA sT bC bS bE sl mV mN se nV nN pS pV := by
    intro hst
    unfold wX_evaluate_304
    have k5 := hst.2.2.1
    have k16 : zp_n kd n < 16 := by have := hst.2.2.2.2; omega
    have hop : ∀ j, j < zp_ar (zp_n kd n) → nV (zp_op kd fl n j) = nv (48 * t + zp_op kd fl n j) ∧ nN (zp_op kd fl n j) = zr_nil (ns (48 * t + zp_op kd fl n j)) := fun j hj => opf j hj k5 (by rw [oc_d k16]; exact hp)
    refine xe_strict (V := V) (by omega) (hW.2 n g2) hst ?_ ?_
    · rintro ⟨j, hj, e⟩
      rw [(hop j hj).2] at e
      have hny : zi_ny kd fl ns t n := by
        refine ⟨j, hj, Decidable.byContradiction (fun h => e ?_)⟩
        unfold zr_nil; rw [if_neg h]
      have tr := (vst hst).1 hny
      have := H18 (by omega)
      rw [tr.1, tr.2, zr_nil2] at this
      exact this
    · intro hz
      have hny : ¬ zi_ny kd fl ns t n := by
        rintro ⟨j, hj, e⟩
        have := hz j hj
        rw [(hop j hj).2, e, zr_nil2] at this
        exact za_10 this
      have tr := (vst hst).2 hny
      have := H18 (by omega)
      rw [tr.1, tr.2, zr_nil1] at this
      unfold zi_a at this
      have ea : ∀ j, (if j < zp_ar (zp_n kd n) then nV (zp_op kd fl n j) else 0) = (if j < zp_ar (zp_n kd n) then nv (48 * t + zp_op kd fl n j) else 0) := by
        intro j
        split
        · rename_i hj; exact (hop j hj).1
        · rfl
      show post _
      rw [ea 0, ea 1, ea 2]
      exact this
  unfold wpX_evaluate
  dsimp only
  rw [za_m4, nI_1 (4 * n), za_2, cn, d0, d1, d2]
  refine ⟨vp_in_nI (by omega) (by decide), nm_e ⟨i0, ?_⟩⟩
  have hc : zp_n kd n = 1 ∨ zp_n kd n = 2 ∨ zp_n kd n = 3 ∨ zp_n kd n = 4 ∨ zp_n kd n = 5 ∨ zp_n kd n = 6 ∨ zp_n kd n = 7 ∨ zp_n kd n = 8 ∨ zp_n kd n = 9 ∨ zp_n kd n = 10 ∨ zp_n kd n = 11 ∨ zp_n kd n = 12 ∨ zp_n kd n = 13 ∨ zp_n kd n = 14 ∨ zp_n kd n = 15 ∨ zp_n kd n = 16 ∨ zp_n kd n = 17 ∨ zp_n kd n = 18 := by omega
  by_cases hst : zi_st (zp_n kd n)
  · have K := K hst
    rcases zi_sk hst n2 n3 with e | e | e | e | e | e | e | e | e | e | e
    all_goals (rw [e] at n1; refine nm_r n1 ?_; (repeat (first | exact K | refine br_t (by decide) ?_ | refine br_f (by decide) ?_)))
  by_cases k1 : zp_n kd n = 1
  · have tr := v1 k1
    have := H18 (by omega)
    rw [tr.1, tr.2, zr_nil1] at this
    rw [k1] at n1
    exact nm_r n1 (br_f (by decide) (br_f (by decide) (br_t (by decide) ⟨i0, nm_e ⟨i0, nm_r (e' := upd nN n 0) (by rw [za_b0]) this⟩⟩)))
  by_cases k2 : zp_n kd n = 2
  · obtain ⟨f1, f2⟩ := n5 (Or.inl k2)
    have hpc : zr_P vs vv (zp_n ck (zp_n fl (4 * n))) t := by rw [← c3 (Or.inl k2)]; exact hp
    obtain ⟨p1, p2⟩ := (h1 _ f2).2 hpc (g5 (Or.inl k2))
    have tr := v2 k2
    have fin := H18 (by omega)
    rw [tr.1, tr.2] at fin
    have ci : (nI (10 * t + zp_n fl (4 * n))).toNatClampNeg = 10 * t + zp_n fl (4 * n) := nI_clamp (by omega)
    have ii : vp_in (nI (10 * t + zp_n fl (4 * n))) 240 := vp_in_nI (by omega) (by decide)
    rw [k2] at n1
    refine nm_r n1 (br_f (by decide) (br_f (by decide) (br_f (by decide) (br_t (by decide) ?_))))
    rw [f1, za_m10, nI_add, ci, p1, p2]
    refine ⟨ii, i0, nm_e ⟨ii, br_c (fun e => ⟨i0, nm_r (e' := upd nN n 1) (by rw [za_b1]) ?_⟩) (fun e => ⟨i0, nm_r (e' := upd nN n 0) (by rw [za_b0]) ?_⟩)⟩⟩
    · unfold zr_nil at fin
      rw [if_pos e] at fin
      exact fin
    · unfold zr_nil at fin
      rw [if_neg e] at fin
      exact fin
  by_cases k5 : zp_n kd n = 5
  · obtain ⟨q1, q2⟩ := hsl.1 n g2 g3 (Or.inl k5)
    have hm := (hM n g2 g3).1 k5
    have key : mV (48 * t + zp_n sl n) = nv (48 * t + n) ∧ mN (48 * t + zp_n sl n) = zr_nil (ns (48 * t + n)) := by
      rw [(h5 (48 * t + zp_n sl n) (by omega)).1, (h5 (48 * t + zp_n sl n) (by omega)).2]
      rcases zr_ln (vs := vs) (vv := vv) (x := zp_n de n) t with ⟨u, hu⟩ | hno
      · obtain ⟨a, b⟩ := hm.1 u hu
        obtain ⟨a', b'⟩ := (v5 k5).1 u hu
        rw [a, b, a', b']; exact ⟨rfl, rfl⟩
      · obtain ⟨a, b⟩ := hm.2 hno
        obtain ⟨a', b'⟩ := (v5 k5).2 hno
        rw [a, b, a', b', zr_nil2]; exact ⟨rfl, rfl⟩
    have fin := H18 (by omega)
    rw [← key.1, ← key.2] at fin
    rw [k5] at n1
    refine nm_r n1 ?_
    repeat (first | exact xe_recall (by omega) ht (by omega) q1 (by rw [key.2]; exact zr_n01 _) fin | refine br_t (by decide) ?_ | refine br_f (by decide) ?_)
  by_cases k14 : zp_n kd n = 14
  · have a0 : 0 < zp_ar (zp_n kd n) := by rw [k14]; decide
    have a1 : 1 < zp_ar (zp_n kd n) := by rw [k14]; decide
    have o0 := (n4 0 a0).1
    have o1 := (n4 1 a1).1
    rw [k14, zp_fo_14, show 4 * n + (0 + 0) = 4 * n from rfl] at o0
    rw [k14, zp_fo_14, show 4 * n + (0 + 1) = 4 * n + 1 from rfl] at o1
    have D : ((se t &&& ((1 : Int32) <<< (de n &&& 31))) = 0 → wpX_copyNode (fun u => match u with | (eS, oS, aS, MV, MN, MI, ph, ve, fa, no, vc, nc, oc, sc, bc, lc, pr, rl, ck, qn, pd, kd, fl, us, lv, ex, ow, de, nl, vl, di, re, od, sA, sT, bC, bS, bE, sl, mV, mN, se, nV, nN, pS, pV) => post (eS, oS, aS, MV, MN, MI, ph, ve, fa, no, vc, nc, oc, sc, bc, lc, pr, rl, ck, qn, pd, kd, fl, us, lv, ex, ow, de, nl, vl, di, re, od, sA, sT, bC, bS, bE, sl, mV, mN, se, nV, nN, pS, pV)) (eS, oS, aS, MV, MN, MI, ph, ve, fa, nI t, vc, nc, oc, sc, bc, lc, pr, rl, ck, qn, pd, kd, fl, us, lv, ex, ow, de, nl, vl, di, re, od, sA, sT, bC, bS, bE, sl, mV, mN, se, nV, nN, pS, pV) (nI n) (nI (zp_op kd fl n 0))) ∧ (¬ (se t &&& ((1 : Int32) <<< (de n &&& 31))) = 0 → (vp_in (nI (4 * n + 1)) 192 ∧ wpX_copyNode (fun u => match u with | (eS, oS, aS, MV, MN, MI, ph, ve, fa, no, vc, nc, oc, sc, bc, lc, pr, rl, ck, qn, pd, kd, fl, us, lv, ex, ow, de, nl, vl, di, re, od, sA, sT, bC, bS, bE, sl, mV, mN, se, nV, nN, pS, pV) => post (eS, oS, aS, MV, MN, MI, ph, ve, fa, no, vc, nc, oc, sc, bc, lc, pr, rl, ck, qn, pd, kd, fl, us, lv, ex, ow, de, nl, vl, di, re, od, sA, sT, bC, bS, bE, sl, mV, mN, se, nV, nN, pS, pV)) (eS, oS, aS, MV, MN, MI, ph, ve, fa, nI t, vc, nc, oc, sc, bc, lc, pr, rl, ck, qn, pd, kd, fl, us, lv, ex, ow, de, nl, vl, di, re, od, sA, sT, bC, bS, bE, sl, mV, mN, se, nV, nN, pS, pV) (nI n) (nI (zp_op kd fl n 1)))) := by
      rw [c5, zb_t (by omega)]
      have hse := hSe (zp_n de n) c4
      refine br_c (fun e => ?_) (fun e => ⟨j1, ?_⟩)
      · have hno : zr_none vs vv (zp_n de n) t := by
          intro u hu hpu
          have := hse.mpr ⟨u, hu, hpu⟩
          rw [e] at this
          exact Bool.false_ne_true this
        have tr := (v14 k14).1 hno
        exact CP 0 a0 k5 (by omega) (by rw [oc_d (by omega)]; exact hp) tr.1 tr.2 _ rfl
      · have hno : ¬ zr_none vs vv (zp_n de n) t := by
          intro hno
          have : bt (se t) (zp_n de n) = true := by
            cases e2 : bt (se t) (zp_n de n) with
            | true => rfl
            | false => exact absurd e2 e
          obtain ⟨u, hu, hpu⟩ := hse.mp this
          exact hno u hu hpu
        have tr := (v14 k14).2 hno
        exact CP 1 a1 k5 (by omega) (by rw [oc_d (by omega)]; exact hp) tr.1 tr.2 _ rfl
    rw [k14] at n1
    refine nm_r n1 ?_
    rw [ct, o0, o1]
    repeat (first | exact ⟨vp_in_nI (by omega) (by decide), i0, D⟩ | refine br_t (by decide) ?_ | refine br_f (by decide) ?_)
  by_cases k16 : zp_n kd n = 16
  · have a0 : 0 < zp_ar (zp_n kd n) := by rw [k16]; decide
    have o0 := (n4 0 a0).1
    rw [k16, zp_fo_16, show 4 * n + (2 + 0) = 4 * n + 2 from rfl] at o0
    have f2 := (n6 (Or.inl k16)).2
    have hoc : zt_oc ck kd fl de n 0 = zp_n ck (zp_n fl (4 * n)) := by unfold zt_oc; rw [if_pos k16]
    have hcx : zr_cx fl n = 1 + 2 * zp_n fl (4 * n) + zp_n fl (4 * n + 1) := rfl
    have hde := c2 k16
    have hpc : zr_P vs vv (zp_n ck (zp_n fl (4 * n))) t := by
      have := zj_cx C' (d := zp_n de n) c4 (by omega) hp
      rw [show (zp_n de n - 1) / 2 = zp_n fl (4 * n) by omega] at this
      exact this
    have tr := v16 k16
    have D := CP 0 a0 k5 (by omega) (by rw [hoc]; exact hpc) tr.1 tr.2 _ rfl
    rw [k16] at n1
    refine nm_r n1 ?_
    rw [o0]
    repeat (first | exact ⟨j2, D⟩ | refine br_t (by decide) ?_ | refine br_f (by decide) ?_)
  by_cases k17 : zp_n kd n = 17
  · have a0 : 0 < zp_ar (zp_n kd n) := by rw [k17]; decide
    have a1 : 1 < zp_ar (zp_n kd n) := by rw [k17]; decide
    have o0 := (n4 0 a0).1
    have o1 := (n4 1 a1).1
    rw [k17, zp_fo_17, show 4 * n + (1 + 0) = 4 * n + 1 from rfl] at o0
    rw [k17, zp_fo_17, show 4 * n + (1 + 1) = 4 * n + 2 from rfl] at o1
    obtain ⟨f1, f2⟩ := n5 (Or.inr (by omega))
    have hpc : zr_P vs vv (zp_n ck (zp_n fl (4 * n))) t := by rw [← c3 (Or.inr (Or.inl k17))]; exact hp
    obtain ⟨p1, p2⟩ := (h1 _ f2).2 hpc (g5 (Or.inr (by omega)))
    have hvs : ¬ vs (10 * t + zp_n fl (4 * n)) = 0 := by
      rcases ((hR.1 _ f2).1 hpc).2.2 with e | ⟨e, _⟩ <;> (rw [e]; decide)
    have hoc : ∀ j, zt_oc ck kd fl de n j = 1 + 2 * zp_n fl (4 * n) + (1 - j) := by
      intro j; unfold zt_oc; rw [if_neg k16, if_pos k17]
    have ci : (nI (10 * t + zp_n fl (4 * n))).toNatClampNeg = 10 * t + zp_n fl (4 * n) := nI_clamp (by omega)
    have ii : vp_in (nI (10 * t + zp_n fl (4 * n))) 240 := vp_in_nI (by omega) (by decide)
    have D : (vv (10 * t + zp_n fl (4 * n)) = 0 → (vp_in (nI (4 * n + 2)) 192 ∧ wpX_copyNode (fun u => match u with | (eS, oS, aS, MV, MN, MI, ph, ve, fa, no, vc, nc, oc, sc, bc, lc, pr, rl, ck, qn, pd, kd, fl, us, lv, ex, ow, de, nl, vl, di, re, od, sA, sT, bC, bS, bE, sl, mV, mN, se, nV, nN, pS, pV) => post (eS, oS, aS, MV, MN, MI, ph, ve, fa, no, vc, nc, oc, sc, bc, lc, pr, rl, ck, qn, pd, kd, fl, us, lv, ex, ow, de, nl, vl, di, re, od, sA, sT, bC, bS, bE, sl, mV, mN, se, nV, nN, pS, pV)) (eS, oS, aS, MV, MN, MI, ph, ve, fa, nI t, vc, nc, oc, sc, bc, lc, pr, rl, ck, qn, pd, kd, fl, us, lv, ex, ow, de, nl, vl, di, re, od, sA, sT, bC, bS, bE, sl, mV, mN, se, nV, nN, pS, pV) (nI n) (nI (zp_op kd fl n 1)))) ∧ (¬ vv (10 * t + zp_n fl (4 * n)) = 0 → (vp_in (nI (4 * n + 1)) 192 ∧ wpX_copyNode (fun u => match u with | (eS, oS, aS, MV, MN, MI, ph, ve, fa, no, vc, nc, oc, sc, bc, lc, pr, rl, ck, qn, pd, kd, fl, us, lv, ex, ow, de, nl, vl, di, re, od, sA, sT, bC, bS, bE, sl, mV, mN, se, nV, nN, pS, pV) => post (eS, oS, aS, MV, MN, MI, ph, ve, fa, no, vc, nc, oc, sc, bc, lc, pr, rl, ck, qn, pd, kd, fl, us, lv, ex, ow, de, nl, vl, di, re, od, sA, sT, bC, bS, bE, sl, mV, mN, se, nV, nN, pS, pV)) (eS, oS, aS, MV, MN, MI, ph, ve, fa, nI t, vc, nc, oc, sc, bc, lc, pr, rl, ck, qn, pd, kd, fl, us, lv, ex, ow, de, nl, vl, di, re, od, sA, sT, bC, bS, bE, sl, mV, mN, se, nV, nN, pS, pV) (nI n) (nI (zp_op kd fl n 0)))) := by
      refine br_c (fun e => ⟨j2, ?_⟩) (fun e => ⟨j1, ?_⟩)
      · have tr := (v17 k17).2 e
        refine CP 1 a1 k5 (by omega) ?_ tr.1 tr.2 _ rfl
        rw [hoc, zr_P1 (by omega)]
        exact ⟨hvs, fun h => absurd e h, fun h => absurd h (by omega)⟩
      · have tr := (v17 k17).1 e
        refine CP 0 a0 k5 (by omega) ?_ tr.1 tr.2 _ rfl
        rw [hoc, zr_P1 (by omega)]
        exact ⟨hvs, fun _ => by omega, fun _ => e⟩
    rw [k17] at n1
    refine nm_r n1 ?_
    rw [f1, za_m10, nI_add, ci, p2, o0, o1]
    repeat (first | exact ⟨ii, D⟩ | refine br_t (by decide) ?_ | refine br_f (by decide) ?_)
  · have k18 : zp_n kd n = 18 := by
      have : ¬ (¬ zp_n kd n = 18) := fun h => hst ⟨k1, k2, k5, k14, k16, k17, h⟩
      omega
    have a0 : 0 < zp_ar (zp_n kd n) := by rw [k18]; decide
    have o0 := n4 0 a0
    rw [k18, zp_fo_18, show 4 * n + (3 + 0) = 4 * n + 3 from rfl] at o0
    obtain ⟨q1, q2⟩ := hsl.1 n g2 g3 (Or.inr k18)
    have f1 := (n5 (Or.inr (by omega))).2
    have f2 := (n6 (Or.inr k18)).2
    have hcx : zr_cx fl n = 1 + 2 * zp_n fl (4 * n) + zp_n fl (4 * n + 1) := rfl
    have hoc : zt_oc ck kd fl de n 0 = zr_cx fl n := by unfold zt_oc zr_cx; rw [if_neg k16, if_neg k17, if_pos k18]
    have ca : (nI (zp_op kd fl n 0)).toNatClampNeg = zp_op kd fl n 0 := nI_clamp (by have := opl 0 a0; omega)
    have lop := (c1 0 a0).1
    have dop : de (zp_op kd fl n 0) = nI (zr_cx fl n) := by
      have := (hL.2.2.1 _ n 0 ⟨g2, a0, rfl⟩ trivial).2.2.2 g3
      rw [hoc] at this
      exact this
    have hm := (hM n g2 g3).2 k18
    have D : wpX_hold (fun u => match u with | (eS, oS, aS, MV, MN, MI, ph, ve, fa, no, vc, nc, oc, sc, bc, lc, pr, rl, ck, qn, pd, kd, fl, us, lv, ex, ow, de, nl, vl, di, re, od, sA, sT, bC, bS, bE, sl, mV, mN, se, nV, nN, pS, pV) => post (eS, oS, aS, MV, MN, MI, ph, ve, fa, no, vc, nc, oc, sc, bc, lc, pr, rl, ck, qn, pd, kd, fl, us, lv, ex, ow, de, nl, vl, di, re, od, sA, sT, bC, bS, bE, sl, mV, mN, se, nV, nN, pS, pV)) (eS, oS, aS, MV, MN, MI, ph, ve, fa, nI t, vc, nc, oc, sc, bc, lc, pr, rl, ck, qn, pd, kd, fl, us, lv, ex, ow, de, nl, vl, di, re, od, sA, sT, bC, bS, bE, sl, mV, mN, se, nV, nN, pS, pV) (nI n) := by
      unfold wpX_hold
      dsimp only
      rw [za_m4, za_3, d3]
      refine ⟨j3, nm_r o0.1 ⟨vp_in_nI (opl 0 a0) (by decide), ?_⟩⟩
      rw [ca, dop]
      have hbit := h2 (zr_cx fl n) (by omega)
      rw [show (zr_cx fl n - 1) / 2 = zp_n fl (4 * n) by omega] at hbit
      have hst1 := g5 (Or.inr (by omega))
      refine xe_pres (by omega) (fun e => ?_) (fun e => ?_)
      · have hpx : zr_P vs vv (zr_cx fl n) t := by
          rcases hbit.mp e with h | h
          · omega
          · exact h.2
        obtain ⟨a, b⟩ := opf 0 a0 k5 (by rw [hoc]; exact hpx)
        have tr := (v18 k18).1 t (zr_lS hpx)
        have hne : zp_op kd fl n 0 ≠ n := by have := o0.2; omega
        refine br_f za_10 (xe_copy (by omega) (opl 0 a0) (by rw [b]; exact zr_n01 _) ?_)
        show wpX_keep (fun u => match u with | (eS, oS, aS, MV, MN, MI, ph, ve, fa, no, vc, nc, oc, sc, bc, lc, pr, rl, ck, qn, pd, kd, fl, us, lv, ex, ow, de, nl, vl, di, re, od, sA, sT, bC, bS, bE, sl, mV, mN, se, nV, nN, pS, pV) => post (eS, oS, aS, MV, MN, MI, ph, ve, fa, no, vc, nc, oc, sc, bc, lc, pr, rl, ck, qn, pd, kd, fl, us, lv, ex, ow, de, nl, vl, di, re, od, sA, sT, bC, bS, bE, sl, mV, mN, se, nV, nN, pS, pV)) (eS, oS, aS, MV, MN, MI, ph, ve, fa, nI t, vc, nc, oc, sc, bc, lc, pr, rl, ck, qn, pd, kd, fl, us, lv, ex, ow, de, nl, vl, di, re, od, sA, sT, bC, bS, bE, sl, mV, mN, se, upd nV n (nV (zp_op kd fl n 0)), upd nN n (nN (zp_op kd fl n 0)), pS, pV) (nI n) (nI (zp_op kd fl n 0))
        refine xe_keep (by omega) (opl 0 a0) ht (by omega) q1 (by rw [pk_un hne, b]; exact zr_n01 _) ?_
        show post (eS, oS, aS, MV, MN, MI, ph, ve, fa, nI t, vc, nc, oc, sc, bc, lc, pr, rl, ck, qn, pd, kd, fl, us, lv, ex, ow, de, nl, vl, di, re, od, sA, sT, bC, bS, bE, sl, upd mV (48 * (t + 1) + zp_n sl n) (upd nV n (nV (zp_op kd fl n 0)) (zp_op kd fl n 0)), upd mN (48 * (t + 1) + zp_n sl n) (upd nN n (nN (zp_op kd fl n 0)) (zp_op kd fl n 0)), se, upd nV n (nV (zp_op kd fl n 0)), upd nN n (nN (zp_op kd fl n 0)), pS, pV)
        have fin := hB k18 hpx
        rw [pk_un hne, pk_un hne, a, b]
        rw [tr.1, tr.2] at fin
        exact fin
      · have hpx : ¬ zr_P vs vv (zr_cx fl n) t := by
          intro h
          have := hbit.mpr (Or.inr ⟨hst1, h⟩)
          rw [e] at this
          exact Bool.false_ne_true this
        have key : mV (48 * t + zp_n sl n) = nv (48 * t + n) ∧ mN (48 * t + zp_n sl n) = zr_nil (ns (48 * t + n)) := by
          rw [(h5 (48 * t + zp_n sl n) (by omega)).1, (h5 (48 * t + zp_n sl n) (by omega)).2]
          rcases zr_ln (vs := vs) (vv := vv) (x := zr_cx fl n) t with ⟨u, hu⟩ | hno
          · obtain ⟨a, b⟩ := hm.1 u hu
            obtain ⟨a', b'⟩ := (v18 k18).1 u ((zr_lS' hpx).mpr hu)
            rw [a, b, a', b']; exact ⟨rfl, rfl⟩
          · obtain ⟨a, b⟩ := hm.2 hno
            obtain ⟨a', b'⟩ := (v18 k18).2 ((zr_nS' hpx).mpr hno)
            rw [a, b, a', b', zr_nil1]; exact ⟨rfl, rfl⟩
        have fin := hA (fun _ => hpx)
        rw [← key.1, ← key.2] at fin
        exact br_t rfl (xe_recall (by omega) ht (by omega) q1 (by rw [key.2]; exact zr_n01 _) fin)
    rw [k18] at n1
    refine nm_r n1 ?_
    repeat (first | exact D | refine br_t (by decide) ?_ | refine br_f (by decide) ?_)
end
end
section
/-! the component's instant against a solved row: the walk -/
section
variable {eS oS aS MV MN MI ph ve fa no vc nc oc sc bc lc pr : Int32} {rl ck qn pd kd fl us lv ex ow de nl vl di re od sA sT bC bS bE sl mV mN se nV nN pS pV : Nat → Int32} {mV0 mN0 pS0 pV0 vs vv ns nv : Nat → Int32}
theorem xe_38 {post : SX → Prop} {V t v : Nat} {x nil : Int32} (hV : V ≤ 10) (ht : t < 24) (hv : v < V) (hn : (nil = 0 ∧ vs (10 * t + v) = 1 ∧ vv (10 * t + v) = x) ∨ (nil = 1 ∧ vs (10 * t + v) = 2 ∧ vv (10 * t + v) = 0))
    (h : ∀ b, b ≤ 1 → ((¬ vv (10 * t + v) = 0) ↔ b = 1) → post (eS, oS, aS, MV, MN, MI, ph, ve, fa, nI t, vc, nc, oc, sc, bc, lc, pr ||| ((1 : Int32) <<< (nI (1 + 2 * v + b) &&& 31)), rl, ck, qn, pd, kd, fl, us, lv, ex, ow, de, nl, vl, di, re, od, sA, sT, bC, bS, bE, sl, mV, mN, se, nV, nN, upd pS (10 * t + v) (vs (10 * t + v)), upd pV (10 * t + v) (vv (10 * t + v)))) : wX_store_38 post (nI v) x nil eS oS aS MV MN MI ph ve fa (nI t) vc nc oc sc bc lc pr rl ck qn pd kd fl us lv ex ow de nl vl di re od sA sT bC bS bE sl mV mN se nV nN pS pV := by
  have ci : (nI (10 * t + v)).toNatClampNeg = 10 * t + v := nI_clamp (by omega)
  have ii : vp_in (nI (10 * t + v)) 240 := vp_in_nI (by omega) (by decide)
  have K : ∀ s0 : Int32, vs (10 * t + v) = s0 → wX_store_70 post (nI v) (vv (10 * t + v)) (nI (10 * t + v)) s0 (nI (10 * t + v)) eS oS aS MV MN MI ph ve fa (nI t) vc nc oc sc bc lc pr rl ck qn pd kd fl us lv ex ow de nl vl di re od sA sT bC bS bE sl mV mN se nV nN pS pV := by
    intro s0 hs0
    subst hs0
    unfold wX_store_70 wX_store_88
    rw [ci, za_2m, za_1a, za_00, nI_1]
    refine ⟨ii, nm_e ⟨ii, nm_e (br_c (fun e => nm_e ?_) (fun e => nm_e ?_))⟩⟩
    · exact h 0 (by omega) ⟨fun h => absurd e h, fun h => absurd h (by omega)⟩
    · exact h 1 (by omega) ⟨fun _ => rfl, fun _ => e⟩
  rcases hn with ⟨rfl, a, rfl⟩ | ⟨rfl, a, b⟩
  · refine br_t rfl ?_
    unfold wX_store_44
    rw [za_m10, nI_add]
    exact nm_e (br_t rfl (K 1 a))
  · refine br_f za_10 ?_
    unfold wX_store_44
    rw [za_m10, nI_add]
    have := K 2 a
    rw [b] at this
    exact nm_e (br_f za_10 this)
theorem xe_store {post : SX → Prop} {V N t S L s v : Nat} (C : zj_C V N t S L rl ck qn pd kd fl lv ex ow de sl sA sT mV0 mN0 se vs vv ns nv) (hs : s < S) (h0 : sA s = 1) (hT : zp_n sT s = v) (hp : zr_P vs vv (zp_n ck v) t) (hI : zj_I V N t s ck kd fl lv de sl sA sT mV0 mN0 pS0 pV0 vs vv ns nv pr nV nN mV mN pS pV)
    (h : ∀ b, b ≤ 1 → ((¬ vv (10 * t + v) = 0) ↔ b = 1) → post (eS, oS, aS, MV, MN, MI, ph, ve, fa, nI t, vc, nc, oc, sc, bc, lc, pr ||| ((1 : Int32) <<< (nI (1 + 2 * v + b) &&& 31)), rl, ck, qn, pd, kd, fl, us, lv, ex, ow, de, nl, vl, di, re, od, sA, sT, bC, bS, bE, sl, mV, mN, se, nV, nN, upd pS (10 * t + v) (vs (10 * t + v)), upd pV (10 * t + v) (vv (10 * t + v)))) : wpX_store post (eS, oS, aS, MV, MN, MI, ph, ve, fa, nI t, vc, nc, oc, sc, bc, lc, pr, rl, ck, qn, pd, kd, fl, us, lv, ex, ow, de, nl, vl, di, re, od, sA, sT, bC, bS, bE, sl, mV, mN, se, nV, nN, pS, pV) (nI v) := by
  obtain ⟨hW, hV, hN, ht, hL48, hL, hoff, hmiss, hS106, hS, hsl, hR, hM, hSe⟩ := C
  obtain ⟨h1, h2, h3, h4, h5, h6⟩ := hI
  obtain ⟨_, _, ok⟩ := hS s hs
  rw [h0, hT] at ok
  rcases ok with ⟨e, _⟩ | ⟨_, g2, g3, g4⟩ | ⟨e, _⟩
  · exact absurd e za_10
  · have cv : (nI v).toNatClampNeg = v := nI_clamp (by omega)
    have iv : vp_in (nI v) 10 := vp_in_nI (by omega) (by decide)
    have tr := (hR.1 v g2).1 hp
    unfold wpX_store
    dsimp only
    rw [cv]
    refine ⟨iv, nm_e ⟨iv, ?_⟩⟩
    rcases (hW.1 v g2).2.2 with e | ⟨e0, e, e'⟩
    · have hr : rl v = 0 := by
        rcases (hW.1 v g2).1 with r | r
        · exact r
        · exact absurd e (hmiss v g2 r)
      refine nm_r e (br_t za_m0 (xe_38 hV ht g2 (Or.inl ⟨rfl, (tr.1 hr).1, (tr.1 hr).2⟩) h))
    · have o : zp_O V qn (zp_n qn v) v := ⟨g2, by omega, e⟩
      have cr : (nI (zp_n qn v)).toNatClampNeg = zp_n qn v := nI_clamp (by omega)
      have ir : vp_in (nI (zp_n qn v)) 48 := vp_in_nI (by omega) (by decide)
      obtain ⟨r1, r2, r3, r4⟩ := hL.2.1 _ v o
      have hde : zp_n de (zp_n qn v) = zp_n ck v := congrArg Int32.toNatClampNeg r4
      obtain ⟨a, b⟩ := h3 _ e' r1 (g4 _ o) (by rw [hde]; exact hp)
      obtain ⟨c, d⟩ := tr.2.1 _ o
      refine nm_r e (br_f (nI_pos (by omega)) ?_)
      rw [cr, a, b]
      refine ⟨ir, nm_e ⟨ir, nm_e (xe_38 hV ht g2 ?_ h)⟩⟩
      rcases tr.2.2 with q | ⟨q, q'⟩
      · left
        rw [← c, q, zr_nil1]
        exact ⟨rfl, rfl, d⟩
      · right
        rw [← c, q, zr_nil2]
        exact ⟨rfl, rfl, q'⟩
  · exact absurd e (by decide)
theorem xe_save {post : SX → Prop} {V N t S L s n : Nat} (C : zj_C V N t S L rl ck qn pd kd fl lv ex ow de sl sA sT mV0 mN0 se vs vv ns nv) (hs : s < S) (h0 : sA s = 2) (hT : zp_n sT s = n) (hp : zr_P vs vv (zp_n de n) t) (hI : zj_I V N t s ck kd fl lv de sl sA sT mV0 mN0 pS0 pV0 vs vv ns nv pr nV nN mV mN pS pV)
    (h : post (eS, oS, aS, MV, MN, MI, ph, ve, fa, nI t, vc, nc, oc, sc, bc, lc, pr, rl, ck, qn, pd, kd, fl, us, lv, ex, ow, de, nl, vl, di, re, od, sA, sT, bC, bS, bE, sl, upd mV (48 * (t + 1) + zp_n sl n) (nv (48 * t + zp_op kd fl n 0)), upd mN (48 * (t + 1) + zp_n sl n) (zr_nil (ns (48 * t + zp_op kd fl n 0))), se, nV, nN, pS, pV)) : wpX_save post (eS, oS, aS, MV, MN, MI, ph, ve, fa, nI t, vc, nc, oc, sc, bc, lc, pr, rl, ck, qn, pd, kd, fl, us, lv, ex, ow, de, nl, vl, di, re, od, sA, sT, bC, bS, bE, sl, mV, mN, se, nV, nN, pS, pV) (nI n) := by
  have C' := C
  obtain ⟨hW, hV, hN, ht, hL48, hL, hoff, hmiss, hS106, hS, hsl, hR, hM, hSe⟩ := C
  obtain ⟨h1, h2, h3, h4, h5, h6⟩ := hI
  obtain ⟨_, _, ok⟩ := hS s hs
  rw [h0, hT] at ok
  rcases ok with ⟨e, _⟩ | ⟨e, _⟩ | ⟨_, g2, g3, g4, g5, g6⟩
  · exact absurd e (by decide)
  · exact absurd e (by decide)
  · obtain ⟨n1, n2, n3, n4, n5, n6⟩ := hW.2 n g2
    have a0 : 0 < zp_ar (zp_n kd n) := by rw [g4]; decide
    have o0 := n4 0 a0
    have ha := o0.2
    rw [g4, zp_fo_5, show 4 * n + (0 + 0) = 4 * n from rfl] at o0
    obtain ⟨q1, q2⟩ := hsl.1 n g2 g3 (Or.inl g4)
    have c := (zj_dck C' g2 g3).1 0 a0
    have hoc : zt_oc ck kd fl de n 0 = zp_n de n := by
      unfold zt_oc
      rw [if_neg (by omega), if_neg (by omega), if_neg (by omega)]
    obtain ⟨a, b⟩ := h3 _ (by omega) c.1 g6 (by rw [c.2.2, hoc]; exact hp)
    have d0 : (nI (4 * n)).toNatClampNeg = 4 * n := nI_clamp (by omega)
    unfold wpX_save
    dsimp only
    rw [za_m4, d0, o0.1]
    refine ⟨vp_in_nI (by omega) (by decide), xe_keep (by omega) (by omega) ht (by omega) q1 (by rw [b]; exact zr_n01 _) ?_⟩
    rw [a, b]
    exact h
theorem xr_block {post : SX → Prop} {V N t S L a e : Nat} (C : zj_C V N t S L rl ck qn pd kd fl lv ex ow de sl sA sT mV0 mN0 se vs vv ns nv) (hae : a ≤ e) (he : e ≤ S) (hP : ∀ s, a ≤ s → s < e → zr_P vs vv (zs_c ck de sA sT s) t) (hI : zj_I V N t a ck kd fl lv de sl sA sT mV0 mN0 pS0 pV0 vs vv ns nv pr nV nN mV mN pS pV)
    (h : ∀ (pr : Int32) (nV nN mV mN pS pV : Nat → Int32), zj_I V N t e ck kd fl lv de sl sA sT mV0 mN0 pS0 pV0 vs vv ns nv pr nV nN mV mN pS pV → post (eS, oS, aS, MV, MN, MI, ph, ve, fa, nI t, vc, nc, oc, sc, bc, lc, pr, rl, ck, qn, pd, kd, fl, us, lv, ex, ow, de, nl, vl, di, re, od, sA, sT, bC, bS, bE, sl, mV, mN, se, nV, nN, pS, pV)) : ∃ f, wX_runBlock_14 post (nI e) f (nI a) eS oS aS MV MN MI ph ve fa (nI t) vc nc oc sc bc lc pr rl ck qn pd kd fl us lv ex ow de nl vl di re od sA sT bC bS bE sl mV mN se nV nN pS pV := by
  have hS106 : S ≤ 106 := C.2.2.2.2.2.2.2.2.1
  have hS : zs_S V N ck qn kd fl lv de sA sT S := C.2.2.2.2.2.2.2.2.2.1
  have hNV : N ≤ 48 ∧ V ≤ 10 := ⟨C.2.2.1, C.2.1⟩
  refine pk_loop (fun f s (z : Int32 × (Nat → Int32) × (Nat → Int32) × (Nat → Int32) × (Nat → Int32) × (Nat → Int32) × (Nat → Int32)) => wX_runBlock_14 post (nI e) f (nI s) eS oS aS MV MN MI ph ve fa (nI t) vc nc oc sc bc lc z.1 rl ck qn pd kd fl us lv ex ow de nl vl di re od sA sT bC bS bE sl z.2.2.2.1 z.2.2.2.2.1 se z.2.1 z.2.2.1 z.2.2.2.2.2.1 z.2.2.2.2.2.2) (fun s z => a ≤ s ∧ zj_I V N t s ck kd fl lv de sl sA sT mV0 mN0 pS0 pV0 vs vv ns nv z.1 z.2.1 z.2.2.1 z.2.2.2.1 z.2.2.2.2.1 z.2.2.2.2.2.1 z.2.2.2.2.2.2) e a (pr, nV, nN, mV, mN, pS, pV) hae ⟨Nat.le_refl _, hI⟩ ?_ ?_
  · rintro f ⟨pr, nV, nN, mV, mN, pS, pV⟩ ⟨_, hI⟩
    exact br_t (nI_le (Nat.le_refl _) (by omega)) (h pr nV nN mV mN pS pV hI)
  · rintro f s ⟨pr, nV, nN, mV, mN, pS, pV⟩ hs ⟨has, hI⟩ ih
    dsimp only at hI ih ⊢
    obtain ⟨t1, t2, t3⟩ := hS s (by omega)
    have cs : (nI s).toNatClampNeg = s := nI_clamp (by omega)
    have is : vp_in (nI s) 106 := vp_in_nI (by omega) (by decide)
    have hp := hP s has hs
    unfold zs_c at hp
    refine br_f (nI_ge hs (by omega)) ⟨is, ?_⟩
    rw [cs, t1]
    rcases t3 with ⟨g1, g2, g3, _⟩ | ⟨g1, g2, _⟩ | ⟨g1, g2, g3, g4, _⟩
    · rw [g1, if_neg za_01] at hp
      refine nm_r g1 (br_t rfl ⟨is, xe_eval C (by omega) g1 rfl hp hI ?_ ?_⟩)
      · intro hk
        exact nm_r (nI_1 s) (ih (pr, _, _, mV, mN, pS, pV) ⟨by omega, zj_ev C (by omega) g1 g2 t1 hk hI⟩)
      · intro hk hpx
        exact nm_r (nI_1 s) (ih (pr, _, _, _, _, pS, pV) ⟨by omega, zj_eh C (by omega) g1 g2 g3 t1 hk hpx hI⟩)
    · rw [g1, if_pos rfl] at hp
      refine nm_r g1 (br_f za_10 (br_t rfl ⟨is, xe_store C (by omega) g1 rfl hp hI ?_⟩))
      intro b hb hbv
      exact nm_r (nI_1 s) (ih (_, nV, nN, mV, mN, _, _) ⟨by omega, zj_st C (by omega) g1 g2 t1 hp hb hbv hI⟩)
    · rw [g1, if_neg (by decide)] at hp
      refine nm_r g1 (br_f (by decide) (br_f (by decide) ⟨is, xe_save C (by omega) g1 rfl hp hI ?_⟩))
      exact nm_r (nI_1 s) (ih (pr, nV, nN, _, _, pS, pV) ⟨by omega, zj_sv C (by omega) g1 g2 g3 t1 g4 hp hI⟩)
theorem zj_skn {V N t S L a e : Nat} (C : zj_C V N t S L rl ck qn pd kd fl lv ex ow de sl sA sT mV0 mN0 se vs vv ns nv) (he : e ≤ S) (hP : ∀ s, a ≤ s → s < e → ¬ zr_P vs vv (zs_c ck de sA sT s) t) (hae : a ≤ e) (hI : zj_I V N t a ck kd fl lv de sl sA sT mV0 mN0 pS0 pV0 vs vv ns nv pr nV nN mV mN pS pV) : zj_I V N t e ck kd fl lv de sl sA sT mV0 mN0 pS0 pV0 vs vv ns nv pr nV nN mV mN pS pV := by
  induction e with
  | zero =>
    obtain rfl : a = 0 := by omega
    exact hI
  | succ e ih =>
    by_cases h : a = e + 1
    · subst h; exact hI
    · exact zj_sk C (by omega) (hP e (by omega) (by omega)) (ih (by omega) (fun s h1 h2 => hP s h1 (by omega)) (by omega))
theorem xr_117 {post : SX → Prop} {V N t S L B : Nat} (C : zj_C V N t S L rl ck qn pd kd fl lv ex ow de sl sA sT mV0 mN0 se vs vv ns nv) (hB : zs_B S B (zs_c ck de sA sT) bC bS bE) (hI : zj_I V N t 0 ck kd fl lv de sl sA sT mV0 mN0 pS0 pV0 vs vv ns nv pr nV nN mV mN pS pV)
    (h : ∀ (pr : Int32) (nV nN mV mN pS pV : Nat → Int32), zj_I V N t S ck kd fl lv de sl sA sT mV0 mN0 pS0 pV0 vs vv ns nv pr nV nN mV mN pS pV → post (eS, oS, aS, MV, MN, MI, ph, ve, fa, nI (t + 1), vc, nc, oc, sc, nI B, lc, pr, rl, ck, qn, pd, kd, fl, us, lv, ex, ow, de, nl, vl, di, re, od, sA, sT, bC, bS, bE, sl, mV, mN, upd se (t + 1) (se t ||| pr), nV, nN, pS, pV)) : ∃ f, wX_runInstant_117 post f 0 eS oS aS MV MN MI ph ve fa (nI t) vc nc oc sc (nI B) lc pr rl ck qn pd kd fl us lv ex ow de nl vl di re od sA sT bC bS bE sl mV mN se nV nN pS pV := by
  have C' := C
  obtain ⟨hW, hV, hN, ht, hL48, hL, hoff, hmiss, hS106, hS, hsl, hR, hM, hSe⟩ := C
  obtain ⟨k1, k2, k3, k4, k5⟩ := hB
  refine pk_loop (fun f b (z : Int32 × (Nat → Int32) × (Nat → Int32) × (Nat → Int32) × (Nat → Int32) × (Nat → Int32) × (Nat → Int32)) => wX_runInstant_117 post f (nI b) eS oS aS MV MN MI ph ve fa (nI t) vc nc oc sc (nI B) lc z.1 rl ck qn pd kd fl us lv ex ow de nl vl di re od sA sT bC bS bE sl z.2.2.2.1 z.2.2.2.2.1 se z.2.1 z.2.2.1 z.2.2.2.2.2.1 z.2.2.2.2.2.2) (fun b z => ∃ s, zj_I V N t s ck kd fl lv de sl sA sT mV0 mN0 pS0 pV0 vs vv ns nv z.1 z.2.1 z.2.2.1 z.2.2.2.1 z.2.2.2.2.1 z.2.2.2.2.2.1 z.2.2.2.2.2.2 ∧ (b < B → s = zp_n bS b) ∧ (b = B → s = S)) B 0 (pr, nV, nN, mV, mN, pS, pV) (Nat.zero_le _) ?_ ?_ ?_
  · refine ⟨0, hI, fun hb => ?_, fun hb => (k2 hb.symm).symm⟩
    exact (zp_nI (x := 0) (k3 hb).1 (by decide)).symm
  · rintro f ⟨pr, nV, nN, mV, mN, pS, pV⟩ ⟨s, hI, _, hs⟩
    dsimp only at hI
    obtain rfl := hs rfl
    have ct : (nI t).toNatClampNeg = t := nI_clamp (by omega)
    have ct1 : (nI (t + 1)).toNatClampNeg = t + 1 := nI_clamp (by omega)
    refine br_t (nI_le (Nat.le_refl _) (by omega)) ?_
    dsimp only
    rw [nI_1, ct, ct1]
    exact ⟨vp_in_nI (by omega) (by decide), vp_in_nI (by omega) (by decide), nm_e (nm_e (h pr nV nN mV mN pS pV hI))⟩
  · rintro f b ⟨pr, nV, nN, mV, mN, pS, pV⟩ hb ⟨s, hI, hs, _⟩ ih
    dsimp only at hI ih ⊢
    have es := hs hb
    obtain ⟨q1, q2, q3, q4, q5, q6⟩ := k5 b hb
    have cb : (nI b).toNatClampNeg = b := nI_clamp (by omega)
    have ib : vp_in (nI b) 106 := vp_in_nI (by omega) (by decide)
    have hsS : s < S := by omega
    have ec : zs_c ck de sA sT s = zp_n bC b := q6 s (by omega) (by omega)
    have okc : zs_c ck de sA sT s ≤ 2 * V ∧ (zs_c ck de sA sT s ≠ 0 → zs_has sA sT s 1 ((zs_c ck de sA sT s - 1) / 2)) := by
      obtain ⟨_, _, ok⟩ := hS s hsS
      unfold zs_c
      rcases ok with ⟨g1, g2, g3, g4, _⟩ | ⟨g1, g2, g3, _⟩ | ⟨g1, g2, g3, _, g4, _⟩
      · rw [g1, if_neg za_01]; exact ⟨(zj_dck C' g2 g3).2.2.2.1, g4⟩
      · rw [g1, if_pos rfl]; exact ⟨by have := (hW.1 _ g2).2.1.2; omega, g3⟩
      · rw [g1, if_neg (by decide)]; exact ⟨(zj_dck C' g2 g3).2.2.2.1, g4⟩
    rw [ec] at okc
    have bit := hI.2.1 _ okc.1
    have nxt : ∀ (pr : Int32) (nV nN mV mN pS pV : Nat → Int32), zj_I V N t (zp_n bE b) ck kd fl lv de sl sA sT mV0 mN0 pS0 pV0 vs vv ns nv pr nV nN mV mN pS pV → wX_runInstant_117 post f (nI (b + 1)) eS oS aS MV MN MI ph ve fa (nI t) vc nc oc sc (nI B) lc pr rl ck qn pd kd fl us lv ex ow de nl vl di re od sA sT bC bS bE sl mV mN se nV nN pS pV := by
      intro pr nV nN mV mN pS pV hI'
      refine ih (pr, nV, nN, mV, mN, pS, pV) ⟨zp_n bE b, hI', fun hb1 => ?_, fun hb1 => ?_⟩
      · exact congrArg Int32.toNatClampNeg (k4 b hb1).symm
      · have := (k3 (by omega)).2
        rw [show B - 1 = b by omega] at this
        exact zp_nI this (by omega)
    refine br_f (nI_ge hb (by omega)) ⟨ib, ?_⟩
    rw [cb, q3]
    refine xe_pres (by omega) (fun e => ?_) (fun e => ?_)
    · have hpc : zr_P vs vv (zp_n bC b) t := by
        rcases bit.mp e with h | h
        · exact Or.inl h
        · exact h.2
      refine br_f za_10 ?_
      unfold wpX_runBlock
      dsimp only
      rw [cb]
      refine ⟨ib, nm_r q2 ⟨ib, nm_r q1 ?_⟩⟩
      rw [← es]
      refine xr_block C' (by omega) q5 (fun s' h1 h2 => by rw [q6 s' (by omega) h2]; exact hpc) hI ?_
      intro pr nV nN mV mN pS pV hI'
      exact nm_r (nI_1 b) (nxt pr nV nN mV mN pS pV hI')
    · have hpc : ¬ zr_P vs vv (zp_n bC b) t := by
        intro h
        have := bit.mpr (by
          by_cases h0 : zp_n bC b = 0
          · exact Or.inl h0
          · exact Or.inr ⟨okc.2 h0, h⟩)
        rw [e] at this
        exact Bool.false_ne_true this
      exact br_t rfl (nm_r (nI_1 b) (nxt pr nV nN mV mN pS pV (zj_skn C' q5 (fun s' h1 h2 => by rw [q6 s' (by omega) h2]; exact hpc) (by omega) hI)))
end
end
section
/-! the component's instant: from one history to the next -/
section
variable {V N t S L : Nat} {rl ck qn pd kd fl lv ex ow de sl sA sT mV mN se vs vv ns nv pS pV nV nN mV' mN' pS' pV' : Nat → Int32} {pr : Int32}
theorem zj_nar (C : zj_C V N t S L rl ck qn pd kd fl lv ex ow de sl sA sT mV mN se vs vv ns nv) {n : Nat} (hn : n < N) (hl : lv n = 1) (hk : zp_n kd n = 5 ∨ zp_n kd n = 18) : mN (48 * t + zp_n sl n) = 0 ∨ mN (48 * t + zp_n sl n) = 1 := by
  obtain ⟨hW, hV, hN, ht, hL48, hL, hoff, hmiss, hS106, hS, hsl, hR, hM, hSe⟩ := C
  have key : ∀ x a i z, (z = 0 ∨ z = 1) → zr_mem mV mN vs vv ns nv t (zp_n sl n) x a i z → mN (48 * t + zp_n sl n) = 0 ∨ mN (48 * t + zp_n sl n) = 1 := by
    intro x a i z hz h
    rcases zr_ln (vs := vs) (vv := vv) (x := x) t with ⟨u, hu⟩ | hno
    · rw [(h.1 u hu).2]; exact zr_n01 _
    · rw [(h.2 hno).2]; exact hz
  rcases hk with k | k
  · exact key _ _ _ _ (Or.inr rfl) ((hM n hn hl).1 k)
  · exact key _ _ _ _ (Or.inl rfl) ((hM n hn hl).2 k)
theorem zj_0 (C : zj_C V N t S L rl ck qn pd kd fl lv ex ow de sl sA sT mV mN se vs vv ns nv) (h1 : ∀ v, v < V → pS' (10 * t + v) = 0 ∧ pV' (10 * t + v) = 0) (h2 : ∀ i, i < 10 * t → pS' i = pS i ∧ pV' i = pV i)
    (h3 : ∀ q, q < L → mV' (48 * (t + 1) + q) = mV (48 * t + q) ∧ mN' (48 * (t + 1) + q) = vp_nar .boolean (mN (48 * t + q))) (h4 : ∀ i, i < 48 * (t + 1) → mV' i = mV i ∧ mN' i = mN i) :
    zj_I V N t 0 ck kd fl lv de sl sA sT mV mN pS pV vs vv ns nv 1 nV nN mV' mN' pS' pV' := by
  have no : ∀ a y, ¬ zs_has sA sT 0 a y := fun a y ⟨s, hs, _⟩ => absurd hs (Nat.not_lt_zero s)
  have C' := C
  obtain ⟨hW, hV, hN, ht, hL48, hL, hoff, hmiss, hS106, hS, hsl, hR, hM, hSe⟩ := C
  have hm : ∀ n, n < N → lv n = 1 → (zp_n kd n = 5 ∨ zp_n kd n = 18) → mV' (48 * (t + 1) + zp_n sl n) = mV (48 * t + zp_n sl n) ∧ mN' (48 * (t + 1) + zp_n sl n) = mN (48 * t + zp_n sl n) := by
    intro n hn hl hk
    have a := h3 _ (hsl.1 n hn hl hk).2
    rw [za_bv (zj_nar C' hn hl hk)] at a
    exact a
  refine ⟨fun v hv => ⟨fun _ => h1 v hv, fun _ h => absurd h (no _ _)⟩, fun d hd => ?_, fun n _ _ h => absurd h (no _ _), fun n hn hl => ⟨fun k => ⟨fun h => absurd h (no _ _), fun _ => hm n hn hl (Or.inl k)⟩, fun k => ⟨fun h => absurd h (no _ _), fun _ => hm n hn hl (Or.inr k)⟩⟩, h4, h2⟩
  rw [zb_1 d (by omega), decide_eq_true_iff]
  exact ⟨Or.inl, fun h => h.elim id (fun h => absurd h.1 (no _ _))⟩
/-- what holds when all steps are done -/
theorem zj_fin (C : zj_C V N t S L rl ck qn pd kd fl lv ex ow de sl sA sT mV mN se vs vv ns nv) (hall : zs_all V N kd lv sA sT S) (hH : zz_H V N t kd fl lv de sl mV mN se pS pV vs vv ns nv)
    (hI : zj_I V N t S ck kd fl lv de sl sA sT mV mN pS pV vs vv ns nv pr nV nN mV' mN' pS' pV') : zz_H V N (t + 1) kd fl lv de sl mV' mN' (upd se (t + 1) (se t ||| pr)) pS' pV' vs vv ns nv := by
  have C' := C
  obtain ⟨hW, hV, hN, ht, hL48, hL, hoff, hmiss, hS106, hS, hsl, hR, hM, hSe⟩ := C
  obtain ⟨h1, h2, h3, h4, h5, h6⟩ := hI
  refine ⟨fun u hu => ⟨fun v hv => ?_, fun n hn hl hp => ?_⟩, fun u hu => ⟨?_, ?_⟩⟩
  · by_cases e : u = t
    · subst e
      have tr := hR.1 v hv
      by_cases hp : zr_P vs vv (zp_n ck v) u
      · obtain ⟨a, b⟩ := (h1 v hv).2 hp (hall.1 v hv)
        refine ⟨a, b, ?_⟩
        rcases (tr.1 hp).2.2 with q | ⟨q, _⟩ <;> (rw [q]; decide)
      · obtain ⟨a, b⟩ := (h1 v hv).1 hp
        obtain ⟨c, d⟩ := tr.2 hp
        exact ⟨by rw [a, c], by rw [b, d], by rw [c]; decide⟩
    · have := (hH.1 u (by omega)).1 v hv
      rw [(h6 (10 * u + v) (by omega)).1, (h6 (10 * u + v) (by omega)).2]
      exact this
  · by_cases e : u = t
    · subst e
      exact ((hR.2 n hn hl).1 hp).2
    · exact (hH.1 u (by omega)).2 n hn hl hp
  · by_cases e : u = t + 1
    · subst e
      have key : ∀ q x a i z (done : Prop), done → zr_mem mV mN vs vv ns nv t q x a i z → zj_m mV mN vs vv ns nv mV' mN' t q x a done → zr_mem mV' mN' vs vv ns nv (t + 1) q x a i z := by
        intro q x a i z done hd hm hj
        by_cases hp : zr_P vs vv x t
        · refine ⟨fun u hu => ?_, fun hno => absurd hp (hno t (by omega))⟩
          have := zr_lu (zr_lS hp) hu
          subst this
          exact hj.1 hd hp
        · obtain ⟨e1, e2⟩ := hj.2 hp
          rw [zr_mem, e1, e2]
          exact ⟨fun u hu => hm.1 u ((zr_lS' hp).mp hu), fun hno => hm.2 ((zr_nS' hp).mp hno)⟩
      intro n hn hl
      obtain ⟨a, b⟩ := h4 n hn hl
      exact ⟨fun k => key _ _ _ _ _ _ (hall.2.2 n hn hl k) ((hM n hn hl).1 k) (a k), fun k => key _ _ _ _ _ _ (hall.2.1 n hn hl) ((hM n hn hl).2 k) (b k)⟩
    · have hm := (hH.2 u (by omega)).1
      intro n hn hl
      have key : ∀ x a i z, (zp_n kd n = 5 ∨ zp_n kd n = 18) → zr_mem mV mN vs vv ns nv u (zp_n sl n) x a i z → zr_mem mV' mN' vs vv ns nv u (zp_n sl n) x a i z := by
        intro x a i z hk h
        have hq := (hsl.1 n hn hl hk).2
        rw [zr_mem, (h5 (48 * u + zp_n sl n) (by omega)).1, (h5 (48 * u + zp_n sl n) (by omega)).2]
        exact h
      exact ⟨fun k => key _ _ _ _ (Or.inl k) ((hm n hn hl).1 k), fun k => key _ _ _ _ (Or.inr k) ((hm n hn hl).2 k)⟩
  · intro d hd
    by_cases e : u = t + 1
    · subst e
      rw [pk_us, b_or, Bool.or_eq_true, hSe d hd, h2 d hd]
      constructor
      · rintro (⟨u, hu, hp⟩ | h0 | ⟨_, hp⟩)
        · exact ⟨u, by omega, hp⟩
        · exact ⟨t, by omega, Or.inl h0⟩
        · exact ⟨t, by omega, hp⟩
      · rintro ⟨u, hu, hp⟩
        by_cases e : u = t
        · subst e
          right
          by_cases h0 : d = 0
          · exact Or.inl h0
          · exact Or.inr ⟨hall.1 _ (by omega), hp⟩
        · exact Or.inl ⟨u, by omega, hp⟩
    · rw [pk_un e]
      exact (hH.2 u (by omega)).2 d hd
end
section
variable {eS oS aS MV MN MI ph ve fa no vc nc oc sc bc lc pr : Int32} {rl ck qn pd kd fl us lv ex ow de nl vl di re od sA sT bC bS bE sl mV mN se nV nN pS pV : Nat → Int32} {vs vv ns nv : Nat → Int32}
theorem xr_inst {post : SX → Prop} {V N t S L B : Nat} (C : zj_C V N t S L rl ck qn pd kd fl lv ex ow de sl sA sT mV mN se vs vv ns nv) (hB : zs_B S B (zs_c ck de sA sT) bC bS bE) (hall : zs_all V N kd lv sA sT S) (hH : zz_H V N t kd fl lv de sl mV mN se pS pV vs vv ns nv)
    (h : ∀ (pr : Int32) (nV nN mV mN se pS pV : Nat → Int32), zz_H V N (t + 1) kd fl lv de sl mV mN se pS pV vs vv ns nv → post (eS, oS, aS, MV, MN, MI, ph, ve, fa, nI (t + 1), nI V, nI N, oc, nI S, nI B, nI L, pr, rl, ck, qn, pd, kd, fl, us, lv, ex, ow, de, nl, vl, di, re, od, sA, sT, bC, bS, bE, sl, mV, mN, se, nV, nN, pS, pV)) : wpX_runInstant post (eS, oS, aS, MV, MN, MI, ph, ve, fa, nI t, nI V, nI N, oc, nI S, nI B, nI L, pr, rl, ck, qn, pd, kd, fl, us, lv, ex, ow, de, nl, vl, di, re, od, sA, sT, bC, bS, bE, sl, mV, mN, se, nV, nN, pS, pV) := by
  have C' := C
  obtain ⟨hW, hV, hN, ht, hL48, hL, hoff, hmiss, hS106, hS, hsl, hR, hM, hSe⟩ := C
  unfold wpX_runInstant
  dsimp only
  rw [za_m10]
  refine nm_e ?_
  refine pk_loop (fun f i (s : (Nat → Int32) × (Nat → Int32)) => wX_runInstant_10 post (nI (10 * t)) eS oS aS MV MN MI ph ve fa (nI t) (nI V) (nI N) oc (nI S) (nI B) (nI L) pr f (nI i) rl ck qn pd kd fl us lv ex ow de nl vl di re od sA sT bC bS bE sl mV mN se nV nN s.1 s.2) (fun i s => (∀ v, v < i → s.1 (10 * t + v) = 0 ∧ s.2 (10 * t + v) = 0) ∧ (∀ j, j < 10 * t → s.1 j = pS j ∧ s.2 j = pV j)) V 0 (pS, pV) (Nat.zero_le _) ⟨fun v hv => absurd hv (Nat.not_lt_zero v), fun j _ => ⟨rfl, rfl⟩⟩ ?_ ?_
  · rintro f ⟨pS', pV'⟩ ⟨hp1, hp2⟩
    dsimp only at hp1 hp2
    refine br_t (nI_le (Nat.le_refl _) (by omega)) ?_
    dsimp only
    rw [za_m48]
    refine nm_e ?_
    rw [za_48]
    refine nm_e ?_
    refine pk_loop (fun f q (s : (Nat → Int32) × (Nat → Int32)) => wX_runInstant_58 post (nI (48 * t)) (nI (48 * t + 48)) eS oS aS MV MN MI ph ve fa (nI t) (nI V) (nI N) oc (nI S) (nI B) (nI L) pr f (nI q) rl ck qn pd kd fl us lv ex ow de nl vl di re od sA sT bC bS bE sl s.1 s.2 se nV nN pS' pV') (fun i s => (∀ q, q < i → s.1 (48 * (t + 1) + q) = mV (48 * t + q) ∧ s.2 (48 * (t + 1) + q) = vp_nar .boolean (mN (48 * t + q))) ∧ (∀ j, j < 48 * (t + 1) → s.1 j = mV j ∧ s.2 j = mN j)) L 0 (mV, mN) (Nat.zero_le _) ⟨fun v hv => absurd hv (Nat.not_lt_zero v), fun j _ => ⟨rfl, rfl⟩⟩ ?_ ?_
    · rintro f ⟨mV', mN'⟩ ⟨hm1, hm2⟩
      dsimp only at hm1 hm2
      refine br_t (nI_le (Nat.le_refl _) (by omega)) (xr_117 C' hB (zj_0 (nV := nV) (nN := nN) C' hp1 hp2 hm1 hm2) ?_)
      intro pr nV nN mV2 mN2 pS2 pV2 hI
      exact h pr nV nN mV2 mN2 _ pS2 pV2 (zj_fin C' hall hH hI)
    · rintro f q ⟨mV', mN'⟩ hq ⟨hm1, hm2⟩ ih
      dsimp only at hm1 hm2 ih ⊢
      have c1 : (nI (48 * t + q)).toNatClampNeg = 48 * t + q := nI_clamp (by omega)
      have c2 : (nI (48 * t + 48 + q)).toNatClampNeg = 48 * (t + 1) + q := by rw [nI_clamp (by omega)]; omega
      have i1 : vp_in (nI (48 * t + q)) 1200 := vp_in_nI (by omega) (by decide)
      have i2 : vp_in (nI (48 * t + 48 + q)) 1200 := vp_in_nI (by omega) (by decide)
      refine br_f (nI_ge hq (by omega)) ?_
      rw [nI_add, nI_add, c1, c2]
      refine ⟨i1, i2, nm_e ⟨i1, i2, nm_e (nm_r (nI_1 q) (ih (upd mV' (48 * (t + 1) + q) (mV' (48 * t + q)), upd mN' (48 * (t + 1) + q) (vp_nar .boolean (mN' (48 * t + q)))) ⟨?_, ?_⟩))⟩⟩
      · intro r hr
        dsimp only
        by_cases e : r = q
        · rw [e, pk_us, pk_us, (hm2 (48 * t + q) (by omega)).1, (hm2 (48 * t + q) (by omega)).2]
          exact ⟨rfl, rfl⟩
        · rw [pk_un (by omega), pk_un (by omega)]; exact hm1 r (by omega)
      · intro j hj
        dsimp only
        rw [pk_un (by omega), pk_un (by omega)]; exact hm2 j hj
  · rintro f v ⟨pS', pV'⟩ hv ⟨hp1, hp2⟩ ih
    dsimp only at hp1 hp2 ih ⊢
    have c1 : (nI (10 * t + v)).toNatClampNeg = 10 * t + v := nI_clamp (by omega)
    have i1 : vp_in (nI (10 * t + v)) 240 := vp_in_nI (by omega) (by decide)
    refine br_f (nI_ge hv (by omega)) ?_
    rw [nI_add, c1]
    refine ⟨i1, nm_e ⟨i1, nm_e (nm_r (nI_1 v) (ih (upd pS' (10 * t + v) 0, upd pV' (10 * t + v) 0) ⟨?_, ?_⟩))⟩⟩
    · intro w hw
      dsimp only
      by_cases e : w = v
      · rw [e, pk_us, pk_us]; exact ⟨rfl, rfl⟩
      · rw [pk_un (by omega), pk_un (by omega)]; exact hp1 w (by omega)
    · intro j hj
      dsimp only
      rw [pk_un (by omega), pk_un (by omega)]; exact hp2 j hj
end
end
section
/-! the reference's small walks of an instant -/
def zy_p (vs vv : Nat → Int32) (x u : Nat) : Int32 :=
  if x = 0 then 1 else if vs (10 * u + (x - 1) / 2) = 3 then 3 else if vs (10 * u + (x - 1) / 2) = 0 then 0 else if (vv (10 * u + (x - 1) / 2) = 0 ∧ (x - 1) % 2 = 0) ∨ (¬ vv (10 * u + (x - 1) / 2) = 0 ∧ (x - 1) % 2 = 1) then 1 else 0
theorem zy_pP {vs vv : Nat → Int32} {x u : Nat} (h : x ≠ 0 → ¬ vs (10 * u + (x - 1) / 2) = 3) : (zy_p vs vv x u = 1 ∧ zr_P vs vv x u) ∨ (zy_p vs vv x u = 0 ∧ ¬ zr_P vs vv x u) := by
  unfold zy_p zr_P
  by_cases e : x = 0
  · rw [if_pos e]; exact Or.inl ⟨rfl, Or.inl e⟩
  · rw [if_neg e, if_neg (h e)]
    by_cases e0 : vs (10 * u + (x - 1) / 2) = 0
    · rw [if_pos e0]
      refine Or.inr ⟨rfl, ?_⟩
      rintro (h | h)
      · exact e h
      · exact h.1 e0
    · rw [if_neg e0]
      by_cases ev : vv (10 * u + (x - 1) / 2) = 0
      · by_cases em : (x - 1) % 2 = 0
        · rw [if_pos (Or.inl ⟨ev, em⟩)]
          exact Or.inl ⟨rfl, Or.inr ⟨e0, fun h => absurd ev h, fun h => by omega⟩⟩
        · rw [if_neg]
          · refine Or.inr ⟨rfl, ?_⟩
            rintro (h | h)
            · exact e h
            · exact absurd ev (h.2.mpr (by omega))
          · rintro (h | h)
            · exact em h.2
            · exact h.1 ev
      · by_cases em : (x - 1) % 2 = 1
        · rw [if_pos (Or.inr ⟨ev, em⟩)]
          exact Or.inl ⟨rfl, Or.inr ⟨e0, fun _ => em, fun _ => ev⟩⟩
        · rw [if_neg]
          · refine Or.inr ⟨rfl, ?_⟩
            rintro (h | h)
            · exact e h
            · exact em (h.2.mp ev)
          · rintro (h | h)
            · exact ev h.1
            · exact em h.2
theorem zy_p3 {vs vv : Nat → Int32} {x u : Nat} (h0 : x ≠ 0) (h : vs (10 * u + (x - 1) / 2) = 3) : zy_p vs vv x u = 3 := by
  unfold zy_p
  rw [if_neg h0, if_pos h]
section
variable {MV MN MI vc nc no ph ve fa : Int32} {rl ck qn pd yl ys yr kd fl yd ye yn vs vv ns nv : Nat → Int32}
theorem yp_pr {post : Int32 → Prop} {x u : Nat} (hx : x ≤ 20) (hu : u < 24) (h : post (zy_p vs vv x u)) : wpY_present post (MV, MN, MI, vc, nc, no, ph, ve, fa, rl, ck, qn, pd, yl, ys, yr, kd, fl, yd, ye, yn, vs, vv, ns, nv) (nI x) (nI u) := by
  unfold zy_p at h
  unfold wpY_present
  by_cases e : x = 0
  · rw [if_pos e] at h
    exact br_f (fun h => by have := (zg_0 (a := x) (by omega)).mp h; omega) h
  · rw [if_neg e] at h
    have ci : (nI (10 * u + (x - 1) / 2)).toNatClampNeg = 10 * u + (x - 1) / 2 := nI_clamp (by omega)
    have ii : vp_in (nI (10 * u + (x - 1) / 2)) 240 := vp_in_nI (by omega) (by decide)
    refine br_t ((zg_0 (by omega)).mpr (by omega)) ⟨za_20, ?_⟩
    rw [za_m10, za_s1 (by omega), za_d2 (by omega), nI_add]
    refine nm_e ⟨ii, ?_⟩
    rw [ci]
    by_cases e3 : vs (10 * u + (x - 1) / 2) = 3
    · rw [if_pos e3] at h
      rw [e3]
      exact br_t rfl ⟨ii, h⟩
    · rw [if_neg e3] at h
      refine br_f e3 ⟨ii, ?_⟩
      by_cases e0 : vs (10 * u + (x - 1) / 2) = 0
      · rw [if_pos e0] at h
        rw [e0]
        exact br_t rfl ⟨ii, h⟩
      · rw [if_neg e0] at h
        refine br_f e0 ⟨ii, ?_⟩
        have er : nI (x - 1) - nI (x - 1) / 2 * 2 = nI ((x - 1) % 2) := pk_rem (d := 2) (by omega) (by decide) (by decide)
        have e57 : ∀ z : Int32, (((x - 1) % 2 = 1 ∧ z = 1) ∨ (¬ (x - 1) % 2 = 1 ∧ z = 0) → post 1) → (¬ (((x - 1) % 2 = 1 ∧ z = 1) ∨ (¬ (x - 1) % 2 = 1 ∧ z = 0)) → post 0) → wY_present_57 post (nI x) z MV MN MI vc nc no ph ve fa rl ck qn pd yl ys yr kd fl yd ye yn vs vv ns nv := by
          intro z p1 p0
          unfold wY_present_57
          rw [za_s1 (by omega), er]
          refine ⟨za_20, ?_⟩
          by_cases em : (x - 1) % 2 = 1
          · refine br_t (by rw [em]; rfl) ?_
            exact br_c (fun hz => p1 (Or.inl ⟨em, hz⟩)) (fun hz => p0 (fun h => h.elim (fun h => hz h.2) (fun h => h.1 em)))
          · refine br_f (fun h => em ((zq_1 (by omega)).mp h)) ?_
            exact br_c (fun hz => p1 (Or.inr ⟨em, hz⟩)) (fun hz => p0 (fun h => h.elim (fun h => em h.1) (fun h => hz h.2)))
        by_cases ev : vv (10 * u + (x - 1) / 2) = 0
        · refine br_t ev (e57 0 ?_ ?_)
          · rintro (⟨_, h⟩ | ⟨hm, _⟩)
            · exact absurd h za_01
            · rw [if_pos (Or.inl ⟨ev, by omega⟩)] at h; exact h
          · intro hn
            rw [if_neg] at h
            · exact h
            · rintro (hh | hh)
              · exact hn (Or.inr ⟨by omega, rfl⟩)
              · exact hh.1 ev
        · refine br_f ev (e57 1 ?_ ?_)
          · rintro (⟨hm, _⟩ | ⟨_, h⟩)
            · rw [if_pos (Or.inr ⟨ev, hm⟩)] at h; exact h
            · exact absurd h za_10
          · intro hn
            rw [if_neg] at h
            · exact h
            · rintro (hh | hh)
              · exact ev hh.1
              · exact hn (Or.inl ⟨hh.2, rfl⟩)
theorem yp_last {post : Int32 → Prop} {x T : Nat} (hx : x ≤ 20) (hT : T ≤ 24) (hk : ∀ u, u < T → x ≠ 0 → ¬ vs (10 * u + (x - 1) / 2) = 3) (h1 : ∀ u, zr_last vs vv x T u → post (nI u)) (h0 : zr_none vs vv x T → post (-1)) : wpY_last post (MV, MN, MI, vc, nc, no, ph, ve, fa, rl, ck, qn, pd, yl, ys, yr, kd, fl, yd, ye, yn, vs, vv, ns, nv) (nI x) (zx_ T) := by
  refine ⟨T + 1, pk_loopD (fun f e (_ : Unit) => wY_last_2 post (nI x) MV MN MI vc nc no ph ve fa rl ck qn pd yl ys yr kd fl yd ye yn vs vv ns nv f (zx_ e)) (fun e _ => e ≤ T ∧ ∀ u, e ≤ u → u < T → ¬ zr_P vs vv x u) ?_ ?_ T () ⟨Nat.le_refl _, fun u h1 h2 => by omega⟩⟩
  · intro f _ ⟨_, hI⟩
    exact br_t za_m0 (h0 (fun u hu => hI u (Nat.zero_le _) hu))
  · intro f e _ ⟨he, hI⟩ ih
    refine br_f (nI_pos (by omega)) (yp_pr hx (by omega) ?_)
    rcases zy_pP (vs := vs) (vv := vv) (x := x) (u := e) (hk e (by omega)) with ⟨a, b⟩ | ⟨a, b⟩
    · rw [a]
      exact br_t rfl (h1 e ⟨by omega, b, fun u' h1 h2 => hI u' (by omega) h2⟩)
    · rw [a]
      refine br_f za_01 (nm_r (zx_s e) (ih () ⟨by omega, fun u h1 h2 => ?_⟩))
      by_cases e' : u = e
      · rw [e']; exact b
      · exact hI u (by omega) h2
theorem yp_put {post : SY → Prop} {n t : Nat} {s x : Int32} (hn : n < 48) (ht : t < 24) (h : post (MV, MN, MI, vc, nc, no, ph, ve, fa, rl, ck, qn, pd, yl, ys, yr, kd, fl, yd, ye, yn, vs, vv, upd ns (48 * t + n) s, upd nv (48 * t + n) x)) : wpY_put post (MV, MN, MI, vc, nc, no, ph, ve, fa, rl, ck, qn, pd, yl, ys, yr, kd, fl, yd, ye, yn, vs, vv, ns, nv) (nI n) (nI t) s x := by
  have ci : (nI (48 * t + n)).toNatClampNeg = 48 * t + n := nI_clamp (by omega)
  have ii : vp_in (nI (48 * t + n)) 1152 := vp_in_nI (by omega) (by decide)
  unfold wpY_put
  dsimp only
  rw [za_m48, nI_add, ci]
  exact ⟨ii, nm_e ⟨ii, nm_e h⟩⟩
theorem yp_copy {post : SY → Prop} {n t a u : Nat} (hn : n < 48) (ht : t < 24) (ha : a < 48) (hu : u < 24) (h : post (MV, MN, MI, vc, nc, no, ph, ve, fa, rl, ck, qn, pd, yl, ys, yr, kd, fl, yd, ye, yn, vs, vv, upd ns (48 * t + n) (ns (48 * u + a)), upd nv (48 * t + n) (nv (48 * u + a)))) : wpY_copy post (MV, MN, MI, vc, nc, no, ph, ve, fa, rl, ck, qn, pd, yl, ys, yr, kd, fl, yd, ye, yn, vs, vv, ns, nv) (nI n) (nI t) (nI a) (nI u) := by
  have ci : (nI (48 * u + a)).toNatClampNeg = 48 * u + a := nI_clamp (by omega)
  have ii : vp_in (nI (48 * u + a)) 1152 := vp_in_nI (by omega) (by decide)
  unfold wpY_copy
  dsimp only
  rw [za_m48, nI_add, ci]
  exact ⟨ii, ii, yp_put hn ht h⟩
theorem yp_strict {post : SY → Prop} {V n t : Nat} (hn : n < 48) (ht : t < 24) (hW : zp_N V kd fl n) (hs : zi_st (zp_n kd n))
    (hU : (∃ j, j < zp_ar (zp_n kd n) ∧ ns (48 * t + zp_op kd fl n j) = 3) → post (MV, MN, MI, vc, nc, no, ph, ve, fa, rl, ck, qn, pd, yl, ys, yr, kd, fl, yd, ye, yn, vs, vv, ns, nv))
    (hK : (∀ j, j < zp_ar (zp_n kd n) → ¬ ns (48 * t + zp_op kd fl n j) = 3) → ∀ s x, (zi_ny kd fl ns t n → s = 2 ∧ x = 0) → (¬ zi_ny kd fl ns t n → s = 1 ∧ x = zi_ap (zp_n kd n) (zi_a kd fl nv t n 0) (zi_a kd fl nv t n 1) (zi_a kd fl nv t n 2)) → post (MV, MN, MI, vc, nc, no, ph, ve, fa, rl, ck, qn, pd, yl, ys, yr, kd, fl, yd, ye, yn, vs, vv, upd ns (48 * t + n) s, upd nv (48 * t + n) x)) : wpY_strict post (MV, MN, MI, vc, nc, no, ph, ve, fa, rl, ck, qn, pd, yl, ys, yr, kd, fl, yd, ye, yn, vs, vv, ns, nv) (nI n) (nI t) := by
  have w := hW
  obtain ⟨n1, n2, n3, n4, n5, n6⟩ := hW
  have c0 : (nI n).toNatClampNeg = n := nI_clamp (by omega)
  have i0 : vp_in (nI n) 48 := vp_in_nI hn (by decide)
  have A3 := zp_ar3 (zp_n kd n)
  unfold wpY_strict
  refine pk_loop (fun f i (z : Int32 × Int32 × Int32 × Int32) => wY_strict_14 post (nI n) (nI t) MV MN MI vc nc no ph ve fa rl ck qn pd yl ys yr kd fl yd ye yn vs vv ns nv f z.1 z.2.1 z.2.2.1 z.2.2.2 (nI i))
    (fun i z => (∀ j, j < i → j < zp_ar (zp_n kd n) → ¬ ns (48 * t + zp_op kd fl n j) = 3) ∧ z.1 = (if 0 < i then zi_a kd fl nv t n 0 else 0) ∧ z.2.1 = (if 1 < i then zi_a kd fl nv t n 1 else 0) ∧ z.2.2.1 = (if 2 < i then zi_a kd fl nv t n 2 else 0) ∧ ((z.2.2.2 = 0 ∧ ∀ j, j < i → j < zp_ar (zp_n kd n) → ¬ ns (48 * t + zp_op kd fl n j) = 2) ∨ (z.2.2.2 = 1 ∧ zi_ny kd fl ns t n))) 3 0 (0, 0, 0, 0) (by omega) ⟨fun j hj => absurd hj (Nat.not_lt_zero j), rfl, rfl, rfl, Or.inl ⟨rfl, fun j hj => absurd hj (Nat.not_lt_zero j)⟩⟩ ?_ ?_
  · rintro f ⟨x, y, z, nil⟩ ⟨h1, h2, h3, h4, h5⟩
    dsimp only at h1 h2 h3 h4 h5
    have hk := hK (fun j hj => h1 j (by omega) hj)
    refine br_t (nI_le (a := 3) (Nat.le_refl _) (by omega)) ⟨i0, ?_⟩
    rw [c0, n1]
    refine ye_ap hs n2 n3 ?_
    rcases h5 with ⟨e, h5⟩ | ⟨e, h5⟩
    · subst e
      refine br_t rfl (yp_put hn ht (hk _ _ (fun hny => ?_) (fun _ => ⟨rfl, ?_⟩)))
      · obtain ⟨j, hj, e⟩ := hny
        exact absurd e (h5 j (by omega) hj)
      · rw [h2, h3, h4]; rfl
    · subst e
      exact br_f za_10 (yp_put hn ht (hk _ _ (fun _ => ⟨rfl, rfl⟩) (fun h => absurd h5 h)))
  · rintro f i ⟨x, y, z, nil⟩ hi ⟨h1, h2, h3, h4, h5⟩ ih
    dsimp only at h1 h2 h3 h4 h5 ih ⊢
    refine br_f (nI_ge (b := 3) hi (by omega)) (ya_opW (V := V) hn w hi ?_)
    by_cases hl : i < zp_ar (zp_n kd n)
    · rw [if_pos hl]
      have o2 := (n4 i hl).2
      have ci : (nI (48 * t + zp_op kd fl n i)).toNatClampNeg = 48 * t + zp_op kd fl n i := nI_clamp (by omega)
      have ii : vp_in (nI (48 * t + zp_op kd fl n i)) 1152 := vp_in_nI (by omega) (by decide)
      have ea : zi_a kd fl nv t n i = nv (48 * t + zp_op kd fl n i) := by unfold zi_a; rw [if_pos hl]
      refine br_f (nI_pos (by omega)) ?_
      rw [za_m48, nI_add, ci]
      refine ⟨ii, br_c (fun e => hU ⟨i, hl, e⟩) (fun e => ⟨ii, ?_⟩)⟩
      have h1' : ∀ j, j < i + 1 → j < zp_ar (zp_n kd n) → ¬ ns (48 * t + zp_op kd fl n j) = 3 := by
        intro j hj hja
        by_cases e' : j = i
        · rw [e']; exact e
        · exact h1 j (by omega) hja
      have K : ∀ nil', ((nil' = 0 ∧ ∀ j, j < i + 1 → j < zp_ar (zp_n kd n) → ¬ ns (48 * t + zp_op kd fl n j) = 2) ∨ (nil' = 1 ∧ zi_ny kd fl ns t n)) → wY_strict_70 post (wY_strict_14 post (nI n) (nI t) MV MN MI vc nc no ph ve fa rl ck qn pd yl ys yr kd fl yd ye yn vs vv ns nv f) (nI n) (nI t) x y z nil' (nI i) (nI (zp_op kd fl n i)) MV MN MI vc nc no ph ve fa rl ck qn pd yl ys yr kd fl yd ye yn vs vv ns nv := by
        intro nil' hnil'
        unfold wY_strict_70 wY_strict_88 wY_strict_108
        rw [za_m48, nI_add, ci]
        have hc : i = 0 ∨ i = 1 ∨ i = 2 := by omega
        rcases hc with rfl | rfl | rfl
        · exact br_t rfl ⟨ii, nm_e (br_f (by decide) (br_f (by decide) (nm_r (nI_1 0) (ih (_, y, z, nil') ⟨h1', ea.symm, h3, h4, hnil'⟩))))⟩
        · exact br_f (by decide) (br_t rfl ⟨ii, nm_e (br_f (by decide) (nm_r (nI_1 1) (ih (x, _, z, nil') ⟨h1', h2, ea.symm, h4, hnil'⟩)))⟩)
        · exact br_f (by decide) (br_f (by decide) (br_t rfl ⟨ii, nm_e (nm_r (nI_1 2) (ih (x, y, _, nil') ⟨h1', h2, h3, ea.symm, hnil'⟩))⟩))
      refine br_c (fun e2 => K 1 (Or.inr ⟨rfl, i, hl, e2⟩)) (fun e2 => K nil ?_)
      rcases h5 with ⟨a, b⟩ | h5
      · refine Or.inl ⟨a, fun j hj hja => ?_⟩
        by_cases e' : j = i
        · rw [e']; exact e2
        · exact b j (by omega) hja
      · exact Or.inr h5
    · rw [if_neg hl]
      have ez : ∀ j, i ≤ j → zi_a kd fl nv t n j = 0 := by
        intro j hj; unfold zi_a; rw [if_neg (by omega)]
      refine br_t za_m0 (nm_r (nI_1 i) (ih (x, y, z, nil) ⟨fun j hj hja => h1 j (by omega) hja, ?_, ?_, ?_, ?_⟩))
      · dsimp only
        rw [h2]
        by_cases e : i = 0
        · subst e; rw [if_neg (by omega), if_pos (by omega), ez 0 (by omega)]
        · rw [if_pos (by omega), if_pos (by omega)]
      · dsimp only
        rw [h3]
        by_cases e : i = 1
        · subst e; rw [if_neg (by omega), if_pos (by omega), ez 1 (by omega)]
        · by_cases e2 : 1 < i
          · rw [if_pos e2, if_pos (by omega)]
          · rw [if_neg e2, if_neg (by omega)]
      · dsimp only
        rw [h4]
        by_cases e : i = 2
        · subst e; rw [if_neg (by omega), if_pos (by omega), ez 2 (by omega)]
        · rw [if_neg (by omega), if_neg (by omega)]
      · rcases h5 with ⟨a, b⟩ | h5
        · exact Or.inl ⟨a, fun j hj hja => b j (by omega) hja⟩
        · exact Or.inr h5
end
end
section
/-! the reference's evalNode and evalVariable against a solved row -/
def zy_A (V N T : Nat) (lv vs vv ns nv vsG vvG nsG nvG : Nat → Int32) : Prop :=
  ∀ u, u < T → (∀ v, v < V → vs (10 * u + v) = vsG (10 * u + v) ∧ vv (10 * u + v) = vvG (10 * u + v)) ∧ (∀ n, n < N → lv n = 1 → ns (48 * u + n) = nsG (48 * u + n) ∧ nv (48 * u + n) = nvG (48 * u + n))
def zy_C (V N t : Nat) (rl ck qn pd kd fl lv ex ow de yd vsG vvG nsG nvG : Nat → Int32) : Prop :=
  zp_W V N rl ck qn kd fl ∧ V ≤ 10 ∧ N ≤ 48 ∧ t < 24 ∧ zt_L V N ck qn kd fl lv ex ow de ∧ (∀ n, n < N → lv n = 1 → ¬ zt_off ck kd fl de n) ∧ (∀ v, v < V → rl v = 1 → ¬ qn v = -1) ∧ (∀ n, n < N → yd n = de n) ∧
  zi_R V N rl ck qn pd kd fl lv de vsG vvG nsG nvG t ∧ (∀ u v, u < t → v < V → ¬ vsG (10 * u + v) = 3)
def zy_I (V N t : Nat) (lv vs vv ns nv vsG vvG nsG nvG : Nat → Int32) : Prop :=
  (∀ v, v < V → vs (10 * t + v) = 3 ∨ (vs (10 * t + v) = vsG (10 * t + v) ∧ vv (10 * t + v) = vvG (10 * t + v))) ∧
  (∀ n, n < N → lv n = 1 → ns (48 * t + n) = 3 ∨ (ns (48 * t + n) = nsG (48 * t + n) ∧ nv (48 * t + n) = nvG (48 * t + n))) ∧ zy_A V N t lv vs vv ns nv vsG vvG nsG nvG
/-- the inputs of node n are known -/
def zy_n (kd fl de vs ns : Nat → Int32) (t n : Nat) : Prop :=
  (zp_n de n ≠ 0 → ¬ vs (10 * t + (zp_n de n - 1) / 2) = 3) ∧ ((zp_n kd n = 2 ∨ 16 ≤ zp_n kd n) → ¬ vs (10 * t + zp_n fl (4 * n)) = 3) ∧ (zp_n kd n ≠ 5 → ∀ j, j < zp_ar (zp_n kd n) → ¬ ns (48 * t + zp_op kd fl n j) = 3)
def zy_v (V : Nat) (ck qn vs ns : Nat → Int32) (t v : Nat) : Prop :=
  (zp_n ck v ≠ 0 → ¬ vs (10 * t + (zp_n ck v - 1) / 2) = 3) ∧ (∀ r, zp_O V qn r v → ¬ ns (48 * t + r) = 3)
section
variable {V N t n : Nat} {lv vs vv ns nv vsG vvG nsG nvG : Nat → Int32} {s x : Int32}
theorem zy_put (hN : N ≤ 48) (hn : n < N) (h : zy_I V N t lv vs vv ns nv vsG vvG nsG nvG) (hs : s = 3 ∨ (s = nsG (48 * t + n) ∧ x = nvG (48 * t + n))) : zy_I V N t lv vs vv (upd ns (48 * t + n) s) (upd nv (48 * t + n) x) vsG vvG nsG nvG := by
  refine ⟨h.1, fun m hm hl => ?_, fun u hu => ⟨(h.2.2 u hu).1, fun m hm hl => ?_⟩⟩
  · by_cases e : m = n
    · rw [e, pk_us, pk_us]; exact hs
    · rw [pk_un (by omega), pk_un (by omega)]; exact h.2.1 m hm hl
  · rw [pk_un (by omega), pk_un (by omega)]; exact (h.2.2 u hu).2 m hm hl
theorem zy_putv {v : Nat} (hV : V ≤ 10) (hv : v < V) (h : zy_I V N t lv vs vv ns nv vsG vvG nsG nvG) (hs : s = 3 ∨ (s = vsG (10 * t + v) ∧ x = vvG (10 * t + v))) : zy_I V N t lv (upd vs (10 * t + v) s) (upd vv (10 * t + v) x) ns nv vsG vvG nsG nvG := by
  refine ⟨fun m hm => ?_, h.2.1, fun u hu => ⟨fun m hm => ?_, (h.2.2 u hu).2⟩⟩
  · by_cases e : m = v
    · rw [e, pk_us, pk_us]; exact hs
    · rw [pk_un (by omega), pk_un (by omega)]; exact h.1 m hm
  · rw [pk_un (by omega), pk_un (by omega)]; exact (h.2.2 u hu).1 m hm
theorem zy_PA {T u : Nat} {x : Nat} (h : zy_A V N T lv vs vv ns nv vsG vvG nsG nvG) (hx : x ≤ 2 * V) (hu : u < T) : zr_P vs vv x u ↔ zr_P vsG vvG x u := zr_Pc (fun h0 => (h u hu).1 _ (by omega))
theorem zy_PI {x : Nat} (h : zy_I V N t lv vs vv ns nv vsG vvG nsG nvG) (hx : x ≤ 2 * V) (hk : x ≠ 0 → ¬ vs (10 * t + (x - 1) / 2) = 3) : zr_P vs vv x t ↔ zr_P vsG vvG x t :=
  zr_Pc (fun h0 => (h.1 _ (by omega)).resolve_left (hk h0))
end
section
variable {MV MN MI vc nc no ph ve fa : Int32} {rl ck qn pd yl ys yr kd fl yd ye yn vs vv ns nv : Nat → Int32} {lv ex ow de vsG vvG nsG nvG : Nat → Int32}
theorem yi_node {post : SY → Prop} {V N t n : Nat} (C : zy_C V N t rl ck qn pd kd fl lv ex ow de yd vsG vvG nsG nvG) (hn : n < N) (hl : lv n = 1) (hI : zy_I V N t lv vs vv ns nv vsG vvG nsG nvG)
    (h : ∀ ns' nv' : Nat → Int32, zy_I V N t lv vs vv ns' nv' vsG vvG nsG nvG → (∀ i, i ≠ 48 * t + n → ns' i = ns i ∧ nv' i = nv i) → (zy_n kd fl de vs ns t n → ¬ ns' (48 * t + n) = 3) → post (MV, MN, MI, vc, nc, no, ph, ve, fa, rl, ck, qn, pd, yl, ys, yr, kd, fl, yd, ye, yn, vs, vv, ns', nv')) (h3 : ns (48 * t + n) = 3) : wpY_evalNode post (MV, MN, MI, vc, nc, no, ph, ve, fa, rl, ck, qn, pd, yl, ys, yr, kd, fl, yd, ye, yn, vs, vv, ns, nv) (nI n) (nI t) := by
  obtain ⟨hW, hV, hN, ht, hL, hoff, hmiss, hyd, hR, hKn⟩ := C
  obtain ⟨c1, c2, c3, c4, c5⟩ := zi_ck hW hV hL hoff hn hl
  obtain ⟨n1, n2, n3, n4, n5, n6⟩ := hW.2 n hn
  have tN := hR.2 n hn hl
  have hA := hI.2.2
  have cn : (nI n).toNatClampNeg = n := nI_clamp (by omega)
  have i0 : vp_in (nI n) 48 := vp_in_nI (by omega) (by decide)
  have d0 : (nI (4 * n)).toNatClampNeg = 4 * n := nI_clamp (by omega)
  have d1 : (nI (4 * n + 1)).toNatClampNeg = 4 * n + 1 := nI_clamp (by omega)
  have d2 : (nI (4 * n + 2)).toNatClampNeg = 4 * n + 2 := nI_clamp (by omega)
  have d3 : (nI (4 * n + 3)).toNatClampNeg = 4 * n + 3 := nI_clamp (by omega)
  have j0 : vp_in (nI (4 * n)) 192 := vp_in_nI (by omega) (by decide)
  have j1 : vp_in (nI (4 * n + 1)) 192 := vp_in_nI (by omega) (by decide)
  have j2 : vp_in (nI (4 * n + 2)) 192 := vp_in_nI (by omega) (by decide)
  have j3 : vp_in (nI (4 * n + 3)) 192 := vp_in_nI (by omega) (by decide)
  have known : ∀ x u, x ≤ 2 * V → u < t → x ≠ 0 → ¬ vs (10 * u + (x - 1) / 2) = 3 := by
    intro x u hx hu h0
    rw [((hA u hu).1 ((x - 1) / 2) (by omega)).1]
    exact hKn u _ hu (by omega)
  have FIN : ∀ s x, (s = 3 ∨ (s = nsG (48 * t + n) ∧ x = nvG (48 * t + n))) → (zy_n kd fl de vs ns t n → ¬ s = 3) → post (MV, MN, MI, vc, nc, no, ph, ve, fa, rl, ck, qn, pd, yl, ys, yr, kd, fl, yd, ye, yn, vs, vv, upd ns (48 * t + n) s, upd nv (48 * t + n) x) := by
    intro s x a b
    refine h _ _ (zy_put hN hn hI a) (fun i hi => ⟨pk_un hi, pk_un hi⟩) (fun k => ?_)
    rw [pk_us]; exact b k
  have NOP : ¬ zy_n kd fl de vs ns t n → post (MV, MN, MI, vc, nc, no, ph, ve, fa, rl, ck, qn, pd, yl, ys, yr, kd, fl, yd, ye, yn, vs, vv, ns, nv) := fun hno => h ns nv hI (fun i _ => ⟨rfl, rfl⟩) (fun k => absurd k hno)
  unfold wpY_evalNode
  dsimp only
  rw [cn, hyd n hn, c5, za_4m]
  refine ⟨i0, nm_r n1 (nm_e ⟨i0, yp_pr (by omega) ht ?_⟩)⟩
  by_cases hk : zp_n de n ≠ 0 → ¬ vs (10 * t + (zp_n de n - 1) / 2) = 3
  rotate_left
  · have hk0 : zp_n de n ≠ 0 ∧ vs (10 * t + (zp_n de n - 1) / 2) = 3 := by
      refine Classical.byContradiction (fun hc => hk (fun h0 h3 => hc ⟨h0, h3⟩))
    rw [zy_p3 hk0.1 hk0.2]
    exact br_f (by decide) (br_f (by decide) (NOP (fun k => k.1 hk0.1 hk0.2)))
  rcases zy_pP (vv := vv) hk with ⟨e, hp⟩ | ⟨e, hp⟩
  rotate_left
  · rw [e]
    refine br_t rfl (yp_put (by omega) ht ?_)
    have tr := tN.2 (fun hpG => hp ((zy_PI hI c4 hk).mpr hpG))
    exact br_f za_01 (FIN 0 0 (Or.inr ⟨tr.1.symm, tr.2.symm⟩) (fun _ => by decide))
  rw [e]
  refine br_f za_10 ?_
  have hpG : zr_P vsG vvG (zp_n de n) t := (zy_PI hI c4 hk).mp hp
  obtain ⟨tv, tg⟩ := tN.1 hpG
  obtain ⟨v1, v2, v5, v14, v16, v17, v18, vst⟩ := tv
  have tg3 : ¬ nsG (48 * t + n) = 3 := by
    rcases tg with q | ⟨q, _⟩ <;> (rw [q]; decide)
  have TRU : ∀ s x, s = nsG (48 * t + n) → x = nvG (48 * t + n) → post (MV, MN, MI, vc, nc, no, ph, ve, fa, rl, ck, qn, pd, yl, ys, yr, kd, fl, yd, ye, yn, vs, vv, upd ns (48 * t + n) s, upd nv (48 * t + n) x) := fun s x a b => FIN s x (Or.inr ⟨a, b⟩) (fun _ => by rw [a]; exact tg3)
  have opl : ∀ j, j < zp_ar (zp_n kd n) → zp_op kd fl n j < N := fun j hj => by have := (n4 j hj).2; omega
  -- a copy of an operand of this instant
  have CPT : ∀ j, j < zp_ar (zp_n kd n) → zp_n kd n ≠ 5 → nsG (48 * t + n) = nsG (48 * t + zp_op kd fl n j) → nvG (48 * t + n) = nvG (48 * t + zp_op kd fl n j) → post (MV, MN, MI, vc, nc, no, ph, ve, fa, rl, ck, qn, pd, yl, ys, yr, kd, fl, yd, ye, yn, vs, vv, upd ns (48 * t + n) (ns (48 * t + zp_op kd fl n j)), upd nv (48 * t + n) (nv (48 * t + zp_op kd fl n j))) := by
    intro j hj k5 a b
    rcases hI.2.1 _ (opl j hj) (c1 j hj).1 with q | ⟨q, q'⟩
    · exact FIN _ _ (Or.inl q) (fun k => absurd q (k.2.2 k5 j hj))
    · exact TRU _ _ (by rw [q, a]) (by rw [q', b])
  have CPU : ∀ j u, j < zp_ar (zp_n kd n) → u < t → nsG (48 * t + n) = nsG (48 * u + zp_op kd fl n j) → nvG (48 * t + n) = nvG (48 * u + zp_op kd fl n j) → post (MV, MN, MI, vc, nc, no, ph, ve, fa, rl, ck, qn, pd, yl, ys, yr, kd, fl, yd, ye, yn, vs, vv, upd ns (48 * t + n) (ns (48 * u + zp_op kd fl n j)), upd nv (48 * t + n) (nv (48 * u + zp_op kd fl n j))) := by
    intro j u hj hu a b
    obtain ⟨q, q'⟩ := (hA u hu).2 _ (opl j hj) (c1 j hj).1
    exact TRU _ _ (by rw [q, a]) (by rw [q', b])
  have lastG : ∀ u, zr_last vs vv (zp_n de n) t u ↔ zr_last vsG vvG (zp_n de n) t u := fun u => zr_lc (fun w hw => zy_PA hA c4 hw)
  have noneG : zr_none vs vv (zp_n de n) t ↔ zr_none vsG vvG (zp_n de n) t := zr_nc (fun w hw => zy_PA hA c4 hw)
  have hb : zp_n kd n < 2 ^ 31 := by omega
  have D : wY_evalNode_38 post (nI n) (nI t) (nI (zp_n kd n)) (nI (4 * n)) 1 MV MN MI vc nc no ph ve fa rl ck qn pd yl ys yr kd fl yd ye yn vs vv ns nv := by
    unfold wY_evalNode_38
    rw [d0, nI_1 (4 * n), za_2, za_3, d1, d2, d3]
    refine br_t rfl ?_
    by_cases k1 : zp_n kd n = 1
    · have tr := v1 k1
      exact br_t ((zq_1 hb).mpr k1) ⟨j0, yp_put (by omega) ht (TRU _ _ tr.1.symm tr.2.symm)⟩
    refine br_f (fun e => k1 ((zq_1 hb).mp e)) ?_
    by_cases k2 : zp_n kd n = 2
    · have tr := v2 k2
      obtain ⟨f1, f2⟩ := n5 (Or.inl k2)
      have ci : (nI (10 * t + zp_n fl (4 * n))).toNatClampNeg = 10 * t + zp_n fl (4 * n) := nI_clamp (by omega)
      have ii : vp_in (nI (10 * t + zp_n fl (4 * n))) 240 := vp_in_nI (by omega) (by decide)
      refine br_t ((zq_2 hb).mpr k2) ?_
      rw [f1, za_m10, nI_add, ci]
      refine ⟨j0, ii, j0, ii, yp_put (by omega) ht ?_⟩
      rcases hI.1 _ f2 with q | ⟨q, q'⟩
      · exact FIN _ _ (Or.inl q) (fun k => absurd q (k.2.1 (Or.inl k2)))
      · exact TRU _ _ (by rw [q, tr.1]) (by rw [q', tr.2])
    refine br_f (fun e => k2 ((zq_2 hb).mp e)) ?_
    by_cases k5 : zp_n kd n = 5
    · have a0 : 0 < zp_ar (zp_n kd n) := by rw [k5]; decide
      have o0 := (n4 0 a0).1
      rw [k5, zp_fo_5, show 4 * n + (0 + 0) = 4 * n from rfl] at o0
      refine br_t ((zq_5 hb).mpr k5) ⟨i0, ?_⟩
      rw [cn, hyd n hn, c5, zx_d, o0]
      refine yp_last (by omega) (by omega) (fun u hu h0 => known _ u c4 hu h0) ?_ ?_
      · intro u hu
        have hut := hu.1
        have tr := (v5 k5).1 u ((lastG u).mp hu)
        exact br_t (nI_pos' (by omega)) ⟨j0, yp_copy (by omega) ht (by have := opl 0 a0; omega) (by omega) (CPU 0 u a0 hu.1 tr.1 tr.2)⟩
      · intro hno
        have tr := (v5 k5).2 (noneG.mp hno)
        exact br_f za_m1 (yp_put (by omega) ht (TRU _ _ tr.1.symm tr.2.symm))
    refine br_f (fun e => k5 ((zq_5 hb).mp e)) ?_
    by_cases k14 : zp_n kd n = 14
    · have a0 : 0 < zp_ar (zp_n kd n) := by rw [k14]; decide
      have a1 : 1 < zp_ar (zp_n kd n) := by rw [k14]; decide
      have o0 := (n4 0 a0).1
      have o1 := (n4 1 a1).1
      rw [k14, zp_fo_14, show 4 * n + (0 + 0) = 4 * n from rfl] at o0
      rw [k14, zp_fo_14, show 4 * n + (0 + 1) = 4 * n + 1 from rfl] at o1
      refine br_t ((zq_14 hb).mpr k14) ⟨i0, ?_⟩
      rw [cn, hyd n hn, c5, zx_d, o0, o1]
      refine yp_last (by omega) (by omega) (fun u hu h0 => known _ u c4 hu h0) ?_ ?_
      · intro u hu
        have hut := hu.1
        have tr := (v14 k14).2 (zr_nl ((lastG u).mp hu))
        exact br_t (nI_pos' (by omega)) ⟨j1, yp_copy (by omega) ht (by have := opl 1 a1; omega) ht (CPT 1 a1 k5 tr.1 tr.2)⟩
      · intro hno
        have tr := (v14 k14).1 (noneG.mp hno)
        exact br_f za_m1 ⟨j0, yp_copy (by omega) ht (by have := opl 0 a0; omega) ht (CPT 0 a0 k5 tr.1 tr.2)⟩
    refine br_f (fun e => k14 ((zq_14 hb).mp e)) ?_
    by_cases k16 : zp_n kd n = 16
    · have a0 : 0 < zp_ar (zp_n kd n) := by rw [k16]; decide
      have o0 := (n4 0 a0).1
      rw [k16, zp_fo_16, show 4 * n + (2 + 0) = 4 * n + 2 from rfl] at o0
      have tr := v16 k16
      refine br_t ((zq_16 hb).mpr k16) ⟨j2, ?_⟩
      rw [o0]
      exact yp_copy (by omega) ht (by have := opl 0 a0; omega) ht (CPT 0 a0 k5 tr.1 tr.2)
    refine br_f (fun e => k16 ((zq_16 hb).mp e)) ?_
    by_cases k17 : zp_n kd n = 17
    · have a0 : 0 < zp_ar (zp_n kd n) := by rw [k17]; decide
      have a1 : 1 < zp_ar (zp_n kd n) := by rw [k17]; decide
      have o0 := (n4 0 a0).1
      have o1 := (n4 1 a1).1
      rw [k17, zp_fo_17, show 4 * n + (1 + 0) = 4 * n + 1 from rfl] at o0
      rw [k17, zp_fo_17, show 4 * n + (1 + 1) = 4 * n + 2 from rfl] at o1
      obtain ⟨f1, f2⟩ := n5 (Or.inr (by omega))
      have ci : (nI (10 * t + zp_n fl (4 * n))).toNatClampNeg = 10 * t + zp_n fl (4 * n) := nI_clamp (by omega)
      have ii : vp_in (nI (10 * t + zp_n fl (4 * n))) 240 := vp_in_nI (by omega) (by decide)
      refine br_t ((zq_17 hb).mpr k17) ⟨j0, ?_⟩
      rw [f1, za_m10, nI_add, o0, o1]
      refine nm_e ⟨ii, ?_⟩
      rw [ci]
      refine br_c (fun e3 => NOP (fun k => k.2.1 (Or.inr (by omega)) e3)) (fun e3 => ⟨ii, ?_⟩)
      obtain ⟨q, q'⟩ := (hI.1 _ f2).resolve_left e3
      rw [q']
      refine br_c (fun e => ⟨j2, ?_⟩) (fun e => ⟨j1, ?_⟩)
      · have tr := (v17 k17).2 e
        exact yp_copy (by omega) ht (by have := opl 1 a1; omega) ht (CPT 1 a1 k5 tr.1 tr.2)
      · have tr := (v17 k17).1 e
        exact yp_copy (by omega) ht (by have := opl 0 a0; omega) ht (CPT 0 a0 k5 tr.1 tr.2)
    refine br_f (fun e => k17 ((zq_17 hb).mp e)) ?_
    by_cases k18 : zp_n kd n = 18
    · have a0 : 0 < zp_ar (zp_n kd n) := by rw [k18]; decide
      have o0 := (n4 0 a0).1
      rw [k18, zp_fo_18, show 4 * n + (3 + 0) = 4 * n + 3 from rfl] at o0
      obtain ⟨f1, f2⟩ := n5 (Or.inr (by omega))
      obtain ⟨f3, f4⟩ := n6 (Or.inr k18)
      have hcx : zr_cx fl n = 1 + 2 * zp_n fl (4 * n) + zp_n fl (4 * n + 1) := rfl
      refine br_t ((zq_18 hb).mpr k18) ⟨j0, j1, ?_⟩
      unfold wpY_on
      dsimp only
      rw [f1, f3, za_2m, za_1a, nI_add, o0, ← hcx]
      refine yp_pr (by omega) ht ?_
      by_cases e3 : vs (10 * t + zp_n fl (4 * n)) = 3
      · rw [zy_p3 (by omega) (by rw [show (zr_cx fl n - 1) / 2 = zp_n fl (4 * n) by omega]; exact e3)]
        exact br_t rfl (NOP (fun k => k.2.1 (Or.inr (by omega)) e3))
      · have hkx : zr_cx fl n ≠ 0 → ¬ vs (10 * t + (zr_cx fl n - 1) / 2) = 3 := fun _ => by
          rw [show (zr_cx fl n - 1) / 2 = zp_n fl (4 * n) by omega]; exact e3
        have hne : ¬ zy_p vs vv (zr_cx fl n) t = 3 := by
          rcases zy_pP (vv := vv) hkx with ⟨a, _⟩ | ⟨a, _⟩ <;> (rw [a]; decide)
        have hPx : ∀ w, w < t + 1 → (zr_P vs vv (zr_cx fl n) w ↔ zr_P vsG vvG (zr_cx fl n) w) := by
          intro w hw
          by_cases ew : w = t
          · rw [ew]; exact zy_PI hI (by omega) hkx
          · exact zy_PA hA (by omega) (by omega)
        refine br_f hne ?_
        show wpY_last _ _ (nI (zr_cx fl n)) (zx_ (t + 1))
        refine yp_last (by omega) (by omega) (fun u hu h0 => ?_) ?_ ?_
        · by_cases eu : u = t
          · rw [eu]; exact hkx h0
          · exact known _ u (by omega) (by omega) h0
        · intro u hu
          have hut := hu.1
          have tr := (v18 k18).1 u ((zr_lc hPx).mp hu)
          refine br_t (nI_pos' (by omega)) ⟨j3, yp_copy (by omega) ht (by have := opl 0 a0; omega) (by omega) ?_⟩
          by_cases eu : u = t
          · subst eu
            exact CPT 0 a0 k5 tr.1 tr.2
          · exact CPU 0 u a0 (by omega) tr.1 tr.2
        · intro hno
          have tr := (v18 k18).2 ((zr_nc hPx).mp hno)
          exact br_f za_m1 ⟨j2, yp_put (by omega) ht (TRU _ _ tr.1.symm tr.2.symm)⟩
    refine br_f (fun e => k18 ((zq_18 hb).mp e)) ?_
    have hst : zi_st (zp_n kd n) := ⟨k1, k2, k5, k14, k16, k17, k18⟩
    refine yp_strict (V := V) (by omega) ht (hW.2 n hn) hst ?_ ?_
    · rintro ⟨j, hj, e⟩
      exact NOP (fun k => k.2.2 k5 j hj e)
    · intro hkn s x a b
      have opG : ∀ j, j < zp_ar (zp_n kd n) → ns (48 * t + zp_op kd fl n j) = nsG (48 * t + zp_op kd fl n j) ∧ nv (48 * t + zp_op kd fl n j) = nvG (48 * t + zp_op kd fl n j) :=
        fun j hj => (hI.2.1 _ (opl j hj) (c1 j hj).1).resolve_left (hkn j hj)
      have eny : zi_ny kd fl ns t n ↔ zi_ny kd fl nsG t n := by
        constructor
        · rintro ⟨j, hj, e⟩; exact ⟨j, hj, by rw [← (opG j hj).1]; exact e⟩
        · rintro ⟨j, hj, e⟩; exact ⟨j, hj, by rw [(opG j hj).1]; exact e⟩
      have ea : ∀ j, zi_a kd fl nv t n j = zi_a kd fl nvG t n j := by
        intro j; unfold zi_a; split
        · rename_i hj; exact (opG j hj).2
        · rfl
      by_cases hny : zi_ny kd fl ns t n
      · have tr := (vst hst).1 (eny.mp hny)
        exact TRU _ _ (by rw [(a hny).1, tr.1]) (by rw [(a hny).2, tr.2])
      · have tr := (vst hst).2 (fun hh => hny (eny.mpr hh))
        exact TRU _ _ (by rw [(b hny).1, tr.1]) (by rw [(b hny).2, tr.2, ea, ea, ea])
  exact D
theorem yi_var {post : SY → Prop} {V N t v : Nat} (C : zy_C V N t rl ck qn pd kd fl lv ex ow de yd vsG vvG nsG nvG) (hv : v < V) (hI : zy_I V N t lv vs vv ns nv vsG vvG nsG nvG)
    (h : ∀ vs' vv' : Nat → Int32, zy_I V N t lv vs' vv' ns nv vsG vvG nsG nvG → (∀ i, i ≠ 10 * t + v → vs' i = vs i ∧ vv' i = vv i) → (zy_v V ck qn vs ns t v → ¬ vs' (10 * t + v) = 3) → post (MV, MN, MI, vc, nc, no, ph, ve, fa, rl, ck, qn, pd, yl, ys, yr, kd, fl, yd, ye, yn, vs', vv', ns, nv)) : wpY_evalVariable post (MV, MN, MI, vc, nc, no, ph, ve, fa, rl, ck, qn, pd, yl, ys, yr, kd, fl, yd, ye, yn, vs, vv, ns, nv) (nI v) (nI t) := by
  obtain ⟨hW, hV, hN, ht, hL, hoff, hmiss, hyd, hR, hKn⟩ := C
  have tV := hR.1 v hv
  have hck := (hW.1 v hv).2.1
  have cv : (nI v).toNatClampNeg = v := nI_clamp (by omega)
  have iv : vp_in (nI v) 10 := vp_in_nI (by omega) (by decide)
  have ci : (nI (10 * t + v)).toNatClampNeg = 10 * t + v := nI_clamp (by omega)
  have ii : vp_in (nI (10 * t + v)) 240 := vp_in_nI (by omega) (by decide)
  have FIN : ∀ s x, (s = 3 ∨ (s = vsG (10 * t + v) ∧ x = vvG (10 * t + v))) → (zy_v V ck qn vs ns t v → ¬ s = 3) → post (MV, MN, MI, vc, nc, no, ph, ve, fa, rl, ck, qn, pd, yl, ys, yr, kd, fl, yd, ye, yn, upd vs (10 * t + v) s, upd vv (10 * t + v) x, ns, nv) := by
    intro s x a b
    refine h _ _ (zy_putv hV hv hI a) (fun i hi => ⟨pk_un hi, pk_un hi⟩) (fun k => ?_)
    rw [pk_us]; exact b k
  have NOP : ¬ zy_v V ck qn vs ns t v → post (MV, MN, MI, vc, nc, no, ph, ve, fa, rl, ck, qn, pd, yl, ys, yr, kd, fl, yd, ye, yn, vs, vv, ns, nv) := fun hno => h vs vv hI (fun i _ => ⟨rfl, rfl⟩) (fun k => absurd k hno)
  unfold wpY_evalVariable
  dsimp only
  rw [cv, hck.1, za_m10, nI_add]
  refine nm_e ⟨iv, yp_pr (by omega) ht ?_⟩
  rw [ci]
  by_cases hk : zp_n ck v ≠ 0 → ¬ vs (10 * t + (zp_n ck v - 1) / 2) = 3
  rotate_left
  · have hk0 : zp_n ck v ≠ 0 ∧ vs (10 * t + (zp_n ck v - 1) / 2) = 3 := by
      refine Classical.byContradiction (fun hc => hk (fun h0 h3 => hc ⟨h0, h3⟩))
    rw [zy_p3 hk0.1 hk0.2]
    exact br_f (by decide) (br_f (by decide) (NOP (fun k => k.1 hk0.1 hk0.2)))
  have hPe := zy_PI hI (x := zp_n ck v) (by omega) hk
  rcases zy_pP (vv := vv) hk with ⟨e, hp⟩ | ⟨e, hp⟩
  · rw [e]
    refine br_f za_10 ?_
    have tr := tV.1 (hPe.mp hp)
    have tg3 : ¬ vsG (10 * t + v) = 3 := by
      rcases tr.2.2 with q | ⟨q, _⟩ <;> (rw [q]; decide)
    unfold wY_evalVariable_39
    rw [cv, ci]
    refine br_t rfl ⟨iv, ?_⟩
    by_cases hr : rl v = 0
    · refine br_t hr ⟨ii, nm_e ⟨iv, ii, nm_e (FIN _ _ (Or.inr ⟨(tr.1 hr).1.symm, (tr.1 hr).2.symm⟩) (fun _ => by decide))⟩⟩
    · have hr1 : rl v = 1 := (hW.1 v hv).1.resolve_left hr
      refine br_f hr ⟨iv, ?_⟩
      rcases (hW.1 v hv).2.2 with e' | ⟨_, e1, e2⟩
      · exact absurd e' (hmiss v hv hr1)
      · have o : zp_O V qn (zp_n qn v) v := ⟨hv, by omega, e1⟩
        have cr : (nI (48 * t + zp_n qn v)).toNatClampNeg = 48 * t + zp_n qn v := nI_clamp (by omega)
        have ir : vp_in (nI (48 * t + zp_n qn v)) 1152 := vp_in_nI (by omega) (by decide)
        have r1 := (hL.2.1 _ v o).1
        have to := tr.2.1 _ o
        rw [e1]
        refine br_f (nI_pos (by omega)) ⟨iv, ?_⟩
        rw [za_m48, nI_add, cr]
        refine ⟨ir, ii, nm_e ⟨iv, ir, ii, nm_e ?_⟩⟩
        rcases hI.2.1 _ e2 r1 with q | ⟨q, q'⟩
        · exact FIN _ _ (Or.inl q) (fun k => absurd q (k.2 _ o))
        · exact FIN _ _ (Or.inr ⟨by rw [q, to.1], by rw [q', to.2]⟩) (fun _ => by rw [q, ← to.1]; exact tg3)
  · rw [e]
    have tr := tV.2 (fun hh => hp (hPe.mpr hh))
    refine br_t rfl ⟨ii, nm_e ⟨ii, nm_e ?_⟩⟩
    exact br_f za_01 (FIN 0 0 (Or.inr ⟨tr.1.symm, tr.2.symm⟩) (fun _ => by decide))
end
end
section
/-! the reference's instant against a solved row -/
section
variable {V N t n s q v : Nat} {o : Nat → Nat} {rl ck qn pd kd fl lv ex ow de yd vsG vvG nsG nvG vs vv ns nv : Nat → Int32}
theorem zy_ink (C : zy_C V N t rl ck qn pd kd fl lv ex ow de yd vsG vvG nsG nvG) (ho : zd_o V (zd_dp N ck kd fl (zd_E ex ow)) o q) (hcov : zd_cov V o q) (hn : n < N) (hl : lv n = 1) (hq : zl_q ex ow o q s n)
    (hv : ∀ i, i < q → i < s → ¬ vs (10 * t + o i) = 3) (hm : ∀ m, m < n → lv m = 1 → zl_q ex ow o q s m → ¬ ns (48 * t + m) = 3) : zy_n kd fl de vs ns t n := by
  obtain ⟨hW, hV, hN, ht, hL, hoff, hmiss, hyd, hR, hKn⟩ := C
  obtain ⟨c1, c2, c3, c4, c5⟩ := zi_ck hW hV hL hoff hn hl
  refine ⟨?_, ?_, ?_⟩
  · intro h0
    rcases hq with ⟨i, i1, i2, i3, i4⟩ | hq
    · have hov := ho.1 i i1
      have eo : zp_n ow n = o i := zp_nI i4 (by omega)
      rcases zt_CR hW hV hL N n (by omega) hn hl i3 h0 with d | ⟨c, d, d'⟩
      · rw [eo] at d
        obtain ⟨i', a, b⟩ := ho.2 i _ i1 d
        rw [← b]; exact hv i' (by omega) (by omega)
      · rw [eo] at d
        obtain ⟨i', a, b⟩ := ho.2 i _ i1 d
        rw [← b] at d'
        obtain ⟨i'', a', b'⟩ := ho.2 i' _ (by omega) d'
        rw [← b']; exact hv i'' (by omega) (by omega)
    · obtain ⟨i, a, b⟩ := hcov.2 ((zp_n de n - 1) / 2) (by omega)
      rw [← b]; exact hv i a (by omega)
  · intro hk
    have hc := ((hW.2 n hn).2.2.2.2.1 hk).2
    rcases hq with ⟨i, i1, i2, i3, i4⟩ | hq
    · have dp : (zd_dp N ck kd fl (zd_E ex ow)) (o i) (zp_n fl (4 * n)) := Or.inr ⟨n, hn, by unfold zd_E; rw [if_pos i3]; exact i4, hk, rfl⟩
      obtain ⟨i', a, b⟩ := ho.2 i _ i1 dp
      rw [← b]; exact hv i' (by omega) (by omega)
    · obtain ⟨i, a, b⟩ := hcov.2 _ hc
      rw [← b]; exact hv i a (by omega)
  · intro k5 j hj
    have hp : zp_P N kd fl (zp_op kd fl n j) n j := ⟨hn, hj, rfl⟩
    obtain ⟨q1, q2, q3, q4⟩ := hL.2.2.1 _ n j hp trivial
    refine hm _ (c1 j hj).2.1 (c1 j hj).1 ?_
    rcases hq with ⟨i, i1, i2, i3, i4⟩ | hq
    · exact Or.inl ⟨i, i1, i2, by rw [q3, if_neg k5]; exact i3, by rw [q2]; exact i4⟩
    · exact Or.inr hq
theorem zy_inv (C : zy_C V N t rl ck qn pd kd fl lv ex ow de yd vsG vvG nsG nvG) (ho : zd_o V (zd_dp N ck kd fl (zd_E ex ow)) o q) {i : Nat} (hi : i < q) (his : i ≤ s)
    (hv : ∀ i, i < q → i < s → ¬ vs (10 * t + o i) = 3) (hm : ∀ m, m < N → lv m = 1 → zl_q ex ow o q s m → ¬ ns (48 * t + m) = 3) : zy_v V ck qn vs ns t (o i) := by
  obtain ⟨hW, hV, hN, ht, hL, hoff, hmiss, hyd, hR, hKn⟩ := C
  refine ⟨?_, ?_⟩
  · intro h0
    obtain ⟨i', a, b⟩ := ho.2 i _ hi (Or.inl ⟨h0, rfl⟩)
    rw [← b]; exact hv i' (by omega) (by omega)
  · intro r hr
    obtain ⟨r1, r2, r3, r4⟩ := hL.2.1 r _ hr
    exact hm r (zp_Oa hW hr) r1 (Or.inl ⟨i, hi, his, r2, r3⟩)
end
section
variable {MV MN MI vc nc no ph ve fa : Int32} {rl ck qn pd yl ys yr kd fl yd ye yn vs vv ns nv : Nat → Int32} {lv ex ow de vsG vvG nsG nvG : Nat → Int32}
theorem yi_119 {post : SY → Prop} {J : Int32 → Int32 → Int32 → Int32 → Int32 → Int32 → Int32 → Int32 → Int32 → Int32 → (Nat → Int32) → (Nat → Int32) → (Nat → Int32) → (Nat → Int32) → (Nat → Int32) → (Nat → Int32) → (Nat → Int32) → (Nat → Int32) → (Nat → Int32) → (Nat → Int32) → (Nat → Int32) → (Nat → Int32) → (Nat → Int32) → (Nat → Int32) → (Nat → Int32) → (Nat → Int32) → Prop} {V N t s q : Nat} {o : Nat → Nat} (C : zy_C V N t rl ck qn pd kd fl lv ex ow de yd vsG vvG nsG nvG) (ho : zd_o V (zd_dp N ck kd fl (zd_E ex ow)) o q)
    (hI : zy_I V N t lv vs vv ns nv vsG vvG nsG nvG) (hv : ∀ i, i < q → i < s → ¬ vs (10 * t + o i) = 3) (hm : ∀ m, m < N → lv m = 1 → zl_q ex ow o q s m → ¬ ns (48 * t + m) = 3)
    (h : ∀ vs vv : Nat → Int32, zy_I V N t lv vs vv ns nv vsG vvG nsG nvG → (∀ i, i < q → i < s + 1 → ¬ vs (10 * t + o i) = 3) → J (nI (s + 1)) MV MN MI (nI V) (nI N) no ph ve fa rl ck qn pd yl ys yr kd fl yd ye yn vs vv ns nv) : ∃ f, wY_instant_119 post J (nI t) (nI s) f 0 MV MN MI (nI V) (nI N) no ph ve fa rl ck qn pd yl ys yr kd fl yd ye yn vs vv ns nv := by
  have hV : V ≤ 10 := C.2.1
  have ht : t < 24 := C.2.2.2.1
  refine pk_loop (fun f v (z : (Nat → Int32) × (Nat → Int32)) => wY_instant_119 post J (nI t) (nI s) f (nI v) MV MN MI (nI V) (nI N) no ph ve fa rl ck qn pd yl ys yr kd fl yd ye yn z.1 z.2 ns nv) (fun v z => zy_I V N t lv z.1 z.2 ns nv vsG vvG nsG nvG ∧ ∀ i, i < q → (i < s ∨ (i ≤ s ∧ o i < v)) → ¬ z.1 (10 * t + o i) = 3) V 0 (vs, vv) (Nat.zero_le _) ⟨hI, fun i hi hc => hv i hi (by omega)⟩ ?_ ?_
  · rintro f ⟨vs, vv⟩ ⟨hI, hk⟩
    dsimp only at hI hk
    exact br_t (nI_le (Nat.le_refl _) (by omega)) (nm_r (nI_1 s) (h vs vv hI (fun i hi hs => hk i hi (Or.inr ⟨by omega, ho.1 i hi⟩))))
  · rintro f v ⟨vs, vv⟩ hv' ⟨hI, hk⟩ ih
    dsimp only at hI hk ih ⊢
    have ci : (nI (10 * t + v)).toNatClampNeg = 10 * t + v := nI_clamp (by omega)
    refine br_f (nI_ge hv' (by omega)) ?_
    rw [za_m10, nI_add, ci]
    refine ⟨vp_in_nI (by omega) (by decide), ?_⟩
    by_cases e : vs (10 * t + v) = 3
    · refine br_t e (yi_var C hv' hI ?_)
      intro vs' vv' hI' hoth hnew
      refine nm_r (nI_1 v) (ih (vs', vv') ⟨hI', fun i hi hc => ?_⟩)
      dsimp only
      by_cases ei : o i = v
      · have his : i ≤ s := by omega
        have hz := zy_inv (vs := vs) (ns := ns) C ho hi his (fun i hi hs => hk i hi (Or.inl hs)) hm
        rw [ei] at hz ⊢
        exact hnew hz
      · rw [(hoth (10 * t + o i) (by omega)).1]
        exact hk i hi (by omega)
    · refine br_f e (nm_r (nI_1 v) (ih (vs, vv) ⟨hI, fun i hi hc => ?_⟩))
      dsimp only
      by_cases ei : o i = v
      · rw [ei]; exact e
      · exact hk i hi (by omega)
theorem yi_73 {post : SY → Prop} {J : Int32 → Int32 → Int32 → Int32 → Int32 → Int32 → Int32 → Int32 → Int32 → Int32 → (Nat → Int32) → (Nat → Int32) → (Nat → Int32) → (Nat → Int32) → (Nat → Int32) → (Nat → Int32) → (Nat → Int32) → (Nat → Int32) → (Nat → Int32) → (Nat → Int32) → (Nat → Int32) → (Nat → Int32) → (Nat → Int32) → (Nat → Int32) → (Nat → Int32) → (Nat → Int32) → Prop} {V N t s q : Nat} {o : Nat → Nat} (C : zy_C V N t rl ck qn pd kd fl lv ex ow de yd vsG vvG nsG nvG) (ho : zd_o V (zd_dp N ck kd fl (zd_E ex ow)) o q) (hcov : zd_cov V o q)
    (hI : zy_I V N t lv vs vv ns nv vsG vvG nsG nvG) (hv : ∀ i, i < q → i < s → ¬ vs (10 * t + o i) = 3)
    (h : ∀ vs vv ns nv : Nat → Int32, zy_I V N t lv vs vv ns nv vsG vvG nsG nvG → (∀ i, i < q → i < s + 1 → ¬ vs (10 * t + o i) = 3) → (q < s + 1 → ∀ m, m < N → lv m = 1 → ¬ ns (48 * t + m) = 3) → J (nI (s + 1)) MV MN MI (nI V) (nI N) no ph ve fa rl ck qn pd yl ys yr kd fl yd ye yn vs vv ns nv) : ∃ f, wY_instant_73 post J (nI t) (nI s) f 0 MV MN MI (nI V) (nI N) no ph ve fa rl ck qn pd yl ys yr kd fl yd ye yn vs vv ns nv := by
  have C' := C
  obtain ⟨hW, hV, hN, ht, hL, hoff, hmiss, hyd, hR, hKn⟩ := C
  refine pk_loop (fun f n (z : (Nat → Int32) × (Nat → Int32)) => wY_instant_73 post J (nI t) (nI s) f (nI n) MV MN MI (nI V) (nI N) no ph ve fa rl ck qn pd yl ys yr kd fl yd ye yn vs vv z.1 z.2) (fun n z => zy_I V N t lv vs vv z.1 z.2 vsG vvG nsG nvG ∧ ∀ m, m < n → lv m = 1 → zl_q ex ow o q s m → ¬ z.1 (48 * t + m) = 3) N 0 (ns, nv) (Nat.zero_le _) ⟨hI, fun m hm => absurd hm (Nat.not_lt_zero m)⟩ ?_ ?_
  · rintro f ⟨ns, nv⟩ ⟨hI, hk⟩
    dsimp only at hI hk
    refine br_t (nI_le (Nat.le_refl _) (by omega)) (yi_119 C' ho hI hv hk ?_)
    intro vs vv hI' hv'
    exact h vs vv ns nv hI' hv' (fun hq m hm hl => hk m hm hl (Or.inr (by omega)))
  · rintro f n ⟨ns, nv⟩ hn ⟨hI, hk⟩ ih
    dsimp only at hI hk ih ⊢
    have cn : (nI n).toNatClampNeg = n := nI_clamp (by omega)
    have ci : (nI (48 * t + n)).toNatClampNeg = 48 * t + n := nI_clamp (by omega)
    refine br_f (nI_ge hn (by omega)) ⟨vp_in_nI (by omega) (by decide), ?_⟩
    rw [cn, hyd n hn]
    rcases hL.1 n hn with ⟨s1, s2, s3, s4⟩ | ⟨s1, s2, s3, s4, s5, s6⟩
    · rw [s4]
      refine br_t za_m0 (nm_r (nI_1 n) (ih (ns, nv) ⟨hI, fun m hm hl hq => ?_⟩))
      by_cases e : m = n
      · subst e; rw [s1] at hl; exact absurd hl za_01
      · exact hk m (by omega) hl hq
    · rw [s5]
      refine br_f (nI_pos (by omega)) ?_
      rw [za_m48, nI_add, ci]
      refine ⟨vp_in_nI (by omega) (by decide), ?_⟩
      by_cases e : ns (48 * t + n) = 3
      · refine br_t e (yi_node C' hn s1 hI ?_ e)
        intro ns' nv' hI' hoth hnew
        refine nm_r (nI_1 n) (ih (ns', nv') ⟨hI', fun m hm hl hq => ?_⟩)
        dsimp only
        by_cases e' : m = n
        · subst e'
          exact hnew (zy_ink C' ho hcov hn hl hq hv hk)
        · rw [(hoth (48 * t + m) (by omega)).1]
          exact hk m (by omega) hl hq
      · refine br_f e (nm_r (nI_1 n) (ih (ns, nv) ⟨hI, fun m hm hl hq => ?_⟩))
        dsimp only
        by_cases e' : m = n
        · rw [e']; exact e
        · exact hk m (by omega) hl hq
theorem yi_inst {post : SY → Prop} {V N t q : Nat} {o : Nat → Nat} (C : zy_C V N t rl ck qn pd kd fl lv ex ow de yd vsG vvG nsG nvG) (ho : zd_o V (zd_dp N ck kd fl (zd_E ex ow)) o q) (hcov : zd_cov V o q) (hA : zy_A V N t lv vs vv ns nv vsG vvG nsG nvG)
    (h : ∀ vs vv ns nv : Nat → Int32, zy_A V N (t + 1) lv vs vv ns nv vsG vvG nsG nvG → post (MV, MN, MI, nI V, nI N, no, ph, ve, fa, rl, ck, qn, pd, yl, ys, yr, kd, fl, yd, ye, yn, vs, vv, ns, nv)) : wpY_instant post (MV, MN, MI, nI V, nI N, no, ph, ve, fa, rl, ck, qn, pd, yl, ys, yr, kd, fl, yd, ye, yn, vs, vv, ns, nv) (nI t) := by
  have C' := C
  obtain ⟨hW, hV, hN, ht, hL, hoff, hmiss, hyd, hR, hKn⟩ := C
  unfold wpY_instant
  refine pk_loop (fun f i (vs : Nat → Int32) => wY_instant_2 post (nI t) MV MN MI (nI V) (nI N) no ph ve fa f (nI i) rl ck qn pd yl ys yr kd fl yd ye yn vs vv ns nv) (fun i vs => (∀ v, v < i → vs (10 * t + v) = 3) ∧ zy_A V N t lv vs vv ns nv vsG vvG nsG nvG) V 0 vs (Nat.zero_le _) ⟨fun v hv => absurd hv (Nat.not_lt_zero v), hA⟩ ?_ ?_
  · rintro f vs ⟨hv3, hA⟩
    refine br_t (nI_le (Nat.le_refl _) (by omega)) ?_
    refine pk_loop (fun f i (ns : Nat → Int32) => wY_instant_30 post (nI t) MV MN MI (nI V) (nI N) no ph ve fa f (nI i) rl ck qn pd yl ys yr kd fl yd ye yn vs vv ns nv) (fun i ns => (∀ n, n < i → ns (48 * t + n) = 3) ∧ zy_A V N t lv vs vv ns nv vsG vvG nsG nvG) N 0 ns (Nat.zero_le _) ⟨fun v hv => absurd hv (Nat.not_lt_zero v), hA⟩ ?_ ?_
    · rintro f ns ⟨hn3, hA⟩
      refine br_t (nI_le (Nat.le_refl _) (by omega)) ?_
      refine pk_loop (fun f s (z : (Nat → Int32) × (Nat → Int32) × (Nat → Int32) × (Nat → Int32)) => wY_instant_58 post (nI t) f (nI s) MV MN MI (nI V) (nI N) no ph ve fa rl ck qn pd yl ys yr kd fl yd ye yn z.1 z.2.1 z.2.2.1 z.2.2.2) (fun s z => zy_I V N t lv z.1 z.2.1 z.2.2.1 z.2.2.2 vsG vvG nsG nvG ∧ (∀ i, i < q → i < s → ¬ z.1 (10 * t + o i) = 3) ∧ (q < s → ∀ m, m < N → lv m = 1 → ¬ z.2.2.1 (48 * t + m) = 3)) (V + N + 1) 0 (vs, vv, ns, nv) (Nat.zero_le _) ?_ ?_ ?_
      · exact ⟨⟨fun v hv => Or.inl (hv3 v hv), fun n hn _ => Or.inl (hn3 n hn), hA⟩, fun i _ hi => absurd hi (Nat.not_lt_zero i), fun hq => absurd hq (Nat.not_lt_zero q)⟩
      · rintro f ⟨vs, vv, ns, nv⟩ ⟨hI, k1, k2⟩
        dsimp only at hI k1 k2
        have hq : q ≤ V := hcov.1
        refine br_t ?_ (h vs vv ns nv (fun u hu => ?_))
        · rw [nI_add]; exact nI_lt (by omega) (by omega)
        · by_cases e : u = t
          · subst e
            refine ⟨fun v hv => ?_, fun n hn hl => (hI.2.1 n hn hl).resolve_left (k2 (by omega) n hn hl)⟩
            refine (hI.1 v hv).resolve_left ?_
            obtain ⟨i, a, b⟩ := hcov.2 v hv
            rw [← b]; exact k1 i a (by omega)
          · exact hI.2.2 u (by omega)
      · rintro f s ⟨vs, vv, ns, nv⟩ hs ⟨hI, k1, k2⟩ ih
        dsimp only at hI k1 k2 ih ⊢
        refine br_f ?_ (yi_73 C' ho hcov hI k1 ?_)
        · rw [nI_add]; exact nI_nlt (by omega) (by omega)
        · intro vs vv ns nv hI' a b
          exact ih (vs, vv, ns, nv) ⟨hI', a, b⟩
    · rintro f n ns hn ⟨hn3, hA⟩ ih
      have ci : (nI (48 * t + n)).toNatClampNeg = 48 * t + n := nI_clamp (by omega)
      refine br_f (nI_ge hn (by omega)) ?_
      rw [za_m48, nI_add, ci]
      refine ⟨vp_in_nI (by omega) (by decide), nm_e (nm_r (nI_1 n) (ih _ ⟨fun m hm => ?_, fun u hu => ⟨(hA u hu).1, fun m hm hl => ?_⟩⟩))⟩
      · by_cases e : m = n
        · rw [e, pk_us]
        · rw [pk_un (by omega)]; exact hn3 m (by omega)
      · rw [pk_un (by omega)]; exact (hA u hu).2 m hm hl
  · rintro f v vs hv ⟨hv3, hA⟩ ih
    have ci : (nI (10 * t + v)).toNatClampNeg = 10 * t + v := nI_clamp (by omega)
    refine br_f (nI_ge hv (by omega)) ?_
    rw [za_m10, nI_add, ci]
    refine ⟨vp_in_nI (by omega) (by decide), nm_e (nm_r (nI_1 v) (ih _ ⟨fun m hm => ?_, fun u hu => ⟨fun m hm => ?_, (hA u hu).2⟩⟩))⟩
    · by_cases e : m = v
      · rw [e, pk_us]
      · rw [pk_un (by omega)]; exact hv3 m (by omega)
    · rw [pk_un (by omega)]; exact (hA u hu).1 m hm
end
end
section
/-! run on both sides -/
section
variable {V N t : Nat} {rl ck qn pd kd fl lv ex ow de sl mV mN se pS pV vs vv ns nv vs' vv' ns' nv' : Nat → Int32}
/-- a solved row stays solved when it and the rows below it stay -/
theorem zi_Rc {u : Nat} (hW : zp_W V N rl ck qn kd fl) (hV : V ≤ 10) (hN : N ≤ 48) (hL : zt_L V N ck qn kd fl lv ex ow de) (hoff : ∀ n, n < N → lv n = 1 → ¬ zt_off ck kd fl de n) (hu : u < t) (hB : zi_B t vs vv ns nv vs' vv' ns' nv')
    (h : zi_R V N rl ck qn pd kd fl lv de vs vv ns nv u) : zi_R V N rl ck qn pd kd fl lv de vs' vv' ns' nv' u := by
  have hBu : zi_B u vs vv ns nv vs' vv' ns' nv' := ⟨fun i hi => hB.1 i (by omega), fun i hi => hB.2 i (by omega)⟩
  have ev : ∀ w, w < V → vs' (10 * u + w) = vs (10 * u + w) ∧ vv' (10 * u + w) = vv (10 * u + w) := fun w hw => hB.1 _ (by omega)
  have en : ∀ m, m < N → ns' (48 * u + m) = ns (48 * u + m) ∧ nv' (48 * u + m) = nv (48 * u + m) := fun m hm => hB.2 _ (by omega)
  refine ⟨fun v hv => ?_, fun n hn hl => ?_⟩
  · have hck := (hW.1 v hv).2.1
    exact zi_Vc (fun h0 => ev _ (by omega)) (fun r o => en r (zp_Oa hW o)) (ev v hv) (h.1 v hv)
  · obtain ⟨c1, c2, c3, c4, c5⟩ := zi_ck hW hV hL hoff hn hl
    have w := hW.2 n hn
    exact zi_Nc w hV (by omega) (by omega) hBu (fun h0 => ev _ (by omega)) (fun hk => ev _ (w.2.2.2.2.1 hk).2) (fun _ j hj => en _ (by have := (c1 j hj).2.1; omega)) (en n hn) (h.2 n hn hl)
/-- the history speaks only of what the rows below t hold of variables and live nodes -/
theorem zz_Hc (hW : zp_W V N rl ck qn kd fl) (hV : V ≤ 10) (hL : zt_L V N ck qn kd fl lv ex ow de) (hoff : ∀ n, n < N → lv n = 1 → ¬ zt_off ck kd fl de n) (hA : zy_A V N t lv vs' vv' ns' nv' vs vv ns nv)
    (h : zz_H V N t kd fl lv de sl mV mN se pS pV vs vv ns nv) : zz_H V N t kd fl lv de sl mV mN se pS pV vs' vv' ns' nv' := by
  have hP : ∀ x u, x ≤ 2 * V → u < t → (zr_P vs' vv' x u ↔ zr_P vs vv x u) := fun x u hx hu => zy_PA hA hx hu
  refine ⟨fun u hu => ⟨fun v hv => ?_, fun n hn hl hp => ?_⟩, fun u hu => ⟨fun n hn hl => ?_, fun d hd => ?_⟩⟩
  · rw [((hA u hu).1 v hv).1, ((hA u hu).1 v hv).2]
    exact (h.1 u hu).1 v hv
  · obtain ⟨c1, c2, c3, c4, c5⟩ := zi_ck hW hV hL hoff hn hl
    rw [hP _ u c4 hu] at hp
    rw [((hA u hu).2 n hn hl).1, ((hA u hu).2 n hn hl).2]
    exact (h.1 u hu).2 n hn hl hp
  · obtain ⟨c1, c2, c3, c4, c5⟩ := zi_ck hW hV hL hoff hn hl
    have w := hW.2 n hn
    have key : ∀ q x i z, 0 < zp_ar (zp_n kd n) → x ≤ 2 * V → zr_mem mV mN vs vv ns nv u q x (zp_op kd fl n 0) i z → zr_mem mV mN vs' vv' ns' nv' u q x (zp_op kd fl n 0) i z := by
      intro q x i z ha hx hm
      have hop := (c1 0 ha).2.1
      refine ⟨fun w hw => ?_, fun hno => hm.2 ((zr_nc (fun w hw => hP x w hx (by omega))).mp hno)⟩
      have hw' := (zr_lc (fun w hw => hP x w hx (by omega))).mp hw
      have hwt := hw'.1
      obtain ⟨a, b⟩ := (hA w (by omega)).2 _ (show zp_op kd fl n 0 < N by omega) (c1 0 ha).1
      rw [a, b]
      exact hm.1 w hw'
    have hm := (h.2 u hu).1 n hn hl
    refine ⟨fun k => key _ _ _ _ (by rw [k]; decide) c4 (hm.1 k), fun k => key _ _ _ _ (by rw [k]; decide) ?_ (hm.2 k)⟩
    have f1 := (w.2.2.2.2.1 (Or.inr (by omega))).2
    have f2 := (w.2.2.2.2.2 (Or.inr k)).2
    unfold zr_cx
    omega
  · rw [(h.2 u hu).2 d hd]
    constructor
    · rintro ⟨w, hw, hp⟩; exact ⟨w, hw, (hP d w hd (by omega)).mpr hp⟩
    · rintro ⟨w, hw, hp⟩; exact ⟨w, hw, (hP d w hd (by omega)).mp hp⟩
theorem zy_AB (hV : V ≤ 10) (hN : N ≤ 48) (hB : zi_B t vs vv ns nv vs' vv' ns' nv') : zy_A V N t lv vs' vv' ns' nv' vs vv ns nv :=
  fun u hu => ⟨fun v hv => hB.1 _ (by omega), fun n hn _ => hB.2 _ (by omega)⟩
theorem zy_AB' (hV : V ≤ 10) (hN : N ≤ 48) (hB : zi_B t vs vv ns nv vs' vv' ns' nv') : zy_A V N t lv vs vv ns nv vs' vv' ns' nv' :=
  fun u hu => ⟨fun v hv => ⟨(hB.1 _ (by omega)).1.symm, (hB.1 _ (by omega)).2.symm⟩, fun n hn _ => ⟨(hB.2 _ (by omega)).1.symm, (hB.2 _ (by omega)).2.symm⟩⟩
end
/-- the ghost history after i further instants -/
def zw_I (V N t i : Nat) (rl ck qn pd kd fl lv ex ow de sl mV mN se pS pV vs vv ns nv : Nat → Int32) : Prop :=
  ∃ vs' vv' ns' nv' : Nat → Int32, zi_B t vs vv ns nv vs' vv' ns' nv' ∧ zz_H V N (t + i) kd fl lv de sl mV mN se pS pV vs' vv' ns' nv' ∧ ∀ u, t ≤ u → u < t + i → zi_R V N rl ck qn pd kd fl lv de vs' vv' ns' nv' u
section
variable {eS oS aS MV MN MI ph ve fa no vc nc oc sc bc lc pr : Int32} {rl ck qn pd kd fl us lv ex ow de nl vl di re od sA sT bC bS bE sl mV mN se nV nN pS pV : Nat → Int32} {vs vv ns nv : Nat → Int32}
theorem xw_run {post : Int32 → SX → Prop} {V N t S B L M : Nat} (hW : zp_W V N rl ck qn kd fl) (hV : V ≤ 10) (hN : N ≤ 48) (hM : t + M ≤ 24) (hL : zt_L V N ck qn kd fl lv ex ow de) (hoff : ∀ n, n < N → lv n = 1 → ¬ zt_off ck kd fl de n) (hmiss : ∀ v, v < V → rl v = 1 → ¬ qn v = -1)
    (hS106 : S ≤ 106) (hS : zs_S V N ck qn kd fl lv de sA sT S) (hall : zs_all V N kd lv sA sT S) (hB : zs_B S B (zs_c ck de sA sT) bC bS bE) (hL48 : L ≤ 48) (hsl : zs_L N L kd lv sl)
    (hH : zz_H V N t kd fl lv de sl mV mN se pS pV vs vv ns nv)
    (h : ∀ (pr : Int32) (nV nN mV mN se pS pV : Nat → Int32), zw_I V N t M rl ck qn pd kd fl lv ex ow de sl mV mN se pS pV vs vv ns nv → post (nI M) (eS, oS, aS, MV, MN, MI, ph, ve, fa, nI (t + M), nI V, nI N, oc, nI S, nI B, nI L, pr, rl, ck, qn, pd, kd, fl, us, lv, ex, ow, de, nl, vl, di, re, od, sA, sT, bC, bS, bE, sl, mV, mN, se, nV, nN, pS, pV)) :
    ∃ f, wX_run_35 post (nI M) f 0 eS oS aS MV MN MI ph ve fa (nI t) (nI V) (nI N) oc (nI S) (nI B) (nI L) pr rl ck qn pd kd fl us lv ex ow de nl vl di re od sA sT bC bS bE sl mV mN se nV nN pS pV := by
  have hd : ∀ n, n < N → lv n = 1 → zp_n de n ≤ 20 := fun n hn hl => by
    have := (zi_ck hW hV hL hoff hn hl).2.2.2.1; omega
  refine pk_loop (fun f i (z : Int32 × (Nat → Int32) × (Nat → Int32) × (Nat → Int32) × (Nat → Int32) × (Nat → Int32) × (Nat → Int32) × (Nat → Int32)) => wX_run_35 post (nI M) f (nI i) eS oS aS MV MN MI ph ve fa (nI (t + i)) (nI V) (nI N) oc (nI S) (nI B) (nI L) z.1 rl ck qn pd kd fl us lv ex ow de nl vl di re od sA sT bC bS bE sl z.2.2.2.1 z.2.2.2.2.1 z.2.2.2.2.2.1 z.2.1 z.2.2.1 z.2.2.2.2.2.2.1 z.2.2.2.2.2.2.2)
    (fun i z => zw_I V N t i rl ck qn pd kd fl lv ex ow de sl z.2.2.2.1 z.2.2.2.2.1 z.2.2.2.2.2.1 z.2.2.2.2.2.2.1 z.2.2.2.2.2.2.2 vs vv ns nv) M 0 (pr, nV, nN, mV, mN, se, pS, pV) (Nat.zero_le _) ?_ ?_ ?_
  · exact ⟨vs, vv, ns, nv, ⟨fun _ _ => ⟨rfl, rfl⟩, fun _ _ => ⟨rfl, rfl⟩⟩, hH, fun u h1 h2 => by omega⟩
  · rintro f ⟨pr, nV, nN, mV, mN, se, pS, pV⟩ hI
    exact br_t (nI_le (Nat.le_refl _) (by omega)) (h pr nV nN mV mN se pS pV hI)
  · rintro f i ⟨pr, nV, nN, mV, mN, se, pS, pV⟩ hi ⟨vs1, vv1, ns1, nv1, hB1, hH1, hR1⟩ ih
    dsimp only at hH1 ih ⊢
    obtain ⟨vs2, vv2, ns2, nv2, hB2, hR2⟩ := zi_ex (t := t + i) (pd := pd) (vs := vs1) (vv := vv1) (ns := ns1) (nv := nv1) hW hV hN hL hoff hmiss hS hall (fun u hu => (hH1.1 u hu).2)
    have hH2 := zz_Hc hW hV hL hoff (zy_AB hV hN hB2) hH1
    have C : zj_C V N (t + i) S L rl ck qn pd kd fl lv ex ow de sl sA sT mV mN se vs2 vv2 ns2 nv2 :=
      ⟨hW, hV, hN, by omega, hL48, hL, hoff, hmiss, hS106, hS, hsl, hR2, (hH2.2 (t + i) (Nat.le_refl _)).1, (hH2.2 (t + i) (Nat.le_refl _)).2⟩
    refine br_f (nI_ge hi (by omega)) (xr_inst C hB hall hH2 ?_)
    intro pr nV nN mV mN se pS pV hH3
    refine nm_r (nI_1 i) (ih (pr, nV, nN, mV, mN, se, pS, pV) ⟨vs2, vv2, ns2, nv2, ?_, hH3, ?_⟩)
    · refine ⟨fun j hj => ?_, fun j hj => ?_⟩
      · rw [(hB2.1 j (by omega)).1, (hB2.1 j (by omega)).2]; exact hB1.1 j hj
      · rw [(hB2.2 j (by omega)).1, (hB2.2 j (by omega)).2]; exact hB1.2 j hj
    · intro u h1 h2
      by_cases e : u = t + i
      · subst e; exact hR2
      · exact zi_Rc hW hV hN hL hoff (show u < t + i by omega) hB2 (hR1 u h1 (by omega))
end
section
variable {MV MN MI vc nc no ph ve fa : Int32} {rl ck qn pd yl ys yr kd fl yd ye yn vs vv ns nv : Nat → Int32} {lv ex ow de vsG vvG nsG nvG : Nat → Int32}
theorem yw_run {post : Int32 → SY → Prop} {V N t M q : Nat} {o : Nat → Nat} (hW : zp_W V N rl ck qn kd fl) (hV : V ≤ 10) (hN : N ≤ 48) (hM : t + M ≤ 24) (hL : zt_L V N ck qn kd fl lv ex ow de) (hoff : ∀ n, n < N → lv n = 1 → ¬ zt_off ck kd fl de n) (hmiss : ∀ v, v < V → rl v = 1 → ¬ qn v = -1)
    (hyd : ∀ n, n < N → yd n = de n) (ho : zd_o V (zd_dp N ck kd fl (zd_E ex ow)) o q) (hcov : zd_cov V o q) (hR : ∀ u, t ≤ u → u < t + M → zi_R V N rl ck qn pd kd fl lv de vsG vvG nsG nvG u) (hKn : ∀ u v, u < t + M → v < V → ¬ vsG (10 * u + v) = 3)
    (hA : zy_A V N t lv vs vv ns nv vsG vvG nsG nvG)
    (h : ∀ vs vv ns nv : Nat → Int32, zy_A V N (t + M) lv vs vv ns nv vsG vvG nsG nvG → post (nI M) (MV, MN, MI, nI V, nI N, nI (t + M), ph, ve, fa, rl, ck, qn, pd, yl, ys, yr, kd, fl, yd, ye, yn, vs, vv, ns, nv)) : ∃ f, wY_run_28 post (nI M) f 0 MV MN MI (nI V) (nI N) (nI t) ph ve fa rl ck qn pd yl ys yr kd fl yd ye yn vs vv ns nv := by
  refine pk_loop (fun f i (z : (Nat → Int32) × (Nat → Int32) × (Nat → Int32) × (Nat → Int32)) => wY_run_28 post (nI M) f (nI i) MV MN MI (nI V) (nI N) (nI (t + i)) ph ve fa rl ck qn pd yl ys yr kd fl yd ye yn z.1 z.2.1 z.2.2.1 z.2.2.2) (fun i z => zy_A V N (t + i) lv z.1 z.2.1 z.2.2.1 z.2.2.2 vsG vvG nsG nvG) M 0 (vs, vv, ns, nv) (Nat.zero_le _) hA ?_ ?_
  · rintro f ⟨vs, vv, ns, nv⟩ hA
    exact br_t (nI_le (Nat.le_refl _) (by omega)) (h vs vv ns nv hA)
  · rintro f i ⟨vs, vv, ns, nv⟩ hi hA ih
    dsimp only at hA ih ⊢
    have C : zy_C V N (t + i) rl ck qn pd kd fl lv ex ow de yd vsG vvG nsG nvG :=
      ⟨hW, hV, hN, by omega, hL, hoff, hmiss, hyd, hR (t + i) (by omega) (by omega), fun u v hu hv => hKn u v (by omega) hv⟩
    refine br_f (nI_ge hi (by omega)) (yi_inst C ho hcov hA ?_)
    intro vs vv ns nv hA'
    exact nm_r (nI_1 (t + i)) (nm_r (nI_1 i) (ih (vs, vv, ns, nv) hA'))
end
theorem i_vc_run {k : Nat} {u : SX} {v : SY} (I : i_Rel k u v) (hk : k + 5 ≤ 2563) (v1 : Int32) : wpX_run (fun r u' => wpY_run (fun r' v' => r' = r ∧ i_Rel (k + 5) u' v') v v1) u v1 := by
  refine zz_el (P := fun u v => wpX_run (fun r u' => wpY_run (fun r' v' => r' = r ∧ i_Rel (k + 5) u' v') v v1) u v1) ?_ I
  intro eS oS aS MV MN MI ph ve fa no vc nc oc sc bc lc pr ys yr yn rl ck qn pd kd fl us lv ex ow de nl vl di re od sA sT bC bS bE sl mV mN se nV nN pS pV yl yd ye vs vv ns nv hF
  have hR := hF
  obtain ⟨V, N, mv, mn, mi, t, rfl, rfl, rfl, rfl, rfl, rfl, b1, b2, b3, b4, b5, b6, hW, hU, hS, hnl, hvl, hP⟩ := hF
  have hV : V ≤ 10 := by omega
  have hN : N ≤ 48 := by omega
  by_cases hp : ph = 1
  · refine br_t hp ?_
    rcases hP with hP | ⟨_, S, B, L, rfl, rfl, rfl, hA, hH⟩
    · exact absurd (hP.1.symm.trans hp) za_01
    have hA' := hA
    obtain ⟨hL, hoff, hmiss, hye, hyl, ⟨o, q, ho, hcov⟩, hre, hS106, hSt, hall, hBl, hL48, hsl⟩ := hA
    have sub : nI mi - nI t = nI (mi - t) := pk_sub b5
    have MAIN : ∀ M, M ≤ mi - t → zc_cl v1 0 (nI (mi - t)) = nI M → ∃ f, wX_run_35 (fun r u' => wpY_run (fun r' v' => r' = r ∧ i_Rel (k + 5) u' v') (nI mv, nI mn, nI mi, nI V, nI N, nI t, ph, ve, fa, rl, ck, qn, pd, yl, ys, yr, kd, fl, yd, ye, yn, vs, vv, ns, nv) v1) (nI M) f 0 eS oS aS (nI mv) (nI mn) (nI mi) ph ve fa (nI t) (nI V) (nI N) oc (nI S) (nI B) (nI L) pr rl ck qn pd kd fl us lv ex ow de nl vl di re od sA sT bC bS bE sl mV mN se nV nN pS pV := by
      intro M hM hcl
      refine xw_run hW hV hN (by omega) hL hoff hmiss hS106 hSt hall hBl hL48 hsl hH ?_
      intro pr nV nN mV mN se pS pV ⟨vsG, vvG, nsG, nvG, hB1, hH1, hR1⟩
      refine br_t hp (ya_cl ?_)
      rw [sub, hcl]
      refine yw_run hW hV hN (by omega) hL hoff hmiss (fun n hn => (hye n hn).1) ho hcov hR1 (fun u w hu hw => ((hH1.1 u hu).1 w hw).2.2) (zy_AB' hV hN hB1) ?_
      intro vs' vv' ns' nv' hA1
      refine ⟨rfl, zz_mk ?_⟩
      exact ⟨V, N, mv, mn, mi, t + M, rfl, rfl, rfl, rfl, rfl, rfl, b1, b2, b3, b4, by omega, b6, hW, hU, hS, hnl, hvl, Or.inr ⟨hp, S, B, L, rfl, rfl, rfl, hA', zz_Hc hW hV hL hoff hA1 hH1⟩⟩
    by_cases h0 : 0 < v1
    · refine br_t h0 ?_
      rw [sub]
      refine nm_e ?_
      have h0' : ¬ v1 < 0 := fun h => absurd (Int32.lt_trans h0 h) (by decide)
      obtain ⟨j, hj, rfl⟩ := nI_of h0'
      have hle0 : (0 : Int32) ≤ nI j := nI_pos' hj
      rcases Nat.lt_or_ge j (mi - t) with hl | hl
      · refine br_f (nI_ge hl (by omega)) (MAIN j (by omega) ?_)
        unfold zc_cl
        rw [if_pos hle0, if_pos (nI_le (by omega) (by omega))]
      · refine br_t (nI_le hl hj) (MAIN (mi - t) (Nat.le_refl _) ?_)
        unfold zc_cl
        rw [if_pos hle0]
        by_cases e : nI j ≤ nI (mi - t)
        · rw [if_pos e]
          have := (nI_leI hj (by omega)).mp e
          rw [show j = mi - t by omega]
        · rw [if_neg e]
    · refine br_f h0 (br_t hp (ya_cl ?_))
      have hcl : zc_cl v1 0 (nI mi - nI t) = 0 := by
        rw [sub]
        unfold zc_cl
        by_cases e : 0 ≤ v1
        · have e0 : v1 = 0 := Int32.le_antisymm (Int32.not_lt.mp h0) e
          rw [e0, if_pos (by decide), if_pos (nI_pos' (by omega))]
        · rw [if_neg e]
      rw [hcl]
      exact ⟨1, br_t (by decide) ⟨rfl, zz_mk hR⟩⟩
  · exact br_f hp (br_f hp ⟨rfl, zz_mk hR⟩)
end
