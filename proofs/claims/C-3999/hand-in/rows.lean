section
/-! ===== Int32 by its bits: bt x i ===== -/
def bt (x : Int32) (i : Nat) : Bool := x.toBitVec.getLsbD i
theorem b_ext {x y : Int32} (h : ∀ i, i < 32 → bt x i = bt y i) : x = y := Int32.toBitVec_inj.mp (BitVec.eq_of_getLsbD_eq (fun i hi => h i hi))
theorem b_or (x y : Int32) (i : Nat) : bt (x ||| y) i = (bt x i || bt y i) := by unfold bt; rw [Int32.toBitVec_or, BitVec.getLsbD_or]
theorem b_and (x y : Int32) (i : Nat) : bt (x &&& y) i = (bt x i && bt y i) := by unfold bt; rw [Int32.toBitVec_and, BitVec.getLsbD_and]
theorem b_xor (x y : Int32) (i : Nat) : bt (x ^^^ y) i = (bt x i ^^ bt y i) := by unfold bt; rw [Int32.toBitVec_xor, BitVec.getLsbD_xor]
theorem b_big {x : Int32} {i : Nat} (h : 32 ≤ i) : bt x i = false := BitVec.getLsbD_of_ge _ _ h
theorem b_255 (i : Nat) : bt 255 i = decide (i < 8) := by
  rcases Nat.lt_or_ge i 32 with h | h
  · exact (by decide +kernel : ∀ i, i < 32 → bt 255 i = decide (i < 8)) i h
  · rw [b_big h, decide_eq_false (by omega)]
theorem b_65535 (i : Nat) : bt 65535 i = decide (i < 16) := by
  rcases Nat.lt_or_ge i 32 with h | h
  · exact (by decide +kernel : ∀ i, i < 32 → bt 65535 i = decide (i < 16)) i h
  · rw [b_big h, decide_eq_false (by omega)]
theorem b_m1 : ∀ i, i < 32 → bt (-1) i = true := by decide +kernel
theorem b_0 (i : Nat) : bt 0 i = false := BitVec.getLsbD_zero
theorem s_l : ∀ n, n < 32 → ((nI n &&& 31).toBitVec.smod 32).toNat = n := by decide +kernel
theorem s_u : ∀ n, n < 32 → (((nI n).toUInt32 &&& Int32.toUInt32 31).toBitVec % 32).toNat = n := by decide +kernel
theorem b_shl (n : Nat) (hn : n < 32) (x : Int32) {i : Nat} (hi : i < 32) : bt (x <<< (nI n &&& 31)) i = (decide (n ≤ i) && bt x (i - n)) := by
  unfold bt
  rw [Int32.toBitVec_shiftLeft]
  show (x.toBitVec <<< ((nI n &&& 31).toBitVec.smod 32).toNat).getLsbD i = _
  rw [s_l n hn, BitVec.getLsbD_shiftLeft]
  rcases Nat.lt_or_ge i n with h | h
  · simp [h, Nat.not_le.mpr h]
  · simp [hi, h, Nat.not_lt.mpr h]
theorem b_ushr (n : Nat) (hn : n < 32) (x : Int32) (i : Nat) : bt ((x.toUInt32 >>> ((nI n).toUInt32 &&& Int32.toUInt32 31)).toInt32) i = bt x (n + i) := by
  show (x.toUInt32 >>> ((nI n).toUInt32 &&& Int32.toUInt32 31)).toBitVec.getLsbD i = x.toUInt32.toBitVec.getLsbD (n + i)
  rw [UInt32.toBitVec_shiftRight]
  show (x.toUInt32.toBitVec >>> (((nI n).toUInt32 &&& Int32.toUInt32 31).toBitVec % 32).toNat).getLsbD i = _
  rw [s_u n hn, BitVec.getLsbD_ushiftRight]
theorem b_sshr (n : Nat) (hn : n < 32) (x : Int32) {i : Nat} (hi : i < 32) : bt (x >>> (nI n &&& 31)) i = if n + i < 32 then bt x (n + i) else bt x 31 := by
  unfold bt
  rw [Int32.toBitVec_shiftRight]
  show (x.toBitVec.sshiftRight ((nI n &&& 31).toBitVec.smod 32).toNat).getLsbD i = _
  rw [s_l n hn, BitVec.getLsbD_sshiftRight, BitVec.msb_eq_getLsbD_last]
  simp [hi]
theorem b_shl8 (x : Int32) {i : Nat} (hi : i < 32) : bt (x <<< ((8 : Int32) &&& 31)) i = (decide (8 ≤ i) && bt x (i - 8)) := b_shl 8 (by omega) x hi
theorem b_shl16 (x : Int32) {i : Nat} (hi : i < 32) : bt (x <<< ((16 : Int32) &&& 31)) i = (decide (16 ≤ i) && bt x (i - 16)) := b_shl 16 (by omega) x hi
theorem b_shl24 (x : Int32) {i : Nat} (hi : i < 32) : bt (x <<< ((24 : Int32) &&& 31)) i = (decide (24 ≤ i) && bt x (i - 24)) := b_shl 24 (by omega) x hi
theorem b_sshr8 (x : Int32) {i : Nat} (hi : i < 32) : bt (x >>> ((8 : Int32) &&& 31)) i = if 8 + i < 32 then bt x (8 + i) else bt x 31 := b_sshr 8 (by omega) x hi
theorem pk_us {f : Nat → Int32} {k : Nat} {x : Int32} : upd f k x k = x := if_pos rfl
theorem pk_un {f : Nat → Int32} {k j : Nat} {x : Int32} (h : j ≠ k) : upd f k x j = f j := if_neg h
theorem pk_uLs {f : Nat → Int64} {k : Nat} {x : Int64} : vp_updL f k x k = x := if_pos rfl
theorem pk_uLn {f : Nat → Int64} {k j : Nat} {x : Int64} (h : j ≠ k) : vp_updL f k x j = f j := if_neg h
theorem pk_sub {a b : Nat} (h : b ≤ a) : nI a - nI b = nI (a - b) := by
  obtain ⟨c, rfl⟩ : ∃ c, a = c + b := ⟨a - b, by omega⟩
  rw [← nI_add, Int32.add_sub_cancel, Nat.add_sub_cancel]
theorem pk_m1 (n : Nat) : nI (n + 1) + (-1) = nI n := by
  rw [← nI_1, Int32.add_assoc, show (1 : Int32) + (-1) = 0 from rfl, Int32.add_zero]
theorem pk_mul (a b : Nat) : nI a * nI b = nI (a * b) := (Int32.ofNat_mul a b).symm
theorem pk_div {a d : Nat} (ha : a < 2 ^ 31) (h0 : 0 < d) (hd : d < 2 ^ 31) : nI a / nI d = nI (a / d) := by
  apply Int32.toInt_inj.mp
  rw [lg_idiv_nonneg (by rw [nI_toInt ha]; omega) (by rw [nI_toInt hd]; omega), nI_toInt ha, nI_toInt hd, nI_toInt (Nat.lt_of_le_of_lt (Nat.div_le_self a d) ha)]
  first | rfl | exact (Int.natCast_ediv _ _).symm
theorem pk_rem {a d : Nat} (ha : a < 2 ^ 31) (h0 : 0 < d) (hd : d < 2 ^ 31) : nI a - nI a / nI d * nI d = nI (a % d) := by
  rw [pk_div ha h0 hd, pk_mul, pk_sub (Nat.div_mul_le_self a d)]
  exact congrArg nI (by have := Nat.div_add_mod' a d; omega)
theorem pk_sub_toInt {a b : Nat} (ha : a < 2 ^ 30) (hb : b < 2 ^ 30) : (nI a - nI b).toInt = (a : Int) - b := by
  rw [Int32.toInt_sub, nI_toInt (by omega), nI_toInt (by omega)]
  exact Int.bmod_eq_of_le (by omega) (by omega)
theorem pk_sneg {a b : Nat} (hb : b < 2 ^ 30) (h : a < b) : nI a - nI b < 0 := by
  rw [Int32.lt_iff_toInt_lt, pk_sub_toInt (by omega) hb, show (0 : Int32).toInt = 0 from by decide]
  omega
theorem pk_ix (x : Int32) {n : Nat} (hn : n < 2 ^ 31) : x < 0 ∨ nI n ≤ x ∨ ∃ j : Nat, j < n ∧ x = nI j := by
  by_cases h : x < 0
  · exact Or.inl h
  · obtain ⟨j, hj, rfl⟩ := nI_of h
    by_cases h2 : j < n
    · exact Or.inr (Or.inr ⟨j, h2, rfl⟩)
    · exact Or.inr (Or.inl (nI_le (by omega) hj))
theorem pk_le {x y : Int32} {A B : Prop} (a b : Nat) (f : a ≤ b → A) (g : b < a → B) (hx : x = nI a := by rfl) (hy : y = nI b := by rfl) (ha : a < 2 ^ 31 := by omega) (hb : b < 2 ^ 31 := by omega) : (x ≤ y → A) ∧ (¬ x ≤ y → B) := by
  subst hx hy
  rw [nI_leI ha hb]
  exact ⟨f, fun z => g (by omega)⟩
theorem pk_lt {x y : Int32} {A B : Prop} (a b : Nat) (f : a < b → A) (g : b ≤ a → B) (hx : x = nI a := by rfl) (hy : y = nI b := by rfl) (ha : a < 2 ^ 31 := by omega) (hb : b < 2 ^ 31 := by omega) : (x < y → A) ∧ (¬ x < y → B) := by
  subst hx hy
  rw [nI_ltI ha hb]
  exact ⟨f, fun z => g (by omega)⟩
theorem pk_eq {x y : Int32} {A B : Prop} (a b : Nat) (f : a = b → A) (g : a ≠ b → B) (hx : x = nI a := by rfl) (hy : y = nI b := by rfl) (ha : a < 2 ^ 31 := by omega) (hb : b < 2 ^ 31 := by omega) : (x = y → A) ∧ (¬ x = y → B) := by
  subst hx hy
  rw [nI_eq ha hb]
  exact ⟨f, g⟩
theorem pk_in {x : Int32} (n N : Nat) (h : n < N) (hx : x = nI n := by rfl) (hN : N < 2 ^ 31 := by omega) : vp_in x N := by
  subst hx
  exact vp_in_nI h hN
theorem pk_cl {x : Int32} (n : Nat) (hx : x = nI n := by rfl) (h : n < 2 ^ 31 := by omega) : x.toNatClampNeg = n := by
  subst hx
  exact nI_clamp h
theorem pk_tn {n : Nat} (h : n < 2 ^ 32) : (nI n).toBitVec.toNat = n := Nat.mod_eq_of_lt h
theorem pk_and (x : Int32) {m : Int32} (k : Nat) (hm : m.toBitVec.toNat = 2 ^ k - 1) : x &&& m = nI (x.toBitVec.toNat % 2 ^ k) := by
  apply Int32.toBitVec_inj.mp
  apply BitVec.eq_of_toNat_eq
  rw [Int32.toBitVec_and, BitVec.toNat_and, hm, Nat.and_two_pow_sub_one_eq_mod]
  show _ = (BitVec.ofNat 32 _).toNat
  rw [BitVec.toNat_ofNat]
  exact (Nat.mod_eq_of_lt (Nat.lt_of_le_of_lt (Nat.mod_le _ _) x.toBitVec.isLt)).symm
theorem pk_andN {n : Nat} (h : n < 2 ^ 32) {m : Int32} (k : Nat) (hm : m.toBitVec.toNat = 2 ^ k - 1) : nI n &&& m = nI (n % 2 ^ k) := by
  rw [pk_and _ k hm, pk_tn h]
theorem pk_andE (x : Int32) {m : Int32} (k : Nat) (hm : m.toBitVec.toNat = 2 ^ k - 1) : ∃ j : Nat, j < 2 ^ k ∧ x &&& m = nI j := ⟨_, Nat.mod_lt _ (Nat.two_pow_pos k), pk_and x k hm⟩
theorem pk_andIn (x : Int32) {m : Int32} (k : Nat) (hm : m.toBitVec.toNat = 2 ^ k - 1) (hk : k ≤ 30) : vp_in (x &&& m) (2 ^ k) := by
  obtain ⟨j, hj, e⟩ := pk_andE x k hm
  rw [e]
  exact vp_in_nI hj (Nat.lt_of_le_of_lt (Nat.pow_le_pow_right (by decide) hk) (by decide))
theorem pk_shl (a s : Int32) (k : Nat) (hs : (s.toBitVec.smod 32).toNat = k) : (a <<< s).toBitVec.toNat = a.toBitVec.toNat * 2 ^ k % 2 ^ 32 := by
  show (a.toBitVec <<< (s.toBitVec.smod 32).toNat).toNat = _
  rw [hs, BitVec.toNat_shiftLeft, Nat.shiftLeft_eq]
theorem pk_shlN {n : Nat} (s : Int32) (k : Nat) (hs : (s.toBitVec.smod 32).toNat = k) (h : n * 2 ^ k < 2 ^ 32) : nI n <<< s = nI (n * 2 ^ k) := by
  apply Int32.toBitVec_inj.mp
  apply BitVec.eq_of_toNat_eq
  have hn : n < 2 ^ 32 := Nat.lt_of_le_of_lt (Nat.le_mul_of_pos_right n (Nat.two_pow_pos k)) h
  rw [pk_shl _ _ k hs, pk_tn hn, pk_tn h, Nat.mod_eq_of_lt h]
theorem pk_shr (a s : Int32) (k : Nat) (hs : (s.toBitVec.smod 32).toNat = k) : (a >>> s).toInt = a.toInt >>> k := by
  show (a.toBitVec.sshiftRight (s.toBitVec.smod 32).toNat).toInt = _
  rw [hs, BitVec.toInt_sshiftRight]
  rfl
theorem pk_shrN {n : Nat} (h : n < 2 ^ 31) (s : Int32) (k : Nat) (hs : (s.toBitVec.smod 32).toNat = k) : nI n >>> s = nI (n / 2 ^ k) := by
  apply Int32.toInt_inj.mp
  have h2 : n / 2 ^ k ≤ n := Nat.div_le_self _ _
  rw [pk_shr _ _ k hs, nI_toInt h, nI_toInt (by omega), Int.shiftRight_eq_div_pow]
  rfl
end
section
/-! numbers: Int32 by its toInt; branches by toInt -/
def ib_z (a : Nat → Int32) (k : Nat) : Int := (a k).toInt
theorem ib_zu (a : Nat → Int32) (k : Nat) (x : Int32) (j : Nat) : ib_z (upd a k x) j = if j = k then x.toInt else ib_z a j := by
  unfold ib_z upd
  by_cases h : j = k
  · rw [if_pos h, if_pos h]
  · rw [if_neg h, if_neg h]
theorem ib_zus (a : Nat → Int32) (k : Nat) (x : Int32) : ib_z (upd a k x) k = x.toInt := by rw [ib_zu, if_pos rfl]
theorem ib_zun (a : Nat → Int32) {k : Nat} (x : Int32) {j : Nat} (h : j ≠ k) : ib_z (upd a k x) j = ib_z a j := by rw [ib_zu, if_neg h]
theorem ib_ble {x y : Int32} {A B : Prop} (f : x.toInt ≤ y.toInt → A) (g : y.toInt < x.toInt → B) : (x ≤ y → A) ∧ (¬ x ≤ y → B) := by
  rw [Int32.le_iff_toInt_le]
  exact ⟨f, fun z => g (by omega)⟩
theorem ib_blt {x y : Int32} {A B : Prop} (f : x.toInt < y.toInt → A) (g : y.toInt ≤ x.toInt → B) : (x < y → A) ∧ (¬ x < y → B) := by
  rw [Int32.lt_iff_toInt_lt]
  exact ⟨f, fun z => g (by omega)⟩
theorem ib_beq {x y : Int32} {A B : Prop} (f : x.toInt = y.toInt → A) (g : x.toInt ≠ y.toInt → B) : (x = y → A) ∧ (¬ x = y → B) := by
  rw [← Int32.toInt_inj]
  exact ⟨f, g⟩
theorem ib_t0 : (0 : Int32).toInt = 0 := by decide
theorem ib_t1 : (1 : Int32).toInt = 1 := by decide
theorem ib_t5 : (5 : Int32).toInt = 5 := by decide
theorem ib_t8 : (8 : Int32).toInt = 8 := by decide
theorem ib_t16 : (16 : Int32).toInt = 16 := by decide
theorem ib_t2 : (2 : Int32).toInt = 2 := by decide
theorem ib_t100 : (100 : Int32).toInt = 100 := by decide
theorem ib_tm100 : (-100 : Int32).toInt = -100 := by decide
theorem ib_tm8 : (-8 : Int32).toInt = -8 := by decide
theorem ib_tn : (-10000 : Int32).toInt = -10000 := by decide
theorem ib_10 : ¬ (1 : Int32) = 0 := by decide
theorem ib_ix (i v : Nat) : nI i * 3 + nI v = nI (i * 3 + v) := by
  show nI i * nI 3 + nI v = _
  rw [pk_mul, nI_add]
theorem ib_pb {f x : Int} (hf : -10 ≤ f ∧ f ≤ 10) (hx : -9 ≤ x ∧ x ≤ 9) : -90 ≤ f * x ∧ f * x ≤ 90 := by
  have h : f = -10 ∨ f = -9 ∨ f = -8 ∨ f = -7 ∨ f = -6 ∨ f = -5 ∨ f = -4 ∨ f = -3 ∨ f = -2 ∨ f = -1 ∨ f = 0 ∨ f = 1 ∨ f = 2 ∨ f = 3 ∨ f = 4 ∨ f = 5 ∨ f = 6 ∨ f = 7 ∨ f = 8 ∨ f = 9 ∨ f = 10 := by omega
  rcases h with h | h | h | h | h | h | h | h | h | h | h | h | h | h | h | h | h | h | h | h | h <;> subst h <;> omega
theorem ib_mul {x y : Int32} (hf : -10 ≤ x.toInt ∧ x.toInt ≤ 10) (hx : -9 ≤ y.toInt ∧ y.toInt ≤ 9) : (x * y).toInt = x.toInt * y.toInt := by
  have h := ib_pb hf hx
  exact Jvm.Kit.i32_mul (by omega) (by omega)
theorem ib_add {x y : Int32} (hx : -1000 ≤ x.toInt ∧ x.toInt ≤ 1000) (hy : -1000 ≤ y.toInt ∧ y.toInt ≤ 1000) : (x + y).toInt = x.toInt + y.toInt := Jvm.Kit.i32_add (by omega) (by omega)
theorem ib_sub {x y : Int32} (hx : -1000 ≤ x.toInt ∧ x.toInt ≤ 1000) (hy : -1000 ≤ y.toInt ∧ y.toInt ≤ 1000) : (x - y).toInt = x.toInt - y.toInt := Jvm.Kit.i32_sub (by omega) (by omega)
theorem ib_neg {x : Int32} (hx : -1000 ≤ x.toInt ∧ x.toInt ≤ 1000) : (-x).toInt = -x.toInt := Jvm.Kit.i32_neg (by omega)
theorem ib_c3 {P : Nat → Prop} (h0 : P 0) (h1 : P 1) (h2 : P 2) : ∀ k, k < 3 → P k := by
  intro k hk
  have h : k = 0 ∨ k = 1 ∨ k = 2 := by omega
  rcases h with h | h | h <;> subst h <;> assumption
/-! bits -/
theorem ib_b1 : ∀ j, j < 32 → bt 1 j = decide (j = 0) := by decide +kernel
theorem ib_and1 (x : Int32) : x &&& 1 = if bt x 0 = true then 1 else 0 := by
  apply b_ext
  intro j hj
  rw [b_and, ib_b1 j hj]
  by_cases h : j = 0
  · subst h
    by_cases hb : bt x 0 = true
    · rw [if_pos hb, hb, ib_b1 0 (by omega)]; rfl
    · rw [if_neg hb, b_0]
      cases hx : bt x 0
      · rfl
      · exact absurd hx hb
  · rw [decide_eq_false h, Bool.and_false]
    by_cases hb : bt x 0 = true
    · rw [if_pos hb, ib_b1 j hj, decide_eq_false h]
    · rw [if_neg hb, b_0]
theorem ib_shb (x : Int32) {i : Nat} (hi : i < 32) : (x >>> (nI i &&& 31)) &&& 1 = if bt x i = true then 1 else 0 := by
  rw [ib_and1, b_sshr i hi x (by omega), Nat.add_zero, if_pos hi]
theorem ib_bc1 (x : Int32) {i : Nat} (hi : i < 32) {A B : Prop} (f : bt x i = true → A) (g : bt x i = false → B) : (((x >>> (nI i &&& 31)) &&& 1) = 1 → A) ∧ (¬ ((x >>> (nI i &&& 31)) &&& 1) = 1 → B) := by
  rw [ib_shb x hi]
  cases hb : bt x i
  · rw [if_neg (by decide)]
    exact ⟨fun h => absurd h (by decide), fun _ => g hb⟩
  · rw [if_pos rfl]
    exact ⟨fun _ => f hb, fun h => absurd rfl h⟩
theorem ib_bc0 (x : Int32) {i : Nat} (hi : i < 32) {A B : Prop} (f : bt x i = false → A) (g : bt x i = true → B) : (((x >>> (nI i &&& 31)) &&& 1) = 0 → A) ∧ (¬ ((x >>> (nI i &&& 31)) &&& 1) = 0 → B) := by
  rw [ib_shb x hi]
  cases hb : bt x i
  · rw [if_neg (by decide)]
    exact ⟨fun _ => f hb, fun h => absurd rfl h⟩
  · rw [if_pos rfl]
    exact ⟨fun h => absurd h (by decide), fun _ => g hb⟩
theorem ib_sh1 {i : Nat} (hi : i < 32) {j : Nat} (hj : j < 32) : bt ((1 : Int32) <<< (nI i &&& 31)) j = decide (j = i) := by
  rw [b_shl i hi _ hj]
  by_cases h : i ≤ j
  · rw [decide_eq_true h, ib_b1 _ (by omega), Bool.true_and]
    by_cases e : j = i
    · rw [decide_eq_true e, decide_eq_true (by omega)]
    · rw [decide_eq_false e, decide_eq_false (by omega)]
  · rw [decide_eq_false h, Bool.false_and, decide_eq_false (by omega)]
/-! factors packed in an int -/
def ib_fo (f : Int32) (v : Nat) : Int32 := ((f >>> ((4 * nI v) &&& 31)) &&& 15) - 5
theorem ib_fo_r (f : Int32) (v : Nat) : -5 ≤ (ib_fo f v).toInt ∧ (ib_fo f v).toInt ≤ 10 := by
  unfold ib_fo
  obtain ⟨j, hj, e⟩ := pk_andE (f >>> ((4 * nI v) &&& 31)) (m := 15) 4 (by decide)
  rw [e]
  have h := pk_sub_toInt (a := j) (b := 5) (by omega) (by omega)
  have h2 : (nI j - 5).toInt = (j : Int) - (5 : Nat) := h
  rw [h2]
  omega
def ib_GF (f : Int32) : Prop := ∀ k, k < 3 → (ib_fo f k).toInt ≤ 5
/-! the limits that are on, as bits -/
def ib_on (a : Nat → Int32) : Nat → Int32
  | 0 => 0
  | i + 1 => if a i = 0 then ib_on a i else ib_on a i ||| ((1 : Int32) <<< (nI i &&& 31))
theorem ib_on_bt (a : Nat → Int32) : ∀ m, m ≤ 31 → ∀ j, j < 32 → (bt (ib_on a m) j = true ↔ j < m ∧ a j ≠ 0) := by
  intro m
  induction m with
  | zero =>
    intro _ j hj
    show bt 0 j = true ↔ _
    rw [b_0]
    exact ⟨fun h => absurd h (by decide), fun h => absurd h.1 (by omega)⟩
  | succ m ih =>
    intro hm j hj
    have ih := ih (by omega) j hj
    show bt (if a m = 0 then ib_on a m else ib_on a m ||| ((1 : Int32) <<< (nI m &&& 31))) j = true ↔ _
    by_cases h : a m = 0
    · rw [if_pos h, ih]
      constructor
      · intro ⟨h1, h2⟩; exact ⟨by omega, h2⟩
      · intro ⟨h1, h2⟩
        refine ⟨?_, h2⟩
        by_cases e : j = m
        · subst e; exact absurd h h2
        · omega
    · rw [if_neg h, b_or, ib_sh1 (by omega) hj, Bool.or_eq_true, ih, decide_eq_true_iff]
      constructor
      · intro h1
        rcases h1 with ⟨h1, h2⟩ | h1
        · exact ⟨by omega, h2⟩
        · subst h1; exact ⟨by omega, h⟩
      · intro ⟨h1, h2⟩
        by_cases e : j = m
        · exact Or.inr e
        · exact Or.inl ⟨by omega, h2⟩
/-! the number of bits among the first six -/
def ib_bits (s : Int32) : Nat → Nat
  | 0 => 0
  | k + 1 => ib_bits s k + (if bt s k = true then 1 else 0)
theorem ib_bits_le (s : Int32) : ∀ k, ib_bits s k ≤ k := by
  intro k
  induction k with
  | zero => exact Nat.le_refl _
  | succ k ih =>
    show ib_bits s k + (if bt s k = true then 1 else 0) ≤ k + 1
    by_cases h : bt s k = true
    · rw [if_pos h]; omega
    · rw [if_neg h]; omega
theorem ib_bits_s (s : Int32) {k : Nat} (hk : k < 32) : nI (ib_bits s k) + ((s >>> (nI k &&& 31)) &&& 1) = nI (ib_bits s (k + 1)) := by
  rw [ib_shb s hk]
  show _ = nI (ib_bits s k + (if bt s k = true then 1 else 0))
  by_cases h : bt s k = true
  · rw [if_pos h, if_pos h, nI_1]
  · rw [if_neg h, if_neg h, ← nI_0, nI_add]
end
section
/-! points by number, boxes, limits -/
def ib_c (p : Nat) : Nat → Int
  | 0 => ((p / 289 : Nat) : Int) - 8
  | 1 => ((p / 17 % 17 : Nat) : Int) - 8
  | _ => ((p % 17 : Nat) : Int) - 8
theorem ib_c0 (p : Nat) : ib_c p 0 = ((p / 289 : Nat) : Int) - 8 := rfl
theorem ib_c1 (p : Nat) : ib_c p 1 = ((p / 17 % 17 : Nat) : Int) - 8 := rfl
theorem ib_c2 (p : Nat) : ib_c p 2 = ((p % 17 : Nat) : Int) - 8 := rfl
theorem ib_c_r {p : Nat} (hp : p < 4913) : ∀ k, k < 3 → -8 ≤ ib_c p k ∧ ib_c p k ≤ 8 := by
  apply ib_c3
  · rw [ib_c0]; omega
  · rw [ib_c1]; omega
  · rw [ib_c2]; omega
theorem ib_c_sum (p : Nat) : (p : Int) = 289 * (ib_c p 0 + 8) + 17 * (ib_c p 1 + 8) + (ib_c p 2 + 8) := by
  rw [ib_c0, ib_c1, ib_c2]; omega
/-- the number of the point with these coordinates -/
def ib_en (X : Nat → Int) : Nat := (289 * (X 0 + 8) + 17 * (X 1 + 8) + (X 2 + 8)).toNat
theorem ib_en_c {X : Nat → Int} (h : ∀ k, k < 3 → -8 ≤ X k ∧ X k ≤ 8) : ∀ k, k < 3 → ib_c (ib_en X) k = X k := by
  have h0 := h 0 (by omega)
  have h1 := h 1 (by omega)
  have h2 := h 2 (by omega)
  have e : ∃ a b c : Nat, X 0 = (a : Int) - 8 ∧ X 1 = (b : Int) - 8 ∧ X 2 = (c : Int) - 8 := ⟨(X 0 + 8).toNat, (X 1 + 8).toNat, (X 2 + 8).toNat, by omega, by omega, by omega⟩
  obtain ⟨a, b, c, ea, eb, ec⟩ := e
  have en : ib_en X = 289 * a + 17 * b + c := by unfold ib_en; rw [ea, eb, ec]; omega
  apply ib_c3
  · rw [ib_c0, en, ea]; omega
  · rw [ib_c1, en, eb]; omega
  · rw [ib_c2, en, ec]; omega
def ib_In (F T : Nat → Int) (p : Nat) : Prop := ∀ k, k < 3 → F k ≤ ib_c p k ∧ ib_c p k ≤ T k
def ib_Ne (F T : Nat → Int) : Prop := ∀ k, k < 3 → F k ≤ T k
def ib_Sm (F T : Nat → Int) : Prop := ∀ k, k < 3 → (-8 ≤ F k ∧ F k ≤ 9) ∧ (-8 ≤ T k ∧ T k ≤ 8)
def ib_Ok (F T : Nat → Int) : Prop := ∀ k, k < 3 → -8 ≤ F k ∧ F k ≤ T k ∧ T k ≤ 8
def ib_Sub (F T F' T' : Nat → Int) : Prop := ∀ k, k < 3 → F k ≤ F' k ∧ T' k ≤ T k
def ib_Eq (F T F' T' : Nat → Int) : Prop := ∀ k, k < 3 → F' k = F k ∧ T' k = T k
def ib_wd (F T : Nat → Int) : Int := (T 0 - F 0) + (T 1 - F 1) + (T 2 - F 2)
theorem ib_Ok_Sm {F T : Nat → Int} (h : ib_Ok F T) : ib_Sm F T := fun k hk => by have := h k hk; omega
theorem ib_Ok_Ne {F T : Nat → Int} (h : ib_Ok F T) : ib_Ne F T := fun k hk => (h k hk).2.1
theorem ib_Ok_of {F T F' T' : Nat → Int} (h : ib_Ok F T) (s : ib_Sub F T F' T') (n : ib_Ne F' T') : ib_Ok F' T' := fun k hk => by have a := h k hk; have b := s k hk; have c := n k hk; omega
theorem ib_Sub_tr {F T F1 T1 F2 T2 : Nat → Int} (h : ib_Sub F T F1 T1) (h2 : ib_Sub F1 T1 F2 T2) : ib_Sub F T F2 T2 := fun k hk => by have a := h k hk; have b := h2 k hk; omega
theorem ib_Sub_Ne {F T F1 T1 : Nat → Int} (h : ib_Sub F T F1 T1) (h2 : ib_Ne F1 T1) : ib_Ne F T := fun k hk => by have a := h k hk; have b := h2 k hk; omega
theorem ib_In_Sub {F T F1 T1 : Nat → Int} {p : Nat} (h : ib_Sub F T F1 T1) (h2 : ib_In F1 T1 p) : ib_In F T p := fun k hk => by have a := h k hk; have b := h2 k hk; omega
theorem ib_In_Ne {F T : Nat → Int} {p : Nat} (h : ib_In F T p) : ib_Ne F T := fun k hk => by have a := h k hk; omega
theorem ib_In_lt {F T : Nat → Int} {p : Nat} (o : ib_Ok F T) (h : ib_In F T p) : p < 4913 := by
  have a := h 0 (by omega)
  have b := o 0 (by omega)
  rw [ib_c0] at a
  omega
theorem ib_wd_nn {F T : Nat → Int} (h : ib_Ne F T) : 0 ≤ ib_wd F T := by
  have h0 := h 0 (by omega)
  have h1 := h 1 (by omega)
  have h2 := h 2 (by omega)
  unfold ib_wd; omega
theorem ib_wd_le {F T : Nat → Int} (h : ib_Ok F T) : ib_wd F T ≤ 48 := by
  have h0 := h 0 (by omega)
  have h1 := h 1 (by omega)
  have h2 := h 2 (by omega)
  unfold ib_wd; omega
theorem ib_wd_sub {F T F' T' : Nat → Int} (h : ib_Sub F T F' T') : ib_wd F' T' ≤ ib_wd F T := by
  have h0 := h 0 (by omega)
  have h1 := h 1 (by omega)
  have h2 := h 2 (by omega)
  unfold ib_wd; omega
theorem ib_wd_lt {F T F' T' : Nat → Int} (h : ib_Sub F T F' T') {v : Nat} (hv : v < 3) (hs : F v < F' v ∨ T' v < T v) : ib_wd F' T' < ib_wd F T := by
  have h0 := h 0 (by omega)
  have h1 := h 1 (by omega)
  have h2 := h 2 (by omega)
  have hc : v = 0 ∨ v = 1 ∨ v = 2 := by omega
  unfold ib_wd
  rcases hc with e | e | e <;> subst e <;> omega
theorem ib_wd_eq {F T F' T' : Nat → Int} (h : ib_Eq F T F' T') : ib_wd F' T' = ib_wd F T := by
  have h0 := h 0 (by omega)
  have h1 := h 1 (by omega)
  have h2 := h 2 (by omega)
  unfold ib_wd; omega
/-! a limit's terms and sums in a box -/
def ib_lt (f l h : Int) : Int := if f ≤ 0 then f * h else f * l
def ib_gt (f l h : Int) : Int := if f ≤ 0 then f * l else f * h
theorem ib_lt_le {f l h x : Int} (h1 : l ≤ x) (h2 : x ≤ h) : ib_lt f l h ≤ f * x := by
  unfold ib_lt
  by_cases hf : f ≤ 0
  · rw [if_pos hf]; exact Int.mul_le_mul_of_nonpos_left hf h2
  · rw [if_neg hf]; exact Int.mul_le_mul_of_nonneg_left h1 (by omega)
theorem ib_gt_ge {f l h x : Int} (h1 : l ≤ x) (h2 : x ≤ h) : f * x ≤ ib_gt f l h := by
  unfold ib_gt
  by_cases hf : f ≤ 0
  · rw [if_pos hf]; exact Int.mul_le_mul_of_nonpos_left hf h1
  · rw [if_neg hf]; exact Int.mul_le_mul_of_nonneg_left h2 (by omega)
theorem ib_lt_b {f l h : Int} (hf : -5 ≤ f ∧ f ≤ 5) (hl : -9 ≤ l ∧ l ≤ 9) (hh : -9 ≤ h ∧ h ≤ 9) : -90 ≤ ib_lt f l h ∧ ib_lt f l h ≤ 90 := by
  unfold ib_lt
  by_cases z : f ≤ 0
  · rw [if_pos z]; exact ib_pb (by omega) hh
  · rw [if_neg z]; exact ib_pb (by omega) hl
theorem ib_gt_b {f l h : Int} (hf : -5 ≤ f ∧ f ≤ 5) (hl : -9 ≤ l ∧ l ≤ 9) (hh : -9 ≤ h ∧ h ≤ 9) : -90 ≤ ib_gt f l h ∧ ib_gt f l h ≤ 90 := by
  unfold ib_gt
  by_cases z : f ≤ 0
  · rw [if_pos z]; exact ib_pb (by omega) hl
  · rw [if_neg z]; exact ib_pb (by omega) hh
def ib_lk (fa : Nat → Int32) (F T : Nat → Int) (i k : Nat) : Int := ib_lt (ib_z fa (i * 3 + k)) (F k) (T k)
def ib_gk (fa : Nat → Int32) (F T : Nat → Int) (i k : Nat) : Int := ib_gt (ib_z fa (i * 3 + k)) (F k) (T k)
def ib_ls (fa : Nat → Int32) (F T : Nat → Int) (i : Nat) : Int := ib_lk fa F T i 0 + ib_lk fa F T i 1 + ib_lk fa F T i 2
def ib_gs (fa : Nat → Int32) (F T : Nat → Int) (i : Nat) : Int := ib_gk fa F T i 0 + ib_gk fa F T i 1 + ib_gk fa F T i 2
def ib_lv (fa : Nat → Int32) (i : Nat) (X : Nat → Int) : Int := ib_z fa (i * 3 + 0) * X 0 + ib_z fa (i * 3 + 1) * X 1 + ib_z fa (i * 3 + 2) * X 2
theorem ib_ls_eq {fa : Nat → Int32} {F T F' T' : Nat → Int} {i : Nat} (h : ∀ k, k < 3 → ib_lk fa F' T' i k = ib_lk fa F T i k) : ib_ls fa F' T' i = ib_ls fa F T i := by
  unfold ib_ls
  rw [h 0 (by omega), h 1 (by omega), h 2 (by omega)]
theorem ib_lk_Eq {fa : Nat → Int32} {F T F' T' : Nat → Int} (h : ib_Eq F T F' T') (i : Nat) : ∀ k, k < 3 → ib_lk fa F' T' i k = ib_lk fa F T i k := by
  intro k hk
  unfold ib_lk
  rw [(h k hk).1, (h k hk).2]
theorem ib_ls_Eq {fa : Nat → Int32} {F T F' T' : Nat → Int} (h : ib_Eq F T F' T') (i : Nat) : ib_ls fa F' T' i = ib_ls fa F T i := ib_ls_eq (ib_lk_Eq h i)
/-- what a limit's other terms leave to the term of v -/
theorem ib_room {fa : Nat → Int32} {F T : Nat → Int} {i v : Nat} {b : Int} {X : Nat → Int} (hv : v < 3) (hX : ∀ k, k < 3 → F k ≤ X k ∧ X k ≤ T k) (hb : ib_lv fa i X ≤ b) : ib_z fa (i * 3 + v) * X v ≤ b - (ib_ls fa F T i - ib_lk fa F T i v) := by
  have a0 : ib_lk fa F T i 0 ≤ ib_z fa (i * 3 + 0) * X 0 := ib_lt_le (hX 0 (by omega)).1 (hX 0 (by omega)).2
  have a1 : ib_lk fa F T i 1 ≤ ib_z fa (i * 3 + 1) * X 1 := ib_lt_le (hX 1 (by omega)).1 (hX 1 (by omega)).2
  have a2 : ib_lk fa F T i 2 ≤ ib_z fa (i * 3 + 2) * X 2 := ib_lt_le (hX 2 (by omega)).1 (hX 2 (by omega)).2
  unfold ib_lv at hb
  unfold ib_ls
  have hc : v = 0 ∨ v = 1 ∨ v = 2 := by omega
  rcases hc with e | e | e <;> subst e <;> omega
theorem ib_gs_ge {fa : Nat → Int32} {F T : Nat → Int} {i : Nat} {X : Nat → Int} (hX : ∀ k, k < 3 → F k ≤ X k ∧ X k ≤ T k) : ib_lv fa i X ≤ ib_gs fa F T i := by
  have a0 : ib_z fa (i * 3 + 0) * X 0 ≤ ib_gk fa F T i 0 := ib_gt_ge (hX 0 (by omega)).1 (hX 0 (by omega)).2
  have a1 : ib_z fa (i * 3 + 1) * X 1 ≤ ib_gk fa F T i 1 := ib_gt_ge (hX 1 (by omega)).1 (hX 1 (by omega)).2
  have a2 : ib_z fa (i * 3 + 2) * X 2 ≤ ib_gk fa F T i 2 := ib_gt_ge (hX 2 (by omega)).1 (hX 2 (by omega)).2
  unfold ib_lv ib_gs
  omega
theorem ib_gs_pt {fa : Nat → Int32} {F T : Nat → Int} {i : Nat} (h : ∀ k, k < 3 → F k = T k) : ib_gs fa F T i = ib_ls fa F T i := by
  have e : ∀ k, k < 3 → ib_gk fa F T i k = ib_lk fa F T i k := by
    intro k hk
    unfold ib_gk ib_lk ib_gt ib_lt
    rw [h k hk]
  unfold ib_gs ib_ls
  rw [e 0 (by omega), e 1 (by omega), e 2 (by omega)]
/-- x times f within the room: x is at most the rounded quotient -/
theorem ib_quo {f x q room : Int} (hf : 0 < f) (h1 : f * x ≤ room) (h2 : room < q * f + f) : x ≤ q := by
  by_cases h : x ≤ q
  · exact h
  · exfalso
    have h3 : f * (q + 1) ≤ f * x := Int.mul_le_mul_of_nonneg_left (by omega) (by omega)
    rw [Int.mul_add, Int.mul_one, Int.mul_comm f q] at h3
    omega
/-! what a set of limits asks of a point -/
def ib_S (fa bo : Nat → Int32) (s : Int32) (p : Nat) : Prop := ∀ i, i < 8 → bt s i = true → ib_lv fa i (ib_c p) ≤ ib_z bo i
def ib_WF (fa bo : Nat → Int32) : Prop := (∀ j, j < 24 → -5 ≤ ib_z fa j ∧ ib_z fa j ≤ 5) ∧ (∀ i, i < 8 → -100 ≤ ib_z bo i ∧ ib_z bo i ≤ 100)
theorem ib_lk_b {fa bo : Nat → Int32} {F T : Nat → Int} (w : ib_WF fa bo) (s : ib_Sm F T) {i k : Nat} (hi : i < 8) (hk : k < 3) : -90 ≤ ib_lk fa F T i k ∧ ib_lk fa F T i k ≤ 90 := by
  have a := s k hk
  exact ib_lt_b (w.1 _ (by omega)) (by omega) (by omega)
theorem ib_gk_b {fa bo : Nat → Int32} {F T : Nat → Int} (w : ib_WF fa bo) (s : ib_Sm F T) {i k : Nat} (hi : i < 8) (hk : k < 3) : -90 ≤ ib_gk fa F T i k ∧ ib_gk fa F T i k ≤ 90 := by
  have a := s k hk
  exact ib_gt_b (w.1 _ (by omega)) (by omega) (by omega)
theorem ib_ls_b {fa bo : Nat → Int32} {F T : Nat → Int} (w : ib_WF fa bo) (s : ib_Sm F T) {i : Nat} (hi : i < 8) : -270 ≤ ib_ls fa F T i ∧ ib_ls fa F T i ≤ 270 := by
  have a := ib_lk_b w s hi (k := 0) (by omega)
  have b := ib_lk_b w s hi (k := 1) (by omega)
  have c := ib_lk_b w s hi (k := 2) (by omega)
  unfold ib_ls
  omega
/-- all limits of the set hold anywhere in the box -/
def ib_Fr (fa bo : Nat → Int32) (s : Int32) (F T : Nat → Int) : Prop := ∀ i, i < 8 → bt s i = true → ib_gs fa F T i ≤ ib_z bo i
theorem ib_Fr_S {fa bo : Nat → Int32} {s : Int32} {F T : Nat → Int} {p : Nat} (h : ib_Fr fa bo s F T) (hp : ib_In F T p) : ib_S fa bo s p := fun i hi hb => Int.le_trans (ib_gs_ge hp) (h i hi hb)
/-! one narrowing: r tells whether the box changed -/
def ib_Nw (P : Nat → Prop) (r : Int32) (F T F' T' : Nat → Int) : Prop :=
  (r = 0 ∨ r = 1) ∧ ib_Sm F' T' ∧ (∀ p, ib_In F T p → P p → ib_In F' T' p) ∧ (ib_Ne F' T' → ib_Sub F T F' T' ∧ (r = 0 → ib_Eq F T F' T') ∧ (r = 1 → ib_wd F' T' < ib_wd F T))
theorem ib_Nw_r {P : Nat → Prop} {F T : Nat → Int} (s : ib_Sm F T) : ib_Nw P 0 F T F T := ⟨Or.inl rfl, s, fun _ h _ => h, fun _ => ⟨fun k hk => ⟨Int.le_refl _, Int.le_refl _⟩, fun _ k hk => ⟨rfl, rfl⟩, fun h => absurd h (by decide)⟩⟩
def ib_or (a b : Int32) : Int32 := if a = 0 then (if b = 0 then 0 else 1) else 1
theorem ib_or_0 (b : Int32) (hb : b = 0 ∨ b = 1) : ib_or 0 b = b := by
  rcases hb with h | h <;> subst h <;> rfl
theorem ib_or_1 (b : Int32) : ib_or 1 b = 1 := rfl
theorem ib_Nw_t {P : Nat → Prop} {r r2 : Int32} {F T F1 T1 F2 T2 : Nat → Int} (h : ib_Nw P r F T F1 T1) (h2 : ib_Nw P r2 F1 T1 F2 T2) : ib_Nw P (ib_or r r2) F T F2 T2 := by
  obtain ⟨a1, b1, c1, d1⟩ := h
  obtain ⟨a2, b2, c2, d2⟩ := h2
  refine ⟨?_, b2, fun p hp hP => c2 p (c1 p hp hP) hP, fun hn => ?_⟩
  · rcases a1 with e | e <;> subst e
    · rw [ib_or_0 _ a2]; exact a2
    · exact Or.inr rfl
  · obtain ⟨s2, e2, w2⟩ := d2 hn
    have n1 : ib_Ne F1 T1 := ib_Sub_Ne s2 hn
    obtain ⟨s1, e1, w1⟩ := d1 n1
    have l1 := ib_wd_sub s1
    have l2 := ib_wd_sub s2
    refine ⟨ib_Sub_tr s1 s2, ?_, ?_⟩
    · rcases a1 with e | e <;> subst e
      · rw [ib_or_0 _ a2]
        intro hz k hk
        have q1 := e1 rfl k hk
        have q2 := e2 hz k hk
        omega
      · intro hz; exact absurd hz ib_10
    · rcases a1 with e | e <;> subst e
      · rw [ib_or_0 _ a2]
        intro hz
        have := w2 hz
        omega
      · intro _
        have := w1 rfl
        omega
/-- what narrowAll leaves -/
def ib_NA (fa bo : Nat → Int32) (s : Int32) (F T F' T' : Nat → Int) : Prop :=
  ib_Sm F' T' ∧ (∀ p, ib_In F T p → ib_S fa bo s p → ib_In F' T' p) ∧ (ib_Ne F' T' → ib_Sub F T F' T' ∧ ∀ i, i < 8 → bt s i = true → ib_ls fa F' T' i ≤ ib_z bo i)
/-- a box that narrowAll leaves and that isn't free has two numbers in some variable -/
theorem ib_NA_two {fa bo : Nat → Int32} {s : Int32} {F T F' T' : Nat → Int} (h : ib_NA fa bo s F T F' T') (n : ib_Ne F' T') (nf : ¬ ib_Fr fa bo s F' T') : ∃ k, k < 3 ∧ F' k < T' k := by
  apply Classical.byContradiction
  intro hc
  apply nf
  intro i hi hb
  have e : ∀ k, k < 3 → F' k = T' k := by
    intro k hk
    have a := n k hk
    by_cases z : F' k < T' k
    · exact absurd ⟨k, hk, z⟩ hc
    · omega
  rw [ib_gs_pt e]
  exact (h.2.2 n).2 i hi hb
end
section
/-! counting points -/
noncomputable def ib_b (P : Prop) : Nat := @ite Nat P (Classical.propDecidable P) 1 0
theorem ib_b_t {P : Prop} (h : P) : ib_b P = 1 := by unfold ib_b; rw [if_pos h]
theorem ib_b_f {P : Prop} (h : ¬ P) : ib_b P = 0 := by unfold ib_b; rw [if_neg h]
theorem ib_b_c {P Q : Prop} (h : P ↔ Q) : ib_b P = ib_b Q := by rw [propext h]
noncomputable def ib_cn (P : Nat → Prop) : Nat → Nat
  | 0 => 0
  | n + 1 => ib_cn P n + ib_b (P n)
theorem ib_cn_s (P : Nat → Prop) (n : Nat) : ib_cn P (n + 1) = ib_cn P n + ib_b (P n) := rfl
theorem ib_cn_c {P Q : Nat → Prop} : ∀ n, (∀ p, p < n → (P p ↔ Q p)) → ib_cn P n = ib_cn Q n := by
  intro n
  induction n with
  | zero => intro _; rfl
  | succ n ih =>
    intro h
    rw [ib_cn_s, ib_cn_s, ih (fun p hp => h p (by omega)), ib_b_c (h n (by omega))]
theorem ib_cn_0 {P : Nat → Prop} : ∀ n, (∀ p, p < n → ¬ P p) → ib_cn P n = 0 := by
  intro n
  induction n with
  | zero => intro _; rfl
  | succ n ih =>
    intro h
    rw [ib_cn_s, ih (fun p hp => h p (by omega)), ib_b_f (h n (by omega))]
theorem ib_cn_le (P : Nat → Prop) : ∀ n, ib_cn P n ≤ n := by
  intro n
  induction n with
  | zero => exact Nat.le_refl _
  | succ n ih =>
    rw [ib_cn_s]
    by_cases h : P n
    · rw [ib_b_t h]; omega
    · rw [ib_b_f h]; omega
theorem ib_cn_mono {P Q : Nat → Prop} : ∀ n, (∀ p, p < n → P p → Q p) → ib_cn P n ≤ ib_cn Q n := by
  intro n
  induction n with
  | zero => intro _; exact Nat.le_refl _
  | succ n ih =>
    intro h
    have i := ih (fun p hp => h p (by omega))
    rw [ib_cn_s, ib_cn_s]
    by_cases z : P n
    · rw [ib_b_t z, ib_b_t (h n (by omega) z)]; omega
    · rw [ib_b_f z]; omega
theorem ib_cn_pos {P : Nat → Prop} {p : Nat} (hP : P p) : ∀ n, p < n → 1 ≤ ib_cn P n := by
  intro n
  induction n with
  | zero => intro h; omega
  | succ n ih =>
    intro h
    rw [ib_cn_s]
    by_cases e : p = n
    · subst e; rw [ib_b_t hP]; omega
    · have := ih (by omega); omega
theorem ib_cn_or {P Q R : Nat → Prop} : ∀ n, (∀ p, p < n → (R p ↔ P p ∨ Q p)) → (∀ p, p < n → P p → Q p → False) → ib_cn R n = ib_cn P n + ib_cn Q n := by
  intro n
  induction n with
  | zero => intro _ _; rfl
  | succ n ih =>
    intro h d
    rw [ib_cn_s, ib_cn_s, ib_cn_s, ih (fun p hp => h p (by omega)) (fun p hp => d p (by omega)), ib_b_c (h n (by omega))]
    by_cases z : P n
    · have z2 : ¬ Q n := fun q => d n (by omega) z q
      rw [ib_b_t (Or.inl z), ib_b_t z, ib_b_f z2]; omega
    · by_cases z2 : Q n
      · rw [ib_b_t (Or.inr z2), ib_b_t z2, ib_b_f z]; omega
      · rw [ib_b_f (P := P n ∨ Q n) (fun q => q.elim z z2), ib_b_f z, ib_b_f z2]; omega
theorem ib_cn_add (P : Nat → Prop) (m : Nat) : ∀ n, ib_cn P (m + n) = ib_cn P m + ib_cn (fun j => P (m + j)) n := by
  intro n
  induction n with
  | zero => rfl
  | succ n ih =>
    rw [ib_cn_s, ← Nat.add_assoc, ib_cn_s, ih]
    omega
theorem ib_cn_and (A : Prop) (C : Nat → Prop) : ∀ n, ib_cn (fun j => A ∧ C j) n = ib_b A * ib_cn C n := by
  intro n
  by_cases h : A
  · rw [ib_b_t h, Nat.one_mul]
    exact ib_cn_c n (fun p _ => ⟨fun q => q.2, fun q => ⟨h, q⟩⟩)
  · rw [ib_b_f h, Nat.zero_mul]
    exact ib_cn_0 n (fun p _ q => h q.1)
theorem ib_cn_mul (A C : Nat → Prop) {b : Nat} (hb : 0 < b) : ∀ a, ib_cn (fun p => A (p / b) ∧ C (p % b)) (a * b) = ib_cn A a * ib_cn C b := by
  intro a
  induction a with
  | zero => rw [Nat.zero_mul]; show 0 = 0 * _; rw [Nat.zero_mul]
  | succ a ih =>
    rw [Nat.succ_mul, ib_cn_add, ih, ib_cn_s, Nat.add_mul]
    have e : ib_cn (fun j => A ((a * b + j) / b) ∧ C ((a * b + j) % b)) b = ib_cn (fun j => A a ∧ C j) b := by
      apply ib_cn_c
      intro j hj
      have e1 : (a * b + j) / b = a := by
        rw [Nat.add_comm, Nat.add_mul_div_right _ _ hb, Nat.div_eq_of_lt hj, Nat.zero_add]
      have e2 : (a * b + j) % b = j := by
        rw [Nat.add_comm, Nat.add_mul_mod_self_right, Nat.mod_eq_of_lt hj]
      rw [e1, e2]
    rw [e, ib_cn_and]
theorem ib_cn_iv {l h : Nat} (hlh : l ≤ h) : ∀ n, ib_cn (fun j => l ≤ j ∧ j ≤ h) n = if n ≤ l then 0 else if n ≤ h + 1 then n - l else h + 1 - l := by
  intro n
  induction n with
  | zero => rw [if_pos (by omega)]; rfl
  | succ n ih =>
    rw [ib_cn_s, ih]
    by_cases a : n < l
    · rw [if_pos (by omega), if_pos (by omega), ib_b_f (by omega)]
    · by_cases b : n ≤ h
      · rw [ib_b_t ⟨by omega, b⟩, if_neg (c := n + 1 ≤ l) (by omega), if_pos (c := n + 1 ≤ h + 1) (by omega)]
        by_cases e : n ≤ l
        · rw [if_pos e]; omega
        · rw [if_neg e, if_pos (by omega)]; omega
      · rw [ib_b_f (by omega), if_neg (c := n + 1 ≤ l) (by omega), if_neg (c := n + 1 ≤ h + 1) (by omega), if_neg (by omega)]
        by_cases e : n ≤ h + 1
        · rw [if_pos e]; omega
        · rw [if_neg e]; omega
def ib_w (F T : Nat → Int) (k : Nat) : Nat := (T k - F k + 1).toNat
def ib_iv (F T : Nat → Int) (k j : Nat) : Prop := F k ≤ (j : Int) - 8 ∧ (j : Int) - 8 ≤ T k
def ib_i2 (F T : Nat → Int) (q : Nat) : Prop := ib_iv F T 1 (q / 17) ∧ ib_iv F T 2 (q % 17)
theorem ib_cn_w {F T : Nat → Int} {k : Nat} (h : -8 ≤ F k ∧ F k ≤ T k ∧ T k ≤ 8) : ib_cn (ib_iv F T k) 17 = ib_w F T k := by
  have e : ib_cn (ib_iv F T k) 17 = ib_cn (fun j => (F k + 8).toNat ≤ j ∧ j ≤ (T k + 8).toNat) 17 := by
    apply ib_cn_c
    intro p _
    unfold ib_iv
    constructor
    · intro ⟨a, b⟩; exact ⟨by omega, by omega⟩
    · intro ⟨a, b⟩; exact ⟨by omega, by omega⟩
  rw [e, ib_cn_iv (by omega), if_neg (by omega)]
  unfold ib_w
  by_cases z : 17 ≤ (T k + 8).toNat + 1
  · rw [if_pos z]; omega
  · rw [if_neg z]; omega
noncomputable def ib_vol (F T : Nat → Int) : Nat := ib_cn (ib_In F T) 4913
theorem ib_vol_w {F T : Nat → Int} (h : ib_Ok F T) : ib_vol F T = ib_w F T 0 * ib_w F T 1 * ib_w F T 2 := by
  have e : ib_vol F T = ib_cn (fun p => ib_iv F T 0 (p / 289) ∧ ib_i2 F T (p % 289)) (17 * 289) := by
    apply ib_cn_c
    intro p _
    have e1 : p % 289 / 17 = p / 17 % 17 := by omega
    have e2 : p % 289 % 17 = p % 17 := by omega
    unfold ib_i2
    rw [e1, e2]
    constructor
    · intro a; exact ⟨a 0 (by omega), a 1 (by omega), a 2 (by omega)⟩
    · intro ⟨a, b, c⟩; exact ib_c3 a b c
  have e1 : ib_cn (fun p => ib_iv F T 0 (p / 289) ∧ ib_i2 F T (p % 289)) (17 * 289) = ib_cn (ib_iv F T 0) 17 * ib_cn (ib_i2 F T) 289 := ib_cn_mul (ib_iv F T 0) (ib_i2 F T) (by omega) 17
  have e2 : ib_cn (ib_i2 F T) (17 * 17) = ib_cn (ib_iv F T 1) 17 * ib_cn (ib_iv F T 2) 17 := ib_cn_mul (ib_iv F T 1) (ib_iv F T 2) (by omega) 17
  have e3 : ib_cn (ib_i2 F T) 289 = ib_cn (ib_i2 F T) (17 * 17) := rfl
  rw [e, e1, e3, e2, ib_cn_w (h 0 (by omega)), ib_cn_w (h 1 (by omega)), ib_cn_w (h 2 (by omega)), Nat.mul_assoc]
theorem ib_vol_le (F T : Nat → Int) : ib_vol F T ≤ 4913 := ib_cn_le _ _
theorem ib_vol_sub {F T F' T' : Nat → Int} (h : ib_Sub F T F' T') : ib_vol F' T' ≤ ib_vol F T := ib_cn_mono _ (fun _ _ hp => ib_In_Sub h hp)
/-- the corner of low ends, of a box within -8 to 8 -/
theorem ib_lowC {F T : Nat → Int} (h : ib_Ok F T) : ib_In F T (ib_en F) := by
  have e := ib_en_c (X := F) (fun k hk => by have := h k hk; omega)
  intro k hk
  rw [e k hk]
  have := h k hk
  omega
theorem ib_vol_pos {F T : Nat → Int} (h : ib_Ok F T) : 1 ≤ ib_vol F T := ib_cn_pos (ib_lowC h) _ (ib_In_lt h (ib_lowC h))
/-- the points of a box that a set of limits leaves -/
noncomputable def ib_cnt (P : Nat → Prop) (F T : Nat → Int) : Nat := ib_cn (fun p => ib_In F T p ∧ P p) 4913
/-! cutting a box in two at variable v behind m -/
def ib_up (F : Nat → Int) (v : Nat) (x : Int) : Nat → Int := fun k => if k = v then x else F k
theorem ib_up_s (F : Nat → Int) (v : Nat) (x : Int) : ib_up F v x v = x := if_pos rfl
theorem ib_up_n (F : Nat → Int) {v k : Nat} (x : Int) (h : k ≠ v) : ib_up F v x k = F k := if_neg h
def ib_Cut (F T : Nat → Int) (v : Nat) (m : Int) : Prop := v < 3 ∧ (∀ k, k < v → F k = T k) ∧ F v ≤ m ∧ m < T v ∧ 2 * (m - F v) ≤ T v - F v ∧ 2 * (T v - (m + 1)) ≤ T v - F v
theorem ib_cut_in {F T : Nat → Int} {v : Nat} {m : Int} (h : ib_Cut F T v m) (p : Nat) : ib_In F T p ↔ ib_In F (ib_up T v m) p ∨ ib_In (ib_up F v (m + 1)) T p := by
  obtain ⟨hv, h0, h1, h2, _, _⟩ := h
  constructor
  · intro a
    by_cases z : ib_c p v ≤ m
    · left
      intro k hk
      have b := a k hk
      by_cases e : k = v
      · subst e; rw [ib_up_s]; omega
      · rw [ib_up_n _ _ e]; exact b
    · right
      intro k hk
      have b := a k hk
      by_cases e : k = v
      · subst e; rw [ib_up_s]; omega
      · rw [ib_up_n _ _ e]; exact b
  · intro a
    rcases a with a | a
    · intro k hk
      have b := a k hk
      by_cases e : k = v
      · subst e; rw [ib_up_s] at b; omega
      · rw [ib_up_n _ _ e] at b; exact b
    · intro k hk
      have b := a k hk
      by_cases e : k = v
      · subst e; rw [ib_up_s] at b; omega
      · rw [ib_up_n _ _ e] at b; exact b
/-- the lower half's points come before the upper half's -/
theorem ib_cut_lt {F T : Nat → Int} {v : Nat} {m : Int} (h : ib_Cut F T v m) (o : ib_Ok F T) {p q : Nat} (hp : ib_In F (ib_up T v m) p) (hq : ib_In (ib_up F v (m + 1)) T q) : p < q := by
  have ip : ib_In F T p := (ib_cut_in h p).mpr (Or.inl hp)
  have iq : ib_In F T q := (ib_cut_in h q).mpr (Or.inr hq)
  obtain ⟨hv, h0, h1, h2, _, _⟩ := h
  have sp := ib_c_sum p
  have sq := ib_c_sum q
  have vp := (hp v hv).2
  have vq := (hq v hv).1
  rw [ib_up_s] at vp vq
  have p1 := ib_c_r (ib_In_lt o ip) 1 (by omega)
  have p2 := ib_c_r (ib_In_lt o ip) 2 (by omega)
  have q1 := ib_c_r (ib_In_lt o iq) 1 (by omega)
  have q2 := ib_c_r (ib_In_lt o iq) 2 (by omega)
  have hc : v = 0 ∨ v = 1 ∨ v = 2 := by omega
  rcases hc with e | e | e
  · subst e; omega
  · subst e
    have e0 := h0 0 (by omega)
    have a := ip 0 (by omega)
    have b := iq 0 (by omega)
    omega
  · subst e
    have e0 := h0 0 (by omega)
    have a := ip 0 (by omega)
    have b := iq 0 (by omega)
    have e1 := h0 1 (by omega)
    have a1 := ip 1 (by omega)
    have b1 := iq 1 (by omega)
    omega
theorem ib_cut_cnt {F T : Nat → Int} {v : Nat} {m : Int} (h : ib_Cut F T v m) (o : ib_Ok F T) (P : Nat → Prop) : ib_cnt P F T = ib_cnt P F (ib_up T v m) + ib_cnt P (ib_up F v (m + 1)) T := by
  apply ib_cn_or
  · intro p _
    constructor
    · intro ⟨a, b⟩
      rcases (ib_cut_in h p).mp a with c | c
      · exact Or.inl ⟨c, b⟩
      · exact Or.inr ⟨c, b⟩
    · intro a
      rcases a with ⟨a, b⟩ | ⟨a, b⟩
      · exact ⟨(ib_cut_in h p).mpr (Or.inl a), b⟩
      · exact ⟨(ib_cut_in h p).mpr (Or.inr a), b⟩
  · intro p _ a b
    exact absurd (ib_cut_lt h o a.1 b.1) (Nat.lt_irrefl _)
theorem ib_cut_vol {F T : Nat → Int} {v : Nat} {m : Int} (h : ib_Cut F T v m) (o : ib_Ok F T) : ib_vol F T = ib_vol F (ib_up T v m) + ib_vol (ib_up F v (m + 1)) T := by
  apply ib_cn_or
  · intro p _
    exact ib_cut_in h p
  · intro p _ a b
    exact absurd (ib_cut_lt h o a b) (Nat.lt_irrefl _)
theorem ib_cut_oklo {F T : Nat → Int} {v : Nat} {m : Int} (h : ib_Cut F T v m) (o : ib_Ok F T) : ib_Ok F (ib_up T v m) := by
  obtain ⟨hv, h0, h1, h2, _, _⟩ := h
  intro k hk
  have a := o k hk
  by_cases e : k = v
  · subst e; rw [ib_up_s]; omega
  · rw [ib_up_n _ _ e]; exact a
theorem ib_cut_okhi {F T : Nat → Int} {v : Nat} {m : Int} (h : ib_Cut F T v m) (o : ib_Ok F T) : ib_Ok (ib_up F v (m + 1)) T := by
  obtain ⟨hv, h0, h1, h2, _, _⟩ := h
  intro k hk
  have a := o k hk
  by_cases e : k = v
  · subst e; rw [ib_up_s]; omega
  · rw [ib_up_n _ _ e]; exact a
/-! how often a box can still be cut -/
def ib_l2 (s : Int) : Nat := if s ≤ 0 then 0 else if s ≤ 1 then 1 else if s ≤ 3 then 2 else if s ≤ 7 then 3 else if s ≤ 15 then 4 else 5
theorem ib_l2_c (s : Int) : (s ≤ 0 ∧ ib_l2 s = 0) ∨ (1 ≤ s ∧ s ≤ 1 ∧ ib_l2 s = 1) ∨ (2 ≤ s ∧ s ≤ 3 ∧ ib_l2 s = 2) ∨ (4 ≤ s ∧ s ≤ 7 ∧ ib_l2 s = 3) ∨ (8 ≤ s ∧ s ≤ 15 ∧ ib_l2 s = 4) ∨ (16 ≤ s ∧ ib_l2 s = 5) := by
  unfold ib_l2
  split
  · omega
  · split
    · omega
    · split
      · omega
      · split
        · omega
        · split <;> omega
theorem ib_l2_m {s t : Int} (h : s ≤ t) : ib_l2 s ≤ ib_l2 t := by
  have a := ib_l2_c s
  have b := ib_l2_c t
  omega
theorem ib_l2_h {s t : Int} (h : 2 * s ≤ t) (h1 : 1 ≤ t) (h2 : t ≤ 16) : ib_l2 s + 1 ≤ ib_l2 t := by
  have a := ib_l2_c s
  have b := ib_l2_c t
  omega
theorem ib_l2_5 (s : Int) : ib_l2 s ≤ 5 := by
  have a := ib_l2_c s
  omega
def ib_lg (F T : Nat → Int) : Nat := ib_l2 (T 0 - F 0) + ib_l2 (T 1 - F 1) + ib_l2 (T 2 - F 2)
theorem ib_lg_15 (F T : Nat → Int) : ib_lg F T ≤ 15 := by
  have a := ib_l2_5 (T 0 - F 0)
  have b := ib_l2_5 (T 1 - F 1)
  have c := ib_l2_5 (T 2 - F 2)
  unfold ib_lg; omega
theorem ib_lg_sub {F T F' T' : Nat → Int} (h : ib_Sub F T F' T') : ib_lg F' T' ≤ ib_lg F T := by
  have a := ib_l2_m (s := T' 0 - F' 0) (t := T 0 - F 0) (by have := h 0 (by omega); omega)
  have b := ib_l2_m (s := T' 1 - F' 1) (t := T 1 - F 1) (by have := h 1 (by omega); omega)
  have c := ib_l2_m (s := T' 2 - F' 2) (t := T 2 - F 2) (by have := h 2 (by omega); omega)
  unfold ib_lg; omega
theorem ib_lg_h {F T F' T' : Nat → Int} (h : ib_Sub F T F' T') {v : Nat} (hv : v < 3) (h1 : 2 * (T' v - F' v) ≤ T v - F v) (h2 : 1 ≤ T v - F v) (h3 : T v - F v ≤ 16) : ib_lg F' T' + 1 ≤ ib_lg F T := by
  have a := ib_l2_m (s := T' 0 - F' 0) (t := T 0 - F 0) (by have := h 0 (by omega); omega)
  have b := ib_l2_m (s := T' 1 - F' 1) (t := T 1 - F 1) (by have := h 1 (by omega); omega)
  have c := ib_l2_m (s := T' 2 - F' 2) (t := T 2 - F 2) (by have := h 2 (by omega); omega)
  have d := ib_l2_h h1 h2 h3
  have hc : v = 0 ∨ v = 1 ∨ v = 2 := by omega
  unfold ib_lg
  rcases hc with e | e | e <;> subst e <;> omega
theorem ib_cut_lglo {F T : Nat → Int} {v : Nat} {m : Int} (h : ib_Cut F T v m) (o : ib_Ok F T) : ib_lg F (ib_up T v m) + 1 ≤ ib_lg F T := by
  obtain ⟨hv, h0, h1, h2, h3, h4⟩ := h
  have ov := o v hv
  refine ib_lg_h (v := v) ?_ hv ?_ (by omega) (by omega)
  · intro k hk
    by_cases e : k = v
    · subst e; rw [ib_up_s]; omega
    · rw [ib_up_n _ _ e]; omega
  · rw [ib_up_s]; omega
theorem ib_cut_lghi {F T : Nat → Int} {v : Nat} {m : Int} (h : ib_Cut F T v m) (o : ib_Ok F T) : ib_lg (ib_up F v (m + 1)) T + 1 ≤ ib_lg F T := by
  obtain ⟨hv, h0, h1, h2, h3, h4⟩ := h
  have ov := o v hv
  refine ib_lg_h (v := v) ?_ hv ?_ (by omega) (by omega)
  · intro k hk
    by_cases e : k = v
    · subst e; rw [ib_up_s]; omega
    · rw [ib_up_n _ _ e]; omega
  · rw [ib_up_s]; omega
/-! the stack of boxes as a list, the top first -/
def ib_St (sl sh : Nat → Int32) : List ((Nat → Int) × (Nat → Int)) → Prop
  | [] => True
  | B :: L => (∀ k, k < 3 → ib_z sl (L.length * 3 + k) = B.1 k ∧ ib_z sh (L.length * 3 + k) = B.2 k) ∧ ib_Ok B.1 B.2 ∧ L.length + ib_lg B.1 B.2 ≤ 15 ∧ ib_St sl sh L
theorem ib_St_k {sl sh sl' sh' : Nat → Int32} : ∀ L : List ((Nat → Int) × (Nat → Int)), (∀ j, j < L.length * 3 → sl' j = sl j ∧ sh' j = sh j) → ib_St sl sh L → ib_St sl' sh' L := by
  intro L
  induction L with
  | nil => intro _ _; trivial
  | cons B L ih =>
    intro h s
    obtain ⟨a, b, c, d⟩ := s
    have hl : (B :: L).length = L.length + 1 := rfl
    rw [hl] at h
    refine ⟨fun k hk => ?_, b, c, ih (fun j hj => h j (by omega)) d⟩
    have e := h (L.length * 3 + k) (by omega)
    have a' := a k hk
    unfold ib_z at a' ⊢
    rw [e.1, e.2]
    exact a'
noncomputable def ib_mu : List ((Nat → Int) × (Nat → Int)) → Nat
  | [] => 0
  | B :: L => (2 * ib_vol B.1 B.2 - 1) + ib_mu L
noncomputable def ib_tot (P : Nat → Prop) : List ((Nat → Int) × (Nat → Int)) → Nat
  | [] => 0
  | B :: L => ib_cnt P B.1 B.2 + ib_tot P L
theorem ib_mu_c (B : (Nat → Int) × (Nat → Int)) (L : List ((Nat → Int) × (Nat → Int))) : ib_mu (B :: L) = (2 * ib_vol B.1 B.2 - 1) + ib_mu L := rfl
theorem ib_tot_c (P : Nat → Prop) (B : (Nat → Int) × (Nat → Int)) (L : List ((Nat → Int) × (Nat → Int))) : ib_tot P (B :: L) = ib_cnt P B.1 B.2 + ib_tot P L := rfl
/-- a point is in some box of the stack -/
def ib_Any (L : List ((Nat → Int) × (Nat → Int))) (p : Nat) : Prop := ∃ B, B ∈ L ∧ ib_In B.1 B.2 p
/-- the boxes come in the order of points -/
def ib_Srt : List ((Nat → Int) × (Nat → Int)) → Prop
  | [] => True
  | B :: L => (∀ p q, ib_In B.1 B.2 p → ib_Any L q → p < q) ∧ ib_Srt L
theorem ib_Any_c {B : (Nat → Int) × (Nat → Int)} {L : List ((Nat → Int) × (Nat → Int))} {p : Nat} : ib_Any (B :: L) p ↔ ib_In B.1 B.2 p ∨ ib_Any L p := by
  constructor
  · intro ⟨C, hC, hp⟩
    rcases List.mem_cons.mp hC with e | e
    · subst e; exact Or.inl hp
    · exact Or.inr ⟨C, e, hp⟩
  · intro h
    rcases h with h | ⟨C, hC, hp⟩
    · exact ⟨B, List.mem_cons_self, h⟩
    · exact ⟨C, List.mem_cons_of_mem _ hC, hp⟩
theorem ib_Any_0 {p : Nat} : ¬ ib_Any [] p := fun ⟨_, h, _⟩ => absurd h List.not_mem_nil
end
section
section
variable {li ac de : Int32} {lo uh fa bo oo go sl sh fr tt fp : Nat → Int32}
/-! one box: terms and sums -/
theorem ib_xlt {post : Int32 → Prop} {i v : Nat} (w : ib_WF fa bo) (s : ib_Sm (ib_z fr) (ib_z tt)) (hi : i < 8) (hv : v < 3) (h : ∀ r : Int32, r.toInt = ib_lk fa (ib_z fr) (ib_z tt) i v → post r) : wpX_leastTerm post (li, ac, de, lo, uh, fa, bo, oo, go, sl, sh, fr, tt, fp) (nI i) (nI v) := by
  have e := ib_ix i v
  have f : -5 ≤ (fa (i * 3 + v)).toInt ∧ (fa (i * 3 + v)).toInt ≤ 5 := w.1 _ (by omega)
  have b : (-8 ≤ (fr v).toInt ∧ (fr v).toInt ≤ 9) ∧ (-8 ≤ (tt v).toInt ∧ (tt v).toInt ≤ 8) := s v hv
  have hin : vp_in (nI v) 3 := vp_in_nI hv (by decide)
  have hc : (nI v).toNatClampNeg = v := nI_clamp (by omega)
  refine And.intro (by rw [e]; exact vp_in_nI (by omega) (by decide)) ?_
  refine nm_r (e' := fa (i * 3 + v)) (by rw [e, nI_clamp (by omega)]) ?_
  refine ib_ble (fun z => And.intro hin (h _ ?_)) (fun z => And.intro hin (h _ ?_))
  · rw [ib_t0] at z
    rw [hc, ib_mul (by omega) (by omega)]
    unfold ib_lk ib_lt ib_z
    rw [if_pos z]
  · rw [ib_t0] at z
    rw [hc, ib_mul (by omega) (by omega)]
    unfold ib_lk ib_lt ib_z
    rw [if_neg (by omega)]
theorem ib_xgt {post : Int32 → Prop} {i v : Nat} (w : ib_WF fa bo) (s : ib_Sm (ib_z fr) (ib_z tt)) (hi : i < 8) (hv : v < 3) (h : ∀ r : Int32, r.toInt = ib_gk fa (ib_z fr) (ib_z tt) i v → post r) : wpX_greatestTerm post (li, ac, de, lo, uh, fa, bo, oo, go, sl, sh, fr, tt, fp) (nI i) (nI v) := by
  have e := ib_ix i v
  have f : -5 ≤ (fa (i * 3 + v)).toInt ∧ (fa (i * 3 + v)).toInt ≤ 5 := w.1 _ (by omega)
  have b : (-8 ≤ (fr v).toInt ∧ (fr v).toInt ≤ 9) ∧ (-8 ≤ (tt v).toInt ∧ (tt v).toInt ≤ 8) := s v hv
  have hin : vp_in (nI v) 3 := vp_in_nI hv (by decide)
  have hc : (nI v).toNatClampNeg = v := nI_clamp (by omega)
  refine And.intro (by rw [e]; exact vp_in_nI (by omega) (by decide)) ?_
  refine nm_r (e' := fa (i * 3 + v)) (by rw [e, nI_clamp (by omega)]) ?_
  refine ib_ble (fun z => And.intro hin (h _ ?_)) (fun z => And.intro hin (h _ ?_))
  · rw [ib_t0] at z
    rw [hc, ib_mul (by omega) (by omega)]
    unfold ib_gk ib_gt ib_z
    rw [if_pos z]
  · rw [ib_t0] at z
    rw [hc, ib_mul (by omega) (by omega)]
    unfold ib_gk ib_gt ib_z
    rw [if_neg (by omega)]
theorem ib_xls {post : Int32 → Prop} {i : Nat} (w : ib_WF fa bo) (s : ib_Sm (ib_z fr) (ib_z tt)) (hi : i < 8) (h : ∀ r : Int32, r.toInt = ib_ls fa (ib_z fr) (ib_z tt) i → post r) : wpX_leastSum post (li, ac, de, lo, uh, fa, bo, oo, go, sl, sh, fr, tt, fp) (nI i) := by
  have b0 := ib_lk_b w s hi (k := 0) (by omega)
  have b1 := ib_lk_b w s hi (k := 1) (by omega)
  have b2 := ib_lk_b w s hi (k := 2) (by omega)
  unfold wpX_leastSum
  refine ib_xlt (v := 0) w s hi (by omega) (fun r0 e0 => ?_)
  refine ib_xlt (v := 1) w s hi (by omega) (fun r1 e1 => ?_)
  refine ib_xlt (v := 2) w s hi (by omega) (fun r2 e2 => ?_)
  refine h _ ?_
  have e3 : (r0 + r1).toInt = r0.toInt + r1.toInt := ib_add (by omega) (by omega)
  rw [ib_add (by omega) (by omega), e3, e0, e1, e2]
  rfl
theorem ib_xgs {post : Int32 → Prop} {i : Nat} (w : ib_WF fa bo) (s : ib_Sm (ib_z fr) (ib_z tt)) (hi : i < 8) (h : ∀ r : Int32, r.toInt = ib_gs fa (ib_z fr) (ib_z tt) i → post r) : wpX_greatestSum post (li, ac, de, lo, uh, fa, bo, oo, go, sl, sh, fr, tt, fp) (nI i) := by
  have b0 := ib_gk_b w s hi (k := 0) (by omega)
  have b1 := ib_gk_b w s hi (k := 1) (by omega)
  have b2 := ib_gk_b w s hi (k := 2) (by omega)
  unfold wpX_greatestSum
  refine ib_xgt (v := 0) w s hi (by omega) (fun r0 e0 => ?_)
  refine ib_xgt (v := 1) w s hi (by omega) (fun r1 e1 => ?_)
  refine ib_xgt (v := 2) w s hi (by omega) (fun r2 e2 => ?_)
  refine h _ ?_
  have e3 : (r0 + r1).toInt = r0.toInt + r1.toInt := ib_add (by omega) (by omega)
  rw [ib_add (by omega) (by omega), e3, e0, e1, e2]
  rfl
theorem ib_qb {y Q t x : Int} (hy : 1 ≤ y ∧ y ≤ 5) (e : y * Q + t = x) (h1 : t < y) (h2 : -y < t) (hx : -1000 ≤ x ∧ x ≤ 1000) : -1005 ≤ Q ∧ Q ≤ 1005 := by
  have h : y = 1 ∨ y = 2 ∨ y = 3 ∨ y = 4 ∨ y = 5 := by omega
  rcases h with h | h | h | h | h <;> subst h <;> omega
theorem ib_qm {y Q : Int} (hy : 1 ≤ y ∧ y ≤ 5) (hQ : -1005 ≤ Q ∧ Q ≤ 1005) : -6000 ≤ Q * y ∧ Q * y ≤ 6000 := by
  have h : y = 1 ∨ y = 2 ∨ y = 3 ∨ y = 4 ∨ y = 5 := by omega
  rcases h with h | h | h | h | h <;> subst h <;> omega
theorem ib_xfd {post : Int32 → Prop} {x y : Int32} (hx : -1000 ≤ x.toInt ∧ x.toInt ≤ 1000) (hy : 1 ≤ y.toInt ∧ y.toInt ≤ 5) (h : ∀ q : Int32, q.toInt * y.toInt ≤ x.toInt → x.toInt < q.toInt * y.toInt + y.toInt → -2000 ≤ q.toInt ∧ q.toInt ≤ 2000 → post q) : wpX_floorDivide post x y := by
  have ed : (x / y).toInt = x.toInt.tdiv y.toInt := Jvm.Kit.i32_div (by omega)
  have e1 := Int.mul_tdiv_add_tmod x.toInt y.toInt
  have e2 := Int.tmod_lt_of_pos x.toInt (b := y.toInt) (by omega)
  have e3 := Int.lt_tmod_of_pos x.toInt (b := y.toInt) (by omega)
  rw [← ed] at e1
  have hQ := ib_qb hy e1 e2 e3 hx
  have hm := ib_qm hy hQ
  have m : ((x / y) * y).toInt = (x / y).toInt * y.toInt := Jvm.Kit.i32_mul (by omega) (by omega)
  rw [Int.mul_comm] at e1
  have m1 : ((x / y) - 1).toInt = (x / y).toInt - 1 := by
    have q := Jvm.Kit.i32_sub (x := x / y) (y := 1) (by rw [ib_t1]; omega) (by rw [ib_t1]; omega)
    rw [ib_t1] at q
    exact q
  refine ib_ble (fun z => absurd z (by rw [ib_t0]; omega)) (fun z => And.intro (fun z0 => ?_) ?_)
  · rw [z0, ib_t0] at hy; omega
  · refine ib_ble (fun z => h _ ?_ ?_ ?_) (fun z => h _ ?_ ?_ ?_)
    · rw [m] at z; exact z
    · omega
    · omega
    · rw [m1, Int.sub_mul, Int.one_mul]; omega
    · rw [m] at z
      rw [m1, Int.sub_mul, Int.one_mul]; omega
    · rw [m1]; omega
/-! narrowing -/
theorem ib_nwT {P : Nat → Prop} {i v : Nat} {q : Int32} (s : ib_Sm (ib_z fr) (ib_z tt)) (n : ib_Ne (ib_z fr) (ib_z tt)) (hv : v < 3) (hP : ∀ p, P p → ib_lv fa i (ib_c p) ≤ ib_z bo i) (hls : ib_ls fa (ib_z fr) (ib_z tt) i ≤ ib_z bo i) (f0 : 0 < ib_z fa (i * 3 + v)) (hq : ib_z bo i - (ib_ls fa (ib_z fr) (ib_z tt) i - ib_lk fa (ib_z fr) (ib_z tt) i v) < q.toInt * ib_z fa (i * 3 + v) + ib_z fa (i * 3 + v)) (hl : q.toInt < ib_z tt v) : ib_Nw P 1 (ib_z fr) (ib_z tt) (ib_z fr) (ib_z (upd tt v q)) ∧ ib_ls fa (ib_z fr) (ib_z (upd tt v q)) i ≤ ib_z bo i := by
  have el : ib_lk fa (ib_z fr) (ib_z tt) i v = ib_z fa (i * 3 + v) * ib_z fr v := by
    unfold ib_lk ib_lt; rw [if_neg (by omega)]
  have hF : ib_z fr v ≤ q.toInt := ib_quo f0 (by omega) hq
  have sv := s v hv
  have sub : ib_Sub (ib_z fr) (ib_z tt) (ib_z fr) (ib_z (upd tt v q)) := by
    intro k hk
    refine ⟨Int.le_refl _, ?_⟩
    by_cases e : k = v
    · subst e; rw [ib_zus]; omega
    · rw [ib_zun _ _ e]; exact Int.le_refl _
  refine ⟨⟨Or.inr rfl, ?_, ?_, ?_⟩, ?_⟩
  · intro k hk
    have sk := s k hk
    by_cases e : k = v
    · subst e; rw [ib_zus]; omega
    · rw [ib_zun _ _ e]; exact sk
  · intro p hp hp2
    have hr := ib_room (v := v) hv hp (hP p hp2)
    have hc : ib_c p v ≤ q.toInt := ib_quo f0 hr hq
    intro k hk
    have a := hp k hk
    by_cases e : k = v
    · subst e; rw [ib_zus]; omega
    · rw [ib_zun _ _ e]; exact a
  · intro _
    refine ⟨sub, fun h => absurd h (by decide), fun _ => ib_wd_lt sub hv (Or.inr ?_)⟩
    rw [ib_zus]; exact hl
  · have e : ib_ls fa (ib_z fr) (ib_z (upd tt v q)) i = ib_ls fa (ib_z fr) (ib_z tt) i := by
      apply ib_ls_eq
      intro k hk
      by_cases e : k = v
      · subst e
        unfold ib_lk ib_lt
        rw [if_neg (by omega), if_neg (by omega)]
      · unfold ib_lk
        rw [ib_zun _ _ e]
    rw [e]; exact hls
theorem ib_nwF {P : Nat → Prop} {i v : Nat} {x : Int32} {q : Int} (s : ib_Sm (ib_z fr) (ib_z tt)) (n : ib_Ne (ib_z fr) (ib_z tt)) (hv : v < 3) (hP : ∀ p, P p → ib_lv fa i (ib_c p) ≤ ib_z bo i) (hls : ib_ls fa (ib_z fr) (ib_z tt) i ≤ ib_z bo i) (f0 : ib_z fa (i * 3 + v) < 0) (hx : x.toInt = -q) (hq : ib_z bo i - (ib_ls fa (ib_z fr) (ib_z tt) i - ib_lk fa (ib_z fr) (ib_z tt) i v) < q * (-ib_z fa (i * 3 + v)) + (-ib_z fa (i * 3 + v))) (hl : ib_z fr v < x.toInt) : ib_Nw P 1 (ib_z fr) (ib_z tt) (ib_z (upd fr v x)) (ib_z tt) ∧ ib_ls fa (ib_z (upd fr v x)) (ib_z tt) i ≤ ib_z bo i := by
  have el : ib_lk fa (ib_z fr) (ib_z tt) i v = ib_z fa (i * 3 + v) * ib_z tt v := by
    unfold ib_lk ib_lt; rw [if_pos (by omega)]
  have hT : -ib_z tt v ≤ q := ib_quo (f := -ib_z fa (i * 3 + v)) (by omega) (by rw [Int.neg_mul_neg]; omega) hq
  have sv := s v hv
  have sub : ib_Sub (ib_z fr) (ib_z tt) (ib_z (upd fr v x)) (ib_z tt) := by
    intro k hk
    refine ⟨?_, Int.le_refl _⟩
    by_cases e : k = v
    · subst e; rw [ib_zus]; omega
    · rw [ib_zun _ _ e]; exact Int.le_refl _
  refine ⟨⟨Or.inr rfl, ?_, ?_, ?_⟩, ?_⟩
  · intro k hk
    have sk := s k hk
    by_cases e : k = v
    · subst e; rw [ib_zus]; omega
    · rw [ib_zun _ _ e]; exact sk
  · intro p hp hp2
    have hr := ib_room (v := v) hv hp (hP p hp2)
    have hc : -ib_c p v ≤ q := ib_quo (f := -ib_z fa (i * 3 + v)) (by omega) (by rw [Int.neg_mul_neg]; exact hr) hq
    intro k hk
    have a := hp k hk
    by_cases e : k = v
    · subst e; rw [ib_zus]; omega
    · rw [ib_zun _ _ e]; exact a
  · intro _
    refine ⟨sub, fun h => absurd h (by decide), fun _ => ib_wd_lt sub hv (Or.inl ?_)⟩
    rw [ib_zus]; exact hl
  · have e : ib_ls fa (ib_z (upd fr v x)) (ib_z tt) i = ib_ls fa (ib_z fr) (ib_z tt) i := by
      apply ib_ls_eq
      intro k hk
      by_cases e : k = v
      · subst e
        unfold ib_lk ib_lt
        rw [if_pos (by omega), if_pos (by omega)]
      · unfold ib_lk
        rw [ib_zun _ _ e]
    rw [e]; exact hls
theorem ib_xnarrow {post : Int32 → SX → Prop} {i v : Nat} {P : Nat → Prop} (w : ib_WF fa bo) (s : ib_Sm (ib_z fr) (ib_z tt)) (n : ib_Ne (ib_z fr) (ib_z tt)) (hi : i < 8) (hv : v < 3) (hP : ∀ p, P p → ib_lv fa i (ib_c p) ≤ ib_z bo i) (hls : ib_ls fa (ib_z fr) (ib_z tt) i ≤ ib_z bo i) (h : ∀ r fr' tt', ib_Nw P r (ib_z fr) (ib_z tt) (ib_z fr') (ib_z tt') → ib_ls fa (ib_z fr') (ib_z tt') i ≤ ib_z bo i → post r (li, ac, de, lo, uh, fa, bo, oo, go, sl, sh, fr', tt', fp)) : wpX_narrow post (li, ac, de, lo, uh, fa, bo, oo, go, sl, sh, fr, tt, fp) (nI i) (nI v) := by
  have e := ib_ix i v
  have f : -5 ≤ (fa (i * 3 + v)).toInt ∧ (fa (i * 3 + v)).toInt ≤ 5 := w.1 _ (by omega)
  have lb := ib_lk_b w s hi hv
  have sb := ib_ls_b w s hi
  have bb : -100 ≤ (bo i).toInt ∧ (bo i).toInt ≤ 100 := w.2 i hi
  have hin : vp_in (nI v) 3 := vp_in_nI hv (by decide)
  have hc : (nI v).toNatClampNeg = v := nI_clamp (by omega)
  refine And.intro (by rw [e]; exact vp_in_nI (by omega) (by decide)) ?_
  refine nm_r (e' := fa (i * 3 + v)) (by rw [e, nI_clamp (by omega)]) ?_
  refine ib_beq (fun z => h 0 fr tt (ib_Nw_r s) hls) (fun z => And.intro (vp_in_nI hi (by decide)) ?_)
  rw [ib_t0] at z
  refine ib_xls w s hi (fun r5 e5 => ?_)
  refine ib_xlt w s hi hv (fun r20 e20 => ?_)
  have hr : (bo i - (r5 - r20)).toInt = ib_z bo i - (ib_ls fa (ib_z fr) (ib_z tt) i - ib_lk fa (ib_z fr) (ib_z tt) i v) := by
    have e1 : (r5 - r20).toInt = r5.toInt - r20.toInt := ib_sub (by omega) (by omega)
    rw [ib_sub (by omega) (by omega), e1, e5, e20]
    rfl
  refine nm_r (e' := bo i - (r5 - r20)) (by rw [nI_clamp (by omega)]) ?_
  have hb2 : -1000 ≤ (bo i - (r5 - r20)).toInt ∧ (bo i - (r5 - r20)).toInt ≤ 1000 := by
    rw [hr, show ib_z bo i = (bo i).toInt from rfl]; omega
  refine ib_ble (fun y => ?_) (fun y => ?_)
  · rw [ib_t0] at y
    have hn : (-(fa (i * 3 + v))).toInt = -(fa (i * 3 + v)).toInt := ib_neg (by omega)
    refine ib_xfd hb2 (by omega) (fun q h1 h2 h3 => ?_)
    refine nm_e ?_
    refine And.intro hin ?_
    rw [hc]
    refine ib_blt (fun x => And.intro hin (nm_e ?_)) (fun x => h 0 fr tt (ib_Nw_r s) hls)
    have hnq : (-q).toInt = -q.toInt := Jvm.Kit.i32_neg (by omega)
    rw [hn, hr] at h2
    have K := ib_nwF (P := P) (i := i) (v := v) (x := -q) (q := q.toInt) s n hv hP hls (by unfold ib_z; omega) hnq h2 x
    exact h 1 (upd fr v (-q)) tt K.1 K.2
  · rw [ib_t0] at y
    refine ib_xfd hb2 (by omega) (fun q h1 h2 h3 => ?_)
    refine And.intro hin ?_
    rw [hc]
    refine ib_blt (fun x => And.intro hin (nm_e ?_)) (fun x => h 0 fr tt (ib_Nw_r s) hls)
    rw [hr] at h2
    have K := ib_nwT (P := P) (i := i) (v := v) (q := q) s n hv hP hls y h2 x
    exact h 1 fr (upd tt v q) K.1 K.2
/-! empty -/
theorem ib_xempty {post : Int32 → Prop} (h0 : ib_Ne (ib_z fr) (ib_z tt) → post 0) (h1 : ¬ ib_Ne (ib_z fr) (ib_z tt) → post 1) : wpX_empty post (li, ac, de, lo, uh, fa, bo, oo, go, sl, sh, fr, tt, fp) := by
  refine ib_blt (fun z => h1 (fun n => ?_)) (fun z => ?_)
  · have a : (fr 0).toInt ≤ (tt 0).toInt := n 0 (by omega)
    omega
  · refine ib_blt (fun z1 => h1 (fun n => ?_)) (fun z1 => ?_)
    · have a : (fr 1).toInt ≤ (tt 1).toInt := n 1 (by omega)
      omega
    · refine ib_ble (fun z2 => h0 (ib_c3 z z1 z2)) (fun z2 => h1 (fun n => ?_))
      have a : (fr 2).toInt ≤ (tt 2).toInt := n 2 (by omega)
      omega
end
end
section
section
variable {li ac de : Int32} {lo uh fa bo oo go sl sh fr tt fp : Nat → Int32}
/-! narrowBy -/
theorem ib_ls_le {F T : Nat → Int} {i : Nat} {X : Nat → Int} (hX : ∀ k, k < 3 → F k ≤ X k ∧ X k ≤ T k) : ib_ls fa F T i ≤ ib_lv fa i X := by
  have a0 : ib_lk fa F T i 0 ≤ ib_z fa (i * 3 + 0) * X 0 := ib_lt_le (hX 0 (by omega)).1 (hX 0 (by omega)).2
  have a1 : ib_lk fa F T i 1 ≤ ib_z fa (i * 3 + 1) * X 1 := ib_lt_le (hX 1 (by omega)).1 (hX 1 (by omega)).2
  have a2 : ib_lk fa F T i 2 ≤ ib_z fa (i * 3 + 2) * X 2 := ib_lt_le (hX 2 (by omega)).1 (hX 2 (by omega)).2
  unfold ib_lv ib_ls
  omega
theorem ib_x65 {post : Int32 → SX → Prop} {J : Int32 → Int32 → Int32 → Int32 → Int32 → (Nat → Int32) → (Nat → Int32) → (Nat → Int32) → (Nat → Int32) → (Nat → Int32) → (Nat → Int32) → (Nat → Int32) → (Nat → Int32) → (Nat → Int32) → (Nat → Int32) → (Nat → Int32) → Prop} {x1 x2 z0 : Int32} {v : Nat} (h : J (ib_or x2 z0) (nI (v + 1)) li ac de lo uh fa bo oo go sl sh fr tt fp) : wX_narrowBy_65 post J x1 x2 (nI v) z0 li ac de lo uh fa bo oo go sl sh fr tt fp := by
  unfold wX_narrowBy_65
  unfold ib_or at h
  by_cases a : x2 = 0
  · rw [if_pos a] at h
    refine br_t a ?_
    by_cases b : z0 = 0
    · rw [if_pos b] at h; exact br_t b (nm_r (nI_1 v) h)
    · rw [if_neg b] at h; exact br_f b (nm_r (nI_1 v) h)
  · rw [if_neg a] at h; exact br_f a (nm_r (nI_1 v) h)
theorem ib_xnb_l {post : Int32 → SX → Prop} {i : Nat} {P : Nat → Prop} {F0 T0 : Nat → Int} (w : ib_WF fa bo) (hi : i < 8) (hP : ∀ p, P p → ib_lv fa i (ib_c p) ≤ ib_z bo i) (h : ∀ r fr' tt', ib_Nw P r F0 T0 (ib_z fr') (ib_z tt') → ib_ls fa (ib_z fr') (ib_z tt') i ≤ ib_z bo i → post r (li, ac, de, lo, uh, fa, bo, oo, go, sl, sh, fr', tt', fp)) : ∀ (n v : Nat) (x : Int32) (fr tt : Nat → Int32), v ≤ 3 → 3 < n + v → ib_Nw P x F0 T0 (ib_z fr) (ib_z tt) → ib_ls fa (ib_z fr) (ib_z tt) i ≤ ib_z bo i → wX_narrowBy_37 post (nI i) n x (nI v) li ac de lo uh fa bo oo go sl sh fr tt fp := by
  intro n
  induction n with
  | zero => intro v x fr tt h1 h2; omega
  | succ n ih =>
    intro v x fr tt hv hn N hl
    refine pk_le 3 v (fun z => And.intro ?_ (h x fr tt N hl)) (fun z => ?_)
    · rcases N.1 with e | e <;> rw [e] <;> rfl
    · refine ib_xempty (fun ne => ?_) (fun ne => ?_)
      · refine br_t rfl ?_
        refine ib_xnarrow (P := P) w N.2.1 ne hi (by omega) hP hl (fun r fr' tt' N' hl' => ?_)
        have K := ih (v + 1) (ib_or x r) fr' tt' (by omega) (by omega) (ib_Nw_t N N') hl'
        by_cases a : r = 0
        · refine br_t a ?_
          rw [a] at K
          exact ib_x65 K
        · have e1 : r = 1 := N'.1.resolve_left a
          refine br_f a ?_
          rw [e1] at K
          exact ib_x65 K
      · refine br_f ib_10 ?_
        have K := ih (v + 1) (ib_or x 0) fr tt (by omega) (by omega) (ib_Nw_t N (ib_Nw_r N.2.1)) hl
        exact ib_x65 K
theorem ib_xnb {post : Int32 → SX → Prop} {i : Nat} {P : Nat → Prop} (w : ib_WF fa bo) (s : ib_Sm (ib_z fr) (ib_z tt)) (hi : i < 8) (hP : ∀ p, P p → ib_lv fa i (ib_c p) ≤ ib_z bo i) (h : ∀ r fr' tt', ib_Nw P r (ib_z fr) (ib_z tt) (ib_z fr') (ib_z tt') → (ib_Ne (ib_z fr') (ib_z tt') → ib_ls fa (ib_z fr') (ib_z tt') i ≤ ib_z bo i) → post r (li, ac, de, lo, uh, fa, bo, oo, go, sl, sh, fr', tt', fp)) : wpX_narrowBy post (li, ac, de, lo, uh, fa, bo, oo, go, sl, sh, fr, tt, fp) (nI i) := by
  have b0 : (-8 ≤ (fr 0).toInt ∧ (fr 0).toInt ≤ 9) ∧ (-8 ≤ (tt 0).toInt ∧ (tt 0).toInt ≤ 8) := s 0 (by omega)
  unfold wpX_narrowBy
  refine ib_xls w s hi (fun r e => And.intro (vp_in_nI hi (by decide)) ?_)
  rw [nI_clamp (by omega)]
  refine ib_ble (fun z => ⟨4, ?_⟩) (fun z => nm_e ?_)
  · exact ib_xnb_l w hi hP (fun r fr' tt' N l => h r fr' tt' N (fun _ => l)) 4 0 0 fr tt (by omega) (by omega) (ib_Nw_r s) (by rw [← e]; exact z)
  · have e1 : (tt 0 + 1).toInt = (tt 0).toInt + 1 := by
      have q := ib_add (x := tt 0) (y := 1) (by omega) (by rw [ib_t1]; omega)
      rw [ib_t1] at q
      exact q
    have ne : ¬ ib_Ne (ib_z (upd fr 0 (tt 0 + 1))) (ib_z tt) := by
      intro n
      have a := n 0 (by omega)
      rw [ib_zus, e1] at a
      have a' : (tt 0).toInt + 1 ≤ (tt 0).toInt := a
      omega
    refine h 1 (upd fr 0 (tt 0 + 1)) tt ⟨Or.inr rfl, ?_, ?_, fun n => absurd n ne⟩ (fun n => absurd n ne)
    · intro k hk
      have sk := s k hk
      by_cases a : k = 0
      · subst a
        rw [ib_zus, e1]
        exact ⟨by omega, b0.2⟩
      · rw [ib_zun _ _ a]; exact sk
    · intro p hp hp2
      have l1 := ib_ls_le (fa := fa) (i := i) hp
      have l2 := hP p hp2
      rw [e] at z
      have z' : ib_z bo i < ib_ls fa (ib_z fr) (ib_z tt) i := z
      omega
/-! narrowAll -/
theorem ib_xcounts {post : Int32 → Prop} {i : Nat} (hi : i < 32) (h1 : bt ac i = true → post 1) (h0 : bt ac i = false → post 0) : wpX_counts post (li, ac, de, lo, uh, fa, bo, oo, go, sl, sh, fr, tt, fp) (nI i) := ib_bc1 ac hi h1 h0
theorem ib_or3 {x r : Int32} {A : Int32 → Prop} (h : A (ib_or x r)) : (x = 0 → ((r = 0 → A 0) ∧ (¬ r = 0 → A 1))) ∧ (¬ x = 0 → A 1) := by
  unfold ib_or at h
  by_cases a : x = 0
  · rw [if_pos a] at h
    refine br_t a ?_
    by_cases b : r = 0
    · rw [if_pos b] at h; exact br_t b h
    · rw [if_neg b] at h; exact br_f b h
  · rw [if_neg a] at h; exact br_f a h
theorem ib_or_00 {x r : Int32} (h : ib_or x r = 0) : x = 0 ∧ r = 0 := by
  unfold ib_or at h
  by_cases a : x = 0
  · rw [if_pos a] at h
    by_cases b : r = 0
    · exact ⟨a, b⟩
    · rw [if_neg b] at h; exact absurd h ib_10
  · rw [if_neg a] at h; exact absurd h ib_10
theorem ib_xna_l {post : SX → Prop} {J : Int32 → Int32 → Int32 → Int32 → Int32 → (Nat → Int32) → (Nat → Int32) → (Nat → Int32) → (Nat → Int32) → (Nat → Int32) → (Nat → Int32) → (Nat → Int32) → (Nat → Int32) → (Nat → Int32) → (Nat → Int32) → (Nat → Int32) → Prop} {F0 T0 : Nat → Int} {c : Nat} (w : ib_WF fa bo) (h : ∀ r fr' tt', ib_Nw (ib_S fa bo ac) r F0 T0 (ib_z fr') (ib_z tt') → (r = 0 → ib_Ne (ib_z fr') (ib_z tt') → ∀ j, j < 8 → bt ac j = true → ib_ls fa (ib_z fr') (ib_z tt') j ≤ ib_z bo j) → J r (nI (c + 1)) li ac de lo uh fa bo oo go sl sh fr' tt' fp) : ∀ (n i : Nat) (x : Int32) (fr tt : Nat → Int32), i ≤ 8 → 8 < n + i → ib_Nw (ib_S fa bo ac) x F0 T0 (ib_z fr) (ib_z tt) → (x = 0 → ib_Ne (ib_z fr) (ib_z tt) → ∀ j, j < i → bt ac j = true → ib_ls fa (ib_z fr) (ib_z tt) j ≤ ib_z bo j) → wX_narrowAll_25 post J (nI c) n x (nI i) li ac de lo uh fa bo oo go sl sh fr tt fp := by
  intro n
  induction n with
  | zero => intro i x fr tt h1 h2; omega
  | succ n ih =>
    intro i x fr tt hi hn N H
    refine pk_le 8 i (fun z => nm_r (nI_1 c) (h x fr tt N (fun e ne j hj => H e ne j (by omega)))) (fun z => ?_)
    refine ib_xcounts (by omega) (fun hb => ?_) (fun hb => ?_)
    · refine br_f ib_10 ?_
      refine ib_xnb (P := ib_S fa bo ac) w N.2.1 (by omega) (fun p hp => hp i (by omega) hb) (fun r fr' tt' N' hl => ?_)
      refine ib_or3 (A := fun y => ∀ x3 : Int32, x3 = nI i + 1 → wX_narrowAll_25 post J (nI c) n y x3 li ac de lo uh fa bo oo go sl sh fr' tt' fp) ?_
      refine nm_r (nI_1 i) ?_
      refine ih (i + 1) (ib_or x r) fr' tt' (by omega) (by omega) (ib_Nw_t N N') (fun e ne j hj hbj => ?_)
      obtain ⟨ex, er⟩ := ib_or_00 e
      by_cases a : j = i
      · subst a; exact hl ne
      · obtain ⟨s1, s2, _⟩ := N'.2.2.2 ne
        rw [ib_ls_Eq (s2 er) j]
        exact H ex (ib_Sub_Ne s1 ne) j (by omega) hbj
    · refine br_t rfl ?_
      refine nm_r (nI_1 i) ?_
      refine ih (i + 1) x fr tt (by omega) (by omega) N (fun e ne j hj hbj => ?_)
      by_cases a : j = i
      · subst a; rw [hb] at hbj; exact absurd hbj (by decide)
      · exact H e ne j (by omega) hbj
theorem ib_xnA_l {post : SX → Prop} {F0 T0 : Nat → Int} (w : ib_WF fa bo) (h : ∀ fr' tt', ib_NA fa bo ac F0 T0 (ib_z fr') (ib_z tt') → post (li, ac, de, lo, uh, fa, bo, oo, go, sl, sh, fr', tt', fp)) : ∀ (n c : Nat) (x : Int32) (fr tt : Nat → Int32), c ≤ 52 → 52 < n + c → (x = 0 ∨ x = 1) → ib_Sm (ib_z fr) (ib_z tt) → (∀ p, ib_In F0 T0 p → ib_S fa bo ac p → ib_In (ib_z fr) (ib_z tt) p) → (ib_Ne (ib_z fr) (ib_z tt) → ib_Sub F0 T0 (ib_z fr) (ib_z tt) ∧ (x = 0 → ∀ j, j < 8 → bt ac j = true → ib_ls fa (ib_z fr) (ib_z tt) j ≤ ib_z bo j) ∧ (x = 1 → ib_wd (ib_z fr) (ib_z tt) + (c : Int) ≤ 48)) → wX_narrowAll_4 post n x (nI c) li ac de lo uh fa bo oo go sl sh fr tt fp := by
  intro n
  induction n with
  | zero => intro c x fr tt h1 h2; omega
  | succ n ih =>
    intro c x fr tt hc hn hx s hp H
    refine pk_le 52 c (fun z => h fr tt ⟨s, hp, fun ne => ?_⟩) (fun z => ?_)
    · obtain ⟨a, b, d⟩ := H ne
      refine ⟨a, b ?_⟩
      rcases hx with e | e
      · exact e
      · have d' := d e
        have nn := ib_wd_nn ne
        omega
    · by_cases ex : x = 0
      · refine br_t ex (h fr tt ⟨s, hp, fun ne => ?_⟩)
        obtain ⟨a, b, d⟩ := H ne
        exact ⟨a, b ex⟩
      · refine br_f ex ?_
        have e1 : x = 1 := hx.resolve_left ex
        refine ib_xempty (fun ne => ?_) (fun ne => ?_)
        · refine br_t rfl ⟨9, ?_⟩
          refine ib_xna_l (F0 := ib_z fr) (T0 := ib_z tt) w (fun r fr' tt' N' H' => ?_) 9 0 0 fr tt (by omega) (by omega) (ib_Nw_r s) (fun _ _ j hj => absurd hj (by omega))
          obtain ⟨a, b, d⟩ := H ne
          refine ih (c + 1) r fr' tt' (by omega) (by omega) N'.1 N'.2.1 (fun p p1 p2 => N'.2.2.1 p (hp p p1 p2) p2) (fun ne' => ?_)
          obtain ⟨s1, s2, s3⟩ := N'.2.2.2 ne'
          refine ⟨ib_Sub_tr a s1, fun e => H' e ne', fun e => ?_⟩
          have d' := d e1
          have w' := s3 e
          omega
        · exact br_f ib_10 (h fr tt ⟨s, hp, fun n => absurd n ne⟩)
theorem ib_xnA {post : SX → Prop} (w : ib_WF fa bo) (o : ib_Ok (ib_z fr) (ib_z tt)) (h : ∀ fr' tt', ib_NA fa bo ac (ib_z fr) (ib_z tt) (ib_z fr') (ib_z tt') → post (li, ac, de, lo, uh, fa, bo, oo, go, sl, sh, fr', tt', fp)) : wpX_narrowAll post (li, ac, de, lo, uh, fa, bo, oo, go, sl, sh, fr, tt, fp) := by
  have wl := ib_wd_le o
  refine ⟨53, ?_⟩
  refine ib_xnA_l (F0 := ib_z fr) (T0 := ib_z tt) w h 53 0 1 fr tt (by omega) (by omega) (Or.inr rfl) (ib_Ok_Sm o) (fun _ hp _ => hp) (fun _ => ⟨fun k hk => ⟨Int.le_refl _, Int.le_refl _⟩, fun e => absurd e ib_10, fun _ => by omega⟩)
/-! free, volume, the goal's bound -/
theorem ib_xfree_l {post : Int32 → Prop} (w : ib_WF fa bo) (s : ib_Sm (ib_z fr) (ib_z tt)) (h1 : ib_Fr fa bo ac (ib_z fr) (ib_z tt) → post 1) (h0 : ¬ ib_Fr fa bo ac (ib_z fr) (ib_z tt) → post 0) : ∀ n i : Nat, i ≤ 8 → 8 < n + i → (∀ j, j < i → bt ac j = true → ib_gs fa (ib_z fr) (ib_z tt) j ≤ ib_z bo j) → wX_free_2 post li ac de lo uh fa bo oo go sl sh fr tt fp n (nI i) := by
  intro n
  induction n with
  | zero => intro i h1 h2; omega
  | succ n ih =>
    intro i hi hn H
    refine pk_le 8 i (fun z => h1 (fun j hj => H j (by omega))) (fun z => ?_)
    refine ib_xcounts (by omega) (fun hb => ?_) (fun hb => ?_)
    · refine br_f ib_10 ?_
      refine ib_xgs w s (by omega) (fun r e => And.intro (vp_in_nI (by omega) (by decide)) ?_)
      rw [nI_clamp (by omega)]
      refine ib_ble (fun y => nm_r (nI_1 i) (ih (i + 1) (by omega) (by omega) (fun j hj hbj => ?_))) (fun y => h0 (fun F => ?_))
      · by_cases a : j = i
        · subst a; rw [← e]; exact y
        · exact H j (by omega) hbj
      · have f := F i (by omega) hb
        rw [← e] at f
        have f' : r.toInt ≤ (bo i).toInt := f
        omega
    · refine br_t rfl (nm_r (nI_1 i) (ih (i + 1) (by omega) (by omega) (fun j hj hbj => ?_)))
      by_cases a : j = i
      · subst a; rw [hb] at hbj; exact absurd hbj (by decide)
      · exact H j (by omega) hbj
theorem ib_xfree {post : Int32 → Prop} (w : ib_WF fa bo) (s : ib_Sm (ib_z fr) (ib_z tt)) (h1 : ib_Fr fa bo ac (ib_z fr) (ib_z tt) → post 1) (h0 : ¬ ib_Fr fa bo ac (ib_z fr) (ib_z tt) → post 0) : wpX_free post (li, ac, de, lo, uh, fa, bo, oo, go, sl, sh, fr, tt, fp) := ⟨9, ib_xfree_l w s h1 h0 9 0 (by omega) (by omega) (fun j hj => absurd hj (by omega))⟩
theorem ib_w_nI (o : ib_Ok (ib_z fr) (ib_z tt)) {k : Nat} (hk : k < 3) : (tt k - fr k) + 1 = nI (ib_w (ib_z fr) (ib_z tt) k) := by
  have a : -8 ≤ (fr k).toInt ∧ (fr k).toInt ≤ (tt k).toInt ∧ (tt k).toInt ≤ 8 := o k hk
  apply Int32.toInt_inj.mp
  have e1 : (tt k - fr k).toInt = (tt k).toInt - (fr k).toInt := ib_sub (by omega) (by omega)
  have e2 : (tt k - fr k + 1).toInt = (tt k - fr k).toInt + (1 : Int32).toInt := ib_add (by omega) (by rw [ib_t1]; omega)
  have e3 : ib_w (ib_z fr) (ib_z tt) k = ((tt k).toInt - (fr k).toInt + 1).toNat := rfl
  rw [e2, e1, ib_t1, e3, nI_toInt (by omega)]
  omega
theorem ib_xvol {post : Int32 → Prop} (o : ib_Ok (ib_z fr) (ib_z tt)) (h : post (nI (ib_vol (ib_z fr) (ib_z tt)))) : wpX_volume post (li, ac, de, lo, uh, fa, bo, oo, go, sl, sh, fr, tt, fp) := by
  show post ((((tt 0 - fr 0) + 1) * ((tt 1 - fr 1) + 1)) * ((tt 2 - fr 2) + 1))
  rw [ib_w_nI o (k := 0) (by omega), ib_w_nI o (k := 1) (by omega), ib_w_nI o (k := 2) (by omega), pk_mul, pk_mul, ← ib_vol_w o]
  exact h
def ib_gp (go : Nat → Int32) (F T : Nat → Int) : Nat → Int
  | 0 => 0
  | k + 1 => ib_gp go F T k + ib_gt (ib_z go k) (F k) (T k)
theorem ib_gp_b {F T : Nat → Int} (g : ∀ k, k < 3 → -5 ≤ ib_z go k ∧ ib_z go k ≤ 5) (s : ib_Sm F T) : ∀ k : Nat, k ≤ 3 → -90 * (k : Int) ≤ ib_gp go F T k ∧ ib_gp go F T k ≤ 90 * (k : Int) := by
  intro k
  induction k with
  | zero => intro _; show -90 * ((0 : Nat) : Int) ≤ 0 ∧ (0 : Int) ≤ 90 * ((0 : Nat) : Int); omega
  | succ k ih =>
    intro hk
    have i := ih (by omega)
    have sk := s k (by omega)
    have b := ib_gt_b (g k (by omega)) (l := F k) (h := T k) (by omega) (by omega)
    show -90 * ((k + 1 : Nat) : Int) ≤ ib_gp go F T k + ib_gt (ib_z go k) (F k) (T k) ∧ ib_gp go F T k + ib_gt (ib_z go k) (F k) (T k) ≤ 90 * ((k + 1 : Nat) : Int)
    omega
theorem ib_gp_3 {F T : Nat → Int} : ib_gp go F T 3 = ib_gs go F T 0 := by
  show ((0 + ib_gt (ib_z go 0) (F 0) (T 0)) + ib_gt (ib_z go 1) (F 1) (T 1)) + ib_gt (ib_z go 2) (F 2) (T 2) = _
  rw [Int.zero_add]
  rfl
theorem ib_xgb_l {post : Int32 → Prop} (g : ∀ k, k < 3 → -5 ≤ ib_z go k ∧ ib_z go k ≤ 5) (s : ib_Sm (ib_z fr) (ib_z tt)) (h : ∀ r : Int32, r.toInt = ib_gs go (ib_z fr) (ib_z tt) 0 → post r) : ∀ (n k : Nat) (x : Int32), k ≤ 3 → 3 < n + k → x.toInt = ib_gp go (ib_z fr) (ib_z tt) k → wX_goalBound_4 post li ac de lo uh fa bo oo go sl sh fr tt fp n x (nI k) := by
  intro n
  induction n with
  | zero => intro i x h1 h2; omega
  | succ n ih =>
    intro k x hk hn e
    refine pk_le 3 k (fun z => h x ?_) (fun z => ?_)
    · have ek : k = 3 := by omega
      subst ek
      rw [e, ib_gp_3]
    · have hin : vp_in (nI k) 3 := vp_in_nI (by omega) (by decide)
      have hc : (nI k).toNatClampNeg = k := nI_clamp (by omega)
      have gk : -5 ≤ (go k).toInt ∧ (go k).toInt ≤ 5 := g k (by omega)
      have sk : (-8 ≤ (fr k).toInt ∧ (fr k).toInt ≤ 9) ∧ (-8 ≤ (tt k).toInt ∧ (tt k).toInt ≤ 8) := s k (by omega)
      have pb := ib_gp_b g s k (by omega)
      refine And.intro hin ?_
      rw [hc]
      refine ib_ble (fun y => And.intro hin (And.intro hin (nm_e (nm_r (nI_1 k) (ih (k + 1) _ (by omega) (by omega) ?_))))) (fun y => And.intro hin (And.intro hin (nm_e (nm_r (nI_1 k) (ih (k + 1) _ (by omega) (by omega) ?_)))))
      · rw [ib_t0] at y
        have m : (go k * fr k).toInt = (go k).toInt * (fr k).toInt := ib_mul (by omega) (by omega)
        have mb := ib_pb (f := (go k).toInt) (x := (fr k).toInt) (by omega) (by omega)
        rw [ib_add (by omega) (by omega), m, e]
        show _ = ib_gp go (ib_z fr) (ib_z tt) k + ib_gt (ib_z go k) (ib_z fr k) (ib_z tt k)
        unfold ib_gt
        rw [if_pos (show ib_z go k ≤ 0 from y)]
        rfl
      · rw [ib_t0] at y
        have m : (go k * tt k).toInt = (go k).toInt * (tt k).toInt := ib_mul (by omega) (by omega)
        have mb := ib_pb (f := (go k).toInt) (x := (tt k).toInt) (by omega) (by omega)
        rw [ib_add (by omega) (by omega), m, e]
        show _ = ib_gp go (ib_z fr) (ib_z tt) k + ib_gt (ib_z go k) (ib_z fr k) (ib_z tt k)
        unfold ib_gt
        rw [if_neg (show ¬ ib_z go k ≤ 0 from Int.not_le.mpr y)]
        rfl
theorem ib_xgb {post : Int32 → Prop} (g : ∀ k, k < 3 → -5 ≤ ib_z go k ∧ ib_z go k ≤ 5) (s : ib_Sm (ib_z fr) (ib_z tt)) (h : ∀ r : Int32, r.toInt = ib_gs go (ib_z fr) (ib_z tt) 0 → post r) : wpX_goalBound post (li, ac, de, lo, uh, fa, bo, oo, go, sl, sh, fr, tt, fp) := ⟨4, ib_xgb_l g s h 4 0 0 (by omega) (by omega) (by rw [ib_t0]; rfl)⟩
end
end
section
section
variable {li ac de : Int32} {lo uh fa bo oo go sl sh fr tt fp : Nat → Int32}
theorem ib_xpush_l {post : SX → Prop} {v d : Nat} {left right : Int32} {sl0 sh0 : Nat → Int32} (hd : d < 32) (hv : v < 3) (h : ∀ sl' sh' : Nat → Int32, (∀ j, j < d * 3 → sl' j = sl0 j ∧ sh' j = sh0 j) → (∀ k, k < 3 → sl' (d * 3 + k) = (if k = v then left else fr k) ∧ sh' (d * 3 + k) = (if k = v then right else tt k)) → post (li, ac, nI (d + 1), lo, uh, fa, bo, oo, go, sl', sh', fr, tt, fp)) : ∀ (n k : Nat) (sl sh : Nat → Int32), k ≤ 3 → 3 < n + k → (∀ j, j < d * 3 → sl j = sl0 j ∧ sh j = sh0 j) → (∀ j, j < k → sl (d * 3 + j) = (if j = v then left else fr j) ∧ sh (d * 3 + j) = (if j = v then right else tt j)) → wX_push_3 post (nI v) left right li ac (nI d) n (nI k) lo uh fa bo oo go sl sh fr tt fp := by
  intro n
  induction n with
  | zero => intro k sl sh h1 h2; omega
  | succ n ih =>
    intro k sl sh hk hn a b
    refine pk_le 3 k (fun z => nm_r (nI_1 d) (h sl sh a (fun j hj => b j (by omega)))) (fun z => ?_)
    have e := ib_ix d k
    have hin : vp_in (nI d * 3 + nI k) 96 := by rw [e]; exact vp_in_nI (by omega) (by decide)
    have hc : (nI d * 3 + nI k).toNatClampNeg = d * 3 + k := by rw [e, nI_clamp (by omega)]
    have hk3 : vp_in (nI k) 3 := vp_in_nI (by omega) (by decide)
    have hck : (nI k).toNatClampNeg = k := nI_clamp (by omega)
    by_cases ekv : k = v
    · have c : nI k = nI v := congrArg nI ekv
      refine br_t c ?_
      refine And.intro hin (nm_r (e' := upd sl (d * 3 + k) left) (by rw [hc]) (br_t c (And.intro hin (nm_r (e' := upd sh (d * 3 + k) right) (by rw [hc]) (nm_r (nI_1 k) ?_)))))
      refine ih (k + 1) _ _ (by omega) (by omega) (fun j hj => ?_) (fun j hj => ?_)
      · rw [pk_un (by omega), pk_un (by omega)]; exact a j hj
      · by_cases ej : j = k
        · subst ej; rw [pk_us, pk_us, if_pos ekv, if_pos ekv]; exact ⟨rfl, rfl⟩
        · rw [pk_un (by omega), pk_un (by omega)]; exact b j (by omega)
    · have c : ¬ nI k = nI v := fun q => ekv ((nI_eq (by omega) (by omega)).mp q)
      refine br_f c (And.intro hk3 ?_)
      refine And.intro hin (nm_r (e' := upd sl (d * 3 + k) (fr k)) (by rw [hc, hck]) (br_f c (And.intro hk3 (And.intro hin (nm_r (e' := upd sh (d * 3 + k) (tt k)) (by rw [hc, hck]) (nm_r (nI_1 k) ?_))))))
      refine ih (k + 1) _ _ (by omega) (by omega) (fun j hj => ?_) (fun j hj => ?_)
      · rw [pk_un (by omega), pk_un (by omega)]; exact a j hj
      · by_cases ej : j = k
        · subst ej; rw [pk_us, pk_us, if_neg ekv, if_neg ekv]; exact ⟨rfl, rfl⟩
        · rw [pk_un (by omega), pk_un (by omega)]; exact b j (by omega)
theorem ib_xpush {post : SX → Prop} {v d : Nat} {left right : Int32} (hd : d < 32) (hv : v < 3) (h : ∀ sl' sh' : Nat → Int32, (∀ j, j < d * 3 → sl' j = sl j ∧ sh' j = sh j) → (∀ k, k < 3 → sl' (d * 3 + k) = (if k = v then left else fr k) ∧ sh' (d * 3 + k) = (if k = v then right else tt k)) → post (li, ac, nI (d + 1), lo, uh, fa, bo, oo, go, sl', sh', fr, tt, fp)) : wpX_push post (li, ac, nI d, lo, uh, fa, bo, oo, go, sl, sh, fr, tt, fp) (nI v) left right := ⟨4, ib_xpush_l hd hv h 4 0 sl sh (by omega) (by omega) (fun j _ => ⟨rfl, rfl⟩) (fun j hj => absurd hj (by omega))⟩
theorem ib_xpop_l {post : SX → Prop} {d : Nat} (hd : d < 32) (h : ∀ fr' tt' : Nat → Int32, (∀ k, k < 3 → fr' k = sl (d * 3 + k) ∧ tt' k = sh (d * 3 + k)) → post (li, ac, nI d, lo, uh, fa, bo, oo, go, sl, sh, fr', tt', fp)) : ∀ (n k : Nat) (fr tt : Nat → Int32), k ≤ 3 → 3 < n + k → (∀ j, j < k → fr j = sl (d * 3 + j) ∧ tt j = sh (d * 3 + j)) → wX_pop_12 post li ac (nI d) n (nI k) lo uh fa bo oo go sl sh fr tt fp := by
  intro n
  induction n with
  | zero => intro k fr tt h1 h2; omega
  | succ n ih =>
    intro k fr tt hk hn a
    refine pk_le 3 k (fun z => h fr tt (fun j hj => a j (by omega))) (fun z => ?_)
    have e := ib_ix d k
    have hin : vp_in (nI d * 3 + nI k) 96 := by rw [e]; exact vp_in_nI (by omega) (by decide)
    have hc : (nI d * 3 + nI k).toNatClampNeg = d * 3 + k := by rw [e, nI_clamp (by omega)]
    have hk3 : vp_in (nI k) 3 := vp_in_nI (by omega) (by decide)
    have hck : (nI k).toNatClampNeg = k := nI_clamp (by omega)
    refine And.intro hin (And.intro hk3 (nm_r (e' := upd fr k (sl (d * 3 + k))) (by rw [hc, hck]) (And.intro hin (And.intro hk3 (nm_r (e' := upd tt k (sh (d * 3 + k))) (by rw [hc, hck]) (nm_r (nI_1 k) ?_))))))
    refine ih (k + 1) _ _ (by omega) (by omega) (fun j hj => ?_)
    by_cases ej : j = k
    · subst ej; rw [pk_us, pk_us]; exact ⟨rfl, rfl⟩
    · rw [pk_un ej, pk_un ej]; exact a j (by omega)
theorem ib_xpop {post : SX → Prop} {B : (Nat → Int) × (Nat → Int)} {L : List ((Nat → Int) × (Nat → Int))} (st : ib_St sl sh (B :: L)) (h : ∀ fr' tt' : Nat → Int32, (∀ k, k < 3 → ib_z fr' k = B.1 k ∧ ib_z tt' k = B.2 k) → post (li, ac, nI L.length, lo, uh, fa, bo, oo, go, sl, sh, fr', tt', fp)) : wpX_pop post (li, ac, nI (L.length + 1), lo, uh, fa, bo, oo, go, sl, sh, fr, tt, fp) := by
  obtain ⟨a, b, c, d⟩ := st
  refine nm_r (nI_pred L.length) ⟨4, ?_⟩
  refine ib_xpop_l (by omega) (fun fr' tt' q => h fr' tt' (fun k hk => ?_)) 4 0 fr tt (by omega) (by omega) (fun j hj => absurd hj (by omega))
  have q' := q k hk
  have a' := a k hk
  unfold ib_z at a' ⊢
  rw [q'.1, q'.2]
  exact a'
theorem ib_xbegin_l {post : SX → Prop} {F T : Nat → Int} (eF : F = ib_z lo) (eT : T = ib_z uh) (o : ib_Ok (ib_z lo) (ib_z uh)) (h : ∀ sl' sh' fr' tt' : Nat → Int32, ib_St sl' sh' [(F, T)] → post (li, ac, nI 1, lo, uh, fa, bo, oo, go, sl', sh', fr', tt', fp)) : ∀ (n k : Nat) (fr tt : Nat → Int32), k ≤ 3 → 3 < n + k → (∀ j, j < k → fr j = lo j ∧ tt j = uh j) → wX_begin_12 post li ac (nI 0) n (nI k) lo uh fa bo oo go sl sh fr tt fp := by
  intro n
  induction n with
  | zero => intro k fr tt h1 h2; omega
  | succ n ih =>
    intro k fr tt hk hn a
    refine pk_le 3 k (fun z => ?_) (fun z => ?_)
    · refine ib_xpush (v := 0) (d := 0) (by omega) (by omega) (fun sl' sh' _ q => ?_)
      refine h sl' sh' fr tt ⟨fun j hj => ?_, ?_, ?_, trivial⟩
      · have q' := q j hj
        have a' := a j (by omega)
        have i : ([] : List ((Nat → Int) × (Nat → Int))).length * 3 + j = 0 * 3 + j := rfl
        rw [i, eF, eT]
        show (sl' (0 * 3 + j)).toInt = (lo j).toInt ∧ (sh' (0 * 3 + j)).toInt = (uh j).toInt
        rw [q'.1, q'.2]
        by_cases ej : j = 0
        · subst ej; rw [if_pos rfl, if_pos rfl]; exact ⟨rfl, rfl⟩
        · rw [if_neg ej, if_neg ej, a'.1, a'.2]; exact ⟨rfl, rfl⟩
      · rw [eF, eT]; exact o
      · show 0 + ib_lg F T ≤ 15
        have := ib_lg_15 F T
        omega
    · have hk3 : vp_in (nI k) 3 := vp_in_nI (by omega) (by decide)
      have hck : (nI k).toNatClampNeg = k := nI_clamp (by omega)
      refine And.intro hk3 (And.intro hk3 (nm_r (e' := upd fr k (lo k)) (by rw [hck]) (And.intro hk3 (And.intro hk3 (nm_r (e' := upd tt k (uh k)) (by rw [hck]) (nm_r (nI_1 k) ?_))))))
      refine ih (k + 1) _ _ (by omega) (by omega) (fun j hj => ?_)
      by_cases ej : j = k
      · subst ej; rw [pk_us, pk_us]; exact ⟨rfl, rfl⟩
      · rw [pk_un ej, pk_un ej]; exact a j (by omega)
theorem ib_xbegin {post : SX → Prop} {s : Int32} (o : ib_Ok (ib_z lo) (ib_z uh)) (h : ∀ sl' sh' fr' tt' : Nat → Int32, ib_St sl' sh' [(ib_z lo, ib_z uh)] → post (li, s, nI 1, lo, uh, fa, bo, oo, go, sl', sh', fr', tt', fp)) : wpX_begin post (li, ac, de, lo, uh, fa, bo, oo, go, sl, sh, fr, tt, fp) s := ⟨4, ib_xbegin_l rfl rfl o h 4 0 fr tt (by omega) (by omega) (fun j hj => absurd hj (by omega))⟩
theorem ib_xcut28 {post : SX → Prop} {v : Nat} {L : List ((Nat → Int) × (Nat → Int))} (st : ib_St sl sh L) (o : ib_Ok (ib_z fr) (ib_z tt)) (hl : L.length + ib_lg (ib_z fr) (ib_z tt) ≤ 15) (hv : v < 3) (h0 : ∀ k, k < v → ib_z fr k = ib_z tt k) (h1 : ib_z fr v < ib_z tt v) (h : ∀ (m : Int) (sl' sh' : Nat → Int32), ib_Cut (ib_z fr) (ib_z tt) v m → ib_St sl' sh' ((ib_z fr, ib_up (ib_z tt) v m) :: (ib_up (ib_z fr) v (m + 1), ib_z tt) :: L) → post (li, ac, nI (L.length + 2), lo, uh, fa, bo, oo, go, sl', sh', fr, tt, fp)) : wX_cut_28 post (nI v) li ac (nI L.length) lo uh fa bo oo go sl sh fr tt fp := by
  have ov : -8 ≤ (fr v).toInt ∧ (fr v).toInt ≤ (tt v).toInt ∧ (tt v).toInt ≤ 8 := o v hv
  have h1' : (fr v).toInt < (tt v).toInt := h1
  have hin : vp_in (nI v) 3 := vp_in_nI hv (by decide)
  have hc : (nI v).toNatClampNeg = v := nI_clamp (by omega)
  have em : ((fr v + tt v + 16) / 2 - 8).toInt = ((fr v).toInt + (tt v).toInt + 16) / 2 - 8 := by
    have a1 : (fr v + tt v).toInt = (fr v).toInt + (tt v).toInt := ib_add (by omega) (by omega)
    have a2 : (fr v + tt v + 16).toInt = (fr v).toInt + (tt v).toInt + 16 := by
      have q := ib_add (x := fr v + tt v) (y := 16) (by omega) (by rw [ib_t16]; omega)
      rw [ib_t16, a1] at q
      exact q
    have a3 : ((fr v + tt v + 16) / 2).toInt = ((fr v).toInt + (tt v).toInt + 16) / 2 := by
      rw [lg_idiv_nonneg (by omega) (by rw [ib_t2]; omega), a2, ib_t2]
    have q := ib_sub (x := (fr v + tt v + 16) / 2) (y := 8) (by omega) (by rw [ib_t8]; omega)
    rw [ib_t8, a3] at q
    exact q
  have hm : ib_Cut (ib_z fr) (ib_z tt) v (((fr v).toInt + (tt v).toInt + 16) / 2 - 8) := by
    refine ⟨hv, h0, ?_, ?_, ?_, ?_⟩
    · show (fr v).toInt ≤ _; omega
    · show _ < (tt v).toInt; omega
    · show 2 * (_ - (fr v).toInt) ≤ (tt v).toInt - (fr v).toInt; omega
    · show 2 * ((tt v).toInt - _) ≤ (tt v).toInt - (fr v).toInt; omega
  generalize ex : (fr v + tt v + 16) / 2 - 8 = x at em
  generalize em2 : ((fr v).toInt + (tt v).toInt + 16) / 2 - 8 = m at em hm
  have llo := ib_cut_lglo hm o
  have lhi := ib_cut_lghi hm o
  have b := hm.2.2
  have bF : (fr v).toInt ≤ m := b.1
  have bT : m < (tt v).toInt := b.2.1
  have ex1 : (x + 1).toInt = m + 1 := by
    have q := ib_add (x := x) (y := 1) (by omega) (by rw [ib_t1]; omega)
    rw [ib_t1, em] at q
    exact q
  refine And.intro hin (And.intro hin (And.intro (by decide) (nm_r (e' := x) (by rw [hc, ex]) (And.intro hin ?_))))
  rw [hc]
  refine ib_xpush (d := L.length) (by omega) hv (fun sl1 sh1 k1 v1 => ?_)
  refine And.intro hin ?_
  refine ib_xpush (d := L.length + 1) (by omega) hv (fun sl2 sh2 k2 v2 => ?_)
  refine h m sl2 sh2 hm ⟨fun k hk => ?_, ib_cut_oklo hm o, ?_, ?_⟩
  · have q := v2 k hk
    show (sl2 ((L.length + 1) * 3 + k)).toInt = ib_z fr k ∧ (sh2 ((L.length + 1) * 3 + k)).toInt = ib_up (ib_z tt) v m k
    rw [q.1, q.2]
    by_cases e : k = v
    · subst e; rw [if_pos rfl, if_pos rfl, ib_up_s]; exact ⟨rfl, em⟩
    · rw [if_neg e, if_neg e, ib_up_n _ _ e]; exact ⟨rfl, rfl⟩
  · show L.length + 1 + ib_lg (ib_z fr) (ib_up (ib_z tt) v m) ≤ 15
    omega
  · refine ib_St_k _ (fun j hj => k2 j hj) ⟨fun k hk => ?_, ib_cut_okhi hm o, ?_, ?_⟩
    · have q := v1 k hk
      show (sl1 (L.length * 3 + k)).toInt = ib_up (ib_z fr) v (m + 1) k ∧ (sh1 (L.length * 3 + k)).toInt = ib_z tt k
      rw [q.1, q.2]
      by_cases e : k = v
      · subst e; rw [if_pos rfl, if_pos rfl, ib_up_s]; exact ⟨ex1, rfl⟩
      · rw [if_neg e, if_neg e, ib_up_n _ _ e]; exact ⟨rfl, rfl⟩
    · show L.length + ib_lg (ib_up (ib_z fr) v (m + 1)) (ib_z tt) ≤ 15
      omega
    · exact ib_St_k _ (fun j hj => k1 j hj) st
theorem ib_xcut_l {post : SX → Prop} {L : List ((Nat → Int) × (Nat → Int))} (st : ib_St sl sh L) (o : ib_Ok (ib_z fr) (ib_z tt)) (hl : L.length + ib_lg (ib_z fr) (ib_z tt) ≤ 15) (h2 : ∃ k, k < 3 ∧ ib_z fr k < ib_z tt k) (h : ∀ (v : Nat) (m : Int) (sl' sh' : Nat → Int32), ib_Cut (ib_z fr) (ib_z tt) v m → ib_St sl' sh' ((ib_z fr, ib_up (ib_z tt) v m) :: (ib_up (ib_z fr) v (m + 1), ib_z tt) :: L) → post (li, ac, nI (L.length + 2), lo, uh, fa, bo, oo, go, sl', sh', fr, tt, fp)) : ∀ n v : Nat, v ≤ 2 → 2 < n + v → (∀ k, k < v → ib_z fr k = ib_z tt k) → wX_cut_2 post li ac (nI L.length) lo uh fa bo oo go sl sh fr tt fp n (nI v) := by
  intro n
  induction n with
  | zero => intro v h1 h2; omega
  | succ n ih =>
    intro v hv hn e
    refine pk_le 2 v (fun z => ?_) (fun z => ?_)
    · obtain ⟨k, hk, hlt⟩ := h2
      have ek : k = v := by
        by_cases a : k < v
        · have := e k a; omega
        · omega
      subst ek
      exact ib_xcut28 st o hl hk e hlt (fun m sl' sh' => h k m sl' sh')
    · have hin : vp_in (nI v) 3 := vp_in_nI (by omega) (by decide)
      have hc : (nI v).toNatClampNeg = v := nI_clamp (by omega)
      have ov := o v (by omega)
      refine And.intro hin (And.intro hin ?_)
      rw [hc]
      refine ib_beq (fun y => nm_r (nI_1 v) (ih (v + 1) (by omega) (by omega) (fun k hk => ?_))) (fun y => ?_)
      · by_cases a : k = v
        · subst a; exact y
        · exact e k (by omega)
      · have y' : ib_z fr v ≠ ib_z tt v := y
        exact ib_xcut28 st o hl (by omega) e (by omega) (fun m sl' sh' => h v m sl' sh')
theorem ib_xcut {post : SX → Prop} {L : List ((Nat → Int) × (Nat → Int))} (st : ib_St sl sh L) (o : ib_Ok (ib_z fr) (ib_z tt)) (hl : L.length + ib_lg (ib_z fr) (ib_z tt) ≤ 15) (h2 : ∃ k, k < 3 ∧ ib_z fr k < ib_z tt k) (h : ∀ (v : Nat) (m : Int) (sl' sh' : Nat → Int32), ib_Cut (ib_z fr) (ib_z tt) v m → ib_St sl' sh' ((ib_z fr, ib_up (ib_z tt) v m) :: (ib_up (ib_z fr) v (m + 1), ib_z tt) :: L) → post (li, ac, nI (L.length + 2), lo, uh, fa, bo, oo, go, sl', sh', fr, tt, fp)) : wpX_cut post (li, ac, nI L.length, lo, uh, fa, bo, oo, go, sl, sh, fr, tt, fp) := ⟨3, ib_xcut_l st o hl h2 h 3 0 (by omega) (by omega) (fun k hk => absurd hk (by omega))⟩
end
end
section
/-! the searches: pure steps -/
theorem ib_In_Eq {F T F' T' : Nat → Int} (e : ib_Eq F T F' T') (p : Nat) : ib_In F' T' p ↔ ib_In F T p := by
  constructor
  · intro a k hk
    have b := a k hk
    have q := e k hk
    omega
  · intro a k hk
    have b := a k hk
    have q := e k hk
    omega
theorem ib_Ok_Eq {F T F' T' : Nat → Int} (e : ib_Eq F T F' T') (o : ib_Ok F T) : ib_Ok F' T' := by
  intro k hk
  have b := o k hk
  have q := e k hk
  omega
theorem ib_NA_Eq {fa bo : Nat → Int32} {s : Int32} {F T F' T' F2 T2 : Nat → Int} (e : ib_Eq F T F' T') (N : ib_NA fa bo s F' T' F2 T2) : ib_NA fa bo s F T F2 T2 := by
  obtain ⟨a, b, c⟩ := N
  refine ⟨a, fun p hp hs => b p ((ib_In_Eq e p).mpr hp) hs, fun n => ?_⟩
  obtain ⟨c1, c2⟩ := c n
  refine ⟨fun k hk => ?_, c2⟩
  have q := e k hk
  have d := c1 k hk
  omega
theorem ib_NA_cnt {fa bo : Nat → Int32} {s : Int32} {F T F2 T2 : Nat → Int} (N : ib_NA fa bo s F T F2 T2) (n : ib_Ne F2 T2) : ib_cnt (ib_S fa bo s) F T = ib_cnt (ib_S fa bo s) F2 T2 := by
  apply ib_cn_c
  intro p _
  constructor
  · intro ⟨a, b⟩; exact ⟨N.2.1 p a b, b⟩
  · intro ⟨a, b⟩; exact ⟨ib_In_Sub (N.2.2 n).1 a, b⟩
theorem ib_NA_cnt0 {fa bo : Nat → Int32} {s : Int32} {F T F2 T2 : Nat → Int} (N : ib_NA fa bo s F T F2 T2) (n : ¬ ib_Ne F2 T2) : ib_cnt (ib_S fa bo s) F T = 0 := by
  apply ib_cn_0
  intro p _ ⟨a, b⟩
  exact n (ib_In_Ne (N.2.1 p a b))
theorem ib_Fr_cnt {fa bo : Nat → Int32} {s : Int32} {F T : Nat → Int} (h : ib_Fr fa bo s F T) : ib_cnt (ib_S fa bo s) F T = ib_vol F T := by
  apply ib_cn_c
  intro p _
  exact ⟨fun a => a.1, fun a => ⟨a, ib_Fr_S h a⟩⟩
theorem ib_mu_0 : ib_mu [] = 0 := rfl
theorem ib_mu_1 (F T : Nat → Int) : ib_mu [(F, T)] ≤ 9825 := by
  have h := ib_vol_le F T
  rw [ib_mu_c, ib_mu_0]
  show 2 * ib_vol F T - 1 + 0 ≤ 9825
  omega
/-- the greatest value at the points of a set; -10000 if it has none -/
def ib_Mx (TG : Nat → Prop) (G : Nat → Int) (x : Int) : Prop := (x = -10000 ∧ ∀ q, ¬ TG q) ∨ ((∃ q, TG q ∧ G q = x) ∧ ∀ q, TG q → G q ≤ x)
theorem ib_Mx_u {TG : Nat → Prop} {G : Nat → Int} {x y : Int} (h : ib_Mx TG G x) (h2 : ib_Mx TG G y) : x = y := by
  rcases h with ⟨a, b⟩ | ⟨⟨q, q1, q2⟩, b⟩
  · rcases h2 with ⟨c, d⟩ | ⟨⟨r, r1, r2⟩, d⟩
    · rw [a, c]
    · exact absurd r1 (b r)
  · rcases h2 with ⟨c, d⟩ | ⟨⟨r, r1, r2⟩, d⟩
    · exact absurd q1 (d q)
    · have e1 := b r r1
      have e2 := d q q1
      omega
/-- the corner of a box where the goal is greatest -/
theorem ib_hiC {go : Nat → Int32} {F T : Nat → Int} (o : ib_Ok F T) : ∃ p, ib_In F T p ∧ ib_lv go 0 (ib_c p) = ib_gs go F T 0 := by
  have o0 := o 0 (by omega)
  have o1 := o 1 (by omega)
  have o2 := o 2 (by omega)
  have hX : ∃ X : Nat → Int, ∀ k, k < 3 → (F k ≤ X k ∧ X k ≤ T k) ∧ ib_z go (0 * 3 + k) * X k = ib_gk go F T 0 k := by
    refine ⟨fun k => if ib_z go (0 * 3 + k) ≤ 0 then F k else T k, fun k hk => ?_⟩
    have ok := o k hk
    unfold ib_gk ib_gt
    by_cases z : ib_z go (0 * 3 + k) ≤ 0
    · dsimp only
      rw [if_pos z, if_pos z]
      exact ⟨by omega, rfl⟩
    · dsimp only
      rw [if_neg z, if_neg z]
      exact ⟨by omega, rfl⟩
  obtain ⟨X, hX⟩ := hX
  have e := ib_en_c (X := X) (fun k hk => by have a := o k hk; have b := (hX k hk).1; omega)
  refine ⟨ib_en X, fun k hk => ?_, ?_⟩
  · rw [e k hk]; exact (hX k hk).1
  · unfold ib_lv ib_gs
    rw [e 0 (by omega), e 1 (by omega), e 2 (by omega), (hX 0 (by omega)).2, (hX 1 (by omega)).2, (hX 2 (by omega)).2]
theorem ib_lv_b {go : Nat → Int32} (g : ∀ k, k < 3 → -10 ≤ ib_z go k ∧ ib_z go k ≤ 10) {p : Nat} (hp : p < 4913) : -270 ≤ ib_lv go 0 (ib_c p) ∧ ib_lv go 0 (ib_c p) ≤ 270 := by
  have c0 := ib_c_r hp 0 (by omega)
  have c1 := ib_c_r hp 1 (by omega)
  have c2 := ib_c_r hp 2 (by omega)
  have a0 := ib_pb (f := ib_z go 0) (x := ib_c p 0) (g 0 (by omega)) (by omega)
  have a1 := ib_pb (f := ib_z go 1) (x := ib_c p 1) (g 1 (by omega)) (by omega)
  have a2 := ib_pb (f := ib_z go 2) (x := ib_c p 2) (g 2 (by omega)) (by omega)
  show -270 ≤ ib_z go 0 * ib_c p 0 + ib_z go 1 * ib_c p 1 + ib_z go 2 * ib_c p 2 ∧ ib_z go 0 * ib_c p 0 + ib_z go 1 * ib_c p 1 + ib_z go 2 * ib_c p 2 ≤ 270
  omega
section
variable {li ac de : Int32} {lo uh fa bo oo go sl sh fr tt fp : Nat → Int32}
theorem ib_de0 : nI ([] : List ((Nat → Int) × (Nat → Int))).length ≤ 0 := nI_le (a := 0) (b := 0) (Nat.le_refl _) (by decide)
theorem ib_de1 (B : (Nat → Int) × (Nat → Int)) {L : List ((Nat → Int) × (Nat → Int))} (h : L.length ≤ 15) : ¬ nI (B :: L).length ≤ 0 := nI_nle (n := L.length + 1) (by omega) (by omega)
theorem ib_xcp_l {post : Int32 → SX → Prop} {C : Nat} (w : ib_WF fa bo) (h : ∀ (de : Int32) (sl sh fr tt : Nat → Int32), post (nI C) (li, ac, de, lo, uh, fa, bo, oo, go, sl, sh, fr, tt, fp)) : ∀ (n s c : Nat) (L : List ((Nat → Int) × (Nat → Int))) (sl sh fr tt : Nat → Int32), ib_St sl sh L → s + ib_mu L ≤ 12000 → ib_mu L < n → c + ib_tot (ib_S fa bo ac) L = C → wX_countPoints_9 post n (nI c) (nI s) li ac (nI L.length) lo uh fa bo oo go sl sh fr tt fp := by
  intro n
  induction n with
  | zero => intro s c L sl sh fr tt _ _ h1; omega
  | succ n ih =>
    intro s c L sl sh fr tt st hs hn hc
    cases L with
    | nil =>
      have e : c = C := by
        have t0 : ib_tot (ib_S fa bo ac) [] = 0 := rfl
        omega
      have K := h (nI ([] : List ((Nat → Int) × (Nat → Int))).length) sl sh fr tt
      rw [← e] at K
      exact br_c (fun _ => K) (fun _ => br_t ib_de0 K)
    | cons B L =>
      obtain ⟨sa, sb, sc, sd⟩ := st
      have mc := ib_mu_c B L
      have tc := ib_tot_c (ib_S fa bo ac) B L
      have vp := ib_vol_pos sb
      refine pk_le 12000 s (fun z => absurd z (by omega)) (fun z => ?_)
      refine br_f (ib_de1 B (by omega)) ?_
      refine ib_xpop (B := B) (L := L) ⟨sa, sb, sc, sd⟩ (fun fr1 tt1 e1 => ?_)
      refine ib_xnA w (ib_Ok_Eq e1 sb) (fun fr2 tt2 N1 => ?_)
      have N := ib_NA_Eq e1 N1
      refine ib_xempty (fun ne => ?_) (fun ne => ?_)
      · refine br_t rfl ?_
        have sub := (N.2.2 ne).1
        have o2 := ib_Ok_of sb sub ne
        have ec := ib_NA_cnt N ne
        have lv := ib_vol_sub sub
        have lg := ib_lg_sub sub
        refine ib_xfree w N.1 (fun F => ?_) (fun F => ?_)
        · refine br_f ib_10 ?_
          refine ib_xvol o2 ?_
          refine nm_r (nI_add c _) (nm_r (nI_1 s) ?_)
          have ef := ib_Fr_cnt F
          exact ih (s + 1) (c + ib_vol (ib_z fr2) (ib_z tt2)) L sl sh fr2 tt2 sd (by omega) (by omega) (by omega)
        · refine br_t rfl ?_
          refine ib_xcut sd o2 (by omega) (ib_NA_two N ne F) (fun v m sl' sh' hcut st' => ?_)
          refine nm_r (nI_1 s) ?_
          have k1 := ib_cut_cnt hcut o2 (ib_S fa bo ac)
          have k2 := ib_cut_vol hcut o2
          have k3 := ib_vol_pos (ib_cut_oklo hcut o2)
          have k4 := ib_vol_pos (ib_cut_okhi hcut o2)
          have m1 := ib_mu_c (ib_z fr2, ib_up (ib_z tt2) v m) ((ib_up (ib_z fr2) v (m + 1), ib_z tt2) :: L)
          have m2 := ib_mu_c (ib_up (ib_z fr2) v (m + 1), ib_z tt2) L
          have t1 := ib_tot_c (ib_S fa bo ac) (ib_z fr2, ib_up (ib_z tt2) v m) ((ib_up (ib_z fr2) v (m + 1), ib_z tt2) :: L)
          have t2 := ib_tot_c (ib_S fa bo ac) (ib_up (ib_z fr2) v (m + 1), ib_z tt2) L
          dsimp only at m1 m2 t1 t2
          exact ih (s + 1) c ((ib_z fr2, ib_up (ib_z tt2) v m) :: (ib_up (ib_z fr2) v (m + 1), ib_z tt2) :: L) sl' sh' fr2 tt2 st' (by omega) (by omega) (by omega)
      · refine br_f ib_10 (nm_r (nI_1 s) ?_)
        have e0 := ib_NA_cnt0 N ne
        exact ih (s + 1) c L sl sh fr2 tt2 sd (by omega) (by omega) (by omega)
theorem ib_xcp {post : Int32 → SX → Prop} {s : Int32} (w : ib_WF fa bo) (o : ib_Ok (ib_z lo) (ib_z uh)) (h : ∀ (de : Int32) (sl sh fr tt : Nat → Int32), post (nI (ib_cnt (ib_S fa bo s) (ib_z lo) (ib_z uh))) (li, s, de, lo, uh, fa, bo, oo, go, sl, sh, fr, tt, fp)) : wpX_countPoints post (li, ac, de, lo, uh, fa, bo, oo, go, sl, sh, fr, tt, fp) s := by
  unfold wpX_countPoints
  refine ib_xbegin o (fun sl' sh' fr' tt' st => ⟨9826, ?_⟩)
  have m := ib_mu_1 (ib_z lo) (ib_z uh)
  exact ib_xcp_l w h 9826 0 0 [(ib_z lo, ib_z uh)] sl' sh' fr' tt' st (by omega) (by omega) (by show 0 + (ib_cnt (ib_S fa bo s) (ib_z lo) (ib_z uh) + 0) = _; omega)
/-! the first point -/
theorem ib_xff48 {post : Int32 → SX → Prop} (h : ∀ fp' : Nat → Int32, (∀ k, k < 3 → fp' k = fr k) → post 1 (li, ac, de, lo, uh, fa, bo, oo, go, sl, sh, fr, tt, fp')) : ∀ (n k : Nat) (fp : Nat → Int32), k ≤ 3 → 3 < n + k → (∀ j, j < k → fp j = fr j) → wX_findFirst_48 post li ac de n (nI k) lo uh fa bo oo go sl sh fr tt fp := by
  intro n
  induction n with
  | zero => intro k fp h1 h2; omega
  | succ n ih =>
    intro k fp hk hn a
    refine pk_le 3 k (fun z => h fp (fun j hj => a j (by omega))) (fun z => ?_)
    have hk3 : vp_in (nI k) 3 := vp_in_nI (by omega) (by decide)
    have hck : (nI k).toNatClampNeg = k := nI_clamp (by omega)
    refine And.intro hk3 (And.intro hk3 (nm_r (e' := upd fp k (fr k)) (by rw [hck]) (nm_r (nI_1 k) ?_)))
    refine ih (k + 1) _ (by omega) (by omega) (fun j hj => ?_)
    by_cases ej : j = k
    · subst ej; rw [pk_us]
    · rw [pk_un ej]; exact a j (by omega)
theorem ib_xff_l {post : Int32 → SX → Prop} {TG : Nat → Prop} (w : ib_WF fa bo) (h1 : ∀ (p : Nat) (de : Int32) (sl sh fr tt fp : Nat → Int32), TG p → (∀ q, TG q → p ≤ q) → (∀ k, k < 3 → ib_z fp k = ib_c p k) → post 1 (li, ac, de, lo, uh, fa, bo, oo, go, sl, sh, fr, tt, fp)) (h0 : (∀ q, ¬ TG q) → ∀ (de : Int32) (sl sh fr tt : Nat → Int32), post 0 (li, ac, de, lo, uh, fa, bo, oo, go, sl, sh, fr, tt, fp)) : ∀ (n s : Nat) (L : List ((Nat → Int) × (Nat → Int))) (sl sh fr tt : Nat → Int32), ib_St sl sh L → s + ib_mu L ≤ 12000 → ib_mu L < n → (∀ q, TG q ↔ ib_Any L q ∧ ib_S fa bo ac q) → ib_Srt L → wX_findFirst_7 post n (nI s) li ac (nI L.length) lo uh fa bo oo go sl sh fr tt fp := by
  intro n
  induction n with
  | zero => intro s L sl sh fr tt _ _ h1; omega
  | succ n ih =>
    intro s L sl sh fr tt st hs hn ht hr
    cases L with
    | nil =>
      have K := h0 (fun q tq => ib_Any_0 ((ht q).mp tq).1) (nI ([] : List ((Nat → Int) × (Nat → Int))).length) sl sh fr tt
      exact br_c (fun _ => K) (fun _ => br_t ib_de0 K)
    | cons B L =>
      obtain ⟨sa, sb, sc, sd⟩ := st
      obtain ⟨r1, r2⟩ := hr
      have mc := ib_mu_c B L
      have vp := ib_vol_pos sb
      refine pk_le 12000 s (fun z => absurd z (by omega)) (fun z => ?_)
      refine br_f (ib_de1 B (by omega)) ?_
      refine ib_xpop (B := B) (L := L) ⟨sa, sb, sc, sd⟩ (fun fr1 tt1 e1 => ?_)
      refine ib_xnA w (ib_Ok_Eq e1 sb) (fun fr2 tt2 N1 => ?_)
      have N := ib_NA_Eq e1 N1
      refine ib_xempty (fun ne => ?_) (fun ne => ?_)
      · refine br_t rfl ?_
        have sub := (N.2.2 ne).1
        have o2 := ib_Ok_of sb sub ne
        have lv := ib_vol_sub sub
        have lg := ib_lg_sub sub
        refine ib_xfree w N.1 (fun F => ?_) (fun F => ?_)
        · refine br_f ib_10 ⟨4, ?_⟩
          refine ib_xff48 (fun fp' ef => ?_) 4 0 fp (by omega) (by omega) (fun j hj => absurd hj (by omega))
          have c0 := ib_lowC o2
          have ec := ib_en_c (X := ib_z fr2) (fun k hk => by have := o2 k hk; omega)
          have b0 : ib_In B.1 B.2 (ib_en (ib_z fr2)) := ib_In_Sub sub c0
          refine h1 (ib_en (ib_z fr2)) _ _ _ _ _ _ ((ht _).mpr ⟨ib_Any_c.mpr (Or.inl b0), ib_Fr_S F c0⟩) (fun q tq => ?_) (fun k hk => ?_)
          · obtain ⟨a, b⟩ := (ht q).mp tq
            rcases ib_Any_c.mp a with a | a
            · have iq := N.2.1 q a b
              have s1 := ib_c_sum q
              have s2 := ib_c_sum (ib_en (ib_z fr2))
              rw [ec 0 (by omega), ec 1 (by omega), ec 2 (by omega)] at s2
              have i0 := iq 0 (by omega)
              have i1 := iq 1 (by omega)
              have i2 := iq 2 (by omega)
              omega
            · have := r1 _ q b0 a
              omega
          · rw [ec k hk]
            unfold ib_z
            rw [ef k hk]
        · refine br_t rfl ?_
          refine ib_xcut sd o2 (by omega) (ib_NA_two N ne F) (fun v m sl' sh' hcut st' => ?_)
          refine nm_r (nI_1 s) ?_
          have k2 := ib_cut_vol hcut o2
          have k3 := ib_vol_pos (ib_cut_oklo hcut o2)
          have k4 := ib_vol_pos (ib_cut_okhi hcut o2)
          have m1 := ib_mu_c (ib_z fr2, ib_up (ib_z tt2) v m) ((ib_up (ib_z fr2) v (m + 1), ib_z tt2) :: L)
          have m2 := ib_mu_c (ib_up (ib_z fr2) v (m + 1), ib_z tt2) L
          dsimp only at m1 m2
          refine ih (s + 1) ((ib_z fr2, ib_up (ib_z tt2) v m) :: (ib_up (ib_z fr2) v (m + 1), ib_z tt2) :: L) sl' sh' fr2 tt2 st' (by omega) (by omega) (fun q => ?_) ⟨fun p q hp hq => ?_, fun p q hp hq => ?_, r2⟩
          · rw [ht q, ib_Any_c, ib_Any_c, ib_Any_c]
            constructor
            · intro ⟨a, b⟩
              refine ⟨?_, b⟩
              rcases a with a | a
              · rcases (ib_cut_in hcut q).mp (N.2.1 q a b) with c | c
                · exact Or.inl c
                · exact Or.inr (Or.inl c)
              · exact Or.inr (Or.inr a)
            · intro ⟨a, b⟩
              refine ⟨?_, b⟩
              rcases a with a | a | a
              · exact Or.inl (ib_In_Sub sub ((ib_cut_in hcut q).mpr (Or.inl a)))
              · exact Or.inl (ib_In_Sub sub ((ib_cut_in hcut q).mpr (Or.inr a)))
              · exact Or.inr a
          · rcases ib_Any_c.mp hq with a | a
            · exact ib_cut_lt hcut o2 hp a
            · exact r1 p q (ib_In_Sub sub ((ib_cut_in hcut p).mpr (Or.inl hp))) a
          · exact r1 p q (ib_In_Sub sub ((ib_cut_in hcut p).mpr (Or.inr hp))) hq
      · refine br_f ib_10 (nm_r (nI_1 s) ?_)
        refine ih (s + 1) L sl sh fr2 tt2 sd (by omega) (by omega) (fun q => ?_) r2
        rw [ht q, ib_Any_c]
        constructor
        · intro ⟨a, b⟩
          refine ⟨?_, b⟩
          rcases a with a | a
          · exact absurd (ib_In_Ne (N.2.1 q a b)) ne
          · exact a
        · intro ⟨a, b⟩
          exact ⟨Or.inr a, b⟩
theorem ib_Any_1 {F T : Nat → Int} {q : Nat} : ib_Any [(F, T)] q ↔ ib_In F T q := by
  rw [ib_Any_c]
  constructor
  · intro h
    rcases h with h | h
    · exact h
    · exact absurd h ib_Any_0
  · intro h; exact Or.inl h
/-- the points that a set of limits leaves within the ranges -/
def ib_Tg (lo uh fa bo : Nat → Int32) (s : Int32) (q : Nat) : Prop := ib_In (ib_z lo) (ib_z uh) q ∧ ib_S fa bo s q
theorem ib_xff {post : Int32 → SX → Prop} {s : Int32} (w : ib_WF fa bo) (o : ib_Ok (ib_z lo) (ib_z uh)) (h1 : ∀ (p : Nat) (de : Int32) (sl sh fr tt fp : Nat → Int32), ib_Tg lo uh fa bo s p → (∀ q, ib_Tg lo uh fa bo s q → p ≤ q) → (∀ k, k < 3 → ib_z fp k = ib_c p k) → post 1 (li, s, de, lo, uh, fa, bo, oo, go, sl, sh, fr, tt, fp)) (h0 : (∀ q, ¬ ib_Tg lo uh fa bo s q) → ∀ (de : Int32) (sl sh fr tt : Nat → Int32), post 0 (li, s, de, lo, uh, fa, bo, oo, go, sl, sh, fr, tt, fp)) : wpX_findFirst post (li, ac, de, lo, uh, fa, bo, oo, go, sl, sh, fr, tt, fp) s := by
  unfold wpX_findFirst
  refine ib_xbegin o (fun sl' sh' fr' tt' st => ⟨9826, ?_⟩)
  have m := ib_mu_1 (ib_z lo) (ib_z uh)
  refine ib_xff_l w h1 h0 9826 0 [(ib_z lo, ib_z uh)] sl' sh' fr' tt' st (by omega) (by omega) (fun q => ?_) ⟨fun p q _ hq => absurd hq ib_Any_0, trivial⟩
  rw [ib_Any_1]
  exact Iff.rfl
end
end
section
section
variable {li ac de : Int32} {lo uh fa bo oo go sl sh fr tt fp : Nat → Int32}
/-! the greatest value of the goal -/
theorem ib_xfg_l {post : Int32 → SX → Prop} {TG : Nat → Prop} (w : ib_WF fa bo) (g : ∀ k, k < 3 → -5 ≤ ib_z go k ∧ ib_z go k ≤ 5) (hT : ∀ q, TG q → q < 4913 ∧ ib_S fa bo ac q) (h : ∀ (x de : Int32) (sl sh fr tt : Nat → Int32), ib_Mx TG (fun q => ib_lv go 0 (ib_c q)) x.toInt → post x (li, ac, de, lo, uh, fa, bo, oo, go, sl, sh, fr, tt, fp)) : ∀ (n s : Nat) (x : Int32) (L : List ((Nat → Int) × (Nat → Int))) (sl sh fr tt : Nat → Int32), ib_St sl sh L → s + ib_mu L ≤ 12000 → ib_mu L < n → (x.toInt = -10000 ∨ ∃ q, TG q ∧ ib_lv go 0 (ib_c q) = x.toInt) → (∀ q, TG q → ib_lv go 0 (ib_c q) ≤ x.toInt ∨ ib_Any L q) → (∀ q, ib_Any L q → ib_S fa bo ac q → TG q) → wX_findGreatest_11 post n x (nI s) li ac (nI L.length) lo uh fa bo oo go sl sh fr tt fp := by
  intro n
  induction n with
  | zero => intro s x L sl sh fr tt _ _ h1; omega
  | succ n ih =>
    intro s x L sl sh fr tt st hs hn hx hA hB
    cases L with
    | nil =>
      have K := h x (nI ([] : List ((Nat → Int) × (Nat → Int))).length) sl sh fr tt (by
        have all : ∀ q, TG q → ib_lv go 0 (ib_c q) ≤ x.toInt := by
          intro q tq
          rcases hA q tq with a | a
          · exact a
          · exact absurd a ib_Any_0
        rcases hx with e | e
        · refine Or.inl ⟨e, fun q tq => ?_⟩
          have a := all q tq
          have b := ib_lv_b (go := go) (fun k hk => by have := g k hk; omega) (hT q tq).1
          omega
        · exact Or.inr ⟨e, all⟩)
      exact br_c (fun _ => K) (fun _ => br_t ib_de0 K)
    | cons B L =>
      obtain ⟨sa, sb, sc, sd⟩ := st
      have mc := ib_mu_c B L
      have vp := ib_vol_pos sb
      refine pk_le 12000 s (fun z => absurd z (by omega)) (fun z => ?_)
      refine br_f (ib_de1 B (by omega)) ?_
      refine ib_xpop (B := B) (L := L) ⟨sa, sb, sc, sd⟩ (fun fr1 tt1 e1 => ?_)
      refine ib_xnA w (ib_Ok_Eq e1 sb) (fun fr2 tt2 N1 => ?_)
      have N := ib_NA_Eq e1 N1
      have hB' : ∀ q, ib_Any L q → ib_S fa bo ac q → TG q := fun q a b => hB q (ib_Any_c.mpr (Or.inr a)) b
      refine ib_xempty (fun ne => ?_) (fun ne => ?_)
      · refine br_t rfl ?_
        have sub := (N.2.2 ne).1
        have o2 := ib_Ok_of sb sub ne
        have lv := ib_vol_sub sub
        have lg := ib_lg_sub sub
        refine ib_xgb g N.1 (fun r er => ?_)
        have hmost : ∀ q, ib_In B.1 B.2 q → ib_S fa bo ac q → ib_lv go 0 (ib_c q) ≤ r.toInt := by
          intro q a b
          rw [er]
          exact ib_gs_ge (N.2.1 q a b)
        refine ib_xfree w N.1 (fun F => ?_) (fun F => ?_)
        · refine ib_ble (fun y => ?_) (fun y => ?_)
          · refine br_t (Int32.le_iff_toInt_le.mpr y) (nm_r (nI_1 s) ?_)
            refine ih (s + 1) x L sl sh fr2 tt2 sd (by omega) (by omega) hx (fun q tq => ?_) hB'
            rcases hA q tq with a | a
            · exact Or.inl a
            · rcases ib_Any_c.mp a with a | a
              · have := hmost q a (hT q tq).2
                exact Or.inl (by omega)
              · exact Or.inr a
          · refine br_f ib_10 (nm_r (nI_1 s) ?_)
            obtain ⟨p, hp, ep⟩ := ib_hiC (go := go) o2
            refine ih (s + 1) r L sl sh fr2 tt2 sd (by omega) (by omega) (Or.inr ⟨p, hB p (ib_Any_c.mpr (Or.inl (ib_In_Sub sub hp))) (ib_Fr_S F hp), by rw [ep, er]⟩) (fun q tq => ?_) hB'
            rcases hA q tq with a | a
            · exact Or.inl (by omega)
            · rcases ib_Any_c.mp a with a | a
              · exact Or.inl (hmost q a (hT q tq).2)
              · exact Or.inr a
        · refine ib_ble (fun y => ?_) (fun y => ?_)
          · refine br_t (Int32.le_iff_toInt_le.mpr y) (nm_r (nI_1 s) ?_)
            refine ih (s + 1) x L sl sh fr2 tt2 sd (by omega) (by omega) hx (fun q tq => ?_) hB'
            rcases hA q tq with a | a
            · exact Or.inl a
            · rcases ib_Any_c.mp a with a | a
              · have := hmost q a (hT q tq).2
                exact Or.inl (by omega)
              · exact Or.inr a
          · refine br_t rfl ?_
            refine br_f (fun z => absurd (Int32.le_iff_toInt_le.mp z) (by omega)) ?_
            refine ib_xcut sd o2 (by omega) (ib_NA_two N ne F) (fun v m sl' sh' hcut st' => ?_)
            refine nm_r (nI_1 s) ?_
            have k2 := ib_cut_vol hcut o2
            have k3 := ib_vol_pos (ib_cut_oklo hcut o2)
            have k4 := ib_vol_pos (ib_cut_okhi hcut o2)
            have m1 := ib_mu_c (ib_z fr2, ib_up (ib_z tt2) v m) ((ib_up (ib_z fr2) v (m + 1), ib_z tt2) :: L)
            have m2 := ib_mu_c (ib_up (ib_z fr2) v (m + 1), ib_z tt2) L
            dsimp only at m1 m2
            refine ih (s + 1) x ((ib_z fr2, ib_up (ib_z tt2) v m) :: (ib_up (ib_z fr2) v (m + 1), ib_z tt2) :: L) sl' sh' fr2 tt2 st' (by omega) (by omega) hx (fun q tq => ?_) (fun q a b => ?_)
            · rcases hA q tq with a | a
              · exact Or.inl a
              · right
                rcases ib_Any_c.mp a with a | a
                · rcases (ib_cut_in hcut q).mp (N.2.1 q a (hT q tq).2) with c | c
                  · exact ib_Any_c.mpr (Or.inl c)
                  · exact ib_Any_c.mpr (Or.inr (ib_Any_c.mpr (Or.inl c)))
                · exact ib_Any_c.mpr (Or.inr (ib_Any_c.mpr (Or.inr a)))
            · rcases ib_Any_c.mp a with a | a
              · exact hB q (ib_Any_c.mpr (Or.inl (ib_In_Sub sub ((ib_cut_in hcut q).mpr (Or.inl a))))) b
              · rcases ib_Any_c.mp a with a | a
                · exact hB q (ib_Any_c.mpr (Or.inl (ib_In_Sub sub ((ib_cut_in hcut q).mpr (Or.inr a))))) b
                · exact hB' q a b
      · refine br_f ib_10 (nm_r (nI_1 s) ?_)
        refine ih (s + 1) x L sl sh fr2 tt2 sd (by omega) (by omega) hx (fun q tq => ?_) hB'
        rcases hA q tq with a | a
        · exact Or.inl a
        · rcases ib_Any_c.mp a with a | a
          · exact absurd (ib_In_Ne (N.2.1 q a (hT q tq).2)) ne
          · exact Or.inr a
theorem ib_xfg {post : Int32 → SX → Prop} {s : Int32} (w : ib_WF fa bo) (g : ∀ k, k < 3 → -5 ≤ ib_z go k ∧ ib_z go k ≤ 5) (o : ib_Ok (ib_z lo) (ib_z uh)) (h : ∀ (x de : Int32) (sl sh fr tt : Nat → Int32), ib_Mx (ib_Tg lo uh fa bo s) (fun q => ib_lv go 0 (ib_c q)) x.toInt → post x (li, s, de, lo, uh, fa, bo, oo, go, sl, sh, fr, tt, fp)) : wpX_findGreatest post (li, ac, de, lo, uh, fa, bo, oo, go, sl, sh, fr, tt, fp) s := by
  unfold wpX_findGreatest
  refine ib_xbegin o (fun sl' sh' fr' tt' st => ⟨9826, ?_⟩)
  have m := ib_mu_1 (ib_z lo) (ib_z uh)
  exact ib_xfg_l w g (fun q tq => ⟨ib_In_lt o tq.1, tq.2⟩) h 9826 0 (-10000) [(ib_z lo, ib_z uh)] sl' sh' fr' tt' st (by omega) (by omega) (Or.inl ib_tn) (fun q tq => Or.inr (ib_Any_1.mpr tq.1)) (fun q a b => ⟨ib_Any_1.mp a, b⟩)
/-! the small methods -/
theorem ib_xbadF_l {post : Int32 → Prop} {f : Int32} (h1 : ib_GF f → post 0) (h2 : ¬ ib_GF f → post 1) : ∀ n k : Nat, k ≤ 3 → 3 < n + k → (∀ j, j < k → (ib_fo f j).toInt ≤ 5) → wX_badFactors_2 post f n (nI k) := by
  intro n
  induction n with
  | zero => intro k h1 h2; omega
  | succ n ih =>
    intro k hk hn a
    refine pk_le 3 k (fun z => h1 (fun j hj => a j (by omega))) (fun z => ?_)
    refine ib_ble (x := ib_fo f k) (y := 5) (fun y => nm_r (nI_1 k) (ih (k + 1) (by omega) (by omega) (fun j hj => ?_))) (fun y => h2 (fun G => ?_))
    · by_cases e : j = k
      · subst e; exact y
      · exact a j (by omega)
    · have := G k (by omega)
      rw [ib_t5] at y
      omega
theorem ib_xbadF {post : Int32 → Prop} {f : Int32} (h1 : ib_GF f → post 0) (h2 : ¬ ib_GF f → post 1) : wpX_badFactors post f := ⟨4, ib_xbadF_l h1 h2 4 0 (by omega) (by omega) (fun j hj => absurd hj (by omega))⟩
theorem ib_xon_l {post : Int32 → Prop} {m : Nat} (hm : m ≤ 6) (h : post (ib_on oo m)) : ∀ n i : Nat, i ≤ m → m < n + i → wX_limitsOn_4 post (nI m) ac de lo uh fa bo oo go sl sh fr tt fp n (ib_on oo i) (nI i) := by
  intro n
  induction n with
  | zero => intro i h1 h2; omega
  | succ n ih =>
    intro i hi hn
    refine pk_le m i (fun z => ?_) (fun z => ?_)
    · have e : i = m := by omega
      rw [e]; exact h
    · have hin : vp_in (nI i) 6 := vp_in_nI (by omega) (by decide)
      have hc : (nI i).toNatClampNeg = i := nI_clamp (by omega)
      have K := ih (i + 1) (by omega) (by omega)
      refine And.intro hin ?_
      rw [hc]
      have ed : ib_on oo (i + 1) = if oo i = 0 then ib_on oo i else ib_on oo i ||| ((1 : Int32) <<< (nI i &&& 31)) := rfl
      by_cases e : oo i = 0
      · rw [ed, if_pos e] at K
        exact br_t e (nm_r (nI_1 i) K)
      · rw [ed, if_neg e] at K
        exact br_f e (nm_e (nm_r (nI_1 i) K))
theorem ib_xon {post : Int32 → Prop} {m : Nat} (hm : m ≤ 6) (h : post (ib_on oo m)) : wpX_limitsOn post (nI m, ac, de, lo, uh, fa, bo, oo, go, sl, sh, fr, tt, fp) := ⟨m + 1, ib_xon_l hm h (m + 1) 0 (by omega) (by omega)⟩
theorem ib_xbits_l {post : Int32 → Prop} {s : Int32} (h : post (nI (ib_bits s 6))) : ∀ n i : Nat, i ≤ 6 → 6 < n + i → wX_bits_4 post s n (nI (ib_bits s i)) (nI i) := by
  intro n
  induction n with
  | zero => intro i h1 h2; omega
  | succ n ih =>
    intro i hi hn
    refine pk_le 6 i (fun z => ?_) (fun z => ?_)
    · have e : i = 6 := by omega
      rw [e]; exact h
    · exact nm_r (ib_bits_s s (by omega)) (nm_r (nI_1 i) (ih (i + 1) (by omega) (by omega)))
theorem ib_xbits {post : Int32 → Prop} {s : Int32} (h : post (nI (ib_bits s 6))) : wpX_bits post s := ⟨7, ib_xbits_l h 7 0 (by omega) (by omega)⟩
end
end
section
section
variable {yl : Int32} {ylo yhi yfa ybo yon : Nat → Int32}
/-! the reference -/
theorem ib_yareF {post : Int32 → Prop} {f : Int32} (h1 : ib_GF f → post 1) (h0 : ¬ ib_GF f → post 0) : wpY_areFactors post (yl, ylo, yhi, yfa, ybo, yon) f := by
  unfold wpY_areFactors
  refine ib_blt (x := 5) (y := ib_fo f 0) (fun z => h0 (fun G => ?_)) (fun z0 => ?_)
  · have := G 0 (by omega); rw [ib_t5] at z; omega
  · refine ib_blt (x := 5) (y := ib_fo f 1) (fun z => h0 (fun G => ?_)) (fun z1 => ?_)
    · have := G 1 (by omega); rw [ib_t5] at z; omega
    · refine ib_blt (x := 5) (y := ib_fo f 2) (fun z => h0 (fun G => ?_)) (fun z2 => h1 (ib_c3 z0 z1 z2))
      have := G 2 (by omega); rw [ib_t5] at z; omega
theorem ib_ynum {post : Int32 → Prop} {p k : Nat} (hp : p < 4913) (hk : k < 3) (h : ∀ r : Int32, r.toInt = ib_c p k → post r) : wpY_number post (yl, ylo, yhi, yfa, ybo, yon) (nI p) (nI k) := by
  refine pk_eq k 0 (fun e => And.intro (by decide) (h _ ?_)) (fun e => pk_eq k 1 (fun e1 => And.intro (by decide) (And.intro (by decide) (h _ ?_))) (fun e1 => And.intro (by decide) (h _ ?_)))
  · subst e
    show (nI p / nI 289 - nI 8).toInt = _
    rw [pk_div (by omega) (by omega) (by omega), pk_sub_toInt (by omega) (by omega)]
    rfl
  · subst e1
    show (nI p / nI 17 - nI p / nI 17 / nI 17 * nI 17 - nI 8).toInt = _
    rw [pk_div (a := p) (by omega) (by omega) (by omega), pk_rem (by omega) (by omega) (by omega), pk_sub_toInt (by omega) (by omega)]
    rfl
  · have e2 : k = 2 := by omega
    subst e2
    show (nI p - nI p / nI 17 * nI 17 - nI 8).toInt = _
    rw [pk_rem (by omega) (by omega) (by omega), pk_sub_toInt (by omega) (by omega)]
    rfl
def ib_yv (f : Int32) (p : Nat) : Int := (ib_fo f 0).toInt * ib_c p 0 + (ib_fo f 1).toInt * ib_c p 1 + (ib_fo f 2).toInt * ib_c p 2
theorem ib_yv_b (f : Int32) {p : Nat} (hp : p < 4913) : -270 ≤ ib_yv f p ∧ ib_yv f p ≤ 270 := by
  have c0 := ib_c_r hp 0 (by omega)
  have c1 := ib_c_r hp 1 (by omega)
  have c2 := ib_c_r hp 2 (by omega)
  have f0 := ib_fo_r f 0
  have f1 := ib_fo_r f 1
  have f2 := ib_fo_r f 2
  have a0 := ib_pb (f := (ib_fo f 0).toInt) (x := ib_c p 0) (by omega) (by omega)
  have a1 := ib_pb (f := (ib_fo f 1).toInt) (x := ib_c p 1) (by omega) (by omega)
  have a2 := ib_pb (f := (ib_fo f 2).toInt) (x := ib_c p 2) (by omega) (by omega)
  unfold ib_yv
  omega
theorem ib_yfac {post : Int32 → Prop} {f : Int32} {k : Nat} (h : post (ib_fo f k)) : wpY_factor post (yl, ylo, yhi, yfa, ybo, yon) f (nI k) := h
theorem ib_yval {post : Int32 → Prop} {f : Int32} {p : Nat} (hp : p < 4913) (h : ∀ r : Int32, r.toInt = ib_yv f p → post r) : wpY_value post (yl, ylo, yhi, yfa, ybo, yon) f (nI p) := by
  have c0 := ib_c_r hp 0 (by omega)
  have c1 := ib_c_r hp 1 (by omega)
  have c2 := ib_c_r hp 2 (by omega)
  have f0 := ib_fo_r f 0
  have f1 := ib_fo_r f 1
  have f2 := ib_fo_r f 2
  have a0 := ib_pb (f := (ib_fo f 0).toInt) (x := ib_c p 0) (by omega) (by omega)
  have a1 := ib_pb (f := (ib_fo f 1).toInt) (x := ib_c p 1) (by omega) (by omega)
  have a2 := ib_pb (f := (ib_fo f 2).toInt) (x := ib_c p 2) (by omega) (by omega)
  unfold wpY_value
  refine ib_yfac (k := 0) ?_
  refine ib_ynum (k := 0) hp (by omega) (fun r0 e0 => ?_)
  refine ib_yfac (k := 1) ?_
  refine ib_ynum (k := 1) hp (by omega) (fun r1 e1 => ?_)
  refine ib_yfac (k := 2) ?_
  refine ib_ynum (k := 2) hp (by omega) (fun r2 e2 => ?_)
  have q : post (((ib_fo f 0 * r0) + (ib_fo f 1 * r1)) + (ib_fo f 2 * r2)) := by
    apply h
    have m0 : (ib_fo f 0 * r0).toInt = (ib_fo f 0).toInt * ib_c p 0 := by rw [ib_mul (by omega) (by omega), e0]
    have m1 : (ib_fo f 1 * r1).toInt = (ib_fo f 1).toInt * ib_c p 1 := by rw [ib_mul (by omega) (by omega), e1]
    have m2 : (ib_fo f 2 * r2).toInt = (ib_fo f 2).toInt * ib_c p 2 := by rw [ib_mul (by omega) (by omega), e2]
    have s1 : (ib_fo f 0 * r0 + ib_fo f 1 * r1).toInt = (ib_fo f 0 * r0).toInt + (ib_fo f 1 * r1).toInt := ib_add (by omega) (by omega)
    rw [ib_add (by omega) (by omega), s1, m0, m1, m2]
    rfl
  exact q
def ib_K (ylo yhi yfa ybo : Nat → Int32) (m : Nat) (s : Int32) (p : Nat) : Prop := ib_In (ib_z ylo) (ib_z yhi) p ∧ ∀ i, i < m → bt s i = true → ib_yv (yfa i) p ≤ ib_z ybo i
theorem ib_yk47 {post : Int32 → Prop} {m p : Nat} {s : Int32} (hm : m ≤ 6) (hp : p < 4913) (h1 : (∀ i, i < m → bt s i = true → ib_yv (yfa i) p ≤ ib_z ybo i) → post 1) (h0 : ¬ (∀ i, i < m → bt s i = true → ib_yv (yfa i) p ≤ ib_z ybo i) → post 0) : ∀ n i : Nat, i ≤ m → m < n + i → (∀ j, j < i → bt s j = true → ib_yv (yfa j) p ≤ ib_z ybo j) → wY_keeps_47 post (nI p) s (nI m) ylo yhi yfa ybo yon n (nI i) := by
  intro n
  induction n with
  | zero => intro i h1 h2; omega
  | succ n ih =>
    intro i hi hn a
    refine pk_le m i (fun z => h1 (fun j hj => a j (by omega))) (fun z => ?_)
    refine ib_bc0 s (by omega) (fun hb => nm_r (nI_1 i) (ih (i + 1) (by omega) (by omega) (fun j hj hbj => ?_))) (fun hb => ?_)
    · by_cases e : j = i
      · subst e; rw [hb] at hbj; exact absurd hbj (by decide)
      · exact a j (by omega) hbj
    · have hin : vp_in (nI i) 6 := vp_in_nI (by omega) (by decide)
      have hc : (nI i).toNatClampNeg = i := nI_clamp (by omega)
      refine And.intro hin ?_
      rw [hc]
      refine ib_yval hp (fun r e => And.intro hin ?_)
      refine ib_ble (fun y => nm_r (nI_1 i) (ih (i + 1) (by omega) (by omega) (fun j hj hbj => ?_))) (fun y => h0 (fun H => ?_))
      · by_cases ej : j = i
        · subst ej; rw [← e]; exact y
        · exact a j (by omega) hbj
      · have q := H i (by omega) hb
        rw [← e] at q
        have q' : r.toInt ≤ (ybo i).toInt := q
        omega
theorem ib_yk2 {post : Int32 → Prop} {m p : Nat} {s : Int32} (hm : m ≤ 6) (hp : p < 4913) (h1 : ib_K ylo yhi yfa ybo m s p → post 1) (h0 : ¬ ib_K ylo yhi yfa ybo m s p → post 0) : ∀ n k : Nat, k ≤ 3 → 3 < n + k → (∀ j, j < k → ib_z ylo j ≤ ib_c p j ∧ ib_c p j ≤ ib_z yhi j) → wY_keeps_2 post (nI p) s (nI m) ylo yhi yfa ybo yon n (nI k) := by
  intro n
  induction n with
  | zero => intro i h1 h2; omega
  | succ n ih =>
    intro k hk hn a
    refine pk_le 3 k (fun z => ⟨m + 1, ?_⟩) (fun z => ?_)
    · have hI : ib_In (ib_z ylo) (ib_z yhi) p := fun j hj => a j (by omega)
      exact ib_yk47 hm hp (fun q => h1 ⟨hI, q⟩) (fun q => h0 (fun K => q K.2)) (m + 1) 0 (by omega) (by omega) (fun j hj => absurd hj (by omega))
    · have hin : vp_in (nI k) 3 := vp_in_nI (by omega) (by decide)
      have hc : (nI k).toNatClampNeg = k := nI_clamp (by omega)
      refine ib_ynum hp (by omega) (fun r e => And.intro hin ?_)
      rw [hc]
      refine ib_blt (fun y => h0 (fun K => ?_)) (fun y => ?_)
      · have q := (K.1 k (by omega)).1
        rw [← e] at q
        have q' : (ylo k).toInt ≤ r.toInt := q
        omega
      · refine ib_ynum hp (by omega) (fun r2 e2 => And.intro hin ?_)
        refine ib_ble (fun y2 => nm_r (nI_1 k) (ih (k + 1) (by omega) (by omega) (fun j hj => ?_))) (fun y2 => h0 (fun K => ?_))
        · by_cases ej : j = k
          · subst ej
            refine ⟨?_, ?_⟩
            · rw [← e]; exact y
            · rw [← e2]; exact y2
          · exact a j (by omega)
        · have q := (K.1 k (by omega)).2
          rw [← e2] at q
          have q' : r2.toInt ≤ (yhi k).toInt := q
          omega
theorem ib_ykeeps {post : Int32 → Prop} {m p : Nat} {s : Int32} (hm : m ≤ 6) (hp : p < 4913) (h1 : ib_K ylo yhi yfa ybo m s p → post 1) (h0 : ¬ ib_K ylo yhi yfa ybo m s p → post 0) : wpY_keeps post (nI m, ylo, yhi, yfa, ybo, yon) (nI p) s := ⟨4, ib_yk2 hm hp h1 h0 4 0 (by omega) (by omega) (fun j hj => absurd hj (by omega))⟩
theorem ib_yon_l {post : Int32 → Prop} {m : Nat} (hm : m ≤ 6) (h : post (ib_on yon m)) : ∀ n i : Nat, i ≤ m → m < n + i → wY_allOn_4 post (nI m) ylo yhi yfa ybo yon n (ib_on yon i) (nI i) := by
  intro n
  induction n with
  | zero => intro i h1 h2; omega
  | succ n ih =>
    intro i hi hn
    refine pk_le m i (fun z => ?_) (fun z => ?_)
    · have e : i = m := by omega
      rw [e]; exact h
    · have hin : vp_in (nI i) 6 := vp_in_nI (by omega) (by decide)
      have hc : (nI i).toNatClampNeg = i := nI_clamp (by omega)
      have K := ih (i + 1) (by omega) (by omega)
      refine And.intro hin ?_
      rw [hc]
      have ed : ib_on yon (i + 1) = if yon i = 0 then ib_on yon i else ib_on yon i ||| ((1 : Int32) <<< (nI i &&& 31)) := rfl
      by_cases e : yon i = 0
      · rw [ed, if_pos e] at K
        exact br_t e (nm_r (nI_1 i) K)
      · rw [ed, if_neg e] at K
        exact br_f e (nm_e (nm_r (nI_1 i) K))
theorem ib_yon {post : Int32 → Prop} {m : Nat} (hm : m ≤ 6) (h : post (ib_on yon m)) : wpY_allOn post (nI m, ylo, yhi, yfa, ybo, yon) := ⟨m + 1, ib_yon_l hm h (m + 1) 0 (by omega) (by omega)⟩
theorem ib_ycnt_l {post : Int32 → Prop} {m : Nat} {s : Int32} (hm : m ≤ 6) (h : post (nI (ib_cn (ib_K ylo yhi yfa ybo m s) 4913))) : ∀ n p : Nat, p ≤ 4913 → 4913 < n + p → wY_count_4 post s (nI m) ylo yhi yfa ybo yon n (nI (ib_cn (ib_K ylo yhi yfa ybo m s) p)) (nI p) := by
  intro n
  induction n with
  | zero => intro i h1 h2; omega
  | succ n ih =>
    intro p hp hn
    refine pk_le 4913 p (fun z => ?_) (fun z => ?_)
    · have e : p = 4913 := by omega
      rw [e]; exact h
    · have K := ih (p + 1) (by omega) (by omega)
      rw [ib_cn_s] at K
      refine ib_ykeeps hm (by omega) (fun k => ?_) (fun k => ?_)
      · rw [ib_b_t k] at K
        exact br_f ib_10 (nm_r (nI_1 _) (nm_r (nI_1 p) K))
      · rw [ib_b_f k] at K
        exact br_t rfl (nm_r (nI_1 p) K)
theorem ib_ycnt {post : Int32 → Prop} {m : Nat} {s : Int32} (hm : m ≤ 6) (h : post (nI (ib_cn (ib_K ylo yhi yfa ybo m s) 4913))) : wpY_count post (nI m, ylo, yhi, yfa, ybo, yon) s := ⟨4914, ib_ycnt_l hm h 4914 0 (by omega) (by omega)⟩
theorem ib_yfst_l {post : Int32 → Prop} {m : Nat} {s : Int32} (hm : m ≤ 6) (h1 : ∀ p, p < 4913 → ib_K ylo yhi yfa ybo m s p → (∀ q, q < p → ¬ ib_K ylo yhi yfa ybo m s q) → post (nI p)) (h0 : (∀ q, q < 4913 → ¬ ib_K ylo yhi yfa ybo m s q) → post (-10000)) : ∀ n p : Nat, p ≤ 4913 → 4913 < n + p → (∀ q, q < p → ¬ ib_K ylo yhi yfa ybo m s q) → wY_firstOf_2 post s (nI m) ylo yhi yfa ybo yon n (nI p) := by
  intro n
  induction n with
  | zero => intro i h1 h2; omega
  | succ n ih =>
    intro p hp hn a
    refine pk_le 4913 p (fun z => h0 (fun q hq => a q (by omega))) (fun z => ?_)
    refine ib_ykeeps hm (by omega) (fun k => ?_) (fun k => ?_)
    · exact br_f ib_10 (h1 p (by omega) k a)
    · refine br_t rfl (nm_r (nI_1 p) (ih (p + 1) (by omega) (by omega) (fun q hq => ?_)))
      by_cases e : q = p
      · subst e; exact k
      · exact a q (by omega)
theorem ib_yfst {post : Int32 → Prop} {m : Nat} {s : Int32} (hm : m ≤ 6) (h1 : ∀ p, p < 4913 → ib_K ylo yhi yfa ybo m s p → (∀ q, q < p → ¬ ib_K ylo yhi yfa ybo m s q) → post (nI p)) (h0 : (∀ q, q < 4913 → ¬ ib_K ylo yhi yfa ybo m s q) → post (-10000)) : wpY_firstOf post (nI m, ylo, yhi, yfa, ybo, yon) s := ⟨4914, ib_yfst_l hm h1 h0 4914 0 (by omega) (by omega) (fun q hq => absurd hq (by omega))⟩
/-! greatest -/
theorem ib_Mx_s {P : Nat → Prop} {G : Nat → Int} {N : Nat} {x : Int} (h : ib_Mx (fun q => q < N ∧ P q) G x) (hn : ¬ P N) : ib_Mx (fun q => q < N + 1 ∧ P q) G x := by
  have nP : ∀ q, q < N + 1 → P q → q < N := by
    intro q hq hP
    by_cases e : q = N
    · subst e; exact absurd hP hn
    · omega
  rcases h with ⟨a, b⟩ | ⟨⟨q, q1, q2⟩, b⟩
  · exact Or.inl ⟨a, fun q hq => b q ⟨nP q hq.1 hq.2, hq.2⟩⟩
  · exact Or.inr ⟨⟨q, ⟨by omega, q1.2⟩, q2⟩, fun r hr => b r ⟨nP r hr.1 hr.2, hr.2⟩⟩
theorem ib_Mx_k {P : Nat → Prop} {G : Nat → Int} {N : Nat} {x : Int} (h : ib_Mx (fun q => q < N ∧ P q) G x) (hl : G N ≤ x) (hb : -10000 < G N) : ib_Mx (fun q => q < N + 1 ∧ P q) G x := by
  rcases h with ⟨a, b⟩ | ⟨⟨q, q1, q2⟩, b⟩
  · omega
  · refine Or.inr ⟨⟨q, ⟨by omega, q1.2⟩, q2⟩, fun r hr => ?_⟩
    by_cases e : r = N
    · subst e; exact hl
    · exact b r ⟨by omega, hr.2⟩
theorem ib_Mx_g {P : Nat → Prop} {G : Nat → Int} {N : Nat} {x : Int} (h : ib_Mx (fun q => q < N ∧ P q) G x) (hP : P N) (hl : x < G N) : ib_Mx (fun q => q < N + 1 ∧ P q) G (G N) := by
  refine Or.inr ⟨⟨N, ⟨by omega, hP⟩, rfl⟩, fun r hr => ?_⟩
  by_cases e : r = N
  · subst e; exact Int.le_refl _
  · rcases h with ⟨a, b⟩ | ⟨_, b⟩
    · exact absurd ⟨by omega, hr.2⟩ (b r)
    · have := b r ⟨by omega, hr.2⟩
      omega
theorem ib_ygr_l {post : Int32 → Prop} {m : Nat} {f s : Int32} (hm : m ≤ 6) (h : ∀ x : Int32, ib_Mx (fun q => q < 4913 ∧ ib_K ylo yhi yfa ybo m s q) (ib_yv f) x.toInt → post x) : ∀ (n p : Nat) (x : Int32), p ≤ 4913 → 4913 < n + p → ib_Mx (fun q => q < p ∧ ib_K ylo yhi yfa ybo m s q) (ib_yv f) x.toInt → wY_greatest_23 post f s (nI m) ylo yhi yfa ybo yon n x (nI p) := by
  intro n
  induction n with
  | zero => intro p x h1 h2; omega
  | succ n ih =>
    intro p x hp hn M
    refine pk_le 4913 p (fun z => ?_) (fun z => ?_)
    · have e : p = 4913 := by omega
      rw [e] at M; exact h x M
    · have hp' : p < 4913 := by omega
      refine ib_ykeeps hm hp' (fun k => ?_) (fun k => ?_)
      · refine br_f ib_10 ?_
        refine ib_yval hp' (fun r e => ?_)
        have yb := ib_yv_b f hp'
        refine ib_ble (fun y => nm_r (nI_1 p) (ih (p + 1) x (by omega) (by omega) (ib_Mx_k M (by omega) (by omega)))) (fun y => ?_)
        refine ib_yval hp' (fun r2 e2 => nm_r (nI_1 p) (ih (p + 1) r2 (by omega) (by omega) ?_))
        rw [e2]
        exact ib_Mx_g M k (by omega)
      · exact br_t rfl (nm_r (nI_1 p) (ih (p + 1) x (by omega) (by omega) (ib_Mx_s M k)))
theorem ib_ygr {post : Int32 → Prop} {m : Nat} {f : Int32} (hm : m ≤ 6) (h2 : ¬ ib_GF f → post (-2)) (h : ib_GF f → ∀ x : Int32, ib_Mx (fun q => q < 4913 ∧ ib_K ylo yhi yfa ybo m (ib_on yon m) q) (ib_yv f) x.toInt → post x) : wpY_greatest post (nI m, ylo, yhi, yfa, ybo, yon) f := by
  unfold wpY_greatest
  refine ib_yareF (fun G => ?_) (fun G => br_t rfl (h2 G))
  refine br_f ib_10 ?_
  refine ib_yon hm ⟨4914, ?_⟩
  exact ib_ygr_l hm (h G) 4914 0 (-10000) (by omega) (by omega) (Or.inl ⟨ib_tn, fun q hq => absurd hq.1 (by omega)⟩)
/-! numbers -/
theorem ib_c8 {p v : Nat} {r : Int32} (hp : p < 4913) (hv : v < 3) (e : r.toInt = ib_c p v) : r + 8 = nI (ib_c p v + 8).toNat := by
  have c := ib_c_r hp v hv
  apply Int32.toInt_inj.mp
  have q := ib_add (x := r) (y := 8) (by omega) (by rw [ib_t8]; omega)
  rw [ib_t8] at q
  rw [q, nI_toInt (by omega), e]
  omega
def ib_Nb (P : Nat → Prop) (v : Nat) (x : Int32) : Prop := ∀ j, j < 32 → (bt x j = true ↔ ∃ q, P q ∧ ib_c q v + 8 = (j : Int))
theorem ib_ynu_l {post : Int32 → Prop} {m v : Nat} {s : Int32} (hm : m ≤ 6) (hv : v < 3) (h : ∀ x : Int32, ib_Nb (fun q => q < 4913 ∧ ib_K ylo yhi yfa ybo m s q) v x → post x) : ∀ (n p : Nat) (x : Int32), p ≤ 4913 → 4913 < n + p → ib_Nb (fun q => q < p ∧ ib_K ylo yhi yfa ybo m s q) v x → wY_numbers_21 post (nI v) s (nI m) ylo yhi yfa ybo yon n x (nI p) := by
  intro n
  induction n with
  | zero => intro p x h1 h2; omega
  | succ n ih =>
    intro p x hp hn M
    refine pk_le 4913 p (fun z => ?_) (fun z => ?_)
    · have e : p = 4913 := by omega
      rw [e] at M; exact h x M
    · have hp' : p < 4913 := by omega
      refine ib_ykeeps hm hp' (fun k => ?_) (fun k => ?_)
      · refine br_f ib_10 ?_
        refine ib_ynum hp' hv (fun r e => nm_e (nm_r (nI_1 p) (ih (p + 1) _ (by omega) (by omega) (fun j hj => ?_))))
        have c := ib_c_r hp' v hv
        rw [ib_c8 hp' hv e, b_or, ib_sh1 (by omega) hj, Bool.or_eq_true, M j hj, decide_eq_true_iff]
        constructor
        · intro a
          rcases a with ⟨q, q1, q2⟩ | a
          · exact ⟨q, ⟨by omega, q1.2⟩, q2⟩
          · exact ⟨p, ⟨by omega, k⟩, by omega⟩
        · intro ⟨q, q1, q2⟩
          by_cases eq : q = p
          · subst eq; exact Or.inr (by omega)
          · exact Or.inl ⟨q, ⟨by omega, q1.2⟩, q2⟩
      · refine br_t rfl (nm_r (nI_1 p) (ih (p + 1) x (by omega) (by omega) (fun j hj => ?_)))
        rw [M j hj]
        constructor
        · intro ⟨q, q1, q2⟩; exact ⟨q, ⟨by omega, q1.2⟩, q2⟩
        · intro ⟨q, q1, q2⟩
          by_cases eq : q = p
          · subst eq; exact absurd q1.2 k
          · exact ⟨q, ⟨by omega, q1.2⟩, q2⟩
/-! size -/
theorem ib_ysz_l {post : Int32 → Prop} {s : Int32} (h : post (nI (ib_bits s 6))) : ∀ n i : Nat, i ≤ 6 → 6 < n + i → wY_size_4 post s yl ylo yhi yfa ybo yon n (nI (ib_bits s i)) (nI i) := by
  intro n
  induction n with
  | zero => intro i h1 h2; omega
  | succ n ih =>
    intro i hi hn
    refine pk_le 6 i (fun z => ?_) (fun z => ?_)
    · have e : i = 6 := by omega
      rw [e]; exact h
    · exact nm_r (ib_bits_s s (by omega)) (nm_r (nI_1 i) (ih (i + 1) (by omega) (by omega)))
theorem ib_ysz {post : Int32 → Prop} {s : Int32} (h : post (nI (ib_bits s 6))) : wpY_size post (yl, ylo, yhi, yfa, ybo, yon) s := ⟨7, ib_ysz_l h 7 0 (by omega) (by omega)⟩
/-! tight -/
theorem ib_yti_l {post : Int32 → Prop} {m i : Nat} {s : Int32} (hm : m ≤ 6) (hi : i < m) (h : post (nI (ib_cn (fun q => ib_K ylo yhi yfa ybo m s q ∧ ib_yv (yfa i) q = ib_z ybo i) 4913))) : ∀ n p : Nat, p ≤ 4913 → 4913 < n + p → wY_tight_21 post (nI i) s (nI m) ylo yhi yfa ybo yon n (nI (ib_cn (fun q => ib_K ylo yhi yfa ybo m s q ∧ ib_yv (yfa i) q = ib_z ybo i) p)) (nI p) := by
  intro n
  induction n with
  | zero => intro p h1 h2; omega
  | succ n ih =>
    intro p hp hn
    refine pk_le 4913 p (fun z => ?_) (fun z => ?_)
    · have e : p = 4913 := by omega
      rw [e]; exact h
    · have K := ih (p + 1) (by omega) (by omega)
      have hp' : p < 4913 := by omega
      have hin : vp_in (nI i) 6 := vp_in_nI (by omega) (by decide)
      have hc : (nI i).toNatClampNeg = i := nI_clamp (by omega)
      rw [ib_cn_s] at K
      refine ib_ykeeps hm hp' (fun k => ?_) (fun k => ?_)
      · refine br_f ib_10 (And.intro hin ?_)
        rw [hc]
        refine ib_yval hp' (fun r e => And.intro hin ?_)
        refine ib_beq (fun y => ?_) (fun y => ?_)
        · rw [ib_b_t (P := ib_K ylo yhi yfa ybo m s p ∧ ib_yv (yfa i) p = ib_z ybo i) ⟨k, by rw [← e]; exact y⟩] at K
          exact nm_r (nI_1 _) (nm_r (nI_1 p) K)
        · rw [ib_b_f (P := ib_K ylo yhi yfa ybo m s p ∧ ib_yv (yfa i) p = ib_z ybo i) (fun q => y (by rw [e]; exact q.2))] at K
          exact nm_r (nI_1 p) K
      · rw [ib_b_f (P := ib_K ylo yhi yfa ybo m s p ∧ ib_yv (yfa i) p = ib_z ybo i) (fun q => k q.1)] at K
        exact br_t rfl (nm_r (nI_1 p) K)
end
end
section
/-! the relation -/
def ib_Rl (m : Nat) (fa bo yfa ybo : Nat → Int32) : Prop := ∀ i, i < m → (∀ k, k < 3 → fa (i * 3 + k) = ib_fo (yfa i) k) ∧ ybo i = bo i
def i_Rel (_ : Nat) (u : SX) (v : SY) : Prop := match u, v with
  | (li, ac, de, lo, uh, fa, bo, oo, go, sl, sh, fr, tt, fp), (yl, ylo, yhi, yfa, ybo, yon) => ∃ m : Nat, li = nI m ∧ yl = nI m ∧ m ≤ 6 ∧ ylo = lo ∧ yhi = uh ∧ yon = oo ∧ ib_Ok (ib_z lo) (ib_z uh) ∧ ib_WF fa bo ∧ ib_Rl m fa bo yfa ybo
theorem i_up {k : Nat} {u : SX} {v : SY} (h : i_Rel k u v) : i_Rel (k + 4) u v := h
theorem ib_el {k : Nat} {u : SX} {v : SY} {P : SX → SY → Prop} (h : ∀ (m : Nat) (ac de : Int32) (lo uh fa bo oo go sl sh fr tt fp yfa ybo : Nat → Int32), m ≤ 6 → ib_Ok (ib_z lo) (ib_z uh) → ib_WF fa bo → ib_Rl m fa bo yfa ybo → P (nI m, ac, de, lo, uh, fa, bo, oo, go, sl, sh, fr, tt, fp) (nI m, lo, uh, yfa, ybo, oo)) (I : i_Rel k u v) : P u v := by
  obtain ⟨li, ac, de, lo, uh, fa, bo, oo, go, sl, sh, fr, tt, fp⟩ := u
  obtain ⟨yl, ylo, yhi, yfa, ybo, yon⟩ := v
  obtain ⟨m, e1, e2, hm, e3, e4, e5, o, w, r⟩ := I
  subst e1 e2 e3 e4 e5
  exact h m ac de _ _ fa bo _ go sl sh fr tt fp yfa ybo hm o w r
theorem ib_in {k m : Nat} {ac de : Int32} {lo uh fa bo oo go sl sh fr tt fp yfa ybo : Nat → Int32} (hm : m ≤ 6) (o : ib_Ok (ib_z lo) (ib_z uh)) (w : ib_WF fa bo) (r : ib_Rl m fa bo yfa ybo) : i_Rel k (nI m, ac, de, lo, uh, fa, bo, oo, go, sl, sh, fr, tt, fp) (nI m, lo, uh, yfa, ybo, oo) := ⟨m, rfl, rfl, hm, rfl, rfl, rfl, o, w, r⟩
/-! constructors -/
def ib_ini (c : Int32) : Nat → (Nat → Int32)
  | 0 => fun _ => 0
  | k + 1 => upd (ib_ini c k) k c
theorem ib_ini_v (c : Int32) : ∀ k j, j < k → ib_ini c k j = c := by
  intro k
  induction k with
  | zero => intro j hj; omega
  | succ k ih =>
    intro j hj
    show upd (ib_ini c k) k c j = c
    by_cases e : j = k
    · subst e; exact pk_us
    · rw [pk_un e]; exact ih j (by omega)
theorem ib_xini {post : SX → Prop} {fa bo oo go sl sh fr tt fp : Nat → Int32} {li ac de : Int32} (h : post (li, ac, de, ib_ini (-8) 3, ib_ini 8 3, fa, bo, oo, go, sl, sh, fr, tt, fp)) : ∀ n k : Nat, k ≤ 3 → 3 < n + k → wX_init_88 post li ac de n (nI k) (ib_ini (-8) k) (ib_ini 8 k) fa bo oo go sl sh fr tt fp := by
  intro n
  induction n with
  | zero => intro k h1 h2; omega
  | succ n ih =>
    intro k hk hn
    refine pk_le 3 k (fun z => ?_) (fun z => ?_)
    · have e : k = 3 := by omega
      rw [e]; exact h
    · have hin : vp_in (nI k) 3 := vp_in_nI (by omega) (by decide)
      have hc : (nI k).toNatClampNeg = k := nI_clamp (by omega)
      exact And.intro hin (nm_r (e' := ib_ini (-8) (k + 1)) (by rw [hc]; rfl) (And.intro hin (nm_r (e' := ib_ini 8 (k + 1)) (by rw [hc]; rfl) (nm_r (nI_1 k) (ih (k + 1) (by omega) (by omega))))))
theorem ib_yini {post : SY → Prop} {yfa ybo yon : Nat → Int32} {yl : Int32} (h : post (yl, ib_ini (-8) 3, ib_ini 8 3, yfa, ybo, yon)) : ∀ n k : Nat, k ≤ 3 → 3 < n + k → wY_init_44 post yl n (nI k) (ib_ini (-8) k) (ib_ini 8 k) yfa ybo yon := by
  intro n
  induction n with
  | zero => intro k h1 h2; omega
  | succ n ih =>
    intro k hk hn
    refine pk_le 3 k (fun z => ?_) (fun z => ?_)
    · have e : k = 3 := by omega
      rw [e]; exact h
    · have hin : vp_in (nI k) 3 := vp_in_nI (by omega) (by decide)
      have hc : (nI k).toNatClampNeg = k := nI_clamp (by omega)
      exact And.intro hin (nm_r (e' := ib_ini (-8) (k + 1)) (by rw [hc]; rfl) (And.intro hin (nm_r (e' := ib_ini 8 (k + 1)) (by rw [hc]; rfl) (nm_r (nI_1 k) (ih (k + 1) (by omega) (by omega))))))
theorem i_vc0 : wpX_init (fun u => wpY_init (fun v => i_Rel 0 u v)) := by
  refine ⟨4, ib_xini (li := 0) (ac := 0) (de := 0) ?_ 4 0 (by omega) (by omega)⟩
  refine ⟨4, ib_yini (yl := 0) ?_ 4 0 (by omega) (by omega)⟩
  refine ib_in (m := 0) (by omega) (fun k hk => ?_) ⟨fun j _ => ?_, fun j _ => ?_⟩ (fun i hi => absurd hi (by omega))
  · show -8 ≤ (ib_ini (-8) 3 k).toInt ∧ (ib_ini (-8) 3 k).toInt ≤ (ib_ini 8 3 k).toInt ∧ (ib_ini 8 3 k).toInt ≤ 8
    rw [ib_ini_v _ _ _ hk, ib_ini_v _ _ _ hk, ib_t8, ib_tm8]
    omega
  · show -5 ≤ (0 : Int32).toInt ∧ (0 : Int32).toInt ≤ 5
    rw [ib_t0]; omega
  · show -100 ≤ (0 : Int32).toInt ∧ (0 : Int32).toInt ≤ 100
    rw [ib_t0]; omega
section
variable {li ac de : Int32} {lo uh fa bo oo go sl sh fr tt fp : Nat → Int32}
variable {yl : Int32} {ylo yhi yfa ybo yon : Nat → Int32}
/-! whether a number is a variable, a limit -/
theorem ib_var (x : Int32) : x < 0 ∨ (¬ x < 0 ∧ ¬ x < 3 ∧ ¬ x ≤ 2) ∨ ∃ j : Nat, j < 3 ∧ x = nI j := by
  rcases pk_ix x (n := 3) (by omega) with h | h | h
  · exact Or.inl h
  · right; left
    have h' : (3 : Int32) ≤ x := h
    rw [Int32.le_iff_toInt_le, show (3 : Int32).toInt = 3 from by decide] at h'
    refine ⟨fun q => ?_, fun q => ?_, fun q => ?_⟩
    · rw [Int32.lt_iff_toInt_lt, ib_t0] at q; omega
    · rw [Int32.lt_iff_toInt_lt, show (3 : Int32).toInt = 3 from by decide] at q; omega
    · rw [Int32.le_iff_toInt_le, ib_t2] at q; omega
  · exact Or.inr (Or.inr h)
theorem ib_xbv1 {post : Int32 → Prop} {x : Int32} (h : x < 0) (p : post 1) : wpX_badVariable post x := br_t h p
theorem ib_xbv2 {post : Int32 → Prop} {x : Int32} (h : ¬ x < 0 ∧ ¬ x < 3 ∧ ¬ x ≤ 2) (p : post 1) : wpX_badVariable post x := br_f h.1 (br_f h.2.1 p)
theorem ib_xbv3 {post : Int32 → Prop} {j : Nat} (h : j < 3) (p : post 0) : wpX_badVariable post (nI j) := br_f (nI_pos (by omega)) (br_t (nI_lt (b := 3) h (by decide)) p)
theorem ib_xnl1 {post : Int32 → Prop} {x : Int32} {m : Nat} (h : x < 0 ∨ nI m ≤ x) (p : post 1) : wpX_noLimit post (nI m, ac, de, lo, uh, fa, bo, oo, go, sl, sh, fr, tt, fp) x := by
  by_cases h0 : x < 0
  · exact br_t h0 p
  · exact br_f h0 (br_f (Int32.not_lt.mpr (h.resolve_left h0)) p)
theorem ib_xnl2 {post : Int32 → Prop} {j m : Nat} (hm : m ≤ 6) (h : j < m) (p : post 0) : wpX_noLimit post (nI m, ac, de, lo, uh, fa, bo, oo, go, sl, sh, fr, tt, fp) (nI j) := br_f (nI_pos (by omega)) (br_t (nI_lt h (by omega)) p)
theorem ib_ynl1 {post : Int32 → Prop} {x : Int32} {m : Nat} (h : x < 0 ∨ nI m ≤ x) (p : post 0) : wpY_isLimit post (nI m, ylo, yhi, yfa, ybo, yon) x := by
  by_cases h0 : x < 0
  · exact br_t h0 p
  · exact br_f h0 (br_t (h.resolve_left h0) p)
theorem ib_ynl2 {post : Int32 → Prop} {j m : Nat} (hm : m ≤ 6) (h : j < m) (p : post 1) : wpY_isLimit post (nI m, ylo, yhi, yfa, ybo, yon) (nI j) := br_f (nI_pos (by omega)) (br_f (nI_ge h (by omega)) p)
theorem ib_lim (x : Int32) {m : Nat} (hm : m ≤ 6) : (x < 0 ∨ nI m ≤ x) ∨ ∃ j : Nat, j < m ∧ x = nI j := by
  rcases pk_ix x (n := m) (by omega) with h | h | h
  · exact Or.inl (Or.inl h)
  · exact Or.inl (Or.inr h)
  · exact Or.inr h
/-! setLimit -/
theorem ib_xsl_l {post : SX → Prop} {a : Nat} {f d : Int32} {fa0 : Nat → Int32} (ha : a < 6) (h : ∀ fa' : Nat → Int32, (∀ k, k < 3 → fa' (a * 3 + k) = ib_fo f k) → (∀ j, j < a * 3 ∨ a * 3 + 3 ≤ j → fa' j = fa0 j) → post (li, ac, de, lo, uh, fa', upd bo a d, oo, go, sl, sh, fr, tt, fp)) : ∀ (n k : Nat) (fa : Nat → Int32), k ≤ 3 → 3 < n + k → (∀ j, j < k → fa (a * 3 + j) = ib_fo f j) → (∀ j, j < a * 3 ∨ a * 3 + 3 ≤ j → fa j = fa0 j) → wX_setLimit_3 post (nI a) f d li ac de n (nI k) lo uh fa bo oo go sl sh fr tt fp := by
  intro n
  induction n with
  | zero => intro k fa h1 h2; omega
  | succ n ih =>
    intro k fa hk hn b c
    refine pk_le 3 k (fun z => And.intro (vp_in_nI (by omega) (by decide)) (nm_r (e' := upd bo a d) (by rw [nI_clamp (by omega)]) (h fa (fun j hj => b j (by omega)) c))) (fun z => ?_)
    have e := ib_ix a k
    have hin : vp_in (nI a * 3 + nI k) 24 := by rw [e]; exact vp_in_nI (by omega) (by decide)
    have hc : (nI a * 3 + nI k).toNatClampNeg = a * 3 + k := by rw [e, nI_clamp (by omega)]
    refine And.intro hin (nm_r (e' := upd fa (a * 3 + k) (ib_fo f k)) (by rw [hc]; rfl) (nm_r (nI_1 k) (ih (k + 1) _ (by omega) (by omega) (fun j hj => ?_) (fun j hj => ?_))))
    · by_cases ej : j = k
      · subst ej; exact pk_us
      · rw [pk_un (by omega)]; exact b j (by omega)
    · rw [pk_un (by omega)]; exact c j hj
theorem ib_xsl {post : SX → Prop} {a : Nat} {f d : Int32} (ha : a < 6) (h : ∀ fa' : Nat → Int32, (∀ k, k < 3 → fa' (a * 3 + k) = ib_fo f k) → (∀ j, j < a * 3 ∨ a * 3 + 3 ≤ j → fa' j = fa j) → post (li, ac, de, lo, uh, fa', upd bo a d, oo, go, sl, sh, fr, tt, fp)) : wpX_setLimit post (li, ac, de, lo, uh, fa, bo, oo, go, sl, sh, fr, tt, fp) (nI a) f d := ⟨4, ib_xsl_l ha h 4 0 fa (by omega) (by omega) (fun j hj => absurd hj (by omega)) (fun j _ => rfl)⟩
end
/-! range -/
theorem i_vc_range {k : Nat} {u : SX} {v : SY} (I : i_Rel k u v) (hk : k + 4 ≤ 2048) (v1 : Int32) (v2 : Int32) (v3 : Int32) : wpX_range (fun r u' => wpY_range (fun r' v' => r' = r ∧ i_Rel (k + 4) u' v') v v1 v2 v3) u v1 v2 v3 := by
  refine ib_el (P := fun u v => wpX_range (fun r u' => wpY_range (fun r' v' => r' = r ∧ i_Rel (k + 4) u' v') v v1 v2 v3) u v1 v2 v3) ?_ I
  intro m ac de lo uh fa bo oo go sl sh fr tt fp yfa ybo hm o w r
  unfold wpX_range
  rcases ib_var v1 with h | h | ⟨j, hj, e⟩
  · exact ib_xbv1 h (br_f ib_10 (br_t h ⟨rfl, ib_in hm o w r⟩))
  · exact ib_xbv2 h (br_f ib_10 (br_f h.1 (br_f h.2.2 ⟨rfl, ib_in hm o w r⟩)))
  · subst e
    have n0 : ¬ nI j < 0 := nI_pos (by omega)
    have n2 : nI j ≤ 2 := nI_le (b := 2) (by omega) (by decide)
    have hin : vp_in (nI j) 3 := vp_in_nI hj (by decide)
    have hc : (nI j).toNatClampNeg = j := nI_clamp (by omega)
    refine ib_xbv3 hj (br_t rfl ?_)
    by_cases a : v2 < (-8)
    · exact br_t a (br_f n0 (br_t n2 (br_t a ⟨rfl, ib_in hm o w r⟩)))
    · refine br_f a ?_
      by_cases b : v3 < v2
      · exact br_t b (br_f n0 (br_t n2 (br_f a (br_t b ⟨rfl, ib_in hm o w r⟩))))
      · refine br_f b ?_
        by_cases c : v3 ≤ 8
        · refine br_t c (And.intro hin (nm_e (And.intro hin (nm_e ?_))))
          refine br_f n0 (br_t n2 (br_f a (br_f b (br_t c (And.intro hin (nm_e (And.intro hin (nm_e ⟨rfl, ?_⟩))))))))
          refine ib_in hm (fun i hi => ?_) w r
          rw [hc]
          by_cases ei : i = j
          · subst ei
            rw [ib_zus, ib_zus]
            rw [Int32.lt_iff_toInt_lt, ib_tm8] at a
            rw [Int32.lt_iff_toInt_lt] at b
            rw [Int32.le_iff_toInt_le, ib_t8] at c
            omega
          · rw [ib_zun _ _ ei, ib_zun _ _ ei]
            exact o i hi
        · exact br_f c (br_f n0 (br_t n2 (br_f a (br_f b (br_f c ⟨rfl, ib_in hm o w r⟩)))))
/-! limit -/
theorem i_vc_limit {k : Nat} {u : SX} {v : SY} (I : i_Rel k u v) (hk : k + 4 ≤ 2048) (v1 : Int32) (v2 : Int32) : wpX_limit (fun r u' => wpY_limit (fun r' v' => r' = r ∧ i_Rel (k + 4) u' v') v v1 v2) u v1 v2 := by
  refine ib_el (P := fun u v => wpX_limit (fun r u' => wpY_limit (fun r' v' => r' = r ∧ i_Rel (k + 4) u' v') v v1 v2) u v1 v2) ?_ I
  intro m ac de lo uh fa bo oo go sl sh fr tt fp yfa ybo hm o w r
  unfold wpX_limit
  refine ib_xbadF (fun G => ?_) (fun G => ?_)
  · refine br_t rfl ?_
    by_cases a : v2 < (-100)
    · refine br_t a ?_
      unfold wpY_limit
      exact ib_yareF (fun _ => br_f ib_10 (br_t a (br_t rfl ⟨rfl, ib_in hm o w r⟩))) (fun G' => absurd G G')
    · refine br_f a ?_
      by_cases b : v2 ≤ 100
      · refine br_t b ?_
        have b' : ¬ 100 < v2 := Int32.not_lt.mpr b
        by_cases c : m < 6
        · refine br_t (nI_lt (b := 6) c (by decide)) ?_
          refine ib_xsl c (fun fa' q1 q2 => ?_)
          have hin : vp_in (nI m) 6 := vp_in_nI c (by decide)
          have hc : (nI m).toNatClampNeg = m := nI_clamp (by omega)
          have hne : ¬ nI m = 6 := fun e => absurd ((nI_eq (b := 6) (by omega) (by omega)).mp e) (by omega)
          refine And.intro hin (nm_e (nm_r (nI_1 m) ?_))
          unfold wpY_limit
          refine ib_yareF (fun _ => ?_) (fun G' => absurd G G')
          refine br_f ib_10 (br_f a (br_f b' (br_f ib_10 (br_f hne ?_))))
          refine And.intro hin (nm_e (And.intro hin (nm_e (And.intro hin (nm_e (nm_r (nI_1 m) ⟨rfl, ?_⟩))))))
          rw [hc]
          refine ib_in (by omega) o ⟨fun j hj => ?_, fun i hi => ?_⟩ (fun i hi => ?_)
          · by_cases e : j < m * 3 ∨ m * 3 + 3 ≤ j
            · have q := w.1 j hj
              unfold ib_z at q ⊢
              rw [q2 j e]; exact q
            · have q := q1 (j - m * 3) (by omega)
              have e2 : m * 3 + (j - m * 3) = j := by omega
              rw [e2] at q
              have f1 := ib_fo_r v1 (j - m * 3)
              have f2 := G (j - m * 3) (by omega)
              unfold ib_z
              rw [q]
              omega
          · by_cases e : i = m
            · subst e
              rw [ib_zus]
              rw [Int32.lt_iff_toInt_lt, ib_tm100] at a
              rw [Int32.le_iff_toInt_le, ib_t100] at b
              omega
            · rw [ib_zun _ _ e]; exact w.2 i hi
          · by_cases e : i = m
            · subst e
              rw [pk_us, pk_us, pk_us]
              exact ⟨q1, rfl⟩
            · have q := r i (by omega)
              rw [pk_un e, pk_un e, pk_un e]
              refine ⟨fun k hk => ?_, q.2⟩
              rw [q2 _ (by omega)]
              exact q.1 k hk
        · have em : m = 6 := by omega
          refine br_f (nI_nlt (b := 6) (by omega) (by omega)) ?_
          unfold wpY_limit
          have he : nI m = 6 := congrArg nI em
          exact ib_yareF (fun _ => br_f ib_10 (br_f a (br_f b' (br_f ib_10 (br_t he ⟨rfl, ib_in hm o w r⟩))))) (fun G' => absurd G G')
      · refine br_f b ?_
        have b' : 100 < v2 := Int32.not_le.mp b
        unfold wpY_limit
        exact ib_yareF (fun _ => br_f ib_10 (br_f a (br_t b' (br_t rfl ⟨rfl, ib_in hm o w r⟩)))) (fun G' => absurd G G')
  · refine br_f ib_10 ?_
    unfold wpY_limit
    exact ib_yareF (fun G' => absurd G' G) (fun _ => br_t rfl ⟨rfl, ib_in hm o w r⟩)
/-! relax, turn, drop -/
theorem i_vc_relax {k : Nat} {u : SX} {v : SY} (I : i_Rel k u v) (hk : k + 4 ≤ 2048) (v1 : Int32) (v2 : Int32) : wpX_relax (fun r u' => wpY_relax (fun r' v' => r' = r ∧ i_Rel (k + 4) u' v') v v1 v2) u v1 v2 := by
  refine ib_el (P := fun u v => wpX_relax (fun r u' => wpY_relax (fun r' v' => r' = r ∧ i_Rel (k + 4) u' v') v v1 v2) u v1 v2) ?_ I
  intro m ac de lo uh fa bo oo go sl sh fr tt fp yfa ybo hm o w r
  unfold wpX_relax wpY_relax
  rcases ib_lim v1 hm with h | ⟨j, hj, e⟩
  · exact ib_xnl1 h (br_f ib_10 (ib_ynl1 h (br_t rfl ⟨rfl, ib_in hm o w r⟩)))
  · subst e
    have h8 : vp_in (nI j) 8 := vp_in_nI (by omega) (by decide)
    have h6 : vp_in (nI j) 6 := vp_in_nI (by omega) (by decide)
    have hc : (nI j).toNatClampNeg = j := nI_clamp (by omega)
    refine ib_xnl2 hm hj (br_t rfl ?_)
    by_cases a : v2 < (-100)
    · exact br_t a (ib_ynl2 hm hj (br_f ib_10 (br_t a (br_t rfl ⟨rfl, ib_in hm o w r⟩))))
    · refine br_f a ?_
      by_cases b : v2 ≤ 100
      · have b' : ¬ 100 < v2 := Int32.not_lt.mpr b
        refine br_t b (And.intro h8 (nm_e (And.intro h8 (nm_e ?_))))
        refine ib_ynl2 hm hj (br_f ib_10 (br_f a (br_f b' (br_f ib_10 (And.intro h6 (nm_e (And.intro h6 (nm_e ⟨?_, ?_⟩))))))))
        · rw [hc]; exact (r j hj).2
        · rw [hc]
          refine ib_in hm o ⟨w.1, fun i hi => ?_⟩ (fun i hi => ⟨(r i hi).1, ?_⟩)
          · by_cases e : i = j
            · subst e
              rw [ib_zus]
              rw [Int32.lt_iff_toInt_lt, ib_tm100] at a
              rw [Int32.le_iff_toInt_le, ib_t100] at b
              omega
            · rw [ib_zun _ _ e]; exact w.2 i hi
          · by_cases e : i = j
            · subst e; rw [pk_us, pk_us]
            · rw [pk_un e, pk_un e]; exact (r i hi).2
      · have b' : 100 < v2 := Int32.not_le.mp b
        exact br_f b (ib_ynl2 hm hj (br_f ib_10 (br_f a (br_t b' (br_t rfl ⟨rfl, ib_in hm o w r⟩)))))
theorem i_vc_turn {k : Nat} {u : SX} {v : SY} (I : i_Rel k u v) (hk : k + 4 ≤ 2048) (v1 : Int32) (v2 : Int32) : wpX_turn (fun r u' => wpY_turn (fun r' v' => r' = r ∧ i_Rel (k + 4) u' v') v v1 (lw_bz v2)) u v1 (lw_bz v2) := by
  refine ib_el (P := fun u v => wpX_turn (fun r u' => wpY_turn (fun r' v' => r' = r ∧ i_Rel (k + 4) u' v') v v1 (lw_bz v2)) u v1 (lw_bz v2)) ?_ I
  intro m ac de lo uh fa bo oo go sl sh fr tt fp yfa ybo hm o w r
  unfold wpX_turn wpY_turn
  rcases ib_lim v1 hm with h | ⟨j, hj, e⟩
  · exact ib_xnl1 h (br_f ib_10 (ib_ynl1 h (br_t rfl ⟨rfl, ib_in hm o w r⟩)))
  · subst e
    have h6 : vp_in (nI j) 6 := vp_in_nI (by omega) (by decide)
    refine ib_xnl2 hm hj (br_t rfl (And.intro h6 ?_))
    by_cases a : oo (nI j).toNatClampNeg = 0
    · exact br_t a (And.intro h6 (nm_e (ib_ynl2 hm hj (br_f ib_10 (And.intro h6 (br_t a (And.intro h6 (nm_e ⟨rfl, ib_in hm o w r⟩))))))))
    · exact br_f a (And.intro h6 (nm_e (ib_ynl2 hm hj (br_f ib_10 (And.intro h6 (br_f a (And.intro h6 (nm_e ⟨rfl, ib_in hm o w r⟩))))))))
theorem i_vc_drop {k : Nat} {u : SX} {v : SY} (I : i_Rel k u v) (hk : k + 4 ≤ 2048) : wpX_drop (fun r u' => wpY_drop (fun r' v' => r' = r ∧ i_Rel (k + 4) u' v') v) u := by
  refine ib_el (P := fun u v => wpX_drop (fun r u' => wpY_drop (fun r' v' => r' = r ∧ i_Rel (k + 4) u' v') v) u) ?_ I
  intro m ac de lo uh fa bo oo go sl sh fr tt fp yfa ybo hm o w r
  cases m with
  | zero => exact br_t (by rfl) (br_t (by rfl) ⟨rfl, ib_in hm o w r⟩)
  | succ m =>
    have hn : ¬ nI (m + 1) = 0 := nI_ne0 (by omega) (by omega)
    exact br_f hn (nm_r (nI_pred m) (br_f hn (nm_r (nI_pred m) ⟨rfl, ib_in (by omega) o w (fun i hi => r i (by omega))⟩)))
end
section
/-! questions: what both sides count -/
theorem ib_KT {m : Nat} {lo uh fa bo yfa ybo : Nat → Int32} {s : Int32} (hm : m ≤ 6) (r : ib_Rl m fa bo yfa ybo) (hs : ∀ j, j < 8 → bt s j = true → j < m) (p : Nat) : ib_K lo uh yfa ybo m s p ↔ ib_Tg lo uh fa bo s p := by
  have e : ∀ i, i < m → ib_lv fa i (ib_c p) = ib_yv (yfa i) p := by
    intro i hi
    have q := (r i hi).1
    unfold ib_lv ib_yv ib_z
    rw [q 0 (by omega), q 1 (by omega), q 2 (by omega)]
  have eb : ∀ i, i < m → ib_z ybo i = ib_z bo i := by
    intro i hi
    unfold ib_z
    rw [(r i hi).2]
  constructor
  · intro ⟨a, b⟩
    refine ⟨a, fun i hi hb => ?_⟩
    have im := hs i hi hb
    rw [e i im, ← eb i im]
    exact b i im hb
  · intro ⟨a, b⟩
    refine ⟨a, fun i im hb => ?_⟩
    rw [← e i im, eb i im]
    exact b i (by omega) hb
theorem ib_on_lt {oo : Nat → Int32} {m : Nat} (hm : m ≤ 6) : ∀ j, j < 8 → bt (ib_on oo m) j = true → j < m := fun j _ hb => ((ib_on_bt oo m (by omega) j (by omega)).mp hb).1
theorem ib_cntK {m : Nat} {lo uh fa bo yfa ybo : Nat → Int32} {s : Int32} (hm : m ≤ 6) (r : ib_Rl m fa bo yfa ybo) (hs : ∀ j, j < 8 → bt s j = true → j < m) : ib_cn (ib_K lo uh yfa ybo m s) 4913 = ib_cnt (ib_S fa bo s) (ib_z lo) (ib_z uh) := ib_cn_c 4913 (fun p _ => ib_KT hm r hs p)
theorem ib_Mx_c {TG TG' : Nat → Prop} {G : Nat → Int} {x : Int} (h : ∀ q, TG q ↔ TG' q) (M : ib_Mx TG G x) : ib_Mx TG' G x := by
  have e : TG = TG' := funext (fun q => propext (h q))
  rw [← e]; exact M
theorem ib_KT4 {m : Nat} {lo uh fa bo yfa ybo : Nat → Int32} {s : Int32} (hm : m ≤ 6) (o : ib_Ok (ib_z lo) (ib_z uh)) (r : ib_Rl m fa bo yfa ybo) (hs : ∀ j, j < 8 → bt s j = true → j < m) (q : Nat) : (q < 4913 ∧ ib_K lo uh yfa ybo m s q) ↔ ib_Tg lo uh fa bo s q :=
  ⟨fun a => (ib_KT hm r hs q).mp a.2, fun a => ⟨ib_In_lt o a.1, (ib_KT hm r hs q).mpr a⟩⟩
/-! points -/
theorem i_vc_points {k : Nat} {u : SX} {v : SY} (I : i_Rel k u v) (hk : k + 4 ≤ 2048) : wpX_points (fun r u' => wpY_points (fun r' => r' = r ∧ i_Rel (k + 4) u' v) v) u := by
  refine ib_el (P := fun u v => wpX_points (fun r u' => wpY_points (fun r' => r' = r ∧ i_Rel (k + 4) u' v) v) u) ?_ I
  intro m ac de lo uh fa bo oo go sl sh fr tt fp yfa ybo hm o w r
  unfold wpX_points wpY_points
  refine ib_xon hm ?_
  refine ib_xcp w o (fun de sl sh fr tt => ?_)
  refine ib_yon hm (ib_ycnt hm ⟨?_, ib_in hm o w r⟩)
  exact congrArg nI (ib_cntK hm r (ib_on_lt hm))
/-! first -/
theorem i_vc_first {k : Nat} {u : SX} {v : SY} (I : i_Rel k u v) (hk : k + 4 ≤ 2048) (v1 : Int32) : wpX_first (fun r u' => wpY_first (fun r' => r' = r ∧ i_Rel (k + 4) u' v) v v1) u v1 := by
  refine ib_el (P := fun u v => wpX_first (fun r u' => wpY_first (fun r' => r' = r ∧ i_Rel (k + 4) u' v) v v1) u v1) ?_ I
  intro m ac de lo uh fa bo oo go sl sh fr tt fp yfa ybo hm o w r
  unfold wpX_first wpY_first
  rcases ib_var v1 with h | h | ⟨j, hj, e⟩
  · exact ib_xbv1 h (br_f ib_10 (br_t h ⟨rfl, ib_in hm o w r⟩))
  · exact ib_xbv2 h (br_f ib_10 (br_f h.1 (br_f h.2.2 ⟨rfl, ib_in hm o w r⟩)))
  · subst e
    have n0 : ¬ nI j < 0 := nI_pos (by omega)
    have n2 : nI j ≤ 2 := nI_le (b := 2) (by omega) (by decide)
    have hin : vp_in (nI j) 3 := vp_in_nI hj (by decide)
    have hc : (nI j).toNatClampNeg = j := nI_clamp (by omega)
    refine ib_xbv3 hj (br_t rfl ?_)
    refine ib_xon hm ?_
    refine ib_xff w o (fun p de sl sh fr tt fp tp mn ef => ?_) (fun no de sl sh fr tt => ?_)
    · refine br_f ib_10 (And.intro hin ?_)
      refine br_f n0 (br_t n2 ?_)
      refine ib_yon hm (ib_yfst hm (fun p' hp' kp mn' => ?_) (fun no => ?_))
      · have e1 := mn p' ((ib_KT hm r (ib_on_lt hm) p').mp kp)
        have e2 : ¬ p < p' := fun q => mn' p q ((ib_KT hm r (ib_on_lt hm) p).mpr tp)
        have ep : p' = p := by omega
        subst ep
        refine br_t (nI_pos' (by omega)) ?_
        refine ib_ynum hp' hj (fun x ex => ⟨?_, ib_in hm o w r⟩)
        apply Int32.toInt_inj.mp
        rw [ex, hc]
        exact (ef j hj).symm
      · exact absurd ((ib_KT hm r (ib_on_lt hm) p).mpr tp) (no p (ib_In_lt o tp.1))
    · refine br_t rfl ?_
      refine br_f n0 (br_t n2 ?_)
      refine ib_yon hm (ib_yfst hm (fun p' hp' kp mn' => ?_) (fun _ => ?_))
      · exact absurd ((ib_KT hm r (ib_on_lt hm) p').mp kp) (no p')
      · exact br_f (by decide) ⟨rfl, ib_in hm o w r⟩
/-! greatest, follows -/
theorem ib_xgr_l {post : Int32 → SX → Prop} {m : Nat} {f ac de : Int32} {lo uh fa bo oo sl sh fr tt fp : Nat → Int32} (hm : m ≤ 6) (w : ib_WF fa bo) (o : ib_Ok (ib_z lo) (ib_z uh)) (G : ib_GF f) (h : ∀ (x ac de : Int32) (go sl sh fr tt : Nat → Int32), ib_Mx (ib_Tg lo uh fa bo (ib_on oo m)) (ib_yv f) x.toInt → post x (nI m, ac, de, lo, uh, fa, bo, oo, go, sl, sh, fr, tt, fp)) : ∀ (n k : Nat) (go : Nat → Int32), k ≤ 3 → 3 < n + k → (∀ j, j < k → go j = ib_fo f j) → wX_greatest_12 post f (nI m) ac de n (nI k) lo uh fa bo oo go sl sh fr tt fp := by
  intro n
  induction n with
  | zero => intro k go h1 h2; omega
  | succ n ih =>
    intro k go hk hn a
    refine pk_le 3 k (fun z => ?_) (fun z => ?_)
    · have g : ∀ j, j < 3 → go j = ib_fo f j := fun j hj => a j (by omega)
      have eG : (fun q => ib_lv go 0 (ib_c q)) = ib_yv f := by
        funext q
        show (go 0).toInt * ib_c q 0 + (go 1).toInt * ib_c q 1 + (go 2).toInt * ib_c q 2 = _
        rw [g 0 (by omega), g 1 (by omega), g 2 (by omega)]
        rfl
      refine ib_xon hm ?_
      refine ib_xfg w (fun j hj => ?_) o (fun x de sl sh fr tt M => ?_)
      · unfold ib_z
        rw [g j hj]
        exact ⟨(ib_fo_r f j).1, G j hj⟩
      · rw [eG] at M
        exact h x _ de go sl sh fr tt M
    · have hin : vp_in (nI k) 3 := vp_in_nI (by omega) (by decide)
      have hc : (nI k).toNatClampNeg = k := nI_clamp (by omega)
      refine And.intro hin (nm_r (e' := upd go k (ib_fo f k)) (by rw [hc]; rfl) (nm_r (nI_1 k) (ih (k + 1) _ (by omega) (by omega) (fun j hj => ?_))))
      by_cases ej : j = k
      · subst ej; exact pk_us
      · rw [pk_un ej]; exact a j (by omega)
theorem ib_xgr {post : Int32 → SX → Prop} {m : Nat} {f ac de : Int32} {lo uh fa bo oo go sl sh fr tt fp : Nat → Int32} (hm : m ≤ 6) (w : ib_WF fa bo) (o : ib_Ok (ib_z lo) (ib_z uh)) (h2 : ¬ ib_GF f → post (-2) (nI m, ac, de, lo, uh, fa, bo, oo, go, sl, sh, fr, tt, fp)) (h : ib_GF f → ∀ (x ac de : Int32) (go sl sh fr tt : Nat → Int32), ib_Mx (ib_Tg lo uh fa bo (ib_on oo m)) (ib_yv f) x.toInt → post x (nI m, ac, de, lo, uh, fa, bo, oo, go, sl, sh, fr, tt, fp)) : wpX_greatest post (nI m, ac, de, lo, uh, fa, bo, oo, go, sl, sh, fr, tt, fp) f := by
  unfold wpX_greatest
  refine ib_xbadF (fun G => br_t rfl ⟨4, ?_⟩) (fun G => br_f ib_10 (h2 G))
  exact ib_xgr_l hm w o G (h G) 4 0 go (by omega) (by omega) (fun j hj => absurd hj (by omega))
theorem i_vc_greatest {k : Nat} {u : SX} {v : SY} (I : i_Rel k u v) (hk : k + 4 ≤ 2048) (v1 : Int32) : wpX_greatest (fun r u' => wpY_greatest (fun r' => r' = r ∧ i_Rel (k + 4) u' v) v v1) u v1 := by
  refine ib_el (P := fun u v => wpX_greatest (fun r u' => wpY_greatest (fun r' => r' = r ∧ i_Rel (k + 4) u' v) v v1) u v1) ?_ I
  intro m ac de lo uh fa bo oo go sl sh fr tt fp yfa ybo hm o w r
  refine ib_xgr hm w o (fun G => ?_) (fun G x ac de go sl sh fr tt M => ?_)
  · exact ib_ygr hm (fun _ => ⟨rfl, ib_in hm o w r⟩) (fun G' => absurd G' G)
  · refine ib_ygr hm (fun G' => absurd G G') (fun _ x' M' => ⟨?_, ib_in hm o w r⟩)
    exact Int32.toInt_inj.mp (ib_Mx_u (ib_Mx_c (ib_KT4 hm o r (ib_on_lt hm)) M') M)
theorem i_vc_follows {k : Nat} {u : SX} {v : SY} (I : i_Rel k u v) (hk : k + 4 ≤ 2048) (v1 : Int32) (v2 : Int32) : wpX_follows (fun r u' => wpY_follows (fun r' => r' = r ∧ i_Rel (k + 4) u' v) v v1 v2) u v1 v2 := by
  refine ib_el (P := fun u v => wpX_follows (fun r u' => wpY_follows (fun r' => r' = r ∧ i_Rel (k + 4) u' v) v v1 v2) u v1 v2) ?_ I
  intro m ac de lo uh fa bo oo go sl sh fr tt fp yfa ybo hm o w r
  unfold wpX_follows wpY_follows
  refine ib_xbadF (fun G => br_t rfl ?_) (fun G => br_f ib_10 (ib_yon hm (ib_yareF (fun G' => absurd G' G) (fun _ => br_t rfl ⟨rfl, ib_in hm o w r⟩))))
  refine ib_xgr hm w o (fun G' => absurd G G') (fun _ x ac de go sl sh fr tt M => ?_)
  rcases M with ⟨ex, no⟩ | ⟨⟨q, tq, eq⟩, mx⟩
  · have ex' : x = -10000 := Int32.toInt_inj.mp (by rw [ex, ib_tn])
    refine br_t ex' ?_
    refine ib_yon hm (ib_yareF (fun _ => br_f ib_10 ?_) (fun G' => absurd G G'))
    refine ib_yfst hm (fun p' hp' kp mn' => absurd ((ib_KT hm r (ib_on_lt hm) p').mp kp) (no p')) (fun _ => ?_)
    exact br_t (by decide) ⟨rfl, ib_in hm o w r⟩
  · have yb := ib_yv_b v1 (ib_In_lt o tq.1)
    have nx : ¬ x = -10000 := by
      intro e
      rw [e, ib_tn] at eq
      omega
    have M : ib_Mx (ib_Tg lo uh fa bo (ib_on oo m)) (ib_yv v1) x.toInt := Or.inr ⟨⟨q, tq, eq⟩, mx⟩
    refine br_f nx ?_
    by_cases c : v2 < x
    · refine br_t c ?_
      refine ib_yon hm (ib_yareF (fun _ => br_f ib_10 ?_) (fun G' => absurd G G'))
      refine ib_yfst hm (fun p' hp' kp mn' => ?_) (fun no => absurd ((ib_KT hm r (ib_on_lt hm) q).mpr tq) (no q (ib_In_lt o tq.1)))
      refine br_f (nI_pos (by omega)) ?_
      refine ib_ygr hm (fun G' => absurd G G') (fun _ x' M' => ?_)
      have e : x' = x := Int32.toInt_inj.mp (ib_Mx_u (ib_Mx_c (ib_KT4 hm o r (ib_on_lt hm)) M') M)
      subst e
      exact br_t c ⟨rfl, ib_in hm o w r⟩
    · refine br_f c ?_
      refine ib_yon hm (ib_yareF (fun _ => br_f ib_10 ?_) (fun G' => absurd G G'))
      refine ib_yfst hm (fun p' hp' kp mn' => ?_) (fun no => absurd ((ib_KT hm r (ib_on_lt hm) q).mpr tq) (no q (ib_In_lt o tq.1)))
      refine br_f (nI_pos (by omega)) ?_
      refine ib_ygr hm (fun G' => absurd G G') (fun _ x' M' => ?_)
      have e : x' = x := Int32.toInt_inj.mp (ib_Mx_u (ib_Mx_c (ib_KT4 hm o r (ib_on_lt hm)) M') M)
      subst e
      exact br_f c ⟨rfl, ib_in hm o w r⟩
/-! idle -/
theorem i_vc_idle {k : Nat} {u : SX} {v : SY} (I : i_Rel k u v) (hk : k + 4 ≤ 2048) (v1 : Int32) : wpX_idle (fun r u' => wpY_idle (fun r' => r' = r ∧ i_Rel (k + 4) u' v) v v1) u v1 := by
  refine ib_el (P := fun u v => wpX_idle (fun r u' => wpY_idle (fun r' => r' = r ∧ i_Rel (k + 4) u' v) v v1) u v1) ?_ I
  intro m ac de lo uh fa bo oo go sl sh fr tt fp yfa ybo hm o w r
  unfold wpX_idle wpY_idle
  rcases ib_lim v1 hm with h | ⟨j, hj, e⟩
  · exact ib_xnl1 h (br_f ib_10 (ib_ynl1 h (br_t rfl ⟨rfl, ib_in hm o w r⟩)))
  · subst e
    have h6 : vp_in (nI j) 6 := vp_in_nI (by omega) (by decide)
    refine ib_xnl2 hm hj (br_t rfl (And.intro h6 ?_))
    by_cases a : oo (nI j).toNatClampNeg = 0
    · exact br_t a (ib_ynl2 hm hj (br_f ib_10 (And.intro h6 (br_t a ⟨rfl, ib_in hm o w r⟩))))
    · refine br_f a ?_
      refine ib_xon hm ?_
      have hs : ∀ i, i < 8 → bt (ib_on oo m &&& (((1 : Int32) <<< (nI j &&& 31)) ^^^ (-1))) i = true → i < m := by
        intro i hi hb
        rw [b_and, Bool.and_eq_true] at hb
        exact ib_on_lt hm i hi hb.1
      have e1 := ib_cntK (lo := lo) (uh := uh) hm r (ib_on_lt (oo := oo) hm)
      have e2 := ib_cntK (lo := lo) (uh := uh) hm r hs
      refine ib_xcp w o (fun de sl sh fr tt => ?_)
      refine ib_xcp w o (fun de sl sh fr tt => ?_)
      rw [← e1, ← e2]
      by_cases c : nI (ib_cn (ib_K lo uh yfa ybo m (ib_on oo m)) 4913) = nI (ib_cn (ib_K lo uh yfa ybo m (ib_on oo m &&& (((1 : Int32) <<< (nI j &&& 31)) ^^^ (-1)))) 4913)
      · exact br_t c (ib_ynl2 hm hj (br_f ib_10 (And.intro h6 (br_f a (ib_yon hm (ib_ycnt hm (ib_ycnt hm (br_t c ⟨rfl, ib_in hm o w r⟩))))))))
      · exact br_f c (ib_ynl2 hm hj (br_f ib_10 (And.intro h6 (br_f a (ib_yon hm (ib_ycnt hm (ib_ycnt hm (br_f c ⟨rfl, ib_in hm o w r⟩))))))))
end
section
/-! numbers -/
theorem ib_x8 {x : Int32} (h : -8 ≤ x.toInt ∧ x.toInt ≤ 8) : x + 8 = nI (x.toInt + 8).toNat := by
  apply Int32.toInt_inj.mp
  have q := ib_add (x := x) (y := 8) (by omega) (by rw [ib_t8]; omega)
  rw [ib_t8] at q
  rw [q, nI_toInt (by omega)]
  omega
theorem ib_upd_id {a b : Nat → Int32} {v : Nat} (h : ∀ j, j ≠ v → a j = b j) : upd a v (b v) = b := by
  funext j
  by_cases e : j = v
  · subst e; exact pk_us
  · rw [pk_un e]; exact h j e
theorem ib_xnu_l {post : Int32 → SX → Prop} {v : Nat} {li s : Int32} {lo0 uh0 fa bo oo go : Nat → Int32} (w : ib_WF fa bo) (o : ib_Ok (ib_z lo0) (ib_z uh0)) (hv : v < 3) (h : ∀ (x ac de : Int32) (sl sh fr tt fp : Nat → Int32), ib_Nb (ib_Tg lo0 uh0 fa bo s) v x → post x (li, ac, de, lo0, uh0, fa, bo, oo, go, sl, sh, fr, tt, fp)) : ∀ (n : Nat) (mask x ac de : Int32) (lo uh sl sh fr tt fp : Nat → Int32), ib_z lo0 v ≤ x.toInt → x.toInt ≤ ib_z uh0 v + 1 → ib_z uh0 v + 1 - x.toInt < (n : Int) → (∀ j, j ≠ v → lo j = lo0 j ∧ uh j = uh0 j) → ib_Nb (fun q => ib_Tg lo0 uh0 fa bo s q ∧ ib_c q v < x.toInt) v mask → wX_numbers_35 post (nI v) s (lo0 v) (uh0 v) n mask x li ac de lo uh fa bo oo go sl sh fr tt fp := by
  intro n
  induction n with
  | zero => intro mask x ac de lo uh sl sh fr tt fp h1 h2 h3; omega
  | succ n ih =>
    intro mask x ac de lo uh sl sh fr tt fp h1 h2 h3 hj M
    have hin : vp_in (nI v) 3 := vp_in_nI hv (by decide)
    have hc : (nI v).toNatClampNeg = v := nI_clamp (by omega)
    have ov := o v hv
    refine ib_blt (fun z => ?_) (fun z => ?_)
    · refine And.intro hin (nm_r (e' := lo0) (by rw [hc]; exact ib_upd_id (fun j e => (hj j e).1)) (And.intro hin (nm_r (e' := uh0) (by rw [hc]; exact ib_upd_id (fun j e => (hj j e).2)) (h mask ac de sl sh fr tt fp (fun j hj32 => ?_)))))
      rw [M j hj32]
      have z' : ib_z uh0 v < x.toInt := z
      constructor
      · intro ⟨q, q1, q2⟩; exact ⟨q, q1.1, q2⟩
      · intro ⟨q, q1, q2⟩
        have b := q1.1 v hv
        exact ⟨q, ⟨q1, by omega⟩, q2⟩
    · have z' : x.toInt ≤ ib_z uh0 v := z
      have e1 : (x + 1).toInt = x.toInt + 1 := by
        have q := ib_add (x := x) (y := 1) (by omega) (by rw [ib_t1]; omega)
        rw [ib_t1] at q
        exact q
      refine And.intro hin (nm_r (e' := upd lo v x) (by rw [hc]) (And.intro hin (nm_r (e' := upd uh v x) (by rw [hc]) ?_)))
      have zl : ∀ j, j < 3 → j ≠ v → ib_z (upd lo v x) j = ib_z lo0 j ∧ ib_z (upd uh v x) j = ib_z uh0 j := by
        intro j _ e
        rw [ib_zun _ _ e, ib_zun _ _ e]
        unfold ib_z
        rw [(hj j e).1, (hj j e).2]
        exact ⟨rfl, rfl⟩
      have o1 : ib_Ok (ib_z (upd lo v x)) (ib_z (upd uh v x)) := by
        intro j hj3
        by_cases e : j = v
        · subst e; rw [ib_zus, ib_zus]; omega
        · rw [(zl j hj3 e).1, (zl j hj3 e).2]; exact o j hj3
      have tg : ∀ q, ib_Tg (upd lo v x) (upd uh v x) fa bo s q ↔ (ib_Tg lo0 uh0 fa bo s q ∧ ib_c q v = x.toInt) := by
        intro q
        constructor
        · intro ⟨a, b⟩
          have av := a v hv
          rw [ib_zus, ib_zus] at av
          refine ⟨⟨fun j hj3 => ?_, b⟩, by omega⟩
          by_cases e : j = v
          · subst e; omega
          · have aj := a j hj3
            rw [(zl j hj3 e).1, (zl j hj3 e).2] at aj
            exact aj
        · intro ⟨⟨a, b⟩, c⟩
          refine ⟨fun j hj3 => ?_, b⟩
          by_cases e : j = v
          · subst e; rw [ib_zus, ib_zus]; omega
          · rw [(zl j hj3 e).1, (zl j hj3 e).2]; exact a j hj3
      have hj' : ∀ j, j ≠ v → upd lo v x j = lo0 j ∧ upd uh v x j = uh0 j := by
        intro j e
        rw [pk_un e, pk_un e]
        exact hj j e
      refine ib_xff w o1 (fun p de sl sh fr tt fp tp _ _ => ?_) (fun no de sl sh fr tt => ?_)
      · refine br_f ib_10 (nm_e (nm_e ?_))
        refine ih _ (x + 1) s de _ _ sl sh fr tt fp (by omega) (by omega) (by omega) hj' (fun j hj32 => ?_)
        rw [ib_x8 (by omega), b_or, ib_sh1 (by omega) hj32, Bool.or_eq_true, M j hj32, decide_eq_true_iff, e1]
        constructor
        · intro a
          rcases a with ⟨q, q1, q2⟩ | a
          · exact ⟨q, ⟨q1.1, by omega⟩, q2⟩
          · have t := (tg p).mp tp
            exact ⟨p, ⟨t.1, by omega⟩, by omega⟩
        · intro ⟨q, q1, q2⟩
          by_cases e : ib_c q v = x.toInt
          · exact Or.inr (by omega)
          · exact Or.inl ⟨q, ⟨q1.1, by omega⟩, q2⟩
      · refine br_t rfl (nm_e ?_)
        refine ih mask (x + 1) s de _ _ sl sh fr tt fp (by omega) (by omega) (by omega) hj' (fun j hj32 => ?_)
        rw [M j hj32, e1]
        constructor
        · intro ⟨q, q1, q2⟩; exact ⟨q, ⟨q1.1, by omega⟩, q2⟩
        · intro ⟨q, q1, q2⟩
          by_cases e : ib_c q v = x.toInt
          · exact absurd ((tg q).mpr ⟨q1.1, e⟩) (no q)
          · exact ⟨q, ⟨q1.1, by omega⟩, q2⟩
theorem ib_Nb_u {P Q : Nat → Prop} {v : Nat} {x y : Int32} (h : ∀ q, P q ↔ Q q) (a : ib_Nb P v x) (b : ib_Nb Q v y) : x = y := by
  have e : P = Q := funext (fun q => propext (h q))
  subst e
  apply b_ext
  intro j hj
  have aj := a j hj
  have bj := b j hj
  cases hx : bt x j
  · cases hy : bt y j
    · rfl
    · exact absurd (aj.mpr (bj.mp hy)) (by rw [hx]; decide)
  · exact (bj.mpr (aj.mp hx)).symm
theorem i_vc_numbers {k : Nat} {u : SX} {v : SY} (I : i_Rel k u v) (hk : k + 4 ≤ 2048) (v1 : Int32) : wpX_numbers (fun r u' => wpY_numbers (fun r' => r' = r ∧ i_Rel (k + 4) u' v) v v1) u v1 := by
  refine ib_el (P := fun u v => wpX_numbers (fun r u' => wpY_numbers (fun r' => r' = r ∧ i_Rel (k + 4) u' v) v v1) u v1) ?_ I
  intro m ac de lo uh fa bo oo go sl sh fr tt fp yfa ybo hm o w r
  unfold wpX_numbers wpY_numbers
  rcases ib_var v1 with h | h | ⟨j, hj, e⟩
  · exact ib_xbv1 h (br_f ib_10 (br_t h ⟨rfl, ib_in hm o w r⟩))
  · exact ib_xbv2 h (br_f ib_10 (br_f h.1 (br_f h.2.2 ⟨rfl, ib_in hm o w r⟩)))
  · subst e
    have n0 : ¬ nI j < 0 := nI_pos (by omega)
    have n2 : nI j ≤ 2 := nI_le (b := 2) (by omega) (by decide)
    have hin : vp_in (nI j) 3 := vp_in_nI hj (by decide)
    have hc : (nI j).toNatClampNeg = j := nI_clamp (by omega)
    have oj := o j hj
    refine ib_xbv3 hj (br_t rfl ?_)
    refine ib_xon hm ?_
    refine And.intro hin (nm_r (e' := lo j) (by rw [hc]) (And.intro hin (nm_r (e' := uh j) (by rw [hc]) ⟨18, ?_⟩)))
    refine ib_xnu_l (lo0 := lo) (uh0 := uh) w o hj (fun x ac de sl sh fr tt fp M => ?_) 18 0 (lo j) ac de lo uh sl sh fr tt fp (Int.le_refl _) ?_ ?_ (fun _ _ => ⟨rfl, rfl⟩) (fun i hi => ?_)
    · refine br_f n0 (br_t n2 ?_)
      refine ib_yon hm ⟨4914, ?_⟩
      refine ib_ynu_l hm hj (fun x' M' => ⟨?_, ib_in hm o w r⟩) 4914 0 0 (by omega) (by omega) (fun i hi => ?_)
      · rw [b_0]
        exact ⟨fun a => absurd a (by decide), fun ⟨q, q1, _⟩ => absurd q1.1 (by omega)⟩
      · exact ib_Nb_u (ib_KT4 hm o r (ib_on_lt hm)) M' M
    · show ib_z lo j ≤ ib_z uh j + 1
      omega
    · show ib_z uh j + 1 - ib_z lo j < ((18 : Nat) : Int)
      omega
    · rw [b_0]
      refine ⟨fun a => absurd a (by decide), fun ⟨q, q1, _⟩ => ?_⟩
      have a := q1.1.1 j hj
      have b : ib_c q j < ib_z lo j := q1.2
      omega
/-! tight -/
theorem ib_b192 : ∀ j, j < 32 → bt 192 j = decide (j = 6 ∨ j = 7) := by decide +kernel
theorem ib_tiS {m i : Nat} {fa bo fa' bo' : Nat → Int32} {s : Int32} (hm : m ≤ 6) (hi : i < m) (w : ib_WF fa bo) (hs : ∀ j, j < 8 → bt s j = true → j < m) (f1 : ∀ j, j < 18 → fa' j = fa j) (f2 : ∀ k, k < 3 → fa' (18 + k) = fa (i * 3 + k) ∧ fa' (21 + k) = -(fa (i * 3 + k))) (b1 : ∀ j, j < 6 → bo' j = bo j) (b2 : bo' 6 = bo i ∧ bo' 7 = -(bo i)) (p : Nat) : ib_S fa' bo' (s ||| 192) p ↔ (ib_S fa bo s p ∧ ib_lv fa i (ib_c p) = ib_z bo i) := by
  have e : ∀ j, j < 6 → ib_lv fa' j (ib_c p) = ib_lv fa j (ib_c p) ∧ ib_z bo' j = ib_z bo j := by
    intro j hj
    unfold ib_lv ib_z
    rw [f1 (j * 3 + 0) (by omega), f1 (j * 3 + 1) (by omega), f1 (j * 3 + 2) (by omega), b1 j hj]
    exact ⟨rfl, rfl⟩
  have e6 : ib_lv fa' 6 (ib_c p) = ib_lv fa i (ib_c p) ∧ ib_z bo' 6 = ib_z bo i := by
    unfold ib_lv ib_z
    show (fa' (18 + 0)).toInt * _ + (fa' (18 + 1)).toInt * _ + (fa' (18 + 2)).toInt * _ = _ ∧ _
    rw [(f2 0 (by omega)).1, (f2 1 (by omega)).1, (f2 2 (by omega)).1, b2.1]
    exact ⟨rfl, rfl⟩
  have ng : ∀ k, k < 3 → (-(fa (i * 3 + k))).toInt = -(fa (i * 3 + k)).toInt := by
    intro k hk
    have q : -5 ≤ (fa (i * 3 + k)).toInt ∧ (fa (i * 3 + k)).toInt ≤ 5 := w.1 (i * 3 + k) (by omega)
    exact ib_neg (by omega)
  have e7 : ib_lv fa' 7 (ib_c p) = -ib_lv fa i (ib_c p) ∧ ib_z bo' 7 = -ib_z bo i := by
    have qb : -100 ≤ (bo i).toInt ∧ (bo i).toInt ≤ 100 := w.2 i (by omega)
    unfold ib_lv ib_z
    show (fa' (21 + 0)).toInt * _ + (fa' (21 + 1)).toInt * _ + (fa' (21 + 2)).toInt * _ = _ ∧ _
    rw [(f2 0 (by omega)).2, (f2 1 (by omega)).2, (f2 2 (by omega)).2, b2.2, ng 0 (by omega), ng 1 (by omega), ng 2 (by omega), ib_neg (by omega), Int.neg_mul, Int.neg_mul, Int.neg_mul]
    exact ⟨by omega, rfl⟩
  have bb : ∀ j, j < 8 → (bt (s ||| 192) j = true ↔ bt s j = true ∨ j = 6 ∨ j = 7) := by
    intro j hj
    rw [b_or, ib_b192 j (by omega), Bool.or_eq_true, decide_eq_true_iff]
  constructor
  · intro H
    have h6 := H 6 (by omega) ((bb 6 (by omega)).mpr (Or.inr (Or.inl rfl)))
    have h7 := H 7 (by omega) ((bb 7 (by omega)).mpr (Or.inr (Or.inr rfl)))
    rw [e6.1, e6.2] at h6
    rw [e7.1, e7.2] at h7
    refine ⟨fun j hj hb => ?_, by omega⟩
    have q := H j hj ((bb j hj).mpr (Or.inl hb))
    have jm := hs j hj hb
    rw [(e j (by omega)).1, (e j (by omega)).2] at q
    exact q
  · intro ⟨H, E⟩ j hj hb
    rcases (bb j hj).mp hb with hb | hb | hb
    · have jm := hs j hj hb
      rw [(e j (by omega)).1, (e j (by omega)).2]
      exact H j hj hb
    · subst hb; rw [e6.1, e6.2]; omega
    · subst hb; rw [e7.1, e7.2]; omega
theorem ib_xti_l {post : Int32 → SX → Prop} {m i : Nat} {ac de : Int32} {lo uh fa0 bo oo go sl sh fr tt fp : Nat → Int32} (hm : m ≤ 6) (hi : i < m) (w : ib_WF fa0 bo) (o : ib_Ok (ib_z lo) (ib_z uh)) (h : ∀ (fa bo' : Nat → Int32) (ac de : Int32) (sl sh fr tt : Nat → Int32), ib_WF fa bo' → (∀ j, j < 18 → fa j = fa0 j) → (∀ j, j < 6 → bo' j = bo j) → post (nI (ib_cn (fun q => ib_Tg lo uh fa0 bo (ib_on oo m) q ∧ ib_lv fa0 i (ib_c q) = ib_z bo i) 4913)) (nI m, ac, de, lo, uh, fa, bo', oo, go, sl, sh, fr, tt, fp)) : ∀ (n k : Nat) (fa : Nat → Int32), k ≤ 3 → 3 < n + k → (∀ j, j < 18 → fa j = fa0 j) → (∀ j, j < k → fa (18 + j) = fa0 (i * 3 + j) ∧ fa (21 + j) = -(fa0 (i * 3 + j))) → wX_tight_13 post (nI i) (nI m) ac de n (nI k) lo uh fa bo oo go sl sh fr tt fp := by
  intro n
  induction n with
  | zero => intro k fa h1 h2; omega
  | succ n ih =>
    intro k fa hk hn f1 f2
    have hc : (nI i).toNatClampNeg = i := nI_clamp (by omega)
    refine pk_le 3 k (fun z => ?_) (fun z => ?_)
    · have h8 : vp_in (nI i) 8 := vp_in_nI (by omega) (by decide)
      have hb6 : upd bo 6 (bo i) i = bo i := pk_un (by omega)
      refine And.intro h8 (nm_r (e' := upd bo 6 (bo i)) (by rw [hc]) (And.intro h8 (nm_r (e' := upd (upd bo 6 (bo i)) 7 (-(bo i))) (by rw [hc, hb6]) ?_)))
      refine ib_xon hm ?_
      have f2' : ∀ j, j < 3 → fa (18 + j) = fa0 (i * 3 + j) ∧ fa (21 + j) = -(fa0 (i * 3 + j)) := fun j hj => f2 j (by omega)
      have bi : -100 ≤ (bo i).toInt ∧ (bo i).toInt ≤ 100 := w.2 i (by omega)
      have b1 : ∀ j, j < 6 → upd (upd bo 6 (bo i)) 7 (-(bo i)) j = bo j := by
        intro j hj
        rw [pk_un (by omega), pk_un (by omega)]
      have b2 : upd (upd bo 6 (bo i)) 7 (-(bo i)) 6 = bo i ∧ upd (upd bo 6 (bo i)) 7 (-(bo i)) 7 = -(bo i) := by
        refine ⟨?_, pk_us⟩
        rw [pk_un (by omega)]
        exact pk_us
      have w' : ib_WF fa (upd (upd bo 6 (bo i)) 7 (-(bo i))) := by
        refine ⟨fun j hj => ?_, fun j hj => ?_⟩
        · by_cases a : j < 18
          · have q := w.1 j hj
            unfold ib_z at q ⊢
            rw [f1 j a]; exact q
          · by_cases b : j < 21
            · have q := (f2' (j - 18) (by omega)).1
              have e : 18 + (j - 18) = j := by omega
              have q2 := w.1 (i * 3 + (j - 18)) (by omega)
              rw [e] at q
              unfold ib_z at q2 ⊢
              rw [q]; exact q2
            · have q := (f2' (j - 21) (by omega)).2
              have e : 21 + (j - 21) = j := by omega
              have q2 := w.1 (i * 3 + (j - 21)) (by omega)
              rw [e] at q
              unfold ib_z at q2 ⊢
              rw [q, ib_neg (by omega)]; omega
        · by_cases a : j < 6
          · have q := w.2 j hj
            unfold ib_z at q ⊢
            rw [b1 j a]; exact q
          · by_cases b : j = 6
            · subst b; unfold ib_z; rw [b2.1]; exact bi
            · have e : j = 7 := by omega
              subst e; unfold ib_z; rw [b2.2, ib_neg (by omega)]; omega
      refine ib_xcp w' o (fun de sl sh fr tt => ?_)
      have K := h fa (upd (upd bo 6 (bo i)) 7 (-(bo i))) (ib_on oo m ||| 192) de sl sh fr tt w' f1 b1
      have ec : ib_cnt (ib_S fa (upd (upd bo 6 (bo i)) 7 (-(bo i))) (ib_on oo m ||| 192)) (ib_z lo) (ib_z uh) = ib_cn (fun q => ib_Tg lo uh fa0 bo (ib_on oo m) q ∧ ib_lv fa0 i (ib_c q) = ib_z bo i) 4913 := by
        apply ib_cn_c
        intro p _
        rw [ib_tiS hm hi w (ib_on_lt hm) f1 f2' b1 b2 p]
        exact ⟨fun a => ⟨⟨a.1, a.2.1⟩, a.2.2⟩, fun a => ⟨a.1.1, a.1.2, a.2⟩⟩
      rw [ec]
      exact K
    · have e := ib_ix i k
      have hin : vp_in (nI i * 3 + nI k) 24 := by rw [e]; exact vp_in_nI (by omega) (by decide)
      have hci : (nI i * 3 + nI k).toNatClampNeg = i * 3 + k := by rw [e, nI_clamp (by omega)]
      have e18 : 18 + nI k = nI (18 + k) := nI_add 18 k
      have e21 : 21 + nI k = nI (21 + k) := nI_add 21 k
      have h18 : vp_in (18 + nI k) 24 := by rw [e18]; exact vp_in_nI (by omega) (by decide)
      have h21 : vp_in (21 + nI k) 24 := by rw [e21]; exact vp_in_nI (by omega) (by decide)
      have c18 : (18 + nI k).toNatClampNeg = 18 + k := by rw [e18, nI_clamp (by omega)]
      have c21 : (21 + nI k).toNatClampNeg = 21 + k := by rw [e21, nI_clamp (by omega)]
      have fk : fa (i * 3 + k) = fa0 (i * 3 + k) := f1 _ (by omega)
      have fu : upd fa (18 + k) (fa0 (i * 3 + k)) (i * 3 + k) = fa0 (i * 3 + k) := by rw [pk_un (by omega)]; exact fk
      refine And.intro hin (And.intro h18 (nm_r (e' := upd fa (18 + k) (fa0 (i * 3 + k))) (by rw [hci, c18, fk]) (And.intro hin (And.intro h21 (nm_r (e' := upd (upd fa (18 + k) (fa0 (i * 3 + k))) (21 + k) (-(fa0 (i * 3 + k)))) (by rw [hci, c21, fu]) (nm_r (nI_1 k) ?_))))))
      refine ih (k + 1) _ (by omega) (by omega) (fun j hj => ?_) (fun j hj => ?_)
      · rw [pk_un (by omega), pk_un (by omega)]; exact f1 j hj
      · by_cases ej : j = k
        · subst ej
          refine ⟨?_, pk_us⟩
          rw [pk_un (by omega)]
          exact pk_us
        · have q := f2 j (by omega)
          rw [pk_un (by omega), pk_un (by omega), pk_un (by omega), pk_un (by omega)]
          exact q
theorem i_vc_tight {k : Nat} {u : SX} {v : SY} (I : i_Rel k u v) (hk : k + 4 ≤ 2048) (v1 : Int32) : wpX_tight (fun r u' => wpY_tight (fun r' => r' = r ∧ i_Rel (k + 4) u' v) v v1) u v1 := by
  refine ib_el (P := fun u v => wpX_tight (fun r u' => wpY_tight (fun r' => r' = r ∧ i_Rel (k + 4) u' v) v v1) u v1) ?_ I
  intro m ac de lo uh fa bo oo go sl sh fr tt fp yfa ybo hm o w r
  unfold wpX_tight wpY_tight
  rcases ib_lim v1 hm with h | ⟨i, hi, e⟩
  · exact ib_xnl1 h (br_f ib_10 (ib_ynl1 h (br_t rfl ⟨rfl, ib_in hm o w r⟩)))
  · subst e
    refine ib_xnl2 hm hi (br_t rfl ⟨4, ?_⟩)
    refine ib_xti_l (fa0 := fa) hm hi w o (fun fa' bo' ac de sl sh fr tt w' f1 b1 => ?_) 4 0 fa (by omega) (by omega) (fun _ _ => rfl) (fun j hj => absurd hj (by omega))
    refine ib_ynl2 hm hi (br_f ib_10 ?_)
    refine ib_yon hm ⟨4914, ?_⟩
    refine ib_yti_l hm hi ⟨?_, ib_in hm o w' (fun j hj => ?_)⟩ 4914 0 (by omega) (by omega)
    · refine congrArg nI (ib_cn_c 4913 (fun p _ => ?_))
      have q := (r i hi).1
      have e1 : ib_lv fa i (ib_c p) = ib_yv (yfa i) p := by
        unfold ib_lv ib_yv ib_z
        rw [q 0 (by omega), q 1 (by omega), q 2 (by omega)]
      have e2 : ib_z ybo i = ib_z bo i := by unfold ib_z; rw [(r i hi).2]
      rw [ib_KT hm r (ib_on_lt hm) p, e1, e2]
    · have q := r j hj
      refine ⟨fun c hc => ?_, ?_⟩
      · rw [f1 _ (by omega)]; exact q.1 c hc
      · rw [b1 j (by omega)]; exact q.2
end
section
/-! core: the least number of limits that leave no point -/
theorem ib_b63 : ∀ j, j < 32 → bt 63 j = decide (j < 6) := by decide +kernel
theorem ib_on_64 {oo : Nat → Int32} {m : Nat} (hm : m ≤ 6) : ∃ t, t < 64 ∧ ib_on oo m = nI t := by
  have e : ib_on oo m &&& 63 = ib_on oo m := by
    apply b_ext
    intro j hj
    rw [b_and, ib_b63 j hj]
    by_cases h : j < 6
    · rw [decide_eq_true h, Bool.and_true]
    · rw [decide_eq_false h, Bool.and_false]
      cases hb : bt (ib_on oo m) j
      · rfl
      · have := (ib_on_bt oo m (by omega) j hj).mp hb
        omega
  obtain ⟨t, ht, et⟩ := pk_andE (ib_on oo m) (m := 63) 6 (by decide)
  exact ⟨t, ht, by rw [← e]; exact et⟩
theorem ib_sub_bt {s e : Int32} (c : (s &&& (e ^^^ (-1))) = 0) {j : Nat} (hj : j < 32) (hb : bt s j = true) : bt e j = true := by
  have q : bt (s &&& (e ^^^ (-1))) j = false := by rw [c]; exact b_0 j
  rw [b_and, b_xor, b_m1 j hj, hb] at q
  cases h : bt e j
  · rw [h] at q; exact absurd q (by decide)
  · rfl
theorem ib_sub_self (e : Int32) : (e &&& (e ^^^ (-1))) = 0 := by
  apply b_ext
  intro j hj
  rw [b_and, b_xor, b_m1 j hj, b_0]
  cases bt e j <;> rfl
/-- a set within e that leaves no point -/
def ib_Q (lo uh fa bo : Nat → Int32) (e : Int32) (t : Nat) : Prop := (nI t &&& (e ^^^ (-1))) = 0 ∧ ∀ q, ¬ ib_Tg lo uh fa bo (nI t) q
def ib_Mn (Q : Nat → Prop) (N b : Nat) : Prop := (∃ t, t < 64 ∧ Q t ∧ ib_bits (nI t) 6 = b) ∧ ∀ t, t < N → Q t → b ≤ ib_bits (nI t) 6
theorem ib_Mn_b {Q : Nat → Prop} {N b : Nat} (h : ib_Mn Q N b) : b ≤ 6 := by
  obtain ⟨⟨t, _, _, e⟩, _⟩ := h
  rw [← e]
  exact ib_bits_le _ 6
theorem ib_Mn_s {Q : Nat → Prop} {N b : Nat} (h : ib_Mn Q N b) (hn : Q N → b ≤ ib_bits (nI N) 6) : ib_Mn Q (N + 1) b := by
  refine ⟨h.1, fun t ht q => ?_⟩
  by_cases e : t = N
  · subst e; exact hn q
  · exact h.2 t (by omega) q
theorem ib_xco_l {post : Int32 → SX → Prop} {li e : Int32} {lo uh fa bo oo go : Nat → Int32} (w : ib_WF fa bo) (o : ib_Ok (ib_z lo) (ib_z uh)) (h : ∀ (b : Nat) (ac de : Int32) (sl sh fr tt fp : Nat → Int32), ib_Mn (ib_Q lo uh fa bo e) 64 b → post (nI b) (li, ac, de, lo, uh, fa, bo, oo, go, sl, sh, fr, tt, fp)) : ∀ (n t b : Nat) (ac de : Int32) (sl sh fr tt fp : Nat → Int32), t ≤ 64 → 64 < n + t → ib_Mn (ib_Q lo uh fa bo e) t b → wX_core_27 post e n (nI b) (nI t) li ac de lo uh fa bo oo go sl sh fr tt fp := by
  intro n
  induction n with
  | zero => intro t b ac de sl sh fr tt fp h1 h2; omega
  | succ n ih =>
    intro t b ac de sl sh fr tt fp ht hn M
    refine pk_le 64 t (fun z => ?_) (fun z => ?_)
    · have et : t = 64 := by omega
      rw [et] at M
      exact h b ac de sl sh fr tt fp M
    · have hb := ib_Mn_b M
      have hbt := ib_bits_le (nI t) 6
      refine ib_xbits ?_
      by_cases c : (nI t &&& (e ^^^ (-1))) = 0
      · refine br_t c ?_
        refine pk_le b (ib_bits (nI t) 6) (fun y => ?_) (fun y => ?_)
        · exact nm_r (nI_1 t) (ih (t + 1) b ac de sl sh fr tt fp (by omega) (by omega) (ib_Mn_s M (fun _ => y)))
        · refine ib_xff w o (fun p de sl sh fr tt fp tp _ _ => ?_) (fun no de sl sh fr tt => ?_)
          · exact br_f ib_10 (nm_r (nI_1 t) (ih (t + 1) b _ de sl sh fr tt fp (by omega) (by omega) (ib_Mn_s M (fun q => absurd tp (q.2 p)))))
          · refine br_t rfl (nm_r (nI_1 t) (ih (t + 1) (ib_bits (nI t) 6) _ de sl sh fr tt fp (by omega) (by omega) ⟨⟨t, by omega, ⟨c, no⟩, rfl⟩, fun t' ht' q => ?_⟩))
            by_cases et : t' = t
            · subst et; exact Nat.le_refl _
            · have := M.2 t' (by omega) q
              omega
      · exact br_f c (nm_r (nI_1 t) (ih (t + 1) b ac de sl sh fr tt fp (by omega) (by omega) (ib_Mn_s M (fun q => absurd q.1 c))))
/-- the reference's least so far -/
def ib_Yc (Q : Nat → Prop) (N : Nat) (x : Int32) : Prop := (x = -10000 ∧ ∀ t, t < N → ¬ Q t) ∨ ∃ b, x = nI b ∧ b ≤ 6 ∧ (∃ t, t < N ∧ Q t ∧ ib_bits (nI t) 6 = b) ∧ ∀ t, t < N → Q t → b ≤ ib_bits (nI t) 6
theorem ib_Yc_n {Q : Nat → Prop} {N : Nat} {x : Int32} (h : ib_Yc Q N x) (hn : ¬ Q N) : ib_Yc Q (N + 1) x := by
  have nn : ∀ t, t < N + 1 → Q t → t < N := by
    intro t ht q
    by_cases e : t = N
    · subst e; exact absurd q hn
    · omega
  rcases h with ⟨a, b⟩ | ⟨b, e, hb, ⟨t, t1, t2, t3⟩, c⟩
  · exact Or.inl ⟨a, fun t ht q => b t (nn t ht q) q⟩
  · exact Or.inr ⟨b, e, hb, ⟨t, by omega, t2, t3⟩, fun t' ht' q => c t' (nn t' ht' q) q⟩
section
variable {lo uh fa bo yfa ybo oo : Nat → Int32}
theorem ib_y43t {post : Int32 → Prop} {J : Int32 → Int32 → Prop} {m t : Nat} {e x : Int32} (hm : m ≤ 6) (o : ib_Ok (ib_z lo) (ib_z uh)) (r : ib_Rl m fa bo yfa ybo) (hs : ∀ j, j < 8 → bt (nI t) j = true → j < m) (h1 : (∀ q, ¬ ib_Tg lo uh fa bo (nI t) q) → J (nI (ib_bits (nI t) 6)) (nI (t + 1))) (h0 : ¬ (∀ q, ¬ ib_Tg lo uh fa bo (nI t) q) → J x (nI (t + 1))) : wY_core_38 post J e x (nI t) (nI m) lo uh yfa ybo oo := by
  refine br_f ib_10 ?_
  refine ib_yfst hm (fun p hp kp _ => ?_) (fun no => ?_)
  · exact br_t (nI_pos' (by omega)) (nm_r (nI_1 t) (h0 (fun H => H p ((ib_KT hm r hs p).mp kp))))
  · refine br_f (by decide) ?_
    exact ib_ysz (nm_r (nI_1 t) (h1 (fun q tq => no q (ib_In_lt o tq.1) ((ib_KT hm r hs q).mpr tq))))
theorem ib_y42 {post : Int32 → Prop} {J : Int32 → Int32 → Prop} {yl e x : Int32} {t : Nat} {ylo yhi yon : Nat → Int32} (h : J x (nI (t + 1))) : wY_core_42 post J e x (nI t) yl ylo yhi yfa ybo yon := br_t rfl (nm_r (nI_1 t) h)
theorem ib_yco_l {post : Int32 → Prop} {m : Nat} {e : Int32} (hm : m ≤ 6) (o : ib_Ok (ib_z lo) (ib_z uh)) (r : ib_Rl m fa bo yfa ybo) (he : ∀ j, j < 8 → bt e j = true → j < m) (h : ∀ x : Int32, ib_Yc (ib_Q lo uh fa bo e) 64 x → post x) : ∀ (n t : Nat) (x : Int32), t ≤ 64 → 64 < n + t → ib_Yc (ib_Q lo uh fa bo e) t x → wY_core_11 post e (nI m) lo uh yfa ybo oo n x (nI t) := by
  intro n
  induction n with
  | zero => intro t x h1 h2; omega
  | succ n ih =>
    intro t x ht hn M
    refine pk_le 64 t (fun z => ?_) (fun z => ?_)
    · have et : t = 64 := by omega
      rw [et] at M
      exact h x M
    · have hbt := ib_bits_le (nI t) 6
      by_cases c : (nI t &&& (e ^^^ (-1))) = 0
      · refine br_t c ?_
        have hs : ∀ j, j < 8 → bt (nI t) j = true → j < m := fun j hj hb => he j hj (ib_sub_bt c (by omega) hb)
        rcases M with ⟨ex, no⟩ | ⟨b, ex, hb, hex, mn⟩
        · refine br_t (by rw [ex]; decide) ?_
          refine ib_y43t hm o r hs (fun H => ?_) (fun H => ?_)
          · refine ih (t + 1) _ (by omega) (by omega) (Or.inr ⟨_, rfl, hbt, ⟨t, by omega, ⟨c, H⟩, rfl⟩, fun t' ht' q => ?_⟩)
            by_cases et : t' = t
            · subst et; exact Nat.le_refl _
            · exact absurd q (no t' (by omega))
          · exact ih (t + 1) x (by omega) (by omega) (ib_Yc_n (Or.inl ⟨ex, no⟩) (fun q => H q.2))
        · refine br_f (by rw [ex]; exact nI_pos (by omega)) ?_
          refine ib_ysz ?_
          rw [ex]
          refine pk_le b (ib_bits (nI t) 6) (fun y => ?_) (fun y => ?_)
          · refine ib_y42 (ih (t + 1) _ (by omega) (by omega) (Or.inr ⟨b, rfl, hb, ?_, fun t' ht' q => ?_⟩))
            · obtain ⟨t0, q1, q2⟩ := hex
              exact ⟨t0, by omega, q2⟩
            · by_cases et : t' = t
              · subst et; exact y
              · exact mn t' (by omega) q
          · refine ib_y43t hm o r hs (fun H => ?_) (fun H => ?_)
            · refine ih (t + 1) _ (by omega) (by omega) (Or.inr ⟨_, rfl, hbt, ⟨t, by omega, ⟨c, H⟩, rfl⟩, fun t' ht' q => ?_⟩)
              by_cases et : t' = t
              · subst et; exact Nat.le_refl _
              · have := mn t' (by omega) q
                omega
            · exact ih (t + 1) _ (by omega) (by omega) (ib_Yc_n (Or.inr ⟨b, rfl, hb, hex, mn⟩) (fun q => H q.2))
      · refine br_f c ?_
        exact ib_y42 (ih (t + 1) x (by omega) (by omega) (ib_Yc_n M (fun q => c q.1)))
end
theorem i_vc_core {k : Nat} {u : SX} {v : SY} (I : i_Rel k u v) (hk : k + 4 ≤ 2048) : wpX_core (fun r u' => wpY_core (fun r' => r' = r ∧ i_Rel (k + 4) u' v) v) u := by
  refine ib_el (P := fun u v => wpX_core (fun r u' => wpY_core (fun r' => r' = r ∧ i_Rel (k + 4) u' v) v) u) ?_ I
  intro m ac de lo uh fa bo oo go sl sh fr tt fp yfa ybo hm o w r
  unfold wpX_core wpY_core
  refine ib_xon hm ?_
  obtain ⟨t0, ht0, e0⟩ := ib_on_64 (oo := oo) hm
  refine ib_xff w o (fun p de sl sh fr tt fp tp _ _ => ?_) (fun no de sl sh fr tt => ?_)
  · refine br_f ib_10 ?_
    refine ib_yon hm ⟨65, ?_⟩
    refine ib_yco_l hm o r (ib_on_lt hm) (fun x M => ⟨?_, ib_in hm o w r⟩) 65 0 (-10000) (by omega) (by omega) (Or.inl ⟨rfl, fun t ht => absurd ht (by omega)⟩)
    rcases M with ⟨ex, _⟩ | ⟨b, _, _, ⟨t, _, q, _⟩, _⟩
    · exact ex
    · exact absurd ⟨tp.1, fun i hi hb => tp.2 i hi (ib_sub_bt q.1 (by omega) hb)⟩ (q.2 p)
  · refine br_t rfl ?_
    refine ib_xbits ⟨65, ?_⟩
    refine ib_xco_l w o (fun b ac de sl sh fr tt fp M => ?_) 65 0 (ib_bits (ib_on oo m) 6) _ de sl sh fr tt fp (by omega) (by omega) ⟨⟨t0, ht0, ⟨?_, ?_⟩, ?_⟩, fun t ht => absurd ht (by omega)⟩
    · refine ib_yon hm ⟨65, ?_⟩
      refine ib_yco_l hm o r (ib_on_lt hm) (fun x Mx => ⟨?_, ib_in hm o w r⟩) 65 0 (-10000) (by omega) (by omega) (Or.inl ⟨rfl, fun t ht => absurd ht (by omega)⟩)
      obtain ⟨⟨t1, h1, q1, b1⟩, mn⟩ := M
      rcases Mx with ⟨_, nn⟩ | ⟨b', ex, _, ⟨t2, h2, q2, b2⟩, mn'⟩
      · exact absurd q1 (nn t1 h1)
      · have c1 := mn t2 h2 q2
        have c2 := mn' t1 h1 q1
        have eb : b' = b := by omega
        rw [ex, eb]
    · rw [← e0]; exact ib_sub_self _
    · rw [← e0]; exact no
    · rw [← e0]
end
