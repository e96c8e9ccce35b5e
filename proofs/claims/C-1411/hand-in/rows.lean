section
theorem pk_us {f : Nat → Int32} {k : Nat} {x : Int32} : upd f k x k = x := if_pos rfl
theorem pk_un {f : Nat → Int32} {k j : Nat} {x : Int32} (h : j ≠ k) : upd f k x j = f j := if_neg h
theorem pk_sub {a b : Nat} (h : b ≤ a) : nI a - nI b = nI (a - b) := by
  obtain ⟨c, rfl⟩ : ∃ c, a = c + b := ⟨a - b, by omega⟩
  rw [← nI_add, Int32.add_sub_cancel, Nat.add_sub_cancel]
theorem pk_m1 (n : Nat) : nI (n + 1) + (-1) = nI n := by
  rw [← nI_1, Int32.add_assoc, show (1 : Int32) + (-1) = 0 from rfl, Int32.add_zero]
theorem pk_mul (a b : Nat) : nI a * nI b = nI (a * b) := (Int32.ofNat_mul a b).symm
theorem pk_div {a d : Nat} (ha : a < 2 ^ 31) (h0 : 0 < d) (hd : d < 2 ^ 31) : nI a / nI d = nI (a / d) := by
  apply Int32.toInt_inj.mp
  rw [lg_idiv_nonneg (by rw [nI_toInt ha]; omega) (by rw [nI_toInt hd]; omega), nI_toInt ha, nI_toInt hd, nI_toInt (Nat.lt_of_le_of_lt (Nat.div_le_self a d) ha)]
  first | rfl | exact (Int.natCast_ediv _ _).symm
theorem pk_rem {a d : Nat} (ha : a < 2 ^ 31) (h0 : 0 < d) (hd : d < 2 ^ 31) : nI a - nI a / nI d * nI d = nI (a % d) := by
  rw [pk_div ha h0 hd, pk_mul, pk_sub (Nat.div_mul_le_self a d)]
  exact congrArg nI (by have := Nat.div_add_mod' a d; omega)
theorem pk_sub_toInt {a b : Nat} (ha : a < 2 ^ 30) (hb : b < 2 ^ 30) : (nI a - nI b).toInt = (a : Int) - b := by
  rw [Int32.toInt_sub, nI_toInt (by omega), nI_toInt (by omega)]
  exact Int.bmod_eq_of_le (by omega) (by omega)
theorem pk_sneg {a b : Nat} (hb : b < 2 ^ 30) (h : a < b) : nI a - nI b < 0 := by
  rw [Int32.lt_iff_toInt_lt, pk_sub_toInt (by omega) hb, show (0 : Int32).toInt = 0 from by decide]
  omega
theorem pk_ix (x : Int32) {n : Nat} (hn : n < 2 ^ 31) : x < 0 ∨ nI n ≤ x ∨ ∃ j : Nat, j < n ∧ x = nI j := by
  by_cases h : x < 0
  · exact Or.inl h
  · obtain ⟨j, hj, rfl⟩ := nI_of h
    by_cases h2 : j < n
    · exact Or.inr (Or.inr ⟨j, h2, rfl⟩)
    · exact Or.inr (Or.inl (nI_le (by omega) hj))
theorem pk_le {x y : Int32} {A B : Prop} (a b : Nat) (f : a ≤ b → A) (g : b < a → B) (hx : x = nI a := by rfl) (hy : y = nI b := by rfl) (ha : a < 2 ^ 31 := by omega) (hb : b < 2 ^ 31 := by omega) : (x ≤ y → A) ∧ (¬ x ≤ y → B) := by
  subst hx hy
  rw [nI_leI ha hb]
  exact ⟨f, fun z => g (by omega)⟩
theorem pk_lt {x y : Int32} {A B : Prop} (a b : Nat) (f : a < b → A) (g : b ≤ a → B) (hx : x = nI a := by rfl) (hy : y = nI b := by rfl) (ha : a < 2 ^ 31 := by omega) (hb : b < 2 ^ 31 := by omega) : (x < y → A) ∧ (¬ x < y → B) := by
  subst hx hy
  rw [nI_ltI ha hb]
  exact ⟨f, fun z => g (by omega)⟩
theorem pk_eq {x y : Int32} {A B : Prop} (a b : Nat) (f : a = b → A) (g : a ≠ b → B) (hx : x = nI a := by rfl) (hy : y = nI b := by rfl) (ha : a < 2 ^ 31 := by omega) (hb : b < 2 ^ 31 := by omega) : (x = y → A) ∧ (¬ x = y → B) := by
  subst hx hy
  rw [nI_eq ha hb]
  exact ⟨f, g⟩
theorem pk_in {x : Int32} (n N : Nat) (h : n < N) (hx : x = nI n := by rfl) (hN : N < 2 ^ 31 := by omega) : vp_in x N := by
  subst hx
  exact vp_in_nI h hN
theorem pk_cl {x : Int32} (n : Nat) (hx : x = nI n := by rfl) (h : n < 2 ^ 31 := by omega) : x.toNatClampNeg = n := by
  subst hx
  exact nI_clamp h
theorem pk_tn {n : Nat} (h : n < 2 ^ 32) : (nI n).toBitVec.toNat = n := Nat.mod_eq_of_lt h
theorem pk_and (x : Int32) {m : Int32} (k : Nat) (hm : m.toBitVec.toNat = 2 ^ k - 1) : x &&& m = nI (x.toBitVec.toNat % 2 ^ k) := by
  apply Int32.toBitVec_inj.mp
  apply BitVec.eq_of_toNat_eq
  rw [Int32.toBitVec_and, BitVec.toNat_and, hm, Nat.and_two_pow_sub_one_eq_mod]
  show _ = (BitVec.ofNat 32 _).toNat
  rw [BitVec.toNat_ofNat]
  exact (Nat.mod_eq_of_lt (Nat.lt_of_le_of_lt (Nat.mod_le _ _) x.toBitVec.isLt)).symm
theorem pk_andN {n : Nat} (h : n < 2 ^ 32) {m : Int32} (k : Nat) (hm : m.toBitVec.toNat = 2 ^ k - 1) : nI n &&& m = nI (n % 2 ^ k) := by
  rw [pk_and _ k hm, pk_tn h]
theorem pk_andE (x : Int32) {m : Int32} (k : Nat) (hm : m.toBitVec.toNat = 2 ^ k - 1) : ∃ j : Nat, j < 2 ^ k ∧ x &&& m = nI j := ⟨_, Nat.mod_lt _ (Nat.two_pow_pos k), pk_and x k hm⟩
theorem pk_andIn (x : Int32) {m : Int32} (k : Nat) (hm : m.toBitVec.toNat = 2 ^ k - 1) (hk : k ≤ 30) : vp_in (x &&& m) (2 ^ k) := by
  obtain ⟨j, hj, e⟩ := pk_andE x k hm
  rw [e]
  exact vp_in_nI hj (Nat.lt_of_le_of_lt (Nat.pow_le_pow_right (by decide) hk) (by decide))
theorem pk_shl (a s : Int32) (k : Nat) (hs : (s.toBitVec.smod 32).toNat = k) : (a <<< s).toBitVec.toNat = a.toBitVec.toNat * 2 ^ k % 2 ^ 32 := by
  show (a.toBitVec <<< (s.toBitVec.smod 32).toNat).toNat = _
  rw [hs, BitVec.toNat_shiftLeft, Nat.shiftLeft_eq]
theorem pk_shlN {n : Nat} (s : Int32) (k : Nat) (hs : (s.toBitVec.smod 32).toNat = k) (h : n * 2 ^ k < 2 ^ 32) : nI n <<< s = nI (n * 2 ^ k) := by
  apply Int32.toBitVec_inj.mp
  apply BitVec.eq_of_toNat_eq
  have hn : n < 2 ^ 32 := Nat.lt_of_le_of_lt (Nat.le_mul_of_pos_right n (Nat.two_pow_pos k)) h
  rw [pk_shl _ _ k hs, pk_tn hn, pk_tn h, Nat.mod_eq_of_lt h]
theorem pk_shr (a s : Int32) (k : Nat) (hs : (s.toBitVec.smod 32).toNat = k) : (a >>> s).toInt = a.toInt >>> k := by
  show (a.toBitVec.sshiftRight (s.toBitVec.smod 32).toNat).toInt = _
  rw [hs, BitVec.toInt_sshiftRight]
  rfl
theorem pk_shrN {n : Nat} (h : n < 2 ^ 31) (s : Int32) (k : Nat) (hs : (s.toBitVec.smod 32).toNat = k) : nI n >>> s = nI (n / 2 ^ k) := by
  apply Int32.toInt_inj.mp
  have h2 : n / 2 ^ k ≤ n := Nat.div_le_self _ _
  rw [pk_shr _ _ k hs, nI_toInt h, nI_toInt (by omega), Int.shiftRight_eq_div_pow]
  rfl
theorem pk_ushr (x s : Int32) (k : Nat) (hs : ((s.toUInt32 &&& Int32.toUInt32 31).toBitVec % 32).toNat = k) : (x.toUInt32 >>> (s.toUInt32 &&& Int32.toUInt32 31)).toInt32.toBitVec.toNat = x.toBitVec.toNat / 2 ^ k := by
  have e : (x.toUInt32 >>> (s.toUInt32 &&& Int32.toUInt32 31)).toInt32.toBitVec = x.toBitVec >>> k := by
    rw [← hs]
    exact UInt32.toBitVec_shiftRight _ _
  rw [e, BitVec.toNat_ushiftRight, Nat.shiftRight_eq_div_pow]
theorem pk_ushrN {n : Nat} (hn : n < 2 ^ 32) (s : Int32) (k : Nat) (hs : ((s.toUInt32 &&& Int32.toUInt32 31).toBitVec % 32).toNat = k) : ((nI n).toUInt32 >>> (s.toUInt32 &&& Int32.toUInt32 31)).toInt32 = nI (n / 2 ^ k) := by
  apply Int32.toBitVec_inj.mp
  apply BitVec.eq_of_toNat_eq
  rw [pk_ushr _ s k hs, pk_tn hn, pk_tn (Nat.lt_of_le_of_lt (Nat.div_le_self _ _) hn)]
theorem pk_nb (z : Int32) : narrow .byte (.int z.toInt8.toInt32) = .int z.toInt8.toInt32 := congrArg Value.int (by simp)
theorem pk_ns (z : Int32) : narrow .short (.int z.toInt16.toInt32) = .int z.toInt16.toInt32 := congrArg Value.int (by simp)
theorem pk_fb (r : Int32) : fits .byte (.int r.toInt8.toInt32) = true := by
  have ⟨a, b⟩ := lg_i2b_range r
  have h1 : (-128 : Int32).toInt = -128 := by decide
  have h2 : (127 : Int32).toInt = 127 := by decide
  simp only [fits, Bool.and_eq_true, decide_eq_true_eq, Int32.le_iff_toInt_le, h1, h2]
  omega
theorem pk_fs (r : Int32) : fits .short (.int r.toInt16.toInt32) = true := by
  have ⟨a, b⟩ := lg_i2s_range r
  have h1 : (-32768 : Int32).toInt = -32768 := by decide
  have h2 : (32767 : Int32).toInt = 32767 := by decide
  simp only [fits, Bool.and_eq_true, decide_eq_true_eq, Int32.le_iff_toInt_le, h1, h2]
  omega
theorem pk_vb (z : Int32) : vp_nar .byte z.toInt8.toInt32 = z.toInt8.toInt32 := by rw [vp_nar_byte]; simp
theorem pk_vs (z : Int32) : vp_nar .short z.toInt16.toInt32 = z.toInt16.toInt32 := by rw [vp_nar_short]; simp
def bt (x : Int32) (i : Nat) : Bool := x.toBitVec.getLsbD i
theorem b_ext {x y : Int32} (h : ∀ i, i < 32 → bt x i = bt y i) : x = y := Int32.toBitVec_inj.mp (BitVec.eq_of_getLsbD_eq (fun i hi => h i hi))
theorem b_or (x y : Int32) (i : Nat) : bt (x ||| y) i = (bt x i || bt y i) := by unfold bt; rw [Int32.toBitVec_or, BitVec.getLsbD_or]
theorem b_and (x y : Int32) (i : Nat) : bt (x &&& y) i = (bt x i && bt y i) := by unfold bt; rw [Int32.toBitVec_and, BitVec.getLsbD_and]
theorem b_xor (x y : Int32) (i : Nat) : bt (x ^^^ y) i = (bt x i ^^ bt y i) := by unfold bt; rw [Int32.toBitVec_xor, BitVec.getLsbD_xor]
theorem b_big {x : Int32} {i : Nat} (h : 32 ≤ i) : bt x i = false := BitVec.getLsbD_of_ge _ _ h
theorem b_255 (i : Nat) : bt 255 i = decide (i < 8) := by
  rcases Nat.lt_or_ge i 32 with h | h
  · exact (by decide +kernel : ∀ i, i < 32 → bt 255 i = decide (i < 8)) i h
  · rw [b_big h, decide_eq_false (by omega)]
theorem b_65535 (i : Nat) : bt 65535 i = decide (i < 16) := by
  rcases Nat.lt_or_ge i 32 with h | h
  · exact (by decide +kernel : ∀ i, i < 32 → bt 65535 i = decide (i < 16)) i h
  · rw [b_big h, decide_eq_false (by omega)]
theorem b_m1 : ∀ i, i < 32 → bt (-1) i = true := by decide +kernel
theorem b_0 (i : Nat) : bt 0 i = false := BitVec.getLsbD_zero
theorem s_l : ∀ n, n < 32 → ((nI n &&& 31).toBitVec.smod 32).toNat = n := by decide +kernel
theorem s_u : ∀ n, n < 32 → (((nI n).toUInt32 &&& Int32.toUInt32 31).toBitVec % 32).toNat = n := by decide +kernel
theorem b_shl (n : Nat) (hn : n < 32) (x : Int32) {i : Nat} (hi : i < 32) : bt (x <<< (nI n &&& 31)) i = (decide (n ≤ i) && bt x (i - n)) := by
  unfold bt
  rw [Int32.toBitVec_shiftLeft]
  show (x.toBitVec <<< ((nI n &&& 31).toBitVec.smod 32).toNat).getLsbD i = _
  rw [s_l n hn, BitVec.getLsbD_shiftLeft]
  rcases Nat.lt_or_ge i n with h | h
  · simp [h, Nat.not_le.mpr h]
  · simp [hi, h, Nat.not_lt.mpr h]
theorem b_ushr (n : Nat) (hn : n < 32) (x : Int32) (i : Nat) : bt ((x.toUInt32 >>> ((nI n).toUInt32 &&& Int32.toUInt32 31)).toInt32) i = bt x (n + i) := by
  show (x.toUInt32 >>> ((nI n).toUInt32 &&& Int32.toUInt32 31)).toBitVec.getLsbD i = x.toUInt32.toBitVec.getLsbD (n + i)
  rw [UInt32.toBitVec_shiftRight]
  show (x.toUInt32.toBitVec >>> (((nI n).toUInt32 &&& Int32.toUInt32 31).toBitVec % 32).toNat).getLsbD i = _
  rw [s_u n hn, BitVec.getLsbD_ushiftRight]
theorem b_sshr (n : Nat) (hn : n < 32) (x : Int32) {i : Nat} (hi : i < 32) : bt (x >>> (nI n &&& 31)) i = if n + i < 32 then bt x (n + i) else bt x 31 := by
  unfold bt
  rw [Int32.toBitVec_shiftRight]
  show (x.toBitVec.sshiftRight ((nI n &&& 31).toBitVec.smod 32).toNat).getLsbD i = _
  rw [s_l n hn, BitVec.getLsbD_sshiftRight, BitVec.msb_eq_getLsbD_last]
  simp [hi]
theorem b_shl8 (x : Int32) {i : Nat} (hi : i < 32) : bt (x <<< ((8 : Int32) &&& 31)) i = (decide (8 ≤ i) && bt x (i - 8)) := b_shl 8 (by omega) x hi
theorem b_shl16 (x : Int32) {i : Nat} (hi : i < 32) : bt (x <<< ((16 : Int32) &&& 31)) i = (decide (16 ≤ i) && bt x (i - 16)) := b_shl 16 (by omega) x hi
theorem b_shl24 (x : Int32) {i : Nat} (hi : i < 32) : bt (x <<< ((24 : Int32) &&& 31)) i = (decide (24 ≤ i) && bt x (i - 24)) := b_shl 24 (by omega) x hi
theorem b_sshr8 (x : Int32) {i : Nat} (hi : i < 32) : bt (x >>> ((8 : Int32) &&& 31)) i = if 8 + i < 32 then bt x (8 + i) else bt x 31 := b_sshr 8 (by omega) x hi
end
section
/-! pure facts: narrow types, literals, bits, products of dimensions, digits, addresses, sums, counts -/
theorem tz_b8 : ∀ n, n < 128 → (nI n).toInt8.toInt32 = nI n := by decide +kernel
theorem tz_b16 {n : Nat} (h : n < 32768) : (nI n).toInt16.toInt32 = nI n := lg_i2s_small (by rw [nI_toInt (by omega)]; omega) (by rw [nI_toInt (by omega)]; omega)
theorem tz_nb {n : Nat} (h : n < 128) : vp_nar .byte (nI n) = nI n := by rw [vp_nar_byte]; exact tz_b8 n h
theorem tz_ns {n : Nat} (h : n < 32768) : vp_nar .short (nI n) = nI n := by rw [vp_nar_short]; exact tz_b16 h
theorem tz_nbm : vp_nar .byte (-1) = -1 := by rw [vp_nar_byte]; decide
theorem tz_nb0 : vp_nar .byte 0 = 0 := by rw [vp_nar_byte]; decide
theorem tz_ns0 : vp_nar .short 0 = 0 := by rw [vp_nar_short]; decide
theorem tz_bo0 : vp_nar .boolean 0 = 0 := rfl
theorem tz_bo1 : vp_nar .boolean 1 = 1 := rfl
theorem tz_m1b : (-1 : Int32).toInt8.toInt32 = -1 := by decide
theorem tz_bb (x : Int32) : x.toInt8.toInt32.toInt8.toInt32 = x.toInt8.toInt32 := by
  have h := lg_i2b_range x
  exact lg_i2b_small h.1 h.2
theorem tz_m1lt : (-1 : Int32) < 0 := by decide
theorem tz_m1ge : ¬ (0 : Int32) ≤ -1 := by decide
theorem tz_nIm1 {n : Nat} (h : n < 2 ^ 31) : ¬ nI n = -1 := by
  intro e
  exact nI_pos h (by rw [e]; decide)
/-! literals -/
theorem tz_ge0 {n : Nat} (h : n < 2 ^ 31) : (0 : Int32) ≤ nI n ↔ True := iff_true_intro (nI_pos' h)
theorem tz_lt0 {n : Nat} (h : n < 2 ^ 31) : nI n < 0 ↔ False := iff_false_intro (nI_pos h)
theorem tz_3n (n : Nat) : nI n * 3 = nI (3 * n) := by
  rw [show (3 : Int32) = nI 3 from rfl, pk_mul, Nat.mul_comm]
theorem tz_n3 (n : Nat) : 3 * nI n = nI (3 * n) := by
  rw [show (3 : Int32) = nI 3 from rfl, pk_mul]
theorem tz_64n (n : Nat) : 64 * nI n = nI (64 * n) := by
  rw [show (64 : Int32) = nI 64 from rfl, pk_mul]
theorem tz_8n (n : Nat) : 8 * nI n = nI (8 * n) := by
  rw [show (8 : Int32) = nI 8 from rfl, pk_mul]
theorem tz_add1 (n : Nat) : nI n + 1 = nI (n + 1) := nI_1 n
theorem tz_add2 (n : Nat) : nI n + 2 = nI (n + 2) := by
  rw [show (2 : Int32) = nI 2 from rfl, nI_add]
theorem tz_24a (n : Nat) : 24 + nI n = nI (24 + n) := by
  rw [show (24 : Int32) = nI 24 from rfl, nI_add]
theorem tz_72a (n : Nat) : 72 + nI n = nI (72 + n) := by
  rw [show (72 : Int32) = nI 72 from rfl, nI_add]
theorem tz_1536a (n : Nat) : 1536 + nI n = nI (1536 + n) := by
  rw [show (1536 : Int32) = nI 1536 from rfl, nI_add]
theorem tz_m1 {n : Nat} (h : 0 < n) : nI n + (-1) = nI (n - 1) := by
  obtain ⟨k, rfl⟩ : ∃ k, n = k + 1 := ⟨n - 1, by omega⟩
  rw [pk_m1, Nat.add_sub_cancel]
theorem tz_m1z : nI 0 + (-1) = -1 := by decide
theorem tz_s1 {n : Nat} (h : 0 < n) : nI n - 1 = nI (n - 1) := by
  obtain ⟨k, rfl⟩ : ∃ k, n = k + 1 := ⟨n - 1, by omega⟩
  rw [nI_pred, Nat.add_sub_cancel]
theorem tz_s1z : nI 0 - 1 = -1 := by decide
/-! one bit -/
theorem tz_b1 : ∀ i, i < 32 → bt 1 i = decide (i = 0) := by decide +kernel
theorem tz_bit1 {n i : Nat} (hn : n < 32) (hi : i < 32) : bt ((1 : Int32) <<< (nI n &&& 31)) i = decide (i = n) := by
  rw [b_shl n hn 1 hi]
  rcases Nat.lt_or_ge i n with h | h
  · rw [decide_eq_false (by omega), decide_eq_false (by omega), Bool.false_and]
  · rw [decide_eq_true h, Bool.true_and, tz_b1 _ (by omega)]
    exact decide_eq_decide.mpr (by omega)
theorem tz_bnot (x : Int32) {i : Nat} (hi : i < 32) : bt (x ^^^ (-1)) i = !bt x i := by
  rw [b_xor, b_m1 i hi, Bool.xor_true]
theorem tz_and1 (y : Int32) : y &&& 1 = 1 ↔ bt y 0 = true := by
  constructor
  · intro h
    have e : bt (y &&& 1) 0 = true := by rw [h]; decide
    rw [b_and] at e
    exact (Bool.and_eq_true_iff.mp e).1
  · intro h
    apply b_ext
    intro i hi
    rw [b_and, tz_b1 i hi]
    by_cases hz : i = 0
    · subst hz; rw [h]; rfl
    · rw [decide_eq_false hz, Bool.and_false]
theorem tz_and0 (y : Int32) : y &&& 1 = 0 ↔ bt y 0 = false := by
  constructor
  · intro h
    have e : bt (y &&& 1) 0 = false := by rw [h]; exact b_0 0
    rw [b_and, show bt 1 0 = true from by decide, Bool.and_true] at e
    exact e
  · intro h
    apply b_ext
    intro i hi
    rw [b_and, tz_b1 i hi, b_0]
    by_cases hz : i = 0
    · subst hz; rw [h]; rfl
    · rw [decide_eq_false hz, Bool.and_false]
theorem tz_tst1 {x : Int32} {n : Nat} (hn : n < 32) : (x >>> (nI n &&& 31)) &&& 1 = 1 ↔ bt x n = true := by
  rw [tz_and1, b_sshr n hn x (by omega), if_pos (by omega), Nat.add_zero]
theorem tz_tst0 {x : Int32} {n : Nat} (hn : n < 32) : (x >>> (nI n &&& 31)) &&& 1 = 0 ↔ bt x n = false := by
  rw [tz_and0, b_sshr n hn x (by omega), if_pos (by omega), Nat.add_zero]
theorem tz_z0 {x : Int32} : x = 0 ↔ ∀ i, i < 32 → bt x i = false := by
  constructor
  · intro h i _; rw [h]; exact b_0 i
  · intro h; apply b_ext; intro i hi; rw [h i hi, b_0]
theorem tz_set {x : Int32} {n i : Nat} (hn : n < 32) (hi : i < 32) : bt (x ||| ((1 : Int32) <<< (nI n &&& 31))) i = (bt x i || decide (i = n)) := by
  rw [b_or, tz_bit1 hn hi]
theorem tz_clr {x : Int32} {n i : Nat} (hn : n < 32) (hi : i < 32) : bt (x &&& (((1 : Int32) <<< (nI n &&& 31)) ^^^ (-1))) i = (bt x i && !decide (i = n)) := by
  rw [b_and, tz_bnot _ hi, tz_bit1 hn hi]
/-! products of dimensions -/
def tz_pr (D : Nat → Nat) (i : Nat) : Nat → Nat
  | 0 => 1
  | k + 1 => tz_pr D i k * D (i + k)
theorem tz_pr0 (D : Nat → Nat) (i : Nat) : tz_pr D i 0 = 1 := rfl
theorem tz_prs (D : Nat → Nat) (i k : Nat) : tz_pr D i (k + 1) = tz_pr D i k * D (i + k) := rfl
theorem tz_prf (D : Nat → Nat) (i : Nat) : ∀ k, tz_pr D i (k + 1) = D i * tz_pr D (i + 1) k
  | 0 => by rw [tz_prs, tz_pr0, tz_pr0, Nat.one_mul, Nat.mul_one, Nat.add_zero]
  | k + 1 => by rw [tz_prs, tz_prf D i k, tz_prs, Nat.mul_assoc, show i + (k + 1) = i + 1 + k from by omega]
theorem tz_prc {D D' : Nat → Nat} {i : Nat} : ∀ k, (∀ a, i ≤ a → a < i + k → D a = D' a) → tz_pr D i k = tz_pr D' i k
  | 0, _ => rfl
  | k + 1, h => by rw [tz_prs, tz_prs, tz_prc k (fun a h1 h2 => h a h1 (by omega)), h (i + k) (by omega) (by omega)]
theorem tz_prb {D : Nat → Nat} {i : Nat} : ∀ k, (∀ a, i ≤ a → a < i + k → 1 ≤ D a ∧ D a ≤ 4) → 1 ≤ tz_pr D i k ∧ tz_pr D i k ≤ 4 ^ k
  | 0, _ => ⟨Nat.le_refl _, Nat.le_refl _⟩
  | k + 1, h => by
    have ih := tz_prb k (fun a h1 h2 => h a h1 (by omega))
    have hk := h (i + k) (by omega) (by omega)
    rw [tz_prs, Nat.pow_succ]
    exact ⟨Nat.mul_pos ih.1 hk.1, Nat.mul_le_mul ih.2 hk.2⟩
def tz_el (D : Nat → Nat) (r : Nat) : Nat := tz_pr D 0 r
theorem tz_els (D : Nat → Nat) (r : Nat) : tz_el D (r + 1) = tz_el D r * D r := by
  unfold tz_el; rw [tz_prs, Nat.zero_add]
theorem tz_elc {D D' : Nat → Nat} {r : Nat} (h : ∀ a, a < r → D a = D' a) : tz_el D r = tz_el D' r := tz_prc r (fun a _ h2 => h a (by omega))
theorem tz_elb {D : Nat → Nat} {r : Nat} (hr : r ≤ 3) (h : ∀ a, a < r → 1 ≤ D a ∧ D a ≤ 4) : 1 ≤ tz_el D r ∧ tz_el D r ≤ 64 := by
  have := tz_prb (D := D) (i := 0) r (fun a _ h2 => h a (by omega))
  have h3 : (4 : Nat) ^ r ≤ 4 ^ 3 := Nat.pow_le_pow_right (by decide) hr
  exact ⟨this.1, Nat.le_trans this.2 h3⟩
/-! digits, addresses -/
def tz_dg (D : Nat → Nat) (r e i : Nat) : Nat := e / tz_pr D (i + 1) (r - 1 - i) % D i
def tz_adl (D : Nat → Nat) (s : Nat → Int32) : Nat → Nat → Int32 → Int32
  | 0, _, a => a
  | j + 1, q, a => tz_adl D s j (q / D j) (a + nI (q % D j) * s j)
def tz_lin (x : Nat → Nat) (s : Nat → Int32) : Nat → Int32 → Int32
  | 0, a => a
  | j + 1, a => tz_lin x s j (a + nI (x j) * s j)
def tz_fl (D x : Nat → Nat) : Nat → Nat
  | 0 => 0
  | j + 1 => tz_fl D x j * D j + x j
theorem tz_adls (D : Nat → Nat) (s : Nat → Int32) (j q : Nat) (a : Int32) : tz_adl D s (j + 1) q a = tz_adl D s j (q / D j) (a + nI (q % D j) * s j) := rfl
theorem tz_lins (x : Nat → Nat) (s : Nat → Int32) (j : Nat) (a : Int32) : tz_lin x s (j + 1) a = tz_lin x s j (a + nI (x j) * s j) := rfl
theorem tz_fls (D x : Nat → Nat) (j : Nat) : tz_fl D x (j + 1) = tz_fl D x j * D j + x j := rfl
theorem tz_linc {x y : Nat → Nat} {s t : Nat → Int32} : ∀ r a, (∀ i, i < r → x i = y i) → (∀ i, i < r → s i = t i) → tz_lin x s r a = tz_lin y t r a
  | 0, _, _, _ => rfl
  | r + 1, a, h, k => by
    rw [tz_lins, tz_lins, h r (by omega), k r (by omega)]
    exact tz_linc r _ (fun i hi => h i (by omega)) (fun i hi => k i (by omega))
theorem tz_adlc {D E : Nat → Nat} {s t : Nat → Int32} : ∀ r q a, (∀ i, i < r → D i = E i) → (∀ i, i < r → s i = t i) → tz_adl D s r q a = tz_adl E t r q a
  | 0, _, _, _, _ => rfl
  | r + 1, q, a, h, k => by
    rw [tz_adls, tz_adls, h r (by omega), k r (by omega)]
    exact tz_adlc r _ _ (fun i hi => h i (by omega)) (fun i hi => k i (by omega))
theorem tz_flc {D E x y : Nat → Nat} : ∀ r, (∀ i, i < r → D i = E i) → (∀ i, i < r → x i = y i) → tz_fl D x r = tz_fl E y r
  | 0, _, _ => rfl
  | r + 1, h, k => by
    rw [tz_fls, tz_fls, h r (by omega), k r (by omega), tz_flc r (fun i hi => h i (by omega)) (fun i hi => k i (by omega))]
theorem tz_adlfl {D x : Nat → Nat} {s : Nat → Int32} : ∀ r a, (∀ i, i < r → x i < D i) → tz_adl D s r (tz_fl D x r) a = tz_lin x s r a
  | 0, _, _ => rfl
  | r + 1, a, h => by
    have hr := h r (by omega)
    have e1 : (tz_fl D x r * D r + x r) / D r = tz_fl D x r := by
      rw [Nat.mul_comm, Nat.mul_add_div (by omega), Nat.div_eq_of_lt hr, Nat.add_zero]
    have e2 : (tz_fl D x r * D r + x r) % D r = x r := by
      rw [Nat.mul_comm, Nat.mul_add_mod, Nat.mod_eq_of_lt hr]
    rw [tz_adls, tz_fls, e1, e2, tz_lins]
    exact tz_adlfl r _ (fun i hi => h i (by omega))
theorem tz_dgl (D : Nat → Nat) (r e : Nat) : tz_dg D (r + 1) e r = e % D r := by
  unfold tz_dg
  rw [show r + 1 - 1 - r = 0 from by omega, tz_pr0, Nat.div_one]
theorem tz_dgs {D : Nat → Nat} {r i : Nat} (e : Nat) (hi : i < r) : tz_dg D (r + 1) e i = tz_dg D r (e / D r) i := by
  unfold tz_dg
  rw [show r + 1 - 1 - i = (r - 1 - i) + 1 from by omega, tz_prs, show i + 1 + (r - 1 - i) = r from by omega, Nat.mul_comm, Nat.div_div_eq_div_mul]
theorem tz_adldg {D : Nat → Nat} {s : Nat → Int32} : ∀ r e a, tz_adl D s r e a = tz_lin (tz_dg D r e) s r a
  | 0, _, _ => rfl
  | r + 1, e, a => by
    rw [tz_adls, tz_adldg r, tz_lins, tz_dgl]
    exact tz_linc r _ (fun i hi => (tz_dgs e hi).symm) (fun _ _ => rfl)
theorem tz_dglt {D : Nat → Nat} {r e i : Nat} (h : 0 < D i) : tz_dg D r e i < D i := Nat.mod_lt _ h
theorem tz_fllt {D x : Nat → Nat} : ∀ r, (∀ i, i < r → x i < D i) → tz_fl D x r < tz_el D r
  | 0, _ => Nat.zero_lt_one
  | r + 1, h => by
    have ih := tz_fllt r (fun i hi => h i (by omega))
    have hr := h r (by omega)
    rw [tz_fls, tz_els]
    have h2 : (tz_fl D x r + 1) * D r ≤ tz_el D r * D r := Nat.mul_le_mul_right _ ih
    rw [Nat.succ_mul] at h2
    omega
theorem tz_fldg {D : Nat → Nat} : ∀ r e, (∀ i, i < r → 0 < D i) → e < tz_el D r → tz_fl D (tz_dg D r e) r = e
  | 0, e, _, h => by
    have : e < 1 := h
    show 0 = e
    omega
  | r + 1, e, hD, h => by
    rw [tz_els] at h
    have h1 : e / D r < tz_el D r := Nat.div_lt_of_lt_mul (by rw [Nat.mul_comm]; exact h)
    rw [tz_fls, tz_dgl, tz_flc (E := D) (y := tz_dg D r (e / D r)) r (fun _ _ => rfl) (fun i hi => tz_dgs e hi), tz_fldg r _ (fun i hi => hD i (by omega)) h1]
    exact Nat.div_add_mod' e (D r)
/-! sums -/
def tz_sm (f : Nat → Int32) : Nat → Int32
  | 0 => 0
  | n + 1 => tz_sm f n + f n
theorem tz_sms (f : Nat → Int32) (n : Nat) : tz_sm f (n + 1) = tz_sm f n + f n := rfl
theorem tz_smc {f g : Nat → Int32} : ∀ n, (∀ i, i < n → f i = g i) → tz_sm f n = tz_sm g n
  | 0, _ => rfl
  | n + 1, h => by rw [tz_sms, tz_sms, tz_smc n (fun i hi => h i (by omega)), h n (by omega)]
theorem tz_smz {f : Nat → Int32} : ∀ n, (∀ i, i < n → f i = 0) → tz_sm f n = 0
  | 0, _ => rfl
  | n + 1, h => by rw [tz_sms, tz_smz n (fun i hi => h i (by omega)), h n (by omega)]; rfl
theorem tz_sm1 {f g : Nat → Int32} {q : Nat} {x : Int32} : ∀ n, q < n → (∀ i, i < n → i ≠ q → g i = f i) → g q = f q + x → tz_sm g n = tz_sm f n + x
  | 0, h, _, _ => by omega
  | n + 1, h, h1, h2 => by
    rw [tz_sms, tz_sms]
    by_cases e : q = n
    · subst e
      rw [tz_smc q (fun i hi => h1 i (by omega) (by omega)), h2, Int32.add_assoc]
    · rw [tz_sm1 n (by omega) (fun i hi => h1 i (by omega)) h2, h1 n (by omega) (fun z => e z.symm), Int32.add_assoc, Int32.add_assoc, Int32.add_comm x]
theorem tz_sadd {S E : Nat → Int32} {q n : Nat} {x : Int32} (h : q < n) : tz_sm (fun p => upd S q (S q + x) p * E p) n = tz_sm (fun p => S p * E p) n + x * E q :=
  tz_sm1 n h (fun i _ hi => by rw [pk_un hi]) (by rw [pk_us, Int32.add_mul])
theorem tz_sdelta {S : Nat → Int32} {l n : Nat} (h : l < n) : tz_sm (fun p => S p * (if p = l then 1 else 0)) n = S l := by
  have := tz_sm1 (f := fun _ => 0) (g := fun p => S p * (if p = l then 1 else 0)) (q := l) (x := S l) n h (fun i _ hi => by rw [if_neg hi, Int32.mul_zero]) (by rw [if_pos rfl, Int32.mul_one, Int32.zero_add])
  rw [this, tz_smz n (fun _ _ => rfl), Int32.zero_add]
/-! counts -/
def tz_cn (p : Nat → Bool) : Nat → Nat
  | 0 => 0
  | n + 1 => tz_cn p n + (if p n = true then 1 else 0)
theorem tz_cns (p : Nat → Bool) (n : Nat) : tz_cn p (n + 1) = tz_cn p n + (if p n = true then 1 else 0) := rfl
theorem tz_cnc {p q : Nat → Bool} : ∀ n, (∀ i, i < n → p i = q i) → tz_cn p n = tz_cn q n
  | 0, _ => rfl
  | n + 1, h => by rw [tz_cns, tz_cns, tz_cnc n (fun i hi => h i (by omega)), h n (by omega)]
theorem tz_cn1 {p q : Nat → Bool} {k : Nat} : ∀ n, k < n → (∀ i, i < n → i ≠ k → q i = p i) → p k = false → q k = true → tz_cn q n = tz_cn p n + 1
  | 0, h, _, _, _ => by omega
  | n + 1, h, h1, h2, h3 => by
    rw [tz_cns, tz_cns]
    by_cases e : k = n
    · subst e
      rw [tz_cnc k (fun i hi => h1 i (by omega) (by omega)), h2, h3]
      rfl
    · rw [tz_cn1 n (by omega) (fun i hi => h1 i (by omega)) h2 h3, h1 n (by omega) (fun z => e z.symm)]
      omega
theorem tz_cnle (p : Nat → Bool) : ∀ n, tz_cn p n ≤ n
  | 0 => Nat.le_refl _
  | n + 1 => by
    rw [tz_cns]
    have := tz_cnle p n
    split <;> omega
theorem tz_cnex {p : Nat → Bool} : ∀ n, tz_cn p n < n → ∃ k, k < n ∧ p k = false
  | 0, h => by omega
  | n + 1, h => by
    rw [tz_cns] at h
    cases e : p n with
    | false => exact ⟨n, by omega, e⟩
    | true =>
      rw [e, if_pos rfl] at h
      obtain ⟨k, hk, hp⟩ := tz_cnex (p := p) n (by omega)
      exact ⟨k, by omega, hp⟩
theorem tz_cnpos {p : Nat → Bool} : ∀ n, tz_cn p n ≠ 0 → ∃ k, k < n ∧ p k = true
  | 0, h => absurd rfl h
  | n + 1, h => by
    rw [tz_cns] at h
    cases e : p n with
    | true => exact ⟨n, by omega, e⟩
    | false =>
      rw [e, if_neg (by decide)] at h
      obtain ⟨k, hk, hp⟩ := tz_cnpos (p := p) n (by omega)
      exact ⟨k, by omega, hp⟩
theorem tz_cnge {p : Nat → Bool} {k : Nat} : ∀ n, k < n → p k = true → 1 ≤ tz_cn p n
  | 0, h, _ => by omega
  | n + 1, h, hk => by
    rw [tz_cns]
    by_cases e : k = n
    · subst e; rw [if_pos hk]; omega
    · have := tz_cnge n (by omega) hk
      omega
theorem tz_cnz {p : Nat → Bool} : ∀ n, (∀ i, i < n → p i = false) → tz_cn p n = 0
  | 0, _ => rfl
  | n + 1, h => by rw [tz_cns, tz_cnz n (fun i hi => h i (by omega)), h n (by omega)]; rfl
/-! the nodes' places, one behind another -/
def tz_ps (sz nd : Nat → Nat) : Nat → Nat
  | 0 => 0
  | i + 1 => tz_ps sz nd i + sz (nd i)
theorem tz_pss (sz nd : Nat → Nat) (i : Nat) : tz_ps sz nd (i + 1) = tz_ps sz nd i + sz (nd i) := rfl
theorem tz_psm {sz nd : Nat → Nat} {i : Nat} : ∀ j, i ≤ j → tz_ps sz nd i ≤ tz_ps sz nd j
  | 0, h => by rw [show i = 0 from by omega]; exact Nat.le_refl _
  | j + 1, h => by
    by_cases e : i = j + 1
    · rw [e]; exact Nat.le_refl _
    · have := tz_psm (sz := sz) (nd := nd) (i := i) j (by omega)
      rw [tz_pss]
      omega
theorem tz_psl {sz nd : Nat → Nat} {i j : Nat} (h : i < j) : tz_ps sz nd i + sz (nd i) ≤ tz_ps sz nd j := tz_psm (i := i + 1) j h
theorem tz_psc {sz nd sz' nd' : Nat → Nat} : ∀ j, (∀ i, i < j → nd i = nd' i) → (∀ i, i < j → sz (nd i) = sz' (nd' i)) → tz_ps sz nd j = tz_ps sz' nd' j
  | 0, _, _ => rfl
  | j + 1, h, k => by rw [tz_pss, tz_pss, tz_psc j (fun i hi => h i (by omega)) (fun i hi => k i (by omega)), k j (by omega)]
theorem tz_psex {sz nd : Nat → Nat} {p : Nat} : ∀ N, p < tz_ps sz nd N → ∃ i e, i < N ∧ e < sz (nd i) ∧ p = tz_ps sz nd i + e
  | 0, h => absurd h (Nat.not_lt_zero _)
  | N + 1, h => by
    by_cases c : p < tz_ps sz nd N
    · obtain ⟨i, e, h1, h2, h3⟩ := tz_psex N c
      exact ⟨i, e, by omega, h2, h3⟩
    · rw [tz_pss] at h
      exact ⟨N, p - tz_ps sz nd N, by omega, by omega, by omega⟩
end
section
/-! the component's reading methods -/
theorem tz_rem' (a d : Nat) : nI a - nI (a / d * d) = nI (a % d) := by
  rw [pk_sub (Nat.div_mul_le_self a d)]
  exact congrArg nI (by have := Nat.div_add_mod' a d; omega)
theorem tz_dm (j : Nat) : nI j + (-1) = nI j - 1 := by rw [Int32.sub_eq_add_neg]
theorem tz_dm0 : nI 0 - 1 < 0 := by decide
def tx_Dx (rnk dmx : Nat → Int32) (d r : Nat) (D : Nat → Nat) : Prop := rnk d = nI r ∧ r ≤ 3 ∧ ∀ i, i < r → dmx (3 * d + i) = nI (D i) ∧ 1 ≤ D i ∧ D i ≤ 4
theorem tx_Dx.el {rnk dmx : Nat → Int32} {d r : Nat} {D : Nat → Nat} (h : tx_Dx rnk dmx d r D) : 1 ≤ tz_el D r ∧ tz_el D r ≤ 64 := tz_elb h.2.1 (fun a ha => (h.2.2 a ha).2)
section XR
variable {xnc xfr xol xnw xtp xsc : Int32} {nod ofs rnk dmx stx its knd rfs siz oldr newr stt blw arn slo mvd sls : Nat → Int32}
theorem tx_is1 {post : Int32 → Prop} {h : Nat} (hh : h < 24) (hn : ¬ nod h < 0) (H : post 1) : wpX_is post (xnc, xfr, xol, xnw, xtp, xsc, nod, ofs, rnk, dmx, stx, its, knd, rfs, siz, oldr, newr, stt, blw, arn, slo, mvd, sls) (nI h) :=
  br_f (nI_pos (by omega)) (br_f (nI_ge (b := 24) hh (by decide)) ⟨vp_in_nI (by omega) (by omega), br_f (by rw [nI_clamp (by omega)]; exact hn) H⟩)
theorem tx_is0 {post : Int32 → Prop} {h : Nat} (hh : h < 24) (hn : nod h < 0) (H : post 0) : wpX_is post (xnc, xfr, xol, xnw, xtp, xsc, nod, ofs, rnk, dmx, stx, its, knd, rfs, siz, oldr, newr, stt, blw, arn, slo, mvd, sls) (nI h) :=
  br_f (nI_pos (by omega)) (br_f (nI_ge (b := 24) hh (by decide)) ⟨vp_in_nI (by omega) (by omega), br_t (by rw [nI_clamp (by omega)]; exact hn) H⟩)
theorem tx_isn {post : Int32 → Prop} {p : Int32} (hp : p < 0 ∨ 24 ≤ p) (H : post 0) : wpX_is post (xnc, xfr, xol, xnw, xtp, xsc, nod, ofs, rnk, dmx, stx, its, knd, rfs, siz, oldr, newr, stt, blw, arn, slo, mvd, sls) p := by
  rcases hp with h | h
  · exact br_t h H
  · exact br_c (fun _ => H) (fun _ => br_t h H)
theorem tx_fh2 {post : Int32 → Prop} {v : Nat} (hv : v ≤ 24) (hu : ∀ j, j < v → ¬ nod j < 0) (hf : v < 24 → nod v < 0) (H : post (nI v)) : ∀ n j, j ≤ v → v - j < n → wX_freeHandle_2 post xnc xfr xol xnw xtp xsc nod ofs rnk dmx stx its knd rfs siz oldr newr stt blw arn slo mvd sls n (nI j) := by
  intro n
  induction n with
  | zero => intro j _ h; omega
  | succ n ih =>
    intro j h1 h2
    by_cases e : j = v
    · subst e
      by_cases e2 : j < 24
      · exact br_f (nI_ge (b := 24) e2 (by decide)) ⟨vp_in_nI (by omega) (by omega), br_t (by rw [nI_clamp (by omega)]; exact hf e2) H⟩
      · exact br_t (nI_le (a := 24) (by omega) (by omega)) H
    · exact br_f (nI_ge (b := 24) (by omega) (by decide)) ⟨vp_in_nI (by omega) (by omega), br_f (by rw [nI_clamp (by omega)]; exact hu j (by omega)) (nm_r (nI_1 j) (ih (j + 1) (by omega) (by omega)))⟩
theorem tx_fh {post : Int32 → Prop} {v : Nat} (hv : v ≤ 24) (hu : ∀ j, j < v → ¬ nod j < 0) (hf : v < 24 → nod v < 0) (H : post (nI v)) : wpX_freeHandle post (xnc, xfr, xol, xnw, xtp, xsc, nod, ofs, rnk, dmx, stx, its, knd, rfs, siz, oldr, newr, stt, blw, arn, slo, mvd, sls) :=
  ⟨25, tx_fh2 hv hu hf H 25 0 (by omega) (by omega)⟩
theorem tx_el4 {post : Int32 → Prop} {d r : Nat} {D : Nat → Nat} (hd : d < 120) (h : tx_Dx rnk dmx d r D) (H : post (nI (tz_el D r))) : ∀ n i, i ≤ r → r - i < n → wX_elements_4 post (nI d) xnc xfr xol xnw xtp xsc nod ofs rnk dmx stx its knd rfs siz oldr newr stt blw arn slo mvd sls n (nI (tz_el D i)) (nI i) := by
  obtain ⟨hr, hr3, hD⟩ := h
  intro n
  induction n with
  | zero => intro i _ h; omega
  | succ n ih =>
    intro i h1 h2
    by_cases e : i < r
    · have hDi := (hD i e).1
      have e2 : ¬ r ≤ i := by omega
      simp (disch := omega) only [wX_elements_4, tz_3n, nI_add, hr, hDi, e2, pk_mul, ← tz_els, forall_eq, nI_leI, nI_ltI, nI_eq, vp_in_nI, nI_clamp, nI_1, true_implies, forall_const, not_true_eq_false, not_false_eq_true, false_implies, and_true, true_and, implies_true, and_self]
      exact ih (i + 1) (by omega) (by omega)
    · have e3 : i = r := by omega
      subst e3
      simp (disch := omega) only [wX_elements_4, hr, Nat.le_refl, forall_eq, nI_leI, nI_ltI, nI_eq, vp_in_nI, nI_clamp, nI_1, true_implies, forall_const, not_true_eq_false, not_false_eq_true, false_implies, and_true, true_and, implies_true, and_self]
      exact H
theorem tx_el {post : Int32 → Prop} {d r : Nat} {D : Nat → Nat} (hd : d < 120) (h : tx_Dx rnk dmx d r D) (H : post (nI (tz_el D r))) : wpX_elements post (xnc, xfr, xol, xnw, xtp, xsc, nod, ofs, rnk, dmx, stx, its, knd, rfs, siz, oldr, newr, stt, blw, arn, slo, mvd, sls) (nI d) :=
  ⟨4, tx_el4 hd h H 4 0 (by omega) (by have := h.2.1; omega)⟩
theorem tx_ad20 {post : Int32 → Prop} {d r : Nat} {D : Nat → Nat} (hd : d < 120) (h : tx_Dx rnk dmx d r D) : ∀ n j q a, j ≤ r → j < n → q < 2 ^ 31 → post (tz_adl D (fun i => stx (3 * d + i)) j q a) → wX_address_20 post (nI d) xnc xfr xol xnw xtp xsc nod ofs rnk dmx stx its knd rfs siz oldr newr stt blw arn slo mvd sls n a (nI q) (nI j - 1) := by
  obtain ⟨hr, hr3, hD⟩ := h
  intro n
  induction n with
  | zero => intro j q a _ h; omega
  | succ n ih =>
    intro j q a h1 h2 h3 H
    cases j with
    | zero => exact br_t tz_dm0 H
    | succ j =>
      have hDj := hD j (by omega)
      have e1 := hDj.1
      have hq : q / D j < 2 ^ 31 := Nat.lt_of_le_of_lt (Nat.div_le_self _ _) h3
      simp (disch := omega) only [wX_address_20, nI_pred, tz_lt0, tz_3n, nI_add, e1, pk_div, pk_mul, tz_rem', nI_ne0, tz_dm, forall_eq, nI_leI, nI_ltI, nI_eq, vp_in_nI, nI_clamp, nI_1, true_implies, forall_const, not_true_eq_false, not_false_eq_true, false_implies, and_true, true_and, implies_true, and_self]
      exact ih j _ _ (by omega) (by omega) hq H
theorem tx_ad {post : Int32 → Prop} {d r e : Nat} {D : Nat → Nat} (hd : d < 120) (h : tx_Dx rnk dmx d r D) (he : e < 2 ^ 31) (H : post (tz_adl D (fun i => stx (3 * d + i)) r e (ofs d))) : wpX_address post (xnc, xfr, xol, xnw, xtp, xsc, nod, ofs, rnk, dmx, stx, its, knd, rfs, siz, oldr, newr, stt, blw, arn, slo, mvd, sls) (nI d) (nI e) := by
  have hr := h.1
  have K := tx_ad20 (post := post) (xnc := xnc) (xfr := xfr) (xol := xol) (xnw := xnw) (xtp := xtp) (xsc := xsc) (nod := nod) (ofs := ofs) (rnk := rnk) (dmx := dmx) (stx := stx) (its := its) (knd := knd) (rfs := rfs) (siz := siz) (oldr := oldr) (newr := newr) (stt := stt) (blw := blw) (arn := arn) (slo := slo) (mvd := mvd) (sls := sls) hd h 4 r e (ofs d) (Nat.le_refl _) (by have := h.2.1; omega) he H
  unfold wpX_address
  simp (disch := omega) only [hr, forall_eq, nI_leI, nI_ltI, nI_eq, vp_in_nI, nI_clamp, nI_1, true_implies, forall_const, not_true_eq_false, not_false_eq_true, false_implies, and_true, true_and, implies_true, and_self]
  exact ⟨4, K⟩
theorem tx_al {post : Int32 → Prop} {d r j : Nat} {D : Nat → Nat} {p : Int32} (hd : d < 120) (h : tx_Dx rnk dmx d r D) (hj : j < r) (hp : nI r + p = nI j) (H : post (nI (D j))) : wpX_along post (xnc, xfr, xol, xnw, xtp, xsc, nod, ofs, rnk, dmx, stx, its, knd, rfs, siz, oldr, newr, stt, blw, arn, slo, mvd, sls) (nI d) p := by
  obtain ⟨hr, hr3, hD⟩ := h
  have e1 := (hD j hj).1
  unfold wpX_along
  simp (disch := omega) only [hr, hp, tz_ge0, tz_3n, nI_add, e1, forall_eq, nI_leI, nI_ltI, nI_eq, vp_in_nI, nI_clamp, nI_1, true_implies, forall_const, not_true_eq_false, not_false_eq_true, false_implies, and_true, true_and, implies_true, and_self]
  exact H
theorem tx_al1 {post : Int32 → Prop} {d r : Nat} {D : Nat → Nat} {p : Int32} (hd : d < 120) (h : tx_Dx rnk dmx d r D) (hp : ¬ 0 ≤ nI r + p) (H : post 1) : wpX_along post (xnc, xfr, xol, xnw, xtp, xsc, nod, ofs, rnk, dmx, stx, its, knd, rfs, siz, oldr, newr, stt, blw, arn, slo, mvd, sls) (nI d) p := by
  obtain ⟨hr, hr3, hD⟩ := h
  unfold wpX_along
  simp (disch := omega) only [hr, hp, forall_eq, nI_leI, nI_ltI, nI_eq, vp_in_nI, nI_clamp, nI_1, true_implies, forall_const, not_true_eq_false, not_false_eq_true, false_implies, and_true, true_and, implies_true, and_self]
  exact H
/-- the last dimension, 1 if there is none -/
def tz_last (D : Nat → Nat) (r : Nat) : Nat := if r = 0 then 1 else D (r - 1)
theorem tx_al_l {post : Int32 → Prop} {d r : Nat} {D : Nat → Nat} (hd : d < 120) (h : tx_Dx rnk dmx d r D) (H : post (nI (tz_last D r))) : wpX_along post (xnc, xfr, xol, xnw, xtp, xsc, nod, ofs, rnk, dmx, stx, its, knd, rfs, siz, oldr, newr, stt, blw, arn, slo, mvd, sls) (nI d) (-1) := by
  by_cases e : r = 0
  · subst e
    exact tx_al1 (xnc := xnc) (xfr := xfr) (xol := xol) (xnw := xnw) (xtp := xtp) (xsc := xsc) (nod := nod) (ofs := ofs) (rnk := rnk) (dmx := dmx) (stx := stx) (its := its) (knd := knd) (rfs := rfs) (siz := siz) (oldr := oldr) (newr := newr) (stt := stt) (blw := blw) (arn := arn) (slo := slo) (mvd := mvd) (sls := sls) hd h (by decide) H
  · refine tx_al (xnc := xnc) (xfr := xfr) (xol := xol) (xnw := xnw) (xtp := xtp) (xsc := xsc) (nod := nod) (ofs := ofs) (rnk := rnk) (dmx := dmx) (stx := stx) (its := its) (knd := knd) (rfs := rfs) (siz := siz) (oldr := oldr) (newr := newr) (stt := stt) (blw := blw) (arn := arn) (slo := slo) (mvd := mvd) (sls := sls) hd h (j := r - 1) (by omega) (tz_m1 (by omega)) ?_
    have : tz_last D r = D (r - 1) := if_neg e
    rw [← this]
    exact H
/-- descriptor d of node m, at element i: the place a in that node -/
def tx_Rd (ofs stx : Nat → Int32) (d r : Nat) (D : Nat → Nat) (i a : Nat) : Prop := tz_adl D (fun j => stx (3 * d + j)) r i (ofs d) = nI a
theorem tx_sh {post : Int32 → Prop} {d r e m st a : Nat} {D : Nat → Nat} (hd : d < 120) (h : tx_Dx rnk dmx d r D) (he : e < 2 ^ 31) (hm : nod d = nI m) (hm2 : m < 32) (hst : stt m = nI st) (hsa : st + a < 320) (ha : tx_Rd ofs stx d r D e a) (H : post (arn (st + a))) : wpX_shown post (xnc, xfr, xol, xnw, xtp, xsc, nod, ofs, rnk, dmx, stx, its, knd, rfs, siz, oldr, newr, stt, blw, arn, slo, mvd, sls) (nI d) (nI e) := by
  unfold wpX_shown
  refine tx_ad (xnc := xnc) (xfr := xfr) (xol := xol) (xnw := xnw) (xtp := xtp) (xsc := xsc) (nod := nod) (ofs := ofs) (rnk := rnk) (dmx := dmx) (stx := stx) (its := its) (knd := knd) (rfs := rfs) (siz := siz) (oldr := oldr) (newr := newr) (stt := stt) (blw := blw) (arn := arn) (slo := slo) (mvd := mvd) (sls := sls) hd h he ?_
  unfold tx_Rd at ha
  simp (disch := omega) only [ha, hm, hst, nI_add, forall_eq, nI_leI, nI_ltI, nI_eq, vp_in_nI, nI_clamp, nI_1, true_implies, forall_const, not_true_eq_false, not_false_eq_true, false_implies, and_true, true_and, implies_true, and_self]
  exact H
theorem tx_add {post : SX → Prop} {d r e m st a : Nat} {D : Nat → Nat} {g : Int32} (hd : d < 120) (h : tx_Dx rnk dmx d r D) (he : e < 2 ^ 31) (hm : nod d = nI m) (hm2 : m < 32) (hst : stt m = nI st) (hsa : st + a < 320) (ha : tx_Rd ofs stx d r D e a) (H : post (xnc, xfr, xol, xnw, xtp, xsc, nod, ofs, rnk, dmx, stx, its, knd, rfs, siz, oldr, newr, stt, blw, arn, upd slo (st + a) (slo (st + a) + g), mvd, sls)) : wpX_add post (xnc, xfr, xol, xnw, xtp, xsc, nod, ofs, rnk, dmx, stx, its, knd, rfs, siz, oldr, newr, stt, blw, arn, slo, mvd, sls) (nI d) (nI e) g := by
  unfold wpX_add
  refine tx_ad (xnc := xnc) (xfr := xfr) (xol := xol) (xnw := xnw) (xtp := xtp) (xsc := xsc) (nod := nod) (ofs := ofs) (rnk := rnk) (dmx := dmx) (stx := stx) (its := its) (knd := knd) (rfs := rfs) (siz := siz) (oldr := oldr) (newr := newr) (stt := stt) (blw := blw) (arn := arn) (slo := slo) (mvd := mvd) (sls := sls) hd h he ?_
  unfold tx_Rd at ha
  simp (disch := omega) only [ha, hm, hst, nI_add, forall_eq, nI_leI, nI_ltI, nI_eq, vp_in_nI, nI_clamp, nI_1, true_implies, forall_const, not_true_eq_false, not_false_eq_true, false_implies, and_true, true_and, implies_true, and_self]
  exact H
end XR
end
section
/-! the component's descriptors: copy, exchange, rows -/
theorem tz_c0 : ¬ (3 : Int32) ≤ nI 0 := by decide
theorem tz_c1 : ¬ (3 : Int32) ≤ nI 1 := by decide
theorem tz_c2 : ¬ (3 : Int32) ≤ nI 2 := by decide
theorem tz_c3 : (3 : Int32) ≤ nI 3 := by decide
theorem tz_i0 : nI 0 + 1 = nI 1 := rfl
theorem tz_i1 : nI 1 + 1 = nI 2 := rfl
theorem tz_i2 : nI 2 + 1 = nI 3 := rfl
def tx_cp (a : Nat → Int32) (f t : Nat) : Nat → Int32 := upd (upd (upd a (3 * t + 0) (vp_nar .byte (a (3 * f + 0)))) (3 * t + 1) (vp_nar .byte (a (3 * f + 1)))) (3 * t + 2) (vp_nar .byte (a (3 * f + 2)))
theorem tx_cp_t {a : Nat → Int32} {f t i : Nat} (hi : i < 3) : tx_cp a f t (3 * t + i) = vp_nar .byte (a (3 * f + i)) := by
  unfold tx_cp
  rcases (by omega : i = 0 ∨ i = 1 ∨ i = 2) with rfl | rfl | rfl
  · rw [pk_un (by omega), pk_un (by omega), pk_us]
  · rw [pk_un (by omega), pk_us]
  · rw [pk_us]
theorem tx_cp_n {a : Nat → Int32} {f t j : Nat} (h : j < 3 * t ∨ 3 * t + 3 ≤ j) : tx_cp a f t j = a j := by
  unfold tx_cp
  rw [pk_un (by omega), pk_un (by omega), pk_un (by omega)]
theorem tx_cp_d {a : Nat → Int32} {f t d i : Nat} (h : d ≠ t) (hi : i < 3) : tx_cp a f t (3 * d + i) = a (3 * d + i) := tx_cp_n (by omega)
def tx_ex (a : Nat → Int32) (i j : Nat) : Nat → Int32 := upd (upd a i (vp_nar .byte (a j))) j (vp_nar .byte (a i))
theorem tx_ex_n {a : Nat → Int32} {i j k : Nat} (h1 : k ≠ i) (h2 : k ≠ j) : tx_ex a i j k = a k := by
  unfold tx_ex
  rw [pk_un h2, pk_un h1]
theorem tx_ex_j {a : Nat → Int32} {i j : Nat} : tx_ex a i j j = vp_nar .byte (a i) := pk_us
theorem tx_ex_i {a : Nat → Int32} {i j : Nat} : tx_ex a i j i = vp_nar .byte (a j) := by
  unfold tx_ex
  by_cases h : i = j
  · subst h; rw [pk_us]
  · rw [pk_un h, pk_us]
section XW
variable {xnc xfr xol xnw xtp xsc : Int32} {nod ofs rnk dmx stx its knd rfs siz oldr newr stt blw arn slo mvd sls : Nat → Int32}
theorem tx_copy {post : SX → Prop} {f t : Nat} (hf : f < 120) (ht : t < 120) (hft : f ≠ t) (H : post (xnc, xfr, xol, xnw, xtp, xsc, upd nod t (vp_nar .byte (nod f)), upd ofs t (vp_nar .short (ofs f)), upd rnk t (vp_nar .byte (rnk f)), tx_cp dmx f t, tx_cp stx f t, its, knd, rfs, siz, oldr, newr, stt, blw, arn, slo, mvd, sls)) : wpX_copy post (xnc, xfr, xol, xnw, xtp, xsc, nod, ofs, rnk, dmx, stx, its, knd, rfs, siz, oldr, newr, stt, blw, arn, slo, mvd, sls) (nI f) (nI t) := by
  have K : wX_copy_38 post (nI f) (nI t) xnc xfr xol xnw xtp xsc 4 (nI 0) (upd nod t (vp_nar .byte (nod f))) (upd ofs t (vp_nar .short (ofs f))) (upd rnk t (vp_nar .byte (rnk f))) dmx stx its knd rfs siz oldr newr stt blw arn slo mvd sls := by
    simp (disch := omega) only [wX_copy_38, tz_c0, tz_c1, tz_c2, tz_c3, tz_i0, tz_i1, tz_i2, tz_3n, nI_add, vp_in_nI, nI_clamp, pk_un, forall_eq, true_implies, forall_const, not_true_eq_false, not_false_eq_true, false_implies, and_true, true_and, implies_true, and_self]
    exact H
  unfold wpX_copy
  simp (disch := omega) only [vp_in_nI, nI_clamp, forall_eq, true_and]
  exact ⟨4, K⟩
theorem tx_exch {post : SX → Prop} {d a b : Nat} (hd : d < 120) (ha : a < 3) (hb : b < 3) (H : post (xnc, xfr, xol, xnw, xtp, xsc, nod, ofs, rnk, tx_ex dmx (3 * d + a) (3 * d + b), tx_ex stx (3 * d + a) (3 * d + b), its, knd, rfs, siz, oldr, newr, stt, blw, arn, slo, mvd, sls)) : wpX_exchange post (xnc, xfr, xol, xnw, xtp, xsc, nod, ofs, rnk, dmx, stx, its, knd, rfs, siz, oldr, newr, stt, blw, arn, slo, mvd, sls) (nI d) (nI a) (nI b) := by
  unfold wpX_exchange
  simp (disch := omega) only [tz_3n, nI_add, vp_in_nI, nI_clamp, forall_eq, true_and]
  exact H
/-- the strides of row by row -/
def tx_Row (stx : Nat → Int32) (D : Nat → Nat) (d r j : Nat) : Prop := ∀ i, j ≤ i → i < r → stx (3 * d + i) = nI (tz_pr D (i + 1) (r - 1 - i))
theorem tx_rows18 {post : Int32 → SX → Prop} {d r : Nat} {D : Nat → Nat} {stx0 : Nat → Int32} (hd : d < 120) (h : tx_Dx rnk dmx d r D) (H : ∀ x stx', tx_Row stx' D d r 0 → (∀ j, (j < 3 * d ∨ 3 * d + 3 ≤ j) → stx' j = stx0 j) → post x (xnc, xfr, xol, xnw, xtp, xsc, nod, ofs, rnk, dmx, stx', its, knd, rfs, siz, oldr, newr, stt, blw, arn, slo, mvd, sls)) : ∀ n j stx, j ≤ r → j < n → tx_Row stx D d r j → (∀ j, (j < 3 * d ∨ 3 * d + 3 ≤ j) → stx j = stx0 j) → wX_rows_18 post (nI d) xnc xfr xol xnw xtp xsc n (nI (tz_pr D j (r - j))) (nI j - 1) nod ofs rnk dmx stx its knd rfs siz oldr newr stt blw arn slo mvd sls := by
  obtain ⟨hr, hr3, hD⟩ := h
  intro n
  induction n with
  | zero => intro j stx _ h; omega
  | succ n ih =>
    intro j stx h1 h2 h3 h4
    cases j with
    | zero => exact br_t tz_dm0 (H _ _ h3 h4)
    | succ j =>
      have hDj := hD j (by omega)
      have e1 := hDj.1
      have eb : tz_pr D (j + 1) (r - (j + 1)) ≤ 64 := by
        have q := (tz_prb (D := D) (i := j + 1) (r - (j + 1)) (fun a _ ha => (hD a (by omega)).2)).2
        have q3 : (4 : Nat) ^ (r - (j + 1)) ≤ 4 ^ 3 := Nat.pow_le_pow_right (by decide) (by omega)
        exact Nat.le_trans q q3
      have ep : tz_pr D (j + 1) (r - (j + 1)) * D j = tz_pr D j (r - j) := by
        rw [show r - j = (r - (j + 1)) + 1 from by omega, tz_prf, Nat.mul_comm]
      have eq8 : (nI (tz_pr D (j + 1) (r - (j + 1)))).toInt8.toInt32 = nI (tz_pr D (j + 1) (r - (j + 1))) := tz_b8 _ (by omega)
      have eqn : vp_nar .byte (nI (tz_pr D (j + 1) (r - (j + 1)))) = nI (tz_pr D (j + 1) (r - (j + 1))) := tz_nb (by omega)
      simp (disch := omega) only [wX_rows_18, nI_pred, tz_lt0, tz_3n, nI_add, e1, pk_mul, ep, eq8, eqn, tz_dm, forall_eq, nI_leI, nI_ltI, nI_eq, vp_in_nI, nI_clamp, nI_1, true_implies, forall_const, not_true_eq_false, not_false_eq_true, false_implies, and_true, true_and, implies_true, and_self]
      refine ih j _ (by omega) (by omega) ?_ ?_
      · intro i hi1 hi2
        by_cases e : i = j
        · subst e
          rw [pk_us, show r - 1 - i = r - (i + 1) from by omega]
        · rw [pk_un (by omega)]
          exact h3 i (by omega) hi2
      · intro k hk
        rw [pk_un (by omega)]
        exact h4 k hk
theorem tx_rows {post : Int32 → SX → Prop} {d r : Nat} {D : Nat → Nat} (hd : d < 120) (h : tx_Dx rnk dmx d r D) (H : ∀ x stx', tx_Row stx' D d r 0 → (∀ j, (j < 3 * d ∨ 3 * d + 3 ≤ j) → stx' j = stx j) → post x (xnc, xfr, xol, xnw, xtp, xsc, nod, upd ofs d 0, rnk, dmx, stx', its, knd, rfs, siz, oldr, newr, stt, blw, arn, slo, mvd, sls)) : wpX_rows post (xnc, xfr, xol, xnw, xtp, xsc, nod, ofs, rnk, dmx, stx, its, knd, rfs, siz, oldr, newr, stt, blw, arn, slo, mvd, sls) (nI d) := by
  have hr := h.1
  have K := tx_rows18 (post := post) (ofs := upd ofs d 0) (stx0 := stx) hd h H 4 r stx (Nat.le_refl _) (by have := h.2.1; omega) (fun i _ _ => by omega) (fun _ _ => rfl)
  rw [Nat.sub_self, tz_pr0] at K
  unfold wpX_rows
  simp (disch := omega) only [hr, vp_in_nI, nI_clamp, forall_eq, true_and, tz_ns0]
  exact ⟨4, K⟩
end XW
end
section
/-! the reference's reading methods -/
theorem tz_r1 : (1 : Int32) = nI 1 := rfl
theorem tz_alsub (a R r : Nat) : nI a - nI R + nI r = nI (a + r) - nI R := by
  rw [← nI_add]; grind
theorem tz_alsub' (a R r : Nat) : nI r + (nI a - nI R) = nI (a + r) - nI R := by
  rw [← nI_add]; grind
def ty_ix (D : Nat → Nat) (r e a : Nat) : Nat := if a < r then tz_dg D r e a else 0
def ty_x3 (i j k : Nat) : Nat → Nat := fun a => if a = 0 then i else if a = 1 then j else k
theorem ty_ixlt {D : Nat → Nat} {r e a : Nat} (h : ∀ i, i < r → 1 ≤ D i) : a < r → ty_ix D r e a < D a := by
  intro ha
  unfold ty_ix
  rw [if_pos ha]
  exact tz_dglt (h a ha)
theorem ty_ix4 {D : Nat → Nat} {r e a : Nat} (h : ∀ i, i < r → 1 ≤ D i ∧ D i ≤ 4) : ty_ix D r e a < 4 := by
  by_cases ha : a < r
  · exact Nat.lt_of_lt_of_le (ty_ixlt (fun i hi => (h i hi).1) ha) (h a ha).2
  · unfold ty_ix; rw [if_neg ha]; decide
def tz_al (D : Nat → Nat) (r R a : Nat) : Nat := if R ≤ a + r then D (a + r - R) else 1
def ty_sp (D : Nat → Nat) (r : Nat) (N : Nat → Nat) (R e : Nat) : Nat → Nat
  | 0 => 0
  | a + 1 => ty_sp D r N R e a * tz_al D r R a + (if tz_al D r R a = 1 then 0 else ty_ix N R e a)
theorem ty_sps (D : Nat → Nat) (r : Nat) (N : Nat → Nat) (R e a : Nat) : ty_sp D r N R e (a + 1) = ty_sp D r N R e a * tz_al D r R a + (if tz_al D r R a = 1 then 0 else ty_ix N R e a) := rfl
section YR
variable {ycs ysc : Int32} {usd yrk yds shn tof vw exs ykd fst snd own prt pct val ysl ord ysls : Nat → Int32}
theorem ty_is1 {post : Int32 → Prop} {h : Nat} (hh : h < 24) (hn : ¬ usd h = 0) (H : post 1) : wpY_isHandle post (ycs, ysc, usd, yrk, yds, shn, tof, vw, exs, ykd, fst, snd, own, prt, pct, val, ysl, ord, ysls) (nI h) :=
  br_f (nI_pos (by omega)) (br_f (nI_ge (b := 24) hh (by decide)) ⟨vp_in_nI (by omega) (by omega), br_f (by rw [nI_clamp (by omega)]; exact hn) H⟩)
theorem ty_is0 {post : Int32 → Prop} {h : Nat} (hh : h < 24) (hn : usd h = 0) (H : post 0) : wpY_isHandle post (ycs, ysc, usd, yrk, yds, shn, tof, vw, exs, ykd, fst, snd, own, prt, pct, val, ysl, ord, ysls) (nI h) :=
  br_f (nI_pos (by omega)) (br_f (nI_ge (b := 24) hh (by decide)) ⟨vp_in_nI (by omega) (by omega), br_t (by rw [nI_clamp (by omega)]; exact hn) H⟩)
theorem ty_isn {post : Int32 → Prop} {p : Int32} (hp : p < 0 ∨ 24 ≤ p) (H : post 0) : wpY_isHandle post (ycs, ysc, usd, yrk, yds, shn, tof, vw, exs, ykd, fst, snd, own, prt, pct, val, ysl, ord, ysls) p := by
  rcases hp with h | h
  · exact br_t h H
  · exact br_c (fun _ => H) (fun _ => br_t h H)
theorem ty_fh2 {post : Int32 → Prop} {v : Nat} (hv : v ≤ 24) (hu : ∀ j, j < v → ¬ usd j = 0) (hf : v < 24 → usd v = 0) (H : post (nI v)) : ∀ n j, j ≤ v → v - j < n → wY_freeHandle_2 post ycs ysc usd yrk yds shn tof vw exs ykd fst snd own prt pct val ysl ord ysls n (nI j) := by
  intro n
  induction n with
  | zero => intro j _ h; omega
  | succ n ih =>
    intro j h1 h2
    by_cases e : j = v
    · subst e
      by_cases e2 : j < 24
      · exact br_f (nI_ge (b := 24) e2 (by decide)) ⟨vp_in_nI (by omega) (by omega), br_t (by rw [nI_clamp (by omega)]; exact hf e2) H⟩
      · exact br_t (nI_le (a := 24) (by omega) (by omega)) H
    · exact br_f (nI_ge (b := 24) (by omega) (by decide)) ⟨vp_in_nI (by omega) (by omega), br_f (by rw [nI_clamp (by omega)]; exact hu j (by omega)) (nm_r (nI_1 j) (ih (j + 1) (by omega) (by omega)))⟩
theorem ty_fh {post : Int32 → Prop} {v : Nat} (hv : v ≤ 24) (hu : ∀ j, j < v → ¬ usd j = 0) (hf : v < 24 → usd v = 0) (H : post (nI v)) : wpY_freeHandle post (ycs, ysc, usd, yrk, yds, shn, tof, vw, exs, ykd, fst, snd, own, prt, pct, val, ysl, ord, ysls) :=
  ⟨25, ty_fh2 hv hu hf H 25 0 (by omega) (by omega)⟩
theorem ty_dim {post : Int32 → Prop} {h i : Nat} {x : Int32} (hh : h < 25) (hi : i < 3) (hx : yds (3 * h + i) = x) (H : post x) : wpY_dim post (ycs, ysc, usd, yrk, yds, shn, tof, vw, exs, ykd, fst, snd, own, prt, pct, val, ysl, ord, ysls) (nI h) (nI i) := by
  unfold wpY_dim
  simp (disch := omega) only [tz_n3, nI_add, vp_in_nI, nI_clamp, true_and, hx]
  exact H
theorem ty_sz4 {post : Int32 → Prop} {d r : Nat} {D : Nat → Nat} (hd : d < 25) (h : tx_Dx yrk yds d r D) (H : post (nI (tz_el D r))) : ∀ n i, i ≤ r → r - i < n → wY_size_4 post (nI d) ycs ysc usd yrk yds shn tof vw exs ykd fst snd own prt pct val ysl ord ysls n (nI (tz_el D i)) (nI i) := by
  obtain ⟨hr, hr3, hD⟩ := h
  intro n
  induction n with
  | zero => intro i _ h; omega
  | succ n ih =>
    intro i h1 h2
    by_cases e : i < r
    · have hDi := (hD i e).1
      have e2 : ¬ r ≤ i := by omega
      simp (disch := omega) only [wY_size_4, hr, e2, forall_eq, nI_leI, nI_ltI, nI_eq, vp_in_nI, nI_clamp, nI_1, true_implies, forall_const, not_true_eq_false, not_false_eq_true, false_implies, and_true, true_and, implies_true, and_self]
      refine ty_dim hd (by omega) hDi ?_
      simp only [pk_mul, ← tz_els, nI_1, forall_eq]
      exact ih (i + 1) (by omega) (by omega)
    · have e3 : i = r := by omega
      subst e3
      simp (disch := omega) only [wY_size_4, hr, Nat.le_refl, forall_eq, nI_leI, nI_ltI, nI_eq, vp_in_nI, nI_clamp, nI_1, true_implies, forall_const, not_true_eq_false, not_false_eq_true, false_implies, and_true, true_and, implies_true, and_self]
      exact H
theorem ty_sz {post : Int32 → Prop} {d r : Nat} {D : Nat → Nat} (hd : d < 25) (h : tx_Dx yrk yds d r D) (H : post (nI (tz_el D r))) : wpY_size post (ycs, ysc, usd, yrk, yds, shn, tof, vw, exs, ykd, fst, snd, own, prt, pct, val, ysl, ord, ysls) (nI d) :=
  ⟨4, ty_sz4 hd h H 4 0 (by omega) (by have := h.2.1; omega)⟩
theorem ty_ix57 {post : Int32 → Prop} {e l d : Nat} (he : e < 2 ^ 31) (hl : 1 ≤ l) (hl2 : l < 2 ^ 31) (hd : 1 ≤ d) (hd2 : d < 2 ^ 31) (H : post (nI (e / l % d))) : wY_index_57 post (nI e) (nI l) (nI d) ycs ysc usd yrk yds shn tof vw exs ykd fst snd own prt pct val ysl ord ysls := by
  have hq : e / l < 2 ^ 31 := Nat.lt_of_le_of_lt (Nat.div_le_self _ _) he
  have e1 : ¬ nI l < 1 := nI_nlt (b := 1) hl hl2
  have e2 : (1 : Int32) ≤ nI d := nI_le (a := 1) hd hd2
  unfold wY_index_57
  simp (disch := omega) only [e1, e2, nI_ne0, pk_div, pk_mul, tz_rem', forall_eq, nI_leI, nI_ltI, nI_eq, vp_in_nI, nI_clamp, nI_1, true_implies, forall_const, not_true_eq_false, not_false_eq_true, false_implies, and_true, true_and, implies_true, and_self]
  exact H
theorem ty_ix8 {post : Int32 → Prop} {d r e a : Nat} {D : Nat → Nat} (hd : d < 25) (h : tx_Dx yrk yds d r D) (he : e < 2 ^ 31) (ha : a < 3) (H : post (nI (ty_ix D r e a))) : ∀ n k, (k = 0 ∨ a + 1 + k ≤ r) → r - (a + 1 + k) < n → wY_index_8 post (nI d) (nI e) (nI a) ycs ysc usd yrk yds shn tof vw exs ykd fst snd own prt pct val ysl ord ysls n (nI (tz_pr D (a + 1) k)) (nI (a + 1 + k)) := by
  obtain ⟨hr, hr3, hD⟩ := h
  intro n
  induction n with
  | zero => intro k _ h; omega
  | succ n ih =>
    intro k h1 h2
    by_cases q : a + 1 + k < r
    · have hDi := (hD _ q).1
      have e2 : ¬ r ≤ a + 1 + k := by omega
      simp (disch := omega) only [wY_index_8, hr, e2, vp_in_nI, nI_clamp, nI_leI, true_implies, not_false_eq_true, false_implies, true_and]
      refine ty_dim hd (by omega) hDi ?_
      simp only [pk_mul, ← tz_prs, nI_1, forall_eq]
      exact ih (k + 1) (by omega) (by omega)
    · have e2 : r ≤ a + 1 + k := by omega
      have hb : 1 ≤ tz_pr D (a + 1) k ∧ tz_pr D (a + 1) k ≤ 4 ^ k := tz_prb k (fun i _ hi => (hD i (by omega)).2)
      have hk : k ≤ 3 := by omega
      have hb3 : (4 : Nat) ^ k ≤ 4 ^ 3 := Nat.pow_le_pow_right (by decide) hk
      have hb4 : tz_pr D (a + 1) k < 2 ^ 31 := Nat.lt_of_le_of_lt (Nat.le_trans hb.2 hb3) (by decide)
      by_cases c : a < r
      · have hDa := hD a c
        have e3 : ¬ r ≤ a := by omega
        simp (disch := omega) only [wY_index_8, hr, e2, e3, vp_in_nI, nI_clamp, nI_leI, true_implies, not_true_eq_false, not_false_eq_true, false_implies, true_and, and_true]
        refine ty_dim hd (by omega) hDa.1 ?_
        refine ty_ix57 he hb.1 hb4 hDa.2.1 (by omega) ?_
        have ek : k = r - 1 - a := by omega
        have ei : ty_ix D r e a = e / tz_pr D (a + 1) k % D a := by
          unfold ty_ix
          rw [if_pos c, ek]
          rfl
        rw [← ei]
        exact H
      · have e3 : r ≤ a := by omega
        have ek : k = 0 := by omega
        subst ek
        simp (disch := omega) only [wY_index_8, hr, e2, e3, vp_in_nI, nI_clamp, nI_leI, true_implies, not_true_eq_false, not_false_eq_true, false_implies, true_and, and_true]
        refine ty_ix57 (d := 1) he hb.1 hb4 (Nat.le_refl _) (by decide) ?_
        have ei : ty_ix D r e a = e / tz_pr D (a + 1) 0 % 1 := by
          unfold ty_ix
          rw [if_neg c, Nat.mod_one]
        rw [← ei]
        exact H
theorem ty_index {post : Int32 → Prop} {d r e a : Nat} {D : Nat → Nat} (hd : d < 25) (h : tx_Dx yrk yds d r D) (he : e < 2 ^ 31) (ha : a < 3) (H : post (nI (ty_ix D r e a))) : wpY_index post (ycs, ysc, usd, yrk, yds, shn, tof, vw, exs, ykd, fst, snd, own, prt, pct, val, ysl, ord, ysls) (nI d) (nI e) (nI a) := by
  unfold wpY_index
  simp only [nI_1, forall_eq]
  exact ⟨4, ty_ix8 hd h he ha H 4 0 (Or.inl rfl) (by have := h.2.1; omega)⟩
theorem ty_cellAt {post : Int32 → Prop} {d r i j k : Nat} {D : Nat → Nat} (hd : d < 25) (h : tx_Dx yrk yds d r D) (hb : tz_fl D (ty_x3 i j k) r < 64) (H : post (shn (64 * d + tz_fl D (ty_x3 i j k) r))) : wpY_cellAt post (ycs, ysc, usd, yrk, yds, shn, tof, vw, exs, ykd, fst, snd, own, prt, pct, val, ysl, ord, ysls) (nI d) (nI i) (nI j) (nI k) := by
  obtain ⟨hr, hr3, hD⟩ := h
  have z0 : (nI 0 ≤ (0 : Int32)) = True := by decide
  rcases (by omega : r = 0 ∨ r = 1 ∨ r = 2 ∨ r = 3) with rfl | rfl | rfl | rfl
  · have c0 : nI 0 ≤ (0 : Int32) := by decide
    have c1 : nI 0 ≤ (1 : Int32) := by decide
    have c2 : nI 0 ≤ (2 : Int32) := by decide
    have ef : tz_fl D (ty_x3 i j k) 0 = 0 := rfl
    rw [ef] at H
    unfold wpY_cellAt
    simp (disch := omega) only [hr, c0, vp_in_nI, nI_clamp, true_implies, not_true_eq_false, false_implies, true_and, and_true]
    unfold wY_cellAt_14
    simp (disch := omega) only [hr, c1, vp_in_nI, nI_clamp, true_implies, not_true_eq_false, false_implies, true_and, and_true]
    unfold wY_cellAt_39
    simp (disch := omega) only [hr, c2, vp_in_nI, nI_clamp, true_implies, not_true_eq_false, false_implies, true_and, and_true]
    unfold wY_cellAt_63
    rw [tz_64n, show (0 : Int32) = nI 0 from rfl, nI_add, nI_clamp (by omega)]
    exact ⟨vp_in_nI (by omega) (by omega), H⟩
  · have c0 : ¬ nI 1 ≤ (0 : Int32) := by decide
    have c1 : nI 1 ≤ (1 : Int32) := by decide
    have c2 : nI 1 ≤ (2 : Int32) := by decide
    have ef : tz_fl D (ty_x3 i j k) 1 = i := by
      show 0 * D 0 + i = i
      omega
    rw [ef] at H hb
    unfold wpY_cellAt
    simp (disch := omega) only [hr, c0, vp_in_nI, nI_clamp, true_implies, not_false_eq_true, false_implies, true_and, and_true]
    unfold wY_cellAt_14
    simp (disch := omega) only [hr, c1, vp_in_nI, nI_clamp, true_implies, not_true_eq_false, false_implies, true_and, and_true]
    unfold wY_cellAt_39
    simp (disch := omega) only [hr, c2, vp_in_nI, nI_clamp, true_implies, not_true_eq_false, false_implies, true_and, and_true]
    unfold wY_cellAt_63
    rw [tz_64n, nI_add, nI_clamp (by omega)]
    exact ⟨vp_in_nI (by omega) (by omega), H⟩
  · have c0 : ¬ nI 2 ≤ (0 : Int32) := by decide
    have c1 : ¬ nI 2 ≤ (1 : Int32) := by decide
    have c2 : nI 2 ≤ (2 : Int32) := by decide
    have hD1 := (hD 1 (by omega)).1
    have ef : tz_fl D (ty_x3 i j k) 2 = i * D 1 + j := by
      show (0 * D 0 + i) * D 1 + j = i * D 1 + j
      rw [Nat.zero_mul, Nat.zero_add]
    rw [ef] at H hb
    unfold wpY_cellAt
    simp (disch := omega) only [hr, c0, vp_in_nI, nI_clamp, true_implies, not_false_eq_true, false_implies, true_and, and_true]
    unfold wY_cellAt_14
    simp (disch := omega) only [hr, c1, vp_in_nI, nI_clamp, true_implies, not_false_eq_true, false_implies, true_and, and_true]
    refine ty_dim (i := 1) hd (by omega) hD1 ?_
    simp only [pk_mul, nI_add, forall_eq]
    unfold wY_cellAt_39
    simp (disch := omega) only [hr, c2, vp_in_nI, nI_clamp, true_implies, not_true_eq_false, false_implies, true_and, and_true]
    unfold wY_cellAt_63
    rw [tz_64n, nI_add, nI_clamp (by omega)]
    exact ⟨vp_in_nI (by omega) (by omega), H⟩
  · have c0 : ¬ nI 3 ≤ (0 : Int32) := by decide
    have c1 : ¬ nI 3 ≤ (1 : Int32) := by decide
    have c2 : ¬ nI 3 ≤ (2 : Int32) := by decide
    have hD1 := (hD 1 (by omega)).1
    have hD2 := (hD 2 (by omega)).1
    have ef : tz_fl D (ty_x3 i j k) 3 = (i * D 1 + j) * D 2 + k := by
      show ((0 * D 0 + i) * D 1 + j) * D 2 + k = _
      rw [Nat.zero_mul, Nat.zero_add]
    rw [ef] at H hb
    unfold wpY_cellAt
    simp (disch := omega) only [hr, c0, vp_in_nI, nI_clamp, true_implies, not_false_eq_true, false_implies, true_and, and_true]
    unfold wY_cellAt_14
    simp (disch := omega) only [hr, c1, vp_in_nI, nI_clamp, true_implies, not_false_eq_true, false_implies, true_and, and_true]
    refine ty_dim (i := 1) hd (by omega) hD1 ?_
    simp only [pk_mul, nI_add, forall_eq]
    unfold wY_cellAt_39
    simp (disch := omega) only [hr, c2, vp_in_nI, nI_clamp, true_implies, not_false_eq_true, false_implies, true_and, and_true]
    refine ty_dim (i := 2) hd (by omega) hD2 ?_
    simp only [pk_mul, nI_add, forall_eq]
    unfold wY_cellAt_63
    rw [tz_64n, nI_add, nI_clamp (by omega)]
    exact ⟨vp_in_nI (by omega) (by omega), H⟩
theorem ty_aligned {post : Int32 → Prop} {d r R a : Nat} {D : Nat → Nat} (hd : d < 25) (h : tx_Dx yrk yds d r D) (hR : R ≤ 3) (ha : a < R) (H : post (nI (tz_al D r R a))) : wpY_aligned post (ycs, ysc, usd, yrk, yds, shn, tof, vw, exs, ykd, fst, snd, own, prt, pct, val, ysl, ord, ysls) (nI d) (nI R) (nI a) := by
  obtain ⟨hr, hr3, hD⟩ := h
  unfold wpY_aligned
  by_cases c : R ≤ a + r
  · have e1 : tz_al D r R a = D (a + r - R) := if_pos c
    rw [e1] at H
    simp (disch := omega) only [hr, tz_alsub, pk_sub c, tz_ge0, vp_in_nI, nI_clamp, true_implies, not_true_eq_false, false_implies, true_and, and_true]
    exact ty_dim hd (by omega) (hD _ (by omega)).1 H
  · have e1 : tz_al D r R a = 1 := if_neg c
    rw [e1] at H
    have e2 : ¬ 0 ≤ nI (a + r) - nI R := by
      rw [Int32.not_le]
      exact pk_sneg (by omega) (by omega)
    simp (disch := omega) only [hr, tz_alsub, e2, vp_in_nI, nI_clamp, true_implies, not_false_eq_true, false_implies, true_and, and_true]
    exact H
theorem ty_sp14 {post : Int32 → Prop} {d r R e : Nat} {D N : Nat → Nat} (hd : d < 25) (h : tx_Dx yrk yds d r D) (hN : tx_Dx yrk yds 24 R N) (he : e < 2 ^ 31) (hb : ty_sp D r N R e R < 64) (H : post (shn (64 * d + ty_sp D r N R e R))) : ∀ n a, a ≤ R → R - a < n → wY_spread_14 post (nI d) (nI e) (nI R) ycs ysc usd yrk yds shn tof vw exs ykd fst snd own prt pct val ysl ord ysls n (nI (ty_sp D r N R e a)) (nI a) := by
  have hR := hN.2.1
  intro n
  induction n with
  | zero => intro i _ h; omega
  | succ n ih =>
    intro a h1 h2
    by_cases q : a < R
    · have e2 : ¬ R ≤ a := by omega
      simp (disch := omega) only [wY_spread_14, e2, nI_leI, true_implies, not_false_eq_true, false_implies, true_and]
      refine ty_aligned hd h hR q ?_
      have K := ih (a + 1) (by omega) (by omega)
      rw [ty_sps] at K
      have hal : tz_al D r R a < 2 ^ 31 := by
        unfold tz_al
        split
        · have := (h.2.2 (a + r - R) (by omega)).2; omega
        · decide
      refine pk_eq (tz_al D r R a) 1 (fun c => ?_) (fun c => ?_) rfl rfl hal (by decide)
      · rw [if_pos c] at K
        rw [pk_mul, show (0 : Int32) = nI 0 from rfl, nI_add, nI_1]
        exact nm_e (nm_e K)
      · rw [if_neg c] at K
        refine ty_index (d := 24) (by omega) hN he (by omega) ?_
        rw [pk_mul, nI_add, nI_1]
        exact nm_e (nm_e K)
    · have e3 : a = R := by omega
      subst e3
      simp (disch := omega) only [wY_spread_14, Nat.le_refl, tz_64n, nI_add, forall_eq, nI_leI, nI_ltI, nI_eq, vp_in_nI, nI_clamp, nI_1, true_implies, forall_const, not_true_eq_false, not_false_eq_true, false_implies, and_true, true_and, implies_true, and_self]
      exact H
theorem ty_spread {post : Int32 → Prop} {d r R e : Nat} {D N : Nat → Nat} (hd : d < 25) (h : tx_Dx yrk yds d r D) (hN : tx_Dx yrk yds 24 R N) (he : e < 2 ^ 31) (hb : ty_sp D r N R e R < 64) (H : post (shn (64 * d + ty_sp D r N R e R))) : wpY_spread post (ycs, ysc, usd, yrk, yds, shn, tof, vw, exs, ykd, fst, snd, own, prt, pct, val, ysl, ord, ysls) (nI d) (nI e) := by
  have hr := hN.1
  unfold wpY_spread
  exact nm_r hr ⟨4, ty_sp14 hd h hN he hb H 4 0 (by omega) (by have := hN.2.1; omega)⟩
end YR
end
section
/-! the component's views and nodes: view, make, operand, result, stretch -/
def tx_Sx (ofs stx : Nat → Int32) (d r : Nat) : Prop := (ofs d).toInt16.toInt32 = ofs d ∧ ∀ i, i < r → (stx (3 * d + i)).toInt8.toInt32 = stx (3 * d + i)
section XM
variable {xnc xfr xol xnw xtp xsc : Int32} {nod ofs rnk dmx stx its knd rfs siz oldr newr stt blw arn slo mvd sls : Nat → Int32}
theorem tx_view {post : Int32 → SX → Prop} {h v n c r : Nat} {D : Nat → Nat} (hh : h < 24) (hv : v < 24) (hvh : v ≠ h) (hu : ∀ j, j < v → ¬ nod j < 0) (hf : nod v < 0) (hn : nod h = nI n) (hn2 : n < 32) (hD : tx_Dx rnk dmx h r D) (hS : tx_Sx ofs stx h r) (hc : rfs n = nI c) (hc2 : c < 126)
    (H : post (nI v) (xnc, xfr, xol, xnw, xtp, xsc, upd nod v (nI n), upd ofs v (ofs h), upd rnk v (nI r), tx_cp dmx h v, tx_cp stx h v, upd its v 0, knd, upd rfs n (nI (c + 1)), siz, oldr, newr, stt, blw, arn, slo, mvd, sls)) : wpX_view post (xnc, xfr, xol, xnw, xtp, xsc, nod, ofs, rnk, dmx, stx, its, knd, rfs, siz, oldr, newr, stt, blw, arn, slo, mvd, sls) (nI h) := by
  have hr := hD.1
  have hr3 := hD.2.1
  have ho : vp_nar .short (ofs h) = ofs h := by rw [vp_nar_short]; exact hS.1
  unfold wpX_view
  refine tx_fh (by omega) hu (fun _ => hf) ?_
  refine tx_is1 hh (by rw [hn]; exact nI_pos (by omega)) ?_
  refine br_f (by decide) (br_f (fun e => ?_) ?_)
  · have := (nI_eq (a := v) (b := 24) (by omega) (by decide)).mp e
    omega
  · refine tx_copy (by omega) (by omega) (fun e => hvh e.symm) ?_
    simp (disch := omega) only [hn, hr, hc, ho, pk_un, vp_in_nI, nI_clamp, nI_1, tz_b8, tz_nb, tz_bo0, forall_eq, true_and]
    exact H
theorem tx_view24 {post : Int32 → SX → Prop} {h : Nat} (hh : h < 24) (hu : ∀ j, j < 24 → ¬ nod j < 0) (H : post (-1) (xnc, xfr, xol, xnw, xtp, xsc, nod, ofs, rnk, dmx, stx, its, knd, rfs, siz, oldr, newr, stt, blw, arn, slo, mvd, sls)) : wpX_view post (xnc, xfr, xol, xnw, xtp, xsc, nod, ofs, rnk, dmx, stx, its, knd, rfs, siz, oldr, newr, stt, blw, arn, slo, mvd, sls) (nI h) := by
  unfold wpX_view
  refine tx_fh (v := 24) (by omega) hu (fun z => by omega) ?_
  refine tx_is1 hh (hu h hh) ?_
  exact br_f (by decide) (br_t rfl H)
theorem tx_make154 {post : Int32 → SX → Prop} {v n r : Nat} {D : Nat → Nat} (hv : v < 24) (hn : n < 32) (hD : tx_Dx rnk dmx v r D)
    (H : ∀ stx', tx_Row stx' D v r 0 → (∀ j, (j < 3 * v ∨ 3 * v + 3 ≤ j) → stx' j = stx j) → post (nI n) (xnc, xfr &&& (((1 : Int32) <<< (nI n &&& 31)) ^^^ (-1)), xol, nI n, xtp, xsc, upd (upd nod v (nI n)) (24 + 3 * n) (nI n), upd (upd ofs v 0) (24 + 3 * n) 0, upd rnk (24 + 3 * n) (nI r), tx_cp dmx v (24 + 3 * n), tx_cp stx' v (24 + 3 * n), upd its v 0, knd, rfs, siz, oldr, newr, stt, upd blw n 0, arn, slo, mvd, sls)) : wX_make_154 post (nI v) (nI n) xnc xfr xol xnw xtp xsc nod ofs rnk dmx stx its knd rfs siz oldr newr stt blw arn slo mvd sls := by
  have hr := hD.1
  have hr3 := hD.2.1
  unfold wX_make_154
  simp (disch := omega) only [vp_in_nI, nI_clamp, tz_b8, tz_nb, tz_bo0, forall_eq, true_and, tz_3n, tz_24a]
  refine tx_rows (by omega) hD ?_
  intro x stx' h1 h2
  refine tx_copy (by omega) (by omega) (by omega) ?_
  simp (disch := omega) only [hr, pk_us, tz_nb, tz_ns0]
  exact H stx' h1 h2
theorem tx_make32 {post : Int32 → SX → Prop} {k v n cnt N top r : Nat} {D : Nat → Nat} (hk : k < 128) (hv : v < 24) (hn : n < 32) (hc : cnt ≤ 64) (hD : tx_Dx rnk dmx v r D) (hN : xnc = nI N) (ht : xtp = nI top) (ht2 : top ≤ 320) (hk0 : knd n = 0) (hk1 : ∀ j, j < n → ¬ knd j = 0) (hw : xnw = -1 ∨ ∃ w, w < 32 ∧ xnw = nI w)
    (H : ∀ stx' newr' xol', tx_Row stx' D v r 0 → (∀ j, (j < 3 * v ∨ 3 * v + 3 ≤ j) → stx' j = stx j) → ((xnw = -1 ∧ newr' = upd newr n (-1) ∧ xol' = nI n) ∨ (∃ w, w < 32 ∧ xnw = nI w ∧ newr' = upd (upd newr n (-1)) w (nI n) ∧ xol' = xol)) → post (nI n) (nI (N + 1), xfr &&& (((1 : Int32) <<< (nI n &&& 31)) ^^^ (-1)), xol', nI n, nI (top + cnt), xsc, upd (upd nod v (nI n)) (24 + 3 * n) (nI n), upd (upd ofs v 0) (24 + 3 * n) 0, upd rnk (24 + 3 * n) (nI r), tx_cp dmx v (24 + 3 * n), tx_cp stx' v (24 + 3 * n), upd its v 0, upd knd n (nI k), upd rfs n 1, upd siz n (nI cnt), upd oldr n xnw, newr', upd stt n (nI top), upd blw n 0, arn, slo, mvd, sls)) : ∀ m j, j ≤ n → n - j < m → wX_make_32 post (nI k) (nI v) (nI cnt) xnc xfr xol xnw xtp xsc nod ofs rnk dmx stx its knd rfs siz oldr newr stt blw arn slo mvd sls m (nI j) := by
  intro m
  induction m with
  | zero => intro j _ h; omega
  | succ m ih =>
    intro j h1 h2
    by_cases e : j = n
    · subst e
      have e1 : vp_nar .byte 1 = 1 := tz_nb (n := 1) (by omega)
      subst hN ht
      rcases hw with hw | ⟨w, hw1, hw2⟩
      · subst hw
        simp (disch := omega) only [wX_make_32, hk0, vp_in_nI, nI_clamp, tz_b8, tz_nb, tz_b16, tz_ns, nI_1, nI_add, e1, tz_m1b, tz_nbm, tz_m1ge, forall_eq, true_and, and_true, true_implies, not_true_eq_false, not_false_eq_true, false_implies]
        exact tx_make154 hv hn hD (fun stx' q1 q2 => H stx' _ _ q1 q2 (Or.inl ⟨rfl, rfl, rfl⟩))
      · subst hw2
        simp (disch := omega) only [wX_make_32, hk0, vp_in_nI, nI_clamp, tz_b8, tz_nb, tz_b16, tz_ns, nI_1, nI_add, e1, tz_m1b, tz_nbm, tz_ge0, forall_eq, true_and, and_true, true_implies, not_true_eq_false, not_false_eq_true, false_implies]
        exact tx_make154 hv hn hD (fun stx' q1 q2 => H stx' _ _ q1 q2 (Or.inr ⟨w, hw1, rfl, rfl, rfl⟩))
    · exact ⟨vp_in_nI (by omega) (by omega), br_f (by rw [nI_clamp (by omega)]; exact hk1 j (by omega)) (nm_r (nI_1 j) (ih (j + 1) (by omega) (by omega)))⟩
theorem tx_make {post : Int32 → SX → Prop} {k v n cnt N top r : Nat} {D : Nat → Nat} (hk : k < 128) (hv : v < 24) (hn : n < 32) (hc : cnt = tz_el D r) (hD : tx_Dx rnk dmx v r D) (hN : xnc = nI N) (hN2 : N < 32) (ht : xtp = nI top) (ht2 : top + cnt ≤ 320) (hk0 : knd n = 0) (hk1 : ∀ j, j < n → ¬ knd j = 0) (hw : xnw = -1 ∨ ∃ w, w < 32 ∧ xnw = nI w)
    (H : ∀ stx' newr' xol', tx_Row stx' D v r 0 → (∀ j, (j < 3 * v ∨ 3 * v + 3 ≤ j) → stx' j = stx j) → ((xnw = -1 ∧ newr' = upd newr n (-1) ∧ xol' = nI n) ∨ (∃ w, w < 32 ∧ xnw = nI w ∧ newr' = upd (upd newr n (-1)) w (nI n) ∧ xol' = xol)) → post (nI n) (nI (N + 1), xfr &&& (((1 : Int32) <<< (nI n &&& 31)) ^^^ (-1)), xol', nI n, nI (top + cnt), xsc, upd (upd nod v (nI n)) (24 + 3 * n) (nI n), upd (upd ofs v 0) (24 + 3 * n) 0, upd rnk (24 + 3 * n) (nI r), tx_cp dmx v (24 + 3 * n), tx_cp stx' v (24 + 3 * n), upd its v 0, upd knd n (nI k), upd rfs n 1, upd siz n (nI cnt), upd oldr n xnw, newr', upd stt n (nI top), upd blw n 0, arn, slo, mvd, sls)) : wpX_make post (xnc, xfr, xol, xnw, xtp, xsc, nod, ofs, rnk, dmx, stx, its, knd, rfs, siz, oldr, newr, stt, blw, arn, slo, mvd, sls) (nI k) (nI v) := by
  have hb := hD.el
  unfold wpX_make
  refine tx_el (by omega) hD ?_
  rw [← hc]
  refine br_f (fun e => ?_) (br_t ?_ ⟨33, tx_make32 hk hv hn (by omega) hD hN ht (by omega) hk0 hk1 hw H 33 0 (by omega) (by omega)⟩)
  · rw [hN] at e
    have := (nI_eq (a := N) (b := 32) (by omega) (by decide)).mp e
    omega
  · rw [ht, nI_add]
    exact nI_le (b := 320) ht2 (by decide)
theorem tx_makef {post : Int32 → SX → Prop} {k v cnt N top r : Nat} {D : Nat → Nat} (hv : v < 24) (hc : cnt = tz_el D r) (hD : tx_Dx rnk dmx v r D) (hN : xnc = nI N) (ht : xtp = nI top) (ht2 : top ≤ 320) (hf : N = 32 ∨ 320 < top + cnt) (H : post (-1) (xnc, xfr, xol, xnw, xtp, xsc, nod, ofs, rnk, dmx, stx, its, knd, rfs, siz, oldr, newr, stt, blw, arn, slo, mvd, sls)) : wpX_make post (xnc, xfr, xol, xnw, xtp, xsc, nod, ofs, rnk, dmx, stx, its, knd, rfs, siz, oldr, newr, stt, blw, arn, slo, mvd, sls) (nI k) (nI v) := by
  have hb := hD.el
  unfold wpX_make
  refine tx_el (by omega) hD ?_
  rw [← hc]
  rcases hf with hf | hf
  · exact br_t (by rw [hN, hf]; rfl) H
  · refine br_c (fun _ => H) (fun _ => br_f ?_ H)
    rw [ht, nI_add]
    exact nI_ge (a := 320) hf (by omega)
theorem tx_operand {post : SX → Prop} {n o h m c r : Nat} {D : Nat → Nat} (hn : n < 32) (ho : o < 3) (hh : h < 24) (hm : nod h = nI m) (hm2 : m < 32) (hD : tx_Dx rnk dmx h r D) (hS : tx_Sx ofs stx h r) (hc : rfs m = nI c) (hc2 : c < 126)
    (H : post (xnc, xfr, xol, xnw, xtp, xsc, upd nod (24 + 3 * n + o) (nI m), upd ofs (24 + 3 * n + o) (ofs h), upd rnk (24 + 3 * n + o) (nI r), tx_cp dmx h (24 + 3 * n + o), tx_cp stx h (24 + 3 * n + o), its, knd, upd rfs m (nI (c + 1)), siz, oldr, newr, stt, upd blw n (blw n ||| (blw m ||| ((1 : Int32) <<< (nI m &&& 31)))), arn, slo, mvd, sls)) : wpX_operand post (xnc, xfr, xol, xnw, xtp, xsc, nod, ofs, rnk, dmx, stx, its, knd, rfs, siz, oldr, newr, stt, blw, arn, slo, mvd, sls) (nI n) (nI o) (nI h) := by
  have hr := hD.1
  have hr3 := hD.2.1
  have hof : vp_nar .short (ofs h) = ofs h := by rw [vp_nar_short]; exact hS.1
  unfold wpX_operand
  simp (disch := omega) only [hm, vp_in_nI, nI_clamp, tz_3n, tz_24a, nI_add, forall_eq, true_and]
  refine tx_copy (by omega) (by omega) (by omega) ?_
  simp (disch := omega) only [hm, hr, hof, hc, vp_in_nI, nI_clamp, nI_1, tz_b8, tz_nb, forall_eq, true_and]
  exact H
end XM
end
section
theorem tx_Dx_fr {rnk dmx rnk' dmx' : Nat → Int32} {d r : Nat} {D : Nat → Nat} (h : tx_Dx rnk dmx d r D) (h1 : rnk' d = rnk d) (h2 : ∀ i, i < 3 → dmx' (3 * d + i) = dmx (3 * d + i)) : tx_Dx rnk' dmx' d r D := by
  obtain ⟨a, b, c⟩ := h
  exact ⟨h1.trans a, b, fun i hi => by rw [h2 i (by omega)]; exact c i hi⟩
theorem tx_Sx_fr {ofs stx ofs' stx' : Nat → Int32} {d r : Nat} (hr : r ≤ 3) (h : tx_Sx ofs stx d r) (h1 : ofs' d = ofs d) (h2 : ∀ i, i < 3 → stx' (3 * d + i) = stx (3 * d + i)) : tx_Sx ofs' stx' d r := by
  obtain ⟨a, b⟩ := h
  exact ⟨by rw [h1]; exact a, fun i hi => by rw [h2 i (by omega)]; exact b i hi⟩
section XRS
variable {xnc xfr xol xnw xtp xsc : Int32} {nod ofs rnk dmx stx its knd rfs siz oldr newr stt blw arn slo mvd sls : Nat → Int32}
theorem tx_result1 {post : Int32 → SX → Prop} {k v n cnt N top r h m c rh : Nat} {D Dh : Nat → Nat} (hk : k < 128) (hv : v < 24) (hn : n < 32) (hc : cnt = tz_el D r) (hD : tx_Dx rnk dmx v r D) (hN : xnc = nI N) (hN2 : N < 32) (ht : xtp = nI top) (ht2 : top + cnt ≤ 320) (hk0 : knd n = 0) (hk1 : ∀ j, j < n → ¬ knd j = 0) (hw : xnw = -1 ∨ ∃ w, w < 32 ∧ xnw = nI w)
    (hh : h < 24) (hhv : h ≠ v) (hm : nod h = nI m) (hm2 : m < 32) (hmn : m ≠ n) (hDh : tx_Dx rnk dmx h rh Dh) (hSh : tx_Sx ofs stx h rh) (hcm : rfs m = nI c) (hc2 : c ≤ 120)
    (H : ∀ stx' newr' xol', tx_Row stx' D v r 0 → (∀ j, (j < 3 * v ∨ 3 * v + 3 ≤ j) → stx' j = stx j) → ((xnw = -1 ∧ newr' = upd newr n (-1) ∧ xol' = nI n) ∨ (∃ w, w < 32 ∧ xnw = nI w ∧ newr' = upd (upd newr n (-1)) w (nI n) ∧ xol' = xol)) → post (nI v) (nI (N + 1), xfr &&& (((1 : Int32) <<< (nI n &&& 31)) ^^^ (-1)), xol', nI n, nI (top + cnt), xsc, upd (upd (upd (upd nod v (nI n)) (24 + 3 * n) (nI n)) (24 + 3 * n + 1) (nI m)) (24 + 3 * n + 2) (-1), upd (upd (upd ofs v 0) (24 + 3 * n) 0) (24 + 3 * n + 1) (ofs h), upd (upd rnk (24 + 3 * n) (nI r)) (24 + 3 * n + 1) (nI rh), tx_cp (tx_cp dmx v (24 + 3 * n)) h (24 + 3 * n + 1), tx_cp (tx_cp stx' v (24 + 3 * n)) h (24 + 3 * n + 1), upd its v 0, upd knd n (nI k), upd (upd rfs n 1) m (nI (c + 1)), upd siz n (nI cnt), upd oldr n xnw, newr', upd stt n (nI top), upd (upd blw n 0) n (0 ||| (blw m ||| ((1 : Int32) <<< (nI m &&& 31)))), arn, slo, mvd, sls)) : wpX_result post (xnc, xfr, xol, xnw, xtp, xsc, nod, ofs, rnk, dmx, stx, its, knd, rfs, siz, oldr, newr, stt, blw, arn, slo, mvd, sls) (nI k) (nI v) (nI h) (-1) := by
  unfold wpX_result
  refine tx_make hk hv hn hc hD hN hN2 ht ht2 hk0 hk1 hw ?_
  intro stx' newr' xol' q1 q2 q3
  refine br_t (nI_pos' (by omega)) ?_
  refine tx_operand (o := 1) (m := m) (c := c) (r := rh) (D := Dh) hn (by omega) hh ?_ hm2 ?_ ?_ ?_ (by omega) ?_
  · rw [pk_un (by omega), pk_un hhv, hm]
  · exact tx_Dx_fr hDh (pk_un (by omega)) (fun i hi => tx_cp_d (by omega) hi)
  · exact tx_Sx_fr hDh.2.1 hSh (by rw [pk_un (by omega), pk_un hhv]) (fun i hi => by rw [tx_cp_d (by omega) hi]; exact q2 _ (by omega))
  · rw [pk_un hmn, hcm]
  · simp (disch := omega) only [tz_3n, tz_24a, tz_add2, vp_in_nI, nI_clamp, tz_nbm, tz_m1lt, pk_us, pk_un, forall_eq, true_and, and_true, true_implies, not_true_eq_false, false_implies, implies_true]
    exact H stx' newr' xol' q1 q2 q3
theorem tx_result2 {post : Int32 → SX → Prop} {k v n cnt N top r h m c rh g m2 c2 rg : Nat} {D Dh Dg : Nat → Nat} (hk : k < 128) (hv : v < 24) (hn : n < 32) (hc : cnt = tz_el D r) (hD : tx_Dx rnk dmx v r D) (hN : xnc = nI N) (hN2 : N < 32) (ht : xtp = nI top) (ht2 : top + cnt ≤ 320) (hk0 : knd n = 0) (hk1 : ∀ j, j < n → ¬ knd j = 0) (hw : xnw = -1 ∨ ∃ w, w < 32 ∧ xnw = nI w)
    (hh : h < 24) (hhv : h ≠ v) (hm : nod h = nI m) (hm2 : m < 32) (hmn : m ≠ n) (hDh : tx_Dx rnk dmx h rh Dh) (hSh : tx_Sx ofs stx h rh) (hcm : rfs m = nI c) (hc2 : c ≤ 120)
    (hg : g < 24) (hgv : g ≠ v) (gm : nod g = nI m2) (gm2 : m2 < 32) (gmn : m2 ≠ n) (hDg : tx_Dx rnk dmx g rg Dg) (hSg : tx_Sx ofs stx g rg) (gcm : upd rfs m (nI (c + 1)) m2 = nI c2) (gc2 : c2 ≤ 121)
    (H : ∀ stx' newr' xol', tx_Row stx' D v r 0 → (∀ j, (j < 3 * v ∨ 3 * v + 3 ≤ j) → stx' j = stx j) → ((xnw = -1 ∧ newr' = upd newr n (-1) ∧ xol' = nI n) ∨ (∃ w, w < 32 ∧ xnw = nI w ∧ newr' = upd (upd newr n (-1)) w (nI n) ∧ xol' = xol)) → post (nI v) (nI (N + 1), xfr &&& (((1 : Int32) <<< (nI n &&& 31)) ^^^ (-1)), xol', nI n, nI (top + cnt), xsc, upd (upd (upd (upd (upd nod v (nI n)) (24 + 3 * n) (nI n)) (24 + 3 * n + 1) (nI m)) (24 + 3 * n + 2) (-1)) (24 + 3 * n + 2) (nI m2), upd (upd (upd (upd ofs v 0) (24 + 3 * n) 0) (24 + 3 * n + 1) (ofs h)) (24 + 3 * n + 2) (ofs g), upd (upd (upd rnk (24 + 3 * n) (nI r)) (24 + 3 * n + 1) (nI rh)) (24 + 3 * n + 2) (nI rg), tx_cp (tx_cp (tx_cp dmx v (24 + 3 * n)) h (24 + 3 * n + 1)) g (24 + 3 * n + 2), tx_cp (tx_cp (tx_cp stx' v (24 + 3 * n)) h (24 + 3 * n + 1)) g (24 + 3 * n + 2), upd its v 0, upd knd n (nI k), upd (upd (upd rfs n 1) m (nI (c + 1))) m2 (nI (c2 + 1)), upd siz n (nI cnt), upd oldr n xnw, newr', upd stt n (nI top), upd (upd (upd blw n 0) n (0 ||| (blw m ||| ((1 : Int32) <<< (nI m &&& 31))))) n ((0 ||| (blw m ||| ((1 : Int32) <<< (nI m &&& 31)))) ||| (blw m2 ||| ((1 : Int32) <<< (nI m2 &&& 31)))), arn, slo, mvd, sls)) : wpX_result post (xnc, xfr, xol, xnw, xtp, xsc, nod, ofs, rnk, dmx, stx, its, knd, rfs, siz, oldr, newr, stt, blw, arn, slo, mvd, sls) (nI k) (nI v) (nI h) (nI g) := by
  unfold wpX_result
  refine tx_make hk hv hn hc hD hN hN2 ht ht2 hk0 hk1 hw ?_
  intro stx' newr' xol' q1 q2 q3
  refine br_t (nI_pos' (by omega)) ?_
  refine tx_operand (o := 1) (m := m) (c := c) (r := rh) (D := Dh) hn (by omega) hh ?_ hm2 ?_ ?_ ?_ (by omega) ?_
  · rw [pk_un (by omega), pk_un hhv, hm]
  · exact tx_Dx_fr hDh (pk_un (by omega)) (fun i hi => tx_cp_d (by omega) hi)
  · exact tx_Sx_fr hDh.2.1 hSh (by rw [pk_un (by omega), pk_un hhv]) (fun i hi => by rw [tx_cp_d (by omega) hi]; exact q2 _ (by omega))
  · rw [pk_un hmn, hcm]
  · simp (disch := omega) only [tz_3n, tz_24a, tz_add2, vp_in_nI, nI_clamp, tz_nbm, tz_lt0, pk_us, pk_un, forall_eq, true_and, and_true, true_implies, not_true_eq_false, not_false_eq_true, false_implies, implies_true]
    refine tx_operand (o := 2) (m := m2) (c := c2) (r := rg) (D := Dg) hn (by omega) hg ?_ gm2 ?_ ?_ ?_ (by omega) ?_
    · rw [pk_un (by omega), pk_un (by omega), pk_un (by omega), pk_un hgv, gm]
    · exact tx_Dx_fr hDg (by rw [pk_un (by omega), pk_un (by omega)]) (fun i hi => by rw [tx_cp_d (by omega) hi, tx_cp_d (by omega) hi])
    · exact tx_Sx_fr hDg.2.1 hSg (by rw [pk_un (by omega), pk_un (by omega), pk_un hgv]) (fun i hi => by rw [tx_cp_d (by omega) hi, tx_cp_d (by omega) hi]; exact q2 _ (by omega))
    · rw [← gcm]
      by_cases e : m2 = m
      · rw [e, pk_us, pk_us]
      · rw [pk_un e, pk_un e, pk_un gmn]
    · simp (disch := omega) only [pk_us, pk_un]
      exact H stx' newr' xol' q1 q2 q3
theorem tx_resultf {post : Int32 → SX → Prop} {k v cnt N top r : Nat} {D : Nat → Nat} {p q : Int32} (hv : v < 24) (hc : cnt = tz_el D r) (hD : tx_Dx rnk dmx v r D) (hN : xnc = nI N) (ht : xtp = nI top) (ht2 : top ≤ 320) (hf : N = 32 ∨ 320 < top + cnt) (H : post (-1) (xnc, xfr, xol, xnw, xtp, xsc, nod, ofs, rnk, dmx, stx, its, knd, rfs, siz, oldr, newr, stt, blw, arn, slo, mvd, sls)) : wpX_result post (xnc, xfr, xol, xnw, xtp, xsc, nod, ofs, rnk, dmx, stx, its, knd, rfs, siz, oldr, newr, stt, blw, arn, slo, mvd, sls) (nI k) (nI v) p q := by
  unfold wpX_result
  exact tx_makef hv hc hD hN ht ht2 hf (br_f (by decide) H)
/-- what stretch leaves: every dimension of s; a stride where the dimensions agree -/
def tx_St (dmx stx dmx0 stx0 : Nat → Int32) (d r R : Nat) (D M : Nat → Nat) (j : Nat) : Prop :=
  (∀ i, j ≤ i → i < R → dmx (3 * d + i) = nI (M i) ∧ stx (3 * d + i) = if R ≤ i + r ∧ D (i + r - R) = M i then stx0 (3 * d + (i + r - R)) else 0) ∧ (∀ k, (k < 3 * d + j ∨ 3 * d + 3 ≤ k) → dmx k = dmx0 k ∧ stx k = stx0 k)
theorem tx_st22 {post : SX → Prop} {d s r R : Nat} {D M : Nat → Nat} {dmx0 stx0 : Nat → Int32} (hd : d < 120) (hs : s < 120) (hds : d ≠ s) (hD : tx_Dx rnk dmx0 d r D) (hM : tx_Dx rnk dmx0 s R M) (hS : ∀ i, i < r → (stx0 (3 * d + i)).toInt8.toInt32 = stx0 (3 * d + i)) (hrR : r ≤ R)
    (H : ∀ dmx' stx', tx_St dmx' stx' dmx0 stx0 d r R D M 0 → post (xnc, xfr, xol, xnw, xtp, xsc, nod, ofs, upd rnk d (nI R), dmx', stx', its, knd, rfs, siz, oldr, newr, stt, blw, arn, slo, mvd, sls)) : ∀ n j dmx stx, j ≤ R → j < n → tx_St dmx stx dmx0 stx0 d r R D M j → wX_stretch_22 post (nI d) (nI s) (nI R) (nI R - nI r) xnc xfr xol xnw xtp xsc n (nI j - 1) nod ofs rnk dmx stx its knd rfs siz oldr newr stt blw arn slo mvd sls := by
  obtain ⟨hr, hr3, hD⟩ := hD
  obtain ⟨hR, hR3, hM⟩ := hM
  intro n
  induction n with
  | zero => intro j dmx stx _ h; omega
  | succ n ih =>
    intro j dmx stx h1 h2 h3
    cases j with
    | zero =>
      refine br_t tz_dm0 ?_
      simp (disch := omega) only [vp_in_nI, nI_clamp, tz_b8, tz_nb, forall_eq, true_and]
      exact H _ _ h3
    | succ i =>
      have hMi := hM i (by omega)
      have e1 : dmx (3 * s + i) = nI (M i) := by rw [(h3.2 (3 * s + i) (by omega)).1]; exact hMi.1
      have step : ∀ z, z = (if R ≤ i + r ∧ D (i + r - R) = M i then stx0 (3 * d + (i + r - R)) else 0) → vp_nar .byte z = z → wX_stretch_91 post (wX_stretch_22 post (nI d) (nI s) (nI R) (nI R - nI r) xnc xfr xol xnw xtp xsc n) (nI d) (nI s) (nI R) (nI R - nI r) (nI i) (nI (3 * d + i)) (nI (M i)) z xnc xfr xol xnw xtp xsc nod ofs rnk dmx stx its knd rfs siz oldr newr stt blw arn slo mvd sls := by
        intro z hz hzb
        unfold wX_stretch_91
        simp (disch := omega) only [vp_in_nI, nI_clamp, tz_b8, tz_nb, tz_dm, hzb, forall_eq, true_and]
        refine ih i _ _ (by omega) (by omega) ⟨?_, ?_⟩
        · intro l hl1 hl2
          by_cases e : l = i
          · subst e
            rw [pk_us, pk_us]
            exact ⟨rfl, hz⟩
          · rw [pk_un (by omega), pk_un (by omega)]
            exact h3.1 l (by omega) hl2
        · intro l hl
          rw [pk_un (by omega), pk_un (by omega)]
          exact h3.2 l (by omega)
      have z0b : vp_nar .byte 0 = 0 := tz_nb0
      have ea : nI i - (nI R - nI r) = nI (i + r) - nI R := by rw [← nI_add]; grind
      unfold wX_stretch_22
      simp (disch := omega) only [nI_pred, tz_lt0, tz_3n, nI_add, vp_in_nI, nI_clamp, e1, ea, forall_eq, true_and, false_implies, not_false_eq_true, true_implies]
      by_cases c : R ≤ i + r
      · have hDi := hD (i + r - R) (by omega)
        have e2 : dmx (3 * d + (i + r - R)) = nI (D (i + r - R)) := by rw [(h3.2 _ (by omega)).1]; exact hDi.1
        have e3 : stx (3 * d + (i + r - R)) = stx0 (3 * d + (i + r - R)) := (h3.2 _ (by omega)).2
        simp (disch := omega) only [pk_sub c, tz_lt0, nI_add, vp_in_nI, nI_clamp, e2, e3, forall_eq, true_and, false_implies, not_false_eq_true, true_implies]
        refine pk_eq (D (i + r - R)) (M i) (fun q => ?_) (fun q => ?_) rfl rfl (by omega) (by omega)
        · exact step _ (by rw [if_pos ⟨c, q⟩]) (by rw [vp_nar_byte]; exact hS _ (by omega))
        · unfold wX_stretch_76
          exact step _ (by rw [if_neg (fun z => q z.2)]) z0b
      · have e2 : nI (i + r) - nI R < 0 := pk_sneg (by omega) (by omega)
        simp (disch := omega) only [e2, true_and, and_true, true_implies, not_true_eq_false, false_implies]
        unfold wX_stretch_76
        exact step _ (by rw [if_neg (fun z => c z.1)]) z0b
theorem tx_stretch {post : SX → Prop} {d s r R : Nat} {D M : Nat → Nat} (hd : d < 120) (hs : s < 120) (hds : d ≠ s) (hD : tx_Dx rnk dmx d r D) (hM : tx_Dx rnk dmx s R M) (hS : ∀ i, i < r → (stx (3 * d + i)).toInt8.toInt32 = stx (3 * d + i)) (hrR : r ≤ R)
    (H : ∀ dmx' stx', tx_St dmx' stx' dmx stx d r R D M 0 → post (xnc, xfr, xol, xnw, xtp, xsc, nod, ofs, upd rnk d (nI R), dmx', stx', its, knd, rfs, siz, oldr, newr, stt, blw, arn, slo, mvd, sls)) : wpX_stretch post (xnc, xfr, xol, xnw, xtp, xsc, nod, ofs, rnk, dmx, stx, its, knd, rfs, siz, oldr, newr, stt, blw, arn, slo, mvd, sls) (nI d) (nI s) := by
  have hr := hD.1
  have hR := hM.1
  have hR3 := hM.2.1
  have K := tx_st22 hd hs hds hD hM hS hrR H 5 R dmx stx (Nat.le_refl _) (by omega) ⟨fun i _ _ => by omega, fun _ _ => ⟨rfl, rfl⟩⟩
  unfold wpX_stretch
  simp (disch := omega) only [hr, hR, vp_in_nI, nI_clamp, forall_eq, true_and]
  exact ⟨5, K⟩
end XRS
end
section
/-! the reference's storing methods: shapeNew, handOver, part, tensor -/
def ty_cp3 (a : Nat → Int32) (t : Nat) : Nat → Int32 := upd (upd (upd a (3 * t + 0) (vp_nar .byte (a (72 + 0)))) (3 * t + 1) (vp_nar .byte (a (72 + 1)))) (3 * t + 2) (vp_nar .byte (a (72 + 2)))
theorem ty_cp3_t {a : Nat → Int32} {t i : Nat} (hi : i < 3) : ty_cp3 a t (3 * t + i) = vp_nar .byte (a (72 + i)) := by
  unfold ty_cp3
  rcases (by omega : i = 0 ∨ i = 1 ∨ i = 2) with rfl | rfl | rfl
  · rw [pk_un (by omega), pk_un (by omega), pk_us]
  · rw [pk_un (by omega), pk_us]
  · rw [pk_us]
theorem ty_cp3_n {a : Nat → Int32} {t j : Nat} (h : j < 3 * t ∨ 3 * t + 3 ≤ j) : ty_cp3 a t j = a j := by
  unfold ty_cp3
  rw [pk_un (by omega), pk_un (by omega), pk_un (by omega)]
def ty_sn (a : Nat → Int32) (x y z : Int32) : Nat → Int32 := upd (upd (upd a 72 (vp_nar .byte x.toInt8.toInt32)) 73 (vp_nar .byte y.toInt8.toInt32)) 74 (vp_nar .byte z.toInt8.toInt32)
/-- the cells of the tensor being made: e of them are there -/
def ty_Tn (nc : Nat → Nat) (t T e : Nat) (own0 pct0 val0 ord0 shn0 own pct val ord shn : Nat → Int32) : Prop :=
  (∀ i, i < e → nc i < 320 ∧ own0 (nc i) < 0 ∧ own (nc i) = nI t ∧ pct (nc i) = 0 ∧ val (nc i) = 0 ∧ ord (T + i) = nI (nc i) ∧ shn (1536 + i) = nI (nc i)) ∧
  (∀ i j, i < j → j < e → nc i < nc j) ∧
  (∀ c, (∀ i, i < e → c ≠ nc i) → own c = own0 c ∧ pct c = pct0 c ∧ val c = val0 c) ∧
  (∀ p, (p < T ∨ T + e ≤ p) → ord p = ord0 p) ∧ (∀ p, (p < 1536 ∨ 1536 + e ≤ p) → shn p = shn0 p) ∧
  tz_cn (fun c => !decide (own c < 0)) 320 = T + e
theorem ty_Tn_s {nc : Nat → Nat} {t T e c : Nat} {own0 pct0 val0 ord0 shn0 own pct val ord shn : Nat → Int32} (ht : t < 32) (h : ty_Tn nc t T e own0 pct0 val0 ord0 shn0 own pct val ord shn) (hc : c < 320) (ho : own c < 0) (hlt : ∀ j, j < c → ¬ own j < 0) (hmx : ∀ i, i < e → nc i < c) :
    ty_Tn (fun i => if i = e then c else nc i) t T (e + 1) own0 pct0 val0 ord0 shn0 (upd own c (nI t)) (upd pct c 0) (upd val c 0) (upd ord (T + e) (nI c)) (upd shn (1536 + e) (nI c)) := by
  obtain ⟨h1, h2, h3, h4, h5, h6⟩ := h
  have oc : own c = own0 c := (h3 c (fun i hi => by have := hmx i hi; omega)).1
  refine ⟨?_, ?_, ?_, ?_, ?_, ?_⟩
  · intro i hi
    (try dsimp only)
    by_cases q : i = e
    · subst q
      rw [if_pos rfl, pk_us, pk_us, pk_us, pk_us, pk_us]
      exact ⟨hc, by rw [← oc]; exact ho, rfl, rfl, rfl, rfl, rfl⟩
    · have := hmx i (by omega)
      rw [if_neg q, pk_un (by omega), pk_un (by omega), pk_un (by omega), pk_un (by omega), pk_un (by omega)]
      exact h1 i (by omega)
  · intro i j hij hj
    (try dsimp only)
    rw [if_neg (show i ≠ e by omega)]
    by_cases q : j = e
    · rw [if_pos q]; exact hmx i (by omega)
    · rw [if_neg q]; exact h2 i j hij (by omega)
  · intro x hx
    have hxc : x ≠ c := by have := hx e (by omega); (try dsimp only at this); rw [if_pos rfl] at this; exact this
    rw [pk_un hxc, pk_un hxc, pk_un hxc]
    refine h3 x (fun i hi => ?_)
    have := hx i (by omega)
    (try dsimp only at this)
    rw [if_neg (show i ≠ e by omega)] at this
    exact this
  · intro p hp
    rw [pk_un (by omega)]
    exact h4 p (by omega)
  · intro p hp
    rw [pk_un (by omega)]
    exact h5 p (by omega)
  · rw [tz_cn1 (p := fun c => !decide (own c < 0)) (k := c) 320 hc ?_ ?_ ?_, h6]
    · rfl
    · intro i _ hi
      (try dsimp only)
      rw [pk_un hi]
    · (try dsimp only)
      rw [decide_eq_true ho]; rfl
    · (try dsimp only)
      rw [pk_us, decide_eq_false (nI_pos (by omega))]; rfl
theorem ty_Tn_0 {t T : Nat} {own pct val ord shn : Nat → Int32} (h : tz_cn (fun c => !decide (own c < 0)) 320 = T) : ty_Tn (fun _ => 0) t T 0 own pct val ord shn own pct val ord shn :=
  ⟨fun i hi => by omega, fun i j _ hj => by omega, fun _ _ => ⟨rfl, rfl, rfl⟩, fun _ _ => rfl, fun _ _ => rfl, h⟩
/-- the parts that are there: all K of the elements below e, j of element e -/
def ty_Pi (nc : Nat → Nat) (n K : Nat) (q : Nat → Nat → Nat) (prt0 pct0 : Nat → Int32) (e j : Nat) (prt pct : Nat → Int32) : Prop :=
  (∀ i, i < e → pct (nc i) = nI K ∧ ∀ l, l < K → prt (8 * nc i + l) = nI (q i l)) ∧
  (e < n → pct (nc e) = nI j ∧ ∀ l, l < j → prt (8 * nc e + l) = nI (q e l)) ∧
  (∀ i, e < i → i < n → pct (nc i) = 0) ∧
  (∀ c, (∀ i, i < n → c ≠ nc i) → pct c = pct0 c ∧ ∀ l, l < 8 → prt (8 * c + l) = prt0 (8 * c + l))
theorem ty_Pi_s {nc : Nat → Nat} {n K e j : Nat} {q : Nat → Nat → Nat} {prt0 pct0 prt pct : Nat → Int32} (inj : ∀ a b, a < n → b < n → nc a = nc b → a = b) (he : e < n) (hj : j < K) (hK : K ≤ 8) (h : ty_Pi nc n K q prt0 pct0 e j prt pct) : ty_Pi nc n K q prt0 pct0 e (j + 1) (upd prt (8 * nc e + j) (nI (q e j))) (upd pct (nc e) (nI (j + 1))) := by
  obtain ⟨h1, h2, h3, h4⟩ := h
  refine ⟨?_, ?_, ?_, ?_⟩
  · intro i hi
    have ne : nc i ≠ nc e := fun z => by have := inj i e (by omega) he z; omega
    rw [pk_un ne]
    refine ⟨(h1 i hi).1, fun l hl => ?_⟩
    rw [pk_un (by omega)]
    exact (h1 i hi).2 l hl
  · intro _
    rw [pk_us]
    refine ⟨rfl, fun l hl => ?_⟩
    by_cases c : l = j
    · subst c; rw [pk_us]
    · rw [pk_un (by omega)]
      exact (h2 he).2 l (by omega)
  · intro i hi1 hi2
    have ne : nc i ≠ nc e := fun z => by have := inj i e hi2 he z; omega
    rw [pk_un ne]
    exact h3 i hi1 hi2
  · intro c hc
    have ne := hc e he
    rw [pk_un ne]
    refine ⟨(h4 c hc).1, fun l hl => ?_⟩
    rw [pk_un (by omega)]
    exact (h4 c hc).2 l hl
theorem ty_Pi_n {nc : Nat → Nat} {n K e : Nat} {q : Nat → Nat → Nat} {prt0 pct0 prt pct : Nat → Int32} (he : e < n) (h : ty_Pi nc n K q prt0 pct0 e K prt pct) : ty_Pi nc n K q prt0 pct0 (e + 1) 0 prt pct := by
  obtain ⟨h1, h2, h3, h4⟩ := h
  refine ⟨?_, ?_, ?_, h4⟩
  · intro i hi
    by_cases c : i = e
    · rw [c]; exact h2 he
    · exact h1 i (by omega)
  · intro h
    exact ⟨h3 (e + 1) (by omega) h, fun l hl => by omega⟩
  · intro i hi1 hi2
    exact h3 i (by omega) hi2
section YW
variable {ycs ysc : Int32} {usd yrk yds shn tof vw exs ykd fst snd own prt pct val ysl ord ysls : Nat → Int32}
theorem ty_shapeNew {post : SY → Prop} {p0 p1 p2 p3 : Int32} {r : Nat} (hr : p0 = nI r) (hr3 : r ≤ 3) (H : post (ycs, ysc, usd, upd yrk 24 (nI r), ty_sn yds p1 p2 p3, shn, tof, vw, exs, ykd, fst, snd, own, prt, pct, val, ysl, ord, ysls)) : wpY_shapeNew post (ycs, ysc, usd, yrk, yds, shn, tof, vw, exs, ykd, fst, snd, own, prt, pct, val, ysl, ord, ysls) p0 p1 p2 p3 := by
  subst hr
  unfold wpY_shapeNew
  simp (disch := omega) only [tz_b8, tz_nb, forall_eq]
  exact H
theorem ty_ho79 {post : Int32 → SY → Prop} {v : Nat} {shn0 : Nat → Int32} (hv : v < 24) (H : ∀ shn', (∀ e, e < 64 → shn' (64 * v + e) = vp_nar .short (shn0 (1536 + e))) → (∀ j, (j < 64 * v ∨ 64 * v + 64 ≤ j) → shn' j = shn0 j) → post (nI v) (ycs, ysc, usd, yrk, yds, shn', tof, vw, exs, ykd, fst, snd, own, prt, pct, val, ysl, ord, ysls)) : ∀ n e shn, e ≤ 64 → 64 - e < n → (∀ i, i < e → shn (64 * v + i) = vp_nar .short (shn0 (1536 + i))) → (∀ j, (j < 64 * v ∨ 64 * v + e ≤ j) → shn j = shn0 j) → wY_handOver_79 post (nI v) ycs ysc n (nI e) usd yrk yds shn tof vw exs ykd fst snd own prt pct val ysl ord ysls := by
  intro n
  induction n with
  | zero => intro e shn _ h; omega
  | succ n ih =>
    intro e shn h1 h2 h3 h4
    by_cases c : e < 64
    · have c1 : ¬ (64 : Int32) ≤ nI e := nI_ge (b := 64) c (by decide)
      have e1 : shn (1536 + e) = shn0 (1536 + e) := h4 _ (by omega)
      simp (disch := omega) only [wY_handOver_79, c1, tz_1536a, tz_64n, nI_add, e1, forall_eq, nI_leI, nI_ltI, nI_eq, vp_in_nI, nI_clamp, nI_1, true_implies, forall_const, not_true_eq_false, not_false_eq_true, false_implies, and_true, true_and, implies_true, and_self]
      refine ih (e + 1) _ (by omega) (by omega) ?_ ?_
      · intro i hi
        by_cases q : i = e
        · subst q; rw [pk_us]
        · rw [pk_un (by omega)]; exact h3 i (by omega)
      · intro j hj
        rw [pk_un (by omega)]
        exact h4 j (by omega)
    · have ce : e = 64 := by omega
      subst ce
      exact br_t (nI_le (a := 64) (Nat.le_refl _) (by decide)) (H _ h3 h4)
theorem ty_handOver {post : Int32 → SY → Prop} {v t : Nat} {p0 : Int32} (hv : v < 24) (ht : t < 32) (hu : ∀ j, j < v → ¬ usd j = 0) (hf : usd v = 0) (hp : vp_nar .boolean p0 = p0)
    (H : ∀ shn', (∀ e, e < 64 → shn' (64 * v + e) = vp_nar .short (shn (1536 + e))) → (∀ j, (j < 64 * v ∨ 64 * v + 64 ≤ j) → shn' j = shn j) → post (nI v) (ycs, ysc, upd usd v 1, upd yrk v (vp_nar .byte (yrk 24)), ty_cp3 yds v, shn', upd tof v (nI t), upd vw v p0, exs, ykd, fst, snd, own, prt, pct, val, ysl, ord, ysls)) : wpY_handOver post (ycs, ysc, usd, yrk, yds, shn, tof, vw, exs, ykd, fst, snd, own, prt, pct, val, ysl, ord, ysls) p0 (nI t) := by
  unfold wpY_handOver
  refine ty_fh (by omega) hu (fun _ => hf) ?_
  have K : wY_handOver_43 post (nI v) ycs ysc 4 (nI 0) (upd usd v 1) (upd yrk v (vp_nar .byte (yrk 24))) yds shn (upd tof v (nI t)) (upd vw v p0) exs ykd fst snd own prt pct val ysl ord ysls := by
    simp (disch := omega) only [wY_handOver_43, tz_c0, tz_c1, tz_c2, tz_c3, tz_i0, tz_i1, tz_i2, tz_n3, tz_72a, nI_add, vp_in_nI, nI_clamp, pk_un, forall_eq, true_implies, forall_const, not_true_eq_false, not_false_eq_true, false_implies, and_true, true_and, implies_true, and_self]
    exact ⟨65, ty_ho79 hv H 65 0 shn (by omega) (by omega) (fun i hi => by omega) (fun _ _ => rfl)⟩
  simp (disch := omega) only [vp_in_nI, nI_clamp, tz_b8, tz_nb, tz_bo1, hp, forall_eq, true_and]
  exact ⟨4, K⟩
theorem ty_part {post : SY → Prop} {e c j q : Nat} (he : e < 64) (hc : shn (1536 + e) = nI c) (hc2 : c < 320) (hj : pct c = nI j) (hj2 : j < 8) (hq : q < 320) (H : post (ycs, ysc, usd, yrk, yds, shn, tof, vw, exs, ykd, fst, snd, own, upd prt (8 * c + j) (nI q), upd pct c (nI (j + 1)), val, ysl, ord, ysls)) : wpY_part post (ycs, ysc, usd, yrk, yds, shn, tof, vw, exs, ykd, fst, snd, own, prt, pct, val, ysl, ord, ysls) (nI e) (nI q) := by
  unfold wpY_part
  simp (disch := omega) only [tz_1536a, hc, hj, tz_8n, nI_add, tz_b16, tz_ns, tz_b8, tz_nb, forall_eq, nI_leI, nI_ltI, nI_eq, vp_in_nI, nI_clamp, nI_1, true_implies, forall_const, not_true_eq_false, not_false_eq_true, false_implies, and_true, true_and, implies_true, and_self]
  exact H
end YW
end
section
section YT
variable {ycs ysc : Int32} {usd yrk yds shn tof vw exs ykd fst snd own prt pct val ysl ord ysls : Nat → Int32}
theorem ty_t113 {post : Int32 → SY → Prop} {J : Int32 → Int32 → Int32 → (Nat → Int32) → (Nat → Int32) → (Nat → Int32) → (Nat → Int32) → (Nat → Int32) → (Nat → Int32) → (Nat → Int32) → (Nat → Int32) → (Nat → Int32) → (Nat → Int32) → (Nat → Int32) → (Nat → Int32) → (Nat → Int32) → (Nat → Int32) → (Nat → Int32) → (Nat → Int32) → (Nat → Int32) → Prop} {t e T f : Nat} {x5 : Int32} (ht : t < 32) (he : e < 64) (hT : T < 320) (hcs : ycs = nI T) (hf : f < 320) (hf1 : own f < 0)
    (H : J (nI f) (nI (e + 1)) (nI (T + 1)) usd yrk yds (upd shn (1536 + e) (nI f)) tof vw exs ykd fst snd (upd own f (nI t)) prt (upd pct f 0) (upd val f 0) ysl (upd ord T (nI f)) ysls) : ∀ n c, (∀ j, c ≤ j → j < f → ¬ own j < 0) → c ≤ f → f - c < n → wY_tensor_113 post J (nI t) x5 (nI e) ycs ysc usd yrk yds shn tof vw exs ykd fst snd own prt pct val ysl ord ysls n (nI c) := by
  intro n
  induction n with
  | zero => intro c _ _ h; omega
  | succ n ih =>
    intro c h1 h2 h3
    by_cases q : c = f
    · subst q
      subst hcs
      simp (disch := omega) only [wY_tensor_113, hf1, tz_1536a, tz_b8, tz_nb, tz_b16, tz_ns, tz_nb0, vp_in_nI, nI_clamp, nI_1, forall_eq, true_implies, not_true_eq_false, false_implies, and_true, true_and]
      exact H
    · exact ⟨vp_in_nI (by omega) (by omega), br_f (by rw [nI_clamp (by omega)]; exact h1 c (Nat.le_refl _) (by omega)) (nm_r (nI_1 c) (ih (c + 1) (fun j hj1 hj2 => h1 j (by omega) hj2) (by omega) (by omega)))⟩
theorem tz_first {p : Nat → Prop} {c N : Nat} (hp : ∃ k, c ≤ k ∧ k < N ∧ p k) : ∃ f, c ≤ f ∧ f < N ∧ p f ∧ ∀ j, c ≤ j → j < f → ¬ p j := by
  obtain ⟨k, h1, h2, h3⟩ := hp
  have K : ∀ d c, k - c = d → c ≤ k → ∃ f, c ≤ f ∧ f ≤ k ∧ p f ∧ ∀ j, c ≤ j → j < f → ¬ p j := by
    intro d
    induction d with
    | zero => intro c hd hc; exact ⟨k, hc, Nat.le_refl _, h3, fun j a b => by omega⟩
    | succ d ih =>
      intro c hd hc
      by_cases q : p c
      · exact ⟨c, Nat.le_refl _, hc, q, fun j a b => by omega⟩
      · obtain ⟨f, f1, f2, f3, f4⟩ := ih (c + 1) (by omega) (by omega)
        refine ⟨f, by omega, f2, f3, fun j a b => ?_⟩
        by_cases z : j = c
        · rw [z]; exact q
        · exact f4 j (by omega) b
  obtain ⟨f, f1, f2, f3, f4⟩ := K (k - c) c rfl h1
  exact ⟨f, f1, by omega, f3, f4⟩
theorem ty_t106 {post : Int32 → SY → Prop} {t m T : Nat} {own0 pct0 val0 ord0 shn0 : Nat → Int32} (ht : t < 32) (hm : m ≤ 64) (hT : T + m ≤ 320)
    (H : ∀ nc own' pct' val' ord' shn', ty_Tn nc t T m own0 pct0 val0 ord0 shn0 own' pct' val' ord' shn' → post (nI t) (nI (T + m), ysc, usd, yrk, yds, shn', tof, vw, exs, ykd, fst, snd, own', prt, pct', val', ysl, ord', ysls)) : ∀ n e c nc own pct val ord shn, e ≤ m → m - e < n → c ≤ 320 → ty_Tn nc t T e own0 pct0 val0 ord0 shn0 own pct val ord shn → (∀ j, j < c → ¬ own j < 0) → (∀ i, i < e → nc i ≤ c) → wY_tensor_106 post (nI t) (nI m) ysc n (nI c) (nI e) (nI (T + e)) usd yrk yds shn tof vw exs ykd fst snd own prt pct val ysl ord ysls := by
  intro n
  induction n with
  | zero => intro e c nc own pct val ord shn _ h; omega
  | succ n ih =>
    intro e c nc own pct val ord shn h1 h2 hc h3 h4 h5
    by_cases q : e < m
    · have cnt := h3.2.2.2.2.2
      obtain ⟨k, hk1, hk2⟩ := tz_cnex (p := fun c => !decide (own c < 0)) 320 (by omega)
      have hk3 : own k < 0 := by
        (try dsimp only at hk2)
        by_cases z : own k < 0
        · exact z
        · rw [decide_eq_false z] at hk2; exact absurd hk2 (by decide)
      have hk4 : c ≤ k := by
        by_cases z : k < c
        · exact absurd hk3 (h4 k z)
        · omega
      obtain ⟨f, f1, f2, f3, f4⟩ := tz_first (p := fun j => own j < 0) ⟨k, hk4, hk1, hk3⟩
      have hmx : ∀ i, i < e → nc i < f := by
        intro i hi
        have o1 := (h3.1 i hi).2.2.1
        have o2 := h5 i hi
        by_cases z : nc i = f
        · rw [z] at o1
          rw [o1] at f3
          exact absurd f3 (nI_pos (by omega))
        · omega
      have hlt : ∀ j, j < f → ¬ own j < 0 := by
        intro j hj
        by_cases z : j < c
        · exact h4 j z
        · exact f4 j (by omega) hj
      have K := ty_Tn_s ht h3 f2 f3 hlt hmx
      refine br_f (nI_ge q (by omega)) ⟨f - c + 1, ty_t113 ht (by omega) (by omega) rfl f2 f3 ?_ (f - c + 1) c f4 f1 (by omega)⟩
      refine ih (e + 1) f _ _ _ _ _ _ (by omega) (by omega) (by omega) K ?_ ?_
      · intro j hj
        rw [pk_un (by omega)]
        exact hlt j hj
      · intro i hi
        (try dsimp only)
        by_cases z : i = e
        · rw [if_pos z]; exact Nat.le_refl _
        · rw [if_neg z]
          exact Nat.le_of_lt (hmx i (by omega))
    · have qe : e = m := by omega
      subst qe
      exact br_t (Int32.le_refl _) (H _ _ _ _ _ _ h3)
theorem ty_t3 {post : Int32 → SY → Prop} {t : Nat} {x1 x2 x3 : Int32} (ht : t ≤ 32) (he1 : ∀ j, j < t → ¬ exs j = 0) (he0 : t < 32 → exs t = 0) (H : wY_tensor_26 post x1 x2 x3 (nI t) ycs ysc usd yrk yds shn tof vw exs ykd fst snd own prt pct val ysl ord ysls) : ∀ n j, j ≤ t → t - j < n → wY_tensor_3 post x1 x2 x3 ycs ysc usd yrk yds shn tof vw exs ykd fst snd own prt pct val ysl ord ysls n (nI j) := by
  intro n
  induction n with
  | zero => intro j _ h; omega
  | succ n ih =>
    intro j h1 h2
    by_cases e : j = t
    · subst e
      by_cases e2 : j < 32
      · exact br_f (nI_ge (b := 32) e2 (by decide)) ⟨vp_in_nI (by omega) (by omega), br_t (by rw [nI_clamp (by omega)]; exact he0 e2) H⟩
      · exact br_t (nI_le (a := 32) (by omega) (by omega)) H
    · exact br_f (nI_ge (b := 32) (by omega) (by decide)) ⟨vp_in_nI (by omega) (by omega), br_f (by rw [nI_clamp (by omega)]; exact he1 j (by omega)) (nm_r (nI_1 j) (ih (j + 1) (by omega) (by omega)))⟩
theorem ty_tensor {post : Int32 → SY → Prop} {k t m T r v : Nat} {D : Nat → Nat} {p1 p2 : Int32} (hk : k < 128) (hp1 : p1.toInt8.toInt32 = p1) (hp2 : p2.toInt8.toInt32 = p2) (ht : t < 32) (he1 : ∀ j, j < t → ¬ exs j = 0) (he0 : exs t = 0) (hD : tx_Dx yrk yds 24 r D) (hm : m = tz_el D r) (hcs : ycs = nI T) (hT : T + m ≤ 320) (hcn : tz_cn (fun c => !decide (own c < 0)) 320 = T)
    (hv : v < 24) (hu : ∀ j, j < v → ¬ usd j = 0) (hf : usd v = 0)
    (H : ∀ nc own' pct' val' ord' shn', ty_Tn nc t T m own pct val ord shn own' pct' val' ord' shn' → post (nI t) (nI (T + m), ysc, usd, yrk, yds, shn', tof, vw, upd exs t 1, upd ykd t (nI k), upd fst t p1, upd snd t p2, own', prt, pct', val', ysl, ord', ysls)) : wpY_tensor post (ycs, ysc, usd, yrk, yds, shn, tof, vw, exs, ykd, fst, snd, own, prt, pct, val, ysl, ord, ysls) (nI k) p1 p2 := by
  have hb := hD.el
  refine ⟨33, ty_t3 (by omega) he1 (fun _ => he0) ?_ 33 0 (by omega) (by omega)⟩
  unfold wY_tensor_26
  refine ty_sz (d := 24) (by omega) hD ?_
  rw [← hm]
  have n1 : ¬ nI t = 32 := fun e => by
    have := (nI_eq (a := t) (b := 32) (by omega) (by decide)).mp e
    omega
  have n2 : ¬ (320 : Int32) < ycs + nI m := by
    rw [hcs, nI_add]
    exact nI_nlt (a := 320) hT (by decide)
  refine br_f n1 (br_f n2 (ty_fh (by omega) hu (fun _ => hf) ?_))
  refine br_f (fun e => ?_) ?_
  · have := (nI_eq (a := v) (b := 24) (by omega) (by decide)).mp e
    omega
  · have e1 : vp_nar .byte p1 = p1 := by rw [vp_nar_byte]; exact hp1
    have e2 : vp_nar .byte p2 = p2 := by rw [vp_nar_byte]; exact hp2
    simp (disch := omega) only [hp1, hp2, e1, e2, tz_b8, tz_nb, tz_bo1, vp_in_nI, nI_clamp, forall_eq, true_and]
    have K := ty_t106 (post := post) (own0 := own) (pct0 := pct) (val0 := val) (ord0 := ord) (shn0 := shn) ht (by omega) hT H (m + 1) 0 0 (fun _ => 0) own pct val ord shn (by omega) (by omega) (by omega) (ty_Tn_0 hcn) (fun j hj => by omega) (fun i hi => by omega)
    rw [show T + 0 = T from rfl, ← hcs] at K
    exact ⟨m + 1, K⟩
theorem ty_tensorf {post : Int32 → SY → Prop} {t m T r v : Nat} {D : Nat → Nat} {p0 p1 p2 : Int32} (ht : t ≤ 32) (he1 : ∀ j, j < t → ¬ exs j = 0) (he0 : t < 32 → exs t = 0) (hD : tx_Dx yrk yds 24 r D) (hm : m = tz_el D r) (hcs : ycs = nI T) (hT : T ≤ 320)
    (hv : v ≤ 24) (hu : ∀ j, j < v → ¬ usd j = 0) (hf : v < 24 → usd v = 0) (hfail : t = 32 ∨ 320 < T + m ∨ v = 24) (H : post (-1) (ycs, ysc, usd, yrk, yds, shn, tof, vw, exs, ykd, fst, snd, own, prt, pct, val, ysl, ord, ysls)) : wpY_tensor post (ycs, ysc, usd, yrk, yds, shn, tof, vw, exs, ykd, fst, snd, own, prt, pct, val, ysl, ord, ysls) p0 p1 p2 := by
  have hb := hD.el
  refine ⟨33, ty_t3 (by omega) he1 he0 ?_ 33 0 (by omega) (by omega)⟩
  unfold wY_tensor_26
  refine ty_sz (d := 24) (by omega) hD ?_
  rw [← hm]
  by_cases h1 : t = 32
  · subst h1
    exact br_t rfl H
  · refine br_c (fun _ => H) (fun _ => ?_)
    by_cases h2 : 320 < T + m
    · refine br_t ?_ H
      rw [hcs, nI_add]
      exact nI_lt (a := 320) h2 (by omega)
    · refine br_c (fun _ => H) (fun _ => ty_fh hv hu hf ?_)
      have h3 : v = 24 := by omega
      subst h3
      exact br_t rfl H
end YT
end
section
/-! the relation -/
def tr_nx (N : Nat) (nd : Nat → Nat) (i : Nat) : Int32 := if i < N then nI (nd i) else -1
def tr_pv (nd : Nat → Nat) (i : Nat) : Int32 := if i = 0 then -1 else nI (nd (i - 1))
/-- the live nodes by age, their links, sizes and places -/
def tr_Sk (N : Nat) (nd ag kd sz : Nat → Nat) (xnc xol xnw xtp : Int32) (knd siz oldr newr stt : Nat → Int32) : Prop :=
  (N ≤ 32 ∧ xnc = nI N ∧ xtp = nI (tz_ps sz nd N) ∧ tz_ps sz nd N ≤ 320 ∧ xol = tr_nx N nd 0 ∧ xnw = tr_pv nd N) ∧
  (∀ n, kd n ≠ 0 → n < 32 ∧ ag n < N ∧ nd (ag n) = n) ∧
  (∀ i, i < N → kd (nd i) ≠ 0 ∧ ag (nd i) = i) ∧
  (∀ n, n < 32 → knd n = nI (kd n) ∧ kd n ≤ 7) ∧
  (∀ n, kd n ≠ 0 → siz n = nI (sz n) ∧ 1 ≤ sz n ∧ sz n ≤ 64) ∧
  (∀ i, i < N → newr (nd i) = tr_nx N nd (i + 1) ∧ oldr (nd i) = tr_pv nd i ∧ stt (nd i) = nI (tz_ps sz nd i))
/-- the reference's cells -/
def tr_Ce (N : Nat) (nd kd sz : Nat → Nat) (cl : Nat → Nat → Nat) (ycs : Int32) (own ord exs ykd : Nat → Int32) : Prop :=
  ycs = nI (tz_ps sz nd N) ∧
  (∀ n e, kd n ≠ 0 → e < sz n → cl n e < 320 ∧ own (cl n e) = nI n) ∧
  (∀ n e e', kd n ≠ 0 → e < sz n → e' < sz n → cl n e = cl n e' → e = e') ∧
  (∀ i e, i < N → e < sz (nd i) → ord (tz_ps sz nd i + e) = nI (cl (nd i) e)) ∧
  (∀ c, c < 320 → own c = -1 ∨ ∃ n e, kd n ≠ 0 ∧ e < sz n ∧ c = cl n e) ∧
  tz_cn (fun c => !decide (own c < 0)) 320 = tz_ps sz nd N ∧
  (∀ n, n < 32 → exs n = if kd n = 0 then 0 else 1) ∧ (∀ n, kd n ≠ 0 → ykd n = nI (kd n - 1))
/-- handle h shows node n -/
def tr_Ha (kd sz : Nat → Nat) (cl : Nat → Nat → Nat) (nod ofs rnk dmx stx its usd yrk yds shn tof vw : Nat → Int32) (h n r : Nat) (D : Nat → Nat) : Prop :=
  (nod h = nI n ∧ kd n ≠ 0) ∧ tx_Dx rnk dmx h r D ∧ tx_Sx ofs stx h r ∧ (usd h = 1 ∧ tof h = nI n ∧ tx_Dx yrk yds h r D) ∧
  (∀ e, e < tz_el D r → ∃ a, a < sz n ∧ tx_Rd ofs stx h r D e a ∧ shn (64 * h + e) = nI (cl n a)) ∧
  ((its h = 1 ∧ vw h = 0 ∧ kd n = 1 ∧ tz_el D r = sz n ∧ ∀ e, e < sz n → tx_Rd ofs stx h r D e e) ∨ (its h = 0 ∧ (vw h = 1 ∨ (vw h = 0 ∧ kd n ≠ 1))))
def tr_Hs (kd sz : Nat → Nat) (cl : Nat → Nat → Nat) (nod ofs rnk dmx stx its usd yrk yds shn tof vw : Nat → Int32) : Prop :=
  ∀ h, h < 24 → (nod h = -1 ∧ usd h = 0) ∨ ∃ n r D, tr_Ha kd sz cl nod ofs rnk dmx stx its usd yrk yds shn tof vw h n r D
/-- descriptor d shows cell c at element i -/
def tr_rd (sz : Nat → Nat) (cl : Nat → Nat → Nat) (ofs stx : Nat → Int32) (d m r : Nat) (D : Nat → Nat) (i : Nat) (c : Int32) : Prop := ∃ a, a < sz m ∧ tx_Rd ofs stx d r D i a ∧ c = nI (cl m a)
/-- descriptor d is an operand of node n: it shows node m, which is older -/
def tr_Op (ag kd : Nat → Nat) (nod rnk dmx : Nat → Int32) (n d m r : Nat) (D : Nat → Nat) : Prop := nod d = nI m ∧ kd m ≠ 0 ∧ ag m < ag n ∧ tx_Dx rnk dmx d r D
def tr_i1 (k col K e j : Nat) : Nat := if k = 6 then e / col * K + j else e
def tr_i2 (k col e j : Nat) : Nat := if k = 6 then j * col + e % col else e
/-- a node with one operand (5 a sum, 7 a copy) -/
def tr_U (kd sz : Nat → Nat) (cl : Nat → Nat → Nat) (nod ofs stx blw snd prt pct : Nat → Int32) (n m r : Nat) (D : Nat → Nat) (K : Nat) : Prop :=
  (kd n = 5 ∧ K = tz_last D r ∨ kd n = 7 ∧ K = 1) ∧ nod (24 + 3 * n + 2) = -1 ∧ snd n = -1 ∧ (∀ i, i < 32 → bt (blw n) i = (bt (blw m) i || decide (i = m))) ∧
  ∀ e, e < sz n → pct (cl n e) = nI K ∧ ∀ j, j < K → tr_rd sz cl ofs stx (24 + 3 * n + 1) m r D (e * K + j) (prt (8 * cl n e + j))
/-- a node with two operands (2, 3, 4 by elements; 6 the matrix product) -/
def tr_B (ag kd sz : Nat → Nat) (cl : Nat → Nat → Nat) (nod ofs rnk dmx stx blw snd prt pct : Nat → Int32) (n m r : Nat) (D : Nat → Nat) (col K m2 r2 : Nat) (D2 : Nat → Nat) : Prop :=
  (kd n = 6 ∧ K = tz_last D r ∨ (kd n = 2 ∨ kd n = 3 ∨ kd n = 4) ∧ K = 1) ∧ tr_Op ag kd nod rnk dmx n (24 + 3 * n + 2) m2 r2 D2 ∧ snd n = nI m2 ∧
  (∀ i, i < 32 → bt (blw n) i = ((bt (blw m) i || decide (i = m)) || (bt (blw m2) i || decide (i = m2)))) ∧
  ∀ e, e < sz n → pct (cl n e) = nI (2 * K) ∧ ∀ j, j < K → tr_rd sz cl ofs stx (24 + 3 * n + 1) m r D (tr_i1 (kd n) col K e j) (prt (8 * cl n e + 2 * j)) ∧ tr_rd sz cl ofs stx (24 + 3 * n + 2) m2 r2 D2 (tr_i2 (kd n) col e j) (prt (8 * cl n e + (2 * j + 1)))
/-- what node n is made of -/
def tr_No (ag kd sz : Nat → Nat) (cl : Nat → Nat → Nat) (nod ofs rnk dmx stx blw fst snd prt pct : Nat → Int32) (n : Nat) : Prop :=
  (kd n = 1 ∧ fst n = -1 ∧ snd n = -1 ∧ ∀ i, i < 32 → bt (blw n) i = false) ∨
  ∃ m r D r0 D0 K, tr_Op ag kd nod rnk dmx n (24 + 3 * n + 1) m r D ∧ fst n = nI m ∧ tx_Dx rnk dmx (24 + 3 * n) r0 D0 ∧ 1 ≤ K ∧ K ≤ 4 ∧
    (tr_U kd sz cl nod ofs stx blw snd prt pct n m r D K ∨ ∃ m2 r2 D2, tr_B ag kd sz cl nod ofs rnk dmx stx blw snd prt pct n m r D (tz_last D0 r0) K m2 r2 D2)
def tr_Ns (ag kd sz : Nat → Nat) (cl : Nat → Nat → Nat) (nod ofs rnk dmx stx blw fst snd prt pct : Nat → Int32) : Prop := ∀ n, kd n ≠ 0 → tr_No ag kd sz cl nod ofs rnk dmx stx blw fst snd prt pct n
/-- the slots that count as references -/
def tr_ac (kd : Nat → Nat) (d : Nat) : Bool := decide (d < 24) || (decide (d % 3 ≠ 0) && decide (2 ≤ kd ((d - 24) / 3)))
def tr_rc (kd : Nat → Nat) (nod : Nat → Int32) (n : Nat) : Nat := tz_cn (fun d => tr_ac kd d && decide (nod d = nI n)) 120
def tr_Rf (kd : Nat → Nat) (nod rfs : Nat → Int32) : Prop := ∀ n, kd n ≠ 0 → rfs n = nI (tr_rc kd nod n) ∧ 1 ≤ tr_rc kd nod n
/-- the value of a cell of kind k with cnt parts q 0, q 1 .. -/
def tr_vF (k cnt : Nat) (q : Nat → Nat) (V : Nat → Int32) : Int32 :=
  if k = 3 then V (q 0) - V (q 1)
  else if k = 4 ∨ k = 6 then tz_sm (fun j => V (q (2 * j)) * V (q (2 * j + 1))) (cnt / 2)
  else tz_sm (fun j => V (q j)) cnt
def tr_q (prt : Nat → Int32) (c : Nat) : Nat → Nat := fun j => (prt (8 * c + j)).toNatClampNeg
def tr_Va (ag nd kd sz : Nat → Nat) (cl : Nat → Nat → Nat) (V : Nat → Int32) (xfr : Int32) (arn val prt pct : Nat → Int32) : Prop :=
  (∀ n e, kd n = 1 → e < sz n → V (cl n e) = val (cl n e)) ∧ (∀ n, kd n = 1 → bt xfr n = true) ∧
  (∀ n e, kd n ≠ 0 → e < sz n → bt xfr n = true → arn (tz_ps sz nd (ag n) + e) = V (cl n e)) ∧
  (∀ n e, 2 ≤ kd n → e < sz n → V (cl n e) = tr_vF (kd n) (pct (cl n e)).toNatClampNeg (tr_q prt (cl n e)) V)
def tr_Sl (xsc ysc : Int32) (sls ysls : Nat → Int32) : Prop := ∃ S, S ≤ 64 ∧ xsc = nI S ∧ ysc = nI S ∧ ∀ i, i < S → ysls i = sls i
def tr_R (xnc xfr xol xnw xtp xsc : Int32) (nod ofs rnk dmx stx its knd rfs siz oldr newr stt blw arn slo mvd sls : Nat → Int32) (ycs ysc : Int32) (usd yrk yds shn tof vw exs ykd fst snd own prt pct val ysl ord ysls : Nat → Int32) : Prop :=
  ∃ (N : Nat) (nd ag kd sz : Nat → Nat) (cl : Nat → Nat → Nat) (V : Nat → Int32), tr_Sk N nd ag kd sz xnc xol xnw xtp knd siz oldr newr stt ∧ tr_Ce N nd kd sz cl ycs own ord exs ykd ∧ tr_Hs kd sz cl nod ofs rnk dmx stx its usd yrk yds shn tof vw ∧ tr_Ns ag kd sz cl nod ofs rnk dmx stx blw fst snd prt pct ∧ tr_Rf kd nod rfs ∧ tr_Va ag nd kd sz cl V xfr arn val prt pct ∧ tr_Sl xsc ysc sls ysls
def i_Rel (_ : Nat) (u : SX) (v : SY) : Prop := match u with
  | (xnc, xfr, xol, xnw, xtp, xsc, nod, ofs, rnk, dmx, stx, its, knd, rfs, siz, oldr, newr, stt, blw, arn, slo, mvd, sls) => match v with
    | (ycs, ysc, usd, yrk, yds, shn, tof, vw, exs, ykd, fst, snd, own, prt, pct, val, ysl, ord, ysls) => tr_R xnc xfr xol xnw xtp xsc nod ofs rnk dmx stx its knd rfs siz oldr newr stt blw arn slo mvd sls ycs ysc usd yrk yds shn tof vw exs ykd fst snd own prt pct val ysl ord ysls
theorem i_up {k : Nat} {u : SX} {v : SY} (h : i_Rel k u v) : i_Rel (k + 5) u v := h
section RI
variable {xnc xfr xol xnw xtp xsc : Int32} {nod ofs rnk dmx stx its knd rfs siz oldr newr stt blw arn slo mvd sls : Nat → Int32}
variable {ycs ysc : Int32} {usd yrk yds shn tof vw exs ykd fst snd own prt pct val ysl ord ysls : Nat → Int32}
theorem tr_I {k : Nat} (h : tr_R xnc xfr xol xnw xtp xsc nod ofs rnk dmx stx its knd rfs siz oldr newr stt blw arn slo mvd sls ycs ysc usd yrk yds shn tof vw exs ykd fst snd own prt pct val ysl ord ysls) : i_Rel k (xnc, xfr, xol, xnw, xtp, xsc, nod, ofs, rnk, dmx, stx, its, knd, rfs, siz, oldr, newr, stt, blw, arn, slo, mvd, sls) (ycs, ysc, usd, yrk, yds, shn, tof, vw, exs, ykd, fst, snd, own, prt, pct, val, ysl, ord, ysls) := h
end RI
end
section
/-! what the relation gives at once; frames -/
theorem tz_php : ∀ (b a : Nat) (f : Nat → Nat), (∀ i, i < a → f i < b) → (∀ i j, i < a → j < a → f i = f j → i = j) → a ≤ b := by
  intro b
  induction b with
  | zero =>
    intro a f h _
    cases a with
    | zero => exact Nat.le_refl _
    | succ a => exact absurd (h 0 (by omega)) (by omega)
  | succ b ih =>
    intro a f h inj
    by_cases c : ∃ i, i < a ∧ f i = b
    · obtain ⟨i0, hi0, e0⟩ := c
      have key : a - 1 ≤ b := by
        refine ih (a - 1) (fun i => if i = i0 then f (a - 1) else f i) ?_ ?_
        · intro i hi
          (try dsimp only)
          by_cases q : i = i0
          · rw [if_pos q]
            have h1 := h (a - 1) (by omega)
            by_cases z : f (a - 1) = b
            · have := inj (a - 1) i0 (by omega) hi0 (z.trans e0.symm); omega
            · omega
          · rw [if_neg q]
            have h1 := h i (by omega)
            by_cases z : f i = b
            · exact absurd (inj i i0 (by omega) hi0 (z.trans e0.symm)) q
            · omega
        · intro i j hi hj e
          (try dsimp only at e)
          by_cases q : i = i0
          · by_cases q2 : j = i0
            · omega
            · rw [if_pos q, if_neg q2] at e
              have := inj (a - 1) j (by omega) (by omega) e; omega
          · by_cases q2 : j = i0
            · rw [if_neg q, if_pos q2] at e
              have := inj i (a - 1) (by omega) (by omega) e; omega
            · rw [if_neg q, if_neg q2] at e
              exact inj i j (by omega) (by omega) e
      omega
    · have := ih a f (fun i hi => by
        have h1 := h i hi
        by_cases z : f i = b
        · exact absurd ⟨i, hi, z⟩ c
        · omega) inj
      omega
/-- the X descriptors in P, and the Y handles other than v, are as they were -/
def tr_fx (P : Nat → Prop) (ofs rnk dmx stx ofs' rnk' dmx' stx' : Nat → Int32) : Prop := ∀ d, d < 120 → P d → ofs' d = ofs d ∧ rnk' d = rnk d ∧ ∀ i, i < 3 → dmx' (3 * d + i) = dmx (3 * d + i) ∧ stx' (3 * d + i) = stx (3 * d + i)
def tr_fy (v : Nat) (yrk yds shn yrk' yds' shn' : Nat → Int32) : Prop := ∀ j, j < 24 → j ≠ v → yrk' j = yrk j ∧ (∀ i, i < 3 → yds' (3 * j + i) = yds (3 * j + i)) ∧ ∀ e, e < 64 → shn' (64 * j + e) = shn (64 * j + e)
theorem tx_Rd_fr {ofs stx ofs' stx' : Nat → Int32} {d d' r : Nat} {D : Nat → Nat} {i a : Nat} (hr : r ≤ 3) (h : tx_Rd ofs stx d r D i a) (h1 : ofs' d' = ofs d) (h2 : ∀ i, i < 3 → stx' (3 * d' + i) = stx (3 * d + i)) : tx_Rd ofs' stx' d' r D i a := by
  unfold tx_Rd at h ⊢
  rw [h1, ← h]
  exact tz_adlc r _ _ (fun _ _ => rfl) (fun i hi => h2 i (by omega))
section FR
variable {xnc1 xfr1 xol1 xnw1 xtp1 xsc1 : Int32} {nod1 ofs1 rnk1 dmx1 stx1 its1 knd1 rfs1 siz1 oldr1 newr1 stt1 blw1 arn1 slo1 mvd1 sls1 : Nat → Int32}
variable {ycs1 ysc1 : Int32} {usd1 yrk1 yds1 shn1 tof1 vw1 exs1 ykd1 fst1 snd1 own1 prt1 pct1 val1 ysl1 ord1 ysls1 : Nat → Int32}
variable {xnc xfr xol xnw xtp xsc : Int32} {nod ofs rnk dmx stx its knd rfs siz oldr newr stt blw arn slo mvd sls : Nat → Int32}
variable {ycs ysc : Int32} {usd yrk yds shn tof vw exs ykd fst snd own prt pct val ysl ord ysls : Nat → Int32}
variable {N : Nat} {nd ag kd sz : Nat → Nat} {cl : Nat → Nat → Nat} {V : Nat → Int32}
theorem tr_Ha.lt {h n r : Nat} {D : Nat → Nat} (H : tr_Ha kd sz cl nod ofs rnk dmx stx its usd yrk yds shn tof vw h n r D) : tz_el D r ≤ 64 := H.2.1.el.2
theorem tr_Ha.fr {P : Nat → Prop} {v h n r : Nat} {D : Nat → Nat} (H : tr_Ha kd sz cl nod ofs rnk dmx stx its usd yrk yds shn tof vw h n r D) (hh : h < 24) (hv : h ≠ v) (hP : P h) (fx : tr_fx P ofs rnk dmx stx ofs1 rnk1 dmx1 stx1) (fy : tr_fy v yrk yds shn yrk1 yds1 shn1)
    (h1 : nod1 h = nod h) (h2 : its1 h = its h) (h3 : usd1 h = usd h) (h4 : tof1 h = tof h) (h5 : vw1 h = vw h) : tr_Ha kd sz cl nod1 ofs1 rnk1 dmx1 stx1 its1 usd1 yrk1 yds1 shn1 tof1 vw1 h n r D := by
  have hlt := H.lt
  obtain ⟨⟨a1, a2⟩, a3, a4, ⟨a5, a6, a7⟩, a8, a9⟩ := H
  obtain ⟨x1, x2, x3⟩ := fx h (by omega) hP
  obtain ⟨y1, y2, y3⟩ := fy h hh hv
  have hr := a3.2.1
  refine ⟨⟨h1.trans a1, a2⟩, tx_Dx_fr a3 x2 (fun i hi => (x3 i hi).1), tx_Sx_fr hr a4 x1 (fun i hi => (x3 i hi).2), ⟨h3.trans a5, h4.trans a6, tx_Dx_fr a7 y1 y2⟩, ?_, ?_⟩
  · intro e he
    obtain ⟨a, b1, b2, b3⟩ := a8 e he
    exact ⟨a, b1, tx_Rd_fr hr b2 x1 (fun i hi => (x3 i hi).2), by rw [y3 e (by omega)]; exact b3⟩
  · rcases a9 with ⟨b1, b2, b3, b4, b5⟩ | ⟨b1, b2⟩
    · exact Or.inl ⟨h2.trans b1, h5.trans b2, b3, b4, fun e he => tx_Rd_fr hr (b5 e he) x1 (fun i hi => (x3 i hi).2)⟩
    · exact Or.inr ⟨h2.trans b1, by rw [h5]; exact b2⟩
theorem tr_rd.fr {P : Nat → Prop} {d m r : Nat} {D : Nat → Nat} {i : Nat} {c : Int32} (hr : r ≤ 3) (H : tr_rd sz cl ofs stx d m r D i c) (hd : d < 120) (hP : P d) (fx : tr_fx P ofs rnk dmx stx ofs1 rnk1 dmx1 stx1) : tr_rd sz cl ofs1 stx1 d m r D i c := by
  obtain ⟨a, b1, b2, b3⟩ := H
  obtain ⟨x1, x2, x3⟩ := fx d hd hP
  exact ⟨a, b1, tx_Rd_fr hr b2 x1 (fun i hi => (x3 i hi).2), b3⟩
theorem tr_Op.fr {P : Nat → Prop} {n d m r : Nat} {D : Nat → Nat} (H : tr_Op ag kd nod rnk dmx n d m r D) (hd : d < 120) (hP : P d) (fx : tr_fx P ofs rnk dmx stx ofs1 rnk1 dmx1 stx1) (hn : nod1 d = nod d) : tr_Op ag kd nod1 rnk1 dmx1 n d m r D := by
  obtain ⟨b1, b2, b3, b4⟩ := H
  obtain ⟨x1, x2, x3⟩ := fx d hd hP
  exact ⟨hn.trans b1, b2, b3, tx_Dx_fr b4 x2 (fun i hi => (x3 i hi).1)⟩
/-- a node's wiring where its three descriptors, its operands' bits and its cells' parts are as they were -/
theorem tr_No.fr {P : Nat → Prop} {n : Nat} (H : tr_No ag kd sz cl nod ofs rnk dmx stx blw fst snd prt pct n) (hn : n < 32) (hP : ∀ o, o < 3 → P (24 + 3 * n + o)) (fx : tr_fx P ofs rnk dmx stx ofs1 rnk1 dmx1 stx1) (h1 : ∀ o, o < 3 → nod1 (24 + 3 * n + o) = nod (24 + 3 * n + o)) : tr_No ag kd sz cl nod1 ofs1 rnk1 dmx1 stx1 blw fst snd prt pct n := by
  rcases H with H | ⟨m, r, D, r0, D0, K, a1, a2, a3, a4, a5, a6⟩
  · exact Or.inl H
  · refine Or.inr ⟨m, r, D, r0, D0, K, a1.fr (by omega) (hP 1 (by omega)) fx (h1 1 (by omega)), a2, ?_, a4, a5, ?_⟩
    · obtain ⟨x1, x2, x3⟩ := fx (24 + 3 * n) (by omega) (hP 0 (by omega))
      exact tx_Dx_fr a3 x2 (fun i hi => (x3 i hi).1)
    · have hr := a1.2.2.2.2.1
      rcases a6 with ⟨c1, c2, c3, c4, c5⟩ | ⟨m2, r2, D2, c1, c2, c3, c4, c5⟩
      · exact Or.inl ⟨c1, (h1 2 (by omega)).trans c2, c3, c4, fun e he => ⟨(c5 e he).1, fun j hj => ((c5 e he).2 j hj).fr hr (by omega) (hP 1 (by omega)) fx⟩⟩
      · have hr2 := c2.2.2.2.2.1
        exact Or.inr ⟨m2, r2, D2, c1, c2.fr (by omega) (hP 2 (by omega)) fx (h1 2 (by omega)), c3, c4, fun e he => ⟨(c5 e he).1, fun j hj => ⟨((c5 e he).2 j hj).1.fr hr (by omega) (hP 1 (by omega)) fx, ((c5 e he).2 j hj).2.fr hr2 (by omega) (hP 2 (by omega)) fx⟩⟩⟩
theorem tr_Hs.junk {v : Nat} (H : tr_Hs kd sz cl nod ofs rnk dmx stx its usd yrk yds shn tof vw) (hv : v < 24 → nod v = -1 ∧ usd v = 0) (fx : tr_fx (fun d => d ≠ v) ofs rnk dmx stx ofs1 rnk1 dmx1 stx1) (fy : tr_fy v yrk yds shn yrk1 yds1 shn1) : tr_Hs kd sz cl nod ofs1 rnk1 dmx1 stx1 its usd yrk1 yds1 shn1 tof vw := by
  intro h hh
  by_cases e : h = v
  · subst e
    exact Or.inl (hv hh)
  · rcases H h hh with q | ⟨n, r, D, q⟩
    · exact Or.inl q
    · exact Or.inr ⟨n, r, D, q.fr hh e e fx fy rfl rfl rfl rfl rfl⟩
theorem tr_Ns.junk {v : Nat} (S : tr_Sk N nd ag kd sz xnc xol xnw xtp knd siz oldr newr stt) (H : tr_Ns ag kd sz cl nod ofs rnk dmx stx blw fst snd prt pct) (hv : v < 24) (fx : tr_fx (fun d => d ≠ v) ofs rnk dmx stx ofs1 rnk1 dmx1 stx1) : tr_Ns ag kd sz cl nod ofs1 rnk1 dmx1 stx1 blw fst snd prt pct := by
  intro n hn
  have := (S.2.1 n hn).1
  exact (H n hn).fr this (fun o ho => by (try dsimp only); omega) fx (fun _ _ => rfl)
/-- v1 is no handle, or it is one -/
theorem tr_hd (H : tr_Hs kd sz cl nod ofs rnk dmx stx its usd yrk yds shn tof vw) (v1 : Int32) : ((∀ post : Int32 → Prop, post 0 → wpX_is post (xnc, xfr, xol, xnw, xtp, xsc, nod, ofs, rnk, dmx, stx, its, knd, rfs, siz, oldr, newr, stt, blw, arn, slo, mvd, sls) v1) ∧ (∀ post : Int32 → Prop, post 0 → wpY_isHandle post (ycs, ysc, usd, yrk, yds, shn, tof, vw, exs, ykd, fst, snd, own, prt, pct, val, ysl, ord, ysls) v1)) ∨ ∃ h n r D, h < 24 ∧ v1 = nI h ∧ tr_Ha kd sz cl nod ofs rnk dmx stx its usd yrk yds shn tof vw h n r D := by
  rcases pk_ix v1 (n := 24) (by decide) with h | h | ⟨h, hh, rfl⟩
  · exact Or.inl ⟨fun _ H => tx_isn (Or.inl h) H, fun _ H => ty_isn (Or.inl h) H⟩
  · exact Or.inl ⟨fun _ H => tx_isn (Or.inr h) H, fun _ H => ty_isn (Or.inr h) H⟩
  · rcases H h hh with ⟨q1, q2⟩ | ⟨n, r, D, q⟩
    · exact Or.inl ⟨fun _ H => tx_is0 hh (by rw [q1]; exact tz_m1lt) H, fun _ H => ty_is0 hh q2 H⟩
    · exact Or.inr ⟨h, n, r, D, hh, rfl, q⟩
theorem tr_Ha.is {h n r : Nat} {D : Nat → Nat} (S : tr_Sk N nd ag kd sz xnc xol xnw xtp knd siz oldr newr stt) (H : tr_Ha kd sz cl nod ofs rnk dmx stx its usd yrk yds shn tof vw h n r D) (hh : h < 24) : (∀ post : Int32 → Prop, post 1 → wpX_is post (xnc, xfr, xol, xnw, xtp, xsc, nod, ofs, rnk, dmx, stx, its, knd, rfs, siz, oldr, newr, stt, blw, arn, slo, mvd, sls) (nI h)) ∧ (∀ post : Int32 → Prop, post 1 → wpY_isHandle post (ycs, ysc, usd, yrk, yds, shn, tof, vw, exs, ykd, fst, snd, own, prt, pct, val, ysl, ord, ysls) (nI h)) := by
  have hn := (S.2.1 n H.1.2).1
  exact ⟨fun _ K => tx_is1 hh (by rw [H.1.1]; exact nI_pos (by omega)) K, fun _ K => ty_is1 hh (by rw [H.2.2.2.1.1]; decide) K⟩
/-- the lowest free handle -/
theorem tr_fh (S : tr_Sk N nd ag kd sz xnc xol xnw xtp knd siz oldr newr stt) (H : tr_Hs kd sz cl nod ofs rnk dmx stx its usd yrk yds shn tof vw) : ∃ v, v ≤ 24 ∧ (∀ j, j < v → ¬ nod j < 0) ∧ (∀ j, j < v → ¬ usd j = 0) ∧ (v < 24 → nod v = -1 ∧ usd v = 0) := by
  by_cases c : ∃ k, 0 ≤ k ∧ k < 24 ∧ nod k = -1
  · obtain ⟨f, _, f2, f3, f4⟩ := tz_first (p := fun k => nod k = -1) c
    have hu : ∀ j, j < f → ¬ nod j < 0 ∧ ¬ usd j = 0 := by
      intro j hj
      rcases H j (by omega) with ⟨q, _⟩ | ⟨n, r, D, q⟩
      · exact absurd q (f4 j (by omega) hj)
      · have hn := (S.2.1 n q.1.2).1
        exact ⟨by rw [q.1.1]; exact nI_pos (by omega), by rw [q.2.2.2.1.1]; decide⟩
    refine ⟨f, by omega, fun j hj => (hu j hj).1, fun j hj => (hu j hj).2, fun hf => ?_⟩
    rcases H f hf with q | ⟨n, r, D, q⟩
    · exact q
    · have hn := (S.2.1 n q.1.2).1
      have := q.1.1
      rw [f3] at this
      exact absurd this.symm (tz_nIm1 (by omega))
  · have hu : ∀ j, j < 24 → ¬ nod j < 0 ∧ ¬ usd j = 0 := by
      intro j hj
      rcases H j (by omega) with ⟨q, _⟩ | ⟨n, r, D, q⟩
      · exact absurd ⟨j, by omega, hj, q⟩ c
      · have hn := (S.2.1 n q.1.2).1
        exact ⟨by rw [q.1.1]; exact nI_pos (by omega), by rw [q.2.2.2.1.1]; decide⟩
    exact ⟨24, by omega, fun j hj => (hu j hj).1, fun j hj => (hu j hj).2, fun h => by omega⟩
/-- the lowest free node -/
theorem tr_fn (S : tr_Sk N nd ag kd sz xnc xol xnw xtp knd siz oldr newr stt) (C : tr_Ce N nd kd sz cl ycs own ord exs ykd) : ∃ t, t ≤ 32 ∧ (∀ j, j < t → kd j ≠ 0) ∧ (t < 32 → kd t = 0) ∧ (t = 32 ↔ N = 32) ∧ (∀ j, j < t → ¬ knd j = 0) ∧ (t < 32 → knd t = 0) ∧ (∀ j, j < t → ¬ exs j = 0) ∧ (t < 32 → exs t = 0) := by
  have hN := S.1.1
  have kn : ∀ j, j < 32 → kd j ≠ 0 → ¬ knd j = 0 ∧ ¬ exs j = 0 := by
    intro j hj hk
    have h1 := S.2.2.2.1 j hj
    refine ⟨?_, ?_⟩
    · rw [h1.1]; exact nI_ne0 (by omega) (by omega)
    · rw [C.2.2.2.2.2.2.1 j hj, if_neg hk]; decide
  have kz : ∀ j, j < 32 → kd j = 0 → knd j = 0 ∧ exs j = 0 := by
    intro j hj hk
    have h1 := S.2.2.2.1 j hj
    exact ⟨by rw [h1.1, hk]; rfl, by rw [C.2.2.2.2.2.2.1 j hj, if_pos hk]⟩
  by_cases c : ∃ k, 0 ≤ k ∧ k < 32 ∧ kd k = 0
  · obtain ⟨f, _, f2, f3, f4⟩ := tz_first (p := fun k => kd k = 0) c
    refine ⟨f, by omega, fun j hj => f4 j (by omega) hj, fun _ => f3, ⟨fun h => by omega, fun h => ?_⟩, fun j hj => (kn j (by omega) (f4 j (by omega) hj)).1, fun h => (kz f h f3).1, fun j hj => (kn j (by omega) (f4 j (by omega) hj)).2, fun h => (kz f h f3).2⟩
    exfalso
    have := tz_php 31 32 (fun i => if nd i < f then nd i else nd i - 1) ?_ ?_
    · omega
    · intro i hi
      (try dsimp only)
      have q := S.2.2.1 i (by omega)
      have q2 := (S.2.1 _ q.1).1
      split <;> omega
    · intro i j hi hj e
      (try dsimp only at e)
      have q := S.2.2.1 i (by omega)
      have q2 := (S.2.1 _ q.1).1
      have q' := S.2.2.1 j (by omega)
      have q2' := (S.2.1 _ q'.1).1
      have n1 : nd i ≠ f := fun z => q.1 (by rw [z]; exact f3)
      have n2 : nd j ≠ f := fun z => q'.1 (by rw [z]; exact f3)
      have : nd i = nd j := by
        split at e <;> split at e <;> omega
      rw [← q.2, ← q'.2, this]
  · have hk : ∀ j, j < 32 → kd j ≠ 0 := fun j hj z => c ⟨j, by omega, hj, z⟩
    refine ⟨32, by omega, hk, fun h => by omega, ⟨fun _ => ?_, fun _ => rfl⟩, fun j hj => (kn j hj (hk j hj)).1, fun h => by omega, fun j hj => (kn j hj (hk j hj)).2, fun h => by omega⟩
    have := tz_php N 32 ag (fun i hi => (S.2.1 i (hk i hi)).2.1) (fun i j hi hj e => by
      rw [← (S.2.1 i (hk i hi)).2.2, ← (S.2.1 j (hk j hj)).2.2, e])
    omega
theorem tr_rc_le (n : Nat) : tr_rc kd nod n ≤ 120 := tz_cnle _ _
end FR
end
section
/-! views: the counts of references; a new view handle -/
section RC
variable {kd : Nat → Nat} {nod : Nat → Int32}
theorem tr_rc_add {d n : Nat} (hd : d < 120) (ha : tr_ac kd d = true) (hne : nod d ≠ nI n) : tr_rc kd (upd nod d (nI n)) n = tr_rc kd nod n + 1 := by
  unfold tr_rc
  refine tz_cn1 (k := d) 120 hd ?_ ?_ ?_
  · intro i _ hi; (try dsimp only); rw [pk_un hi]
  · (try dsimp only); rw [decide_eq_false hne, Bool.and_false]
  · (try dsimp only); rw [pk_us, ha, decide_eq_true rfl]; rfl
theorem tr_rc_ne {d m : Nat} {x : Int32} (h1 : nod d ≠ nI m) (h2 : x ≠ nI m) : tr_rc kd (upd nod d x) m = tr_rc kd nod m := by
  unfold tr_rc
  refine tz_cnc 120 (fun i _ => ?_)
  (try dsimp only)
  by_cases e : i = d
  · subst e; rw [pk_us, decide_eq_false h1, decide_eq_false h2]
  · rw [pk_un e]
theorem tr_rc_sub {d n : Nat} {x : Int32} (hd : d < 120) (ha : tr_ac kd d = true) (he : nod d = nI n) (hx : x ≠ nI n) : tr_rc kd nod n = tr_rc kd (upd nod d x) n + 1 := by
  unfold tr_rc
  refine tz_cn1 (k := d) 120 hd ?_ ?_ ?_
  · intro i _ hi; (try dsimp only); rw [pk_un hi]
  · (try dsimp only); rw [pk_us, decide_eq_false hx, Bool.and_false]
  · (try dsimp only); rw [he, ha, decide_eq_true rfl]; rfl
theorem tr_rc_in {d m : Nat} {x : Int32} (ha : tr_ac kd d = false) : tr_rc kd (upd nod d x) m = tr_rc kd nod m := by
  unfold tr_rc
  refine tz_cnc 120 (fun i _ => ?_)
  (try dsimp only)
  by_cases e : i = d
  · subst e; rw [ha, Bool.false_and, Bool.false_and]
  · rw [pk_un e]
theorem tr_ac_h {d : Nat} (h : d < 24) : tr_ac kd d = true := by
  unfold tr_ac; rw [decide_eq_true h, Bool.true_or]
end RC
section VW
variable {xnc1 xfr1 xol1 xnw1 xtp1 xsc1 : Int32} {nod1 ofs1 rnk1 dmx1 stx1 its1 knd1 rfs1 siz1 oldr1 newr1 stt1 blw1 arn1 slo1 mvd1 sls1 : Nat → Int32}
variable {ycs1 ysc1 : Int32} {usd1 yrk1 yds1 shn1 tof1 vw1 exs1 ykd1 fst1 snd1 own1 prt1 pct1 val1 ysl1 ord1 ysls1 : Nat → Int32}
variable {xnc xfr xol xnw xtp xsc : Int32} {nod ofs rnk dmx stx its knd rfs siz oldr newr stt blw arn slo mvd sls : Nat → Int32}
variable {ycs ysc : Int32} {usd yrk yds shn tof vw exs ykd fst snd own prt pct val ysl ord ysls : Nat → Int32}
variable {N : Nat} {nd ag kd sz : Nat → Nat} {cl : Nat → Nat → Nat} {V : Nat → Int32}
theorem tr_view {h n r v r' : Nat} {D D' : Nat → Nat} (S : tr_Sk N nd ag kd sz xnc xol xnw xtp knd siz oldr newr stt) (H : tr_Hs kd sz cl nod ofs rnk dmx stx its usd yrk yds shn tof vw) (Ns : tr_Ns ag kd sz cl nod ofs rnk dmx stx blw fst snd prt pct) (R : tr_Rf kd nod rfs) (Hh : tr_Ha kd sz cl nod ofs rnk dmx stx its usd yrk yds shn tof vw h n r D) (hv : v < 24) (hvf : nod v = -1 ∧ usd v = 0)
    (fx : tr_fx (fun d => d ≠ v) ofs rnk dmx stx ofs1 rnk1 dmx1 stx1) (fy : tr_fy v yrk yds shn yrk1 yds1 shn1)
    (d1 : tx_Dx rnk1 dmx1 v r' D') (d2 : tx_Sx ofs1 stx1 v r') (d3 : tx_Dx yrk1 yds1 v r' D')
    (dE : ∀ e, e < tz_el D' r' → ∃ E, E < tz_el D r ∧ tz_adl D' (fun j => stx1 (3 * v + j)) r' e (ofs1 v) = tz_adl D (fun j => stx (3 * h + j)) r E (ofs h) ∧ shn1 (64 * v + e) = shn (64 * h + E)) :
    tr_Hs kd sz cl (upd nod v (nI n)) ofs1 rnk1 dmx1 stx1 (upd its v 0) (upd usd v 1) yrk1 yds1 shn1 (upd tof v (nI n)) (upd vw v 1) ∧ tr_Ns ag kd sz cl (upd nod v (nI n)) ofs1 rnk1 dmx1 stx1 blw fst snd prt pct ∧ tr_Rf kd (upd nod v (nI n)) (upd rfs n (nI (tr_rc kd nod n + 1))) := by
  have hn := (S.2.1 n Hh.1.2).1
  refine ⟨?_, ?_, ?_⟩
  · intro j hj
    by_cases e : j = v
    · subst e
      refine Or.inr ⟨n, r', D', ⟨pk_us, Hh.1.2⟩, d1, d2, ⟨pk_us, pk_us, d3⟩, ?_, Or.inr ⟨pk_us, Or.inl pk_us⟩⟩
      intro e he
      obtain ⟨E, h1, h2, h3⟩ := dE e he
      obtain ⟨a, b1, b2, b3⟩ := Hh.2.2.2.2.1 E h1
      exact ⟨a, b1, h2.trans b2, h3.trans b3⟩
    · rcases H j hj with ⟨q1, q2⟩ | ⟨n', r', D', q⟩
      · exact Or.inl ⟨by rw [pk_un e]; exact q1, by rw [pk_un e]; exact q2⟩
      · exact Or.inr ⟨n', r', D', q.fr hj e e fx fy (pk_un e) (pk_un e) (pk_un e) (pk_un e) (pk_un e)⟩
  · intro m hm
    have := (S.2.1 m hm).1
    exact (Ns m hm).fr this (fun o ho => by (try dsimp only); omega) fx (fun o ho => pk_un (by omega))
  · intro m hm
    have hm2 := (S.2.1 m hm).1
    have q := R m hm
    by_cases e : m = n
    · subst e
      rw [pk_us, tr_rc_add (by omega) (tr_ac_h hv) (by rw [hvf.1]; exact fun z => tz_nIm1 (by omega) z.symm)]
      exact ⟨rfl, by omega⟩
    · rw [pk_un e, tr_rc_ne (by rw [hvf.1]; exact fun z => tz_nIm1 (by omega) z.symm) (fun z => e ((nI_eq (by omega) (by omega)).mp z).symm)]
      exact q
end VW
/-! the loop of a view in the reference: e elements are there -/
def ty_Vl (shn0 shn : Nat → Int32) (h e : Nat) (E : Nat → Nat) : Prop := (∀ i, i < e → shn (1536 + i) = shn0 (64 * h + E i)) ∧ ∀ p, (p < 1536 ∨ 1536 + e ≤ p) → shn p = shn0 p
theorem ty_Vl_s {shn0 shn : Nat → Int32} {h e : Nat} {E : Nat → Nat} {x : Int32} (H : ty_Vl shn0 shn h e E) (hx : x = shn0 (64 * h + E e)) : ty_Vl shn0 (upd shn (1536 + e) x) h (e + 1) E := by
  obtain ⟨h1, h2⟩ := H
  refine ⟨fun i hi => ?_, fun p hp => ?_⟩
  · by_cases q : i = e
    · subst q; rw [pk_us]; exact hx
    · rw [pk_un (by omega)]; exact h1 i (by omega)
  · rw [pk_un (by omega)]; exact h2 p (by omega)
end
section
/-! a node's wiring under new ghosts -/
section TR
variable {xnc1 xfr1 xol1 xnw1 xtp1 xsc1 : Int32} {nod1 ofs1 rnk1 dmx1 stx1 its1 knd1 rfs1 siz1 oldr1 newr1 stt1 blw1 arn1 slo1 mvd1 sls1 : Nat → Int32}
variable {ycs1 ysc1 : Int32} {usd1 yrk1 yds1 shn1 tof1 vw1 exs1 ykd1 fst1 snd1 own1 prt1 pct1 val1 ysl1 ord1 ysls1 : Nat → Int32}
variable {xnc xfr xol xnw xtp xsc : Int32} {nod ofs rnk dmx stx its knd rfs siz oldr newr stt blw arn slo mvd sls : Nat → Int32}
variable {ycs ysc : Int32} {usd yrk yds shn tof vw exs ykd fst snd own prt pct val ysl ord ysls : Nat → Int32}
variable {N : Nat} {nd ag kd sz : Nat → Nat} {cl : Nat → Nat → Nat} {V : Nat → Int32}
variable {N1 : Nat} {nd1 ag1 kd1 sz1 : Nat → Nat} {cl1 : Nat → Nat → Nat} {V1 : Nat → Int32}
theorem tr_rd.tr {P : Nat → Prop} {d m r : Nat} {D : Nat → Nat} {i : Nat} {c c1 : Int32} (hr : r ≤ 3) (H : tr_rd sz cl ofs stx d m r D i c) (hd : d < 120) (hP : P d) (fx : tr_fx P ofs rnk dmx stx ofs1 rnk1 dmx1 stx1) (hs : sz1 m = sz m) (hc : ∀ a, a < sz m → cl1 m a = cl m a) (e : c1 = c) : tr_rd sz1 cl1 ofs1 stx1 d m r D i c1 := by
  obtain ⟨a, b1, b2, b3⟩ := H
  obtain ⟨x1, x2, x3⟩ := fx d hd hP
  exact ⟨a, by rw [hs]; exact b1, tx_Rd_fr hr b2 x1 (fun i hi => (x3 i hi).2), by rw [hc a b1, e]; exact b3⟩
theorem tr_Op.tr {P : Nat → Prop} {n d m r : Nat} {D : Nat → Nat} (H : tr_Op ag kd nod rnk dmx n d m r D) (hd : d < 120) (hP : P d) (fx : tr_fx P ofs rnk dmx stx ofs1 rnk1 dmx1 stx1) (hn : nod1 d = nod d) (hk : kd1 m ≠ 0) (ha : ag1 m < ag1 n) : tr_Op ag1 kd1 nod1 rnk1 dmx1 n d m r D := by
  obtain ⟨b1, b2, b3, b4⟩ := H
  obtain ⟨x1, x2, x3⟩ := fx d hd hP
  exact ⟨hn.trans b1, hk, ha, tx_Dx_fr b4 x2 (fun i hi => (x3 i hi).1)⟩
theorem tr_No.tr {P : Nat → Prop} {n : Nat} (H : tr_No ag kd sz cl nod ofs rnk dmx stx blw fst snd prt pct n) (hn : n < 32) (hP : ∀ o, o < 3 → P (24 + 3 * n + o)) (fx : tr_fx P ofs rnk dmx stx ofs1 rnk1 dmx1 stx1) (h1 : ∀ o, o < 3 → nod1 (24 + 3 * n + o) = nod (24 + 3 * n + o))
    (kn : kd1 n = kd n) (sn : sz1 n = sz n) (cn : ∀ e, e < sz n → cl1 n e = cl n e)
    (op : ∀ m, (nod (24 + 3 * n + 1) = nI m ∨ nod (24 + 3 * n + 2) = nI m) → 2 ≤ kd n → kd m ≠ 0 → ag m < ag n → kd1 m ≠ 0 ∧ ag1 m < ag1 n ∧ sz1 m = sz m ∧ (∀ a, a < sz m → cl1 m a = cl m a) ∧ blw1 m = blw m)
    (hb : blw1 n = blw n) (hf : fst1 n = fst n) (hs : snd1 n = snd n) (hp : ∀ e, e < sz n → pct1 (cl n e) = pct (cl n e) ∧ ∀ j, j < 8 → prt1 (8 * cl n e + j) = prt (8 * cl n e + j)) : tr_No ag1 kd1 sz1 cl1 nod1 ofs1 rnk1 dmx1 stx1 blw1 fst1 snd1 prt1 pct1 n := by
  rcases H with ⟨a1, a2, a3, a4⟩ | ⟨m, r, D, r0, D0, K, a1, a2, a3, a4, a5, a6⟩
  · exact Or.inl ⟨kn.trans a1, hf.trans a2, hs.trans a3, by rw [hb]; exact a4⟩
  · have k2 : 2 ≤ kd n := by
      rcases a6 with ⟨c1, _⟩ | ⟨m2, r2, D2, c1, _⟩
      · rcases c1 with ⟨c, _⟩ | ⟨c, _⟩ <;> omega
      · rcases c1 with ⟨c, _⟩ | ⟨c, _⟩ <;> omega
    obtain ⟨o1, o2, o3, o4, o5⟩ := op m (Or.inl a1.1) k2 a1.2.1 a1.2.2.1
    refine Or.inr ⟨m, r, D, r0, D0, K, a1.tr (by omega) (hP 1 (by omega)) fx (h1 1 (by omega)) o1 o2, hf.trans a2, ?_, a4, a5, ?_⟩
    · obtain ⟨x1, x2, x3⟩ := fx (24 + 3 * n) (by omega) (hP 0 (by omega))
      exact tx_Dx_fr a3 x2 (fun i hi => (x3 i hi).1)
    · have hr := a1.2.2.2.2.1
      rcases a6 with ⟨c1, c2, c3, c4, c5⟩ | ⟨m2, r2, D2, c1, c2, c3, c4, c5⟩
      · refine Or.inl ⟨by rw [kn]; exact c1, (h1 2 (by omega)).trans c2, hs.trans c3, by rw [hb, o5]; exact c4, fun e he => ?_⟩
        rw [sn] at he
        rw [cn e he, (hp e he).1]
        exact ⟨(c5 e he).1, fun j hj => ((c5 e he).2 j hj).tr hr (by omega) (hP 1 (by omega)) fx o3 o4 ((hp e he).2 j (by omega))⟩
      · have hr2 := c2.2.2.2.2.1
        obtain ⟨p1, p2, p3, p4, p5⟩ := op m2 (Or.inr c2.1) k2 c2.2.1 c2.2.2.1
        refine Or.inr ⟨m2, r2, D2, by rw [kn]; exact c1, c2.tr (by omega) (hP 2 (by omega)) fx (h1 2 (by omega)) p1 p2, hs.trans c3, by rw [hb, o5, p5]; exact c4, fun e he => ?_⟩
        rw [sn] at he
        rw [cn e he, (hp e he).1, kn]
        exact ⟨(c5 e he).1, fun j hj => ⟨((c5 e he).2 j hj).1.tr hr (by omega) (hP 1 (by omega)) fx o3 o4 ((hp e he).2 (2 * j) (by omega)), ((c5 e he).2 j hj).2.tr hr2 (by omega) (hP 2 (by omega)) fx p3 p4 ((hp e he).2 (2 * j + 1) (by omega))⟩⟩
theorem tr_Ha.tr {P : Nat → Prop} {v h n r : Nat} {D : Nat → Nat} (H : tr_Ha kd sz cl nod ofs rnk dmx stx its usd yrk yds shn tof vw h n r D) (hh : h < 24) (hv : h ≠ v) (hP : P h) (fx : tr_fx P ofs rnk dmx stx ofs1 rnk1 dmx1 stx1) (fy : tr_fy v yrk yds shn yrk1 yds1 shn1)
    (h1 : nod1 h = nod h) (h2 : its1 h = its h) (h3 : usd1 h = usd h) (h4 : tof1 h = tof h) (h5 : vw1 h = vw h) (kn : kd1 n = kd n) (sn : sz1 n = sz n) (cn : ∀ e, e < sz n → cl1 n e = cl n e) : tr_Ha kd1 sz1 cl1 nod1 ofs1 rnk1 dmx1 stx1 its1 usd1 yrk1 yds1 shn1 tof1 vw1 h n r D := by
  obtain ⟨⟨a1, a2⟩, a3, a4, a5, a8, a9⟩ := H.fr hh hv hP fx fy h1 h2 h3 h4 h5
  refine ⟨⟨a1, by rw [kn]; exact a2⟩, a3, a4, a5, ?_, ?_⟩
  · intro e he
    obtain ⟨a, b1, b2, b3⟩ := a8 e he
    exact ⟨a, by rw [sn]; exact b1, b2, by rw [cn a b1]; exact b3⟩
  · rw [kn, sn]
    exact a9
end TR
end
section
/-! transpose -/
def tz_tp (a b i : Nat) : Nat := if i = a then b else if i = b then a else i
theorem tz_tpb {a b k : Nat} {P : Int32 → Prop} (ha : a < 2 ^ 31) (hb : b < 2 ^ 31) (hk : k < 2 ^ 31) (H : P (nI (tz_tp a b k))) : (nI a = nI k → P (nI b)) ∧ (¬ nI a = nI k → ((nI b = nI k → P (nI a)) ∧ (¬ nI b = nI k → P (nI k)))) := by
  rw [nI_eq ha hk, nI_eq hb hk]
  unfold tz_tp at H
  by_cases h1 : k = a
  · rw [if_pos h1] at H
    exact br_t h1.symm H
  · rw [if_neg h1] at H
    refine br_f (fun z => h1 z.symm) ?_
    by_cases h2 : k = b
    · rw [if_pos h2] at H
      exact br_t h2.symm H
    · rw [if_neg h2] at H
      exact br_f (fun z => h2 z.symm) H
theorem tz_tplt {a b i r : Nat} (ha : a < r) (hb : b < r) (hi : i < r) : tz_tp a b i < r := by
  unfold tz_tp; split
  · exact hb
  · split
    · exact ha
    · exact hi
theorem tz_tpge {a b i r : Nat} (ha : a < r) (hb : b < r) (hi : ¬ i < r) : tz_tp a b i = i := by
  unfold tz_tp; rw [if_neg (by omega), if_neg (by omega)]
theorem tz_tplin {a b r : Nat} (ha : a < r) (hb : b < r) (hr : r ≤ 3) (x : Nat → Nat) (s : Nat → Int32) (o : Int32) : tz_lin x (fun i => s (tz_tp a b i)) r o = tz_lin (fun i => x (tz_tp a b i)) s r o := by
  rcases (by omega : r = 1 ∨ r = 2 ∨ r = 3) with rfl | rfl | rfl
  · have h1 : a = 0 := by omega
    have h2 : b = 0 := by omega
    subst h1 h2
    rfl
  · rcases (by omega : a = 0 ∨ a = 1) with rfl | rfl <;> rcases (by omega : b = 0 ∨ b = 1) with rfl | rfl <;> simp only [tz_lin, tz_tp] <;> simp <;> grind
  · rcases (by omega : a = 0 ∨ a = 1 ∨ a = 2) with rfl | rfl | rfl <;> rcases (by omega : b = 0 ∨ b = 1 ∨ b = 2) with rfl | rfl | rfl <;> simp only [tz_lin, tz_tp] <;> simp <;> grind
/-- the element of h that element e of its transpose shows -/
def tz_tpE (D : Nat → Nat) (r a b e : Nat) : Nat := tz_fl D (ty_x3 (ty_ix (fun i => D (tz_tp a b i)) r e (tz_tp a b 0)) (ty_ix (fun i => D (tz_tp a b i)) r e (tz_tp a b 1)) (ty_ix (fun i => D (tz_tp a b i)) r e (tz_tp a b 2))) r
theorem tz_tptp {a b i : Nat} : tz_tp a b (tz_tp a b i) = i := by
  unfold tz_tp
  split <;> split <;> (try split) <;> omega
theorem tz_tpx {D : Nat → Nat} {r a b e i : Nat} (hi : i < 3) : ty_x3 (ty_ix (fun i => D (tz_tp a b i)) r e (tz_tp a b 0)) (ty_ix (fun i => D (tz_tp a b i)) r e (tz_tp a b 1)) (ty_ix (fun i => D (tz_tp a b i)) r e (tz_tp a b 2)) i = ty_ix (fun i => D (tz_tp a b i)) r e (tz_tp a b i) := by
  rcases (by omega : i = 0 ∨ i = 1 ∨ i = 2) with rfl | rfl | rfl <;> rfl
theorem tz_tpxlt {D : Nat → Nat} {r a b e : Nat} (ha : a < r) (hb : b < r) (hr : r ≤ 3) (hD : ∀ i, i < r → 1 ≤ D i) (i : Nat) (hi : i < r) : ty_x3 (ty_ix (fun i => D (tz_tp a b i)) r e (tz_tp a b 0)) (ty_ix (fun i => D (tz_tp a b i)) r e (tz_tp a b 1)) (ty_ix (fun i => D (tz_tp a b i)) r e (tz_tp a b 2)) i < D i := by
  rw [tz_tpx (by omega)]
  have := ty_ixlt (D := fun i => D (tz_tp a b i)) (r := r) (e := e) (a := tz_tp a b i) (fun j hj => hD _ (tz_tplt ha hb hj)) (tz_tplt ha hb hi)
  rw [tz_tptp] at this
  exact this
theorem tz_tpElt {D : Nat → Nat} {r a b e : Nat} (ha : a < r) (hb : b < r) (hr : r ≤ 3) (hD : ∀ i, i < r → 1 ≤ D i) : tz_tpE D r a b e < tz_el D r := tz_fllt r (tz_tpxlt ha hb hr hD)
theorem tz_tpad {D : Nat → Nat} {r a b e : Nat} (ha : a < r) (hb : b < r) (hr : r ≤ 3) (hD : ∀ i, i < r → 1 ≤ D i) (s : Nat → Int32) (o : Int32) : tz_adl (fun i => D (tz_tp a b i)) (fun i => s (tz_tp a b i)) r e o = tz_adl D s r (tz_tpE D r a b e) o := by
  unfold tz_tpE
  rw [tz_adlfl r o (tz_tpxlt ha hb hr hD), tz_adldg, tz_tplin ha hb hr]
  refine tz_linc r o (fun i hi => ?_) (fun _ _ => rfl)
  rw [tz_tpx (by omega)]
  unfold ty_ix
  rw [if_pos (tz_tplt ha hb hi)]
/-- what the reference's new handle shows -/
theorem ty_fin {yrk yds shn yrk1 yds1 shn1 shn2 : Nat → Int32} {v r cnt : Nat} {D : Nat → Nat} (hD : tx_Dx yrk1 yds1 24 r D) (hv : v < 24) (hc : cnt ≤ 64) (f1 : ∀ j, j < 24 → yrk1 j = yrk j) (f2 : ∀ j, j < 72 → yds1 j = yds j) (g1 : ∀ e, e < cnt → ∃ c, c < 320 ∧ shn1 (1536 + e) = nI c) (g2 : ∀ p, p < 1536 → shn1 p = shn p)
    (h3 : ∀ e, e < 64 → shn2 (64 * v + e) = vp_nar .short (shn1 (1536 + e))) (h4 : ∀ j, (j < 64 * v ∨ 64 * v + 64 ≤ j) → shn2 j = shn1 j) :
    tx_Dx (upd yrk1 v (vp_nar .byte (yrk1 24))) (ty_cp3 yds1 v) v r D ∧ tr_fy v yrk yds shn (upd yrk1 v (vp_nar .byte (yrk1 24))) (ty_cp3 yds1 v) shn2 ∧ ∀ e, e < cnt → shn2 (64 * v + e) = shn1 (1536 + e) := by
  obtain ⟨d1, d2, d3⟩ := hD
  refine ⟨⟨?_, d2, ?_⟩, ?_, ?_⟩
  · rw [pk_us, d1, tz_nb (by omega)]
  · intro i hi
    have h := d3 i hi
    rw [ty_cp3_t (by omega), show 72 + i = 3 * 24 + i from rfl, h.1, tz_nb (by omega)]
    exact ⟨rfl, h.2⟩
  · intro j hj hjv
    refine ⟨?_, ?_, ?_⟩
    · rw [pk_un hjv]; exact f1 j hj
    · intro i hi
      rw [ty_cp3_n (by omega)]; exact f2 _ (by omega)
    · intro e he
      rw [h4 _ (by omega)]; exact g2 _ (by omega)
  · intro e he
    obtain ⟨c, c1, c2⟩ := g1 e he
    rw [h3 e (by omega), c2, tz_ns (by omega)]
section TP
variable {xnc xfr xol xnw xtp xsc : Int32} {nod ofs rnk dmx stx its knd rfs siz oldr newr stt blw arn slo mvd sls : Nat → Int32}
variable {ycs ysc : Int32} {usd yrk yds shn tof vw exs ykd fst snd own prt pct val ysl ord ysls : Nat → Int32}
theorem tx_transpose {post : Int32 → SX → Prop} {h v n c r a b : Nat} {D : Nat → Nat} (hh : h < 24) (hv : v < 24) (hvh : v ≠ h) (hu : ∀ j, j < v → ¬ nod j < 0) (hf : nod v < 0) (hn : nod h = nI n) (hn2 : n < 32) (hD : tx_Dx rnk dmx h r D) (hS : tx_Sx ofs stx h r) (hc : rfs n = nI c) (hc2 : c < 126) (ha : a < r) (hb : b < r)
    (H : post (nI v) (xnc, xfr, xol, xnw, xtp, xsc, upd nod v (nI n), upd ofs v (ofs h), upd rnk v (nI r), tx_ex (tx_cp dmx h v) (3 * v + a) (3 * v + b), tx_ex (tx_cp stx h v) (3 * v + a) (3 * v + b), upd its v 0, knd, upd rfs n (nI (c + 1)), siz, oldr, newr, stt, blw, arn, slo, mvd, sls)) : wpX_transpose post (xnc, xfr, xol, xnw, xtp, xsc, nod, ofs, rnk, dmx, stx, its, knd, rfs, siz, oldr, newr, stt, blw, arn, slo, mvd, sls) (nI h) (nI a) (nI b) := by
  have hr := hD.1
  have hr3 := hD.2.1
  have n1 : ¬ nI h < 0 := nI_pos (by omega)
  unfold wpX_transpose
  refine tx_is1 hh (by rw [hn]; exact nI_pos (by omega)) (br_f (by decide) (br_f (nI_pos (by omega)) (br_f (nI_pos (by omega)) ⟨vp_in_nI (by omega) (by omega), ?_⟩)))
  rw [nI_clamp (by omega), hr]
  refine br_f (nI_ge ha (by omega)) ⟨vp_in_nI (by omega) (by omega), br_t (nI_lt hb (by omega)) ?_⟩
  refine tx_view hh hv hvh hu hf hn hn2 hD hS hc hc2 ?_
  refine br_f (nI_pos (by omega)) ?_
  exact tx_exch (by omega) (by omega) (by omega) H
theorem ty_tr134 {post : Int32 → SY → Prop} {h r a b cnt v n : Nat} {D : Nat → Nat} {shn0 : Nat → Int32} (hh : h < 24) (hD : tx_Dx yrk yds h r D) (hD' : tx_Dx yrk yds 24 r (fun i => D (tz_tp a b i))) (ha : a < r) (hb : b < r) (hcnt : cnt ≤ 64) (hcell : ∀ E, E < tz_el D r → ∃ c, c < 320 ∧ shn0 (64 * h + E) = nI c)
    (hn : tof h = nI n) (hn2 : n < 32) (hv : v < 24) (hu : ∀ j, j < v → ¬ usd j = 0) (hf : usd v = 0)
    (H : ∀ shn1 shn2, ty_Vl shn0 shn1 h cnt (tz_tpE D r a b) → (∀ e, e < 64 → shn2 (64 * v + e) = vp_nar .short (shn1 (1536 + e))) → (∀ j, (j < 64 * v ∨ 64 * v + 64 ≤ j) → shn2 j = shn1 j) → post (nI v) (ycs, ysc, upd usd v 1, upd yrk v (vp_nar .byte (yrk 24)), ty_cp3 yds v, shn2, upd tof v (nI n), upd vw v 1, exs, ykd, fst, snd, own, prt, pct, val, ysl, ord, ysls)) :
    ∀ m e shn, e ≤ cnt → cnt - e < m → ty_Vl shn0 shn h e (tz_tpE D r a b) → wY_transpose_134 post (nI h) (nI a) (nI b) (nI cnt) ycs ysc m (nI e) usd yrk yds shn tof vw exs ykd fst snd own prt pct val ysl ord ysls := by
  have hr3 := hD.2.1
  have hb1 : ∀ i, i < r → 1 ≤ D i := fun i hi => (hD.2.2 i hi).2.1
  intro m
  induction m with
  | zero => intro e shn _ h; omega
  | succ m ih =>
    intro e shn h1 h2 h3
    by_cases q : e < cnt
    · refine br_f (nI_ge q (by omega)) ?_
      have hElt := tz_tpElt (D := D) (e := e) ha hb hr3 hb1
      have hE64 := hD.el.2
      have tl : ∀ i, i < 3 → tz_tp a b i < 3 := fun i hi => by unfold tz_tp; split <;> (try split) <;> omega
      refine tz_tpb (k := 0) (by omega) (by omega) (by omega) (P := fun z => wY_transpose_163 post (wY_transpose_134 post (nI h) (nI a) (nI b) (nI cnt) ycs ysc m) (nI h) (nI a) (nI b) (nI cnt) (nI e) z (nI e) 24 ycs ysc usd yrk yds shn tof vw exs ykd fst snd own prt pct val ysl ord ysls) ?_
      unfold wY_transpose_163
      refine ty_index (d := 24) (by omega) hD' (by omega) (tl 0 (by omega)) ?_
      refine tz_tpb (k := 1) (by omega) (by omega) (by omega) (P := fun z => wY_transpose_192 post (wY_transpose_134 post (nI h) (nI a) (nI b) (nI cnt) ycs ysc m) (nI h) (nI a) (nI b) (nI cnt) (nI e) (nI (ty_ix (fun i => D (tz_tp a b i)) r e (tz_tp a b 0))) z (nI e) 24 ycs ysc usd yrk yds shn tof vw exs ykd fst snd own prt pct val ysl ord ysls) ?_
      unfold wY_transpose_192
      refine ty_index (d := 24) (by omega) hD' (by omega) (tl 1 (by omega)) ?_
      refine tz_tpb (k := 2) (by omega) (by omega) (by omega) (P := fun z => wY_transpose_221 post (wY_transpose_134 post (nI h) (nI a) (nI b) (nI cnt) ycs ysc m) (nI h) (nI a) (nI b) (nI cnt) (nI e) (nI (ty_ix (fun i => D (tz_tp a b i)) r e (tz_tp a b 0))) (nI (ty_ix (fun i => D (tz_tp a b i)) r e (tz_tp a b 1))) z (nI e) 24 ycs ysc usd yrk yds shn tof vw exs ykd fst snd own prt pct val ysl ord ysls) ?_
      unfold wY_transpose_221
      refine ty_index (d := 24) (by omega) hD' (by omega) (tl 2 (by omega)) ?_
      refine ty_cellAt (by omega) hD (by show tz_tpE D r a b e < 64; omega) ?_
      obtain ⟨c, c1, c2⟩ := hcell (tz_tpE D r a b e) hElt
      have e1 : shn (64 * h + tz_tpE D r a b e) = nI c := by rw [h3.2 _ (by omega)]; exact c2
      have e2 : shn (64 * h + tz_fl D (ty_x3 (ty_ix (fun i => D (tz_tp a b i)) r e (tz_tp a b 0)) (ty_ix (fun i => D (tz_tp a b i)) r e (tz_tp a b 1)) (ty_ix (fun i => D (tz_tp a b i)) r e (tz_tp a b 2))) r) = nI c := e1
      rw [e2]
      simp (disch := omega) only [tz_1536a, tz_b16, tz_ns, vp_in_nI, nI_clamp, nI_1, forall_eq, true_and]
      exact ih (e + 1) _ (by omega) (by omega) (ty_Vl_s h3 c2.symm)
    · have qe : e = cnt := by omega
      subst qe
      refine br_t (Int32.le_refl _) ⟨vp_in_nI (by omega) (by omega), ?_⟩
      rw [nI_clamp (by omega), hn]
      exact ty_handOver hv hn2 hu hf rfl (fun shn2 a1 a2 => H _ shn2 h3 a1 a2)
theorem ty_transpose {post : Int32 → SY → Prop} {h r a b v n : Nat} {D : Nat → Nat} (hh : h < 24) (hus : ¬ usd h = 0) (hD : tx_Dx yrk yds h r D) (ha : a < r) (hb : b < r) (hcell : ∀ E, E < tz_el D r → ∃ c, c < 320 ∧ shn (64 * h + E) = nI c)
    (hn : tof h = nI n) (hn2 : n < 32) (hv : v < 24) (hu : ∀ j, j < v → ¬ usd j = 0) (hf : usd v = 0)
    (H : ∀ yrk1 yds1 shn1, tx_Dx yrk1 yds1 v r (fun i => D (tz_tp a b i)) → tr_fy v yrk yds shn yrk1 yds1 shn1 → (∀ e, e < tz_el (fun i => D (tz_tp a b i)) r → shn1 (64 * v + e) = shn (64 * h + tz_tpE D r a b e)) → post (nI v) (ycs, ysc, upd usd v 1, yrk1, yds1, shn1, upd tof v (nI n), upd vw v 1, exs, ykd, fst, snd, own, prt, pct, val, ysl, ord, ysls)) : wpY_transpose post (ycs, ysc, usd, yrk, yds, shn, tof, vw, exs, ykd, fst, snd, own, prt, pct, val, ysl, ord, ysls) (nI h) (nI a) (nI b) := by
  have hr := hD.1
  have hr3 := hD.2.1
  have hDi := hD.2.2
  have hda := hDi a ha
  have hdb := hDi b hb
  unfold wpY_transpose
  refine ty_is1 hh hus (br_f (by decide) (br_f (nI_pos (by omega)) (br_f (nI_pos (by omega)) ⟨vp_in_nI (by omega) (by omega), ?_⟩)))
  rw [nI_clamp (by omega), hr]
  refine br_f (nI_ge ha (by omega)) ⟨vp_in_nI (by omega) (by omega), br_f (nI_ge hb (by omega)) (ty_fh (by omega) hu (fun _ => hf) ?_)⟩
  refine br_f (fun e => ?_) ?_
  · have := (nI_eq (a := v) (b := 24) (by omega) (by decide)).mp e
    omega
  · simp (disch := omega) only [tz_n3, tz_add1, tz_add2, vp_in_nI, nI_clamp, hr, true_and]
    refine ty_shapeNew rfl hr3 ?_
    have s1 : ty_sn yds (yds (3 * h)) (yds (3 * h + 1)) (yds (3 * h + 2)) (3 * h + b) = nI (D b) := by
      unfold ty_sn
      rw [pk_un (by omega), pk_un (by omega), pk_un (by omega)]; exact hdb.1
    have s2 : upd (ty_sn yds (yds (3 * h)) (yds (3 * h + 1)) (yds (3 * h + 2))) (72 + a) (nI (D b)) (3 * h + a) = nI (D a) := by
      unfold ty_sn
      rw [pk_un (by omega), pk_un (by omega), pk_un (by omega), pk_un (by omega)]; exact hda.1
    simp (disch := omega) only [nI_add, tz_72a, vp_in_nI, nI_clamp, s1, s2, tz_nb, forall_eq, true_and]
    have f2 : ∀ j, j < 72 → upd (upd (ty_sn yds (yds (3 * h)) (yds (3 * h + 1)) (yds (3 * h + 2))) (72 + a) (nI (D b))) (72 + b) (nI (D a)) j = yds j := by
      intro j hj
      unfold ty_sn
      rw [pk_un (by omega), pk_un (by omega), pk_un (by omega), pk_un (by omega), pk_un (by omega)]
    have hN : tx_Dx (upd yrk 24 (nI r)) (upd (upd (ty_sn yds (yds (3 * h)) (yds (3 * h + 1)) (yds (3 * h + 2))) (72 + a) (nI (D b))) (72 + b) (nI (D a))) 24 r (fun i => D (tz_tp a b i)) := by
      refine ⟨pk_us, hr3, fun i hi => ⟨?_, (hDi _ (tz_tplt ha hb hi)).2⟩⟩
      show upd (upd _ (72 + a) _) (72 + b) _ (72 + i) = nI (D (tz_tp a b i))
      unfold tz_tp
      by_cases q1 : i = b
      · subst q1
        rw [pk_us]
        by_cases q2 : i = a
        · rw [if_pos q2, q2]
        · rw [if_neg q2, if_pos rfl]
      · rw [pk_un (by omega)]
        by_cases q2 : i = a
        · subst q2
          rw [pk_us, if_pos rfl]
        · rw [pk_un (by omega), if_neg q2, if_neg q1]
          have hdi := hDi i hi
          unfold ty_sn
          rcases (by omega : i = 0 ∨ i = 1 ∨ i = 2) with rfl | rfl | rfl
          · rw [pk_un (by omega), pk_un (by omega), pk_us, show yds (3 * h) = nI (D 0) from hdi.1, tz_b8 _ (by omega), tz_nb (by omega)]
          · rw [pk_un (by omega), pk_us, hdi.1, tz_b8 _ (by omega), tz_nb (by omega)]
          · rw [pk_us, hdi.1, tz_b8 _ (by omega), tz_nb (by omega)]
    have hDh : tx_Dx (upd yrk 24 (nI r)) (upd (upd (ty_sn yds (yds (3 * h)) (yds (3 * h + 1)) (yds (3 * h + 2))) (72 + a) (nI (D b))) (72 + b) (nI (D a))) h r D := tx_Dx_fr hD (pk_un (by omega)) (fun i hi => f2 _ (by omega))
    have hc := hN.el
    refine ty_sz (d := 24) (by omega) hN ?_
    refine ⟨tz_el (fun i => D (tz_tp a b i)) r + 1, ty_tr134 hh hDh hN ha hb hc.2 hcell hn hn2 hv hu hf ?_ _ 0 shn (by omega) (by omega) ⟨fun i hi => by omega, fun _ _ => rfl⟩⟩
    intro shn1 shn2 g1 g2 g3
    have F := ty_fin (yrk := yrk) (yds := yds) (shn := shn) (shn1 := shn1) hN hv hc.2 (fun j hj => pk_un (by omega)) f2 (fun e he => by
      obtain ⟨c, c1, c2⟩ := hcell (tz_tpE D r a b e) (tz_tpElt ha hb hr3 (fun i hi => (hDi i hi).2.1))
      exact ⟨c, c1, by rw [g1.1 e he]; exact c2⟩) (fun p hp => g1.2 p (by omega)) g2 g3
    exact H _ _ _ F.1 F.2.1 (fun e he => by rw [F.2.2 e he, g1.1 e he])
end TP
end
section
/-! slice -/
theorem tz_slI : ∀ f, f < 4 → ∀ j, j < 4 → ∀ q, q < 8 → (nI f + (nI q - 4) * nI j).toInt = (f : Int) + (j : Int) * ((q : Int) - 4) := by decide +kernel
theorem tz_slT : ∀ f, f < 4 → ∀ c, c < 4 → ∀ q, q < 8 → (nI f + (nI (c + 1) - 1) * (nI q - 4)).toInt = (f : Int) + (c : Int) * ((q : Int) - 4) := by decide +kernel
/-- the index along the axis -/
def tz_at (f q j : Nat) : Nat := ((f : Int) + (j : Int) * ((q : Int) - 4)).toNat
theorem tz_at_ok {f q c d j : Nat} (hf : f < d) (hd : d ≤ 4) (hc : 1 ≤ c) (hc4 : c ≤ 4) (hq : q < 8) (h0 : ¬ nI f + (nI c - 1) * (nI q - 4) < 0) (h1 : nI f + (nI c - 1) * (nI q - 4) < nI d) (hj : j < c) : tz_at f q j < d ∧ nI f + (nI q - 4) * nI j = nI (tz_at f q j) := by
  obtain ⟨c, rfl⟩ : ∃ c', c = c' + 1 := ⟨c - 1, by omega⟩
  have e := tz_slT f (by omega) c (by omega) q hq
  have e2 := tz_slI f (by omega) j (by omega) q hq
  rw [Int32.lt_iff_toInt_lt, e, show (0 : Int32).toInt = 0 from by decide] at h0
  rw [Int32.lt_iff_toInt_lt, e, nI_toInt (by omega)] at h1
  have b : 0 ≤ (f : Int) + (j : Int) * ((q : Int) - 4) ∧ (f : Int) + (j : Int) * ((q : Int) - 4) < d := by
    rcases (by omega : c = 0 ∨ c = 1 ∨ c = 2 ∨ c = 3) with rfl | rfl | rfl | rfl <;> rcases (by omega : j = 0 ∨ j = 1 ∨ j = 2 ∨ j = 3) with rfl | rfl | rfl | rfl <;> omega
  unfold tz_at
  refine ⟨by omega, ?_⟩
  apply Int32.toInt_inj.mp
  rw [e2, nI_toInt (by omega)]
  omega
def tz_us (s : Nat → Int32) (a : Nat) (x : Int32) : Nat → Int32 := fun i => if i = a then x else s i
def tz_un (D : Nat → Nat) (a x : Nat) : Nat → Nat := fun i => if i = a then x else D i
theorem tz_un_s {D : Nat → Nat} {a x : Nat} : tz_un D a x a = x := if_pos rfl
theorem tz_un_n {D : Nat → Nat} {a x i : Nat} (h : i ≠ a) : tz_un D a x i = D i := if_neg h
theorem tz_sllin {ax r : Nat} (hax : ax < r) (hr : r ≤ 3) (x y : Nat → Nat) (s s' : Nat → Int32) (o z : Int32) (hz : nI (x ax) * s' ax + z = nI (y ax) * s ax) (hs : ∀ i, i ≠ ax → s' i = s i) (hy : ∀ i, i ≠ ax → y i = x i) : tz_lin x s' r (o + z) = tz_lin y s r o := by
  rcases (by omega : r = 1 ∨ r = 2 ∨ r = 3) with rfl | rfl | rfl
  · have h1 : ax = 0 := by omega
    subst h1
    simp only [tz_lin]
    grind
  · rcases (by omega : ax = 0 ∨ ax = 1) with rfl | rfl
    · have a1 := hs 1 (by omega)
      have a2 := hy 1 (by omega)
      simp only [tz_lin]
      rw [a1, a2]
      grind
    · have a1 := hs 0 (by omega)
      have a2 := hy 0 (by omega)
      simp only [tz_lin]
      rw [a1, a2]
      grind
  · rcases (by omega : ax = 0 ∨ ax = 1 ∨ ax = 2) with rfl | rfl | rfl
    · have a1 := hs 1 (by omega)
      have a2 := hy 1 (by omega)
      have b1 := hs 2 (by omega)
      have b2 := hy 2 (by omega)
      simp only [tz_lin]
      rw [a1, a2, b1, b2]
      grind
    · have a1 := hs 0 (by omega)
      have a2 := hy 0 (by omega)
      have b1 := hs 2 (by omega)
      have b2 := hy 2 (by omega)
      simp only [tz_lin]
      rw [a1, a2, b1, b2]
      grind
    · have a1 := hs 0 (by omega)
      have a2 := hy 0 (by omega)
      have b1 := hs 1 (by omega)
      have b2 := hy 1 (by omega)
      simp only [tz_lin]
      rw [a1, a2, b1, b2]
      grind
/-- the indices in h of element e of the slice -/
def tz_slx (D : Nat → Nat) (r ax f q c e i : Nat) : Nat := if i = ax then tz_at f q (ty_ix (tz_un D ax c) r e ax) else ty_ix (tz_un D ax c) r e i
def tz_slE (D : Nat → Nat) (r ax f q c e : Nat) : Nat := tz_fl D (ty_x3 (tz_slx D r ax f q c e 0) (tz_slx D r ax f q c e 1) (tz_slx D r ax f q c e 2)) r
theorem tz_x3 {g : Nat → Nat} {i : Nat} (hi : i < 3) : ty_x3 (g 0) (g 1) (g 2) i = g i := by
  rcases (by omega : i = 0 ∨ i = 1 ∨ i = 2) with rfl | rfl | rfl <;> rfl
theorem tz_slxlt {D : Nat → Nat} {r ax f q c e : Nat} (hax : ax < r) (hD : ∀ i, i < r → 1 ≤ D i) (hc : 1 ≤ c) (hat : ∀ j, j < c → tz_at f q j < D ax) (i : Nat) (hi : i < r) : tz_slx D r ax f q c e i < D i := by
  have hD' : ∀ i, i < r → 1 ≤ tz_un D ax c i := fun i hi => by
    unfold tz_un; split
    · exact hc
    · exact hD i hi
  unfold tz_slx
  by_cases h : i = ax
  · subst h
    rw [if_pos rfl]
    have := ty_ixlt (D := tz_un D i c) (r := r) (e := e) (a := i) hD' hax
    rw [tz_un_s] at this
    exact hat _ this
  · rw [if_neg h]
    have := ty_ixlt (D := tz_un D ax c) (r := r) (e := e) (a := i) hD' hi
    rw [tz_un_n h] at this
    exact this
theorem tz_slElt {D : Nat → Nat} {r ax f q c e : Nat} (hr : r ≤ 3) (hax : ax < r) (hD : ∀ i, i < r → 1 ≤ D i) (hc : 1 ≤ c) (hat : ∀ j, j < c → tz_at f q j < D ax) : tz_slE D r ax f q c e < tz_el D r :=
  tz_fllt r (fun i hi => by rw [tz_x3 (by omega)]; exact tz_slxlt hax hD hc hat i hi)
theorem tz_slad {D : Nat → Nat} {r ax f q c e : Nat} (hr : r ≤ 3) (hax : ax < r) (hD : ∀ i, i < r → 1 ≤ D i) (hc : 1 ≤ c) (hat : ∀ j, j < c → tz_at f q j < D ax ∧ nI f + (nI q - 4) * nI j = nI (tz_at f q j)) (s : Nat → Int32) (o : Int32) :
    tz_adl (tz_un D ax c) (tz_us s ax (if c = 1 then 0 else s ax * (nI q - 4))) r e (o + nI f * s ax) = tz_adl D s r (tz_slE D r ax f q c e) o := by
  have hlt := tz_slxlt (D := D) (e := e) hax hD hc (fun j hj => (hat j hj).1)
  unfold tz_slE
  rw [tz_adlfl r o (fun i hi => by rw [tz_x3 (by omega)]; exact hlt i hi), tz_adldg]
  have hix : ty_ix (tz_un D ax c) r e ax = tz_dg (tz_un D ax c) r e ax := if_pos hax
  have hj : tz_dg (tz_un D ax c) r e ax < c := by
    have := tz_dglt (D := tz_un D ax c) (r := r) (e := e) (i := ax) (by rw [tz_un_s]; omega)
    rw [tz_un_s] at this
    exact this
  have key : tz_lin (tz_dg (tz_un D ax c) r e) (tz_us s ax (if c = 1 then 0 else s ax * (nI q - 4))) r (o + nI f * s ax) = tz_lin (tz_un (tz_dg (tz_un D ax c) r e) ax (tz_at f q (tz_dg (tz_un D ax c) r e ax))) s r o := by
    refine tz_sllin hax hr _ _ _ _ _ _ ?_ (fun i hi => if_neg hi) (fun i hi => tz_un_n hi)
    have e1 : tz_us s ax (if c = 1 then 0 else s ax * (nI q - 4)) ax = if c = 1 then 0 else s ax * (nI q - 4) := if_pos rfl
    rw [tz_un_s, e1, ← (hat _ hj).2]
    by_cases c1 : c = 1
    · have z : tz_dg (tz_un D ax c) r e ax = 0 := by omega
      rw [if_pos c1, z, nI_0]
      grind
    · rw [if_neg c1]
      grind
  rw [key]
  refine tz_linc r o (fun i hi => ?_) (fun _ _ => rfl)
  rw [tz_x3 (by omega)]
  unfold tz_slx tz_un
  by_cases h : i = ax
  · rw [if_pos h, if_pos h]
    exact congrArg _ hix.symm
  · rw [if_neg h, if_neg h]
    exact (if_pos hi).symm
section SLC
variable {xnc xfr xol xnw xtp xsc : Int32} {nod ofs rnk dmx stx its knd rfs siz oldr newr stt blw arn slo mvd sls : Nat → Int32}
variable {ycs ysc : Int32} {usd yrk yds shn tof vw exs ykd fst snd own prt pct val ysl ord ysls : Nat → Int32}
theorem tx_slice {post : Int32 → SX → Prop} {h v n c r a f code : Nat} {D : Nat → Nat} (hh : h < 24) (hv : v < 24) (hvh : v ≠ h) (hu : ∀ j, j < v → ¬ nod j < 0) (hf : nod v < 0) (hn : nod h = nI n) (hn2 : n < 32) (hD : tx_Dx rnk dmx h r D) (hS : tx_Sx ofs stx h r) (hc : rfs n = nI c) (hc2 : c < 126) (ha : a < r) (hc8 : 8 ≤ code) (hc39 : code ≤ 39) (hfd : f < D a) (h0 : ¬ nI f + (nI (code / 8) - 1) * (nI (code % 8) - 4) < 0) (h1 : nI f + (nI (code / 8) - 1) * (nI (code % 8) - 4) < nI (D a))
    (ho : (ofs h + nI f * stx (3 * h + a)).toInt16.toInt32 = ofs h + nI f * stx (3 * h + a)) (hs : code / 8 ≠ 1 → (stx (3 * h + a) * (nI (code % 8) - 4)).toInt8.toInt32 = stx (3 * h + a) * (nI (code % 8) - 4))
    (H : post (nI v) (xnc, xfr, xol, xnw, xtp, xsc, upd nod v (nI n), upd (upd ofs v (ofs h)) v (ofs h + nI f * stx (3 * h + a)), upd rnk v (nI r), upd (tx_cp dmx h v) (3 * v + a) (nI (code / 8)), upd (tx_cp stx h v) (3 * v + a) (if code / 8 = 1 then 0 else stx (3 * h + a) * (nI (code % 8) - 4)), upd its v 0, knd, upd rfs n (nI (c + 1)), siz, oldr, newr, stt, blw, arn, slo, mvd, sls)) : wpX_slice post (xnc, xfr, xol, xnw, xtp, xsc, nod, ofs, rnk, dmx, stx, its, knd, rfs, siz, oldr, newr, stt, blw, arn, slo, mvd, sls) (nI h) (nI a) (nI f) (nI code) := by
  have hr := hD.1
  have hr3 := hD.2.1
  have hda := hD.2.2 a ha
  have w1 : vp_in (nI h) 120 := vp_in_nI (by omega) (by omega)
  have e1 : nI code >>> ((3 : Int32) &&& 31) = nI (code / 8) := pk_shrN (by omega) _ 3 (by decide)
  have e2 : nI code &&& 7 = nI (code % 8) := pk_andN (by omega) 3 (by decide)
  have ro : vp_nar .short (ofs h + nI f * stx (3 * h + a)) = ofs h + nI f * stx (3 * h + a) := by rw [vp_nar_short]; exact ho
  have sa : tx_cp stx h v (3 * v + a) = stx (3 * h + a) := by rw [tx_cp_t (by omega), vp_nar_byte]; exact hS.2 a ha
  unfold wpX_slice
  refine tx_is1 hh (by rw [hn]; exact nI_pos (by omega)) (br_f (by decide) (br_f (nI_pos (by omega)) ⟨w1, ?_⟩))
  rw [nI_clamp (by omega), hr]
  refine br_f (nI_ge ha (by omega)) (br_f (nI_nlt (b := 8) hc8 (by omega)) (br_t (nI_le (b := 39) hc39 (by decide)) (nm_r e1 ?_)))
  rw [e2, tz_3n, nI_add, nI_clamp (by omega), hda.1]
  refine nm_e ⟨vp_in_nI (by omega) (by omega), nm_e (br_f (nI_pos (by omega)) (br_t (nI_lt hfd (by omega)) (nm_e (br_f h0 (br_t h1 ?_)))))⟩
  refine tx_view hh hv hvh hu hf hn hn2 hD hS hc hc2 ?_
  refine br_t (nI_pos' (by omega)) ?_
  simp (disch := omega) only [tz_3n, nI_add, vp_in_nI, nI_clamp, pk_us, sa, ho, ro, tz_b8, tz_nb, forall_eq, true_and]
  by_cases c1 : code / 8 = 1
  · rw [if_pos c1] at H
    refine br_t (by rw [c1]; rfl) ?_
    simp (disch := omega) only [tz_nb0, forall_eq]
    exact H
  · rw [if_neg c1] at H
    refine br_f (fun z => c1 ((nI_eq (b := 1) (by omega) (by decide)).mp z)) ?_
    have rs : vp_nar .byte (stx (3 * h + a) * (nI (code % 8) - 4)) = stx (3 * h + a) * (nI (code % 8) - 4) := by rw [vp_nar_byte]; exact hs c1
    rw [hs c1, rs]
    exact H
theorem ty_sl170 {post : Int32 → SY → Prop} {h r a f q c cnt v n : Nat} {D : Nat → Nat} {shn0 : Nat → Int32} (hh : h < 24) (hD : tx_Dx yrk yds h r D) (hD' : tx_Dx yrk yds 24 r (tz_un D a c)) (ha : a < r) (hc : 1 ≤ c) (hat : ∀ j, j < c → tz_at f q j < D a ∧ nI f + (nI q - 4) * nI j = nI (tz_at f q j)) (hcnt : cnt ≤ 64) (hcell : ∀ E, E < tz_el D r → ∃ c, c < 320 ∧ shn0 (64 * h + E) = nI c)
    (hn : tof h = nI n) (hn2 : n < 32) (hv : v < 24) (hu : ∀ j, j < v → ¬ usd j = 0) (hf : usd v = 0)
    (H : ∀ shn1 shn2, ty_Vl shn0 shn1 h cnt (tz_slE D r a f q c) → (∀ e, e < 64 → shn2 (64 * v + e) = vp_nar .short (shn1 (1536 + e))) → (∀ j, (j < 64 * v ∨ 64 * v + 64 ≤ j) → shn2 j = shn1 j) → post (nI v) (ycs, ysc, upd usd v 1, upd yrk v (vp_nar .byte (yrk 24)), ty_cp3 yds v, shn2, upd tof v (nI n), upd vw v 1, exs, ykd, fst, snd, own, prt, pct, val, ysl, ord, ysls)) :
    ∀ m e shn, e ≤ cnt → cnt - e < m → ty_Vl shn0 shn h e (tz_slE D r a f q c) → wY_slice_170 post (nI h) (nI a) (nI f) (nI q - 4) (nI cnt) ycs ysc m (nI e) usd yrk yds shn tof vw exs ykd fst snd own prt pct val ysl ord ysls := by
  have hr3 := hD.2.1
  have hb1 : ∀ i, i < r → 1 ≤ D i := fun i hi => (hD.2.2 i hi).2.1
  intro m
  induction m with
  | zero => intro e shn _ h; omega
  | succ m ih =>
    intro e shn h1 h2 h3
    by_cases q1 : e < cnt
    · refine br_f (nI_ge q1 (by omega)) ?_
      have hElt := tz_slElt (D := D) (f := f) (q := q) (e := e) hr3 ha hb1 hc (fun j hj => (hat j hj).1)
      have hE64 := hD.el.2
      obtain ⟨w, c1, c2⟩ := hcell (tz_slE D r a f q c e) hElt
      have e1 : shn (64 * h + tz_slE D r a f q c e) = nI w := by rw [h3.2 _ (by omega)]; exact c2
      have fin : ∀ x, x = nI w → (vp_in (1536 + nI e) 1600 ∧ ∀ y, y = upd shn (1536 + nI e).toNatClampNeg (vp_nar .short x.toInt16.toInt32) → ∀ z, z = nI e + 1 → wY_slice_170 post (nI h) (nI a) (nI f) (nI q - 4) (nI cnt) ycs ysc m z usd yrk yds y tof vw exs ykd fst snd own prt pct val ysl ord ysls) := by
        intro x hx
        subst hx
        simp (disch := omega) only [tz_1536a, tz_b16, tz_ns, vp_in_nI, nI_clamp, nI_1, forall_eq, true_and]
        exact ih (e + 1) _ (by omega) (by omega) (ty_Vl_s h3 c2.symm)
      have hixlt : ty_ix (tz_un D a c) r e a < c := by
        have := ty_ixlt (D := tz_un D a c) (r := r) (e := e) (a := a) (fun i hi => (hD'.2.2 i hi).2.1) ha
        rw [tz_un_s] at this
        exact this
      have hA := (hat _ hixlt).2
      refine ty_index (d := 24) (a := 0) (by omega) hD' (by omega) (by omega) ?_
      refine ty_index (d := 24) (a := 1) (by omega) hD' (by omega) (by omega) ?_
      refine ty_index (d := 24) (a := 2) (by omega) hD' (by omega) (by omega) ?_
      rcases (by omega : a = 0 ∨ a = 1 ∨ a = 2) with rfl | rfl | rfl
      · refine br_t rfl ?_
        unfold wY_slice_234
        refine nm_r hA (br_t rfl ?_)
        unfold wY_slice_261
        refine br_f (by decide) ?_
        unfold wY_slice_273
        refine br_f (by decide) ?_
        unfold wY_slice_285
        exact ty_cellAt (by omega) hD (by show tz_slE D r 0 f q c e < 64; omega) (fin _ e1)
      · refine br_f (by decide) (br_t rfl ?_)
        unfold wY_slice_234
        refine nm_r hA (br_f (by decide) ?_)
        unfold wY_slice_261
        refine br_t rfl ?_
        unfold wY_slice_273
        refine br_f (by decide) ?_
        unfold wY_slice_285
        exact ty_cellAt (by omega) hD (by show tz_slE D r 1 f q c e < 64; omega) (fin _ e1)
      · refine br_f (by decide) (br_f (by decide) ?_)
        unfold wY_slice_234
        refine nm_r hA (br_f (by decide) ?_)
        unfold wY_slice_261
        refine br_f (by decide) ?_
        unfold wY_slice_273
        refine br_t rfl ?_
        unfold wY_slice_285
        exact ty_cellAt (by omega) hD (by show tz_slE D r 2 f q c e < 64; omega) (fin _ e1)
    · have qe : e = cnt := by omega
      subst qe
      refine br_t (Int32.le_refl _) ⟨vp_in_nI (by omega) (by omega), ?_⟩
      rw [nI_clamp (by omega), hn]
      exact ty_handOver hv hn2 hu hf rfl (fun shn2 a1 a2 => H _ shn2 h3 a1 a2)
theorem ty_slice {post : Int32 → SY → Prop} {h r a f code v n : Nat} {D : Nat → Nat} (hh : h < 24) (hus : ¬ usd h = 0) (hD : tx_Dx yrk yds h r D) (ha : a < r) (hc8 : 8 ≤ code) (hc39 : code ≤ 39) (hfd : f < D a) (h0 : ¬ nI f + (nI (code / 8) - 1) * (nI (code % 8) - 4) < 0) (h1 : nI f + (nI (code / 8) - 1) * (nI (code % 8) - 4) < nI (D a)) (hcell : ∀ E, E < tz_el D r → ∃ c, c < 320 ∧ shn (64 * h + E) = nI c)
    (hn : tof h = nI n) (hn2 : n < 32) (hv : v < 24) (hu : ∀ j, j < v → ¬ usd j = 0) (hf : usd v = 0)
    (H : ∀ yrk1 yds1 shn1, tx_Dx yrk1 yds1 v r (tz_un D a (code / 8)) → tr_fy v yrk yds shn yrk1 yds1 shn1 → (∀ e, e < tz_el (tz_un D a (code / 8)) r → shn1 (64 * v + e) = shn (64 * h + tz_slE D r a f (code % 8) (code / 8) e)) → post (nI v) (ycs, ysc, upd usd v 1, yrk1, yds1, shn1, upd tof v (nI n), upd vw v 1, exs, ykd, fst, snd, own, prt, pct, val, ysl, ord, ysls)) : wpY_slice post (ycs, ysc, usd, yrk, yds, shn, tof, vw, exs, ykd, fst, snd, own, prt, pct, val, ysl, ord, ysls) (nI h) (nI a) (nI f) (nI code) := by
  have hr := hD.1
  have hr3 := hD.2.1
  have hDi := hD.2.2
  have hda := hDi a ha
  have w1 : vp_in (nI h) 25 := vp_in_nI (by omega) (by omega)
  have n8 : ¬ (8 : Int32) = 0 := by decide
  have e1 : nI code / 8 = nI (code / 8) := pk_div (d := 8) (by omega) (by omega) (by omega)
  have e2 : nI code - nI code / 8 * 8 = nI (code % 8) := pk_rem (d := 8) (by omega) (by omega) (by omega)
  have hat : ∀ j, j < code / 8 → tz_at f (code % 8) j < D a ∧ nI f + (nI (code % 8) - 4) * nI j = nI (tz_at f (code % 8) j) := fun j hj => tz_at_ok hfd (by omega) (by omega) (by omega) (by omega) h0 h1 hj
  unfold wpY_slice
  refine ty_is1 hh hus (br_f (by decide) (br_f (nI_pos (by omega)) ⟨w1, ?_⟩))
  rw [nI_clamp (by omega), hr]
  refine br_f (nI_ge ha (by omega)) (br_f (nI_nlt (b := 8) hc8 (by omega)) (br_f (nI_nlt (a := 39) hc39 (by decide)) (ty_fh (by omega) hu (fun _ => hf) ?_)))
  refine br_f (fun e => ?_) ⟨n8, nm_r e1 ⟨n8, ?_⟩⟩
  · have := (nI_eq (a := v) (b := 24) (by omega) (by decide)).mp e
    omega
  · rw [e2]
    refine nm_e (ty_dim (by omega) (by omega) hda.1 ?_)
    refine br_f (nI_pos (by omega)) (br_f (nI_ge hfd (by omega)) (br_f h0 (br_t h1 ?_)))
    simp (disch := omega) only [tz_n3, tz_add1, tz_add2, vp_in_nI, nI_clamp, hr, true_and]
    refine ty_shapeNew rfl hr3 ?_
    simp (disch := omega) only [tz_72a, vp_in_nI, nI_clamp, tz_b8, tz_nb, forall_eq, true_and]
    have f2 : ∀ j, j < 72 → upd (ty_sn yds (yds (3 * h)) (yds (3 * h + 1)) (yds (3 * h + 2))) (72 + a) (nI (code / 8)) j = yds j := by
      intro j hj
      unfold ty_sn
      rw [pk_un (by omega), pk_un (by omega), pk_un (by omega), pk_un (by omega)]
    have hN : tx_Dx (upd yrk 24 (nI r)) (upd (ty_sn yds (yds (3 * h)) (yds (3 * h + 1)) (yds (3 * h + 2))) (72 + a) (nI (code / 8))) 24 r (tz_un D a (code / 8)) := by
      refine ⟨pk_us, hr3, fun i hi => ?_⟩
      by_cases q2 : i = a
      · subst q2
        rw [tz_un_s]
        exact ⟨pk_us, by omega, by omega⟩
      · rw [tz_un_n q2]
        have hdi := hDi i hi
        refine ⟨?_, hdi.2⟩
        show upd (ty_sn yds _ _ _) (72 + a) _ (72 + i) = nI (D i)
        rw [pk_un (by omega)]
        unfold ty_sn
        rcases (by omega : i = 0 ∨ i = 1 ∨ i = 2) with rfl | rfl | rfl
        · rw [pk_un (by omega), pk_un (by omega), pk_us, show yds (3 * h) = nI (D 0) from hdi.1, tz_b8 _ (by omega), tz_nb (by omega)]
        · rw [pk_un (by omega), pk_us, hdi.1, tz_b8 _ (by omega), tz_nb (by omega)]
        · rw [pk_us, hdi.1, tz_b8 _ (by omega), tz_nb (by omega)]
    have hDh : tx_Dx (upd yrk 24 (nI r)) (upd (ty_sn yds (yds (3 * h)) (yds (3 * h + 1)) (yds (3 * h + 2))) (72 + a) (nI (code / 8))) h r D := tx_Dx_fr hD (pk_un (by omega)) (fun i hi => f2 _ (by omega))
    have hc := hN.el
    refine ty_sz (d := 24) (by omega) hN ?_
    refine ⟨tz_el (tz_un D a (code / 8)) r + 1, ty_sl170 hh hDh hN ha (by omega) hat hc.2 hcell hn hn2 hv hu hf ?_ _ 0 shn (by omega) (by omega) ⟨fun i hi => by omega, fun _ _ => rfl⟩⟩
    intro shn1 shn2 g1 g2 g3
    have F := ty_fin (yrk := yrk) (yds := yds) (shn := shn) (shn1 := shn1) hN hv hc.2 (fun j hj => pk_un (by omega)) f2 (fun e he => by
      obtain ⟨c, c1, c2⟩ := hcell (tz_slE D r a f (code % 8) (code / 8) e) (tz_slElt hr3 ha (fun i hi => (hDi i hi).2.1) (by omega) (fun j hj => (hat j hj).1))
      exact ⟨c, c1, by rw [g1.1 e he]; exact c2⟩) (fun p hp => g1.2 p (by omega)) g2 g3
    exact H _ _ _ F.1 F.2.1 (fun e he => by rw [F.2.2 e he, g1.1 e he])
end SLC
end
section
/-! expand -/
def tz_sk (a i : Nat) : Nat := if i < a then i else i + 1
def tz_xD (D : Nat → Nat) (a d i : Nat) : Nat := if i < a then D i else if i = a then d else D (i - 1)
def tz_xs (s : Nat → Int32) (a i : Nat) : Int32 := if i < a then s i else if i = a then 0 else s (i - 1)
theorem tz_xD_sk {D : Nat → Nat} {a d i : Nat} : tz_xD D a d (tz_sk a i) = D i := by
  unfold tz_xD tz_sk
  by_cases h : i < a
  · rw [if_pos h, if_pos h]
  · rw [if_neg h, if_neg (by omega), if_neg (by omega), Nat.add_sub_cancel]
theorem tz_xlin {a r : Nat} (ha : a ≤ r) (hr : r ≤ 2) (x : Nat → Nat) (s : Nat → Int32) (o : Int32) : tz_lin x (tz_xs s a) (r + 1) o = tz_lin (fun i => x (tz_sk a i)) s r o := by
  rcases (by omega : r = 0 ∨ r = 1 ∨ r = 2) with rfl | rfl | rfl
  · have h1 : a = 0 := by omega
    subst h1
    simp [tz_lin, tz_xs]
  · rcases (by omega : a = 0 ∨ a = 1) with rfl | rfl <;> simp [tz_lin, tz_xs, tz_sk]
  · rcases (by omega : a = 0 ∨ a = 1 ∨ a = 2) with rfl | rfl | rfl <;> simp [tz_lin, tz_xs, tz_sk]
def tz_xE (D : Nat → Nat) (r a d e : Nat) : Nat := tz_fl D (ty_x3 (ty_ix (tz_xD D a d) (r + 1) e (tz_sk a 0)) (ty_ix (tz_xD D a d) (r + 1) e (tz_sk a 1)) 0) r
theorem tz_xx {D : Nat → Nat} {r a d e i : Nat} (hr : r ≤ 2) (hi : i < r) : ty_x3 (ty_ix (tz_xD D a d) (r + 1) e (tz_sk a 0)) (ty_ix (tz_xD D a d) (r + 1) e (tz_sk a 1)) 0 i = ty_ix (tz_xD D a d) (r + 1) e (tz_sk a i) := by
  rcases (by omega : i = 0 ∨ i = 1) with rfl | rfl <;> rfl
theorem tz_skl {a i r : Nat} (hi : i < r) : tz_sk a i < r + 1 := by
  unfold tz_sk; split <;> omega
theorem tz_xDp {D : Nat → Nat} {r a d : Nat} (ha : a ≤ r) (hD : ∀ i, i < r → 1 ≤ D i ∧ D i ≤ 4) (hd : 1 ≤ d ∧ d ≤ 4) (i : Nat) (hi : i < r + 1) : 1 ≤ tz_xD D a d i ∧ tz_xD D a d i ≤ 4 := by
  unfold tz_xD
  split
  · exact hD i (by omega)
  · split
    · exact hd
    · exact hD _ (by omega)
theorem tz_xxlt {D : Nat → Nat} {r a d e : Nat} (ha : a ≤ r) (hr : r ≤ 2) (hD : ∀ i, i < r → 1 ≤ D i ∧ D i ≤ 4) (hd : 1 ≤ d ∧ d ≤ 4) (i : Nat) (hi : i < r) : ty_x3 (ty_ix (tz_xD D a d) (r + 1) e (tz_sk a 0)) (ty_ix (tz_xD D a d) (r + 1) e (tz_sk a 1)) 0 i < D i := by
  rw [tz_xx hr hi]
  have := ty_ixlt (D := tz_xD D a d) (r := r + 1) (e := e) (a := tz_sk a i) (fun j hj => (tz_xDp ha hD hd j hj).1) (tz_skl hi)
  rw [tz_xD_sk] at this
  exact this
theorem tz_xElt {D : Nat → Nat} {r a d e : Nat} (ha : a ≤ r) (hr : r ≤ 2) (hD : ∀ i, i < r → 1 ≤ D i ∧ D i ≤ 4) (hd : 1 ≤ d ∧ d ≤ 4) : tz_xE D r a d e < tz_el D r := tz_fllt r (tz_xxlt ha hr hD hd)
theorem tz_xad {D : Nat → Nat} {r a d e : Nat} (ha : a ≤ r) (hr : r ≤ 2) (hD : ∀ i, i < r → 1 ≤ D i ∧ D i ≤ 4) (hd : 1 ≤ d ∧ d ≤ 4) (s : Nat → Int32) (o : Int32) : tz_adl (tz_xD D a d) (tz_xs s a) (r + 1) e o = tz_adl D s r (tz_xE D r a d e) o := by
  unfold tz_xE
  rw [tz_adlfl r o (tz_xxlt ha hr hD hd), tz_adldg, tz_xlin ha hr]
  refine tz_linc r o (fun i hi => ?_) (fun _ _ => rfl)
  rw [tz_xx hr hi]
  exact (if_pos (tz_skl hi)).symm
/-- the descriptor v on its way: axis x is free -/
def tx_Xp (D : Nat → Nat) (s : Nat → Int32) (v r x : Nat) (dmx0 stx0 dmx stx : Nat → Int32) : Prop :=
  (∀ i, i < x → dmx (3 * v + i) = nI (D i) ∧ stx (3 * v + i) = s i) ∧ (∀ i, x < i → i ≤ r → dmx (3 * v + i) = nI (D (i - 1)) ∧ stx (3 * v + i) = s (i - 1)) ∧ ∀ j, (j < 3 * v ∨ 3 * v + 3 ≤ j) → dmx j = dmx0 j ∧ stx j = stx0 j
section EXP
variable {xnc xfr xol xnw xtp xsc : Int32} {nod ofs rnk dmx stx its knd rfs siz oldr newr stt blw arn slo mvd sls : Nat → Int32}
variable {ycs ysc : Int32} {usd yrk yds shn tof vw exs ykd fst snd own prt pct val ysl ord ysls : Nat → Int32}
theorem tx_ex73 {post : Int32 → SX → Prop} {v r a d : Nat} {D : Nat → Nat} {s : Nat → Int32} {dmx0 stx0 : Nat → Int32} (hv : v < 24) (hr : r ≤ 2) (ha : a ≤ r) (hd : d ≤ 4) (hD : ∀ i, i < r → D i ≤ 4) (hs : ∀ i, i < r → vp_nar .byte (s i) = s i)
    (H : ∀ dmx1 stx1, (∀ i, i < r + 1 → dmx1 (3 * v + i) = nI (tz_xD D a d i) ∧ stx1 (3 * v + i) = tz_xs s a i) → (∀ j, (j < 3 * v ∨ 3 * v + 3 ≤ j) → dmx1 j = dmx0 j ∧ stx1 j = stx0 j) → post (nI v) (xnc, xfr, xol, xnw, xtp, xsc, nod, ofs, rnk, dmx1, stx1, its, knd, rfs, siz, oldr, newr, stt, blw, arn, slo, mvd, sls)) : ∀ n x dmx stx, a ≤ x → x ≤ r → x - a < n → tx_Xp D s v r x dmx0 stx0 dmx stx → wX_expand_73 post (nI a) (nI d) (nI v) n (nI x) xnc xfr xol xnw xtp xsc nod ofs rnk dmx stx its knd rfs siz oldr newr stt blw arn slo mvd sls := by
  intro n
  induction n with
  | zero => intro x dmx stx _ _ h; omega
  | succ n ih =>
    intro x dmx stx h1 h2 h3 ⟨p1, p2, p3⟩
    by_cases c : x = a
    · subst c
      have c1 : nI x ≤ nI x := Int32.le_refl _
      unfold wX_expand_73
      refine br_t c1 ?_
      simp (disch := omega) only [tz_3n, nI_add, vp_in_nI, nI_clamp, tz_b8, tz_nb, tz_nb0, forall_eq, true_and]
      refine H _ _ (fun i hi => ?_) (fun j hj => ?_)
      · unfold tz_xD tz_xs
        by_cases e : i = x
        · subst e
          rw [pk_us, pk_us, if_neg (Nat.lt_irrefl _), if_neg (Nat.lt_irrefl _), if_pos rfl, if_pos rfl]
          exact ⟨rfl, rfl⟩
        · rw [pk_un (by omega), pk_un (by omega)]
          by_cases e2 : i < x
          · rw [if_pos e2, if_pos e2]; exact p1 i e2
          · rw [if_neg e2, if_neg e2, if_neg e, if_neg e]; exact p2 i (by omega) (by omega)
      · rw [pk_un (by omega), pk_un (by omega)]
        exact p3 j hj
    · have c1 : ¬ nI x ≤ nI a := nI_ge (by omega) (by omega)
      unfold wX_expand_73
      refine br_f c1 ?_
      rw [tz_s1 (by omega)]
      refine tx_exch (by omega) (by omega) (by omega) ?_
      refine nm_r (tz_m1 (by omega)) ?_
      obtain ⟨q1, q2⟩ := p1 (x - 1) (by omega)
      have hDx := hD (x - 1) (by omega)
      refine ih (x - 1) _ _ (by omega) (by omega) (by omega) ⟨fun i hi => ?_, fun i hi1 hi2 => ?_, fun j hj => ?_⟩
      · rw [tx_ex_n (by omega) (by omega), tx_ex_n (by omega) (by omega)]
        exact p1 i (by omega)
      · by_cases e : i = x
        · subst e
          rw [tx_ex_i, tx_ex_i, q1, q2, tz_nb (by omega), hs _ (by omega)]
          exact ⟨rfl, rfl⟩
        · rw [tx_ex_n (by omega) (by omega), tx_ex_n (by omega) (by omega)]
          exact p2 i (by omega) hi2
      · rw [tx_ex_n (by omega) (by omega), tx_ex_n (by omega) (by omega)]
        exact p3 j hj
theorem tx_expand {post : Int32 → SX → Prop} {h v n c r a d : Nat} {D : Nat → Nat} (hh : h < 24) (hv : v < 24) (hvh : v ≠ h) (hu : ∀ j, j < v → ¬ nod j < 0) (hf : nod v < 0) (hn : nod h = nI n) (hn2 : n < 32) (hD : tx_Dx rnk dmx h r D) (hS : tx_Sx ofs stx h r) (hc : rfs n = nI c) (hc2 : c < 126) (hr2 : r ≤ 2) (ha : a ≤ r) (hd : 1 ≤ d ∧ d ≤ 4)
    (H : ∀ dmx1 stx1, (∀ i, i < r + 1 → dmx1 (3 * v + i) = nI (tz_xD D a d i) ∧ stx1 (3 * v + i) = tz_xs (fun i => stx (3 * h + i)) a i) → (∀ j, (j < 3 * v ∨ 3 * v + 3 ≤ j) → dmx1 j = dmx j ∧ stx1 j = stx j) → post (nI v) (xnc, xfr, xol, xnw, xtp, xsc, upd nod v (nI n), upd ofs v (ofs h), upd (upd rnk v (nI r)) v (nI (r + 1)), dmx1, stx1, upd its v 0, knd, upd rfs n (nI (c + 1)), siz, oldr, newr, stt, blw, arn, slo, mvd, sls)) : wpX_expand post (xnc, xfr, xol, xnw, xtp, xsc, nod, ofs, rnk, dmx, stx, its, knd, rfs, siz, oldr, newr, stt, blw, arn, slo, mvd, sls) (nI h) (nI a) (nI d) := by
  have hr := hD.1
  have w1 : vp_in (nI h) 120 := vp_in_nI (by omega) (by omega)
  have n3 : ¬ nI r = 3 := fun z => by
    have := (nI_eq (b := 3) (by omega) (by decide)).mp z
    omega
  unfold wpX_expand
  refine tx_is1 hh (by rw [hn]; exact nI_pos (by omega)) (br_f (by decide) ⟨w1, ?_⟩)
  rw [nI_clamp (by omega), hr]
  refine br_f n3 (br_f (nI_pos (by omega)) ⟨w1, br_f (nI_nlt ha (by omega)) (br_f (nI_nlt (b := 1) hd.1 (by omega)) (br_t (nI_le (b := 4) hd.2 (by decide)) ?_))⟩)
  refine tx_view hh hv hvh hu hf hn hn2 hD hS hc hc2 ?_
  refine br_t (nI_pos' (by omega)) ?_
  simp (disch := omega) only [vp_in_nI, nI_clamp, pk_us, nI_1, tz_b8, tz_nb, forall_eq, true_and]
  refine ⟨4, tx_ex73 (D := D) (s := fun i => stx (3 * h + i)) hv hr2 ha hd.2 (fun i hi => (hD.2.2 i hi).2.2) (fun i hi => by rw [vp_nar_byte]; exact hS.2 i hi) H 4 r _ _ ha (Nat.le_refl _) (by omega) ⟨fun i hi => ?_, fun i h1 h2 => by omega, fun j hj => ⟨tx_cp_n hj, tx_cp_n hj⟩⟩⟩
  have := hD.2.2 i hi
  rw [tx_cp_t (by omega), tx_cp_t (by omega), this.1, tz_nb (by omega), vp_nar_byte, hS.2 i hi]
  exact ⟨rfl, rfl⟩
theorem ty_ex139 {post : Int32 → SY → Prop} {h r a d cnt v n : Nat} {D : Nat → Nat} {shn0 : Nat → Int32} (hh : h < 24) (hD : tx_Dx yrk yds h r D) (hD' : tx_Dx yrk yds 24 (r + 1) (tz_xD D a d)) (hr2 : r ≤ 2) (ha : a ≤ r) (hd : 1 ≤ d ∧ d ≤ 4) (hcnt : cnt ≤ 64) (hcell : ∀ E, E < tz_el D r → ∃ c, c < 320 ∧ shn0 (64 * h + E) = nI c)
    (hn : tof h = nI n) (hn2 : n < 32) (hv : v < 24) (hu : ∀ j, j < v → ¬ usd j = 0) (hf : usd v = 0)
    (H : ∀ shn1 shn2, ty_Vl shn0 shn1 h cnt (tz_xE D r a d) → (∀ e, e < 64 → shn2 (64 * v + e) = vp_nar .short (shn1 (1536 + e))) → (∀ j, (j < 64 * v ∨ 64 * v + 64 ≤ j) → shn2 j = shn1 j) → post (nI v) (ycs, ysc, upd usd v 1, upd yrk v (vp_nar .byte (yrk 24)), ty_cp3 yds v, shn2, upd tof v (nI n), upd vw v 1, exs, ykd, fst, snd, own, prt, pct, val, ysl, ord, ysls)) :
    ∀ m e shn, e ≤ cnt → cnt - e < m → ty_Vl shn0 shn h e (tz_xE D r a d) → wY_expand_139 post (nI h) (nI a) (nI cnt) ycs ysc m (nI e) usd yrk yds shn tof vw exs ykd fst snd own prt pct val ysl ord ysls := by
  have hb1 : ∀ i, i < r → 1 ≤ D i ∧ D i ≤ 4 := fun i hi => (hD.2.2 i hi).2
  intro m
  induction m with
  | zero => intro e shn _ h; omega
  | succ m ih =>
    intro e shn h1 h2 h3
    by_cases q1 : e < cnt
    · have hElt := tz_xElt (D := D) (e := e) ha hr2 hb1 hd
      have hE64 := hD.el.2
      obtain ⟨w, c1, c2⟩ := hcell (tz_xE D r a d e) hElt
      have e1 : shn (64 * h + tz_xE D r a d e) = nI w := by rw [h3.2 _ (by omega)]; exact c2
      have fin : ∀ x, x = nI w → (vp_in (1536 + nI e) 1600 ∧ ∀ y, y = upd shn (1536 + nI e).toNatClampNeg (vp_nar .short x.toInt16.toInt32) → ∀ z, z = nI e + 1 → wY_expand_139 post (nI h) (nI a) (nI cnt) ycs ysc m z usd yrk yds y tof vw exs ykd fst snd own prt pct val ysl ord ysls) := by
        intro x hx
        subst hx
        simp (disch := omega) only [tz_1536a, tz_b16, tz_ns, vp_in_nI, nI_clamp, nI_1, forall_eq, true_and]
        exact ih (e + 1) _ (by omega) (by omega) (ty_Vl_s h3 c2.symm)
      refine br_f (nI_ge q1 (by omega)) ?_
      rcases (by omega : a = 0 ∨ a = 1 ∨ a = 2) with rfl | rfl | rfl
      · refine br_t rfl ?_
        unfold wY_expand_160
        refine ty_index (d := 24) (a := 1) (by omega) hD' (by omega) (by omega) ?_
        refine br_f (by decide) ?_
        unfold wY_expand_180
        refine ty_index (d := 24) (a := 2) (by omega) hD' (by omega) (by omega) ?_
        exact ty_cellAt (k := 0) (by omega) hD (by show tz_xE D r 0 d e < 64; omega) (fin _ e1)
      · refine br_f (by decide) ?_
        unfold wY_expand_160
        refine ty_index (d := 24) (a := 0) (by omega) hD' (by omega) (by omega) ?_
        refine br_f (by decide) ?_
        unfold wY_expand_180
        refine ty_index (d := 24) (a := 2) (by omega) hD' (by omega) (by omega) ?_
        exact ty_cellAt (k := 0) (by omega) hD (by show tz_xE D r 1 d e < 64; omega) (fin _ e1)
      · refine br_f (by decide) ?_
        unfold wY_expand_160
        refine ty_index (d := 24) (a := 0) (by omega) hD' (by omega) (by omega) ?_
        refine br_t (by decide) ?_
        unfold wY_expand_180
        refine ty_index (d := 24) (a := 1) (by omega) hD' (by omega) (by omega) ?_
        exact ty_cellAt (k := 0) (by omega) hD (by show tz_xE D r 2 d e < 64; omega) (fin _ e1)
    · have qe : e = cnt := by omega
      subst qe
      refine br_t (Int32.le_refl _) ⟨vp_in_nI (by omega) (by omega), ?_⟩
      rw [nI_clamp (by omega), hn]
      exact ty_handOver hv hn2 hu hf rfl (fun shn2 a1 a2 => H _ shn2 h3 a1 a2)
theorem ty_ex125 {post : Int32 → SY → Prop} {h r a d v n : Nat} {D : Nat → Nat} {z0 z1 z2 : Int32} (hh : h < 24) (hD : tx_Dx yrk yds h r D) (hr2 : r ≤ 2) (ha : a ≤ r) (hd : 1 ≤ d ∧ d ≤ 4) (hcell : ∀ E, E < tz_el D r → ∃ c, c < 320 ∧ shn (64 * h + E) = nI c)
    (hn : tof h = nI n) (hn2 : n < 32) (hv : v < 24) (hu : ∀ j, j < v → ¬ usd j = 0) (hf : usd v = 0)
    (k2 : z2 = nI (tz_xD D a d 0)) (k1 : 1 ≤ r → z1 = nI (tz_xD D a d 1)) (k0 : 2 ≤ r → z0 = nI (tz_xD D a d 2))
    (H : ∀ yrk1 yds1 shn1, tx_Dx yrk1 yds1 v (r + 1) (tz_xD D a d) → tr_fy v yrk yds shn yrk1 yds1 shn1 → (∀ e, e < tz_el (tz_xD D a d) (r + 1) → shn1 (64 * v + e) = shn (64 * h + tz_xE D r a d e)) → post (nI v) (ycs, ysc, upd usd v 1, yrk1, yds1, shn1, upd tof v (nI n), upd vw v 1, exs, ykd, fst, snd, own, prt, pct, val, ysl, ord, ysls)) : wY_expand_125 post (nI h) (nI a) z0 z1 z2 (nI (r + 1)) ycs ysc usd yrk yds shn tof vw exs ykd fst snd own prt pct val ysl ord ysls := by
  have hDp := tz_xDp (a := a) ha (fun i hi => (hD.2.2 i hi).2) hd
  unfold wY_expand_125
  refine ty_shapeNew rfl (by omega) ?_
  have f2 : ∀ j, j < 72 → ty_sn yds z2 z1 z0 j = yds j := by
    intro j hj
    unfold ty_sn
    rw [pk_un (by omega), pk_un (by omega), pk_un (by omega)]
  have hN : tx_Dx (upd yrk 24 (nI (r + 1))) (ty_sn yds z2 z1 z0) 24 (r + 1) (tz_xD D a d) := by
    refine ⟨pk_us, by omega, fun i hi => ⟨?_, hDp i hi⟩⟩
    have hdi := hDp i hi
    show ty_sn yds _ _ _ (72 + i) = _
    unfold ty_sn
    rcases (by omega : i = 0 ∨ i = 1 ∨ i = 2) with rfl | rfl | rfl
    · rw [pk_un (by omega), pk_un (by omega), pk_us, k2, tz_b8 _ (by omega), tz_nb (by omega)]
    · rw [pk_un (by omega), pk_us, k1 (by omega), tz_b8 _ (by omega), tz_nb (by omega)]
    · rw [pk_us, k0 (by omega), tz_b8 _ (by omega), tz_nb (by omega)]
  have hDh : tx_Dx (upd yrk 24 (nI (r + 1))) (ty_sn yds z2 z1 z0) h r D := tx_Dx_fr hD (pk_un (by omega)) (fun i hi => f2 _ (by omega))
  have hc := hN.el
  refine ty_sz (d := 24) (by omega) hN ?_
  refine ⟨tz_el (tz_xD D a d) (r + 1) + 1, ty_ex139 hh hDh hN hr2 ha hd hc.2 hcell hn hn2 hv hu hf ?_ _ 0 shn (by omega) (by omega) ⟨fun i hi => by omega, fun _ _ => rfl⟩⟩
  intro shn1 shn2 g1 g2 g3
  have F := ty_fin (yrk := yrk) (yds := yds) (shn := shn) (shn1 := shn1) hN hv hc.2 (fun j hj => pk_un (by omega)) f2 (fun e he => by
    obtain ⟨c, c1, c2⟩ := hcell (tz_xE D r a d e) (tz_xElt ha hr2 (fun i hi => (hD.2.2 i hi).2) hd)
    exact ⟨c, c1, by rw [g1.1 e he]; exact c2⟩) (fun p hp => g1.2 p (by omega)) g2 g3
  exact H _ _ _ F.1 F.2.1 (fun e he => by rw [F.2.2 e he, g1.1 e he])
theorem ty_expand {post : Int32 → SY → Prop} {h r a d v n : Nat} {D : Nat → Nat} (hh : h < 24) (hus : ¬ usd h = 0) (hD : tx_Dx yrk yds h r D) (hr2 : r ≤ 2) (ha : a ≤ r) (hd : 1 ≤ d ∧ d ≤ 4) (hcell : ∀ E, E < tz_el D r → ∃ c, c < 320 ∧ shn (64 * h + E) = nI c)
    (hn : tof h = nI n) (hn2 : n < 32) (hv : v < 24) (hu : ∀ j, j < v → ¬ usd j = 0) (hf : usd v = 0)
    (H : ∀ yrk1 yds1 shn1, tx_Dx yrk1 yds1 v (r + 1) (tz_xD D a d) → tr_fy v yrk yds shn yrk1 yds1 shn1 → (∀ e, e < tz_el (tz_xD D a d) (r + 1) → shn1 (64 * v + e) = shn (64 * h + tz_xE D r a d e)) → post (nI v) (ycs, ysc, upd usd v 1, yrk1, yds1, shn1, upd tof v (nI n), upd vw v 1, exs, ykd, fst, snd, own, prt, pct, val, ysl, ord, ysls)) : wpY_expand post (ycs, ysc, usd, yrk, yds, shn, tof, vw, exs, ykd, fst, snd, own, prt, pct, val, ysl, ord, ysls) (nI h) (nI a) (nI d) := by
  have hr := hD.1
  have w1 : vp_in (nI h) 25 := vp_in_nI (by omega) (by omega)
  have n3 : ¬ nI r = 3 := fun z => by
    have := (nI_eq (b := 3) (by omega) (by decide)).mp z
    omega
  unfold wpY_expand
  refine ty_is1 hh hus (br_f (by decide) ⟨w1, ?_⟩)
  rw [nI_clamp (by omega), hr]
  refine br_f n3 (br_f (nI_pos (by omega)) ⟨w1, br_f (nI_nlt ha (by omega)) (br_f (nI_nlt (b := 1) hd.1 (by omega)) (br_f (nI_nlt (a := 4) hd.2 (by decide)) (ty_fh (by omega) hu (fun _ => hf) ?_)))⟩)
  refine br_f (fun e => ?_) ?_
  · have := (nI_eq (a := v) (b := 24) (by omega) (by decide)).mp e
    omega
  · simp (disch := omega) only [tz_n3, tz_add1, vp_in_nI, nI_clamp, hr, forall_eq, true_and]
    have y0 : 1 ≤ r → yds (3 * h) = nI (D 0) := fun hz => (hD.2.2 0 (by omega)).1
    have y1 : 2 ≤ r → yds (3 * h + 1) = nI (D 1) := fun hz => (hD.2.2 1 (by omega)).1
    rcases (by omega : a = 0 ∨ a = 1 ∨ a = 2) with rfl | rfl | rfl
    · refine br_t rfl ?_
      unfold wY_expand_94
      refine br_f (by decide) (br_t rfl ?_)
      unfold wY_expand_114
      refine br_f (by decide) ?_
      exact ty_ex125 hh hD hr2 ha hd hcell hn hn2 hv hu hf rfl (fun z => y0 z) (fun z => y1 z) H
    · refine br_f (by decide) ?_
      unfold wY_expand_94
      refine br_t rfl ?_
      unfold wY_expand_114
      refine br_f (by decide) ?_
      exact ty_ex125 hh hD hr2 ha hd hcell hn hn2 hv hu hf (y0 (by omega)) (fun z => rfl) (fun z => y1 z) H
    · refine br_f (by decide) ?_
      unfold wY_expand_94
      refine br_f (by decide) (br_f (by decide) ?_)
      unfold wY_expand_114
      refine br_t rfl ?_
      exact ty_ex125 hh hD hr2 ha hd hcell hn hn2 hv hu hf (y0 (by omega)) (fun z => y1 (by omega)) (fun z => rfl) H
end EXP
end
section
/-! a new node: the relation behind it -/
def tz_uc (cl : Nat → Nat → Nat) (n : Nat) (nc : Nat → Nat) : Nat → Nat → Nat := fun m e => if m = n then nc e else cl m e
theorem tz_uc_s {cl : Nat → Nat → Nat} {n : Nat} {nc : Nat → Nat} {e : Nat} : tz_uc cl n nc n e = nc e := if_pos rfl
theorem tz_uc_n {cl : Nat → Nat → Nat} {n : Nat} {nc : Nat → Nat} {m e : Nat} (h : m ≠ n) : tz_uc cl n nc m e = cl m e := if_neg h
theorem tr_nx_lt {N i : Nat} {nd : Nat → Nat} (h : i < N) : tr_nx N nd i = nI (nd i) := if_pos h
theorem tr_nx_ge {N i : Nat} {nd : Nat → Nat} (h : ¬ i < N) : tr_nx N nd i = -1 := if_neg h
theorem tr_pv_0 {nd : Nat → Nat} : tr_pv nd 0 = -1 := if_pos rfl
theorem tr_pv_s {nd : Nat → Nat} {i : Nat} (h : i ≠ 0) : tr_pv nd i = nI (nd (i - 1)) := if_neg h
section NN
variable {xnc xfr xol xnw xtp xsc : Int32} {nod ofs rnk dmx stx its knd rfs siz oldr newr stt blw arn slo mvd sls : Nat → Int32}
variable {ycs ysc : Int32} {usd yrk yds shn tof vw exs ykd fst snd own prt pct val ysl ord ysls : Nat → Int32}
variable {N : Nat} {nd ag kd sz : Nat → Nat} {cl : Nat → Nat → Nat} {V : Nat → Int32}
theorem tr_mk_ps {n k cnt i : Nat} (S : tr_Sk N nd ag kd sz xnc xol xnw xtp knd siz oldr newr stt) (hk0 : kd n = 0) (hi : i ≤ N) : tz_ps (tz_un sz n cnt) (tz_un nd N n) i = tz_ps sz nd i := by
  refine tz_psc i (fun j hj => tz_un_n (by omega)) (fun j hj => ?_)
  rw [tz_un_n (show j ≠ N by omega)]
  refine tz_un_n (fun z => ?_)
  have := (S.2.2.1 j (by omega)).1
  rw [z] at this
  exact this hk0
theorem tr_mk_psN {n k cnt : Nat} (S : tr_Sk N nd ag kd sz xnc xol xnw xtp knd siz oldr newr stt) (hk0 : kd n = 0) : tz_ps (tz_un sz n cnt) (tz_un nd N n) (N + 1) = tz_ps sz nd N + cnt := by
  rw [tz_pss, tr_mk_ps (k := k) S hk0 (Nat.le_refl _), tz_un_s, tz_un_s]
theorem tr_nwo (S : tr_Sk N nd ag kd sz xnc xol xnw xtp knd siz oldr newr stt) : xnw = -1 ∨ ∃ w, w < 32 ∧ xnw = nI w := by
  have h := S.1.2.2.2.2.2
  by_cases z : N = 0
  · rw [z, tr_pv_0] at h; exact Or.inl h
  · rw [tr_pv_s z] at h
    exact Or.inr ⟨_, (S.2.1 _ (S.2.2.1 (N - 1) (by omega)).1).1, h⟩
theorem tr_mk_Sk {n k cnt : Nat} {newr1 : Nat → Int32} {xol1 : Int32} (S : tr_Sk N nd ag kd sz xnc xol xnw xtp knd siz oldr newr stt) (hn : n < 32) (hk0 : kd n = 0) (hN : N < 32) (hk : 1 ≤ k) (hk7 : k ≤ 7) (hc : 1 ≤ cnt) (hc2 : cnt ≤ 64) (hT : tz_ps sz nd N + cnt ≤ 320)
    (hw : (xnw = -1 ∧ newr1 = upd newr n (-1) ∧ xol1 = nI n) ∨ (∃ w, w < 32 ∧ xnw = nI w ∧ newr1 = upd (upd newr n (-1)) w (nI n) ∧ xol1 = xol)) :
    tr_Sk (N + 1) (tz_un nd N n) (tz_un ag n N) (tz_un kd n k) (tz_un sz n cnt) (nI (N + 1)) xol1 (nI n) (nI (tz_ps sz nd N + cnt)) (upd knd n (nI k)) (upd siz n (nI cnt)) (upd oldr n xnw) newr1 (upd stt n (nI (tz_ps sz nd N))) := by
  have pN := tr_mk_psN (k := k) (cnt := cnt) S hk0
  have pI := fun i (hi : i ≤ N) => tr_mk_ps (k := k) (cnt := cnt) S hk0 hi
  obtain ⟨⟨s1, s2, s3, s4, s5, s6⟩, s7, s8, s9, s10, s11⟩ := S
  have dn : ∀ i, i < N → nd i ≠ n := fun i hi z => (s8 i hi).1 (by rw [z]; exact hk0)
  have inj : ∀ i j, i < N → j < N → nd i = nd j → i = j := fun i j hi hj e => by rw [← (s8 i hi).2, ← (s8 j hj).2, e]
  refine ⟨⟨by omega, rfl, by rw [pN], by rw [pN]; exact hT, ?_, ?_⟩, ?_, ?_, ?_, ?_, ?_⟩
  · rw [tr_nx_lt (by omega)]
    rcases hw with ⟨w1, w2, w3⟩ | ⟨w, w0, w1, w2, w3⟩
    · have z : N = 0 := by
        by_cases z : N = 0
        · exact z
        · rw [s6, tr_pv_s z] at w1
          have := (s7 _ (s8 (N - 1) (by omega)).1).1
          exact absurd w1 (tz_nIm1 (by omega))
      rw [w3, z, tz_un_s]
    · have z : N ≠ 0 := fun z => by
        rw [s6, z, tr_pv_0] at w1
        exact tz_nIm1 (by omega) w1.symm
      rw [w3, s5, tr_nx_lt (by omega), tz_un_n (by omega)]
  · rw [tr_pv_s (by omega), Nat.add_sub_cancel, tz_un_s]
  · intro m hm
    by_cases e : m = n
    · subst e
      rw [tz_un_s, tz_un_s]
      exact ⟨hn, by omega, rfl⟩
    · rw [tz_un_n e] at hm
      have := s7 m hm
      rw [tz_un_n e, tz_un_n (by omega)]
      exact ⟨this.1, by omega, this.2.2⟩
  · intro i hi
    by_cases e : i = N
    · subst e
      rw [tz_un_s, tz_un_s, tz_un_s]
      exact ⟨by omega, rfl⟩
    · have := s8 i (by omega)
      have d := dn i (by omega)
      rw [tz_un_n e, tz_un_n d, tz_un_n d]
      exact this
  · intro m hm
    by_cases e : m = n
    · subst e
      rw [pk_us, tz_un_s]
      exact ⟨rfl, hk7⟩
    · rw [pk_un e, tz_un_n e]
      exact s9 m hm
  · intro m hm
    by_cases e : m = n
    · subst e
      rw [pk_us, tz_un_s]
      exact ⟨rfl, hc, hc2⟩
    · rw [tz_un_n e] at hm
      rw [pk_un e, tz_un_n e]
      exact s10 m hm
  · intro i hi
    rw [pI i (by omega)]
    by_cases e : i = N
    · subst e
      rw [tz_un_s, pk_us, pk_us, tr_nx_ge (by omega)]
      refine ⟨?_, ?_, rfl⟩
      · rcases hw with ⟨w1, w2, w3⟩ | ⟨w, w0, w1, w2, w3⟩
        · rw [w2, pk_us]
        · have z : i ≠ 0 := fun z => by
            rw [s6, z, tr_pv_0] at w1
            exact tz_nIm1 (by omega) w1.symm
          have nw : n ≠ w := fun z2 => by
            rw [s6, tr_pv_s z] at w1
            have b := (s7 _ (s8 (i - 1) (by omega)).1).1
            have := (nI_eq (by omega) (by omega)).mp w1
            exact dn (i - 1) (by omega) (this.trans z2.symm)
          rw [w2, pk_un nw, pk_us]
      · rw [s6]
        by_cases z : i = 0
        · rw [z, tr_pv_0, tr_pv_0]
        · rw [tr_pv_s z, tr_pv_s z, tz_un_n (by omega)]
    · have h := s11 i (by omega)
      have d := dn i (by omega)
      rw [tz_un_n e, pk_un d, pk_un d]
      refine ⟨?_, ?_, h.2.2⟩
      · rw [tr_nx_lt (by omega)]
        rcases hw with ⟨w1, w2, w3⟩ | ⟨w, w0, w1, w2, w3⟩
        · have z : N ≠ 0 := by omega
          rw [s6, tr_pv_s z] at w1
          have := (s7 _ (s8 (N - 1) (by omega)).1).1
          exact absurd w1 (tz_nIm1 (by omega))
        · rw [s6, tr_pv_s (by omega)] at w1
          have b := (s7 _ (s8 (N - 1) (by omega)).1).1
          have ew := (nI_eq (by omega) (by omega)).mp w1
          by_cases l : i = N - 1
          · have l2 : i + 1 = N := by omega
            rw [w2, l2, tz_un_s, ← ew, l, pk_us]
          · have nw : nd i ≠ w := fun z => l (inj i (N - 1) (by omega) (by omega) (z.trans ew.symm))
            rw [w2, pk_un nw, pk_un d, h.1, tr_nx_lt (by omega), tz_un_n (by omega)]
      · rw [h.2.1]
        by_cases z : i = 0
        · rw [z, tr_pv_0, tr_pv_0]
        · rw [tr_pv_s z, tr_pv_s z, tz_un_n (by omega)]
/-- an old cell is no new one -/
theorem tr_mk_ne {n cnt m e i : Nat} {nc : Nat → Nat} {own1 pct1 val1 ord1 shn1 : Nat → Int32} {T : Nat} (S : tr_Sk N nd ag kd sz xnc xol xnw xtp knd siz oldr newr stt) (C : tr_Ce N nd kd sz cl ycs own ord exs ykd) (Tn : ty_Tn nc n T cnt own pct val ord shn own1 pct1 val1 ord1 shn1) (hm : kd m ≠ 0) (he : e < sz m) (hi : i < cnt) : cl m e ≠ nc i := by
  intro z
  have h1 := (C.2.1 m e hm he).2
  have h2 := (Tn.1 i hi).2.1
  have h3 := (S.2.1 m hm).1
  rw [← z, h1] at h2
  exact nI_pos (by omega) h2
theorem tr_mk_old {n cnt m e : Nat} {nc : Nat → Nat} {own1 pct1 val1 ord1 shn1 : Nat → Int32} {T : Nat} (S : tr_Sk N nd ag kd sz xnc xol xnw xtp knd siz oldr newr stt) (C : tr_Ce N nd kd sz cl ycs own ord exs ykd) (Tn : ty_Tn nc n T cnt own pct val ord shn own1 pct1 val1 ord1 shn1) (hm : kd m ≠ 0) (he : e < sz m) : own1 (cl m e) = own (cl m e) ∧ pct1 (cl m e) = pct (cl m e) ∧ val1 (cl m e) = val (cl m e) := Tn.2.2.1 _ (fun i hi => tr_mk_ne S C Tn hm he hi)
theorem tr_mk_Ce {n k cnt : Nat} {nc : Nat → Nat} {own1 pct1 val1 ord1 shn1 : Nat → Int32} (S : tr_Sk N nd ag kd sz xnc xol xnw xtp knd siz oldr newr stt) (C : tr_Ce N nd kd sz cl ycs own ord exs ykd) (hn : n < 32) (hk0 : kd n = 0) (hk : 1 ≤ k) (Tn : ty_Tn nc n (tz_ps sz nd N) cnt own pct val ord shn own1 pct1 val1 ord1 shn1) :
    tr_Ce (N + 1) (tz_un nd N n) (tz_un kd n k) (tz_un sz n cnt) (tz_uc cl n nc) (nI (tz_ps sz nd N + cnt)) own1 ord1 (upd exs n 1) (upd ykd n (nI (k - 1))) := by
  have pN := tr_mk_psN (k := k) (cnt := cnt) S hk0
  have pI := fun i (hi : i ≤ N) => tr_mk_ps (k := k) (cnt := cnt) S hk0 hi
  have old := fun m e hm he => tr_mk_old (m := m) (e := e) S C Tn hm he
  obtain ⟨c1, c2, c3, c4, c5, c6, c7, c8⟩ := C
  obtain ⟨t1, t2, t3, t4, t5, t6⟩ := Tn
  refine ⟨by rw [pN], ?_, ?_, ?_, ?_, by rw [pN]; exact t6, ?_, ?_⟩
  · intro m e hm he
    by_cases q : m = n
    · subst q
      rw [tz_un_s] at he
      rw [tz_uc_s]
      exact ⟨(t1 e he).1, (t1 e he).2.2.1⟩
    · rw [tz_un_n q] at hm he
      rw [tz_uc_n q, (old m e hm he).1]
      exact c2 m e hm he
  · intro m e e' hm he he' h
    by_cases q : m = n
    · subst q
      rw [tz_un_s] at he he'
      rw [tz_uc_s, tz_uc_s] at h
      rcases (by omega : e < e' ∨ e = e' ∨ e' < e) with z | z | z
      · have := t2 e e' z he'; omega
      · exact z
      · have := t2 e' e z he; omega
    · rw [tz_un_n q] at hm he he'
      rw [tz_uc_n q, tz_uc_n q] at h
      exact c3 m e e' hm he he' h
  · intro i e hi he
    rw [pI i (by omega)]
    by_cases q : i = N
    · subst q
      rw [tz_un_s, tz_un_s] at he
      rw [tz_un_s, tz_uc_s]
      exact (t1 e he).2.2.2.2.2.1
    · have d : nd i ≠ n := fun z => (S.2.2.1 i (by omega)).1 (by rw [z]; exact hk0)
      rw [tz_un_n q, tz_un_n d] at he
      rw [tz_un_n q, tz_uc_n d, t4 _ (Or.inl (by have := tz_psl (sz := sz) (nd := nd) (i := i) (j := N) (by omega); omega))]
      exact c4 i e (by omega) he
  · intro c hc
    by_cases q : ∃ i, i < cnt ∧ c = nc i
    · obtain ⟨i, i1, i2⟩ := q
      exact Or.inr ⟨n, i, by rw [tz_un_s]; omega, by rw [tz_un_s]; exact i1, by rw [tz_uc_s]; exact i2⟩
    · rw [(t3 c (fun i hi z => q ⟨i, hi, z⟩)).1]
      rcases c5 c hc with z | ⟨m, e, z1, z2, z3⟩
      · exact Or.inl z
      · have d : m ≠ n := fun z => z1 (by rw [z]; exact hk0)
        exact Or.inr ⟨m, e, by rw [tz_un_n d]; exact z1, by rw [tz_un_n d]; exact z2, by rw [tz_uc_n d]; exact z3⟩
  · intro m hm
    by_cases q : m = n
    · subst q
      rw [pk_us, tz_un_s, if_neg (by omega)]
    · rw [pk_un q, tz_un_n q]
      exact c7 m hm
  · intro m hm
    by_cases q : m = n
    · subst q
      rw [pk_us, tz_un_s]
    · rw [tz_un_n q] at hm
      rw [pk_un q, tz_un_n q]
      exact c8 m hm
end NN
end
section
/-! a new node: parts, values, references -/
theorem tr_vFc {k cnt : Nat} {q q' : Nat → Nat} {V V' : Nat → Int32} (h3 : k = 3 → 2 ≤ cnt) (h : ∀ j, j < cnt → V (q j) = V' (q' j)) : tr_vF k cnt q V = tr_vF k cnt q' V' := by
  unfold tr_vF
  by_cases c : k = 3
  · rw [if_pos c, if_pos c, h 0 (by have := h3 c; omega), h 1 (by have := h3 c; omega)]
  · rw [if_neg c, if_neg c]
    by_cases c2 : k = 4 ∨ k = 6
    · rw [if_pos c2, if_pos c2]
      refine tz_smc _ (fun j hj => ?_)
      rw [h (2 * j) (by omega), h (2 * j + 1) (by omega)]
    · rw [if_neg c2, if_neg c2]
      exact tz_smc _ h
theorem tz_cn_one {p q : Nat → Bool} {a : Nat} (N : Nat) (ha : a < N) (h : ∀ i, i < N → i ≠ a → q i = p i) (hp : p a = false) : tz_cn q N = tz_cn p N + (if q a = true then 1 else 0) := by
  cases e : q a with
  | true => rw [if_pos rfl]; exact tz_cn1 N ha h hp e
  | false =>
    rw [if_neg (by decide), Nat.add_zero]
    refine tz_cnc N (fun i hi => ?_)
    by_cases z : i = a
    · rw [z, e, hp]
    · exact h i hi z
section NV
variable {xnc1 xfr1 xol1 xnw1 xtp1 xsc1 : Int32} {nod1 ofs1 rnk1 dmx1 stx1 its1 knd1 rfs1 siz1 oldr1 newr1 stt1 blw1 arn1 slo1 mvd1 sls1 : Nat → Int32}
variable {ycs1 ysc1 : Int32} {usd1 yrk1 yds1 shn1 tof1 vw1 exs1 ykd1 fst1 snd1 own1 prt1 pct1 val1 ysl1 ord1 ysls1 : Nat → Int32}
variable {xnc xfr xol xnw xtp xsc : Int32} {nod ofs rnk dmx stx its knd rfs siz oldr newr stt blw arn slo mvd sls : Nat → Int32}
variable {ycs ysc : Int32} {usd yrk yds shn tof vw exs ykd fst snd own prt pct val ysl ord ysls : Nat → Int32}
variable {N : Nat} {nd ag kd sz : Nat → Nat} {cl : Nat → Nat → Nat} {V : Nat → Int32}
theorem tr_No.k2 {n : Nat} (H : tr_No ag kd sz cl nod ofs rnk dmx stx blw fst snd prt pct n) : kd n = 1 ∨ 2 ≤ kd n := by
  rcases H with H | ⟨m, r, D, r0, D0, K, a1, a2, a3, a4, a5, a6⟩
  · exact Or.inl H.1
  · rcases a6 with ⟨c1, _⟩ | ⟨m2, r2, D2, c1, _⟩
    · rcases c1 with ⟨c, _⟩ | ⟨c, _⟩ <;> omega
    · rcases c1 with ⟨c, _⟩ | ⟨c, _⟩ <;> omega
/-- the parts of a cell are cells of older nodes, below n -/
theorem tr_No.parts {n e : Nat} (H : tr_No ag kd sz cl nod ofs rnk dmx stx blw fst snd prt pct n) (h32 : ∀ m, kd m ≠ 0 → m < 32) (hk : 2 ≤ kd n) (he : e < sz n) : ∃ cnt, cnt ≤ 8 ∧ pct (cl n e) = nI cnt ∧ (kd n = 3 → cnt = 2) ∧ (kd n = 4 ∨ kd n = 6 → cnt % 2 = 0) ∧
    ∀ j, j < cnt → ∃ m a, (nod (24 + 3 * n + 1) = nI m ∨ nod (24 + 3 * n + 2) = nI m) ∧ kd m ≠ 0 ∧ ag m < ag n ∧ bt (blw n) m = true ∧ (∀ i, i < 32 → bt (blw m) i = true → bt (blw n) i = true) ∧ a < sz m ∧ prt (8 * cl n e + j) = nI (cl m a) := by
  rcases H with H | ⟨m, r, D, r0, D0, K, a1, a2, a3, a4, a5, a6⟩
  · have := H.1; omega
  · rcases a6 with ⟨c1, c2, c3, c4, c5⟩ | ⟨m2, r2, D2, c1, c2, c3, c4, c5⟩
    · have h5 := c5 e he
      refine ⟨K, by omega, h5.1, fun z => by rcases c1 with ⟨c, _⟩ | ⟨c, _⟩ <;> omega, fun z => by rcases c1 with ⟨c, _⟩ | ⟨c, _⟩ <;> omega, fun j hj => ?_⟩
      obtain ⟨a, b1, b2, b3⟩ := h5.2 j hj
      have hm := h32 m a1.2.1
      refine ⟨m, a, Or.inl a1.1, a1.2.1, a1.2.2.1, ?_, ?_, b1, b3⟩
      · rw [c4 m hm, decide_eq_true rfl, Bool.or_true]
      · intro i hi hb; rw [c4 i hi, hb, Bool.true_or]
    · have h5 := c5 e he
      refine ⟨2 * K, by omega, h5.1, fun z => by rcases c1 with ⟨c, _⟩ | ⟨c, cc⟩ <;> omega, fun z => by omega, fun j hj => ?_⟩
      have hm := h32 m a1.2.1
      have hm2 := h32 m2 c2.2.1
      have h6 := h5.2 (j / 2) (by omega)
      rcases (by omega : j = 2 * (j / 2) ∨ j = 2 * (j / 2) + 1) with ej | ej
      · obtain ⟨a, b1, b2, b3⟩ := h6.1
        refine ⟨m, a, Or.inl a1.1, a1.2.1, a1.2.2.1, ?_, ?_, b1, by rw [ej]; exact b3⟩
        · rw [c4 m hm, decide_eq_true rfl, Bool.or_true, Bool.true_or]
        · intro i hi hb; rw [c4 i hi, hb, Bool.true_or, Bool.true_or]
      · obtain ⟨a, b1, b2, b3⟩ := h6.2
        refine ⟨m2, a, Or.inr c2.1, c2.2.1, c2.2.2.1, ?_, ?_, b1, by rw [ej]; exact b3⟩
        · rw [c4 m2 hm2, decide_eq_true (p := m2 = m2) rfl, Bool.or_true, Bool.or_true]
        · intro i hi hb; rw [c4 i hi, hb, Bool.true_or, Bool.or_true]
/-- the values with a new node's -/
def tr_nV (own : Nat → Int32) (k : Nat) (prt pct : Nat → Int32) (V : Nat → Int32) : Nat → Int32 := fun c => if own c < 0 then (if k = 1 then 0 else tr_vF k (pct c).toNatClampNeg (tr_q prt c) V) else V c
theorem tr_nV_old {k m e : Nat} (S : tr_Sk N nd ag kd sz xnc xol xnw xtp knd siz oldr newr stt) (C : tr_Ce N nd kd sz cl ycs own ord exs ykd) (hm : kd m ≠ 0) (he : e < sz m) : tr_nV own k prt1 pct1 V (cl m e) = V (cl m e) := by
  unfold tr_nV
  have h1 := (C.2.1 m e hm he).2
  have h3 := (S.2.1 m hm).1
  rw [if_neg (by rw [h1]; exact nI_pos (by omega))]
theorem tr_mk_Va {n k cnt : Nat} {nc : Nat → Nat} {ownT pctT valT ordT shnT : Nat → Int32} (S : tr_Sk N nd ag kd sz xnc xol xnw xtp knd siz oldr newr stt) (C : tr_Ce N nd kd sz cl ycs own ord exs ykd) (Ns : tr_Ns ag kd sz cl nod ofs rnk dmx stx blw fst snd prt pct) (Va : tr_Va ag nd kd sz cl V xfr arn val prt pct) (hn : n < 32) (hk0 : kd n = 0) (hk : 1 ≤ k)
    (Tn : ty_Tn nc n (tz_ps sz nd N) cnt own pct val ord shn ownT pctT valT ordT shnT)
    (hpo : ∀ m e, kd m ≠ 0 → e < sz m → pct1 (cl m e) = pct (cl m e) ∧ ∀ j, j < 8 → prt1 (8 * cl m e + j) = prt (8 * cl m e + j))
    (hNo : 2 ≤ k → tr_No (tz_un ag n N) (tz_un kd n k) (tz_un sz n cnt) (tz_uc cl n nc) nod1 ofs1 rnk1 dmx1 stx1 blw1 fst1 snd1 prt1 pct1 n)
    (hf : ∀ m, m < 32 → m ≠ n → bt xfr1 m = bt xfr m) (hfn : bt xfr1 n = decide (k = 1)) (ha : ∀ p, p < tz_ps sz nd N → arn1 p = arn p) (ha2 : k = 1 → ∀ e, e < cnt → arn1 (tz_ps sz nd N + e) = 0) :
    tr_Va (tz_un ag n N) (tz_un nd N n) (tz_un kd n k) (tz_un sz n cnt) (tz_uc cl n nc) (tr_nV own k prt1 pct1 V) xfr1 arn1 valT prt1 pct1 := by
  have pI := fun i (hi : i ≤ N) => tr_mk_ps (k := k) (cnt := cnt) S hk0 hi
  have old := fun m e hm he => tr_mk_old (m := m) (e := e) S C Tn hm he
  have ov := fun m e hm he => tr_nV_old (k := k) (m := m) (e := e) (prt1 := prt1) (pct1 := pct1) (V := V) S C hm he
  have nv : ∀ e, e < cnt → tr_nV own k prt1 pct1 V (nc e) = if k = 1 then 0 else tr_vF k (pct1 (nc e)).toNatClampNeg (tr_q prt1 (nc e)) V := fun e he => if_pos (Tn.1 e he).2.1
  obtain ⟨v1, v2, v3, v4⟩ := Va
  refine ⟨?_, ?_, ?_, ?_⟩
  · intro m e hm he
    by_cases q : m = n
    · subst q
      rw [tz_un_s] at hm he
      rw [tz_uc_s, nv e he, if_pos hm, (Tn.1 e he).2.2.2.2.1]
    · rw [tz_un_n q] at hm he
      rw [tz_uc_n q, ov m e (by omega) he, (old m e (by omega) he).2.2]
      exact v1 m e hm he
  · intro m hm
    by_cases q : m = n
    · subst q
      rw [tz_un_s] at hm
      rw [hfn, decide_eq_true hm]
    · rw [tz_un_n q] at hm
      rw [hf m (S.2.1 m (by omega)).1 q]
      exact v2 m hm
  · intro m e hm he hb
    by_cases q : m = n
    · subst q
      rw [hfn] at hb
      have k1 : k = 1 := of_decide_eq_true hb
      rw [tz_un_s] at he
      rw [tz_un_s, pI N (Nat.le_refl _), tz_uc_s, nv e he, if_pos k1]
      exact ha2 k1 e he
    · rw [tz_un_n q] at hm he
      have s := S.2.1 m hm
      rw [hf m s.1 q] at hb
      have lt := tz_psl (sz := sz) (nd := nd) (i := ag m) (j := N) s.2.1
      rw [s.2.2] at lt
      rw [tz_un_n q, pI _ (by omega), tz_uc_n q, ov m e hm he, ha _ (by omega)]
      exact v3 m e hm he hb
  · intro m e hm he
    by_cases q : m = n
    · subst q
      have hNo2 := hNo (by rw [tz_un_s] at hm; exact hm)
      have h32 : ∀ m', tz_un kd m k m' ≠ 0 → m' < 32 := fun m' hm' => by
        by_cases z : m' = m
        · omega
        · rw [tz_un_n z] at hm'; exact (S.2.1 m' hm').1
      obtain ⟨c, d1, d2, d3, d4, d5⟩ := hNo2.parts h32 hm he
      rw [tz_un_s] at hm he d3
      rw [tz_uc_s] at d2 d5 ⊢
      rw [nv e he, if_neg (by omega), tz_un_s, d2, nI_clamp (by omega)]
      refine tr_vFc (fun z => by have := d3 z; omega) (fun j hj => ?_)
      obtain ⟨m', a, e1, e2, e3, e4, e5, e6, e7⟩ := d5 j hj
      have mn : m' ≠ m := fun z => by rw [z] at e3; omega
      rw [tz_un_n mn] at e2 e6
      rw [tz_uc_n mn] at e7
      show V (prt1 (8 * nc e + j)).toNatClampNeg = tr_nV own k prt1 pct1 V (prt1 (8 * nc e + j)).toNatClampNeg
      rw [e7, nI_clamp (by have := (C.2.1 m' a e2 e6).1; omega)]
      exact (ov m' a e2 e6).symm
    · rw [tz_un_n q] at hm he
      have hm0 : kd m ≠ 0 := by omega
      obtain ⟨c, d1, d2, d3, d4, d5⟩ := (Ns m hm0).parts (fun m' hm' => (S.2.1 m' hm').1) hm he
      have hp := hpo m e hm0 he
      rw [tz_uc_n q, ov m e hm0 he, tz_un_n q, hp.1, v4 m e hm he, d2, nI_clamp (by omega)]
      refine tr_vFc (fun z => by have := d3 z; omega) (fun j hj => ?_)
      obtain ⟨m', a, e1, e2, e3, e4, e5, e6, e7⟩ := d5 j hj
      show V (prt (8 * cl m e + j)).toNatClampNeg = tr_nV own k prt1 pct1 V (prt1 (8 * cl m e + j)).toNatClampNeg
      rw [hp.2 j (by omega), e7, nI_clamp (by have := (C.2.1 m' a e2 e6).1; omega)]
      exact (ov m' a e2 e6).symm
/-- nothing refers to a free node -/
theorem tr_rc_dead {n : Nat} (S : tr_Sk N nd ag kd sz xnc xol xnw xtp knd siz oldr newr stt) (H : tr_Hs kd sz cl nod ofs rnk dmx stx its usd yrk yds shn tof vw) (Ns : tr_Ns ag kd sz cl nod ofs rnk dmx stx blw fst snd prt pct) (hn : n < 32) (hk0 : kd n = 0) : tr_rc kd nod n = 0 := by
  unfold tr_rc
  refine tz_cnz 120 (fun d hd => ?_)
  by_cases ne : nod d = nI n
  · rw [decide_eq_true ne, Bool.and_true]
    unfold tr_ac
    by_cases h24 : d < 24
    · rcases H d h24 with ⟨q, _⟩ | ⟨m, r, D, q⟩
      · rw [q] at ne; exact absurd ne.symm (tz_nIm1 (by omega))
      · have e := q.1.1
        rw [ne] at e
        have := (S.2.1 m q.1.2).1
        have e2 := (nI_eq (by omega) (by omega)).mp e
        exact absurd (by rw [← e2]; exact hk0) q.1.2
    · rw [decide_eq_false h24, Bool.false_or]
      by_cases h3 : d % 3 ≠ 0
      · rw [decide_eq_true h3, Bool.true_and]
        refine decide_eq_false (fun h2 => ?_)
        have hm0 : kd ((d - 24) / 3) ≠ 0 := by omega
        rcases Ns _ hm0 with q | ⟨m, r, D, r0, D0, K, a1, a2, a3, a4, a5, a6⟩
        · have := q.1; omega
        · have fin : ∀ m', kd m' ≠ 0 → nod d = nI m' → False := fun m' hm' z => by
            rw [ne] at z
            have := (S.2.1 m' hm').1
            have e2 := (nI_eq (by omega) (by omega)).mp z
            exact hm' (by rw [← e2]; exact hk0)
          rcases (by omega : d = 24 + 3 * ((d - 24) / 3) + 1 ∨ d = 24 + 3 * ((d - 24) / 3) + 2) with ed | ed
          · have e1 := a1.1
            rw [← ed] at e1
            exact fin m a1.2.1 e1
          · rcases a6 with ⟨c1, c2, _⟩ | ⟨m2, r2, D2, c1, c2, _⟩
            · rw [← ed, ne] at c2
              exact tz_nIm1 (by omega) c2
            · have e1 := c2.1
              rw [← ed] at e1
              exact fin m2 c2.2.1 e1
      · rw [decide_eq_false h3, Bool.false_and]
  · rw [decide_eq_false ne, Bool.and_false]
theorem tr_mk_rc {n k v m : Nat} (hn : n < 32) (hk0 : kd n = 0) (hv : v < 24) (hvf : nod v = -1) (hm : m < 32) (hP : ∀ d, d < 120 → d ≠ v → (d < 24 + 3 * n ∨ 24 + 3 * n + 3 ≤ d) → nod1 d = nod d) :
    tr_rc (tz_un kd n k) nod1 m = tr_rc kd nod m + (if nod1 v = nI m then 1 else 0) + (if 2 ≤ k ∧ nod1 (24 + 3 * n + 1) = nI m then 1 else 0) + (if 2 ≤ k ∧ nod1 (24 + 3 * n + 2) = nI m then 1 else 0) := by
  have a0 : ∀ d, d < 120 → d ≠ 24 + 3 * n + 1 → d ≠ 24 + 3 * n + 2 → tr_ac (tz_un kd n k) d = tr_ac kd d := by
    intro d hd h1 h2
    unfold tr_ac
    by_cases h24 : d < 24
    · rw [decide_eq_true h24, Bool.true_or, Bool.true_or]
    · by_cases h3 : d % 3 ≠ 0
      · rw [tz_un_n (by omega)]
      · rw [decide_eq_false h3, Bool.false_and, Bool.false_and]
  have ak : ∀ o, 1 ≤ o → o < 3 → tr_ac (tz_un kd n k) (24 + 3 * n + o) = decide (2 ≤ k) ∧ tr_ac kd (24 + 3 * n + o) = false := by
    intro o h1 h2
    unfold tr_ac
    rw [decide_eq_false (by omega), Bool.false_or, decide_eq_true (by omega), Bool.true_and, show (24 + 3 * n + o - 24) / 3 = n from by omega, tz_un_s, hk0]
    exact ⟨rfl, rfl⟩
  have az : tr_ac (tz_un kd n k) (24 + 3 * n) = false ∧ tr_ac kd (24 + 3 * n) = false := by
    unfold tr_ac
    rw [decide_eq_false (by omega), Bool.false_or, decide_eq_false (by omega), Bool.false_and]
    exact ⟨rfl, rfl⟩
  let p : Nat → Bool := fun d => tr_ac kd d && decide (nod d = nI m)
  let q : Nat → Bool := fun d => tr_ac (tz_un kd n k) d && decide (nod1 d = nI m)
  let f1 : Nat → Bool := fun d => if d = v then q d else p d
  let f2 : Nat → Bool := fun d => if d = 24 + 3 * n + 1 then q d else f1 d
  have pv : p v = false := by
    show (tr_ac kd v && decide (nod v = nI m)) = false
    rw [decide_eq_false (fun z => tz_nIm1 (n := m) (by omega) (z.symm.trans hvf)), Bool.and_false]
  have p1 : p (24 + 3 * n + 1) = false := by
    show (tr_ac kd _ && _) = false
    rw [(ak 1 (by omega) (by omega)).2, Bool.false_and]
  have p2 : p (24 + 3 * n + 2) = false := by
    show (tr_ac kd _ && _) = false
    rw [(ak 2 (by omega) (by omega)).2, Bool.false_and]
  have c1 : tz_cn f1 120 = tz_cn p 120 + (if q v = true then 1 else 0) := by
    have := tz_cn_one (p := p) (q := f1) (a := v) 120 (by omega) (fun i _ hi => if_neg hi) pv
    rw [show f1 v = q v from if_pos rfl] at this
    exact this
  have c2 : tz_cn f2 120 = tz_cn f1 120 + (if q (24 + 3 * n + 1) = true then 1 else 0) := by
    have := tz_cn_one (p := f1) (q := f2) (a := 24 + 3 * n + 1) 120 (by omega) (fun i _ hi => if_neg hi) (by rw [show f1 (24 + 3 * n + 1) = p (24 + 3 * n + 1) from if_neg (by omega)]; exact p1)
    rw [show f2 (24 + 3 * n + 1) = q (24 + 3 * n + 1) from if_pos rfl] at this
    exact this
  have c3 : tz_cn q 120 = tz_cn f2 120 + (if q (24 + 3 * n + 2) = true then 1 else 0) := by
    refine tz_cn_one (p := f2) (q := q) (a := 24 + 3 * n + 2) 120 (by omega) (fun i hi hi2 => ?_) ?_
    · by_cases e1 : i = 24 + 3 * n + 1
      · rw [show f2 i = q i from if_pos e1]
      · rw [show f2 i = f1 i from if_neg e1]
        by_cases e2 : i = v
        · rw [show f1 i = q i from if_pos e2]
        · rw [show f1 i = p i from if_neg e2]
          show (tr_ac (tz_un kd n k) i && decide (nod1 i = nI m)) = (tr_ac kd i && decide (nod i = nI m))
          rw [a0 i hi e1 hi2]
          by_cases e3 : i = 24 + 3 * n
          · rw [e3, az.2, Bool.false_and, Bool.false_and]
          · rw [hP i hi e2 (by omega)]
    · rw [show f2 (24 + 3 * n + 2) = f1 (24 + 3 * n + 2) from if_neg (by omega), show f1 (24 + 3 * n + 2) = p (24 + 3 * n + 2) from if_neg (by omega)]
      exact p2
  have qv : q v = true ↔ nod1 v = nI m := by
    show (tr_ac (tz_un kd n k) v && decide (nod1 v = nI m)) = true ↔ _
    rw [tr_ac_h hv, Bool.true_and, decide_eq_true_iff]
  have q1 : ∀ o, 1 ≤ o → o < 3 → (q (24 + 3 * n + o) = true ↔ (2 ≤ k ∧ nod1 (24 + 3 * n + o) = nI m)) := by
    intro o h1 h2
    show (tr_ac (tz_un kd n k) (24 + 3 * n + o) && decide (nod1 (24 + 3 * n + o) = nI m)) = true ↔ _
    rw [(ak o h1 h2).1, Bool.and_eq_true, decide_eq_true_iff, decide_eq_true_iff]
  show tz_cn q 120 = tz_cn p 120 + _ + _ + _
  rw [c3, c2, c1]
  simp only [qv, q1 1 (by omega) (by omega), q1 2 (by omega) (by omega)]
end NV
end
section
section MK
variable {xnc1 xfr1 xol1 xnw1 xtp1 xsc1 : Int32} {nod1 ofs1 rnk1 dmx1 stx1 its1 knd1 rfs1 siz1 oldr1 newr1 stt1 blw1 arn1 slo1 mvd1 sls1 : Nat → Int32}
variable {ycs1 ysc1 : Int32} {usd1 yrk1 yds1 shn1 tof1 vw1 exs1 ykd1 fst1 snd1 own1 prt1 pct1 val1 ysl1 ord1 ysls1 : Nat → Int32}
variable {xnc xfr xol xnw xtp xsc : Int32} {nod ofs rnk dmx stx its knd rfs siz oldr newr stt blw arn slo mvd sls : Nat → Int32}
variable {ycs ysc : Int32} {usd yrk yds shn tof vw exs ykd fst snd own prt pct val ysl ord ysls : Nat → Int32}
variable {N : Nat} {nd ag kd sz : Nat → Nat} {cl : Nat → Nat → Nat} {V : Nat → Int32}
theorem tr_mk {n k cnt v r : Nat} {D : Nat → Nat} {nc : Nat → Nat} {pctT shnT : Nat → Int32} {p1 p2 : Int32} (S : tr_Sk N nd ag kd sz xnc xol xnw xtp knd siz oldr newr stt) (C : tr_Ce N nd kd sz cl ycs own ord exs ykd) (H : tr_Hs kd sz cl nod ofs rnk dmx stx its usd yrk yds shn tof vw) (Ns : tr_Ns ag kd sz cl nod ofs rnk dmx stx blw fst snd prt pct) (R : tr_Rf kd nod rfs) (Va : tr_Va ag nd kd sz cl V xfr arn val prt pct) (L : tr_Sl xsc ysc sls ysls)
    (hn : n < 32) (hk0 : kd n = 0) (hN : N < 32) (hk : 1 ≤ k) (hk7 : k ≤ 7) (hc : cnt = tz_el D r) (hT : tz_ps sz nd N + cnt ≤ 320) (hv : v < 24) (hvf : nod v = -1 ∧ usd v = 0)
    (hw : (xnw = -1 ∧ newr1 = upd newr n (-1) ∧ xol1 = nI n) ∨ (∃ w, w < 32 ∧ xnw = nI w ∧ newr1 = upd (upd newr n (-1)) w (nI n) ∧ xol1 = xol))
    (fx : tr_fx (fun d => d ≠ v ∧ (d < 24 + 3 * n ∨ 24 + 3 * n + 3 ≤ d)) ofs rnk dmx stx ofs1 rnk1 dmx1 stx1) (fy : tr_fy v yrk yds shn yrk1 yds1 shn1)
    (hP : ∀ d, d < 120 → d ≠ v → (d < 24 + 3 * n ∨ 24 + 3 * n + 3 ≤ d) → nod1 d = nod d) (nv : nod1 v = nI n) (hi : ∀ j, j < 24 → j ≠ v → its1 j = its j) (hiv : its1 v = if k = 1 then 1 else 0)
    (hr : ∀ m, kd m ≠ 0 → rfs1 m = nI (tr_rc kd nod m + (if 2 ≤ k ∧ nod1 (24 + 3 * n + 1) = nI m then 1 else 0) + (if 2 ≤ k ∧ nod1 (24 + 3 * n + 2) = nI m then 1 else 0))) (hrn : rfs1 n = 1) (hop : 2 ≤ k → nod1 (24 + 3 * n + 1) ≠ nI n ∧ nod1 (24 + 3 * n + 2) ≠ nI n)
    (hb : ∀ m, m ≠ n → blw1 m = blw m) (dx : tx_Dx rnk1 dmx1 v r D) (sx : tx_Sx ofs1 stx1 v r) (rx : ∀ e, e < cnt → tx_Rd ofs1 stx1 v r D e e)
    (hf : ∀ m, m < 32 → m ≠ n → bt xfr1 m = bt xfr m) (hfn : bt xfr1 n = decide (k = 1)) (ha : ∀ p, p < tz_ps sz nd N → arn1 p = arn p) (ha2 : k = 1 → ∀ e, e < cnt → arn1 (tz_ps sz nd N + e) = 0)
    (Tn : ty_Tn nc n (tz_ps sz nd N) cnt own pct val ord shn own1 pctT val1 ord1 shnT)
    (hpo : ∀ c, (∀ i, i < cnt → c ≠ nc i) → pct1 c = pctT c ∧ ∀ j, j < 8 → prt1 (8 * c + j) = prt (8 * c + j))
    (dy : tx_Dx yrk1 yds1 v r D) (ry : ∀ e, e < cnt → shn1 (64 * v + e) = nI (nc e))
    (hNo : tr_No (tz_un ag n N) (tz_un kd n k) (tz_un sz n cnt) (tz_uc cl n nc) nod1 ofs1 rnk1 dmx1 stx1 blw1 (upd fst n p1) (upd snd n p2) prt1 pct1 n) :
    tr_R (nI (N + 1)) xfr1 xol1 (nI n) (nI (tz_ps sz nd N + cnt)) xsc nod1 ofs1 rnk1 dmx1 stx1 its1 (upd knd n (nI k)) rfs1 (upd siz n (nI cnt)) (upd oldr n xnw) newr1 (upd stt n (nI (tz_ps sz nd N))) blw1 arn1 slo mvd sls (nI (tz_ps sz nd N + cnt)) ysc (upd usd v 1) yrk1 yds1 shn1 (upd tof v (nI n)) (upd vw v 0) (upd exs n 1) (upd ykd n (nI (k - 1))) (upd fst n p1) (upd snd n p2) own1 prt1 pct1 val1 ysl ord1 ysls := by
  have el := dx.el
  have lt32 := fun m hm => (S.2.1 m hm).1
  have nn : ∀ m, kd m ≠ 0 → m ≠ n := fun m hm z => hm (by rw [z]; exact hk0)
  have hpo2 : ∀ m e, kd m ≠ 0 → e < sz m → pct1 (cl m e) = pct (cl m e) ∧ ∀ j, j < 8 → prt1 (8 * cl m e + j) = prt (8 * cl m e + j) := by
    intro m e hm he
    have h1 := hpo (cl m e) (fun i hi => tr_mk_ne S C Tn hm he hi)
    exact ⟨h1.1.trans (tr_mk_old S C Tn hm he).2.1, h1.2⟩
  refine ⟨N + 1, tz_un nd N n, tz_un ag n N, tz_un kd n k, tz_un sz n cnt, tz_uc cl n nc, tr_nV own k prt1 pct1 V, ?_, ?_, ?_, ?_, ?_, ?_, L⟩
  · exact tr_mk_Sk S hn hk0 hN hk hk7 (by omega) (by omega) hT hw
  · exact tr_mk_Ce S C hn hk0 hk Tn
  · intro j hj
    by_cases e : j = v
    · subst e
      refine Or.inr ⟨n, r, D, ⟨nv, by rw [tz_un_s]; omega⟩, dx, sx, ⟨pk_us, pk_us, dy⟩, ?_, ?_⟩
      · intro e he
        rw [← hc] at he
        exact ⟨e, by rw [tz_un_s]; exact he, rx e he, by rw [tz_uc_s]; exact ry e he⟩
      · rw [hiv, pk_us, tz_un_s, tz_un_s]
        by_cases k1 : k = 1
        · rw [if_pos k1]
          exact Or.inl ⟨rfl, rfl, k1, hc.symm, rx⟩
        · rw [if_neg k1]
          exact Or.inr ⟨rfl, Or.inr ⟨rfl, k1⟩⟩
    · rcases H j hj with ⟨q1, q2⟩ | ⟨n', r', D', q⟩
      · exact Or.inl ⟨by rw [hP j (by omega) e (by omega)]; exact q1, by rw [pk_un e]; exact q2⟩
      · have d := nn n' q.1.2
        exact Or.inr ⟨n', r', D', q.tr hj e ⟨e, by omega⟩ fx fy (hP j (by omega) e (by omega)) (hi j hj e) (pk_un e) (pk_un e) (pk_un e) (tz_un_n d) (tz_un_n d) (fun _ _ => tz_uc_n d)⟩
  · intro m hm
    by_cases e : m = n
    · subst e; exact hNo
    · rw [tz_un_n e] at hm
      have m32 := lt32 m hm
      refine (Ns m hm).tr m32 (fun o ho => ⟨by omega, by omega⟩) fx (fun o ho => hP _ (by omega) (by omega) (by omega)) (tz_un_n e) (tz_un_n e) (fun _ _ => tz_uc_n e) ?_ (hb m e) (pk_un e) (pk_un e) (fun e he => hpo2 m e hm he)
      intro m' _ _ hm' hag
      have d := nn m' hm'
      refine ⟨by rw [tz_un_n d]; exact hm', by rw [tz_un_n d, tz_un_n e]; exact hag, tz_un_n d, fun _ _ => tz_uc_n d, hb m' d⟩
  · intro m hm
    by_cases e : m = n
    · subst e
      have z := tr_rc_dead S H Ns hn hk0
      have rc := tr_mk_rc (nod := nod) (nod1 := nod1) (k := k) (m := m) hn hk0 hv hvf.1 hn hP
      rw [z, if_pos nv] at rc
      have q1 : ¬ (2 ≤ k ∧ nod1 (24 + 3 * m + 1) = nI m) := fun w => (hop w.1).1 w.2
      have q2 : ¬ (2 ≤ k ∧ nod1 (24 + 3 * m + 2) = nI m) := fun w => (hop w.1).2 w.2
      rw [if_neg q1, if_neg q2] at rc
      rw [rc, hrn]
      exact ⟨rfl, by omega⟩
    · rw [tz_un_n e] at hm
      have m32 := lt32 m hm
      have rc := tr_mk_rc (nod := nod) (nod1 := nod1) (k := k) (m := m) hn hk0 hv hvf.1 m32 hP
      rw [if_neg (by rw [nv]; exact fun z => e ((nI_eq (by omega) (by omega)).mp z).symm), Nat.add_zero] at rc
      rw [rc, hr m hm]
      exact ⟨rfl, by have := (R m hm).2; omega⟩
  · exact tr_mk_Va S C Ns Va hn hk0 hk Tn hpo2 (fun _ => hNo) hf hfn ha ha2
end MK
end
section
/-! leaf -/
theorem tz_rowlin {D x : Nat → Nat} {r : Nat} (hr : r ≤ 3) : tz_lin x (fun i => nI (tz_pr D (i + 1) (r - 1 - i))) r 0 = nI (tz_fl D x r) := by
  rcases (by omega : r = 0 ∨ r = 1 ∨ r = 2 ∨ r = 3) with rfl | rfl | rfl | rfl
  · rfl
  · simp [tz_lin, tz_fl, tz_pr, pk_mul]
  · simp [tz_lin, tz_fl, tz_pr, pk_mul, nI_add]
    exact congrArg nI (by omega)
  · simp [tz_lin, tz_fl, tz_pr, pk_mul, nI_add]
    exact congrArg nI (by grind)
theorem tx_row_rd {ofs stx : Nat → Int32} {v r e : Nat} {D : Nat → Nat} (hr : r ≤ 3) (hD : ∀ i, i < r → 0 < D i) (ho : ofs v = 0) (hs : tx_Row stx D v r 0) (he : e < tz_el D r) : tx_Rd ofs stx v r D e e := by
  unfold tx_Rd
  rw [ho, tz_adlc (E := D) (t := fun i => nI (tz_pr D (i + 1) (r - 1 - i))) r _ _ (fun _ _ => rfl) (fun i hi => hs i (by omega) hi), tz_adldg, tz_rowlin hr, tz_fldg r e hD he]
theorem tx_row_sx {ofs stx : Nat → Int32} {v r : Nat} {D : Nat → Nat} (hr : r ≤ 3) (hD : ∀ i, i < r → 1 ≤ D i ∧ D i ≤ 4) (ho : ofs v = 0) (hs : tx_Row stx D v r 0) : tx_Sx ofs stx v r := by
  refine ⟨by rw [ho]; decide, fun i hi => ?_⟩
  rw [hs i (by omega) hi]
  have q := (tz_prb (D := D) (i := i + 1) (r - 1 - i) (fun a _ ha => hD a (by omega))).2
  have q3 : (4 : Nat) ^ (r - 1 - i) ≤ 4 ^ 3 := Nat.pow_le_pow_right (by decide) (by omega)
  exact tz_b8 _ (by omega)
theorem tx_row_cp {stx stx' : Nat → Int32} {v t r : Nat} {D : Nat → Nat} (hr : r ≤ 3) (hvt : v ≠ t) (hs : tx_Row stx D v r 0) (h : ∀ i, i < 3 → stx' (3 * v + i) = stx (3 * v + i)) : tx_Row stx' D v r 0 := fun i h1 h2 => by rw [h i (by omega)]; exact hs i h1 h2
def tz_lok (r : Nat) (a b c : Int32) : Prop := (0 < r → ¬ a < 1 ∧ ¬ 4 < a) ∧ (1 < r → ¬ b < 1 ∧ ¬ 4 < b) ∧ (2 < r → ¬ c < 1 ∧ ¬ 4 < c)
def tz_lD (a b c : Int32) : Nat → Nat := fun i => if i = 0 then a.toNatClampNeg else if i = 1 then b.toNatClampNeg else c.toNatClampNeg
theorem tz_l14 {x : Int32} (h1 : ¬ x < 1) (h4 : ¬ 4 < x) : x = nI x.toNatClampNeg ∧ 1 ≤ x.toNatClampNeg ∧ x.toNatClampNeg ≤ 4 := by
  have h0 : ¬ x < 0 := fun z => h1 (Int32.lt_trans z (by decide))
  obtain ⟨j, hj, rfl⟩ := nI_of h0
  rw [nI_clamp hj]
  rw [show (1 : Int32) = nI 1 from rfl, nI_ltI hj (by omega)] at h1
  rw [show (4 : Int32) = nI 4 from rfl, nI_ltI (by omega) hj] at h4
  exact ⟨rfl, by omega, by omega⟩
theorem tz_lDok {r : Nat} {a b c : Int32} (hr : r ≤ 3) (h : tz_lok r a b c) (i : Nat) (hi : i < r) : (if i = 0 then a else if i = 1 then b else c) = nI (tz_lD a b c i) ∧ 1 ≤ tz_lD a b c i ∧ tz_lD a b c i ≤ 4 := by
  rcases (by omega : i = 0 ∨ i = 1 ∨ i = 2) with rfl | rfl | rfl
  · exact tz_l14 (h.1 (by omega)).1 (h.1 (by omega)).2
  · exact tz_l14 (h.2.1 (by omega)).1 (h.2.1 (by omega)).2
  · exact tz_l14 (h.2.2 (by omega)).1 (h.2.2 (by omega)).2
section LF
variable {xnc xfr xol xnw xtp xsc : Int32} {nod ofs rnk dmx stx its knd rfs siz oldr newr stt blw arn slo mvd sls : Nat → Int32}
variable {ycs ysc : Int32} {usd yrk yds shn tof vw exs ykd fst snd own prt pct val ysl ord ysls : Nat → Int32}
theorem tx_leafc {post : Int32 → SX → Prop} {r v : Nat} {p1 p2 p3 : Int32} (hr : r ≤ 3) (hv : v < 24) (hu : ∀ j, j < v → ¬ nod j < 0) (hf : nod v < 0) (Hok : tz_lok r p1 p2 p3 → wX_leaf_72 post (nI r) p1 p2 p3 (nI v) xnc xfr xol xnw xtp xsc nod ofs rnk dmx stx its knd rfs siz oldr newr stt blw arn slo mvd sls) (Hbad : ¬ tz_lok r p1 p2 p3 → post (-1) (xnc, xfr, xol, xnw, xtp, xsc, nod, ofs, rnk, dmx, stx, its, knd, rfs, siz, oldr, newr, stt, blw, arn, slo, mvd, sls)) : wpX_leaf post (xnc, xfr, xol, xnw, xtp, xsc, nod, ofs, rnk, dmx, stx, its, knd, rfs, siz, oldr, newr, stt, blw, arn, slo, mvd, sls) (nI r) p1 p2 p3 := by
  unfold wpX_leaf
  refine tx_fh (by omega) hu (fun _ => hf) ?_
  refine br_f (nI_pos (by omega)) (br_f (nI_nlt (a := 3) hr (by decide)) (br_f (fun e => ?_) ?_))
  · have := (nI_eq (a := v) (b := 24) (by omega) (by decide)).mp e
    omega
  rcases (by omega : r = 0 ∨ r = 1 ∨ r = 2 ∨ r = 3) with rfl | rfl | rfl | rfl
  · refine br_t (by decide) ?_
    unfold wX_leaf_38
    refine br_t (by decide) ?_
    unfold wX_leaf_53
    exact br_t (by decide) (Hok ⟨fun z => by omega, fun z => by omega, fun z => by omega⟩)
  · refine br_f (by decide) (br_c (fun b1 => Hbad (fun o => (o.1 (by omega)).1 b1)) (fun b1 => br_c (fun b2 => Hbad (fun o => (o.1 (by omega)).2 b2)) (fun b2 => ?_)))
    unfold wX_leaf_38
    refine br_t (by decide) ?_
    unfold wX_leaf_53
    exact br_t (by decide) (Hok ⟨fun _ => ⟨b1, b2⟩, fun z => by omega, fun z => by omega⟩)
  · refine br_f (by decide) (br_c (fun b1 => Hbad (fun o => (o.1 (by omega)).1 b1)) (fun b1 => br_c (fun b2 => Hbad (fun o => (o.1 (by omega)).2 b2)) (fun b2 => ?_)))
    unfold wX_leaf_38
    refine br_f (by decide) (br_c (fun b3 => Hbad (fun o => (o.2.1 (by omega)).1 b3)) (fun b3 => br_c (fun b4 => Hbad (fun o => (o.2.1 (by omega)).2 b4)) (fun b4 => ?_)))
    unfold wX_leaf_53
    exact br_t (by decide) (Hok ⟨fun _ => ⟨b1, b2⟩, fun _ => ⟨b3, b4⟩, fun z => by omega⟩)
  · refine br_f (by decide) (br_c (fun b1 => Hbad (fun o => (o.1 (by omega)).1 b1)) (fun b1 => br_c (fun b2 => Hbad (fun o => (o.1 (by omega)).2 b2)) (fun b2 => ?_)))
    unfold wX_leaf_38
    refine br_f (by decide) (br_c (fun b3 => Hbad (fun o => (o.2.1 (by omega)).1 b3)) (fun b3 => br_c (fun b4 => Hbad (fun o => (o.2.1 (by omega)).2 b4)) (fun b4 => ?_)))
    unfold wX_leaf_53
    exact br_f (by decide) (br_c (fun b5 => Hbad (fun o => (o.2.2 (by omega)).1 b5)) (fun b5 => br_c (fun b6 => Hok ⟨fun _ => ⟨b1, b2⟩, fun _ => ⟨b3, b4⟩, fun _ => ⟨b5, Int32.not_lt.mpr b6⟩⟩) (fun b6 => Hbad (fun o => b6 (Int32.not_lt.mp (o.2.2 (by omega)).2)))))
theorem tx_leaf24 {post : Int32 → SX → Prop} {r : Nat} {p1 p2 p3 : Int32} (hr : r ≤ 3) (hu : ∀ j, j < 24 → ¬ nod j < 0) (H : post (-1) (xnc, xfr, xol, xnw, xtp, xsc, nod, ofs, rnk, dmx, stx, its, knd, rfs, siz, oldr, newr, stt, blw, arn, slo, mvd, sls)) : wpX_leaf post (xnc, xfr, xol, xnw, xtp, xsc, nod, ofs, rnk, dmx, stx, its, knd, rfs, siz, oldr, newr, stt, blw, arn, slo, mvd, sls) (nI r) p1 p2 p3 := by
  unfold wpX_leaf
  refine tx_fh (v := 24) (by omega) hu (fun z => by omega) ?_
  exact br_f (nI_pos (by omega)) (br_f (nI_nlt (a := 3) hr (by decide)) (br_t rfl H))
theorem ty_leafc {post : Int32 → SY → Prop} {r : Nat} {p1 p2 p3 : Int32} (hr : r ≤ 3) (Hok : tz_lok r p1 p2 p3 → ∀ z0 z1 z2 : Int32, (0 < r → z2 = p1) → (1 < r → z1 = p2) → (2 < r → z0 = p3) → wY_leaf_89 post z0 z1 z2 (nI r) ycs ysc usd yrk yds shn tof vw exs ykd fst snd own prt pct val ysl ord ysls) (Hbad : ¬ tz_lok r p1 p2 p3 → post (-1) (ycs, ysc, usd, yrk, yds, shn, tof, vw, exs, ykd, fst, snd, own, prt, pct, val, ysl, ord, ysls)) : wpY_leaf post (ycs, ysc, usd, yrk, yds, shn, tof, vw, exs, ykd, fst, snd, own, prt, pct, val, ysl, ord, ysls) (nI r) p1 p2 p3 := by
  have H57 : tz_lok r p1 p2 p3 → wY_leaf_57 post (nI r) p1 p2 p3 ycs ysc usd yrk yds shn tof vw exs ykd fst snd own prt pct val ysl ord ysls := by
    intro ok
    have K := Hok ok
    unfold wY_leaf_57
    rcases (by omega : r = 0 ∨ r = 1 ∨ r = 2 ∨ r = 3) with rfl | rfl | rfl | rfl
    · refine br_t (by decide) ?_
      unfold wY_leaf_68
      refine br_t (by decide) ?_
      unfold wY_leaf_78
      exact br_t (by decide) (K _ _ _ (fun z => by omega) (fun z => by omega) (fun z => by omega))
    · refine br_f (by decide) ?_
      unfold wY_leaf_68
      refine br_t (by decide) ?_
      unfold wY_leaf_78
      exact br_t (by decide) (K _ _ _ (fun _ => rfl) (fun z => by omega) (fun z => by omega))
    · refine br_f (by decide) ?_
      unfold wY_leaf_68
      refine br_f (by decide) ?_
      unfold wY_leaf_78
      exact br_t (by decide) (K _ _ _ (fun _ => rfl) (fun _ => rfl) (fun z => by omega))
    · refine br_f (by decide) ?_
      unfold wY_leaf_68
      refine br_f (by decide) ?_
      unfold wY_leaf_78
      exact br_f (by decide) (K _ _ _ (fun _ => rfl) (fun _ => rfl) (fun _ => rfl))
  unfold wpY_leaf
  refine br_f (nI_pos (by omega)) (br_f (nI_nlt (a := 3) hr (by decide)) ?_)
  rcases (by omega : r = 0 ∨ r = 1 ∨ r = 2 ∨ r = 3) with rfl | rfl | rfl | rfl
  · refine br_t (by decide) ?_
    unfold wY_leaf_23
    refine br_t (by decide) ?_
    unfold wY_leaf_38
    exact br_t (by decide) (H57 ⟨fun z => by omega, fun z => by omega, fun z => by omega⟩)
  · refine br_f (by decide) (br_c (fun b1 => Hbad (fun o => (o.1 (by omega)).1 b1)) (fun b1 => br_c (fun b2 => Hbad (fun o => (o.1 (by omega)).2 b2)) (fun b2 => ?_)))
    unfold wY_leaf_23
    refine br_t (by decide) ?_
    unfold wY_leaf_38
    exact br_t (by decide) (H57 ⟨fun _ => ⟨b1, b2⟩, fun z => by omega, fun z => by omega⟩)
  · refine br_f (by decide) (br_c (fun b1 => Hbad (fun o => (o.1 (by omega)).1 b1)) (fun b1 => br_c (fun b2 => Hbad (fun o => (o.1 (by omega)).2 b2)) (fun b2 => ?_)))
    unfold wY_leaf_23
    refine br_f (by decide) (br_c (fun b3 => Hbad (fun o => (o.2.1 (by omega)).1 b3)) (fun b3 => br_c (fun b4 => Hbad (fun o => (o.2.1 (by omega)).2 b4)) (fun b4 => ?_)))
    unfold wY_leaf_38
    exact br_t (by decide) (H57 ⟨fun _ => ⟨b1, b2⟩, fun _ => ⟨b3, b4⟩, fun z => by omega⟩)
  · refine br_f (by decide) (br_c (fun b1 => Hbad (fun o => (o.1 (by omega)).1 b1)) (fun b1 => br_c (fun b2 => Hbad (fun o => (o.1 (by omega)).2 b2)) (fun b2 => ?_)))
    unfold wY_leaf_23
    refine br_f (by decide) (br_c (fun b3 => Hbad (fun o => (o.2.1 (by omega)).1 b3)) (fun b3 => br_c (fun b4 => Hbad (fun o => (o.2.1 (by omega)).2 b4)) (fun b4 => ?_)))
    unfold wY_leaf_38
    exact br_f (by decide) (br_c (fun b5 => Hbad (fun o => (o.2.2 (by omega)).1 b5)) (fun b5 => br_c (fun b6 => H57 ⟨fun _ => ⟨b1, b2⟩, fun _ => ⟨b3, b4⟩, fun _ => ⟨b5, Int32.not_lt.mpr b6⟩⟩) (fun b6 => Hbad (fun o => b6 (Int32.not_lt.mp (o.2.2 (by omega)).2)))))
theorem tx_lf138 {post : Int32 → SX → Prop} {v n cnt T : Nat} {arn0 : Nat → Int32} (hv : v < 24) (hn : n < 32) (hc : cnt ≤ 64) (hs : siz n = nI cnt) (ht : stt n = nI T) (hT : T + cnt ≤ 320)
    (H : ∀ arn1, (∀ e, e < cnt → arn1 (T + e) = 0) → (∀ p, (p < T ∨ T + cnt ≤ p) → arn1 p = arn0 p) → post (nI v) (xnc, xfr ||| ((1 : Int32) <<< (nI n &&& 31)), xol, xnw, xtp, xsc, nod, ofs, rnk, dmx, stx, upd its v 1, knd, rfs, siz, oldr, newr, stt, blw, arn1, slo, mvd, sls)) : ∀ m i arn, i ≤ cnt → cnt - i < m → (∀ e, e < i → arn (T + e) = 0) → (∀ p, (p < T ∨ T + i ≤ p) → arn p = arn0 p) → wX_leaf_138 post (nI v) (nI n) xnc xfr xol xnw xtp xsc m (nI i) nod ofs rnk dmx stx its knd rfs siz oldr newr stt blw arn slo mvd sls := by
  intro m
  induction m with
  | zero => intro i arn _ h; omega
  | succ m ih =>
    intro i arn h1 h2 h3 h4
    by_cases q : i < cnt
    · have e2 : ¬ cnt ≤ i := by omega
      simp (disch := omega) only [wX_leaf_138, hs, ht, e2, nI_add, forall_eq, nI_leI, nI_ltI, nI_eq, vp_in_nI, nI_clamp, nI_1, true_implies, forall_const, not_true_eq_false, not_false_eq_true, false_implies, and_true, true_and, implies_true, and_self]
      refine ih (i + 1) _ (by omega) (by omega) (fun e he => ?_) (fun p hp => ?_)
      · by_cases z : e = i
        · subst z; rw [pk_us]
        · rw [pk_un (by omega)]; exact h3 e (by omega)
      · rw [pk_un (by omega)]; exact h4 p (by omega)
    · have qe : i = cnt := by omega
      subst qe
      simp (disch := omega) only [wX_leaf_138, hs, Nat.le_refl, tz_bo1, forall_eq, nI_leI, nI_ltI, nI_eq, vp_in_nI, nI_clamp, nI_1, true_implies, forall_const, not_true_eq_false, not_false_eq_true, false_implies, and_true, true_and, implies_true, and_self]
      exact H _ h3 h4
end LF
end
section
/-! a call that failed leaves junk in a free handle of the component and in the reference's new tensor alone -/
theorem tr_fyn {yrk yds shn yrk1 yds1 : Nat → Int32} (h1 : ∀ j, j < 24 → yrk1 j = yrk j) (h2 : ∀ j, j < 72 → yds1 j = yds j) (v : Nat) : tr_fy v yrk yds shn yrk1 yds1 shn := fun j hj _ => ⟨h1 j hj, fun i hi => h2 _ (by omega), fun _ _ => rfl⟩
theorem ty_sn_n {a : Nat → Int32} {x y z : Int32} {j : Nat} (h : j < 72) : ty_sn a x y z j = a j := by
  unfold ty_sn
  rw [pk_un (by omega), pk_un (by omega), pk_un (by omega)]
section JK
variable {xnc1 xfr1 xol1 xnw1 xtp1 xsc1 : Int32} {nod1 ofs1 rnk1 dmx1 stx1 its1 knd1 rfs1 siz1 oldr1 newr1 stt1 blw1 arn1 slo1 mvd1 sls1 : Nat → Int32}
variable {ycs1 ysc1 : Int32} {usd1 yrk1 yds1 shn1 tof1 vw1 exs1 ykd1 fst1 snd1 own1 prt1 pct1 val1 ysl1 ord1 ysls1 : Nat → Int32}
variable {xnc xfr xol xnw xtp xsc : Int32} {nod ofs rnk dmx stx its knd rfs siz oldr newr stt blw arn slo mvd sls : Nat → Int32}
variable {ycs ysc : Int32} {usd yrk yds shn tof vw exs ykd fst snd own prt pct val ysl ord ysls : Nat → Int32}
variable {N : Nat} {nd ag kd sz : Nat → Nat} {cl : Nat → Nat → Nat} {V : Nat → Int32}
theorem tr_junkY (S : tr_Sk N nd ag kd sz xnc xol xnw xtp knd siz oldr newr stt) (C : tr_Ce N nd kd sz cl ycs own ord exs ykd) (H : tr_Hs kd sz cl nod ofs rnk dmx stx its usd yrk yds shn tof vw) (Ns : tr_Ns ag kd sz cl nod ofs rnk dmx stx blw fst snd prt pct) (R : tr_Rf kd nod rfs) (Va : tr_Va ag nd kd sz cl V xfr arn val prt pct) (L : tr_Sl xsc ysc sls ysls) (fy : tr_fy 24 yrk yds shn yrk1 yds1 shn1) : tr_R xnc xfr xol xnw xtp xsc nod ofs rnk dmx stx its knd rfs siz oldr newr stt blw arn slo mvd sls ycs ysc usd yrk1 yds1 shn1 tof vw exs ykd fst snd own prt pct val ysl ord ysls :=
  ⟨N, nd, ag, kd, sz, cl, V, S, C, H.junk (v := 24) (fun z => by omega) (fun _ _ _ => ⟨rfl, rfl, fun _ _ => ⟨rfl, rfl⟩⟩) fy, Ns, R, Va, L⟩
theorem tr_junkX {v : Nat} (S : tr_Sk N nd ag kd sz xnc xol xnw xtp knd siz oldr newr stt) (C : tr_Ce N nd kd sz cl ycs own ord exs ykd) (H : tr_Hs kd sz cl nod ofs rnk dmx stx its usd yrk yds shn tof vw) (Ns : tr_Ns ag kd sz cl nod ofs rnk dmx stx blw fst snd prt pct) (R : tr_Rf kd nod rfs) (Va : tr_Va ag nd kd sz cl V xfr arn val prt pct) (L : tr_Sl xsc ysc sls ysls) (hv : v < 24) (hvf : nod v = -1 ∧ usd v = 0) (fx : tr_fx (fun d => d ≠ v) ofs rnk dmx stx ofs1 rnk1 dmx1 stx1) (fy : tr_fy v yrk yds shn yrk1 yds1 shn1) : tr_R xnc xfr xol xnw xtp xsc nod ofs1 rnk1 dmx1 stx1 its knd rfs siz oldr newr stt blw arn slo mvd sls ycs ysc usd yrk1 yds1 shn1 tof vw exs ykd fst snd own prt pct val ysl ord ysls :=
  ⟨N, nd, ag, kd, sz, cl, V, S, C, H.junk (fun _ => hvf) fx fy, Ns.junk S hv fx, R, Va, L⟩
end JK
theorem tz_frX {xfr : Int32} {n m : Nat} (hn : n < 32) (hm : m < 32) (h : m ≠ n) : bt (xfr &&& (((1 : Int32) <<< (nI n &&& 31)) ^^^ (-1))) m = bt xfr m := by
  rw [tz_clr hn hm, decide_eq_false h]; exact Bool.and_true _
theorem tz_frN {xfr : Int32} {n : Nat} (hn : n < 32) : bt (xfr &&& (((1 : Int32) <<< (nI n &&& 31)) ^^^ (-1))) n = false := by
  rw [tz_clr hn hn, decide_eq_true rfl]; exact Bool.and_false _
end
section
/-! what result leaves in the component's descriptors; references and bits behind it -/
theorem tx_Rd_fr' {ofs stx ofs' stx' : Nat → Int32} {d d' r : Nat} {D : Nat → Nat} {i a : Nat} (h : tx_Rd ofs stx d r D i a) (h1 : ofs' d' = ofs d) (h2 : ∀ i, i < r → stx' (3 * d' + i) = stx (3 * d + i)) : tx_Rd ofs' stx' d' r D i a := by
  unfold tx_Rd at h ⊢
  rw [h1, ← h]
  exact tz_adlc r _ _ (fun _ _ => rfl) h2
theorem tx_cpk {rnk dmx stx ofs dmx1 stx1 : Nat → Int32} {h d r : Nat} {D : Nat → Nat} (hD : tx_Dx rnk dmx h r D) (hS : tx_Sx ofs stx h r) (e1 : ∀ i, i < 3 → dmx1 (3 * h + i) = dmx (3 * h + i)) (e2 : ∀ i, i < 3 → stx1 (3 * h + i) = stx (3 * h + i)) : (∀ i, i < r → tx_cp dmx1 h d (3 * d + i) = nI (D i)) ∧ ∀ i, i < r → tx_cp stx1 h d (3 * d + i) = stx (3 * h + i) := by
  have hr := hD.2.1
  refine ⟨fun i hi => ?_, fun i hi => ?_⟩
  · have := hD.2.2 i hi
    rw [tx_cp_t (by omega), e1 i (by omega), this.1, tz_nb (by omega)]
  · rw [tx_cp_t (by omega), e2 i (by omega), vp_nar_byte, hS.2 i hi]
section RS1
variable {nod ofs rnk dmx stx stx1 : Nat → Int32} {v n r h m rh g m2 rg : Nat} {D Dh Dg : Nat → Nat}
theorem tx_R1f (hv : v < 24) (hn : n < 32) (hh : h < 24) (hhv : h ≠ v) (hD : tx_Dx rnk dmx v r D) (hDh : tx_Dx rnk dmx h rh Dh) (hSh : tx_Sx ofs stx h rh) (q1 : tx_Row stx1 D v r 0) (q2 : ∀ j, (j < 3 * v ∨ 3 * v + 3 ≤ j) → stx1 j = stx j) :
    tr_fx (fun d => d ≠ v ∧ (d < 24 + 3 * n ∨ 24 + 3 * n + 3 ≤ d)) ofs rnk dmx stx (upd (upd (upd ofs v 0) (24 + 3 * n) 0) (24 + 3 * n + 1) (ofs h)) (upd (upd rnk (24 + 3 * n) (nI r)) (24 + 3 * n + 1) (nI rh)) (tx_cp (tx_cp dmx v (24 + 3 * n)) h (24 + 3 * n + 1)) (tx_cp (tx_cp stx1 v (24 + 3 * n)) h (24 + 3 * n + 1)) ∧
    tx_Dx (upd (upd rnk (24 + 3 * n) (nI r)) (24 + 3 * n + 1) (nI rh)) (tx_cp (tx_cp dmx v (24 + 3 * n)) h (24 + 3 * n + 1)) v r D ∧ upd (upd (upd ofs v 0) (24 + 3 * n) 0) (24 + 3 * n + 1) (ofs h) v = 0 ∧ tx_Row (tx_cp (tx_cp stx1 v (24 + 3 * n)) h (24 + 3 * n + 1)) D v r 0 ∧
    tx_Dx (upd (upd rnk (24 + 3 * n) (nI r)) (24 + 3 * n + 1) (nI rh)) (tx_cp (tx_cp dmx v (24 + 3 * n)) h (24 + 3 * n + 1)) (24 + 3 * n) r D ∧
    tx_Dx (upd (upd rnk (24 + 3 * n) (nI r)) (24 + 3 * n + 1) (nI rh)) (tx_cp (tx_cp dmx v (24 + 3 * n)) h (24 + 3 * n + 1)) (24 + 3 * n + 1) rh Dh ∧ upd (upd (upd ofs v 0) (24 + 3 * n) 0) (24 + 3 * n + 1) (ofs h) (24 + 3 * n + 1) = ofs h ∧ ∀ i, i < rh → tx_cp (tx_cp stx1 v (24 + 3 * n)) h (24 + 3 * n + 1) (3 * (24 + 3 * n + 1) + i) = stx (3 * h + i) := by
  have hr := hD.2.1
  have K := tx_cpk (d := 24 + 3 * n + 1) (dmx1 := tx_cp dmx v (24 + 3 * n)) (stx1 := tx_cp stx1 v (24 + 3 * n)) hDh hSh (fun i hi => tx_cp_d (by omega) hi) (fun i hi => by rw [tx_cp_d (by omega) hi]; exact q2 _ (by omega))
  refine ⟨?_, ?_, ?_, ?_, ?_, ?_, pk_us, K.2⟩
  · intro d hd hdv
    exact ⟨by rw [pk_un (by omega), pk_un (by omega), pk_un hdv.1], by rw [pk_un (by omega), pk_un (by omega)], fun i hi => ⟨by rw [tx_cp_d (by omega) hi, tx_cp_d (by omega) hi], by rw [tx_cp_d (by omega) hi, tx_cp_d (by omega) hi]; exact q2 _ (by omega)⟩⟩
  · exact tx_Dx_fr hD (by rw [pk_un (by omega), pk_un (by omega)]) (fun i hi => by rw [tx_cp_d (by omega) hi, tx_cp_d (by omega) hi])
  · rw [pk_un (by omega), pk_un (by omega), pk_us]
  · intro i h1 h2
    rw [tx_cp_d (by omega) (by omega), tx_cp_d (by omega) (by omega)]
    exact q1 i h1 h2
  · refine ⟨by rw [pk_un (by omega), pk_us], hr, fun i hi => ?_⟩
    have := hD.2.2 i hi
    rw [tx_cp_d (by omega) (by omega), tx_cp_t (by omega), this.1, tz_nb (by omega)]
    exact ⟨rfl, this.2⟩
  · exact ⟨pk_us, hDh.2.1, fun i hi => ⟨K.1 i hi, (hDh.2.2 i hi).2⟩⟩
theorem tx_R2f (hv : v < 24) (hn : n < 32) (hh : h < 24) (hhv : h ≠ v) (hg : g < 24) (hgv : g ≠ v) (hD : tx_Dx rnk dmx v r D) (hDh : tx_Dx rnk dmx h rh Dh) (hSh : tx_Sx ofs stx h rh) (hDg : tx_Dx rnk dmx g rg Dg) (hSg : tx_Sx ofs stx g rg) (q1 : tx_Row stx1 D v r 0) (q2 : ∀ j, (j < 3 * v ∨ 3 * v + 3 ≤ j) → stx1 j = stx j) :
    tr_fx (fun d => d ≠ v ∧ (d < 24 + 3 * n ∨ 24 + 3 * n + 3 ≤ d)) ofs rnk dmx stx (upd (upd (upd (upd ofs v 0) (24 + 3 * n) 0) (24 + 3 * n + 1) (ofs h)) (24 + 3 * n + 2) (ofs g)) (upd (upd (upd rnk (24 + 3 * n) (nI r)) (24 + 3 * n + 1) (nI rh)) (24 + 3 * n + 2) (nI rg)) (tx_cp (tx_cp (tx_cp dmx v (24 + 3 * n)) h (24 + 3 * n + 1)) g (24 + 3 * n + 2)) (tx_cp (tx_cp (tx_cp stx1 v (24 + 3 * n)) h (24 + 3 * n + 1)) g (24 + 3 * n + 2)) ∧
    tx_Dx (upd (upd (upd rnk (24 + 3 * n) (nI r)) (24 + 3 * n + 1) (nI rh)) (24 + 3 * n + 2) (nI rg)) (tx_cp (tx_cp (tx_cp dmx v (24 + 3 * n)) h (24 + 3 * n + 1)) g (24 + 3 * n + 2)) v r D ∧ upd (upd (upd (upd ofs v 0) (24 + 3 * n) 0) (24 + 3 * n + 1) (ofs h)) (24 + 3 * n + 2) (ofs g) v = 0 ∧ tx_Row (tx_cp (tx_cp (tx_cp stx1 v (24 + 3 * n)) h (24 + 3 * n + 1)) g (24 + 3 * n + 2)) D v r 0 ∧
    tx_Dx (upd (upd (upd rnk (24 + 3 * n) (nI r)) (24 + 3 * n + 1) (nI rh)) (24 + 3 * n + 2) (nI rg)) (tx_cp (tx_cp (tx_cp dmx v (24 + 3 * n)) h (24 + 3 * n + 1)) g (24 + 3 * n + 2)) (24 + 3 * n) r D ∧
    (tx_Dx (upd (upd (upd rnk (24 + 3 * n) (nI r)) (24 + 3 * n + 1) (nI rh)) (24 + 3 * n + 2) (nI rg)) (tx_cp (tx_cp (tx_cp dmx v (24 + 3 * n)) h (24 + 3 * n + 1)) g (24 + 3 * n + 2)) (24 + 3 * n + 1) rh Dh ∧ upd (upd (upd (upd ofs v 0) (24 + 3 * n) 0) (24 + 3 * n + 1) (ofs h)) (24 + 3 * n + 2) (ofs g) (24 + 3 * n + 1) = ofs h ∧ ∀ i, i < rh → tx_cp (tx_cp (tx_cp stx1 v (24 + 3 * n)) h (24 + 3 * n + 1)) g (24 + 3 * n + 2) (3 * (24 + 3 * n + 1) + i) = stx (3 * h + i)) ∧
    (tx_Dx (upd (upd (upd rnk (24 + 3 * n) (nI r)) (24 + 3 * n + 1) (nI rh)) (24 + 3 * n + 2) (nI rg)) (tx_cp (tx_cp (tx_cp dmx v (24 + 3 * n)) h (24 + 3 * n + 1)) g (24 + 3 * n + 2)) (24 + 3 * n + 2) rg Dg ∧ upd (upd (upd (upd ofs v 0) (24 + 3 * n) 0) (24 + 3 * n + 1) (ofs h)) (24 + 3 * n + 2) (ofs g) (24 + 3 * n + 2) = ofs g ∧ ∀ i, i < rg → tx_cp (tx_cp (tx_cp stx1 v (24 + 3 * n)) h (24 + 3 * n + 1)) g (24 + 3 * n + 2) (3 * (24 + 3 * n + 2) + i) = stx (3 * g + i)) := by
  obtain ⟨a1, a2, a3, a4, a5, a6, a7, a8⟩ := tx_R1f hv hn hh hhv hD hDh hSh q1 q2
  have hr := hD.2.1
  have K := tx_cpk (d := 24 + 3 * n + 2) (dmx1 := tx_cp (tx_cp dmx v (24 + 3 * n)) h (24 + 3 * n + 1)) (stx1 := tx_cp (tx_cp stx1 v (24 + 3 * n)) h (24 + 3 * n + 1)) hDg hSg (fun i hi => by rw [tx_cp_d (by omega) hi, tx_cp_d (by omega) hi]) (fun i hi => by rw [tx_cp_d (by omega) hi, tx_cp_d (by omega) hi]; exact q2 _ (by omega))
  refine ⟨?_, ?_, ?_, ?_, ?_, ⟨?_, ?_, ?_⟩, ?_, pk_us, K.2⟩
  · intro d hd hdv
    obtain ⟨b1, b2, b3⟩ := a1 d hd hdv
    exact ⟨by rw [pk_un (by omega)]; exact b1, by rw [pk_un (by omega)]; exact b2, fun i hi => ⟨by rw [tx_cp_d (by omega) hi]; exact (b3 i hi).1, by rw [tx_cp_d (by omega) hi]; exact (b3 i hi).2⟩⟩
  · exact tx_Dx_fr a2 (pk_un (by omega)) (fun i hi => tx_cp_d (by omega) hi)
  · rw [pk_un (by omega)]; exact a3
  · intro i h1 h2
    rw [tx_cp_d (by omega) (by omega)]
    exact a4 i h1 h2
  · exact tx_Dx_fr a5 (pk_un (by omega)) (fun i hi => tx_cp_d (by omega) hi)
  · exact tx_Dx_fr a6 (pk_un (by omega)) (fun i hi => tx_cp_d (by omega) hi)
  · rw [pk_un (by omega)]; exact a7
  · intro i hi
    have := hDh.2.1
    rw [tx_cp_d (by omega) (by omega)]; exact a8 i hi
  · exact ⟨pk_us, hDg.2.1, fun i hi => ⟨K.1 i hi, (hDg.2.2 i hi).2⟩⟩
end RS1
section RF1
variable {nod rfs : Nat → Int32} {kd : Nat → Nat} {n m m2 k : Nat}
theorem tr_rf1 (R : tr_Rf kd nod rfs) (h32 : ∀ m, kd m ≠ 0 → m < 32) (hk0 : kd n = 0) (hm : kd m ≠ 0) (hk : 2 ≤ k) {x1 x2 : Int32} (e1 : x1 = nI m) (e2 : x2 = -1) : ∀ m', kd m' ≠ 0 → upd (upd rfs n 1) m (nI (tr_rc kd nod m + 1)) m' = nI (tr_rc kd nod m' + (if 2 ≤ k ∧ x1 = nI m' then 1 else 0) + (if 2 ≤ k ∧ x2 = nI m' then 1 else 0)) := by
  intro m' hm'
  have b := h32 m hm
  have b' := h32 m' hm'
  have z2 : ¬ (2 ≤ k ∧ x2 = nI m') := fun z => by rw [e2] at z; exact tz_nIm1 (by omega) z.2.symm
  rw [if_neg z2]
  by_cases e : m' = m
  · subst e
    rw [pk_us, if_pos ⟨hk, e1⟩]
  · have z1 : ¬ (2 ≤ k ∧ x1 = nI m') := fun z => by rw [e1] at z; exact e ((nI_eq (by omega) (by omega)).mp z.2).symm
    have nn : m' ≠ n := fun z => hm' (by rw [z]; exact hk0)
    rw [if_neg z1, pk_un e, pk_un nn]; simp only [Nat.add_zero]
    exact (R m' hm').1
theorem tr_rf2 (R : tr_Rf kd nod rfs) (h32 : ∀ m, kd m ≠ 0 → m < 32) (hk0 : kd n = 0) (hm : kd m ≠ 0) (hm2 : kd m2 ≠ 0) (hk : 2 ≤ k) {x1 x2 : Int32} {c2 : Nat} (e1 : x1 = nI m) (e2 : x2 = nI m2) (hc2 : c2 = tr_rc kd nod m2 + (if m2 = m then 1 else 0)) : ∀ m', kd m' ≠ 0 → upd (upd (upd rfs n 1) m (nI (tr_rc kd nod m + 1))) m2 (nI (c2 + 1)) m' = nI (tr_rc kd nod m' + (if 2 ≤ k ∧ x1 = nI m' then 1 else 0) + (if 2 ≤ k ∧ x2 = nI m' then 1 else 0)) := by
  intro m' hm'
  have b := h32 m hm
  have b2 := h32 m2 hm2
  have b' := h32 m' hm'
  have i1 : (2 ≤ k ∧ x1 = nI m') ↔ m' = m := ⟨fun z => by rw [e1] at z; exact ((nI_eq (by omega) (by omega)).mp z.2).symm, fun z => ⟨hk, by rw [e1, z]⟩⟩
  have i2 : (2 ≤ k ∧ x2 = nI m') ↔ m' = m2 := ⟨fun z => by rw [e2] at z; exact ((nI_eq (by omega) (by omega)).mp z.2).symm, fun z => ⟨hk, by rw [e2, z]⟩⟩
  simp only [i1, i2]
  by_cases e : m' = m2
  · subst e
    rw [pk_us, if_pos rfl, hc2]
  · rw [pk_un e, if_neg e]
    by_cases e' : m' = m
    · subst e'
      rw [pk_us, if_pos rfl]
    · have nn : m' ≠ n := fun z => hm' (by rw [z]; exact hk0)
      rw [if_neg e', pk_un e', pk_un nn]; simp only [Nat.add_zero]
      exact (R m' hm').1
theorem tr_gcm (R : tr_Rf kd nod rfs) (hm2 : kd m2 ≠ 0) : upd rfs m (nI (tr_rc kd nod m + 1)) m2 = nI (tr_rc kd nod m2 + (if m2 = m then 1 else 0)) := by
  by_cases e : m2 = m
  · subst e
    rw [pk_us, if_pos rfl]
  · rw [pk_un e, if_neg e]; simp only [Nat.add_zero]
    exact (R m2 hm2).1
end RF1
theorem tz_bl1 {x : Int32} {m i : Nat} (hm : m < 32) (hi : i < 32) : bt (0 ||| (x ||| ((1 : Int32) <<< (nI m &&& 31)))) i = (bt x i || decide (i = m)) := by
  rw [b_or, b_0, Bool.false_or, tz_set hm hi]
theorem tz_bl2 {x y : Int32} {m m2 i : Nat} (hm : m < 32) (hm2 : m2 < 32) (hi : i < 32) : bt ((0 ||| (x ||| ((1 : Int32) <<< (nI m &&& 31)))) ||| (y ||| ((1 : Int32) <<< (nI m2 &&& 31)))) i = ((bt x i || decide (i = m)) || (bt y i || decide (i = m2))) := by
  rw [b_or, tz_bl1 hm hi, tz_set hm2 hi]
end
section
/-! reshape -/
theorem tz_shc : ∀ i, i < 3 → (((3 + nI i * 3) &&& 31).toBitVec.smod 32).toNat = 3 + 3 * i := by decide +kernel
def tz_rD (P i : Nat) : Nat := P / 2 ^ (3 + 3 * i) % 8
def tz_rok (P r : Nat) (i : Nat) : Prop := if i < r then 1 ≤ tz_rD P i ∧ tz_rD P i ≤ 4 else tz_rD P i = 0
theorem tz_rsh {P i : Nat} (hP : P ≤ 4095) (hi : i < 3) : (nI P >>> ((3 + nI i * 3) &&& 31)) &&& 7 = nI (tz_rD P i) := by
  rw [pk_shrN (by omega) _ (3 + 3 * i) (tz_shc i hi)]
  have : P / 2 ^ (3 + 3 * i) ≤ P := Nat.div_le_self _ _
  exact pk_andN (by omega) 3 (by decide)
section RSH
variable {xnc xfr xol xnw xtp xsc : Int32} {nod ofs rnk dmx stx its knd rfs siz oldr newr stt blw arn slo mvd sls : Nat → Int32}
variable {ycs ysc : Int32} {usd yrk yds shn tof vw exs ykd fst snd own prt pct val ysl ord ysls : Nat → Int32}
theorem tx_rs47 {post : Int32 → SX → Prop} {h v P r : Nat} {dmx0 : Nat → Int32} (hv : v < 24) (hP : P ≤ 4095) (hr : r ≤ 3)
    (Hok : ∀ dmx1, (∀ i, i < 3 → dmx1 (3 * v + i) = nI (tz_rD P i)) → (∀ j, (j < 3 * v ∨ 3 * v + 3 ≤ j) → dmx1 j = dmx0 j) → (∀ i, i < 3 → tz_rok P r i) → wX_reshape_47 post (nI h) (nI P) (nI v) (nI r) xnc xfr xol xnw xtp xsc 1 (nI 3) nod ofs rnk dmx1 stx its knd rfs siz oldr newr stt blw arn slo mvd sls)
    (Hbad : ∀ dmx1, (∀ j, (j < 3 * v ∨ 3 * v + 3 ≤ j) → dmx1 j = dmx0 j) → (¬ ∀ i, i < 3 → tz_rok P r i) → post (-1) (xnc, xfr, xol, xnw, xtp, xsc, nod, ofs, rnk, dmx1, stx, its, knd, rfs, siz, oldr, newr, stt, blw, arn, slo, mvd, sls)) :
    ∀ n i dmx, i ≤ 3 → 3 - i < n → (∀ j, j < i → dmx (3 * v + j) = nI (tz_rD P j)) → (∀ j, j < i → tz_rok P r j) → (∀ j, (j < 3 * v ∨ 3 * v + 3 ≤ j) → dmx j = dmx0 j) → wX_reshape_47 post (nI h) (nI P) (nI v) (nI r) xnc xfr xol xnw xtp xsc n (nI i) nod ofs rnk dmx stx its knd rfs siz oldr newr stt blw arn slo mvd sls := by
  intro n
  induction n with
  | zero => intro i dmx _ h; omega
  | succ n ih =>
    intro i dmx h1 h2 h3 h4 h5
    by_cases q : i < 3
    · have c1 : ¬ (3 : Int32) ≤ nI i := nI_ge (b := 3) q (by decide)
      have hd8 : tz_rD P i < 8 := Nat.mod_lt _ (by decide)
      have step : tz_rok P r i → wX_reshape_95 post (wX_reshape_47 post (nI h) (nI P) (nI v) (nI r) xnc xfr xol xnw xtp xsc n) (nI h) (nI P) (nI v) (nI r) (nI i) (nI (tz_rD P i)) xnc xfr xol xnw xtp xsc nod ofs rnk dmx stx its knd rfs siz oldr newr stt blw arn slo mvd sls := by
        intro ok
        unfold wX_reshape_95
        simp (disch := omega) only [tz_3n, nI_add, nI_1, vp_in_nI, nI_clamp, tz_b8, tz_nb, forall_eq, true_and]
        refine ih (i + 1) _ (by omega) (by omega) (fun j hj => ?_) (fun j hj => ?_) (fun j hj => ?_)
        · by_cases z : j = i
          · subst z; rw [pk_us]
          · rw [pk_un (by omega)]; exact h3 j (by omega)
        · by_cases z : j = i
          · subst z; exact ok
          · exact h4 j (by omega)
        · rw [pk_un (by omega)]; exact h5 j hj
      refine br_f c1 (nm_r (tz_rsh hP q) ?_)
      by_cases c : i < r
      · have bad : ¬ (1 ≤ tz_rD P i ∧ tz_rD P i ≤ 4) → post (-1) (xnc, xfr, xol, xnw, xtp, xsc, nod, ofs, rnk, dmx, stx, its, knd, rfs, siz, oldr, newr, stt, blw, arn, slo, mvd, sls) := fun z => Hbad dmx h5 (fun w => z (by have := w i q; unfold tz_rok at this; rw [if_pos c] at this; exact this))
        refine br_f (nI_ge c (by omega)) (pk_lt (tz_rD P i) 1 (fun z => bad (by omega)) (fun z1 => pk_le (tz_rD P i) 4 (fun z2 => step (by unfold tz_rok; rw [if_pos c]; exact ⟨z1, z2⟩)) (fun z2 => bad (by omega))))
      · refine br_t (nI_le (by omega) (by omega)) (pk_eq (tz_rD P i) 0 (fun z => step (by unfold tz_rok; rw [if_neg c]; exact z)) (fun z => Hbad dmx h5 (fun w => z (by have := w i q; unfold tz_rok at this; rw [if_neg c] at this; exact this))))
    · have qe : i = 3 := by omega
      subst qe
      have c1 : (3 : Int32) ≤ nI 3 := by decide
      exact br_t c1 ((Hok dmx h3 h5 h4).1 c1)
theorem ty_rs61 {post : Int32 → SY → Prop} {h P r : Nat} (hr : r ≤ 3) (hd : ∀ i, i < 3 → yds (72 + i) = nI (tz_rD P i)) (Hok : (∀ i, i < 3 → tz_rok P r i) → wY_reshape_61 post (nI h) (nI r) ycs ysc usd yrk yds shn tof vw exs ykd fst snd own prt pct val ysl ord ysls 1 (nI 3)) (Hbad : (¬ ∀ i, i < 3 → tz_rok P r i) → post (-1) (ycs, ysc, usd, yrk, yds, shn, tof, vw, exs, ykd, fst, snd, own, prt, pct, val, ysl, ord, ysls)) :
    ∀ n i, i ≤ 3 → 3 - i < n → (∀ j, j < i → tz_rok P r j) → wY_reshape_61 post (nI h) (nI r) ycs ysc usd yrk yds shn tof vw exs ykd fst snd own prt pct val ysl ord ysls n (nI i) := by
  intro n
  induction n with
  | zero => intro i _ h; omega
  | succ n ih =>
    intro i h1 h2 h4
    by_cases q : i < 3
    · have c1 : ¬ (3 : Int32) ≤ nI i := nI_ge (b := 3) q (by decide)
      have hd8 : tz_rD P i < 8 := Nat.mod_lt _ (by decide)
      have step : tz_rok P r i → ∀ x, x = nI i + 1 → wY_reshape_61 post (nI h) (nI r) ycs ysc usd yrk yds shn tof vw exs ykd fst snd own prt pct val ysl ord ysls n x := by
        intro ok x hx
        rw [nI_1] at hx
        subst hx
        refine ih (i + 1) (by omega) (by omega) (fun j hj => ?_)
        by_cases z : j = i
        · subst z; exact ok
        · exact h4 j (by omega)
      unfold wY_reshape_61
      refine br_f c1 ?_
      rw [tz_72a, nI_clamp (by omega)]
      refine ⟨vp_in_nI (by omega) (by omega), nm_r (hd i q) ?_⟩
      by_cases c : i < r
      · have bad : ¬ (1 ≤ tz_rD P i ∧ tz_rD P i ≤ 4) → post (-1) (ycs, ysc, usd, yrk, yds, shn, tof, vw, exs, ykd, fst, snd, own, prt, pct, val, ysl, ord, ysls) := fun z => Hbad (fun w => z (by have := w i q; unfold tz_rok at this; rw [if_pos c] at this; exact this))
        refine br_f (nI_ge c (by omega)) (pk_lt (tz_rD P i) 1 (fun z => bad (by omega)) (fun z1 => pk_le (tz_rD P i) 4 (fun z2 => step (by unfold tz_rok; rw [if_pos c]; exact ⟨z1, z2⟩)) (fun z2 => bad (by omega))))
      · refine br_t (nI_le (by omega) (by omega)) (pk_eq (tz_rD P i) 0 (fun z => step (by unfold tz_rok; rw [if_neg c]; exact z)) (fun z => Hbad (fun w => z (by have := w i q; unfold tz_rok at this; rw [if_neg c] at this; exact this))))
    · have qe : i = 3 := by omega
      subst qe
      have c1 : (3 : Int32) ≤ nI 3 := by decide
      exact br_t c1 ((Hok h4).1 c1)
/-- parts, then the handle: one part an element -/
theorem ty_rs158 {post : Int32 → SY → Prop} {h cnt t v : Nat} {nc : Nat → Nat} {q : Nat → Nat} {prt0 pct0 : Nat → Int32} (hh : h < 24) (hc : cnt ≤ 64) (inj : ∀ a b, a < cnt → b < cnt → nc a = nc b → a = b) (hnc : ∀ e, e < cnt → nc e < 320 ∧ shn (1536 + e) = nI (nc e)) (hq : ∀ e, e < cnt → q e < 320 ∧ shn (64 * h + e) = nI (q e))
    (hv : v < 24) (ht : t < 32) (hu : ∀ j, j < v → ¬ usd j = 0) (hf : usd v = 0)
    (H : ∀ prt1 pct1 shn2, ty_Pi nc cnt 1 (fun e _ => q e) prt0 pct0 cnt 0 prt1 pct1 → (∀ e, e < 64 → shn2 (64 * v + e) = vp_nar .short (shn (1536 + e))) → (∀ j, (j < 64 * v ∨ 64 * v + 64 ≤ j) → shn2 j = shn j) → post (nI v) (ycs, ysc, upd usd v 1, upd yrk v (vp_nar .byte (yrk 24)), ty_cp3 yds v, shn2, upd tof v (nI t), upd vw v 0, exs, ykd, fst, snd, own, prt1, pct1, val, ysl, ord, ysls)) :
    ∀ m e prt pct, e ≤ cnt → cnt - e < m → ty_Pi nc cnt 1 (fun e _ => q e) prt0 pct0 e 0 prt pct → wY_reshape_158 post (nI h) (nI cnt) (nI t) m (nI e) ycs ysc usd yrk yds shn tof vw exs ykd fst snd own prt pct val ysl ord ysls := by
  intro m
  induction m with
  | zero => intro e prt pct _ h; omega
  | succ m ih =>
    intro e prt pct h1 h2 h3
    by_cases c : e < cnt
    · obtain ⟨n1, n2⟩ := hnc e c
      obtain ⟨q1, q2⟩ := hq e c
      unfold wY_reshape_158
      refine br_f (nI_ge c (by omega)) ?_
      rw [tz_64n, nI_add, nI_clamp (by omega), q2]
      refine ⟨vp_in_nI (by omega) (by omega), ?_⟩
      refine ty_part (by omega) n2 n1 (h3.2.1 c).1 (by omega) q1 ?_
      refine nm_r (nI_1 e) (ih (e + 1) _ _ (by omega) (by omega) ?_)
      exact ty_Pi_n c (ty_Pi_s inj c (by omega) (by omega) h3)
    · have ce : e = cnt := by omega
      subst ce
      exact br_t (Int32.le_refl _) (ty_handOver hv ht hu hf rfl (fun shn2 a1 a2 => H _ _ shn2 h3 a1 a2))
end RSH
end
section
/-! multiply -/
def tz_mD (a b : Nat) : Nat → Nat := fun i => if i = 0 then a else b
theorem tz_mi0 {a b e : Nat} (hb : 0 < b) (he : e < a * b) : ty_ix (tz_mD a b) 2 e 0 = e / b := by
  show e / tz_pr (tz_mD a b) 1 1 % a = e / b
  have : tz_pr (tz_mD a b) 1 1 = b := by show 1 * b = b; omega
  rw [this]
  exact Nat.mod_eq_of_lt (Nat.div_lt_of_lt_mul (by rw [Nat.mul_comm]; exact he))
theorem tz_mi1 {a b e : Nat} : ty_ix (tz_mD a b) 2 e 1 = e % b := by
  show e / tz_pr (tz_mD a b) 2 0 % b = e % b
  rw [tz_pr0, Nat.div_one]
theorem tz_mel (a b : Nat) : tz_el (tz_mD a b) 2 = a * b := by
  show 1 * a * b = a * b
  rw [Nat.one_mul]
theorem tz_mfl (D : Nat → Nat) (i j : Nat) : tz_fl D (ty_x3 i j 0) 2 = i * D 1 + j := by
  show (0 * D 0 + i) * D 1 + j = i * D 1 + j
  rw [Nat.zero_mul, Nat.zero_add]
theorem tz_mlt {i j a b : Nat} (hi : i < a) (hj : j < b) : i * b + j < a * b := by
  have h2 : (i + 1) * b ≤ a * b := Nat.mul_le_mul_right _ hi
  rw [Nat.succ_mul] at h2
  omega
def tz_mq (shn : Nat → Int32) (h g K col e l : Nat) : Nat := if l % 2 = 0 then (shn (64 * h + (e / col * K + l / 2))).toNatClampNeg else (shn (64 * g + (l / 2 * col + e % col))).toNatClampNeg
section MUL
variable {xnc xfr xol xnw xtp xsc : Int32} {nod ofs rnk dmx stx its knd rfs siz oldr newr stt blw arn slo mvd sls : Nat → Int32}
variable {ycs ysc : Int32} {usd yrk yds shn tof vw exs ykd fst snd own prt pct val ysl ord ysls : Nat → Int32}
theorem ty_mu153 {post : Int32 → SY → Prop} {J : Int32 → Int32 → Int32 → (Nat → Int32) → (Nat → Int32) → (Nat → Int32) → (Nat → Int32) → (Nat → Int32) → (Nat → Int32) → (Nat → Int32) → (Nat → Int32) → (Nat → Int32) → (Nat → Int32) → (Nat → Int32) → (Nat → Int32) → (Nat → Int32) → (Nat → Int32) → (Nat → Int32) → (Nat → Int32) → (Nat → Int32) → Prop} {h g K col a0 cnt e : Nat} {x4 x5 : Int32} {Dh Dg : Nat → Nat} {nc : Nat → Nat} {prt0 pct0 : Nat → Int32} (hh : h < 24) (hg : g < 24) (hD : tx_Dx yrk yds h 2 Dh) (hDg : tx_Dx yrk yds g 2 Dg) (k1 : Dh 1 = K) (k2 : Dg 0 = K) (k3 : Dh 0 = a0) (k4 : Dg 1 = col) (hcnt : cnt = a0 * col) (hc64 : cnt ≤ 64) (inj : ∀ a b, a < cnt → b < cnt → nc a = nc b → a = b) (hnc : ∀ e, e < cnt → nc e < 320 ∧ shn (1536 + e) = nI (nc e)) (he : e < cnt)
    (hch : ∀ E, E < tz_el Dh 2 → ∃ c, c < 320 ∧ shn (64 * h + E) = nI c) (hcg : ∀ E, E < tz_el Dg 2 → ∃ c, c < 320 ∧ shn (64 * g + E) = nI c)
    (H : ∀ prt1 pct1, ty_Pi nc cnt (2 * K) (tz_mq shn h g K col) prt0 pct0 (e + 1) 0 prt1 pct1 → J (nI (e + 1)) ycs ysc usd yrk yds shn tof vw exs ykd fst snd own prt1 pct1 val ysl ord ysls) :
    ∀ m p prt pct, p ≤ K → K - p < m → ty_Pi nc cnt (2 * K) (tz_mq shn h g K col) prt0 pct0 e (2 * p) prt pct → wY_multiply_153 post J (nI h) (nI g) (nI K) x4 x5 (nI e) (nI (e / col)) (nI (e % col)) m (nI p) ycs ysc usd yrk yds shn tof vw exs ykd fst snd own prt pct val ysl ord ysls := by
  have hK := hD.2.2 1 (by omega)
  have hA := hD.2.2 0 (by omega)
  have hC := hDg.2.2 1 (by omega)
  rw [k1] at hK
  rw [k3] at hA
  rw [k4] at hC
  have e1 : tz_el Dh 2 = a0 * K := by show 1 * Dh 0 * Dh 1 = _; rw [k1, k3, Nat.one_mul]
  have e2 : tz_el Dg 2 = K * col := by show 1 * Dg 0 * Dg 1 = _; rw [k2, k4, Nat.one_mul]
  have b1 := hD.el.2
  have b2 := hDg.el.2
  have he1 : e / col < a0 := Nat.div_lt_of_lt_mul (by rw [Nat.mul_comm, ← hcnt]; exact he)
  have he2 : e % col < col := Nat.mod_lt _ (by omega)
  obtain ⟨n1, n2⟩ := hnc e he
  intro m
  induction m with
  | zero => intro p prt pct _ h; omega
  | succ m ih =>
    intro p prt pct h1 h2 h3
    by_cases c : p < K
    · have l1 := tz_mlt he1 c
      have l2 := tz_mlt c he2
      obtain ⟨w1, w11, w12⟩ := hch (e / col * K + p) (by omega)
      obtain ⟨w2, w21, w22⟩ := hcg (p * col + e % col) (by omega)
      have q1 : tz_mq shn h g K col e (2 * p) = w1 := by
        unfold tz_mq
        rw [if_pos (by omega), show 2 * p / 2 = p from by omega, w12, nI_clamp (by omega)]
      have q2 : tz_mq shn h g K col e (2 * p + 1) = w2 := by
        unfold tz_mq
        rw [if_neg (by omega), show (2 * p + 1) / 2 = p from by omega, w22, nI_clamp (by omega)]
      have s1 := ty_Pi_s inj he (show 2 * p < 2 * K by omega) (by omega) h3
      rw [q1] at s1
      have s2 := ty_Pi_s inj he (show 2 * p + 1 < 2 * K by omega) (by omega) s1
      rw [q2] at s2
      unfold wY_multiply_153
      refine br_f (nI_ge c (by omega)) ?_
      refine ty_cellAt (k := 0) (by omega) hD (by rw [tz_mfl, k1]; omega) ?_
      rw [tz_mfl, k1, w12]
      refine ty_cellAt (k := 0) (by omega) hDg (by rw [tz_mfl, k4]; omega) ?_
      rw [tz_mfl, k4, w22]
      refine ty_part (by omega) n2 n1 (h3.2.1 he).1 (by omega) w11 ?_
      refine ty_part (by omega) n2 n1 (s1.2.1 he).1 (by omega) w21 ?_
      refine nm_r (nI_1 p) (ih (p + 1) _ _ (by omega) (by omega) ?_)
      exact s2
    · have ce : p = K := by omega
      subst ce
      exact br_t (Int32.le_refl _) (nm_r (nI_1 e) (H _ _ (ty_Pi_n he h3)))
theorem ty_mu121 {post : Int32 → SY → Prop} {h g K col a0 cnt t v : Nat} {Dh Dg : Nat → Nat} {nc : Nat → Nat} {prt0 pct0 : Nat → Int32} (hh : h < 24) (hg : g < 24) (hD : tx_Dx yrk yds h 2 Dh) (hDg : tx_Dx yrk yds g 2 Dg) (hN : tx_Dx yrk yds 24 2 (tz_mD a0 col)) (k1 : Dh 1 = K) (k2 : Dg 0 = K) (k3 : Dh 0 = a0) (k4 : Dg 1 = col) (hcnt : cnt = a0 * col) (hc64 : cnt ≤ 64) (inj : ∀ a b, a < cnt → b < cnt → nc a = nc b → a = b) (hnc : ∀ e, e < cnt → nc e < 320 ∧ shn (1536 + e) = nI (nc e))
    (hch : ∀ E, E < tz_el Dh 2 → ∃ c, c < 320 ∧ shn (64 * h + E) = nI c) (hcg : ∀ E, E < tz_el Dg 2 → ∃ c, c < 320 ∧ shn (64 * g + E) = nI c)
    (hv : v < 24) (ht : t < 32) (hu : ∀ j, j < v → ¬ usd j = 0) (hf : usd v = 0)
    (H : ∀ prt1 pct1 shn2, ty_Pi nc cnt (2 * K) (tz_mq shn h g K col) prt0 pct0 cnt 0 prt1 pct1 → (∀ e, e < 64 → shn2 (64 * v + e) = vp_nar .short (shn (1536 + e))) → (∀ j, (j < 64 * v ∨ 64 * v + 64 ≤ j) → shn2 j = shn j) → post (nI v) (ycs, ysc, upd usd v 1, upd yrk v (vp_nar .byte (yrk 24)), ty_cp3 yds v, shn2, upd tof v (nI t), upd vw v 0, exs, ykd, fst, snd, own, prt1, pct1, val, ysl, ord, ysls)) :
    ∀ m e prt pct, e ≤ cnt → cnt - e < m → ty_Pi nc cnt (2 * K) (tz_mq shn h g K col) prt0 pct0 e 0 prt pct → wY_multiply_121 post (nI h) (nI g) (nI K) (nI t) (nI cnt) m (nI e) ycs ysc usd yrk yds shn tof vw exs ykd fst snd own prt pct val ysl ord ysls := by
  have hC := hDg.2.2 1 (by omega)
  rw [k4] at hC
  intro m
  induction m with
  | zero => intro e prt pct _ h; omega
  | succ m ih =>
    intro e prt pct h1 h2 h3
    by_cases c : e < cnt
    · unfold wY_multiply_121
      refine br_f (nI_ge c (by omega)) ?_
      refine ty_index (d := 24) (a := 0) (by omega) hN (by omega) (by omega) ?_
      refine ty_index (d := 24) (a := 1) (by omega) hN (by omega) (by omega) ?_
      rw [tz_mi0 (by omega) (by omega), tz_mi1]
      refine ⟨K + 1, ty_mu153 hh hg hD hDg k1 k2 k3 k4 hcnt hc64 inj hnc c hch hcg ?_ _ 0 prt pct (by omega) (by omega) h3⟩
      intro prt1 pct1 P1
      exact ih (e + 1) prt1 pct1 (by omega) (by omega) P1
    · have ce : e = cnt := by omega
      subst ce
      exact br_t (Int32.le_refl _) (ty_handOver hv ht hu hf rfl (fun shn2 a1 a2 => H _ _ shn2 h3 a1 a2))
end MUL
end
section
/-! fold -/
def tz_rt (a x i : Nat) : Nat := if i < a then i else if i < x then i + 1 else if i = x then a else i
theorem tz_rt_lt {a x i r : Nat} (ha : a ≤ x) (hx : x < r) (hi : i < r) : tz_rt a x i < r := by
  unfold tz_rt
  split
  · exact hi
  · split
    · omega
    · split <;> omega
theorem tz_rt_sk {a r i : Nat} (hi : i < r) : tz_rt a r i = tz_sk a i := by
  unfold tz_rt tz_sk
  by_cases h : i < a
  · rw [if_pos h, if_pos h]
  · rw [if_neg h, if_neg h, if_pos hi]
theorem tz_rt_last {a r : Nat} (ha : a ≤ r) : tz_rt a r r = a := by
  unfold tz_rt
  rw [if_neg (by omega), if_neg (by omega), if_pos rfl]
theorem tz_rt_id {a i : Nat} : tz_rt a a i = i := by
  unfold tz_rt
  by_cases h : i < a
  · rw [if_pos h]
  · rw [if_neg h, if_neg h]
    by_cases h2 : i = a
    · rw [if_pos h2, h2]
    · rw [if_neg h2]
/-- a row of three on its way: the entry of axis a has come to x -/
def tx_Rt (A : Nat → Int32) (y : Nat → Int32) (d a x r : Nat) : Prop := ∀ i, i < r → A (3 * d + i) = y (tz_rt a x i)
theorem tx_Rt_s {A y : Nat → Int32} {d a x r : Nat} (hy : ∀ i, i < r → vp_nar .byte (y i) = y i) (ha : a ≤ x) (hx : x + 1 < r) (h : tx_Rt A y d a x r) : tx_Rt (tx_ex A (3 * d + x) (3 * d + (x + 1))) y d a (x + 1) r := by
  intro i hi
  by_cases e1 : i = x
  · subst e1
    rw [tx_ex_i, h (i + 1) hx]
    have z1 : tz_rt a i (i + 1) = i + 1 := by unfold tz_rt; rw [if_neg (by omega), if_neg (by omega), if_neg (by omega)]
    have z2 : tz_rt a (i + 1) i = i + 1 := by unfold tz_rt; rw [if_neg (by omega), if_pos (by omega)]
    rw [z1, z2, hy _ hx]
  · by_cases e2 : i = x + 1
    · subst e2
      rw [tx_ex_j, h x (by omega)]
      have z1 : tz_rt a x x = a := tz_rt_last ha
      have z2 : tz_rt a (x + 1) (x + 1) = a := tz_rt_last (by omega)
      rw [z1, z2, hy _ (by omega)]
    · rw [tx_ex_n (by omega) (by omega), h i hi]
      have : tz_rt a x i = tz_rt a (x + 1) i := by
        unfold tz_rt
        by_cases c1 : i < a
        · rw [if_pos c1, if_pos c1]
        · rw [if_neg c1, if_neg c1]
          by_cases c2 : i < x
          · rw [if_pos c2, if_pos (by omega)]
          · rw [if_neg c2, if_neg e1, if_neg (show ¬ i < x + 1 by omega), if_neg e2]
      rw [this]
def tz_fx (a : Nat) (ix : Nat → Nat) (p i : Nat) : Nat := if i < a then ix i else if i = a then p else ix (i - 1)
theorem tz_folin {a r : Nat} (ha : a < r) (hr : r ≤ 3) (ix : Nat → Nat) (p : Nat) (s : Nat → Int32) (o : Int32) : tz_lin ix (fun i => s (tz_sk a i)) (r - 1) (o + nI p * s a) = tz_lin (tz_fx a ix p) s r o := by
  rcases (by omega : r = 1 ∨ r = 2 ∨ r = 3) with rfl | rfl | rfl
  · have h1 : a = 0 := by omega
    subst h1
    simp [tz_lin, tz_fx]
  · rcases (by omega : a = 0 ∨ a = 1) with rfl | rfl <;> simp [tz_lin, tz_fx, tz_sk] <;> (try grind)
  · rcases (by omega : a = 0 ∨ a = 1 ∨ a = 2) with rfl | rfl | rfl <;> simp [tz_lin, tz_fx, tz_sk] <;> (try grind)
/-- the element of h that is summand p of element e -/
def tz_foE (D : Nat → Nat) (r a e p : Nat) : Nat := tz_fl D (ty_x3 (tz_fx a (ty_ix (fun i => D (tz_sk a i)) (r - 1) e) p 0) (tz_fx a (ty_ix (fun i => D (tz_sk a i)) (r - 1) e) p 1) (tz_fx a (ty_ix (fun i => D (tz_sk a i)) (r - 1) e) p 2)) r
theorem tz_foxlt {D : Nat → Nat} {r a e p : Nat} (ha : a < r) (hr : r ≤ 3) (hD : ∀ i, i < r → 1 ≤ D i) (hp : p < D a) (i : Nat) (hi : i < r) : tz_fx a (ty_ix (fun i => D (tz_sk a i)) (r - 1) e) p i < D i := by
  have key : ∀ j, j < r - 1 → ty_ix (fun i => D (tz_sk a i)) (r - 1) e j < D (tz_sk a j) := fun j hj => ty_ixlt (D := fun i => D (tz_sk a i)) (fun l hl => hD _ (by have := tz_skl (a := a) hl; omega)) hj
  unfold tz_fx
  by_cases h1 : i < a
  · rw [if_pos h1]
    have := key i (by omega)
    unfold tz_sk at this
    rw [if_pos h1] at this
    exact this
  · rw [if_neg h1]
    by_cases h2 : i = a
    · rw [if_pos h2, h2]; exact hp
    · rw [if_neg h2]
      have := key (i - 1) (by omega)
      have e : tz_sk a (i - 1) = i := by unfold tz_sk; rw [if_neg (by omega)]; omega
      rw [e] at this
      exact this
theorem tz_foElt {D : Nat → Nat} {r a e p : Nat} (ha : a < r) (hr : r ≤ 3) (hD : ∀ i, i < r → 1 ≤ D i) (hp : p < D a) : tz_foE D r a e p < tz_el D r :=
  tz_fllt r (fun i hi => by rw [tz_x3 (by omega)]; exact tz_foxlt ha hr hD hp i hi)
theorem tz_foad {D D' : Nat → Nat} {r a e p : Nat} (ha : a < r) (hr : r ≤ 3) (hD : ∀ i, i < r → 1 ≤ D i) (hp : p < D a) (s s' : Nat → Int32) (o : Int32) (hD' : ∀ i, i < r → D' i = D (tz_rt a (r - 1) i)) (hs' : ∀ i, i < r → s' i = s (tz_rt a (r - 1) i)) : tz_adl D' s' r (e * D a + p) o = tz_adl D s r (tz_foE D r a e p) o := by
  obtain ⟨q, rfl⟩ : ∃ q, r = q + 1 := ⟨r - 1, by omega⟩
  rw [Nat.add_sub_cancel] at hD' hs'
  have l1 : D' q = D a := by rw [hD' q (by omega), tz_rt_last (by omega)]
  have l2 : s' q = s a := by rw [hs' q (by omega), tz_rt_last (by omega)]
  have e1 : (e * D a + p) / D a = e := by
    rw [Nat.mul_comm, Nat.mul_add_div (by omega), Nat.div_eq_of_lt hp, Nat.add_zero]
  have e2 : (e * D a + p) % D a = p := by
    rw [Nat.mul_comm, Nat.mul_add_mod, Nat.mod_eq_of_lt hp]
  unfold tz_foE
  rw [tz_adls, l1, l2, e1, e2, tz_adlfl (q + 1) o (fun i hi => by rw [tz_x3 (by omega)]; exact tz_foxlt ha hr hD hp i hi)]
  rw [tz_adlc (E := fun i => D (tz_sk a i)) (t := fun i => s (tz_sk a i)) q _ _ (fun i hi => by rw [hD' i (by omega), tz_rt_sk hi]) (fun i hi => by rw [hs' i (by omega), tz_rt_sk hi]), tz_adldg]
  have k := tz_folin (a := a) (r := q + 1) ha hr (tz_dg (fun i => D (tz_sk a i)) q e) p s o
  rw [Nat.add_sub_cancel] at k
  rw [k]
  refine tz_linc (q + 1) o (fun i hi => ?_) (fun _ _ => rfl)
  rw [tz_x3 (by omega), Nat.add_sub_cancel]
  unfold tz_fx
  by_cases h1 : i < a
  · rw [if_pos h1, if_pos h1]
    exact (if_pos (by omega)).symm
  · rw [if_neg h1, if_neg h1]
    by_cases h2 : i = a
    · rw [if_pos h2, if_pos h2]
    · rw [if_neg h2, if_neg h2]
      exact (if_pos (by omega)).symm
section FO
variable {xnc xfr xol xnw xtp xsc : Int32} {nod ofs rnk dmx stx its knd rfs siz oldr newr stt blw arn slo mvd sls : Nat → Int32}
variable {ycs ysc : Int32} {usd yrk yds shn tof vw exs ykd fst snd own prt pct val ysl ord ysls : Nat → Int32}
theorem tx_fo51 {post : Int32 → SX → Prop} {h v r a : Nat} {y z : Nat → Int32} {dmx0 stx0 : Nat → Int32} (hh : h < 24) (hv : v < 24) (hr : rnk h = nI r) (hr3 : r ≤ 3) (ha : a < r) (hy : ∀ i, i < r → vp_nar .byte (y i) = y i) (hz : ∀ i, i < r → vp_nar .byte (z i) = z i)
    (Hok : ∀ dmx1 stx1, tx_Rt dmx1 y v a (r - 1) r → tx_Rt stx1 z v a (r - 1) r → (∀ j, (j < 3 * v ∨ 3 * v + 3 ≤ j) → dmx1 j = dmx0 j ∧ stx1 j = stx0 j) → wX_fold_51 post (nI h) (nI a) (nI v) 1 (nI (r - 1)) xnc xfr xol xnw xtp xsc nod ofs rnk dmx1 stx1 its knd rfs siz oldr newr stt blw arn slo mvd sls) :
    ∀ n x dmx stx, a ≤ x → x < r → r - x < n + 1 → tx_Rt dmx y v a x r → tx_Rt stx z v a x r → (∀ j, (j < 3 * v ∨ 3 * v + 3 ≤ j) → dmx j = dmx0 j ∧ stx j = stx0 j) → wX_fold_51 post (nI h) (nI a) (nI v) n (nI x) xnc xfr xol xnw xtp xsc nod ofs rnk dmx stx its knd rfs siz oldr newr stt blw arn slo mvd sls := by
  intro n
  induction n with
  | zero => intro x dmx stx _ _ h; omega
  | succ n ih =>
    intro x dmx stx h1 h2 h3 p1 p2 p3
    have er : rnk (nI h).toNatClampNeg - 1 = nI (r - 1) := by rw [nI_clamp (by omega), hr, tz_s1 (by omega)]
    by_cases c : x + 1 < r
    · refine ⟨vp_in_nI (by omega) (by omega), br_f (by rw [er]; exact nI_ge (by omega) (by omega)) ?_⟩
      rw [nI_1]
      refine tx_exch (by omega) (by omega) (by omega) ?_
      refine nm_e (ih (x + 1) _ _ (by omega) c (by omega) (tx_Rt_s hy h1 c p1) (tx_Rt_s hz h1 c p2) (fun j hj => ?_))
      rw [tx_ex_n (by omega) (by omega), tx_ex_n (by omega) (by omega)]
      exact p3 j hj
    · have ex : x = r - 1 := by omega
      subst ex
      have c1 : rnk (nI h).toNatClampNeg - 1 ≤ nI (r - 1) := by rw [er]; exact Int32.le_refl _
      have K := Hok dmx stx p1 p2 p3
      exact ⟨K.1, br_t c1 (K.2.1 c1)⟩
theorem tx_fo125 {post : Int32 → SX → Prop} {d v r a : Nat} {y z : Nat → Int32} {dmx0 stx0 : Nat → Int32} (hd : d < 120) (hr : rnk d = nI r) (hr3 : r ≤ 3) (ha : a < r) (hy : ∀ i, i < r → vp_nar .byte (y i) = y i) (hz : ∀ i, i < r → vp_nar .byte (z i) = z i)
    (Hok : ∀ dmx1 stx1, tx_Rt dmx1 y d a (r - 1) r → tx_Rt stx1 z d a (r - 1) r → (∀ j, (j < 3 * d ∨ 3 * d + 3 ≤ j) → dmx1 j = dmx0 j ∧ stx1 j = stx0 j) → post (nI v) (xnc, xfr, xol, xnw, xtp, xsc, nod, ofs, rnk, dmx1, stx1, its, knd, rfs, siz, oldr, newr, stt, blw, arn, slo, mvd, sls)) :
    ∀ n x dmx stx, a ≤ x → x < r → r - x < n + 1 → tx_Rt dmx y d a x r → tx_Rt stx z d a x r → (∀ j, (j < 3 * d ∨ 3 * d + 3 ≤ j) → dmx j = dmx0 j ∧ stx j = stx0 j) → wX_fold_125 post (nI v) (nI d) n (nI x) xnc xfr xol xnw xtp xsc nod ofs rnk dmx stx its knd rfs siz oldr newr stt blw arn slo mvd sls := by
  intro n
  induction n with
  | zero => intro x dmx stx _ _ h; omega
  | succ n ih =>
    intro x dmx stx h1 h2 h3 p1 p2 p3
    have er : rnk (nI d).toNatClampNeg - 1 = nI (r - 1) := by rw [nI_clamp (by omega), hr, tz_s1 (by omega)]
    by_cases c : x + 1 < r
    · refine ⟨vp_in_nI (by omega) (by omega), br_f (by rw [er]; exact nI_ge (by omega) (by omega)) ?_⟩
      rw [nI_1]
      refine tx_exch (by omega) (by omega) (by omega) ?_
      refine nm_e (ih (x + 1) _ _ (by omega) c (by omega) (tx_Rt_s hy h1 c p1) (tx_Rt_s hz h1 c p2) (fun j hj => ?_))
      rw [tx_ex_n (by omega) (by omega), tx_ex_n (by omega) (by omega)]
      exact p3 j hj
    · have ex : x = r - 1 := by omega
      subst ex
      have c1 : rnk (nI d).toNatClampNeg - 1 ≤ nI (r - 1) := by rw [er]; exact Int32.le_refl _
      exact ⟨vp_in_nI (by omega) (by omega), br_t c1 (Hok dmx stx p1 p2 p3)⟩
theorem ty_fo183 {post : Int32 → SY → Prop} {J J' : Int32 → Int32 → Int32 → (Nat → Int32) → (Nat → Int32) → (Nat → Int32) → (Nat → Int32) → (Nat → Int32) → (Nat → Int32) → (Nat → Int32) → (Nat → Int32) → (Nat → Int32) → (Nat → Int32) → (Nat → Int32) → (Nat → Int32) → (Nat → Int32) → (Nat → Int32) → (Nat → Int32) → (Nat → Int32) → (Nat → Int32) → Prop} {h r a cnt e : Nat} {x4 x5 : Int32} {D : Nat → Nat} {nc : Nat → Nat} {prt0 pct0 : Nat → Int32} (hh : h < 24) (hD : tx_Dx yrk yds h r D) (ha : a < r) (hc64 : cnt ≤ 64) (inj : ∀ a b, a < cnt → b < cnt → nc a = nc b → a = b) (hnc : ∀ e, e < cnt → nc e < 320 ∧ shn (1536 + e) = nI (nc e)) (he : e < cnt)
    (hch : ∀ E, E < tz_el D r → ∃ c, c < 320 ∧ shn (64 * h + E) = nI c)
    (H : ∀ prt1 pct1, ty_Pi nc cnt (D a) (fun e p => (shn (64 * h + tz_foE D r a e p)).toNatClampNeg) prt0 pct0 (e + 1) 0 prt1 pct1 → J (nI (e + 1)) ycs ysc usd yrk yds shn tof vw exs ykd fst snd own prt1 pct1 val ysl ord ysls) :
    ∀ m p prt pct, p ≤ D a → D a - p < m → ty_Pi nc cnt (D a) (fun e p => (shn (64 * h + tz_foE D r a e p)).toNatClampNeg) prt0 pct0 e p prt pct → wY_fold_183 post J (nI h) (nI a) (nI (D a)) x4 x5 (nI e) (nI (ty_ix (fun i => D (tz_sk a i)) (r - 1) e 0)) (nI (ty_ix (fun i => D (tz_sk a i)) (r - 1) e 1)) m (nI p) ycs ysc usd yrk yds shn tof vw exs ykd fst snd own prt pct val ysl ord ysls := by
  have hr3 := hD.2.1
  have hDa := hD.2.2 a ha
  have b1 := hD.el.2
  obtain ⟨n1, n2⟩ := hnc e he
  intro m
  induction m with
  | zero => intro p prt pct _ h; omega
  | succ m ih =>
    intro p prt pct h1 h2 h3
    by_cases c : p < D a
    · have lt := tz_foElt (e := e) ha hr3 (fun i hi => (hD.2.2 i hi).2.1) c
      obtain ⟨w, w1, w2⟩ := hch _ lt
      have s1 := ty_Pi_s inj he c (by omega) h3
      (try dsimp only at s1)
      rw [w2, nI_clamp (by omega)] at s1
      have fin : ∀ x, x = nI w → wpY_part (fun u => match u with | (ycs2, ysc2, usd2, yrk2, yds2, shn2, tof2, vw2, exs2, ykd2, fst2, snd2, own2, prt2, pct2, val2, ysl2, ord2, ysls2) => ((∀ y, y = nI p + 1 → (wY_fold_183 post J (nI h) (nI a) (nI (D a)) x4 x5 (nI e) (nI (ty_ix (fun i => D (tz_sk a i)) (r - 1) e 0)) (nI (ty_ix (fun i => D (tz_sk a i)) (r - 1) e 1)) m) y ycs2 ysc2 usd2 yrk2 yds2 shn2 tof2 vw2 exs2 ykd2 fst2 snd2 own2 prt2 pct2 val2 ysl2 ord2 ysls2))) (ycs, ysc, usd, yrk, yds, shn, tof, vw, exs, ykd, fst, snd, own, prt, pct, val, ysl, ord, ysls) (nI e) x := by
        intro x hx
        subst hx
        refine ty_part (by omega) n2 n1 (h3.2.1 he).1 (by omega) w1 ?_
        exact nm_r (nI_1 p) (ih (p + 1) _ _ (by omega) (by omega) s1)
      unfold wY_fold_183
      refine br_f (nI_ge c (by omega)) ?_
      rcases (by omega : a = 0 ∨ a = 1 ∨ a = 2) with rfl | rfl | rfl
      · refine br_t rfl ?_
        unfold wY_fold_202
        refine br_f (by decide) (br_t rfl ?_)
        unfold wY_fold_223
        refine br_f (by decide) ?_
        unfold wY_fold_235
        exact ty_cellAt (by omega) hD (by show tz_foE D r 0 e p < 64; omega) (fin _ w2)
      · refine br_f (by decide) ?_
        unfold wY_fold_202
        refine br_t rfl ?_
        unfold wY_fold_223
        refine br_f (by decide) ?_
        unfold wY_fold_235
        exact ty_cellAt (by omega) hD (by show tz_foE D r 1 e p < 64; omega) (fin _ w2)
      · refine br_f (by decide) ?_
        unfold wY_fold_202
        refine br_f (by decide) (br_f (by decide) ?_)
        unfold wY_fold_223
        refine br_t rfl ?_
        unfold wY_fold_235
        exact ty_cellAt (by omega) hD (by show tz_foE D r 2 e p < 64; omega) (fin _ w2)
    · have ce : p = D a := by omega
      subst ce
      exact br_t (Int32.le_refl _) (nm_r (nI_1 e) (H _ _ (ty_Pi_n he h3)))
theorem ty_fo151 {post : Int32 → SY → Prop} {h r a cnt t v : Nat} {D : Nat → Nat} {nc : Nat → Nat} {prt0 pct0 : Nat → Int32} (hh : h < 24) (hD : tx_Dx yrk yds h r D) (hN : tx_Dx yrk yds 24 (r - 1) (fun i => D (tz_sk a i))) (ha : a < r) (hc64 : cnt ≤ 64) (inj : ∀ a b, a < cnt → b < cnt → nc a = nc b → a = b) (hnc : ∀ e, e < cnt → nc e < 320 ∧ shn (1536 + e) = nI (nc e))
    (hch : ∀ E, E < tz_el D r → ∃ c, c < 320 ∧ shn (64 * h + E) = nI c)
    (hv : v < 24) (ht : t < 32) (hu : ∀ j, j < v → ¬ usd j = 0) (hf : usd v = 0)
    (H : ∀ prt1 pct1 shn2, ty_Pi nc cnt (D a) (fun e p => (shn (64 * h + tz_foE D r a e p)).toNatClampNeg) prt0 pct0 cnt 0 prt1 pct1 → (∀ e, e < 64 → shn2 (64 * v + e) = vp_nar .short (shn (1536 + e))) → (∀ j, (j < 64 * v ∨ 64 * v + 64 ≤ j) → shn2 j = shn j) → post (nI v) (ycs, ysc, upd usd v 1, upd yrk v (vp_nar .byte (yrk 24)), ty_cp3 yds v, shn2, upd tof v (nI t), upd vw v 0, exs, ykd, fst, snd, own, prt1, pct1, val, ysl, ord, ysls)) :
    ∀ m e prt pct, e ≤ cnt → cnt - e < m → ty_Pi nc cnt (D a) (fun e p => (shn (64 * h + tz_foE D r a e p)).toNatClampNeg) prt0 pct0 e 0 prt pct → wY_fold_151 post (nI h) (nI a) (nI (D a)) (nI t) (nI cnt) m (nI e) ycs ysc usd yrk yds shn tof vw exs ykd fst snd own prt pct val ysl ord ysls := by
  intro m
  induction m with
  | zero => intro e prt pct _ h; omega
  | succ m ih =>
    intro e prt pct h1 h2 h3
    by_cases c : e < cnt
    · unfold wY_fold_151
      refine br_f (nI_ge c (by omega)) ?_
      refine ty_index (d := 24) (a := 0) (by omega) hN (by omega) (by omega) ?_
      refine ty_index (d := 24) (a := 1) (by omega) hN (by omega) (by omega) ?_
      refine ⟨D a + 1, ty_fo183 (J' := fun _ _ _ _ _ _ _ _ _ _ _ _ _ _ _ _ _ _ _ _ => True) hh hD ha hc64 inj hnc c hch ?_ _ 0 prt pct (by omega) (by omega) h3⟩
      intro prt1 pct1 P1
      exact ih (e + 1) prt1 pct1 (by omega) (by omega) P1
    · have ce : e = cnt := by omega
      subst ce
      exact br_t (Int32.le_refl _) (ty_handOver hv ht hu hf rfl (fun shn2 a1 a2 => H _ _ shn2 h3 a1 a2))
theorem ty_fold {post : Int32 → SY → Prop} {h r a n : Nat} {D : Nat → Nat} (hh : h < 24) (hus : ¬ usd h = 0) (hD : tx_Dx yrk yds h r D) (ha : a < r) (hn : tof h = nI n)
    (H : ∀ yds1, tx_Dx (upd yrk 24 (nI (r - 1))) yds1 24 (r - 1) (fun i => D (tz_sk a i)) → (∀ j, j < 72 → yds1 j = yds j) → wpY_tensor (fun r_73 u => match u with | (ycs2, ysc2, usd2, yrk2, yds2, shn2, tof2, vw2, exs2, ykd2, fst2, snd2, own2, prt2, pct2, val2, ysl2, ord2, ysls2) => (((0 ≤ r_73 → (wpY_size (fun r_94 => (∃ n151 : Nat, wY_fold_151 post (nI h) (nI a) (nI (D a)) r_73 r_94 n151 0 ycs2 ysc2 usd2 yrk2 yds2 shn2 tof2 vw2 exs2 ykd2 fst2 snd2 own2 prt2 pct2 val2 ysl2 ord2 ysls2)) (ycs2, ysc2, usd2, yrk2, yds2, shn2, tof2, vw2, exs2, ykd2, fst2, snd2, own2, prt2, pct2, val2, ysl2, ord2, ysls2) 24)) ∧ (¬ 0 ≤ r_73 → (post (-1) (ycs2, ysc2, usd2, yrk2, yds2, shn2, tof2, vw2, exs2, ykd2, fst2, snd2, own2, prt2, pct2, val2, ysl2, ord2, ysls2)))))) (ycs, ysc, usd, upd yrk 24 (nI (r - 1)), yds1, shn, tof, vw, exs, ykd, fst, snd, own, prt, pct, val, ysl, ord, ysls) 4 (nI n) (-1)) : wpY_fold post (ycs, ysc, usd, yrk, yds, shn, tof, vw, exs, ykd, fst, snd, own, prt, pct, val, ysl, ord, ysls) (nI h) (nI a) := by
  have hr := hD.1
  have hr3 := hD.2.1
  have w1 : vp_in (nI h) 25 := vp_in_nI (by omega) (by omega)
  have er : yrk (nI h).toNatClampNeg = nI r := by rw [nI_clamp (by omega)]; exact hr
  have en : tof (nI h).toNatClampNeg = nI n := by rw [nI_clamp (by omega)]; exact hn
  have ws : ∀ j, j < 3 → vp_in (3 * nI h + nI j) 75 := fun j hj => by rw [tz_n3, nI_add]; exact vp_in_nI (by omega) (by omega)
  have ds : ∀ j, j < 3 → yds (3 * nI h + nI j).toNatClampNeg = yds (3 * h + j) := fun j hj => by rw [tz_n3, nI_add, nI_clamp (by omega)]
  have K119 : ∀ yds1, tx_Dx (upd yrk 24 (nI (r - 1))) yds1 24 (r - 1) (fun i => D (tz_sk a i)) → (∀ j, j < 72 → yds1 j = yds j) → wY_fold_119 post (nI h) (nI a) (nI (D a)) ycs ysc usd (upd yrk 24 (nI (r - 1))) yds1 shn tof vw exs ykd fst snd own prt pct val ysl ord ysls := by
    intro yds1 z1 z2
    unfold wY_fold_119
    refine ⟨w1, ?_⟩
    rw [en]
    exact H yds1 z1 z2
  have K75 : ∀ x y, (1 < r → x = nI (D (tz_sk a 0))) → (2 < r → y = nI (D (tz_sk a 1))) → wpY_shapeNew (fun u => match u with | (ycs2, ysc2, usd2, yrk2, yds2, shn2, tof2, vw2, exs2, ykd2, fst2, snd2, own2, prt2, pct2, val2, ysl2, ord2, ysls2) => (((2 ≤ (yrk2 24) → (wY_fold_100 post (nI h) (nI a) (nI (D a)) ycs2 ysc2 usd2 yrk2 yds2 shn2 tof2 vw2 exs2 ykd2 fst2 snd2 own2 prt2 pct2 val2 ysl2 ord2 ysls2)) ∧ (¬ 2 ≤ (yrk2 24) → (∀ q, q = upd yds2 73 (vp_nar .byte 0) → (wY_fold_100 post (nI h) (nI a) (nI (D a)) ycs2 ysc2 usd2 yrk2 q shn2 tof2 vw2 exs2 ykd2 fst2 snd2 own2 prt2 pct2 val2 ysl2 ord2 ysls2)))))) (ycs, ysc, usd, yrk, yds, shn, tof, vw, exs, ykd, fst, snd, own, prt, pct, val, ysl, ord, ysls) (nI (r - 1)) x y 0 := by
    intro x y hx hy
    refine ty_shapeNew rfl (by omega) ?_
    dsimp only
    rw [pk_us]
    have dp : ∀ i, i < r - 1 → 1 ≤ D (tz_sk a i) ∧ D (tz_sk a i) ≤ 4 := fun i hi => (hD.2.2 _ (by have := tz_skl (a := a) hi; omega)).2
    rcases (by omega : r = 1 ∨ r = 2 ∨ r = 3) with rfl | rfl | rfl
    · refine br_f (by decide) (nm_e ?_)
      unfold wY_fold_100
      rw [pk_us]
      refine br_f (by decide) (nm_e ?_)
      exact K119 _ ⟨pk_us, by omega, fun i hi => by omega⟩ (fun j hj => by rw [pk_un (by omega), pk_un (by omega)]; exact (by unfold ty_sn; rw [pk_un (by omega), pk_un (by omega), pk_un (by omega)]))
    · refine br_f (by decide) (nm_e ?_)
      unfold wY_fold_100
      rw [pk_us]
      refine br_t (by decide) ?_
      refine K119 _ ⟨pk_us, by omega, fun i hi => ?_⟩ (fun j hj => by rw [pk_un (by omega)]; exact (by unfold ty_sn; rw [pk_un (by omega), pk_un (by omega), pk_un (by omega)]))
      have i0 : i = 0 := by omega
      subst i0
      have d0 := dp 0 (by omega)
      refine ⟨?_, d0⟩
      show upd (ty_sn yds x y 0) 73 _ 72 = _
      rw [pk_un (by omega)]
      unfold ty_sn
      rw [pk_un (by omega), pk_un (by omega), pk_us, hx (by omega), tz_b8 _ (by omega), tz_nb (by omega)]
    · refine br_t (by decide) ?_
      unfold wY_fold_100
      rw [pk_us]
      refine br_t (by decide) ?_
      refine K119 _ ⟨pk_us, by omega, fun i hi => ?_⟩ (fun j hj => by unfold ty_sn; rw [pk_un (by omega), pk_un (by omega), pk_un (by omega)])
      have d0 := dp 0 (by omega)
      have d1 := dp 1 (by omega)
      rcases (by omega : i = 0 ∨ i = 1) with rfl | rfl
      · refine ⟨?_, d0⟩
        show ty_sn yds x y 0 72 = _
        unfold ty_sn
        rw [pk_un (by omega), pk_un (by omega), pk_us, hx (by omega), tz_b8 _ (by omega), tz_nb (by omega)]
      · refine ⟨?_, d1⟩
        show ty_sn yds x y 0 73 = _
        unfold ty_sn
        rw [pk_un (by omega), pk_us, hy (by omega), tz_b8 _ (by omega), tz_nb (by omega)]
  unfold wpY_fold
  refine ty_is1 hh hus (br_f (by decide) (br_f (nI_pos (by omega)) ⟨w1, br_t (by rw [er]; exact nI_lt ha (by omega)) ?_⟩))
  refine ty_dim (by omega) (by omega) (hD.2.2 a ha).1 ⟨w1, ?_⟩
  rw [er, tz_s1 (by omega)]
  rcases (by omega : a = 0 ∨ a = 1 ∨ a = 2) with rfl | rfl | rfl
  · refine br_t rfl ?_
    unfold wY_fold_56
    refine ⟨ws 1 (by omega), br_f (by decide) ?_⟩
    unfold wY_fold_75
    refine ⟨ws 2 (by omega), ?_⟩
    exact K75 _ _ (fun z => (ds 1 (by omega)).trans (hD.2.2 1 (by omega)).1) (fun z => (ds 2 (by omega)).trans (hD.2.2 2 (by omega)).1)
  · refine br_f (by decide) ?_
    unfold wY_fold_56
    refine ⟨ws 0 (by omega), br_f (by decide) ?_⟩
    unfold wY_fold_75
    refine ⟨ws 2 (by omega), ?_⟩
    exact K75 _ _ (fun z => (ds 0 (by omega)).trans (hD.2.2 0 (by omega)).1) (fun z => (ds 2 (by omega)).trans (hD.2.2 2 (by omega)).1)
  · refine br_f (by decide) ?_
    unfold wY_fold_56
    refine ⟨ws 0 (by omega), br_t (by decide) ?_⟩
    unfold wY_fold_75
    refine ⟨ws 1 (by omega), ?_⟩
    exact K75 _ _ (fun z => (ds 0 (by omega)).trans (hD.2.2 0 (by omega)).1) (fun z => (ds 1 (by omega)).trans (hD.2.2 1 (by omega)).1)
end FO
end
section
/-! combine -/
def tz_mx (x y : Nat) : Nat := if x ≤ y then y else x
/-- axis i of both fits -/
def tz_cok (x y : Nat) : Prop := x = y ∨ x = 1 ∨ y = 1
theorem tz_mx1 {x y : Nat} (hx : 1 ≤ x) (hy : 1 ≤ y) (h : tz_cok x y) : x = tz_mx x y ∨ x = 1 := by
  unfold tz_mx
  rcases h with h | h | h
  · exact Or.inl (by split <;> omega)
  · exact Or.inr h
  · by_cases c : x = 1
    · exact Or.inr c
    · exact Or.inl (by rw [if_neg (by omega)])
theorem tz_mx2 {x y : Nat} (hx : 1 ≤ x) (hy : 1 ≤ y) (h : tz_cok x y) : y = tz_mx x y ∨ y = 1 := by
  unfold tz_mx
  rcases h with h | h | h
  · exact Or.inl (by split <;> omega)
  · by_cases c : y = 1
    · exact Or.inr c
    · exact Or.inl (by rw [if_pos (by omega)])
  · exact Or.inr h
theorem tz_alb {D : Nat → Nat} {r R i : Nat} (hr : r ≤ R) (hi : i < R) (hD : ∀ i, i < r → 1 ≤ D i ∧ D i ≤ 4) : 1 ≤ tz_al D r R i ∧ tz_al D r R i ≤ 4 := by
  unfold tz_al
  split
  · exact hD _ (by omega)
  · omega
section SPR
variable {D M : Nat → Nat} {r R e : Nat} {s s' : Nat → Int32}
def tz_cx (D M : Nat → Nat) (r R e j : Nat) : Nat := if D j = 1 then 0 else tz_dg M R e (j + (R - r))
theorem tz_al_hi {j : Nat} (hr : r ≤ R) : tz_al D r R (j + (R - r)) = D j := by
  unfold tz_al
  rw [if_pos (by omega)]
  exact congrArg D (by omega)
theorem tz_al_lo {i : Nat} (hi : i < R - r) : tz_al D r R i = 1 := by
  unfold tz_al
  rw [if_neg (by omega)]
theorem tz_cxlt (hr : r ≤ R) (hM : ∀ i, i < R → 1 ≤ M i) (hal : ∀ i, i < R → tz_al D r R i = M i ∨ tz_al D r R i = 1) {j : Nat} (hj : j < r) : tz_cx D M r R e j < D j := by
  unfold tz_cx
  by_cases c : D j = 1
  · rw [if_pos c, c]; decide
  · rw [if_neg c]
    have h := hal (j + (R - r)) (by omega)
    rw [tz_al_hi hr] at h
    have h2 : D j = M (j + (R - r)) := by rcases h with h | h; exact h; exact absurd h c
    rw [h2]
    exact tz_dglt (hM _ (by omega))
theorem tz_spfl0 : ∀ i, i ≤ R - r → ty_sp D r M R e i = 0
  | 0, _ => rfl
  | i + 1, h => by
    rw [ty_sps, tz_spfl0 i (by omega), tz_al_lo (by omega), if_pos rfl]
theorem tz_spfl (hr : r ≤ R) : ∀ j, j ≤ r → ty_sp D r M R e (j + (R - r)) = tz_fl D (tz_cx D M r R e) j
  | 0, _ => by rw [Nat.zero_add, tz_spfl0 _ (Nat.le_refl _)]; rfl
  | j + 1, h => by
    rw [show j + 1 + (R - r) = (j + (R - r)) + 1 from by omega, ty_sps, tz_spfl hr j (by omega), tz_al_hi hr, tz_fls]
    unfold tz_cx ty_ix
    rw [if_pos (show j + (R - r) < R by omega)]
theorem tz_splt (hr : r ≤ R) (hM : ∀ i, i < R → 1 ≤ M i) (hal : ∀ i, i < R → tz_al D r R i = M i ∨ tz_al D r R i = 1) : ty_sp D r M R e R < tz_el D r := by
  have := tz_spfl (D := D) (M := M) (e := e) hr r (Nat.le_refl _)
  rw [show r + (R - r) = R from by omega] at this
  rw [this]
  exact tz_fllt r (fun i hi => tz_cxlt hr hM hal hi)
theorem tz_splin0 {x : Nat → Nat} : ∀ i a, (∀ l, l < i → s' l = 0) → tz_lin x s' i a = a
  | 0, _, _ => rfl
  | i + 1, a, h => by
    rw [tz_lins, h i (by omega), Int32.mul_zero, Int32.add_zero]
    exact tz_splin0 i a (fun l hl => h l (by omega))
theorem tz_splin (hr : r ≤ R) (hM : ∀ i, i < R → 1 ≤ M i) (hal : ∀ i, i < R → tz_al D r R i = M i ∨ tz_al D r R i = 1) (hs : ∀ i, i < R → s' i = if R ≤ i + r ∧ D (i + r - R) = M i then s (i + r - R) else 0) : ∀ j a, j ≤ r → tz_lin (tz_dg M R e) s' (j + (R - r)) a = tz_lin (tz_cx D M r R e) s j a
  | 0, a, _ => by
    rw [Nat.zero_add]
    exact tz_splin0 _ a (fun l hl => by rw [hs l (by omega), if_neg (by omega)])
  | j + 1, a, h => by
    rw [show j + 1 + (R - r) = (j + (R - r)) + 1 from by omega, tz_lins, tz_splin hr hM hal hs j _ (by omega), tz_lins]
    have key : nI (tz_dg M R e (j + (R - r))) * s' (j + (R - r)) = nI (tz_cx D M r R e j) * s j := by
      have ej : j + (R - r) + r - R = j := by omega
      rw [hs _ (by omega), ej]
      unfold tz_cx
      by_cases c : D j = M (j + (R - r))
      · rw [if_pos ⟨by omega, c⟩]
        by_cases c1 : D j = 1
        · rw [if_pos c1]
          have z : tz_dg M R e (j + (R - r)) < M (j + (R - r)) := tz_dglt (hM _ (by omega))
          rw [show tz_dg M R e (j + (R - r)) = 0 from by omega]
        · rw [if_neg c1]
      · rw [if_neg (fun z => c z.2)]
        have h2 := hal (j + (R - r)) (by omega)
        rw [tz_al_hi hr] at h2
        have h3 : D j = 1 := by rcases h2 with h | h; exact absurd h c; exact h
        rw [if_pos h3, nI_0, Int32.mul_zero, Int32.zero_mul]
    rw [key]
theorem tz_spad (hr : r ≤ R) (hM : ∀ i, i < R → 1 ≤ M i) (hal : ∀ i, i < R → tz_al D r R i = M i ∨ tz_al D r R i = 1) (hs : ∀ i, i < R → s' i = if R ≤ i + r ∧ D (i + r - R) = M i then s (i + r - R) else 0) (o : Int32) : tz_adl M s' R e o = tz_adl D s r (ty_sp D r M R e R) o := by
  have e1 := tz_spfl (D := D) (M := M) (e := e) hr r (Nat.le_refl _)
  have e2 := tz_splin (s := s) (s' := s') (e := e) hr hM hal hs r o (Nat.le_refl _)
  rw [show r + (R - r) = R from by omega] at e1 e2
  rw [e1, tz_adldg, e2, tz_adlfl r o (fun i hi => tz_cxlt hr hM hal hi)]
end SPR
section CMB
variable {xnc xfr xol xnw xtp xsc : Int32} {nod ofs rnk dmx stx its knd rfs siz oldr newr stt blw arn slo mvd sls : Nat → Int32}
variable {ycs ysc : Int32} {usd yrk yds shn tof vw exs ykd fst snd own prt pct val ysl ord ysls : Nat → Int32}
theorem tx_alal {post : Int32 → Prop} {d r R i : Nat} {D : Nat → Nat} (hd : d < 120) (h : tx_Dx rnk dmx d r D) (hR : R ≤ 3) (hi : i < R) (H : post (nI (tz_al D r R i))) : wpX_along post (xnc, xfr, xol, xnw, xtp, xsc, nod, ofs, rnk, dmx, stx, its, knd, rfs, siz, oldr, newr, stt, blw, arn, slo, mvd, sls) (nI d) (nI i - nI R) := by
  have hr := h.2.1
  by_cases c : R ≤ i + r
  · have e1 : tz_al D r R i = D (i + r - R) := if_pos c
    rw [e1] at H
    exact tx_al hd h (j := i + r - R) (by omega) (by rw [tz_alsub', pk_sub c]) H
  · have e1 : tz_al D r R i = 1 := if_neg c
    rw [e1] at H
    refine tx_al1 hd h ?_ H
    rw [tz_alsub', Int32.not_le]
    exact pk_sneg (by omega) (by omega)
theorem tx_cb85 {post : Int32 → SX → Prop} {h g v rh rg R : Nat} {Dh Dg : Nat → Nat} {x1 : Int32} {dmx0 : Nat → Int32} (hh : h < 24) (hg : g < 24) (hv : v < 24) (hhv : h ≠ v) (hgv : g ≠ v) (hR : R ≤ 3) (hrh : rh ≤ R) (hrg : rg ≤ R) (hD : tx_Dx rnk dmx0 h rh Dh) (hDg : tx_Dx rnk dmx0 g rg Dg)
    (Hok : ∀ dmx1, (∀ i, i < R → dmx1 (3 * v + i) = nI (tz_mx (tz_al Dh rh R i) (tz_al Dg rg R i))) → (∀ j, (j < 3 * v ∨ 3 * v + 3 ≤ j) → dmx1 j = dmx0 j) → (∀ i, i < R → tz_cok (tz_al Dh rh R i) (tz_al Dg rg R i)) → wX_combine_85 post x1 (nI h) (nI g) (nI v) (nI R) xnc xfr xol xnw xtp xsc 1 (nI R) nod ofs rnk dmx1 stx its knd rfs siz oldr newr stt blw arn slo mvd sls)
    (Hbad : ∀ dmx1, (∀ j, (j < 3 * v ∨ 3 * v + 3 ≤ j) → dmx1 j = dmx0 j) → (¬ ∀ i, i < R → tz_cok (tz_al Dh rh R i) (tz_al Dg rg R i)) → post (-1) (xnc, xfr, xol, xnw, xtp, xsc, nod, ofs, rnk, dmx1, stx, its, knd, rfs, siz, oldr, newr, stt, blw, arn, slo, mvd, sls)) :
    ∀ n i dmx, i ≤ R → R - i < n → (∀ j, j < i → dmx (3 * v + j) = nI (tz_mx (tz_al Dh rh R j) (tz_al Dg rg R j))) → (∀ j, j < i → tz_cok (tz_al Dh rh R j) (tz_al Dg rg R j)) → (∀ j, (j < 3 * v ∨ 3 * v + 3 ≤ j) → dmx j = dmx0 j) → wX_combine_85 post x1 (nI h) (nI g) (nI v) (nI R) xnc xfr xol xnw xtp xsc n (nI i) nod ofs rnk dmx stx its knd rfs siz oldr newr stt blw arn slo mvd sls := by
  intro n
  induction n with
  | zero => intro i dmx _ h; omega
  | succ n ih =>
    intro i dmx h1 h2 h3 h4 h5
    by_cases q : i < R
    · have hb1 := tz_alb (i := i) hrh q (fun i hi => (hD.2.2 i hi).2)
      have hb2 := tz_alb (i := i) hrg q (fun i hi => (hDg.2.2 i hi).2)
      have D1 : tx_Dx rnk dmx h rh Dh := tx_Dx_fr hD rfl (fun i hi => h5 _ (by omega))
      have D2 : tx_Dx rnk dmx g rg Dg := tx_Dx_fr hDg rfl (fun i hi => h5 _ (by omega))
      have fin : ∀ y : Nat, y ≤ 4 → y = tz_mx (tz_al Dh rh R i) (tz_al Dg rg R i) → tz_cok (tz_al Dh rh R i) (tz_al Dg rg R i) → (vp_in (nI v * 3 + nI i) 360 ∧ ∀ a, a = upd dmx (nI v * 3 + nI i).toNatClampNeg (vp_nar .byte (nI y).toInt8.toInt32) → ∀ z, z = nI i + 1 → wX_combine_85 post x1 (nI h) (nI g) (nI v) (nI R) xnc xfr xol xnw xtp xsc n z nod ofs rnk a stx its knd rfs siz oldr newr stt blw arn slo mvd sls) := by
        intro y hy4 hy ok
        simp (disch := omega) only [tz_3n, nI_add, nI_1, vp_in_nI, nI_clamp, tz_b8, tz_nb, forall_eq, true_and]
        refine ih (i + 1) _ (by omega) (by omega) (fun j hj => ?_) (fun j hj => ?_) (fun j hj => ?_)
        · by_cases z : j = i
          · subst z; rw [pk_us, hy]
          · rw [pk_un (by omega)]; exact h3 j (by omega)
        · by_cases z : j = i
          · subst z; exact ok
          · exact h4 j (by omega)
        · rw [pk_un (by omega)]; exact h5 j hj
      have step : tz_cok (tz_al Dh rh R i) (tz_al Dg rg R i) → wX_combine_137 post (wX_combine_85 post x1 (nI h) (nI g) (nI v) (nI R) xnc xfr xol xnw xtp xsc n) x1 (nI h) (nI g) (nI v) (nI R) (nI i) (nI (tz_al Dh rh R i)) (nI (tz_al Dg rg R i)) xnc xfr xol xnw xtp xsc nod ofs rnk dmx stx its knd rfs siz oldr newr stt blw arn slo mvd sls := by
        intro ok
        unfold wX_combine_137
        refine pk_le _ _ (fun z => ?_) (fun z => ?_) rfl rfl (by omega) (by omega)
        · exact fin _ hb2.2 (by unfold tz_mx; rw [if_pos z]) ok
        · exact fin _ hb1.2 (by unfold tz_mx; rw [if_neg (by omega)]) ok
      unfold wX_combine_85
      refine br_f (nI_ge q (by omega)) ?_
      refine tx_alal (by omega) D1 hR q ?_
      refine tx_alal (by omega) D2 hR q ?_
      refine pk_eq _ _ (fun z => step (Or.inl z)) (fun z1 => pk_eq _ 1 (fun z => step (Or.inr (Or.inl z))) (fun z2 => pk_eq _ 1 (fun z => step (Or.inr (Or.inr z))) (fun z3 => ?_) rfl rfl (by omega) (by omega)) rfl rfl (by omega) (by omega)) rfl rfl (by omega) (by omega)
      exact Hbad dmx h5 (fun w => by rcases w i q with z | z | z; exact z1 z; exact z2 z; exact z3 z)
    · have qe : i = R := by omega
      subst qe
      have c1 : nI i ≤ nI i := Int32.le_refl _
      have K := Hok dmx h3 h5 h4
      unfold wX_combine_85 at K ⊢
      exact br_t c1 (K.1 c1)
theorem ty_cb71 {post : Int32 → SY → Prop} {h g rh rg R : Nat} {Dh Dg : Nat → Nat} {x1 : Int32} {yds0 : Nat → Int32} (hh : h < 24) (hg : g < 24) (hR : R ≤ 3) (hrh : rh ≤ R) (hrg : rg ≤ R) (hD : tx_Dx yrk yds0 h rh Dh) (hDg : tx_Dx yrk yds0 g rg Dg)
    (Hok : ∀ yds1, (∀ i, i < R → yds1 (72 + i) = nI (tz_mx (tz_al Dh rh R i) (tz_al Dg rg R i))) → (∀ j, j < 72 → yds1 j = yds0 j) → (∀ i, i < R → tz_cok (tz_al Dh rh R i) (tz_al Dg rg R i)) → wY_combine_71 post x1 (nI h) (nI g) (nI R) ycs ysc 1 (nI R) usd yrk yds1 shn tof vw exs ykd fst snd own prt pct val ysl ord ysls)
    (Hbad : ∀ yds1, (∀ j, j < 72 → yds1 j = yds0 j) → (¬ ∀ i, i < R → tz_cok (tz_al Dh rh R i) (tz_al Dg rg R i)) → post (-1) (ycs, ysc, usd, yrk, yds1, shn, tof, vw, exs, ykd, fst, snd, own, prt, pct, val, ysl, ord, ysls)) :
    ∀ n i yds, i ≤ R → R - i < n → (∀ j, j < i → yds (72 + j) = nI (tz_mx (tz_al Dh rh R j) (tz_al Dg rg R j))) → (∀ j, j < i → tz_cok (tz_al Dh rh R j) (tz_al Dg rg R j)) → (∀ j, j < 72 → yds j = yds0 j) → wY_combine_71 post x1 (nI h) (nI g) (nI R) ycs ysc n (nI i) usd yrk yds shn tof vw exs ykd fst snd own prt pct val ysl ord ysls := by
  intro n
  induction n with
  | zero => intro i yds _ h; omega
  | succ n ih =>
    intro i yds h1 h2 h3 h4 h5
    by_cases q : i < R
    · have hb1 := tz_alb (i := i) hrh q (fun i hi => (hD.2.2 i hi).2)
      have hb2 := tz_alb (i := i) hrg q (fun i hi => (hDg.2.2 i hi).2)
      have D1 : tx_Dx yrk yds h rh Dh := tx_Dx_fr hD rfl (fun i hi => h5 _ (by omega))
      have D2 : tx_Dx yrk yds g rg Dg := tx_Dx_fr hDg rfl (fun i hi => h5 _ (by omega))
      have fin : ∀ y : Nat, y ≤ 4 → y = tz_mx (tz_al Dh rh R i) (tz_al Dg rg R i) → tz_cok (tz_al Dh rh R i) (tz_al Dg rg R i) → (vp_in (72 + nI i) 75 ∧ ∀ a, a = upd yds (72 + nI i).toNatClampNeg (vp_nar .byte (nI y).toInt8.toInt32) → ∀ z, z = nI i + 1 → wY_combine_71 post x1 (nI h) (nI g) (nI R) ycs ysc n z usd yrk a shn tof vw exs ykd fst snd own prt pct val ysl ord ysls) := by
        intro y hy4 hy ok
        simp (disch := omega) only [tz_72a, nI_1, vp_in_nI, nI_clamp, tz_b8, tz_nb, forall_eq, true_and]
        refine ih (i + 1) _ (by omega) (by omega) (fun j hj => ?_) (fun j hj => ?_) (fun j hj => ?_)
        · by_cases z : j = i
          · subst z; rw [pk_us, hy]
          · rw [pk_un (by omega)]; exact h3 j (by omega)
        · by_cases z : j = i
          · subst z; exact ok
          · exact h4 j (by omega)
        · rw [pk_un (by omega)]; exact h5 j hj
      have step : tz_cok (tz_al Dh rh R i) (tz_al Dg rg R i) → wY_combine_121 post (wY_combine_71 post x1 (nI h) (nI g) (nI R) ycs ysc n) x1 (nI h) (nI g) (nI R) (nI i) (nI (tz_al Dh rh R i)) (nI (tz_al Dg rg R i)) ycs ysc usd yrk yds shn tof vw exs ykd fst snd own prt pct val ysl ord ysls := by
        intro ok
        unfold wY_combine_121
        refine pk_le _ _ (fun z => ?_) (fun z => ?_) rfl rfl (by omega) (by omega)
        · exact fin _ hb2.2 (by unfold tz_mx; rw [if_pos z]) ok
        · exact fin _ hb1.2 (by unfold tz_mx; rw [if_neg (by omega)]) ok
      unfold wY_combine_71
      refine br_f (nI_ge q (by omega)) ?_
      refine ty_aligned (by omega) D1 hR q ?_
      refine ty_aligned (by omega) D2 hR q ?_
      refine pk_eq _ _ (fun z => step (Or.inl z)) (fun z1 => pk_eq _ 1 (fun z => step (Or.inr (Or.inl z))) (fun z2 => pk_eq _ 1 (fun z => step (Or.inr (Or.inr z))) (fun z3 => ?_) rfl rfl (by omega) (by omega)) rfl rfl (by omega) (by omega)) rfl rfl (by omega) (by omega)
      exact Hbad yds h5 (fun w => by rcases w i q with z | z | z; exact z1 z; exact z2 z; exact z3 z)
    · have qe : i = R := by omega
      subst qe
      have c1 : nI i ≤ nI i := Int32.le_refl _
      have K := Hok yds h3 h5 h4
      unfold wY_combine_71 at K ⊢
      exact br_t c1 (K.1 c1)
/-- two parts an element, by the spread places -/
def tz_cq (shn : Nat → Int32) (h g : Nat) (Dh : Nat → Nat) (rh : Nat) (Dg : Nat → Nat) (rg : Nat) (M : Nat → Nat) (R e l : Nat) : Nat := if l = 0 then (shn (64 * h + ty_sp Dh rh M R e R)).toNatClampNeg else (shn (64 * g + ty_sp Dg rg M R e R)).toNatClampNeg
theorem ty_cb191 {post : Int32 → SY → Prop} {h g rh rg R cnt t v : Nat} {Dh Dg M : Nat → Nat} {nc : Nat → Nat} {prt0 pct0 : Nat → Int32} (hh : h < 24) (hg : g < 24) (hD : tx_Dx yrk yds h rh Dh) (hDg : tx_Dx yrk yds g rg Dg) (hN : tx_Dx yrk yds 24 R M) (hrh : rh ≤ R) (hrg : rg ≤ R) (alh : ∀ i, i < R → tz_al Dh rh R i = M i ∨ tz_al Dh rh R i = 1) (alg : ∀ i, i < R → tz_al Dg rg R i = M i ∨ tz_al Dg rg R i = 1) (hc64 : cnt ≤ 64) (inj : ∀ a b, a < cnt → b < cnt → nc a = nc b → a = b) (hnc : ∀ e, e < cnt → nc e < 320 ∧ shn (1536 + e) = nI (nc e))
    (hch : ∀ E, E < tz_el Dh rh → ∃ c, c < 320 ∧ shn (64 * h + E) = nI c) (hcg : ∀ E, E < tz_el Dg rg → ∃ c, c < 320 ∧ shn (64 * g + E) = nI c)
    (hv : v < 24) (ht : t < 32) (hu : ∀ j, j < v → ¬ usd j = 0) (hf : usd v = 0)
    (H : ∀ prt1 pct1 shn2, ty_Pi nc cnt 2 (tz_cq shn h g Dh rh Dg rg M R) prt0 pct0 cnt 0 prt1 pct1 → (∀ e, e < 64 → shn2 (64 * v + e) = vp_nar .short (shn (1536 + e))) → (∀ j, (j < 64 * v ∨ 64 * v + 64 ≤ j) → shn2 j = shn j) → post (nI v) (ycs, ysc, upd usd v 1, upd yrk v (vp_nar .byte (yrk 24)), ty_cp3 yds v, shn2, upd tof v (nI t), upd vw v 0, exs, ykd, fst, snd, own, prt1, pct1, val, ysl, ord, ysls)) :
    ∀ m e prt pct, e ≤ cnt → cnt - e < m → ty_Pi nc cnt 2 (tz_cq shn h g Dh rh Dg rg M R) prt0 pct0 e 0 prt pct → wY_combine_191 post (nI h) (nI g) (nI t) (nI cnt) m (nI e) ycs ysc usd yrk yds shn tof vw exs ykd fst snd own prt pct val ysl ord ysls := by
  have hM : ∀ i, i < R → 1 ≤ M i := fun i hi => (hN.2.2 i hi).2.1
  have b1 := hD.el.2
  have b2 := hDg.el.2
  intro m
  induction m with
  | zero => intro e prt pct _ h; omega
  | succ m ih =>
    intro e prt pct h1 h2 h3
    by_cases c : e < cnt
    · obtain ⟨n1, n2⟩ := hnc e c
      have l1 := tz_splt (e := e) hrh hM alh
      have l2 := tz_splt (e := e) hrg hM alg
      obtain ⟨w1, w11, w12⟩ := hch _ l1
      obtain ⟨w2, w21, w22⟩ := hcg _ l2
      have q1 : tz_cq shn h g Dh rh Dg rg M R e 0 = w1 := by
        unfold tz_cq
        rw [if_pos rfl, w12, nI_clamp (by omega)]
      have q2 : tz_cq shn h g Dh rh Dg rg M R e 1 = w2 := by
        unfold tz_cq
        rw [if_neg (by decide), w22, nI_clamp (by omega)]
      have s1 := ty_Pi_s inj c (show 0 < 2 by omega) (by omega) h3
      rw [q1] at s1
      have s2 := ty_Pi_s inj c (show 0 + 1 < 2 by omega) (by omega) s1
      rw [show 0 + 1 = 1 from rfl, q2] at s2
      unfold wY_combine_191
      refine br_f (nI_ge c (by omega)) ?_
      refine ty_spread (by omega) hD hN (by omega) (by omega) ?_
      refine ty_spread (by omega) hDg hN (by omega) (by omega) ?_
      rw [w12, w22]
      refine ty_part (by omega) n2 n1 (h3.2.1 c).1 (by omega) w11 ?_
      refine ty_part (by omega) n2 n1 (s1.2.1 c).1 (by omega) w21 ?_
      refine nm_r (nI_1 e) (ih (e + 1) _ _ (by omega) (by omega) ?_)
      exact ty_Pi_n c s2
    · have ce : e = cnt := by omega
      subst ce
      exact br_t (Int32.le_refl _) (ty_handOver hv ht hu hf rfl (fun shn2 a1 a2 => H _ _ shn2 h3 a1 a2))
end CMB
end
section
/-! the constructors; live, slope, shape -/
section INI
variable {xnc xfr xol xnw xtp xsc : Int32} {nod ofs rnk dmx stx its knd rfs siz oldr newr stt blw arn slo mvd sls : Nat → Int32}
variable {ycs ysc : Int32} {usd yrk yds shn tof vw exs ykd fst snd own prt pct val ysl ord ysls : Nat → Int32}
theorem tx_init156 {post : SX → Prop} (H : ∀ nod', (∀ i, i < 24 → nod' i = -1) → post (xnc, xfr, xol, xnw, xtp, xsc, nod', ofs, rnk, dmx, stx, its, knd, rfs, siz, oldr, newr, stt, blw, arn, slo, mvd, sls)) : ∀ n j nod, j ≤ 24 → 24 - j < n → (∀ i, i < j → nod i = -1) → wX_init_156 post xnc xfr xol xnw xtp xsc n (nI j) nod ofs rnk dmx stx its knd rfs siz oldr newr stt blw arn slo mvd sls := by
  intro n
  induction n with
  | zero => intro j nod _ h; omega
  | succ n ih =>
    intro j nod h1 h2 h3
    by_cases c : j < 24
    · have c1 : ¬ (24 : Int32) ≤ nI j := nI_ge (b := 24) c (by decide)
      simp (disch := omega) only [wX_init_156, c1, tz_nbm, forall_eq, nI_leI, nI_ltI, nI_eq, vp_in_nI, nI_clamp, nI_1, true_implies, forall_const, not_true_eq_false, not_false_eq_true, false_implies, and_true, true_and, implies_true, and_self]
      refine ih (j + 1) _ (by omega) (by omega) (fun i hi => ?_)
      by_cases q : i = j
      · subst q; rw [pk_us]
      · rw [pk_un q]; exact h3 i (by omega)
    · have ce : j = 24 := by omega
      subst ce
      exact br_t (nI_le (a := 24) (Nat.le_refl _) (by decide)) (H _ h3)
theorem ty_init159 {post : SY → Prop} (H : ∀ own', (∀ i, i < 320 → own' i = -1) → post (ycs, ysc, usd, yrk, yds, shn, tof, vw, exs, ykd, fst, snd, own', prt, pct, val, ysl, ord, ysls)) : ∀ n j own, j ≤ 320 → 320 - j < n → (∀ i, i < j → own i = -1) → wY_init_159 post ycs ysc n (nI j) usd yrk yds shn tof vw exs ykd fst snd own prt pct val ysl ord ysls := by
  intro n
  induction n with
  | zero => intro j own _ h; omega
  | succ n ih =>
    intro j own h1 h2 h3
    by_cases c : j < 320
    · have c1 : ¬ (320 : Int32) ≤ nI j := nI_ge (b := 320) c (by decide)
      simp (disch := omega) only [wY_init_159, c1, tz_nbm, forall_eq, nI_leI, nI_ltI, nI_eq, vp_in_nI, nI_clamp, nI_1, true_implies, forall_const, not_true_eq_false, not_false_eq_true, false_implies, and_true, true_and, implies_true, and_self]
      refine ih (j + 1) _ (by omega) (by omega) (fun i hi => ?_)
      by_cases q : i = j
      · subst q; rw [pk_us]
      · rw [pk_un q]; exact h3 i (by omega)
    · have ce : j = 320 := by omega
      subst ce
      exact br_t (nI_le (a := 320) (Nat.le_refl _) (by decide)) (H _ h3)
end INI
theorem i_vc0 : wpX_init (fun u => wpY_init (fun v => i_Rel 0 u v)) := by
  refine ⟨25, tx_init156 ?_ 25 0 _ (by omega) (by omega) (fun i hi => by omega)⟩
  intro nod' hn
  refine ⟨321, ty_init159 ?_ 321 0 _ (by omega) (by omega) (fun i hi => by omega)⟩
  intro own' ho
  refine ⟨0, fun _ => 0, fun _ => 0, fun _ => 0, fun _ => 0, fun _ _ => 0, fun _ => 0, ?_, ?_, ?_, ?_, ?_, ?_, ?_⟩
  · refine ⟨⟨by omega, rfl, rfl, by show 0 ≤ 320; omega, rfl, rfl⟩, fun n h => absurd rfl h, fun i h => by omega, fun n _ => ⟨rfl, Nat.zero_le _⟩, fun n h => absurd rfl h, fun i h => by omega⟩
  · refine ⟨rfl, fun n e h => absurd rfl h, fun n e e' h => absurd rfl h, fun i e h => by omega, fun c hc => Or.inl (ho c hc), ?_, fun n _ => rfl, fun n h => absurd rfl h⟩
    exact tz_cnz 320 (fun i hi => by rw [ho i hi]; rfl)
  · exact fun h hh => Or.inl ⟨hn h hh, rfl⟩
  · exact fun n h => absurd rfl h
  · exact fun n h => absurd rfl h
  · exact ⟨fun n e h => absurd (show (0 : Nat) = 1 from h) (by decide), fun n h => absurd (show (0 : Nat) = 1 from h) (by decide), fun n e h => absurd rfl h, fun n e h => absurd (show (2 : Nat) ≤ 0 from h) (by decide)⟩
  · exact ⟨0, by omega, rfl, rfl, fun i h => by omega⟩
theorem i_vc_live {k : Nat} {u : SX} {v : SY} (I : i_Rel k u v) (hk : k + 5 ≤ 2560) : wpX_live (fun r => wpY_live (fun r' => r' = r ∧ i_Rel (k + 5) u v) v) u := by
  have J := I
  obtain ⟨xnc, xfr, xol, xnw, xtp, xsc, nod, ofs, rnk, dmx, stx, its, knd, rfs, siz, oldr, newr, stt, blw, arn, slo, mvd, sls⟩ := u
  obtain ⟨ycs, ysc, usd, yrk, yds, shn, tof, vw, exs, ykd, fst, snd, own, prt, pct, val, ysl, ord, ysls⟩ := v
  obtain ⟨N, nd, ag, kd, sz, cl, V, S, C, -⟩ := I
  exact ⟨C.1.trans S.1.2.2.1.symm, J⟩
theorem i_vc_slope {k : Nat} {u : SX} {v : SY} (I : i_Rel k u v) (hk : k + 5 ≤ 2560) (v1 : Int32) : wpX_slope (fun r => wpY_slope (fun r' => r' = r ∧ i_Rel (k + 5) u v) v v1) u v1 := by
  have J := I
  obtain ⟨xnc, xfr, xol, xnw, xtp, xsc, nod, ofs, rnk, dmx, stx, its, knd, rfs, siz, oldr, newr, stt, blw, arn, slo, mvd, sls⟩ := u
  obtain ⟨ycs, ysc, usd, yrk, yds, shn, tof, vw, exs, ykd, fst, snd, own, prt, pct, val, ysl, ord, ysls⟩ := v
  obtain ⟨N, nd, ag, kd, sz, cl, V, -, -, -, -, -, -, L, hL, rfl, rfl, h⟩ := I
  by_cases h0 : v1 < 0
  · exact br_t h0 (br_t h0 ⟨rfl, J⟩)
  · obtain ⟨j, hj, rfl⟩ := nI_of h0
    by_cases h1 : j < L
    · have q : nI j < nI L := nI_lt h1 (by omega)
      have w : vp_in (nI j) 64 := vp_in_nI (by omega) (by omega)
      exact br_f h0 (br_t q ⟨w, br_f h0 (br_t q ⟨w, by rw [nI_clamp (by omega)]; exact h j h1, J⟩)⟩)
    · have q : ¬ nI j < nI L := nI_nlt (by omega) (by omega)
      exact br_f h0 (br_f q (br_f h0 (br_f q ⟨rfl, J⟩)))
/-- the shape packed -/
def tz_pk (D : Nat → Nat) (r : Nat) : Nat → Nat
  | 0 => r
  | i + 1 => tz_pk D r i + D i * 2 ^ (3 + 3 * i)
theorem tz_pks (D : Nat → Nat) (r i : Nat) : tz_pk D r (i + 1) = tz_pk D r i + D i * 2 ^ (3 + 3 * i) := rfl
theorem tz_pkb {D : Nat → Nat} {r : Nat} (hr : r ≤ 3) : ∀ i, i ≤ r → (∀ a, a < r → D a ≤ 4) → tz_pk D r i < 2 ^ (3 + 3 * i)
  | 0, _, _ => by show r < 8; omega
  | i + 1, h, hD => by
    have ih := tz_pkb hr i (by omega) hD
    have hd := hD i (by omega)
    have e8 : 2 ^ (3 + 3 * (i + 1)) = 2 ^ (3 + 3 * i) * 8 := by
      rw [show 3 + 3 * (i + 1) = (3 + 3 * i) + 3 from by omega, Nat.pow_add 2 (3 + 3 * i) 3]
    rw [tz_pks, e8]
    have : D i * 2 ^ (3 + 3 * i) ≤ 4 * 2 ^ (3 + 3 * i) := Nat.mul_le_mul_right _ hd
    omega
theorem tz_shc' : ∀ i, i < 3 → (((3 * (nI i + 1)) &&& 31).toBitVec.smod 32).toNat = 3 + 3 * i := by decide +kernel
theorem tz_or (a b : Nat) : nI a ||| nI b = nI (a ||| b) := by
  apply Int32.toBitVec_inj.1
  show BitVec.ofNat 32 a ||| BitVec.ofNat 32 b = BitVec.ofNat 32 (a ||| b)
  apply BitVec.eq_of_getLsbD_eq
  intro i hi
  simp [hi]
theorem tz_pkor {a b k : Nat} (h : a < 2 ^ k) : nI a ||| nI (b * 2 ^ k) = nI (a + b * 2 ^ k) := by
  rw [tz_or]
  have := Nat.two_pow_add_eq_or_of_lt h b
  rw [Nat.or_comm, Nat.mul_comm b, ← this, Nat.add_comm]
theorem tz_3pow {i : Nat} (h : i < 3) : 2 ^ (3 + 3 * i) ≤ 512 := by
  rcases (by omega : i = 0 ∨ i = 1 ∨ i = 2) with rfl | rfl | rfl <;> decide
section SHP
variable {xnc xfr xol xnw xtp xsc : Int32} {nod ofs rnk dmx stx its knd rfs siz oldr newr stt blw arn slo mvd sls : Nat → Int32}
variable {ycs ysc : Int32} {usd yrk yds shn tof vw exs ykd fst snd own prt pct val ysl ord ysls : Nat → Int32}
theorem tx_sh19 {post : Int32 → Prop} {d r : Nat} {D : Nat → Nat} (hd : d < 120) (h : tx_Dx rnk dmx d r D) (H : post (nI (tz_pk D r r))) : ∀ n i, i ≤ r → r - i < n → wX_shape_19 post (nI d) xnc xfr xol xnw xtp xsc nod ofs rnk dmx stx its knd rfs siz oldr newr stt blw arn slo mvd sls n (nI (tz_pk D r i)) (nI i) := by
  obtain ⟨hr, hr3, hD⟩ := h
  intro n
  induction n with
  | zero => intro i _ h; omega
  | succ n ih =>
    intro i h1 h2
    by_cases e : i < r
    · have hDi := hD i e
      have e2 : ¬ r ≤ i := by omega
      have p1 := tz_3pow (i := i) (by omega)
      have p2 : D i * 2 ^ (3 + 3 * i) ≤ 4 * 512 := Nat.mul_le_mul hDi.2.2 p1
      have e3 : nI (D i) <<< ((3 + nI i * 3) &&& 31) = nI (D i * 2 ^ (3 + 3 * i)) := pk_shlN _ (3 + 3 * i) (tz_shc i (by omega)) (by omega)
      have e4 : nI (tz_pk D r i) ||| nI (D i * 2 ^ (3 + 3 * i)) = nI (tz_pk D r (i + 1)) := tz_pkor (tz_pkb hr3 i (by omega) (fun a ha => (hD a ha).2.2))
      simp (disch := omega) only [wX_shape_19, e3, e4, tz_3n, nI_add, hr, hDi.1, e2, forall_eq, nI_leI, nI_ltI, nI_eq, vp_in_nI, nI_clamp, nI_1, true_implies, forall_const, not_true_eq_false, not_false_eq_true, false_implies, and_true, true_and, implies_true, and_self]
      rw [← tz_3n, e3, e4]
      exact ih (i + 1) (by omega) (by omega)
    · have e3 : i = r := by omega
      subst e3
      simp (disch := omega) only [wX_shape_19, hr, Nat.le_refl, forall_eq, nI_leI, nI_ltI, nI_eq, vp_in_nI, nI_clamp, nI_1, true_implies, forall_const, not_true_eq_false, not_false_eq_true, false_implies, and_true, true_and, implies_true, and_self]
      exact H
theorem tx_shape {post : Int32 → Prop} {d r : Nat} {D : Nat → Nat} (hd : d < 24) (hn : ¬ nod d < 0) (h : tx_Dx rnk dmx d r D) (H : post (nI (tz_pk D r r))) : wpX_shape post (xnc, xfr, xol, xnw, xtp, xsc, nod, ofs, rnk, dmx, stx, its, knd, rfs, siz, oldr, newr, stt, blw, arn, slo, mvd, sls) (nI d) := by
  have hr := h.1
  have hr3 := h.2.1
  unfold wpX_shape
  refine tx_is1 hd hn (br_f (by decide) ⟨vp_in_nI (by omega) (by omega), ?_⟩)
  rw [nI_clamp (by omega)]
  exact nm_r hr ⟨4, tx_sh19 (by omega) h H 4 0 (by omega) (by omega)⟩
theorem ty_sh19 {post : Int32 → Prop} {d r : Nat} {D : Nat → Nat} (hd : d < 25) (h : tx_Dx yrk yds d r D) (H : post (nI (tz_pk D r r))) : ∀ n i, i ≤ r → r - i < n → wY_shape_19 post (nI d) ycs ysc usd yrk yds shn tof vw exs ykd fst snd own prt pct val ysl ord ysls n (nI (tz_pk D r i)) (nI i) := by
  obtain ⟨hr, hr3, hD⟩ := h
  intro n
  induction n with
  | zero => intro i _ h; omega
  | succ n ih =>
    intro i h1 h2
    by_cases e : i < r
    · have hDi := hD i e
      have e2 : ¬ r ≤ i := by omega
      have p1 := tz_3pow (i := i) (by omega)
      have p2 : D i * 2 ^ (3 + 3 * i) ≤ 4 * 512 := Nat.mul_le_mul hDi.2.2 p1
      have e3 : nI (D i) <<< ((3 * (nI i + 1)) &&& 31) = nI (D i * 2 ^ (3 + 3 * i)) := pk_shlN _ (3 + 3 * i) (tz_shc' i (by omega)) (by omega)
      unfold wY_shape_19
      refine ⟨vp_in_nI (by omega) (by omega), ?_⟩
      rw [nI_clamp (by omega), hr]
      refine br_f (nI_ge e (by omega)) (ty_dim hd (by omega) hDi.1 ?_)
      rw [e3, nI_add, ← tz_pks, nI_1]
      exact nm_e (nm_e (ih (i + 1) (by omega) (by omega)))
    · have e3 : i = r := by omega
      subst e3
      simp (disch := omega) only [wY_shape_19, hr, Nat.le_refl, forall_eq, nI_leI, nI_ltI, nI_eq, vp_in_nI, nI_clamp, nI_1, true_implies, forall_const, not_true_eq_false, not_false_eq_true, false_implies, and_true, true_and, implies_true, and_self]
      exact H
theorem ty_shape {post : Int32 → Prop} {d r : Nat} {D : Nat → Nat} (hd : d < 24) (hn : ¬ usd d = 0) (h : tx_Dx yrk yds d r D) (H : post (nI (tz_pk D r r))) : wpY_shape post (ycs, ysc, usd, yrk, yds, shn, tof, vw, exs, ykd, fst, snd, own, prt, pct, val, ysl, ord, ysls) (nI d) := by
  have hr := h.1
  have hr3 := h.2.1
  unfold wpY_shape
  refine ty_is1 hd hn (br_f (by decide) ⟨vp_in_nI (by omega) (by omega), ?_⟩)
  rw [nI_clamp (by omega)]
  exact nm_r hr ⟨4, ty_sh19 (by omega) h H 4 0 (by omega) (by omega)⟩
end SHP
theorem i_vc_shape {k : Nat} {u : SX} {v : SY} (I : i_Rel k u v) (hk : k + 5 ≤ 2560) (v1 : Int32) : wpX_shape (fun r => wpY_shape (fun r' => r' = r ∧ i_Rel (k + 5) u v) v v1) u v1 := by
  have J := I
  obtain ⟨xnc, xfr, xol, xnw, xtp, xsc, nod, ofs, rnk, dmx, stx, its, knd, rfs, siz, oldr, newr, stt, blw, arn, slo, mvd, sls⟩ := u
  obtain ⟨ycs, ysc, usd, yrk, yds, shn, tof, vw, exs, ykd, fst, snd, own, prt, pct, val, ysl, ord, ysls⟩ := v
  obtain ⟨N, nd, ag, kd, sz, cl, V, S, C, H, Ns, R, Va, L⟩ := I
  rcases tr_hd (xnc := xnc) (xfr := xfr) (xol := xol) (xnw := xnw) (xtp := xtp) (xsc := xsc) (nod := nod) (ofs := ofs) (rnk := rnk) (dmx := dmx) (stx := stx) (its := its) (knd := knd) (rfs := rfs) (siz := siz) (oldr := oldr) (newr := newr) (stt := stt) (blw := blw) (arn := arn) (slo := slo) (mvd := mvd) (sls := sls) (ycs := ycs) (ysc := ysc) (usd := usd) (yrk := yrk) (yds := yds) (shn := shn) (tof := tof) (vw := vw) (exs := exs) (ykd := ykd) (fst := fst) (snd := snd) (own := own) (prt := prt) (pct := pct) (val := val) (ysl := ysl) (ord := ord) (ysls := ysls) H v1 with ⟨hx, hy⟩ | ⟨h, n, r, D, hh, rfl, q⟩
  · unfold wpX_shape
    refine hx _ (br_t rfl ?_)
    unfold wpY_shape
    exact hy _ (br_t rfl ⟨rfl, J⟩)
  · have hn := (S.2.1 n q.1.2).1
    exact tx_shape hh (by rw [q.1.1]; exact nI_pos (by omega)) q.2.1 (ty_shape hh (by rw [q.2.2.2.1.1]; decide) q.2.2.2.1.2.2 ⟨rfl, J⟩)
end
section
theorem tx_ex_tp {A : Nat → Int32} {x : Nat → Int32} {d a b i r : Nat} (hx : ∀ i, i < r → A (3 * d + i) = x i ∧ vp_nar .byte (x i) = x i) (ha : a < r) (hb : b < r) (hi : i < r) : tx_ex A (3 * d + a) (3 * d + b) (3 * d + i) = x (tz_tp a b i) := by
  unfold tz_tp
  by_cases q2 : i = a
  · subst q2
    rw [if_pos rfl, tx_ex_i, (hx b hb).1, (hx b hb).2]
  · rw [if_neg q2]
    by_cases q1 : i = b
    · subst q1
      rw [if_pos rfl, tx_ex_j, (hx a ha).1, (hx a ha).2]
    · rw [if_neg q1, tx_ex_n (by omega) (by omega)]
      exact (hx i hi).1
theorem i_vc_transpose {k : Nat} {u : SX} {v : SY} (I : i_Rel k u v) (hk : k + 5 ≤ 2560) (v1 : Int32) (v2 : Int32) (v3 : Int32) : wpX_transpose (fun r u' => wpY_transpose (fun r' v' => r' = r ∧ i_Rel (k + 5) u' v') v v1 v2 v3) u v1 v2 v3 := by
  have J := I
  obtain ⟨xnc, xfr, xol, xnw, xtp, xsc, nod, ofs, rnk, dmx, stx, its, knd, rfs, siz, oldr, newr, stt, blw, arn, slo, mvd, sls⟩ := u
  obtain ⟨ycs, ysc, usd, yrk, yds, shn, tof, vw, exs, ykd, fst, snd, own, prt, pct, val, ysl, ord, ysls⟩ := v
  obtain ⟨N, nd, ag, kd, sz, cl, V, S, C, H, Ns, R, Va, L⟩ := I
  rcases tr_hd (xnc := xnc) (xfr := xfr) (xol := xol) (xnw := xnw) (xtp := xtp) (xsc := xsc) (nod := nod) (ofs := ofs) (rnk := rnk) (dmx := dmx) (stx := stx) (its := its) (knd := knd) (rfs := rfs) (siz := siz) (oldr := oldr) (newr := newr) (stt := stt) (blw := blw) (arn := arn) (slo := slo) (mvd := mvd) (sls := sls) (ycs := ycs) (ysc := ysc) (usd := usd) (yrk := yrk) (yds := yds) (shn := shn) (tof := tof) (vw := vw) (exs := exs) (ykd := ykd) (fst := fst) (snd := snd) (own := own) (prt := prt) (pct := pct) (val := val) (ysl := ysl) (ord := ord) (ysls := ysls) H v1 with ⟨hx, hy⟩ | ⟨h, n, r, D, hh, rfl, q⟩
  · unfold wpX_transpose
    refine hx _ (br_t rfl ?_)
    unfold wpY_transpose
    exact hy _ (br_t rfl ⟨rfl, J⟩)
  have hn := (S.2.1 n q.1.2).1
  have hr := q.2.1.1
  have hr3 := q.2.1.2.1
  have hry := q.2.2.2.1.2.2.1
  obtain ⟨isx, isy⟩ := tr_Ha.is (xnc := xnc) (xfr := xfr) (xol := xol) (xnw := xnw) (xtp := xtp) (xsc := xsc) (nod := nod) (ofs := ofs) (rnk := rnk) (dmx := dmx) (stx := stx) (its := its) (knd := knd) (rfs := rfs) (siz := siz) (oldr := oldr) (newr := newr) (stt := stt) (blw := blw) (arn := arn) (slo := slo) (mvd := mvd) (sls := sls) (ycs := ycs) (ysc := ysc) (usd := usd) (yrk := yrk) (yds := yds) (shn := shn) (tof := tof) (vw := vw) (exs := exs) (ykd := ykd) (fst := fst) (snd := snd) (own := own) (prt := prt) (pct := pct) (val := val) (ysl := ysl) (ord := ord) (ysls := ysls) S q hh
  by_cases c1 : v2 < 0
  · unfold wpX_transpose
    refine isx _ (br_f (by decide) (br_t c1 ?_))
    unfold wpY_transpose
    exact isy _ (br_f (by decide) (br_t c1 ⟨rfl, J⟩))
  by_cases c2 : v3 < 0
  · unfold wpX_transpose
    refine isx _ (br_f (by decide) (br_f c1 (br_t c2 ?_)))
    unfold wpY_transpose
    exact isy _ (br_f (by decide) (br_f c1 (br_t c2 ⟨rfl, J⟩)))
  obtain ⟨a, ha, rfl⟩ := nI_of c1
  obtain ⟨b, hb, rfl⟩ := nI_of c2
  have w1 : vp_in (nI h) 120 := vp_in_nI (by omega) (by omega)
  have w2 : vp_in (nI h) 25 := vp_in_nI (by omega) (by omega)
  have ex : rnk (nI h).toNatClampNeg = nI r := by rw [nI_clamp (by omega)]; exact hr
  have ey : yrk (nI h).toNatClampNeg = nI r := by rw [nI_clamp (by omega)]; exact hry
  by_cases c3 : r ≤ a
  · have d3 : nI r ≤ nI a := nI_le c3 ha
    unfold wpX_transpose
    refine isx _ (br_f (by decide) (br_f c1 (br_f c2 ⟨w1, br_t (by rw [ex]; exact d3) ?_⟩)))
    unfold wpY_transpose
    exact isy _ (br_f (by decide) (br_f c1 (br_f c2 ⟨w2, br_t (by rw [ey]; exact d3) ⟨rfl, J⟩⟩)))
  have d3 : ¬ nI r ≤ nI a := nI_ge (by omega) (by omega)
  by_cases c4 : r ≤ b
  · have d4 : nI r ≤ nI b := nI_le c4 hb
    unfold wpX_transpose
    refine isx _ (br_f (by decide) (br_f c1 (br_f c2 ⟨w1, br_f (by rw [ex]; exact d3) ⟨w1, br_f (by rw [ex]; exact nI_nlt c4 hb) ?_⟩⟩)))
    unfold wpY_transpose
    exact isy _ (br_f (by decide) (br_f c1 (br_f c2 ⟨w2, br_f (by rw [ey]; exact d3) ⟨w2, br_t (by rw [ey]; exact d4) ⟨rfl, J⟩⟩⟩)))
  have d4 : ¬ nI r ≤ nI b := nI_ge (by omega) (by omega)
  obtain ⟨v, hv, u1, u2, vf⟩ := tr_fh S H
  by_cases c5 : v = 24
  · subst c5
    unfold wpX_transpose
    refine isx _ (br_f (by decide) (br_f c1 (br_f c2 ⟨w1, br_f (by rw [ex]; exact d3) ⟨w1, br_t (by rw [ex]; exact nI_lt (by omega) (by omega)) ?_⟩⟩)))
    refine tx_view24 hh u1 (br_t (by decide) ?_)
    unfold wpY_transpose
    refine isy _ (br_f (by decide) (br_f c1 (br_f c2 ⟨w2, br_f (by rw [ey]; exact d3) ⟨w2, br_f (by rw [ey]; exact d4) (ty_fh (by omega) u2 (fun z => by omega) ?_)⟩⟩)))
    exact br_t rfl ⟨rfl, J⟩
  have hv24 : v < 24 := by omega
  have hvf := vf hv24
  have hvh : v ≠ h := fun z => by
    have e := q.1.1
    rw [← z, hvf.1] at e
    exact tz_nIm1 (by omega) e.symm
  have Rn := R n q.1.2
  have Rle := tr_rc_le (kd := kd) (nod := nod) n
  refine tx_transpose hh hv24 hvh u1 (by rw [hvf.1]; exact tz_m1lt) q.1.1 hn q.2.1 q.2.2.1 Rn.1 (by omega) (by omega) (by omega) ?_
  refine ty_transpose hh (by rw [q.2.2.2.1.1]; decide) q.2.2.2.1.2.2 (a := a) (b := b) (by omega) (by omega) ?_ q.2.2.2.1.2.1 hn hv24 u2 hvf.2 ?_
  · intro E hE
    obtain ⟨x, x1, x2, x3⟩ := q.2.2.2.2.1 E hE
    exact ⟨_, (C.2.1 n x q.1.2 x1).1, x3⟩
  · intro yrk1 yds1 shn1 y1 y2 y3
    have hdm : ∀ i, i < r → tx_cp dmx h v (3 * v + i) = nI (D i) ∧ vp_nar .byte (nI (D i)) = nI (D i) := by
      intro i hi
      have := q.2.1.2.2 i hi
      rw [tx_cp_t (by omega), this.1, tz_nb (by omega)]
      exact ⟨rfl, rfl⟩
    have hst : ∀ i, i < r → tx_cp stx h v (3 * v + i) = stx (3 * h + i) ∧ vp_nar .byte (stx (3 * h + i)) = stx (3 * h + i) := by
      intro i hi
      have := q.2.2.1.2 i hi
      rw [tx_cp_t (by omega), vp_nar_byte]
      exact ⟨this, this⟩
    obtain ⟨H', Ns', R'⟩ := tr_view (ofs1 := upd ofs v (ofs h)) (rnk1 := upd rnk v (nI r)) (dmx1 := tx_ex (tx_cp dmx h v) (3 * v + a) (3 * v + b)) (stx1 := tx_ex (tx_cp stx h v) (3 * v + a) (3 * v + b)) (yrk1 := yrk1) (yds1 := yds1) (shn1 := shn1) (r' := r) (D' := fun i => D (tz_tp a b i)) S H Ns R q hv24 hvf
      (fun d hd hdv => ⟨pk_un hdv, pk_un hdv, fun i hi => ⟨by rw [tx_ex_n (by omega) (by omega), tx_cp_d hdv hi], by rw [tx_ex_n (by omega) (by omega), tx_cp_d hdv hi]⟩⟩) y2
      ⟨pk_us, hr3, fun i hi => ⟨tx_ex_tp (x := fun i => nI (D i)) hdm (by omega) (by omega) hi, (q.2.1.2.2 _ (tz_tplt (by omega) (by omega) hi)).2⟩⟩
      ⟨by rw [pk_us]; exact q.2.2.1.1, fun i hi => by rw [tx_ex_tp (x := fun i => stx (3 * h + i)) hst (by omega) (by omega) hi]; exact q.2.2.1.2 _ (tz_tplt (by omega) (by omega) hi)⟩ y1
      (fun e he => ⟨tz_tpE D r a b e, tz_tpElt (by omega) (by omega) hr3 (fun i hi => (q.2.1.2.2 i hi).2.1), by
        rw [pk_us, ← tz_tpad (by omega) (by omega) hr3 (fun i hi => (q.2.1.2.2 i hi).2.1)]
        exact tz_adlc r _ _ (fun _ _ => rfl) (fun i hi => tx_ex_tp (x := fun i => stx (3 * h + i)) hst (by omega) (by omega) hi), y3 e he⟩)
    exact ⟨rfl, N, nd, ag, kd, sz, cl, V, S, C, H', Ns', R', Va, L⟩
end
section
theorem tz_lin0 {ax r : Nat} (hax : ax < r) (hr : r ≤ 3) (x : Nat → Nat) (s : Nat → Int32) (o : Int32) (hx : ∀ i, i ≠ ax → x i = 0) : tz_lin x s r o = o + nI (x ax) * s ax := by
  rcases (by omega : r = 1 ∨ r = 2 ∨ r = 3) with rfl | rfl | rfl
  · have h1 : ax = 0 := by omega
    subst h1
    rfl
  · rcases (by omega : ax = 0 ∨ ax = 1) with rfl | rfl
    · have a1 := hx 1 (by omega)
      simp only [tz_lin]
      rw [a1, nI_0]
      grind
    · have a1 := hx 0 (by omega)
      simp only [tz_lin]
      rw [a1, nI_0]
      grind
  · rcases (by omega : ax = 0 ∨ ax = 1 ∨ ax = 2) with rfl | rfl | rfl
    · have a1 := hx 1 (by omega)
      have a2 := hx 2 (by omega)
      simp only [tz_lin]
      rw [a1, a2, nI_0]
      grind
    · have a1 := hx 0 (by omega)
      have a2 := hx 2 (by omega)
      simp only [tz_lin]
      rw [a1, a2, nI_0]
      grind
    · have a1 := hx 0 (by omega)
      have a2 := hx 1 (by omega)
      simp only [tz_lin]
      rw [a1, a2, nI_0]
      grind
/-- the address of index j along the axis, 0 elsewhere, is a place in the node -/
theorem tr_ax {ofs stx : Nat → Int32} {h r ax j S : Nat} {D : Nat → Nat} (hr : r ≤ 3) (hax : ax < r) (hD : ∀ i, i < r → 1 ≤ D i) (hj : j < D ax) (hA : ∀ e, e < tz_el D r → ∃ a, a < S ∧ tx_Rd ofs stx h r D e a) : ∃ a, a < S ∧ ofs h + nI j * stx (3 * h + ax) = nI a := by
  have hx : ∀ i, i < r → tz_un (fun _ => 0) ax j i < D i := by
    intro i hi
    by_cases e : i = ax
    · subst e; rw [tz_un_s]; exact hj
    · rw [tz_un_n e]; exact hD i hi
  obtain ⟨a, a1, a2⟩ := hA _ (tz_fllt r hx)
  refine ⟨a, a1, ?_⟩
  unfold tx_Rd at a2
  rw [tz_adlfl r _ hx, tz_lin0 hax hr _ _ _ (fun i hi => tz_un_n hi), tz_un_s] at a2
  exact a2
theorem i_vc_slice {k : Nat} {u : SX} {v : SY} (I : i_Rel k u v) (hk : k + 5 ≤ 2560) (v1 : Int32) (v2 : Int32) (v3 : Int32) (v4 : Int32) : wpX_slice (fun r u' => wpY_slice (fun r' v' => r' = r ∧ i_Rel (k + 5) u' v') v v1 v2 v3 v4) u v1 v2 v3 v4 := by
  have J := I
  obtain ⟨xnc, xfr, xol, xnw, xtp, xsc, nod, ofs, rnk, dmx, stx, its, knd, rfs, siz, oldr, newr, stt, blw, arn, slo, mvd, sls⟩ := u
  obtain ⟨ycs, ysc, usd, yrk, yds, shn, tof, vw, exs, ykd, fst, snd, own, prt, pct, val, ysl, ord, ysls⟩ := v
  obtain ⟨N, nd, ag, kd, sz, cl, V, S, C, H, Ns, R, Va, L⟩ := I
  rcases tr_hd (xnc := xnc) (xfr := xfr) (xol := xol) (xnw := xnw) (xtp := xtp) (xsc := xsc) (nod := nod) (ofs := ofs) (rnk := rnk) (dmx := dmx) (stx := stx) (its := its) (knd := knd) (rfs := rfs) (siz := siz) (oldr := oldr) (newr := newr) (stt := stt) (blw := blw) (arn := arn) (slo := slo) (mvd := mvd) (sls := sls) (ycs := ycs) (ysc := ysc) (usd := usd) (yrk := yrk) (yds := yds) (shn := shn) (tof := tof) (vw := vw) (exs := exs) (ykd := ykd) (fst := fst) (snd := snd) (own := own) (prt := prt) (pct := pct) (val := val) (ysl := ysl) (ord := ord) (ysls := ysls) H v1 with ⟨hx, hy⟩ | ⟨h, n, r, D, hh, rfl, q⟩
  · unfold wpX_slice
    refine hx _ (br_t rfl ?_)
    unfold wpY_slice
    exact hy _ (br_t rfl ⟨rfl, J⟩)
  have hn := (S.2.1 n q.1.2).1
  have hr := q.2.1.1
  have hr3 := q.2.1.2.1
  have hry := q.2.2.2.1.2.2.1
  obtain ⟨isx, isy⟩ := tr_Ha.is (xnc := xnc) (xfr := xfr) (xol := xol) (xnw := xnw) (xtp := xtp) (xsc := xsc) (nod := nod) (ofs := ofs) (rnk := rnk) (dmx := dmx) (stx := stx) (its := its) (knd := knd) (rfs := rfs) (siz := siz) (oldr := oldr) (newr := newr) (stt := stt) (blw := blw) (arn := arn) (slo := slo) (mvd := mvd) (sls := sls) (ycs := ycs) (ysc := ysc) (usd := usd) (yrk := yrk) (yds := yds) (shn := shn) (tof := tof) (vw := vw) (exs := exs) (ykd := ykd) (fst := fst) (snd := snd) (own := own) (prt := prt) (pct := pct) (val := val) (ysl := ysl) (ord := ord) (ysls := ysls) S q hh
  have w1 : vp_in (nI h) 120 := vp_in_nI (by omega) (by omega)
  have w2 : vp_in (nI h) 25 := vp_in_nI (by omega) (by omega)
  have ex : rnk (nI h).toNatClampNeg = nI r := by rw [nI_clamp (by omega)]; exact hr
  have ey : yrk (nI h).toNatClampNeg = nI r := by rw [nI_clamp (by omega)]; exact hry
  by_cases c1 : v2 < 0
  · unfold wpX_slice
    refine isx _ (br_f (by decide) (br_t c1 ?_))
    unfold wpY_slice
    exact isy _ (br_f (by decide) (br_t c1 ⟨rfl, J⟩))
  obtain ⟨a, ha, rfl⟩ := nI_of c1
  by_cases c3 : r ≤ a
  · have d3 : nI r ≤ nI a := nI_le c3 ha
    unfold wpX_slice
    refine isx _ (br_f (by decide) (br_f c1 ⟨w1, br_t (by rw [ex]; exact d3) ?_⟩))
    unfold wpY_slice
    exact isy _ (br_f (by decide) (br_f c1 ⟨w2, br_t (by rw [ey]; exact d3) ⟨rfl, J⟩⟩))
  have d3 : ¬ nI r ≤ nI a := nI_ge (by omega) (by omega)
  by_cases c4 : v4 < 8
  · unfold wpX_slice
    refine isx _ (br_f (by decide) (br_f c1 ⟨w1, br_f (by rw [ex]; exact d3) (br_t c4 ?_)⟩))
    unfold wpY_slice
    exact isy _ (br_f (by decide) (br_f c1 ⟨w2, br_f (by rw [ey]; exact d3) (br_t c4 ⟨rfl, J⟩)⟩))
  by_cases c5 : 39 < v4
  · unfold wpX_slice
    refine isx _ (br_f (by decide) (br_f c1 ⟨w1, br_f (by rw [ex]; exact d3) (br_f c4 (br_f (Int32.not_le.mpr c5) ?_))⟩))
    unfold wpY_slice
    exact isy _ (br_f (by decide) (br_f c1 ⟨w2, br_f (by rw [ey]; exact d3) (br_f c4 (br_t c5 ⟨rfl, J⟩))⟩))
  have c4' : ¬ v4 < 0 := fun z => c4 (Int32.lt_trans z (by decide))
  obtain ⟨code, hcode, rfl⟩ := nI_of c4'
  have k8 : 8 ≤ code := by
    have := c4
    rw [show (8 : Int32) = nI 8 from rfl, nI_ltI hcode (by omega)] at this
    omega
  have k39 : code ≤ 39 := by
    have := c5
    rw [show (39 : Int32) = nI 39 from rfl, nI_ltI (by omega) hcode] at this
    omega
  have c5' : nI code ≤ 39 := nI_le (b := 39) k39 (by decide)
  have e1 : nI code >>> ((3 : Int32) &&& 31) = nI (code / 8) := pk_shrN (by omega) _ 3 (by decide)
  have e2 : nI code &&& 7 = nI (code % 8) := pk_andN (by omega) 3 (by decide)
  have n8 : ¬ (8 : Int32) = 0 := by decide
  have e1y : nI code / 8 = nI (code / 8) := pk_div (d := 8) (by omega) (by omega) (by omega)
  have e2y : nI code - nI code / 8 * 8 = nI (code % 8) := pk_rem (d := 8) (by omega) (by omega) (by omega)
  have hda := q.2.1.2.2 a (by omega)
  have hday := (q.2.2.2.1.2.2.2.2 a (by omega)).1
  have w3 : vp_in (nI h * 3 + nI a) 360 := by rw [tz_3n, nI_add]; exact vp_in_nI (by omega) (by omega)
  have ed : dmx (nI h * 3 + nI a).toNatClampNeg = nI (D a) := by rw [tz_3n, nI_add, nI_clamp (by omega)]; exact hda.1
  obtain ⟨v, hv, u1, u2, vf⟩ := tr_fh S H
  -- what Y answers when it has no handle, or when the range is wrong
  have yno : v = 24 → ∀ x : Int32, x = -1 → wpY_slice (fun r' v' => r' = x ∧ i_Rel (k + 5) (xnc, xfr, xol, xnw, xtp, xsc, nod, ofs, rnk, dmx, stx, its, knd, rfs, siz, oldr, newr, stt, blw, arn, slo, mvd, sls) v') (ycs, ysc, usd, yrk, yds, shn, tof, vw, exs, ykd, fst, snd, own, prt, pct, val, ysl, ord, ysls) (nI h) (nI a) v3 (nI code) := by
    intro hv24 x hx
    subst hv24
    unfold wpY_slice
    refine isy _ (br_f (by decide) (br_f c1 ⟨w2, br_f (by rw [ey]; exact d3) (br_f c4 (br_f c5 (ty_fh (by omega) u2 (fun z => by omega) ?_)))⟩))
    exact br_t rfl ⟨hx.symm, J⟩
  have ybad : (v3 < 0 ∨ nI (D a) ≤ v3 ∨ v3 + (nI (code / 8) - 1) * (nI (code % 8) - 4) < 0 ∨ ¬ v3 + (nI (code / 8) - 1) * (nI (code % 8) - 4) < nI (D a)) → wpY_slice (fun r' v' => r' = -1 ∧ i_Rel (k + 5) (xnc, xfr, xol, xnw, xtp, xsc, nod, ofs, rnk, dmx, stx, its, knd, rfs, siz, oldr, newr, stt, blw, arn, slo, mvd, sls) v') (ycs, ysc, usd, yrk, yds, shn, tof, vw, exs, ykd, fst, snd, own, prt, pct, val, ysl, ord, ysls) (nI h) (nI a) v3 (nI code) := by
    intro hbad
    by_cases hv24 : v = 24
    · exact yno hv24 _ rfl
    unfold wpY_slice
    refine isy _ (br_f (by decide) (br_f c1 ⟨w2, br_f (by rw [ey]; exact d3) (br_f c4 (br_f c5 (ty_fh (by omega) u2 (fun z => (vf z).2) ?_)))⟩))
    refine br_c (fun _ => ⟨rfl, J⟩) (fun _ => ⟨n8, nm_r e1y ⟨n8, ?_⟩⟩)
    rw [e2y]
    refine nm_e (ty_dim (by omega) (by omega) hday ?_)
    refine br_c (fun _ => ⟨rfl, J⟩) (fun b1 => br_c (fun _ => ⟨rfl, J⟩) (fun b2 => br_c (fun _ => ⟨rfl, J⟩) (fun b3 => br_c (fun b4 => ?_) (fun _ => ⟨rfl, J⟩))))
    rcases hbad with z | z | z | z
    · exact absurd z b1
    · exact absurd z b2
    · exact absurd z b3
    · exact absurd b4 z
  by_cases hbad : v3 < 0 ∨ nI (D a) ≤ v3 ∨ v3 + (nI (code / 8) - 1) * (nI (code % 8) - 4) < 0 ∨ ¬ v3 + (nI (code / 8) - 1) * (nI (code % 8) - 4) < nI (D a)
  · have Y := ybad hbad
    unfold wpX_slice
    refine isx _ (br_f (by decide) (br_f c1 ⟨w1, br_f (by rw [ex]; exact d3) (br_f c4 (br_t c5' (nm_r e1 ?_)))⟩))
    rw [e2, ed]
    refine nm_e ⟨w3, nm_e (br_c (fun _ => Y) (fun b1 => br_c (fun b2 => nm_e (br_c (fun _ => Y) (fun b3 => br_c (fun b4 => ?_) (fun _ => Y)))) (fun _ => Y)))⟩
    rcases hbad with z | z | z | z
    · exact absurd z b1
    · exact absurd b2 (Int32.not_lt.mpr z)
    · exact absurd z b3
    · exact absurd b4 z
  have b1 : ¬ v3 < 0 := fun z => hbad (Or.inl z)
  have b2 : ¬ nI (D a) ≤ v3 := fun z => hbad (Or.inr (Or.inl z))
  have b3 : ¬ v3 + (nI (code / 8) - 1) * (nI (code % 8) - 4) < 0 := fun z => hbad (Or.inr (Or.inr (Or.inl z)))
  have b4 : v3 + (nI (code / 8) - 1) * (nI (code % 8) - 4) < nI (D a) := by
    by_cases z : v3 + (nI (code / 8) - 1) * (nI (code % 8) - 4) < nI (D a)
    · exact z
    · exact absurd (Or.inr (Or.inr (Or.inr z))) hbad
  by_cases c6 : v = 24
  · have Y := yno c6
    subst c6
    unfold wpX_slice
    refine isx _ (br_f (by decide) (br_f c1 ⟨w1, br_f (by rw [ex]; exact d3) (br_f c4 (br_t c5' (nm_r e1 ?_)))⟩))
    rw [e2, ed]
    refine nm_e ⟨w3, nm_e (br_f b1 (br_t (Int32.not_le.mp b2) (nm_e (br_f b3 (br_t b4 ?_)))))⟩
    exact tx_view24 hh u1 (br_f (by decide) (Y _ rfl))
  obtain ⟨f, hf, rfl⟩ := nI_of b1
  have hfd : f < D a := by
    have z := b2
    rw [nI_leI (by omega) hf] at z
    omega
  have hv24 : v < 24 := by omega
  have hvf := vf hv24
  have hvh : v ≠ h := fun z => by
    have e := q.1.1
    rw [← z, hvf.1] at e
    exact tz_nIm1 (by omega) e.symm
  have Rn := R n q.1.2
  have Rle := tr_rc_le (kd := kd) (nod := nod) n
  have hDp : ∀ i, i < r → 1 ≤ D i := fun i hi => (q.2.1.2.2 i hi).2.1
  have hat : ∀ j, j < code / 8 → tz_at f (code % 8) j < D a ∧ nI f + (nI (code % 8) - 4) * nI j = nI (tz_at f (code % 8) j) := fun j hj => tz_at_ok hfd (by omega) (by omega) (by omega) (by omega) b3 b4 hj
  have hA : ∀ e, e < tz_el D r → ∃ a, a < sz n ∧ tx_Rd ofs stx h r D e a := fun e he => by
    obtain ⟨x, x1, x2, _⟩ := q.2.2.2.2.1 e he
    exact ⟨x, x1, x2⟩
  have hsz := (S.2.2.2.2.1 n q.1.2).2.2
  obtain ⟨a0, a01, a02⟩ := tr_ax hr3 (show a < r by omega) hDp hfd hA
  have hso : (ofs h + nI f * stx (3 * h + a)).toInt16.toInt32 = ofs h + nI f * stx (3 * h + a) := by
    rw [a02]; exact tz_b16 (by omega)
  have hss : code / 8 ≠ 1 → (stx (3 * h + a) * (nI (code % 8) - 4)).toInt8.toInt32 = stx (3 * h + a) * (nI (code % 8) - 4) := by
    intro hc1
    have h1 := hat 1 (by omega)
    obtain ⟨a1, a11, a12⟩ := tr_ax hr3 (show a < r by omega) hDp h1.1 hA
    have e : stx (3 * h + a) * (nI (code % 8) - 4) = nI a1 - nI a0 := by
      rw [← a12, ← a02, ← h1.2, show nI 1 = 1 from rfl]
      grind
    rw [e]
    have := pk_sub_toInt (a := a1) (b := a0) (by omega) (by omega)
    exact lg_i2b_small (by rw [this]; omega) (by rw [this]; omega)
  refine tx_slice hh hv24 hvh u1 (by rw [hvf.1]; exact tz_m1lt) q.1.1 hn q.2.1 q.2.2.1 Rn.1 (by omega) (by omega) k8 k39 hfd b3 b4 hso hss ?_
  refine ty_slice hh (by rw [q.2.2.2.1.1]; decide) q.2.2.2.1.2.2 (by omega) k8 k39 hfd b3 b4 ?_ q.2.2.2.1.2.1 hn hv24 u2 hvf.2 ?_
  · intro E hE
    obtain ⟨x, x1, x2, x3⟩ := q.2.2.2.2.1 E hE
    exact ⟨_, (C.2.1 n x q.1.2 x1).1, x3⟩
  · intro yrk1 yds1 shn1 y1 y2 y3
    have hst : ∀ i, i < r → upd (tx_cp stx h v) (3 * v + a) (if code / 8 = 1 then 0 else stx (3 * h + a) * (nI (code % 8) - 4)) (3 * v + i) = tz_us (fun j => stx (3 * h + j)) a (if code / 8 = 1 then 0 else stx (3 * h + a) * (nI (code % 8) - 4)) i := by
      intro i hi
      unfold tz_us
      by_cases e : i = a
      · rw [if_pos e, e, pk_us]
      · have := q.2.2.1.2 i hi
        rw [if_neg e, pk_un (by omega), tx_cp_t (by omega), vp_nar_byte]
        exact this
    obtain ⟨H', Ns', R'⟩ := tr_view (ofs1 := upd (upd ofs v (ofs h)) v (ofs h + nI f * stx (3 * h + a))) (rnk1 := upd rnk v (nI r)) (dmx1 := upd (tx_cp dmx h v) (3 * v + a) (nI (code / 8))) (stx1 := upd (tx_cp stx h v) (3 * v + a) (if code / 8 = 1 then 0 else stx (3 * h + a) * (nI (code % 8) - 4))) (yrk1 := yrk1) (yds1 := yds1) (shn1 := shn1) (r' := r) (D' := tz_un D a (code / 8)) S H Ns R q hv24 hvf
      (fun d hd hdv => ⟨by rw [pk_un hdv, pk_un hdv], pk_un hdv, fun i hi => ⟨by rw [pk_un (by omega), tx_cp_d hdv hi], by rw [pk_un (by omega), tx_cp_d hdv hi]⟩⟩) y2
      ⟨pk_us, hr3, fun i hi => by
        have hdi := q.2.1.2.2 i hi
        by_cases e : i = a
        · subst e
          rw [tz_un_s, pk_us]
          exact ⟨rfl, by omega, by omega⟩
        · rw [tz_un_n e, pk_un (by omega), tx_cp_t (by omega), hdi.1, tz_nb (by omega)]
          exact ⟨rfl, hdi.2⟩⟩
      ⟨by rw [pk_us]; exact hso, fun i hi => by
        rw [hst i hi]
        unfold tz_us
        by_cases e : i = a
        · rw [if_pos e]
          by_cases e1 : code / 8 = 1
          · rw [if_pos e1]; decide
          · rw [if_neg e1]; exact hss e1
        · rw [if_neg e]; exact q.2.2.1.2 i hi⟩ y1
      (fun e he => ⟨tz_slE D r a f (code % 8) (code / 8) e, tz_slElt hr3 (by omega) hDp (by omega) (fun j hj => (hat j hj).1), by
        rw [pk_us, ← tz_slad hr3 (by omega) hDp (by omega) hat]
        exact tz_adlc r _ _ (fun _ _ => rfl) hst, y3 e he⟩)
    exact ⟨rfl, N, nd, ag, kd, sz, cl, V, S, C, H', Ns', R', Va, L⟩
end
section
theorem i_vc_expand {k : Nat} {u : SX} {v : SY} (I : i_Rel k u v) (hk : k + 5 ≤ 2560) (v1 : Int32) (v2 : Int32) (v3 : Int32) : wpX_expand (fun r u' => wpY_expand (fun r' v' => r' = r ∧ i_Rel (k + 5) u' v') v v1 v2 v3) u v1 v2 v3 := by
  have J := I
  obtain ⟨xnc, xfr, xol, xnw, xtp, xsc, nod, ofs, rnk, dmx, stx, its, knd, rfs, siz, oldr, newr, stt, blw, arn, slo, mvd, sls⟩ := u
  obtain ⟨ycs, ysc, usd, yrk, yds, shn, tof, vw, exs, ykd, fst, snd, own, prt, pct, val, ysl, ord, ysls⟩ := v
  obtain ⟨N, nd, ag, kd, sz, cl, V, S, C, H, Ns, R, Va, L⟩ := I
  rcases tr_hd (xnc := xnc) (xfr := xfr) (xol := xol) (xnw := xnw) (xtp := xtp) (xsc := xsc) (nod := nod) (ofs := ofs) (rnk := rnk) (dmx := dmx) (stx := stx) (its := its) (knd := knd) (rfs := rfs) (siz := siz) (oldr := oldr) (newr := newr) (stt := stt) (blw := blw) (arn := arn) (slo := slo) (mvd := mvd) (sls := sls) (ycs := ycs) (ysc := ysc) (usd := usd) (yrk := yrk) (yds := yds) (shn := shn) (tof := tof) (vw := vw) (exs := exs) (ykd := ykd) (fst := fst) (snd := snd) (own := own) (prt := prt) (pct := pct) (val := val) (ysl := ysl) (ord := ord) (ysls := ysls) H v1 with ⟨hx, hy⟩ | ⟨h, n, r, D, hh, rfl, q⟩
  · unfold wpX_expand
    refine hx _ (br_t rfl ?_)
    unfold wpY_expand
    exact hy _ (br_t rfl ⟨rfl, J⟩)
  have hn := (S.2.1 n q.1.2).1
  have hr := q.2.1.1
  have hr3 := q.2.1.2.1
  have hry := q.2.2.2.1.2.2.1
  obtain ⟨isx, isy⟩ := tr_Ha.is (xnc := xnc) (xfr := xfr) (xol := xol) (xnw := xnw) (xtp := xtp) (xsc := xsc) (nod := nod) (ofs := ofs) (rnk := rnk) (dmx := dmx) (stx := stx) (its := its) (knd := knd) (rfs := rfs) (siz := siz) (oldr := oldr) (newr := newr) (stt := stt) (blw := blw) (arn := arn) (slo := slo) (mvd := mvd) (sls := sls) (ycs := ycs) (ysc := ysc) (usd := usd) (yrk := yrk) (yds := yds) (shn := shn) (tof := tof) (vw := vw) (exs := exs) (ykd := ykd) (fst := fst) (snd := snd) (own := own) (prt := prt) (pct := pct) (val := val) (ysl := ysl) (ord := ord) (ysls := ysls) S q hh
  have w1 : vp_in (nI h) 120 := vp_in_nI (by omega) (by omega)
  have w2 : vp_in (nI h) 25 := vp_in_nI (by omega) (by omega)
  have ex : rnk (nI h).toNatClampNeg = nI r := by rw [nI_clamp (by omega)]; exact hr
  have ey : yrk (nI h).toNatClampNeg = nI r := by rw [nI_clamp (by omega)]; exact hry
  by_cases c0 : r = 3
  · have d0 : nI r = 3 := by rw [c0]; rfl
    unfold wpX_expand
    refine isx _ (br_f (by decide) ⟨w1, br_t (by rw [ex]; exact d0) ?_⟩)
    unfold wpY_expand
    exact isy _ (br_f (by decide) ⟨w2, br_t (by rw [ey]; exact d0) ⟨rfl, J⟩⟩)
  have d0 : ¬ nI r = 3 := fun z => c0 ((nI_eq (b := 3) (by omega) (by decide)).mp z)
  by_cases c1 : v2 < 0
  · unfold wpX_expand
    refine isx _ (br_f (by decide) ⟨w1, br_f (by rw [ex]; exact d0) (br_t c1 ?_)⟩)
    unfold wpY_expand
    exact isy _ (br_f (by decide) ⟨w2, br_f (by rw [ey]; exact d0) (br_t c1 ⟨rfl, J⟩)⟩)
  obtain ⟨a, ha, rfl⟩ := nI_of c1
  by_cases c2 : r < a
  · have d2 : nI r < nI a := nI_lt c2 ha
    unfold wpX_expand
    refine isx _ (br_f (by decide) ⟨w1, br_f (by rw [ex]; exact d0) (br_f c1 ⟨w1, br_t (by rw [ex]; exact d2) ?_⟩)⟩)
    unfold wpY_expand
    exact isy _ (br_f (by decide) ⟨w2, br_f (by rw [ey]; exact d0) (br_f c1 ⟨w2, br_t (by rw [ey]; exact d2) ⟨rfl, J⟩⟩)⟩)
  have d2 : ¬ nI r < nI a := nI_nlt (by omega) (by omega)
  by_cases c3 : v3 < 1
  · unfold wpX_expand
    refine isx _ (br_f (by decide) ⟨w1, br_f (by rw [ex]; exact d0) (br_f c1 ⟨w1, br_f (by rw [ex]; exact d2) (br_t c3 ?_)⟩)⟩)
    unfold wpY_expand
    exact isy _ (br_f (by decide) ⟨w2, br_f (by rw [ey]; exact d0) (br_f c1 ⟨w2, br_f (by rw [ey]; exact d2) (br_t c3 ⟨rfl, J⟩)⟩)⟩)
  by_cases c4 : 4 < v3
  · unfold wpX_expand
    refine isx _ (br_f (by decide) ⟨w1, br_f (by rw [ex]; exact d0) (br_f c1 ⟨w1, br_f (by rw [ex]; exact d2) (br_f c3 (br_f (Int32.not_le.mpr c4) ?_))⟩)⟩)
    unfold wpY_expand
    exact isy _ (br_f (by decide) ⟨w2, br_f (by rw [ey]; exact d0) (br_f c1 ⟨w2, br_f (by rw [ey]; exact d2) (br_f c3 (br_t c4 ⟨rfl, J⟩))⟩)⟩)
  have c3' : ¬ v3 < 0 := fun z => c3 (Int32.lt_trans z (by decide))
  obtain ⟨d, hd, rfl⟩ := nI_of c3'
  have k1 : 1 ≤ d := by
    have := c3
    rw [show (1 : Int32) = nI 1 from rfl, nI_ltI hd (by omega)] at this
    omega
  have k4 : d ≤ 4 := by
    have := c4
    rw [show (4 : Int32) = nI 4 from rfl, nI_ltI (by omega) hd] at this
    omega
  obtain ⟨v, hv, u1, u2, vf⟩ := tr_fh S H
  by_cases c5 : v = 24
  · subst c5
    unfold wpX_expand
    refine isx _ (br_f (by decide) ⟨w1, br_f (by rw [ex]; exact d0) (br_f c1 ⟨w1, br_f (by rw [ex]; exact d2) (br_f c3 (br_t (Int32.not_lt.mp c4) ?_))⟩)⟩)
    refine tx_view24 hh u1 (br_f (by decide) ?_)
    unfold wpY_expand
    refine isy _ (br_f (by decide) ⟨w2, br_f (by rw [ey]; exact d0) (br_f c1 ⟨w2, br_f (by rw [ey]; exact d2) (br_f c3 (br_f c4 (ty_fh (by omega) u2 (fun z => by omega) ?_)))⟩)⟩)
    exact br_t rfl ⟨rfl, J⟩
  have hv24 : v < 24 := by omega
  have hvf := vf hv24
  have hvh : v ≠ h := fun z => by
    have e := q.1.1
    rw [← z, hvf.1] at e
    exact tz_nIm1 (by omega) e.symm
  have Rn := R n q.1.2
  have Rle := tr_rc_le (kd := kd) (nod := nod) n
  have hDp : ∀ i, i < r → 1 ≤ D i ∧ D i ≤ 4 := fun i hi => (q.2.1.2.2 i hi).2
  refine tx_expand hh hv24 hvh u1 (by rw [hvf.1]; exact tz_m1lt) q.1.1 hn q.2.1 q.2.2.1 Rn.1 (by omega) (by omega) (by omega) ⟨k1, k4⟩ ?_
  intro dmx1 stx1 x1 x2
  refine ty_expand hh (by rw [q.2.2.2.1.1]; decide) q.2.2.2.1.2.2 (by omega) (show a ≤ r by omega) ⟨k1, k4⟩ ?_ q.2.2.2.1.2.1 hn hv24 u2 hvf.2 ?_
  · intro E hE
    obtain ⟨x, x1, x2, x3⟩ := q.2.2.2.2.1 E hE
    exact ⟨_, (C.2.1 n x q.1.2 x1).1, x3⟩
  · intro yrk1 yds1 shn1 y1 y2 y3
    obtain ⟨H', Ns', R'⟩ := tr_view (ofs1 := upd ofs v (ofs h)) (rnk1 := upd (upd rnk v (nI r)) v (nI (r + 1))) (dmx1 := dmx1) (stx1 := stx1) (yrk1 := yrk1) (yds1 := yds1) (shn1 := shn1) (r' := r + 1) (D' := tz_xD D a d) S H Ns R q hv24 hvf
      (fun d hd hdv => ⟨pk_un hdv, by rw [pk_un hdv, pk_un hdv], fun i hi => x2 _ (by omega)⟩) y2
      ⟨pk_us, by omega, fun i hi => ⟨(x1 i hi).1, tz_xDp (by omega) hDp ⟨k1, k4⟩ i hi⟩⟩
      ⟨by rw [pk_us]; exact q.2.2.1.1, fun i hi => by
        rw [(x1 i hi).2]
        unfold tz_xs
        split
        · exact q.2.2.1.2 i (by omega)
        · split
          · decide
          · exact q.2.2.1.2 _ (by omega)⟩ y1
      (fun e he => ⟨tz_xE D r a d e, tz_xElt (by omega) (by omega) hDp ⟨k1, k4⟩, by
        rw [pk_us, ← tz_xad (by omega) (by omega) hDp ⟨k1, k4⟩]
        exact tz_adlc (r + 1) _ _ (fun _ _ => rfl) (fun i hi => (x1 i hi).2), y3 e he⟩)
    exact ⟨rfl, N, nd, ag, kd, sz, cl, V, S, C, H', Ns', R', Va, L⟩
end
section
theorem i_vc_leaf {k : Nat} {u : SX} {v : SY} (I : i_Rel k u v) (hk : k + 5 ≤ 2560) (v1 : Int32) (v2 : Int32) (v3 : Int32) (v4 : Int32) : wpX_leaf (fun r u' => wpY_leaf (fun r' v' => r' = r ∧ i_Rel (k + 5) u' v') v v1 v2 v3 v4) u v1 v2 v3 v4 := by
  have J := I
  obtain ⟨xnc, xfr, xol, xnw, xtp, xsc, nod, ofs, rnk, dmx, stx, its, knd, rfs, siz, oldr, newr, stt, blw, arn, slo, mvd, sls⟩ := u
  obtain ⟨ycs, ysc, usd, yrk, yds, shn, tof, vw, exs, ykd, fst, snd, own, prt, pct, val, ysl, ord, ysls⟩ := v
  obtain ⟨N, nd, ag, kd, sz, cl, V, S, C, H, Ns, R, Va, L⟩ := I
  obtain ⟨v, hv, u1, u2, vf⟩ := tr_fh S H
  have fX : v < 24 → nod v < 0 := fun z => by rw [(vf z).1]; exact tz_m1lt
  by_cases c1 : v1 < 0
  · unfold wpX_leaf
    refine tx_fh hv u1 fX (br_t c1 ?_)
    unfold wpY_leaf
    exact br_t c1 ⟨rfl, J⟩
  by_cases c2 : 3 < v1
  · unfold wpX_leaf
    refine tx_fh hv u1 fX (br_f c1 (br_t c2 ?_))
    unfold wpY_leaf
    exact br_f c1 (br_t c2 ⟨rfl, J⟩)
  obtain ⟨r, hr, rfl⟩ := nI_of c1
  have hr3 : r ≤ 3 := by
    have := c2
    rw [show (3 : Int32) = nI 3 from rfl, nI_ltI (by omega) hr] at this
    omega
  obtain ⟨t, ht, t1, t2, t3, t4, t5, t6, t7⟩ := tr_fn S C
  have hps := S.1.2.2.2.1
  have hN32 := S.1.1
  -- the reference's new shape
  have newD : ∀ (z0 z1 z2 : Int32), tz_lok r v2 v3 v4 → (0 < r → z2 = v2) → (1 < r → z1 = v3) → (2 < r → z0 = v4) → tx_Dx (upd yrk 24 (nI r)) (ty_sn yds z2 z1 z0) 24 r (tz_lD v2 v3 v4) := by
    intro z0 z1 z2 ok h0 h1 h2
    refine ⟨pk_us, hr3, fun i hi => ?_⟩
    have hd := tz_lDok hr3 ok i hi
    refine ⟨?_, hd.2⟩
    show ty_sn yds _ _ _ (72 + i) = _
    unfold ty_sn
    rcases (by omega : i = 0 ∨ i = 1 ∨ i = 2) with rfl | rfl | rfl
    · have e : v2 = nI (tz_lD v2 v3 v4 0) := hd.1
      rw [pk_un (by omega), pk_un (by omega), pk_us, h0 (by omega), e, tz_b8 _ (by omega), tz_nb (by omega), ← e]; exact e
    · have e : v3 = nI (tz_lD v2 v3 v4 1) := hd.1
      rw [pk_un (by omega), pk_us, h1 (by omega), e, tz_b8 _ (by omega), tz_nb (by omega), ← e]; exact e
    · have e : v4 = nI (tz_lD v2 v3 v4 2) := hd.1
      rw [pk_us, h2 (by omega), e, tz_b8 _ (by omega), tz_nb (by omega), ← e]; exact e
  -- the reference fails
  have yfail : ∀ (xnc1 xfr1 xol1 xnw1 xtp1 xsc1 : Int32) (nod1 ofs1 rnk1 dmx1 stx1 its1 knd1 rfs1 siz1 oldr1 newr1 stt1 blw1 arn1 slo1 mvd1 sls1 : Nat → Int32), tr_R xnc1 xfr1 xol1 xnw1 xtp1 xsc1 nod1 ofs1 rnk1 dmx1 stx1 its1 knd1 rfs1 siz1 oldr1 newr1 stt1 blw1 arn1 slo1 mvd1 sls1 ycs ysc usd yrk yds shn tof vw exs ykd fst snd own prt pct val ysl ord ysls → (tz_lok r v2 v3 v4 → t = 32 ∨ 320 < tz_ps sz nd N + tz_el (tz_lD v2 v3 v4) r ∨ v = 24) → (∀ yrk1 yds1, tr_fy 24 yrk yds shn yrk1 yds1 shn → tr_R xnc1 xfr1 xol1 xnw1 xtp1 xsc1 nod1 ofs1 rnk1 dmx1 stx1 its1 knd1 rfs1 siz1 oldr1 newr1 stt1 blw1 arn1 slo1 mvd1 sls1 ycs ysc usd yrk1 yds1 shn tof vw exs ykd fst snd own prt pct val ysl ord ysls) → wpY_leaf (fun r' v' => r' = -1 ∧ i_Rel (k + 5) (xnc1, xfr1, xol1, xnw1, xtp1, xsc1, nod1, ofs1, rnk1, dmx1, stx1, its1, knd1, rfs1, siz1, oldr1, newr1, stt1, blw1, arn1, slo1, mvd1, sls1) v') (ycs, ysc, usd, yrk, yds, shn, tof, vw, exs, ykd, fst, snd, own, prt, pct, val, ysl, ord, ysls) (nI r) v2 v3 v4 := by
    intro xnc1 xfr1 xol1 xnw1 xtp1 xsc1 nod1 ofs1 rnk1 dmx1 stx1 its1 knd1 rfs1 siz1 oldr1 newr1 stt1 blw1 arn1 slo1 mvd1 sls1 Q hfl Q2
    refine ty_leafc hr3 (fun ok z0 z1 z2 h0 h1 h2 => ?_) (fun _ => ⟨rfl, Q⟩)
    have hD := newD z0 z1 z2 ok h0 h1 h2
    unfold wY_leaf_89
    refine ty_shapeNew rfl hr3 ?_
    refine ty_tensorf (T := tz_ps sz nd N) (v := v) ht t6 t7 hD rfl C.1 hps hv u2 (fun z => (vf z).2) (hfl ok) ?_
    refine br_f (by decide) ⟨rfl, ?_⟩
    exact Q2 _ _ (tr_fyn (fun j hj => pk_un (by omega)) (fun j hj => ty_sn_n hj) 24)
  by_cases c5 : v = 24
  · have Y := yfail xnc xfr xol xnw xtp xsc nod ofs rnk dmx stx its knd rfs siz oldr newr stt blw arn slo mvd sls J (fun _ => Or.inr (Or.inr c5)) (fun yrk1 yds1 fy => tr_junkY S C H Ns R Va L fy)
    subst c5
    exact tx_leaf24 hr3 u1 Y
  have hv24 : v < 24 := by omega
  have hvf := vf hv24
  by_cases ok : ¬ tz_lok r v2 v3 v4
  · exact tx_leafc hr3 hv24 u1 (fX hv24) (fun z => absurd z ok) (fun _ => yfail xnc xfr xol xnw xtp xsc nod ofs rnk dmx stx its knd rfs siz oldr newr stt blw arn slo mvd sls J (fun z => absurd z ok) (fun yrk1 yds1 fy => tr_junkY S C H Ns R Va L fy))
  have ok := Classical.not_not.mp ok
  refine tx_leafc hr3 hv24 u1 (fX hv24) (fun _ => ?_) (fun z => absurd ok z)
  have hDo := tz_lDok hr3 ok
  have dmA : ∀ d i, d ≠ v → i < 3 → upd (upd (upd dmx (3 * v) (vp_nar .byte v2.toInt8.toInt32)) (3 * v + 1) (vp_nar .byte v3.toInt8.toInt32)) (3 * v + 2) (vp_nar .byte v4.toInt8.toInt32) (3 * d + i) = dmx (3 * d + i) := by
    intro d i hd hi
    rw [pk_un (by omega), pk_un (by omega), pk_un (by omega)]
  have DA : tx_Dx (upd rnk v (nI r)) (upd (upd (upd dmx (3 * v) (vp_nar .byte v2.toInt8.toInt32)) (3 * v + 1) (vp_nar .byte v3.toInt8.toInt32)) (3 * v + 2) (vp_nar .byte v4.toInt8.toInt32)) v r (tz_lD v2 v3 v4) := by
    refine ⟨pk_us, hr3, fun i hi => ?_⟩
    have hd := hDo i hi
    refine ⟨?_, hd.2⟩
    rcases (by omega : i = 0 ∨ i = 1 ∨ i = 2) with rfl | rfl | rfl
    · have e : v2 = nI (tz_lD v2 v3 v4 0) := hd.1
      rw [pk_un (by omega), pk_un (by omega), show 3 * v + 0 = 3 * v from rfl, pk_us]
      rw [e, tz_b8 _ (by omega), tz_nb (by omega), ← e]; exact e
    · have e : v3 = nI (tz_lD v2 v3 v4 1) := hd.1
      rw [pk_un (by omega), pk_us]
      rw [e, tz_b8 _ (by omega), tz_nb (by omega), ← e]; exact e
    · have e : v4 = nI (tz_lD v2 v3 v4 2) := hd.1
      rw [pk_us]
      rw [e, tz_b8 _ (by omega), tz_nb (by omega), ← e]; exact e
  have cel := DA.el
  unfold wX_leaf_72
  simp (disch := omega) only [tz_3n, tz_add1, tz_add2, vp_in_nI, nI_clamp, tz_b8, tz_nb, forall_eq, true_and]
  by_cases fl : t = 32 ∨ 320 < tz_ps sz nd N + tz_el (tz_lD v2 v3 v4) r
  · refine tx_makef (k := 1) hv24 rfl DA S.1.2.1 S.1.2.2.1 hps (by rcases fl with z | z; exact Or.inl (t3.mp z); exact Or.inr z) ?_
    refine br_f (by decide) ?_
    have FX : tr_fx (fun d => d ≠ v) ofs rnk dmx stx ofs (upd rnk v (nI r)) (upd (upd (upd dmx (3 * v) (vp_nar .byte v2.toInt8.toInt32)) (3 * v + 1) (vp_nar .byte v3.toInt8.toInt32)) (3 * v + 2) (vp_nar .byte v4.toInt8.toInt32)) stx := fun d hd hdv => ⟨rfl, pk_un hdv, fun i hi => ⟨dmA d i hdv hi, rfl⟩⟩
    refine yfail _ _ _ _ _ _ _ _ _ _ _ _ _ _ _ _ _ _ _ _ _ _ _ (tr_junkX S C H Ns R Va L hv24 hvf FX (fun _ _ _ => ⟨rfl, fun _ _ => rfl, fun _ _ => rfl⟩)) (fun _ => by rcases fl with z | z; exact Or.inl z; exact Or.inr (Or.inl z)) (fun yrk1 yds1 fy => tr_junkX S C H Ns R Va L hv24 hvf FX (fun j hj _ => fy j hj (by omega)))
  have ht32 : t < 32 := by omega
  have hN : N < 32 := by
    have := S.1.1
    have : N ≠ 32 := fun z => by have := t3.mpr z; omega
    omega
  have hT : tz_ps sz nd N + tz_el (tz_lD v2 v3 v4) r ≤ 320 := by omega
  refine tx_make (k := 1) (by omega) hv24 ht32 rfl DA S.1.2.1 hN S.1.2.2.1 hT (t5 ht32) t4 (tr_nwo S) ?_
  intro stx1 newr1 xol1 q1 q2 q3
  dsimp only
  refine br_t (nI_pos' (by omega)) ⟨tz_el (tz_lD v2 v3 v4) r + 1, tx_lf138 (arn0 := arn) hv24 ht32 cel.2 pk_us pk_us hT ?_ _ 0 arn (by omega) (by omega) (fun e he => by omega) (fun _ _ => rfl)⟩
  intro arn1 a1 a2
  -- the reference's side
  refine ty_leafc hr3 (fun ok z0 z1 z2 h0 h1 h2 => ?_) (fun z => absurd ok z)
  have hD := newD z0 z1 z2 ok h0 h1 h2
  unfold wY_leaf_89
  refine ty_shapeNew rfl hr3 ?_
  refine ty_tensor (k := 0) (T := tz_ps sz nd N) (v := v) (by omega) (by decide) (by decide) ht32 t6 (t7 ht32) hD rfl C.1 hT C.2.2.2.2.2.1 hv24 u2 hvf.2 ?_
  intro nc ownT pctT valT ordT shnT Tn
  dsimp only
  refine br_t (nI_pos' (by omega)) ?_
  refine ty_handOver hv24 ht32 u2 hvf.2 rfl ?_
  intro shn2 g2 g3
  (try dsimp only)
  have F := ty_fin (yrk := yrk) (yds := yds) (shn := shn) (shn1 := shnT) (cnt := tz_el (tz_lD v2 v3 v4) r) hD hv24 cel.2 (fun j hj => pk_un (by omega)) (fun j hj => ty_sn_n hj) (fun e he => ⟨nc e, (Tn.1 e he).1, (Tn.1 e he).2.2.2.2.2.2⟩) (fun p hp => Tn.2.2.2.2.1 p (by omega)) g2 g3
  have rowv : tx_Row (tx_cp stx1 v (24 + 3 * t)) (tz_lD v2 v3 v4) v r 0 := tx_row_cp (t := 24 + 3 * t) hr3 (by omega) q1 (fun i hi => tx_cp_d (by omega) hi)
  have o0 : upd (upd ofs v 0) (24 + 3 * t) 0 v = 0 := by rw [pk_un (by omega), pk_us]
  refine ⟨rfl, tr_I ?_⟩
  refine tr_mk (k := 1) (n := t) (v := v) (r := r) (D := tz_lD v2 v3 v4) (nc := nc) (pctT := pctT) (shnT := shnT) S C H Ns R Va L ht32 (t2 ht32) hN (by omega) (by omega) rfl hT hv24 hvf q3 ?_ F.2.1 ?_ ?_ ?_ ?_ ?_ pk_us (fun z => by omega) (fun m hm => pk_un hm) ?_ ?_ ?_ ?_ ?_ (fun p hp => a2 p (Or.inl hp)) (fun _ => a1) Tn (fun c hc => ⟨rfl, fun _ _ => rfl⟩) F.1 (fun e he => by rw [F.2.2 e he]; exact (Tn.1 e he).2.2.2.2.2.2) ?_
  · intro d hd hdv
    exact ⟨by rw [pk_un (by omega), pk_un hdv.1], by rw [pk_un (by omega), pk_un hdv.1], fun i hi => ⟨by rw [tx_cp_d (by omega) hi, dmA d i hdv.1 hi], by rw [tx_cp_d (by omega) hi]; exact q2 _ (by omega)⟩⟩
  · intro d hd hdv hdn
    rw [pk_un (by omega), pk_un hdv]
  · rw [pk_un (by omega), pk_us]
  · intro j hj hjv
    rw [pk_un hjv, pk_un hjv]
  · rw [pk_us]; rfl
  · intro m hm
    have mt : m ≠ t := fun z => hm (by rw [z]; exact t2 ht32)
    rw [pk_un mt, if_neg (by omega), if_neg (by omega)]; simp only [Nat.add_zero]
    exact (R m hm).1
  · exact tx_Dx_fr DA (pk_un (by omega)) (fun i hi => tx_cp_d (by omega) hi)
  · exact tx_row_sx hr3 (fun i hi => (hDo i hi).2) o0 rowv
  · exact fun e he => tx_row_rd hr3 (fun i hi => (hDo i hi).2.1) o0 rowv he
  · intro m hm hmt
    rw [tz_set ht32 hm, decide_eq_false hmt, Bool.or_false]
    exact tz_frX ht32 hm hmt
  · rw [tz_set ht32 ht32, decide_eq_true (p := t = t) rfl, Bool.or_true]; rfl
  · exact Or.inl ⟨tz_un_s, pk_us, pk_us, fun i hi => by rw [pk_us]; exact b_0 i⟩
end
section
theorem i_vc_reshape {k : Nat} {u : SX} {v : SY} (I : i_Rel k u v) (hk : k + 5 ≤ 2560) (v1 : Int32) (v2 : Int32) : wpX_reshape (fun r u' => wpY_reshape (fun r' v' => r' = r ∧ i_Rel (k + 5) u' v') v v1 v2) u v1 v2 := by
  have J := I
  obtain ⟨xnc, xfr, xol, xnw, xtp, xsc, nod, ofs, rnk, dmx, stx, its, knd, rfs, siz, oldr, newr, stt, blw, arn, slo, mvd, sls⟩ := u
  obtain ⟨ycs, ysc, usd, yrk, yds, shn, tof, vw, exs, ykd, fst, snd, own, prt, pct, val, ysl, ord, ysls⟩ := v
  obtain ⟨N, nd, ag, kd, sz, cl, V, S, C, H, Ns, R, Va, L⟩ := I
  obtain ⟨v, hv, u1, u2, vf⟩ := tr_fh S H
  have fX : v < 24 → nod v < 0 := fun z => by rw [(vf z).1]; exact tz_m1lt
  rcases tr_hd (xnc := xnc) (xfr := xfr) (xol := xol) (xnw := xnw) (xtp := xtp) (xsc := xsc) (nod := nod) (ofs := ofs) (rnk := rnk) (dmx := dmx) (stx := stx) (its := its) (knd := knd) (rfs := rfs) (siz := siz) (oldr := oldr) (newr := newr) (stt := stt) (blw := blw) (arn := arn) (slo := slo) (mvd := mvd) (sls := sls) (ycs := ycs) (ysc := ysc) (usd := usd) (yrk := yrk) (yds := yds) (shn := shn) (tof := tof) (vw := vw) (exs := exs) (ykd := ykd) (fst := fst) (snd := snd) (own := own) (prt := prt) (pct := pct) (val := val) (ysl := ysl) (ord := ord) (ysls := ysls) H v1 with ⟨hx, hy⟩ | ⟨h, n, rh, Dh, hh, rfl, q⟩
  · unfold wpX_reshape
    refine tx_fh hv u1 fX (nm_e (hx _ (br_t rfl ?_)))
    unfold wpY_reshape
    exact hy _ (br_t rfl ⟨rfl, J⟩)
  obtain ⟨isx, isy⟩ := tr_Ha.is (xnc := xnc) (xfr := xfr) (xol := xol) (xnw := xnw) (xtp := xtp) (xsc := xsc) (nod := nod) (ofs := ofs) (rnk := rnk) (dmx := dmx) (stx := stx) (its := its) (knd := knd) (rfs := rfs) (siz := siz) (oldr := oldr) (newr := newr) (stt := stt) (blw := blw) (arn := arn) (slo := slo) (mvd := mvd) (sls := sls) (ycs := ycs) (ysc := ysc) (usd := usd) (yrk := yrk) (yds := yds) (shn := shn) (tof := tof) (vw := vw) (exs := exs) (ykd := ykd) (fst := fst) (snd := snd) (own := own) (prt := prt) (pct := pct) (val := val) (ysl := ysl) (ord := ord) (ysls := ysls) S q hh
  have n8 : ¬ (8 : Int32) = 0 := by decide
  have n64 : ¬ (64 : Int32) = 0 := by decide
  have n512 : ¬ (512 : Int32) = 0 := by decide
  by_cases c1 : v2 < 0
  · unfold wpX_reshape
    refine tx_fh hv u1 fX (nm_e (isx _ (br_f (by decide) (br_c (fun _ => ?_) (fun _ => br_t c1 ?_)))))
    all_goals
      unfold wpY_reshape
      exact isy _ (br_f (by decide) (br_t c1 ⟨rfl, J⟩))
  by_cases c2 : 4095 < v2
  · unfold wpX_reshape
    refine tx_fh hv u1 fX (nm_e (isx _ (br_f (by decide) (br_c (fun _ => ?_) (fun _ => br_f c1 (br_t c2 ?_))))))
    all_goals
      unfold wpY_reshape
      exact isy _ (br_f (by decide) (br_f c1 (br_t c2 ⟨rfl, J⟩)))
  obtain ⟨P, hP, rfl⟩ := nI_of c1
  have hP4 : P ≤ 4095 := by
    have := c2
    rw [show (4095 : Int32) = nI 4095 from rfl, nI_ltI (by omega) hP] at this
    omega
  have ex : nI P &&& 7 = nI (P % 8) := pk_andN (by omega) 3 (by decide)
  have ey : nI P - nI P / 8 * 8 = nI (P % 8) := pk_rem (d := 8) (by omega) (by omega) (by omega)
  by_cases c3 : ¬ P % 8 ≤ 3
  · have d3 : ¬ nI (P % 8) ≤ 3 := nI_ge (a := 3) (by omega) (by omega)
    unfold wpX_reshape
    refine tx_fh hv u1 fX (nm_r ex (isx _ (br_f (by decide) (br_c (fun _ => ?_) (fun _ => br_f c1 (br_f c2 (br_f d3 ?_)))))))
    all_goals
      unfold wpY_reshape
      exact isy _ (br_f (by decide) (br_f c1 (br_f c2 ⟨n8, br_f (by rw [ey]; exact d3) ⟨rfl, J⟩⟩)))
  have hr3 : P % 8 ≤ 3 := by omega
  have d3 : nI (P % 8) ≤ 3 := nI_le (b := 3) hr3 (by decide)
  have hn := (S.2.1 n q.1.2).1
  obtain ⟨t, ht, t1, t2, t3, t4, t5, t6, t7⟩ := tr_fn S C
  have hps := S.1.2.2.2.1
  have dy := q.2.2.2.1.2.2
  -- the reference's new shape
  have e8 : nI P / 8 - nI P / 8 / 8 * 8 = nI (tz_rD P 0) := by
    rw [show nI P / 8 = nI (P / 8) from pk_div (d := 8) (by omega) (by omega) (by omega)]
    exact pk_rem (d := 8) (by omega) (by omega) (by omega)
  have e64 : nI P / 64 - nI P / 64 / 8 * 8 = nI (tz_rD P 1) := by
    rw [show nI P / 64 = nI (P / 64) from pk_div (d := 64) (by omega) (by omega) (by omega)]
    exact pk_rem (d := 8) (by omega) (by omega) (by omega)
  have e512 : nI P / 512 = nI (tz_rD P 2) := by
    rw [show nI P / 512 = nI (P / 512) from pk_div (d := 512) (by omega) (by omega) (by omega)]
    exact congrArg nI (show P / 512 = P / 512 % 8 by omega)
  have r8 : ∀ i, tz_rD P i < 8 := fun i => Nat.mod_lt _ (by decide)
  have nds : ∀ i, i < 3 → ty_sn yds (nI (tz_rD P 0)) (nI (tz_rD P 1)) (nI (tz_rD P 2)) (72 + i) = nI (tz_rD P i) := by
    intro i hi
    have := r8 0
    have := r8 1
    have := r8 2
    unfold ty_sn
    rcases (by omega : i = 0 ∨ i = 1 ∨ i = 2) with rfl | rfl | rfl
    · rw [pk_un (by omega), pk_un (by omega), pk_us, tz_b8 _ (by omega), tz_nb (by omega)]
    · rw [pk_un (by omega), pk_us, tz_b8 _ (by omega), tz_nb (by omega)]
    · rw [pk_us, tz_b8 _ (by omega), tz_nb (by omega)]
  have okD : (∀ i, i < 3 → tz_rok P (P % 8) i) → ∀ i, i < P % 8 → 1 ≤ tz_rD P i ∧ tz_rD P i ≤ 4 := fun ok i hi => by
    have := ok i (by omega)
    unfold tz_rok at this
    rw [if_pos hi] at this
    exact this
  have newD : (∀ i, i < 3 → tz_rok P (P % 8) i) → tx_Dx (upd yrk 24 (nI (P % 8))) (ty_sn yds (nI (tz_rD P 0)) (nI (tz_rD P 1)) (nI (tz_rD P 2))) 24 (P % 8) (tz_rD P) := fun ok => ⟨pk_us, hr3, fun i hi => ⟨nds i (by omega), okD ok i hi⟩⟩
  have oldD : tx_Dx (upd yrk 24 (nI (P % 8))) (ty_sn yds (nI (tz_rD P 0)) (nI (tz_rD P 1)) (nI (tz_rD P 2))) h rh Dh := tx_Dx_fr dy (pk_un (by omega)) (fun i hi => ty_sn_n (by omega))
  -- the reference up to its checks
  have ywalk : ∀ post : Int32 → SY → Prop, ((∀ i, i < 3 → tz_rok P (P % 8) i) → wY_reshape_61 post (nI h) (nI (P % 8)) ycs ysc usd (upd yrk 24 (nI (P % 8))) (ty_sn yds (nI (tz_rD P 0)) (nI (tz_rD P 1)) (nI (tz_rD P 2))) shn tof vw exs ykd fst snd own prt pct val ysl ord ysls 1 (nI 3)) → ((¬ ∀ i, i < 3 → tz_rok P (P % 8) i) → post (-1) (ycs, ysc, usd, upd yrk 24 (nI (P % 8)), ty_sn yds (nI (tz_rD P 0)) (nI (tz_rD P 1)) (nI (tz_rD P 2)), shn, tof, vw, exs, ykd, fst, snd, own, prt, pct, val, ysl, ord, ysls)) → wpY_reshape post (ycs, ysc, usd, yrk, yds, shn, tof, vw, exs, ykd, fst, snd, own, prt, pct, val, ysl, ord, ysls) (nI h) (nI P) := by
    intro post Hok Hbad
    unfold wpY_reshape
    refine isy _ (br_f (by decide) (br_f c1 (br_f c2 ⟨n8, br_t (by rw [ey]; exact d3) ⟨n8, nm_r ey ⟨n8, n8, n64, n8, n512, ?_⟩⟩⟩)))
    rw [e8, e64, e512]
    refine ty_shapeNew rfl hr3 ?_
    exact ⟨4, ty_rs61 hr3 nds Hok Hbad 4 0 (by omega) (by omega) (fun j hj => by omega)⟩
  -- the reference fails
  have yfail : ∀ (xnc1 xfr1 xol1 xnw1 xtp1 xsc1 : Int32) (nod1 ofs1 rnk1 dmx1 stx1 its1 knd1 rfs1 siz1 oldr1 newr1 stt1 blw1 arn1 slo1 mvd1 sls1 : Nat → Int32), tr_R xnc1 xfr1 xol1 xnw1 xtp1 xsc1 nod1 ofs1 rnk1 dmx1 stx1 its1 knd1 rfs1 siz1 oldr1 newr1 stt1 blw1 arn1 slo1 mvd1 sls1 ycs ysc usd (upd yrk 24 (nI (P % 8))) (ty_sn yds (nI (tz_rD P 0)) (nI (tz_rD P 1)) (nI (tz_rD P 2))) shn tof vw exs ykd fst snd own prt pct val ysl ord ysls → ((∀ i, i < 3 → tz_rok P (P % 8) i) → tz_el (tz_rD P) (P % 8) = tz_el Dh rh → t = 32 ∨ 320 < tz_ps sz nd N + tz_el (tz_rD P) (P % 8) ∨ v = 24) → wpY_reshape (fun r' v' => r' = -1 ∧ i_Rel (k + 5) (xnc1, xfr1, xol1, xnw1, xtp1, xsc1, nod1, ofs1, rnk1, dmx1, stx1, its1, knd1, rfs1, siz1, oldr1, newr1, stt1, blw1, arn1, slo1, mvd1, sls1) v') (ycs, ysc, usd, yrk, yds, shn, tof, vw, exs, ykd, fst, snd, own, prt, pct, val, ysl, ord, ysls) (nI h) (nI P) := by
    intro xnc1 xfr1 xol1 xnw1 xtp1 xsc1 nod1 ofs1 rnk1 dmx1 stx1 its1 knd1 rfs1 siz1 oldr1 newr1 stt1 blw1 arn1 slo1 mvd1 sls1 Q hfl
    refine ywalk _ (fun ok => ?_) (fun _ => ⟨rfl, Q⟩)
    have hD := newD ok
    have b1 := hD.el
    have b2 := dy.el
    refine br_t (by decide) ?_
    refine ty_sz (d := 24) (by omega) hD (ty_sz (by omega) oldD ?_)
    refine pk_eq _ _ (fun e => ⟨vp_in_nI (by omega) (by omega), ?_⟩) (fun _ => ⟨rfl, Q⟩) rfl rfl (by omega) (by omega)
    refine ty_tensorf (T := tz_ps sz nd N) (v := v) ht t6 t7 hD rfl C.1 hps hv u2 (fun z => (vf z).2) (hfl ok e) ?_
    exact br_f (by decide) ⟨rfl, Q⟩
  by_cases c5 : v = 24
  · have Y := yfail xnc xfr xol xnw xtp xsc nod ofs rnk dmx stx its knd rfs siz oldr newr stt blw arn slo mvd sls (tr_junkY S C H Ns R Va L (tr_fyn (fun j hj => pk_un (by omega)) (fun j hj => ty_sn_n hj) 24)) (fun _ _ => Or.inr (Or.inr c5))
    subst c5
    unfold wpX_reshape
    exact tx_fh (by omega) u1 (fun z => by omega) (nm_e (isx _ (br_f (by decide) (br_t rfl Y))))
  have hv24 : v < 24 := by omega
  have hvf := vf hv24
  have hvh : h ≠ v := fun z => by
    have e := q.1.1
    rw [z, hvf.1] at e
    exact tz_nIm1 (by omega) e.symm
  have nv24 : ¬ nI v = 24 := fun e => by
    have := (nI_eq (a := v) (b := 24) (by omega) (by decide)).mp e
    omega
  have FXd : ∀ dmx1 : Nat → Int32, (∀ j, (j < 3 * v ∨ 3 * v + 3 ≤ j) → dmx1 j = dmx j) → tr_fx (fun d => d ≠ v) ofs rnk dmx stx ofs rnk dmx1 stx := fun dmx1 f d hd hdv => ⟨rfl, rfl, fun i hi => ⟨f _ (by omega), rfl⟩⟩
  have FXr : ∀ dmx1 : Nat → Int32, (∀ j, (j < 3 * v ∨ 3 * v + 3 ≤ j) → dmx1 j = dmx j) → tr_fx (fun d => d ≠ v) ofs rnk dmx stx ofs (upd rnk v (nI (P % 8))) dmx1 stx := fun dmx1 f d hd hdv => ⟨rfl, pk_un hdv, fun i hi => ⟨f _ (by omega), rfl⟩⟩
  have FY := fun w => tr_fyn (yrk := yrk) (yds := yds) (shn := shn) (yrk1 := upd yrk 24 (nI (P % 8))) (yds1 := ty_sn yds (nI (tz_rD P 0)) (nI (tz_rD P 1)) (nI (tz_rD P 2))) (fun j hj => pk_un (by omega)) (fun j hj => ty_sn_n hj) w
  unfold wpX_reshape
  refine tx_fh hv u1 fX (nm_r ex (isx _ (br_f (by decide) (br_f nv24 (br_f c1 (br_f c2 (br_t d3 ⟨4, ?_⟩)))))))
  refine tx_rs47 (dmx0 := dmx) hv24 hP4 hr3 ?_ ?_ 4 0 dmx (by omega) (by omega) (fun j hj => by omega) (fun j hj => by omega) (fun _ _ => rfl)
  · intro dmx1 x1 x2 ok
    have DA : tx_Dx (upd rnk v (nI (P % 8))) dmx1 v (P % 8) (tz_rD P) := ⟨pk_us, hr3, fun i hi => ⟨x1 i (by omega), okD ok i hi⟩⟩
    have DH : tx_Dx (upd rnk v (nI (P % 8))) dmx1 h rh Dh := tx_Dx_fr q.2.1 (pk_un hvh) (fun i hi => x2 _ (by omega))
    have b1 := DA.el
    have b2 := dy.el
    refine br_t (by decide) ⟨vp_in_nI (by omega) (by omega), ?_⟩
    rw [nI_clamp (by omega), tz_b8 _ (by omega), tz_nb (by omega)]
    refine nm_e ?_
    refine tx_el (by omega) DA (tx_el (by omega) DH ?_)
    refine pk_eq _ _ (fun e => ?_) (fun e => ?_) rfl rfl (by omega) (by omega)
    · by_cases fl : t = 32 ∨ 320 < tz_ps sz nd N + tz_el (tz_rD P) (P % 8)
      · refine tx_resultf (k := 7) hv24 rfl DA S.1.2.1 S.1.2.2.1 hps (by rcases fl with z | z; exact Or.inl (t3.mp z); exact Or.inr z) ?_
        exact yfail _ _ _ _ _ _ _ _ _ _ _ _ _ _ _ _ _ _ _ _ _ _ _ (tr_junkX S C H Ns R Va L hv24 hvf (FXr dmx1 x2) (FY v)) (fun _ _ => by rcases fl with z | z; exact Or.inl z; exact Or.inr (Or.inl z))
      have ht32 : t < 32 := by omega
      have hN : N < 32 := by
        have := S.1.1
        have : N ≠ 32 := fun z => by have := t3.mpr z; omega
        omega
      have hT : tz_ps sz nd N + tz_el (tz_rD P) (P % 8) ≤ 320 := by omega
      have nt : n ≠ t := fun z => q.1.2 (by rw [z]; exact t2 ht32)
      have Rn := R n q.1.2
      have Rle := tr_rc_le (kd := kd) (nod := nod) n
      refine tx_result1 (k := 7) (by omega) hv24 ht32 rfl DA S.1.2.1 hN S.1.2.2.1 hT (t5 ht32) t4 (tr_nwo S) hh hvh q.1.1 hn nt DH q.2.2.1 Rn.1 Rle ?_
      intro stx1 newr1 xol1 q1 q2 q3
      dsimp only
      obtain ⟨f1, f2, f3, f4, f5, f6, f7, f8⟩ := tx_R1f (n := t) hv24 ht32 hh hvh DA DH q.2.2.1 q1 q2
      have hcell : ∀ e, e < tz_el (tz_rD P) (P % 8) → ∃ a, a < sz n ∧ tx_Rd ofs stx h rh Dh e a ∧ shn (64 * h + e) = nI (cl n a) := fun e' he => q.2.2.2.2.1 e' (by omega)
      refine ywalk _ (fun ok => ?_) (fun z => absurd ok z)
      have hD := newD ok
      refine br_t (by decide) ?_
      refine ty_sz (d := 24) (by omega) hD (ty_sz (by omega) oldD ?_)
      refine br_t (congrArg nI e) ⟨vp_in_nI (by omega) (by omega), ?_⟩
      rw [nI_clamp (by omega), q.2.2.2.1.2.1]
      refine ty_tensor (k := 6) (T := tz_ps sz nd N) (v := v) (by omega) (tz_b8 _ (by omega)) (by decide) ht32 t6 (t7 ht32) hD rfl C.1 hT C.2.2.2.2.2.1 hv24 u2 hvf.2 ?_
      intro nc ownT pctT valT ordT shnT Tn
      dsimp only
      have inj : ∀ a b, a < tz_el (tz_rD P) (P % 8) → b < tz_el (tz_rD P) (P % 8) → nc a = nc b → a = b := fun a b ha hb hab => by
        rcases (by omega : a < b ∨ a = b ∨ b < a) with z | z | z
        · have := Tn.2.1 a b z hb; omega
        · exact z
        · have := Tn.2.1 b a z ha; omega
      refine br_t (nI_pos' (by omega)) ⟨tz_el (tz_rD P) (P % 8) + 1, ?_⟩
      have hq : ∀ e, e < tz_el (tz_rD P) (P % 8) → (shn (64 * h + e)).toNatClampNeg < 320 ∧ shnT (64 * h + e) = nI (shn (64 * h + e)).toNatClampNeg := fun e' he => by
        obtain ⟨a, a1, a2, a3⟩ := hcell e' he
        have cb := (C.2.1 n a q.1.2 a1).1
        rw [Tn.2.2.2.2.1 _ (by omega), a3, nI_clamp (by omega)]
        exact ⟨cb, rfl⟩
      refine ty_rs158 (nc := nc) (q := fun e => (shn (64 * h + e)).toNatClampNeg) (prt0 := prt) (pct0 := pctT) hh b1.2 inj (fun e' he => ⟨(Tn.1 e' he).1, (Tn.1 e' he).2.2.2.2.2.2⟩) hq hv24 ht32 u2 hvf.2 ?_ _ 0 prt pctT (by omega) (by omega) ⟨fun i hi => by omega, fun h0 => ⟨(Tn.1 0 h0).2.2.2.1, fun l hl => by omega⟩, fun i _ hi => (Tn.1 i hi).2.2.2.1, fun c _ => ⟨rfl, fun _ _ => rfl⟩⟩
      intro prt1 pct1 shn2 Pi g2 g3
      (try dsimp only)
      have F := ty_fin (yrk := yrk) (yds := yds) (shn := shn) (shn1 := shnT) (cnt := tz_el (tz_rD P) (P % 8)) hD hv24 b1.2 (fun j hj => pk_un (by omega)) (fun j hj => ty_sn_n hj) (fun e he => ⟨nc e, (Tn.1 e he).1, (Tn.1 e he).2.2.2.2.2.2⟩) (fun p hp => Tn.2.2.2.2.1 p (by omega)) g2 g3
      refine ⟨rfl, tr_I ?_⟩
      refine tr_mk (k := 7) (n := t) (v := v) (r := P % 8) (D := tz_rD P) (nc := nc) (pctT := pctT) (shnT := shnT) S C H Ns R Va L ht32 (t2 ht32) hN (by omega) (by omega) rfl hT hv24 hvf q3 ?_ F.2.1 ?_ ?_ ?_ ?_ ?_ ?_ ?_ ?_ f2 (tx_row_sx hr3 (fun i hi => okD ok i hi) f3 f4) (fun e he => tx_row_rd hr3 (fun i hi => (okD ok i hi).1) f3 f4 he) (fun m hm hmt => tz_frX ht32 hm hmt) (tz_frN ht32) (fun _ _ => rfl) (fun z => by omega) Tn (fun c hc => Pi.2.2.2 c hc) F.1 (fun e he => by rw [F.2.2 e he]; exact (Tn.1 e he).2.2.2.2.2.2) ?_
      · intro d hd hdv
        obtain ⟨b1, b2, b3⟩ := f1 d hd hdv
        exact ⟨b1, b2.trans (pk_un hdv.1), fun i hi => ⟨(b3 i hi).1.trans (x2 _ (by omega)), (b3 i hi).2⟩⟩
      · intro d hd hdv hdn
        rw [pk_un (by omega), pk_un (by omega), pk_un (by omega), pk_un hdv]
      · rw [pk_un (by omega), pk_un (by omega), pk_un (by omega), pk_us]
      · intro j hj hjv
        rw [pk_un hjv]
      · rw [pk_us]; rfl
      · exact tr_rf1 R (fun m hm => (S.2.1 m hm).1) (t2 ht32) q.1.2 (by omega) (by rw [pk_un (by omega), pk_us]) pk_us
      · rw [pk_un (fun z => nt z.symm), pk_us]
      · intro _
        rw [pk_un (by omega), pk_us, pk_us]
        exact ⟨fun z => nt ((nI_eq (by omega) (by omega)).mp z), fun z => tz_nIm1 (by omega) z.symm⟩
      · intro m hm
        rw [pk_un hm, pk_un hm]
      · refine Or.inr ⟨n, rh, Dh, P % 8, tz_rD P, 1, ⟨by rw [pk_un (by omega), pk_us], by rw [tz_un_n nt]; exact q.1.2, by rw [tz_un_n nt, tz_un_s]; exact (S.2.1 n q.1.2).2.1, f6⟩, pk_us, f5, by omega, by omega, Or.inl ⟨Or.inr ⟨tz_un_s, rfl⟩, pk_us, pk_us, ?_, ?_⟩⟩
        · intro i hi
          rw [pk_us, pk_un nt, pk_un nt]
          exact tz_bl1 hn hi
        · intro e' he
          rw [tz_un_s] at he
          rw [tz_uc_s]
          have pe := Pi.1 e' he
          refine ⟨pe.1, fun j hj => ?_⟩
          obtain ⟨a, a1, a2, a3⟩ := hcell e' he
          have cb := (C.2.1 n a q.1.2 a1).1
          refine ⟨a, by rw [tz_un_n nt]; exact a1, ?_, ?_⟩
          · have ej : e' * 1 + j = e' := by omega
            rw [ej]
            exact tx_Rd_fr' a2 f7 f8
          · rw [pe.2 j hj, tz_uc_n nt]; dsimp only; rw [a3, nI_clamp (by omega)]
    · exact yfail _ _ _ _ _ _ _ _ _ _ _ _ _ _ _ _ _ _ _ _ _ _ _ (tr_junkX S C H Ns R Va L hv24 hvf (FXr dmx1 x2) (FY v)) (fun _ z => absurd z e)
  · intro dmx1 x2 bad
    exact yfail _ _ _ _ _ _ _ _ _ _ _ _ _ _ _ _ _ _ _ _ _ _ _ (tr_junkX S C H Ns R Va L hv24 hvf (FXd dmx1 x2) (FY v)) (fun ok => absurd ok bad)
end
section
theorem i_vc_multiply {k : Nat} {u : SX} {v : SY} (I : i_Rel k u v) (hk : k + 5 ≤ 2560) (v1 : Int32) (v2 : Int32) : wpX_multiply (fun r u' => wpY_multiply (fun r' v' => r' = r ∧ i_Rel (k + 5) u' v') v v1 v2) u v1 v2 := by
  have J := I
  obtain ⟨xnc, xfr, xol, xnw, xtp, xsc, nod, ofs, rnk, dmx, stx, its, knd, rfs, siz, oldr, newr, stt, blw, arn, slo, mvd, sls⟩ := u
  obtain ⟨ycs, ysc, usd, yrk, yds, shn, tof, vw, exs, ykd, fst, snd, own, prt, pct, val, ysl, ord, ysls⟩ := v
  obtain ⟨N, nd, ag, kd, sz, cl, V, S, C, H, Ns, R, Va, L⟩ := I
  obtain ⟨v, hv, u1, u2, vf⟩ := tr_fh S H
  have fX : v < 24 → nod v < 0 := fun z => by rw [(vf z).1]; exact tz_m1lt
  rcases tr_hd (xnc := xnc) (xfr := xfr) (xol := xol) (xnw := xnw) (xtp := xtp) (xsc := xsc) (nod := nod) (ofs := ofs) (rnk := rnk) (dmx := dmx) (stx := stx) (its := its) (knd := knd) (rfs := rfs) (siz := siz) (oldr := oldr) (newr := newr) (stt := stt) (blw := blw) (arn := arn) (slo := slo) (mvd := mvd) (sls := sls) (ycs := ycs) (ysc := ysc) (usd := usd) (yrk := yrk) (yds := yds) (shn := shn) (tof := tof) (vw := vw) (exs := exs) (ykd := ykd) (fst := fst) (snd := snd) (own := own) (prt := prt) (pct := pct) (val := val) (ysl := ysl) (ord := ord) (ysls := ysls) H v1 with ⟨hx, hy⟩ | ⟨h, n, rh, Dh, hh, rfl, q⟩
  · unfold wpX_multiply
    refine tx_fh hv u1 fX (hx _ (br_t rfl ?_))
    unfold wpY_multiply
    exact hy _ (br_t rfl ⟨rfl, J⟩)
  obtain ⟨isx, isy⟩ := tr_Ha.is (xnc := xnc) (xfr := xfr) (xol := xol) (xnw := xnw) (xtp := xtp) (xsc := xsc) (nod := nod) (ofs := ofs) (rnk := rnk) (dmx := dmx) (stx := stx) (its := its) (knd := knd) (rfs := rfs) (siz := siz) (oldr := oldr) (newr := newr) (stt := stt) (blw := blw) (arn := arn) (slo := slo) (mvd := mvd) (sls := sls) (ycs := ycs) (ysc := ysc) (usd := usd) (yrk := yrk) (yds := yds) (shn := shn) (tof := tof) (vw := vw) (exs := exs) (ykd := ykd) (fst := fst) (snd := snd) (own := own) (prt := prt) (pct := pct) (val := val) (ysl := ysl) (ord := ord) (ysls := ysls) S q hh
  rcases tr_hd (xnc := xnc) (xfr := xfr) (xol := xol) (xnw := xnw) (xtp := xtp) (xsc := xsc) (nod := nod) (ofs := ofs) (rnk := rnk) (dmx := dmx) (stx := stx) (its := its) (knd := knd) (rfs := rfs) (siz := siz) (oldr := oldr) (newr := newr) (stt := stt) (blw := blw) (arn := arn) (slo := slo) (mvd := mvd) (sls := sls) (ycs := ycs) (ysc := ysc) (usd := usd) (yrk := yrk) (yds := yds) (shn := shn) (tof := tof) (vw := vw) (exs := exs) (ykd := ykd) (fst := fst) (snd := snd) (own := own) (prt := prt) (pct := pct) (val := val) (ysl := ysl) (ord := ord) (ysls := ysls) H v2 with ⟨hx, hy⟩ | ⟨g, n2, rg, Dg, hg, rfl, p⟩
  · unfold wpX_multiply
    refine tx_fh hv u1 fX (isx _ (br_f (by decide) (hx _ (br_t rfl ?_))))
    unfold wpY_multiply
    exact isy _ (br_f (by decide) (hy _ (br_t rfl ⟨rfl, J⟩)))
  obtain ⟨gsx, gsy⟩ := tr_Ha.is (xnc := xnc) (xfr := xfr) (xol := xol) (xnw := xnw) (xtp := xtp) (xsc := xsc) (nod := nod) (ofs := ofs) (rnk := rnk) (dmx := dmx) (stx := stx) (its := its) (knd := knd) (rfs := rfs) (siz := siz) (oldr := oldr) (newr := newr) (stt := stt) (blw := blw) (arn := arn) (slo := slo) (mvd := mvd) (sls := sls) (ycs := ycs) (ysc := ysc) (usd := usd) (yrk := yrk) (yds := yds) (shn := shn) (tof := tof) (vw := vw) (exs := exs) (ykd := ykd) (fst := fst) (snd := snd) (own := own) (prt := prt) (pct := pct) (val := val) (ysl := ysl) (ord := ord) (ysls := ysls) S p hg
  have wh : vp_in (nI h) 120 := vp_in_nI (by omega) (by omega)
  have wg : vp_in (nI g) 120 := vp_in_nI (by omega) (by omega)
  have yh : vp_in (nI h) 25 := vp_in_nI (by omega) (by omega)
  have yg : vp_in (nI g) 25 := vp_in_nI (by omega) (by omega)
  have exh : rnk (nI h).toNatClampNeg = nI rh := by rw [nI_clamp (by omega)]; exact q.2.1.1
  have exg : rnk (nI g).toNatClampNeg = nI rg := by rw [nI_clamp (by omega)]; exact p.2.1.1
  have eyh : yrk (nI h).toNatClampNeg = nI rh := by rw [nI_clamp (by omega)]; exact q.2.2.2.1.2.2.1
  have eyg : yrk (nI g).toNatClampNeg = nI rg := by rw [nI_clamp (by omega)]; exact p.2.2.2.1.2.2.1
  have rh3 := q.2.1.2.1
  have rg3 := p.2.1.2.1
  by_cases c1 : ¬ rh = 2
  · have d1 : ¬ nI rh = 2 := fun z => c1 ((nI_eq (b := 2) (by omega) (by decide)).mp z)
    unfold wpX_multiply
    refine tx_fh hv u1 fX (isx _ (br_f (by decide) (gsx _ (br_f (by decide) ⟨wh, br_f (by rw [exh]; exact d1) ?_⟩))))
    unfold wpY_multiply
    exact isy _ (br_f (by decide) (gsy _ (br_f (by decide) ⟨yh, br_f (by rw [eyh]; exact d1) ⟨rfl, J⟩⟩)))
  have c1 : rh = 2 := by omega
  subst c1
  by_cases c2 : ¬ rg = 2
  · have d2 : ¬ nI rg = 2 := fun z => c2 ((nI_eq (b := 2) (by omega) (by decide)).mp z)
    unfold wpX_multiply
    refine tx_fh hv u1 fX (isx _ (br_f (by decide) (gsx _ (br_f (by decide) ⟨wh, br_t (by rw [exh]; rfl) ⟨wg, br_f (by rw [exg]; exact d2) ?_⟩⟩))))
    unfold wpY_multiply
    exact isy _ (br_f (by decide) (gsy _ (br_f (by decide) ⟨yh, br_t (by rw [eyh]; rfl) ⟨yg, br_f (by rw [eyg]; exact d2) ⟨rfl, J⟩⟩⟩)))
  have c2 : rg = 2 := by omega
  subst c2
  have h0 := q.2.1.2.2 0 (by omega)
  have h1 := q.2.1.2.2 1 (by omega)
  have g0 := p.2.1.2.2 0 (by omega)
  have g1 := p.2.1.2.2 1 (by omega)
  have dh := q.2.2.2.1.2.2
  have dg := p.2.2.2.1.2.2
  have w1 : vp_in (nI h * 3 + 1) 360 := by rw [tz_3n, tz_add1]; exact vp_in_nI (by omega) (by omega)
  have w2 : vp_in (nI g * 3) 360 := by rw [tz_3n]; exact vp_in_nI (by omega) (by omega)
  have m1 : dmx (nI h * 3 + 1).toNatClampNeg = nI (Dh 1) := by rw [tz_3n, tz_add1, nI_clamp (by omega)]; exact h1.1
  have m2 : dmx (nI g * 3).toNatClampNeg = nI (Dg 0) := by rw [tz_3n, nI_clamp (by omega)]; exact g0.1
  by_cases c3 : ¬ Dh 1 = Dg 0
  · have d3 : ¬ nI (Dh 1) = nI (Dg 0) := fun z => c3 ((nI_eq (by omega) (by omega)).mp z)
    unfold wpX_multiply
    refine tx_fh hv u1 fX (isx _ (br_f (by decide) (gsx _ (br_f (by decide) ⟨wh, br_t (by rw [exh]; rfl) ⟨wg, br_t (by rw [exg]; rfl) ⟨w1, w2, br_f (by rw [m1, m2]; exact d3) ?_⟩⟩⟩))))
    unfold wpY_multiply
    refine isy _ (br_f (by decide) (gsy _ (br_f (by decide) ⟨yh, br_t (by rw [eyh]; rfl) ⟨yg, br_t (by rw [eyg]; rfl) ?_⟩⟩)))
    exact ty_dim (i := 1) (by omega) (by omega) (dh.2.2 1 (by omega)).1 (ty_dim (i := 0) (by omega) (by omega) (dg.2.2 0 (by omega)).1 (br_f d3 ⟨rfl, J⟩))
  have c3 : Dh 1 = Dg 0 := by omega
  have hn := (S.2.1 n q.1.2).1
  have hn2 := (S.2.1 n2 p.1.2).1
  obtain ⟨t, ht, t1, t2, t3, t4, t5, t6, t7⟩ := tr_fn S C
  have hps := S.1.2.2.2.1
  -- the reference up to its tensor
  have ndl : ∀ j, j < 72 → ty_sn yds (nI (Dh 0)) (nI (Dg 1)) 0 j = yds j := fun j hj => ty_sn_n hj
  have newD : tx_Dx (upd yrk 24 (nI 2)) (ty_sn yds (nI (Dh 0)) (nI (Dg 1)) 0) 24 2 (tz_mD (Dh 0) (Dg 1)) := by
    refine ⟨pk_us, by omega, fun i hi => ?_⟩
    show ty_sn yds _ _ _ (72 + i) = _ ∧ _
    unfold ty_sn
    rcases (by omega : i = 0 ∨ i = 1) with rfl | rfl
    · rw [pk_un (by omega), pk_un (by omega), pk_us, tz_b8 _ (by omega), tz_nb (by omega)]
      exact ⟨rfl, h0.2⟩
    · rw [pk_un (by omega), pk_us, tz_b8 _ (by omega), tz_nb (by omega)]
      exact ⟨rfl, g1.2⟩
  have cel := newD.el
  have ywalk : ∀ post : Int32 → SY → Prop, wpY_tensor (fun r_132 u => match u with | (ycs2, ysc2, usd2, yrk2, yds2, shn2, tof2, vw2, exs2, ykd2, fst2, snd2, own2, prt2, pct2, val2, ysl2, ord2, ysls2) => (((0 ≤ r_132 → (wpY_size (fun r_153 => (∃ n121 : Nat, wY_multiply_121 post (nI h) (nI g) (nI (Dh 1)) r_132 r_153 n121 0 ycs2 ysc2 usd2 yrk2 yds2 shn2 tof2 vw2 exs2 ykd2 fst2 snd2 own2 prt2 pct2 val2 ysl2 ord2 ysls2)) (ycs2, ysc2, usd2, yrk2, yds2, shn2, tof2, vw2, exs2, ykd2, fst2, snd2, own2, prt2, pct2, val2, ysl2, ord2, ysls2) 24)) ∧ (¬ 0 ≤ r_132 → (post (-1) (ycs2, ysc2, usd2, yrk2, yds2, shn2, tof2, vw2, exs2, ykd2, fst2, snd2, own2, prt2, pct2, val2, ysl2, ord2, ysls2)))))) (ycs, ysc, usd, upd yrk 24 (nI 2), ty_sn yds (nI (Dh 0)) (nI (Dg 1)) 0, shn, tof, vw, exs, ykd, fst, snd, own, prt, pct, val, ysl, ord, ysls) 5 (nI n) (nI n2) → wpY_multiply post (ycs, ysc, usd, yrk, yds, shn, tof, vw, exs, ykd, fst, snd, own, prt, pct, val, ysl, ord, ysls) (nI h) (nI g) := by
    intro post Ht
    unfold wpY_multiply
    refine isy _ (br_f (by decide) (gsy _ (br_f (by decide) ⟨yh, br_t (by rw [eyh]; rfl) ⟨yg, br_t (by rw [eyg]; rfl) ?_⟩⟩)))
    refine ty_dim (i := 1) (by omega) (by omega) (dh.2.2 1 (by omega)).1 (ty_dim (i := 0) (by omega) (by omega) (dg.2.2 0 (by omega)).1 (br_t (congrArg nI c3) ?_))
    refine ty_dim (i := 1) (by omega) (by omega) (dh.2.2 1 (by omega)).1 ?_
    have z1 : yds (3 * nI h).toNatClampNeg = nI (Dh 0) := by rw [tz_n3, nI_clamp (by omega)]; exact (dh.2.2 0 (by omega)).1
    have z2 : yds (3 * nI g + 1).toNatClampNeg = nI (Dg 1) := by rw [tz_n3, tz_add1, nI_clamp (by omega)]; exact (dg.2.2 1 (by omega)).1
    have z3 : tof (nI h).toNatClampNeg = nI n := by rw [nI_clamp (by omega)]; exact q.2.2.2.1.2.1
    have z4 : tof (nI g).toNatClampNeg = nI n2 := by rw [nI_clamp (by omega)]; exact p.2.2.2.1.2.1
    refine ⟨by rw [tz_n3]; exact vp_in_nI (by omega) (by omega), by rw [tz_n3, tz_add1]; exact vp_in_nI (by omega) (by omega), ?_⟩
    rw [z1, z2]
    refine ty_shapeNew (r := 2) rfl (by omega) ?_
    dsimp only
    refine ⟨yh, yg, ?_⟩
    rw [z3, z4]
    exact Ht
  have yfail : ∀ (xnc1 xfr1 xol1 xnw1 xtp1 xsc1 : Int32) (nod1 ofs1 rnk1 dmx1 stx1 its1 knd1 rfs1 siz1 oldr1 newr1 stt1 blw1 arn1 slo1 mvd1 sls1 : Nat → Int32), (∀ yrk1 yds1, tr_fy 24 yrk yds shn yrk1 yds1 shn → tr_R xnc1 xfr1 xol1 xnw1 xtp1 xsc1 nod1 ofs1 rnk1 dmx1 stx1 its1 knd1 rfs1 siz1 oldr1 newr1 stt1 blw1 arn1 slo1 mvd1 sls1 ycs ysc usd yrk1 yds1 shn tof vw exs ykd fst snd own prt pct val ysl ord ysls) → (t = 32 ∨ 320 < tz_ps sz nd N + tz_el (tz_mD (Dh 0) (Dg 1)) 2 ∨ v = 24) → wpY_multiply (fun r' v' => r' = -1 ∧ i_Rel (k + 5) (xnc1, xfr1, xol1, xnw1, xtp1, xsc1, nod1, ofs1, rnk1, dmx1, stx1, its1, knd1, rfs1, siz1, oldr1, newr1, stt1, blw1, arn1, slo1, mvd1, sls1) v') (ycs, ysc, usd, yrk, yds, shn, tof, vw, exs, ykd, fst, snd, own, prt, pct, val, ysl, ord, ysls) (nI h) (nI g) := by
    intro xnc1 xfr1 xol1 xnw1 xtp1 xsc1 nod1 ofs1 rnk1 dmx1 stx1 its1 knd1 rfs1 siz1 oldr1 newr1 stt1 blw1 arn1 slo1 mvd1 sls1 Q hfl
    refine ywalk _ ?_
    refine ty_tensorf (T := tz_ps sz nd N) (v := v) ht t6 t7 newD rfl C.1 hps hv u2 (fun z => (vf z).2) hfl ?_
    exact br_f (by decide) ⟨rfl, Q _ _ (tr_fyn (fun j hj => pk_un (by omega)) ndl 24)⟩
  have e3 : nI (Dh 1) = nI (Dg 0) := congrArg nI c3
  by_cases c5 : v = 24
  · have Y := yfail xnc xfr xol xnw xtp xsc nod ofs rnk dmx stx its knd rfs siz oldr newr stt blw arn slo mvd sls (fun _ _ fy => tr_junkY S C H Ns R Va L fy) (Or.inr (Or.inr c5))
    subst c5
    unfold wpX_multiply
    exact tx_fh (by omega) u1 (fun z => by omega) (isx _ (br_f (by decide) (gsx _ (br_f (by decide) ⟨wh, br_t (by rw [exh]; rfl) ⟨wg, br_t (by rw [exg]; rfl) ⟨w1, w2, br_t (by rw [m1, m2]; exact e3) (br_t rfl Y)⟩⟩⟩))))
  have hv24 : v < 24 := by omega
  have hvf := vf hv24
  have hhv : h ≠ v := fun z => by
    have e := q.1.1
    rw [z, hvf.1] at e
    exact tz_nIm1 (by omega) e.symm
  have hgv : g ≠ v := fun z => by
    have e := p.1.1
    rw [z, hvf.1] at e
    exact tz_nIm1 (by omega) e.symm
  have nv24 : ¬ nI v = 24 := fun e => by
    have := (nI_eq (a := v) (b := 24) (by omega) (by decide)).mp e
    omega
  unfold wpX_multiply
  refine tx_fh hv u1 fX (isx _ (br_f (by decide) (gsx _ (br_f (by decide) ⟨wh, br_t (by rw [exh]; rfl) ⟨wg, br_t (by rw [exg]; rfl) ⟨w1, w2, br_t (by rw [m1, m2]; exact e3) (br_f nv24 ?_)⟩⟩⟩))))
  have z1 : dmx (3 * h) = nI (Dh 0) := h0.1
  have z2 : upd dmx (3 * v) (nI (Dh 0)) (3 * g + 1) = nI (Dg 1) := by rw [pk_un (by omega)]; exact g1.1
  have z3 : vp_nar .byte 2 = nI 2 := tz_nb (n := 2) (by omega)
  simp (disch := omega) only [tz_3n, tz_add1, vp_in_nI, nI_clamp, z1, z2, z3, tz_nb, forall_eq, true_and]
  have dmA : ∀ d i, d ≠ v → i < 3 → upd (upd dmx (3 * v) (nI (Dh 0))) (3 * v + 1) (nI (Dg 1)) (3 * d + i) = dmx (3 * d + i) := by
    intro d i hd hi
    rw [pk_un (by omega), pk_un (by omega)]
  have DA : tx_Dx (upd rnk v (nI 2)) (upd (upd dmx (3 * v) (nI (Dh 0))) (3 * v + 1) (nI (Dg 1))) v 2 (tz_mD (Dh 0) (Dg 1)) := by
    refine ⟨pk_us, by omega, fun i hi => ?_⟩
    rcases (by omega : i = 0 ∨ i = 1) with rfl | rfl
    · rw [pk_un (by omega), show 3 * v + 0 = 3 * v from rfl, pk_us]
      exact ⟨rfl, h0.2⟩
    · rw [pk_us]
      exact ⟨rfl, g1.2⟩
  have DH : tx_Dx (upd rnk v (nI 2)) (upd (upd dmx (3 * v) (nI (Dh 0))) (3 * v + 1) (nI (Dg 1))) h 2 Dh := tx_Dx_fr q.2.1 (pk_un hhv) (fun i hi => dmA h i hhv hi)
  have DG : tx_Dx (upd rnk v (nI 2)) (upd (upd dmx (3 * v) (nI (Dh 0))) (3 * v + 1) (nI (Dg 1))) g 2 Dg := tx_Dx_fr p.2.1 (pk_un hgv) (fun i hi => dmA g i hgv hi)
  have FX : tr_fx (fun d => d ≠ v) ofs rnk dmx stx ofs (upd rnk v (nI 2)) (upd (upd dmx (3 * v) (nI (Dh 0))) (3 * v + 1) (nI (Dg 1))) stx := fun d hd hdv => ⟨rfl, pk_un hdv, fun i hi => ⟨dmA d i hdv hi, rfl⟩⟩
  by_cases fl : t = 32 ∨ 320 < tz_ps sz nd N + tz_el (tz_mD (Dh 0) (Dg 1)) 2
  · refine tx_resultf (k := 6) hv24 rfl DA S.1.2.1 S.1.2.2.1 hps (by rcases fl with z | z; exact Or.inl (t3.mp z); exact Or.inr z) ?_
    exact yfail _ _ _ _ _ _ _ _ _ _ _ _ _ _ _ _ _ _ _ _ _ _ _ (fun yrk1 yds1 fy => tr_junkX S C H Ns R Va L hv24 hvf FX (fun j hj _ => fy j hj (by omega))) (by rcases fl with z | z; exact Or.inl z; exact Or.inr (Or.inl z))
  have ht32 : t < 32 := by omega
  have hN : N < 32 := by
    have := S.1.1
    have : N ≠ 32 := fun z => by have := t3.mpr z; omega
    omega
  have hT : tz_ps sz nd N + tz_el (tz_mD (Dh 0) (Dg 1)) 2 ≤ 320 := by omega
  have nt : n ≠ t := fun z => q.1.2 (by rw [z]; exact t2 ht32)
  have nt2 : n2 ≠ t := fun z => p.1.2 (by rw [z]; exact t2 ht32)
  have Rn := R n q.1.2
  have Rle := tr_rc_le (kd := kd) (nod := nod) n
  have Rle2 := tr_rc_le (kd := kd) (nod := nod) n2
  refine tx_result2 (k := 6) (by omega) hv24 ht32 rfl DA S.1.2.1 hN S.1.2.2.1 hT (t5 ht32) t4 (tr_nwo S) hh hhv q.1.1 hn nt DH q.2.2.1 Rn.1 Rle hg hgv p.1.1 hn2 nt2 DG p.2.2.1 (tr_gcm R p.1.2) (by split <;> omega) ?_
  intro stx1 newr1 xol1 q1 q2 q3
  dsimp only
  obtain ⟨f1, f2, f3, f4, f5, ⟨f6, f7, f8⟩, f9, f10, f11⟩ := tx_R2f (n := t) hv24 ht32 hh hhv hg hgv DA DH q.2.2.1 DG p.2.2.1 q1 q2
  have cellh := q.2.2.2.2.1
  have cellg := p.2.2.2.2.1
  have hmel := tz_mel (Dh 0) (Dg 1)
  refine ywalk _ ?_
  refine ty_tensor (k := 5) (T := tz_ps sz nd N) (v := v) (by omega) (tz_b8 _ (by omega)) (tz_b8 _ (by omega)) ht32 t6 (t7 ht32) newD rfl C.1 hT C.2.2.2.2.2.1 hv24 u2 hvf.2 ?_
  intro nc ownT pctT valT ordT shnT Tn
  dsimp only
  have inj : ∀ a b, a < tz_el (tz_mD (Dh 0) (Dg 1)) 2 → b < tz_el (tz_mD (Dh 0) (Dg 1)) 2 → nc a = nc b → a = b := fun a b ha hb hab => by
    rcases (by omega : a < b ∨ a = b ∨ b < a) with z | z | z
    · have := Tn.2.1 a b z hb; omega
    · exact z
    · have := Tn.2.1 b a z ha; omega
  refine br_t (nI_pos' (by omega)) ?_
  refine ty_sz (d := 24) (by omega) newD ⟨tz_el (tz_mD (Dh 0) (Dg 1)) 2 + 1, ?_⟩
  have b1 := dh.el.2
  have b2 := dg.el.2
  have hch : ∀ E, E < tz_el Dh 2 → ∃ c, c < 320 ∧ shnT (64 * h + E) = nI c := fun E hE => by
    obtain ⟨a, a1, a2, a3⟩ := cellh E hE
    exact ⟨_, (C.2.1 n a q.1.2 a1).1, by rw [Tn.2.2.2.2.1 _ (by omega)]; exact a3⟩
  have hcg : ∀ E, E < tz_el Dg 2 → ∃ c, c < 320 ∧ shnT (64 * g + E) = nI c := fun E hE => by
    obtain ⟨a, a1, a2, a3⟩ := cellg E hE
    exact ⟨_, (C.2.1 n2 a p.1.2 a1).1, by rw [Tn.2.2.2.2.1 _ (by omega)]; exact a3⟩
  have dh' : tx_Dx (upd yrk 24 (nI 2)) (ty_sn yds (nI (Dh 0)) (nI (Dg 1)) 0) h 2 Dh := tx_Dx_fr dh (pk_un (by omega)) (fun i hi => ndl _ (by omega))
  have dg' : tx_Dx (upd yrk 24 (nI 2)) (ty_sn yds (nI (Dh 0)) (nI (Dg 1)) 0) g 2 Dg := tx_Dx_fr dg (pk_un (by omega)) (fun i hi => ndl _ (by omega))
  refine ty_mu121 (nc := nc) (prt0 := prt) (pct0 := pctT) hh hg dh' dg' newD rfl c3.symm rfl rfl hmel cel.2 inj (fun e' he => ⟨(Tn.1 e' he).1, (Tn.1 e' he).2.2.2.2.2.2⟩) hch hcg hv24 ht32 u2 hvf.2 ?_ _ 0 prt pctT (by omega) (by omega) ⟨fun i hi => by omega, fun h0 => ⟨(Tn.1 0 h0).2.2.2.1, fun l hl => by omega⟩, fun i _ hi => (Tn.1 i hi).2.2.2.1, fun c _ => ⟨rfl, fun _ _ => rfl⟩⟩
  intro prt1 pct1 shn2 Pi g2 g3
  (try dsimp only)
  have F := ty_fin (yrk := yrk) (yds := yds) (shn := shn) (shn1 := shnT) (cnt := tz_el (tz_mD (Dh 0) (Dg 1)) 2) newD hv24 cel.2 (fun j hj => pk_un (by omega)) ndl (fun e he => ⟨nc e, (Tn.1 e he).1, (Tn.1 e he).2.2.2.2.2.2⟩) (fun p hp => Tn.2.2.2.2.1 p (by omega)) g2 g3
  refine ⟨rfl, tr_I ?_⟩
  refine tr_mk (k := 6) (n := t) (v := v) (r := 2) (D := tz_mD (Dh 0) (Dg 1)) (nc := nc) (pctT := pctT) (shnT := shnT) S C H Ns R Va L ht32 (t2 ht32) hN (by omega) (by omega) rfl hT hv24 hvf q3 ?_ F.2.1 ?_ ?_ ?_ ?_ ?_ ?_ ?_ ?_ f2 (tx_row_sx (by omega) (fun i hi => (newD.2.2 i hi).2) f3 f4) (fun e he => tx_row_rd (by omega) (fun i hi => (newD.2.2 i hi).2.1) f3 f4 he) (fun m hm hmt => tz_frX ht32 hm hmt) (tz_frN ht32) (fun _ _ => rfl) (fun z => by omega) Tn (fun c hc => Pi.2.2.2 c hc) F.1 (fun e he => by rw [F.2.2 e he]; exact (Tn.1 e he).2.2.2.2.2.2) ?_
  · intro d hd hdv
    obtain ⟨b1, b2, b3⟩ := f1 d hd hdv
    exact ⟨b1, b2.trans (pk_un hdv.1), fun i hi => ⟨(b3 i hi).1.trans (dmA d i hdv.1 hi), (b3 i hi).2⟩⟩
  · intro d hd hdv hdn
    rw [pk_un (by omega), pk_un (by omega), pk_un (by omega), pk_un (by omega), pk_un hdv]
  · rw [pk_un (by omega), pk_un (by omega), pk_un (by omega), pk_un (by omega), pk_us]
  · intro j hj hjv
    rw [pk_un hjv]
  · rw [pk_us]; rfl
  · exact tr_rf2 R (fun m hm => (S.2.1 m hm).1) (t2 ht32) q.1.2 p.1.2 (by omega) (by rw [pk_un (by omega), pk_un (by omega), pk_us]) pk_us rfl
  · rw [pk_un (fun z => nt2 z.symm), pk_un (fun z => nt z.symm), pk_us]
  · intro _
    rw [pk_un (by omega), pk_un (by omega), pk_us, pk_us]
    exact ⟨fun z => nt ((nI_eq (by omega) (by omega)).mp z), fun z => nt2 ((nI_eq (by omega) (by omega)).mp z)⟩
  · intro m hm
    rw [pk_un hm, pk_un hm, pk_un hm]
  · have last1 : tz_last Dh 2 = Dh 1 := rfl
    have last0 : tz_last (tz_mD (Dh 0) (Dg 1)) 2 = Dg 1 := rfl
    refine Or.inr ⟨n, 2, Dh, 2, tz_mD (Dh 0) (Dg 1), Dh 1, ⟨by rw [pk_un (by omega), pk_un (by omega), pk_us], by rw [tz_un_n nt]; exact q.1.2, by rw [tz_un_n nt, tz_un_s]; exact (S.2.1 n q.1.2).2.1, f6⟩, pk_us, f5, h1.2.1, h1.2.2, Or.inr ⟨n2, 2, Dg, Or.inl ⟨tz_un_s, rfl⟩, ⟨pk_us, by rw [tz_un_n nt2]; exact p.1.2, by rw [tz_un_n nt2, tz_un_s]; exact (S.2.1 n2 p.1.2).2.1, f9⟩, pk_us, ?_, ?_⟩⟩
    · intro i hi
      rw [pk_us, pk_un nt, pk_un nt, pk_un nt, pk_un nt2, pk_un nt2, pk_un nt2]
      exact tz_bl2 hn hn2 hi
    · intro e' he
      rw [tz_un_s] at he
      rw [tz_uc_s, tz_un_s, last0]
      have pe := Pi.1 e' he
      have he1 : e' / Dg 1 < Dh 0 := Nat.div_lt_of_lt_mul (by rw [Nat.mul_comm, ← hmel]; exact he)
      have he2 : e' % Dg 1 < Dg 1 := Nat.mod_lt _ (by omega)
      refine ⟨pe.1, fun j hj => ⟨?_, ?_⟩⟩
      · have l1 := tz_mlt he1 hj
        have e1 : tz_el Dh 2 = Dh 0 * Dh 1 := by show 1 * Dh 0 * Dh 1 = _; rw [Nat.one_mul]
        obtain ⟨a, a1, a2, a3⟩ := cellh (e' / Dg 1 * Dh 1 + j) (by omega)
        have cb := (C.2.1 n a q.1.2 a1).1
        refine ⟨a, by rw [tz_un_n nt]; exact a1, ?_, ?_⟩
        · exact tx_Rd_fr' a2 f7 f8
        · rw [pe.2 (2 * j) (by omega), tz_uc_n nt]
          unfold tz_mq
          rw [if_pos (by omega), show 2 * j / 2 = j from by omega, Tn.2.2.2.2.1 _ (by omega), a3, nI_clamp (by omega)]
      · have l2 := tz_mlt hj he2
        have e2 : tz_el Dg 2 = Dg 0 * Dg 1 := by show 1 * Dg 0 * Dg 1 = _; rw [Nat.one_mul]
        rw [c3] at l2
        obtain ⟨a, a1, a2, a3⟩ := cellg (j * Dg 1 + e' % Dg 1) (by omega)
        have cb := (C.2.1 n2 a p.1.2 a1).1
        refine ⟨a, by rw [tz_un_n nt2]; exact a1, ?_, ?_⟩
        · exact tx_Rd_fr' a2 f10 f11
        · rw [pe.2 (2 * j + 1) (by omega), tz_uc_n nt2]
          unfold tz_mq
          rw [if_neg (by omega), show (2 * j + 1) / 2 = j from by omega, Tn.2.2.2.2.1 _ (by omega), a3, nI_clamp (by omega)]
end
section
theorem i_vc_fold {k : Nat} {u : SX} {v : SY} (I : i_Rel k u v) (hk : k + 5 ≤ 2560) (v1 : Int32) (v2 : Int32) : wpX_fold (fun r u' => wpY_fold (fun r' v' => r' = r ∧ i_Rel (k + 5) u' v') v v1 v2) u v1 v2 := by
  have J := I
  obtain ⟨xnc, xfr, xol, xnw, xtp, xsc, nod, ofs, rnk, dmx, stx, its, knd, rfs, siz, oldr, newr, stt, blw, arn, slo, mvd, sls⟩ := u
  obtain ⟨ycs, ysc, usd, yrk, yds, shn, tof, vw, exs, ykd, fst, snd, own, prt, pct, val, ysl, ord, ysls⟩ := v
  obtain ⟨N, nd, ag, kd, sz, cl, V, S, C, H, Ns, R, Va, L⟩ := I
  obtain ⟨v, hv, u1, u2, vf⟩ := tr_fh S H
  have fX : v < 24 → nod v < 0 := fun z => by rw [(vf z).1]; exact tz_m1lt
  rcases tr_hd (xnc := xnc) (xfr := xfr) (xol := xol) (xnw := xnw) (xtp := xtp) (xsc := xsc) (nod := nod) (ofs := ofs) (rnk := rnk) (dmx := dmx) (stx := stx) (its := its) (knd := knd) (rfs := rfs) (siz := siz) (oldr := oldr) (newr := newr) (stt := stt) (blw := blw) (arn := arn) (slo := slo) (mvd := mvd) (sls := sls) (ycs := ycs) (ysc := ysc) (usd := usd) (yrk := yrk) (yds := yds) (shn := shn) (tof := tof) (vw := vw) (exs := exs) (ykd := ykd) (fst := fst) (snd := snd) (own := own) (prt := prt) (pct := pct) (val := val) (ysl := ysl) (ord := ord) (ysls := ysls) H v1 with ⟨hx, hy⟩ | ⟨h, n, r, D, hh, rfl, q⟩
  · unfold wpX_fold
    refine tx_fh hv u1 fX (hx _ (br_t rfl ?_))
    unfold wpY_fold
    exact hy _ (br_t rfl ⟨rfl, J⟩)
  obtain ⟨isx, isy⟩ := tr_Ha.is (xnc := xnc) (xfr := xfr) (xol := xol) (xnw := xnw) (xtp := xtp) (xsc := xsc) (nod := nod) (ofs := ofs) (rnk := rnk) (dmx := dmx) (stx := stx) (its := its) (knd := knd) (rfs := rfs) (siz := siz) (oldr := oldr) (newr := newr) (stt := stt) (blw := blw) (arn := arn) (slo := slo) (mvd := mvd) (sls := sls) (ycs := ycs) (ysc := ysc) (usd := usd) (yrk := yrk) (yds := yds) (shn := shn) (tof := tof) (vw := vw) (exs := exs) (ykd := ykd) (fst := fst) (snd := snd) (own := own) (prt := prt) (pct := pct) (val := val) (ysl := ysl) (ord := ord) (ysls := ysls) S q hh
  have wh : vp_in (nI h) 120 := vp_in_nI (by omega) (by omega)
  have yh : vp_in (nI h) 25 := vp_in_nI (by omega) (by omega)
  have hr := q.2.1.1
  have hr3 := q.2.1.2.1
  have exh : rnk (nI h).toNatClampNeg = nI r := by rw [nI_clamp (by omega)]; exact hr
  have eyh : yrk (nI h).toNatClampNeg = nI r := by rw [nI_clamp (by omega)]; exact q.2.2.2.1.2.2.1
  by_cases c1 : v2 < 0
  · unfold wpX_fold
    refine tx_fh hv u1 fX (isx _ (br_f (by decide) (br_t c1 ?_)))
    unfold wpY_fold
    exact isy _ (br_f (by decide) (br_t c1 ⟨rfl, J⟩))
  obtain ⟨a, ha, rfl⟩ := nI_of c1
  by_cases c2 : r ≤ a
  · unfold wpX_fold
    refine tx_fh hv u1 fX (isx _ (br_f (by decide) (br_f c1 ⟨wh, br_t (by rw [exh]; exact nI_le c2 ha) ?_⟩)))
    unfold wpY_fold
    exact isy _ (br_f (by decide) (br_f c1 ⟨yh, br_f (by rw [eyh]; exact nI_nlt c2 ha) ⟨rfl, J⟩⟩))
  have har : a < r := by omega
  have hn := (S.2.1 n q.1.2).1
  obtain ⟨t, ht, t1, t2, t3, t4, t5, t6, t7⟩ := tr_fn S C
  have hps := S.1.2.2.2.1
  have dh := q.2.2.2.1.2.2
  have hDp : ∀ i, i < r → 1 ≤ D i := fun i hi => (q.2.1.2.2 i hi).2.1
  have hDn : ∀ i, i < r - 1 → 1 ≤ D (tz_sk a i) ∧ D (tz_sk a i) ≤ 4 := fun i hi => (q.2.1.2.2 _ (by have := tz_skl (a := a) hi; omega)).2
  have hus : ¬ usd h = 0 := by rw [q.2.2.2.1.1]; decide
  have yfail : ∀ (xnc1 xfr1 xol1 xnw1 xtp1 xsc1 : Int32) (nod1 ofs1 rnk1 dmx1 stx1 its1 knd1 rfs1 siz1 oldr1 newr1 stt1 blw1 arn1 slo1 mvd1 sls1 : Nat → Int32), (∀ yrk1 yds1, tr_fy 24 yrk yds shn yrk1 yds1 shn → tr_R xnc1 xfr1 xol1 xnw1 xtp1 xsc1 nod1 ofs1 rnk1 dmx1 stx1 its1 knd1 rfs1 siz1 oldr1 newr1 stt1 blw1 arn1 slo1 mvd1 sls1 ycs ysc usd yrk1 yds1 shn tof vw exs ykd fst snd own prt pct val ysl ord ysls) → (t = 32 ∨ 320 < tz_ps sz nd N + tz_el (fun i => D (tz_sk a i)) (r - 1) ∨ v = 24) → wpY_fold (fun r' v' => r' = -1 ∧ i_Rel (k + 5) (xnc1, xfr1, xol1, xnw1, xtp1, xsc1, nod1, ofs1, rnk1, dmx1, stx1, its1, knd1, rfs1, siz1, oldr1, newr1, stt1, blw1, arn1, slo1, mvd1, sls1) v') (ycs, ysc, usd, yrk, yds, shn, tof, vw, exs, ykd, fst, snd, own, prt, pct, val, ysl, ord, ysls) (nI h) (nI a) := by
    intro xnc1 xfr1 xol1 xnw1 xtp1 xsc1 nod1 ofs1 rnk1 dmx1 stx1 its1 knd1 rfs1 siz1 oldr1 newr1 stt1 blw1 arn1 slo1 mvd1 sls1 Q hfl
    refine ty_fold hh hus dh har q.2.2.2.1.2.1 ?_
    intro yds2 z1 z2
    refine ty_tensorf (T := tz_ps sz nd N) (v := v) ht t6 t7 z1 rfl C.1 hps hv u2 (fun z => (vf z).2) hfl ?_
    exact br_f (by decide) ⟨rfl, Q _ _ (tr_fyn (fun j hj => pk_un (by omega)) z2 24)⟩
  by_cases c5 : v = 24
  · have Y := yfail xnc xfr xol xnw xtp xsc nod ofs rnk dmx stx its knd rfs siz oldr newr stt blw arn slo mvd sls (fun _ _ fy => tr_junkY S C H Ns R Va L fy) (Or.inr (Or.inr c5))
    subst c5
    unfold wpX_fold
    exact tx_fh (by omega) u1 (fun z => by omega) (isx _ (br_f (by decide) (br_f c1 ⟨wh, br_f (by rw [exh]; exact nI_ge har (by omega)) (br_t rfl Y)⟩)))
  have hv24 : v < 24 := by omega
  have hvf := vf hv24
  have hhv : h ≠ v := fun z => by
    have e := q.1.1
    rw [z, hvf.1] at e
    exact tz_nIm1 (by omega) e.symm
  have nv24 : ¬ nI v = 24 := fun e => by
    have := (nI_eq (a := v) (b := 24) (by omega) (by decide)).mp e
    omega
  have en : upd (upd nod v (vp_nar .byte (nod h))) v (-1) = nod := by
    funext j
    by_cases e : j = v
    · rw [e, pk_us, hvf.1]
    · rw [pk_un e, pk_un e]
  have eo : vp_nar .short (ofs h) = ofs h := by rw [vp_nar_short]; exact q.2.2.1.1
  have hy : ∀ i, i < r → vp_nar .byte (nI (D i)) = nI (D i) := fun i hi => tz_nb (by have := (q.2.1.2.2 i hi).2.2; omega)
  have hz : ∀ i, i < r → vp_nar .byte (stx (3 * h + i)) = stx (3 * h + i) := fun i hi => by rw [vp_nar_byte]; exact q.2.2.1.2 i hi
  unfold wpX_fold
  refine tx_fh hv u1 fX (isx _ (br_f (by decide) (br_f c1 ⟨wh, br_f (by rw [exh]; exact nI_ge har (by omega)) (br_f nv24 ?_)⟩)))
  refine tx_copy (by omega) (by omega) hhv ?_
  dsimp only
  rw [nI_clamp (by omega), tz_nbm, en, eo, hr, tz_nb (by omega)]
  refine ⟨vp_in_nI (by omega) (by omega), nm_e ⟨4, ?_⟩⟩
  refine tx_fo51 (y := fun i => nI (D i)) (z := fun i => stx (3 * h + i)) (dmx0 := dmx) (stx0 := stx) hh hv24 (by rw [pk_un hhv]; exact hr) hr3 har hy hz ?_ 4 a _ _ (Nat.le_refl _) har (by omega) ?_ ?_ (fun j hj => ⟨tx_cp_n hj, tx_cp_n hj⟩)
  rotate_left
  · intro i hi
    have := q.2.1.2.2 i hi
    rw [tz_rt_id, tx_cp_t (by omega), this.1, hy i hi]
  · intro i hi
    rw [tz_rt_id, tx_cp_t (by omega), hz i hi]
  intro dmA stA A1 A2 A3
  have er1 : upd rnk v (nI r) (nI h).toNatClampNeg - 1 ≤ nI (r - 1) := by
    rw [nI_clamp (by omega), pk_un hhv, hr, tz_s1 (by omega)]; exact Int32.le_refl _
  refine ⟨wh, br_t er1 ⟨vp_in_nI (by omega) (by omega), vp_in_nI (by omega) (by omega), ?_⟩⟩
  rw [nI_clamp (by omega), pk_us, tz_s1 (by omega), tz_b8 _ (by omega), tz_nb (by omega)]
  refine nm_e ?_
  have DA : tx_Dx (upd (upd rnk v (nI r)) v (nI (r - 1))) dmA v (r - 1) (fun i => D (tz_sk a i)) := ⟨pk_us, by omega, fun i hi => ⟨by rw [A1 i (by omega), tz_rt_sk hi], hDn i hi⟩⟩
  have DH : tx_Dx (upd (upd rnk v (nI r)) v (nI (r - 1))) dmA h r D := tx_Dx_fr q.2.1 (by rw [pk_un hhv, pk_un hhv]) (fun i hi => (A3 _ (by omega)).1)
  have SH : tx_Sx (upd ofs v (ofs h)) stA h r := tx_Sx_fr hr3 q.2.2.1 (pk_un hhv) (fun i hi => (A3 _ (by omega)).2)
  have cel := DA.el
  have FX : tr_fx (fun d => d ≠ v) ofs rnk dmx stx (upd ofs v (ofs h)) (upd (upd rnk v (nI r)) v (nI (r - 1))) dmA stA := fun d hd hdv => ⟨pk_un hdv, by rw [pk_un hdv, pk_un hdv], fun i hi => A3 _ (by omega)⟩
  by_cases fl : t = 32 ∨ 320 < tz_ps sz nd N + tz_el (fun i => D (tz_sk a i)) (r - 1)
  · refine tx_resultf (k := 5) hv24 rfl DA S.1.2.1 S.1.2.2.1 hps (by rcases fl with z | z; exact Or.inl (t3.mp z); exact Or.inr z) ?_
    refine br_f (by decide) ?_
    exact yfail _ _ _ _ _ _ _ _ _ _ _ _ _ _ _ _ _ _ _ _ _ _ _ (fun yrk1 yds1 fy => tr_junkX S C H Ns R Va L hv24 hvf FX (fun j hj _ => fy j hj (by omega))) (by rcases fl with z | z; exact Or.inl z; exact Or.inr (Or.inl z))
  have ht32 : t < 32 := by omega
  have hN : N < 32 := by
    have := S.1.1
    have : N ≠ 32 := fun z => by have := t3.mpr z; omega
    omega
  have hT : tz_ps sz nd N + tz_el (fun i => D (tz_sk a i)) (r - 1) ≤ 320 := by omega
  have nt : n ≠ t := fun z => q.1.2 (by rw [z]; exact t2 ht32)
  have Rn := R n q.1.2
  have Rle := tr_rc_le (kd := kd) (nod := nod) n
  refine tx_result1 (k := 5) (by omega) hv24 ht32 rfl DA S.1.2.1 hN S.1.2.2.1 hT (t5 ht32) t4 (tr_nwo S) hh hhv q.1.1 hn nt DH SH Rn.1 Rle ?_
  intro stR newr1 xol1 q1 q2 q3
  dsimp only
  obtain ⟨f1, f2, f3, f4, f5, f6, f7, f8⟩ := tx_R1f (n := t) hv24 ht32 hh hhv DA DH SH q1 q2
  have nv : upd (upd (upd (upd nod v (nI t)) (24 + 3 * t) (nI t)) (24 + 3 * t + 1) (nI n)) (24 + 3 * t + 2) (-1) (nI v).toNatClampNeg = nI t := by
    rw [nI_clamp (by omega), pk_un (by omega), pk_un (by omega), pk_un (by omega), pk_us]
  refine br_t (nI_pos' (by omega)) ⟨vp_in_nI (by omega) (by omega), ?_⟩
  rw [nv, tz_3n, tz_24a, tz_add1]
  refine nm_e ⟨4, ?_⟩
  have sA : ∀ i, i < r → stA (3 * h + i) = stx (3 * h + i) := fun i hi => (A3 _ (by omega)).2
  refine tx_fo125 (v := v) (y := fun i => nI (D i)) (z := fun i => stx (3 * h + i)) (by omega) f6.1 hr3 har hy hz ?_ 4 a _ _ (Nat.le_refl _) har (by omega) (fun i hi => by rw [tz_rt_id]; exact (f6.2.2 i hi).1) (fun i hi => by rw [tz_rt_id, f8 i hi, sA i hi]) (fun j hj => ⟨rfl, rfl⟩)
  intro dm2 st2 B1 B2 B3
  -- the reference's side
  refine ty_fold hh hus dh har q.2.2.2.1.2.1 ?_
  intro ydN newD ndl
  refine ty_tensor (k := 4) (T := tz_ps sz nd N) (v := v) (by omega) (tz_b8 _ (by omega)) (by decide) ht32 t6 (t7 ht32) newD rfl C.1 hT C.2.2.2.2.2.1 hv24 u2 hvf.2 ?_
  intro nc ownT pctT valT ordT shnT Tn
  dsimp only
  have inj : ∀ a' b, a' < tz_el (fun i => D (tz_sk a i)) (r - 1) → b < tz_el (fun i => D (tz_sk a i)) (r - 1) → nc a' = nc b → a' = b := fun a' b ha hb hab => by
    rcases (by omega : a' < b ∨ a' = b ∨ b < a') with z | z | z
    · have := Tn.2.1 a' b z hb; omega
    · exact z
    · have := Tn.2.1 b a' z ha; omega
  refine br_t (nI_pos' (by omega)) ?_
  refine ty_sz (d := 24) (by omega) newD ⟨tz_el (fun i => D (tz_sk a i)) (r - 1) + 1, ?_⟩
  have b1 := dh.el.2
  have cellh := q.2.2.2.2.1
  have hch : ∀ E, E < tz_el D r → ∃ c, c < 320 ∧ shnT (64 * h + E) = nI c := fun E hE => by
    obtain ⟨a', a1, a2, a3⟩ := cellh E hE
    exact ⟨_, (C.2.1 n a' q.1.2 a1).1, by rw [Tn.2.2.2.2.1 _ (by omega)]; exact a3⟩
  have dh' : tx_Dx (upd yrk 24 (nI (r - 1))) ydN h r D := tx_Dx_fr dh (pk_un (by omega)) (fun i hi => ndl _ (by omega))
  refine ty_fo151 (nc := nc) (prt0 := prt) (pct0 := pctT) hh dh' newD har cel.2 inj (fun e' he => ⟨(Tn.1 e' he).1, (Tn.1 e' he).2.2.2.2.2.2⟩) hch hv24 ht32 u2 hvf.2 ?_ _ 0 prt pctT (by omega) (by omega) ⟨fun i hi => by omega, fun h0 => ⟨(Tn.1 0 h0).2.2.2.1, fun l hl => by omega⟩, fun i _ hi => (Tn.1 i hi).2.2.2.1, fun c _ => ⟨rfl, fun _ _ => rfl⟩⟩
  intro prt1 pct1 shn2 Pi g2 g3
  (try dsimp only)
  have F := ty_fin (yrk := yrk) (yds := yds) (shn := shn) (shn1 := shnT) (cnt := tz_el (fun i => D (tz_sk a i)) (r - 1)) newD hv24 cel.2 (fun j hj => pk_un (by omega)) ndl (fun e he => ⟨nc e, (Tn.1 e he).1, (Tn.1 e he).2.2.2.2.2.2⟩) (fun p hp => Tn.2.2.2.2.1 p (by omega)) g2 g3
  have rowv : tx_Row st2 (fun i => D (tz_sk a i)) v (r - 1) 0 := fun i h1 h2 => by rw [(B3 _ (by omega)).2]; exact f4 i h1 h2
  refine ⟨rfl, tr_I ?_⟩
  refine tr_mk (k := 5) (n := t) (v := v) (r := r - 1) (D := fun i => D (tz_sk a i)) (nc := nc) (pctT := pctT) (shnT := shnT) S C H Ns R Va L ht32 (t2 ht32) hN (by omega) (by omega) rfl hT hv24 hvf q3 ?_ F.2.1 ?_ ?_ ?_ ?_ ?_ ?_ ?_ ?_ ?_ (tx_row_sx (by omega) hDn f3 rowv) (fun e he => tx_row_rd (by omega) (fun i hi => (hDn i hi).1) f3 rowv he) (fun m hm hmt => tz_frX ht32 hm hmt) (tz_frN ht32) (fun _ _ => rfl) (fun z => by omega) Tn (fun c hc => Pi.2.2.2 c hc) F.1 (fun e he => by rw [F.2.2 e he]; exact (Tn.1 e he).2.2.2.2.2.2) ?_
  · intro d hd hdv
    obtain ⟨b1, b2, b3⟩ := f1 d hd hdv
    refine ⟨b1.trans (pk_un hdv.1), b2.trans (by rw [pk_un hdv.1, pk_un hdv.1]), fun i hi => ?_⟩
    have z := B3 (3 * d + i) (by omega)
    exact ⟨z.1.trans ((b3 i hi).1.trans (A3 _ (by omega)).1), z.2.trans ((b3 i hi).2.trans (A3 _ (by omega)).2)⟩
  · intro d hd hdv hdn
    rw [pk_un (by omega), pk_un (by omega), pk_un (by omega), pk_un hdv]
  · rw [pk_un (by omega), pk_un (by omega), pk_un (by omega), pk_us]
  · intro j hj hjv
    rw [pk_un hjv]
  · rw [pk_us]; rfl
  · exact tr_rf1 R (fun m hm => (S.2.1 m hm).1) (t2 ht32) q.1.2 (by omega) (by rw [pk_un (by omega), pk_us]) pk_us
  · rw [pk_un (fun z => nt z.symm), pk_us]
  · intro _
    rw [pk_un (by omega), pk_us, pk_us]
    exact ⟨fun z => nt ((nI_eq (by omega) (by omega)).mp z), fun z => tz_nIm1 (by omega) z.symm⟩
  · intro m hm
    rw [pk_un hm, pk_un hm]
  · exact tx_Dx_fr f2 rfl (fun i hi => (B3 _ (by omega)).1)
  · have hDa := q.2.1.2.2 a har
    have lastK : tz_last (fun i => D (tz_rt a (r - 1) i)) r = D a := by
      unfold tz_last
      rw [if_neg (by omega)]
      dsimp only
      rw [tz_rt_last (by omega)]
    refine Or.inr ⟨n, r, fun i => D (tz_rt a (r - 1) i), r - 1, fun i => D (tz_sk a i), D a, ⟨by rw [pk_un (by omega), pk_us], by rw [tz_un_n nt]; exact q.1.2, by rw [tz_un_n nt, tz_un_s]; exact (S.2.1 n q.1.2).2.1, f6.1, hr3, fun i hi => ⟨B1 i hi, (q.2.1.2.2 _ (tz_rt_lt (by omega) (by omega) hi)).2⟩⟩, pk_us, tx_Dx_fr f5 rfl (fun i hi => (B3 _ (by omega)).1), hDa.2.1, hDa.2.2, Or.inl ⟨Or.inl ⟨tz_un_s, lastK.symm⟩, pk_us, pk_us, ?_, ?_⟩⟩
    · intro i hi
      rw [pk_us, pk_un nt, pk_un nt]
      exact tz_bl1 hn hi
    · intro e' he
      rw [tz_un_s] at he
      rw [tz_uc_s]
      have pe := Pi.1 e' he
      refine ⟨pe.1, fun j hj => ?_⟩
      obtain ⟨a', a1, a2, a3⟩ := cellh (tz_foE D r a e' j) (tz_foElt har hr3 hDp hj)
      have cb := (C.2.1 n a' q.1.2 a1).1
      have lt := tz_foElt (e := e') har hr3 hDp hj
      refine ⟨a', by rw [tz_un_n nt]; exact a1, ?_, ?_⟩
      · unfold tx_Rd at a2 ⊢
        rw [f7, pk_un hhv, tz_foad har hr3 hDp hj (fun i => stx (3 * h + i)) _ _ (fun _ _ => rfl) B2]
        exact a2
      · rw [pe.2 j hj, tz_uc_n nt]
        dsimp only
        rw [Tn.2.2.2.2.1 _ (by omega), a3, nI_clamp (by omega)]
end
section
theorem i_vc_combine {k : Nat} {u : SX} {v : SY} (I : i_Rel k u v) (hk : k + 5 ≤ 2560) (v1 : Int32) (v2 : Int32) (v3 : Int32) : wpX_combine (fun r u' => wpY_combine (fun r' v' => r' = r ∧ i_Rel (k + 5) u' v') v v1 v2 v3) u v1 v2 v3 := by
  have J := I
  obtain ⟨xnc, xfr, xol, xnw, xtp, xsc, nod, ofs, rnk, dmx, stx, its, knd, rfs, siz, oldr, newr, stt, blw, arn, slo, mvd, sls⟩ := u
  obtain ⟨ycs, ysc, usd, yrk, yds, shn, tof, vw, exs, ykd, fst, snd, own, prt, pct, val, ysl, ord, ysls⟩ := v
  obtain ⟨N, nd, ag, kd, sz, cl, V, S, C, H, Ns, R, Va, L⟩ := I
  obtain ⟨v, hv, u1, u2, vf⟩ := tr_fh S H
  have fX : v < 24 → nod v < 0 := fun z => by rw [(vf z).1]; exact tz_m1lt
  by_cases c1 : v1 < 0
  · unfold wpX_combine
    refine tx_fh hv u1 fX (br_t c1 ?_)
    unfold wpY_combine
    exact br_t c1 ⟨rfl, J⟩
  by_cases c2 : 2 < v1
  · unfold wpX_combine
    refine tx_fh hv u1 fX (br_f c1 (br_t c2 ?_))
    unfold wpY_combine
    exact br_f c1 (br_t c2 ⟨rfl, J⟩)
  obtain ⟨op, hop, rfl⟩ := nI_of c1
  have op2 : op ≤ 2 := by
    have := c2
    rw [show (2 : Int32) = nI 2 from rfl, nI_ltI (by omega) hop] at this
    omega
  rcases tr_hd (xnc := xnc) (xfr := xfr) (xol := xol) (xnw := xnw) (xtp := xtp) (xsc := xsc) (nod := nod) (ofs := ofs) (rnk := rnk) (dmx := dmx) (stx := stx) (its := its) (knd := knd) (rfs := rfs) (siz := siz) (oldr := oldr) (newr := newr) (stt := stt) (blw := blw) (arn := arn) (slo := slo) (mvd := mvd) (sls := sls) (ycs := ycs) (ysc := ysc) (usd := usd) (yrk := yrk) (yds := yds) (shn := shn) (tof := tof) (vw := vw) (exs := exs) (ykd := ykd) (fst := fst) (snd := snd) (own := own) (prt := prt) (pct := pct) (val := val) (ysl := ysl) (ord := ord) (ysls := ysls) H v2 with ⟨hx, hy⟩ | ⟨h, n, rh, Dh, hh, rfl, q⟩
  · unfold wpX_combine
    refine tx_fh hv u1 fX (br_f c1 (br_f c2 (hx _ (br_t rfl ?_))))
    unfold wpY_combine
    exact br_f c1 (br_f c2 (hy _ (br_t rfl ⟨rfl, J⟩)))
  obtain ⟨isx, isy⟩ := tr_Ha.is (xnc := xnc) (xfr := xfr) (xol := xol) (xnw := xnw) (xtp := xtp) (xsc := xsc) (nod := nod) (ofs := ofs) (rnk := rnk) (dmx := dmx) (stx := stx) (its := its) (knd := knd) (rfs := rfs) (siz := siz) (oldr := oldr) (newr := newr) (stt := stt) (blw := blw) (arn := arn) (slo := slo) (mvd := mvd) (sls := sls) (ycs := ycs) (ysc := ysc) (usd := usd) (yrk := yrk) (yds := yds) (shn := shn) (tof := tof) (vw := vw) (exs := exs) (ykd := ykd) (fst := fst) (snd := snd) (own := own) (prt := prt) (pct := pct) (val := val) (ysl := ysl) (ord := ord) (ysls := ysls) S q hh
  rcases tr_hd (xnc := xnc) (xfr := xfr) (xol := xol) (xnw := xnw) (xtp := xtp) (xsc := xsc) (nod := nod) (ofs := ofs) (rnk := rnk) (dmx := dmx) (stx := stx) (its := its) (knd := knd) (rfs := rfs) (siz := siz) (oldr := oldr) (newr := newr) (stt := stt) (blw := blw) (arn := arn) (slo := slo) (mvd := mvd) (sls := sls) (ycs := ycs) (ysc := ysc) (usd := usd) (yrk := yrk) (yds := yds) (shn := shn) (tof := tof) (vw := vw) (exs := exs) (ykd := ykd) (fst := fst) (snd := snd) (own := own) (prt := prt) (pct := pct) (val := val) (ysl := ysl) (ord := ord) (ysls := ysls) H v3 with ⟨hx, hy⟩ | ⟨g, n2, rg, Dg, hg, rfl, p⟩
  · unfold wpX_combine
    refine tx_fh hv u1 fX (br_f c1 (br_f c2 (isx _ (br_f (by decide) (hx _ (br_t rfl ?_))))))
    unfold wpY_combine
    exact br_f c1 (br_f c2 (isy _ (br_f (by decide) (hy _ (br_t rfl ⟨rfl, J⟩)))))
  obtain ⟨gsx, gsy⟩ := tr_Ha.is (xnc := xnc) (xfr := xfr) (xol := xol) (xnw := xnw) (xtp := xtp) (xsc := xsc) (nod := nod) (ofs := ofs) (rnk := rnk) (dmx := dmx) (stx := stx) (its := its) (knd := knd) (rfs := rfs) (siz := siz) (oldr := oldr) (newr := newr) (stt := stt) (blw := blw) (arn := arn) (slo := slo) (mvd := mvd) (sls := sls) (ycs := ycs) (ysc := ysc) (usd := usd) (yrk := yrk) (yds := yds) (shn := shn) (tof := tof) (vw := vw) (exs := exs) (ykd := ykd) (fst := fst) (snd := snd) (own := own) (prt := prt) (pct := pct) (val := val) (ysl := ysl) (ord := ord) (ysls := ysls) S p hg
  have wh : vp_in (nI h) 120 := vp_in_nI (by omega) (by omega)
  have wg : vp_in (nI g) 120 := vp_in_nI (by omega) (by omega)
  have yh : vp_in (nI h) 25 := vp_in_nI (by omega) (by omega)
  have yg : vp_in (nI g) 25 := vp_in_nI (by omega) (by omega)
  have exh : rnk (nI h).toNatClampNeg = nI rh := by rw [nI_clamp (by omega)]; exact q.2.1.1
  have exg : rnk (nI g).toNatClampNeg = nI rg := by rw [nI_clamp (by omega)]; exact p.2.1.1
  have eyh : yrk (nI h).toNatClampNeg = nI rh := by rw [nI_clamp (by omega)]; exact q.2.2.2.1.2.2.1
  have eyg : yrk (nI g).toNatClampNeg = nI rg := by rw [nI_clamp (by omega)]; exact p.2.2.2.1.2.2.1
  have rh3 := q.2.1.2.1
  have rg3 := p.2.1.2.1
  obtain ⟨Rk, hRk⟩ : ∃ Rk, Rk = tz_mx rh rg := ⟨_, rfl⟩
  have R3 : Rk ≤ 3 := by rw [hRk]; unfold tz_mx; split <;> omega
  have rhR : rh ≤ Rk := by rw [hRk]; unfold tz_mx; split <;> omega
  have rgR : rg ≤ Rk := by rw [hRk]; unfold tz_mx; split <;> omega
  have hn := (S.2.1 n q.1.2).1
  have hn2 := (S.2.1 n2 p.1.2).1
  obtain ⟨t, ht, t1, t2, t3, t4, t5, t6, t7⟩ := tr_fn S C
  have hps := S.1.2.2.2.1
  have dh := q.2.2.2.1.2.2
  have dg := p.2.2.2.1.2.2
  obtain ⟨M, hM⟩ : ∃ M : Nat → Nat, ∀ i, M i = tz_mx (tz_al Dh rh Rk i) (tz_al Dg rg Rk i) := ⟨_, fun _ => rfl⟩
  have alb1 := fun i (hi : i < Rk) => tz_alb (D := Dh) (i := i) rhR hi (fun i hi => (q.2.1.2.2 i hi).2)
  have alb2 := fun i (hi : i < Rk) => tz_alb (D := Dg) (i := i) rgR hi (fun i hi => (p.2.1.2.2 i hi).2)
  have Mb : ∀ i, i < Rk → 1 ≤ M i ∧ M i ≤ 4 := fun i hi => by
    have z1 := alb1 i hi
    have z2 := alb2 i hi
    rw [hM i]
    unfold tz_mx
    split <;> omega
  have ndl : ∀ j, j < 72 → ty_sn yds 0 0 0 j = yds j := fun j hj => ty_sn_n hj
  have dh' : tx_Dx (upd yrk 24 (nI Rk)) (ty_sn yds 0 0 0) h rh Dh := tx_Dx_fr dh (pk_un (by omega)) (fun i hi => ndl _ (by omega))
  have dg' : tx_Dx (upd yrk 24 (nI Rk)) (ty_sn yds 0 0 0) g rg Dg := tx_Dx_fr dg (pk_un (by omega)) (fun i hi => ndl _ (by omega))
  have ywalk : ∀ post : Int32 → SY → Prop, (∀ yds1, (∀ i, i < Rk → yds1 (72 + i) = nI (M i)) → (∀ j, j < 72 → yds1 j = yds j) → (∀ i, i < Rk → tz_cok (tz_al Dh rh Rk i) (tz_al Dg rg Rk i)) → wY_combine_71 post (nI op) (nI h) (nI g) (nI Rk) ycs ysc 1 (nI Rk) usd (upd yrk 24 (nI Rk)) yds1 shn tof vw exs ykd fst snd own prt pct val ysl ord ysls) → (∀ yds1, (∀ j, j < 72 → yds1 j = yds j) → (¬ ∀ i, i < Rk → tz_cok (tz_al Dh rh Rk i) (tz_al Dg rg Rk i)) → post (-1) (ycs, ysc, usd, upd yrk 24 (nI Rk), yds1, shn, tof, vw, exs, ykd, fst, snd, own, prt, pct, val, ysl, ord, ysls)) → wpY_combine post (ycs, ysc, usd, yrk, yds, shn, tof, vw, exs, ykd, fst, snd, own, prt, pct, val, ysl, ord, ysls) (nI op) (nI h) (nI g) := by
    intro post Hok Hbad
    have K57 : wY_combine_57 post (nI op) (nI h) (nI g) (nI Rk) ycs ysc usd yrk yds shn tof vw exs ykd fst snd own prt pct val ysl ord ysls := by
      unfold wY_combine_57
      refine ty_shapeNew rfl R3 ?_
      refine ⟨4, ty_cb71 (yds0 := ty_sn yds 0 0 0) hh hg R3 rhR rgR dh' dg' ?_ ?_ 4 0 (ty_sn yds 0 0 0) (by omega) (by omega) (fun j hj => by omega) (fun j hj => by omega) (fun _ _ => rfl)⟩
      · intro yds1 z1 z2 ok
        exact Hok yds1 (fun i hi => by rw [z1 i hi, hM i]) (fun j hj => (z2 j hj).trans (ndl j hj)) ok
      · intro yds1 z2 bad
        exact Hbad yds1 (fun j hj => (z2 j hj).trans (ndl j hj)) bad
    unfold wpY_combine
    refine br_f c1 (br_f c2 (isy _ (br_f (by decide) (gsy _ (br_f (by decide) ⟨yh, yg, ?_⟩)))))
    rw [eyh, eyg]
    refine pk_le rh rg (fun z => ⟨yg, ?_⟩) (fun z => ⟨yh, ?_⟩) rfl rfl (by omega) (by omega)
    · have : Rk = rg := by rw [hRk]; unfold tz_mx; rw [if_pos z]
      rw [← this]; exact K57
    · have : Rk = rh := by rw [hRk]; unfold tz_mx; rw [if_neg (by omega)]
      rw [← this]; exact K57
  have newD : ∀ yds1 : Nat → Int32, (∀ i, i < Rk → yds1 (72 + i) = nI (M i)) → tx_Dx (upd yrk 24 (nI Rk)) yds1 24 Rk M := fun yds1 z1 => ⟨pk_us, R3, fun i hi => ⟨z1 i hi, Mb i hi⟩⟩
  have e1y : (1 : Int32) + nI op = nI (1 + op) := nI_add 1 op
  have e2x : (2 : Int32) + nI op = nI (2 + op) := nI_add 2 op
  have tfh : tof (nI h).toNatClampNeg = nI n := by rw [nI_clamp (by omega)]; exact q.2.2.2.1.2.1
  have tfg : tof (nI g).toNatClampNeg = nI n2 := by rw [nI_clamp (by omega)]; exact p.2.2.2.1.2.1
  have yfail : ∀ (xnc1 xfr1 xol1 xnw1 xtp1 xsc1 : Int32) (nod1 ofs1 rnk1 dmx1 stx1 its1 knd1 rfs1 siz1 oldr1 newr1 stt1 blw1 arn1 slo1 mvd1 sls1 : Nat → Int32), (∀ yrk1 yds1, tr_fy 24 yrk yds shn yrk1 yds1 shn → tr_R xnc1 xfr1 xol1 xnw1 xtp1 xsc1 nod1 ofs1 rnk1 dmx1 stx1 its1 knd1 rfs1 siz1 oldr1 newr1 stt1 blw1 arn1 slo1 mvd1 sls1 ycs ysc usd yrk1 yds1 shn tof vw exs ykd fst snd own prt pct val ysl ord ysls) → ((∀ i, i < Rk → tz_cok (tz_al Dh rh Rk i) (tz_al Dg rg Rk i)) → t = 32 ∨ 320 < tz_ps sz nd N + tz_el M Rk ∨ v = 24) → wpY_combine (fun r' v' => r' = -1 ∧ i_Rel (k + 5) (xnc1, xfr1, xol1, xnw1, xtp1, xsc1, nod1, ofs1, rnk1, dmx1, stx1, its1, knd1, rfs1, siz1, oldr1, newr1, stt1, blw1, arn1, slo1, mvd1, sls1) v') (ycs, ysc, usd, yrk, yds, shn, tof, vw, exs, ykd, fst, snd, own, prt, pct, val, ysl, ord, ysls) (nI op) (nI h) (nI g) := by
    intro xnc1 xfr1 xol1 xnw1 xtp1 xsc1 nod1 ofs1 rnk1 dmx1 stx1 its1 knd1 rfs1 siz1 oldr1 newr1 stt1 blw1 arn1 slo1 mvd1 sls1 Q hfl
    refine ywalk _ ?_ ?_
    · intro yds2 z1 z2 ok
      have hD := newD yds2 z1
      refine br_t (Int32.le_refl _) ⟨yh, yg, ?_⟩
      rw [e1y]
      refine ty_tensorf (T := tz_ps sz nd N) (v := v) ht t6 t7 hD rfl C.1 hps hv u2 (fun z => (vf z).2) (hfl ok) ?_
      exact br_f (by decide) ⟨rfl, Q _ _ (tr_fyn (fun j hj => pk_un (by omega)) z2 24)⟩
    · intro yds2 z2 _
      exact ⟨rfl, Q _ _ (tr_fyn (fun j hj => pk_un (by omega)) z2 24)⟩
  by_cases c5 : v = 24
  · have Y := yfail xnc xfr xol xnw xtp xsc nod ofs rnk dmx stx its knd rfs siz oldr newr stt blw arn slo mvd sls (fun _ _ fy => tr_junkY S C H Ns R Va L fy) (fun _ => Or.inr (Or.inr c5))
    subst c5
    unfold wpX_combine
    exact tx_fh (by omega) u1 (fun z => by omega) (br_f c1 (br_f c2 (isx _ (br_f (by decide) (gsx _ (br_f (by decide) (br_t rfl Y)))))))
  have hv24 : v < 24 := by omega
  have hvf := vf hv24
  have hhv : h ≠ v := fun z => by
    have e := q.1.1
    rw [z, hvf.1] at e
    exact tz_nIm1 (by omega) e.symm
  have hgv : g ≠ v := fun z => by
    have e := p.1.1
    rw [z, hvf.1] at e
    exact tz_nIm1 (by omega) e.symm
  have nv24 : ¬ nI v = 24 := fun e => by
    have := (nI_eq (a := v) (b := 24) (by omega) (by decide)).mp e
    omega
  have FXd : ∀ dmx1 : Nat → Int32, (∀ j, (j < 3 * v ∨ 3 * v + 3 ≤ j) → dmx1 j = dmx j) → tr_fx (fun d => d ≠ v) ofs rnk dmx stx ofs (upd rnk v (nI Rk)) dmx1 stx := fun dmx1 f d hd hdv => ⟨rfl, pk_un hdv, fun i hi => ⟨f _ (by omega), rfl⟩⟩
  have K70 : wX_combine_70 (fun r u' => wpY_combine (fun r' v' => r' = r ∧ i_Rel (k + 5) u' v') (ycs, ysc, usd, yrk, yds, shn, tof, vw, exs, ykd, fst, snd, own, prt, pct, val, ysl, ord, ysls) (nI op) (nI h) (nI g)) (nI op) (nI h) (nI g) (nI v) (nI Rk) xnc xfr xol xnw xtp xsc nod ofs rnk dmx stx its knd rfs siz oldr newr stt blw arn slo mvd sls := by
    unfold wX_combine_70
    refine ⟨vp_in_nI (by omega) (by omega), ?_⟩
    rw [nI_clamp (by omega), tz_b8 _ (by omega), tz_nb (by omega)]
    refine nm_e ⟨4, ?_⟩
    refine tx_cb85 (dmx0 := dmx) hh hg hv24 hhv hgv R3 rhR rgR (tx_Dx_fr q.2.1 (pk_un hhv) (fun _ _ => rfl)) (tx_Dx_fr p.2.1 (pk_un hgv) (fun _ _ => rfl)) ?_ ?_ 4 0 dmx (by omega) (by omega) (fun j hj => by omega) (fun j hj => by omega) (fun _ _ => rfl)
    · intro dmA A1 A2 ok
      have alh : ∀ i, i < Rk → tz_al Dh rh Rk i = M i ∨ tz_al Dh rh Rk i = 1 := fun i hi => by
        rw [hM i]; exact tz_mx1 (alb1 i hi).1 (alb2 i hi).1 (ok i hi)
      have alg : ∀ i, i < Rk → tz_al Dg rg Rk i = M i ∨ tz_al Dg rg Rk i = 1 := fun i hi => by
        rw [hM i]; exact tz_mx2 (alb1 i hi).1 (alb2 i hi).1 (ok i hi)
      have DA : tx_Dx (upd rnk v (nI Rk)) dmA v Rk M := ⟨pk_us, R3, fun i hi => ⟨by rw [A1 i hi, hM i], Mb i hi⟩⟩
      have DH : tx_Dx (upd rnk v (nI Rk)) dmA h rh Dh := tx_Dx_fr q.2.1 (pk_un hhv) (fun i hi => A2 _ (by omega))
      have DG : tx_Dx (upd rnk v (nI Rk)) dmA g rg Dg := tx_Dx_fr p.2.1 (pk_un hgv) (fun i hi => A2 _ (by omega))
      have cel := DA.el
      refine br_t (Int32.le_refl _) ?_
      rw [e2x]
      by_cases fl : t = 32 ∨ 320 < tz_ps sz nd N + tz_el M Rk
      · refine tx_resultf (k := 2 + op) hv24 rfl DA S.1.2.1 S.1.2.2.1 hps (by rcases fl with z | z; exact Or.inl (t3.mp z); exact Or.inr z) ?_
        refine br_f (by decide) ?_
        exact yfail _ _ _ _ _ _ _ _ _ _ _ _ _ _ _ _ _ _ _ _ _ _ _ (fun yrk1 yds1 fy => tr_junkX S C H Ns R Va L hv24 hvf (FXd dmA A2) (fun j hj _ => fy j hj (by omega))) (fun _ => by rcases fl with z | z; exact Or.inl z; exact Or.inr (Or.inl z))
      have ht32 : t < 32 := by omega
      have hN : N < 32 := by
        have := S.1.1
        have : N ≠ 32 := fun z => by have := t3.mpr z; omega
        omega
      have hT : tz_ps sz nd N + tz_el M Rk ≤ 320 := by omega
      have nt : n ≠ t := fun z => q.1.2 (by rw [z]; exact t2 ht32)
      have nt2 : n2 ≠ t := fun z => p.1.2 (by rw [z]; exact t2 ht32)
      have Rn := R n q.1.2
      have Rle := tr_rc_le (kd := kd) (nod := nod) n
      have Rle2 := tr_rc_le (kd := kd) (nod := nod) n2
      refine tx_result2 (k := 2 + op) (by omega) hv24 ht32 rfl DA S.1.2.1 hN S.1.2.2.1 hT (t5 ht32) t4 (tr_nwo S) hh hhv q.1.1 hn nt DH q.2.2.1 Rn.1 Rle hg hgv p.1.1 hn2 nt2 DG p.2.2.1 (tr_gcm R p.1.2) (by split <;> omega) ?_
      intro stR newr1 xol1 q1 q2 q3
      dsimp only
      obtain ⟨f1, f2, f3, f4, f5, ⟨f6, f7, f8⟩, f9, f10, f11⟩ := tx_R2f (n := t) hv24 ht32 hh hhv hg hgv DA DH q.2.2.1 DG p.2.2.1 q1 q2
      have nv : upd (upd (upd (upd (upd nod v (nI t)) (24 + 3 * t) (nI t)) (24 + 3 * t + 1) (nI n)) (24 + 3 * t + 2) (-1)) (24 + 3 * t + 2) (nI n2) (nI v).toNatClampNeg = nI t := by
        rw [nI_clamp (by omega), pk_un (by omega), pk_un (by omega), pk_un (by omega), pk_un (by omega), pk_us]
      refine br_t (nI_pos' (by omega)) ⟨vp_in_nI (by omega) (by omega), ?_⟩
      rw [nv, tz_3n, tz_24a]
      refine nm_e ?_
      rw [tz_add1, tz_add2]
      refine tx_stretch (by omega) (by omega) (by omega) f6 f5 (fun i hi => by rw [f8 i hi]; exact q.2.2.1.2 i hi) rhR ?_
      intro dm2 st2 T2
      dsimp only
      have g5 : tx_Dx (upd (upd (upd (upd (upd rnk v (nI Rk)) (24 + 3 * t) (nI Rk)) (24 + 3 * t + 1) (nI rh)) (24 + 3 * t + 2) (nI rg)) (24 + 3 * t + 1) (nI Rk)) dm2 (24 + 3 * t) Rk M := tx_Dx_fr f5 (pk_un (by omega)) (fun i hi => (T2.2 _ (by omega)).1)
      have g9 : tx_Dx (upd (upd (upd (upd (upd rnk v (nI Rk)) (24 + 3 * t) (nI Rk)) (24 + 3 * t + 1) (nI rh)) (24 + 3 * t + 2) (nI rg)) (24 + 3 * t + 1) (nI Rk)) dm2 (24 + 3 * t + 2) rg Dg := tx_Dx_fr f9 (pk_un (by omega)) (fun i hi => (T2.2 _ (by omega)).1)
      refine tx_stretch (by omega) (by omega) (by omega) g9 g5 (fun i hi => by rw [(T2.2 _ (by omega)).2, f11 i hi]; exact p.2.2.1.2 i hi) rgR ?_
      intro dm3 st3 T3
      dsimp only
      have s1 : ∀ i, i < Rk → dm3 (3 * (24 + 3 * t + 1) + i) = nI (M i) ∧ st3 (3 * (24 + 3 * t + 1) + i) = if Rk ≤ i + rh ∧ Dh (i + rh - Rk) = M i then stx (3 * h + (i + rh - Rk)) else 0 := fun i hi => by
        have z := T2.1 i (by omega) hi
        rw [(T3.2 _ (by omega)).1, (T3.2 _ (by omega)).2, z.1, z.2]
        refine ⟨rfl, ?_⟩
        by_cases c : Rk ≤ i + rh ∧ Dh (i + rh - Rk) = M i
        · rw [if_pos c, if_pos c, f8 _ (by omega)]
        · rw [if_neg c, if_neg c]
      have s2 : ∀ i, i < Rk → dm3 (3 * (24 + 3 * t + 2) + i) = nI (M i) ∧ st3 (3 * (24 + 3 * t + 2) + i) = if Rk ≤ i + rg ∧ Dg (i + rg - Rk) = M i then stx (3 * g + (i + rg - Rk)) else 0 := fun i hi => by
        have z := T3.1 i (by omega) hi
        rw [z.1, z.2]
        refine ⟨rfl, ?_⟩
        by_cases c : Rk ≤ i + rg ∧ Dg (i + rg - Rk) = M i
        · rw [if_pos c, if_pos c, (T2.2 _ (by omega)).2, f11 _ (by omega)]
        · rw [if_neg c, if_neg c]
      have so : ∀ d i, d ≠ 24 + 3 * t + 1 → d ≠ 24 + 3 * t + 2 → i < 3 → dm3 (3 * d + i) = tx_cp (tx_cp (tx_cp dmA v (24 + 3 * t)) h (24 + 3 * t + 1)) g (24 + 3 * t + 2) (3 * d + i) ∧ st3 (3 * d + i) = tx_cp (tx_cp (tx_cp stR v (24 + 3 * t)) h (24 + 3 * t + 1)) g (24 + 3 * t + 2) (3 * d + i) := fun d i h1 h2 hi => by
        have z1 := T3.2 (3 * d + i) (by omega)
        have z2 := T2.2 (3 * d + i) (by omega)
        exact ⟨z1.1.trans z2.1, z1.2.trans z2.2⟩
      -- the reference's side
      refine ywalk _ ?_ (fun _ _ z => absurd ok z)
      intro ydN z1 ndN _
      have hD := newD ydN z1
      refine br_t (Int32.le_refl _) ⟨yh, yg, ?_⟩
      rw [e1y, tfh, tfg]
      refine ty_tensor (k := 1 + op) (T := tz_ps sz nd N) (v := v) (by omega) (tz_b8 _ (by omega)) (tz_b8 _ (by omega)) ht32 t6 (t7 ht32) hD rfl C.1 hT C.2.2.2.2.2.1 hv24 u2 hvf.2 ?_
      intro nc ownT pctT valT ordT shnT Tn
      dsimp only
      have inj : ∀ a b, a < tz_el M Rk → b < tz_el M Rk → nc a = nc b → a = b := fun a b ha hb hab => by
        rcases (by omega : a < b ∨ a = b ∨ b < a) with z | z | z
        · have := Tn.2.1 a b z hb; omega
        · exact z
        · have := Tn.2.1 b a z ha; omega
      refine br_t (nI_pos' (by omega)) ?_
      refine ty_sz (d := 24) (by omega) hD ⟨tz_el M Rk + 1, ?_⟩
      have b1 := dh.el.2
      have b2 := dg.el.2
      have cellh := q.2.2.2.2.1
      have cellg := p.2.2.2.2.1
      have hch : ∀ E, E < tz_el Dh rh → ∃ c, c < 320 ∧ shnT (64 * h + E) = nI c := fun E hE => by
        obtain ⟨a, a1, a2, a3⟩ := cellh E hE
        exact ⟨_, (C.2.1 n a q.1.2 a1).1, by rw [Tn.2.2.2.2.1 _ (by omega)]; exact a3⟩
      have hcg : ∀ E, E < tz_el Dg rg → ∃ c, c < 320 ∧ shnT (64 * g + E) = nI c := fun E hE => by
        obtain ⟨a, a1, a2, a3⟩ := cellg E hE
        exact ⟨_, (C.2.1 n2 a p.1.2 a1).1, by rw [Tn.2.2.2.2.1 _ (by omega)]; exact a3⟩
      have dhN : tx_Dx (upd yrk 24 (nI Rk)) ydN h rh Dh := tx_Dx_fr dh (pk_un (by omega)) (fun i hi => ndN _ (by omega))
      have dgN : tx_Dx (upd yrk 24 (nI Rk)) ydN g rg Dg := tx_Dx_fr dg (pk_un (by omega)) (fun i hi => ndN _ (by omega))
      refine ty_cb191 (nc := nc) (prt0 := prt) (pct0 := pctT) hh hg dhN dgN hD rhR rgR alh alg cel.2 inj (fun e' he => ⟨(Tn.1 e' he).1, (Tn.1 e' he).2.2.2.2.2.2⟩) hch hcg hv24 ht32 u2 hvf.2 ?_ _ 0 prt pctT (by omega) (by omega) ⟨fun i hi => by omega, fun h0 => ⟨(Tn.1 0 h0).2.2.2.1, fun l hl => by omega⟩, fun i _ hi => (Tn.1 i hi).2.2.2.1, fun c _ => ⟨rfl, fun _ _ => rfl⟩⟩
      intro prt1 pct1 shn2 Pi g2 g3
      (try dsimp only)
      have F := ty_fin (yrk := yrk) (yds := yds) (shn := shn) (shn1 := shnT) (cnt := tz_el M Rk) hD hv24 cel.2 (fun j hj => pk_un (by omega)) ndN (fun e he => ⟨nc e, (Tn.1 e he).1, (Tn.1 e he).2.2.2.2.2.2⟩) (fun p hp => Tn.2.2.2.2.1 p (by omega)) g2 g3
      have rowv : tx_Row st3 M v Rk 0 := fun i h1 h2 => by rw [(so v i (by omega) (by omega) (by omega)).2]; exact f4 i h1 h2
      have hMp : ∀ i, i < Rk → 1 ≤ M i := fun i hi => (Mb i hi).1
      refine ⟨rfl, tr_I ?_⟩
      have ek : nI (1 + op) = nI (2 + op - 1) := congrArg nI (by omega)
      rw [ek]
      refine tr_mk (k := 2 + op) (n := t) (v := v) (r := Rk) (D := M) (nc := nc) (pctT := pctT) (shnT := shnT) S C H Ns R Va L ht32 (t2 ht32) hN (by omega) (by omega) rfl hT hv24 hvf q3 ?_ F.2.1 ?_ ?_ ?_ ?_ ?_ ?_ ?_ ?_ ?_ (tx_row_sx (by omega) Mb f3 rowv) (fun e he => tx_row_rd (by omega) hMp f3 rowv he) (fun m hm hmt => tz_frX ht32 hm hmt) ?_ (fun _ _ => rfl) (fun z => by omega) Tn (fun c hc => Pi.2.2.2 c hc) F.1 (fun e he => by rw [F.2.2 e he]; exact (Tn.1 e he).2.2.2.2.2.2) ?_
      · intro d hd hdv
        obtain ⟨b1, b2, b3⟩ := f1 d hd hdv
        refine ⟨b1, ?_, fun i hi => ?_⟩
        · rw [pk_un (by omega), pk_un (by omega)]
          exact b2.trans (pk_un hdv.1)
        · have z := so d i (by omega) (by omega) hi
          exact ⟨z.1.trans ((b3 i hi).1.trans (A2 _ (by omega))), z.2.trans (b3 i hi).2⟩
      · intro d hd hdv hdn
        rw [pk_un (by omega), pk_un (by omega), pk_un (by omega), pk_un (by omega), pk_un hdv]
      · rw [pk_un (by omega), pk_un (by omega), pk_un (by omega), pk_un (by omega), pk_us]
      · intro j hj hjv
        rw [pk_un hjv]
      · rw [pk_us, if_neg (by omega)]
      · exact tr_rf2 R (fun m hm => (S.2.1 m hm).1) (t2 ht32) q.1.2 p.1.2 (by omega) (by rw [pk_un (by omega), pk_un (by omega), pk_us]) pk_us rfl
      · rw [pk_un (fun z => nt2 z.symm), pk_un (fun z => nt z.symm), pk_us]
      · intro _
        rw [pk_un (by omega), pk_un (by omega), pk_us, pk_us]
        exact ⟨fun z => nt ((nI_eq (by omega) (by omega)).mp z), fun z => nt2 ((nI_eq (by omega) (by omega)).mp z)⟩
      · intro m hm
        rw [pk_un hm, pk_un hm, pk_un hm]
      · exact tx_Dx_fr f2 (by rw [pk_un (by omega), pk_un (by omega)]) (fun i hi => (so v i (by omega) (by omega) hi).1)
      · rw [tz_frN ht32, decide_eq_false (by omega)]
      · refine Or.inr ⟨n, Rk, M, Rk, M, 1, ⟨by rw [pk_un (by omega), pk_un (by omega), pk_us], by rw [tz_un_n nt]; exact q.1.2, by rw [tz_un_n nt, tz_un_s]; exact (S.2.1 n q.1.2).2.1, by rw [pk_un (by omega), pk_us], R3, fun i hi => ⟨(s1 i hi).1, Mb i hi⟩⟩, pk_us, tx_Dx_fr f5 (by rw [pk_un (by omega), pk_un (by omega)]) (fun i hi => (so _ i (by omega) (by omega) hi).1), by omega, by omega, Or.inr ⟨n2, Rk, M, Or.inr ⟨by rw [tz_un_s]; omega, rfl⟩, ⟨pk_us, by rw [tz_un_n nt2]; exact p.1.2, by rw [tz_un_n nt2, tz_un_s]; exact (S.2.1 n2 p.1.2).2.1, pk_us, R3, fun i hi => ⟨(s2 i hi).1, Mb i hi⟩⟩, pk_us, ?_, ?_⟩⟩
        · intro i hi
          rw [pk_us, pk_un nt, pk_un nt, pk_un nt, pk_un nt2, pk_un nt2, pk_un nt2]
          exact tz_bl2 hn hn2 hi
        · intro e' he
          rw [tz_un_s] at he
          rw [tz_uc_s, tz_un_s]
          have pe := Pi.1 e' he
          refine ⟨pe.1, fun j hj => ⟨?_, ?_⟩⟩
          · have lt := tz_splt (e := e') rhR hMp alh
            obtain ⟨a, a1, a2, a3⟩ := cellh _ lt
            have cb := (C.2.1 n a q.1.2 a1).1
            refine ⟨a, by rw [tz_un_n nt]; exact a1, ?_, ?_⟩
            · have ei : tr_i1 (2 + op) (tz_last M Rk) 1 e' j = e' := by unfold tr_i1; rw [if_neg (by omega)]
              rw [ei]
              unfold tx_Rd at a2 ⊢
              rw [f7, tz_spad rhR hMp alh (s := fun i => stx (3 * h + i)) (fun i hi => (s1 i hi).2)]
              exact a2
            · rw [pe.2 (2 * j) (by omega), tz_uc_n nt]
              unfold tz_cq
              rw [if_pos (by omega), Tn.2.2.2.2.1 _ (by omega), a3, nI_clamp (by omega)]
          · have lt := tz_splt (e := e') rgR hMp alg
            obtain ⟨a, a1, a2, a3⟩ := cellg _ lt
            have cb := (C.2.1 n2 a p.1.2 a1).1
            refine ⟨a, by rw [tz_un_n nt2]; exact a1, ?_, ?_⟩
            · have ei : tr_i2 (2 + op) (tz_last M Rk) e' j = e' := by unfold tr_i2; rw [if_neg (by omega)]
              rw [ei]
              unfold tx_Rd at a2 ⊢
              rw [f10, tz_spad rgR hMp alg (s := fun i => stx (3 * g + i)) (fun i hi => (s2 i hi).2)]
              exact a2
            · rw [pe.2 (2 * j + 1) (by omega), tz_uc_n nt2]
              unfold tz_cq
              rw [if_neg (by omega), Tn.2.2.2.2.1 _ (by omega), a3, nI_clamp (by omega)]
    · intro dmA A2 bad
      exact yfail _ _ _ _ _ _ _ _ _ _ _ _ _ _ _ _ _ _ _ _ _ _ _ (fun yrk1 yds1 fy => tr_junkX S C H Ns R Va L hv24 hvf (FXd dmA A2) (fun j hj _ => fy j hj (by omega))) (fun ok => absurd ok bad)
  unfold wpX_combine
  refine tx_fh hv u1 fX (br_f c1 (br_f c2 (isx _ (br_f (by decide) (gsx _ (br_f (by decide) (br_f nv24 ⟨wh, wg, ?_⟩)))))))
  rw [exh, exg]
  refine pk_le rh rg (fun z => ⟨wg, ?_⟩) (fun z => ⟨wh, ?_⟩) rfl rfl (by omega) (by omega)
  · have : Rk = rg := by rw [hRk]; unfold tz_mx; rw [if_pos z]
    rw [← this]; exact K70
  · have : Rk = rh := by rw [hRk]; unfold tz_mx; rw [if_neg (by omega)]
    rw [← this]; exact K70
end
section
/-! values: the derivative of a cell; the values that leaf values give; below -/
def tr_dF (k cnt : Nat) (q : Nat → Nat) (V E : Nat → Int32) : Int32 :=
  if k = 3 then E (q 0) - E (q 1)
  else if k = 4 ∨ k = 6 then tz_sm (fun j => E (q (2 * j)) * V (q (2 * j + 1)) + V (q (2 * j)) * E (q (2 * j + 1))) (cnt / 2)
  else tz_sm (fun j => E (q j)) cnt
theorem tr_dFc {k cnt : Nat} {q q' : Nat → Nat} {V V' E E' : Nat → Int32} (h3 : k = 3 → 2 ≤ cnt) (h : ∀ j, j < cnt → V (q j) = V' (q' j) ∧ E (q j) = E' (q' j)) : tr_dF k cnt q V E = tr_dF k cnt q' V' E' := by
  unfold tr_dF
  by_cases c : k = 3
  · rw [if_pos c, if_pos c, (h 0 (by have := h3 c; omega)).2, (h 1 (by have := h3 c; omega)).2]
  · rw [if_neg c, if_neg c]
    by_cases c2 : k = 4 ∨ k = 6
    · rw [if_pos c2, if_pos c2]
      refine tz_smc _ (fun j hj => ?_)
      have a := h (2 * j) (by omega)
      have b := h (2 * j + 1) (by omega)
      rw [a.1, a.2, b.1, b.2]
    · rw [if_neg c2, if_neg c2]
      exact tz_smc _ (fun j hj => (h j hj).2)
section VL
variable {xnc xfr xol xnw xtp xsc : Int32} {nod ofs rnk dmx stx its knd rfs siz oldr newr stt blw arn slo mvd sls : Nat → Int32}
variable {ycs ysc : Int32} {usd yrk yds shn tof vw exs ykd fst snd own prt pct val ysl ord ysls : Nat → Int32}
variable {N : Nat} {nd ag kd sz : Nat → Nat} {cl : Nat → Nat → Nat} {V : Nat → Int32}
/-- the values by age: node i is done in step i -/
def tr_ev (nd kd : Nat → Nat) (own prt pct val : Nat → Int32) : Nat → Nat → Int32
  | 0 => val
  | i + 1 => fun c => if own c = nI (nd i) ∧ 2 ≤ kd (nd i) then tr_vF (kd (nd i)) (pct c).toNatClampNeg (tr_q prt c) (tr_ev nd kd own prt pct val i) else tr_ev nd kd own prt pct val i c
theorem tr_ev_lo {m e : Nat} (S : tr_Sk N nd ag kd sz xnc xol xnw xtp knd siz oldr newr stt) (C : tr_Ce N nd kd sz cl ycs own ord exs ykd) (hm : kd m ≠ 0) (he : e < sz m) : ∀ i, i ≤ ag m → tr_ev nd kd own prt pct val i (cl m e) = val (cl m e)
  | 0, _ => rfl
  | i + 1, h => by
    have s := S.2.1 m hm
    have o := (C.2.1 m e hm he).2
    have si := S.2.2.1 i (by omega)
    have ne : ¬ own (cl m e) = nI (nd i) := fun z => by
      rw [o] at z
      have := (nI_eq (by omega) (by have := (S.2.1 _ si.1).1; omega)).mp z
      have e2 := si.2
      rw [← this] at e2
      omega
    show (if own (cl m e) = nI (nd i) ∧ 2 ≤ kd (nd i) then _ else _) = _
    rw [if_neg (fun z => ne z.1)]
    exact tr_ev_lo S C hm he i (by omega)
theorem tr_ev_hi {m e : Nat} (S : tr_Sk N nd ag kd sz xnc xol xnw xtp knd siz oldr newr stt) (C : tr_Ce N nd kd sz cl ycs own ord exs ykd) (hm : kd m ≠ 0) (he : e < sz m) : ∀ i, ag m < i → i ≤ N → tr_ev nd kd own prt pct val i (cl m e) = tr_ev nd kd own prt pct val (ag m + 1) (cl m e)
  | 0, h, _ => by omega
  | i + 1, h, h2 => by
    by_cases c : i = ag m
    · rw [c]
    · have s := S.2.1 m hm
      have o := (C.2.1 m e hm he).2
      have si := S.2.2.1 i (by omega)
      have ne : ¬ own (cl m e) = nI (nd i) := fun z => by
        rw [o] at z
        have := (nI_eq (by omega) (by have := (S.2.1 _ si.1).1; omega)).mp z
        have e2 := si.2
        rw [← this] at e2
        omega
      have e1 : tr_ev nd kd own prt pct val (i + 1) (cl m e) = tr_ev nd kd own prt pct val i (cl m e) := by
        show (if own (cl m e) = nI (nd i) ∧ 2 ≤ kd (nd i) then _ else _) = _
        rw [if_neg (fun z => ne z.1)]
      rw [e1]
      exact tr_ev_hi S C hm he i (by omega) (by omega)
theorem tr_ev_at {m e : Nat} (S : tr_Sk N nd ag kd sz xnc xol xnw xtp knd siz oldr newr stt) (C : tr_Ce N nd kd sz cl ycs own ord exs ykd) (hm : kd m ≠ 0) (he : e < sz m) : tr_ev nd kd own prt pct val N (cl m e) = if 2 ≤ kd m then tr_vF (kd m) (pct (cl m e)).toNatClampNeg (tr_q prt (cl m e)) (tr_ev nd kd own prt pct val (ag m)) else val (cl m e) := by
  have s := S.2.1 m hm
  have o := (C.2.1 m e hm he).2
  rw [tr_ev_hi S C hm he N s.2.1 (Nat.le_refl _)]
  show (if own (cl m e) = nI (nd (ag m)) ∧ 2 ≤ kd (nd (ag m)) then _ else _) = _
  rw [s.2.2]
  by_cases c : 2 ≤ kd m
  · rw [if_pos ⟨o, c⟩, if_pos c]
  · rw [if_neg (fun z => c z.2), if_neg c]
    exact tr_ev_lo S C hm he _ (Nat.le_refl _)
/-- leaf values give values -/
theorem tr_exV (S : tr_Sk N nd ag kd sz xnc xol xnw xtp knd siz oldr newr stt) (C : tr_Ce N nd kd sz cl ycs own ord exs ykd) (Ns : tr_Ns ag kd sz cl nod ofs rnk dmx stx blw fst snd prt pct) : ∃ V' : Nat → Int32, (∀ n e, kd n = 1 → e < sz n → V' (cl n e) = val (cl n e)) ∧ (∀ n e, 2 ≤ kd n → e < sz n → V' (cl n e) = tr_vF (kd n) (pct (cl n e)).toNatClampNeg (tr_q prt (cl n e)) V') := by
  refine ⟨tr_ev nd kd own prt pct val N, fun n e hn he => ?_, fun n e hn he => ?_⟩
  · rw [tr_ev_at S C (by omega) he, if_neg (by omega)]
  · have hn0 : kd n ≠ 0 := by omega
    obtain ⟨cnt, d1, d2, d3, d4, d5⟩ := (Ns n hn0).parts (fun m' hm' => (S.2.1 m' hm').1) hn he
    rw [tr_ev_at S C hn0 he, if_pos hn, d2, nI_clamp (by omega)]
    refine tr_vFc (fun z => by have := d3 z; omega) (fun j hj => ?_)
    obtain ⟨m', a, e1, e2, e3, e4, e5, e6, e7⟩ := d5 j hj
    show tr_ev nd kd own prt pct val (ag n) (prt (8 * cl n e + j)).toNatClampNeg = tr_ev nd kd own prt pct val N (prt (8 * cl n e + j)).toNatClampNeg
    have s := S.2.1 n hn0
    rw [e7, nI_clamp (by have := (C.2.1 m' a e2 e6).1; omega), tr_ev_hi S C e2 e6 N (by omega) (Nat.le_refl _), tr_ev_hi S C e2 e6 (ag n) e3 (by omega)]
/-- values that agree on the leaves but l agree off what rests on l -/
theorem tr_uV {V' : Nat → Int32} {l : Nat} (S : tr_Sk N nd ag kd sz xnc xol xnw xtp knd siz oldr newr stt) (C : tr_Ce N nd kd sz cl ycs own ord exs ykd) (Ns : tr_Ns ag kd sz cl nod ofs rnk dmx stx blw fst snd prt pct) (h1 : ∀ n e, kd n = 1 → n ≠ l → e < sz n → V' (cl n e) = V (cl n e))
    (h2 : ∀ n e, 2 ≤ kd n → e < sz n → V (cl n e) = tr_vF (kd n) (pct (cl n e)).toNatClampNeg (tr_q prt (cl n e)) V) (h3 : ∀ n e, 2 ≤ kd n → e < sz n → V' (cl n e) = tr_vF (kd n) (pct (cl n e)).toNatClampNeg (tr_q prt (cl n e)) V') :
    ∀ A n e, ag n < A → kd n ≠ 0 → n ≠ l → bt (blw n) l = false → e < sz n → V' (cl n e) = V (cl n e) := by
  intro A
  induction A with
  | zero => intro n e h; omega
  | succ A ih =>
    intro n e hA hn hnl hb he
    rcases (Ns n hn).k2 with k1 | k2
    · exact h1 n e k1 hnl he
    · obtain ⟨cnt, d1, d2, d3, d4, d5⟩ := (Ns n hn).parts (fun m' hm' => (S.2.1 m' hm').1) k2 he
      rw [h2 n e k2 he, h3 n e k2 he, d2, nI_clamp (by omega)]
      refine tr_vFc (fun z => by have := d3 z; omega) (fun j hj => ?_)
      obtain ⟨m', a, e1, e2, e3, e4, e5, e6, e7⟩ := d5 j hj
      show V' (prt (8 * cl n e + j)).toNatClampNeg = V (prt (8 * cl n e + j)).toNatClampNeg
      rw [e7, nI_clamp (by have := (C.2.1 m' a e2 e6).1; omega)]
      have ml : m' ≠ l := fun z => by rw [z, hb] at e4; exact absurd e4 (by decide)
      have m32 := (S.2.1 m' e2).1
      have mb : bt (blw m') l = false := by
        cases e8 : bt (blw m') l with
        | false => rfl
        | true =>
          by_cases l32 : l < 32
          · have := e5 l l32 e8
            rw [hb] at this
            exact absurd this (by decide)
          · rw [b_big (by omega)] at e8; exact absurd e8 (by decide)
      exact ih m' a (by omega) e2 ml mb e6
/-- what stands below a node is live, older, and all below it stands below the node too -/
theorem tr_blw (S : tr_Sk N nd ag kd sz xnc xol xnw xtp knd siz oldr newr stt) (Ns : tr_Ns ag kd sz cl nod ofs rnk dmx stx blw fst snd prt pct) : ∀ A n m, ag n < A → kd n ≠ 0 → m < 32 → bt (blw n) m = true → kd m ≠ 0 ∧ ag m < ag n ∧ ∀ i, i < 32 → bt (blw m) i = true → bt (blw n) i = true := by
  intro A
  induction A with
  | zero => intro n m h; omega
  | succ A ih =>
    intro n m hA hn hm hb
    have one : ∀ m1, kd m1 ≠ 0 → ag m1 < ag n → (∀ i, i < 32 → bt (blw m1) i = true → bt (blw n) i = true) → (m = m1 ∨ bt (blw m1) m = true) → kd m ≠ 0 ∧ ag m < ag n ∧ ∀ i, i < 32 → bt (blw m) i = true → bt (blw n) i = true := by
      intro m1 k1 a1 s1 h
      rcases h with h | h
      · subst h
        exact ⟨k1, a1, s1⟩
      · obtain ⟨x1, x2, x3⟩ := ih m1 m (by omega) k1 hm h
        exact ⟨x1, by omega, fun i hi z => s1 i hi (x3 i hi z)⟩
    rcases Ns n hn with ⟨_, _, _, z⟩ | ⟨m1, r, D, r0, D0, K, a1, a2, a3, a4, a5, a6⟩
    · rw [z m hm] at hb; exact absurd hb (by decide)
    · rcases a6 with ⟨c1, c2, c3, c4, c5⟩ | ⟨m2, r2, D2, c1, c2, c3, c4, c5⟩
      · rw [c4 m hm] at hb
        refine one m1 a1.2.1 a1.2.2.1 (fun i hi z => by rw [c4 i hi, z, Bool.true_or]) ?_
        rcases Bool.or_eq_true_iff.mp hb with h | h
        · exact Or.inr h
        · exact Or.inl (of_decide_eq_true h)
      · rw [c4 m hm] at hb
        rcases Bool.or_eq_true_iff.mp hb with h | h
        · refine one m1 a1.2.1 a1.2.2.1 (fun i hi z => by rw [c4 i hi, z, Bool.true_or, Bool.true_or]) ?_
          rcases Bool.or_eq_true_iff.mp h with h | h
          · exact Or.inr h
          · exact Or.inl (of_decide_eq_true h)
        · refine one m2 c2.2.1 c2.2.2.1 (fun i hi z => by rw [c4 i hi, z, Bool.true_or, Bool.or_true]) ?_
          rcases Bool.or_eq_true_iff.mp h with h | h
          · exact Or.inr h
          · exact Or.inl (of_decide_eq_true h)
/-- cells are different -/
theorem tr_clne (S : tr_Sk N nd ag kd sz xnc xol xnw xtp knd siz oldr newr stt) (C : tr_Ce N nd kd sz cl ycs own ord exs ykd) {n e m a : Nat} (hn : kd n ≠ 0) (he : e < sz n) (hm : kd m ≠ 0) (ha : a < sz m) (h : cl n e = cl m a) : n = m ∧ e = a := by
  have o1 := (C.2.1 n e hn he).2
  have o2 := (C.2.1 m a hm ha).2
  rw [h, o2] at o1
  have b1 := (S.2.1 n hn).1
  have b2 := (S.2.1 m hm).1
  have e1 := (nI_eq (by omega) (by omega)).mp o1
  subst e1
  exact ⟨rfl, C.2.2.1 m e a hn he ha h⟩
end VL
end
section
/-! the reference works out all values and one leaf element's derivatives -/
section WO
variable {xnc xfr xol xnw xtp xsc : Int32} {nod ofs rnk dmx stx its knd rfs siz oldr newr stt blw arn slo mvd sls : Nat → Int32}
variable {ycs ysc : Int32} {usd yrk yds shn tof vw exs ykd fst snd own prt pct val ysl ord ysls : Nat → Int32}
variable {N : Nat} {nd ag kd sz : Nat → Nat} {cl : Nat → Nat → Nat} {V : Nat → Int32}
theorem ty_w71l {post : SY → Prop} {J2 : Int32 → (Nat → Int32) → (Nat → Int32) → (Nat → Int32) → (Nat → Int32) → (Nat → Int32) → (Nat → Int32) → (Nat → Int32) → (Nat → Int32) → (Nat → Int32) → (Nat → Int32) → (Nat → Int32) → (Nat → Int32) → (Nat → Int32) → (Nat → Int32) → (Nat → Int32) → (Nat → Int32) → (Nat → Int32) → Prop} {x1 : Int32} {p c cnt how : Nat} {q : Nat → Nat} (hc : c < 320) (h8 : cnt ≤ 8) (hh : how ≤ 6) (n5 : how ≠ 5) (n3 : how ≠ 3) (n2 : how ≠ 2) (hq : ∀ j, j < cnt → prt (8 * c + j) = nI (q j) ∧ q j < 320)
    (H : J2 (nI (p + 1)) usd yrk yds shn tof vw exs ykd fst snd own prt pct (upd val c (tz_sm (fun j => val (q j)) cnt)) (upd ysl c (tz_sm (fun j => ysl (q j)) cnt)) ord ysls) :
    ∀ n j, j ≤ cnt → cnt - j < n → wY_workOut_71 post J2 x1 (nI p) (nI c) (nI how) (nI cnt) ycs ysc usd yrk yds shn tof vw exs ykd fst snd own prt pct val ysl ord ysls n (tz_sm (fun j => val (q j)) j) (tz_sm (fun j => ysl (q j)) j) (nI j) := by
  have e5 : ¬ nI how = 5 := fun z => n5 ((nI_eq (b := 5) (by omega) (by decide)).mp z)
  have e3 : ¬ nI how = 3 := fun z => n3 ((nI_eq (b := 3) (by omega) (by decide)).mp z)
  have e2 : ¬ nI how = 2 := fun z => n2 ((nI_eq (b := 2) (by omega) (by decide)).mp z)
  intro n
  induction n with
  | zero => intro j _ h; omega
  | succ n ih =>
    intro j h1 h2
    by_cases d : j < cnt
    · obtain ⟨q1, q2⟩ := hq j d
      have d1 : ¬ cnt ≤ j := by omega
      simp (disch := omega) only [wY_workOut_71, wY_workOut_198, wY_workOut_199, e5, e3, e2, d1, tz_8n, nI_add, q1, Int32.one_mul, ← tz_sms, forall_eq, nI_leI, nI_ltI, nI_eq, vp_in_nI, nI_clamp, nI_1, true_implies, forall_const, not_true_eq_false, not_false_eq_true, false_implies, and_true, true_and, implies_true, and_self]
      exact ih (j + 1) (by omega) (by omega)
    · have de : j = cnt := by omega
      subst de
      simp (disch := omega) only [wY_workOut_71, Nat.le_refl, forall_eq, nI_leI, nI_ltI, nI_eq, vp_in_nI, nI_clamp, nI_1, true_implies, forall_const, not_true_eq_false, not_false_eq_true, false_implies, and_true, true_and, implies_true, and_self]
      exact H
theorem ty_w71b {post : SY → Prop} {J2 : Int32 → (Nat → Int32) → (Nat → Int32) → (Nat → Int32) → (Nat → Int32) → (Nat → Int32) → (Nat → Int32) → (Nat → Int32) → (Nat → Int32) → (Nat → Int32) → (Nat → Int32) → (Nat → Int32) → (Nat → Int32) → (Nat → Int32) → (Nat → Int32) → (Nat → Int32) → (Nat → Int32) → (Nat → Int32) → Prop} {x1 : Int32} {p c K how : Nat} {q : Nat → Nat} (hc : c < 320) (h8 : K ≤ 4) (hh : how = 5 ∨ how = 3) (hq : ∀ j, j < 2 * K → prt (8 * c + j) = nI (q j) ∧ q j < 320)
    (H : J2 (nI (p + 1)) usd yrk yds shn tof vw exs ykd fst snd own prt pct (upd val c (tz_sm (fun j => val (q (2 * j)) * val (q (2 * j + 1))) K)) (upd ysl c (tz_sm (fun j => ysl (q (2 * j)) * val (q (2 * j + 1)) + val (q (2 * j)) * ysl (q (2 * j + 1))) K)) ord ysls) :
    ∀ n j, j ≤ K → K - j < n → wY_workOut_71 post J2 x1 (nI p) (nI c) (nI how) (nI (2 * K)) ycs ysc usd yrk yds shn tof vw exs ykd fst snd own prt pct val ysl ord ysls n (tz_sm (fun j => val (q (2 * j)) * val (q (2 * j + 1))) j) (tz_sm (fun j => ysl (q (2 * j)) * val (q (2 * j + 1)) + val (q (2 * j)) * ysl (q (2 * j + 1))) j) (nI (2 * j)) := by
  intro n
  induction n with
  | zero => intro j _ h; omega
  | succ n ih =>
    intro j h1 h2
    by_cases d : j < K
    · obtain ⟨q1, q2⟩ := hq (2 * j) (by omega)
      obtain ⟨q3, q4⟩ := hq (2 * j + 1) (by omega)
      rw [← Nat.add_assoc] at q3
      have d1 : ¬ 2 * K ≤ 2 * j := by omega
      have step : wY_workOut_104 post J2 (wY_workOut_71 post J2 x1 (nI p) (nI c) (nI how) (nI (2 * K)) ycs ysc usd yrk yds shn tof vw exs ykd fst snd own prt pct val ysl ord ysls n) x1 (nI p) (nI c) (nI how) (nI (2 * K)) (tz_sm (fun j => val (q (2 * j)) * val (q (2 * j + 1))) j) (tz_sm (fun j => ysl (q (2 * j)) * val (q (2 * j + 1)) + val (q (2 * j)) * ysl (q (2 * j + 1))) j) (nI (2 * j)) (nI (q (2 * j))) ycs ysc usd yrk yds shn tof vw exs ykd fst snd own prt pct val ysl ord ysls := by
        unfold wY_workOut_104
        simp (disch := omega) only [tz_8n, nI_add, q3, forall_eq, nI_leI, nI_ltI, nI_eq, vp_in_nI, nI_clamp, nI_1, true_implies, forall_const, not_true_eq_false, not_false_eq_true, false_implies, and_true, true_and, implies_true, and_self]
        have K := ih (j + 1) (by omega) (by omega)
        rw [tz_sms, tz_sms] at K
        exact K
      unfold wY_workOut_71
      refine br_f (nI_ge (by omega) (by omega)) ?_
      rw [tz_8n, nI_add, nI_clamp (by omega)]
      refine ⟨vp_in_nI (by omega) (by omega), nm_r q1 ?_⟩
      rcases hh with rfl | rfl
      · exact br_t rfl step
      · exact br_f (by decide) (br_t rfl step)
    · have de : j = K := by omega
      subst de
      simp (disch := omega) only [wY_workOut_71, Nat.le_refl, forall_eq, nI_leI, nI_ltI, nI_eq, vp_in_nI, nI_clamp, nI_1, true_implies, forall_const, not_true_eq_false, not_false_eq_true, false_implies, and_true, true_and, implies_true, and_self]
      exact H
theorem ty_w71s {post : SY → Prop} {J2 : Int32 → (Nat → Int32) → (Nat → Int32) → (Nat → Int32) → (Nat → Int32) → (Nat → Int32) → (Nat → Int32) → (Nat → Int32) → (Nat → Int32) → (Nat → Int32) → (Nat → Int32) → (Nat → Int32) → (Nat → Int32) → (Nat → Int32) → (Nat → Int32) → (Nat → Int32) → (Nat → Int32) → (Nat → Int32) → Prop} {x1 : Int32} {p c : Nat} {q : Nat → Nat} (hc : c < 320) (hq : ∀ j, j < 2 → prt (8 * c + j) = nI (q j) ∧ q j < 320)
    (H : J2 (nI (p + 1)) usd yrk yds shn tof vw exs ykd fst snd own prt pct (upd val c (val (q 0) - val (q 1))) (upd ysl c (ysl (q 0) - ysl (q 1))) ord ysls) : wY_workOut_71 post J2 x1 (nI p) (nI c) (nI 2) (nI 2) ycs ysc usd yrk yds shn tof vw exs ykd fst snd own prt pct val ysl ord ysls 3 0 0 (nI 0) := by
  obtain ⟨q1, q2⟩ := hq 0 (by omega)
  obtain ⟨q3, q4⟩ := hq 1 (by omega)
  rw [Nat.add_zero] at q1
  have z0 : nI (8 * c) + nI 0 = nI (8 * c) := by rw [nI_add, Nat.add_zero]
  have a1 : ¬ nI 2 ≤ nI 0 := by decide
  have a2 : ¬ nI 2 ≤ nI 1 := by decide
  have a3 : nI 2 ≤ nI 2 := by decide
  have b1 : ¬ nI 2 = 5 := by decide
  have b2 : ¬ nI 2 = 3 := by decide
  have b3 : nI 2 = 2 := rfl
  have d1 : ¬ nI 0 = 1 := by decide
  have d2 : nI 1 = 1 := rfl
  have e1 : (0 : Int32) + val (q 0) + -1 * val (q 1) = val (q 0) - val (q 1) := by grind
  have e2 : (0 : Int32) + ysl (q 0) + -1 * ysl (q 1) = ysl (q 0) - ysl (q 1) := by grind
  simp (disch := omega) only [wY_workOut_71, wY_workOut_198, wY_workOut_199, a1, b1, b2, b3, d1, tz_8n, z0, q1, tz_i0, Int32.one_mul, vp_in_nI, nI_clamp, forall_eq, true_implies, forall_const, not_true_eq_false, not_false_eq_true, false_implies, and_true, true_and, implies_true, and_self]
  have f2 : ¬ (2 : Int32) ≤ nI 1 := by decide
  have f3 : (2 : Int32) ≤ nI 2 := by decide
  have g5 : ¬ (2 : Int32) = 5 := by decide
  have g3 : ¬ (2 : Int32) = 3 := by decide
  have g1 : nI (8 * c) + nI 1 = nI (8 * c + 1) := nI_add _ _
  have hd : (nI 1 = 1) = True := eq_true d2
  simp (disch := omega) only [f2, f3, g5, g3, hd, g1, q3, tz_i1, vp_in_nI, nI_clamp, forall_eq, true_implies, forall_const, not_true_eq_false, not_false_eq_true, false_implies, and_true, true_and, implies_true, and_self, e1, e2, nI_1]
  exact br_f (by decide) H
/-- one cell that is no leaf's -/
theorem ty_w71 {post : SY → Prop} {J2 : Int32 → (Nat → Int32) → (Nat → Int32) → (Nat → Int32) → (Nat → Int32) → (Nat → Int32) → (Nat → Int32) → (Nat → Int32) → (Nat → Int32) → (Nat → Int32) → (Nat → Int32) → (Nat → Int32) → (Nat → Int32) → (Nat → Int32) → (Nat → Int32) → (Nat → Int32) → (Nat → Int32) → (Nat → Int32) → Prop} {x1 : Int32} {p c cnt k : Nat} {q : Nat → Nat} (hc : c < 320) (h8 : cnt ≤ 8) (hk : 2 ≤ k) (hk7 : k ≤ 7) (h3 : k = 3 → cnt = 2) (h46 : k = 4 ∨ k = 6 → cnt % 2 = 0) (hq : ∀ j, j < cnt → prt (8 * c + j) = nI (q j) ∧ q j < 320)
    (H : J2 (nI (p + 1)) usd yrk yds shn tof vw exs ykd fst snd own prt pct (upd val c (tr_vF k cnt q val)) (upd ysl c (tr_dF k cnt q val ysl)) ord ysls) : ∃ n, wY_workOut_71 post J2 x1 (nI p) (nI c) (nI (k - 1)) (nI cnt) ycs ysc usd yrk yds shn tof vw exs ykd fst snd own prt pct val ysl ord ysls n 0 0 0 := by
  by_cases k3 : k = 3
  · subst k3
    have c2 := h3 rfl
    subst c2
    refine ⟨3, ty_w71s hc hq ?_⟩
    exact H
  · by_cases kb : k = 4 ∨ k = 6
    · obtain ⟨K, rfl⟩ : ∃ K, cnt = 2 * K := ⟨cnt / 2, by have := h46 kb; omega⟩
      refine ⟨K + 1, ty_w71b (K := K) hc (by omega) (by omega) hq ?_ (K + 1) 0 (by omega) (by omega)⟩
      have e1 : tr_vF k (2 * K) q val = tz_sm (fun j => val (q (2 * j)) * val (q (2 * j + 1))) K := by
        unfold tr_vF
        rw [if_neg k3, if_pos kb, show 2 * K / 2 = K from by omega]
      have e2 : tr_dF k (2 * K) q val ysl = tz_sm (fun j => ysl (q (2 * j)) * val (q (2 * j + 1)) + val (q (2 * j)) * ysl (q (2 * j + 1))) K := by
        unfold tr_dF
        rw [if_neg k3, if_pos kb, show 2 * K / 2 = K from by omega]
      rw [← e1, ← e2]
      exact H
    · refine ⟨cnt + 1, ty_w71l (q := q) hc h8 (by omega) (by omega) (by omega) (by omega) hq ?_ (cnt + 1) 0 (by omega) (by omega)⟩
      have e1 : tr_vF k cnt q val = tz_sm (fun j => val (q j)) cnt := by
        unfold tr_vF
        rw [if_neg k3, if_neg kb]
      have e2 : tr_dF k cnt q val ysl = tz_sm (fun j => ysl (q j)) cnt := by
        unfold tr_dF
        rw [if_neg k3, if_neg kb]
      rw [← e1, ← e2]
      exact H
/-- the cells at places below p are worked out -/
def tr_Wo (nd kd sz : Nat → Nat) (cl : Nat → Nat → Nat) (N : Nat) (V : Nat → Int32) (prt pct : Nat → Int32) (x1 : Int32) (p : Nat) (val ysl : Nat → Int32) : Prop :=
  (∀ n e, kd n = 1 → e < sz n → val (cl n e) = V (cl n e)) ∧
  ∀ i e, i < N → e < sz (nd i) → tz_ps sz nd i + e < p → val (cl (nd i) e) = V (cl (nd i) e) ∧ (kd (nd i) = 1 → ysl (cl (nd i) e) = if nI (cl (nd i) e) = x1 then 1 else 0) ∧ (2 ≤ kd (nd i) → ysl (cl (nd i) e) = tr_dF (kd (nd i)) (pct (cl (nd i) e)).toNatClampNeg (tr_q prt (cl (nd i) e)) V ysl)
theorem ty_wo2 {post : SY → Prop} {x1 : Int32} {val0 : Nat → Int32} (S : tr_Sk N nd ag kd sz xnc xol xnw xtp knd siz oldr newr stt) (C : tr_Ce N nd kd sz cl ycs own ord exs ykd) (Ns : tr_Ns ag kd sz cl nod ofs rnk dmx stx blw fst snd prt pct)
    (h2 : ∀ n e, 2 ≤ kd n → e < sz n → V (cl n e) = tr_vF (kd n) (pct (cl n e)).toNatClampNeg (tr_q prt (cl n e)) V)
    (H : ∀ val1 ysl1, tr_Wo nd kd sz cl N V prt pct x1 (tz_ps sz nd N) val1 ysl1 → post (ycs, ysc, usd, yrk, yds, shn, tof, vw, exs, ykd, fst, snd, own, prt, pct, val1, ysl1, ord, ysls)) :
    ∀ m p val ysl, p ≤ tz_ps sz nd N → tz_ps sz nd N - p < m → tr_Wo nd kd sz cl N V prt pct x1 p val ysl → wY_workOut_2 post x1 ycs ysc m (nI p) usd yrk yds shn tof vw exs ykd fst snd own prt pct val ysl ord ysls := by
  have hps := S.1.2.2.2.1
  have hcs := C.1
  intro m
  induction m with
  | zero => intro p val ysl _ h; omega
  | succ m ih =>
    intro p val ysl h1 h2' h3
    by_cases c : p < tz_ps sz nd N
    · obtain ⟨i, e, hi, he, rfl⟩ := tz_psex N c
      have si := S.2.2.1 i hi
      have n32 := (S.2.1 _ si.1).1
      have hc := C.2.1 (nd i) e si.1 he
      have ho := C.2.2.2.1 i e hi he
      have hy := C.2.2.2.2.2.2.2 (nd i) si.1
      have k7 := (S.2.2.2.1 _ n32).2
      -- the others stay
      have keep : ∀ (y z : Int32), (y = V (cl (nd i) e)) → ∀ i' e', i' < N → e' < sz (nd i') → tz_ps sz nd i' + e' < tz_ps sz nd i + e → upd val (cl (nd i) e) y (cl (nd i') e') = V (cl (nd i') e') ∧ (kd (nd i') = 1 → upd ysl (cl (nd i) e) z (cl (nd i') e') = if nI (cl (nd i') e') = x1 then 1 else 0) ∧ (2 ≤ kd (nd i') → upd ysl (cl (nd i) e) z (cl (nd i') e') = tr_dF (kd (nd i')) (pct (cl (nd i') e')).toNatClampNeg (tr_q prt (cl (nd i') e')) V (upd ysl (cl (nd i) e) z)) := by
        intro y z hyv i' e' hi' he' hlt
        have si' := S.2.2.1 i' hi'
        have ne : cl (nd i') e' ≠ cl (nd i) e := fun w => by
          obtain ⟨w1, w2⟩ := tr_clne S C si'.1 he' si.1 he w
          have : i' = i := by rw [← si'.2, ← si.2, w1]
          subst this
          omega
        obtain ⟨a1, a2, a3⟩ := h3.2 i' e' hi' he' hlt
        rw [pk_un ne, pk_un ne]
        refine ⟨a1, a2, fun k2 => ?_⟩
        rw [a3 k2]
        obtain ⟨cnt, d1, d2, d3, d4, d5⟩ := (Ns _ si'.1).parts (fun m' hm' => (S.2.1 m' hm').1) k2 he'
        rw [d2, nI_clamp (by omega)]
        refine tr_dFc (fun z => by have := d3 z; omega) (fun j hj => ?_)
        obtain ⟨m', a, e1, e2, e3, e4, e5, e6, e7⟩ := d5 j hj
        show V (prt (8 * cl (nd i') e' + j)).toNatClampNeg = V (prt (8 * cl (nd i') e' + j)).toNatClampNeg ∧ ysl (prt (8 * cl (nd i') e' + j)).toNatClampNeg = upd ysl (cl (nd i) e) z (prt (8 * cl (nd i') e' + j)).toNatClampNeg
        refine ⟨rfl, ?_⟩
        rw [e7, nI_clamp (by have := (C.2.1 m' a e2 e6).1; omega), pk_un]
        intro w
        obtain ⟨w1, w2⟩ := tr_clne S C e2 e6 si.1 he w
        rw [w1, si.2, si'.2] at e3
        have := tz_psl (sz := sz) (nd := nd) e3
        omega
      have leafs : ∀ y : Int32, y = V (cl (nd i) e) → ∀ n' e', kd n' = 1 → e' < sz n' → upd val (cl (nd i) e) y (cl n' e') = V (cl n' e') := by
        intro y hyv n' e' k1 he'
        by_cases w : cl n' e' = cl (nd i) e
        · rw [w, pk_us, hyv]
        · rw [pk_un w]; exact h3.1 n' e' k1 he'
      unfold wY_workOut_2
      refine br_f (by rw [hcs]; exact nI_ge c (by omega)) ?_
      rw [nI_clamp (by omega)]
      refine ⟨vp_in_nI (by omega) (by omega), nm_r ho ?_⟩
      rw [nI_clamp (by omega), hc.2, nI_clamp (by omega), hy]
      refine ⟨vp_in_nI (by omega) (by omega), vp_in_nI (by omega) (by omega), nm_e ⟨vp_in_nI (by omega) (by omega), ?_⟩⟩
      rcases (Ns _ si.1).k2 with k1 | k2
      · -- a leaf
        have fin : ∀ z : Int32, z = (if nI (cl (nd i) e) = x1 then 1 else 0) → wY_workOut_2 post x1 ycs ysc m (nI (tz_ps sz nd i + e + 1)) usd yrk yds shn tof vw exs ykd fst snd own prt pct val (upd ysl (cl (nd i) e) z) ord ysls := by
          intro z hz
          refine ih _ _ _ (by omega) (by omega) ⟨h3.1, ?_⟩
          intro i' e' hi' he' hlt
          by_cases w : tz_ps sz nd i' + e' < tz_ps sz nd i + e
          · have K := keep (V (cl (nd i) e)) z rfl i' e' hi' he' w
            exact ⟨(h3.2 i' e' hi' he' w).1, K.2.1, K.2.2⟩
          · have wi : i' = i := by
              rcases (by omega : i' < i ∨ i' = i ∨ i < i') with w1 | w1 | w1
              · have := tz_psl (sz := sz) (nd := nd) w1; omega
              · exact w1
              · have := tz_psl (sz := sz) (nd := nd) w1; omega
            subst wi
            have we : e' = e := by omega
            subst we
            exact ⟨h3.1 _ _ k1 he', fun _ => by rw [pk_us, hz], fun w => by omega⟩
        refine nm_e (br_t (by rw [k1]; rfl) ?_)
        refine br_c (fun w => ⟨vp_in_nI (by omega) (by omega), ?_⟩) (fun w => ⟨vp_in_nI (by omega) (by omega), ?_⟩)
        · rw [nI_1]
          exact nm_e (nm_e (fin 1 (by rw [if_pos w])))
        · rw [nI_1]
          exact nm_e (nm_e (fin 0 (by rw [if_neg w])))
      · obtain ⟨cnt, d1, d2, d3, d4, d5⟩ := (Ns _ si.1).parts (fun m' hm' => (S.2.1 m' hm').1) k2 he
        have q0 : ∀ j, j < cnt → prt (8 * cl (nd i) e + j) = nI (tr_q prt (cl (nd i) e) j) ∧ tr_q prt (cl (nd i) e) j < 320 := fun j hj => by
          obtain ⟨m', a, e1, e2, e3, e4, e5, e6, e7⟩ := d5 j hj
          have b := (C.2.1 m' a e2 e6).1
          unfold tr_q
          rw [e7, nI_clamp (by omega)]
          exact ⟨rfl, b⟩
        -- the parts are worked out
        have qv : ∀ j, j < cnt → val (tr_q prt (cl (nd i) e) j) = V (tr_q prt (cl (nd i) e) j) ∧ tr_q prt (cl (nd i) e) j ≠ cl (nd i) e := fun j hj => by
          obtain ⟨m', a, e1, e2, e3, e4, e5, e6, e7⟩ := d5 j hj
          have b := (C.2.1 m' a e2 e6).1
          have sm := S.2.1 m' e2
          unfold tr_q
          rw [e7, nI_clamp (by omega)]
          rw [si.2] at e3
          refine ⟨?_, fun w => ?_⟩
          · have z := h3.2 (ag m') a sm.2.1 (by rw [sm.2.2]; exact e6) (by have := tz_psl (sz := sz) (nd := nd) e3; rw [sm.2.2] at this; omega)
            rw [sm.2.2] at z
            exact z.1
          · obtain ⟨w1, w2⟩ := tr_clne S C e2 e6 si.1 he w
            rw [w1, si.2] at e3
            omega
        have ev : tr_vF (kd (nd i)) cnt (tr_q prt (cl (nd i) e)) val = V (cl (nd i) e) := by
          rw [h2 _ e k2 he, d2, nI_clamp (by omega)]
          exact tr_vFc (fun z => by have := d3 z; omega) (fun j hj => (qv j hj).1)
        refine nm_r d2 (br_f (fun w => ?_) ?_)
        · have := (nI_eq (b := 0) (by omega) (by decide)).mp w
          omega
        refine ty_w71 (q := tr_q prt (cl (nd i) e)) hc.1 d1 k2 k7 d3 d4 q0 ?_
        rw [ev]
        refine ih _ _ _ (by omega) (by omega) ⟨leafs _ rfl, ?_⟩
        intro i' e' hi' he' hlt
        by_cases w : tz_ps sz nd i' + e' < tz_ps sz nd i + e
        · exact keep _ _ rfl i' e' hi' he' w
        · have wi : i' = i := by
            rcases (by omega : i' < i ∨ i' = i ∨ i < i') with w1 | w1 | w1
            · have := tz_psl (sz := sz) (nd := nd) w1; omega
            · exact w1
            · have := tz_psl (sz := sz) (nd := nd) w1; omega
          subst wi
          have we : e' = e := by omega
          subst we
          refine ⟨pk_us, fun w => by omega, fun _ => ?_⟩
          rw [pk_us, d2, nI_clamp (by omega)]
          refine tr_dFc (fun z => by have := d3 z; omega) (fun j hj => ?_)
          refine ⟨(qv j hj).1, ?_⟩
          rw [pk_un (qv j hj).2]
    · have ce : p = tz_ps sz nd N := by omega
      subst ce
      exact br_t (by rw [hcs]; exact Int32.le_refl _) (H _ _ h3)
theorem ty_wo {post : SY → Prop} {x1 : Int32} (S : tr_Sk N nd ag kd sz xnc xol xnw xtp knd siz oldr newr stt) (C : tr_Ce N nd kd sz cl ycs own ord exs ykd) (Ns : tr_Ns ag kd sz cl nod ofs rnk dmx stx blw fst snd prt pct) (hl : ∀ n e, kd n = 1 → e < sz n → V (cl n e) = val (cl n e))
    (h2 : ∀ n e, 2 ≤ kd n → e < sz n → V (cl n e) = tr_vF (kd n) (pct (cl n e)).toNatClampNeg (tr_q prt (cl n e)) V)
    (H : ∀ val1 ysl1, (∀ n e, kd n ≠ 0 → e < sz n → val1 (cl n e) = V (cl n e)) → (∀ n e, kd n = 1 → e < sz n → ysl1 (cl n e) = if nI (cl n e) = x1 then 1 else 0) → (∀ n e, 2 ≤ kd n → e < sz n → ysl1 (cl n e) = tr_dF (kd n) (pct (cl n e)).toNatClampNeg (tr_q prt (cl n e)) V ysl1) → post (ycs, ysc, usd, yrk, yds, shn, tof, vw, exs, ykd, fst, snd, own, prt, pct, val1, ysl1, ord, ysls)) : wpY_workOut post (ycs, ysc, usd, yrk, yds, shn, tof, vw, exs, ykd, fst, snd, own, prt, pct, val, ysl, ord, ysls) x1 := by
  refine ⟨tz_ps sz nd N + 1, ty_wo2 (val0 := val) S C Ns h2 ?_ _ 0 val ysl (by omega) (by omega) ⟨fun n e k1 he => (hl n e k1 he).symm, fun i e _ _ h => by omega⟩⟩
  intro val1 ysl1 W
  have all : ∀ n e, kd n ≠ 0 → e < sz n → _ := fun n e hn he => by
    have s := S.2.1 n hn
    have z := W.2 (ag n) e s.2.1 (by rw [s.2.2]; exact he) (by have := tz_psl (sz := sz) (nd := nd) s.2.1; rw [s.2.2] at this; omega)
    rw [s.2.2] at z
    exact z
  exact H val1 ysl1 (fun n e hn he => (all n e hn he).1) (fun n e k1 he => (all n e (by omega) he).2.1 k1) (fun n e k2 he => (all n e (by omega) he).2.2 k2)
end WO
end
section
/-! the component computes elements anew -/
section RN
variable {xnc xfr xol xnw xtp xsc : Int32} {nod ofs rnk dmx stx its knd rfs siz oldr newr stt blw arn slo mvd sls : Nat → Int32}
variable {ycs ysc : Int32} {usd yrk yds shn tof vw exs ykd fst snd own prt pct val ysl ord ysls : Nat → Int32}
variable {N : Nat} {nd ag kd sz : Nat → Nat} {cl : Nat → Nat → Nat} {V : Nat → Int32}
theorem tr_stt {m : Nat} (S : tr_Sk N nd ag kd sz xnc xol xnw xtp knd siz oldr newr stt) (hm : kd m ≠ 0) : stt m = nI (tz_ps sz nd (ag m)) ∧ tz_ps sz nd (ag m) + sz m ≤ tz_ps sz nd N ∧ tz_ps sz nd N ≤ 320 := by
  have s := S.2.1 m hm
  have l := S.2.2.2.2.2 (ag m) s.2.1
  rw [s.2.2] at l
  have := tz_psl (sz := sz) (nd := nd) s.2.1
  rw [s.2.2] at this
  exact ⟨l.2.2, this, S.1.2.2.2.1⟩
theorem tx_shr {post : Int32 → Prop} {d m r i : Nat} {D : Nat → Nat} {c : Int32} (S : tr_Sk N nd ag kd sz xnc xol xnw xtp knd siz oldr newr stt) (C : tr_Ce N nd kd sz cl ycs own ord exs ykd) (hd : d < 120) (hm : nod d = nI m) (km : kd m ≠ 0) (dx : tx_Dx rnk dmx d r D) (hi : i < 2 ^ 31) (rd : tr_rd sz cl ofs stx d m r D i c) (fv : ∀ a, a < sz m → arn (tz_ps sz nd (ag m) + a) = V (cl m a)) (H : post (V c.toNatClampNeg)) : wpX_shown post (xnc, xfr, xol, xnw, xtp, xsc, nod, ofs, rnk, dmx, stx, its, knd, rfs, siz, oldr, newr, stt, blw, arn, slo, mvd, sls) (nI d) (nI i) := by
  obtain ⟨a, a1, a2, a3⟩ := rd
  have st := tr_stt S km
  refine tx_sh hd dx hi hm (S.2.1 m km).1 st.1 (by omega) a2 ?_
  rw [fv a a1]
  rw [a3, nI_clamp (by have := (C.2.1 m a km a1).1; omega)] at H
  exact H
theorem tx_el5 {post : Int32 → Prop} {n e m r K : Nat} {D : Nat → Nat} {q : Nat → Nat} {x6 : Int32} {pr : Nat → Int32} (S : tr_Sk N nd ag kd sz xnc xol xnw xtp knd siz oldr newr stt) (C : tr_Ce N nd kd sz cl ycs own ord exs ykd) (hn : n < 32) (k5 : knd n = 5) (hK : K ≤ 4) (he : e ≤ 64) (hm : nod (24 + 3 * n + 1) = nI m) (km : kd m ≠ 0) (dx : tx_Dx rnk dmx (24 + 3 * n + 1) r D) (rd : ∀ j, j < K → tr_rd sz cl ofs stx (24 + 3 * n + 1) m r D (e * K + j) (pr j)) (hq : ∀ j, q j = (pr j).toNatClampNeg) (fv : ∀ a, a < sz m → arn (tz_ps sz nd (ag m) + a) = V (cl m a)) (H : post (tz_sm (fun j => V (q j)) K)) :
    ∀ f j, j ≤ K → K - j < f → wX_element_139 post (nI n) (nI e) (nI (24 + 3 * n)) (nI K) x6 xnc xfr xol xnw xtp xsc nod ofs rnk dmx stx its knd rfs siz oldr newr stt blw arn slo mvd sls f (tz_sm (fun j => V (q j)) j) (nI j) := by
  have eK : e * K ≤ 64 * 4 := Nat.mul_le_mul he hK
  intro f
  induction f with
  | zero => intro j _ h; omega
  | succ f ih =>
    intro j h1 h2
    by_cases c : j < K
    · refine br_f (nI_ge c (by omega)) ⟨vp_in_nI (by omega) (by omega), br_t (by rw [nI_clamp (by omega)]; exact k5) ?_⟩
      have ei : nI e * nI K + nI j = nI (e * K + j) := by rw [pk_mul, nI_add]
      rw [tz_add1 (24 + 3 * n), ei]
      refine tx_shr S C (by omega) hm km dx (by omega) (rd j c) fv ?_
      rw [← hq j]
      refine nm_e (nm_r (nI_1 j) ?_)
      exact ih (j + 1) (by omega) (by omega)
    · have ce : j = K := by omega
      subst ce
      exact br_t (Int32.le_refl _) H
theorem tx_el6 {post : Int32 → Prop} {n e m m2 r r2 K col : Nat} {D D2 : Nat → Nat} {q : Nat → Nat} {pr : Nat → Int32} (S : tr_Sk N nd ag kd sz xnc xol xnw xtp knd siz oldr newr stt) (C : tr_Ce N nd kd sz cl ycs own ord exs ykd) (hn : n < 32) (k5 : ¬ knd n = 5) (hK : K ≤ 4) (he : e ≤ 64) (c1 : 1 ≤ col) (c4 : col ≤ 4) (hm : nod (24 + 3 * n + 1) = nI m) (km : kd m ≠ 0) (dx : tx_Dx rnk dmx (24 + 3 * n + 1) r D) (hm2 : nod (24 + 3 * n + 2) = nI m2) (km2 : kd m2 ≠ 0) (dx2 : tx_Dx rnk dmx (24 + 3 * n + 2) r2 D2)
    (rd : ∀ j, j < K → tr_rd sz cl ofs stx (24 + 3 * n + 1) m r D (e / col * K + j) (pr (2 * j)) ∧ tr_rd sz cl ofs stx (24 + 3 * n + 2) m2 r2 D2 (j * col + e % col) (pr (2 * j + 1))) (hq : ∀ j, q j = (pr j).toNatClampNeg) (fv : ∀ a, a < sz m → arn (tz_ps sz nd (ag m) + a) = V (cl m a)) (fv2 : ∀ a, a < sz m2 → arn (tz_ps sz nd (ag m2) + a) = V (cl m2 a)) (H : post (tz_sm (fun j => V (q (2 * j)) * V (q (2 * j + 1))) K)) :
    ∀ f j, j ≤ K → K - j < f → wX_element_139 post (nI n) (nI e) (nI (24 + 3 * n)) (nI K) (nI col) xnc xfr xol xnw xtp xsc nod ofs rnk dmx stx its knd rfs siz oldr newr stt blw arn slo mvd sls f (tz_sm (fun j => V (q (2 * j)) * V (q (2 * j + 1))) j) (nI j) := by
  have ed : e / col ≤ 64 := Nat.le_trans (Nat.div_le_self _ _) he
  have eK : e / col * K ≤ 64 * 4 := Nat.mul_le_mul ed hK
  have em : e % col < col := Nat.mod_lt _ (by omega)
  have n0 : ¬ nI col = 0 := nI_ne0 (by omega) (by omega)
  intro f
  induction f with
  | zero => intro j _ h; omega
  | succ f ih =>
    intro j h1 h2
    by_cases c : j < K
    · have jc : j * col ≤ 4 * 4 := Nat.mul_le_mul (by omega) c4
      unfold wX_element_139
      refine br_f (nI_ge c (by omega)) ⟨vp_in_nI (by omega) (by omega), br_f (by rw [nI_clamp (by omega)]; exact k5) ⟨n0, ?_⟩⟩
      have ei : nI e / nI col * nI K + nI j = nI (e / col * K + j) := by rw [pk_div (by omega) (by omega) (by omega), pk_mul, nI_add]
      have ei2 : nI j * nI col + (nI e - nI e / nI col * nI col) = nI (j * col + e % col) := by rw [pk_rem (by omega) (by omega) (by omega), pk_mul, nI_add]
      rw [tz_add1 (24 + 3 * n), ei, ei2, tz_add2 (24 + 3 * n)]
      refine tx_shr S C (by omega) hm km dx (by omega) (rd j c).1 fv ⟨n0, ?_⟩
      refine tx_shr S C (by omega) hm2 km2 dx2 (by omega) (rd j c).2 fv2 ?_
      rw [← hq, ← hq]
      refine nm_e (nm_r (nI_1 j) ?_)
      exact ih (j + 1) (by omega) (by omega)
    · have ce : j = K := by omega
      subst ce
      exact br_t (Int32.le_refl _) H
theorem tx_elem {post : Int32 → Prop} {n e : Nat} (S : tr_Sk N nd ag kd sz xnc xol xnw xtp knd siz oldr newr stt) (C : tr_Ce N nd kd sz cl ycs own ord exs ykd) (Ns : tr_Ns ag kd sz cl nod ofs rnk dmx stx blw fst snd prt pct) (k2 : 2 ≤ kd n) (he : e < sz n) (fv : ∀ m, kd m ≠ 0 → bt (blw n) m = true → ∀ a, a < sz m → arn (tz_ps sz nd (ag m) + a) = V (cl m a)) (H : post (tr_vF (kd n) (pct (cl n e)).toNatClampNeg (tr_q prt (cl n e)) V)) : wpX_element post (xnc, xfr, xol, xnw, xtp, xsc, nod, ofs, rnk, dmx, stx, its, knd, rfs, siz, oldr, newr, stt, blw, arn, slo, mvd, sls) (nI n) (nI e) := by
  have kn : kd n ≠ 0 := by omega
  have hn := (S.2.1 n kn).1
  have hsz := (S.2.2.2.2.1 n kn).2
  have hk := (S.2.2.2.1 n hn).1
  have e3 : (24 : Int32) + nI n * 3 = nI (24 + 3 * n) := by rw [tz_3n, tz_24a]
  have wn : vp_in (nI n) 32 := vp_in_nI hn (by omega)
  have hk' : knd (nI n).toNatClampNeg = nI (kd n) := by rw [nI_clamp (by omega)]; exact hk
  have h32 := fun m hm => (S.2.1 m hm).1
  rcases Ns n kn with z | ⟨m, r, D, r0, D0, K, a1, a2, a3, a4, a5, a6⟩
  · have := z.1; omega
  have hm32 := h32 m a1.2.1
  rcases a6 with ⟨c1, c2, c3, c4, c5⟩ | ⟨m2, r2, D2, c1, c2, c3, c4, c5⟩
  · have fm := fv m a1.2.1 (by rw [c4 m hm32, decide_eq_true rfl, Bool.or_true])
    obtain ⟨p1, p2⟩ := c5 e he
    rw [p1, nI_clamp (by omega)] at H
    rcases c1 with ⟨kk, eK⟩ | ⟨kk, eK⟩
    · rw [kk] at hk hk' H
      have ev : tr_vF 5 K (tr_q prt (cl n e)) V = tz_sm (fun j => V (tr_q prt (cl n e) j)) K := by
        unfold tr_vF; rw [if_neg (by decide), if_neg (by decide)]
      rw [ev] at H
      unfold wpX_element
      refine nm_r e3 ⟨wn, nm_r hk' (br_f (by decide) (br_f (by decide) (br_f (by decide) (br_f (by decide) (br_f (by decide) (br_t rfl ?_))))))⟩
      unfold wX_element_115
      rw [tz_add1]
      refine tx_al_l (by omega) a1.2.2.2 (tx_al_l (by omega) a3 ?_)
      rw [← eK]
      exact ⟨K + 1, tx_el5 (q := tr_q prt (cl n e)) (pr := fun j => prt (8 * cl n e + j)) S C hn hk a5 (by omega) a1.1 a1.2.1 a1.2.2.2 p2 (fun _ => rfl) fm H (K + 1) 0 (by omega) (by omega)⟩
    · rw [kk] at hk hk' H
      subst eK
      have ev : tr_vF 7 1 (tr_q prt (cl n e)) V = V (prt (8 * cl n e + 0)).toNatClampNeg := by
        unfold tr_vF
        rw [if_neg (by decide), if_neg (by decide)]
        show (0 : Int32) + V (tr_q prt (cl n e) 0) = _
        rw [Int32.zero_add]; rfl
      rw [ev] at H
      unfold wpX_element
      refine nm_r e3 ⟨wn, nm_r hk' (br_f (by decide) (br_f (by decide) (br_f (by decide) (br_f (by decide) (br_f (by decide) (br_f (by decide) (br_f (by decide) (br_t rfl ?_))))))))⟩
      rw [tz_add1]
      have rd := p2 0 (by omega)
      rw [show e * 1 + 0 = e from by omega] at rd
      exact tx_shr S C (by omega) a1.1 a1.2.1 a1.2.2.2 (by omega) rd fm H
  · have hm232 := h32 m2 c2.2.1
    have fm := fv m a1.2.1 (by rw [c4 m hm32, decide_eq_true (p := m = m) rfl, Bool.or_true, Bool.true_or])
    have fm2 := fv m2 c2.2.1 (by rw [c4 m2 hm232, decide_eq_true (p := m2 = m2) rfl, Bool.or_true, Bool.or_true])
    obtain ⟨p1, p2⟩ := c5 e he
    rw [p1, nI_clamp (by omega)] at H
    rcases c1 with ⟨kk, eK⟩ | ⟨kk, eK⟩
    · rw [kk] at hk hk' H p2
      have cb : 1 ≤ tz_last D0 r0 ∧ tz_last D0 r0 ≤ 4 := by
        unfold tz_last
        split
        · omega
        · exact (a3.2.2 _ (by omega)).2
      have ev : tr_vF 6 (2 * K) (tr_q prt (cl n e)) V = tz_sm (fun j => V (tr_q prt (cl n e) (2 * j)) * V (tr_q prt (cl n e) (2 * j + 1))) K := by
        unfold tr_vF; rw [if_neg (by decide), if_pos (by decide), show 2 * K / 2 = K from by omega]
      rw [ev] at H
      unfold wpX_element
      refine nm_r e3 ⟨wn, nm_r hk' (br_f (by decide) (br_f (by decide) (br_f (by decide) (br_f (by decide) (br_f (by decide) (br_f (by decide) (br_t rfl ?_)))))))⟩
      unfold wX_element_115
      rw [tz_add1]
      refine tx_al_l (by omega) a1.2.2.2 (tx_al_l (by omega) a3 ?_)
      rw [← eK]
      exact ⟨K + 1, tx_el6 (q := tr_q prt (cl n e)) (pr := fun j => prt (8 * cl n e + j)) S C hn (by rw [hk]; decide) a5 (by omega) cb.1 cb.2 a1.1 a1.2.1 a1.2.2.2 c2.1 c2.2.1 c2.2.2.2 p2 (fun _ => rfl) fm fm2 H (K + 1) 0 (by omega) (by omega)⟩
    · subst eK
      have rd := p2 0 (by omega)
      have i1 : tr_i1 (kd n) (tz_last D0 r0) 1 e 0 = e := by unfold tr_i1; rw [if_neg (by omega)]
      have i2 : tr_i2 (kd n) (tz_last D0 r0) e 0 = e := by unfold tr_i2; rw [if_neg (by omega)]
      rw [i1, i2] at rd
      unfold wpX_element
      refine nm_r e3 ⟨wn, nm_r hk' ?_⟩
      rcases kk with kk | kk | kk
      · rw [kk] at H ⊢
        have ev : tr_vF 2 (2 * 1) (tr_q prt (cl n e)) V = V (prt (8 * cl n e + 2 * 0)).toNatClampNeg + V (prt (8 * cl n e + (2 * 0 + 1))).toNatClampNeg := by
          unfold tr_vF
          rw [if_neg (by decide), if_neg (by decide)]
          show (0 : Int32) + V (tr_q prt (cl n e) 0) + V (tr_q prt (cl n e) 1) = _
          rw [Int32.zero_add]; rfl
        rw [ev] at H
        refine br_f (by decide) (br_f (by decide) (br_t rfl ?_))
        rw [tz_add1, tz_add2]
        exact tx_shr S C (by omega) a1.1 a1.2.1 a1.2.2.2 (by omega) rd.1 fm (tx_shr S C (by omega) c2.1 c2.2.1 c2.2.2.2 (by omega) rd.2 fm2 H)
      · rw [kk] at H ⊢
        have ev : tr_vF 3 (2 * 1) (tr_q prt (cl n e)) V = V (prt (8 * cl n e + 2 * 0)).toNatClampNeg - V (prt (8 * cl n e + (2 * 0 + 1))).toNatClampNeg := by
          unfold tr_vF
          rw [if_pos rfl]; rfl
        rw [ev] at H
        refine br_f (by decide) (br_f (by decide) (br_f (by decide) (br_t rfl ?_)))
        rw [tz_add1, tz_add2]
        exact tx_shr S C (by omega) a1.1 a1.2.1 a1.2.2.2 (by omega) rd.1 fm (tx_shr S C (by omega) c2.1 c2.2.1 c2.2.2.2 (by omega) rd.2 fm2 H)
      · rw [kk] at H ⊢
        have ev : tr_vF 4 (2 * 1) (tr_q prt (cl n e)) V = V (prt (8 * cl n e + 2 * 0)).toNatClampNeg * V (prt (8 * cl n e + (2 * 0 + 1))).toNatClampNeg := by
          unfold tr_vF
          rw [if_neg (by decide), if_pos (by decide)]
          show (0 : Int32) + V (tr_q prt (cl n e) 0) * V (tr_q prt (cl n e) 1) = _
          rw [Int32.zero_add]; rfl
        rw [ev] at H
        refine br_f (by decide) (br_f (by decide) (br_f (by decide) (br_f (by decide) (br_t rfl ?_))))
        rw [tz_add1, tz_add2]
        exact tx_shr S C (by omega) a1.1 a1.2.1 a1.2.2.2 (by omega) rd.1 fm (tx_shr S C (by omega) c2.1 c2.2.1 c2.2.2.2 (by omega) rd.2 fm2 H)
end RN
end
section
def tr_W (blw : Nat → Int32) (n0 : Nat) (xfr0 : Int32) (m : Nat) : Prop := (m = n0 ∨ bt (blw n0) m = true) ∧ bt xfr0 m = false
section RN2
variable {xnc xfr xol xnw xtp xsc : Int32} {nod ofs rnk dmx stx its knd rfs siz oldr newr stt blw arn slo mvd sls : Nat → Int32}
variable {ycs ysc : Int32} {usd yrk yds shn tof vw exs ykd fst snd own prt pct val ysl ord ysls : Nat → Int32}
variable {N : Nat} {nd ag kd sz : Nat → Nat} {cl : Nat → Nat → Nat} {V : Nat → Int32}
theorem tx_rn53 {post : SX → Prop} {J : Int32 → Int32 → Int32 → (Nat → Int32) → (Nat → Int32) → (Nat → Int32) → (Nat → Int32) → (Nat → Int32) → (Nat → Int32) → (Nat → Int32) → (Nat → Int32) → (Nat → Int32) → (Nat → Int32) → (Nat → Int32) → (Nat → Int32) → (Nat → Int32) → (Nat → Int32) → (Nat → Int32) → (Nat → Int32) → (Nat → Int32) → Prop} {w : Int32} {n : Nat} {arn0 : Nat → Int32} (S : tr_Sk N nd ag kd sz xnc xol xnw xtp knd siz oldr newr stt) (C : tr_Ce N nd kd sz cl ycs own ord exs ykd) (Ns : tr_Ns ag kd sz cl nod ofs rnk dmx stx blw fst snd prt pct) (k2 : 2 ≤ kd n)
    (h2 : ∀ n e, 2 ≤ kd n → e < sz n → V (cl n e) = tr_vF (kd n) (pct (cl n e)).toNatClampNeg (tr_q prt (cl n e)) V) (fv : ∀ m, kd m ≠ 0 → bt (blw n) m = true → ∀ a, a < sz m → arn0 (tz_ps sz nd (ag m) + a) = V (cl m a))
    (H : ∀ arn1, (∀ e, e < sz n → arn1 (tz_ps sz nd (ag n) + e) = V (cl n e)) → (∀ p, (p < tz_ps sz nd (ag n) ∨ tz_ps sz nd (ag n) + sz n ≤ p) → arn1 p = arn0 p) → J w (newr n) (xfr ||| ((1 : Int32) <<< (nI n &&& 31))) nod ofs rnk dmx stx its knd rfs siz oldr newr stt blw arn1 slo mvd sls) :
    ∀ f e arn, e ≤ sz n → sz n - e < f → (∀ i, i < e → arn (tz_ps sz nd (ag n) + i) = V (cl n i)) → (∀ p, (p < tz_ps sz nd (ag n) ∨ tz_ps sz nd (ag n) + e ≤ p) → arn p = arn0 p) → wX_renew_53 post J w (nI n) xnc xfr xol xnw xtp xsc f (nI e) nod ofs rnk dmx stx its knd rfs siz oldr newr stt blw arn slo mvd sls := by
  have kn : kd n ≠ 0 := by omega
  have hn := (S.2.1 n kn).1
  have hsz := S.2.2.2.2.1 n kn
  have st := tr_stt S kn
  intro f
  induction f with
  | zero => intro e arn _ h; omega
  | succ f ih =>
    intro e arn h1 h2' h3 h4
    by_cases c : e < sz n
    · unfold wX_renew_53
      refine ⟨vp_in_nI hn (by omega), ?_⟩
      rw [nI_clamp (by omega), hsz.1]
      refine br_f (nI_ge c (by omega)) ?_
      refine tx_elem (V := V) S C Ns k2 c ?_ ?_
      · intro m hm hb a ha
        have b := tr_blw S Ns (ag n + 1) n m (by omega) kn (S.2.1 m hm).1 hb
        have l := tz_psl (sz := sz) (nd := nd) b.2.1
        rw [(S.2.1 m hm).2.2] at l
        rw [h4 _ (by omega)]
        exact fv m hm hb a ha
      · rw [← h2 n e k2 c]
        refine ⟨vp_in_nI hn (by omega), ?_⟩
        rw [st.1, nI_add, nI_clamp (by omega), nI_1]
        refine ⟨vp_in_nI (by omega) (by omega), nm_e (nm_e (ih (e + 1) _ (by omega) (by omega) (fun i hi => ?_) (fun p hp => ?_)))⟩
        · by_cases z : i = e
          · subst z; rw [pk_us]
          · rw [pk_un (by omega)]; exact h3 i (by omega)
        · rw [pk_un (by omega)]; exact h4 p (by omega)
    · have ce : e = sz n := by omega
      unfold wX_renew_53
      refine ⟨vp_in_nI hn (by omega), ?_⟩
      rw [nI_clamp (by omega), hsz.1, ce]
      refine br_t (Int32.le_refl _) (nm_e ⟨vp_in_nI hn (by omega), nm_e (H arn (fun i hi => h3 i (by omega)) (fun p hp => h4 p (by omega)))⟩)
theorem tx_rn23 {post : SX → Prop} {n0 : Nat} {xfr0 : Int32} (S : tr_Sk N nd ag kd sz xnc xol xnw xtp knd siz oldr newr stt) (C : tr_Ce N nd kd sz cl ycs own ord exs ykd) (Ns : tr_Ns ag kd sz cl nod ofs rnk dmx stx blw fst snd prt pct) (hn0 : kd n0 ≠ 0)
    (H : ∀ xfr1 arn1, tr_Va ag nd kd sz cl V xfr1 arn1 val prt pct → (∀ m, m < 32 → bt xfr0 m = true → bt xfr1 m = true) → (∀ m, m < 32 → (m = n0 ∨ bt (blw n0) m = true) → bt xfr1 m = true) → post (xnc, xfr1, xol, xnw, xtp, xsc, nod, ofs, rnk, dmx, stx, its, knd, rfs, siz, oldr, newr, stt, blw, arn1, slo, mvd, sls)) :
    ∀ f i w xfr arn, i ≤ N → N - i < f → (∀ m, m < 32 → (bt w m = true ↔ (tr_W blw n0 xfr0 m ∧ i ≤ ag m))) → (∀ m, m < 32 → (bt xfr m = true ↔ (bt xfr0 m = true ∨ (tr_W blw n0 xfr0 m ∧ ag m < i)))) → tr_Va ag nd kd sz cl V xfr arn val prt pct → wX_renew_23 post xnc xol xnw xtp xsc f w (tr_nx N nd i) xfr nod ofs rnk dmx stx its knd rfs siz oldr newr stt blw arn slo mvd sls := by
  have live : ∀ m, m < 32 → tr_W blw n0 xfr0 m → kd m ≠ 0 ∧ ag m < N := fun m hm hW => by
    rcases hW.1 with z | z
    · subst z; exact ⟨hn0, (S.2.1 m hn0).2.1⟩
    · have := (tr_blw S Ns (ag n0 + 1) n0 m (by omega) hn0 hm z).1
      exact ⟨this, (S.2.1 m this).2.1⟩
  have done : ∀ (i : Nat) (xfr : Int32) (arn : Nat → Int32), (∀ m, m < 32 → tr_W blw n0 xfr0 m → ag m < i) → (∀ m, m < 32 → (bt xfr m = true ↔ (bt xfr0 m = true ∨ (tr_W blw n0 xfr0 m ∧ ag m < i)))) → tr_Va ag nd kd sz cl V xfr arn val prt pct → post (xnc, xfr, xol, xnw, xtp, xsc, nod, ofs, rnk, dmx, stx, its, knd, rfs, siz, oldr, newr, stt, blw, arn, slo, mvd, sls) := by
    intro i xfr arn d1 d2 d3
    refine H xfr arn d3 (fun m hm z => (d2 m hm).mpr (Or.inl z)) (fun m hm z => ?_)
    rw [d2 m hm]
    cases e : bt xfr0 m with
    | true => exact Or.inl rfl
    | false => exact Or.inr ⟨⟨z, e⟩, d1 m hm ⟨z, e⟩⟩
  intro f
  induction f with
  | zero => intro i w xfr arn _ h; omega
  | succ f ih =>
    intro i w xfr arn h1 h2 h3 h4 h5
    by_cases c : i < N
    · have si := S.2.2.1 i c
      have n32 := (S.2.1 _ si.1).1
      have lk := (S.2.2.2.2.2 i c).1
      unfold wX_renew_23
      rw [tr_nx_lt c]
      refine br_f (nI_pos (by omega)) (br_c (fun w0 => ?_) (fun wn => ?_))
      · refine done i xfr arn (fun m hm hW => ?_) h4 h5
        by_cases z : ag m < i
        · exact z
        · have := (h3 m hm).mpr ⟨hW, by omega⟩
          rw [w0, b_0] at this
          exact absurd this (by decide)
      · refine br_c (fun t0 => ?_) (fun t1 => ?_)
        · rw [tz_tst0 n32] at t0
          refine ⟨vp_in_nI n32 (by omega), ?_⟩
          rw [nI_clamp (by omega), lk]
          have nW : ¬ tr_W blw n0 xfr0 (nd i) := fun z => by
            have := (h3 _ n32).mpr ⟨z, by omega⟩
            rw [t0] at this
            exact absurd this (by decide)
          have key : ∀ m, m < 32 → tr_W blw n0 xfr0 m → ag m ≠ i := fun m hm hW z => by
            have l := live m hm hW
            have := (S.2.1 m l.1).2.2
            rw [z] at this
            rw [this] at nW
            exact nW hW
          refine nm_e (ih (i + 1) w xfr arn (by omega) (by omega) (fun m hm => ?_) (fun m hm => ?_) h5)
          · rw [h3 m hm]
            exact ⟨fun z => ⟨z.1, by have := key m hm z.1; omega⟩, fun z => ⟨z.1, by omega⟩⟩
          · rw [h4 m hm]
            exact ⟨fun z => z.imp id (fun y => ⟨y.1, by omega⟩), fun z => z.imp id (fun y => ⟨y.1, by have := key m hm y.1; omega⟩)⟩
        · rw [tz_tst0 n32, Bool.not_eq_false] at t1
          have hW := (h3 _ n32).mp t1
          have hk2 : 2 ≤ kd (nd i) := by
            rcases (Ns _ si.1).k2 with z | z
            · have := (h4 _ n32).mp (h5.2.1 _ z)
              rcases this with y | y
              · rw [hW.1.2] at y; exact absurd y (by decide)
              · omega
            · exact z
          refine nm_e ⟨sz (nd i) + 1, ?_⟩
          refine tx_rn53 (n := nd i) (arn0 := arn) S C Ns hk2 h5.2.2.2 ?_ ?_ _ 0 arn (by omega) (by omega) (fun j hj => by omega) (fun _ _ => rfl)
          · intro m hm hb a ha
            have m32 := (S.2.1 m hm).1
            have b := tr_blw S Ns (ag (nd i) + 1) (nd i) m (by omega) si.1 m32 hb
            have inb : m = n0 ∨ bt (blw n0) m = true := by
              rcases hW.1.1 with z | z
              · rw [z] at hb; exact Or.inr hb
              · exact Or.inr ((tr_blw S Ns (ag n0 + 1) n0 (nd i) (by omega) hn0 n32 z).2.2 m m32 hb)
            refine h5.2.2.1 m a hm ha ?_
            rw [h4 m m32]
            cases e : bt xfr0 m with
            | true => exact Or.inl rfl
            | false => exact Or.inr ⟨⟨inb, e⟩, by have := si.2; omega⟩
          · intro arn1 g1 g2
            rw [lk]
            refine ih (i + 1) _ _ arn1 (by omega) (by omega) (fun m hm => ?_) (fun m hm => ?_) ⟨h5.1, fun m k1 => ?_, fun m e hm he hb => ?_, h5.2.2.2⟩
            · rw [tz_clr n32 hm]
              by_cases e : m = nd i
              · subst e
                rw [decide_eq_true rfl]
                constructor
                · intro z; rw [Bool.not_true, Bool.and_false] at z; exact absurd z (by decide)
                · intro z; have := si.2; omega
              · rw [decide_eq_false e, Bool.not_false, Bool.and_true, h3 m hm]
                refine ⟨fun z => ⟨z.1, ?_⟩, fun z => ⟨z.1, by omega⟩⟩
                have l := live m hm z.1
                have s := (S.2.1 m l.1).2.2
                by_cases y : ag m = i
                · rw [y] at s; exact absurd s.symm e
                · omega
            · rw [tz_set n32 hm]
              by_cases e : m = nd i
              · subst e
                rw [decide_eq_true rfl, Bool.or_true]
                exact ⟨fun _ => Or.inr ⟨hW.1, by have := si.2; omega⟩, fun _ => rfl⟩
              · rw [decide_eq_false e, Bool.or_false, h4 m hm]
                refine ⟨fun z => z.imp id (fun y => ⟨y.1, by omega⟩), fun z => z.imp id (fun y => ⟨y.1, ?_⟩)⟩
                have l := live m hm y.1
                have s := (S.2.1 m l.1).2.2
                by_cases y' : ag m = i
                · rw [y'] at s; exact absurd s.symm e
                · omega
            · rw [tz_set n32 (S.2.1 m (by omega)).1, h5.2.1 m k1, Bool.true_or]
            · by_cases z : m = nd i
              · subst z
                exact g1 e he
              · have m32 := (S.2.1 m hm).1
                rw [tz_set n32 m32, decide_eq_false z, Bool.or_false] at hb
                have s := S.2.1 m hm
                rw [g2]
                · exact h5.2.2.1 m e hm he hb
                · rw [si.2]
                  rcases (by omega : ag m < i ∨ ag m = i ∨ i < ag m) with y | y | y
                  · have := tz_psl (sz := sz) (nd := nd) y
                    rw [s.2.2] at this
                    exact Or.inl (by omega)
                  · rw [y] at s; exact absurd s.2.2.symm z
                  · have := tz_psl (sz := sz) (nd := nd) y
                    exact Or.inr (by omega)
    · have ce : i = N := by omega
      subst ce
      unfold wX_renew_23
      rw [tr_nx_ge (by omega)]
      refine br_t tz_m1lt ?_
      exact done i xfr arn (fun m hm hW => (live m hm hW).2) h4 h5
theorem tx_renew {post : SX → Prop} {n0 : Nat} (S : tr_Sk N nd ag kd sz xnc xol xnw xtp knd siz oldr newr stt) (C : tr_Ce N nd kd sz cl ycs own ord exs ykd) (Ns : tr_Ns ag kd sz cl nod ofs rnk dmx stx blw fst snd prt pct) (Va : tr_Va ag nd kd sz cl V xfr arn val prt pct) (hn0 : kd n0 ≠ 0)
    (H : ∀ xfr1 arn1, tr_Va ag nd kd sz cl V xfr1 arn1 val prt pct → (∀ m, m < 32 → bt xfr m = true → bt xfr1 m = true) → (∀ m, m < 32 → (m = n0 ∨ bt (blw n0) m = true) → bt xfr1 m = true) → post (xnc, xfr1, xol, xnw, xtp, xsc, nod, ofs, rnk, dmx, stx, its, knd, rfs, siz, oldr, newr, stt, blw, arn1, slo, mvd, sls)) : wpX_renew post (xnc, xfr, xol, xnw, xtp, xsc, nod, ofs, rnk, dmx, stx, its, knd, rfs, siz, oldr, newr, stt, blw, arn, slo, mvd, sls) (nI n0) := by
  have n32 := (S.2.1 n0 hn0).1
  have hol := S.1.2.2.2.2.1
  unfold wpX_renew
  refine ⟨vp_in_nI n32 (by omega), ?_⟩
  rw [nI_clamp (by omega)]
  suffices K : wX_renew_23 post xnc xol xnw xtp xsc (N + 1) ((blw n0 ||| ((1 : Int32) <<< (nI n0 &&& 31))) &&& (xfr ^^^ (-1))) (tr_nx N nd 0) xfr nod ofs rnk dmx stx its knd rfs siz oldr newr stt blw arn slo mvd sls by
    rw [← hol] at K
    exact nm_e ⟨N + 1, K⟩
  refine tx_rn23 (n0 := n0) (xfr0 := xfr) S C Ns hn0 H (N + 1) 0 _ xfr arn (by omega) (by omega) (fun m hm => ?_) (fun m hm => ?_) Va
  · rw [b_and, tz_set n32 hm, tz_bnot _ hm]
    unfold tr_W
    constructor
    · intro z
      have z2 := Bool.and_eq_true_iff.mp z
      refine ⟨⟨?_, by have := z2.2; cases e : bt xfr m <;> simp_all⟩, by omega⟩
      rcases Bool.or_eq_true_iff.mp z2.1 with y | y
      · exact Or.inr y
      · exact Or.inl (of_decide_eq_true y)
    · intro z
      rw [z.1.2, Bool.not_false, Bool.and_true]
      rcases z.1.1 with y | y
      · rw [decide_eq_true y, Bool.or_true]
      · rw [y, Bool.true_or]
  · exact ⟨fun z => Or.inl z, fun z => by rcases z with y | y; exact y; omega⟩
theorem tx_ch7 {post : SX → Prop} {l : Nat} {xfr0 : Int32} (S : tr_Sk N nd ag kd sz xnc xol xnw xtp knd siz oldr newr stt) (hl : l < 32) (H : ∀ xfr1, (∀ m, m < 32 → (bt xfr1 m = true ↔ (bt xfr0 m = true ∧ ¬ (kd m ≠ 0 ∧ bt (blw m) l = true)))) → post (xnc, xfr1, xol, xnw, xtp, xsc, nod, ofs, rnk, dmx, stx, its, knd, rfs, siz, oldr, newr, stt, blw, arn, slo, mvd, sls)) :
    ∀ f i xfr, i ≤ N → N - i < f → (∀ m, m < 32 → (bt xfr m = true ↔ (bt xfr0 m = true ∧ ¬ (kd m ≠ 0 ∧ bt (blw m) l = true ∧ ag m < i)))) → wX_changed_7 post (nI l) xnc xol xnw xtp xsc nod ofs rnk dmx stx its knd rfs siz oldr newr stt blw arn slo mvd sls f (tr_nx N nd i) xfr := by
  intro f
  induction f with
  | zero => intro i xfr _ h; omega
  | succ f ih =>
    intro i xfr h1 h2 h3
    by_cases c : i < N
    · have si := S.2.2.1 i c
      have n32 := (S.2.1 _ si.1).1
      have lk := (S.2.2.2.2.2 i c).1
      have key : ∀ m, m < 32 → kd m ≠ 0 → m ≠ nd i → (ag m < i + 1 ↔ ag m < i) := fun m hm k0 hne => by
        have s := (S.2.1 m k0).2.2
        by_cases y : ag m = i
        · rw [y] at s; exact absurd s.symm hne
        · omega
      unfold wX_changed_7
      rw [tr_nx_lt c]
      refine br_f (nI_pos (by omega)) ⟨vp_in_nI n32 (by omega), ?_⟩
      rw [nI_clamp (by omega), lk]
      refine br_c (fun t1 => ?_) (fun t0 => ?_)
      · rw [tz_tst1 hl] at t1
        refine nm_e ⟨vp_in_nI n32 (by omega), nm_e (ih (i + 1) _ (by omega) (by omega) (fun m hm => ?_))⟩
        rw [tz_clr n32 hm]
        by_cases e : m = nd i
        · subst e
          rw [decide_eq_true rfl, Bool.not_true, Bool.and_false]
          exact ⟨fun z => absurd z (by decide), fun z => absurd ⟨si.1, t1, by have := si.2; omega⟩ z.2⟩
        · rw [decide_eq_false e, Bool.not_false, Bool.and_true, h3 m hm]
          exact ⟨fun z => ⟨z.1, fun y => z.2 ⟨y.1, y.2.1, (key m hm y.1 e).mp y.2.2⟩⟩, fun z => ⟨z.1, fun y => z.2 ⟨y.1, y.2.1, (key m hm y.1 e).mpr y.2.2⟩⟩⟩
      · rw [tz_tst1 hl] at t0
        refine ⟨vp_in_nI n32 (by omega), nm_e (ih (i + 1) _ (by omega) (by omega) (fun m hm => ?_))⟩
        rw [h3 m hm]
        by_cases e : m = nd i
        · subst e
          exact ⟨fun z => ⟨z.1, fun y => t0 y.2.1⟩, fun z => ⟨z.1, fun y => t0 y.2.1⟩⟩
        · exact ⟨fun z => ⟨z.1, fun y => z.2 ⟨y.1, y.2.1, (key m hm y.1 e).mp y.2.2⟩⟩, fun z => ⟨z.1, fun y => z.2 ⟨y.1, y.2.1, (key m hm y.1 e).mpr y.2.2⟩⟩⟩
    · have ce : i = N := by omega
      subst ce
      unfold wX_changed_7
      rw [tr_nx_ge (by omega)]
      refine br_t tz_m1lt (H xfr (fun m hm => ?_))
      rw [h3 m hm]
      exact ⟨fun z => ⟨z.1, fun y => z.2 ⟨y.1, y.2, (S.2.1 m y.1).2.1⟩⟩, fun z => ⟨z.1, fun y => z.2 ⟨y.1, y.2.1⟩⟩⟩
theorem tx_changed {post : SX → Prop} {l : Nat} (S : tr_Sk N nd ag kd sz xnc xol xnw xtp knd siz oldr newr stt) (Ns : tr_Ns ag kd sz cl nod ofs rnk dmx stx blw fst snd prt pct) (hl : kd l ≠ 0) (H : ∀ xfr1, (∀ m, m < 32 → (bt xfr1 m = true ↔ (bt xfr m = true ∧ ¬ (kd m ≠ 0 ∧ bt (blw m) l = true)))) → post (xnc, xfr1, xol, xnw, xtp, xsc, nod, ofs, rnk, dmx, stx, its, knd, rfs, siz, oldr, newr, stt, blw, arn, slo, mvd, sls)) : wpX_changed post (xnc, xfr, xol, xnw, xtp, xsc, nod, ofs, rnk, dmx, stx, its, knd, rfs, siz, oldr, newr, stt, blw, arn, slo, mvd, sls) (nI l) := by
  have s := S.2.1 l hl
  have lk := (S.2.2.2.2.2 (ag l) s.2.1).1
  rw [s.2.2] at lk
  unfold wpX_changed
  refine ⟨vp_in_nI s.1 (by omega), ?_⟩
  rw [nI_clamp (by omega), lk]
  refine nm_e ⟨N + 1, tx_ch7 (xfr0 := xfr) S s.1 H (N + 1) (ag l + 1) xfr (by omega) (by omega) (fun m hm => ?_)⟩
  refine ⟨fun z => ⟨z, fun y => ?_⟩, fun z => z.1⟩
  have := (tr_blw S Ns (ag m + 1) m l (by omega) y.1 s.1 y.2.1).2.1
  omega
end RN2
end
section
section CHG
variable {xnc1 xfr1 xol1 xnw1 xtp1 xsc1 : Int32} {nod1 ofs1 rnk1 dmx1 stx1 its1 knd1 rfs1 siz1 oldr1 newr1 stt1 blw1 arn1 slo1 mvd1 sls1 : Nat → Int32}
variable {ycs1 ysc1 : Int32} {usd1 yrk1 yds1 shn1 tof1 vw1 exs1 ykd1 fst1 snd1 own1 prt1 pct1 val1 ysl1 ord1 ysls1 : Nat → Int32}
variable {xnc xfr xol xnw xtp xsc : Int32} {nod ofs rnk dmx stx its knd rfs siz oldr newr stt blw arn slo mvd sls : Nat → Int32}
variable {ycs ysc : Int32} {usd yrk yds shn tof vw exs ykd fst snd own prt pct val ysl ord ysls : Nat → Int32}
variable {N : Nat} {nd ag kd sz : Nat → Nat} {cl : Nat → Nat → Nat} {V : Nat → Int32}
/-- a leaf gets other values -/
theorem tr_chg {l : Nat} (S : tr_Sk N nd ag kd sz xnc xol xnw xtp knd siz oldr newr stt) (C : tr_Ce N nd kd sz cl ycs own ord exs ykd) (Ns : tr_Ns ag kd sz cl nod ofs rnk dmx stx blw fst snd prt pct) (Va : tr_Va ag nd kd sz cl V xfr arn val prt pct) (hl : kd l = 1) (hv : ∀ n e, kd n = 1 → n ≠ l → e < sz n → val1 (cl n e) = val (cl n e)) (ha : ∀ p, (p < tz_ps sz nd (ag l) ∨ tz_ps sz nd (ag l) + sz l ≤ p) → arn1 p = arn p) (hal : ∀ e, e < sz l → arn1 (tz_ps sz nd (ag l) + e) = val1 (cl l e))
    (hf : ∀ m, m < 32 → (bt xfr1 m = true ↔ (bt xfr m = true ∧ ¬ (kd m ≠ 0 ∧ bt (blw m) l = true)))) : ∃ V1, tr_Va ag nd kd sz cl V1 xfr1 arn1 val1 prt pct := by
  obtain ⟨V1, w1, w2⟩ := tr_exV (val := val1) S C Ns
  obtain ⟨v1, v2, v3, v4⟩ := Va
  have hl0 : kd l ≠ 0 := by omega
  refine ⟨V1, w1, ?_, ?_, w2⟩
  · intro m hm
    have m32 := (S.2.1 m (by omega)).1
    rw [hf m m32]
    refine ⟨v2 m hm, fun z => ?_⟩
    rcases Ns m z.1 with y | ⟨m1, r, D, r0, D0, K, a1, a2, a3, a4, a5, a6⟩
    · rw [y.2.2.2 l (S.2.1 l hl0).1] at z
      exact absurd z.2 (by decide)
    · rcases a6 with ⟨c1, _⟩ | ⟨m2, r2, D2, c1, _⟩
      · rcases c1 with ⟨c, _⟩ | ⟨c, _⟩ <;> omega
      · rcases c1 with ⟨c, _⟩ | ⟨c, _⟩ <;> omega
  · intro m e hm he hb
    have m32 := (S.2.1 m hm).1
    obtain ⟨b1, b2⟩ := (hf m m32).mp hb
    by_cases q : m = l
    · subst q
      rw [hal e he, w1 m e hl he]
    · have s := S.2.1 m hm
      have sl := S.2.1 l hl0
      have nb : bt (blw m) l = false := by
        cases e : bt (blw m) l with
        | false => rfl
        | true => exact absurd ⟨hm, e⟩ b2
      rw [ha, v3 m e hm he b1]
      · exact (tr_uV (l := l) S C Ns (fun n e k1 hn he => by rw [w1 n e k1 he, hv n e k1 hn he, v1 n e k1 he]) v4 w2 (ag m + 1) m e (by omega) hm q nb he).symm
      · rcases (by omega : ag m < ag l ∨ ag m = ag l ∨ ag l < ag m) with y | y | y
        · have := tz_psl (sz := sz) (nd := nd) y
          rw [s.2.2] at this
          exact Or.inl (by omega)
        · have := s.2.2
          rw [y, sl.2.2] at this
          exact absurd this.symm q
        · have := tz_psl (sz := sz) (nd := nd) y
          rw [sl.2.2] at this
          exact Or.inr (by omega)
end CHG
theorem i_vc_at {k : Nat} {u : SX} {v : SY} (I : i_Rel k u v) (hk : k + 5 ≤ 2560) (v1 : Int32) (v2 : Int32) : wpX_at (fun r u' => wpY_at (fun r' v' => r' = r ∧ i_Rel (k + 5) u' v') v v1 v2) u v1 v2 := by
  have J := I
  obtain ⟨xnc, xfr, xol, xnw, xtp, xsc, nod, ofs, rnk, dmx, stx, its, knd, rfs, siz, oldr, newr, stt, blw, arn, slo, mvd, sls⟩ := u
  obtain ⟨ycs, ysc, usd, yrk, yds, shn, tof, vw, exs, ykd, fst, snd, own, prt, pct, val, ysl, ord, ysls⟩ := v
  obtain ⟨N, nd, ag, kd, sz, cl, V, S, C, H, Ns, R, Va, L⟩ := I
  rcases tr_hd (xnc := xnc) (xfr := xfr) (xol := xol) (xnw := xnw) (xtp := xtp) (xsc := xsc) (nod := nod) (ofs := ofs) (rnk := rnk) (dmx := dmx) (stx := stx) (its := its) (knd := knd) (rfs := rfs) (siz := siz) (oldr := oldr) (newr := newr) (stt := stt) (blw := blw) (arn := arn) (slo := slo) (mvd := mvd) (sls := sls) (ycs := ycs) (ysc := ysc) (usd := usd) (yrk := yrk) (yds := yds) (shn := shn) (tof := tof) (vw := vw) (exs := exs) (ykd := ykd) (fst := fst) (snd := snd) (own := own) (prt := prt) (pct := pct) (val := val) (ysl := ysl) (ord := ord) (ysls := ysls) H v1 with ⟨hx, hy⟩ | ⟨h, n, r, D, hh, rfl, q⟩
  · unfold wpX_at
    refine hx _ (br_t rfl ?_)
    unfold wpY_at
    exact hy _ (br_t rfl ⟨rfl, J⟩)
  obtain ⟨isx, isy⟩ := tr_Ha.is (xnc := xnc) (xfr := xfr) (xol := xol) (xnw := xnw) (xtp := xtp) (xsc := xsc) (nod := nod) (ofs := ofs) (rnk := rnk) (dmx := dmx) (stx := stx) (its := its) (knd := knd) (rfs := rfs) (siz := siz) (oldr := oldr) (newr := newr) (stt := stt) (blw := blw) (arn := arn) (slo := slo) (mvd := mvd) (sls := sls) (ycs := ycs) (ysc := ysc) (usd := usd) (yrk := yrk) (yds := yds) (shn := shn) (tof := tof) (vw := vw) (exs := exs) (ykd := ykd) (fst := fst) (snd := snd) (own := own) (prt := prt) (pct := pct) (val := val) (ysl := ysl) (ord := ord) (ysls := ysls) S q hh
  by_cases c1 : v2 < 0
  · unfold wpX_at
    refine isx _ (br_f (by decide) (br_t c1 ?_))
    unfold wpY_at
    exact isy _ (br_f (by decide) (br_t c1 ⟨rfl, J⟩))
  obtain ⟨i, hi, rfl⟩ := nI_of c1
  have el := q.2.1.el
  have dy := q.2.2.2.1.2.2
  by_cases c2 : ¬ i < tz_el D r
  · have d2 : ¬ nI i < nI (tz_el D r) := nI_nlt (by omega) hi
    unfold wpX_at
    refine isx _ (br_f (by decide) (br_f c1 (tx_el (by omega) q.2.1 (br_f d2 ?_))))
    unfold wpY_at
    exact isy _ (br_f (by decide) (br_f c1 (ty_sz (by omega) dy (br_f d2 ⟨rfl, J⟩))))
  have c2 : i < tz_el D r := by omega
  have d2 : nI i < nI (tz_el D r) := nI_lt c2 (by omega)
  have hn := (S.2.1 n q.1.2).1
  obtain ⟨a, a1, a2, a3⟩ := q.2.2.2.2.1 i c2
  have cb := (C.2.1 n a q.1.2 a1).1
  unfold wpX_at
  refine isx _ (br_f (by decide) (br_f c1 (tx_el (by omega) q.2.1 (br_t d2 ⟨vp_in_nI (by omega) (by omega), ?_⟩))))
  rw [nI_clamp (by omega), q.1.1]
  refine tx_renew S C Ns Va q.1.2 ?_
  intro xfr1 arn1 Va1 f1 f2
  dsimp only
  refine tx_shr (V := V) S C (by omega) q.1.1 q.1.2 q.2.1 (by omega) ⟨a, a1, a2, a3⟩ (fun a' ha' => Va1.2.2.1 n a' q.1.2 ha' (f2 n hn (Or.inl rfl))) ?_
  unfold wpY_at
  refine isy _ (br_f (by decide) (br_f c1 (ty_sz (by omega) dy (br_t d2 ?_))))
  refine ty_wo S C Ns Va1.1 Va1.2.2.2 ?_
  intro val1 ysl1 w1 w2 w3
  dsimp only
  rw [tz_64n, nI_add, nI_clamp (by omega), a3, nI_clamp (by omega)]
  refine ⟨vp_in_nI (by omega) (by omega), vp_in_nI (by omega) (by omega), w1 n a q.1.2 a1, ?_⟩
  exact ⟨N, nd, ag, kd, sz, cl, V, S, C, H, Ns, R, ⟨fun m e k1 he => (w1 m e (by omega) he).symm, Va1.2⟩, L⟩
theorem i_vc_put {k : Nat} {u : SX} {v : SY} (I : i_Rel k u v) (hk : k + 5 ≤ 2560) (v1 : Int32) (v2 : Int32) (v3 : Int32) : wpX_put (fun r u' => wpY_put (fun r' v' => r' = r ∧ i_Rel (k + 5) u' v') v v1 v2 v3) u v1 v2 v3 := by
  have J := I
  obtain ⟨xnc, xfr, xol, xnw, xtp, xsc, nod, ofs, rnk, dmx, stx, its, knd, rfs, siz, oldr, newr, stt, blw, arn, slo, mvd, sls⟩ := u
  obtain ⟨ycs, ysc, usd, yrk, yds, shn, tof, vw, exs, ykd, fst, snd, own, prt, pct, val, ysl, ord, ysls⟩ := v
  obtain ⟨N, nd, ag, kd, sz, cl, V, S, C, H, Ns, R, Va, L⟩ := I
  rcases tr_hd (xnc := xnc) (xfr := xfr) (xol := xol) (xnw := xnw) (xtp := xtp) (xsc := xsc) (nod := nod) (ofs := ofs) (rnk := rnk) (dmx := dmx) (stx := stx) (its := its) (knd := knd) (rfs := rfs) (siz := siz) (oldr := oldr) (newr := newr) (stt := stt) (blw := blw) (arn := arn) (slo := slo) (mvd := mvd) (sls := sls) (ycs := ycs) (ysc := ysc) (usd := usd) (yrk := yrk) (yds := yds) (shn := shn) (tof := tof) (vw := vw) (exs := exs) (ykd := ykd) (fst := fst) (snd := snd) (own := own) (prt := prt) (pct := pct) (val := val) (ysl := ysl) (ord := ord) (ysls := ysls) H v1 with ⟨hx, hy⟩ | ⟨h, n, r, D, hh, rfl, q⟩
  · unfold wpX_put
    refine hx _ (br_t rfl ?_)
    unfold wpY_put
    exact hy _ (br_t rfl ⟨rfl, J⟩)
  obtain ⟨isx, isy⟩ := tr_Ha.is (xnc := xnc) (xfr := xfr) (xol := xol) (xnw := xnw) (xtp := xtp) (xsc := xsc) (nod := nod) (ofs := ofs) (rnk := rnk) (dmx := dmx) (stx := stx) (its := its) (knd := knd) (rfs := rfs) (siz := siz) (oldr := oldr) (newr := newr) (stt := stt) (blw := blw) (arn := arn) (slo := slo) (mvd := mvd) (sls := sls) (ycs := ycs) (ysc := ysc) (usd := usd) (yrk := yrk) (yds := yds) (shn := shn) (tof := tof) (vw := vw) (exs := exs) (ykd := ykd) (fst := fst) (snd := snd) (own := own) (prt := prt) (pct := pct) (val := val) (ysl := ysl) (ord := ord) (ysls := ysls) S q hh
  have hn := (S.2.1 n q.1.2).1
  have wh : vp_in (nI h) 120 := vp_in_nI (by omega) (by omega)
  have yh : vp_in (nI h) 25 := vp_in_nI (by omega) (by omega)
  have en : nod (nI h).toNatClampNeg = nI n := by rw [nI_clamp (by omega)]; exact q.1.1
  have et : tof (nI h).toNatClampNeg = nI n := by rw [nI_clamp (by omega)]; exact q.2.2.2.1.2.1
  have ek : knd (nI n).toNatClampNeg = nI (kd n) := by rw [nI_clamp (by omega)]; exact (S.2.2.2.1 n hn).1
  have ey : ykd (nI n).toNatClampNeg = nI (kd n - 1) := by rw [nI_clamp (by omega)]; exact C.2.2.2.2.2.2.2 n q.1.2
  have k7 := (S.2.2.2.1 n hn).2
  have wn : vp_in (nI n) 32 := vp_in_nI hn (by omega)
  have el := q.2.1.el
  have dy := q.2.2.2.1.2.2
  -- Y's no
  have yno : (v2 < 0 ∨ nI (tz_el D r) ≤ v2 ∨ kd n ≠ 1) → wpY_put (fun r' v' => r' = 0 ∧ i_Rel (k + 5) (xnc, xfr, xol, xnw, xtp, xsc, nod, ofs, rnk, dmx, stx, its, knd, rfs, siz, oldr, newr, stt, blw, arn, slo, mvd, sls) v') (ycs, ysc, usd, yrk, yds, shn, tof, vw, exs, ykd, fst, snd, own, prt, pct, val, ysl, ord, ysls) (nI h) v2 v3 := by
    intro hno
    unfold wpY_put
    refine isy _ (br_f (by decide) ⟨yh, ?_⟩)
    rw [et, ey]
    refine ⟨wn, br_c (fun b0 => br_c (fun _ => ⟨rfl, J⟩) (fun b1 => ty_sz (by omega) dy (br_c (fun b2 => ?_) (fun _ => ⟨rfl, J⟩)))) (fun _ => ⟨rfl, J⟩)⟩
    rcases hno with z | z | z
    · exact absurd z b1
    · exact absurd b2 (Int32.not_lt.mpr z)
    · have := (nI_eq (b := 0) (by omega) (by decide)).mp b0
      have := q.1.2
      omega
  by_cases c1 : v2 < 0
  · unfold wpX_put
    exact isx _ (br_f (by decide) (br_t c1 (yno (Or.inl c1))))
  by_cases c2 : nI (tz_el D r) ≤ v2
  · unfold wpX_put
    exact isx _ (br_f (by decide) (br_f c1 (tx_el (by omega) q.2.1 (br_t c2 (yno (Or.inr (Or.inl c2)))))))
  by_cases c3 : kd n ≠ 1
  · have Y := yno (Or.inr (Or.inr c3))
    unfold wpX_put
    refine isx _ (br_f (by decide) (br_f c1 (tx_el (by omega) q.2.1 (br_f c2 ⟨wh, ?_⟩))))
    rw [en, ek]
    refine ⟨wn, br_f (fun z => ?_) Y⟩
    exact c3 ((nI_eq (b := 1) (by omega) (by decide)).mp z)
  have k1 : kd n = 1 := by omega
  obtain ⟨i, hi, rfl⟩ := nI_of c1
  have c2' : i < tz_el D r := by
    have z := c2
    rw [nI_leI (by omega) hi] at z
    omega
  obtain ⟨a, a1, a2, a3⟩ := q.2.2.2.2.1 i c2'
  have cb := (C.2.1 n a q.1.2 a1).1
  have st := tr_stt S q.1.2
  unfold wpX_put
  refine isx _ (br_f (by decide) (br_f c1 (tx_el (by omega) q.2.1 (br_f c2 ⟨wh, ?_⟩))))
  rw [en, ek]
  refine ⟨wn, br_t (by rw [k1]; rfl) ?_⟩
  refine tx_ad (by omega) q.2.1 (by omega) ?_
  unfold tx_Rd at a2
  rw [a2, nI_clamp (by omega), st.1, nI_add, nI_clamp (by omega)]
  refine ⟨wh, wn, vp_in_nI (by omega) (by omega), nm_e ⟨wh, ?_⟩⟩
  refine tx_changed S Ns q.1.2 ?_
  intro xfr1 hf
  dsimp only
  unfold wpY_put
  refine isy _ (br_f (by decide) ⟨yh, ?_⟩)
  rw [et, ey]
  refine ⟨wn, br_t (by rw [k1]; rfl) (br_f c1 (ty_sz (by omega) dy (br_t (Int32.not_le.mp c2) ?_)))⟩
  rw [tz_64n, nI_add, nI_clamp (by omega), a3, nI_clamp (by omega)]
  refine ⟨vp_in_nI (by omega) (by omega), vp_in_nI (by omega) (by omega), nm_e ⟨rfl, ?_⟩⟩
  have inj := C.2.2.1
  obtain ⟨V1, Va1⟩ := tr_chg (l := n) (xfr1 := xfr1) (arn1 := upd arn (tz_ps sz nd (ag n) + a) v3) (val1 := upd val (cl n a) v3) S C Ns Va k1
    (fun m e km hmn he => pk_un (fun z => hmn (tr_clne S C (by omega) he q.1.2 a1 z).1))
    (fun p hp => pk_un (by omega))
    (fun e he => by
      by_cases z : e = a
      · subst z; rw [pk_us, pk_us]
      · rw [pk_un (by omega), pk_un (fun w => z (inj n e a q.1.2 he a1 w)), Va.2.2.1 n e q.1.2 he (Va.2.1 n k1), Va.1 n e k1 he]) hf
  exact ⟨N, nd, ag, kd, sz, cl, V1, S, C, H, Ns, R, Va1, L⟩
end
section
theorem tz_pk_inj {D D' : Nat → Nat} {r r' : Nat} (hr : r ≤ 3) (hr' : r' ≤ 3) (hD : ∀ i, i < r → D i ≤ 4) (hD' : ∀ i, i < r' → D' i ≤ 4) (h : tz_pk D r r = tz_pk D' r' r') : r = r' ∧ ∀ i, i < r → D i = D' i := by
  have m : ∀ (D : Nat → Nat) (r i : Nat), tz_pk D r i % 8 = r % 8 := by
    intro D r i
    induction i with
    | zero => rfl
    | succ i ih =>
      rw [tz_pks, show 3 + 3 * i = 3 * i + 3 from by omega, Nat.pow_add, ← Nat.mul_assoc]
      generalize D i * 2 ^ (3 * i) = z
      omega
  have e : r = r' := by
    have h1 := m D r r
    have h2 := m D' r' r'
    rw [h] at h1
    omega
  subst e
  refine ⟨rfl, ?_⟩
  rcases (by omega : r = 0 ∨ r = 1 ∨ r = 2 ∨ r = 3) with rfl | rfl | rfl | rfl
  · intro i hi; omega
  · have h0 : 1 + D 0 * 8 = 1 + D' 0 * 8 := h
    intro i hi
    have i0 : i = 0 := by omega
    subst i0; omega
  · have h0 : 2 + D 0 * 8 + D 1 * 64 = 2 + D' 0 * 8 + D' 1 * 64 := h
    have a0 := hD 0 (by omega)
    have b0 := hD' 0 (by omega)
    intro i hi
    rcases (by omega : i = 0 ∨ i = 1) with rfl | rfl <;> omega
  · have h0 : 3 + D 0 * 8 + D 1 * 64 + D 2 * 512 = 3 + D' 0 * 8 + D' 1 * 64 + D' 2 * 512 := h
    have a0 := hD 0 (by omega)
    have b0 := hD' 0 (by omega)
    have a1 := hD 1 (by omega)
    have b1 := hD' 1 (by omega)
    intro i hi
    rcases (by omega : i = 0 ∨ i = 1 ∨ i = 2) with rfl | rfl | rfl <;> omega
theorem tz_pk12 {D : Nat → Nat} {r : Nat} (hr : r ≤ 3) (hD : ∀ i, i < r → D i ≤ 4) : tz_pk D r r < 4096 := by
  have h := tz_pkb hr r (Nat.le_refl _) hD
  have h2 : (2 : Nat) ^ (3 + 3 * r) ≤ 2 ^ 12 := Nat.pow_le_pow_right (by decide) (by omega)
  exact Nat.lt_of_lt_of_le h h2
section ASG
variable {xnc xfr xol xnw xtp xsc : Int32} {nod ofs rnk dmx stx its knd rfs siz oldr newr stt blw arn slo mvd sls : Nat → Int32}
variable {ycs ysc : Int32} {usd yrk yds shn tof vw exs ykd fst snd own prt pct val ysl ord ysls : Nat → Int32}
variable {N : Nat} {nd ag kd sz : Nat → Nat} {cl : Nat → Nat → Nat} {V : Nat → Int32}
theorem ty_isLeaf1 {post : Int32 → Prop} {h n : Nat} (hh : h < 24) (hn : n < 32) (hu : ¬ usd h = 0) (hv : vw h = 0) (ht : tof h = nI n) (hk : ykd n = 0) (H : post 1) : wpY_isLeaf post (ycs, ysc, usd, yrk, yds, shn, tof, vw, exs, ykd, fst, snd, own, prt, pct, val, ysl, ord, ysls) (nI h) := by
  unfold wpY_isLeaf
  refine ty_is1 hh hu (br_f (by decide) ⟨vp_in_nI (by omega) (by omega), ?_⟩)
  rw [nI_clamp (by omega), ht, nI_clamp (by omega)]
  exact br_t hv ⟨vp_in_nI (by omega) (by omega), vp_in_nI hn (by omega), br_t hk H⟩
theorem ty_isLeaf0 {post : Int32 → Prop} {h n : Nat} (hh : h < 24) (hn : n < 32) (hu : ¬ usd h = 0) (ht : tof h = nI n) (hv : vw h = 1 ∨ (vw h = 0 ∧ ¬ ykd n = 0)) (H : post 0) : wpY_isLeaf post (ycs, ysc, usd, yrk, yds, shn, tof, vw, exs, ykd, fst, snd, own, prt, pct, val, ysl, ord, ysls) (nI h) := by
  unfold wpY_isLeaf
  refine ty_is1 hh hu (br_f (by decide) ⟨vp_in_nI (by omega) (by omega), ?_⟩)
  rw [nI_clamp (by omega), ht, nI_clamp (by omega)]
  rcases hv with z | ⟨z, z2⟩
  · exact br_f (by rw [z]; decide) H
  · exact br_t z ⟨vp_in_nI (by omega) (by omega), vp_in_nI hn (by omega), br_f z2 H⟩
/-- handle h as a leaf: both sides agree -/
theorem tr_Ha.leaf {h n r : Nat} {D : Nat → Nat} (S : tr_Sk N nd ag kd sz xnc xol xnw xtp knd siz oldr newr stt) (C : tr_Ce N nd kd sz cl ycs own ord exs ykd) (q : tr_Ha kd sz cl nod ofs rnk dmx stx its usd yrk yds shn tof vw h n r D) (hh : h < 24) : (its h = 0 ∧ (∀ post : Int32 → Prop, post 0 → wpY_isLeaf post (ycs, ysc, usd, yrk, yds, shn, tof, vw, exs, ykd, fst, snd, own, prt, pct, val, ysl, ord, ysls) (nI h))) ∨ (its h = 1 ∧ kd n = 1 ∧ tz_el D r = sz n ∧ (∀ e, e < sz n → tx_Rd ofs stx h r D e e) ∧ (∀ post : Int32 → Prop, post 1 → wpY_isLeaf post (ycs, ysc, usd, yrk, yds, shn, tof, vw, exs, ykd, fst, snd, own, prt, pct, val, ysl, ord, ysls) (nI h))) := by
  have hn := (S.2.1 n q.1.2).1
  have hu : ¬ usd h = 0 := by rw [q.2.2.2.1.1]; decide
  have ek := C.2.2.2.2.2.2.2 n q.1.2
  have k7 := (S.2.2.2.1 n hn).2
  rcases q.2.2.2.2.2 with ⟨b1, b2, b3, b4, b5⟩ | ⟨b1, b2⟩
  · exact Or.inr ⟨b1, b3, b4, b5, fun _ K => ty_isLeaf1 hh hn hu b2 q.2.2.2.1.2.1 (by rw [ek, b3]; rfl) K⟩
  · refine Or.inl ⟨b1, fun _ K => ty_isLeaf0 hh hn hu q.2.2.2.1.2.1 ?_ K⟩
    rcases b2 with z | ⟨z, z2⟩
    · exact Or.inl z
    · refine Or.inr ⟨z, fun w => ?_⟩
      rw [ek] at w
      have := (nI_eq (b := 0) (by omega) (by decide)).mp w
      have := q.1.2
      omega
theorem tx_as98 {post : Int32 → SX → Prop} {h n T cnt : Nat} {arn0 : Nat → Int32} (hh : h < 24) (hn : n < 32) (hnod : nod h = nI n) (hst : stt n = nI T) (hc : cnt ≤ 64) (hT : T + cnt ≤ 320)
    (H : ∀ arn1, (∀ e, e < cnt → arn1 (T + e) = mvd e) → (∀ p, (p < T ∨ T + cnt ≤ p) → arn1 p = arn0 p) → wpX_changed (fun u => match u with | (xnc2, xfr2, xol2, xnw2, xtp2, xsc2, nod2, ofs2, rnk2, dmx2, stx2, its2, knd2, rfs2, siz2, oldr2, newr2, stt2, blw2, arn2, slo2, mvd2, sls2) => (post 1 (xnc2, xfr2, xol2, xnw2, xtp2, xsc2, nod2, ofs2, rnk2, dmx2, stx2, its2, knd2, rfs2, siz2, oldr2, newr2, stt2, blw2, arn2, slo2, mvd2, sls2))) (xnc, xfr, xol, xnw, xtp, xsc, nod, ofs, rnk, dmx, stx, its, knd, rfs, siz, oldr, newr, stt, blw, arn1, slo, mvd, sls) (nI n)) :
    ∀ f e arn, e ≤ cnt → cnt - e < f → (∀ i, i < e → arn (T + i) = mvd i) → (∀ p, (p < T ∨ T + e ≤ p) → arn p = arn0 p) → wX_assign_98 post (nI h) (nI cnt) xnc xfr xol xnw xtp xsc f (nI e) nod ofs rnk dmx stx its knd rfs siz oldr newr stt blw arn slo mvd sls := by
  intro f
  induction f with
  | zero => intro e arn _ h; omega
  | succ f ih =>
    intro e arn h1 h2 h3 h4
    unfold wX_assign_98
    by_cases c : e < cnt
    · refine br_f (nI_ge c (by omega)) ⟨vp_in_nI (by omega) (by omega), ?_⟩
      rw [nI_clamp (by omega), hnod, nI_clamp (by omega), hst, nI_add, nI_clamp (by omega), nI_clamp (by omega), nI_1]
      refine ⟨vp_in_nI (by omega) (by omega), vp_in_nI (by omega) (by omega), vp_in_nI (by omega) (by omega), nm_e (nm_e (ih (e + 1) _ (by omega) (by omega) (fun i hi => ?_) (fun p hp => ?_)))⟩
      · by_cases z : i = e
        · subst z; rw [pk_us]
        · rw [pk_un (by omega)]; exact h3 i (by omega)
      · rw [pk_un (by omega)]; exact h4 p (by omega)
    · have ce : e = cnt := by omega
      subst ce
      refine br_t (Int32.le_refl _) ⟨vp_in_nI (by omega) (by omega), ?_⟩
      rw [nI_clamp (by omega), hnod]
      exact H arn h3 h4
theorem tx_as65 {post : Int32 → SX → Prop} {h g cnt : Nat} {u : Nat → Int32} (hc : cnt ≤ 64) (hs : ∀ (mvd : Nat → Int32) (P : Int32 → Prop) (e : Nat), e < cnt → P (u e) → wpX_shown P (xnc, xfr, xol, xnw, xtp, xsc, nod, ofs, rnk, dmx, stx, its, knd, rfs, siz, oldr, newr, stt, blw, arn, slo, mvd, sls) (nI g) (nI e))
    (H : ∀ mvd1, (∀ e, e < cnt → mvd1 e = u e) → ∃ n98, wX_assign_98 post (nI h) (nI cnt) xnc xfr xol xnw xtp xsc n98 0 nod ofs rnk dmx stx its knd rfs siz oldr newr stt blw arn slo mvd1 sls) :
    ∀ f e mvd, e ≤ cnt → cnt - e < f → (∀ i, i < e → mvd i = u i) → wX_assign_65 post (nI h) (nI g) (nI cnt) xnc xfr xol xnw xtp xsc f (nI e) nod ofs rnk dmx stx its knd rfs siz oldr newr stt blw arn slo mvd sls := by
  intro f
  induction f with
  | zero => intro e mvd _ h; omega
  | succ f ih =>
    intro e mvd h1 h2 h3
    unfold wX_assign_65
    by_cases c : e < cnt
    · refine br_f (nI_ge c (by omega)) (hs mvd _ e c ?_)
      rw [nI_clamp (by omega), nI_1]
      refine ⟨vp_in_nI (by omega) (by omega), nm_e (nm_e (ih (e + 1) _ (by omega) (by omega) (fun i hi => ?_)))⟩
      by_cases z : i = e
      · subst z; rw [pk_us]
      · rw [pk_un z]; exact h3 i (by omega)
    · have ce : e = cnt := by omega
      subst ce
      exact br_t (Int32.le_refl _) (H mvd h3)
theorem ty_as84 {post : Int32 → SY → Prop} {h cnt : Nat} {c : Nat → Nat} {val0 : Nat → Int32} (hh : h < 24) (hc : cnt ≤ 64) (hs : ∀ e, e < cnt → shn (64 * h + e) = nI (c e) ∧ c e < 320) (inj : ∀ a b, a < cnt → b < cnt → c a = c b → a = b)
    (H : ∀ val1, (∀ e, e < cnt → val1 (c e) = ysl e) → (∀ x, (∀ e, e < cnt → x ≠ c e) → val1 x = val0 x) → post 1 (ycs, ysc, usd, yrk, yds, shn, tof, vw, exs, ykd, fst, snd, own, prt, pct, val1, ysl, ord, ysls)) :
    ∀ f e val, e ≤ cnt → cnt - e < f → (∀ i, i < e → val (c i) = ysl i) → (∀ x, (∀ i, i < e → x ≠ c i) → val x = val0 x) → wY_assign_84 post (nI h) (nI cnt) ycs ysc f (nI e) usd yrk yds shn tof vw exs ykd fst snd own prt pct val ysl ord ysls := by
  intro f
  induction f with
  | zero => intro e val _ h; omega
  | succ f ih =>
    intro e val h1 h2 h3 h4
    unfold wY_assign_84
    by_cases d : e < cnt
    · obtain ⟨s1, s2⟩ := hs e d
      refine br_f (nI_ge d (by omega)) ?_
      rw [tz_64n, nI_add, nI_clamp (by omega), s1, nI_clamp (by omega), nI_clamp (by omega), nI_1]
      refine ⟨vp_in_nI (by omega) (by omega), vp_in_nI (by omega) (by omega), vp_in_nI (by omega) (by omega), nm_e (nm_e (ih (e + 1) _ (by omega) (by omega) (fun i hi => ?_) (fun x hx => ?_)))⟩
      · by_cases z : i = e
        · subst z; rw [pk_us]
        · rw [pk_un (fun w => z (inj i e (by omega) d w))]; exact h3 i (by omega)
      · rw [pk_un (hx e (by omega))]
        exact h4 x (fun i hi => hx i (by omega))
    · have ce : e = cnt := by omega
      subst ce
      exact br_t (Int32.le_refl _) (H val h3 h4)
theorem ty_as45 {post : Int32 → SY → Prop} {h g cnt : Nat} {c : Nat → Nat} (hg : g < 24) (hc : cnt ≤ 64) (hs : ∀ e, e < cnt → shn (64 * g + e) = nI (c e) ∧ c e < 320)
    (H : ∀ ysl1, (∀ e, e < cnt → ysl1 e = val (c e)) → ∃ n84, wY_assign_84 post (nI h) (nI cnt) ycs ysc n84 0 usd yrk yds shn tof vw exs ykd fst snd own prt pct val ysl1 ord ysls) :
    ∀ f e ysl, e ≤ cnt → cnt - e < f → (∀ i, i < e → ysl i = val (c i)) → wY_assign_45 post (nI h) (nI g) (nI cnt) ycs ysc f (nI e) usd yrk yds shn tof vw exs ykd fst snd own prt pct val ysl ord ysls := by
  intro f
  induction f with
  | zero => intro e ysl _ h; omega
  | succ f ih =>
    intro e ysl h1 h2 h3
    unfold wY_assign_45
    by_cases d : e < cnt
    · obtain ⟨s1, s2⟩ := hs e d
      refine br_f (nI_ge d (by omega)) ?_
      rw [tz_64n, nI_add, nI_clamp (by omega), s1, nI_clamp (by omega), nI_clamp (by omega), nI_1]
      refine ⟨vp_in_nI (by omega) (by omega), vp_in_nI (by omega) (by omega), vp_in_nI (by omega) (by omega), nm_e (nm_e (ih (e + 1) _ (by omega) (by omega) (fun i hi => ?_)))⟩
      by_cases z : i = e
      · subst z; rw [pk_us]
      · rw [pk_un z]; exact h3 i (by omega)
    · have ce : e = cnt := by omega
      subst ce
      exact br_t (Int32.le_refl _) (H ysl h3)
end ASG
theorem i_vc_assign {k : Nat} {u : SX} {v : SY} (I : i_Rel k u v) (hk : k + 5 ≤ 2560) (v1 : Int32) (v2 : Int32) : wpX_assign (fun r u' => wpY_assign (fun r' v' => r' = r ∧ i_Rel (k + 5) u' v') v v1 v2) u v1 v2 := by
  have J := I
  obtain ⟨xnc, xfr, xol, xnw, xtp, xsc, nod, ofs, rnk, dmx, stx, its, knd, rfs, siz, oldr, newr, stt, blw, arn, slo, mvd, sls⟩ := u
  obtain ⟨ycs, ysc, usd, yrk, yds, shn, tof, vw, exs, ykd, fst, snd, own, prt, pct, val, ysl, ord, ysls⟩ := v
  obtain ⟨N, nd, ag, kd, sz, cl, V, S, C, H, Ns, R, Va, L⟩ := I
  rcases tr_hd (xnc := xnc) (xfr := xfr) (xol := xol) (xnw := xnw) (xtp := xtp) (xsc := xsc) (nod := nod) (ofs := ofs) (rnk := rnk) (dmx := dmx) (stx := stx) (its := its) (knd := knd) (rfs := rfs) (siz := siz) (oldr := oldr) (newr := newr) (stt := stt) (blw := blw) (arn := arn) (slo := slo) (mvd := mvd) (sls := sls) (ycs := ycs) (ysc := ysc) (usd := usd) (yrk := yrk) (yds := yds) (shn := shn) (tof := tof) (vw := vw) (exs := exs) (ykd := ykd) (fst := fst) (snd := snd) (own := own) (prt := prt) (pct := pct) (val := val) (ysl := ysl) (ord := ord) (ysls := ysls) H v1 with ⟨hx, hy⟩ | ⟨h, n, r, D, hh, rfl, q⟩
  · unfold wpX_assign
    refine hx _ (br_t rfl ?_)
    unfold wpY_assign wpY_isLeaf
    exact hy _ (br_t rfl (br_t rfl ⟨rfl, J⟩))
  obtain ⟨isx, isy⟩ := tr_Ha.is (xnc := xnc) (xfr := xfr) (xol := xol) (xnw := xnw) (xtp := xtp) (xsc := xsc) (nod := nod) (ofs := ofs) (rnk := rnk) (dmx := dmx) (stx := stx) (its := its) (knd := knd) (rfs := rfs) (siz := siz) (oldr := oldr) (newr := newr) (stt := stt) (blw := blw) (arn := arn) (slo := slo) (mvd := mvd) (sls := sls) (ycs := ycs) (ysc := ysc) (usd := usd) (yrk := yrk) (yds := yds) (shn := shn) (tof := tof) (vw := vw) (exs := exs) (ykd := ykd) (fst := fst) (snd := snd) (own := own) (prt := prt) (pct := pct) (val := val) (ysl := ysl) (ord := ord) (ysls := ysls) S q hh
  have hn := (S.2.1 n q.1.2).1
  have w24 : vp_in (nI h) 24 := vp_in_nI hh (by omega)
  have wh : vp_in (nI h) 120 := vp_in_nI (by omega) (by omega)
  rcases tr_Ha.leaf (ycs := ycs) (ysc := ysc) (usd := usd) (yrk := yrk) (yds := yds) (shn := shn) (tof := tof) (vw := vw) (exs := exs) (ykd := ykd) (fst := fst) (snd := snd) (own := own) (prt := prt) (pct := pct) (val := val) (ysl := ysl) (ord := ord) (ysls := ysls) S C q hh with ⟨i0, l0⟩ | ⟨i1, k1, eS, eR, l1⟩
  · unfold wpX_assign
    refine isx _ (br_f (by decide) ⟨w24, br_t (by rw [nI_clamp (by omega)]; exact i0) ?_⟩)
    unfold wpY_assign
    exact l0 _ (br_t rfl ⟨rfl, J⟩)
  have ni : ¬ its (nI h).toNatClampNeg = 0 := by rw [nI_clamp (by omega), i1]; decide
  rcases tr_hd (xnc := xnc) (xfr := xfr) (xol := xol) (xnw := xnw) (xtp := xtp) (xsc := xsc) (nod := nod) (ofs := ofs) (rnk := rnk) (dmx := dmx) (stx := stx) (its := its) (knd := knd) (rfs := rfs) (siz := siz) (oldr := oldr) (newr := newr) (stt := stt) (blw := blw) (arn := arn) (slo := slo) (mvd := mvd) (sls := sls) (ycs := ycs) (ysc := ysc) (usd := usd) (yrk := yrk) (yds := yds) (shn := shn) (tof := tof) (vw := vw) (exs := exs) (ykd := ykd) (fst := fst) (snd := snd) (own := own) (prt := prt) (pct := pct) (val := val) (ysl := ysl) (ord := ord) (ysls := ysls) H v2 with ⟨hx, hy⟩ | ⟨g, n2, rg, Dg, hg, rfl, p⟩
  · unfold wpX_assign
    refine isx _ (br_f (by decide) ⟨w24, br_f ni (hx _ (br_t rfl ?_))⟩)
    unfold wpY_assign
    exact l1 _ (br_f (by decide) (hy _ (br_t rfl ⟨rfl, J⟩)))
  obtain ⟨gsx, gsy⟩ := tr_Ha.is (xnc := xnc) (xfr := xfr) (xol := xol) (xnw := xnw) (xtp := xtp) (xsc := xsc) (nod := nod) (ofs := ofs) (rnk := rnk) (dmx := dmx) (stx := stx) (its := its) (knd := knd) (rfs := rfs) (siz := siz) (oldr := oldr) (newr := newr) (stt := stt) (blw := blw) (arn := arn) (slo := slo) (mvd := mvd) (sls := sls) (ycs := ycs) (ysc := ysc) (usd := usd) (yrk := yrk) (yds := yds) (shn := shn) (tof := tof) (vw := vw) (exs := exs) (ykd := ykd) (fst := fst) (snd := snd) (own := own) (prt := prt) (pct := pct) (val := val) (ysl := ysl) (ord := ord) (ysls := ysls) S p hg
  have hn2 := (S.2.1 n2 p.1.2).1
  have hnh : ¬ nod h < 0 := by rw [q.1.1]; exact nI_pos (by omega)
  have hng : ¬ nod g < 0 := by rw [p.1.1]; exact nI_pos (by omega)
  have huh : ¬ usd h = 0 := by rw [q.2.2.2.1.1]; decide
  have hug : ¬ usd g = 0 := by rw [p.2.2.2.1.1]; decide
  have p1 := tz_pk12 q.2.1.2.1 (fun i hi => (q.2.1.2.2 i hi).2.2)
  have p2 := tz_pk12 p.2.1.2.1 (fun i hi => (p.2.1.2.2 i hi).2.2)
  by_cases c : ¬ tz_pk D r r = tz_pk Dg rg rg
  · have d : ¬ nI (tz_pk D r r) = nI (tz_pk Dg rg rg) := fun z => c ((nI_eq (by omega) (by omega)).mp z)
    unfold wpX_assign
    refine isx _ (br_f (by decide) ⟨w24, br_f ni (gsx _ (br_f (by decide) (tx_shape hh hnh q.2.1 (tx_shape hg hng p.2.1 (br_f d ?_)))))⟩)
    unfold wpY_assign
    exact l1 _ (br_f (by decide) (gsy _ (br_f (by decide) (ty_shape hh huh q.2.2.2.1.2.2 (ty_shape hg hug p.2.2.2.1.2.2 (br_f d ⟨rfl, J⟩))))))
  have c : tz_pk D r r = tz_pk Dg rg rg := by omega
  have d : nI (tz_pk D r r) = nI (tz_pk Dg rg rg) := congrArg nI c
  obtain ⟨er, eD⟩ := tz_pk_inj q.2.1.2.1 p.2.1.2.1 (fun i hi => (q.2.1.2.2 i hi).2.2) (fun i hi => (p.2.1.2.2 i hi).2.2) c
  have eL : tz_el Dg rg = sz n := by
    rw [← eS, ← er]
    exact (tz_elc eD).symm
  have hsz := S.2.2.2.2.1 n q.1.2
  have st := tr_stt S q.1.2
  have cellg := p.2.2.2.2.1
  have cellh := q.2.2.2.2.1
  unfold wpX_assign
  refine isx _ (br_f (by decide) ⟨w24, br_f ni (gsx _ (br_f (by decide) (tx_shape hh hnh q.2.1 (tx_shape hg hng p.2.1 (br_t d ⟨vp_in_nI (by omega) (by omega), ?_⟩)))))⟩)
  rw [show nod (nI g).toNatClampNeg = nI n2 from by rw [nI_clamp (by omega)]; exact p.1.1]
  refine tx_renew S C Ns Va p.1.2 ?_
  intro xfr1 arn1 Va1 f1 f2
  dsimp only
  rw [nI_clamp (by omega), q.1.1, nI_clamp (by omega)]
  refine ⟨wh, vp_in_nI hn (by omega), nm_r hsz.1 ⟨sz n + 1, ?_⟩⟩
  refine tx_as65 (u := fun e => V (shn (64 * g + e)).toNatClampNeg) hsz.2.2 ?_ ?_ _ 0 mvd (by omega) (by omega) (fun i hi => by omega)
  · intro mvd1 P e he HP
    obtain ⟨a, a1, a2, a3⟩ := cellg e (by omega)
    exact tx_shr (V := V) S C (by omega) p.1.1 p.1.2 p.2.1 (by omega) ⟨a, a1, a2, a3⟩ (fun a' ha' => Va1.2.2.1 n2 a' p.1.2 ha' (f2 n2 hn2 (Or.inl rfl))) HP
  intro mvd1 m1
  refine ⟨sz n + 1, tx_as98 (T := tz_ps sz nd (ag n)) (arn0 := arn1) hh hn q.1.1 st.1 hsz.2.2 (by omega) ?_ _ 0 arn1 (by omega) (by omega) (fun i hi => by omega) (fun _ _ => rfl)⟩
  intro arn2 g1 g2
  refine tx_changed S Ns q.1.2 ?_
  intro xfr2 hf
  dsimp only
  -- the reference's side
  unfold wpY_assign
  refine l1 _ (br_f (by decide) (gsy _ (br_f (by decide) (ty_shape hh huh q.2.2.2.1.2.2 (ty_shape hg hug p.2.2.2.1.2.2 (br_t d ?_))))))
  refine ty_wo S C Ns Va1.1 Va1.2.2.2 ?_
  intro val1 ysl1 w1 w2 w3
  dsimp only
  refine ty_sz (by omega) q.2.2.2.1.2.2 ?_
  rw [eS]
  have chs : ∀ e, e < sz n → shn (64 * h + e) = nI (cl n e) ∧ cl n e < 320 := fun e he => by
    obtain ⟨a, a1, a2, a3⟩ := cellh e (by omega)
    have := eR e he
    unfold tx_Rd at a2 this
    rw [this] at a2
    have e2 := (nI_eq (by omega) (by omega)).mp a2
    subst e2
    exact ⟨a3, (C.2.1 n e q.1.2 he).1⟩
  have cgs : ∀ e, e < sz n → shn (64 * g + e) = nI (shn (64 * g + e)).toNatClampNeg ∧ (shn (64 * g + e)).toNatClampNeg < 320 ∧ val1 (shn (64 * g + e)).toNatClampNeg = V (shn (64 * g + e)).toNatClampNeg := fun e he => by
    obtain ⟨a, a1, a2, a3⟩ := cellg e (by omega)
    have cb := (C.2.1 n2 a p.1.2 a1).1
    rw [a3, nI_clamp (by omega)]
    exact ⟨rfl, cb, w1 n2 a p.1.2 a1⟩
  refine ⟨sz n + 1, ty_as45 (c := fun e => (shn (64 * g + e)).toNatClampNeg) hg hsz.2.2 (fun e he => ⟨(cgs e he).1, (cgs e he).2.1⟩) ?_ _ 0 ysl1 (by omega) (by omega) (fun i hi => by omega)⟩
  intro ysl2 y1
  refine ⟨sz n + 1, ty_as84 (c := cl n) (val0 := val1) hh hsz.2.2 chs (fun a b ha hb => C.2.2.1 n a b q.1.2 ha hb) ?_ _ 0 val1 (by omega) (by omega) (fun i hi => by omega) (fun _ _ => rfl)⟩
  intro val2 z1 z2
  refine ⟨rfl, ?_⟩
  have VaB : tr_Va ag nd kd sz cl V xfr1 arn1 val1 prt pct := ⟨fun m e k1 he => (w1 m e (by omega) he).symm, Va1.2⟩
  obtain ⟨V1, Va2⟩ := tr_chg (l := n) (xfr1 := xfr2) (arn1 := arn2) (val1 := val2) S C Ns VaB k1
    (fun m e km hmn he => z2 _ (fun e' he' w => hmn (tr_clne S C (by omega) he q.1.2 he' w).1)) g2
    (fun e he => by rw [g1 e he, m1 e he, z1 e he, y1 e he, (cgs e he).2.2]) hf
  exact ⟨N, nd, ag, kd, sz, cl, V1, S, C, H, Ns, R, Va2, L⟩
end
section
/-! gradients: what adding slopes does to every pairing -/
/-- G by places is E by cells below n -/
def tr_Mt (ag nd kd sz : Nat → Nat) (cl : Nat → Nat → Nat) (blw : Nat → Int32) (n : Nat) (G E : Nat → Int32) : Prop := ∀ m, kd m ≠ 0 → bt (blw n) m = true → ∀ a, a < sz m → G (tz_ps sz nd (ag m) + a) = E (cl m a)
/-- slo came from slo0 by slopes given to what stands below n; X is what that adds -/
def tr_Sq (N : Nat) (ag nd kd sz : Nat → Nat) (cl : Nat → Nat → Nat) (blw : Nat → Int32) (n : Nat) (slo0 slo : Nat → Int32) (X : (Nat → Int32) → Int32) : Prop :=
  (∀ G E, tr_Mt ag nd kd sz cl blw n G E → tz_sm (fun p => slo p * G p) (tz_ps sz nd N) = tz_sm (fun p => slo0 p * G p) (tz_ps sz nd N) + X E) ∧
  ∀ p, (∀ m, kd m ≠ 0 → bt (blw n) m = true → ∀ a, a < sz m → p ≠ tz_ps sz nd (ag m) + a) → slo p = slo0 p
section SP
variable {xnc xfr xol xnw xtp xsc : Int32} {nod ofs rnk dmx stx its knd rfs siz oldr newr stt blw arn slo mvd sls : Nat → Int32}
variable {ycs ysc : Int32} {usd yrk yds shn tof vw exs ykd fst snd own prt pct val ysl ord ysls : Nat → Int32}
variable {N : Nat} {nd ag kd sz : Nat → Nat} {cl : Nat → Nat → Nat} {V : Nat → Int32}
theorem tr_Sq_0 {n : Nat} : tr_Sq N ag nd kd sz cl blw n slo slo (fun _ => 0) := ⟨fun _ _ _ => by rw [Int32.add_zero], fun _ _ => rfl⟩
theorem tr_Sq_eq {n : Nat} {slo0 : Nat → Int32} {X X' : (Nat → Int32) → Int32} (h : tr_Sq N ag nd kd sz cl blw n slo0 slo X) (e : ∀ E, X E = X' E) : tr_Sq N ag nd kd sz cl blw n slo0 slo X' := ⟨fun G E hG => by rw [h.1 G E hG, e E], h.2⟩
theorem tr_Sq_add {n m a : Nat} {g : Int32} {slo0 : Nat → Int32} {X : (Nat → Int32) → Int32} (S : tr_Sk N nd ag kd sz xnc xol xnw xtp knd siz oldr newr stt) (h : tr_Sq N ag nd kd sz cl blw n slo0 slo X) (km : kd m ≠ 0) (hb : bt (blw n) m = true) (ha : a < sz m) : tr_Sq N ag nd kd sz cl blw n slo0 (upd slo (tz_ps sz nd (ag m) + a) (slo (tz_ps sz nd (ag m) + a) + g)) (fun E => X E + g * E (cl m a)) := by
  have s := S.2.1 m km
  have l := tz_psl (sz := sz) (nd := nd) s.2.1
  rw [s.2.2] at l
  refine ⟨fun G E hG => ?_, fun p hp => ?_⟩
  · rw [tz_sadd (by omega), h.1 G E hG, hG m km hb a ha, Int32.add_assoc]
  · rw [pk_un (hp m km hb a ha)]
    exact h.2 p hp
theorem tx_adr {post : SX → Prop} {d m r i : Nat} {D : Nat → Nat} {c g : Int32} (S : tr_Sk N nd ag kd sz xnc xol xnw xtp knd siz oldr newr stt) (hd : d < 120) (hm : nod d = nI m) (km : kd m ≠ 0) (dx : tx_Dx rnk dmx d r D) (hi : i < 2 ^ 31) (rd : tr_rd sz cl ofs stx d m r D i c) (H : ∀ a, a < sz m → c = nI (cl m a) → post (xnc, xfr, xol, xnw, xtp, xsc, nod, ofs, rnk, dmx, stx, its, knd, rfs, siz, oldr, newr, stt, blw, arn, upd slo (tz_ps sz nd (ag m) + a) (slo (tz_ps sz nd (ag m) + a) + g), mvd, sls)) : wpX_add post (xnc, xfr, xol, xnw, xtp, xsc, nod, ofs, rnk, dmx, stx, its, knd, rfs, siz, oldr, newr, stt, blw, arn, slo, mvd, sls) (nI d) (nI i) g := by
  obtain ⟨a, a1, a2, a3⟩ := rd
  have st := tr_stt S km
  exact tx_add hd dx hi hm (S.2.1 m km).1 st.1 (by omega) a2 (H a a1 a3)
theorem tx_prod {post : SX → Prop} {n m m2 r r2 i1 i2 : Nat} {D D2 : Nat → Nat} {c1 c2 g : Int32} {slo0 : Nat → Int32} {X : (Nat → Int32) → Int32} (S : tr_Sk N nd ag kd sz xnc xol xnw xtp knd siz oldr newr stt) (C : tr_Ce N nd kd sz cl ycs own ord exs ykd) (hn : n < 32) (hm : nod (24 + 3 * n + 1) = nI m) (km : kd m ≠ 0) (dx : tx_Dx rnk dmx (24 + 3 * n + 1) r D) (h1 : i1 < 2 ^ 31) (rd : tr_rd sz cl ofs stx (24 + 3 * n + 1) m r D i1 c1) (hm2 : nod (24 + 3 * n + 2) = nI m2) (km2 : kd m2 ≠ 0) (dx2 : tx_Dx rnk dmx (24 + 3 * n + 2) r2 D2) (h2 : i2 < 2 ^ 31) (rd2 : tr_rd sz cl ofs stx (24 + 3 * n + 2) m2 r2 D2 i2 c2)
    (fv : ∀ a, a < sz m → arn (tz_ps sz nd (ag m) + a) = V (cl m a)) (fv2 : ∀ a, a < sz m2 → arn (tz_ps sz nd (ag m2) + a) = V (cl m2 a)) (b1 : bt (blw n) m = true) (b2 : bt (blw n) m2 = true) (h : tr_Sq N ag nd kd sz cl blw n slo0 slo X)
    (H : ∀ slo1, tr_Sq N ag nd kd sz cl blw n slo0 slo1 (fun E => X E + g * (E c1.toNatClampNeg * V c2.toNatClampNeg + V c1.toNatClampNeg * E c2.toNatClampNeg)) → post (xnc, xfr, xol, xnw, xtp, xsc, nod, ofs, rnk, dmx, stx, its, knd, rfs, siz, oldr, newr, stt, blw, arn, slo1, mvd, sls)) : wpX_product post (xnc, xfr, xol, xnw, xtp, xsc, nod, ofs, rnk, dmx, stx, its, knd, rfs, siz, oldr, newr, stt, blw, arn, slo, mvd, sls) (nI (24 + 3 * n)) (nI i1) (nI i2) g := by
  unfold wpX_product
  rw [tz_add1, tz_add2]
  refine tx_shr (V := V) S C (by omega) hm km dx h1 rd fv ?_
  refine tx_shr (V := V) S C (by omega) hm2 km2 dx2 h2 rd2 fv2 ?_
  refine tx_adr S (by omega) hm km dx h1 rd ?_
  intro a a1 a2
  refine tx_adr S (by omega) hm2 km2 dx2 h2 rd2 ?_
  intro b b1' b2'
  have e1 := tr_Sq_add (g := g * V c2.toNatClampNeg) S h km b1 a1
  have e2 := tr_Sq_add (g := g * V c1.toNatClampNeg) S e1 km2 b2 b1'
  refine H _ (tr_Sq_eq e2 (fun E => ?_))
  have z1 : c1.toNatClampNeg = cl m a := by rw [a2, nI_clamp (by have := (C.2.1 m a km a1).1; omega)]
  have z2 : c2.toNatClampNeg = cl m2 b := by rw [b2', nI_clamp (by have := (C.2.1 m2 b km2 b1').1; omega)]
  rw [z1, z2]
  grind
theorem tx_sm5 {post : SX → Prop} {n e m r K : Nat} {D : Nat → Nat} {g x6 : Int32} {pr : Nat → Int32} {slo0 : Nat → Int32} {X : (Nat → Int32) → Int32} (S : tr_Sk N nd ag kd sz xnc xol xnw xtp knd siz oldr newr stt) (C : tr_Ce N nd kd sz cl ycs own ord exs ykd) (hn : n < 32) (k5 : knd n = 5) (hK : K ≤ 4) (he : e ≤ 64) (hm : nod (24 + 3 * n + 1) = nI m) (km : kd m ≠ 0) (dx : tx_Dx rnk dmx (24 + 3 * n + 1) r D) (rd : ∀ j, j < K → tr_rd sz cl ofs stx (24 + 3 * n + 1) m r D (e * K + j) (pr j)) (b1 : bt (blw n) m = true)
    (H : ∀ slo1, tr_Sq N ag nd kd sz cl blw n slo0 slo1 (fun E => X E + g * tz_sm (fun j => E (pr j).toNatClampNeg) K) → post (xnc, xfr, xol, xnw, xtp, xsc, nod, ofs, rnk, dmx, stx, its, knd, rfs, siz, oldr, newr, stt, blw, arn, slo1, mvd, sls)) :
    ∀ f j slo, j ≤ K → K - j < f → tr_Sq N ag nd kd sz cl blw n slo0 slo (fun E => X E + g * tz_sm (fun j => E (pr j).toNatClampNeg) j) → wX_sum_20 post (nI n) (nI e) (nI K) g (nI (24 + 3 * n)) x6 f (nI j) xnc xfr xol xnw xtp xsc nod ofs rnk dmx stx its knd rfs siz oldr newr stt blw arn slo mvd sls := by
  have eK : e * K ≤ 64 * 4 := Nat.mul_le_mul he hK
  intro f
  induction f with
  | zero => intro j slo _ h; omega
  | succ f ih =>
    intro j slo h1 h2 h3
    unfold wX_sum_20
    by_cases c : j < K
    · refine br_f (nI_ge c (by omega)) ⟨vp_in_nI hn (by omega), br_t (by rw [nI_clamp (by omega)]; exact k5) ?_⟩
      have ei : nI e * nI K + nI j = nI (e * K + j) := by rw [pk_mul, nI_add]
      rw [tz_add1 (24 + 3 * n), ei]
      refine tx_adr S (by omega) hm km dx (by omega) (rd j c) ?_
      intro a a1 a2
      have e1 := tr_Sq_add (g := g) S h3 km b1 a1
      refine nm_r (nI_1 j) (ih (j + 1) _ (by omega) (by omega) (tr_Sq_eq e1 (fun E => ?_)))
      have z1 : (pr j).toNatClampNeg = cl m a := by rw [a2, nI_clamp (by have := (C.2.1 m a km a1).1; omega)]
      rw [tz_sms, z1]
      grind
    · have ce : j = K := by omega
      subst ce
      exact br_t (Int32.le_refl _) (H slo h3)
theorem tx_sm6 {post : SX → Prop} {n e m m2 r r2 K col : Nat} {D D2 : Nat → Nat} {g : Int32} {pr : Nat → Int32} {slo0 : Nat → Int32} {X : (Nat → Int32) → Int32} (S : tr_Sk N nd ag kd sz xnc xol xnw xtp knd siz oldr newr stt) (C : tr_Ce N nd kd sz cl ycs own ord exs ykd) (hn : n < 32) (k5 : ¬ knd n = 5) (hK : K ≤ 4) (he : e ≤ 64) (c1 : 1 ≤ col) (c4 : col ≤ 4) (hm : nod (24 + 3 * n + 1) = nI m) (km : kd m ≠ 0) (dx : tx_Dx rnk dmx (24 + 3 * n + 1) r D) (hm2 : nod (24 + 3 * n + 2) = nI m2) (km2 : kd m2 ≠ 0) (dx2 : tx_Dx rnk dmx (24 + 3 * n + 2) r2 D2)
    (rd : ∀ j, j < K → tr_rd sz cl ofs stx (24 + 3 * n + 1) m r D (e / col * K + j) (pr (2 * j)) ∧ tr_rd sz cl ofs stx (24 + 3 * n + 2) m2 r2 D2 (j * col + e % col) (pr (2 * j + 1))) (fv : ∀ a, a < sz m → arn (tz_ps sz nd (ag m) + a) = V (cl m a)) (fv2 : ∀ a, a < sz m2 → arn (tz_ps sz nd (ag m2) + a) = V (cl m2 a)) (b1 : bt (blw n) m = true) (b2 : bt (blw n) m2 = true)
    (H : ∀ slo1, tr_Sq N ag nd kd sz cl blw n slo0 slo1 (fun E => X E + g * tz_sm (fun j => E (pr (2 * j)).toNatClampNeg * V (pr (2 * j + 1)).toNatClampNeg + V (pr (2 * j)).toNatClampNeg * E (pr (2 * j + 1)).toNatClampNeg) K) → post (xnc, xfr, xol, xnw, xtp, xsc, nod, ofs, rnk, dmx, stx, its, knd, rfs, siz, oldr, newr, stt, blw, arn, slo1, mvd, sls)) :
    ∀ f j slo, j ≤ K → K - j < f → tr_Sq N ag nd kd sz cl blw n slo0 slo (fun E => X E + g * tz_sm (fun j => E (pr (2 * j)).toNatClampNeg * V (pr (2 * j + 1)).toNatClampNeg + V (pr (2 * j)).toNatClampNeg * E (pr (2 * j + 1)).toNatClampNeg) j) → wX_sum_20 post (nI n) (nI e) (nI K) g (nI (24 + 3 * n)) (nI col) f (nI j) xnc xfr xol xnw xtp xsc nod ofs rnk dmx stx its knd rfs siz oldr newr stt blw arn slo mvd sls := by
  have ed : e / col ≤ 64 := Nat.le_trans (Nat.div_le_self _ _) he
  have eK : e / col * K ≤ 64 * 4 := Nat.mul_le_mul ed hK
  have em : e % col < col := Nat.mod_lt _ (by omega)
  have n0 : ¬ nI col = 0 := nI_ne0 (by omega) (by omega)
  intro f
  induction f with
  | zero => intro j slo _ h; omega
  | succ f ih =>
    intro j slo h1 h2 h3
    unfold wX_sum_20
    by_cases c : j < K
    · have jc : j * col ≤ 4 * 4 := Nat.mul_le_mul (by omega) c4
      refine br_f (nI_ge c (by omega)) ⟨vp_in_nI hn (by omega), br_f (by rw [nI_clamp (by omega)]; exact k5) ⟨n0, n0, ?_⟩⟩
      have ei : nI e / nI col * nI K + nI j = nI (e / col * K + j) := by rw [pk_div (by omega) (by omega) (by omega), pk_mul, nI_add]
      have ei2 : nI j * nI col + (nI e - nI e / nI col * nI col) = nI (j * col + e % col) := by rw [pk_rem (by omega) (by omega) (by omega), pk_mul, nI_add]
      rw [ei, ei2]
      refine tx_prod (V := V) S C hn hm km dx (by omega) (rd j c).1 hm2 km2 dx2 (by omega) (rd j c).2 fv fv2 b1 b2 h3 ?_
      intro slo1 e1
      refine nm_r (nI_1 j) (ih (j + 1) _ (by omega) (by omega) (tr_Sq_eq e1 (fun E => ?_)))
      rw [tz_sms]
      grind
    · have ce : j = K := by omega
      subst ce
      exact br_t (Int32.le_refl _) (H slo h3)
/-- the slopes of one element go on to the operands -/
theorem tx_spe {post : SX → Prop} {J : Int32 → Int32 → Int32 → Int32 → Int32 → Int32 → Int32 → (Nat → Int32) → (Nat → Int32) → (Nat → Int32) → (Nat → Int32) → (Nat → Int32) → (Nat → Int32) → (Nat → Int32) → (Nat → Int32) → (Nat → Int32) → (Nat → Int32) → (Nat → Int32) → (Nat → Int32) → (Nat → Int32) → (Nat → Int32) → (Nat → Int32) → (Nat → Int32) → (Nat → Int32) → Prop} {n e r1 : Nat} {D1 : Nat → Nat} {g : Int32} {slo0 : Nat → Int32} {X : (Nat → Int32) → Int32} (S : tr_Sk N nd ag kd sz xnc xol xnw xtp knd siz oldr newr stt) (C : tr_Ce N nd kd sz cl ycs own ord exs ykd) (Ns : tr_Ns ag kd sz cl nod ofs rnk dmx stx blw fst snd prt pct) (k2 : 2 ≤ kd n) (he : e < sz n) (fv : ∀ m, kd m ≠ 0 → bt (blw n) m = true → ∀ a, a < sz m → arn (tz_ps sz nd (ag m) + a) = V (cl m a)) (d1 : tx_Dx rnk dmx (24 + 3 * n + 1) r1 D1)
    (h : tr_Sq N ag nd kd sz cl blw n slo0 slo X)
    (H : ∀ slo1, tr_Sq N ag nd kd sz cl blw n slo0 slo1 (fun E => X E + g * tr_dF (kd n) (pct (cl n e)).toNatClampNeg (tr_q prt (cl n e)) V E) → J (nI (e + 1)) xnc xfr xol xnw xtp xsc nod ofs rnk dmx stx its knd rfs siz oldr newr stt blw arn slo1 mvd sls) :
    ((nI (kd n) < 2 → (wX_spread_161 post J (nI n) (nI (24 + 3 * n)) (nI (tz_last D1 r1)) (nI e) g xnc xfr xol xnw xtp xsc nod ofs rnk dmx stx its knd rfs siz oldr newr stt blw arn slo mvd sls)) ∧ (¬ nI (kd n) < 2 → (((7 < nI (kd n) → (wX_spread_161 post J (nI n) (nI (24 + 3 * n)) (nI (tz_last D1 r1)) (nI e) g xnc xfr xol xnw xtp xsc nod ofs rnk dmx stx its knd rfs siz oldr newr stt blw arn slo mvd sls)) ∧ (¬ 7 < nI (kd n) → (((nI (kd n) = 2 → (wX_spread_92 post J (nI n) (nI (24 + 3 * n)) (nI (tz_last D1 r1)) (nI e) g xnc xfr xol xnw xtp xsc nod ofs rnk dmx stx its knd rfs siz oldr newr stt blw arn slo mvd sls)) ∧ (¬ nI (kd n) = 2 → (((nI (kd n) = 3 → (wX_spread_92 post J (nI n) (nI (24 + 3 * n)) (nI (tz_last D1 r1)) (nI e) g xnc xfr xol xnw xtp xsc nod ofs rnk dmx stx its knd rfs siz oldr newr stt blw arn slo mvd sls)) ∧ (¬ nI (kd n) = 3 → (((nI (kd n) = 4 → (wpX_product (fun u => match u with | (xnc2, xfr2, xol2, xnw2, xtp2, xsc2, nod2, ofs2, rnk2, dmx2, stx2, its2, knd2, rfs2, siz2, oldr2, newr2, stt2, blw2, arn2, slo2, mvd2, sls2) => (∀ y, y = nI e + 1 → (J y xnc2 xfr2 xol2 xnw2 xtp2 xsc2 nod2 ofs2 rnk2 dmx2 stx2 its2 knd2 rfs2 siz2 oldr2 newr2 stt2 blw2 arn2 slo2 mvd2 sls2))) (xnc, xfr, xol, xnw, xtp, xsc, nod, ofs, rnk, dmx, stx, its, knd, rfs, siz, oldr, newr, stt, blw, arn, slo, mvd, sls) (nI (24 + 3 * n)) (nI e) (nI e) g)) ∧ (¬ nI (kd n) = 4 → (((nI (kd n) = 5 → (wX_spread_161 post J (nI n) (nI (24 + 3 * n)) (nI (tz_last D1 r1)) (nI e) g xnc xfr xol xnw xtp xsc nod ofs rnk dmx stx its knd rfs siz oldr newr stt blw arn slo mvd sls)) ∧ (¬ nI (kd n) = 5 → (((nI (kd n) = 6 → (wX_spread_161 post J (nI n) (nI (24 + 3 * n)) (nI (tz_last D1 r1)) (nI e) g xnc xfr xol xnw xtp xsc nod ofs rnk dmx stx its knd rfs siz oldr newr stt blw arn slo mvd sls)) ∧ (¬ nI (kd n) = 6 → (((nI (kd n) = 7 → (wpX_add (fun u => match u with | (xnc2, xfr2, xol2, xnw2, xtp2, xsc2, nod2, ofs2, rnk2, dmx2, stx2, its2, knd2, rfs2, siz2, oldr2, newr2, stt2, blw2, arn2, slo2, mvd2, sls2) => (∀ y, y = nI e + 1 → (J y xnc2 xfr2 xol2 xnw2 xtp2 xsc2 nod2 ofs2 rnk2 dmx2 stx2 its2 knd2 rfs2 siz2 oldr2 newr2 stt2 blw2 arn2 slo2 mvd2 sls2))) (xnc, xfr, xol, xnw, xtp, xsc, nod, ofs, rnk, dmx, stx, its, knd, rfs, siz, oldr, newr, stt, blw, arn, slo, mvd, sls) (nI (24 + 3 * n) + 1) (nI e) g)) ∧ (¬ nI (kd n) = 7 → (True)))))))))))))))))))))))) := by
  have kn : kd n ≠ 0 := by omega
  have hn := (S.2.1 n kn).1
  have hsz := (S.2.2.2.2.1 n kn).2
  have hk := (S.2.2.2.1 n hn).1
  have wn : vp_in (nI n) 32 := vp_in_nI hn (by omega)
  have h32 := fun m hm => (S.2.1 m hm).1
  have hk' : knd (nI n).toNatClampNeg = nI (kd n) := by rw [nI_clamp (by omega)]; exact hk
  rcases Ns n kn with z | ⟨m, r, D, r0, D0, K, a1, a2, a3, a4, a5, a6⟩
  · have := z.1; omega
  have hm32 := h32 m a1.2.1
  have elast : tz_last D1 r1 = tz_last D r := by
    have e1 : r1 = r := by
      have := d1.1.symm.trans a1.2.2.2.1
      exact (nI_eq (by have := d1.2.1; omega) (by have := a1.2.2.2.2.1; omega)).mp this
    subst e1
    unfold tz_last
    by_cases c : r1 = 0
    · rw [if_pos c, if_pos c]
    · rw [if_neg c, if_neg c]
      have x1 := d1.2.2 (r1 - 1) (by omega)
      have x2 := a1.2.2.2.2.2 (r1 - 1) (by omega)
      have := x1.1.symm.trans x2.1
      exact (nI_eq (by omega) (by omega)).mp this
  rw [elast]
  rcases a6 with ⟨c1, c2, c3, c4, c5⟩ | ⟨m2, r2, D2, c1, c2, c3, c4, c5⟩
  · have bm : bt (blw n) m = true := by rw [c4 m hm32, decide_eq_true rfl, Bool.or_true]
    obtain ⟨p1, p2⟩ := c5 e he
    rw [p1, nI_clamp (by omega)] at H
    rcases c1 with ⟨kk, eK⟩ | ⟨kk, eK⟩
    · rw [kk] at hk H ⊢
      refine br_f (by decide) (br_f (by decide) (br_f (by decide) (br_f (by decide) (br_f (by decide) (br_t rfl ?_)))))
      unfold wX_spread_161 wpX_sum
      refine nm_r (by rw [tz_3n, tz_24a]) (tx_al_l (by omega) a3 ?_)
      rw [← eK]
      refine ⟨K + 1, tx_sm5 (pr := fun j => prt (8 * cl n e + j)) (X := X) (slo0 := slo0) S C hn hk a5 (by omega) a1.1 a1.2.1 a1.2.2.2 p2 bm ?_ (K + 1) 0 slo (by omega) (by omega) (tr_Sq_eq h (fun E => ?_))⟩
      · intro slo1 e1
        refine nm_r (nI_1 e) (H slo1 (tr_Sq_eq e1 (fun E => ?_)))
        unfold tr_dF
        rw [if_neg (by decide), if_neg (by decide)]
        rfl
      · show X E = X E + g * 0
        rw [Int32.mul_zero, Int32.add_zero]
    · rw [kk] at hk H ⊢
      subst eK
      refine br_f (by decide) (br_f (by decide) (br_f (by decide) (br_f (by decide) (br_f (by decide) (br_f (by decide) (br_f (by decide) (br_t rfl ?_)))))))
      have rd := p2 0 (by omega)
      rw [show e * 1 + 0 = e from by omega] at rd
      rw [tz_add1 (24 + 3 * n)]
      refine tx_adr S (by omega) a1.1 a1.2.1 a1.2.2.2 (by omega) rd ?_
      intro a ha ha2
      have e1 := tr_Sq_add (g := g) S h a1.2.1 bm ha
      refine nm_r (nI_1 e) (H _ (tr_Sq_eq e1 (fun E => ?_)))
      unfold tr_dF
      rw [if_neg (by decide), if_neg (by decide)]
      show _ = X E + g * ((0 : Int32) + E (prt (8 * cl n e + 0)).toNatClampNeg)
      rw [ha2, nI_clamp (by have := (C.2.1 m a a1.2.1 ha).1; omega), Int32.zero_add]
  · have hm232 := h32 m2 c2.2.1
    have bm : bt (blw n) m = true := by rw [c4 m hm32, decide_eq_true (p := m = m) rfl, Bool.or_true, Bool.true_or]
    have bm2 : bt (blw n) m2 = true := by rw [c4 m2 hm232, decide_eq_true (p := m2 = m2) rfl, Bool.or_true, Bool.or_true]
    have fm := fv m a1.2.1 bm
    have fm2 := fv m2 c2.2.1 bm2
    obtain ⟨p1, p2⟩ := c5 e he
    rw [p1, nI_clamp (by omega)] at H
    rcases c1 with ⟨kk, eK⟩ | ⟨kk, eK⟩
    · rw [kk] at hk H p2 ⊢
      have cb : 1 ≤ tz_last D0 r0 ∧ tz_last D0 r0 ≤ 4 := by
        unfold tz_last
        split
        · omega
        · exact (a3.2.2 _ (by omega)).2
      refine br_f (by decide) (br_f (by decide) (br_f (by decide) (br_f (by decide) (br_f (by decide) (br_f (by decide) (br_t rfl ?_))))))
      unfold wX_spread_161 wpX_sum
      refine nm_r (by rw [tz_3n, tz_24a]) (tx_al_l (by omega) a3 ?_)
      rw [← eK]
      refine ⟨K + 1, tx_sm6 (V := V) (pr := fun j => prt (8 * cl n e + j)) (X := X) (slo0 := slo0) S C hn (by rw [hk]; decide) a5 (by omega) cb.1 cb.2 a1.1 a1.2.1 a1.2.2.2 c2.1 c2.2.1 c2.2.2.2 p2 fm fm2 bm bm2 ?_ (K + 1) 0 slo (by omega) (by omega) (tr_Sq_eq h (fun E => ?_))⟩
      · intro slo1 e1
        refine nm_r (nI_1 e) (H slo1 (tr_Sq_eq e1 (fun E => ?_)))
        unfold tr_dF
        rw [if_neg (by decide), if_pos (by decide), show 2 * K / 2 = K from by omega]
        rfl
      · show X E = X E + g * 0
        rw [Int32.mul_zero, Int32.add_zero]
    · subst eK
      have rd := p2 0 (by omega)
      have i1 : tr_i1 (kd n) (tz_last D0 r0) 1 e 0 = e := by unfold tr_i1; rw [if_neg (by omega)]
      have i2 : tr_i2 (kd n) (tz_last D0 r0) e 0 = e := by unfold tr_i2; rw [if_neg (by omega)]
      rw [i1, i2] at rd
      rcases kk with kk | kk | kk
      · rw [kk] at hk hk' H ⊢
        refine br_f (by decide) (br_f (by decide) (br_t rfl ?_))
        unfold wX_spread_92
        rw [tz_add1 (24 + 3 * n)]
        refine tx_adr S (by omega) a1.1 a1.2.1 a1.2.2.2 (by omega) rd.1 ?_
        intro a ha ha2
        dsimp only
        rw [hk']
        refine ⟨wn, br_t rfl ?_⟩
        unfold wX_spread_127
        rw [tz_add2 (24 + 3 * n)]
        refine tx_adr S (by omega) c2.1 c2.2.1 c2.2.2.2 (by omega) rd.2 ?_
        intro b hb hb2
        have e1 := tr_Sq_add (g := g) S h a1.2.1 bm ha
        have e2 := tr_Sq_add (g := g) S e1 c2.2.1 bm2 hb
        refine nm_r (nI_1 e) (H _ (tr_Sq_eq e2 (fun E => ?_)))
        unfold tr_dF
        rw [if_neg (by decide), if_neg (by decide)]
        show _ = X E + g * ((0 : Int32) + E (prt (8 * cl n e + 2 * 0)).toNatClampNeg + E (prt (8 * cl n e + (2 * 0 + 1))).toNatClampNeg)
        rw [ha2, hb2, nI_clamp (by have := (C.2.1 m a a1.2.1 ha).1; omega), nI_clamp (by have := (C.2.1 m2 b c2.2.1 hb).1; omega)]
        grind
      · rw [kk] at hk hk' H ⊢
        refine br_f (by decide) (br_f (by decide) (br_f (by decide) (br_t rfl ?_)))
        unfold wX_spread_92
        rw [tz_add1 (24 + 3 * n)]
        refine tx_adr S (by omega) a1.1 a1.2.1 a1.2.2.2 (by omega) rd.1 ?_
        intro a ha ha2
        dsimp only
        rw [hk']
        refine ⟨wn, br_f (by decide) ?_⟩
        unfold wX_spread_127
        rw [tz_add2 (24 + 3 * n)]
        refine tx_adr S (by omega) c2.1 c2.2.1 c2.2.2.2 (by omega) rd.2 ?_
        intro b hb hb2
        have e1 := tr_Sq_add (g := g) S h a1.2.1 bm ha
        have e2 := tr_Sq_add (g := -g) S e1 c2.2.1 bm2 hb
        refine nm_r (nI_1 e) (H _ (tr_Sq_eq e2 (fun E => ?_)))
        unfold tr_dF
        rw [if_pos rfl]
        show _ = X E + g * (E (prt (8 * cl n e + 2 * 0)).toNatClampNeg - E (prt (8 * cl n e + (2 * 0 + 1))).toNatClampNeg)
        rw [ha2, hb2, nI_clamp (by have := (C.2.1 m a a1.2.1 ha).1; omega), nI_clamp (by have := (C.2.1 m2 b c2.2.1 hb).1; omega)]
        grind
      · rw [kk] at hk hk' H ⊢
        refine br_f (by decide) (br_f (by decide) (br_f (by decide) (br_f (by decide) (br_t rfl ?_))))
        refine tx_prod (V := V) (X := X) (slo0 := slo0) S C hn a1.1 a1.2.1 a1.2.2.2 (by omega) rd.1 c2.1 c2.2.1 c2.2.2.2 (by omega) rd.2 fm fm2 bm bm2 h ?_
        intro slo1 e1
        refine nm_r (nI_1 e) (H slo1 (tr_Sq_eq e1 (fun E => ?_)))
        unfold tr_dF
        rw [if_neg (by decide), if_pos (by decide)]
        show _ = X E + g * ((0 : Int32) + (E (prt (8 * cl n e + 2 * 0)).toNatClampNeg * V (prt (8 * cl n e + (2 * 0 + 1))).toNatClampNeg + V (prt (8 * cl n e + 2 * 0)).toNatClampNeg * E (prt (8 * cl n e + (2 * 0 + 1))).toNatClampNeg))
        rw [Int32.zero_add]
end SP
end
section
/-- E is the derivative by element i of leaf l -/
def tr_Dv (kd sz : Nat → Nat) (cl : Nat → Nat → Nat) (V : Nat → Int32) (prt pct : Nat → Int32) (l i : Nat) (E : Nat → Int32) : Prop :=
  (∀ n e, kd n = 1 → e < sz n → E (cl n e) = if nI (cl n e) = nI (cl l i) then 1 else 0) ∧ (∀ n e, 2 ≤ kd n → e < sz n → E (cl n e) = tr_dF (kd n) (pct (cl n e)).toNatClampNeg (tr_q prt (cl n e)) V E)
/-- by places: E below q, one at place pl from q on -/
def tr_Eq (ord : Nat → Int32) (E : Nat → Int32) (pl q p : Nat) : Int32 := if p < q then E (ord p).toNatClampNeg else if p = pl then 1 else 0
/-- what the pass back keeps, before the node of age j - 1 -/
def tr_Gr (N : Nat) (ag nd kd sz : Nat → Nat) (cl : Nat → Nat → Nat) (V : Nat → Int32) (prt pct ord blw : Nat → Int32) (n l cnt : Nat) (c : Nat → Nat) (j : Nat) (slo : Nat → Int32) : Prop :=
  (∀ i E, i < sz l → tr_Dv kd sz cl V prt pct l i E → tz_sm (fun p => slo p * tr_Eq ord E (tz_ps sz nd (ag l) + i) (tz_ps sz nd j) p) (tz_ps sz nd N) = tz_sm (fun e => E (c e)) cnt) ∧
  ∀ m, kd m ≠ 0 → ¬ (m = n ∨ bt (blw n) m = true) → ∀ a, a < sz m → slo (tz_ps sz nd (ag m) + a) = 0
section GR
variable {xnc xfr xol xnw xtp xsc : Int32} {nod ofs rnk dmx stx its knd rfs siz oldr newr stt blw arn slo mvd sls : Nat → Int32}
variable {ycs ysc : Int32} {usd yrk yds shn tof vw exs ykd fst snd own prt pct val ysl ord ysls : Nat → Int32}
variable {N : Nat} {nd ag kd sz : Nat → Nat} {cl : Nat → Nat → Nat} {V : Nat → Int32}
theorem tx_sp19 {post : SX → Prop} {n r1 : Nat} {D1 : Nat → Nat} {slo0 : Nat → Int32} (S : tr_Sk N nd ag kd sz xnc xol xnw xtp knd siz oldr newr stt) (C : tr_Ce N nd kd sz cl ycs own ord exs ykd) (Ns : tr_Ns ag kd sz cl nod ofs rnk dmx stx blw fst snd prt pct) (k2 : 2 ≤ kd n) (fv : ∀ m, kd m ≠ 0 → bt (blw n) m = true → ∀ a, a < sz m → arn (tz_ps sz nd (ag m) + a) = V (cl m a)) (d1 : tx_Dx rnk dmx (24 + 3 * n + 1) r1 D1)
    (H : ∀ slo1, tr_Sq N ag nd kd sz cl blw n slo0 slo1 (fun E => tz_sm (fun i => slo0 (tz_ps sz nd (ag n) + i) * tr_dF (kd n) (pct (cl n i)).toNatClampNeg (tr_q prt (cl n i)) V E) (sz n)) → post (xnc, xfr, xol, xnw, xtp, xsc, nod, ofs, rnk, dmx, stx, its, knd, rfs, siz, oldr, newr, stt, blw, arn, slo1, mvd, sls)) :
    ∀ f e slo, e ≤ sz n → sz n - e < f → tr_Sq N ag nd kd sz cl blw n slo0 slo (fun E => tz_sm (fun i => slo0 (tz_ps sz nd (ag n) + i) * tr_dF (kd n) (pct (cl n i)).toNatClampNeg (tr_q prt (cl n i)) V E) e) → wX_spread_19 post (nI n) (nI (24 + 3 * n)) (nI (tz_last D1 r1)) f (nI e) xnc xfr xol xnw xtp xsc nod ofs rnk dmx stx its knd rfs siz oldr newr stt blw arn slo mvd sls := by
  have kn : kd n ≠ 0 := by omega
  have hn := (S.2.1 n kn).1
  have hsz := S.2.2.2.2.1 n kn
  have hk := (S.2.2.2.1 n hn).1
  have st := tr_stt S kn
  have wn : vp_in (nI n) 32 := vp_in_nI hn (by omega)
  intro f
  induction f with
  | zero => intro e slo _ h; omega
  | succ f ih =>
    intro e slo h1 h2 h3
    unfold wX_spread_19
    refine ⟨wn, ?_⟩
    rw [nI_clamp (by omega), hsz.1]
    by_cases c : e < sz n
    · refine br_f (nI_ge c (by omega)) ⟨wn, ?_⟩
      have own : slo (tz_ps sz nd (ag n) + e) = slo0 (tz_ps sz nd (ag n) + e) := by
        refine h3.2 _ (fun m hm hb a ha z => ?_)
        have b := tr_blw S Ns (ag n + 1) n m (by omega) kn (S.2.1 m hm).1 hb
        have l := tz_psl (sz := sz) (nd := nd) b.2.1
        rw [(S.2.1 m hm).2.2] at l
        omega
      rw [st.1, nI_add, nI_clamp (by omega), hk]
      refine ⟨vp_in_nI (by omega) (by omega), nm_r own ⟨wn, nm_e ?_⟩⟩
      refine tx_spe (V := V) S C Ns k2 c fv d1 h3 ?_
      intro slo1 e1
      exact ih (e + 1) slo1 (by omega) (by omega) e1
    · have ce : e = sz n := by omega
      rw [ce] at h3 ⊢
      exact br_t (Int32.le_refl _) (H slo h3)
theorem tx_spread {post : SX → Prop} {n : Nat} (S : tr_Sk N nd ag kd sz xnc xol xnw xtp knd siz oldr newr stt) (C : tr_Ce N nd kd sz cl ycs own ord exs ykd) (Ns : tr_Ns ag kd sz cl nod ofs rnk dmx stx blw fst snd prt pct) (k2 : 2 ≤ kd n) (fv : ∀ m, kd m ≠ 0 → bt (blw n) m = true → ∀ a, a < sz m → arn (tz_ps sz nd (ag m) + a) = V (cl m a))
    (H : ∀ slo1, tr_Sq N ag nd kd sz cl blw n slo slo1 (fun E => tz_sm (fun i => slo (tz_ps sz nd (ag n) + i) * tr_dF (kd n) (pct (cl n i)).toNatClampNeg (tr_q prt (cl n i)) V E) (sz n)) → post (xnc, xfr, xol, xnw, xtp, xsc, nod, ofs, rnk, dmx, stx, its, knd, rfs, siz, oldr, newr, stt, blw, arn, slo1, mvd, sls)) : wpX_spread post (xnc, xfr, xol, xnw, xtp, xsc, nod, ofs, rnk, dmx, stx, its, knd, rfs, siz, oldr, newr, stt, blw, arn, slo, mvd, sls) (nI n) := by
  have kn : kd n ≠ 0 := by omega
  have hn := (S.2.1 n kn).1
  rcases Ns n kn with z | ⟨m, r, D, r0, D0, K, a1, a2, a3, a4, a5, a6⟩
  · have := z.1; omega
  unfold wpX_spread
  refine nm_r (by rw [tz_3n, tz_24a]) ?_
  rw [tz_add1 (24 + 3 * n)]
  refine tx_al_l (by omega) a1.2.2.2 ⟨sz n + 1, ?_⟩
  exact tx_sp19 (V := V) S C Ns k2 fv a1.2.2.2 H (sz n + 1) 0 slo (by omega) (by omega) tr_Sq_0
theorem tr_ord {m a : Nat} (S : tr_Sk N nd ag kd sz xnc xol xnw xtp knd siz oldr newr stt) (C : tr_Ce N nd kd sz cl ycs own ord exs ykd) (hm : kd m ≠ 0) (ha : a < sz m) : (ord (tz_ps sz nd (ag m) + a)).toNatClampNeg = cl m a := by
  have s := S.2.1 m hm
  have o := C.2.2.2.1 (ag m) a s.2.1 (by rw [s.2.2]; exact ha)
  rw [s.2.2] at o
  rw [o, nI_clamp (by have := (C.2.1 m a hm ha).1; omega)]
/-- one node back -/
theorem tr_Gr_s {n l cnt j : Nat} {c : Nat → Nat} {slo1 : Nat → Int32} (S : tr_Sk N nd ag kd sz xnc xol xnw xtp knd siz oldr newr stt) (C : tr_Ce N nd kd sz cl ycs own ord exs ykd) (Ns : tr_Ns ag kd sz cl nod ofs rnk dmx stx blw fst snd prt pct) (hn : kd n ≠ 0) (hl : kd l = 1) (hj : j < N) (h : tr_Gr N ag nd kd sz cl V prt pct ord blw n l cnt c (j + 1) slo)
    (hd : ((¬ (nd j = n ∨ bt (blw n) (nd j) = true) ∨ kd (nd j) = 1) ∧ slo1 = slo) ∨ ((nd j = n ∨ bt (blw n) (nd j) = true) ∧ 2 ≤ kd (nd j) ∧ tr_Sq N ag nd kd sz cl blw (nd j) slo slo1 (fun E => tz_sm (fun i => slo (tz_ps sz nd (ag (nd j)) + i) * tr_dF (kd (nd j)) (pct (cl (nd j) i)).toNatClampNeg (tr_q prt (cl (nd j) i)) V E) (sz (nd j))))) :
    tr_Gr N ag nd kd sz cl V prt pct ord blw n l cnt c j slo1 := by
  have sj := S.2.2.1 j hj
  have n32 := (S.2.1 _ sj.1).1
  have hl0 : kd l ≠ 0 := by omega
  have sl := S.2.1 l hl0
  have pj : tz_ps sz nd (j + 1) = tz_ps sz nd j + sz (nd j) := tz_pss _ _ _
  have lN := tz_psl (sz := sz) (nd := nd) hj
  -- the place of the leaf's element, and the node j
  have plj : ∀ i e, i < sz l → e < sz (nd j) → (tz_ps sz nd j + e = tz_ps sz nd (ag l) + i ↔ nd j = l ∧ e = i) := by
    intro i e hi he
    constructor
    · intro z
      rcases (by omega : j < ag l ∨ j = ag l ∨ ag l < j) with y | y | y
      · have := tz_psl (sz := sz) (nd := nd) y; omega
      · subst y
        exact ⟨sl.2.2, by omega⟩
      · have := tz_psl (sz := sz) (nd := nd) y
        rw [sl.2.2] at this
        omega
    · intro z
      rw [← z.1, sj.2, z.2]
  rcases hd with ⟨hz, rfl⟩ | ⟨hW, k2, hq⟩
  · refine ⟨fun i E hi hE => ?_, h.2⟩
    rw [← h.1 i E hi hE]
    refine tz_smc _ (fun p hp => ?_)
    unfold tr_Eq
    by_cases c1 : p < tz_ps sz nd j
    · rw [if_pos c1, if_pos (by omega)]
    · rw [if_neg c1]
      by_cases c2 : p < tz_ps sz nd (j + 1)
      · rw [if_pos c2]
        obtain ⟨e, rfl⟩ : ∃ e, p = tz_ps sz nd j + e := ⟨p - tz_ps sz nd j, by omega⟩
        have he : e < sz (nd j) := by omega
        have eo := tr_ord S C sj.1 he
        rw [sj.2] at eo
        rcases hz with z | k1
        · have := h.2 (nd j) sj.1 z e he
          rw [sj.2] at this
          rw [this, Int32.zero_mul, Int32.zero_mul]
        · rw [eo, hE.1 (nd j) e k1 he]
          congr 1
          have b1 := (C.2.1 (nd j) e sj.1 he).1
          have b2 := (C.2.1 l i hl0 hi).1
          by_cases y : nd j = l ∧ e = i
          · rw [if_pos ((plj i e hi he).mpr y), if_pos (by rw [y.1, y.2])]
          · rw [if_neg (fun w => y ((plj i e hi he).mp w)), if_neg (fun w => y (tr_clne S C sj.1 he hl0 hi ((nI_eq (by omega) (by omega)).mp w)))]
      · rw [if_neg c2]
  · refine ⟨fun i E hi hE => ?_, fun m hm hnm a ha => ?_⟩
    · have mt : tr_Mt ag nd kd sz cl blw (nd j) (tr_Eq ord E (tz_ps sz nd (ag l) + i) (tz_ps sz nd j)) E := by
        intro m hm hb a ha
        have b := tr_blw S Ns (ag (nd j) + 1) (nd j) m (by omega) sj.1 (S.2.1 m hm).1 hb
        rw [sj.2] at b
        have l := tz_psl (sz := sz) (nd := nd) b.2.1
        rw [(S.2.1 m hm).2.2] at l
        unfold tr_Eq
        rw [if_pos (by omega), tr_ord S C hm ha]
      rw [hq.1 _ E mt, ← h.1 i E hi hE, sj.2]
      -- the node's own share
      have key : ∀ K, K ≤ sz (nd j) → tz_sm (fun p => slo p * tr_Eq ord E (tz_ps sz nd (ag l) + i) (tz_ps sz nd j + K) p) (tz_ps sz nd N) = tz_sm (fun p => slo p * tr_Eq ord E (tz_ps sz nd (ag l) + i) (tz_ps sz nd j) p) (tz_ps sz nd N) + tz_sm (fun i => slo (tz_ps sz nd j + i) * E (cl (nd j) i)) K := by
        intro K
        induction K with
        | zero => intro _; rw [Nat.add_zero]; exact (Int32.add_zero _).symm
        | succ K ihK =>
          intro hK
          have eo := tr_ord (a := K) S C sj.1 (by omega)
          rw [sj.2] at eo
          rw [tz_sms, ← Int32.add_assoc, ← ihK (by omega)]
          refine tz_sm1 (q := tz_ps sz nd j + K) _ (by omega) (fun p _ hp => ?_) ?_
          · unfold tr_Eq
            by_cases c1 : p < tz_ps sz nd j + K
            · rw [if_pos c1, if_pos (by omega)]
            · rw [if_neg c1, if_neg (by omega)]
          · unfold tr_Eq
            have ne : ¬ tz_ps sz nd j + K = tz_ps sz nd (ag l) + i := fun w => by
              have := ((plj i K hi (by omega)).mp w).1
              rw [this] at k2
              omega
            rw [if_pos (by omega), if_neg (by omega), if_neg ne, eo, Int32.mul_zero, Int32.zero_add]
      rw [pj, key _ (Nat.le_refl _)]
      congr 1
      refine tz_smc _ (fun e he => ?_)
      rw [← hE.2 (nd j) e k2 he]
    · rw [hq.2 _ (fun m' hm' hb' a' ha' z => ?_)]
      · exact h.2 m hm hnm a ha
      · -- the place is one of an operand's: then m stands below n
        have e1 : m = m' := by
          have s := S.2.1 m hm
          have s' := S.2.1 m' hm'
          rcases (by omega : ag m < ag m' ∨ ag m = ag m' ∨ ag m' < ag m) with y | y | y
          · have := tz_psl (sz := sz) (nd := nd) y
            rw [s.2.2] at this; omega
          · rw [← s.2.2, ← s'.2.2, y]
          · have := tz_psl (sz := sz) (nd := nd) y
            rw [s'.2.2] at this; omega
        subst e1
        have m32 := (S.2.1 m hm).1
        refine hnm (Or.inr ?_)
        rcases hW with w | w
        · rw [← w]; exact hb'
        · exact (tr_blw S Ns (ag n + 1) n (nd j) (by omega) hn n32 w).2.2 m m32 hb'
theorem tx_gr119 {post : Int32 → SX → Prop} {n l cnt : Nat} {c : Nat → Nat} (S : tr_Sk N nd ag kd sz xnc xol xnw xtp knd siz oldr newr stt) (C : tr_Ce N nd kd sz cl ycs own ord exs ykd) (Ns : tr_Ns ag kd sz cl nod ofs rnk dmx stx blw fst snd prt pct) (hn : kd n ≠ 0) (hl : kd l = 1) (fv : ∀ m, m < 32 → (m = n ∨ bt (blw n) m = true) → kd m ≠ 0 → ∀ a, a < sz m → arn (tz_ps sz nd (ag m) + a) = V (cl m a))
    (H : ∀ slo1, (∀ i E, i < sz l → tr_Dv kd sz cl V prt pct l i E → slo1 (tz_ps sz nd (ag l) + i) = tz_sm (fun e => E (c e)) cnt) → ∃ n178, wX_gradient_178 post (nI l) xnc xfr xol xnw xtp (nI (sz l)) n178 0 nod ofs rnk dmx stx its knd rfs siz oldr newr stt blw arn slo1 mvd sls) :
    ∀ f j slo, j ≤ N → j < f → tr_Gr N ag nd kd sz cl V prt pct ord blw n l cnt c j slo → wX_gradient_119 post (nI l) (blw n ||| ((1 : Int32) <<< (nI n &&& 31))) f (tr_pv nd j) xnc xfr xol xnw xtp xsc nod ofs rnk dmx stx its knd rfs siz oldr newr stt blw arn slo mvd sls := by
  have n32 := (S.2.1 n hn).1
  have hl0 : kd l ≠ 0 := by omega
  have l32 := (S.2.1 l hl0).1
  have hsl := S.2.2.2.2.1 l hl0
  intro f
  induction f with
  | zero => intro j slo _ h; omega
  | succ f ih =>
    intro j slo h1 h2 h3
    unfold wX_gradient_119
    by_cases c0 : j = 0
    · subst c0
      rw [tr_pv_0]
      refine br_t tz_m1lt ⟨vp_in_nI l32 (by omega), ?_⟩
      rw [nI_clamp (by omega)]
      refine nm_r hsl.1 (H slo (fun i E hi hE => ?_))
      rw [← h3.1 i E hi hE]
      have sl := S.2.1 l hl0
      have lN := tz_psl (sz := sz) (nd := nd) sl.2.1
      rw [sl.2.2] at lN
      have e : ∀ p, slo p * tr_Eq ord E (tz_ps sz nd (ag l) + i) (tz_ps sz nd 0) p = slo p * (if p = tz_ps sz nd (ag l) + i then 1 else 0) := fun p => by
        unfold tr_Eq
        rw [if_neg (show ¬ p < tz_ps sz nd 0 from Nat.not_lt_zero _)]
      rw [tz_smc _ (fun p _ => e p), tz_sdelta (by omega)]
    · obtain ⟨i, rfl⟩ : ∃ i, j = i + 1 := ⟨j - 1, by omega⟩
      have si := S.2.2.1 i (by omega)
      have i32 := (S.2.1 _ si.1).1
      have lk := (S.2.2.2.2.2 i (by omega)).2.1
      have hk := (S.2.2.2.1 _ i32)
      have ewn : bt (blw n ||| ((1 : Int32) <<< (nI n &&& 31))) (nd i) = true ↔ (nd i = n ∨ bt (blw n) (nd i) = true) := by
        rw [tz_set n32 i32, Bool.or_eq_true_iff, decide_eq_true_iff]
        exact Or.comm
      rw [tr_pv_s c0, Nat.add_sub_cancel]
      refine br_f (nI_pos (by omega)) (br_c (fun t1 => ?_) (fun t0 => ?_))
      · rw [tz_tst1 i32, ewn] at t1
        refine ⟨vp_in_nI i32 (by omega), ?_⟩
        rw [nI_clamp (by omega), hk.1]
        refine br_c (fun k1 => ⟨vp_in_nI i32 (by omega), nm_r lk ?_⟩) (fun k1 => ?_)
        · have k1' := (nI_eq (b := 1) (by omega) (by decide)).mp k1
          exact ih i slo (by omega) (by omega) (tr_Gr_s S C Ns hn hl (by omega) h3 (Or.inl ⟨Or.inr k1', rfl⟩))
        · have k2 : 2 ≤ kd (nd i) := by
            rcases (Ns _ si.1).k2 with y | y
            · exact absurd (by rw [y]; rfl) k1
            · exact y
          refine tx_spread (V := V) S C Ns k2 ?_ ?_
          · intro m hm hb a ha
            have m32 := (S.2.1 m hm).1
            refine fv m m32 ?_ hm a ha
            rcases t1 with y | y
            · rw [y] at hb; exact Or.inr hb
            · exact Or.inr ((tr_blw S Ns (ag n + 1) n (nd i) (by omega) hn i32 y).2.2 m m32 hb)
          · intro slo1 q1
            dsimp only
            refine ⟨vp_in_nI i32 (by omega), nm_r lk ?_⟩
            exact ih i slo1 (by omega) (by omega) (tr_Gr_s S C Ns hn hl (by omega) h3 (Or.inr ⟨t1, k2, q1⟩))
      · rw [tz_tst1 i32, ewn] at t0
        refine ⟨vp_in_nI i32 (by omega), ?_⟩
        rw [nI_clamp (by omega)]
        refine nm_r lk ?_
        exact ih i slo (by omega) (by omega) (tr_Gr_s S C Ns hn hl (by omega) h3 (Or.inl ⟨Or.inl t0, rfl⟩))
theorem tx_gr178 {post : Int32 → SX → Prop} {l cnt T : Nat} (hl : l < 32) (hc : cnt ≤ 64) (ht : stt l = nI T) (hT : T + cnt ≤ 320) (hx : xsc = nI cnt)
    (H : ∀ sls1, (∀ i, i < cnt → sls1 i = slo (T + i)) → post 1 (xnc, xfr, xol, xnw, xtp, xsc, nod, ofs, rnk, dmx, stx, its, knd, rfs, siz, oldr, newr, stt, blw, arn, slo, mvd, sls1)) : ∀ f i sls, i ≤ cnt → cnt - i < f → (∀ j, j < i → sls j = slo (T + j)) → wX_gradient_178 post (nI l) xnc xfr xol xnw xtp xsc f (nI i) nod ofs rnk dmx stx its knd rfs siz oldr newr stt blw arn slo mvd sls := by
  intro f
  induction f with
  | zero => intro i sls _ h; omega
  | succ f ih =>
    intro i sls h1 h2 h3
    unfold wX_gradient_178
    by_cases c : i < cnt
    · refine br_f (by rw [hx]; exact nI_ge c (by omega)) ⟨vp_in_nI hl (by omega), ?_⟩
      rw [nI_clamp (by omega), nI_clamp (by omega), ht, nI_add, nI_clamp (by omega), nI_1]
      refine ⟨vp_in_nI (by omega) (by omega), vp_in_nI (by omega) (by omega), nm_e (nm_e (ih (i + 1) _ (by omega) (by omega) (fun j hj => ?_)))⟩
      by_cases z : j = i
      · subst z; rw [pk_us]
      · rw [pk_un z]; exact h3 j (by omega)
    · have ce : i = cnt := by omega
      subst ce
      exact br_t (by rw [hx]; exact Int32.le_refl _) (H sls h3)
theorem tx_gr83 {post : Int32 → SX → Prop} {h n r cnt : Nat} {D : Nat → Nat} {x4 : Int32} (S : tr_Sk N nd ag kd sz xnc xol xnw xtp knd siz oldr newr stt) (C : tr_Ce N nd kd sz cl ycs own ord exs ykd) (hh : h < 24) (hnod : nod h = nI n) (kn : kd n ≠ 0) (dx : tx_Dx rnk dmx h r D) (hcnt : cnt ≤ 64) (hcell : ∀ e, e < cnt → ∃ a, a < sz n ∧ tx_Rd ofs stx h r D e a ∧ shn (64 * h + e) = nI (cl n a))
    (H : ∀ slo1, (∀ G E : Nat → Int32, (∀ a, a < sz n → G (tz_ps sz nd (ag n) + a) = E (cl n a)) → tz_sm (fun p => slo1 p * G p) (tz_ps sz nd N) = tz_sm (fun e => E (shn (64 * h + e)).toNatClampNeg) cnt) → (∀ p, (p < tz_ps sz nd (ag n) ∨ tz_ps sz nd (ag n) + sz n ≤ p) → p < tz_ps sz nd N → slo1 p = 0) → ∃ n119, wX_gradient_119 post x4 (blw n ||| ((1 : Int32) <<< (nI n &&& 31))) n119 (nI n) xnc xfr xol xnw xtp xsc nod ofs rnk dmx stx its knd rfs siz oldr newr stt blw arn slo1 mvd sls) :
    ∀ f e slo, e ≤ cnt → cnt - e < f → (∀ G E : Nat → Int32, (∀ a, a < sz n → G (tz_ps sz nd (ag n) + a) = E (cl n a)) → tz_sm (fun p => slo p * G p) (tz_ps sz nd N) = tz_sm (fun e => E (shn (64 * h + e)).toNatClampNeg) e) → (∀ p, (p < tz_ps sz nd (ag n) ∨ tz_ps sz nd (ag n) + sz n ≤ p) → p < tz_ps sz nd N → slo p = 0) → wX_gradient_83 post (nI h) (nI n) x4 (nI cnt) f (nI e) xnc xfr xol xnw xtp xsc nod ofs rnk dmx stx its knd rfs siz oldr newr stt blw arn slo mvd sls := by
  have n32 := (S.2.1 n kn).1
  have st := tr_stt S kn
  intro f
  induction f with
  | zero => intro e slo _ h; omega
  | succ f ih =>
    intro e slo h1 h2 h3 h4
    unfold wX_gradient_83
    by_cases c : e < cnt
    · refine br_f (nI_ge c (by omega)) ?_
      obtain ⟨a, a1, a2, a3⟩ := hcell e c
      refine tx_adr (c := shn (64 * h + e)) S (by omega) hnod kn dx (by omega) ⟨a, a1, a2, a3⟩ ?_
      intro b b1 b2
      refine nm_r (nI_1 e) (ih (e + 1) _ (by omega) (by omega) (fun G E hG => ?_) (fun p hp hp2 => ?_))
      · rw [tz_sadd (by omega), h3 G E hG, tz_sms, hG b b1, b2, nI_clamp (by have := (C.2.1 n b kn b1).1; omega), Int32.one_mul]
      · rw [pk_un (by omega)]; exact h4 p hp hp2
    · have ce : e = cnt := by omega
      subst ce
      refine br_t (Int32.le_refl _) ⟨vp_in_nI n32 (by omega), ?_⟩
      rw [nI_clamp (by omega)]
      exact nm_e (H slo h3 h4)
theorem tx_gr57 {post : Int32 → SX → Prop} {x1 x3 x4 x5 : Int32} {T : Nat} (hT : T ≤ 320) (hx : xtp = nI T) (H : ∀ slo1, (∀ p, p < T → slo1 p = 0) → ∃ n83, wX_gradient_83 post x1 x3 x4 x5 n83 0 xnc xfr xol xnw xtp xsc nod ofs rnk dmx stx its knd rfs siz oldr newr stt blw arn slo1 mvd sls) :
    ∀ f i slo, i ≤ T → T - i < f → (∀ j, j < i → slo j = 0) → wX_gradient_57 post x1 x3 x4 x5 xnc xfr xol xnw xtp xsc f (nI i) nod ofs rnk dmx stx its knd rfs siz oldr newr stt blw arn slo mvd sls := by
  intro f
  induction f with
  | zero => intro i slo _ h; omega
  | succ f ih =>
    intro i slo h1 h2 h3
    unfold wX_gradient_57
    by_cases c : i < T
    · refine br_f (by rw [hx]; exact nI_ge c (by omega)) ⟨vp_in_nI (by omega) (by omega), ?_⟩
      rw [nI_clamp (by omega), nI_1]
      refine nm_e (nm_e (ih (i + 1) _ (by omega) (by omega) (fun j hj => ?_)))
      by_cases z : j = i
      · subst z; rw [pk_us]
      · rw [pk_un z]; exact h3 j (by omega)
    · have ce : i = T := by omega
      subst ce
      exact br_t (by rw [hx]; exact Int32.le_refl _) (H slo h3)
end GR
end
section
section GY
variable {xnc xfr xol xnw xtp xsc : Int32} {nod ofs rnk dmx stx its knd rfs siz oldr newr stt blw arn slo mvd sls : Nat → Int32}
variable {ycs ysc : Int32} {usd yrk yds shn tof vw exs ykd fst snd own prt pct val ysl ord ysls : Nat → Int32}
variable {N : Nat} {nd ag kd sz : Nat → Nat} {cl : Nat → Nat → Nat} {V : Nat → Int32}
theorem ty_gr72 {post : Int32 → SY → Prop} {J : Int32 → Int32 → Int32 → (Nat → Int32) → (Nat → Int32) → (Nat → Int32) → (Nat → Int32) → (Nat → Int32) → (Nat → Int32) → (Nat → Int32) → (Nat → Int32) → (Nat → Int32) → (Nat → Int32) → (Nat → Int32) → (Nat → Int32) → (Nat → Int32) → (Nat → Int32) → (Nat → Int32) → (Nat → Int32) → (Nat → Int32) → Prop} {h cnt i : Nat} {x2 : Int32} {c : Nat → Nat} {ysls0 : Nat → Int32} (hh : h < 24) (hi : i < 64) (hc : cnt ≤ 64) (hs : ∀ e, e < cnt → shn (64 * h + e) = nI (c e) ∧ c e < 320)
    (H : ∀ ysls1, ysls1 i = tz_sm (fun e => ysl (c e)) cnt → (∀ j, j ≠ i → ysls1 j = ysls0 j) → J (nI (i + 1)) ycs ysc usd yrk yds shn tof vw exs ykd fst snd own prt pct val ysl ord ysls1) :
    ∀ f e ysls, e ≤ cnt → cnt - e < f → ysls i = tz_sm (fun e => ysl (c e)) e → (∀ j, j ≠ i → ysls j = ysls0 j) → wY_gradient_72 post J (nI h) x2 (nI cnt) (nI i) ycs ysc f (nI e) usd yrk yds shn tof vw exs ykd fst snd own prt pct val ysl ord ysls := by
  intro f
  induction f with
  | zero => intro e ysls _ h; omega
  | succ f ih =>
    intro e ysls h1 h2 h3 h4
    unfold wY_gradient_72
    by_cases d : e < cnt
    · obtain ⟨s1, s2⟩ := hs e d
      refine br_f (nI_ge d (by omega)) ?_
      rw [tz_64n, nI_add, nI_clamp (by omega), nI_clamp (by omega), s1, nI_clamp (by omega), nI_1]
      refine ⟨vp_in_nI (by omega) (by omega), vp_in_nI (by omega) (by omega), vp_in_nI (by omega) (by omega), vp_in_nI (by omega) (by omega), nm_e (nm_e (ih (e + 1) _ (by omega) (by omega) ?_ (fun j hj => ?_)))⟩
      · rw [pk_us, h3, tz_sms]
      · rw [pk_un hj]; exact h4 j hj
    · have ce : e = cnt := by omega
      subst ce
      exact br_t (Int32.le_refl _) (nm_r (nI_1 i) (H ysls h3 h4))
theorem ty_gr36 {post : Int32 → SY → Prop} {h g l cnt : Nat} {c : Nat → Nat} (S : tr_Sk N nd ag kd sz xnc xol xnw xtp knd siz oldr newr stt) (C : tr_Ce N nd kd sz cl ycs own ord exs ykd) (Ns : tr_Ns ag kd sz cl nod ofs rnk dmx stx blw fst snd prt pct) (hh : h < 24) (hg : g < 24) (hl : kd l = 1) (hc : cnt ≤ 64) (hs : ∀ e, e < cnt → shn (64 * h + e) = nI (c e) ∧ c e < 320) (hsl : ∀ i, i < sz l → shn (64 * g + i) = nI (cl l i)) (hy : ysc = nI (sz l))
    (h2 : ∀ n e, 2 ≤ kd n → e < sz n → V (cl n e) = tr_vF (kd n) (pct (cl n e)).toNatClampNeg (tr_q prt (cl n e)) V)
    (P : ∀ i E, i < sz l → tr_Dv kd sz cl V prt pct l i E → sls i = tz_sm (fun e => E (c e)) cnt)
    (H : ∀ val1 ysl1 ysls1, (∀ n e, kd n = 1 → e < sz n → V (cl n e) = val1 (cl n e)) → (∀ i, i < sz l → ysls1 i = sls i) → post 1 (ycs, ysc, usd, yrk, yds, shn, tof, vw, exs, ykd, fst, snd, own, prt, pct, val1, ysl1, ord, ysls1)) :
    ∀ f i val ysl ysls, i ≤ sz l → sz l - i < f → (∀ n e, kd n = 1 → e < sz n → V (cl n e) = val (cl n e)) → (∀ j, j < i → ysls j = sls j) → wY_gradient_36 post (nI h) (nI g) (nI cnt) f (nI i) ycs ysc usd yrk yds shn tof vw exs ykd fst snd own prt pct val ysl ord ysls := by
  have hl64 := (S.2.2.2.2.1 l (by omega)).2.2
  intro f
  induction f with
  | zero => intro i val ysl ysls _ h; omega
  | succ f ih =>
    intro i val ysl ysls h1 h2' h3 h4
    unfold wY_gradient_36
    by_cases d : i < sz l
    · have cb := (C.2.1 l i (by omega) d).1
      refine br_f (by rw [hy]; exact nI_ge d (by omega)) ?_
      rw [tz_64n, nI_add, show shn (nI (64 * g + i)).toNatClampNeg = nI (cl l i) from by rw [nI_clamp (by omega)]; exact hsl i d]
      refine ⟨vp_in_nI (by omega) (by omega), ?_⟩
      refine ty_wo (V := V) S C Ns h3 h2 ?_
      intro val1 ysl1 w1 w2 w3
      dsimp only
      rw [nI_clamp (by omega)]
      refine ⟨vp_in_nI (by omega) (by omega), nm_e ⟨cnt + 1, ?_⟩⟩
      refine ty_gr72 (c := c) (ysls0 := ysls) hh (by omega) hc hs ?_ _ 0 _ (by omega) (by omega) pk_us (fun j hj => pk_un hj)
      intro ysls1 y1 y2
      refine ih (i + 1) val1 ysl1 ysls1 (by omega) (by omega) (fun n e k1 he => (w1 n e (by omega) he).symm) (fun j hj => ?_)
      by_cases z : j = i
      · subst z
        rw [y1, P j ysl1 d ⟨w2, w3⟩]
      · rw [y2 j z]; exact h4 j (by omega)
    · have ce : i = sz l := by omega
      subst ce
      exact br_t (by rw [hy]; exact Int32.le_refl _) (H val ysl ysls h3 h4)
end GY
theorem i_vc_gradient {k : Nat} {u : SX} {v : SY} (I : i_Rel k u v) (hk : k + 5 ≤ 2560) (v1 : Int32) (v2 : Int32) : wpX_gradient (fun r u' => wpY_gradient (fun r' v' => r' = r ∧ i_Rel (k + 5) u' v') v v1 v2) u v1 v2 := by
  have J := I
  obtain ⟨xnc, xfr, xol, xnw, xtp, xsc, nod, ofs, rnk, dmx, stx, its, knd, rfs, siz, oldr, newr, stt, blw, arn, slo, mvd, sls⟩ := u
  obtain ⟨ycs, ysc, usd, yrk, yds, shn, tof, vw, exs, ykd, fst, snd, own, prt, pct, val, ysl, ord, ysls⟩ := v
  obtain ⟨N, nd, ag, kd, sz, cl, V, S, C, H, Ns, R, Va, L⟩ := I
  rcases tr_hd (xnc := xnc) (xfr := xfr) (xol := xol) (xnw := xnw) (xtp := xtp) (xsc := xsc) (nod := nod) (ofs := ofs) (rnk := rnk) (dmx := dmx) (stx := stx) (its := its) (knd := knd) (rfs := rfs) (siz := siz) (oldr := oldr) (newr := newr) (stt := stt) (blw := blw) (arn := arn) (slo := slo) (mvd := mvd) (sls := sls) (ycs := ycs) (ysc := ysc) (usd := usd) (yrk := yrk) (yds := yds) (shn := shn) (tof := tof) (vw := vw) (exs := exs) (ykd := ykd) (fst := fst) (snd := snd) (own := own) (prt := prt) (pct := pct) (val := val) (ysl := ysl) (ord := ord) (ysls := ysls) H v1 with ⟨hx, hy⟩ | ⟨h, n, r, D, hh, rfl, q⟩
  · unfold wpX_gradient
    refine hx _ (br_t rfl ?_)
    unfold wpY_gradient
    exact hy _ (br_t rfl ⟨rfl, J⟩)
  obtain ⟨isx, isy⟩ := tr_Ha.is (xnc := xnc) (xfr := xfr) (xol := xol) (xnw := xnw) (xtp := xtp) (xsc := xsc) (nod := nod) (ofs := ofs) (rnk := rnk) (dmx := dmx) (stx := stx) (its := its) (knd := knd) (rfs := rfs) (siz := siz) (oldr := oldr) (newr := newr) (stt := stt) (blw := blw) (arn := arn) (slo := slo) (mvd := mvd) (sls := sls) (ycs := ycs) (ysc := ysc) (usd := usd) (yrk := yrk) (yds := yds) (shn := shn) (tof := tof) (vw := vw) (exs := exs) (ykd := ykd) (fst := fst) (snd := snd) (own := own) (prt := prt) (pct := pct) (val := val) (ysl := ysl) (ord := ord) (ysls := ysls) S q hh
  rcases tr_hd (xnc := xnc) (xfr := xfr) (xol := xol) (xnw := xnw) (xtp := xtp) (xsc := xsc) (nod := nod) (ofs := ofs) (rnk := rnk) (dmx := dmx) (stx := stx) (its := its) (knd := knd) (rfs := rfs) (siz := siz) (oldr := oldr) (newr := newr) (stt := stt) (blw := blw) (arn := arn) (slo := slo) (mvd := mvd) (sls := sls) (ycs := ycs) (ysc := ysc) (usd := usd) (yrk := yrk) (yds := yds) (shn := shn) (tof := tof) (vw := vw) (exs := exs) (ykd := ykd) (fst := fst) (snd := snd) (own := own) (prt := prt) (pct := pct) (val := val) (ysl := ysl) (ord := ord) (ysls := ysls) H v2 with ⟨hx, hy⟩ | ⟨g, l, rg, Dg, hg, rfl, p⟩
  · unfold wpX_gradient
    refine isx _ (br_f (by decide) (hx _ (br_t rfl ?_)))
    unfold wpY_gradient wpY_isLeaf
    exact isy _ (br_f (by decide) (hy _ (br_t rfl (br_t rfl ⟨rfl, J⟩))))
  obtain ⟨gsx, gsy⟩ := tr_Ha.is (xnc := xnc) (xfr := xfr) (xol := xol) (xnw := xnw) (xtp := xtp) (xsc := xsc) (nod := nod) (ofs := ofs) (rnk := rnk) (dmx := dmx) (stx := stx) (its := its) (knd := knd) (rfs := rfs) (siz := siz) (oldr := oldr) (newr := newr) (stt := stt) (blw := blw) (arn := arn) (slo := slo) (mvd := mvd) (sls := sls) (ycs := ycs) (ysc := ysc) (usd := usd) (yrk := yrk) (yds := yds) (shn := shn) (tof := tof) (vw := vw) (exs := exs) (ykd := ykd) (fst := fst) (snd := snd) (own := own) (prt := prt) (pct := pct) (val := val) (ysl := ysl) (ord := ord) (ysls := ysls) S p hg
  have w24 : vp_in (nI g) 24 := vp_in_nI hg (by omega)
  rcases tr_Ha.leaf (ycs := ycs) (ysc := ysc) (usd := usd) (yrk := yrk) (yds := yds) (shn := shn) (tof := tof) (vw := vw) (exs := exs) (ykd := ykd) (fst := fst) (snd := snd) (own := own) (prt := prt) (pct := pct) (val := val) (ysl := ysl) (ord := ord) (ysls := ysls) S C p hg with ⟨i0, l0⟩ | ⟨i1, k1, eS, eR, l1⟩
  · unfold wpX_gradient
    refine isx _ (br_f (by decide) (gsx _ (br_f (by decide) ⟨w24, br_t (by rw [nI_clamp (by omega)]; exact i0) ?_⟩)))
    unfold wpY_gradient
    exact isy _ (br_f (by decide) (l0 _ (br_t rfl ⟨rfl, J⟩)))
  have ni : ¬ its (nI g).toNatClampNeg = 0 := by rw [nI_clamp (by omega), i1]; decide
  have hn := (S.2.1 n q.1.2).1
  have hl := (S.2.1 l p.1.2).1
  have el := q.2.1.el
  have hps := S.1.2.2.2.1
  have hsl := S.2.2.2.2.1 l p.1.2
  have st := tr_stt S p.1.2
  have stn := tr_stt S q.1.2
  have cellh := q.2.2.2.2.1
  unfold wpX_gradient
  refine isx _ (br_f (by decide) (gsx _ (br_f (by decide) ⟨w24, br_f ni ⟨vp_in_nI (by omega) (by omega), nm_r (e' := nI n) (by rw [nI_clamp (by omega)]; exact q.1.1) ⟨vp_in_nI (by omega) (by omega), nm_r (e' := nI l) (by rw [nI_clamp (by omega)]; exact p.1.1) ?_⟩⟩⟩)))
  refine tx_el (by omega) q.2.1 ?_
  refine tx_renew S C Ns Va q.1.2 ?_
  intro xfr1 arn1 Va1 f1 f2
  dsimp only
  refine ⟨tz_ps sz nd N + 1, tx_gr57 hps S.1.2.2.1 ?_ _ 0 slo (by omega) (by omega) (fun j hj => by omega)⟩
  intro slo0 z0
  refine ⟨tz_el D r + 1, tx_gr83 (n := n) (cnt := tz_el D r) (shn := shn) S C hh q.1.1 q.1.2 q.2.1 el.2 cellh ?_ _ 0 slo0 (by omega) (by omega) ?_ (fun p _ hp => z0 p hp)⟩
  rotate_left
  · intro G E _
    exact tz_smz _ (fun p hp => by rw [z0 p hp, Int32.zero_mul])
  intro slo1 g1 g2
  have an := (S.2.1 n q.1.2).2
  have epv : nI n = tr_pv nd (ag n + 1) := by rw [tr_pv_s (by omega), Nat.add_sub_cancel, an.2]
  refine ⟨ag n + 2, ?_⟩
  suffices K : wX_gradient_119 (fun r u' => wpY_gradient (fun r' v' => r' = r ∧ i_Rel (k + 5) u' v') (ycs, ysc, usd, yrk, yds, shn, tof, vw, exs, ykd, fst, snd, own, prt, pct, val, ysl, ord, ysls) (nI h) (nI g)) (nI l) (blw n ||| ((1 : Int32) <<< (nI n &&& 31))) (ag n + 2) (tr_pv nd (ag n + 1)) xnc xfr1 xol xnw xtp xsc nod ofs rnk dmx stx its knd rfs siz oldr newr stt blw arn1 slo1 mvd sls by
    rw [← epv] at K
    exact K
  refine tx_gr119 (n := n) (l := l) (cnt := tz_el D r) (c := fun e => (shn (64 * h + e)).toNatClampNeg) (V := V) S C Ns q.1.2 k1 (fun m m32 hW hm a ha => Va1.2.2.1 m a hm ha (f2 m m32 hW)) ?_ (ag n + 2) (ag n + 1) slo1 (by omega) (by omega) ?_
  · intro slo2 P2
    refine ⟨sz l + 1, tx_gr178 (T := tz_ps sz nd (ag l)) hl hsl.2.2 st.1 (by omega) rfl ?_ _ 0 sls (by omega) (by omega) (fun j hj => by omega)⟩
    intro sls1 s1
    -- the reference's side
    unfold wpY_gradient
    refine isy _ (br_f (by decide) (l1 _ (br_f (by decide) ?_)))
    refine ty_sz (by omega) p.2.2.2.1.2.2 ?_
    refine ty_sz (by omega) q.2.2.2.1.2.2 ?_
    rw [eS]
    have chs : ∀ e, e < tz_el D r → shn (64 * h + e) = nI (shn (64 * h + e)).toNatClampNeg ∧ (shn (64 * h + e)).toNatClampNeg < 320 := fun e he => by
      obtain ⟨a, a1, a2, a3⟩ := cellh e he
      have cb := (C.2.1 n a q.1.2 a1).1
      rw [a3, nI_clamp (by omega)]
      exact ⟨rfl, cb⟩
    have cgs : ∀ i, i < sz l → shn (64 * g + i) = nI (cl l i) := fun e he => by
      obtain ⟨a, a1, a2, a3⟩ := p.2.2.2.2.1 e (by omega)
      have := eR e he
      unfold tx_Rd at a2 this
      rw [this] at a2
      have e2 := (nI_eq (by omega) (by omega)).mp a2
      subst e2
      exact a3
    refine ⟨sz l + 1, ty_gr36 (V := V) (l := l) (c := fun e => (shn (64 * h + e)).toNatClampNeg) (sls := sls1) S C Ns hh hg k1 el.2 chs cgs rfl Va1.2.2.2 (fun i E hi hE => by rw [s1 i hi]; exact P2 i E hi hE) ?_ _ 0 val ysl ysls (by omega) (by omega) Va1.1 (fun j hj => by omega)⟩
    intro val1 ysl1 ysls1 w1 w2
    exact ⟨rfl, N, nd, ag, kd, sz, cl, V, S, C, H, Ns, R, ⟨w1, Va1.2⟩, ⟨sz l, hsl.2.2, rfl, rfl, w2⟩⟩
  · -- where the pass back begins
    have pn : tz_ps sz nd (ag n + 1) = tz_ps sz nd (ag n) + sz n := by rw [tz_pss, an.2]
    refine ⟨fun i E hi hE => ?_, fun m hm hnm a ha => ?_⟩
    · refine g1 _ E (fun a ha => ?_)
      unfold tr_Eq
      rw [if_pos (by omega), tr_ord S C q.1.2 ha]
    · have mn : m ≠ n := fun z => hnm (Or.inl z)
      have s := S.2.1 m hm
      have lm := tz_psl (sz := sz) (nd := nd) s.2.1
      rw [s.2.2] at lm
      refine g2 _ ?_ (by omega)
      rcases (by omega : ag m < ag n ∨ ag m = ag n ∨ ag n < ag m) with y | y | y
      · have := tz_psl (sz := sz) (nd := nd) y
        rw [s.2.2] at this
        exact Or.inl (by omega)
      · exact absurd (by rw [← s.2.2, ← an.2, y]) mn
      · have := tz_psl (sz := sz) (nd := nd) y
        rw [an.2] at this
        exact Or.inr (by omega)
end
section
/-! the component releases a node -/
section RL
variable {xnc xfr xol xnw xtp xsc : Int32} {nod ofs rnk dmx stx its knd rfs siz oldr newr stt blw arn slo mvd sls : Nat → Int32}
variable {ycs ysc : Int32} {usd yrk yds shn tof vw exs ykd fst snd own prt pct val ysl ord ysls : Nat → Int32}
variable {N : Nat} {nd ag kd sz : Nat → Nat} {cl : Nat → Nat → Nat} {V : Nat → Int32}
theorem tz_nsub {a b : Nat} (h : b ≤ a) : nI a - nI b = nI (a - b) := pk_sub h
theorem tr_b8nx {i : Nat} (S : tr_Sk N nd ag kd sz xnc xol xnw xtp knd siz oldr newr stt) : vp_nar .byte (tr_nx N nd i) = tr_nx N nd i := by
  by_cases c : i < N
  · rw [tr_nx_lt c]
    exact tz_nb (by have := (S.2.1 _ (S.2.2.1 i c).1).1; omega)
  · rw [tr_nx_ge c]; exact tz_nbm
theorem tr_b8pv {i : Nat} (S : tr_Sk N nd ag kd sz xnc xol xnw xtp knd siz oldr newr stt) (hi : i ≤ N) : vp_nar .byte (tr_pv nd i) = tr_pv nd i := by
  by_cases c : i = 0
  · rw [c, tr_pv_0]; exact tz_nbm
  · rw [tr_pv_s c]
    exact tz_nb (by have := (S.2.1 _ (S.2.2.1 (i - 1) (by omega)).1).1; omega)
/-- the links around the node that goes -/
def tr_Lk (N : Nat) (nd : Nat → Nat) (i n : Nat) (xol xnw xol1 xnw1 : Int32) (oldr newr oldr1 newr1 : Nat → Int32) : Prop :=
  (i = 0 → newr1 = newr ∧ xol1 = newr n) ∧ (i ≠ 0 → newr1 = upd newr (nd (i - 1)) (newr n) ∧ xol1 = xol) ∧ (i + 1 = N → oldr1 = oldr ∧ xnw1 = oldr n) ∧ (i + 1 ≠ N → oldr1 = upd oldr (nd (i + 1)) (oldr n) ∧ xnw1 = xnw)
theorem tx_rl237 {post : SX → Prop} {n : Nat} (hn : n < 32) (hN : xnc = nI N) (hN0 : 0 < N) (H : post (nI (N - 1), xfr, xol, xnw, xtp, xsc, nod, ofs, rnk, dmx, stx, its, upd knd n 0, rfs, siz, oldr, newr, stt, blw, arn, slo, mvd, sls)) : wX_release_237 post (nI n) xnc xfr xol xnw xtp xsc nod ofs rnk dmx stx its knd rfs siz oldr newr stt blw arn slo mvd sls := by
  unfold wX_release_237
  refine ⟨vp_in_nI hn (by omega), ?_⟩
  rw [nI_clamp (by omega), tz_nb0, hN, tz_s1 hN0]
  exact nm_e (nm_e H)
theorem tx_rlx {post : SX → Prop} {i : Nat} {stt0 : Nat → Int32} {T cnt : Nat} (S : tr_Sk N nd ag kd sz xnc xol xnw (nI T) knd siz oldr newr stt0) (hi : i < N) (hx : xtp = nI T) (hc : cnt ≤ T)
    (H : ∀ newr1 oldr1 xol1 xnw1, tr_Lk N nd i (nd i) xol xnw xol1 xnw1 oldr newr oldr1 newr1 → post (nI (N - 1), xfr, xol1, xnw1, nI (T - cnt), xsc, nod, ofs, rnk, dmx, stx, its, upd knd (nd i) 0, rfs, siz, oldr1, newr1, stt, blw, arn, slo, mvd, sls)) :
    ∀ m, wX_release_120 post (nI (nd i)) (nI cnt) xnc xfr xol xnw xtp xsc (m + 1) (-1) nod ofs rnk dmx stx its knd rfs siz oldr newr stt blw arn slo mvd sls := by
  have si := S.2.2.1 i hi
  have n32 := (S.2.1 _ si.1).1
  obtain ⟨lk1, lk2, _⟩ := S.2.2.2.2.2 i hi
  have wn : vp_in (nI (nd i)) 32 := vp_in_nI n32 (by omega)
  have b1 := tr_b8nx (i := i + 1) S
  have b2 := tr_b8pv (i := i) S (by omega)
  have hN := S.1.2.1
  intro m
  have K198 : ∀ newr1 xol1, newr1 (nd i) = newr (nd i) → (i = 0 → newr1 = newr ∧ xol1 = newr (nd i)) → (i ≠ 0 → newr1 = upd newr (nd (i - 1)) (newr (nd i)) ∧ xol1 = xol) → wX_release_198 post (nI (nd i)) xnc xfr xol1 xnw (nI (T - cnt)) xsc nod ofs rnk dmx stx its knd rfs siz oldr newr1 stt blw arn slo mvd sls := by
    intro newr1 xol1 e1 h1 h2
    unfold wX_release_198
    refine ⟨wn, ?_⟩
    rw [nI_clamp (by omega), e1, lk1, lk2]
    by_cases c : i + 1 < N
    · have s2 := S.2.2.1 (i + 1) c
      have m32 := (S.2.1 _ s2.1).1
      rw [tr_nx_lt c]
      refine br_t (nI_pos' (by omega)) ⟨wn, wn, vp_in_nI m32 (by omega), ?_⟩
      rw [nI_clamp (by omega), b2]
      refine nm_e (tx_rl237 n32 hN (by omega) (H newr1 _ xol1 xnw ⟨h1, h2, fun z => by omega, fun _ => ⟨by rw [lk2], rfl⟩⟩))
    · rw [tr_nx_ge c]
      refine br_f (by decide) ⟨wn, nm_e (tx_rl237 n32 hN (by omega) (H newr1 oldr xol1 _ ⟨h1, h2, fun _ => ⟨rfl, by rw [lk2]⟩, fun z => by omega⟩))⟩
  unfold wX_release_120
  refine br_t tz_m1lt (nm_r (by rw [hx, pk_sub hc]) ⟨wn, ?_⟩)
  rw [nI_clamp (by omega), lk1, lk2]
  by_cases c : i = 0
  · have ez : tr_pv nd i = -1 := by rw [c, tr_pv_0]
    rw [ez]
    refine br_f (by decide) ⟨wn, nm_e (K198 newr _ rfl (fun _ => ⟨rfl, by rw [lk1]⟩) (fun z => absurd c z))⟩
  · have s2 := S.2.2.1 (i - 1) (by omega)
    have m32 := (S.2.1 _ s2.1).1
    rw [tr_pv_s c]
    refine br_t (nI_pos' (by omega)) ⟨wn, wn, vp_in_nI m32 (by omega), ?_⟩
    rw [nI_clamp (by omega), b1]
    refine nm_e (K198 _ xol ?_ (fun z => absurd z c) (fun _ => ⟨by rw [lk1], rfl⟩))
    refine pk_un (fun z => ?_)
    have := si.2
    rw [z, s2.2] at this
    omega
theorem tx_rl120 {post : SX → Prop} {i : Nat} {stt0 : Nat → Int32} (S : tr_Sk N nd ag kd sz xnc xol xnw xtp knd siz oldr newr stt0) (hi : i < N)
    (H : ∀ stt1, (∀ j, j < N → stt1 (nd j) = if j ≤ i then nI (tz_ps sz nd j) else nI (tz_ps sz nd j - sz (nd i))) → ∃ m, wX_release_120 post (nI (nd i)) (nI (sz (nd i))) xnc xfr xol xnw xtp xsc m (-1) nod ofs rnk dmx stx its knd rfs siz oldr newr stt1 blw arn slo mvd sls) :
    ∀ d j stt, i < j → j ≤ N → N - j = d → (∀ j', j' < N → stt (nd j') = if j' ≤ i ∨ j ≤ j' then nI (tz_ps sz nd j') else nI (tz_ps sz nd j' - sz (nd i))) → ∃ m, wX_release_120 post (nI (nd i)) (nI (sz (nd i))) xnc xfr xol xnw xtp xsc m (tr_nx N nd j) nod ofs rnk dmx stx its knd rfs siz oldr newr stt blw arn slo mvd sls := by
  have hps := S.1.2.2.2.1
  intro d
  induction d with
  | zero =>
    intro j stt h1 h2 h3 h4
    have je : j = N := by omega
    rw [tr_nx_ge (by omega)]
    refine H stt (fun j' hj' => ?_)
    rw [h4 j' hj']
    by_cases c : j' ≤ i
    · rw [if_pos (Or.inl c), if_pos c]
    · rw [if_neg (by omega), if_neg c]
  | succ d ih =>
    intro j stt h1 h2 h3 h4
    have jN : j < N := by omega
    have sj := S.2.2.1 j jN
    have n32 := (S.2.1 _ sj.1).1
    have lk := (S.2.2.2.2.2 j jN).1
    have l1 := tz_psl (sz := sz) (nd := nd) h1
    have l2 := tz_psl (sz := sz) (nd := nd) jN
    have sjz := h4 j jN
    rw [if_pos (Or.inr (Nat.le_refl _))] at sjz
    obtain ⟨m, K⟩ := ih (j + 1) (upd stt (nd j) (nI (tz_ps sz nd j - sz (nd i)))) (by omega) (by omega) (by omega) (fun j' hj' => by
      by_cases e : j' = j
      · subst e
        rw [pk_us, if_neg (by omega)]
      · have ne : nd j' ≠ nd j := fun z => by
          have a1 := (S.2.2.1 j' hj').2
          have a2 := sj.2
          rw [z, a2] at a1
          exact e a1.symm
        rw [pk_un ne, h4 j' hj']
        by_cases c : j' ≤ i ∨ j ≤ j'
        · rw [if_pos c, if_pos (by omega)]
        · rw [if_neg c, if_neg (by omega)])
    refine ⟨m + 1, ?_⟩
    unfold wX_release_120
    rw [tr_nx_lt jN]
    refine br_f (nI_pos (by omega)) ⟨vp_in_nI n32 (by omega), vp_in_nI n32 (by omega), ?_⟩
    rw [nI_clamp (by omega), sjz, pk_sub (by omega), tz_b16 (by omega), tz_ns (by omega), lk]
    exact nm_e ⟨vp_in_nI n32 (by omega), nm_e K⟩
theorem tx_rl81 {post : SX → Prop} {n A cnt T : Nat} {arn0 : Nat → Int32} (hn : n < 32) (hT : T ≤ 320) (hx : xtp = nI T) (hA : A + cnt ≤ T)
    (H : ∀ arn1, (∀ p, p < A → arn1 p = arn0 p) → (∀ p, A ≤ p → p + cnt < T → arn1 p = arn0 (p + cnt)) → ∃ m, wX_release_120 post (nI n) (nI cnt) xnc xfr xol xnw xtp xsc m (newr n) nod ofs rnk dmx stx its knd rfs siz oldr newr stt blw arn1 slo mvd sls) :
    ∀ f p arn, A + cnt ≤ p → p ≤ T → T - p < f → (∀ p', (p' < A ∨ p ≤ p' + cnt) → arn p' = arn0 p') → (∀ p', A ≤ p' → p' + cnt < p → arn p' = arn0 (p' + cnt)) → wX_release_81 post (nI n) (nI cnt) xnc xfr xol xnw xtp xsc f (nI p) nod ofs rnk dmx stx its knd rfs siz oldr newr stt blw arn slo mvd sls := by
  intro f
  induction f with
  | zero => intro p arn _ _ h; omega
  | succ f ih =>
    intro p arn h1 h2 h3 h4 h5
    unfold wX_release_81
    by_cases c : p < T
    · refine br_f (by rw [hx]; exact nI_ge c (by omega)) ?_
      rw [pk_sub (by omega), nI_clamp (by omega), nI_clamp (by omega), nI_1]
      refine ⟨vp_in_nI (by omega) (by omega), vp_in_nI (by omega) (by omega), nm_e (nm_e (ih (p + 1) _ (by omega) (by omega) (by omega) (fun p' hp' => ?_) (fun p' a1 a2 => ?_)))⟩
      · rw [pk_un (by omega)]; exact h4 p' (by omega)
      · by_cases z : p' = p - cnt
        · subst z
          rw [pk_us, show p - cnt + cnt = p from by omega]
          by_cases y : cnt = 0
          · rw [h4 p (by omega)]
          · rw [h4 p (by omega)]
        · rw [pk_un z]; exact h5 p' a1 (by omega)
    · have ce : p = T := by omega
      subst ce
      refine br_t (by rw [hx]; exact Int32.le_refl _) ⟨vp_in_nI hn (by omega), ?_⟩
      rw [nI_clamp (by omega)]
      exact nm_e (H arn (fun p' hp' => h4 p' (by omega)) h5)
/-- the references that a node that goes gave -/
def tr_Rl (kd : Nat → Nat) (nod : Nat → Int32) (n : Nat) (rfs rfs1 : Nat → Int32) : Prop :=
  ∀ m, kd m ≠ 0 → m ≠ n → rfs1 m = nI (tr_rc (tz_un kd n 0) nod m)
theorem tr_rl_rc {n m : Nat} (hn : n < 32) : tr_rc kd nod m = tr_rc (tz_un kd n 0) nod m + (if 2 ≤ kd n ∧ nod (24 + 3 * n + 1) = nI m then 1 else 0) + (if 2 ≤ kd n ∧ nod (24 + 3 * n + 2) = nI m then 1 else 0) := by
  have a0 : ∀ d, d < 120 → d ≠ 24 + 3 * n + 1 → d ≠ 24 + 3 * n + 2 → tr_ac (tz_un kd n 0) d = tr_ac kd d := by
    intro d hd h1 h2
    unfold tr_ac
    by_cases h24 : d < 24
    · rw [decide_eq_true h24, Bool.true_or, Bool.true_or]
    · by_cases h3 : d % 3 ≠ 0
      · rw [tz_un_n (by omega)]
      · rw [decide_eq_false h3, Bool.false_and, Bool.false_and]
  have ak : ∀ o, 1 ≤ o → o < 3 → tr_ac kd (24 + 3 * n + o) = decide (2 ≤ kd n) ∧ tr_ac (tz_un kd n 0) (24 + 3 * n + o) = false := by
    intro o h1 h2
    unfold tr_ac
    rw [decide_eq_false (by omega), Bool.false_or, decide_eq_true (by omega), Bool.true_and, show (24 + 3 * n + o - 24) / 3 = n from by omega, tz_un_s]
    exact ⟨rfl, rfl⟩
  let p : Nat → Bool := fun d => tr_ac (tz_un kd n 0) d && decide (nod d = nI m)
  let q : Nat → Bool := fun d => tr_ac kd d && decide (nod d = nI m)
  let f1 : Nat → Bool := fun d => if d = 24 + 3 * n + 1 then q d else p d
  have p1 : ∀ o, 1 ≤ o → o < 3 → p (24 + 3 * n + o) = false := by
    intro o h1 h2
    show (tr_ac _ _ && _) = false
    rw [(ak o h1 h2).2, Bool.false_and]
  have c1 : tz_cn f1 120 = tz_cn p 120 + (if q (24 + 3 * n + 1) = true then 1 else 0) := by
    have := tz_cn_one (p := p) (q := f1) (a := 24 + 3 * n + 1) 120 (by omega) (fun i _ hi => if_neg hi) (p1 1 (by omega) (by omega))
    rw [show f1 (24 + 3 * n + 1) = q (24 + 3 * n + 1) from if_pos rfl] at this
    exact this
  have c2 : tz_cn q 120 = tz_cn f1 120 + (if q (24 + 3 * n + 2) = true then 1 else 0) := by
    refine tz_cn_one (p := f1) (q := q) (a := 24 + 3 * n + 2) 120 (by omega) (fun i hi hi2 => ?_) ?_
    · by_cases e1 : i = 24 + 3 * n + 1
      · rw [show f1 i = q i from if_pos e1]
      · rw [show f1 i = p i from if_neg e1]
        show (tr_ac kd i && decide (nod i = nI m)) = (tr_ac (tz_un kd n 0) i && decide (nod i = nI m))
        rw [a0 i hi e1 hi2]
    · rw [show f1 (24 + 3 * n + 2) = p (24 + 3 * n + 2) from if_neg (by omega)]
      exact p1 2 (by omega) (by omega)
  have q1 : ∀ o, 1 ≤ o → o < 3 → (q (24 + 3 * n + o) = true ↔ (2 ≤ kd n ∧ nod (24 + 3 * n + o) = nI m)) := by
    intro o h1 h2
    show (tr_ac kd (24 + 3 * n + o) && decide (nod (24 + 3 * n + o) = nI m)) = true ↔ _
    rw [(ak o h1 h2).1, Bool.and_eq_true, decide_eq_true_iff, decide_eq_true_iff]
  show tz_cn q 120 = tz_cn p 120 + _ + _
  rw [c2, c1]
  simp only [q1 1 (by omega) (by omega), q1 2 (by omega) (by omega)]
theorem tx_release {post : SX → Prop} {i : Nat} (S : tr_Sk N nd ag kd sz xnc xol xnw xtp knd siz oldr newr stt) (hi : i < N) (h32 : ∀ m, kd m ≠ 0 → m < 32) (rf : ∀ m, kd m ≠ 0 → rfs m = nI (tr_rc kd nod m))
    (op : 2 ≤ kd (nd i) → ∃ m, nod (24 + 3 * nd i + 1) = nI m ∧ kd m ≠ 0 ∧ m ≠ nd i ∧ (nod (24 + 3 * nd i + 2) = -1 ∨ ∃ m2, nod (24 + 3 * nd i + 2) = nI m2 ∧ kd m2 ≠ 0 ∧ m2 ≠ nd i))
    (H : ∀ rfs1 arn1 stt1 newr1 oldr1 xol1 xnw1, tr_Rl kd nod (nd i) rfs rfs1 → (∀ p, p < tz_ps sz nd i → arn1 p = arn p) → (∀ p, tz_ps sz nd i ≤ p → p + sz (nd i) < tz_ps sz nd N → arn1 p = arn (p + sz (nd i))) → (∀ j, j < N → stt1 (nd j) = if j ≤ i then nI (tz_ps sz nd j) else nI (tz_ps sz nd j - sz (nd i))) → tr_Lk N nd i (nd i) xol xnw xol1 xnw1 oldr newr oldr1 newr1 → post (nI (N - 1), xfr, xol1, xnw1, nI (tz_ps sz nd N - sz (nd i)), xsc, nod, ofs, rnk, dmx, stx, its, upd knd (nd i) 0, rfs1, siz, oldr1, newr1, stt1, blw, arn1, slo, mvd, sls)) : wpX_release post (xnc, xfr, xol, xnw, xtp, xsc, nod, ofs, rnk, dmx, stx, its, knd, rfs, siz, oldr, newr, stt, blw, arn, slo, mvd, sls) (nI (nd i)) := by
  have si := S.2.2.1 i hi
  have n32 := (S.2.1 _ si.1).1
  have hsz := S.2.2.2.2.1 _ si.1
  have hk := S.2.2.2.1 _ n32
  obtain ⟨lk1, lk2, lk3⟩ := S.2.2.2.2.2 i hi
  have hps := S.1.2.2.2.1
  have lN := tz_psl (sz := sz) (nd := nd) hi
  have wn : vp_in (nI (nd i)) 32 := vp_in_nI n32 (by omega)
  have xt := S.1.2.2.1
  -- behind the references
  have K81 : ∀ rfs1, tr_Rl kd nod (nd i) rfs rfs1 → ∃ m, wX_release_81 post (nI (nd i)) (nI (sz (nd i))) xnc xfr xol xnw xtp xsc m (nI (tz_ps sz nd i + sz (nd i))) nod ofs rnk dmx stx its knd rfs1 siz oldr newr stt blw arn slo mvd sls := by
    intro rfs1 hr
    refine ⟨tz_ps sz nd N + 1, tx_rl81 (A := tz_ps sz nd i) (arn0 := arn) n32 hps xt lN ?_ _ _ arn (Nat.le_refl _) lN (by omega) (fun _ _ => rfl) (fun p' a1 a2 => by omega)⟩
    intro arn1 g1 g2
    rw [lk1]
    refine tx_rl120 (stt0 := stt) S hi ?_ (N - (i + 1)) (i + 1) stt (by omega) (by omega) rfl (fun j' hj' => ?_)
    · intro stt1 s1
      refine ⟨1, tx_rlx (T := tz_ps sz nd N) (stt0 := stt) (by rw [← xt]; exact S) hi xt (by omega) ?_ 0⟩
      intro newr1 oldr1 xol1 xnw1 L
      exact H rfs1 arn1 stt1 newr1 oldr1 xol1 xnw1 hr g1 g2 s1 L
    · rw [(S.2.2.2.2.2 j' hj').2.2, if_pos (by omega)]
  have e3 : (24 : Int32) + nI (nd i) * 3 = nI (24 + 3 * nd i) := by rw [tz_3n, tz_24a]
  have e4 : stt (nI (nd i)).toNatClampNeg + nI (sz (nd i)) = nI (tz_ps sz nd i + sz (nd i)) := by rw [nI_clamp (by omega), lk3, nI_add]
  have rcle := fun m => tr_rc_le (kd := kd) (nod := nod) m
  unfold wpX_release
  refine nm_r e3 ⟨wn, nm_r (e' := nI (sz (nd i))) (by rw [nI_clamp (by omega)]; exact hsz.1) ⟨wn, ?_⟩⟩
  rw [show knd (nI (nd i)).toNatClampNeg = nI (kd (nd i)) from by rw [nI_clamp (by omega)]; exact hk.1]
  refine br_c (fun k1 => ⟨wn, nm_r e4 (K81 rfs ?_)⟩) (fun k1 => ?_)
  · have k1' := (nI_eq (b := 1) (by omega) (by decide)).mp k1
    intro m hm hmn
    have := tr_rl_rc (kd := kd) (nod := nod) (n := nd i) (m := m) n32
    rw [if_neg (by omega), if_neg (by omega)] at this
    rw [rf m hm]
    exact congrArg nI (by omega)
  · have k2 : 2 ≤ kd (nd i) := by
      rcases (by omega : kd (nd i) = 0 ∨ kd (nd i) = 1 ∨ 2 ≤ kd (nd i)) with y | y | y
      · exact absurd y si.1
      · exact absurd (by rw [y]; rfl) k1
      · exact y
    obtain ⟨m, m1, m2, m3, m4⟩ := op k2
    have m32 := h32 m m2
    have rm := rf m m2
    have rcm := tr_rl_rc (kd := kd) (nod := nod) (n := nd i) (m := m) n32
    rw [if_pos ⟨k2, m1⟩] at rcm
    have lem := rcle m
    rw [tz_add1 (24 + 3 * nd i), tz_add2 (24 + 3 * nd i), show nod (nI (24 + 3 * nd i + 1)).toNatClampNeg = nI m from by rw [nI_clamp (by omega)]; exact m1]
    refine ⟨vp_in_nI (by omega) (by omega), vp_in_nI m32 (by omega), vp_in_nI m32 (by omega), ?_⟩
    rw [show rfs (nI m).toNatClampNeg - 1 = nI (tr_rc kd nod m - 1) from by rw [nI_clamp (by omega), rm, tz_s1 (by omega)], tz_b8 _ (by omega), tz_nb (by omega), nI_clamp (n := m) (by omega)]
    refine nm_e ⟨vp_in_nI (by omega) (by omega), ?_⟩
    rcases m4 with m5 | ⟨m', m5, m6, m7⟩
    · rw [show nod (nI (24 + 3 * nd i + 2)).toNatClampNeg = -1 from by rw [nI_clamp (by omega)]; exact m5]
      refine br_t tz_m1lt ⟨wn, nm_r e4 (K81 _ ?_)⟩
      intro m0 hm0 hmn
      have z := tr_rl_rc (kd := kd) (nod := nod) (n := nd i) (m := m0) n32
      have m032 := h32 m0 hm0
      rw [if_neg (show ¬ (2 ≤ kd (nd i) ∧ nod (24 + 3 * nd i + 2) = nI m0) from fun w => by rw [m5] at w; exact tz_nIm1 (by omega) w.2.symm)] at z
      by_cases e : m0 = m
      · subst e
        rw [pk_us]
        rw [if_pos ⟨k2, m1⟩] at z
        exact congrArg nI (by omega)
      · rw [pk_un e, rf m0 hm0]
        rw [if_neg (fun w => by rw [m1] at w; exact e ((nI_eq (by omega) (by omega)).mp w.2).symm)] at z
        exact congrArg nI (by omega)
    · have m'32 := h32 m' m6
      have em' : ∀ m0, m0 < 32 → ((2 ≤ kd (nd i) ∧ nod (24 + 3 * nd i + 2) = nI m0) ↔ m0 = m') := fun m0 h0 => ⟨fun w => by rw [m5] at w; exact ((nI_eq (by omega) (by omega)).mp w.2).symm, fun w => ⟨k2, by rw [w]; exact m5⟩⟩
      have em : ∀ m0, m0 < 32 → ((2 ≤ kd (nd i) ∧ nod (24 + 3 * nd i + 1) = nI m0) ↔ m0 = m) := fun m0 h0 => ⟨fun w => by rw [m1] at w; exact ((nI_eq (by omega) (by omega)).mp w.2).symm, fun w => ⟨k2, by rw [w]; exact m1⟩⟩
      have rcx : ∀ m0, m0 < 32 → tr_rc kd nod m0 = tr_rc (tz_un kd (nd i) 0) nod m0 + (if m0 = m then 1 else 0) + (if m0 = m' then 1 else 0) := fun m0 h0 => by
        have z := tr_rl_rc (kd := kd) (nod := nod) (n := nd i) (m := m0) n32
        simp only [em m0 h0, em' m0 h0] at z
        exact z
      have lem' := rcle m'
      have rc' := rcx m' m'32
      rw [if_pos rfl] at rc'
      rw [show nod (nI (24 + 3 * nd i + 2)).toNatClampNeg = nI m' from by rw [nI_clamp (by omega)]; exact m5]
      refine br_f (nI_pos (by omega)) ⟨vp_in_nI (by omega) (by omega), vp_in_nI m'32 (by omega), vp_in_nI m'32 (by omega), ?_⟩
      have ev : upd rfs m (nI (tr_rc kd nod m - 1)) (nI m').toNatClampNeg - 1 = nI (tr_rc kd nod m' - (if m' = m then 1 else 0) - 1) := by
        rw [nI_clamp (by omega)]
        by_cases e : m' = m
        · subst e
          rw [pk_us, if_pos rfl, tz_s1]
          have := rcx m' m'32
          rw [if_pos rfl] at this
          omega
        · rw [pk_un e, if_neg e, rf m' m6, tz_s1 (by omega), Nat.sub_zero]
      rw [ev, tz_b8 _ (by omega), tz_nb (by omega), nI_clamp (n := m') (by omega)]
      refine nm_e ⟨wn, nm_r e4 (K81 _ ?_)⟩
      intro m0 hm0 hmn
      have m032 := h32 m0 hm0
      have z := rcx m0 m032
      by_cases e : m0 = m'
      · subst e
        rw [pk_us]
        rw [if_pos rfl] at z
        refine congrArg nI ?_
        by_cases e2 : m0 = m
        · rw [if_pos e2] at z ⊢; omega
        · rw [if_neg e2] at z ⊢; omega
      · rw [pk_un e]
        rw [if_neg e] at z
        by_cases e2 : m0 = m
        · subst e2
          rw [pk_us]
          rw [if_pos rfl] at z
          exact congrArg nI (by omega)
        · rw [pk_un e2, rf m0 hm0]
          rw [if_neg e2] at z
          exact congrArg nI (by omega)
end RL
end
section
/-! the component's pass over its nodes, the newest first -/
def tr_rn (nd : Nat → Nat) (i : Nat) : Nat → Nat := fun j => if j < i then nd j else nd (j + 1)
def tr_ra (ag : Nat → Nat) (i : Nat) : Nat → Nat := fun m => if ag m < i then ag m else ag m - 1
theorem tr_rn_lo {nd : Nat → Nat} {i j : Nat} (h : j < i) : tr_rn nd i j = nd j := if_pos h
theorem tr_rn_hi {nd : Nat → Nat} {i j : Nat} (h : ¬ j < i) : tr_rn nd i j = nd (j + 1) := if_neg h
theorem tr_ra_lo {ag : Nat → Nat} {i m : Nat} (h : ag m < i) : tr_ra ag i m = ag m := if_pos h
theorem tr_ra_hi {ag : Nat → Nat} {i m : Nat} (h : ¬ ag m < i) : tr_ra ag i m = ag m - 1 := if_neg h
theorem tr_rl_ps {nd sz : Nat → Nat} {i : Nat} : ∀ j, tz_ps sz (tr_rn nd i) j = if j ≤ i then tz_ps sz nd j else tz_ps sz nd (j + 1) - sz (nd i)
  | 0 => by rw [if_pos (Nat.zero_le _)]; rfl
  | j + 1 => by
    rw [tz_pss, tr_rl_ps j]
    by_cases c : j + 1 ≤ i
    · rw [if_pos c, if_pos (by omega), tr_rn_lo (by omega), tz_pss]
    · rw [if_neg c, tr_rn_hi (by omega)]
      by_cases c2 : j ≤ i
      · have e : j = i := by omega
        subst e
        rw [if_pos c2, tz_pss, tz_pss]
        omega
      · rw [if_neg c2, tz_pss sz nd (j + 1)]
        have := tz_psl (sz := sz) (nd := nd) (i := i) (j := j + 1) (by omega)
        omega
/-- places when only what still lives counts -/
def tr_pK (kd nd0 sz : Nat → Nat) : Nat → Nat
  | 0 => 0
  | i + 1 => tr_pK kd nd0 sz i + (if kd (nd0 i) = 0 then 0 else sz (nd0 i))
theorem tr_pKs (kd nd0 sz : Nat → Nat) (i : Nat) : tr_pK kd nd0 sz (i + 1) = tr_pK kd nd0 sz i + (if kd (nd0 i) = 0 then 0 else sz (nd0 i)) := rfl
theorem tr_pK_rm {kd nd0 sz : Nat → Nat} {a N0 : Nat} (inj : ∀ j, j < N0 → j ≠ a → nd0 j ≠ nd0 a) (ha : a < N0) (hk : kd (nd0 a) ≠ 0) : ∀ i, i ≤ N0 → tr_pK (tz_un kd (nd0 a) 0) nd0 sz i + (if a < i then sz (nd0 a) else 0) = tr_pK kd nd0 sz i
  | 0, _ => rfl
  | i + 1, h => by
    have ih := tr_pK_rm (sz := sz) inj ha hk i (by omega)
    rw [tr_pKs, tr_pKs, ← ih]
    by_cases e : i = a
    · subst e
      rw [tz_un_s, if_pos rfl, if_neg hk, if_neg (Nat.lt_irrefl _), if_pos (by omega)]
    · rw [tz_un_n (inj i (by omega) e)]
      by_cases c : a < i
      · rw [if_pos c, if_pos (show a < i + 1 by omega)]; omega
      · rw [if_neg c, if_neg (show ¬ a < i + 1 by omega)]; omega
section DL
variable {xnc1 xfr1 xol1 xnw1 xtp1 xsc1 : Int32} {nod1 ofs1 rnk1 dmx1 stx1 its1 knd1 rfs1 siz1 oldr1 newr1 stt1 blw1 arn1 slo1 mvd1 sls1 : Nat → Int32}
variable {xnc xfr xol xnw xtp xsc : Int32} {nod ofs rnk dmx stx its knd rfs siz oldr newr stt blw arn slo mvd sls : Nat → Int32}
variable {ycs ysc : Int32} {usd yrk yds shn tof vw exs ykd fst snd own prt pct val ysl ord ysls : Nat → Int32}
variable {N : Nat} {nd ag kd sz : Nat → Nat} {cl : Nat → Nat → Nat} {V : Nat → Int32}
variable {N0 : Nat} {nd0 ag0 kd0 : Nat → Nat}
theorem tr_rl_Sk {i : Nat} (S : tr_Sk N nd ag kd sz xnc xol xnw xtp knd siz oldr newr stt) (hi : i < N) (s1 : ∀ j, j < N → stt1 (nd j) = if j ≤ i then nI (tz_ps sz nd j) else nI (tz_ps sz nd j - sz (nd i))) (L : tr_Lk N nd i (nd i) xol xnw xol1 xnw1 oldr newr oldr1 newr1) :
    tr_Sk (N - 1) (tr_rn nd i) (tr_ra ag i) (tz_un kd (nd i) 0) sz (nI (N - 1)) xol1 xnw1 (nI (tz_ps sz nd N - sz (nd i))) (upd knd (nd i) 0) siz oldr1 newr1 stt1 := by
  obtain ⟨⟨a1, a2, a3, a4, a5, a6⟩, b1, b2, b3, b4, b5⟩ := S
  obtain ⟨L1, L2, L3, L4⟩ := L
  have si := b2 i hi
  have n32 := (b1 _ si.1).1
  have inj : ∀ j j', j < N → j' < N → nd j = nd j' → j = j' := fun j j' h h' e => by rw [← (b2 j h).2, ← (b2 j' h').2, e]
  have li := b5 i hi
  have lN := tz_psl (sz := sz) (nd := nd) hi
  have ptot : tz_ps sz (tr_rn nd i) (N - 1) = tz_ps sz nd N - sz (nd i) := by
    rw [tr_rl_ps]
    by_cases c : N - 1 ≤ i
    · have e : N = i + 1 := by omega
      rw [if_pos c, e, Nat.add_sub_cancel, tz_pss, Nat.add_sub_cancel]
    · rw [if_neg c, show N - 1 + 1 = N from by omega]
  refine ⟨⟨by omega, rfl, by rw [ptot], by rw [ptot]; omega, ?_, ?_⟩, ?_, ?_, ?_, ?_, ?_⟩
  · by_cases c : i = 0
    · rw [(L1 c).2, li.1]
      by_cases c2 : i + 1 < N
      · rw [tr_nx_lt c2, tr_nx_lt (by omega), tr_rn_hi (by omega)]; exact congrArg nI (congrArg nd (by omega))
      · rw [tr_nx_ge c2, tr_nx_ge (by omega)]
    · rw [(L2 c).2, a5, tr_nx_lt (by omega), tr_nx_lt (by omega), tr_rn_lo (by omega)]
  · by_cases c : i + 1 = N
    · rw [(L3 c).2, li.2.1]
      by_cases c2 : i = 0
      · rw [c2, show N - 1 = 0 from by omega, tr_pv_0, tr_pv_0]
      · rw [tr_pv_s c2, tr_pv_s (by omega), tr_rn_lo (by omega)]; exact congrArg nI (congrArg nd (by omega))
    · rw [(L4 c).2, a6, tr_pv_s (by omega), tr_pv_s (by omega), tr_rn_hi (by omega)]; exact congrArg nI (congrArg nd (by omega))
  · intro m hm
    have mn : m ≠ nd i := fun z => hm (by rw [z, tz_un_s])
    rw [tz_un_n mn] at hm
    have s := b1 m hm
    have ai : ag m ≠ i := fun z => mn (by rw [← s.2.2, z])
    by_cases c : ag m < i
    · rw [tr_ra_lo c, tr_rn_lo c]
      exact ⟨s.1, by omega, s.2.2⟩
    · rw [tr_ra_hi c, tr_rn_hi (by omega), show ag m - 1 + 1 = ag m from by omega]
      exact ⟨s.1, by omega, s.2.2⟩
  · intro j hj
    by_cases c : j < i
    · have s := b2 j (by omega)
      have ne : nd j ≠ nd i := fun z => by have := inj j i (by omega) hi z; omega
      rw [tr_rn_lo c, tz_un_n ne, tr_ra_lo (by rw [s.2]; exact c)]
      exact s
    · have s := b2 (j + 1) (by omega)
      have ne : nd (j + 1) ≠ nd i := fun z => by have := inj (j + 1) i (by omega) hi z; omega
      rw [tr_rn_hi c, tz_un_n ne, tr_ra_hi (by rw [s.2]; omega), s.2]
      exact ⟨s.1, rfl⟩
  · intro m hm
    by_cases e : m = nd i
    · rw [e, pk_us, tz_un_s]; exact ⟨rfl, by omega⟩
    · rw [pk_un e, tz_un_n e]; exact b3 m hm
  · intro m hm
    have mn : m ≠ nd i := fun z => hm (by rw [z, tz_un_s])
    rw [tz_un_n mn] at hm
    exact b4 m hm
  · intro j hj
    have newE : ∀ j', j' < N → j' ≠ i → newr1 (nd j') = if j' + 1 = i then newr (nd i) else newr (nd j') := fun j' h' hne => by
      by_cases c : i = 0
      · rw [(L1 c).1, if_neg (by omega)]
      · rw [(L2 c).1]
        by_cases e : j' + 1 = i
        · have e2 : j' = i - 1 := by omega
          rw [if_pos e, e2, pk_us]
        · rw [if_neg e, pk_un (fun z => by have := inj j' (i - 1) h' (by omega) z; omega)]
    have oldE : ∀ j', j' < N → j' ≠ i → oldr1 (nd j') = if j' = i + 1 then oldr (nd i) else oldr (nd j') := fun j' h' hne => by
      by_cases c : i + 1 = N
      · rw [(L3 c).1, if_neg (by omega)]
      · rw [(L4 c).1]
        by_cases e : j' = i + 1
        · rw [if_pos e, e, pk_us]
        · rw [if_neg e, pk_un (fun z => by have := inj j' (i + 1) h' (by omega) z; omega)]
    rw [tr_rl_ps]
    by_cases c : j < i
    · have lj := b5 j (by omega)
      rw [tr_rn_lo c, newE j (by omega) (by omega), oldE j (by omega) (by omega), s1 j (by omega), if_pos (show j ≤ i by omega), if_pos (show j ≤ i by omega), if_neg (show ¬ j = i + 1 by omega)]
      refine ⟨?_, ?_, rfl⟩
      · by_cases e : j + 1 = i
        · rw [if_pos e, li.1]
          by_cases c2 : i + 1 < N
          · rw [tr_nx_lt c2, tr_nx_lt (by omega), tr_rn_hi (by omega)]; exact congrArg nI (congrArg nd (by omega))
          · rw [tr_nx_ge c2, tr_nx_ge (by omega)]
        · rw [if_neg e, lj.1, tr_nx_lt (by omega), tr_nx_lt (by omega), tr_rn_lo (by omega)]
      · rw [lj.2.1]
        by_cases z : j = 0
        · rw [z, tr_pv_0, tr_pv_0]
        · rw [tr_pv_s z, tr_pv_s z, tr_rn_lo (by omega)]
    · have lj := b5 (j + 1) (by omega)
      rw [tr_rn_hi c, newE (j + 1) (by omega) (by omega), oldE (j + 1) (by omega) (by omega), s1 (j + 1) (by omega), if_neg (show ¬ j + 1 ≤ i by omega), if_neg (show ¬ j + 1 + 1 = i by omega)]
      refine ⟨?_, ?_, ?_⟩
      · rw [lj.1]
        by_cases c2 : j + 1 + 1 < N
        · rw [tr_nx_lt c2, tr_nx_lt (by omega), tr_rn_hi (by omega)]
        · rw [tr_nx_ge c2, tr_nx_ge (by omega)]
      · by_cases e : j = i
        · subst e
          rw [if_pos rfl, li.2.1]
          by_cases z : j = 0
          · rw [z, tr_pv_0, tr_pv_0]
          · rw [tr_pv_s z, tr_pv_s z, tr_rn_lo (by omega)]
        · rw [if_neg (by omega), lj.2.1, tr_pv_s (by omega), tr_pv_s (by omega), tr_rn_hi (by omega)]; exact congrArg nI (congrArg nd (by omega))
      · by_cases e : j ≤ i
        · have e2 : j = i := by omega
          rw [if_pos e, e2, tz_pss, Nat.add_sub_cancel]
        · rw [if_neg e]
/-- what holds in the midst of the pass -/
def tr_Xi (N0 : Nat) (nd0 ag0 kd0 : Nat → Nat) (arn0 : Nat → Int32) (N : Nat) (nd ag kd sz : Nat → Nat) (xnc xol xnw xtp : Int32) (nod knd siz oldr newr stt rfs arn : Nat → Int32) : Prop :=
  tr_Sk N nd ag kd sz xnc xol xnw xtp knd siz oldr newr stt ∧ (∀ m, kd m ≠ 0 → kd m = kd0 m) ∧ (∀ m m', kd m ≠ 0 → kd m' ≠ 0 → (ag m < ag m' ↔ ag0 m < ag0 m')) ∧ (∀ m, kd m ≠ 0 → tz_ps sz nd (ag m) = tr_pK kd nd0 sz (ag0 m)) ∧ tz_ps sz nd N = tr_pK kd nd0 sz N0 ∧
  (∀ m, kd m ≠ 0 → rfs m = nI (tr_rc kd nod m)) ∧ (∀ h, h < 24 → nod h = -1 ∨ ∃ n, nod h = nI n ∧ kd n ≠ 0) ∧
  (∀ n, 2 ≤ kd n → ∃ m, nod (24 + 3 * n + 1) = nI m ∧ kd m ≠ 0 ∧ ag0 m < ag0 n ∧ (nod (24 + 3 * n + 2) = -1 ∨ ∃ m2, nod (24 + 3 * n + 2) = nI m2 ∧ kd m2 ≠ 0 ∧ ag0 m2 < ag0 n)) ∧
  (∀ m e, kd m ≠ 0 → e < sz m → arn (tz_ps sz nd (ag m) + e) = arn0 (tz_ps sz nd0 (ag0 m) + e))
theorem tr_rc_slot {d n : Nat} (hd : d < 120) (ha : tr_ac kd d = true) (h : nod d = nI n) : 1 ≤ tr_rc kd nod n := tz_cnge 120 hd (by show (tr_ac kd d && decide (nod d = nI n)) = true; rw [ha, decide_eq_true h]; rfl)
theorem tr_ac_o {n o : Nat} (hn : n < 32) (h1 : 1 ≤ o) (h2 : o < 3) (hk : 2 ≤ kd n) : tr_ac kd (24 + 3 * n + o) = true := by
  unfold tr_ac
  rw [decide_eq_false (by omega), Bool.false_or, decide_eq_true (by omega), Bool.true_and, show (24 + 3 * n + o - 24) / 3 = n from by omega, decide_eq_true hk]
theorem tr_Xi_rl {i : Nat} {arn0 : Nat → Int32} (B1 : ∀ m, kd0 m ≠ 0 → ag0 m < N0 ∧ nd0 (ag0 m) = m) (B2 : ∀ j, j < N0 → ag0 (nd0 j) = j) (X : tr_Xi N0 nd0 ag0 kd0 arn0 N nd ag kd sz xnc xol xnw xtp nod knd siz oldr newr stt rfs arn) (hi : i < N) (r0 : tr_rc kd nod (nd i) = 0)
    (hr : tr_Rl kd nod (nd i) rfs rfs1) (g1 : ∀ p, p < tz_ps sz nd i → arn1 p = arn p) (g2 : ∀ p, tz_ps sz nd i ≤ p → p + sz (nd i) < tz_ps sz nd N → arn1 p = arn (p + sz (nd i))) (s1 : ∀ j, j < N → stt1 (nd j) = if j ≤ i then nI (tz_ps sz nd j) else nI (tz_ps sz nd j - sz (nd i))) (L : tr_Lk N nd i (nd i) xol xnw xol1 xnw1 oldr newr oldr1 newr1) :
    tr_Xi N0 nd0 ag0 kd0 arn0 (N - 1) (tr_rn nd i) (tr_ra ag i) (tz_un kd (nd i) 0) sz (nI (N - 1)) xol1 xnw1 (nI (tz_ps sz nd N - sz (nd i))) nod (upd knd (nd i) 0) siz oldr1 newr1 stt1 rfs1 arn1 := by
  obtain ⟨S, x1, x2, x3, x4, x5, x6, x7, x8⟩ := X
  have S1 := tr_rl_Sk S hi s1 L
  have si := S.2.2.1 i hi
  have n32 := (S.2.1 _ si.1).1
  have lN := tz_psl (sz := sz) (nd := nd) hi
  have kn0 : kd0 (nd i) ≠ 0 := by rw [← x1 _ si.1]; exact si.1
  obtain ⟨a0N, a0n⟩ := B1 _ kn0
  have live : ∀ m, tz_un kd (nd i) 0 m ≠ 0 → m ≠ nd i ∧ kd m ≠ 0 := fun m hm => by
    have mn : m ≠ nd i := fun z => hm (by rw [z, tz_un_s])
    rw [tz_un_n mn] at hm
    exact ⟨mn, hm⟩
  have nz : ∀ d m, d < 120 → tr_ac kd d = true → nod d = nI m → m ≠ nd i := fun d m hd ha h z => by
    have := tr_rc_slot hd ha h
    rw [z, r0] at this
    omega
  have pk := tr_pK_rm (kd := kd) (nd0 := nd0) (sz := sz) (a := ag0 (nd i)) (N0 := N0) (fun j hj hne z => hne (by rw [← B2 j hj, z, a0n])) a0N (by rw [a0n]; exact si.1)
  rw [a0n] at pk
  have ps1 : ∀ m, m ≠ nd i → kd m ≠ 0 → tz_ps sz (tr_rn nd i) (tr_ra ag i m) = if ag m < i then tz_ps sz nd (ag m) else tz_ps sz nd (ag m) - sz (nd i) := fun m mn hm => by
    have s := S.2.1 m hm
    have ai : ag m ≠ i := fun z => mn (by rw [← s.2.2, z])
    rw [tr_rl_ps]
    by_cases c : ag m < i
    · rw [tr_ra_lo c, if_pos (by omega), if_pos c]
    · rw [tr_ra_hi c, if_neg c]
      by_cases c2 : ag m - 1 ≤ i
      · have e : ag m = i + 1 := by omega
        rw [if_pos c2, e, Nat.add_sub_cancel, tz_pss, Nat.add_sub_cancel]
      · rw [if_neg c2, show ag m - 1 + 1 = ag m from by omega]
  refine ⟨S1, fun m hm => ?_, fun m m' hm hm' => ?_, fun m hm => ?_, ?_, fun m hm => ?_, fun h hh => ?_, fun n hn => ?_, fun m e hm he => ?_⟩
  · obtain ⟨mn, hm⟩ := live m hm
    rw [tz_un_n mn]; exact x1 m hm
  · obtain ⟨mn, hm⟩ := live m hm
    obtain ⟨mn', hm'⟩ := live m' hm'
    rw [← x2 m m' hm hm']
    have s := S.2.1 m hm
    have s' := S.2.1 m' hm'
    have ai : ag m ≠ i := fun z => mn (by rw [← s.2.2, z])
    have ai' : ag m' ≠ i := fun z => mn' (by rw [← s'.2.2, z])
    unfold tr_ra
    split <;> split <;> omega
  · obtain ⟨mn, hm⟩ := live m hm
    have q := pk (ag0 m) (Nat.le_of_lt (B1 m (by rw [← x1 m hm]; exact hm)).1)
    have e := x3 m hm
    have o := x2 (nd i) m si.1 hm
    rw [si.2] at o
    have s := S.2.1 m hm
    have ai : ag m ≠ i := fun z => mn (by rw [← s.2.2, z])
    rw [ps1 m mn hm, e, ← q]
    by_cases c : ag m < i
    · rw [if_pos c, if_neg (fun z => by have := o.mpr z; omega)]; rfl
    · rw [if_neg c, if_pos (o.mp (by omega)), Nat.add_sub_cancel]
  · have q := pk N0 (Nat.le_refl _)
    rw [if_pos a0N, ← x4] at q
    have p := S1.1.2.2.1
    have b1 := S1.1.2.2.2.1
    have e := (nI_eq (by have := S.1.2.2.2.1; omega) (by omega)).mp p
    omega
  · obtain ⟨mn, hm⟩ := live m hm
    exact hr m hm mn
  · rcases x6 h hh with z | ⟨n, z1, z2⟩
    · exact Or.inl z
    · have := nz h n (by omega) (tr_ac_h hh) z1
      exact Or.inr ⟨n, z1, by rw [tz_un_n this]; exact z2⟩
  · obtain ⟨mn, hn0⟩ := live n (by omega)
    rw [tz_un_n mn] at hn
    have m32 := (S.2.1 n hn0).1
    obtain ⟨m, m1, m2, m3, m4⟩ := x7 n hn
    have d1 := nz _ m (by omega) (tr_ac_o m32 (by omega) (by omega) hn) m1
    refine ⟨m, m1, by rw [tz_un_n d1]; exact m2, m3, ?_⟩
    rcases m4 with z | ⟨m', z1, z2, z3⟩
    · exact Or.inl z
    · have d2 := nz _ m' (by omega) (tr_ac_o m32 (by omega) (by omega) hn) z1
      exact Or.inr ⟨m', z1, by rw [tz_un_n d2]; exact z2, z3⟩
  · obtain ⟨mn, hm⟩ := live m hm
    have s := S.2.1 m hm
    have ai : ag m ≠ i := fun z => mn (by rw [← s.2.2, z])
    rw [ps1 m mn hm, ← x8 m e hm he]
    by_cases c : ag m < i
    · have l := tz_psl (sz := sz) (nd := nd) c
      rw [s.2.2] at l
      rw [if_pos c, g1 _ (by omega)]
    · have l := tz_psl (sz := sz) (nd := nd) (i := i) (j := ag m) (by omega)
      have l2 := tz_psl (sz := sz) (nd := nd) s.2.1
      rw [s.2.2] at l2
      rw [if_neg c, g2 _ (by omega) (by omega)]
      exact congrArg arn (by omega)
theorem tx_dr38 {post : Int32 → SX → Prop} {arn0 : Nat → Int32} (B1 : ∀ m, kd0 m ≠ 0 → ag0 m < N0 ∧ nd0 (ag0 m) = m) (B2 : ∀ j, j < N0 → ag0 (nd0 j) = j)
    (H : ∀ N nd ag kd xnc xol xnw xtp knd rfs oldr newr stt arn, tr_Xi N0 nd0 ag0 kd0 arn0 N nd ag kd sz xnc xol xnw xtp nod knd siz oldr newr stt rfs arn → (∀ m, kd m ≠ 0 → 1 ≤ tr_rc kd nod m) → post 1 (xnc, xfr, xol, xnw, xtp, xsc, nod, ofs, rnk, dmx, stx, its, knd, rfs, siz, oldr, newr, stt, blw, arn, slo, mvd, sls)) :
    ∀ f j N nd ag kd xnc xol xnw xtp knd rfs oldr newr stt arn, j ≤ N → j < f → tr_Xi N0 nd0 ag0 kd0 arn0 N nd ag kd sz xnc xol xnw xtp nod knd siz oldr newr stt rfs arn → (∀ i, j ≤ i → i < N → 1 ≤ tr_rc kd nod (nd i)) → wX_drop_38 post f (tr_pv nd j) xnc xfr xol xnw xtp xsc nod ofs rnk dmx stx its knd rfs siz oldr newr stt blw arn slo mvd sls := by
  intro f
  induction f with
  | zero => intro j N nd ag kd xnc xol xnw xtp knd rfs oldr newr stt arn _ h; omega
  | succ f ih =>
    intro j N nd ag kd xnc xol xnw xtp knd rfs oldr newr stt arn h1 h2 X h4
    have X' := X
    obtain ⟨S, x1, x2, x3, x4, x5, x6, x7, x8⟩ := X'
    unfold wX_drop_38
    by_cases c0 : j = 0
    · subst c0
      rw [tr_pv_0]
      refine br_t tz_m1lt (H N nd ag kd xnc xol xnw xtp knd rfs oldr newr stt arn X (fun m hm => ?_))
      have s := S.2.1 m hm
      have := h4 (ag m) (by omega) s.2.1
      rw [s.2.2] at this
      exact this
    · obtain ⟨i, rfl⟩ : ∃ i, j = i + 1 := ⟨j - 1, by omega⟩
      have hi : i < N := by omega
      have si := S.2.2.1 i hi
      have n32 := (S.2.1 _ si.1).1
      have lk := (S.2.2.2.2.2 i hi).2.1
      have rl := tr_rc_le (kd := kd) (nod := nod) (nd i)
      rw [tr_pv_s c0, Nat.add_sub_cancel]
      refine br_f (nI_pos (by omega)) ⟨vp_in_nI n32 (by omega), ?_⟩
      rw [nI_clamp (by omega), x5 _ si.1]
      refine nm_r lk ⟨vp_in_nI n32 (by omega), pk_eq (tr_rc kd nod (nd i)) 0 (fun r0 => ?_) (fun rn => ?_) rfl rfl (by omega) (by omega)⟩
      · refine tx_release (i := i) S hi (fun m hm => (S.2.1 m hm).1) x5 ?_ ?_
        · intro k2
          obtain ⟨m, m1, m2, m3, m4⟩ := x7 (nd i) k2
          refine ⟨m, m1, m2, fun z => by rw [z] at m3; omega, ?_⟩
          rcases m4 with z | ⟨m', z1, z2, z3⟩
          · exact Or.inl z
          · exact Or.inr ⟨m', z1, z2, fun z => by rw [z] at z3; omega⟩
        · intro rfs1 arn1 stt1 newr1 oldr1 xol1 xnw1 hr g1 g2 s1 L
          have Xn := tr_Xi_rl B1 B2 X hi r0 hr g1 g2 s1 L
          have epv : tr_pv nd i = tr_pv (tr_rn nd i) i := by
            by_cases z : i = 0
            · rw [z, tr_pv_0, tr_pv_0]
            · rw [tr_pv_s z, tr_pv_s z, tr_rn_lo (by omega)]
          rw [epv]
          refine ih i (N - 1) _ _ _ _ _ _ _ _ _ _ _ _ _ (by omega) (by omega) Xn (fun i' hi1 hi2 => ?_)
          rw [tr_rn_hi (by omega)]
          have si' := S.2.2.1 (i' + 1) (by omega)
          have ne : nd (i' + 1) ≠ nd i := fun z => by
            have := si'.2
            rw [z, si.2] at this
            omega
          have old := h4 (i' + 1) (by omega) (by omega)
          have rr := tr_rl_rc (kd := kd) (nod := nod) (n := nd i) (m := nd (i' + 1)) n32
          have i32 := (S.2.1 _ si'.1).1
          -- what stands behind gave nothing to what is newer
          have no : ∀ o, (o = 1 ∨ o = 2) → ¬ (2 ≤ kd (nd i) ∧ nod (24 + 3 * nd i + o) = nI (nd (i' + 1))) := by
            intro o ho z
            obtain ⟨m, m1, m2, m3, m4⟩ := x7 (nd i) z.1
            have lt : ag0 (nd (i' + 1)) < ag0 (nd i) → False := fun y => by
              have := (x2 _ _ si'.1 si.1).mpr y
              rw [si'.2, si.2] at this
              omega
            rcases ho with rfl | rfl
            · rw [m1] at z
              have := (nI_eq (by have := (S.2.1 m m2).1; omega) (by omega)).mp z.2
              rw [this] at m3
              exact lt m3
            · rcases m4 with y | ⟨m', y1, y2, y3⟩
              · rw [y] at z; exact tz_nIm1 (by omega) z.2.symm
              · rw [y1] at z
                have := (nI_eq (by have := (S.2.1 m' y2).1; omega) (by omega)).mp z.2
                rw [this] at y3
                exact lt y3
          rw [if_neg (no 1 (Or.inl rfl)), if_neg (no 2 (Or.inr rfl))] at rr
          omega
      · refine ih i N nd ag kd _ _ _ _ _ _ _ _ _ _ (by omega) (by omega) X (fun i' hi1 hi2 => ?_)
        by_cases z : i' = i
        · rw [z]; omega
        · exact h4 i' (by omega) hi2
end DL
end
section
/-! the reference settles what exists -/
def ty_E1 (kd : Nat → Nat) (exs : Nat → Int32) : Prop := ∀ t, t < 32 → exs t = 0 ∨ (exs t = 1 ∧ kd t ≠ 0)
section ST
variable {xnc xfr xol xnw xtp xsc : Int32} {nod ofs rnk dmx stx its knd rfs siz oldr newr stt blw arn slo mvd sls : Nat → Int32}
variable {ycs ysc : Int32} {usd yrk yds shn tof vw exs ykd fst snd own prt pct val ysl ord ysls : Nat → Int32}
variable {N : Nat} {nd ag kd sz : Nat → Nat} {cl : Nat → Nat → Nat} {V : Nat → Int32}
variable {N0 : Nat} {nd0 ag0 kd0 : Nat → Nat}
theorem ty_st2 {post : SY → Prop} (H : ∀ exs1, (∀ t, t < 32 → exs1 t = 0) → ∃ n23, wY_settle_23 post ycs ysc n23 0 usd yrk yds shn tof vw exs1 ykd fst snd own prt pct val ysl ord ysls) : ∀ f i exs, i ≤ 32 → 32 - i < f → (∀ t, t < i → exs t = 0) → wY_settle_2 post ycs ysc f (nI i) usd yrk yds shn tof vw exs ykd fst snd own prt pct val ysl ord ysls := by
  intro f
  induction f with
  | zero => intro i exs _ h; omega
  | succ f ih =>
    intro i exs h1 h2 h3
    unfold wY_settle_2
    by_cases c : i < 32
    · refine br_f (nI_ge (b := 32) c (by decide)) ⟨vp_in_nI c (by omega), ?_⟩
      rw [nI_clamp (by omega), tz_bo0, nI_1]
      refine nm_e (nm_e (ih (i + 1) _ (by omega) (by omega) (fun t ht => ?_)))
      by_cases z : t = i
      · rw [z, pk_us]
      · rw [pk_un z]; exact h3 t (by omega)
    · exact br_t (nI_le (a := 32) (by omega) (by omega)) (H exs (fun t ht => h3 t (by omega)))
theorem ty_st23 {post : SY → Prop} (Q1 : ∀ h, h < 24 → usd h = 0 ∨ ∃ n, usd h = 1 ∧ tof h = nI n ∧ kd n ≠ 0 ∧ n < 32)
    (H : ∀ exs1, ty_E1 kd exs1 → (∀ h n, h < 24 → ¬ usd h = 0 → tof h = nI n → n < 32 → exs1 n = 1) → ∃ n58, wY_settle_58 post ycs ysc n58 0 usd yrk yds shn tof vw exs1 ykd fst snd own prt pct val ysl ord ysls) : ∀ f i exs, i ≤ 24 → 24 - i < f → ty_E1 kd exs → (∀ h n, h < i → ¬ usd h = 0 → tof h = nI n → n < 32 → exs n = 1) → wY_settle_23 post ycs ysc f (nI i) usd yrk yds shn tof vw exs ykd fst snd own prt pct val ysl ord ysls := by
  intro f
  induction f with
  | zero => intro i exs _ h; omega
  | succ f ih =>
    intro i exs h1 h2 h3 h4
    unfold wY_settle_23
    by_cases c : i < 24
    · refine br_f (nI_ge (b := 24) c (by decide)) ⟨vp_in_nI (by omega) (by omega), ?_⟩
      rw [nI_clamp (by omega)]
      rcases Q1 i c with z | ⟨n, z1, z2, z3, z4⟩
      · refine br_t z (nm_r (nI_1 i) (ih (i + 1) exs (by omega) (by omega) h3 (fun h n hh hu ht hn => ?_)))
        by_cases e : h = i
        · rw [e] at hu; exact absurd z hu
        · exact h4 h n (by omega) hu ht hn
      · refine br_f (by rw [z1]; decide) ⟨vp_in_nI (by omega) (by omega), ?_⟩
        rw [z2, nI_clamp (by omega), tz_bo1, nI_1]
        refine ⟨vp_in_nI z4 (by omega), nm_e (nm_e (ih (i + 1) _ (by omega) (by omega) (fun t ht => ?_) (fun h m hh hu ht hm => ?_)))⟩
        · by_cases e : t = n
          · rw [e, pk_us]; exact Or.inr ⟨rfl, z3⟩
          · rw [pk_un e]; exact h3 t ht
        · by_cases e : m = n
          · rw [e, pk_us]
          · by_cases e2 : h = i
            · rw [e2, z2] at ht
              exact absurd ((nI_eq (by omega) (by omega)).mp ht).symm e
            · rw [pk_un e]; exact h4 h m (by omega) hu ht hm
    · have ce : i = 24 := by omega
      subst ce
      exact br_t (nI_le (a := 24) (by omega) (by omega)) (H exs h3 h4)
/-- one round marks the operands of what was marked -/
def ty_Cl (kd : Nat → Nat) (fst snd exs0 : Nat → Int32) (x : Nat) (exs : Nat → Int32) : Prop :=
  ty_E1 kd exs ∧ (∀ t, t < 32 → exs0 t = 1 → exs t = 1) ∧ ∀ t m, t < x → exs0 t = 1 → (fst t = nI m ∨ snd t = nI m) → m < 32 → exs m = 1
theorem ty_st66 {post : SY → Prop} {J : Int32 → (Nat → Int32) → (Nat → Int32) → (Nat → Int32) → (Nat → Int32) → (Nat → Int32) → (Nat → Int32) → (Nat → Int32) → (Nat → Int32) → (Nat → Int32) → (Nat → Int32) → (Nat → Int32) → (Nat → Int32) → (Nat → Int32) → (Nat → Int32) → (Nat → Int32) → (Nat → Int32) → (Nat → Int32) → Prop} {x1 : Nat} {exs0 : Nat → Int32} (h32 : ∀ m, kd m ≠ 0 → m < 32) (Q2 : ∀ t, kd t ≠ 0 → (fst t = -1 ∨ ∃ m, fst t = nI m ∧ kd m ≠ 0) ∧ (snd t = -1 ∨ ∃ m, snd t = nI m ∧ kd m ≠ 0))
    (H : ∀ exs1, ty_Cl kd fst snd exs0 32 exs1 → J (nI (x1 + 1)) usd yrk yds shn tof vw exs1 ykd fst snd own prt pct val ysl ord ysls) : ∀ f x exs, x ≤ 32 → 32 - x < f → ty_Cl kd fst snd exs0 x exs → wY_settle_66 post J (nI x1) ycs ysc f (nI x) usd yrk yds shn tof vw exs ykd fst snd own prt pct val ysl ord ysls := by
  intro f
  induction f with
  | zero => intro x exs _ h; omega
  | succ f ih =>
    intro x exs h1 h2 h3
    unfold wY_settle_66
    by_cases c : x < 32
    · have wx : vp_in (nI x) 32 := vp_in_nI c (by omega)
      refine br_f (nI_ge (b := 32) c (by decide)) ⟨wx, ?_⟩
      rw [nI_clamp (by omega)]
      rcases h3.1 x c with z | ⟨z1, z2⟩
      · refine br_t z (nm_r (nI_1 x) (ih (x + 1) exs (by omega) (by omega) ⟨h3.1, h3.2.1, fun t m ht he hm h32 => ?_⟩))
        by_cases e : t = x
        · have := h3.2.1 t (by omega) he
          rw [e, z] at this
          exact absurd this (by decide)
        · exact h3.2.2 t m (by omega) he hm h32
      · refine br_f (by rw [z1]; decide) ⟨wx, ?_⟩
        obtain ⟨qf, qs⟩ := Q2 x z2
        -- behind the first operand
        have K105 : ∀ exs2, ty_Cl kd fst snd exs0 x exs2 → (∀ m, fst x = nI m → m < 32 → exs2 m = 1) → wY_settle_105 post J (wY_settle_66 post J (nI x1) ycs ysc f) (nI x1) (nI x) ycs ysc usd yrk yds shn tof vw exs2 ykd fst snd own prt pct val ysl ord ysls := by
          intro exs2 e1 e2
          unfold wY_settle_105
          refine ⟨wx, ?_⟩
          rw [nI_clamp (by omega)]
          rcases qs with z | ⟨m, y1, y2⟩
          · rw [z]
            refine br_t tz_m1lt (nm_r (nI_1 x) (ih (x + 1) exs2 (by omega) (by omega) ⟨e1.1, e1.2.1, fun t m ht he hm h32 => ?_⟩))
            by_cases e : t = x
            · subst e
              rcases hm with w | w
              · exact e2 m w h32
              · rw [z] at w; exact absurd w.symm (tz_nIm1 (by omega))
            · exact e1.2.2 t m (by omega) he hm h32
          · have m32 := h32 m y2
            rw [y1]
            refine br_f (nI_pos (by omega)) ⟨wx, vp_in_nI m32 (by omega), ?_⟩
            rw [nI_clamp (by omega), tz_bo1, nI_1]
            refine nm_e (nm_e (ih (x + 1) _ (by omega) (by omega) ⟨fun t ht => ?_, fun t ht he => ?_, fun t m' ht he hm h32' => ?_⟩))
            · by_cases e : t = m
              · rw [e, pk_us]; exact Or.inr ⟨rfl, y2⟩
              · rw [pk_un e]; exact e1.1 t ht
            · by_cases e : t = m
              · rw [e, pk_us]
              · rw [pk_un e]; exact e1.2.1 t ht he
            · by_cases e : m' = m
              · rw [e, pk_us]
              · rw [pk_un e]
                by_cases e' : t = x
                · subst e'
                  rcases hm with w | w
                  · exact e2 m' w h32'
                  · rw [y1] at w; exact absurd ((nI_eq (by omega) (by omega)).mp w).symm e
                · exact e1.2.2 t m' (by omega) he hm h32'
        rcases qf with z | ⟨m, y1, y2⟩
        · rw [z]
          exact br_t tz_m1lt (K105 exs h3 (fun m w hm => by rw [z] at w; exact absurd w.symm (tz_nIm1 (by omega))))
        · have m32 := h32 m y2
          rw [y1]
          refine br_f (nI_pos (by omega)) ⟨wx, vp_in_nI m32 (by omega), ?_⟩
          rw [nI_clamp (by omega), tz_bo1]
          refine nm_e (K105 _ ⟨fun t ht => ?_, fun t ht he => ?_, fun t m' ht he hm h32' => ?_⟩ (fun m' w hm => ?_))
          · by_cases e : t = m
            · rw [e, pk_us]; exact Or.inr ⟨rfl, y2⟩
            · rw [pk_un e]; exact h3.1 t ht
          · by_cases e : t = m
            · rw [e, pk_us]
            · rw [pk_un e]; exact h3.2.1 t ht he
          · by_cases e : m' = m
            · rw [e, pk_us]
            · rw [pk_un e]; exact h3.2.2 t m' ht he hm h32'
          · rw [y1] at w
            have e := (nI_eq (by omega) (by omega)).mp w
            rw [← e, pk_us]
    · have ce : x = 32 := by omega
      subst ce
      exact br_t (nI_le (a := 32) (by omega) (by omega)) (nm_r (nI_1 x1) (H exs h3))
theorem ty_st58 {post : SY → Prop} (h32 : ∀ m, kd m ≠ 0 → m < 32) (hN : N ≤ 32) (hag : ∀ m, kd m ≠ 0 → ag m < N) (Q2 : ∀ t, kd t ≠ 0 → (fst t = -1 ∨ ∃ m, fst t = nI m ∧ kd m ≠ 0) ∧ (snd t = -1 ∨ ∃ m, snd t = nI m ∧ kd m ≠ 0))
    (Q3 : ∀ t, kd t ≠ 0 → (∃ h, h < 24 ∧ ¬ usd h = 0 ∧ tof h = nI t) ∨ ∃ t', kd t' ≠ 0 ∧ ag t < ag t' ∧ (fst t' = nI t ∨ snd t' = nI t))
    (H : ∀ exs1, (∀ t, t < 32 → exs1 t = if kd t = 0 then 0 else 1) → ∃ n142, wY_settle_142 post ycs ysc n142 0 0 usd yrk yds shn tof vw exs1 ykd fst snd own prt pct val ysl ord ysls) :
    ∀ f r exs, r ≤ 32 → 32 - r < f → ty_E1 kd exs → (∀ h n, h < 24 → ¬ usd h = 0 → tof h = nI n → n < 32 → exs n = 1) → (∀ t, kd t ≠ 0 → N ≤ ag t + r → exs t = 1) → wY_settle_58 post ycs ysc f (nI r) usd yrk yds shn tof vw exs ykd fst snd own prt pct val ysl ord ysls := by
  intro f
  induction f with
  | zero => intro r exs _ h; omega
  | succ f ih =>
    intro r exs h1 h2 h3 h4 h5
    unfold wY_settle_58
    by_cases c : r < 32
    · refine br_f (nI_ge (b := 32) c (by decide)) ⟨33, ?_⟩
      refine ty_st66 (exs0 := exs) h32 Q2 ?_ 33 0 exs (by omega) (by omega) ⟨h3, fun _ _ z => z, fun t m ht => by omega⟩
      intro exs1 C1
      refine ih (r + 1) exs1 (by omega) (by omega) C1.1 (fun h n hh hu ht hn => C1.2.1 n hn (h4 h n hh hu ht hn)) (fun t kt hr => ?_)
      have t32 := h32 t kt
      rcases Q3 t kt with ⟨h, a1, a2, a3⟩ | ⟨t', a1, a2, a3⟩
      · exact C1.2.1 t t32 (h4 h t a1 a2 a3 t32)
      · exact C1.2.2 t' t (h32 t' a1) (h5 t' a1 (by omega)) a3 t32
    · have ce : r = 32 := by omega
      subst ce
      refine br_t (nI_le (a := 32) (by omega) (by omega)) (H exs (fun t ht => ?_))
      by_cases k0 : kd t = 0
      · rw [if_pos k0]
        rcases h3 t ht with z | ⟨_, z⟩
        · exact z
        · exact absurd k0 z
      · rw [if_neg k0]
        exact h5 t k0 (by omega)
/-- the places that stay -/
def ty_kp (kd : Nat → Nat) (own0 ord0 : Nat → Int32) (p : Nat) : Bool := decide (kd (own0 (ord0 p).toNatClampNeg).toNatClampNeg ≠ 0)
theorem ty_kp_e {i e : Nat} (S : tr_Sk N nd ag kd sz xnc xol xnw xtp knd siz oldr newr stt) (C : tr_Ce N nd kd sz cl ycs own ord exs ykd) {kd' : Nat → Nat} (hi : i < N) (he : e < sz (nd i)) : ty_kp kd' own ord (tz_ps sz nd i + e) = decide (kd' (nd i) ≠ 0) := by
  have si := S.2.2.1 i hi
  have hc := C.2.1 (nd i) e si.1 he
  have ho := C.2.2.2.1 i e hi he
  have n32 := (S.2.1 _ si.1).1
  unfold ty_kp
  rw [ho, nI_clamp (by omega), hc.2, nI_clamp (by omega)]
theorem ty_kp_c (S : tr_Sk N nd ag kd sz xnc xol xnw xtp knd siz oldr newr stt) (C : tr_Ce N nd kd sz cl ycs own ord exs ykd) {kd' : Nat → Nat} : ∀ i, i ≤ N → ((∀ e, i < N → e ≤ sz (nd i) → tz_cn (ty_kp kd' own ord) (tz_ps sz nd i + e) = tr_pK kd' nd sz i + (if kd' (nd i) = 0 then 0 else e))) ∧ tz_cn (ty_kp kd' own ord) (tz_ps sz nd i) = tr_pK kd' nd sz i := by
  have inner : ∀ i, i < N → tz_cn (ty_kp kd' own ord) (tz_ps sz nd i) = tr_pK kd' nd sz i → ∀ e, e ≤ sz (nd i) → tz_cn (ty_kp kd' own ord) (tz_ps sz nd i + e) = tr_pK kd' nd sz i + (if kd' (nd i) = 0 then 0 else e) := by
    intro i hi h0 e
    induction e with
    | zero => intro _; rw [Nat.add_zero, h0]; split <;> rfl
    | succ e ihe =>
      intro he
      rw [← Nat.add_assoc, tz_cns, ihe (by omega), ty_kp_e S C hi (by omega)]
      by_cases c : kd' (nd i) = 0
      · rw [if_pos c, if_pos c, if_neg (by simp [c])]
      · rw [if_neg c, if_neg c, if_pos (decide_eq_true c)]; omega
  intro i
  induction i with
  | zero => intro _; exact ⟨fun e hN he => inner 0 hN rfl e he, rfl⟩
  | succ i ih =>
    intro hi
    have h0 := (ih (by omega)).1 (sz (nd i)) (by omega) (Nat.le_refl _)
    rw [← tz_pss] at h0
    have h1 : tz_cn (ty_kp kd' own ord) (tz_ps sz nd (i + 1)) = tr_pK kd' nd sz (i + 1) := by rw [h0, tr_pKs]
    exact ⟨fun e hN he => inner (i + 1) hN h1 e he, h1⟩
/-- the reference's order on its way, at place k -/
def ty_Or (kd' : Nat → Nat) (N : Nat) (nd sz : Nat → Nat) (cl : Nat → Nat → Nat) (own0 ord0 : Nat → Int32) (k : Nat) (own ord : Nat → Int32) : Prop :=
  (∀ j e, j < N → kd' (nd j) ≠ 0 → e < sz (nd j) → tz_ps sz nd j + e < k → ord (tr_pK kd' nd sz j + e) = nI (cl (nd j) e)) ∧
  (∀ p, k ≤ p → ord p = ord0 p) ∧
  (∀ j e, j < N → kd' (nd j) = 0 → e < sz (nd j) → tz_ps sz nd j + e < k → own (cl (nd j) e) = -1) ∧
  (∀ c, (∀ j e, j < N → kd' (nd j) = 0 → e < sz (nd j) → tz_ps sz nd j + e < k → c ≠ cl (nd j) e) → own c = own0 c) ∧
  tz_cn (fun c => !decide (own c < 0)) 320 + k = tz_ps sz nd N + tz_cn (ty_kp kd' own0 ord0) k
theorem tr_pKle {kd' : Nat → Nat} : ∀ i, tr_pK kd' nd sz i ≤ tz_ps sz nd i
  | 0 => Nat.le_refl _
  | i + 1 => by
    have := tr_pKle (kd' := kd') i
    rw [tr_pKs, tz_pss]
    split <;> omega
theorem tr_pKm {kd' : Nat → Nat} {j : Nat} (hk : kd' (nd j) ≠ 0) : ∀ i, j < i → tr_pK kd' nd sz j + sz (nd j) ≤ tr_pK kd' nd sz i
  | 0, h => by omega
  | i + 1, h => by
    rw [tr_pKs]
    by_cases e : j = i
    · subst e; rw [if_neg hk]; exact Nat.le_refl _
    · have := tr_pKm hk i (by omega)
      omega
theorem ty_st142 {post : SY → Prop} {kd' : Nat → Nat} {own0 ord0 exs0 : Nat → Int32} (S : tr_Sk N nd ag kd sz xnc xol xnw xtp knd siz oldr newr stt) (C : tr_Ce N nd kd sz cl ycs own0 ord0 exs0 ykd) (hex : ∀ t, t < 32 → exs t = if kd' t = 0 then 0 else 1)
    (H : ∀ own1 ord1, ty_Or kd' N nd sz cl own0 ord0 (tz_ps sz nd N) own1 ord1 → post (nI (tr_pK kd' nd sz N), ysc, usd, yrk, yds, shn, tof, vw, exs, ykd, fst, snd, own1, prt, pct, val, ysl, ord1, ysls)) :
    ∀ f k own ord, k ≤ tz_ps sz nd N → tz_ps sz nd N - k < f → ty_Or kd' N nd sz cl own0 ord0 k own ord → wY_settle_142 post ycs ysc f (nI (tz_cn (ty_kp kd' own0 ord0) k)) (nI k) usd yrk yds shn tof vw exs ykd fst snd own prt pct val ysl ord ysls := by
  have hps := S.1.2.2.2.1
  have hcs := C.1
  have posu : ∀ i e j e', i < N → j < N → e < sz (nd i) → e' < sz (nd j) → tz_ps sz nd j + e' = tz_ps sz nd i + e → j = i ∧ e' = e := by
    intro i e j e' hi hj he he' h
    rcases (by omega : j < i ∨ j = i ∨ i < j) with y | y | y
    · have := tz_psl (sz := sz) (nd := nd) y; omega
    · subst y; exact ⟨rfl, by omega⟩
    · have := tz_psl (sz := sz) (nd := nd) y; omega
  intro f
  induction f with
  | zero => intro k own ord _ h; omega
  | succ f ih =>
    intro k own ord h1 h2 ⟨o1, o2, o3, o4, o5⟩
    by_cases c : k < tz_ps sz nd N
    · obtain ⟨i, e, hi, he, rfl⟩ := tz_psex N c
      have si := S.2.2.1 i hi
      have n32 := (S.2.1 _ si.1).1
      have hc := C.2.1 (nd i) e si.1 he
      have ho := C.2.2.2.1 i e hi he
      have lf := (ty_kp_c (kd' := kd') S C i (by omega)).1 e hi (by omega)
      have kpe := ty_kp_e (kd' := kd') S C hi he
      have le := tr_pKle (kd' := kd') (nd := nd) (sz := sz) i
      have lfle : tz_cn (ty_kp kd' own0 ord0) (tz_ps sz nd i + e) ≤ tz_ps sz nd i + e := tz_cnle _ _
      have ne : ∀ j e', j < N → e' < sz (nd j) → tz_ps sz nd j + e' < tz_ps sz nd i + e → cl (nd j) e' ≠ cl (nd i) e := fun j e' hj he' hlt w => by
        have sj := S.2.2.1 j hj
        obtain ⟨w1, w2⟩ := tr_clne S C sj.1 he' si.1 he w
        have : j = i := by rw [← sj.2, ← si.2, w1]
        subst this
        omega
      have own_c : own (cl (nd i) e) = nI (nd i) := by
        rw [o4 _ (fun j e' hj _ he' hlt => (ne j e' hj he' hlt).symm)]
        exact hc.2
      have ord_c : ord (tz_ps sz nd i + e) = nI (cl (nd i) e) := by rw [o2 _ (Nat.le_refl _)]; exact ho
      unfold wY_settle_142
      refine br_f (by rw [hcs]; exact nI_ge c (by omega)) ?_
      rw [nI_clamp (n := tz_ps sz nd i + e) (by omega)]
      refine ⟨vp_in_nI (by omega) (by omega), nm_r ord_c ?_⟩
      rw [nI_clamp (n := cl (nd i) e) (by omega), own_c, nI_clamp (n := nd i) (by omega), hex _ n32]
      refine ⟨vp_in_nI (by omega) (by omega), vp_in_nI n32 (by omega), ?_⟩
      by_cases k0 : kd' (nd i) = 0
      · rw [if_pos k0]
        refine br_t rfl ⟨vp_in_nI (by omega) (by omega), ?_⟩
        rw [tz_nbm, nI_1]
        have nk : tz_cn (ty_kp kd' own0 ord0) (tz_ps sz nd i + e + 1) = tz_cn (ty_kp kd' own0 ord0) (tz_ps sz nd i + e) := by
          rw [tz_cns, kpe, if_neg (by simp [k0]), Nat.add_zero]
        have K := ih (tz_ps sz nd i + e + 1) (upd own (cl (nd i) e) (-1)) ord (by omega) (by omega) ⟨fun j e' hj hk he' hlt => ?_, fun p hp => o2 p (by omega), fun j e' hj hk he' hlt => ?_, fun x hx => ?_, ?_⟩
        · rw [nk] at K
          exact nm_e (nm_e K)
        · by_cases y : tz_ps sz nd j + e' = tz_ps sz nd i + e
          · obtain ⟨y1, y2⟩ := posu i e j e' hi hj he he' y
            rw [y1] at hk
            exact absurd k0 hk
          · exact o1 j e' hj hk he' (by omega)
        · by_cases y : tz_ps sz nd j + e' = tz_ps sz nd i + e
          · obtain ⟨y1, y2⟩ := posu i e j e' hi hj he he' y
            rw [y1, y2, pk_us]
          · rw [pk_un (ne j e' hj he' (by omega))]
            exact o3 j e' hj hk he' (by omega)
        · rw [pk_un (hx i e hi k0 he (by omega))]
          exact o4 x (fun j e' hj hk he' hlt => hx j e' hj hk he' (by omega))
        · have cnt := tz_cn1 (p := fun c => !decide (upd own (cl (nd i) e) (-1) c < 0)) (q := fun c => !decide (own c < 0)) (k := cl (nd i) e) 320 hc.1 (fun x _ hx => by rw [pk_un hx]) (by rw [pk_us]; rfl) (by rw [own_c, decide_eq_false (nI_pos (by omega))]; rfl)
          rw [nk]
          omega
      · rw [if_neg k0]
        rw [if_neg k0] at lf
        have hT := tz_psl (sz := sz) (nd := nd) hi
        refine br_f (by decide) ?_
        rw [nI_1, nI_1, nI_clamp (n := tz_cn (ty_kp kd' own0 ord0) (tz_ps sz nd i + e)) (by omega), tz_b16 (by omega), tz_ns (by omega)]
        have nk : tz_cn (ty_kp kd' own0 ord0) (tz_ps sz nd i + e + 1) = tz_cn (ty_kp kd' own0 ord0) (tz_ps sz nd i + e) + 1 := by
          rw [tz_cns, kpe, if_pos (decide_eq_true k0)]
        have K := ih (tz_ps sz nd i + e + 1) own (upd ord (tz_cn (ty_kp kd' own0 ord0) (tz_ps sz nd i + e)) (nI (cl (nd i) e))) (by omega) (by omega) ⟨fun j e' hj hk he' hlt => ?_, fun p hp => ?_, fun j e' hj hk he' hlt => ?_, fun x hx => ?_, ?_⟩
        · rw [nk] at K
          exact nm_e ⟨vp_in_nI (by omega) (by omega), nm_e (nm_e K)⟩
        · by_cases y : tz_ps sz nd j + e' = tz_ps sz nd i + e
          · obtain ⟨y1, y2⟩ := posu i e j e' hi hj he he' y
            rw [y1, y2, lf, pk_us]
          · rw [pk_un]
            · exact o1 j e' hj hk he' (by omega)
            · rw [lf]
              rcases (by omega : j < i ∨ j = i ∨ i < j) with w | w | w
              · have := tr_pKm (sz := sz) hk i w; omega
              · subst w; omega
              · have := tz_psl (sz := sz) (nd := nd) w; omega
        · rw [pk_un (by omega)]; exact o2 p (by omega)
        · by_cases y : tz_ps sz nd j + e' = tz_ps sz nd i + e
          · obtain ⟨y1, y2⟩ := posu i e j e' hi hj he he' y
            rw [y1] at hk
            exact absurd hk k0
          · exact o3 j e' hj hk he' (by omega)
        · exact o4 x (fun j e' hj hk he' hlt => hx j e' hj hk he' (by omega))
        · rw [nk]; omega
    · have ce : k = tz_ps sz nd N := by omega
      subst ce
      have lf := (ty_kp_c (kd' := kd') S C N (Nat.le_refl _)).2
      unfold wY_settle_142
      refine br_t (by rw [hcs]; exact Int32.le_refl _) ?_
      rw [lf]
      exact H own ord ⟨o1, o2, o3, o4, o5⟩
end ST
end
section
theorem tr_pK_all {kd nd sz : Nat → Nat} {N : Nat} (h : ∀ i, i < N → kd (nd i) ≠ 0) : ∀ i, i ≤ N → tr_pK kd nd sz i = tz_ps sz nd i
  | 0, _ => rfl
  | i + 1, hi => by rw [tr_pKs, tz_pss, tr_pK_all h i (by omega), if_neg (h i (by omega))]
theorem i_vc_drop {k : Nat} {u : SX} {v : SY} (I : i_Rel k u v) (hk : k + 5 ≤ 2560) (v1 : Int32) : wpX_drop (fun r u' => wpY_drop (fun r' v' => r' = r ∧ i_Rel (k + 5) u' v') v v1) u v1 := by
  have J := I
  obtain ⟨xnc, xfr, xol, xnw, xtp, xsc, nod, ofs, rnk, dmx, stx, its, knd, rfs, siz, oldr, newr, stt, blw, arn, slo, mvd, sls⟩ := u
  obtain ⟨ycs, ysc, usd, yrk, yds, shn, tof, vw, exs, ykd, fst, snd, own, prt, pct, val, ysl, ord, ysls⟩ := v
  obtain ⟨N, nd, ag, kd, sz, cl, V, S, C, H, Ns, R, Va, L⟩ := I
  rcases tr_hd (xnc := xnc) (xfr := xfr) (xol := xol) (xnw := xnw) (xtp := xtp) (xsc := xsc) (nod := nod) (ofs := ofs) (rnk := rnk) (dmx := dmx) (stx := stx) (its := its) (knd := knd) (rfs := rfs) (siz := siz) (oldr := oldr) (newr := newr) (stt := stt) (blw := blw) (arn := arn) (slo := slo) (mvd := mvd) (sls := sls) (ycs := ycs) (ysc := ysc) (usd := usd) (yrk := yrk) (yds := yds) (shn := shn) (tof := tof) (vw := vw) (exs := exs) (ykd := ykd) (fst := fst) (snd := snd) (own := own) (prt := prt) (pct := pct) (val := val) (ysl := ysl) (ord := ord) (ysls := ysls) H v1 with ⟨hx, hy⟩ | ⟨h, n, r, D, hh, rfl, q⟩
  · unfold wpX_drop
    refine hx _ (br_t rfl ?_)
    unfold wpY_drop
    exact hy _ (br_t rfl ⟨rfl, J⟩)
  obtain ⟨isx, isy⟩ := tr_Ha.is (xnc := xnc) (xfr := xfr) (xol := xol) (xnw := xnw) (xtp := xtp) (xsc := xsc) (nod := nod) (ofs := ofs) (rnk := rnk) (dmx := dmx) (stx := stx) (its := its) (knd := knd) (rfs := rfs) (siz := siz) (oldr := oldr) (newr := newr) (stt := stt) (blw := blw) (arn := arn) (slo := slo) (mvd := mvd) (sls := sls) (ycs := ycs) (ysc := ysc) (usd := usd) (yrk := yrk) (yds := yds) (shn := shn) (tof := tof) (vw := vw) (exs := exs) (ykd := ykd) (fst := fst) (snd := snd) (own := own) (prt := prt) (pct := pct) (val := val) (ysl := ysl) (ord := ord) (ysls := ysls) S q hh
  have hn := (S.2.1 n q.1.2).1
  have Rn := R n q.1.2
  have Rle := tr_rc_le (kd := kd) (nod := nod) n
  have h32 := fun m hm => (S.2.1 m hm).1
  have rcn : tr_rc kd nod n = tr_rc kd (upd nod h (-1)) n + 1 := tr_rc_sub (by omega) (tr_ac_h hh) q.1.1 (fun z => tz_nIm1 (by omega) z.symm)
  have rcm : ∀ m, kd m ≠ 0 → m ≠ n → tr_rc kd (upd nod h (-1)) m = tr_rc kd nod m := fun m hm hmn => tr_rc_ne (by rw [q.1.1]; exact fun z => hmn ((nI_eq (by omega) (by have := h32 m hm; omega)).mp z).symm) (fun z => tz_nIm1 (by have := h32 m hm; omega) z.symm)
  have en : nod (nI h).toNatClampNeg = nI n := by rw [nI_clamp (by omega)]; exact q.1.1
  unfold wpX_drop
  refine isx _ (br_f (by decide) ⟨vp_in_nI (by omega) (by omega), ?_⟩)
  rw [en, nI_clamp (n := n) (by omega), Rn.1, tz_s1 (by omega), tz_b8 _ (by omega), tz_nb (by omega), nI_clamp (n := h) (by omega), tz_nbm]
  refine ⟨vp_in_nI hn (by omega), vp_in_nI hn (by omega), nm_e ⟨vp_in_nI (by omega) (by omega), nm_e ⟨N + 1, ?_⟩⟩⟩
  have e0 : tr_rc kd nod n - 1 = tr_rc kd (upd nod h (-1)) n := by omega
  rw [e0]
  -- where the pass begins
  have X0 : tr_Xi N nd ag kd arn N nd ag kd sz xnc xol xnw xtp (upd nod h (-1)) knd siz oldr newr stt (upd rfs n (nI (tr_rc kd (upd nod h (-1)) n))) arn := by
    refine ⟨S, fun _ _ => rfl, fun _ _ _ _ => Iff.rfl, fun m hm => ?_, ?_, fun m hm => ?_, fun j hj => ?_, fun m hm => ?_, fun _ _ _ _ => rfl⟩
    · rw [tr_pK_all (N := N) (fun i hi => (S.2.2.1 i hi).1) _ (Nat.le_of_lt (S.2.1 m hm).2.1)]
    · rw [tr_pK_all (N := N) (fun i hi => (S.2.2.1 i hi).1) _ (Nat.le_refl _)]
    · by_cases e : m = n
      · rw [e, pk_us]
      · rw [pk_un e, rcm m hm e]; exact (R m hm).1
    · by_cases e : j = h
      · rw [e, pk_us]; exact Or.inl rfl
      · rw [pk_un e]
        rcases H j hj with z | ⟨n', r', D', z⟩
        · exact Or.inl z.1
        · exact Or.inr ⟨n', z.1.1, z.1.2⟩
    · rcases Ns m (by omega) with z | ⟨m1, r1, D1, r0, D0, K, a1, a2, a3, a4, a5, a6⟩
      · have := z.1; omega
      · refine ⟨m1, by rw [pk_un (by omega)]; exact a1.1, a1.2.1, a1.2.2.1, ?_⟩
        rcases a6 with ⟨_, c2, _⟩ | ⟨m2, r2, D2, _, c2, _⟩
        · exact Or.inl (by rw [pk_un (by omega)]; exact c2)
        · exact Or.inr ⟨m2, by rw [pk_un (by omega)]; exact c2.1, c2.2.1, c2.2.2.1⟩
  have hnw := S.1.2.2.2.2.2
  suffices K : wX_drop_38 (fun r u' => wpY_drop (fun r' v' => r' = r ∧ i_Rel (k + 5) u' v') (ycs, ysc, usd, yrk, yds, shn, tof, vw, exs, ykd, fst, snd, own, prt, pct, val, ysl, ord, ysls) (nI h)) (N + 1) (tr_pv nd N) xnc xfr xol xnw xtp xsc (upd nod h (-1)) ofs rnk dmx stx its knd (upd rfs n (nI (tr_rc kd (upd nod h (-1)) n))) siz oldr newr stt blw arn slo mvd sls by
    rw [← hnw] at K
    exact K
  refine tx_dr38 (N0 := N) (nd0 := nd) (ag0 := ag) (kd0 := kd) (arn0 := arn) (sz := sz) (fun m hm => (S.2.1 m hm).2) (fun j hj => (S.2.2.1 j hj).2) ?_ (N + 1) N N nd ag kd _ _ _ _ _ _ _ _ _ _ (Nat.le_refl _) (by omega) X0 (fun i h1 h2 => by omega)
  intro N1 nd1 ag1 kd1 xnc1 xol1 xnw1 xtp1 knd1 rfs1 oldr1 newr1 stt1 arn1 X1 rc1
  obtain ⟨S1, x1, x2, x3, x4, x5, x6, x7, x8⟩ := X1
  have sub : ∀ m, kd1 m ≠ 0 → kd m ≠ 0 := fun m hm => by rw [← x1 m hm]; exact hm
  have f32 : ∀ m, kd1 m ≠ 0 → m < 32 := fun m hm => (S1.2.1 m hm).1
  -- what the nodes rest on, in the reference's words
  have opn : ∀ t, kd1 t ≠ 0 → (fst t = -1 ∧ snd t = -1 ∧ kd t = 1) ∨ (2 ≤ kd t ∧ ∃ m, nod (24 + 3 * t + 1) = nI m ∧ fst t = nI m ∧ kd1 m ≠ 0 ∧ ag m < ag t ∧ ((nod (24 + 3 * t + 2) = -1 ∧ snd t = -1) ∨ ∃ m2, nod (24 + 3 * t + 2) = nI m2 ∧ snd t = nI m2 ∧ kd1 m2 ≠ 0 ∧ ag m2 < ag t)) := by
    intro t ht
    have t0 := sub t ht
    rcases Ns t t0 with z | ⟨m1, r1, D1, r0, D0, K, a1, a2, a3, a4, a5, a6⟩
    · exact Or.inl ⟨z.2.1, z.2.2.1, z.1⟩
    · have k2 : 2 ≤ kd t := by
        rcases a6 with ⟨c1, _⟩ | ⟨m2, r2, D2, c1, _⟩
        · rcases c1 with ⟨c, _⟩ | ⟨c, _⟩ <;> omega
        · rcases c1 with ⟨c, _⟩ | ⟨c, _⟩ <;> omega
      obtain ⟨m, y1, y2, y3, y4⟩ := x7 t (by rw [x1 t ht]; exact k2)
      rw [pk_un (by omega)] at y1
      rw [pk_un (by omega)] at y4
      have em : m = m1 := (nI_eq (by have := f32 m y2; omega) (by have := h32 m1 a1.2.1; omega)).mp (y1.symm.trans a1.1)
      subst em
      refine Or.inr ⟨k2, m, a1.1, a2, y2, y3, ?_⟩
      rcases a6 with ⟨c1, c2, c3, _⟩ | ⟨m2, r2, D2, c1, c2, c3, _⟩
      · exact Or.inl ⟨c2, c3⟩
      · rcases y4 with y4 | ⟨m', w1, w2, w3⟩
        · rw [c2.1] at y4
          exact absurd y4 (tz_nIm1 (by have := h32 m2 c2.2.1; omega))
        · have em : m' = m2 := (nI_eq (by have := f32 m' w2; omega) (by have := h32 m2 c2.2.1; omega)).mp (w1.symm.trans c2.1)
          subst em
          exact Or.inr ⟨m', w1, c3, w2, w3⟩
  -- the reference's side
  unfold wpY_drop
  refine isy _ (br_f (by decide) ⟨vp_in_nI (by omega) (by omega), ?_⟩)
  rw [nI_clamp (by omega), tz_bo0]
  refine nm_e ?_
  unfold wpY_settle
  refine ⟨33, ty_st2 ?_ 33 0 exs (by omega) (by omega) (fun t ht => by omega)⟩
  intro exs1 z1
  refine ⟨25, ty_st23 (kd := kd1) ?_ ?_ 25 0 exs1 (by omega) (by omega) (fun t ht => Or.inl (z1 t ht)) (fun h n hh => by omega)⟩
  · intro j hj
    by_cases e : j = h
    · rw [e, pk_us]; exact Or.inl rfl
    · rw [pk_un e]
      rcases H j hj with z | ⟨n', r', D', z⟩
      · exact Or.inl z.2
      · rcases x6 j hj with w | ⟨n'', w1, w2⟩
        · rw [pk_un e, z.1.1] at w
          exact absurd w (tz_nIm1 (by have := h32 n' z.1.2; omega))
        · rw [pk_un e, z.1.1] at w1
          have em := (nI_eq (by have := h32 n' z.1.2; omega) (by have := f32 n'' w2; omega)).mp w1
          exact Or.inr ⟨n', z.2.2.2.1.1, z.2.2.2.1.2.1, by rw [em]; exact w2, h32 n' z.1.2⟩
  intro exs2 e1 e2
  refine ⟨33, ty_st58 (kd := kd1) (ag := ag1) (N := N1) f32 S1.1.1 (fun m hm => (S1.2.1 m hm).2.1) ?_ ?_ ?_ 33 0 exs2 (by omega) (by omega) e1 e2 (fun t ht hr => by have := (S1.2.1 t ht).2.1; omega)⟩
  · intro t ht
    rcases opn t ht with ⟨a, b, _⟩ | ⟨_, m, _, a2, a3, _, a5⟩
    · exact ⟨Or.inl a, Or.inl b⟩
    · refine ⟨Or.inr ⟨m, a2, a3⟩, ?_⟩
      rcases a5 with ⟨_, b⟩ | ⟨m2, _, b1, b2, _⟩
      · exact Or.inl b
      · exact Or.inr ⟨m2, b1, b2⟩
  · intro t ht
    have t32 := f32 t ht
    obtain ⟨d, d1, d2⟩ := tz_cnpos 120 (show tz_cn (fun d => tr_ac kd1 d && decide (upd nod h (-1) d = nI t)) 120 ≠ 0 from by have := rc1 t ht; unfold tr_rc at this; omega)
    obtain ⟨d3, d4⟩ := Bool.and_eq_true_iff.mp d2
    have d5 : upd nod h (-1) d = nI t := of_decide_eq_true d4
    by_cases c24 : d < 24
    · have dh : d ≠ h := fun z => by rw [z, pk_us] at d5; exact tz_nIm1 (by omega) d5.symm
      rw [pk_un dh] at d5
      rcases H d c24 with z | ⟨n', r', D', z⟩
      · rw [z.1] at d5; exact absurd d5.symm (tz_nIm1 (by omega))
      · rw [z.1.1] at d5
        refine Or.inl ⟨d, c24, ?_, ?_⟩
        · rw [pk_un dh, z.2.2.2.1.1]; decide
        · rw [z.2.2.2.1.2.1]; exact d5
    · rw [pk_un (by omega)] at d5
      unfold tr_ac at d3
      rw [decide_eq_false c24, Bool.false_or] at d3
      obtain ⟨d6, d7⟩ := Bool.and_eq_true_iff.mp d3
      have d6' : d % 3 ≠ 0 := of_decide_eq_true d6
      have d7' : 2 ≤ kd1 ((d - 24) / 3) := of_decide_eq_true d7
      have kt' : kd1 ((d - 24) / 3) ≠ 0 := by omega
      refine Or.inr ⟨(d - 24) / 3, kt', ?_⟩
      rcases opn _ kt' with ⟨_, _, a⟩ | ⟨_, m, a1, a2, a3, a4, a5⟩
      · have := x1 _ kt'; omega
      · rcases (by omega : d = 24 + 3 * ((d - 24) / 3) + 1 ∨ d = 24 + 3 * ((d - 24) / 3) + 2) with ed | ed
        · rw [ed, a1] at d5
          have em := (nI_eq (by have := f32 m a3; omega) (by omega)).mp d5
          rw [em] at a4 a2
          exact ⟨(x2 _ _ ht kt').mpr a4, Or.inl a2⟩
        · rcases a5 with ⟨b1, b2⟩ | ⟨m2, b1, b2, b3, b4⟩
          · rw [ed, b1] at d5
            exact absurd d5.symm (tz_nIm1 (by omega))
          · rw [ed, b1] at d5
            have em := (nI_eq (by have := f32 m2 b3; omega) (by omega)).mp d5
            rw [em] at b4 b2
            exact ⟨(x2 _ _ ht kt').mpr b4, Or.inr b2⟩
  intro exs3 ex
  refine ⟨tz_ps sz nd N + 1, ty_st142 (kd' := kd1) (own0 := own) (ord0 := ord) (exs0 := exs) S C ex ?_ _ 0 own ord (by omega) (by omega) ⟨fun j e _ _ _ h => by omega, fun _ _ => rfl, fun j e _ _ _ h => by omega, fun _ _ => rfl, by rw [C.2.2.2.2.2.1]; rfl⟩⟩
  intro own1 ord1 ⟨o1, o2, o3, o4, o5⟩
  refine ⟨rfl, ?_⟩
  have keepO : ∀ m e, kd1 m ≠ 0 → e < sz m → own1 (cl m e) = own (cl m e) := fun m e hm he => by
    refine o4 _ (fun j e' hj hk he' _ w => ?_)
    have sj := S.2.2.1 j hj
    have := (tr_clne S C (sub m hm) he sj.1 he' w).1
    rw [← this] at hk
    exact hm hk
  refine ⟨N1, nd1, ag1, kd1, sz, cl, V, S1, ?_, ?_, ?_, fun m hm => ⟨x5 m hm, rc1 m hm⟩, ?_, L⟩
  · refine ⟨by rw [x4], fun m e hm he => ?_, fun m e e' hm => C.2.2.1 m e e' (sub m hm), fun i e hi he => ?_, fun c hc => ?_, ?_, ex, fun m hm => ?_⟩
    · rw [keepO m e hm he]; exact C.2.1 m e (sub m hm) he
    · have si := S1.2.2.1 i hi
      have s0 := S.2.1 _ (sub _ si.1)
      have p := x3 _ si.1
      rw [si.2] at p
      have z := o1 (ag (nd1 i)) e s0.2.1 (by rw [s0.2.2]; exact si.1) (by rw [s0.2.2]; exact he) (by have := tz_psl (sz := sz) (nd := nd) s0.2.1; rw [s0.2.2] at this; omega)
      rw [s0.2.2] at z
      rw [p]; exact z
    · rcases C.2.2.2.2.1 c hc with z | ⟨m, e, y1, y2, y3⟩
      · refine Or.inl ?_
        rw [o4 c (fun j e' hj hk he' _ w => ?_)]
        · exact z
        · have sj := S.2.2.1 j hj
          have := (C.2.1 _ e' sj.1 he').2
          rw [← w, z] at this
          exact tz_nIm1 (by have := h32 _ sj.1; omega) this.symm
      · by_cases k0 : kd1 m = 0
        · have s0 := S.2.1 m y1
          refine Or.inl ?_
          have z := o3 (ag m) e s0.2.1 (by rw [s0.2.2]; exact k0) (by rw [s0.2.2]; exact y2) (by have := tz_psl (sz := sz) (nd := nd) s0.2.1; rw [s0.2.2] at this; omega)
          rw [s0.2.2, ← y3] at z
          exact z
        · exact Or.inr ⟨m, e, k0, y2, y3⟩
    · have lf := (ty_kp_c (kd' := kd1) S C N (Nat.le_refl _)).2
      rw [lf, ← x4] at o5
      omega
    · rw [x1 m hm]; exact C.2.2.2.2.2.2.2 m (sub m hm)
  · intro j hj
    by_cases e : j = h
    · rw [e, pk_us, pk_us]; exact Or.inl ⟨rfl, rfl⟩
    · rcases H j hj with z | ⟨n', r', D', z⟩
      · exact Or.inl ⟨by rw [pk_un e]; exact z.1, by rw [pk_un e]; exact z.2⟩
      · have live : kd1 n' ≠ 0 := by
          rcases x6 j hj with w | ⟨n'', w1, w2⟩
          · rw [pk_un e, z.1.1] at w
            exact absurd w (tz_nIm1 (by have := h32 n' z.1.2; omega))
          · rw [pk_un e, z.1.1] at w1
            have em := (nI_eq (by have := h32 n' z.1.2; omega) (by have := f32 n'' w2; omega)).mp w1
            rw [em]; exact w2
        exact Or.inr ⟨n', r', D', z.tr (v := h) (P := fun _ => True) hj e trivial (fun _ _ _ => ⟨rfl, rfl, fun _ _ => ⟨rfl, rfl⟩⟩) (fun _ _ _ => ⟨rfl, fun _ _ => rfl, fun _ _ => rfl⟩) (pk_un e) rfl (pk_un e) rfl rfl (x1 n' live) rfl (fun _ _ => rfl)⟩
  · intro m hm
    have m32 := f32 m hm
    refine (Ns m (sub m hm)).tr (P := fun _ => True) m32 (fun _ _ => trivial) (fun _ _ _ => ⟨rfl, rfl, fun _ _ => ⟨rfl, rfl⟩⟩) (fun o ho => pk_un (by omega)) (x1 m hm) rfl (fun _ _ => rfl) ?_ rfl rfl rfl (fun _ _ => ⟨rfl, fun _ _ => rfl⟩)
    intro m' hs k2 km' _
    have m'32 := h32 m' km'
    have key : kd1 m' ≠ 0 ∧ ag m' < ag m := by
      rcases opn m hm with ⟨_, _, a⟩ | ⟨_, m1, a1, a2, a3, a4, a5⟩
      · omega
      · rcases hs with w | w
        · rw [a1] at w
          have em := (nI_eq (by have := f32 m1 a3; omega) (by omega)).mp w
          rw [em] at a3 a4
          exact ⟨a3, a4⟩
        · rcases a5 with ⟨b1, _⟩ | ⟨m2, b1, b2, b3, b4⟩
          · rw [b1] at w; exact absurd w.symm (tz_nIm1 (by omega))
          · rw [b1] at w
            have em := (nI_eq (by have := f32 m2 b3; omega) (by omega)).mp w
            rw [em] at b3 b4
            exact ⟨b3, b4⟩
    exact ⟨key.1, (x2 _ _ key.1 hm).mpr key.2, rfl, fun _ _ => rfl, rfl⟩
  · obtain ⟨w1, w2, w3, w4⟩ := Va
    refine ⟨fun m e hm he => w1 m e (by rw [← x1 m (by omega)]; exact hm) he, fun m hm => w2 m (by rw [← x1 m (by omega)]; exact hm), fun m e hm he hb => ?_, fun m e hm he => ?_⟩
    · rw [x8 m e hm he]; exact w3 m e (sub m hm) he hb
    · rw [x1 m (by omega)]
      exact w4 m e (by rw [← x1 m (by omega)]; exact hm) he
end
