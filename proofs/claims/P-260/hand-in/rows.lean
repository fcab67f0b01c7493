section
theorem pk_us {f : Nat → Int32} {k : Nat} {x : Int32} : upd f k x k = x := if_pos rfl
theorem pk_un {f : Nat → Int32} {k j : Nat} {x : Int32} (h : j ≠ k) : upd f k x j = f j := if_neg h
theorem pk_uLs {f : Nat → Int64} {k : Nat} {x : Int64} : vp_updL f k x k = x := if_pos rfl
theorem pk_uLn {f : Nat → Int64} {k j : Nat} {x : Int64} (h : j ≠ k) : vp_updL f k x j = f j := if_neg h
theorem pk_sub {a b : Nat} (h : b ≤ a) : nI a - nI b = nI (a - b) := by
  obtain ⟨c, rfl⟩ : ∃ c, a = c + b := ⟨a - b, by omega⟩
  rw [← nI_add, Int32.add_sub_cancel, Nat.add_sub_cancel]
theorem pk_m1 (n : Nat) : nI (n + 1) + (-1) = nI n := by
  rw [← nI_1, Int32.add_assoc, show (1 : Int32) + (-1) = 0 from rfl, Int32.add_zero]
theorem pk_mul (a b : Nat) : nI a * nI b = nI (a * b) := (Int32.ofNat_mul a b).symm
theorem pk_div {a d : Nat} (ha : a < 2 ^ 31) (h0 : 0 < d) (hd : d < 2 ^ 31) : nI a / nI d = nI (a / d) := by
  apply Int32.toInt_inj.mp
  rw [lg_idiv_nonneg (by rw [nI_toInt ha]; omega) (by rw [nI_toInt hd]; omega), nI_toInt ha, nI_toInt hd, nI_toInt (Nat.lt_of_le_of_lt (Nat.div_le_self a d) ha)]
  first | rfl | exact (Int.natCast_ediv _ _).symm
theorem pk_rem {a d : Nat} (ha : a < 2 ^ 31) (h0 : 0 < d) (hd : d < 2 ^ 31) : nI a - nI a / nI d * nI d = nI (a % d) := by
  rw [pk_div ha h0 hd, pk_mul, pk_sub (Nat.div_mul_le_self a d)]
  exact congrArg nI (by have := Nat.div_add_mod' a d; omega)
theorem pk_sub_toInt {a b : Nat} (ha : a < 2 ^ 30) (hb : b < 2 ^ 30) : (nI a - nI b).toInt = (a : Int) - b := by
  rw [Int32.toInt_sub, nI_toInt (by omega), nI_toInt (by omega)]
  exact Int.bmod_eq_of_le (by omega) (by omega)
theorem pk_sneg {a b : Nat} (hb : b < 2 ^ 30) (h : a < b) : nI a - nI b < 0 := by
  rw [Int32.lt_iff_toInt_lt, pk_sub_toInt (by omega) hb, show (0 : Int32).toInt = 0 from by decide]
  omega
theorem pk_ix (x : Int32) {n : Nat} (hn : n < 2 ^ 31) : x < 0 ∨ nI n ≤ x ∨ ∃ j : Nat, j < n ∧ x = nI j := by
  by_cases h : x < 0
  · exact Or.inl h
  · obtain ⟨j, hj, rfl⟩ := nI_of h
    by_cases h2 : j < n
    · exact Or.inr (Or.inr ⟨j, h2, rfl⟩)
    · exact Or.inr (Or.inl (nI_le (by omega) hj))
theorem pk_le {x y : Int32} {A B : Prop} (a b : Nat) (f : a ≤ b → A) (g : b < a → B) (hx : x = nI a := by rfl) (hy : y = nI b := by rfl) (ha : a < 2 ^ 31 := by omega) (hb : b < 2 ^ 31 := by omega) : (x ≤ y → A) ∧ (¬ x ≤ y → B) := by
  subst hx hy
  rw [nI_leI ha hb]
  exact ⟨f, fun z => g (by omega)⟩
theorem pk_lt {x y : Int32} {A B : Prop} (a b : Nat) (f : a < b → A) (g : b ≤ a → B) (hx : x = nI a := by rfl) (hy : y = nI b := by rfl) (ha : a < 2 ^ 31 := by omega) (hb : b < 2 ^ 31 := by omega) : (x < y → A) ∧ (¬ x < y → B) := by
  subst hx hy
  rw [nI_ltI ha hb]
  exact ⟨f, fun z => g (by omega)⟩
theorem pk_eq {x y : Int32} {A B : Prop} (a b : Nat) (f : a = b → A) (g : a ≠ b → B) (hx : x = nI a := by rfl) (hy : y = nI b := by rfl) (ha : a < 2 ^ 31 := by omega) (hb : b < 2 ^ 31 := by omega) : (x = y → A) ∧ (¬ x = y → B) := by
  subst hx hy
  rw [nI_eq ha hb]
  exact ⟨f, g⟩
theorem pk_in {x : Int32} (n N : Nat) (h : n < N) (hx : x = nI n := by rfl) (hN : N < 2 ^ 31 := by omega) : vp_in x N := by
  subst hx
  exact vp_in_nI h hN
theorem pk_cl {x : Int32} (n : Nat) (hx : x = nI n := by rfl) (h : n < 2 ^ 31 := by omega) : x.toNatClampNeg = n := by
  subst hx
  exact nI_clamp h
theorem pk_tn {n : Nat} (h : n < 2 ^ 32) : (nI n).toBitVec.toNat = n := Nat.mod_eq_of_lt h
theorem pk_and (x : Int32) {m : Int32} (k : Nat) (hm : m.toBitVec.toNat = 2 ^ k - 1) : x &&& m = nI (x.toBitVec.toNat % 2 ^ k) := by
  apply Int32.toBitVec_inj.mp
  apply BitVec.eq_of_toNat_eq
  rw [Int32.toBitVec_and, BitVec.toNat_and, hm, Nat.and_two_pow_sub_one_eq_mod]
  show _ = (BitVec.ofNat 32 _).toNat
  rw [BitVec.toNat_ofNat]
  exact (Nat.mod_eq_of_lt (Nat.lt_of_le_of_lt (Nat.mod_le _ _) x.toBitVec.isLt)).symm
theorem pk_andN {n : Nat} (h : n < 2 ^ 32) {m : Int32} (k : Nat) (hm : m.toBitVec.toNat = 2 ^ k - 1) : nI n &&& m = nI (n % 2 ^ k) := by
  rw [pk_and _ k hm, pk_tn h]
theorem pk_andE (x : Int32) {m : Int32} (k : Nat) (hm : m.toBitVec.toNat = 2 ^ k - 1) : ∃ j : Nat, j < 2 ^ k ∧ x &&& m = nI j := ⟨_, Nat.mod_lt _ (Nat.two_pow_pos k), pk_and x k hm⟩
theorem pk_andIn (x : Int32) {m : Int32} (k : Nat) (hm : m.toBitVec.toNat = 2 ^ k - 1) (hk : k ≤ 30) : vp_in (x &&& m) (2 ^ k) := by
  obtain ⟨j, hj, e⟩ := pk_andE x k hm
  rw [e]
  exact vp_in_nI hj (Nat.lt_of_le_of_lt (Nat.pow_le_pow_right (by decide) hk) (by decide))
theorem pk_shl (a s : Int32) (k : Nat) (hs : (s.toBitVec.smod 32).toNat = k) : (a <<< s).toBitVec.toNat = a.toBitVec.toNat * 2 ^ k % 2 ^ 32 := by
  show (a.toBitVec <<< (s.toBitVec.smod 32).toNat).toNat = _
  rw [hs, BitVec.toNat_shiftLeft, Nat.shiftLeft_eq]
theorem pk_shlN {n : Nat} (s : Int32) (k : Nat) (hs : (s.toBitVec.smod 32).toNat = k) (h : n * 2 ^ k < 2 ^ 32) : nI n <<< s = nI (n * 2 ^ k) := by
  apply Int32.toBitVec_inj.mp
  apply BitVec.eq_of_toNat_eq
  have hn : n < 2 ^ 32 := Nat.lt_of_le_of_lt (Nat.le_mul_of_pos_right n (Nat.two_pow_pos k)) h
  rw [pk_shl _ _ k hs, pk_tn hn, pk_tn h, Nat.mod_eq_of_lt h]
theorem pk_shr (a s : Int32) (k : Nat) (hs : (s.toBitVec.smod 32).toNat = k) : (a >>> s).toInt = a.toInt >>> k := by
  show (a.toBitVec.sshiftRight (s.toBitVec.smod 32).toNat).toInt = _
  rw [hs, BitVec.toInt_sshiftRight]
  rfl
theorem pk_shrN {n : Nat} (h : n < 2 ^ 31) (s : Int32) (k : Nat) (hs : (s.toBitVec.smod 32).toNat = k) : nI n >>> s = nI (n / 2 ^ k) := by
  apply Int32.toInt_inj.mp
  have h2 : n / 2 ^ k ≤ n := Nat.div_le_self _ _
  rw [pk_shr _ _ k hs, nI_toInt h, nI_toInt (by omega), Int.shiftRight_eq_div_pow]
  rfl
theorem pk_ushr (x s : Int32) (k : Nat) (hs : ((s.toUInt32 &&& Int32.toUInt32 31).toBitVec % 32).toNat = k) : (x.toUInt32 >>> (s.toUInt32 &&& Int32.toUInt32 31)).toInt32.toBitVec.toNat = x.toBitVec.toNat / 2 ^ k := by
  have e : (x.toUInt32 >>> (s.toUInt32 &&& Int32.toUInt32 31)).toInt32.toBitVec = x.toBitVec >>> k := by
    rw [← hs]
    exact UInt32.toBitVec_shiftRight _ _
  rw [e, BitVec.toNat_ushiftRight, Nat.shiftRight_eq_div_pow]
theorem pk_ushrN {n : Nat} (hn : n < 2 ^ 32) (s : Int32) (k : Nat) (hs : ((s.toUInt32 &&& Int32.toUInt32 31).toBitVec % 32).toNat = k) : ((nI n).toUInt32 >>> (s.toUInt32 &&& Int32.toUInt32 31)).toInt32 = nI (n / 2 ^ k) := by
  apply Int32.toBitVec_inj.mp
  apply BitVec.eq_of_toNat_eq
  rw [pk_ushr _ s k hs, pk_tn hn, pk_tn (Nat.lt_of_le_of_lt (Nat.div_le_self _ _) hn)]
theorem pk_nb (z : Int32) : narrow .byte (.int z.toInt8.toInt32) = .int z.toInt8.toInt32 := congrArg Value.int (by simp)
theorem pk_ns (z : Int32) : narrow .short (.int z.toInt16.toInt32) = .int z.toInt16.toInt32 := congrArg Value.int (by simp)
theorem pk_fb (r : Int32) : fits .byte (.int r.toInt8.toInt32) = true := by
  have ⟨a, b⟩ := lg_i2b_range r
  have h1 : (-128 : Int32).toInt = -128 := by decide
  have h2 : (127 : Int32).toInt = 127 := by decide
  simp only [fits, Bool.and_eq_true, decide_eq_true_eq, Int32.le_iff_toInt_le, h1, h2]
  omega
theorem pk_fs (r : Int32) : fits .short (.int r.toInt16.toInt32) = true := by
  have ⟨a, b⟩ := lg_i2s_range r
  have h1 : (-32768 : Int32).toInt = -32768 := by decide
  have h2 : (32767 : Int32).toInt = 32767 := by decide
  simp only [fits, Bool.and_eq_true, decide_eq_true_eq, Int32.le_iff_toInt_le, h1, h2]
  omega
theorem pk_charN {q : Nat} (hq : q < 65536) : narrow .char (.int (nI q)) = .int (nI q) ∧ fits .char (.int (nI q)) = true := by
  constructor
  · have e : (nI q).toUInt32.toUInt16.toUInt32.toInt32 = nI q := by
      apply Int32.toBitVec_inj.mp
      apply BitVec.eq_of_toNat_eq
      show (nI q).toUInt32.toUInt16.toUInt32.toNat = q % 2 ^ 32
      rw [UInt16.toNat_toUInt32, UInt32.toNat_toUInt16, show (nI q).toUInt32.toNat = q % 2 ^ 32 from rfl]
      omega
    exact congrArg Value.int e
  · have a : (0 : Int32) ≤ nI q := nI_pos' (by omega)
    have b : nI q ≤ 65535 := nI_le (b := 65535) (by omega) (by decide)
    show (decide ((0 : Int32) ≤ nI q) && decide (nI q ≤ 65535)) = true
    rw [decide_eq_true a, decide_eq_true b]
    rfl
theorem pk_char (x : Int32) : (x.toUInt32 % 65536).toInt32 = nI (x.toBitVec.toNat % 65536) := by
  apply Int32.toBitVec_inj.mp
  apply BitVec.eq_of_toNat_eq
  rw [pk_tn (by omega)]
  show (x.toUInt32 % 65536).toNat = _
  rw [UInt32.toNat_mod]
  rfl
theorem pk_nc (x : Int32) : narrow .char (.int (x.toUInt32 % 65536).toInt32) = .int (x.toUInt32 % 65536).toInt32 := by
  rw [pk_char]
  exact (pk_charN (Nat.mod_lt _ (by decide))).1
theorem pk_fc (x : Int32) : fits .char (.int (x.toUInt32 % 65536).toInt32) = true := by
  rw [pk_char]
  exact (pk_charN (Nat.mod_lt _ (by decide))).2
theorem pk_vb (z : Int32) : vp_nar .byte z.toInt8.toInt32 = z.toInt8.toInt32 := by rw [vp_nar_byte]; simp
theorem pk_vs (z : Int32) : vp_nar .short z.toInt16.toInt32 = z.toInt16.toInt32 := by rw [vp_nar_short]; simp
theorem pk_vc (z : Int32) : vp_nar .char (z.toUInt32 % 65536).toInt32 = (z.toUInt32 % 65536).toInt32 := Value.int.inj (pk_nc z)
theorem pk_lT {n : Nat} (h : n < 2 ^ 63) : (lN n).toInt = (n : Int) := lg_ofNat_toInt h
theorem pk_lLT {a b : Nat} (ha : a < 2 ^ 63) (hb : b < 2 ^ 63) : lN a < lN b ↔ a < b := by
  rw [Int64.lt_iff_toInt_lt, pk_lT ha, pk_lT hb]; omega
theorem pk_lLE {a b : Nat} (ha : a < 2 ^ 63) (hb : b < 2 ^ 63) : lN a ≤ lN b ↔ a ≤ b := by
  rw [Int64.le_iff_toInt_le, pk_lT ha, pk_lT hb]; omega
theorem pk_lEQ {a b : Nat} (ha : a < 2 ^ 63) (hb : b < 2 ^ 63) : lN a = lN b ↔ a = b := by
  rw [← Int64.toInt_inj, pk_lT ha, pk_lT hb]; omega
theorem pk_lOf {x : Int64} (h : ¬ x < 0) : ∃ k : Nat, k < 2 ^ 63 ∧ x = lN k := by
  rw [Int64.lt_iff_toInt_lt] at h
  have h0 : (0 : Int64).toInt = 0 := by decide
  have hx := Int64.toInt_lt x
  refine ⟨x.toInt.toNat, by omega, Int64.toInt_inj.mp ?_⟩
  rw [pk_lT (by omega)]
  omega
theorem pk_lDiv {a b : Nat} (ha : a < 2 ^ 63) (h0 : 0 < b) (hb : b < 2 ^ 63) : lN a / lN b = lN (a / b) := by
  apply Int64.toInt_inj.mp
  rw [lg_ldiv_nonneg (by rw [pk_lT ha]; omega) (by rw [pk_lT hb]; omega), pk_lT ha, pk_lT hb, pk_lT (Nat.lt_of_le_of_lt (Nat.div_le_self a b) ha)]
  rfl
theorem pk_lRem {a b : Nat} (ha : a < 2 ^ 63) (h0 : 0 < b) (hb : b < 2 ^ 63) : lN a - lN a / lN b * lN b = lN (a % b) := by
  rw [pk_lDiv ha h0 hb, lN_mul, lN_sub (Nat.div_mul_le_self a b)]
  exact congrArg lN (by have := Nat.div_add_mod' a b; omega)
/-! ===== a byte read unsigned ===== -/
theorem bp_b (x : Int32) : x.toInt8.toInt32 &&& 255 = x &&& 255 := by
  apply Int32.toBitVec_inj.mp
  rw [Int32.toBitVec_and, Int32.toBitVec_and, Int8.toBitVec_toInt32, Int32.toBitVec_toInt8]
  apply BitVec.eq_of_getLsbD_eq
  intro i hi
  rw [BitVec.getLsbD_and, BitVec.getLsbD_and]
  have hm : ∀ i < 32, 8 ≤ i → (255 : Int32).toBitVec.getLsbD i = false := by decide
  rcases Nat.lt_or_ge i 8 with z | z
  · rw [BitVec.getLsbD_signExtend, BitVec.getLsbD_signExtend, if_pos z, if_pos hi]
    simp only [z, hi, decide_true, Bool.true_and]
  · rw [hm i hi z]; simp
/-! ===== lN n to 2^64: shifts, and, or, masks, one bit ===== -/
theorem wb_tb (n : Nat) : (lN n).toBitVec = BitVec.ofNat 64 n := rfl
theorem wb_inj {a b : Int64} (h : a.toBitVec = b.toBitVec) : a = b := Int64.toBitVec_inj.mp h
theorem wb_tn {n : Nat} (h : n < 2 ^ 64) : (lN n).toBitVec.toNat = n := by rw [wb_tb, BitVec.toNat_ofNat, Nat.mod_eq_of_lt h]
theorem wb_of (x : Int64) : ∃ n, n < 2 ^ 64 ∧ x = lN n := ⟨x.toBitVec.toNat, x.toBitVec.isLt, wb_inj (by rw [wb_tb]; simp)⟩
theorem wb_of32 (x : Int32) : ∃ n, n < 2 ^ 32 ∧ x = nI n := ⟨x.toBitVec.toNat, x.toBitVec.isLt, Int32.toBitVec_inj.mp (by show _ = BitVec.ofNat 32 _; simp)⟩
theorem wb_c : ∀ k, k < 64 → ((nI k).toInt64 &&& 63) = lN k := by decide +kernel
theorem wb_cu : ∀ k, k < 64 → ((nI k).toInt64.toUInt64 &&& Int64.toUInt64 63) = UInt64.ofNat k := by decide +kernel
theorem wb_sm : ∀ k, k < 64 → (BitVec.ofNat 64 k).smod 64 = BitVec.ofNat 64 k := by decide +kernel
theorem wb_pw {a b : Nat} (h : a ≤ b) : 2 ^ b = 2 ^ a * 2 ^ (b - a) := by rw [← Nat.pow_add]; congr 1; omega
theorem wb_lt2 {a b : Nat} (h : a < b) : 2 ^ a < 2 ^ b := Nat.pow_lt_pow_right (by decide) h
theorem wb_mod (n : Nat) : lN n = lN (n % 2 ^ 64) := wb_inj (by rw [wb_tb, wb_tb]; apply BitVec.eq_of_toNat_eq; rw [BitVec.toNat_ofNat, BitVec.toNat_ofNat, Nat.mod_mod])
theorem wb_shr {n k : Nat} (hn : n < 2 ^ 64) (hk : k < 64) : ((lN n).toUInt64 >>> ((nI k).toInt64.toUInt64 &&& Int64.toUInt64 63)).toInt64 = lN (n / 2 ^ k) := by
  rw [wb_cu k hk]
  apply wb_inj
  apply BitVec.eq_of_toNat_eq
  show ((lN n).toUInt64 >>> UInt64.ofNat k).toNat = (BitVec.ofNat 64 _).toNat
  have h1 : (UInt64.ofNat k).toNat = k := by
    show (BitVec.ofNat 64 k).toNat = k
    rw [BitVec.toNat_ofNat, Nat.mod_eq_of_lt (by omega)]
  have h2 : (lN n).toUInt64.toNat = n := wb_tn hn
  rw [UInt64.toNat_shiftRight, h1, h2, Nat.mod_eq_of_lt hk, Nat.shiftRight_eq_div_pow, BitVec.toNat_ofNat, Nat.mod_eq_of_lt (Nat.lt_of_le_of_lt (Nat.div_le_self _ _) hn)]
theorem wb_shl (n : Nat) {k : Nat} (hk : k < 64) : lN n <<< ((nI k).toInt64 &&& 63) = lN (n * 2 ^ k) := by
  rw [wb_c k hk]
  apply wb_inj
  rw [Int64.toBitVec_shiftLeft, wb_tb, wb_tb, wb_tb, wb_sm k hk]
  apply BitVec.eq_of_toNat_eq
  rw [BitVec.shiftLeft_eq', BitVec.toNat_shiftLeft, BitVec.toNat_ofNat, BitVec.toNat_ofNat, BitVec.toNat_ofNat, Nat.mod_eq_of_lt (show k < 2 ^ 64 by omega), Nat.shiftLeft_eq, Nat.mul_mod, Nat.mod_mod, ← Nat.mul_mod]
theorem wb_and {a b : Nat} (ha : a < 2 ^ 64) (hb : b < 2 ^ 64) : lN a &&& lN b = lN (a &&& b) := by
  apply wb_inj
  rw [Int64.toBitVec_and, wb_tb, wb_tb, wb_tb]
  apply BitVec.eq_of_toNat_eq
  rw [BitVec.toNat_and, BitVec.toNat_ofNat, BitVec.toNat_ofNat, BitVec.toNat_ofNat, Nat.mod_eq_of_lt ha, Nat.mod_eq_of_lt hb, Nat.mod_eq_of_lt (Nat.and_lt_two_pow _ hb)]
theorem wb_or {a b : Nat} (ha : a < 2 ^ 64) (hb : b < 2 ^ 64) : lN a ||| lN b = lN (a ||| b) := by
  apply wb_inj
  rw [Int64.toBitVec_or, wb_tb, wb_tb, wb_tb]
  apply BitVec.eq_of_toNat_eq
  rw [BitVec.toNat_or, BitVec.toNat_ofNat, BitVec.toNat_ofNat, BitVec.toNat_ofNat, Nat.mod_eq_of_lt ha, Nat.mod_eq_of_lt hb, Nat.mod_eq_of_lt (Nat.or_lt_two_pow ha hb)]
theorem wb_mask {n k : Nat} (hn : n < 2 ^ 64) (hk : k < 64) : lN n &&& lN (2 ^ k - 1) = lN (n % 2 ^ k) := by
  rw [wb_and hn (by have := wb_lt2 hk; omega), Nat.and_two_pow_sub_one_eq_mod]
theorem wb_a1 {n : Nat} (hn : n < 2 ^ 64) : lN n &&& 1 = lN (n % 2) := wb_mask (k := 1) hn (by decide)
theorem wb_bit {n k : Nat} (hn : n < 2 ^ 64) (hk : k < 64) : ((lN n).toUInt64 >>> ((nI k).toInt64.toUInt64 &&& Int64.toUInt64 63)).toInt64 &&& 1 = lN (n / 2 ^ k % 2) := by
  rw [wb_shr hn hk, wb_a1 (Nat.lt_of_le_of_lt (Nat.div_le_self _ _) hn)]
theorem wb_xor {q k : Nat} (hk : k < 63) (h : 2 ^ k ≤ q) (h2 : q < 2 ^ (k + 1)) : lN q ^^^ lN (2 ^ k) = lN (q - 2 ^ k) := by
  obtain ⟨r, rfl⟩ : ∃ r, q = 2 ^ k + r := ⟨q - 2 ^ k, by omega⟩
  have hr : r < 2 ^ k := by rw [Nat.pow_succ] at h2; omega
  have hx : (2 ^ k + r) ^^^ 2 ^ k = r := by
    apply Nat.eq_of_testBit_eq
    intro i
    rw [Nat.testBit_xor, Nat.testBit_two_pow]
    rcases Nat.lt_trichotomy i k with h | h | h
    · rw [Nat.testBit_two_pow_add_gt h]
      simp [show ¬ k = i by omega]
    · subst h
      rw [Nat.testBit_two_pow_add_eq]
      simp
    · have a1 : 2 ^ (k + 1) ≤ 2 ^ i := Nat.pow_le_pow_right (by decide) h
      rw [Nat.testBit_lt_two_pow (show 2 ^ k + r < 2 ^ i by omega), Nat.testBit_lt_two_pow (show r < 2 ^ i by omega)]
      simp [show ¬ k = i by omega]
  have b1 := wb_lt2 (show k + 1 < 64 by omega)
  have b2 := wb_lt2 (show k < 64 by omega)
  apply wb_inj
  rw [Int64.toBitVec_xor, wb_tb, wb_tb, wb_tb]
  apply BitVec.eq_of_toNat_eq
  rw [BitVec.toNat_xor, BitVec.toNat_ofNat, BitVec.toNat_ofNat, BitVec.toNat_ofNat, Nat.mod_eq_of_lt (by omega : 2 ^ k + r < 2 ^ 64), Nat.mod_eq_of_lt b2, hx, Nat.add_sub_cancel_left, Nat.mod_eq_of_lt (by omega)]
theorem lN_bv (n : Nat) : (lN n).toBitVec = BitVec.ofNat 64 n := rfl
theorem lN_nat {n : Nat} (h : n < 2 ^ 64) : (lN n).toBitVec.toNat = n := by rw [lN_bv, BitVec.toNat_ofNat]; exact Nat.mod_eq_of_lt h
theorem lN_xor (a b : Nat) : lN a ^^^ lN b = lN (a ^^^ b) := by
  apply Int64.toBitVec_inj.mp; rw [Int64.toBitVec_xor, lN_bv, lN_bv, lN_bv]; apply BitVec.eq_of_getLsbD_eq; intro i hi; simp [BitVec.getLsbD_ofNat, Nat.testBit_xor, hi]
theorem s_l : ∀ n, n < 32 → ((nI n &&& 31).toBitVec.smod 32).toNat = n := by decide +kernel
theorem s_u : ∀ n, n < 32 → (((nI n).toUInt32 &&& Int32.toUInt32 31).toBitVec % 32).toNat = n := by decide +kernel
end
section
/-! pure SHA-1 in the component's words -/
abbrev sk_T : Type := Int32 × Int32 × Int32 × Int32 × Int32
def sk_r1 (x : Int32) : Int32 := (x <<< ((1 : Int32) &&& 31)) ||| ((x.toUInt32 >>> ((31 : Int32).toUInt32 &&& Int32.toUInt32 31)).toInt32)
def sk_r5 (x : Int32) : Int32 := (x <<< ((5 : Int32) &&& 31)) ||| ((x.toUInt32 >>> ((27 : Int32).toUInt32 &&& Int32.toUInt32 31)).toInt32)
def sk_r30 (x : Int32) : Int32 := (x <<< ((30 : Int32) &&& 31)) ||| ((x.toUInt32 >>> ((2 : Int32).toUInt32 &&& Int32.toUInt32 31)).toInt32)
def sk_f (t : Nat) (b c d : Int32) : Int32 :=
  if t < 20 then (b &&& c) ^^^ ((b ^^^ (-1)) &&& d) else if t < 40 then (b ^^^ c) ^^^ d
  else if t < 60 then ((b &&& c) ^^^ (b &&& d)) ^^^ (c &&& d) else (b ^^^ c) ^^^ d
def sk_k (t : Nat) : Int32 := if t < 20 then 1518500249 else if t < 40 then 1859775393 else if t < 60 then (-1894007588) else (-899497514)
def sk_ld (g : Nat → Int32) (i : Nat) : Int32 :=
  (((g (4 * i) <<< ((24 : Int32) &&& 31)) ||| (g (4 * i + 1) <<< ((16 : Int32) &&& 31))) ||| (g (4 * i + 2) <<< ((8 : Int32) &&& 31))) ||| g (4 * i + 3)
def sk_S (g : Nat → Int32) : Nat → (Nat → Int32)
  | 0 => fun _ => 0
  | t + 1 => upd (sk_S g t) t (if t < 16 then sk_ld g t else sk_r1 (((sk_S g t (t - 3) ^^^ sk_S g t (t - 8)) ^^^ sk_S g t (t - 14)) ^^^ sk_S g t (t - 16)))
def sk_W (g : Nat → Int32) (t : Nat) : Int32 := sk_S g (t + 1) t
theorem sk_S_s (g : Nat → Int32) (t : Nat) : sk_S g (t + 1) = upd (sk_S g t) t (if t < 16 then sk_ld g t else sk_r1 (((sk_S g t (t - 3) ^^^ sk_S g t (t - 8)) ^^^ sk_S g t (t - 14)) ^^^ sk_S g t (t - 16))) := rfl
theorem sk_S_eq (g : Nat → Int32) (t j : Nat) (h : j < t) : sk_S g t j = sk_W g j := by
  induction t with
  | zero => omega
  | succ t ih =>
    by_cases e : j = t
    · rw [e]
      rfl
    · rw [sk_S_s, pk_un e]
      exact ih (by omega)
theorem sk_W_lo {g : Nat → Int32} {t : Nat} (h : t < 16) : sk_W g t = sk_ld g t := by
  unfold sk_W
  rw [sk_S_s, pk_us, if_pos h]
theorem sk_W_hi {g : Nat → Int32} {t : Nat} (h : 16 ≤ t) : sk_W g t = sk_r1 (((sk_W g (t - 3) ^^^ sk_W g (t - 8)) ^^^ sk_W g (t - 14)) ^^^ sk_W g (t - 16)) := by
  rw [sk_W, sk_S_s, pk_us, if_neg (by omega), sk_S_eq g t (t - 3) (by omega), sk_S_eq g t (t - 8) (by omega), sk_S_eq g t (t - 14) (by omega), sk_S_eq g t (t - 16) (by omega)]
def sk_step (g : Nat → Int32) (t : Nat) (s : sk_T) : sk_T :=
  ((((sk_r5 s.1 + sk_f t s.2.1 s.2.2.1 s.2.2.2.1) + s.2.2.2.2) + sk_k t) + sk_W g t, s.1, sk_r30 s.2.1, s.2.2.1, s.2.2.2.1)
def sk_R (g : Nat → Int32) (s : sk_T) : Nat → sk_T
  | 0 => s
  | t + 1 => sk_step g t (sk_R g s t)
def sk_pl (s r : sk_T) : sk_T := (s.1 + r.1, s.2.1 + r.2.1, s.2.2.1 + r.2.2.1, s.2.2.2.1 + r.2.2.2.1, s.2.2.2.2 + r.2.2.2.2)
def sk_C (g : Nat → Int32) (s : sk_T) : sk_T := sk_pl s (sk_R g s 80)
def sk_iv : sk_T := (1732584193, (-271733879), (-1732584194), 271733878, (-1009589776))
def sk_F (g : Nat → Int32) : Nat → sk_T
  | 0 => sk_iv
  | q + 1 => sk_C (fun j => g (64 * q + j)) (sk_F g q)
theorem sk_ld_c {g g' : Nat → Int32} (h : ∀ j, j < 64 → g j = g' j) {i : Nat} (hi : i < 16) : sk_ld g i = sk_ld g' i := by
  unfold sk_ld
  rw [h (4 * i) (by omega), h (4 * i + 1) (by omega), h (4 * i + 2) (by omega), h (4 * i + 3) (by omega)]
theorem sk_W_c {g g' : Nat → Int32} (h : ∀ j, j < 64 → g j = g' j) (t : Nat) : sk_W g t = sk_W g' t := by
  induction t using Nat.strongRecOn with
  | ind t ih =>
    rcases Nat.lt_or_ge t 16 with z | z
    · rw [sk_W_lo z, sk_W_lo z, sk_ld_c h z]
    · rw [sk_W_hi z, sk_W_hi z, ih (t - 3) (by omega), ih (t - 8) (by omega), ih (t - 14) (by omega), ih (t - 16) (by omega)]
theorem sk_R_c {g g' : Nat → Int32} (h : ∀ j, j < 64 → g j = g' j) (s : sk_T) (t : Nat) : sk_R g s t = sk_R g' s t := by
  induction t with
  | zero => rfl
  | succ t ih =>
    show sk_step g t (sk_R g s t) = sk_step g' t (sk_R g' s t)
    rw [ih]
    unfold sk_step
    rw [sk_W_c h]
theorem sk_C_c {g g' : Nat → Int32} (h : ∀ j, j < 64 → g j = g' j) (s : sk_T) : sk_C g s = sk_C g' s := by
  unfold sk_C
  rw [sk_R_c h]
theorem sk_F_c {g g' : Nat → Int32} (q : Nat) (h : ∀ j, j < 64 * q → g j = g' j) : sk_F g q = sk_F g' q := by
  induction q with
  | zero => rfl
  | succ q ih =>
    show sk_C (fun j => g (64 * q + j)) (sk_F g q) = sk_C (fun j => g' (64 * q + j)) (sk_F g' q)
    rw [ih (fun j hj => h j (by omega))]
    exact sk_C_c (fun j hj => h (64 * q + j) (by omega)) _
/-! zero extension: the reference's words -/
def sk_z (x : Int32) : Int64 := lN x.toBitVec.toNat
theorem sk_z_xor (x y : Int32) : sk_z x ^^^ sk_z y = sk_z (x ^^^ y) := by
  unfold sk_z
  rw [lN_xor, Int32.toBitVec_xor, BitVec.toNat_xor]
theorem sk_z_and (x y : Int32) : sk_z x &&& sk_z y = sk_z (x &&& y) := by
  have hx := x.toBitVec.isLt
  have hy := y.toBitVec.isLt
  unfold sk_z
  rw [wb_and (by omega) (by omega), Int32.toBitVec_and, BitVec.toNat_and]
theorem sk_z_tn (x : Int32) : (sk_z x).toBitVec.toNat = x.toBitVec.toNat := by
  have hx := x.toBitVec.isLt
  exact wb_tn (by omega)
theorem sk_z_tb (x : Int32) : (sk_z x).toBitVec = x.toBitVec.setWidth 64 := by
  have hx := x.toBitVec.isLt
  apply BitVec.eq_of_toNat_eq
  rw [sk_z_tn, BitVec.toNat_setWidth, Nat.mod_eq_of_lt (by omega)]
theorem sk_z_na (b d : Int32) : (sk_z b ^^^ (-1)) &&& sk_z d = sk_z ((b ^^^ (-1)) &&& d) := by
  apply wb_inj
  rw [Int64.toBitVec_and, Int64.toBitVec_xor, sk_z_tb, sk_z_tb, sk_z_tb, Int32.toBitVec_and, Int32.toBitVec_xor, show (-1 : Int64).toBitVec = BitVec.allOnes 64 from by decide, show (-1 : Int32).toBitVec = BitVec.allOnes 32 from by decide]
  apply BitVec.eq_of_getLsbD_eq
  intro i hi
  rw [BitVec.getLsbD_and, BitVec.getLsbD_xor, BitVec.getLsbD_setWidth, BitVec.getLsbD_setWidth, BitVec.getLsbD_setWidth, BitVec.getLsbD_and, BitVec.getLsbD_xor, BitVec.getLsbD_allOnes, BitVec.getLsbD_allOnes]
  rcases Nat.lt_or_ge i 32 with z | z
  · simp only [hi, z, decide_true, Bool.true_and]
  · rw [BitVec.getLsbD_of_ge d.toBitVec i z]
    simp only [Bool.and_false]
theorem sk_z_rot (x : Int32) (s : Nat) (hs : s ≤ 30) (h0 : 0 < s) :
    ((sk_z x <<< ((nI s).toInt64 &&& 63)) ||| (((sk_z x).toUInt64 >>> ((32 - nI s).toInt64.toUInt64 &&& Int64.toUInt64 63)).toInt64)) - ((sk_z x <<< ((nI s).toInt64 &&& 63)) ||| (((sk_z x).toUInt64 >>> ((32 - nI s).toInt64.toUInt64 &&& Int64.toUInt64 63)).toInt64)) / 4294967296 * 4294967296
      = sk_z ((x <<< (nI s &&& 31)) ||| ((x.toUInt32 >>> ((nI (32 - s)).toUInt32 &&& Int32.toUInt32 31)).toInt32)) := by
  have hx := x.toBitVec.isLt
  have e1 : (32 : Int32) - nI s = nI (32 - s) := pk_sub (a := 32) (by omega)
  have hp : 2 ^ s ≤ 2 ^ 30 := Nat.pow_le_pow_right (by decide) hs
  have hm : x.toBitVec.toNat * 2 ^ s < 2 ^ 62 := by
    have := Nat.mul_le_mul (Nat.le_of_lt_succ (Nat.lt_succ_of_lt hx)) hp
    have h2 : x.toBitVec.toNat * 2 ^ s < 2 ^ 32 * 2 ^ s := Nat.mul_lt_mul_of_pos_right hx (Nat.two_pow_pos s)
    have h3 : 2 ^ 32 * 2 ^ s ≤ 2 ^ 32 * 2 ^ 30 := Nat.mul_le_mul_left _ hp
    exact Nat.lt_of_lt_of_le h2 (Nat.le_trans h3 (by decide))
  have hd : x.toBitVec.toNat / 2 ^ (32 - s) ≤ x.toBitVec.toNat := Nat.div_le_self _ _
  have ho : (x.toBitVec.toNat * 2 ^ s ||| x.toBitVec.toNat / 2 ^ (32 - s)) < 2 ^ 62 := Nat.or_lt_two_pow hm (by omega)
  have e2 : (sk_z x <<< ((nI s).toInt64 &&& 63)) ||| (((sk_z x).toUInt64 >>> ((32 - nI s).toInt64.toUInt64 &&& Int64.toUInt64 63)).toInt64) = lN (x.toBitVec.toNat * 2 ^ s ||| x.toBitVec.toNat / 2 ^ (32 - s)) := by
    rw [e1]
    unfold sk_z
    rw [wb_shl _ (by omega), wb_shr (by omega) (by omega), wb_or (by omega) (by omega)]
  rw [e2]
  show lN _ - lN _ / lN 4294967296 * lN 4294967296 = _
  rw [pk_lRem (by omega) (by decide) (by decide)]
  unfold sk_z
  rw [Int32.toBitVec_or, BitVec.toNat_or, pk_shl x _ s (s_l s (by omega)), pk_ushr x _ (32 - s) (s_u (32 - s) (by omega)), show (4294967296 : Nat) = 2 ^ 32 from by decide, Nat.or_mod_two_pow, Nat.mod_eq_of_lt (show x.toBitVec.toNat / 2 ^ (32 - s) < 2 ^ 32 by omega)]
theorem sk_y1 {post : Int64 → Prop} {x : Int32} (h : post (sk_z (sk_r1 x))) : wpY_rotl post (sk_z x) 1 := by
  refine ⟨by decide, ?_⟩
  have e := sk_z_rot x 1 (by decide) (by decide)
  exact e ▸ h
theorem sk_y5 {post : Int64 → Prop} {x : Int32} (h : post (sk_z (sk_r5 x))) : wpY_rotl post (sk_z x) 5 := by
  refine ⟨by decide, ?_⟩
  have e := sk_z_rot x 5 (by decide) (by decide)
  exact e ▸ h
theorem sk_y30 {post : Int64 → Prop} {x : Int32} (h : post (sk_z (sk_r30 x))) : wpY_rotl post (sk_z x) 30 := by
  refine ⟨by decide, ?_⟩
  have e := sk_z_rot x 30 (by decide) (by decide)
  exact e ▸ h
theorem sk_z_sum (a b c d e : Int32) : ((((sk_z a + sk_z b) + sk_z c) + sk_z d) + sk_z e) - ((((sk_z a + sk_z b) + sk_z c) + sk_z d) + sk_z e) / 4294967296 * 4294967296 = sk_z ((((a + b) + c) + d) + e) := by
  have h1 := a.toBitVec.isLt
  have h2 := b.toBitVec.isLt
  have h3 := c.toBitVec.isLt
  have h4 := d.toBitVec.isLt
  have h5 := e.toBitVec.isLt
  unfold sk_z
  rw [lN_add, lN_add, lN_add, lN_add]
  show lN _ - lN _ / lN 4294967296 * lN 4294967296 = _
  rw [pk_lRem (by omega) (by decide) (by decide)]
  simp only [Int32.toBitVec_add, BitVec.toNat_add]
  exact congrArg lN (by omega)
theorem sk_z_add (a b : Int32) : (sk_z a + sk_z b) - (sk_z a + sk_z b) / 4294967296 * 4294967296 = sk_z (a + b) := by
  have h1 := a.toBitVec.isLt
  have h2 := b.toBitVec.isLt
  unfold sk_z
  rw [lN_add]
  show lN _ - lN _ / lN 4294967296 * lN 4294967296 = _
  rw [pk_lRem (by omega) (by decide) (by decide)]
  simp only [Int32.toBitVec_add, BitVec.toNat_add]
theorem sk_z_i (x : Int32) : (sk_z x).toInt32 = x := by
  unfold sk_z
  rw [lN_i]
  apply Int32.toBitVec_inj.mp
  show BitVec.ofNat 32 _ = _
  simp
theorem sk_z_ld {q0 q1 q2 q3 : Nat} (h0 : q0 < 256) (h1 : q1 < 256) (h2 : q2 < 256) (h3 : q3 < 256) :
    ((((nI q0).toInt64 <<< ((24 : Int32).toInt64 &&& 63)) ||| ((nI q1 <<< ((16 : Int32) &&& 31)).toInt64)) ||| ((nI q2 <<< ((8 : Int32) &&& 31)).toInt64)) ||| (nI q3).toInt64
      = sk_z ((((nI q0 <<< ((24 : Int32) &&& 31)) ||| (nI q1 <<< ((16 : Int32) &&& 31))) ||| (nI q2 <<< ((8 : Int32) &&& 31))) ||| nI q3) := by
  have b0 : q0 * 2 ^ 24 < 2 ^ 32 := Nat.lt_of_lt_of_le (Nat.mul_lt_mul_of_pos_right h0 (by decide)) (by decide)
  have b1 : q1 * 2 ^ 16 < 2 ^ 32 := Nat.lt_of_lt_of_le (Nat.mul_lt_mul_of_pos_right h1 (by decide)) (by decide)
  have b2 : q2 * 2 ^ 8 < 2 ^ 32 := Nat.lt_of_lt_of_le (Nat.mul_lt_mul_of_pos_right h2 (by decide)) (by decide)
  have b3 : q3 < 2 ^ 32 := by omega
  have c1 : q1 * 2 ^ 16 < 2 ^ 31 := Nat.lt_of_lt_of_le (Nat.mul_lt_mul_of_pos_right h1 (by decide)) (by decide)
  have c2 : q2 * 2 ^ 8 < 2 ^ 31 := Nat.lt_of_lt_of_le (Nat.mul_lt_mul_of_pos_right h2 (by decide)) (by decide)
  have c3 : q3 < 2 ^ 31 := by omega
  have o1 := Nat.or_lt_two_pow b0 b1
  have o2 := Nat.or_lt_two_pow o1 b2
  have up : ∀ x : Nat, x < 2 ^ 32 → x < 2 ^ 64 := fun x hx => by omega
  have e0 : (nI q0).toInt64 <<< ((24 : Int32).toInt64 &&& 63) = lN (q0 * 2 ^ 24) := by
    rw [nI_l (by omega)]
    exact wb_shl q0 (k := 24) (by decide)
  have f0 : nI q0 <<< ((24 : Int32) &&& 31) = nI (q0 * 2 ^ 24) := pk_shlN _ 24 (by decide) b0
  have f1 : nI q1 <<< ((16 : Int32) &&& 31) = nI (q1 * 2 ^ 16) := pk_shlN _ 16 (by decide) b1
  have f2 : nI q2 <<< ((8 : Int32) &&& 31) = nI (q2 * 2 ^ 8) := pk_shlN _ 8 (by decide) b2
  rw [e0, f0, f1, f2, nI_l c1, nI_l c2, nI_l c3, wb_or (up _ b0) (up _ b1), wb_or (up _ o1) (up _ b2), wb_or (up _ o2) (up _ b3)]
  unfold sk_z
  rw [Int32.toBitVec_or, Int32.toBitVec_or, Int32.toBitVec_or, BitVec.toNat_or, BitVec.toNat_or, BitVec.toNat_or, pk_tn b0, pk_tn b1, pk_tn b2, pk_tn b3]
theorem sk_c1 : (1518500249 : Int64) = sk_z 1518500249 := by decide
theorem sk_c2 : (1859775393 : Int64) = sk_z 1859775393 := by decide
theorem sk_c3 : (2400959708 : Int64) = sk_z (-1894007588) := by decide
theorem sk_c4 : (3395469782 : Int64) = sk_z (-899497514) := by decide
theorem sk_i0 : (1732584193 : Int64) = sk_z 1732584193 := by decide
theorem sk_i1 : (4023233417 : Int64) = sk_z (-271733879) := by decide
theorem sk_i2 : (2562383102 : Int64) = sk_z (-1732584194) := by decide
theorem sk_i3 : (271733878 : Int64) = sk_z 271733878 := by decide
theorem sk_i4 : (3285377520 : Int64) = sk_z (-1009589776) := by decide
end
section
/-! X: compress -/
abbrev sk_U (s : sk_T) (cn : Int64) (fi : Int32) (bl w : Nat → Int32) : SX := (s.1, s.2.1, s.2.2.1, s.2.2.2.1, s.2.2.2.2, cn, fi, bl, w)
theorem sk_x200 {post : SX → Prop} {J : Int32 → Int32 → Int32 → Int32 → Int32 → Int32 → (Nat → Int32) → (Nat → Int32) → Prop} {a b c d e : Int32} {t : Nat} (ht : t < 80) {h0 h1 h2 h3 h4 : Int32} {cn : Int64} {fi : Int32} {bl w : Nat → Int32} {v : Int32} (hw : w (t % 16) = v)
    (hJ : J ((((sk_r5 a + sk_f t b c d) + e) + sk_k t) + v) a (sk_r30 b) c d (nI (t + 1)) bl w) :
    wX_compress_200 post J a b c d e (nI t) (nI (t % 16)) h0 h1 h2 h3 h4 cn fi bl w := by
  have h9 : ∀ f k : Int32, f = sk_f t b c d → k = sk_k t → wX_compress_289 post J a b c d e (nI t) (nI (t % 16)) f k h0 h1 h2 h3 h4 cn fi bl w := by
    intro f k hf hk
    subst hf hk
    unfold wX_compress_289
    refine And.intro (vp_in_nI (by omega) (by decide)) ?_
    intro x ex y ey z ez
    rw [nI_clamp (by omega), hw] at ex
    rw [nI_1] at ez
    subst ex ey ez
    exact hJ
  unfold wX_compress_200
  refine pk_le 20 t (fun g1 => pk_le 40 t (fun g2 => pk_le 60 t (fun g3 => ?_) (fun g3 => ?_)) (fun g2 => ?_)) (fun g1 => ?_)
  · exact fun x ex => h9 _ _ (by rw [ex, sk_f, if_neg (by omega), if_neg (by omega), if_neg (by omega)]) (by rw [sk_k, if_neg (by omega), if_neg (by omega), if_neg (by omega)])
  · exact fun x ex => h9 _ _ (by rw [ex, sk_f, if_neg (by omega), if_neg (by omega), if_pos (by omega)]) (by rw [sk_k, if_neg (by omega), if_neg (by omega), if_pos (by omega)])
  · exact fun x ex => h9 _ _ (by rw [ex, sk_f, if_neg (by omega), if_pos (by omega)]) (by rw [sk_k, if_neg (by omega), if_pos (by omega)])
  · exact fun x ex => h9 _ _ (by rw [ex, sk_f, if_pos (by omega)]) (by rw [sk_k, if_pos (by omega)])
def sk_inv (g : Nat → Int32) (t : Nat) (w : Nat → Int32) : Prop := ∀ j, (j < t ∨ j < 16) → t ≤ j + 16 → w (j % 16) = sk_W g j
theorem sk_m15 {t : Nat} (m c : Nat) (ht : t < 2 ^ 20) (hc : c < 16) (e : (t + c) % 16 = m) : (nI t + nI c) &&& 15 = nI m := by
  rw [nI_add, pk_andN (m := 15) (by omega) 4 (by decide)]
  exact congrArg nI (by omega)
theorem sk_x112 (g : Nat → Int32) (s : sk_T) (cn : Int64) (fi : Int32) (bl : Nat → Int32) : ∀ (d t : Nat) (w : Nat → Int32), t + d = 80 → sk_inv g t w →
    ∃ w' : Nat → Int32, ∀ post : SX → Prop, post (sk_U (sk_C g s) cn fi bl w') →
      wX_compress_112 post s.1 s.2.1 s.2.2.1 s.2.2.2.1 s.2.2.2.2 cn fi (d + 1) (sk_R g s t).1 (sk_R g s t).2.1 (sk_R g s t).2.2.1 (sk_R g s t).2.2.2.1 (sk_R g s t).2.2.2.2 (nI t) bl w := by
  intro d
  induction d with
  | zero =>
    intro t w ht hi
    obtain rfl : t = 80 := by omega
    refine ⟨w, fun post hp => ?_⟩
    have hp' : post (s.1 + (sk_R g s 80).1, s.2.1 + (sk_R g s 80).2.1, s.2.2.1 + (sk_R g s 80).2.2.1, s.2.2.2.1 + (sk_R g s 80).2.2.2.1, s.2.2.2.2 + (sk_R g s 80).2.2.2.2, cn, fi, bl, w) := hp
    generalize sk_R g s 80 = r at hp'
    refine br_t (nI_le (Nat.le_refl 80) (by decide)) ?_
    intro x1 e1 x2 e2 x3 e3 x4 e4 x5 e5
    subst e1 e2 e3 e4 e5
    exact hp'
  | succ d ih =>
    intro t w ht hi
    have ht' : t < 80 := by omega
    have em : nI t &&& 15 = nI (t % 16) := pk_andN (by omega) 4 (by decide)
    have h80 : ¬ (80 : Int32) ≤ nI t := nI_ge (b := 80) ht' (by decide)
    by_cases z : t < 16
    · have hw : w (t % 16) = sk_W g t := hi t (Or.inr z) (by omega)
      have hi' : sk_inv g (t + 1) w := fun j hj hj2 => hi j (by omega) (by omega)
      obtain ⟨w', hw'⟩ := ih (t + 1) w (by omega) hi'
      refine ⟨w', fun post hp => ?_⟩
      refine br_f h80 (nm_r em (br_t (nI_lt (b := 16) z (by decide)) (sk_x200 ht' hw ?_)))
      exact hw' post hp
    · have r3 : w ((t - 3) % 16) = sk_W g (t - 3) := hi (t - 3) (by omega) (by omega)
      have r8 : w ((t - 8) % 16) = sk_W g (t - 8) := hi (t - 8) (by omega) (by omega)
      have r14 : w ((t - 14) % 16) = sk_W g (t - 14) := hi (t - 14) (by omega) (by omega)
      have r16 : w (t % 16) = sk_W g (t - 16) := by
        have := hi (t - 16) (by omega) (by omega)
        rw [← this]
        exact congrArg w (by omega)
      have m3 : (nI (t % 16) + 13) &&& 15 = nI ((t - 3) % 16) := sk_m15 _ 13 (by omega) (by decide) (by omega)
      have m8 : (nI (t % 16) + 8) &&& 15 = nI ((t - 8) % 16) := sk_m15 _ 8 (by omega) (by decide) (by omega)
      have m14 : (nI (t % 16) + 2) &&& 15 = nI ((t - 14) % 16) := sk_m15 _ 2 (by omega) (by decide) (by omega)
      have hi' : sk_inv g (t + 1) (upd w (t % 16) (sk_W g t)) := by
        intro j hj hj2
        by_cases e : j = t
        · rw [e, pk_us]
        · rw [pk_un (by omega)]
          exact hi j (by omega) (by omega)
      obtain ⟨w', hw'⟩ := ih (t + 1) _ (by omega) hi'
      refine ⟨w', fun post hp => ?_⟩
      refine br_f h80 (nm_r em (br_f (nI_nlt (b := 16) (by omega) (by omega)) ?_))
      rw [m3, m8, m14, nI_clamp (by omega), nI_clamp (by omega), nI_clamp (by omega), nI_clamp (by omega), r3, r8, r14, r16]
      refine And.intro (vp_in_nI (by omega) (by decide)) (And.intro (vp_in_nI (by omega) (by decide)) (And.intro (vp_in_nI (by omega) (by decide)) (And.intro (vp_in_nI (by omega) (by decide)) ?_)))
      intro x ex
      refine And.intro (vp_in_nI (by omega) (by decide)) ?_
      intro a ea
      have ea' : a = upd w (t % 16) (sk_W g t) := by
        rw [ea, ex, sk_W_hi (t := t) (by omega)]
        rfl
      subst ea'
      exact sk_x200 ht' pk_us (hw' post hp)
theorem sk_x2 (s : sk_T) (cn : Int64) (fi : Int32) (bl : Nat → Int32) : ∀ (d i : Nat) (w : Nat → Int32), i + d = 16 → (∀ j, j < i → w j = sk_ld (fun j => bl j &&& 255) j) →
    ∃ w' : Nat → Int32, ∀ post : SX → Prop, post (sk_U (sk_C (fun j => bl j &&& 255) s) cn fi bl w') →
      wX_compress_2 post s.1 s.2.1 s.2.2.1 s.2.2.2.1 s.2.2.2.2 cn fi (d + 1) (nI i) bl w := by
  intro d
  induction d with
  | zero =>
    intro i w hi hw
    obtain rfl : i = 16 := by omega
    obtain ⟨w', hw'⟩ := sk_x112 (fun j => bl j &&& 255) s cn fi bl 80 0 w (by omega) (by
      intro j hj _
      rw [Nat.mod_eq_of_lt (by omega), sk_W_lo (by omega)]
      exact hw j (by omega))
    refine ⟨w', fun post hp => ?_⟩
    exact br_t (nI_le (Nat.le_refl 16) (by decide)) ⟨81, hw' post hp⟩
  | succ d ih =>
    intro i w hi hw
    have e2 : nI i <<< ((2 : Int32) &&& 31) = nI (4 * i) := by
      rw [pk_shlN ((2 : Int32) &&& 31) 2 (by decide) (by omega)]
      exact congrArg nI (by omega)
    have a1 : nI (4 * i) + 1 = nI (4 * i + 1) := nI_1 _
    have a2 : nI (4 * i) + 2 = nI (4 * i + 2) := nI_add _ 2
    have a3 : nI (4 * i) + 3 = nI (4 * i + 3) := nI_add _ 3
    obtain ⟨w', hw'⟩ := ih (i + 1) (upd w i (sk_ld (fun j => bl j &&& 255) i)) (by omega) (by
      intro j hj
      by_cases e : j = i
      · rw [e, pk_us]
      · rw [pk_un e]
        exact hw j (by omega))
    refine ⟨w', fun post hp => ?_⟩
    refine br_f (nI_ge (b := 16) (by omega) (by decide)) (nm_r e2 ?_)
    rw [a1, a2, a3, nI_clamp (by omega), nI_clamp (by omega), nI_clamp (by omega), nI_clamp (by omega), nI_clamp (by omega)]
    refine And.intro (vp_in_nI (by omega) (by decide)) (And.intro (vp_in_nI (by omega) (by decide)) (And.intro (vp_in_nI (by omega) (by decide)) (And.intro (vp_in_nI (by omega) (by decide)) (And.intro (vp_in_nI (by omega) (by decide)) ?_))))
    intro a ea x ex
    rw [nI_1] at ex
    subst ex
    have ea' : a = upd w i (sk_ld (fun j => bl j &&& 255) i) := ea
    subst ea'
    exact hw' post hp
theorem sk_xc (s : sk_T) (cn : Int64) (fi : Int32) (bl w : Nat → Int32) : ∃ w' : Nat → Int32, ∀ post : SX → Prop, post (sk_U (sk_C (fun j => bl j &&& 255) s) cn fi bl w') → wpX_compress post (sk_U s cn fi bl w) := by
  obtain ⟨w', hw'⟩ := sk_x2 s cn fi bl 16 0 w (by omega) (fun j hj => absurd hj (by omega))
  exact ⟨w', fun post hp => ⟨17, hw' post hp⟩⟩
end
section
/-! Y: block -/
def sk_H (h : Nat → Int64) (s : sk_T) : Prop := h 0 = sk_z s.1 ∧ h 1 = sk_z s.2.1 ∧ h 2 = sk_z s.2.2.1 ∧ h 3 = sk_z s.2.2.2.1 ∧ h 4 = sk_z s.2.2.2.2
theorem sk_y398 (nn : Int64) (bk dn : Int32) (msg pad : Nat → Int32) (w : Nat → Int64) : ∀ (d i : Nat) (h : Nat → Int64), i + d = 5 →
    ∃ h' : Nat → Int64, (∀ j, j < 5 → h' j = if i ≤ j then h j - h j / 4294967296 * 4294967296 else h j) ∧
      ∀ post : SY → Prop, post (nn, bk, dn, msg, pad, w, h') → wY_block_398 post nn bk dn (d + 1) (nI i) msg pad w h := by
  intro d
  induction d with
  | zero =>
    intro i h hi
    obtain rfl : i = 5 := by omega
    exact ⟨h, fun j hj => (if_neg (by omega)).symm, fun post hp => br_t (nI_le (Nat.le_refl 5) (by decide)) hp⟩
  | succ d ih =>
    intro i h hi
    obtain ⟨h', e', hw⟩ := ih (i + 1) (vp_updL h i (h i - h i / 4294967296 * 4294967296)) (by omega)
    refine ⟨h', fun j hj => ?_, fun post hp => ?_⟩
    · rw [e' j hj]
      by_cases z : j = i
      · subst z
        rw [if_neg (by omega), if_pos (Nat.le_refl j), pk_uLs]
      · by_cases y : i ≤ j
        · rw [if_pos (by omega), if_pos y, pk_uLn z]
        · rw [if_neg (by omega), if_neg y, pk_uLn z]
    · refine br_f (nI_ge (b := 5) (by omega) (by decide)) ?_
      rw [nI_clamp (by omega)]
      refine And.intro (vp_in_nI (by omega) (by decide)) (And.intro (by decide) (And.intro (vp_in_nI (by omega) (by decide)) ?_))
      intro a ea x ex
      rw [nI_1] at ex
      subst ex ea
      exact hw post hp
theorem sk_y183 {post : SY → Prop} {J : Int64 → Int64 → Int64 → Int64 → Int64 → Int32 → (Nat → Int32) → (Nat → Int32) → (Nat → Int64) → (Nat → Int64) → Prop} {x1 : Int32} {a b c d e : Int32} {t : Nat} (ht : t < 80) {x : Int32} {nn : Int64} {bk dn : Int32} {msg pad : Nat → Int32} {w h : Nat → Int64}
    (hJ : J (sk_z ((((sk_r5 a + sk_f t b c d) + e) + sk_k t) + x)) (sk_z a) (sk_z (sk_r30 b)) (sk_z c) (sk_z d) (nI (t + 1)) msg pad w h) :
    wY_block_183 post J x1 (sk_z a) (sk_z b) (sk_z c) (sk_z d) (sk_z e) (nI t) (sk_z x) nn bk dn msg pad w h := by
  have h9 : ∀ f k : Int64, f = sk_z (sk_f t b c d) → k = sk_z (sk_k t) → wY_block_289 post J x1 (sk_z a) (sk_z b) (sk_z c) (sk_z d) (sk_z e) (nI t) (sk_z x) f k nn bk dn msg pad w h := by
    intro f k hf hk
    subst hf hk
    unfold wY_block_289
    refine sk_y5 ?_
    refine And.intro (by decide) (nm_r (sk_z_sum _ _ _ _ _) ?_)
    refine sk_y30 ?_
    exact nm_r (nI_1 t) hJ
  unfold wY_block_183
  refine pk_le 20 t (fun g1 => pk_le 40 t (fun g2 => pk_le 60 t (fun g3 => ?_) (fun g3 => ?_)) (fun g2 => ?_)) (fun g1 => ?_)
  · exact fun y ey => h9 _ _ (by rw [ey, sk_z_xor, sk_z_xor, sk_f, if_neg (by omega), if_neg (by omega), if_neg (by omega)]) (by rw [sk_k, if_neg (by omega), if_neg (by omega), if_neg (by omega)]; exact sk_c4)
  · exact fun y ey => h9 _ _ (by rw [ey, sk_z_and, sk_z_and, sk_z_and, sk_z_xor, sk_z_xor, sk_f, if_neg (by omega), if_neg (by omega), if_pos (by omega)]) (by rw [sk_k, if_neg (by omega), if_neg (by omega), if_pos (by omega)]; exact sk_c3)
  · exact fun y ey => h9 _ _ (by rw [ey, sk_z_xor, sk_z_xor, sk_f, if_neg (by omega), if_pos (by omega)]) (by rw [sk_k, if_neg (by omega), if_pos (by omega)]; exact sk_c2)
  · exact fun y ey => h9 _ _ (by rw [ey, sk_z_na, sk_z_and, sk_z_xor, sk_f, if_pos (by omega)]) (by rw [sk_k, if_pos (by omega)]; exact sk_c1)
def sk_h5 (h : Nat → Int64) (x0 x1 x2 x3 x4 : Int64) : Nat → Int64 := vp_updL (vp_updL (vp_updL (vp_updL (vp_updL h 0 (h 0 + x0)) 1 (h 1 + x1)) 2 (h 2 + x2)) 3 (h 3 + x3)) 4 (h 4 + x4)
theorem sk_h5_0 (h : Nat → Int64) (x0 x1 x2 x3 x4 : Int64) : sk_h5 h x0 x1 x2 x3 x4 0 = h 0 + x0 := by
  unfold sk_h5
  rw [pk_uLn (by decide), pk_uLn (by decide), pk_uLn (by decide), pk_uLn (by decide), pk_uLs]
theorem sk_h5_1 (h : Nat → Int64) (x0 x1 x2 x3 x4 : Int64) : sk_h5 h x0 x1 x2 x3 x4 1 = h 1 + x1 := by
  unfold sk_h5
  rw [pk_uLn (by decide), pk_uLn (by decide), pk_uLn (by decide), pk_uLs]
theorem sk_h5_2 (h : Nat → Int64) (x0 x1 x2 x3 x4 : Int64) : sk_h5 h x0 x1 x2 x3 x4 2 = h 2 + x2 := by
  unfold sk_h5
  rw [pk_uLn (by decide), pk_uLn (by decide), pk_uLs]
theorem sk_h5_3 (h : Nat → Int64) (x0 x1 x2 x3 x4 : Int64) : sk_h5 h x0 x1 x2 x3 x4 3 = h 3 + x3 := by
  unfold sk_h5
  rw [pk_uLn (by decide), pk_uLs]
theorem sk_h5_4 (h : Nat → Int64) (x0 x1 x2 x3 x4 : Int64) : sk_h5 h x0 x1 x2 x3 x4 4 = h 4 + x4 := by
  unfold sk_h5
  rw [pk_uLs]
theorem sk_y42 (g : Nat → Int32) (s : sk_T) (off : Nat) (nn : Int64) (bk dn : Int32) (msg pad : Nat → Int32) (h : Nat → Int64) (ho : off + 64 ≤ 192) (hg : ∀ j, j < 64 → pad (off + j) = g j) (hb : ∀ j, j < 64 → ∃ q : Nat, q < 256 ∧ g j = nI q) (hh : sk_H h s) :
    ∀ (d t : Nat) (w : Nat → Int64), t + d = 80 → (∀ j, j < t → w j = sk_z (sk_W g j)) →
    ∃ w' h' : Nat → Int64, sk_H h' (sk_C g s) ∧ ∀ post : SY → Prop, post (nn, bk, dn, msg, pad, w', h') →
      wY_block_42 post (nI off) nn bk dn (d + 1) (sk_z (sk_R g s t).1) (sk_z (sk_R g s t).2.1) (sk_z (sk_R g s t).2.2.1) (sk_z (sk_R g s t).2.2.2.1) (sk_z (sk_R g s t).2.2.2.2) (nI t) msg pad w h := by
  intro d
  induction d with
  | zero =>
    intro t w ht hw
    obtain rfl : t = 80 := by omega
    unfold sk_C
    generalize sk_R g s 80 = r
    obtain ⟨h0, h1, h2, h3, h4⟩ := hh
    obtain ⟨h', e', hp'⟩ := sk_y398 nn bk dn msg pad w 5 0 (sk_h5 h (sk_z r.1) (sk_z r.2.1) (sk_z r.2.2.1) (sk_z r.2.2.2.1) (sk_z r.2.2.2.2)) (by omega)
    refine ⟨w, h', ⟨?_, ?_, ?_, ?_, ?_⟩, fun post hp => ?_⟩
    · rw [e' 0 (by decide), if_pos (by decide), sk_h5_0, h0, sk_z_add]
      rfl
    · rw [e' 1 (by decide), if_pos (by decide), sk_h5_1, h1, sk_z_add]
      rfl
    · rw [e' 2 (by decide), if_pos (by decide), sk_h5_2, h2, sk_z_add]
      rfl
    · rw [e' 3 (by decide), if_pos (by decide), sk_h5_3, h3, sk_z_add]
      rfl
    · rw [e' 4 (by decide), if_pos (by decide), sk_h5_4, h4, sk_z_add]
      rfl
    · refine br_t (nI_le (Nat.le_refl 80) (by decide)) ?_
      intro a8 e8 a10 e10 a12 e12 a14 e14 a16 e16
      have f10 : a10 = vp_updL a8 1 (h 1 + sk_z r.2.1) := by
        rw [e10, e8, pk_uLn (by decide)]
      have f12 : a12 = vp_updL a10 2 (h 2 + sk_z r.2.2.1) := by
        rw [e12, f10, pk_uLn (by decide), e8, pk_uLn (by decide)]
      have f14 : a14 = vp_updL a12 3 (h 3 + sk_z r.2.2.2.1) := by
        rw [e14, f12, pk_uLn (by decide), f10, pk_uLn (by decide), e8, pk_uLn (by decide)]
      have f16 : a16 = vp_updL a14 4 (h 4 + sk_z r.2.2.2.2) := by
        rw [e16, f14, pk_uLn (by decide), f12, pk_uLn (by decide), f10, pk_uLn (by decide), e8, pk_uLn (by decide)]
      have f : a16 = sk_h5 h (sk_z r.1) (sk_z r.2.1) (sk_z r.2.2.1) (sk_z r.2.2.2.1) (sk_z r.2.2.2.2) := by
        rw [f16, f14, f12, f10, e8]
        rfl
      rw [f]
      exact ⟨6, hp' post hp⟩
  | succ d ih =>
    intro t w ht hw
    have ht' : t < 80 := by omega
    have h80 : ¬ (80 : Int32) ≤ nI t := nI_ge (b := 80) ht' (by decide)
    obtain ⟨w', h', hH, hp'⟩ := ih (t + 1) (vp_updL w t (sk_z (sk_W g t))) (by omega) (by
      intro j hj
      by_cases e : j = t
      · rw [e, pk_uLs]
      · rw [pk_uLn e]
        exact hw j (by omega))
    refine ⟨w', h', hH, fun post hp => ?_⟩
    by_cases z : 16 ≤ t
    · have m3 : nI t - 3 = nI (t - 3) := pk_sub (b := 3) (by omega)
      have m8 : nI t - 8 = nI (t - 8) := pk_sub (b := 8) (by omega)
      have m14 : nI t - 14 = nI (t - 14) := pk_sub (b := 14) (by omega)
      have m16 : nI t - 16 = nI (t - 16) := pk_sub (b := 16) (by omega)
      refine br_f h80 (br_t (nI_le (a := 16) z (by omega)) ?_)
      rw [m3, m8, m14, m16, nI_clamp (by omega), nI_clamp (by omega), nI_clamp (by omega), nI_clamp (by omega), nI_clamp (by omega), hw (t - 3) (by omega), hw (t - 8) (by omega), hw (t - 14) (by omega), hw (t - 16) (by omega), sk_z_xor, sk_z_xor, sk_z_xor]
      refine And.intro (vp_in_nI (by omega) (by decide)) (And.intro (vp_in_nI (by omega) (by decide)) (And.intro (vp_in_nI (by omega) (by decide)) (And.intro (vp_in_nI (by omega) (by decide)) ?_)))
      refine sk_y1 ?_
      rw [← sk_W_hi z]
      refine And.intro (vp_in_nI (by omega) (by decide)) ?_
      refine nm_e ?_
      exact sk_y183 ht' (hp' post hp)
    · have m4 : nI off + 4 * nI t = nI (off + 4 * t) := by
        have e4 : (4 : Int32) * nI t = nI (4 * t) := pk_mul 4 t
        rw [e4, nI_add]
      have a1 : nI (off + 4 * t) + 1 = nI (off + 4 * t + 1) := nI_1 _
      have a2 : nI (off + 4 * t) + 2 = nI (off + 4 * t + 2) := nI_add _ 2
      have a3 : nI (off + 4 * t) + 3 = nI (off + 4 * t + 3) := nI_add _ 3
      obtain ⟨q0, l0, g0⟩ := hb (4 * t) (by omega)
      obtain ⟨q1, l1, g1⟩ := hb (4 * t + 1) (by omega)
      obtain ⟨q2, l2, g2⟩ := hb (4 * t + 2) (by omega)
      obtain ⟨q3, l3, g3⟩ := hb (4 * t + 3) (by omega)
      have p0 : pad (off + 4 * t) = nI q0 := by rw [hg (4 * t) (by omega), g0]
      have p1 : pad (off + 4 * t + 1) = nI q1 := by rw [Nat.add_assoc, hg (4 * t + 1) (by omega), g1]
      have p2 : pad (off + 4 * t + 2) = nI q2 := by rw [Nat.add_assoc, hg (4 * t + 2) (by omega), g2]
      have p3 : pad (off + 4 * t + 3) = nI q3 := by rw [Nat.add_assoc, hg (4 * t + 3) (by omega), g3]
      have eL : sk_W g t = (((nI q0 <<< ((24 : Int32) &&& 31)) ||| (nI q1 <<< ((16 : Int32) &&& 31))) ||| (nI q2 <<< ((8 : Int32) &&& 31))) ||| nI q3 := by
        rw [sk_W_lo (by omega)]
        unfold sk_ld
        rw [g0, g1, g2, g3]
      refine br_f h80 (br_f (nI_ge (b := 16) (by omega) (by decide)) (nm_r m4 ?_))
      rw [a1, a2, a3, nI_clamp (by omega), nI_clamp (by omega), nI_clamp (by omega), nI_clamp (by omega), nI_clamp (by omega), p0, p1, p2, p3, sk_z_ld l0 l1 l2 l3, ← eL]
      refine And.intro (vp_in_nI (by omega) (by decide)) (And.intro (vp_in_nI (by omega) (by decide)) (And.intro (vp_in_nI (by omega) (by decide)) (And.intro (vp_in_nI (by omega) (by decide)) (And.intro (vp_in_nI (by omega) (by decide)) ?_))))
      refine nm_e (nm_e ?_)
      exact sk_y183 ht' (hp' post hp)
theorem sk_yb (g : Nat → Int32) (s : sk_T) (off : Nat) (nn : Int64) (bk dn : Int32) (msg pad : Nat → Int32) (w h : Nat → Int64) (ho : off + 64 ≤ 192) (hg : ∀ j, j < 64 → pad (off + j) = g j) (hb : ∀ j, j < 64 → ∃ q : Nat, q < 256 ∧ g j = nI q) (hh : sk_H h s) :
    ∃ w' h' : Nat → Int64, sk_H h' (sk_C g s) ∧ ∀ post : SY → Prop, post (nn, bk, dn, msg, pad, w', h') → wpY_block post (nn, bk, dn, msg, pad, w, h) (nI off) := by
  obtain ⟨w', h', hH, hp'⟩ := sk_y42 g s off nn bk dn msg pad h ho hg hb hh 80 0 w (by omega) (fun j hj => absurd hj (by omega))
  refine ⟨w', h', hH, fun post hp => ?_⟩
  obtain ⟨h0, h1, h2, h3, h4⟩ := hh
  exact nm_r h0 (nm_r h1 (nm_r h2 (nm_r h3 (nm_r h4 ⟨81, hp' post hp⟩))))
end
section
/-! the relation while not finished; absorb and put -/
def sk_Op (n : Nat) (s : sk_T) (bl msg : Nat → Int32) : Prop :=
  s = sk_F (fun j => msg j &&& 255) (n / 64) ∧ ∀ j, j < n % 64 → bl j &&& 255 = msg (64 * (n / 64) + j) &&& 255
def sk_nx (n : Nat) (s : sk_T) (bl : Nat → Int32) : sk_T := if n % 64 = 63 then sk_C (fun j => bl j &&& 255) s else s
theorem sk_Op_s {n : Nat} {s : sk_T} {bl msg : Nat → Int32} {B M : Int32} (h : sk_Op n s bl msg) (e : B &&& 255 = M &&& 255) :
    sk_Op (n + 1) (sk_nx n s (upd bl (n % 64) B)) (upd bl (n % 64) B) (upd msg n M) := by
  obtain ⟨hs, hb⟩ := h
  have hF : sk_F (fun j => upd msg n M j &&& 255) (n / 64) = s := by
    rw [hs]
    refine sk_F_c _ (fun j hj => ?_)
    show upd msg n M j &&& 255 = msg j &&& 255
    rw [pk_un (by omega)]
  have hB : ∀ j, j < n % 64 + 1 → upd bl (n % 64) B j &&& 255 = upd msg n M (64 * (n / 64) + j) &&& 255 := by
    intro j hj
    by_cases z : j = n % 64
    · have z2 : 64 * (n / 64) + j = n := by omega
      rw [z2, z, pk_us, pk_us, e]
    · rw [pk_un z, pk_un (by omega)]
      exact hb j (by omega)
  unfold sk_nx
  by_cases z : n % 64 = 63
  · rw [if_pos z]
    have q1 : (n + 1) / 64 = n / 64 + 1 := by omega
    refine And.intro ?_ (fun j hj => absurd hj (by omega))
    rw [q1]
    show sk_C _ s = sk_C (fun j => upd msg n M (64 * (n / 64) + j) &&& 255) (sk_F (fun j => upd msg n M j &&& 255) (n / 64))
    rw [hF]
    exact sk_C_c (fun j hj => hB j (by omega)) s
  · rw [if_neg z]
    have q1 : (n + 1) / 64 = n / 64 := by omega
    refine And.intro ?_ ?_
    · rw [q1, hF]
    · intro j hj
      rw [q1]
      exact hB j (by omega)
theorem sk_sh255 (x : Int32) : x.toInt16.toInt32 &&& 255 = x &&& 255 := by
  apply Int32.toBitVec_inj.mp
  rw [Int32.toBitVec_and, Int32.toBitVec_and, Int16.toBitVec_toInt32, Int32.toBitVec_toInt16]
  apply BitVec.eq_of_getLsbD_eq
  intro i hi
  rw [BitVec.getLsbD_and, BitVec.getLsbD_and]
  have hm : ∀ i < 32, 8 ≤ i → (255 : Int32).toBitVec.getLsbD i = false := by decide
  rcases Nat.lt_or_ge i 8 with z | z
  · have z2 : i < 16 := by omega
    rw [BitVec.getLsbD_signExtend, BitVec.getLsbD_signExtend, if_pos z2, if_pos hi]
    simp only [z2, hi, decide_true, Bool.true_and]
  · rw [hm i hi z]; simp
theorem sk_by255 (x : Int32) : vp_nar .byte x.toInt8.toInt32 &&& 255 = x &&& 255 := by rw [pk_vb, bp_b]
theorem sk_st255 (x : Int32) : vp_nar .short x.toInt16.toInt32 &&& 255 = x &&& 255 := by rw [pk_vs, sk_sh255]
theorem sk_255 (x : Int32) : (x &&& 255) &&& 255 = x &&& 255 := by rw [Int32.and_assoc]; rfl
theorem sk_cnt {n : Nat} (hn : n < 2 ^ 31) : (lN n &&& 63).toInt32 = nI (n % 64) := by
  have e : lN n &&& 63 = lN (n % 64) := wb_mask (k := 6) (by omega) (by decide)
  rw [e, lN_i]
theorem sk_rem {n : Nat} (hn : n < 2 ^ 31) : (lN n - lN n / 64 * 64).toInt32 = nI (n % 64) := by
  have e : lN n - lN n / 64 * 64 = lN (n % 64) := pk_lRem (b := 64) (by omega) (by decide) (by decide)
  rw [e, lN_i]
theorem sk_xa (s : sk_T) {n : Nat} (hn : n < 2 ^ 31) (fi : Int32) (bl w : Nat → Int32) (o : Int32) :
    ∃ w' : Nat → Int32, ∀ post : SX → Prop, post (sk_U (sk_nx n s (upd bl (n % 64) (vp_nar .byte o.toInt8.toInt32))) (lN (n + 1)) fi (upd bl (n % 64) (vp_nar .byte o.toInt8.toInt32)) w') → wpX_absorb post (sk_U s (lN n) fi bl w) o := by
  have ec := sk_cnt hn
  by_cases z : n % 64 = 63
  · obtain ⟨w', hw'⟩ := sk_xc s (lN (n + 1)) fi (upd bl (n % 64) (vp_nar .byte o.toInt8.toInt32)) w
    refine ⟨w', fun post hp => ?_⟩
    unfold sk_nx at hp
    rw [if_pos z] at hp
    refine nm_r ec ?_
    rw [nI_clamp (by omega)]
    refine And.intro (vp_in_nI (by omega) (by decide)) (nm_e (nm_r (lN_1 n) (br_t ?_ (hw' _ hp))))
    rw [z]
    rfl
  · refine ⟨w, fun post hp => ?_⟩
    unfold sk_nx at hp
    rw [if_neg z] at hp
    refine nm_r ec ?_
    rw [nI_clamp (by omega)]
    exact And.intro (vp_in_nI (by omega) (by decide)) (nm_e (nm_r (lN_1 n) (br_f (fun e => z ((nI_eq (b := 63) (by omega) (by decide)).mp e)) hp)))
theorem sk_yp {post : Int64 → SY → Prop} {n : Nat} (hn : n < 120) {bk dn : Int32} {msg pad : Nat → Int32} {w h : Nat → Int64} {p : Int32}
    (hp : post (lN (n + 1)) (lN (n + 1), bk, dn, upd msg n (vp_nar .short p.toInt16.toInt32), pad, w, h)) : wpY_put post (lN n, bk, dn, msg, pad, w, h) p := by
  unfold wpY_put
  dsimp only
  rw [lN_i, nI_clamp (by omega), lN_1]
  exact And.intro (vp_in_nI hn (by decide)) (nm_e (nm_e hp))
/-! the relation -/
/-- not finished; or finished: the five words agree -/
def i_Rel (_ : Nat) (u : SX) (v : SY) : Prop :=
  ∃ (n : Nat) (s : sk_T) (bl w : Nat → Int32) (bk : Int32) (msg pad : Nat → Int32) (wy h : Nat → Int64), n ≤ 120 ∧
    ((u = sk_U s (lN n) 0 bl w ∧ v = (lN n, bk, 0, msg, pad, wy, h) ∧ sk_Op n s bl msg) ∨
      (u = sk_U s (lN n) 1 bl w ∧ v = (lN n, bk, 1, msg, pad, wy, h) ∧ sk_H h s))
theorem sk_ro {k n : Nat} (hn : n ≤ 120) {s : sk_T} {bl w : Nat → Int32} {bk : Int32} {msg pad : Nat → Int32} {wy h : Nat → Int64} (ho : sk_Op n s bl msg) :
    i_Rel k (sk_U s (lN n) 0 bl w) (lN n, bk, 0, msg, pad, wy, h) := ⟨n, s, bl, w, bk, msg, pad, wy, h, hn, Or.inl ⟨rfl, rfl, ho⟩⟩
theorem sk_rc {k n : Nat} (hn : n ≤ 120) {s : sk_T} {bl w : Nat → Int32} {bk : Int32} {msg pad : Nat → Int32} {wy h : Nat → Int64} (ho : sk_H h s) :
    i_Rel k (sk_U s (lN n) 1 bl w) (lN n, bk, 1, msg, pad, wy, h) := ⟨n, s, bl, w, bk, msg, pad, wy, h, hn, Or.inr ⟨rfl, rfl, ho⟩⟩
theorem i_up {k : Nat} {u : SX} {v : SY} (h : i_Rel k u v) : i_Rel (k + 3) u v := h
theorem sk_iv0 (g : Nat → Int32) (bl msg : Nat → Int32) : sk_Op 0 sk_iv bl msg := And.intro rfl (fun j hj => absurd hj (by omega))
theorem i_vc0 : wpX_init (fun u => wpY_init (fun v => i_Rel 0 u v)) := sk_ro (k := 0) (n := 0) (s := sk_iv) (by decide) (sk_iv0 (fun _ => 0) _ _)
theorem i_vc_update {k : Nat} {u : SX} {v : SY} (I : i_Rel k u v) (hk : k + 3 ≤ 1536) (v1 : Int32) : wpX_update (fun r u' => wpY_update (fun r' v' => r' = r ∧ i_Rel (k + 3) u' v') v v1) u v1 := by
  obtain ⟨n, s, bl, w, bk, msg, pad, wy, h, hn, H | H⟩ := I
  · obtain ⟨rfl, rfl, ho⟩ := H
    refine br_t rfl ?_
    by_cases z : n < 120
    · have z' : lN n < 120 := (lN_lt (b := 120) (by omega) (by decide)).mpr z
      obtain ⟨w', hw'⟩ := sk_xa s (n := n) (by omega) 0 bl w (v1 &&& 255)
      refine br_t z' (hw' _ ?_)
      refine br_t rfl (br_t z' (sk_yp z ?_))
      refine And.intro (by decide) (And.intro ?_ ?_)
      · exact (sk_rem (by omega)).trans (sk_cnt (by omega)).symm
      · refine sk_ro (by omega) (sk_Op_s ho ?_)
        rw [sk_by255, sk_st255, sk_255]
    · have z' : ¬ lN n < 120 := fun e => z ((lN_lt (b := 120) (by omega) (by decide)).mp e)
      exact br_f z' (br_t rfl (br_f z' (And.intro rfl (sk_ro hn ho))))
  · obtain ⟨rfl, rfl, ho⟩ := H
    exact br_f (by decide) (br_f (by decide) (And.intro rfl (sk_rc hn ho)))
end
section
/-! updateLong -/
theorem sk_tbu (v : Int64) {k : Nat} (hk : k < 64) : ((v.toUInt64 >>> ((nI k).toInt64.toUInt64 &&& Int64.toUInt64 63)).toInt64).toBitVec = v.toBitVec >>> k := by
  obtain ⟨a, ha, rfl⟩ := wb_of v
  rw [wb_shr ha hk]
  apply BitVec.eq_of_toNat_eq
  rw [wb_tn (Nat.lt_of_le_of_lt (Nat.div_le_self _ _) ha), BitVec.toNat_ushiftRight, wb_tn ha, Nat.shiftRight_eq_div_pow]
theorem sk_tbl (v : Int64) {k : Nat} (hk : k < 64) : (v <<< ((nI k).toInt64 &&& 63)).toBitVec = v.toBitVec <<< k := by
  obtain ⟨a, ha, rfl⟩ := wb_of v
  rw [wb_shl a hk]
  apply BitVec.eq_of_toNat_eq
  rw [BitVec.toNat_shiftLeft, wb_tn ha, wb_tb, BitVec.toNat_ofNat, Nat.shiftLeft_eq]
def sk_rl (x : Int64) : Int64 := (x <<< ((8 : Int32).toInt64 &&& 63)) ||| ((x.toUInt64 >>> ((56 : Int32).toInt64.toUInt64 &&& Int64.toUInt64 63)).toInt64)
theorem sk_rb (x : Int64) {i : Nat} (hi : i < 64) : (sk_rl x).toBitVec.getLsbD i = if i < 8 then x.toBitVec.getLsbD (56 + i) else x.toBitVec.getLsbD (i - 8) := by
  have e1 : (x <<< ((8 : Int32).toInt64 &&& 63)).toBitVec = x.toBitVec <<< 8 := sk_tbl x (k := 8) (by decide)
  have e2 : ((x.toUInt64 >>> ((56 : Int32).toInt64.toUInt64 &&& Int64.toUInt64 63)).toInt64).toBitVec = x.toBitVec >>> 56 := sk_tbu x (k := 56) (by decide)
  unfold sk_rl
  rw [Int64.toBitVec_or, e1, e2, BitVec.getLsbD_or, BitVec.getLsbD_shiftLeft, BitVec.getLsbD_ushiftRight]
  by_cases z : i < 8
  · rw [if_pos z]
    simp only [z, hi, decide_true, Bool.not_true, Bool.and_false, Bool.false_and, Bool.false_or]
  · rw [if_neg z, BitVec.getLsbD_of_ge x.toBitVec (56 + i) (by omega)]
    simp only [z, hi, decide_true, decide_false, Bool.not_false, Bool.and_true, Bool.true_and, Bool.or_false]
def sk_at (v x : Int64) (d : Nat) : Prop := ∀ i, i < 64 → x.toBitVec.getLsbD i = v.toBitVec.getLsbD ((i + 8 * d) % 64)
theorem sk_at_s {v x : Int64} {d : Nat} (hd : d < 8) (h : sk_at v x (d + 1)) : sk_at v (sk_rl x) d := by
  intro i hi
  rw [sk_rb x hi]
  by_cases z : i < 8
  · rw [if_pos z, h (56 + i) (by omega)]
    exact congrArg _ (by omega)
  · rw [if_neg z, h (i - 8) (by omega)]
    exact congrArg _ (by omega)
theorem sk_lb {v x : Int64} {d : Nat} (hd : d < 8) (h : sk_at v x d) : x.toInt32 &&& 255 = ((v.toUInt64 >>> ((nI (8 * d)).toInt64.toUInt64 &&& Int64.toUInt64 63)).toInt64).toInt32 &&& 255 := by
  apply Int32.toBitVec_inj.mp
  rw [Int32.toBitVec_and, Int32.toBitVec_and, Int64.toBitVec_toInt32, Int64.toBitVec_toInt32, sk_tbu v (by omega)]
  apply BitVec.eq_of_getLsbD_eq
  intro i hi
  rw [BitVec.getLsbD_and, BitVec.getLsbD_and]
  have hm : ∀ i < 32, 8 ≤ i → (255 : Int32).toBitVec.getLsbD i = false := by decide
  rcases Nat.lt_or_ge i 8 with z | z
  · rw [BitVec.getLsbD_signExtend, BitVec.getLsbD_signExtend, if_pos (by omega), if_pos (by omega), BitVec.getLsbD_ushiftRight, h i (by omega), show (i + 8 * d) % 64 = 8 * d + i by omega]
  · rw [hm i hi z]; simp
def sk_sh : Nat → Int32
  | 0 => -8
  | d + 1 => nI (8 * d)
theorem sk_sh_s (d : Nat) : nI (8 * d) + (-8) = sk_sh d := by
  cases d with
  | zero => decide
  | succ d =>
    show nI (8 * d + 8) + (-8) = nI (8 * d)
    rw [← nI_add, Int32.add_assoc, show nI 8 + (-8) = 0 from by decide, Int32.add_zero]
theorem sk_ul (v : Int64) (bk : Int32) (pad : Nat → Int32) (wy h : Nat → Int64) : ∀ (d k n : Nat) (s : sk_T) (bl w msg : Nat → Int32) (x : Int64), k + d = 8 → n + d ≤ 120 → sk_at v x d → sk_Op n s bl msg →
    ∃ (s' : sk_T) (bl' w' msg' : Nat → Int32), sk_Op (n + d) s' bl' msg' ∧
      (∀ post : Int32 → SX → Prop, post (nI ((n + d) % 64)) (sk_U s' (lN (n + d)) 0 bl' w') → wX_updateLong_30 post v (d + 1) (sk_sh d) s.1 s.2.1 s.2.2.1 s.2.2.2.1 s.2.2.2.2 (lN n) 0 bl w) ∧
      (∀ post : Int32 → SY → Prop, post (nI ((n + d) % 64)) (lN (n + d), bk, 0, msg', pad, wy, h) → wY_updateLong_29 post (d + 1) x (nI k) (lN n) bk 0 msg pad wy h) := by
  intro d
  induction d with
  | zero =>
    intro k n s bl w msg x hk hn hx ho
    obtain rfl : k = 8 := by omega
    refine ⟨s, bl, w, msg, ho, fun post hp => ?_, fun post hp => ?_⟩
    · refine br_t (by decide) ?_
      rw [sk_cnt (by omega)]
      exact hp
    · refine br_t (nI_le (Nat.le_refl 8) (by decide)) (And.intro (by decide) ?_)
      rw [sk_rem (by omega)]
      exact hp
  | succ d ih =>
    intro k n s bl w msg x hk hn hx ho
    have hx' := sk_at_s (by omega) hx
    obtain ⟨w1, hw1⟩ := sk_xa s (n := n) (by omega) 0 bl w ((((v.toUInt64 >>> ((nI (8 * d)).toInt64.toUInt64 &&& Int64.toUInt64 63)).toInt64).toInt32) &&& 255)
    have ho' := sk_Op_s (B := vp_nar .byte ((((v.toUInt64 >>> ((nI (8 * d)).toInt64.toUInt64 &&& Int64.toUInt64 63)).toInt64).toInt32) &&& 255).toInt8.toInt32) (M := vp_nar .short (sk_rl x).toInt32.toInt16.toInt32) ho (by
      rw [sk_by255, sk_st255, sk_255]
      exact (sk_lb (by omega) hx').symm)
    obtain ⟨s', bl', w', msg', ho2, hX, hY⟩ := ih (k + 1) (n + 1) _ _ w1 _ _ (by omega) (by omega) hx' ho'
    rw [show n + 1 + d = n + (d + 1) by omega] at ho2 hX hY
    refine ⟨s', bl', w', msg', ho2, fun post hp => ?_, fun post hp => ?_⟩
    · refine br_f (nI_pos (n := 8 * d) (by omega)) (hw1 _ ?_)
      exact nm_r (sk_sh_s d) (hX post hp)
    · refine br_f (nI_ge (b := 8) (by omega) (by decide)) (nm_e (sk_yp (by omega) ?_))
      exact nm_r (nI_1 k) (hY post hp)
theorem i_vc_updateLong {k : Nat} {u : SX} {v : SY} (I : i_Rel k u v) (hk : k + 3 ≤ 1536) (a0 : Int64) : wpX_updateLong (fun r u' => wpY_updateLong (fun r' v' => r' = r ∧ i_Rel (k + 3) u' v') v a0) u a0 := by
  obtain ⟨n, s, bl, w, bk, msg, pad, wy, h, hn, H | H⟩ := I
  · obtain ⟨rfl, rfl, ho⟩ := H
    have e8 : lN n + 8 = lN (n + 8) := lN_add n 8
    refine br_t rfl ?_
    by_cases z : n + 8 ≤ 120
    · have z' : lN n + 8 ≤ 120 := by
        rw [e8]
        exact (lN_le (b := 120) (by omega) (by decide)).mpr z
      obtain ⟨s', bl', w', msg', ho2, hX, hY⟩ := sk_ul a0 bk pad wy h 8 0 n s bl w msg a0 (by omega) z (by
        intro i hi
        exact congrArg _ (by omega)) ho
      refine br_t z' ⟨9, hX _ ?_⟩
      exact br_t rfl (br_t z' ⟨9, hY _ (And.intro rfl (sk_ro z ho2))⟩)
    · have z' : ¬ lN n + 8 ≤ 120 := by
        rw [e8]
        exact fun e => z ((lN_le (b := 120) (by omega) (by decide)).mp e)
      exact br_f z' (br_t rfl (br_f z' (And.intro rfl (sk_ro hn ho))))
  · obtain ⟨rfl, rfl, ho⟩ := H
    exact br_f (by decide) (br_f (by decide) (And.intro rfl (sk_rc hn ho)))
end
section
/-! the padded message; X: finish -/
def sk_tot (n : Nat) : Nat := (n + 72) / 64 * 64
def sk_P (msg : Nat → Int32) (n j : Nat) : Int32 :=
  if j < n then msg j &&& 255 else if j = n then 128 else if j + 8 < sk_tot n then 0 else nI (8 * n / 2 ^ (8 * (sk_tot n - 1 - j)) % 256)
theorem sk_P_lo {msg : Nat → Int32} {n j : Nat} (h : j < n) : sk_P msg n j = msg j &&& 255 := by
  unfold sk_P
  rw [if_pos h]
theorem sk_P_n {msg : Nat → Int32} {n j : Nat} (h : j = n) : sk_P msg n j = 128 := by
  unfold sk_P
  rw [if_neg (by omega), if_pos h]
theorem sk_P_z {msg : Nat → Int32} {n j : Nat} (h : n < j) (h2 : j + 8 < sk_tot n) : sk_P msg n j = 0 := by
  unfold sk_P
  rw [if_neg (by omega), if_neg (by omega), if_pos h2]
theorem sk_P_l {msg : Nat → Int32} {n j : Nat} (h : n < j) (h2 : sk_tot n ≤ j + 8) : sk_P msg n j = nI (8 * n / 2 ^ (8 * (sk_tot n - 1 - j)) % 256) := by
  unfold sk_P
  rw [if_neg (by omega), if_neg (by omega), if_neg (by omega)]
theorem sk_and8 (x : Int32) : ∃ q : Nat, q < 256 ∧ x &&& 255 = nI q := pk_andE x 8 (by decide)
theorem sk_P_q (msg : Nat → Int32) (n j : Nat) : ∃ q : Nat, q < 256 ∧ sk_P msg n j = nI q := by
  unfold sk_P
  by_cases z : j < n
  · rw [if_pos z]
    exact sk_and8 _
  · rw [if_neg z]
    by_cases z2 : j = n
    · rw [if_pos z2]
      exact ⟨128, by decide, rfl⟩
    · rw [if_neg z2]
      by_cases z3 : j + 8 < sk_tot n
      · rw [if_pos z3]
        exact ⟨0, by decide, rfl⟩
      · rw [if_neg z3]
        exact ⟨_, Nat.mod_lt _ (by decide), rfl⟩
theorem sk_ans {n : Nat} (hn : n ≤ 120) : ((lN n + 72) / 64).toInt32 = nI ((n + 72) / 64) := by
  have e : lN n + 72 = lN (n + 72) := lN_add n 72
  have e2 : lN (n + 72) / 64 = lN ((n + 72) / 64) := pk_lDiv (b := 64) (by omega) (by decide) (by decide)
  rw [e, e2, lN_i]
theorem sk_lby {n i : Nat} (hn : n ≤ 120) (hi : i < 8) : vp_nar .byte ((((lN (8 * n)).toUInt64 >>> ((56 - (nI i <<< ((3 : Int32) &&& 31))).toInt64.toUInt64 &&& Int64.toUInt64 63)).toInt64).toInt32).toInt8.toInt32 &&& 255 = nI (8 * n / 2 ^ (56 - 8 * i) % 256) := by
  have e1 : nI i <<< ((3 : Int32) &&& 31) = nI (8 * i) := by
    rw [pk_shlN ((3 : Int32) &&& 31) 3 (by decide) (by omega)]
    exact congrArg nI (by omega)
  have e2 : (56 : Int32) - nI (8 * i) = nI (56 - 8 * i) := pk_sub (a := 56) (by omega)
  have hd : 8 * n / 2 ^ (56 - 8 * i) ≤ 8 * n := Nat.div_le_self _ _
  rw [sk_by255, e1, e2, wb_shr (by omega) (by omega), lN_i, pk_andN (m := 255) (by omega) 8 (by decide)]
theorem sk_x91 (s : sk_T) {n : Nat} (hn : n ≤ 120) (g : Nat → Int32) (hl : ∀ i, i < 8 → g (56 + i) = nI (8 * n / 2 ^ (56 - 8 * i) % 256)) : ∀ (d i : Nat) (bl w : Nat → Int32), i + d = 8 → (∀ j, j < 56 + i → bl j &&& 255 = g j) →
    ∃ bl' w' : Nat → Int32, ∀ post : Int32 → SX → Prop, post (nI ((n + 72) / 64)) (sk_U (sk_C g s) (lN n) 1 bl' w') →
      wX_finish_91 post (lN (8 * n)) s.1 s.2.1 s.2.2.1 s.2.2.2.1 s.2.2.2.2 (lN n) 0 (d + 1) (nI i) bl w := by
  intro d
  induction d with
  | zero =>
    intro i bl w hi hb
    obtain rfl : i = 8 := by omega
    obtain ⟨w', hw'⟩ := sk_xc s (lN n) 0 bl w
    rw [sk_C_c (g' := g) (fun j hj => hb j (by omega)) s] at hw'
    refine ⟨bl, w', fun post hp => ?_⟩
    refine br_t (nI_le (Nat.le_refl 8) (by decide)) (hw' _ (And.intro (by decide) ?_))
    rw [sk_ans hn]
    exact hp
  | succ d ih =>
    intro i bl w hi hb
    have e1 : 56 + nI i = nI (56 + i) := nI_add 56 i
    obtain ⟨bl', w', hp'⟩ := ih (i + 1) (upd bl (56 + i) (vp_nar .byte ((((lN (8 * n)).toUInt64 >>> ((56 - (nI i <<< ((3 : Int32) &&& 31))).toInt64.toUInt64 &&& Int64.toUInt64 63)).toInt64).toInt32).toInt8.toInt32)) w (by omega) (by
      intro j hj
      by_cases e : j = 56 + i
      · rw [e, pk_us, sk_lby hn (by omega), hl i (by omega)]
      · rw [pk_un e]
        exact hb j (by omega))
    refine ⟨bl', w', fun post hp => ?_⟩
    refine br_f (nI_ge (b := 8) (by omega) (by decide)) ?_
    rw [e1, nI_clamp (by omega)]
    exact And.intro (vp_in_nI (by omega) (by decide)) (nm_e (nm_r (nI_1 i) (hp' post hp)))
theorem sk_b0 : vp_nar .byte 0 &&& 255 = 0 := by
  rw [vp_nar_byte]
  decide
theorem sk_b80 : vp_nar .byte (-128) &&& 255 = 128 := by
  rw [vp_nar_byte]
  decide
theorem sk_x69 (s : sk_T) {n p : Nat} (hn : n ≤ 120) (g : Nat → Int32) (hz : ∀ j, p ≤ j → j < 56 → g j = 0) (hl : ∀ i, i < 8 → g (56 + i) = nI (8 * n / 2 ^ (56 - 8 * i) % 256)) : ∀ (d i : Nat) (bl w : Nat → Int32), i + d = 56 → p ≤ i → (∀ j, j < i → bl j &&& 255 = g j) →
    ∃ bl' w' : Nat → Int32, ∀ post : Int32 → SX → Prop, post (nI ((n + 72) / 64)) (sk_U (sk_C g s) (lN n) 1 bl' w') →
      wX_finish_69 post (lN (8 * n)) s.1 s.2.1 s.2.2.1 s.2.2.2.1 s.2.2.2.2 (lN n) 0 (d + 1) (nI i) bl w := by
  intro d
  induction d with
  | zero =>
    intro i bl w hi hp0 hb
    obtain rfl : i = 56 := by omega
    obtain ⟨bl', w', hp'⟩ := sk_x91 s hn g hl 8 0 bl w (by omega) hb
    exact ⟨bl', w', fun post hp => br_t (nI_le (Nat.le_refl 56) (by decide)) ⟨9, hp' post hp⟩⟩
  | succ d ih =>
    intro i bl w hi hp0 hb
    obtain ⟨bl', w', hp'⟩ := ih (i + 1) (upd bl i (vp_nar .byte 0)) w (by omega) (by omega) (by
      intro j hj
      by_cases e : j = i
      · rw [e, pk_us, sk_b0, hz i hp0 (by omega)]
      · rw [pk_un e]
        exact hb j (by omega))
    refine ⟨bl', w', fun post hp => ?_⟩
    refine br_f (nI_ge (b := 56) (by omega) (by decide)) ?_
    rw [nI_clamp (by omega)]
    exact And.intro (vp_in_nI (by omega) (by decide)) (nm_e (nm_r (nI_1 i) (hp' post hp)))
theorem sk_x44 (s : sk_T) {n p : Nat} (hn : n ≤ 120) (g1 g : Nat → Int32) (hz1 : ∀ j, p ≤ j → j < 64 → g1 j = 0) (hz : ∀ j, j < 56 → g j = 0) (hl : ∀ i, i < 8 → g (56 + i) = nI (8 * n / 2 ^ (56 - 8 * i) % 256)) : ∀ (d i : Nat) (bl w : Nat → Int32), i + d = 64 → p ≤ i → (∀ j, j < i → bl j &&& 255 = g1 j) →
    ∃ bl' w' : Nat → Int32, ∀ post : Int32 → SX → Prop, post (nI ((n + 72) / 64)) (sk_U (sk_C g (sk_C g1 s)) (lN n) 1 bl' w') →
      wX_finish_44 post (lN (8 * n)) s.1 s.2.1 s.2.2.1 s.2.2.2.1 s.2.2.2.2 (lN n) 0 (d + 1) (nI i) bl w := by
  intro d
  induction d with
  | zero =>
    intro i bl w hi hp0 hb
    obtain rfl : i = 64 := by omega
    obtain ⟨w1, hw1⟩ := sk_xc s (lN n) 0 bl w
    rw [sk_C_c (g' := g1) hb s] at hw1
    obtain ⟨bl', w', hp'⟩ := sk_x69 (p := 0) (sk_C g1 s) hn g (fun j _ hj => hz j hj) hl 56 0 bl w1 (by omega) (by omega) (fun j hj => absurd hj (by omega))
    exact ⟨bl', w', fun post hp => br_t (nI_le (Nat.le_refl 64) (by decide)) (hw1 _ ⟨57, hp' post hp⟩)⟩
  | succ d ih =>
    intro i bl w hi hp0 hb
    obtain ⟨bl', w', hp'⟩ := ih (i + 1) (upd bl i (vp_nar .byte 0)) w (by omega) (by omega) (by
      intro j hj
      by_cases e : j = i
      · rw [e, pk_us, sk_b0, hz1 i hp0 (by omega)]
      · rw [pk_un e]
        exact hb j (by omega))
    refine ⟨bl', w', fun post hp => ?_⟩
    refine br_f (nI_ge (b := 64) (by omega) (by decide)) ?_
    rw [nI_clamp (by omega)]
    exact And.intro (vp_in_nI (by omega) (by decide)) (nm_e (nm_r (nI_1 i) (hp' post hp)))
theorem sk_pow {a b : Nat} {x : Nat} (e : a = b) : x / 2 ^ a % 256 = x / 2 ^ b % 256 := by rw [e]
theorem sk_xf (s : sk_T) {n : Nat} (hn : n ≤ 120) (bl w msg : Nat → Int32) (ho : sk_Op n s bl msg) :
    ∃ bl' w' : Nat → Int32, ∀ post : Int32 → SX → Prop, post (nI ((n + 72) / 64)) (sk_U (sk_F (sk_P msg n) ((n + 72) / 64)) (lN n) 1 bl' w') → wpX_finish post (sk_U s (lN n) 0 bl w) := by
  obtain ⟨hs, hb⟩ := ho
  have e3 : lN n <<< ((3 : Int32).toInt64 &&& 63) = lN (8 * n) := by
    have e : lN n <<< ((3 : Int32).toInt64 &&& 63) = lN (n * 2 ^ 3) := wb_shl n (k := 3) (by decide)
    rw [e]
    exact congrArg lN (by omega)
  have ec := sk_cnt (n := n) (by omega)
  have hF : s = sk_F (sk_P msg n) (n / 64) := by
    rw [hs]
    exact sk_F_c _ (fun j hj => (sk_P_lo (by omega)).symm)
  have hb1 : ∀ j, j < n % 64 + 1 → upd bl (n % 64) (vp_nar .byte (-128)) j &&& 255 = sk_P msg n (64 * (n / 64) + j) := by
    intro j hj
    by_cases z : j = n % 64
    · rw [z, pk_us, sk_b80, sk_P_n (by omega)]
    · rw [pk_un z, hb j (by omega), sk_P_lo (by omega)]
  by_cases z : n % 64 + 1 ≤ 56
  · have hT : (n + 72) / 64 = n / 64 + 1 := by omega
    have ht : sk_tot n = 64 * (n / 64) + 64 := by
      unfold sk_tot
      omega
    obtain ⟨bl', w', hp'⟩ := sk_x69 (p := n % 64 + 1) s hn (fun j => sk_P msg n (64 * (n / 64) + j)) (fun j h1 h2 => sk_P_z (by omega) (by omega)) (fun i hi => by
      show sk_P msg n (64 * (n / 64) + (56 + i)) = _
      rw [sk_P_l (by omega) (by omega)]
      exact congrArg nI (sk_pow (by omega))) (56 - (n % 64 + 1)) (n % 64 + 1) (upd bl (n % 64) (vp_nar .byte (-128))) w (by omega) (Nat.le_refl _) hb1
    refine ⟨bl', w', fun post hp => ?_⟩
    have hp2 : post (nI ((n + 72) / 64)) (sk_U (sk_C (fun j => sk_P msg n (64 * (n / 64) + j)) s) (lN n) 1 bl' w') := by
      have e : sk_F (sk_P msg n) ((n + 72) / 64) = sk_C (fun j => sk_P msg n (64 * (n / 64) + j)) s := by
        rw [hT, hF]
        rfl
      rw [← e]
      exact hp
    refine br_t rfl (nm_r e3 (nm_r ec ?_))
    rw [nI_clamp (by omega)]
    exact And.intro (vp_in_nI (by omega) (by decide)) (nm_e (nm_r (nI_1 _) (br_t (nI_le (b := 56) z (by decide)) ⟨_, hp' post hp2⟩)))
  · have hT : (n + 72) / 64 = n / 64 + 1 + 1 := by omega
    have ht : sk_tot n = 64 * (n / 64) + 128 := by
      unfold sk_tot
      omega
    obtain ⟨bl', w', hp'⟩ := sk_x44 (p := n % 64 + 1) s hn (fun j => sk_P msg n (64 * (n / 64) + j)) (fun j => sk_P msg n (64 * (n / 64 + 1) + j)) (fun j h1 h2 => sk_P_z (by omega) (by omega)) (fun j h1 => sk_P_z (by omega) (by omega)) (fun i hi => by
      show sk_P msg n (64 * (n / 64 + 1) + (56 + i)) = _
      rw [sk_P_l (by omega) (by omega)]
      exact congrArg nI (sk_pow (by omega))) (64 - (n % 64 + 1)) (n % 64 + 1) (upd bl (n % 64) (vp_nar .byte (-128))) w (by omega) (Nat.le_refl _) hb1
    refine ⟨bl', w', fun post hp => ?_⟩
    have hp2 : post (nI ((n + 72) / 64)) (sk_U (sk_C (fun j => sk_P msg n (64 * (n / 64 + 1) + j)) (sk_C (fun j => sk_P msg n (64 * (n / 64) + j)) s)) (lN n) 1 bl' w') := by
      have e : sk_F (sk_P msg n) ((n + 72) / 64) = sk_C (fun j => sk_P msg n (64 * (n / 64 + 1) + j)) (sk_C (fun j => sk_P msg n (64 * (n / 64) + j)) s) := by
        rw [hT, hF]
        rfl
      rw [← e]
      exact hp
    refine br_t rfl (nm_r e3 (nm_r ec ?_))
    rw [nI_clamp (by omega)]
    exact And.intro (vp_in_nI (by omega) (by decide)) (nm_e (nm_r (nI_1 _) (br_f (nI_ge (b := n % 64 + 1) (a := 56) (by omega) (by omega)) ⟨_, hp' post hp2⟩)))
end
section
/-! Y: finish -/
theorem sk_y179 (P : Nat → Int32) {T : Nat} (hT : T ≤ 3) (nn : Int64) (dn : Int32) (msg pad : Nat → Int32) (hP : ∀ j, ∃ q : Nat, q < 256 ∧ P j = nI q) (hpad : ∀ j, j < T * 64 → pad j = P j) : ∀ (d b : Nat) (w h : Nat → Int64), b + d = T → sk_H h (sk_F P b) →
    ∃ w' h' : Nat → Int64, sk_H h' (sk_F P T) ∧ ∀ post : Int32 → SY → Prop, post (nI T) (nn, nI T, dn, msg, pad, w', h') → wY_finish_179 post (nI (T * 64)) (d + 1) nn (nI b) dn msg pad w h := by
  have eT : nI (T * 64) / 64 = nI T := by
    have e : nI (T * 64) / 64 = nI (T * 64 / 64) := pk_div (d := 64) (by omega) (by decide) (by decide)
    rw [e]
    exact congrArg nI (by omega)
  intro d
  induction d with
  | zero =>
    intro b w h hb hh
    obtain rfl : b = T := by omega
    refine ⟨w, h, hh, fun post hp => And.intro (by decide) ?_⟩
    rw [eT]
    exact br_t (nI_le (Nat.le_refl b) (by omega)) hp
  | succ d ih =>
    intro b w h hb hh
    have e6 : nI b <<< ((6 : Int32) &&& 31) = nI (64 * b) := by
      rw [pk_shlN ((6 : Int32) &&& 31) 6 (by decide) (by omega)]
      exact congrArg nI (by omega)
    obtain ⟨w1, h1, hH1, hp1⟩ := sk_yb (fun j => P (64 * b + j)) (sk_F P b) (64 * b) nn (nI (b + 1)) dn msg pad w h (by omega) (fun j hj => hpad _ (by omega)) (fun j hj => hP _) hh
    obtain ⟨w', h', hH, hp'⟩ := ih (b + 1) w1 h1 (by omega) hH1
    refine ⟨w', h', hH, fun post hp => And.intro (by decide) ?_⟩
    rw [eT]
    refine br_f (nI_ge (by omega) (by omega)) (nm_r (nI_1 b) ?_)
    rw [e6]
    exact hp1 _ (hp' post hp)
def sk_hi (h : Nat → Int64) : Nat → Int64 := vp_updL (vp_updL (vp_updL (vp_updL (vp_updL h 0 1732584193) 1 4023233417) 2 2562383102) 3 271733878) 4 3285377520
theorem sk_hi_H (h : Nat → Int64) : sk_H (sk_hi h) sk_iv := by
  unfold sk_hi
  refine ⟨?_, ?_, ?_, ?_, ?_⟩
  · rw [pk_uLn (by decide), pk_uLn (by decide), pk_uLn (by decide), pk_uLn (by decide), pk_uLs]
    exact sk_i0
  · rw [pk_uLn (by decide), pk_uLn (by decide), pk_uLn (by decide), pk_uLs]
    exact sk_i1
  · rw [pk_uLn (by decide), pk_uLn (by decide), pk_uLs]
    exact sk_i2
  · rw [pk_uLn (by decide), pk_uLs]
    exact sk_i3
  · rw [pk_uLs]
    exact sk_i4
theorem sk_c256 {m : Nat} (hm : m < 2 ^ 31) : vp_nar .char ((((lN m - lN m / 256 * 256).toInt32).toUInt32 % 65536).toInt32) = nI (m % 256) := by
  have e : lN m - lN m / 256 * 256 = lN (m % 256) := pk_lRem (b := 256) (by omega) (by decide) (by decide)
  rw [pk_vc, e, lN_i, pk_char, pk_tn (by omega)]
  exact congrArg nI (by omega)
theorem sk_cmsg (x : Int32) : vp_nar .char (((x &&& 255).toUInt32 % 65536).toInt32) = x &&& 255 := by
  obtain ⟨q, hq, e⟩ := sk_and8 x
  rw [pk_vc, pk_char, e, pk_tn (by omega)]
  exact congrArg nI (by omega)
theorem sk_c0 : vp_nar .char 0 = 0 := by
  rw [vp_nar_char]
  decide
theorem sk_c128 : vp_nar .char 128 = 128 := by
  rw [vp_nar_char]
  decide
theorem sk_y94 (P : Nat → Int32) {n T : Nat} (hn : n ≤ 120) (h1 : 1 ≤ T) (hT : T ≤ 3) (bk dn : Int32) (msg : Nat → Int32) (w h : Nat → Int64) (hP : ∀ j, ∃ q : Nat, q < 256 ∧ P j = nI q) (hl : ∀ k, k < 8 → P (T * 64 - 1 - k) = nI (8 * n / 2 ^ (8 * k) % 256)) : ∀ (d k : Nat) (pad : Nat → Int32), k + d = 8 → (∀ j, j < T * 64 → (T * 64 ≤ j + k ∨ j + 8 < T * 64) → pad j = P j) →
    ∃ (pad' : Nat → Int32) (w' h' : Nat → Int64), sk_H h' (sk_F P T) ∧ ∀ post : Int32 → SY → Prop, post (nI T) (lN n, nI T, dn, msg, pad', w', h') → wY_finish_94 post (nI (T * 64)) (lN n) bk dn (d + 1) (lN (8 * n / 2 ^ (8 * k))) (nI (T * 64 - 1 - k)) msg pad w h := by
  have e8 : nI (T * 64) - 8 = nI (T * 64 - 8) := pk_sub (b := 8) (by omega)
  intro d
  induction d with
  | zero =>
    intro k pad hk hpad
    obtain rfl : k = 8 := by omega
    obtain ⟨w', h', hH, hp'⟩ := sk_y179 P hT (lN n) dn msg pad hP (fun j hj => hpad j hj (by omega)) T 0 w (sk_hi h) (by omega) (sk_hi_H h)
    refine ⟨pad, w', h', hH, fun post hp => ?_⟩
    refine br_t ?_ (nm_e (nm_e (nm_e (nm_e (nm_e ⟨T + 1, hp' post hp⟩)))))
    rw [e8]
    exact nI_lt (by omega) (by omega)
  | succ d ih =>
    intro k pad hk hpad
    have hd : 8 * n / 2 ^ (8 * k) ≤ 8 * n := Nat.div_le_self _ _
    have ed : lN (8 * n / 2 ^ (8 * k)) / 256 = lN (8 * n / 2 ^ (8 * (k + 1))) := by
      have e : lN (8 * n / 2 ^ (8 * k)) / 256 = lN (8 * n / 2 ^ (8 * k) / 256) := pk_lDiv (b := 256) (by omega) (by decide) (by decide)
      rw [e, Nat.div_div_eq_div_mul, Nat.mul_add, Nat.pow_add]
    have em : nI (T * 64 - 1 - k) + (-1) = nI (T * 64 - 1 - (k + 1)) := by
      have e : T * 64 - 1 - k = T * 64 - 1 - (k + 1) + 1 := by omega
      rw [e, pk_m1]
    obtain ⟨pad', w', h', hH, hp'⟩ := ih (k + 1) (upd pad (T * 64 - 1 - k) (nI (8 * n / 2 ^ (8 * k) % 256))) (by omega) (by
      intro j hj hj2
      by_cases e : j = T * 64 - 1 - k
      · rw [e, pk_us, hl k (by omega)]
      · rw [pk_un e]
        exact hpad j hj (by omega))
    refine ⟨pad', w', h', hH, fun post hp => ?_⟩
    refine br_f ?_ ?_
    · rw [e8]
      exact nI_nlt (by omega) (by omega)
    · rw [sk_c256 (by omega), nI_clamp (by omega)]
      exact And.intro (by decide) (And.intro (vp_in_nI (by omega) (by decide)) (nm_e (And.intro (by decide) (nm_r ed (nm_r em (hp' post hp))))))
theorem sk_y34 (P : Nat → Int32) {n T : Nat} (hn : n ≤ 120) (h1 : n + 9 ≤ T * 64) (hT : T ≤ 3) (bk dn : Int32) (msg : Nat → Int32) (w h : Nat → Int64) (hP : ∀ j, ∃ q : Nat, q < 256 ∧ P j = nI q) (hl : ∀ k, k < 8 → P (T * 64 - 1 - k) = nI (8 * n / 2 ^ (8 * k) % 256)) (hm : ∀ j, j < n → P j = msg j &&& 255) (h80 : P n = 128) (hz : ∀ j, n < j → j + 8 < T * 64 → P j = 0) : ∀ (d i : Nat) (pad : Nat → Int32), i + d = T * 64 → (∀ j, j < i → pad j = if j < n then msg j &&& 255 else 0) →
    ∃ (pad' : Nat → Int32) (w' h' : Nat → Int64), sk_H h' (sk_F P T) ∧ ∀ post : Int32 → SY → Prop, post (nI T) (lN n, nI T, dn, msg, pad', w', h') → wY_finish_34 post (nI n) (nI (T * 64)) (lN n) bk dn (d + 1) (nI i) msg pad w h := by
  intro d
  induction d with
  | zero =>
    intro i pad hi hpad
    obtain rfl : i = T * 64 := by omega
    have e8 : lN n * 8 = lN (8 * n / 2 ^ (8 * 0)) := by
      have e : lN n * 8 = lN (n * 8) := lN_mul n 8
      rw [e]
      exact congrArg lN (by omega)
    have e1 : nI (T * 64) - 1 = nI (T * 64 - 1 - 0) := pk_sub (b := 1) (by omega)
    obtain ⟨pad', w', h', hH, hp'⟩ := sk_y94 P hn (by omega) hT bk dn msg w h hP hl 8 0 (upd pad n 128) (by omega) (by
      intro j hj hj2
      by_cases e : j = n
      · rw [e, pk_us, h80]
      · rw [pk_un e, hpad j hj]
        by_cases e2 : j < n
        · rw [if_pos e2, hm j e2]
        · rw [if_neg e2, hz j (by omega) (by omega)])
    refine ⟨pad', w', h', hH, fun post hp => ?_⟩
    refine br_t (nI_le (Nat.le_refl _) (by omega)) ?_
    rw [nI_clamp (by omega), sk_c128]
    exact And.intro (vp_in_nI (by omega) (by decide)) (nm_e (nm_r e8 (nm_r e1 ⟨9, hp' post hp⟩)))
  | succ d ih =>
    intro i pad hi hpad
    obtain ⟨pad', w', h', hH, hp'⟩ := ih (i + 1) (upd pad i (if i < n then msg i &&& 255 else 0)) (by omega) (by
      intro j hj
      by_cases e : j = i
      · rw [e, pk_us]
      · rw [pk_un e]
        exact hpad j (by omega))
    refine ⟨pad', w', h', hH, fun post hp => ?_⟩
    have hp2 := hp' post hp
    refine br_f (nI_ge (by omega) (by omega)) ?_
    by_cases z : i < n
    · rw [if_pos z] at hp2
      refine br_f (nI_ge z (by omega)) ?_
      rw [nI_clamp (by omega), sk_cmsg]
      exact And.intro (vp_in_nI (by omega) (by decide)) (And.intro (vp_in_nI (by omega) (by decide)) (nm_e (nm_r (nI_1 i) hp2)))
    · rw [if_neg z] at hp2
      refine br_t (nI_le (by omega) (by omega)) ?_
      rw [nI_clamp (by omega), sk_c0]
      exact And.intro (vp_in_nI (by omega) (by decide)) (nm_e (nm_r (nI_1 i) hp2))
theorem sk_yf {n : Nat} (hn : n ≤ 120) (bk : Int32) (msg pad : Nat → Int32) (w h : Nat → Int64) :
    ∃ (pad' : Nat → Int32) (w' h' : Nat → Int64), sk_H h' (sk_F (sk_P msg n) ((n + 72) / 64)) ∧ ∀ post : Int32 → SY → Prop, post (nI ((n + 72) / 64)) (lN n, nI ((n + 72) / 64), 1, msg, pad', w', h') → wpY_finish post (lN n, bk, 0, msg, pad, w, h) := by
  have ht : sk_tot n = (n + 72) / 64 * 64 := rfl
  obtain ⟨pad', w', h', hH, hp'⟩ := sk_y34 (sk_P msg n) (T := (n + 72) / 64) hn (by omega) (by omega) bk 1 msg w h (fun j => sk_P_q msg n j) (fun k hk => by
    rw [sk_P_l (by omega) (by omega)]
    exact congrArg nI (sk_pow (by omega))) (fun j hj => sk_P_lo hj) (sk_P_n rfl) (fun j h1 h2 => sk_P_z h1 (by omega)) ((n + 72) / 64 * 64) 0 pad (by omega) (fun j hj => absurd hj (by omega))
  refine ⟨pad', w', h', hH, fun post hp => ?_⟩
  have ex : ((nI n + 72) / 64) * 64 = nI ((n + 72) / 64 * 64) := by
    have e1 : nI n + 72 = nI (n + 72) := nI_add n 72
    have e2 : nI (n + 72) / 64 = nI ((n + 72) / 64) := pk_div (d := 64) (by omega) (by decide) (by decide)
    have e3 : nI ((n + 72) / 64) * 64 = nI ((n + 72) / 64 * 64) := pk_mul _ 64
    rw [e1, e2, e3]
  unfold wpY_finish
  dsimp only
  rw [lN_i]
  exact br_t rfl (And.intro (by decide) (nm_r ex ⟨_, hp' post hp⟩))
theorem i_vc_finish {k : Nat} {u : SX} {v : SY} (I : i_Rel k u v) (hk : k + 3 ≤ 1536) : wpX_finish (fun r u' => wpY_finish (fun r' v' => r' = r ∧ i_Rel (k + 3) u' v') v) u := by
  obtain ⟨n, s, bl, w, bk, msg, pad, wy, h, hn, H | H⟩ := I
  · obtain ⟨rfl, rfl, ho⟩ := H
    obtain ⟨bl', w', hX⟩ := sk_xf s hn bl w msg ho
    obtain ⟨pad', wy', h', hH, hY⟩ := sk_yf hn bk msg pad wy h
    exact hX _ (hY _ (And.intro rfl (sk_rc hn hH)))
  · obtain ⟨rfl, rfl, ho⟩ := H
    exact br_f (by decide) (br_f (by decide) (And.intro rfl (sk_rc hn ho)))
end
section
/-! reset, word, uid -/
theorem sk_x68 (x1 : Int64) (h0 h1 h2 h3 h4 : Int32) (cn : Int64) (fi : Int32) (bl : Nat → Int32) : ∀ (d i : Nat) (w : Nat → Int32), i + d = 16 →
    ∃ w' : Nat → Int32, ∀ post : Int64 → SX → Prop, post x1 (h0, h1, h2, h3, h4, cn, fi, bl, w') → wX_reset_68 post x1 h0 h1 h2 h3 h4 cn fi (d + 1) (nI i) bl w := by
  intro d
  induction d with
  | zero =>
    intro i w hi
    obtain rfl : i = 16 := by omega
    exact ⟨w, fun post hp => br_t (nI_le (Nat.le_refl 16) (by decide)) hp⟩
  | succ d ih =>
    intro i w hi
    obtain ⟨w', hp'⟩ := ih (i + 1) (upd w (nI i).toNatClampNeg 0) (by omega)
    exact ⟨w', fun post hp => br_f (nI_ge (b := 16) (by omega) (by decide)) (And.intro (vp_in_nI (by omega) (by decide)) (nm_e (nm_r (nI_1 i) (hp' post hp))))⟩
theorem sk_x47 (x1 : Int64) (h0 h1 h2 h3 h4 : Int32) (cn : Int64) (fi : Int32) (w : Nat → Int32) : ∀ (d i : Nat) (bl : Nat → Int32), i + d = 64 →
    ∃ bl' w' : Nat → Int32, ∀ post : Int64 → SX → Prop, post x1 (h0, h1, h2, h3, h4, cn, fi, bl', w') → wX_reset_47 post x1 h0 h1 h2 h3 h4 cn fi (d + 1) (nI i) bl w := by
  intro d
  induction d with
  | zero =>
    intro i bl hi
    obtain rfl : i = 64 := by omega
    obtain ⟨w', hp'⟩ := sk_x68 x1 h0 h1 h2 h3 h4 cn fi bl 16 0 w (by omega)
    exact ⟨bl, w', fun post hp => br_t (nI_le (Nat.le_refl 64) (by decide)) ⟨17, hp' post hp⟩⟩
  | succ d ih =>
    intro i bl hi
    obtain ⟨bl', w', hp'⟩ := ih (i + 1) (upd bl (nI i).toNatClampNeg (vp_nar .byte 0)) (by omega)
    exact ⟨bl', w', fun post hp => br_f (nI_ge (b := 64) (by omega) (by decide)) (And.intro (vp_in_nI (by omega) (by decide)) (nm_e (nm_r (nI_1 i) (hp' post hp))))⟩
theorem i_vc_reset {k : Nat} {u : SX} {v : SY} (I : i_Rel k u v) (hk : k + 3 ≤ 1536) : wpX_reset (fun r u' => wpY_reset (fun r' v' => r' = r ∧ i_Rel (k + 3) u' v') v) u := by
  have e0 : ∀ (bl w : Nat → Int32) (bk : Int32) (msg pad : Nat → Int32) (wy h : Nat → Int64), i_Rel (k + 3) (1732584193, (-271733879), (-1732584194), 271733878, (-1009589776), 0, 0, bl, w) (0, bk, 0, msg, pad, wy, h) := by
    intro bl w bk msg pad wy h
    exact sk_ro (k := k + 3) (n := 0) (s := sk_iv) (by decide) (sk_iv0 (fun _ => 0) bl msg)
  obtain ⟨n, s, bl, w, bk, msg, pad, wy, h, hn, H | H⟩ := I
  · obtain ⟨rfl, rfl, ho⟩ := H
    obtain ⟨bl', w', hp'⟩ := sk_x47 (lN n) 1732584193 (-271733879) (-1732584194) 271733878 (-1009589776) 0 0 w 64 0 bl (by omega)
    exact ⟨65, hp' _ (And.intro rfl (e0 _ _ _ _ _ _ _))⟩
  · obtain ⟨rfl, rfl, ho⟩ := H
    obtain ⟨bl', w', hp'⟩ := sk_x47 (lN n) 1732584193 (-271733879) (-1732584194) 271733878 (-1009589776) 0 0 w 64 0 bl (by omega)
    exact ⟨65, hp' _ (And.intro rfl (e0 _ _ _ _ _ _ _))⟩
theorem i_vc_word {k : Nat} {u : SX} {v : SY} (I : i_Rel k u v) (hk : k + 3 ≤ 1536) (v1 : Int32) : wpX_word (fun r => wpY_word (fun r' => r' = r ∧ i_Rel (k + 3) u v) v v1) u v1 := by
  have I' := i_up I
  obtain ⟨n, s, bl, w, bk, msg, pad, wy, h, hn, H | H⟩ := I
  · obtain ⟨rfl, rfl, ho⟩ := H
    exact br_t rfl (br_t rfl (And.intro rfl I'))
  · obtain ⟨rfl, rfl, ho⟩ := H
    obtain ⟨h0, h1, h2, h3, h4⟩ := ho
    have hy : ∀ (j : Nat) (x : Int32), j < 5 → h j = sk_z x → ∀ post : Int32 → Prop, post x → wpY_word post (lN n, bk, 1, msg, pad, wy, h) (nI j) := by
      intro j x hj hx post hp
      refine br_f (by decide) (br_f (nI_pos (by omega)) (br_t (nI_le (b := 4) (by omega) (by decide)) ?_))
      rw [nI_clamp (by omega), hx, sk_z_i]
      exact And.intro (vp_in_nI hj (by decide)) hp
    refine br_f (by decide) ?_
    refine br_c (fun e => ?_) (fun n0 => br_c (fun e => ?_) (fun n1 => br_c (fun e => ?_) (fun n2 => br_c (fun e => ?_) (fun n3 => br_c (fun e => ?_) (fun n4 => ?_)))))
    · rw [e]
      exact hy 0 _ (by decide) h0 _ (And.intro rfl I')
    · rw [e]
      exact hy 1 _ (by decide) h1 _ (And.intro rfl I')
    · rw [e]
      exact hy 2 _ (by decide) h2 _ (And.intro rfl I')
    · rw [e]
      exact hy 3 _ (by decide) h3 _ (And.intro rfl I')
    · rw [e]
      exact hy 4 _ (by decide) h4 _ (And.intro rfl I')
    · refine br_f (by decide) (br_c (fun _ => And.intro rfl I') (fun p0 => br_c (fun p4 => ?_) (fun _ => And.intro rfl I')))
      exfalso
      obtain ⟨j, hj, rfl⟩ := nI_of2 (M := 4) (n := 4) (by decide) p0 p4
      have hc : j = 0 ∨ j = 1 ∨ j = 2 ∨ j = 3 ∨ j = 4 := by omega
      rcases hc with rfl | rfl | rfl | rfl | rfl
      · exact n0 rfl
      · exact n1 rfl
      · exact n2 rfl
      · exact n3 rfl
      · exact n4 rfl
/-- X's answer of uid -/
def sk_ux (h0 h1 : Int32) : Int64 := (((((((((((h0.toUInt32 >>> ((24 : Int32).toUInt32 &&& Int32.toUInt32 31)).toInt32) &&& 255).toInt64) ||| (((((h0.toUInt32 >>> ((16 : Int32).toUInt32 &&& Int32.toUInt32 31)).toInt32) &&& 255).toInt64) <<< ((8 : Int32).toInt64 &&& 63))) ||| (((((h0.toUInt32 >>> ((8 : Int32).toUInt32 &&& Int32.toUInt32 31)).toInt32) &&& 255).toInt64) <<< ((16 : Int32).toInt64 &&& 63))) ||| (((h0 &&& 255).toInt64) <<< ((24 : Int32).toInt64 &&& 63))) ||| (((((h1.toUInt32 >>> ((24 : Int32).toUInt32 &&& Int32.toUInt32 31)).toInt32) &&& 255).toInt64) <<< ((32 : Int32).toInt64 &&& 63))) ||| (((((h1.toUInt32 >>> ((16 : Int32).toUInt32 &&& Int32.toUInt32 31)).toInt32) &&& 255).toInt64) <<< ((40 : Int32).toInt64 &&& 63))) ||| (((((h1.toUInt32 >>> ((8 : Int32).toUInt32 &&& Int32.toUInt32 31)).toInt32) &&& 255).toInt64) <<< ((48 : Int32).toInt64 &&& 63))) ||| (((h1 &&& 255).toInt64) <<< ((56 : Int32).toInt64 &&& 63)))
theorem sk_ub (y z : Int32) (t c : Nat) {i : Nat} (ht : t < 8) (hi : i < 64) (hz : z.toBitVec.toNat = y.toBitVec.toNat / 2 ^ c % 256) :
    (z.toInt64 <<< ((nI (8 * t)).toInt64 &&& 63)).toBitVec.getLsbD i = (decide (i / 8 = t) && y.toBitVec.getLsbD (c + i % 8)) := by
  have hm : y.toBitVec.toNat / 2 ^ c % 256 < 256 := Nat.mod_lt _ (by decide)
  obtain ⟨m, hm2, rfl⟩ := wb_of32 z
  rw [pk_tn hm2] at hz
  have e : (nI m).toInt64 = lN m := nI_l (by omega)
  rw [sk_tbl _ (by omega), e, wb_tb, BitVec.getLsbD_shiftLeft, BitVec.getLsbD_ofNat, hz, show (256 : Nat) = 2 ^ 8 from by decide, Nat.testBit_mod_two_pow, Nat.testBit_div_two_pow, BitVec.testBit_toNat]
  by_cases z1 : i / 8 = t
  · have a1 : i < 64 := hi
    have a2 : ¬ i < 8 * t := by omega
    have a3 : i - 8 * t < 64 := by omega
    have a4 : i - 8 * t < 8 := by omega
    simp only [z1, a1, a2, a3, a4, decide_true, decide_false, Bool.not_false, Bool.and_true, Bool.true_and]
    exact congrArg _ (by omega)
  · by_cases z2 : i < 8 * t
    · simp only [z1, z2, decide_true, decide_false, Bool.not_true, Bool.and_false, Bool.false_and]
    · have a4 : ¬ i - 8 * t < 8 := by omega
      simp only [z1, a4, decide_false, Bool.false_and, Bool.and_false]
theorem sk_ub0 (y z : Int32) (c : Nat) {i : Nat} (hi : i < 64) (hz : z.toBitVec.toNat = y.toBitVec.toNat / 2 ^ c % 256) :
    z.toInt64.toBitVec.getLsbD i = (decide (i / 8 = 0) && y.toBitVec.getLsbD (c + i % 8)) := by
  rw [← sk_ub y z 0 c (by decide) hi hz, sk_tbl _ (by decide), Nat.mul_zero, BitVec.shiftLeft_zero]
theorem sk_zb (y : Int32) {c : Nat} (hc : c < 32) : (((y.toUInt32 >>> ((nI c).toUInt32 &&& Int32.toUInt32 31)).toInt32) &&& 255).toBitVec.toNat = y.toBitVec.toNat / 2 ^ c % 256 := by
  rw [pk_and _ (m := 255) 8 (by decide), pk_ushr y _ c (s_u c hc), pk_tn (by omega)]
theorem sk_zb0 (y : Int32) : (y &&& 255).toBitVec.toNat = y.toBitVec.toNat / 2 ^ 0 % 256 := by
  rw [pk_and _ (m := 255) 8 (by decide), pk_tn (by omega), Nat.pow_zero, Nat.div_one]
def sk_src (h0 h1 : Int32) : Int64 := (sk_z h0 <<< ((32 : Int32).toInt64 &&& 63)) ||| sk_z h1
theorem sk_srcb (h0 h1 : Int32) {m : Nat} (hm : m < 64) : (sk_src h0 h1).toBitVec.getLsbD m = if m < 32 then h1.toBitVec.getLsbD m else h0.toBitVec.getLsbD (m - 32) := by
  have e : (sk_z h0 <<< ((32 : Int32).toInt64 &&& 63)).toBitVec = (sk_z h0).toBitVec <<< 32 := sk_tbl _ (k := 32) (by decide)
  unfold sk_src
  rw [Int64.toBitVec_or, e, BitVec.getLsbD_or, BitVec.getLsbD_shiftLeft, sk_z_tb, sk_z_tb, BitVec.getLsbD_setWidth, BitVec.getLsbD_setWidth]
  by_cases z : m < 32
  · rw [if_pos z]
    simp only [z, hm, decide_true, Bool.not_true, Bool.and_false, Bool.false_and, Bool.false_or, Bool.true_and]
  · have z2 : m - 32 < 64 := by omega
    rw [if_neg z, BitVec.getLsbD_of_ge h1.toBitVec m (by omega)]
    simp only [z, z2, hm, decide_true, decide_false, Bool.not_false, Bool.and_true, Bool.true_and, Bool.and_false, Bool.or_false]
theorem sk_uxb (h0 h1 : Int32) {i : Nat} (hi : i < 64) : (sk_ux h0 h1).toBitVec.getLsbD i = (sk_src h0 h1).toBitVec.getLsbD (8 * (7 - i / 8) + i % 8) := by
  have t0 := sk_ub0 h0 _ 24 hi (sk_zb h0 (c := 24) (by decide))
  have t1 := sk_ub h0 _ 1 16 (by decide) hi (sk_zb h0 (c := 16) (by decide))
  have t2 := sk_ub h0 _ 2 8 (by decide) hi (sk_zb h0 (c := 8) (by decide))
  have t3 := sk_ub h0 _ 3 0 (by decide) hi (sk_zb0 h0)
  have t4 := sk_ub h1 _ 4 24 (by decide) hi (sk_zb h1 (c := 24) (by decide))
  have t5 := sk_ub h1 _ 5 16 (by decide) hi (sk_zb h1 (c := 16) (by decide))
  have t6 := sk_ub h1 _ 6 8 (by decide) hi (sk_zb h1 (c := 8) (by decide))
  have t7 := sk_ub h1 _ 7 0 (by decide) hi (sk_zb0 h1)
  have e : (sk_ux h0 h1).toBitVec.getLsbD i = ((((((((decide (i / 8 = 0) && h0.toBitVec.getLsbD (24 + i % 8)) || (decide (i / 8 = 1) && h0.toBitVec.getLsbD (16 + i % 8))) || (decide (i / 8 = 2) && h0.toBitVec.getLsbD (8 + i % 8))) || (decide (i / 8 = 3) && h0.toBitVec.getLsbD (0 + i % 8))) || (decide (i / 8 = 4) && h1.toBitVec.getLsbD (24 + i % 8))) || (decide (i / 8 = 5) && h1.toBitVec.getLsbD (16 + i % 8))) || (decide (i / 8 = 6) && h1.toBitVec.getLsbD (8 + i % 8))) || (decide (i / 8 = 7) && h1.toBitVec.getLsbD (0 + i % 8))) := by
    rw [← t0, ← t1, ← t2, ← t3, ← t4, ← t5, ← t6, ← t7, ← BitVec.getLsbD_or, ← BitVec.getLsbD_or, ← BitVec.getLsbD_or, ← BitVec.getLsbD_or, ← BitVec.getLsbD_or, ← BitVec.getLsbD_or, ← BitVec.getLsbD_or]
    rfl
  rw [e, sk_srcb h0 h1 (by omega)]
  have hc : i / 8 = 0 ∨ i / 8 = 1 ∨ i / 8 = 2 ∨ i / 8 = 3 ∨ i / 8 = 4 ∨ i / 8 = 5 ∨ i / 8 = 6 ∨ i / 8 = 7 := by omega
  have hr : i % 8 < 8 := Nat.mod_lt _ (by decide)
  generalize i % 8 = r at hr
  generalize i / 8 = a at hc
  rcases hc with rfl | rfl | rfl | rfl | rfl | rfl | rfl | rfl
  · rw [if_neg (by omega), show 8 * (7 - 0) + r - 32 = 24 + r by omega]
    simp
  · rw [if_neg (by omega), show 8 * (7 - 1) + r - 32 = 16 + r by omega]
    simp
  · rw [if_neg (by omega), show 8 * (7 - 2) + r - 32 = 8 + r by omega]
    simp
  · rw [if_neg (by omega), show 8 * (7 - 3) + r - 32 = 0 + r by omega]
    simp
  · rw [if_pos (by omega), show 8 * (7 - 4) + r = 24 + r by omega]
    simp
  · rw [if_pos (by omega), show 8 * (7 - 5) + r = 16 + r by omega]
    simp
  · rw [if_pos (by omega), show 8 * (7 - 6) + r = 8 + r by omega]
    simp
  · rw [if_pos (by omega), show 8 * (7 - 7) + r = 0 + r by omega]
    simp
theorem sk_255b : ∀ i, i < 64 → (255 : Int64).toBitVec.getLsbD i = decide (i < 8) := by decide
theorem sk_y31 (src : Int64) (nn : Int64) (bk dn : Int32) (msg pad : Nat → Int32) (w h : Nat → Int64) : ∀ (d k : Nat) (x1 x3 : Int64), k + d = 8 →
    (∀ i, i < 64 → x1.toBitVec.getLsbD i = src.toBitVec.getLsbD (i + 8 * k)) →
    (∀ i, i < 64 → x3.toBitVec.getLsbD i = (decide (i < 8 * k) && src.toBitVec.getLsbD (8 * (k - 1 - i / 8) + i % 8))) →
    ∃ r : Int64, (∀ i, i < 64 → r.toBitVec.getLsbD i = src.toBitVec.getLsbD (8 * (7 - i / 8) + i % 8)) ∧ ∀ post : Int64 → Prop, post r → wY_uid_31 post nn bk dn msg pad w h (d + 1) x1 x3 (nI k) := by
  intro d
  induction d with
  | zero =>
    intro k x1 x3 hk H1 H3
    obtain rfl : k = 8 := by omega
    refine ⟨x3, fun i hi => ?_, fun post hp => br_t (nI_le (Nat.le_refl 8) (by decide)) hp⟩
    have a : i < 8 * 8 := by omega
    rw [H3 i hi]
    simp only [a, decide_true, Bool.true_and]
  | succ d ih =>
    intro k x1 x3 hk H1 H3
    have e1 : ((x1.toUInt64 >>> ((8 : Int32).toInt64.toUInt64 &&& Int64.toUInt64 63)).toInt64).toBitVec = x1.toBitVec >>> 8 := sk_tbu x1 (k := 8) (by decide)
    have e3 : (x3 <<< ((8 : Int32).toInt64 &&& 63)).toBitVec = x3.toBitVec <<< 8 := sk_tbl x3 (k := 8) (by decide)
    obtain ⟨r, hr, hp'⟩ := ih (k + 1) ((x1.toUInt64 >>> ((8 : Int32).toInt64.toUInt64 &&& Int64.toUInt64 63)).toInt64) ((x3 <<< ((8 : Int32).toInt64 &&& 63)) ||| (x1 &&& 255)) (by omega) (by
      intro i hi
      rw [e1, BitVec.getLsbD_ushiftRight]
      by_cases z : 8 + i < 64
      · rw [H1 (8 + i) z]
        exact congrArg _ (by omega)
      · rw [BitVec.getLsbD_of_ge x1.toBitVec (8 + i) (by omega), BitVec.getLsbD_of_ge src.toBitVec (i + 8 * (k + 1)) (by omega)]) (by
      intro i hi
      rw [Int64.toBitVec_or, Int64.toBitVec_and, e3, BitVec.getLsbD_or, BitVec.getLsbD_and, BitVec.getLsbD_shiftLeft, sk_255b i hi]
      by_cases z : i < 8
      · have a : i < 8 * (k + 1) := by omega
        rw [H1 i hi]
        simp only [z, a, hi, decide_true, Bool.not_true, Bool.and_false, Bool.false_and, Bool.false_or, Bool.and_true, Bool.true_and]
        exact congrArg _ (by omega)
      · rw [H3 (i - 8) (by omega)]
        by_cases y : i < 8 * (k + 1)
        · have a : i - 8 < 8 * k := by omega
          simp only [z, y, a, hi, decide_true, decide_false, Bool.not_false, Bool.and_false, Bool.and_true, Bool.or_false, Bool.true_and]
          exact congrArg _ (by omega)
        · have a : ¬ i - 8 < 8 * k := by omega
          simp only [z, y, a, hi, decide_true, decide_false, Bool.not_false, Bool.and_false, Bool.false_and, Bool.or_false])
    exact ⟨r, hr, fun post hp => br_f (nI_ge (b := 8) (by omega) (by decide)) (nm_e (nm_e (nm_r (nI_1 k) (hp' post hp))))⟩
theorem i_vc_uid {k : Nat} {u : SX} {v : SY} (I : i_Rel k u v) (hk : k + 3 ≤ 1536) : wpX_uid (fun r => wpY_uid (fun r' => r' = r ∧ i_Rel (k + 3) u v) v) u := by
  have I' := i_up I
  obtain ⟨n, s, bl, w, bk, msg, pad, wy, h, hn, H | H⟩ := I
  · obtain ⟨rfl, rfl, ho⟩ := H
    exact br_t rfl (br_t rfl (And.intro rfl I'))
  · obtain ⟨rfl, rfl, ho⟩ := H
    obtain ⟨h0, h1, h2, h3, h4⟩ := ho
    obtain ⟨r, hr, hp'⟩ := sk_y31 (sk_src s.1 s.2.1) (lN n) bk 1 msg pad wy h 8 0 (sk_src s.1 s.2.1) 0 (by omega) (fun i hi => rfl) (fun i hi => by
      show (0#64).getLsbD i = _
      rw [BitVec.getLsbD_zero]
      rfl)
    have e : r = sk_ux s.1 s.2.1 := wb_inj (BitVec.eq_of_getLsbD_eq (fun i hi => by rw [hr i hi, sk_uxb _ _ hi]))
    refine br_f (by decide) (br_f (by decide) ?_)
    rw [h0, h1]
    exact nm_e ⟨9, hp' _ (And.intro e I')⟩
end
