section
/-! rows of kit/rows (starting text) -/
theorem pk_us {f : Nat → Int32} {k : Nat} {x : Int32} : upd f k x k = x := if_pos rfl
theorem pk_un {f : Nat → Int32} {k j : Nat} {x : Int32} (h : j ≠ k) : upd f k x j = f j := if_neg h
theorem pk_uLs {f : Nat → Int64} {k : Nat} {x : Int64} : vp_updL f k x k = x := if_pos rfl
theorem pk_uLn {f : Nat → Int64} {k j : Nat} {x : Int64} (h : j ≠ k) : vp_updL f k x j = f j := if_neg h
theorem pk_sub {a b : Nat} (h : b ≤ a) : nI a - nI b = nI (a - b) := by
  obtain ⟨c, rfl⟩ : ∃ c, a = c + b := ⟨a - b, by omega⟩
  rw [← nI_add, Int32.add_sub_cancel, Nat.add_sub_cancel]
theorem pk_m1 (n : Nat) : nI (n + 1) + (-1) = nI n := by
  rw [← nI_1, Int32.add_assoc, show (1 : Int32) + (-1) = 0 from rfl, Int32.add_zero]
theorem pk_mul (a b : Nat) : nI a * nI b = nI (a * b) := (Int32.ofNat_mul a b).symm
theorem pk_div {a d : Nat} (ha : a < 2 ^ 31) (h0 : 0 < d) (hd : d < 2 ^ 31) : nI a / nI d = nI (a / d) := by
  apply Int32.toInt_inj.mp
  rw [lg_idiv_nonneg (by rw [nI_toInt ha]; omega) (by rw [nI_toInt hd]; omega), nI_toInt ha, nI_toInt hd, nI_toInt (Nat.lt_of_le_of_lt (Nat.div_le_self a d) ha)]
  first | rfl | exact (Int.natCast_ediv _ _).symm
theorem pk_rem {a d : Nat} (ha : a < 2 ^ 31) (h0 : 0 < d) (hd : d < 2 ^ 31) : nI a - nI a / nI d * nI d = nI (a % d) := by
  rw [pk_div ha h0 hd, pk_mul, pk_sub (Nat.div_mul_le_self a d)]
  exact congrArg nI (by have := Nat.div_add_mod' a d; omega)
theorem pk_sub_toInt {a b : Nat} (ha : a < 2 ^ 30) (hb : b < 2 ^ 30) : (nI a - nI b).toInt = (a : Int) - b := by
  rw [Int32.toInt_sub, nI_toInt (by omega), nI_toInt (by omega)]
  exact Int.bmod_eq_of_le (by omega) (by omega)
theorem pk_sneg {a b : Nat} (hb : b < 2 ^ 30) (h : a < b) : nI a - nI b < 0 := by
  rw [Int32.lt_iff_toInt_lt, pk_sub_toInt (by omega) hb, show (0 : Int32).toInt = 0 from by decide]
  omega
theorem pk_ix (x : Int32) {n : Nat} (hn : n < 2 ^ 31) : x < 0 ∨ nI n ≤ x ∨ ∃ j : Nat, j < n ∧ x = nI j := by
  by_cases h : x < 0
  · exact Or.inl h
  · obtain ⟨j, hj, rfl⟩ := nI_of h
    by_cases h2 : j < n
    · exact Or.inr (Or.inr ⟨j, h2, rfl⟩)
    · exact Or.inr (Or.inl (nI_le (by omega) hj))
theorem pk_le {x y : Int32} {A B : Prop} (a b : Nat) (f : a ≤ b → A) (g : b < a → B) (hx : x = nI a := by rfl) (hy : y = nI b := by rfl) (ha : a < 2 ^ 31 := by omega) (hb : b < 2 ^ 31 := by omega) : (x ≤ y → A) ∧ (¬ x ≤ y → B) := by
  subst hx hy
  rw [nI_leI ha hb]
  exact ⟨f, fun z => g (by omega)⟩
theorem pk_lt {x y : Int32} {A B : Prop} (a b : Nat) (f : a < b → A) (g : b ≤ a → B) (hx : x = nI a := by rfl) (hy : y = nI b := by rfl) (ha : a < 2 ^ 31 := by omega) (hb : b < 2 ^ 31 := by omega) : (x < y → A) ∧ (¬ x < y → B) := by
  subst hx hy
  rw [nI_ltI ha hb]
  exact ⟨f, fun z => g (by omega)⟩
theorem pk_eq {x y : Int32} {A B : Prop} (a b : Nat) (f : a = b → A) (g : a ≠ b → B) (hx : x = nI a := by rfl) (hy : y = nI b := by rfl) (ha : a < 2 ^ 31 := by omega) (hb : b < 2 ^ 31 := by omega) : (x = y → A) ∧ (¬ x = y → B) := by
  subst hx hy
  rw [nI_eq ha hb]
  exact ⟨f, g⟩
theorem pk_in {x : Int32} (n N : Nat) (h : n < N) (hx : x = nI n := by rfl) (hN : N < 2 ^ 31 := by omega) : vp_in x N := by
  subst hx
  exact vp_in_nI h hN
theorem pk_cl {x : Int32} (n : Nat) (hx : x = nI n := by rfl) (h : n < 2 ^ 31 := by omega) : x.toNatClampNeg = n := by
  subst hx
  exact nI_clamp h
theorem pk_tn {n : Nat} (h : n < 2 ^ 32) : (nI n).toBitVec.toNat = n := Nat.mod_eq_of_lt h
theorem pk_and (x : Int32) {m : Int32} (k : Nat) (hm : m.toBitVec.toNat = 2 ^ k - 1) : x &&& m = nI (x.toBitVec.toNat % 2 ^ k) := by
  apply Int32.toBitVec_inj.mp
  apply BitVec.eq_of_toNat_eq
  rw [Int32.toBitVec_and, BitVec.toNat_and, hm, Nat.and_two_pow_sub_one_eq_mod]
  show _ = (BitVec.ofNat 32 _).toNat
  rw [BitVec.toNat_ofNat]
  exact (Nat.mod_eq_of_lt (Nat.lt_of_le_of_lt (Nat.mod_le _ _) x.toBitVec.isLt)).symm
theorem pk_andN {n : Nat} (h : n < 2 ^ 32) {m : Int32} (k : Nat) (hm : m.toBitVec.toNat = 2 ^ k - 1) : nI n &&& m = nI (n % 2 ^ k) := by
  rw [pk_and _ k hm, pk_tn h]
theorem pk_andE (x : Int32) {m : Int32} (k : Nat) (hm : m.toBitVec.toNat = 2 ^ k - 1) : ∃ j : Nat, j < 2 ^ k ∧ x &&& m = nI j := ⟨_, Nat.mod_lt _ (Nat.two_pow_pos k), pk_and x k hm⟩
theorem pk_andIn (x : Int32) {m : Int32} (k : Nat) (hm : m.toBitVec.toNat = 2 ^ k - 1) (hk : k ≤ 30) : vp_in (x &&& m) (2 ^ k) := by
  obtain ⟨j, hj, e⟩ := pk_andE x k hm
  rw [e]
  exact vp_in_nI hj (Nat.lt_of_le_of_lt (Nat.pow_le_pow_right (by decide) hk) (by decide))
theorem pk_shl (a s : Int32) (k : Nat) (hs : (s.toBitVec.smod 32).toNat = k) : (a <<< s).toBitVec.toNat = a.toBitVec.toNat * 2 ^ k % 2 ^ 32 := by
  show (a.toBitVec <<< (s.toBitVec.smod 32).toNat).toNat = _
  rw [hs, BitVec.toNat_shiftLeft, Nat.shiftLeft_eq]
theorem pk_shlN {n : Nat} (s : Int32) (k : Nat) (hs : (s.toBitVec.smod 32).toNat = k) (h : n * 2 ^ k < 2 ^ 32) : nI n <<< s = nI (n * 2 ^ k) := by
  apply Int32.toBitVec_inj.mp
  apply BitVec.eq_of_toNat_eq
  have hn : n < 2 ^ 32 := Nat.lt_of_le_of_lt (Nat.le_mul_of_pos_right n (Nat.two_pow_pos k)) h
  rw [pk_shl _ _ k hs, pk_tn hn, pk_tn h, Nat.mod_eq_of_lt h]
theorem pk_shr (a s : Int32) (k : Nat) (hs : (s.toBitVec.smod 32).toNat = k) : (a >>> s).toInt = a.toInt >>> k := by
  show (a.toBitVec.sshiftRight (s.toBitVec.smod 32).toNat).toInt = _
  rw [hs, BitVec.toInt_sshiftRight]
  rfl
theorem pk_shrN {n : Nat} (h : n < 2 ^ 31) (s : Int32) (k : Nat) (hs : (s.toBitVec.smod 32).toNat = k) : nI n >>> s = nI (n / 2 ^ k) := by
  apply Int32.toInt_inj.mp
  have h2 : n / 2 ^ k ≤ n := Nat.div_le_self _ _
  rw [pk_shr _ _ k hs, nI_toInt h, nI_toInt (by omega), Int.shiftRight_eq_div_pow]
  rfl
theorem pk_ushr (x s : Int32) (k : Nat) (hs : ((s.toUInt32 &&& Int32.toUInt32 31).toBitVec % 32).toNat = k) : (x.toUInt32 >>> (s.toUInt32 &&& Int32.toUInt32 31)).toInt32.toBitVec.toNat = x.toBitVec.toNat / 2 ^ k := by
  have e : (x.toUInt32 >>> (s.toUInt32 &&& Int32.toUInt32 31)).toInt32.toBitVec = x.toBitVec >>> k := by
    rw [← hs]
    exact UInt32.toBitVec_shiftRight _ _
  rw [e, BitVec.toNat_ushiftRight, Nat.shiftRight_eq_div_pow]
theorem pk_ushrN {n : Nat} (hn : n < 2 ^ 32) (s : Int32) (k : Nat) (hs : ((s.toUInt32 &&& Int32.toUInt32 31).toBitVec % 32).toNat = k) : ((nI n).toUInt32 >>> (s.toUInt32 &&& Int32.toUInt32 31)).toInt32 = nI (n / 2 ^ k) := by
  apply Int32.toBitVec_inj.mp
  apply BitVec.eq_of_toNat_eq
  rw [pk_ushr _ s k hs, pk_tn hn, pk_tn (Nat.lt_of_le_of_lt (Nat.div_le_self _ _) hn)]
theorem pk_nb (z : Int32) : narrow .byte (.int z.toInt8.toInt32) = .int z.toInt8.toInt32 := congrArg Value.int (by simp)
theorem pk_ns (z : Int32) : narrow .short (.int z.toInt16.toInt32) = .int z.toInt16.toInt32 := congrArg Value.int (by simp)
theorem pk_fb (r : Int32) : fits .byte (.int r.toInt8.toInt32) = true := by
  have ⟨a, b⟩ := lg_i2b_range r
  have h1 : (-128 : Int32).toInt = -128 := by decide
  have h2 : (127 : Int32).toInt = 127 := by decide
  simp only [fits, Bool.and_eq_true, decide_eq_true_eq, Int32.le_iff_toInt_le, h1, h2]
  omega
theorem pk_fs (r : Int32) : fits .short (.int r.toInt16.toInt32) = true := by
  have ⟨a, b⟩ := lg_i2s_range r
  have h1 : (-32768 : Int32).toInt = -32768 := by decide
  have h2 : (32767 : Int32).toInt = 32767 := by decide
  simp only [fits, Bool.and_eq_true, decide_eq_true_eq, Int32.le_iff_toInt_le, h1, h2]
  omega
theorem pk_charN {q : Nat} (hq : q < 65536) : narrow .char (.int (nI q)) = .int (nI q) ∧ fits .char (.int (nI q)) = true := by
  constructor
  · have e : (nI q).toUInt32.toUInt16.toUInt32.toInt32 = nI q := by
      apply Int32.toBitVec_inj.mp
      apply BitVec.eq_of_toNat_eq
      show (nI q).toUInt32.toUInt16.toUInt32.toNat = q % 2 ^ 32
      rw [UInt16.toNat_toUInt32, UInt32.toNat_toUInt16, show (nI q).toUInt32.toNat = q % 2 ^ 32 from rfl]
      omega
    exact congrArg Value.int e
  · have a : (0 : Int32) ≤ nI q := nI_pos' (by omega)
    have b : nI q ≤ 65535 := nI_le (b := 65535) (by omega) (by decide)
    show (decide ((0 : Int32) ≤ nI q) && decide (nI q ≤ 65535)) = true
    rw [decide_eq_true a, decide_eq_true b]
    rfl
theorem pk_char (x : Int32) : (x.toUInt32 % 65536).toInt32 = nI (x.toBitVec.toNat % 65536) := by
  apply Int32.toBitVec_inj.mp
  apply BitVec.eq_of_toNat_eq
  rw [pk_tn (by omega)]
  show (x.toUInt32 % 65536).toNat = _
  rw [UInt32.toNat_mod]
  rfl
theorem pk_nc (x : Int32) : narrow .char (.int (x.toUInt32 % 65536).toInt32) = .int (x.toUInt32 % 65536).toInt32 := by
  rw [pk_char]
  exact (pk_charN (Nat.mod_lt _ (by decide))).1
theorem pk_fc (x : Int32) : fits .char (.int (x.toUInt32 % 65536).toInt32) = true := by
  rw [pk_char]
  exact (pk_charN (Nat.mod_lt _ (by decide))).2
theorem pk_vb (z : Int32) : vp_nar .byte z.toInt8.toInt32 = z.toInt8.toInt32 := by rw [vp_nar_byte]; simp
theorem pk_vs (z : Int32) : vp_nar .short z.toInt16.toInt32 = z.toInt16.toInt32 := by rw [vp_nar_short]; simp
theorem pk_vc (z : Int32) : vp_nar .char (z.toUInt32 % 65536).toInt32 = (z.toUInt32 % 65536).toInt32 := Value.int.inj (pk_nc z)
theorem pk_lT {n : Nat} (h : n < 2 ^ 63) : (lN n).toInt = (n : Int) := lg_ofNat_toInt h
theorem pk_lLT {a b : Nat} (ha : a < 2 ^ 63) (hb : b < 2 ^ 63) : lN a < lN b ↔ a < b := by
  rw [Int64.lt_iff_toInt_lt, pk_lT ha, pk_lT hb]; omega
theorem pk_lLE {a b : Nat} (ha : a < 2 ^ 63) (hb : b < 2 ^ 63) : lN a ≤ lN b ↔ a ≤ b := by
  rw [Int64.le_iff_toInt_le, pk_lT ha, pk_lT hb]; omega
theorem pk_lEQ {a b : Nat} (ha : a < 2 ^ 63) (hb : b < 2 ^ 63) : lN a = lN b ↔ a = b := by
  rw [← Int64.toInt_inj, pk_lT ha, pk_lT hb]; omega
theorem pk_lOf {x : Int64} (h : ¬ x < 0) : ∃ k : Nat, k < 2 ^ 63 ∧ x = lN k := by
  rw [Int64.lt_iff_toInt_lt] at h
  have h0 : (0 : Int64).toInt = 0 := by decide
  have hx := Int64.toInt_lt x
  refine ⟨x.toInt.toNat, by omega, Int64.toInt_inj.mp ?_⟩
  rw [pk_lT (by omega)]
  omega
theorem pk_lDiv {a b : Nat} (ha : a < 2 ^ 63) (h0 : 0 < b) (hb : b < 2 ^ 63) : lN a / lN b = lN (a / b) := by
  apply Int64.toInt_inj.mp
  rw [lg_ldiv_nonneg (by rw [pk_lT ha]; omega) (by rw [pk_lT hb]; omega), pk_lT ha, pk_lT hb, pk_lT (Nat.lt_of_le_of_lt (Nat.div_le_self a b) ha)]
  rfl
theorem pk_lRem {a b : Nat} (ha : a < 2 ^ 63) (h0 : 0 < b) (hb : b < 2 ^ 63) : lN a - lN a / lN b * lN b = lN (a % b) := by
  rw [pk_lDiv ha h0 hb, lN_mul, lN_sub (Nat.div_mul_le_self a b)]
  exact congrArg lN (by have := Nat.div_add_mod' a b; omega)
theorem wb_tb (n : Nat) : (lN n).toBitVec = BitVec.ofNat 64 n := rfl
theorem wb_inj {a b : Int64} (h : a.toBitVec = b.toBitVec) : a = b := Int64.toBitVec_inj.mp h
theorem wb_tn {n : Nat} (h : n < 2 ^ 64) : (lN n).toBitVec.toNat = n := by rw [wb_tb, BitVec.toNat_ofNat, Nat.mod_eq_of_lt h]
theorem wb_of (x : Int64) : ∃ n, n < 2 ^ 64 ∧ x = lN n := ⟨x.toBitVec.toNat, x.toBitVec.isLt, wb_inj (by rw [wb_tb]; simp)⟩
theorem wb_of32 (x : Int32) : ∃ n, n < 2 ^ 32 ∧ x = nI n := ⟨x.toBitVec.toNat, x.toBitVec.isLt, Int32.toBitVec_inj.mp (by show _ = BitVec.ofNat 32 _; simp)⟩
theorem wb_c : ∀ k, k < 64 → ((nI k).toInt64 &&& 63) = lN k := by decide +kernel
theorem wb_cu : ∀ k, k < 64 → ((nI k).toInt64.toUInt64 &&& Int64.toUInt64 63) = UInt64.ofNat k := by decide +kernel
theorem wb_sm : ∀ k, k < 64 → (BitVec.ofNat 64 k).smod 64 = BitVec.ofNat 64 k := by decide +kernel
theorem wb_pw {a b : Nat} (h : a ≤ b) : 2 ^ b = 2 ^ a * 2 ^ (b - a) := by rw [← Nat.pow_add]; congr 1; omega
theorem wb_lt2 {a b : Nat} (h : a < b) : 2 ^ a < 2 ^ b := Nat.pow_lt_pow_right (by decide) h
theorem wb_mod (n : Nat) : lN n = lN (n % 2 ^ 64) := wb_inj (by rw [wb_tb, wb_tb]; apply BitVec.eq_of_toNat_eq; rw [BitVec.toNat_ofNat, BitVec.toNat_ofNat, Nat.mod_mod])
theorem wb_shr {n k : Nat} (hn : n < 2 ^ 64) (hk : k < 64) : ((lN n).toUInt64 >>> ((nI k).toInt64.toUInt64 &&& Int64.toUInt64 63)).toInt64 = lN (n / 2 ^ k) := by
  rw [wb_cu k hk]
  apply wb_inj
  apply BitVec.eq_of_toNat_eq
  show ((lN n).toUInt64 >>> UInt64.ofNat k).toNat = (BitVec.ofNat 64 _).toNat
  have h1 : (UInt64.ofNat k).toNat = k := by
    show (BitVec.ofNat 64 k).toNat = k
    rw [BitVec.toNat_ofNat, Nat.mod_eq_of_lt (by omega)]
  have h2 : (lN n).toUInt64.toNat = n := wb_tn hn
  rw [UInt64.toNat_shiftRight, h1, h2, Nat.mod_eq_of_lt hk, Nat.shiftRight_eq_div_pow, BitVec.toNat_ofNat, Nat.mod_eq_of_lt (Nat.lt_of_le_of_lt (Nat.div_le_self _ _) hn)]
theorem wb_shl (n : Nat) {k : Nat} (hk : k < 64) : lN n <<< ((nI k).toInt64 &&& 63) = lN (n * 2 ^ k) := by
  rw [wb_c k hk]
  apply wb_inj
  rw [Int64.toBitVec_shiftLeft, wb_tb, wb_tb, wb_tb, wb_sm k hk]
  apply BitVec.eq_of_toNat_eq
  rw [BitVec.shiftLeft_eq', BitVec.toNat_shiftLeft, BitVec.toNat_ofNat, BitVec.toNat_ofNat, BitVec.toNat_ofNat, Nat.mod_eq_of_lt (show k < 2 ^ 64 by omega), Nat.shiftLeft_eq, Nat.mul_mod, Nat.mod_mod, ← Nat.mul_mod]
theorem wb_and {a b : Nat} (ha : a < 2 ^ 64) (hb : b < 2 ^ 64) : lN a &&& lN b = lN (a &&& b) := by
  apply wb_inj
  rw [Int64.toBitVec_and, wb_tb, wb_tb, wb_tb]
  apply BitVec.eq_of_toNat_eq
  rw [BitVec.toNat_and, BitVec.toNat_ofNat, BitVec.toNat_ofNat, BitVec.toNat_ofNat, Nat.mod_eq_of_lt ha, Nat.mod_eq_of_lt hb, Nat.mod_eq_of_lt (Nat.and_lt_two_pow _ hb)]
theorem wb_or {a b : Nat} (ha : a < 2 ^ 64) (hb : b < 2 ^ 64) : lN a ||| lN b = lN (a ||| b) := by
  apply wb_inj
  rw [Int64.toBitVec_or, wb_tb, wb_tb, wb_tb]
  apply BitVec.eq_of_toNat_eq
  rw [BitVec.toNat_or, BitVec.toNat_ofNat, BitVec.toNat_ofNat, BitVec.toNat_ofNat, Nat.mod_eq_of_lt ha, Nat.mod_eq_of_lt hb, Nat.mod_eq_of_lt (Nat.or_lt_two_pow ha hb)]
theorem wb_mask {n k : Nat} (hn : n < 2 ^ 64) (hk : k < 64) : lN n &&& lN (2 ^ k - 1) = lN (n % 2 ^ k) := by
  rw [wb_and hn (by have := wb_lt2 hk; omega), Nat.and_two_pow_sub_one_eq_mod]
theorem u_tn {n : Nat} (h : n < 2 ^ 64) : (UInt64.ofNat n).toNat = n := Nat.mod_eq_of_lt h
theorem g_and {a b c : Nat} (ha : a < 2 ^ 64) (hb : b < 2 ^ 64) (hc : a &&& b = c) : lN a &&& lN b = lN c := by
  subst hc
  have h : UInt64.ofNat a &&& UInt64.ofNat b = UInt64.ofNat (a &&& b) := UInt64.toNat_inj.mp (by rw [UInt64.toNat_and, u_tn ha, u_tn hb, u_tn (Nat.and_lt_two_pow a hb)])
  have h2 := congrArg UInt64.toInt64 h
  exact h2
theorem g_and1 {a : Nat} (ha : a < 2 ^ 64) : lN a &&& 1 = lN (a % 2) := g_and (b := 1) ha (by decide) (Nat.and_two_pow_sub_one_eq_mod a 1)
theorem g_mask {a s p : Nat} (hp : 2 ^ s = p) (hs : s < 64) (ha : a < 2 ^ 64) : lN a &&& lN (p - 1) = lN (a % p) := by
  subst hp
  have := Nat.pow_lt_pow_right (show 1 < 2 by decide) hs
  exact g_and ha (by omega) (Nat.and_two_pow_sub_one_eq_mod a s)
theorem g_or {k p a b : Nat} (hp : 2 ^ k = p) (ha : a < p) (h : b * p + a < 2 ^ 64) : lN (b * p) ||| lN a = lN (b * p + a) := by
  subst hp
  have h1 : b * 2 ^ k ||| a = b * 2 ^ k + a := by rw [← Nat.shiftLeft_eq, Nat.shiftLeft_add_eq_or_of_lt ha]
  have h3 : UInt64.ofNat (b * 2 ^ k) ||| UInt64.ofNat a = UInt64.ofNat (b * 2 ^ k + a) := UInt64.toNat_inj.mp (by rw [UInt64.toNat_or, u_tn (by omega), u_tn (by omega), u_tn h, h1])
  have h2 := congrArg UInt64.toInt64 h3
  exact h2
theorem g_or' {k p a b : Nat} (hp : 2 ^ k = p) (ha : a < p) (h : a + b * p < 2 ^ 64) : lN a ||| lN (b * p) = lN (a + b * p) := by
  rw [Int64.or_comm, g_or hp ha (by omega), Nat.add_comm]
theorem pf_lI {a : Nat} (h : a < 2 ^ 63) : (lN a).toInt = (a : Int) := lg_ofNat_toInt h
theorem pf_shr {a d : Nat} {D : Int64} (hD : (D.toBitVec.smod 64).toNat = d) (h : a < 2 ^ 62) : lN a >>> D = lN (a / 2 ^ d) := by
  have hd : a / 2 ^ d ≤ a := Nat.div_le_self _ _
  apply Int64.toInt_inj.mp
  have e : (lN a >>> D).toInt = (lN a).toInt >>> d := by
    rw [← hD]
    exact BitVec.toInt_sshiftRight ..
  rw [e, Int.shiftRight_eq_div_pow, pf_lI (by omega), pf_lI (by omega)]
  rfl
end
section
/-! The cls table: V variance, B bound, S superclass, A its argument; classes below n. Types are numbers in base 16, 15 the variable. -/
abbrev ve_T : Type := (Nat → Nat) × (Nat → Nat) × (Nat → Nat) × (Nat → Nat)
def ve_V (G : ve_T) (c : Nat) : Nat := G.1 c
def ve_B (G : ve_T) (c : Nat) : Nat := G.2.1 c
def ve_S (G : ve_T) (c : Nat) : Nat := G.2.2.1 c
def ve_A (G : ve_T) (c : Nat) : Nat := G.2.2.2 c
def ve_cl (G : ve_T) : Nat → Nat → Nat
  | 0, d => d
  | k + 1, d => ve_cl G k (ve_S G d)
def ve_an (G : ve_T) (d c : Nat) : Prop := ∃ k, ve_cl G k d = c
def ve_be (G : ve_T) (c : Nat) : Nat → Nat → Bool
  | 0, d => decide (d = c)
  | f + 1, d => if d ≤ c then decide (d = c) else ve_be G c f (ve_S G d)
def ve_by (G : ve_T) (c : Nat) : Nat → Nat → Bool
  | 0, d => decide (d = c)
  | f + 1, d => if d = c then true else ve_by G c f (ve_S G d)
/-- a well formed table of n classes -/
def ve_WG (n : Nat) (G : ve_T) : Prop :=
  (1 ≤ n ∧ n ≤ 12) ∧ ve_V G 0 = 0 ∧ ve_S G 0 = 0 ∧
  (∀ c, n ≤ c → ve_V G c = 0 ∧ ve_B G c = 0 ∧ ve_S G c = 0 ∧ ve_A G c = 0) ∧
  (∀ c, 0 < c → ve_S G c < c) ∧ (∀ c, ve_A G c ≤ 15) ∧
  (∀ c, c < n → ve_V G c ≤ 3 ∧ ve_B G c < n ∧ ve_V G (ve_B G c) = 0) ∧
  (∀ c, c < n → ve_V G (ve_S G c) ≠ 0 →
    (ve_A G c = 15 ∧ ve_V G c ≠ 0 ∧ (ve_V G c = 3 ∨ ve_V G c = ve_V G (ve_S G c)) ∧ ve_an G (ve_B G c) (ve_B G (ve_S G c))) ∨
    (ve_A G c < n ∧ ve_V G (ve_A G c) = 0 ∧ ve_an G (ve_A G c) (ve_B G (ve_S G c))))
section
variable {n : Nat} {G : ve_T}
theorem ve_n1 (h : ve_WG n G) : 1 ≤ n := h.1.1
theorem ve_n12 (h : ve_WG n G) : n ≤ 12 := h.1.2
theorem ve_V0 (h : ve_WG n G) : ve_V G 0 = 0 := h.2.1
theorem ve_S0 (h : ve_WG n G) : ve_S G 0 = 0 := h.2.2.1
theorem ve_Vn (h : ve_WG n G) {c : Nat} (hc : n ≤ c) : ve_V G c = 0 := (h.2.2.2.1 c hc).1
theorem ve_Bn (h : ve_WG n G) {c : Nat} (hc : n ≤ c) : ve_B G c = 0 := (h.2.2.2.1 c hc).2.1
theorem ve_Sn (h : ve_WG n G) {c : Nat} (hc : n ≤ c) : ve_S G c = 0 := (h.2.2.2.1 c hc).2.2.1
theorem ve_An (h : ve_WG n G) {c : Nat} (hc : n ≤ c) : ve_A G c = 0 := (h.2.2.2.1 c hc).2.2.2
theorem ve_Slt (h : ve_WG n G) {c : Nat} (hc : 0 < c) : ve_S G c < c := h.2.2.2.2.1 c hc
theorem ve_A15 (h : ve_WG n G) (c : Nat) : ve_A G c ≤ 15 := h.2.2.2.2.2.1 c
theorem ve_V15 (h : ve_WG n G) : ve_V G 15 = 0 := ve_Vn h (by have := ve_n12 h; omega)
theorem ve_lt (h : ve_WG n G) {c : Nat} (hc : ve_V G c ≠ 0) : c < n := by
  rcases Nat.lt_or_ge c n with z | z
  · exact z
  · exact absurd (ve_Vn h z) hc
theorem ve_V3 (h : ve_WG n G) (c : Nat) : ve_V G c ≤ 3 := by
  rcases Nat.lt_or_ge c n with z | z
  · exact (h.2.2.2.2.2.2.1 c z).1
  · rw [ve_Vn h z]; omega
theorem ve_Blt (h : ve_WG n G) (c : Nat) : ve_B G c < n := by
  rcases Nat.lt_or_ge c n with z | z
  · exact (h.2.2.2.2.2.2.1 c z).2.1
  · rw [ve_Bn h z]; exact ve_n1 h
theorem ve_VB (h : ve_WG n G) (c : Nat) : ve_V G (ve_B G c) = 0 := by
  rcases Nat.lt_or_ge c n with z | z
  · exact (h.2.2.2.2.2.2.1 c z).2.2
  · rw [ve_Bn h z]; exact ve_V0 h
theorem ve_hd (h : ve_WG n G) {c : Nat} (hc : c < n) (hs : ve_V G (ve_S G c) ≠ 0) :
    (ve_A G c = 15 ∧ ve_V G c ≠ 0 ∧ (ve_V G c = 3 ∨ ve_V G c = ve_V G (ve_S G c)) ∧ ve_an G (ve_B G c) (ve_B G (ve_S G c))) ∨
    (ve_A G c < n ∧ ve_V G (ve_A G c) = 0 ∧ ve_an G (ve_A G c) (ve_B G (ve_S G c))) := h.2.2.2.2.2.2.2 c hc hs
theorem ve_Sle (h : ve_WG n G) (c : Nat) : ve_S G c ≤ c := by
  rcases Nat.eq_zero_or_pos c with z | z
  · subst z; rw [ve_S0 h]; exact Nat.le_refl _
  · exact Nat.le_of_lt (ve_Slt h z)
theorem ve_Sltn (h : ve_WG n G) (c : Nat) : ve_S G c < n := by
  rcases Nat.lt_or_ge c n with z | z
  · exact Nat.lt_of_le_of_lt (ve_Sle h c) z
  · rw [ve_Sn h z]; exact ve_n1 h
theorem ve_cl_le (h : ve_WG n G) : ∀ k d, ve_cl G k d ≤ d
  | 0, d => Nat.le_refl _
  | k + 1, d => Nat.le_trans (ve_cl_le h k _) (ve_Sle h d)
theorem ve_cl_sub (h : ve_WG n G) : ∀ k d, ve_cl G k d ≤ d - k
  | 0, d => Nat.le_refl _
  | k + 1, d => by
    have a := ve_cl_sub h k (ve_S G d)
    show ve_cl G k (ve_S G d) ≤ d - (k + 1)
    rcases Nat.eq_zero_or_pos d with z | z
    · subst z; rw [ve_S0 h] at a ⊢; omega
    · have := ve_Slt h z; omega
theorem ve_cl_0 (h : ve_WG n G) : ∀ k, ve_cl G k 0 = 0 := fun k => by have := ve_cl_le h k 0; omega
theorem ve_cl_add : ∀ k l d, ve_cl G (k + l) d = ve_cl G l (ve_cl G k d)
  | 0, l, d => by rw [Nat.zero_add]; rfl
  | k + 1, l, d => by
    have e : k + 1 + l = (k + l) + 1 := by omega
    rw [e]; exact ve_cl_add k l (ve_S G d)
theorem ve_cl_12 (h : ve_WG n G) (d : Nat) : ve_cl G 12 d = 0 := by
  rcases Nat.lt_or_ge d n with z | z
  · have := ve_cl_sub h 12 d; have := ve_n12 h; omega
  · show ve_cl G 11 (ve_S G d) = 0
    rw [ve_Sn h z]; exact ve_cl_0 h 11
theorem ve_an12 (h : ve_WG n G) {d c : Nat} (a : ve_an G d c) : ∃ k, k ≤ 12 ∧ ve_cl G k d = c := by
  obtain ⟨k, e⟩ := a
  rcases Nat.lt_or_ge 12 k with z | z
  · refine ⟨12, Nat.le_refl _, ?_⟩
    have e2 : k = 12 + (k - 12) := by omega
    rw [e2, ve_cl_add, ve_cl_12 h, ve_cl_0 h] at e
    rw [ve_cl_12 h]; exact e
  · exact ⟨k, z, e⟩
theorem ve_an_r (d : Nat) : ve_an G d d := ⟨0, rfl⟩
theorem ve_an_t {a b c : Nat} (x : ve_an G a b) (y : ve_an G b c) : ve_an G a c := by
  obtain ⟨k, rfl⟩ := x
  obtain ⟨l, rfl⟩ := y
  exact ⟨k + l, ve_cl_add k l a⟩
theorem ve_an_le (h : ve_WG n G) {d c : Nat} (a : ve_an G d c) : c ≤ d := by
  obtain ⟨k, rfl⟩ := a
  exact ve_cl_le h k d
theorem ve_an_S (d : Nat) : ve_an G d (ve_S G d) := ⟨1, rfl⟩
theorem ve_an_up {d c : Nat} (a : ve_an G d c) (hn : d ≠ c) : ve_an G (ve_S G d) c := by
  obtain ⟨k, e⟩ := a
  cases k with
  | zero => exact absurd e hn
  | succ k => exact ⟨k, e⟩
theorem ve_an_0 (h : ve_WG n G) (d : Nat) : ve_an G d 0 := ⟨12, ve_cl_12 h d⟩
theorem ve_an_n (h : ve_WG n G) {d c : Nat} (a : ve_an G d c) (hd : d < n) : c < n := Nat.lt_of_le_of_lt (ve_an_le h a) hd
theorem ve_an_c {d a b : Nat} (x : ve_an G d a) (y : ve_an G d b) : ve_an G a b ∨ ve_an G b a := by
  obtain ⟨k, rfl⟩ := x
  obtain ⟨l, rfl⟩ := y
  rcases Nat.le_total k l with z | z
  · refine Or.inl ⟨l - k, ?_⟩
    rw [← ve_cl_add]; congr 1; omega
  · refine Or.inr ⟨k - l, ?_⟩
    rw [← ve_cl_add]; congr 1; omega
theorem ve_be_iff (h : ve_WG n G) {c : Nat} : ∀ f d, ve_be G c f d = true ↔ ∃ k, k ≤ f ∧ ve_cl G k d = c
  | 0, d => by
    constructor
    · intro a; exact ⟨0, Nat.le_refl _, of_decide_eq_true a⟩
    · rintro ⟨k, hk, e⟩
      have : k = 0 := by omega
      subst this; exact decide_eq_true e
  | f + 1, d => by
    unfold ve_be
    by_cases hd : d ≤ c
    · rw [if_pos hd]
      constructor
      · intro a; exact ⟨0, Nat.zero_le _, of_decide_eq_true a⟩
      · rintro ⟨k, _, e⟩
        have := ve_cl_le h k d
        exact decide_eq_true (by omega)
    · rw [if_neg hd, ve_be_iff h f]
      constructor
      · rintro ⟨k, hk, e⟩; exact ⟨k + 1, by omega, e⟩
      · rintro ⟨k, hk, e⟩
        cases k with
        | zero => exact absurd e (by show ¬ d = c; omega)
        | succ k => exact ⟨k, by omega, e⟩
theorem ve_by_iff {c : Nat} : ∀ f d, ve_by G c f d = true ↔ ∃ k, k ≤ f ∧ ve_cl G k d = c
  | 0, d => by
    constructor
    · intro a; exact ⟨0, Nat.le_refl _, of_decide_eq_true a⟩
    · rintro ⟨k, hk, e⟩
      have : k = 0 := by omega
      subst this; exact decide_eq_true e
  | f + 1, d => by
    unfold ve_by
    by_cases hd : d = c
    · rw [if_pos hd]
      exact ⟨fun _ => ⟨0, Nat.zero_le _, hd⟩, fun _ => rfl⟩
    · rw [if_neg hd, ve_by_iff f]
      constructor
      · rintro ⟨k, hk, e⟩; exact ⟨k + 1, by omega, e⟩
      · rintro ⟨k, hk, e⟩
        cases k with
        | zero => exact absurd e hd
        | succ k => exact ⟨k, by omega, e⟩
theorem ve_bool {a b : Bool} (h : a = true ↔ b = true) : a = b := by
  cases a <;> cases b <;> simp_all
theorem ve_by_be (h : ve_WG n G) (c f d : Nat) : ve_by G c f d = ve_be G c f d :=
  ve_bool ((ve_by_iff f d).trans (ve_be_iff h f d).symm)
/-- below -/
def ve_bl (G : ve_T) (d c : Nat) : Bool := ve_be G c 12 d
theorem ve_bl_iff (h : ve_WG n G) {d c : Nat} : ve_bl G d c = true ↔ ve_an G d c := by
  unfold ve_bl
  rw [ve_be_iff h]
  exact ⟨fun ⟨k, _, e⟩ => ⟨k, e⟩, fun a => ve_an12 h a⟩
theorem ve_bl_f (h : ve_WG n G) {d c : Nat} : ve_bl G d c = false ↔ ¬ ve_an G d c := by
  rw [← ve_bl_iff h]; cases ve_bl G d c <;> simp
end
/-! seen as -/
def ve_st (G : ve_T) (v : Nat) : Nat :=
  if ve_V G (ve_S G (v % 16)) = 0 then ve_S G (v % 16)
  else if ve_A G (v % 16) = 15 then v / 16 * 16 + ve_S G (v % 16)
  else ve_S G (v % 16) + 16 * ve_A G (v % 16)
def ve_se (G : ve_T) (a : Nat) : Nat → Nat → Nat
  | 0, v => v
  | f + 1, v => if v % 16 = a then v else ve_se G a f (ve_st G v)
def ve_sn (G : ve_T) (v a : Nat) : Nat := ve_se G a 12 v
section
variable {n : Nat} {G : ve_T}
theorem ve_st_hd (h : ve_WG n G) (v : Nat) : ve_st G v % 16 = ve_S G (v % 16) := by
  have a := ve_Sltn h (v % 16)
  have b := ve_n12 h
  unfold ve_st
  split
  · omega
  · split <;> omega
theorem ve_se_f (h : ve_WG n G) {a : Nat} : ∀ k f f' v, k ≤ f → k ≤ f' → ve_cl G k (v % 16) = a → ve_se G a f v = ve_se G a f' v
  | 0, f, f', v, _, _, e => by
    have e' : v % 16 = a := e
    have q : ∀ f, ve_se G a f v = v := by
      intro f
      cases f with
      | zero => rfl
      | succ f => unfold ve_se; rw [if_pos e']
    rw [q, q]
  | k + 1, f, f', v, hf, hf', e => by
    obtain ⟨g, rfl⟩ : ∃ g, f = g + 1 := ⟨f - 1, by omega⟩
    obtain ⟨g', rfl⟩ : ∃ g', f' = g' + 1 := ⟨f' - 1, by omega⟩
    unfold ve_se
    by_cases z : v % 16 = a
    · rw [if_pos z, if_pos z]
    · rw [if_neg z, if_neg z]
      refine ve_se_f h k g g' _ (by omega) (by omega) ?_
      rw [ve_st_hd h]; exact e
theorem ve_sn_r {v a : Nat} (e : v % 16 = a) : ve_sn G v a = v := by
  unfold ve_sn ve_se; rw [if_pos e]
theorem ve_sn_s (h : ve_WG n G) {v a : Nat} (e : v % 16 ≠ a) (x : ve_an G (v % 16) a) : ve_sn G v a = ve_sn G (ve_st G v) a := by
  have y : ve_an G (ve_st G v % 16) a := by rw [ve_st_hd h]; exact ve_an_up x e
  obtain ⟨k, hk, ek⟩ := ve_an12 h x
  cases k with
  | zero => exact absurd ek e
  | succ k =>
    have ek' : ve_cl G k (ve_st G v % 16) = a := by rw [ve_st_hd h]; exact ek
    show (if v % 16 = a then v else ve_se G a 11 (ve_st G v)) = ve_se G a 12 (ve_st G v)
    rw [if_neg e]
    exact ve_se_f h k 11 12 _ (by omega) (by omega) ek'
/-- induction along the way up -/
theorem ve_up (h : ve_WG n G) {a : Nat} {P : Nat → Prop} (h0 : ∀ v, v % 16 = a → P v)
    (hs : ∀ v, v % 16 ≠ a → ve_an G (v % 16) a → P (ve_st G v) → P v) : ∀ v, ve_an G (v % 16) a → P v := by
  have key : ∀ k v, ve_cl G k (v % 16) = a → P v := by
    intro k
    induction k with
    | zero => intro v e; exact h0 v e
    | succ k ih =>
      intro v e
      by_cases z : v % 16 = a
      · exact h0 v z
      · exact hs v z ⟨k + 1, e⟩ (ih _ (by rw [ve_st_hd h]; exact e))
  rintro v ⟨k, e⟩
  exact key k v e
theorem ve_sn_hd (h : ve_WG n G) {a : Nat} : ∀ v, ve_an G (v % 16) a → ve_sn G v a % 16 = a :=
  ve_up h (fun v e => by rw [ve_sn_r e]; exact e) (fun v z x ih => by rw [ve_sn_s h z x]; exact ih)
theorem ve_sn_t (h : ve_WG n G) {a b : Nat} (y : ve_an G a b) : ∀ v, ve_an G (v % 16) a → ve_sn G (ve_sn G v a) b = ve_sn G v b := by
  refine ve_up h (fun v e => by rw [ve_sn_r e]) (fun v z x ih => ?_)
  rw [ve_sn_s h z x, ih]
  have x2 : ve_an G (v % 16) b := ve_an_t x y
  by_cases w : v % 16 = b
  · have := ve_an_le h x; have := ve_an_le h y; omega
  · exact (ve_sn_s h w x2).symm
end
end
section
/-! Types: wt n G o k t: t is a type over cls o, of exactly k symbols -/
def ve_wt (n : Nat) (G : ve_T) (o : Nat) : Nat → Nat → Prop
  | 0, _ => False
  | 1, t => t < 16 ∧ ve_V G t = 0 ∧ ((t = 15 ∧ ve_V G o ≠ 0) ∨ t < n)
  | k + 2, t => ve_V G (t % 16) ≠ 0 ∧ ve_wt n G o (k + 1) (t / 16)
section
variable {n : Nat} {G : ve_T} {o : Nat}
theorem ve_wt_pos : ∀ {k t : Nat}, ve_wt n G o k t → 1 ≤ k
  | 0, _, h => absurd h (fun z => z)
  | k + 1, _, _ => by omega
theorem ve_wt_leaf {k t : Nat} (w : ve_wt n G o k t) (hv : ve_V G (t % 16) = 0) : k = 1 ∧ t < 16 ∧ t % 16 = t ∧ ((t = 15 ∧ ve_V G o ≠ 0) ∨ t < n) := by
  match k, w with
  | 1, w => exact ⟨rfl, w.1, by have := w.1; omega, w.2.2⟩
  | k + 2, w => exact absurd hv w.1
theorem ve_wt_node {k t : Nat} (w : ve_wt n G o k t) (hv : ve_V G (t % 16) ≠ 0) : 2 ≤ k ∧ ve_wt n G o (k - 1) (t / 16) := by
  match k, w with
  | 1, w =>
    have e : t % 16 = t := by have := w.1; omega
    rw [e] at hv; exact absurd w.2.1 hv
  | k + 2, w => exact ⟨by omega, w.2⟩
theorem ve_wt_mk {k t : Nat} (hv : ve_V G (t % 16) ≠ 0) (w : ve_wt n G o k (t / 16)) : ve_wt n G o (k + 1) t := by
  match k, w with
  | k + 1, w => exact ⟨hv, w⟩
theorem ve_wt_c {c : Nat} (h : ve_WG n G) (hc : c < n) (hv : ve_V G c = 0) : ve_wt n G o 1 c :=
  ⟨by have := ve_n12 h; omega, hv, Or.inr hc⟩
theorem ve_wt_0 (h : ve_WG n G) : ve_wt n G o 1 0 := ve_wt_c h (ve_n1 h) (ve_V0 h)
theorem ve_wt_15 {k : Nat} (h : ve_WG n G) (w : ve_wt n G o k 15) : ve_V G o ≠ 0 := by
  have e := ve_wt_leaf w (by show ve_V G 15 = 0; exact ve_V15 h)
  have := ve_n12 h
  rcases e.2.2.2 with z | z
  · exact z.2
  · omega
/-- the head of a type other than the variable is a cls -/
theorem ve_wt_hd {k t : Nat} (h : ve_WG n G) (w : ve_wt n G o k t) (ht : t ≠ 15) : t % 16 < n := by
  by_cases hv : ve_V G (t % 16) = 0
  · have e := ve_wt_leaf w hv
    rcases e.2.2.2 with z | z
    · exact absurd z.1 ht
    · omega
  · exact ve_lt h hv
theorem ve_wt_x {k t : Nat} (h : ve_WG n G) (w : ve_wt n G o k t) (ht : t % 16 = 15) : t = 15 := by
  have e := ve_wt_leaf w (by rw [ht]; exact ve_V15 h)
  omega
theorem ve_wt_cl {k t : Nat} (h : ve_WG n G) (ho : ve_V G o = 0) (w : ve_wt n G o k t) : t ≠ 15 := by
  rintro rfl
  exact ve_wt_15 h w ho
theorem ve_wt_u : ∀ {k k' t : Nat}, ve_wt n G o k t → ve_wt n G o k' t → k = k' := by
  intro k
  induction k with
  | zero => intro k' t w; exact absurd w (fun z => z)
  | succ k ih =>
    intro k' t w w'
    by_cases hv : ve_V G (t % 16) = 0
    · rw [(ve_wt_leaf w hv).1, (ve_wt_leaf w' hv).1]
    · have a := ve_wt_node w hv
      have b := ve_wt_node w' hv
      have := ih a.2 b.2
      omega
theorem ve_wt_lt : ∀ {k t : Nat}, ve_wt n G o k t → t < 16 ^ k := by
  intro k
  induction k with
  | zero => intro t w; exact absurd w (fun z => z)
  | succ k ih =>
    intro t w
    by_cases hv : ve_V G (t % 16) = 0
    · have e := ve_wt_leaf w hv
      have : k = 0 := by omega
      subst this; omega
    · have a := ve_wt_node w hv
      have b := ih a.2
      rw [Nat.pow_succ]; omega
theorem ve_wt_48 {k t : Nat} (w : ve_wt n G o k t) (hk : k ≤ 12) : t < 281474976710656 := by
  have a := ve_wt_lt w
  have b : 16 ^ k ≤ 16 ^ 12 := Nat.pow_le_pow_right (by omega) hk
  have c : 16 ^ 12 = 281474976710656 := by decide
  omega
/-- a type of another owner's kind: closed types are types over all -/
theorem ve_wt_o {o' : Nat} (h : ve_WG n G) (ho : ve_V G o = 0) : ∀ {k t : Nat}, ve_wt n G o k t → ve_wt n G o' k t := by
  intro k
  induction k with
  | zero => intro t w; exact absurd w (fun z => z)
  | succ k ih =>
    intro t w
    by_cases hv : ve_V G (t % 16) = 0
    · have e := ve_wt_leaf w hv
      have : k = 0 := by omega
      subst this
      refine ⟨e.2.1, by rw [← e.2.2.1]; exact hv, ?_⟩
      rcases e.2.2.2 with z | z
      · exact absurd ho z.2
      · exact Or.inr z
    · have a := ve_wt_node w hv
      exact ve_wt_mk hv (ih a.2)
/-- one step up keeps a type a type -/
theorem ve_st_wt (h : ve_WG n G) {k v : Nat} (w : ve_wt n G o k v) (hv : v ≠ 15) : ∃ k', k' ≤ k + 1 ∧ (2 ≤ k → k' ≤ k) ∧ ve_wt n G o k' (ve_st G v) := by
  have hc := ve_wt_hd h w hv
  have p := ve_wt_pos w
  have n12 := ve_n12 h
  have hs := ve_Sltn h (v % 16)
  unfold ve_st
  by_cases z : ve_V G (ve_S G (v % 16)) = 0
  · rw [if_pos z]
    exact ⟨1, by omega, by omega, ve_wt_c h hs z⟩
  · rw [if_neg z]
    rcases ve_hd h hc z with q | q
    · rw [if_pos q.1]
      have b := ve_wt_node w q.2.1
      refine ⟨k - 1 + 1, by omega, by omega, ?_⟩
      have e1 : (v / 16 * 16 + ve_S G (v % 16)) % 16 = ve_S G (v % 16) := by omega
      have e2 : (v / 16 * 16 + ve_S G (v % 16)) / 16 = v / 16 := by omega
      exact ve_wt_mk (by rw [e1]; exact z) (by rw [e2]; exact b.2)
    · have e : ve_A G (v % 16) ≠ 15 := by omega
      rw [if_neg e]
      have e1 : (ve_S G (v % 16) + 16 * ve_A G (v % 16)) % 16 = ve_S G (v % 16) := by omega
      have e2 : (ve_S G (v % 16) + 16 * ve_A G (v % 16)) / 16 = ve_A G (v % 16) := by omega
      refine ⟨1 + 1, by omega, by omega, ?_⟩
      exact ve_wt_mk (by rw [e1]; exact z) (by rw [e2]; exact ve_wt_c h q.1 q.2.1)
theorem ve_st_15 (h : ve_WG n G) (v : Nat) : ve_st G v ≠ 15 := by
  intro e
  have a := ve_st_hd h v
  have b := ve_Sltn h (v % 16)
  have := ve_n12 h
  rw [e] at a; omega
theorem ve_sn_wt (h : ve_WG n G) {a : Nat} : ∀ v, ve_an G (v % 16) a → ∀ k, ve_wt n G o k v → v ≠ 15 → ∃ k', k' ≤ k + 1 ∧ (2 ≤ k → k' ≤ k) ∧ ve_wt n G o k' (ve_sn G v a) := by
  refine ve_up h (fun v e k w _ => ⟨k, by omega, fun _ => by omega, by rw [ve_sn_r e]; exact w⟩) (fun v z x ih k w hv => ?_)
  rw [ve_sn_s h z x]
  obtain ⟨k1, a1, b1, c1⟩ := ve_st_wt h w hv
  obtain ⟨k2, a2, b2, c2⟩ := ih k1 c1 (ve_st_15 h v)
  have p := ve_wt_pos c1
  have p2 := ve_wt_pos w
  rcases Nat.lt_or_ge k 2 with y | y
  · rcases Nat.lt_or_ge k1 2 with y1 | y1
    · exact ⟨k2, by omega, by omega, c2⟩
    · have := b2 y1; exact ⟨k2, by omega, by omega, c2⟩
  · have := b1 y
    rcases Nat.lt_or_ge k1 2 with y1 | y1
    · exact ⟨k2, by omega, by omega, c2⟩
    · have := b2 y1; exact ⟨k2, by omega, by omega, c2⟩
/-- the argument that a type seen as a has -/
def ve_ar (G : ve_T) (v a : Nat) : Nat := ve_sn G v a / 16
theorem ve_ar_wt (h : ve_WG n G) {a k v : Nat} (x : ve_an G (v % 16) a) (w : ve_wt n G o k v) (hv : v ≠ 15) : ∃ k', k' ≤ k ∧ (2 ≤ k → k' < k) ∧ ve_wt n G o k' (ve_ar G v a) := by
  obtain ⟨k1, a1, b1, c1⟩ := ve_sn_wt (o := o) h v x k w hv
  have e := ve_sn_hd h v x
  have p := ve_wt_pos w
  by_cases z : ve_V G a = 0
  · have l := ve_wt_leaf c1 (by rw [e]; exact z)
    refine ⟨1, by omega, by omega, ?_⟩
    have : ve_ar G v a = 0 := by unfold ve_ar; omega
    rw [this]; exact ve_wt_0 h
  · have l := ve_wt_node c1 (by rw [e]; exact z)
    refine ⟨k1 - 1, by omega, fun q => by have := b1 q; omega, l.2⟩
theorem ve_sn_eq (h : ve_WG n G) {a k v : Nat} (x : ve_an G (v % 16) a) (_w : ve_wt n G o k v) : ve_sn G v a = a + 16 * ve_ar G v a := by
  have e := ve_sn_hd h v x
  unfold ve_ar; omega
theorem ve_ar_t (h : ve_WG n G) {a b v : Nat} (y : ve_an G a b) (x : ve_an G (v % 16) a) : ve_ar G (ve_sn G v a) b = ve_ar G v b := by
  unfold ve_ar; rw [ve_sn_t h y v x]
end
/-! subtypes, with fuel -/
def ve_sv (G : ve_T) (R : Nat → Nat → Bool) (s t : Nat) : Bool :=
  if ve_bl G (s % 16) (t % 16) = true then
    if ve_V G (t % 16) = 0 then true
    else if ve_V G (t % 16) = 3 then decide (ve_ar G s (t % 16) = t / 16)
    else if ve_V G (t % 16) = 1 then R (ve_ar G s (t % 16)) (t / 16)
    else R (t / 16) (ve_ar G s (t % 16))
  else false
def ve_su (G : ve_T) (o : Nat) : Nat → Nat → Nat → Bool
  | 0 => fun _ _ => false
  | f + 1 => fun s t => if t = 15 then decide (s = 15) else ve_sv G (ve_su G o f) (if s = 15 then ve_B G o else s) t
def ve_Su (G : ve_T) (o s t : Nat) : Prop := ∃ f, ve_su G o f s t = true
def ve_AR (G : ve_T) (o e p q : Nat) : Prop :=
  ve_V G e = 0 ∨ (ve_V G e = 3 ∧ p = q) ∨ (ve_V G e = 1 ∧ ve_Su G o p q) ∨ (ve_V G e = 2 ∧ ve_Su G o q p)
section
variable {n : Nat} {G : ve_T} {o : Nat}
theorem ve_sv_iff (h : ve_WG n G) {R : Nat → Nat → Bool} {s t : Nat} : ve_sv G R s t = true ↔
    ve_an G (s % 16) (t % 16) ∧ (ve_V G (t % 16) = 0 ∨ (ve_V G (t % 16) = 3 ∧ ve_ar G s (t % 16) = t / 16) ∨
      (ve_V G (t % 16) = 1 ∧ R (ve_ar G s (t % 16)) (t / 16) = true) ∨ (ve_V G (t % 16) = 2 ∧ R (t / 16) (ve_ar G s (t % 16)) = true)) := by
  have v3 := ve_V3 h (t % 16)
  unfold ve_sv
  by_cases a : ve_an G (s % 16) (t % 16)
  · rw [if_pos ((ve_bl_iff h).mpr a)]
    by_cases z0 : ve_V G (t % 16) = 0
    · rw [if_pos z0]; exact ⟨fun _ => ⟨a, Or.inl z0⟩, fun _ => rfl⟩
    · rw [if_neg z0]
      by_cases z3 : ve_V G (t % 16) = 3
      · rw [if_pos z3]
        constructor
        · intro q; exact ⟨a, Or.inr (Or.inl ⟨z3, of_decide_eq_true q⟩)⟩
        · rintro ⟨_, q | q | q | q⟩
          · omega
          · exact decide_eq_true q.2
          · omega
          · omega
      · rw [if_neg z3]
        by_cases z1 : ve_V G (t % 16) = 1
        · rw [if_pos z1]
          constructor
          · intro q; exact ⟨a, Or.inr (Or.inr (Or.inl ⟨z1, q⟩))⟩
          · rintro ⟨_, q | q | q | q⟩
            · omega
            · omega
            · exact q.2
            · omega
        · rw [if_neg z1]
          constructor
          · intro q; exact ⟨a, Or.inr (Or.inr (Or.inr ⟨by omega, q⟩))⟩
          · rintro ⟨_, q | q | q | q⟩
            · omega
            · omega
            · omega
            · exact q.2
  · rw [if_neg (fun z => a ((ve_bl_iff h).mp z))]
    exact ⟨fun q => absurd q (by decide), fun q => absurd q.1 a⟩
theorem ve_su_s (h : ve_WG n G) : ∀ f s t, ve_su G o f s t = true → ve_su G o (f + 1) s t = true
  | 0, s, t, e => absurd e (by simp [ve_su])
  | f + 1, s, t, e => by
    unfold ve_su at e ⊢
    by_cases z : t = 15
    · rw [if_pos z] at e ⊢; exact e
    · rw [if_neg z] at e ⊢
      rw [ve_sv_iff h] at e ⊢
      refine ⟨e.1, ?_⟩
      rcases e.2 with q | q | q | q
      · exact Or.inl q
      · exact Or.inr (Or.inl q)
      · exact Or.inr (Or.inr (Or.inl ⟨q.1, ve_su_s h f _ _ q.2⟩))
      · exact Or.inr (Or.inr (Or.inr ⟨q.1, ve_su_s h f _ _ q.2⟩))
theorem ve_su_m (h : ve_WG n G) {f s t : Nat} (e : ve_su G o f s t = true) : ∀ d, ve_su G o (f + d) s t = true
  | 0 => e
  | d + 1 => ve_su_s h _ _ _ (ve_su_m h e d)
theorem ve_Su_15 (s : Nat) : ve_Su G o s 15 ↔ s = 15 := by
  constructor
  · rintro ⟨f, e⟩
    cases f with
    | zero => exact absurd e (by simp [ve_su])
    | succ f => unfold ve_su at e; rw [if_pos rfl] at e; exact of_decide_eq_true e
  · intro e; exact ⟨1, by unfold ve_su; rw [if_pos rfl]; exact decide_eq_true e⟩
theorem ve_Su_iff (h : ve_WG n G) {s t : Nat} (hs : s ≠ 15) (ht : t ≠ 15) :
    ve_Su G o s t ↔ ve_an G (s % 16) (t % 16) ∧ ve_AR G o (t % 16) (ve_ar G s (t % 16)) (t / 16) := by
  constructor
  · rintro ⟨f, e⟩
    cases f with
    | zero => exact absurd e (by simp [ve_su])
    | succ f =>
      unfold ve_su at e
      rw [if_neg ht, if_neg hs, ve_sv_iff h] at e
      refine ⟨e.1, ?_⟩
      rcases e.2 with q | q | q | q
      · exact Or.inl q
      · exact Or.inr (Or.inl q)
      · exact Or.inr (Or.inr (Or.inl ⟨q.1, f, q.2⟩))
      · exact Or.inr (Or.inr (Or.inr ⟨q.1, f, q.2⟩))
  · rintro ⟨a, q⟩
    have mk : ∀ f, (ve_V G (t % 16) = 0 ∨ (ve_V G (t % 16) = 3 ∧ ve_ar G s (t % 16) = t / 16) ∨
      (ve_V G (t % 16) = 1 ∧ ve_su G o f (ve_ar G s (t % 16)) (t / 16) = true) ∨ (ve_V G (t % 16) = 2 ∧ ve_su G o f (t / 16) (ve_ar G s (t % 16)) = true)) → ve_Su G o s t := by
      intro f r
      refine ⟨f + 1, ?_⟩
      unfold ve_su
      rw [if_neg ht, if_neg hs, ve_sv_iff h]
      exact ⟨a, r⟩
    rcases q with q | q | q | q
    · exact mk 0 (Or.inl q)
    · exact mk 0 (Or.inr (Or.inl q))
    · obtain ⟨q1, f, q2⟩ := q
      exact mk f (Or.inr (Or.inr (Or.inl ⟨q1, q2⟩)))
    · obtain ⟨q1, f, q2⟩ := q
      exact mk f (Or.inr (Or.inr (Or.inr ⟨q1, q2⟩)))
theorem ve_Su_x (h : ve_WG n G) {t : Nat} (ht : t ≠ 15) : ve_Su G o 15 t ↔ ve_Su G o (ve_B G o) t := by
  have hb : ve_B G o ≠ 15 := by have := ve_Blt h o; have := ve_n12 h; omega
  have key : ∀ f, ve_su G o f 15 t = ve_su G o f (ve_B G o) t := by
    intro f
    cases f with
    | zero => rfl
    | succ f => unfold ve_su; rw [if_neg ht, if_neg ht, if_pos rfl, if_neg hb]
  exact ⟨fun ⟨f, e⟩ => ⟨f, by rw [← key]; exact e⟩, fun ⟨f, e⟩ => ⟨f, by rw [key]; exact e⟩⟩
theorem ve_Su_p (h : ve_WG n G) {s t : Nat} (hs : s ≠ 15) (ht : t < n) (hv : ve_V G t = 0) : ve_Su G o s t ↔ ve_an G (s % 16) t := by
  have e : t % 16 = t := by have := ve_n12 h; omega
  rw [ve_Su_iff h hs (by have := ve_n12 h; omega), e]
  exact ⟨fun q => q.1, fun q => ⟨q, Or.inl hv⟩⟩
theorem ve_Su_r (h : ve_WG n G) : ∀ {k t : Nat}, ve_wt n G o k t → ve_Su G o t t := by
  intro k
  induction k with
  | zero => intro t w; exact absurd w (fun z => z)
  | succ k ih =>
    intro t w
    by_cases hx : t = 15
    · subst hx; exact (ve_Su_15 15).mpr rfl
    · rw [ve_Su_iff h hx hx]
      refine ⟨ve_an_r _, ?_⟩
      by_cases hv : ve_V G (t % 16) = 0
      · exact Or.inl hv
      · have a := ve_wt_node w hv
        have e : ve_ar G t (t % 16) = t / 16 := by unfold ve_ar; rw [ve_sn_r rfl]
        rw [e]
        have v3 := ve_V3 h (t % 16)
        have r := ih a.2
        have : ve_V G (t % 16) = 3 ∨ ve_V G (t % 16) = 1 ∨ ve_V G (t % 16) = 2 := by omega
        rcases this with q | q | q
        · exact Or.inr (Or.inl ⟨q, rfl⟩)
        · exact Or.inr (Or.inr (Or.inl ⟨q, r⟩))
        · exact Or.inr (Or.inr (Or.inr ⟨q, r⟩))
theorem ve_AR_r (h : ve_WG n G) {k e p : Nat} (w : ve_wt n G o k p) : ve_AR G o e p p := by
  have v3 := ve_V3 h e
  have r := ve_Su_r h w
  have : ve_V G e = 0 ∨ ve_V G e = 3 ∨ ve_V G e = 1 ∨ ve_V G e = 2 := by omega
  rcases this with q | q | q | q
  · exact Or.inl q
  · exact Or.inr (Or.inl ⟨q, rfl⟩)
  · exact Or.inr (Or.inr (Or.inl ⟨q, r⟩))
  · exact Or.inr (Or.inr (Or.inr ⟨q, r⟩))
/-- enough fuel -/
theorem ve_su_fuel (h : ve_WG n G) : ∀ f k1 k2 s t, ve_wt n G o k1 s → ve_wt n G o k2 t → k1 + k2 ≤ f + 1 → ve_Su G o s t → ve_su G o f s t = true := by
  intro f
  induction f with
  | zero => intro k1 k2 s t w1 w2 hk; have := ve_wt_pos w1; have := ve_wt_pos w2; omega
  | succ f ih =>
    have main : ∀ k1 k2 s t, ve_wt n G o k1 s → ve_wt n G o k2 t → k1 + k2 ≤ f + 1 + 1 → s ≠ 15 → t ≠ 15 → ve_Su G o s t → ve_sv G (ve_su G o f) s t = true := by
      intro k1 k2 s t w1 w2 hk hs ht hS
      rw [ve_Su_iff h hs ht] at hS
      rw [ve_sv_iff h]
      refine ⟨hS.1, ?_⟩
      obtain ⟨k1', a1, b1, c1⟩ := ve_ar_wt h hS.1 w1 hs
      have p := ve_wt_pos w1
      rcases hS.2 with q | q | q | q
      · exact Or.inl q
      · exact Or.inr (Or.inl q)
      · have nd := ve_wt_node w2 (by omega)
        exact Or.inr (Or.inr (Or.inl ⟨q.1, ih _ _ _ _ c1 nd.2 (by omega) q.2⟩))
      · have nd := ve_wt_node w2 (by omega)
        exact Or.inr (Or.inr (Or.inr ⟨q.1, ih _ _ _ _ nd.2 c1 (by omega) q.2⟩))
    intro k1 k2 s t w1 w2 hk hS
    unfold ve_su
    by_cases ht : t = 15
    · rw [if_pos ht]; subst ht
      exact decide_eq_true ((ve_Su_15 s).mp hS)
    · rw [if_neg ht]
      by_cases hs : s = 15
      · rw [if_pos hs]; subst hs
        rw [ve_Su_x h ht] at hS
        have hb := ve_Blt h o
        have n12 := ve_n12 h
        refine main 1 k2 _ t (ve_wt_c h hb (ve_VB h o)) w2 ?_ (by omega) ht hS
        have := ve_wt_pos w1; omega
      · rw [if_neg hs]
        exact main k1 k2 s t w1 w2 hk hs ht hS
theorem ve_su_iff (h : ve_WG n G) {f k1 k2 s t : Nat} (w1 : ve_wt n G o k1 s) (w2 : ve_wt n G o k2 t) (hk : k1 + k2 ≤ f + 1) : ve_su G o f s t = true ↔ ve_Su G o s t :=
  ⟨fun e => ⟨f, e⟩, ve_su_fuel h f k1 k2 s t w1 w2 hk⟩
theorem ve_su_ff (h : ve_WG n G) {f f' k1 k2 s t : Nat} (w1 : ve_wt n G o k1 s) (w2 : ve_wt n G o k2 t) (hk : k1 + k2 ≤ f + 1) (hk' : k1 + k2 ≤ f' + 1) : ve_su G o f s t = ve_su G o f' s t :=
  ve_bool ((ve_su_iff h w1 w2 hk).trans (ve_su_iff h w1 w2 hk').symm)
/-- one step up keeps the relation of the arguments -/
theorem ve_AR_st (h : ve_WG n G) {k1 k2 s t : Nat} (w1 : ve_wt n G o k1 s) (w2 : ve_wt n G o k2 t) (hs : s ≠ 15) (_ht : t ≠ 15) (e : s % 16 = t % 16)
    (q : ve_AR G o (t % 16) (s / 16) (t / 16)) : ve_AR G o (ve_st G t % 16) (ve_st G s / 16) (ve_st G t / 16) := by
  have hc := ve_wt_hd h w1 hs
  have n12 := ve_n12 h
  rw [e] at hc
  rw [ve_st_hd h]
  by_cases z : ve_V G (ve_S G (t % 16)) = 0
  · exact Or.inl z
  · have hl := ve_Sltn h (t % 16)
    rcases ve_hd h hc z with r | r
    · have e1 : ve_st G s / 16 = s / 16 := by
        unfold ve_st; rw [e, if_neg z, if_pos r.1]; omega
      have e2 : ve_st G t / 16 = t / 16 := by
        unfold ve_st; rw [if_neg z, if_pos r.1]; omega
      rw [e1, e2]
      have nd := ve_wt_node w2 r.2.1
      rcases q with q | q | q | q
      · exact absurd q r.2.1
      · rw [q.2]; exact ve_AR_r h nd.2
      · rcases r.2.2.1 with y | y
        · omega
        · exact Or.inr (Or.inr (Or.inl ⟨by omega, q.2⟩))
      · rcases r.2.2.1 with y | y
        · omega
        · exact Or.inr (Or.inr (Or.inr ⟨by omega, q.2⟩))
    · have ne : ve_A G (t % 16) ≠ 15 := by omega
      have e1 : ve_st G s / 16 = ve_A G (t % 16) := by
        unfold ve_st; rw [e, if_neg z, if_neg ne]; omega
      have e2 : ve_st G t / 16 = ve_A G (t % 16) := by
        unfold ve_st; rw [if_neg z, if_neg ne]; omega
      rw [e1, e2]
      exact ve_AR_r h (ve_wt_c (o := o) h r.1 r.2.1)
theorem ve_AR_up (h : ve_WG n G) {a : Nat} : ∀ t, ve_an G (t % 16) a → ∀ k1 k2 s, ve_wt n G o k1 s → ve_wt n G o k2 t → s ≠ 15 → t ≠ 15 → s % 16 = t % 16 →
    ve_AR G o (t % 16) (s / 16) (t / 16) → ve_AR G o a (ve_ar G s a) (ve_ar G t a) := by
  refine ve_up h (fun t e k1 k2 s w1 w2 hs ht es q => ?_) (fun t z x ih k1 k2 s w1 w2 hs ht es q => ?_)
  · unfold ve_ar; rw [ve_sn_r e, ve_sn_r (es.trans e)]; rw [e] at q; exact q
  · have x' : ve_an G (s % 16) a := by rw [es]; exact x
    have z' : s % 16 ≠ a := by rw [es]; exact z
    unfold ve_ar
    rw [ve_sn_s h z x, ve_sn_s h z' x']
    obtain ⟨k1', _, _, c1⟩ := ve_st_wt h w1 hs
    obtain ⟨k2', _, _, c2⟩ := ve_st_wt h w2 ht
    exact ih k1' k2' _ c1 c2 (ve_st_15 h s) (ve_st_15 h t) (by rw [ve_st_hd h, ve_st_hd h, es]) (ve_AR_st h w1 w2 hs ht es q)
/-- seeing as is monotone -/
theorem ve_mono (h : ve_WG n G) {k1 k2 s t a : Nat} (w1 : ve_wt n G o k1 s) (w2 : ve_wt n G o k2 t) (hs : s ≠ 15) (ht : t ≠ 15) (q : ve_Su G o s t) (x : ve_an G (t % 16) a) :
    ve_an G (s % 16) a ∧ ve_AR G o a (ve_ar G s a) (ve_ar G t a) := by
  rw [ve_Su_iff h hs ht] at q
  refine ⟨ve_an_t q.1 x, ?_⟩
  obtain ⟨k', _, _, c⟩ := ve_sn_wt (o := o) h s q.1 k1 w1 hs
  have e := ve_sn_hd h s q.1
  have ne : ve_sn G s (t % 16) ≠ 15 := by
    intro z
    have := ve_wt_hd h w2 ht
    have := ve_n12 h
    rw [z] at e; omega
  have r := ve_AR_up h t x k' k2 _ c w2 ne ht e q.2
  rw [ve_ar_t h x q.1] at r
  exact r
theorem ve_tr (h : ve_WG n G) (ho : ve_V G o = 0) : ∀ m k1 k2 k3 s t u, k1 + k2 + k3 ≤ m → ve_wt n G o k1 s → ve_wt n G o k2 t → ve_wt n G o k3 u →
    ve_Su G o s t → ve_Su G o t u → ve_Su G o s u := by
  intro m
  induction m with
  | zero => intro k1 k2 k3 s t u hk w1; have := ve_wt_pos w1; omega
  | succ m ih =>
    intro k1 k2 k3 s t u hk w1 w2 w3 h1 h2
    have hs := ve_wt_cl h ho w1
    have ht := ve_wt_cl h ho w2
    have hu := ve_wt_cl h ho w3
    have h2' := (ve_Su_iff h ht hu).mp h2
    obtain ⟨x, r⟩ := ve_mono h w1 w2 hs ht h1 h2'.1
    rw [ve_Su_iff h hs hu]
    refine ⟨x, ?_⟩
    have r2 := h2'.2
    by_cases z : ve_V G (u % 16) = 0
    · exact Or.inl z
    · obtain ⟨a1, b1, _, c1⟩ := ve_ar_wt h x w1 hs
      obtain ⟨a2, b2, _, c2⟩ := ve_ar_wt h h2'.1 w2 ht
      have nd := ve_wt_node w3 z
      rcases r with r | r | r | r
      · exact absurd r z
      · rw [r.2]; exact r2
      · rcases r2 with q | q | q | q
        · exact absurd q z
        · omega
        · exact Or.inr (Or.inr (Or.inl ⟨r.1, ih _ _ _ _ _ _ (by omega) c1 c2 nd.2 r.2 q.2⟩))
        · omega
      · rcases r2 with q | q | q | q
        · exact absurd q z
        · omega
        · omega
        · exact Or.inr (Or.inr (Or.inr ⟨r.1, ih _ _ _ _ _ _ (by omega) nd.2 c2 c1 q.2 r.2⟩))
theorem ve_trn (h : ve_WG n G) (ho : ve_V G o = 0) {k1 k2 k3 s t u : Nat} (w1 : ve_wt n G o k1 s) (w2 : ve_wt n G o k2 t) (w3 : ve_wt n G o k3 u)
    (h1 : ve_Su G o s t) (h2 : ve_Su G o t u) : ve_Su G o s u := ve_tr h ho _ _ _ _ _ _ _ (Nat.le_refl _) w1 w2 w3 h1 h2
end
end
section
/-! substitution for the variable -/
def ve_sb (G : ve_T) (p : Nat) : Nat → Nat → Nat
  | 0, w => w
  | f + 1, w => if w = 15 then p else if ve_V G (w % 16) = 0 then w else w % 16 + 16 * ve_sb G p f (w / 16)
def ve_ss (G : ve_T) (w p : Nat) : Nat := ve_sb G p 12 w
section
variable {n : Nat} {G : ve_T} {o a : Nat}
theorem ve_sb_f {p : Nat} : ∀ k f f' w, ve_wt n G o k w → k ≤ f → k ≤ f' → ve_sb G p f w = ve_sb G p f' w := by
  intro k
  induction k with
  | zero => intro f f' w hw; exact absurd hw (fun z => z)
  | succ k ih =>
    intro f f' w hw hf hf'
    obtain ⟨g, rfl⟩ : ∃ g, f = g + 1 := ⟨f - 1, by omega⟩
    obtain ⟨g', rfl⟩ : ∃ g', f' = g' + 1 := ⟨f' - 1, by omega⟩
    unfold ve_sb
    by_cases e : w = 15
    · rw [if_pos e, if_pos e]
    · rw [if_neg e, if_neg e]
      by_cases hv : ve_V G (w % 16) = 0
      · rw [if_pos hv, if_pos hv]
      · rw [if_neg hv, if_neg hv, ih g g' (w / 16) (by have := (ve_wt_node hw hv).2; simpa using this) (by omega) (by omega)]
theorem ve_ss_x (p : Nat) : ve_ss G 15 p = p := by
  unfold ve_ss ve_sb; rw [if_pos rfl]
theorem ve_ss_l {w : Nat} (p : Nat) (hx : w ≠ 15) (hv : ve_V G (w % 16) = 0) : ve_ss G w p = w := by
  unfold ve_ss ve_sb; rw [if_neg hx, if_pos hv]
theorem ve_ss_n {k w : Nat} (p : Nat) (h : ve_WG n G) (hw : ve_wt n G o k w) (hk : k ≤ 12) (hv : ve_V G (w % 16) ≠ 0) : ve_ss G w p = w % 16 + 16 * ve_ss G (w / 16) p := by
  have hx : w ≠ 15 := by rintro rfl; exact hv (ve_V15 h)
  have nd := ve_wt_node hw hv
  show (if w = 15 then p else if ve_V G (w % 16) = 0 then w else w % 16 + 16 * ve_sb G p 11 (w / 16)) = _
  rw [if_neg hx, if_neg hv]
  unfold ve_ss
  rw [ve_sb_f (k - 1) 11 12 (w / 16) nd.2 (by omega) (by omega)]
theorem ve_ss_hd {k w : Nat} (p : Nat) (h : ve_WG n G) (hw : ve_wt n G o k w) (hk : k ≤ 12) (hx : w ≠ 15) : ve_ss G w p % 16 = w % 16 := by
  by_cases hv : ve_V G (w % 16) = 0
  · rw [ve_ss_l p hx hv]
  · rw [ve_ss_n p h hw hk hv]; omega
theorem ve_ss_tl {k w : Nat} (p : Nat) (h : ve_WG n G) (hw : ve_wt n G o k w) (hk : k ≤ 12) (hv : ve_V G (w % 16) ≠ 0) : ve_ss G w p / 16 = ve_ss G (w / 16) p := by
  rw [ve_ss_n p h hw hk hv]; omega
/-- a type over a, its variable replaced by a type over o -/
theorem ve_ss_wt (h : ve_WG n G) {kp p : Nat} (wp : ve_wt n G o kp p) : ∀ k w, ve_wt n G a k w → k ≤ 12 → ∃ k', k' ≤ k - 1 + kp ∧ ve_wt n G o k' (ve_ss G w p) := by
  have pp := ve_wt_pos wp
  intro k
  induction k with
  | zero => intro w hw; exact absurd hw (fun z => z)
  | succ k ih =>
    intro w hw hk
    by_cases hx : w = 15
    · subst hx; rw [ve_ss_x]; exact ⟨kp, by omega, wp⟩
    · by_cases hv : ve_V G (w % 16) = 0
      · rw [ve_ss_l p hx hv]
        have l := ve_wt_leaf hw hv
        refine ⟨1, by omega, ?_⟩
        refine ⟨l.2.1, by rw [← l.2.2.1]; exact hv, ?_⟩
        rcases l.2.2.2 with z | z
        · exact absurd z.1 hx
        · exact Or.inr z
      · have nd := ve_wt_node hw hv
        have nd2 : ve_wt n G a k (w / 16) := by have := nd.2; simpa using this
        obtain ⟨k', e1, e2⟩ := ih (w / 16) nd2 (by omega)
        refine ⟨k' + 1, ?_, ?_⟩
        · have := ve_wt_pos nd2; omega
        · have eh := ve_ss_hd p h hw hk hx
          exact ve_wt_mk (by rw [eh]; exact hv) (by rw [ve_ss_tl p h hw hk hv]; exact e2)
/-- a closed type stays as it is -/
theorem ve_ss_cl (h : ve_WG n G) (ha : ve_V G a = 0) (p : Nat) : ∀ k w, ve_wt n G a k w → k ≤ 12 → ve_ss G w p = w := by
  intro k
  induction k with
  | zero => intro w hw; exact absurd hw (fun z => z)
  | succ k ih =>
    intro w hw hk
    have hx := ve_wt_cl h ha hw
    by_cases hv : ve_V G (w % 16) = 0
    · exact ve_ss_l p hx hv
    · have nd := ve_wt_node hw hv
      rw [ve_ss_n p h hw hk hv, ih (w / 16) (by have := nd.2; simpa using this) (by omega)]; omega
theorem ve_ss_ss (h : ve_WG n G) {kq q : Nat} (p : Nat) (wq : ve_wt n G o kq q) : ∀ k w, ve_wt n G a k w → k - 1 + kq ≤ 12 → ve_ss G (ve_ss G w q) p = ve_ss G w (ve_ss G q p) := by
  have pq := ve_wt_pos wq
  intro k
  induction k with
  | zero => intro w hw; exact absurd hw (fun z => z)
  | succ k ih =>
    intro w hw hk
    have hk12 : k + 1 ≤ 12 := by omega
    by_cases hx : w = 15
    · subst hx; rw [ve_ss_x, ve_ss_x]
    · by_cases hv : ve_V G (w % 16) = 0
      · rw [ve_ss_l q hx hv, ve_ss_l _ hx hv, ve_ss_l _ hx hv]
      · have nd := ve_wt_node hw hv
        have nd2 : ve_wt n G a k (w / 16) := by have := nd.2; simpa using this
        obtain ⟨k1, e1, e2⟩ := ve_ss_wt h wq (k + 1) w hw hk12
        have eh := ve_ss_hd q h hw hk12 hx
        have hv' : ve_V G (ve_ss G w q % 16) ≠ 0 := by rw [eh]; exact hv
        have := ve_wt_pos nd2
        rw [ve_ss_n p h e2 (by omega) hv', eh, ve_ss_tl q h hw hk12 hv, ve_ss_n _ h hw hk12 hv, ih (w / 16) nd2 (by omega)]
/-- substitution and one step up -/
theorem ve_ss_st (h : ve_WG n G) {k v : Nat} (p : Nat) (w : ve_wt n G o k v) (hk : k ≤ 12) (hx : v ≠ 15) : ve_ss G (ve_st G v) p = ve_st G (ve_ss G v p) := by
  have hc := ve_wt_hd h w hx
  have eh := ve_ss_hd p h w hk hx
  have hl := ve_Sltn h (v % 16)
  have n12 := ve_n12 h
  obtain ⟨k', a1, b1, c1⟩ := ve_st_wt h w hx
  have hd := ve_st_hd h v
  unfold ve_st at c1 hd ⊢
  rw [eh]
  by_cases z : ve_V G (ve_S G (v % 16)) = 0
  · rw [if_pos z, if_pos z]
    exact ve_ss_l p (by omega) (by rw [Nat.mod_eq_of_lt (by omega)]; exact z)
  · rw [if_neg z] at c1 hd ⊢
    rw [if_neg z]
    rcases ve_hd h hc z with q | q
    · rw [if_pos q.1] at c1 hd ⊢
      rw [if_pos q.1]
      have p1 := ve_wt_pos w
      have nd := ve_wt_node w q.2.1
      rw [ve_ss_n p h c1 (by have := b1 nd.1; omega) (by rw [hd]; exact z), hd, ve_ss_tl p h w hk q.2.1]
      have e2 : (v / 16 * 16 + ve_S G (v % 16)) / 16 = v / 16 := by omega
      rw [e2]; omega
    · have ne : ve_A G (v % 16) ≠ 15 := by omega
      rw [if_neg ne] at c1 hd ⊢
      rw [if_neg ne]
      have w2 : ve_wt n G o 2 (ve_S G (v % 16) + 16 * ve_A G (v % 16)) := by
        refine ve_wt_mk (k := 1) (by rw [hd]; exact z) ?_
        have e2 : (ve_S G (v % 16) + 16 * ve_A G (v % 16)) / 16 = ve_A G (v % 16) := by omega
        rw [e2]; exact ve_wt_c h q.1 q.2.1
      rw [ve_ss_n p h w2 (by omega) (by rw [hd]; exact z), hd]
      have e2 : (ve_S G (v % 16) + 16 * ve_A G (v % 16)) / 16 = ve_A G (v % 16) := by omega
      rw [e2, ve_ss_l p (by omega) (by rw [Nat.mod_eq_of_lt (by omega)]; exact q.2.1)]
theorem ve_ss_sn (h : ve_WG n G) {a : Nat} (p : Nat) : ∀ v, ve_an G (v % 16) a → ∀ k, ve_wt n G o k v → k ≤ 12 → v ≠ 15 → ve_ss G (ve_sn G v a) p = ve_sn G (ve_ss G v p) a := by
  refine ve_up h (fun v e k w hk hx => ?_) (fun v z x ih k w hk hx => ?_)
  · rw [ve_sn_r e, ve_sn_r (by rw [ve_ss_hd p h w hk hx]; exact e)]
  · have eh := ve_ss_hd p h w hk hx
    rw [ve_sn_s h z x, ve_sn_s (v := ve_ss G v p) h (by rw [eh]; exact z) (by rw [eh]; exact x), ← ve_ss_st h p w hk hx]
    obtain ⟨k', a1, b1, c1⟩ := ve_st_wt h w hx
    refine ih k' c1 ?_ (ve_st_15 h v)
    rcases Nat.lt_or_ge k 2 with y | y
    · omega
    · have := b1 y; omega
theorem ve_ss_ar (h : ve_WG n G) {a k v : Nat} (p : Nat) (x : ve_an G (v % 16) a) (w : ve_wt n G o k v) (hk : k ≤ 12) (hx : v ≠ 15) : ve_ar G (ve_ss G v p) a = ve_ss G (ve_ar G v a) p := by
  have e := ve_ss_sn h p v x k w hk hx
  unfold ve_ar
  rw [← e]
  obtain ⟨k', a1, b1, c1⟩ := ve_sn_wt (o := o) h v x k w hx
  have hd := ve_sn_hd h v x
  have hk' : k' ≤ 12 := by
    rcases Nat.lt_or_ge k 2 with y | y
    · omega
    · have := b1 y; omega
  by_cases z : ve_V G a = 0
  · have l := ve_wt_leaf c1 (by rw [hd]; exact z)
    have ex : ve_sn G v a ≠ 15 := by
      intro q
      have := ve_an_n h x (ve_wt_hd h w hx)
      have := ve_n12 h
      rw [q] at hd; omega
    rw [ve_ss_l p ex (by rw [hd]; exact z)]
    have e0 : ve_sn G v a / 16 = 0 := by omega
    rw [e0, ve_ss_l p (by omega) (by show ve_V G 0 = 0; exact ve_V0 h)]
  · exact ve_ss_tl p h c1 hk' (by rw [hd]; exact z)
/-- w of cls a seen through v -/
def ve_th (G : ve_T) (w a v : Nat) : Nat := ve_ss G w (ve_ar G v a)
theorem ve_th_wt (h : ve_WG n G) {a k kv w v : Nat} (x : ve_an G (v % 16) a) (hw : ve_wt n G a k w) (hk : k ≤ 12) (wv : ve_wt n G o kv v) (hx : v ≠ 15) :
    ∃ k', k' ≤ k - 1 + kv ∧ ve_wt n G o k' (ve_th G w a v) := by
  obtain ⟨k1, e1, _, e2⟩ := ve_ar_wt h x wv hx
  obtain ⟨k2, f1, f2⟩ := ve_ss_wt h e2 k w hw hk
  exact ⟨k2, by omega, f2⟩
/-- .. with one symbol more at the most, if w has at most three -/
theorem ve_th_w3 (h : ve_WG n G) {a k kv w v : Nat} (x : ve_an G (v % 16) a) (hw : ve_wt n G a k w) (hk : k ≤ 3) (wv : ve_wt n G o kv v) (hx : v ≠ 15) :
    ∃ k', k' ≤ 3 + (kv - 2) ∧ ve_wt n G o k' (ve_th G w a v) := by
  obtain ⟨k1, e1, e3, e2⟩ := ve_ar_wt h x wv hx
  obtain ⟨k2, f1, f2⟩ := ve_ss_wt h e2 k w hw (by omega)
  have p := ve_wt_pos wv
  refine ⟨k2, ?_, f2⟩
  rcases Nat.lt_or_ge kv 2 with y | y
  · omega
  · have := e3 y; omega
theorem ve_th_ss (h : ve_WG n G) {a k kv w v : Nat} (p : Nat) (x : ve_an G (v % 16) a) (hw : ve_wt n G a k w) (wv : ve_wt n G o kv v) (hx : v ≠ 15) (hk : k - 1 + kv ≤ 12) :
    ve_ss G (ve_th G w a v) p = ve_th G w a (ve_ss G v p) := by
  obtain ⟨k1, e1, _, e2⟩ := ve_ar_wt h x wv hx
  have := ve_wt_pos hw
  unfold ve_th
  rw [ve_ss_ss h p e2 k w hw (by omega), ve_ss_ar h p x wv (by omega) hx]
theorem ve_th_sn (h : ve_WG n G) {a b w v : Nat} (y : ve_an G a b) (x : ve_an G (v % 16) a) : ve_th G w b (ve_sn G v a) = ve_th G w b v := by
  unfold ve_th; rw [ve_ar_t h y x]
/-- the type of this -/
def ve_sf (G : ve_T) (c : Nat) : Nat := if ve_V G c = 0 then c else c + 240
theorem ve_sf_hd (h : ve_WG n G) {c : Nat} (hc : c < n) : ve_sf G c % 16 = c := by
  have := ve_n12 h
  unfold ve_sf; split <;> omega
theorem ve_sf_wt (h : ve_WG n G) {c : Nat} (hc : c < n) : ∃ k, k ≤ 2 ∧ ve_wt n G c k (ve_sf G c) := by
  have n12 := ve_n12 h
  by_cases z : ve_V G c = 0
  · refine ⟨1, by omega, ?_⟩
    unfold ve_sf; rw [if_pos z]; exact ve_wt_c h hc z
  · refine ⟨2, by omega, ?_⟩
    have e : ve_sf G c = c + 240 := by unfold ve_sf; rw [if_neg z]
    rw [e]
    have e1 : (c + 240) % 16 = c := by omega
    have e2 : (c + 240) / 16 = 15 := by omega
    refine ve_wt_mk (k := 1) (by rw [e1]; exact z) ?_
    rw [e2]
    exact ⟨by omega, ve_V15 h, Or.inl ⟨rfl, z⟩⟩
theorem ve_sf_15 (h : ve_WG n G) {c : Nat} (hc : c < n) : ve_sf G c ≠ 15 := by
  intro e
  have a := ve_sf_hd h hc
  have := ve_n12 h
  rw [e] at a; omega
theorem ve_sf_ss (h : ve_WG n G) {c p : Nat} (hc : c < n) (hp : ve_V G c = 0 → p = 0) : ve_ss G (ve_sf G c) p = c + 16 * p := by
  have n12 := ve_n12 h
  have m : c % 16 = c := by omega
  by_cases z : ve_V G c = 0
  · unfold ve_sf
    rw [if_pos z, ve_ss_l p (by omega) (by rw [m]; exact z), hp z]
    omega
  · obtain ⟨k, hk, w⟩ := ve_sf_wt h hc
    have e : ve_sf G c = c + 240 := by unfold ve_sf; rw [if_neg z]
    have hd := ve_sf_hd h hc
    rw [ve_ss_n p h w (by omega) (by rw [hd]; exact z), hd]
    have e2 : ve_sf G c / 16 = 15 := by rw [e]; omega
    rw [e2, ve_ss_x]
/-- this, in an object of type T, is T seen as the cls -/
theorem ve_sf_T (h : ve_WG n G) {c k T : Nat} (x : ve_an G (T % 16) c) (w : ve_wt n G o k T) (hT : T ≠ 15) : ve_ss G (ve_sf G c) (ve_ar G T c) = ve_sn G T c := by
  have hc : c < n := ve_an_n h x (ve_wt_hd h w hT)
  rw [ve_sn_eq h x w]
  refine ve_sf_ss h hc (fun z => ?_)
  obtain ⟨k', _, _, c1⟩ := ve_sn_wt (o := o) h T x k w hT
  have hd := ve_sn_hd h T x
  have l := ve_wt_leaf c1 (by rw [hd]; exact z)
  unfold ve_ar; omega
/-- an object's type is below itself seen as a cls -/
theorem ve_Su_sn (h : ve_WG n G) {c k T : Nat} (x : ve_an G (T % 16) c) (w : ve_wt n G o k T) (hT : T ≠ 15) : ve_Su G o T (ve_sn G T c) := by
  have hc : c < n := ve_an_n h x (ve_wt_hd h w hT)
  have hd := ve_sn_hd h T x
  have n12 := ve_n12 h
  rw [ve_Su_iff h hT (by intro q; rw [q] at hd; omega), hd]
  refine ⟨x, ?_⟩
  obtain ⟨k', _, _, c1⟩ := ve_ar_wt h x w hT
  exact ve_AR_r h c1
/-- the substitution lemma -/
theorem ve_Su_ss (h : ve_WG n G) {z kp p : Nat} (hz : ve_V G z = 0) (wp : ve_wt n G z kp p) (hb : ve_V G o ≠ 0 → ve_an G (p % 16) (ve_B G o)) :
    ∀ f k1 k2 s t, ve_wt n G o k1 s → ve_wt n G o k2 t → k1 ≤ 12 → k2 ≤ 12 → ve_su G o f s t = true → ve_Su G z (ve_ss G s p) (ve_ss G t p) := by
  have n12 := ve_n12 h
  have px := ve_wt_cl h hz wp
  intro f
  induction f with
  | zero => intro k1 k2 s t _ _ _ _ e; exact absurd e (by simp [ve_su])
  | succ f ih =>
    have main : ∀ k1 k2 s t, ve_wt n G o k1 s → ve_wt n G o k2 t → k1 ≤ 12 → k2 ≤ 12 → s ≠ 15 → t ≠ 15 → ve_sv G (ve_su G o f) s t = true → ve_Su G z (ve_ss G s p) (ve_ss G t p) := by
      intro k1 k2 s t w1 w2 hk1 hk2 hs ht e
      rw [ve_sv_iff h] at e
      obtain ⟨x, q⟩ := e
      have e1 := ve_ss_hd p h w1 hk1 hs
      have e2 := ve_ss_hd p h w2 hk2 ht
      have h1 := ve_wt_hd h w1 hs
      have h2 := ve_wt_hd h w2 ht
      rw [ve_Su_iff h (by intro y; rw [y] at e1; omega) (by intro y; rw [y] at e2; omega), e1, e2]
      refine ⟨x, ?_⟩
      rw [ve_ss_ar h p x w1 hk1 hs]
      obtain ⟨k', a1, b1, c1⟩ := ve_ar_wt h x w1 hs
      rcases q with q | q | q | q
      · exact Or.inl q
      · rw [ve_ss_tl p h w2 hk2 (by omega), q.2]
        exact Or.inr (Or.inl ⟨q.1, rfl⟩)
      · rw [ve_ss_tl p h w2 hk2 (by omega)]
        have nd := ve_wt_node w2 (by omega)
        exact Or.inr (Or.inr (Or.inl ⟨q.1, ih _ _ _ _ c1 nd.2 (by omega) (by omega) q.2⟩))
      · rw [ve_ss_tl p h w2 hk2 (by omega)]
        have nd := ve_wt_node w2 (by omega)
        exact Or.inr (Or.inr (Or.inr ⟨q.1, ih _ _ _ _ nd.2 c1 (by omega) (by omega) q.2⟩))
    intro k1 k2 s t w1 w2 hk1 hk2 e
    unfold ve_su at e
    by_cases ht : t = 15
    · rw [if_pos ht] at e
      have es := of_decide_eq_true e
      subst ht; subst es
      rw [ve_ss_x]; exact ve_Su_r h wp
    · rw [if_neg ht] at e
      by_cases hs : s = 15
      · rw [if_pos hs] at e
        subst hs
        have hB := ve_Blt h o
        have wB : ∀ z, ve_wt n G z 1 (ve_B G o) := fun z => ve_wt_c h hB (ve_VB h o)
        have r := main 1 k2 _ t (wB o) w2 (by omega) hk2 (by omega) ht e
        rw [ve_ss_l p (by omega) (by rw [Nat.mod_eq_of_lt (by omega)]; exact ve_VB h o)] at r
        rw [ve_ss_x]
        obtain ⟨k3, _, w3⟩ := ve_ss_wt h wp k2 t w2 hk2
        exact ve_trn h hz wp (wB z) w3 ((ve_Su_p h px hB (ve_VB h o)).mpr (hb (ve_wt_15 h w1))) r
      · rw [if_neg hs] at e
        exact main k1 k2 s t w1 w2 hk1 hk2 hs ht e
/-! the variance rule -/
def ve_sg (v : Nat) : Int32 := if v = 1 then 1 else if v = 2 then -1 else 0
def ve_ke (G : ve_T) (o : Nat) (sg : Int32) (t : Nat) : Bool := decide (t ≠ 15 ∨ ve_V G o = 3 ∨ sg = (if ve_V G o = 1 then 1 else -1))
def ve_kv (G : ve_T) (o : Nat) : Nat → Int32 → Nat → Bool
  | 0, sg, t => ve_ke G o sg t
  | f + 1, sg, t => if ve_V G (t % 16) = 0 then ve_ke G o sg t else ve_kv G o f (sg * ve_sg (ve_V G (t % 16))) (t / 16)
theorem ve_kv_ok (h : ve_WG n G) {z kp kq p q : Nat} (hz : ve_V G z = 0) (wp : ve_wt n G z kp p) (wq : ve_wt n G z kq q) (hA : ve_AR G z a p q) :
    ∀ k f sg w, ve_wt n G a k w → k ≤ 12 → k ≤ f + 1 → (sg = 1 ∨ sg = -1 ∨ sg = 0) → ve_kv G a f sg w = true →
    (sg = 1 → ve_Su G z (ve_ss G w p) (ve_ss G w q)) ∧ (sg = -1 → ve_Su G z (ve_ss G w q) (ve_ss G w p)) ∧ (sg = 0 → ve_ss G w p = ve_ss G w q) := by
  have n12 := ve_n12 h
  have same : ∀ k w sg, ve_wt n G a k w → k ≤ 12 → ve_ss G w p = ve_ss G w q → (sg = (1 : Int32) → ve_Su G z (ve_ss G w p) (ve_ss G w q)) ∧ (sg = -1 → ve_Su G z (ve_ss G w q) (ve_ss G w p)) ∧ (sg = 0 → ve_ss G w p = ve_ss G w q) := by
    intro k w sg hw hk e
    obtain ⟨k3, _, w3⟩ := ve_ss_wt h wq k w hw hk
    rw [e]
    exact ⟨fun _ => ve_Su_r h w3, fun _ => ve_Su_r h w3, fun _ => rfl⟩
  intro k
  induction k with
  | zero => intro f sg w hw; exact absurd hw (fun z => z)
  | succ k ih =>
    intro f sg w hw hk hf hsg e
    by_cases hx : w = 15
    · subst hx
      have ha := ve_wt_15 h hw
      have hv : ve_V G (15 % 16) = 0 := ve_V15 h
      have e' : ve_ke G a sg 15 = true := by
        cases f with
        | zero => exact e
        | succ f => unfold ve_kv at e; rw [if_pos hv] at e; exact e
      have e2 := of_decide_eq_true e'
      rcases hA with r | r | r | r
      · exact absurd r ha
      · exact same _ _ _ hw hk (by rw [r.2])
      · have : sg = 1 := by
          rcases e2 with y | y | y
          · exact absurd rfl y
          · omega
          · rw [if_pos r.1] at y; exact y
        subst this
        rw [ve_ss_x, ve_ss_x]
        exact ⟨fun _ => r.2, fun y => absurd y (by decide), fun y => absurd y (by decide)⟩
      · have : sg = -1 := by
          rcases e2 with y | y | y
          · exact absurd rfl y
          · omega
          · rw [if_neg (by omega)] at y; exact y
        subst this
        rw [ve_ss_x, ve_ss_x]
        exact ⟨fun y => absurd y (by decide), fun _ => r.2, fun y => absurd y (by decide)⟩
    · by_cases hv : ve_V G (w % 16) = 0
      · exact same _ _ _ hw hk (by rw [ve_ss_l p hx hv, ve_ss_l q hx hv])
      · have nd := ve_wt_node hw hv
        have nd2 : ve_wt n G a k (w / 16) := by have := nd.2; simpa using this
        obtain ⟨g, rfl⟩ : ∃ g, f = g + 1 := ⟨f - 1, by omega⟩
        unfold ve_kv at e
        rw [if_neg hv] at e
        have v3 := ve_V3 h (w % 16)
        have r := ih g (sg * ve_sg (ve_V G (w % 16))) (w / 16) nd2 (by omega) (by omega)
        have ep := ve_ss_hd p h hw hk hx
        have eq := ve_ss_hd q h hw hk hx
        have tp := ve_ss_tl p h hw hk hv
        have tq := ve_ss_tl q h hw hk hv
        have hc := ve_lt h hv
        have xp : ve_ss G w p ≠ 15 := by intro y; rw [y] at ep; omega
        have xq : ve_ss G w q ≠ 15 := by intro y; rw [y] at eq; omega
        have eqv : ve_ss G (w / 16) p = ve_ss G (w / 16) q → ve_ss G w p = ve_ss G w q := by
          intro y; rw [ve_ss_n p h hw hk hv, ve_ss_n q h hw hk hv, y]
        have ap : ve_ar G (ve_ss G w p) (w % 16) = ve_ss G (w / 16) p := by unfold ve_ar; rw [ve_sn_r ep]; exact tp
        have aq : ve_ar G (ve_ss G w q) (w % 16) = ve_ss G (w / 16) q := by unfold ve_ar; rw [ve_sn_r eq]; exact tq
        have pq : ve_AR G z (w % 16) (ve_ss G (w / 16) p) (ve_ss G (w / 16) q) → ve_Su G z (ve_ss G w p) (ve_ss G w q) := by
          intro y
          rw [ve_Su_iff h xp xq, ep, eq, ap, tq]
          exact ⟨ve_an_r _, y⟩
        have qp : ve_AR G z (w % 16) (ve_ss G (w / 16) q) (ve_ss G (w / 16) p) → ve_Su G z (ve_ss G w q) (ve_ss G w p) := by
          intro y
          rw [ve_Su_iff h xq xp, ep, eq, aq, tp]
          exact ⟨ve_an_r _, y⟩
        have vv : ve_V G (w % 16) = 1 ∨ ve_V G (w % 16) = 2 ∨ ve_V G (w % 16) = 3 := by omega
        rcases vv with y | y | y
        · have em : sg * ve_sg (ve_V G (w % 16)) = sg := by
            rw [y]; rcases hsg with u | u | u <;> rw [u] <;> decide
          rw [em] at r e
          have r' := r hsg e
          exact ⟨fun u => pq (Or.inr (Or.inr (Or.inl ⟨y, r'.1 u⟩))), fun u => qp (Or.inr (Or.inr (Or.inl ⟨y, r'.2.1 u⟩))), fun u => eqv (r'.2.2 u)⟩
        · have hs2 : ∀ sg : Int32, (sg = 1 ∨ sg = -1 ∨ sg = 0) → (sg * ve_sg 2 = 1 ∨ sg * ve_sg 2 = -1 ∨ sg * ve_sg 2 = 0) := by
            rintro sg (u | u | u) <;> rw [u] <;> decide
          rw [y] at r e
          have r' := r (hs2 sg hsg) e
          exact ⟨fun u => pq (Or.inr (Or.inr (Or.inr ⟨y, r'.2.1 (by rw [u]; decide)⟩))), fun u => qp (Or.inr (Or.inr (Or.inr ⟨y, r'.1 (by rw [u]; decide)⟩))), fun u => eqv (r'.2.2 (by rw [u]; decide))⟩
        · have em : sg * ve_sg (ve_V G (w % 16)) = 0 := by
            rw [y]; rcases hsg with u | u | u <;> rw [u] <;> decide
          rw [em] at r e
          exact same _ _ _ hw hk (eqv ((r (Or.inr (Or.inr rfl)) e).2.2 rfl))
/-! bounds of object types -/
def ve_tb (G : ve_T) (T : Nat) : Prop := ve_V G (T % 16) ≠ 0 → ve_an G (T / 16 % 16) (ve_B G (T % 16))
theorem ve_tb_st (h : ve_WG n G) {k T : Nat} (w : ve_wt n G o k T) (hT : T ≠ 15) (b : ve_tb G T) : ve_tb G (ve_st G T) := by
  intro z
  have hc := ve_wt_hd h w hT
  have n12 := ve_n12 h
  have hl := ve_Sltn h (T % 16)
  rw [ve_st_hd h] at z ⊢
  rcases ve_hd h hc z with q | q
  · have e : ve_st G T / 16 = T / 16 := by unfold ve_st; rw [if_neg z, if_pos q.1]; omega
    rw [e]
    exact ve_an_t (b q.2.1) q.2.2.2
  · have e : ve_st G T / 16 = ve_A G (T % 16) := by unfold ve_st; rw [if_neg z, if_neg (by omega)]; omega
    rw [e, Nat.mod_eq_of_lt (by omega)]
    exact q.2.2
theorem ve_tb_sn (h : ve_WG n G) {a : Nat} : ∀ T, ve_an G (T % 16) a → ∀ k, ve_wt n G o k T → T ≠ 15 → ve_tb G T → ve_tb G (ve_sn G T a) := by
  refine ve_up h (fun v e k w _ b => by rw [ve_sn_r e]; exact b) (fun v z x ih k w hv b => ?_)
  rw [ve_sn_s h z x]
  obtain ⟨k1, _, _, c1⟩ := ve_st_wt h w hv
  exact ih k1 c1 (ve_st_15 h v) (ve_tb_st h w hv b)
theorem ve_tb_ar (h : ve_WG n G) {a k T : Nat} (x : ve_an G (T % 16) a) (w : ve_wt n G o k T) (hT : T ≠ 15) (b : ve_tb G T) : ve_V G a ≠ 0 → ve_an G (ve_ar G T a % 16) (ve_B G a) := by
  have r := ve_tb_sn h T x k w hT b
  have hd := ve_sn_hd h T x
  unfold ve_tb at r
  rw [hd] at r
  exact r
end
end
section
/-! the nearest cls upwards where g is not 0 -/
def ve_fu (G : ve_T) (g : Nat → Nat) : Nat → Nat → Nat
  | 0, c => g c
  | f + 1, c => if g c = 0 then ve_fu G g f (ve_S G c) else g c
def ve_fi (G : ve_T) (g : Nat → Nat) (c : Nat) : Nat := ve_fu G g 12 c
section
variable {n : Nat} {G : ve_T} {g : Nat → Nat}
theorem ve_fu_s (h : ve_WG n G) : ∀ f d, ve_cl G f d = 0 → ve_fu G g (f + 1) d = ve_fu G g f d
  | 0, d, e => by
    have e' : d = 0 := e
    subst e'
    show (if g 0 = 0 then g (ve_S G 0) else g 0) = g 0
    rw [ve_S0 h]; split <;> rfl
  | f + 1, d, e => by
    show (if g d = 0 then ve_fu G g (f + 1) (ve_S G d) else g d) = (if g d = 0 then ve_fu G g f (ve_S G d) else g d)
    rw [ve_fu_s h f (ve_S G d) e]
theorem ve_fi_r {c : Nat} (e : g c ≠ 0) : ve_fi G g c = g c := by
  unfold ve_fi ve_fu; rw [if_neg e]
theorem ve_fi_u (h : ve_WG n G) {c : Nat} (e : g c = 0) : ve_fi G g c = ve_fi G g (ve_S G c) := by
  show (if g c = 0 then ve_fu G g 11 (ve_S G c) else g c) = ve_fu G g 12 (ve_S G c)
  rw [if_pos e, ve_fu_s h 11 (ve_S G c)]
  exact ve_cl_12 h c
theorem ve_ci (h : ve_WG n G) {P : Nat → Prop} (h0 : P 0) (hs : ∀ c, 0 < c → P (ve_S G c) → P c) : ∀ c, P c := by
  have key : ∀ m c, c < m → P c := by
    intro m
    induction m with
    | zero => intro c hc; omega
    | succ m ih =>
      intro c hc
      rcases Nat.eq_zero_or_pos c with z | z
      · subst z; exact h0
      · exact hs c z (ih _ (by have := ve_Slt h z; omega))
  exact fun c => key _ c (Nat.lt_succ_self c)
/-- either none at all, or the nearest -/
theorem ve_fi_sp (h : ve_WG n G) : ∀ c, (ve_fi G g c = 0 ∧ ∀ a, ve_an G c a → g a = 0) ∨
    (∃ a, ve_an G c a ∧ g a ≠ 0 ∧ ve_fi G g c = g a ∧ ∀ b, ve_an G c b → g b ≠ 0 → ve_an G a b) := by
  have self : ∀ c, g c ≠ 0 → ∃ a, ve_an G c a ∧ g a ≠ 0 ∧ ve_fi G g c = g a ∧ ∀ b, ve_an G c b → g b ≠ 0 → ve_an G a b :=
    fun c z => ⟨c, ve_an_r c, z, ve_fi_r z, fun b x _ => x⟩
  refine ve_ci h ?_ (fun c hc ih => ?_)
  · by_cases z : g 0 = 0
    · refine Or.inl ⟨?_, ?_⟩
      · have key : ∀ f, ve_fu G g f 0 = 0 := by
          intro f
          induction f with
          | zero => exact z
          | succ f ih => unfold ve_fu; rw [if_pos z, ve_S0 h]; exact ih
        exact key 12
      · intro a x
        have : a = 0 := by have := ve_an_le h x; omega
        rw [this]; exact z
    · exact Or.inr (self 0 z)
  · by_cases z : g c = 0
    · rw [ve_fi_u h z]
      have up : ∀ b, ve_an G c b → g b ≠ 0 → ve_an G (ve_S G c) b := by
        intro b x y
        exact ve_an_up x (by rintro rfl; exact y z)
      rcases ih with ⟨e, q⟩ | ⟨a, x, e, q, r⟩
      · refine Or.inl ⟨e, fun a x => ?_⟩
        by_cases y : g a = 0
        · exact y
        · exact q a (up a x y)
      · exact Or.inr ⟨a, ve_an_t (ve_an_S c) x, e, q, fun b y w => r b (up b y w) w⟩
    · exact Or.inr (self c z)
end
/-! members: E field type + 1 (0 none), D method + 1 at 4 * cls + name, O owner, P parameter, R result, N name -/
abbrev ve_M : Type := (Nat → Nat) × (Nat → Nat) × (Nat → Nat) × (Nat → Nat) × (Nat → Nat) × (Nat → Nat)
def ve_E (M : ve_M) (c : Nat) : Nat := M.1 c
def ve_D (M : ve_M) (j : Nat) : Nat := M.2.1 j
def ve_O (M : ve_M) (m : Nat) : Nat := M.2.2.1 m
def ve_P (M : ve_M) (m : Nat) : Nat := M.2.2.2.1 m
def ve_R (M : ve_M) (m : Nat) : Nat := M.2.2.2.2.1 m
def ve_N (M : ve_M) (m : Nat) : Nat := M.2.2.2.2.2 m
def ve_gE (M : ve_M) (c : Nat) : Nat := if ve_E M c = 0 then 0 else c + 1
def ve_gD (M : ve_M) (k c : Nat) : Nat := ve_D M (4 * c + k)
/-- the cls whose field is the field of c, + 1; the method of c by that name, + 1 -/
def ve_fc (G : ve_T) (M : ve_M) (c : Nat) : Nat := ve_fi G (ve_gE M) c
def ve_mt (G : ve_T) (M : ve_M) (c k : Nat) : Nat := ve_fi G (ve_gD M k) c
def ve_OV (G : ve_T) (M : ve_M) (m : Nat) : Prop := ve_O M m ≠ 0 → ∀ u, ve_mt G M (ve_S G (ve_O M m)) (ve_N M m) = u + 1 →
  ve_Su G (ve_O M m) (ve_th G (ve_P M u) (ve_O M u) (ve_sf G (ve_O M m))) (ve_P M m) ∧ ve_Su G (ve_O M m) (ve_R M m) (ve_th G (ve_R M u) (ve_O M u) (ve_sf G (ve_O M m)))
def ve_W3 (n : Nat) (G : ve_T) (o t : Nat) : Prop := ∃ k, k ≤ 3 ∧ ve_wt n G o k t
/-- one method -/
def ve_WMm (n : Nat) (G : ve_T) (M : ve_M) (m : Nat) : Prop :=
  (ve_O M m < n ∧ ve_N M m < 4 ∧ ve_D M (4 * ve_O M m + ve_N M m) = m + 1) ∧ ve_W3 n G (ve_O M m) (ve_P M m) ∧ ve_W3 n G (ve_O M m) (ve_R M m) ∧
  ve_kv G (ve_O M m) 12 (-1) (ve_P M m) = true ∧ ve_kv G (ve_O M m) 12 1 (ve_R M m) = true ∧ ve_OV G M m
def ve_WM (n nm : Nat) (G : ve_T) (M : ve_M) : Prop :=
  nm ≤ 12 ∧ (∀ m, m < nm → ve_WMm n G M m) ∧
  (∀ j, ve_D M j ≠ 0 → ∃ m, m < nm ∧ ve_D M j = m + 1 ∧ j = 4 * ve_O M m + ve_N M m) ∧
  (∀ c, ve_E M c ≠ 0 → c < n ∧ ve_W3 n G c (ve_E M c - 1) ∧ ve_kv G c 12 1 (ve_E M c - 1) = true) ∧
  (∀ a b, ve_E M a ≠ 0 → ve_E M b ≠ 0 → ve_an G a b → a = b) ∧
  (∀ m, nm ≤ m → ve_O M m = 0)
section
variable {n nm : Nat} {G : ve_T} {M : ve_M}
theorem ve_gE_s {c a : Nat} (e : ve_gE M c = a + 1) : ve_E M c ≠ 0 ∧ c = a := by
  unfold ve_gE at e
  split at e
  · omega
  · exact ⟨by assumption, by omega⟩
theorem ve_gE_n {c : Nat} : ve_gE M c ≠ 0 ↔ ve_E M c ≠ 0 := by
  unfold ve_gE; split <;> simp_all
theorem ve_fc_s (h : ve_WG n G) {c a : Nat} (e : ve_fc G M c = a + 1) : ve_an G c a ∧ ve_E M a ≠ 0 := by
  unfold ve_fc at e
  rcases ve_fi_sp (g := ve_gE M) h c with q | ⟨b, x, y, q, _⟩
  · omega
  · rw [q] at e
    have := ve_gE_s e
    rw [← this.2]; exact ⟨x, this.1⟩
theorem ve_mt_s (h : ve_WG n G) (w : ve_WM n nm G M) {c k m : Nat} (hk : k < 4) (e : ve_mt G M c k = m + 1) : m < nm ∧ ve_an G c (ve_O M m) ∧ ve_N M m = k := by
  unfold ve_mt at e
  rcases ve_fi_sp (g := ve_gD M k) h c with q | ⟨b, x, y, q, _⟩
  · omega
  · rw [q] at e
    obtain ⟨m', a1, a2, a3⟩ := w.2.2.1 _ y
    have a2' : ve_gD M k b = m' + 1 := a2
    have : m' = m := by omega
    subst this
    have b1 := (w.2.1 m' a1).1
    have e1 : b = ve_O M m' := by omega
    have e2 : k = ve_N M m' := by omega
    rw [← e1, ← e2]
    exact ⟨a1, x, rfl⟩
/-- a cls and the classes below it have the same field -/
theorem ve_fd (h : ve_WG n G) (w : ve_WM n nm G M) {d a : Nat} (e : ve_fc G M d = a + 1) : ∀ c, ve_an G c d → ve_fc G M c = a + 1 := by
  have s := ve_fc_s h e
  refine ve_ci h ?_ (fun c hc ih => ?_)
  · intro x
    have : d = 0 := by have := ve_an_le h x; omega
    subst this; exact e
  · intro x
    by_cases z : c = d
    · subst z; exact e
    · have x' := ve_an_up x z
      have r := ih x'
      by_cases y : ve_E M c = 0
      · unfold ve_fc at r ⊢
        rw [ve_fi_u h (by unfold ve_gE; rw [if_pos y])]
        exact r
      · have q := w.2.2.2.2.1 c a y s.2 (ve_an_t x s.1)
        have := ve_an_le h (ve_an_t x' s.1)
        have := ve_Slt h hc
        omega
/-- closed object types -/
def ve_OT (n : Nat) (G : ve_T) (T : Nat) : Prop := ve_W3 n G 0 T ∧ ve_tb G T
theorem ve_OT_15 (h : ve_WG n G) {T : Nat} (t : ve_OT n G T) : T ≠ 15 := by
  obtain ⟨⟨k, _, w⟩, _⟩ := t
  exact ve_wt_cl h (ve_V0 h) w
theorem ve_OT_ar (h : ve_WG n G) {T a : Nat} (t : ve_OT n G T) (x : ve_an G (T % 16) a) : ∃ k, k ≤ 3 ∧ ve_wt n G 0 k (ve_ar G T a) := by
  have hx := ve_OT_15 h t
  obtain ⟨⟨k, hk, w⟩, b⟩ := t
  obtain ⟨k', a1, _, c1⟩ := ve_ar_wt h x w hx
  exact ⟨k', by omega, c1⟩
theorem ve_OT_st (h : ve_WG n G) {T : Nat} (t : ve_OT n G T) : ve_OT n G (ve_st G T) := by
  have hx := ve_OT_15 h t
  obtain ⟨⟨k, hk, w⟩, b⟩ := t
  obtain ⟨k', a1, b1, c1⟩ := ve_st_wt h w hx
  refine ⟨⟨k', ?_, c1⟩, ve_tb_st h w hx b⟩
  rcases Nat.lt_or_ge k 2 with y | y
  · omega
  · have := b1 y; omega
theorem ve_OT_th (h : ve_WG n G) {T a w : Nat} (t : ve_OT n G T) (x : ve_an G (T % 16) a) (hw : ve_W3 n G a w) : ∃ k, k ≤ 5 ∧ ve_wt n G 0 k (ve_th G w a T) := by
  have hx := ve_OT_15 h t
  obtain ⟨⟨k, hk, wT⟩, b⟩ := t
  obtain ⟨k2, hk2, w2⟩ := hw
  obtain ⟨k3, e1, e2⟩ := ve_th_wt h x w2 (by omega) wT hx
  exact ⟨k3, by omega, e2⟩
/-- what holds in a cls holds in its objects -/
theorem ve_Su_T (h : ve_WG n G) {T a s t k1 k2 : Nat} (ot : ve_OT n G T) (x : ve_an G (T % 16) a) (w1 : ve_wt n G a k1 s) (w2 : ve_wt n G a k2 t) (h1 : k1 ≤ 12) (h2 : k2 ≤ 12)
    (q : ve_Su G a s t) : ve_Su G 0 (ve_ss G s (ve_ar G T a)) (ve_ss G t (ve_ar G T a)) := by
  obtain ⟨k, hk, wp⟩ := ve_OT_ar h ot x
  have hx := ve_OT_15 h ot
  obtain ⟨⟨kT, hkT, wT⟩, b⟩ := ot
  obtain ⟨f, e⟩ := q
  exact ve_Su_ss h (ve_V0 h) wp (ve_tb_ar h x wT hx b) f k1 k2 s t w1 w2 h1 h2 e
theorem ve_th_st (h : ve_WG n G) {T a w : Nat} (x : ve_an G (ve_S G (T % 16)) a) (hT : 0 < T % 16) : ve_th G w a (ve_st G T) = ve_th G w a T := by
  unfold ve_th ve_ar
  rw [ve_sn_s (v := T) h (by have := ve_an_le h x; have := ve_Slt h hT; omega) (ve_an_t (ve_an_S _) x)]
/-- the method that is found in a subclass may stand for the one that is found above -/
theorem ve_ov (h : ve_WG n G) (w : ve_WM n nm G M) {d k m : Nat} (hk : k < 4) (e : ve_mt G M d k = m + 1) : ∀ T, ve_an G (T % 16) d → ve_OT n G T →
    ∃ m', ve_mt G M (T % 16) k = m' + 1 ∧ ve_Su G 0 (ve_th G (ve_P M m) (ve_O M m) T) (ve_th G (ve_P M m') (ve_O M m') T) ∧
      ve_Su G 0 (ve_th G (ve_R M m') (ve_O M m') T) (ve_th G (ve_R M m) (ve_O M m) T) := by
  have s := ve_mt_s h w hk e
  have wm := w.2.1 m s.1
  refine ve_up h (fun T eT ot => ?_) (fun T z x ih ot => ?_)
  · rw [eT]
    obtain ⟨k1, _, c1⟩ := ve_OT_th h ot (by rw [eT]; exact s.2.1) wm.2.1
    obtain ⟨k2, _, c2⟩ := ve_OT_th h ot (by rw [eT]; exact s.2.1) wm.2.2.1
    exact ⟨m, e, ve_Su_r h c1, ve_Su_r h c2⟩
  · have hT := ve_OT_15 h ot
    have hc : 0 < T % 16 := by have := ve_an_le h x; omega
    have x' := ve_an_up x z
    obtain ⟨m2, e2, p2, r2⟩ := ih (ve_OT_st h ot)
    rw [ve_st_hd h] at e2
    have s2 := ve_mt_s h w hk e2
    have wm2 := w.2.1 m2 s2.1
    rw [ve_th_st h (ve_an_t x' s.2.1) hc, ve_th_st h s2.2.1 hc] at p2 r2
    by_cases y : ve_D M (4 * (T % 16) + k) = 0
    · refine ⟨m2, ?_, p2, r2⟩
      unfold ve_mt at e2 ⊢
      rw [ve_fi_u (g := ve_gD M k) h y]; exact e2
    · obtain ⟨m', a1, a2, a3⟩ := w.2.2.1 _ y
      have wm' := w.2.1 m' a1
      have e1 : ve_O M m' = T % 16 := by have := wm'.1; omega
      have e3 : ve_N M m' = k := by have := wm'.1; omega
      have e4 : ve_mt G M (T % 16) k = m' + 1 := by
        unfold ve_mt; rw [ve_fi_r (g := ve_gD M k) y]; exact a2
      refine ⟨m', e4, ?_⟩
      have ov := wm'.2.2.2.2.2 (by omega) m2 (by rw [e1, e3]; exact e2)
      rw [e1] at ov
      have hcn : T % 16 < n := by rw [← e1]; exact wm'.1.1
      have tw : ve_an G (T % 16) (ve_O M m2) := ve_an_t (ve_an_S _) s2.2.1
      obtain ⟨ks, hks, ws⟩ := ve_sf_wt h hcn
      have sh := ve_sf_hd h hcn
      have sx := ve_sf_15 h hcn
      obtain ⟨kT, hkT, wT⟩ := ot.1
      have self := ve_sf_T h (ve_an_r _) wT hT
      rw [ve_sn_r rfl] at self
      have tr : ∀ q, ve_W3 n G (ve_O M m2) q → (∃ k, k ≤ 12 ∧ ve_wt n G (T % 16) k (ve_th G q (ve_O M m2) (ve_sf G (T % 16)))) ∧
          ve_ss G (ve_th G q (ve_O M m2) (ve_sf G (T % 16))) (ve_ar G T (T % 16)) = ve_th G q (ve_O M m2) T := by
        rintro q ⟨kq, hkq, wq⟩
        refine ⟨?_, ?_⟩
        · obtain ⟨k3, b1, b2⟩ := ve_th_wt (o := T % 16) h (v := ve_sf G (T % 16)) (by rw [sh]; exact tw) wq (by omega) ws sx
          exact ⟨k3, by omega, b2⟩
        · rw [ve_th_ss h _ (by rw [sh]; exact tw) wq ws sx (by omega), self]
      obtain ⟨⟨kp, hkp, wp⟩, ep⟩ := tr _ wm2.2.1
      obtain ⟨⟨kr, hkr, wr⟩, er⟩ := tr _ wm2.2.2.1
      obtain ⟨kp', hkp', wp'⟩ := wm'.2.1
      obtain ⟨kr', hkr', wr'⟩ := wm'.2.2.1
      rw [e1] at wp' wr'
      have q1 := ve_Su_T h ot (ve_an_r _) wp wp' hkp (by omega) ov.1
      have q2 := ve_Su_T h ot (ve_an_r _) wr' wr (by omega) hkr ov.2
      rw [ep] at q1
      rw [er] at q2
      have aO : ve_an G (T % 16) (ve_O M m) := ve_an_t (ve_an_S _) (ve_an_t x' s.2.1)
      have aO' : ve_an G (T % 16) (ve_O M m') := by rw [e1]; exact ve_an_r _
      obtain ⟨_, _, t1⟩ := ve_OT_th h ot aO wm.2.1
      obtain ⟨_, _, t2⟩ := ve_OT_th h ot aO wm.2.2.1
      obtain ⟨_, _, t3⟩ := ve_OT_th h ot tw wm2.2.1
      obtain ⟨_, _, t4⟩ := ve_OT_th h ot tw wm2.2.2.1
      obtain ⟨_, _, t5⟩ := ve_OT_th h ot aO' wm'.2.1
      obtain ⟨_, _, t6⟩ := ve_OT_th h ot aO' wm'.2.2.1
      refine ⟨ve_trn h (ve_V0 h) t1 t3 t5 p2 ?_, ve_trn h (ve_V0 h) t6 t4 t2 ?_ r2⟩
      · show ve_Su G 0 _ (ve_ss G (ve_P M m') (ve_ar G T (ve_O M m')))
        rw [e1]; exact q1
      · show ve_Su G 0 (ve_ss G (ve_R M m') (ve_ar G T (ve_O M m'))) _
        rw [e1]; exact q2
end
end
section
/-! typing of bodies, and of what a run holds -/
def ve_ex (G : ve_T) (o v : Nat) : Nat := if v = 15 then ve_B G o else v
def ve_TS (G : ve_T) (M : ve_M) (o b kd op : Nat) (st st' : List Nat) : Prop :=
  (kd = 0 ∧ st' = ve_P M b :: st) ∨ (kd = 1 ∧ st' = ve_sf G o :: st) ∨
  (kd = 2 ∧ ∃ v rest a, st = v :: rest ∧ ve_fc G M (ve_ex G o v % 16) = a + 1 ∧ st' = ve_th G (ve_E M a - 1) a (ve_ex G o v) :: rest) ∨
  (kd = 3 ∧ ∃ q v rest m, st = q :: v :: rest ∧ ve_mt G M (ve_ex G o v % 16) op = m + 1 ∧ ve_Su G o q (ve_th G (ve_P M m) (ve_O M m) (ve_ex G o v)) ∧
    st' = ve_th G (ve_R M m) (ve_O M m) (ve_ex G o v) :: rest) ∨
  (kd = 4 ∧ ((ve_fc G M (op % 16) = 0 ∧ st' = op :: st) ∨
    ∃ a q rest, ve_fc G M (op % 16) = a + 1 ∧ st = q :: rest ∧ ve_Su G o q (ve_th G (ve_E M a - 1) a op) ∧ st' = op :: rest))
def ve_Ws (n : Nat) (G : ve_T) (o z : Nat) (st : List Nat) : Prop := ∀ t, t ∈ st → ∃ k, k ≤ z ∧ ve_wt n G o k t
abbrev ve_C : Type := (Nat → Nat) × (Nat → Nat) × (Nat → Nat)
def ve_L (C : ve_C) (b : Nat) : Nat := C.1 b
def ve_K (C : ve_C) (i : Nat) : Nat := C.2.1 i
def ve_Q (C : ve_C) (i : Nat) : Nat := C.2.2 i
/-- the rest of body b, of r tokens, is well typed from the stack st -/
def ve_TP (n : Nat) (G : ve_T) (M : ve_M) (C : ve_C) (b : Nat) : Nat → List Nat → Prop
  | 0, st => ve_Ws n G (ve_O M b) 10 st ∧ ∃ t, st = [t] ∧ (b = 12 ∨ ve_Su G (ve_O M b) t (ve_R M b))
  | r + 1, st => ve_Ws n G (ve_O M b) 10 st ∧ ∃ st', ve_TS G M (ve_O M b) b (ve_K C (8 * b + (ve_L C b - (r + 1)))) (ve_Q C (8 * b + (ve_L C b - (r + 1)))) st st' ∧
    ve_TP n G M C b r st'
/-- a token that was let in -/
def ve_NW (n : Nat) (G : ve_T) (o op : Nat) : Prop :=
  (∃ k, k ≤ 3 ∧ ve_wt n G o k op ∧ (k = 3 → op / 256 ≠ 15)) ∧ op ≠ 15 ∧ (ve_V G (op % 16) ≠ 0 → ve_Su G o (op / 16) (ve_B G (op % 16)))
def ve_TK (n : Nat) (G : ve_T) (M : ve_M) (b kd op : Nat) : Prop :=
  kd ≤ 4 ∧ (kd ≤ 1 → b ≠ 12) ∧ (kd = 3 → op < 4) ∧ (kd = 4 → ve_NW n G (ve_O M b) op)
/-- what stands for the variable -/
def ve_EN (n : Nat) (G : ve_T) (o A : Nat) : Prop := (∃ k, k ≤ 2 ∧ ve_wt n G 0 k A) ∧ (ve_V G o ≠ 0 → ve_an G (A % 16) (ve_B G o))
def ve_OB (n : Nat) (G : ve_T) (M : ve_M) (oT oF : Nat → Nat) (oc : Nat) : Prop := ∀ i, i < oc → ve_OT n G (oT i) ∧
  ((ve_fc G M (oT i % 16) = 0 ∧ oF i = 0) ∨ ∃ a j, ve_fc G M (oT i % 16) = a + 1 ∧ oF i = j + 1 ∧ j < i ∧ ve_Su G 0 (oT j) (ve_th G (ve_E M a - 1) a (oT i)))
def ve_VT (G : ve_T) (oT : Nat → Nat) (oc A t i : Nat) : Prop := i < oc ∧ ve_Su G 0 (oT i) (ve_ss G t A)
def ve_FO (G : ve_T) (M : ve_M) (nm : Nat) (oT : Nat → Nat) (oc b t a : Nat) : Prop :=
  b < nm ∧ t < oc ∧ ve_an G (oT t % 16) (ve_O M b) ∧ a < oc ∧ ve_Su G 0 (oT a) (ve_th G (ve_P M b) (ve_O M b) (oT t))
section
variable {n nm : Nat} {G : ve_T} {M : ve_M} {C : ve_C} {oT oF : Nat → Nat} {oc o A : Nat}
theorem ve_EN_0 (h : ve_WG n G) : ve_EN n G 0 0 := ⟨⟨1, by omega, ve_wt_0 h⟩, fun z => absurd (ve_V0 h) z⟩
theorem ve_EN_T (h : ve_WG n G) {T : Nat} (t : ve_OT n G T) (x : ve_an G (T % 16) o) : ve_EN n G o (ve_ar G T o) := by
  have hx := ve_OT_15 h t
  obtain ⟨⟨k, hk, w⟩, b⟩ := t
  obtain ⟨k', a1, a2, c1⟩ := ve_ar_wt h x w hx
  refine ⟨⟨k', ?_, c1⟩, ve_tb_ar h x w hx b⟩
  rcases Nat.lt_or_ge k 2 with y | y
  · omega
  · have := a2 y; omega
theorem ve_EN_S (h : ve_WG n G) (e : ve_EN n G o A) {k1 k2 s t : Nat} (w1 : ve_wt n G o k1 s) (w2 : ve_wt n G o k2 t) (h1 : k1 ≤ 12) (h2 : k2 ≤ 12) (q : ve_Su G o s t) :
    ve_Su G 0 (ve_ss G s A) (ve_ss G t A) := by
  obtain ⟨⟨k, _, wp⟩, hb⟩ := e
  obtain ⟨f, q⟩ := q
  exact ve_Su_ss h (ve_V0 h) wp hb f k1 k2 s t w1 w2 h1 h2 q
theorem ve_EN_w (h : ve_WG n G) (e : ve_EN n G o A) {k1 s : Nat} (w1 : ve_wt n G o k1 s) (h1 : k1 ≤ 12) : ∃ k, k ≤ k1 + 1 ∧ ve_wt n G 0 k (ve_ss G s A) := by
  obtain ⟨⟨k, _, wp⟩, hb⟩ := e
  obtain ⟨k2, a1, a2⟩ := ve_ss_wt h wp k1 s w1 h1
  have := ve_wt_pos w1
  exact ⟨k2, by omega, a2⟩
theorem ve_ex_15 (h : ve_WG n G) (v : Nat) : ve_ex G o v ≠ 15 := by
  unfold ve_ex
  split
  · have := ve_Blt h o; have := ve_n12 h; omega
  · assumption
theorem ve_ex_wt (h : ve_WG n G) {k v : Nat} (w : ve_wt n G o k v) : ve_wt n G o k (ve_ex G o v) := by
  unfold ve_ex
  split
  · next z =>
    subst z
    have l := ve_wt_leaf w (ve_V15 h)
    rw [l.1]
    exact ve_wt_c h (ve_Blt h o) (ve_VB h o)
  · exact w
/-- a value below a static type is below what that exposes -/
theorem ve_ex_Su (h : ve_WG n G) (e : ve_EN n G o A) {k v T : Nat} (ot : ve_OT n G T) (w : ve_wt n G o k v) (q : ve_Su G 0 T (ve_ss G v A)) : ve_Su G 0 T (ve_ss G (ve_ex G o v) A) := by
  unfold ve_ex
  split
  · next z =>
    subst z
    have ho := ve_wt_15 h w
    rw [ve_ss_x] at q
    have n12 := ve_n12 h
    have hB := ve_Blt h o
    rw [ve_ss_l A (by omega) (by rw [Nat.mod_eq_of_lt (by omega)]; exact ve_VB h o)]
    obtain ⟨⟨kT, _, wT⟩, _⟩ := ot
    obtain ⟨⟨kA, _, wA⟩, hb⟩ := e
    refine ve_trn h (ve_V0 h) wT wA (ve_wt_c h hB (ve_VB h o)) q ?_
    exact (ve_Su_p h (ve_wt_cl h (ve_V0 h) wA) hB (ve_VB h o)).mpr (hb ho)
  · exact q
/-- the head of an object's cls is below that of its static type, and arguments are related -/
theorem ve_dyn (h : ve_WG n G) (e : ve_EN n G o A) {k v T a : Nat} (ot : ve_OT n G T) (w : ve_wt n G o k v) (hk : k ≤ 10) (q : ve_Su G 0 T (ve_ss G v A)) (x : ve_an G (ve_ex G o v % 16) a) :
    ve_an G (T % 16) (ve_ex G o v % 16) ∧ ve_an G (T % 16) a ∧ ve_AR G 0 a (ve_ar G T a) (ve_ar G (ve_ss G (ve_ex G o v) A) a) ∧
    (∃ k, k ≤ 12 ∧ ve_wt n G 0 k (ve_ss G (ve_ex G o v) A)) ∧ ve_ss G (ve_ex G o v) A ≠ 15 ∧ ve_ss G (ve_ex G o v) A % 16 = ve_ex G o v % 16 := by
  have q' := ve_ex_Su h e ot w q
  have w' := ve_ex_wt h w
  have x' := ve_ex_15 (o := o) h v
  have hT := ve_OT_15 h ot
  obtain ⟨kv, a1, a2⟩ := ve_EN_w h e w' (by omega)
  have nv := ve_wt_cl h (ve_V0 h) a2
  have hd := ve_ss_hd A h w' (by omega) x'
  obtain ⟨⟨kT, _, wT⟩, _⟩ := ot
  have i := ((ve_Su_iff h hT nv).mp q').1
  have m := ve_mono h wT a2 hT nv q' (by rw [hd]; exact x)
  rw [hd] at i
  exact ⟨i, m.1, m.2, ⟨kv, by omega, a2⟩, nv, hd⟩
/-- reading a field -/
theorem ve_rdF (h : ve_WG n G) (w : ve_WM n nm G M) (ob : ve_OB n G M oT oF oc) (e : ve_EN n G o A) {k v a i : Nat} (wv : ve_wt n G o k v) (hk : k ≤ 10)
    (q : ve_VT G oT oc A v i) (f : ve_fc G M (ve_ex G o v % 16) = a + 1) : ∃ j, oF i = j + 1 ∧ j < i ∧ ve_VT G oT oc A (ve_th G (ve_E M a - 1) a (ve_ex G o v)) j := by
  obtain ⟨hi, q⟩ := q
  obtain ⟨ot, ob2⟩ := ob i hi
  have s := ve_fc_s h f
  obtain ⟨x1, x2, ar, ⟨kv, hkv, wv2⟩, nv, hd⟩ := ve_dyn h e ot wv (by omega) q s.1
  have f' := ve_fd h w f _ x1
  rcases ob2 with y | ⟨a', j, y1, y2, y3, y4⟩
  · omega
  · have : a' = a := by omega
    subst this
    refine ⟨j, y2, y3, by omega, ?_⟩
    have oj := (ob j (by omega)).1
    obtain ⟨_, w3, kvE⟩ := w.2.2.2.1 a' s.2
    obtain ⟨kE, hkE, wE⟩ := w3
    have wv' := ve_ex_wt h wv
    have vx := ve_ex_15 (o := o) h v
    rw [ve_th_ss h A s.1 wE wv' vx (by omega)]
    have hT := ve_OT_15 h ot
    obtain ⟨⟨kT, hkT, wT⟩, bT⟩ := ot
    obtain ⟨k1, b1, _, c1⟩ := ve_ar_wt h x2 wT hT
    obtain ⟨k2, b2, _, c2⟩ := ve_ar_wt h (by rw [hd]; exact s.1) wv2 nv
    have r := (ve_kv_ok h (ve_V0 h) c1 c2 ar kE 12 1 _ wE (by omega) (by omega) (Or.inl rfl) kvE).1 rfl
    obtain ⟨k3, b3, c3⟩ := ve_ss_wt h c1 kE _ wE (by omega)
    obtain ⟨k4, b4, c4⟩ := ve_ss_wt h c2 kE _ wE (by omega)
    obtain ⟨⟨kj, _, wj⟩, _⟩ := oj
    exact ve_trn h (ve_V0 h) wj c3 c4 y4 r
/-- a call -/
theorem ve_rdC (h : ve_WG n G) (w : ve_WM n nm G M) (ob : ve_OB n G M oT oF oc) (e : ve_EN n G o A) {k k2 v t m i j nk : Nat} (wv : ve_wt n G o k v) (hk : k ≤ 10) (wt : ve_wt n G o k2 t) (hk2 : k2 ≤ 12)
    (hnk : nk < 4) (q : ve_VT G oT oc A v i) (q2 : ve_VT G oT oc A t j) (f : ve_mt G M (ve_ex G o v % 16) nk = m + 1) (sp : ve_Su G o t (ve_th G (ve_P M m) (ve_O M m) (ve_ex G o v))) :
    ∃ m', ve_mt G M (oT i % 16) nk = m' + 1 ∧ ve_FO G M nm oT oc m' i j ∧ ve_Su G 0 (ve_th G (ve_R M m') (ve_O M m') (oT i)) (ve_ss G (ve_th G (ve_R M m) (ve_O M m) (ve_ex G o v)) A) := by
  obtain ⟨hi, q⟩ := q
  obtain ⟨hj, q2⟩ := q2
  obtain ⟨ot, _⟩ := ob i hi
  obtain ⟨oj, _⟩ := ob j hj
  have s := ve_mt_s h w hnk f
  obtain ⟨x1, x2, ar, ⟨kv, hkv, wv2⟩, nv, hd⟩ := ve_dyn h e ot wv (by omega) q s.2.1
  obtain ⟨m', e1, p1, r1⟩ := ve_ov h w hnk f (oT i) x1 ot
  have s' := ve_mt_s h w hnk e1
  have wm := w.2.1 m s.1
  have wm' := w.2.1 m' s'.1
  have wv' := ve_ex_wt h wv
  have vx := ve_ex_15 (o := o) h v
  have hT := ve_OT_15 h ot
  obtain ⟨kP, hkP, wP⟩ := wm.2.1
  obtain ⟨kR, hkR, wR⟩ := wm.2.2.1
  obtain ⟨kp', _, tp'⟩ := ve_OT_th h ot s'.2.1 wm'.2.1
  obtain ⟨kr', _, tr'⟩ := ve_OT_th h ot s'.2.1 wm'.2.2.1
  obtain ⟨⟨kT, hkT, wT⟩, bT⟩ := ot
  obtain ⟨k1, b1, _, c1⟩ := ve_ar_wt h x2 wT hT
  obtain ⟨k3, b2, _, c2⟩ := ve_ar_wt h (by rw [hd]; exact s.2.1) wv2 nv
  have rp := (ve_kv_ok h (ve_V0 h) c1 c2 ar kP 12 (-1) _ wP (by omega) (by omega) (Or.inr (Or.inl rfl)) wm.2.2.2.1).2.1 rfl
  have rr := (ve_kv_ok h (ve_V0 h) c1 c2 ar kR 12 1 _ wR (by omega) (by omega) (Or.inl rfl) wm.2.2.2.2.1).1 rfl
  obtain ⟨_, _, u1⟩ := ve_ss_wt h c1 kP _ wP (by omega)
  obtain ⟨_, _, u2⟩ := ve_ss_wt h c2 kP _ wP (by omega)
  obtain ⟨_, _, u3⟩ := ve_ss_wt h c1 kR _ wR (by omega)
  obtain ⟨_, _, u4⟩ := ve_ss_wt h c2 kR _ wR (by omega)
  obtain ⟨kt, ht, wth⟩ := ve_th_wt (o := o) h s.2.1 wP (by omega) wv' vx
  have sp' := ve_EN_S h e wt wth hk2 (by omega) sp
  rw [ve_th_ss h A s.2.1 wP wv' vx (by omega)] at sp'
  rw [ve_th_ss h A s.2.1 wR wv' vx (by omega)]
  obtain ⟨_, _, ut⟩ := ve_EN_w h e wt hk2
  obtain ⟨⟨kj, _, wj⟩, _⟩ := oj
  refine ⟨m', e1, ⟨s'.1, hi, s'.2.1, hj, ?_⟩, ?_⟩
  · have t1 := ve_trn h (ve_V0 h) wj ut u2 q2 sp'
    have t2 := ve_trn h (ve_V0 h) wj u2 u1 t1 rp
    exact ve_trn h (ve_V0 h) wj u1 tp' t2 p1
  · exact ve_trn h (ve_V0 h) tr' u3 u4 r1 rr
/-- a new object's type -/
theorem ve_new (h : ve_WG n G) (e : ve_EN n G o A) {op : Nat} (t : ve_NW n G o op) : ve_OT n G (ve_ss G op A) ∧ ve_ss G op A % 16 = op % 16 := by
  obtain ⟨⟨k, hk, w, h3⟩, hx, hb⟩ := t
  obtain ⟨⟨kA, hkA, wA⟩, eb⟩ := e
  have n12 := ve_n12 h
  have hd := ve_ss_hd A h w (by omega) hx
  refine ⟨⟨?_, ?_⟩, hd⟩
  · -- the size
    obtain ⟨k', a1, a2⟩ := ve_ss_wt h wA k op w (by omega)
    by_cases hv : ve_V G (op % 16) = 0
    · have l := ve_wt_leaf w hv
      exact ⟨k', by omega, a2⟩
    · have nd := ve_wt_node w hv
      rcases Nat.lt_or_ge k 3 with y | y
      · exact ⟨k', by omega, a2⟩
      · have k3 : k = 3 := by omega
        subst k3
        have ne := h3 rfl
        have w2 : ve_wt n G o 2 (op / 16) := nd.2
        have hv2 : ve_V G (op / 16 % 16) ≠ 0 := w2.1
        have w1 : ve_wt n G o 1 (op / 16 / 16) := w2.2
        have e256 : op / 16 / 16 = op / 256 := by omega
        rw [e256] at w1
        have l1 : ve_V G (op / 256 % 16) = 0 := by
          rw [Nat.mod_eq_of_lt w1.1]; exact w1.2.1
        have s1 : ve_ss G op A = op := by
          rw [ve_ss_n A h w (by omega) hv, ve_ss_n A h w2 (by omega) hv2, e256, ve_ss_l A ne l1]; omega
        rw [s1] at a2 ⊢
        refine ⟨3, by omega, ?_⟩
        refine ⟨hv, hv2, ?_⟩
        rw [e256]
        refine ⟨w1.1, w1.2.1, ?_⟩
        rcases w1.2.2 with z | z
        · exact absurd z.1 ne
        · exact Or.inr z
  · intro hv
    rw [hd] at hv ⊢
    have nd := ve_wt_node w hv
    rw [ve_ss_tl A h w (by omega) hv]
    have q := hb hv
    have hB := ve_Blt h (op % 16)
    by_cases z : op / 16 = 15
    · rw [z] at q nd ⊢
      rw [ve_ss_x]
      rw [ve_Su_x h (by omega), ve_Su_p h (by have := ve_Blt h o; omega) hB (ve_VB h _)] at q
      rw [Nat.mod_eq_of_lt (by have := ve_Blt h o; omega)] at q
      exact ve_an_t (eb (ve_wt_15 h nd.2)) q
    · rw [ve_Su_p h z hB (ve_VB h _)] at q
      rw [ve_ss_hd A h nd.2 (by omega) z]
      exact q
end
end
section
/-! what a run holds: objects, values, frames -/
def ve_u (f : Nat → Nat) (k x : Nat) : Nat → Nat := fun j => if j = k then x else f j
theorem ve_u_s {f : Nat → Nat} {k x : Nat} : ve_u f k x k = x := by unfold ve_u; rw [if_pos rfl]
theorem ve_u_n {f : Nat → Nat} {k x j : Nat} (h : j ≠ k) : ve_u f k x j = f j := by unfold ve_u; rw [if_neg h]
def ve_VS (G : ve_T) (oT : Nat → Nat) (oc A : Nat) (vl : Nat → Nat) : List Nat → Nat → Nat → Prop
  | [], sp, b => sp = b
  | t :: st, sp, b => ∃ s, sp = s + 1 ∧ ve_VT G oT oc A t (vl s) ∧ ve_VS G oT oc A vl st s b
def ve_FA (G : ve_T) (M : ve_M) (oT : Nat → Nat) (b t : Nat) : Nat := if b = 12 then 0 else ve_ar G (oT t) (ve_O M b)
def ve_WW (n nm : Nat) (G : ve_T) (M : ve_M) (C : ve_C) (oT : Nat → Nat) (oc : Nat) (vl fb fp ft fa : Nat → Nat) : Nat → Nat → Prop
  | 0, base => base = 0 ∧ fb 0 = 12
  | f + 1, base => ve_FO G M nm oT oc (fb (f + 1)) (ft (f + 1)) (fa (f + 1)) ∧ ∃ t rest base', fp f ≤ ve_L C (fb f) ∧
      ve_TP n G M C (fb f) (ve_L C (fb f) - fp f) (t :: rest) ∧ ve_VS G oT oc (ve_FA G M oT (fb f) (ft f)) vl rest base base' ∧
      ve_Su G 0 (ve_th G (ve_R M (fb (f + 1))) (ve_O M (fb (f + 1))) (oT (ft (f + 1)))) (ve_ss G t (ve_FA G M oT (fb f) (ft f))) ∧
      ve_WW n nm G M C oT oc vl fb fp ft fa f base'
def ve_CF (n nm : Nat) (G : ve_T) (M : ve_M) (C : ve_C) (oT : Nat → Nat) (oc : Nat) (vl fb fp ft fa : Nat → Nat) (f sp : Nat) : Prop :=
  fp f ≤ ve_L C (fb f) ∧ ∃ st base, ve_TP n G M C (fb f) (ve_L C (fb f) - fp f) st ∧ ve_VS G oT oc (ve_FA G M oT (fb f) (ft f)) vl st sp base ∧
    ve_WW n nm G M C oT oc vl fb fp ft fa f base
section
variable {n nm : Nat} {G : ve_T} {M : ve_M} {C : ve_C} {oT oT' oF : Nat → Nat} {oc oc' : Nat} {vl vl' fb fb' fp fp' ft ft' fa fa' : Nat → Nat}
theorem ve_VT_c {A t i : Nat} (hT : ∀ i, i < oc → oT' i = oT i) (hc : oc ≤ oc') (q : ve_VT G oT oc A t i) : ve_VT G oT' oc' A t i :=
  ⟨by have := q.1; omega, by rw [hT i q.1]; exact q.2⟩
theorem ve_FO_c {b t a : Nat} (hT : ∀ i, i < oc → oT' i = oT i) (hc : oc ≤ oc') (q : ve_FO G M nm oT oc b t a) : ve_FO G M nm oT' oc' b t a := by
  obtain ⟨q1, q2, q3, q4, q5⟩ := q
  refine ⟨q1, by omega, by rw [hT t q2]; exact q3, by omega, by rw [hT t q2, hT a q4]; exact q5⟩
theorem ve_VS_le {A : Nat} : ∀ {st : List Nat} {sp b : Nat}, ve_VS G oT oc A vl st sp b → sp = b + st.length
  | [], sp, b, q => q
  | t :: st, sp, b, q => by
    obtain ⟨s, e, _, r⟩ := q
    have := ve_VS_le r
    simp only [List.length_cons]; omega
theorem ve_VS_c {A : Nat} (hT : ∀ i, i < oc → oT' i = oT i) (hc : oc ≤ oc') : ∀ {st : List Nat} {sp b : Nat}, (∀ s, s < sp → vl' s = vl s) → ve_VS G oT oc A vl st sp b → ve_VS G oT' oc' A vl' st sp b
  | [], sp, b, _, q => q
  | t :: st, sp, b, hv, q => by
    obtain ⟨s, e, q1, r⟩ := q
    exact ⟨s, e, by rw [hv s (by omega)]; exact ve_VT_c hT hc q1, ve_VS_c hT hc (fun x hx => hv x (by omega)) r⟩
theorem ve_FA_c {b t : Nat} (hT : b ≠ 12 → oT' t = oT t) : ve_FA G M oT' b t = ve_FA G M oT b t := by
  unfold ve_FA
  split
  · rfl
  · next z => rw [hT z]
/-- the frame f itself -/
theorem ve_WW_fr {f base : Nat} (q : ve_WW n nm G M C oT oc vl fb fp ft fa f base) : (f = 0 ∧ fb f = 12 ∧ base = 0) ∨ (0 < f ∧ ve_FO G M nm oT oc (fb f) (ft f) (fa f)) := by
  cases f with
  | zero => exact Or.inl ⟨rfl, q.2, q.1⟩
  | succ f => exact Or.inr ⟨by omega, q.1⟩
theorem ve_WW_t (w : ve_WM n nm G M) {f base : Nat} (q : ve_WW n nm G M C oT oc vl fb fp ft fa f base) : fb f ≠ 12 → ft f < oc := by
  intro z
  rcases ve_WW_fr q with y | y
  · exact absurd y.2.1 z
  · exact y.2.2.1
theorem ve_WW_12 (w : ve_WM n nm G M) {f base : Nat} (q : ve_WW n nm G M C oT oc vl fb fp ft fa f base) : fb f = 12 → f = 0 := by
  intro z
  rcases ve_WW_fr q with y | y
  · exact y.1
  · have := y.2.1; have := w.1; omega
theorem ve_WW_b (w : ve_WM n nm G M) {f base : Nat} (q : ve_WW n nm G M C oT oc vl fb fp ft fa f base) : fb f < 13 := by
  rcases ve_WW_fr q with y | y
  · omega
  · have := y.2.1; have := w.1; omega
theorem ve_WW_EN (h : ve_WG n G) (w : ve_WM n nm G M) (ob : ve_OB n G M oT oF oc) {f base : Nat} (q : ve_WW n nm G M C oT oc vl fb fp ft fa f base) :
    ve_EN n G (ve_O M (fb f)) (ve_FA G M oT (fb f) (ft f)) := by
  rcases ve_WW_fr q with y | y
  · unfold ve_FA
    rw [if_pos y.2.1, y.2.1, w.2.2.2.2.2 12 w.1]
    exact ve_EN_0 h
  · unfold ve_FA
    rw [if_neg (by have := y.2.1; have := w.1; omega)]
    exact ve_EN_T h (ob _ y.2.2.1).1 y.2.2.2.1
theorem ve_WW_c (w : ve_WM n nm G M) (hT : ∀ i, i < oc → oT' i = oT i) (hc : oc ≤ oc') : ∀ {f base : Nat}, (∀ i, i ≤ f → fb' i = fb i ∧ ft' i = ft i ∧ fa' i = fa i) → (∀ i, i < f → fp' i = fp i) →
    (∀ s, s < base → vl' s = vl s) → ve_WW n nm G M C oT oc vl fb fp ft fa f base → ve_WW n nm G M C oT' oc' vl' fb' fp' ft' fa' f base := by
  intro f
  induction f with
  | zero => intro base h1 _ _ q; exact ⟨q.1, by rw [(h1 0 (by omega)).1]; exact q.2⟩
  | succ f ih =>
    intro base h1 h2 h3 q
    obtain ⟨q1, t, rest, base', q2, q3, q4, q5, q6⟩ := q
    have a := h1 (f + 1) (by omega)
    have b := h1 f (by omega)
    have c := h2 f (by omega)
    have ef : ve_FA G M oT' (fb f) (ft f) = ve_FA G M oT (fb f) (ft f) := ve_FA_c (fun z => hT _ (ve_WW_t w q6 z))
    have le := ve_VS_le q4
    refine ⟨by rw [a.1, a.2.1, a.2.2]; exact ve_FO_c hT hc q1, t, rest, base', by rw [b.1, c]; exact q2, by rw [b.1, c]; exact q3, ?_, ?_, ?_⟩
    · rw [b.1, b.2.1, ef]; exact ve_VS_c hT hc h3 q4
    · rw [b.1, b.2.1, ef, a.1, a.2.1, hT _ q1.2.1]; exact q5
    · exact ih (fun i hi => h1 i (by omega)) (fun i hi => h2 i (by omega)) (fun s hs => h3 s (by omega)) q6
/-- all bodies are well typed -/
def ve_CK (n nm : Nat) (G : ve_T) (M : ve_M) (C : ve_C) : Prop := ∀ b, b < nm ∨ b = 12 → ve_TP n G M C b (ve_L C b) []
/-- the end of a body -/
theorem ve_c_end (h : ve_WG n G) (w : ve_WM n nm G M) (ob : ve_OB n G M oT oF oc) {f sp : Nat} (q : ve_CF n nm G M C oT oc vl fb fp ft fa f sp) (e : ve_L C (fb f) ≤ fp f) :
    (f = 0 ∧ sp = 1 ∧ vl 0 < oc) ∨ (∃ g, f = g + 1 ∧ ve_CF n nm G M C oT oc vl fb fp ft fa g sp) := by
  obtain ⟨q0, st, base, q1, q2, q3⟩ := q
  have e0 : ve_L C (fb f) - fp f = 0 := by omega
  rw [e0] at q1
  obtain ⟨ws, t, rfl, q1⟩ := q1
  obtain ⟨s, e1, q2, q2'⟩ := q2
  have e2 : s = base := q2'
  subst e2
  have en := ve_WW_EN h w ob q3
  cases f with
  | zero =>
    have := q3.1
    subst this
    exact Or.inl ⟨rfl, e1, q2.1⟩
  | succ g =>
    refine Or.inr ⟨g, rfl, ?_⟩
    obtain ⟨r1, t', rest, base', r2, r3, r4, r5, r6⟩ := q3
    have n12 : fb (g + 1) ≠ 12 := by have := r1.1; have := w.1; omega
    have eA : ve_FA G M oT (fb (g + 1)) (ft (g + 1)) = ve_ar G (oT (ft (g + 1))) (ve_O M (fb (g + 1))) := by unfold ve_FA; rw [if_neg n12]
    refine ⟨r2, t' :: rest, base', r3, ⟨s, e1, ⟨q2.1, ?_⟩, r4⟩, r6⟩
    obtain ⟨k1, hk1, w1⟩ := ws t (by simp)
    have wm := w.2.1 _ r1.1
    obtain ⟨k2, hk2, w2⟩ := wm.2.2.1
    have q1' : ve_Su G (ve_O M (fb (g + 1))) t (ve_R M (fb (g + 1))) := by
      rcases q1 with z | z
      · exact absurd z n12
      · exact z
    have s1 := ve_EN_S h en w1 w2 (by omega) (by omega) q1'
    have s2 := q2.2
    rw [eA] at s1 s2
    obtain ⟨⟨k3, _, w3⟩, _⟩ := (ob _ q2.1).1
    rw [eA] at en
    obtain ⟨_, _, w4⟩ := ve_EN_w h en w1 (by omega)
    obtain ⟨_, _, w5⟩ := ve_EN_w h en w2 (by omega)
    have ww : ∃ k, ve_wt n G 0 k (ve_ss G t' (ve_FA G M oT (fb g) (ft g))) := by
      have en2 := ve_WW_EN h w ob r6
      have ws2 : ve_Ws n G (ve_O M (fb g)) 10 (t' :: rest) := by
        generalize ve_L C (fb g) - fp g = r at r3
        cases r with
        | zero => exact r3.1
        | succ r => exact r3.1
      obtain ⟨k6, hk6, w6⟩ := ws2 t' (by simp)
      obtain ⟨k7, _, w7⟩ := ve_EN_w h en2 w6 (by omega)
      exact ⟨k7, w7⟩
    obtain ⟨_, w6⟩ := ww
    exact ve_trn h (ve_V0 h) w3 w5 w6 (ve_trn h (ve_V0 h) w3 w4 w5 s2 s1) r5
theorem ve_VS_1 {A t : Nat} {st : List Nat} {sp b : Nat} (q : ve_VS G oT oc A vl (t :: st) sp b) : ∃ s, sp = s + 1 ∧ ve_VT G oT oc A t (vl s) ∧ ve_VS G oT oc A vl st s b := q
/-- the token that is next -/
theorem ve_c_tok {f sp : Nat} (q : ve_CF n nm G M C oT oc vl fb fp ft fa f sp) (e : fp f < ve_L C (fb f)) : ∃ st st' base, ve_Ws n G (ve_O M (fb f)) 10 st ∧
    ve_TS G M (ve_O M (fb f)) (fb f) (ve_K C (8 * fb f + fp f)) (ve_Q C (8 * fb f + fp f)) st st' ∧ ve_TP n G M C (fb f) (ve_L C (fb f) - (fp f + 1)) st' ∧
    ve_VS G oT oc (ve_FA G M oT (fb f) (ft f)) vl st sp base ∧ ve_WW n nm G M C oT oc vl fb fp ft fa f base := by
  obtain ⟨q0, st, base, q1, q2, q3⟩ := q
  obtain ⟨r, hr⟩ : ∃ r, ve_L C (fb f) - fp f = r + 1 := ⟨ve_L C (fb f) - fp f - 1, by omega⟩
  rw [hr] at q1
  obtain ⟨ws, st', ts, tp⟩ := q1
  have e1 : ve_L C (fb f) - (r + 1) = fp f := by omega
  have e2 : ve_L C (fb f) - (fp f + 1) = r := by omega
  rw [e1] at ts
  rw [e2]
  exact ⟨st, st', base, ws, ts, tp, q2, q3⟩
/-- a value pushed on what is left of the stack -/
theorem ve_c_push (w : ve_WM n nm G M) {f s base x t : Nat} {rest : List Nat} (hx : ve_VT G oT' oc' (ve_FA G M oT (fb f) (ft f)) t x) (hT : ∀ i, i < oc → oT' i = oT i) (hc : oc ≤ oc')
    (e : fp f < ve_L C (fb f)) (tp : ve_TP n G M C (fb f) (ve_L C (fb f) - (fp f + 1)) (t :: rest)) (vs : ve_VS G oT oc (ve_FA G M oT (fb f) (ft f)) vl rest s base)
    (ww : ve_WW n nm G M C oT oc vl fb fp ft fa f base) : ve_CF n nm G M C oT' oc' (ve_u vl s x) fb (ve_u fp f (fp f + 1)) ft fa f (s + 1) := by
  have le := ve_VS_le vs
  have ef : ve_FA G M oT' (fb f) (ft f) = ve_FA G M oT (fb f) (ft f) := ve_FA_c (fun z => hT _ (ve_WW_t w ww z))
  refine ⟨by rw [ve_u_s]; omega, t :: rest, base, by rw [ve_u_s]; exact tp, ⟨s, rfl, ?_, ?_⟩, ?_⟩
  · rw [ve_u_s, ef]; exact hx
  · rw [ef]
    exact ve_VS_c hT hc (fun i hi => ve_u_n (by omega)) vs
  · exact ve_WW_c w hT hc (fun i _ => ⟨rfl, rfl, rfl⟩) (fun i hi => ve_u_n (by omega)) (fun i hi => ve_u_n (by omega)) ww
/-- ARG -/
theorem ve_c_arg (h : ve_WG n G) (w : ve_WM n nm G M) {f sp : Nat} (q : ve_CF n nm G M C oT oc vl fb fp ft fa f sp) (e : fp f < ve_L C (fb f)) (k0 : ve_K C (8 * fb f + fp f) = 0) (b12 : fb f ≠ 12) :
    0 < f ∧ ve_CF n nm G M C oT oc (ve_u vl sp (fa f)) fb (ve_u fp f (fp f + 1)) ft fa f (sp + 1) := by
  obtain ⟨st, st', base, ws, ts, tp, vs, ww⟩ := ve_c_tok q e
  rw [k0] at ts
  rcases ve_WW_fr ww with y | y
  · exact absurd y.2.1 b12
  · rcases ts with z | z | z | z | z
    · obtain ⟨_, rfl⟩ := z
      refine ⟨y.1, ve_c_push w ?_ (fun i _ => rfl) (Nat.le_refl _) e tp vs ww⟩
      unfold ve_FA; rw [if_neg b12]
      exact ⟨y.2.2.2.2.1, y.2.2.2.2.2⟩
    all_goals exact absurd z.1 (by omega)
/-- THIS -/
theorem ve_c_this (h : ve_WG n G) (w : ve_WM n nm G M) (ob : ve_OB n G M oT oF oc) {f sp : Nat} (q : ve_CF n nm G M C oT oc vl fb fp ft fa f sp) (e : fp f < ve_L C (fb f)) (k0 : ve_K C (8 * fb f + fp f) = 1) (b12 : fb f ≠ 12) :
    0 < f ∧ ve_CF n nm G M C oT oc (ve_u vl sp (ft f)) fb (ve_u fp f (fp f + 1)) ft fa f (sp + 1) := by
  obtain ⟨st, st', base, ws, ts, tp, vs, ww⟩ := ve_c_tok q e
  rw [k0] at ts
  rcases ve_WW_fr ww with y | y
  · exact absurd y.2.1 b12
  · rcases ts with z | z | z | z | z
    · exact absurd z.1 (by omega)
    · obtain ⟨_, rfl⟩ := z
      refine ⟨y.1, ve_c_push w ?_ (fun i _ => rfl) (Nat.le_refl _) e tp vs ww⟩
      unfold ve_FA; rw [if_neg b12]
      have ot := (ob _ y.2.2.1).1
      obtain ⟨⟨k, hk, wT⟩, _⟩ := id ot
      refine ⟨y.2.2.1, ?_⟩
      rw [ve_sf_T h y.2.2.2.1 wT (ve_OT_15 h ot)]
      exact ve_Su_sn h y.2.2.2.1 wT (ve_OT_15 h ot)
    all_goals exact absurd z.1 (by omega)
/-- FIELD -/
theorem ve_c_fld (h : ve_WG n G) (w : ve_WM n nm G M) (ob : ve_OB n G M oT oF oc) {f sp : Nat} (q : ve_CF n nm G M C oT oc vl fb fp ft fa f sp) (e : fp f < ve_L C (fb f)) (k0 : ve_K C (8 * fb f + fp f) = 2) :
    ∃ s j, sp = s + 1 ∧ vl s < oc ∧ oF (vl s) = j + 1 ∧ j < oc ∧ ve_CF n nm G M C oT oc (ve_u vl s j) fb (ve_u fp f (fp f + 1)) ft fa f (s + 1) := by
  obtain ⟨st, st', base, ws, ts, tp, vs, ww⟩ := ve_c_tok q e
  rw [k0] at ts
  rcases ts with z | z | z | z | z
  · exact absurd z.1 (by omega)
  · exact absurd z.1 (by omega)
  · obtain ⟨_, v, rest, a, rfl, fe, rfl⟩ := z
    obtain ⟨s, e1, v1, v2⟩ := ve_VS_1 vs
    obtain ⟨k, hk, wv⟩ := ws v (by simp)
    obtain ⟨j, j1, j2, j3⟩ := ve_rdF h w ob (ve_WW_EN h w ob ww) wv hk v1 fe
    exact ⟨s, j, e1, v1.1, j1, j3.1, ve_c_push w j3 (fun i _ => rfl) (Nat.le_refl _) e tp v2 ww⟩
  · exact absurd z.1 (by omega)
  · exact absurd z.1 (by omega)
/-- CALL -/
theorem ve_c_call (h : ve_WG n G) (w : ve_WM n nm G M) (ob : ve_OB n G M oT oF oc) (ck : ve_CK n nm G M C) {f sp : Nat} (q : ve_CF n nm G M C oT oc vl fb fp ft fa f sp) (e : fp f < ve_L C (fb f))
    (k0 : ve_K C (8 * fb f + fp f) = 3) (hop : ve_Q C (8 * fb f + fp f) < 4) :
    ∃ s m, sp = s + 2 ∧ vl s < oc ∧ vl (s + 1) < oc ∧ ve_mt G M (oT (vl s) % 16) (ve_Q C (8 * fb f + fp f)) = m + 1 ∧ m < nm ∧
      ve_CF n nm G M C oT oc vl (ve_u fb (f + 1) m) (ve_u (ve_u fp f (fp f + 1)) (f + 1) 0) (ve_u ft (f + 1) (vl s)) (ve_u fa (f + 1) (vl (s + 1))) (f + 1) s := by
  obtain ⟨st, st', base, ws, ts, tp, vs, ww⟩ := ve_c_tok q e
  rw [k0] at ts
  rcases ts with z | z | z | z | z
  · exact absurd z.1 (by omega)
  · exact absurd z.1 (by omega)
  · exact absurd z.1 (by omega)
  · obtain ⟨_, t, v, rest, m, rfl, fe, sp1, rfl⟩ := z
    obtain ⟨s1, e1, v1, v2⟩ := ve_VS_1 vs
    obtain ⟨s, e2, v3, v4⟩ := ve_VS_1 v2
    subst e2
    obtain ⟨k, hk, wv⟩ := ws v (by simp)
    obtain ⟨k2, hk2, wt⟩ := ws t (by simp)
    obtain ⟨m', m1, m2, m3⟩ := ve_rdC h w ob (ve_WW_EN h w ob ww) wv hk wt (by omega) hop v3 v1 fe sp1
    refine ⟨s, m', by omega, v3.1, v1.1, m1, m2.1, ?_⟩
    have f1 : ∀ i, i ≤ f → i ≠ f + 1 := fun i hi => by omega
    refine ⟨by rw [ve_u_s]; omega, [], s, ?_, rfl, ?_⟩
    · rw [ve_u_s, ve_u_s, Nat.sub_zero]; exact ck _ (Or.inl m2.1)
    · refine ⟨by rw [ve_u_s, ve_u_s, ve_u_s]; exact m2, ve_th G (ve_R M m) (ve_O M m) (ve_ex G (ve_O M (fb f)) v), rest, base, ?_, ?_, ?_, ?_, ?_⟩
      · rw [ve_u_n (f := fb) (by omega), ve_u_n (k := f + 1) (by omega), ve_u_s]; omega
      · rw [ve_u_n (f := fb) (by omega), ve_u_n (by omega), ve_u_s]; exact tp
      · rw [ve_u_n (f := fb) (by omega), ve_u_n (f := ft) (by omega)]; exact v4
      · rw [ve_u_n (f := fb) (j := f) (by omega), ve_u_n (f := ft) (j := f) (by omega), ve_u_s, ve_u_s]; exact m3
      · refine ve_WW_c w (fun i _ => rfl) (Nat.le_refl _) (fun i hi => ⟨ve_u_n (f1 i hi), ve_u_n (f1 i hi), ve_u_n (f1 i hi)⟩) (fun i hi => ?_) (fun _ _ => rfl) ww
        rw [ve_u_n (by omega), ve_u_n (by omega)]
  · exact absurd z.1 (by omega)
theorem ve_OB_new (ob : ve_OB n G M oT oF oc) {T y : Nat} (ot : ve_OT n G T)
    (hy : (ve_fc G M (T % 16) = 0 ∧ y = 0) ∨ ∃ a j, ve_fc G M (T % 16) = a + 1 ∧ y = j + 1 ∧ j < oc ∧ ve_Su G 0 (oT j) (ve_th G (ve_E M a - 1) a T)) : ve_OB n G M (ve_u oT oc T) (ve_u oF oc y) (oc + 1) := by
  intro i hi
  rcases Nat.lt_or_ge i oc with z | z
  · rw [ve_u_n (by omega), ve_u_n (by omega)]
    obtain ⟨a1, a2⟩ := ob i z
    refine ⟨a1, ?_⟩
    rcases a2 with r | ⟨a, j, r1, r2, r3, r4⟩
    · exact Or.inl r
    · exact Or.inr ⟨a, j, r1, r2, r3, by rw [ve_u_n (by omega)]; exact r4⟩
  · have : i = oc := by omega
    subst this
    rw [ve_u_s, ve_u_s]
    refine ⟨ot, ?_⟩
    rcases hy with r | ⟨a, j, r1, r2, r3, r4⟩
    · exact Or.inl r
    · exact Or.inr ⟨a, j, r1, r2, r3, by rw [ve_u_n (by omega)]; exact r4⟩
/-- NEW: y is the field's code, s the height behind it -/
theorem ve_c_new (h : ve_WG n G) (w : ve_WM n nm G M) (ob : ve_OB n G M oT oF oc) {f sp : Nat} (q : ve_CF n nm G M C oT oc vl fb fp ft fa f sp) (e : fp f < ve_L C (fb f)) (k0 : ve_K C (8 * fb f + fp f) = 4)
    (nw : ve_NW n G (ve_O M (fb f)) (ve_Q C (8 * fb f + fp f))) : ∃ T y s, T = ve_ss G (ve_Q C (8 * fb f + fp f)) (ve_FA G M oT (fb f) (ft f)) ∧ ve_OT n G T ∧ T % 16 = ve_Q C (8 * fb f + fp f) % 16 ∧
      ((ve_fc G M (ve_Q C (8 * fb f + fp f) % 16) = 0 ∧ y = 0 ∧ s = sp) ∨ (ve_fc G M (ve_Q C (8 * fb f + fp f) % 16) ≠ 0 ∧ sp = s + 1 ∧ y = vl s + 1 ∧ vl s < oc)) ∧
      ve_OB n G M (ve_u oT oc T) (ve_u oF oc y) (oc + 1) ∧ ve_CF n nm G M C (ve_u oT oc T) (oc + 1) (ve_u vl s oc) fb (ve_u fp f (fp f + 1)) ft fa f (s + 1) := by
  obtain ⟨st, st', base, ws, ts, tp, vs, ww⟩ := ve_c_tok q e
  rw [k0] at ts
  have en := ve_WW_EN h w ob ww
  obtain ⟨ot, eh⟩ := ve_new h en nw
  generalize ve_Q C (8 * fb f + fp f) = op at *
  have hT : ∀ i, i < oc → ve_u oT oc (ve_ss G op (ve_FA G M oT (fb f) (ft f))) i = oT i := fun i hi => ve_u_n (by omega)
  have hx : ve_VT G (ve_u oT oc (ve_ss G op (ve_FA G M oT (fb f) (ft f)))) (oc + 1) (ve_FA G M oT (fb f) (ft f)) op oc := by
    refine ⟨by omega, ?_⟩
    rw [ve_u_s]
    obtain ⟨⟨k, _, wT⟩, _⟩ := ot
    exact ve_Su_r h wT
  rcases ts with z | z | z | z | z
  · exact absurd z.1 (by omega)
  · exact absurd z.1 (by omega)
  · exact absurd z.1 (by omega)
  · exact absurd z.1 (by omega)
  · rcases z.2 with ⟨fe, rfl⟩ | ⟨a, t, rest, fe, rfl, sp1, rfl⟩
    · refine ⟨_, 0, sp, rfl, ot, eh, Or.inl ⟨fe, rfl, rfl⟩, ve_OB_new ob ot (Or.inl ⟨by rw [eh]; exact fe, rfl⟩), ?_⟩
      exact ve_c_push w hx hT (by omega) e tp vs ww
    · obtain ⟨s, e1, v1, v2⟩ := ve_VS_1 vs
      refine ⟨_, vl s + 1, s, rfl, ot, eh, Or.inr ⟨by omega, e1, rfl, v1.1⟩, ?_, ve_c_push w hx hT (by omega) e tp v2 ww⟩
      refine ve_OB_new ob ot (Or.inr ⟨a, vl s, by rw [eh]; exact fe, rfl, v1.1, ?_⟩)
      obtain ⟨kt, hkt, wt⟩ := ws t (by simp)
      obtain ⟨⟨ko, hko, wo, _⟩, hox, _⟩ := nw
      have sf := ve_fc_s h fe
      obtain ⟨_, ⟨kE, hkE, wE⟩, _⟩ := w.2.2.2.1 a sf.2
      obtain ⟨k3, hk3, w3⟩ := ve_th_wt (o := ve_O M (fb f)) h sf.1 wE (by omega) wo hox
      have r := ve_EN_S h en wt w3 (by omega) (by omega) sp1
      have r2 := ve_th_ss h (ve_FA G M oT (fb f) (ft f)) sf.1 wE wo hox (by omega)
      obtain ⟨⟨kv, _, wv⟩, _⟩ := (ob _ v1.1).1
      obtain ⟨_, _, w4⟩ := ve_EN_w h en wt (by omega)
      obtain ⟨_, _, w5⟩ := ve_EN_w h en w3 (by omega)
      rw [← r2]
      exact ve_trn h (ve_V0 h) wv w4 w5 v1.2 r
end
end
section
/-! numbers: tables as int arrays, booleans, options; longs in base 16 -/
def ve_i (f : Nat → Nat) : Nat → Int32 := fun i => nI (f i)
theorem ve_at {f : Nat → Nat} {d : Nat} (h : d < 2 ^ 31) : ve_i f (nI d).toNatClampNeg = nI (f d) := by
  unfold ve_i; rw [nI_clamp h]
theorem ve_iu {f : Nat → Nat} {k x : Nat} : upd (ve_i f) k (nI x) = ve_i (ve_u f k x) := by
  funext j
  unfold upd ve_i ve_u
  split <;> rfl
def ve_b : Bool → Int32
  | true => 1
  | false => 0
def ve_d : Nat → Int32
  | 0 => -1
  | k + 1 => nI k
theorem vb_c {b : Bool} {A B : Prop} (f : b = false → A) (g : b = true → B) : (ve_b b = 0 → A) ∧ (¬ ve_b b = 0 → B) := by
  cases b
  · exact ⟨fun _ => f rfl, fun z => absurd rfl z⟩
  · exact ⟨fun z => absurd z (by decide), fun _ => g rfl⟩
theorem vb_1 {b : Bool} {A B : Prop} (f : b = true → A) (g : b = false → B) : (ve_b b = 1 → A) ∧ (¬ ve_b b = 1 → B) := by
  cases b
  · exact ⟨fun z => absurd z (by decide), fun _ => g rfl⟩
  · exact ⟨fun _ => f rfl, fun z => absurd rfl z⟩
theorem vd_lt {k : Nat} {A B : Prop} (hk : k ≤ 2147483648) (f : k = 0 → A) (g : ∀ m, k = m + 1 → B) : (ve_d k < 0 → A) ∧ (¬ ve_d k < 0 → B) := by
  cases k with
  | zero => exact ⟨fun _ => f rfl, fun z => absurd (by decide) z⟩
  | succ m => exact ⟨fun z => absurd z (nI_pos (by omega)), fun _ => g m rfl⟩
theorem vd_ge {k : Nat} {A B : Prop} (hk : k ≤ 2147483648) (f : ∀ m, k = m + 1 → A) (g : k = 0 → B) : (0 ≤ ve_d k → A) ∧ (¬ 0 ≤ ve_d k → B) := by
  cases k with
  | zero => exact ⟨fun z => absurd z (by decide), fun _ => g rfl⟩
  | succ m => exact ⟨fun _ => f m rfl, fun z => absurd (nI_pos' (by omega)) z⟩
theorem vl_eq {x y : Int64} {A B : Prop} (a b : Nat) (f : a = b → A) (g : a ≠ b → B) (hx : x = lN a := by rfl) (hy : y = lN b := by rfl) (ha : a < 9223372036854775808 := by omega) (hb : b < 9223372036854775808 := by omega) : (x = y → A) ∧ (¬ x = y → B) := by
  subst hx hy
  rw [pk_lEQ (by omega) (by omega)]
  exact ⟨f, g⟩
theorem vl_and {v : Nat} (h : v < 9223372036854775808) : lN v &&& 15 = lN (v % 16) := wb_mask (k := 4) (by omega) (by decide)
theorem vl_hd {v : Nat} (h : v < 9223372036854775808) : (lN v &&& 15).toInt32 = nI (v % 16) := by rw [vl_and h, lN_i]
theorem vl_shD {a d : Nat} {D : Int64} (hD : (D.toBitVec.smod 64).toNat = d) (h : a < 9223372036854775808) : lN a >>> D = lN (a / 2 ^ d) := by
  have hd : a / 2 ^ d ≤ a := Nat.div_le_self _ _
  apply Int64.toInt_inj.mp
  have e : (lN a >>> D).toInt = (lN a).toInt >>> d := by
    rw [← hD]
    exact BitVec.toInt_sshiftRight ..
  rw [e, Int.shiftRight_eq_div_pow, pf_lI (by omega), pf_lI (by omega)]
  rfl
theorem vl_sh {v : Nat} (h : v < 9223372036854775808) : lN v >>> ((4 : Int32).toInt64 &&& 63) = lN (v / 16) := vl_shD (d := 4) (by decide) h
theorem vl_cnt {k : Nat} (hk : k < 64) : (((nI k).toInt64 &&& 63).toBitVec.smod 64).toNat = k := by
  rw [wb_c k hk, wb_tb, wb_sm k hk, BitVec.toNat_ofNat, Nat.mod_eq_of_lt (by omega)]
theorem ve_16 (j : Nat) : 2 ^ (4 * j) = 16 ^ j := by rw [Nat.pow_mul]
theorem vl_shk {v j : Nat} (h : v < 9223372036854775808) (hj : j < 16) : lN v >>> ((nI (4 * j)).toInt64 &&& 63) = lN (v / 16 ^ j) := by
  rw [vl_shD (vl_cnt (k := 4 * j) (by omega)) h, ve_16]
theorem vl_slk {v j : Nat} (hj : j < 16) : lN v <<< ((nI (4 * j)).toInt64 &&& 63) = lN (v * 16 ^ j) := by
  rw [wb_shl v (k := 4 * j) (by omega), ve_16]
theorem wb_mask' {v j : Nat} (hv : v < 9223372036854775808) (hj : j < 16) : lN v &&& lN (16 ^ j - 1) = lN (v % 16 ^ j) := by
  rw [← ve_16]; exact wb_mask (by omega) (by omega)
theorem vl_i {a : Nat} (h : a < 2147483648) : (nI a).toInt64 = lN a := nI_l (by omega)
theorem v_4 (c k : Nat) : (4 : Int32) * nI c + nI k = nI (4 * c + k) := by
  have e : (4 : Int32) = nI 4 := rfl
  rw [e, pk_mul, nI_add]
theorem v_8 (c k : Nat) : (8 : Int32) * nI c + nI k = nI (8 * c + k) := by
  have e : (8 : Int32) = nI 8 := rfl
  rw [e, pk_mul, nI_add]
theorem v_16 (c k : Nat) : (16 : Int32) * nI c + nI k = nI (16 * c + k) := by
  have e : (16 : Int32) = nI 16 := rfl
  rw [e, pk_mul, nI_add]
theorem v_16' (c k : Nat) : nI c + (16 : Int32) * nI k = nI (c + 16 * k) := by
  have e : (16 : Int32) = nI 16 := rfl
  rw [e, pk_mul, nI_add]
theorem v_240 (c : Nat) : nI c + 240 = nI (c + 240) := by
  have e : (240 : Int32) = nI 240 := rfl
  rw [e, nI_add]
theorem v_sub1 {k : Nat} (h : 0 < k) : nI k - 1 = nI (k - 1) := by
  obtain ⟨j, rfl⟩ : ∃ j, k = j + 1 := ⟨k - 1, by omega⟩
  rw [nI_pred]; rfl
theorem v_sub2 {k : Nat} (h : 1 < k) : nI k - 2 = nI (k - 2) := by
  have e : (2 : Int32) = nI 2 := rfl
  rw [e, pk_sub (by omega)]
theorem vl_dif {s c : Nat} (hs : s < 16) (hc : c < 16) : (nI s - nI c).toInt64 = lN s - lN c := by
  have key : ∀ s : Fin 16, ∀ c : Fin 16, (nI s.val - nI c.val).toInt64 = lN s.val - lN c.val := by decide +kernel
  exact key ⟨s, hs⟩ ⟨c, hc⟩
theorem vl_step {v s : Nat} (hs : s < 16) : lN v + (nI s - nI (v % 16)).toInt64 = lN (v / 16 * 16 + s) := by
  rw [vl_dif hs (by omega)]
  have e : v = v / 16 * 16 + v % 16 := by omega
  have e2 : lN v = lN (v / 16 * 16) + lN (v % 16) := by rw [lN_add, ← e]
  rw [e2, ← lN_add]
  generalize lN (v / 16 * 16) = a
  generalize lN (v % 16) = b
  generalize lN s = c
  grind
theorem ve_st_b {n : Nat} {G : ve_T} (h : ve_WG n G) {v z : Nat} (hv : v < z) (hz : 256 ≤ z) : ve_st G v < z := by
  have a := ve_Sle h (v % 16)
  have b := ve_A15 h (v % 16)
  unfold ve_st
  split
  · omega
  · split <;> omega
theorem ve_se_b {n : Nat} {G : ve_T} (h : ve_WG n G) {a z : Nat} (hz : 256 ≤ z) : ∀ f v, v < z → ve_se G a f v < z
  | 0, v, hv => hv
  | f + 1, v, hv => by
    unfold ve_se
    split
    · exact hv
    · exact ve_se_b h hz f _ (ve_st_b h hv hz)
theorem ve_sn_b {n : Nat} {G : ve_T} (h : ve_WG n G) {a v z : Nat} (hz : 256 ≤ z) (hv : v < z) : ve_sn G v a < z := ve_se_b h hz 12 v hv
theorem v_dec {p : Prop} [Decidable p] {P : Int32 → Prop} (f : p → P 1) (g : ¬ p → P 0) : P (ve_b (decide p)) := by
  by_cases z : p
  · rw [decide_eq_true z]; exact f z
  · rw [decide_eq_false z]; exact g z
/-- symbols -/
def ve_sz (n : Nat) (G : ve_T) (o : Nat) : Nat → Nat → Nat
  | 0, _ => 0
  | f + 1, t => if (t % 16 = 15 ∧ ve_V G o = 0) ∨ (t % 16 ≠ 15 ∧ n ≤ t % 16) then 0
    else if ve_V G (t % 16) = 0 then (if t / 16 = 0 then 1 else 0)
    else if ve_sz n G o f (t / 16) = 0 then 0 else ve_sz n G o f (t / 16) + 1
section
variable {n o : Nat} {G : ve_T}
theorem ve_sz_wt (h : ve_WG n G) : ∀ f t, ve_sz n G o f t ≠ 0 → ve_wt n G o (ve_sz n G o f t) t ∧ ve_sz n G o f t ≤ f
  | 0, t, e => absurd rfl e
  | f + 1, t, e => by
    have n12 := ve_n12 h
    unfold ve_sz at e ⊢
    split at e
    · exact absurd rfl e
    · next c1 =>
      rw [if_neg c1]
      split at e
      · next c2 =>
        rw [if_pos c2]
        split at e
        · next c3 =>
          rw [if_pos c3]
          have e1 : t % 16 = t := by omega
          rw [e1] at c1 c2
          refine ⟨⟨by omega, c2, ?_⟩, by omega⟩
          by_cases z : t = 15
          · refine Or.inl ⟨z, fun y => c1 (Or.inl ⟨z, y⟩)⟩
          · refine Or.inr ?_
            rcases Nat.lt_or_ge t n with y | y
            · exact y
            · exact absurd (Or.inr ⟨z, y⟩) c1
        · exact absurd rfl e
      · next c2 =>
        rw [if_neg c2]
        split at e
        · exact absurd rfl e
        · next c3 =>
          rw [if_neg c3]
          have r := ve_sz_wt h f (t / 16) c3
          exact ⟨ve_wt_mk c2 r.1, by omega⟩
theorem ve_wt_sz (h : ve_WG n G) : ∀ f k t, ve_wt n G o k t → k ≤ f → ve_sz n G o f t = k
  | 0, k, t, w, hk => by have := ve_wt_pos w; omega
  | f + 1, k, t, w, hk => by
    have n12 := ve_n12 h
    unfold ve_sz
    by_cases c2 : ve_V G (t % 16) = 0
    · have l := ve_wt_leaf w c2
      rw [if_neg, if_pos c2, if_pos (by omega), l.1]
      rintro (⟨y, y2⟩ | ⟨y, y2⟩)
      · rcases l.2.2.2 with z | z
        · exact z.2 y2
        · omega
      · rcases l.2.2.2 with z | z <;> omega
    · have nd := ve_wt_node w c2
      have hl := ve_lt h c2
      have r := ve_wt_sz h f (k - 1) (t / 16) nd.2 (by omega)
      rw [if_neg (by omega), if_neg c2, r, if_neg (by omega)]
      omega
end
end
section
/-! X's helpers over the cls table -/
section
variable {n nm : Nat} {G : ve_T} {M : ve_M} {C : ve_C} {f_x f_mainBody f_classLimit f_methodLimit f_checkState f_errorPlace f_typeTop f_objCount f_valueTop f_depth f_entered f_result f_keepTypes : Int32} {a_fieldType a_declared a_castAt a_objClass a_objField a_values a_frameBody a_framePc a_frameThis a_frameArg a_traced : Nat → Int32} {a_types a_objType : Nat → Int64} {post : Int32 → Prop}
theorem vx_below_e {c d : Nat} (hc : c < 16) (hd : d < 16) (hp : post (ve_b (decide (d = c)))) : wX_below_26 post (nI d) (nI c) f_x f_mainBody f_classLimit f_methodLimit (nI n) (nI nm) f_checkState f_errorPlace f_typeTop f_objCount f_valueTop f_depth f_entered f_result f_keepTypes (ve_i (ve_V G)) (ve_i (ve_B G)) (ve_i (ve_S G)) (ve_i (ve_A G)) a_fieldType a_declared (ve_i (ve_O M)) (ve_i (ve_P M)) (ve_i (ve_R M)) (ve_i (ve_L C)) (ve_i (ve_K C)) (ve_i (ve_Q C)) a_types a_castAt a_objClass a_objField a_values a_objType a_frameBody a_framePc a_frameThis a_frameArg a_traced :=
  pk_eq d c (fun e => by rw [decide_eq_true e] at hp; exact hp) (fun e => by rw [decide_eq_false e] at hp; exact hp)
theorem vx_below_l (h : ve_WG n G) {c : Nat} (hc : c < 16) : ∀ f i d, i + f = 12 → d < 16 → post (ve_b (ve_be G c f d)) → wX_below_2 post (nI c) f_x f_mainBody f_classLimit f_methodLimit (nI n) (nI nm) f_checkState f_errorPlace f_typeTop f_objCount f_valueTop f_depth f_entered f_result f_keepTypes (ve_i (ve_V G)) (ve_i (ve_B G)) (ve_i (ve_S G)) (ve_i (ve_A G)) a_fieldType a_declared (ve_i (ve_O M)) (ve_i (ve_P M)) (ve_i (ve_R M)) (ve_i (ve_L C)) (ve_i (ve_K C)) (ve_i (ve_Q C)) a_types a_castAt a_objClass a_objField a_values a_objType a_frameBody a_framePc a_frameThis a_frameArg a_traced (f + 1) (nI d) (nI i)
  | 0, i, d, hi, hd, hp => pk_le 12 i (fun _ => vx_below_e hc hd hp) (fun z => absurd z (by omega))
  | f + 1, i, d, hi, hd, hp => by
    have hs := ve_Sle h d
    unfold ve_be at hp
    refine pk_le 12 i (fun z => absurd z (by omega)) (fun _ => pk_le d c (fun z => ?_) (fun z => ⟨vp_in_nI hd (by omega), nm_r (ve_at (by omega)) (nm_r (nI_1 i) (vx_below_l h hc f (i + 1) _ (by omega) (by omega) ?_))⟩))
    · rw [if_pos z] at hp; exact vx_below_e hc hd hp
    · rw [if_neg (by omega)] at hp; exact hp
theorem vx_below (h : ve_WG n G) {c d : Nat} (hc : c < 16) (hd : d < 16) (hp : post (ve_b (ve_bl G d c))) : wpX_below post (f_x, f_mainBody, f_classLimit, f_methodLimit, (nI n), (nI nm), f_checkState, f_errorPlace, f_typeTop, f_objCount, f_valueTop, f_depth, f_entered, f_result, f_keepTypes, (ve_i (ve_V G)), (ve_i (ve_B G)), (ve_i (ve_S G)), (ve_i (ve_A G)), a_fieldType, a_declared, (ve_i (ve_O M)), (ve_i (ve_P M)), (ve_i (ve_R M)), (ve_i (ve_L C)), (ve_i (ve_K C)), (ve_i (ve_Q C)), a_types, a_castAt, a_objClass, a_objField, a_values, a_objType, a_frameBody, a_framePc, a_frameThis, a_frameArg, a_traced) (nI d) (nI c) :=
  ⟨12 + 1, vx_below_l h hc 12 0 d rfl hd hp⟩
theorem vx_isLast (h : ve_WG n G) {v : Nat} (hv : v < 9223372036854775808) (hp : post (ve_b (decide (ve_V G (v % 16) = 0)))) : wpX_isLast post (f_x, f_mainBody, f_classLimit, f_methodLimit, (nI n), (nI nm), f_checkState, f_errorPlace, f_typeTop, f_objCount, f_valueTop, f_depth, f_entered, f_result, f_keepTypes, (ve_i (ve_V G)), (ve_i (ve_B G)), (ve_i (ve_S G)), (ve_i (ve_A G)), a_fieldType, a_declared, (ve_i (ve_O M)), (ve_i (ve_P M)), (ve_i (ve_R M)), (ve_i (ve_L C)), (ve_i (ve_K C)), (ve_i (ve_Q C)), a_types, a_castAt, a_objClass, a_objField, a_values, a_objType, a_frameBody, a_framePc, a_frameThis, a_frameArg, a_traced) (lN v) := by
  have v3 := ve_V3 h (v % 16)
  unfold wpX_isLast
  dsimp only
  rw [vl_hd hv, ve_at (by omega)]
  exact ⟨vp_in_nI (by omega) (by omega), pk_eq (ve_V G (v % 16)) 0 (fun e => by rw [decide_eq_true e] at hp; exact hp) (fun e => by rw [decide_eq_false e] at hp; exact hp)⟩
theorem vx_isPlain (h : ve_WG n G) {c : Int32} (hp : (∀ k, k < n → c = nI k → ve_V G k = 0 → post 1) ∧ ((∀ k, k < n → c = nI k → ve_V G k ≠ 0) → post 0)) : wpX_isPlain post (f_x, f_mainBody, f_classLimit, f_methodLimit, (nI n), (nI nm), f_checkState, f_errorPlace, f_typeTop, f_objCount, f_valueTop, f_depth, f_entered, f_result, f_keepTypes, (ve_i (ve_V G)), (ve_i (ve_B G)), (ve_i (ve_S G)), (ve_i (ve_A G)), a_fieldType, a_declared, (ve_i (ve_O M)), (ve_i (ve_P M)), (ve_i (ve_R M)), (ve_i (ve_L C)), (ve_i (ve_K C)), (ve_i (ve_Q C)), a_types, a_castAt, a_objClass, a_objField, a_values, a_objType, a_frameBody, a_framePc, a_frameThis, a_frameArg, a_traced) c := by
  have n12 := ve_n12 h
  unfold wpX_isPlain
  dsimp only
  refine br_c (fun z => hp.2 (fun k hk e => ?_)) (fun z => ?_)
  · subst e; exact absurd z (nI_pos (by omega))
  · obtain ⟨k, hk, rfl⟩ := nI_of z
    refine pk_le n k (fun y => hp.2 (fun k' hk' e => ?_)) (fun y => ⟨vp_in_nI (by omega) (by omega), ?_⟩)
    · rw [nI_eq hk (by omega)] at e; omega
    · rw [ve_at hk]
      have v3 := ve_V3 h k
      exact pk_eq (ve_V G k) 0 (fun e => hp.1 k y rfl e) (fun e => hp.2 (fun k' hk' e' => by rw [nI_eq hk (by omega)] at e'; rw [← e']; exact e))
theorem vx_isSlot {n : Nat} (hn : n ≤ 12) {c k : Int32} (hp : (∀ i j, i < n → j < 4 → c = nI i → k = nI j → post 1) ∧ ((∀ i j, i < n → j < 4 → c = nI i → k = nI j → False) → post 0)) :
    wpX_isSlot post (f_x, f_mainBody, f_classLimit, f_methodLimit, (nI n), (nI nm), f_checkState, f_errorPlace, f_typeTop, f_objCount, f_valueTop, f_depth, f_entered, f_result, f_keepTypes, (ve_i (ve_V G)), (ve_i (ve_B G)), (ve_i (ve_S G)), (ve_i (ve_A G)), a_fieldType, a_declared, (ve_i (ve_O M)), (ve_i (ve_P M)), (ve_i (ve_R M)), (ve_i (ve_L C)), (ve_i (ve_K C)), (ve_i (ve_Q C)), a_types, a_castAt, a_objClass, a_objField, a_values, a_objType, a_frameBody, a_framePc, a_frameThis, a_frameArg, a_traced) c k := by
  unfold wpX_isSlot
  dsimp only
  refine br_c (fun z => hp.2 (fun i j hi hj e e' => ?_)) (fun z => ?_)
  · subst e; exact absurd z (nI_pos (by omega))
  · obtain ⟨i, hi, rfl⟩ := nI_of z
    refine pk_le n i (fun y => hp.2 (fun i' j hi' hj e e' => ?_)) (fun y => br_c (fun z => hp.2 (fun i' j hi' hj e e' => ?_)) (fun z2 => ?_))
    · rw [nI_eq hi (by omega)] at e; omega
    · subst e'; exact absurd z (nI_pos (by omega))
    · obtain ⟨j, hj, rfl⟩ := nI_of z2
      refine pk_lt 3 j (fun y => hp.2 (fun i' j' hi' hj' e e' => ?_)) (fun y2 => hp.1 i j y (by omega) rfl rfl)
      rw [nI_eq hj (by omega)] at e'; omega
/-- symbols: the number, shifted by what is read already -/
def ve_so (i s : Nat) : Nat := if s = 0 then 0 else s + (i - 1)
theorem vx_symbols_l (h : ve_WG n G) {o most : Nat} (ho : o < 16) (hm : most < 100) : ∀ f i t, i + f = most + 1 → 1 ≤ i → t < 9223372036854775808 → post (nI (ve_so i (ve_sz n G o f t))) →
    wX_symbols_3 post (nI o) (nI most) f_x f_mainBody f_classLimit f_methodLimit (nI n) (nI nm) f_checkState f_errorPlace f_typeTop f_objCount f_valueTop f_depth f_entered f_result f_keepTypes (ve_i (ve_V G)) (ve_i (ve_B G)) (ve_i (ve_S G)) (ve_i (ve_A G)) a_fieldType a_declared (ve_i (ve_O M)) (ve_i (ve_P M)) (ve_i (ve_R M)) (ve_i (ve_L C)) (ve_i (ve_K C)) (ve_i (ve_Q C)) a_types a_castAt a_objClass a_objField a_values a_objType a_frameBody a_framePc a_frameThis a_frameArg a_traced (f + 1) (lN t) (nI i)
  | 0, i, t, hi, h1, ht, hp => pk_lt most i (fun _ => hp) (fun z => absurd z (by omega))
  | f + 1, i, t, hi, h1, ht, hp => by
    have n12 := ve_n12 h
    have v3 := ve_V3 h (t % 16)
    have v3o := ve_V3 h o
    have n0 : ¬ lN t < 0 := by
      have := pk_lLT (a := t) (b := 0) (by omega) (by omega)
      intro z
      exact absurd (this.mp z) (by omega)
    unfold ve_sz at hp
    have j58 : ¬ ((t % 16 = 15 ∧ ve_V G o = 0) ∨ (t % 16 ≠ 15 ∧ n ≤ t % 16)) → wX_symbols_58 post (wX_symbols_3 post (nI o) (nI most) f_x f_mainBody f_classLimit f_methodLimit (nI n) (nI nm) f_checkState f_errorPlace f_typeTop f_objCount f_valueTop f_depth f_entered f_result f_keepTypes (ve_i (ve_V G)) (ve_i (ve_B G)) (ve_i (ve_S G)) (ve_i (ve_A G)) a_fieldType a_declared (ve_i (ve_O M)) (ve_i (ve_P M)) (ve_i (ve_R M)) (ve_i (ve_L C)) (ve_i (ve_K C)) (ve_i (ve_Q C)) a_types a_castAt a_objClass a_objField a_values a_objType a_frameBody a_framePc a_frameThis a_frameArg a_traced (f + 1)) (lN (t / 16)) (nI o) (nI most) (nI i) (nI (t % 16)) f_x f_mainBody f_classLimit f_methodLimit (nI n) (nI nm) f_checkState f_errorPlace f_typeTop f_objCount f_valueTop f_depth f_entered f_result f_keepTypes (ve_i (ve_V G)) (ve_i (ve_B G)) (ve_i (ve_S G)) (ve_i (ve_A G)) a_fieldType a_declared (ve_i (ve_O M)) (ve_i (ve_P M)) (ve_i (ve_R M)) (ve_i (ve_L C)) (ve_i (ve_K C)) (ve_i (ve_Q C)) a_types a_castAt a_objClass a_objField a_values a_objType a_frameBody a_framePc a_frameThis a_frameArg a_traced := by
      intro c1
      rw [if_neg c1] at hp
      unfold wX_symbols_58
      rw [ve_at (by omega)]
      refine ⟨vp_in_nI (by omega) (by omega), pk_eq (ve_V G (t % 16)) 0 (fun c2 => ?_) (fun c2 => ?_)⟩
      · rw [if_pos c2] at hp
        refine vl_eq (t / 16) 0 (fun c3 => ?_) (fun c3 => ?_)
        · rw [if_pos c3] at hp
          have e : ve_so i 1 = i := by unfold ve_so; rw [if_neg (by omega)]; omega
          rw [e] at hp; exact hp
        · rw [if_neg c3] at hp; exact hp
      · rw [if_neg c2] at hp
        refine nm_r (nI_1 i) (vx_symbols_l h ho hm f (i + 1) (t / 16) (by omega) (by omega) (by omega) ?_)
        by_cases c3 : ve_sz n G o f (t / 16) = 0
        · rw [if_pos c3] at hp; rw [c3]; exact hp
        · rw [if_neg c3] at hp
          have e : ve_so (i + 1) (ve_sz n G o f (t / 16)) = ve_so i (ve_sz n G o f (t / 16) + 1) := by
            unfold ve_so; rw [if_neg c3, if_neg (by omega)]; omega
          rw [e]; exact hp
    refine pk_lt most i (fun z => absurd z (by omega)) (fun _ => br_f n0 (nm_r (vl_hd ht) (nm_r (vl_sh ht) (pk_eq (t % 16) 15 (fun c1 => ⟨vp_in_nI ho (by omega), ?_⟩) (fun c1 => pk_lt (t % 16) n (fun c2 => j58 (by omega)) (fun c2 => ?_))))))
    · rw [ve_at (by omega)]
      refine pk_eq (ve_V G o) 0 (fun c2 => ?_) (fun c2 => j58 (by omega))
      rw [if_pos (Or.inl ⟨c1, c2⟩)] at hp; exact hp
    · rw [if_pos (Or.inr ⟨c1, c2⟩)] at hp; exact hp
/-- the answer of symbols for any long -/
def ve_sy (n : Nat) (G : ve_T) (o most : Nat) (t : Int64) (r : Nat) : Prop :=
  (r = 0 ∧ ∀ k v, t = lN v → v < 9223372036854775808 → ve_wt n G o k v → most < k) ∨ (0 < r ∧ r ≤ most ∧ ∃ v, t = lN v ∧ v < 9223372036854775808 ∧ ve_wt n G o r v)
theorem ve_sy_neg {o most : Nat} {t : Int64} (z : t < 0) : ve_sy n G o most t 0 := by
  refine Or.inl ⟨rfl, fun k v e hv _ => ?_⟩
  subst e
  have := pk_lLT (a := v) (b := 0) (by omega) (by omega)
  exact absurd (this.mp z) (by omega)
theorem ve_sy_pos (h : ve_WG n G) {o most v : Nat} (hv : v < 9223372036854775808) : ve_sy n G o most (lN v) (ve_sz n G o most v) := by
  by_cases c : ve_sz n G o most v = 0
  · refine Or.inl ⟨c, fun k v' e hv' w => ?_⟩
    rw [pk_lEQ (by omega) (by omega)] at e
    subst e
    rcases Nat.lt_or_ge most k with y | y
    · exact y
    · have := ve_wt_sz h most k v w y
      have := ve_wt_pos w
      omega
  · have r := ve_sz_wt h most v c
    exact Or.inr ⟨by omega, r.2, v, rfl, hv, r.1⟩
theorem vx_symbols (h : ve_WG n G) {o most : Nat} (ho : o < 16) (hm : most < 100) (h1 : 1 ≤ most) {t : Int64} (hp : ∀ r, ve_sy n G o most t r → post (nI r)) : wpX_symbols post (f_x, f_mainBody, f_classLimit, f_methodLimit, (nI n), (nI nm), f_checkState, f_errorPlace, f_typeTop, f_objCount, f_valueTop, f_depth, f_entered, f_result, f_keepTypes, (ve_i (ve_V G)), (ve_i (ve_B G)), (ve_i (ve_S G)), (ve_i (ve_A G)), a_fieldType, a_declared, (ve_i (ve_O M)), (ve_i (ve_P M)), (ve_i (ve_R M)), (ve_i (ve_L C)), (ve_i (ve_K C)), (ve_i (ve_Q C)), a_types, a_castAt, a_objClass, a_objField, a_values, a_objType, a_frameBody, a_framePc, a_frameThis, a_frameArg, a_traced) t (nI o) (nI most) := by
  by_cases z : t < 0
  · exact ⟨1, pk_lt most 1 (fun y => absurd y (by omega)) (fun _ => br_t z (hp 0 (ve_sy_neg z)))⟩
  · obtain ⟨v, hv, rfl⟩ := pk_lOf z
    refine ⟨most + 1, vx_symbols_l h ho hm most 1 v (by omega) (by omega) (by omega) ?_⟩
    have e : ve_so 1 (ve_sz n G o most v) = ve_sz n G o most v := by unfold ve_so; split <;> omega
    rw [e]
    exact hp _ (ve_sy_pos h (by omega))
end
section
variable {n nm : Nat} {G : ve_T} {M : ve_M} {C : ve_C} {f_x f_mainBody f_classLimit f_methodLimit f_checkState f_errorPlace f_typeTop f_objCount f_valueTop f_depth f_entered f_result f_keepTypes : Int32} {a_fieldType a_declared a_castAt a_objClass a_objField a_values a_frameBody a_framePc a_frameThis a_frameArg a_traced : Nat → Int32} {a_types a_objType : Nat → Int64} {post : Int64 → Prop}
theorem vx_seenAs_l (h : ve_WG n G) {a : Nat} (ha : a < 16) : ∀ f i v, i + f = 12 → v < 4611686018427387904 → post (lN (ve_se G a f v)) → wX_seenAs_3 post (nI a) f_x f_mainBody f_classLimit f_methodLimit (nI n) (nI nm) f_checkState f_errorPlace f_typeTop f_objCount f_valueTop f_depth f_entered f_result f_keepTypes (ve_i (ve_V G)) (ve_i (ve_B G)) (ve_i (ve_S G)) (ve_i (ve_A G)) a_fieldType a_declared (ve_i (ve_O M)) (ve_i (ve_P M)) (ve_i (ve_R M)) (ve_i (ve_L C)) (ve_i (ve_K C)) (ve_i (ve_Q C)) a_types a_castAt a_objClass a_objField a_values a_objType a_frameBody a_framePc a_frameThis a_frameArg a_traced (f + 1) (lN v) (nI i)
  | 0, i, v, hi, hv, hp => pk_le 12 i (fun _ => hp) (fun z => absurd z (by omega))
  | f + 1, i, v, hi, hv, hp => by
    have n12 := ve_n12 h
    have hS := ve_Sltn h (v % 16)
    have hA := ve_A15 h (v % 16)
    have v3 := ve_V3 h (ve_S G (v % 16))
    have hb := ve_st_b h (z := 4611686018427387904) hv (by omega)
    unfold ve_se at hp
    have go : v % 16 ≠ a → wX_seenAs_3 post (nI a) f_x f_mainBody f_classLimit f_methodLimit (nI n) (nI nm) f_checkState f_errorPlace f_typeTop f_objCount f_valueTop f_depth f_entered f_result f_keepTypes (ve_i (ve_V G)) (ve_i (ve_B G)) (ve_i (ve_S G)) (ve_i (ve_A G)) a_fieldType a_declared (ve_i (ve_O M)) (ve_i (ve_P M)) (ve_i (ve_R M)) (ve_i (ve_L C)) (ve_i (ve_K C)) (ve_i (ve_Q C)) a_types a_castAt a_objClass a_objField a_values a_objType a_frameBody a_framePc a_frameThis a_frameArg a_traced (f + 1) (lN (ve_st G v)) (nI (i + 1)) := by
      intro z
      rw [if_neg z] at hp
      exact vx_seenAs_l h ha f (i + 1) _ (by omega) hb hp
    refine pk_le 12 i (fun z => absurd z (by omega)) (fun _ => ?_)
    rw [vl_and (by omega), vl_i (by omega)]
    refine vl_eq (v % 16) a (fun z => ?_) (fun z => ?_)
    · rw [if_pos z] at hp; exact hp
    · have go := go z
      unfold ve_st at go
      refine nm_r (lN_i _) ⟨vp_in_nI (by omega) (by omega), nm_r (ve_at (by omega)) ⟨vp_in_nI (by omega) (by omega), ?_⟩⟩
      rw [ve_at (by omega)]
      refine pk_eq (ve_V G (ve_S G (v % 16))) 0 (fun c1 => nm_r (nI_1 i) ?_) (fun c1 => ⟨vp_in_nI (by omega) (by omega), ?_⟩)
      · rw [if_pos c1] at go
        rw [vl_i (by omega)]; exact go
      · rw [if_neg c1] at go
        rw [ve_at (by omega)]
        refine pk_eq (ve_A G (v % 16)) 15 (fun c2 => nm_r (vl_step (by omega)) (nm_r (nI_1 i) ?_)) (fun c2 => ⟨vp_in_nI (by omega) (by omega), nm_r (e' := lN (ve_S G (v % 16) + 16 * ve_A G (v % 16))) ?_ (nm_r (nI_1 i) ?_)⟩)
        · rw [if_pos c2] at go; exact go
        · rw [v_16', vl_i (by omega)]
        · rw [if_neg c2] at go; exact go
theorem vx_seenAs (h : ve_WG n G) {a v : Nat} (ha : a < 16) (hv : v < 4611686018427387904) (hp : post (lN (ve_sn G v a))) : wpX_seenAs post (f_x, f_mainBody, f_classLimit, f_methodLimit, (nI n), (nI nm), f_checkState, f_errorPlace, f_typeTop, f_objCount, f_valueTop, f_depth, f_entered, f_result, f_keepTypes, (ve_i (ve_V G)), (ve_i (ve_B G)), (ve_i (ve_S G)), (ve_i (ve_A G)), a_fieldType, a_declared, (ve_i (ve_O M)), (ve_i (ve_P M)), (ve_i (ve_R M)), (ve_i (ve_L C)), (ve_i (ve_K C)), (ve_i (ve_Q C)), a_types, a_castAt, a_objClass, a_objField, a_values, a_objType, a_frameBody, a_framePc, a_frameThis, a_frameArg, a_traced) (lN v) (nI a) :=
  ⟨12 + 1, vx_seenAs_l h ha 12 0 v rfl hv hp⟩
theorem vx_selfType (h : ve_WG n G) {c : Nat} (hc : c < 16) (hp : post (lN (ve_sf G c))) : wpX_selfType post (f_x, f_mainBody, f_classLimit, f_methodLimit, (nI n), (nI nm), f_checkState, f_errorPlace, f_typeTop, f_objCount, f_valueTop, f_depth, f_entered, f_result, f_keepTypes, (ve_i (ve_V G)), (ve_i (ve_B G)), (ve_i (ve_S G)), (ve_i (ve_A G)), a_fieldType, a_declared, (ve_i (ve_O M)), (ve_i (ve_P M)), (ve_i (ve_R M)), (ve_i (ve_L C)), (ve_i (ve_K C)), (ve_i (ve_Q C)), a_types, a_castAt, a_objClass, a_objField, a_values, a_objType, a_frameBody, a_framePc, a_frameThis, a_frameArg, a_traced) (nI c) := by
  have v3 := ve_V3 h c
  unfold wpX_selfType
  dsimp only
  rw [ve_at (by omega), v_240, vl_i (by omega), vl_i (by omega)]
  unfold ve_sf at hp
  refine ⟨vp_in_nI hc (by omega), pk_eq (ve_V G c) 0 (fun z => ?_) (fun z => ?_)⟩
  · rw [if_pos z] at hp; exact hp
  · rw [if_neg z] at hp; exact hp
theorem vx_exposed (h : ve_WG n G) {o v : Nat} (ho : o < 16) (hv : v < 4611686018427387904) (hp : post (lN (ve_ex G o v))) : wpX_exposed post (f_x, f_mainBody, f_classLimit, f_methodLimit, (nI n), (nI nm), f_checkState, f_errorPlace, f_typeTop, f_objCount, f_valueTop, f_depth, f_entered, f_result, f_keepTypes, (ve_i (ve_V G)), (ve_i (ve_B G)), (ve_i (ve_S G)), (ve_i (ve_A G)), a_fieldType, a_declared, (ve_i (ve_O M)), (ve_i (ve_P M)), (ve_i (ve_R M)), (ve_i (ve_L C)), (ve_i (ve_K C)), (ve_i (ve_Q C)), a_types, a_castAt, a_objClass, a_objField, a_values, a_objType, a_frameBody, a_framePc, a_frameThis, a_frameArg, a_traced) (lN v) (nI o) := by
  have hB := ve_Blt h o
  have n12 := ve_n12 h
  unfold wpX_exposed
  dsimp only
  rw [ve_at (by omega), vl_i (by omega)]
  unfold ve_ex at hp
  refine vl_eq v 15 (fun z => ⟨vp_in_nI ho (by omega), ?_⟩) (fun z => ?_)
  · rw [if_pos z] at hp; exact hp
  · rw [if_neg z] at hp; exact hp
end
end
section
/-! X: subtypes, bounds, variance -/
def ve_kb (G : ve_T) (o : Nat) : Nat → Nat → Bool
  | 0, _ => true
  | f + 1, t => if ve_V G (t % 16) = 0 then true else if ve_su G o 32 (t / 16) (ve_B G (t % 16)) = true then ve_kb G o f (t / 16) else false
section
variable {n nm : Nat} {G : ve_T} {M : ve_M} {C : ve_C} {f_x f_mainBody f_classLimit f_methodLimit f_checkState f_errorPlace f_typeTop f_objCount f_valueTop f_depth f_entered f_result f_keepTypes : Int32} {a_fieldType a_declared a_castAt a_objClass a_objField a_values a_frameBody a_framePc a_frameThis a_frameArg a_traced : Nat → Int32} {a_types a_objType : Nat → Int64} {post : Int32 → Prop}
theorem vx_sub49 (h : ve_WG n G) {o k1 k2 s t i : Nat} {J : Int64 → Int64 → Int32 → Prop} (w1 : ve_wt n G o k1 s) (w2 : ve_wt n G o k2 t) (h1 : k1 ≤ 12) (h2 : k2 ≤ 12) (hs : s ≠ 15) (ht : t ≠ 15) (R : Nat → Nat → Bool)
    (hJ : ∀ k1 k2 s t, ve_wt n G o k1 s → ve_wt n G o k2 t → k1 ≤ 12 → k2 ≤ 12 → post (ve_b (R s t)) → J (lN s) (lN t) (nI (i + 1))) (hp : post (ve_b (ve_sv G R s t))) :
    wX_isSubtype_49 post J (lN s) (lN t) (nI o) (nI i) f_x f_mainBody f_classLimit f_methodLimit (nI n) (nI nm) f_checkState f_errorPlace f_typeTop f_objCount f_valueTop f_depth f_entered f_result f_keepTypes (ve_i (ve_V G)) (ve_i (ve_B G)) (ve_i (ve_S G)) (ve_i (ve_A G)) a_fieldType a_declared (ve_i (ve_O M)) (ve_i (ve_P M)) (ve_i (ve_R M)) (ve_i (ve_L C)) (ve_i (ve_K C)) (ve_i (ve_Q C)) a_types a_castAt a_objClass a_objField a_values a_objType a_frameBody a_framePc a_frameThis a_frameArg a_traced := by
  have b1 := ve_wt_48 w1 h1
  have b2 := ve_wt_48 w2 h2
  have v3 := ve_V3 h (t % 16)
  have hd := ve_wt_hd h w2 ht
  have n12 := ve_n12 h
  unfold wX_isSubtype_49
  unfold ve_sv at hp
  refine nm_r (vl_hd (by omega)) ?_
  rw [vl_hd (by omega)]
  refine vx_below h (by omega) (by omega) (vb_c (fun z => ?_) (fun z => ⟨vp_in_nI (by omega) (by omega), ?_⟩))
  · rw [if_neg (by rw [z]; decide)] at hp; exact hp
  · rw [if_pos z] at hp
    have x := (ve_bl_iff h).mp z
    rw [ve_at (by omega)]
    refine pk_eq (ve_V G (t % 16)) 0 (fun c0 => ?_) (fun c0 => ?_)
    · rw [if_pos c0] at hp; exact hp
    · rw [if_neg c0] at hp
      obtain ⟨k3, a3, _, w3⟩ := ve_ar_wt h x w1 hs
      have nd := ve_wt_node w2 c0
      have b3 := ve_wt_48 w3 (by omega)
      have hb := ve_sn_b h (a := t % 16) (z := 281474976710656) (by omega) b1
      refine vx_seenAs h (by omega) (by omega) (nm_r (vl_sh (by omega)) (nm_r (vl_sh (by omega)) ⟨vp_in_nI (by omega) (by omega), ?_⟩))
      refine pk_eq (ve_V G (t % 16)) 3 (fun c3 => ?_) (fun c3 => ⟨vp_in_nI (by omega) (by omega), ?_⟩)
      · rw [if_pos c3] at hp
        refine vl_eq (ve_ar G s (t % 16)) (t / 16) (fun e => ?_) (fun e => ?_)
        · rw [decide_eq_true e] at hp; exact hp
        · rw [decide_eq_false e] at hp; exact hp
      · rw [if_neg c3] at hp
        refine pk_eq (ve_V G (t % 16)) 1 (fun c1 => ?_) (fun c1 => ?_)
        · rw [if_pos c1] at hp
          unfold wX_isSubtype_145
          refine ⟨vp_in_nI (by omega) (by omega), ?_⟩
          rw [ve_at (by omega)]
          exact pk_eq (ve_V G (t % 16)) 1 (fun _ => nm_r (nI_1 i) (hJ _ _ _ _ w3 nd.2 (by omega) (by omega) hp)) (fun e => absurd c1 e)
        · rw [if_neg c1] at hp
          unfold wX_isSubtype_145
          refine ⟨vp_in_nI (by omega) (by omega), ?_⟩
          rw [ve_at (by omega)]
          exact pk_eq (ve_V G (t % 16)) 1 (fun e => absurd e c1) (fun _ => nm_r (nI_1 i) (hJ _ _ _ _ nd.2 w3 (by omega) (by omega) hp))
theorem vx_sub_l (h : ve_WG n G) {o : Nat} (ho : o < 16) : ∀ f i k1 k2 s t, i + f = 32 → ve_wt n G o k1 s → ve_wt n G o k2 t → k1 ≤ 12 → k2 ≤ 12 → post (ve_b (ve_su G o f s t)) →
    wX_isSubtype_3 post (nI o) f_x f_mainBody f_classLimit f_methodLimit (nI n) (nI nm) f_checkState f_errorPlace f_typeTop f_objCount f_valueTop f_depth f_entered f_result f_keepTypes (ve_i (ve_V G)) (ve_i (ve_B G)) (ve_i (ve_S G)) (ve_i (ve_A G)) a_fieldType a_declared (ve_i (ve_O M)) (ve_i (ve_P M)) (ve_i (ve_R M)) (ve_i (ve_L C)) (ve_i (ve_K C)) (ve_i (ve_Q C)) a_types a_castAt a_objClass a_objField a_values a_objType a_frameBody a_framePc a_frameThis a_frameArg a_traced (f + 1) (lN s) (lN t) (nI i)
  | 0, i, k1, k2, s, t, hi, w1, w2, h1, h2, hp => pk_le 32 i (fun _ => hp) (fun z => absurd z (by omega))
  | f + 1, i, k1, k2, s, t, hi, w1, w2, h1, h2, hp => by
    have b1 := ve_wt_48 w1 h1
    have b2 := ve_wt_48 w2 h2
    have hB := ve_Blt h o
    have n12 := ve_n12 h
    unfold ve_su at hp
    refine pk_le 32 i (fun z => absurd z (by omega)) (fun _ => vl_eq t 15 (fun c => ?_) (fun c => ?_))
    · rw [if_pos c] at hp
      refine vl_eq s 15 (fun e => ?_) (fun e => ?_)
      · rw [decide_eq_true e] at hp; exact hp
      · rw [decide_eq_false e] at hp; exact hp
    · rw [if_neg c] at hp
      refine vl_eq s 15 (fun e => ⟨vp_in_nI ho (by omega), nm_r (e' := lN (ve_B G o)) (by rw [ve_at (by omega), vl_i (by omega)]) ?_⟩) (fun e => ?_)
      · rw [if_pos e] at hp
        exact vx_sub49 h (ve_wt_c h hB (ve_VB h o)) w2 (by omega) h2 (by omega) c (ve_su G o f) (fun k1 k2 s t w1 w2 h1 h2 hp => vx_sub_l h ho f (i + 1) k1 k2 s t (by omega) w1 w2 h1 h2 hp) hp
      · rw [if_neg e] at hp
        exact vx_sub49 h w1 w2 h1 h2 e c (ve_su G o f) (fun k1 k2 s t w1 w2 h1 h2 hp => vx_sub_l h ho f (i + 1) k1 k2 s t (by omega) w1 w2 h1 h2 hp) hp
theorem vx_sub (h : ve_WG n G) {o k1 k2 s t : Nat} (ho : o < 16) (w1 : ve_wt n G o k1 s) (w2 : ve_wt n G o k2 t) (h1 : k1 ≤ 12) (h2 : k2 ≤ 12) (hp : post (ve_b (ve_su G o 32 s t))) :
    wpX_isSubtype post (f_x, f_mainBody, f_classLimit, f_methodLimit, (nI n), (nI nm), f_checkState, f_errorPlace, f_typeTop, f_objCount, f_valueTop, f_depth, f_entered, f_result, f_keepTypes, (ve_i (ve_V G)), (ve_i (ve_B G)), (ve_i (ve_S G)), (ve_i (ve_A G)), a_fieldType, a_declared, (ve_i (ve_O M)), (ve_i (ve_P M)), (ve_i (ve_R M)), (ve_i (ve_L C)), (ve_i (ve_K C)), (ve_i (ve_Q C)), a_types, a_castAt, a_objClass, a_objField, a_values, a_objType, a_frameBody, a_framePc, a_frameThis, a_frameArg, a_traced) (lN s) (lN t) (nI o) := ⟨32 + 1, vx_sub_l h ho 32 0 k1 k2 s t rfl w1 w2 h1 h2 hp⟩
theorem vx_kb_l (h : ve_WG n G) {o : Nat} (ho : o < 16) : ∀ f i k t, i + f = 12 → ve_wt n G o k t → k ≤ 12 → post (ve_b (ve_kb G o f t)) → wX_keepsBounds_3 post (nI o) f_x f_mainBody f_classLimit f_methodLimit (nI n) (nI nm) f_checkState f_errorPlace f_typeTop f_objCount f_valueTop f_depth f_entered f_result f_keepTypes (ve_i (ve_V G)) (ve_i (ve_B G)) (ve_i (ve_S G)) (ve_i (ve_A G)) a_fieldType a_declared (ve_i (ve_O M)) (ve_i (ve_P M)) (ve_i (ve_R M)) (ve_i (ve_L C)) (ve_i (ve_K C)) (ve_i (ve_Q C)) a_types a_castAt a_objClass a_objField a_values a_objType a_frameBody a_framePc a_frameThis a_frameArg a_traced (f + 1) (lN t) (nI i)
  | 0, i, k, t, hi, w, hk, hp => pk_le 12 i (fun _ => hp) (fun z => absurd z (by omega))
  | f + 1, i, k, t, hi, w, hk, hp => by
    have b := ve_wt_48 w hk
    have hB := ve_Blt h (t % 16)
    have n12 := ve_n12 h
    unfold ve_kb at hp
    refine pk_le 12 i (fun z => absurd z (by omega)) (fun _ => vx_isLast h (by omega) (vb_c (fun z => ?_) (fun z => ?_)))
    · have z := of_decide_eq_false z
      rw [if_neg z] at hp
      have nd := ve_wt_node w z
      refine nm_r (vl_hd (by omega)) (nm_r (vl_sh (by omega)) ⟨vp_in_nI (by omega) (by omega), ?_⟩)
      rw [ve_at (by omega), vl_i (by omega)]
      refine vx_sub h ho nd.2 (ve_wt_c h hB (ve_VB h _)) (by omega) (by omega) (vb_c (fun y => ?_) (fun y => nm_r (nI_1 i) ?_))
      · rw [if_neg (by rw [y]; decide)] at hp; exact hp
      · rw [if_pos y] at hp
        exact vx_kb_l h ho f (i + 1) _ _ (by omega) nd.2 (by omega) hp
    · rw [if_pos (of_decide_eq_true z)] at hp; exact hp
theorem vx_kb (h : ve_WG n G) {o k t : Nat} (ho : o < 16) (w : ve_wt n G o k t) (hk : k ≤ 12) (hp : post (ve_b (ve_kb G o 12 t))) : wpX_keepsBounds post (f_x, f_mainBody, f_classLimit, f_methodLimit, (nI n), (nI nm), f_checkState, f_errorPlace, f_typeTop, f_objCount, f_valueTop, f_depth, f_entered, f_result, f_keepTypes, (ve_i (ve_V G)), (ve_i (ve_B G)), (ve_i (ve_S G)), (ve_i (ve_A G)), a_fieldType, a_declared, (ve_i (ve_O M)), (ve_i (ve_P M)), (ve_i (ve_R M)), (ve_i (ve_L C)), (ve_i (ve_K C)), (ve_i (ve_Q C)), a_types, a_castAt, a_objClass, a_objField, a_values, a_objType, a_frameBody, a_framePc, a_frameThis, a_frameArg, a_traced) (lN t) (nI o) :=
  ⟨12 + 1, vx_kb_l h ho 12 0 k t rfl w hk hp⟩
theorem vx_kv_e (h : ve_WG n G) {o t : Nat} {sg : Int32} (ho : o < 16) (ht : t < 9223372036854775808) (hp : post (ve_b (ve_ke G o sg t))) : wX_keepsVariance_65 post (lN t) sg (nI o) f_x f_mainBody f_classLimit f_methodLimit (nI n) (nI nm) f_checkState f_errorPlace f_typeTop f_objCount f_valueTop f_depth f_entered f_result f_keepTypes (ve_i (ve_V G)) (ve_i (ve_B G)) (ve_i (ve_S G)) (ve_i (ve_A G)) a_fieldType a_declared (ve_i (ve_O M)) (ve_i (ve_P M)) (ve_i (ve_R M)) (ve_i (ve_L C)) (ve_i (ve_K C)) (ve_i (ve_Q C)) a_types a_castAt a_objClass a_objField a_values a_objType a_frameBody a_framePc a_frameThis a_frameArg a_traced := by
  have v3 := ve_V3 h o
  unfold wX_keepsVariance_65 wX_keepsVariance_101
  rw [ve_at (by omega)]
  unfold ve_ke at hp
  refine vl_eq t 15 (fun c => ⟨vp_in_nI ho (by omega), pk_eq (ve_V G o) 3 (fun c3 => ?_) (fun c3 => ⟨vp_in_nI ho (by omega), pk_eq (ve_V G o) 1 (fun c1 => br_c (fun e => ?_) (fun e => ?_)) (fun c1 => br_c (fun e => ?_) (fun e => ?_))⟩)⟩) (fun c => ?_)
  · rw [decide_eq_true (Or.inr (Or.inl c3))] at hp; exact hp
  · rw [decide_eq_true (Or.inr (Or.inr (by rw [if_pos c1]; exact e)))] at hp; exact hp
  · rw [decide_eq_false (by rw [if_pos c1]; rintro (z | z | z); exact z c; exact c3 z; exact e z)] at hp; exact hp
  · rw [decide_eq_true (Or.inr (Or.inr (by rw [if_neg c1]; exact e)))] at hp; exact hp
  · rw [decide_eq_false (by rw [if_neg c1]; rintro (z | z | z); exact z c; exact c3 z; exact e z)] at hp; exact hp
  · rw [decide_eq_true (Or.inl c)] at hp; exact hp
theorem vx_kv_l (h : ve_WG n G) {o : Nat} (ho : o < 16) : ∀ f i sg t, i + f = 12 → t < 9223372036854775808 → post (ve_b (ve_kv G o f sg t)) → wX_keepsVariance_3 post (nI o) f_x f_mainBody f_classLimit f_methodLimit (nI n) (nI nm) f_checkState f_errorPlace f_typeTop f_objCount f_valueTop f_depth f_entered f_result f_keepTypes (ve_i (ve_V G)) (ve_i (ve_B G)) (ve_i (ve_S G)) (ve_i (ve_A G)) a_fieldType a_declared (ve_i (ve_O M)) (ve_i (ve_P M)) (ve_i (ve_R M)) (ve_i (ve_L C)) (ve_i (ve_K C)) (ve_i (ve_Q C)) a_types a_castAt a_objClass a_objField a_values a_objType a_frameBody a_framePc a_frameThis a_frameArg a_traced (f + 1) (lN t) sg (nI i)
  | 0, i, sg, t, hi, ht, hp => pk_le 12 i (fun _ => vx_kv_e h ho ht hp) (fun z => absurd z (by omega))
  | f + 1, i, sg, t, hi, ht, hp => by
    have v3 := ve_V3 h (t % 16)
    unfold ve_kv at hp
    refine pk_le 12 i (fun z => absurd z (by omega)) (fun _ => vx_isLast h (by omega) (vb_c (fun z => ?_) (fun z => ?_)))
    · have z := of_decide_eq_false z
      rw [if_neg z] at hp
      rw [vl_hd (by omega)]
      have go : ∀ y : Int32, y = ve_sg (ve_V G (t % 16)) → wX_keepsVariance_53 post (wX_keepsVariance_3 post (nI o) f_x f_mainBody f_classLimit f_methodLimit (nI n) (nI nm) f_checkState f_errorPlace f_typeTop f_objCount f_valueTop f_depth f_entered f_result f_keepTypes (ve_i (ve_V G)) (ve_i (ve_B G)) (ve_i (ve_S G)) (ve_i (ve_A G)) a_fieldType a_declared (ve_i (ve_O M)) (ve_i (ve_P M)) (ve_i (ve_R M)) (ve_i (ve_L C)) (ve_i (ve_K C)) (ve_i (ve_Q C)) a_types a_castAt a_objClass a_objField a_values a_objType a_frameBody a_framePc a_frameThis a_frameArg a_traced (f + 1)) (lN t) (nI o) (nI i) y sg f_x f_mainBody f_classLimit f_methodLimit (nI n) (nI nm) f_checkState f_errorPlace f_typeTop f_objCount f_valueTop f_depth f_entered f_result f_keepTypes (ve_i (ve_V G)) (ve_i (ve_B G)) (ve_i (ve_S G)) (ve_i (ve_A G)) a_fieldType a_declared (ve_i (ve_O M)) (ve_i (ve_P M)) (ve_i (ve_R M)) (ve_i (ve_L C)) (ve_i (ve_K C)) (ve_i (ve_Q C)) a_types a_castAt a_objClass a_objField a_values a_objType a_frameBody a_framePc a_frameThis a_frameArg a_traced := by
        rintro y rfl
        unfold wX_keepsVariance_53
        exact nm_e (nm_r (vl_sh (by omega)) (nm_r (nI_1 i) (vx_kv_l h ho f (i + 1) _ _ (by omega) (by omega) hp)))
      refine ⟨vp_in_nI (by omega) (by omega), nm_r (ve_at (by omega)) (pk_eq (ve_V G (t % 16)) 1 (fun c => go _ ?_) (fun c => pk_eq (ve_V G (t % 16)) 2 (fun c2 => go _ ?_) (fun c2 => go _ ?_)))⟩
      · rw [c]; rfl
      · rw [c2]; rfl
      · have : ve_V G (t % 16) = 3 := by omega
        rw [this]; rfl
    · rw [if_pos (of_decide_eq_true z)] at hp
      exact vx_kv_e h ho ht hp
theorem vx_kv (h : ve_WG n G) {o t : Nat} {sg : Int32} (ho : o < 16) (ht : t < 9223372036854775808) (hp : post (ve_b (ve_kv G o 12 sg t))) : wpX_keepsVariance post (f_x, f_mainBody, f_classLimit, f_methodLimit, (nI n), (nI nm), f_checkState, f_errorPlace, f_typeTop, f_objCount, f_valueTop, f_depth, f_entered, f_result, f_keepTypes, (ve_i (ve_V G)), (ve_i (ve_B G)), (ve_i (ve_S G)), (ve_i (ve_A G)), a_fieldType, a_declared, (ve_i (ve_O M)), (ve_i (ve_P M)), (ve_i (ve_R M)), (ve_i (ve_L C)), (ve_i (ve_K C)), (ve_i (ve_Q C)), a_types, a_castAt, a_objClass, a_objField, a_values, a_objType, a_frameBody, a_framePc, a_frameThis, a_frameArg, a_traced) (lN t) sg (nI o) :=
  ⟨12 + 1, vx_kv_l h ho 12 0 sg t rfl ht hp⟩
/-! members -/
theorem vx_mo_l (h : ve_WG n G) {k : Nat} (hk : k < 4) (hD : ∀ j, j < 64 → a_declared j = ve_d (ve_D M j)) (hB : ∀ j, ve_D M j ≤ 2147483648) : ∀ f i c, i + f = 12 → c < 16 → post (ve_d (ve_fu G (ve_gD M k) f c)) →
    wX_methodOf_2 post (nI k) f_x f_mainBody f_classLimit f_methodLimit (nI n) (nI nm) f_checkState f_errorPlace f_typeTop f_objCount f_valueTop f_depth f_entered f_result f_keepTypes (ve_i (ve_V G)) (ve_i (ve_B G)) (ve_i (ve_S G)) (ve_i (ve_A G)) a_fieldType a_declared (ve_i (ve_O M)) (ve_i (ve_P M)) (ve_i (ve_R M)) (ve_i (ve_L C)) (ve_i (ve_K C)) (ve_i (ve_Q C)) a_types a_castAt a_objClass a_objField a_values a_objType a_frameBody a_framePc a_frameThis a_frameArg a_traced (f + 1) (nI c) (nI i)
  | 0, i, c, hi, hc, hp => by
    refine pk_le 12 i (fun _ => ?_) (fun z => absurd z (by omega))
    unfold wX_methodOf_34
    rw [v_4, nI_clamp (by omega), hD _ (by omega)]
    exact ⟨vp_in_nI (by omega) (by omega), hp⟩
  | f + 1, i, c, hi, hc, hp => by
    have hs := ve_Sle h c
    refine pk_le 12 i (fun z => absurd z (by omega)) (fun _ => ?_)
    unfold wX_methodOf_34
    rw [v_4, nI_clamp (by omega), hD _ (by omega)]
    unfold ve_fu at hp
    refine ⟨vp_in_nI (by omega) (by omega), vd_ge (hB _) (fun m e => ⟨vp_in_nI (by omega) (by omega), ?_⟩) (fun e => ⟨vp_in_nI hc (by omega), nm_r (ve_at (by omega)) (nm_r (nI_1 i) ?_)⟩)⟩
    · rw [if_neg (by unfold ve_gD; omega)] at hp; exact hp
    · rw [if_pos (by unfold ve_gD; exact e)] at hp
      exact vx_mo_l h hk hD hB f (i + 1) _ (by omega) (by omega) hp
theorem vx_mo (h : ve_WG n G) {k c : Nat} (hk : k < 4) (hD : ∀ j, j < 64 → a_declared j = ve_d (ve_D M j)) (hB : ∀ j, ve_D M j ≤ 2147483648) (hc : c < 16) (hp : post (ve_d (ve_mt G M c k))) :
    wpX_methodOf post (f_x, f_mainBody, f_classLimit, f_methodLimit, (nI n), (nI nm), f_checkState, f_errorPlace, f_typeTop, f_objCount, f_valueTop, f_depth, f_entered, f_result, f_keepTypes, (ve_i (ve_V G)), (ve_i (ve_B G)), (ve_i (ve_S G)), (ve_i (ve_A G)), a_fieldType, a_declared, (ve_i (ve_O M)), (ve_i (ve_P M)), (ve_i (ve_R M)), (ve_i (ve_L C)), (ve_i (ve_K C)), (ve_i (ve_Q C)), a_types, a_castAt, a_objClass, a_objField, a_values, a_objType, a_frameBody, a_framePc, a_frameThis, a_frameArg, a_traced) (nI c) (nI k) := ⟨12 + 1, vx_mo_l h hk hD hB 12 0 c rfl hc hp⟩
theorem vx_fo_e (hE : ∀ c, c < 16 → a_fieldType c = ve_d (ve_E M c)) (hB : ∀ j, ve_E M j ≤ 2147483648) {c : Nat} (hc : c < 16) (hp : post (ve_d (ve_gE M c))) : wX_fieldOwner_30 post (nI c) f_x f_mainBody f_classLimit f_methodLimit (nI n) (nI nm) f_checkState f_errorPlace f_typeTop f_objCount f_valueTop f_depth f_entered f_result f_keepTypes (ve_i (ve_V G)) (ve_i (ve_B G)) (ve_i (ve_S G)) (ve_i (ve_A G)) a_fieldType a_declared (ve_i (ve_O M)) (ve_i (ve_P M)) (ve_i (ve_R M)) (ve_i (ve_L C)) (ve_i (ve_K C)) (ve_i (ve_Q C)) a_types a_castAt a_objClass a_objField a_values a_objType a_frameBody a_framePc a_frameThis a_frameArg a_traced := by
  unfold wX_fieldOwner_30
  rw [nI_clamp (by omega), hE c hc]
  unfold ve_gE at hp
  refine ⟨vp_in_nI hc (by omega), vd_ge (hB c) (fun m e => ?_) (fun e => ?_)⟩
  · rw [if_neg (by omega)] at hp; exact hp
  · rw [if_pos e] at hp; exact hp
theorem vx_fo_l (h : ve_WG n G) (hE : ∀ c, c < 16 → a_fieldType c = ve_d (ve_E M c)) (hB : ∀ j, ve_E M j ≤ 2147483648) : ∀ f i c, i + f = 12 → c < 16 → post (ve_d (ve_fu G (ve_gE M) f c)) →
    wX_fieldOwner_2 post f_x f_mainBody f_classLimit f_methodLimit (nI n) (nI nm) f_checkState f_errorPlace f_typeTop f_objCount f_valueTop f_depth f_entered f_result f_keepTypes (ve_i (ve_V G)) (ve_i (ve_B G)) (ve_i (ve_S G)) (ve_i (ve_A G)) a_fieldType a_declared (ve_i (ve_O M)) (ve_i (ve_P M)) (ve_i (ve_R M)) (ve_i (ve_L C)) (ve_i (ve_K C)) (ve_i (ve_Q C)) a_types a_castAt a_objClass a_objField a_values a_objType a_frameBody a_framePc a_frameThis a_frameArg a_traced (f + 1) (nI c) (nI i)
  | 0, i, c, hi, hc, hp => pk_le 12 i (fun _ => vx_fo_e hE hB hc hp) (fun z => absurd z (by omega))
  | f + 1, i, c, hi, hc, hp => by
    have hs := ve_Sle h c
    refine pk_le 12 i (fun z => absurd z (by omega)) (fun _ => ⟨vp_in_nI hc (by omega), ?_⟩)
    rw [nI_clamp (by omega), hE c hc]
    unfold ve_fu at hp
    refine vd_ge (hB c) (fun m e => vx_fo_e hE hB hc ?_) (fun e => ⟨vp_in_nI hc (by omega), nm_r (e' := nI (ve_S G c)) rfl (nm_r (nI_1 i) ?_)⟩)
    · rw [if_neg (by unfold ve_gE; rw [if_neg (by omega)]; omega)] at hp; exact hp
    · rw [if_pos (by unfold ve_gE; rw [if_pos e])] at hp
      exact vx_fo_l h hE hB f (i + 1) _ (by omega) (by omega) hp
theorem vx_fo (h : ve_WG n G) (hE : ∀ c, c < 16 → a_fieldType c = ve_d (ve_E M c)) (hB : ∀ j, ve_E M j ≤ 2147483648) {c : Nat} (hc : c < 16) (hp : post (ve_d (ve_fc G M c))) : wpX_fieldOwner post (f_x, f_mainBody, f_classLimit, f_methodLimit, (nI n), (nI nm), f_checkState, f_errorPlace, f_typeTop, f_objCount, f_valueTop, f_depth, f_entered, f_result, f_keepTypes, (ve_i (ve_V G)), (ve_i (ve_B G)), (ve_i (ve_S G)), (ve_i (ve_A G)), a_fieldType, a_declared, (ve_i (ve_O M)), (ve_i (ve_P M)), (ve_i (ve_R M)), (ve_i (ve_L C)), (ve_i (ve_K C)), (ve_i (ve_Q C)), a_types, a_castAt, a_objClass, a_objField, a_values, a_objType, a_frameBody, a_framePc, a_frameThis, a_frameArg, a_traced) (nI c) :=
  ⟨12 + 1, vx_fo_l h hE hB 12 0 c rfl hc hp⟩
/-- erasure -/
def ve_er (G : ve_T) (t o : Nat) : Nat := if t = 15 then ve_B G o else t % 16
theorem vx_er (h : ve_WG n G) {t o : Nat} (ho : o < 16) (ht : t < 9223372036854775808) (hp : post (nI (ve_er G t o))) : wpX_erasure post (f_x, f_mainBody, f_classLimit, f_methodLimit, (nI n), (nI nm), f_checkState, f_errorPlace, f_typeTop, f_objCount, f_valueTop, f_depth, f_entered, f_result, f_keepTypes, (ve_i (ve_V G)), (ve_i (ve_B G)), (ve_i (ve_S G)), (ve_i (ve_A G)), a_fieldType, a_declared, (ve_i (ve_O M)), (ve_i (ve_P M)), (ve_i (ve_R M)), (ve_i (ve_L C)), (ve_i (ve_K C)), (ve_i (ve_Q C)), a_types, a_castAt, a_objClass, a_objField, a_values, a_objType, a_frameBody, a_framePc, a_frameThis, a_frameArg, a_traced) (lN t) (nI o) := by
  unfold wpX_erasure
  dsimp only
  rw [ve_at (by omega), vl_hd ht]
  unfold ve_er at hp
  refine vl_eq t 15 (fun c => ⟨vp_in_nI ho (by omega), ?_⟩) (fun c => ?_)
  · rw [if_pos c] at hp; exact hp
  · rw [if_neg c] at hp; exact hp
end
section
variable {n nm : Nat} {G : ve_T} {M : ve_M} {C : ve_C} {f_x f_mainBody f_classLimit f_methodLimit f_checkState f_errorPlace f_typeTop f_objCount f_valueTop f_depth f_entered f_result f_keepTypes : Int32} {a_fieldType a_declared a_castAt a_objClass a_objField a_values a_frameBody a_framePc a_frameThis a_frameArg a_traced : Nat → Int32} {a_types a_objType : Nat → Int64} {post : Int64 → Prop}
theorem vx_th_e (h : ve_WG n G) {a j lo r v p : Nat} (ha : a < 16) (hj : j ≤ 3) (hr : r < 16) (hlo : lo < 16 ^ j) (hv : v < 281474976710656) (ep : p = ve_ar G v a)
    (hp : post (lN (lo + 16 ^ j * (if r = 15 then p else r)))) : wX_seenThrough_33 post (lN (lo + 16 ^ j * r)) (nI a) (lN v) (nI (4 * j)) f_x f_mainBody f_classLimit f_methodLimit (nI n) (nI nm) f_checkState f_errorPlace f_typeTop f_objCount f_valueTop f_depth f_entered f_result f_keepTypes (ve_i (ve_V G)) (ve_i (ve_B G)) (ve_i (ve_S G)) (ve_i (ve_A G)) a_fieldType a_declared (ve_i (ve_O M)) (ve_i (ve_P M)) (ve_i (ve_R M)) (ve_i (ve_L C)) (ve_i (ve_K C)) (ve_i (ve_Q C)) a_types a_castAt a_objClass a_objField a_values a_objType a_frameBody a_framePc a_frameThis a_frameArg a_traced := by
  have pw : 16 ^ j ≤ 16 ^ 3 := Nat.pow_le_pow_right (by omega) hj
  have p3 : 16 ^ 3 = 4096 := by decide
  have p1 : 0 < 16 ^ j := Nat.pow_pos (by omega)
  have ub : lo + 16 ^ j * r < 9223372036854775808 := by
    have : 16 ^ j * r ≤ 4096 * 15 := Nat.mul_le_mul (by omega) (by omega)
    omega
  have dv : (lo + 16 ^ j * r) / 16 ^ j = r := by
    rw [Nat.add_mul_div_left _ _ p1, Nat.div_eq_of_lt hlo]; omega
  have hb := ve_sn_b h (a := a) (z := 281474976710656) (by omega) hv
  unfold wX_seenThrough_33
  rw [vl_shk ub (by omega), dv]
  refine vl_eq r 15 (fun c => vx_seenAs h ha (by omega) ?_) (fun c => ?_)
  · rw [if_pos c] at hp
    subst c
    have e15 : (15 : Int64) = lN 15 := rfl
    rw [vl_sh (by omega), e15, vl_slk (by omega), vl_slk (by omega), lN_sub (by rw [Nat.mul_comm]; omega), lN_add]
    have e : lo + 16 ^ j * 15 - 15 * 16 ^ j + ve_sn G v a / 16 * 16 ^ j = lo + 16 ^ j * p := by
      rw [ep]; unfold ve_ar
      rw [Nat.mul_comm 15, Nat.mul_comm _ (16 ^ j), Nat.add_sub_cancel]
    rw [e]; exact hp
  · rw [if_neg c] at hp; exact hp
theorem vx_th_l (h : ve_WG n G) {a v p : Nat} (ha : a < 16) (hv : v < 281474976710656) (ep : p = ve_ar G v a) : ∀ k j lo r f, ve_wt n G a k r → j + k ≤ 3 → k ≤ f → lo < 16 ^ j → post (lN (lo + 16 ^ j * ve_ss G r p)) →
    wX_seenThrough_6 post (lN (lo + 16 ^ j * r)) (nI a) (lN v) f_x f_mainBody f_classLimit f_methodLimit (nI n) (nI nm) f_checkState f_errorPlace f_typeTop f_objCount f_valueTop f_depth f_entered f_result f_keepTypes (ve_i (ve_V G)) (ve_i (ve_B G)) (ve_i (ve_S G)) (ve_i (ve_A G)) a_fieldType a_declared (ve_i (ve_O M)) (ve_i (ve_P M)) (ve_i (ve_R M)) (ve_i (ve_L C)) (ve_i (ve_K C)) (ve_i (ve_Q C)) a_types a_castAt a_objClass a_objField a_values a_objType a_frameBody a_framePc a_frameThis a_frameArg a_traced (f + 1) (nI (4 * j)) (nI j)
  | 0, _, _, _, _, w, _, _, _, _ => absurd w (fun z => z)
  | k + 1, j, lo, r, f, w, hk, hf, hlo, hp => by
    have n12 := ve_n12 h
    have pw : 16 ^ j ≤ 16 ^ 3 := Nat.pow_le_pow_right (by omega) (by omega)
    have p3 : 16 ^ 3 = 4096 := by decide
    have p1 : 0 < 16 ^ j := Nat.pow_pos (by omega)
    have rb : r < 4096 := by
      have := ve_wt_lt w
      have : 16 ^ (k + 1) ≤ 16 ^ 3 := Nat.pow_le_pow_right (by omega) (by omega)
      omega
    have ub : lo + 16 ^ j * r < 9223372036854775808 := by
      have : 16 ^ j * r ≤ 4096 * 4096 := Nat.mul_le_mul (by omega) (by omega)
      omega
    have dv : (lo + 16 ^ j * r) / 16 ^ j = r := by
      rw [Nat.add_mul_div_left _ _ p1, Nat.div_eq_of_lt hlo]; omega
    obtain ⟨g, rfl⟩ : ∃ g, f = g + 1 := ⟨f - 1, by omega⟩
    refine pk_le 12 j (fun z => absurd z (by omega)) (fun _ => ?_)
    rw [vl_shk ub (by omega), dv]
    refine vx_isLast h (by omega) (vb_c (fun z => ?_) (fun z => ?_))
    · have z := of_decide_eq_false z
      have nd := ve_wt_node w z
      have nd2 : ve_wt n G a k (r / 16) := by have := nd.2; simpa using this
      rw [ve_ss_n p h w (by omega) z] at hp
      have e1 : lo + 16 ^ j * r = (lo + 16 ^ j * (r % 16)) + 16 ^ (j + 1) * (r / 16) := by
        rw [Nat.pow_succ, Nat.mul_assoc, Nat.add_assoc, ← Nat.mul_add]
        congr 2; omega
      have e2 : lo + 16 ^ j * (r % 16 + 16 * ve_ss G (r / 16) p) = (lo + 16 ^ j * (r % 16)) + 16 ^ (j + 1) * ve_ss G (r / 16) p := by
        rw [Nat.pow_succ, Nat.mul_assoc, Nat.add_assoc, ← Nat.mul_add]
      have e3 : lo + 16 ^ j * (r % 16) < 16 ^ (j + 1) := by
        have : 16 ^ j * (r % 16) ≤ 16 ^ j * 15 := Nat.mul_le_mul (Nat.le_refl _) (by omega)
        rw [Nat.pow_succ]; omega
      rw [e2] at hp
      have e4 : nI (4 * j) + 4 = nI (4 * (j + 1)) := by
        have e : (4 : Int32) = nI 4 := rfl
        rw [e, nI_add]; rfl
      refine nm_r e4 (nm_r (nI_1 j) ?_)
      rw [e1]
      exact vx_th_l h ha hv ep k (j + 1) _ (r / 16) g nd2 (by omega) (by omega) e3 hp
    · have z := of_decide_eq_true z
      have l := ve_wt_leaf w z
      refine vx_th_e h ha (by omega) l.2.1 hlo hv ep ?_
      by_cases c : r = 15
      · rw [if_pos c]; rw [c, ve_ss_x] at hp; exact hp
      · rw [if_neg c]; rw [ve_ss_l p c z] at hp; exact hp
theorem vx_th_w (h : ve_WG n G) {a v k w W : Nat} (ha : a < 16) (hv : v < 281474976710656) (ww : ve_wt n G a k w) (hk : k ≤ 3) (hW : W = 0 + 16 ^ 0 * w) (hp : post (lN (0 + 16 ^ 0 * ve_ss G w (ve_ar G v a)))) :
    wX_seenThrough_6 post (lN W) (nI a) (lN v) f_x f_mainBody f_classLimit f_methodLimit (nI n) (nI nm) f_checkState f_errorPlace f_typeTop f_objCount f_valueTop f_depth f_entered f_result f_keepTypes (ve_i (ve_V G)) (ve_i (ve_B G)) (ve_i (ve_S G)) (ve_i (ve_A G)) a_fieldType a_declared (ve_i (ve_O M)) (ve_i (ve_P M)) (ve_i (ve_R M)) (ve_i (ve_L C)) (ve_i (ve_K C)) (ve_i (ve_Q C)) a_types a_castAt a_objClass a_objField a_values a_objType a_frameBody a_framePc a_frameThis a_frameArg a_traced (3 + 1) 0 0 := by
  subst hW
  exact vx_th_l h ha hv rfl k 0 0 w 3 ww (by omega) hk (by decide) hp
theorem vx_th (h : ve_WG n G) {a v k w : Nat} (ha : a < 16) (hv : v < 281474976710656) (ww : ve_wt n G a k w) (hk : k ≤ 3) (hp : post (lN (ve_th G w a v))) : wpX_seenThrough post (f_x, f_mainBody, f_classLimit, f_methodLimit, (nI n), (nI nm), f_checkState, f_errorPlace, f_typeTop, f_objCount, f_valueTop, f_depth, f_entered, f_result, f_keepTypes, (ve_i (ve_V G)), (ve_i (ve_B G)), (ve_i (ve_S G)), (ve_i (ve_A G)), a_fieldType, a_declared, (ve_i (ve_O M)), (ve_i (ve_P M)), (ve_i (ve_R M)), (ve_i (ve_L C)), (ve_i (ve_K C)), (ve_i (ve_Q C)), a_types, a_castAt, a_objClass, a_objField, a_values, a_objType, a_frameBody, a_framePc, a_frameThis, a_frameArg, a_traced) (lN w) (nI a) (lN v) := by
  refine ⟨3 + 1, vx_th_w h ha hv ww hk (by rw [Nat.pow_zero, Nat.one_mul, Nat.zero_add]) ?_⟩
  rw [Nat.pow_zero, Nat.one_mul, Nat.zero_add]; exact hp
end
end
section
/-! Y's helpers -/
section
variable {n nm : Nat} {G : ve_T} {M : ve_M} {C : ve_C} {g_most g_mostMethods g_checked g_errAt g_depth g_entered g_result g_typed : Int32} {b_hasField b_fld b_need b_objType b_objVal b_vals b_frBody b_pc b_frThis b_frArg b_log : Nat → Int32} {b_types : Nat → Int64} {post : Int32 → Prop}
theorem vy_below_e {c d : Nat} (hc : c < 16) (hd : d < 16) (hp : post (ve_b (decide (d = c)))) : wY_below_30 post (nI c) (nI d) g_most g_mostMethods (nI n) (nI nm) g_checked g_errAt g_depth g_entered g_result g_typed (ve_i (ve_V G)) (ve_i (ve_B G)) (ve_i (ve_S G)) (ve_i (ve_A G)) b_hasField b_fld (ve_i (ve_O M)) (ve_i (ve_N M)) (ve_i (ve_P M)) (ve_i (ve_R M)) (ve_i (ve_L C)) (ve_i (ve_K C)) (ve_i (ve_Q C)) b_need b_types b_objType b_objVal b_vals b_frBody b_pc b_frThis b_frArg b_log :=
  pk_eq d c (fun e => by rw [decide_eq_true e] at hp; exact hp) (fun e => by rw [decide_eq_false e] at hp; exact hp)
theorem vy_below_l (h : ve_WG n G) {c : Nat} (hc : c < 16) : ∀ f i d, i + f = 12 → d < 16 → post (ve_b (ve_by G c f d)) → wY_below_5 post (nI c) g_most g_mostMethods (nI n) (nI nm) g_checked g_errAt g_depth g_entered g_result g_typed (ve_i (ve_V G)) (ve_i (ve_B G)) (ve_i (ve_S G)) (ve_i (ve_A G)) b_hasField b_fld (ve_i (ve_O M)) (ve_i (ve_N M)) (ve_i (ve_P M)) (ve_i (ve_R M)) (ve_i (ve_L C)) (ve_i (ve_K C)) (ve_i (ve_Q C)) b_need b_types b_objType b_objVal b_vals b_frBody b_pc b_frThis b_frArg b_log (f + 1) (nI d) (nI i)
  | 0, i, d, hi, hd, hp => pk_le 12 i (fun _ => vy_below_e hc hd hp) (fun z => absurd z (by omega))
  | f + 1, i, d, hi, hd, hp => by
    have hs := ve_Sle h d
    unfold ve_by at hp
    refine pk_le 12 i (fun z => absurd z (by omega)) (fun _ => pk_eq d c (fun z => vy_below_e hc hd ?_) (fun z => ⟨vp_in_nI hd (by omega), nm_r (ve_at (by omega)) (nm_r (nI_1 i) (vy_below_l h hc f (i + 1) _ (by omega) (by omega) ?_))⟩))
    · rw [if_pos z] at hp; rw [decide_eq_true z]; exact hp
    · rw [if_neg z] at hp; exact hp
theorem vy_below (h : ve_WG n G) {c d : Nat} (hc : c < 16) (hd : d < 16) (hp : post (ve_b (ve_bl G d c))) : wpY_below post (g_most, g_mostMethods, (nI n), (nI nm), g_checked, g_errAt, g_depth, g_entered, g_result, g_typed, (ve_i (ve_V G)), (ve_i (ve_B G)), (ve_i (ve_S G)), (ve_i (ve_A G)), b_hasField, b_fld, (ve_i (ve_O M)), (ve_i (ve_N M)), (ve_i (ve_P M)), (ve_i (ve_R M)), (ve_i (ve_L C)), (ve_i (ve_K C)), (ve_i (ve_Q C)), b_need, b_types, b_objType, b_objVal, b_vals, b_frBody, b_pc, b_frThis, b_frArg, b_log) (nI d) (nI c) :=
  ⟨12 + 1, vy_below_l h hc 12 0 d rfl hd (by rw [ve_by_be h]; exact hp)⟩
theorem vy_size_l (h : ve_WG n G) {o t0 : Nat} (ho : o < 16) (h0 : t0 < 9223372036854775808) : ∀ f i t, i + f = 16 → 1 ≤ i → t < 9223372036854775808 → post (nI (ve_so i (ve_sz n G o f t))) →
    wY_size_6 post (lN t0) (nI o) g_most g_mostMethods (nI n) (nI nm) g_checked g_errAt g_depth g_entered g_result g_typed (ve_i (ve_V G)) (ve_i (ve_B G)) (ve_i (ve_S G)) (ve_i (ve_A G)) b_hasField b_fld (ve_i (ve_O M)) (ve_i (ve_N M)) (ve_i (ve_P M)) (ve_i (ve_R M)) (ve_i (ve_L C)) (ve_i (ve_K C)) (ve_i (ve_Q C)) b_need b_types b_objType b_objVal b_vals b_frBody b_pc b_frThis b_frArg b_log (f + 1) (lN t) (nI i)
  | 0, i, t, hi, h1, ht, hp => pk_lt 15 i (fun _ => hp) (fun z => absurd z (by omega))
  | f + 1, i, t, hi, h1, ht, hp => by
    have n12 := ve_n12 h
    have v3 := ve_V3 h (t % 16)
    have v3o := ve_V3 h o
    have v15 := ve_V15 h
    have n0 : ¬ lN t0 < 0 := by
      have := pk_lLT (a := t0) (b := 0) (by omega) (by omega)
      intro z
      exact absurd (this.mp z) (by omega)
    unfold ve_sz at hp
    have j64 : ¬ ((t % 16 = 15 ∧ ve_V G o = 0) ∨ (t % 16 ≠ 15 ∧ n ≤ t % 16)) → wY_size_64 post (wY_size_6 post (lN t0) (nI o) g_most g_mostMethods (nI n) (nI nm) g_checked g_errAt g_depth g_entered g_result g_typed (ve_i (ve_V G)) (ve_i (ve_B G)) (ve_i (ve_S G)) (ve_i (ve_A G)) b_hasField b_fld (ve_i (ve_O M)) (ve_i (ve_N M)) (ve_i (ve_P M)) (ve_i (ve_R M)) (ve_i (ve_L C)) (ve_i (ve_K C)) (ve_i (ve_Q C)) b_need b_types b_objType b_objVal b_vals b_frBody b_pc b_frThis b_frArg b_log (f + 1)) (lN t0) (nI o) (lN (t / 16)) (nI i) (nI (t % 16)) g_most g_mostMethods (nI n) (nI nm) g_checked g_errAt g_depth g_entered g_result g_typed (ve_i (ve_V G)) (ve_i (ve_B G)) (ve_i (ve_S G)) (ve_i (ve_A G)) b_hasField b_fld (ve_i (ve_O M)) (ve_i (ve_N M)) (ve_i (ve_P M)) (ve_i (ve_R M)) (ve_i (ve_L C)) (ve_i (ve_K C)) (ve_i (ve_Q C)) b_need b_types b_objType b_objVal b_vals b_frBody b_pc b_frThis b_frArg b_log := by
      intro c1
      rw [if_neg c1] at hp
      have leaf : ve_V G (t % 16) = 0 → wY_size_81 post (lN (t / 16)) (nI i) g_most g_mostMethods (nI n) (nI nm) g_checked g_errAt g_depth g_entered g_result g_typed (ve_i (ve_V G)) (ve_i (ve_B G)) (ve_i (ve_S G)) (ve_i (ve_A G)) b_hasField b_fld (ve_i (ve_O M)) (ve_i (ve_N M)) (ve_i (ve_P M)) (ve_i (ve_R M)) (ve_i (ve_L C)) (ve_i (ve_K C)) (ve_i (ve_Q C)) b_need b_types b_objType b_objVal b_vals b_frBody b_pc b_frThis b_frArg b_log := by
        intro c2
        rw [if_pos c2] at hp
        unfold wY_size_81
        refine vl_eq (t / 16) 0 (fun c3 => ?_) (fun c3 => ?_)
        · rw [if_pos c3] at hp
          have e : ve_so i 1 = i := by unfold ve_so; rw [if_neg (by omega)]; omega
          rw [e] at hp; exact hp
        · rw [if_neg c3] at hp; exact hp
      unfold wY_size_64
      refine pk_eq (t % 16) 15 (fun c2 => leaf (by rw [c2]; exact v15)) (fun _ => ⟨vp_in_nI (by omega) (by omega), ?_⟩)
      rw [ve_at (by omega)]
      refine pk_eq (ve_V G (t % 16)) 0 (fun c2 => leaf c2) (fun c2 => ?_)
      rw [if_neg c2] at hp
      refine nm_r (nI_1 i) (vy_size_l h ho h0 f (i + 1) (t / 16) (by omega) (by omega) (by omega) ?_)
      by_cases c3 : ve_sz n G o f (t / 16) = 0
      · rw [if_pos c3] at hp; rw [c3]; exact hp
      · rw [if_neg c3] at hp
        have e : ve_so (i + 1) (ve_sz n G o f (t / 16)) = ve_so i (ve_sz n G o f (t / 16) + 1) := by
          unfold ve_so; rw [if_neg c3, if_neg (by omega)]; omega
        rw [e]; exact hp
    refine pk_lt 15 i (fun z => absurd z (by omega)) (fun _ => br_f n0 (nm_r (vl_hd ht) (nm_r (vl_sh ht) (pk_eq (t % 16) 15 (fun c1 => ⟨vp_in_nI ho (by omega), ?_⟩) (fun c1 => pk_lt (t % 16) n (fun c2 => j64 (by omega)) (fun c2 => ?_))))))
    · rw [ve_at (by omega)]
      refine pk_eq (ve_V G o) 0 (fun c2 => ?_) (fun c2 => j64 (by omega))
      rw [if_pos (Or.inl ⟨c1, c2⟩)] at hp; exact hp
    · rw [if_pos (Or.inr ⟨c1, c2⟩)] at hp; exact hp
theorem vy_size (h : ve_WG n G) {o : Nat} (ho : o < 16) {t : Int64} (hp : ∀ r, ve_sy n G o 15 t r → post (nI r)) : wpY_size post (g_most, g_mostMethods, (nI n), (nI nm), g_checked, g_errAt, g_depth, g_entered, g_result, g_typed, (ve_i (ve_V G)), (ve_i (ve_B G)), (ve_i (ve_S G)), (ve_i (ve_A G)), b_hasField, b_fld, (ve_i (ve_O M)), (ve_i (ve_N M)), (ve_i (ve_P M)), (ve_i (ve_R M)), (ve_i (ve_L C)), (ve_i (ve_K C)), (ve_i (ve_Q C)), b_need, b_types, b_objType, b_objVal, b_vals, b_frBody, b_pc, b_frThis, b_frArg, b_log) t (nI o) := by
  by_cases z : t < 0
  · exact ⟨1, pk_lt 15 1 (fun y => absurd y (by omega)) (fun _ => br_t z (hp 0 (ve_sy_neg z)))⟩
  · obtain ⟨v, hv, rfl⟩ := pk_lOf z
    refine ⟨15 + 1, vy_size_l h ho (by omega) 15 1 v (by omega) (by omega) (by omega) ?_⟩
    have e : ve_so 1 (ve_sz n G o 15 v) = ve_sz n G o 15 v := by unfold ve_so; split <;> omega
    rw [e]
    exact hp _ (ve_sy_pos h (by omega))
theorem vy_self (h : ve_WG n G) {c : Nat} (hc : c < 16) (hp : post (nI (ve_sf G c))) : wpY_self post (g_most, g_mostMethods, (nI n), (nI nm), g_checked, g_errAt, g_depth, g_entered, g_result, g_typed, (ve_i (ve_V G)), (ve_i (ve_B G)), (ve_i (ve_S G)), (ve_i (ve_A G)), b_hasField, b_fld, (ve_i (ve_O M)), (ve_i (ve_N M)), (ve_i (ve_P M)), (ve_i (ve_R M)), (ve_i (ve_L C)), (ve_i (ve_K C)), (ve_i (ve_Q C)), b_need, b_types, b_objType, b_objVal, b_vals, b_frBody, b_pc, b_frThis, b_frArg, b_log) (nI c) := by
  have v3 := ve_V3 h c
  unfold wpY_self
  dsimp only
  rw [ve_at (by omega), v_240]
  unfold ve_sf at hp
  refine ⟨vp_in_nI hc (by omega), pk_eq (ve_V G c) 0 (fun z => ?_) (fun z => ?_)⟩
  · rw [if_pos z] at hp; exact hp
  · rw [if_neg z] at hp; exact hp
theorem vy_erase (h : ve_WG n G) {t o k z : Nat} (ho : o < 16) (w : ve_wt n G z k t) (hk : k ≤ 12) (hp : post (nI (ve_er G t o))) : wpY_erase post (g_most, g_mostMethods, (nI n), (nI nm), g_checked, g_errAt, g_depth, g_entered, g_result, g_typed, (ve_i (ve_V G)), (ve_i (ve_B G)), (ve_i (ve_S G)), (ve_i (ve_A G)), b_hasField, b_fld, (ve_i (ve_O M)), (ve_i (ve_N M)), (ve_i (ve_P M)), (ve_i (ve_R M)), (ve_i (ve_L C)), (ve_i (ve_K C)), (ve_i (ve_Q C)), b_need, b_types, b_objType, b_objVal, b_vals, b_frBody, b_pc, b_frThis, b_frArg, b_log) (lN t) (nI o) := by
  have b := ve_wt_48 w hk
  unfold wpY_erase
  dsimp only
  rw [ve_at (by omega), vl_hd (by omega), vl_and (by omega)]
  unfold ve_er at hp
  refine vl_eq (t % 16) 15 (fun c => ⟨vp_in_nI ho (by omega), ?_⟩) (fun c => ?_)
  · rw [if_pos (ve_wt_x h w c)] at hp; exact hp
  · rw [if_neg (by omega)] at hp; exact hp
end
section
variable {n nm : Nat} {G : ve_T} {M : ve_M} {C : ve_C} {g_most g_mostMethods g_checked g_errAt g_depth g_entered g_result g_typed : Int32} {b_hasField b_fld b_need b_objType b_objVal b_vals b_frBody b_pc b_frThis b_frArg b_log : Nat → Int32} {b_types : Nat → Int64} {post : Int64 → Prop}
theorem vy_seen_l (h : ve_WG n G) {a : Nat} (ha : a < 16) : ∀ f i v, i + f = 12 → v < 4611686018427387904 → post (lN (ve_se G a f v)) → wY_seen_6 post (nI a) g_most g_mostMethods (nI n) (nI nm) g_checked g_errAt g_depth g_entered g_result g_typed (ve_i (ve_V G)) (ve_i (ve_B G)) (ve_i (ve_S G)) (ve_i (ve_A G)) b_hasField b_fld (ve_i (ve_O M)) (ve_i (ve_N M)) (ve_i (ve_P M)) (ve_i (ve_R M)) (ve_i (ve_L C)) (ve_i (ve_K C)) (ve_i (ve_Q C)) b_need b_types b_objType b_objVal b_vals b_frBody b_pc b_frThis b_frArg b_log (f + 1) (lN v) (nI i)
  | 0, i, v, hi, hv, hp => pk_le 12 i (fun _ => hp) (fun z => absurd z (by omega))
  | f + 1, i, v, hi, hv, hp => by
    have n12 := ve_n12 h
    have hS := ve_Sltn h (v % 16)
    have hA := ve_A15 h (v % 16)
    have v3 := ve_V3 h (ve_S G (v % 16))
    have hb := ve_st_b h (z := 4611686018427387904) hv (by omega)
    unfold ve_se at hp
    have go : v % 16 ≠ a → wY_seen_6 post (nI a) g_most g_mostMethods (nI n) (nI nm) g_checked g_errAt g_depth g_entered g_result g_typed (ve_i (ve_V G)) (ve_i (ve_B G)) (ve_i (ve_S G)) (ve_i (ve_A G)) b_hasField b_fld (ve_i (ve_O M)) (ve_i (ve_N M)) (ve_i (ve_P M)) (ve_i (ve_R M)) (ve_i (ve_L C)) (ve_i (ve_K C)) (ve_i (ve_Q C)) b_need b_types b_objType b_objVal b_vals b_frBody b_pc b_frThis b_frArg b_log (f + 1) (lN (ve_st G v)) (nI (i + 1)) := by
      intro z
      rw [if_neg z] at hp
      exact vy_seen_l h ha f (i + 1) _ (by omega) hb hp
    refine pk_le 12 i (fun z => absurd z (by omega)) (fun _ => ?_)
    rw [vl_and (by omega), vl_i (by omega)]
    refine vl_eq (v % 16) a (fun z => ?_) (fun z => ?_)
    · rw [if_pos z] at hp; exact hp
    · have go := go z
      unfold ve_st at go
      have j61 : ∀ w, (ve_V G (ve_S G (v % 16)) ≠ 0 → (if ve_A G (v % 16) = 15 then v / 16 * 16 + ve_S G (v % 16) else ve_S G (v % 16) + 16 * ve_A G (v % 16)) = ve_S G (v % 16) + w * 16) →
          wY_seen_61 post (wY_seen_6 post (nI a) g_most g_mostMethods (nI n) (nI nm) g_checked g_errAt g_depth g_entered g_result g_typed (ve_i (ve_V G)) (ve_i (ve_B G)) (ve_i (ve_S G)) (ve_i (ve_A G)) b_hasField b_fld (ve_i (ve_O M)) (ve_i (ve_N M)) (ve_i (ve_P M)) (ve_i (ve_R M)) (ve_i (ve_L C)) (ve_i (ve_K C)) (ve_i (ve_Q C)) b_need b_types b_objType b_objVal b_vals b_frBody b_pc b_frThis b_frArg b_log (f + 1)) (nI a) (nI i) (nI (v % 16)) (lN w) g_most g_mostMethods (nI n) (nI nm) g_checked g_errAt g_depth g_entered g_result g_typed (ve_i (ve_V G)) (ve_i (ve_B G)) (ve_i (ve_S G)) (ve_i (ve_A G)) b_hasField b_fld (ve_i (ve_O M)) (ve_i (ve_N M)) (ve_i (ve_P M)) (ve_i (ve_R M)) (ve_i (ve_L C)) (ve_i (ve_K C)) (ve_i (ve_Q C)) b_need b_types b_objType b_objVal b_vals b_frBody b_pc b_frThis b_frArg b_log := by
        intro w hw
        unfold wY_seen_61
        have e4 : (4 : Int32) = nI (4 * 1) := rfl
        rw [ve_at (by omega), ve_at (by omega), vl_i (by omega), e4, vl_slk (by omega), lN_add]
        refine ⟨vp_in_nI (by omega) (by omega), vp_in_nI (by omega) (by omega), pk_eq (ve_V G (ve_S G (v % 16))) 0 (fun c => ⟨vp_in_nI (by omega) (by omega), nm_e (nm_r (nI_1 i) ?_)⟩) (fun c => ⟨vp_in_nI (by omega) (by omega), nm_e (nm_r (nI_1 i) ?_)⟩)⟩
        · rw [if_pos c] at go; exact go
        · rw [if_neg c, hw c] at go; exact go
      refine nm_r (lN_i _) ⟨vp_in_nI (by omega) (by omega), ?_⟩
      rw [ve_at (by omega)]
      refine pk_eq (ve_A G (v % 16)) 15 (fun c => ?_) (fun c => ⟨vp_in_nI (by omega) (by omega), ?_⟩)
      · rw [vl_sh (by omega)]
        refine j61 _ (fun _ => ?_)
        rw [if_pos c]; omega
      · rw [vl_i (by omega)]
        refine j61 _ (fun _ => ?_)
        rw [if_neg c]; omega
theorem vy_seen (h : ve_WG n G) {a v : Nat} (ha : a < 16) (hv : v < 4611686018427387904) (hp : post (lN (ve_sn G v a))) : wpY_seen post (g_most, g_mostMethods, (nI n), (nI nm), g_checked, g_errAt, g_depth, g_entered, g_result, g_typed, (ve_i (ve_V G)), (ve_i (ve_B G)), (ve_i (ve_S G)), (ve_i (ve_A G)), b_hasField, b_fld, (ve_i (ve_O M)), (ve_i (ve_N M)), (ve_i (ve_P M)), (ve_i (ve_R M)), (ve_i (ve_L C)), (ve_i (ve_K C)), (ve_i (ve_Q C)), b_need, b_types, b_objType, b_objVal, b_vals, b_frBody, b_pc, b_frThis, b_frArg, b_log) (lN v) (nI a) :=
  ⟨12 + 1, vy_seen_l h ha 12 0 v rfl hv hp⟩
theorem ve_dg {lo j r : Nat} (hlo : lo < 16 ^ j) : (lo + 16 ^ j * r) / 16 ^ j = r := by
  rw [Nat.add_mul_div_left _ _ (Nat.pow_pos (by omega)), Nat.div_eq_of_lt hlo]; omega
theorem vy_th_0 {W x : Nat} (hW : W < 281474976710656) : ∀ f j, j + f = 15 → W < 16 ^ j → post (lN W) → wY_through_14 post (lN W) (lN x) g_most g_mostMethods (nI n) (nI nm) g_checked g_errAt g_depth g_entered g_result g_typed (ve_i (ve_V G)) (ve_i (ve_B G)) (ve_i (ve_S G)) (ve_i (ve_A G)) b_hasField b_fld (ve_i (ve_O M)) (ve_i (ve_N M)) (ve_i (ve_P M)) (ve_i (ve_R M)) (ve_i (ve_L C)) (ve_i (ve_K C)) (ve_i (ve_Q C)) b_need b_types b_objType b_objVal b_vals b_frBody b_pc b_frThis b_frArg b_log (f + 1) (nI (4 * j))
  | 0, j, hj, hl, hp => pk_le 60 (4 * j) (fun _ => hp) (fun z => absurd z (by omega))
  | f + 1, j, hj, hl, hp => by
    refine pk_le 60 (4 * j) (fun z => absurd z (by omega)) (fun _ => ?_)
    rw [vl_shk (by omega) (by omega), Nat.div_eq_of_lt hl, vl_and (by omega)]
    have e4 : nI (4 * j) + 4 = nI (4 * (j + 1)) := by
      have e : (4 : Int32) = nI 4 := rfl
      rw [e, nI_add]; rfl
    refine vl_eq (0 % 16) 15 (fun z => absurd z (by omega)) (fun _ => nm_r e4 (vy_th_0 hW f (j + 1) (by omega) ?_ hp))
    rw [Nat.pow_succ]; omega
theorem vy_th_l (h : ve_WG n G) {a p : Nat} (hp0 : p < 281474976710656) : ∀ k j lo r f, ve_wt n G a k r → j + k ≤ 3 → j + f = 15 → lo < 16 ^ j → post (lN (lo + 16 ^ j * ve_ss G r p)) →
    wY_through_14 post (lN (lo + 16 ^ j * r)) (lN p) g_most g_mostMethods (nI n) (nI nm) g_checked g_errAt g_depth g_entered g_result g_typed (ve_i (ve_V G)) (ve_i (ve_B G)) (ve_i (ve_S G)) (ve_i (ve_A G)) b_hasField b_fld (ve_i (ve_O M)) (ve_i (ve_N M)) (ve_i (ve_P M)) (ve_i (ve_R M)) (ve_i (ve_L C)) (ve_i (ve_K C)) (ve_i (ve_Q C)) b_need b_types b_objType b_objVal b_vals b_frBody b_pc b_frThis b_frArg b_log (f + 1) (nI (4 * j))
  | 0, _, _, _, _, w, _, _, _, _ => absurd w (fun z => z)
  | k + 1, j, lo, r, f, w, hk, hf, hlo, hp => by
    have n12 := ve_n12 h
    have pw : 16 ^ j ≤ 16 ^ 3 := Nat.pow_le_pow_right (by omega) (by omega)
    have p3 : 16 ^ 3 = 4096 := by decide
    have p1 : 0 < 16 ^ j := Nat.pow_pos (by omega)
    have rb : r < 4096 := by
      have := ve_wt_lt w
      have : 16 ^ (k + 1) ≤ 16 ^ 3 := Nat.pow_le_pow_right (by omega) (by omega)
      omega
    have ub : lo + 16 ^ j * r < 281474976710656 := by
      have : 16 ^ j * r ≤ 4096 * 4096 := Nat.mul_le_mul (by omega) (by omega)
      omega
    have dv := ve_dg (r := r) hlo
    obtain ⟨g, rfl⟩ : ∃ g, f = g + 1 := ⟨f - 1, by omega⟩
    have e4 : nI (4 * j) + 4 = nI (4 * (j + 1)) := by
      have e : (4 : Int32) = nI 4 := rfl
      rw [e, nI_add]; rfl
    refine pk_le 60 (4 * j) (fun z => absurd z (by omega)) (fun _ => ?_)
    rw [vl_shk (by omega) (by omega), dv, vl_and (by omega)]
    refine vl_eq (r % 16) 15 (fun c => ?_) (fun c => nm_r e4 ?_)
    · have c := ve_wt_x h w c
      subst c
      rw [ve_ss_x] at hp
      have e1 : (1 : Int64) = lN 1 := rfl
      rw [e1, vl_slk (by omega), vl_slk (by omega), lN_sub (by omega), Nat.one_mul, wb_mask' (j := j) (by omega) (by omega)]
      have e2 : (lo + 16 ^ j * 15) % 16 ^ j = lo := by
        rw [Nat.add_mul_mod_self_left, Nat.mod_eq_of_lt hlo]
      have pb : p * 16 ^ j ≤ 281474976710656 * 4096 := Nat.mul_le_mul (by omega) (by omega)
      rw [e2, g_or' (k := 4 * j) (ve_16 j) hlo (by omega), Nat.mul_comm p]
      exact hp
    · by_cases z : ve_V G (r % 16) = 0
      · have l := ve_wt_leaf w z
        rw [ve_ss_l p (by omega) z] at hp
        refine vy_th_0 ub g (j + 1) (by omega) ?_ hp
        have : 16 ^ j * r ≤ 16 ^ j * 15 := Nat.mul_le_mul (Nat.le_refl _) (by omega)
        rw [Nat.pow_succ]; omega
      · have nd := ve_wt_node w z
        have nd2 : ve_wt n G a k (r / 16) := by have := nd.2; simpa using this
        rw [ve_ss_n p h w (by omega) z] at hp
        have e1 : lo + 16 ^ j * r = (lo + 16 ^ j * (r % 16)) + 16 ^ (j + 1) * (r / 16) := by
          rw [Nat.pow_succ, Nat.mul_assoc, Nat.add_assoc, ← Nat.mul_add]
          congr 2; omega
        have e2 : lo + 16 ^ j * (r % 16 + 16 * ve_ss G (r / 16) p) = (lo + 16 ^ j * (r % 16)) + 16 ^ (j + 1) * ve_ss G (r / 16) p := by
          rw [Nat.pow_succ, Nat.mul_assoc, Nat.add_assoc, ← Nat.mul_add]
        have e3 : lo + 16 ^ j * (r % 16) < 16 ^ (j + 1) := by
          have : 16 ^ j * (r % 16) ≤ 16 ^ j * 15 := Nat.mul_le_mul (Nat.le_refl _) (by omega)
          rw [Nat.pow_succ]; omega
        rw [e2] at hp
        rw [e1]
        exact vy_th_l h hp0 k (j + 1) _ (r / 16) g nd2 (by omega) (by omega) e3 hp
theorem vy_th_w (h : ve_WG n G) {a p k w W : Nat} (hp0 : p < 281474976710656) (ww : ve_wt n G a k w) (hk : k ≤ 3) (hW : W = 0 + 16 ^ 0 * w) (hp : post (lN (0 + 16 ^ 0 * ve_ss G w p))) :
    wY_through_14 post (lN W) (lN p) g_most g_mostMethods (nI n) (nI nm) g_checked g_errAt g_depth g_entered g_result g_typed (ve_i (ve_V G)) (ve_i (ve_B G)) (ve_i (ve_S G)) (ve_i (ve_A G)) b_hasField b_fld (ve_i (ve_O M)) (ve_i (ve_N M)) (ve_i (ve_P M)) (ve_i (ve_R M)) (ve_i (ve_L C)) (ve_i (ve_K C)) (ve_i (ve_Q C)) b_need b_types b_objType b_objVal b_vals b_frBody b_pc b_frThis b_frArg b_log (15 + 1) 0 := by
  subst hW
  exact vy_th_l h hp0 k 0 0 w 15 ww (by omega) rfl (by decide) hp
theorem vy_th (h : ve_WG n G) {a v k w : Nat} (ha : a < 16) (hv : v < 281474976710656) (ww : ve_wt n G a k w) (hk : k ≤ 3) (hp : post (lN (ve_th G w a v))) : wpY_through post (g_most, g_mostMethods, (nI n), (nI nm), g_checked, g_errAt, g_depth, g_entered, g_result, g_typed, (ve_i (ve_V G)), (ve_i (ve_B G)), (ve_i (ve_S G)), (ve_i (ve_A G)), b_hasField, b_fld, (ve_i (ve_O M)), (ve_i (ve_N M)), (ve_i (ve_P M)), (ve_i (ve_R M)), (ve_i (ve_L C)), (ve_i (ve_K C)), (ve_i (ve_Q C)), b_need, b_types, b_objType, b_objVal, b_vals, b_frBody, b_pc, b_frThis, b_frArg, b_log) (lN w) (lN v) (nI a) := by
  have hb := ve_sn_b h (a := a) (z := 281474976710656) (by omega) hv
  refine vy_seen h ha (by omega) (nm_r (vl_sh (by omega)) ⟨15 + 1, vy_th_w h (by omega) ww hk (by rw [Nat.pow_zero, Nat.one_mul, Nat.zero_add]) ?_⟩)
  rw [Nat.pow_zero, Nat.one_mul, Nat.zero_add]; exact hp
end
end
section
/-! Y: subtypes, bounds, variance, members -/
section
variable {n nm : Nat} {G : ve_T} {M : ve_M} {C : ve_C} {g_most g_mostMethods g_checked g_errAt g_depth g_entered g_result g_typed : Int32} {b_hasField b_fld b_need b_objType b_objVal b_vals b_frBody b_pc b_frThis b_frArg b_log : Nat → Int32} {b_types : Nat → Int64} {post : Int32 → Prop}
theorem vy_sub74 (h : ve_WG n G) {o k1 k2 s t i : Nat} {J : Int64 → Int64 → Int32 → Prop} (w1 : ve_wt n G o k1 s) (w2 : ve_wt n G o k2 t) (h1 : k1 ≤ 12) (h2 : k2 ≤ 12) (hs : s ≠ 15) (ht : t ≠ 15) (R : Nat → Nat → Bool)
    (hJ : ∀ k1 k2 s t, ve_wt n G o k1 s → ve_wt n G o k2 t → k1 ≤ 12 → k2 ≤ 12 → post (ve_b (R s t)) → J (lN s) (lN t) (nI (i + 1))) (hp : post (ve_b (ve_sv G R s t))) :
    wY_sub_74 post J (nI o) (lN s) (lN t) (nI i) (nI (t % 16)) g_most g_mostMethods (nI n) (nI nm) g_checked g_errAt g_depth g_entered g_result g_typed (ve_i (ve_V G)) (ve_i (ve_B G)) (ve_i (ve_S G)) (ve_i (ve_A G)) b_hasField b_fld (ve_i (ve_O M)) (ve_i (ve_N M)) (ve_i (ve_P M)) (ve_i (ve_R M)) (ve_i (ve_L C)) (ve_i (ve_K C)) (ve_i (ve_Q C)) b_need b_types b_objType b_objVal b_vals b_frBody b_pc b_frThis b_frArg b_log := by
  have b1 := ve_wt_48 w1 h1
  have b2 := ve_wt_48 w2 h2
  have v3 := ve_V3 h (t % 16)
  have hd := ve_wt_hd h w2 ht
  have n12 := ve_n12 h
  unfold wY_sub_74
  unfold ve_sv at hp
  refine nm_r (vl_hd (by omega)) ?_
  refine vy_below h (by omega) (by omega) (vb_c (fun z => ?_) (fun z => ⟨vp_in_nI (by omega) (by omega), ?_⟩))
  · rw [if_neg (by rw [z]; decide)] at hp; exact hp
  · rw [if_pos z] at hp
    have x := (ve_bl_iff h).mp z
    rw [ve_at (by omega)]
    refine pk_eq (ve_V G (t % 16)) 0 (fun c0 => ?_) (fun c0 => ?_)
    · rw [if_pos c0] at hp; exact hp
    · rw [if_neg c0] at hp
      obtain ⟨k3, a3, _, w3⟩ := ve_ar_wt h x w1 hs
      have nd := ve_wt_node w2 c0
      have b3 := ve_wt_48 w3 (by omega)
      have hb := ve_sn_b h (a := t % 16) (z := 281474976710656) (by omega) b1
      refine vy_seen h (by omega) (by omega) (nm_r (vl_sh (by omega)) (nm_r (vl_sh (by omega)) ⟨vp_in_nI (by omega) (by omega), ?_⟩))
      refine pk_eq (ve_V G (t % 16)) 3 (fun c3 => ?_) (fun c3 => ⟨vp_in_nI (by omega) (by omega), ?_⟩)
      · rw [if_pos c3] at hp
        refine vl_eq (ve_ar G s (t % 16)) (t / 16) (fun e => ?_) (fun e => ?_)
        · rw [decide_eq_true e] at hp; exact hp
        · rw [decide_eq_false e] at hp; exact hp
      · rw [if_neg c3] at hp
        refine pk_eq (ve_V G (t % 16)) 1 (fun c1 => ?_) (fun c1 => ?_)
        · rw [if_pos c1] at hp
          unfold wY_sub_169
          refine ⟨vp_in_nI (by omega) (by omega), ?_⟩
          rw [ve_at (by omega)]
          exact pk_eq (ve_V G (t % 16)) 1 (fun _ => nm_r (nI_1 i) (hJ _ _ _ _ w3 nd.2 (by omega) (by omega) hp)) (fun e => absurd c1 e)
        · rw [if_neg c1] at hp
          unfold wY_sub_169
          refine ⟨vp_in_nI (by omega) (by omega), ?_⟩
          rw [ve_at (by omega)]
          exact pk_eq (ve_V G (t % 16)) 1 (fun e => absurd e c1) (fun _ => nm_r (nI_1 i) (hJ _ _ _ _ nd.2 w3 (by omega) (by omega) hp))
theorem vy_sub_l (h : ve_WG n G) {o : Nat} (ho : o < 16) : ∀ f i k1 k2 s t, i + f = 64 → ve_wt n G o k1 s → ve_wt n G o k2 t → k1 ≤ 12 → k2 ≤ 12 → post (ve_b (ve_su G o f s t)) →
    wY_sub_9 post (nI o) g_most g_mostMethods (nI n) (nI nm) g_checked g_errAt g_depth g_entered g_result g_typed (ve_i (ve_V G)) (ve_i (ve_B G)) (ve_i (ve_S G)) (ve_i (ve_A G)) b_hasField b_fld (ve_i (ve_O M)) (ve_i (ve_N M)) (ve_i (ve_P M)) (ve_i (ve_R M)) (ve_i (ve_L C)) (ve_i (ve_K C)) (ve_i (ve_Q C)) b_need b_types b_objType b_objVal b_vals b_frBody b_pc b_frThis b_frArg b_log (f + 1) (lN s) (lN t) (nI i)
  | 0, i, k1, k2, s, t, hi, w1, w2, h1, h2, hp => pk_le 64 i (fun _ => hp) (fun z => absurd z (by omega))
  | f + 1, i, k1, k2, s, t, hi, w1, w2, h1, h2, hp => by
    have b1 := ve_wt_48 w1 h1
    have b2 := ve_wt_48 w2 h2
    have hB := ve_Blt h o
    have n12 := ve_n12 h
    unfold ve_su at hp
    refine pk_le 64 i (fun z => absurd z (by omega)) (fun _ => nm_r (vl_hd (by omega)) ?_)
    rw [vl_and (by omega)]
    refine pk_eq (t % 16) 15 (fun c => ?_) (fun c => ?_)
    · rw [if_pos (ve_wt_x h w2 c)] at hp
      refine vl_eq (s % 16) 15 (fun e => ?_) (fun e => ?_)
      · rw [decide_eq_true (ve_wt_x h w1 e)] at hp; exact hp
      · rw [decide_eq_false (by omega)] at hp; exact hp
    · have c : t ≠ 15 := by omega
      rw [if_neg c] at hp
      refine vl_eq (s % 16) 15 (fun e => ⟨vp_in_nI ho (by omega), nm_r (e' := lN (ve_B G o)) (by rw [ve_at (by omega), vl_i (by omega)]) ?_⟩) (fun e => ?_)
      · rw [if_pos (ve_wt_x h w1 e)] at hp
        exact vy_sub74 h (ve_wt_c h hB (ve_VB h o)) w2 (by omega) h2 (by omega) c (ve_su G o f) (fun k1 k2 s t w1 w2 h1 h2 hp => vy_sub_l h ho f (i + 1) k1 k2 s t (by omega) w1 w2 h1 h2 hp) hp
      · have e : s ≠ 15 := by omega
        rw [if_neg e] at hp
        exact vy_sub74 h w1 w2 h1 h2 e c (ve_su G o f) (fun k1 k2 s t w1 w2 h1 h2 hp => vy_sub_l h ho f (i + 1) k1 k2 s t (by omega) w1 w2 h1 h2 hp) hp
theorem vy_sub (h : ve_WG n G) {o k1 k2 s t : Nat} (ho : o < 16) (w1 : ve_wt n G o k1 s) (w2 : ve_wt n G o k2 t) (h1 : k1 ≤ 12) (h2 : k2 ≤ 12) (hp : post (ve_b (ve_su G o 32 s t))) :
    wpY_sub post (g_most, g_mostMethods, (nI n), (nI nm), g_checked, g_errAt, g_depth, g_entered, g_result, g_typed, (ve_i (ve_V G)), (ve_i (ve_B G)), (ve_i (ve_S G)), (ve_i (ve_A G)), b_hasField, b_fld, (ve_i (ve_O M)), (ve_i (ve_N M)), (ve_i (ve_P M)), (ve_i (ve_R M)), (ve_i (ve_L C)), (ve_i (ve_K C)), (ve_i (ve_Q C)), b_need, b_types, b_objType, b_objVal, b_vals, b_frBody, b_pc, b_frThis, b_frArg, b_log) (lN s) (lN t) (nI o) :=
  ⟨64 + 1, vy_sub_l h ho 64 0 k1 k2 s t rfl w1 w2 h1 h2 (by rw [ve_su_ff h (f' := 32) w1 w2 (by omega) (by omega)]; exact hp)⟩
theorem vy_kb_l (h : ve_WG n G) {o T : Nat} (ho : o < 16) (hT : T < 9223372036854775808) : ∀ k f j r, ve_wt n G o k r → j + k ≤ 12 → k ≤ f + 1 → T / 16 ^ j = r → post (ve_b (ve_kb G o f r)) →
    wY_bounded_11 post (lN T) (nI o) g_most g_mostMethods (nI n) (nI nm) g_checked g_errAt g_depth g_entered g_result g_typed (ve_i (ve_V G)) (ve_i (ve_B G)) (ve_i (ve_S G)) (ve_i (ve_A G)) b_hasField b_fld (ve_i (ve_O M)) (ve_i (ve_N M)) (ve_i (ve_P M)) (ve_i (ve_R M)) (ve_i (ve_L C)) (ve_i (ve_K C)) (ve_i (ve_Q C)) b_need b_types b_objType b_objVal b_vals b_frBody b_pc b_frThis b_frArg b_log k (nI (r % 16)) (nI (4 * (j + 1)))
  | 0, f, j, r, w, _, _, _, _ => absurd w (fun z => z)
  | k + 1, f, j, r, w, hk, hf, e, hp => by
    have b := ve_wt_48 w (by omega)
    have hB := ve_Blt h (r % 16)
    have n12 := ve_n12 h
    have v3 := ve_V3 h (r % 16)
    have e1 : T / 16 ^ (j + 1) = r / 16 := by rw [Nat.pow_succ, ← Nat.div_div_eq_div_mul, e]
    refine pk_le 60 (4 * (j + 1)) (fun z => absurd z (by omega)) (fun _ => ⟨vp_in_nI (by omega) (by omega), ?_⟩)
    rw [ve_at (by omega), ve_at (by omega), vl_shk hT (by omega), e1, vl_i (by omega)]
    refine pk_eq (ve_V G (r % 16)) 0 (fun z => ?_) (fun z => ⟨vp_in_nI (by omega) (by omega), ?_⟩)
    · cases f with
      | zero => exact hp
      | succ f => unfold ve_kb at hp; rw [if_pos z] at hp; exact hp
    · have nd := ve_wt_node w z
      have nd2 : ve_wt n G o k (r / 16) := by have := nd.2; simpa using this
      have p2 := ve_wt_pos nd2
      obtain ⟨g, rfl⟩ : ∃ g, f = g + 1 := ⟨f - 1, by omega⟩
      unfold ve_kb at hp
      rw [if_neg z] at hp
      have e4 : nI (4 * (j + 1)) + 4 = nI (4 * (j + 1 + 1)) := by
        have e : (4 : Int32) = nI 4 := rfl
        rw [e, nI_add]; rfl
      refine vy_sub h ho nd2 (ve_wt_c h hB (ve_VB h _)) (by omega) (by omega) (vb_c (fun y => ?_) (fun y => nm_r (vl_hd (by omega)) (nm_r e4 ?_)))
      · rw [if_neg (by rw [y]; decide)] at hp; exact hp
      · rw [if_pos y] at hp
        exact vy_kb_l h ho hT k g (j + 1) _ nd2 (by omega) (by omega) e1 hp
theorem vy_kb (h : ve_WG n G) {o k t : Nat} (ho : o < 16) (w : ve_wt n G o k t) (hk : k ≤ 12) (hp : post (ve_b (ve_kb G o 12 t))) : wpY_bounded post (g_most, g_mostMethods, (nI n), (nI nm), g_checked, g_errAt, g_depth, g_entered, g_result, g_typed, (ve_i (ve_V G)), (ve_i (ve_B G)), (ve_i (ve_S G)), (ve_i (ve_A G)), b_hasField, b_fld, (ve_i (ve_O M)), (ve_i (ve_N M)), (ve_i (ve_P M)), (ve_i (ve_R M)), (ve_i (ve_L C)), (ve_i (ve_K C)), (ve_i (ve_Q C)), b_need, b_types, b_objType, b_objVal, b_vals, b_frBody, b_pc, b_frThis, b_frArg, b_log) (lN t) (nI o) := by
  have b := ve_wt_48 w hk
  exact nm_r (vl_hd (by omega)) ⟨k, vy_kb_l h ho (by omega) k 12 0 t w (by omega) (by omega) (by rw [Nat.pow_zero, Nat.div_one]) hp⟩
theorem vy_kv_e (h : ve_WG n G) {o k t : Nat} {sg : Int32} (ho : o < 16) (w : ve_wt n G o k t) (hp : post (ve_b (ve_ke G o sg t))) : wY_signed_85 post (nI o) sg (nI (t % 16)) g_most g_mostMethods (nI n) (nI nm) g_checked g_errAt g_depth g_entered g_result g_typed (ve_i (ve_V G)) (ve_i (ve_B G)) (ve_i (ve_S G)) (ve_i (ve_A G)) b_hasField b_fld (ve_i (ve_O M)) (ve_i (ve_N M)) (ve_i (ve_P M)) (ve_i (ve_R M)) (ve_i (ve_L C)) (ve_i (ve_K C)) (ve_i (ve_Q C)) b_need b_types b_objType b_objVal b_vals b_frBody b_pc b_frThis b_frArg b_log := by
  have v3 := ve_V3 h o
  have j118 : t = 15 → ve_V G o ≠ 3 → (ve_V G o = 1 → sg ≠ 1) → wY_signed_118 post (nI o) sg g_most g_mostMethods (nI n) (nI nm) g_checked g_errAt g_depth g_entered g_result g_typed (ve_i (ve_V G)) (ve_i (ve_B G)) (ve_i (ve_S G)) (ve_i (ve_A G)) b_hasField b_fld (ve_i (ve_O M)) (ve_i (ve_N M)) (ve_i (ve_P M)) (ve_i (ve_R M)) (ve_i (ve_L C)) (ve_i (ve_K C)) (ve_i (ve_Q C)) b_need b_types b_objType b_objVal b_vals b_frBody b_pc b_frThis b_frArg b_log := by
    intro c c3 c1
    have vo : ve_V G o ≠ 0 := by subst c; exact ve_wt_15 h w
    unfold wY_signed_118
    rw [ve_at (by omega)]
    unfold ve_ke at hp
    refine ⟨vp_in_nI ho (by omega), pk_eq (ve_V G o) 2 (fun c2 => br_c (fun e => ?_) (fun e => ?_)) (fun c2 => ?_)⟩
    · rw [decide_eq_true (Or.inr (Or.inr (by rw [if_neg (by omega)]; exact e)))] at hp; exact hp
    · rw [decide_eq_false (by rw [if_neg (by omega)]; rintro (z | z | z); exact z c; exact c3 z; exact e z)] at hp; exact hp
    · have e1 : ve_V G o = 1 := by omega
      rw [decide_eq_false (by rw [if_pos e1]; rintro (z | z | z); exact z c; exact c3 z; exact c1 e1 z)] at hp; exact hp
  unfold wY_signed_85
  rw [ve_at (by omega)]
  refine pk_eq (t % 16) 15 (fun c => ⟨vp_in_nI ho (by omega), pk_eq (ve_V G o) 3 (fun c3 => ?_) (fun c3 => ⟨vp_in_nI ho (by omega), pk_eq (ve_V G o) 1 (fun c1 => br_c (fun e => ?_) (fun e => ?_)) (fun c1 => ?_)⟩)⟩) (fun c => ?_)
  · unfold ve_ke at hp; rw [decide_eq_true (Or.inr (Or.inl c3))] at hp; exact hp
  · unfold ve_ke at hp; rw [decide_eq_true (Or.inr (Or.inr (by rw [if_pos c1]; exact e)))] at hp; exact hp
  · exact j118 (ve_wt_x h w c) c3 (fun _ => e)
  · exact j118 (ve_wt_x h w c) c3 (fun z => absurd z c1)
  · unfold ve_ke at hp; rw [decide_eq_true (Or.inl (by omega))] at hp; exact hp
theorem vy_kv_l (h : ve_WG n G) {o T : Nat} (ho : o < 16) (hT : T < 9223372036854775808) : ∀ k f j r sg, ve_wt n G o k r → j + k ≤ 12 → k ≤ f + 1 → T / 16 ^ j = r → post (ve_b (ve_kv G o f sg r)) →
    wY_signed_15 post (lN T) (nI o) g_most g_mostMethods (nI n) (nI nm) g_checked g_errAt g_depth g_entered g_result g_typed (ve_i (ve_V G)) (ve_i (ve_B G)) (ve_i (ve_S G)) (ve_i (ve_A G)) b_hasField b_fld (ve_i (ve_O M)) (ve_i (ve_N M)) (ve_i (ve_P M)) (ve_i (ve_R M)) (ve_i (ve_L C)) (ve_i (ve_K C)) (ve_i (ve_Q C)) b_need b_types b_objType b_objVal b_vals b_frBody b_pc b_frThis b_frArg b_log k sg (nI (r % 16)) (nI (4 * (j + 1)))
  | 0, f, j, r, sg, w, _, _, _, _ => absurd w (fun z => z)
  | k + 1, f, j, r, sg, w, hk, hf, e, hp => by
    have b := ve_wt_48 w (by omega)
    have n12 := ve_n12 h
    have v3 := ve_V3 h (r % 16)
    have e1 : T / 16 ^ (j + 1) = r / 16 := by rw [Nat.pow_succ, ← Nat.div_div_eq_div_mul, e]
    refine pk_le 60 (4 * (j + 1)) (fun z => absurd z (by omega)) (fun _ => ⟨vp_in_nI (by omega) (by omega), ?_⟩)
    rw [ve_at (by omega)]
    refine pk_eq (ve_V G (r % 16)) 0 (fun z => vy_kv_e h ho w ?_) (fun z => ⟨vp_in_nI (by omega) (by omega), ?_⟩)
    · cases f with
      | zero => exact hp
      | succ f => unfold ve_kv at hp; rw [if_pos z] at hp; exact hp
    · have nd := ve_wt_node w z
      have nd2 : ve_wt n G o k (r / 16) := by have := nd.2; simpa using this
      have p2 := ve_wt_pos nd2
      obtain ⟨g, rfl⟩ : ∃ g, f = g + 1 := ⟨f - 1, by omega⟩
      unfold ve_kv at hp
      rw [if_neg z] at hp
      have e4 : nI (4 * (j + 1)) + 4 = nI (4 * (j + 1 + 1)) := by
        have e : (4 : Int32) = nI 4 := rfl
        rw [e, nI_add]; rfl
      have go : ∀ y : Int32, y = sg * ve_sg (ve_V G (r % 16)) → wY_signed_66 post (wY_signed_15 post (lN T) (nI o) g_most g_mostMethods (nI n) (nI nm) g_checked g_errAt g_depth g_entered g_result g_typed (ve_i (ve_V G)) (ve_i (ve_B G)) (ve_i (ve_S G)) (ve_i (ve_A G)) b_hasField b_fld (ve_i (ve_O M)) (ve_i (ve_N M)) (ve_i (ve_P M)) (ve_i (ve_R M)) (ve_i (ve_L C)) (ve_i (ve_K C)) (ve_i (ve_Q C)) b_need b_types b_objType b_objVal b_vals b_frBody b_pc b_frThis b_frArg b_log k) (lN T) (nI o) (nI (4 * (j + 1))) y g_most g_mostMethods (nI n) (nI nm) g_checked g_errAt g_depth g_entered g_result g_typed (ve_i (ve_V G)) (ve_i (ve_B G)) (ve_i (ve_S G)) (ve_i (ve_A G)) b_hasField b_fld (ve_i (ve_O M)) (ve_i (ve_N M)) (ve_i (ve_P M)) (ve_i (ve_R M)) (ve_i (ve_L C)) (ve_i (ve_K C)) (ve_i (ve_Q C)) b_need b_types b_objType b_objVal b_vals b_frBody b_pc b_frThis b_frArg b_log := by
        rintro y rfl
        unfold wY_signed_66
        rw [vl_shk hT (by omega), e1]
        exact nm_r (vl_hd (by omega)) (nm_r e4 (vy_kv_l h ho hT k g (j + 1) _ _ nd2 (by omega) (by omega) e1 hp))
      refine pk_eq (ve_V G (r % 16)) 1 (fun c => go _ ?_) (fun c => ⟨vp_in_nI (by omega) (by omega), pk_eq (ve_V G (r % 16)) 2 (fun c2 => go _ ?_) (fun c2 => go _ ?_)⟩)
      · rw [c]; show sg = sg * 1; rw [Int32.mul_one]
      · rw [c2]; show -sg = sg * (-1); grind
      · have : ve_V G (r % 16) = 3 := by omega
        rw [this]; show 0 = sg * 0; rw [Int32.mul_zero]
theorem vy_kv (h : ve_WG n G) {o k t : Nat} {sg : Int32} (ho : o < 16) (w : ve_wt n G o k t) (hk : k ≤ 12) (hp : post (ve_b (ve_kv G o 12 sg t))) : wpY_signed post (g_most, g_mostMethods, (nI n), (nI nm), g_checked, g_errAt, g_depth, g_entered, g_result, g_typed, (ve_i (ve_V G)), (ve_i (ve_B G)), (ve_i (ve_S G)), (ve_i (ve_A G)), b_hasField, b_fld, (ve_i (ve_O M)), (ve_i (ve_N M)), (ve_i (ve_P M)), (ve_i (ve_R M)), (ve_i (ve_L C)), (ve_i (ve_K C)), (ve_i (ve_Q C)), b_need, b_types, b_objType, b_objVal, b_vals, b_frBody, b_pc, b_frThis, b_frArg, b_log) (lN t) (nI o) sg := by
  have b := ve_wt_48 w hk
  exact nm_r (vl_hd (by omega)) ⟨k, vy_kv_l h ho (by omega) k 12 0 t sg w (by omega) (by omega) (by rw [Nat.pow_zero, Nat.div_one]) hp⟩
/-! members -/
theorem vy_fo_e (hH : ∀ c, c < 16 → b_hasField c = ve_b (decide (ve_E M c ≠ 0))) {c : Nat} (hc : c < 16) (hp : post (ve_d (ve_gE M c))) : wY_fieldClass_32 post (nI c) g_most g_mostMethods (nI n) (nI nm) g_checked g_errAt g_depth g_entered g_result g_typed (ve_i (ve_V G)) (ve_i (ve_B G)) (ve_i (ve_S G)) (ve_i (ve_A G)) b_hasField b_fld (ve_i (ve_O M)) (ve_i (ve_N M)) (ve_i (ve_P M)) (ve_i (ve_R M)) (ve_i (ve_L C)) (ve_i (ve_K C)) (ve_i (ve_Q C)) b_need b_types b_objType b_objVal b_vals b_frBody b_pc b_frThis b_frArg b_log := by
  unfold wY_fieldClass_32
  rw [nI_clamp (by omega), hH c hc]
  unfold ve_gE at hp
  refine ⟨vp_in_nI hc (by omega), vb_c (fun e => ?_) (fun e => ?_)⟩
  · have e := of_decide_eq_false e
    rw [if_pos (Decidable.of_not_not e)] at hp; exact hp
  · rw [if_neg (of_decide_eq_true e)] at hp; exact hp
theorem vy_fo_l (h : ve_WG n G) (hH : ∀ c, c < 16 → b_hasField c = ve_b (decide (ve_E M c ≠ 0))) : ∀ f i c, i + f = 12 → c < 16 → post (ve_d (ve_fu G (ve_gE M) f c)) → wY_fieldClass_4 post g_most g_mostMethods (nI n) (nI nm) g_checked g_errAt g_depth g_entered g_result g_typed (ve_i (ve_V G)) (ve_i (ve_B G)) (ve_i (ve_S G)) (ve_i (ve_A G)) b_hasField b_fld (ve_i (ve_O M)) (ve_i (ve_N M)) (ve_i (ve_P M)) (ve_i (ve_R M)) (ve_i (ve_L C)) (ve_i (ve_K C)) (ve_i (ve_Q C)) b_need b_types b_objType b_objVal b_vals b_frBody b_pc b_frThis b_frArg b_log (f + 1) (nI c) (nI i)
  | 0, i, c, hi, hc, hp => pk_le 12 i (fun _ => vy_fo_e hH hc hp) (fun z => absurd z (by omega))
  | f + 1, i, c, hi, hc, hp => by
    have hs := ve_Sle h c
    refine pk_le 12 i (fun z => absurd z (by omega)) (fun _ => ⟨vp_in_nI hc (by omega), ?_⟩)
    rw [nI_clamp (by omega), hH c hc]
    unfold ve_fu at hp
    refine vb_c (fun e => ⟨vp_in_nI hc (by omega), nm_r (e' := nI (ve_S G c)) rfl (nm_r (nI_1 i) ?_)⟩) (fun e => vy_fo_e hH hc ?_)
    · have e := Decidable.of_not_not (of_decide_eq_false e)
      rw [if_pos (by unfold ve_gE; rw [if_pos e])] at hp
      exact vy_fo_l h hH f (i + 1) _ (by omega) (by omega) hp
    · have e := of_decide_eq_true e
      rw [if_neg (by unfold ve_gE; rw [if_neg e]; omega)] at hp; exact hp
theorem vy_fo (h : ve_WG n G) (hH : ∀ c, c < 16 → b_hasField c = ve_b (decide (ve_E M c ≠ 0))) {c : Nat} (hc : c < 16) (hp : post (ve_d (ve_fc G M c))) : wpY_fieldClass post (g_most, g_mostMethods, (nI n), (nI nm), g_checked, g_errAt, g_depth, g_entered, g_result, g_typed, (ve_i (ve_V G)), (ve_i (ve_B G)), (ve_i (ve_S G)), (ve_i (ve_A G)), b_hasField, b_fld, (ve_i (ve_O M)), (ve_i (ve_N M)), (ve_i (ve_P M)), (ve_i (ve_R M)), (ve_i (ve_L C)), (ve_i (ve_K C)), (ve_i (ve_Q C)), b_need, b_types, b_objType, b_objVal, b_vals, b_frBody, b_pc, b_frThis, b_frArg, b_log) (nI c) :=
  ⟨12 + 1, vy_fo_l h hH 12 0 c rfl hc hp⟩
/-- the best method so far -/
def ve_bm (G : ve_T) (M : ve_M) (c k m b : Nat) : Prop :=
  (b = 0 ∧ ∀ j, j < m → ve_N M j = k → ¬ ve_an G c (ve_O M j)) ∨
  (∃ i, b = i + 1 ∧ i < m ∧ ve_N M i = k ∧ ve_an G c (ve_O M i) ∧ ∀ j, j < m → ve_N M j = k → ve_an G c (ve_O M j) → ve_O M j ≤ ve_O M i)
theorem ve_bm_mt (h : ve_WG n G) (w : ve_WM n nm G M) {c k b : Nat} (hk : k < 4) (q : ve_bm G M c k nm b) : b = ve_mt G M c k := by
  have gd : ∀ i, i < nm → ve_N M i = k → ve_gD M k (ve_O M i) = i + 1 := by
    intro i hi e
    have := (w.2.1 i hi).1.2.2
    rw [e] at this; exact this
  unfold ve_mt
  rcases ve_fi_sp (g := ve_gD M k) h c with ⟨e, r⟩ | ⟨a, x, y, e, r⟩
  · rw [e]
    rcases q with q | ⟨i, q1, q2, q3, q4, _⟩
    · exact q.1
    · have := r _ q4
      rw [gd i q2 q3] at this; omega
  · rw [e]
    obtain ⟨m', a1, a2, a3⟩ := w.2.2.1 _ y
    have wm := (w.2.1 m' a1).1
    have e1 : a = ve_O M m' := by omega
    have e2 : ve_N M m' = k := by omega
    rcases q with q | ⟨i, q1, q2, q3, q4, q5⟩
    · exact absurd (by rw [← e1]; exact x) (q.2 m' a1 e2)
    · have l1 := q5 m' a1 e2 (by rw [← e1]; exact x)
      have l2 := ve_an_le h (r _ q4 (by rw [gd i q2 q3]; omega))
      have : ve_O M i = a := by omega
      rw [q1, ← gd i q2 q3, this]
theorem vy_mo_l (h : ve_WG n G) (w : ve_WM n nm G M) {c k : Nat} (hc : c < 16) (hk : k < 4) : ∀ f m b, m + f = nm → ve_bm G M c k m b → post (ve_d (ve_mt G M c k)) →
    wY_methodOf_5 post (nI c) (nI k) g_most g_mostMethods (nI n) (nI nm) g_checked g_errAt g_depth g_entered g_result g_typed (ve_i (ve_V G)) (ve_i (ve_B G)) (ve_i (ve_S G)) (ve_i (ve_A G)) b_hasField b_fld (ve_i (ve_O M)) (ve_i (ve_N M)) (ve_i (ve_P M)) (ve_i (ve_R M)) (ve_i (ve_L C)) (ve_i (ve_K C)) (ve_i (ve_Q C)) b_need b_types b_objType b_objVal b_vals b_frBody b_pc b_frThis b_frArg b_log (f + 1) (ve_d b) (nI m)
  | 0, m, b, hm, q, hp => by
    have n12 := w.1
    have e : m = nm := by omega
    subst e
    refine pk_le m m (fun _ => ?_) (fun z => absurd z (by omega))
    rw [ve_bm_mt h w hk q]; exact hp
  | f + 1, m, b, hm, q, hp => by
    have n12 := w.1
    have nn := ve_n12 h
    have wm := (w.2.1 m (by omega)).1
    have bb : b ≤ m := by
      rcases q with q | ⟨i, q1, q2, _⟩ <;> omega
    refine pk_le nm m (fun z => absurd z (by omega)) (fun _ => ⟨vp_in_nI (by omega) (by omega), ?_⟩)
    rw [ve_at (by omega), ve_at (by omega)]
    have skip : (ve_N M m = k → ¬ ve_an G c (ve_O M m)) → ve_bm G M c k (m + 1) b := by
      intro y
      have st : ∀ j, j < m + 1 → j ≠ m → j < m := fun j _ _ => by omega
      rcases q with q | ⟨i, q1, q2, q3, q4, q5⟩
      · refine Or.inl ⟨q.1, fun j hj e => ?_⟩
        by_cases z : j = m
        · subst z; exact y e
        · exact q.2 j (by omega) e
      · refine Or.inr ⟨i, q1, by omega, q3, q4, fun j hj e x => ?_⟩
        by_cases z : j = m
        · subst z; exact absurd x (y e)
        · exact q5 j (by omega) e x
    refine pk_eq (ve_N M m) k (fun e => ⟨vp_in_nI (by omega) (by omega), vy_below h (by omega) hc (vb_c (fun y => nm_r (nI_1 m) ?_) (fun y => ?_))⟩) (fun e => nm_r (nI_1 m) ?_)
    · exact vy_mo_l h w hc hk f (m + 1) b (by omega) (skip (fun _ => (ve_bl_f h).mp y)) hp
    · have x := (ve_bl_iff h).mp y
      refine vd_lt (by omega) (fun b0 => nm_r (nI_1 m) ?_) (fun i bi => ⟨vp_in_nI (by omega) (by omega), ?_⟩)
      · refine vy_mo_l h w hc hk f (m + 1) (m + 1) (by omega) (Or.inr ⟨m, rfl, by omega, e, x, fun j hj e' x' => ?_⟩) hp
        by_cases z : j = m
        · subst z; exact Nat.le_refl _
        · rcases q with q | ⟨i, q1, _⟩
          · exact absurd x' (q.2 j (by omega) e')
          · omega
      · subst bi
        rcases q with q | ⟨i', q1, q2, q3, q4, q5⟩
        · omega
        · have : i' = i := by omega
          subst this
          have wi := (w.2.1 i' (by omega)).1
          refine ⟨vp_in_nI (by omega) (by omega), ?_⟩
          show (nI (ve_O M m) ≤ ve_i (ve_O M) (nI i').toNatClampNeg → _) ∧ (¬ nI (ve_O M m) ≤ ve_i (ve_O M) (nI i').toNatClampNeg → _)
          rw [ve_at (by omega)]
          refine pk_le (ve_O M m) (ve_O M i') (fun y => nm_r (nI_1 m) ?_) (fun y => nm_r (nI_1 m) ?_)
          · refine vy_mo_l h w hc hk f (m + 1) (i' + 1) (by omega) (Or.inr ⟨i', rfl, by omega, q3, q4, fun j hj e' x' => ?_⟩) hp
            by_cases z : j = m
            · subst z; exact y
            · exact q5 j (by omega) e' x'
          · refine vy_mo_l h w hc hk f (m + 1) (m + 1) (by omega) (Or.inr ⟨m, rfl, by omega, e, x, fun j hj e' x' => ?_⟩) hp
            by_cases z : j = m
            · subst z; exact Nat.le_refl _
            · have := q5 j (by omega) e' x'; omega
    · exact vy_mo_l h w hc hk f (m + 1) b (by omega) (skip (fun z => absurd z e)) hp
theorem vy_mo (h : ve_WG n G) (w : ve_WM n nm G M) {c k : Nat} (hc : c < 16) (hk : k < 4) (hp : post (ve_d (ve_mt G M c k))) : wpY_methodOf post (g_most, g_mostMethods, (nI n), (nI nm), g_checked, g_errAt, g_depth, g_entered, g_result, g_typed, (ve_i (ve_V G)), (ve_i (ve_B G)), (ve_i (ve_S G)), (ve_i (ve_A G)), b_hasField, b_fld, (ve_i (ve_O M)), (ve_i (ve_N M)), (ve_i (ve_P M)), (ve_i (ve_R M)), (ve_i (ve_L C)), (ve_i (ve_K C)), (ve_i (ve_Q C)), b_need, b_types, b_objType, b_objVal, b_vals, b_frBody, b_pc, b_frThis, b_frArg, b_log) (nI c) (nI k) :=
  ⟨nm + 1, vy_mo_l h w hc hk nm 0 0 (by omega) (Or.inl ⟨rfl, fun j hj => by omega⟩) hp⟩
end
end
section
/-! a table with one cls more -/
def ve_G' (G : ve_T) (n va b s a : Nat) : ve_T := (ve_u (ve_V G) n va, ve_u (ve_B G) n b, ve_u (ve_S G) n s, ve_u (ve_A G) n a)
section
variable {n nm va b s a : Nat} {G : ve_T} {M : ve_M} {C : ve_C}
theorem vg_V {d : Nat} (hd : d ≠ n) : ve_V (ve_G' G n va b s a) d = ve_V G d := ve_u_n (f := ve_V G) hd
theorem vg_B {d : Nat} (hd : d ≠ n) : ve_B (ve_G' G n va b s a) d = ve_B G d := ve_u_n (f := ve_B G) hd
theorem vg_S {d : Nat} (hd : d ≠ n) : ve_S (ve_G' G n va b s a) d = ve_S G d := ve_u_n (f := ve_S G) hd
theorem vg_A {d : Nat} (hd : d ≠ n) : ve_A (ve_G' G n va b s a) d = ve_A G d := ve_u_n (f := ve_A G) hd
theorem vg_Vn : ve_V (ve_G' G n va b s a) n = va := ve_u_s (f := ve_V G)
theorem vg_Bn : ve_B (ve_G' G n va b s a) n = b := ve_u_s (f := ve_B G)
theorem vg_Sn : ve_S (ve_G' G n va b s a) n = s := ve_u_s (f := ve_S G)
theorem vg_An : ve_A (ve_G' G n va b s a) n = a := ve_u_s (f := ve_A G)
theorem vg_Sd (h : ve_WG n G) (d : Nat) : ve_S G d ≠ n := by have := ve_Sltn h d; omega
theorem vg_cl (h : ve_WG n G) : ∀ k d, d ≠ n → ve_cl (ve_G' G n va b s a) k d = ve_cl G k d
  | 0, _, _ => rfl
  | k + 1, d, hd => by
    show ve_cl (ve_G' G n va b s a) k (ve_S (ve_G' G n va b s a) d) = ve_cl G k (ve_S G d)
    rw [vg_S hd, vg_cl h k _ (vg_Sd h d)]
theorem vg_an (h : ve_WG n G) {d c : Nat} (hd : d ≠ n) : ve_an (ve_G' G n va b s a) d c ↔ ve_an G d c := by
  unfold ve_an
  exact ⟨fun ⟨k, e⟩ => ⟨k, by rw [← vg_cl h k d hd]; exact e⟩, fun ⟨k, e⟩ => ⟨k, by rw [vg_cl h k d hd]; exact e⟩⟩
theorem vg_be (h : ve_WG n G) {c : Nat} : ∀ f d, d ≠ n → ve_be (ve_G' G n va b s a) c f d = ve_be G c f d
  | 0, _, _ => rfl
  | f + 1, d, hd => by
    unfold ve_be
    rw [vg_S hd, vg_be h f _ (vg_Sd h d)]
/-- the table stays well formed -/
theorem vg_WG (h : ve_WG n G) (hn : n < 12) (hva : va ≤ 3) (hs : s < n) (hb : b < n) (hvb : ve_V G b = 0)
    (h0 : ve_V G s = 0 → a = 0) (h1 : ve_V G s ≠ 0 → (a = 15 ∧ va ≠ 0 ∧ (va = 3 ∨ va = ve_V G s) ∧ ve_an G b (ve_B G s)) ∨ (a < n ∧ ve_V G a = 0 ∧ ve_an G a (ve_B G s)) ∨ (a = n ∧ va = 0 ∧ ve_an G s (ve_B G s))) :
    ve_WG (n + 1) (ve_G' G n va b s a) := by
  have n1 := ve_n1 h
  refine ⟨⟨by omega, by omega⟩, by rw [vg_V (by omega)]; exact ve_V0 h, by rw [vg_S (by omega)]; exact ve_S0 h, fun c hc => ?_, fun c hc => ?_, fun c => ?_, fun c hc => ?_, fun c hc hv => ?_⟩
  · rw [vg_V (by omega), vg_B (by omega), vg_S (by omega), vg_A (by omega)]
    exact h.2.2.2.1 c (by omega)
  · by_cases z : c = n
    · subst z; rw [vg_Sn]; exact hs
    · rw [vg_S z]; exact ve_Slt h hc
  · by_cases z : c = n
    · subst z; rw [vg_An]
      by_cases y : ve_V G s = 0
      · have := h0 y; omega
      · rcases h1 y with q | q | q <;> omega
    · rw [vg_A z]; exact ve_A15 h c
  · by_cases z : c = n
    · subst z; rw [vg_Vn, vg_Bn, vg_V (by omega)]
      exact ⟨hva, by omega, hvb⟩
    · have := ve_Blt h c
      rw [vg_V z, vg_B z, vg_V (by omega)]
      exact ⟨ve_V3 h c, by omega, ve_VB h c⟩
  · by_cases z : c = n
    · subst z
      rw [vg_Sn] at hv
      have sn : s ≠ c := by omega
      rw [vg_V sn] at hv
      rw [vg_An, vg_Vn, vg_Sn, vg_V sn, vg_Bn, vg_B sn]
      rcases h1 hv with q | q | q
      · exact Or.inl ⟨q.1, q.2.1, q.2.2.1, (vg_an h (by omega)).mpr q.2.2.2⟩
      · exact Or.inr ⟨by omega, by rw [vg_V (by omega)]; exact q.2.1, (vg_an h (by omega)).mpr q.2.2⟩
      · refine Or.inr ⟨by omega, by rw [q.1, vg_Vn]; exact q.2.1, ?_⟩
        rw [q.1]
        refine ve_an_t (ve_an_S c) ?_
        rw [vg_Sn]
        exact (vg_an h sn).mpr q.2.2
    · rw [vg_S z] at hv ⊢
      have sn := vg_Sd h c
      rw [vg_V sn] at hv ⊢
      rw [vg_A z, vg_V z, vg_B z, vg_B sn]
      have hb := ve_Blt h c
      rcases ve_hd h (show c < n by omega) hv with q | q
      · exact Or.inl ⟨q.1, q.2.1, q.2.2.1, (vg_an h (by omega)).mpr q.2.2.2⟩
      · exact Or.inr ⟨by omega, by rw [vg_V (by omega)]; exact q.2.1, (vg_an h (by omega)).mpr q.2.2⟩
theorem vg_dg (h : ve_WG n G) (hn : n < 12) {o k t : Nat} (w : ve_wt n G o k t) : t % 16 ≠ n := by
  by_cases hv : ve_V G (t % 16) = 0
  · have l := ve_wt_leaf w hv
    rcases l.2.2.2 with z | z <;> omega
  · have := ve_lt h hv; omega
theorem vg_wt (h : ve_WG n G) (hn : n < 12) {o : Nat} (ho : o ≠ n) : ∀ k t, ve_wt n G o k t → ve_wt (n + 1) (ve_G' G n va b s a) o k t := by
  intro k
  induction k with
  | zero => intro t w; exact absurd w (fun z => z)
  | succ k ih =>
    intro t w
    have dg := vg_dg h hn w
    by_cases hv : ve_V G (t % 16) = 0
    · have l := ve_wt_leaf w hv
      have : k = 0 := by omega
      subst this
      refine ⟨l.2.1, by rw [l.2.2.1] at dg hv; rw [vg_V dg]; exact hv, ?_⟩
      rw [vg_V ho]
      rcases l.2.2.2 with z | z
      · exact Or.inl z
      · exact Or.inr (by omega)
    · have nd := ve_wt_node w hv
      exact ve_wt_mk (by rw [vg_V dg]; exact hv) (ih _ nd.2)
theorem vg_st (h : ve_WG n G) {v : Nat} (hv : v % 16 ≠ n) : ve_st (ve_G' G n va b s a) v = ve_st G v := by
  unfold ve_st
  rw [vg_S hv, vg_A hv, vg_V (vg_Sd h _)]
theorem vg_se (h : ve_WG n G) {c : Nat} : ∀ f v, v % 16 ≠ n → ve_se (ve_G' G n va b s a) c f v = ve_se G c f v
  | 0, _, _ => rfl
  | f + 1, v, hv => by
    unfold ve_se
    rw [vg_st h hv, vg_se h f _ (by rw [ve_st_hd h]; exact vg_Sd h _)]
theorem vg_ar (h : ve_WG n G) {c v : Nat} (hv : v % 16 ≠ n) : ve_ar (ve_G' G n va b s a) v c = ve_ar G v c := by
  unfold ve_ar ve_sn
  rw [vg_se h 12 v hv]
theorem vg_su (h : ve_WG n G) (hn : n < 12) {o : Nat} (ho : o ≠ n) : ∀ f k1 k2 x y, ve_wt n G o k1 x → ve_wt n G o k2 y → ve_su G o f x y = true → ve_su (ve_G' G n va b s a) o f x y = true := by
  intro f
  induction f with
  | zero => intro k1 k2 x y _ _ e; exact absurd e (by simp [ve_su])
  | succ f ih =>
    have main : ∀ k1 k2 x y, ve_wt n G o k1 x → ve_wt n G o k2 y → x ≠ 15 → ve_sv G (ve_su G o f) x y = true → ve_sv (ve_G' G n va b s a) (ve_su (ve_G' G n va b s a) o f) x y = true := by
      intro k1 k2 x y w1 w2 hx e
      have d1 := vg_dg h hn w1
      have d2 := vg_dg h hn w2
      have e' := e
      rw [ve_sv_iff h] at e'
      unfold ve_sv at e ⊢
      have eb : ve_bl (ve_G' G n va b s a) (x % 16) (y % 16) = ve_bl G (x % 16) (y % 16) := vg_be h 12 _ d1
      rw [eb, vg_V d2, vg_ar h d1]
      have hbl := (ve_bl_iff h).mpr e'.1
      rw [if_pos hbl] at e ⊢
      by_cases z0 : ve_V G (y % 16) = 0
      · rw [if_pos z0]
      · rw [if_neg z0] at e ⊢
        by_cases z3 : ve_V G (y % 16) = 3
        · rw [if_pos z3] at e ⊢; exact e
        · rw [if_neg z3] at e ⊢
          obtain ⟨k3, _, _, c3⟩ := ve_ar_wt h e'.1 w1 hx
          have nd := ve_wt_node w2 z0
          by_cases z1 : ve_V G (y % 16) = 1
          · rw [if_pos z1] at e ⊢; exact ih _ _ _ _ c3 nd.2 e
          · rw [if_neg z1] at e ⊢; exact ih _ _ _ _ nd.2 c3 e
    intro k1 k2 x y w1 w2 e
    unfold ve_su at e ⊢
    by_cases hy : y = 15
    · rw [if_pos hy] at e ⊢; exact e
    · rw [if_neg hy] at e ⊢
      by_cases hx : x = 15
      · rw [if_pos hx] at e ⊢
        rw [vg_B ho]
        have hB := ve_Blt h o
        exact main 1 k2 _ y (ve_wt_c h hB (ve_VB h o)) w2 (by omega) e
      · rw [if_neg hx] at e ⊢
        exact main k1 k2 x y w1 w2 hx e
theorem vg_Su (h : ve_WG n G) (hn : n < 12) {o k1 k2 x y : Nat} (ho : o ≠ n) (w1 : ve_wt n G o k1 x) (w2 : ve_wt n G o k2 y) (q : ve_Su G o x y) : ve_Su (ve_G' G n va b s a) o x y := by
  obtain ⟨f, e⟩ := q
  exact ⟨f, vg_su h hn ho f k1 k2 x y w1 w2 e⟩
theorem vg_kv (h : ve_WG n G) (hn : n < 12) {o : Nat} (ho : o ≠ n) : ∀ k f sg t, ve_wt n G o k t → ve_kv (ve_G' G n va b s a) o f sg t = ve_kv G o f sg t := by
  intro k
  have ke : ∀ sg t, ve_ke (ve_G' G n va b s a) o sg t = ve_ke G o sg t := by
    intro sg t; unfold ve_ke; rw [vg_V ho]
  induction k with
  | zero => intro f sg t w; exact absurd w (fun z => z)
  | succ k ih =>
    intro f sg t w
    cases f with
    | zero => exact ke sg t
    | succ f =>
      unfold ve_kv
      rw [vg_V (vg_dg h hn w), ke]
      by_cases hv : ve_V G (t % 16) = 0
      · rw [if_pos hv, if_pos hv]
      · rw [if_neg hv, if_neg hv]
        exact ih f _ _ (ve_wt_node w hv).2
theorem vg_ss (h : ve_WG n G) (hn : n < 12) {o p : Nat} : ∀ k f t, ve_wt n G o k t → ve_sb (ve_G' G n va b s a) p f t = ve_sb G p f t := by
  intro k
  induction k with
  | zero => intro f t w; exact absurd w (fun z => z)
  | succ k ih =>
    intro f t w
    cases f with
    | zero => rfl
    | succ f =>
      unfold ve_sb
      rw [vg_V (vg_dg h hn w)]
      by_cases hv : ve_V G (t % 16) = 0
      · rw [if_pos hv, if_pos hv]
      · rw [if_neg hv, if_neg hv, ih f _ (ve_wt_node w hv).2]
theorem vg_th (h : ve_WG n G) (hn : n < 12) {o k w c v : Nat} (ww : ve_wt n G o k w) (hv : v % 16 ≠ n) : ve_th (ve_G' G n va b s a) w c v = ve_th G w c v := by
  unfold ve_th ve_ss
  rw [vg_ar h hv, vg_ss h hn k 12 w ww]
theorem vg_sf {c : Nat} (hc : c ≠ n) : ve_sf (ve_G' G n va b s a) c = ve_sf G c := by
  unfold ve_sf; rw [vg_V hc]
theorem vg_fu (h : ve_WG n G) {g : Nat → Nat} : ∀ f c, c ≠ n → ve_fu (ve_G' G n va b s a) g f c = ve_fu G g f c
  | 0, _, _ => rfl
  | f + 1, c, hc => by
    unfold ve_fu
    rw [vg_S hc, vg_fu h f _ (vg_Sd h c)]
theorem vg_mt (h : ve_WG n G) {c k : Nat} (hc : c ≠ n) : ve_mt (ve_G' G n va b s a) M c k = ve_mt G M c k := vg_fu h 12 c hc
theorem vg_W3 (h : ve_WG n G) (hn : n < 12) {o t : Nat} (ho : o ≠ n) (w : ve_W3 n G o t) : ve_W3 (n + 1) (ve_G' G n va b s a) o t := by
  obtain ⟨k, hk, w⟩ := w
  exact ⟨k, hk, vg_wt h hn ho k t w⟩
theorem vg_WM (h : ve_WG n G) (hn : n < 12) (w : ve_WM n nm G M) : ve_WM (n + 1) nm (ve_G' G n va b s a) M := by
  refine ⟨w.1, fun m hm => ?_, w.2.2.1, fun c hc => ?_, fun c d hc hd x => ?_, w.2.2.2.2.2⟩
  · obtain ⟨a1, a2, a3, a4, a5, a6⟩ := w.2.1 m hm
    have on : ve_O M m ≠ n := by omega
    refine ⟨⟨by omega, a1.2⟩, vg_W3 h hn on a2, vg_W3 h hn on a3, ?_, ?_, ?_⟩
    · obtain ⟨k, _, wp⟩ := a2; rw [vg_kv h hn on k 12 _ _ wp]; exact a4
    · obtain ⟨k, _, wr⟩ := a3; rw [vg_kv h hn on k 12 _ _ wr]; exact a5
    · intro o0 u e
      rw [vg_S on, vg_mt h (vg_Sd h _)] at e
      have s1 := ve_mt_s h w a1.2.1 e
      have wu := w.2.1 u s1.1
      have r := a6 o0 u e
      obtain ⟨kp, hkp, wp⟩ := wu.2.1
      obtain ⟨kr, hkr, wr⟩ := wu.2.2.1
      have sh := ve_sf_hd h a1.1
      have sx := ve_sf_15 h a1.1
      obtain ⟨ks, hks, ws⟩ := ve_sf_wt h a1.1
      have x1 : ve_an G (ve_sf G (ve_O M m) % 16) (ve_O M u) := by rw [sh]; exact ve_an_t (ve_an_S _) s1.2.1
      rw [vg_sf on, vg_th h hn wp (by rw [sh]; exact on), vg_th h hn wr (by rw [sh]; exact on)]
      obtain ⟨_, _, t1⟩ := ve_th_wt h x1 wp (by omega) ws sx
      obtain ⟨_, _, t2⟩ := ve_th_wt h x1 wr (by omega) ws sx
      obtain ⟨_, _, wp'⟩ := a2
      obtain ⟨_, _, wr'⟩ := a3
      exact ⟨vg_Su h hn on t1 wp' r.1, vg_Su h hn on wr' t2 r.2⟩
  · obtain ⟨c1, c2, c3⟩ := w.2.2.2.1 c hc
    refine ⟨by omega, vg_W3 h hn (by omega) c2, ?_⟩
    obtain ⟨k, _, wt⟩ := c2
    rw [vg_kv h hn (by omega) k 12 _ _ wt]; exact c3
  · have c1 := (w.2.2.2.1 c hc).1
    exact w.2.2.2.2.1 c d hc hd ((vg_an h (by omega)).mp x)
theorem vg_NW (h : ve_WG n G) (hn : n < 12) {o op : Nat} (ho : o ≠ n) (w : ve_NW n G o op) : ve_NW (n + 1) (ve_G' G n va b s a) o op := by
  obtain ⟨⟨k, hk, w, w3⟩, hx, hb⟩ := w
  have dg := vg_dg h hn w
  refine ⟨⟨k, hk, vg_wt h hn ho k op w, w3⟩, hx, fun hv => ?_⟩
  rw [vg_V dg] at hv
  rw [vg_B dg]
  have nd := ve_wt_node w hv
  exact vg_Su h hn ho nd.2 (ve_wt_c h (ve_Blt h _) (ve_VB h _)) (hb hv)
theorem vg_O (w : ve_WM n nm G M) (h : ve_WG n G) (m : Nat) : ve_O M m < n := by
  rcases Nat.lt_or_ge m nm with z | z
  · exact (w.2.1 m z).1.1
  · rw [w.2.2.2.2.2 m z]; exact ve_n1 h
theorem vg_TK (h : ve_WG n G) (hn : n < 12) (w : ve_WM n nm G M) {bd kd op : Nat} (t : ve_TK n G M bd kd op) : ve_TK (n + 1) (ve_G' G n va b s a) M bd kd op :=
  ⟨t.1, t.2.1, t.2.2.1, fun e => vg_NW h hn (by have := vg_O w h bd; omega) (t.2.2.2 e)⟩
end
/-! the bodies -/
def ve_WC (n nm : Nat) (G : ve_T) (M : ve_M) (C : ve_C) : Prop :=
  (∀ b, b < nm ∨ b = 12 → ve_L C b ≤ 8 ∧ ∀ k, k < ve_L C b → ve_TK n G M b (ve_K C (8 * b + k)) (ve_Q C (8 * b + k))) ∧ (∀ b, nm ≤ b → b ≠ 12 → ve_L C b = 0) ∧ (∀ j, ve_Q C j < 4096)
section
variable {n nm : Nat} {G : ve_T} {M : ve_M} {C : ve_C}
theorem vg_WC {va b s a : Nat} (h : ve_WG n G) (hn : n < 12) (w : ve_WM n nm G M) (c : ve_WC n nm G M C) : ve_WC (n + 1) nm (ve_G' G n va b s a) M C :=
  ⟨fun bd hb => ⟨(c.1 bd hb).1, fun k hk => vg_TK h hn w ((c.1 bd hb).2 k hk)⟩, c.2⟩
/-- a field more -/
def ve_Mf (M : ve_M) (c t : Nat) : ve_M := (ve_u (ve_E M) c (t + 1), ve_D M, ve_O M, ve_P M, ve_R M, ve_N M)
theorem vg_fWM (h : ve_WG n G) (w : ve_WM n nm G M) {c t : Nat} (hc : c < n) (wt : ve_W3 n G c t) (kv : ve_kv G c 12 1 t = true)
    (nf : ∀ k, ve_E M k ≠ 0 → ¬ ve_an G k c ∧ ¬ ve_an G c k) : ve_WM n nm G (ve_Mf M c t) := by
  refine ⟨w.1, w.2.1, w.2.2.1, fun d hd => ?_, fun x y hx hy z => ?_, w.2.2.2.2.2⟩
  · by_cases e : d = c
    · subst e
      have e2 : ve_E (ve_Mf M d t) d = t + 1 := ve_u_s (f := ve_E M)
      rw [e2, Nat.add_sub_cancel]
      exact ⟨hc, wt, kv⟩
    · have e2 : ve_E (ve_Mf M c t) d = ve_E M d := ve_u_n (f := ve_E M) e
      rw [e2] at hd ⊢
      exact w.2.2.2.1 d hd
  · by_cases e : x = c
    · by_cases e' : y = c
      · rw [e, e']
      · have e2 : ve_E (ve_Mf M c t) y = ve_E M y := ve_u_n (f := ve_E M) e'
        rw [e2] at hy
        rw [e] at z
        exact absurd z (nf y hy).2
    · have e1 : ve_E (ve_Mf M c t) x = ve_E M x := ve_u_n (f := ve_E M) e
      rw [e1] at hx
      by_cases e' : y = c
      · rw [e'] at z
        exact absurd z (nf x hx).1
      · have e2 : ve_E (ve_Mf M c t) y = ve_E M y := ve_u_n (f := ve_E M) e'
        rw [e2] at hy
        exact w.2.2.2.2.1 x y hx hy z
/-- a method more -/
def ve_Mm (M : ve_M) (nm c k p r : Nat) : ve_M := (ve_E M, ve_u (ve_D M) (4 * c + k) (nm + 1), ve_u (ve_O M) nm c, ve_u (ve_P M) nm p, ve_u (ve_R M) nm r, ve_u (ve_N M) nm k)
theorem ve_fi_c (h : ve_WG n G) {g g' : Nat → Nat} : ∀ c, (∀ a, ve_an G c a → g' a = g a) → ve_fi G g' c = ve_fi G g c := by
  refine ve_ci h (fun e => ?_) (fun c hc ih e => ?_)
  · have e0 := e 0 (ve_an_r 0)
    by_cases z : g 0 = 0
    · have key : ∀ (g : Nat → Nat), g 0 = 0 → ∀ f, ve_fu G g f 0 = 0 := by
        intro g z f
        induction f with
        | zero => exact z
        | succ f ih => unfold ve_fu; rw [if_pos z, ve_S0 h]; exact ih
      exact (key g' (by rw [e0]; exact z) 12).trans (key g z 12).symm
    · rw [ve_fi_r z, ve_fi_r (by rw [e0]; exact z), e0]
  · have e0 := e c (ve_an_r c)
    by_cases z : g c = 0
    · rw [ve_fi_u h z, ve_fi_u h (by rw [e0]; exact z)]
      exact ih (fun a x => e a (ve_an_t (ve_an_S c) x))
    · rw [ve_fi_r z, ve_fi_r (by rw [e0]; exact z), e0]
theorem vg_mWM (h : ve_WG n G) (w : ve_WM n nm G M) {c k p r : Nat} (hnm : nm < 12) (hc : c < n) (hk : k < 4) (wp : ve_W3 n G c p) (wr : ve_W3 n G c r) (kp : ve_kv G c 12 (-1) p = true) (kr : ve_kv G c 12 1 r = true)
    (nd : ∀ m, m < nm → ve_N M m = k → ¬ ve_an G (ve_O M m) c)
    (ov : c ≠ 0 → ∀ u, ve_mt G M (ve_S G c) k = u + 1 → ve_Su G c (ve_th G (ve_P M u) (ve_O M u) (ve_sf G c)) p ∧ ve_Su G c r (ve_th G (ve_R M u) (ve_O M u) (ve_sf G c))) :
    ve_WM n (nm + 1) G (ve_Mm M nm c k p r) := by
  have eO : ∀ m, m ≠ nm → ve_O (ve_Mm M nm c k p r) m = ve_O M m := fun m hm => ve_u_n (f := ve_O M) hm
  have eP : ∀ m, m ≠ nm → ve_P (ve_Mm M nm c k p r) m = ve_P M m := fun m hm => ve_u_n (f := ve_P M) hm
  have eR : ∀ m, m ≠ nm → ve_R (ve_Mm M nm c k p r) m = ve_R M m := fun m hm => ve_u_n (f := ve_R M) hm
  have eN : ∀ m, m ≠ nm → ve_N (ve_Mm M nm c k p r) m = ve_N M m := fun m hm => ve_u_n (f := ve_N M) hm
  have eD : ∀ j, j ≠ 4 * c + k → ve_D (ve_Mm M nm c k p r) j = ve_D M j := fun j hj => ve_u_n (f := ve_D M) hj
  have nO : ve_O (ve_Mm M nm c k p r) nm = c := ve_u_s (f := ve_O M)
  have nP : ve_P (ve_Mm M nm c k p r) nm = p := ve_u_s (f := ve_P M)
  have nR : ve_R (ve_Mm M nm c k p r) nm = r := ve_u_s (f := ve_R M)
  have nN : ve_N (ve_Mm M nm c k p r) nm = k := ve_u_s (f := ve_N M)
  have nD : ve_D (ve_Mm M nm c k p r) (4 * c + k) = nm + 1 := ve_u_s (f := ve_D M)
  have mtc : ∀ d j, j < 4 → (j = k → ¬ ve_an G d c) → ve_mt G (ve_Mm M nm c k p r) d j = ve_mt G M d j := by
    intro d j hj hn
    refine ve_fi_c h d (fun a x => ?_)
    refine eD _ (fun e => ?_)
    have e1 : a = c := by omega
    have e2 : j = k := by omega
    subst e1
    exact hn e2 x
  refine ⟨by omega, fun m hm => ?_, fun j hj => ?_, w.2.2.2.1, w.2.2.2.2.1, fun m hm => ?_⟩
  · by_cases z : m = nm
    · subst z
      unfold ve_WMm ve_OV
      rw [nO, nP, nR, nN]
      refine ⟨⟨hc, hk, nD⟩, wp, wr, kp, kr, fun c0 u e => ?_⟩
      rw [mtc _ _ hk (fun _ x => by have := ve_an_le h x; have := ve_Slt h (c := c) (by omega); omega)] at e
      have s1 := ve_mt_s h w hk e
      rw [eO u (by omega), eP u (by omega), eR u (by omega)]
      exact ov c0 u e
    · have hm' : m < nm := by omega
      obtain ⟨a1, a2, a3, a4, a5, a6⟩ := w.2.1 m hm'
      unfold ve_WMm ve_OV
      rw [eO m z, eP m z, eR m z, eN m z]
      refine ⟨⟨a1.1, a1.2.1, ?_⟩, a2, a3, a4, a5, fun c0 u e => ?_⟩
      · rw [eD _ (fun e => ?_)]
        · exact a1.2.2
        · have e1 : ve_O M m = c := by omega
          have e2 : ve_N M m = k := by omega
          exact nd m hm' e2 (by rw [e1]; exact ve_an_r c)
      · rw [mtc _ _ a1.2.1 (fun e2 x => nd m hm' e2 (ve_an_t (ve_an_S _) x))] at e
        have s1 := ve_mt_s h w a1.2.1 e
        rw [eO u (by omega), eP u (by omega), eR u (by omega)]
        exact a6 c0 u e
  · by_cases z : j = 4 * c + k
    · subst z
      exact ⟨nm, by omega, nD, by rw [nO, nN]⟩
    · rw [eD j z] at hj ⊢
      obtain ⟨m, m1, m2, m3⟩ := w.2.2.1 j hj
      exact ⟨m, by omega, m2, by rw [eO m (by omega), eN m (by omega)]; exact m3⟩
  · rw [eO m (by omega)]; exact w.2.2.2.2.2 m (by omega)
theorem vg_mWC {c k p r : Nat} (hnm : nm < 12) (wc : ve_WC n nm G M C) : ve_WC n (nm + 1) G (ve_Mm M nm c k p r) C := by
  refine ⟨fun b hb => ?_, fun b h1 h2 => wc.2.1 b (by omega) h2, wc.2.2⟩
  by_cases z : b = nm
  · subst z
    have := wc.2.1 b (Nat.le_refl _) (by omega)
    rw [this]
    exact ⟨by omega, fun k hk => by omega⟩
  · have := wc.1 b (by omega)
    refine ⟨this.1, fun k' hk => ?_⟩
    have t := this.2 k' hk
    have e : ve_O (ve_Mm M nm c k p r) b = ve_O M b := ve_u_n (f := ve_O M) z
    unfold ve_TK at t ⊢
    rw [e]; exact t
theorem vg_fWC {c t : Nat} (wc : ve_WC n nm G M C) : ve_WC n nm G (ve_Mf M c t) C := wc
/-- a token more -/
def ve_Ct (C : ve_C) (b kd op : Nat) : ve_C := (ve_u (ve_L C) b (ve_L C b + 1), ve_u (ve_K C) (8 * b + ve_L C b) kd, ve_u (ve_Q C) (8 * b + ve_L C b) op)
theorem vg_tWC {b kd op : Nat} (wc : ve_WC n nm G M C) (hb : b < nm ∨ b = 12) (hl : ve_L C b < 8) (t : ve_TK n G M b kd op) (ho : op < 4096) : ve_WC n nm G M (ve_Ct C b kd op) := by
  have eL : ∀ d, d ≠ b → ve_L (ve_Ct C b kd op) d = ve_L C d := fun d hd => ve_u_n (f := ve_L C) hd
  have nL : ve_L (ve_Ct C b kd op) b = ve_L C b + 1 := ve_u_s (f := ve_L C)
  have eK : ∀ d, d ≠ 8 * b + ve_L C b → ve_K (ve_Ct C b kd op) d = ve_K C d := fun d hd => ve_u_n (f := ve_K C) hd
  have eQ : ∀ d, d ≠ 8 * b + ve_L C b → ve_Q (ve_Ct C b kd op) d = ve_Q C d := fun d hd => ve_u_n (f := ve_Q C) hd
  have nK : ve_K (ve_Ct C b kd op) (8 * b + ve_L C b) = kd := ve_u_s (f := ve_K C)
  have nQ : ve_Q (ve_Ct C b kd op) (8 * b + ve_L C b) = op := ve_u_s (f := ve_Q C)
  refine ⟨fun d hd => ?_, fun d h1 h2 => ?_, fun j => ?_⟩
  · have w := wc.1 d hd
    by_cases z : d = b
    · subst z
      rw [nL]
      refine ⟨by omega, fun k hk => ?_⟩
      by_cases y : k = ve_L C d
      · subst y; rw [nK, nQ]; exact t
      · rw [eK _ (by omega), eQ _ (by omega)]; exact w.2 k (by omega)
    · rw [eL d z]
      refine ⟨w.1, fun k hk => ?_⟩
      have := w.1
      rw [eK _ (by omega), eQ _ (by omega)]; exact w.2 k hk
  · rw [eL d (by omega)]; exact wc.2.1 d h1 h2
  · by_cases z : j = 8 * b + ve_L C b
    · rw [z, nQ]; exact ho
    · rw [eQ j z]; exact wc.2.2 j
end
end
section
/-! the relation -/
def ve_FM (M : ve_M) (a_fieldType a_declared b_hasField b_fld : Nat → Int32) : Prop :=
  (∀ c, c < 16 → a_fieldType c = ve_d (ve_E M c)) ∧ (∀ j, j < 64 → a_declared j = ve_d (ve_D M j)) ∧
  (∀ c, c < 16 → b_hasField c = ve_b (decide (ve_E M c ≠ 0))) ∧ (∀ c, c < 16 → ve_E M c ≠ 0 → b_fld c = nI (ve_E M c - 1))
def ve_FK (n nm : Nat) (G : ve_T) (M : ve_M) (C : ve_C) (f_checkState f_errorPlace g_checked g_errAt : Int32) : Prop :=
  (f_checkState = 0 ∧ g_checked = 0 ∧ g_errAt = -1) ∨ (f_checkState = 1 ∧ g_checked = 1 ∧ g_errAt = -1 ∧ ve_CK n nm G M C) ∨
  (f_checkState = 2 ∧ g_checked = 0 ∧ g_errAt = f_errorPlace)
def ve_FI (f_keepTypes : Int32) (a_objClass a_objField : Nat → Int32) (a_objType : Nat → Int64) (b_objType b_objVal : Nat → Int32) (oT oF : Nat → Nat) (i : Nat) : Prop :=
  a_objField i = ve_d (oF i) ∧ b_objVal i = ve_d (oF i) ∧ oF i ≤ i ∧ a_objClass i = nI (oT i % 16) ∧ b_objType i = nI (oT i) ∧ oT i < 4096 ∧ (f_keepTypes ≠ 0 → a_objType i = lN (oT i))
def ve_FR (f_entered f_result f_keepTypes : Int32) (a_objClass a_objField : Nat → Int32) (a_objType : Nat → Int64) (g_entered g_result : Int32) (b_objType b_objVal : Nat → Int32) : Prop :=
  (∃ en, en ≤ 32 ∧ f_entered = nI en ∧ g_entered = nI en) ∧
  ((f_result = -1 ∧ g_result = -1) ∨ ∃ r oc oT oF, f_result = nI r ∧ g_result = nI r ∧ r < oc ∧ oc ≤ 264 ∧ ∀ i, i < oc → ve_FI f_keepTypes a_objClass a_objField a_objType b_objType b_objVal oT oF i)
def ve_F (n : Nat) (nm : Nat) (G : ve_T) (M : ve_M) (C : ve_C) (f_classLimit : Int32) (f_methodLimit : Int32) (f_checkState : Int32) (f_errorPlace : Int32) (f_entered : Int32) (f_result : Int32) (f_keepTypes : Int32) (a_fieldType : Nat → Int32) (a_declared : Nat → Int32) (a_types : Nat → Int64) (a_castAt : Nat → Int32) (a_objClass : Nat → Int32) (a_objField : Nat → Int32) (a_objType : Nat → Int64) (a_traced : Nat → Int32) (g_most : Int32) (g_mostMethods : Int32) (g_checked : Int32) (g_errAt : Int32) (g_entered : Int32) (g_result : Int32) (g_typed : Int32) (b_hasField : Nat → Int32) (b_fld : Nat → Int32) (b_need : Nat → Int32) (b_types : Nat → Int64) (b_objType : Nat → Int32) (b_objVal : Nat → Int32) (b_log : Nat → Int32) : Prop :=
  (ve_WG n G ∧ ve_WM n nm G M ∧ ve_WC n nm G M C) ∧
  (∃ cl ml, f_classLimit = nI cl ∧ g_most = nI cl ∧ n ≤ cl ∧ cl ≤ 12 ∧ f_methodLimit = nI ml ∧ g_mostMethods = nI ml ∧ nm ≤ ml ∧ ml ≤ 12) ∧
  ve_FM M a_fieldType a_declared b_hasField b_fld ∧
  (b_types = a_types ∧ b_need = a_castAt ∧ b_log = a_traced ∧ g_typed = f_keepTypes) ∧
  ve_FK n nm G M C f_checkState f_errorPlace g_checked g_errAt ∧
  ve_FR f_entered f_result f_keepTypes a_objClass a_objField a_objType g_entered g_result b_objType b_objVal
def i_Rel (k : Nat) (u : SX) (v : SY) : Prop := ∃ (n : Nat) (nm : Nat) (G : ve_T) (M : ve_M) (C : ve_C) (f_x : Int32) (f_mainBody : Int32) (f_classLimit : Int32) (f_methodLimit : Int32) (f_checkState : Int32) (f_errorPlace : Int32) (f_typeTop : Int32) (f_objCount : Int32) (f_valueTop : Int32) (f_depth : Int32) (f_entered : Int32) (f_result : Int32) (f_keepTypes : Int32) (a_fieldType : Nat → Int32) (a_declared : Nat → Int32) (a_types : Nat → Int64) (a_castAt : Nat → Int32) (a_objClass : Nat → Int32) (a_objField : Nat → Int32) (a_values : Nat → Int32) (a_objType : Nat → Int64) (a_frameBody : Nat → Int32) (a_framePc : Nat → Int32) (a_frameThis : Nat → Int32) (a_frameArg : Nat → Int32) (a_traced : Nat → Int32) (g_most : Int32) (g_mostMethods : Int32) (g_checked : Int32) (g_errAt : Int32) (g_depth : Int32) (g_entered : Int32) (g_result : Int32) (g_typed : Int32) (b_hasField : Nat → Int32) (b_fld : Nat → Int32) (b_need : Nat → Int32) (b_types : Nat → Int64) (b_objType : Nat → Int32) (b_objVal : Nat → Int32) (b_vals : Nat → Int32) (b_frBody : Nat → Int32) (b_pc : Nat → Int32) (b_frThis : Nat → Int32) (b_frArg : Nat → Int32) (b_log : Nat → Int32), u = (f_x, f_mainBody, f_classLimit, f_methodLimit, (nI n), (nI nm), f_checkState, f_errorPlace, f_typeTop, f_objCount, f_valueTop, f_depth, f_entered, f_result, f_keepTypes, (ve_i (ve_V G)), (ve_i (ve_B G)), (ve_i (ve_S G)), (ve_i (ve_A G)), a_fieldType, a_declared, (ve_i (ve_O M)), (ve_i (ve_P M)), (ve_i (ve_R M)), (ve_i (ve_L C)), (ve_i (ve_K C)), (ve_i (ve_Q C)), a_types, a_castAt, a_objClass, a_objField, a_values, a_objType, a_frameBody, a_framePc, a_frameThis, a_frameArg, a_traced) ∧ v = (g_most, g_mostMethods, (nI n), (nI nm), g_checked, g_errAt, g_depth, g_entered, g_result, g_typed, (ve_i (ve_V G)), (ve_i (ve_B G)), (ve_i (ve_S G)), (ve_i (ve_A G)), b_hasField, b_fld, (ve_i (ve_O M)), (ve_i (ve_N M)), (ve_i (ve_P M)), (ve_i (ve_R M)), (ve_i (ve_L C)), (ve_i (ve_K C)), (ve_i (ve_Q C)), b_need, b_types, b_objType, b_objVal, b_vals, b_frBody, b_pc, b_frThis, b_frArg, b_log) ∧ ve_F n nm G M C f_classLimit f_methodLimit f_checkState f_errorPlace f_entered f_result f_keepTypes a_fieldType a_declared a_types a_castAt a_objClass a_objField a_objType a_traced g_most g_mostMethods g_checked g_errAt g_entered g_result g_typed b_hasField b_fld b_need b_types b_objType b_objVal b_log
theorem ve_el {P : SX → SY → Prop} (h : ∀ (n : Nat) (nm : Nat) (G : ve_T) (M : ve_M) (C : ve_C) (f_x : Int32) (f_mainBody : Int32) (f_classLimit : Int32) (f_methodLimit : Int32) (f_checkState : Int32) (f_errorPlace : Int32) (f_typeTop : Int32) (f_objCount : Int32) (f_valueTop : Int32) (f_depth : Int32) (f_entered : Int32) (f_result : Int32) (f_keepTypes : Int32) (a_fieldType : Nat → Int32) (a_declared : Nat → Int32) (a_types : Nat → Int64) (a_castAt : Nat → Int32) (a_objClass : Nat → Int32) (a_objField : Nat → Int32) (a_values : Nat → Int32) (a_objType : Nat → Int64) (a_frameBody : Nat → Int32) (a_framePc : Nat → Int32) (a_frameThis : Nat → Int32) (a_frameArg : Nat → Int32) (a_traced : Nat → Int32) (g_most : Int32) (g_mostMethods : Int32) (g_checked : Int32) (g_errAt : Int32) (g_depth : Int32) (g_entered : Int32) (g_result : Int32) (g_typed : Int32) (b_hasField : Nat → Int32) (b_fld : Nat → Int32) (b_need : Nat → Int32) (b_types : Nat → Int64) (b_objType : Nat → Int32) (b_objVal : Nat → Int32) (b_vals : Nat → Int32) (b_frBody : Nat → Int32) (b_pc : Nat → Int32) (b_frThis : Nat → Int32) (b_frArg : Nat → Int32) (b_log : Nat → Int32), ve_F n nm G M C f_classLimit f_methodLimit f_checkState f_errorPlace f_entered f_result f_keepTypes a_fieldType a_declared a_types a_castAt a_objClass a_objField a_objType a_traced g_most g_mostMethods g_checked g_errAt g_entered g_result g_typed b_hasField b_fld b_need b_types b_objType b_objVal b_log → P (f_x, f_mainBody, f_classLimit, f_methodLimit, (nI n), (nI nm), f_checkState, f_errorPlace, f_typeTop, f_objCount, f_valueTop, f_depth, f_entered, f_result, f_keepTypes, (ve_i (ve_V G)), (ve_i (ve_B G)), (ve_i (ve_S G)), (ve_i (ve_A G)), a_fieldType, a_declared, (ve_i (ve_O M)), (ve_i (ve_P M)), (ve_i (ve_R M)), (ve_i (ve_L C)), (ve_i (ve_K C)), (ve_i (ve_Q C)), a_types, a_castAt, a_objClass, a_objField, a_values, a_objType, a_frameBody, a_framePc, a_frameThis, a_frameArg, a_traced) (g_most, g_mostMethods, (nI n), (nI nm), g_checked, g_errAt, g_depth, g_entered, g_result, g_typed, (ve_i (ve_V G)), (ve_i (ve_B G)), (ve_i (ve_S G)), (ve_i (ve_A G)), b_hasField, b_fld, (ve_i (ve_O M)), (ve_i (ve_N M)), (ve_i (ve_P M)), (ve_i (ve_R M)), (ve_i (ve_L C)), (ve_i (ve_K C)), (ve_i (ve_Q C)), b_need, b_types, b_objType, b_objVal, b_vals, b_frBody, b_pc, b_frThis, b_frArg, b_log)) {k : Nat} {u : SX} {v : SY} (I : i_Rel k u v) : P u v := I.elim fun n I => I.elim fun nm I => I.elim fun G I => I.elim fun M I => I.elim fun C I => I.elim fun f_x I => I.elim fun f_mainBody I => I.elim fun f_classLimit I => I.elim fun f_methodLimit I => I.elim fun f_checkState I => I.elim fun f_errorPlace I => I.elim fun f_typeTop I => I.elim fun f_objCount I => I.elim fun f_valueTop I => I.elim fun f_depth I => I.elim fun f_entered I => I.elim fun f_result I => I.elim fun f_keepTypes I => I.elim fun a_fieldType I => I.elim fun a_declared I => I.elim fun a_types I => I.elim fun a_castAt I => I.elim fun a_objClass I => I.elim fun a_objField I => I.elim fun a_values I => I.elim fun a_objType I => I.elim fun a_frameBody I => I.elim fun a_framePc I => I.elim fun a_frameThis I => I.elim fun a_frameArg I => I.elim fun a_traced I => I.elim fun g_most I => I.elim fun g_mostMethods I => I.elim fun g_checked I => I.elim fun g_errAt I => I.elim fun g_depth I => I.elim fun g_entered I => I.elim fun g_result I => I.elim fun g_typed I => I.elim fun b_hasField I => I.elim fun b_fld I => I.elim fun b_need I => I.elim fun b_types I => I.elim fun b_objType I => I.elim fun b_objVal I => I.elim fun b_vals I => I.elim fun b_frBody I => I.elim fun b_pc I => I.elim fun b_frThis I => I.elim fun b_frArg I => I.elim fun b_log I => by rw [I.1, I.2.1]; exact h n nm G M C f_x f_mainBody f_classLimit f_methodLimit f_checkState f_errorPlace f_typeTop f_objCount f_valueTop f_depth f_entered f_result f_keepTypes a_fieldType a_declared a_types a_castAt a_objClass a_objField a_values a_objType a_frameBody a_framePc a_frameThis a_frameArg a_traced g_most g_mostMethods g_checked g_errAt g_depth g_entered g_result g_typed b_hasField b_fld b_need b_types b_objType b_objVal b_vals b_frBody b_pc b_frThis b_frArg b_log I.2.2
theorem ve_in {k : Nat} {n : Nat} {nm : Nat} {G : ve_T} {M : ve_M} {C : ve_C} {f_x : Int32} {f_mainBody : Int32} {f_classLimit : Int32} {f_methodLimit : Int32} {f_checkState : Int32} {f_errorPlace : Int32} {f_typeTop : Int32} {f_objCount : Int32} {f_valueTop : Int32} {f_depth : Int32} {f_entered : Int32} {f_result : Int32} {f_keepTypes : Int32} {a_fieldType : Nat → Int32} {a_declared : Nat → Int32} {a_types : Nat → Int64} {a_castAt : Nat → Int32} {a_objClass : Nat → Int32} {a_objField : Nat → Int32} {a_values : Nat → Int32} {a_objType : Nat → Int64} {a_frameBody : Nat → Int32} {a_framePc : Nat → Int32} {a_frameThis : Nat → Int32} {a_frameArg : Nat → Int32} {a_traced : Nat → Int32} {g_most : Int32} {g_mostMethods : Int32} {g_checked : Int32} {g_errAt : Int32} {g_depth : Int32} {g_entered : Int32} {g_result : Int32} {g_typed : Int32} {b_hasField : Nat → Int32} {b_fld : Nat → Int32} {b_need : Nat → Int32} {b_types : Nat → Int64} {b_objType : Nat → Int32} {b_objVal : Nat → Int32} {b_vals : Nat → Int32} {b_frBody : Nat → Int32} {b_pc : Nat → Int32} {b_frThis : Nat → Int32} {b_frArg : Nat → Int32} {b_log : Nat → Int32} (h : ve_F n nm G M C f_classLimit f_methodLimit f_checkState f_errorPlace f_entered f_result f_keepTypes a_fieldType a_declared a_types a_castAt a_objClass a_objField a_objType a_traced g_most g_mostMethods g_checked g_errAt g_entered g_result g_typed b_hasField b_fld b_need b_types b_objType b_objVal b_log) : i_Rel k (f_x, f_mainBody, f_classLimit, f_methodLimit, (nI n), (nI nm), f_checkState, f_errorPlace, f_typeTop, f_objCount, f_valueTop, f_depth, f_entered, f_result, f_keepTypes, (ve_i (ve_V G)), (ve_i (ve_B G)), (ve_i (ve_S G)), (ve_i (ve_A G)), a_fieldType, a_declared, (ve_i (ve_O M)), (ve_i (ve_P M)), (ve_i (ve_R M)), (ve_i (ve_L C)), (ve_i (ve_K C)), (ve_i (ve_Q C)), a_types, a_castAt, a_objClass, a_objField, a_values, a_objType, a_frameBody, a_framePc, a_frameThis, a_frameArg, a_traced) (g_most, g_mostMethods, (nI n), (nI nm), g_checked, g_errAt, g_depth, g_entered, g_result, g_typed, (ve_i (ve_V G)), (ve_i (ve_B G)), (ve_i (ve_S G)), (ve_i (ve_A G)), b_hasField, b_fld, (ve_i (ve_O M)), (ve_i (ve_N M)), (ve_i (ve_P M)), (ve_i (ve_R M)), (ve_i (ve_L C)), (ve_i (ve_K C)), (ve_i (ve_Q C)), b_need, b_types, b_objType, b_objVal, b_vals, b_frBody, b_pc, b_frThis, b_frArg, b_log) :=
  ⟨n, nm, G, M, C, f_x, f_mainBody, f_classLimit, f_methodLimit, f_checkState, f_errorPlace, f_typeTop, f_objCount, f_valueTop, f_depth, f_entered, f_result, f_keepTypes, a_fieldType, a_declared, a_types, a_castAt, a_objClass, a_objField, a_values, a_objType, a_frameBody, a_framePc, a_frameThis, a_frameArg, a_traced, g_most, g_mostMethods, g_checked, g_errAt, g_depth, g_entered, g_result, g_typed, b_hasField, b_fld, b_need, b_types, b_objType, b_objVal, b_vals, b_frBody, b_pc, b_frThis, b_frArg, b_log, rfl, rfl, h⟩
theorem i_up {k : Nat} {u : SX} {v : SY} (h : i_Rel k u v) : i_Rel (k + 5) u v := h
section
variable {n nm : Nat} {G : ve_T} {M : ve_M} {C : ve_C}
theorem ve_FR_0 {f_keepTypes : Int32} {a_objClass a_objField : Nat → Int32} {a_objType : Nat → Int64} {b_objType b_objVal : Nat → Int32} : ve_FR 0 (-1) f_keepTypes a_objClass a_objField a_objType 0 (-1) b_objType b_objVal :=
  ⟨⟨0, by omega, rfl, rfl⟩, Or.inl ⟨rfl, rfl⟩⟩
theorem ve_FK_0 {f_errorPlace : Int32} : ve_FK n nm G M C 0 f_errorPlace 0 (-1) := Or.inl ⟨rfl, rfl, rfl⟩
theorem ve_Dle (w : ve_WM n nm G M) (j : Nat) : ve_D M j ≤ 2147483648 := by
  by_cases z : ve_D M j = 0
  · omega
  · obtain ⟨m, a1, a2, _⟩ := w.2.2.1 j z
    have := w.1; omega
theorem ve_E4 (w : ve_WM n nm G M) (c : Nat) : ve_E M c ≤ 4096 := by
  by_cases z : ve_E M c = 0
  · omega
  · obtain ⟨_, ⟨k, hk, wt⟩, _⟩ := w.2.2.2.1 c z
    have := ve_wt_lt wt
    have : 16 ^ k ≤ 16 ^ 3 := Nat.pow_le_pow_right (by omega) hk
    omega
theorem ve_Ele (w : ve_WM n nm G M) (c : Nat) : ve_E M c ≤ 2147483648 := by have := ve_E4 w c; omega
theorem ve_W3b {o t : Nat} (w : ve_W3 n G o t) : t < 4096 := by
  obtain ⟨k, hk, wt⟩ := w
  have := ve_wt_lt wt
  have : 16 ^ k ≤ 16 ^ 3 := Nat.pow_le_pow_right (by omega) hk
  omega
theorem ve_inj {a b : Nat} (e : nI a = nI b) (ha : a < 2147483648) (hb : b < 2147483648) : a = b := (nI_eq (by omega) (by omega)).mp e
end
/-! the constructors -/
theorem ve_c0 : ∀ k : Int32, ∃ c : Nat, 2 ≤ c ∧ c ≤ 12 ∧ (k < 2 → c = 2) ∧ (¬ k < 2 → 12 < k → c = 12) ∧ (¬ k < 2 → ¬ 12 < k → k = nI c) := by
  intro k
  by_cases h : k < 2
  · exact ⟨2, by omega, by omega, fun _ => rfl, fun z => absurd h z, fun z => absurd h z⟩
  · by_cases h2 : 12 < k
    · exact ⟨12, by omega, by omega, fun z => absurd z h, fun _ _ => rfl, fun _ z => absurd h2 z⟩
    · have h0 : ¬ k < 0 := fun z => h (Int32.lt_trans z (by decide))
      obtain ⟨j, hj, rfl⟩ := nI_of h0
      have e1 : ¬ j < 2 := fun z => h (nI_lt (b := 2) z (by decide))
      have e2 : ¬ 12 < j := fun z => h2 (nI_lt (a := 12) z (by omega))
      exact ⟨j, by omega, by omega, fun z => absurd z h, fun _ z => absurd z h2, fun _ _ => rfl⟩
section
variable {f_x f_mainBody f_classLimit f_methodLimit f_checkState f_errorPlace f_typeTop f_objCount f_valueTop f_depth f_entered f_result f_keepTypes : Int32} {a_fieldType a_declared a_castAt a_objClass a_objField a_values a_frameBody a_framePc a_frameThis a_frameArg a_traced : Nat → Int32} {a_types a_objType : Nat → Int64} {post : SX → Prop}
variable {f_classCount f_methodCount : Int32} {a_varOf a_boundOf a_supOf a_argOf a_owner a_paramType a_returnType a_bodyLength a_kinds a_operands : Nat → Int32}
theorem vx_init_l : ∀ f i, i + f = 64 → ∀ a_fieldType a_declared, (∀ j, j < (i + 3) / 4 → a_fieldType j = -1) → (∀ j, j < i → a_declared j = -1) →
    (∀ a_fieldType a_declared, (∀ j, j < 16 → a_fieldType j = -1) → (∀ j, j < 64 → a_declared j = -1) → post (f_x, f_mainBody, f_classLimit, f_methodLimit, f_classCount, f_methodCount, f_checkState, f_errorPlace, f_typeTop, f_objCount, f_valueTop, f_depth, f_entered, f_result, f_keepTypes, a_varOf, a_boundOf, a_supOf, a_argOf, a_fieldType, a_declared, a_owner, a_paramType, a_returnType, a_bodyLength, a_kinds, a_operands, a_types, a_castAt, a_objClass, a_objField, a_values, a_objType, a_frameBody, a_framePc, a_frameThis, a_frameArg, a_traced)) → wX_init_266 post f_x f_mainBody f_classLimit f_methodLimit f_classCount f_methodCount f_checkState f_errorPlace f_typeTop f_objCount f_valueTop f_depth f_entered f_result f_keepTypes (f + 1) (nI i) a_varOf a_boundOf a_supOf a_argOf a_fieldType a_declared a_owner a_paramType a_returnType a_bodyLength a_kinds a_operands a_types a_castAt a_objClass a_objField a_values a_objType a_frameBody a_framePc a_frameThis a_frameArg a_traced
  | 0, i, hi, aF, aD, h1, h2, hp => pk_le 64 i (fun _ => hp aF aD (fun j hj => h1 j (by omega)) (fun j hj => h2 j (by omega))) (fun z => absurd z (by omega))
  | f + 1, i, hi, aF, aD, h1, h2, hp => by
    have e4 : (4 : Int32) = nI 4 := rfl
    have ed : nI i / 4 = nI (i / 4) := by rw [e4, pk_div (by omega) (by omega) (by omega)]
    refine pk_le 64 i (fun z => absurd z (by omega)) (fun _ => ⟨by decide, ?_⟩)
    rw [ed, nI_clamp (by omega), nI_clamp (by omega)]
    refine ⟨vp_in_nI (by omega) (by omega), nm_e ⟨vp_in_nI (by omega) (by omega), nm_e (nm_r (nI_1 i) (vx_init_l f (i + 1) (by omega) _ _ (fun j hj => ?_) (fun j hj => ?_) hp))⟩⟩
    · by_cases z : j = i / 4
      · rw [z]; exact pk_us
      · rw [pk_un z]; exact h1 j (by omega)
    · by_cases z : j = i
      · rw [z]; exact pk_us
      · rw [pk_un z]; exact h2 j (by omega)
end
end
section
/-! the constructors, and the methods that only read the state -/
theorem ve_cp (lo : Nat) (hlo : lo ≤ 12) (k : Int32) : ∃ c : Nat, lo ≤ c ∧ c ≤ 12 ∧ (nI lo ≤ k → k ≤ 12 → k = nI c) ∧ (nI lo ≤ k → ¬ k ≤ 12 → c = 12) ∧ (¬ nI lo ≤ k → c = lo) := by
  by_cases h : nI lo ≤ k
  · by_cases h2 : k ≤ 12
    · have h0 : ¬ k < 0 := fun z => absurd (Int32.lt_of_le_of_lt h z) (nI_pos (by omega))
      obtain ⟨j, hj, rfl⟩ := nI_of h0
      have e1 := (nI_leI (by omega) hj).mp h
      have e2 := (nI_leI (b := 12) hj (by omega)).mp h2
      exact ⟨j, e1, e2, fun _ _ => rfl, fun _ z => absurd h2 z, fun z => absurd h z⟩
    · exact ⟨12, hlo, by omega, fun _ z => absurd z h2, fun _ _ => rfl, fun z => absurd h z⟩
  · exact ⟨lo, by omega, hlo, fun z => absurd z h, fun z => absurd z h, fun _ => rfl⟩
def ve_G0 : ve_T := (fun _ => 0, fun _ => 0, fun _ => 0, fun _ => 0)
def ve_M0 : ve_M := (fun _ => 0, fun _ => 0, fun _ => 0, fun _ => 0, fun _ => 0, fun _ => 0)
def ve_C0 : ve_C := (fun _ => 0, fun _ => 0, fun _ => 0)
theorem ve_WG0 : ve_WG 1 ve_G0 :=
  ⟨⟨by omega, by omega⟩, rfl, rfl, fun _ _ => ⟨rfl, rfl, rfl, rfl⟩, fun _ hc => hc, fun _ => by show 0 ≤ 15; omega, fun _ _ => ⟨by show 0 ≤ 3; omega, by show 0 < 1; omega, rfl⟩, fun _ _ z => absurd rfl z⟩
theorem ve_WM0 : ve_WM 1 0 ve_G0 ve_M0 :=
  ⟨by omega, fun _ hm => by omega, fun _ z => absurd rfl z, fun _ z => absurd rfl z, fun _ _ z => absurd rfl z, fun _ _ => rfl⟩
theorem ve_WC0 : ve_WC 1 0 ve_G0 ve_M0 ve_C0 := ⟨fun _ _ => ⟨by show 0 ≤ 8; omega, fun _ hk => absurd hk (by show ¬ _ < 0; omega)⟩, fun _ _ _ => rfl, fun _ => by show 0 < 4096; omega⟩
theorem ve_ini {aF aD : Nat → Int32} {cl ml : Nat} (h1 : 1 ≤ cl) (h2 : cl ≤ 12) (h3 : ml ≤ 12) (hF : ∀ j, j < 16 → aF j = -1) (hD : ∀ j, j < 64 → aD j = -1) :
    ve_F 1 0 ve_G0 ve_M0 ve_C0 (nI cl) (nI ml) 0 0 0 (-1) 0 aF aD (fun _ => 0) (fun _ => 0) (fun _ => 0) (fun _ => 0) (fun _ => 0) (fun _ => 0) (nI cl) (nI ml) 0 (-1) 0 (-1) 0 (fun _ => 0) (fun _ => 0) (fun _ => 0) (fun _ => 0) (fun _ => 0) (fun _ => 0) (fun _ => 0) :=
  ⟨⟨ve_WG0, ve_WM0, ve_WC0⟩, ⟨cl, ml, rfl, rfl, h1, h2, rfl, rfl, by omega, h3⟩, ⟨hF, hD, fun _ _ => rfl, fun _ _ z => absurd rfl z⟩, ⟨rfl, rfl, rfl, rfl⟩, ve_FK_0, ve_FR_0⟩
def ve_z : Nat → Int32 := ve_i (fun _ => 0)
theorem ve_z0 : (fun _ => 0 : Nat → Int32) = ve_i (fun _ => 0) := rfl
theorem ve_ini' {k : Nat} {aF aD : Nat → Int32} {cl ml : Nat} (h1 : 1 ≤ cl) (h2 : cl ≤ 12) (h3 : ml ≤ 12) (hF : ∀ j, j < 16 → aF j = -1) (hD : ∀ j, j < 64 → aD j = -1) :
    i_Rel k (15, 12, nI cl, nI ml, 1, 0, 0, 0, 0, 0, 0, 0, 0, -1, 0, (fun _ => 0), (fun _ => 0), (fun _ => 0), (fun _ => 0), aF, aD, (fun _ => 0), (fun _ => 0), (fun _ => 0), (fun _ => 0), (fun _ => 0), (fun _ => 0), (fun _ => 0), (fun _ => 0), (fun _ => 0), (fun _ => 0), (fun _ => 0), (fun _ => 0), (fun _ => 0), (fun _ => 0), (fun _ => 0), (fun _ => 0), (fun _ => 0))
      (nI cl, nI ml, 1, 0, 0, -1, 0, 0, -1, 0, (fun _ => 0), (fun _ => 0), (fun _ => 0), (fun _ => 0), (fun _ => 0), (fun _ => 0), (fun _ => 0), (fun _ => 0), (fun _ => 0), (fun _ => 0), (fun _ => 0), (fun _ => 0), (fun _ => 0), (fun _ => 0), (fun _ => 0), (fun _ => 0), (fun _ => 0), (fun _ => 0), (fun _ => 0), (fun _ => 0), (fun _ => 0), (fun _ => 0), (fun _ => 0)) :=
  ve_in (n := 1) (nm := 0) (G := ve_G0) (M := ve_M0) (C := ve_C0) (f_typeTop := 0) (f_objCount := 0) (f_valueTop := 0) (f_depth := 0) (g_depth := 0) (f_x := 15) (f_mainBody := 12) (a_values := fun _ => 0) (a_frameBody := fun _ => 0) (a_framePc := fun _ => 0) (a_frameThis := fun _ => 0) (a_frameArg := fun _ => 0)
    (b_vals := fun _ => 0) (b_frBody := fun _ => 0) (b_pc := fun _ => 0) (b_frThis := fun _ => 0) (b_frArg := fun _ => 0) (ve_ini h1 h2 h3 hF hD)
theorem i_vc0 (k0 : Int32) (k1 : Int32) : wpX_init (fun u => wpY_init (fun v => i_Rel 2 u v) k0 k1) k0 k1 := by
  obtain ⟨cl, c1, c2, c3, c4, c5⟩ := ve_cp 2 (by omega) k0
  obtain ⟨ml, m1, m2, m3, m4, m5⟩ := ve_cp 1 (by omega) k1
  have Y : ∀ aF aD : Nat → Int32, (∀ j, j < 16 → aF j = -1) → (∀ j, j < 64 → aD j = -1) →
      wpY_init (fun v => i_Rel 2 (15, 12, nI cl, nI ml, 1, 0, 0, 0, 0, 0, 0, 0, 0, -1, 0, (fun _ => 0), (fun _ => 0), (fun _ => 0), (fun _ => 0), aF, aD, (fun _ => 0), (fun _ => 0), (fun _ => 0), (fun _ => 0), (fun _ => 0), (fun _ => 0), (fun _ => 0), (fun _ => 0), (fun _ => 0), (fun _ => 0), (fun _ => 0), (fun _ => 0), (fun _ => 0), (fun _ => 0), (fun _ => 0), (fun _ => 0), (fun _ => 0)) v) k0 k1 := by
    intro aF aD hF hD
    have fin := ve_ini' (k := 2) (cl := cl) (ml := ml) (by omega) c2 m2 hF hD
    have j : ∀ z : Int32, z = nI cl → wY_init_253 (fun v => i_Rel 2 (15, 12, nI cl, nI ml, 1, 0, 0, 0, 0, 0, 0, 0, 0, -1, 0, (fun _ => 0), (fun _ => 0), (fun _ => 0), (fun _ => 0), aF, aD, (fun _ => 0), (fun _ => 0), (fun _ => 0), (fun _ => 0), (fun _ => 0), (fun _ => 0), (fun _ => 0), (fun _ => 0), (fun _ => 0), (fun _ => 0), (fun _ => 0), (fun _ => 0), (fun _ => 0), (fun _ => 0), (fun _ => 0), (fun _ => 0), (fun _ => 0)) v) k1 z 0 0 1 0 0 (-1) 0 0 (-1) 0 (fun _ => 0) (fun _ => 0) (fun _ => 0) (fun _ => 0) (fun _ => 0) (fun _ => 0) (fun _ => 0) (fun _ => 0) (fun _ => 0) (fun _ => 0) (fun _ => 0) (fun _ => 0) (fun _ => 0) (fun _ => 0) (fun _ => 0) (fun _ => 0) (fun _ => 0) (fun _ => 0) (fun _ => 0) (fun _ => 0) (fun _ => 0) (fun _ => 0) (fun _ => 0) := by
      rintro z rfl
      unfold wY_init_253
      refine br_c (fun z1 => br_c (fun z2 => ?_) (fun z2 => ?_)) (fun z1 => ?_)
      · rw [m3 z1 z2]; exact fin
      · have e := m4 z1 z2; subst e; exact fin
      · have e := m5 z1; subst e; exact fin
    unfold wpY_init
    refine br_c (fun z1 => br_c (fun z2 => j _ (c3 z1 z2)) (fun z2 => j _ (by rw [c4 z1 z2]; rfl))) (fun z1 => j _ (by rw [c5 z1]; rfl))
  have jX : ∀ z : Int32, z = nI cl → wX_init_236 (fun u => wpY_init (fun v => i_Rel 2 u v) k0 k1) k1 z 15 12 0 0 1 0 0 0 0 0 0 0 0 (-1) 0 (fun _ => 0) (fun _ => 0) (fun _ => 0) (fun _ => 0) (fun _ => 0) (fun _ => 0) (fun _ => 0) (fun _ => 0) (fun _ => 0) (fun _ => 0) (fun _ => 0) (fun _ => 0) (fun _ => 0) (fun _ => 0) (fun _ => 0) (fun _ => 0) (fun _ => 0) (fun _ => 0) (fun _ => 0) (fun _ => 0) (fun _ => 0) (fun _ => 0) (fun _ => 0) := by
    rintro z rfl
    unfold wX_init_236
    refine br_c (fun z1 => br_c (fun z2 => ?_) (fun z2 => ?_)) (fun z1 => ?_)
    · rw [m3 z1 z2]; rw [m3 z1 z2] at Y
      exact ⟨64 + 1, vx_init_l 64 0 rfl _ _ (fun j hj => by omega) (fun j hj => by omega) Y⟩
    · rw [m4 z1 z2] at Y
      exact ⟨64 + 1, vx_init_l 64 0 rfl _ _ (fun j hj => by omega) (fun j hj => by omega) Y⟩
    · rw [m5 z1] at Y
      exact ⟨64 + 1, vx_init_l 64 0 rfl _ _ (fun j hj => by omega) (fun j hj => by omega) Y⟩
  unfold wpX_init
  exact br_c (fun z1 => br_c (fun z2 => jX _ (c3 z1 z2)) (fun z2 => jX _ (by rw [c4 z1 z2]; rfl))) (fun z1 => jX _ (by rw [c5 z1]; rfl))
theorem i_vc_errorAt {k : Nat} {u : SX} {v : SY} (I : i_Rel k u v) (hk : k + 5 ≤ 2562) : wpX_errorAt (fun r => wpY_errorAt (fun r' => r' = r ∧ i_Rel (k + 5) u v) v) u := by
  refine ve_el (P := fun u v => ∀ J : Prop, J → wpX_errorAt (fun r => wpY_errorAt (fun r' => r' = r ∧ J) v) u) ?_ I _ I
  intro n nm G M C f_x f_mainBody f_classLimit f_methodLimit f_checkState f_errorPlace f_typeTop f_objCount f_valueTop f_depth f_entered f_result f_keepTypes a_fieldType a_declared a_types a_castAt a_objClass a_objField a_values a_objType a_frameBody a_framePc a_frameThis a_frameArg a_traced g_most g_mostMethods g_checked g_errAt g_depth g_entered g_result g_typed b_hasField b_fld b_need b_types b_objType b_objVal b_vals b_frBody b_pc b_frThis b_frArg b_log F J I2
  obtain ⟨_, _, _, _, K, _⟩ := F
  show (f_checkState = 2 → (g_errAt = f_errorPlace ∧ _)) ∧ (¬ f_checkState = 2 → (g_errAt = -1 ∧ _))
  rcases K with q | q | q
  · exact br_f (by rw [q.1]; decide) ⟨q.2.2, I2⟩
  · exact br_f (by rw [q.1]; decide) ⟨q.2.2.1, I2⟩
  · exact br_t q.1 ⟨q.2.2, I2⟩
theorem i_vc_mainType {k : Nat} {u : SX} {v : SY} (I : i_Rel k u v) (hk : k + 5 ≤ 2562) : wpX_mainType (fun r => wpY_mainType (fun r' => r' = r ∧ i_Rel (k + 5) u v) v) u := by
  refine ve_el (P := fun u v => ∀ J : Prop, J → wpX_mainType (fun r => wpY_mainType (fun r' => r' = r ∧ J) v) u) ?_ I _ I
  intro n nm G M C f_x f_mainBody f_classLimit f_methodLimit f_checkState f_errorPlace f_typeTop f_objCount f_valueTop f_depth f_entered f_result f_keepTypes a_fieldType a_declared a_types a_castAt a_objClass a_objField a_values a_objType a_frameBody a_framePc a_frameThis a_frameArg a_traced g_most g_mostMethods g_checked g_errAt g_depth g_entered g_result g_typed b_hasField b_fld b_need b_types b_objType b_objVal b_vals b_frBody b_pc b_frThis b_frArg b_log F J I2
  obtain ⟨_, _, _, T, K, _⟩ := F
  show (f_checkState = 1 → ((g_checked = 0 → (-1 = a_types 0 ∧ _)) ∧ (¬ g_checked = 0 → (b_types 0 = a_types 0 ∧ _)))) ∧ (¬ f_checkState = 1 → ((g_checked = 0 → ((-1 : Int64) = -1 ∧ _)) ∧ (¬ g_checked = 0 → (b_types 0 = -1 ∧ _))))
  rcases K with q | q | q
  · exact br_f (by rw [q.1]; decide) (br_t q.2.1 ⟨rfl, I2⟩)
  · exact br_t q.1 (br_f (by rw [q.2.1]; decide) ⟨by rw [T.1], I2⟩)
  · exact br_f (by rw [q.1]; decide) (br_t q.2.1 ⟨rfl, I2⟩)
theorem i_vc_trace {k : Nat} {u : SX} {v : SY} (I : i_Rel k u v) (hk : k + 5 ≤ 2562) (v1 : Int32) : wpX_trace (fun r => wpY_trace (fun r' => r' = r ∧ i_Rel (k + 5) u v) v v1) u v1 := by
  refine ve_el (P := fun u v => ∀ J : Prop, J → wpX_trace (fun r => wpY_trace (fun r' => r' = r ∧ J) v v1) u v1) ?_ I _ I
  intro n nm G M C f_x f_mainBody f_classLimit f_methodLimit f_checkState f_errorPlace f_typeTop f_objCount f_valueTop f_depth f_entered f_result f_keepTypes a_fieldType a_declared a_types a_castAt a_objClass a_objField a_values a_objType a_frameBody a_framePc a_frameThis a_frameArg a_traced g_most g_mostMethods g_checked g_errAt g_depth g_entered g_result g_typed b_hasField b_fld b_need b_types b_objType b_objVal b_vals b_frBody b_pc b_frThis b_frArg b_log F J I2
  obtain ⟨_, _, _, T, _, R⟩ := F
  obtain ⟨⟨en, he, rfl, rfl⟩, _⟩ := R
  unfold wpX_trace wpY_trace
  dsimp only
  refine br_c (fun z => br_t z ⟨rfl, I2⟩) (fun z => ?_)
  obtain ⟨j, hj, rfl⟩ := nI_of z
  refine pk_lt j en (fun y => ⟨vp_in_nI (by omega) (by omega), br_f z (br_t (nI_lt y (by omega)) ⟨vp_in_nI (by omega) (by omega), by rw [T.2.2.1], I2⟩)⟩) (fun y => br_f z (br_f (nI_nlt y hj) ⟨rfl, I2⟩))
theorem i_vc_resultType {k : Nat} {u : SX} {v : SY} (I : i_Rel k u v) (hk : k + 5 ≤ 2562) : wpX_resultType (fun r => wpY_resultType (fun r' => r' = r ∧ i_Rel (k + 5) u v) v) u := by
  refine ve_el (P := fun u v => ∀ J : Prop, J → wpX_resultType (fun r => wpY_resultType (fun r' => r' = r ∧ J) v) u) ?_ I _ I
  intro n nm G M C f_x f_mainBody f_classLimit f_methodLimit f_checkState f_errorPlace f_typeTop f_objCount f_valueTop f_depth f_entered f_result f_keepTypes a_fieldType a_declared a_types a_castAt a_objClass a_objField a_values a_objType a_frameBody a_framePc a_frameThis a_frameArg a_traced g_most g_mostMethods g_checked g_errAt g_depth g_entered g_result g_typed b_hasField b_fld b_need b_types b_objType b_objVal b_vals b_frBody b_pc b_frThis b_frArg b_log F J I2
  obtain ⟨_, _, _, T, _, R⟩ := F
  unfold wpX_resultType wpY_resultType
  dsimp only
  rcases R.2 with ⟨q1, q2⟩ | ⟨r, oc, oT, oF, q1, q2, q3, q4, q5⟩
  · exact br_t (by rw [q1]; decide) (br_t (by rw [q2]; decide) ⟨rfl, I2⟩)
  · rw [T.2.2.2, q1, q2]
    have np : ¬ nI r < 0 := nI_pos (by omega)
    refine br_f np (br_c (fun z => br_f np (br_t z ⟨rfl, I2⟩)) (fun z => ⟨vp_in_nI (by omega) (by omega), br_f np (br_f z ⟨vp_in_nI (by omega) (by omega), ?_, I2⟩)⟩))
    obtain ⟨_, _, _, _, p5, p6, p7⟩ := q5 r q3
    rw [nI_clamp (by omega), p5, p7 z, lN_i]
end
section
/-! casts, subtype, member, resultClass -/
section
variable {n nm : Nat} {G : ve_T} {M : ve_M} {C : ve_C} {f_x f_mainBody f_classLimit f_methodLimit f_checkState f_errorPlace f_typeTop f_objCount f_valueTop f_depth f_entered f_result f_keepTypes : Int32} {a_fieldType a_declared a_castAt a_objClass a_objField a_values a_frameBody a_framePc a_frameThis a_frameArg a_traced : Nat → Int32} {a_types a_objType : Nat → Int64}
variable {g_most g_mostMethods g_checked g_errAt g_depth g_entered g_result g_typed : Int32} {b_hasField b_fld b_need b_objType b_objVal b_vals b_frBody b_pc b_frThis b_frArg b_log : Nat → Int32} {b_types : Nat → Int64}
theorem vx_isBody {post : Int32 → Prop} (hnm : nm ≤ 12) {m : Int32} (h1 : m = -1 → post 1) (h2 : ∀ j, j < nm → m = nI j → post 1) (h0 : m ≠ -1 → (∀ j, j < nm → m ≠ nI j) → post 0) : wpX_isBody post (f_x, f_mainBody, f_classLimit, f_methodLimit, (nI n), (nI nm), f_checkState, f_errorPlace, f_typeTop, f_objCount, f_valueTop, f_depth, f_entered, f_result, f_keepTypes, (ve_i (ve_V G)), (ve_i (ve_B G)), (ve_i (ve_S G)), (ve_i (ve_A G)), a_fieldType, a_declared, (ve_i (ve_O M)), (ve_i (ve_P M)), (ve_i (ve_R M)), (ve_i (ve_L C)), (ve_i (ve_K C)), (ve_i (ve_Q C)), a_types, a_castAt, a_objClass, a_objField, a_values, a_objType, a_frameBody, a_framePc, a_frameThis, a_frameArg, a_traced) m := by
  unfold wpX_isBody
  dsimp only
  refine br_c (fun z => h0 ?_ ?_) (fun z => ?_)
  · rintro rfl; exact absurd z (by decide)
  · rintro j hj rfl; exact absurd (Int32.lt_trans z (by decide)) (nI_pos (by omega))
  · by_cases y : m < 0
    · have e : m = -1 := by
        apply Int32.toInt_inj.mp
        rw [Int32.lt_iff_toInt_lt] at y z
        have e1 : (-1 : Int32).toInt = -1 := by decide
        have e0 : (0 : Int32).toInt = 0 := by decide
        omega
      subst e
      exact br_f (fun y => absurd (Int32.lt_of_le_of_lt y (by decide : (-1 : Int32) < 0)) (nI_pos (by omega))) (h1 rfl)
    · obtain ⟨j, hj, rfl⟩ := nI_of y
      refine pk_le nm j (fun x => h0 ?_ ?_) (fun x => h2 j x rfl)
      · intro e; rw [e] at y; exact y (by decide)
      · intro j' hj' e
        have := ve_inj e (by omega) (by omega)
        omega
theorem ve_castl {b : Nat} (hb : b < 13) (hl : ve_L C b ≤ 8) : ∀ f i (x : Int32), i + f = ve_L C b → ∃ r, (∀ post : Int32 → Prop, post r → wX_casts_38 post (nI b) f_x f_mainBody f_classLimit f_methodLimit (nI n) (nI nm) f_checkState f_errorPlace f_typeTop f_objCount f_valueTop f_depth f_entered f_result f_keepTypes (ve_i (ve_V G)) (ve_i (ve_B G)) (ve_i (ve_S G)) (ve_i (ve_A G)) a_fieldType a_declared (ve_i (ve_O M)) (ve_i (ve_P M)) (ve_i (ve_R M)) (ve_i (ve_L C)) (ve_i (ve_K C)) (ve_i (ve_Q C)) a_types a_castAt a_objClass a_objField a_values a_objType a_frameBody a_framePc a_frameThis a_frameArg a_traced (f + 1) x (nI i)) ∧
    (∀ post : Int32 → Prop, post r → wY_casts_41 post (nI b) g_most g_mostMethods (nI n) (nI nm) g_checked g_errAt g_depth g_entered g_result g_typed (ve_i (ve_V G)) (ve_i (ve_B G)) (ve_i (ve_S G)) (ve_i (ve_A G)) b_hasField b_fld (ve_i (ve_O M)) (ve_i (ve_N M)) (ve_i (ve_P M)) (ve_i (ve_R M)) (ve_i (ve_L C)) (ve_i (ve_K C)) (ve_i (ve_Q C)) a_castAt b_types b_objType b_objVal b_vals b_frBody b_pc b_frThis b_frArg b_log (f + 1) x (nI i))
  | 0, i, x, hi => by
    refine ⟨x, fun post hp => ⟨vp_in_nI hb (by omega), ?_⟩, fun post hp => ⟨vp_in_nI hb (by omega), ?_⟩⟩
    · rw [ve_at (by omega)]; exact pk_le (ve_L C b) i (fun _ => hp) (fun z => absurd z (by omega))
    · rw [ve_at (by omega)]; exact pk_le (ve_L C b) i (fun _ => hp) (fun z => absurd z (by omega))
  | f + 1, i, x, hi => by
    obtain ⟨r, hX, hY⟩ := ve_castl hb hl f (i + 1) (if a_castAt (8 * b + i) = 0 then x else x + 1) (by omega)
    refine ⟨r, fun post hp => ⟨vp_in_nI hb (by omega), ?_⟩, fun post hp => ⟨vp_in_nI hb (by omega), ?_⟩⟩
    · rw [ve_at (by omega)]
      refine pk_le (ve_L C b) i (fun z => absurd z (by omega)) (fun _ => ?_)
      rw [v_8, nI_clamp (by omega)]
      have hX := hX post hp
      refine ⟨vp_in_nI (by omega) (by omega), br_c (fun z => nm_r (Int32.add_zero x) (nm_r (nI_1 i) ?_)) (fun z => nm_e (nm_r (nI_1 i) ?_))⟩
      · rw [if_pos z] at hX; exact hX
      · rw [if_neg z] at hX; exact hX
    · rw [ve_at (by omega)]
      refine pk_le (ve_L C b) i (fun z => absurd z (by omega)) (fun _ => ?_)
      rw [v_8, nI_clamp (by omega)]
      have hY := hY post hp
      refine ⟨vp_in_nI (by omega) (by omega), br_c (fun z => nm_r (nI_1 i) ?_) (fun z => nm_e (nm_r (nI_1 i) ?_))⟩
      · rw [if_pos z] at hY; exact hY
      · rw [if_neg z] at hY; exact hY
end
theorem i_vc_casts {k : Nat} {u : SX} {v : SY} (I : i_Rel k u v) (hk : k + 5 ≤ 2562) (v1 : Int32) : wpX_casts (fun r => wpY_casts (fun r' => r' = r ∧ i_Rel (k + 5) u v) v v1) u v1 := by
  refine ve_el (P := fun u v => ∀ J : Prop, J → wpX_casts (fun r => wpY_casts (fun r' => r' = r ∧ J) v v1) u v1) ?_ I _ I
  intro n nm G M C f_x f_mainBody f_classLimit f_methodLimit f_checkState f_errorPlace f_typeTop f_objCount f_valueTop f_depth f_entered f_result f_keepTypes a_fieldType a_declared a_types a_castAt a_objClass a_objField a_values a_objType a_frameBody a_framePc a_frameThis a_frameArg a_traced g_most g_mostMethods g_checked g_errAt g_depth g_entered g_result g_typed b_hasField b_fld b_need b_types b_objType b_objVal b_vals b_frBody b_pc b_frThis b_frArg b_log F J I2
  obtain ⟨⟨h, w, wc⟩, _, _, T, K, _⟩ := F
  have n12 := w.1
  obtain ⟨t1, t2, _, _⟩ := T
  subst t2
  unfold wpX_casts
  dsimp only
  refine vx_isBody n12 (fun e => ?_) (fun j hj e => ?_) (fun e1 e2 => ?_)
  · subst e
    refine br_f (by decide) ?_
    unfold wpY_casts
    dsimp only
    have c1 : ¬ (-1 : Int32) < -1 := by decide
    have c2 : (-1 : Int32) < nI nm := Int32.lt_of_lt_of_le (by decide : (-1 : Int32) < 0) (nI_pos' (by omega))
    rcases K with q | q | q
    · exact br_f (by rw [q.1]; decide) (br_f c1 (br_t c2 (br_t q.2.1 ⟨rfl, I2⟩)))
    · obtain ⟨r, hX, hY⟩ := ve_castl (C := C) (b := 12) (by omega) (wc.1 12 (Or.inr rfl)).1 (ve_L C 12) 0 0 (by omega)
      exact br_t q.1 (br_t rfl ⟨_, hX _ (br_f c1 (br_t c2 (br_f (by rw [q.2.1]; decide) (br_f (by decide) ⟨_, hY _ ⟨rfl, I2⟩⟩))))⟩)
    · exact br_f (by rw [q.1]; decide) (br_f c1 (br_t c2 (br_t q.2.1 ⟨rfl, I2⟩)))
  · subst e
    refine br_f (by decide) ?_
    unfold wpY_casts
    dsimp only
    have c0 : (0 : Int32) ≤ nI j := nI_pos' (by omega)
    have c1 : ¬ nI j < -1 := fun z => absurd (Int32.lt_trans z (by decide : (-1 : Int32) < 0)) (nI_pos (by omega))
    have c2 : nI j < nI nm := nI_lt hj (by omega)
    have c3 : ¬ nI j = -1 := fun z => by rw [z] at c0; exact absurd c0 (by decide)
    rcases K with q | q | q
    · exact br_f (by rw [q.1]; decide) (br_f c1 (br_t c2 (br_t q.2.1 ⟨rfl, I2⟩)))
    · obtain ⟨r, hX, hY⟩ := ve_castl (C := C) (b := j) (by omega) (wc.1 j (Or.inl hj)).1 (ve_L C j) 0 0 (by omega)
      exact br_t q.1 (br_f c3 ⟨_, hX _ (br_f c1 (br_t c2 (br_f (by rw [q.2.1]; decide) (br_t c0 ⟨_, hY _ ⟨rfl, I2⟩⟩))))⟩)
    · exact br_f (by rw [q.1]; decide) (br_f c1 (br_t c2 (br_t q.2.1 ⟨rfl, I2⟩)))
  · refine br_t rfl ?_
    unfold wpY_casts
    dsimp only
    refine br_c (fun _ => ⟨rfl, I2⟩) (fun z => br_f (fun z2 => ?_) ⟨rfl, I2⟩)
    by_cases y : v1 < 0
    · apply e1
      apply Int32.toInt_inj.mp
      rw [Int32.lt_iff_toInt_lt] at y z
      have x1 : (-1 : Int32).toInt = -1 := by decide
      have x0 : (0 : Int32).toInt = 0 := by decide
      omega
    · obtain ⟨j, hj, rfl⟩ := nI_of y
      exact e2 j ((nI_ltI hj (by omega)).mp z2) rfl
theorem ve_sy_cmp {n o m r r' : Nat} {G : ve_T} {t : Int64} (hm : m ≤ 15) (q : ve_sy n G o m t r) (q' : ve_sy n G o 15 t r') : (r = 0 ∧ (r' = 0 ∨ m < r') ∧ r' ≤ 15) ∨ (0 < r ∧ r ≤ m ∧ r' = r ∧ ∃ v, t = lN v ∧ v < 9223372036854775808 ∧ ve_wt n G o r v) := by
  rcases q with ⟨e, q⟩ | ⟨e, e2, v, q1, q2, q3⟩
  · refine Or.inl ⟨e, ?_⟩
    rcases q' with ⟨e', _⟩ | ⟨e', e2', v, q1, q2, q3⟩
    · exact ⟨Or.inl e', by omega⟩
    · exact ⟨Or.inr (q r' v q1 q2 q3), e2'⟩
  · refine Or.inr ⟨e, e2, ?_, v, q1, q2, q3⟩
    rcases q' with ⟨e', q'⟩ | ⟨e', e2', v', q1', q2', q3'⟩
    · have := q' r v q1 q2 q3; omega
    · rw [q1, pk_lEQ (by omega) (by omega)] at q1'
      subst q1'
      exact ve_wt_u q3' q3
theorem i_vc_subtype {k : Nat} {u : SX} {v : SY} (I : i_Rel k u v) (hk : k + 5 ≤ 2562) (a0 : Int64) (a1 : Int64) : wpX_subtype (fun r => wpY_subtype (fun r' => r' = r ∧ i_Rel (k + 5) u v) v a0 a1) u a0 a1 := by
  refine ve_el (P := fun u v => ∀ J : Prop, J → wpX_subtype (fun r => wpY_subtype (fun r' => r' = r ∧ J) v a0 a1) u a0 a1) ?_ I _ I
  intro n nm G M C f_x f_mainBody f_classLimit f_methodLimit f_checkState f_errorPlace f_typeTop f_objCount f_valueTop f_depth f_entered f_result f_keepTypes a_fieldType a_declared a_types a_castAt a_objClass a_objField a_values a_objType a_frameBody a_framePc a_frameThis a_frameArg a_traced g_most g_mostMethods g_checked g_errAt g_depth g_entered g_result g_typed b_hasField b_fld b_need b_types b_objType b_objVal b_vals b_frBody b_pc b_frThis b_frArg b_log F J I2
  obtain ⟨⟨h, w, wc⟩, _, _, T, K, _⟩ := F
  unfold wpX_subtype
  dsimp only
  refine vx_symbols (o := 0) (most := 12) h (by omega) (by omega) (by omega) (fun r q => ?_)
  refine pk_eq r 0 (fun e => ?_) (fun e => ?_) (ha := by rcases q with q | q <;> omega)
  · refine vy_size (o := 0) h (by omega) (fun s qs => vy_size (o := 0) h (by omega) (fun s' qs' => ?_))
    have c := ve_sy_cmp (by omega) q qs
    refine pk_lt s 1 (fun _ => ⟨rfl, I2⟩) (fun z => ?_) (ha := by omega)
    exact pk_lt 12 s (fun _ => ⟨rfl, I2⟩) (fun z => by omega) (hb := by omega)
  · have qa : ∃ x, a0 = lN x ∧ ve_wt n G 0 r x ∧ r ≤ 12 := by
      rcases q with q | ⟨e1, e2, x, x1, _, x3⟩
      · exact absurd q.1 e
      · exact ⟨x, x1, x3, e2⟩
    refine vx_symbols (o := 0) (most := 12) h (by omega) (by omega) (by omega) (fun t qt => ?_)
    refine pk_eq t 0 (fun e' => ?_) (fun e' => ?_) (ha := by rcases qt with q | q <;> omega)
    · refine vy_size (o := 0) h (by omega) (fun s qs => vy_size (o := 0) h (by omega) (fun s' qs' => ?_))
      have c := ve_sy_cmp (by omega) q qs
      have c' := ve_sy_cmp (by omega) qt qs'
      refine pk_lt s 1 (fun _ => ⟨rfl, I2⟩) (fun z => pk_lt 12 s (fun _ => ⟨rfl, I2⟩) (fun z => pk_lt s' 1 (fun _ => ⟨rfl, I2⟩) (fun z => ?_) (ha := by omega)) (hb := by omega)) (ha := by omega)
      exact pk_le s' 12 (fun _ => by omega) (fun _ => ⟨rfl, I2⟩) (ha := by omega)
    · have qb : ∃ x, a1 = lN x ∧ ve_wt n G 0 t x ∧ t ≤ 12 := by
        rcases qt with q | ⟨e1, e2, x, x1, _, x3⟩
        · exact absurd q.1 e'
        · exact ⟨x, x1, x3, e2⟩
      obtain ⟨x, rfl, wx, hx⟩ := qa
      obtain ⟨y, rfl, wy, hy⟩ := qb
      have Y : ∀ z : Int32, z = ve_b (ve_su G 0 32 x y) → wpY_subtype (fun r' => r' = z ∧ J) (g_most, g_mostMethods, (nI n), (nI nm), g_checked, g_errAt, g_depth, g_entered, g_result, g_typed, (ve_i (ve_V G)), (ve_i (ve_B G)), (ve_i (ve_S G)), (ve_i (ve_A G)), b_hasField, b_fld, (ve_i (ve_O M)), (ve_i (ve_N M)), (ve_i (ve_P M)), (ve_i (ve_R M)), (ve_i (ve_L C)), (ve_i (ve_K C)), (ve_i (ve_Q C)), b_need, b_types, b_objType, b_objVal, b_vals, b_frBody, b_pc, b_frThis, b_frArg, b_log) (lN x) (lN y) := by
        rintro z rfl
        unfold wpY_subtype
        dsimp only
        refine vy_size (o := 0) h (by omega) (fun s qs => vy_size (o := 0) h (by omega) (fun s' qs' => ?_))
        have c := ve_sy_cmp (by omega) q qs
        have c' := ve_sy_cmp (by omega) qt qs'
        have es : s = r := by rcases c with c | c; omega; exact c.2.2.1
        have es' : s' = t := by rcases c' with c' | c'; omega; exact c'.2.2.1
        subst es; subst es'
        refine pk_lt s 1 (fun z => by omega) (fun _ => pk_lt 12 s (fun z => by omega) (fun _ => pk_lt s' 1 (fun z => by omega) (fun _ => pk_le s' 12 (fun _ => ?_) (fun z => by omega) (ha := by omega)) (ha := by omega)) (hb := by omega)) (ha := by omega)
        refine vy_sub (o := 0) h (by omega) wx wy hx hy (vb_c (fun z => ⟨?_, I2⟩) (fun z => ⟨?_, I2⟩))
        · rw [z]; rfl
        · rw [z]; rfl
      refine vx_sub (o := 0) h (by omega) wx wy hx hy (vb_c (fun z => Y _ ?_) (fun z => Y _ ?_))
      · rw [z]; rfl
      · rw [z]; rfl
end
section
/-! member, resultClass -/
theorem vy_slotA {n : Nat} {A B : Prop} {c k : Int32} (hn : n ≤ 12) (bad : A) (h : ∀ i j, i < n → j < 4 → c = nI i → k = nI j → B) :
    ((c < 0 → A) ∧ (¬ c < 0 → ((nI n ≤ c → A) ∧ (¬ nI n ≤ c → ((k < 0 → A) ∧ (¬ k < 0 → ((3 < k → A) ∧ (¬ 3 < k → B)))))))) := by
  refine br_c (fun _ => bad) (fun z => br_c (fun _ => bad) (fun z2 => br_c (fun _ => bad) (fun z3 => br_c (fun _ => bad) (fun z4 => ?_))))
  obtain ⟨i, hi, rfl⟩ := nI_of z
  obtain ⟨j, hj, rfl⟩ := nI_of z3
  have e1 : ¬ n ≤ i := fun y => z2 (nI_le y hi)
  have e2 : ¬ 3 < j := fun y => z4 (nI_lt (a := 3) y hj)
  exact h i j (by omega) (by omega) rfl rfl
theorem vy_slotB {n : Nat} {A B : Prop} {c k : Int32} (hn : n ≤ 12) (bad : A) (h : ∀ i j, i < n → j < 4 → c = nI i → k = nI j → B) :
    ((c < 0 → A) ∧ (¬ c < 0 → ((nI n ≤ c → A) ∧ (¬ nI n ≤ c → ((k < 0 → A) ∧ (¬ k < 0 → ((k ≤ 3 → B) ∧ (¬ k ≤ 3 → A)))))))) := by
  refine br_c (fun _ => bad) (fun z => br_c (fun _ => bad) (fun z2 => br_c (fun _ => bad) (fun z3 => br_c (fun z4 => ?_) (fun _ => bad))))
  obtain ⟨i, hi, rfl⟩ := nI_of z
  obtain ⟨j, hj, rfl⟩ := nI_of z3
  have e1 : ¬ n ≤ i := fun y => z2 (nI_le y hi)
  have e2 := (nI_leI (b := 3) hj (by omega)).mp z4
  exact h i j (by omega) (by omega) rfl rfl
theorem vb_cf {b : Int32} {A B : Prop} (hb : b = 0) (a : A) : (b = 0 → A) ∧ (¬ b = 0 → B) := br_t hb a
theorem vb_ct {b : Int32} {A B : Prop} (hb : b = 1) (a : B) : (b = 0 → A) ∧ (¬ b = 0 → B) := br_f (by rw [hb]; decide) a
theorem ve_sfb {n : Nat} {G : ve_T} (h : ve_WG n G) {c : Nat} (hc : c < n) : ve_sf G c < 256 := by
  have := ve_n12 h
  unfold ve_sf; split <;> omega
theorem i_vc_member {k : Nat} {u : SX} {v : SY} (I : i_Rel k u v) (hk : k + 5 ≤ 2562) (v1 : Int32) (v2 : Int32) (v3 : Int32) : wpX_member (fun r => wpY_member (fun r' => r' = r ∧ i_Rel (k + 5) u v) v v1 v2 v3) u v1 v2 v3 := by
  refine ve_el (P := fun u v => ∀ J : Prop, J → wpX_member (fun r => wpY_member (fun r' => r' = r ∧ J) v v1 v2 v3) u v1 v2 v3) ?_ I _ I
  intro n nm G M C f_x f_mainBody f_classLimit f_methodLimit f_checkState f_errorPlace f_typeTop f_objCount f_valueTop f_depth f_entered f_result f_keepTypes a_fieldType a_declared a_types a_castAt a_objClass a_objField a_values a_objType a_frameBody a_framePc a_frameThis a_frameArg a_traced g_most g_mostMethods g_checked g_errAt g_depth g_entered g_result g_typed b_hasField b_fld b_need b_types b_objType b_objVal b_vals b_frBody b_pc b_frThis b_frArg b_log F J I2
  obtain ⟨⟨h, w, wc⟩, _, ⟨hE, hD, hH, hF⟩, _, _, _⟩ := F
  have n12 := ve_n12 h
  have hnm := w.1
  have hDl := ve_Dle w
  have hEl := ve_Ele w
  unfold wpX_member
  dsimp only
  refine vx_isSlot n12 ⟨fun c j hc hj e1 e2 => ?_, fun no => ?_⟩
  · subst e1; subst e2
    have Y : ∀ (z : Int32), wpY_member (fun r' => r' = z ∧ J) (g_most, g_mostMethods, (nI n), (nI nm), g_checked, g_errAt, g_depth, g_entered, g_result, g_typed, (ve_i (ve_V G)), (ve_i (ve_B G)), (ve_i (ve_S G)), (ve_i (ve_A G)), b_hasField, b_fld, (ve_i (ve_O M)), (ve_i (ve_N M)), (ve_i (ve_P M)), (ve_i (ve_R M)), (ve_i (ve_L C)), (ve_i (ve_K C)), (ve_i (ve_Q C)), b_need, b_types, b_objType, b_objVal, b_vals, b_frBody, b_pc, b_frThis, b_frArg, b_log) (nI c) (nI j) v3 = wpY_member (fun r' => r' = z ∧ J) (g_most, g_mostMethods, (nI n), (nI nm), g_checked, g_errAt, g_depth, g_entered, g_result, g_typed, (ve_i (ve_V G)), (ve_i (ve_B G)), (ve_i (ve_S G)), (ve_i (ve_A G)), b_hasField, b_fld, (ve_i (ve_O M)), (ve_i (ve_N M)), (ve_i (ve_P M)), (ve_i (ve_R M)), (ve_i (ve_L C)), (ve_i (ve_K C)), (ve_i (ve_Q C)), b_need, b_types, b_objType, b_objVal, b_vals, b_frBody, b_pc, b_frThis, b_frArg, b_log) (nI c) (nI j) v3 := fun _ => rfl
    have sb := ve_sfb h hc
    have sh := ve_sf_hd h hc
    refine br_f (by decide) (br_c (fun z3 => ?_) (fun z3 => br_c (fun z4 => ?_) (fun z4 => ?_)))
    · unfold wpY_member; dsimp only
      exact vy_slotA n12 ⟨rfl, I2⟩ (fun _ _ _ _ _ _ => br_t z3 ⟨rfl, I2⟩)
    · obtain ⟨q, hq, rfl⟩ := nI_of z3
      have q3 : q ≤ 3 := (nI_leI (b := 3) hq (by omega)).mp z4
      refine vx_mo h hj hD hDl (by omega) (vx_fo h hE hEl (by omega) ?_)
      -- Y's walk up to the members
      have YW : ∀ z : Int32, (q = 3 → wY_member_69 (fun r' => r' = z ∧ J) (nI c) (nI q) (ve_d (ve_mt G M c j)) (ve_d (ve_fc G M c)) g_most g_mostMethods (nI n) (nI nm) g_checked g_errAt g_depth g_entered g_result g_typed (ve_i (ve_V G)) (ve_i (ve_B G)) (ve_i (ve_S G)) (ve_i (ve_A G)) b_hasField b_fld (ve_i (ve_O M)) (ve_i (ve_N M)) (ve_i (ve_P M)) (ve_i (ve_R M)) (ve_i (ve_L C)) (ve_i (ve_K C)) (ve_i (ve_Q C)) b_need b_types b_objType b_objVal b_vals b_frBody b_pc b_frThis b_frArg b_log) → (q ≠ 3 → (∀ m, ve_mt G M c j = m + 1 → wY_member_69 (fun r' => r' = z ∧ J) (nI c) (nI q) (ve_d (ve_mt G M c j)) (nI (ve_O M m)) g_most g_mostMethods (nI n) (nI nm) g_checked g_errAt g_depth g_entered g_result g_typed (ve_i (ve_V G)) (ve_i (ve_B G)) (ve_i (ve_S G)) (ve_i (ve_A G)) b_hasField b_fld (ve_i (ve_O M)) (ve_i (ve_N M)) (ve_i (ve_P M)) (ve_i (ve_R M)) (ve_i (ve_L C)) (ve_i (ve_K C)) (ve_i (ve_Q C)) b_need b_types b_objType b_objVal b_vals b_frBody b_pc b_frThis b_frArg b_log) ∧ (ve_mt G M c j = 0 → wY_member_69 (fun r' => r' = z ∧ J) (nI c) (nI q) (ve_d (ve_mt G M c j)) (-1) g_most g_mostMethods (nI n) (nI nm) g_checked g_errAt g_depth g_entered g_result g_typed (ve_i (ve_V G)) (ve_i (ve_B G)) (ve_i (ve_S G)) (ve_i (ve_A G)) b_hasField b_fld (ve_i (ve_O M)) (ve_i (ve_N M)) (ve_i (ve_P M)) (ve_i (ve_R M)) (ve_i (ve_L C)) (ve_i (ve_K C)) (ve_i (ve_Q C)) b_need b_types b_objType b_objVal b_vals b_frBody b_pc b_frThis b_frArg b_log)) →
          wpY_member (fun r' => r' = z ∧ J) (g_most, g_mostMethods, (nI n), (nI nm), g_checked, g_errAt, g_depth, g_entered, g_result, g_typed, (ve_i (ve_V G)), (ve_i (ve_B G)), (ve_i (ve_S G)), (ve_i (ve_A G)), b_hasField, b_fld, (ve_i (ve_O M)), (ve_i (ve_N M)), (ve_i (ve_P M)), (ve_i (ve_R M)), (ve_i (ve_L C)), (ve_i (ve_K C)), (ve_i (ve_Q C)), b_need, b_types, b_objType, b_objVal, b_vals, b_frBody, b_pc, b_frThis, b_frArg, b_log) (nI c) (nI j) (nI q) := by
        intro z h3 hn3
        unfold wpY_member; dsimp only
        refine br_f (nI_pos (by omega)) (br_f (nI_ge hc (by omega)) (br_f (nI_pos (by omega)) (br_f (nI_nlt (b := j) (a := 3) (by omega) (by omega)) (br_f z3 (br_t z4 (vy_mo h w (by omega) hj ?_))))))
        refine pk_eq q 3 (fun e => vy_fo h hH (by omega) (h3 e)) (fun e => vd_ge (by have := hDl; rcases Nat.eq_zero_or_pos (ve_mt G M c j) with y | y; omega; obtain ⟨m, hm⟩ : ∃ m, ve_mt G M c j = m + 1 := ⟨_, (Nat.succ_pred_eq_of_pos y).symm⟩; have := (ve_mt_s h w hj hm).1; omega) (fun m hm => ⟨?_, ?_⟩) (fun hm => (hn3 e).2 hm))
        · rw [hm]; exact vp_in_nI (by have := (ve_mt_s h w hj hm).1; omega) (by omega)
        · have := (hn3 e).1 m hm
          have s1 := (ve_mt_s h w hj hm).1
          rw [hm] at this ⊢
          show wY_member_69 _ _ _ (nI m) (ve_i (ve_O M) (nI m).toNatClampNeg) g_most g_mostMethods (nI n) (nI nm) g_checked g_errAt g_depth g_entered g_result g_typed (ve_i (ve_V G)) (ve_i (ve_B G)) (ve_i (ve_S G)) (ve_i (ve_A G)) b_hasField b_fld (ve_i (ve_O M)) (ve_i (ve_N M)) (ve_i (ve_P M)) (ve_i (ve_R M)) (ve_i (ve_L C)) (ve_i (ve_K C)) (ve_i (ve_Q C)) b_need b_types b_objType b_objVal b_vals b_frBody b_pc b_frThis b_frArg b_log
          rw [ve_at (by omega)]; exact this
      have sub128 : ∀ (t a k' : Nat), a < 16 → ve_wt n G a k' t → k' ≤ 3 → t < 4096 → wY_member_128 (fun r' => r' = nI (ve_th G t a (ve_sf G c)) ∧ J) (nI c) (nI a) (nI t) g_most g_mostMethods (nI n) (nI nm) g_checked g_errAt g_depth g_entered g_result g_typed (ve_i (ve_V G)) (ve_i (ve_B G)) (ve_i (ve_S G)) (ve_i (ve_A G)) b_hasField b_fld (ve_i (ve_O M)) (ve_i (ve_N M)) (ve_i (ve_P M)) (ve_i (ve_R M)) (ve_i (ve_L C)) (ve_i (ve_K C)) (ve_i (ve_Q C)) b_need b_types b_objType b_objVal b_vals b_frBody b_pc b_frThis b_frArg b_log := by
        intro t a k' ha wt hk' ht
        unfold wY_member_128
        refine vy_self h (by omega) ?_
        rw [vl_i (by omega), vl_i (by omega)]
        exact vy_th h ha (by omega) wt hk' ⟨lN_i _, I2⟩
      by_cases e3 : q = 3
      · subst e3
        refine br_t rfl ?_
        refine vd_ge (by unfold ve_fc; rcases ve_fi_sp (g := ve_gE M) h c with y | ⟨b, x, y, y2, _⟩; omega; rw [y2]; have := ve_an_le h x; unfold ve_gE; split <;> omega) (fun a ea => ?_) (fun ea => ?_)
        · have sa := ve_fc_s h ea
          have wE := w.2.2.2.1 a sa.2
          obtain ⟨kE, hkE, wE2⟩ := wE.2.1
          have bE := ve_E4 w a
          rw [ea]
          unfold wX_member_56
          have e1 : ve_d (ve_E M a) = nI (ve_E M a - 1) := by
            obtain ⟨x, hx⟩ : ∃ x, ve_E M a = x + 1 := ⟨ve_E M a - 1, by have := sa.2; omega⟩
            rw [hx]; rfl
          refine br_f (by decide) (vx_selfType h (by omega) (br_t rfl ⟨vp_in_nI (by omega) (by omega), ?_⟩))
          show wpX_seenThrough _ _ (a_fieldType (nI a).toNatClampNeg).toInt64 (nI a) _
          rw [nI_clamp (by omega), hE a (by omega), e1, vl_i (by omega)]
          refine vx_th h (by omega) (by omega) wE2 hkE ?_
          rw [lN_i]
          refine YW _ (fun _ => ?_) (fun z => absurd rfl z)
          rw [ea]
          unfold wY_member_69 wY_member_96
          refine br_t (nI_pos' (by omega)) (br_f (by decide) (br_t rfl ⟨vp_in_nI (by omega) (by omega), ?_⟩))
          show wY_member_128 _ _ (nI a) (b_fld (nI a).toNatClampNeg) g_most g_mostMethods (nI n) (nI nm) g_checked g_errAt g_depth g_entered g_result g_typed (ve_i (ve_V G)) (ve_i (ve_B G)) (ve_i (ve_S G)) (ve_i (ve_A G)) b_hasField b_fld (ve_i (ve_O M)) (ve_i (ve_N M)) (ve_i (ve_P M)) (ve_i (ve_R M)) (ve_i (ve_L C)) (ve_i (ve_K C)) (ve_i (ve_Q C)) b_need b_types b_objType b_objVal b_vals b_frBody b_pc b_frThis b_frArg b_log
          rw [nI_clamp (by omega), hF a (by omega) sa.2]
          exact sub128 _ _ _ (by omega) wE2 hkE (by omega)
        · refine YW _ (fun _ => ?_) (fun z => absurd rfl z)
          rw [ea]
          unfold wY_member_69
          exact br_f (by decide) ⟨rfl, I2⟩
      · refine br_f (fun z => e3 (ve_inj (b := 3) z (by omega) (by omega))) ?_
        refine vd_ge (by rcases Nat.eq_zero_or_pos (ve_mt G M c j) with y | y; omega; obtain ⟨m, hm⟩ : ∃ m, ve_mt G M c j = m + 1 := ⟨_, (Nat.succ_pred_eq_of_pos y).symm⟩; have := (ve_mt_s h w hj hm).1; omega) (fun m em => ?_) (fun em => ?_)
        · have sm := ve_mt_s h w hj em
          have wm := w.2.1 m sm.1
          have oO := vg_O w h m
          obtain ⟨kP, hkP, wP⟩ := wm.2.1
          obtain ⟨kR, hkR, wR⟩ := wm.2.2.1
          have bP := ve_W3b wm.2.1
          have bR := ve_W3b wm.2.2.1
          have nf : ¬ nI q = 3 := fun z => e3 (ve_inj (b := 3) z (by omega) (by omega))
          have YM : ∀ z : Int32, wY_member_69 (fun r' => r' = z ∧ J) (nI c) (nI q) (nI m) (nI (ve_O M m)) g_most g_mostMethods (nI n) (nI nm) g_checked g_errAt g_depth g_entered g_result g_typed (ve_i (ve_V G)) (ve_i (ve_B G)) (ve_i (ve_S G)) (ve_i (ve_A G)) b_hasField b_fld (ve_i (ve_O M)) (ve_i (ve_N M)) (ve_i (ve_P M)) (ve_i (ve_R M)) (ve_i (ve_L C)) (ve_i (ve_K C)) (ve_i (ve_Q C)) b_need b_types b_objType b_objVal b_vals b_frBody b_pc b_frThis b_frArg b_log → wpY_member (fun r' => r' = z ∧ J) (g_most, g_mostMethods, (nI n), (nI nm), g_checked, g_errAt, g_depth, g_entered, g_result, g_typed, (ve_i (ve_V G)), (ve_i (ve_B G)), (ve_i (ve_S G)), (ve_i (ve_A G)), b_hasField, b_fld, (ve_i (ve_O M)), (ve_i (ve_N M)), (ve_i (ve_P M)), (ve_i (ve_R M)), (ve_i (ve_L C)), (ve_i (ve_K C)), (ve_i (ve_Q C)), b_need, b_types, b_objType, b_objVal, b_vals, b_frBody, b_pc, b_frThis, b_frArg, b_log) (nI c) (nI j) (nI q) := by
            intro z hz
            refine YW _ (fun z => absurd z e3) (fun _ => ⟨fun m' em' => ?_, fun em' => by omega⟩)
            have : m' = m := by omega
            subst this
            rw [em]; exact hz
          rw [em]
          unfold wX_member_56 wX_member_118
          refine pk_eq q 0 (fun e0 => YM _ ?_) (fun e0 => vx_selfType h (by omega) (br_f nf (pk_eq q 1 (fun e1 => ?_) (fun e1 => ?_))))
          · unfold wY_member_69
            exact br_t (nI_pos' (by omega)) (br_t (by rw [e0]; rfl) ⟨rfl, I2⟩)
          · refine ⟨vp_in_nI (by omega) (by omega), vp_in_nI (by omega) (by omega), ?_⟩
            show wpX_seenThrough _ _ (ve_i (ve_P M) (nI m).toNatClampNeg).toInt64 (ve_i (ve_O M) (nI m).toNatClampNeg) _
            rw [ve_at (by omega), ve_at (by omega), vl_i (by omega)]
            refine vx_th h (by omega) (by omega) wP hkP ?_
            rw [lN_i]
            refine YM _ ?_
            unfold wY_member_69
            refine br_t (nI_pos' (by omega)) (br_f (fun z => e0 (ve_inj (b := 0) z (by omega) (by omega))) (br_f nf (br_t (nI_pos' (by omega)) (br_t (by rw [e1]; rfl) ⟨vp_in_nI (by omega) (by omega), ?_⟩))))
            show wY_member_128 _ _ _ (ve_i (ve_P M) (nI m).toNatClampNeg) g_most g_mostMethods (nI n) (nI nm) g_checked g_errAt g_depth g_entered g_result g_typed (ve_i (ve_V G)) (ve_i (ve_B G)) (ve_i (ve_S G)) (ve_i (ve_A G)) b_hasField b_fld (ve_i (ve_O M)) (ve_i (ve_N M)) (ve_i (ve_P M)) (ve_i (ve_R M)) (ve_i (ve_L C)) (ve_i (ve_K C)) (ve_i (ve_Q C)) b_need b_types b_objType b_objVal b_vals b_frBody b_pc b_frThis b_frArg b_log
            rw [ve_at (by omega)]
            exact sub128 _ _ _ (by omega) wP hkP (by omega)
          · refine ⟨vp_in_nI (by omega) (by omega), vp_in_nI (by omega) (by omega), ?_⟩
            show wpX_seenThrough _ _ (ve_i (ve_R M) (nI m).toNatClampNeg).toInt64 (ve_i (ve_O M) (nI m).toNatClampNeg) _
            rw [ve_at (by omega), ve_at (by omega), vl_i (by omega)]
            refine vx_th h (by omega) (by omega) wR hkR ?_
            rw [lN_i]
            refine YM _ ?_
            unfold wY_member_69
            refine br_t (nI_pos' (by omega)) (br_f (fun z => e0 (ve_inj (b := 0) z (by omega) (by omega))) (br_f nf (br_t (nI_pos' (by omega)) (br_f (fun z => e1 (ve_inj (b := 1) z (by omega) (by omega))) ⟨vp_in_nI (by omega) (by omega), ?_⟩))))
            show wY_member_128 _ _ _ (ve_i (ve_R M) (nI m).toNatClampNeg) g_most g_mostMethods (nI n) (nI nm) g_checked g_errAt g_depth g_entered g_result g_typed (ve_i (ve_V G)) (ve_i (ve_B G)) (ve_i (ve_S G)) (ve_i (ve_A G)) b_hasField b_fld (ve_i (ve_O M)) (ve_i (ve_N M)) (ve_i (ve_P M)) (ve_i (ve_R M)) (ve_i (ve_L C)) (ve_i (ve_K C)) (ve_i (ve_Q C)) b_need b_types b_objType b_objVal b_vals b_frBody b_pc b_frThis b_frArg b_log
            rw [ve_at (by omega)]
            exact sub128 _ _ _ (by omega) wR hkR (by omega)
        · refine YW _ (fun z => absurd z e3) (fun _ => ⟨fun m' em' => by omega, fun _ => ?_⟩)
          rw [em]
          unfold wY_member_69
          exact br_f (by decide) ⟨rfl, I2⟩
    · unfold wpY_member; dsimp only
      exact vy_slotA n12 ⟨rfl, I2⟩ (fun _ _ _ _ _ _ => br_f z3 (br_f z4 ⟨rfl, I2⟩))
  · refine br_t rfl ?_
    unfold wpY_member; dsimp only
    exact vy_slotA n12 ⟨rfl, I2⟩ (fun i j hi hj e1 e2 => (no i j hi hj e1 e2).elim)
end
section
/-! resultClass; addClass -/
theorem ve_mtb {n nm : Nat} {G : ve_T} {M : ve_M} (h : ve_WG n G) (w : ve_WM n nm G M) {c k : Nat} (hk : k < 4) : ve_mt G M c k ≤ 2147483648 := by
  rcases Nat.eq_zero_or_pos (ve_mt G M c k) with y | y
  · omega
  · obtain ⟨m, hm⟩ : ∃ m, ve_mt G M c k = m + 1 := ⟨_, (Nat.succ_pred_eq_of_pos y).symm⟩
    have := (ve_mt_s h w hk hm).1
    have := w.1
    omega
theorem ve_fcb {n : Nat} {G : ve_T} {M : ve_M} (h : ve_WG n G) {c : Nat} (hc : c < 16) : ve_fc G M c ≤ 2147483648 := by
  rcases Nat.eq_zero_or_pos (ve_fc G M c) with y | y
  · omega
  · obtain ⟨a, ha⟩ : ∃ a, ve_fc G M c = a + 1 := ⟨_, (Nat.succ_pred_eq_of_pos y).symm⟩
    have := ve_an_le h (ve_fc_s h ha).1
    omega
section
variable {n nm : Nat} {G : ve_T} {M : ve_M} {C : ve_C} {f_x f_mainBody f_classLimit f_methodLimit f_checkState f_errorPlace f_typeTop f_objCount f_valueTop f_depth f_entered f_result f_keepTypes : Int32} {a_fieldType a_declared a_castAt a_objClass a_objField a_values a_frameBody a_framePc a_frameThis a_frameArg a_traced : Nat → Int32} {a_types a_objType : Nat → Int64}
variable {g_most g_mostMethods g_checked g_errAt g_depth g_entered g_result g_typed : Int32} {b_hasField b_fld b_need b_objType b_objVal b_vals b_frBody b_pc b_frThis b_frArg b_log : Nat → Int32} {b_types : Nat → Int64}
theorem ve_rc {oT oF : Nat → Nat} {oc kk : Nat} (hoc : oc ≤ 264) (hkk : kk < 2147483648) (q : ∀ i, i < oc → ve_FI f_keepTypes a_objClass a_objField a_objType b_objType b_objVal oT oF i) : ∀ f y i, y ≤ oc → y < f → i ≤ kk →
    ∃ r, (i + y < kk → r = -1) ∧ (∀ post : Int32 → Prop, post r → wX_resultClass_15 post (nI kk) f_x f_mainBody f_classLimit f_methodLimit (nI n) (nI nm) f_checkState f_errorPlace f_typeTop f_objCount f_valueTop f_depth f_entered f_result f_keepTypes (ve_i (ve_V G)) (ve_i (ve_B G)) (ve_i (ve_S G)) (ve_i (ve_A G)) a_fieldType a_declared (ve_i (ve_O M)) (ve_i (ve_P M)) (ve_i (ve_R M)) (ve_i (ve_L C)) (ve_i (ve_K C)) (ve_i (ve_Q C)) a_types a_castAt a_objClass a_objField a_values a_objType a_frameBody a_framePc a_frameThis a_frameArg a_traced f (ve_d y) (nI i)) ∧ (∀ post : Int32 → Prop, post r → wY_resultClass_20 post (nI kk) g_most g_mostMethods (nI n) (nI nm) g_checked g_errAt g_depth g_entered g_result g_typed (ve_i (ve_V G)) (ve_i (ve_B G)) (ve_i (ve_S G)) (ve_i (ve_A G)) b_hasField b_fld (ve_i (ve_O M)) (ve_i (ve_N M)) (ve_i (ve_P M)) (ve_i (ve_R M)) (ve_i (ve_L C)) (ve_i (ve_K C)) (ve_i (ve_Q C)) b_need b_types b_objType b_objVal b_vals b_frBody b_pc b_frThis b_frArg b_log f (ve_d y) (nI i)) := by
  have fin : ∀ y, y ≤ oc → ∃ r, (y = 0 → r = -1) ∧ (∀ post : Int32 → Prop, post r → wX_resultClass_37 post (ve_d y) f_x f_mainBody f_classLimit f_methodLimit (nI n) (nI nm) f_checkState f_errorPlace f_typeTop f_objCount f_valueTop f_depth f_entered f_result f_keepTypes (ve_i (ve_V G)) (ve_i (ve_B G)) (ve_i (ve_S G)) (ve_i (ve_A G)) a_fieldType a_declared (ve_i (ve_O M)) (ve_i (ve_P M)) (ve_i (ve_R M)) (ve_i (ve_L C)) (ve_i (ve_K C)) (ve_i (ve_Q C)) a_types a_castAt a_objClass a_objField a_values a_objType a_frameBody a_framePc a_frameThis a_frameArg a_traced) ∧ (∀ post : Int32 → Prop, post r → wY_resultClass_42 post (ve_d y) g_most g_mostMethods (nI n) (nI nm) g_checked g_errAt g_depth g_entered g_result g_typed (ve_i (ve_V G)) (ve_i (ve_B G)) (ve_i (ve_S G)) (ve_i (ve_A G)) b_hasField b_fld (ve_i (ve_O M)) (ve_i (ve_N M)) (ve_i (ve_P M)) (ve_i (ve_R M)) (ve_i (ve_L C)) (ve_i (ve_K C)) (ve_i (ve_Q C)) b_need b_types b_objType b_objVal b_vals b_frBody b_pc b_frThis b_frArg b_log) := by
    intro y hy
    cases y with
    | zero => exact ⟨-1, fun _ => rfl, fun post hp => br_f (by decide) hp, fun post hp => br_f (by decide) hp⟩
    | succ j =>
      obtain ⟨_, _, _, p4, p5, p6, _⟩ := q j (by omega)
      refine ⟨nI (oT j % 16), fun z => by omega, fun post hp => br_t (nI_pos' (by omega)) ⟨vp_in_nI (by omega) (by omega), ?_⟩, fun post hp => br_t (nI_pos' (by omega)) ⟨vp_in_nI (by omega) (by omega), ?_⟩⟩
      · show post (a_objClass (nI j).toNatClampNeg)
        rw [nI_clamp (by omega), p4]; exact hp
      · show post (b_objType (nI j).toNatClampNeg &&& 15)
        rw [nI_clamp (by omega), p5, pk_andN (by omega) 4 (by decide)]; exact hp
  intro f
  induction f with
  | zero => intro y i _ h; omega
  | succ f ih =>
    intro y i hy hf hi
    rcases Nat.lt_or_ge i kk with z | z
    · cases y with
      | zero =>
        obtain ⟨r, e, hX, hY⟩ := fin 0 (by omega)
        exact ⟨r, fun _ => e rfl, fun post hp => br_f (nI_ge z (by omega)) (br_t (by decide) (hX post hp)), fun post hp => br_f (nI_ge z (by omega)) (br_t (by decide) (hY post hp))⟩
      | succ j =>
        obtain ⟨p1, p2, p3, _⟩ := q j (by omega)
        obtain ⟨r, e, hX, hY⟩ := ih (oF j) (i + 1) (by omega) (by omega) (by omega)
        refine ⟨r, fun z => e (by omega), fun post hp => br_f (nI_ge z (by omega)) (br_f (nI_pos (by omega)) ⟨vp_in_nI (by omega) (by omega), nm_r (e' := ve_d (oF j)) ?_ (nm_r (nI_1 i) (hX post hp))⟩), fun post hp => br_f (nI_ge z (by omega)) (br_f (nI_pos (by omega)) ⟨vp_in_nI (by omega) (by omega), nm_r (e' := ve_d (oF j)) ?_ (nm_r (nI_1 i) (hY post hp))⟩)⟩
        · show a_objField (nI j).toNatClampNeg = _
          rw [nI_clamp (by omega), p1]
        · show b_objVal (nI j).toNatClampNeg = _
          rw [nI_clamp (by omega), p2]
    · obtain ⟨r, e, hX, hY⟩ := fin y hy
      exact ⟨r, fun _ => by omega, fun post hp => br_t (nI_le z (by omega)) (hX post hp), fun post hp => br_t (nI_le z (by omega)) (hY post hp)⟩
end
theorem i_vc_resultClass {k : Nat} {u : SX} {v : SY} (I : i_Rel k u v) (hk : k + 5 ≤ 2562) (v1 : Int32) : wpX_resultClass (fun r => wpY_resultClass (fun r' => r' = r ∧ i_Rel (k + 5) u v) v v1) u v1 := by
  refine ve_el (P := fun u v => ∀ J : Prop, J → wpX_resultClass (fun r => wpY_resultClass (fun r' => r' = r ∧ J) v v1) u v1) ?_ I _ I
  intro n nm G M C f_x f_mainBody f_classLimit f_methodLimit f_checkState f_errorPlace f_typeTop f_objCount f_valueTop f_depth f_entered f_result f_keepTypes a_fieldType a_declared a_types a_castAt a_objClass a_objField a_values a_objType a_frameBody a_framePc a_frameThis a_frameArg a_traced g_most g_mostMethods g_checked g_errAt g_depth g_entered g_result g_typed b_hasField b_fld b_need b_types b_objType b_objVal b_vals b_frBody b_pc b_frThis b_frArg b_log F J I2
  obtain ⟨_, _, _, T, _, R⟩ := F
  unfold wpX_resultClass
  dsimp only
  refine br_c (fun z => ?_) (fun z => ⟨1, ?_⟩)
  · have z' : ¬ v1 < 0 := Int32.not_lt.mpr z
    obtain ⟨kk, hkk, rfl⟩ := nI_of z'
    obtain ⟨y, oc, oT, oF, e1, e2, hy, hoc, q⟩ : ∃ y oc, ∃ oT oF : Nat → Nat, f_result = ve_d y ∧ g_result = ve_d y ∧ y ≤ oc ∧ oc ≤ 264 ∧ ∀ i, i < oc → ve_FI f_keepTypes a_objClass a_objField a_objType b_objType b_objVal oT oF i := by
      rcases R.2 with ⟨q1, q2⟩ | ⟨r, oc, oT, oF, q1, q2, q3, q4, q5⟩
      · exact ⟨0, 0, fun _ => 0, fun _ => 0, q1, q2, by omega, by omega, fun i hi => by omega⟩
      · exact ⟨r + 1, oc, oT, oF, q1, q2, by omega, q4, q5⟩
    subst e1; subst e2
    obtain ⟨r, e, hX, hY⟩ := ve_rc (C := C) (M := M) (G := G) (n := n) (nm := nm) (oT := oT) (oF := oF) hoc (by omega) q (y + 1) y 0 hy (by omega) (by omega)
    refine ⟨y + 1, hX _ ?_⟩
    unfold wpY_resultClass
    dsimp only
    refine br_f z' (pk_lt kk 300 (fun c => ⟨y + 1, hY _ ⟨rfl, I2⟩⟩) (fun c => ⟨(e (by omega)).symm, I2⟩))
  · have z' : v1 < 0 := by
      rw [Int32.lt_iff_toInt_lt]; rw [Int32.le_iff_toInt_le] at z; omega
    have Y : wpY_resultClass (fun r' => r' = -1 ∧ J) (g_most, g_mostMethods, (nI n), (nI nm), g_checked, g_errAt, g_depth, g_entered, g_result, g_typed, (ve_i (ve_V G)), (ve_i (ve_B G)), (ve_i (ve_S G)), (ve_i (ve_A G)), b_hasField, b_fld, (ve_i (ve_O M)), (ve_i (ve_N M)), (ve_i (ve_P M)), (ve_i (ve_R M)), (ve_i (ve_L C)), (ve_i (ve_K C)), (ve_i (ve_Q C)), b_need, b_types, b_objType, b_objVal, b_vals, b_frBody, b_pc, b_frThis, b_frArg, b_log) v1 := by
      unfold wpY_resultClass
      dsimp only
      exact br_t z' ⟨rfl, I2⟩
    refine br_t ?_ (br_f (by decide) Y)
    rw [Int32.le_iff_toInt_le, show (0 : Int32).toInt = 0 from by decide]
    rw [Int32.lt_iff_toInt_lt, show (0 : Int32).toInt = 0 from by decide] at z'
    omega
/-- a cls's header -/
def ve_HD (n : Nat) (G : ve_T) (v1 v2 v3 v4 : Int32) (va b s a : Nat) : Prop :=
  (v1 = nI va ∧ v2 = nI b ∧ v3 = nI s ∧ v4 = nI a) ∧ (va ≤ 3 ∧ s < n ∧ b < n ∧ ve_V G b = 0 ∧ (va = 0 → b = 0)) ∧ (ve_V G s = 0 → a = 0) ∧
  (ve_V G s ≠ 0 → (a = 15 ∧ va ≠ 0) ∨ (a < n ∧ ve_V G a = 0) ∨ (a = n ∧ va = 0))
section
variable {n nm : Nat} {G : ve_T} {M : ve_M} {C : ve_C} {f_x f_mainBody f_classLimit f_methodLimit f_checkState f_errorPlace f_typeTop f_objCount f_valueTop f_depth f_entered f_result f_keepTypes : Int32} {a_fieldType a_declared a_castAt a_objClass a_objField a_values a_frameBody a_framePc a_frameThis a_frameArg a_traced : Nat → Int32} {a_types a_objType : Nat → Int64} {post : Int32 → Prop} {v1 v2 v3 v4 : Int32}
theorem vx_hd44 (h : ve_WG n G) {va b s : Nat} (hva : va ≤ 3) (hb : b < n) (hs : s < n) (hvb : ve_V G b = 0) (h0 : va = 0 → b = 0)
    (h1 : ∀ a, ve_HD n G (nI va) (nI b) (nI s) v4 va b s a → post 1) (hn : (∀ a, ¬ ve_HD n G (nI va) (nI b) (nI s) v4 va b s a) → post 0) : wX_isHeader_44 post (nI va) (nI s) v4 f_x f_mainBody f_classLimit f_methodLimit (nI n) (nI nm) f_checkState f_errorPlace f_typeTop f_objCount f_valueTop f_depth f_entered f_result f_keepTypes (ve_i (ve_V G)) (ve_i (ve_B G)) (ve_i (ve_S G)) (ve_i (ve_A G)) a_fieldType a_declared (ve_i (ve_O M)) (ve_i (ve_P M)) (ve_i (ve_R M)) (ve_i (ve_L C)) (ve_i (ve_K C)) (ve_i (ve_Q C)) a_types a_castAt a_objClass a_objField a_values a_objType a_frameBody a_framePc a_frameThis a_frameArg a_traced := by
  have n12 := ve_n12 h
  have v3 := ve_V3 h s
  unfold wX_isHeader_44
  refine ⟨vp_in_nI (by omega) (by omega), ?_⟩
  rw [ve_at (by omega)]
  refine pk_eq (ve_V G s) 0 (fun c => br_c (fun e => ?_) (fun e => hn ?_)) (fun c => br_c (fun e => ?_) (fun e => ?_))
  · exact h1 0 ⟨⟨rfl, rfl, rfl, e⟩, ⟨hva, hs, hb, hvb, h0⟩, fun _ => rfl, fun z => absurd c z⟩
  · rintro a ⟨⟨_, _, _, e4⟩, _, q, _⟩
    rw [q c] at e4; exact e e4
  · refine pk_eq va 0 (fun e0 => hn ?_) (fun e0 => h1 15 ⟨⟨rfl, rfl, rfl, e⟩, ⟨hva, hs, hb, hvb, h0⟩, fun z => absurd z c, fun _ => Or.inl ⟨rfl, e0⟩⟩)
    rintro a ⟨⟨_, _, _, e4⟩, _, _, q⟩
    have ea : (15 : Nat) = a := ve_inj (e.symm.trans e4 : nI 15 = nI a) (by omega) (by rcases q c with q | q | q <;> omega)
    rcases q c with q | q | q <;> omega
  · refine vx_isPlain h ⟨fun a ha ea va0 => br_f (by decide) (h1 a ⟨⟨rfl, rfl, rfl, ea⟩, ⟨hva, hs, hb, hvb, h0⟩, fun z => absurd z c, fun _ => Or.inr (Or.inl ⟨ha, va0⟩)⟩), fun np => br_t rfl (br_c (fun en => pk_eq va 0 (fun e0 => ?_) (fun e0 => hn ?_)) (fun en => hn ?_))⟩
    · exact h1 n ⟨⟨rfl, rfl, rfl, en⟩, ⟨hva, hs, hb, hvb, h0⟩, fun z => absurd z c, fun _ => Or.inr (Or.inr ⟨rfl, e0⟩)⟩
    · rintro a ⟨⟨_, _, _, e4⟩, _, _, q⟩
      rcases q c with q | q | q
      · rw [q.1] at e4; exact e e4
      · exact np a q.1 e4 q.2
      · exact e0 q.2
    · rintro a ⟨⟨_, _, _, e4⟩, _, _, q⟩
      rcases q c with q | q | q
      · rw [q.1] at e4; exact e e4
      · exact np a q.1 e4 q.2
      · rw [q.1] at e4; exact en e4
theorem vx_hd (h : ve_WG n G) (h1 : ∀ va b s a, ve_HD n G v1 v2 v3 v4 va b s a → post 1) (hn : (∀ va b s a, ¬ ve_HD n G v1 v2 v3 v4 va b s a) → post 0) : wpX_isHeader post (f_x, f_mainBody, f_classLimit, f_methodLimit, (nI n), (nI nm), f_checkState, f_errorPlace, f_typeTop, f_objCount, f_valueTop, f_depth, f_entered, f_result, f_keepTypes, (ve_i (ve_V G)), (ve_i (ve_B G)), (ve_i (ve_S G)), (ve_i (ve_A G)), a_fieldType, a_declared, (ve_i (ve_O M)), (ve_i (ve_P M)), (ve_i (ve_R M)), (ve_i (ve_L C)), (ve_i (ve_K C)), (ve_i (ve_Q C)), a_types, a_castAt, a_objClass, a_objField, a_values, a_objType, a_frameBody, a_framePc, a_frameThis, a_frameArg, a_traced) v1 v2 v3 v4 := by
  have n12 := ve_n12 h
  unfold wpX_isHeader
  dsimp only
  refine br_c (fun z => hn ?_) (fun z1 => br_c (fun z => hn ?_) (fun z2 => br_c (fun z => hn ?_) (fun z3 => br_c (fun z4 => ?_) (fun z => hn ?_))))
  · rintro va b s a ⟨⟨e1, _, _, _⟩, q, _⟩; rw [e1] at z; exact nI_pos (by omega) z
  · rintro va b s a ⟨⟨e1, _, _, _⟩, q, _⟩; rw [e1] at z; exact nI_nlt (b := va) (a := 3) (by omega) (by omega) z
  · rintro va b s a ⟨⟨_, _, e3, _⟩, q, _⟩; rw [e3] at z; exact nI_pos (by omega) z
  · obtain ⟨va, hva, rfl⟩ := nI_of z1
    obtain ⟨s, hs, rfl⟩ := nI_of z3
    have hva3 : va ≤ 3 := by
      rcases Nat.lt_or_ge 3 va with y | y
      · exact absurd (nI_lt (a := 3) y hva) z2
      · exact y
    have hsn : s < n := (nI_ltI hs (by omega)).mp z4
    have un : ∀ va' b' s' a', ve_HD n G (nI va) v2 (nI s) v4 va' b' s' a' → va' = va ∧ s' = s := by
      rintro va' b' s' a' ⟨⟨e1, _, e3, _⟩, q, _⟩
      exact ⟨(ve_inj e1 (by omega) (by omega)).symm, (ve_inj e3 (by omega) (by omega)).symm⟩
    refine pk_eq va 0 (fun e0 => br_c (fun e2 => ?_) (fun e2 => hn ?_)) (fun e0 => ?_)
    · subst e2
      refine vx_hd44 (b := 0) h hva3 (by omega) hsn (ve_V0 h) (fun _ => rfl) (fun a ha => h1 _ _ _ _ ha) (fun hno => hn ?_)
      rintro va' b' s' a' q
      obtain ⟨rfl, rfl⟩ := un _ _ _ _ q
      have : b' = 0 := q.2.1.2.2.2.2 e0
      subst this
      exact hno a' q
    · rintro va' b' s' a' q
      obtain ⟨rfl, rfl⟩ := un _ _ _ _ q
      have : b' = 0 := q.2.1.2.2.2.2 e0
      subst this
      exact e2 q.1.2.1
    · refine vx_isPlain h ⟨fun b hb eb vb => br_f (by decide) ?_, fun np => br_t rfl (hn ?_)⟩
      · subst eb
        refine vx_hd44 h hva3 hb hsn vb (fun z => absurd z e0) (fun a ha => h1 _ _ _ _ ha) (fun hno => hn ?_)
        rintro va' b' s' a' q
        obtain ⟨rfl, rfl⟩ := un _ _ _ _ q
        have : b' = b := (ve_inj q.1.2.1 (by omega) (by have := q.2.1.2.2.1; omega)).symm
        subst this
        exact hno a' q
      · rintro va' b' s' a' q
        exact np b' q.2.1.2.2.1 q.1.2.1 q.2.1.2.2.2.1
  · rintro va b s a ⟨⟨_, _, e3, _⟩, q, _⟩; rw [e3] at z; exact z (nI_lt q.2.1 (by omega))
end
section
variable {n nm : Nat} {G : ve_T} {M : ve_M} {C : ve_C} {g_most g_mostMethods g_checked g_errAt g_depth g_entered g_result g_typed : Int32} {b_hasField b_fld b_need b_objType b_objVal b_vals b_frBody b_pc b_frThis b_frArg b_log : Nat → Int32} {b_types : Nat → Int64} {post : Int32 → SY → Prop} {v1 v2 v3 v4 : Int32}
theorem vy_hd82 (h : ve_WG n G) {va b s : Nat} (hva : va ≤ 3) (hb : b < n) (hs : s < n) (hvb : ve_V G b = 0) (h0 : va = 0 → b = 0)
    (h1 : ∀ a, ve_HD n G (nI va) (nI b) (nI s) v4 va b s a → wY_addClass_163 post (nI va) (nI b) (nI s) (nI a) (ve_b (decide (ve_V G s ≠ 0))) g_most g_mostMethods (nI n) (nI nm) g_checked g_errAt g_depth g_entered g_result g_typed (ve_i (ve_V G)) (ve_i (ve_B G)) (ve_i (ve_S G)) (ve_i (ve_A G)) b_hasField b_fld (ve_i (ve_O M)) (ve_i (ve_N M)) (ve_i (ve_P M)) (ve_i (ve_R M)) (ve_i (ve_L C)) (ve_i (ve_K C)) (ve_i (ve_Q C)) b_need b_types b_objType b_objVal b_vals b_frBody b_pc b_frThis b_frArg b_log)
    (hn : (∀ a, ¬ ve_HD n G (nI va) (nI b) (nI s) v4 va b s a) → post (-1) (g_most, g_mostMethods, (nI n), (nI nm), g_checked, g_errAt, g_depth, g_entered, g_result, g_typed, (ve_i (ve_V G)), (ve_i (ve_B G)), (ve_i (ve_S G)), (ve_i (ve_A G)), b_hasField, b_fld, (ve_i (ve_O M)), (ve_i (ve_N M)), (ve_i (ve_P M)), (ve_i (ve_R M)), (ve_i (ve_L C)), (ve_i (ve_K C)), (ve_i (ve_Q C)), b_need, b_types, b_objType, b_objVal, b_vals, b_frBody, b_pc, b_frThis, b_frArg, b_log)) : wY_addClass_82 post (nI va) (nI b) (nI s) v4 (ve_b (decide (ve_V G s ≠ 0))) g_most g_mostMethods (nI n) (nI nm) g_checked g_errAt g_depth g_entered g_result g_typed (ve_i (ve_V G)) (ve_i (ve_B G)) (ve_i (ve_S G)) (ve_i (ve_A G)) b_hasField b_fld (ve_i (ve_O M)) (ve_i (ve_N M)) (ve_i (ve_P M)) (ve_i (ve_R M)) (ve_i (ve_L C)) (ve_i (ve_K C)) (ve_i (ve_Q C)) b_need b_types b_objType b_objVal b_vals b_frBody b_pc b_frThis b_frArg b_log := by
  have n12 := ve_n12 h
  -- from 113 on, with 'old' = z
  have J : ∀ z : Bool, (z = true ↔ ∃ a, a < n ∧ v4 = nI a ∧ ve_V G a = 0) → wY_addClass_113 post (nI va) (nI b) (nI s) v4 (ve_b (decide (ve_V G s ≠ 0))) (ve_b z) g_most g_mostMethods (nI n) (nI nm) g_checked g_errAt g_depth g_entered g_result g_typed (ve_i (ve_V G)) (ve_i (ve_B G)) (ve_i (ve_S G)) (ve_i (ve_A G)) b_hasField b_fld (ve_i (ve_O M)) (ve_i (ve_N M)) (ve_i (ve_P M)) (ve_i (ve_R M)) (ve_i (ve_L C)) (ve_i (ve_K C)) (ve_i (ve_Q C)) b_need b_types b_objType b_objVal b_vals b_frBody b_pc b_frThis b_frArg b_log := by
    intro z hz
    unfold wY_addClass_113
    refine vb_c (fun c => br_c (fun e => ?_) (fun e => hn ?_)) (fun c => ?_)
    · have c' := Decidable.of_not_not (of_decide_eq_false c)
      unfold wY_addClass_127
      subst e
      exact vb_c (fun _ => h1 0 ⟨⟨rfl, rfl, rfl, rfl⟩, ⟨hva, hs, hb, hvb, h0⟩, fun _ => rfl, fun z => absurd c' z⟩) (fun y => absurd c' (of_decide_eq_true y))
    · have c' := Decidable.of_not_not (of_decide_eq_false c)
      rintro a ⟨⟨_, _, _, e4⟩, _, q, _⟩
      rw [q c'] at e4; exact e e4
    · have c' := of_decide_eq_true c
      unfold wY_addClass_127
      refine vb_c (fun y => absurd c' (of_decide_eq_false y)) (fun _ => ?_)
      have j148 : (∀ a, a < n → v4 = nI a → ve_V G a ≠ 0) → (v4 = 15 → va = 0) → wY_addClass_148 post (nI va) (nI b) (nI s) v4 (ve_b (decide (ve_V G s ≠ 0))) g_most g_mostMethods (nI n) (nI nm) g_checked g_errAt g_depth g_entered g_result g_typed (ve_i (ve_V G)) (ve_i (ve_B G)) (ve_i (ve_S G)) (ve_i (ve_A G)) b_hasField b_fld (ve_i (ve_O M)) (ve_i (ve_N M)) (ve_i (ve_P M)) (ve_i (ve_R M)) (ve_i (ve_L C)) (ve_i (ve_K C)) (ve_i (ve_Q C)) b_need b_types b_objType b_objVal b_vals b_frBody b_pc b_frThis b_frArg b_log := by
        intro no n15
        unfold wY_addClass_148
        refine br_c (fun en => pk_eq va 0 (fun e0 => ?_) (fun e0 => hn ?_)) (fun en => hn ?_)
        · subst en
          exact h1 n ⟨⟨rfl, rfl, rfl, rfl⟩, ⟨hva, hs, hb, hvb, h0⟩, fun z => absurd z c', fun _ => Or.inr (Or.inr ⟨rfl, e0⟩)⟩
        · rintro a ⟨⟨_, _, _, e4⟩, _, _, q⟩
          rcases q c' with q | q | q
          · rw [q.1] at e4; exact q.2 (n15 e4)
          · exact no a q.1 e4 q.2
          · exact e0 q.2
        · rintro a ⟨⟨_, _, _, e4⟩, _, _, q⟩
          rcases q c' with q | q | q
          · rw [q.1] at e4; exact q.2 (n15 e4)
          · exact no a q.1 e4 q.2
          · rw [q.1] at e4; exact en e4
      refine vb_c (fun y => br_c (fun e15 => pk_eq va 0 (fun e0 => j148 ?_ (fun _ => e0)) (fun e0 => ?_)) (fun e15 => j148 ?_ (fun z => absurd z e15))) (fun y => ?_)
      · intro a ha e4 va0; rw [hz.mpr ⟨a, ha, e4, va0⟩] at y; exact absurd y (by decide)
      · subst e15
        exact h1 15 ⟨⟨rfl, rfl, rfl, rfl⟩, ⟨hva, hs, hb, hvb, h0⟩, fun z => absurd z c', fun _ => Or.inl ⟨rfl, e0⟩⟩
      · intro a ha e4 va0; rw [hz.mpr ⟨a, ha, e4, va0⟩] at y; exact absurd y (by decide)
      · obtain ⟨a, ha, rfl, va0⟩ := hz.mp y
        exact h1 a ⟨⟨rfl, rfl, rfl, rfl⟩, ⟨hva, hs, hb, hvb, h0⟩, fun z => absurd z c', fun _ => Or.inr (Or.inl ⟨ha, va0⟩)⟩
  have J0 : (¬ ∃ a, a < n ∧ v4 = nI a ∧ ve_V G a = 0) → wY_addClass_112 post (nI va) (nI b) (nI s) v4 (ve_b (decide (ve_V G s ≠ 0))) g_most g_mostMethods (nI n) (nI nm) g_checked g_errAt g_depth g_entered g_result g_typed (ve_i (ve_V G)) (ve_i (ve_B G)) (ve_i (ve_S G)) (ve_i (ve_A G)) b_hasField b_fld (ve_i (ve_O M)) (ve_i (ve_N M)) (ve_i (ve_P M)) (ve_i (ve_R M)) (ve_i (ve_L C)) (ve_i (ve_K C)) (ve_i (ve_Q C)) b_need b_types b_objType b_objVal b_vals b_frBody b_pc b_frThis b_frArg b_log := by
    intro no
    unfold wY_addClass_112
    exact J false ⟨fun z => absurd z (by decide), fun z => absurd z no⟩
  unfold wY_addClass_82
  refine br_c (fun z => J0 ?_) (fun z => br_c (fun z2 => J0 ?_) (fun z2 => ?_))
  · rintro ⟨a, ha, e, _⟩; rw [e] at z; exact nI_pos (by omega) z
  · rintro ⟨a, ha, e, _⟩; rw [e] at z2; exact nI_ge ha (by omega) z2
  · obtain ⟨a, ha, rfl⟩ := nI_of z
    have han : a < n := by
      rcases Nat.lt_or_ge a n with y | y
      · exact y
      · exact absurd (nI_le y ha) z2
    have v3 := ve_V3 h a
    refine ⟨vp_in_nI (by omega) (by omega), ?_⟩
    rw [ve_at (by omega)]
    refine pk_eq (ve_V G a) 0 (fun c => J true ⟨fun _ => ⟨a, han, rfl, c⟩, fun _ => rfl⟩) (fun c => J0 ?_)
    rintro ⟨a', ha', e, c'⟩
    have := ve_inj e (by omega) (by omega)
    subst this
    exact c c'
theorem vy_hd (h : ve_WG n G) {cl : Nat} (hcl : cl ≤ 12) (hne : n ≠ cl) (hm : g_most = nI cl)
    (h1 : ∀ va b s a, ve_HD n G v1 v2 v3 v4 va b s a → wY_addClass_163 post (nI va) (nI b) (nI s) (nI a) (ve_b (decide (ve_V G s ≠ 0))) g_most g_mostMethods (nI n) (nI nm) g_checked g_errAt g_depth g_entered g_result g_typed (ve_i (ve_V G)) (ve_i (ve_B G)) (ve_i (ve_S G)) (ve_i (ve_A G)) b_hasField b_fld (ve_i (ve_O M)) (ve_i (ve_N M)) (ve_i (ve_P M)) (ve_i (ve_R M)) (ve_i (ve_L C)) (ve_i (ve_K C)) (ve_i (ve_Q C)) b_need b_types b_objType b_objVal b_vals b_frBody b_pc b_frThis b_frArg b_log)
    (hn : (∀ va b s a, ¬ ve_HD n G v1 v2 v3 v4 va b s a) → post (-1) (g_most, g_mostMethods, (nI n), (nI nm), g_checked, g_errAt, g_depth, g_entered, g_result, g_typed, (ve_i (ve_V G)), (ve_i (ve_B G)), (ve_i (ve_S G)), (ve_i (ve_A G)), b_hasField, b_fld, (ve_i (ve_O M)), (ve_i (ve_N M)), (ve_i (ve_P M)), (ve_i (ve_R M)), (ve_i (ve_L C)), (ve_i (ve_K C)), (ve_i (ve_Q C)), b_need, b_types, b_objType, b_objVal, b_vals, b_frBody, b_pc, b_frThis, b_frArg, b_log)) : wpY_addClass post (g_most, g_mostMethods, (nI n), (nI nm), g_checked, g_errAt, g_depth, g_entered, g_result, g_typed, (ve_i (ve_V G)), (ve_i (ve_B G)), (ve_i (ve_S G)), (ve_i (ve_A G)), b_hasField, b_fld, (ve_i (ve_O M)), (ve_i (ve_N M)), (ve_i (ve_P M)), (ve_i (ve_R M)), (ve_i (ve_L C)), (ve_i (ve_K C)), (ve_i (ve_Q C)), b_need, b_types, b_objType, b_objVal, b_vals, b_frBody, b_pc, b_frThis, b_frArg, b_log) v1 v2 v3 v4 := by
  have n12 := ve_n12 h
  unfold wpY_addClass
  dsimp only
  refine br_f (fun z => hne (ve_inj (z.trans hm) (by omega) (by omega))) (br_c (fun z => hn ?_) (fun z1 => br_c (fun z => hn ?_) (fun z2 => br_c (fun z => hn ?_) (fun z3 => br_c (fun z => hn ?_) (fun z4 => ?_)))))
  · rintro va b s a ⟨⟨e1, _, _, _⟩, q, _⟩; rw [e1] at z; exact nI_pos (by omega) z
  · rintro va b s a ⟨⟨e1, _, _, _⟩, q, _⟩; rw [e1] at z; exact nI_nlt (b := va) (a := 3) (by omega) (by omega) z
  · rintro va b s a ⟨⟨_, _, e3, _⟩, q, _⟩; rw [e3] at z; exact nI_pos (by omega) z
  · rintro va b s a ⟨⟨_, _, e3, _⟩, q, _⟩; rw [e3] at z; exact nI_ge q.2.1 (by omega) z
  · obtain ⟨va, hva, rfl⟩ := nI_of z1
    obtain ⟨s, hs, rfl⟩ := nI_of z3
    have hva3 : va ≤ 3 := by
      rcases Nat.lt_or_ge 3 va with y | y
      · exact absurd (nI_lt (a := 3) y hva) z2
      · exact y
    have hsn : s < n := by
      rcases Nat.lt_or_ge s n with y | y
      · exact y
      · exact absurd (nI_le y hs) z4
    have v3s := ve_V3 h s
    have un : ∀ va' b' s' a', ve_HD n G (nI va) v2 (nI s) v4 va' b' s' a' → va' = va ∧ s' = s := by
      rintro va' b' s' a' ⟨⟨e1, _, e3, _⟩, q, _⟩
      exact ⟨(ve_inj e1 (by omega) (by omega)).symm, (ve_inj e3 (by omega) (by omega)).symm⟩
    have j45 : (va = 0 → v2 = 0) → wY_addClass_45 post (nI va) v2 (nI s) v4 g_most g_mostMethods (nI n) (nI nm) g_checked g_errAt g_depth g_entered g_result g_typed (ve_i (ve_V G)) (ve_i (ve_B G)) (ve_i (ve_S G)) (ve_i (ve_A G)) b_hasField b_fld (ve_i (ve_O M)) (ve_i (ve_N M)) (ve_i (ve_P M)) (ve_i (ve_R M)) (ve_i (ve_L C)) (ve_i (ve_K C)) (ve_i (ve_Q C)) b_need b_types b_objType b_objVal b_vals b_frBody b_pc b_frThis b_frArg b_log := by
      intro h20
      unfold wY_addClass_45
      refine br_c (fun z => hn ?_) (fun z5 => br_c (fun z => hn ?_) (fun z6 => ?_))
      · rintro va b s a ⟨⟨_, e2, _, _⟩, q, _⟩; rw [e2] at z; exact nI_pos (by omega) z
      · rintro va b s a ⟨⟨_, e2, _, _⟩, q, _⟩; rw [e2] at z; exact nI_ge q.2.2.1 (by omega) z
      · obtain ⟨b, hb, rfl⟩ := nI_of z5
        have hbn : b < n := by
          rcases Nat.lt_or_ge b n with y | y
          · exact y
          · exact absurd (nI_le y hb) z6
        have v3b := ve_V3 h b
        have h0 : va = 0 → b = 0 := fun e => ve_inj (b := 0) (h20 e) (by omega) (by omega)
        refine ⟨vp_in_nI (by omega) (by omega), ?_⟩
        rw [ve_at (by omega)]
        refine pk_eq (ve_V G b) 0 (fun c => ⟨vp_in_nI (by omega) (by omega), ?_⟩) (fun c => hn ?_)
        · rw [ve_at (by omega)]
          have go := vy_hd82 (post := post) (v4 := v4) (C := C) (M := M) (nm := nm) (g_most := g_most) (g_mostMethods := g_mostMethods) (g_checked := g_checked) (g_errAt := g_errAt) (g_depth := g_depth) (g_entered := g_entered) (g_result := g_result) (g_typed := g_typed) (b_hasField := b_hasField) (b_fld := b_fld) (b_need := b_need) (b_objType := b_objType) (b_objVal := b_objVal) (b_vals := b_vals) (b_frBody := b_frBody) (b_pc := b_pc) (b_frThis := b_frThis) (b_frArg := b_frArg) (b_log := b_log) (b_types := b_types) h hva3 hbn hsn c h0 (fun a ha => h1 _ _ _ _ ha) (fun hno => hn (by
            rintro va' b' s' a' q
            obtain ⟨rfl, rfl⟩ := un _ _ _ _ q
            have : b' = b := (ve_inj q.1.2.1 (by omega) (by have := q.2.1.2.2.1; omega)).symm
            subst this
            exact hno a' q))
          refine pk_eq (ve_V G s) 0 (fun e => ?_) (fun e => ?_)
          · rw [decide_eq_false (fun z => z e)] at go; exact go
          · rw [decide_eq_true e] at go; exact go
        · rintro va' b' s' a' q
          have : b' = b := (ve_inj q.1.2.1 (by omega) (by have := q.2.1.2.2.1; omega)).symm
          subst this
          exact c q.2.1.2.2.2.1
    refine pk_eq va 0 (fun e0 => br_c (fun e2 => j45 (fun _ => e2)) (fun e2 => hn ?_)) (fun e0 => j45 (fun z => absurd z e0))
    rintro va' b' s' a' q
    obtain ⟨rfl, rfl⟩ := un _ _ _ _ q
    have : b' = 0 := q.2.1.2.2.2.2 e0
    subst this
    exact e2 q.1.2.1
end
end
section
/-! addClass, behind the header -/
theorem ve_iu' {f : Nat → Nat} {k x : Nat} (hk : k < 2147483648) : upd (ve_i f) (nI k).toNatClampNeg (nI x) = ve_i (ve_u f k x) := by
  rw [nI_clamp (by omega)]; exact ve_iu
def ve_cV (G : ve_T) (va s a : Nat) : Prop := ve_V G s ≠ 0 ∧ a = 15 ∧ va ≠ 3 ∧ va ≠ ve_V G s
def ve_low (n b s a : Nat) : Nat := if a = 15 then b else if a = n then s else a
def ve_cB (n : Nat) (G : ve_T) (b s a : Nat) : Prop := ve_V G s ≠ 0 ∧ ¬ ve_an G (ve_low n b s a) (ve_B G s)
section
variable {n nm : Nat} {G : ve_T} {M : ve_M} {C : ve_C} {f_x f_mainBody f_classLimit f_methodLimit f_checkState f_errorPlace f_typeTop f_objCount f_valueTop f_depth f_entered f_result f_keepTypes : Int32} {a_fieldType a_declared a_castAt a_objClass a_objField a_values a_frameBody a_framePc a_frameThis a_frameArg a_traced : Nat → Int32} {a_types a_objType : Nat → Int64} {post : Int32 → SX → Prop} {va b s a : Nat}
theorem vx_ac100 (h : ve_WG n G) (hs : s < n) {lo : Nat} (hlo : lo < 16) (hB : ve_V G s ≠ 0 → ¬ ve_an G lo (ve_B G s) → post (-5) (f_x, f_mainBody, f_classLimit, f_methodLimit, (nI n), (nI nm), f_checkState, f_errorPlace, f_typeTop, f_objCount, f_valueTop, f_depth, f_entered, f_result, f_keepTypes, (ve_i (ve_V G)), (ve_i (ve_B G)), (ve_i (ve_S G)), (ve_i (ve_A G)), a_fieldType, a_declared, (ve_i (ve_O M)), (ve_i (ve_P M)), (ve_i (ve_R M)), (ve_i (ve_L C)), (ve_i (ve_K C)), (ve_i (ve_Q C)), a_types, a_castAt, a_objClass, a_objField, a_values, a_objType, a_frameBody, a_framePc, a_frameThis, a_frameArg, a_traced)) (hO : (ve_V G s ≠ 0 → ve_an G lo (ve_B G s)) → wX_addClass_125 post (nI va) (nI b) (nI s) (nI a) f_x f_mainBody f_classLimit f_methodLimit (nI n) (nI nm) f_checkState f_errorPlace f_typeTop f_objCount f_valueTop f_depth f_entered f_result f_keepTypes (ve_i (ve_V G)) (ve_i (ve_B G)) (ve_i (ve_S G)) (ve_i (ve_A G)) a_fieldType a_declared (ve_i (ve_O M)) (ve_i (ve_P M)) (ve_i (ve_R M)) (ve_i (ve_L C)) (ve_i (ve_K C)) (ve_i (ve_Q C)) a_types a_castAt a_objClass a_objField a_values a_objType a_frameBody a_framePc a_frameThis a_frameArg a_traced) :
    wX_addClass_100 post (nI va) (nI b) (nI s) (nI a) (ve_b (decide (ve_V G s ≠ 0))) (nI lo) f_x f_mainBody f_classLimit f_methodLimit (nI n) (nI nm) f_checkState f_errorPlace f_typeTop f_objCount f_valueTop f_depth f_entered f_result f_keepTypes (ve_i (ve_V G)) (ve_i (ve_B G)) (ve_i (ve_S G)) (ve_i (ve_A G)) a_fieldType a_declared (ve_i (ve_O M)) (ve_i (ve_P M)) (ve_i (ve_R M)) (ve_i (ve_L C)) (ve_i (ve_K C)) (ve_i (ve_Q C)) a_types a_castAt a_objClass a_objField a_values a_objType a_frameBody a_framePc a_frameThis a_frameArg a_traced := by
  have n12 := ve_n12 h
  have hb := ve_Blt h s
  unfold wX_addClass_100
  refine vb_c (fun c => hO (fun z => absurd z (of_decide_eq_false c))) (fun c => ⟨vp_in_nI (by omega) (by omega), ?_⟩)
  rw [ve_at (by omega)]
  exact vx_below h (by omega) hlo (vb_c (fun z => hB (of_decide_eq_true c) ((ve_bl_f h).mp z)) (fun z => hO (fun _ => (ve_bl_iff h).mp z)))
theorem vx_ac74 (h : ve_WG n G) (hs : s < n) (hb : b < n) (ha : a < 16) (hB : ve_cB n G b s a → post (-5) (f_x, f_mainBody, f_classLimit, f_methodLimit, (nI n), (nI nm), f_checkState, f_errorPlace, f_typeTop, f_objCount, f_valueTop, f_depth, f_entered, f_result, f_keepTypes, (ve_i (ve_V G)), (ve_i (ve_B G)), (ve_i (ve_S G)), (ve_i (ve_A G)), a_fieldType, a_declared, (ve_i (ve_O M)), (ve_i (ve_P M)), (ve_i (ve_R M)), (ve_i (ve_L C)), (ve_i (ve_K C)), (ve_i (ve_Q C)), a_types, a_castAt, a_objClass, a_objField, a_values, a_objType, a_frameBody, a_framePc, a_frameThis, a_frameArg, a_traced)) (hO : ¬ ve_cB n G b s a → wX_addClass_125 post (nI va) (nI b) (nI s) (nI a) f_x f_mainBody f_classLimit f_methodLimit (nI n) (nI nm) f_checkState f_errorPlace f_typeTop f_objCount f_valueTop f_depth f_entered f_result f_keepTypes (ve_i (ve_V G)) (ve_i (ve_B G)) (ve_i (ve_S G)) (ve_i (ve_A G)) a_fieldType a_declared (ve_i (ve_O M)) (ve_i (ve_P M)) (ve_i (ve_R M)) (ve_i (ve_L C)) (ve_i (ve_K C)) (ve_i (ve_Q C)) a_types a_castAt a_objClass a_objField a_values a_objType a_frameBody a_framePc a_frameThis a_frameArg a_traced) :
    wX_addClass_74 post (nI va) (nI b) (nI s) (nI a) (ve_b (decide (ve_V G s ≠ 0))) f_x f_mainBody f_classLimit f_methodLimit (nI n) (nI nm) f_checkState f_errorPlace f_typeTop f_objCount f_valueTop f_depth f_entered f_result f_keepTypes (ve_i (ve_V G)) (ve_i (ve_B G)) (ve_i (ve_S G)) (ve_i (ve_A G)) a_fieldType a_declared (ve_i (ve_O M)) (ve_i (ve_P M)) (ve_i (ve_R M)) (ve_i (ve_L C)) (ve_i (ve_K C)) (ve_i (ve_Q C)) a_types a_castAt a_objClass a_objField a_values a_objType a_frameBody a_framePc a_frameThis a_frameArg a_traced := by
  have n12 := ve_n12 h
  have go : ve_low n b s a < 16 → wX_addClass_100 post (nI va) (nI b) (nI s) (nI a) (ve_b (decide (ve_V G s ≠ 0))) (nI (ve_low n b s a)) f_x f_mainBody f_classLimit f_methodLimit (nI n) (nI nm) f_checkState f_errorPlace f_typeTop f_objCount f_valueTop f_depth f_entered f_result f_keepTypes (ve_i (ve_V G)) (ve_i (ve_B G)) (ve_i (ve_S G)) (ve_i (ve_A G)) a_fieldType a_declared (ve_i (ve_O M)) (ve_i (ve_P M)) (ve_i (ve_R M)) (ve_i (ve_L C)) (ve_i (ve_K C)) (ve_i (ve_Q C)) a_types a_castAt a_objClass a_objField a_values a_objType a_frameBody a_framePc a_frameThis a_frameArg a_traced := fun hl =>
    vx_ac100 h hs hl (fun z1 z2 => hB ⟨z1, z2⟩) (fun z => hO (fun q => q.2 (z q.1)))
  unfold wX_addClass_74
  unfold ve_low at go
  refine pk_eq a 15 (fun c => ?_) (fun c => pk_eq a n (fun c2 => ?_) (fun c2 => ?_))
  · rw [if_pos c] at go; exact go (by omega)
  · rw [if_neg c, if_pos c2] at go; exact go (by omega)
  · rw [if_neg c, if_neg c2] at go; exact go (by omega)
theorem vx_ac42 (h : ve_WG n G) (hva : va ≤ 3) (hs : s < n) (hb : b < n) (ha : a < 16) (hV : ve_cV G va s a → post (-4) (f_x, f_mainBody, f_classLimit, f_methodLimit, (nI n), (nI nm), f_checkState, f_errorPlace, f_typeTop, f_objCount, f_valueTop, f_depth, f_entered, f_result, f_keepTypes, (ve_i (ve_V G)), (ve_i (ve_B G)), (ve_i (ve_S G)), (ve_i (ve_A G)), a_fieldType, a_declared, (ve_i (ve_O M)), (ve_i (ve_P M)), (ve_i (ve_R M)), (ve_i (ve_L C)), (ve_i (ve_K C)), (ve_i (ve_Q C)), a_types, a_castAt, a_objClass, a_objField, a_values, a_objType, a_frameBody, a_framePc, a_frameThis, a_frameArg, a_traced)) (hB : ¬ ve_cV G va s a → ve_cB n G b s a → post (-5) (f_x, f_mainBody, f_classLimit, f_methodLimit, (nI n), (nI nm), f_checkState, f_errorPlace, f_typeTop, f_objCount, f_valueTop, f_depth, f_entered, f_result, f_keepTypes, (ve_i (ve_V G)), (ve_i (ve_B G)), (ve_i (ve_S G)), (ve_i (ve_A G)), a_fieldType, a_declared, (ve_i (ve_O M)), (ve_i (ve_P M)), (ve_i (ve_R M)), (ve_i (ve_L C)), (ve_i (ve_K C)), (ve_i (ve_Q C)), a_types, a_castAt, a_objClass, a_objField, a_values, a_objType, a_frameBody, a_framePc, a_frameThis, a_frameArg, a_traced))
    (hO : ¬ ve_cV G va s a → ¬ ve_cB n G b s a → wX_addClass_125 post (nI va) (nI b) (nI s) (nI a) f_x f_mainBody f_classLimit f_methodLimit (nI n) (nI nm) f_checkState f_errorPlace f_typeTop f_objCount f_valueTop f_depth f_entered f_result f_keepTypes (ve_i (ve_V G)) (ve_i (ve_B G)) (ve_i (ve_S G)) (ve_i (ve_A G)) a_fieldType a_declared (ve_i (ve_O M)) (ve_i (ve_P M)) (ve_i (ve_R M)) (ve_i (ve_L C)) (ve_i (ve_K C)) (ve_i (ve_Q C)) a_types a_castAt a_objClass a_objField a_values a_objType a_frameBody a_framePc a_frameThis a_frameArg a_traced) : wX_addClass_42 post (nI va) (nI b) (nI s) (nI a) (ve_b (decide (ve_V G s ≠ 0))) f_x f_mainBody f_classLimit f_methodLimit (nI n) (nI nm) f_checkState f_errorPlace f_typeTop f_objCount f_valueTop f_depth f_entered f_result f_keepTypes (ve_i (ve_V G)) (ve_i (ve_B G)) (ve_i (ve_S G)) (ve_i (ve_A G)) a_fieldType a_declared (ve_i (ve_O M)) (ve_i (ve_P M)) (ve_i (ve_R M)) (ve_i (ve_L C)) (ve_i (ve_K C)) (ve_i (ve_Q C)) a_types a_castAt a_objClass a_objField a_values a_objType a_frameBody a_framePc a_frameThis a_frameArg a_traced := by
  have n12 := ve_n12 h
  have v3 := ve_V3 h s
  unfold wX_addClass_42
  have go : ¬ ve_cV G va s a → wX_addClass_74 post (nI va) (nI b) (nI s) (nI a) (ve_b (decide (ve_V G s ≠ 0))) f_x f_mainBody f_classLimit f_methodLimit (nI n) (nI nm) f_checkState f_errorPlace f_typeTop f_objCount f_valueTop f_depth f_entered f_result f_keepTypes (ve_i (ve_V G)) (ve_i (ve_B G)) (ve_i (ve_S G)) (ve_i (ve_A G)) a_fieldType a_declared (ve_i (ve_O M)) (ve_i (ve_P M)) (ve_i (ve_R M)) (ve_i (ve_L C)) (ve_i (ve_K C)) (ve_i (ve_Q C)) a_types a_castAt a_objClass a_objField a_values a_objType a_frameBody a_framePc a_frameThis a_frameArg a_traced := fun z => vx_ac74 h hs hb ha (hB z) (hO z)
  refine vb_c (fun c => go (fun q => absurd q.1 (of_decide_eq_false c))) (fun c => pk_eq a 15 (fun c2 => pk_eq va 3 (fun c3 => go (fun q => q.2.2.1 c3)) (fun c3 => ⟨vp_in_nI (by omega) (by omega), ?_⟩)) (fun c2 => go (fun q => c2 q.2.1)))
  rw [ve_at (by omega)]
  exact pk_eq va (ve_V G s) (fun c4 => go (fun q => q.2.2.2 c4)) (fun c4 => hV ⟨of_decide_eq_true c, c2, c3, c4⟩)
end
section
variable {n nm : Nat} {G : ve_T} {M : ve_M} {C : ve_C} {g_most g_mostMethods g_checked g_errAt g_depth g_entered g_result g_typed : Int32} {b_hasField b_fld b_need b_objType b_objVal b_vals b_frBody b_pc b_frThis b_frArg b_log : Nat → Int32} {b_types : Nat → Int64} {post : Int32 → SY → Prop} {va b s a : Nat}
theorem vy_ac219 (h : ve_WG n G) (hs : s < n) {lo : Nat} (hlo : lo < 16) (hB : ve_V G s ≠ 0 → ¬ ve_an G lo (ve_B G s) → post (-5) (g_most, g_mostMethods, (nI n), (nI nm), g_checked, g_errAt, g_depth, g_entered, g_result, g_typed, (ve_i (ve_V G)), (ve_i (ve_B G)), (ve_i (ve_S G)), (ve_i (ve_A G)), b_hasField, b_fld, (ve_i (ve_O M)), (ve_i (ve_N M)), (ve_i (ve_P M)), (ve_i (ve_R M)), (ve_i (ve_L C)), (ve_i (ve_K C)), (ve_i (ve_Q C)), b_need, b_types, b_objType, b_objVal, b_vals, b_frBody, b_pc, b_frThis, b_frArg, b_log)) (hO : (ve_V G s ≠ 0 → ve_an G lo (ve_B G s)) → wY_addClass_244 post (nI va) (nI b) (nI s) (nI a) g_most g_mostMethods (nI n) (nI nm) g_checked g_errAt g_depth g_entered g_result g_typed (ve_i (ve_V G)) (ve_i (ve_B G)) (ve_i (ve_S G)) (ve_i (ve_A G)) b_hasField b_fld (ve_i (ve_O M)) (ve_i (ve_N M)) (ve_i (ve_P M)) (ve_i (ve_R M)) (ve_i (ve_L C)) (ve_i (ve_K C)) (ve_i (ve_Q C)) b_need b_types b_objType b_objVal b_vals b_frBody b_pc b_frThis b_frArg b_log) :
    wY_addClass_219 post (nI va) (nI b) (nI s) (nI a) (ve_b (decide (ve_V G s ≠ 0))) (nI lo) g_most g_mostMethods (nI n) (nI nm) g_checked g_errAt g_depth g_entered g_result g_typed (ve_i (ve_V G)) (ve_i (ve_B G)) (ve_i (ve_S G)) (ve_i (ve_A G)) b_hasField b_fld (ve_i (ve_O M)) (ve_i (ve_N M)) (ve_i (ve_P M)) (ve_i (ve_R M)) (ve_i (ve_L C)) (ve_i (ve_K C)) (ve_i (ve_Q C)) b_need b_types b_objType b_objVal b_vals b_frBody b_pc b_frThis b_frArg b_log := by
  have n12 := ve_n12 h
  have hb := ve_Blt h s
  unfold wY_addClass_219
  refine vb_c (fun c => hO (fun z => absurd z (of_decide_eq_false c))) (fun c => ⟨vp_in_nI (by omega) (by omega), ?_⟩)
  rw [ve_at (by omega)]
  exact vy_below h (by omega) hlo (vb_c (fun z => hB (of_decide_eq_true c) ((ve_bl_f h).mp z)) (fun z => hO (fun _ => (ve_bl_iff h).mp z)))
theorem vy_ac193 (h : ve_WG n G) (hs : s < n) (hb : b < n) (ha : a < 16) (hB : ve_cB n G b s a → post (-5) (g_most, g_mostMethods, (nI n), (nI nm), g_checked, g_errAt, g_depth, g_entered, g_result, g_typed, (ve_i (ve_V G)), (ve_i (ve_B G)), (ve_i (ve_S G)), (ve_i (ve_A G)), b_hasField, b_fld, (ve_i (ve_O M)), (ve_i (ve_N M)), (ve_i (ve_P M)), (ve_i (ve_R M)), (ve_i (ve_L C)), (ve_i (ve_K C)), (ve_i (ve_Q C)), b_need, b_types, b_objType, b_objVal, b_vals, b_frBody, b_pc, b_frThis, b_frArg, b_log)) (hO : ¬ ve_cB n G b s a → wY_addClass_244 post (nI va) (nI b) (nI s) (nI a) g_most g_mostMethods (nI n) (nI nm) g_checked g_errAt g_depth g_entered g_result g_typed (ve_i (ve_V G)) (ve_i (ve_B G)) (ve_i (ve_S G)) (ve_i (ve_A G)) b_hasField b_fld (ve_i (ve_O M)) (ve_i (ve_N M)) (ve_i (ve_P M)) (ve_i (ve_R M)) (ve_i (ve_L C)) (ve_i (ve_K C)) (ve_i (ve_Q C)) b_need b_types b_objType b_objVal b_vals b_frBody b_pc b_frThis b_frArg b_log) :
    wY_addClass_193 post (nI va) (nI b) (nI s) (nI a) (ve_b (decide (ve_V G s ≠ 0))) g_most g_mostMethods (nI n) (nI nm) g_checked g_errAt g_depth g_entered g_result g_typed (ve_i (ve_V G)) (ve_i (ve_B G)) (ve_i (ve_S G)) (ve_i (ve_A G)) b_hasField b_fld (ve_i (ve_O M)) (ve_i (ve_N M)) (ve_i (ve_P M)) (ve_i (ve_R M)) (ve_i (ve_L C)) (ve_i (ve_K C)) (ve_i (ve_Q C)) b_need b_types b_objType b_objVal b_vals b_frBody b_pc b_frThis b_frArg b_log := by
  have n12 := ve_n12 h
  have go : ve_low n b s a < 16 → wY_addClass_219 post (nI va) (nI b) (nI s) (nI a) (ve_b (decide (ve_V G s ≠ 0))) (nI (ve_low n b s a)) g_most g_mostMethods (nI n) (nI nm) g_checked g_errAt g_depth g_entered g_result g_typed (ve_i (ve_V G)) (ve_i (ve_B G)) (ve_i (ve_S G)) (ve_i (ve_A G)) b_hasField b_fld (ve_i (ve_O M)) (ve_i (ve_N M)) (ve_i (ve_P M)) (ve_i (ve_R M)) (ve_i (ve_L C)) (ve_i (ve_K C)) (ve_i (ve_Q C)) b_need b_types b_objType b_objVal b_vals b_frBody b_pc b_frThis b_frArg b_log := fun hl =>
    vy_ac219 h hs hl (fun z1 z2 => hB ⟨z1, z2⟩) (fun z => hO (fun q => q.2 (z q.1)))
  unfold wY_addClass_193
  unfold ve_low at go
  refine pk_eq a 15 (fun c => ?_) (fun c => pk_eq a n (fun c2 => ?_) (fun c2 => ?_))
  · rw [if_pos c] at go; exact go (by omega)
  · rw [if_neg c, if_pos c2] at go; exact go (by omega)
  · rw [if_neg c, if_neg c2] at go; exact go (by omega)
theorem vy_ac163 (h : ve_WG n G) (hva : va ≤ 3) (hs : s < n) (hb : b < n) (ha : a < 16) (hV : ve_cV G va s a → post (-4) (g_most, g_mostMethods, (nI n), (nI nm), g_checked, g_errAt, g_depth, g_entered, g_result, g_typed, (ve_i (ve_V G)), (ve_i (ve_B G)), (ve_i (ve_S G)), (ve_i (ve_A G)), b_hasField, b_fld, (ve_i (ve_O M)), (ve_i (ve_N M)), (ve_i (ve_P M)), (ve_i (ve_R M)), (ve_i (ve_L C)), (ve_i (ve_K C)), (ve_i (ve_Q C)), b_need, b_types, b_objType, b_objVal, b_vals, b_frBody, b_pc, b_frThis, b_frArg, b_log)) (hB : ¬ ve_cV G va s a → ve_cB n G b s a → post (-5) (g_most, g_mostMethods, (nI n), (nI nm), g_checked, g_errAt, g_depth, g_entered, g_result, g_typed, (ve_i (ve_V G)), (ve_i (ve_B G)), (ve_i (ve_S G)), (ve_i (ve_A G)), b_hasField, b_fld, (ve_i (ve_O M)), (ve_i (ve_N M)), (ve_i (ve_P M)), (ve_i (ve_R M)), (ve_i (ve_L C)), (ve_i (ve_K C)), (ve_i (ve_Q C)), b_need, b_types, b_objType, b_objVal, b_vals, b_frBody, b_pc, b_frThis, b_frArg, b_log))
    (hO : ¬ ve_cV G va s a → ¬ ve_cB n G b s a → wY_addClass_244 post (nI va) (nI b) (nI s) (nI a) g_most g_mostMethods (nI n) (nI nm) g_checked g_errAt g_depth g_entered g_result g_typed (ve_i (ve_V G)) (ve_i (ve_B G)) (ve_i (ve_S G)) (ve_i (ve_A G)) b_hasField b_fld (ve_i (ve_O M)) (ve_i (ve_N M)) (ve_i (ve_P M)) (ve_i (ve_R M)) (ve_i (ve_L C)) (ve_i (ve_K C)) (ve_i (ve_Q C)) b_need b_types b_objType b_objVal b_vals b_frBody b_pc b_frThis b_frArg b_log) : wY_addClass_163 post (nI va) (nI b) (nI s) (nI a) (ve_b (decide (ve_V G s ≠ 0))) g_most g_mostMethods (nI n) (nI nm) g_checked g_errAt g_depth g_entered g_result g_typed (ve_i (ve_V G)) (ve_i (ve_B G)) (ve_i (ve_S G)) (ve_i (ve_A G)) b_hasField b_fld (ve_i (ve_O M)) (ve_i (ve_N M)) (ve_i (ve_P M)) (ve_i (ve_R M)) (ve_i (ve_L C)) (ve_i (ve_K C)) (ve_i (ve_Q C)) b_need b_types b_objType b_objVal b_vals b_frBody b_pc b_frThis b_frArg b_log := by
  have n12 := ve_n12 h
  have v3 := ve_V3 h s
  unfold wY_addClass_163
  have go : ¬ ve_cV G va s a → wY_addClass_193 post (nI va) (nI b) (nI s) (nI a) (ve_b (decide (ve_V G s ≠ 0))) g_most g_mostMethods (nI n) (nI nm) g_checked g_errAt g_depth g_entered g_result g_typed (ve_i (ve_V G)) (ve_i (ve_B G)) (ve_i (ve_S G)) (ve_i (ve_A G)) b_hasField b_fld (ve_i (ve_O M)) (ve_i (ve_N M)) (ve_i (ve_P M)) (ve_i (ve_R M)) (ve_i (ve_L C)) (ve_i (ve_K C)) (ve_i (ve_Q C)) b_need b_types b_objType b_objVal b_vals b_frBody b_pc b_frThis b_frArg b_log := fun z => vy_ac193 h hs hb ha (hB z) (hO z)
  refine vb_c (fun c => go (fun q => absurd q.1 (of_decide_eq_false c))) (fun c => pk_eq a 15 (fun c2 => pk_eq va 3 (fun c3 => go (fun q => q.2.2.1 c3)) (fun c3 => ⟨vp_in_nI (by omega) (by omega), ?_⟩)) (fun c2 => go (fun q => c2 q.2.1)))
  rw [ve_at (by omega)]
  exact pk_eq va (ve_V G s) (fun c4 => go (fun q => q.2.2.2 c4)) (fun c4 => hV ⟨of_decide_eq_true c, c2, c3, c4⟩)
end
theorem ve_HD_u {n : Nat} {G : ve_T} {va b s a va' b' s' a' : Nat} (hn : n ≤ 12) (q : ve_HD n G (nI va) (nI b) (nI s) (nI a) va b s a) (q' : ve_HD n G (nI va) (nI b) (nI s) (nI a) va' b' s' a') : va' = va ∧ b' = b ∧ s' = s ∧ a' = a := by
  have bd : ∀ {va b s a : Nat} {x1 x2 x3 x4 : Int32}, ve_HD n G x1 x2 x3 x4 va b s a → va < 16 ∧ b < 16 ∧ s < 16 ∧ a < 16 := by
    rintro va b s a _ _ _ _ ⟨_, q, q1, q2⟩
    refine ⟨by omega, by omega, by omega, ?_⟩
    by_cases z : ve_V G s = 0
    · have := q1 z; omega
    · rcases q2 z with y | y | y <;> omega
  have b1 := bd q
  have b2 := bd q'
  exact ⟨(ve_inj q'.1.1 (by omega) (by omega)).symm, (ve_inj q'.1.2.1 (by omega) (by omega)).symm, (ve_inj q'.1.2.2.1 (by omega) (by omega)).symm, (ve_inj q'.1.2.2.2 (by omega) (by omega)).symm⟩
theorem ve_ac_F {va b s a : Nat} {n : Nat} {nm : Nat} {G : ve_T} {M : ve_M} {C : ve_C} {f_classLimit : Int32} {f_methodLimit : Int32} {f_checkState : Int32} {f_errorPlace : Int32} {f_entered : Int32} {f_result : Int32} {f_keepTypes : Int32} {a_fieldType : Nat → Int32} {a_declared : Nat → Int32} {a_types : Nat → Int64} {a_castAt : Nat → Int32} {a_objClass : Nat → Int32} {a_objField : Nat → Int32} {a_objType : Nat → Int64} {a_traced : Nat → Int32} {g_most : Int32} {g_mostMethods : Int32} {g_checked : Int32} {g_errAt : Int32} {g_entered : Int32} {g_result : Int32} {g_typed : Int32} {b_hasField : Nat → Int32} {b_fld : Nat → Int32} {b_need : Nat → Int32} {b_types : Nat → Int64} {b_objType : Nat → Int32} {b_objVal : Nat → Int32} {b_log : Nat → Int32} (F : ve_F n nm G M C f_classLimit f_methodLimit f_checkState f_errorPlace f_entered f_result f_keepTypes a_fieldType a_declared a_types a_castAt a_objClass a_objField a_objType a_traced g_most g_mostMethods g_checked g_errAt g_entered g_result g_typed b_hasField b_fld b_need b_types b_objType b_objVal b_log) (hn : n < 12) (hm : ∃ cl, f_classLimit = nI cl ∧ n < cl ∧ cl ≤ 12) (hd : ve_HD n G (nI va) (nI b) (nI s) (nI a) va b s a) (c1 : ¬ ve_cV G va s a) (c2 : ¬ ve_cB n G b s a) :
    ve_F (n + 1) nm (ve_G' G n va b s a) M C f_classLimit f_methodLimit 0 f_errorPlace 0 (-1) f_keepTypes a_fieldType a_declared a_types a_castAt a_objClass a_objField a_objType a_traced g_most g_mostMethods 0 (-1) 0 (-1) g_typed b_hasField b_fld b_need b_types b_objType b_objVal b_log := by
  obtain ⟨⟨h, w, wc⟩, ⟨cl, ml, l1, l2, l3, l4, l5⟩, fm, t, _, _⟩ := F
  obtain ⟨_, ⟨d1, d2, d3, d4, d5⟩, d6, d7⟩ := hd
  have n12 := ve_n12 h
  have hlt : n < cl := by
    obtain ⟨cl', e1, e2, e3⟩ := hm
    have := ve_inj (l1.symm.trans e1) (by omega) (by omega)
    omega
  refine ⟨⟨vg_WG h hn d1 d2 d3 d4 d6 (fun z => ?_), vg_WM h hn w, vg_WC h hn w wc⟩, ⟨cl, ml, l1, l2, by omega, l4, l5⟩, fm, t, ve_FK_0, ve_FR_0⟩
  have an : ve_an G (ve_low n b s a) (ve_B G s) := Classical.byContradiction (fun y => c2 ⟨z, y⟩)
  unfold ve_low at an
  rcases d7 z with q | q | q
  · refine Or.inl ⟨q.1, q.2, ?_, ?_⟩
    · by_cases y : va = 3
      · exact Or.inl y
      · exact Or.inr (Classical.byContradiction (fun y2 => c1 ⟨z, q.1, y, y2⟩))
    · rw [if_pos q.1] at an; exact an
  · refine Or.inr (Or.inl ⟨q.1, q.2, ?_⟩)
    rw [if_neg (by omega), if_neg (by omega)] at an; exact an
  · refine Or.inr (Or.inr ⟨q.1, q.2, ?_⟩)
    rw [if_neg (by omega), if_pos q.1] at an; exact an
theorem i_vc_addClass {k : Nat} {u : SX} {v : SY} (I : i_Rel k u v) (hk : k + 5 ≤ 2562) (v1 : Int32) (v2 : Int32) (v3 : Int32) (v4 : Int32) : wpX_addClass (fun r u' => wpY_addClass (fun r' v' => r' = r ∧ i_Rel (k + 5) u' v') v v1 v2 v3 v4) u v1 v2 v3 v4 := by
  refine ve_el (P := fun u v => wpX_addClass (fun r u' => wpY_addClass (fun r' v' => r' = r ∧ i_Rel (k + 5) u' v') v v1 v2 v3 v4) u v1 v2 v3 v4) ?_ I
  intro n nm G M C f_x f_mainBody f_classLimit f_methodLimit f_checkState f_errorPlace f_typeTop f_objCount f_valueTop f_depth f_entered f_result f_keepTypes a_fieldType a_declared a_types a_castAt a_objClass a_objField a_values a_objType a_frameBody a_framePc a_frameThis a_frameArg a_traced g_most g_mostMethods g_checked g_errAt g_depth g_entered g_result g_typed b_hasField b_fld b_need b_types b_objType b_objVal b_vals b_frBody b_pc b_frThis b_frArg b_log F
  have Rl : i_Rel (k + 5) (f_x, f_mainBody, f_classLimit, f_methodLimit, (nI n), (nI nm), f_checkState, f_errorPlace, f_typeTop, f_objCount, f_valueTop, f_depth, f_entered, f_result, f_keepTypes, (ve_i (ve_V G)), (ve_i (ve_B G)), (ve_i (ve_S G)), (ve_i (ve_A G)), a_fieldType, a_declared, (ve_i (ve_O M)), (ve_i (ve_P M)), (ve_i (ve_R M)), (ve_i (ve_L C)), (ve_i (ve_K C)), (ve_i (ve_Q C)), a_types, a_castAt, a_objClass, a_objField, a_values, a_objType, a_frameBody, a_framePc, a_frameThis, a_frameArg, a_traced) (g_most, g_mostMethods, (nI n), (nI nm), g_checked, g_errAt, g_depth, g_entered, g_result, g_typed, (ve_i (ve_V G)), (ve_i (ve_B G)), (ve_i (ve_S G)), (ve_i (ve_A G)), b_hasField, b_fld, (ve_i (ve_O M)), (ve_i (ve_N M)), (ve_i (ve_P M)), (ve_i (ve_R M)), (ve_i (ve_L C)), (ve_i (ve_K C)), (ve_i (ve_Q C)), b_need, b_types, b_objType, b_objVal, b_vals, b_frBody, b_pc, b_frThis, b_frArg, b_log) := ve_in F
  obtain ⟨⟨h, w, wc⟩, ⟨cl, ml, l1, l2, l3, l4, l5⟩, _⟩ := id F
  have n12 := ve_n12 h
  unfold wpX_addClass
  dsimp only
  rw [l1]
  refine pk_lt n cl (fun y => ?_) (fun y => ?_)
  · have yf : ∀ (post : Int32 → SY → Prop) (x1 x2 x3 x4 : Int32), (∀ va b s a, ¬ ve_HD n G x1 x2 x3 x4 va b s a) → post (-1) (g_most, g_mostMethods, (nI n), (nI nm), g_checked, g_errAt, g_depth, g_entered, g_result, g_typed, (ve_i (ve_V G)), (ve_i (ve_B G)), (ve_i (ve_S G)), (ve_i (ve_A G)), b_hasField, b_fld, (ve_i (ve_O M)), (ve_i (ve_N M)), (ve_i (ve_P M)), (ve_i (ve_R M)), (ve_i (ve_L C)), (ve_i (ve_K C)), (ve_i (ve_Q C)), b_need, b_types, b_objType, b_objVal, b_vals, b_frBody, b_pc, b_frThis, b_frArg, b_log) → wpY_addClass post (g_most, g_mostMethods, (nI n), (nI nm), g_checked, g_errAt, g_depth, g_entered, g_result, g_typed, (ve_i (ve_V G)), (ve_i (ve_B G)), (ve_i (ve_S G)), (ve_i (ve_A G)), b_hasField, b_fld, (ve_i (ve_O M)), (ve_i (ve_N M)), (ve_i (ve_P M)), (ve_i (ve_R M)), (ve_i (ve_L C)), (ve_i (ve_K C)), (ve_i (ve_Q C)), b_need, b_types, b_objType, b_objVal, b_vals, b_frBody, b_pc, b_frThis, b_frArg, b_log) x1 x2 x3 x4 := fun post x1 x2 x3 x4 no hp =>
      vy_hd h l4 (by omega) l2 (fun va b s a q => absurd q (no va b s a)) (fun _ => hp)
    refine vx_hd h (fun va b s a hd => ?_) (fun no => br_t rfl (yf _ _ _ _ _ no ⟨rfl, by rw [← l1]; exact Rl⟩))
    obtain ⟨⟨rfl, rfl, rfl, rfl⟩, ⟨d1, d2, d3, d4, d5⟩, d6, d7⟩ := id hd
    have ha : a < 16 := by
      by_cases z : ve_V G s = 0
      · have := d6 z; omega
      · rcases d7 z with q | q | q <;> omega
    have v3s := ve_V3 h s
    rw [← l1]
    have Y : ∀ post : Int32 → SY → Prop, (ve_cV G va s a → post (-4) (g_most, g_mostMethods, (nI n), (nI nm), g_checked, g_errAt, g_depth, g_entered, g_result, g_typed, (ve_i (ve_V G)), (ve_i (ve_B G)), (ve_i (ve_S G)), (ve_i (ve_A G)), b_hasField, b_fld, (ve_i (ve_O M)), (ve_i (ve_N M)), (ve_i (ve_P M)), (ve_i (ve_R M)), (ve_i (ve_L C)), (ve_i (ve_K C)), (ve_i (ve_Q C)), b_need, b_types, b_objType, b_objVal, b_vals, b_frBody, b_pc, b_frThis, b_frArg, b_log)) → (¬ ve_cV G va s a → ve_cB n G b s a → post (-5) (g_most, g_mostMethods, (nI n), (nI nm), g_checked, g_errAt, g_depth, g_entered, g_result, g_typed, (ve_i (ve_V G)), (ve_i (ve_B G)), (ve_i (ve_S G)), (ve_i (ve_A G)), b_hasField, b_fld, (ve_i (ve_O M)), (ve_i (ve_N M)), (ve_i (ve_P M)), (ve_i (ve_R M)), (ve_i (ve_L C)), (ve_i (ve_K C)), (ve_i (ve_Q C)), b_need, b_types, b_objType, b_objVal, b_vals, b_frBody, b_pc, b_frThis, b_frArg, b_log)) → (¬ ve_cV G va s a → ¬ ve_cB n G b s a → post (nI n) (g_most, g_mostMethods, (nI (n + 1)), (nI nm), 0, (-1), g_depth, 0, (-1), g_typed, (ve_i (ve_u (ve_V G) n va)), (ve_i (ve_u (ve_B G) n b)), (ve_i (ve_u (ve_S G) n s)), (ve_i (ve_u (ve_A G) n a)), b_hasField, b_fld, (ve_i (ve_O M)), (ve_i (ve_N M)), (ve_i (ve_P M)), (ve_i (ve_R M)), (ve_i (ve_L C)), (ve_i (ve_K C)), (ve_i (ve_Q C)), b_need, b_types, b_objType, b_objVal, b_vals, b_frBody, b_pc, b_frThis, b_frArg, b_log)) →
        wpY_addClass post (g_most, g_mostMethods, (nI n), (nI nm), g_checked, g_errAt, g_depth, g_entered, g_result, g_typed, (ve_i (ve_V G)), (ve_i (ve_B G)), (ve_i (ve_S G)), (ve_i (ve_A G)), b_hasField, b_fld, (ve_i (ve_O M)), (ve_i (ve_N M)), (ve_i (ve_P M)), (ve_i (ve_R M)), (ve_i (ve_L C)), (ve_i (ve_K C)), (ve_i (ve_Q C)), b_need, b_types, b_objType, b_objVal, b_vals, b_frBody, b_pc, b_frThis, b_frArg, b_log) (nI va) (nI b) (nI s) (nI a) := by
      intro post p1 p2 p3
      refine vy_hd h l4 (by omega) l2 (fun va' b' s' a' q => ?_) (fun no => absurd hd (no va b s a))
      obtain ⟨rfl, rfl, rfl, rfl⟩ := ve_HD_u n12 hd q
      refine vy_ac163 h d1 d2 d3 ha p1 p2 (fun c1 c2 => ?_)
      have p3 := p3 c1 c2
      unfold wY_addClass_244
      refine ⟨vp_in_nI (by omega) (by omega), nm_r (ve_iu' (by omega)) ⟨vp_in_nI (by omega) (by omega), nm_r (ve_iu' (by omega)) ⟨vp_in_nI (by omega) (by omega), nm_r (ve_iu' (by omega)) ⟨vp_in_nI (by omega) (by omega), nm_r (ve_iu' (by omega)) (nm_r (nI_1 n) ?_)⟩⟩⟩⟩
      show post (nI (n + 1) - 1) _
      rw [nI_pred]; exact p3
    have X : ∀ z : Int32, z = ve_b (decide (ve_V G s ≠ 0)) → wX_addClass_42 (fun r u' => wpY_addClass (fun r' v' => r' = r ∧ i_Rel (k + 5) u' v') (g_most, g_mostMethods, (nI n), (nI nm), g_checked, g_errAt, g_depth, g_entered, g_result, g_typed, (ve_i (ve_V G)), (ve_i (ve_B G)), (ve_i (ve_S G)), (ve_i (ve_A G)), b_hasField, b_fld, (ve_i (ve_O M)), (ve_i (ve_N M)), (ve_i (ve_P M)), (ve_i (ve_R M)), (ve_i (ve_L C)), (ve_i (ve_K C)), (ve_i (ve_Q C)), b_need, b_types, b_objType, b_objVal, b_vals, b_frBody, b_pc, b_frThis, b_frArg, b_log) (nI va) (nI b) (nI s) (nI a)) (nI va) (nI b) (nI s) (nI a) z f_x f_mainBody f_classLimit f_methodLimit (nI n) (nI nm) f_checkState f_errorPlace f_typeTop f_objCount f_valueTop f_depth f_entered f_result f_keepTypes (ve_i (ve_V G)) (ve_i (ve_B G)) (ve_i (ve_S G)) (ve_i (ve_A G)) a_fieldType a_declared (ve_i (ve_O M)) (ve_i (ve_P M)) (ve_i (ve_R M)) (ve_i (ve_L C)) (ve_i (ve_K C)) (ve_i (ve_Q C)) a_types a_castAt a_objClass a_objField a_values a_objType a_frameBody a_framePc a_frameThis a_frameArg a_traced := by
      rintro z rfl
      refine vx_ac42 h d1 d2 d3 ha (fun c => Y _ (fun _ => ⟨rfl, Rl⟩) (fun c' => absurd c c') (fun c' => absurd c c')) (fun c c2 => Y _ (fun c' => absurd c' c) (fun _ _ => ⟨rfl, Rl⟩) (fun _ c' => absurd c2 c')) (fun c c2 => ?_)
      unfold wX_addClass_125
      refine ⟨vp_in_nI (by omega) (by omega), nm_r (ve_iu' (by omega)) ⟨vp_in_nI (by omega) (by omega), nm_r (ve_iu' (by omega)) ⟨vp_in_nI (by omega) (by omega), nm_r (ve_iu' (by omega)) ⟨vp_in_nI (by omega) (by omega), nm_r (ve_iu' (by omega)) ?_⟩⟩⟩⟩
      unfold wpX_forget
      dsimp only
      refine nm_r (nI_1 n) (Y _ (fun c' => absurd c' c) (fun _ c' => absurd c' c2) (fun _ _ => ⟨rfl, ?_⟩))
      exact ve_in (G := ve_G' G n va b s a) (n := n + 1) (ve_ac_F F (by omega) ⟨cl, l1, y, l4⟩ hd c c2)
    refine br_f (by decide) ⟨vp_in_nI (by omega) (by omega), ?_⟩
    rw [ve_at (by omega)]
    refine pk_eq (ve_V G s) 0 (fun c => X _ ?_) (fun c => X _ ?_)
    · rw [decide_eq_false (fun z => z c)]; rfl
    · rw [decide_eq_true c]; rfl
  · rw [← l1]
    have e : n = cl := by omega
    unfold wpY_addClass
    dsimp only
    exact br_t (by rw [l2, e]) ⟨rfl, Rl⟩
end
section
/-! field -/
def ve_near (n : Nat) (G : ve_T) (M : ve_M) (c : Nat) : Prop := ∃ k, k < n ∧ ve_E M k ≠ 0 ∧ (ve_an G k c ∨ ve_an G c k)
theorem ve_i3 {p : Int32} {v : Nat} (e : p.toInt64 = lN v) : p = nI v := by
  have := congrArg Int64.toInt32 e
  rw [lN_i, Int32.toInt32_toInt64] at this
  exact this
theorem ve_vn0 : vp_nar .boolean 0 = 0 := rfl
theorem ve_vn1 : vp_nar .boolean 1 = 1 := rfl
section
variable {n nm : Nat} {G : ve_T} {M : ve_M} {C : ve_C} {f_x f_mainBody f_classLimit f_methodLimit f_checkState f_errorPlace f_typeTop f_objCount f_valueTop f_depth f_entered f_result f_keepTypes : Int32} {a_fieldType a_declared a_castAt a_objClass a_objField a_values a_frameBody a_framePc a_frameThis a_frameArg a_traced : Nat → Int32} {a_types a_objType : Nat → Int64} {post : Int32 → Prop}
theorem vx_near_l (h : ve_WG n G) (w : ve_WM n nm G M) (hE : ∀ c, c < 16 → a_fieldType c = ve_d (ve_E M c)) {c : Nat} (hc : c < n) (h1 : ve_near n G M c → post 1) (h0 : ¬ ve_near n G M c → post 0) : ∀ f i, i + f = n →
    (∀ k, k < i → ve_E M k ≠ 0 → ¬ (ve_an G k c ∨ ve_an G c k)) → wX_hasFieldNear_2 post (nI c) f_x f_mainBody f_classLimit f_methodLimit (nI n) (nI nm) f_checkState f_errorPlace f_typeTop f_objCount f_valueTop f_depth f_entered f_result f_keepTypes (ve_i (ve_V G)) (ve_i (ve_B G)) (ve_i (ve_S G)) (ve_i (ve_A G)) a_fieldType a_declared (ve_i (ve_O M)) (ve_i (ve_P M)) (ve_i (ve_R M)) (ve_i (ve_L C)) (ve_i (ve_K C)) (ve_i (ve_Q C)) a_types a_castAt a_objClass a_objField a_values a_objType a_frameBody a_framePc a_frameThis a_frameArg a_traced (f + 1) (nI i)
  | 0, i, hi, q => by
    have n12 := ve_n12 h
    refine pk_le n i (fun _ => h0 ?_) (fun z => absurd z (by omega))
    rintro ⟨k, hk, e, x⟩
    exact q k (by omega) e x
  | f + 1, i, hi, q => by
    have n12 := ve_n12 h
    refine pk_le n i (fun z => absurd z (by omega)) (fun _ => ⟨vp_in_nI (by omega) (by omega), ?_⟩)
    rw [nI_clamp (by omega), hE i (by omega)]
    have go : (ve_E M i ≠ 0 → ¬ (ve_an G i c ∨ ve_an G c i)) → wX_hasFieldNear_2 post (nI c) f_x f_mainBody f_classLimit f_methodLimit (nI n) (nI nm) f_checkState f_errorPlace f_typeTop f_objCount f_valueTop f_depth f_entered f_result f_keepTypes (ve_i (ve_V G)) (ve_i (ve_B G)) (ve_i (ve_S G)) (ve_i (ve_A G)) a_fieldType a_declared (ve_i (ve_O M)) (ve_i (ve_P M)) (ve_i (ve_R M)) (ve_i (ve_L C)) (ve_i (ve_K C)) (ve_i (ve_Q C)) a_types a_castAt a_objClass a_objField a_values a_objType a_frameBody a_framePc a_frameThis a_frameArg a_traced (f + 1) (nI (i + 1)) := by
      intro z
      refine vx_near_l h w hE hc h1 h0 f (i + 1) (by omega) (fun k hk e => ?_)
      by_cases y : k = i
      · subst y; exact z e
      · exact q k (by omega) e
    refine vd_lt (ve_Ele w i) (fun e => nm_r (nI_1 i) (go (fun z => absurd e z))) (fun m e => vx_below h (by omega) (by omega) (vb_c (fun b1 => vx_below h (by omega) (by omega) (vb_c (fun b2 => nm_r (nI_1 i) (go ?_)) (fun b2 => h1 ⟨i, by omega, by omega, Or.inr ((ve_bl_iff h).mp b2)⟩))) (fun b1 => h1 ⟨i, by omega, by omega, Or.inl ((ve_bl_iff h).mp b1)⟩)))
    rintro _ (x | x)
    · exact (ve_bl_f h).mp b1 x
    · exact (ve_bl_f h).mp b2 x
theorem vx_near (h : ve_WG n G) (w : ve_WM n nm G M) (hE : ∀ c, c < 16 → a_fieldType c = ve_d (ve_E M c)) {c : Nat} (hc : c < n) (h1 : ve_near n G M c → post 1) (h0 : ¬ ve_near n G M c → post 0) : wpX_hasFieldNear post (f_x, f_mainBody, f_classLimit, f_methodLimit, (nI n), (nI nm), f_checkState, f_errorPlace, f_typeTop, f_objCount, f_valueTop, f_depth, f_entered, f_result, f_keepTypes, (ve_i (ve_V G)), (ve_i (ve_B G)), (ve_i (ve_S G)), (ve_i (ve_A G)), a_fieldType, a_declared, (ve_i (ve_O M)), (ve_i (ve_P M)), (ve_i (ve_R M)), (ve_i (ve_L C)), (ve_i (ve_K C)), (ve_i (ve_Q C)), a_types, a_castAt, a_objClass, a_objField, a_values, a_objType, a_frameBody, a_framePc, a_frameThis, a_frameArg, a_traced) (nI c) :=
  ⟨n + 1, vx_near_l h w hE hc h1 h0 n 0 (by omega) (fun k hk => by omega)⟩
end
section
variable {n nm : Nat} {G : ve_T} {M : ve_M} {C : ve_C} {g_most g_mostMethods g_checked g_errAt g_depth g_entered g_result g_typed : Int32} {b_hasField b_fld b_need b_objType b_objVal b_vals b_frBody b_pc b_frThis b_frArg b_log : Nat → Int32} {b_types : Nat → Int64} {post : Int32 → SY → Prop}
theorem vy_field_l (h : ve_WG n G) (w : ve_WM n nm G M) (hH : ∀ c, c < 16 → b_hasField c = ve_b (decide (ve_E M c ≠ 0))) {c t kt : Nat} (hc : c < n) (wt : ve_wt n G c kt t) (hkt : kt ≤ 3) (ht : t < 4096)
    (h1 : ve_near n G M c → post (-3) (g_most, g_mostMethods, (nI n), (nI nm), g_checked, g_errAt, g_depth, g_entered, g_result, g_typed, (ve_i (ve_V G)), (ve_i (ve_B G)), (ve_i (ve_S G)), (ve_i (ve_A G)), b_hasField, b_fld, (ve_i (ve_O M)), (ve_i (ve_N M)), (ve_i (ve_P M)), (ve_i (ve_R M)), (ve_i (ve_L C)), (ve_i (ve_K C)), (ve_i (ve_Q C)), b_need, b_types, b_objType, b_objVal, b_vals, b_frBody, b_pc, b_frThis, b_frArg, b_log)) (hV : ¬ ve_near n G M c → ve_kv G c 12 1 t = false → post (-4) (g_most, g_mostMethods, (nI n), (nI nm), g_checked, g_errAt, g_depth, g_entered, g_result, g_typed, (ve_i (ve_V G)), (ve_i (ve_B G)), (ve_i (ve_S G)), (ve_i (ve_A G)), b_hasField, b_fld, (ve_i (ve_O M)), (ve_i (ve_N M)), (ve_i (ve_P M)), (ve_i (ve_R M)), (ve_i (ve_L C)), (ve_i (ve_K C)), (ve_i (ve_Q C)), b_need, b_types, b_objType, b_objVal, b_vals, b_frBody, b_pc, b_frThis, b_frArg, b_log)) (hB : ¬ ve_near n G M c → ve_kv G c 12 1 t = true → ve_kb G c 12 t = false → post (-5) (g_most, g_mostMethods, (nI n), (nI nm), g_checked, g_errAt, g_depth, g_entered, g_result, g_typed, (ve_i (ve_V G)), (ve_i (ve_B G)), (ve_i (ve_S G)), (ve_i (ve_A G)), b_hasField, b_fld, (ve_i (ve_O M)), (ve_i (ve_N M)), (ve_i (ve_P M)), (ve_i (ve_R M)), (ve_i (ve_L C)), (ve_i (ve_K C)), (ve_i (ve_Q C)), b_need, b_types, b_objType, b_objVal, b_vals, b_frBody, b_pc, b_frThis, b_frArg, b_log))
    (hO : ¬ ve_near n G M c → ve_kv G c 12 1 t = true → ve_kb G c 12 t = true → post 0 (g_most, g_mostMethods, (nI n), (nI nm), 0, (-1), g_depth, 0, (-1), g_typed, (ve_i (ve_V G)), (ve_i (ve_B G)), (ve_i (ve_S G)), (ve_i (ve_A G)), (upd b_hasField c 1), (upd b_fld c (nI t)), (ve_i (ve_O M)), (ve_i (ve_N M)), (ve_i (ve_P M)), (ve_i (ve_R M)), (ve_i (ve_L C)), (ve_i (ve_K C)), (ve_i (ve_Q C)), b_need, b_types, b_objType, b_objVal, b_vals, b_frBody, b_pc, b_frThis, b_frArg, b_log)) : ∀ f i, i + f = n →
    (∀ k, k < i → ve_E M k ≠ 0 → ¬ (ve_an G k c ∨ ve_an G c k)) → wY_field_37 post (nI c) (nI t) g_most g_mostMethods (nI n) (nI nm) g_checked g_errAt g_depth g_entered g_result g_typed (ve_i (ve_V G)) (ve_i (ve_B G)) (ve_i (ve_S G)) (ve_i (ve_A G)) b_hasField b_fld (ve_i (ve_O M)) (ve_i (ve_N M)) (ve_i (ve_P M)) (ve_i (ve_R M)) (ve_i (ve_L C)) (ve_i (ve_K C)) (ve_i (ve_Q C)) b_need b_types b_objType b_objVal b_vals b_frBody b_pc b_frThis b_frArg b_log (f + 1) (nI i)
  | 0, i, hi, q => by
    have n12 := ve_n12 h
    have nn : ¬ ve_near n G M c := by
      rintro ⟨k, hk, e, x⟩
      exact q k (by omega) e x
    refine pk_le n i (fun _ => ?_) (fun z => absurd z (by omega))
    rw [vl_i (by omega)]
    refine vy_kv (sg := 1) h (by omega) wt (by omega) (vb_c (fun z => hV nn z) (fun z => vy_kb h (by omega) wt (by omega) (vb_c (fun z2 => hB nn z z2) (fun z2 => ⟨vp_in_nI (by omega) (by omega), ?_⟩))))
    rw [nI_clamp (by omega)]
    refine nm_r (congrArg _ ve_vn1) ⟨vp_in_nI (by omega) (by omega), nm_e ?_⟩
    unfold wpY_forget
    dsimp only
    exact hO nn z z2
  | f + 1, i, hi, q => by
    have n12 := ve_n12 h
    refine pk_le n i (fun z => absurd z (by omega)) (fun _ => ⟨vp_in_nI (by omega) (by omega), ?_⟩)
    rw [nI_clamp (by omega), hH i (by omega)]
    have go : (ve_E M i ≠ 0 → ¬ (ve_an G i c ∨ ve_an G c i)) → wY_field_37 post (nI c) (nI t) g_most g_mostMethods (nI n) (nI nm) g_checked g_errAt g_depth g_entered g_result g_typed (ve_i (ve_V G)) (ve_i (ve_B G)) (ve_i (ve_S G)) (ve_i (ve_A G)) b_hasField b_fld (ve_i (ve_O M)) (ve_i (ve_N M)) (ve_i (ve_P M)) (ve_i (ve_R M)) (ve_i (ve_L C)) (ve_i (ve_K C)) (ve_i (ve_Q C)) b_need b_types b_objType b_objVal b_vals b_frBody b_pc b_frThis b_frArg b_log (f + 1) (nI (i + 1)) := by
      intro z
      refine vy_field_l h w hH hc wt hkt ht h1 hV hB hO f (i + 1) (by omega) (fun k hk e => ?_)
      by_cases y : k = i
      · subst y; exact z e
      · exact q k (by omega) e
    refine vb_c (fun e => nm_r (nI_1 i) (go (fun z => absurd z (of_decide_eq_false e)))) (fun e => vy_below h (by omega) (by omega) (vb_c (fun b1 => vy_below h (by omega) (by omega) (vb_c (fun b2 => nm_r (nI_1 i) (go ?_)) (fun b2 => h1 ⟨i, by omega, of_decide_eq_true e, Or.inr ((ve_bl_iff h).mp b2)⟩))) (fun b1 => h1 ⟨i, by omega, of_decide_eq_true e, Or.inl ((ve_bl_iff h).mp b1)⟩)))
    rintro _ (x | x)
    · exact (ve_bl_f h).mp b1 x
    · exact (ve_bl_f h).mp b2 x
/-- Y's field: what is no type, and what is one -/
theorem vy_field (h : ve_WG n G) (w : ve_WM n nm G M) (hH : ∀ c, c < 16 → b_hasField c = ve_b (decide (ve_E M c ≠ 0))) {c : Nat} {p : Int32} (hc : c < n) {r : Nat} (q : ve_sy n G c 3 p.toInt64 r)
    (h0 : r = 0 → post (-1) (g_most, g_mostMethods, (nI n), (nI nm), g_checked, g_errAt, g_depth, g_entered, g_result, g_typed, (ve_i (ve_V G)), (ve_i (ve_B G)), (ve_i (ve_S G)), (ve_i (ve_A G)), b_hasField, b_fld, (ve_i (ve_O M)), (ve_i (ve_N M)), (ve_i (ve_P M)), (ve_i (ve_R M)), (ve_i (ve_L C)), (ve_i (ve_K C)), (ve_i (ve_Q C)), b_need, b_types, b_objType, b_objVal, b_vals, b_frBody, b_pc, b_frThis, b_frArg, b_log)) (hr : ∀ t kt, p = nI t → ve_wt n G c kt t → kt ≤ 3 → t < 4096 → wY_field_37 post (nI c) (nI t) g_most g_mostMethods (nI n) (nI nm) g_checked g_errAt g_depth g_entered g_result g_typed (ve_i (ve_V G)) (ve_i (ve_B G)) (ve_i (ve_S G)) (ve_i (ve_A G)) b_hasField b_fld (ve_i (ve_O M)) (ve_i (ve_N M)) (ve_i (ve_P M)) (ve_i (ve_R M)) (ve_i (ve_L C)) (ve_i (ve_K C)) (ve_i (ve_Q C)) b_need b_types b_objType b_objVal b_vals b_frBody b_pc b_frThis b_frArg b_log (n + 1) 0) : wpY_field post (g_most, g_mostMethods, (nI n), (nI nm), g_checked, g_errAt, g_depth, g_entered, g_result, g_typed, (ve_i (ve_V G)), (ve_i (ve_B G)), (ve_i (ve_S G)), (ve_i (ve_A G)), b_hasField, b_fld, (ve_i (ve_O M)), (ve_i (ve_N M)), (ve_i (ve_P M)), (ve_i (ve_R M)), (ve_i (ve_L C)), (ve_i (ve_K C)), (ve_i (ve_Q C)), b_need, b_types, b_objType, b_objVal, b_vals, b_frBody, b_pc, b_frThis, b_frArg, b_log) (nI c) p := by
  have n12 := ve_n12 h
  unfold wpY_field
  dsimp only
  refine br_f (nI_pos (by omega)) (br_t (nI_lt hc (by omega)) (vy_size h (by omega) (fun s qs => ?_)))
  rcases ve_sy_cmp (by omega) q qs with ⟨e, e2, e3⟩ | ⟨e1, e2, e3, v, ev, _, wv⟩
  · exact pk_lt s 1 (fun _ => h0 e) (fun z => pk_le s 3 (fun z2 => by omega) (fun _ => h0 e) (ha := by omega)) (ha := by omega)
  · subst e3
    have ep := ve_i3 ev
    have vb : v < 4096 := ve_W3b ⟨_, e2, wv⟩
    refine pk_lt s 1 (fun z => by omega) (fun z => pk_le s 3 (fun z2 => ⟨n + 1, ?_⟩) (fun z2 => by omega) (ha := by omega)) (ha := by omega)
    have := hr v s ep wv e2 vb
    rw [ep]; exact this
end
theorem ve_field_F {c t kt : Nat} {n : Nat} {nm : Nat} {G : ve_T} {M : ve_M} {C : ve_C} {f_classLimit : Int32} {f_methodLimit : Int32} {f_checkState : Int32} {f_errorPlace : Int32} {f_entered : Int32} {f_result : Int32} {f_keepTypes : Int32} {a_fieldType : Nat → Int32} {a_declared : Nat → Int32} {a_types : Nat → Int64} {a_castAt : Nat → Int32} {a_objClass : Nat → Int32} {a_objField : Nat → Int32} {a_objType : Nat → Int64} {a_traced : Nat → Int32} {g_most : Int32} {g_mostMethods : Int32} {g_checked : Int32} {g_errAt : Int32} {g_entered : Int32} {g_result : Int32} {g_typed : Int32} {b_hasField : Nat → Int32} {b_fld : Nat → Int32} {b_need : Nat → Int32} {b_types : Nat → Int64} {b_objType : Nat → Int32} {b_objVal : Nat → Int32} {b_log : Nat → Int32} (F : ve_F n nm G M C f_classLimit f_methodLimit f_checkState f_errorPlace f_entered f_result f_keepTypes a_fieldType a_declared a_types a_castAt a_objClass a_objField a_objType a_traced g_most g_mostMethods g_checked g_errAt g_entered g_result g_typed b_hasField b_fld b_need b_types b_objType b_objVal b_log) (hc : c < n) (wt : ve_wt n G c kt t) (hkt : kt ≤ 3) (nn : ¬ ve_near n G M c) (kv : ve_kv G c 12 1 t = true) :
    ve_F n nm G (ve_Mf M c t) C f_classLimit f_methodLimit 0 f_errorPlace 0 (-1) f_keepTypes (upd a_fieldType c (nI t)) a_declared a_types a_castAt a_objClass a_objField a_objType a_traced g_most g_mostMethods 0 (-1) 0 (-1) g_typed (upd b_hasField c 1) (upd b_fld c (nI t)) b_need b_types b_objType b_objVal b_log := by
  obtain ⟨⟨h, w, wc⟩, lim, ⟨hE, hD, hH, hF⟩, tt, _, _⟩ := F
  have n12 := ve_n12 h
  have eE : ∀ d, d ≠ c → ve_E (ve_Mf M c t) d = ve_E M d := fun d hd => ve_u_n (f := ve_E M) hd
  have nE : ve_E (ve_Mf M c t) c = t + 1 := ve_u_s (f := ve_E M)
  refine ⟨⟨h, vg_fWM h w hc ⟨kt, hkt, wt⟩ kv (fun d hd => ?_), wc⟩, lim, ⟨fun d hd => ?_, hD, fun d hd => ?_, fun d hd e => ?_⟩, tt, ve_FK_0, ve_FR_0⟩
  · have hdn := (w.2.2.2.1 d hd).1
    exact ⟨fun x => nn ⟨d, hdn, hd, Or.inl x⟩, fun x => nn ⟨d, hdn, hd, Or.inr x⟩⟩
  · by_cases z : d = c
    · rw [z, nE, pk_us]; rfl
    · rw [eE d z, pk_un z]; exact hE d hd
  · by_cases z : d = c
    · rw [z, nE, pk_us, decide_eq_true (by omega)]; rfl
    · rw [eE d z, pk_un z]; exact hH d hd
  · by_cases z : d = c
    · rw [z, nE, pk_us, Nat.add_sub_cancel]
    · rw [eE d z] at e ⊢; rw [pk_un z]; exact hF d hd e
theorem i_vc_field {k : Nat} {u : SX} {v : SY} (I : i_Rel k u v) (hk : k + 5 ≤ 2562) (v1 : Int32) (v2 : Int32) : wpX_field (fun r u' => wpY_field (fun r' v' => r' = r ∧ i_Rel (k + 5) u' v') v v1 v2) u v1 v2 := by
  refine ve_el (P := fun u v => wpX_field (fun r u' => wpY_field (fun r' v' => r' = r ∧ i_Rel (k + 5) u' v') v v1 v2) u v1 v2) ?_ I
  intro n nm G M C f_x f_mainBody f_classLimit f_methodLimit f_checkState f_errorPlace f_typeTop f_objCount f_valueTop f_depth f_entered f_result f_keepTypes a_fieldType a_declared a_types a_castAt a_objClass a_objField a_values a_objType a_frameBody a_framePc a_frameThis a_frameArg a_traced g_most g_mostMethods g_checked g_errAt g_depth g_entered g_result g_typed b_hasField b_fld b_need b_types b_objType b_objVal b_vals b_frBody b_pc b_frThis b_frArg b_log F
  have Rl : i_Rel (k + 5) (f_x, f_mainBody, f_classLimit, f_methodLimit, (nI n), (nI nm), f_checkState, f_errorPlace, f_typeTop, f_objCount, f_valueTop, f_depth, f_entered, f_result, f_keepTypes, (ve_i (ve_V G)), (ve_i (ve_B G)), (ve_i (ve_S G)), (ve_i (ve_A G)), a_fieldType, a_declared, (ve_i (ve_O M)), (ve_i (ve_P M)), (ve_i (ve_R M)), (ve_i (ve_L C)), (ve_i (ve_K C)), (ve_i (ve_Q C)), a_types, a_castAt, a_objClass, a_objField, a_values, a_objType, a_frameBody, a_framePc, a_frameThis, a_frameArg, a_traced) (g_most, g_mostMethods, (nI n), (nI nm), g_checked, g_errAt, g_depth, g_entered, g_result, g_typed, (ve_i (ve_V G)), (ve_i (ve_B G)), (ve_i (ve_S G)), (ve_i (ve_A G)), b_hasField, b_fld, (ve_i (ve_O M)), (ve_i (ve_N M)), (ve_i (ve_P M)), (ve_i (ve_R M)), (ve_i (ve_L C)), (ve_i (ve_K C)), (ve_i (ve_Q C)), b_need, b_types, b_objType, b_objVal, b_vals, b_frBody, b_pc, b_frThis, b_frArg, b_log) := ve_in F
  obtain ⟨⟨h, w, wc⟩, _, ⟨hE, hD, hH, hF⟩, _⟩ := id F
  have n12 := ve_n12 h
  unfold wpX_field
  dsimp only
  refine vx_isSlot n12 ⟨fun c j hc hj e1 e2 => br_f (by decide) ?_, fun no => br_t rfl ?_⟩
  · subst e1
    refine vx_symbols (most := 3) h (by omega) (by omega) (by omega) (fun r q => ?_)
    have hr : r ≤ 3 := by rcases q with q | q <;> omega
    refine pk_eq r 0 (fun e => ?_) (fun e => ?_)
    · exact vy_field h w hH hc q (fun _ => ⟨rfl, Rl⟩) (fun t kt ep wt hkt ht => by
        subst ep
        rw [vl_i (by omega)] at q
        rcases q with q | q
        · have := q.2 kt t rfl (by omega) wt; omega
        · omega)
    · rcases id q with q' | ⟨_, _, t, et, _, wt⟩
      · omega
      have ep := ve_i3 et
      have tb : t < 4096 := ve_W3b ⟨_, hr, wt⟩
      subst ep
      have Y : ∀ post : Int32 → SY → Prop, (ve_near n G M c → post (-3) (g_most, g_mostMethods, (nI n), (nI nm), g_checked, g_errAt, g_depth, g_entered, g_result, g_typed, (ve_i (ve_V G)), (ve_i (ve_B G)), (ve_i (ve_S G)), (ve_i (ve_A G)), b_hasField, b_fld, (ve_i (ve_O M)), (ve_i (ve_N M)), (ve_i (ve_P M)), (ve_i (ve_R M)), (ve_i (ve_L C)), (ve_i (ve_K C)), (ve_i (ve_Q C)), b_need, b_types, b_objType, b_objVal, b_vals, b_frBody, b_pc, b_frThis, b_frArg, b_log)) → (¬ ve_near n G M c → ve_kv G c 12 1 t = false → post (-4) (g_most, g_mostMethods, (nI n), (nI nm), g_checked, g_errAt, g_depth, g_entered, g_result, g_typed, (ve_i (ve_V G)), (ve_i (ve_B G)), (ve_i (ve_S G)), (ve_i (ve_A G)), b_hasField, b_fld, (ve_i (ve_O M)), (ve_i (ve_N M)), (ve_i (ve_P M)), (ve_i (ve_R M)), (ve_i (ve_L C)), (ve_i (ve_K C)), (ve_i (ve_Q C)), b_need, b_types, b_objType, b_objVal, b_vals, b_frBody, b_pc, b_frThis, b_frArg, b_log)) → (¬ ve_near n G M c → ve_kv G c 12 1 t = true → ve_kb G c 12 t = false → post (-5) (g_most, g_mostMethods, (nI n), (nI nm), g_checked, g_errAt, g_depth, g_entered, g_result, g_typed, (ve_i (ve_V G)), (ve_i (ve_B G)), (ve_i (ve_S G)), (ve_i (ve_A G)), b_hasField, b_fld, (ve_i (ve_O M)), (ve_i (ve_N M)), (ve_i (ve_P M)), (ve_i (ve_R M)), (ve_i (ve_L C)), (ve_i (ve_K C)), (ve_i (ve_Q C)), b_need, b_types, b_objType, b_objVal, b_vals, b_frBody, b_pc, b_frThis, b_frArg, b_log)) →
          (¬ ve_near n G M c → ve_kv G c 12 1 t = true → ve_kb G c 12 t = true → post 0 (g_most, g_mostMethods, (nI n), (nI nm), 0, (-1), g_depth, 0, (-1), g_typed, (ve_i (ve_V G)), (ve_i (ve_B G)), (ve_i (ve_S G)), (ve_i (ve_A G)), (upd b_hasField c 1), (upd b_fld c (nI t)), (ve_i (ve_O M)), (ve_i (ve_N M)), (ve_i (ve_P M)), (ve_i (ve_R M)), (ve_i (ve_L C)), (ve_i (ve_K C)), (ve_i (ve_Q C)), b_need, b_types, b_objType, b_objVal, b_vals, b_frBody, b_pc, b_frThis, b_frArg, b_log)) → wpY_field post (g_most, g_mostMethods, (nI n), (nI nm), g_checked, g_errAt, g_depth, g_entered, g_result, g_typed, (ve_i (ve_V G)), (ve_i (ve_B G)), (ve_i (ve_S G)), (ve_i (ve_A G)), b_hasField, b_fld, (ve_i (ve_O M)), (ve_i (ve_N M)), (ve_i (ve_P M)), (ve_i (ve_R M)), (ve_i (ve_L C)), (ve_i (ve_K C)), (ve_i (ve_Q C)), b_need, b_types, b_objType, b_objVal, b_vals, b_frBody, b_pc, b_frThis, b_frArg, b_log) (nI c) (nI t) := by
        intro post p1 p2 p3 p4
        refine vy_field h w hH hc q (fun z => absurd z e) (fun t' kt ep wt' hkt ht => ?_)
        have := ve_inj ep (by omega) (by omega)
        subst this
        exact vy_field_l h w hH hc wt' hkt ht p1 p2 p3 p4 n 0 (by omega) (fun k hk => by omega)
      rw [vl_i (by omega)]
      refine vx_near h w hE hc (fun nr => br_f (by decide) ?_) (fun nr => br_t rfl ?_)
      · exact Y _ (fun _ => ⟨rfl, Rl⟩) (fun z => absurd nr z) (fun z => absurd nr z) (fun z => absurd nr z)
      · refine vx_kv (sg := 1) h (by omega) (by omega) (vb_c (fun kv => ?_) (fun kv => vx_kb h (by omega) wt (by omega) (vb_c (fun kb => ?_) (fun kb => ⟨vp_in_nI (by omega) (by omega), ?_⟩))))
        · exact Y _ (fun z => absurd z nr) (fun _ _ => ⟨rfl, Rl⟩) (fun _ z => by rw [kv] at z; exact absurd z (by decide)) (fun _ z => by rw [kv] at z; exact absurd z (by decide))
        · exact Y _ (fun z => absurd z nr) (fun _ z => by rw [kv] at z; exact absurd z (by decide)) (fun _ _ _ => ⟨rfl, Rl⟩) (fun _ _ z => by rw [kb] at z; exact absurd z (by decide))
        · rw [nI_clamp (by omega)]
          refine nm_e ?_
          unfold wpX_forget
          dsimp only
          refine Y _ (fun z => absurd z nr) (fun _ z => by rw [kv] at z; exact absurd z (by decide)) (fun _ _ z => by rw [kb] at z; exact absurd z (by decide)) (fun _ _ _ => ⟨rfl, ?_⟩)
          exact ve_in (M := ve_Mf M c t) (ve_field_F F hc wt hr nr kv)
  · unfold wpY_field
    dsimp only
    refine br_c (fun _ => ⟨rfl, Rl⟩) (fun z => br_f (fun z2 => ?_) ⟨rfl, Rl⟩)
    obtain ⟨i, hi, rfl⟩ := nI_of z
    exact no i 0 ((nI_ltI hi (by omega)).mp z2) (by omega) rfl rfl
end
section
/-! method -/
def ve_dup (nm : Nat) (G : ve_T) (M : ve_M) (c j : Nat) : Prop := ∃ m, m < nm ∧ ve_N M m = j ∧ ve_an G (ve_O M m) c
/-- the override rule's answer -/
def ve_ovb (G : ve_T) (M : ve_M) (c p r : Nat) : Nat → Bool
  | 0 => true
  | u + 1 => ve_su G c 32 (ve_th G (ve_P M u) (ve_O M u) (ve_sf G c)) p && ve_su G c 32 r (ve_th G (ve_R M u) (ve_O M u) (ve_sf G c))
theorem ve_ovb_s {G : ve_T} {M : ve_M} {c p r u : Nat} : ve_ovb G M c p r (u + 1) = (ve_su G c 32 (ve_th G (ve_P M u) (ve_O M u) (ve_sf G c)) p && ve_su G c 32 r (ve_th G (ve_R M u) (ve_O M u) (ve_sf G c))) := rfl
section
variable {n nm : Nat} {G : ve_T} {M : ve_M} {C : ve_C} {f_x f_mainBody f_classLimit f_methodLimit f_checkState f_errorPlace f_typeTop f_objCount f_valueTop f_depth f_entered f_result f_keepTypes : Int32} {a_fieldType a_declared a_castAt a_objClass a_objField a_values a_frameBody a_framePc a_frameThis a_frameArg a_traced : Nat → Int32} {a_types a_objType : Nat → Int64} {post : Int32 → Prop}
theorem vx_dup_l (h : ve_WG n G) (w : ve_WM n nm G M) (hD : ∀ j, j < 64 → a_declared j = ve_d (ve_D M j)) {c j : Nat} (hc : c < n) (hj : j < 4) (h1 : ve_dup nm G M c j → post 1) (h0 : ¬ ve_dup nm G M c j → post 0) : ∀ f i, i + f = n →
    (∀ k, k < i → ve_D M (4 * k + j) ≠ 0 → ¬ ve_an G k c) → wX_isDeclaredBelow_2 post (nI c) (nI j) f_x f_mainBody f_classLimit f_methodLimit (nI n) (nI nm) f_checkState f_errorPlace f_typeTop f_objCount f_valueTop f_depth f_entered f_result f_keepTypes (ve_i (ve_V G)) (ve_i (ve_B G)) (ve_i (ve_S G)) (ve_i (ve_A G)) a_fieldType a_declared (ve_i (ve_O M)) (ve_i (ve_P M)) (ve_i (ve_R M)) (ve_i (ve_L C)) (ve_i (ve_K C)) (ve_i (ve_Q C)) a_types a_castAt a_objClass a_objField a_values a_objType a_frameBody a_framePc a_frameThis a_frameArg a_traced (f + 1) (nI i)
  | 0, i, hi, q => by
    have n12 := ve_n12 h
    refine pk_le n i (fun _ => h0 ?_) (fun z => absurd z (by omega))
    rintro ⟨m, hm, e, x⟩
    have wm := (w.2.1 m hm).1
    refine q (ve_O M m) (by omega) ?_ x
    rw [← e, wm.2.2]; omega
  | f + 1, i, hi, q => by
    have n12 := ve_n12 h
    refine pk_le n i (fun z => absurd z (by omega)) (fun _ => ?_)
    rw [v_4, nI_clamp (by omega), hD _ (by omega)]
    have go : (ve_D M (4 * i + j) ≠ 0 → ¬ ve_an G i c) → wX_isDeclaredBelow_2 post (nI c) (nI j) f_x f_mainBody f_classLimit f_methodLimit (nI n) (nI nm) f_checkState f_errorPlace f_typeTop f_objCount f_valueTop f_depth f_entered f_result f_keepTypes (ve_i (ve_V G)) (ve_i (ve_B G)) (ve_i (ve_S G)) (ve_i (ve_A G)) a_fieldType a_declared (ve_i (ve_O M)) (ve_i (ve_P M)) (ve_i (ve_R M)) (ve_i (ve_L C)) (ve_i (ve_K C)) (ve_i (ve_Q C)) a_types a_castAt a_objClass a_objField a_values a_objType a_frameBody a_framePc a_frameThis a_frameArg a_traced (f + 1) (nI (i + 1)) := by
      intro z
      refine vx_dup_l h w hD hc hj h1 h0 f (i + 1) (by omega) (fun k hk e => ?_)
      by_cases y : k = i
      · subst y; exact z e
      · exact q k (by omega) e
    refine ⟨vp_in_nI (by omega) (by omega), vd_lt (ve_Dle w _) (fun e => nm_r (nI_1 i) (go (fun z => absurd e z))) (fun m e => vx_below h (by omega) (by omega) (vb_c (fun b1 => nm_r (nI_1 i) (go (fun _ => (ve_bl_f h).mp b1))) (fun b1 => h1 ?_)))⟩
    obtain ⟨m', m1, m2, m3⟩ := w.2.2.1 (4 * i + j) (by omega)
    have wm := (w.2.1 m' m1).1
    have e1 : ve_O M m' = i := by omega
    exact ⟨m', m1, by omega, by rw [e1]; exact (ve_bl_iff h).mp b1⟩
theorem vx_dup (h : ve_WG n G) (w : ve_WM n nm G M) (hD : ∀ j, j < 64 → a_declared j = ve_d (ve_D M j)) {c j : Nat} (hc : c < n) (hj : j < 4) (h1 : ve_dup nm G M c j → post 1) (h0 : ¬ ve_dup nm G M c j → post 0) :
    wpX_isDeclaredBelow post (f_x, f_mainBody, f_classLimit, f_methodLimit, (nI n), (nI nm), f_checkState, f_errorPlace, f_typeTop, f_objCount, f_valueTop, f_depth, f_entered, f_result, f_keepTypes, (ve_i (ve_V G)), (ve_i (ve_B G)), (ve_i (ve_S G)), (ve_i (ve_A G)), a_fieldType, a_declared, (ve_i (ve_O M)), (ve_i (ve_P M)), (ve_i (ve_R M)), (ve_i (ve_L C)), (ve_i (ve_K C)), (ve_i (ve_Q C)), a_types, a_castAt, a_objClass, a_objField, a_values, a_objType, a_frameBody, a_framePc, a_frameThis, a_frameArg, a_traced) (nI c) (nI j) := ⟨n + 1, vx_dup_l h w hD hc hj h1 h0 n 0 (by omega) (fun k hk => by omega)⟩
/-- what the override rule asks -/
theorem ve_ov_wt (h : ve_WG n G) (w : ve_WM n nm G M) {c j u : Nat} (hc : c < n) (hj : j < 4) (e : ve_mt G M c j = u + 1) : u < nm ∧ ve_O M u < n ∧
    (∃ k, k ≤ 3 ∧ ve_wt n G (ve_O M u) k (ve_P M u)) ∧ (∃ k, k ≤ 3 ∧ ve_wt n G (ve_O M u) k (ve_R M u)) ∧ (∃ k, k ≤ 12 ∧ ve_wt n G c k (ve_th G (ve_P M u) (ve_O M u) (ve_sf G c))) ∧ (∃ k, k ≤ 12 ∧ ve_wt n G c k (ve_th G (ve_R M u) (ve_O M u) (ve_sf G c))) := by
  have s := ve_mt_s h w hj e
  have wm := w.2.1 u s.1
  have sh := ve_sf_hd h hc
  have sx := ve_sf_15 h hc
  obtain ⟨ks, hks, ws⟩ := ve_sf_wt h hc
  obtain ⟨kp, hkp, wp⟩ := wm.2.1
  obtain ⟨kr, hkr, wr⟩ := wm.2.2.1
  obtain ⟨k1, a1, b1⟩ := ve_th_wt h (by rw [sh]; exact s.2.1) wp (by omega) ws sx
  obtain ⟨k2, a2, b2⟩ := ve_th_wt h (by rw [sh]; exact s.2.1) wr (by omega) ws sx
  exact ⟨s.1, wm.1.1, ⟨kp, hkp, wp⟩, ⟨kr, hkr, wr⟩, ⟨k1, by omega, b1⟩, ⟨k2, by omega, b2⟩⟩
theorem ve_and_f {a b : Bool} (e : a = false) : (a && b) = false := by rw [e]; rfl
theorem vx_ov19 (h : ve_WG n G) (w : ve_WM n nm G M) {c j p r kp kr : Nat} (hc : c < n) (hj : j < 4) (wp : ve_wt n G c kp p) (hkp : kp ≤ 3) (wr : ve_wt n G c kr r) (hkr : kr ≤ 3) (hp : post (ve_b (ve_ovb G M c p r (ve_mt G M c j)))) :
    wX_overrides_19 post (nI c) (nI p) (nI r) (ve_d (ve_mt G M c j)) f_x f_mainBody f_classLimit f_methodLimit (nI n) (nI nm) f_checkState f_errorPlace f_typeTop f_objCount f_valueTop f_depth f_entered f_result f_keepTypes (ve_i (ve_V G)) (ve_i (ve_B G)) (ve_i (ve_S G)) (ve_i (ve_A G)) a_fieldType a_declared (ve_i (ve_O M)) (ve_i (ve_P M)) (ve_i (ve_R M)) (ve_i (ve_L C)) (ve_i (ve_K C)) (ve_i (ve_Q C)) a_types a_castAt a_objClass a_objField a_values a_objType a_frameBody a_framePc a_frameThis a_frameArg a_traced := by
  have n12 := ve_n12 h
  have hnm := w.1
  have bp : p < 4096 := ve_W3b ⟨_, hkp, wp⟩
  have br : r < 4096 := ve_W3b ⟨_, hkr, wr⟩
  have sb := ve_sfb h hc
  unfold wX_overrides_19
  refine vd_ge (ve_mtb h w hj) (fun u e => vx_selfType h (by omega) ?_) (fun e => ?_)
  · obtain ⟨u1, u2, ⟨kP, hkP, wP⟩, ⟨kR, hkR, wR⟩, ⟨k1, hk1, w1⟩, ⟨k2, hk2, w2⟩⟩ := ve_ov_wt h w hc hj e
    have bP : ve_P M u < 4096 := ve_W3b ⟨_, hkP, wP⟩
    have bR : ve_R M u < 4096 := ve_W3b ⟨_, hkR, wR⟩
    rw [e] at hp ⊢
    show vp_in (nI u) 13 ∧ vp_in (nI u) 13 ∧ wpX_seenThrough _ _ (ve_i (ve_P M) (nI u).toNatClampNeg).toInt64 (ve_i (ve_O M) (nI u).toNatClampNeg) _
    have hin : vp_in (nI u) 13 := vp_in_nI (by omega) (by omega)
    refine ⟨hin, hin, ?_⟩
    rw [ve_at (f := ve_P M) (by omega), ve_at (f := ve_O M) (by omega), vl_i (a := ve_P M u) (by omega)]
    refine vx_th h (by omega) (by omega) wP hkP ?_
    refine ⟨hin, hin, ?_⟩
    show wpX_seenThrough _ _ (ve_i (ve_R M) (nI u).toNatClampNeg).toInt64 (ve_i (ve_O M) (nI u).toNatClampNeg) _
    rw [ve_at (f := ve_R M) (by omega), ve_at (f := ve_O M) (by omega), vl_i (a := ve_R M u) (by omega)]
    refine vx_th h (by omega) (by omega) wR hkR ?_
    rw [vl_i (by omega), vl_i (by omega)]
    rw [ve_ovb_s] at hp
    refine vx_sub h (by omega) w1 wp hk1 (by omega) (vb_c (fun z => ?_) (fun z => vx_sub h (by omega) wr w2 (by omega) hk2 (vb_c (fun z2 => ?_) (fun z2 => ?_))))
    · rw [z] at hp; exact hp
    · rw [z, z2] at hp; exact hp
    · rw [z, z2] at hp; exact hp
  · rw [e] at hp; exact hp
theorem ve_mt_up (h : ve_WG n G) (w : ve_WM n nm G M) {c j : Nat} (hc : c < n) (hj : j < 4) (nd : ¬ ve_dup nm G M c j) : (c = 0 → ve_mt G M c j = 0) ∧ ve_mt G M (ve_S G c) j = ve_mt G M c j := by
  have d0 : ve_gD M j c = 0 := by
    by_cases z : ve_D M (4 * c + j) = 0
    · exact z
    · obtain ⟨m, m1, m2, m3⟩ := w.2.2.1 _ z
      have wm := (w.2.1 m m1).1
      have e1 : ve_O M m = c := by omega
      exact absurd ⟨m, m1, by omega, by rw [e1]; exact ve_an_r c⟩ nd
  refine ⟨fun e => ?_, ?_⟩
  · subst e
    unfold ve_mt
    rcases ve_fi_sp (g := ve_gD M j) h 0 with q | ⟨a, x, y, _⟩
    · exact q.1
    · have : a = 0 := by have := ve_an_le h x; omega
      rw [this] at y; exact absurd d0 y
  · unfold ve_mt; exact (ve_fi_u h d0).symm
theorem vx_ov (h : ve_WG n G) (w : ve_WM n nm G M) (hD : ∀ j, j < 64 → a_declared j = ve_d (ve_D M j)) {c j p r kp kr : Nat} (hc : c < n) (hj : j < 4) (wp : ve_wt n G c kp p) (hkp : kp ≤ 3) (wr : ve_wt n G c kr r) (hkr : kr ≤ 3)
    (nd : ¬ ve_dup nm G M c j) (hp : post (ve_b (ve_ovb G M c p r (ve_mt G M c j)))) : wpX_overrides post (f_x, f_mainBody, f_classLimit, f_methodLimit, (nI n), (nI nm), f_checkState, f_errorPlace, f_typeTop, f_objCount, f_valueTop, f_depth, f_entered, f_result, f_keepTypes, (ve_i (ve_V G)), (ve_i (ve_B G)), (ve_i (ve_S G)), (ve_i (ve_A G)), a_fieldType, a_declared, (ve_i (ve_O M)), (ve_i (ve_P M)), (ve_i (ve_R M)), (ve_i (ve_L C)), (ve_i (ve_K C)), (ve_i (ve_Q C)), a_types, a_castAt, a_objClass, a_objField, a_values, a_objType, a_frameBody, a_framePc, a_frameThis, a_frameArg, a_traced) (nI c) (nI j) (nI p) (nI r) := by
  have n12 := ve_n12 h
  have go := vx_ov19 (C := C) (post := post) (f_x := f_x) (f_mainBody := f_mainBody) (f_classLimit := f_classLimit) (f_methodLimit := f_methodLimit) (f_checkState := f_checkState) (f_errorPlace := f_errorPlace) (f_typeTop := f_typeTop) (f_objCount := f_objCount) (f_valueTop := f_valueTop) (f_depth := f_depth) (f_entered := f_entered) (f_result := f_result) (f_keepTypes := f_keepTypes) (a_fieldType := a_fieldType) (a_declared := a_declared) (a_types := a_types) (a_castAt := a_castAt) (a_objClass := a_objClass) (a_objField := a_objField) (a_values := a_values) (a_objType := a_objType) (a_frameBody := a_frameBody) (a_framePc := a_framePc) (a_frameThis := a_frameThis) (a_frameArg := a_frameArg) (a_traced := a_traced) h w hc hj wp hkp wr hkr hp
  obtain ⟨m0, mS⟩ := ve_mt_up h w hc hj nd
  have sl := ve_Sle h c
  unfold wpX_overrides
  dsimp only
  refine pk_eq c 0 (fun e => ?_) (fun e => ⟨vp_in_nI (by omega) (by omega), ?_⟩)
  · rw [m0 e] at go; exact go
  · rw [ve_at (by omega)]
    refine vx_mo h hj hD (ve_Dle w) (by omega) ?_
    rw [mS]; exact go
end
section
variable {n nm : Nat} {G : ve_T} {M : ve_M} {C : ve_C} {g_most g_mostMethods g_checked g_errAt g_depth g_entered g_result g_typed : Int32} {b_hasField b_fld b_need b_objType b_objVal b_vals b_frBody b_pc b_frThis b_frArg b_log : Nat → Int32} {b_types : Nat → Int64} {post : Int32 → SY → Prop}
theorem vy_method_e (h : ve_WG n G) (w : ve_WM n nm G M) {c j p r kp kr : Nat} (hc : c < n) (hj : j < 4) (hnm : nm < 12) (wp : ve_wt n G c kp p) (hkp : kp ≤ 3) (wr : ve_wt n G c kr r) (hkr : kr ≤ 3)
    (hV1 : ve_kv G c 12 (-1) p = false → post (-4) (g_most, g_mostMethods, (nI n), (nI nm), g_checked, g_errAt, g_depth, g_entered, g_result, g_typed, (ve_i (ve_V G)), (ve_i (ve_B G)), (ve_i (ve_S G)), (ve_i (ve_A G)), b_hasField, b_fld, (ve_i (ve_O M)), (ve_i (ve_N M)), (ve_i (ve_P M)), (ve_i (ve_R M)), (ve_i (ve_L C)), (ve_i (ve_K C)), (ve_i (ve_Q C)), b_need, b_types, b_objType, b_objVal, b_vals, b_frBody, b_pc, b_frThis, b_frArg, b_log)) (hV2 : ve_kv G c 12 (-1) p = true → ve_kv G c 12 1 r = false → post (-4) (g_most, g_mostMethods, (nI n), (nI nm), g_checked, g_errAt, g_depth, g_entered, g_result, g_typed, (ve_i (ve_V G)), (ve_i (ve_B G)), (ve_i (ve_S G)), (ve_i (ve_A G)), b_hasField, b_fld, (ve_i (ve_O M)), (ve_i (ve_N M)), (ve_i (ve_P M)), (ve_i (ve_R M)), (ve_i (ve_L C)), (ve_i (ve_K C)), (ve_i (ve_Q C)), b_need, b_types, b_objType, b_objVal, b_vals, b_frBody, b_pc, b_frThis, b_frArg, b_log))
    (hB1 : ve_kv G c 12 (-1) p = true → ve_kv G c 12 1 r = true → ve_kb G c 12 p = false → post (-5) (g_most, g_mostMethods, (nI n), (nI nm), g_checked, g_errAt, g_depth, g_entered, g_result, g_typed, (ve_i (ve_V G)), (ve_i (ve_B G)), (ve_i (ve_S G)), (ve_i (ve_A G)), b_hasField, b_fld, (ve_i (ve_O M)), (ve_i (ve_N M)), (ve_i (ve_P M)), (ve_i (ve_R M)), (ve_i (ve_L C)), (ve_i (ve_K C)), (ve_i (ve_Q C)), b_need, b_types, b_objType, b_objVal, b_vals, b_frBody, b_pc, b_frThis, b_frArg, b_log)) (hB2 : ve_kv G c 12 (-1) p = true → ve_kv G c 12 1 r = true → ve_kb G c 12 p = true → ve_kb G c 12 r = false → post (-5) (g_most, g_mostMethods, (nI n), (nI nm), g_checked, g_errAt, g_depth, g_entered, g_result, g_typed, (ve_i (ve_V G)), (ve_i (ve_B G)), (ve_i (ve_S G)), (ve_i (ve_A G)), b_hasField, b_fld, (ve_i (ve_O M)), (ve_i (ve_N M)), (ve_i (ve_P M)), (ve_i (ve_R M)), (ve_i (ve_L C)), (ve_i (ve_K C)), (ve_i (ve_Q C)), b_need, b_types, b_objType, b_objVal, b_vals, b_frBody, b_pc, b_frThis, b_frArg, b_log))
    (hO : ve_kv G c 12 (-1) p = true → ve_kv G c 12 1 r = true → ve_kb G c 12 p = true → ve_kb G c 12 r = true → ve_ovb G M c p r (ve_mt G M c j) = false → post (-6) (g_most, g_mostMethods, (nI n), (nI nm), g_checked, g_errAt, g_depth, g_entered, g_result, g_typed, (ve_i (ve_V G)), (ve_i (ve_B G)), (ve_i (ve_S G)), (ve_i (ve_A G)), b_hasField, b_fld, (ve_i (ve_O M)), (ve_i (ve_N M)), (ve_i (ve_P M)), (ve_i (ve_R M)), (ve_i (ve_L C)), (ve_i (ve_K C)), (ve_i (ve_Q C)), b_need, b_types, b_objType, b_objVal, b_vals, b_frBody, b_pc, b_frThis, b_frArg, b_log))
    (hK : ve_kv G c 12 (-1) p = true → ve_kv G c 12 1 r = true → ve_kb G c 12 p = true → ve_kb G c 12 r = true → ve_ovb G M c p r (ve_mt G M c j) = true →
      post (nI nm) (g_most, g_mostMethods, (nI n), (nI (nm + 1)), 0, (-1), g_depth, 0, (-1), g_typed, (ve_i (ve_V G)), (ve_i (ve_B G)), (ve_i (ve_S G)), (ve_i (ve_A G)), b_hasField, b_fld, (ve_i (ve_u (ve_O M) nm c)), (ve_i (ve_u (ve_N M) nm j)), (ve_i (ve_u (ve_P M) nm p)), (ve_i (ve_u (ve_R M) nm r)), (ve_i (ve_L C)), (ve_i (ve_K C)), (ve_i (ve_Q C)), b_need, b_types, b_objType, b_objVal, b_vals, b_frBody, b_pc, b_frThis, b_frArg, b_log)) : ∀ f i, i + f = nm →
    (ve_dup nm G M c j → post (-3) (g_most, g_mostMethods, (nI n), (nI nm), g_checked, g_errAt, g_depth, g_entered, g_result, g_typed, (ve_i (ve_V G)), (ve_i (ve_B G)), (ve_i (ve_S G)), (ve_i (ve_A G)), b_hasField, b_fld, (ve_i (ve_O M)), (ve_i (ve_N M)), (ve_i (ve_P M)), (ve_i (ve_R M)), (ve_i (ve_L C)), (ve_i (ve_K C)), (ve_i (ve_Q C)), b_need, b_types, b_objType, b_objVal, b_vals, b_frBody, b_pc, b_frThis, b_frArg, b_log)) → (∀ m, m < i → ve_N M m = j → ¬ ve_an G (ve_O M m) c) → wY_method_85 post (nI c) (nI j) (nI p) (nI r) g_most g_mostMethods (nI n) (nI nm) g_checked g_errAt g_depth g_entered g_result g_typed (ve_i (ve_V G)) (ve_i (ve_B G)) (ve_i (ve_S G)) (ve_i (ve_A G)) b_hasField b_fld (ve_i (ve_O M)) (ve_i (ve_N M)) (ve_i (ve_P M)) (ve_i (ve_R M)) (ve_i (ve_L C)) (ve_i (ve_K C)) (ve_i (ve_Q C)) b_need b_types b_objType b_objVal b_vals b_frBody b_pc b_frThis b_frArg b_log (f + 1) (nI i)
  | 0, i, hi, h1, q => by
    have n12 := ve_n12 h
    have bp : p < 4096 := ve_W3b ⟨_, hkp, wp⟩
    have br : r < 4096 := ve_W3b ⟨_, hkr, wr⟩
    have sb := ve_sfb h hc
    have fin : ve_kv G c 12 (-1) p = true → ve_kv G c 12 1 r = true → ve_kb G c 12 p = true → ve_kb G c 12 r = true → ve_ovb G M c p r (ve_mt G M c j) = true → wY_method_275 post (nI c) (nI j) (nI p) (nI r) g_most g_mostMethods (nI n) (nI nm) g_checked g_errAt g_depth g_entered g_result g_typed (ve_i (ve_V G)) (ve_i (ve_B G)) (ve_i (ve_S G)) (ve_i (ve_A G)) b_hasField b_fld (ve_i (ve_O M)) (ve_i (ve_N M)) (ve_i (ve_P M)) (ve_i (ve_R M)) (ve_i (ve_L C)) (ve_i (ve_K C)) (ve_i (ve_Q C)) b_need b_types b_objType b_objVal b_vals b_frBody b_pc b_frThis b_frArg b_log := by
      intro a1 a2 a3 a4 a5
      have hK := hK a1 a2 a3 a4 a5
      unfold wY_method_275
      refine ⟨vp_in_nI (by omega) (by omega), nm_r (ve_iu' (by omega)) ⟨vp_in_nI (by omega) (by omega), nm_r (ve_iu' (by omega)) ⟨vp_in_nI (by omega) (by omega), nm_r (ve_iu' (by omega)) ⟨vp_in_nI (by omega) (by omega), nm_r (ve_iu' (by omega)) (nm_r (nI_1 nm) ?_)⟩⟩⟩⟩
      show post (nI (nm + 1) - 1) _
      rw [nI_pred]; exact hK
    refine pk_le nm i (fun _ => ?_) (fun z => absurd z (by omega))
    rw [vl_i (a := p) (by omega), vl_i (a := r) (by omega)]
    refine vy_kv (sg := -1) h (by omega) wp (by omega) (vb_c hV1 (fun a1 => vy_kv (sg := 1) h (by omega) wr (by omega) (vb_c (hV2 a1) (fun a2 => vy_kb h (by omega) wp (by omega) (vb_c (hB1 a1 a2) (fun a3 => vy_kb h (by omega) wr (by omega) (vb_c (hB2 a1 a2 a3) (fun a4 => vy_mo h w (by omega) hj ?_))))))))
    have hO := hO a1 a2 a3 a4
    have fin := fin a1 a2 a3 a4
    refine vd_lt (ve_mtb h w hj) (fun e => fin (by rw [e]; rfl)) (fun u e => vy_self h (by omega) ?_)
    obtain ⟨u1, u2, ⟨kP, hkP, wP⟩, ⟨kR, hkR, wR⟩, ⟨k1, hk1, w1⟩, ⟨k2, hk2, w2⟩⟩ := ve_ov_wt h w hc hj e
    have bP : ve_P M u < 4096 := ve_W3b ⟨_, hkP, wP⟩
    have bR : ve_R M u < 4096 := ve_W3b ⟨_, hkR, wR⟩
    rw [e] at hO fin ⊢
    rw [ve_ovb_s] at hO fin
    have hin : vp_in (nI u) 13 := vp_in_nI (by omega) (by omega)
    show vp_in (nI u) 13 ∧ vp_in (nI u) 13 ∧ wpY_through _ _ (ve_i (ve_P M) (nI u).toNatClampNeg).toInt64 _ (ve_i (ve_O M) (nI u).toNatClampNeg)
    refine ⟨hin, hin, ?_⟩
    rw [ve_at (by omega), ve_at (by omega), vl_i (by omega), vl_i (by omega)]
    refine vy_th h (by omega) (by omega) wP hkP ?_
    refine ⟨hin, hin, ?_⟩
    show wpY_through _ _ (ve_i (ve_R M) (nI u).toNatClampNeg).toInt64 _ (ve_i (ve_O M) (nI u).toNatClampNeg)
    rw [ve_at (by omega), ve_at (by omega), vl_i (by omega)]
    refine vy_th h (by omega) (by omega) wR hkR ?_
    refine vy_sub h (by omega) w1 wp hk1 (by omega) (vb_c (fun z => hO (by rw [z]; rfl)) (fun z => vy_sub h (by omega) wr w2 (by omega) hk2 (vb_c (fun z2 => hO (by rw [z, z2]; rfl)) (fun z2 => fin (by rw [z, z2]; rfl)))))
  | f + 1, i, hi, h1, q => by
    have n12 := ve_n12 h
    have wm := (w.2.1 i (by omega)).1
    refine pk_le nm i (fun z => absurd z (by omega)) (fun _ => ⟨vp_in_nI (by omega) (by omega), ?_⟩)
    rw [ve_at (by omega), ve_at (by omega)]
    have go : (ve_N M i = j → ¬ ve_an G (ve_O M i) c) → wY_method_85 post (nI c) (nI j) (nI p) (nI r) g_most g_mostMethods (nI n) (nI nm) g_checked g_errAt g_depth g_entered g_result g_typed (ve_i (ve_V G)) (ve_i (ve_B G)) (ve_i (ve_S G)) (ve_i (ve_A G)) b_hasField b_fld (ve_i (ve_O M)) (ve_i (ve_N M)) (ve_i (ve_P M)) (ve_i (ve_R M)) (ve_i (ve_L C)) (ve_i (ve_K C)) (ve_i (ve_Q C)) b_need b_types b_objType b_objVal b_vals b_frBody b_pc b_frThis b_frArg b_log (f + 1) (nI (i + 1)) := by
      intro z
      refine vy_method_e h w hc hj hnm wp hkp wr hkr hV1 hV2 hB1 hB2 hO hK f (i + 1) (by omega) h1 (fun k hk e => ?_)
      by_cases y : k = i
      · subst y; exact z e
      · exact q k (by omega) e
    refine pk_eq (ve_N M i) j (fun e => ⟨vp_in_nI (by omega) (by omega), vy_below h (by omega) (by omega) (vb_c (fun b1 => nm_r (nI_1 i) (go (fun _ => (ve_bl_f h).mp b1))) (fun b1 => h1 ⟨i, by omega, e, (ve_bl_iff h).mp b1⟩))⟩) (fun e => nm_r (nI_1 i) (go (fun z => absurd z e)))
theorem vy_method (h : ve_WG n G) (w : ve_WM n nm G M) {c j : Nat} {p r : Int32} {ml : Nat} (hml : ml ≤ 12) (hlt : nm < ml) (hm : g_mostMethods = nI ml) (hc : c < n) (hj : j < 4) {rp rr : Nat} (qp : ve_sy n G c 3 p.toInt64 rp) (qr : ve_sy n G c 3 r.toInt64 rr)
    (h0 : (rp = 0 ∨ rr = 0) → post (-1) (g_most, g_mostMethods, (nI n), (nI nm), g_checked, g_errAt, g_depth, g_entered, g_result, g_typed, (ve_i (ve_V G)), (ve_i (ve_B G)), (ve_i (ve_S G)), (ve_i (ve_A G)), b_hasField, b_fld, (ve_i (ve_O M)), (ve_i (ve_N M)), (ve_i (ve_P M)), (ve_i (ve_R M)), (ve_i (ve_L C)), (ve_i (ve_K C)), (ve_i (ve_Q C)), b_need, b_types, b_objType, b_objVal, b_vals, b_frBody, b_pc, b_frThis, b_frArg, b_log)) (hr : ∀ tp tr, p = nI tp → r = nI tr → rp ≤ 3 → rr ≤ 3 → ve_wt n G c rp tp → ve_wt n G c rr tr → wY_method_85 post (nI c) (nI j) (nI tp) (nI tr) g_most g_mostMethods (nI n) (nI nm) g_checked g_errAt g_depth g_entered g_result g_typed (ve_i (ve_V G)) (ve_i (ve_B G)) (ve_i (ve_S G)) (ve_i (ve_A G)) b_hasField b_fld (ve_i (ve_O M)) (ve_i (ve_N M)) (ve_i (ve_P M)) (ve_i (ve_R M)) (ve_i (ve_L C)) (ve_i (ve_K C)) (ve_i (ve_Q C)) b_need b_types b_objType b_objVal b_vals b_frBody b_pc b_frThis b_frArg b_log (nm + 1) 0) : wpY_method post (g_most, g_mostMethods, (nI n), (nI nm), g_checked, g_errAt, g_depth, g_entered, g_result, g_typed, (ve_i (ve_V G)), (ve_i (ve_B G)), (ve_i (ve_S G)), (ve_i (ve_A G)), b_hasField, b_fld, (ve_i (ve_O M)), (ve_i (ve_N M)), (ve_i (ve_P M)), (ve_i (ve_R M)), (ve_i (ve_L C)), (ve_i (ve_K C)), (ve_i (ve_Q C)), b_need, b_types, b_objType, b_objVal, b_vals, b_frBody, b_pc, b_frThis, b_frArg, b_log) (nI c) (nI j) p r := by
  have n12 := ve_n12 h
  have hnm := w.1
  unfold wpY_method
  dsimp only
  refine br_f (fun z => by have := ve_inj (z.trans hm) (by omega) (by omega); omega) (br_f (nI_pos (by omega)) (br_f (nI_ge hc (by omega)) (br_f (nI_pos (by omega)) (br_t (nI_le (b := 3) (by omega) (by omega)) (vy_size h (by omega) (fun s qs => vy_size h (by omega) (fun s' qs' => ?_)))))))
  rcases ve_sy_cmp (by omega) qp qs with ⟨e, e2, e3⟩ | ⟨e1, e2, e3, v, ev, _, wv⟩
  · have bad := h0 (Or.inl e)
    exact pk_lt s 1 (fun _ => bad) (fun z => pk_lt 3 s (fun _ => bad) (fun z2 => by omega) (hb := by omega)) (ha := by omega)
  · subst e3
    refine pk_lt s 1 (fun z => by omega) (fun _ => pk_lt 3 s (fun z2 => by omega) (fun _ => ?_) (hb := by omega)) (ha := by omega)
    rcases ve_sy_cmp (by omega) qr qs' with ⟨f, f2, f3⟩ | ⟨f1, f2, f3, v', ev', _, wv'⟩
    · have bad := h0 (Or.inr f)
      exact pk_lt s' 1 (fun _ => bad) (fun z => pk_le s' 3 (fun z2 => by omega) (fun _ => bad) (ha := by omega)) (ha := by omega)
    · subst f3
      have ep := ve_i3 ev
      have er := ve_i3 ev'
      have := hr v v' ep er e2 f2 wv wv'
      refine pk_lt s' 1 (fun z => by omega) (fun _ => pk_le s' 3 (fun _ => ⟨nm + 1, ?_⟩) (fun z2 => by omega) (ha := by omega)) (ha := by omega)
      rw [ep, er]; exact this
end
theorem ve_method_F {c j p r kp kr : Nat} {n : Nat} {nm : Nat} {G : ve_T} {M : ve_M} {C : ve_C} {f_classLimit : Int32} {f_methodLimit : Int32} {f_checkState : Int32} {f_errorPlace : Int32} {f_entered : Int32} {f_result : Int32} {f_keepTypes : Int32} {a_fieldType : Nat → Int32} {a_declared : Nat → Int32} {a_types : Nat → Int64} {a_castAt : Nat → Int32} {a_objClass : Nat → Int32} {a_objField : Nat → Int32} {a_objType : Nat → Int64} {a_traced : Nat → Int32} {g_most : Int32} {g_mostMethods : Int32} {g_checked : Int32} {g_errAt : Int32} {g_entered : Int32} {g_result : Int32} {g_typed : Int32} {b_hasField : Nat → Int32} {b_fld : Nat → Int32} {b_need : Nat → Int32} {b_types : Nat → Int64} {b_objType : Nat → Int32} {b_objVal : Nat → Int32} {b_log : Nat → Int32} (F : ve_F n nm G M C f_classLimit f_methodLimit f_checkState f_errorPlace f_entered f_result f_keepTypes a_fieldType a_declared a_types a_castAt a_objClass a_objField a_objType a_traced g_most g_mostMethods g_checked g_errAt g_entered g_result g_typed b_hasField b_fld b_need b_types b_objType b_objVal b_log) (hm : ∃ ml, f_methodLimit = nI ml ∧ nm < ml ∧ ml ≤ 12) (hc : c < n) (hj : j < 4) (wp : ve_wt n G c kp p) (hkp : kp ≤ 3) (wr : ve_wt n G c kr r) (hkr : kr ≤ 3)
    (nd : ¬ ve_dup nm G M c j) (k1 : ve_kv G c 12 (-1) p = true) (k2 : ve_kv G c 12 1 r = true) (ov : ve_ovb G M c p r (ve_mt G M c j) = true) :
    ve_F n (nm + 1) G (ve_Mm M nm c j p r) C f_classLimit f_methodLimit 0 f_errorPlace 0 (-1) f_keepTypes a_fieldType (upd a_declared (4 * c + j) (nI nm)) a_types a_castAt a_objClass a_objField a_objType a_traced g_most g_mostMethods 0 (-1) 0 (-1) g_typed b_hasField b_fld b_need b_types b_objType b_objVal b_log := by
  obtain ⟨⟨h, w, wc⟩, ⟨cl, ml, l1, l2, l3, l4, l5, l6, l7, l8⟩, ⟨hE, hD, hH, hF⟩, tt, _, _⟩ := F
  have n12 := ve_n12 h
  have hlt : nm < ml := by
    obtain ⟨ml', e1, e2, e3⟩ := hm
    have := ve_inj (l5.symm.trans e1) (by omega) (by omega)
    omega
  have eD : ∀ d, d ≠ 4 * c + j → ve_D (ve_Mm M nm c j p r) d = ve_D M d := fun d hd => ve_u_n (f := ve_D M) hd
  have nD : ve_D (ve_Mm M nm c j p r) (4 * c + j) = nm + 1 := ve_u_s (f := ve_D M)
  refine ⟨⟨h, vg_mWM h w (by omega) hc hj ⟨kp, hkp, wp⟩ ⟨kr, hkr, wr⟩ k1 k2 (fun m hm e x => nd ⟨m, hm, e, x⟩) (fun c0 u e => ?_), vg_mWC (by omega) wc⟩, ⟨cl, ml, l1, l2, l3, l4, l5, l6, by omega, l8⟩, ⟨hE, fun d hd => ?_, hH, hF⟩, tt, ve_FK_0, ve_FR_0⟩
  · rw [(ve_mt_up h w hc hj nd).2] at e
    rw [e] at ov
    rw [ve_ovb_s, Bool.and_eq_true] at ov
    exact ⟨⟨32, ov.1⟩, ⟨32, ov.2⟩⟩
  · by_cases z : d = 4 * c + j
    · rw [z, nD, pk_us]; rfl
    · rw [eD d z, pk_un z]; exact hD d hd
theorem ve_ft {b : Bool} {P : Prop} (e : b = false) (e' : b = true) : P := by rw [e] at e'; exact absurd e' (by decide)
theorem i_vc_method {k : Nat} {u : SX} {v : SY} (I : i_Rel k u v) (hk : k + 5 ≤ 2562) (v1 : Int32) (v2 : Int32) (v3 : Int32) (v4 : Int32) : wpX_method (fun r u' => wpY_method (fun r' v' => r' = r ∧ i_Rel (k + 5) u' v') v v1 v2 v3 v4) u v1 v2 v3 v4 := by
  refine ve_el (P := fun u v => wpX_method (fun r u' => wpY_method (fun r' v' => r' = r ∧ i_Rel (k + 5) u' v') v v1 v2 v3 v4) u v1 v2 v3 v4) ?_ I
  intro n nm G M C f_x f_mainBody f_classLimit f_methodLimit f_checkState f_errorPlace f_typeTop f_objCount f_valueTop f_depth f_entered f_result f_keepTypes a_fieldType a_declared a_types a_castAt a_objClass a_objField a_values a_objType a_frameBody a_framePc a_frameThis a_frameArg a_traced g_most g_mostMethods g_checked g_errAt g_depth g_entered g_result g_typed b_hasField b_fld b_need b_types b_objType b_objVal b_vals b_frBody b_pc b_frThis b_frArg b_log F
  have Rl : i_Rel (k + 5) (f_x, f_mainBody, f_classLimit, f_methodLimit, (nI n), (nI nm), f_checkState, f_errorPlace, f_typeTop, f_objCount, f_valueTop, f_depth, f_entered, f_result, f_keepTypes, (ve_i (ve_V G)), (ve_i (ve_B G)), (ve_i (ve_S G)), (ve_i (ve_A G)), a_fieldType, a_declared, (ve_i (ve_O M)), (ve_i (ve_P M)), (ve_i (ve_R M)), (ve_i (ve_L C)), (ve_i (ve_K C)), (ve_i (ve_Q C)), a_types, a_castAt, a_objClass, a_objField, a_values, a_objType, a_frameBody, a_framePc, a_frameThis, a_frameArg, a_traced) (g_most, g_mostMethods, (nI n), (nI nm), g_checked, g_errAt, g_depth, g_entered, g_result, g_typed, (ve_i (ve_V G)), (ve_i (ve_B G)), (ve_i (ve_S G)), (ve_i (ve_A G)), b_hasField, b_fld, (ve_i (ve_O M)), (ve_i (ve_N M)), (ve_i (ve_P M)), (ve_i (ve_R M)), (ve_i (ve_L C)), (ve_i (ve_K C)), (ve_i (ve_Q C)), b_need, b_types, b_objType, b_objVal, b_vals, b_frBody, b_pc, b_frThis, b_frArg, b_log) := ve_in F
  obtain ⟨⟨h, w, wc⟩, ⟨cl, ml, l1, l2, l3, l4, l5, l6, l7, l8⟩, ⟨hE, hD, hH, hF⟩, _⟩ := id F
  have n12 := ve_n12 h
  unfold wpX_method
  dsimp only
  refine br_c (fun z => ?_) (fun z => ?_)
  · rw [l5, nI_ltI (by omega) (by omega)] at z
    refine vx_isSlot n12 ⟨fun c j hc hj e1 e2 => br_f (by decide) ?_, fun no => br_t rfl ?_⟩
    · subst e1; subst e2
      refine vx_symbols (most := 3) h (by omega) (by omega) (by omega) (fun rp qp => ?_)
      have hrp : rp ≤ 3 := by rcases qp with q | q <;> omega
      refine pk_eq rp 0 (fun e => ?_) (fun e => vx_symbols (most := 3) h (by omega) (by omega) (by omega) (fun rr qr => ?_))
      · -- the second size, whatever it is
        obtain ⟨rr, qr⟩ : ∃ rr, ve_sy n G c 3 v4.toInt64 rr := by
          by_cases y : v4.toInt64 < 0
          · exact ⟨0, ve_sy_neg y⟩
          · obtain ⟨x, hx, ex⟩ := pk_lOf y
            rw [ex]; exact ⟨_, ve_sy_pos h (by omega)⟩
        exact vy_method h w l8 z l6 hc hj qp qr (fun _ => ⟨rfl, Rl⟩) (fun tp tr _ _ _ _ wt _ => by rw [e] at wt; exact absurd wt (fun z => z))
      have hrr : rr ≤ 3 := by rcases qr with q | q <;> omega
      refine pk_eq rr 0 (fun e' => ?_) (fun e' => ?_)
      · exact vy_method h w l8 z l6 hc hj qp qr (fun _ => ⟨rfl, Rl⟩) (fun tp tr _ _ _ _ _ wt => by rw [e'] at wt; exact absurd wt (fun z => z))
      rcases id qp with q' | ⟨_, _, p, ep, _, wp⟩
      · omega
      rcases id qr with q' | ⟨_, _, r, er, _, wr⟩
      · omega
      have ep := ve_i3 ep
      have er := ve_i3 er
      have bp : p < 4096 := ve_W3b ⟨_, hrp, wp⟩
      have br : r < 4096 := ve_W3b ⟨_, hrr, wr⟩
      subst ep; subst er
      have Y : ∀ post : Int32 → SY → Prop, (ve_dup nm G M c j → post (-3) (g_most, g_mostMethods, (nI n), (nI nm), g_checked, g_errAt, g_depth, g_entered, g_result, g_typed, (ve_i (ve_V G)), (ve_i (ve_B G)), (ve_i (ve_S G)), (ve_i (ve_A G)), b_hasField, b_fld, (ve_i (ve_O M)), (ve_i (ve_N M)), (ve_i (ve_P M)), (ve_i (ve_R M)), (ve_i (ve_L C)), (ve_i (ve_K C)), (ve_i (ve_Q C)), b_need, b_types, b_objType, b_objVal, b_vals, b_frBody, b_pc, b_frThis, b_frArg, b_log)) → (ve_kv G c 12 (-1) p = false → post (-4) (g_most, g_mostMethods, (nI n), (nI nm), g_checked, g_errAt, g_depth, g_entered, g_result, g_typed, (ve_i (ve_V G)), (ve_i (ve_B G)), (ve_i (ve_S G)), (ve_i (ve_A G)), b_hasField, b_fld, (ve_i (ve_O M)), (ve_i (ve_N M)), (ve_i (ve_P M)), (ve_i (ve_R M)), (ve_i (ve_L C)), (ve_i (ve_K C)), (ve_i (ve_Q C)), b_need, b_types, b_objType, b_objVal, b_vals, b_frBody, b_pc, b_frThis, b_frArg, b_log)) → (ve_kv G c 12 (-1) p = true → ve_kv G c 12 1 r = false → post (-4) (g_most, g_mostMethods, (nI n), (nI nm), g_checked, g_errAt, g_depth, g_entered, g_result, g_typed, (ve_i (ve_V G)), (ve_i (ve_B G)), (ve_i (ve_S G)), (ve_i (ve_A G)), b_hasField, b_fld, (ve_i (ve_O M)), (ve_i (ve_N M)), (ve_i (ve_P M)), (ve_i (ve_R M)), (ve_i (ve_L C)), (ve_i (ve_K C)), (ve_i (ve_Q C)), b_need, b_types, b_objType, b_objVal, b_vals, b_frBody, b_pc, b_frThis, b_frArg, b_log)) →
          (ve_kv G c 12 (-1) p = true → ve_kv G c 12 1 r = true → ve_kb G c 12 p = false → post (-5) (g_most, g_mostMethods, (nI n), (nI nm), g_checked, g_errAt, g_depth, g_entered, g_result, g_typed, (ve_i (ve_V G)), (ve_i (ve_B G)), (ve_i (ve_S G)), (ve_i (ve_A G)), b_hasField, b_fld, (ve_i (ve_O M)), (ve_i (ve_N M)), (ve_i (ve_P M)), (ve_i (ve_R M)), (ve_i (ve_L C)), (ve_i (ve_K C)), (ve_i (ve_Q C)), b_need, b_types, b_objType, b_objVal, b_vals, b_frBody, b_pc, b_frThis, b_frArg, b_log)) → (ve_kv G c 12 (-1) p = true → ve_kv G c 12 1 r = true → ve_kb G c 12 p = true → ve_kb G c 12 r = false → post (-5) (g_most, g_mostMethods, (nI n), (nI nm), g_checked, g_errAt, g_depth, g_entered, g_result, g_typed, (ve_i (ve_V G)), (ve_i (ve_B G)), (ve_i (ve_S G)), (ve_i (ve_A G)), b_hasField, b_fld, (ve_i (ve_O M)), (ve_i (ve_N M)), (ve_i (ve_P M)), (ve_i (ve_R M)), (ve_i (ve_L C)), (ve_i (ve_K C)), (ve_i (ve_Q C)), b_need, b_types, b_objType, b_objVal, b_vals, b_frBody, b_pc, b_frThis, b_frArg, b_log)) →
          (ve_kv G c 12 (-1) p = true → ve_kv G c 12 1 r = true → ve_kb G c 12 p = true → ve_kb G c 12 r = true → ve_ovb G M c p r (ve_mt G M c j) = false → post (-6) (g_most, g_mostMethods, (nI n), (nI nm), g_checked, g_errAt, g_depth, g_entered, g_result, g_typed, (ve_i (ve_V G)), (ve_i (ve_B G)), (ve_i (ve_S G)), (ve_i (ve_A G)), b_hasField, b_fld, (ve_i (ve_O M)), (ve_i (ve_N M)), (ve_i (ve_P M)), (ve_i (ve_R M)), (ve_i (ve_L C)), (ve_i (ve_K C)), (ve_i (ve_Q C)), b_need, b_types, b_objType, b_objVal, b_vals, b_frBody, b_pc, b_frThis, b_frArg, b_log)) →
          (ve_kv G c 12 (-1) p = true → ve_kv G c 12 1 r = true → ve_kb G c 12 p = true → ve_kb G c 12 r = true → ve_ovb G M c p r (ve_mt G M c j) = true →
            post (nI nm) (g_most, g_mostMethods, (nI n), (nI (nm + 1)), 0, (-1), g_depth, 0, (-1), g_typed, (ve_i (ve_V G)), (ve_i (ve_B G)), (ve_i (ve_S G)), (ve_i (ve_A G)), b_hasField, b_fld, (ve_i (ve_u (ve_O M) nm c)), (ve_i (ve_u (ve_N M) nm j)), (ve_i (ve_u (ve_P M) nm p)), (ve_i (ve_u (ve_R M) nm r)), (ve_i (ve_L C)), (ve_i (ve_K C)), (ve_i (ve_Q C)), b_need, b_types, b_objType, b_objVal, b_vals, b_frBody, b_pc, b_frThis, b_frArg, b_log)) →
          wpY_method post (g_most, g_mostMethods, (nI n), (nI nm), g_checked, g_errAt, g_depth, g_entered, g_result, g_typed, (ve_i (ve_V G)), (ve_i (ve_B G)), (ve_i (ve_S G)), (ve_i (ve_A G)), b_hasField, b_fld, (ve_i (ve_O M)), (ve_i (ve_N M)), (ve_i (ve_P M)), (ve_i (ve_R M)), (ve_i (ve_L C)), (ve_i (ve_K C)), (ve_i (ve_Q C)), b_need, b_types, b_objType, b_objVal, b_vals, b_frBody, b_pc, b_frThis, b_frArg, b_log) (nI c) (nI j) (nI p) (nI r) := by
        intro post p1 p2 p3 p4 p5 p6 p7
        refine vy_method h w l8 z l6 hc hj qp qr (fun y => by omega) (fun tp tr e1 e2 _ _ wt1 wt2 => ?_)
        have x1 : tp < 4096 := ve_W3b ⟨_, hrp, wt1⟩
        have x2 : tr < 4096 := ve_W3b ⟨_, hrr, wt2⟩
        have y1 := ve_inj e1 (by omega) (by omega)
        have y2 := ve_inj e2 (by omega) (by omega)
        subst y1; subst y2
        exact vy_method_e h w hc hj (by omega) wp hrp wr hrr p2 p3 p4 p5 p6 p7 nm 0 (by omega) p1 (fun m hm => by omega)
      -- Y where there is a duplicate never comes to the end: its loop meets it first
      have YD : ∀ post : Int32 → SY → Prop, ve_dup nm G M c j → post (-3) (g_most, g_mostMethods, (nI n), (nI nm), g_checked, g_errAt, g_depth, g_entered, g_result, g_typed, (ve_i (ve_V G)), (ve_i (ve_B G)), (ve_i (ve_S G)), (ve_i (ve_A G)), b_hasField, b_fld, (ve_i (ve_O M)), (ve_i (ve_N M)), (ve_i (ve_P M)), (ve_i (ve_R M)), (ve_i (ve_L C)), (ve_i (ve_K C)), (ve_i (ve_Q C)), b_need, b_types, b_objType, b_objVal, b_vals, b_frBody, b_pc, b_frThis, b_frArg, b_log) → wpY_method post (g_most, g_mostMethods, (nI n), (nI nm), g_checked, g_errAt, g_depth, g_entered, g_result, g_typed, (ve_i (ve_V G)), (ve_i (ve_B G)), (ve_i (ve_S G)), (ve_i (ve_A G)), b_hasField, b_fld, (ve_i (ve_O M)), (ve_i (ve_N M)), (ve_i (ve_P M)), (ve_i (ve_R M)), (ve_i (ve_L C)), (ve_i (ve_K C)), (ve_i (ve_Q C)), b_need, b_types, b_objType, b_objVal, b_vals, b_frBody, b_pc, b_frThis, b_frArg, b_log) (nI c) (nI j) (nI p) (nI r) := by
        intro post dp hp
        refine vy_method h w l8 z l6 hc hj qp qr (fun y => by omega) (fun tp tr e1 e2 _ _ wt1 wt2 => ?_)
        have key : ∀ f i, i + f = nm → (∀ m, m < i → ve_N M m = j → ¬ ve_an G (ve_O M m) c) → wY_method_85 post (nI c) (nI j) (nI tp) (nI tr) g_most g_mostMethods (nI n) (nI nm) g_checked g_errAt g_depth g_entered g_result g_typed (ve_i (ve_V G)) (ve_i (ve_B G)) (ve_i (ve_S G)) (ve_i (ve_A G)) b_hasField b_fld (ve_i (ve_O M)) (ve_i (ve_N M)) (ve_i (ve_P M)) (ve_i (ve_R M)) (ve_i (ve_L C)) (ve_i (ve_K C)) (ve_i (ve_Q C)) b_need b_types b_objType b_objVal b_vals b_frBody b_pc b_frThis b_frArg b_log (f + 1) (nI i) := by
          intro f
          induction f with
          | zero =>
            intro i hi q
            obtain ⟨m, hm, e, x⟩ := dp
            exact absurd x (q m (by omega) e)
          | succ f ih =>
            intro i hi q
            have wm := (w.2.1 i (by omega)).1
            refine pk_le nm i (fun z => absurd z (by omega)) (fun _ => ⟨vp_in_nI (by omega) (by omega), ?_⟩)
            rw [ve_at (by omega), ve_at (by omega)]
            have go : (ve_N M i = j → ¬ ve_an G (ve_O M i) c) → wY_method_85 post (nI c) (nI j) (nI tp) (nI tr) g_most g_mostMethods (nI n) (nI nm) g_checked g_errAt g_depth g_entered g_result g_typed (ve_i (ve_V G)) (ve_i (ve_B G)) (ve_i (ve_S G)) (ve_i (ve_A G)) b_hasField b_fld (ve_i (ve_O M)) (ve_i (ve_N M)) (ve_i (ve_P M)) (ve_i (ve_R M)) (ve_i (ve_L C)) (ve_i (ve_K C)) (ve_i (ve_Q C)) b_need b_types b_objType b_objVal b_vals b_frBody b_pc b_frThis b_frArg b_log (f + 1) (nI (i + 1)) := by
              intro z
              refine ih (i + 1) (by omega) (fun k hk e => ?_)
              by_cases y : k = i
              · subst y; exact z e
              · exact q k (by omega) e
            exact pk_eq (ve_N M i) j (fun e => ⟨vp_in_nI (by omega) (by omega), vy_below h (by omega) (by omega) (vb_c (fun b1 => nm_r (nI_1 i) (go (fun _ => (ve_bl_f h).mp b1))) (fun b1 => hp))⟩) (fun e => nm_r (nI_1 i) (go (fun z => absurd z e)))
        exact key nm 0 (by omega) (fun m hm => by omega)
      rw [vl_i (a := p) (by omega), vl_i (a := r) (by omega)]
      refine vx_dup h w hD hc hj (fun dp => br_f (by decide) (YD _ dp ⟨rfl, Rl⟩)) (fun nd => br_t rfl ?_)
      refine vx_kv (sg := -1) h (by omega) (by omega) (vb_c (fun a1 => ?_) (fun a1 => vx_kv (sg := 1) h (by omega) (by omega) (vb_c (fun a2 => ?_) (fun a2 => vx_kb h (by omega) wp (by omega) (vb_c (fun a3 => ?_) (fun a3 => vx_kb h (by omega) wr (by omega) (vb_c (fun a4 => ?_) (fun a4 => vx_ov h w hD hc hj wp hrp wr hrr nd (vb_c (fun a5 => ?_) (fun a5 => ?_))))))))))
      · exact Y _ (fun y => absurd y nd) (fun _ => ⟨rfl, Rl⟩) (ve_ft a1) (ve_ft a1) (ve_ft a1) (ve_ft a1) (ve_ft a1)
      · exact Y _ (fun y => absurd y nd) (fun y => ve_ft y a1) (fun _ _ => ⟨rfl, Rl⟩) (fun _ => ve_ft a2) (fun _ => ve_ft a2) (fun _ => ve_ft a2) (fun _ => ve_ft a2)
      · exact Y _ (fun y => absurd y nd) (fun y => ve_ft y a1) (fun _ y => ve_ft y a2) (fun _ _ _ => ⟨rfl, Rl⟩) (fun _ _ => ve_ft a3) (fun _ _ => ve_ft a3) (fun _ _ => ve_ft a3)
      · exact Y _ (fun y => absurd y nd) (fun y => ve_ft y a1) (fun _ y => ve_ft y a2) (fun _ _ y => ve_ft y a3) (fun _ _ _ _ => ⟨rfl, Rl⟩) (fun _ _ _ => ve_ft a4) (fun _ _ _ => ve_ft a4)
      · exact Y _ (fun y => absurd y nd) (fun y => ve_ft y a1) (fun _ y => ve_ft y a2) (fun _ _ y => ve_ft y a3) (fun _ _ _ y => ve_ft y a4) (fun _ _ _ _ _ => ⟨rfl, Rl⟩) (fun _ _ _ _ => ve_ft a5)
      · rw [v_4, nI_clamp (by omega)]
        refine ⟨vp_in_nI (by omega) (by omega), nm_e ⟨vp_in_nI (by omega) (by omega), nm_r (ve_iu' (by omega)) ⟨vp_in_nI (by omega) (by omega), nm_r (ve_iu' (by omega)) ⟨vp_in_nI (by omega) (by omega), nm_r (ve_iu' (by omega)) ?_⟩⟩⟩⟩
        unfold wpX_forget
        dsimp only
        refine nm_r (nI_1 nm) (Y _ (fun y => absurd y nd) (fun y => ve_ft y a1) (fun _ y => ve_ft y a2) (fun _ _ y => ve_ft y a3) (fun _ _ _ y => ve_ft y a4) (fun _ _ _ _ y => ve_ft y a5) (fun _ _ _ _ _ => ⟨rfl, ?_⟩))
        exact ve_in (nm := nm + 1) (M := ve_Mm M nm c j p r) (ve_method_F F ⟨ml, l5, z, l8⟩ hc hj wp hrp wr hrr nd a1 a2 a5)
    · unfold wpY_method
      dsimp only
      refine br_f (fun y => by have := ve_inj (y.trans l6) (by omega) (by omega); omega) ?_
      exact vy_slotB n12 ⟨rfl, Rl⟩ (fun i j hi hj e1 e2 => (no i j hi hj e1 e2).elim)
  · have e : nm = ml := by
      rw [l5, nI_ltI (by omega) (by omega)] at z; omega
    unfold wpY_method
    dsimp only
    exact br_t (by rw [l6, e]) ⟨rfl, Rl⟩
end
section
/-! token -/
def ve_TO (n : Nat) (G : ve_T) (M : ve_M) (b : Nat) (kind operand : Int32) (kd op : Nat) : Prop :=
  (kind = nI kd ∧ operand = nI op) ∧ kd ≤ 4 ∧ (kd ≤ 1 → b ≠ 12) ∧ (kd ≤ 2 → op = 0) ∧ (kd = 3 → op < 4) ∧
  (kd = 4 → ∃ k, k ≤ 3 ∧ ve_wt n G (ve_O M b) k op ∧ (k = 3 → op / 256 ≠ 15) ∧ op ≠ 15)
theorem ve_TO_b {n : Nat} {G : ve_T} {M : ve_M} {b kd op : Nat} {x y : Int32} (q : ve_TO n G M b x y kd op) : op < 4096 := by
  obtain ⟨_, q1, _, q3, q4, q5⟩ := q
  have : kd ≤ 2 ∨ kd = 3 ∨ kd = 4 := by omega
  rcases this with z | z | z
  · have := q3 z; omega
  · have := q4 z; omega
  · obtain ⟨k, hk, w, _⟩ := q5 z
    exact ve_W3b ⟨k, hk, w⟩
section
variable {n nm : Nat} {G : ve_T} {M : ve_M} {C : ve_C} {f_x f_mainBody f_classLimit f_methodLimit f_checkState f_errorPlace f_typeTop f_objCount f_valueTop f_depth f_entered f_result f_keepTypes : Int32} {a_fieldType a_declared a_castAt a_objClass a_objField a_values a_frameBody a_framePc a_frameThis a_frameArg a_traced : Nat → Int32} {a_types a_objType : Nat → Int64} {post : Int32 → Prop}
theorem vx_isToken22 (h : ve_WG n G) (w : ve_WM n nm G M) {b kd : Nat} {x3 : Int32} (hb : b < 13) (hkd : kd ≤ 4) (h12 : kd ≤ 1 → b ≠ 12) (h1 : ∀ op, ve_TO n G M b (nI kd) x3 kd op → post 1) (h0 : (∀ op, ¬ ve_TO n G M b (nI kd) x3 kd op) → post 0) :
    wX_isToken_22 post (nI b) (nI kd) x3 f_x f_mainBody f_classLimit f_methodLimit (nI n) (nI nm) f_checkState f_errorPlace f_typeTop f_objCount f_valueTop f_depth f_entered f_result f_keepTypes (ve_i (ve_V G)) (ve_i (ve_B G)) (ve_i (ve_S G)) (ve_i (ve_A G)) a_fieldType a_declared (ve_i (ve_O M)) (ve_i (ve_P M)) (ve_i (ve_R M)) (ve_i (ve_L C)) (ve_i (ve_K C)) (ve_i (ve_Q C)) a_types a_castAt a_objClass a_objField a_values a_objType a_frameBody a_framePc a_frameThis a_frameArg a_traced := by
  have n12 := ve_n12 h
  have oO := vg_O w h b
  unfold wX_isToken_22
  refine pk_eq kd 3 (fun e3 => br_c (fun z => h0 ?_) (fun z => ?_)) (fun e3 => pk_eq kd 4 (fun e4 => ⟨vp_in_nI hb (by omega), ?_⟩) (fun e4 => br_c (fun z => h1 0 ⟨⟨rfl, z⟩, hkd, h12, fun _ => rfl, fun y => absurd y e3, fun y => absurd y e4⟩) (fun z => h0 ?_)))
  · rintro op ⟨⟨_, e⟩, _, _, _, q, _⟩
    have := q e3
    rw [e] at z; exact nI_pos (by omega) z
  · obtain ⟨op, ho, rfl⟩ := nI_of z
    refine pk_lt 3 op (fun y => h0 ?_) (fun y => h1 op ⟨⟨rfl, rfl⟩, hkd, h12, fun _ => by omega, fun _ => by omega, fun y => absurd e3 (by omega)⟩)
    rintro op' ⟨⟨_, e⟩, _, _, _, q, _⟩
    have := q e3
    have := ve_inj e (by omega) (by omega)
    omega
  · rw [ve_at (by omega)]
    refine vx_symbols (most := 3) h (by omega) (by omega) (by omega) (fun r q => ?_)
    have no0 : r = 0 → ∀ op, ¬ ve_TO n G M b (nI kd) x3 kd op := by
      rintro r0 op t
      have ob := ve_TO_b t
      obtain ⟨⟨_, e⟩, _, _, _, _, t⟩ := t
      obtain ⟨k, hk, wt, _⟩ := t e4
      subst e
      rw [vl_i (by omega)] at q
      rcases q with q | q
      · have := q.2 k op rfl (by omega) wt; omega
      · omega
    rcases id q with ⟨r0, _⟩ | ⟨r1, r3, t, et, _, wt⟩
    · subst r0
      exact br_f (by decide) (br_t (by decide) (h0 (no0 rfl)))
    · have et := ve_i3 et
      have tb : t < 4096 := ve_W3b ⟨_, r3, wt⟩
      subst et
      have un : ∀ op, ve_TO n G M b (nI kd) (nI t) kd op → op = t := by
        rintro op q
        have := ve_TO_b q
        exact (ve_inj q.1.2 (by omega) (by omega)).symm
      have mk : (r = 3 → t / 256 ≠ 15) → t ≠ 15 → ve_TO n G M b (nI kd) (nI t) kd t := fun a1 a2 =>
        ⟨⟨rfl, rfl⟩, hkd, h12, fun _ => by omega, fun _ => by omega, fun _ => ⟨r, r3, wt, a1, a2⟩⟩
      have n15 : 2 ≤ r → t ≠ 15 := by
        rintro y rfl
        have := (ve_wt_leaf wt (ve_V15 h)).1
        omega
      refine pk_eq r 2 (fun e2 => h1 t (mk (fun z => by omega) (n15 (by omega)))) (fun e2 => ?_)
      refine pk_le r 0 (fun z => by omega) (fun _ => ?_)
      have : r = 1 ∨ r = 3 := by omega
      rcases this with e | e
      · subst e
        have es : (nI t >>> (((4 : Int32) * (nI 1 - 1)) &&& 31)) = nI (t / 2 ^ 0) := pk_shrN (by omega) _ 0 (by decide)
        rw [es, Nat.pow_zero, Nat.div_one]
        refine pk_eq t 15 (fun z => h0 ?_) (fun z => h1 t (mk (fun y => by omega) z))
        intro op t'
        have := un op t'
        subst this
        obtain ⟨_, _, _, _, t5⟩ := t'.2.2.2.2.2 e4
        exact t5 z
      · subst e
        have es : (nI t >>> (((4 : Int32) * (nI 3 - 1)) &&& 31)) = nI (t / 2 ^ 8) := pk_shrN (by omega) _ 8 (by decide)
        rw [es]
        refine pk_eq (t / 2 ^ 8) 15 (fun z => h0 ?_) (fun z => h1 t (mk (fun _ => z) (n15 (by omega))))
        intro op t'
        have := un op t'
        subst this
        obtain ⟨k, k3, wk, t5⟩ := t'.2.2.2.2.2 e4
        exact t5.1 (ve_wt_u wk wt) z
  · rintro op ⟨⟨_, e⟩, _, _, q, _, _⟩
    rw [q (by omega)] at e; exact z e
theorem vx_isToken (h : ve_WG n G) (w : ve_WM n nm G M) {b : Nat} {x2 x3 : Int32} (hb : b < 13) (h1 : ∀ kd op, ve_TO n G M b x2 x3 kd op → post 1) (h0 : (∀ kd op, ¬ ve_TO n G M b x2 x3 kd op) → post 0) :
    wpX_isToken post (f_x, f_mainBody, f_classLimit, f_methodLimit, (nI n), (nI nm), f_checkState, f_errorPlace, f_typeTop, f_objCount, f_valueTop, f_depth, f_entered, f_result, f_keepTypes, (ve_i (ve_V G)), (ve_i (ve_B G)), (ve_i (ve_S G)), (ve_i (ve_A G)), a_fieldType, a_declared, (ve_i (ve_O M)), (ve_i (ve_P M)), (ve_i (ve_R M)), (ve_i (ve_L C)), (ve_i (ve_K C)), (ve_i (ve_Q C)), a_types, a_castAt, a_objClass, a_objField, a_values, a_objType, a_frameBody, a_framePc, a_frameThis, a_frameArg, a_traced) (nI b) x2 x3 := by
  unfold wpX_isToken
  dsimp only
  refine br_c (fun z => h0 ?_) (fun z1 => br_c (fun z => h0 ?_) (fun z2 => ?_))
  · rintro kd op ⟨⟨e, _⟩, q, _⟩; rw [e] at z; exact nI_pos (by omega) z
  · rintro kd op ⟨⟨e, _⟩, q, _⟩; rw [e] at z; exact nI_nlt (b := kd) (a := 4) (by omega) (by omega) z
  · obtain ⟨kd, hkd, rfl⟩ := nI_of z1
    have hk4 : kd ≤ 4 := by
      rcases Nat.lt_or_ge 4 kd with y | y
      · exact absurd (nI_lt (a := 4) y hkd) z2
      · exact y
    have un : ∀ kd' op, ve_TO n G M b (nI kd) x3 kd' op → kd' = kd := by
      rintro kd' op ⟨⟨e, _⟩, q, _⟩
      exact (ve_inj e (by omega) (by omega)).symm
    have go : (kd ≤ 1 → b ≠ 12) → wX_isToken_22 post (nI b) (nI kd) x3 f_x f_mainBody f_classLimit f_methodLimit (nI n) (nI nm) f_checkState f_errorPlace f_typeTop f_objCount f_valueTop f_depth f_entered f_result f_keepTypes (ve_i (ve_V G)) (ve_i (ve_B G)) (ve_i (ve_S G)) (ve_i (ve_A G)) a_fieldType a_declared (ve_i (ve_O M)) (ve_i (ve_P M)) (ve_i (ve_R M)) (ve_i (ve_L C)) (ve_i (ve_K C)) (ve_i (ve_Q C)) a_types a_castAt a_objClass a_objField a_values a_objType a_frameBody a_framePc a_frameThis a_frameArg a_traced := by
      intro h12
      refine vx_isToken22 h w hb hk4 h12 (fun op t => h1 kd op t) (fun no => h0 ?_)
      intro kd' op t
      have := un kd' op t
      subst this
      exact no op t
    refine pk_lt 1 kd (fun y => go (by omega)) (fun y => pk_eq b 12 (fun e => h0 ?_) (fun e => go (fun _ => e)))
    intro kd' op t
    have := un kd' op t
    subst this
    exact t.2.2.1 y e
end
section
variable {n nm : Nat} {G : ve_T} {M : ve_M} {C : ve_C} {g_most g_mostMethods g_checked g_errAt g_depth g_entered g_result g_typed : Int32} {b_hasField b_fld b_need b_objType b_objVal b_vals b_frBody b_pc b_frThis b_frArg b_log : Nat → Int32} {b_types : Nat → Int64} {post : Int32 → SY → Prop}
theorem vy_token69 (h : ve_WG n G) (w : ve_WM n nm G M) {b kd : Nat} {x3 : Int32} (hb : b < 13) (hkd : kd ≤ 4) (h12 : kd ≤ 1 → b ≠ 12) (h2 : kd ≤ 2 → x3 = 0) (h3 : kd = 3 → ∃ o, o < 4 ∧ x3 = nI o)
    (h1 : ∀ op, ve_TO n G M b (nI kd) x3 kd op → wY_token_126 post (nI kd) (nI op) (nI b) g_most g_mostMethods (nI n) (nI nm) g_checked g_errAt g_depth g_entered g_result g_typed (ve_i (ve_V G)) (ve_i (ve_B G)) (ve_i (ve_S G)) (ve_i (ve_A G)) b_hasField b_fld (ve_i (ve_O M)) (ve_i (ve_N M)) (ve_i (ve_P M)) (ve_i (ve_R M)) (ve_i (ve_L C)) (ve_i (ve_K C)) (ve_i (ve_Q C)) b_need b_types b_objType b_objVal b_vals b_frBody b_pc b_frThis b_frArg b_log) (h0 : (∀ op, ¬ ve_TO n G M b (nI kd) x3 kd op) → post (-1) (g_most, g_mostMethods, (nI n), (nI nm), g_checked, g_errAt, g_depth, g_entered, g_result, g_typed, (ve_i (ve_V G)), (ve_i (ve_B G)), (ve_i (ve_S G)), (ve_i (ve_A G)), b_hasField, b_fld, (ve_i (ve_O M)), (ve_i (ve_N M)), (ve_i (ve_P M)), (ve_i (ve_R M)), (ve_i (ve_L C)), (ve_i (ve_K C)), (ve_i (ve_Q C)), b_need, b_types, b_objType, b_objVal, b_vals, b_frBody, b_pc, b_frThis, b_frArg, b_log)) : wY_token_69 post (nI kd) x3 (nI b) g_most g_mostMethods (nI n) (nI nm) g_checked g_errAt g_depth g_entered g_result g_typed (ve_i (ve_V G)) (ve_i (ve_B G)) (ve_i (ve_S G)) (ve_i (ve_A G)) b_hasField b_fld (ve_i (ve_O M)) (ve_i (ve_N M)) (ve_i (ve_P M)) (ve_i (ve_R M)) (ve_i (ve_L C)) (ve_i (ve_K C)) (ve_i (ve_Q C)) b_need b_types b_objType b_objVal b_vals b_frBody b_pc b_frThis b_frArg b_log := by
  have n12 := ve_n12 h
  have oO := vg_O w h b
  unfold wY_token_69
  refine ⟨vp_in_nI hb (by omega), ?_⟩
  rw [ve_at (by omega)]
  refine vy_size h (by omega) (fun s q => pk_eq kd 4 (fun e4 => ?_) (fun e4 => ?_))
  · have bad : (∀ op, ¬ ve_TO n G M b (nI kd) x3 kd op) → post (-1) (g_most, g_mostMethods, (nI n), (nI nm), g_checked, g_errAt, g_depth, g_entered, g_result, g_typed, (ve_i (ve_V G)), (ve_i (ve_B G)), (ve_i (ve_S G)), (ve_i (ve_A G)), b_hasField, b_fld, (ve_i (ve_O M)), (ve_i (ve_N M)), (ve_i (ve_P M)), (ve_i (ve_R M)), (ve_i (ve_L C)), (ve_i (ve_K C)), (ve_i (ve_Q C)), b_need, b_types, b_objType, b_objVal, b_vals, b_frBody, b_pc, b_frThis, b_frArg, b_log) := h0
    rcases id q with ⟨s0, qs⟩ | ⟨s1, s15, t, et, tb, wt⟩
    · subst s0
      refine br_t (by decide) (bad ?_)
      intro op t
      have ob := ve_TO_b t
      obtain ⟨⟨_, e⟩, _, _, _, _, t⟩ := t
      obtain ⟨k, hk, wk, _⟩ := t e4
      subst e
      rw [vl_i (by omega)] at qs
      have := qs k op rfl (by omega) wk; omega
    · have et := ve_i3 et
      refine pk_lt s 1 (fun z => by omega) (fun _ => pk_lt 3 s (fun z => bad ?_) (fun z => ?_))
      · intro op to
        have ob := ve_TO_b to
        obtain ⟨⟨_, e⟩, _, _, _, _, to⟩ := to
        obtain ⟨k, hk, wk, _⟩ := to e4
        rcases q with ⟨s0, _⟩ | ⟨_, _, t', et', tb', wt'⟩
        · omega
        · rw [e, vl_i (by omega), pk_lEQ (by omega) (by omega)] at et'
          subst et'
          have := ve_wt_u wt' wk
          omega
      · have tb : t < 4096 := ve_W3b ⟨_, z, wt⟩
        subst et
        have un : ∀ op, ve_TO n G M b (nI kd) (nI t) kd op → op = t := by
          rintro op q
          have := ve_TO_b q
          exact (ve_inj q.1.2 (by omega) (by omega)).symm
        have mk : (s = 3 → t / 256 ≠ 15) → t ≠ 15 → ve_TO n G M b (nI kd) (nI t) kd t := fun a1 a2 =>
          ⟨⟨rfl, rfl⟩, hkd, h12, fun _ => by omega, fun _ => by omega, fun _ => ⟨s, z, wt, a1, a2⟩⟩
        have es : (nI t >>> ((8 : Int32) &&& 31)) = nI (t / 2 ^ 8) := pk_shrN (by omega) _ 8 (by decide)
        rw [es]
        refine pk_eq t 15 (fun z => bad ?_) (fun z => pk_eq s 3 (fun e3 => pk_eq (t / 2 ^ 8) 15 (fun z2 => bad ?_) (fun z2 => h1 t (mk (fun _ => z2) z))) (fun e3 => h1 t (mk (fun y => absurd y e3) z)))
        · intro op t'
          have := un op t'
          subst this
          obtain ⟨_, _, _, _, t5⟩ := t'.2.2.2.2.2 e4
          exact t5 z
        · intro op t'
          have := un op t'
          subst this
          obtain ⟨k, k3, wk, t5⟩ := t'.2.2.2.2.2 e4
          exact t5.1 ((ve_wt_u wk wt).trans e3) z2
  · have : kd ≤ 2 ∨ kd = 3 := by omega
    rcases this with z | z
    · have e := h2 z
      subst e
      exact h1 0 ⟨⟨rfl, rfl⟩, hkd, h12, fun _ => rfl, fun _ => by omega, fun y => absurd y e4⟩
    · obtain ⟨o, ho, rfl⟩ := h3 z
      exact h1 o ⟨⟨rfl, rfl⟩, hkd, h12, fun _ => by omega, fun _ => ho, fun y => absurd y e4⟩
theorem vy_token (h : ve_WG n G) (w : ve_WM n nm G M) {b : Nat} {x1 x2 x3 : Int32} (hb : (x1 = -1 ∧ b = 12) ∨ (b < nm ∧ x1 = nI b))
    (h1 : ∀ kd op, ve_TO n G M b x2 x3 kd op → wY_token_126 post (nI kd) (nI op) (nI b) g_most g_mostMethods (nI n) (nI nm) g_checked g_errAt g_depth g_entered g_result g_typed (ve_i (ve_V G)) (ve_i (ve_B G)) (ve_i (ve_S G)) (ve_i (ve_A G)) b_hasField b_fld (ve_i (ve_O M)) (ve_i (ve_N M)) (ve_i (ve_P M)) (ve_i (ve_R M)) (ve_i (ve_L C)) (ve_i (ve_K C)) (ve_i (ve_Q C)) b_need b_types b_objType b_objVal b_vals b_frBody b_pc b_frThis b_frArg b_log) (h0 : (∀ kd op, ¬ ve_TO n G M b x2 x3 kd op) → post (-1) (g_most, g_mostMethods, (nI n), (nI nm), g_checked, g_errAt, g_depth, g_entered, g_result, g_typed, (ve_i (ve_V G)), (ve_i (ve_B G)), (ve_i (ve_S G)), (ve_i (ve_A G)), b_hasField, b_fld, (ve_i (ve_O M)), (ve_i (ve_N M)), (ve_i (ve_P M)), (ve_i (ve_R M)), (ve_i (ve_L C)), (ve_i (ve_K C)), (ve_i (ve_Q C)), b_need, b_types, b_objType, b_objVal, b_vals, b_frBody, b_pc, b_frThis, b_frArg, b_log)) : wpY_token post (g_most, g_mostMethods, (nI n), (nI nm), g_checked, g_errAt, g_depth, g_entered, g_result, g_typed, (ve_i (ve_V G)), (ve_i (ve_B G)), (ve_i (ve_S G)), (ve_i (ve_A G)), b_hasField, b_fld, (ve_i (ve_O M)), (ve_i (ve_N M)), (ve_i (ve_P M)), (ve_i (ve_R M)), (ve_i (ve_L C)), (ve_i (ve_K C)), (ve_i (ve_Q C)), b_need, b_types, b_objType, b_objVal, b_vals, b_frBody, b_pc, b_frThis, b_frArg, b_log) x1 x2 x3 := by
  have hnm := w.1
  have c1 : ¬ x1 < -1 := by
    rcases hb with ⟨e, _⟩ | ⟨e, e2⟩
    · rw [e]; decide
    · rw [e2]; exact fun z => absurd (Int32.lt_trans z (by decide : (-1 : Int32) < 0)) (nI_pos (by omega))
  have c2 : ¬ nI nm ≤ x1 := by
    rcases hb with ⟨e, _⟩ | ⟨e, e2⟩
    · rw [e]; exact fun y => absurd (Int32.lt_of_le_of_lt y (by decide : (-1 : Int32) < 0)) (nI_pos (by omega))
    · rw [e2]; exact nI_ge e (by omega)
  have c3 : x1 = -1 ↔ b = 12 := by
    rcases hb with ⟨e, e2⟩ | ⟨e, e2⟩
    · exact ⟨fun _ => e2, fun _ => e⟩
    · refine ⟨fun z => ?_, fun z => by omega⟩
      have := nI_pos' (n := b) (by omega)
      rw [← e2, z] at this; exact absurd this (by decide)
  unfold wpY_token
  dsimp only
  refine br_f c1 (br_f c2 (br_c (fun z => h0 ?_) (fun z1 => br_c (fun z => h0 ?_) (fun z2 => ?_))))
  · rintro kd op ⟨⟨e, _⟩, q, _⟩; rw [e] at z; exact nI_pos (by omega) z
  · rintro kd op ⟨⟨e, _⟩, q, _⟩; rw [e] at z; exact nI_nlt (b := kd) (a := 4) (by omega) (by omega) z
  · obtain ⟨kd, hkd, rfl⟩ := nI_of z1
    have hk4 : kd ≤ 4 := by
      rcases Nat.lt_or_ge 4 kd with y | y
      · exact absurd (nI_lt (a := 4) y hkd) z2
      · exact y
    have un : ∀ kd' op, ve_TO n G M b (nI kd) x3 kd' op → kd' = kd := by
      rintro kd' op ⟨⟨e, _⟩, q, _⟩
      exact (ve_inj e (by omega) (by omega)).symm
    have h0' : (∀ op, ¬ ve_TO n G M b (nI kd) x3 kd op) → post (-1) (g_most, g_mostMethods, (nI n), (nI nm), g_checked, g_errAt, g_depth, g_entered, g_result, g_typed, (ve_i (ve_V G)), (ve_i (ve_B G)), (ve_i (ve_S G)), (ve_i (ve_A G)), b_hasField, b_fld, (ve_i (ve_O M)), (ve_i (ve_N M)), (ve_i (ve_P M)), (ve_i (ve_R M)), (ve_i (ve_L C)), (ve_i (ve_K C)), (ve_i (ve_Q C)), b_need, b_types, b_objType, b_objVal, b_vals, b_frBody, b_pc, b_frThis, b_frArg, b_log) := by
      intro no
      refine h0 (fun kd' op t => ?_)
      have := un kd' op t
      subst this
      exact no op t
    have j34 : (kd ≤ 1 → b ≠ 12) → wY_token_34 post x1 (nI kd) x3 g_most g_mostMethods (nI n) (nI nm) g_checked g_errAt g_depth g_entered g_result g_typed (ve_i (ve_V G)) (ve_i (ve_B G)) (ve_i (ve_S G)) (ve_i (ve_A G)) b_hasField b_fld (ve_i (ve_O M)) (ve_i (ve_N M)) (ve_i (ve_P M)) (ve_i (ve_R M)) (ve_i (ve_L C)) (ve_i (ve_K C)) (ve_i (ve_Q C)) b_need b_types b_objType b_objVal b_vals b_frBody b_pc b_frThis b_frArg b_log := by
      intro h12
      have j59 : (kd ≤ 2 → x3 = 0) → (kd = 3 → ∃ o, o < 4 ∧ x3 = nI o) → wY_token_59 post x1 (nI kd) x3 g_most g_mostMethods (nI n) (nI nm) g_checked g_errAt g_depth g_entered g_result g_typed (ve_i (ve_V G)) (ve_i (ve_B G)) (ve_i (ve_S G)) (ve_i (ve_A G)) b_hasField b_fld (ve_i (ve_O M)) (ve_i (ve_N M)) (ve_i (ve_P M)) (ve_i (ve_R M)) (ve_i (ve_L C)) (ve_i (ve_K C)) (ve_i (ve_Q C)) b_need b_types b_objType b_objVal b_vals b_frBody b_pc b_frThis b_frArg b_log := by
        intro a1 a2
        unfold wY_token_59
        have go : wY_token_69 post (nI kd) x3 (nI b) g_most g_mostMethods (nI n) (nI nm) g_checked g_errAt g_depth g_entered g_result g_typed (ve_i (ve_V G)) (ve_i (ve_B G)) (ve_i (ve_S G)) (ve_i (ve_A G)) b_hasField b_fld (ve_i (ve_O M)) (ve_i (ve_N M)) (ve_i (ve_P M)) (ve_i (ve_R M)) (ve_i (ve_L C)) (ve_i (ve_K C)) (ve_i (ve_Q C)) b_need b_types b_objType b_objVal b_vals b_frBody b_pc b_frThis b_frArg b_log := vy_token69 h w (by omega) hk4 h12 a1 a2 (fun op t => h1 kd op t) h0'
        rcases hb with ⟨e, e2⟩ | ⟨e, e2⟩
        · subst e; subst e2; exact br_f (by decide) go
        · rw [e2]; exact br_t (nI_pos' (by omega)) go
      have j43 : (kd ≤ 2 → x3 = 0) → wY_token_43 post x1 (nI kd) x3 g_most g_mostMethods (nI n) (nI nm) g_checked g_errAt g_depth g_entered g_result g_typed (ve_i (ve_V G)) (ve_i (ve_B G)) (ve_i (ve_S G)) (ve_i (ve_A G)) b_hasField b_fld (ve_i (ve_O M)) (ve_i (ve_N M)) (ve_i (ve_P M)) (ve_i (ve_R M)) (ve_i (ve_L C)) (ve_i (ve_K C)) (ve_i (ve_Q C)) b_need b_types b_objType b_objVal b_vals b_frBody b_pc b_frThis b_frArg b_log := by
        intro a1
        unfold wY_token_43
        refine pk_eq kd 3 (fun e3 => br_c (fun z => h0' ?_) (fun z => br_c (fun z3 => j59 a1 (fun _ => ?_)) (fun z3 => h0' ?_))) (fun e3 => j59 a1 (fun z => absurd z e3))
        · rintro op ⟨⟨_, e⟩, _, _, _, q, _⟩
          have := q e3
          rw [e] at z; exact nI_pos (by omega) z
        · obtain ⟨o, ho, rfl⟩ := nI_of z
          exact ⟨o, by have := (nI_leI (b := 3) ho (by omega)).mp z3; omega, rfl⟩
        · rintro op ⟨⟨_, e⟩, _, _, _, q, _⟩
          have := q e3
          rw [e] at z3; exact z3 (nI_le (b := 3) (by omega) (by omega))
      unfold wY_token_34
      refine pk_lt 2 kd (fun y => j43 (by omega)) (fun y => br_c (fun z => j43 (fun _ => z)) (fun z => h0' ?_))
      rintro op ⟨⟨_, e⟩, _, _, q, _, _⟩
      rw [q y] at e; exact z e
    refine pk_lt 1 kd (fun y => j34 (by omega)) (fun y => br_c (fun e => h0' ?_) (fun e => j34 (fun _ z => e (c3.mpr z))))
    intro op t
    exact t.2.2.1 y (c3.mp e)
end
theorem ve_TO_u {n : Nat} {G : ve_T} {M : ve_M} {b kd op kd' op' : Nat} {x y : Int32} (q : ve_TO n G M b x y kd op) (q' : ve_TO n G M b x y kd' op') : kd' = kd ∧ op' = op := by
  have b1 := ve_TO_b q
  have b2 := ve_TO_b q'
  have a1 := q.2.1
  have a2 := q'.2.1
  exact ⟨ve_inj (q'.1.1.symm.trans q.1.1) (by omega) (by omega), ve_inj (q'.1.2.symm.trans q.1.2) (by omega) (by omega)⟩
theorem ve_token_F {b kd op : Nat} {x y : Int32} {n : Nat} {nm : Nat} {G : ve_T} {M : ve_M} {C : ve_C} {f_classLimit : Int32} {f_methodLimit : Int32} {f_checkState : Int32} {f_errorPlace : Int32} {f_entered : Int32} {f_result : Int32} {f_keepTypes : Int32} {a_fieldType : Nat → Int32} {a_declared : Nat → Int32} {a_types : Nat → Int64} {a_castAt : Nat → Int32} {a_objClass : Nat → Int32} {a_objField : Nat → Int32} {a_objType : Nat → Int64} {a_traced : Nat → Int32} {g_most : Int32} {g_mostMethods : Int32} {g_checked : Int32} {g_errAt : Int32} {g_entered : Int32} {g_result : Int32} {g_typed : Int32} {b_hasField : Nat → Int32} {b_fld : Nat → Int32} {b_need : Nat → Int32} {b_types : Nat → Int64} {b_objType : Nat → Int32} {b_objVal : Nat → Int32} {b_log : Nat → Int32} (F : ve_F n nm G M C f_classLimit f_methodLimit f_checkState f_errorPlace f_entered f_result f_keepTypes a_fieldType a_declared a_types a_castAt a_objClass a_objField a_objType a_traced g_most g_mostMethods g_checked g_errAt g_entered g_result g_typed b_hasField b_fld b_need b_types b_objType b_objVal b_log) (hb : b < nm ∨ b = 12) (hl : ve_L C b < 8) (t : ve_TO n G M b x y kd op) (kb : kd = 4 → ve_kb G (ve_O M b) 12 op = true) :
    ve_F n nm G M (ve_Ct C b kd op) f_classLimit f_methodLimit 0 f_errorPlace 0 (-1) f_keepTypes a_fieldType a_declared a_types a_castAt a_objClass a_objField a_objType a_traced g_most g_mostMethods 0 (-1) 0 (-1) g_typed b_hasField b_fld b_need b_types b_objType b_objVal b_log := by
  obtain ⟨⟨h, w, wc⟩, lim, fm, tt, _, _⟩ := F
  have ob := ve_TO_b t
  obtain ⟨_, t1, t2, t3, t4, t5⟩ := t
  refine ⟨⟨h, w, vg_tWC wc hb hl ⟨t1, t2, t4, fun e => ?_⟩ ob⟩, lim, fm, tt, ve_FK_0, ve_FR_0⟩
  obtain ⟨k, hk, wt, w3, wx⟩ := t5 e
  refine ⟨⟨k, hk, wt, w3⟩, wx, fun hv => ?_⟩
  have kb := kb e
  unfold ve_kb at kb
  rw [if_neg hv] at kb
  by_cases z : ve_su G (ve_O M b) 32 (op / 16) (ve_B G (op % 16)) = true
  · exact ⟨32, z⟩
  · rw [if_neg z] at kb; exact absurd kb (by decide)
theorem i_vc_token {k : Nat} {u : SX} {v : SY} (I : i_Rel k u v) (hk : k + 5 ≤ 2562) (v1 : Int32) (v2 : Int32) (v3 : Int32) : wpX_token (fun r u' => wpY_token (fun r' v' => r' = r ∧ i_Rel (k + 5) u' v') v v1 v2 v3) u v1 v2 v3 := by
  refine ve_el (P := fun u v => wpX_token (fun r u' => wpY_token (fun r' v' => r' = r ∧ i_Rel (k + 5) u' v') v v1 v2 v3) u v1 v2 v3) ?_ I
  intro n nm G M C f_x f_mainBody f_classLimit f_methodLimit f_checkState f_errorPlace f_typeTop f_objCount f_valueTop f_depth f_entered f_result f_keepTypes a_fieldType a_declared a_types a_castAt a_objClass a_objField a_values a_objType a_frameBody a_framePc a_frameThis a_frameArg a_traced g_most g_mostMethods g_checked g_errAt g_depth g_entered g_result g_typed b_hasField b_fld b_need b_types b_objType b_objVal b_vals b_frBody b_pc b_frThis b_frArg b_log F
  have Rl : i_Rel (k + 5) (f_x, f_mainBody, f_classLimit, f_methodLimit, (nI n), (nI nm), f_checkState, f_errorPlace, f_typeTop, f_objCount, f_valueTop, f_depth, f_entered, f_result, f_keepTypes, (ve_i (ve_V G)), (ve_i (ve_B G)), (ve_i (ve_S G)), (ve_i (ve_A G)), a_fieldType, a_declared, (ve_i (ve_O M)), (ve_i (ve_P M)), (ve_i (ve_R M)), (ve_i (ve_L C)), (ve_i (ve_K C)), (ve_i (ve_Q C)), a_types, a_castAt, a_objClass, a_objField, a_values, a_objType, a_frameBody, a_framePc, a_frameThis, a_frameArg, a_traced) (g_most, g_mostMethods, (nI n), (nI nm), g_checked, g_errAt, g_depth, g_entered, g_result, g_typed, (ve_i (ve_V G)), (ve_i (ve_B G)), (ve_i (ve_S G)), (ve_i (ve_A G)), b_hasField, b_fld, (ve_i (ve_O M)), (ve_i (ve_N M)), (ve_i (ve_P M)), (ve_i (ve_R M)), (ve_i (ve_L C)), (ve_i (ve_K C)), (ve_i (ve_Q C)), b_need, b_types, b_objType, b_objVal, b_vals, b_frBody, b_pc, b_frThis, b_frArg, b_log) := ve_in F
  obtain ⟨⟨h, w, wc⟩, _⟩ := id F
  have n12 := ve_n12 h
  have hnm := w.1
  have body : ∀ b, (v1 = -1 ∧ b = 12) ∨ (b < nm ∧ v1 = nI b) → wX_token_11 (fun r u' => wpY_token (fun r' v' => r' = r ∧ i_Rel (k + 5) u' v') (g_most, g_mostMethods, (nI n), (nI nm), g_checked, g_errAt, g_depth, g_entered, g_result, g_typed, (ve_i (ve_V G)), (ve_i (ve_B G)), (ve_i (ve_S G)), (ve_i (ve_A G)), b_hasField, b_fld, (ve_i (ve_O M)), (ve_i (ve_N M)), (ve_i (ve_P M)), (ve_i (ve_R M)), (ve_i (ve_L C)), (ve_i (ve_K C)), (ve_i (ve_Q C)), b_need, b_types, b_objType, b_objVal, b_vals, b_frBody, b_pc, b_frThis, b_frArg, b_log) v1 v2 v3) v1 v2 v3 (nI b) f_x f_mainBody f_classLimit f_methodLimit (nI n) (nI nm) f_checkState f_errorPlace f_typeTop f_objCount f_valueTop f_depth f_entered f_result f_keepTypes (ve_i (ve_V G)) (ve_i (ve_B G)) (ve_i (ve_S G)) (ve_i (ve_A G)) a_fieldType a_declared (ve_i (ve_O M)) (ve_i (ve_P M)) (ve_i (ve_R M)) (ve_i (ve_L C)) (ve_i (ve_K C)) (ve_i (ve_Q C)) a_types a_castAt a_objClass a_objField a_values a_objType a_frameBody a_framePc a_frameThis a_frameArg a_traced := by
    intro b hb
    have hb' : b < nm ∨ b = 12 := by rcases hb with ⟨_, z⟩ | ⟨z, _⟩; exact Or.inr z; exact Or.inl z
    have hb13 : b < 13 := by omega
    have oO := vg_O w h b
    have lb := (wc.1 b hb').1
    unfold wX_token_11
    have isb : ∀ post : Int32 → Prop, post 1 → wpX_isBody post (f_x, f_mainBody, f_classLimit, f_methodLimit, (nI n), (nI nm), f_checkState, f_errorPlace, f_typeTop, f_objCount, f_valueTop, f_depth, f_entered, f_result, f_keepTypes, (ve_i (ve_V G)), (ve_i (ve_B G)), (ve_i (ve_S G)), (ve_i (ve_A G)), a_fieldType, a_declared, (ve_i (ve_O M)), (ve_i (ve_P M)), (ve_i (ve_R M)), (ve_i (ve_L C)), (ve_i (ve_K C)), (ve_i (ve_Q C)), a_types, a_castAt, a_objClass, a_objField, a_values, a_objType, a_frameBody, a_framePc, a_frameThis, a_frameArg, a_traced) v1 := by
      intro post hp
      rcases hb with ⟨e, e2⟩ | ⟨e, e2⟩
      · exact vx_isBody hnm (fun _ => hp) (fun j hj ej => hp) (fun z _ => absurd e z)
      · exact vx_isBody hnm (fun _ => hp) (fun j hj ej => hp) (fun _ z => absurd e2 (z b e))
    refine isb _ (br_f (by decide) ?_)
    · skip
      refine vx_isToken h w hb13 (fun kd op t => br_f (by decide) ⟨vp_in_nI hb13 (by omega), ?_⟩) (fun no => br_t rfl (vy_token h w hb (fun kd op t => absurd t (no kd op)) (fun _ => ⟨rfl, Rl⟩)))
      have ob := ve_TO_b t
      obtain ⟨⟨rfl, rfl⟩, t1, _⟩ := id t
      rw [ve_at (by omega), ve_at (by omega), vl_i (by omega)]
      have Y : ∀ post : Int32 → SY → Prop, wY_token_126 post (nI kd) (nI op) (nI b) g_most g_mostMethods (nI n) (nI nm) g_checked g_errAt g_depth g_entered g_result g_typed (ve_i (ve_V G)) (ve_i (ve_B G)) (ve_i (ve_S G)) (ve_i (ve_A G)) b_hasField b_fld (ve_i (ve_O M)) (ve_i (ve_N M)) (ve_i (ve_P M)) (ve_i (ve_R M)) (ve_i (ve_L C)) (ve_i (ve_K C)) (ve_i (ve_Q C)) b_need b_types b_objType b_objVal b_vals b_frBody b_pc b_frThis b_frArg b_log → wpY_token post (g_most, g_mostMethods, (nI n), (nI nm), g_checked, g_errAt, g_depth, g_entered, g_result, g_typed, (ve_i (ve_V G)), (ve_i (ve_B G)), (ve_i (ve_S G)), (ve_i (ve_A G)), b_hasField, b_fld, (ve_i (ve_O M)), (ve_i (ve_N M)), (ve_i (ve_P M)), (ve_i (ve_R M)), (ve_i (ve_L C)), (ve_i (ve_K C)), (ve_i (ve_Q C)), b_need, b_types, b_objType, b_objVal, b_vals, b_frBody, b_pc, b_frThis, b_frArg, b_log) v1 (nI kd) (nI op) := by
        intro post hp
        refine vy_token h w hb (fun kd' op' t' => ?_) (fun no => absurd t (no kd op))
        obtain ⟨rfl, rfl⟩ := ve_TO_u t t'
        exact hp
      have fin : ve_L C b < 8 → (kd = 4 → ve_kb G (ve_O M b) 12 op = true) → wX_token_73 (fun r u' => wpY_token (fun r' v' => r' = r ∧ i_Rel (k + 5) u' v') (g_most, g_mostMethods, (nI n), (nI nm), g_checked, g_errAt, g_depth, g_entered, g_result, g_typed, (ve_i (ve_V G)), (ve_i (ve_B G)), (ve_i (ve_S G)), (ve_i (ve_A G)), b_hasField, b_fld, (ve_i (ve_O M)), (ve_i (ve_N M)), (ve_i (ve_P M)), (ve_i (ve_R M)), (ve_i (ve_L C)), (ve_i (ve_K C)), (ve_i (ve_Q C)), b_need, b_types, b_objType, b_objVal, b_vals, b_frBody, b_pc, b_frThis, b_frArg, b_log) v1 (nI kd) (nI op)) (nI kd) (nI op) (nI b) f_x f_mainBody f_classLimit f_methodLimit (nI n) (nI nm) f_checkState f_errorPlace f_typeTop f_objCount f_valueTop f_depth f_entered f_result f_keepTypes (ve_i (ve_V G)) (ve_i (ve_B G)) (ve_i (ve_S G)) (ve_i (ve_A G)) a_fieldType a_declared (ve_i (ve_O M)) (ve_i (ve_P M)) (ve_i (ve_R M)) (ve_i (ve_L C)) (ve_i (ve_K C)) (ve_i (ve_Q C)) a_types a_castAt a_objClass a_objField a_values a_objType a_frameBody a_framePc a_frameThis a_frameArg a_traced := by
        intro hl hkb
        unfold wX_token_73
        refine ⟨vp_in_nI hb13 (by omega), nm_r (e' := nI (8 * b + ve_L C b)) (by rw [ve_at (by omega), v_8]) ⟨vp_in_nI (by omega) (by omega), nm_r (ve_iu' (by omega)) ⟨vp_in_nI (by omega) (by omega), nm_r (ve_iu' (by omega)) ⟨vp_in_nI hb13 (by omega), vp_in_nI hb13 (by omega), nm_r (e' := ve_i (ve_u (ve_L C) b (ve_L C b + 1))) (by rw [ve_at (by omega), nI_1]; exact ve_iu' (by omega)) ?_⟩⟩⟩⟩
        unfold wpX_forget
        dsimp only
        refine Y _ ?_
        have Rl' : i_Rel (k + 5) (f_x, f_mainBody, f_classLimit, f_methodLimit, (nI n), (nI nm), 0, f_errorPlace, f_typeTop, f_objCount, f_valueTop, f_depth, 0, (-1), f_keepTypes, (ve_i (ve_V G)), (ve_i (ve_B G)), (ve_i (ve_S G)), (ve_i (ve_A G)), a_fieldType, a_declared, (ve_i (ve_O M)), (ve_i (ve_P M)), (ve_i (ve_R M)), (ve_i (ve_u (ve_L C) b (ve_L C b + 1))), (ve_i (ve_u (ve_K C) (8 * b + ve_L C b) kd)), (ve_i (ve_u (ve_Q C) (8 * b + ve_L C b) op)), a_types, a_castAt, a_objClass, a_objField, a_values, a_objType, a_frameBody, a_framePc, a_frameThis, a_frameArg, a_traced) (g_most, g_mostMethods, (nI n), (nI nm), 0, (-1), g_depth, 0, (-1), g_typed, (ve_i (ve_V G)), (ve_i (ve_B G)), (ve_i (ve_S G)), (ve_i (ve_A G)), b_hasField, b_fld, (ve_i (ve_O M)), (ve_i (ve_N M)), (ve_i (ve_P M)), (ve_i (ve_R M)), (ve_i (ve_u (ve_L C) b (ve_L C b + 1))), (ve_i (ve_u (ve_K C) (8 * b + ve_L C b) kd)), (ve_i (ve_u (ve_Q C) (8 * b + ve_L C b) op)), b_need, b_types, b_objType, b_objVal, b_vals, b_frBody, b_pc, b_frThis, b_frArg, b_log) :=
          ve_in (C := ve_Ct C b kd op) (ve_token_F F hb' hl t hkb)
        have j165 : wY_token_165 (fun r' v' => r' = 0 ∧ i_Rel (k + 5) (f_x, f_mainBody, f_classLimit, f_methodLimit, (nI n), (nI nm), 0, f_errorPlace, f_typeTop, f_objCount, f_valueTop, f_depth, 0, (-1), f_keepTypes, (ve_i (ve_V G)), (ve_i (ve_B G)), (ve_i (ve_S G)), (ve_i (ve_A G)), a_fieldType, a_declared, (ve_i (ve_O M)), (ve_i (ve_P M)), (ve_i (ve_R M)), (ve_i (ve_u (ve_L C) b (ve_L C b + 1))), (ve_i (ve_u (ve_K C) (8 * b + ve_L C b) kd)), (ve_i (ve_u (ve_Q C) (8 * b + ve_L C b) op)), a_types, a_castAt, a_objClass, a_objField, a_values, a_objType, a_frameBody, a_framePc, a_frameThis, a_frameArg, a_traced) v') (nI kd) (nI op) (nI b) g_most g_mostMethods (nI n) (nI nm) g_checked g_errAt g_depth g_entered g_result g_typed (ve_i (ve_V G)) (ve_i (ve_B G)) (ve_i (ve_S G)) (ve_i (ve_A G)) b_hasField b_fld (ve_i (ve_O M)) (ve_i (ve_N M)) (ve_i (ve_P M)) (ve_i (ve_R M)) (ve_i (ve_L C)) (ve_i (ve_K C)) (ve_i (ve_Q C)) b_need b_types b_objType b_objVal b_vals b_frBody b_pc b_frThis b_frArg b_log := by
          unfold wY_token_165
          rw [ve_at (by omega), v_8, nI_1]
          refine ⟨vp_in_nI hb13 (by omega), vp_in_nI (by omega) (by omega), nm_r (ve_iu' (by omega)) ⟨vp_in_nI hb13 (by omega), vp_in_nI (by omega) (by omega), nm_r (ve_iu' (by omega)) ⟨vp_in_nI hb13 (by omega), vp_in_nI hb13 (by omega), nm_r (ve_iu' (by omega)) ?_⟩⟩⟩
          unfold wpY_forget
          dsimp only
          exact ⟨rfl, Rl'⟩
        unfold wY_token_126
        refine ⟨vp_in_nI hb13 (by omega), ?_⟩
        rw [ve_at (by omega), ve_at (by omega), vl_i (by omega)]
        refine pk_lt (ve_L C b) 8 (fun _ => pk_eq kd 4 (fun e4 => ⟨vp_in_nI hb13 (by omega), ?_⟩) (fun e4 => j165)) (fun y => by omega)
        obtain ⟨k', hk', wt, _⟩ := t.2.2.2.2.2 e4
        refine vy_kb h (by omega) wt (by omega) (vb_c (fun z => ?_) (fun z => j165))
        rw [hkb e4] at z; exact absurd z (by decide)
      refine pk_lt (ve_L C b) 8 (fun hl => pk_eq kd 4 (fun e4 => ⟨vp_in_nI hb13 (by omega), ?_⟩) (fun e4 => fin hl (fun z => absurd z e4))) (fun hl => Y _ ?_)
      · obtain ⟨k', hk', wt, _⟩ := t.2.2.2.2.2 e4
        refine vx_kb h (by omega) wt (by omega) (vb_c (fun z => Y _ ?_) (fun z => fin hl (fun _ => z)))
        unfold wY_token_126
        refine ⟨vp_in_nI hb13 (by omega), ?_⟩
        rw [ve_at (by omega), ve_at (by omega), vl_i (by omega)]
        refine pk_lt (ve_L C b) 8 (fun _ => pk_eq kd 4 (fun _ => ⟨vp_in_nI hb13 (by omega), ?_⟩) (fun y => absurd e4 y)) (fun y => by omega)
        refine vy_kb h (by omega) wt (by omega) (vb_c (fun _ => ⟨rfl, Rl⟩) (fun z2 => ve_ft z z2))
      · unfold wY_token_126
        refine ⟨vp_in_nI hb13 (by omega), ?_⟩
        rw [ve_at (by omega)]
        exact pk_lt (ve_L C b) 8 (fun y => by omega) (fun _ => ⟨rfl, Rl⟩)
  unfold wpX_token
  dsimp only
  refine br_c (fun e => body 12 (Or.inl ⟨e, rfl⟩)) (fun e => ?_)
  by_cases hb : ∃ b, b < nm ∧ v1 = nI b
  · obtain ⟨b, hb, eb⟩ := hb
    have := body b (Or.inr ⟨hb, eb⟩)
    rw [← eb] at this; exact this
  · unfold wX_token_11
    refine vx_isBody hnm (fun z => absurd z e) (fun j hj ej => absurd ⟨j, hj, ej⟩ hb) (fun _ _ => br_t rfl ?_)
    unfold wpY_token
    dsimp only
    refine br_c (fun _ => ⟨rfl, Rl⟩) (fun z => br_t ?_ ⟨rfl, Rl⟩)
    by_cases y : v1 < 0
    · exfalso
      apply e
      apply Int32.toInt_inj.mp
      rw [Int32.lt_iff_toInt_lt] at y z
      have x1 : (-1 : Int32).toInt = -1 := by decide
      have x0 : (0 : Int32).toInt = 0 := by decide
      omega
    · obtain ⟨j, hj, rfl⟩ := nI_of y
      rcases Nat.lt_or_ge j nm with q | q
      · exact absurd ⟨j, q, rfl⟩ hb
      · exact nI_le q hj
end
section
/-! check: the pieces of one token -/
def ve_cb (G : ve_T) (w a t o : Nat) : Int32 := ve_b (!(ve_bl G (ve_er G w a) (ve_er G t o)))
theorem ve_er_b {n : Nat} {G : ve_T} (h : ve_WG n G) (t o : Nat) : ve_er G t o < 16 := by
  have := ve_Blt h o
  have := ve_n12 h
  unfold ve_er; split <;> omega
theorem ve_vnb (b : Bool) : vp_nar .boolean (ve_b b) = ve_b b := by cases b <;> rfl
/-- the stack in the array -/
def ve_SR (tp : Nat → Int64) : List Nat → Nat → Prop
  | [], k => k = 0
  | t :: st, k => ∃ j, k = j + 1 ∧ tp j = lN t ∧ ve_SR tp st j
theorem ve_SR_c {tp tp' : Nat → Int64} : ∀ {st : List Nat} {k : Nat}, (∀ i, i < k → tp' i = tp i) → ve_SR tp st k → ve_SR tp' st k
  | [], _, _, q => q
  | t :: st, k, e, ⟨j, e1, e2, q⟩ => ⟨j, e1, by rw [e j (by omega)]; exact e2, ve_SR_c (fun i hi => e i (by omega)) q⟩
theorem ve_SR_p {tp : Nat → Int64} {st : List Nat} {k t : Nat} (q : ve_SR tp st k) : ve_SR (vp_updL tp k (lN t)) (t :: st) (k + 1) :=
  ⟨k, rfl, pk_uLs, ve_SR_c (fun i hi => pk_uLn (by omega)) q⟩
section
variable {n nm : Nat} {G : ve_T} {M : ve_M} {C : ve_C} {f_x f_mainBody f_classLimit f_methodLimit f_checkState f_errorPlace f_typeTop f_objCount f_valueTop f_depth f_entered f_result f_keepTypes : Int32} {a_fieldType a_declared a_castAt a_objClass a_objField a_values a_frameBody a_framePc a_frameThis a_frameArg a_traced : Nat → Int32} {a_types a_objType : Nat → Int64} {post : Int32 → SX → Prop}
theorem vx_push {k t : Nat} (hk : k < 8) (hp : post 0 (f_x, f_mainBody, f_classLimit, f_methodLimit, (nI n), (nI nm), f_checkState, f_errorPlace, (nI (k + 1)), f_objCount, f_valueTop, f_depth, f_entered, f_result, f_keepTypes, (ve_i (ve_V G)), (ve_i (ve_B G)), (ve_i (ve_S G)), (ve_i (ve_A G)), a_fieldType, a_declared, (ve_i (ve_O M)), (ve_i (ve_P M)), (ve_i (ve_R M)), (ve_i (ve_L C)), (ve_i (ve_K C)), (ve_i (ve_Q C)), (vp_updL a_types k (lN t)), a_castAt, a_objClass, a_objField, a_values, a_objType, a_frameBody, a_framePc, a_frameThis, a_frameArg, a_traced)) : wpX_pushType post (f_x, f_mainBody, f_classLimit, f_methodLimit, (nI n), (nI nm), f_checkState, f_errorPlace, (nI k), f_objCount, f_valueTop, f_depth, f_entered, f_result, f_keepTypes, (ve_i (ve_V G)), (ve_i (ve_B G)), (ve_i (ve_S G)), (ve_i (ve_A G)), a_fieldType, a_declared, (ve_i (ve_O M)), (ve_i (ve_P M)), (ve_i (ve_R M)), (ve_i (ve_L C)), (ve_i (ve_K C)), (ve_i (ve_Q C)), a_types, a_castAt, a_objClass, a_objField, a_values, a_objType, a_frameBody, a_framePc, a_frameThis, a_frameArg, a_traced) (lN t) := by
  unfold wpX_pushType
  dsimp only
  rw [nI_clamp (by omega)]
  exact nm_r (nI_1 k) ⟨vp_in_nI hk (by omega), nm_e hp⟩
theorem vx_pm50 {k t at_ : Nat} {b : Bool} (hk : k < 8) (ha : at_ < 104) (hp : post 0 (f_x, f_mainBody, f_classLimit, f_methodLimit, (nI n), (nI nm), f_checkState, f_errorPlace, (nI (k + 1)), f_objCount, f_valueTop, f_depth, f_entered, f_result, f_keepTypes, (ve_i (ve_V G)), (ve_i (ve_B G)), (ve_i (ve_S G)), (ve_i (ve_A G)), a_fieldType, a_declared, (ve_i (ve_O M)), (ve_i (ve_P M)), (ve_i (ve_R M)), (ve_i (ve_L C)), (ve_i (ve_K C)), (ve_i (ve_Q C)), (vp_updL a_types k (lN t)), (upd a_castAt at_ (ve_b b)), a_objClass, a_objField, a_values, a_objType, a_frameBody, a_framePc, a_frameThis, a_frameArg, a_traced)) : wX_pushMember_50 post (lN t) (ve_b b) (nI at_) f_x f_mainBody f_classLimit f_methodLimit (nI n) (nI nm) f_checkState f_errorPlace (nI k) f_objCount f_valueTop f_depth f_entered f_result f_keepTypes (ve_i (ve_V G)) (ve_i (ve_B G)) (ve_i (ve_S G)) (ve_i (ve_A G)) a_fieldType a_declared (ve_i (ve_O M)) (ve_i (ve_P M)) (ve_i (ve_R M)) (ve_i (ve_L C)) (ve_i (ve_K C)) (ve_i (ve_Q C)) a_types a_castAt a_objClass a_objField a_values a_objType a_frameBody a_framePc a_frameThis a_frameArg a_traced := by
  unfold wX_pushMember_50
  rw [nI_clamp (by omega), ve_vnb]
  exact ⟨vp_in_nI ha (by omega), nm_e (vx_push (post := fun r u => post r u) hk hp)⟩
theorem vx_pushM (h : ve_WG n G) {k kw kv w a v o at_ : Nat} (hk : k < 8) (hat : at_ < 104) (ha : a < 16) (ho : o < 16) (ww : ve_wt n G a kw w) (hkw : kw ≤ 3) (x : ve_an G (v % 16) a) (wv : ve_wt n G o kv v) (hv : v ≠ 15) (hkv : kv ≤ 10)
    (hp : post 0 (f_x, f_mainBody, f_classLimit, f_methodLimit, (nI n), (nI nm), f_checkState, f_errorPlace, (nI (k + 1)), f_objCount, f_valueTop, f_depth, f_entered, f_result, f_keepTypes, (ve_i (ve_V G)), (ve_i (ve_B G)), (ve_i (ve_S G)), (ve_i (ve_A G)), a_fieldType, a_declared, (ve_i (ve_O M)), (ve_i (ve_P M)), (ve_i (ve_R M)), (ve_i (ve_L C)), (ve_i (ve_K C)), (ve_i (ve_Q C)), (vp_updL a_types k (lN (ve_th G w a v))), (upd a_castAt at_ (ve_cb G w a (ve_th G w a v) o)), a_objClass, a_objField, a_values, a_objType, a_frameBody, a_framePc, a_frameThis, a_frameArg, a_traced)) : wpX_pushMember post (f_x, f_mainBody, f_classLimit, f_methodLimit, (nI n), (nI nm), f_checkState, f_errorPlace, (nI k), f_objCount, f_valueTop, f_depth, f_entered, f_result, f_keepTypes, (ve_i (ve_V G)), (ve_i (ve_B G)), (ve_i (ve_S G)), (ve_i (ve_A G)), a_fieldType, a_declared, (ve_i (ve_O M)), (ve_i (ve_P M)), (ve_i (ve_R M)), (ve_i (ve_L C)), (ve_i (ve_K C)), (ve_i (ve_Q C)), a_types, a_castAt, a_objClass, a_objField, a_values, a_objType, a_frameBody, a_framePc, a_frameThis, a_frameArg, a_traced) (lN w) (nI a) (lN v) (nI o) (nI at_) := by
  have bv := ve_wt_48 wv (by omega)
  have bw := ve_wt_48 ww (by omega)
  obtain ⟨kt, hkt, wth⟩ := ve_th_wt (o := o) h x ww (by omega) wv hv
  have bt := ve_wt_48 wth (by omega)
  unfold wpX_pushMember
  dsimp only
  refine vx_th h ha bv ww hkw (vx_er h ha (by omega) (vx_er h ho (by omega) (vx_below h (ve_er_b h _ _) (ve_er_b h _ _) (vb_c (fun z => ?_) (fun z => ?_)))))
  · refine vx_pm50 (b := true) hk hat ?_
    unfold ve_cb at hp; rw [z] at hp; exact hp
  · refine vx_pm50 (b := false) hk hat ?_
    unfold ve_cb at hp; rw [z] at hp; exact hp
end
section
variable {n nm : Nat} {G : ve_T} {M : ve_M} {C : ve_C} {g_most g_mostMethods g_checked g_errAt g_depth g_entered g_result g_typed : Int32} {b_hasField b_fld b_need b_objType b_objVal b_vals b_frBody b_pc b_frThis b_frArg b_log : Nat → Int32} {b_types : Nat → Int64} {post : Int32 → SY → Prop}
theorem vy_446 (h : ve_WG n G) {k kw kv w a v o at_ : Nat} (hk : k < 8) (hat : at_ < 104) (ha : a < 16) (ho : o < 16) (ww : ve_wt n G a kw w) (hkw : kw ≤ 3) (x : ve_an G (v % 16) a) (wv : ve_wt n G o kv v) (hv : v ≠ 15) (hkv : kv ≤ 10)
    (hp : post 0 (g_most, g_mostMethods, (nI n), (nI nm), g_checked, g_errAt, (nI (k + 1)), g_entered, g_result, g_typed, (ve_i (ve_V G)), (ve_i (ve_B G)), (ve_i (ve_S G)), (ve_i (ve_A G)), b_hasField, b_fld, (ve_i (ve_O M)), (ve_i (ve_N M)), (ve_i (ve_P M)), (ve_i (ve_R M)), (ve_i (ve_L C)), (ve_i (ve_K C)), (ve_i (ve_Q C)), (upd b_need at_ (ve_cb G w a (ve_th G w a v) o)), (vp_updL b_types k (lN (ve_th G w a v))), b_objType, b_objVal, b_vals, b_frBody, b_pc, b_frThis, b_frArg, b_log)) : wY_typeToken_446 post (nI at_) (nI o) (lN v) (nI a) (nI w) g_most g_mostMethods (nI n) (nI nm) g_checked g_errAt (nI (k + 1)) g_entered g_result g_typed (ve_i (ve_V G)) (ve_i (ve_B G)) (ve_i (ve_S G)) (ve_i (ve_A G)) b_hasField b_fld (ve_i (ve_O M)) (ve_i (ve_N M)) (ve_i (ve_P M)) (ve_i (ve_R M)) (ve_i (ve_L C)) (ve_i (ve_K C)) (ve_i (ve_Q C)) b_need b_types b_objType b_objVal b_vals b_frBody b_pc b_frThis b_frArg b_log := by
  have bv := ve_wt_48 wv (by omega)
  have bw : w < 4096 := ve_W3b ⟨kw, hkw, ww⟩
  obtain ⟨kt, hkt, wth⟩ := ve_th_wt (o := o) h x ww (by omega) wv hv
  unfold wY_typeToken_446
  rw [nI_pred, nI_clamp (by omega), vl_i (by omega), nI_clamp (by omega)]
  refine vy_th h ha bv ww hkw ⟨vp_in_nI (by omega) (by omega), nm_e (vy_erase h ha ww (by omega) ⟨vp_in_nI (by omega) (by omega), ?_⟩)⟩
  rw [pk_uLs]
  refine vy_erase h ho wth (by omega) (vy_below h (ve_er_b h _ _) (ve_er_b h _ _) (vb_c (fun z => ⟨vp_in_nI hat (by omega), nm_e ?_⟩) (fun z => ⟨vp_in_nI hat (by omega), nm_e ?_⟩)))
  · unfold ve_cb at hp; rw [z] at hp; exact hp
  · unfold ve_cb at hp; rw [z] at hp; exact hp
theorem vy_183 {k t : Nat} (hk : k < 8) (hp : post 0 (g_most, g_mostMethods, (nI n), (nI nm), g_checked, g_errAt, (nI (k + 1)), g_entered, g_result, g_typed, (ve_i (ve_V G)), (ve_i (ve_B G)), (ve_i (ve_S G)), (ve_i (ve_A G)), b_hasField, b_fld, (ve_i (ve_O M)), (ve_i (ve_N M)), (ve_i (ve_P M)), (ve_i (ve_R M)), (ve_i (ve_L C)), (ve_i (ve_K C)), (ve_i (ve_Q C)), b_need, (vp_updL b_types k (lN t)), b_objType, b_objVal, b_vals, b_frBody, b_pc, b_frThis, b_frArg, b_log)) : wY_typeToken_183 post (lN t) (nI k) g_most g_mostMethods (nI n) (nI nm) g_checked g_errAt (nI k) g_entered g_result g_typed (ve_i (ve_V G)) (ve_i (ve_B G)) (ve_i (ve_S G)) (ve_i (ve_A G)) b_hasField b_fld (ve_i (ve_O M)) (ve_i (ve_N M)) (ve_i (ve_P M)) (ve_i (ve_R M)) (ve_i (ve_L C)) (ve_i (ve_K C)) (ve_i (ve_Q C)) b_need b_types b_objType b_objVal b_vals b_frBody b_pc b_frThis b_frArg b_log := by
  unfold wY_typeToken_183
  rw [nI_clamp (by omega)]
  exact ⟨vp_in_nI (by omega) (by omega), nm_e (nm_r (nI_1 k) hp)⟩
end
/-! FIELD -/
section
variable {n nm : Nat} {G : ve_T} {M : ve_M} {C : ve_C} {f_x f_mainBody f_classLimit f_methodLimit f_checkState f_errorPlace f_typeTop f_objCount f_valueTop f_depth f_entered f_result f_keepTypes : Int32} {a_fieldType a_declared a_castAt a_objClass a_objField a_values a_frameBody a_framePc a_frameThis a_frameArg a_traced : Nat → Int32} {a_types a_objType : Nat → Int64} {post : Int32 → SX → Prop}
theorem vx_field0 {o at_ : Nat} (hp : post (-7) (f_x, f_mainBody, f_classLimit, f_methodLimit, (nI n), (nI nm), f_checkState, f_errorPlace, 0, f_objCount, f_valueTop, f_depth, f_entered, f_result, f_keepTypes, (ve_i (ve_V G)), (ve_i (ve_B G)), (ve_i (ve_S G)), (ve_i (ve_A G)), a_fieldType, a_declared, (ve_i (ve_O M)), (ve_i (ve_P M)), (ve_i (ve_R M)), (ve_i (ve_L C)), (ve_i (ve_K C)), (ve_i (ve_Q C)), a_types, a_castAt, a_objClass, a_objField, a_values, a_objType, a_frameBody, a_framePc, a_frameThis, a_frameArg, a_traced)) : wpX_checkField post (f_x, f_mainBody, f_classLimit, f_methodLimit, (nI n), (nI nm), f_checkState, f_errorPlace, 0, f_objCount, f_valueTop, f_depth, f_entered, f_result, f_keepTypes, (ve_i (ve_V G)), (ve_i (ve_B G)), (ve_i (ve_S G)), (ve_i (ve_A G)), a_fieldType, a_declared, (ve_i (ve_O M)), (ve_i (ve_P M)), (ve_i (ve_R M)), (ve_i (ve_L C)), (ve_i (ve_K C)), (ve_i (ve_Q C)), a_types, a_castAt, a_objClass, a_objField, a_values, a_objType, a_frameBody, a_framePc, a_frameThis, a_frameArg, a_traced) (nI o) (nI at_) := by
  unfold wpX_checkField
  dsimp only
  exact br_f (by decide) hp
theorem vx_fieldS (h : ve_WG n G) (w : ve_WM n nm G M) (hE : ∀ c, c < 16 → a_fieldType c = ve_d (ve_E M c)) {k o at_ v kv : Nat} (hk : k < 8) (hat : at_ < 104) (ho : o < 16) (tv : a_types k = lN v) (wv : ve_wt n G o kv v) (hkv : kv ≤ 10)
    (h0 : ve_fc G M (ve_ex G o v % 16) = 0 → post (-8) (f_x, f_mainBody, f_classLimit, f_methodLimit, (nI n), (nI nm), f_checkState, f_errorPlace, (nI k), f_objCount, f_valueTop, f_depth, f_entered, f_result, f_keepTypes, (ve_i (ve_V G)), (ve_i (ve_B G)), (ve_i (ve_S G)), (ve_i (ve_A G)), a_fieldType, a_declared, (ve_i (ve_O M)), (ve_i (ve_P M)), (ve_i (ve_R M)), (ve_i (ve_L C)), (ve_i (ve_K C)), (ve_i (ve_Q C)), a_types, a_castAt, a_objClass, a_objField, a_values, a_objType, a_frameBody, a_framePc, a_frameThis, a_frameArg, a_traced))
    (h1 : ∀ a, ve_fc G M (ve_ex G o v % 16) = a + 1 → post 0 (f_x, f_mainBody, f_classLimit, f_methodLimit, (nI n), (nI nm), f_checkState, f_errorPlace, (nI (k + 1)), f_objCount, f_valueTop, f_depth, f_entered, f_result, f_keepTypes, (ve_i (ve_V G)), (ve_i (ve_B G)), (ve_i (ve_S G)), (ve_i (ve_A G)), a_fieldType, a_declared, (ve_i (ve_O M)), (ve_i (ve_P M)), (ve_i (ve_R M)), (ve_i (ve_L C)), (ve_i (ve_K C)), (ve_i (ve_Q C)), (vp_updL a_types k (lN (ve_th G (ve_E M a - 1) a (ve_ex G o v)))), (upd a_castAt at_ (ve_cb G (ve_E M a - 1) a (ve_th G (ve_E M a - 1) a (ve_ex G o v)) o)), a_objClass, a_objField, a_values, a_objType, a_frameBody, a_framePc, a_frameThis, a_frameArg, a_traced)) :
    wpX_checkField post (f_x, f_mainBody, f_classLimit, f_methodLimit, (nI n), (nI nm), f_checkState, f_errorPlace, (nI (k + 1)), f_objCount, f_valueTop, f_depth, f_entered, f_result, f_keepTypes, (ve_i (ve_V G)), (ve_i (ve_B G)), (ve_i (ve_S G)), (ve_i (ve_A G)), a_fieldType, a_declared, (ve_i (ve_O M)), (ve_i (ve_P M)), (ve_i (ve_R M)), (ve_i (ve_L C)), (ve_i (ve_K C)), (ve_i (ve_Q C)), a_types, a_castAt, a_objClass, a_objField, a_values, a_objType, a_frameBody, a_framePc, a_frameThis, a_frameArg, a_traced) (nI o) (nI at_) := by
  have bv := ve_wt_48 wv (by omega)
  have wx := ve_ex_wt h wv
  have nx := ve_ex_15 (o := o) h v
  have bx := ve_wt_48 wx (by omega)
  have n12 := ve_n12 h
  unfold wpX_checkField
  dsimp only
  rw [nI_pred, nI_clamp (by omega), tv]
  refine br_t (nI_le (a := 1) (by omega) (by omega)) (nm_e ⟨vp_in_nI (by omega) (by omega), vx_exposed h ho (by omega) ?_⟩)
  rw [vl_hd (by omega)]
  refine vx_fo h hE (ve_Ele w) (by omega) (vd_ge (ve_fcb h (by omega)) (fun a e => ?_) (fun e => h0 e))
  have s := ve_fc_s h e
  have wE := w.2.2.2.1 a s.2
  obtain ⟨kE, hkE, wE2⟩ := wE.2.1
  have bE := ve_E4 w a
  have e1 : ve_d (ve_E M a) = nI (ve_E M a - 1) := by
    obtain ⟨y, hy⟩ : ∃ y, ve_E M a = y + 1 := ⟨ve_E M a - 1, by have := s.2; omega⟩
    rw [hy]; rfl
  rw [e]
  show vp_in (nI a) 16 ∧ wpX_pushMember _ _ (a_fieldType (nI a).toNatClampNeg).toInt64 (nI a) _ _ _
  rw [nI_clamp (by omega), hE a (by omega), e1, vl_i (by omega)]
  exact ⟨vp_in_nI (by omega) (by omega), vx_pushM (post := fun r u => post r u) h hk hat (by omega) ho wE2 hkE s.1 wx nx hkv (h1 a e)⟩
end
section
variable {n nm : Nat} {G : ve_T} {M : ve_M} {C : ve_C} {g_most g_mostMethods g_checked g_errAt g_depth g_entered g_result g_typed : Int32} {b_hasField b_fld b_need b_objType b_objVal b_vals b_frBody b_pc b_frThis b_frArg b_log : Nat → Int32} {b_types : Nat → Int64} {post : Int32 → SY → Prop}
theorem vy_fieldS (h : ve_WG n G) (w : ve_WM n nm G M) (hH : ∀ c, c < 16 → b_hasField c = ve_b (decide (ve_E M c ≠ 0))) (hF : ∀ c, c < 16 → ve_E M c ≠ 0 → b_fld c = nI (ve_E M c - 1)) {k o at_ v kv : Nat} (hk : k < 8) (hat : at_ < 104) (ho : o < 16) (tv : b_types k = lN v) (wv : ve_wt n G o kv v) (hkv : kv ≤ 10)
    (h0 : ve_fc G M (ve_ex G o v % 16) = 0 → post (-8) (g_most, g_mostMethods, (nI n), (nI nm), g_checked, g_errAt, (nI (k + 1)), g_entered, g_result, g_typed, (ve_i (ve_V G)), (ve_i (ve_B G)), (ve_i (ve_S G)), (ve_i (ve_A G)), b_hasField, b_fld, (ve_i (ve_O M)), (ve_i (ve_N M)), (ve_i (ve_P M)), (ve_i (ve_R M)), (ve_i (ve_L C)), (ve_i (ve_K C)), (ve_i (ve_Q C)), b_need, b_types, b_objType, b_objVal, b_vals, b_frBody, b_pc, b_frThis, b_frArg, b_log))
    (h1 : ∀ a, ve_fc G M (ve_ex G o v % 16) = a + 1 → post 0 (g_most, g_mostMethods, (nI n), (nI nm), g_checked, g_errAt, (nI (k + 1)), g_entered, g_result, g_typed, (ve_i (ve_V G)), (ve_i (ve_B G)), (ve_i (ve_S G)), (ve_i (ve_A G)), b_hasField, b_fld, (ve_i (ve_O M)), (ve_i (ve_N M)), (ve_i (ve_P M)), (ve_i (ve_R M)), (ve_i (ve_L C)), (ve_i (ve_K C)), (ve_i (ve_Q C)), (upd b_need at_ (ve_cb G (ve_E M a - 1) a (ve_th G (ve_E M a - 1) a (ve_ex G o v)) o)), (vp_updL b_types k (lN (ve_th G (ve_E M a - 1) a (ve_ex G o v)))), b_objType, b_objVal, b_vals, b_frBody, b_pc, b_frThis, b_frArg, b_log)) :
    wY_typeToken_211 post (nI at_) (nI o) 0 g_most g_mostMethods (nI n) (nI nm) g_checked g_errAt (nI (k + 1)) g_entered g_result g_typed (ve_i (ve_V G)) (ve_i (ve_B G)) (ve_i (ve_S G)) (ve_i (ve_A G)) b_hasField b_fld (ve_i (ve_O M)) (ve_i (ve_N M)) (ve_i (ve_P M)) (ve_i (ve_R M)) (ve_i (ve_L C)) (ve_i (ve_K C)) (ve_i (ve_Q C)) b_need b_types b_objType b_objVal b_vals b_frBody b_pc b_frThis b_frArg b_log := by
  have bv := ve_wt_48 wv (by omega)
  have wx := ve_ex_wt h wv
  have nx := ve_ex_15 (o := o) h v
  have bx := ve_wt_48 wx (by omega)
  have n12 := ve_n12 h
  have hB := ve_Blt h o
  have j300 : ∀ q : Int64, wY_typeToken_300 post (nI at_) (nI o) 0 q (lN (ve_ex G o v)) g_most g_mostMethods (nI n) (nI nm) g_checked g_errAt (nI (k + 1)) g_entered g_result g_typed (ve_i (ve_V G)) (ve_i (ve_B G)) (ve_i (ve_S G)) (ve_i (ve_A G)) b_hasField b_fld (ve_i (ve_O M)) (ve_i (ve_N M)) (ve_i (ve_P M)) (ve_i (ve_R M)) (ve_i (ve_L C)) (ve_i (ve_K C)) (ve_i (ve_Q C)) b_need b_types b_objType b_objVal b_vals b_frBody b_pc b_frThis b_frArg b_log := by
    intro q
    unfold wY_typeToken_300
    refine nm_r (vl_hd (by omega)) (br_t rfl ?_)
    unfold wY_typeToken_332
    refine br_t rfl (vy_fo h hH (by omega) ?_)
    unfold wY_typeToken_364
    refine vd_ge (ve_fcb h (by omega)) (fun a e => br_f (by decide) ?_) (fun e => h0 e)
    have s := ve_fc_s h e
    have wE := w.2.2.2.1 a s.2
    obtain ⟨kE, hkE, wE2⟩ := wE.2.1
    have hin : vp_in (nI a) 16 := vp_in_nI (by omega) (by omega)
    rw [e]
    show vp_in (nI a) 16 ∧ wY_typeToken_396 post (nI at_) (nI o) 0 q _ (-1) (nI a) (b_fld (nI a).toNatClampNeg) g_most g_mostMethods (nI n) (nI nm) g_checked g_errAt (nI (k + 1)) g_entered g_result g_typed (ve_i (ve_V G)) (ve_i (ve_B G)) (ve_i (ve_S G)) (ve_i (ve_A G)) b_hasField b_fld (ve_i (ve_O M)) (ve_i (ve_N M)) (ve_i (ve_P M)) (ve_i (ve_R M)) (ve_i (ve_L C)) (ve_i (ve_K C)) (ve_i (ve_Q C)) b_need b_types b_objType b_objVal b_vals b_frBody b_pc b_frThis b_frArg b_log
    rw [nI_clamp (by omega), hF a (by omega) s.2]
    refine ⟨hin, ?_⟩
    unfold wY_typeToken_396
    refine br_f (by decide) ?_
    unfold wY_typeToken_424
    exact br_t rfl (vy_446 h hk hat (by omega) ho wE2 hkE s.1 wx nx hkv (h1 a e))
  unfold wY_typeToken_211
  refine br_t rfl ?_
  unfold wY_typeToken_227 wY_typeToken_261
  rw [nI_pred, nI_clamp (by omega), tv, ve_at (by omega), vl_i (by omega)]
  refine br_t (nI_le (a := 1) (by omega) (by omega)) ⟨vp_in_nI (by omega) (by omega), nm_e (br_t rfl ⟨vp_in_nI (by omega) (by omega), ?_⟩)⟩
  have j300 := j300 (lN v)
  unfold ve_ex at j300
  refine vl_eq v 15 (fun z => ⟨vp_in_nI ho (by omega), ?_⟩) (fun z => ⟨vp_in_nI (by omega) (by omega), ?_⟩)
  · rw [if_pos z] at j300; exact j300
  · rw [if_neg z] at j300; exact j300
end
end
section
/-! check: CALL and NEW -/
section
variable {n nm : Nat} {G : ve_T} {M : ve_M} {C : ve_C} {f_x f_mainBody f_classLimit f_methodLimit f_checkState f_errorPlace f_typeTop f_objCount f_valueTop f_depth f_entered f_result f_keepTypes : Int32} {a_fieldType a_declared a_castAt a_objClass a_objField a_values a_frameBody a_framePc a_frameThis a_frameArg a_traced : Nat → Int32} {a_types a_objType : Nat → Int64} {post : Int32 → SX → Prop}
theorem vx_call0 {k o at_ : Nat} (hk : k < 2) (hp : post (-7) (f_x, f_mainBody, f_classLimit, f_methodLimit, (nI n), (nI nm), f_checkState, f_errorPlace, (nI k), f_objCount, f_valueTop, f_depth, f_entered, f_result, f_keepTypes, (ve_i (ve_V G)), (ve_i (ve_B G)), (ve_i (ve_S G)), (ve_i (ve_A G)), a_fieldType, a_declared, (ve_i (ve_O M)), (ve_i (ve_P M)), (ve_i (ve_R M)), (ve_i (ve_L C)), (ve_i (ve_K C)), (ve_i (ve_Q C)), a_types, a_castAt, a_objClass, a_objField, a_values, a_objType, a_frameBody, a_framePc, a_frameThis, a_frameArg, a_traced)) : wpX_checkCall post (f_x, f_mainBody, f_classLimit, f_methodLimit, (nI n), (nI nm), f_checkState, f_errorPlace, (nI k), f_objCount, f_valueTop, f_depth, f_entered, f_result, f_keepTypes, (ve_i (ve_V G)), (ve_i (ve_B G)), (ve_i (ve_S G)), (ve_i (ve_A G)), a_fieldType, a_declared, (ve_i (ve_O M)), (ve_i (ve_P M)), (ve_i (ve_R M)), (ve_i (ve_L C)), (ve_i (ve_K C)), (ve_i (ve_Q C)), a_types, a_castAt, a_objClass, a_objField, a_values, a_objType, a_frameBody, a_framePc, a_frameThis, a_frameArg, a_traced) (nI o) (nI at_) := by
  unfold wpX_checkCall
  dsimp only
  exact br_f (nI_ge (b := 2) hk (by omega)) hp
theorem vx_callS (h : ve_WG n G) (w : ve_WM n nm G M) (hD : ∀ j, j < 64 → a_declared j = ve_d (ve_D M j)) {k o at_ v kv q kq j : Nat} (hk : k < 7) (hat : at_ < 104) (ho : o < 16) (hj : j < 4) (ej : ve_Q C at_ = j)
    (tv : a_types k = lN v) (wv : ve_wt n G o kv v) (hkv : kv ≤ 9) (tq : a_types (k + 1) = lN q) (wq : ve_wt n G o kq q) (hkq : kq ≤ 9)
    (h0 : ve_mt G M (ve_ex G o v % 16) j = 0 → post (-8) (f_x, f_mainBody, f_classLimit, f_methodLimit, (nI n), (nI nm), f_checkState, f_errorPlace, (nI k), f_objCount, f_valueTop, f_depth, f_entered, f_result, f_keepTypes, (ve_i (ve_V G)), (ve_i (ve_B G)), (ve_i (ve_S G)), (ve_i (ve_A G)), a_fieldType, a_declared, (ve_i (ve_O M)), (ve_i (ve_P M)), (ve_i (ve_R M)), (ve_i (ve_L C)), (ve_i (ve_K C)), (ve_i (ve_Q C)), a_types, a_castAt, a_objClass, a_objField, a_values, a_objType, a_frameBody, a_framePc, a_frameThis, a_frameArg, a_traced))
    (h9 : ∀ m, ve_mt G M (ve_ex G o v % 16) j = m + 1 → ve_su G o 32 q (ve_th G (ve_P M m) (ve_O M m) (ve_ex G o v)) = false → post (-9) (f_x, f_mainBody, f_classLimit, f_methodLimit, (nI n), (nI nm), f_checkState, f_errorPlace, (nI k), f_objCount, f_valueTop, f_depth, f_entered, f_result, f_keepTypes, (ve_i (ve_V G)), (ve_i (ve_B G)), (ve_i (ve_S G)), (ve_i (ve_A G)), a_fieldType, a_declared, (ve_i (ve_O M)), (ve_i (ve_P M)), (ve_i (ve_R M)), (ve_i (ve_L C)), (ve_i (ve_K C)), (ve_i (ve_Q C)), a_types, a_castAt, a_objClass, a_objField, a_values, a_objType, a_frameBody, a_framePc, a_frameThis, a_frameArg, a_traced))
    (h1 : ∀ m, ve_mt G M (ve_ex G o v % 16) j = m + 1 → ve_su G o 32 q (ve_th G (ve_P M m) (ve_O M m) (ve_ex G o v)) = true → post 0 (f_x, f_mainBody, f_classLimit, f_methodLimit, (nI n), (nI nm), f_checkState, f_errorPlace, (nI (k + 1)), f_objCount, f_valueTop, f_depth, f_entered, f_result, f_keepTypes, (ve_i (ve_V G)), (ve_i (ve_B G)), (ve_i (ve_S G)), (ve_i (ve_A G)), a_fieldType, a_declared, (ve_i (ve_O M)), (ve_i (ve_P M)), (ve_i (ve_R M)), (ve_i (ve_L C)), (ve_i (ve_K C)), (ve_i (ve_Q C)), (vp_updL a_types k (lN (ve_th G (ve_R M m) (ve_O M m) (ve_ex G o v)))), (upd a_castAt at_ (ve_cb G (ve_R M m) (ve_O M m) (ve_th G (ve_R M m) (ve_O M m) (ve_ex G o v)) o)), a_objClass, a_objField, a_values, a_objType, a_frameBody, a_framePc, a_frameThis, a_frameArg, a_traced)) :
    wpX_checkCall post (f_x, f_mainBody, f_classLimit, f_methodLimit, (nI n), (nI nm), f_checkState, f_errorPlace, (nI (k + 2)), f_objCount, f_valueTop, f_depth, f_entered, f_result, f_keepTypes, (ve_i (ve_V G)), (ve_i (ve_B G)), (ve_i (ve_S G)), (ve_i (ve_A G)), a_fieldType, a_declared, (ve_i (ve_O M)), (ve_i (ve_P M)), (ve_i (ve_R M)), (ve_i (ve_L C)), (ve_i (ve_K C)), (ve_i (ve_Q C)), a_types, a_castAt, a_objClass, a_objField, a_values, a_objType, a_frameBody, a_framePc, a_frameThis, a_frameArg, a_traced) (nI o) (nI at_) := by
  have bv := ve_wt_48 wv (by omega)
  have wx := ve_ex_wt h wv
  have nx := ve_ex_15 (o := o) h v
  have bx := ve_wt_48 wx (by omega)
  have n12 := ve_n12 h
  have hnm := w.1
  have e2 : nI (k + 2) - 1 = nI (k + 1) := nI_pred (k + 1)
  unfold wpX_checkCall
  dsimp only
  refine br_t (nI_le (a := 2) (by omega) (by omega)) (nm_r e2 ?_)
  rw [e2, nI_clamp (by omega), tq]
  refine ⟨vp_in_nI (by omega) (by omega), nm_e (nm_r (nI_pred k) ?_)⟩
  rw [nI_pred, nI_clamp (n := k) (by omega), tv, ve_at (by omega), ej]
  refine ⟨vp_in_nI (by omega) (by omega), vx_exposed h ho (by omega) ⟨vp_in_nI hat (by omega), ?_⟩⟩
  rw [vl_hd (by omega)]
  refine vx_mo h hj hD (ve_Dle w) (by omega) (vd_ge (ve_mtb h w hj) (fun m e => ?_) (fun e => h0 e))
  have s := ve_mt_s h w hj e
  have wm := w.2.1 m s.1
  obtain ⟨kP, hkP, wP⟩ := wm.2.1
  obtain ⟨kR, hkR, wR⟩ := wm.2.2.1
  have bP := ve_W3b wm.2.1
  have bR := ve_W3b wm.2.2.1
  have hO := wm.1.1
  have hin : vp_in (nI m) 13 := vp_in_nI (by omega) (by omega)
  obtain ⟨kt, hkt, wth⟩ := ve_th_wt (o := o) h s.2.1 wP (by omega) wx nx
  rw [e]
  show vp_in (nI m) 13 ∧ vp_in (nI m) 13 ∧ wpX_seenThrough _ _ (ve_i (ve_P M) (nI m).toNatClampNeg).toInt64 (ve_i (ve_O M) (nI m).toNatClampNeg) _
  rw [ve_at (f := ve_P M) (by omega), ve_at (f := ve_O M) (by omega), vl_i (a := ve_P M m) (by omega)]
  refine ⟨hin, hin, vx_th h (by omega) (by omega) wP hkP (vx_sub h ho wq wth (by omega) (by omega) (vb_c (fun z => h9 m e z) (fun z => ⟨hin, hin, ?_⟩)))⟩
  show wpX_pushMember _ _ (ve_i (ve_R M) (nI m).toNatClampNeg).toInt64 (ve_i (ve_O M) (nI m).toNatClampNeg) _ _ _
  rw [ve_at (f := ve_R M) (by omega), ve_at (f := ve_O M) (by omega), vl_i (a := ve_R M m) (by omega)]
  exact vx_pushM (post := fun r u => post r u) h (by omega) hat (by omega) ho wR hkR s.2.1 wx nx (by omega) (h1 m e z)
theorem vx_new91 {k at_ op : Nat} (hk : k < 8) (hat : at_ < 104) (eo : ve_Q C at_ = op) (hop : op < 4096) (hp : post 0 (f_x, f_mainBody, f_classLimit, f_methodLimit, (nI n), (nI nm), f_checkState, f_errorPlace, (nI (k + 1)), f_objCount, f_valueTop, f_depth, f_entered, f_result, f_keepTypes, (ve_i (ve_V G)), (ve_i (ve_B G)), (ve_i (ve_S G)), (ve_i (ve_A G)), a_fieldType, a_declared, (ve_i (ve_O M)), (ve_i (ve_P M)), (ve_i (ve_R M)), (ve_i (ve_L C)), (ve_i (ve_K C)), (ve_i (ve_Q C)), (vp_updL a_types k (lN op)), a_castAt, a_objClass, a_objField, a_values, a_objType, a_frameBody, a_framePc, a_frameThis, a_frameArg, a_traced)) : wX_checkNew_91 post (nI at_) f_x f_mainBody f_classLimit f_methodLimit (nI n) (nI nm) f_checkState f_errorPlace (nI k) f_objCount f_valueTop f_depth f_entered f_result f_keepTypes (ve_i (ve_V G)) (ve_i (ve_B G)) (ve_i (ve_S G)) (ve_i (ve_A G)) a_fieldType a_declared (ve_i (ve_O M)) (ve_i (ve_P M)) (ve_i (ve_R M)) (ve_i (ve_L C)) (ve_i (ve_K C)) (ve_i (ve_Q C)) a_types a_castAt a_objClass a_objField a_values a_objType a_frameBody a_framePc a_frameThis a_frameArg a_traced := by
  unfold wX_checkNew_91
  rw [ve_at (by omega), eo, vl_i (by omega)]
  exact ⟨vp_in_nI hat (by omega), vx_push (post := fun r u => post r u) hk hp⟩
theorem vx_newN (h : ve_WG n G) (w : ve_WM n nm G M) (hE : ∀ c, c < 16 → a_fieldType c = ve_d (ve_E M c)) {k o at_ op : Nat} (hk : k < 8) (hat : at_ < 104) (eo : ve_Q C at_ = op) (hop : op < 4096) (e : ve_fc G M (op % 16) = 0)
    (hp : post 0 (f_x, f_mainBody, f_classLimit, f_methodLimit, (nI n), (nI nm), f_checkState, f_errorPlace, (nI (k + 1)), f_objCount, f_valueTop, f_depth, f_entered, f_result, f_keepTypes, (ve_i (ve_V G)), (ve_i (ve_B G)), (ve_i (ve_S G)), (ve_i (ve_A G)), a_fieldType, a_declared, (ve_i (ve_O M)), (ve_i (ve_P M)), (ve_i (ve_R M)), (ve_i (ve_L C)), (ve_i (ve_K C)), (ve_i (ve_Q C)), (vp_updL a_types k (lN op)), a_castAt, a_objClass, a_objField, a_values, a_objType, a_frameBody, a_framePc, a_frameThis, a_frameArg, a_traced)) : wpX_checkNew post (f_x, f_mainBody, f_classLimit, f_methodLimit, (nI n), (nI nm), f_checkState, f_errorPlace, (nI k), f_objCount, f_valueTop, f_depth, f_entered, f_result, f_keepTypes, (ve_i (ve_V G)), (ve_i (ve_B G)), (ve_i (ve_S G)), (ve_i (ve_A G)), a_fieldType, a_declared, (ve_i (ve_O M)), (ve_i (ve_P M)), (ve_i (ve_R M)), (ve_i (ve_L C)), (ve_i (ve_K C)), (ve_i (ve_Q C)), a_types, a_castAt, a_objClass, a_objField, a_values, a_objType, a_frameBody, a_framePc, a_frameThis, a_frameArg, a_traced) (nI o) (nI at_) := by
  unfold wpX_checkNew
  dsimp only
  rw [ve_at (by omega), eo, pk_andN (by omega) 4 (by decide)]
  refine ⟨vp_in_nI hat (by omega), vx_fo h hE (ve_Ele w) (by omega) ?_⟩
  show (ve_d (ve_fc G M (op % 16)) < 0 → _) ∧ _
  rw [e]
  refine br_t (by decide) ?_
  unfold wX_checkNew_29 wX_checkNew_56
  exact br_f (by decide) (br_t (by decide) (vx_new91 hk hat eo hop hp))
theorem vx_newS (h : ve_WG n G) (w : ve_WM n nm G M) (hE : ∀ c, c < 16 → a_fieldType c = ve_d (ve_E M c)) {o at_ op a ko : Nat} (ho : o < 16) (hat : at_ < 104) (eo : ve_Q C at_ = op) (hop : op < 4096) (wo : ve_wt n G o ko op) (hko : ko ≤ 3) (ox : op ≠ 15) (e : ve_fc G M (op % 16) = a + 1)
    {k : Nat} (hk : k ≤ 8) (h7 : k = 0 → post (-7) (f_x, f_mainBody, f_classLimit, f_methodLimit, (nI n), (nI nm), f_checkState, f_errorPlace, (nI k), f_objCount, f_valueTop, f_depth, f_entered, f_result, f_keepTypes, (ve_i (ve_V G)), (ve_i (ve_B G)), (ve_i (ve_S G)), (ve_i (ve_A G)), a_fieldType, a_declared, (ve_i (ve_O M)), (ve_i (ve_P M)), (ve_i (ve_R M)), (ve_i (ve_L C)), (ve_i (ve_K C)), (ve_i (ve_Q C)), a_types, a_castAt, a_objClass, a_objField, a_values, a_objType, a_frameBody, a_framePc, a_frameThis, a_frameArg, a_traced))
    (hS : ∀ j, k = j + 1 → ∃ q kq, a_types j = lN q ∧ ve_wt n G o kq q ∧ kq ≤ 10 ∧ (ve_su G o 32 q (ve_th G (ve_E M a - 1) a op) = false → post (-9) (f_x, f_mainBody, f_classLimit, f_methodLimit, (nI n), (nI nm), f_checkState, f_errorPlace, (nI j), f_objCount, f_valueTop, f_depth, f_entered, f_result, f_keepTypes, (ve_i (ve_V G)), (ve_i (ve_B G)), (ve_i (ve_S G)), (ve_i (ve_A G)), a_fieldType, a_declared, (ve_i (ve_O M)), (ve_i (ve_P M)), (ve_i (ve_R M)), (ve_i (ve_L C)), (ve_i (ve_K C)), (ve_i (ve_Q C)), a_types, a_castAt, a_objClass, a_objField, a_values, a_objType, a_frameBody, a_framePc, a_frameThis, a_frameArg, a_traced)) ∧
      (ve_su G o 32 q (ve_th G (ve_E M a - 1) a op) = true → post 0 (f_x, f_mainBody, f_classLimit, f_methodLimit, (nI n), (nI nm), f_checkState, f_errorPlace, (nI (j + 1)), f_objCount, f_valueTop, f_depth, f_entered, f_result, f_keepTypes, (ve_i (ve_V G)), (ve_i (ve_B G)), (ve_i (ve_S G)), (ve_i (ve_A G)), a_fieldType, a_declared, (ve_i (ve_O M)), (ve_i (ve_P M)), (ve_i (ve_R M)), (ve_i (ve_L C)), (ve_i (ve_K C)), (ve_i (ve_Q C)), (vp_updL a_types j (lN op)), a_castAt, a_objClass, a_objField, a_values, a_objType, a_frameBody, a_framePc, a_frameThis, a_frameArg, a_traced))) : wpX_checkNew post (f_x, f_mainBody, f_classLimit, f_methodLimit, (nI n), (nI nm), f_checkState, f_errorPlace, (nI k), f_objCount, f_valueTop, f_depth, f_entered, f_result, f_keepTypes, (ve_i (ve_V G)), (ve_i (ve_B G)), (ve_i (ve_S G)), (ve_i (ve_A G)), a_fieldType, a_declared, (ve_i (ve_O M)), (ve_i (ve_P M)), (ve_i (ve_R M)), (ve_i (ve_L C)), (ve_i (ve_K C)), (ve_i (ve_Q C)), a_types, a_castAt, a_objClass, a_objField, a_values, a_objType, a_frameBody, a_framePc, a_frameThis, a_frameArg, a_traced) (nI o) (nI at_) := by
  have n12 := ve_n12 h
  have s := ve_fc_s h e
  have wE := w.2.2.2.1 a s.2
  obtain ⟨kE, hkE, wE2⟩ := wE.2.1
  have bE := ve_E4 w a
  have e1 : ve_d (ve_E M a) = nI (ve_E M a - 1) := by
    obtain ⟨y, hy⟩ : ∃ y, ve_E M a = y + 1 := ⟨ve_E M a - 1, by have := s.2; omega⟩
    rw [hy]; rfl
  unfold wpX_checkNew
  dsimp only
  rw [ve_at (by omega), eo, pk_andN (by omega) 4 (by decide)]
  refine ⟨vp_in_nI hat (by omega), vx_fo h hE (ve_Ele w) (by omega) ?_⟩
  show (ve_d (ve_fc G M (op % 16)) < 0 → _) ∧ _
  rw [e]
  show (nI a < 0 → _) ∧ (¬ nI a < 0 → ((1 ≤ nI k → wX_checkNew_29 post (nI o) (nI at_) (nI a) f_x f_mainBody f_classLimit f_methodLimit (nI n) (nI nm) f_checkState f_errorPlace (nI k) f_objCount f_valueTop f_depth f_entered f_result f_keepTypes (ve_i (ve_V G)) (ve_i (ve_B G)) (ve_i (ve_S G)) (ve_i (ve_A G)) a_fieldType a_declared (ve_i (ve_O M)) (ve_i (ve_P M)) (ve_i (ve_R M)) (ve_i (ve_L C)) (ve_i (ve_K C)) (ve_i (ve_Q C)) a_types a_castAt a_objClass a_objField a_values a_objType a_frameBody a_framePc a_frameThis a_frameArg a_traced) ∧ (¬ 1 ≤ nI k → post (-7) (f_x, f_mainBody, f_classLimit, f_methodLimit, (nI n), (nI nm), f_checkState, f_errorPlace, (nI k), f_objCount, f_valueTop, f_depth, f_entered, f_result, f_keepTypes, (ve_i (ve_V G)), (ve_i (ve_B G)), (ve_i (ve_S G)), (ve_i (ve_A G)), a_fieldType, a_declared, (ve_i (ve_O M)), (ve_i (ve_P M)), (ve_i (ve_R M)), (ve_i (ve_L C)), (ve_i (ve_K C)), (ve_i (ve_Q C)), a_types, a_castAt, a_objClass, a_objField, a_values, a_objType, a_frameBody, a_framePc, a_frameThis, a_frameArg, a_traced))))
  refine br_f (nI_pos (by omega)) (pk_le 1 k (fun hk1 => ?_) (fun hk1 => h7 (by omega)))
  obtain ⟨j, rfl⟩ : ∃ j, k = j + 1 := ⟨k - 1, by omega⟩
  obtain ⟨q, kq, tq, wq, hkq, q9, q0⟩ := hS j rfl
  obtain ⟨kt, hkt, wth⟩ := ve_th_wt (o := o) h s.1 wE2 (by omega) wo ox
  unfold wX_checkNew_29
  refine br_t (nI_pos' (by omega)) ?_
  rw [nI_clamp (by omega), hE a (by omega), e1, vl_i (by omega), ve_at (by omega), eo, vl_i (by omega)]
  refine ⟨vp_in_nI (by omega) (by omega), vp_in_nI hat (by omega), vx_th h (by omega) (by omega) wE2 hkE ?_⟩
  unfold wX_checkNew_56
  rw [nI_pred, nI_clamp (by omega), tq]
  refine br_f (nI_pos (by omega)) (nm_e ⟨vp_in_nI (by omega) (by omega), vx_sub h ho wq wth (by omega) (by omega) (vb_c (fun z => q9 z) (fun z => vx_new91 (by omega) hat eo hop (q0 z)))⟩)
end
section
variable {n nm : Nat} {G : ve_T} {M : ve_M} {C : ve_C} {g_most g_mostMethods g_checked g_errAt g_depth g_entered g_result g_typed : Int32} {b_hasField b_fld b_need b_objType b_objVal b_vals b_frBody b_pc b_frThis b_frArg b_log : Nat → Int32} {b_types : Nat → Int64} {post : Int32 → SY → Prop}
theorem vy_call0 {k o at_ : Nat} (hk : k < 2) (hp : post (-7) (g_most, g_mostMethods, (nI n), (nI nm), g_checked, g_errAt, (nI k), g_entered, g_result, g_typed, (ve_i (ve_V G)), (ve_i (ve_B G)), (ve_i (ve_S G)), (ve_i (ve_A G)), b_hasField, b_fld, (ve_i (ve_O M)), (ve_i (ve_N M)), (ve_i (ve_P M)), (ve_i (ve_R M)), (ve_i (ve_L C)), (ve_i (ve_K C)), (ve_i (ve_Q C)), b_need, b_types, b_objType, b_objVal, b_vals, b_frBody, b_pc, b_frThis, b_frArg, b_log)) : wY_typeToken_211 post (nI at_) (nI o) 1 g_most g_mostMethods (nI n) (nI nm) g_checked g_errAt (nI k) g_entered g_result g_typed (ve_i (ve_V G)) (ve_i (ve_B G)) (ve_i (ve_S G)) (ve_i (ve_A G)) b_hasField b_fld (ve_i (ve_O M)) (ve_i (ve_N M)) (ve_i (ve_P M)) (ve_i (ve_R M)) (ve_i (ve_L C)) (ve_i (ve_K C)) (ve_i (ve_Q C)) b_need b_types b_objType b_objVal b_vals b_frBody b_pc b_frThis b_frArg b_log := by
  unfold wY_typeToken_211
  refine br_f (by decide) ?_
  unfold wY_typeToken_227
  exact br_f (nI_ge (b := 2) hk (by omega)) hp
theorem vy_callS (h : ve_WG n G) (w : ve_WM n nm G M) {k o at_ v kv q kq j : Nat} (hk : k < 7) (hat : at_ < 104) (ho : o < 16) (hj : j < 4) (ej : ve_Q C at_ = j)
    (tv : b_types k = lN v) (wv : ve_wt n G o kv v) (hkv : kv ≤ 9) (tq : b_types (k + 1) = lN q) (wq : ve_wt n G o kq q) (hkq : kq ≤ 9)
    (h0 : ve_mt G M (ve_ex G o v % 16) j = 0 → post (-8) (g_most, g_mostMethods, (nI n), (nI nm), g_checked, g_errAt, (nI (k + 1)), g_entered, g_result, g_typed, (ve_i (ve_V G)), (ve_i (ve_B G)), (ve_i (ve_S G)), (ve_i (ve_A G)), b_hasField, b_fld, (ve_i (ve_O M)), (ve_i (ve_N M)), (ve_i (ve_P M)), (ve_i (ve_R M)), (ve_i (ve_L C)), (ve_i (ve_K C)), (ve_i (ve_Q C)), b_need, b_types, b_objType, b_objVal, b_vals, b_frBody, b_pc, b_frThis, b_frArg, b_log))
    (h9 : ∀ m, ve_mt G M (ve_ex G o v % 16) j = m + 1 → ve_su G o 32 q (ve_th G (ve_P M m) (ve_O M m) (ve_ex G o v)) = false → post (-9) (g_most, g_mostMethods, (nI n), (nI nm), g_checked, g_errAt, (nI (k + 1)), g_entered, g_result, g_typed, (ve_i (ve_V G)), (ve_i (ve_B G)), (ve_i (ve_S G)), (ve_i (ve_A G)), b_hasField, b_fld, (ve_i (ve_O M)), (ve_i (ve_N M)), (ve_i (ve_P M)), (ve_i (ve_R M)), (ve_i (ve_L C)), (ve_i (ve_K C)), (ve_i (ve_Q C)), b_need, b_types, b_objType, b_objVal, b_vals, b_frBody, b_pc, b_frThis, b_frArg, b_log))
    (h1 : ∀ m, ve_mt G M (ve_ex G o v % 16) j = m + 1 → ve_su G o 32 q (ve_th G (ve_P M m) (ve_O M m) (ve_ex G o v)) = true → post 0 (g_most, g_mostMethods, (nI n), (nI nm), g_checked, g_errAt, (nI (k + 1)), g_entered, g_result, g_typed, (ve_i (ve_V G)), (ve_i (ve_B G)), (ve_i (ve_S G)), (ve_i (ve_A G)), b_hasField, b_fld, (ve_i (ve_O M)), (ve_i (ve_N M)), (ve_i (ve_P M)), (ve_i (ve_R M)), (ve_i (ve_L C)), (ve_i (ve_K C)), (ve_i (ve_Q C)), (upd b_need at_ (ve_cb G (ve_R M m) (ve_O M m) (ve_th G (ve_R M m) (ve_O M m) (ve_ex G o v)) o)), (vp_updL b_types k (lN (ve_th G (ve_R M m) (ve_O M m) (ve_ex G o v)))), b_objType, b_objVal, b_vals, b_frBody, b_pc, b_frThis, b_frArg, b_log)) :
    wY_typeToken_211 post (nI at_) (nI o) 1 g_most g_mostMethods (nI n) (nI nm) g_checked g_errAt (nI (k + 2)) g_entered g_result g_typed (ve_i (ve_V G)) (ve_i (ve_B G)) (ve_i (ve_S G)) (ve_i (ve_A G)) b_hasField b_fld (ve_i (ve_O M)) (ve_i (ve_N M)) (ve_i (ve_P M)) (ve_i (ve_R M)) (ve_i (ve_L C)) (ve_i (ve_K C)) (ve_i (ve_Q C)) b_need b_types b_objType b_objVal b_vals b_frBody b_pc b_frThis b_frArg b_log := by
  have bv := ve_wt_48 wv (by omega)
  have wx := ve_ex_wt h wv
  have nx := ve_ex_15 (o := o) h v
  have bx := ve_wt_48 wx (by omega)
  have n12 := ve_n12 h
  have hnm := w.1
  have hB := ve_Blt h o
  have e2 : nI (k + 2) - 1 = nI (k + 1) := nI_pred (k + 1)
  have j300 : wY_typeToken_300 post (nI at_) (nI o) 1 (lN q) (lN (ve_ex G o v)) g_most g_mostMethods (nI n) (nI nm) g_checked g_errAt (nI (k + 1)) g_entered g_result g_typed (ve_i (ve_V G)) (ve_i (ve_B G)) (ve_i (ve_S G)) (ve_i (ve_A G)) b_hasField b_fld (ve_i (ve_O M)) (ve_i (ve_N M)) (ve_i (ve_P M)) (ve_i (ve_R M)) (ve_i (ve_L C)) (ve_i (ve_K C)) (ve_i (ve_Q C)) b_need b_types b_objType b_objVal b_vals b_frBody b_pc b_frThis b_frArg b_log := by
    unfold wY_typeToken_300
    refine nm_r (vl_hd (by omega)) (br_f (by decide) ⟨vp_in_nI hat (by omega), ?_⟩)
    rw [ve_at (by omega), ej]
    refine vy_mo h w (by omega) hj ?_
    unfold wY_typeToken_332
    refine br_f (by decide) (vd_ge (ve_mtb h w hj) (fun m e => ?_) (fun e => ?_))
    · have s := ve_mt_s h w hj e
      have wm := w.2.1 m s.1
      obtain ⟨kP, hkP, wP⟩ := wm.2.1
      obtain ⟨kR, hkR, wR⟩ := wm.2.2.1
      have bP := ve_W3b wm.2.1
      have bR := ve_W3b wm.2.2.1
      have hO := wm.1.1
      have hin : vp_in (nI m) 13 := vp_in_nI (by omega) (by omega)
      obtain ⟨kt, hkt, wth⟩ := ve_th_wt (o := o) h s.2.1 wP (by omega) wx nx
      rw [e]
      show vp_in (nI m) 13 ∧ wY_typeToken_364 post (nI at_) (nI o) 1 (lN q) _ (nI m) (ve_i (ve_O M) (nI m).toNatClampNeg) g_most g_mostMethods (nI n) (nI nm) g_checked g_errAt (nI (k + 1)) g_entered g_result g_typed (ve_i (ve_V G)) (ve_i (ve_B G)) (ve_i (ve_S G)) (ve_i (ve_A G)) b_hasField b_fld (ve_i (ve_O M)) (ve_i (ve_N M)) (ve_i (ve_P M)) (ve_i (ve_R M)) (ve_i (ve_L C)) (ve_i (ve_K C)) (ve_i (ve_Q C)) b_need b_types b_objType b_objVal b_vals b_frBody b_pc b_frThis b_frArg b_log
      rw [ve_at (by omega)]
      refine ⟨hin, ?_⟩
      unfold wY_typeToken_364
      refine br_t (nI_pos' (by omega)) (br_t (nI_pos' (by omega)) ?_)
      rw [ve_at (by omega)]
      refine ⟨hin, ?_⟩
      unfold wY_typeToken_396
      refine br_t (nI_pos' (by omega)) ?_
      rw [ve_at (by omega), vl_i (by omega)]
      refine ⟨hin, vy_th h (by omega) (by omega) wP hkP ?_⟩
      unfold wY_typeToken_424
      exact br_f (by decide) (vy_sub h ho wq wth (by omega) (by omega) (vb_c (fun z => h9 m e z) (fun z => vy_446 h (by omega) hat (by omega) ho wR hkR s.2.1 wx nx (by omega) (h1 m e z))))
    · unfold wY_typeToken_364
      exact br_f (by decide) (h0 e)
  unfold wY_typeToken_211
  refine br_f (by decide) ?_
  unfold wY_typeToken_227
  rw [e2, nI_clamp (by omega), tq]
  refine br_t (nI_le (a := 2) (by omega) (by omega)) ⟨vp_in_nI (by omega) (by omega), nm_e (br_f (by decide) (nm_e ?_))⟩
  unfold wY_typeToken_261
  rw [nI_pred, nI_clamp (by omega), tv, ve_at (by omega), vl_i (by omega)]
  refine ⟨vp_in_nI (by omega) (by omega), ?_⟩
  unfold ve_ex at j300
  refine vl_eq v 15 (fun z => ⟨vp_in_nI ho (by omega), ?_⟩) (fun z => ⟨vp_in_nI (by omega) (by omega), ?_⟩)
  · rw [if_pos z] at j300; exact j300
  · rw [if_neg z] at j300; exact j300
/-- which way a token goes -/
theorem vy_110 (h : ve_WG n G) (w : ve_WM n nm G M) {b at_ kd op k : Nat} (hb : b < nm ∨ b = 12) (hat : at_ < 104) (ek : ve_K C at_ = kd) (eo : ve_Q C at_ = op) (hop : op < 4096) (hk : k < 8) (t : ve_TK n G M b kd op)
    (h0 : kd = 0 → post 0 (g_most, g_mostMethods, (nI n), (nI nm), g_checked, g_errAt, (nI (k + 1)), g_entered, g_result, g_typed, (ve_i (ve_V G)), (ve_i (ve_B G)), (ve_i (ve_S G)), (ve_i (ve_A G)), b_hasField, b_fld, (ve_i (ve_O M)), (ve_i (ve_N M)), (ve_i (ve_P M)), (ve_i (ve_R M)), (ve_i (ve_L C)), (ve_i (ve_K C)), (ve_i (ve_Q C)), b_need, (vp_updL b_types k (lN (ve_P M b))), b_objType, b_objVal, b_vals, b_frBody, b_pc, b_frThis, b_frArg, b_log)) (h1 : kd = 1 → post 0 (g_most, g_mostMethods, (nI n), (nI nm), g_checked, g_errAt, (nI (k + 1)), g_entered, g_result, g_typed, (ve_i (ve_V G)), (ve_i (ve_B G)), (ve_i (ve_S G)), (ve_i (ve_A G)), b_hasField, b_fld, (ve_i (ve_O M)), (ve_i (ve_N M)), (ve_i (ve_P M)), (ve_i (ve_R M)), (ve_i (ve_L C)), (ve_i (ve_K C)), (ve_i (ve_Q C)), b_need, (vp_updL b_types k (lN (ve_sf G (ve_O M b)))), b_objType, b_objVal, b_vals, b_frBody, b_pc, b_frThis, b_frArg, b_log))
    (h4 : kd = 4 → post 0 (g_most, g_mostMethods, (nI n), (nI nm), g_checked, g_errAt, (nI (k + 1)), g_entered, g_result, g_typed, (ve_i (ve_V G)), (ve_i (ve_B G)), (ve_i (ve_S G)), (ve_i (ve_A G)), b_hasField, b_fld, (ve_i (ve_O M)), (ve_i (ve_N M)), (ve_i (ve_P M)), (ve_i (ve_R M)), (ve_i (ve_L C)), (ve_i (ve_K C)), (ve_i (ve_Q C)), b_need, (vp_updL b_types k (lN op)), b_objType, b_objVal, b_vals, b_frBody, b_pc, b_frThis, b_frArg, b_log)) (h2 : kd = 2 → wY_typeToken_211 post (nI at_) (nI (ve_O M b)) 0 g_most g_mostMethods (nI n) (nI nm) g_checked g_errAt (nI k) g_entered g_result g_typed (ve_i (ve_V G)) (ve_i (ve_B G)) (ve_i (ve_S G)) (ve_i (ve_A G)) b_hasField b_fld (ve_i (ve_O M)) (ve_i (ve_N M)) (ve_i (ve_P M)) (ve_i (ve_R M)) (ve_i (ve_L C)) (ve_i (ve_K C)) (ve_i (ve_Q C)) b_need b_types b_objType b_objVal b_vals b_frBody b_pc b_frThis b_frArg b_log) (h3 : kd = 3 → wY_typeToken_211 post (nI at_) (nI (ve_O M b)) 1 g_most g_mostMethods (nI n) (nI nm) g_checked g_errAt (nI k) g_entered g_result g_typed (ve_i (ve_V G)) (ve_i (ve_B G)) (ve_i (ve_S G)) (ve_i (ve_A G)) b_hasField b_fld (ve_i (ve_O M)) (ve_i (ve_N M)) (ve_i (ve_P M)) (ve_i (ve_R M)) (ve_i (ve_L C)) (ve_i (ve_K C)) (ve_i (ve_Q C)) b_need b_types b_objType b_objVal b_vals b_frBody b_pc b_frThis b_frArg b_log) :
    wY_typeToken_110 post (nI b) (nI at_) (nI (ve_O M b)) g_most g_mostMethods (nI n) (nI nm) g_checked g_errAt (nI k) g_entered g_result g_typed (ve_i (ve_V G)) (ve_i (ve_B G)) (ve_i (ve_S G)) (ve_i (ve_A G)) b_hasField b_fld (ve_i (ve_O M)) (ve_i (ve_N M)) (ve_i (ve_P M)) (ve_i (ve_R M)) (ve_i (ve_L C)) (ve_i (ve_K C)) (ve_i (ve_Q C)) b_need b_types b_objType b_objVal b_vals b_frBody b_pc b_frThis b_frArg b_log := by
  have n12 := ve_n12 h
  have hnm := w.1
  have oO := vg_O w h b
  have hin : vp_in (nI at_) 104 := vp_in_nI hat (by omega)
  have k4 := t.1
  unfold wY_typeToken_110 wY_typeToken_196
  rw [ve_at (by omega), ek]
  refine ⟨hin, pk_eq kd 2 (fun e => ⟨hin, pk_eq kd 3 (fun z => by omega) (fun _ => h2 e)⟩) (fun e2 => ⟨hin, pk_eq kd 3 (fun e => ⟨hin, br_t (by rw [e]; rfl) (h3 e)⟩) (fun e3 => ⟨hin, pk_eq kd 4 (fun e => ⟨hin, ?_⟩) (fun e4 => ⟨hin, pk_eq kd 0 (fun e => ⟨vp_in_nI (by omega) (by omega), ?_⟩) (fun e0 => ?_)⟩)⟩)⟩)⟩
  · rw [ve_at (by omega), eo, vl_i (by omega)]; exact vy_183 hk (h4 e)
  · have b12 := t.2.1 (by omega)
    have wm := w.2.1 b (by omega)
    have bP := ve_W3b wm.2.1
    rw [ve_at (by omega), vl_i (by omega)]; exact vy_183 hk (h0 e)
  · have sb := ve_sfb h oO
    refine vy_self h (by omega) ?_
    rw [vl_i (by omega)]; exact vy_183 hk (h1 (by omega))
end
end
section
/-! check: one token, in both -/
section
variable {n nm : Nat} {G : ve_T} {M : ve_M} {C : ve_C} {f_x f_mainBody f_classLimit f_methodLimit f_checkState f_errorPlace f_typeTop f_objCount f_valueTop f_depth f_entered f_result f_keepTypes : Int32} {a_fieldType a_declared a_castAt a_objClass a_objField a_values a_frameBody a_framePc a_frameThis a_frameArg a_traced : Nat → Int32} {a_types a_objType : Nat → Int64} {post : Int32 → SX → Prop}
theorem vx_tokD (h : ve_WG n G) (w : ve_WM n nm G M) {b at_ kd op k : Nat} (hb : b < nm ∨ b = 12) (hat : at_ < 104) (ek : ve_K C at_ = kd) (t : ve_TK n G M b kd op)
    (h0 : kd = 0 → wpX_pushType post (f_x, f_mainBody, f_classLimit, f_methodLimit, (nI n), (nI nm), f_checkState, f_errorPlace, (nI k), f_objCount, f_valueTop, f_depth, f_entered, f_result, f_keepTypes, (ve_i (ve_V G)), (ve_i (ve_B G)), (ve_i (ve_S G)), (ve_i (ve_A G)), a_fieldType, a_declared, (ve_i (ve_O M)), (ve_i (ve_P M)), (ve_i (ve_R M)), (ve_i (ve_L C)), (ve_i (ve_K C)), (ve_i (ve_Q C)), a_types, (upd a_castAt at_ 0), a_objClass, a_objField, a_values, a_objType, a_frameBody, a_framePc, a_frameThis, a_frameArg, a_traced) (lN (ve_P M b))) (h1 : kd = 1 → wpX_pushType post (f_x, f_mainBody, f_classLimit, f_methodLimit, (nI n), (nI nm), f_checkState, f_errorPlace, (nI k), f_objCount, f_valueTop, f_depth, f_entered, f_result, f_keepTypes, (ve_i (ve_V G)), (ve_i (ve_B G)), (ve_i (ve_S G)), (ve_i (ve_A G)), a_fieldType, a_declared, (ve_i (ve_O M)), (ve_i (ve_P M)), (ve_i (ve_R M)), (ve_i (ve_L C)), (ve_i (ve_K C)), (ve_i (ve_Q C)), a_types, (upd a_castAt at_ 0), a_objClass, a_objField, a_values, a_objType, a_frameBody, a_framePc, a_frameThis, a_frameArg, a_traced) (lN (ve_sf G (ve_O M b))))
    (h2 : kd = 2 → wpX_checkField post (f_x, f_mainBody, f_classLimit, f_methodLimit, (nI n), (nI nm), f_checkState, f_errorPlace, (nI k), f_objCount, f_valueTop, f_depth, f_entered, f_result, f_keepTypes, (ve_i (ve_V G)), (ve_i (ve_B G)), (ve_i (ve_S G)), (ve_i (ve_A G)), a_fieldType, a_declared, (ve_i (ve_O M)), (ve_i (ve_P M)), (ve_i (ve_R M)), (ve_i (ve_L C)), (ve_i (ve_K C)), (ve_i (ve_Q C)), a_types, (upd a_castAt at_ 0), a_objClass, a_objField, a_values, a_objType, a_frameBody, a_framePc, a_frameThis, a_frameArg, a_traced) (nI (ve_O M b)) (nI at_)) (h3 : kd = 3 → wpX_checkCall post (f_x, f_mainBody, f_classLimit, f_methodLimit, (nI n), (nI nm), f_checkState, f_errorPlace, (nI k), f_objCount, f_valueTop, f_depth, f_entered, f_result, f_keepTypes, (ve_i (ve_V G)), (ve_i (ve_B G)), (ve_i (ve_S G)), (ve_i (ve_A G)), a_fieldType, a_declared, (ve_i (ve_O M)), (ve_i (ve_P M)), (ve_i (ve_R M)), (ve_i (ve_L C)), (ve_i (ve_K C)), (ve_i (ve_Q C)), a_types, (upd a_castAt at_ 0), a_objClass, a_objField, a_values, a_objType, a_frameBody, a_framePc, a_frameThis, a_frameArg, a_traced) (nI (ve_O M b)) (nI at_))
    (h4 : kd = 4 → wpX_checkNew post (f_x, f_mainBody, f_classLimit, f_methodLimit, (nI n), (nI nm), f_checkState, f_errorPlace, (nI k), f_objCount, f_valueTop, f_depth, f_entered, f_result, f_keepTypes, (ve_i (ve_V G)), (ve_i (ve_B G)), (ve_i (ve_S G)), (ve_i (ve_A G)), a_fieldType, a_declared, (ve_i (ve_O M)), (ve_i (ve_P M)), (ve_i (ve_R M)), (ve_i (ve_L C)), (ve_i (ve_K C)), (ve_i (ve_Q C)), a_types, (upd a_castAt at_ 0), a_objClass, a_objField, a_values, a_objType, a_frameBody, a_framePc, a_frameThis, a_frameArg, a_traced) (nI (ve_O M b)) (nI at_)) : wpX_checkToken post (f_x, f_mainBody, f_classLimit, f_methodLimit, (nI n), (nI nm), f_checkState, f_errorPlace, (nI k), f_objCount, f_valueTop, f_depth, f_entered, f_result, f_keepTypes, (ve_i (ve_V G)), (ve_i (ve_B G)), (ve_i (ve_S G)), (ve_i (ve_A G)), a_fieldType, a_declared, (ve_i (ve_O M)), (ve_i (ve_P M)), (ve_i (ve_R M)), (ve_i (ve_L C)), (ve_i (ve_K C)), (ve_i (ve_Q C)), a_types, a_castAt, a_objClass, a_objField, a_values, a_objType, a_frameBody, a_framePc, a_frameThis, a_frameArg, a_traced) (nI b) (nI at_) := by
  have n12 := ve_n12 h
  have hnm := w.1
  have oO := vg_O w h b
  have hin : vp_in (nI at_) 104 := vp_in_nI hat (by omega)
  have hib : vp_in (nI b) 13 := vp_in_nI (by omega) (by omega)
  have k4 := t.1
  unfold wpX_checkToken
  dsimp only
  rw [ve_vn0, nI_clamp (by omega), nI_clamp (by omega)]
  refine ⟨hin, nm_e ⟨hin, ?_⟩⟩
  show (nI (ve_K C at_) = 0 → _) ∧ (¬ nI (ve_K C at_) = 0 → _)
  rw [ek]
  refine pk_eq kd 0 (fun e => ⟨hib, ?_⟩) (fun e0 => ⟨hin, pk_eq kd 2 (fun e => ⟨hib, ?_⟩) (fun e2 => ⟨hin, pk_eq kd 3 (fun e => ⟨hib, ?_⟩) (fun e3 => ⟨hin, pk_eq kd 4 (fun e => ⟨hib, ?_⟩) (fun e4 => ⟨hib, ?_⟩) (hx := by rw [← ek]; rfl)⟩) (hx := by rw [← ek]; rfl)⟩) (hx := by rw [← ek]; rfl)⟩)
  · have b12 := t.2.1 (by omega)
    have wm := w.2.1 b (by omega)
    have bP := ve_W3b wm.2.1
    show wpX_pushType _ _ (nI (ve_P M b)).toInt64
    rw [vl_i (by omega)]; exact h0 e
  · exact h2 e
  · exact h3 e
  · exact h4 e
  · exact vx_selfType h (by omega) (h1 (by omega))
end
section
variable {n nm : Nat} {G : ve_T} {M : ve_M} {C : ve_C} {g_most g_mostMethods g_checked g_errAt g_depth g_entered g_result g_typed : Int32} {b_hasField b_fld b_need b_objType b_objVal b_vals b_frBody b_pc b_frThis b_frArg b_log : Nat → Int32} {b_types : Nat → Int64} {post : Int32 → SY → Prop}
/-- Y's token up to NEW's look at the field -/
theorem vy_tokN (h : ve_WG n G) (w : ve_WM n nm G M) {b at_ kd k : Nat} (hb : b < nm ∨ b = 12) (hat : at_ < 104) (ek : ve_K C at_ = kd) (ne : kd ≠ 4) (hk4 : kd ≤ 4)
    (hp : wY_typeToken_110 post (nI b) (nI at_) (nI (ve_O M b)) g_most g_mostMethods (nI n) (nI nm) g_checked g_errAt (nI k) g_entered g_result g_typed (ve_i (ve_V G)) (ve_i (ve_B G)) (ve_i (ve_S G)) (ve_i (ve_A G)) b_hasField b_fld (ve_i (ve_O M)) (ve_i (ve_N M)) (ve_i (ve_P M)) (ve_i (ve_R M)) (ve_i (ve_L C)) (ve_i (ve_K C)) (ve_i (ve_Q C)) (upd b_need at_ 0) b_types b_objType b_objVal b_vals b_frBody b_pc b_frThis b_frArg b_log) : wpY_typeToken post (g_most, g_mostMethods, (nI n), (nI nm), g_checked, g_errAt, (nI k), g_entered, g_result, g_typed, (ve_i (ve_V G)), (ve_i (ve_B G)), (ve_i (ve_S G)), (ve_i (ve_A G)), b_hasField, b_fld, (ve_i (ve_O M)), (ve_i (ve_N M)), (ve_i (ve_P M)), (ve_i (ve_R M)), (ve_i (ve_L C)), (ve_i (ve_K C)), (ve_i (ve_Q C)), b_need, b_types, b_objType, b_objVal, b_vals, b_frBody, b_pc, b_frThis, b_frArg, b_log) (nI b) (nI at_) := by
  have n12 := ve_n12 h
  have hnm := w.1
  have hin : vp_in (nI at_) 104 := vp_in_nI hat (by omega)
  unfold wpY_typeToken
  dsimp only
  rw [ve_vn0, nI_clamp (n := at_) (by omega)]
  refine ⟨vp_in_nI (by omega) (by omega), nm_r (ve_at (by omega)) ⟨hin, nm_e ⟨hin, br_f ?_ hp⟩⟩⟩
  show ¬ nI (ve_K C at_) = 4
  rw [ek]; exact fun z => ne (ve_inj (b := 4) z (by omega) (by omega))
theorem vy_tok4 (h : ve_WG n G) (w : ve_WM n nm G M) (hH : ∀ c, c < 16 → b_hasField c = ve_b (decide (ve_E M c ≠ 0))) (hF : ∀ c, c < 16 → ve_E M c ≠ 0 → b_fld c = nI (ve_E M c - 1)) {b at_ op k ko : Nat} (hb : b < nm ∨ b = 12) (hat : at_ < 104) (ek : ve_K C at_ = 4)
    (eo : ve_Q C at_ = op) (hop : op < 4096) (wo : ve_wt n G (ve_O M b) ko op) (hko : ko ≤ 3) (ox : op ≠ 15) (hk : k ≤ 8)
    (h0 : ve_fc G M (op % 16) = 0 → wY_typeToken_110 post (nI b) (nI at_) (nI (ve_O M b)) g_most g_mostMethods (nI n) (nI nm) g_checked g_errAt (nI k) g_entered g_result g_typed (ve_i (ve_V G)) (ve_i (ve_B G)) (ve_i (ve_S G)) (ve_i (ve_A G)) b_hasField b_fld (ve_i (ve_O M)) (ve_i (ve_N M)) (ve_i (ve_P M)) (ve_i (ve_R M)) (ve_i (ve_L C)) (ve_i (ve_K C)) (ve_i (ve_Q C)) (upd b_need at_ 0) b_types b_objType b_objVal b_vals b_frBody b_pc b_frThis b_frArg b_log)
    (h7 : ∀ a, ve_fc G M (op % 16) = a + 1 → k = 0 → post (-7) (g_most, g_mostMethods, (nI n), (nI nm), g_checked, g_errAt, (nI k), g_entered, g_result, g_typed, (ve_i (ve_V G)), (ve_i (ve_B G)), (ve_i (ve_S G)), (ve_i (ve_A G)), b_hasField, b_fld, (ve_i (ve_O M)), (ve_i (ve_N M)), (ve_i (ve_P M)), (ve_i (ve_R M)), (ve_i (ve_L C)), (ve_i (ve_K C)), (ve_i (ve_Q C)), (upd b_need at_ 0), b_types, b_objType, b_objVal, b_vals, b_frBody, b_pc, b_frThis, b_frArg, b_log))
    (hS : ∀ a, ve_fc G M (op % 16) = a + 1 → ∀ j, k = j + 1 → ∃ q kq, b_types j = lN q ∧ ve_wt n G (ve_O M b) kq q ∧ kq ≤ 10 ∧ (ve_su G (ve_O M b) 32 q (ve_th G (ve_E M a - 1) a op) = false → post (-9) (g_most, g_mostMethods, (nI n), (nI nm), g_checked, g_errAt, (nI j), g_entered, g_result, g_typed, (ve_i (ve_V G)), (ve_i (ve_B G)), (ve_i (ve_S G)), (ve_i (ve_A G)), b_hasField, b_fld, (ve_i (ve_O M)), (ve_i (ve_N M)), (ve_i (ve_P M)), (ve_i (ve_R M)), (ve_i (ve_L C)), (ve_i (ve_K C)), (ve_i (ve_Q C)), (upd b_need at_ 0), b_types, b_objType, b_objVal, b_vals, b_frBody, b_pc, b_frThis, b_frArg, b_log)) ∧
      (ve_su G (ve_O M b) 32 q (ve_th G (ve_E M a - 1) a op) = true → wY_typeToken_110 post (nI b) (nI at_) (nI (ve_O M b)) g_most g_mostMethods (nI n) (nI nm) g_checked g_errAt (nI j) g_entered g_result g_typed (ve_i (ve_V G)) (ve_i (ve_B G)) (ve_i (ve_S G)) (ve_i (ve_A G)) b_hasField b_fld (ve_i (ve_O M)) (ve_i (ve_N M)) (ve_i (ve_P M)) (ve_i (ve_R M)) (ve_i (ve_L C)) (ve_i (ve_K C)) (ve_i (ve_Q C)) (upd b_need at_ 0) b_types b_objType b_objVal b_vals b_frBody b_pc b_frThis b_frArg b_log)) : wpY_typeToken post (g_most, g_mostMethods, (nI n), (nI nm), g_checked, g_errAt, (nI k), g_entered, g_result, g_typed, (ve_i (ve_V G)), (ve_i (ve_B G)), (ve_i (ve_S G)), (ve_i (ve_A G)), b_hasField, b_fld, (ve_i (ve_O M)), (ve_i (ve_N M)), (ve_i (ve_P M)), (ve_i (ve_R M)), (ve_i (ve_L C)), (ve_i (ve_K C)), (ve_i (ve_Q C)), b_need, b_types, b_objType, b_objVal, b_vals, b_frBody, b_pc, b_frThis, b_frArg, b_log) (nI b) (nI at_) := by
  have n12 := ve_n12 h
  have hnm := w.1
  have oO := vg_O w h b
  have hin : vp_in (nI at_) 104 := vp_in_nI hat (by omega)
  unfold wpY_typeToken
  dsimp only
  rw [ve_vn0, nI_clamp (n := at_) (by omega)]
  refine ⟨vp_in_nI (by omega) (by omega), nm_r (ve_at (by omega)) ⟨hin, nm_e ⟨hin, br_t (by show nI (ve_K C at_) = 4; rw [ek]; rfl) ⟨hin, ?_⟩⟩⟩⟩
  show wpY_fieldClass _ _ (nI (ve_Q C at_) &&& 15)
  rw [eo, pk_andN (by omega) 4 (by decide)]
  refine vy_fo h hH (by omega) (vd_lt (ve_fcb h (by omega)) (fun e => h0 e) (fun a e => ?_))
  have s := ve_fc_s h e
  have wE := w.2.2.2.1 a s.2
  obtain ⟨kE, hkE, wE2⟩ := wE.2.1
  have bE := ve_E4 w a
  obtain ⟨kt, hkt, wth⟩ := ve_th_wt (o := ve_O M b) h s.1 wE2 (by omega) wo ox
  refine pk_le 1 k (fun hk1 => ?_) (fun hk1 => h7 a e (by omega))
  obtain ⟨j, rfl⟩ : ∃ j, k = j + 1 := ⟨k - 1, by omega⟩
  obtain ⟨q, kq, tq, wq, hkq, q9, q0⟩ := hS a e j rfl
  show vp_in (ve_d (ve_fc G M (op % 16))) 16 ∧ vp_in (nI at_) 104 ∧ wpY_through _ _ (b_fld (ve_d (ve_fc G M (op % 16))).toNatClampNeg).toInt64 (nI (ve_Q C at_)).toInt64 (ve_d (ve_fc G M (op % 16)))
  rw [e, eo]
  show vp_in (nI a) 16 ∧ vp_in (nI at_) 104 ∧ wpY_through _ _ (b_fld (nI a).toNatClampNeg).toInt64 (nI op).toInt64 (nI a)
  rw [nI_clamp (n := a) (by omega), hF a (by omega) s.2, vl_i (a := ve_E M a - 1) (by omega), vl_i (a := op) (by omega)]
  refine ⟨vp_in_nI (by omega) (by omega), hin, vy_th h (by omega) (by omega) wE2 hkE (nm_r (nI_pred j) ⟨vp_in_nI (by omega) (by omega), ?_⟩)⟩
  rw [nI_clamp (n := j) (by omega), tq]
  exact vy_sub h (by omega) wq wth (by omega) (by omega) (vb_c (fun z => q9 z) (fun z => q0 z))
end
section
variable {n nm : Nat} {G : ve_T} {M : ve_M} {C : ve_C} {f_x f_mainBody f_classLimit f_methodLimit f_checkState f_errorPlace f_typeTop f_objCount f_valueTop f_depth f_entered f_result f_keepTypes : Int32} {a_fieldType a_declared a_castAt a_objClass a_objField a_values a_frameBody a_framePc a_frameThis a_frameArg a_traced : Nat → Int32} {a_types a_objType : Nat → Int64}
variable {g_most g_mostMethods g_checked g_errAt g_depth g_entered g_result g_typed : Int32} {b_hasField b_fld b_objType b_objVal b_vals b_frBody b_pc b_frThis b_frArg b_log : Nat → Int32}
theorem ve_Ws_p {o z z' t k : Nat} {st : List Nat} (ws : ve_Ws n G o z st) (hz : z ≤ z') (w : ve_wt n G o k t) (hk : k ≤ z') : ve_Ws n G o z' (t :: st) := by
  intro x hx
  rcases List.mem_cons.mp hx with rfl | hx
  · exact ⟨k, hk, w⟩
  · obtain ⟨k', a1, a2⟩ := ws x hx
    exact ⟨k', by omega, a2⟩
theorem ve_Ws_t {o z t : Nat} {st : List Nat} (ws : ve_Ws n G o z (t :: st)) : ve_Ws n G o z st := fun x hx => ws x (List.mem_cons_of_mem _ hx)
theorem ve_tok (h : ve_WG n G) (w : ve_WM n nm G M) (wc : ve_WC n nm G M C) (fm : ve_FM M a_fieldType a_declared b_hasField b_fld) (hQ : ∀ j, ve_Q C j < 4096) {b i k : Nat} (hb : b < nm ∨ b = 12) (hi : i < ve_L C b) {st : List Nat}
    (ws : ve_Ws n G (ve_O M b) (2 + i) st) (sr : ve_SR a_types st k) (hk : k ≤ i) : ∃ (r : Int32) (tp' : Nat → Int64) (ca' : Nat → Int32) (tX tY : Int32),
    (r = 0 → ∃ st' k', ve_TS G M (ve_O M b) b (ve_K C (8 * b + i)) (ve_Q C (8 * b + i)) st st' ∧ ve_Ws n G (ve_O M b) (2 + (i + 1)) st' ∧ ve_SR tp' st' k' ∧ k' ≤ i + 1 ∧ tX = nI k' ∧ tY = nI k') ∧
    (∀ post : Int32 → SX → Prop, post r (f_x, f_mainBody, f_classLimit, f_methodLimit, (nI n), (nI nm), f_checkState, f_errorPlace, tX, f_objCount, f_valueTop, f_depth, f_entered, f_result, f_keepTypes, (ve_i (ve_V G)), (ve_i (ve_B G)), (ve_i (ve_S G)), (ve_i (ve_A G)), a_fieldType, a_declared, (ve_i (ve_O M)), (ve_i (ve_P M)), (ve_i (ve_R M)), (ve_i (ve_L C)), (ve_i (ve_K C)), (ve_i (ve_Q C)), tp', ca', a_objClass, a_objField, a_values, a_objType, a_frameBody, a_framePc, a_frameThis, a_frameArg, a_traced) → wpX_checkToken post (f_x, f_mainBody, f_classLimit, f_methodLimit, (nI n), (nI nm), f_checkState, f_errorPlace, (nI k), f_objCount, f_valueTop, f_depth, f_entered, f_result, f_keepTypes, (ve_i (ve_V G)), (ve_i (ve_B G)), (ve_i (ve_S G)), (ve_i (ve_A G)), a_fieldType, a_declared, (ve_i (ve_O M)), (ve_i (ve_P M)), (ve_i (ve_R M)), (ve_i (ve_L C)), (ve_i (ve_K C)), (ve_i (ve_Q C)), a_types, a_castAt, a_objClass, a_objField, a_values, a_objType, a_frameBody, a_framePc, a_frameThis, a_frameArg, a_traced) (nI b) (nI (8 * b + i))) ∧
    (∀ post : Int32 → SY → Prop, post r (g_most, g_mostMethods, (nI n), (nI nm), g_checked, g_errAt, tY, g_entered, g_result, g_typed, (ve_i (ve_V G)), (ve_i (ve_B G)), (ve_i (ve_S G)), (ve_i (ve_A G)), b_hasField, b_fld, (ve_i (ve_O M)), (ve_i (ve_N M)), (ve_i (ve_P M)), (ve_i (ve_R M)), (ve_i (ve_L C)), (ve_i (ve_K C)), (ve_i (ve_Q C)), ca', tp', b_objType, b_objVal, b_vals, b_frBody, b_pc, b_frThis, b_frArg, b_log) → wpY_typeToken post (g_most, g_mostMethods, (nI n), (nI nm), g_checked, g_errAt, (nI k), g_entered, g_result, g_typed, (ve_i (ve_V G)), (ve_i (ve_B G)), (ve_i (ve_S G)), (ve_i (ve_A G)), b_hasField, b_fld, (ve_i (ve_O M)), (ve_i (ve_N M)), (ve_i (ve_P M)), (ve_i (ve_R M)), (ve_i (ve_L C)), (ve_i (ve_K C)), (ve_i (ve_Q C)), a_castAt, a_types, b_objType, b_objVal, b_vals, b_frBody, b_pc, b_frThis, b_frArg, b_log) (nI b) (nI (8 * b + i))) := by
  have n12 := ve_n12 h
  have hnm := w.1
  have oO := vg_O w h b
  obtain ⟨hE, hD, hH, hF⟩ := fm
  obtain ⟨l8, tks⟩ := wc.1 b hb
  have tk := tks i hi
  have hat : 8 * b + i < 104 := by omega
  have hop := hQ (8 * b + i)
  have tk1 := tk.1
  generalize eat : 8 * b + i = at_ at *
  have hc : ve_K C at_ = 0 ∨ ve_K C at_ = 1 ∨ ve_K C at_ = 2 ∨ ve_K C at_ = 3 ∨ ve_K C at_ = 4 := by omega
  rcases hc with e | e | e | e | e
  · -- ARG
    have b12 := tk.2.1 (by omega)
    have wm := w.2.1 b (by omega)
    obtain ⟨kP, hkP, wP⟩ := wm.2.1
    refine ⟨0, vp_updL a_types k (lN (ve_P M b)), upd a_castAt at_ 0, nI (k + 1), nI (k + 1), fun _ => ⟨_, _, Or.inl ⟨e, rfl⟩, ve_Ws_p ws (by omega) wP (by omega), ve_SR_p sr, by omega, rfl, rfl⟩, fun post hp => ?_, fun post hp => ?_⟩
    · exact vx_tokD h w hb hat rfl tk (fun _ => vx_push (by omega) hp) (fun z => by omega) (fun z => by omega) (fun z => by omega) (fun z => by omega)
    · exact vy_tokN h w hb hat rfl (by omega) tk1 (vy_110 h w hb hat rfl rfl hop (by omega) tk (fun _ => hp) (fun z => by omega) (fun z => by omega) (fun z => by omega) (fun z => by omega))
  · -- THIS
    obtain ⟨ks, hks, wS⟩ := ve_sf_wt h oO
    refine ⟨0, vp_updL a_types k (lN (ve_sf G (ve_O M b))), upd a_castAt at_ 0, nI (k + 1), nI (k + 1), fun _ => ⟨_, _, Or.inr (Or.inl ⟨e, rfl⟩), ve_Ws_p ws (by omega) wS (by omega), ve_SR_p sr, by omega, rfl, rfl⟩, fun post hp => ?_, fun post hp => ?_⟩
    · exact vx_tokD h w hb hat rfl tk (fun z => by omega) (fun _ => vx_push (by omega) hp) (fun z => by omega) (fun z => by omega) (fun z => by omega)
    · exact vy_tokN h w hb hat rfl (by omega) tk1 (vy_110 h w hb hat rfl rfl hop (by omega) tk (fun z => by omega) (fun _ => hp) (fun z => by omega) (fun z => by omega) (fun z => by omega))
  · -- FIELD
    have X2 : ∀ post : Int32 → SX → Prop, wpX_checkField post (f_x, f_mainBody, f_classLimit, f_methodLimit, (nI n), (nI nm), f_checkState, f_errorPlace, (nI k), f_objCount, f_valueTop, f_depth, f_entered, f_result, f_keepTypes, (ve_i (ve_V G)), (ve_i (ve_B G)), (ve_i (ve_S G)), (ve_i (ve_A G)), a_fieldType, a_declared, (ve_i (ve_O M)), (ve_i (ve_P M)), (ve_i (ve_R M)), (ve_i (ve_L C)), (ve_i (ve_K C)), (ve_i (ve_Q C)), a_types, (upd a_castAt at_ 0), a_objClass, a_objField, a_values, a_objType, a_frameBody, a_framePc, a_frameThis, a_frameArg, a_traced) (nI (ve_O M b)) (nI at_) → wpX_checkToken post (f_x, f_mainBody, f_classLimit, f_methodLimit, (nI n), (nI nm), f_checkState, f_errorPlace, (nI k), f_objCount, f_valueTop, f_depth, f_entered, f_result, f_keepTypes, (ve_i (ve_V G)), (ve_i (ve_B G)), (ve_i (ve_S G)), (ve_i (ve_A G)), a_fieldType, a_declared, (ve_i (ve_O M)), (ve_i (ve_P M)), (ve_i (ve_R M)), (ve_i (ve_L C)), (ve_i (ve_K C)), (ve_i (ve_Q C)), a_types, a_castAt, a_objClass, a_objField, a_values, a_objType, a_frameBody, a_framePc, a_frameThis, a_frameArg, a_traced) (nI b) (nI at_) := fun post hp =>
      vx_tokD h w hb hat rfl tk (fun z => by omega) (fun z => by omega) (fun _ => hp) (fun z => by omega) (fun z => by omega)
    have Y2 : ∀ post : Int32 → SY → Prop, wY_typeToken_211 post (nI at_) (nI (ve_O M b)) 0 g_most g_mostMethods (nI n) (nI nm) g_checked g_errAt (nI k) g_entered g_result g_typed (ve_i (ve_V G)) (ve_i (ve_B G)) (ve_i (ve_S G)) (ve_i (ve_A G)) b_hasField b_fld (ve_i (ve_O M)) (ve_i (ve_N M)) (ve_i (ve_P M)) (ve_i (ve_R M)) (ve_i (ve_L C)) (ve_i (ve_K C)) (ve_i (ve_Q C)) (upd a_castAt at_ 0) a_types b_objType b_objVal b_vals b_frBody b_pc b_frThis b_frArg b_log → wpY_typeToken post (g_most, g_mostMethods, (nI n), (nI nm), g_checked, g_errAt, (nI k), g_entered, g_result, g_typed, (ve_i (ve_V G)), (ve_i (ve_B G)), (ve_i (ve_S G)), (ve_i (ve_A G)), b_hasField, b_fld, (ve_i (ve_O M)), (ve_i (ve_N M)), (ve_i (ve_P M)), (ve_i (ve_R M)), (ve_i (ve_L C)), (ve_i (ve_K C)), (ve_i (ve_Q C)), a_castAt, a_types, b_objType, b_objVal, b_vals, b_frBody, b_pc, b_frThis, b_frArg, b_log) (nI b) (nI at_) := fun post hp =>
      vy_tokN h w hb hat rfl (by omega) tk1 (vy_110 h w hb hat rfl rfl hop (by omega) tk (fun z => by omega) (fun z => by omega) (fun z => by omega) (fun _ => hp) (fun z => by omega))
    cases st with
    | nil =>
      have k0 : k = 0 := sr
      subst k0
      refine ⟨-7, a_types, upd a_castAt at_ 0, nI 0, nI 0, fun z => absurd z (by decide), fun post hp => X2 post (vx_field0 hp), fun post hp => Y2 post ?_⟩
      unfold wY_typeToken_211
      refine br_t rfl ?_
      unfold wY_typeToken_227
      exact br_f (by decide) hp
    | cons v rest =>
      obtain ⟨j, rfl, tv, sr'⟩ := sr
      obtain ⟨kv, hkv, wv⟩ := ws v (by simp)
      have wx := ve_ex_wt h wv
      have nx := ve_ex_15 (o := ve_O M b) h v
      rcases Nat.eq_zero_or_pos (ve_fc G M (ve_ex G (ve_O M b) v % 16)) with z | z
      · refine ⟨-8, a_types, upd a_castAt at_ 0, nI j, nI (j + 1), fun z => absurd z (by decide), fun post hp => X2 post (vx_fieldS h w hE (by omega) hat (by omega) tv wv (by omega) (fun _ => hp) (fun a ea => by omega)), fun post hp => Y2 post (vy_fieldS h w hH hF (by omega) hat (by omega) tv wv (by omega) (fun _ => hp) (fun a ea => by omega))⟩
      · obtain ⟨a, ea⟩ : ∃ a, ve_fc G M (ve_ex G (ve_O M b) v % 16) = a + 1 := ⟨_, (Nat.succ_pred_eq_of_pos z).symm⟩
        have s := ve_fc_s h ea
        obtain ⟨kE, hkE, wE2⟩ := (w.2.2.2.1 a s.2).2.1
        obtain ⟨kt, hkt, wth⟩ := ve_th_w3 (o := ve_O M b) h s.1 wE2 hkE wx nx
        refine ⟨0, vp_updL a_types j (lN (ve_th G (ve_E M a - 1) a (ve_ex G (ve_O M b) v))), upd (upd a_castAt at_ 0) at_ (ve_cb G (ve_E M a - 1) a (ve_th G (ve_E M a - 1) a (ve_ex G (ve_O M b) v)) (ve_O M b)), nI (j + 1), nI (j + 1),
          fun _ => ⟨_, _, Or.inr (Or.inr (Or.inl ⟨e, v, rest, a, rfl, ea, rfl⟩)), ve_Ws_p (ve_Ws_t ws) (by omega) wth (by omega), ve_SR_p sr', by omega, rfl, rfl⟩, fun post hp => X2 post (vx_fieldS h w hE (by omega) hat (by omega) tv wv (by omega) (fun y => by omega) (fun a' ea' => ?_)), fun post hp => Y2 post (vy_fieldS h w hH hF (by omega) hat (by omega) tv wv (by omega) (fun y => by omega) (fun a' ea' => ?_))⟩
        · have : a' = a := by omega
          subst this; exact hp
        · have : a' = a := by omega
          subst this; exact hp
  · -- CALL
    have hj := tk.2.2.1 e
    have X3 : ∀ post : Int32 → SX → Prop, wpX_checkCall post (f_x, f_mainBody, f_classLimit, f_methodLimit, (nI n), (nI nm), f_checkState, f_errorPlace, (nI k), f_objCount, f_valueTop, f_depth, f_entered, f_result, f_keepTypes, (ve_i (ve_V G)), (ve_i (ve_B G)), (ve_i (ve_S G)), (ve_i (ve_A G)), a_fieldType, a_declared, (ve_i (ve_O M)), (ve_i (ve_P M)), (ve_i (ve_R M)), (ve_i (ve_L C)), (ve_i (ve_K C)), (ve_i (ve_Q C)), a_types, (upd a_castAt at_ 0), a_objClass, a_objField, a_values, a_objType, a_frameBody, a_framePc, a_frameThis, a_frameArg, a_traced) (nI (ve_O M b)) (nI at_) → wpX_checkToken post (f_x, f_mainBody, f_classLimit, f_methodLimit, (nI n), (nI nm), f_checkState, f_errorPlace, (nI k), f_objCount, f_valueTop, f_depth, f_entered, f_result, f_keepTypes, (ve_i (ve_V G)), (ve_i (ve_B G)), (ve_i (ve_S G)), (ve_i (ve_A G)), a_fieldType, a_declared, (ve_i (ve_O M)), (ve_i (ve_P M)), (ve_i (ve_R M)), (ve_i (ve_L C)), (ve_i (ve_K C)), (ve_i (ve_Q C)), a_types, a_castAt, a_objClass, a_objField, a_values, a_objType, a_frameBody, a_framePc, a_frameThis, a_frameArg, a_traced) (nI b) (nI at_) := fun post hp =>
      vx_tokD h w hb hat rfl tk (fun z => by omega) (fun z => by omega) (fun z => by omega) (fun _ => hp) (fun z => by omega)
    have Y3 : ∀ post : Int32 → SY → Prop, wY_typeToken_211 post (nI at_) (nI (ve_O M b)) 1 g_most g_mostMethods (nI n) (nI nm) g_checked g_errAt (nI k) g_entered g_result g_typed (ve_i (ve_V G)) (ve_i (ve_B G)) (ve_i (ve_S G)) (ve_i (ve_A G)) b_hasField b_fld (ve_i (ve_O M)) (ve_i (ve_N M)) (ve_i (ve_P M)) (ve_i (ve_R M)) (ve_i (ve_L C)) (ve_i (ve_K C)) (ve_i (ve_Q C)) (upd a_castAt at_ 0) a_types b_objType b_objVal b_vals b_frBody b_pc b_frThis b_frArg b_log → wpY_typeToken post (g_most, g_mostMethods, (nI n), (nI nm), g_checked, g_errAt, (nI k), g_entered, g_result, g_typed, (ve_i (ve_V G)), (ve_i (ve_B G)), (ve_i (ve_S G)), (ve_i (ve_A G)), b_hasField, b_fld, (ve_i (ve_O M)), (ve_i (ve_N M)), (ve_i (ve_P M)), (ve_i (ve_R M)), (ve_i (ve_L C)), (ve_i (ve_K C)), (ve_i (ve_Q C)), a_castAt, a_types, b_objType, b_objVal, b_vals, b_frBody, b_pc, b_frThis, b_frArg, b_log) (nI b) (nI at_) := fun post hp =>
      vy_tokN h w hb hat rfl (by omega) tk1 (vy_110 h w hb hat rfl rfl hop (by omega) tk (fun z => by omega) (fun z => by omega) (fun z => by omega) (fun z => by omega) (fun _ => hp))
    match st, ws, sr with
    | [], ws, sr =>
      have k0 : k = 0 := sr
      exact ⟨-7, a_types, upd a_castAt at_ 0, nI k, nI k, fun z => absurd z (by decide), fun post hp => X3 post (vx_call0 (by omega) hp), fun post hp => Y3 post (vy_call0 (by omega) hp)⟩
    | [q], ws, ⟨j, ej, _, sr'⟩ =>
      have j0 : j = 0 := sr'
      exact ⟨-7, a_types, upd a_castAt at_ 0, nI k, nI k, fun z => absurd z (by decide), fun post hp => X3 post (vx_call0 (by omega) hp), fun post hp => Y3 post (vy_call0 (by omega) hp)⟩
    | q :: v :: rest, ws, ⟨j1, ej1, tq, ⟨j, ej, tv, sr'⟩⟩ =>
      subst ej; subst ej1
      obtain ⟨kv, hkv, wv⟩ := ws v (by simp)
      obtain ⟨kq, hkq, wq⟩ := ws q (by simp)
      have wx := ve_ex_wt h wv
      have nx := ve_ex_15 (o := ve_O M b) h v
      rcases Nat.eq_zero_or_pos (ve_mt G M (ve_ex G (ve_O M b) v % 16) (ve_Q C at_)) with z | z
      · exact ⟨-8, a_types, upd a_castAt at_ 0, nI j, nI (j + 1), fun z => absurd z (by decide), fun post hp => X3 post (vx_callS h w hD (by omega) hat (by omega) hj rfl tv wv (by omega) tq wq (by omega) (fun _ => hp) (fun m em => by omega) (fun m em => by omega)), fun post hp => Y3 post (vy_callS h w (by omega) hat (by omega) hj rfl tv wv (by omega) tq wq (by omega) (fun _ => hp) (fun m em => by omega) (fun m em => by omega))⟩
      · obtain ⟨m, em⟩ : ∃ m, ve_mt G M (ve_ex G (ve_O M b) v % 16) (ve_Q C at_) = m + 1 := ⟨_, (Nat.succ_pred_eq_of_pos z).symm⟩
        have s := ve_mt_s h w hj em
        have wm := w.2.1 m s.1
        obtain ⟨kP, hkP, wP⟩ := wm.2.1
        obtain ⟨kR, hkR, wR⟩ := wm.2.2.1
        obtain ⟨kt, hkt, wth⟩ := ve_th_w3 (o := ve_O M b) h s.2.1 wP hkP wx nx
        obtain ⟨kr, hkr, wthr⟩ := ve_th_w3 (o := ve_O M b) h s.2.1 wR hkR wx nx
        cases es : ve_su G (ve_O M b) 32 q (ve_th G (ve_P M m) (ve_O M m) (ve_ex G (ve_O M b) v)) with
        | false =>
          refine ⟨-9, a_types, upd a_castAt at_ 0, nI j, nI (j + 1), fun z => absurd z (by decide), fun post hp => X3 post (vx_callS h w hD (by omega) hat (by omega) hj rfl tv wv (by omega) tq wq (by omega) (fun y => by omega) (fun m' em' _ => hp) (fun m' em' es' => ?_)), fun post hp => Y3 post (vy_callS h w (by omega) hat (by omega) hj rfl tv wv (by omega) tq wq (by omega) (fun y => by omega) (fun m' em' _ => hp) (fun m' em' es' => ?_))⟩
          · have : m' = m := by omega
            subst this; exact ve_ft es es'
          · have : m' = m := by omega
            subst this; exact ve_ft es es'
        | true =>
          refine ⟨0, vp_updL a_types j (lN (ve_th G (ve_R M m) (ve_O M m) (ve_ex G (ve_O M b) v))), upd (upd a_castAt at_ 0) at_ (ve_cb G (ve_R M m) (ve_O M m) (ve_th G (ve_R M m) (ve_O M m) (ve_ex G (ve_O M b) v)) (ve_O M b)), nI (j + 1), nI (j + 1),
            fun _ => ⟨_, _, Or.inr (Or.inr (Or.inr (Or.inl ⟨e, q, v, rest, m, rfl, em, ⟨32, es⟩, rfl⟩))), ve_Ws_p (ve_Ws_t (ve_Ws_t ws)) (by omega) wthr (by omega), ve_SR_p sr', by omega, rfl, rfl⟩,
            fun post hp => X3 post (vx_callS h w hD (by omega) hat (by omega) hj rfl tv wv (by omega) tq wq (by omega) (fun y => by omega) (fun m' em' es' => ?_) (fun m' em' es' => ?_)), fun post hp => Y3 post (vy_callS h w (by omega) hat (by omega) hj rfl tv wv (by omega) tq wq (by omega) (fun y => by omega) (fun m' em' es' => ?_) (fun m' em' es' => ?_))⟩
          · have : m' = m := by omega
            subst this; exact ve_ft es' es
          · have : m' = m := by omega
            subst this; exact hp
          · have : m' = m := by omega
            subst this; exact ve_ft es' es
          · have : m' = m := by omega
            subst this; exact hp
  · -- NEW
    obtain ⟨⟨ko, hko, wo, _⟩, ox, _⟩ := tk.2.2.2 e
    have X4 : ∀ post : Int32 → SX → Prop, wpX_checkNew post (f_x, f_mainBody, f_classLimit, f_methodLimit, (nI n), (nI nm), f_checkState, f_errorPlace, (nI k), f_objCount, f_valueTop, f_depth, f_entered, f_result, f_keepTypes, (ve_i (ve_V G)), (ve_i (ve_B G)), (ve_i (ve_S G)), (ve_i (ve_A G)), a_fieldType, a_declared, (ve_i (ve_O M)), (ve_i (ve_P M)), (ve_i (ve_R M)), (ve_i (ve_L C)), (ve_i (ve_K C)), (ve_i (ve_Q C)), a_types, (upd a_castAt at_ 0), a_objClass, a_objField, a_values, a_objType, a_frameBody, a_framePc, a_frameThis, a_frameArg, a_traced) (nI (ve_O M b)) (nI at_) → wpX_checkToken post (f_x, f_mainBody, f_classLimit, f_methodLimit, (nI n), (nI nm), f_checkState, f_errorPlace, (nI k), f_objCount, f_valueTop, f_depth, f_entered, f_result, f_keepTypes, (ve_i (ve_V G)), (ve_i (ve_B G)), (ve_i (ve_S G)), (ve_i (ve_A G)), a_fieldType, a_declared, (ve_i (ve_O M)), (ve_i (ve_P M)), (ve_i (ve_R M)), (ve_i (ve_L C)), (ve_i (ve_K C)), (ve_i (ve_Q C)), a_types, a_castAt, a_objClass, a_objField, a_values, a_objType, a_frameBody, a_framePc, a_frameThis, a_frameArg, a_traced) (nI b) (nI at_) := fun post hp =>
      vx_tokD h w hb hat rfl tk (fun z => by omega) (fun z => by omega) (fun z => by omega) (fun z => by omega) (fun _ => hp)
    have Y110 : ∀ (post : Int32 → SY → Prop) (k : Nat), k < 8 → post 0 (g_most, g_mostMethods, (nI n), (nI nm), g_checked, g_errAt, (nI (k + 1)), g_entered, g_result, g_typed, (ve_i (ve_V G)), (ve_i (ve_B G)), (ve_i (ve_S G)), (ve_i (ve_A G)), b_hasField, b_fld, (ve_i (ve_O M)), (ve_i (ve_N M)), (ve_i (ve_P M)), (ve_i (ve_R M)), (ve_i (ve_L C)), (ve_i (ve_K C)), (ve_i (ve_Q C)), (upd a_castAt at_ 0), (vp_updL a_types k (lN (ve_Q C at_))), b_objType, b_objVal, b_vals, b_frBody, b_pc, b_frThis, b_frArg, b_log) → wY_typeToken_110 post (nI b) (nI at_) (nI (ve_O M b)) g_most g_mostMethods (nI n) (nI nm) g_checked g_errAt (nI k) g_entered g_result g_typed (ve_i (ve_V G)) (ve_i (ve_B G)) (ve_i (ve_S G)) (ve_i (ve_A G)) b_hasField b_fld (ve_i (ve_O M)) (ve_i (ve_N M)) (ve_i (ve_P M)) (ve_i (ve_R M)) (ve_i (ve_L C)) (ve_i (ve_K C)) (ve_i (ve_Q C)) (upd a_castAt at_ 0) a_types b_objType b_objVal b_vals b_frBody b_pc b_frThis b_frArg b_log := fun post k hk hp =>
      vy_110 h w hb hat rfl rfl hop hk tk (fun z => by omega) (fun z => by omega) (fun _ => hp) (fun z => by omega) (fun z => by omega)
    rcases Nat.eq_zero_or_pos (ve_fc G M (ve_Q C at_ % 16)) with z | z
    · exact ⟨0, vp_updL a_types k (lN (ve_Q C at_)), upd a_castAt at_ 0, nI (k + 1), nI (k + 1), fun _ => ⟨_, _, Or.inr (Or.inr (Or.inr (Or.inr ⟨e, Or.inl ⟨z, rfl⟩⟩))), ve_Ws_p ws (by omega) wo (by omega), ve_SR_p sr, by omega, rfl, rfl⟩,
        fun post hp => X4 post (vx_newN h w hE (by omega) hat rfl hop z hp), fun post hp => vy_tok4 h w hH hF hb hat e rfl hop wo hko ox (by omega) (fun _ => Y110 post k (by omega) hp) (fun a ea => by omega) (fun a ea => by omega)⟩
    · obtain ⟨a, ea⟩ : ∃ a, ve_fc G M (ve_Q C at_ % 16) = a + 1 := ⟨_, (Nat.succ_pred_eq_of_pos z).symm⟩
      cases st with
      | nil =>
        have k0 : k = 0 := sr
        exact ⟨-7, a_types, upd a_castAt at_ 0, nI k, nI k, fun z => absurd z (by decide), fun post hp => X4 post (vx_newS h w hE (by omega) hat rfl hop wo hko ox ea (by omega) (fun _ => hp) (fun j ej => by omega)),
          fun post hp => vy_tok4 h w hH hF hb hat e rfl hop wo hko ox (by omega) (fun y => by omega) (fun a' ea' _ => hp) (fun a' ea' j ej => by omega)⟩
      | cons q rest =>
        obtain ⟨j, rfl, tq, sr'⟩ := sr
        obtain ⟨kq, hkq, wq⟩ := ws q (by simp)
        cases es : ve_su G (ve_O M b) 32 q (ve_th G (ve_E M a - 1) a (ve_Q C at_)) with
        | false =>
          refine ⟨-9, a_types, upd a_castAt at_ 0, nI j, nI j, fun z => absurd z (by decide), fun post hp => X4 post (vx_newS h w hE (by omega) hat rfl hop wo hko ox ea (by omega) (fun y => by omega) (fun j' ej => ?_)),
            fun post hp => vy_tok4 h w hH hF hb hat e rfl hop wo hko ox (by omega) (fun y => by omega) (fun a' ea' y => by omega) (fun a' ea' j' ej => ?_)⟩
          · have : j' = j := by omega
            subst this
            exact ⟨q, kq, tq, wq, by omega, fun _ => hp, fun es' => ve_ft es es'⟩
          · have : j' = j := by omega
            subst this
            have : a' = a := by omega
            subst this
            exact ⟨q, kq, tq, wq, by omega, fun _ => hp, fun es' => ve_ft es es'⟩
        | true =>
          refine ⟨0, vp_updL a_types j (lN (ve_Q C at_)), upd a_castAt at_ 0, nI (j + 1), nI (j + 1), fun _ => ⟨_, _, Or.inr (Or.inr (Or.inr (Or.inr ⟨e, Or.inr ⟨a, q, rest, ea, rfl, ⟨32, es⟩, rfl⟩⟩))), ve_Ws_p (ve_Ws_t ws) (by omega) wo (by omega), ve_SR_p sr', by omega, rfl, rfl⟩,
            fun post hp => X4 post (vx_newS h w hE (by omega) hat rfl hop wo hko ox ea (by omega) (fun y => by omega) (fun j' ej => ?_)),
            fun post hp => vy_tok4 h w hH hF hb hat e rfl hop wo hko ox (by omega) (fun y => by omega) (fun a' ea' y => by omega) (fun a' ea' j' ej => ?_)⟩
          · have : j' = j := by omega
            subst this
            exact ⟨q, kq, tq, wq, by omega, fun es' => ve_ft es' es, fun _ => hp⟩
          · have : j' = j := by omega
            subst this
            have : a' = a := by omega
            subst this
            exact ⟨q, kq, tq, wq, by omega, fun es' => ve_ft es' es, fun _ => Y110 post j' (by omega) hp⟩
end
end
section
/-! check: a body, all bodies -/
section
variable {n nm : Nat} {G : ve_T} {M : ve_M} {C : ve_C} {f_x f_mainBody f_classLimit f_methodLimit f_checkState f_errorPlace f_typeTop f_objCount f_valueTop f_depth f_entered f_result f_keepTypes : Int32} {a_fieldType a_declared a_castAt a_objClass a_objField a_values a_frameBody a_framePc a_frameThis a_frameArg a_traced : Nat → Int32} {a_types a_objType : Nat → Int64}
variable {g_most g_mostMethods g_checked g_errAt g_depth g_entered g_result g_typed : Int32} {b_hasField b_fld b_objType b_objVal b_vals b_frBody b_pc b_frThis b_frArg b_log : Nat → Int32}
/-- the end of a body -/
theorem ve_bend (h : ve_WG n G) (w : ve_WM n nm G M) {b k : Nat} (hb : b < nm ∨ b = 12) {st : List Nat} (ws : ve_Ws n G (ve_O M b) 10 st) {tp : Nat → Int64} (sr : ve_SR tp st k) (hk : k ≤ 8) {ca : Nat → Int32} {i : Nat} (hi : i = ve_L C b) (hi8 : i ≤ 8) : ∃ r : Int32,
    (r = 0 → ve_TP n G M C b 0 st) ∧
    (∀ (post : Int32 → SX → Prop) (f : Nat), post r (f_x, f_mainBody, f_classLimit, f_methodLimit, (nI n), (nI nm), f_checkState, (nI i), (nI k), f_objCount, f_valueTop, f_depth, f_entered, f_result, f_keepTypes, (ve_i (ve_V G)), (ve_i (ve_B G)), (ve_i (ve_S G)), (ve_i (ve_A G)), a_fieldType, a_declared, (ve_i (ve_O M)), (ve_i (ve_P M)), (ve_i (ve_R M)), (ve_i (ve_L C)), (ve_i (ve_K C)), (ve_i (ve_Q C)), tp, ca, a_objClass, a_objField, a_values, a_objType, a_frameBody, a_framePc, a_frameThis, a_frameArg, a_traced) → wX_checkBody_10 post (nI b) (f + 1) f_x f_mainBody f_classLimit f_methodLimit (nI n) (nI nm) f_checkState (nI i) (nI k) f_objCount f_valueTop f_depth f_entered f_result f_keepTypes (ve_i (ve_V G)) (ve_i (ve_B G)) (ve_i (ve_S G)) (ve_i (ve_A G)) a_fieldType a_declared (ve_i (ve_O M)) (ve_i (ve_P M)) (ve_i (ve_R M)) (ve_i (ve_L C)) (ve_i (ve_K C)) (ve_i (ve_Q C)) tp ca a_objClass a_objField a_values a_objType a_frameBody a_framePc a_frameThis a_frameArg a_traced) ∧
    (∀ post : Int32 → Prop, post r → wpY_typeEnd post (g_most, g_mostMethods, (nI n), (nI nm), g_checked, g_errAt, (nI k), g_entered, g_result, g_typed, (ve_i (ve_V G)), (ve_i (ve_B G)), (ve_i (ve_S G)), (ve_i (ve_A G)), b_hasField, b_fld, (ve_i (ve_O M)), (ve_i (ve_N M)), (ve_i (ve_P M)), (ve_i (ve_R M)), (ve_i (ve_L C)), (ve_i (ve_K C)), (ve_i (ve_Q C)), ca, tp, b_objType, b_objVal, b_vals, b_frBody, b_pc, b_frThis, b_frArg, b_log) (nI b)) := by
  have n12 := ve_n12 h
  have hnm := w.1
  have oO := vg_O w h b
  have hib : vp_in (nI b) 13 := vp_in_nI (by omega) (by omega)
  have X : ∀ (post : Int32 → SX → Prop) (f : Nat), ((nI k = 1 → ((nI b = 12 → post 0 (f_x, f_mainBody, f_classLimit, f_methodLimit, (nI n), (nI nm), f_checkState, (nI i), (nI k), f_objCount, f_valueTop, f_depth, f_entered, f_result, f_keepTypes, (ve_i (ve_V G)), (ve_i (ve_B G)), (ve_i (ve_S G)), (ve_i (ve_A G)), a_fieldType, a_declared, (ve_i (ve_O M)), (ve_i (ve_P M)), (ve_i (ve_R M)), (ve_i (ve_L C)), (ve_i (ve_K C)), (ve_i (ve_Q C)), tp, ca, a_objClass, a_objField, a_values, a_objType, a_frameBody, a_framePc, a_frameThis, a_frameArg, a_traced)) ∧ (¬ nI b = 12 → (vp_in (nI b) 13 ∧ vp_in (nI b) 13 ∧ wpX_isSubtype (fun r_7 => (((r_7 = 0 → (post (-9) (f_x, f_mainBody, f_classLimit, f_methodLimit, (nI n), (nI nm), f_checkState, (nI i), (nI k), f_objCount, f_valueTop, f_depth, f_entered, f_result, f_keepTypes, (ve_i (ve_V G)), (ve_i (ve_B G)), (ve_i (ve_S G)), (ve_i (ve_A G)), a_fieldType, a_declared, (ve_i (ve_O M)), (ve_i (ve_P M)), (ve_i (ve_R M)), (ve_i (ve_L C)), (ve_i (ve_K C)), (ve_i (ve_Q C)), tp, ca, a_objClass, a_objField, a_values, a_objType, a_frameBody, a_framePc, a_frameThis, a_frameArg, a_traced))) ∧ (¬ r_7 = 0 → (post 0 (f_x, f_mainBody, f_classLimit, f_methodLimit, (nI n), (nI nm), f_checkState, (nI i), (nI k), f_objCount, f_valueTop, f_depth, f_entered, f_result, f_keepTypes, (ve_i (ve_V G)), (ve_i (ve_B G)), (ve_i (ve_S G)), (ve_i (ve_A G)), a_fieldType, a_declared, (ve_i (ve_O M)), (ve_i (ve_P M)), (ve_i (ve_R M)), (ve_i (ve_L C)), (ve_i (ve_K C)), (ve_i (ve_Q C)), tp, ca, a_objClass, a_objField, a_values, a_objType, a_frameBody, a_framePc, a_frameThis, a_frameArg, a_traced)))))) (f_x, f_mainBody, f_classLimit, f_methodLimit, (nI n), (nI nm), f_checkState, (nI i), (nI k), f_objCount, f_valueTop, f_depth, f_entered, f_result, f_keepTypes, (ve_i (ve_V G)), (ve_i (ve_B G)), (ve_i (ve_S G)), (ve_i (ve_A G)), a_fieldType, a_declared, (ve_i (ve_O M)), (ve_i (ve_P M)), (ve_i (ve_R M)), (ve_i (ve_L C)), (ve_i (ve_K C)), (ve_i (ve_Q C)), tp, ca, a_objClass, a_objField, a_values, a_objType, a_frameBody, a_framePc, a_frameThis, a_frameArg, a_traced) (tp 0) (ve_i (ve_R M) (nI b).toNatClampNeg).toInt64 (ve_i (ve_O M) (nI b).toNatClampNeg))))) ∧
      (¬ nI k = 1 → post (-7) (f_x, f_mainBody, f_classLimit, f_methodLimit, (nI n), (nI nm), f_checkState, (nI i), (nI k), f_objCount, f_valueTop, f_depth, f_entered, f_result, f_keepTypes, (ve_i (ve_V G)), (ve_i (ve_B G)), (ve_i (ve_S G)), (ve_i (ve_A G)), a_fieldType, a_declared, (ve_i (ve_O M)), (ve_i (ve_P M)), (ve_i (ve_R M)), (ve_i (ve_L C)), (ve_i (ve_K C)), (ve_i (ve_Q C)), tp, ca, a_objClass, a_objField, a_values, a_objType, a_frameBody, a_framePc, a_frameThis, a_frameArg, a_traced))) → wX_checkBody_10 post (nI b) (f + 1) f_x f_mainBody f_classLimit f_methodLimit (nI n) (nI nm) f_checkState (nI i) (nI k) f_objCount f_valueTop f_depth f_entered f_result f_keepTypes (ve_i (ve_V G)) (ve_i (ve_B G)) (ve_i (ve_S G)) (ve_i (ve_A G)) a_fieldType a_declared (ve_i (ve_O M)) (ve_i (ve_P M)) (ve_i (ve_R M)) (ve_i (ve_L C)) (ve_i (ve_K C)) (ve_i (ve_Q C)) tp ca a_objClass a_objField a_values a_objType a_frameBody a_framePc a_frameThis a_frameArg a_traced := by
    intro post f hp
    refine ⟨hib, br_t ?_ hp⟩
    rw [ve_at (by omega), hi]; exact Int32.le_refl _
  by_cases k1 : k = 1
  · subst k1
    obtain ⟨t, rfl⟩ : ∃ t, st = [t] := by
      match st, sr with
      | [], sr => exact absurd sr (by show ¬ 1 = 0; omega)
      | [t], _ => exact ⟨t, rfl⟩
      | t :: t2 :: rest, ⟨j, e, _, ⟨j2, e2, _, _⟩⟩ => omega
    obtain ⟨j, ej, tt, _⟩ := sr
    have j0 : j = 0 := by omega
    subst j0
    obtain ⟨kt, hkt, wt⟩ := ws t (by simp)
    by_cases b12 : b = 12
    · refine ⟨0, fun _ => ⟨ws, t, rfl, Or.inl b12⟩, fun post f hp => X post f (br_t rfl (br_t (by rw [b12]; rfl) hp)), fun post hp => ?_⟩
      unfold wpY_typeEnd
      dsimp only
      exact br_t rfl (br_t (by rw [b12]; rfl) hp)
    · have nb : ¬ nI b = 12 := fun z => b12 (ve_inj (b := 12) z (by omega) (by omega))
      have wm := w.2.1 b (by omega)
      obtain ⟨kR, hkR, wR⟩ := wm.2.2.1
      have bR := ve_W3b wm.2.2.1
      cases es : ve_su G (ve_O M b) 32 t (ve_R M b) with
      | false =>
        refine ⟨-9, fun z => absurd z (by decide), fun post f hp => X post f (br_t rfl (br_f nb ⟨hib, hib, ?_⟩)), fun post hp => ?_⟩
        · rw [tt, ve_at (by omega), ve_at (by omega), vl_i (by omega)]
          exact vx_sub h (by omega) wt wR (by omega) (by omega) (vb_c (fun _ => hp) (fun z => ve_ft es z))
        · unfold wpY_typeEnd
          dsimp only
          refine br_t rfl (br_f nb ⟨hib, hib, ?_⟩)
          rw [tt, ve_at (by omega), ve_at (by omega), vl_i (by omega)]
          exact vy_sub h (by omega) wt wR (by omega) (by omega) (vb_c (fun _ => hp) (fun z => ve_ft es z))
      | true =>
        refine ⟨0, fun _ => ⟨ws, t, rfl, Or.inr ⟨32, es⟩⟩, fun post f hp => X post f (br_t rfl (br_f nb ⟨hib, hib, ?_⟩)), fun post hp => ?_⟩
        · rw [tt, ve_at (by omega), ve_at (by omega), vl_i (by omega)]
          exact vx_sub h (by omega) wt wR (by omega) (by omega) (vb_c (fun z => ve_ft z es) (fun _ => hp))
        · unfold wpY_typeEnd
          dsimp only
          refine br_t rfl (br_f nb ⟨hib, hib, ?_⟩)
          rw [tt, ve_at (by omega), ve_at (by omega), vl_i (by omega)]
          exact vy_sub h (by omega) wt wR (by omega) (by omega) (vb_c (fun z => ve_ft z es) (fun _ => hp))
  · have nk : ¬ nI k = 1 := fun z => k1 (ve_inj (b := 1) z (by omega) (by omega))
    refine ⟨-7, fun z => absurd z (by decide), fun post f hp => X post f (br_f nk hp), fun post hp => ?_⟩
    unfold wpY_typeEnd
    dsimp only
    exact br_f nk hp
theorem ve_body (h : ve_WG n G) (w : ve_WM n nm G M) (wc : ve_WC n nm G M C) (fm : ve_FM M a_fieldType a_declared b_hasField b_fld) {b : Nat} (hb : b < nm ∨ b = 12) : ∀ f i st k (tp : Nat → Int64) (ca : Nat → Int32), i + f = ve_L C b →
    ve_Ws n G (ve_O M b) (2 + i) st → ve_SR tp st k → k ≤ i → ∃ (r : Int32) (tp' : Nat → Int64) (ca' : Nat → Int32) (ep : Nat) (tX tY : Int32), ep ≤ 8 ∧ (r = 0 → ve_TP n G M C b f st) ∧
    (∀ post : Int32 → SX → Prop, post r (f_x, f_mainBody, f_classLimit, f_methodLimit, (nI n), (nI nm), f_checkState, (nI ep), tX, f_objCount, f_valueTop, f_depth, f_entered, f_result, f_keepTypes, (ve_i (ve_V G)), (ve_i (ve_B G)), (ve_i (ve_S G)), (ve_i (ve_A G)), a_fieldType, a_declared, (ve_i (ve_O M)), (ve_i (ve_P M)), (ve_i (ve_R M)), (ve_i (ve_L C)), (ve_i (ve_K C)), (ve_i (ve_Q C)), tp', ca', a_objClass, a_objField, a_values, a_objType, a_frameBody, a_framePc, a_frameThis, a_frameArg, a_traced) → wX_checkBody_10 post (nI b) (f + 1) f_x f_mainBody f_classLimit f_methodLimit (nI n) (nI nm) f_checkState (nI i) (nI k) f_objCount f_valueTop f_depth f_entered f_result f_keepTypes (ve_i (ve_V G)) (ve_i (ve_B G)) (ve_i (ve_S G)) (ve_i (ve_A G)) a_fieldType a_declared (ve_i (ve_O M)) (ve_i (ve_P M)) (ve_i (ve_R M)) (ve_i (ve_L C)) (ve_i (ve_K C)) (ve_i (ve_Q C)) tp ca a_objClass a_objField a_values a_objType a_frameBody a_framePc a_frameThis a_frameArg a_traced) ∧
    (r = 0 → ∀ (post : Int32 → SY → Prop) (J : Int32 → Int32 → Int32 → Int32 → Int32 → Int32 → Int32 → Int32 → Int32 → Int32 → Int32 → (Nat → Int32) → (Nat → Int32) → (Nat → Int32) → (Nat → Int32) → (Nat → Int32) → (Nat → Int32) → (Nat → Int32) → (Nat → Int32) → (Nat → Int32) → (Nat → Int32) → (Nat → Int32) → (Nat → Int32) → (Nat → Int32) → (Nat → Int32) → (Nat → Int64) → (Nat → Int32) → (Nat → Int32) → (Nat → Int32) → (Nat → Int32) → (Nat → Int32) → (Nat → Int32) → (Nat → Int32) → (Nat → Int32) → Prop) (jj : Nat), J (nI (jj + 1)) g_most g_mostMethods (nI n) (nI nm) g_checked g_errAt tY g_entered g_result g_typed (ve_i (ve_V G)) (ve_i (ve_B G)) (ve_i (ve_S G)) (ve_i (ve_A G)) b_hasField b_fld (ve_i (ve_O M)) (ve_i (ve_N M)) (ve_i (ve_P M)) (ve_i (ve_R M)) (ve_i (ve_L C)) (ve_i (ve_K C)) (ve_i (ve_Q C)) ca' tp' b_objType b_objVal b_vals b_frBody b_pc b_frThis b_frArg b_log → wY_check_36 post J (nI jj) (nI b) (f + 2) (nI i) g_most g_mostMethods (nI n) (nI nm) g_checked g_errAt (nI k) g_entered g_result g_typed (ve_i (ve_V G)) (ve_i (ve_B G)) (ve_i (ve_S G)) (ve_i (ve_A G)) b_hasField b_fld (ve_i (ve_O M)) (ve_i (ve_N M)) (ve_i (ve_P M)) (ve_i (ve_R M)) (ve_i (ve_L C)) (ve_i (ve_K C)) (ve_i (ve_Q C)) ca tp b_objType b_objVal b_vals b_frBody b_pc b_frThis b_frArg b_log) ∧
    (r ≠ 0 → ∀ (post : Int32 → SY → Prop) (J : Int32 → Int32 → Int32 → Int32 → Int32 → Int32 → Int32 → Int32 → Int32 → Int32 → Int32 → (Nat → Int32) → (Nat → Int32) → (Nat → Int32) → (Nat → Int32) → (Nat → Int32) → (Nat → Int32) → (Nat → Int32) → (Nat → Int32) → (Nat → Int32) → (Nat → Int32) → (Nat → Int32) → (Nat → Int32) → (Nat → Int32) → (Nat → Int32) → (Nat → Int64) → (Nat → Int32) → (Nat → Int32) → (Nat → Int32) → (Nat → Int32) → (Nat → Int32) → (Nat → Int32) → (Nat → Int32) → (Nat → Int32) → Prop) (jj : Nat), post r (g_most, g_mostMethods, (nI n), (nI nm), g_checked, (nI (16 * jj + ep)), tY, g_entered, g_result, g_typed, (ve_i (ve_V G)), (ve_i (ve_B G)), (ve_i (ve_S G)), (ve_i (ve_A G)), b_hasField, b_fld, (ve_i (ve_O M)), (ve_i (ve_N M)), (ve_i (ve_P M)), (ve_i (ve_R M)), (ve_i (ve_L C)), (ve_i (ve_K C)), (ve_i (ve_Q C)), ca', tp', b_objType, b_objVal, b_vals, b_frBody, b_pc, b_frThis, b_frArg, b_log) → wY_check_36 post J (nI jj) (nI b) (f + 2) (nI i) g_most g_mostMethods (nI n) (nI nm) g_checked g_errAt (nI k) g_entered g_result g_typed (ve_i (ve_V G)) (ve_i (ve_B G)) (ve_i (ve_S G)) (ve_i (ve_A G)) b_hasField b_fld (ve_i (ve_O M)) (ve_i (ve_N M)) (ve_i (ve_P M)) (ve_i (ve_R M)) (ve_i (ve_L C)) (ve_i (ve_K C)) (ve_i (ve_Q C)) ca tp b_objType b_objVal b_vals b_frBody b_pc b_frThis b_frArg b_log) := by
  have n12 := ve_n12 h
  have hnm := w.1
  have hib : vp_in (nI b) 13 := vp_in_nI (by omega) (by omega)
  obtain ⟨l8, _⟩ := wc.1 b hb
  intro f
  induction f with
  | zero =>
    intro i st k tp ca hi ws sr hk
    have ws' : ve_Ws n G (ve_O M b) 10 st := fun x hx => by obtain ⟨kx, a1, a2⟩ := ws x hx; exact ⟨kx, by omega, a2⟩
    obtain ⟨r, rt, rX, rY⟩ := ve_bend (C := C) (ca := ca) (i := i) (a_fieldType := a_fieldType) (a_declared := a_declared) (f_x := f_x) (f_mainBody := f_mainBody) (f_classLimit := f_classLimit) (f_methodLimit := f_methodLimit) (f_checkState := f_checkState) (f_objCount := f_objCount) (f_valueTop := f_valueTop) (f_depth := f_depth) (f_entered := f_entered) (f_result := f_result) (f_keepTypes := f_keepTypes) (a_objClass := a_objClass) (a_objField := a_objField) (a_values := a_values) (a_objType := a_objType) (a_frameBody := a_frameBody) (a_framePc := a_framePc) (a_frameThis := a_frameThis) (a_frameArg := a_frameArg) (a_traced := a_traced)
      (g_most := g_most) (g_mostMethods := g_mostMethods) (g_checked := g_checked) (g_errAt := g_errAt) (g_entered := g_entered) (g_result := g_result) (g_typed := g_typed) (b_hasField := b_hasField) (b_fld := b_fld) (b_objType := b_objType) (b_objVal := b_objVal) (b_vals := b_vals) (b_frBody := b_frBody) (b_pc := b_pc) (b_frThis := b_frThis) (b_frArg := b_frArg) (b_log := b_log) h w hb ws' sr (by omega) (by omega) (by omega)
    have Yend : ∀ (post : Int32 → SY → Prop) (J : Int32 → Int32 → Int32 → Int32 → Int32 → Int32 → Int32 → Int32 → Int32 → Int32 → Int32 → (Nat → Int32) → (Nat → Int32) → (Nat → Int32) → (Nat → Int32) → (Nat → Int32) → (Nat → Int32) → (Nat → Int32) → (Nat → Int32) → (Nat → Int32) → (Nat → Int32) → (Nat → Int32) → (Nat → Int32) → (Nat → Int32) → (Nat → Int32) → (Nat → Int64) → (Nat → Int32) → (Nat → Int32) → (Nat → Int32) → (Nat → Int32) → (Nat → Int32) → (Nat → Int32) → (Nat → Int32) → (Nat → Int32) → Prop) (jj f' : Nat), wY_check_75 post J (wY_check_36 post J (nI jj) (nI b) f') (nI jj) (nI b) (nI i) r g_most g_mostMethods (nI n) (nI nm) g_checked g_errAt (nI k) g_entered g_result g_typed (ve_i (ve_V G)) (ve_i (ve_B G)) (ve_i (ve_S G)) (ve_i (ve_A G)) b_hasField b_fld (ve_i (ve_O M)) (ve_i (ve_N M)) (ve_i (ve_P M)) (ve_i (ve_R M)) (ve_i (ve_L C)) (ve_i (ve_K C)) (ve_i (ve_Q C)) ca tp b_objType b_objVal b_vals b_frBody b_pc b_frThis b_frArg b_log → wY_check_36 post J (nI jj) (nI b) (f' + 1) (nI i) g_most g_mostMethods (nI n) (nI nm) g_checked g_errAt (nI k) g_entered g_result g_typed (ve_i (ve_V G)) (ve_i (ve_B G)) (ve_i (ve_S G)) (ve_i (ve_A G)) b_hasField b_fld (ve_i (ve_O M)) (ve_i (ve_N M)) (ve_i (ve_P M)) (ve_i (ve_R M)) (ve_i (ve_L C)) (ve_i (ve_K C)) (ve_i (ve_Q C)) ca tp b_objType b_objVal b_vals b_frBody b_pc b_frThis b_frArg b_log := by
      intro post J jj f' hp
      have eL : ve_i (ve_L C) (nI b).toNatClampNeg = nI (ve_L C b) := ve_at (by omega)
      refine ⟨hib, br_f ?_ ⟨hib, br_t ?_ (rY _ hp)⟩⟩
      · rw [eL]; exact nI_nlt (by omega) (by omega)
      · rw [eL]; exact nI_le (by omega) (by omega)
    refine ⟨r, tp, ca, i, nI k, nI k, by omega, rt, fun post hp => rX post 0 hp, fun r0 post J jj hp => ?_, fun r0 post J jj hp => ?_⟩
    · refine Yend post J jj 1 ?_
      unfold wY_check_75
      refine br_t r0 (nm_r (nI_1 i) ⟨hib, br_t ?_ (nm_r (nI_1 jj) hp)⟩)
      rw [ve_at (by omega)]; exact nI_lt (by omega) (by omega)
    · refine Yend post J jj 1 ?_
      unfold wY_check_75
      exact br_f r0 (nm_r (v_16 jj i) hp)
  | succ f ih =>
    intro i st k tp ca hi ws sr hk
    have eL : ve_i (ve_L C) (nI b).toNatClampNeg = nI (ve_L C b) := ve_at (by omega)
    obtain ⟨r, tp', ca', tX, tY, rt, rX, rY⟩ := ve_tok (a_types := tp) (a_castAt := ca) (f_errorPlace := nI i) (f_x := f_x) (f_mainBody := f_mainBody) (f_classLimit := f_classLimit) (f_methodLimit := f_methodLimit) (f_checkState := f_checkState) (f_objCount := f_objCount) (f_valueTop := f_valueTop) (f_depth := f_depth) (f_entered := f_entered) (f_result := f_result) (f_keepTypes := f_keepTypes) (a_objClass := a_objClass) (a_objField := a_objField) (a_values := a_values) (a_objType := a_objType) (a_frameBody := a_frameBody) (a_framePc := a_framePc) (a_frameThis := a_frameThis) (a_frameArg := a_frameArg) (a_traced := a_traced)
      (g_most := g_most) (g_mostMethods := g_mostMethods) (g_checked := g_checked) (g_errAt := g_errAt) (g_entered := g_entered) (g_result := g_result) (g_typed := g_typed) (b_objType := b_objType) (b_objVal := b_objVal) (b_vals := b_vals) (b_frBody := b_frBody) (b_pc := b_pc) (b_frThis := b_frThis) (b_frArg := b_frArg) (b_log := b_log) h w wc fm wc.2.2 hb (by omega) ws sr hk
    have Xs : ∀ (post : Int32 → SX → Prop) (f' : Nat), ((r = 0 → wX_checkBody_10 post (nI b) f' f_x f_mainBody f_classLimit f_methodLimit (nI n) (nI nm) f_checkState (nI (i + 1)) tX f_objCount f_valueTop f_depth f_entered f_result f_keepTypes (ve_i (ve_V G)) (ve_i (ve_B G)) (ve_i (ve_S G)) (ve_i (ve_A G)) a_fieldType a_declared (ve_i (ve_O M)) (ve_i (ve_P M)) (ve_i (ve_R M)) (ve_i (ve_L C)) (ve_i (ve_K C)) (ve_i (ve_Q C)) tp' ca' a_objClass a_objField a_values a_objType a_frameBody a_framePc a_frameThis a_frameArg a_traced) ∧ (¬ r = 0 → post r (f_x, f_mainBody, f_classLimit, f_methodLimit, (nI n), (nI nm), f_checkState, (nI i), tX, f_objCount, f_valueTop, f_depth, f_entered, f_result, f_keepTypes, (ve_i (ve_V G)), (ve_i (ve_B G)), (ve_i (ve_S G)), (ve_i (ve_A G)), a_fieldType, a_declared, (ve_i (ve_O M)), (ve_i (ve_P M)), (ve_i (ve_R M)), (ve_i (ve_L C)), (ve_i (ve_K C)), (ve_i (ve_Q C)), tp', ca', a_objClass, a_objField, a_values, a_objType, a_frameBody, a_framePc, a_frameThis, a_frameArg, a_traced))) → wX_checkBody_10 post (nI b) (f' + 1) f_x f_mainBody f_classLimit f_methodLimit (nI n) (nI nm) f_checkState (nI i) (nI k) f_objCount f_valueTop f_depth f_entered f_result f_keepTypes (ve_i (ve_V G)) (ve_i (ve_B G)) (ve_i (ve_S G)) (ve_i (ve_A G)) a_fieldType a_declared (ve_i (ve_O M)) (ve_i (ve_P M)) (ve_i (ve_R M)) (ve_i (ve_L C)) (ve_i (ve_K C)) (ve_i (ve_Q C)) tp ca a_objClass a_objField a_values a_objType a_frameBody a_framePc a_frameThis a_frameArg a_traced := by
      intro post f' hp
      refine ⟨hib, br_f ?_ ?_⟩
      · rw [eL]; exact nI_ge (by omega) (by omega)
      · rw [v_8]
        refine rX _ ?_
        exact ⟨fun z => nm_r (nI_1 i) (hp.1 z), hp.2⟩
    have Ys : ∀ (post : Int32 → SY → Prop) (J : Int32 → Int32 → Int32 → Int32 → Int32 → Int32 → Int32 → Int32 → Int32 → Int32 → Int32 → (Nat → Int32) → (Nat → Int32) → (Nat → Int32) → (Nat → Int32) → (Nat → Int32) → (Nat → Int32) → (Nat → Int32) → (Nat → Int32) → (Nat → Int32) → (Nat → Int32) → (Nat → Int32) → (Nat → Int32) → (Nat → Int32) → (Nat → Int32) → (Nat → Int64) → (Nat → Int32) → (Nat → Int32) → (Nat → Int32) → (Nat → Int32) → (Nat → Int32) → (Nat → Int32) → (Nat → Int32) → (Nat → Int32) → Prop) (jj f' : Nat), wY_check_75 post J (wY_check_36 post J (nI jj) (nI b) f') (nI jj) (nI b) (nI i) r g_most g_mostMethods (nI n) (nI nm) g_checked g_errAt tY g_entered g_result g_typed (ve_i (ve_V G)) (ve_i (ve_B G)) (ve_i (ve_S G)) (ve_i (ve_A G)) b_hasField b_fld (ve_i (ve_O M)) (ve_i (ve_N M)) (ve_i (ve_P M)) (ve_i (ve_R M)) (ve_i (ve_L C)) (ve_i (ve_K C)) (ve_i (ve_Q C)) ca' tp' b_objType b_objVal b_vals b_frBody b_pc b_frThis b_frArg b_log → wY_check_36 post J (nI jj) (nI b) (f' + 1) (nI i) g_most g_mostMethods (nI n) (nI nm) g_checked g_errAt (nI k) g_entered g_result g_typed (ve_i (ve_V G)) (ve_i (ve_B G)) (ve_i (ve_S G)) (ve_i (ve_A G)) b_hasField b_fld (ve_i (ve_O M)) (ve_i (ve_N M)) (ve_i (ve_P M)) (ve_i (ve_R M)) (ve_i (ve_L C)) (ve_i (ve_K C)) (ve_i (ve_Q C)) ca tp b_objType b_objVal b_vals b_frBody b_pc b_frThis b_frArg b_log := by
      intro post J jj f' hp
      refine ⟨hib, br_f ?_ ⟨hib, br_f ?_ ?_⟩⟩
      · rw [eL]; exact nI_nlt (by omega) (by omega)
      · rw [eL]; exact nI_ge (by omega) (by omega)
      · rw [v_8]; exact rY _ hp
    by_cases r0 : r = 0
    · obtain ⟨st', k', ts, ws', sr', hk', eX, eY⟩ := rt r0
      subst eX; subst eY
      obtain ⟨r2, tp2, ca2, ep, tX2, tY2, hep, rt2, rX2, rY0, rY1⟩ := ih (i + 1) st' k' tp' ca' (by omega) ws' sr' hk'
      refine ⟨r2, tp2, ca2, ep, tX2, tY2, hep, fun z => ⟨fun x hx => ?_, st', ?_, rt2 z⟩, fun post hp => Xs post (f + 1) ⟨fun _ => rX2 post hp, fun z => absurd r0 z⟩, fun z post J jj hp => ?_, fun z post J jj hp => ?_⟩
      · obtain ⟨kx, a1, a2⟩ := ws x hx; exact ⟨kx, by omega, a2⟩
      · have e : ve_L C b - (f + 1) = i := by omega
        rw [e]; exact ts
      · refine Ys post J jj (f + 2) ?_
        unfold wY_check_75
        exact br_t r0 (nm_r (nI_1 i) (rY0 z post J jj hp))
      · refine Ys post J jj (f + 2) ?_
        unfold wY_check_75
        exact br_t r0 (nm_r (nI_1 i) (rY1 z post J jj hp))
    · refine ⟨r, tp', ca', i, tX, tY, by omega, fun z => absurd z r0, fun post hp => Xs post (f + 1) ⟨fun z => absurd z r0, fun _ => hp⟩, fun z => absurd z r0, fun z post J jj hp => Ys post J jj (f + 2) ?_⟩
      unfold wY_check_75
      exact br_f r0 (nm_r (v_16 jj i) hp)
def ve_cs (r : Int32) : Int32 := if r = 0 then 1 else 2
def ve_cb0 (r g : Int32) : Int32 := if r = 0 then 1 else g
def ve_ce (r e e' : Int32) : Int32 := if r = 0 then e else e'
theorem ve_bodies (h : ve_WG n G) (w : ve_WM n nm G M) (wc : ve_WC n nm G M C) (fm : ve_FM M a_fieldType a_declared b_hasField b_fld) : ∀ f j (tp : Nat → Int64) (ca : Nat → Int32) (e0 t0 d0 : Int32), j + f = nm + 1 →
    (∀ b, b < j → b < nm → ve_TP n G M C b (ve_L C b) []) → (nm < j → ve_TP n G M C 12 (ve_L C 12) []) → ∃ (r : Int32) (tp' : Nat → Int64) (ca' : Nat → Int32) (ep tX tY : Int32), (r = 0 → ve_CK n nm G M C) ∧
    (∀ post : Int32 → SX → Prop, post r (f_x, f_mainBody, f_classLimit, f_methodLimit, (nI n), (nI nm), (ve_cs r), ep, tX, f_objCount, f_valueTop, f_depth, f_entered, f_result, f_keepTypes, (ve_i (ve_V G)), (ve_i (ve_B G)), (ve_i (ve_S G)), (ve_i (ve_A G)), a_fieldType, a_declared, (ve_i (ve_O M)), (ve_i (ve_P M)), (ve_i (ve_R M)), (ve_i (ve_L C)), (ve_i (ve_K C)), (ve_i (ve_Q C)), tp', ca', a_objClass, a_objField, a_values, a_objType, a_frameBody, a_framePc, a_frameThis, a_frameArg, a_traced) → wX_check_8 post (f + 1) 0 (nI j) f_x f_mainBody f_classLimit f_methodLimit (nI n) (nI nm) f_checkState e0 t0 f_objCount f_valueTop f_depth f_entered f_result f_keepTypes (ve_i (ve_V G)) (ve_i (ve_B G)) (ve_i (ve_S G)) (ve_i (ve_A G)) a_fieldType a_declared (ve_i (ve_O M)) (ve_i (ve_P M)) (ve_i (ve_R M)) (ve_i (ve_L C)) (ve_i (ve_K C)) (ve_i (ve_Q C)) tp ca a_objClass a_objField a_values a_objType a_frameBody a_framePc a_frameThis a_frameArg a_traced) ∧
    (∀ post : Int32 → SY → Prop, post r (g_most, g_mostMethods, (nI n), (nI nm), (ve_cb0 r g_checked), (ve_ce r g_errAt ep), tY, g_entered, g_result, g_typed, (ve_i (ve_V G)), (ve_i (ve_B G)), (ve_i (ve_S G)), (ve_i (ve_A G)), b_hasField, b_fld, (ve_i (ve_O M)), (ve_i (ve_N M)), (ve_i (ve_P M)), (ve_i (ve_R M)), (ve_i (ve_L C)), (ve_i (ve_K C)), (ve_i (ve_Q C)), ca', tp', b_objType, b_objVal, b_vals, b_frBody, b_pc, b_frThis, b_frArg, b_log) → wY_check_6 post (f + 1) (nI j) g_most g_mostMethods (nI n) (nI nm) g_checked g_errAt d0 g_entered g_result g_typed (ve_i (ve_V G)) (ve_i (ve_B G)) (ve_i (ve_S G)) (ve_i (ve_A G)) b_hasField b_fld (ve_i (ve_O M)) (ve_i (ve_N M)) (ve_i (ve_P M)) (ve_i (ve_R M)) (ve_i (ve_L C)) (ve_i (ve_K C)) (ve_i (ve_Q C)) ca tp b_objType b_objVal b_vals b_frBody b_pc b_frThis b_frArg b_log) := by
  have n12 := ve_n12 h
  have hnm := w.1
  intro f
  induction f with
  | zero =>
    intro j tp ca e0 t0 d0 hj q1 q2
    refine ⟨0, tp, ca, e0, t0, d0, fun _ b hb => ?_, fun post hp => ?_, fun post hp => ?_⟩
    · rcases hb with z | z
      · exact q1 b (by omega) z
      · subst z; exact q2 (by omega)
    · refine br_t (nI_lt (by omega) (by omega)) ?_
      unfold wX_check_58
      exact br_t rfl hp
    · exact br_t (nI_lt (by omega) (by omega)) hp
  | succ f ih =>
    intro j tp ca e0 t0 d0 hj q1 q2
    have one : ∀ b, (b < nm ∨ b = 12) → ∃ (r : Int32) (tp' : Nat → Int64) (ca' : Nat → Int32) (ep : Nat) (tX tY : Int32), ep ≤ 8 ∧ (r = 0 → ve_TP n G M C b (ve_L C b) []) ∧
        (∀ (post : Int32 → SX → Prop) f', (∀ y : Int32, y = nI (16 * j + ep) → wX_check_8 post f' r (nI (j + 1)) f_x f_mainBody f_classLimit f_methodLimit (nI n) (nI nm) f_checkState y tX f_objCount f_valueTop f_depth f_entered f_result f_keepTypes (ve_i (ve_V G)) (ve_i (ve_B G)) (ve_i (ve_S G)) (ve_i (ve_A G)) a_fieldType a_declared (ve_i (ve_O M)) (ve_i (ve_P M)) (ve_i (ve_R M)) (ve_i (ve_L C)) (ve_i (ve_K C)) (ve_i (ve_Q C)) tp' ca' a_objClass a_objField a_values a_objType a_frameBody a_framePc a_frameThis a_frameArg a_traced) → wX_check_35 post (wX_check_8 post f') (nI j) (nI b) f_x f_mainBody f_classLimit f_methodLimit (nI n) (nI nm) f_checkState e0 t0 f_objCount f_valueTop f_depth f_entered f_result f_keepTypes (ve_i (ve_V G)) (ve_i (ve_B G)) (ve_i (ve_S G)) (ve_i (ve_A G)) a_fieldType a_declared (ve_i (ve_O M)) (ve_i (ve_P M)) (ve_i (ve_R M)) (ve_i (ve_L C)) (ve_i (ve_K C)) (ve_i (ve_Q C)) tp ca a_objClass a_objField a_values a_objType a_frameBody a_framePc a_frameThis a_frameArg a_traced) ∧
        (r = 0 → ∀ (post : Int32 → SY → Prop) (J : Int32 → Int32 → Int32 → Int32 → Int32 → Int32 → Int32 → Int32 → Int32 → Int32 → Int32 → (Nat → Int32) → (Nat → Int32) → (Nat → Int32) → (Nat → Int32) → (Nat → Int32) → (Nat → Int32) → (Nat → Int32) → (Nat → Int32) → (Nat → Int32) → (Nat → Int32) → (Nat → Int32) → (Nat → Int32) → (Nat → Int32) → (Nat → Int32) → (Nat → Int64) → (Nat → Int32) → (Nat → Int32) → (Nat → Int32) → (Nat → Int32) → (Nat → Int32) → (Nat → Int32) → (Nat → Int32) → (Nat → Int32) → Prop), J (nI (j + 1)) g_most g_mostMethods (nI n) (nI nm) g_checked g_errAt tY g_entered g_result g_typed (ve_i (ve_V G)) (ve_i (ve_B G)) (ve_i (ve_S G)) (ve_i (ve_A G)) b_hasField b_fld (ve_i (ve_O M)) (ve_i (ve_N M)) (ve_i (ve_P M)) (ve_i (ve_R M)) (ve_i (ve_L C)) (ve_i (ve_K C)) (ve_i (ve_Q C)) ca' tp' b_objType b_objVal b_vals b_frBody b_pc b_frThis b_frArg b_log → ∃ n36, wY_check_36 post J (nI j) (nI b) n36 0 g_most g_mostMethods (nI n) (nI nm) g_checked g_errAt 0 g_entered g_result g_typed (ve_i (ve_V G)) (ve_i (ve_B G)) (ve_i (ve_S G)) (ve_i (ve_A G)) b_hasField b_fld (ve_i (ve_O M)) (ve_i (ve_N M)) (ve_i (ve_P M)) (ve_i (ve_R M)) (ve_i (ve_L C)) (ve_i (ve_K C)) (ve_i (ve_Q C)) ca tp b_objType b_objVal b_vals b_frBody b_pc b_frThis b_frArg b_log) ∧
        (r ≠ 0 → ∀ (post : Int32 → SY → Prop) (J : Int32 → Int32 → Int32 → Int32 → Int32 → Int32 → Int32 → Int32 → Int32 → Int32 → Int32 → (Nat → Int32) → (Nat → Int32) → (Nat → Int32) → (Nat → Int32) → (Nat → Int32) → (Nat → Int32) → (Nat → Int32) → (Nat → Int32) → (Nat → Int32) → (Nat → Int32) → (Nat → Int32) → (Nat → Int32) → (Nat → Int32) → (Nat → Int32) → (Nat → Int64) → (Nat → Int32) → (Nat → Int32) → (Nat → Int32) → (Nat → Int32) → (Nat → Int32) → (Nat → Int32) → (Nat → Int32) → (Nat → Int32) → Prop), post r (g_most, g_mostMethods, (nI n), (nI nm), g_checked, (nI (16 * j + ep)), tY, g_entered, g_result, g_typed, (ve_i (ve_V G)), (ve_i (ve_B G)), (ve_i (ve_S G)), (ve_i (ve_A G)), b_hasField, b_fld, (ve_i (ve_O M)), (ve_i (ve_N M)), (ve_i (ve_P M)), (ve_i (ve_R M)), (ve_i (ve_L C)), (ve_i (ve_K C)), (ve_i (ve_Q C)), ca', tp', b_objType, b_objVal, b_vals, b_frBody, b_pc, b_frThis, b_frArg, b_log) → ∃ n36, wY_check_36 post J (nI j) (nI b) n36 0 g_most g_mostMethods (nI n) (nI nm) g_checked g_errAt 0 g_entered g_result g_typed (ve_i (ve_V G)) (ve_i (ve_B G)) (ve_i (ve_S G)) (ve_i (ve_A G)) b_hasField b_fld (ve_i (ve_O M)) (ve_i (ve_N M)) (ve_i (ve_P M)) (ve_i (ve_R M)) (ve_i (ve_L C)) (ve_i (ve_K C)) (ve_i (ve_Q C)) ca tp b_objType b_objVal b_vals b_frBody b_pc b_frThis b_frArg b_log) := by
      intro b hb
      obtain ⟨r, tp', ca', ep, tX, tY, hep, rt, rX, rY0, rY1⟩ := ve_body (C := C) (f_x := f_x) (f_mainBody := f_mainBody) (f_classLimit := f_classLimit) (f_methodLimit := f_methodLimit) (f_checkState := f_checkState) (f_objCount := f_objCount) (f_valueTop := f_valueTop) (f_depth := f_depth) (f_entered := f_entered) (f_result := f_result) (f_keepTypes := f_keepTypes) (a_objClass := a_objClass) (a_objField := a_objField) (a_values := a_values) (a_objType := a_objType) (a_frameBody := a_frameBody) (a_framePc := a_framePc) (a_frameThis := a_frameThis) (a_frameArg := a_frameArg) (a_traced := a_traced)
        (g_most := g_most) (g_mostMethods := g_mostMethods) (g_checked := g_checked) (g_errAt := g_errAt) (g_entered := g_entered) (g_result := g_result) (g_typed := g_typed) (b_objType := b_objType) (b_objVal := b_objVal) (b_vals := b_vals) (b_frBody := b_frBody) (b_pc := b_pc) (b_frThis := b_frThis) (b_frArg := b_frArg) (b_log := b_log) h w wc fm hb (ve_L C b) 0 [] 0 tp ca (by omega) (fun x hx => by simp at hx) rfl (by omega)
      refine ⟨r, tp', ca', ep, tX, tY, hep, rt, fun post f' hp => ?_, fun r0 post J hp => ⟨_, rY0 r0 post J j hp⟩, fun r0 post J hp => ⟨_, rY1 r0 post J j hp⟩⟩
      unfold wX_check_35
      refine ⟨_, rX _ ?_⟩
      refine nm_r (e' := nI (16 * j + ep)) ?_ (nm_r (nI_1 j) (hp _ rfl))
      rw [v_16', Nat.add_comm]
    have step : ∀ b, (b < nm ∨ b = 12) → (j < nm → b = j) → (nm ≤ j → b = 12) → ∃ (r : Int32) (tp' : Nat → Int64) (ca' : Nat → Int32) (ep tX tY : Int32), (r = 0 → ve_CK n nm G M C) ∧
        (∀ post : Int32 → SX → Prop, post r (f_x, f_mainBody, f_classLimit, f_methodLimit, (nI n), (nI nm), (ve_cs r), ep, tX, f_objCount, f_valueTop, f_depth, f_entered, f_result, f_keepTypes, (ve_i (ve_V G)), (ve_i (ve_B G)), (ve_i (ve_S G)), (ve_i (ve_A G)), a_fieldType, a_declared, (ve_i (ve_O M)), (ve_i (ve_P M)), (ve_i (ve_R M)), (ve_i (ve_L C)), (ve_i (ve_K C)), (ve_i (ve_Q C)), tp', ca', a_objClass, a_objField, a_values, a_objType, a_frameBody, a_framePc, a_frameThis, a_frameArg, a_traced) → wX_check_35 post (wX_check_8 post (f + 1)) (nI j) (nI b) f_x f_mainBody f_classLimit f_methodLimit (nI n) (nI nm) f_checkState e0 t0 f_objCount f_valueTop f_depth f_entered f_result f_keepTypes (ve_i (ve_V G)) (ve_i (ve_B G)) (ve_i (ve_S G)) (ve_i (ve_A G)) a_fieldType a_declared (ve_i (ve_O M)) (ve_i (ve_P M)) (ve_i (ve_R M)) (ve_i (ve_L C)) (ve_i (ve_K C)) (ve_i (ve_Q C)) tp ca a_objClass a_objField a_values a_objType a_frameBody a_framePc a_frameThis a_frameArg a_traced) ∧
        (∀ post : Int32 → SY → Prop, post r (g_most, g_mostMethods, (nI n), (nI nm), (ve_cb0 r g_checked), (ve_ce r g_errAt ep), tY, g_entered, g_result, g_typed, (ve_i (ve_V G)), (ve_i (ve_B G)), (ve_i (ve_S G)), (ve_i (ve_A G)), b_hasField, b_fld, (ve_i (ve_O M)), (ve_i (ve_N M)), (ve_i (ve_P M)), (ve_i (ve_R M)), (ve_i (ve_L C)), (ve_i (ve_K C)), (ve_i (ve_Q C)), ca', tp', b_objType, b_objVal, b_vals, b_frBody, b_pc, b_frThis, b_frArg, b_log) → ∃ n36, wY_check_36 post (wY_check_6 post (f + 1)) (nI j) (nI b) n36 0 g_most g_mostMethods (nI n) (nI nm) g_checked g_errAt 0 g_entered g_result g_typed (ve_i (ve_V G)) (ve_i (ve_B G)) (ve_i (ve_S G)) (ve_i (ve_A G)) b_hasField b_fld (ve_i (ve_O M)) (ve_i (ve_N M)) (ve_i (ve_P M)) (ve_i (ve_R M)) (ve_i (ve_L C)) (ve_i (ve_K C)) (ve_i (ve_Q C)) ca tp b_objType b_objVal b_vals b_frBody b_pc b_frThis b_frArg b_log) := by
      intro b hb hb1 hb2
      obtain ⟨r, tp', ca', ep, tX, tY, hep, rt, rX, rY0, rY1⟩ := one b hb
      by_cases r0 : r = 0
      · have q1' : ∀ b', b' < j + 1 → b' < nm → ve_TP n G M C b' (ve_L C b') [] := by
          intro b' h1 h2
          by_cases z : b' = j
          · subst z
            have := hb1 h2
            subst this
            exact rt r0
          · exact q1 b' (by omega) h2
        have q2' : nm < j + 1 → ve_TP n G M C 12 (ve_L C 12) [] := by
          intro h1
          have := hb2 (by omega)
          subst this
          exact rt r0
        obtain ⟨r2, tp2, ca2, ep2, tX2, tY2, ck2, X2, Y2⟩ := ih (j + 1) tp' ca' (nI (16 * j + ep)) tX tY (by omega) q1' q2'
        subst r0
        exact ⟨r2, tp2, ca2, ep2, tX2, tY2, ck2, fun post hp => rX post (f + 1) (fun y ey => by rw [ey]; exact X2 post hp), fun post hp => rY0 rfl post _ (Y2 post hp)⟩
      · have s1 : ve_cs r = 2 := by unfold ve_cs; rw [if_neg r0]
        have s2 : ve_cb0 r g_checked = g_checked := by unfold ve_cb0; rw [if_neg r0]
        have s3 : ∀ e e', ve_ce r e e' = e' := fun e e' => by unfold ve_ce; rw [if_neg r0]
        refine ⟨r, tp', ca', nI (16 * j + ep), tX, tY, fun z => absurd z r0, fun post hp => rX post (f + 1) (fun y ey => ?_), fun post hp => rY1 r0 post _ ?_⟩
        · rw [ey]
          rw [s1] at hp
          have fin : wX_check_58 post r f_x f_mainBody f_classLimit f_methodLimit (nI n) (nI nm) f_checkState (nI (16 * j + ep)) tX f_objCount f_valueTop f_depth f_entered f_result f_keepTypes (ve_i (ve_V G)) (ve_i (ve_B G)) (ve_i (ve_S G)) (ve_i (ve_A G)) a_fieldType a_declared (ve_i (ve_O M)) (ve_i (ve_P M)) (ve_i (ve_R M)) (ve_i (ve_L C)) (ve_i (ve_K C)) (ve_i (ve_Q C)) tp' ca' a_objClass a_objField a_values a_objType a_frameBody a_framePc a_frameThis a_frameArg a_traced := by
            unfold wX_check_58
            exact br_f r0 hp
          exact br_c (fun _ => fin) (fun _ => br_f r0 fin)
        · rw [s2, s3] at hp; exact hp
    rcases Nat.lt_or_ge j nm with z | z
    · obtain ⟨r, tp', ca', ep, tX, tY, ck, hX, hY⟩ := step j (Or.inl z) (fun _ => rfl) (fun y => by omega)
      exact ⟨r, tp', ca', ep, tX, tY, ck, fun post hp => br_f (nI_nlt (by omega) (by omega)) (br_t rfl (br_f (nI_ge z (by omega)) (hX post hp))), fun post hp => br_f (nI_nlt (by omega) (by omega)) (br_f (nI_ge z (by omega)) (hY post hp))⟩
    · obtain ⟨r, tp', ca', ep, tX, tY, ck, hX, hY⟩ := step 12 (Or.inr rfl) (fun y => by omega) (fun _ => rfl)
      exact ⟨r, tp', ca', ep, tX, tY, ck, fun post hp => br_f (nI_nlt (by omega) (by omega)) (br_t rfl (br_t (nI_le z (by omega)) (hX post hp))), fun post hp => br_f (nI_nlt (by omega) (by omega)) (br_t (nI_le z (by omega)) (hY post hp))⟩
end
theorem i_vc_check {k : Nat} {u : SX} {v : SY} (I : i_Rel k u v) (hk : k + 5 ≤ 2562) : wpX_check (fun r u' => wpY_check (fun r' v' => r' = r ∧ i_Rel (k + 5) u' v') v) u := by
  refine ve_el (P := fun u v => wpX_check (fun r u' => wpY_check (fun r' v' => r' = r ∧ i_Rel (k + 5) u' v') v) u) ?_ I
  intro n nm G M C f_x f_mainBody f_classLimit f_methodLimit f_checkState f_errorPlace f_typeTop f_objCount f_valueTop f_depth f_entered f_result f_keepTypes a_fieldType a_declared a_types a_castAt a_objClass a_objField a_values a_objType a_frameBody a_framePc a_frameThis a_frameArg a_traced g_most g_mostMethods g_checked g_errAt g_depth g_entered g_result g_typed b_hasField b_fld b_need b_types b_objType b_objVal b_vals b_frBody b_pc b_frThis b_frArg b_log F
  obtain ⟨⟨h, w, wc⟩, lim, fm, ⟨t1, t2, t3, t4⟩, _, _⟩ := F
  subst t1; subst t2
  obtain ⟨r, tp', ca', ep, tX, tY, ck, hX, hY⟩ := ve_bodies (C := C) (f_x := f_x) (f_mainBody := f_mainBody) (f_classLimit := f_classLimit) (f_methodLimit := f_methodLimit) (f_checkState := 0) (f_objCount := f_objCount) (f_valueTop := f_valueTop) (f_depth := f_depth) (f_entered := 0) (f_result := -1) (f_keepTypes := f_keepTypes) (a_objClass := a_objClass) (a_objField := a_objField) (a_values := a_values) (a_objType := a_objType) (a_frameBody := a_frameBody) (a_framePc := a_framePc) (a_frameThis := a_frameThis) (a_frameArg := a_frameArg) (a_traced := a_traced)
    (g_most := g_most) (g_mostMethods := g_mostMethods) (g_checked := 0) (g_errAt := -1) (g_entered := 0) (g_result := -1) (g_typed := g_typed) (b_objType := b_objType) (b_objVal := b_objVal) (b_vals := b_vals) (b_frBody := b_frBody) (b_pc := b_pc) (b_frThis := b_frThis) (b_frArg := b_frArg) (b_log := b_log) h w wc fm (nm + 1) 0 b_types b_need f_errorPlace f_typeTop g_depth (by omega) (fun b hb => by omega) (fun hb => by omega)
  unfold wpX_check wpX_forget
  dsimp only
  refine ⟨_, hX _ ?_⟩
  unfold wpY_check wpY_forget
  dsimp only
  refine ⟨_, hY _ ⟨rfl, ?_⟩⟩
  refine ve_in ⟨⟨h, w, wc⟩, lim, fm, ⟨rfl, rfl, t3, t4⟩, ?_, ve_FR_0⟩
  by_cases r0 : r = 0
  · subst r0; exact Or.inr (Or.inl ⟨rfl, rfl, rfl, ck rfl⟩)
  · unfold ve_cs ve_cb0 ve_ce
    rw [if_neg r0, if_neg r0, if_neg r0]
    exact Or.inr (Or.inr ⟨rfl, rfl, rfl⟩)
end
section
/-! run: counts, and X's steps -/
def ve_pw (C : ve_C) (fb fp : Nat → Nat) : Nat → Nat
  | 0 => ve_L C (fb 0) - fp 0
  | f + 1 => ve_pw C fb fp f + (ve_L C (fb (f + 1)) - fp (f + 1))
theorem ve_pw_c {C : ve_C} {fb fb' fp fp' : Nat → Nat} : ∀ {f : Nat}, (∀ i, i ≤ f → fb' i = fb i ∧ fp' i = fp i) → ve_pw C fb' fp' f = ve_pw C fb fp f
  | 0, e => by unfold ve_pw; rw [(e 0 (by omega)).1, (e 0 (by omega)).2]
  | f + 1, e => by
    unfold ve_pw
    rw [ve_pw_c (fun i hi => e i (by omega)), (e (f + 1) (by omega)).1, (e (f + 1) (by omega)).2]
theorem ve_pw_i {C : ve_C} {fb fp : Nat → Nat} {f : Nat} (h : fp f < ve_L C (fb f)) : ve_pw C fb (ve_u fp f (fp f + 1)) f + 1 = ve_pw C fb fp f := by
  cases f with
  | zero => unfold ve_pw; rw [ve_u_s]; omega
  | succ f =>
    unfold ve_pw
    rw [ve_pw_c (fb := fb) (fp := fp) (fun i hi => ⟨rfl, ve_u_n (by omega)⟩), ve_u_s]; omega
def ve_x71 (post : Int32 → SX → Prop) (n : Nat) (i : Int32) (r : Int32) (u : SX) : Prop := match u with
  | (f_x, f_mainBody, f_classLimit, f_methodLimit, f_classCount, f_methodCount, f_checkState, f_errorPlace, f_typeTop, f_objCount, f_valueTop, f_depth, f_entered, f_result, f_keepTypes, a_varOf, a_boundOf, a_supOf, a_argOf, a_fieldType, a_declared, a_owner, a_paramType, a_returnType, a_bodyLength, a_kinds, a_operands, a_types, a_castAt, a_objClass, a_objField, a_values, a_objType, a_frameBody, a_framePc, a_frameThis, a_frameArg, a_traced) => wX_run_71 post n r i f_x f_mainBody f_classLimit f_methodLimit f_classCount f_methodCount f_checkState f_errorPlace f_typeTop f_objCount f_valueTop f_depth f_entered f_result f_keepTypes a_varOf a_boundOf a_supOf a_argOf a_fieldType a_declared a_owner a_paramType a_returnType a_bodyLength a_kinds a_operands a_types a_castAt a_objClass a_objField a_values a_objType a_frameBody a_framePc a_frameThis a_frameArg a_traced
section
variable {n nm : Nat} {G : ve_T} {M : ve_M} {C : ve_C} {f_x f_mainBody f_classLimit f_methodLimit f_checkState f_errorPlace f_typeTop f_objCount f_valueTop f_depth f_entered f_result f_keepTypes : Int32} {a_fieldType a_declared a_castAt a_objClass a_objField a_values a_frameBody a_framePc a_frameThis a_frameArg a_traced : Nat → Int32} {a_types a_objType : Nat → Int64} {post : Int32 → SX → Prop}
theorem vx_71 {f s fu : Nat} (hf : f < 100) (hs : s < 400) (hp : wpX_step (ve_x71 post fu (nI (s + 1))) (f_x, f_mainBody, f_classLimit, f_methodLimit, (nI n), (nI nm), f_checkState, f_errorPlace, f_typeTop, f_objCount, f_valueTop, (nI (f + 1)), f_entered, f_result, f_keepTypes, (ve_i (ve_V G)), (ve_i (ve_B G)), (ve_i (ve_S G)), (ve_i (ve_A G)), a_fieldType, a_declared, (ve_i (ve_O M)), (ve_i (ve_P M)), (ve_i (ve_R M)), (ve_i (ve_L C)), (ve_i (ve_K C)), (ve_i (ve_Q C)), a_types, a_castAt, a_objClass, a_objField, a_values, a_objType, a_frameBody, a_framePc, a_frameThis, a_frameArg, a_traced)) : wX_run_71 post (fu + 1) 0 (nI s) f_x f_mainBody f_classLimit f_methodLimit (nI n) (nI nm) f_checkState f_errorPlace f_typeTop f_objCount f_valueTop (nI (f + 1)) f_entered f_result f_keepTypes (ve_i (ve_V G)) (ve_i (ve_B G)) (ve_i (ve_S G)) (ve_i (ve_A G)) a_fieldType a_declared (ve_i (ve_O M)) (ve_i (ve_P M)) (ve_i (ve_R M)) (ve_i (ve_L C)) (ve_i (ve_K C)) (ve_i (ve_Q C)) a_types a_castAt a_objClass a_objField a_values a_objType a_frameBody a_framePc a_frameThis a_frameArg a_traced := by
  refine br_f (nI_ge (b := 400) hs (by omega)) (br_f (nI_nle (by omega) (by omega)) (br_t rfl ?_))
  rw [nI_1]
  have e : (fun (r_50 : Int32) (u : SX) => ∀ x3_89, x3_89 = nI (s + 1) → ve_x71 post fu x3_89 r_50 u) = ve_x71 post fu (nI (s + 1)) := by
    funext r u
    exact propext ⟨fun z => z _ rfl, fun z y ey => by rw [ey]; exact z⟩
  rw [← e] at hp
  exact hp
/-- a code other than 0 ends the run -/
theorem vx_71e {r : Int32} {s fu : Nat} (hr : r ≠ 0) (hp : post r (f_x, f_mainBody, f_classLimit, f_methodLimit, (nI n), (nI nm), f_checkState, f_errorPlace, f_typeTop, f_objCount, f_valueTop, f_depth, f_entered, f_result, f_keepTypes, (ve_i (ve_V G)), (ve_i (ve_B G)), (ve_i (ve_S G)), (ve_i (ve_A G)), a_fieldType, a_declared, (ve_i (ve_O M)), (ve_i (ve_P M)), (ve_i (ve_R M)), (ve_i (ve_L C)), (ve_i (ve_K C)), (ve_i (ve_Q C)), a_types, a_castAt, a_objClass, a_objField, a_values, a_objType, a_frameBody, a_framePc, a_frameThis, a_frameArg, a_traced)) : wX_run_71 post (fu + 1) r (nI s) f_x f_mainBody f_classLimit f_methodLimit (nI n) (nI nm) f_checkState f_errorPlace f_typeTop f_objCount f_valueTop f_depth f_entered f_result f_keepTypes (ve_i (ve_V G)) (ve_i (ve_B G)) (ve_i (ve_S G)) (ve_i (ve_A G)) a_fieldType a_declared (ve_i (ve_O M)) (ve_i (ve_P M)) (ve_i (ve_R M)) (ve_i (ve_L C)) (ve_i (ve_K C)) (ve_i (ve_Q C)) a_types a_castAt a_objClass a_objField a_values a_objType a_frameBody a_framePc a_frameThis a_frameArg a_traced := by
  have fin : wX_run_100 post r f_x f_mainBody f_classLimit f_methodLimit (nI n) (nI nm) f_checkState f_errorPlace f_typeTop f_objCount f_valueTop f_depth f_entered f_result f_keepTypes (ve_i (ve_V G)) (ve_i (ve_B G)) (ve_i (ve_S G)) (ve_i (ve_A G)) a_fieldType a_declared (ve_i (ve_O M)) (ve_i (ve_P M)) (ve_i (ve_R M)) (ve_i (ve_L C)) (ve_i (ve_K C)) (ve_i (ve_Q C)) a_types a_castAt a_objClass a_objField a_values a_objType a_frameBody a_framePc a_frameThis a_frameArg a_traced := br_f hr hp
  exact br_c (fun _ => fin) (fun _ => br_c (fun _ => fin) (fun _ => br_f hr fin))
theorem vx_71d {s fu : Nat} (hp : post 0 (f_x, f_mainBody, f_classLimit, f_methodLimit, (nI n), (nI nm), f_checkState, f_errorPlace, f_typeTop, f_objCount, f_valueTop, 0, f_entered, (a_values 0), f_keepTypes, (ve_i (ve_V G)), (ve_i (ve_B G)), (ve_i (ve_S G)), (ve_i (ve_A G)), a_fieldType, a_declared, (ve_i (ve_O M)), (ve_i (ve_P M)), (ve_i (ve_R M)), (ve_i (ve_L C)), (ve_i (ve_K C)), (ve_i (ve_Q C)), a_types, a_castAt, a_objClass, a_objField, a_values, a_objType, a_frameBody, a_framePc, a_frameThis, a_frameArg, a_traced)) : wX_run_71 post (fu + 1) 0 (nI s) f_x f_mainBody f_classLimit f_methodLimit (nI n) (nI nm) f_checkState f_errorPlace f_typeTop f_objCount f_valueTop 0 f_entered f_result f_keepTypes (ve_i (ve_V G)) (ve_i (ve_B G)) (ve_i (ve_S G)) (ve_i (ve_A G)) a_fieldType a_declared (ve_i (ve_O M)) (ve_i (ve_P M)) (ve_i (ve_R M)) (ve_i (ve_L C)) (ve_i (ve_K C)) (ve_i (ve_Q C)) a_types a_castAt a_objClass a_objField a_values a_objType a_frameBody a_framePc a_frameThis a_frameArg a_traced := by
  have fin : wX_run_100 post 0 f_x f_mainBody f_classLimit f_methodLimit (nI n) (nI nm) f_checkState f_errorPlace f_typeTop f_objCount f_valueTop 0 f_entered f_result f_keepTypes (ve_i (ve_V G)) (ve_i (ve_B G)) (ve_i (ve_S G)) (ve_i (ve_A G)) a_fieldType a_declared (ve_i (ve_O M)) (ve_i (ve_P M)) (ve_i (ve_R M)) (ve_i (ve_L C)) (ve_i (ve_K C)) (ve_i (ve_Q C)) a_types a_castAt a_objClass a_objField a_values a_objType a_frameBody a_framePc a_frameThis a_frameArg a_traced := br_t rfl (nm_e hp)
  exact br_c (fun _ => fin) (fun _ => br_t (by decide) fin)
theorem vx_stepE {f b p : Nat} (hf : f < 33) (hb : b < 13) (eb : a_frameBody f = nI b) (ep : a_framePc f = nI p) (hl : ve_L C b ≤ 8) (hp8 : p < 100) (hle : ve_L C b ≤ p) (hp : post 0 (f_x, f_mainBody, f_classLimit, f_methodLimit, (nI n), (nI nm), f_checkState, f_errorPlace, f_typeTop, f_objCount, f_valueTop, (nI f), f_entered, f_result, f_keepTypes, (ve_i (ve_V G)), (ve_i (ve_B G)), (ve_i (ve_S G)), (ve_i (ve_A G)), a_fieldType, a_declared, (ve_i (ve_O M)), (ve_i (ve_P M)), (ve_i (ve_R M)), (ve_i (ve_L C)), (ve_i (ve_K C)), (ve_i (ve_Q C)), a_types, a_castAt, a_objClass, a_objField, a_values, a_objType, a_frameBody, a_framePc, a_frameThis, a_frameArg, a_traced)) : wpX_step post (f_x, f_mainBody, f_classLimit, f_methodLimit, (nI n), (nI nm), f_checkState, f_errorPlace, f_typeTop, f_objCount, f_valueTop, (nI (f + 1)), f_entered, f_result, f_keepTypes, (ve_i (ve_V G)), (ve_i (ve_B G)), (ve_i (ve_S G)), (ve_i (ve_A G)), a_fieldType, a_declared, (ve_i (ve_O M)), (ve_i (ve_P M)), (ve_i (ve_R M)), (ve_i (ve_L C)), (ve_i (ve_K C)), (ve_i (ve_Q C)), a_types, a_castAt, a_objClass, a_objField, a_values, a_objType, a_frameBody, a_framePc, a_frameThis, a_frameArg, a_traced) := by
  unfold wpX_step
  dsimp only
  refine nm_r (nI_pred f) ⟨vp_in_nI hf (by omega), nm_r (e' := nI b) (by rw [nI_clamp (by omega), eb]) ⟨vp_in_nI hf (by omega), vp_in_nI hb (by omega), ?_⟩⟩
  rw [nI_clamp (n := f) (by omega), ep, ve_at (by omega)]
  exact br_f (nI_nlt hle (by omega)) (nm_r (nI_pred f) hp)
/-- the token that is next -/
theorem vx_stepT {f b p at_ : Nat} (hf : f < 33) (hb : b < 13) (eb : a_frameBody f = nI b) (ep : a_framePc f = nI p) (hl : ve_L C b ≤ 8) (hlt : p < ve_L C b) (ea : 8 * b + p = at_) (hat : at_ < 104) (hk : ve_K C at_ ≤ 4)
    (h3 : ve_K C at_ = 3 → wpX_runCall post (f_x, f_mainBody, f_classLimit, f_methodLimit, (nI n), (nI nm), f_checkState, f_errorPlace, f_typeTop, f_objCount, f_valueTop, (nI (f + 1)), f_entered, f_result, f_keepTypes, (ve_i (ve_V G)), (ve_i (ve_B G)), (ve_i (ve_S G)), (ve_i (ve_A G)), a_fieldType, a_declared, (ve_i (ve_O M)), (ve_i (ve_P M)), (ve_i (ve_R M)), (ve_i (ve_L C)), (ve_i (ve_K C)), (ve_i (ve_Q C)), a_types, a_castAt, a_objClass, a_objField, a_values, a_objType, a_frameBody, (upd a_framePc f (nI (p + 1))), a_frameThis, a_frameArg, a_traced) (nI (ve_Q C at_)))
    (h4 : ve_K C at_ = 4 → wpX_runNew post (f_x, f_mainBody, f_classLimit, f_methodLimit, (nI n), (nI nm), f_checkState, f_errorPlace, f_typeTop, f_objCount, f_valueTop, (nI (f + 1)), f_entered, f_result, f_keepTypes, (ve_i (ve_V G)), (ve_i (ve_B G)), (ve_i (ve_S G)), (ve_i (ve_A G)), a_fieldType, a_declared, (ve_i (ve_O M)), (ve_i (ve_P M)), (ve_i (ve_R M)), (ve_i (ve_L C)), (ve_i (ve_K C)), (ve_i (ve_Q C)), a_types, a_castAt, a_objClass, a_objField, a_values, a_objType, a_frameBody, (upd a_framePc f (nI (p + 1))), a_frameThis, a_frameArg, a_traced) (nI f) (nI (ve_Q C at_)))
    (h2 : ve_K C at_ = 2 → ∀ y : Int32, y = f_valueTop - 1 → vp_in (f_valueTop - 1) 264 ∧ vp_in (a_values (f_valueTop - 1).toNatClampNeg) 264 ∧ wpX_pushValue post (f_x, f_mainBody, f_classLimit, f_methodLimit, (nI n), (nI nm), f_checkState, f_errorPlace, f_typeTop, f_objCount, y, (nI (f + 1)), f_entered, f_result, f_keepTypes, (ve_i (ve_V G)), (ve_i (ve_B G)), (ve_i (ve_S G)), (ve_i (ve_A G)), a_fieldType, a_declared, (ve_i (ve_O M)), (ve_i (ve_P M)), (ve_i (ve_R M)), (ve_i (ve_L C)), (ve_i (ve_K C)), (ve_i (ve_Q C)), a_types, a_castAt, a_objClass, a_objField, a_values, a_objType, a_frameBody, (upd a_framePc f (nI (p + 1))), a_frameThis, a_frameArg, a_traced) (a_objField (a_values (f_valueTop - 1).toNatClampNeg).toNatClampNeg))
    (h0 : ve_K C at_ = 0 → wpX_pushValue post (f_x, f_mainBody, f_classLimit, f_methodLimit, (nI n), (nI nm), f_checkState, f_errorPlace, f_typeTop, f_objCount, f_valueTop, (nI (f + 1)), f_entered, f_result, f_keepTypes, (ve_i (ve_V G)), (ve_i (ve_B G)), (ve_i (ve_S G)), (ve_i (ve_A G)), a_fieldType, a_declared, (ve_i (ve_O M)), (ve_i (ve_P M)), (ve_i (ve_R M)), (ve_i (ve_L C)), (ve_i (ve_K C)), (ve_i (ve_Q C)), a_types, a_castAt, a_objClass, a_objField, a_values, a_objType, a_frameBody, (upd a_framePc f (nI (p + 1))), a_frameThis, a_frameArg, a_traced) (a_frameArg f)) (h1 : ve_K C at_ = 1 → wpX_pushValue post (f_x, f_mainBody, f_classLimit, f_methodLimit, (nI n), (nI nm), f_checkState, f_errorPlace, f_typeTop, f_objCount, f_valueTop, (nI (f + 1)), f_entered, f_result, f_keepTypes, (ve_i (ve_V G)), (ve_i (ve_B G)), (ve_i (ve_S G)), (ve_i (ve_A G)), a_fieldType, a_declared, (ve_i (ve_O M)), (ve_i (ve_P M)), (ve_i (ve_R M)), (ve_i (ve_L C)), (ve_i (ve_K C)), (ve_i (ve_Q C)), a_types, a_castAt, a_objClass, a_objField, a_values, a_objType, a_frameBody, (upd a_framePc f (nI (p + 1))), a_frameThis, a_frameArg, a_traced) (a_frameThis f)) :
    wpX_step post (f_x, f_mainBody, f_classLimit, f_methodLimit, (nI n), (nI nm), f_checkState, f_errorPlace, f_typeTop, f_objCount, f_valueTop, (nI (f + 1)), f_entered, f_result, f_keepTypes, (ve_i (ve_V G)), (ve_i (ve_B G)), (ve_i (ve_S G)), (ve_i (ve_A G)), a_fieldType, a_declared, (ve_i (ve_O M)), (ve_i (ve_P M)), (ve_i (ve_R M)), (ve_i (ve_L C)), (ve_i (ve_K C)), (ve_i (ve_Q C)), a_types, a_castAt, a_objClass, a_objField, a_values, a_objType, a_frameBody, a_framePc, a_frameThis, a_frameArg, a_traced) := by
  have hin : vp_in (nI at_) 104 := vp_in_nI hat (by omega)
  have hif : vp_in (nI f) 33 := vp_in_nI hf (by omega)
  unfold wpX_step
  dsimp only
  refine nm_r (nI_pred f) ⟨hif, nm_r (e' := nI b) (by rw [nI_clamp (by omega), eb]) ⟨hif, vp_in_nI hb (by omega), ?_⟩⟩
  rw [nI_clamp (n := f) (by omega), ep, ve_at (f := ve_L C) (by omega), nI_1]
  refine br_t (nI_lt hlt (by omega)) ⟨hif, hif, nm_e (nm_r (e' := nI at_) (by rw [v_8, ea]) ⟨hin, ?_⟩)⟩
  rw [ve_at (f := ve_K C) (by omega), ve_at (f := ve_Q C) (by omega)]
  refine pk_eq (ve_K C at_) 3 (fun e => ⟨hin, h3 e⟩) (fun e3 => ⟨hin, pk_eq (ve_K C at_) 4 (fun e => ⟨hin, h4 e⟩) (fun e4 => ⟨hin, pk_eq (ve_K C at_) 2 (fun e => h2 e) (fun e2 => ⟨hin, pk_eq (ve_K C at_) 0 (fun e => ⟨hif, ?_⟩) (fun e0 => ⟨hif, ?_⟩)⟩)⟩)⟩)
  · unfold wX_step_162; exact h0 e
  · unfold wX_step_162; exact h1 (by omega)
theorem vx_pushV {sp x : Nat} (hsp : sp < 264) (hx : x < 264) (hp : post 0 (f_x, f_mainBody, f_classLimit, f_methodLimit, (nI n), (nI nm), f_checkState, f_errorPlace, f_typeTop, f_objCount, (nI (sp + 1)), f_depth, f_entered, f_result, f_keepTypes, (ve_i (ve_V G)), (ve_i (ve_B G)), (ve_i (ve_S G)), (ve_i (ve_A G)), a_fieldType, a_declared, (ve_i (ve_O M)), (ve_i (ve_P M)), (ve_i (ve_R M)), (ve_i (ve_L C)), (ve_i (ve_K C)), (ve_i (ve_Q C)), a_types, a_castAt, a_objClass, a_objField, (upd a_values sp (nI x)), a_objType, a_frameBody, a_framePc, a_frameThis, a_frameArg, a_traced)) : wpX_pushValue post (f_x, f_mainBody, f_classLimit, f_methodLimit, (nI n), (nI nm), f_checkState, f_errorPlace, f_typeTop, f_objCount, (nI sp), f_depth, f_entered, f_result, f_keepTypes, (ve_i (ve_V G)), (ve_i (ve_B G)), (ve_i (ve_S G)), (ve_i (ve_A G)), a_fieldType, a_declared, (ve_i (ve_O M)), (ve_i (ve_P M)), (ve_i (ve_R M)), (ve_i (ve_L C)), (ve_i (ve_K C)), (ve_i (ve_Q C)), a_types, a_castAt, a_objClass, a_objField, a_values, a_objType, a_frameBody, a_framePc, a_frameThis, a_frameArg, a_traced) (nI x) := by
  unfold wpX_pushValue
  dsimp only
  rw [nI_clamp (by omega)]
  exact br_t (nI_pos' (by omega)) (nm_r (nI_1 sp) ⟨vp_in_nI hsp (by omega), nm_e hp⟩)
theorem vx_call (h : ve_WG n G) (w : ve_WM n nm G M) (hD : ∀ j, j < 64 → a_declared j = ve_d (ve_D M j)) {s nk o i j m d en : Nat} (hs : s + 2 ≤ 264) (hnk : nk < 4) (e1 : a_values (s + 1) = nI j) (e0 : a_values s = nI i) (hi : i < 264) (ec : a_objClass i = nI o) (ho : o < 16)
    (em : ve_mt G M o nk = m + 1) (hen : en ≤ 32) (hd : d < 33 ∨ en = 32)
    (hL : en = 32 → post (-11) (f_x, f_mainBody, f_classLimit, f_methodLimit, (nI n), (nI nm), f_checkState, f_errorPlace, f_typeTop, f_objCount, (nI s), (nI d), (nI en), f_result, f_keepTypes, (ve_i (ve_V G)), (ve_i (ve_B G)), (ve_i (ve_S G)), (ve_i (ve_A G)), a_fieldType, a_declared, (ve_i (ve_O M)), (ve_i (ve_P M)), (ve_i (ve_R M)), (ve_i (ve_L C)), (ve_i (ve_K C)), (ve_i (ve_Q C)), a_types, a_castAt, a_objClass, a_objField, a_values, a_objType, a_frameBody, a_framePc, a_frameThis, a_frameArg, a_traced))
    (hC : en < 32 → post 0 (f_x, f_mainBody, f_classLimit, f_methodLimit, (nI n), (nI nm), f_checkState, f_errorPlace, f_typeTop, f_objCount, (nI s), (nI (d + 1)), (nI (en + 1)), f_result, f_keepTypes, (ve_i (ve_V G)), (ve_i (ve_B G)), (ve_i (ve_S G)), (ve_i (ve_A G)), a_fieldType, a_declared, (ve_i (ve_O M)), (ve_i (ve_P M)), (ve_i (ve_R M)), (ve_i (ve_L C)), (ve_i (ve_K C)), (ve_i (ve_Q C)), a_types, a_castAt, a_objClass, a_objField, a_values, a_objType, (upd a_frameBody d (nI m)), (upd a_framePc d 0), (upd a_frameThis d (nI i)), (upd a_frameArg d (nI j)), (upd a_traced en (nI m)))) :
    wpX_runCall post (f_x, f_mainBody, f_classLimit, f_methodLimit, (nI n), (nI nm), f_checkState, f_errorPlace, f_typeTop, f_objCount, (nI (s + 2)), (nI d), (nI en), f_result, f_keepTypes, (ve_i (ve_V G)), (ve_i (ve_B G)), (ve_i (ve_S G)), (ve_i (ve_A G)), a_fieldType, a_declared, (ve_i (ve_O M)), (ve_i (ve_P M)), (ve_i (ve_R M)), (ve_i (ve_L C)), (ve_i (ve_K C)), (ve_i (ve_Q C)), a_types, a_castAt, a_objClass, a_objField, a_values, a_objType, a_frameBody, a_framePc, a_frameThis, a_frameArg, a_traced) (nI nk) := by
  have hm := (ve_mt_s h w hnk em).1
  have hnm := w.1
  have p2 : nI (s + 2) - 1 = nI (s + 1) := nI_pred (s + 1)
  unfold wpX_runCall
  dsimp only
  refine nm_r p2 ?_
  rw [p2, nI_clamp (n := s + 1) (by omega), e1]
  refine ⟨vp_in_nI (by omega) (by omega), nm_e (nm_r (nI_pred s) ?_)⟩
  rw [nI_pred, nI_clamp (n := s) (by omega), e0]
  refine ⟨vp_in_nI (by omega) (by omega), nm_e ?_⟩
  rw [nI_clamp (n := i) (by omega), ec]
  refine ⟨vp_in_nI hi (by omega), vx_mo h hnk hD (ve_Dle w) ho ?_⟩
  show (0 ≤ ve_d (ve_mt G M o nk) → _) ∧ _
  rw [em]
  refine br_t (nI_pos' (n := m) (by omega)) (pk_lt en 32 (fun z => nm_r (nI_1 en) ?_) (fun z => hL (by omega)))
  rw [nI_clamp (n := en) (by omega)]
  refine ⟨vp_in_nI z (by omega), nm_e ?_⟩
  unfold wpX_enter
  dsimp only
  have hd' : d < 33 := by omega
  have hid : vp_in (nI d) 33 := vp_in_nI hd' (by omega)
  rw [nI_clamp (n := d) (by omega)]
  exact ⟨hid, nm_e ⟨hid, nm_e ⟨hid, nm_e ⟨hid, nm_e (nm_r (nI_1 d) (hC z))⟩⟩⟩⟩
/-- NEW, the type that it keeps -/
theorem vx_new71 (h : ve_WG n G) {f oc op s o T : Nat} (hf : f < 33) (hoc : oc < 264) (hs : s < 264) (hop : op < 4096) (ho : o < 16) {z0 : Int32} {ko : Nat} (wo : ve_wt n G o ko op) (hko : ko ≤ 3)
    (ht : (a_frameThis f = -1 ∧ T = op) ∨ (∃ t, t < 264 ∧ a_frameThis f = nI t ∧ (f_keepTypes ≠ 0 → ∃ U, U < 4096 ∧ a_objType t = lN U ∧ T = ve_th G op o U)))
    (y : Int64) (hy0 : f_keepTypes = 0 → y = lN op) (hy1 : f_keepTypes ≠ 0 → y = lN T) (hp : post 0 (f_x, f_mainBody, f_classLimit, f_methodLimit, (nI n), (nI nm), f_checkState, f_errorPlace, f_typeTop, f_objCount, (nI (s + 1)), f_depth, f_entered, f_result, f_keepTypes, (ve_i (ve_V G)), (ve_i (ve_B G)), (ve_i (ve_S G)), (ve_i (ve_A G)), a_fieldType, a_declared, (ve_i (ve_O M)), (ve_i (ve_P M)), (ve_i (ve_R M)), (ve_i (ve_L C)), (ve_i (ve_K C)), (ve_i (ve_Q C)), a_types, a_castAt, a_objClass, (upd a_objField oc z0), (upd a_values s (nI oc)), (vp_updL a_objType oc y), a_frameBody, a_framePc, a_frameThis, a_frameArg, a_traced)) :
    wX_runNew_71 post (nI f) (nI op) (nI oc) (nI o) z0 (nI oc) f_x f_mainBody f_classLimit f_methodLimit (nI n) (nI nm) f_checkState f_errorPlace f_typeTop f_objCount (nI s) f_depth f_entered f_result f_keepTypes (ve_i (ve_V G)) (ve_i (ve_B G)) (ve_i (ve_S G)) (ve_i (ve_A G)) a_fieldType a_declared (ve_i (ve_O M)) (ve_i (ve_P M)) (ve_i (ve_R M)) (ve_i (ve_L C)) (ve_i (ve_K C)) (ve_i (ve_Q C)) a_types a_castAt a_objClass a_objField a_values a_objType a_frameBody a_framePc a_frameThis a_frameArg a_traced := by
  have hio : vp_in (nI oc) 264 := vp_in_nI hoc (by omega)
  have hif : vp_in (nI f) 33 := vp_in_nI hf (by omega)
  have fin : wX_runNew_117 post (nI oc) y (nI oc) f_x f_mainBody f_classLimit f_methodLimit (nI n) (nI nm) f_checkState f_errorPlace f_typeTop f_objCount (nI s) f_depth f_entered f_result f_keepTypes (ve_i (ve_V G)) (ve_i (ve_B G)) (ve_i (ve_S G)) (ve_i (ve_A G)) a_fieldType a_declared (ve_i (ve_O M)) (ve_i (ve_P M)) (ve_i (ve_R M)) (ve_i (ve_L C)) (ve_i (ve_K C)) (ve_i (ve_Q C)) a_types a_castAt a_objClass (upd a_objField oc z0) a_values a_objType a_frameBody a_framePc a_frameThis a_frameArg a_traced := by
    unfold wX_runNew_117
    rw [nI_clamp (by omega)]
    exact ⟨hio, nm_e (vx_pushV (post := fun r u => post r u) hs hoc hp)⟩
  unfold wX_runNew_71 wX_runNew_93
  rw [nI_clamp (n := oc) (by omega), nI_clamp (n := f) (by omega), vl_i (a := op) (by omega)]
  refine ⟨hio, nm_e ⟨hif, ?_⟩⟩
  rcases ht with ⟨e, eT⟩ | ⟨t, ht, e, eT⟩
  · rw [e]
    have ey : y = lN op := by
      by_cases z : f_keepTypes = 0
      · exact hy0 z
      · rw [hy1 z, eT]
    rw [ey] at fin
    exact br_t (by decide) fin
  · rw [e, nI_clamp (n := t) (by omega)]
    refine br_f (nI_pos (by omega)) (br_c (fun z => ?_) (fun z => ⟨hif, vp_in_nI ht (by omega), ?_⟩))
    · rw [hy0 z] at fin; exact fin
    · obtain ⟨U, hU, eU, eT⟩ := eT z
      rw [eU]
      rw [hy1 z, eT] at fin
      exact vx_th h ho (by omega) wo hko fin
theorem vx_new (h : ve_WG n G) (w : ve_WM n nm G M) (hE : ∀ c, c < 16 → a_fieldType c = ve_d (ve_E M c)) {f b oc op s sp T y : Nat} (hf : f < 33) (hb : b < 13) (eb : a_frameBody f = nI b) (hoc : oc < 264) (hs : s < 264) (hop : op < 4096) {ko : Nat} (wo : ve_wt n G (ve_O M b) ko op) (hko : ko ≤ 3)
    (ht : (a_frameThis f = -1 ∧ T = op) ∨ (∃ t, t < 264 ∧ a_frameThis f = nI t ∧ (f_keepTypes ≠ 0 → ∃ U, U < 4096 ∧ a_objType t = lN U ∧ T = ve_th G op (ve_O M b) U)))
    (hy : (ve_fc G M (op % 16) = 0 ∧ y = 0 ∧ s = sp) ∨ (ve_fc G M (op % 16) ≠ 0 ∧ sp = s + 1 ∧ ∃ x, y = x + 1 ∧ a_values s = nI x))
    (z : Int64) (hz0 : f_keepTypes = 0 → z = lN op) (hz1 : f_keepTypes ≠ 0 → z = lN T) (hp : post 0 (f_x, f_mainBody, f_classLimit, f_methodLimit, (nI n), (nI nm), f_checkState, f_errorPlace, f_typeTop, (nI (oc + 1)), (nI (s + 1)), f_depth, f_entered, f_result, f_keepTypes, (ve_i (ve_V G)), (ve_i (ve_B G)), (ve_i (ve_S G)), (ve_i (ve_A G)), a_fieldType, a_declared, (ve_i (ve_O M)), (ve_i (ve_P M)), (ve_i (ve_R M)), (ve_i (ve_L C)), (ve_i (ve_K C)), (ve_i (ve_Q C)), a_types, a_castAt, (upd a_objClass oc (nI (op % 16))), (upd a_objField oc (ve_d y)), (upd a_values s (nI oc)), (vp_updL a_objType oc z), a_frameBody, a_framePc, a_frameThis, a_frameArg, a_traced)) :
    wpX_runNew post (f_x, f_mainBody, f_classLimit, f_methodLimit, (nI n), (nI nm), f_checkState, f_errorPlace, f_typeTop, (nI oc), (nI sp), f_depth, f_entered, f_result, f_keepTypes, (ve_i (ve_V G)), (ve_i (ve_B G)), (ve_i (ve_S G)), (ve_i (ve_A G)), a_fieldType, a_declared, (ve_i (ve_O M)), (ve_i (ve_P M)), (ve_i (ve_R M)), (ve_i (ve_L C)), (ve_i (ve_K C)), (ve_i (ve_Q C)), a_types, a_castAt, a_objClass, a_objField, a_values, a_objType, a_frameBody, a_framePc, a_frameThis, a_frameArg, a_traced) (nI f) (nI op) := by
  have n12 := ve_n12 h
  have oO := vg_O w h b
  unfold wpX_runNew
  dsimp only
  rw [nI_clamp (n := f) (by omega), eb, nI_clamp (n := oc) (by omega), pk_andN (by omega) 4 (by decide)]
  refine nm_r (nI_1 oc) ⟨vp_in_nI hf (by omega), vp_in_nI hb (by omega), nm_r (ve_at (by omega)) ⟨vp_in_nI hoc (by omega), nm_e (vx_fo h hE (ve_Ele w) (by omega) ?_)⟩⟩
  rcases hy with ⟨e, rfl, rfl⟩ | ⟨e, rfl, x, rfl, ex⟩
  · show (0 ≤ ve_d (ve_fc G M (op % 16)) → _) ∧ _
    rw [e]
    exact br_f (by decide) (vx_new71 h hf hoc hs hop (by omega) wo hko ht z hz0 hz1 hp)
  · refine vd_ge (ve_fcb h (by omega)) (fun a ea => ?_) (fun y => absurd y e)
    rw [nI_pred, nI_clamp (n := s) (by omega), ex]
    exact nm_e ⟨vp_in_nI hs (by omega), vx_new71 h hf hoc hs hop (by omega) wo hko ht z hz0 hz1 hp⟩
end
end
section
/-! run: Y's steps -/
section
variable {n nm : Nat} {G : ve_T} {M : ve_M} {C : ve_C} {g_most g_mostMethods g_checked g_errAt g_depth g_entered g_result g_typed : Int32} {b_hasField b_fld b_need b_objType b_objVal b_vals b_frBody b_pc b_frThis b_frArg b_log : Nat → Int32} {b_types : Nat → Int64} {post : Int32 → SY → Prop}
theorem vy_stepE {f b p sp oc s fu : Nat} (hf : f < 40) (hb : b < 13) (hs : s < 299) (eb : b_frBody f = nI b) (ep : b_pc f = nI p) (hl : ve_L C b ≤ 8) (hp8 : p < 100) (hle : ve_L C b ≤ p)
    (h0 : f = 0 → post 0 (g_most, g_mostMethods, (nI n), (nI nm), g_checked, g_errAt, g_depth, g_entered, (b_vals 0), g_typed, (ve_i (ve_V G)), (ve_i (ve_B G)), (ve_i (ve_S G)), (ve_i (ve_A G)), b_hasField, b_fld, (ve_i (ve_O M)), (ve_i (ve_N M)), (ve_i (ve_P M)), (ve_i (ve_R M)), (ve_i (ve_L C)), (ve_i (ve_K C)), (ve_i (ve_Q C)), b_need, b_types, b_objType, b_objVal, b_vals, b_frBody, b_pc, b_frThis, b_frArg, b_log)) (h1 : ∀ g, f = g + 1 → wY_run_69 post g_most g_mostMethods (nI n) (nI nm) g_checked g_errAt g_depth g_result g_typed fu (nI g) (nI sp) (nI oc) (nI (s + 1)) g_entered (ve_i (ve_V G)) (ve_i (ve_B G)) (ve_i (ve_S G)) (ve_i (ve_A G)) b_hasField b_fld (ve_i (ve_O M)) (ve_i (ve_N M)) (ve_i (ve_P M)) (ve_i (ve_R M)) (ve_i (ve_L C)) (ve_i (ve_K C)) (ve_i (ve_Q C)) b_need b_types b_objType b_objVal b_vals b_frBody b_pc b_frThis b_frArg b_log) :
    wY_run_69 post g_most g_mostMethods (nI n) (nI nm) g_checked g_errAt g_depth g_result g_typed (fu + 1) (nI f) (nI sp) (nI oc) (nI s) g_entered (ve_i (ve_V G)) (ve_i (ve_B G)) (ve_i (ve_S G)) (ve_i (ve_A G)) b_hasField b_fld (ve_i (ve_O M)) (ve_i (ve_N M)) (ve_i (ve_P M)) (ve_i (ve_R M)) (ve_i (ve_L C)) (ve_i (ve_K C)) (ve_i (ve_Q C)) b_need b_types b_objType b_objVal b_vals b_frBody b_pc b_frThis b_frArg b_log := by
  have hif : vp_in (nI f) 40 := vp_in_nI hf (by omega)
  refine br_f (nI_ge (b := 299) hs (by omega)) ⟨hif, nm_r (e' := nI b) (by rw [nI_clamp (by omega), eb]) ⟨hif, ?_⟩⟩
  rw [nI_clamp (n := f) (by omega), ep, ve_at (f := ve_L C) (by omega)]
  refine nm_r (v_8 b p) ⟨hif, vp_in_nI hb (by omega), br_f (nI_nlt hle (by omega)) (pk_eq f 0 (fun e => nm_e (h0 e)) (fun e => ?_))⟩
  obtain ⟨g, rfl⟩ : ∃ g, f = g + 1 := ⟨f - 1, by omega⟩
  exact nm_r (pk_m1 g) (nm_r (nI_1 s) (h1 g rfl))
theorem vy_stepT {f b p at_ sp oc s fu en : Nat} (hf : f < 40) (hb : b < 13) (hs : s < 299) (hsp : sp < 300) (hen : en ≤ 32) (eb : b_frBody f = nI b) (ep : b_pc f = nI p) (hl : ve_L C b ≤ 8) (hlt : p < ve_L C b) (ea : 8 * b + p = at_) (hat : at_ < 104) (hk : ve_K C at_ ≤ 4)
    (h3 : ve_K C at_ = 3 → (en = 32 → post (-11) (g_most, g_mostMethods, (nI n), (nI nm), g_checked, g_errAt, g_depth, (nI en), g_result, g_typed, (ve_i (ve_V G)), (ve_i (ve_B G)), (ve_i (ve_S G)), (ve_i (ve_A G)), b_hasField, b_fld, (ve_i (ve_O M)), (ve_i (ve_N M)), (ve_i (ve_P M)), (ve_i (ve_R M)), (ve_i (ve_L C)), (ve_i (ve_K C)), (ve_i (ve_Q C)), b_need, b_types, b_objType, b_objVal, b_vals, b_frBody, b_pc, b_frThis, b_frArg, b_log)) ∧ (en < 32 → ∃ s', sp = s' + 2 ∧ vp_in (b_vals s') 300 ∧ wpY_methodOf (fun r_143 => wY_run_196 post (wY_run_69 post g_most g_mostMethods (nI n) (nI nm) g_checked g_errAt g_depth g_result g_typed fu) (nI f) (nI sp) (nI oc) (nI s) r_143 g_most g_mostMethods (nI n) (nI nm) g_checked g_errAt g_depth (nI en) g_result g_typed (ve_i (ve_V G)) (ve_i (ve_B G)) (ve_i (ve_S G)) (ve_i (ve_A G)) b_hasField b_fld (ve_i (ve_O M)) (ve_i (ve_N M)) (ve_i (ve_P M)) (ve_i (ve_R M)) (ve_i (ve_L C)) (ve_i (ve_K C)) (ve_i (ve_Q C)) b_need b_types b_objType b_objVal b_vals b_frBody b_pc b_frThis b_frArg b_log) (g_most, g_mostMethods, (nI n), (nI nm), g_checked, g_errAt, g_depth, (nI en), g_result, g_typed, (ve_i (ve_V G)), (ve_i (ve_B G)), (ve_i (ve_S G)), (ve_i (ve_A G)), b_hasField, b_fld, (ve_i (ve_O M)), (ve_i (ve_N M)), (ve_i (ve_P M)), (ve_i (ve_R M)), (ve_i (ve_L C)), (ve_i (ve_K C)), (ve_i (ve_Q C)), b_need, b_types, b_objType, b_objVal, b_vals, b_frBody, b_pc, b_frThis, b_frArg, b_log) (b_objType (b_vals s').toNatClampNeg &&& 15) (nI (ve_Q C at_))))
    (h2 : ve_K C at_ = 2 → ∃ s', sp = s' + 1 ∧ vp_in (b_vals s') 300 ∧ wY_run_320 post (wY_run_69 post g_most g_mostMethods (nI n) (nI nm) g_checked g_errAt g_depth g_result g_typed fu) (nI f) (nI sp) (nI oc) (nI s) (b_objVal (b_vals s').toNatClampNeg) g_most g_mostMethods (nI n) (nI nm) g_checked g_errAt g_depth (nI en) g_result g_typed (ve_i (ve_V G)) (ve_i (ve_B G)) (ve_i (ve_S G)) (ve_i (ve_A G)) b_hasField b_fld (ve_i (ve_O M)) (ve_i (ve_N M)) (ve_i (ve_P M)) (ve_i (ve_R M)) (ve_i (ve_L C)) (ve_i (ve_K C)) (ve_i (ve_Q C)) b_need b_types b_objType b_objVal b_vals b_frBody b_pc b_frThis b_frArg b_log)
    (h4 : ve_K C at_ = 4 → (b = 12 → wY_run_419 post (wY_run_69 post g_most g_mostMethods (nI n) (nI nm) g_checked g_errAt g_depth g_result g_typed fu) (nI f) (nI sp) (nI oc) (nI s) (nI at_) (nI (ve_Q C at_)) (nI oc) g_most g_mostMethods (nI n) (nI nm) g_checked g_errAt g_depth (nI en) g_result g_typed (ve_i (ve_V G)) (ve_i (ve_B G)) (ve_i (ve_S G)) (ve_i (ve_A G)) b_hasField b_fld (ve_i (ve_O M)) (ve_i (ve_N M)) (ve_i (ve_P M)) (ve_i (ve_R M)) (ve_i (ve_L C)) (ve_i (ve_K C)) (ve_i (ve_Q C)) b_need b_types b_objType b_objVal b_vals b_frBody b_pc b_frThis b_frArg b_log) ∧
      (b ≠ 12 → vp_in (b_frThis f) 300 ∧ wpY_through (fun r_40 => wY_run_419 post (wY_run_69 post g_most g_mostMethods (nI n) (nI nm) g_checked g_errAt g_depth g_result g_typed fu) (nI f) (nI sp) (nI oc) (nI s) (nI at_) r_40.toInt32 (nI oc) g_most g_mostMethods (nI n) (nI nm) g_checked g_errAt g_depth (nI en) g_result g_typed (ve_i (ve_V G)) (ve_i (ve_B G)) (ve_i (ve_S G)) (ve_i (ve_A G)) b_hasField b_fld (ve_i (ve_O M)) (ve_i (ve_N M)) (ve_i (ve_P M)) (ve_i (ve_R M)) (ve_i (ve_L C)) (ve_i (ve_K C)) (ve_i (ve_Q C)) b_need b_types b_objType b_objVal b_vals b_frBody b_pc b_frThis b_frArg b_log) (g_most, g_mostMethods, (nI n), (nI nm), g_checked, g_errAt, g_depth, (nI en), g_result, g_typed, (ve_i (ve_V G)), (ve_i (ve_B G)), (ve_i (ve_S G)), (ve_i (ve_A G)), b_hasField, b_fld, (ve_i (ve_O M)), (ve_i (ve_N M)), (ve_i (ve_P M)), (ve_i (ve_R M)), (ve_i (ve_L C)), (ve_i (ve_K C)), (ve_i (ve_Q C)), b_need, b_types, b_objType, b_objVal, b_vals, b_frBody, b_pc, b_frThis, b_frArg, b_log) (nI (ve_Q C at_)).toInt64 (b_objType (b_frThis f).toNatClampNeg).toInt64 (nI (ve_O M b))))
    (h0 : ve_K C at_ = 0 → wY_run_537 post (wY_run_69 post g_most g_mostMethods (nI n) (nI nm) g_checked g_errAt g_depth g_result g_typed fu) (nI f) (nI sp) (nI oc) (nI s) (b_frArg f) (nI sp) g_most g_mostMethods (nI n) (nI nm) g_checked g_errAt g_depth (nI en) g_result g_typed (ve_i (ve_V G)) (ve_i (ve_B G)) (ve_i (ve_S G)) (ve_i (ve_A G)) b_hasField b_fld (ve_i (ve_O M)) (ve_i (ve_N M)) (ve_i (ve_P M)) (ve_i (ve_R M)) (ve_i (ve_L C)) (ve_i (ve_K C)) (ve_i (ve_Q C)) b_need b_types b_objType b_objVal b_vals b_frBody b_pc b_frThis b_frArg b_log) (h1 : ve_K C at_ = 1 → wY_run_537 post (wY_run_69 post g_most g_mostMethods (nI n) (nI nm) g_checked g_errAt g_depth g_result g_typed fu) (nI f) (nI sp) (nI oc) (nI s) (b_frThis f) (nI sp) g_most g_mostMethods (nI n) (nI nm) g_checked g_errAt g_depth (nI en) g_result g_typed (ve_i (ve_V G)) (ve_i (ve_B G)) (ve_i (ve_S G)) (ve_i (ve_A G)) b_hasField b_fld (ve_i (ve_O M)) (ve_i (ve_N M)) (ve_i (ve_P M)) (ve_i (ve_R M)) (ve_i (ve_L C)) (ve_i (ve_K C)) (ve_i (ve_Q C)) b_need b_types b_objType b_objVal b_vals b_frBody b_pc b_frThis b_frArg b_log) :
    wY_run_69 post g_most g_mostMethods (nI n) (nI nm) g_checked g_errAt g_depth g_result g_typed (fu + 1) (nI f) (nI sp) (nI oc) (nI s) (nI en) (ve_i (ve_V G)) (ve_i (ve_B G)) (ve_i (ve_S G)) (ve_i (ve_A G)) b_hasField b_fld (ve_i (ve_O M)) (ve_i (ve_N M)) (ve_i (ve_P M)) (ve_i (ve_R M)) (ve_i (ve_L C)) (ve_i (ve_K C)) (ve_i (ve_Q C)) b_need b_types b_objType b_objVal b_vals b_frBody b_pc b_frThis b_frArg b_log := by
  have hif : vp_in (nI f) 40 := vp_in_nI hf (by omega)
  have hin : vp_in (nI at_) 104 := vp_in_nI hat (by omega)
  refine br_f (nI_ge (b := 299) hs (by omega)) ⟨hif, nm_r (e' := nI b) (by rw [nI_clamp (by omega), eb]) ⟨hif, ?_⟩⟩
  rw [nI_clamp (n := f) (by omega), ep, ve_at (f := ve_L C) (by omega), ve_at (f := ve_O M) (by omega)]
  refine nm_r (e' := nI at_) (by rw [v_8, ea]) ⟨hif, vp_in_nI hb (by omega), br_t (nI_lt hlt (by omega)) ⟨hin, ?_⟩⟩
  rw [ve_at (f := ve_K C) (by omega), ve_at (f := ve_Q C) (by omega)]
  refine pk_eq (ve_K C at_) 3 (fun e => pk_lt en 32 (fun z => ?_) (fun z => (h3 e).1 (by omega))) (fun e3 => ⟨hin, pk_eq (ve_K C at_) 2 (fun e => ?_) (fun e2 => ⟨hin, pk_eq (ve_K C at_) 4 (fun e => ?_) (fun e4 => ⟨hin, pk_eq (ve_K C at_) 0 (fun e => ⟨hif, h0 e⟩) (fun e0 => ⟨hif, h1 (by omega)⟩)⟩)⟩)⟩)
  · obtain ⟨s', rfl, q1, q2⟩ := (h3 e).2 z
    have e2 : nI (s' + 2) - 2 = nI s' := by rw [v_sub2 (by omega)]; rfl
    rw [e2, nI_clamp (n := s') (by omega)]
    exact br_t (nI_le (a := 2) (by omega) (by omega)) ⟨vp_in_nI (by omega) (by omega), q1, hin, q2⟩
  · obtain ⟨s', rfl, q1, q2⟩ := h2 e
    rw [nI_pred, nI_clamp (n := s') (by omega)]
    exact br_t (nI_le (a := 1) (by omega) (by omega)) ⟨vp_in_nI (by omega) (by omega), q1, q2⟩
  · exact pk_eq b 12 (fun z => ⟨hin, (h4 e).1 z⟩) (fun z => ⟨hin, hif, ((h4 e).2 z).1, vp_in_nI hb (by omega), ((h4 e).2 z).2⟩)
end
section
variable {n nm : Nat} {G : ve_T} {M : ve_M} {C : ve_C} {g_most g_mostMethods g_checked g_errAt g_depth g_entered g_result g_typed : Int32} {b_hasField b_fld b_need b_objType b_objVal b_vals b_frBody b_pc b_frThis b_frArg b_log : Nat → Int32} {b_types : Nat → Int64} {post : Int32 → SY → Prop} {J : Int32 → Int32 → Int32 → Int32 → Int32 → (Nat → Int32) → (Nat → Int32) → (Nat → Int32) → (Nat → Int32) → (Nat → Int32) → (Nat → Int32) → (Nat → Int32) → (Nat → Int32) → (Nat → Int32) → (Nat → Int32) → (Nat → Int32) → (Nat → Int32) → (Nat → Int32) → (Nat → Int32) → (Nat → Int64) → (Nat → Int32) → (Nat → Int32) → (Nat → Int32) → (Nat → Int32) → (Nat → Int32) → (Nat → Int32) → (Nat → Int32) → (Nat → Int32) → Prop}
theorem vy_537 {f sp oc s p x : Nat} (hf : f < 40) (hsp : sp < 300) (ep : b_pc f = nI p) (hp : J (nI f) (nI (sp + 1)) (nI oc) (nI (s + 1)) g_entered (ve_i (ve_V G)) (ve_i (ve_B G)) (ve_i (ve_S G)) (ve_i (ve_A G)) b_hasField b_fld (ve_i (ve_O M)) (ve_i (ve_N M)) (ve_i (ve_P M)) (ve_i (ve_R M)) (ve_i (ve_L C)) (ve_i (ve_K C)) (ve_i (ve_Q C)) b_need b_types b_objType b_objVal (upd b_vals sp (nI x)) b_frBody (upd b_pc f (nI (p + 1))) b_frThis b_frArg b_log) :
    wY_run_537 post J (nI f) (nI sp) (nI oc) (nI s) (nI x) (nI sp) g_most g_mostMethods (nI n) (nI nm) g_checked g_errAt g_depth g_entered g_result g_typed (ve_i (ve_V G)) (ve_i (ve_B G)) (ve_i (ve_S G)) (ve_i (ve_A G)) b_hasField b_fld (ve_i (ve_O M)) (ve_i (ve_N M)) (ve_i (ve_P M)) (ve_i (ve_R M)) (ve_i (ve_L C)) (ve_i (ve_K C)) (ve_i (ve_Q C)) b_need b_types b_objType b_objVal b_vals b_frBody b_pc b_frThis b_frArg b_log := by
  have hif : vp_in (nI f) 40 := vp_in_nI hf (by omega)
  unfold wY_run_537
  rw [nI_clamp (n := sp) (by omega), nI_clamp (n := f) (by omega), ep, nI_1, nI_1, nI_1]
  exact ⟨vp_in_nI hsp (by omega), nm_e (nm_e ⟨hif, hif, nm_e (nm_e hp)⟩)⟩
theorem vy_320 {f sp oc s p x : Nat} (hf : f < 40) (hsp : sp < 299) (hx : x < 300) (ep : b_pc f = nI p) (hp : J (nI f) (nI (sp + 1)) (nI oc) (nI (s + 1)) g_entered (ve_i (ve_V G)) (ve_i (ve_B G)) (ve_i (ve_S G)) (ve_i (ve_A G)) b_hasField b_fld (ve_i (ve_O M)) (ve_i (ve_N M)) (ve_i (ve_P M)) (ve_i (ve_R M)) (ve_i (ve_L C)) (ve_i (ve_K C)) (ve_i (ve_Q C)) b_need b_types b_objType b_objVal (upd b_vals sp (nI x)) b_frBody (upd b_pc f (nI (p + 1))) b_frThis b_frArg b_log) :
    wY_run_320 post J (nI f) (nI (sp + 1)) (nI oc) (nI s) (nI x) g_most g_mostMethods (nI n) (nI nm) g_checked g_errAt g_depth g_entered g_result g_typed (ve_i (ve_V G)) (ve_i (ve_B G)) (ve_i (ve_S G)) (ve_i (ve_A G)) b_hasField b_fld (ve_i (ve_O M)) (ve_i (ve_N M)) (ve_i (ve_P M)) (ve_i (ve_R M)) (ve_i (ve_L C)) (ve_i (ve_K C)) (ve_i (ve_Q C)) b_need b_types b_objType b_objVal b_vals b_frBody b_pc b_frThis b_frArg b_log := by
  have hif : vp_in (nI f) 40 := vp_in_nI hf (by omega)
  unfold wY_run_320
  rw [nI_pred, nI_clamp (n := sp) (by omega), nI_clamp (n := f) (by omega), ep, nI_1, nI_1]
  exact br_t (nI_pos' (by omega)) ⟨vp_in_nI (by omega) (by omega), nm_e ⟨hif, hif, nm_e (nm_e hp)⟩⟩
theorem vy_196 {f sp oc s p m en : Nat} (hf : f < 39) (hsp : sp < 298) (hm : m < 13) (hen : en < 32) (ep : b_pc f = nI p)
    (hp : J (nI (f + 1)) (nI sp) (nI oc) (nI (s + 1)) (nI (en + 1)) (ve_i (ve_V G)) (ve_i (ve_B G)) (ve_i (ve_S G)) (ve_i (ve_A G)) b_hasField b_fld (ve_i (ve_O M)) (ve_i (ve_N M)) (ve_i (ve_P M)) (ve_i (ve_R M)) (ve_i (ve_L C)) (ve_i (ve_K C)) (ve_i (ve_Q C)) b_need b_types b_objType b_objVal b_vals (upd b_frBody (f + 1) (nI m)) (upd (upd b_pc f (nI (p + 1))) (f + 1) 0) (upd b_frThis (f + 1) (b_vals sp)) (upd b_frArg (f + 1) (b_vals (sp + 1))) (upd b_log en (nI m))) :
    wY_run_196 post J (nI f) (nI (sp + 2)) (nI oc) (nI s) (nI m) g_most g_mostMethods (nI n) (nI nm) g_checked g_errAt g_depth (nI en) g_result g_typed (ve_i (ve_V G)) (ve_i (ve_B G)) (ve_i (ve_S G)) (ve_i (ve_A G)) b_hasField b_fld (ve_i (ve_O M)) (ve_i (ve_N M)) (ve_i (ve_P M)) (ve_i (ve_R M)) (ve_i (ve_L C)) (ve_i (ve_K C)) (ve_i (ve_Q C)) b_need b_types b_objType b_objVal b_vals b_frBody b_pc b_frThis b_frArg b_log := by
  have hif : vp_in (nI f) 40 := vp_in_nI (by omega) (by omega)
  have hig : vp_in (nI (f + 1)) 40 := vp_in_nI (by omega) (by omega)
  have e2 : nI (sp + 2) + (-2) = nI sp := by
    have : (-2 : Int32) = (-1) + (-1) := by decide
    rw [this, ← Int32.add_assoc, pk_m1 (sp + 1), pk_m1 sp]
  unfold wY_run_196
  rw [nI_clamp (n := en) (by omega), nI_clamp (n := f) (by omega), ep, e2, nI_1, nI_1, nI_1, nI_1]
  refine br_t (nI_pos' (by omega)) ⟨vp_in_nI hen (by omega), nm_e (nm_e ⟨hif, hif, nm_e (nm_e (nm_e ?_))⟩)⟩
  rw [nI_clamp (n := f + 1) (by omega), nI_clamp (n := sp) (by omega), nI_1, nI_clamp (n := sp + 1) (by omega)]
  exact ⟨hig, nm_e ⟨hig, nm_e ⟨vp_in_nI (by omega) (by omega), hig, nm_e ⟨vp_in_nI (by omega) (by omega), hig, nm_e (nm_e hp)⟩⟩⟩⟩
theorem vy_480 {f s' oc s p : Nat} (hf : f < 40) (hs : s' < 300) (ep : b_pc f = nI p) (hp : J (nI f) (nI (s' + 1)) (nI (oc + 1)) (nI (s + 1)) g_entered (ve_i (ve_V G)) (ve_i (ve_B G)) (ve_i (ve_S G)) (ve_i (ve_A G)) b_hasField b_fld (ve_i (ve_O M)) (ve_i (ve_N M)) (ve_i (ve_P M)) (ve_i (ve_R M)) (ve_i (ve_L C)) (ve_i (ve_K C)) (ve_i (ve_Q C)) b_need b_types b_objType b_objVal (upd b_vals s' (nI oc)) b_frBody (upd b_pc f (nI (p + 1))) b_frThis b_frArg b_log) :
    wY_run_480 post J (nI f) (nI s') (nI oc) (nI s) g_most g_mostMethods (nI n) (nI nm) g_checked g_errAt g_depth g_entered g_result g_typed (ve_i (ve_V G)) (ve_i (ve_B G)) (ve_i (ve_S G)) (ve_i (ve_A G)) b_hasField b_fld (ve_i (ve_O M)) (ve_i (ve_N M)) (ve_i (ve_P M)) (ve_i (ve_R M)) (ve_i (ve_L C)) (ve_i (ve_K C)) (ve_i (ve_Q C)) b_need b_types b_objType b_objVal b_vals b_frBody b_pc b_frThis b_frArg b_log := by
  have hif : vp_in (nI f) 40 := vp_in_nI hf (by omega)
  unfold wY_run_480
  rw [nI_clamp (n := s') (by omega), nI_clamp (n := f) (by omega), ep, nI_1, nI_1, nI_1, nI_1]
  exact ⟨vp_in_nI hs (by omega), nm_e (nm_e (nm_e ⟨hif, hif, nm_e (nm_e hp)⟩))⟩
theorem vy_419 (h : ve_WG n G) (hH : ∀ c, c < 16 → b_hasField c = ve_b (decide (ve_E M c ≠ 0))) {f sp s' oc s p at_ op T y : Nat} (hf : f < 40) (hsp : sp < 300) (hoc : oc < 300) (hat : at_ < 104) (eo : ve_Q C at_ = op) (hop : op < 4096) (ep : b_pc f = nI p)
    (hy : (ve_fc G M (op % 16) = 0 ∧ y = 0 ∧ s' = sp) ∨ (ve_fc G M (op % 16) ≠ 0 ∧ sp = s' + 1 ∧ ∃ x, y = x + 1 ∧ b_vals s' = nI x))
    (hp : J (nI f) (nI (s' + 1)) (nI (oc + 1)) (nI (s + 1)) g_entered (ve_i (ve_V G)) (ve_i (ve_B G)) (ve_i (ve_S G)) (ve_i (ve_A G)) b_hasField b_fld (ve_i (ve_O M)) (ve_i (ve_N M)) (ve_i (ve_P M)) (ve_i (ve_R M)) (ve_i (ve_L C)) (ve_i (ve_K C)) (ve_i (ve_Q C)) b_need b_types (upd b_objType oc (nI T)) (upd b_objVal oc (ve_d y)) (upd b_vals s' (nI oc)) b_frBody (upd b_pc f (nI (p + 1))) b_frThis b_frArg b_log) :
    wY_run_419 post J (nI f) (nI sp) (nI oc) (nI s) (nI at_) (nI T) (nI oc) g_most g_mostMethods (nI n) (nI nm) g_checked g_errAt g_depth g_entered g_result g_typed (ve_i (ve_V G)) (ve_i (ve_B G)) (ve_i (ve_S G)) (ve_i (ve_A G)) b_hasField b_fld (ve_i (ve_O M)) (ve_i (ve_N M)) (ve_i (ve_P M)) (ve_i (ve_R M)) (ve_i (ve_L C)) (ve_i (ve_K C)) (ve_i (ve_Q C)) b_need b_types b_objType b_objVal b_vals b_frBody b_pc b_frThis b_frArg b_log := by
  have hio : vp_in (nI oc) 300 := vp_in_nI hoc (by omega)
  unfold wY_run_419
  rw [nI_clamp (n := oc) (by omega), ve_at (by omega), eo, pk_andN (by omega) 4 (by decide)]
  refine ⟨hio, nm_e ?_⟩
  rcases hy with ⟨e, rfl, rfl⟩ | ⟨e, rfl, x, rfl, ex⟩
  · have j445 : wY_run_445 post J (nI f) (nI s') (nI oc) (nI s) g_most g_mostMethods (nI n) (nI nm) g_checked g_errAt g_depth g_entered g_result g_typed (ve_i (ve_V G)) (ve_i (ve_B G)) (ve_i (ve_S G)) (ve_i (ve_A G)) b_hasField b_fld (ve_i (ve_O M)) (ve_i (ve_N M)) (ve_i (ve_P M)) (ve_i (ve_R M)) (ve_i (ve_L C)) (ve_i (ve_K C)) (ve_i (ve_Q C)) b_need b_types (upd b_objType oc (nI T)) b_objVal b_vals b_frBody b_pc b_frThis b_frArg b_log := by
      unfold wY_run_445 wY_run_446 wY_run_471
      rw [nI_clamp (n := oc) (by omega)]
      exact br_t rfl ⟨hio, nm_e (br_t rfl (vy_480 hf hsp ep hp))⟩
    refine br_c (fun _ => j445) (fun _ => ⟨vp_in_nI hat (by omega), vy_fo h hH (by omega) ?_⟩)
    show (ve_d (ve_fc G M (op % 16)) < 0 → _) ∧ _
    rw [e]
    exact br_t (by decide) j445
  · refine br_f (nI_nle (by omega) (by omega)) ⟨vp_in_nI hat (by omega), vy_fo h hH (by omega) (vd_lt (ve_fcb h (by omega)) (fun z => absurd z e) (fun a ea => ?_))⟩
    unfold wY_run_446 wY_run_471
    rw [nI_clamp (n := oc) (by omega), nI_pred, nI_clamp (n := s') (by omega), ex]
    exact br_f (by decide) ⟨vp_in_nI (by omega) (by omega), hio, nm_e (br_f (by decide) (nm_r (pk_m1 s') (vy_480 hf (by omega) ep hp)))⟩
end
end
section
/-! run: the two machines step by step -/
def ve_e4 (a b c d x y : Int32) : Prop := a = x ∧ b = x ∧ c = y ∧ d = y
def ve_RV (sp : Nat) (vl : Nat → Nat) (a b : Nat → Int32) : Prop := ∀ i, i < sp → a i = nI (vl i) ∧ b i = nI (vl i)
def ve_RB (f : Nat) (fb fp : Nat → Nat) (aB aP bB bP : Nat → Int32) : Prop := ∀ i, i ≤ f → ve_e4 (aB i) (bB i) (aP i) (bP i) (nI (fb i)) (nI (fp i))
def ve_RT (f : Nat) (ft fa : Nat → Nat) (aT aA bT bA : Nat → Int32) : Prop := ∀ i, 1 ≤ i → i ≤ f → ve_e4 (aT i) (bT i) (aA i) (bA i) (nI (ft i)) (nI (fa i))
theorem ve_RV_p {sp x : Nat} {vl : Nat → Nat} {a b : Nat → Int32} (q : ve_RV sp vl a b) : ve_RV (sp + 1) (ve_u vl sp x) (upd a sp (nI x)) (upd b sp (nI x)) := by
  intro i hi
  by_cases z : i = sp
  · rw [z, pk_us, pk_us, ve_u_s]; exact ⟨rfl, rfl⟩
  · rw [pk_un z, pk_un z, ve_u_n z]; exact q i (by omega)
theorem ve_RV_m {sp sp' : Nat} {vl : Nat → Nat} {a b : Nat → Int32} (q : ve_RV sp vl a b) (h : sp' ≤ sp) : ve_RV sp' vl a b := fun i hi => q i (by omega)
theorem ve_RB_p {f p : Nat} {fb fp : Nat → Nat} {aB aP bB bP : Nat → Int32} (q : ve_RB f fb fp aB aP bB bP) : ve_RB f fb (ve_u fp f p) aB (upd aP f (nI p)) bB (upd bP f (nI p)) := by
  intro i hi
  have r := q i hi
  by_cases z : i = f
  · subst z; rw [pk_us, pk_us, ve_u_s]; exact ⟨r.1, r.2.1, rfl, rfl⟩
  · rw [pk_un z, pk_un z, ve_u_n z]; exact r
theorem ve_RB_n {f m : Nat} {fb fp : Nat → Nat} {aB aP bB bP : Nat → Int32} (q : ve_RB f fb fp aB aP bB bP) : ve_RB (f + 1) (ve_u fb (f + 1) m) (ve_u fp (f + 1) 0) (upd aB (f + 1) (nI m)) (upd aP (f + 1) 0) (upd bB (f + 1) (nI m)) (upd bP (f + 1) 0) := by
  intro i hi
  by_cases z : i = f + 1
  · rw [z, pk_us, pk_us, pk_us, pk_us, ve_u_s, ve_u_s]; exact ⟨rfl, rfl, rfl, rfl⟩
  · rw [pk_un z, pk_un z, pk_un z, pk_un z, ve_u_n z, ve_u_n z]; exact q i (by omega)
theorem ve_RT_n {f x y : Nat} {ft fa : Nat → Nat} {aT aA bT bA : Nat → Int32} (q : ve_RT f ft fa aT aA bT bA) : ve_RT (f + 1) (ve_u ft (f + 1) x) (ve_u fa (f + 1) y) (upd aT (f + 1) (nI x)) (upd aA (f + 1) (nI y)) (upd bT (f + 1) (nI x)) (upd bA (f + 1) (nI y)) := by
  intro i h1 hi
  by_cases z : i = f + 1
  · rw [z, pk_us, pk_us, pk_us, pk_us, ve_u_s, ve_u_s]; exact ⟨rfl, rfl, rfl, rfl⟩
  · rw [pk_un z, pk_un z, pk_un z, pk_un z, ve_u_n z, ve_u_n z]; exact q i h1 (by omega)
section
variable {n nm : Nat} {G : ve_T} {M : ve_M} {C : ve_C} {f_x f_mainBody f_classLimit f_methodLimit f_checkState f_errorPlace f_typeTop f_keepTypes : Int32} {a_fieldType a_declared a_castAt : Nat → Int32} {a_types : Nat → Int64}
variable {g_most g_mostMethods g_checked g_errAt g_depth g_typed : Int32} {b_hasField b_fld b_need : Nat → Int32} {b_types : Nat → Int64}
theorem ve_run (k : Nat) (h : ve_WG n G) (w : ve_WM n nm G M) (wc : ve_WC n nm G M C) (ck : ve_CK n nm G M C) (fm : ve_FM M a_fieldType a_declared b_hasField b_fld)
    (F0 : ∀ (f_entered f_result : Int32) (a_objClass a_objField : Nat → Int32) (a_objType : Nat → Int64) (a_traced : Nat → Int32) (g_entered g_result : Int32) (b_objType b_objVal b_log : Nat → Int32), b_log = a_traced →
      ve_FR f_entered f_result f_keepTypes a_objClass a_objField a_objType g_entered g_result b_objType b_objVal → ve_F n nm G M C f_classLimit f_methodLimit f_checkState f_errorPlace f_entered f_result f_keepTypes a_fieldType a_declared a_types a_castAt a_objClass a_objField a_objType a_traced g_most g_mostMethods g_checked g_errAt g_entered g_result g_typed b_hasField b_fld b_need b_types b_objType b_objVal b_log) :
    ∀ (m f sp oc en s : Nat) (oT oF vl fb fp ft fa : Nat → Nat) (a_objClass a_objField a_values : Nat → Int32) (a_objType : Nat → Int64) (a_frameBody a_framePc a_frameThis a_frameArg a_traced b_objType b_objVal b_vals b_frBody b_pc b_frThis b_frArg : Nat → Int32),
    ve_OB n G M oT oF oc → ve_CF n nm G M C oT oc vl fb fp ft fa f sp → (∀ i, i < oc → ve_FI f_keepTypes a_objClass a_objField a_objType b_objType b_objVal oT oF i) → ve_RV sp vl a_values b_vals →
    ve_RB f fb fp a_frameBody a_framePc b_frBody b_pc → ve_RT f ft fa a_frameThis a_frameArg b_frThis b_frArg → a_frameThis 0 = -1 → f ≤ en → en ≤ 32 →
    s + ve_pw C fb fp f + (f + 1) + 9 * (32 - en) ≤ 297 → oc + ve_pw C fb fp f + 8 * (32 - en) ≤ 264 → sp + ve_pw C fb fp f + 8 * (32 - en) ≤ 264 → ve_pw C fb fp f + (f + 1) + 9 * (32 - en) ≤ m →
    ∃ (r : Int32) (u' : SX) (v' : SY), i_Rel k u' v' ∧
      (∀ post : Int32 → SX → Prop, post r u' → wX_run_71 post (m + 2) 0 (nI s) f_x f_mainBody f_classLimit f_methodLimit (nI n) (nI nm) f_checkState f_errorPlace f_typeTop (nI oc) (nI sp) (nI (f + 1)) (nI en) (-1) f_keepTypes (ve_i (ve_V G)) (ve_i (ve_B G)) (ve_i (ve_S G)) (ve_i (ve_A G)) a_fieldType a_declared (ve_i (ve_O M)) (ve_i (ve_P M)) (ve_i (ve_R M)) (ve_i (ve_L C)) (ve_i (ve_K C)) (ve_i (ve_Q C)) a_types a_castAt a_objClass a_objField a_values a_objType a_frameBody a_framePc a_frameThis a_frameArg a_traced) ∧
      (∀ post : Int32 → SY → Prop, post r v' → wY_run_69 post g_most g_mostMethods (nI n) (nI nm) g_checked g_errAt g_depth (-1) g_typed (m + 1) (nI f) (nI sp) (nI oc) (nI s) (nI en) (ve_i (ve_V G)) (ve_i (ve_B G)) (ve_i (ve_S G)) (ve_i (ve_A G)) b_hasField b_fld (ve_i (ve_O M)) (ve_i (ve_N M)) (ve_i (ve_P M)) (ve_i (ve_R M)) (ve_i (ve_L C)) (ve_i (ve_K C)) (ve_i (ve_Q C)) b_need b_types b_objType b_objVal b_vals b_frBody b_pc b_frThis b_frArg a_traced) := by
  have n12 := ve_n12 h
  have hnm := w.1
  obtain ⟨hE, hD, hH, hF⟩ := fm
  intro m
  induction m with
  | zero => intro f sp oc en s oT oF vl fb fp ft fa a_objClass a_objField a_values a_objType a_frameBody a_framePc a_frameThis a_frameArg a_traced b_objType b_objVal b_vals b_frBody b_pc b_frThis b_frArg _ _ _ _ _ _ _ _ _ _ _ _ hm; omega
  | succ m ih =>
    intro f sp oc en s oT oF vl fb fp ft fa a_objClass a_objField a_values a_objType a_frameBody a_framePc a_frameThis a_frameArg a_traced b_objType b_objVal b_vals b_frBody b_pc b_frThis b_frArg ob cf ro rv rb rt th0 hfe hen B1 B2 B3 hm
    obtain ⟨cf0, st, base, ctp, cvs, cww⟩ := id cf
    have hb13 := ve_WW_b w cww
    have hbm : fb f < nm ∨ fb f = 12 := by
      rcases ve_WW_fr cww with y | y
      · exact Or.inr y.2.1
      · exact Or.inl y.2.1
    obtain ⟨l8, tks⟩ := wc.1 (fb f) hbm
    obtain ⟨rb1, rb2, rb3, rb4⟩ := rb f (Nat.le_refl _)
    have fo : fb f ≠ 12 → 0 < f ∧ ft f < oc ∧ fa f < oc := by
      intro z
      rcases ve_WW_fr cww with y | y
      · exact absurd y.2.1 z
      · exact ⟨y.1, y.2.2.1, y.2.2.2.2.1⟩
    rcases Nat.lt_or_ge (fp f) (ve_L C (fb f)) with hlt | hge
    · -- a token
      have tk := tks (fp f) hlt
      have hat : 8 * fb f + fp f < 104 := by omega
      have hop := wc.2.2 (8 * fb f + fp f)
      have pi := ve_pw_i (C := C) (fb := fb) (fp := fp) (f := f) hlt
      have tk1 := tk.1
      have kc : ve_K C (8 * fb f + fp f) = 0 ∨ ve_K C (8 * fb f + fp f) = 1 ∨ ve_K C (8 * fb f + fp f) = 2 ∨ ve_K C (8 * fb f + fp f) = 3 ∨ ve_K C (8 * fb f + fp f) = 4 := by omega
      rcases kc with e | e | e | e | e
      · -- ARG
        have b12 := tk.2.1 (by omega)
        obtain ⟨f0, x1, x2⟩ := fo b12
        obtain ⟨_, cf'⟩ := ve_c_arg h w cf hlt e b12
        obtain ⟨_, _, q3, q4⟩ := rt f f0 (Nat.le_refl _)
        obtain ⟨r, u', v', R, hX, hY⟩ := ih f (sp + 1) oc en (s + 1) oT oF (ve_u vl sp (fa f)) fb (ve_u fp f (fp f + 1)) ft fa a_objClass a_objField (upd a_values sp (nI (fa f))) a_objType a_frameBody (upd a_framePc f (nI (fp f + 1))) a_frameThis a_frameArg a_traced b_objType b_objVal (upd b_vals sp (nI (fa f))) b_frBody (upd b_pc f (nI (fp f + 1))) b_frThis b_frArg
          ob cf' ro (ve_RV_p rv) (ve_RB_p rb) rt th0 hfe hen (by omega) (by omega) (by omega) (by omega)
        refine ⟨r, u', v', R, fun post hp => vx_71 (by omega) (by omega) (vx_stepT (by omega) hb13 rb1 rb3 l8 hlt rfl hat tk1 (fun z => by omega) (fun z => by omega) (fun z => by omega) (fun _ => ?_) (fun z => by omega)), fun post hp => vy_stepT (by omega) hb13 (by omega) (by omega) hen rb2 rb4 l8 hlt rfl hat tk1 (fun z => by omega) (fun z => by omega) (fun z => by omega) (fun _ => ?_) (fun z => by omega)⟩
        · rw [q3]; exact vx_pushV (by omega) (by omega) (hX post hp)
        · rw [q4]; exact vy_537 (by omega) (by omega) rb4 (hY post hp)
      · -- THIS
        have b12 := tk.2.1 (by omega)
        obtain ⟨f0, x1, x2⟩ := fo b12
        obtain ⟨_, cf'⟩ := ve_c_this h w ob cf hlt e b12
        obtain ⟨q1, q2, _, _⟩ := rt f f0 (Nat.le_refl _)
        obtain ⟨r, u', v', R, hX, hY⟩ := ih f (sp + 1) oc en (s + 1) oT oF (ve_u vl sp (ft f)) fb (ve_u fp f (fp f + 1)) ft fa a_objClass a_objField (upd a_values sp (nI (ft f))) a_objType a_frameBody (upd a_framePc f (nI (fp f + 1))) a_frameThis a_frameArg a_traced b_objType b_objVal (upd b_vals sp (nI (ft f))) b_frBody (upd b_pc f (nI (fp f + 1))) b_frThis b_frArg
          ob cf' ro (ve_RV_p rv) (ve_RB_p rb) rt th0 hfe hen (by omega) (by omega) (by omega) (by omega)
        refine ⟨r, u', v', R, fun post hp => vx_71 (by omega) (by omega) (vx_stepT (by omega) hb13 rb1 rb3 l8 hlt rfl hat tk1 (fun z => by omega) (fun z => by omega) (fun z => by omega) (fun z => by omega) (fun _ => ?_)), fun post hp => vy_stepT (by omega) hb13 (by omega) (by omega) hen rb2 rb4 l8 hlt rfl hat tk1 (fun z => by omega) (fun z => by omega) (fun z => by omega) (fun z => by omega) (fun _ => ?_)⟩
        · rw [q1]; exact vx_pushV (by omega) (by omega) (hX post hp)
        · rw [q2]; exact vy_537 (by omega) (by omega) rb4 (hY post hp)
      · -- FIELD
        obtain ⟨s', j, rfl, v1, v2, v3, cf'⟩ := ve_c_fld h w ob cf hlt e
        obtain ⟨w1, w2⟩ := rv s' (by omega)
        obtain ⟨o1, o2, _⟩ := ro (vl s') v1
        obtain ⟨r, u', v', R, hX, hY⟩ := ih f (s' + 1) oc en (s + 1) oT oF (ve_u vl s' j) fb (ve_u fp f (fp f + 1)) ft fa a_objClass a_objField (upd a_values s' (nI j)) a_objType a_frameBody (upd a_framePc f (nI (fp f + 1))) a_frameThis a_frameArg a_traced b_objType b_objVal (upd b_vals s' (nI j)) b_frBody (upd b_pc f (nI (fp f + 1))) b_frThis b_frArg
          ob cf' ro (ve_RV_p (ve_RV_m rv (by omega))) (ve_RB_p rb) rt th0 hfe hen (by omega) (by omega) (by omega) (by omega)
        refine ⟨r, u', v', R, fun post hp => vx_71 (by omega) (by omega) (vx_stepT (by omega) hb13 rb1 rb3 l8 hlt rfl hat tk1 (fun z => by omega) (fun z => by omega) (fun _ y ey => ?_) (fun z => by omega) (fun z => by omega)), fun post hp => vy_stepT (by omega) hb13 (by omega) (by omega) hen rb2 rb4 l8 hlt rfl hat tk1 (fun z => by omega) (fun _ => ⟨s', rfl, ?_, ?_⟩) (fun z => by omega) (fun z => by omega) (fun z => by omega)⟩
        · rw [ey, nI_pred, nI_clamp (n := s') (by omega), w1, nI_clamp (n := vl s') (by omega), o1, v2]
          exact ⟨vp_in_nI (by omega) (by omega), vp_in_nI (by omega) (by omega), vx_pushV (by omega) (by omega) (hX post hp)⟩
        · rw [w2]; exact vp_in_nI (by omega) (by omega)
        · rw [w2, nI_clamp (n := vl s') (by omega), o2, v2]
          exact vy_320 (by omega) (by omega) (by omega) rb4 (hY post hp)
      · -- CALL
        have hj := tk.2.2.1 e
        obtain ⟨s', m', rfl, v1, v2, v3, v4, cf'⟩ := ve_c_call h w ob ck cf hlt e hj
        obtain ⟨w1, w2⟩ := rv s' (by omega)
        obtain ⟨w3, w4⟩ := rv (s' + 1) (by omega)
        obtain ⟨_, _, _, o4, o5, o6, _⟩ := ro (vl s') v1
        by_cases e32 : en = 32
        · refine ⟨-11, (f_x, f_mainBody, f_classLimit, f_methodLimit, (nI n), (nI nm), f_checkState, f_errorPlace, f_typeTop, (nI oc), (nI s'), (nI (f + 1)), (nI en), (-1), f_keepTypes, (ve_i (ve_V G)), (ve_i (ve_B G)), (ve_i (ve_S G)), (ve_i (ve_A G)), a_fieldType, a_declared, (ve_i (ve_O M)), (ve_i (ve_P M)), (ve_i (ve_R M)), (ve_i (ve_L C)), (ve_i (ve_K C)), (ve_i (ve_Q C)), a_types, a_castAt, a_objClass, a_objField, a_values, a_objType, a_frameBody, (upd a_framePc f (nI (fp f + 1))), a_frameThis, a_frameArg, a_traced), (g_most, g_mostMethods, (nI n), (nI nm), g_checked, g_errAt, g_depth, (nI en), (-1), g_typed, (ve_i (ve_V G)), (ve_i (ve_B G)), (ve_i (ve_S G)), (ve_i (ve_A G)), b_hasField, b_fld, (ve_i (ve_O M)), (ve_i (ve_N M)), (ve_i (ve_P M)), (ve_i (ve_R M)), (ve_i (ve_L C)), (ve_i (ve_K C)), (ve_i (ve_Q C)), b_need, b_types, b_objType, b_objVal, b_vals, b_frBody, b_pc, b_frThis, b_frArg, a_traced), ve_in (F0 _ _ _ _ _ _ _ _ _ _ _ rfl ⟨⟨en, hen, rfl, rfl⟩, Or.inl ⟨rfl, rfl⟩⟩), fun post hp => vx_71 (by omega) (by omega) (vx_stepT (by omega) hb13 rb1 rb3 l8 hlt rfl hat tk1 (fun _ => ?_) (fun z => by omega) (fun z => by omega) (fun z => by omega) (fun z => by omega)),
            fun post hp => vy_stepT (by omega) hb13 (by omega) (by omega) hen rb2 rb4 l8 hlt rfl hat tk1 (fun _ => ⟨fun _ => hp, fun z => by omega⟩) (fun z => by omega) (fun z => by omega) (fun z => by omega) (fun z => by omega)⟩
          exact vx_call h w hD (by omega) hj w3 w1 (by omega) o4 (by omega) v3 hen (Or.inr e32) (fun _ => vx_71e (by decide) hp) (fun z => by omega)
        · have l8' := (wc.1 m' (Or.inl v4)).1
          have pc2 : ve_pw C (ve_u fb (f + 1) m') (ve_u (ve_u fp f (fp f + 1)) (f + 1) 0) (f + 1) = ve_pw C fb (ve_u fp f (fp f + 1)) f + ve_L C m' := by
            show ve_pw C (ve_u fb (f + 1) m') (ve_u (ve_u fp f (fp f + 1)) (f + 1) 0) f + (ve_L C (ve_u fb (f + 1) m' (f + 1)) - ve_u (ve_u fp f (fp f + 1)) (f + 1) 0 (f + 1)) = _
            rw [ve_pw_c (fb := fb) (fp := ve_u fp f (fp f + 1)) (fun i hi => ⟨ve_u_n (by omega), ve_u_n (by omega)⟩), ve_u_s, ve_u_s, Nat.sub_zero]
          have rbn := ve_RB_n (m := m') (ve_RB_p (p := fp f + 1) rb)
          have rtn := ve_RT_n (x := vl s') (y := vl (s' + 1)) rt
          obtain ⟨r, u', v', R, hX, hY⟩ := ih (f + 1) s' oc (en + 1) (s + 1) oT oF vl (ve_u fb (f + 1) m') (ve_u (ve_u fp f (fp f + 1)) (f + 1) 0) (ve_u ft (f + 1) (vl s')) (ve_u fa (f + 1) (vl (s' + 1))) a_objClass a_objField a_values a_objType (upd a_frameBody (f + 1) (nI m')) (upd (upd a_framePc f (nI (fp f + 1))) (f + 1) 0) (upd a_frameThis (f + 1) (nI (vl s'))) (upd a_frameArg (f + 1) (nI (vl (s' + 1)))) (upd a_traced en (nI m')) b_objType b_objVal b_vals (upd b_frBody (f + 1) (nI m')) (upd (upd b_pc f (nI (fp f + 1))) (f + 1) 0) (upd b_frThis (f + 1) (nI (vl s'))) (upd b_frArg (f + 1) (nI (vl (s' + 1))))
            ob cf' ro (ve_RV_m rv (by omega)) rbn rtn (by rw [pk_un (by omega)]; exact th0) (by omega) (by omega) (by omega) (by omega) (by omega) (by omega)
          refine ⟨r, u', v', R, fun post hp => vx_71 (by omega) (by omega) (vx_stepT (by omega) hb13 rb1 rb3 l8 hlt rfl hat tk1 (fun _ => ?_) (fun z => by omega) (fun z => by omega) (fun z => by omega) (fun z => by omega)),
            fun post hp => vy_stepT (by omega) hb13 (by omega) (by omega) hen rb2 rb4 l8 hlt rfl hat tk1 (fun _ => ⟨fun z => absurd z e32, fun z => ⟨s', rfl, ?_, ?_⟩⟩) (fun z => by omega) (fun z => by omega) (fun z => by omega) (fun z => by omega)⟩
          · exact vx_call h w hD (by omega) hj w3 w1 (by omega) o4 (by omega) v3 hen (Or.inl (by omega)) (fun z => absurd z e32) (fun _ => hX post hp)
          · rw [w2]; exact vp_in_nI (by omega) (by omega)
          · rw [w2, nI_clamp (n := vl s') (by omega), o5, pk_andN (by omega) 4 (by decide)]
            refine vy_mo h w (by omega) hj ?_
            show wY_run_196 post _ (nI f) (nI (s' + 2)) (nI oc) (nI s) (ve_d (ve_mt G M (oT (vl s') % 16) (ve_Q C (8 * fb f + fp f)))) _ _ _ _ _ _ _ _ _ _ _ _ _ _ _ _ _ _ _ _ _ _ _ _ _ _ _ _ _ _ _ _ _
            rw [v3]
            refine vy_196 (m := m') (by omega) (by omega) (by omega) (by omega) rb4 ?_
            rw [w2, w4]; exact hY post hp
      · -- NEW
        have nw := tk.2.2.2 e
        obtain ⟨T, y, s', eT, ot, eh, hy, ob', cf'⟩ := ve_c_new h w ob cf hlt e nw
        obtain ⟨⟨ko, hko, wo, _⟩, ox, _⟩ := nw
        have oO := vg_O w h (fb f)
        have bT : T < 4096 := ve_W3b ot.1
        have s1 : s' + 1 + ve_pw C fb (ve_u fp f (fp f + 1)) f + 8 * (32 - en) ≤ 264 := by
          rcases hy with ⟨_, _, z⟩ | ⟨_, z, _⟩ <;> omega
        have rv' : ve_RV s' vl a_values b_vals := ve_RV_m rv (by rcases hy with ⟨_, _, z⟩ | ⟨_, z, _⟩ <;> omega)
        have hyl : y ≤ oc := by
          rcases hy with ⟨_, z, _⟩ | ⟨_, _, z, z2⟩ <;> omega
        have hsp : sp < 300 := by omega
        have hyX : (ve_fc G M (ve_Q C (8 * fb f + fp f) % 16) = 0 ∧ y = 0 ∧ s' = sp) ∨ (ve_fc G M (ve_Q C (8 * fb f + fp f) % 16) ≠ 0 ∧ sp = s' + 1 ∧ ∃ x, y = x + 1 ∧ a_values s' = nI x) := by
          rcases hy with z | ⟨z1, z2, z3, z4⟩
          · exact Or.inl z
          · exact Or.inr ⟨z1, z2, vl s', z3, (rv s' (by omega)).1⟩
        have hyY : (ve_fc G M (ve_Q C (8 * fb f + fp f) % 16) = 0 ∧ y = 0 ∧ s' = sp) ∨ (ve_fc G M (ve_Q C (8 * fb f + fp f) % 16) ≠ 0 ∧ sp = s' + 1 ∧ ∃ x, y = x + 1 ∧ b_vals s' = nI x) := by
          rcases hy with z | ⟨z1, z2, z3, z4⟩
          · exact Or.inl z
          · exact Or.inr ⟨z1, z2, vl s', z3, (rv s' (by omega)).2⟩
        have main : fb f = 12 → T = ve_Q C (8 * fb f + fp f) := by
          intro z
          have wo' := wo
          have e0 : ve_O M (fb f) = 0 := by rw [z]; exact w.2.2.2.2.2 12 hnm
          rw [e0] at wo'
          rw [eT]; exact ve_ss_cl h (ve_V0 h) _ ko _ wo' (by omega)
        have thr : fb f ≠ 12 → T = ve_th G (ve_Q C (8 * fb f + fp f)) (ve_O M (fb f)) (oT (ft f)) := by
          intro z
          rw [eT]; unfold ve_FA ve_th; rw [if_neg z]
        have ht : (a_frameThis f = -1 ∧ T = ve_Q C (8 * fb f + fp f)) ∨ (∃ t, t < 264 ∧ a_frameThis f = nI t ∧ (f_keepTypes ≠ 0 → ∃ U, U < 4096 ∧ a_objType t = lN U ∧ T = ve_th G (ve_Q C (8 * fb f + fp f)) (ve_O M (fb f)) U)) := by
          by_cases z : fb f = 12
          · have f0 := ve_WW_12 w cww z
            refine Or.inl ⟨by rw [f0]; exact th0, main z⟩
          · obtain ⟨f0, x1, x2⟩ := fo z
            obtain ⟨q1, _⟩ := rt f f0 (Nat.le_refl _)
            obtain ⟨_, _, _, _, _, o6, o7⟩ := ro (ft f) x1
            exact Or.inr ⟨ft f, by omega, q1, fun kt => ⟨oT (ft f), o6, o7 kt, thr z⟩⟩
        have ro' : ∀ z : Int64, (f_keepTypes ≠ 0 → z = lN T) → ∀ i, i < oc + 1 → ve_FI f_keepTypes (upd a_objClass oc (nI (ve_Q C (8 * fb f + fp f) % 16))) (upd a_objField oc (ve_d y)) (vp_updL a_objType oc z) (upd b_objType oc (nI T)) (upd b_objVal oc (ve_d y)) (ve_u oT oc T) (ve_u oF oc y) i := by
          intro z hz i hi
          unfold ve_FI
          by_cases zi : i = oc
          · rw [zi, pk_us, pk_us, pk_us, pk_us, pk_uLs, ve_u_s, ve_u_s, eh]
            exact ⟨rfl, rfl, hyl, rfl, rfl, bT, hz⟩
          · rw [pk_un zi, pk_un zi, pk_un zi, pk_un zi, pk_uLn zi, ve_u_n zi, ve_u_n zi]
            exact ro i (by omega)
        have go := fun (z : Int64) (hz : f_keepTypes ≠ 0 → z = lN T) => ih f (s' + 1) (oc + 1) en (s + 1) (ve_u oT oc T) (ve_u oF oc y) (ve_u vl s' oc) fb (ve_u fp f (fp f + 1)) ft fa (upd a_objClass oc (nI (ve_Q C (8 * fb f + fp f) % 16))) (upd a_objField oc (ve_d y)) (upd a_values s' (nI oc)) (vp_updL a_objType oc z) a_frameBody (upd a_framePc f (nI (fp f + 1))) a_frameThis a_frameArg a_traced (upd b_objType oc (nI T)) (upd b_objVal oc (ve_d y)) (upd b_vals s' (nI oc)) b_frBody (upd b_pc f (nI (fp f + 1))) b_frThis b_frArg
          ob' cf' (ro' z hz) (ve_RV_p rv') (ve_RB_p rb) rt th0 hfe hen (by omega) (by omega) (by omega) (by omega)
        -- the long that X keeps is one of two
        have pick : ∃ z : Int64, (f_keepTypes ≠ 0 → z = lN T) ∧ ∀ post : Int32 → SX → Prop, post 0 (f_x, f_mainBody, f_classLimit, f_methodLimit, (nI n), (nI nm), f_checkState, f_errorPlace, f_typeTop, (nI (oc + 1)), (nI (s' + 1)), (nI (f + 1)), (nI en), (-1), f_keepTypes, (ve_i (ve_V G)), (ve_i (ve_B G)), (ve_i (ve_S G)), (ve_i (ve_A G)), a_fieldType, a_declared, (ve_i (ve_O M)), (ve_i (ve_P M)), (ve_i (ve_R M)), (ve_i (ve_L C)), (ve_i (ve_K C)), (ve_i (ve_Q C)), a_types, a_castAt, (upd a_objClass oc (nI (ve_Q C (8 * fb f + fp f) % 16))), (upd a_objField oc (ve_d y)), (upd a_values s' (nI oc)), (vp_updL a_objType oc z), a_frameBody, (upd a_framePc f (nI (fp f + 1))), a_frameThis, a_frameArg, a_traced) →
            wpX_runNew post (f_x, f_mainBody, f_classLimit, f_methodLimit, (nI n), (nI nm), f_checkState, f_errorPlace, f_typeTop, (nI oc), (nI sp), (nI (f + 1)), (nI en), (-1), f_keepTypes, (ve_i (ve_V G)), (ve_i (ve_B G)), (ve_i (ve_S G)), (ve_i (ve_A G)), a_fieldType, a_declared, (ve_i (ve_O M)), (ve_i (ve_P M)), (ve_i (ve_R M)), (ve_i (ve_L C)), (ve_i (ve_K C)), (ve_i (ve_Q C)), a_types, a_castAt, a_objClass, a_objField, a_values, a_objType, a_frameBody, (upd a_framePc f (nI (fp f + 1))), a_frameThis, a_frameArg, a_traced) (nI f) (nI (ve_Q C (8 * fb f + fp f))) := by
          by_cases kt : f_keepTypes = 0
          · exact ⟨lN (ve_Q C (8 * fb f + fp f)), fun y => absurd kt y, fun post hp => vx_new h w hE (by omega) hb13 rb1 (by omega) (by omega) hop wo hko ht hyX _ (fun _ => rfl) (fun y => absurd kt y) hp⟩
          · exact ⟨lN T, fun _ => rfl, fun post hp => vx_new h w hE (by omega) hb13 rb1 (by omega) (by omega) hop wo hko ht hyX _ (fun y => absurd y kt) (fun _ => rfl) hp⟩
        obtain ⟨z, hz, hXn⟩ := pick
        obtain ⟨r, u', v', R, hX, hY⟩ := go z hz
        refine ⟨r, u', v', R, fun post hp => vx_71 (by omega) (by omega) (vx_stepT (by omega) hb13 rb1 rb3 l8 hlt rfl hat tk1 (fun z => by omega) (fun _ => hXn _ (hX post hp)) (fun z => by omega) (fun z => by omega) (fun z => by omega)),
          fun post hp => vy_stepT (by omega) hb13 (by omega) (by omega) hen rb2 rb4 l8 hlt rfl hat tk1 (fun z => by omega) (fun z => by omega) (fun _ => ⟨fun z12 => ?_, fun z12 => ?_⟩) (fun z => by omega) (fun z => by omega)⟩
        · have := main z12
          rw [← this]
          exact vy_419 h hH (by omega) hsp (by omega) hat rfl hop rb4 hyY (hY post hp)
        · obtain ⟨f0, x1, x2⟩ := fo z12
          obtain ⟨_, q2, _⟩ := rt f f0 (Nat.le_refl _)
          obtain ⟨_, _, _, _, o5, o6, _⟩ := ro (ft f) x1
          rw [q2, nI_clamp (n := ft f) (by omega), o5, vl_i (a := ve_Q C (8 * fb f + fp f)) (by omega), vl_i (a := oT (ft f)) (by omega)]
          refine ⟨vp_in_nI (by omega) (by omega), vy_th h (by omega) (by omega) wo hko ?_⟩
          rw [lN_i, ← thr z12]
          exact vy_419 h hH (by omega) hsp (by omega) hat rfl hop rb4 hyY (hY post hp)
    · -- the end of a body
      rcases ve_c_end h w ob cf hge with ⟨e0, e1, e2⟩ | ⟨g, e0, cf'⟩
      · subst e0
        obtain ⟨w1, w2⟩ := rv 0 (by omega)
        refine ⟨0, (f_x, f_mainBody, f_classLimit, f_methodLimit, (nI n), (nI nm), f_checkState, f_errorPlace, f_typeTop, (nI oc), (nI sp), 0, (nI en), (a_values 0), f_keepTypes, (ve_i (ve_V G)), (ve_i (ve_B G)), (ve_i (ve_S G)), (ve_i (ve_A G)), a_fieldType, a_declared, (ve_i (ve_O M)), (ve_i (ve_P M)), (ve_i (ve_R M)), (ve_i (ve_L C)), (ve_i (ve_K C)), (ve_i (ve_Q C)), a_types, a_castAt, a_objClass, a_objField, a_values, a_objType, a_frameBody, a_framePc, a_frameThis, a_frameArg, a_traced), (g_most, g_mostMethods, (nI n), (nI nm), g_checked, g_errAt, g_depth, (nI en), (b_vals 0), g_typed, (ve_i (ve_V G)), (ve_i (ve_B G)), (ve_i (ve_S G)), (ve_i (ve_A G)), b_hasField, b_fld, (ve_i (ve_O M)), (ve_i (ve_N M)), (ve_i (ve_P M)), (ve_i (ve_R M)), (ve_i (ve_L C)), (ve_i (ve_K C)), (ve_i (ve_Q C)), b_need, b_types, b_objType, b_objVal, b_vals, b_frBody, b_pc, b_frThis, b_frArg, a_traced), ve_in (F0 _ _ _ _ _ _ _ _ _ _ _ rfl ⟨⟨en, hen, rfl, rfl⟩, Or.inr ⟨vl 0, oc, oT, oF, w1, w2, e2, by omega, ro⟩⟩),
          fun post hp => vx_71 (by omega) (by omega) (vx_stepE (by omega) hb13 rb1 rb3 l8 (by omega) hge (vx_71d hp)), fun post hp => vy_stepE (by omega) hb13 (by omega) rb2 rb4 l8 (by omega) hge (fun _ => hp) (fun g z => by omega)⟩
      · subst e0
        have pe : ve_pw C fb fp (g + 1) = ve_pw C fb fp g + (ve_L C (fb (g + 1)) - fp (g + 1)) := rfl
        obtain ⟨r, u', v', R, hX, hY⟩ := ih g sp oc en (s + 1) oT oF vl fb fp ft fa a_objClass a_objField a_values a_objType a_frameBody a_framePc a_frameThis a_frameArg a_traced b_objType b_objVal b_vals b_frBody b_pc b_frThis b_frArg
          ob cf' ro rv (fun i hi => rb i (by omega)) (fun i h1 hi => rt i h1 (by omega)) th0 (by omega) hen (by omega) (by omega) (by omega) (by omega)
        refine ⟨r, u', v', R, fun post hp => vx_71 (by omega) (by omega) (vx_stepE (by omega) hb13 rb1 rb3 l8 (by omega) hge (hX post hp)), fun post hp => vy_stepE (by omega) hb13 (by omega) rb2 rb4 l8 (by omega) hge (fun z => by omega) (fun g' z => ?_)⟩
        have : g' = g := by omega
        subst this
        exact hY post hp
end
end
section
/-! run -/
theorem ve_nb (z : Bool) : narrow .boolean (.int (ve_b z)) = .int (ve_b z) ∧ fits .boolean (.int (ve_b z)) = true := by cases z <;> exact ⟨rfl, rfl⟩
theorem i_vc_run {k : Nat} {u : SX} {v : SY} (I : i_Rel k u v) (hk : k + 5 ≤ 2562) (v1 : Int32) : wpX_run (fun r u' => wpY_run (fun r' v' => r' = r ∧ i_Rel (k + 5) u' v') v v1) u v1 := by
  refine ve_el (P := fun u v => wpX_run (fun r u' => wpY_run (fun r' v' => r' = r ∧ i_Rel (k + 5) u' v') v v1) u v1) ?_ I
  intro n nm G M C f_x f_mainBody f_classLimit f_methodLimit f_checkState f_errorPlace f_typeTop f_objCount f_valueTop f_depth f_entered f_result f_keepTypes a_fieldType a_declared a_types a_castAt a_objClass a_objField a_values a_objType a_frameBody a_framePc a_frameThis a_frameArg a_traced g_most g_mostMethods g_checked g_errAt g_depth g_entered g_result g_typed b_hasField b_fld b_need b_types b_objType b_objVal b_vals b_frBody b_pc b_frThis b_frArg b_log F
  have Rl : i_Rel (k + 5) (f_x, f_mainBody, f_classLimit, f_methodLimit, (nI n), (nI nm), f_checkState, f_errorPlace, f_typeTop, f_objCount, f_valueTop, f_depth, f_entered, f_result, f_keepTypes, (ve_i (ve_V G)), (ve_i (ve_B G)), (ve_i (ve_S G)), (ve_i (ve_A G)), a_fieldType, a_declared, (ve_i (ve_O M)), (ve_i (ve_P M)), (ve_i (ve_R M)), (ve_i (ve_L C)), (ve_i (ve_K C)), (ve_i (ve_Q C)), a_types, a_castAt, a_objClass, a_objField, a_values, a_objType, a_frameBody, a_framePc, a_frameThis, a_frameArg, a_traced) (g_most, g_mostMethods, (nI n), (nI nm), g_checked, g_errAt, g_depth, g_entered, g_result, g_typed, (ve_i (ve_V G)), (ve_i (ve_B G)), (ve_i (ve_S G)), (ve_i (ve_A G)), b_hasField, b_fld, (ve_i (ve_O M)), (ve_i (ve_N M)), (ve_i (ve_P M)), (ve_i (ve_R M)), (ve_i (ve_L C)), (ve_i (ve_K C)), (ve_i (ve_Q C)), b_need, b_types, b_objType, b_objVal, b_vals, b_frBody, b_pc, b_frThis, b_frArg, b_log) := ve_in F
  obtain ⟨⟨h, w, wc⟩, lim, fm, ⟨t1, t2, t3, t4⟩, K, R⟩ := F
  have X11 : (v1 = 0 ∨ v1 = 1) → wX_run_11 (fun r u' => wpY_run (fun r' v' => r' = r ∧ i_Rel (k + 5) u' v') (g_most, g_mostMethods, (nI n), (nI nm), g_checked, g_errAt, g_depth, g_entered, g_result, g_typed, (ve_i (ve_V G)), (ve_i (ve_B G)), (ve_i (ve_S G)), (ve_i (ve_A G)), b_hasField, b_fld, (ve_i (ve_O M)), (ve_i (ve_N M)), (ve_i (ve_P M)), (ve_i (ve_R M)), (ve_i (ve_L C)), (ve_i (ve_K C)), (ve_i (ve_Q C)), b_need, b_types, b_objType, b_objVal, b_vals, b_frBody, b_pc, b_frThis, b_frArg, b_log) v1) v1 f_x f_mainBody f_classLimit f_methodLimit (nI n) (nI nm) f_checkState f_errorPlace f_typeTop f_objCount f_valueTop f_depth f_entered f_result f_keepTypes (ve_i (ve_V G)) (ve_i (ve_B G)) (ve_i (ve_S G)) (ve_i (ve_A G)) a_fieldType a_declared (ve_i (ve_O M)) (ve_i (ve_P M)) (ve_i (ve_R M)) (ve_i (ve_L C)) (ve_i (ve_K C)) (ve_i (ve_Q C)) a_types a_castAt a_objClass a_objField a_values a_objType a_frameBody a_framePc a_frameThis a_frameArg a_traced := by
    intro hv
    have Y11 : ∀ post : Int32 → SY → Prop, wY_run_11 post v1 g_most g_mostMethods (nI n) (nI nm) g_checked g_errAt g_depth g_entered g_result g_typed (ve_i (ve_V G)) (ve_i (ve_B G)) (ve_i (ve_S G)) (ve_i (ve_A G)) b_hasField b_fld (ve_i (ve_O M)) (ve_i (ve_N M)) (ve_i (ve_P M)) (ve_i (ve_R M)) (ve_i (ve_L C)) (ve_i (ve_K C)) (ve_i (ve_Q C)) b_need b_types b_objType b_objVal b_vals b_frBody b_pc b_frThis b_frArg b_log → wpY_run post (g_most, g_mostMethods, (nI n), (nI nm), g_checked, g_errAt, g_depth, g_entered, g_result, g_typed, (ve_i (ve_V G)), (ve_i (ve_B G)), (ve_i (ve_S G)), (ve_i (ve_A G)), b_hasField, b_fld, (ve_i (ve_O M)), (ve_i (ve_N M)), (ve_i (ve_P M)), (ve_i (ve_R M)), (ve_i (ve_L C)), (ve_i (ve_K C)), (ve_i (ve_Q C)), b_need, b_types, b_objType, b_objVal, b_vals, b_frBody, b_pc, b_frThis, b_frArg, b_log) v1 := by
      intro post hp
      unfold wpY_run
      dsimp only
      rcases hv with e | e
      · exact br_t e hp
      · exact br_f (by rw [e]; decide) (br_t e hp)
    have notyet : f_checkState ≠ 1 → g_checked = 0 → wX_run_11 (fun r u' => wpY_run (fun r' v' => r' = r ∧ i_Rel (k + 5) u' v') (g_most, g_mostMethods, (nI n), (nI nm), g_checked, g_errAt, g_depth, g_entered, g_result, g_typed, (ve_i (ve_V G)), (ve_i (ve_B G)), (ve_i (ve_S G)), (ve_i (ve_A G)), b_hasField, b_fld, (ve_i (ve_O M)), (ve_i (ve_N M)), (ve_i (ve_P M)), (ve_i (ve_R M)), (ve_i (ve_L C)), (ve_i (ve_K C)), (ve_i (ve_Q C)), b_need, b_types, b_objType, b_objVal, b_vals, b_frBody, b_pc, b_frThis, b_frArg, b_log) v1) v1 f_x f_mainBody f_classLimit f_methodLimit (nI n) (nI nm) f_checkState f_errorPlace f_typeTop f_objCount f_valueTop f_depth f_entered f_result f_keepTypes (ve_i (ve_V G)) (ve_i (ve_B G)) (ve_i (ve_S G)) (ve_i (ve_A G)) a_fieldType a_declared (ve_i (ve_O M)) (ve_i (ve_P M)) (ve_i (ve_R M)) (ve_i (ve_L C)) (ve_i (ve_K C)) (ve_i (ve_Q C)) a_types a_castAt a_objClass a_objField a_values a_objType a_frameBody a_framePc a_frameThis a_frameArg a_traced := by
      intro c1 c2
      unfold wX_run_11
      refine br_f c1 (Y11 _ ?_)
      unfold wY_run_11
      exact br_t c2 ⟨rfl, Rl⟩
    rcases K with q | q | q
    · exact notyet (by rw [q.1]; decide) q.2.1
    · obtain ⟨q1, q2, q3, ck⟩ := q
      have l8 := (wc.1 12 (Or.inr rfl)).1
      have go : ∀ z : Bool, ∃ (r : Int32) (u' : SX) (v' : SY), i_Rel (k + 5) u' v' ∧ (∀ post : Int32 → SX → Prop, post r u' → wX_run_57 post (ve_b z) f_x f_mainBody f_classLimit f_methodLimit (nI n) (nI nm) f_checkState f_errorPlace f_typeTop 0 0 0 0 (-1) f_keepTypes (ve_i (ve_V G)) (ve_i (ve_B G)) (ve_i (ve_S G)) (ve_i (ve_A G)) a_fieldType a_declared (ve_i (ve_O M)) (ve_i (ve_P M)) (ve_i (ve_R M)) (ve_i (ve_L C)) (ve_i (ve_K C)) (ve_i (ve_Q C)) a_types a_castAt a_objClass a_objField a_values a_objType a_frameBody a_framePc a_frameThis a_frameArg a_traced) ∧
          (∀ post : Int32 → SY → Prop, post r v' → wY_run_41 post (ve_b z) g_most g_mostMethods (nI n) (nI nm) g_checked g_errAt g_depth 0 (-1) g_typed (ve_i (ve_V G)) (ve_i (ve_B G)) (ve_i (ve_S G)) (ve_i (ve_A G)) b_hasField b_fld (ve_i (ve_O M)) (ve_i (ve_N M)) (ve_i (ve_P M)) (ve_i (ve_R M)) (ve_i (ve_L C)) (ve_i (ve_K C)) (ve_i (ve_Q C)) b_need b_types b_objType b_objVal b_vals b_frBody b_pc b_frThis b_frArg b_log) := by
        intro z
        have cf : ve_CF n nm G M C (fun _ => 0) 0 (fun _ => 0) (fun _ => 12) (fun _ => 0) (fun _ => 0) (fun _ => 0) 0 0 :=
          ⟨Nat.zero_le _, [], 0, ck 12 (Or.inr rfl), rfl, rfl, rfl⟩
        have pw : ve_pw C (fun _ => 12) (fun _ => 0) 0 = ve_L C 12 := Nat.sub_zero _
        obtain ⟨r, u', v', R', hX, hY⟩ := ve_run (f_keepTypes := ve_b z) (g_typed := ve_b z) (f_x := f_x) (f_mainBody := f_mainBody) (f_classLimit := f_classLimit) (f_methodLimit := f_methodLimit) (f_checkState := f_checkState) (f_errorPlace := f_errorPlace) (f_typeTop := f_typeTop) (a_castAt := a_castAt) (a_types := a_types) (g_most := g_most) (g_mostMethods := g_mostMethods) (g_checked := g_checked) (g_errAt := g_errAt) (g_depth := g_depth) (b_need := b_need) (b_types := b_types)
          (k + 5) h w wc ck fm (fun _ _ _ _ _ _ _ _ _ _ _ hl hr => ⟨⟨h, w, wc⟩, lim, fm, ⟨t1, t2, hl, rfl⟩, Or.inr (Or.inl ⟨q1, q2, q3, ck⟩), hr⟩) 297 0 0 0 0 0 (fun _ => 0) (fun _ => 0) (fun _ => 0) (fun _ => 12) (fun _ => 0) (fun _ => 0) (fun _ => 0)
          a_objClass a_objField a_values a_objType (upd a_frameBody 0 12) (upd a_framePc 0 0) (upd a_frameThis 0 (-1)) (upd a_frameArg 0 (-1)) a_traced b_objType b_objVal b_vals (upd b_frBody 0 12) (upd b_pc 0 0) b_frThis b_frArg
          (fun i hi => by omega) cf (fun i hi => by omega) (fun i hi => by omega) (fun i hi => by
            have : i = 0 := by omega
            subst this
            exact ⟨pk_us, pk_us, pk_us, pk_us⟩) (fun i h1 hi => by omega) pk_us (by omega) (by omega) (by omega) (by omega) (by omega) (by omega)
        subst t3
        refine ⟨r, u', v', R', fun post hp => ?_, fun post hp => ?_⟩
        · unfold wX_run_57
          refine ⟨(ve_nb z).1, (ve_nb z).2, ?_⟩
          unfold wpX_enter
          dsimp only
          have h0 : vp_in 0 33 := vp_in_nI (n := 0) (by omega) (by omega)
          exact ⟨h0, nm_e ⟨h0, nm_e ⟨h0, nm_e ⟨h0, nm_e (nm_e ⟨_, hX post hp⟩)⟩⟩⟩⟩
        · unfold wY_run_41
          exact ⟨(ve_nb z).1, (ve_nb z).2, nm_e (nm_e ⟨_, hY post hp⟩)⟩
      unfold wX_run_11
      refine br_t q1 (br_c (fun z => ?_) (fun z => ?_))
      · obtain ⟨r, u', v', R', hX, hY⟩ := go true
        refine hX _ (Y11 _ ?_)
        unfold wY_run_11
        exact br_f (by rw [q2]; decide) (br_t z (hY _ ⟨rfl, R'⟩))
      · obtain ⟨r, u', v', R', hX, hY⟩ := go false
        refine hX _ (Y11 _ ?_)
        unfold wY_run_11
        exact br_f (by rw [q2]; decide) (br_f z (hY _ ⟨rfl, R'⟩))
    · exact notyet (by rw [q.1]; decide) q.2.1
  unfold wpX_run
  dsimp only
  refine br_c (fun z => X11 (Or.inl z)) (fun z => br_c (fun z2 => X11 (Or.inr z2)) (fun z2 => ?_))
  unfold wpY_run
  dsimp only
  exact br_f z (br_f z2 ⟨rfl, Rl⟩)
end
section
/-! bridges: counting signatures -/
noncomputable def ve_01 (P : Prop) : Nat := @ite Nat P (Classical.propDecidable P) 1 0
theorem ve_01t {P : Prop} (h : P) : ve_01 P = 1 := by unfold ve_01; rw [if_pos h]
theorem ve_01f {P : Prop} (h : ¬ P) : ve_01 P = 0 := by unfold ve_01; rw [if_neg h]
theorem ve_01e {P Q : Prop} (h : P ↔ Q) : ve_01 P = ve_01 Q := by rw [propext h]
noncomputable def ve_cn (P : Nat → Prop) : Nat → Nat
  | 0 => 0
  | k + 1 => ve_cn P k + ve_01 (P k)
theorem ve_cn_eq {P Q : Nat → Prop} : ∀ {N : Nat}, (∀ k, k < N → (P k ↔ Q k)) → ve_cn P N = ve_cn Q N
  | 0, _ => rfl
  | N + 1, h => by unfold ve_cn; rw [ve_cn_eq (fun k hk => h k (by omega)), ve_01e (h N (by omega))]
theorem ve_cn_add {P : Nat → Prop} {a : Nat} (hp : ¬ P a) : ∀ {N : Nat}, a < N → ve_cn (fun k => P k ∨ k = a) N = ve_cn P N + 1
  | 0, h => by omega
  | N + 1, h => by
    unfold ve_cn
    rcases Nat.lt_or_ge a N with z | z
    · rw [ve_cn_add hp z, ve_01e (show (P N ∨ N = a) ↔ P N from ⟨fun q => q.elim id (fun e => by omega), Or.inl⟩)]; omega
    · have e : a = N := by omega
      subst e
      rw [ve_01t (Or.inr rfl), ve_01f hp, ve_cn_eq (Q := P) (fun k hk => ⟨fun q => q.elim id (fun e => by omega), Or.inl⟩)]
theorem ve_cn_0 {P : Nat → Prop} : ∀ {N : Nat}, (∀ k, k < N → ¬ P k) → ve_cn P N = 0
  | 0, _ => rfl
  | N + 1, h => by unfold ve_cn; rw [ve_cn_0 (fun k hk => h k (by omega)), ve_01f (h N (by omega))]
/-- a method's signature; the signature of the method that a cls declares -/
def ve_sgn (G : ve_T) (M : ve_M) (m : Nat) : Nat := 16 * ve_er G (ve_P M m) (ve_O M m) + ve_er G (ve_R M m) (ve_O M m)
def ve_sgc (G : ve_T) (M : ve_M) (k c : Nat) : Nat := ve_sgn G M (ve_D M (4 * c + k) - 1)
/-- signatures of the classes from j up to below cl, other than cl's own -/
def ve_Bj (G : ve_T) (M : ve_M) (cl k j s : Nat) : Prop := s ≠ ve_sgc G M k cl ∧ ∃ c, j ≤ c ∧ c < cl ∧ ve_an G cl c ∧ ve_D M (4 * c + k) ≠ 0 ∧ ve_sgc G M k c = s
/-- a later cls with the same signature -/
def ve_lat (G : ve_T) (M : ve_M) (cl k j i : Nat) : Prop := ∃ c, j < c ∧ c < i ∧ ve_an G cl c ∧ ve_D M (4 * c + k) ≠ 0 ∧ ve_sgc G M k c = ve_sgc G M k j
section
variable {n nm : Nat} {G : ve_T} {M : ve_M} {C : ve_C}
theorem ve_sgn_b (h : ve_WG n G) (m : Nat) : ve_sgn G M m < 256 := by
  have := ve_er_b h (ve_P M m) (ve_O M m)
  have := ve_er_b h (ve_R M m) (ve_O M m)
  unfold ve_sgn; omega
theorem ve_Bj_s (h : ve_WG n G) {cl k j : Nat} (hj : j < cl) (hcl : ve_D M (4 * cl + k) ≠ 0) :
    (ve_an G cl j → ve_D M (4 * j + k) ≠ 0 → ¬ ve_lat G M cl k j (cl + 1) → ve_cn (ve_Bj G M cl k j) 256 = ve_cn (ve_Bj G M cl k (j + 1)) 256 + 1) ∧
    (¬ (ve_an G cl j ∧ ve_D M (4 * j + k) ≠ 0 ∧ ¬ ve_lat G M cl k j (cl + 1)) → ve_cn (ve_Bj G M cl k j) 256 = ve_cn (ve_Bj G M cl k (j + 1)) 256) := by
  constructor
  · intro x d nl
    have nm1 : ve_sgc G M k j ≠ ve_sgc G M k cl := fun e => nl ⟨cl, hj, by omega, ve_an_r cl, hcl, e.symm⟩
    have nb : ¬ ve_Bj G M cl k (j + 1) (ve_sgc G M k j) := by
      rintro ⟨_, c, c1, c2, c3, c4, c5⟩
      exact nl ⟨c, by omega, by omega, c3, c4, c5⟩
    rw [← ve_cn_add nb (ve_sgn_b h _)]
    refine ve_cn_eq (fun s _ => ⟨?_, ?_⟩)
    · rintro ⟨s1, c, c1, c2, c3, c4, c5⟩
      by_cases z : c = j
      · subst z; exact Or.inr c5.symm
      · exact Or.inl ⟨s1, c, by omega, c2, c3, c4, c5⟩
    · rintro (⟨s1, c, c1, c2, c3, c4, c5⟩ | e)
      · exact ⟨s1, c, by omega, c2, c3, c4, c5⟩
      · rw [e]; exact ⟨nm1, j, Nat.le_refl _, hj, x, d, rfl⟩
  · intro no
    refine ve_cn_eq (fun s _ => ⟨?_, ?_⟩)
    · rintro ⟨s1, c, c1, c2, c3, c4, c5⟩
      by_cases z : c = j
      · subst z
        by_cases y : ve_lat G M cl k c (cl + 1)
        · obtain ⟨c', d1, d2, d3, d4, d5⟩ := y
          have ne : c' ≠ cl := by
            rintro rfl
            exact s1 (c5.symm.trans d5.symm)
          exact ⟨s1, c', by omega, by omega, d3, d4, d5.trans c5⟩
        · exact absurd ⟨c3, c4, y⟩ no
      · exact ⟨s1, c, by omega, c2, c3, c4, c5⟩
    · rintro ⟨s1, c, c1, c2, c3, c4, c5⟩
      exact ⟨s1, c, by omega, c2, c3, c4, c5⟩
end
section
variable {n nm : Nat} {G : ve_T} {M : ve_M} {C : ve_C} {f_x f_mainBody f_classLimit f_methodLimit f_checkState f_errorPlace f_typeTop f_objCount f_valueTop f_depth f_entered f_result f_keepTypes : Int32} {a_fieldType a_declared a_castAt a_objClass a_objField a_values a_frameBody a_framePc a_frameThis a_frameArg a_traced : Nat → Int32} {a_types a_objType : Nat → Int64} {post : Int32 → Prop}
theorem vx_sgn (h : ve_WG n G) (w : ve_WM n nm G M) {m : Nat} (hm : m < nm) (hp : post (nI (ve_sgn G M m))) : wpX_signature post (f_x, f_mainBody, f_classLimit, f_methodLimit, (nI n), (nI nm), f_checkState, f_errorPlace, f_typeTop, f_objCount, f_valueTop, f_depth, f_entered, f_result, f_keepTypes, (ve_i (ve_V G)), (ve_i (ve_B G)), (ve_i (ve_S G)), (ve_i (ve_A G)), a_fieldType, a_declared, (ve_i (ve_O M)), (ve_i (ve_P M)), (ve_i (ve_R M)), (ve_i (ve_L C)), (ve_i (ve_K C)), (ve_i (ve_Q C)), a_types, a_castAt, a_objClass, a_objField, a_values, a_objType, a_frameBody, a_framePc, a_frameThis, a_frameArg, a_traced) (nI m) := by
  have hnm := w.1
  have n12 := ve_n12 h
  have wm := w.2.1 m hm
  have bP := ve_W3b wm.2.1
  have bR := ve_W3b wm.2.2.1
  have hin : vp_in (nI m) 13 := vp_in_nI (by omega) (by omega)
  unfold wpX_signature
  dsimp only
  rw [ve_at (f := ve_P M) (by omega), ve_at (f := ve_O M) (by omega), ve_at (f := ve_R M) (by omega), vl_i (a := ve_P M m) (by omega), vl_i (a := ve_R M m) (by omega)]
  refine ⟨hin, hin, vx_er h (by have := wm.1.1; omega) (by omega) ⟨hin, hin, vx_er h (by have := wm.1.1; omega) (by omega) ?_⟩⟩
  rw [v_16]; exact hp
theorem ve_Dm (w : ve_WM n nm G M) {j : Nat} (e : ve_D M j ≠ 0) : ∃ m, m < nm ∧ ve_D M j = m + 1 := by
  obtain ⟨m, a1, a2, _⟩ := w.2.2.1 j e
  exact ⟨m, a1, a2⟩
theorem vx_isNew_l (h : ve_WG n G) (w : ve_WM n nm G M) (hD : ∀ j, j < 64 → a_declared j = ve_d (ve_D M j)) {cl k j m : Nat} (hcl : cl < n) (hk : k < 4) (hm : m < nm) (ej : ve_D M (4 * j + k) = m + 1)
    (h1 : ¬ ve_lat G M cl k j (cl + 1) → post 1) (h0 : ve_lat G M cl k j (cl + 1) → post 0) : ∀ f i, i + f = cl + 1 → j < i → ¬ ve_lat G M cl k j i →
    wX_isNewSignature_29 post (nI cl) (nI k) (nI m) f_x f_mainBody f_classLimit f_methodLimit (nI n) (nI nm) f_checkState f_errorPlace f_typeTop f_objCount f_valueTop f_depth f_entered f_result f_keepTypes (ve_i (ve_V G)) (ve_i (ve_B G)) (ve_i (ve_S G)) (ve_i (ve_A G)) a_fieldType a_declared (ve_i (ve_O M)) (ve_i (ve_P M)) (ve_i (ve_R M)) (ve_i (ve_L C)) (ve_i (ve_K C)) (ve_i (ve_Q C)) a_types a_castAt a_objClass a_objField a_values a_objType a_frameBody a_framePc a_frameThis a_frameArg a_traced (f + 2) 1 (nI i)
  | 0, i, hi, hj, nl => by
    have n12 := ve_n12 h
    have e : i = cl + 1 := by omega
    subst e
    exact pk_lt cl (cl + 1) (fun _ => ⟨rfl, h1 nl⟩) (fun z => absurd z (by omega))
  | f + 1, i, hi, hj, nl => by
    have n12 := ve_n12 h
    have ext : (ve_an G cl i → ve_D M (4 * i + k) ≠ 0 → ve_sgc G M k i ≠ ve_sgc G M k j) → ¬ ve_lat G M cl k j (i + 1) := by
      rintro q ⟨c, c1, c2, c3, c4, c5⟩
      by_cases z : c = i
      · subst z; exact q c3 c4 c5
      · exact nl ⟨c, c1, by omega, c3, c4, c5⟩
    refine pk_lt cl i (fun z => absurd z (by omega)) (fun _ => br_f (by decide) ?_)
    rw [v_4, nI_clamp (by omega)]
    refine ⟨vp_in_nI (by omega) (by omega), nm_r (hD _ (by omega)) (vd_lt (ve_Dle w _) (fun e => nm_r (nI_1 i) ?_) (fun m' e => vx_below h (by omega) (by omega) (vb_c (fun b1 => nm_r (nI_1 i) ?_) (fun b1 => ?_))))⟩
    · exact vx_isNew_l h w hD hcl hk hm ej h1 h0 f (i + 1) (by omega) (by omega) (ext (fun _ z => absurd e z))
    · exact vx_isNew_l h w hD hcl hk hm ej h1 h0 f (i + 1) (by omega) (by omega) (ext (fun z => absurd z ((ve_bl_f h).mp b1)))
    · have hm' : m' < nm := by
        obtain ⟨x, x1, x2⟩ := ve_Dm w (j := 4 * i + k) (by omega)
        omega
      have s1 : ve_sgc G M k i = ve_sgn G M m' := by unfold ve_sgc; rw [e]; rfl
      have s2 : ve_sgc G M k j = ve_sgn G M m := by unfold ve_sgc; rw [ej]; rfl
      have b1' := ve_sgn_b (M := M) h m
      have b2' := ve_sgn_b (M := M) h m'
      rw [e]
      refine vx_sgn h w hm' (vx_sgn h w hm (pk_eq (ve_sgn G M m') (ve_sgn G M m) (fun z => nm_r (nI_1 i) ?_) (fun z => nm_r (nI_1 i) ?_)))
      · have fin := h0 ⟨i, hj, by omega, (ve_bl_iff h).mp b1, by omega, by rw [s1, s2, z]⟩
        exact br_c (fun _ => ⟨rfl, fin⟩) (fun _ => br_t rfl ⟨rfl, fin⟩)
      · exact vx_isNew_l h w hD hcl hk hm ej h1 h0 f (i + 1) (by omega) (by omega) (ext (fun _ _ => by rw [s1, s2]; exact z))
theorem vx_isNew (h : ve_WG n G) (w : ve_WM n nm G M) (hD : ∀ j, j < 64 → a_declared j = ve_d (ve_D M j)) {cl k j : Nat} (hcl : cl < n) (hk : k < 4) (hj : j < cl)
    (h1 : ve_D M (4 * j + k) ≠ 0 → ¬ ve_lat G M cl k j (cl + 1) → post 1) (h0 : ¬ (ve_D M (4 * j + k) ≠ 0 ∧ ¬ ve_lat G M cl k j (cl + 1)) → post 0) : wpX_isNewSignature post (f_x, f_mainBody, f_classLimit, f_methodLimit, (nI n), (nI nm), f_checkState, f_errorPlace, f_typeTop, f_objCount, f_valueTop, f_depth, f_entered, f_result, f_keepTypes, (ve_i (ve_V G)), (ve_i (ve_B G)), (ve_i (ve_S G)), (ve_i (ve_A G)), a_fieldType, a_declared, (ve_i (ve_O M)), (ve_i (ve_P M)), (ve_i (ve_R M)), (ve_i (ve_L C)), (ve_i (ve_K C)), (ve_i (ve_Q C)), a_types, a_castAt, a_objClass, a_objField, a_values, a_objType, a_frameBody, a_framePc, a_frameThis, a_frameArg, a_traced) (nI cl) (nI j) (nI k) := by
  have n12 := ve_n12 h
  unfold wpX_isNewSignature
  dsimp only
  rw [v_4, nI_clamp (by omega)]
  refine ⟨vp_in_nI (by omega) (by omega), nm_r (hD _ (by omega)) (vd_lt (ve_Dle w _) (fun e => nm_r (nI_1 j) ⟨1, ?_⟩) (fun m e => nm_r (nI_1 j) ⟨cl - j + 2, ?_⟩))⟩
  · have fin := h0 (fun q => q.1 e)
    exact br_c (fun _ => ⟨rfl, fin⟩) (fun _ => br_t rfl ⟨rfl, fin⟩)
  · have hm : m < nm := by
      obtain ⟨x, x1, x2⟩ := ve_Dm w (j := 4 * j + k) (by omega)
      omega
    rw [e]
    exact vx_isNew_l h w hD hcl hk hm e (fun z => h1 (by omega) z) (fun z => h0 (fun q => q.2 z)) (cl - j) (j + 1) (by omega) (by omega) (by rintro ⟨c, c1, c2, _⟩; omega)
theorem vx_br_l (h : ve_WG n G) (w : ve_WM n nm G M) (hD : ∀ j, j < 64 → a_declared j = ve_d (ve_D M j)) {cl k : Nat} (hcl : cl < n) (hk : k < 4) (hd : ve_D M (4 * cl + k) ≠ 0) : ∀ f j ct, j + f = cl →
    post (nI (ct + ve_cn (ve_Bj G M cl k j) 256)) → wX_bridges_31 post (nI cl) (nI k) f_x f_mainBody f_classLimit f_methodLimit (nI n) (nI nm) f_checkState f_errorPlace f_typeTop f_objCount f_valueTop f_depth f_entered f_result f_keepTypes (ve_i (ve_V G)) (ve_i (ve_B G)) (ve_i (ve_S G)) (ve_i (ve_A G)) a_fieldType a_declared (ve_i (ve_O M)) (ve_i (ve_P M)) (ve_i (ve_R M)) (ve_i (ve_L C)) (ve_i (ve_K C)) (ve_i (ve_Q C)) a_types a_castAt a_objClass a_objField a_values a_objType a_frameBody a_framePc a_frameThis a_frameArg a_traced (f + 1) (nI ct) (nI j)
  | 0, j, ct, hj, hp => by
    have n12 := ve_n12 h
    refine pk_le cl j (fun _ => ?_) (fun z => absurd z (by omega))
    have e : ve_cn (ve_Bj G M cl k j) 256 = 0 := ve_cn_0 (by rintro s _ ⟨_, c, c1, c2, _⟩; omega)
    rw [e] at hp; exact hp
  | f + 1, j, ct, hj, hp => by
    have n12 := ve_n12 h
    obtain ⟨s1, s2⟩ := ve_Bj_s (M := M) (k := k) (j := j) (cl := cl) h (by omega) hd
    have same : ¬ (ve_an G cl j ∧ ve_D M (4 * j + k) ≠ 0 ∧ ¬ ve_lat G M cl k j (cl + 1)) → wX_bridges_31 post (nI cl) (nI k) f_x f_mainBody f_classLimit f_methodLimit (nI n) (nI nm) f_checkState f_errorPlace f_typeTop f_objCount f_valueTop f_depth f_entered f_result f_keepTypes (ve_i (ve_V G)) (ve_i (ve_B G)) (ve_i (ve_S G)) (ve_i (ve_A G)) a_fieldType a_declared (ve_i (ve_O M)) (ve_i (ve_P M)) (ve_i (ve_R M)) (ve_i (ve_L C)) (ve_i (ve_K C)) (ve_i (ve_Q C)) a_types a_castAt a_objClass a_objField a_values a_objType a_frameBody a_framePc a_frameThis a_frameArg a_traced (f + 1) (nI ct) (nI (j + 1)) := by
      intro no
      rw [s2 no] at hp
      exact vx_br_l h w hD hcl hk hd f (j + 1) ct (by omega) hp
    refine pk_le cl j (fun z => absurd z (by omega)) (fun _ => vx_below h (by omega) (by omega) (vb_c (fun b1 => nm_r (Int32.add_zero _) (nm_r (nI_1 j) (same (fun q => (ve_bl_f h).mp b1 q.1)))) (fun b1 => ?_)))
    refine vx_isNew h w hD hcl hk (by omega) (fun d nl => br_f (by decide) (nm_r (nI_1 ct) (nm_r (nI_1 j) ?_))) (fun no => br_t rfl (nm_r (Int32.add_zero _) (nm_r (nI_1 j) (same (fun q => no q.2)))))
    rw [s1 ((ve_bl_iff h).mp b1) d nl] at hp
    have e : ct + (ve_cn (ve_Bj G M cl k (j + 1)) 256 + 1) = ct + 1 + ve_cn (ve_Bj G M cl k (j + 1)) 256 := by omega
    rw [e] at hp
    exact vx_br_l h w hD hcl hk hd f (j + 1) (ct + 1) (by omega) hp
end
/-! Y -/
section
variable {n nm : Nat} {G : ve_T} {M : ve_M} {C : ve_C} {g_most g_mostMethods g_checked g_errAt g_depth g_entered g_result g_typed : Int32} {b_hasField b_fld b_need b_objType b_objVal b_vals b_frBody b_pc b_frThis b_frArg b_log : Nat → Int32} {b_types : Nat → Int64} {post : Int32 → Prop}
theorem vy_sgn (h : ve_WG n G) (w : ve_WM n nm G M) {m : Nat} (hm : m < nm) (hp : post (nI (ve_sgn G M m))) : wpY_signature post (g_most, g_mostMethods, (nI n), (nI nm), g_checked, g_errAt, g_depth, g_entered, g_result, g_typed, (ve_i (ve_V G)), (ve_i (ve_B G)), (ve_i (ve_S G)), (ve_i (ve_A G)), b_hasField, b_fld, (ve_i (ve_O M)), (ve_i (ve_N M)), (ve_i (ve_P M)), (ve_i (ve_R M)), (ve_i (ve_L C)), (ve_i (ve_K C)), (ve_i (ve_Q C)), b_need, b_types, b_objType, b_objVal, b_vals, b_frBody, b_pc, b_frThis, b_frArg, b_log) (nI m) := by
  have hnm := w.1
  have n12 := ve_n12 h
  have wm := w.2.1 m hm
  have bP := ve_W3b wm.2.1
  have bR := ve_W3b wm.2.2.1
  obtain ⟨kP, hkP, wP⟩ := wm.2.1
  obtain ⟨kR, hkR, wR⟩ := wm.2.2.1
  have hin : vp_in (nI m) 13 := vp_in_nI (by omega) (by omega)
  unfold wpY_signature
  dsimp only
  rw [ve_at (f := ve_P M) (by omega), ve_at (f := ve_O M) (by omega), ve_at (f := ve_R M) (by omega), vl_i (a := ve_P M m) (by omega), vl_i (a := ve_R M m) (by omega)]
  refine ⟨hin, hin, vy_erase h (by have := wm.1.1; omega) wP (by omega) ⟨hin, hin, vy_erase h (by have := wm.1.1; omega) wR (by omega) ?_⟩⟩
  rw [v_16]; exact hp
def ve_FD (G : ve_T) (M : ve_M) (cl k s i : Nat) : Prop := ∃ m, m < i ∧ ve_N M m = k ∧ ve_O M m ≠ cl ∧ ve_an G cl (ve_O M m) ∧ ve_sgn G M m = s
theorem vy_br73 (h : ve_WG n G) (w : ve_WM n nm G M) {cl k mine s : Nat} (hcl : cl < n) (hk : k < 4) (hs : s < 256) (hmi : mine < 256) {x5 : Int32} {J : Int32 → Int32 → Prop}
    (h1 : ve_FD G M cl k s nm → s ≠ mine → J (x5 + 1) (nI (s + 1))) (h0 : ¬ (ve_FD G M cl k s nm ∧ s ≠ mine) → J x5 (nI (s + 1))) : ∀ f i (b : Bool), i + f = nm → (b = true ↔ ve_FD G M cl k s i) →
    wY_bridges_73 post J (nI cl) (nI k) (nI mine) x5 (nI s) g_most g_mostMethods (nI n) (nI nm) g_checked g_errAt g_depth g_entered g_result g_typed (ve_i (ve_V G)) (ve_i (ve_B G)) (ve_i (ve_S G)) (ve_i (ve_A G)) b_hasField b_fld (ve_i (ve_O M)) (ve_i (ve_N M)) (ve_i (ve_P M)) (ve_i (ve_R M)) (ve_i (ve_L C)) (ve_i (ve_K C)) (ve_i (ve_Q C)) b_need b_types b_objType b_objVal b_vals b_frBody b_pc b_frThis b_frArg b_log (f + 1) (ve_b b) (nI i)
  | 0, i, b, hi, q => by
    have hnm := w.1
    have e : i = nm := by omega
    subst e
    refine pk_le i i (fun _ => vb_c (fun z => nm_r (nI_1 s) (h0 ?_)) (fun z => pk_eq s mine (fun y => nm_r (nI_1 s) (h0 (fun x => x.2 y))) (fun y => nm_e (nm_r (nI_1 s) (h1 (q.mp z) y))))) (fun z => absurd z (by omega))
    rintro ⟨x, _⟩
    rw [q.mpr x] at z; exact absurd z (by decide)
  | f + 1, i, b, hi, q => by
    have hnm := w.1
    have n12 := ve_n12 h
    have wm := (w.2.1 i (by omega)).1
    have bs := ve_sgn_b (M := M) h i
    have go : ∀ b' : Bool, (b' = true ↔ (b = true ∨ (ve_N M i = k ∧ ve_O M i ≠ cl ∧ ve_an G cl (ve_O M i) ∧ ve_sgn G M i = s))) → wY_bridges_73 post J (nI cl) (nI k) (nI mine) x5 (nI s) g_most g_mostMethods (nI n) (nI nm) g_checked g_errAt g_depth g_entered g_result g_typed (ve_i (ve_V G)) (ve_i (ve_B G)) (ve_i (ve_S G)) (ve_i (ve_A G)) b_hasField b_fld (ve_i (ve_O M)) (ve_i (ve_N M)) (ve_i (ve_P M)) (ve_i (ve_R M)) (ve_i (ve_L C)) (ve_i (ve_K C)) (ve_i (ve_Q C)) b_need b_types b_objType b_objVal b_vals b_frBody b_pc b_frThis b_frArg b_log (f + 1) (ve_b b') (nI (i + 1)) := by
      intro b' e
      refine vy_br73 h w hcl hk hs hmi h1 h0 f (i + 1) b' (by omega) (e.trans ?_)
      rw [q]
      constructor
      · rintro (⟨m, m1, m2⟩ | m2)
        · exact ⟨m, by omega, m2⟩
        · exact ⟨i, by omega, m2⟩
      · rintro ⟨m, m1, m2⟩
        by_cases z : m = i
        · subst z; exact Or.inr m2
        · exact Or.inl ⟨m, by omega, m2⟩
    have keep : ¬ (ve_N M i = k ∧ ve_O M i ≠ cl ∧ ve_an G cl (ve_O M i) ∧ ve_sgn G M i = s) → wY_bridges_73 post J (nI cl) (nI k) (nI mine) x5 (nI s) g_most g_mostMethods (nI n) (nI nm) g_checked g_errAt g_depth g_entered g_result g_typed (ve_i (ve_V G)) (ve_i (ve_B G)) (ve_i (ve_S G)) (ve_i (ve_A G)) b_hasField b_fld (ve_i (ve_O M)) (ve_i (ve_N M)) (ve_i (ve_P M)) (ve_i (ve_R M)) (ve_i (ve_L C)) (ve_i (ve_K C)) (ve_i (ve_Q C)) b_need b_types b_objType b_objVal b_vals b_frBody b_pc b_frThis b_frArg b_log (f + 1) (ve_b b) (nI (i + 1)) := fun no =>
      go b ⟨Or.inl, fun z => z.elim id (fun y => absurd y no)⟩
    have hin : vp_in (nI i) 13 := vp_in_nI (by omega) (by omega)
    refine pk_le nm i (fun z => absurd z (by omega)) (fun _ => ⟨hin, ?_⟩)
    rw [ve_at (f := ve_N M) (by omega), ve_at (f := ve_O M) (by omega)]
    refine pk_eq (ve_N M i) k (fun e1 => ⟨hin, pk_eq (ve_O M i) cl (fun e2 => nm_r (nI_1 i) (keep (fun x => x.2.1 e2))) (fun e2 => ⟨hin, vy_below h (by omega) (by omega) (vb_c (fun b1 => nm_r (nI_1 i) (keep (fun x => (ve_bl_f h).mp b1 x.2.2.1))) (fun b1 => vy_sgn h w (by omega) ?_))⟩)⟩) (fun e1 => nm_r (nI_1 i) (keep (fun x => e1 x.1)))
    exact pk_eq (ve_sgn G M i) s (fun e3 => nm_r (nI_1 i) (go true ⟨fun _ => Or.inr ⟨e1, e2, (ve_bl_iff h).mp b1, e3⟩, fun _ => rfl⟩)) (fun e3 => nm_r (nI_1 i) (keep (fun x => e3 x.2.2.2)))
theorem vy_br59 (h : ve_WG n G) (w : ve_WM n nm G M) {cl k mine : Nat} (hcl : cl < n) (hk : k < 4) (hmi : mine < 256) (P : Nat → Prop) (hP : ∀ s, P s ↔ (ve_FD G M cl k s nm ∧ s ≠ mine)) : ∀ f s, s + f = 256 → post (nI (ve_cn P 256)) →
    wY_bridges_59 post (nI cl) (nI k) (nI mine) g_most g_mostMethods (nI n) (nI nm) g_checked g_errAt g_depth g_entered g_result g_typed (ve_i (ve_V G)) (ve_i (ve_B G)) (ve_i (ve_S G)) (ve_i (ve_A G)) b_hasField b_fld (ve_i (ve_O M)) (ve_i (ve_N M)) (ve_i (ve_P M)) (ve_i (ve_R M)) (ve_i (ve_L C)) (ve_i (ve_K C)) (ve_i (ve_Q C)) b_need b_types b_objType b_objVal b_vals b_frBody b_pc b_frThis b_frArg b_log (f + 1) (nI (ve_cn P s)) (nI s)
  | 0, s, hs, hp => by
    have e : s = 256 := by omega
    subst e
    exact pk_le 256 256 (fun _ => hp) (fun z => absurd z (by omega))
  | f + 1, s, hs, hp => by
    have hnm := w.1
    have nx := vy_br59 h w hcl hk hmi P hP f (s + 1) (by omega) hp
    have e : ve_cn P (s + 1) = ve_cn P s + ve_01 (P s) := rfl
    rw [e] at nx
    refine pk_le 256 s (fun z => absurd z (by omega)) (fun _ => ⟨nm + 1, vy_br73 h w hcl hk (by omega) hmi (fun fd ne => ?_) (fun no => ?_) nm 0 false (by omega) ⟨fun z => absurd z (by decide), fun ⟨m, hm, _⟩ => by omega⟩⟩)
    · rw [ve_01t ((hP s).mpr ⟨fd, ne⟩)] at nx
      rw [nI_1]; exact nx
    · rw [ve_01f (fun z => no ((hP s).mp z))] at nx
      exact nx
end
theorem i_vc_bridges {k : Nat} {u : SX} {v : SY} (I : i_Rel k u v) (hk : k + 5 ≤ 2562) (v1 : Int32) (v2 : Int32) : wpX_bridges (fun r => wpY_bridges (fun r' => r' = r ∧ i_Rel (k + 5) u v) v v1 v2) u v1 v2 := by
  refine ve_el (P := fun u v => ∀ J : Prop, J → wpX_bridges (fun r => wpY_bridges (fun r' => r' = r ∧ J) v v1 v2) u v1 v2) ?_ I _ I
  intro n nm G M C f_x f_mainBody f_classLimit f_methodLimit f_checkState f_errorPlace f_typeTop f_objCount f_valueTop f_depth f_entered f_result f_keepTypes a_fieldType a_declared a_types a_castAt a_objClass a_objField a_values a_objType a_frameBody a_framePc a_frameThis a_frameArg a_traced g_most g_mostMethods g_checked g_errAt g_depth g_entered g_result g_typed b_hasField b_fld b_need b_types b_objType b_objVal b_vals b_frBody b_pc b_frThis b_frArg b_log F J I2
  obtain ⟨⟨h, w, wc⟩, _, ⟨hE, hD, hH, hF⟩, _, _, _⟩ := F
  have n12 := ve_n12 h
  have hnm := w.1
  unfold wpX_bridges
  dsimp only
  refine vx_isSlot n12 ⟨fun c j hc hj e1 e2 => br_f (by decide) ?_, fun no => br_t rfl ?_⟩
  · subst e1; subst e2
    rw [v_4, nI_clamp (by omega), hD _ (by omega)]
    have YW : ∀ z : Int32, (ve_mt G M c j = 0 → (0 : Int32) = z ∧ J) → (∀ m, ve_mt G M c j = m + 1 → ((ve_O M m = c → wpY_signature (fun r_42 => ∃ n59 : Nat, wY_bridges_59 (fun r' => r' = z ∧ J) (nI c) (nI j) r_42 g_most g_mostMethods (nI n) (nI nm) g_checked g_errAt g_depth g_entered g_result g_typed (ve_i (ve_V G)) (ve_i (ve_B G)) (ve_i (ve_S G)) (ve_i (ve_A G)) b_hasField b_fld (ve_i (ve_O M)) (ve_i (ve_N M)) (ve_i (ve_P M)) (ve_i (ve_R M)) (ve_i (ve_L C)) (ve_i (ve_K C)) (ve_i (ve_Q C)) b_need b_types b_objType b_objVal b_vals b_frBody b_pc b_frThis b_frArg b_log n59 0 0) (g_most, g_mostMethods, (nI n), (nI nm), g_checked, g_errAt, g_depth, g_entered, g_result, g_typed, (ve_i (ve_V G)), (ve_i (ve_B G)), (ve_i (ve_S G)), (ve_i (ve_A G)), b_hasField, b_fld, (ve_i (ve_O M)), (ve_i (ve_N M)), (ve_i (ve_P M)), (ve_i (ve_R M)), (ve_i (ve_L C)), (ve_i (ve_K C)), (ve_i (ve_Q C)), b_need, b_types, b_objType, b_objVal, b_vals, b_frBody, b_pc, b_frThis, b_frArg, b_log) (nI m)) ∧ (ve_O M m ≠ c → (0 : Int32) = z ∧ J))) → wpY_bridges (fun r' => r' = z ∧ J) (g_most, g_mostMethods, (nI n), (nI nm), g_checked, g_errAt, g_depth, g_entered, g_result, g_typed, (ve_i (ve_V G)), (ve_i (ve_B G)), (ve_i (ve_S G)), (ve_i (ve_A G)), b_hasField, b_fld, (ve_i (ve_O M)), (ve_i (ve_N M)), (ve_i (ve_P M)), (ve_i (ve_R M)), (ve_i (ve_L C)), (ve_i (ve_K C)), (ve_i (ve_Q C)), b_need, b_types, b_objType, b_objVal, b_vals, b_frBody, b_pc, b_frThis, b_frArg, b_log) (nI c) (nI j) := by
      intro z h0 hS
      unfold wpY_bridges
      dsimp only
      refine br_f (nI_pos (by omega)) (br_f (nI_ge hc (by omega)) (br_f (nI_pos (by omega)) (br_t (nI_le (b := 3) (by omega) (by omega)) (vy_mo h w (by omega) hj (vd_lt (ve_mtb h w hj) (fun e => h0 e) (fun m e => ?_))))))
      have s1 := (ve_mt_s h w hj e).1
      have wm := (w.2.1 m s1).1
      rw [e]
      show vp_in (nI m) 13 ∧ ((ve_i (ve_O M) (nI m).toNatClampNeg = nI c → _) ∧ (¬ ve_i (ve_O M) (nI m).toNatClampNeg = nI c → _))
      rw [ve_at (by omega)]
      exact ⟨vp_in_nI (by omega) (by omega), pk_eq (ve_O M m) c (fun y => (hS m e).1 y) (fun y => (hS m e).2 y)⟩
    refine ⟨vp_in_nI (by omega) (by omega), vd_ge (ve_Dle w _) (fun m e => ⟨c + 1, ?_⟩) (fun e => ?_)⟩
    · have dn : ve_D M (4 * c + j) ≠ 0 := by omega
      have em : ve_mt G M c j = m + 1 := by unfold ve_mt; rw [ve_fi_r (g := ve_gD M j) dn]; exact e
      have s1 := (ve_mt_s h w hj em).1
      have so : ve_O M m = c := by
        obtain ⟨m', a1, a2, a3⟩ := w.2.2.1 _ dn
        have : m' = m := by omega
        subst this
        have := (w.2.1 m' a1).1
        omega
      have sg : ve_sgc G M j c = ve_sgn G M m := by unfold ve_sgc; rw [e]; rfl
      refine vx_br_l h w hD hc hj dn c 0 0 (by omega) ?_
      rw [Nat.zero_add]
      refine YW _ (fun z => by omega) (fun m' e' => ⟨fun _ => ?_, fun z => ?_⟩)
      · have : m' = m := by omega
        subst this
        refine vy_sgn h w s1 ⟨256 + 1, vy_br59 h w hc hj (ve_sgn_b h _) (ve_Bj G M c j 0) (fun s => ?_) 256 0 (by omega) ⟨rfl, I2⟩⟩
        constructor
        · rintro ⟨q1, c', c1, c2, c3, c4, c5⟩
          obtain ⟨x, a1, a2, a3⟩ := w.2.2.1 _ c4
          have wx := (w.2.1 x a1).1
          have ex : ve_O M x = c' := by omega
          refine ⟨⟨x, a1, by omega, by omega, by rw [ex]; exact c3, ?_⟩, by rw [← sg]; exact q1⟩
          rw [← c5]; unfold ve_sgc; rw [a2]; rfl
        · rintro ⟨⟨x, a1, a2, a3, a4, a5⟩, q1⟩
          have wx := (w.2.1 x a1).1
          have lt : ve_O M x < c := by have := ve_an_le h a4; omega
          have dx : ve_D M (4 * ve_O M x + j) = x + 1 := by rw [← a2]; exact wx.2.2
          refine ⟨by rw [sg]; exact q1, ve_O M x, by omega, lt, a4, by omega, ?_⟩
          rw [← a5]; unfold ve_sgc; rw [dx]; rfl
      · have : m' = m := by omega
        subst this
        exact absurd so z
    · refine YW _ (fun _ => ⟨rfl, I2⟩) (fun m em => ⟨fun z => ?_, fun _ => ⟨rfl, I2⟩⟩)
      have s1 := ve_mt_s h w hj em
      have wm := (w.2.1 m s1.1).1
      have := wm.2.2
      rw [z, s1.2.2, e] at this
      omega
  · unfold wpY_bridges
    dsimp only
    exact vy_slotB n12 ⟨rfl, I2⟩ (fun i j hi hj e1 e2 => (no i j hi hj e1 e2).elim)
end
