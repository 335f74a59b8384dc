section
/-! pure rows to paste: stores, nI and lN arithmetic, masks, shifts, narrowing, branches by naturals (pk_le, pk_lt, pk_eq), loops (lp1 .. lp16: the measure of the state; rp1 ..: recursion), negatives. Take what you need -/
theorem pk_us {f : Nat → Int32} {k : Nat} {x : Int32} : upd f k x k = x := if_pos rfl
theorem pk_un {f : Nat → Int32} {k j : Nat} {x : Int32} (h : j ≠ k) : upd f k x j = f j := if_neg h
theorem pk_uLs {f : Nat → Int64} {k : Nat} {x : Int64} : vp_updL f k x k = x := if_pos rfl
theorem pk_uLn {f : Nat → Int64} {k j : Nat} {x : Int64} (h : j ≠ k) : vp_updL f k x j = f j := if_neg h
theorem pk_sub {a b : Nat} (h : b ≤ a) : nI a - nI b = nI (a - b) := by
  obtain ⟨c, rfl⟩ : ∃ c, a = c + b := ⟨a - b, by omega⟩
  rw [← nI_add, Int32.add_sub_cancel, Nat.add_sub_cancel]
theorem pk_m1 (n : Nat) : nI (n + 1) + (-1) = nI n := by
  rw [← nI_1, Int32.add_assoc, show (1 : Int32) + (-1) = 0 from rfl, Int32.add_zero]
theorem pk_mul (a b : Nat) : nI a * nI b = nI (a * b) := (Int32.ofNat_mul a b).symm
theorem pk_div {a d : Nat} (ha : a < 2 ^ 31) (h0 : 0 < d) (hd : d < 2 ^ 31) : nI a / nI d = nI (a / d) := by
  apply Int32.toInt_inj.mp
  rw [lg_idiv_nonneg (by rw [nI_toInt ha]; omega) (by rw [nI_toInt hd]; omega), nI_toInt ha, nI_toInt hd, nI_toInt (Nat.lt_of_le_of_lt (Nat.div_le_self a d) ha)]
  first | rfl | exact (Int.natCast_ediv _ _).symm
theorem pk_rem {a d : Nat} (ha : a < 2 ^ 31) (h0 : 0 < d) (hd : d < 2 ^ 31) : nI a - nI a / nI d * nI d = nI (a % d) := by
  rw [pk_div ha h0 hd, pk_mul, pk_sub (Nat.div_mul_le_self a d)]
  exact congrArg nI (by have := Nat.div_add_mod' a d; omega)
theorem pk_sub_toInt {a b : Nat} (ha : a < 2 ^ 30) (hb : b < 2 ^ 30) : (nI a - nI b).toInt = (a : Int) - b := by
  rw [Int32.toInt_sub, nI_toInt (by omega), nI_toInt (by omega)]
  exact Int.bmod_eq_of_le (by omega) (by omega)
theorem pk_sneg {a b : Nat} (hb : b < 2 ^ 30) (h : a < b) : nI a - nI b < 0 := by
  rw [Int32.lt_iff_toInt_lt, pk_sub_toInt (by omega) hb, show (0 : Int32).toInt = 0 from by decide]
  omega
theorem pk_ix (x : Int32) {n : Nat} (hn : n < 2 ^ 31) : x < 0 ∨ nI n ≤ x ∨ ∃ j : Nat, j < n ∧ x = nI j := by
  by_cases h : x < 0
  · exact Or.inl h
  · obtain ⟨j, hj, rfl⟩ := nI_of h
    by_cases h2 : j < n
    · exact Or.inr (Or.inr ⟨j, h2, rfl⟩)
    · exact Or.inr (Or.inl (nI_le (by omega) hj))
theorem pk_le {x y : Int32} {A B : Prop} (a b : Nat) (f : a ≤ b → A) (g : b < a → B) (hx : x = nI a := by rfl) (hy : y = nI b := by rfl) (ha : a < 2 ^ 31 := by omega) (hb : b < 2 ^ 31 := by omega) : (x ≤ y → A) ∧ (¬ x ≤ y → B) := by
  subst hx hy
  rw [nI_leI ha hb]
  exact ⟨f, fun z => g (by omega)⟩
theorem pk_lt {x y : Int32} {A B : Prop} (a b : Nat) (f : a < b → A) (g : b ≤ a → B) (hx : x = nI a := by rfl) (hy : y = nI b := by rfl) (ha : a < 2 ^ 31 := by omega) (hb : b < 2 ^ 31 := by omega) : (x < y → A) ∧ (¬ x < y → B) := by
  subst hx hy
  rw [nI_ltI ha hb]
  exact ⟨f, fun z => g (by omega)⟩
theorem pk_eq {x y : Int32} {A B : Prop} (a b : Nat) (f : a = b → A) (g : a ≠ b → B) (hx : x = nI a := by rfl) (hy : y = nI b := by rfl) (ha : a < 2 ^ 31 := by omega) (hb : b < 2 ^ 31 := by omega) : (x = y → A) ∧ (¬ x = y → B) := by
  subst hx hy
  rw [nI_eq ha hb]
  exact ⟨f, g⟩
theorem pk_in {x : Int32} (n N : Nat) (h : n < N) (hx : x = nI n := by rfl) (hN : N < 2 ^ 31 := by omega) : vp_in x N := by
  subst hx
  exact vp_in_nI h hN
theorem pk_cl {x : Int32} (n : Nat) (hx : x = nI n := by rfl) (h : n < 2 ^ 31 := by omega) : x.toNatClampNeg = n := by
  subst hx
  exact nI_clamp h
theorem pk_tn {n : Nat} (h : n < 2 ^ 32) : (nI n).toBitVec.toNat = n := Nat.mod_eq_of_lt h
theorem pk_and (x : Int32) {m : Int32} (k : Nat) (hm : m.toBitVec.toNat = 2 ^ k - 1) : x &&& m = nI (x.toBitVec.toNat % 2 ^ k) := by
  apply Int32.toBitVec_inj.mp
  apply BitVec.eq_of_toNat_eq
  rw [Int32.toBitVec_and, BitVec.toNat_and, hm, Nat.and_two_pow_sub_one_eq_mod]
  show _ = (BitVec.ofNat 32 _).toNat
  rw [BitVec.toNat_ofNat]
  exact (Nat.mod_eq_of_lt (Nat.lt_of_le_of_lt (Nat.mod_le _ _) x.toBitVec.isLt)).symm
theorem pk_andN {n : Nat} (h : n < 2 ^ 32) {m : Int32} (k : Nat) (hm : m.toBitVec.toNat = 2 ^ k - 1) : nI n &&& m = nI (n % 2 ^ k) := by
  rw [pk_and _ k hm, pk_tn h]
theorem pk_andE (x : Int32) {m : Int32} (k : Nat) (hm : m.toBitVec.toNat = 2 ^ k - 1) : ∃ j : Nat, j < 2 ^ k ∧ x &&& m = nI j := ⟨_, Nat.mod_lt _ (Nat.two_pow_pos k), pk_and x k hm⟩
theorem pk_andIn (x : Int32) {m : Int32} (k : Nat) (hm : m.toBitVec.toNat = 2 ^ k - 1) (hk : k ≤ 30) : vp_in (x &&& m) (2 ^ k) := by
  obtain ⟨j, hj, e⟩ := pk_andE x k hm
  rw [e]
  exact vp_in_nI hj (Nat.lt_of_le_of_lt (Nat.pow_le_pow_right (by decide) hk) (by decide))
theorem pk_shl (a s : Int32) (k : Nat) (hs : (s.toBitVec.smod 32).toNat = k) : (a <<< s).toBitVec.toNat = a.toBitVec.toNat * 2 ^ k % 2 ^ 32 := by
  show (a.toBitVec <<< (s.toBitVec.smod 32).toNat).toNat = _
  rw [hs, BitVec.toNat_shiftLeft, Nat.shiftLeft_eq]
theorem pk_shlN {n : Nat} (s : Int32) (k : Nat) (hs : (s.toBitVec.smod 32).toNat = k) (h : n * 2 ^ k < 2 ^ 32) : nI n <<< s = nI (n * 2 ^ k) := by
  apply Int32.toBitVec_inj.mp
  apply BitVec.eq_of_toNat_eq
  have hn : n < 2 ^ 32 := Nat.lt_of_le_of_lt (Nat.le_mul_of_pos_right n (Nat.two_pow_pos k)) h
  rw [pk_shl _ _ k hs, pk_tn hn, pk_tn h, Nat.mod_eq_of_lt h]
theorem pk_shr (a s : Int32) (k : Nat) (hs : (s.toBitVec.smod 32).toNat = k) : (a >>> s).toInt = a.toInt >>> k := by
  show (a.toBitVec.sshiftRight (s.toBitVec.smod 32).toNat).toInt = _
  rw [hs, BitVec.toInt_sshiftRight]
  rfl
theorem pk_shrN {n : Nat} (h : n < 2 ^ 31) (s : Int32) (k : Nat) (hs : (s.toBitVec.smod 32).toNat = k) : nI n >>> s = nI (n / 2 ^ k) := by
  apply Int32.toInt_inj.mp
  have h2 : n / 2 ^ k ≤ n := Nat.div_le_self _ _
  rw [pk_shr _ _ k hs, nI_toInt h, nI_toInt (by omega), Int.shiftRight_eq_div_pow]
  rfl
theorem pk_ushr (x s : Int32) (k : Nat) (hs : ((s.toUInt32 &&& Int32.toUInt32 31).toBitVec % 32).toNat = k) : (x.toUInt32 >>> (s.toUInt32 &&& Int32.toUInt32 31)).toInt32.toBitVec.toNat = x.toBitVec.toNat / 2 ^ k := by
  have e : (x.toUInt32 >>> (s.toUInt32 &&& Int32.toUInt32 31)).toInt32.toBitVec = x.toBitVec >>> k := by
    rw [← hs]
    exact UInt32.toBitVec_shiftRight _ _
  rw [e, BitVec.toNat_ushiftRight, Nat.shiftRight_eq_div_pow]
theorem pk_ushrN {n : Nat} (hn : n < 2 ^ 32) (s : Int32) (k : Nat) (hs : ((s.toUInt32 &&& Int32.toUInt32 31).toBitVec % 32).toNat = k) : ((nI n).toUInt32 >>> (s.toUInt32 &&& Int32.toUInt32 31)).toInt32 = nI (n / 2 ^ k) := by
  apply Int32.toBitVec_inj.mp
  apply BitVec.eq_of_toNat_eq
  rw [pk_ushr _ s k hs, pk_tn hn, pk_tn (Nat.lt_of_le_of_lt (Nat.div_le_self _ _) hn)]
theorem pk_nb (z : Int32) : narrow .byte (.int z.toInt8.toInt32) = .int z.toInt8.toInt32 := congrArg Value.int (by simp)
theorem pk_ns (z : Int32) : narrow .short (.int z.toInt16.toInt32) = .int z.toInt16.toInt32 := congrArg Value.int (by simp)
theorem pk_fb (r : Int32) : fits .byte (.int r.toInt8.toInt32) = true := by
  have ⟨a, b⟩ := lg_i2b_range r
  have h1 : (-128 : Int32).toInt = -128 := by decide
  have h2 : (127 : Int32).toInt = 127 := by decide
  simp only [fits, Bool.and_eq_true, decide_eq_true_eq, Int32.le_iff_toInt_le, h1, h2]
  omega
theorem pk_fs (r : Int32) : fits .short (.int r.toInt16.toInt32) = true := by
  have ⟨a, b⟩ := lg_i2s_range r
  have h1 : (-32768 : Int32).toInt = -32768 := by decide
  have h2 : (32767 : Int32).toInt = 32767 := by decide
  simp only [fits, Bool.and_eq_true, decide_eq_true_eq, Int32.le_iff_toInt_le, h1, h2]
  omega
theorem pk_charN {q : Nat} (hq : q < 65536) : narrow .char (.int (nI q)) = .int (nI q) ∧ fits .char (.int (nI q)) = true := by
  constructor
  · have e : (nI q).toUInt32.toUInt16.toUInt32.toInt32 = nI q := by
      apply Int32.toBitVec_inj.mp
      apply BitVec.eq_of_toNat_eq
      show (nI q).toUInt32.toUInt16.toUInt32.toNat = q % 2 ^ 32
      rw [UInt16.toNat_toUInt32, UInt32.toNat_toUInt16, show (nI q).toUInt32.toNat = q % 2 ^ 32 from rfl]
      omega
    exact congrArg Value.int e
  · have a : (0 : Int32) ≤ nI q := nI_pos' (by omega)
    have b : nI q ≤ 65535 := nI_le (b := 65535) (by omega) (by decide)
    show (decide ((0 : Int32) ≤ nI q) && decide (nI q ≤ 65535)) = true
    rw [decide_eq_true a, decide_eq_true b]
    rfl
theorem pk_char (x : Int32) : (x.toUInt32 % 65536).toInt32 = nI (x.toBitVec.toNat % 65536) := by
  apply Int32.toBitVec_inj.mp
  apply BitVec.eq_of_toNat_eq
  rw [pk_tn (by omega)]
  show (x.toUInt32 % 65536).toNat = _
  rw [UInt32.toNat_mod]
  rfl
theorem pk_nc (x : Int32) : narrow .char (.int (x.toUInt32 % 65536).toInt32) = .int (x.toUInt32 % 65536).toInt32 := by
  rw [pk_char]
  exact (pk_charN (Nat.mod_lt _ (by decide))).1
theorem pk_fc (x : Int32) : fits .char (.int (x.toUInt32 % 65536).toInt32) = true := by
  rw [pk_char]
  exact (pk_charN (Nat.mod_lt _ (by decide))).2
theorem pk_vb (z : Int32) : vp_nar .byte z.toInt8.toInt32 = z.toInt8.toInt32 := by rw [vp_nar_byte]; simp
theorem pk_vs (z : Int32) : vp_nar .short z.toInt16.toInt32 = z.toInt16.toInt32 := by rw [vp_nar_short]; simp
theorem pk_vc (z : Int32) : vp_nar .char (z.toUInt32 % 65536).toInt32 = (z.toUInt32 % 65536).toInt32 := Value.int.inj (pk_nc z)
/-! ===== a byte read unsigned ===== -/
theorem bp_b (x : Int32) : x.toInt8.toInt32 &&& 255 = x &&& 255 := by
  apply Int32.toBitVec_inj.mp
  rw [Int32.toBitVec_and, Int32.toBitVec_and, Int8.toBitVec_toInt32, Int32.toBitVec_toInt8]
  apply BitVec.eq_of_getLsbD_eq
  intro i hi
  rw [BitVec.getLsbD_and, BitVec.getLsbD_and]
  have hm : ∀ i < 32, 8 ≤ i → (255 : Int32).toBitVec.getLsbD i = false := by decide
  rcases Nat.lt_or_ge i 8 with z | z
  · rw [BitVec.getLsbD_signExtend, BitVec.getLsbD_signExtend, if_pos z, if_pos hi]
    simp only [z, hi, decide_true, Bool.true_and]
  · rw [hm i hi z]; simp
/-! ===== the char cast and 65535 ===== -/
theorem em_w (v : Int32) : ∃ w : Nat, w < 65536 ∧ (v.toUInt32 % 65536).toInt32 = nI w ∧ v &&& 65535 = nI w := by
  have hr := lw_u16_r v
  have h0 : (0 : Int32).toInt = 0 := by decide
  obtain ⟨w, h1, h2⟩ := nI_of (x := lw_u16 v) (by rw [Int32.lt_iff_toInt_lt]; omega)
  have h3 : (v.toUInt32 % 65536).toInt32 = nI w := h2
  rw [h2, nI_toInt h1] at hr
  exact ⟨w, by omega, h3, by rw [← lg_i2c_mask, ← lg_i2c_nf, h3]⟩
/-! ===== lN n to 2^64: shifts, and, or, masks, one bit ===== -/
theorem wb_tb (n : Nat) : (lN n).toBitVec = BitVec.ofNat 64 n := rfl
theorem wb_inj {a b : Int64} (h : a.toBitVec = b.toBitVec) : a = b := Int64.toBitVec_inj.mp h
theorem wb_tn {n : Nat} (h : n < 2 ^ 64) : (lN n).toBitVec.toNat = n := by rw [wb_tb, BitVec.toNat_ofNat, Nat.mod_eq_of_lt h]
theorem wb_of (x : Int64) : ∃ n, n < 2 ^ 64 ∧ x = lN n := ⟨x.toBitVec.toNat, x.toBitVec.isLt, wb_inj (by rw [wb_tb]; simp)⟩
theorem wb_of32 (x : Int32) : ∃ n, n < 2 ^ 32 ∧ x = nI n := ⟨x.toBitVec.toNat, x.toBitVec.isLt, Int32.toBitVec_inj.mp (by show _ = BitVec.ofNat 32 _; simp)⟩
theorem wb_c : ∀ k, k < 64 → ((nI k).toInt64 &&& 63) = lN k := by decide +kernel
theorem wb_cu : ∀ k, k < 64 → ((nI k).toInt64.toUInt64 &&& Int64.toUInt64 63) = UInt64.ofNat k := by decide +kernel
theorem wb_sm : ∀ k, k < 64 → (BitVec.ofNat 64 k).smod 64 = BitVec.ofNat 64 k := by decide +kernel
theorem wb_pw {a b : Nat} (h : a ≤ b) : 2 ^ b = 2 ^ a * 2 ^ (b - a) := by rw [← Nat.pow_add]; congr 1; omega
theorem wb_lt2 {a b : Nat} (h : a < b) : 2 ^ a < 2 ^ b := Nat.pow_lt_pow_right (by decide) h
theorem wb_mod (n : Nat) : lN n = lN (n % 2 ^ 64) := wb_inj (by rw [wb_tb, wb_tb]; apply BitVec.eq_of_toNat_eq; rw [BitVec.toNat_ofNat, BitVec.toNat_ofNat, Nat.mod_mod])
theorem wb_shr {n k : Nat} (hn : n < 2 ^ 64) (hk : k < 64) : ((lN n).toUInt64 >>> ((nI k).toInt64.toUInt64 &&& Int64.toUInt64 63)).toInt64 = lN (n / 2 ^ k) := by
  rw [wb_cu k hk]
  apply wb_inj
  apply BitVec.eq_of_toNat_eq
  show ((lN n).toUInt64 >>> UInt64.ofNat k).toNat = (BitVec.ofNat 64 _).toNat
  have h1 : (UInt64.ofNat k).toNat = k := by
    show (BitVec.ofNat 64 k).toNat = k
    rw [BitVec.toNat_ofNat, Nat.mod_eq_of_lt (by omega)]
  have h2 : (lN n).toUInt64.toNat = n := wb_tn hn
  rw [UInt64.toNat_shiftRight, h1, h2, Nat.mod_eq_of_lt hk, Nat.shiftRight_eq_div_pow, BitVec.toNat_ofNat, Nat.mod_eq_of_lt (Nat.lt_of_le_of_lt (Nat.div_le_self _ _) hn)]
theorem wb_shl (n : Nat) {k : Nat} (hk : k < 64) : lN n <<< ((nI k).toInt64 &&& 63) = lN (n * 2 ^ k) := by
  rw [wb_c k hk]
  apply wb_inj
  rw [Int64.toBitVec_shiftLeft, wb_tb, wb_tb, wb_tb, wb_sm k hk]
  apply BitVec.eq_of_toNat_eq
  rw [BitVec.shiftLeft_eq', BitVec.toNat_shiftLeft, BitVec.toNat_ofNat, BitVec.toNat_ofNat, BitVec.toNat_ofNat, Nat.mod_eq_of_lt (show k < 2 ^ 64 by omega), Nat.shiftLeft_eq, Nat.mul_mod, Nat.mod_mod, ← Nat.mul_mod]
/-! ===== lN: masks, 'or' of parts that don't overlap is a sum ===== -/
theorem u_tn {n : Nat} (h : n < 2 ^ 64) : (UInt64.ofNat n).toNat = n := Nat.mod_eq_of_lt h
theorem g_and {a b c : Nat} (ha : a < 2 ^ 64) (hb : b < 2 ^ 64) (hc : a &&& b = c) : lN a &&& lN b = lN c := by
  subst hc
  have h : UInt64.ofNat a &&& UInt64.ofNat b = UInt64.ofNat (a &&& b) := UInt64.toNat_inj.mp (by rw [UInt64.toNat_and, u_tn ha, u_tn hb, u_tn (Nat.and_lt_two_pow a hb)])
  have h2 := congrArg UInt64.toInt64 h
  exact h2
theorem g_and1 {a : Nat} (ha : a < 2 ^ 64) : lN a &&& 1 = lN (a % 2) := g_and (b := 1) ha (by decide) (Nat.and_two_pow_sub_one_eq_mod a 1)
theorem g_mask {a s p : Nat} (hp : 2 ^ s = p) (hs : s < 64) (ha : a < 2 ^ 64) : lN a &&& lN (p - 1) = lN (a % p) := by
  subst hp
  have := Nat.pow_lt_pow_right (show 1 < 2 by decide) hs
  exact g_and ha (by omega) (Nat.and_two_pow_sub_one_eq_mod a s)
theorem g_or {k p a b : Nat} (hp : 2 ^ k = p) (ha : a < p) (h : b * p + a < 2 ^ 64) : lN (b * p) ||| lN a = lN (b * p + a) := by
  subst hp
  have h1 : b * 2 ^ k ||| a = b * 2 ^ k + a := by rw [← Nat.shiftLeft_eq, Nat.shiftLeft_add_eq_or_of_lt ha]
  have h3 : UInt64.ofNat (b * 2 ^ k) ||| UInt64.ofNat a = UInt64.ofNat (b * 2 ^ k + a) := UInt64.toNat_inj.mp (by rw [UInt64.toNat_or, u_tn (by omega), u_tn (by omega), u_tn h, h1])
  have h2 := congrArg UInt64.toInt64 h3
  exact h2
theorem g_or' {k p a b : Nat} (hp : 2 ^ k = p) (ha : a < p) (h : a + b * p < 2 ^ 64) : lN a ||| lN (b * p) = lN (a + b * p) := by
  rw [Int64.or_comm, g_or hp ha (by omega), Nat.add_comm]
theorem g_ushr {a k p : Nat} {y : UInt64} (hy : y = UInt64.ofNat k) (hk : k < 64) (hp : 2 ^ k = p) (ha : a < 2 ^ 64) : ((lN a).toUInt64 >>> y).toInt64 = lN (a / p) := by
  subst hy hp
  have h : UInt64.ofNat a >>> UInt64.ofNat k = UInt64.ofNat (a / 2 ^ k) := UInt64.toNat_inj.mp (by rw [UInt64.toNat_shiftRight, u_tn ha, u_tn (by omega), u_tn (Nat.lt_of_le_of_lt (Nat.div_le_self _ _) ha), Nat.mod_eq_of_lt hk, Nat.shiftRight_eq_div_pow])
  have h2 := congrArg UInt64.toInt64 h
  exact h2
theorem g_shl {a k p : Nat} {y : Int64} (hy : y.toBitVec.smod 64 = BitVec.ofNat 64 k) (hk : k < 64) (hp : 2 ^ k = p) (ha : a < 2 ^ 64) : lN a <<< y = lN (a * p) := by
  subst hp
  apply Int64.toBitVec_inj.mp
  rw [Int64.toBitVec_shiftLeft, hy]
  apply BitVec.eq_of_toNat_eq
  have hb : (lN a).toBitVec.toNat = a := Nat.mod_eq_of_lt ha
  have hk' : (BitVec.ofNat 64 k).toNat = k := Nat.mod_eq_of_lt (by omega)
  have h : ((lN a).toBitVec <<< BitVec.ofNat 64 k).toNat = (a * 2 ^ k) % 2 ^ 64 := by simp only [BitVec.shiftLeft_eq', BitVec.toNat_shiftLeft, hb, hk', Nat.shiftLeft_eq]
  exact h
end
section
/-! lists of cells; the merge; what both sides' sets have in common -/
def oa_l (a : Nat → Int32) : Nat → Nat → List Int32
  | _, 0 => []
  | o, z + 1 => a o :: oa_l a (o + 1) z
theorem oa_l0 (a : Nat → Int32) (o : Nat) : oa_l a o 0 = [] := by rw [oa_l]
theorem oa_ls (a : Nat → Int32) (o z : Nat) : oa_l a o (z + 1) = a o :: oa_l a (o + 1) z := by rw [oa_l]
theorem oa_llen (a : Nat → Int32) : ∀ z o : Nat, (oa_l a o z).length = z := by
  intro z
  induction z with
  | zero => intro o; rw [oa_l0]; rfl
  | succ z ih => intro o; rw [oa_ls, List.length_cons, ih]
theorem oa_lapp (a : Nat → Int32) (q : Nat) : ∀ p o : Nat, oa_l a o (p + q) = oa_l a o p ++ oa_l a (o + p) q := by
  intro p
  induction p with
  | zero => intro o; rw [Nat.zero_add, oa_l0, Nat.add_zero, List.nil_append]
  | succ p ih =>
    intro o
    rw [show p + 1 + q = (p + q) + 1 by omega, oa_ls, oa_ls, ih (o + 1), List.cons_append, show o + 1 + p = o + (p + 1) by omega]
theorem oa_lsnoc (a : Nat → Int32) (o z : Nat) : oa_l a o (z + 1) = oa_l a o z ++ [a (o + z)] := by
  rw [oa_lapp a 1 z o, oa_ls, oa_l0]
theorem oa_lcongr {a b : Nat → Int32} : ∀ z o : Nat, (∀ j, o ≤ j → j < o + z → a j = b j) → oa_l a o z = oa_l b o z := by
  intro z
  induction z with
  | zero => intro o _; rw [oa_l0, oa_l0]
  | succ z ih =>
    intro o h
    rw [oa_ls, oa_ls, h o (Nat.le_refl o) (by omega), ih (o + 1) (fun j h1 h2 => h j (by omega) (by omega))]
theorem oa_lupd {a : Nat → Int32} {k o z : Nat} {x : Int32} (h : k < o ∨ o + z ≤ k) : oa_l (upd a k x) o z = oa_l a o z :=
  oa_lcongr z o (fun j h1 h2 => pk_un (by omega))
theorem oa_lpush {a : Nat → Int32} {o z : Nat} {x : Int32} : oa_l (upd a (o + z) x) o (z + 1) = oa_l a o z ++ [x] := by
  rw [oa_lsnoc, oa_lupd (Or.inr (Nat.le_refl _)), pk_us]
theorem oa_ne {x w : Int32} (h : x < w) : w ≠ x := fun e => Int32.lt_irrefl (e ▸ h : w < w)
theorem oa_ne' {x w : Int32} (h : x < w) : x ≠ w := fun e => oa_ne h e.symm
theorem oa_nd {A : List Int32} (h : A.Pairwise (· < ·)) : A.Nodup := List.Pairwise.imp (fun h => oa_ne' h) h
/-- B without what A holds -/
def oa_nf (A B : List Int32) : List Int32 := B.filter (fun x => decide (x ∉ A))
theorem oa_nf_nil (A : List Int32) : oa_nf A [] = [] := rfl
theorem oa_nf_nilA (B : List Int32) : oa_nf [] B = B := by
  unfold oa_nf
  exact List.filter_eq_self.mpr (fun a _ => by simp)
theorem oa_nf_in {A B : List Int32} {x : Int32} (h : x ∈ A) : oa_nf A (x :: B) = oa_nf A B := by
  unfold oa_nf
  exact List.filter_cons_of_neg (by simpa using h)
theorem oa_nf_out {A B : List Int32} {x : Int32} (h : x ∉ A) : oa_nf A (x :: B) = x :: oa_nf A B := by
  unfold oa_nf
  exact List.filter_cons_of_pos (by simpa using h)
theorem oa_nf_mem {A B : List Int32} {x : Int32} : x ∈ oa_nf A B ↔ x ∈ B ∧ x ∉ A := by
  unfold oa_nf
  rw [List.mem_filter, decide_eq_true_iff]
theorem oa_nf_congr {A A' B : List Int32} (h : ∀ x ∈ B, (x ∈ A ↔ x ∈ A')) : oa_nf A B = oa_nf A' B := by
  unfold oa_nf
  exact List.filter_congr (fun x hx => by rw [decide_eq_decide, h x hx])
theorem oa_nf_perm {A A' B B' : List Int32} (hA : A.Perm A') (hB : B.Perm B') : (oa_nf A B).Perm (oa_nf A' B') := by
  rw [oa_nf_congr (A := A) (A' := A') (fun x _ => hA.mem_iff)]
  exact hB.filter _
theorem oa_nf_nodup {A B : List Int32} (hA : A.Nodup) (hB : B.Nodup) : (A ++ oa_nf A B).Nodup := by
  refine List.pairwise_append.mpr ⟨hA, List.Pairwise.filter _ hB, ?_⟩
  intro a ha b hb e
  exact (oa_nf_mem.mp hb).2 (e ▸ ha)
/-- the merge of two sorted lists -/
def oa_mg : List Int32 → List Int32 → List Int32
  | [], B => B
  | x :: A, [] => x :: A
  | x :: A, y :: B => if x < y then x :: oa_mg A (y :: B) else if y < x then y :: oa_mg (x :: A) B else x :: oa_mg A B
termination_by A B => A.length + B.length
theorem oa_mg_n (B : List Int32) : oa_mg [] B = B := by rw [oa_mg]
theorem oa_mg_c (A : List Int32) : oa_mg A [] = A := by
  cases A with
  | nil => rw [oa_mg]
  | cons x A => rw [oa_mg]
theorem oa_mg_lt {x y : Int32} {A B : List Int32} (h : x < y) : oa_mg (x :: A) (y :: B) = x :: oa_mg A (y :: B) := by rw [oa_mg, if_pos h]
theorem oa_mg_gt {x y : Int32} {A B : List Int32} (h : y < x) : oa_mg (x :: A) (y :: B) = y :: oa_mg (x :: A) B := by rw [oa_mg, if_neg (Int32.lt_asymm h), if_pos h]
theorem oa_mg_eq {x : Int32} {A B : List Int32} : oa_mg (x :: A) (x :: B) = x :: oa_mg A B := by rw [oa_mg, if_neg Int32.lt_irrefl, if_neg Int32.lt_irrefl]
theorem oa_mgS : ∀ (n : Nat) (A B : List Int32), A.length + B.length < n → A.Pairwise (· < ·) → B.Pairwise (· < ·) → (oa_mg A B).Perm (A ++ oa_nf A B) ∧ (oa_mg A B).Pairwise (· < ·) := by
  intro n
  induction n with
  | zero => intro A B h; omega
  | succ n ih =>
    intro A B h hA hB
    cases A with
    | nil =>
      rw [oa_mg_n, oa_nf_nilA, List.nil_append]
      exact ⟨List.Perm.refl _, hB⟩
    | cons x A =>
      cases B with
      | nil =>
        rw [oa_mg_c, oa_nf_nil, List.append_nil]
        exact ⟨List.Perm.refl _, hA⟩
      | cons y B =>
        have hA' := List.pairwise_cons.mp hA
        have hB' := List.pairwise_cons.mp hB
        rw [List.length_cons, List.length_cons] at h
        by_cases c1 : x < y
        · obtain ⟨p, s⟩ := ih A (y :: B) (by rw [List.length_cons]; omega) hA'.2 hB
          have hx : ∀ w ∈ y :: B, x < w := by
            intro w hw
            rcases List.mem_cons.mp hw with e | hw
            · rw [e]; exact c1
            · exact Int32.lt_trans c1 (hB'.1 w hw)
          have e : oa_nf (x :: A) (y :: B) = oa_nf A (y :: B) := by
            refine oa_nf_congr (fun w hw => ?_)
            rw [List.mem_cons]
            exact ⟨fun q => q.resolve_left (oa_ne (hx w hw)), Or.inr⟩
          rw [oa_mg_lt c1, e]
          refine ⟨p.cons x, List.pairwise_cons.mpr ⟨fun w hw => ?_, s⟩⟩
          rcases List.mem_append.mp (p.mem_iff.mp hw) with q | q
          · exact hA'.1 w q
          · exact hx w (oa_nf_mem.mp q).1
        · by_cases c2 : y < x
          · obtain ⟨p, s⟩ := ih (x :: A) B (by rw [List.length_cons]; omega) hA hB'.2
            have hy : ∀ w ∈ x :: A, y < w := by
              intro w hw
              rcases List.mem_cons.mp hw with e | hw
              · rw [e]; exact c2
              · exact Int32.lt_trans c2 (hA'.1 w hw)
            rw [oa_mg_gt c2, oa_nf_out (fun q => Int32.lt_irrefl (hy y q))]
            refine ⟨(p.cons y).trans List.perm_middle.symm, List.pairwise_cons.mpr ⟨fun w hw => ?_, s⟩⟩
            rcases List.mem_append.mp (p.mem_iff.mp hw) with q | q
            · exact hy w q
            · exact hB'.1 w (oa_nf_mem.mp q).1
          · have exy : x = y := Int32.le_antisymm (Int32.not_lt.mp c2) (Int32.not_lt.mp c1)
            subst exy
            obtain ⟨p, s⟩ := ih A B (by omega) hA'.2 hB'.2
            have e : oa_nf (x :: A) (x :: B) = oa_nf A B := by
              rw [oa_nf_in List.mem_cons_self]
              refine oa_nf_congr (fun w hw => ?_)
              rw [List.mem_cons]
              exact ⟨fun q => q.resolve_left (oa_ne (hB'.1 w hw)), Or.inr⟩
            rw [oa_mg_eq, e]
            refine ⟨p.cons x, List.pairwise_cons.mpr ⟨fun w hw => ?_, s⟩⟩
            rcases List.mem_append.mp (p.mem_iff.mp hw) with q | q
            · exact hA'.1 w q
            · exact hB'.1 w (oa_nf_mem.mp q).1
/-- the insertion -/
theorem oa_ins {A B : List Int32} {w : Int32} (h : (A ++ B).Pairwise (· < ·)) (hA : ∀ a ∈ A, a < w) (hB : ∀ b ∈ B, w < b) : (A ++ w :: B).Pairwise (· < ·) := by
  have h' := List.pairwise_append.mp h
  refine List.pairwise_append.mpr ⟨h'.1, List.pairwise_cons.mpr ⟨hB, h'.2.1⟩, ?_⟩
  intro a ha b hb
  rcases List.mem_cons.mp hb with e | hb
  · rw [e]; exact hA a ha
  · exact h'.2.2 a ha b hb
/-- equal as sets, equal as sorted lists -/
theorem oa_same {CA CB LA LB : List Int32} (hA : CA.Pairwise (· < ·)) (hB : CB.Pairwise (· < ·)) (pA : CA.Perm LA) (pB : CB.Perm LB) (hl : CA.length = CB.length) : CA = CB ↔ ∀ x ∈ LA, x ∈ LB := by
  constructor
  · intro e x hx
    exact pB.mem_iff.mp (e ▸ pA.mem_iff.mpr hx)
  · intro h
    have hs : ∀ x ∈ CA, x ∈ CB := fun x hx => pB.mem_iff.mpr (h x (pA.mem_iff.mp hx))
    have hr : ∀ x ∈ CB, x ∈ CA := by
      intro y hy
      by_cases c : y ∈ CA
      · exact c
      · have hn : (y :: CA).Nodup := List.nodup_cons.mpr ⟨c, oa_nd hA⟩
        have hsub : (y :: CA) ⊆ CB := by
          intro x hx
          rcases List.mem_cons.mp hx with e | hx
          · rw [e]; exact hy
          · exact hs x hx
        have := hn.length_le_of_subset hsub
        rw [List.length_cons] at this
        omega
    have hp : CA.Perm CB := (List.perm_ext_iff_of_nodup (oa_nd hA) (oa_nd hB)).mpr (fun a => ⟨hs a, hr a⟩)
    exact hp.eq_of_pairwise (fun a b _ _ h1 h2 => absurd h2 (Int32.lt_asymm h1)) hA hB
end
section
/-! word, key, digest: what they answer -/
theorem oa_brif {α : Type} {post : α → Prop} {c A B : Prop} [Decidable c] {x y : α} (h : post (if c then x else y)) (f : c → post x → A) (g : ¬ c → post y → B) : (c → A) ∧ (¬ c → B) := by
  constructor
  · intro hc
    rw [if_pos hc] at h
    exact f hc h
  · intro hc
    rw [if_neg hc] at h
    exact g hc h
theorem oa_or (a b : Nat) : nI a ||| nI b = nI (a ||| b) := by
  apply Int32.toBitVec_inj.1
  show BitVec.ofNat 32 a ||| BitVec.ofNat 32 b = BitVec.ofNat 32 (a ||| b)
  apply BitVec.eq_of_getLsbD_eq
  intro i hi
  simp [hi]
theorem oa_tag {k q : Nat} (hk : k ≤ 7) (hq : q < 268435456) : (nI k <<< ((28 : Int32) &&& 31)) ||| nI q = nI k * 268435456 + nI q := by
  have h1 : k * 2 ^ 28 ||| q = k * 2 ^ 28 + q := by rw [← Nat.shiftLeft_eq, Nat.shiftLeft_add_eq_or_of_lt (by omega)]
  rw [pk_shlN ((28 : Int32) &&& 31) 28 (by decide) (by omega), oa_or, h1, show (268435456 : Int32) = nI 268435456 from rfl, pk_mul, nI_add]
/-- word's answer -/
def oa_wd (N t p : Int32) : Int32 := if t < 1 then -1 else if t ≤ 7 then (if t = 1 then t * 268435456 + (p &&& 268435455) else if 4 < t then (if t = 5 then t * 268435456 + (p.toInt8.toInt32 &&& 255) else if p = 0 then t * 268435456 + p else -2) else if p < 1 then -2 else if p ≤ N then t * 268435456 + p else -2) else -1
theorem oa_yword {post : Int32 → Prop} {N M : Int32} {cl ms ca li le : Nat → Int32} {t p : Int32} (hp : post (oa_wd N t p)) : wpY_word post (N, M, cl, ms, ca, li, le) t p := by
  unfold oa_wd at hp
  unfold wpY_word
  dsimp only
  refine oa_brif hp (fun _ h => h) (fun _ h => oa_brif h (fun _ h => ?_) (fun _ h => h))
  refine oa_brif h (fun _ h => nm_e h) (fun _ h => oa_brif h (fun _ h => ?_) (fun _ h => ?_))
  · exact oa_brif h (fun _ h => nm_e h) (fun _ h => oa_brif h (fun _ h => h) (fun _ h => h))
  · exact oa_brif h (fun _ h => h) (fun _ h => oa_brif h (fun _ h => h) (fun _ h => h))
theorem oa_x57 {post : Int32 → Prop} {M : Int32} {cl ms ca ce sz : Nat → Int32} {n k : Nat} {p : Int32} (hn : n ≤ 6) (hk : k ≤ 7) (h : post (if p < 1 then -2 else if p ≤ nI n then nI k * 268435456 + p else -2)) : wX_word_57 post (nI k) p (nI n) M cl ms ca ce sz := by
  unfold wX_word_57
  refine oa_brif h (fun _ h => h) (fun h1 h => oa_brif h (fun h2 h => ?_) (fun _ h => h))
  obtain ⟨j, hj, rfl⟩ := nI_of2 (x := p) (M := nI n) (n := n) (nI_toInt (by omega)) (fun q => h1 (Int32.lt_trans q (by decide))) h2
  rw [oa_tag hk (by omega)]
  exact h
theorem oa_xword {post : Int32 → Prop} {M : Int32} {cl ms ca ce sz : Nat → Int32} {n : Nat} {t p : Int32} (hn : n ≤ 6) (hp : post (oa_wd (nI n) t p)) : wpX_word post (nI n, M, cl, ms, ca, ce, sz) t p := by
  unfold oa_wd at hp
  unfold wpX_word
  dsimp only
  refine oa_brif hp (fun _ h => h) (fun h1 h => oa_brif h (fun h2 h => ?_) (fun _ h => h))
  obtain ⟨k, hk, rfl⟩ := nI_of2 (x := t) (M := 7) (n := 7) (by decide) (fun q => h1 (Int32.lt_trans q (by decide))) h2
  refine br_c (fun h3 => nm_e ?_) (fun h3 => br_c (fun h5 => nm_e ?_) (fun h5 => br_c (fun e2 => ?_) (fun e2 => br_c (fun e3 => ?_) (fun e3 => br_c (fun e4 => ?_) (fun e4 => ?_)))))
  · rw [if_pos h3] at h
    obtain ⟨q, hq, e⟩ := pk_andE p (m := 268435455) 28 (by decide)
    rw [e] at h
    rw [e, oa_tag hk (by omega)]
    exact h
  · rw [if_neg h3, if_pos (show (4 : Int32) < nI k by rw [h5]; decide), if_pos h5, bp_b] at h
    obtain ⟨q, hq, e⟩ := pk_andE p (m := 255) 8 (by decide)
    rw [e] at h
    rw [e, oa_tag hk (by omega)]
    exact h
  · rw [if_neg h3, if_neg (show ¬ (4 : Int32) < nI k by rw [e2]; decide)] at h
    exact oa_x57 hn hk h
  · rw [if_neg h3, if_neg (show ¬ (4 : Int32) < nI k by rw [e3]; decide)] at h
    exact oa_x57 hn hk h
  · rw [if_neg h3, if_neg (show ¬ (4 : Int32) < nI k by rw [e4]; decide)] at h
    exact oa_x57 hn hk h
  · have hk4 : 4 < k := by
      rcases Nat.lt_or_ge 4 k with q | q
      · exact q
      · exfalso
        have hc : k = 0 ∨ k = 1 ∨ k = 2 ∨ k = 3 ∨ k = 4 := by omega
        rcases hc with c | c | c | c | c
        · rw [c] at h1; exact h1 (by decide)
        · rw [c] at h3; exact h3 rfl
        · rw [c] at e2; exact e2 rfl
        · rw [c] at e3; exact e3 rfl
        · rw [c] at e4; exact e4 rfl
    rw [if_neg h3, if_pos (show (4 : Int32) < nI k from nI_lt (a := 4) hk4 (by omega)), if_neg h5] at h
    refine oa_brif h (fun h6 h => ?_) (fun _ h => h)
    have e := oa_tag (q := 0) hk (by omega)
    rw [nI_0] at e
    rw [h6] at h
    rw [h6, e]
    exact h
/-- a valid word -/
def oa_V (N w : Int32) : Prop := ¬ w ≤ 0 ∧ oa_wd N ((w.toUInt32 >>> ((28 : Int32).toUInt32 &&& Int32.toUInt32 31)).toInt32) (w &&& 268435455) = w
theorem oa_wd_up {N N' t p w : Int32} (hN : ∀ x : Int32, x ≤ N → x ≤ N') (hw : ¬ w ≤ 0) (h : oa_wd N t p = w) : oa_wd N' t p = w := by
  unfold oa_wd at h ⊢
  by_cases h1 : t < 1
  · rw [if_pos h1] at h ⊢; exact h
  · rw [if_neg h1] at h ⊢
    by_cases h2 : t ≤ 7
    · rw [if_pos h2] at h ⊢
      by_cases h3 : t = 1
      · rw [if_pos h3] at h ⊢; exact h
      · rw [if_neg h3] at h ⊢
        by_cases h4 : 4 < t
        · rw [if_pos h4] at h ⊢; exact h
        · rw [if_neg h4] at h ⊢
          by_cases h5 : p < 1
          · rw [if_pos h5] at h ⊢; exact h
          · rw [if_neg h5] at h ⊢
            by_cases h6 : p ≤ N
            · rw [if_pos h6] at h; rw [if_pos (hN _ h6)]; exact h
            · rw [if_neg h6] at h
              rw [← h] at hw
              exact absurd (by decide) hw
    · rw [if_neg h2] at h ⊢; exact h
theorem oa_V_up {n : Nat} {w : Int32} (hn : n < 6) (h : oa_V (nI n) w) : oa_V (nI (n + 1)) w :=
  ⟨h.1, oa_wd_up (fun x hx => Int32.le_trans hx (nI_le (by omega) (by omega))) h.1 h.2⟩
theorem oa_key {c q z : Nat} (hc : c < 65536) (hq : q < 65536) (hz : z < 65536) : (((nI c).toInt64 <<< ((32 : Int32).toInt64 &&& 63)) ||| ((nI q).toInt64 <<< ((16 : Int32).toInt64 &&& 63))) ||| (nI z).toInt64 = ((nI c).toInt64 * 4294967296 + (nI q).toInt64 * 65536) + (nI z).toInt64 := by
  rw [nI_l (n := c) (by omega), nI_l (n := q) (by omega), nI_l (n := z) (by omega)]
  have a1 : lN c <<< ((32 : Int32).toInt64 &&& 63) = lN (c * 2 ^ 32) := wb_shl c (k := 32) (by decide)
  have a2 : lN q <<< ((16 : Int32).toInt64 &&& 63) = lN (q * 2 ^ 16) := wb_shl q (k := 16) (by decide)
  have e1 : lN (c * 2 ^ 32) ||| lN (q * 2 ^ 16) = lN (c * 2 ^ 32 + q * 2 ^ 16) := g_or (k := 32) rfl (by omega) (by omega)
  have e2 : lN ((c * 65536 + q) * 2 ^ 16) ||| lN z = lN ((c * 65536 + q) * 2 ^ 16 + z) := g_or (k := 16) rfl (by omega) (by omega)
  rw [a1, a2, e1, show c * 2 ^ 32 + q * 2 ^ 16 = (c * 65536 + q) * 2 ^ 16 by omega, e2, show (4294967296 : Int64) = lN 4294967296 from rfl, show (65536 : Int64) = lN 65536 from rfl, lN_mul, lN_mul, lN_add, lN_add]
  exact congrArg lN (by omega)
/-- one summand of digest -/
def oa_gy (salt : Int64) (x : Int32) : Int64 := (x.toInt64 + salt) * (-7046029254386353131)
def oa_g (salt : Int64) (x : Int32) : Int64 := oa_gy salt x ^^^ (((oa_gy salt x).toUInt64 >>> ((29 : Int32).toInt64.toUInt64 &&& Int64.toUInt64 63)).toInt64)
def oa_sum (salt s : Int64) (L : List Int32) : Int64 := L.foldl (fun s x => s + oa_g salt x) s
theorem oa_sum_nil (salt s : Int64) : oa_sum salt s [] = s := rfl
theorem oa_sum_cons (salt s : Int64) (x : Int32) (L : List Int32) : oa_sum salt s (x :: L) = oa_sum salt (s + oa_g salt x) L := rfl
theorem oa_sum_perm {salt s : Int64} {A B : List Int32} (h : A.Perm B) : oa_sum salt s A = oa_sum salt s B := by
  unfold oa_sum
  refine h.foldl_eq' (fun x _ y _ z => ?_) s
  show z + oa_g salt x + oa_g salt y = z + oa_g salt y + oa_g salt x
  rw [Int64.add_assoc, Int64.add_comm (oa_g salt x), ← Int64.add_assoc]
end
section
/-! live, dead, member, has, the reading loops: each against its list -/
theorem oa_m5 (s : Nat) : nI s * 5 = nI (s * 5) := pk_mul s 5
theorem oa_ix (s i : Nat) : nI s * 5 + nI i = nI (s * 5 + i) := by rw [oa_m5, nI_add]
theorem oa_xl0 {post : Int32 → Prop} {N : Int32} {cl ms ca ce sz : Nat → Int32} {m : Nat} {s : Int32} (h : s < 0 ∨ nI m ≤ s) (hp : post 0) : wpX_live post (N, nI m, cl, ms, ca, ce, sz) s := by
  unfold wpX_live
  dsimp only
  exact br_c (fun _ => hp) (fun h1 => br_c (fun _ => hp) (fun h2 => absurd h (fun q => q.elim h1 h2)))
theorem oa_xl1 {post : Int32 → Prop} {N : Int32} {cl ms ca ce sz : Nat → Int32} {m j : Nat} (h : j < m) (hm : m ≤ 5) (hp : post 1) : wpX_live post (N, nI m, cl, ms, ca, ce, sz) (nI j) := by
  unfold wpX_live
  dsimp only
  exact br_f (nI_pos (by omega)) (br_f (nI_ge h (by omega)) hp)
theorem oa_yd1 {post : Int32 → Prop} {N : Int32} {cl ms ca li le : Nat → Int32} {m : Nat} {s : Int32} (h : s < 0 ∨ nI m ≤ s) (hp : post 1) : wpY_dead post (N, nI m, cl, ms, ca, li, le) s := by
  unfold wpY_dead
  dsimp only
  exact br_c (fun _ => hp) (fun h1 => br_c (fun h2 => absurd h (fun q => q.elim h1 (fun q => Int32.not_lt.mpr q h2))) (fun _ => hp))
theorem oa_yd0 {post : Int32 → Prop} {N : Int32} {cl ms ca li le : Nat → Int32} {m j : Nat} (h : j < m) (hm : m ≤ 5) (hp : post 0) : wpY_dead post (N, nI m, cl, ms, ca, li, le) (nI j) := by
  unfold wpY_dead
  dsimp only
  exact br_f (nI_pos (by omega)) (br_t (nI_lt h (by omega)) hp)
theorem oa_xm15 {post : Int32 → Prop} {N M : Int32} {cl ms ca ce sz : Nat → Int32} {w : Int32} {o z : Nat} (ho : o + z ≤ 25) : ∀ d i : Nat, i + d = z → (w ∈ oa_l ce (o + i) d → post 1) → (w ∉ oa_l ce (o + i) d → post 0) → wX_member_15 post w (nI o) (nI z) N M cl ms ca ce sz (d + 1) (nI i) := by
  intro d
  induction d with
  | zero =>
    intro i hi _ h0
    rw [oa_l0] at h0
    exact br_t (nI_le (by omega) (by omega)) (h0 (fun q => nomatch q))
  | succ d ih =>
    intro i hi h1 h0
    rw [oa_ls] at h1 h0
    rw [wX_member_15]
    dsimp only
    rw [nI_add, nI_clamp (n := o + i) (by omega)]
    refine br_f (nI_ge (by omega) (by omega)) ⟨vp_in_nI (by omega) (by decide), br_c (fun e => h1 (by rw [e]; exact List.mem_cons_self)) (fun e => nm_r (nI_1 i) (ih (i + 1) (by omega) (fun q => h1 (List.mem_cons_of_mem _ q)) (fun q => h0 (fun r => ?_))))⟩
    rcases List.mem_cons.mp r with e' | r'
    · exact e e'.symm
    · exact q r'
theorem oa_xmem {post : Int32 → Prop} {N M : Int32} {cl ms ca ce sz : Nat → Int32} {w : Int32} {s z : Nat} (hs : s < 5) (hz : z ≤ 5) (es : sz s = nI z) (h1 : w ∈ oa_l ce (s * 5) z → post 1) (h0 : w ∉ oa_l ce (s * 5) z → post 0) : wpX_member post (N, M, cl, ms, ca, ce, sz) (nI s) w := by
  unfold wpX_member
  dsimp only
  exact nm_r (oa_m5 s) ⟨vp_in_nI hs (by decide), nm_r (e' := nI z) (by rw [nI_clamp (by omega)]; exact es) ⟨z + 1, oa_xm15 (o := s * 5) (by omega) z 0 (by omega) h1 h0⟩⟩
theorem oa_yh2 {post : Int32 → Prop} {N M : Int32} {cl ms ca li le : Nat → Int32} {w : Int32} {s z : Nat} (hs : s < 5) (hz : z ≤ 5) (es : le s = nI z) : ∀ d i : Nat, i + d = z → (w ∈ oa_l li (s * 5 + i) d → post 1) → (w ∉ oa_l li (s * 5 + i) d → post 0) → wY_has_2 post (nI s) w N M cl ms ca li le (d + 1) (nI i) := by
  intro d
  induction d with
  | zero =>
    intro i hi _ h0
    rw [oa_l0] at h0
    rw [wY_has_2]
    dsimp only
    rw [nI_clamp (n := s) (by omega), es]
    exact ⟨vp_in_nI hs (by decide), br_t (nI_le (by omega) (by omega)) (h0 (fun q => nomatch q))⟩
  | succ d ih =>
    intro i hi h1 h0
    rw [oa_ls] at h1 h0
    rw [wY_has_2]
    dsimp only
    rw [nI_clamp (n := s) (by omega), es, oa_ix, nI_clamp (n := s * 5 + i) (by omega)]
    refine ⟨vp_in_nI hs (by decide), br_f (nI_ge (by omega) (by omega)) ⟨vp_in_nI (by omega) (by decide), br_c (fun e => h1 (by rw [e]; exact List.mem_cons_self)) (fun e => nm_r (nI_1 i) (ih (i + 1) (by omega) (fun q => h1 (List.mem_cons_of_mem _ q)) (fun q => h0 (fun r => ?_))))⟩⟩
    rcases List.mem_cons.mp r with e' | r'
    · exact e e'.symm
    · exact q r'
theorem oa_yhas {post : Int32 → Prop} {N M : Int32} {cl ms ca li le : Nat → Int32} {w : Int32} {s z : Nat} (hs : s < 5) (hz : z ≤ 5) (es : le s = nI z) (h1 : w ∈ oa_l li (s * 5) z → post 1) (h0 : w ∉ oa_l li (s * 5) z → post 0) : wpY_has post (N, M, cl, ms, ca, li, le) (nI s) w := by
  unfold wpY_has
  dsimp only
  exact ⟨z + 1, oa_yh2 hs hz es z 0 (by omega) h1 h0⟩
/-! sameSet -/
theorem oa_xs50 {post : Int32 → Prop} {N M : Int32} {cl ms ca ce sz : Nat → Int32} {o p z : Nat} (ho : o + z ≤ 25) (hp : p + z ≤ 25) : ∀ d i : Nat, i + d = z → (oa_l ce (o + i) d = oa_l ce (p + i) d → post 1) → (oa_l ce (o + i) d ≠ oa_l ce (p + i) d → post 0) → wX_sameSet_50 post (nI z) (nI o) (nI p) N M cl ms ca ce sz (d + 1) (nI i) := by
  intro d
  induction d with
  | zero =>
    intro i hi h1 _
    rw [oa_l0, oa_l0] at h1
    exact br_t (nI_le (by omega) (by omega)) (h1 rfl)
  | succ d ih =>
    intro i hi h1 h0
    rw [oa_ls, oa_ls] at h1 h0
    rw [wX_sameSet_50]
    dsimp only
    rw [nI_add, nI_add, nI_clamp (n := o + i) (by omega), nI_clamp (n := p + i) (by omega)]
    refine br_f (nI_ge (by omega) (by omega)) ⟨vp_in_nI (by omega) (by decide), vp_in_nI (by omega) (by decide), br_c (fun e => nm_r (nI_1 i) (ih (i + 1) (by omega) (fun q => h1 ?_) (fun q => h0 ?_))) (fun e => h0 ?_)⟩
    · rw [e]; exact congrArg _ q
    · intro r
      exact q (List.cons.inj r).2
    · intro r
      exact e (List.cons.inj r).1
theorem oa_ys37 {post : Int32 → Prop} {N M : Int32} {cl ms ca li le : Nat → Int32} {s t z y : Nat} (hs : s < 5) (hz : z ≤ 5) (es : le s = nI z) (ht : t < 5) (hy : y ≤ 5) (et : le t = nI y) : ∀ d i : Nat, i + d = z → ((∀ x ∈ oa_l li (s * 5 + i) d, x ∈ oa_l li (t * 5) y) → post 1) → (¬ (∀ x ∈ oa_l li (s * 5 + i) d, x ∈ oa_l li (t * 5) y) → post 0) → wY_sameSet_37 post (nI s) (nI t) N M cl ms ca li le (d + 1) (nI i) := by
  intro d
  induction d with
  | zero =>
    intro i hi h1 _
    rw [oa_l0] at h1
    rw [wY_sameSet_37]
    dsimp only
    rw [nI_clamp (n := s) (by omega), es]
    exact ⟨vp_in_nI hs (by decide), br_t (nI_le (by omega) (by omega)) (h1 (fun x q => nomatch q))⟩
  | succ d ih =>
    intro i hi h1 h0
    rw [oa_ls] at h1 h0
    rw [wY_sameSet_37]
    dsimp only
    rw [nI_clamp (n := s) (by omega), es, oa_ix, nI_clamp (n := s * 5 + i) (by omega)]
    refine ⟨vp_in_nI hs (by decide), br_f (nI_ge (by omega) (by omega)) ⟨vp_in_nI (by omega) (by decide), oa_yhas ht hy et (fun q => br_f (by decide) (nm_r (nI_1 i) (ih (i + 1) (by omega) (fun r => h1 ?_) (fun r => h0 (fun r' => r (fun x hx => r' x (List.mem_cons_of_mem _ hx))))))) (fun q => br_t rfl (h0 (fun r => q (r _ List.mem_cons_self))))⟩⟩
    intro x hx
    rcases List.mem_cons.mp hx with e | hx
    · rw [e]; exact q
    · exact r x hx
/-! digest -/
theorem oa_xg29 {post : Int64 → Prop} {N M : Int32} {cl ms ca ce sz : Nat → Int32} {salt : Int64} {o z : Nat} (ho : o + z ≤ 25) : ∀ (d i : Nat) (acc : Int64), i + d = z → post (oa_sum salt acc (oa_l ce (o + i) d)) → wX_digest_29 post salt (nI o) (nI z) N M cl ms ca ce sz (d + 1) acc (nI i) := by
  intro d
  induction d with
  | zero =>
    intro i acc hi h
    rw [oa_l0, oa_sum_nil] at h
    exact br_t (nI_le (by omega) (by omega)) h
  | succ d ih =>
    intro i acc hi h
    rw [oa_ls, oa_sum_cons] at h
    rw [wX_digest_29]
    dsimp only
    rw [nI_add, nI_clamp (n := o + i) (by omega)]
    exact br_f (nI_ge (by omega) (by omega)) ⟨vp_in_nI (by omega) (by decide), nm_r (e' := oa_gy salt (ce (o + i))) rfl (nm_r (e' := acc + oa_g salt (ce (o + i))) rfl (nm_r (nI_1 i) (ih (i + 1) _ (by omega) h)))⟩
theorem oa_yg16 {post : Int64 → Prop} {N M : Int32} {cl ms ca li le : Nat → Int32} {salt : Int64} {s z : Nat} (hs : s < 5) (hz : z ≤ 5) (es : le s = nI z) : ∀ (d i : Nat) (acc : Int64), i + d = z → post (oa_sum salt acc (oa_l li (s * 5 + i) d)) → wY_digest_16 post (nI s) salt N M cl ms ca li le (d + 1) acc (nI i) := by
  intro d
  induction d with
  | zero =>
    intro i acc hi h
    rw [oa_l0, oa_sum_nil] at h
    rw [wY_digest_16]
    dsimp only
    rw [nI_clamp (n := s) (by omega), es]
    exact ⟨vp_in_nI hs (by decide), br_t (nI_le (by omega) (by omega)) h⟩
  | succ d ih =>
    intro i acc hi h
    rw [oa_ls, oa_sum_cons] at h
    rw [wY_digest_16]
    dsimp only
    rw [nI_clamp (n := s) (by omega), es, oa_ix, nI_clamp (n := s * 5 + i) (by omega)]
    exact ⟨vp_in_nI hs (by decide), br_f (nI_ge (by omega) (by omega)) ⟨vp_in_nI (by omega) (by decide), nm_r (e' := oa_gy salt (li (s * 5 + i))) rfl (nm_e (nm_r (e' := acc + oa_g salt (li (s * 5 + i))) rfl (nm_r (nI_1 i) (ih (i + 1) _ (by omega) h))))⟩⟩
end
section
/-! add -/
theorem oa_xa116 {post : Int32 → SX → Prop} {N M : Int32} {cl ms ca ce sz : Nat → Int32} {s o z p : Nat} {w : Int32} {L : List Int32} (hs : s < 5) (ho : o + 5 ≤ 25) (hz : z < 5) (hL : L.Pairwise (· < ·))
    (K : ∀ c : Nat → Int32, (∀ j, (j < o ∨ o + 5 ≤ j) → c j = ce j) → (oa_l c o (z + 1)).Pairwise (· < ·) → (oa_l c o (z + 1)).Perm (w :: L) → post 1 (N, M, cl, ms, ca, c, upd sz s (nI (z + 1))))
    (c : Nat → Int32) (hp : p ≤ z) (hc : ∀ j, (j < o ∨ o + 5 ≤ j) → c j = ce j) (e : oa_l c o p ++ oa_l c (o + p + 1) (z - p) = L) (hB : ∀ b ∈ oa_l c (o + p + 1) (z - p), w < b) (hA : ∀ a ∈ oa_l c o p, a < w) : wX_add_116 post (nI s) w (nI z) (nI o) (nI p) N M cl ms ca c sz := by
  have e2 : oa_l (upd c (o + p) w) o (z + 1) = oa_l c o p ++ w :: oa_l c (o + p + 1) (z - p) := by
    rw [show z + 1 = p + ((z - p) + 1) by omega, oa_lapp, oa_ls, oa_lupd (Or.inr (Nat.le_refl _)), pk_us, oa_lupd (Or.inl (Nat.lt_succ_self _))]
  unfold wX_add_116
  rw [nI_add, nI_clamp (n := o + p) (by omega), nI_clamp (n := s) (by omega), nI_1 z]
  refine ⟨vp_in_nI (by omega) (by decide), nm_e ⟨vp_in_nI hs (by decide), nm_e (K _ ?_ ?_ ?_)⟩⟩
  · intro j hj
    rw [pk_un (by omega)]
    exact hc j hj
  · rw [e2]
    exact oa_ins (by rw [e]; exact hL) hA hB
  · rw [e2, ← e]
    exact List.perm_middle
theorem oa_xa67 {post : Int32 → SX → Prop} {N M : Int32} {cl ms ca ce sz : Nat → Int32} {s o z : Nat} {w : Int32} {L : List Int32} (hs : s < 5) (ho : o + 5 ≤ 25) (hz : z < 5) (hL : L.Pairwise (· < ·)) (hw : w ∉ L)
    (K : ∀ c : Nat → Int32, (∀ j, (j < o ∨ o + 5 ≤ j) → c j = ce j) → (oa_l c o (z + 1)).Pairwise (· < ·) → (oa_l c o (z + 1)).Perm (w :: L) → post 1 (N, M, cl, ms, ca, c, upd sz s (nI (z + 1)))) :
    ∀ (p : Nat) (c : Nat → Int32), p ≤ z → (∀ j, (j < o ∨ o + 5 ≤ j) → c j = ce j) → oa_l c o p ++ oa_l c (o + p + 1) (z - p) = L → (∀ b ∈ oa_l c (o + p + 1) (z - p), w < b) → wX_add_67 post (nI s) w (nI z) (nI o) N M (p + 1) (nI p) cl ms ca c sz := by
  intro p
  induction p with
  | zero =>
    intro c hp hc e hB
    rw [wX_add_67]
    dsimp only
    refine br_t (show nI 0 ≤ 0 from Int32.le_refl 0) (oa_xa116 hs ho hz hL K c hp hc e hB ?_)
    intro a ha
    rw [oa_l0] at ha
    exact nomatch ha
  | succ q ih =>
    intro c hp hc e hB
    have e1 : nI o + nI (q + 1) - 1 = nI (o + q) := by rw [nI_add, show o + (q + 1) = (o + q) + 1 from rfl, nI_pred]
    rw [wX_add_67]
    dsimp only
    rw [e1, nI_clamp (n := o + q) (by omega)]
    refine br_f (nI_nle (by omega) (by omega)) ⟨vp_in_nI (by omega) (by decide), br_c (fun hle => ?_) (fun hgt => ⟨vp_in_nI (by omega) (by decide), ?_⟩)⟩
    · refine oa_xa116 hs ho hz hL K c hp hc e hB ?_
      have hm : c (o + q) ∈ L := by
        rw [← e, oa_lsnoc]
        exact List.mem_append.mpr (Or.inl (List.mem_append.mpr (Or.inr List.mem_cons_self)))
      have hlt : c (o + q) < w := Int32.lt_of_le_of_ne hle (fun r => hw (r ▸ hm))
      rw [← e, oa_lsnoc] at hL
      have hAp := List.pairwise_append.mp (List.pairwise_append.mp hL).1
      intro a ha
      rw [oa_lsnoc] at ha
      rcases List.mem_append.mp ha with h | h
      · exact Int32.lt_trans (hAp.2.2 a h _ List.mem_cons_self) hlt
      · rw [List.mem_singleton.mp h]; exact hlt
    · rw [nI_add, nI_clamp (n := o + (q + 1)) (by omega), show o + (q + 1) = o + q + 1 from rfl]
      have hb2 : oa_l (upd c (o + q + 1) (c (o + q))) (o + q + 1) (z - q) = c (o + q) :: oa_l c (o + (q + 1) + 1) (z - (q + 1)) := by
        rw [show z - q = (z - (q + 1)) + 1 by omega, oa_ls, pk_us, oa_lupd (Or.inl (Nat.lt_succ_self _))]
        rfl
      refine ⟨vp_in_nI (by omega) (by decide), nm_e (nm_r (pk_m1 q) (ih _ (by omega) ?_ ?_ ?_))⟩
      · intro j hj
        rw [pk_un (by omega)]
        exact hc j hj
      · rw [hb2, oa_lupd (Or.inr (by omega)), ← e, oa_lsnoc, List.append_assoc]
        rfl
      · rw [hb2]
        intro b hb
        rcases List.mem_cons.mp hb with h | h
        · rw [h]; exact Int32.not_le.mp hgt
        · exact hB b h
theorem oa_xadd_d {post : Int32 → SX → Prop} {N : Int32} {cl ms ca ce sz : Nat → Int32} {m : Nat} {s w : Int32} (h : s < 0 ∨ nI m ≤ s) (hp : post (-1) (N, nI m, cl, ms, ca, ce, sz)) : wpX_add post (N, nI m, cl, ms, ca, ce, sz) s w := by
  unfold wpX_add
  dsimp only
  exact oa_xl0 h (br_t rfl hp)
theorem oa_xadd {post : Int32 → SX → Prop} {cl ms ca ce sz : Nat → Int32} {n m s z : Nat} {w : Int32} (hn : n ≤ 6) (hm : m ≤ 5) (hs : s < m) (hz : z ≤ 5) (es : sz s = nI z) (hL : (oa_l ce (s * 5) z).Pairwise (· < ·))
    (h2 : ¬ oa_V (nI n) w → post (-2) (nI n, nI m, cl, ms, ca, ce, sz))
    (h0 : oa_V (nI n) w → w ∈ oa_l ce (s * 5) z → post 0 (nI n, nI m, cl, ms, ca, ce, sz))
    (h3 : oa_V (nI n) w → w ∉ oa_l ce (s * 5) z → z = 5 → post (-3) (nI n, nI m, cl, ms, ca, ce, sz))
    (h1 : oa_V (nI n) w → w ∉ oa_l ce (s * 5) z → z < 5 → ∀ c : Nat → Int32, (∀ j, (j < s * 5 ∨ s * 5 + 5 ≤ j) → c j = ce j) → (oa_l c (s * 5) (z + 1)).Pairwise (· < ·) → (oa_l c (s * 5) (z + 1)).Perm (w :: oa_l ce (s * 5) z) → post 1 (nI n, nI m, cl, ms, ca, c, upd sz s (nI (z + 1)))) :
    wpX_add post (nI n, nI m, cl, ms, ca, ce, sz) (nI s) w := by
  unfold wpX_add
  dsimp only
  refine oa_xl1 hs hm (br_f (by decide) (br_c (fun hw => h2 (fun q => q.1 hw)) (fun hw => ?_)))
  refine oa_xword hn (br_c (fun e => ?_) (fun e => h2 (fun q => e q.2)))
  have hv : oa_V (nI n) w := ⟨hw, e⟩
  refine oa_xmem (by omega) hz es (fun q => br_f (by decide) (h0 hv q)) (fun q => br_t rfl ?_)
  refine ⟨vp_in_nI (by omega) (by decide), nm_r (e' := nI z) (by rw [nI_clamp (by omega)]; exact es) (br_c (fun e5 => h3 hv q ((nI_eq (b := 5) (by omega) (by decide)).mp e5)) (fun e5 => nm_r (oa_m5 s) ⟨z + 1, ?_⟩))⟩
  have hz5 : z < 5 := by
    rcases Nat.lt_or_ge z 5 with r | r
    · exact r
    · exact absurd ((nI_eq (a := z) (b := 5) (by omega) (by decide)).mpr (by omega)) e5
  exact oa_xa67 (ce := ce) (o := s * 5) (by omega) (by omega) hz5 hL q (h1 hv q hz5) z ce (Nat.le_refl z) (fun _ _ => rfl) (by rw [Nat.sub_self, oa_l0, List.append_nil]) (by rw [Nat.sub_self, oa_l0]; exact fun b hb => nomatch hb)
theorem oa_yadd_d {post : Int32 → SY → Prop} {N : Int32} {cl ms ca li le : Nat → Int32} {m : Nat} {s w : Int32} (h : s < 0 ∨ nI m ≤ s) (hp : post (-1) (N, nI m, cl, ms, ca, li, le)) : wpY_add post (N, nI m, cl, ms, ca, li, le) s w := by
  unfold wpY_add
  dsimp only
  exact oa_yd1 h (br_f (by decide) hp)
theorem oa_yadd {post : Int32 → SY → Prop} {N : Int32} {cl ms ca li le : Nat → Int32} {m s z : Nat} {w : Int32} (hm : m ≤ 5) (hs : s < m) (hz : z ≤ 5) (es : le s = nI z)
    (h2 : ¬ oa_V N w → post (-2) (N, nI m, cl, ms, ca, li, le))
    (h0 : oa_V N w → w ∈ oa_l li (s * 5) z → post 0 (N, nI m, cl, ms, ca, li, le))
    (h3 : oa_V N w → w ∉ oa_l li (s * 5) z → z = 5 → post (-3) (N, nI m, cl, ms, ca, li, le))
    (h1 : oa_V N w → w ∉ oa_l li (s * 5) z → z < 5 → post 1 (N, nI m, cl, ms, ca, upd li (s * 5 + z) w, upd le s (nI (z + 1)))) :
    wpY_add post (N, nI m, cl, ms, ca, li, le) (nI s) w := by
  unfold wpY_add
  dsimp only
  refine oa_yd0 hs hm (br_t rfl (br_c (fun hw => h2 (fun q => q.1 hw)) (fun hw => ?_)))
  refine oa_yword (br_c (fun e => ?_) (fun e => h2 (fun q => e q.2)))
  have hv : oa_V N w := ⟨hw, e⟩
  refine oa_yhas (by omega) hz es (fun q => br_f (by decide) (h0 hv q)) (fun q => br_t rfl ?_)
  rw [nI_clamp (n := s) (by omega), es, oa_ix, nI_clamp (n := s * 5 + z) (by omega), nI_1 z]
  have hv5 : vp_in (nI s) 5 := vp_in_nI (by omega) (by decide)
  refine ⟨hv5, br_c (fun e5 => ?_) (fun e5 => h3 hv q ?_)⟩
  · have hz5 : z < 5 := (nI_ltI (b := 5) (by omega) (by decide)).mp e5
    exact ⟨hv5, hv5, nm_e ⟨vp_in_nI (by omega) (by decide), nm_e (h1 hv q hz5)⟩⟩
  · rcases Nat.lt_or_ge z 5 with r | r
    · exact absurd (nI_lt (b := 5) r (by decide)) e5
    · omega
end
section
/-! the nodes -/
def oa_N (n : Nat) (cl ms ca : Nat → Int32) : Prop := n ≤ 6 ∧ (∀ i, 1 ≤ i → i ≤ n → ∃ c, c < i ∧ ca i = nI c) ∧ (∀ i, 1 ≤ i → i ≤ n → ∃ q, q < 65536 ∧ ms i = nI q) ∧ (∀ i j, 1 ≤ i → i ≤ n → 1 ≤ j → j ≤ n → cl i = cl j → ms i = ms j → ca i = ca j → i = j)
theorem oa_xn42 {post : Int32 → SX → Prop} {M : Int32} {cl ms ca ce sz : Nat → Int32} {n : Nat} {c q z : Int32} (hn : n ≤ 6) : ∀ d i : Nat, i + d = n + 1 → 1 ≤ i →
    (∀ j, i ≤ j → j ≤ n → cl j = c → ms j = q → ca j = z → post (nI j) (nI n, M, cl, ms, ca, ce, sz)) →
    ((∀ j, i ≤ j → j ≤ n → ¬ (cl j = c ∧ ms j = q ∧ ca j = z)) → n = 6 → post (-3) (nI n, M, cl, ms, ca, ce, sz)) →
    ((∀ j, i ≤ j → j ≤ n → ¬ (cl j = c ∧ ms j = q ∧ ca j = z)) → n < 6 → post (nI (n + 1)) (nI (n + 1), M, upd cl (n + 1) (vp_nar .short c), upd ms (n + 1) (vp_nar .char q), upd ca (n + 1) z, ce, sz)) →
    wX_node_42 post z (nI n) c q (nI n) M cl ms ca ce sz (d + 1) (nI i) := by
  intro d
  induction d with
  | zero =>
    intro i hi h1 _ h3 hk
    have hno : ∀ j, i ≤ j → j ≤ n → ¬ (cl j = c ∧ ms j = q ∧ ca j = z) := fun j a b => absurd b (by omega)
    rw [wX_node_42]
    dsimp only
    refine br_t (nI_lt (by omega) (by omega)) (pk_eq n 6 (fun e => h3 hno e) (fun e => nm_r (nI_1 n) ?_))
    have hv : vp_in (nI (n + 1)) 7 := vp_in_nI (by omega) (by decide)
    rw [nI_clamp (n := n + 1) (by omega)]
    exact ⟨hv, nm_e ⟨hv, nm_e ⟨hv, nm_e (hk hno (by omega))⟩⟩⟩
  | succ d ih =>
    intro i hi h1 hf h3 hk
    have hv : vp_in (nI i) 7 := vp_in_nI (by omega) (by decide)
    have nx : ¬ (cl i = c ∧ ms i = q ∧ ca i = z) → wX_node_42 post z (nI n) c q (nI n) M cl ms ca ce sz (d + 1) (nI (i + 1)) := by
      intro hne
      have ext : (∀ j, i + 1 ≤ j → j ≤ n → ¬ (cl j = c ∧ ms j = q ∧ ca j = z)) → ∀ j, i ≤ j → j ≤ n → ¬ (cl j = c ∧ ms j = q ∧ ca j = z) := by
        intro h j a b
        rcases Nat.lt_or_ge i j with r | r
        · exact h j r b
        · have : j = i := by omega
          rw [this]; exact hne
      exact ih (i + 1) (by omega) (by omega) (fun j a b => hf j (by omega) b) (fun h => h3 (ext h)) (fun h => hk (ext h))
    rw [wX_node_42]
    dsimp only
    rw [nI_clamp (n := i) (by omega)]
    exact br_f (nI_nlt (by omega) (by omega)) ⟨hv, br_c (fun e1 => ⟨hv, br_c (fun e2 => ⟨hv, br_c (fun e3 => hf i (Nat.le_refl i) (by omega) e1 e2 e3) (fun e3 => nm_r (nI_1 i) (nx (fun r => e3 r.2.2)))⟩) (fun e2 => nm_r (nI_1 i) (nx (fun r => e2 r.2.1)))⟩) (fun e1 => nm_r (nI_1 i) (nx (fun r => e1 r.1)))⟩
theorem oa_y16 {post : Int32 → Prop} {N M : Int32} {cl ms ca li le : Nat → Int32} {a b : Nat} (ha : a ≤ 6) (hb : b ≤ 6) (h1 : a = b → post 1) (h0 : a ≠ b → post 0) : wY_sameChain_16 post (nI a) (nI b) N M cl ms ca li le := by
  unfold wY_sameChain_16
  exact pk_eq a b h1 h0
theorem oa_ysc {post : Int32 → Prop} {M : Int32} {cl ms ca li le : Nat → Int32} {n : Nat} (hN : oa_N n cl ms ca) : ∀ f a b t : Nat, t + f = 7 → a + t ≤ 6 → a ≤ n → b ≤ n → (a = b → post 1) → (a ≠ b → post 0) → wY_sameChain_2 post (nI n) M cl ms ca li le f (nI a) (nI b) (nI t) := by
  have hn := hN.1
  intro f
  induction f with
  | zero => intro a b t h1 h2; omega
  | succ f ih =>
    intro a b t ht hat ha hb h1 h0
    rw [wY_sameChain_2]
    dsimp only
    refine br_f (nI_nlt (a := 6) (by omega) (by omega)) (br_c (fun _ => oa_y16 (by omega) (by omega) h1 h0) (fun ea => br_c (fun _ => oa_y16 (by omega) (by omega) h1 h0) (fun eb => ?_)))
    have ha1 : 1 ≤ a := by
      rcases Nat.eq_zero_or_pos a with r | r
      · rw [r] at ea; exact absurd nI_0 ea
      · exact r
    have hb1 : 1 ≤ b := by
      rcases Nat.eq_zero_or_pos b with r | r
      · rw [r] at eb; exact absurd nI_0 eb
      · exact r
    obtain ⟨a', ha', ka⟩ := hN.2.1 a ha1 ha
    obtain ⟨b', hb', kb⟩ := hN.2.1 b hb1 hb
    have va : vp_in (nI a) 7 := vp_in_nI (by omega) (by decide)
    have vb : vp_in (nI b) 7 := vp_in_nI (by omega) (by decide)
    rw [nI_clamp (n := a) (by omega), nI_clamp (n := b) (by omega)]
    refine ⟨va, vb, br_c (fun e1 => ⟨va, vb, br_c (fun e2 => ⟨va, nm_r ka ⟨vb, nm_r kb (nm_r (nI_1 t) (ih a' b' (t + 1) (by omega) (by omega) (by omega) (by omega) (fun e => h1 ?_) (fun e => h0 (fun r => e ?_))))⟩⟩) (fun e2 => h0 (fun r => e2 (by rw [r])))⟩) (fun e1 => h0 (fun r => e1 (by rw [r])))⟩
    · exact hN.2.2.2 a b ha1 ha hb1 hb e1 e2 (by rw [ka, kb, e])
    · rw [r, kb] at ka
      exact ((nI_eq (by omega) (by omega)).mp ka).symm
theorem oa_ysame {post : Int32 → Prop} {M : Int32} {cl ms ca li le : Nat → Int32} {n a b : Nat} (hN : oa_N n cl ms ca) (ha : a ≤ n) (hb : b ≤ n) (h1 : a = b → post 1) (h0 : a ≠ b → post 0) : wpY_sameChain post (nI n, M, cl, ms, ca, li, le) (nI a) (nI b) := by
  have hn := hN.1
  unfold wpY_sameChain
  dsimp only
  exact ⟨7, oa_ysc hN 7 a b 0 (by omega) (by omega) ha hb h1 h0⟩
theorem oa_yn40 {post : Int32 → SY → Prop} {M : Int32} {cl ms ca li le : Nat → Int32} {n b : Nat} {c q : Int32} (hN : oa_N n cl ms ca) (hb : b ≤ n) : ∀ d i : Nat, i + d = n + 1 → 1 ≤ i →
    (∀ j, i ≤ j → j ≤ n → cl j = c → ms j = q → ca j = nI b → post (nI j) (nI n, M, cl, ms, ca, li, le)) →
    ((∀ j, i ≤ j → j ≤ n → ¬ (cl j = c ∧ ms j = q ∧ ca j = nI b)) → n = 6 → post (-3) (nI n, M, cl, ms, ca, li, le)) →
    ((∀ j, i ≤ j → j ≤ n → ¬ (cl j = c ∧ ms j = q ∧ ca j = nI b)) → n < 6 → post (nI (n + 1)) (nI (n + 1), M, upd cl (n + 1) (vp_nar .short c), upd ms (n + 1) (vp_nar .char q), upd ca (n + 1) (nI b), li, le)) →
    wY_node_40 post (nI b) c q (nI n) M cl ms ca li le (d + 1) (nI i) := by
  have hn := hN.1
  intro d
  induction d with
  | zero =>
    intro i hi h1 _ h3 hk
    have hno : ∀ j, i ≤ j → j ≤ n → ¬ (cl j = c ∧ ms j = q ∧ ca j = nI b) := fun j a b => absurd b (by omega)
    rw [wY_node_40]
    dsimp only
    refine br_t (nI_lt (by omega) (by omega)) (pk_lt n 6 (fun e => nm_r (nI_1 n) (nm_r (nI_1 n) ?_)) (fun e => h3 hno (by omega)))
    have hv : vp_in (nI (n + 1)) 7 := vp_in_nI (by omega) (by decide)
    rw [nI_clamp (n := n + 1) (by omega)]
    exact ⟨hv, nm_e ⟨hv, nm_e ⟨hv, nm_e (hk hno (by omega))⟩⟩⟩
  | succ d ih =>
    intro i hi h1 hf h3 hk
    have hv : vp_in (nI i) 7 := vp_in_nI (by omega) (by decide)
    have nx : ¬ (cl i = c ∧ ms i = q ∧ ca i = nI b) → wY_node_40 post (nI b) c q (nI n) M cl ms ca li le (d + 1) (nI (i + 1)) := by
      intro hne
      have ext : (∀ j, i + 1 ≤ j → j ≤ n → ¬ (cl j = c ∧ ms j = q ∧ ca j = nI b)) → ∀ j, i ≤ j → j ≤ n → ¬ (cl j = c ∧ ms j = q ∧ ca j = nI b) := by
        intro h j a b
        rcases Nat.lt_or_ge i j with r | r
        · exact h j r b
        · have : j = i := by omega
          rw [this]; exact hne
      exact ih (i + 1) (by omega) (by omega) (fun j a b => hf j (by omega) b) (fun h => h3 (ext h)) (fun h => hk (ext h))
    obtain ⟨a', ha', ka⟩ := hN.2.1 i h1 (by omega)
    rw [wY_node_40]
    dsimp only
    rw [nI_clamp (n := i) (by omega)]
    refine br_f (nI_nlt (by omega) (by omega)) ⟨hv, br_c (fun e1 => ⟨hv, br_c (fun e2 => ⟨hv, ?_⟩) (fun e2 => nm_r (nI_1 i) (nx (fun r => e2 r.2.1)))⟩) (fun e1 => nm_r (nI_1 i) (nx (fun r => e1 r.1)))⟩
    rw [ka]
    refine oa_ysame hN (by omega) hb (fun e => br_f (by decide) (hf i (Nat.le_refl i) (by omega) e1 e2 (by rw [ka, e]))) (fun e => br_t rfl (nm_r (nI_1 i) (nx (fun r => e ?_))))
    rw [ka] at r
    exact (nI_eq (by omega) (by omega)).mp r.2.2
/-- a new node keeps what the nodes promise -/
theorem oa_Nnew {n b : Nat} {cl ms ca : Nat → Int32} {c q : Int32} (hN : oa_N n cl ms ca) (h6 : n < 6) (hb : b ≤ n) (hq : ∃ k, k < 65536 ∧ q = nI k) (hno : ∀ j, 1 ≤ j → j ≤ n → ¬ (cl j = c ∧ ms j = q ∧ ca j = nI b)) : oa_N (n + 1) (upd cl (n + 1) c) (upd ms (n + 1) q) (upd ca (n + 1) (nI b)) := by
  refine ⟨by omega, ?_, ?_, ?_⟩
  · intro i h1 h2
    rcases Nat.lt_or_ge n i with r | r
    · have e : i = n + 1 := by omega
      rw [e, pk_us]
      exact ⟨b, by omega, rfl⟩
    · rw [pk_un (by omega)]
      exact hN.2.1 i h1 r
  · intro i h1 h2
    rcases Nat.lt_or_ge n i with r | r
    · have e : i = n + 1 := by omega
      rw [e, pk_us]
      exact hq
    · rw [pk_un (by omega)]
      exact hN.2.2.1 i h1 r
  · intro i j h1 h2 h3 h4
    rcases Nat.lt_or_ge n i with r | r
    · rcases Nat.lt_or_ge n j with r' | r'
      · intro _ _ _; omega
      · have e : i = n + 1 := by omega
        rw [e, pk_us, pk_us, pk_us, pk_un (by omega), pk_un (by omega), pk_un (by omega)]
        intro e1 e2 e3
        exact absurd ⟨e1.symm, e2.symm, e3.symm⟩ (hno j h3 r')
    · rcases Nat.lt_or_ge n j with r' | r'
      · have e : j = n + 1 := by omega
        rw [e, pk_us, pk_us, pk_us, pk_un (by omega), pk_un (by omega), pk_un (by omega)]
        intro e1 e2 e3
        exact absurd ⟨e1, e2, e3⟩ (hno i h1 r)
      · rw [pk_un (by omega), pk_un (by omega), pk_un (by omega), pk_un (by omega), pk_un (by omega), pk_un (by omega)]
        exact hN.2.2.2 i j h1 r h3 r'
end
section
/-! union: X's merge -/
theorem oa_lhd {c : Nat → Int32} {p z i : Nat} (h : i < z) : oa_l c (p + i) (z - i) = c (p + i) :: oa_l c (p + (i + 1)) (z - (i + 1)) := by
  rw [show z - i = (z - (i + 1)) + 1 by omega, oa_ls]
  rfl
theorem oa_lnl {c : Nat → Int32} {p z i : Nat} (h : z ≤ i) : oa_l c (p + i) (z - i) = [] := by
  rw [show z - i = 0 by omega, oa_l0]
theorem oa_x254 {post : Int32 → SX → Prop} {J : Int32 → Int32 → Int32 → (Nat → Int32) → (Nat → Int32) → (Nat → Int32) → (Nat → Int32) → (Nat → Int32) → Prop} {x3 x4 x5 x6 x8 x10 x11 x13 N M : Int32} {cl ms ca c sz : Nat → Int32} {o k : Nat} (h : o + k < 25) (hj : J x10 x11 (nI (k + 1)) cl ms ca (upd c (o + k) x13) sz) : wX_union_254 post J x3 x4 x5 x6 x8 (nI o) x10 x11 (nI k) x13 N M cl ms ca c sz := by
  unfold wX_union_254
  rw [nI_add, nI_clamp (n := o + k) (by omega), nI_1 k]
  exact ⟨vp_in_nI h (by decide), nm_e (nm_e hj)⟩
/-- what is merged so far, and the merge of the rest -/
def oa_U (c : Nat → Int32) (o p r za zb i j k : Nat) (G : List Int32) : Prop := oa_l c o k ++ oa_mg (oa_l c (p + i) (za - i)) (oa_l c (r + j) (zb - j)) = G
theorem oa_x137s {post : Int32 → SX → Prop} {J : Int32 → Int32 → Int32 → (Nat → Int32) → (Nat → Int32) → (Nat → Int32) → (Nat → Int32) → (Nat → Int32) → Prop} {x3 x4 x5 x6 x8 N M : Int32} {cl ms ca c sz : Nat → Int32} {o p r za zb k : Nat} {G : List Int32} (hp : p + za ≤ o) (hr : r + zb ≤ o) (ho : o + 5 ≤ 25) (hG : G.length ≤ 5) (i j : Nat) (v : Int32) (hi : i ≤ za) (hj : j ≤ zb) (e : oa_l c o k ++ v :: oa_mg (oa_l c (p + i) (za - i)) (oa_l c (r + j) (zb - j)) = G)
    (JJ : ∀ c' : Nat → Int32, (∀ t, (t < o ∨ o + 5 ≤ t) → c' t = c t) → oa_U c' o p r za zb i j (k + 1) G → J (nI i) (nI j) (nI (k + 1)) cl ms ca c' sz) : wX_union_254 post J x3 x4 x5 x6 x8 (nI o) (nI i) (nI j) (nI k) v N M cl ms ca c sz := by
  have hk : k < 5 := by
    have hl := congrArg List.length e
    rw [List.length_append, oa_llen, List.length_cons] at hl
    omega
  refine oa_x254 (by omega) (JJ _ (fun t ht => pk_un (by omega)) ?_)
  unfold oa_U
  rw [oa_lpush, oa_lupd (Or.inr (by omega)), oa_lupd (Or.inr (by omega)), List.append_assoc]
  exact e
theorem oa_x137 {post : Int32 → SX → Prop} {J : Int32 → Int32 → Int32 → (Nat → Int32) → (Nat → Int32) → (Nat → Int32) → (Nat → Int32) → (Nat → Int32) → Prop} {x8 N M : Int32} {cl ms ca c sz : Nat → Int32} {o p r za zb i j k : Nat} {G : List Int32} (hp : p + za ≤ o) (hr : r + zb ≤ o) (ho : o + 5 ≤ 25) (hG : G.length ≤ 5) (hi : i ≤ za) (hj : j ≤ zb) (hij : i < za ∨ j < zb) (e : oa_U c o p r za zb i j k G)
    (JJ : ∀ (i' j' : Nat) (c' : Nat → Int32), i' ≤ za → j' ≤ zb → i + j < i' + j' → (∀ t, (t < o ∨ o + 5 ≤ t) → c' t = c t) → oa_U c' o p r za zb i' j' (k + 1) G → J (nI i') (nI j') (nI (k + 1)) cl ms ca c' sz) : wX_union_137 post J (nI za) (nI zb) (nI p) (nI r) x8 (nI o) (nI i) (nI j) (nI k) N M cl ms ca c sz := by
  unfold oa_U at e
  unfold wX_union_137
  rw [nI_add p i, nI_add r j, nI_clamp (n := p + i) (by omega), nI_clamp (n := r + j) (by omega)]
  refine pk_lt j zb (fun lj => pk_lt i za (fun lI => ⟨vp_in_nI (by omega) (by decide), nm_e ⟨vp_in_nI (by omega) (by decide), nm_e ?_⟩⟩) (fun lI => ⟨vp_in_nI (by omega) (by decide), nm_e (nm_r (nI_1 j) ?_)⟩)) (fun lj => ⟨vp_in_nI (by omega) (by decide), nm_e (nm_r (nI_1 i) ?_)⟩)
  · rw [oa_lhd lI, oa_lhd lj] at e
    refine br_c (fun h1 => br_c (fun h2 => nm_r (nI_1 i) (nm_r (nI_1 j) ?_)) (fun h2 => nm_r (nI_1 j) ?_)) (fun h1 => nm_r (nI_1 i) ?_)
    · rw [← Int32.le_antisymm h2 h1, oa_mg_eq] at e
      exact oa_x137s hp hr ho hG (i + 1) (j + 1) _ lI lj e (fun c' a b => JJ (i + 1) (j + 1) c' lI lj (by omega) a b)
    · rw [oa_mg_gt (Int32.not_le.mp h2), ← oa_lhd lI] at e
      exact oa_x137s hp hr ho hG i (j + 1) _ hi lj e (fun c' a b => JJ i (j + 1) c' hi lj (by omega) a b)
    · rw [oa_mg_lt (Int32.not_le.mp h1), ← oa_lhd lj] at e
      exact oa_x137s hp hr ho hG (i + 1) j _ lI hj e (fun c' a b => JJ (i + 1) j c' lI hj (by omega) a b)
  · rw [oa_lnl lI, oa_mg_n, oa_lhd lj] at e
    refine oa_x137s hp hr ho hG i (j + 1) _ hi lj ?_ (fun c' a b => JJ i (j + 1) c' hi lj (by omega) a b)
    rw [oa_lnl lI, oa_mg_n]
    exact e
  · have li : i < za := by omega
    rw [oa_lnl lj, oa_mg_c, oa_lhd li] at e
    refine oa_x137s hp hr ho hG (i + 1) j _ li hj ?_ (fun c' a b => JJ (i + 1) j c' li hj (by omega) a b)
    rw [oa_lnl lj, oa_mg_c]
    exact e
theorem oa_xu124 {post : Int32 → SX → Prop} {N M : Int32} {cl ms ca ce sz : Nat → Int32} {m o p r za zb : Nat} {G : List Int32} (hm : m < 5) (hp : p + za ≤ o) (hr : r + zb ≤ o) (ho : o + 5 ≤ 25) (hG : G.length ≤ 5)
    (K : ∀ c : Nat → Int32, (∀ t, (t < o ∨ o + 5 ≤ t) → c t = ce t) → oa_l c o G.length = G → post (nI m) (N, nI (m + 1), cl, ms, ca, c, upd sz m (nI G.length))) :
    ∀ (f i j k : Nat) (c : Nat → Int32), i ≤ za → j ≤ zb → (za - i) + (zb - j) < f → (∀ t, (t < o ∨ o + 5 ≤ t) → c t = ce t) → oa_U c o p r za zb i j k G → wX_union_124 post (nI za) (nI zb) (nI p) (nI r) (nI m) (nI o) N M f (nI i) (nI j) (nI k) cl ms ca c sz := by
  intro f
  induction f with
  | zero => intro i j k c hi hj h; omega
  | succ f ih =>
    intro i j k c hi hj h hc e
    rw [wX_union_124]
    dsimp only
    have J : (i < za ∨ j < zb) → wX_union_137 post (wX_union_124 post (nI za) (nI zb) (nI p) (nI r) (nI m) (nI o) N M f) (nI za) (nI zb) (nI p) (nI r) (nI m) (nI o) (nI i) (nI j) (nI k) N M cl ms ca c sz := fun hij =>
      oa_x137 hp hr ho hG hi hj hij e (fun i' j' c' a1 a2 a3 a4 a5 => ih i' j' (k + 1) c' a1 a2 (by omega) (fun t ht => (a4 t ht).trans (hc t ht)) a5)
    refine pk_lt i za (fun lI => J (Or.inl lI)) (fun lI => pk_le zb j (fun lj => ⟨vp_in_nI hm (by decide), ?_⟩) (fun lj => J (Or.inr lj)))
    unfold oa_U at e
    rw [oa_lnl lI, oa_lnl lj, oa_mg_n, List.append_nil] at e
    have ek : G.length = k := by rw [← e, oa_llen]
    have q := K c hc (by rw [ek]; exact e)
    rw [ek] at q
    rw [nI_clamp (n := m) (by omega)]
    exact nm_e (nm_r (nI_1 m) q)
theorem oa_xu60 {post : Int32 → SX → Prop} {N : Int32} {cl ms ca ce sz : Nat → Int32} {m a za zb p r : Nat} (ha : a < 5) (hza : za ≤ 5) (esa : sz a = nI za) (hr : r + zb ≤ 25) :
    ∀ d j cnt : Nat, j + d = zb → cnt + d ≤ 10 →
    (cnt + (oa_nf (oa_l ce (a * 5) za) (oa_l ce (r + j) d)).length ≤ 5 → ∃ n124 : Nat, wX_union_124 post (nI za) (nI zb) (nI p) (nI r) (nI m) (nI (m * 5)) N (nI m) n124 0 0 0 cl ms ca ce sz) →
    (5 < cnt + (oa_nf (oa_l ce (a * 5) za) (oa_l ce (r + j) d)).length → post (-3) (N, nI m, cl, ms, ca, ce, sz)) →
    wX_union_60 post (nI a) (nI za) (nI zb) (nI p) (nI r) N (nI m) cl ms ca ce sz (d + 1) (nI cnt) (nI j) := by
  intro d
  induction d with
  | zero =>
    intro j cnt hj hc h1 h2
    rw [oa_l0, oa_nf_nil, List.length_nil, Nat.add_zero] at h1 h2
    rw [wX_union_60]
    dsimp only
    exact br_t (nI_le (by omega) (by omega)) (pk_le cnt 5 (fun h => nm_r (oa_m5 m) (h1 h)) (fun h => h2 h))
  | succ d ih =>
    intro j cnt hj hc h1 h2
    rw [oa_ls] at h1 h2
    rw [wX_union_60]
    dsimp only
    rw [nI_add r j, nI_clamp (n := r + j) (by omega)]
    refine br_f (nI_ge (by omega) (by omega)) ⟨vp_in_nI (by omega) (by decide), oa_xmem ha hza esa (fun q => br_f (by decide) (nm_r (nI_1 j) ?_)) (fun q => br_t rfl (nm_r (nI_1 cnt) (nm_r (nI_1 j) ?_)))⟩
    · rw [oa_nf_in q] at h1 h2
      exact ih (j + 1) cnt (by omega) (by omega) h1 h2
    · rw [oa_nf_out q, List.length_cons] at h1 h2
      refine ih (j + 1) (cnt + 1) (by omega) (by omega) (fun h => h1 ?_) (fun h => h2 ?_)
      · have e : r + (j + 1) = r + j + 1 := rfl
        rw [e] at h
        omega
      · have e : r + (j + 1) = r + j + 1 := rfl
        rw [e] at h
        omega
theorem oa_xunion {post : Int32 → SX → Prop} {N : Int32} {cl ms ca ce sz : Nat → Int32} {m a b za zb : Nat} (hm : m ≤ 5) (ha : a < m) (hb : b < m) (hza : za ≤ 5) (hzb : zb ≤ 5) (esa : sz a = nI za) (esb : sz b = nI zb) (hA : (oa_l ce (a * 5) za).Pairwise (· < ·)) (hB : (oa_l ce (b * 5) zb).Pairwise (· < ·))
    (h4 : m = 5 → post (-4) (N, nI m, cl, ms, ca, ce, sz))
    (h3 : m < 5 → 5 < za + (oa_nf (oa_l ce (a * 5) za) (oa_l ce (b * 5) zb)).length → post (-3) (N, nI m, cl, ms, ca, ce, sz))
    (h1 : m < 5 → za + (oa_nf (oa_l ce (a * 5) za) (oa_l ce (b * 5) zb)).length ≤ 5 → ∀ c : Nat → Int32, (∀ t, (t < m * 5 ∨ m * 5 + 5 ≤ t) → c t = ce t) → oa_l c (m * 5) (oa_mg (oa_l ce (a * 5) za) (oa_l ce (b * 5) zb)).length = oa_mg (oa_l ce (a * 5) za) (oa_l ce (b * 5) zb) → post (nI m) (N, nI (m + 1), cl, ms, ca, c, upd sz m (nI (oa_mg (oa_l ce (a * 5) za) (oa_l ce (b * 5) zb)).length))) :
    wpX_union post (N, nI m, cl, ms, ca, ce, sz) (nI a) (nI b) := by
  unfold wpX_union
  dsimp only
  refine oa_xl1 ha hm (br_f (by decide) (oa_xl1 hb hm (br_f (by decide) (pk_eq m 5 h4 (fun h5 => ?_)))))
  have hm5 : m < 5 := by omega
  rw [nI_clamp (n := a) (by omega), nI_clamp (n := b) (by omega)]
  refine ⟨vp_in_nI (by omega) (by decide), nm_r esa ⟨vp_in_nI (by omega) (by decide), nm_r esb (nm_r (oa_m5 a) (nm_r (oa_m5 b) ⟨zb + 1, oa_xu60 (by omega) hza esa (by omega) zb 0 za (by omega) (by omega) (fun h => ⟨za + zb + 1, ?_⟩) (fun h => h3 hm5 h)⟩))⟩⟩
  have hl : (oa_mg (oa_l ce (a * 5) za) (oa_l ce (b * 5) zb)).length ≤ 5 := by
    rw [(oa_mgS _ _ _ (Nat.lt_succ_self _) hA hB).1.length_eq, List.length_append, oa_llen]
    exact h
  exact oa_xu124 (ce := ce) hm5 (by omega) (by omega) (by omega) hl (h1 hm5 h) (za + zb + 1) 0 0 0 ce (by omega) (by omega) (by omega) (fun _ _ => rfl) (by unfold oa_U; rw [oa_l0]; rfl)
end
section
/-! union: Y's adds -/
theorem oa_yu140 {post : Int32 → SY → Prop} {N : Int32} {cl ms ca li le : Nat → Int32} {m b zb : Nat} {A G : List Int32} (hm : m < 5) (hb : b < m) (hzb : zb ≤ 5) (elb : le b = nI zb) (hG : G.length ≤ 5) (hnd : G.Nodup)
    (K : ∀ li' le' : Nat → Int32, (∀ t, (t < m * 5 ∨ m * 5 + 5 ≤ t) → li' t = li t) → (∀ t, t ≠ m → le' t = le t) → le' m = nI G.length → oa_l li' (m * 5) G.length = G → post (nI m) (N, nI (m + 1), cl, ms, ca, li', le')) :
    ∀ (d j k : Nat) (li' le' : Nat → Int32), j + d = zb → (∀ t, (t < m * 5 ∨ m * 5 + 5 ≤ t) → li' t = li t) → (∀ t, t ≠ m → le' t = le t) → le' m = nI k → oa_l li' (m * 5) k ++ oa_nf A (oa_l li (b * 5 + j) d) = G → (∀ x ∈ A, x ∈ oa_l li' (m * 5) k) → (∀ w ∈ oa_l li (b * 5 + j) d, oa_V N w) → wY_union_140 post (nI b) (nI m) (d + 1) (nI j) N (nI (m + 1)) cl ms ca li' le' := by
  intro d
  induction d with
  | zero =>
    intro j k li' le' hj hli hle hlm e hA hV
    rw [oa_l0, oa_nf_nil, List.append_nil] at e
    have ek : G.length = k := by rw [← e, oa_llen]
    rw [wY_union_140]
    dsimp only
    rw [nI_clamp (n := b) (by omega), hle b (by omega), elb]
    exact ⟨vp_in_nI (by omega) (by decide), br_t (nI_le (by omega) (by omega)) (K li' le' hli hle (by rw [ek]; exact hlm) (by rw [ek]; exact e))⟩
  | succ d ih =>
    intro j k li' le' hj hli hle hlm e hA hV
    rw [oa_ls] at e hV
    have hk : k ≤ 5 := by
      have hl := congrArg List.length e
      rw [List.length_append, oa_llen] at hl
      omega
    have hVx : oa_V N (li (b * 5 + j)) := hV _ List.mem_cons_self
    have hV' : ∀ w ∈ oa_l li (b * 5 + (j + 1)) d, oa_V N w := fun w hw => hV w (List.mem_cons_of_mem _ hw)
    rw [wY_union_140]
    dsimp only
    rw [nI_clamp (n := b) (by omega), hle b (by omega), elb, oa_ix, nI_clamp (n := b * 5 + j) (by omega), hli (b * 5 + j) (Or.inl (by omega))]
    refine ⟨vp_in_nI (by omega) (by decide), br_f (nI_ge (by omega) (by omega)) ⟨vp_in_nI (by omega) (by decide), ?_⟩⟩
    by_cases hx : li (b * 5 + j) ∈ A
    · rw [oa_nf_in hx] at e
      refine oa_yadd (by omega) (Nat.lt_succ_self m) hk hlm (fun q => absurd hVx q) (fun _ _ => ?_) (fun _ q _ => absurd (hA _ hx) q) (fun _ q _ => absurd (hA _ hx) q)
      dsimp only
      exact nm_r (nI_1 j) (ih (j + 1) k li' le' (by omega) hli hle hlm e hA hV')
    · rw [oa_nf_out hx] at e
      have hnm : li (b * 5 + j) ∉ oa_l li' (m * 5) k := by
        intro q
        rw [← e] at hnd
        exact (List.pairwise_append.mp hnd).2.2 _ q _ List.mem_cons_self rfl
      have hk5 : k < 5 := by
        have hl := congrArg List.length e
        rw [List.length_append, oa_llen, List.length_cons] at hl
        omega
      refine oa_yadd (by omega) (Nat.lt_succ_self m) hk hlm (fun q => absurd hVx q) (fun _ q => absurd q hnm) (fun _ _ q => absurd q (by omega)) (fun _ _ _ => ?_)
      dsimp only
      refine nm_r (nI_1 j) (ih (j + 1) (k + 1) _ _ (by omega) ?_ ?_ pk_us ?_ ?_ hV')
      · intro t ht
        rw [pk_un (by omega)]
        exact hli t ht
      · intro t ht
        rw [pk_un ht]
        exact hle t ht
      · rw [oa_lpush, List.append_assoc]
        exact e
      · rw [oa_lpush]
        exact fun x q => List.mem_append.mpr (Or.inl (hA x q))
theorem oa_yu102 {post : Int32 → SY → Prop} {N x2 : Int32} {cl ms ca li le : Nat → Int32} {m a za : Nat} (hm : m < 5) (ha : a < m) (hza : za ≤ 5) (ela : le a = nI za) (hnd : (oa_l li (a * 5) za).Nodup) (hV : ∀ w ∈ oa_l li (a * 5) za, oa_V N w)
    (K : ∀ li' le' : Nat → Int32, (∀ t, (t < m * 5 ∨ m * 5 + 5 ≤ t) → li' t = li t) → (∀ t, t ≠ m → le' t = le t) → le' m = nI za → oa_l li' (m * 5) za = oa_l li (a * 5) za → ∃ n140 : Nat, wY_union_140 post x2 (nI m) n140 0 N (nI (m + 1)) cl ms ca li' le') :
    ∀ (d i : Nat) (li' le' : Nat → Int32), i + d = za → (∀ t, (t < m * 5 ∨ m * 5 + 5 ≤ t) → li' t = li t) → (∀ t, t ≠ m → le' t = le t) → le' m = nI i → oa_l li' (m * 5) i ++ oa_l li (a * 5 + i) d = oa_l li (a * 5) za → wY_union_102 post (nI a) x2 (nI m) (d + 1) (nI i) N (nI (m + 1)) cl ms ca li' le' := by
  intro d
  induction d with
  | zero =>
    intro i li' le' hi hli hle hlm e
    rw [oa_l0, List.append_nil] at e
    have ei : i = za := by omega
    rw [ei] at e hlm
    rw [wY_union_102]
    dsimp only
    rw [nI_clamp (n := a) (by omega), hle a (by omega), ela]
    exact ⟨vp_in_nI (by omega) (by decide), br_t (nI_le (by omega) (by omega)) (K li' le' hli hle hlm e)⟩
  | succ d ih =>
    intro i li' le' hi hli hle hlm e
    rw [oa_ls] at e
    have hx : li (a * 5 + i) ∈ oa_l li (a * 5) za := by
      rw [← e]
      exact List.mem_append.mpr (Or.inr List.mem_cons_self)
    have hnm : li (a * 5 + i) ∉ oa_l li' (m * 5) i := by
      intro q
      rw [← e] at hnd
      exact (List.pairwise_append.mp hnd).2.2 _ q _ List.mem_cons_self rfl
    rw [wY_union_102]
    dsimp only
    rw [nI_clamp (n := a) (by omega), hle a (by omega), ela, oa_ix, nI_clamp (n := a * 5 + i) (by omega), hli (a * 5 + i) (Or.inl (by omega))]
    refine ⟨vp_in_nI (by omega) (by decide), br_f (nI_ge (by omega) (by omega)) ⟨vp_in_nI (by omega) (by decide), ?_⟩⟩
    refine oa_yadd (z := i) (by omega) (Nat.lt_succ_self m) (by omega) hlm (fun q => absurd (hV _ hx) q) (fun _ q => absurd q hnm) (fun _ _ q => absurd q (by omega)) (fun _ _ _ => ?_)
    dsimp only
    refine nm_r (nI_1 i) (ih (i + 1) _ _ (by omega) ?_ ?_ pk_us ?_)
    · intro t ht
      rw [pk_un (by omega)]
      exact hli t ht
    · intro t ht
      rw [pk_un ht]
      exact hle t ht
    · rw [oa_lpush, List.append_assoc]
      exact e
theorem oa_yu39 {post : Int32 → SY → Prop} {N : Int32} {cl ms ca li le : Nat → Int32} {m a b za zb : Nat} (ha : a < 5) (hza : za ≤ 5) (ela : le a = nI za) (hb : b < 5) (hzb : zb ≤ 5) (elb : le b = nI zb) :
    ∀ d j cnt : Nat, j + d = zb → cnt + d ≤ 10 →
    (cnt + (oa_nf (oa_l li (a * 5) za) (oa_l li (b * 5 + j) d)).length ≤ 5 → ∃ n102 : Nat, wY_union_102 post (nI a) (nI b) (nI m) n102 0 N (nI (m + 1)) cl ms ca li le) →
    (5 < cnt + (oa_nf (oa_l li (a * 5) za) (oa_l li (b * 5 + j) d)).length → post (-3) (N, nI m, cl, ms, ca, li, le)) →
    wY_union_39 post (nI a) (nI b) N (nI m) cl ms ca li le (d + 1) (nI cnt) (nI j) := by
  intro d
  induction d with
  | zero =>
    intro j cnt hj hc h1 h2
    rw [oa_l0, oa_nf_nil, List.length_nil, Nat.add_zero] at h1 h2
    rw [wY_union_39]
    dsimp only
    rw [nI_clamp (n := b) (by omega), elb]
    exact ⟨vp_in_nI hb (by decide), br_t (nI_le (by omega) (by omega)) (pk_le cnt 5 (fun h => nm_r (nI_1 m) (h1 h)) (fun h => h2 h))⟩
  | succ d ih =>
    intro j cnt hj hc h1 h2
    rw [oa_ls] at h1 h2
    rw [wY_union_39]
    dsimp only
    rw [nI_clamp (n := b) (by omega), elb, oa_ix, nI_clamp (n := b * 5 + j) (by omega)]
    refine ⟨vp_in_nI hb (by decide), br_f (nI_ge (by omega) (by omega)) ⟨vp_in_nI (by omega) (by decide), oa_yhas ha hza ela (fun q => br_f (by decide) (nm_r (nI_1 j) ?_)) (fun q => br_t rfl (nm_r (nI_1 cnt) (nm_r (nI_1 j) ?_)))⟩⟩
    · rw [oa_nf_in q] at h1 h2
      exact ih (j + 1) cnt (by omega) (by omega) h1 h2
    · rw [oa_nf_out q, List.length_cons] at h1 h2
      refine ih (j + 1) (cnt + 1) (by omega) (by omega) (fun h => h1 ?_) (fun h => h2 ?_)
      · have e : b * 5 + (j + 1) = b * 5 + j + 1 := rfl
        rw [e] at h
        omega
      · have e : b * 5 + (j + 1) = b * 5 + j + 1 := rfl
        rw [e] at h
        omega
theorem oa_yunion {post : Int32 → SY → Prop} {N : Int32} {cl ms ca li le : Nat → Int32} {m a b za zb : Nat} (hm : m ≤ 5) (ha : a < m) (hb : b < m) (hza : za ≤ 5) (hzb : zb ≤ 5) (ela : le a = nI za) (elb : le b = nI zb) (hA : (oa_l li (a * 5) za).Nodup) (hB : (oa_l li (b * 5) zb).Nodup) (hVA : ∀ w ∈ oa_l li (a * 5) za, oa_V N w) (hVB : ∀ w ∈ oa_l li (b * 5) zb, oa_V N w) (hl0 : m < 5 → le m = 0)
    (h4 : m = 5 → post (-4) (N, nI m, cl, ms, ca, li, le))
    (h3 : m < 5 → 5 < za + (oa_nf (oa_l li (a * 5) za) (oa_l li (b * 5) zb)).length → post (-3) (N, nI m, cl, ms, ca, li, le))
    (h1 : m < 5 → za + (oa_nf (oa_l li (a * 5) za) (oa_l li (b * 5) zb)).length ≤ 5 → ∀ li' le' : Nat → Int32, (∀ t, (t < m * 5 ∨ m * 5 + 5 ≤ t) → li' t = li t) → (∀ t, t ≠ m → le' t = le t) → le' m = nI (oa_l li (a * 5) za ++ oa_nf (oa_l li (a * 5) za) (oa_l li (b * 5) zb)).length → oa_l li' (m * 5) (oa_l li (a * 5) za ++ oa_nf (oa_l li (a * 5) za) (oa_l li (b * 5) zb)).length = oa_l li (a * 5) za ++ oa_nf (oa_l li (a * 5) za) (oa_l li (b * 5) zb) → post (nI m) (N, nI (m + 1), cl, ms, ca, li', le')) :
    wpY_union post (N, nI m, cl, ms, ca, li, le) (nI a) (nI b) := by
  unfold wpY_union
  dsimp only
  refine oa_yd0 ha hm (br_t rfl (oa_yd0 hb hm (br_t rfl (pk_lt m 5 (fun hm5 => ?_) (fun h5 => h4 (by omega))))))
  rw [nI_clamp (n := a) (by omega)]
  refine ⟨vp_in_nI (by omega) (by decide), nm_r ela ⟨zb + 1, oa_yu39 (by omega) hza ela (by omega) hzb elb zb 0 za (by omega) (by omega) (fun h => ⟨za + 1, ?_⟩) (fun h => h3 hm5 h)⟩⟩
  refine oa_yu102 (li := li) (le := le) hm5 ha hza ela hA hVA (fun li1 le1 q1 q2 q3 q4 => ⟨zb + 1, ?_⟩) za 0 li le (by omega) (fun _ _ => rfl) (fun _ _ => rfl) (hl0 hm5) (by rw [oa_l0]; rfl)
  refine oa_yu140 (li := li) (le := le) (A := oa_l li (a * 5) za) hm5 hb hzb elb ?_ (oa_nf_nodup hA hB) (h1 hm5 h) zb 0 za li1 le1 (by omega) q1 q2 q3 (by rw [q4]; rfl) (by rw [q4]; exact fun x hx => hx) hVB
  rw [List.length_append, oa_llen]
  exact h
end
section
/-! the relation, and what is owed -/
def oa_T (N : Int32) (ce sz li le : Nat → Int32) (s z : Nat) : Prop := z ≤ 5 ∧ sz s = nI z ∧ le s = nI z ∧ (oa_l ce (s * 5) z).Pairwise (· < ·) ∧ (oa_l ce (s * 5) z).Perm (oa_l li (s * 5) z) ∧ ∀ w ∈ oa_l li (s * 5) z, oa_V N w
def oa_M (N : Int32) (m : Nat) (ce sz li le : Nat → Int32) : Prop := 1 ≤ m ∧ m ≤ 5 ∧ (∀ s, s < m → ∃ z, oa_T N ce sz li le s z) ∧ (∀ s, m ≤ s → s < 5 → le s = 0)
theorem oa_Tk {N : Int32} {ce sz li le ce' sz' li' le' : Nat → Int32} {t z : Nat} (h : oa_T N ce sz li le t z) (hc : ∀ j, t * 5 ≤ j → j < t * 5 + 5 → ce' j = ce j) (hl : ∀ j, t * 5 ≤ j → j < t * 5 + 5 → li' j = li j) (hs : sz' t = sz t) (he : le' t = le t) : oa_T N ce' sz' li' le' t z := by
  obtain ⟨h1, h2, h3, h4, h5, h6⟩ := h
  have ec : oa_l ce' (t * 5) z = oa_l ce (t * 5) z := oa_lcongr z (t * 5) (fun j a b => hc j a (by omega))
  have el : oa_l li' (t * 5) z = oa_l li (t * 5) z := oa_lcongr z (t * 5) (fun j a b => hl j a (by omega))
  refine ⟨h1, hs.trans h2, he.trans h3, ?_, ?_, ?_⟩
  · rw [ec]; exact h4
  · rw [ec, el]; exact h5
  · rw [el]; exact h6
/-- the slot s alone has changed; it may be the new one -/
theorem oa_Mset {N : Int32} {m m' s : Nat} {ce sz li le ce' sz' li' le' : Nat → Int32} (hM : oa_M N m ce sz li le) (hm : m' = m ∧ s < m ∨ m' = m + 1 ∧ s = m ∧ m < 5) (hc : ∀ j, (j < s * 5 ∨ s * 5 + 5 ≤ j) → ce' j = ce j) (hl : ∀ j, (j < s * 5 ∨ s * 5 + 5 ≤ j) → li' j = li j) (hs : ∀ t, t ≠ s → sz' t = sz t) (he : ∀ t, t ≠ s → le' t = le t) (hT : ∃ z, oa_T N ce' sz' li' le' s z) : oa_M N m' ce' sz' li' le' := by
  obtain ⟨m1, m5, hS, h0⟩ := hM
  refine ⟨by omega, by omega, ?_, ?_⟩
  · intro t ht
    by_cases e : t = s
    · rw [e]; exact hT
    · obtain ⟨z, hz⟩ := hS t (by omega)
      exact ⟨z, oa_Tk hz (fun j a b => hc j (by omega)) (fun j a b => hl j (by omega)) (hs t e) (he t e)⟩
  · intro t h1 h2
    rw [he t (by omega)]
    exact h0 t (by omega) h2
theorem oa_Mup {n m : Nat} {ce sz li le : Nat → Int32} (hn : n < 6) (hM : oa_M (nI n) m ce sz li le) : oa_M (nI (n + 1)) m ce sz li le := by
  obtain ⟨m1, m5, hS, h0⟩ := hM
  refine ⟨m1, m5, ?_, h0⟩
  intro s hs
  obtain ⟨z, h1, h2, h3, h4, h5, h6⟩ := hS s hs
  exact ⟨z, h1, h2, h3, h4, h5, fun w hw => oa_V_up hn (h6 w hw)⟩
/-- the relation at the head of a turn whose first cell is k -/
def i_Rel (_ : Nat) (u : SX) (v : SY) : Prop := ∃ (n m : Nat) (cl ms ca ce sz li le : Nat → Int32), u = (nI n, nI m, cl, ms, ca, ce, sz) ∧ v = (nI n, nI m, cl, ms, ca, li, le) ∧ oa_N n cl ms ca ∧ oa_M (nI n) m ce sz li le
theorem i_up {k : Nat} {u : SX} {v : SY} (h : i_Rel k u v) : i_Rel (k + 4) u v := h
theorem i_vc0 : wpX_init (fun u => wpY_init (fun v => i_Rel 0 u v)) := by
  refine ⟨0, 1, fun _ => 0, fun _ => 0, fun _ => 0, fun _ => 0, fun _ => 0, fun _ => 0, fun _ => 0, rfl, rfl, ?_, ?_⟩
  · refine ⟨by omega, ?_, ?_, ?_⟩
    · intro i h1 h2; omega
    · intro i h1 h2; omega
    · intro i j h1 h2; omega
  · refine ⟨by omega, by omega, ?_, fun _ _ _ => rfl⟩
    intro s hs
    refine ⟨0, by omega, rfl, rfl, ?_, ?_, ?_⟩
    · rw [oa_l0]; exact List.Pairwise.nil
    · exact List.Perm.refl _
    · rw [oa_l0]; exact fun w hw => nomatch hw
theorem i_vc_node {k : Nat} {u : SX} {v : SY} (I : i_Rel k u v) (hk : k + 4 ≤ 2048) (v1 : Int32) (v2 : Int32) (v3 : Int32) : wpX_node (fun r u' => wpY_node (fun r' v' => r' = r ∧ i_Rel (k + 4) u' v') v v1 v2 v3) u v1 v2 v3 := by
  have R := i_up I
  obtain ⟨n, m, cl, ms, ca, ce, sz, li, le, rfl, rfl, hN, hM⟩ := I
  have hn := hN.1
  unfold wpX_node wpY_node
  dsimp only
  by_cases c1 : v3 < 0
  · exact br_t c1 (br_t c1 ⟨rfl, R⟩)
  · by_cases c2 : v3 ≤ nI n + 1
    · by_cases c3 : v3 = nI n + 1
      · exact br_f c1 (br_t c2 (br_t c3 (br_f c1 (br_t c2 (br_t c3 ⟨rfl, R⟩)))))
      · obtain ⟨b, hb, eb⟩ := nI_of2 (x := v3) (M := nI n + 1) (n := n + 1) (by rw [nI_1]; exact nI_toInt (by omega)) c1 c2
        have hbn : b ≤ n := by
          rcases Nat.lt_or_ge n b with r | r
          · exact absurd (by rw [eb, nI_1]; exact congrArg nI (by omega)) c3
          · exact r
        subst eb
        refine br_f c1 (br_t c2 (br_f c3 (nm_e ⟨n + 1, oa_xn42 hn n 1 (by omega) (Nat.le_refl 1) (fun j j1 j2 e1 e2 e3 => br_f c1 (br_t c2 (br_f c3 (nm_e ⟨n + 1, ?_⟩)))) (fun hno h6 => br_f c1 (br_t c2 (br_f c3 (nm_e ⟨n + 1, ?_⟩)))) (fun hno h6 => br_f c1 (br_t c2 (br_f c3 (nm_e ⟨n + 1, ?_⟩))))⟩)))
        · refine oa_yn40 hN hbn n 1 (by omega) (Nat.le_refl 1) (fun i i1 i2 f1 f2 f3 => ⟨congrArg nI ?_, R⟩) (fun hno => absurd ⟨e1, e2, e3⟩ (hno j j1 j2)) (fun hno => absurd ⟨e1, e2, e3⟩ (hno j j1 j2))
          exact hN.2.2.2 i j i1 i2 j1 j2 (f1.trans e1.symm) (f2.trans e2.symm) (f3.trans e3.symm)
        · exact oa_yn40 hN hbn n 1 (by omega) (Nat.le_refl 1) (fun i i1 i2 f1 f2 f3 => absurd ⟨f1, f2, f3⟩ (hno i i1 i2)) (fun _ _ => ⟨rfl, R⟩) (fun _ h => absurd h (by omega))
        · refine oa_yn40 hN hbn n 1 (by omega) (Nat.le_refl 1) (fun i i1 i2 f1 f2 f3 => absurd ⟨f1, f2, f3⟩ (hno i i1 i2)) (fun _ h => absurd h (by omega)) (fun _ _ => ⟨rfl, n + 1, m, _, _, _, _, _, _, _, rfl, rfl, ?_, oa_Mup h6 hM⟩)
          rw [pk_vs, pk_vc]
          exact oa_Nnew hN h6 hbn ⟨v2.toBitVec.toNat % 65536, Nat.mod_lt _ (by decide), pk_char v2⟩ hno
    · exact br_f c1 (br_f c2 (br_f c1 (br_f c2 ⟨rfl, R⟩)))
theorem i_vc_word {k : Nat} {u : SX} {v : SY} (I : i_Rel k u v) (hk : k + 4 ≤ 2048) (v1 : Int32) (v2 : Int32) : wpX_word (fun r => wpY_word (fun r' => r' = r ∧ i_Rel (k + 4) u v) v v1 v2) u v1 v2 := by
  have R := i_up I
  obtain ⟨n, m, cl, ms, ca, ce, sz, li, le, rfl, rfl, hN, hM⟩ := I
  exact oa_xword hN.1 (oa_yword ⟨rfl, R⟩)
theorem i_vc_add {k : Nat} {u : SX} {v : SY} (I : i_Rel k u v) (hk : k + 4 ≤ 2048) (v1 : Int32) (v2 : Int32) : wpX_add (fun r u' => wpY_add (fun r' v' => r' = r ∧ i_Rel (k + 4) u' v') v v1 v2) u v1 v2 := by
  have R := i_up I
  obtain ⟨n, m, cl, ms, ca, ce, sz, li, le, rfl, rfl, hN, hM⟩ := I
  have hm := hM.2.1
  rcases pk_ix v1 (n := m) (by omega) with h | h | ⟨s, hs, rfl⟩
  · exact oa_xadd_d (Or.inl h) (oa_yadd_d (Or.inl h) ⟨rfl, R⟩)
  · exact oa_xadd_d (Or.inr h) (oa_yadd_d (Or.inr h) ⟨rfl, R⟩)
  · obtain ⟨z, hz, es, el, hL, hP, hV⟩ := hM.2.2.1 s hs
    refine oa_xadd hN.1 hm hs hz es hL (fun nv => ?_) (fun va q => ?_) (fun va q e5 => ?_) (fun va q h5 c hc hL' hP' => ?_)
    · exact oa_yadd hm hs hz el (fun _ => ⟨rfl, R⟩) (fun va => absurd va nv) (fun va => absurd va nv) (fun va => absurd va nv)
    · exact oa_yadd hm hs hz el (fun nv => absurd va nv) (fun _ _ => ⟨rfl, R⟩) (fun _ q' => absurd (hP.mem_iff.mp q) q') (fun _ q' => absurd (hP.mem_iff.mp q) q')
    · exact oa_yadd hm hs hz el (fun nv => absurd va nv) (fun _ q' => absurd (hP.mem_iff.mpr q') q) (fun _ _ _ => ⟨rfl, R⟩) (fun _ _ h => absurd h (by omega))
    · refine oa_yadd hm hs hz el (fun nv => absurd va nv) (fun _ q' => absurd (hP.mem_iff.mpr q') q) (fun _ _ h => absurd h (by omega)) (fun _ _ _ => ⟨rfl, n, m, cl, ms, ca, c, _, _, _, rfl, rfl, hN, ?_⟩)
      refine oa_Mset hM (Or.inl ⟨rfl, hs⟩) hc (fun j hj => pk_un (by omega)) (fun t ht => pk_un ht) (fun t ht => pk_un ht) ⟨z + 1, by omega, pk_us, pk_us, hL', ?_, ?_⟩
      · rw [oa_lpush]
        exact (hP'.trans (hP.cons v2)).trans (List.perm_append_singleton v2 _).symm
      · rw [oa_lpush]
        intro w hw
        rcases List.mem_append.mp hw with h | h
        · exact hV w h
        · rw [List.mem_singleton.mp h]; exact va
theorem i_vc_union {k : Nat} {u : SX} {v : SY} (I : i_Rel k u v) (hk : k + 4 ≤ 2048) (v1 : Int32) (v2 : Int32) : wpX_union (fun r u' => wpY_union (fun r' v' => r' = r ∧ i_Rel (k + 4) u' v') v v1 v2) u v1 v2 := by
  have R := i_up I
  obtain ⟨n, m, cl, ms, ca, ce, sz, li, le, rfl, rfl, hN, hM⟩ := I
  have hm := hM.2.1
  have D1 : (v1 < 0 ∨ nI m ≤ v1) → wpX_union (fun r u' => wpY_union (fun r' v' => r' = r ∧ i_Rel (k + 4) u' v') (nI n, nI m, cl, ms, ca, li, le) v1 v2) (nI n, nI m, cl, ms, ca, ce, sz) v1 v2 := by
    intro h
    unfold wpX_union wpY_union
    dsimp only
    exact oa_xl0 h (br_t rfl (oa_yd1 h (br_f (by decide) ⟨rfl, R⟩)))
  have D2 : (∃ j, j < m ∧ v1 = nI j) → (v2 < 0 ∨ nI m ≤ v2) → wpX_union (fun r u' => wpY_union (fun r' v' => r' = r ∧ i_Rel (k + 4) u' v') (nI n, nI m, cl, ms, ca, li, le) v1 v2) (nI n, nI m, cl, ms, ca, ce, sz) v1 v2 := by
    rintro ⟨j, hj, rfl⟩ h
    unfold wpX_union wpY_union
    dsimp only
    exact oa_xl1 hj hm (br_f (by decide) (oa_xl0 h (br_t rfl (oa_yd0 hj hm (br_t rfl (oa_yd1 h (br_f (by decide) ⟨rfl, R⟩)))))))
  rcases pk_ix v1 (n := m) (by omega) with h | h | ⟨a, ha, ea⟩
  · exact D1 (Or.inl h)
  · exact D1 (Or.inr h)
  · rcases pk_ix v2 (n := m) (by omega) with h | h | ⟨b, hb, rfl⟩
    · exact D2 ⟨a, ha, ea⟩ (Or.inl h)
    · exact D2 ⟨a, ha, ea⟩ (Or.inr h)
    · subst ea
      obtain ⟨za, hza, esa, ela, hLA, hPA, hVA⟩ := hM.2.2.1 a ha
      obtain ⟨zb, hzb, esb, elb, hLB, hPB, hVB⟩ := hM.2.2.1 b hb
      have hnA := hPA.nodup (oa_nd hLA)
      have hnB := hPB.nodup (oa_nd hLB)
      have hpn := oa_nf_perm hPA hPB
      have hle := hpn.length_eq
      refine oa_xunion hm ha hb hza hzb esa esb hLA hLB (fun e5 => ?_) (fun m5 h5 => ?_) (fun m5 h5 c hc hG => ?_)
      · exact oa_yunion hm ha hb hza hzb ela elb hnA hnB hVA hVB (fun h => absurd h (by omega)) (fun _ => ⟨rfl, R⟩) (fun h => absurd h (by omega)) (fun h => absurd h (by omega))
      · exact oa_yunion hm ha hb hza hzb ela elb hnA hnB hVA hVB (fun h => hM.2.2.2 m (Nat.le_refl m) h) (fun h => absurd h (by omega)) (fun _ _ => ⟨rfl, R⟩) (fun _ h => absurd h (by omega))
      · refine oa_yunion hm ha hb hza hzb ela elb hnA hnB hVA hVB (fun h => hM.2.2.2 m (Nat.le_refl m) h) (fun h => absurd h (by omega)) (fun _ h => absurd h (by omega)) (fun _ _ li' le' q1 q2 q3 q4 => ⟨rfl, n, m + 1, cl, ms, ca, c, _, li', le', rfl, rfl, hN, ?_⟩)
        have hS := oa_mgS _ _ _ (Nat.lt_succ_self _) hLA hLB
        have hPG : (oa_mg (oa_l ce (a * 5) za) (oa_l ce (b * 5) zb)).Perm (oa_l li (a * 5) za ++ oa_nf (oa_l li (a * 5) za) (oa_l li (b * 5) zb)) := hS.1.trans (hPA.append hpn)
        have hl5 : (oa_mg (oa_l ce (a * 5) za) (oa_l ce (b * 5) zb)).length ≤ 5 := by
          rw [hS.1.length_eq, List.length_append, oa_llen]
          exact h5
        rw [← hPG.length_eq] at q3 q4
        refine oa_Mset hM (Or.inr ⟨rfl, rfl, m5⟩) hc q1 (fun t ht => pk_un ht) q2 ⟨_, hl5, pk_us, q3, ?_, ?_, ?_⟩
        · rw [hG]; exact hS.2
        · rw [hG, q4]; exact hPG
        · rw [q4]
          intro w hw
          rcases List.mem_append.mp hw with h | h
          · exact hVA w h
          · exact hVB w (oa_nf_mem.mp h).1
theorem i_vc_contains {k : Nat} {u : SX} {v : SY} (I : i_Rel k u v) (hk : k + 4 ≤ 2048) (v1 : Int32) (v2 : Int32) : wpX_contains (fun r => wpY_contains (fun r' => r' = r ∧ i_Rel (k + 4) u v) v v1 v2) u v1 v2 := by
  have R := i_up I
  obtain ⟨n, m, cl, ms, ca, ce, sz, li, le, rfl, rfl, hN, hM⟩ := I
  have hm := hM.2.1
  unfold wpX_contains wpY_contains
  dsimp only
  rcases pk_ix v1 (n := m) (by omega) with h | h | ⟨s, hs, rfl⟩
  · exact oa_xl0 (Or.inl h) (br_t rfl (oa_yd1 (Or.inl h) (br_f (by decide) ⟨rfl, R⟩)))
  · exact oa_xl0 (Or.inr h) (br_t rfl (oa_yd1 (Or.inr h) (br_f (by decide) ⟨rfl, R⟩)))
  · obtain ⟨z, hz, es, el, hL, hP, hV⟩ := hM.2.2.1 s hs
    refine oa_xl1 hs hm (br_f (by decide) (oa_xmem (by omega) hz es (fun q => br_f (by decide) ?_) (fun q => br_t rfl ?_)))
    · exact oa_yd0 hs hm (br_t rfl (oa_yhas (by omega) hz el (fun _ => br_f (by decide) ⟨rfl, R⟩) (fun q' => absurd (hP.mem_iff.mp q) q')))
    · exact oa_yd0 hs hm (br_t rfl (oa_yhas (by omega) hz el (fun q' => absurd (hP.mem_iff.mpr q') q) (fun _ => br_t rfl ⟨rfl, R⟩)))
theorem oa_xsame {post : Int32 → Prop} {N : Int32} {cl ms ca ce sz : Nat → Int32} {m a b za zb : Nat} (hm : m ≤ 5) (ha : a < m) (hb : b < m) (hza : za ≤ 5) (hzb : zb ≤ 5) (esa : sz a = nI za) (esb : sz b = nI zb) (h1 : za = zb → oa_l ce (a * 5) za = oa_l ce (b * 5) za → post 1) (h0 : (za = zb → oa_l ce (a * 5) za ≠ oa_l ce (b * 5) za) → post 0) : wpX_sameSet post (N, nI m, cl, ms, ca, ce, sz) (nI a) (nI b) := by
  unfold wpX_sameSet
  dsimp only
  refine oa_xl1 ha hm (br_f (by decide) (oa_xl1 hb hm (br_f (by decide) ?_)))
  rw [nI_clamp (n := a) (by omega), nI_clamp (n := b) (by omega), esb]
  exact ⟨vp_in_nI (by omega) (by decide), nm_r esa ⟨vp_in_nI (by omega) (by decide), pk_eq za zb (fun e => nm_r (oa_m5 a) (nm_r (oa_m5 b) ⟨za + 1, oa_xs50 (by omega) (by omega) za 0 (by omega) (fun h => h1 e h) (fun h => h0 (fun _ => h))⟩)) (fun e => h0 (fun e' => absurd e' e))⟩⟩
theorem oa_ysameS {post : Int32 → Prop} {N : Int32} {cl ms ca li le : Nat → Int32} {m a b za zb : Nat} (hm : m ≤ 5) (ha : a < m) (hb : b < m) (hza : za ≤ 5) (hzb : zb ≤ 5) (ela : le a = nI za) (elb : le b = nI zb) (h1 : za = zb → (∀ x ∈ oa_l li (a * 5) za, x ∈ oa_l li (b * 5) zb) → post 1) (h0 : (za = zb → ¬ ∀ x ∈ oa_l li (a * 5) za, x ∈ oa_l li (b * 5) zb) → post 0) : wpY_sameSet post (N, nI m, cl, ms, ca, li, le) (nI a) (nI b) := by
  unfold wpY_sameSet
  dsimp only
  refine oa_yd0 ha hm (br_t rfl (oa_yd0 hb hm (br_t rfl ?_)))
  rw [nI_clamp (n := a) (by omega), nI_clamp (n := b) (by omega), ela, elb]
  exact ⟨vp_in_nI (by omega) (by decide), vp_in_nI (by omega) (by decide), pk_eq za zb (fun e => ⟨za + 1, oa_ys37 (by omega) hza ela (by omega) hzb elb za 0 (by omega) (fun h => h1 e h) (fun h => h0 (fun _ => h))⟩) (fun e => h0 (fun e' => absurd e' e))⟩
theorem i_vc_sameSet {k : Nat} {u : SX} {v : SY} (I : i_Rel k u v) (hk : k + 4 ≤ 2048) (v1 : Int32) (v2 : Int32) : wpX_sameSet (fun r => wpY_sameSet (fun r' => r' = r ∧ i_Rel (k + 4) u v) v v1 v2) u v1 v2 := by
  have R := i_up I
  obtain ⟨n, m, cl, ms, ca, ce, sz, li, le, rfl, rfl, hN, hM⟩ := I
  have hm := hM.2.1
  have D1 : (v1 < 0 ∨ nI m ≤ v1) → wpX_sameSet (fun r => wpY_sameSet (fun r' => r' = r ∧ i_Rel (k + 4) (nI n, nI m, cl, ms, ca, ce, sz) (nI n, nI m, cl, ms, ca, li, le)) (nI n, nI m, cl, ms, ca, li, le) v1 v2) (nI n, nI m, cl, ms, ca, ce, sz) v1 v2 := by
    intro h
    unfold wpX_sameSet wpY_sameSet
    dsimp only
    exact oa_xl0 h (br_t rfl (oa_yd1 h (br_f (by decide) ⟨rfl, R⟩)))
  have D2 : (∃ j, j < m ∧ v1 = nI j) → (v2 < 0 ∨ nI m ≤ v2) → wpX_sameSet (fun r => wpY_sameSet (fun r' => r' = r ∧ i_Rel (k + 4) (nI n, nI m, cl, ms, ca, ce, sz) (nI n, nI m, cl, ms, ca, li, le)) (nI n, nI m, cl, ms, ca, li, le) v1 v2) (nI n, nI m, cl, ms, ca, ce, sz) v1 v2 := by
    rintro ⟨j, hj, rfl⟩ h
    unfold wpX_sameSet wpY_sameSet
    dsimp only
    exact oa_xl1 hj hm (br_f (by decide) (oa_xl0 h (br_t rfl (oa_yd0 hj hm (br_t rfl (oa_yd1 h (br_f (by decide) ⟨rfl, R⟩)))))))
  rcases pk_ix v1 (n := m) (by omega) with h | h | ⟨a, ha, ea⟩
  · exact D1 (Or.inl h)
  · exact D1 (Or.inr h)
  · rcases pk_ix v2 (n := m) (by omega) with h | h | ⟨b, hb, rfl⟩
    · exact D2 ⟨a, ha, ea⟩ (Or.inl h)
    · exact D2 ⟨a, ha, ea⟩ (Or.inr h)
    · subst ea
      obtain ⟨za, hza, esa, ela, hLA, hPA, hVA⟩ := hM.2.2.1 a ha
      obtain ⟨zb, hzb, esb, elb, hLB, hPB, hVB⟩ := hM.2.2.1 b hb
      have S : za = zb → (oa_l ce (a * 5) za = oa_l ce (b * 5) za ↔ ∀ x ∈ oa_l li (a * 5) za, x ∈ oa_l li (b * 5) zb) := by
        intro e
        have q := oa_same hLA hLB hPA hPB (by rw [oa_llen, oa_llen]; exact e)
        rw [← e] at q ⊢
        exact q
      refine oa_xsame hm ha hb hza hzb esa esb (fun e h => ?_) (fun h => ?_)
      · exact oa_ysameS hm ha hb hza hzb ela elb (fun _ _ => ⟨rfl, R⟩) (fun h' => absurd ((S e).mp h) (h' e))
      · exact oa_ysameS hm ha hb hza hzb ela elb (fun e h' => absurd ((S e).mpr h') (h e)) (fun _ => ⟨rfl, R⟩)
theorem i_vc_size {k : Nat} {u : SX} {v : SY} (I : i_Rel k u v) (hk : k + 4 ≤ 2048) (v1 : Int32) : wpX_size (fun r => wpY_size (fun r' => r' = r ∧ i_Rel (k + 4) u v) v v1) u v1 := by
  have R := i_up I
  obtain ⟨n, m, cl, ms, ca, ce, sz, li, le, rfl, rfl, hN, hM⟩ := I
  have hm := hM.2.1
  unfold wpX_size wpY_size
  dsimp only
  rcases pk_ix v1 (n := m) (by omega) with h | h | ⟨s, hs, rfl⟩
  · exact oa_xl0 (Or.inl h) (br_t rfl (oa_yd1 (Or.inl h) (br_f (by decide) ⟨rfl, R⟩)))
  · exact oa_xl0 (Or.inr h) (br_t rfl (oa_yd1 (Or.inr h) (br_f (by decide) ⟨rfl, R⟩)))
  · obtain ⟨z, hz, es, el, hL, hP, hV⟩ := hM.2.2.1 s hs
    rw [nI_clamp (n := s) (by omega)]
    have hv : vp_in (nI s) 5 := vp_in_nI (by omega) (by decide)
    exact oa_xl1 hs hm (br_f (by decide) ⟨hv, oa_yd0 hs hm (br_t rfl ⟨hv, el.trans es.symm, R⟩)⟩)
theorem i_vc_digest {k : Nat} {u : SX} {v : SY} (I : i_Rel k u v) (hk : k + 4 ≤ 2048) (v1 : Int32) (a1 : Int64) : wpX_digest (fun r => wpY_digest (fun r' => r' = r ∧ i_Rel (k + 4) u v) v v1 a1) u v1 a1 := by
  have R := i_up I
  obtain ⟨n, m, cl, ms, ca, ce, sz, li, le, rfl, rfl, hN, hM⟩ := I
  have hm := hM.2.1
  unfold wpX_digest wpY_digest
  dsimp only
  rcases pk_ix v1 (n := m) (by omega) with h | h | ⟨s, hs, rfl⟩
  · exact oa_xl0 (Or.inl h) (br_t rfl (oa_yd1 (Or.inl h) (br_f (by decide) ⟨rfl, R⟩)))
  · exact oa_xl0 (Or.inr h) (br_t rfl (oa_yd1 (Or.inr h) (br_f (by decide) ⟨rfl, R⟩)))
  · obtain ⟨z, hz, es, el, hL, hP, hV⟩ := hM.2.2.1 s hs
    refine oa_xl1 hs hm (br_f (by decide) (nm_r (oa_m5 s) ⟨vp_in_nI (by omega) (by decide), nm_r (e' := nI z) (by rw [nI_clamp (by omega)]; exact es) ⟨z + 1, oa_xg29 (by omega) z 0 0 (by omega) ?_⟩⟩))
    exact oa_yd0 hs hm (br_t rfl ⟨z + 1, oa_yg16 (by omega) hz el z 0 0 (by omega) ⟨(oa_sum_perm hP).symm, R⟩⟩)
theorem i_vc_key {k : Nat} {u : SX} {v : SY} (I : i_Rel k u v) (hk : k + 4 ≤ 2048) (v1 : Int32) : wpX_key (fun r => wpY_key (fun r' => r' = r ∧ i_Rel (k + 4) u v) v v1) u v1 := by
  have R := i_up I
  obtain ⟨n, m, cl, ms, ca, ce, sz, li, le, rfl, rfl, hN, hM⟩ := I
  have hn := hN.1
  unfold wpX_key wpY_key
  dsimp only
  by_cases c1 : v1 < 1
  · exact br_t c1 (br_t c1 ⟨rfl, R⟩)
  · by_cases c2 : v1 ≤ nI n
    · obtain ⟨j, hj, rfl⟩ := nI_of2 (x := v1) (M := nI n) (n := n) (nI_toInt (by omega)) (fun q => c1 (Int32.lt_trans q (by decide))) c2
      have hj1 : 1 ≤ j := by
        rcases Nat.eq_zero_or_pos j with r | r
        · rw [r] at c1; exact absurd (by decide) c1
        · exact r
      have hv : vp_in (nI j) 7 := vp_in_nI (by omega) (by decide)
      obtain ⟨z, hz, ez⟩ := hN.2.1 j hj1 hj
      obtain ⟨q, hq, eq⟩ := hN.2.2.1 j hj1 hj
      obtain ⟨c, hc, _, ec⟩ := em_w (cl j)
      rw [nI_clamp (n := j) (by omega), ez, eq, ec]
      exact br_f c1 (br_t c2 ⟨hv, hv, hv, br_f c1 (br_t c2 ⟨hv, hv, hv, (oa_key hc hq (by omega)).symm, R⟩)⟩)
    · exact br_f c1 (br_f c2 (br_f c1 (br_f c2 ⟨rfl, R⟩)))
end
