section
/-! rows of the kit's PURE-ROWS and BITS (starting texts) -/
theorem pk_us {f : Nat → Int32} {k : Nat} {x : Int32} : upd f k x k = x := if_pos rfl
theorem pk_un {f : Nat → Int32} {k j : Nat} {x : Int32} (h : j ≠ k) : upd f k x j = f j := if_neg h
theorem pk_uLs {f : Nat → Int64} {k : Nat} {x : Int64} : vp_updL f k x k = x := if_pos rfl
theorem pk_uLn {f : Nat → Int64} {k j : Nat} {x : Int64} (h : j ≠ k) : vp_updL f k x j = f j := if_neg h
theorem pk_sub {a b : Nat} (h : b ≤ a) : nI a - nI b = nI (a - b) := by
  obtain ⟨c, rfl⟩ : ∃ c, a = c + b := ⟨a - b, by omega⟩
  rw [← nI_add, Int32.add_sub_cancel, Nat.add_sub_cancel]
theorem pk_m1 (n : Nat) : nI (n + 1) + (-1) = nI n := by
  rw [← nI_1, Int32.add_assoc, show (1 : Int32) + (-1) = 0 from rfl, Int32.add_zero]
theorem pk_mul (a b : Nat) : nI a * nI b = nI (a * b) := (Int32.ofNat_mul a b).symm
theorem pk_div {a d : Nat} (ha : a < 2 ^ 31) (h0 : 0 < d) (hd : d < 2 ^ 31) : nI a / nI d = nI (a / d) := by
  apply Int32.toInt_inj.mp
  rw [lg_idiv_nonneg (by rw [nI_toInt ha]; omega) (by rw [nI_toInt hd]; omega), nI_toInt ha, nI_toInt hd, nI_toInt (Nat.lt_of_le_of_lt (Nat.div_le_self a d) ha)]
  first | rfl | exact (Int.natCast_ediv _ _).symm
theorem pk_rem {a d : Nat} (ha : a < 2 ^ 31) (h0 : 0 < d) (hd : d < 2 ^ 31) : nI a - nI a / nI d * nI d = nI (a % d) := by
  rw [pk_div ha h0 hd, pk_mul, pk_sub (Nat.div_mul_le_self a d)]
  exact congrArg nI (by have := Nat.div_add_mod' a d; omega)
theorem pk_le {x y : Int32} {A B : Prop} (a b : Nat) (f : a ≤ b → A) (g : b < a → B) (hx : x = nI a := by rfl) (hy : y = nI b := by rfl) (ha : a < 2 ^ 31 := by omega) (hb : b < 2 ^ 31 := by omega) : (x ≤ y → A) ∧ (¬ x ≤ y → B) := by
  subst hx hy
  rw [nI_leI ha hb]
  exact ⟨f, fun z => g (by omega)⟩
theorem pk_lt {x y : Int32} {A B : Prop} (a b : Nat) (f : a < b → A) (g : b ≤ a → B) (hx : x = nI a := by rfl) (hy : y = nI b := by rfl) (ha : a < 2 ^ 31 := by omega) (hb : b < 2 ^ 31 := by omega) : (x < y → A) ∧ (¬ x < y → B) := by
  subst hx hy
  rw [nI_ltI ha hb]
  exact ⟨f, fun z => g (by omega)⟩
theorem pk_eq {x y : Int32} {A B : Prop} (a b : Nat) (f : a = b → A) (g : a ≠ b → B) (hx : x = nI a := by rfl) (hy : y = nI b := by rfl) (ha : a < 2 ^ 31 := by omega) (hb : b < 2 ^ 31 := by omega) : (x = y → A) ∧ (¬ x = y → B) := by
  subst hx hy
  rw [nI_eq ha hb]
  exact ⟨f, g⟩
theorem pk_in {x : Int32} (n N : Nat) (h : n < N) (hx : x = nI n := by rfl) (hN : N < 2 ^ 31 := by omega) : vp_in x N := by
  subst hx
  exact vp_in_nI h hN
theorem pk_cl {x : Int32} (n : Nat) (hx : x = nI n := by rfl) (h : n < 2 ^ 31 := by omega) : x.toNatClampNeg = n := by
  subst hx
  exact nI_clamp h
theorem pk_tn {n : Nat} (h : n < 2 ^ 32) : (nI n).toBitVec.toNat = n := Nat.mod_eq_of_lt h
theorem pk_and (x : Int32) {m : Int32} (k : Nat) (hm : m.toBitVec.toNat = 2 ^ k - 1) : x &&& m = nI (x.toBitVec.toNat % 2 ^ k) := by
  apply Int32.toBitVec_inj.mp
  apply BitVec.eq_of_toNat_eq
  rw [Int32.toBitVec_and, BitVec.toNat_and, hm, Nat.and_two_pow_sub_one_eq_mod]
  show _ = (BitVec.ofNat 32 _).toNat
  rw [BitVec.toNat_ofNat]
  exact (Nat.mod_eq_of_lt (Nat.lt_of_le_of_lt (Nat.mod_le _ _) x.toBitVec.isLt)).symm
theorem pk_andN {n : Nat} (h : n < 2 ^ 32) {m : Int32} (k : Nat) (hm : m.toBitVec.toNat = 2 ^ k - 1) : nI n &&& m = nI (n % 2 ^ k) := by
  rw [pk_and _ k hm, pk_tn h]
theorem pk_andE (x : Int32) {m : Int32} (k : Nat) (hm : m.toBitVec.toNat = 2 ^ k - 1) : ∃ j : Nat, j < 2 ^ k ∧ x &&& m = nI j := ⟨_, Nat.mod_lt _ (Nat.two_pow_pos k), pk_and x k hm⟩
theorem pk_shr (a s : Int32) (k : Nat) (hs : (s.toBitVec.smod 32).toNat = k) : (a >>> s).toInt = a.toInt >>> k := by
  show (a.toBitVec.sshiftRight (s.toBitVec.smod 32).toNat).toInt = _
  rw [hs, BitVec.toInt_sshiftRight]
  rfl
theorem pk_shrN {n : Nat} (h : n < 2 ^ 31) (s : Int32) (k : Nat) (hs : (s.toBitVec.smod 32).toNat = k) : nI n >>> s = nI (n / 2 ^ k) := by
  apply Int32.toInt_inj.mp
  have h2 : n / 2 ^ k ≤ n := Nat.div_le_self _ _
  rw [pk_shr _ _ k hs, nI_toInt h, nI_toInt (by omega), Int.shiftRight_eq_div_pow]
  rfl
theorem pk_nb (z : Int32) : narrow .byte (.int z.toInt8.toInt32) = .int z.toInt8.toInt32 := congrArg Value.int (by simp)
theorem pk_ns (z : Int32) : narrow .short (.int z.toInt16.toInt32) = .int z.toInt16.toInt32 := congrArg Value.int (by simp)
theorem pk_charN {q : Nat} (hq : q < 65536) : narrow .char (.int (nI q)) = .int (nI q) ∧ fits .char (.int (nI q)) = true := by
  constructor
  · have e : (nI q).toUInt32.toUInt16.toUInt32.toInt32 = nI q := by
      apply Int32.toBitVec_inj.mp
      apply BitVec.eq_of_toNat_eq
      show (nI q).toUInt32.toUInt16.toUInt32.toNat = q % 2 ^ 32
      rw [UInt16.toNat_toUInt32, UInt32.toNat_toUInt16, show (nI q).toUInt32.toNat = q % 2 ^ 32 from rfl]
      omega
    exact congrArg Value.int e
  · have a : (0 : Int32) ≤ nI q := nI_pos' (by omega)
    have b : nI q ≤ 65535 := nI_le (b := 65535) (by omega) (by decide)
    show (decide ((0 : Int32) ≤ nI q) && decide (nI q ≤ 65535)) = true
    rw [decide_eq_true a, decide_eq_true b]
    rfl
theorem pk_char (x : Int32) : (x.toUInt32 % 65536).toInt32 = nI (x.toBitVec.toNat % 65536) := by
  apply Int32.toBitVec_inj.mp
  apply BitVec.eq_of_toNat_eq
  rw [pk_tn (by omega)]
  show (x.toUInt32 % 65536).toNat = _
  rw [UInt32.toNat_mod]
  rfl
theorem pk_nc (x : Int32) : narrow .char (.int (x.toUInt32 % 65536).toInt32) = .int (x.toUInt32 % 65536).toInt32 := by
  rw [pk_char]
  exact (pk_charN (Nat.mod_lt _ (by decide))).1
theorem pk_vb (z : Int32) : vp_nar .byte z.toInt8.toInt32 = z.toInt8.toInt32 := by rw [vp_nar_byte]; simp
theorem pk_vs (z : Int32) : vp_nar .short z.toInt16.toInt32 = z.toInt16.toInt32 := by rw [vp_nar_short]; simp
theorem pk_vc (z : Int32) : vp_nar .char (z.toUInt32 % 65536).toInt32 = (z.toUInt32 % 65536).toInt32 := Value.int.inj (pk_nc z)
theorem pk_lT {n : Nat} (h : n < 2 ^ 63) : (lN n).toInt = (n : Int) := lg_ofNat_toInt h
theorem pk_lLT {a b : Nat} (ha : a < 2 ^ 63) (hb : b < 2 ^ 63) : lN a < lN b ↔ a < b := by
  rw [Int64.lt_iff_toInt_lt, pk_lT ha, pk_lT hb]; omega
theorem pk_lLE {a b : Nat} (ha : a < 2 ^ 63) (hb : b < 2 ^ 63) : lN a ≤ lN b ↔ a ≤ b := by
  rw [Int64.le_iff_toInt_le, pk_lT ha, pk_lT hb]; omega
theorem pk_lEQ {a b : Nat} (ha : a < 2 ^ 63) (hb : b < 2 ^ 63) : lN a = lN b ↔ a = b := by
  rw [← Int64.toInt_inj, pk_lT ha, pk_lT hb]; omega
/-! ===== Int32 by its bits: bt x i ===== -/
def bt (x : Int32) (i : Nat) : Bool := x.toBitVec.getLsbD i
theorem b_ext {x y : Int32} (h : ∀ i, i < 32 → bt x i = bt y i) : x = y := Int32.toBitVec_inj.mp (BitVec.eq_of_getLsbD_eq (fun i hi => h i hi))
theorem b_or (x y : Int32) (i : Nat) : bt (x ||| y) i = (bt x i || bt y i) := by unfold bt; rw [Int32.toBitVec_or, BitVec.getLsbD_or]
theorem b_and (x y : Int32) (i : Nat) : bt (x &&& y) i = (bt x i && bt y i) := by unfold bt; rw [Int32.toBitVec_and, BitVec.getLsbD_and]
theorem b_xor (x y : Int32) (i : Nat) : bt (x ^^^ y) i = (bt x i ^^ bt y i) := by unfold bt; rw [Int32.toBitVec_xor, BitVec.getLsbD_xor]
theorem b_big {x : Int32} {i : Nat} (h : 32 ≤ i) : bt x i = false := BitVec.getLsbD_of_ge _ _ h
theorem b_255 (i : Nat) : bt 255 i = decide (i < 8) := by
  rcases Nat.lt_or_ge i 32 with h | h
  · exact (by decide +kernel : ∀ i, i < 32 → bt 255 i = decide (i < 8)) i h
  · rw [b_big h, decide_eq_false (by omega)]
theorem b_65535 (i : Nat) : bt 65535 i = decide (i < 16) := by
  rcases Nat.lt_or_ge i 32 with h | h
  · exact (by decide +kernel : ∀ i, i < 32 → bt 65535 i = decide (i < 16)) i h
  · rw [b_big h, decide_eq_false (by omega)]
theorem b_m1 : ∀ i, i < 32 → bt (-1) i = true := by decide +kernel
theorem b_0 (i : Nat) : bt 0 i = false := BitVec.getLsbD_zero
theorem s_l : ∀ n, n < 32 → ((nI n &&& 31).toBitVec.smod 32).toNat = n := by decide +kernel
theorem s_u : ∀ n, n < 32 → (((nI n).toUInt32 &&& Int32.toUInt32 31).toBitVec % 32).toNat = n := by decide +kernel
theorem b_shl (n : Nat) (hn : n < 32) (x : Int32) {i : Nat} (hi : i < 32) : bt (x <<< (nI n &&& 31)) i = (decide (n ≤ i) && bt x (i - n)) := by
  unfold bt
  rw [Int32.toBitVec_shiftLeft]
  show (x.toBitVec <<< ((nI n &&& 31).toBitVec.smod 32).toNat).getLsbD i = _
  rw [s_l n hn, BitVec.getLsbD_shiftLeft]
  rcases Nat.lt_or_ge i n with h | h
  · simp [h, Nat.not_le.mpr h]
  · simp [hi, h, Nat.not_lt.mpr h]
theorem b_ushr (n : Nat) (hn : n < 32) (x : Int32) (i : Nat) : bt ((x.toUInt32 >>> ((nI n).toUInt32 &&& Int32.toUInt32 31)).toInt32) i = bt x (n + i) := by
  show (x.toUInt32 >>> ((nI n).toUInt32 &&& Int32.toUInt32 31)).toBitVec.getLsbD i = x.toUInt32.toBitVec.getLsbD (n + i)
  rw [UInt32.toBitVec_shiftRight]
  show (x.toUInt32.toBitVec >>> (((nI n).toUInt32 &&& Int32.toUInt32 31).toBitVec % 32).toNat).getLsbD i = _
  rw [s_u n hn, BitVec.getLsbD_ushiftRight]
theorem b_sshr (n : Nat) (hn : n < 32) (x : Int32) {i : Nat} (hi : i < 32) : bt (x >>> (nI n &&& 31)) i = if n + i < 32 then bt x (n + i) else bt x 31 := by
  unfold bt
  rw [Int32.toBitVec_shiftRight]
  show (x.toBitVec.sshiftRight ((nI n &&& 31).toBitVec.smod 32).toNat).getLsbD i = _
  rw [s_l n hn, BitVec.getLsbD_sshiftRight, BitVec.msb_eq_getLsbD_last]
  simp [hi]
theorem b_shl8 (x : Int32) {i : Nat} (hi : i < 32) : bt (x <<< ((8 : Int32) &&& 31)) i = (decide (8 ≤ i) && bt x (i - 8)) := b_shl 8 (by omega) x hi
/-! ===== nI under and, xor, >>>, one bit, 65535 ===== -/
theorem nx_and (a b : Nat) : nI a &&& nI b = nI (a &&& b) := by
  apply Int32.toBitVec_inj.1
  show BitVec.ofNat 32 a &&& BitVec.ofNat 32 b = BitVec.ofNat 32 (a &&& b)
  apply BitVec.eq_of_getLsbD_eq
  intro i hi
  simp [hi]
/-! ===== lN n to 2^64: shifts, and, or, masks, one bit ===== -/
theorem wb_tb (n : Nat) : (lN n).toBitVec = BitVec.ofNat 64 n := rfl
theorem wb_inj {a b : Int64} (h : a.toBitVec = b.toBitVec) : a = b := Int64.toBitVec_inj.mp h
theorem wb_tn {n : Nat} (h : n < 2 ^ 64) : (lN n).toBitVec.toNat = n := by rw [wb_tb, BitVec.toNat_ofNat, Nat.mod_eq_of_lt h]
theorem wb_of (x : Int64) : ∃ n, n < 2 ^ 64 ∧ x = lN n := ⟨x.toBitVec.toNat, x.toBitVec.isLt, wb_inj (by rw [wb_tb]; simp)⟩
theorem wb_of32 (x : Int32) : ∃ n, n < 2 ^ 32 ∧ x = nI n := ⟨x.toBitVec.toNat, x.toBitVec.isLt, Int32.toBitVec_inj.mp (by show _ = BitVec.ofNat 32 _; simp)⟩
theorem wb_c : ∀ k, k < 64 → ((nI k).toInt64 &&& 63) = lN k := by decide +kernel
theorem wb_cu : ∀ k, k < 64 → ((nI k).toInt64.toUInt64 &&& Int64.toUInt64 63) = UInt64.ofNat k := by decide +kernel
theorem wb_sm : ∀ k, k < 64 → (BitVec.ofNat 64 k).smod 64 = BitVec.ofNat 64 k := by decide +kernel
theorem wb_pw {a b : Nat} (h : a ≤ b) : 2 ^ b = 2 ^ a * 2 ^ (b - a) := by rw [← Nat.pow_add]; congr 1; omega
theorem wb_lt2 {a b : Nat} (h : a < b) : 2 ^ a < 2 ^ b := Nat.pow_lt_pow_right (by decide) h
theorem wb_mod (n : Nat) : lN n = lN (n % 2 ^ 64) := wb_inj (by rw [wb_tb, wb_tb]; apply BitVec.eq_of_toNat_eq; rw [BitVec.toNat_ofNat, BitVec.toNat_ofNat, Nat.mod_mod])
theorem wb_shr {n k : Nat} (hn : n < 2 ^ 64) (hk : k < 64) : ((lN n).toUInt64 >>> ((nI k).toInt64.toUInt64 &&& Int64.toUInt64 63)).toInt64 = lN (n / 2 ^ k) := by
  rw [wb_cu k hk]
  apply wb_inj
  apply BitVec.eq_of_toNat_eq
  show ((lN n).toUInt64 >>> UInt64.ofNat k).toNat = (BitVec.ofNat 64 _).toNat
  have h1 : (UInt64.ofNat k).toNat = k := by
    show (BitVec.ofNat 64 k).toNat = k
    rw [BitVec.toNat_ofNat, Nat.mod_eq_of_lt (by omega)]
  have h2 : (lN n).toUInt64.toNat = n := wb_tn hn
  rw [UInt64.toNat_shiftRight, h1, h2, Nat.mod_eq_of_lt hk, Nat.shiftRight_eq_div_pow, BitVec.toNat_ofNat, Nat.mod_eq_of_lt (Nat.lt_of_le_of_lt (Nat.div_le_self _ _) hn)]
theorem wb_shl (n : Nat) {k : Nat} (hk : k < 64) : lN n <<< ((nI k).toInt64 &&& 63) = lN (n * 2 ^ k) := by
  rw [wb_c k hk]
  apply wb_inj
  rw [Int64.toBitVec_shiftLeft, wb_tb, wb_tb, wb_tb, wb_sm k hk]
  apply BitVec.eq_of_toNat_eq
  rw [BitVec.shiftLeft_eq', BitVec.toNat_shiftLeft, BitVec.toNat_ofNat, BitVec.toNat_ofNat, BitVec.toNat_ofNat, Nat.mod_eq_of_lt (show k < 2 ^ 64 by omega), Nat.shiftLeft_eq, Nat.mul_mod, Nat.mod_mod, ← Nat.mul_mod]
theorem wb_and {a b : Nat} (ha : a < 2 ^ 64) (hb : b < 2 ^ 64) : lN a &&& lN b = lN (a &&& b) := by
  apply wb_inj
  rw [Int64.toBitVec_and, wb_tb, wb_tb, wb_tb]
  apply BitVec.eq_of_toNat_eq
  rw [BitVec.toNat_and, BitVec.toNat_ofNat, BitVec.toNat_ofNat, BitVec.toNat_ofNat, Nat.mod_eq_of_lt ha, Nat.mod_eq_of_lt hb, Nat.mod_eq_of_lt (Nat.and_lt_two_pow _ hb)]
theorem wb_or {a b : Nat} (ha : a < 2 ^ 64) (hb : b < 2 ^ 64) : lN a ||| lN b = lN (a ||| b) := by
  apply wb_inj
  rw [Int64.toBitVec_or, wb_tb, wb_tb, wb_tb]
  apply BitVec.eq_of_toNat_eq
  rw [BitVec.toNat_or, BitVec.toNat_ofNat, BitVec.toNat_ofNat, BitVec.toNat_ofNat, Nat.mod_eq_of_lt ha, Nat.mod_eq_of_lt hb, Nat.mod_eq_of_lt (Nat.or_lt_two_pow ha hb)]
theorem wb_mask {n k : Nat} (hn : n < 2 ^ 64) (hk : k < 64) : lN n &&& lN (2 ^ k - 1) = lN (n % 2 ^ k) := by
  rw [wb_and hn (by have := wb_lt2 hk; omega), Nat.and_two_pow_sub_one_eq_mod]
theorem wb_a1 {n : Nat} (hn : n < 2 ^ 64) : lN n &&& 1 = lN (n % 2) := wb_mask (k := 1) hn (by decide)
theorem wb_bit {n k : Nat} (hn : n < 2 ^ 64) (hk : k < 64) : ((lN n).toUInt64 >>> ((nI k).toInt64.toUInt64 &&& Int64.toUInt64 63)).toInt64 &&& 1 = lN (n / 2 ^ k % 2) := by
  rw [wb_shr hn hk, wb_a1 (Nat.lt_of_le_of_lt (Nat.div_le_self _ _) hn)]
/-! ===== lN: masks, 'or' of parts that don't overlap is a sum ===== -/
theorem u_tn {n : Nat} (h : n < 2 ^ 64) : (UInt64.ofNat n).toNat = n := Nat.mod_eq_of_lt h
theorem g_and {a b c : Nat} (ha : a < 2 ^ 64) (hb : b < 2 ^ 64) (hc : a &&& b = c) : lN a &&& lN b = lN c := by
  subst hc
  have h : UInt64.ofNat a &&& UInt64.ofNat b = UInt64.ofNat (a &&& b) := UInt64.toNat_inj.mp (by rw [UInt64.toNat_and, u_tn ha, u_tn hb, u_tn (Nat.and_lt_two_pow a hb)])
  have h2 := congrArg UInt64.toInt64 h
  exact h2
theorem g_and1 {a : Nat} (ha : a < 2 ^ 64) : lN a &&& 1 = lN (a % 2) := g_and (b := 1) ha (by decide) (Nat.and_two_pow_sub_one_eq_mod a 1)
theorem g_mask {a s p : Nat} (hp : 2 ^ s = p) (hs : s < 64) (ha : a < 2 ^ 64) : lN a &&& lN (p - 1) = lN (a % p) := by
  subst hp
  have := Nat.pow_lt_pow_right (show 1 < 2 by decide) hs
  exact g_and ha (by omega) (Nat.and_two_pow_sub_one_eq_mod a s)
theorem g_or {k p a b : Nat} (hp : 2 ^ k = p) (ha : a < p) (h : b * p + a < 2 ^ 64) : lN (b * p) ||| lN a = lN (b * p + a) := by
  subst hp
  have h1 : b * 2 ^ k ||| a = b * 2 ^ k + a := by rw [← Nat.shiftLeft_eq, Nat.shiftLeft_add_eq_or_of_lt ha]
  have h3 : UInt64.ofNat (b * 2 ^ k) ||| UInt64.ofNat a = UInt64.ofNat (b * 2 ^ k + a) := UInt64.toNat_inj.mp (by rw [UInt64.toNat_or, u_tn (by omega), u_tn (by omega), u_tn h, h1])
  have h2 := congrArg UInt64.toInt64 h3
  exact h2
theorem g_or' {k p a b : Nat} (hp : 2 ^ k = p) (ha : a < p) (h : a + b * p < 2 ^ 64) : lN a ||| lN (b * p) = lN (a + b * p) := by
  rw [Int64.or_comm, g_or hp ha (by omega), Nat.add_comm]
end
section
/-! pure laws: flags, bytes, bits -/
theorem ff_n (n : Nat) : n % 65536 &&& 63025 = n &&& 63025 := by
  have h : n % 2 ^ 16 = n &&& 2 ^ 16 - 1 := (Nat.and_two_pow_sub_one_eq_mod n 16).symm
  rw [show (65536 : Nat) = 2 ^ 16 from rfl, h, Nat.and_assoc]
  exact congrArg (fun z => n &&& z) (by decide)
theorem ff_1 (v : Int32) : nI (v.toBitVec.toNat % 65536) &&& 63025 = v &&& 63025 := by
  obtain ⟨n, hn, rfl⟩ := wb_of32 v
  rw [pk_tn hn]
  show nI (n % 65536) &&& nI 63025 = nI n &&& nI 63025
  rw [nx_and, nx_and, ff_n]
theorem ff_2 (v : Int32) : ((v &&& 63025).toUInt32 % 65536).toInt32 = v &&& 63025 := by
  obtain ⟨n, hn, rfl⟩ := wb_of32 v
  have e : nI n &&& 63025 = nI (n &&& 63025) := nx_and n 63025
  have h : n &&& 63025 ≤ 63025 := Nat.and_le_right
  rw [e, pk_char, pk_tn (by omega), Nat.mod_eq_of_lt (by omega)]
theorem ff_a (v : Int32) : ((vp_nar .char (v.toUInt32 % 65536).toInt32 &&& 63025).toUInt32 % 65536).toInt32 = v &&& 63025 := by
  rw [pk_vc, pk_char v, ff_1, ff_2]
theorem ff_b (v : Int32) : vp_nar .char (((v &&& 63025).toUInt32 % 65536).toInt32) = v &&& 63025 := by
  rw [pk_vc, ff_2]
theorem ff_c (x : Int32) : (x.toInt16.toInt32 &&& 30239).toInt16.toInt32 = (x &&& 30239).toInt16.toInt32 := by
  have e : (x.toInt16.toInt32 &&& 30239).toInt16 = (x &&& 30239).toInt16 := by
    rw [Int32.toInt16_and, Int32.toInt16_and, Int16.toInt16_toInt32]
  rw [e]
theorem ff_15 (x : Int32) : (x &&& 32768) = 0 ↔ bt x 15 = false := by
  constructor
  · intro h
    have h2 : bt (x &&& 32768) 15 = bt 0 15 := by rw [h]
    rw [b_and, b_0, (by decide +kernel : bt 32768 15 = true), Bool.and_true] at h2
    exact h2
  · intro h
    apply b_ext
    intro i hi
    rw [b_and, b_0]
    by_cases e : i = 15
    · subst e
      rw [h]
      rfl
    · rw [(by decide +kernel : ∀ i, i < 32 → i ≠ 15 → bt 32768 i = false) i hi e, Bool.and_false]
theorem ff_s (x : Int32) : 0 ≤ x.toInt16.toInt32 ↔ (x &&& 32768) = 0 := by
  rw [ff_15]
  have m : x.toInt16.toBitVec.msb = bt x 15 := by
    rw [Int32.toBitVec_toInt16, BitVec.msb_eq_getLsbD_last, BitVec.getLsbD_signExtend]
    simp [bt]
  have t : x.toInt16.toBitVec.msb = decide (x.toInt16.toInt < 0) := BitVec.msb_eq_toInt
  have z : (0 : Int32).toInt = 0 := by decide
  rw [Int32.le_iff_toInt_le, Int16.toInt_toInt32, z, ← m, t, decide_eq_false_iff_not]
  omega
theorem ff_528 (x : Int32) : (x &&& 528) = 0 ↔ (x &&& 512) = 0 ∧ (x &&& 16) = 0 := by
  have k : ∀ i, i < 32 → bt 528 i = (bt 512 i || bt 16 i) := by decide +kernel
  constructor
  · intro h
    have h2 : ∀ i, bt (x &&& 528) i = bt 0 i := fun i => by rw [h]
    constructor
    · apply b_ext
      intro i hi
      have := h2 i
      rw [b_and, k i hi, b_0] at this
      rw [b_and, b_0]
      cases h3 : bt x i <;> cases h4 : bt 512 i <;> cases h5 : bt 16 i <;> simp_all
    · apply b_ext
      intro i hi
      have := h2 i
      rw [b_and, k i hi, b_0] at this
      rw [b_and, b_0]
      cases h3 : bt x i <;> cases h4 : bt 512 i <;> cases h5 : bt 16 i <;> simp_all
  · intro ⟨h, h'⟩
    have h2 : ∀ i, bt (x &&& 512) i = bt 0 i := fun i => by rw [h]
    have h3 : ∀ i, bt (x &&& 16) i = bt 0 i := fun i => by rw [h']
    apply b_ext
    intro i hi
    have a := h2 i
    have b := h3 i
    rw [b_and, b_0] at a b
    rw [b_and, k i hi, b_0]
    cases h3 : bt x i <;> cases h4 : bt 512 i <;> cases h5 : bt 16 i <;> simp_all
theorem ff_id (x : Int32) : (((x &&& 7) ||| 1040) &&& 7) ||| 1040 = (x &&& 7) ||| 1040 := by
  have k : ∀ i, i < 32 → (bt 1040 i && bt 7 i) = false := by decide +kernel
  apply b_ext
  intro i hi
  have := k i hi
  rw [b_or, b_and, b_or, b_and]
  cases h3 : bt x i <;> cases h4 : bt 7 i <;> cases h5 : bt 1040 i <;> simp_all
theorem ff_by : ∀ m, m < 32 → vp_nar .byte (nI m).toInt8.toInt32 = nI m := by
  intro m hm
  rw [pk_vb]
  exact (by decide +kernel : ∀ m, m < 32 → (nI m).toInt8.toInt32 = nI m) m hm
theorem ff_sh : ∀ m, m < 128 → vp_nar .short (nI m).toInt16.toInt32 = nI m := by
  intro m hm
  rw [pk_vs]
  exact (by decide +kernel : ∀ m, m < 128 → (nI m).toInt16.toInt32 = nI m) m hm
theorem ff_m32 {s : Nat} (h : 32 ≤ s) : nI s + (-32) = nI (s - 32) := by
  obtain ⟨t, rfl⟩ : ∃ t, s = t + 32 := ⟨s - 32, by omega⟩
  rw [← nI_add, Int32.add_assoc, show nI 32 + (-32) = 0 from by decide +kernel, Int32.add_zero, Nat.add_sub_cancel]
/-! a base 256 sum -/
def cf_P (b : Nat → Nat) : Nat → Nat
  | 0 => 0
  | n + 1 => cf_P b n + b n * 256 ^ n
theorem cf_Plt {b : Nat → Nat} : ∀ n, (∀ k, k < n → b k < 256) → cf_P b n < 256 ^ n := by
  intro n
  induction n with
  | zero => exact fun _ => Nat.one_pos
  | succ n ih =>
    intro h
    have h1 := ih (fun k hk => h k (by omega))
    have h2 : b n * 256 ^ n ≤ 255 * 256 ^ n := Nat.mul_le_mul_right _ (by have := h n (by omega); omega)
    show cf_P b n + b n * 256 ^ n < 256 ^ (n + 1)
    rw [Nat.pow_succ]
    generalize b n * 256 ^ n = q at h2
    omega
theorem cf_Pcg {b b' : Nat → Nat} : ∀ n, (∀ k, k < n → b k = b' k) → cf_P b n = cf_P b' n := by
  intro n
  induction n with
  | zero => exact fun _ => rfl
  | succ n ih =>
    intro h
    show cf_P b n + b n * 256 ^ n = cf_P b' n + b' n * 256 ^ n
    rw [ih (fun k hk => h k (by omega)), h n (by omega)]
theorem cf_Pz {b : Nat → Nat} {n : Nat} : ∀ d, (∀ k, n ≤ k → k < n + d → b k = 0) → cf_P b (n + d) = cf_P b n := by
  intro d
  induction d with
  | zero => exact fun _ => rfl
  | succ d ih =>
    intro h
    show cf_P b (n + d) + b (n + d) * 256 ^ (n + d) = cf_P b n
    rw [ih (fun k h1 h2 => h k h1 (by omega)), h (n + d) (by omega) (by omega), Nat.zero_mul, Nat.add_zero]
theorem cf_256 (n : Nat) : 2 ^ (8 * n) = 256 ^ n := Nat.pow_mul 2 8 n
theorem cf_256le {n : Nat} (h : n < 8) : 256 ^ n * 256 ≤ 2 ^ 64 := by
  rw [← Nat.pow_succ]
  have h2 : 256 ^ (n + 1) ≤ 256 ^ 8 := Nat.pow_le_pow_right (by decide) (by omega)
  exact h2
theorem cf_or {b : Nat → Nat} {n v : Nat} (hn : n < 8) (hb : cf_P b n < 256 ^ n) (hv : v < 256) : lN (cf_P b n) ||| ((nI v).toInt64 <<< ((8 * nI n).toInt64 &&& 63)) = lN (cf_P b n + v * 256 ^ n) := by
  have e8 : 8 * nI n = nI (8 * n) := pk_mul 8 n
  have h2 : v * 256 ^ n ≤ 255 * 256 ^ n := Nat.mul_le_mul_right _ (by omega)
  have h3 := cf_256le hn
  rw [e8, nI_l (by omega), wb_shl v (by omega), cf_256]
  exact g_or' (cf_256 n) hb (by omega)
theorem cf_byX {L n : Nat} (hL : L < 2 ^ 64) (hn : n < 8) : (((lN L).toUInt64 >>> ((8 * nI n).toInt64.toUInt64 &&& Int64.toUInt64 63)).toInt64 &&& 255).toInt32 = nI (L / 256 ^ n % 256) := by
  have e8 : 8 * nI n = nI (8 * n) := pk_mul 8 n
  have hd : L / 2 ^ (8 * n) < 2 ^ 64 := Nat.lt_of_le_of_lt (Nat.div_le_self _ _) hL
  rw [e8, wb_shr hL (by omega), show (255 : Int64) = lN (2 ^ 8 - 1) from rfl, wb_mask hd (by omega), lN_i, cf_256]
theorem cf_byY {M : Nat} (hM : M < 2 ^ 64) : lN M &&& 255 = lN (M % 256) := wb_mask (k := 8) hM (by omega)
theorem cf_shY {M : Nat} (hM : M < 2 ^ 64) : ((lN M).toUInt64 >>> ((8 : Int32).toInt64.toUInt64 &&& Int64.toUInt64 63)).toInt64 = lN (M / 256) := wb_shr (k := 8) hM (by omega)
/-! one bit of a long -/
theorem cf_lt20 {m : Nat} (h : m < 2 ^ 20) : m < 2 ^ 64 := by omega
theorem cf_1s {v : Nat} (hv : v < 64) : (1 : Int64) <<< ((nI v).toInt64 &&& 63) = lN (2 ^ v) := by
  have h := wb_shl 1 hv
  rw [Nat.one_mul] at h
  exact h
theorem cf_z {M v : Nat} : M &&& 2 ^ v = 0 ↔ M.testBit v = false := by
  constructor
  · intro h
    have h2 : (M &&& 2 ^ v).testBit v = (0 : Nat).testBit v := by rw [h]
    rw [Nat.testBit_and, Nat.testBit_two_pow_self, Bool.and_true, Nat.zero_testBit] at h2
    exact h2
  · intro h
    apply Nat.eq_of_testBit_eq
    intro i
    rw [Nat.testBit_and, Nat.zero_testBit, Nat.testBit_two_pow]
    by_cases e : v = i
    · subst e
      rw [h]
      rfl
    · rw [decide_eq_false e, Bool.and_false]
theorem cf_tb {M v : Nat} (hM : M < 2 ^ 20) (hv : v < 64) : (lN M &&& ((1 : Int64) <<< ((nI v).toInt64 &&& 63))) = 0 ↔ M.testBit v = false := by
  have h2 : 2 ^ v < 2 ^ 64 := wb_lt2 hv
  have h3 : M &&& 2 ^ v ≤ M := Nat.and_le_left
  rw [cf_1s hv, wb_and (cf_lt20 hM) h2, ← cf_z]
  exact pk_lEQ (b := 0) (by omega) (by omega)
theorem cf_ob {M v : Nat} (hM : M < 2 ^ 20) (hv : v < 64) : lN M ||| ((1 : Int64) <<< ((nI v).toInt64 &&& 63)) = lN (M ||| 2 ^ v) := by
  rw [cf_1s hv, wb_or (cf_lt20 hM) (wb_lt2 hv)]
theorem cf_o20 {M v : Nat} (hM : M < 2 ^ 20) (hv : v < 20) : M ||| 2 ^ v < 2 ^ 20 := Nat.or_lt_two_pow hM (wb_lt2 hv)
theorem cf_ot {M v x : Nat} : (M ||| 2 ^ v).testBit x = true ↔ (M.testBit x = true ∨ v = x) := by
  rw [Nat.testBit_or, Nat.testBit_two_pow, Bool.or_eq_true, decide_eq_true_eq]
theorem cf_oo {M K x : Nat} : (M ||| K).testBit x = true ↔ (M.testBit x = true ∨ K.testBit x = true) := by
  rw [Nat.testBit_or, Bool.or_eq_true]
theorem cf_bv {M x : Nat} (hM : M < 2 ^ 20) (hx : x < 64) : ((lN M).toUInt64 >>> ((nI x).toInt64.toUInt64 &&& Int64.toUInt64 63)).toInt64 &&& 1 = lN (if M.testBit x = true then 1 else 0) := by
  rw [wb_bit (cf_lt20 hM) hx, Nat.testBit_eq_decide_div_mod_eq]
  by_cases h : M / 2 ^ x % 2 = 1
  · rw [if_pos (decide_eq_true h), h]
  · rw [if_neg (by rw [decide_eq_true_eq]; exact h), show M / 2 ^ x % 2 = 0 by omega]
end
section
/-! the ghosts (S super, B interface bytes, A ancestors), the marking law -/
def cf_G (c : Nat) (S : Nat → Nat) (B : Nat → Nat → Nat) (A : Nat → Nat) : Prop :=
  ∀ i, 9 ≤ i → i < 12 + c → (10 ≤ i → 9 ≤ S i ∧ S i < i) ∧ (∀ k, k < 8 → B i k = 0 ∨ (9 ≤ B i k ∧ B i k < i)) ∧ A i < 2 ^ 20 ∧
    (∀ x, 9 ≤ x → x < 20 → ((A i).testBit x = true ↔ (x = i ∨ (10 ≤ i ∧ ((A (S i)).testBit x = true ∨ ∃ k, k < 8 ∧ 9 ≤ B i k ∧ (A (B i k)).testBit x = true)))))
def cf_I (A : Nat → Nat) (s i M : Nat) : Prop := M < 2 ^ 20 ∧
  ∀ x, 9 ≤ x → x < 20 → ((A s).testBit x = true ↔ (M.testBit x = true ∨ ∃ j, 9 ≤ j ∧ j ≤ i ∧ M.testBit j = true ∧ (A j).testBit x = true))
section
variable {c s i M x : Nat} {S : Nat → Nat} {B : Nat → Nat → Nat} {A : Nat → Nat}
theorem cf_Gs (g : cf_G c S B A) (hc : c ≤ 8) (h1 : 9 ≤ x) (h2 : x < 12 + c) : (A x).testBit x = true :=
  ((g x h1 h2).2.2.2 x h1 (by omega)).mpr (Or.inl rfl)
theorem cf_I0 (g : cf_G c S B A) (hc : c ≤ 8) (h9 : 9 ≤ s) (hs : s < 12 + c) : cf_I A s s (2 ^ s) := by
  refine ⟨wb_lt2 (by omega), fun x h1 h2 => ?_⟩
  rw [Nat.testBit_two_pow, decide_eq_true_eq]
  constructor
  · intro h
    exact Or.inr ⟨s, h9, Nat.le_refl _, Nat.testBit_two_pow_self, h⟩
  · rintro (h | ⟨j, a, b, d, e⟩)
    · subst h
      exact cf_Gs g hc h9 hs
    · rw [Nat.testBit_two_pow, decide_eq_true_eq] at d
      subst d
      exact e
theorem cf_Isk (h : M.testBit (i + 1) = false) (I : cf_I A s (i + 1) M) : cf_I A s i M := by
  refine ⟨I.1, fun x h1 h2 => (I.2 x h1 h2).trans ?_⟩
  constructor
  · rintro (a | ⟨j, a, b, d, e⟩)
    · exact Or.inl a
    · refine Or.inr ⟨j, a, ?_, d, e⟩
      rcases Nat.lt_or_ge j (i + 1) with q | q
      · omega
      · have e1 : j = i + 1 := by omega
        rw [e1, h] at d
        exact absurd d (by decide)
  · rintro (a | ⟨j, a, b, d, e⟩)
    · exact Or.inl a
    · exact Or.inr ⟨j, a, by omega, d, e⟩
theorem cf_Ist {M' : Nat} (g : cf_G c S B A) (hc : c ≤ 8) (hi : 9 ≤ i) (hi2 : i + 1 < 12 + c) (hb : M.testBit (i + 1) = true) (I : cf_I A s (i + 1) M) (h20 : M' < 2 ^ 20)
    (hM : ∀ x, M'.testBit x = true ↔ (M.testBit x = true ∨ S (i + 1) = x ∨ ∃ k, k < 8 ∧ B (i + 1) k = x)) : cf_I A s i M' := by
  obtain ⟨gs', gb, ga, gx⟩ := g (i + 1) (by omega) hi2
  obtain ⟨gs1, gs2⟩ := gs' (by omega)
  have hi10 : 10 ≤ i + 1 := by omega
  refine ⟨h20, fun x h1 h2 => (I.2 x h1 h2).trans ?_⟩
  constructor
  · rintro (a | ⟨j, a, b, d, e⟩)
    · exact Or.inl ((hM x).mpr (Or.inl a))
    · rcases Nat.lt_or_ge j (i + 1) with q | q
      · exact Or.inr ⟨j, a, by omega, (hM j).mpr (Or.inl d), e⟩
      · have e1 : j = i + 1 := by omega
        subst e1
        rcases (gx x h1 h2).mp e with r | ⟨_, r | ⟨k, k8, b9, r⟩⟩
        · rw [r]
          exact Or.inl ((hM _).mpr (Or.inl d))
        · exact Or.inr ⟨S (i + 1), gs1, Nat.le_of_lt_succ gs2, (hM _).mpr (Or.inr (Or.inl rfl)), r⟩
        · have gk := gb k k8
          exact Or.inr ⟨B (i + 1) k, b9, by omega, (hM _).mpr (Or.inr (Or.inr ⟨k, k8, rfl⟩)), r⟩
  · rintro (a | ⟨j, a, b, d, e⟩)
    · rcases (hM x).mp a with r | r | ⟨k, k8, r⟩
      · exact Or.inl r
      · refine Or.inr ⟨i + 1, by omega, Nat.le_refl _, hb, (gx x h1 h2).mpr (Or.inr ⟨hi10, Or.inl ?_⟩)⟩
        rw [r]
        exact cf_Gs g hc h1 (by omega)
      · have gk := gb k k8
        refine Or.inr ⟨i + 1, by omega, Nat.le_refl _, hb, (gx x h1 h2).mpr (Or.inr ⟨hi10, Or.inr ⟨k, k8, by omega, ?_⟩⟩)⟩
        rw [r]
        exact cf_Gs g hc h1 (by omega)
    · rcases (hM j).mp d with r | r | ⟨k, k8, r⟩
      · exact Or.inr ⟨j, a, by omega, r, e⟩
      · refine Or.inr ⟨i + 1, by omega, Nat.le_refl _, hb, (gx x h1 h2).mpr (Or.inr ⟨hi10, Or.inl ?_⟩)⟩
        rw [r]
        exact e
      · refine Or.inr ⟨i + 1, by omega, Nat.le_refl _, hb, (gx x h1 h2).mpr (Or.inr ⟨hi10, Or.inr ⟨k, k8, by omega, ?_⟩⟩)⟩
        rw [r]
        exact e
theorem cf_Ie (g : cf_G c S B A) (I : cf_I A s 9 M) (h1 : 9 ≤ x) (h2 : x < 20) : (A s).testBit x = M.testBit x := by
  apply Bool.eq_iff_iff.mpr
  refine (I.2 x h1 h2).trans ?_
  constructor
  · rintro (a | ⟨j, a, b, d, e⟩)
    · exact a
    · have e1 : j = 9 := by omega
      subst e1
      rcases ((g 9 (by omega) (by omega)).2.2.2 x h1 h2).mp e with r | ⟨r, _⟩
      · rw [r]
        exact d
      · omega
  · exact Or.inl
end
/-! the relation -/
def cf_R (l c o : Nat) (cf nf so : Nat → Int32) (il an : Nat → Int64) (fl nn su ro co : Nat → Int32) (S : Nat → Nat) (B : Nat → Nat → Nat) (A : Nat → Nat) : Prop :=
  (l ≤ 8 ∧ c ≤ l ∧ o ≤ l) ∧
  (∀ i, i < 12 + c → fl i = cf i) ∧
  (∀ i, i < 12 + c → nn i = nf i) ∧
  (∀ i, i < 9 → cf i = 0) ∧
  (∀ i, 10 ≤ i → i < 12 + c → so i = nI (S i)) ∧
  (∀ i, 10 ≤ i → i < 12 + c → su i = nI (S i)) ∧
  (∀ i, 9 ≤ i → i < 12 + c → an i = lN (A i)) ∧
  (∀ i, 9 ≤ i → i < 12 + c → il i = lN (cf_P (B i) 8)) ∧
  (∀ i, 9 ≤ i → i < 12 + c → ∀ k, k < 8 → ro (i * 8 + k) = nI (B i k)) ∧
  cf_G c S B A ∧
  (∀ j, 1 ≤ j → j ≤ o → ∃ s, 9 ≤ s ∧ s < 128 ∧ s % 32 < 12 + c ∧ co j = nI s)
def cf_Q (u : SX) (v : SY) : Prop := ∃ (l c o : Nat) (cf nf so : Nat → Int32) (il an : Nat → Int64) (fl nn su ro co : Nat → Int32) (S : Nat → Nat) (B : Nat → Nat → Nat) (A : Nat → Nat),
  u = (nI l, nI c, nI o, cf, nf, so, il, an, co) ∧ v = (nI l, nI (12 + c), nI o, fl, nn, su, ro, co) ∧ cf_R l c o cf nf so il an fl nn su ro co S B A
theorem cf_el {P : SX → SY → Prop} {u : SX} {v : SY} (I : cf_Q u v)
    (h : ∀ (l c o : Nat) (cf nf so : Nat → Int32) (il an : Nat → Int64) (fl nn su ro co : Nat → Int32) (S : Nat → Nat) (B : Nat → Nat → Nat) (A : Nat → Nat),
      cf_R l c o cf nf so il an fl nn su ro co S B A → P (nI l, nI c, nI o, cf, nf, so, il, an, co) (nI l, nI (12 + c), nI o, fl, nn, su, ro, co)) : P u v := by
  obtain ⟨l, c, o, cf, nf, so, il, an, fl, nn, su, ro, co, S, B, A, eu, ev, r⟩ := I
  rw [eu, ev]
  exact h l c o cf nf so il an fl nn su ro co S B A r
section
variable {l c o : Nat} {cf nf so : Nat → Int32} {il an : Nat → Int64} {fl nn su ro co : Nat → Int32} {S : Nat → Nat} {B : Nat → Nat → Nat} {A : Nat → Nat}
theorem cf_in (r : cf_R l c o cf nf so il an fl nn su ro co S B A) : cf_Q (nI l, nI c, nI o, cf, nf, so, il, an, co) (nI l, nI (12 + c), nI o, fl, nn, su, ro, co) :=
  ⟨l, c, o, cf, nf, so, il, an, fl, nn, su, ro, co, S, B, A, rfl, rfl, r⟩
/-- valid: both answer 0, or both 1 at a number -/
theorem cv_v (hc : c ≤ 8) (t : Int32) :
    ((∀ post : Int32 → Prop, post 0 → wpX_valid post (nI l, nI c, nI o, cf, nf, so, il, an, co) t) ∧ (∀ post : Int32 → Prop, post 0 → wpY_valid post (nI l, nI (12 + c), nI o, fl, nn, su, ro, co) t)) ∨
    (∃ q : Nat, q < 128 ∧ q % 32 < 12 + c ∧ t = nI q ∧ (∀ post : Int32 → Prop, post 1 → wpX_valid post (nI l, nI c, nI o, cf, nf, so, il, an, co) t) ∧ (∀ post : Int32 → Prop, post 1 → wpY_valid post (nI l, nI (12 + c), nI o, fl, nn, su, ro, co) t)) := by
  by_cases h0 : t < 0
  · exact Or.inl ⟨fun post hp => br_t h0 hp, fun post hp => br_t h0 hp⟩
  obtain ⟨q, hq, rfl⟩ := nI_of h0
  by_cases h7 : q ≤ 127
  · have e7 : nI q ≤ 127 := nI_le (b := 127) h7 (by decide)
    have ea : nI q &&& 31 = nI (q % 32) := pk_andN (by omega) 5 (by decide)
    have es : nI q >>> ((5 : Int32) &&& 31) = nI (q / 32) := pk_shrN hq _ 5 (by decide)
    have er : nI q - nI q / 32 * 32 = nI (q % 32) := pk_rem (d := 32) hq (by decide) (by decide)
    have e12 : (12 : Int32) + nI c = nI (12 + c) := nI_add 12 c
    have n0 : ¬ (32 : Int32) = 0 := by decide
    by_cases hl : q % 32 < 12 + c
    · have cX : nI (q % 32) < 12 + nI c := by
        rw [e12]
        exact nI_lt hl (by omega)
      have cY : nI q - nI q / 32 * 32 < nI (12 + c) := by
        rw [er]
        exact nI_lt hl (by omega)
      by_cases h8 : q % 32 = 8
      · have aX : nI (q % 32) = 8 := by
          rw [h8]
          rfl
        have aY : nI q - nI q / 32 * 32 = 8 := er.trans aX
        by_cases hz : q / 32 = 0
        · have zX : nI (q / 32) = 0 := by
            rw [hz]
            rfl
          have zY : nI q = 8 := by
            rw [show q = 8 by omega]
            rfl
          exact Or.inr ⟨q, by omega, hl, rfl, fun post hp => br_f h0 (br_t e7 (nm_r ea (nm_r es (br_t cX (br_t aX (br_t zX hp)))))), fun post hp => br_f h0 (br_t e7 ⟨n0, br_t cY ⟨n0, br_t aY (br_t zY hp)⟩⟩)⟩
        · have zX : ¬ nI (q / 32) = 0 := nI_ne0 (by omega) (by omega)
          have zY : ¬ nI q = 8 := fun h => by
            have := (nI_eq (b := 8) hq (by decide)).mp h
            omega
          exact Or.inl ⟨fun post hp => br_f h0 (br_t e7 (nm_r ea (nm_r es (br_t cX (br_t aX (br_f zX hp)))))), fun post hp => br_f h0 (br_t e7 ⟨n0, br_t cY ⟨n0, br_t aY (br_f zY hp)⟩⟩)⟩
      · have aX : ¬ nI (q % 32) = 8 := fun h => h8 ((nI_eq (b := 8) (by omega) (by decide)).mp h)
        have aY : ¬ nI q - nI q / 32 * 32 = 8 := by
          rw [er]
          exact aX
        exact Or.inr ⟨q, by omega, hl, rfl, fun post hp => br_f h0 (br_t e7 (nm_r ea (nm_r es (br_t cX (br_f aX hp))))), fun post hp => br_f h0 (br_t e7 ⟨n0, br_t cY ⟨n0, br_f aY hp⟩⟩)⟩
    · have cX : ¬ nI (q % 32) < 12 + nI c := by
        rw [e12]
        exact nI_nlt (by omega) (by omega)
      have cY : ¬ nI q - nI q / 32 * 32 < nI (12 + c) := by
        rw [er]
        exact nI_nlt (by omega) (by omega)
      exact Or.inl ⟨fun post hp => br_f h0 (br_t e7 (nm_r ea (nm_r es (br_f cX hp)))), fun post hp => br_f h0 (br_t e7 ⟨n0, br_f cY hp⟩)⟩
  · have e7 : ¬ nI q ≤ 127 := nI_ge (a := 127) (by omega) hq
    exact Or.inl ⟨fun post hp => br_f h0 (br_f e7 hp), fun post hp => br_f h0 (br_f e7 hp)⟩
end
end
section
/-! the methods that read: one answer for both -/
section
variable {l c o : Nat} {cf nf so : Nat → Int32} {il an : Nat → Int64} {fl nn su ro co : Nat → Int32} {S : Nat → Nat} {B : Nat → Nat → Nat} {A : Nat → Nat}
theorem cm_n1 : ¬ (1 : Int32) = 0 := by decide
theorem cm_kind (r : cf_R l c o cf nf so il an fl nn su ro co S B A) (t : Int32) : ∃ a : Int32,
    (∀ post : Int32 → Prop, post a → wpX_kindBits post (nI l, nI c, nI o, cf, nf, so, il, an, co) t) ∧
    (∀ post : Int32 → Prop, post a → wpY_kindBits post (nI l, nI (12 + c), nI o, fl, nn, su, ro, co) t) := by
  obtain ⟨⟨r1, r2, r3⟩, rfl_, _⟩ := r
  unfold wpX_kindBits wpY_kindBits
  dsimp only
  rcases cv_v (l := l) (o := o) (cf := cf) (nf := nf) (so := so) (il := il) (an := an) (fl := fl) (nn := nn) (su := su) (ro := ro) (co := co) (c := c) (by omega) t with ⟨a, b⟩ | ⟨q, h1, h2, rfl, a, b⟩
  · exact ⟨-1, fun post hp => a _ (br_t rfl hp), fun post hp => b _ (br_t rfl hp)⟩
  rcases Nat.lt_or_ge q 32 with h | h
  · have e : q % 32 = q := Nat.mod_eq_of_lt h
    have i32 : nI q < 32 := nI_lt (b := 32) h (by decide)
    rcases Nat.lt_or_ge q 9 with h9 | h9
    · have i9 : ¬ 9 ≤ nI q := nI_ge (b := 9) h9 (by decide)
      exact ⟨2, fun post hp => a _ (br_f cm_n1 (br_t i32 (br_f i9 hp))), fun post hp => b _ (br_f cm_n1 (br_t i32 (br_f i9 hp)))⟩
    · have i9 : 9 ≤ nI q := nI_le (a := 9) h9 (by omega)
      have hin : vp_in (nI q) 20 := vp_in_nI (by omega) (by decide)
      have ef : fl (nI q).toNatClampNeg = cf (nI q).toNatClampNeg := by
        rw [nI_clamp (by omega)]
        exact rfl_ q (by omega)
      by_cases hz : (cf (nI q).toNatClampNeg &&& 512) = 0
      · exact ⟨0, fun post hp => a _ (br_f cm_n1 (br_t i32 (br_t i9 ⟨hin, br_t hz hp⟩))), fun post hp => b _ (br_f cm_n1 (br_t i32 (br_t i9 ⟨hin, br_t (by rw [ef]; exact hz) hp⟩)))⟩
      · exact ⟨4, fun post hp => a _ (br_f cm_n1 (br_t i32 (br_t i9 ⟨hin, br_f hz hp⟩))), fun post hp => b _ (br_f cm_n1 (br_t i32 (br_t i9 ⟨hin, br_f (by rw [ef]; exact hz) hp⟩)))⟩
  · have i32 : ¬ nI q < 32 := nI_nlt (b := 32) h (by omega)
    exact ⟨1, fun post hp => a _ (br_f cm_n1 (br_f i32 hp)), fun post hp => b _ (br_f cm_n1 (br_f i32 hp))⟩
theorem cm_super (r : cf_R l c o cf nf so il an fl nn su ro co S B A) (t : Int32) : ∃ a : Int32,
    (∀ post : Int32 → Prop, post a → wpX_superclassOf post (nI l, nI c, nI o, cf, nf, so, il, an, co) t) ∧
    (∀ post : Int32 → Prop, post a → wpY_superclassOf post (nI l, nI (12 + c), nI o, fl, nn, su, ro, co) t) := by
  obtain ⟨⟨r1, r2, r3⟩, rfl_, _, _, rso, rsu, _⟩ := r
  unfold wpX_superclassOf wpY_superclassOf
  dsimp only
  rcases cv_v (l := l) (o := o) (cf := cf) (nf := nf) (so := so) (il := il) (an := an) (fl := fl) (nn := nn) (su := su) (ro := ro) (co := co) (c := c) (by omega) t with ⟨a, b⟩ | ⟨q, h1, h2, rfl, a, b⟩
  · exact ⟨-2, fun post hp => a _ (br_t rfl hp), fun post hp => b _ (br_t rfl hp)⟩
  rcases Nat.lt_or_ge q 32 with h | h
  · have e : q % 32 = q := Nat.mod_eq_of_lt h
    have i32 : nI q < 32 := nI_lt (b := 32) h (by decide)
    rcases Nat.lt_or_ge 9 q with h9 | h9
    · have i9 : 9 < nI q := nI_lt (a := 9) h9 (by omega)
      have hin : vp_in (nI q) 20 := vp_in_nI (by omega) (by decide)
      have ec : (nI q).toNatClampNeg = q := nI_clamp (by omega)
      have ef : fl (nI q).toNatClampNeg = cf (nI q).toNatClampNeg := by
        rw [ec]
        exact rfl_ q (by omega)
      have es : su (nI q).toNatClampNeg = so (nI q).toNatClampNeg := by
        rw [ec, rso q (by omega) (by omega), rsu q (by omega) (by omega)]
      by_cases hz : (cf (nI q).toNatClampNeg &&& 512) = 0
      · exact ⟨so (nI q).toNatClampNeg, fun post hp => a _ (br_f cm_n1 (br_t i32 (br_t i9 ⟨hin, br_t hz ⟨hin, hp⟩⟩))), fun post hp => b _ (br_f cm_n1 (br_t i32 (br_t i9 ⟨hin, br_t (by rw [ef]; exact hz) ⟨hin, by rw [es]; exact hp⟩⟩)))⟩
      · exact ⟨-1, fun post hp => a _ (br_f cm_n1 (br_t i32 (br_t i9 ⟨hin, br_f hz hp⟩))), fun post hp => b _ (br_f cm_n1 (br_t i32 (br_t i9 ⟨hin, br_f (by rw [ef]; exact hz) hp⟩)))⟩
    · have i9 : ¬ 9 < nI q := nI_nlt (a := 9) h9 (by decide)
      exact ⟨-1, fun post hp => a _ (br_f cm_n1 (br_t i32 (br_f i9 hp))), fun post hp => b _ (br_f cm_n1 (br_t i32 (br_f i9 hp)))⟩
  · have i32 : ¬ nI q < 32 := nI_nlt (b := 32) h (by omega)
    exact ⟨9, fun post hp => a _ (br_f cm_n1 (br_f i32 hp)), fun post hp => b _ (br_f cm_n1 (br_f i32 hp))⟩
theorem cm_lp {post : Int32 → Prop} {f1 f2 f3 : Int32} : ∀ d x, d < 8 → post (if d = 0 then x else (x &&& 7) ||| 1040) → wY_modifiersOf_61 post f1 f2 f3 fl nn su ro co (d + 1) x (nI d) := by
  intro d
  induction d with
  | zero =>
    intro x _ hp
    exact br_t (show nI 0 ≤ 0 by decide) hp
  | succ d ih =>
    intro x hd hp
    refine br_f (nI_nle (by omega) (by omega)) (nm_e (nm_r (pk_m1 d) (ih _ (by omega) ?_)))
    rw [if_neg (by omega)] at hp
    rw [ff_id]
    by_cases hz : d = 0
    · rw [if_pos hz]
      exact hp
    · rw [if_neg hz]
      exact hp
theorem cm_57 {post : Int32 → Prop} {f1 f2 f3 x : Int32} {q : Nat} (hq : q < 128) (hp : post (if q / 32 = 0 then x else (x &&& 7) ||| 1040)) : wX_modifiersOf_57 post (nI q) x f1 f2 f3 cf nf so il an co := by
  rcases Nat.lt_or_ge q 32 with h | h
  · rw [if_pos (by omega)] at hp
    exact br_t (nI_lt (b := 32) h (by decide)) hp
  · rw [if_neg (by omega)] at hp
    exact br_f (nI_nlt (b := 32) h (by omega)) hp
theorem cm_mod (r : cf_R l c o cf nf so il an fl nn su ro co S B A) (t : Int32) : ∃ a : Int32,
    (∀ post : Int32 → Prop, post a → wpX_modifiersOf post (nI l, nI c, nI o, cf, nf, so, il, an, co) t) ∧
    (∀ post : Int32 → Prop, post a → wpY_modifiersOf post (nI l, nI (12 + c), nI o, fl, nn, su, ro, co) t) := by
  obtain ⟨⟨r1, r2, r3⟩, rfl_, rnn, _⟩ := r
  unfold wpX_modifiersOf wpY_modifiersOf
  dsimp only
  rcases cv_v (l := l) (o := o) (cf := cf) (nf := nf) (so := so) (il := il) (an := an) (fl := fl) (nn := nn) (su := su) (ro := ro) (co := co) (c := c) (by omega) t with ⟨a, b⟩ | ⟨q, h1, h2, rfl, a, b⟩
  · exact ⟨-1, fun post hp => a _ (br_t rfl hp), fun post hp => b _ (br_t rfl hp)⟩
  have ea : nI q &&& 31 = nI (q % 32) := pk_andN (by omega) 5 (by decide)
  have er : nI q - nI q / 32 * 32 = nI (q % 32) := pk_rem (d := 32) (by omega) (by decide) (by decide)
  have ed : nI q / 32 = nI (q / 32) := pk_div (d := 32) (by omega) (by decide) (by decide)
  have n0 : ¬ (32 : Int32) = 0 := by decide
  rcases Nat.lt_or_ge (q % 32) 9 with h9 | h9
  · have i9 : ¬ 9 ≤ nI (q % 32) := nI_ge (b := 9) h9 (by decide)
    exact ⟨if q / 32 = 0 then 1041 else (1041 &&& 7) ||| 1040, fun post hp => a _ (br_f cm_n1 (nm_r ea (br_f i9 (cm_57 h1 hp)))),
      fun post hp => b _ (br_f cm_n1 ⟨n0, nm_r er (br_f i9 ⟨n0, nm_r ed ⟨q / 32 + 1, cm_lp _ _ (by omega) hp⟩⟩)⟩)⟩
  · have i9 : 9 ≤ nI (q % 32) := nI_le (a := 9) h9 (by omega)
    have hin : vp_in (nI (q % 32)) 20 := vp_in_nI (by omega) (by decide)
    have ec : (nI (q % 32)).toNatClampNeg = q % 32 := nI_clamp (by omega)
    have ef : fl (nI (q % 32)).toNatClampNeg = cf (nI (q % 32)).toNatClampNeg := by
      rw [ec]
      exact rfl_ _ h2
    have en : nn (nI (q % 32)).toNatClampNeg = nf (nI (q % 32)).toNatClampNeg := by
      rw [ec]
      exact rnn _ h2
    by_cases hz : nf (nI (q % 32)).toNatClampNeg < 0
    · refine ⟨if q / 32 = 0 then cf (nI (q % 32)).toNatClampNeg &&& 65503 else ((cf (nI (q % 32)).toNatClampNeg &&& 65503) &&& 7) ||| 1040, fun post hp => a _ (br_f cm_n1 (nm_r ea (br_t i9 ⟨hin, br_t hz ⟨hin, nm_e (cm_57 h1 hp)⟩⟩))),
        fun post hp => b _ (br_f cm_n1 ⟨n0, nm_r er (br_t i9 ⟨hin, br_t (by rw [en]; exact hz) ⟨hin, nm_r (e' := cf (nI (q % 32)).toNatClampNeg &&& 65503) (by rw [ef]) ⟨n0, nm_r ed ⟨q / 32 + 1, cm_lp _ _ (by omega) hp⟩⟩⟩⟩)⟩)⟩
    · refine ⟨if q / 32 = 0 then nf (nI (q % 32)).toNatClampNeg else (nf (nI (q % 32)).toNatClampNeg &&& 7) ||| 1040, fun post hp => a _ (br_f cm_n1 (nm_r ea (br_t i9 ⟨hin, br_f hz ⟨hin, nm_e (cm_57 h1 hp)⟩⟩))),
        fun post hp => b _ (br_f cm_n1 ⟨n0, nm_r er (br_t i9 ⟨hin, br_f (by rw [en]; exact hz) ⟨hin, nm_r en ⟨n0, nm_r ed ⟨q / 32 + 1, cm_lp _ _ (by omega) hp⟩⟩⟩⟩)⟩)⟩
theorem cm_il {post : Int64 → Prop} {f1 f2 f3 : Int32} {q : Nat} {b : Nat → Nat} (hq : q < 20) (hro : ∀ k, k < 8 → ro (q * 8 + k) = nI (b k)) (hb : ∀ k, k < 8 → b k < 256) :
    ∀ m R, m ≤ 8 → (R + 1) * 256 ^ m ≤ 2 ^ 64 → post (lN (R * 256 ^ m + cf_P b m)) → wY_interfacesOf_36 post (nI q) f1 f2 f3 fl nn su ro co (m + 1) (lN R) (nI m + (-1)) := by
  intro m
  induction m with
  | zero =>
    intro R _ _ hp
    have e : R * 256 ^ 0 + cf_P b 0 = R := by
      show R * 1 + 0 = R
      omega
    rw [e] at hp
    exact br_t (show nI 0 + (-1) < 0 by decide +kernel) hp
  | succ m ih =>
    intro R hm hR hp
    rw [pk_m1]
    have ei : nI q * 8 + nI m = nI (q * 8 + m) := by
      rw [show nI q * 8 = nI (q * 8) from pk_mul q 8, nI_add]
    have hbm := hb m (by omega)
    have h1 : (R + 1) * 256 * 256 ^ m ≤ 2 ^ 64 := by
      rw [Nat.pow_succ, Nat.mul_comm (256 ^ m) 256, ← Nat.mul_assoc] at hR
      exact hR
    have h2 : (R + 1) * 256 * 1 ≤ (R + 1) * 256 * 256 ^ m := Nat.mul_le_mul_left _ (Nat.pow_pos (by decide))
    have es : (lN R <<< ((8 : Int32).toInt64 &&& 63)) ||| ((ro (nI q * 8 + nI m).toNatClampNeg).toInt64) = lN (R * 256 + b m) := by
      rw [ei, nI_clamp (by omega), hro m (by omega), nI_l (by omega)]
      rw [show lN R <<< ((8 : Int32).toInt64 &&& 63) = lN (R * 256) from wb_shl (k := 8) R (by omega)]
      exact g_or (k := 8) rfl hbm (by omega)
    refine br_f (nI_pos (by omega)) ⟨by rw [ei]; exact vp_in_nI (by omega) (by decide), nm_r es (nm_e (ih _ (by omega) ?_ ?_))⟩
    · exact Nat.le_trans (Nat.mul_le_mul_right _ (by omega)) h1
    · have e : (R * 256 + b m) * 256 ^ m + cf_P b m = R * 256 ^ (m + 1) + cf_P b (m + 1) := by
        show _ = R * 256 ^ (m + 1) + (cf_P b m + b m * 256 ^ m)
        rw [Nat.pow_succ, Nat.add_mul, Nat.mul_comm (256 ^ m) 256, Nat.mul_assoc]
        omega
      rw [e]
      exact hp
theorem cm_ifs (r : cf_R l c o cf nf so il an fl nn su ro co S B A) (t : Int32) : ∃ a : Int64,
    (∀ post : Int64 → Prop, post a → wpX_interfacesOf post (nI l, nI c, nI o, cf, nf, so, il, an, co) t) ∧
    (∀ post : Int64 → Prop, post a → wpY_interfacesOf post (nI l, nI (12 + c), nI o, fl, nn, su, ro, co) t) := by
  obtain ⟨⟨r1, r2, r3⟩, _, _, _, _, _, _, ril, rro, g, _⟩ := r
  unfold wpX_interfacesOf wpY_interfacesOf
  dsimp only
  rcases cv_v (l := l) (o := o) (cf := cf) (nf := nf) (so := so) (il := il) (an := an) (fl := fl) (nn := nn) (su := su) (ro := ro) (co := co) (c := c) (by omega) t with ⟨a, b⟩ | ⟨q, h1, h2, rfl, a, b⟩
  · exact ⟨-1, fun post hp => a _ (br_t rfl hp), fun post hp => b _ (br_t rfl hp)⟩
  rcases Nat.lt_or_ge q 32 with h | h
  · have e : q % 32 = q := Nat.mod_eq_of_lt h
    have i32 : nI q < 32 := nI_lt (b := 32) h (by decide)
    rcases Nat.lt_or_ge q 9 with h9 | h9
    · have i9 : ¬ 9 ≤ nI q := nI_ge (b := 9) h9 (by decide)
      exact ⟨0, fun post hp => a _ (br_f cm_n1 (br_t i32 (br_f i9 hp))), fun post hp => b _ (br_f cm_n1 (br_t i32 (br_f i9 hp)))⟩
    · have i9 : 9 ≤ nI q := nI_le (a := 9) h9 (by omega)
      have hin : vp_in (nI q) 20 := vp_in_nI (by omega) (by decide)
      have ec : (nI q).toNatClampNeg = q := nI_clamp (by omega)
      have gq := (g q h9 (by omega)).2.1
      have hb : ∀ k, k < 8 → B q k < 256 := fun k hk => by
        have := gq k hk
        omega
      refine ⟨lN (cf_P (B q) 8), fun post hp => a _ (br_f cm_n1 (br_t i32 (br_t i9 ⟨hin, by rw [ec, ril q h9 (by omega)]; exact hp⟩))), fun post hp => b _ (br_f cm_n1 (br_t i32 (br_t i9 ⟨9, ?_⟩)))⟩
      exact cm_il (b := B q) (by omega) (rro q h9 (by omega)) hb 8 0 (by omega) (by decide) (by rw [Nat.zero_mul, Nat.zero_add]; exact hp)
  · have i32 : ¬ nI q < 32 := nI_nlt (b := 32) h (by omega)
    exact ⟨2826, fun post hp => a _ (br_f cm_n1 (br_f i32 hp)), fun post hp => b _ (br_f cm_n1 (br_f i32 hp))⟩
end
end
section
/-! newObject and isInstance -/
section
variable {l c o : Nat} {cf nf so : Nat → Int32} {il an : Nat → Int64} {fl nn su ro co : Nat → Int32} {S : Nat → Nat} {B : Nat → Nat → Nat} {A : Nat → Nat}
theorem cn_end (r : cf_R l c o cf nf so il an fl nn su ro co S B A) {q : Nat} (h9 : 9 ≤ q) (h1 : q < 128) (h2 : q % 32 < 12 + c) : ∃ (a : Int32) (u' : SX) (v' : SY), cf_Q u' v' ∧
    (∀ post : Int32 → SX → Prop, post a u' → wX_newObject_41 post (nI q) (nI l) (nI c) (nI o) cf nf so il an co) ∧
    (∀ post : Int32 → SY → Prop, post a v' → wY_newObject_38 post (nI q) (nI l) (nI (12 + c)) (nI o) fl nn su ro co) := by
  obtain ⟨⟨r1, r2, r3⟩, ra, rb, rc, rd, re, rf, rg, rh, ri, rj⟩ := r
  rcases Nat.lt_or_ge o l with h | h
  · have c1 : nI o < nI l := nI_lt h (by omega)
    have hin : vp_in (nI (o + 1)) 9 := vp_in_nI (by omega) (by decide)
    have eu : upd co (nI (o + 1)).toNatClampNeg (vp_nar .short (nI q).toInt16.toInt32) = upd co (o + 1) (nI q) := by
      rw [nI_clamp (by omega), ff_sh q h1]
    have e1 : nI o + 1 = nI (o + 1) := nI_1 o
    refine ⟨nI (o + 1), (nI l, nI c, nI (o + 1), cf, nf, so, il, an, upd co (o + 1) (nI q)), (nI l, nI (12 + c), nI (o + 1), fl, nn, su, ro, upd co (o + 1) (nI q)), ?_,
      fun post hp => br_t c1 (nm_r e1 ⟨hin, nm_r eu hp⟩), fun post hp => br_t c1 (nm_r e1 ⟨by rw [e1]; exact hin, nm_r (by rw [e1]; exact eu) hp⟩)⟩
    refine cf_in ⟨⟨r1, r2, by omega⟩, ra, rb, rc, rd, re, rf, rg, rh, ri, fun j j1 j2 => ?_⟩
    by_cases e : j = o + 1
    · rw [e, pk_us]
      exact ⟨q, h9, h1, h2, rfl⟩
    · rw [pk_un e]
      exact rj j j1 (by omega)
  · have c1 : ¬ nI o < nI l := nI_nlt h (by omega)
    exact ⟨-3, _, _, cf_in ⟨⟨r1, r2, r3⟩, ra, rb, rc, rd, re, rf, rg, rh, ri, rj⟩, fun post hp => br_f c1 hp, fun post hp => br_f c1 hp⟩
theorem cm_new (r : cf_R l c o cf nf so il an fl nn su ro co S B A) (t : Int32) : ∃ (a : Int32) (u' : SX) (v' : SY), cf_Q u' v' ∧
    (∀ post : Int32 → SX → Prop, post a u' → wpX_newObject post (nI l, nI c, nI o, cf, nf, so, il, an, co) t) ∧
    (∀ post : Int32 → SY → Prop, post a v' → wpY_newObject post (nI l, nI (12 + c), nI o, fl, nn, su, ro, co) t) := by
  have hc : c ≤ 8 := Nat.le_trans r.1.2.1 r.1.1
  have rfl_ := r.2.1
  unfold wpX_newObject wpY_newObject
  dsimp only
  rcases cv_v (l := l) (o := o) (cf := cf) (nf := nf) (so := so) (il := il) (an := an) (fl := fl) (nn := nn) (su := su) (ro := ro) (co := co) (c := c) hc t with ⟨a, b⟩ | ⟨q, h1, h2, rfl, a, b⟩
  · exact ⟨-1, _, _, cf_in r, fun post hp => a _ (br_t rfl hp), fun post hp => b _ (br_t rfl hp)⟩
  rcases Nat.lt_or_ge q 9 with h9 | h9
  · have i32 : ¬ 32 ≤ nI q := nI_ge (b := 32) (by omega) (by decide)
    have i9 : ¬ 9 ≤ nI q := nI_ge (b := 9) h9 (by decide)
    have j9 : nI q < 9 := nI_lt (b := 9) h9 (by decide)
    exact ⟨-2, _, _, cf_in r, fun post hp => a _ (br_f cm_n1 (br_f i32 (br_f i9 hp))), fun post hp => b _ (br_f cm_n1 (br_t j9 hp))⟩
  have i9 : 9 ≤ nI q := nI_le (a := 9) h9 (by omega)
  have j9 : ¬ nI q < 9 := nI_nlt (b := 9) h9 (by omega)
  rcases Nat.lt_or_ge q 32 with h | h
  · have i32 : ¬ 32 ≤ nI q := nI_ge (b := 32) h (by decide)
    have e : q % 32 = q := Nat.mod_eq_of_lt h
    have hin : vp_in (nI q) 20 := vp_in_nI (by omega) (by decide)
    have ef : fl (nI q).toNatClampNeg = cf (nI q).toNatClampNeg := by
      rw [nI_clamp (by omega)]
      exact rfl_ q (by omega)
    by_cases hz : (cf (nI q).toNatClampNeg &&& 1536) = 0
    · obtain ⟨w, u', v', hQ, hX, hY⟩ := cn_end r h9 h1 h2
      exact ⟨w, u', v', hQ, fun post hp => a _ (br_f cm_n1 (br_f i32 (br_t i9 ⟨hin, br_t hz (hX post hp)⟩))), fun post hp => b _ (br_f cm_n1 (br_f j9 (br_f i32 ⟨hin, br_t (by rw [ef]; exact hz) (hY post hp)⟩)))⟩
    · exact ⟨-2, _, _, cf_in r, fun post hp => a _ (br_f cm_n1 (br_f i32 (br_t i9 ⟨hin, br_f hz hp⟩))), fun post hp => b _ (br_f cm_n1 (br_f j9 (br_f i32 ⟨hin, br_f (by rw [ef]; exact hz) hp⟩)))⟩
  · have i32 : 32 ≤ nI q := nI_le (a := 32) h (by omega)
    obtain ⟨w, u', v', hQ, hX, hY⟩ := cn_end r h9 h1 h2
    exact ⟨w, u', v', hQ, fun post hp => a _ (br_f cm_n1 (br_t i32 (hX post hp))), fun post hp => b _ (br_f cm_n1 (br_f j9 (br_t i32 (hY post hp))))⟩
/-- the inner loop of the marks -/
theorem cy_172 {post : Int32 → Prop} {J : Int64 → Int32 → Prop} {x4 f1 f2 f3 : Int32} {i : Nat} {b : Nat → Nat} (hi : i < 20) (hro : ∀ k, k < 8 → ro (i * 8 + k) = nI (b k)) (hb : ∀ k, k < 8 → b k < 20) :
    ∀ d k M, k + d = 8 → M < 2 ^ 20 → (∀ M', M' < 2 ^ 20 → (∀ x, M'.testBit x = true ↔ (M.testBit x = true ∨ ∃ k', k ≤ k' ∧ k' < 8 ∧ b k' = x)) → J (lN M') (nI i + (-1))) →
    wY_isInstance_172 post J x4 (nI i) f1 f2 f3 fl nn su ro co (d + 1) (lN M) (nI k) := by
  intro d
  induction d with
  | zero =>
    intro k M hk hM H
    refine br_t (nI_le (a := 8) (by omega) (by omega)) (nm_e (H M hM (fun x => ⟨Or.inl, ?_⟩)))
    rintro (h | ⟨k', h1, h2, _⟩)
    · exact h
    · omega
  | succ d ih =>
    intro k M hk hM H
    have ei : nI i * 8 + nI k = nI (i * 8 + k) := by
      rw [show nI i * 8 = nI (i * 8) from pk_mul i 8, nI_add]
    have hbk := hb k (by omega)
    have es : lN M ||| ((1 : Int64) <<< ((ro (nI i * 8 + nI k).toNatClampNeg).toInt64 &&& 63)) = lN (M ||| 2 ^ b k) := by
      rw [ei, nI_clamp (by omega), hro k (by omega), cf_ob hM (by omega)]
    refine br_f (nI_ge (b := 8) (by omega) (by decide)) ⟨by rw [ei]; exact vp_in_nI (by omega) (by decide), nm_r es (nm_r (nI_1 k) (ih (k + 1) _ (by omega) (cf_o20 hM hbk) ?_))⟩
    intro M' h20 hM'
    refine H M' h20 (fun x => (hM' x).trans ?_)
    rw [cf_ot]
    constructor
    · rintro ((h | h) | ⟨k', h1, h2, h3⟩)
      · exact Or.inl h
      · exact Or.inr ⟨k, Nat.le_refl _, by omega, h⟩
      · exact Or.inr ⟨k', by omega, h2, h3⟩
    · rintro (h | ⟨k', h1, h2, h3⟩)
      · exact Or.inl (Or.inl h)
      · by_cases e : k' = k
        · rw [e] at h3
          exact Or.inl (Or.inr h3)
        · exact Or.inr ⟨k', by omega, h2, h3⟩
/-- the marks -/
theorem cy_136 {post : Int32 → Prop} {x s : Nat} {f1 f2 f3 : Int32} (hc : c ≤ 8) (rsu : ∀ i, 10 ≤ i → i < 12 + c → su i = nI (S i)) (rro : ∀ i, 9 ≤ i → i < 12 + c → ∀ k, k < 8 → ro (i * 8 + k) = nI (B i k)) (g : cf_G c S B A)
    (h1 : 9 ≤ x) (h2 : x < 20) (hp : post (nI (if (A s).testBit x = true then 1 else 0))) :
    ∀ e M, cf_I A s (9 + e) M → 9 + e < 12 + c → wY_isInstance_136 post (nI x) f1 f2 f3 fl nn su ro co (e + 1) (lN M) (nI (9 + e)) := by
  intro e
  induction e with
  | zero =>
    intro M I _
    refine br_t (show nI (9 + 0) ≤ 9 by decide) ?_
    rw [cf_bv I.1 (by omega), lN_i, ← cf_Ie g I h1 h2]
    exact hp
  | succ e ih =>
    intro M I he
    have n9 : ¬ nI (9 + (e + 1)) ≤ 9 := nI_ge (a := 9) (by omega) (by omega)
    have em : nI (9 + (e + 1)) + (-1) = nI (9 + e) := pk_m1 (9 + e)
    refine br_f n9 ?_
    rw [cf_bv I.1 (by omega)]
    by_cases hb : M.testBit (9 + (e + 1)) = true
    · rw [if_pos hb]
      obtain ⟨gs', gb, _, _⟩ := g (9 + (e + 1)) (by omega) he
      obtain ⟨gs1, gs2⟩ := gs' (by omega)
      have es : lN M ||| ((1 : Int64) <<< ((su (nI (9 + (e + 1))).toNatClampNeg).toInt64 &&& 63)) = lN (M ||| 2 ^ S (9 + (e + 1))) := by
        rw [nI_clamp (by omega), rsu _ (by omega) he, cf_ob I.1 (by omega)]
      refine br_f (show ¬ lN 1 = 0 by decide) ⟨vp_in_nI (by omega) (by decide), nm_r es ⟨9, ?_⟩⟩
      have hB : ∀ k, k < 8 → B (9 + (e + 1)) k < 20 := fun k hk => by
        have := gb k hk
        omega
      refine cy_172 (b := B (9 + (e + 1))) (by omega) (rro _ (by omega) he) hB 8 0 _ rfl (cf_o20 I.1 (by omega)) ?_
      intro M' h20 hM'
      rw [em]
      refine ih M' (cf_Ist (i := 9 + e) g hc (by omega) he hb I h20 (fun x => (hM' x).trans ?_)) (by omega)
      rw [cf_ot, or_assoc]
      have q : (∃ k', 0 ≤ k' ∧ k' < 8 ∧ B (9 + (e + 1)) k' = x) ↔ (∃ k, k < 8 ∧ B (9 + e + 1) k = x) :=
        ⟨fun ⟨k, _, a, b⟩ => ⟨k, a, b⟩, fun ⟨k, a, b⟩ => ⟨k, Nat.zero_le _, a, b⟩⟩
      rw [q]
      exact Iff.rfl
    · rw [if_neg hb]
      refine br_t (show lN 0 = 0 by decide) ?_
      refine nm_r em (ih M (cf_Isk (i := 9 + e) ?_ I) (by omega))
      exact Bool.eq_false_iff.mpr hb
theorem ci_end (r : cf_R l c o cf nf so il an fl nn su ro co S B A) {s x : Nat} (h : s < 32 ∨ x < 32) (hs : s < 128) (hx : x < 128) (hs' : s % 32 < 12 + c) (hx' : x % 32 < 12 + c) : ∃ a : Int32,
    (∀ post : Int32 → Prop, post a → wX_isInstance_70 post (nI s) (nI x) (nI l) (nI c) (nI o) cf nf so il an co) ∧
    (∀ post : Int32 → Prop, post a → wY_isInstance_68 post (nI s) (nI x) (nI l) (nI (12 + c)) (nI o) fl nn su ro co) := by
  obtain ⟨⟨r1, r2, r3⟩, _, _, _, _, rsu, ran, _, rro, g, _⟩ := r
  rcases Nat.lt_or_ge x 32 with x32 | x32
  · have ix : nI x < 32 := nI_lt (b := 32) x32 (by decide)
    rcases Nat.lt_or_ge s 32 with s32 | s32
    · have is : nI s < 32 := nI_lt (b := 32) s32 (by decide)
      have es : s % 32 = s := Nat.mod_eq_of_lt s32
      have ex : x % 32 = x := Nat.mod_eq_of_lt x32
      rcases Nat.lt_or_ge s 9 with s9 | s9
      · have js : nI s < 9 := nI_lt (b := 9) s9 (by decide)
        by_cases e : nI s = nI x
        · exact ⟨1, fun post hp => br_t js (br_t e hp), fun post hp => br_t ix (br_t is (br_t js (br_t e hp)))⟩
        · exact ⟨0, fun post hp => br_t js (br_f e hp), fun post hp => br_t ix (br_t is (br_t js (br_f e hp)))⟩
      · have js : ¬ nI s < 9 := nI_nlt (b := 9) s9 (by omega)
        rcases Nat.lt_or_ge x 9 with x9 | x9
        · have jx : ¬ 9 ≤ nI x := nI_ge (b := 9) x9 (by decide)
          by_cases e : nI s = nI x
          · exact ⟨1, fun post hp => br_f js (br_f jx (br_t e hp)), fun post hp => br_t ix (br_t is (br_f js (br_f jx (br_t e hp))))⟩
          · exact ⟨0, fun post hp => br_f js (br_f jx (br_f e hp)), fun post hp => br_t ix (br_t is (br_f js (br_f jx (br_f e hp))))⟩
        · have jx : 9 ≤ nI x := nI_le (a := 9) x9 (by omega)
          have hin : vp_in (nI s) 20 := vp_in_nI (by omega) (by decide)
          have ga := (g s s9 (by omega)).2.2.1
          have ea : an (nI s).toNatClampNeg = lN (A s) := by
            rw [nI_clamp (by omega)]
            exact ran s s9 (by omega)
          have hY : ∀ post : Int32 → Prop, post (nI (if (A s).testBit x = true then 1 else 0)) → wY_isInstance_68 post (nI s) (nI x) (nI l) (nI (12 + c)) (nI o) fl nn su ro co := by
            intro post hp
            refine br_t ix (br_t is (br_f js (br_t jx (nm_r (cf_1s (by omega)) ⟨s - 9 + 1, ?_⟩))))
            have hh := cy_136 (fl := fl) (nn := nn) (co := co) (f1 := nI l) (f2 := nI (12 + c)) (f3 := nI o) (by omega) rsu rro g x9 (by omega) hp (s - 9) (2 ^ s)
            rw [show 9 + (s - 9) = s by omega] at hh
            exact hh (cf_I0 g (by omega) s9 (by omega)) (by omega)
          refine ⟨nI (if (A s).testBit x = true then 1 else 0), fun post hp => ?_, hY⟩
          by_cases hb : (A s).testBit x = true
          · rw [if_pos hb] at hp
            refine br_f js (br_t jx (br_t ix (br_t is ⟨hin, br_f ?_ hp⟩)))
            rw [ea, cf_tb ga (by omega), hb]
            decide
          · rw [if_neg hb] at hp
            refine br_f js (br_t jx (br_t ix (br_t is ⟨hin, br_t ?_ hp⟩)))
            rw [ea, cf_tb ga (by omega)]
            exact Bool.eq_false_iff.mpr hb
    · have is : ¬ nI s < 32 := nI_nlt (b := 32) s32 (by omega)
      have js : ¬ nI s < 9 := nI_nlt (b := 9) (by omega) (by omega)
      rcases Nat.lt_or_ge x 9 with x9 | x9
      · have jx : ¬ 9 ≤ nI x := nI_ge (b := 9) x9 (by decide)
        have kx : nI x < 9 := nI_lt (b := 9) x9 (by decide)
        have ne : ¬ nI s = nI x := fun h => by
          have := (nI_eq (by omega) (by omega)).mp h
          omega
        exact ⟨0, fun post hp => br_f js (br_f jx (br_f ne hp)), fun post hp => br_t ix (br_f is (br_t kx hp))⟩
      · have jx : 9 ≤ nI x := nI_le (a := 9) x9 (by omega)
        have kx : ¬ nI x < 9 := nI_nlt (b := 9) x9 (by omega)
        rcases Nat.lt_or_ge 11 x with x11 | x11
        · have lx : 11 < nI x := nI_lt (a := 11) x11 (by omega)
          have n9 : ¬ nI x = 9 := fun h => by
            have := (nI_eq (b := 9) (by omega) (by decide)).mp h
            omega
          have n10 : ¬ nI x = 10 := fun h => by
            have := (nI_eq (b := 10) (by omega) (by decide)).mp h
            omega
          have n11 : ¬ nI x = 11 := fun h => by
            have := (nI_eq (b := 11) (by omega) (by decide)).mp h
            omega
          exact ⟨0, fun post hp => br_f js (br_t jx (br_t ix (br_f is (br_f n9 (br_f n10 (br_f n11 hp)))))), fun post hp => br_t ix (br_f is (br_f kx (br_t lx hp)))⟩
        · have lx : ¬ 11 < nI x := nI_nlt (a := 11) x11 (by decide)
          refine ⟨1, fun post hp => br_f js (br_t jx (br_t ix (br_f is ?_))), fun post hp => br_t ix (br_f is (br_f kx (br_f lx hp)))⟩
          refine br_c (fun _ => hp) (fun n9 => br_c (fun _ => hp) (fun n10 => br_c (fun _ => hp) (fun n11 => ?_)))
          have : x = 9 ∨ x = 10 ∨ x = 11 := by omega
          rcases this with rfl | rfl | rfl
          · exact absurd rfl n9
          · exact absurd rfl n10
          · exact absurd rfl n11
  · have s32 : s < 32 := by omega
    have ix : ¬ nI x < 32 := nI_nlt (b := 32) x32 (by omega)
    have jx : 9 ≤ nI x := nI_le (a := 9) (by omega) (by omega)
    rcases Nat.lt_or_ge s 9 with s9 | s9
    · have js : nI s < 9 := nI_lt (b := 9) s9 (by decide)
      have ne : ¬ nI s = nI x := fun h => by
        have := (nI_eq (by omega) (by omega)).mp h
        omega
      exact ⟨0, fun post hp => br_t js (br_f ne hp), fun post hp => br_f ix hp⟩
    · have js : ¬ nI s < 9 := nI_nlt (b := 9) s9 (by omega)
      exact ⟨0, fun post hp => br_f js (br_t jx (br_f ix hp)), fun post hp => br_f ix hp⟩
theorem ci_lp (r : cf_R l c o cf nf so il an fl nn su ro co S B A) : ∀ d s x, s < 32 * (d + 1) → s < 128 → x < 128 → s % 32 < 12 + c → x % 32 < 12 + c → ∃ a : Int32,
    (∀ post : Int32 → Prop, post a → wX_isInstance_48 post (nI l) (nI c) (nI o) cf nf so il an co (d + 1) (nI s) (nI x)) ∧
    (∀ post : Int32 → Prop, post a → wY_isInstance_46 post (nI l) (nI (12 + c)) (nI o) fl nn su ro co (d + 1) (nI s) (nI x)) := by
  intro d
  induction d with
  | zero =>
    intro s x hd hs hx hs' hx'
    obtain ⟨a, hX, hY⟩ := ci_end r (s := s) (x := x) (by omega) hs hx hs' hx'
    have is : nI s < 32 := nI_lt (b := 32) (by omega) (by decide)
    exact ⟨a, fun post hp => br_t is (hX post hp), fun post hp => br_t is (hY post hp)⟩
  | succ d ih =>
    intro s x hd hs hx hs' hx'
    rcases Nat.lt_or_ge s 32 with s32 | s32
    · obtain ⟨a, hX, hY⟩ := ci_end r (s := s) (x := x) (by omega) hs hx hs' hx'
      have is : nI s < 32 := nI_lt (b := 32) (by omega) (by decide)
      exact ⟨a, fun post hp => br_t is (hX post hp), fun post hp => br_t is (hY post hp)⟩
    · have is : ¬ nI s < 32 := nI_nlt (b := 32) s32 (by omega)
      rcases Nat.lt_or_ge x 32 with x32 | x32
      · obtain ⟨a, hX, hY⟩ := ci_end r (s := s) (x := x) (by omega) hs hx hs' hx'
        have ix : nI x < 32 := nI_lt (b := 32) (by omega) (by decide)
        exact ⟨a, fun post hp => br_f is (br_t ix (hX post hp)), fun post hp => br_f is (br_t ix (hY post hp))⟩
      · have ix : ¬ nI x < 32 := nI_nlt (b := 32) x32 (by omega)
        obtain ⟨a, hX, hY⟩ := ih (s - 32) (x - 32) (by omega) (by omega) (by omega) (by omega) (by omega)
        exact ⟨a, fun post hp => br_f is (br_f ix (nm_r (ff_m32 s32) (nm_r (ff_m32 x32) (hX post hp)))), fun post hp => br_f is (br_f ix (nm_r (ff_m32 s32) (nm_r (ff_m32 x32) (hY post hp))))⟩
theorem cm_inst (r : cf_R l c o cf nf so il an fl nn su ro co S B A) (t p : Int32) : ∃ a : Int32,
    (∀ post : Int32 → Prop, post a → wpX_isInstance post (nI l, nI c, nI o, cf, nf, so, il, an, co) t p) ∧
    (∀ post : Int32 → Prop, post a → wpY_isInstance post (nI l, nI (12 + c), nI o, fl, nn, su, ro, co) t p) := by
  have hl : l ≤ 8 := r.1.1
  have hc : c ≤ 8 := Nat.le_trans r.1.2.1 r.1.1
  have ho : o ≤ l := r.1.2.2
  have rco := r.2.2.2.2.2.2.2.2.2.2
  unfold wpX_isInstance wpY_isInstance
  dsimp only
  rcases cv_v (l := l) (o := o) (cf := cf) (nf := nf) (so := so) (il := il) (an := an) (fl := fl) (nn := nn) (su := su) (ro := ro) (co := co) (c := c) hc t with ⟨a, b⟩ | ⟨q, h1, h2, rfl, a, b⟩
  · exact ⟨-1, fun post hp => a _ (br_t rfl hp), fun post hp => b _ (br_t rfl hp)⟩
  by_cases p0 : p < 0
  · exact ⟨-1, fun post hp => a _ (br_f cm_n1 (br_t p0 hp)), fun post hp => b _ (br_f cm_n1 (br_t p0 hp))⟩
  obtain ⟨j, hj, rfl⟩ := nI_of p0
  rcases Nat.lt_or_ge o j with hoj | hoj
  · have io : ¬ nI j ≤ nI o := nI_ge hoj hj
    exact ⟨-1, fun post hp => a _ (br_f cm_n1 (br_f p0 (br_f io hp))), fun post hp => b _ (br_f cm_n1 (br_f p0 (br_f io hp)))⟩
  have io : nI j ≤ nI o := nI_le hoj (by omega)
  by_cases j0 : j = 0
  · have z : nI j = 0 := by
      rw [j0]
      rfl
    exact ⟨0, fun post hp => a _ (br_f cm_n1 (br_f p0 (br_t io (br_t z hp)))), fun post hp => b _ (br_f cm_n1 (br_f p0 (br_t io (br_t z hp))))⟩
  have z : ¬ nI j = 0 := nI_ne0 (by omega) hj
  rcases Nat.lt_or_ge q 9 with h9 | h9
  · have i9 : ¬ 9 ≤ nI q := nI_ge (b := 9) h9 (by decide)
    exact ⟨0, fun post hp => a _ (br_f cm_n1 (br_f p0 (br_t io (br_f z (br_f i9 hp))))), fun post hp => b _ (br_f cm_n1 (br_f p0 (br_t io (br_f z (br_f i9 hp)))))⟩
  have i9 : 9 ≤ nI q := nI_le (a := 9) h9 (by omega)
  have hin : vp_in (nI j) 9 := vp_in_nI (by omega) (by decide)
  obtain ⟨s, s9, s128, sc, es⟩ := rco j (by omega) hoj
  have ec : co (nI j).toNatClampNeg = nI s := by
    rw [nI_clamp hj]
    exact es
  obtain ⟨w, hX, hY⟩ := ci_lp r 3 s q (by omega) s128 h1 sc h2
  exact ⟨w, fun post hp => a _ (br_f cm_n1 (br_f p0 (br_t io (br_f z (br_t i9 ⟨hin, nm_r ec ⟨4, hX post hp⟩⟩))))), fun post hp => b _ (br_f cm_n1 (br_f p0 (br_t io (br_f z (br_t i9 ⟨hin, nm_r ec ⟨4, hY post hp⟩⟩)))))⟩
end
end
section
/-! define: the loop over the list, in lockstep as one outcome -/
def cd_y (L k : Nat) : Nat := L / 256 ^ k % 256
theorem cd_y256 (L k : Nat) : cd_y L k < 256 := Nat.mod_lt _ (by decide)
/-- the loop's state at n, both sides -/
def cd_J (A : Nat → Nat) (N L a0 n seen anc : Nat) (ro : Nat → Int32) : Prop :=
  (∀ k, k < n → 9 ≤ cd_y L k ∧ cd_y L k < N) ∧ (∀ k, k < n → ro (N * 8 + k) = nI (cd_y L k)) ∧ seen < 2 ^ 20 ∧ (∀ x, seen.testBit x = true ↔ ∃ k, k < n ∧ cd_y L k = x) ∧
  anc < 2 ^ 20 ∧ (∀ x, anc.testBit x = true ↔ (a0.testBit x = true ∨ ∃ k, k < n ∧ (A (cd_y L k)).testBit x = true))
/-- what an accepted list leaves -/
def cd_E (A : Nat → Nat) (N a0 : Nat) (b : Nat → Nat) (anc : Nat) (ro ro' : Nat → Int32) : Prop :=
  (∀ j, j < N * 8 → ro' j = ro j) ∧ (∀ k, k < 8 → b k = 0 ∨ (9 ≤ b k ∧ b k < N)) ∧ (∀ k, k < 8 → ro' (N * 8 + k) = nI (b k)) ∧
  anc < 2 ^ 20 ∧ (∀ x, anc.testBit x = true ↔ (a0.testBit x = true ∨ ∃ k, k < 8 ∧ 9 ≤ b k ∧ (A (b k)).testBit x = true))
def cd_Out (A : Nat → Nat) (N a0 : Nat) (ro : Nat → Int32) (zX : (Int32 → SX → Prop) → Prop) (zY : (Int32 → SY → Prop) → Prop) (eX : (Int32 → SX → Prop) → Int64 → Int64 → Prop) (u : SX) (v w : (Nat → Int32) → SY) : Prop :=
  (∃ (a : Int32) (ro' : Nat → Int32), (∀ j, j < N * 8 → ro' j = ro j) ∧ (∀ post, post a u → zX post) ∧ (∀ post, post a (v ro') → zY post)) ∨
  (∃ (b : Nat → Nat) (anc : Nat) (ro' : Nat → Int32), cd_E A N a0 b anc ro ro' ∧ (∀ post, eX post (lN (cf_P b 8)) (lN anc) → zX post) ∧ (∀ post, post (nI N) (w ro') → zY post))
theorem cd_mono {A : Nat → Nat} {N a0 : Nat} {ro ro1 : Nat → Int32} {zX zX' : (Int32 → SX → Prop) → Prop} {zY zY' : (Int32 → SY → Prop) → Prop} {eX : (Int32 → SX → Prop) → Int64 → Int64 → Prop} {u : SX} {v w : (Nat → Int32) → SY}
    (h : cd_Out A N a0 ro1 zX zY eX u v w) (hr : ∀ j, j < N * 8 → ro1 j = ro j) (hX : ∀ post, zX post → zX' post) (hY : ∀ post, zY post → zY' post) : cd_Out A N a0 ro zX' zY' eX u v w := by
  rcases h with ⟨a, ro', h1, h2, h3⟩ | ⟨b, anc, ro', ⟨h1, h4⟩, h2, h3⟩
  · exact Or.inl ⟨a, ro', fun j hj => (h1 j hj).trans (hr j hj), fun post hp => hX post (h2 post hp), fun post hp => hY post (h3 post hp)⟩
  · exact Or.inr ⟨b, anc, ro', ⟨fun j hj => (h1 j hj).trans (hr j hj), h4⟩, fun post hp => hX post (h2 post hp), fun post hp => hY post (h3 post hp)⟩
theorem cd_exit {A : Nat → Nat} {N L a0 n seen anc : Nat} {ro ro' : Nat → Int32} (hn : n ≤ 8) (h : cd_J A N L a0 n seen anc ro) (h1 : ∀ j, j < N * 8 + n → ro' j = ro j) (h2 : ∀ k, n ≤ k → k < 8 → ro' (N * 8 + k) = 0) :
    ∃ b : Nat → Nat, cd_E A N a0 b anc ro ro' ∧ cf_P b 8 = cf_P (cd_y L) n := by
  obtain ⟨j1, j2, j3, j4, j5, j6⟩ := h
  refine ⟨fun k => if k < n then cd_y L k else 0, ⟨fun j hj => h1 j (by omega), fun k hk => ?_, fun k hk => ?_, j5, fun x => (j6 x).trans ?_⟩, ?_⟩
  · by_cases e : k < n
    · dsimp only
      rw [if_pos e]
      exact Or.inr (j1 k e)
    · exact Or.inl (if_neg e)
  · by_cases e : k < n
    · dsimp only
      rw [if_pos e, h1 _ (by omega), j2 k e]
    · dsimp only
      rw [if_neg e, h2 k (by omega) hk]
      rfl
  · constructor
    · rintro (q | ⟨k, a, b⟩)
      · exact Or.inl q
      · refine Or.inr ⟨k, by omega, ?_⟩
        dsimp only
        rw [if_pos a]
        exact ⟨(j1 k a).1, b⟩
    · rintro (q | ⟨k, a, b, d⟩)
      · exact Or.inl q
      · dsimp only at b d
        by_cases e : k < n
        · rw [if_pos e] at d
          exact Or.inr ⟨k, e, d⟩
        · rw [if_neg e] at b
          omega
  · obtain ⟨d, hd⟩ : ∃ d, 8 = n + d := ⟨8 - n, by omega⟩
    rw [hd, cf_Pz d (fun k q _ => if_neg (by omega))]
    exact cf_Pcg n (fun k q => if_pos q)
section
variable {cf nf so : Nat → Int32} {il an : Nat → Int64} {fl nn su co : Nat → Int32} {f1 f2 f3 : Int32} {N : Nat}
theorem cy_336 (hN : N < 20) : ∀ d n ro, n + d = 8 → ∃ ro' : Nat → Int32, (∀ j, j < N * 8 + n → ro' j = ro j) ∧ (∀ k, n ≤ k → k < 8 → ro' (N * 8 + k) = 0) ∧
    ∀ post : Int32 → SY → Prop, post (nI N) (f1, nI (N + 1), f3, fl, nn, su, ro', co) → wY_define_336 post (nI N) f1 (nI N) f3 (d + 1) (nI n) fl nn su ro co := by
  intro d
  induction d with
  | zero =>
    intro n ro hn
    refine ⟨ro, fun _ _ => rfl, fun k a b => ?_, fun post hp => br_t (nI_le (a := 8) (by omega) (by omega)) (nm_r (nI_1 N) hp)⟩
    omega
  | succ d ih =>
    intro n ro hn
    obtain ⟨ro', h1, h2, h3⟩ := ih (n + 1) (upd ro (N * 8 + n) 0) (by omega)
    have ei : nI N * 8 + nI n = nI (N * 8 + n) := by
      rw [show nI N * 8 = nI (N * 8) from pk_mul N 8, nI_add]
    have eu : upd ro (nI N * 8 + nI n).toNatClampNeg (vp_nar .byte 0) = upd ro (N * 8 + n) 0 := by
      rw [ei, nI_clamp (by omega), vp_nar_byte]
      rfl
    refine ⟨ro', fun j hj => ?_, fun k a b => ?_, fun post hp => br_f (nI_ge (b := 8) (by omega) (by decide)) (nm_r (nI_1 n) ⟨by rw [ei]; exact vp_in_nI (by omega) (by decide), nm_r eu (h3 post hp)⟩)⟩
    · rw [h1 j (by omega), pk_un (by omega)]
    · by_cases e : k = n
      · rw [e, h1 _ (by omega), pk_us]
      · exact h2 k (by omega) b
theorem cy_273 {post : Int32 → SY → Prop} {J : Int32 → Int64 → (Nat → Int32) → (Nat → Int32) → (Nat → Int32) → (Nat → Int32) → (Nat → Int32) → Prop} {ro : Nat → Int32} {n v : Nat} {y : Nat → Nat} {x10 x10' : Int64} (hN : N < 20) (hn : n < 8) (hv : v < 32)
    (hx : (x10.toUInt64 >>> ((8 : Int32).toInt64.toUInt64 &&& Int64.toUInt64 63)).toInt64 = x10') (hro : ∀ k, k < n → ro (N * 8 + k) = nI (y k)) (hy : ∀ k, k < n → y k < 256) :
    ∀ d i, i + d = n → ((∃ k, i ≤ k ∧ k < n ∧ y k = v) → post (-5) (f1, f2, f3, fl, nn, su, ro, co)) → ((∀ k, i ≤ k → k < n → y k ≠ v) → J (nI (n + 1)) x10' fl nn su (upd ro (N * 8 + n) (nI v)) co) →
    wY_define_273 post J (nI N) (nI n) x10 (nI v) f1 f2 f3 fl nn su ro co (d + 1) (nI i) := by
  have ei : ∀ i, nI N * 8 + nI i = nI (N * 8 + i) := fun i => by
    rw [show nI N * 8 = nI (N * 8) from pk_mul N 8, nI_add]
  intro d
  induction d with
  | zero =>
    intro i hi H1 H2
    have eu : upd ro (nI N * 8 + nI n).toNatClampNeg (vp_nar .byte (nI v).toInt8.toInt32) = upd ro (N * 8 + n) (nI v) := by
      rw [ei n, nI_clamp (by omega), ff_by v hv]
    refine br_t (nI_le (by omega) (by omega)) ⟨by rw [ei n]; exact vp_in_nI (by omega) (by decide), nm_r eu (nm_r (nI_1 n) (nm_r hx (H2 ?_)))⟩
    intro k a b
    omega
  | succ d ih =>
    intro i hi H1 H2
    have hyi := hy i (by omega)
    have er : ro (nI N * 8 + nI i).toNatClampNeg = nI (y i) := by
      rw [ei i, nI_clamp (by omega), hro i (by omega)]
    refine br_f (nI_ge (by omega) (by omega)) ⟨by rw [ei i]; exact vp_in_nI (by omega) (by decide), ?_⟩
    by_cases e : y i = v
    · exact br_t (by rw [er, e]) (H1 ⟨i, Nat.le_refl _, by omega, e⟩)
    · refine br_f (fun q => e ((nI_eq (by omega) (by omega)).mp (er.symm.trans q))) (nm_r (nI_1 i) (ih (i + 1) (by omega) (fun ⟨k, a, b, q⟩ => H1 ⟨k, by omega, b, q⟩) (fun q => H2 (fun k a b => ?_))))
      by_cases ek : k = i
      · rw [ek]
        exact e
      · exact q k (by omega) b
theorem cd_step {A : Nat → Nat} {L a0 n seen anc : Nat} {ro : Nat → Int32} (hN : N < 20) (h : cd_J A N L a0 n seen anc ro) (h9 : 9 ≤ cd_y L n) (hy : cd_y L n < N) (hA : A (cd_y L n) < 2 ^ 20) :
    cd_J A N L a0 (n + 1) (seen ||| 2 ^ cd_y L n) (anc ||| A (cd_y L n)) (upd ro (N * 8 + n) (nI (cd_y L n))) := by
  obtain ⟨j1, j2, j3, j4, j5, j6⟩ := h
  refine ⟨fun k hk => ?_, fun k hk => ?_, cf_o20 j3 (by omega), fun x => ?_, Nat.or_lt_two_pow j5 hA, fun x => ?_⟩
  · by_cases e : k = n
    · rw [e]
      exact ⟨h9, hy⟩
    · exact j1 k (by omega)
  · by_cases e : k = n
    · rw [e, pk_us]
    · rw [pk_un (by omega)]
      exact j2 k (by omega)
  · rw [cf_ot, j4 x]
    constructor
    · rintro (⟨k, a, b⟩ | a)
      · exact ⟨k, by omega, b⟩
      · exact ⟨n, by omega, a⟩
    · rintro ⟨k, a, b⟩
      by_cases e : k = n
      · rw [e] at b
        exact Or.inr b
      · exact Or.inl ⟨k, by omega, b⟩
  · rw [cf_oo, j6 x]
    constructor
    · rintro ((a | ⟨k, a, b⟩) | a)
      · exact Or.inl a
      · exact Or.inr ⟨k, by omega, b⟩
      · exact Or.inr ⟨n, by omega, a⟩
    · rintro (a | ⟨k, a, b⟩)
      · exact Or.inl (Or.inl a)
      · by_cases e : k = n
        · rw [e] at b
          exact Or.inr b
        · exact Or.inl (Or.inr ⟨k, by omega, b⟩)
end
end
section
/-! define -/
section
variable {cf nf so : Nat → Int32} {il an : Nat → Int64} {fl nn su co : Nat → Int32} {f1 f2 f3 : Int32} {N : Nat}
theorem cd_loop {A : Nat → Nat} {L a0 : Nat} {x2 x3 x7 : Int32} (hN : N < 20) (h12 : 12 ≤ N) (hL : L < 2 ^ 64) (hfl : ∀ i, i < N → fl i = cf i) (hcf : ∀ i, i < 9 → cf i = 0) (han : ∀ i, 9 ≤ i → i < N → an i = lN (A i)) (hA : ∀ i, 9 ≤ i → i < N → A i < 2 ^ 20) :
    ∀ d n seen anc ro, n + d = 8 → cd_J A N L a0 n seen anc ro →
    cd_Out A N a0 ro (fun post => wX_define_174 post x2 x3 (lN L) (nI N) x7 f1 f2 f3 cf nf so il an co (d + 1) (lN (cf_P (cd_y L) n)) (lN seen) (lN anc) (nI n))
      (fun post => wY_define_218 post (nI N) f1 (nI N) f3 (d + 1) (nI n) (lN (L / 256 ^ n)) fl nn su ro co)
      (fun post acc an' => wX_define_294 post x2 x3 (nI N) x7 acc an' f1 f2 f3 cf nf so il an co)
      (f1, f2, f3, cf, nf, so, il, an, co) (fun ro' => (f1, nI N, f3, fl, nn, su, ro', co)) (fun ro' => (f1, nI (N + 1), f3, fl, nn, su, ro', co)) := by
  intro d
  induction d with
  | zero =>
    intro n seen anc ro hn hJ
    obtain ⟨ro', h1, h2, h3⟩ := cy_336 (f1 := f1) (f3 := f3) (fl := fl) (nn := nn) (su := su) (co := co) hN 0 n ro (by omega)
    obtain ⟨b, hE, hb⟩ := cd_exit (by omega) hJ h1 h2
    have n8 : 8 ≤ nI n := nI_le (a := 8) (by omega) (by omega)
    exact Or.inr ⟨b, anc, ro', hE, fun post hp => br_t n8 (by rw [hb] at hp; exact hp), fun post hp => br_t n8 ⟨1, h3 post hp⟩⟩
  | succ d ih =>
    intro n seen anc ro hn hJ
    have n8 : ¬ 8 ≤ nI n := nI_ge (b := 8) (by omega) (by decide)
    have hn8 : n < 8 := by omega
    have hq : L / 256 ^ n < 2 ^ 64 := Nat.lt_of_le_of_lt (Nat.div_le_self _ _) hL
    have bX := cf_byX hL hn8
    have bY := cf_byY hq
    have hy := cd_y256 L n
    have ey : L / 256 ^ n % 256 = cd_y L n := rfl
    rw [ey] at bX bY
    have lY : (lN (cd_y L n)).toInt32 = nI (cd_y L n) := lN_i _
    by_cases y0 : cd_y L n = 0
    · obtain ⟨ro', h1, h2, h3⟩ := cy_336 (f1 := f1) (f3 := f3) (fl := fl) (nn := nn) (su := su) (co := co) hN (d + 1) n ro (by omega)
      obtain ⟨b, hE, hb⟩ := cd_exit (by omega) hJ h1 h2
      have zX : nI (cd_y L n) = 0 := by
        rw [y0]
        rfl
      have zY : lN (L / 256 ^ n) &&& 255 = 0 := by
        rw [bY, y0]
        rfl
      exact Or.inr ⟨b, anc, ro', hE, fun post hp => br_f n8 (nm_r bX (br_t zX (by rw [hb] at hp; exact hp))), fun post hp => br_f n8 (nm_r bY (br_t zY ⟨d + 1 + 1, h3 post hp⟩))⟩
    have zX : ¬ nI (cd_y L n) = 0 := nI_ne0 (by omega) (by omega)
    have zY : ¬ lN (L / 256 ^ n) &&& 255 = 0 := by
      rw [bY]
      exact fun h => y0 ((lN_eq (b := 0) (by omega) (by decide)).mp h)
    rcases Nat.lt_or_ge (cd_y L n) N with yN | yN
    · have gX : nI (cd_y L n) < nI N := nI_lt yN (by omega)
      have gY : ¬ nI N ≤ (lN (cd_y L n)).toInt32 := by
        rw [lY]
        exact nI_ge yN (by omega)
      have hin : vp_in (nI (cd_y L n)) 20 := vp_in_nI (by omega) (by decide)
      have hinY : vp_in (lN (cd_y L n)).toInt32 20 := by
        rw [lY]
        exact hin
      have ec : (nI (cd_y L n)).toNatClampNeg = cd_y L n := nI_clamp (by omega)
      have ef : fl (lN (cd_y L n)).toInt32.toNatClampNeg = cf (cd_y L n) := by
        rw [lY, ec]
        exact hfl _ yN
      rcases Nat.lt_or_ge (cd_y L n) 9 with y9 | y9
      · have iX : nI (cd_y L n) < 9 := nI_lt (b := 9) y9 (by decide)
        have wY : (fl (lN (cd_y L n)).toInt32.toNatClampNeg &&& 512) = 0 := by
          rw [ef, hcf _ y9]
          decide
        exact Or.inl ⟨-4, ro, fun _ _ => rfl, fun post hp => br_f n8 (nm_r bX (br_f zX (br_t iX hp))), fun post hp => br_f n8 (nm_r bY (br_f zY (br_f gY ⟨hinY, br_t wY hp⟩)))⟩
      have iX : ¬ nI (cd_y L n) < 9 := nI_nlt (b := 9) y9 (by omega)
      by_cases hw : (cf (cd_y L n) &&& 512) = 0
      · have wX : (cf (nI (cd_y L n)).toNatClampNeg &&& 512) = 0 := by
          rw [ec]
          exact hw
        have wY : (fl (lN (cd_y L n)).toInt32.toNatClampNeg &&& 512) = 0 := by
          rw [ef]
          exact hw
        exact Or.inl ⟨-4, ro, fun _ _ => rfl, fun post hp => br_f n8 (nm_r bX (br_f zX (br_f iX (br_t gX ⟨hin, br_t wX hp⟩)))), fun post hp => br_f n8 (nm_r bY (br_f zY (br_f gY ⟨hinY, br_t wY hp⟩)))⟩
      have wX : ¬ (cf (nI (cd_y L n)).toNatClampNeg &&& 512) = 0 := by
        rw [ec]
        exact hw
      have wY : ¬ (fl (lN (cd_y L n)).toInt32.toNatClampNeg &&& 512) = 0 := by
        rw [ef]
        exact hw
      have j1 := hJ.1
      have j2 := hJ.2.1
      have j3 := hJ.2.2.1
      have j4 := hJ.2.2.2.1
      have j5 := hJ.2.2.2.2.1
      have hx : ((lN (L / 256 ^ n)).toUInt64 >>> ((8 : Int32).toInt64.toUInt64 &&& Int64.toUInt64 63)).toInt64 = lN (L / 256 ^ (n + 1)) := by
        rw [cf_shY hq, Nat.div_div_eq_div_mul, ← Nat.pow_succ]
      by_cases hs : ∃ k, k < n ∧ cd_y L k = cd_y L n
      · have tX : ¬ (lN seen &&& ((1 : Int64) <<< ((nI (cd_y L n)).toInt64 &&& 63))) = 0 := by
          rw [cf_tb j3 (by omega), (j4 _).mpr hs]
          decide
        obtain ⟨k, k1, k2⟩ := hs
        refine Or.inl ⟨-5, ro, fun _ _ => rfl, fun post hp => br_f n8 (nm_r bX (br_f zX (br_f iX (br_t gX ⟨hin, br_f wX (br_f tX hp)⟩)))), fun post hp => br_f n8 (nm_r bY (br_f zY (br_f gY ⟨hinY, br_f wY ⟨n + 1, ?_⟩⟩)))⟩
        rw [lY]
        exact cy_273 (y := cd_y L) hN hn8 (by omega) hx j2 (fun k _ => cd_y256 L k) n 0 (by omega) (fun _ => hp) (fun q => absurd k2 (q k (Nat.zero_le _) k1))
      · have tX : (lN seen &&& ((1 : Int64) <<< ((nI (cd_y L n)).toInt64 &&& 63))) = 0 := by
          rw [cf_tb j3 (by omega)]
          exact Bool.eq_false_iff.mpr (fun q => hs ((j4 _).mp q))
        have hAy := hA _ y9 yN
        have hP : cf_P (cd_y L) n < 256 ^ n := cf_Plt n (fun k _ => cd_y256 L k)
        have eA : lN anc ||| an (nI (cd_y L n)).toNatClampNeg = lN (anc ||| A (cd_y L n)) := by
          rw [ec, han _ y9 yN, wb_or (cf_lt20 j5) (cf_lt20 hAy)]
        refine cd_mono (ih (n + 1) _ _ _ (by omega) (cd_step hN hJ y9 yN hAy)) (fun j hj => pk_un (by omega)) (fun post hp => ?_) (fun post hp => ?_)
        · exact br_f n8 (nm_r bX (br_f zX (br_f iX (br_t gX ⟨hin, br_f wX (br_t tX (nm_r (cf_ob j3 (by omega)) (nm_r (cf_or hn8 hP hy) ⟨hin, nm_r eA (nm_r (nI_1 n) hp)⟩)))⟩))))
        · refine br_f n8 (nm_r bY (br_f zY (br_f gY ⟨hinY, br_f wY ⟨n + 1, ?_⟩⟩)))
          rw [lY]
          exact cy_273 (y := cd_y L) hN hn8 (by omega) hx j2 (fun k _ => cd_y256 L k) n 0 (by omega) (fun ⟨k, _, k1, k2⟩ => absurd ⟨k, k1, k2⟩ hs) (fun _ => hp)
    · have gX : ¬ nI (cd_y L n) < nI N := nI_nlt yN (by omega)
      have gY : nI N ≤ (lN (cd_y L n)).toInt32 := by
        rw [lY]
        exact nI_le yN (by omega)
      have iX : ¬ nI (cd_y L n) < 9 := nI_nlt (b := 9) (by omega) (by omega)
      exact Or.inl ⟨-4, ro, fun _ _ => rfl, fun post hp => br_f n8 (nm_r bX (br_f zX (br_f iX (br_f gX hp)))), fun post hp => br_f n8 (nm_r bY (br_f zY (br_t gY hp)))⟩
end
/-- one outcome of both, related -/
def cd_o (zX : (Int32 → SX → Prop) → Prop) (zY : (Int32 → SY → Prop) → Prop) : Prop :=
  ∃ (a : Int32) (u' : SX) (v' : SY), cf_Q u' v' ∧ (∀ post, post a u' → zX post) ∧ (∀ post, post a v' → zY post)
theorem cd_om {zX zX' : (Int32 → SX → Prop) → Prop} {zY zY' : (Int32 → SY → Prop) → Prop} (h : cd_o zX zY) (hX : ∀ post, zX post → zX' post) (hY : ∀ post, zY post → zY' post) : cd_o zX' zY' := by
  obtain ⟨a, u', v', h1, h2, h3⟩ := h
  exact ⟨a, u', v', h1, fun post hp => hX post (h2 post hp), fun post hp => hY post (h3 post hp)⟩
section
variable {l c o : Nat} {cf nf so : Nat → Int32} {il an : Nat → Int64} {fl nn su ro co : Nat → Int32} {S : Nat → Nat} {B : Nat → Nat → Nat} {A : Nat → Nat}
theorem cd_keep {fl' nn' su' ro' : Nat → Int32} (r : cf_R l c o cf nf so il an fl nn su ro co S B A) (h1 : ∀ i, i < 12 + c → fl' i = fl i) (h2 : ∀ i, i < 12 + c → nn' i = nn i) (h3 : ∀ i, i < 12 + c → su' i = su i) (h4 : ∀ j, j < (12 + c) * 8 → ro' j = ro j) :
    cf_R l c o cf nf so il an fl' nn' su' ro' co S B A := by
  obtain ⟨r1, ra, rb, rc, rd, re, rf, rg, rh, ri, rj⟩ := r
  exact ⟨r1, fun i hi => (h1 i hi).trans (ra i hi), fun i hi => (h2 i hi).trans (rb i hi), rc, rd, fun i a b => (h3 i b).trans (re i a b), rf, rg, fun i a b k hk => (h4 _ (by omega)).trans (rh i a b k hk), ri, rj⟩
/-- the ghosts with a new row -/
theorem cd_G {m anc : Nat} {b : Nat → Nat} (hc : c < 8) (g : cf_G c S B A) (h9 : 9 ≤ m) (hm : m < 12 + c) (hb : ∀ k, k < 8 → b k = 0 ∨ (9 ≤ b k ∧ b k < 12 + c)) (h20 : anc < 2 ^ 20)
    (hx : ∀ x, anc.testBit x = true ↔ ((2 ^ (12 + c) ||| A m).testBit x = true ∨ ∃ k, k < 8 ∧ 9 ≤ b k ∧ (A (b k)).testBit x = true)) :
    cf_G (c + 1) (fun i => if i = 12 + c then m else S i) (fun i => if i = 12 + c then b else B i) (fun i => if i = 12 + c then anc else A i) := by
  intro i i9 ic
  dsimp only
  by_cases e : i = 12 + c
  · subst e
    rw [if_pos rfl, if_pos rfl, if_pos rfl, if_neg (show ¬ m = 12 + c by omega)]
    refine ⟨fun _ => ⟨h9, hm⟩, hb, h20, fun x x9 x20 => (hx x).trans ?_⟩
    rw [cf_oo, Nat.testBit_two_pow, decide_eq_true_eq]
    constructor
    · rintro ((q | q) | ⟨k, k8, b9, q⟩)
      · exact Or.inl q.symm
      · exact Or.inr ⟨by omega, Or.inl q⟩
      · have hk := hb k k8
        refine Or.inr ⟨by omega, Or.inr ⟨k, k8, b9, ?_⟩⟩
        rw [if_neg (show ¬ b k = 12 + c by omega)]
        exact q
    · rintro (q | ⟨_, q | ⟨k, k8, b9, q⟩⟩)
      · exact Or.inl (Or.inl q.symm)
      · exact Or.inl (Or.inr q)
      · have hk := hb k k8
        rw [if_neg (show ¬ b k = 12 + c by omega)] at q
        exact Or.inr ⟨k, k8, b9, q⟩
  · rw [if_neg e, if_neg e, if_neg e]
    obtain ⟨gs, gb, ga, gx⟩ := g i i9 (by omega)
    refine ⟨gs, gb, ga, fun x x9 x20 => (gx x x9 x20).trans ?_⟩
    constructor
    · rintro (q | ⟨i10, q | ⟨k, k8, b9, q⟩⟩)
      · exact Or.inl q
      · have := gs i10
        refine Or.inr ⟨i10, Or.inl ?_⟩
        rw [if_neg (show ¬ S i = 12 + c by omega)]
        exact q
      · have hk := gb k k8
        refine Or.inr ⟨i10, Or.inr ⟨k, k8, b9, ?_⟩⟩
        rw [if_neg (show ¬ B i k = 12 + c by omega)]
        exact q
    · rintro (q | ⟨i10, q | ⟨k, k8, b9, q⟩⟩)
      · exact Or.inl q
      · have := gs i10
        rw [if_neg (show ¬ S i = 12 + c by omega)] at q
        exact Or.inr ⟨i10, Or.inl q⟩
      · have hk := gb k k8
        rw [if_neg (show ¬ B i k = 12 + c by omega)] at q
        exact Or.inr ⟨i10, Or.inr ⟨k, k8, b9, q⟩⟩
theorem cd_new {m anc : Nat} {b : Nat → Nat} {ro' : Nat → Int32} {F : Int32} (r : cf_R l c o cf nf so il an fl nn su ro co S B A) (hcl : c < l) (hF : fl (12 + c) = F) (h9 : 9 ≤ m) (hm : m < 12 + c) (E : cd_E A (12 + c) (2 ^ (12 + c) ||| A m) b anc ro ro') :
    cf_R l (c + 1) o (upd cf (12 + c) F) (upd nf (12 + c) (nn (12 + c))) (upd so (12 + c) (nI m)) (vp_updL il (12 + c) (lN (cf_P b 8))) (vp_updL an (12 + c) (lN anc)) fl nn (upd su (12 + c) (nI m)) ro' co
      (fun i => if i = 12 + c then m else S i) (fun i => if i = 12 + c then b else B i) (fun i => if i = 12 + c then anc else A i) := by
  obtain ⟨⟨r1, r2, r3⟩, ra, rb, rc, rd, re, rf, rg, rh, ri, rj⟩ := r
  obtain ⟨E1, E2, E3, E4, E5⟩ := E
  refine ⟨⟨r1, hcl, r3⟩, fun i hi => ?_, fun i hi => ?_, fun i hi => ?_, fun i h hi => ?_, fun i h hi => ?_, fun i h hi => ?_, fun i h hi => ?_, fun i h hi k hk => ?_, cd_G (by omega) ri h9 hm E2 E4 E5, fun j j1 j2 => ?_⟩
  · by_cases e : i = 12 + c
    · rw [e, pk_us, hF]
    · rw [pk_un e]
      exact ra i (by omega)
  · by_cases e : i = 12 + c
    · rw [e, pk_us]
    · rw [pk_un e]
      exact rb i (by omega)
  · rw [pk_un (by omega)]
    exact rc i hi
  · show upd so (12 + c) (nI m) i = nI (if i = 12 + c then m else S i)
    by_cases e : i = 12 + c
    · rw [e, pk_us, if_pos rfl]
    · rw [pk_un e, if_neg e]
      exact rd i h (by omega)
  · show upd su (12 + c) (nI m) i = nI (if i = 12 + c then m else S i)
    by_cases e : i = 12 + c
    · rw [e, pk_us, if_pos rfl]
    · rw [pk_un e, if_neg e]
      exact re i h (by omega)
  · show vp_updL an (12 + c) (lN anc) i = lN (if i = 12 + c then anc else A i)
    by_cases e : i = 12 + c
    · rw [e, pk_uLs, if_pos rfl]
    · rw [pk_uLn e, if_neg e]
      exact rf i h (by omega)
  · show vp_updL il (12 + c) (lN (cf_P b 8)) i = lN (cf_P (if i = 12 + c then b else B i) 8)
    by_cases e : i = 12 + c
    · rw [e, pk_uLs, if_pos rfl]
    · rw [pk_uLn e, if_neg e]
      exact rg i h (by omega)
  · show ro' (i * 8 + k) = nI ((if i = 12 + c then b else B i) k)
    by_cases e : i = 12 + c
    · rw [e, if_pos rfl]
      exact E3 k hk
    · rw [if_neg e, E1 _ (by omega)]
      exact rh i h (by omega) k hk
  · obtain ⟨s, s1, s2, s3, s4⟩ := rj j j1 j2
    exact ⟨s, s1, s2, by omega, s4⟩
/-- the stores of an accepted definition -/
theorem cx_294 {post : Int32 → SX → Prop} {m : Nat} {x2 F w : Int32} {acc an' : Int64} (hc : c < 8) (hm : m < 12 + c) (hFx : vp_nar .char ((F.toUInt32 % 65536).toInt32) = F)
    (hw : w = (if (x2 &&& 32768) = 0 then vp_nar .short ((x2 &&& 30239).toInt16.toInt32) else vp_nar .short (-1)))
    (hp : post (nI (12 + c)) (nI l, nI (c + 1), nI o, upd cf (12 + c) F, upd nf (12 + c) w, upd so (12 + c) (nI m), vp_updL il (12 + c) acc, vp_updL an (12 + c) an', co)) :
    wX_define_294 post x2 (nI m) (nI (12 + c)) F acc an' (nI l) (nI c) (nI o) cf nf so il an co := by
  have hin : vp_in (nI (12 + c)) 20 := vp_in_nI (by omega) (by decide)
  have ec : (nI (12 + c)).toNatClampNeg = 12 + c := nI_clamp (by omega)
  have h335 : wX_define_335 post (nI m) (nI (12 + c)) acc an' (nI l) (nI c) (nI o) (upd cf (12 + c) F) (upd nf (12 + c) w) so il an co :=
    ⟨hin, nm_r (e' := upd so (12 + c) (nI m)) (by rw [ec, ff_by m (by omega)]) ⟨hin, nm_r (e' := vp_updL il (12 + c) acc) (by rw [ec]) ⟨hin, nm_r (e' := vp_updL an (12 + c) an') (by rw [ec]) (nm_r (nI_1 c) hp)⟩⟩⟩
  refine ⟨hin, nm_r (e' := upd cf (12 + c) F) (by rw [ec, hFx]) ?_⟩
  by_cases hz : (x2 &&& 32768) = 0
  · rw [if_pos hz] at hw
    exact br_t hz ⟨hin, nm_r (e' := upd nf (12 + c) w) (by rw [ec, hw]) h335⟩
  · rw [if_neg hz] at hw
    exact br_f hz ⟨hin, nm_r (e' := upd nf (12 + c) w) (by rw [ec, hw]) h335⟩
theorem cd_152 {m L : Nat} {x2 F : Int32} (r : cf_R l c o cf nf so il an fl nn su ro co S B A) (hcl : c < l) (hL : L < 2 ^ 64) (hF : fl (12 + c) = F) (hFx : vp_nar .char ((F.toUInt32 % 65536).toInt32) = F)
    (hw : nn (12 + c) = (if (x2 &&& 32768) = 0 then vp_nar .short ((x2 &&& 30239).toInt16.toInt32) else vp_nar .short (-1))) (h9 : 9 ≤ m) (hm : m < 12 + c) :
    cd_o (fun post => wX_define_152 post x2 (nI m) (lN L) (nI (12 + c)) F (nI l) (nI c) (nI o) cf nf so il an co) (fun post => wY_define_202 post (nI m) (lN L) (nI (12 + c)) (nI l) (nI (12 + c)) (nI o) fl nn su ro co) := by
  have hl : l ≤ 8 := r.1.1
  obtain ⟨_, ra, _, rc, _, _, rf, _, _, ri, _⟩ := id r
  have hinm : vp_in (nI m) 20 := vp_in_nI (by omega) (by decide)
  have hin : vp_in (nI (12 + c)) 20 := vp_in_nI (by omega) (by decide)
  have ec : (nI (12 + c)).toNatClampNeg = 12 + c := nI_clamp (by omega)
  have em : (nI m).toNatClampNeg = m := nI_clamp (by omega)
  have hAm := (ri m h9 hm).2.2.1
  have p20 : 2 ^ (12 + c) < 2 ^ 20 := wb_lt2 (by omega)
  have e14 : ((1 : Int64) <<< ((nI (12 + c)).toInt64 &&& 63)) ||| an (nI m).toNatClampNeg = lN (2 ^ (12 + c) ||| A m) := by
    rw [em, rf m h9 hm, cf_1s (by omega), wb_or (cf_lt20 p20) (cf_lt20 hAm)]
  have es : upd su (nI (12 + c)).toNatClampNeg (vp_nar .byte (nI m).toInt8.toInt32) = upd su (12 + c) (nI m) := by
    rw [ec, ff_by m (by omega)]
  have hJ : cd_J A (12 + c) L (2 ^ (12 + c) ||| A m) 0 0 (2 ^ (12 + c) ||| A m) ro := by
    refine ⟨fun k hk => by omega, fun k hk => by omega, by decide, fun x => ?_, Nat.or_lt_two_pow p20 hAm, fun x => ⟨Or.inl, ?_⟩⟩
    · rw [Nat.zero_testBit]
      exact ⟨fun h => absurd h (by decide), fun ⟨k, hk, _⟩ => absurd hk (Nat.not_lt_zero k)⟩
    · rintro (h | ⟨k, hk, _⟩)
      · exact h
      · omega
  have hO := cd_loop (cf := cf) (nf := nf) (so := so) (il := il) (an := an) (fl := fl) (nn := nn) (su := upd su (12 + c) (nI m)) (co := co) (f1 := nI l) (f2 := nI c) (f3 := nI o) (x2 := x2) (x3 := nI m) (x7 := F) (A := A) (a0 := 2 ^ (12 + c) ||| A m)
    (show 12 + c < 20 by omega) (by omega) hL ra rc rf (fun i a b => (ri i a b).2.2.1) 8 0 0 _ ro rfl hJ
  rw [Nat.pow_zero, Nat.div_one] at hO
  rcases hO with ⟨a, ro', h1, h2, h3⟩ | ⟨b, anc, ro', hE, h2, h3⟩
  · refine ⟨a, _, _, cf_in (cd_keep (fl' := fl) (nn' := nn) (su' := upd su (12 + c) (nI m)) (ro' := ro') r (fun _ _ => rfl) (fun _ _ => rfl) (fun i hi => pk_un (by omega)) h1), fun post hp => ⟨hinm, nm_r e14 ⟨9, h2 post hp⟩⟩, fun post hp => ⟨hin, nm_r es ⟨9, h3 post hp⟩⟩⟩
  · refine ⟨nI (12 + c), _, _, cf_in (cd_new r hcl hF h9 hm hE), fun post hp => ⟨hinm, nm_r e14 ⟨9, h2 post (cx_294 (by omega) hm hFx hw hp)⟩⟩, fun post hp => ⟨hin, nm_r es ⟨9, h3 post hp⟩⟩⟩
end
end
section
/-! define, from its loop to its head -/
section
variable {l c o : Nat} {cf nf so : Nat → Int32} {il an : Nat → Int64} {fl nn su ro co : Nat → Int32} {S : Nat → Nat} {B : Nat → Nat → Nat} {A : Nat → Nat}
theorem cd_95 {L : Nat} {x2 F z v3 : Int32} (r : cf_R l c o cf nf so il an fl nn su ro co S B A) (hcl : c < l) (hL : L < 2 ^ 64) (hF : fl (12 + c) = F) (hFx : vp_nar .char ((F.toUInt32 % 65536).toInt32) = F)
    (hw : nn (12 + c) = (if (x2 &&& 32768) = 0 then vp_nar .short ((x2 &&& 30239).toInt16.toInt32) else vp_nar .short (-1))) :
    cd_o (fun post => wX_define_95 post x2 v3 (lN L) (nI (12 + c)) F z (nI l) (nI c) (nI o) cf nf so il an co) (fun post => wY_define_155 post v3 (lN L) (nI (12 + c)) z (nI l) (nI (12 + c)) (nI o) fl nn su ro co) := by
  have hl : l ≤ 8 := r.1.1
  by_cases h9 : v3 < 9
  · exact ⟨-3, _, _, cf_in r, fun post hp => br_t h9 hp, fun post hp => br_t h9 hp⟩
  have h0 : ¬ v3 < 0 := fun h => h9 (Int32.lt_trans h (by decide))
  obtain ⟨m, hm, rfl⟩ := nI_of h0
  have m9 : 9 ≤ m := by
    rcases Nat.lt_or_ge m 9 with q | q
    · exact absurd (nI_lt (b := 9) q (by decide)) h9
    · exact q
  rcases Nat.lt_or_ge m (12 + c) with hN | hN
  · have gN : nI m < nI (12 + c) := nI_lt hN (by omega)
    have hin : vp_in (nI m) 20 := vp_in_nI (by omega) (by decide)
    have em : (nI m).toNatClampNeg = m := nI_clamp hm
    have ef : fl (nI m).toNatClampNeg = cf m := by
      rw [em]
      exact r.2.1 m hN
    have eX : cf (nI m).toNatClampNeg = cf m := by rw [em]
    by_cases hz : (cf m &&& 528) = 0
    · obtain ⟨z1, z2⟩ := (ff_528 _).mp hz
      have hzY : (fl (nI m).toNatClampNeg &&& 528) = 0 := by
        rw [ef]
        exact hz
      have hO := cd_152 r hcl hL hF hFx hw m9 hN
      by_cases q : z = 0
      · exact cd_om hO (fun post hp => br_f h9 (br_t gN ⟨hin, nm_r eX (br_t z1 (br_t z2 (br_t q hp)))⟩)) (fun post hp => br_f h9 (br_t gN ⟨hin, br_t hzY (br_t q hp)⟩))
      · by_cases e9 : nI m = 9
        · exact cd_om hO (fun post hp => br_f h9 (br_t gN ⟨hin, nm_r eX (br_t z1 (br_t z2 (br_f q (br_t e9 hp))))⟩)) (fun post hp => br_f h9 (br_t gN ⟨hin, br_t hzY (br_f q (br_t e9 hp))⟩))
        · exact ⟨-3, _, _, cf_in r, fun post hp => br_f h9 (br_t gN ⟨hin, nm_r eX (br_t z1 (br_t z2 (br_f q (br_f e9 hp))))⟩), fun post hp => br_f h9 (br_t gN ⟨hin, br_t hzY (br_f q (br_f e9 hp))⟩)⟩
    · have hzY : ¬ (fl (nI m).toNatClampNeg &&& 528) = 0 := by
        rw [ef]
        exact hz
      by_cases z1 : (cf m &&& 512) = 0
      · have z2 : ¬ (cf m &&& 16) = 0 := fun q => hz ((ff_528 _).mpr ⟨z1, q⟩)
        exact ⟨-3, _, _, cf_in r, fun post hp => br_f h9 (br_t gN ⟨hin, nm_r eX (br_t z1 (br_f z2 hp))⟩), fun post hp => br_f h9 (br_t gN ⟨hin, br_f hzY hp⟩)⟩
      · exact ⟨-3, _, _, cf_in r, fun post hp => br_f h9 (br_t gN ⟨hin, nm_r eX (br_f z1 hp)⟩), fun post hp => br_f h9 (br_t gN ⟨hin, br_f hzY hp⟩)⟩
  · have gN : ¬ nI m < nI (12 + c) := nI_nlt hN hm
    exact ⟨-3, _, _, cf_in r, fun post hp => br_f h9 (br_f gN hp), fun post hp => br_f h9 (br_f gN hp)⟩
theorem cd_111 {L : Nat} {x2 F z v3 : Int32} (r : cf_R l c o cf nf so il an fl nn su ro co S B A) (hcl : c < l) (hL : L < 2 ^ 64) (hF : fl (12 + c) = F) (hFx : vp_nar .char ((F.toUInt32 % 65536).toInt32) = F) :
    cd_o (fun post => wX_define_95 post x2 v3 (lN L) (nI (12 + c)) F z (nI l) (nI c) (nI o) cf nf so il an co) (fun post => wY_define_111 post x2 v3 (lN L) (nI (12 + c)) z (nI l) (nI (12 + c)) (nI o) fl nn su ro co) := by
  have hl : l ≤ 8 := r.1.1
  have hin : vp_in (nI (12 + c)) 20 := vp_in_nI (by omega) (by decide)
  have ec : (nI (12 + c)).toNatClampNeg = 12 + c := nI_clamp (by omega)
  have e13 : upd nn (nI (12 + c)).toNatClampNeg (vp_nar .short x2.toInt16.toInt32) = upd nn (12 + c) x2.toInt16.toInt32 := by
    rw [ec, pk_vs]
  have er : upd nn (12 + c) x2.toInt16.toInt32 (nI (12 + c)).toNatClampNeg = x2.toInt16.toInt32 := by
    rw [ec, pk_us]
  have hk : ∀ w : Int32, ∀ i, i < 12 + c → upd (upd nn (12 + c) x2.toInt16.toInt32) (12 + c) w i = nn i := fun w i hi => by
    rw [pk_un (by omega), pk_un (by omega)]
  by_cases hz : (x2 &&& 32768) = 0
  · have hs : 0 ≤ upd nn (12 + c) x2.toInt16.toInt32 (nI (12 + c)).toNatClampNeg := by
      rw [er]
      exact (ff_s x2).mpr hz
    have e18 : upd (upd nn (12 + c) x2.toInt16.toInt32) (nI (12 + c)).toNatClampNeg (vp_nar .short ((upd nn (12 + c) x2.toInt16.toInt32 (nI (12 + c)).toNatClampNeg &&& 30239).toInt16.toInt32)) = upd (upd nn (12 + c) x2.toInt16.toInt32) (12 + c) (vp_nar .short ((x2 &&& 30239).toInt16.toInt32)) := by
      rw [er, ec, ff_c]
    have hO := cd_95 (x2 := x2) (z := z) (v3 := v3) (cd_keep (fl' := fl) (su' := su) (ro' := ro) r (fun _ _ => rfl) (hk (vp_nar .short ((x2 &&& 30239).toInt16.toInt32))) (fun _ _ => rfl) (fun _ _ => rfl)) hcl hL hF hFx (by rw [pk_us, if_pos hz])
    exact cd_om hO (fun post hp => hp) (fun post hp => ⟨hin, nm_r e13 ⟨hin, br_t hs ⟨hin, hin, nm_r e18 hp⟩⟩⟩)
  · have hs : ¬ 0 ≤ upd nn (12 + c) x2.toInt16.toInt32 (nI (12 + c)).toNatClampNeg := by
      rw [er]
      exact fun q => hz ((ff_s x2).mp q)
    have e47 : upd (upd nn (12 + c) x2.toInt16.toInt32) (nI (12 + c)).toNatClampNeg (vp_nar .short (-1)) = upd (upd nn (12 + c) x2.toInt16.toInt32) (12 + c) (vp_nar .short (-1)) := by
      rw [ec]
    have hO := cd_95 (x2 := x2) (z := z) (v3 := v3) (cd_keep (fl' := fl) (su' := su) (ro' := ro) r (fun _ _ => rfl) (hk (vp_nar .short (-1))) (fun _ _ => rfl) (fun _ _ => rfl)) hcl hL hF hFx (by rw [pk_us, if_neg hz])
    exact cd_om hO (fun post hp => hp) (fun post hp => ⟨hin, nm_r e13 ⟨hin, br_f hs ⟨hin, nm_r e47 hp⟩⟩⟩)
theorem cd_61 {L : Nat} {x2 F z v3 : Int32} (r : cf_R l c o cf nf so il an fl nn su ro co S B A) (hcl : c < l) (hL : L < 2 ^ 64) (hF : fl (12 + c) = F) (hFx : vp_nar .char ((F.toUInt32 % 65536).toInt32) = F) :
    cd_o (fun post => wX_define_42 post x2 v3 (lN L) (nI (12 + c)) F z (nI l) (nI c) (nI o) cf nf so il an co) (fun post => wY_define_61 post x2 v3 (lN L) (nI (12 + c)) F z (nI l) (nI (12 + c)) (nI o) fl nn su ro co) := by
  have hO := cd_111 (x2 := x2) (z := z) (v3 := v3) r hcl hL hF hFx
  by_cases q : z = 0
  · by_cases a : (F &&& 40960) = 0
    · by_cases b : (F &&& 1040) = 1040
      · exact ⟨-2, _, _, cf_in r, fun post hp => br_t q (br_t a (br_t b hp)), fun post hp => br_t q (br_t a (br_t b hp))⟩
      · exact cd_om hO (fun post hp => br_t q (br_t a (br_f b hp))) (fun post hp => br_t q (br_t a (br_f b hp)))
    · exact ⟨-2, _, _, cf_in r, fun post hp => br_t q (br_f a hp), fun post hp => br_t q (br_f a hp)⟩
  · by_cases a : (F &&& 1024) = 0
    · exact ⟨-2, _, _, cf_in r, fun post hp => br_f q (br_t a hp), fun post hp => br_f q (br_t a hp)⟩
    · by_cases b : (F &&& 49200) = 0
      · exact cd_om hO (fun post hp => br_f q (br_f a (br_t b hp))) (fun post hp => br_f q (br_f a (br_t b hp)))
      · exact ⟨-2, _, _, cf_in r, fun post hp => br_f q (br_f a (br_f b hp)), fun post hp => br_f q (br_f a (br_f b hp))⟩
theorem cd_all (r : cf_R l c o cf nf so il an fl nn su ro co S B A) (v1 v2 v3 : Int32) (a3 : Int64) :
    cd_o (fun post => wpX_define post (nI l, nI c, nI o, cf, nf, so, il, an, co) v1 v2 v3 a3) (fun post => wpY_define post (nI l, nI (12 + c), nI o, fl, nn, su, ro, co) v1 v2 v3 a3) := by
  have hl : l ≤ 8 := r.1.1
  have hcle : c ≤ l := r.1.2.1
  have eX : (12 : Int32) + nI c = nI (12 + c) := nI_add 12 c
  have eY : (12 : Int32) + nI l = nI (12 + l) := nI_add 12 l
  rcases Nat.lt_or_ge c l with hcl | hcl
  · obtain ⟨L, hL, rfl⟩ := wb_of a3
    have cX : nI c < nI l := nI_lt hcl (by omega)
    have cY : nI (12 + c) < 12 + nI l := by
      rw [eY]
      exact nI_lt (by omega) (by omega)
    have hin : vp_in (nI (12 + c)) 20 := vp_in_nI (by omega) (by decide)
    have ec : (nI (12 + c)).toNatClampNeg = 12 + c := nI_clamp (by omega)
    have e3 : upd fl (nI (12 + c)).toNatClampNeg (vp_nar .char ((v1.toUInt32 % 65536).toInt32)) = upd fl (12 + c) (vp_nar .char ((v1.toUInt32 % 65536).toInt32)) := by
      rw [ec]
    have e7 : ((upd fl (12 + c) (vp_nar .char ((v1.toUInt32 % 65536).toInt32)) (nI (12 + c)).toNatClampNeg &&& 63025).toUInt32 % 65536).toInt32 = v1 &&& 63025 := by
      rw [ec, pk_us, ff_a]
    have hFx := ff_b v1
    have e6 : upd (upd fl (12 + c) (vp_nar .char ((v1.toUInt32 % 65536).toInt32))) (nI (12 + c)).toNatClampNeg (vp_nar .char (((upd fl (12 + c) (vp_nar .char ((v1.toUInt32 % 65536).toInt32)) (nI (12 + c)).toNatClampNeg &&& 63025).toUInt32 % 65536).toInt32)) = upd (upd fl (12 + c) (vp_nar .char ((v1.toUInt32 % 65536).toInt32))) (12 + c) (v1 &&& 63025) := by
      rw [e7, ec]
      have q := hFx
      rw [ff_2] at q
      rw [q]
    have rK : cf_R l c o cf nf so il an (upd (upd fl (12 + c) (vp_nar .char ((v1.toUInt32 % 65536).toInt32))) (12 + c) (v1 &&& 63025)) nn su ro co S B A :=
      cd_keep r (fun i hi => by rw [pk_un (by omega), pk_un (by omega)]) (fun _ _ => rfl) (fun _ _ => rfl) (fun _ _ => rfl)
    by_cases q : ((v1 &&& 63025) &&& 512) = 0
    · exact cd_om (cd_61 (x2 := v2) (z := 0) (v3 := v3) rK hcl hL pk_us hFx) (fun post hp => br_t cX (nm_r eX (nm_e (br_t q hp)))) (fun post hp => br_t cY ⟨hin, nm_r e3 ⟨hin, hin, nm_r e6 (nm_r e7 (br_t q hp))⟩⟩)
    · exact cd_om (cd_61 (x2 := v2) (z := 1) (v3 := v3) rK hcl hL pk_us hFx) (fun post hp => br_t cX (nm_r eX (nm_e (br_f q hp)))) (fun post hp => br_t cY ⟨hin, nm_r e3 ⟨hin, hin, nm_r e6 (nm_r e7 (br_f q hp))⟩⟩)
  · have cX : ¬ nI c < nI l := nI_nlt hcl (by omega)
    have cY : ¬ nI (12 + c) < 12 + nI l := by
      rw [eY]
      exact nI_nlt (by omega) (by omega)
    exact ⟨-1, _, _, cf_in r, fun post hp => br_f cX hp, fun post hp => br_f cY hp⟩
end
end
section
/-! the constructors, and what is owed -/
theorem cz_c33 : vp_nar .char 33 = 33 := by
  rw [vp_nar_char]
  decide
theorem cz_c15 : vp_nar .char 1537 = 1537 := by
  rw [vp_nar_char]
  decide
theorem cz_b9 : vp_nar .byte 9 = 9 := by
  rw [vp_nar_byte]
  decide
theorem cz_bm : vp_nar .byte (-1) = -1 := by
  rw [vp_nar_byte]
  decide
theorem cz_sm : vp_nar .short (-1) = -1 := by
  rw [vp_nar_short]
  decide
def cz_f (f : Nat → Int32) : Nat → Int32 := upd (upd (upd f 9 33) 10 1537) 11 1537
def cz_a (f : Nat → Int64) : Nat → Int64 := vp_updL (vp_updL (vp_updL f 9 512) 10 1536) 11 2560
theorem cz_86 {post : SX → Prop} {f1 f2 f3 : Int32} {cf co : Nat → Int32} {il an : Nat → Int64} : ∀ d i nf so, i + d = 20 →
    (∀ nf' so', (∀ k, k < i → nf' k = nf k) → (∀ k, i ≤ k → k < 20 → nf' k = -1) → post (f1, f2, f3, cz_f cf, nf', upd (upd so' 10 9) 11 9, il, cz_a an, co)) →
    wX_init_86 post f1 f2 f3 (d + 1) (nI i) cf nf so il an co := by
  intro d
  induction d with
  | zero =>
    intro i nf so hi H
    have h := H nf so (fun _ _ => rfl) (fun k a b => by omega)
    refine br_t (nI_le (a := 20) (by omega) (by omega)) ?_
    rw [cz_c33, cz_c15, cz_b9]
    exact nm_e (nm_e (nm_e (nm_e (nm_e (nm_e (nm_e (nm_e h)))))))
  | succ d ih =>
    intro i nf so hi H
    have hin : vp_in (nI i) 20 := vp_in_nI (by omega) (by decide)
    have ec : (nI i).toNatClampNeg = i := nI_clamp (by omega)
    refine br_f (nI_ge (b := 20) (by omega) (by decide)) ⟨hin, nm_r (e' := upd nf i (-1)) (by rw [ec, cz_sm]) ⟨hin, nm_r (e' := upd so i (-1)) (by rw [ec, cz_bm]) (nm_r (nI_1 i) (ih (i + 1) _ _ (by omega) (fun nf' so' h1 h2 => H nf' so' (fun k hk => ?_) (fun k a b => ?_))))⟩⟩
    · rw [h1 k (by omega), pk_un (by omega)]
    · by_cases e : k = i
      · rw [e, h1 i (by omega), pk_us]
      · exact h2 k (by omega) b
theorem cz_77 {post : SY → Prop} {f1 f2 f3 : Int32} {fl ro co : Nat → Int32} : ∀ d i nn su, i + d = 20 →
    (∀ nn' su', (∀ k, k < i → nn' k = nn k) → (∀ k, i ≤ k → k < 20 → nn' k = -1) → (∀ k, k < i → su' k = su k) → (∀ k, i ≤ k → k < 20 → su' k = 9) → post (f1, f2, f3, cz_f fl, nn', upd su' 9 (-1), ro, co)) →
    wY_init_77 post f1 f2 f3 (d + 1) (nI i) fl nn su ro co := by
  intro d
  induction d with
  | zero =>
    intro i nn su hi H
    have h := H nn su (fun _ _ => rfl) (fun k a b => by omega) (fun _ _ => rfl) (fun k a b => by omega)
    refine br_t (nI_le (a := 20) (by omega) (by omega)) ?_
    rw [cz_c33, cz_c15, cz_bm]
    exact nm_e (nm_e (nm_e (nm_e h)))
  | succ d ih =>
    intro i nn su hi H
    have hin : vp_in (nI i) 20 := vp_in_nI (by omega) (by decide)
    have ec : (nI i).toNatClampNeg = i := nI_clamp (by omega)
    refine br_f (nI_ge (b := 20) (by omega) (by decide)) ⟨hin, nm_r (e' := upd nn i (-1)) (by rw [ec, cz_sm]) ⟨hin, nm_r (e' := upd su i 9) (by rw [ec, cz_b9]) (nm_r (nI_1 i) (ih (i + 1) _ _ (by omega) (fun nn' su' h1 h2 h3 h4 => H nn' su' (fun k hk => ?_) (fun k a b => ?_) (fun k hk => ?_) (fun k a b => ?_))))⟩⟩
    · rw [h1 k (by omega), pk_un (by omega)]
    · by_cases e : k = i
      · rw [e, h1 i (by omega), pk_us]
      · exact h2 k (by omega) b
    · rw [h3 k (by omega), pk_un (by omega)]
    · by_cases e : k = i
      · rw [e, h3 i (by omega), pk_us]
      · exact h4 k (by omega) b
def cz_A (i : Nat) : Nat := if i = 9 then 512 else if i = 10 then 1536 else 2560
theorem cz_t9 : ∀ x, x < 20 → 9 ≤ x → ((512 : Nat).testBit x = true ↔ x = 9) := by decide
theorem cz_t10 : ∀ x, x < 20 → 9 ≤ x → ((1536 : Nat).testBit x = true ↔ (x = 10 ∨ (512 : Nat).testBit x = true)) := by decide
theorem cz_t11 : ∀ x, x < 20 → 9 ≤ x → ((2560 : Nat).testBit x = true ↔ (x = 11 ∨ (512 : Nat).testBit x = true)) := by decide
theorem cz_G : cf_G 0 (fun _ => 9) (fun _ _ => 0) cz_A := by
  intro i h1 h2
  have h3 : i = 9 ∨ i = 10 ∨ i = 11 := by omega
  refine ⟨fun h => ⟨Nat.le_refl _, h⟩, fun k hk => Or.inl rfl, ?_, fun x x9 x20 => ?_⟩
  · rcases h3 with rfl | rfl | rfl <;> decide
  · have e9 : cz_A 9 = 512 := rfl
    have hno : ¬ ∃ k : Nat, k < 8 ∧ 9 ≤ 0 ∧ (cz_A 0).testBit x = true := fun ⟨_, _, q, _⟩ => absurd q (by decide)
    rcases h3 with rfl | rfl | rfl
    · refine (cz_t9 x x20 x9).trans ⟨Or.inl, ?_⟩
      rintro (q | ⟨q, _⟩)
      · exact q
      · omega
    · refine (cz_t10 x x20 x9).trans ⟨?_, ?_⟩
      · rintro (q | q)
        · exact Or.inl q
        · exact Or.inr ⟨by omega, Or.inl q⟩
      · rintro (q | ⟨_, q | q⟩)
        · exact Or.inl q
        · exact Or.inr q
        · exact absurd q hno
    · refine (cz_t11 x x20 x9).trans ⟨?_, ?_⟩
      · rintro (q | q)
        · exact Or.inl q
        · exact Or.inr ⟨by omega, Or.inl q⟩
      · rintro (q | ⟨_, q | q⟩)
        · exact Or.inl q
        · exact Or.inr q
        · exact absurd q hno
theorem cz_R {l : Nat} {nf so nn su : Nat → Int32} (hl : l ≤ 8) (h1 : ∀ k, 0 ≤ k → k < 20 → nf k = -1) (h2 : ∀ k, 0 ≤ k → k < 20 → nn k = -1) (h3 : ∀ k, 0 ≤ k → k < 20 → su k = 9) :
    cf_R l 0 0 (cz_f (fun _ => 0)) nf (upd (upd so 10 9) 11 9) (fun _ => 0) (cz_a (fun _ => 0)) (cz_f (fun _ => 0)) nn (upd su 9 (-1)) (fun _ => 0) (fun _ => 0) (fun _ => 9) (fun _ _ => 0) cz_A := by
  refine ⟨⟨hl, by omega, by omega⟩, fun _ _ => rfl, fun i hi => ?_, fun i hi => ?_, fun i h hi => ?_, fun i h hi => ?_, fun i h hi => ?_, fun i h hi => ?_, fun i h hi k hk => rfl, cz_G, fun j j1 j2 => by omega⟩
  · rw [h1 i (by omega) (by omega), h2 i (by omega) (by omega)]
  · unfold cz_f
    rw [pk_un (by omega), pk_un (by omega), pk_un (by omega)]
  · have h3 : i = 10 ∨ i = 11 := by omega
    rcases h3 with rfl | rfl
    · rw [pk_un (by omega), pk_us]
      rfl
    · rw [pk_us]
      rfl
  · rw [pk_un (by omega), h3 i (by omega) (by omega)]
    rfl
  · have h3 : i = 9 ∨ i = 10 ∨ i = 11 := by omega
    unfold cz_a
    rcases h3 with rfl | rfl | rfl
    · rw [pk_uLn (by omega), pk_uLn (by omega), pk_uLs]
      rfl
    · rw [pk_uLn (by omega), pk_uLs]
      rfl
    · rw [pk_uLs]
      rfl
  · exact (by decide : (0 : Int64) = lN (cf_P (fun _ => 0) 8))
theorem cz_X {post : SX → Prop} {l : Nat} (H : ∀ nf so : Nat → Int32, (∀ k, 0 ≤ k → k < 20 → nf k = -1) → post (nI l, nI 0, nI 0, cz_f (fun _ => 0), nf, upd (upd so 10 9) 11 9, fun _ => 0, cz_a (fun _ => 0), fun _ => 0)) :
    wX_init_69 post (nI l) 0 0 0 (fun _ => 0) (fun _ => 0) (fun _ => 0) (fun _ => 0) (fun _ => 0) (fun _ => 0) :=
  ⟨21, cz_86 20 0 _ _ rfl (fun nf' so' _ h => H nf' so' h)⟩
theorem cz_Y {post : SY → Prop} {l : Nat} (H : ∀ nn su : Nat → Int32, (∀ k, 0 ≤ k → k < 20 → nn k = -1) → (∀ k, 0 ≤ k → k < 20 → su k = 9) → post (nI l, nI (12 + 0), nI 0, cz_f (fun _ => 0), nn, upd su 9 (-1), fun _ => 0, fun _ => 0)) :
    ∃ n77 : Nat, wY_init_77 post (nI l) 12 0 n77 0 (fun _ => 0) (fun _ => 0) (fun _ => 0) (fun _ => 0) (fun _ => 0) :=
  ⟨21, cz_77 20 0 _ _ rfl (fun nn' su' _ h _ h' => H nn' su' h h')⟩
/-- the relation -/
def i_Rel (_ : Nat) (u : SX) (v : SY) : Prop := cf_Q u v
theorem i_up {k : Nat} {u : SX} {v : SY} (h : i_Rel k u v) : i_Rel (k + 6) u v := h
theorem i_vc0 (k0 : Int32) : wpX_init (fun u => wpY_init (fun v => i_Rel 1 u v) k0) k0 := by
  by_cases h0 : 0 ≤ k0
  · obtain ⟨j, hj, rfl⟩ := nI_of (x := k0) (Int32.not_lt.mpr h0)
    by_cases h8 : j ≤ 8
    · have e8 : nI j ≤ 8 := nI_le (b := 8) h8 (by decide)
      exact br_t h0 (br_t e8 (cz_X (fun nf so a => br_t h0 (br_t e8 (cz_Y (fun nn su b d => cf_in (cz_R h8 a b d)))))))
    · have e8 : ¬ nI j ≤ 8 := nI_ge (a := 8) (by omega) hj
      exact br_t h0 (br_f e8 (cz_X (l := 8) (fun nf so a => br_t h0 (br_f e8 (cz_Y (l := 8) (fun nn su b d => cf_in (cz_R (l := 8) (by omega) a b d)))))))
  · have e8 : (0 : Int32) ≤ 8 := by decide
    exact br_f h0 (br_t e8 (cz_X (l := 0) (fun nf so a => br_f h0 (cz_Y (l := 0) (fun nn su b d => cf_in (cz_R (l := 0) (by omega) a b d))))))
theorem i_vc_define {k : Nat} {u : SX} {v : SY} (I : i_Rel k u v) (hk : k + 6 ≤ 3073) (v1 : Int32) (v2 : Int32) (v3 : Int32) (a3 : Int64) : wpX_define (fun r u' => wpY_define (fun r' v' => r' = r ∧ i_Rel (k + 6) u' v') v v1 v2 v3 a3) u v1 v2 v3 a3 := by
  refine cf_el (P := fun u v => wpX_define (fun r u' => wpY_define (fun r' v' => r' = r ∧ i_Rel (k + 6) u' v') v v1 v2 v3 a3) u v1 v2 v3 a3) I ?_
  intro l c o cf nf so il an fl nn su ro co S B A r
  obtain ⟨a, u', v', hQ, hX, hY⟩ := cd_all r v1 v2 v3 a3
  exact hX _ (hY _ ⟨rfl, hQ⟩)
theorem i_vc_newObject {k : Nat} {u : SX} {v : SY} (I : i_Rel k u v) (hk : k + 6 ≤ 3073) (v1 : Int32) : wpX_newObject (fun r u' => wpY_newObject (fun r' v' => r' = r ∧ i_Rel (k + 6) u' v') v v1) u v1 := by
  refine cf_el (P := fun u v => wpX_newObject (fun r u' => wpY_newObject (fun r' v' => r' = r ∧ i_Rel (k + 6) u' v') v v1) u v1) I ?_
  intro l c o cf nf so il an fl nn su ro co S B A r
  obtain ⟨a, u', v', hQ, hX, hY⟩ := cm_new r v1
  exact hX _ (hY _ ⟨rfl, hQ⟩)
theorem i_vc_superclassOf {k : Nat} {u : SX} {v : SY} (I : i_Rel k u v) (hk : k + 6 ≤ 3073) (v1 : Int32) : wpX_superclassOf (fun r => wpY_superclassOf (fun r' => r' = r ∧ i_Rel (k + 6) u v) v v1) u v1 := by
  refine cf_el (P := fun u v => wpX_superclassOf (fun r => wpY_superclassOf (fun r' => r' = r ∧ i_Rel (k + 6) u v) v v1) u v1) I ?_
  intro l c o cf nf so il an fl nn su ro co S B A r
  obtain ⟨a, hX, hY⟩ := cm_super r v1
  exact hX _ (hY _ ⟨rfl, cf_in r⟩)
theorem i_vc_modifiersOf {k : Nat} {u : SX} {v : SY} (I : i_Rel k u v) (hk : k + 6 ≤ 3073) (v1 : Int32) : wpX_modifiersOf (fun r => wpY_modifiersOf (fun r' => r' = r ∧ i_Rel (k + 6) u v) v v1) u v1 := by
  refine cf_el (P := fun u v => wpX_modifiersOf (fun r => wpY_modifiersOf (fun r' => r' = r ∧ i_Rel (k + 6) u v) v v1) u v1) I ?_
  intro l c o cf nf so il an fl nn su ro co S B A r
  obtain ⟨a, hX, hY⟩ := cm_mod r v1
  exact hX _ (hY _ ⟨rfl, cf_in r⟩)
theorem i_vc_interfacesOf {k : Nat} {u : SX} {v : SY} (I : i_Rel k u v) (hk : k + 6 ≤ 3073) (v1 : Int32) : wpX_interfacesOf (fun r => wpY_interfacesOf (fun r' => r' = r ∧ i_Rel (k + 6) u v) v v1) u v1 := by
  refine cf_el (P := fun u v => wpX_interfacesOf (fun r => wpY_interfacesOf (fun r' => r' = r ∧ i_Rel (k + 6) u v) v v1) u v1) I ?_
  intro l c o cf nf so il an fl nn su ro co S B A r
  obtain ⟨a, hX, hY⟩ := cm_ifs r v1
  exact hX _ (hY _ ⟨rfl, cf_in r⟩)
theorem i_vc_kindBits {k : Nat} {u : SX} {v : SY} (I : i_Rel k u v) (hk : k + 6 ≤ 3073) (v1 : Int32) : wpX_kindBits (fun r => wpY_kindBits (fun r' => r' = r ∧ i_Rel (k + 6) u v) v v1) u v1 := by
  refine cf_el (P := fun u v => wpX_kindBits (fun r => wpY_kindBits (fun r' => r' = r ∧ i_Rel (k + 6) u v) v v1) u v1) I ?_
  intro l c o cf nf so il an fl nn su ro co S B A r
  obtain ⟨a, hX, hY⟩ := cm_kind r v1
  exact hX _ (hY _ ⟨rfl, cf_in r⟩)
theorem i_vc_isInstance {k : Nat} {u : SX} {v : SY} (I : i_Rel k u v) (hk : k + 6 ≤ 3073) (v1 : Int32) (v2 : Int32) : wpX_isInstance (fun r => wpY_isInstance (fun r' => r' = r ∧ i_Rel (k + 6) u v) v v1 v2) u v1 v2 := by
  refine cf_el (P := fun u v => wpX_isInstance (fun r => wpY_isInstance (fun r' => r' = r ∧ i_Rel (k + 6) u v) v v1 v2) u v1 v2) I ?_
  intro l c o cf nf so il an fl nn su ro co S B A r
  obtain ⟨a, hX, hY⟩ := cm_inst r v1 v2
  exact hX _ (hY _ ⟨rfl, cf_in r⟩)
end
