section
theorem pk_us {f : Nat → Int32} {k : Nat} {x : Int32} : upd f k x k = x := if_pos rfl
theorem pk_un {f : Nat → Int32} {k j : Nat} {x : Int32} (h : j ≠ k) : upd f k x j = f j := if_neg h
theorem pk_uLs {f : Nat → Int64} {k : Nat} {x : Int64} : vp_updL f k x k = x := if_pos rfl
theorem pk_uLn {f : Nat → Int64} {k j : Nat} {x : Int64} (h : j ≠ k) : vp_updL f k x j = f j := if_neg h
theorem pk_sub {a b : Nat} (h : b ≤ a) : nI a - nI b = nI (a - b) := by
  obtain ⟨c, rfl⟩ : ∃ c, a = c + b := ⟨a - b, by omega⟩
  rw [← nI_add, Int32.add_sub_cancel, Nat.add_sub_cancel]
theorem pk_m1 (n : Nat) : nI (n + 1) + (-1) = nI n := by
  rw [← nI_1, Int32.add_assoc, show (1 : Int32) + (-1) = 0 from rfl, Int32.add_zero]
theorem pk_mul (a b : Nat) : nI a * nI b = nI (a * b) := (Int32.ofNat_mul a b).symm
theorem pk_div {a d : Nat} (ha : a < 2 ^ 31) (h0 : 0 < d) (hd : d < 2 ^ 31) : nI a / nI d = nI (a / d) := by
  apply Int32.toInt_inj.mp
  rw [lg_idiv_nonneg (by rw [nI_toInt ha]; omega) (by rw [nI_toInt hd]; omega), nI_toInt ha, nI_toInt hd, nI_toInt (Nat.lt_of_le_of_lt (Nat.div_le_self a d) ha)]
  first | rfl | exact (Int.natCast_ediv _ _).symm
theorem pk_rem {a d : Nat} (ha : a < 2 ^ 31) (h0 : 0 < d) (hd : d < 2 ^ 31) : nI a - nI a / nI d * nI d = nI (a % d) := by
  rw [pk_div ha h0 hd, pk_mul, pk_sub (Nat.div_mul_le_self a d)]
  exact congrArg nI (by have := Nat.div_add_mod' a d; omega)
theorem pk_sub_toInt {a b : Nat} (ha : a < 2 ^ 30) (hb : b < 2 ^ 30) : (nI a - nI b).toInt = (a : Int) - b := by
  rw [Int32.toInt_sub, nI_toInt (by omega), nI_toInt (by omega)]
  exact Int.bmod_eq_of_le (by omega) (by omega)
theorem pk_sneg {a b : Nat} (hb : b < 2 ^ 30) (h : a < b) : nI a - nI b < 0 := by
  rw [Int32.lt_iff_toInt_lt, pk_sub_toInt (by omega) hb, show (0 : Int32).toInt = 0 from by decide]
  omega
theorem pk_ix (x : Int32) {n : Nat} (hn : n < 2 ^ 31) : x < 0 ∨ nI n ≤ x ∨ ∃ j : Nat, j < n ∧ x = nI j := by
  by_cases h : x < 0
  · exact Or.inl h
  · obtain ⟨j, hj, rfl⟩ := nI_of h
    by_cases h2 : j < n
    · exact Or.inr (Or.inr ⟨j, h2, rfl⟩)
    · exact Or.inr (Or.inl (nI_le (by omega) hj))
theorem pk_le {x y : Int32} {A B : Prop} (a b : Nat) (f : a ≤ b → A) (g : b < a → B) (hx : x = nI a := by rfl) (hy : y = nI b := by rfl) (ha : a < 2 ^ 31 := by omega) (hb : b < 2 ^ 31 := by omega) : (x ≤ y → A) ∧ (¬ x ≤ y → B) := by
  subst hx hy
  rw [nI_leI ha hb]
  exact ⟨f, fun z => g (by omega)⟩
theorem pk_lt {x y : Int32} {A B : Prop} (a b : Nat) (f : a < b → A) (g : b ≤ a → B) (hx : x = nI a := by rfl) (hy : y = nI b := by rfl) (ha : a < 2 ^ 31 := by omega) (hb : b < 2 ^ 31 := by omega) : (x < y → A) ∧ (¬ x < y → B) := by
  subst hx hy
  rw [nI_ltI ha hb]
  exact ⟨f, fun z => g (by omega)⟩
theorem pk_eq {x y : Int32} {A B : Prop} (a b : Nat) (f : a = b → A) (g : a ≠ b → B) (hx : x = nI a := by rfl) (hy : y = nI b := by rfl) (ha : a < 2 ^ 31 := by omega) (hb : b < 2 ^ 31 := by omega) : (x = y → A) ∧ (¬ x = y → B) := by
  subst hx hy
  rw [nI_eq ha hb]
  exact ⟨f, g⟩
theorem pk_in {x : Int32} (n N : Nat) (h : n < N) (hx : x = nI n := by rfl) (hN : N < 2 ^ 31 := by omega) : vp_in x N := by
  subst hx
  exact vp_in_nI h hN
theorem pk_cl {x : Int32} (n : Nat) (hx : x = nI n := by rfl) (h : n < 2 ^ 31 := by omega) : x.toNatClampNeg = n := by
  subst hx
  exact nI_clamp h
theorem pk_tn {n : Nat} (h : n < 2 ^ 32) : (nI n).toBitVec.toNat = n := Nat.mod_eq_of_lt h
theorem pk_and (x : Int32) {m : Int32} (k : Nat) (hm : m.toBitVec.toNat = 2 ^ k - 1) : x &&& m = nI (x.toBitVec.toNat % 2 ^ k) := by
  apply Int32.toBitVec_inj.mp
  apply BitVec.eq_of_toNat_eq
  rw [Int32.toBitVec_and, BitVec.toNat_and, hm, Nat.and_two_pow_sub_one_eq_mod]
  show _ = (BitVec.ofNat 32 _).toNat
  rw [BitVec.toNat_ofNat]
  exact (Nat.mod_eq_of_lt (Nat.lt_of_le_of_lt (Nat.mod_le _ _) x.toBitVec.isLt)).symm
theorem pk_andN {n : Nat} (h : n < 2 ^ 32) {m : Int32} (k : Nat) (hm : m.toBitVec.toNat = 2 ^ k - 1) : nI n &&& m = nI (n % 2 ^ k) := by
  rw [pk_and _ k hm, pk_tn h]
theorem pk_andE (x : Int32) {m : Int32} (k : Nat) (hm : m.toBitVec.toNat = 2 ^ k - 1) : ∃ j : Nat, j < 2 ^ k ∧ x &&& m = nI j := ⟨_, Nat.mod_lt _ (Nat.two_pow_pos k), pk_and x k hm⟩
theorem pk_andIn (x : Int32) {m : Int32} (k : Nat) (hm : m.toBitVec.toNat = 2 ^ k - 1) (hk : k ≤ 30) : vp_in (x &&& m) (2 ^ k) := by
  obtain ⟨j, hj, e⟩ := pk_andE x k hm
  rw [e]
  exact vp_in_nI hj (Nat.lt_of_le_of_lt (Nat.pow_le_pow_right (by decide) hk) (by decide))
theorem pk_shl (a s : Int32) (k : Nat) (hs : (s.toBitVec.smod 32).toNat = k) : (a <<< s).toBitVec.toNat = a.toBitVec.toNat * 2 ^ k % 2 ^ 32 := by
  show (a.toBitVec <<< (s.toBitVec.smod 32).toNat).toNat = _
  rw [hs, BitVec.toNat_shiftLeft, Nat.shiftLeft_eq]
theorem pk_shlN {n : Nat} (s : Int32) (k : Nat) (hs : (s.toBitVec.smod 32).toNat = k) (h : n * 2 ^ k < 2 ^ 32) : nI n <<< s = nI (n * 2 ^ k) := by
  apply Int32.toBitVec_inj.mp
  apply BitVec.eq_of_toNat_eq
  have hn : n < 2 ^ 32 := Nat.lt_of_le_of_lt (Nat.le_mul_of_pos_right n (Nat.two_pow_pos k)) h
  rw [pk_shl _ _ k hs, pk_tn hn, pk_tn h, Nat.mod_eq_of_lt h]
theorem pk_shr (a s : Int32) (k : Nat) (hs : (s.toBitVec.smod 32).toNat = k) : (a >>> s).toInt = a.toInt >>> k := by
  show (a.toBitVec.sshiftRight (s.toBitVec.smod 32).toNat).toInt = _
  rw [hs, BitVec.toInt_sshiftRight]
  rfl
theorem pk_shrN {n : Nat} (h : n < 2 ^ 31) (s : Int32) (k : Nat) (hs : (s.toBitVec.smod 32).toNat = k) : nI n >>> s = nI (n / 2 ^ k) := by
  apply Int32.toInt_inj.mp
  have h2 : n / 2 ^ k ≤ n := Nat.div_le_self _ _
  rw [pk_shr _ _ k hs, nI_toInt h, nI_toInt (by omega), Int.shiftRight_eq_div_pow]
  rfl
theorem pk_ushr (x s : Int32) (k : Nat) (hs : ((s.toUInt32 &&& Int32.toUInt32 31).toBitVec % 32).toNat = k) : (x.toUInt32 >>> (s.toUInt32 &&& Int32.toUInt32 31)).toInt32.toBitVec.toNat = x.toBitVec.toNat / 2 ^ k := by
  have e : (x.toUInt32 >>> (s.toUInt32 &&& Int32.toUInt32 31)).toInt32.toBitVec = x.toBitVec >>> k := by
    rw [← hs]
    exact UInt32.toBitVec_shiftRight _ _
  rw [e, BitVec.toNat_ushiftRight, Nat.shiftRight_eq_div_pow]
theorem pk_ushrN {n : Nat} (hn : n < 2 ^ 32) (s : Int32) (k : Nat) (hs : ((s.toUInt32 &&& Int32.toUInt32 31).toBitVec % 32).toNat = k) : ((nI n).toUInt32 >>> (s.toUInt32 &&& Int32.toUInt32 31)).toInt32 = nI (n / 2 ^ k) := by
  apply Int32.toBitVec_inj.mp
  apply BitVec.eq_of_toNat_eq
  rw [pk_ushr _ s k hs, pk_tn hn, pk_tn (Nat.lt_of_le_of_lt (Nat.div_le_self _ _) hn)]
theorem pk_nb (z : Int32) : narrow .byte (.int z.toInt8.toInt32) = .int z.toInt8.toInt32 := congrArg Value.int (by simp)
theorem pk_ns (z : Int32) : narrow .short (.int z.toInt16.toInt32) = .int z.toInt16.toInt32 := congrArg Value.int (by simp)
theorem pk_fb (r : Int32) : fits .byte (.int r.toInt8.toInt32) = true := by
  have ⟨a, b⟩ := lg_i2b_range r
  have h1 : (-128 : Int32).toInt = -128 := by decide
  have h2 : (127 : Int32).toInt = 127 := by decide
  simp only [fits, Bool.and_eq_true, decide_eq_true_eq, Int32.le_iff_toInt_le, h1, h2]
  omega
theorem pk_fs (r : Int32) : fits .short (.int r.toInt16.toInt32) = true := by
  have ⟨a, b⟩ := lg_i2s_range r
  have h1 : (-32768 : Int32).toInt = -32768 := by decide
  have h2 : (32767 : Int32).toInt = 32767 := by decide
  simp only [fits, Bool.and_eq_true, decide_eq_true_eq, Int32.le_iff_toInt_le, h1, h2]
  omega
theorem pk_charN {q : Nat} (hq : q < 65536) : narrow .char (.int (nI q)) = .int (nI q) ∧ fits .char (.int (nI q)) = true := by
  constructor
  · have e : (nI q).toUInt32.toUInt16.toUInt32.toInt32 = nI q := by
      apply Int32.toBitVec_inj.mp
      apply BitVec.eq_of_toNat_eq
      show (nI q).toUInt32.toUInt16.toUInt32.toNat = q % 2 ^ 32
      rw [UInt16.toNat_toUInt32, UInt32.toNat_toUInt16, show (nI q).toUInt32.toNat = q % 2 ^ 32 from rfl]
      omega
    exact congrArg Value.int e
  · have a : (0 : Int32) ≤ nI q := nI_pos' (by omega)
    have b : nI q ≤ 65535 := nI_le (b := 65535) (by omega) (by decide)
    show (decide ((0 : Int32) ≤ nI q) && decide (nI q ≤ 65535)) = true
    rw [decide_eq_true a, decide_eq_true b]
    rfl
theorem pk_char (x : Int32) : (x.toUInt32 % 65536).toInt32 = nI (x.toBitVec.toNat % 65536) := by
  apply Int32.toBitVec_inj.mp
  apply BitVec.eq_of_toNat_eq
  rw [pk_tn (by omega)]
  show (x.toUInt32 % 65536).toNat = _
  rw [UInt32.toNat_mod]
  rfl
theorem pk_nc (x : Int32) : narrow .char (.int (x.toUInt32 % 65536).toInt32) = .int (x.toUInt32 % 65536).toInt32 := by
  rw [pk_char]
  exact (pk_charN (Nat.mod_lt _ (by decide))).1
theorem pk_fc (x : Int32) : fits .char (.int (x.toUInt32 % 65536).toInt32) = true := by
  rw [pk_char]
  exact (pk_charN (Nat.mod_lt _ (by decide))).2
theorem pk_vb (z : Int32) : vp_nar .byte z.toInt8.toInt32 = z.toInt8.toInt32 := by rw [vp_nar_byte]; simp
theorem pk_vs (z : Int32) : vp_nar .short z.toInt16.toInt32 = z.toInt16.toInt32 := by rw [vp_nar_short]; simp
theorem pk_vc (z : Int32) : vp_nar .char (z.toUInt32 % 65536).toInt32 = (z.toUInt32 % 65536).toInt32 := Value.int.inj (pk_nc z)
/-! ===== Int32 by its bits: bt x i ===== -/
def bt (x : Int32) (i : Nat) : Bool := x.toBitVec.getLsbD i
theorem b_ext {x y : Int32} (h : ∀ i, i < 32 → bt x i = bt y i) : x = y := Int32.toBitVec_inj.mp (BitVec.eq_of_getLsbD_eq (fun i hi => h i hi))
theorem b_or (x y : Int32) (i : Nat) : bt (x ||| y) i = (bt x i || bt y i) := by unfold bt; rw [Int32.toBitVec_or, BitVec.getLsbD_or]
theorem b_and (x y : Int32) (i : Nat) : bt (x &&& y) i = (bt x i && bt y i) := by unfold bt; rw [Int32.toBitVec_and, BitVec.getLsbD_and]
theorem b_xor (x y : Int32) (i : Nat) : bt (x ^^^ y) i = (bt x i ^^ bt y i) := by unfold bt; rw [Int32.toBitVec_xor, BitVec.getLsbD_xor]
theorem b_big {x : Int32} {i : Nat} (h : 32 ≤ i) : bt x i = false := BitVec.getLsbD_of_ge _ _ h
theorem b_255 (i : Nat) : bt 255 i = decide (i < 8) := by
  rcases Nat.lt_or_ge i 32 with h | h
  · exact (by decide +kernel : ∀ i, i < 32 → bt 255 i = decide (i < 8)) i h
  · rw [b_big h, decide_eq_false (by omega)]
theorem b_65535 (i : Nat) : bt 65535 i = decide (i < 16) := by
  rcases Nat.lt_or_ge i 32 with h | h
  · exact (by decide +kernel : ∀ i, i < 32 → bt 65535 i = decide (i < 16)) i h
  · rw [b_big h, decide_eq_false (by omega)]
theorem b_m1 : ∀ i, i < 32 → bt (-1) i = true := by decide +kernel
theorem b_0 (i : Nat) : bt 0 i = false := BitVec.getLsbD_zero
theorem s_l : ∀ n, n < 32 → ((nI n &&& 31).toBitVec.smod 32).toNat = n := by decide +kernel
theorem s_u : ∀ n, n < 32 → (((nI n).toUInt32 &&& Int32.toUInt32 31).toBitVec % 32).toNat = n := by decide +kernel
theorem b_shl (n : Nat) (hn : n < 32) (x : Int32) {i : Nat} (hi : i < 32) : bt (x <<< (nI n &&& 31)) i = (decide (n ≤ i) && bt x (i - n)) := by
  unfold bt
  rw [Int32.toBitVec_shiftLeft]
  show (x.toBitVec <<< ((nI n &&& 31).toBitVec.smod 32).toNat).getLsbD i = _
  rw [s_l n hn, BitVec.getLsbD_shiftLeft]
  rcases Nat.lt_or_ge i n with h | h
  · simp [h, Nat.not_le.mpr h]
  · simp [hi, h, Nat.not_lt.mpr h]
theorem b_ushr (n : Nat) (hn : n < 32) (x : Int32) (i : Nat) : bt ((x.toUInt32 >>> ((nI n).toUInt32 &&& Int32.toUInt32 31)).toInt32) i = bt x (n + i) := by
  show (x.toUInt32 >>> ((nI n).toUInt32 &&& Int32.toUInt32 31)).toBitVec.getLsbD i = x.toUInt32.toBitVec.getLsbD (n + i)
  rw [UInt32.toBitVec_shiftRight]
  show (x.toUInt32.toBitVec >>> (((nI n).toUInt32 &&& Int32.toUInt32 31).toBitVec % 32).toNat).getLsbD i = _
  rw [s_u n hn, BitVec.getLsbD_ushiftRight]
theorem b_sshr (n : Nat) (hn : n < 32) (x : Int32) {i : Nat} (hi : i < 32) : bt (x >>> (nI n &&& 31)) i = if n + i < 32 then bt x (n + i) else bt x 31 := by
  unfold bt
  rw [Int32.toBitVec_shiftRight]
  show (x.toBitVec.sshiftRight ((nI n &&& 31).toBitVec.smod 32).toNat).getLsbD i = _
  rw [s_l n hn, BitVec.getLsbD_sshiftRight, BitVec.msb_eq_getLsbD_last]
  simp [hi]
theorem b_shl8 (x : Int32) {i : Nat} (hi : i < 32) : bt (x <<< ((8 : Int32) &&& 31)) i = (decide (8 ≤ i) && bt x (i - 8)) := b_shl 8 (by omega) x hi
theorem b_shl16 (x : Int32) {i : Nat} (hi : i < 32) : bt (x <<< ((16 : Int32) &&& 31)) i = (decide (16 ≤ i) && bt x (i - 16)) := b_shl 16 (by omega) x hi
theorem b_shl24 (x : Int32) {i : Nat} (hi : i < 32) : bt (x <<< ((24 : Int32) &&& 31)) i = (decide (24 ≤ i) && bt x (i - 24)) := b_shl 24 (by omega) x hi
theorem b_sshr8 (x : Int32) {i : Nat} (hi : i < 32) : bt (x >>> ((8 : Int32) &&& 31)) i = if 8 + i < 32 then bt x (8 + i) else bt x 31 := b_sshr 8 (by omega) x hi
/-! ===== a byte read unsigned ===== -/
theorem bp_b (x : Int32) : x.toInt8.toInt32 &&& 255 = x &&& 255 := by
  apply Int32.toBitVec_inj.mp
  rw [Int32.toBitVec_and, Int32.toBitVec_and, Int8.toBitVec_toInt32, Int32.toBitVec_toInt8]
  apply BitVec.eq_of_getLsbD_eq
  intro i hi
  rw [BitVec.getLsbD_and, BitVec.getLsbD_and]
  have hm : ∀ i < 32, 8 ≤ i → (255 : Int32).toBitVec.getLsbD i = false := by decide
  rcases Nat.lt_or_ge i 8 with z | z
  · rw [BitVec.getLsbD_signExtend, BitVec.getLsbD_signExtend, if_pos z, if_pos hi]
    simp only [z, hi, decide_true, Bool.true_and]
  · rw [hm i hi z]; simp
/-! ===== lN n to 2^64: shifts, and, or, masks, one bit ===== -/
theorem wb_tb (n : Nat) : (lN n).toBitVec = BitVec.ofNat 64 n := rfl
theorem wb_inj {a b : Int64} (h : a.toBitVec = b.toBitVec) : a = b := Int64.toBitVec_inj.mp h
theorem wb_tn {n : Nat} (h : n < 2 ^ 64) : (lN n).toBitVec.toNat = n := by rw [wb_tb, BitVec.toNat_ofNat, Nat.mod_eq_of_lt h]
theorem wb_of (x : Int64) : ∃ n, n < 2 ^ 64 ∧ x = lN n := ⟨x.toBitVec.toNat, x.toBitVec.isLt, wb_inj (by rw [wb_tb]; simp)⟩
theorem wb_of32 (x : Int32) : ∃ n, n < 2 ^ 32 ∧ x = nI n := ⟨x.toBitVec.toNat, x.toBitVec.isLt, Int32.toBitVec_inj.mp (by show _ = BitVec.ofNat 32 _; simp)⟩
theorem wb_c : ∀ k, k < 64 → ((nI k).toInt64 &&& 63) = lN k := by decide +kernel
theorem wb_cu : ∀ k, k < 64 → ((nI k).toInt64.toUInt64 &&& Int64.toUInt64 63) = UInt64.ofNat k := by decide +kernel
theorem wb_sm : ∀ k, k < 64 → (BitVec.ofNat 64 k).smod 64 = BitVec.ofNat 64 k := by decide +kernel
theorem wb_pw {a b : Nat} (h : a ≤ b) : 2 ^ b = 2 ^ a * 2 ^ (b - a) := by rw [← Nat.pow_add]; congr 1; omega
theorem wb_lt2 {a b : Nat} (h : a < b) : 2 ^ a < 2 ^ b := Nat.pow_lt_pow_right (by decide) h
theorem wb_mod (n : Nat) : lN n = lN (n % 2 ^ 64) := wb_inj (by rw [wb_tb, wb_tb]; apply BitVec.eq_of_toNat_eq; rw [BitVec.toNat_ofNat, BitVec.toNat_ofNat, Nat.mod_mod])
theorem wb_shr {n k : Nat} (hn : n < 2 ^ 64) (hk : k < 64) : ((lN n).toUInt64 >>> ((nI k).toInt64.toUInt64 &&& Int64.toUInt64 63)).toInt64 = lN (n / 2 ^ k) := by
  rw [wb_cu k hk]
  apply wb_inj
  apply BitVec.eq_of_toNat_eq
  show ((lN n).toUInt64 >>> UInt64.ofNat k).toNat = (BitVec.ofNat 64 _).toNat
  have h1 : (UInt64.ofNat k).toNat = k := by
    show (BitVec.ofNat 64 k).toNat = k
    rw [BitVec.toNat_ofNat, Nat.mod_eq_of_lt (by omega)]
  have h2 : (lN n).toUInt64.toNat = n := wb_tn hn
  rw [UInt64.toNat_shiftRight, h1, h2, Nat.mod_eq_of_lt hk, Nat.shiftRight_eq_div_pow, BitVec.toNat_ofNat, Nat.mod_eq_of_lt (Nat.lt_of_le_of_lt (Nat.div_le_self _ _) hn)]
theorem wb_shl (n : Nat) {k : Nat} (hk : k < 64) : lN n <<< ((nI k).toInt64 &&& 63) = lN (n * 2 ^ k) := by
  rw [wb_c k hk]
  apply wb_inj
  rw [Int64.toBitVec_shiftLeft, wb_tb, wb_tb, wb_tb, wb_sm k hk]
  apply BitVec.eq_of_toNat_eq
  rw [BitVec.shiftLeft_eq', BitVec.toNat_shiftLeft, BitVec.toNat_ofNat, BitVec.toNat_ofNat, BitVec.toNat_ofNat, Nat.mod_eq_of_lt (show k < 2 ^ 64 by omega), Nat.shiftLeft_eq, Nat.mul_mod, Nat.mod_mod, ← Nat.mul_mod]
theorem wb_and {a b : Nat} (ha : a < 2 ^ 64) (hb : b < 2 ^ 64) : lN a &&& lN b = lN (a &&& b) := by
  apply wb_inj
  rw [Int64.toBitVec_and, wb_tb, wb_tb, wb_tb]
  apply BitVec.eq_of_toNat_eq
  rw [BitVec.toNat_and, BitVec.toNat_ofNat, BitVec.toNat_ofNat, BitVec.toNat_ofNat, Nat.mod_eq_of_lt ha, Nat.mod_eq_of_lt hb, Nat.mod_eq_of_lt (Nat.and_lt_two_pow _ hb)]
theorem wb_or {a b : Nat} (ha : a < 2 ^ 64) (hb : b < 2 ^ 64) : lN a ||| lN b = lN (a ||| b) := by
  apply wb_inj
  rw [Int64.toBitVec_or, wb_tb, wb_tb, wb_tb]
  apply BitVec.eq_of_toNat_eq
  rw [BitVec.toNat_or, BitVec.toNat_ofNat, BitVec.toNat_ofNat, BitVec.toNat_ofNat, Nat.mod_eq_of_lt ha, Nat.mod_eq_of_lt hb, Nat.mod_eq_of_lt (Nat.or_lt_two_pow ha hb)]
theorem wb_mask {n k : Nat} (hn : n < 2 ^ 64) (hk : k < 64) : lN n &&& lN (2 ^ k - 1) = lN (n % 2 ^ k) := by
  rw [wb_and hn (by have := wb_lt2 hk; omega), Nat.and_two_pow_sub_one_eq_mod]
theorem wb_a1 {n : Nat} (hn : n < 2 ^ 64) : lN n &&& 1 = lN (n % 2) := wb_mask (k := 1) hn (by decide)
theorem wb_bit {n k : Nat} (hn : n < 2 ^ 64) (hk : k < 64) : ((lN n).toUInt64 >>> ((nI k).toInt64.toUInt64 &&& Int64.toUInt64 63)).toInt64 &&& 1 = lN (n / 2 ^ k % 2) := by
  rw [wb_shr hn hk, wb_a1 (Nat.lt_of_le_of_lt (Nat.div_le_self _ _) hn)]
theorem wb_xor {q k : Nat} (hk : k < 63) (h : 2 ^ k ≤ q) (h2 : q < 2 ^ (k + 1)) : lN q ^^^ lN (2 ^ k) = lN (q - 2 ^ k) := by
  obtain ⟨r, rfl⟩ : ∃ r, q = 2 ^ k + r := ⟨q - 2 ^ k, by omega⟩
  have hr : r < 2 ^ k := by rw [Nat.pow_succ] at h2; omega
  have hx : (2 ^ k + r) ^^^ 2 ^ k = r := by
    apply Nat.eq_of_testBit_eq
    intro i
    rw [Nat.testBit_xor, Nat.testBit_two_pow]
    rcases Nat.lt_trichotomy i k with h | h | h
    · rw [Nat.testBit_two_pow_add_gt h]
      simp [show ¬ k = i by omega]
    · subst h
      rw [Nat.testBit_two_pow_add_eq]
      simp
    · have a1 : 2 ^ (k + 1) ≤ 2 ^ i := Nat.pow_le_pow_right (by decide) h
      rw [Nat.testBit_lt_two_pow (show 2 ^ k + r < 2 ^ i by omega), Nat.testBit_lt_two_pow (show r < 2 ^ i by omega)]
      simp [show ¬ k = i by omega]
  have b1 := wb_lt2 (show k + 1 < 64 by omega)
  have b2 := wb_lt2 (show k < 64 by omega)
  apply wb_inj
  rw [Int64.toBitVec_xor, wb_tb, wb_tb, wb_tb]
  apply BitVec.eq_of_toNat_eq
  rw [BitVec.toNat_xor, BitVec.toNat_ofNat, BitVec.toNat_ofNat, BitVec.toNat_ofNat, Nat.mod_eq_of_lt (by omega : 2 ^ k + r < 2 ^ 64), Nat.mod_eq_of_lt b2, hx, Nat.add_sub_cancel_left, Nat.mod_eq_of_lt (by omega)]
/-! ===== lN: masks, 'or' of parts that don't overlap is a sum ===== -/
theorem u_tn {n : Nat} (h : n < 2 ^ 64) : (UInt64.ofNat n).toNat = n := Nat.mod_eq_of_lt h
theorem g_and {a b c : Nat} (ha : a < 2 ^ 64) (hb : b < 2 ^ 64) (hc : a &&& b = c) : lN a &&& lN b = lN c := by
  subst hc
  have h : UInt64.ofNat a &&& UInt64.ofNat b = UInt64.ofNat (a &&& b) := UInt64.toNat_inj.mp (by rw [UInt64.toNat_and, u_tn ha, u_tn hb, u_tn (Nat.and_lt_two_pow a hb)])
  have h2 := congrArg UInt64.toInt64 h
  exact h2
theorem g_and1 {a : Nat} (ha : a < 2 ^ 64) : lN a &&& 1 = lN (a % 2) := g_and (b := 1) ha (by decide) (Nat.and_two_pow_sub_one_eq_mod a 1)
theorem g_mask {a s p : Nat} (hp : 2 ^ s = p) (hs : s < 64) (ha : a < 2 ^ 64) : lN a &&& lN (p - 1) = lN (a % p) := by
  subst hp
  have := Nat.pow_lt_pow_right (show 1 < 2 by decide) hs
  exact g_and ha (by omega) (Nat.and_two_pow_sub_one_eq_mod a s)
theorem g_or {k p a b : Nat} (hp : 2 ^ k = p) (ha : a < p) (h : b * p + a < 2 ^ 64) : lN (b * p) ||| lN a = lN (b * p + a) := by
  subst hp
  have h1 : b * 2 ^ k ||| a = b * 2 ^ k + a := by rw [← Nat.shiftLeft_eq, Nat.shiftLeft_add_eq_or_of_lt ha]
  have h3 : UInt64.ofNat (b * 2 ^ k) ||| UInt64.ofNat a = UInt64.ofNat (b * 2 ^ k + a) := UInt64.toNat_inj.mp (by rw [UInt64.toNat_or, u_tn (by omega), u_tn (by omega), u_tn h, h1])
  have h2 := congrArg UInt64.toInt64 h3
  exact h2
theorem g_or' {k p a b : Nat} (hp : 2 ^ k = p) (ha : a < p) (h : a + b * p < 2 ^ 64) : lN a ||| lN (b * p) = lN (a + b * p) := by
  rw [Int64.or_comm, g_or hp ha (by omega), Nat.add_comm]
theorem g_ushr {a k p : Nat} {y : UInt64} (hy : y = UInt64.ofNat k) (hk : k < 64) (hp : 2 ^ k = p) (ha : a < 2 ^ 64) : ((lN a).toUInt64 >>> y).toInt64 = lN (a / p) := by
  subst hy hp
  have h : UInt64.ofNat a >>> UInt64.ofNat k = UInt64.ofNat (a / 2 ^ k) := UInt64.toNat_inj.mp (by rw [UInt64.toNat_shiftRight, u_tn ha, u_tn (by omega), u_tn (Nat.lt_of_le_of_lt (Nat.div_le_self _ _) ha), Nat.mod_eq_of_lt hk, Nat.shiftRight_eq_div_pow])
  have h2 := congrArg UInt64.toInt64 h
  exact h2
theorem g_shl {a k p : Nat} {y : Int64} (hy : y.toBitVec.smod 64 = BitVec.ofNat 64 k) (hk : k < 64) (hp : 2 ^ k = p) (ha : a < 2 ^ 64) : lN a <<< y = lN (a * p) := by
  subst hp
  apply Int64.toBitVec_inj.mp
  rw [Int64.toBitVec_shiftLeft, hy]
  apply BitVec.eq_of_toNat_eq
  have hb : (lN a).toBitVec.toNat = a := Nat.mod_eq_of_lt ha
  have hk' : (BitVec.ofNat 64 k).toNat = k := Nat.mod_eq_of_lt (by omega)
  have h : ((lN a).toBitVec <<< BitVec.ofNat 64 k).toNat = (a * 2 ^ k) % 2 ^ 64 := by simp only [BitVec.shiftLeft_eq', BitVec.toNat_shiftLeft, hb, hk', Nat.shiftLeft_eq]
  exact h
end
section
/-! own rows on bits: the byte that X stores, the char that Y stores, shorts, the path's word, the header -/
/-- the byte that X stores for v -/
def ta_b (v : Int32) : Int32 := vp_nar .byte v.toInt8.toInt32
/-- v >>> k -/
def ta_u (k v : Int32) : Int32 := (v.toUInt32 >>> (k.toUInt32 &&& Int32.toUInt32 31)).toInt32
theorem ta_b255 (v : Int32) : ta_b v &&& 255 = v &&& 255 := by
  unfold ta_b
  rw [pk_vb, bp_b]
theorem ta_255 (n : Nat) : nI n &&& 255 = nI (n % 256) := by
  rw [pk_and (nI n) 8 (by decide)]
  have h : (nI n).toBitVec.toNat = n % 2 ^ 32 := rfl
  rw [h]
  exact congrArg nI (by omega)
theorem ta_c255 (v : Int32) : vp_nar .char (((v &&& 255).toUInt32 % 65536).toInt32) = v &&& 255 := by
  rw [pk_vc, pk_char, pk_and v 8 (by decide)]
  rw [pk_tn (by omega)]
  exact congrArg nI (by omega)
theorem ta_s16 (v : Int32) {i : Nat} (hi : i < 16) : bt v.toInt16.toInt32 i = bt v i := by
  have h32 : i < 32 := by omega
  unfold bt
  rw [Int16.toBitVec_toInt32, Int32.toBitVec_toInt16]
  rw [BitVec.getLsbD_signExtend, BitVec.getLsbD_signExtend, if_pos hi, if_pos h32]
  simp only [hi, h32, decide_true, Bool.true_and]
theorem ta_s1 (v : Int32) : v.toInt16.toInt32 &&& 255 = v &&& 255 := by
  apply b_ext
  intro i hi
  rw [b_and, b_and, b_255]
  rcases Nat.lt_or_ge i 8 with z | z
  · rw [ta_s16 v (by omega)]
  · rw [decide_eq_false (by omega), Bool.and_false, Bool.and_false]
theorem ta_s2 (v : Int32) : ta_u 8 v.toInt16.toInt32 &&& 255 = ta_u 8 v &&& 255 := by
  apply b_ext
  intro i hi
  rw [b_and, b_and, b_255]
  rcases Nat.lt_or_ge i 8 with z | z
  · have e : ∀ x : Int32, bt (ta_u 8 x) i = bt x (8 + i) := fun x => b_ushr 8 (by omega) x i
    rw [e, e, ta_s16 v (by omega)]
  · rw [decide_eq_false (by omega), Bool.and_false, Bool.and_false]
/-- the two low bytes of x and y are alike -/
def ta_S (x y : Int32) : Prop := ta_u 8 x &&& 255 = ta_u 8 y &&& 255 ∧ x &&& 255 = y &&& 255
theorem ta_Ss (v : Int32) : ta_S v (vp_nar .short v.toInt16.toInt32) := by
  rw [pk_vs]
  exact ⟨(ta_s2 v).symm, (ta_s1 v).symm⟩
/-- the path's word: kind and argument -/
def ta_pw (x1 x2 : Int32) : Int32 := vp_nar .char ((((x1 <<< ((8 : Int32) &&& 31)) ||| x2).toUInt32 % 65536).toInt32)
theorem ta_pw1 : ∀ k, k < 4 → ∀ a, a < 256 → ta_u 8 (ta_pw (nI k) (nI a)) &&& 255 = nI k &&& 255 := by decide +kernel
theorem ta_pw2 : ∀ k, k < 4 → ∀ a, a < 256 → ta_pw (nI k) (nI a) &&& 255 = nI a &&& 255 := by decide +kernel
/-- the header's eight bytes as one number: name index, length, count -/
def ta_H (x : Int32) (l c : Nat) : Nat := x.toBitVec.toNat % 65536 * 281474976710656 + l * 65536 + c
theorem ta_Hlt (x : Int32) {l c : Nat} (hl : l < 65536) (hc : c < 65536) : ta_H x l c < 2 ^ 64 := by
  unfold ta_H
  generalize x.toBitVec.toNat = m
  omega
theorem ta_head (x : Int32) {l c : Nat} (hl : l < 65536) (hc : c < 65536) :
    ((((x.toUInt32 % 65536).toInt32).toInt64 <<< ((48 : Int32).toInt64 &&& 63)) ||| ((nI l).toInt64 <<< ((16 : Int32).toInt64 &&& 63))) ||| (nI c).toInt64 = lN (ta_H x l c) := by
  unfold ta_H
  rw [pk_char]
  have hm : x.toBitVec.toNat % 65536 < 65536 := Nat.mod_lt _ (by decide)
  generalize x.toBitVec.toNat % 65536 = w at hm
  rw [nI_l (by omega), nI_l (by omega), nI_l (by omega)]
  have e1 : lN w <<< ((48 : Int32).toInt64 &&& 63) = lN (w * 281474976710656) := wb_shl w (k := 48) (by decide)
  have e2 : lN l <<< ((16 : Int32).toInt64 &&& 63) = lN (l * 65536) := wb_shl l (k := 16) (by decide)
  rw [e1, e2, g_or (k := 48) (by decide) (by omega) (by omega)]
  have e3 : w * 281474976710656 + l * 65536 = (w * 4294967296 + l) * 65536 := by omega
  rw [e3, g_or (k := 16) (by decide) (by omega) (by omega)]
theorem ta_len (x : Int32) {l c : Nat} (hl : l < 65536) (hc : c < 65536) :
    ((lN (ta_H x l c)).toUInt64 >>> ((16 : Int32).toInt64.toUInt64 &&& Int64.toUInt64 63)).toInt64 &&& 4294967295 = lN l := by
  have h := ta_Hlt x hl hc
  have e1 : ((lN (ta_H x l c)).toUInt64 >>> ((16 : Int32).toInt64.toUInt64 &&& Int64.toUInt64 63)).toInt64 = lN (ta_H x l c / 65536) := wb_shr (k := 16) h (by decide)
  have e2 : lN (ta_H x l c / 65536) &&& 4294967295 = lN (ta_H x l c / 65536 % 4294967296) := wb_mask (k := 32) (by omega) (by decide)
  rw [e1, e2]
  unfold ta_H
  generalize x.toBitVec.toNat = m
  exact congrArg lN (by omega)
/-- byte i of the header's number -/
def ta_hb (H i : Nat) : Int32 := nI (H / 2 ^ (56 - 8 * i) % 256)
theorem ta_at (H : Nat) (hH : H < 2 ^ 64) (i : Nat) (hi : i < 8) : ((((lN H).toUInt64 >>> ((56 - (8 * nI i)).toInt64.toUInt64 &&& Int64.toUInt64 63)).toInt64).toInt32) &&& 255 = ta_hb H i := by
  have e : (56 : Int32) - 8 * nI i = nI (56 - 8 * i) := (by decide +kernel : ∀ i, i < 8 → (56 : Int32) - 8 * nI i = nI (56 - 8 * i)) i hi
  rw [e, wb_shr hH (by omega), lN_i, ta_255]
  rfl
theorem ta_uN {m : Nat} (hm : m < 2 ^ 32) (s : Int32) (k : Nat) (hs : ((s.toUInt32 &&& Int32.toUInt32 31).toBitVec % 32).toNat = k) : ta_u s (nI m) = nI (m / 2 ^ k) := pk_ushrN hm s k hs
/-- X's eight stores of finish -/
def ta_f8 (x y z : Int32) (a : Nat → Int32) : Nat → Int32 := upd (upd (upd (upd (upd (upd (upd (upd a 0 (ta_b (ta_u 8 x))) 1 (ta_b x)) 2 (ta_b (ta_u 24 y))) 3 (ta_b (ta_u 16 y))) 4 (ta_b (ta_u 8 y))) 5 (ta_b y)) 6 (ta_b (ta_u 8 z))) 7 (ta_b z)
theorem ta_f8hi (x y z : Int32) (a : Nat → Int32) (i : Nat) (hi : 8 ≤ i) : ta_f8 x y z a i = a i := by
  unfold ta_f8
  rw [pk_un (by omega), pk_un (by omega), pk_un (by omega), pk_un (by omega), pk_un (by omega), pk_un (by omega), pk_un (by omega), pk_un (by omega)]
theorem ta_f8lo (x : Int32) {l c : Nat} (hl : l < 256) (hc : c < 256) (a : Nat → Int32) : ∀ i, i < 8 → ta_f8 x (nI l) (nI c) a i &&& 255 = ta_hb (ta_H x l c) i := by
  obtain ⟨m, hm, rfl⟩ := wb_of32 x
  unfold ta_H
  rw [pk_tn hm]
  intro i hi
  have h0 : ta_b (ta_u 8 (nI m)) &&& 255 = ta_hb (m % 65536 * 281474976710656 + l * 65536 + c) 0 := by
    rw [ta_b255, ta_uN hm 8 8 (by decide), ta_255]
    exact congrArg nI (by omega)
  have h1 : ta_b (nI m) &&& 255 = ta_hb (m % 65536 * 281474976710656 + l * 65536 + c) 1 := by
    rw [ta_b255, ta_255]
    exact congrArg nI (by omega)
  have h2 : ta_b (ta_u 24 (nI l)) &&& 255 = ta_hb (m % 65536 * 281474976710656 + l * 65536 + c) 2 := by
    rw [ta_b255, ta_uN (by omega) 24 24 (by decide), ta_255]
    exact congrArg nI (by omega)
  have h3 : ta_b (ta_u 16 (nI l)) &&& 255 = ta_hb (m % 65536 * 281474976710656 + l * 65536 + c) 3 := by
    rw [ta_b255, ta_uN (by omega) 16 16 (by decide), ta_255]
    exact congrArg nI (by omega)
  have h4 : ta_b (ta_u 8 (nI l)) &&& 255 = ta_hb (m % 65536 * 281474976710656 + l * 65536 + c) 4 := by
    rw [ta_b255, ta_uN (by omega) 8 8 (by decide), ta_255]
    exact congrArg nI (by omega)
  have h5 : ta_b (nI l) &&& 255 = ta_hb (m % 65536 * 281474976710656 + l * 65536 + c) 5 := by
    rw [ta_b255, ta_255]
    exact congrArg nI (by omega)
  have h6 : ta_b (ta_u 8 (nI c)) &&& 255 = ta_hb (m % 65536 * 281474976710656 + l * 65536 + c) 6 := by
    rw [ta_b255, ta_uN (by omega) 8 8 (by decide), ta_255]
    exact congrArg nI (by omega)
  have h7 : ta_b (nI c) &&& 255 = ta_hb (m % 65536 * 281474976710656 + l * 65536 + c) 7 := by
    rw [ta_b255, ta_255]
    exact congrArg nI (by omega)
  match i, hi with
  | 0, _ => exact h0
  | 1, _ => exact h1
  | 2, _ => exact h2
  | 3, _ => exact h3
  | 4, _ => exact h4
  | 5, _ => exact h5
  | 6, _ => exact h6
  | 7, _ => exact h7
end
section
/-! the shapes: X's cascade of tests and Y's table -/
def ta_s99 (t : Int32) : Int32 := if t < 71 then -1 else if 75 < t then -1 else 5
def ta_shp (t : Int32) : Int32 :=
  if t = 0 then 1 else if t = 1 then 1 else if t = 22 then 1 else if t = 16 then 2 else if t = 23 then 2 else if t = 66 then 2 else
  if t = 17 then 3 else if t = 18 then 3 else if t = 19 then 0 else if t = 20 then 0 else if t = 21 then 0 else
  if t = 64 then 4 else if t = 65 then 4 else if t < 67 then ta_s99 t else if 70 < t then ta_s99 t else 2
theorem ta_ite {c : Prop} [Decidable c] {P : Int32 → Prop} {a b : Int32} {A B : Prop} (f : P a → A) (g : P b → B) (h : P (if c then a else b)) : (c → A) ∧ (¬ c → B) :=
  ⟨fun z => f (by rw [if_pos z] at h; exact h), fun z => g (by rw [if_neg z] at h; exact h)⟩
/-- a table with s at i .. i + d - 1 -/
def ta_mk (s : Int32) : Nat → Nat → (Nat → Int32) → (Nat → Int32)
  | _, 0, f => f
  | i, d + 1, f => ta_mk s (i + 1) d (upd f i s)
/-- Y's table as its constructor leaves it -/
def ta_sh : Nat → Int32 := ta_mk (ta_b 25) 71 5 (ta_mk (ta_b 24) 66 5 (ta_mk (ta_b 48) 64 2 (ta_mk (ta_b 24) 23 1 (ta_mk (ta_b 20) 22 1 (ta_mk (ta_b 16) 19 3 (ta_mk (ta_b 21) 17 2 (ta_mk (ta_b 24) 16 1 (ta_mk (ta_b 20) 0 2 (fun _ => 0)))))))))
/-- Y's code of a shape -/
def ta_cd : Nat → Int32
  | 0 => 16
  | 1 => 20
  | 2 => 24
  | 3 => 21
  | 4 => 48
  | _ => 25
theorem ta_tab : ∀ t, t < 76 → (ta_shp (nI t) = -1 ∧ ta_sh t = 0) ∨ (ta_shp (nI t) = nI 0 ∧ ta_sh t = 16) ∨ (ta_shp (nI t) = nI 1 ∧ ta_sh t = 20) ∨ (ta_shp (nI t) = nI 2 ∧ ta_sh t = 24) ∨ (ta_shp (nI t) = nI 3 ∧ ta_sh t = 21) ∨ (ta_shp (nI t) = nI 4 ∧ ta_sh t = 48) ∨ (ta_shp (nI t) = nI 5 ∧ ta_sh t = 25) := by decide +kernel
theorem ta_tb {t : Nat} (h : t < 76) : (ta_shp (nI t) = -1 ∧ ta_sh t = 0) ∨ (¬ ta_sh t = 0 ∧ ∃ s, s < 6 ∧ ta_shp (nI t) = nI s ∧ ta_sh t = ta_cd s) := by
  rcases ta_tab t h with z | ⟨a, b⟩ | ⟨a, b⟩ | ⟨a, b⟩ | ⟨a, b⟩ | ⟨a, b⟩ | ⟨a, b⟩
  · exact Or.inl z
  · exact Or.inr ⟨by rw [b]; decide, 0, by decide, a, b⟩
  · exact Or.inr ⟨by rw [b]; decide, 1, by decide, a, b⟩
  · exact Or.inr ⟨by rw [b]; decide, 2, by decide, a, b⟩
  · exact Or.inr ⟨by rw [b]; decide, 3, by decide, a, b⟩
  · exact Or.inr ⟨by rw [b]; decide, 4, by decide, a, b⟩
  · exact Or.inr ⟨by rw [b]; decide, 5, by decide, a, b⟩
/-- the targets with a table of local variables are 64 and 65 -/
theorem ta_loc : ∀ t, t < 76 → ((nI t = 64 ∨ nI t = 65) ∧ ¬ (ta_sh t &&& 32) = 0) ∨ (¬ nI t = 64 ∧ ¬ nI t = 65 ∧ (ta_sh t &&& 32) = 0) := by decide +kernel
theorem ta_low {x : Int32} (h : x < 0) : ta_shp x = -1 := by
  have n : ∀ y : Int32, 0 ≤ y → ¬ x = y := fun y hy e => Int32.not_le.mpr h (e ▸ hy)
  have h1 : x < 67 := Int32.lt_of_lt_of_le h (by decide)
  have h2 : x < 71 := Int32.lt_of_lt_of_le h (by decide)
  unfold ta_shp ta_s99
  rw [if_neg (n 0 (by decide)), if_neg (n 1 (by decide)), if_neg (n 22 (by decide)), if_neg (n 16 (by decide)), if_neg (n 23 (by decide)), if_neg (n 66 (by decide)), if_neg (n 17 (by decide)), if_neg (n 18 (by decide)), if_neg (n 19 (by decide)), if_neg (n 20 (by decide)), if_neg (n 21 (by decide)), if_neg (n 64 (by decide)), if_neg (n 65 (by decide)), if_pos h1, if_pos h2]
theorem ta_high {x : Int32} (h : nI 76 ≤ x) : ta_shp x = -1 := by
  have n : ∀ y : Int32, y < nI 76 → ¬ x = y := fun y hy e => Int32.not_le.mpr hy (e ▸ h)
  have h1 : ¬ x < 67 := Int32.not_lt.mpr (Int32.le_trans (by decide) h)
  have h2 : ¬ x < 71 := Int32.not_lt.mpr (Int32.le_trans (by decide) h)
  have h3 : 70 < x := Int32.lt_of_lt_of_le (by decide) h
  have h4 : 75 < x := Int32.lt_of_lt_of_le (by decide) h
  unfold ta_shp ta_s99
  rw [if_neg (n 0 (by decide)), if_neg (n 1 (by decide)), if_neg (n 22 (by decide)), if_neg (n 16 (by decide)), if_neg (n 23 (by decide)), if_neg (n 66 (by decide)), if_neg (n 17 (by decide)), if_neg (n 18 (by decide)), if_neg (n 19 (by decide)), if_neg (n 20 (by decide)), if_neg (n 21 (by decide)), if_neg (n 64 (by decide)), if_neg (n 65 (by decide)), if_neg h1, if_pos h3, if_neg h2, if_pos h4]
/-! a run of stores: what X asks for it, what Y asks for it, and the two in lockstep -/
def ta_X (K : Nat → (Nat → Int32) → Prop) : List Int32 → Nat → (Nat → Int32) → Prop
  | [], p, a => K p a
  | v :: L, p, a => p < 48 ∧ ta_X K L (p + 1) (upd a p (ta_b v))
def ta_st (c p : Nat) (v : Int32) (a : Nat → Int32) : Nat → Int32 := if p < c then upd a p v else a
def ta_Y (c : Nat) (K : Nat → (Nat → Int32) → Prop) : List Int32 → Nat → (Nat → Int32) → Prop
  | [], p, a => K p a
  | v :: L, p, a => p < 100 ∧ ta_Y c K L (p + 1) (ta_st c p (v &&& 255) a)
/-- the low bytes of a list -/
def ta_m (L : List Int32) : List Int32 := L.map (fun v => v &&& 255)
theorem ta_mc {v w : Int32} {L M : List Int32} (h : v &&& 255 = w &&& 255) (h2 : ta_m L = ta_m M) : ta_m (v :: L) = ta_m (w :: M) := by
  show (v &&& 255) :: ta_m L = (w &&& 255) :: ta_m M
  rw [h, h2]
theorem ta_ma {L M L' M' : List Int32} (h : ta_m L = ta_m M) (h2 : ta_m L' = ta_m M') : ta_m (L ++ L') = ta_m (M ++ M') := by
  unfold ta_m at *
  rw [List.map_append, List.map_append, h, h2]
theorem ta_ml {L M : List Int32} (h : ta_m L = ta_m M) : M.length = L.length := by
  have := congrArg List.length h
  unfold ta_m at this
  rw [List.length_map, List.length_map] at this
  exact this.symm
theorem ta_lock (c : Nat) (hc : c ≤ 48) : ∀ (L M : List Int32) (p : Nat) (a e : Nat → Int32), ta_m L = ta_m M → p + L.length ≤ c →
    ∃ a' e' : Nat → Int32, (∀ i, i < p → a' i = a i ∧ e' i = e i) ∧ (∀ i, p ≤ i → i < p + L.length → a' i &&& 255 = e' i) ∧
      (∀ K : Nat → (Nat → Int32) → Prop, K (p + L.length) a' → ta_X K L p a) ∧ (∀ K : Nat → (Nat → Int32) → Prop, K (p + L.length) e' → ta_Y c K M p e) := by
  intro L
  induction L with
  | nil =>
    intro M p a e hm _
    cases M with
    | nil => exact ⟨a, e, fun _ _ => ⟨rfl, rfl⟩, fun i h1 h2 => absurd h2 (Nat.not_lt.mpr h1), fun K h => h, fun K h => h⟩
    | cons w M => exact absurd (ta_ml hm) (by simp)
  | cons v L ih =>
    intro M p a e hm hl
    cases M with
    | nil => exact absurd (ta_ml hm) (by simp)
    | cons w M =>
      have h1 : v &&& 255 = w &&& 255 := (List.cons.inj hm).1
      have h2 : ta_m L = ta_m M := (List.cons.inj hm).2
      have el : p + (v :: L).length = p + 1 + L.length := by rw [List.length_cons]; omega
      rw [el] at hl
      obtain ⟨a', e', f1, f2, f3, f4⟩ := ih M (p + 1) (upd a p (ta_b v)) (upd e p (w &&& 255)) h2 hl
      refine ⟨a', e', fun i hi => ?_, fun i hi hi2 => ?_, fun K hK => ?_, fun K hK => ?_⟩
      · have := f1 i (by omega)
        rw [pk_un (by omega), pk_un (by omega)] at this
        exact this
      · rw [el] at hi2
        by_cases z : i = p
        · subst z
          have := f1 i (by omega)
          rw [pk_us, pk_us] at this
          rw [this.1, this.2, ta_b255, h1]
        · exact f2 i (by omega) hi2
      · rw [el] at hK
        exact And.intro (by omega) (f3 K hK)
      · rw [el] at hK
        have es : ta_st c p (w &&& 255) e = upd e p (w &&& 255) := if_pos (by omega)
        refine And.intro (by omega) ?_
        rw [es]
        exact f4 K hK
/-- Y's stores alone, room or not: what lies below stays -/
theorem ta_free (c : Nat) : ∀ (M : List Int32) (p : Nat) (e : Nat → Int32), p + M.length ≤ 100 →
    ∃ e' : Nat → Int32, (∀ i, i < p → e' i = e i) ∧ (∀ K : Nat → (Nat → Int32) → Prop, K (p + M.length) e' → ta_Y c K M p e) := by
  intro M
  induction M with
  | nil => intro p e _; exact ⟨e, fun _ _ => rfl, fun K h => h⟩
  | cons w M ih =>
    intro p e hl
    have el : p + (w :: M).length = p + 1 + M.length := by rw [List.length_cons]; omega
    rw [el] at hl
    obtain ⟨e', f1, f2⟩ := ih (p + 1) (ta_st c p (w &&& 255) e) hl
    refine ⟨e', fun i hi => ?_, fun K hK => ?_⟩
    · rw [f1 i (by omega)]
      unfold ta_st
      by_cases z : p < c
      · rw [if_pos z, pk_un (by omega)]
      · rw [if_neg z]
    · rw [el] at hK
      exact And.intro (by omega) (f2 K hK)
/-! the runs of 'end' -/
/-- X's path -/
def ta_pX (pk pa : Nat → Int32) : Nat → Nat → List Int32
  | _, 0 => []
  | i, d + 1 => pk i :: pa i :: ta_pX pk pa (i + 1) d
/-- X's local variables -/
def ta_rX (ls ll li : Nat → Int32) : Nat → Nat → List Int32
  | _, 0 => []
  | i, d + 1 => ta_u 8 (ls i) :: ls i :: ta_u 8 (ll i) :: ll i :: ta_u 8 (li i) :: li i :: ta_rX ls ll li (i + 1) d
/-- Y's words -/
def ta_ws (f : Nat → Int32) : Nat → Nat → List Int32
  | _, 0 => []
  | i, d + 1 => ta_u 8 (f i) :: f i :: ta_ws f (i + 1) d
/-- X's end: path, type index, no pairs -/
def ta_tX (pk pa : Nat → Int32) (q : Nat) (x : Int32) : List Int32 := nI q :: (ta_pX pk pa 0 q ++ [ta_u 8 x, x, ta_u 8 0, 0])
def ta_tY (pt : Nat → Int32) (q : Nat) (x : Int32) : List Int32 := pt 0 :: (ta_ws pt 1 q ++ [ta_u 8 x, x, ta_u 8 0, 0])
/-- target_info, by the shape -/
def ta_iX (oa ob : Int32) (r : Nat) (ls ll li : Nat → Int32) : Nat → List Int32
  | 0 => []
  | 1 => [oa]
  | 2 => [ta_u 8 oa, oa]
  | 3 => [oa, ob]
  | 4 => ta_u 8 (nI r) :: nI r :: ta_rX ls ll li 0 r
  | _ => [ta_u 8 oa, oa, ob]
def ta_iY (oa ob : Int32) (r : Nat) (ro : Nat → Int32) : Nat → List Int32
  | 0 => []
  | 1 => [oa]
  | 2 => [ta_u 8 oa, oa]
  | 3 => [oa, ob]
  | 4 => ta_ws ro 0 (3 * r + 1)
  | _ => [ta_u 8 oa, oa, ob]
/-- its length -/
def ta_iN (r : Nat) : Nat → Nat
  | 0 => 0
  | 1 => 1
  | 2 => 2
  | 3 => 2
  | 4 => 2 + 6 * r
  | _ => 3
theorem ta_lp (pk pa : Nat → Int32) : ∀ d i, (ta_pX pk pa i d).length = 2 * d := by
  intro d
  induction d with
  | zero => intro i; rfl
  | succ d ih =>
    intro i
    show (ta_pX pk pa (i + 1) d).length + 1 + 1 = _
    rw [ih]
    omega
theorem ta_lr (ls ll li : Nat → Int32) : ∀ d i, (ta_rX ls ll li i d).length = 6 * d := by
  intro d
  induction d with
  | zero => intro i; rfl
  | succ d ih =>
    intro i
    show (ta_rX ls ll li (i + 1) d).length + 1 + 1 + 1 + 1 + 1 + 1 = _
    rw [ih]
    omega
theorem ta_lt (pk pa : Nat → Int32) (q : Nat) (x : Int32) : (ta_tX pk pa q x).length = 5 + 2 * q := by
  show (ta_pX pk pa 0 q ++ [ta_u 8 x, x, ta_u 8 0, 0]).length + 1 = _
  rw [List.length_append, ta_lp]
  show 2 * q + 4 + 1 = _
  omega
theorem ta_li (oa ob : Int32) (r : Nat) (ls ll li : Nat → Int32) {s : Nat} (hs : s < 6) : (ta_iX oa ob r ls ll li s).length = ta_iN r s := by
  match s, hs with
  | 0, _ => rfl
  | 1, _ => rfl
  | 2, _ => rfl
  | 3, _ => rfl
  | 4, _ =>
    show (ta_rX ls ll li 0 r).length + 1 + 1 = 2 + 6 * r
    rw [ta_lr]
    omega
  | 5, _ => rfl
theorem ta_lX (tg oa ob x : Int32) (r q : Nat) (ls ll li pk pa : Nat → Int32) {s : Nat} (hs : s < 6) : (tg :: (ta_iX oa ob r ls ll li s ++ ta_tX pk pa q x)).length = 6 + ta_iN r s + 2 * q := by
  rw [List.length_cons, List.length_append, ta_li _ _ _ _ _ _ hs, ta_lt]
  omega
theorem ta_mp {pk pa pt : Nat → Int32} : ∀ d i, (∀ k, k < i + d → ta_u 8 (pt (k + 1)) &&& 255 = pk k &&& 255 ∧ pt (k + 1) &&& 255 = pa k &&& 255) → ta_m (ta_pX pk pa i d) = ta_m (ta_ws pt (i + 1) d) := by
  intro d
  induction d with
  | zero => intro i _; rfl
  | succ d ih =>
    intro i h
    have hi := h i (by omega)
    exact ta_mc hi.1.symm (ta_mc hi.2.symm (ih (i + 1) (fun k hk => h k (by omega))))
theorem ta_mr {ls ll li ro : Nat → Int32} : ∀ d i, (∀ k, k < i + d → ta_S (ls k) (ro (3 * k + 1)) ∧ ta_S (ll k) (ro (3 * k + 2)) ∧ ta_S (li k) (ro (3 * k + 3))) → ta_m (ta_rX ls ll li i d) = ta_m (ta_ws ro (3 * i + 1) (3 * d)) := by
  intro d
  induction d with
  | zero => intro i _; rfl
  | succ d ih =>
    intro i h
    have hi := h i (by omega)
    exact ta_mc hi.1.1 (ta_mc hi.1.2 (ta_mc hi.2.1.1 (ta_mc hi.2.1.2 (ta_mc hi.2.2.1 (ta_mc hi.2.2.2 (ih (i + 1) (fun k hk => h k (by omega))))))))
/-- the whole run: X's bytes are Y's -/
theorem ta_mX {tg oa ob x : Int32} {r q : Nat} {ls ll li pk pa ro pt : Nat → Int32} {s : Nat} (hs : s < 6) (hr : ro 0 = nI r) (hq : pt 0 = nI q)
    (h1 : ∀ k, k < r → ta_S (ls k) (ro (3 * k + 1)) ∧ ta_S (ll k) (ro (3 * k + 2)) ∧ ta_S (li k) (ro (3 * k + 3)))
    (h2 : ∀ k, k < q → ta_u 8 (pt (k + 1)) &&& 255 = pk k &&& 255 ∧ pt (k + 1) &&& 255 = pa k &&& 255) :
    ta_m (tg :: (ta_iX oa ob r ls ll li s ++ ta_tX pk pa q x)) = ta_m (tg :: (ta_iY oa ob r ro s ++ ta_tY pt q x)) := by
  refine ta_mc rfl (ta_ma ?_ ?_)
  · match s, hs with
    | 0, _ => rfl
    | 1, _ => rfl
    | 2, _ => rfl
    | 3, _ => rfl
    | 4, _ =>
      show ta_m (ta_u 8 (nI r) :: nI r :: ta_rX ls ll li 0 r) = ta_m (ta_u 8 (ro 0) :: ro 0 :: ta_ws ro 1 (3 * r))
      rw [hr]
      exact ta_mc rfl (ta_mc rfl (ta_mr r 0 (fun k hk => h1 k (by omega))))
    | 5, _ => rfl
  · show ta_m (nI q :: (ta_pX pk pa 0 q ++ [ta_u 8 x, x, ta_u 8 0, 0])) = ta_m (pt 0 :: (ta_ws pt 1 q ++ [ta_u 8 x, x, ta_u 8 0, 0]))
    rw [hq]
    exact ta_mc rfl (ta_ma (ta_mp q 0 (fun k hk => h2 k (by omega))) rfl)
/-- the size that X reckons -/
theorem ta_sz (n q : Nat) : ((((1 + nI n) + 1) + (2 * nI q)) + 2) + 2 = nI (6 + n + 2 * q) := by
  have e1 : (1 : Int32) + nI n = nI (1 + n) := nI_add 1 n
  have e2 : (2 : Int32) * nI q = nI (2 * q) := pk_mul 2 q
  have e3 : ∀ m, nI m + 2 = nI (m + 2) := fun m => nI_add m 2
  rw [e1, e2, nI_1, nI_add, e3, e3]
  exact congrArg nI (by omega)
end
section
/-! X's walks: each against a run of stores -/
theorem tx_shape {po : Int32 → Prop} {cp ps ct op tg oa ob pl rs : Int32} {ot pk pa ls ll li : Nat → Int32} {t : Int32} (h : po (ta_shp t)) : wpX_shape po (cp, ps, ct, op, tg, oa, ob, pl, rs, ot, pk, pa, ls, ll, li) t := by
  have h99 : po (ta_s99 t) → wX_shape_99 po t cp ps ct op tg oa ob pl rs ot pk pa ls ll li := fun h => ta_ite (P := po) id (ta_ite (P := po) id id) h
  exact ta_ite (P := po) id (ta_ite (P := po) id (ta_ite (P := po) id (ta_ite (P := po) id (ta_ite (P := po) id (ta_ite (P := po) id (ta_ite (P := po) id (ta_ite (P := po) id (ta_ite (P := po) id (ta_ite (P := po) id (ta_ite (P := po) id (ta_ite (P := po) id (ta_ite (P := po) id (ta_ite (P := po) h99 (ta_ite (P := po) h99 id)))))))))))))) h
theorem tx_u1 {po : SX → Prop} {cp ct op tg oa ob pl rs : Int32} {ot pk pa ls ll li : Nat → Int32} {p : Nat} {v w : Int32} (e : v = w) (hp : p < 48)
    (h : po (cp, nI (p + 1), ct, op, tg, oa, ob, pl, rs, upd ot p (ta_b w), pk, pa, ls, ll, li)) : wpX_u1 po (cp, nI p, ct, op, tg, oa, ob, pl, rs, ot, pk, pa, ls, ll, li) v := by
  subst e
  refine And.intro (vp_in_nI hp (by omega)) ?_
  intro a ea b eb
  rw [nI_clamp (by omega)] at ea
  rw [nI_1] at eb
  rw [ea, eb]
  exact h
theorem tx_u2 {po : SX → Prop} {cp ct op tg oa ob pl rs : Int32} {ot pk pa ls ll li : Nat → Int32} {p : Nat} {v w : Int32} (e : v = w) (hp : p < 48) (hp2 : p + 1 < 48)
    (h : po (cp, nI (p + 1 + 1), ct, op, tg, oa, ob, pl, rs, upd (upd ot p (ta_b (ta_u 8 w))) (p + 1) (ta_b w), pk, pa, ls, ll, li)) : wpX_u2 po (cp, nI p, ct, op, tg, oa, ob, pl, rs, ot, pk, pa, ls, ll, li) v := by
  subst e
  refine And.intro (vp_in_nI hp (by omega)) ?_
  intro a ea
  refine And.intro (by rw [nI_1]; exact vp_in_nI hp2 (by omega)) ?_
  intro b eb c ec
  have e2 : nI p + 2 = nI (p + 1 + 1) := nI_add p 2
  rw [nI_clamp (by omega)] at ea
  rw [nI_1, nI_clamp (by omega)] at eb
  rw [e2] at ec
  rw [ec, eb, ea]
  exact h
section
variable {post : Int32 → SX → Prop} {x1 x4 cp ct op tg oa ob rs : Int32} {pk pa ls ll li : Nat → Int32} {q : Nat}
theorem tx_280 (hq : q ≤ 4) : ∀ (d i p : Nat) (ot : Nat → Int32), i + d = q →
    ta_X (fun p' a' => post x4 (cp, nI p', ct + 1, op, tg, oa, ob, nI q, rs, a', pk, pa, ls, ll, li)) (ta_pX pk pa i d ++ [ta_u 8 x1, x1, ta_u 8 0, 0]) p ot →
    wX_end_280 post x1 x4 (d + 1) (nI i) cp (nI p) ct op tg oa ob (nI q) rs ot pk pa ls ll li := by
  intro d
  induction d with
  | zero =>
    intro i p ot hi h
    obtain ⟨h1, h2, h3, h4, h5⟩ := h
    refine br_t (nI_le (by omega) (by omega)) ?_
    refine tx_u2 rfl h1 h2 ?_
    refine tx_u2 rfl h3 h4 ?_
    exact nm_e h5
  | succ d ih =>
    intro i p ot hi h
    obtain ⟨h1, h2, h3⟩ := h
    have ec : (nI i).toNatClampNeg = i := nI_clamp (by omega)
    have hv : vp_in (nI i) 4 := vp_in_nI (by omega) (by omega)
    refine br_f (nI_ge (by omega) (by omega)) ?_
    refine And.intro hv ?_
    refine tx_u1 (congrArg pk ec) h1 ?_
    refine And.intro hv ?_
    refine tx_u1 (congrArg pa ec) h2 ?_
    refine nm_r (nI_1 i) ?_
    exact ih (i + 1) _ _ (by omega) h3
theorem tx_269 (hq : q ≤ 4) (p : Nat) (ot : Nat → Int32)
    (h : ta_X (fun p' a' => post x4 (cp, nI p', ct + 1, op, tg, oa, ob, nI q, rs, a', pk, pa, ls, ll, li)) (ta_tX pk pa q x1) p ot) :
    wX_end_269 post x1 x4 cp (nI p) ct op tg oa ob (nI q) rs ot pk pa ls ll li := by
  obtain ⟨h1, h2⟩ := h
  refine tx_u1 rfl h1 ?_
  exact ⟨q + 1, tx_280 hq q 0 _ _ (by omega) h2⟩
theorem tx_197 (hq : q ≤ 4) {r : Nat} (hr : r ≤ 2) : ∀ (d i p : Nat) (ot : Nat → Int32), i + d = r →
    ta_X (fun p' a' => post x4 (cp, nI p', ct + 1, op, tg, oa, ob, nI q, nI r, a', pk, pa, ls, ll, li)) (ta_rX ls ll li i d ++ ta_tX pk pa q x1) p ot →
    wX_end_197 post x1 x4 (d + 1) (nI i) cp (nI p) ct op tg oa ob (nI q) (nI r) ot pk pa ls ll li := by
  intro d
  induction d with
  | zero =>
    intro i p ot hi h
    refine br_t (nI_le (by omega) (by omega)) ?_
    exact tx_269 hq p ot h
  | succ d ih =>
    intro i p ot hi h
    obtain ⟨h1, h2, h3, h4, h5, h6, h7⟩ := h
    have ec : (nI i).toNatClampNeg = i := nI_clamp (by omega)
    have hv : vp_in (nI i) 2 := vp_in_nI (by omega) (by omega)
    refine br_f (nI_ge (by omega) (by omega)) ?_
    refine And.intro hv ?_
    refine tx_u2 (congrArg ls ec) h1 h2 ?_
    refine And.intro hv ?_
    refine tx_u2 (congrArg ll ec) h3 h4 ?_
    refine And.intro hv ?_
    refine tx_u2 (congrArg li ec) h5 h6 ?_
    refine nm_r (nI_1 i) ?_
    exact ih (i + 1) _ _ (by omega) h7
end
section
variable {post : Int32 → SX → Prop} {x1 ct op tg oa ob : Int32} {ot pk pa ls ll li : Nat → Int32} {c p q r : Nat}
theorem tx_77_0 (hc : c ≤ 48) (hp : p ≤ c) (hq : q ≤ 4) (hr : r ≤ 2) (hno : c < p + (6 + ta_iN r 0 + 2 * q) → post (-5) (nI c, nI p, ct, 0, tg, oa, ob, nI q, nI r, ot, pk, pa, ls, ll, li))
    (hyes : p + (6 + ta_iN r 0 + 2 * q) ≤ c → ta_X (fun p' a' => post (nI (6 + ta_iN r 0 + 2 * q)) (nI c, nI p', ct + 1, 0, tg, oa, ob, nI q, nI r, a', pk, pa, ls, ll, li)) (tg :: (ta_iX oa ob r ls ll li 0 ++ ta_tX pk pa q x1)) p ot) :
    wX_end_77 post x1 0 0 (nI c) (nI p) ct op tg oa ob (nI q) (nI r) ot pk pa ls ll li := by
  refine nm_r (ta_sz 0 q) ?_
  refine pk_le (p + (6 + 0 + 2 * q)) c (fun hf => ?_) (fun hf => hno hf) (nI_add _ _)
  obtain ⟨h1, h2⟩ := hyes hf
  refine tx_u1 rfl h1 ?_
  refine br_f (by decide) (br_f (by decide) (br_f (by decide) (br_f (by decide) (br_f (by decide) ?_))))
  exact tx_269 hq _ _ h2
theorem tx_77_1 (hc : c ≤ 48) (hp : p ≤ c) (hq : q ≤ 4) (hr : r ≤ 2) (hno : c < p + (6 + ta_iN r 1 + 2 * q) → post (-5) (nI c, nI p, ct, 0, tg, oa, ob, nI q, nI r, ot, pk, pa, ls, ll, li))
    (hyes : p + (6 + ta_iN r 1 + 2 * q) ≤ c → ta_X (fun p' a' => post (nI (6 + ta_iN r 1 + 2 * q)) (nI c, nI p', ct + 1, 0, tg, oa, ob, nI q, nI r, a', pk, pa, ls, ll, li)) (tg :: (ta_iX oa ob r ls ll li 1 ++ ta_tX pk pa q x1)) p ot) :
    wX_end_77 post x1 1 1 (nI c) (nI p) ct op tg oa ob (nI q) (nI r) ot pk pa ls ll li := by
  refine nm_r (ta_sz 1 q) ?_
  refine pk_le (p + (6 + 1 + 2 * q)) c (fun hf => ?_) (fun hf => hno hf) (nI_add _ _)
  obtain ⟨h1, h2, h3⟩ := hyes hf
  refine tx_u1 rfl h1 ?_
  refine br_t rfl ?_
  refine tx_u1 rfl h2 ?_
  exact tx_269 hq _ _ h3
theorem tx_77_2 (hc : c ≤ 48) (hp : p ≤ c) (hq : q ≤ 4) (hr : r ≤ 2) (hno : c < p + (6 + ta_iN r 2 + 2 * q) → post (-5) (nI c, nI p, ct, 0, tg, oa, ob, nI q, nI r, ot, pk, pa, ls, ll, li))
    (hyes : p + (6 + ta_iN r 2 + 2 * q) ≤ c → ta_X (fun p' a' => post (nI (6 + ta_iN r 2 + 2 * q)) (nI c, nI p', ct + 1, 0, tg, oa, ob, nI q, nI r, a', pk, pa, ls, ll, li)) (tg :: (ta_iX oa ob r ls ll li 2 ++ ta_tX pk pa q x1)) p ot) :
    wX_end_77 post x1 2 2 (nI c) (nI p) ct op tg oa ob (nI q) (nI r) ot pk pa ls ll li := by
  refine nm_r (ta_sz 2 q) ?_
  refine pk_le (p + (6 + 2 + 2 * q)) c (fun hf => ?_) (fun hf => hno hf) (nI_add _ _)
  obtain ⟨h1, h2, h3, h4⟩ := hyes hf
  refine tx_u1 rfl h1 ?_
  refine br_f (by decide) (br_t rfl ?_)
  refine tx_u2 rfl h2 h3 ?_
  exact tx_269 hq _ _ h4
theorem tx_77_3 (hc : c ≤ 48) (hp : p ≤ c) (hq : q ≤ 4) (hr : r ≤ 2) (hno : c < p + (6 + ta_iN r 3 + 2 * q) → post (-5) (nI c, nI p, ct, 0, tg, oa, ob, nI q, nI r, ot, pk, pa, ls, ll, li))
    (hyes : p + (6 + ta_iN r 3 + 2 * q) ≤ c → ta_X (fun p' a' => post (nI (6 + ta_iN r 3 + 2 * q)) (nI c, nI p', ct + 1, 0, tg, oa, ob, nI q, nI r, a', pk, pa, ls, ll, li)) (tg :: (ta_iX oa ob r ls ll li 3 ++ ta_tX pk pa q x1)) p ot) :
    wX_end_77 post x1 3 2 (nI c) (nI p) ct op tg oa ob (nI q) (nI r) ot pk pa ls ll li := by
  refine nm_r (ta_sz 2 q) ?_
  refine pk_le (p + (6 + 2 + 2 * q)) c (fun hf => ?_) (fun hf => hno hf) (nI_add _ _)
  obtain ⟨h1, h2, h3, h4⟩ := hyes hf
  refine tx_u1 rfl h1 ?_
  refine br_f (by decide) (br_f (by decide) (br_t rfl ?_))
  refine tx_u1 rfl h2 ?_
  refine tx_u1 rfl h3 ?_
  exact tx_269 hq _ _ h4
theorem tx_77_4 (hc : c ≤ 48) (hp : p ≤ c) (hq : q ≤ 4) (hr : r ≤ 2) (hno : c < p + (6 + ta_iN r 4 + 2 * q) → post (-5) (nI c, nI p, ct, 0, tg, oa, ob, nI q, nI r, ot, pk, pa, ls, ll, li))
    (hyes : p + (6 + ta_iN r 4 + 2 * q) ≤ c → ta_X (fun p' a' => post (nI (6 + ta_iN r 4 + 2 * q)) (nI c, nI p', ct + 1, 0, tg, oa, ob, nI q, nI r, a', pk, pa, ls, ll, li)) (tg :: (ta_iX oa ob r ls ll li 4 ++ ta_tX pk pa q x1)) p ot) :
    wX_end_77 post x1 4 (nI (2 + 6 * r)) (nI c) (nI p) ct op tg oa ob (nI q) (nI r) ot pk pa ls ll li := by
  refine nm_r (ta_sz (2 + 6 * r) q) ?_
  refine pk_le (p + (6 + (2 + 6 * r) + 2 * q)) c (fun hf => ?_) (fun hf => hno hf) (nI_add _ _)
  obtain ⟨h1, h2, h3, h4⟩ := hyes hf
  refine tx_u1 rfl h1 ?_
  refine br_f (by decide) (br_f (by decide) (br_f (by decide) (br_t rfl ?_)))
  refine tx_u2 rfl h2 h3 ?_
  exact ⟨r + 1, tx_197 hq hr r 0 _ _ (by omega) h4⟩
theorem tx_77_5 (hc : c ≤ 48) (hp : p ≤ c) (hq : q ≤ 4) (hr : r ≤ 2) (hno : c < p + (6 + ta_iN r 5 + 2 * q) → post (-5) (nI c, nI p, ct, 0, tg, oa, ob, nI q, nI r, ot, pk, pa, ls, ll, li))
    (hyes : p + (6 + ta_iN r 5 + 2 * q) ≤ c → ta_X (fun p' a' => post (nI (6 + ta_iN r 5 + 2 * q)) (nI c, nI p', ct + 1, 0, tg, oa, ob, nI q, nI r, a', pk, pa, ls, ll, li)) (tg :: (ta_iX oa ob r ls ll li 5 ++ ta_tX pk pa q x1)) p ot) :
    wX_end_77 post x1 5 3 (nI c) (nI p) ct op tg oa ob (nI q) (nI r) ot pk pa ls ll li := by
  refine nm_r (ta_sz 3 q) ?_
  refine pk_le (p + (6 + 3 + 2 * q)) c (fun hf => ?_) (fun hf => hno hf) (nI_add _ _)
  obtain ⟨h1, h2, h3, h4, h5⟩ := hyes hf
  refine tx_u1 rfl h1 ?_
  refine br_f (by decide) (br_f (by decide) (br_f (by decide) (br_f (by decide) (br_t rfl ?_))))
  refine tx_u2 rfl h2 h3 ?_
  refine tx_u1 rfl h4 ?_
  exact tx_269 hq _ _ h5
theorem tx_end (hc : c ≤ 48) (hp : p ≤ c) (hq : q ≤ 4) (hr : r ≤ 2) {s : Nat} (hs : s < 6) (ht : ta_shp tg = nI s)
    (hno : c < p + (6 + ta_iN r s + 2 * q) → post (-5) (nI c, nI p, ct, 0, tg, oa, ob, nI q, nI r, ot, pk, pa, ls, ll, li))
    (hyes : p + (6 + ta_iN r s + 2 * q) ≤ c → ta_X (fun p' a' => post (nI (6 + ta_iN r s + 2 * q)) (nI c, nI p', ct + 1, 0, tg, oa, ob, nI q, nI r, a', pk, pa, ls, ll, li)) (tg :: (ta_iX oa ob r ls ll li s ++ ta_tX pk pa q x1)) p ot) :
    wpX_end post (nI c, nI p, ct, 1, tg, oa, ob, nI q, nI r, ot, pk, pa, ls, ll, li) x1 := by
  refine br_f (by decide) ?_
  refine tx_shape ?_
  rw [ht]
  match s, hs with
  | 0, _ => exact br_t rfl (tx_77_0 hc hp hq hr hno hyes)
  | 1, _ => exact br_f (by decide) (br_t rfl (tx_77_1 hc hp hq hr hno hyes))
  | 2, _ => exact br_f (by decide) (br_f (by decide) (br_t rfl (tx_77_2 hc hp hq hr hno hyes)))
  | 3, _ => exact br_f (by decide) (br_f (by decide) (br_f (by decide) (br_t rfl (tx_77_3 hc hp hq hr hno hyes))))
  | 4, _ =>
    have e : (2 : Int32) + 6 * nI r = nI (2 + 6 * r) := by
      have e1 : (6 : Int32) * nI r = nI (6 * r) := pk_mul 6 r
      rw [e1]
      exact nI_add 2 _
    exact br_f (by decide) (br_f (by decide) (br_f (by decide) (br_f (by decide) (br_t rfl (nm_r e (tx_77_4 hc hp hq hr hno hyes))))))
  | 5, _ => exact br_f (by decide) (br_f (by decide) (br_f (by decide) (br_f (by decide) (br_f (by decide) (tx_77_5 hc hp hq hr hno hyes)))))
end
end
section
/-! Y's walks: each against a run of stores -/
theorem ty_put {po : SY → Prop} {c p : Nat} {ct tg oa ob : Int32} {hd : Int64} {sh ce ro pt : Nat → Int32} {v w : Int32} (e : v = w) (hc : c ≤ 48) (hp : p < 100)
    (h : po (nI c, nI (p + 1), ct, tg, oa, ob, hd, sh, ta_st c p (w &&& 255) ce, ro, pt)) : wpY_put po (nI c, nI p, ct, tg, oa, ob, hd, sh, ce, ro, pt) v := by
  subst e
  refine nm_r (nI_1 p) ?_
  refine pk_le c p (fun hf => ?_) (fun hf => ?_)
  · have es : ta_st c p (v &&& 255) ce = ce := if_neg (by omega)
    rw [es] at h
    exact h
  · have es : ta_st c p (v &&& 255) ce = upd ce p (v &&& 255) := if_pos hf
    rw [es] at h
    refine And.intro (vp_in_nI (by omega) (by omega)) ?_
    intro a ea
    rw [nI_clamp (by omega), ta_c255] at ea
    rw [ea]
    exact h
theorem ty_u2 {po : SY → Prop} {c p : Nat} {ct tg oa ob : Int32} {hd : Int64} {sh ce ro pt : Nat → Int32} {v w : Int32} (e : v = w) (hc : c ≤ 48) (hp : p < 100) (hp2 : p + 1 < 100)
    (h : po (nI c, nI (p + 1 + 1), ct, tg, oa, ob, hd, sh, ta_st c (p + 1) (w &&& 255) (ta_st c p (ta_u 8 w &&& 255) ce), ro, pt)) : wpY_u2 po (nI c, nI p, ct, tg, oa, ob, hd, sh, ce, ro, pt) v := by
  subst e
  unfold wpY_u2
  refine ty_put (w := ta_u 8 v) rfl hc hp ?_
  refine ty_put rfl hc hp2 ?_
  exact h
section
variable {post : Int32 → SY → Prop} {x1 x4 ct tg oa ob : Int32} {hd : Int64} {sh ro pt : Nat → Int32} {c q : Nat}
/-- what Y asks behind its last store -/
def ty_K (post : Int32 → SY → Prop) (x4 : Int32) (c : Nat) (ct oa ob : Int32) (hd : Int64) (sh ro pt : Nat → Int32) (p : Nat) (ce : Nat → Int32) : Prop :=
  (nI p ≤ nI c → post (nI p - x4) (nI c, nI p, ct + 1, -1, oa, ob, hd, sh, ce, ro, pt)) ∧ (¬ nI p ≤ nI c → post (-5) (nI c, x4, ct, -1, oa, ob, hd, sh, ce, ro, pt))
theorem ty_134 (hc : c ≤ 48) (hq : q ≤ 4) (eq : pt 0 = nI q) : ∀ (d i p : Nat) (ce : Nat → Int32), i + d = q + 1 →
    ta_Y c (ty_K post x4 c ct oa ob hd sh ro pt) (ta_ws pt i d ++ [ta_u 8 x1, x1, ta_u 8 0, 0]) p ce →
    wY_end_134 post x1 x4 (d + 1) (nI i) (nI c) (nI p) ct tg oa ob hd sh ce ro pt := by
  intro d
  induction d with
  | zero =>
    intro i p ce hi h
    obtain ⟨h1, h2, h3, h4, h5⟩ := h
    refine br_t (by rw [eq]; exact nI_lt (by omega) (by omega)) ?_
    refine ty_u2 rfl hc h1 h2 ?_
    refine ty_u2 rfl hc h3 h4 ?_
    exact ⟨fun z => nm_e (h5.1 z), h5.2⟩
  | succ d ih =>
    intro i p ce hi h
    obtain ⟨h1, h2, h3⟩ := h
    have ec : (nI i).toNatClampNeg = i := nI_clamp (by omega)
    refine br_f (by rw [eq]; exact nI_nlt (by omega) (by omega)) ?_
    refine And.intro (vp_in_nI (by omega) (by omega)) ?_
    refine ty_u2 (congrArg pt ec) hc h1 h2 ?_
    refine nm_r (nI_1 i) ?_
    exact ih (i + 1) _ _ (by omega) h3
theorem ty_121 (hc : c ≤ 48) (hq : q ≤ 4) (eq : pt 0 = nI q) (p : Nat) (ce : Nat → Int32)
    (h : ta_Y c (ty_K post x4 c ct oa ob hd sh ro pt) (ta_tY pt q x1) p ce) :
    wY_end_121 post x1 x4 (nI c) (nI p) ct tg oa ob hd sh ce ro pt := by
  obtain ⟨h1, h2⟩ := h
  refine ty_put rfl hc h1 ?_
  exact ⟨q + 1, ty_134 hc hq eq q 1 _ _ (by omega) h2⟩
theorem ty_97 (hc : c ≤ 48) (hq : q ≤ 4) (eq : pt 0 = nI q) {r : Nat} (hr : r ≤ 2) (er : ro 0 = nI r) : ∀ (d i p : Nat) (ce : Nat → Int32), i + d = 3 * r + 1 →
    ta_Y c (ty_K post x4 c ct oa ob hd sh ro pt) (ta_ws ro i d ++ ta_tY pt q x1) p ce →
    wY_end_97 post x1 x4 (d + 1) (nI i) (nI c) (nI p) ct tg oa ob hd sh ce ro pt := by
  have e3 : (3 : Int32) * ro 0 = nI (3 * r) := by rw [er]; exact pk_mul 3 r
  intro d
  induction d with
  | zero =>
    intro i p ce hi h
    refine br_t (by rw [e3]; exact nI_lt (by omega) (by omega)) ?_
    exact ty_121 hc hq eq p ce h
  | succ d ih =>
    intro i p ce hi h
    obtain ⟨h1, h2, h3⟩ := h
    have ec : (nI i).toNatClampNeg = i := nI_clamp (by omega)
    refine br_f (by rw [e3]; exact nI_nlt (by omega) (by omega)) ?_
    refine And.intro (vp_in_nI (by omega) (by omega)) ?_
    refine ty_u2 (congrArg ro ec) hc h1 h2 ?_
    refine nm_r (nI_1 i) ?_
    exact ih (i + 1) _ _ (by omega) h3
theorem ty_end (hc : c ≤ 48) (hq : q ≤ 4) (eq : pt 0 = nI q) {r : Nat} (hr : r ≤ 2) (er : ro 0 = nI r) {t p : Nat} (ht : t < 76) {s : Nat} (hs : s < 6) (es : sh t = ta_cd s) {ce : Nat → Int32}
    (h : ta_Y c (ty_K post (nI p) c ct oa ob hd sh ro pt) (nI t :: (ta_iY oa ob r ro s ++ ta_tY pt q x1)) p ce) :
    wpY_end post (nI c, nI p, ct, nI t, oa, ob, hd, sh, ce, ro, pt) x1 := by
  refine br_t (nI_pos' (by omega)) ?_
  refine And.intro (vp_in_nI ht (by omega)) ?_
  have e : sh (nI t).toNatClampNeg = ta_cd s := by rw [nI_clamp (by omega)]; exact es
  refine nm_r e ?_
  obtain ⟨h0, h⟩ := h
  refine ty_put rfl hc h0 ?_
  match s, hs with
  | 0, _ =>
    refine br_f (by decide) ?_
    refine br_t (by decide) ?_
    refine br_t (by decide) ?_
    refine br_t (by decide) ?_
    exact ty_121 hc hq eq _ _ h
  | 1, _ =>
    obtain ⟨h1, h⟩ := h
    refine br_f (by decide) ?_
    refine br_f (by decide) ?_
    refine ty_put rfl hc h1 ?_
    refine br_t (by decide) ?_
    refine br_t (by decide) ?_
    exact ty_121 hc hq eq _ _ h
  | 2, _ =>
    obtain ⟨h1, h2, h⟩ := h
    refine br_t (by decide) ?_
    refine ty_put (w := ta_u 8 oa) rfl hc h1 ?_
    refine br_f (by decide) ?_
    refine ty_put rfl hc h2 ?_
    refine br_t (by decide) ?_
    refine br_t (by decide) ?_
    exact ty_121 hc hq eq _ _ h
  | 3, _ =>
    obtain ⟨h1, h2, h⟩ := h
    refine br_f (by decide) ?_
    refine br_f (by decide) ?_
    refine ty_put rfl hc h1 ?_
    refine br_f (by decide) ?_
    refine ty_put rfl hc h2 ?_
    refine br_t (by decide) ?_
    exact ty_121 hc hq eq _ _ h
  | 4, _ =>
    refine br_f (by decide) ?_
    refine br_t (by decide) ?_
    refine br_t (by decide) ?_
    refine br_f (by decide) ?_
    exact ⟨3 * r + 1 + 1, ty_97 hc hq eq hr er (3 * r + 1) 0 _ _ (by omega) h⟩
  | 5, _ =>
    obtain ⟨h1, h2, h3, h⟩ := h
    refine br_t (by decide) ?_
    refine ty_put (w := ta_u 8 oa) rfl hc h1 ?_
    refine br_f (by decide) ?_
    refine ty_put rfl hc h2 ?_
    refine br_f (by decide) ?_
    refine ty_put rfl hc h3 ?_
    refine br_t (by decide) ?_
    exact ty_121 hc hq eq _ _ h
end
/-! the constructor's table, finish -/
theorem ty_mark3 {po : SY → Prop} {x3 cp us ct tg oa ob : Int32} {hd : Int64} {ce ro pt : Nat → Int32} {b : Nat} (hb : b < 76) : ∀ (d i : Nat) (sh : Nat → Int32), i + d = b + 1 →
    po (cp, us, ct, tg, oa, ob, hd, ta_mk (ta_b x3) i d sh, ce, ro, pt) → wY_mark_3 po (nI b) x3 cp us ct tg oa ob hd (d + 1) (nI i) sh ce ro pt := by
  intro d
  induction d with
  | zero =>
    intro i sh hi h
    exact br_t (nI_lt (by omega) (by omega)) h
  | succ d ih =>
    intro i sh hi h
    refine br_f (nI_nlt (by omega) (by omega)) ?_
    refine And.intro (vp_in_nI (by omega) (by omega)) ?_
    refine nm_r (congrArg (fun j => upd sh j (ta_b x3)) (nI_clamp (n := i) (by omega))) ?_
    refine nm_r (nI_1 i) ?_
    exact ih (i + 1) _ (by omega) h
theorem ty_mark {po : SY → Prop} {cp us ct tg oa ob : Int32} {hd : Int64} {sh ce ro pt : Nat → Int32} (a b d : Nat) (x3 : Int32) (hb : b < 76) (hd' : a + d = b + 1)
    (h : po (cp, us, ct, tg, oa, ob, hd, ta_mk (ta_b x3) a d sh, ce, ro, pt)) : wpY_mark po (cp, us, ct, tg, oa, ob, hd, sh, ce, ro, pt) (nI a) (nI b) x3 :=
  ⟨d + 1, ty_mark3 hb d a sh hd' h⟩
theorem ty_fin {po : Int64 → SY → Prop} {cp tg oa ob : Int32} {hd : Int64} {sh ce ro pt : Nat → Int32} {p c : Nat} (hp : 8 ≤ p) (hp2 : p ≤ 48) (hc : c < 256) (ht : tg < 0) (x : Int32)
    (h : po (lN (p - 6)) (cp, nI p, nI c, tg, oa, ob, lN (ta_H x (p - 6) c), sh, ce, ro, pt)) : wpY_finish po (cp, nI p, nI c, tg, oa, ob, hd, sh, ce, ro, pt) x := by
  have e6 : nI p - 6 = nI (p - 6) := pk_sub (b := 6) (by omega)
  have e1 := ta_head x (l := p - 6) (c := c) (by omega) (by omega)
  have e2 := ta_len x (l := p - 6) (c := c) (by omega) (by omega)
  refine br_t ht ?_
  intro y ey
  rw [e6, e1] at ey
  rw [e6, e1, e2, ey]
  exact h
end
section
/-! the relation and the owed statements -/
/-- open or not: X's flag and target, Y's target -/
def ta_Op (op tg ty : Int32) : Prop := (op = 0 ∧ ty = -1) ∨ (op = 1 ∧ ty = tg ∧ ∃ t, t < 76 ∧ tg = nI t ∧ ¬ ta_sh t = 0)
/-- X's rows are Y's -/
def ta_R (r : Nat) (ls ll li ro : Nat → Int32) : Prop := r ≤ 2 ∧ ro 0 = nI r ∧ ∀ k, k < r → ta_S (ls k) (ro (3 * k + 1)) ∧ ta_S (ll k) (ro (3 * k + 2)) ∧ ta_S (li k) (ro (3 * k + 3))
/-- X's path is Y's -/
def ta_P (q : Nat) (pk pa pt : Nat → Int32) : Prop := q ≤ 4 ∧ pt 0 = nI q ∧ ∀ k, k < q → ta_u 8 (pt (k + 1)) &&& 255 = pk k &&& 255 ∧ pt (k + 1) &&& 255 = pa k &&& 255
/-- X's bytes are Y's header and cells; the count is bounded by the place -/
def ta_O (c p ct H : Nat) (ot ce : Nat → Int32) : Prop := c ≤ 48 ∧ p ≤ c ∧ 8 + 6 * ct ≤ p ∧ H < 2 ^ 64 ∧ (∀ i, i < 8 → ot i &&& 255 = ta_hb H i) ∧ (∀ i, 8 ≤ i → i < p → ot i &&& 255 = ce i)
def i_Rel (k : Nat) (u : SX) (v : SY) : Prop := ∃ (c p ct r q H : Nat) (op tg ty oa ob : Int32) (ot pk pa ls ll li ce ro pt : Nat → Int32),
  u = (nI c, nI p, nI ct, op, tg, oa, ob, nI q, nI r, ot, pk, pa, ls, ll, li) ∧ v = (nI c, nI p, nI ct, ty, oa, ob, lN H, ta_sh, ce, ro, pt) ∧
  ta_O c p ct H ot ce ∧ ta_Op op tg ty ∧ ta_R r ls ll li ro ∧ ta_P q pk pa pt
theorem ta_in {k c p ct r q H : Nat} {op tg ty oa ob : Int32} {ot pk pa ls ll li ce ro pt : Nat → Int32} (h1 : ta_O c p ct H ot ce) (h2 : ta_Op op tg ty) (h3 : ta_R r ls ll li ro) (h4 : ta_P q pk pa pt) :
    i_Rel k (nI c, nI p, nI ct, op, tg, oa, ob, nI q, nI r, ot, pk, pa, ls, ll, li) (nI c, nI p, nI ct, ty, oa, ob, lN H, ta_sh, ce, ro, pt) :=
  ⟨c, p, ct, r, q, H, op, tg, ty, oa, ob, ot, pk, pa, ls, ll, li, ce, ro, pt, rfl, rfl, h1, h2, h3, h4⟩
theorem ta_el {P : SX → SY → Prop} {k : Nat} {u : SX} {v : SY} (I : i_Rel k u v)
    (h : ∀ (c p ct r q H : Nat) (op tg ty oa ob : Int32) (ot pk pa ls ll li ce ro pt : Nat → Int32), ta_O c p ct H ot ce → ta_Op op tg ty → ta_R r ls ll li ro → ta_P q pk pa pt →
      P (nI c, nI p, nI ct, op, tg, oa, ob, nI q, nI r, ot, pk, pa, ls, ll, li) (nI c, nI p, nI ct, ty, oa, ob, lN H, ta_sh, ce, ro, pt)) : P u v := by
  obtain ⟨c, p, ct, r, q, H, op, tg, ty, oa, ob, ot, pk, pa, ls, ll, li, ce, ro, pt, e1, e2, h1, h2, h3, h4⟩ := I
  rw [e1, e2]
  exact h _ _ _ _ _ _ _ _ _ _ _ _ _ _ _ _ _ _ _ _ h1 h2 h3 h4
theorem i_up {k : Nat} {u : SX} {v : SY} (h : i_Rel k u v) : i_Rel (k + 4) u v := h
theorem ta_0Y {po : SY → Prop} {c : Nat} (h : po (nI c, nI 8, nI 0, -1, 0, 0, lN (ta_H 0 2 0), ta_sh, (fun _ => 0), (fun _ => 0), (fun _ => 0))) :
    wY_init_70 po (nI c) 0 8 0 (-1) 0 0 0 (fun _ => 0) (fun _ => 0) (fun _ => 0) (fun _ => 0) := by
  refine ty_mark 0 1 2 20 (by decide) (by decide) ?_
  refine ty_mark 16 16 1 24 (by decide) (by decide) ?_
  refine ty_mark 17 18 2 21 (by decide) (by decide) ?_
  refine ty_mark 19 21 3 16 (by decide) (by decide) ?_
  refine ty_mark 22 22 1 20 (by decide) (by decide) ?_
  refine ty_mark 23 23 1 24 (by decide) (by decide) ?_
  refine ty_mark 64 65 2 48 (by decide) (by decide) ?_
  refine ty_mark 66 70 5 24 (by decide) (by decide) ?_
  refine ty_mark 71 75 5 25 (by decide) (by decide) ?_
  exact ty_fin (p := 8) (c := 0) (by decide) (by decide) (by decide) (by decide) 0 h
theorem ta_0 {k c : Nat} (h8 : 8 ≤ c) (hc : c ≤ 48) :
    i_Rel k (nI c, nI 8, nI 0, 0, 0, 0, 0, nI 0, nI 0, upd (fun _ => 0) 5 (vp_nar .byte 2), (fun _ => 0), (fun _ => 0), (fun _ => 0), (fun _ => 0), (fun _ => 0)) (nI c, nI 8, nI 0, -1, 0, 0, lN (ta_H 0 2 0), ta_sh, (fun _ => 0), (fun _ => 0), (fun _ => 0)) := by
  refine ta_in ⟨hc, h8, by decide, by decide, by decide +kernel, fun i h1 h2 => absurd h2 (by omega)⟩ (Or.inl ⟨rfl, rfl⟩) ⟨by decide, rfl, fun k hk => absurd hk (by omega)⟩ ⟨by decide, rfl, fun k hk => absurd hk (by omega)⟩
theorem i_vc0 (k0 : Int32) : wpX_init (fun u => wpY_init (fun v => i_Rel 1 u v) k0) k0 := by
  by_cases h8 : 8 ≤ k0
  · have h0 : ¬ k0 < 0 := Int32.not_lt.mpr (Int32.le_trans (by decide) h8)
    obtain ⟨c, hc, rfl⟩ := nI_of h0
    have h8' : 8 ≤ c := (nI_leI (a := 8) (by decide) hc).mp h8
    refine br_t h8 ?_
    by_cases h48 : nI c ≤ 48
    · have h48' : c ≤ 48 := (nI_leI (b := 48) hc (by decide)).mp h48
      refine br_t h48 ?_
      refine nm_e ?_
      refine br_t h8 (br_t h48 ?_)
      exact ta_0Y (ta_0 h8' h48')
    · refine br_f h48 ?_
      refine nm_e ?_
      refine br_t h8 (br_f h48 ?_)
      exact ta_0Y (c := 48) (ta_0 (by decide) (by decide))
  · refine br_f h8 ?_
    refine br_t (by decide) ?_
    refine nm_e ?_
    refine br_f h8 ?_
    exact ta_0Y (c := 8) (ta_0 (by decide) (by decide))
theorem i_vc_begin {k : Nat} {u : SX} {v : SY} (I : i_Rel k u v) (hk : k + 4 ≤ 2049) (v1 : Int32) (v2 : Int32) (v3 : Int32) : wpX_begin (fun r u' => wpY_begin (fun r' v' => r' = r ∧ i_Rel (k + 4) u' v') v v1 v2 v3) u v1 v2 v3 := by
  refine ta_el (P := fun u v => wpX_begin (fun r u' => wpY_begin (fun r' v' => r' = r ∧ i_Rel (k + 4) u' v') v v1 v2 v3) u v1 v2 v3) I ?_
  intro c p ct r q H op tg ty oa ob ot pk pa ls ll li ce ro pt hO hOp hR hP
  rcases hOp with ⟨rfl, rfl⟩ | ⟨rfl, rfl, t, ht, rfl, hs⟩
  · have h0 : (-1 : Int32) < 0 := by decide
    refine br_t rfl ?_
    refine tx_shape ?_
    have rel := ta_in (k := k + 4) (oa := oa) (ob := ob) (tg := tg) hO (Or.inl ⟨rfl, rfl⟩) hR hP
    rcases pk_ix v1 (n := 76) (by decide) with h | h | ⟨t, ht, rfl⟩
    · rw [ta_low h]
      refine br_f (by decide) ?_
      exact br_t h0 (br_t h ⟨rfl, rel⟩)
    · rw [ta_high h]
      have hn : ¬ v1 < 0 := Int32.not_lt.mpr (Int32.le_trans (by decide) h)
      refine br_f (by decide) ?_
      exact br_t h0 (br_f hn (br_t h ⟨rfl, rel⟩))
    · have hn : ¬ nI t < 0 := nI_pos (by omega)
      have hg : ¬ Int32.ofNat 76 ≤ nI t := nI_ge (b := 76) ht (by decide)
      have ec : (nI t).toNatClampNeg = t := nI_clamp (by omega)
      have hv : vp_in (nI t) 76 := vp_in_nI ht (by decide)
      rcases ta_tb ht with ⟨a, b⟩ | ⟨hs, s, hs6, a, b⟩
      · rw [a]
        refine br_f (by decide) ?_
        exact br_t h0 (br_f hn (br_f hg ⟨hv, br_t (by rw [ec]; exact b) ⟨rfl, rel⟩⟩))
      · rw [a]
        refine br_t (nI_pos' (by omega)) ?_
        refine br_t h0 (br_f hn (br_f hg ⟨hv, br_f (by rw [ec]; exact hs) ?_⟩))
        refine nm_e (nm_e ⟨rfl, ?_⟩)
        exact ta_in (r := 0) (q := 0) hO (Or.inr ⟨rfl, rfl, t, ht, rfl, hs⟩) ⟨by decide, rfl, fun k hk => absurd hk (by omega)⟩ ⟨by decide, rfl, fun k hk => absurd hk (by omega)⟩
  · refine br_f (by decide) ?_
    refine br_f (nI_pos (by omega)) ⟨rfl, ?_⟩
    exact ta_in hO (Or.inr ⟨rfl, rfl, t, ht, rfl, hs⟩) hR hP
/-- a path's row more -/
theorem ta_Pn {q : Nat} {pk pa pt : Nat → Int32} (h : ta_P q pk pa pt) (hq : q < 4) {kd a : Nat} (hk : kd < 4) (ha : a < 256) : ta_P (q + 1) (upd pk q (nI kd)) (upd pa q (nI a)) (upd (upd pt (q + 1) (ta_pw (nI kd) (nI a))) 0 (nI (q + 1))) := by
  obtain ⟨_, _, h3⟩ := h
  refine ⟨by omega, pk_us, fun k hk => ?_⟩
  rw [pk_un (j := k + 1) (k := 0) (by omega)]
  by_cases z : k = q
  · subst z
    rw [pk_us, pk_us, pk_us]
    exact ⟨ta_pw1 kd (by omega) a ha, ta_pw2 kd (by omega) a ha⟩
  · rw [pk_un (j := k + 1) (k := q + 1) (by omega), pk_un z, pk_un z]
    exact h3 k (by omega)
theorem ta_ch : ∀ q, q < 4 → ((nI q + 1).toUInt32 % 65536).toInt32 = nI (q + 1) := by decide +kernel
theorem ta_addP {k c p ct r q H : Nat} {oa ob : Int32} {ot pk pa ls ll li ce ro pt : Nat → Int32} {t : Nat} (hO : ta_O c p ct H ot ce) (ht : t < 76) (hs : ¬ ta_sh t = 0) (hR : ta_R r ls ll li ro) (hP : ta_P q pk pa pt) {kd a : Nat} (hk : kd < 4) (ha : a < 256)
    {Q : Int32 → SX → Prop} (hQ : ∀ x u', wY_addPath_33 (fun r' v' => r' = x ∧ i_Rel (k + 4) u' v') (nI kd) (nI a) (nI c) (nI p) (nI ct) (nI t) oa ob (lN H) ta_sh ce ro pt → Q x u') :
    wX_addPath_52 Q (nI kd) (nI a) (nI c) (nI p) (nI ct) 1 (nI t) oa ob (nI q) (nI r) ot pk pa ls ll li := by
  have hOp : ta_Op 1 (nI t) (nI t) := Or.inr ⟨rfl, rfl, t, ht, rfl, hs⟩
  have e0 : pt 0 = nI q := hP.2.1
  have hq := hP.1
  have hn : ¬ nI a < 0 := nI_pos (by omega)
  have hl : nI a ≤ 255 := nI_le (b := 255) (by omega) (by decide)
  have ec : (nI q).toNatClampNeg = q := nI_clamp (by omega)
  have ec1 : (nI (q + 1)).toNatClampNeg = q + 1 := nI_clamp (by omega)
  refine pk_lt q 4 (fun h => ?_) (fun h => ?_)
  · refine And.intro (vp_in_nI h (by omega)) ?_
    refine nm_r (congrArg (fun j => upd pk j (nI kd)) ec) ?_
    refine And.intro (vp_in_nI h (by omega)) ?_
    refine nm_r (congrArg (fun j => upd pa j (nI a)) ec) ?_
    refine nm_r (nI_1 q) ?_
    refine hQ _ _ ?_
    refine br_f hn (br_t hl ?_)
    refine br_t (by rw [e0]; exact nI_lt (b := 4) h (by decide)) ?_
    have e1 : pt 0 + 1 = nI (q + 1) := by rw [e0, nI_1]
    refine And.intro (by rw [e1]; exact vp_in_nI (by omega) (by omega)) ?_
    refine nm_r (e' := upd pt (q + 1) (ta_pw (nI kd) (nI a))) (by rw [e1, ec1]; rfl) ?_
    have e2 : upd pt (q + 1) (ta_pw (nI kd) (nI a)) 0 = nI q := by rw [pk_un (by omega)]; exact e0
    have e3 : ((upd pt (q + 1) (ta_pw (nI kd) (nI a)) 0 + 1).toUInt32 % 65536).toInt32 = nI (q + 1) := by rw [e2]; exact ta_ch q h
    refine nm_r (e' := upd (upd pt (q + 1) (ta_pw (nI kd) (nI a))) 0 (nI (q + 1))) (by rw [pk_vc, e3]) ?_
    refine ⟨e3, ?_⟩
    exact ta_in hO hOp hR (ta_Pn hP h hk ha)
  · refine hQ _ _ ?_
    refine br_f hn (br_t hl ?_)
    refine br_f (by rw [e0]; exact nI_nlt (b := 4) h (by omega)) ?_
    exact ⟨rfl, ta_in hO hOp hR hP⟩
theorem i_vc_addPath {k : Nat} {u : SX} {v : SY} (I : i_Rel k u v) (hk : k + 4 ≤ 2049) (v1 : Int32) (v2 : Int32) : wpX_addPath (fun r u' => wpY_addPath (fun r' v' => r' = r ∧ i_Rel (k + 4) u' v') v v1 v2) u v1 v2 := by
  refine ta_el (P := fun u v => wpX_addPath (fun r u' => wpY_addPath (fun r' v' => r' = r ∧ i_Rel (k + 4) u' v') v v1 v2) u v1 v2) I ?_
  intro c p ct r q H op tg ty oa ob ot pk pa ls ll li ce ro pt hO hOp hR hP
  have rel := ta_in (k := k + 4) (oa := oa) (ob := ob) hO hOp hR hP
  rcases hOp with ⟨rfl, rfl⟩ | ⟨rfl, rfl, t, ht, rfl, hs⟩
  · refine br_t rfl ?_
    exact br_f (by decide) ⟨rfl, rel⟩
  · refine br_f (by decide) ?_
    have hT : (0 : Int32) ≤ nI t := nI_pos' (by omega)
    by_cases h0 : v1 < 0
    · exact br_t h0 (br_t hT (br_t h0 ⟨rfl, rel⟩))
    · refine br_f h0 ?_
      by_cases h3 : v1 ≤ 3
      · refine br_t h3 ?_
        obtain ⟨kd, hkd, rfl⟩ := nI_of2 (M := 3) (n := 3) (by decide) h0 h3
        by_cases e3 : nI kd = 3
        · refine br_t e3 ?_
          refine br_t e3 ?_
          by_cases a0 : v2 < 0
          · exact br_t a0 (br_t hT (br_f h0 (br_t h3 (br_t e3 (br_t a0 ⟨rfl, rel⟩)))))
          · refine br_f a0 ?_
            by_cases a1 : v2 ≤ 255
            · refine br_t a1 ?_
              obtain ⟨a, ha, rfl⟩ := nI_of2 (M := 255) (n := 255) (by decide) a0 a1
              exact ta_addP (k := k) hO ht hs hR hP (by omega) (by omega) (fun x u' h => br_t hT (br_f h0 (br_t h3 (br_t e3 h))))
            · exact br_f a1 (br_t hT (br_f h0 (br_t h3 (br_t e3 (br_f a0 (br_f a1 ⟨rfl, rel⟩))))))
        · refine br_f e3 ?_
          by_cases z : v2 = 0
          · subst z
            refine br_t rfl ?_
            refine br_f e3 ?_
            exact ta_addP (k := k) (a := 0) hO ht hs hR hP (by omega) (by omega) (fun x u' h => br_t hT (br_f h0 (br_t h3 (br_f e3 (br_t rfl h)))))
          · exact br_f z (br_t hT (br_f h0 (br_t h3 (br_f e3 (br_f z ⟨rfl, rel⟩)))))
      · exact br_f h3 (br_t hT (br_f h0 (br_f h3 ⟨rfl, rel⟩)))
/-- a row more -/
theorem ta_Rn {r : Nat} {ls ll li ro : Nat → Int32} (h : ta_R r ls ll li ro) (hr : r < 2) (x y z : Int32) :
    ta_R (r + 1) (upd ls r x) (upd ll r y) (upd li r z) (upd (upd (upd (upd ro (3 * r + 1) (vp_nar .short x.toInt16.toInt32)) (3 * r + 2) (vp_nar .short y.toInt16.toInt32)) (3 * r + 3) (vp_nar .short z.toInt16.toInt32)) 0 (nI (r + 1))) := by
  obtain ⟨_, _, h3⟩ := h
  refine ⟨by omega, pk_us, fun k hk => ?_⟩
  rw [pk_un (j := 3 * k + 1) (k := 0) (by omega), pk_un (j := 3 * k + 2) (k := 0) (by omega), pk_un (j := 3 * k + 3) (k := 0) (by omega)]
  rw [pk_un (j := 3 * k + 1) (k := 3 * r + 3) (by omega), pk_un (j := 3 * k + 2) (k := 3 * r + 3) (by omega), pk_un (j := 3 * k + 1) (k := 3 * r + 2) (by omega)]
  by_cases e : k = r
  · subst e
    rw [pk_us, pk_us, pk_us, pk_us, pk_us, pk_us]
    exact ⟨ta_Ss x, ta_Ss y, ta_Ss z⟩
  · rw [pk_un (j := 3 * k + 3) (k := 3 * r + 3) (by omega), pk_un (j := 3 * k + 3) (k := 3 * r + 2) (by omega), pk_un (j := 3 * k + 3) (k := 3 * r + 1) (by omega), pk_un (j := 3 * k + 2) (k := 3 * r + 2) (by omega), pk_un (j := 3 * k + 2) (k := 3 * r + 1) (by omega), pk_un (j := 3 * k + 1) (k := 3 * r + 1) (by omega), pk_un e, pk_un e, pk_un e]
    exact h3 k (by omega)
theorem ta_sn : ∀ r, r < 2 → (nI r + 1).toInt16.toInt32 = nI (r + 1) := by decide +kernel
theorem ta_addL {k c p ct r q H : Nat} {oa ob : Int32} {ot pk pa ls ll li ce ro pt : Nat → Int32} {t : Nat} (hO : ta_O c p ct H ot ce) (ht : t < 76) (hs : ¬ ta_sh t = 0) (hR : ta_R r ls ll li ro) (hP : ta_P q pk pa pt) (hs2 : ¬ (ta_sh t &&& 32) = 0) (v1 v2 v3 : Int32) :
    wX_addLocalVar_30 (fun r u' => wpY_addLocalVar (fun r' v' => r' = r ∧ i_Rel (k + 4) u' v') (nI c, nI p, nI ct, nI t, oa, ob, lN H, ta_sh, ce, ro, pt) v1 v2 v3) v1 v2 v3 (nI c) (nI p) (nI ct) 1 (nI t) oa ob (nI q) (nI r) ot pk pa ls ll li := by
  have hOp : ta_Op 1 (nI t) (nI t) := Or.inr ⟨rfl, rfl, t, ht, rfl, hs⟩
  have e0 : ro 0 = nI r := hR.2.1
  have hr := hR.1
  have hT : (0 : Int32) ≤ nI t := nI_pos' (by omega)
  have hv : vp_in (nI t) 76 := vp_in_nI ht (by decide)
  have et : (nI t).toNatClampNeg = t := nI_clamp (by omega)
  have ec : (nI r).toNatClampNeg = r := nI_clamp (by omega)
  have hw : ¬ (ta_sh (nI t).toNatClampNeg &&& 32) = 0 := by rw [et]; exact hs2
  refine pk_lt r 2 (fun h => ?_) (fun h => ?_)
  · have hvr : vp_in (nI r) 2 := vp_in_nI h (by omega)
    refine And.intro hvr ?_
    refine nm_r (congrArg (fun j => upd ls j v1) ec) ?_
    refine And.intro hvr ?_
    refine nm_r (congrArg (fun j => upd ll j v2) ec) ?_
    refine And.intro hvr ?_
    refine nm_r (congrArg (fun j => upd li j v3) ec) ?_
    refine nm_r (nI_1 r) ?_
    refine br_t hT (And.intro hv (br_f hw ?_))
    refine br_t (by rw [e0]; exact nI_lt (b := 2) h (by decide)) ?_
    refine nm_r (e' := nI (3 * r)) (by rw [e0]; exact pk_mul 3 r) ?_
    have i1 : nI (3 * r) + 1 = nI (3 * r + 1) := nI_add _ 1
    have i2 : nI (3 * r) + 2 = nI (3 * r + 2) := nI_add _ 2
    have i3 : nI (3 * r) + 3 = nI (3 * r + 3) := nI_add _ 3
    have c1 : (nI (3 * r + 1)).toNatClampNeg = 3 * r + 1 := nI_clamp (by omega)
    have c2 : (nI (3 * r + 2)).toNatClampNeg = 3 * r + 2 := nI_clamp (by omega)
    have c3 : (nI (3 * r + 3)).toNatClampNeg = 3 * r + 3 := nI_clamp (by omega)
    refine And.intro (by rw [i1]; exact vp_in_nI (by omega) (by omega)) ?_
    refine nm_r (e' := upd ro (3 * r + 1) (vp_nar .short v1.toInt16.toInt32)) (by rw [i1, c1]) ?_
    refine And.intro (by rw [i2]; exact vp_in_nI (by omega) (by omega)) ?_
    refine nm_r (e' := upd (upd ro (3 * r + 1) (vp_nar .short v1.toInt16.toInt32)) (3 * r + 2) (vp_nar .short v2.toInt16.toInt32)) (by rw [i2, c2]) ?_
    refine And.intro (by rw [i3]; exact vp_in_nI (by omega) (by omega)) ?_
    refine nm_r (e' := upd (upd (upd ro (3 * r + 1) (vp_nar .short v1.toInt16.toInt32)) (3 * r + 2) (vp_nar .short v2.toInt16.toInt32)) (3 * r + 3) (vp_nar .short v3.toInt16.toInt32)) (by rw [i3, c3]) ?_
    have e2 : upd (upd (upd ro (3 * r + 1) (vp_nar .short v1.toInt16.toInt32)) (3 * r + 2) (vp_nar .short v2.toInt16.toInt32)) (3 * r + 3) (vp_nar .short v3.toInt16.toInt32) 0 = nI r := by
      rw [pk_un (by omega), pk_un (by omega), pk_un (by omega)]
      exact e0
    have e3 : (upd (upd (upd ro (3 * r + 1) (vp_nar .short v1.toInt16.toInt32)) (3 * r + 2) (vp_nar .short v2.toInt16.toInt32)) (3 * r + 3) (vp_nar .short v3.toInt16.toInt32) 0 + 1).toInt16.toInt32 = nI (r + 1) := by
      rw [e2]
      exact ta_sn r h
    refine nm_r (e' := upd (upd (upd (upd ro (3 * r + 1) (vp_nar .short v1.toInt16.toInt32)) (3 * r + 2) (vp_nar .short v2.toInt16.toInt32)) (3 * r + 3) (vp_nar .short v3.toInt16.toInt32)) 0 (nI (r + 1))) (by rw [pk_vs (upd (upd (upd ro (3 * r + 1) (vp_nar .short v1.toInt16.toInt32)) (3 * r + 2) (vp_nar .short v2.toInt16.toInt32)) (3 * r + 3) (vp_nar .short v3.toInt16.toInt32) 0 + 1), e3]) ?_
    refine ⟨e3, ?_⟩
    exact ta_in hO hOp (ta_Rn hR h v1 v2 v3) hP
  · refine br_t hT (And.intro hv (br_f hw ?_))
    refine br_f (by rw [e0]; exact nI_nlt (b := 2) h (by omega)) ?_
    exact ⟨rfl, ta_in hO hOp hR hP⟩
theorem i_vc_addLocalVar {k : Nat} {u : SX} {v : SY} (I : i_Rel k u v) (hk : k + 4 ≤ 2049) (v1 : Int32) (v2 : Int32) (v3 : Int32) : wpX_addLocalVar (fun r u' => wpY_addLocalVar (fun r' v' => r' = r ∧ i_Rel (k + 4) u' v') v v1 v2 v3) u v1 v2 v3 := by
  refine ta_el (P := fun u v => wpX_addLocalVar (fun r u' => wpY_addLocalVar (fun r' v' => r' = r ∧ i_Rel (k + 4) u' v') v v1 v2 v3) u v1 v2 v3) I ?_
  intro c p ct r q H op tg ty oa ob ot pk pa ls ll li ce ro pt hO hOp hR hP
  have rel := ta_in (k := k + 4) (oa := oa) (ob := ob) hO hOp hR hP
  rcases hOp with ⟨rfl, rfl⟩ | ⟨rfl, rfl, t, ht, rfl, hs⟩
  · refine br_t rfl ?_
    exact br_f (by decide) ⟨rfl, rel⟩
  · refine br_f (by decide) ?_
    have hT : (0 : Int32) ≤ nI t := nI_pos' (by omega)
    have hv : vp_in (nI t) 76 := vp_in_nI ht (by decide)
    have et : (nI t).toNatClampNeg = t := nI_clamp (by omega)
    rcases ta_loc t ht with ⟨hl, h2⟩ | ⟨n1, n2, h2⟩
    · by_cases z : nI t = 64
      · exact br_t z (ta_addL hO ht hs hR hP h2 v1 v2 v3)
      · exact br_f z (br_t (hl.resolve_left z) (ta_addL hO ht hs hR hP h2 v1 v2 v3))
    · refine br_f n1 (br_f n2 ?_)
      refine br_t hT (And.intro hv (br_t (by rw [et]; exact h2) ⟨rfl, rel⟩))
theorem ta_iNle {r s : Nat} (hr : r ≤ 2) (hs : s < 6) : ta_iN r s ≤ 14 := by
  match s, hs with
  | 0, _ => exact (by decide : 0 ≤ 14)
  | 1, _ => exact (by decide : 1 ≤ 14)
  | 2, _ => exact (by decide : 2 ≤ 14)
  | 3, _ => exact (by decide : 2 ≤ 14)
  | 4, _ =>
    show 2 + 6 * r ≤ 14
    omega
  | 5, _ => exact (by decide : 3 ≤ 14)
theorem i_vc_end {k : Nat} {u : SX} {v : SY} (I : i_Rel k u v) (hk : k + 4 ≤ 2049) (v1 : Int32) : wpX_end (fun r u' => wpY_end (fun r' v' => r' = r ∧ i_Rel (k + 4) u' v') v v1) u v1 := by
  refine ta_el (P := fun u v => wpX_end (fun r u' => wpY_end (fun r' v' => r' = r ∧ i_Rel (k + 4) u' v') v v1) u v1) I ?_
  intro c p ct r q H op tg ty oa ob ot pk pa ls ll li ce ro pt hO hOp hR hP
  have rel := ta_in (k := k + 4) (oa := oa) (ob := ob) hO hOp hR hP
  rcases hOp with ⟨rfl, rfl⟩ | ⟨rfl, rfl, t, ht, rfl, hs⟩
  · refine br_t rfl ?_
    exact br_f (by decide) ⟨rfl, rel⟩
  · have hOp : ta_Op 0 (nI t) (-1) := Or.inl ⟨rfl, rfl⟩
    rcases ta_tb ht with ⟨a, b⟩ | ⟨_, s, hs6, a, b⟩
    · exact absurd b hs
    · obtain ⟨o1, o2, o3, o4, o5, o6⟩ := hO
      have hM : ta_m (nI t :: (ta_iX oa ob r ls ll li s ++ ta_tX pk pa q v1)) = ta_m (nI t :: (ta_iY oa ob r ro s ++ ta_tY pt q v1)) := ta_mX hs6 hR.2.1 hP.2.1 hR.2.2 hP.2.2
      have lX := ta_lX (nI t) oa ob v1 r q ls ll li pk pa hs6
      have lY := ta_ml hM
      have hi := ta_iNle hR.1 hs6
      have hq := hP.1
      refine tx_end o1 o2 hP.1 hR.1 hs6 a (fun hf => ?_) (fun hf => ?_)
      · refine ty_end o1 hP.1 hP.2.1 hR.1 hR.2.1 ht hs6 b ?_
        obtain ⟨e', f1, f2⟩ := ta_free c (nI t :: (ta_iY oa ob r ro s ++ ta_tY pt q v1)) p ce (by rw [lY, lX]; omega)
        refine f2 _ ?_
        rw [lY, lX]
        refine br_f (nI_ge hf (by omega)) ⟨rfl, ?_⟩
        exact ta_in ⟨o1, o2, o3, o4, o5, fun i h1 h2 => by rw [f1 i h2]; exact o6 i h1 h2⟩ hOp hR hP
      · obtain ⟨a', e', f1, f2, f3, f4⟩ := ta_lock c o1 (nI t :: (ta_iX oa ob r ls ll li s ++ ta_tX pk pa q v1)) (nI t :: (ta_iY oa ob r ro s ++ ta_tY pt q v1)) p ot ce hM (by rw [lX]; exact hf)
        refine f3 _ ?_
        refine ty_end o1 hP.1 hP.2.1 hR.1 hR.2.1 ht hs6 b ?_
        refine f4 _ ?_
        rw [lX] at f2
        rw [lX]
        refine br_t (nI_le hf (by omega)) ⟨?_, ?_⟩
        · rw [pk_sub (by omega)]
          exact congrArg nI (by omega)
        · rw [nI_1]
          refine ta_in ⟨o1, hf, by omega, o4, fun i hi => ?_, fun i h1 h2 => ?_⟩ hOp hR hP
          · rw [(f1 i (by omega)).1]
            exact o5 i hi
          · by_cases z : i < p
            · rw [(f1 i z).1, (f1 i z).2]
              exact o6 i h1 z
            · exact f2 i (by omega) h2
theorem i_vc_finish {k : Nat} {u : SX} {v : SY} (I : i_Rel k u v) (hk : k + 4 ≤ 2049) (v1 : Int32) : wpX_finish (fun r u' => wpY_finish (fun r' v' => r' = r ∧ i_Rel (k + 4) u' v') v v1) u v1 := by
  refine ta_el (P := fun u v => wpX_finish (fun r u' => wpY_finish (fun r' v' => r' = r ∧ i_Rel (k + 4) u' v') v v1) u v1) I ?_
  intro c p ct r q H op tg ty oa ob ot pk pa ls ll li ce ro pt hO hOp hR hP
  have rel := ta_in (k := k + 4) (oa := oa) (ob := ob) hO hOp hR hP
  obtain ⟨o1, o2, o3, o4, o5, o6⟩ := hO
  rcases hOp with ⟨rfl, rfl⟩ | ⟨rfl, rfl, t, ht, rfl, hs⟩
  · refine br_t rfl ?_
    refine nm_r (e' := nI (p - 6)) (pk_sub (b := 6) (by omega)) ?_
    refine nm_e (nm_e (nm_e (nm_e (nm_e (nm_e (nm_e (nm_e ?_)))))))
    refine ty_fin (by omega) (by omega) (by omega) (by decide) v1 ?_
    refine ⟨(nI_l (by omega)).symm, ?_⟩
    refine ta_in (ot := ta_f8 v1 (nI (p - 6)) (nI ct) ot) ⟨o1, o2, o3, ta_Hlt v1 (by omega) (by omega), ta_f8lo v1 (by omega) (by omega) ot, fun i h1 h2 => ?_⟩ (Or.inl ⟨rfl, rfl⟩) hR hP
    rw [ta_f8hi _ _ _ _ _ h1]
    exact o6 i h1 h2
  · refine br_f (by decide) ?_
    exact br_f (nI_pos (by omega)) ⟨rfl, rel⟩
theorem i_vc_byteAt {k : Nat} {u : SX} {v : SY} (I : i_Rel k u v) (hk : k + 4 ≤ 2049) (v1 : Int32) : wpX_byteAt (fun r => wpY_byteAt (fun r' => r' = r ∧ i_Rel (k + 4) u v) v v1) u v1 := by
  have I' : i_Rel (k + 4) u v := I
  revert I'
  refine ta_el (P := fun u v => i_Rel (k + 4) u v → wpX_byteAt (fun r => wpY_byteAt (fun r' => r' = r ∧ i_Rel (k + 4) u v) v v1) u v1) I ?_
  intro c p ct r q H op tg ty oa ob ot pk pa ls ll li ce ro pt hO hOp hR hP rel
  obtain ⟨o1, o2, o3, o4, o5, o6⟩ := hO
  by_cases h0 : v1 < 0
  · exact br_t h0 (br_t h0 ⟨rfl, rel⟩)
  · obtain ⟨j, hj, rfl⟩ := nI_of h0
    refine br_f h0 ?_
    have ec : (nI j).toNatClampNeg = j := nI_clamp hj
    by_cases hp : nI j < nI p
    · have hp' : j < p := (nI_ltI hj (by omega)).mp hp
      refine br_t hp ?_
      refine And.intro (vp_in_nI (by omega) (by omega)) ?_
      refine br_f h0 (br_t hp ?_)
      refine pk_le 8 j (fun h8 => ?_) (fun h8 => ?_)
      · refine And.intro (vp_in_nI (by omega) (by omega)) ⟨?_, rel⟩
        rw [ec]
        exact (o6 j h8 hp').symm
      · refine ⟨?_, rel⟩
        rw [ec, o5 j h8]
        exact ta_at H o4 j h8
    · exact br_f hp (br_f h0 (br_f hp ⟨rfl, rel⟩))
end
