section
/-! pure rows to paste: stores, nI and lN arithmetic, masks, shifts, narrowing, branches by naturals (pk_le, pk_lt, pk_eq), loops (lp1 .. lp16: the measure of the state; rp1 ..: recursion), negatives. Take what you need -/
theorem pk_us {f : Nat → Int32} {k : Nat} {x : Int32} : upd f k x k = x := if_pos rfl
theorem pk_un {f : Nat → Int32} {k j : Nat} {x : Int32} (h : j ≠ k) : upd f k x j = f j := if_neg h
theorem pk_uLs {f : Nat → Int64} {k : Nat} {x : Int64} : vp_updL f k x k = x := if_pos rfl
theorem pk_uLn {f : Nat → Int64} {k j : Nat} {x : Int64} (h : j ≠ k) : vp_updL f k x j = f j := if_neg h
theorem pk_sub {a b : Nat} (h : b ≤ a) : nI a - nI b = nI (a - b) := by
  obtain ⟨c, rfl⟩ : ∃ c, a = c + b := ⟨a - b, by omega⟩
  rw [← nI_add, Int32.add_sub_cancel, Nat.add_sub_cancel]
theorem pk_m1 (n : Nat) : nI (n + 1) + (-1) = nI n := by
  rw [← nI_1, Int32.add_assoc, show (1 : Int32) + (-1) = 0 from rfl, Int32.add_zero]
theorem pk_mul (a b : Nat) : nI a * nI b = nI (a * b) := (Int32.ofNat_mul a b).symm
theorem pk_div {a d : Nat} (ha : a < 2 ^ 31) (h0 : 0 < d) (hd : d < 2 ^ 31) : nI a / nI d = nI (a / d) := by
  apply Int32.toInt_inj.mp
  rw [lg_idiv_nonneg (by rw [nI_toInt ha]; omega) (by rw [nI_toInt hd]; omega), nI_toInt ha, nI_toInt hd, nI_toInt (Nat.lt_of_le_of_lt (Nat.div_le_self a d) ha)]
  first | rfl | exact (Int.natCast_ediv _ _).symm
theorem pk_rem {a d : Nat} (ha : a < 2 ^ 31) (h0 : 0 < d) (hd : d < 2 ^ 31) : nI a - nI a / nI d * nI d = nI (a % d) := by
  rw [pk_div ha h0 hd, pk_mul, pk_sub (Nat.div_mul_le_self a d)]
  exact congrArg nI (by have := Nat.div_add_mod' a d; omega)
theorem pk_sub_toInt {a b : Nat} (ha : a < 2 ^ 30) (hb : b < 2 ^ 30) : (nI a - nI b).toInt = (a : Int) - b := by
  rw [Int32.toInt_sub, nI_toInt (by omega), nI_toInt (by omega)]
  exact Int.bmod_eq_of_le (by omega) (by omega)
theorem pk_sneg {a b : Nat} (hb : b < 2 ^ 30) (h : a < b) : nI a - nI b < 0 := by
  rw [Int32.lt_iff_toInt_lt, pk_sub_toInt (by omega) hb, show (0 : Int32).toInt = 0 from by decide]
  omega
theorem pk_ix (x : Int32) {n : Nat} (hn : n < 2 ^ 31) : x < 0 ∨ nI n ≤ x ∨ ∃ j : Nat, j < n ∧ x = nI j := by
  by_cases h : x < 0
  · exact Or.inl h
  · obtain ⟨j, hj, rfl⟩ := nI_of h
    by_cases h2 : j < n
    · exact Or.inr (Or.inr ⟨j, h2, rfl⟩)
    · exact Or.inr (Or.inl (nI_le (by omega) hj))
theorem pk_le {x y : Int32} {A B : Prop} (a b : Nat) (f : a ≤ b → A) (g : b < a → B) (hx : x = nI a := by rfl) (hy : y = nI b := by rfl) (ha : a < 2 ^ 31 := by omega) (hb : b < 2 ^ 31 := by omega) : (x ≤ y → A) ∧ (¬ x ≤ y → B) := by
  subst hx hy
  rw [nI_leI ha hb]
  exact ⟨f, fun z => g (by omega)⟩
theorem pk_lt {x y : Int32} {A B : Prop} (a b : Nat) (f : a < b → A) (g : b ≤ a → B) (hx : x = nI a := by rfl) (hy : y = nI b := by rfl) (ha : a < 2 ^ 31 := by omega) (hb : b < 2 ^ 31 := by omega) : (x < y → A) ∧ (¬ x < y → B) := by
  subst hx hy
  rw [nI_ltI ha hb]
  exact ⟨f, fun z => g (by omega)⟩
theorem pk_eq {x y : Int32} {A B : Prop} (a b : Nat) (f : a = b → A) (g : a ≠ b → B) (hx : x = nI a := by rfl) (hy : y = nI b := by rfl) (ha : a < 2 ^ 31 := by omega) (hb : b < 2 ^ 31 := by omega) : (x = y → A) ∧ (¬ x = y → B) := by
  subst hx hy
  rw [nI_eq ha hb]
  exact ⟨f, g⟩
theorem pk_in {x : Int32} (n N : Nat) (h : n < N) (hx : x = nI n := by rfl) (hN : N < 2 ^ 31 := by omega) : vp_in x N := by
  subst hx
  exact vp_in_nI h hN
theorem pk_cl {x : Int32} (n : Nat) (hx : x = nI n := by rfl) (h : n < 2 ^ 31 := by omega) : x.toNatClampNeg = n := by
  subst hx
  exact nI_clamp h
theorem pk_tn {n : Nat} (h : n < 2 ^ 32) : (nI n).toBitVec.toNat = n := Nat.mod_eq_of_lt h
theorem pk_and (x : Int32) {m : Int32} (k : Nat) (hm : m.toBitVec.toNat = 2 ^ k - 1) : x &&& m = nI (x.toBitVec.toNat % 2 ^ k) := by
  apply Int32.toBitVec_inj.mp
  apply BitVec.eq_of_toNat_eq
  rw [Int32.toBitVec_and, BitVec.toNat_and, hm, Nat.and_two_pow_sub_one_eq_mod]
  show _ = (BitVec.ofNat 32 _).toNat
  rw [BitVec.toNat_ofNat]
  exact (Nat.mod_eq_of_lt (Nat.lt_of_le_of_lt (Nat.mod_le _ _) x.toBitVec.isLt)).symm
theorem pk_andN {n : Nat} (h : n < 2 ^ 32) {m : Int32} (k : Nat) (hm : m.toBitVec.toNat = 2 ^ k - 1) : nI n &&& m = nI (n % 2 ^ k) := by
  rw [pk_and _ k hm, pk_tn h]
theorem pk_andE (x : Int32) {m : Int32} (k : Nat) (hm : m.toBitVec.toNat = 2 ^ k - 1) : ∃ j : Nat, j < 2 ^ k ∧ x &&& m = nI j := ⟨_, Nat.mod_lt _ (Nat.two_pow_pos k), pk_and x k hm⟩
theorem pk_andIn (x : Int32) {m : Int32} (k : Nat) (hm : m.toBitVec.toNat = 2 ^ k - 1) (hk : k ≤ 30) : vp_in (x &&& m) (2 ^ k) := by
  obtain ⟨j, hj, e⟩ := pk_andE x k hm
  rw [e]
  exact vp_in_nI hj (Nat.lt_of_le_of_lt (Nat.pow_le_pow_right (by decide) hk) (by decide))
theorem pk_shl (a s : Int32) (k : Nat) (hs : (s.toBitVec.smod 32).toNat = k) : (a <<< s).toBitVec.toNat = a.toBitVec.toNat * 2 ^ k % 2 ^ 32 := by
  show (a.toBitVec <<< (s.toBitVec.smod 32).toNat).toNat = _
  rw [hs, BitVec.toNat_shiftLeft, Nat.shiftLeft_eq]
theorem pk_shlN {n : Nat} (s : Int32) (k : Nat) (hs : (s.toBitVec.smod 32).toNat = k) (h : n * 2 ^ k < 2 ^ 32) : nI n <<< s = nI (n * 2 ^ k) := by
  apply Int32.toBitVec_inj.mp
  apply BitVec.eq_of_toNat_eq
  have hn : n < 2 ^ 32 := Nat.lt_of_le_of_lt (Nat.le_mul_of_pos_right n (Nat.two_pow_pos k)) h
  rw [pk_shl _ _ k hs, pk_tn hn, pk_tn h, Nat.mod_eq_of_lt h]
theorem pk_shr (a s : Int32) (k : Nat) (hs : (s.toBitVec.smod 32).toNat = k) : (a >>> s).toInt = a.toInt >>> k := by
  show (a.toBitVec.sshiftRight (s.toBitVec.smod 32).toNat).toInt = _
  rw [hs, BitVec.toInt_sshiftRight]
  rfl
theorem pk_shrN {n : Nat} (h : n < 2 ^ 31) (s : Int32) (k : Nat) (hs : (s.toBitVec.smod 32).toNat = k) : nI n >>> s = nI (n / 2 ^ k) := by
  apply Int32.toInt_inj.mp
  have h2 : n / 2 ^ k ≤ n := Nat.div_le_self _ _
  rw [pk_shr _ _ k hs, nI_toInt h, nI_toInt (by omega), Int.shiftRight_eq_div_pow]
  rfl
theorem pk_ushr (x s : Int32) (k : Nat) (hs : ((s.toUInt32 &&& Int32.toUInt32 31).toBitVec % 32).toNat = k) : (x.toUInt32 >>> (s.toUInt32 &&& Int32.toUInt32 31)).toInt32.toBitVec.toNat = x.toBitVec.toNat / 2 ^ k := by
  have e : (x.toUInt32 >>> (s.toUInt32 &&& Int32.toUInt32 31)).toInt32.toBitVec = x.toBitVec >>> k := by
    rw [← hs]
    exact UInt32.toBitVec_shiftRight _ _
  rw [e, BitVec.toNat_ushiftRight, Nat.shiftRight_eq_div_pow]
theorem pk_ushrN {n : Nat} (hn : n < 2 ^ 32) (s : Int32) (k : Nat) (hs : ((s.toUInt32 &&& Int32.toUInt32 31).toBitVec % 32).toNat = k) : ((nI n).toUInt32 >>> (s.toUInt32 &&& Int32.toUInt32 31)).toInt32 = nI (n / 2 ^ k) := by
  apply Int32.toBitVec_inj.mp
  apply BitVec.eq_of_toNat_eq
  rw [pk_ushr _ s k hs, pk_tn hn, pk_tn (Nat.lt_of_le_of_lt (Nat.div_le_self _ _) hn)]
theorem pk_nb (z : Int32) : narrow .byte (.int z.toInt8.toInt32) = .int z.toInt8.toInt32 := congrArg Value.int (by simp)
theorem pk_ns (z : Int32) : narrow .short (.int z.toInt16.toInt32) = .int z.toInt16.toInt32 := congrArg Value.int (by simp)
theorem pk_fb (r : Int32) : fits .byte (.int r.toInt8.toInt32) = true := by
  have ⟨a, b⟩ := lg_i2b_range r
  have h1 : (-128 : Int32).toInt = -128 := by decide
  have h2 : (127 : Int32).toInt = 127 := by decide
  simp only [fits, Bool.and_eq_true, decide_eq_true_eq, Int32.le_iff_toInt_le, h1, h2]
  omega
theorem pk_fs (r : Int32) : fits .short (.int r.toInt16.toInt32) = true := by
  have ⟨a, b⟩ := lg_i2s_range r
  have h1 : (-32768 : Int32).toInt = -32768 := by decide
  have h2 : (32767 : Int32).toInt = 32767 := by decide
  simp only [fits, Bool.and_eq_true, decide_eq_true_eq, Int32.le_iff_toInt_le, h1, h2]
  omega
theorem pk_charN {q : Nat} (hq : q < 65536) : narrow .char (.int (nI q)) = .int (nI q) ∧ fits .char (.int (nI q)) = true := by
  constructor
  · have e : (nI q).toUInt32.toUInt16.toUInt32.toInt32 = nI q := by
      apply Int32.toBitVec_inj.mp
      apply BitVec.eq_of_toNat_eq
      show (nI q).toUInt32.toUInt16.toUInt32.toNat = q % 2 ^ 32
      rw [UInt16.toNat_toUInt32, UInt32.toNat_toUInt16, show (nI q).toUInt32.toNat = q % 2 ^ 32 from rfl]
      omega
    exact congrArg Value.int e
  · have a : (0 : Int32) ≤ nI q := nI_pos' (by omega)
    have b : nI q ≤ 65535 := nI_le (b := 65535) (by omega) (by decide)
    show (decide ((0 : Int32) ≤ nI q) && decide (nI q ≤ 65535)) = true
    rw [decide_eq_true a, decide_eq_true b]
    rfl
theorem pk_char (x : Int32) : (x.toUInt32 % 65536).toInt32 = nI (x.toBitVec.toNat % 65536) := by
  apply Int32.toBitVec_inj.mp
  apply BitVec.eq_of_toNat_eq
  rw [pk_tn (by omega)]
  show (x.toUInt32 % 65536).toNat = _
  rw [UInt32.toNat_mod]
  rfl
theorem pk_nc (x : Int32) : narrow .char (.int (x.toUInt32 % 65536).toInt32) = .int (x.toUInt32 % 65536).toInt32 := by
  rw [pk_char]
  exact (pk_charN (Nat.mod_lt _ (by decide))).1
theorem pk_fc (x : Int32) : fits .char (.int (x.toUInt32 % 65536).toInt32) = true := by
  rw [pk_char]
  exact (pk_charN (Nat.mod_lt _ (by decide))).2
theorem pk_vb (z : Int32) : vp_nar .byte z.toInt8.toInt32 = z.toInt8.toInt32 := by rw [vp_nar_byte]; simp
theorem pk_vs (z : Int32) : vp_nar .short z.toInt16.toInt32 = z.toInt16.toInt32 := by rw [vp_nar_short]; simp
theorem pk_vc (z : Int32) : vp_nar .char (z.toUInt32 % 65536).toInt32 = (z.toUInt32 % 65536).toInt32 := Value.int.inj (pk_nc z)
/-! ===== Int32 by its bits: bt x i ===== -/
def bt (x : Int32) (i : Nat) : Bool := x.toBitVec.getLsbD i
theorem b_ext {x y : Int32} (h : ∀ i, i < 32 → bt x i = bt y i) : x = y := Int32.toBitVec_inj.mp (BitVec.eq_of_getLsbD_eq (fun i hi => h i hi))
theorem b_or (x y : Int32) (i : Nat) : bt (x ||| y) i = (bt x i || bt y i) := by unfold bt; rw [Int32.toBitVec_or, BitVec.getLsbD_or]
theorem b_and (x y : Int32) (i : Nat) : bt (x &&& y) i = (bt x i && bt y i) := by unfold bt; rw [Int32.toBitVec_and, BitVec.getLsbD_and]
theorem b_xor (x y : Int32) (i : Nat) : bt (x ^^^ y) i = (bt x i ^^ bt y i) := by unfold bt; rw [Int32.toBitVec_xor, BitVec.getLsbD_xor]
theorem b_big {x : Int32} {i : Nat} (h : 32 ≤ i) : bt x i = false := BitVec.getLsbD_of_ge _ _ h
theorem b_255 (i : Nat) : bt 255 i = decide (i < 8) := by
  rcases Nat.lt_or_ge i 32 with h | h
  · exact (by decide +kernel : ∀ i, i < 32 → bt 255 i = decide (i < 8)) i h
  · rw [b_big h, decide_eq_false (by omega)]
theorem b_65535 (i : Nat) : bt 65535 i = decide (i < 16) := by
  rcases Nat.lt_or_ge i 32 with h | h
  · exact (by decide +kernel : ∀ i, i < 32 → bt 65535 i = decide (i < 16)) i h
  · rw [b_big h, decide_eq_false (by omega)]
theorem b_m1 : ∀ i, i < 32 → bt (-1) i = true := by decide +kernel
theorem b_0 (i : Nat) : bt 0 i = false := BitVec.getLsbD_zero
theorem s_l : ∀ n, n < 32 → ((nI n &&& 31).toBitVec.smod 32).toNat = n := by decide +kernel
theorem s_u : ∀ n, n < 32 → (((nI n).toUInt32 &&& Int32.toUInt32 31).toBitVec % 32).toNat = n := by decide +kernel
theorem b_shl (n : Nat) (hn : n < 32) (x : Int32) {i : Nat} (hi : i < 32) : bt (x <<< (nI n &&& 31)) i = (decide (n ≤ i) && bt x (i - n)) := by
  unfold bt
  rw [Int32.toBitVec_shiftLeft]
  show (x.toBitVec <<< ((nI n &&& 31).toBitVec.smod 32).toNat).getLsbD i = _
  rw [s_l n hn, BitVec.getLsbD_shiftLeft]
  rcases Nat.lt_or_ge i n with h | h
  · simp [h, Nat.not_le.mpr h]
  · simp [hi, h, Nat.not_lt.mpr h]
theorem b_ushr (n : Nat) (hn : n < 32) (x : Int32) (i : Nat) : bt ((x.toUInt32 >>> ((nI n).toUInt32 &&& Int32.toUInt32 31)).toInt32) i = bt x (n + i) := by
  show (x.toUInt32 >>> ((nI n).toUInt32 &&& Int32.toUInt32 31)).toBitVec.getLsbD i = x.toUInt32.toBitVec.getLsbD (n + i)
  rw [UInt32.toBitVec_shiftRight]
  show (x.toUInt32.toBitVec >>> (((nI n).toUInt32 &&& Int32.toUInt32 31).toBitVec % 32).toNat).getLsbD i = _
  rw [s_u n hn, BitVec.getLsbD_ushiftRight]
theorem b_sshr (n : Nat) (hn : n < 32) (x : Int32) {i : Nat} (hi : i < 32) : bt (x >>> (nI n &&& 31)) i = if n + i < 32 then bt x (n + i) else bt x 31 := by
  unfold bt
  rw [Int32.toBitVec_shiftRight]
  show (x.toBitVec.sshiftRight ((nI n &&& 31).toBitVec.smod 32).toNat).getLsbD i = _
  rw [s_l n hn, BitVec.getLsbD_sshiftRight, BitVec.msb_eq_getLsbD_last]
  simp [hi]
theorem b_shl8 (x : Int32) {i : Nat} (hi : i < 32) : bt (x <<< ((8 : Int32) &&& 31)) i = (decide (8 ≤ i) && bt x (i - 8)) := b_shl 8 (by omega) x hi
theorem b_shl16 (x : Int32) {i : Nat} (hi : i < 32) : bt (x <<< ((16 : Int32) &&& 31)) i = (decide (16 ≤ i) && bt x (i - 16)) := b_shl 16 (by omega) x hi
theorem b_shl24 (x : Int32) {i : Nat} (hi : i < 32) : bt (x <<< ((24 : Int32) &&& 31)) i = (decide (24 ≤ i) && bt x (i - 24)) := b_shl 24 (by omega) x hi
theorem b_sshr8 (x : Int32) {i : Nat} (hi : i < 32) : bt (x >>> ((8 : Int32) &&& 31)) i = if 8 + i < 32 then bt x (8 + i) else bt x 31 := b_sshr 8 (by omega) x hi
/-! ===== nI under and, xor, >>>, one bit, 65535 ===== -/
theorem nx_and (a b : Nat) : nI a &&& nI b = nI (a &&& b) := by
  apply Int32.toBitVec_inj.1
  show BitVec.ofNat 32 a &&& BitVec.ofNat 32 b = BitVec.ofNat 32 (a &&& b)
  apply BitVec.eq_of_getLsbD_eq
  intro i hi
  simp [hi]
theorem nx_xor (a b : Nat) : nI a ^^^ nI b = nI (a ^^^ b) := by
  apply Int32.toBitVec_inj.1
  show BitVec.ofNat 32 a ^^^ BitVec.ofNat 32 b = BitVec.ofNat 32 (a ^^^ b)
  apply BitVec.eq_of_getLsbD_eq
  intro i hi
  simp [hi]
theorem nx_cnt : ∀ j : Fin 32, (UInt32.ofNat j.val &&& Int32.toUInt32 31).toNat % 32 = j.val := by decide +kernel
theorem nx_ush {k j : Nat} (hk : k < 65536) (hj : j < 32) : ((nI k).toUInt32 >>> ((nI j).toUInt32 &&& Int32.toUInt32 31)).toInt32 = nI (k >>> j) := by
  have hs : k >>> j ≤ k := by
    rw [Nat.shiftRight_eq_div_pow]
    exact Nat.div_le_self _ _
  have e2 : UInt32.ofNat k >>> (UInt32.ofNat j &&& Int32.toUInt32 31) = UInt32.ofNat (k >>> j) := by
    apply UInt32.toNat_inj.1
    have h1 : (UInt32.ofNat k).toNat = k := Nat.mod_eq_of_lt (by omega)
    have h2 : (UInt32.ofNat (k >>> j)).toNat = k >>> j := Nat.mod_eq_of_lt (by omega)
    rw [UInt32.toNat_shiftRight, nx_cnt ⟨j, hj⟩, h1, h2]
  show (UInt32.ofNat k >>> (UInt32.ofNat j &&& Int32.toUInt32 31)).toInt32 = _
  rw [e2]
  rfl
theorem nx_bit {k j : Nat} (hk : k < 65536) (hj : j < 16) : (((nI k).toUInt32 >>> ((nI j).toUInt32 &&& Int32.toUInt32 31)).toInt32 &&& 1) = 0 ↔ k.testBit j = false := by
  rw [nx_ush hk (by omega)]
  show nI (k >>> j) &&& nI 1 = 0 ↔ _
  rw [nx_and, Nat.and_one_is_mod, ← nI_0, nI_eq (by omega) (by omega), Nat.testBit_eq_decide_div_mod_eq, Nat.shiftRight_eq_div_pow, decide_eq_false_iff_not]
  generalize k / 2 ^ j = z
  omega
theorem nx_mod (k : Nat) : nI k &&& 65535 = nI (k % 65536) := by
  show nI k &&& nI 65535 = _
  rw [nx_and, show (65535 : Nat) = 2 ^ 16 - 1 from rfl, Nat.and_two_pow_sub_one_eq_mod]
theorem nx_m16 {k : Nat} (h : k < 65536) : nI k &&& 65535 = nI k := by rw [nx_mod, Nat.mod_eq_of_lt h]
theorem nx_mask (x : Int32) : ∃ k, k < 65536 ∧ x &&& 65535 = nI k := by
  have e : x = nI x.toBitVec.toNat := by
    apply Int32.toBitVec_inj.1
    show x.toBitVec = BitVec.ofNat 32 x.toBitVec.toNat
    simp
  refine ⟨x.toBitVec.toNat % 65536, Nat.mod_lt _ (by omega), ?_⟩
  rw [← nx_mod, ← e]
end
section
/-! numbers within the range, and the masks of a linear condition -/
theorem ar_bm {z : Int} (h : -2147483648 ≤ z) (h2 : z < 2147483648) : z.bmod (2 ^ 32) = z := Int.bmod_eq_of_le (by omega) (by omega)
theorem ar_add {a b : Int32} (h : -2147483648 ≤ a.toInt + b.toInt) (h2 : a.toInt + b.toInt < 2147483648) : (a + b).toInt = a.toInt + b.toInt := by
  rw [Int32.toInt_add]; exact ar_bm h h2
theorem ar_sub {a b : Int32} (h : -2147483648 ≤ a.toInt - b.toInt) (h2 : a.toInt - b.toInt < 2147483648) : (a - b).toInt = a.toInt - b.toInt := by
  rw [Int32.toInt_sub]; exact ar_bm h h2
theorem ar_mul {a b : Int32} (h : -2147483648 ≤ a.toInt * b.toInt) (h2 : a.toInt * b.toInt < 2147483648) : (a * b).toInt = a.toInt * b.toInt := by
  rw [Int32.toInt_mul]; exact ar_bm h h2
theorem ar_neg {a : Int32} (h : -2147483648 < a.toInt) (h2 : a.toInt ≤ 2147483648) : (-a).toInt = -a.toInt := by
  rw [Int32.toInt_neg]; exact ar_bm (by omega) (by omega)
theorem ar_0 : (0 : Int32).toInt = 0 := by decide
theorem ar_1 : (1 : Int32).toInt = 1 := by decide
theorem ar_le {a b : Int32} : a ≤ b ↔ a.toInt ≤ b.toInt := Int32.le_iff_toInt_le
theorem ar_lt {a b : Int32} : a < b ↔ a.toInt < b.toInt := Int32.lt_iff_toInt_lt
theorem ar_eq {a b : Int32} : a = b ↔ a.toInt = b.toInt := Int32.toInt_inj.symm
/-- the cut quotient by a divisor above 0: its rest is smaller than the divisor, and of the sign of a -/
theorem ar_td (a b : Int) (hb : 0 < b) : ∃ r : Int, a = a.tdiv b * b + r ∧ -b < r ∧ r < b ∧ (0 ≤ a → 0 ≤ r) ∧ (a ≤ 0 → r ≤ 0) := by
  refine ⟨a.tmod b, ?_, ?_, ?_, ?_, ?_⟩
  · have := Int.mul_tdiv_add_tmod a b
    rw [Int.mul_comm] at this
    omega
  · rcases Int.le_total 0 a with h | h
    · have := Int.tmod_nonneg b h
      omega
    · have e : a.tmod b = -((-a).tmod b) := by rw [Int.neg_tmod]; omega
      have := Int.tmod_lt_of_pos (-a) hb
      omega
  · exact Int.tmod_lt_of_pos a hb
  · intro h; exact Int.tmod_nonneg b h
  · intro h
    have e : a.tmod b = -((-a).tmod b) := by rw [Int.neg_tmod]; omega
    have := Int.tmod_nonneg b (show 0 ≤ -a by omega)
    omega
theorem ar_tdB {a b : Int} (hb : 0 < b) {M : Int} (h1 : -M ≤ a) (h2 : a ≤ M) : -M ≤ a.tdiv b ∧ a.tdiv b ≤ M := by
  rcases Int.le_total 0 a with h | h
  · rw [Int.tdiv_eq_ediv_of_nonneg h]
    have h3 : 0 ≤ a / b := Int.ediv_nonneg h (by omega)
    have h4 : a / b ≤ a := Int.ediv_le_self b h
    omega
  · have e : a.tdiv b = -((-a).tdiv b) := by rw [Int.neg_tdiv]; omega
    rw [e, Int.tdiv_eq_ediv_of_nonneg (show 0 ≤ -a by omega)]
    have h3 : 0 ≤ (-a) / b := Int.ediv_nonneg (by omega) (by omega)
    have h4 : (-a) / b ≤ -a := Int.ediv_le_self b (by omega)
    omega
theorem ar_div {a b : Int32} (hb : 0 < b.toInt) (h1 : -1073741824 ≤ a.toInt) (h2 : a.toInt ≤ 1073741824) : (a / b).toInt = a.toInt.tdiv b.toInt := by
  have h := ar_tdB (M := 1073741824) hb h1 h2
  rw [Int32.toInt_div]; exact ar_bm (by omega) (by omega)
theorem ar_floor {post : Int32 → Prop} {a b : Int32} (hb : 0 < b.toInt) (h1 : -1073741824 ≤ a.toInt) (h2 : a.toInt ≤ 1073741824) (h : ∀ t : Int32, t.toInt * b.toInt ≤ a.toInt → a.toInt < t.toInt * b.toInt + b.toInt → post t) : wpX_floor post a b := by
  have hn : ¬ b ≤ 0 := by rw [ar_le, ar_0]; omega
  have hz : ¬ b = 0 := by rw [ar_eq, ar_0]; omega
  have hbM := b.toInt_lt
  obtain ⟨r, e, r1, r2, r3, r4⟩ := ar_td a.toInt b.toInt hb
  have eq := ar_div hb h1 h2
  have hB := ar_tdB (M := 1073741824) hb h1 h2
  generalize a.toInt.tdiv b.toInt = q at e eq hB
  have em : (a / b * b).toInt = q * b.toInt := by
    rw [ar_mul, eq]
    · rw [eq]; omega
    · rw [eq]; omega
  refine br_f hn ⟨hz, ?_⟩
  show wX_floor_11 post a b (a / b)
  unfold wX_floor_11
  refine br_c (fun g => ?_) (fun g => ?_)
  · rw [ar_le, em] at g
    exact h _ (by rw [eq]; omega) (by rw [eq]; omega)
  · rw [ar_le, em] at g
    have e1 : (a / b - 1).toInt = q - 1 := by
      rw [ar_sub, eq, ar_1]
      · rw [eq, ar_1]; omega
      · rw [eq, ar_1]; omega
    have e2 : (q - 1) * b.toInt = q * b.toInt - b.toInt := by rw [Int.sub_mul, Int.one_mul]
    exact h _ (by rw [e1, e2]; omega) (by rw [e1, e2]; omega)
theorem ar_up : ∀ k, k < 15 → ∀ y, y < 16 → bt (((1 : Int32) <<< ((nI k + 1) &&& 31)) - 1) y = decide (y ≤ k) := by decide +kernel
theorem ar_one : ∀ k, k < 16 → ∀ y, y < 16 → bt ((1 : Int32) <<< (nI k &&& 31)) y = decide (y = k) := by decide +kernel
theorem ar_upTo {post : Int32 → Prop} {t : Int32} (h : ∀ m : Int32, (∀ y : Nat, y < 16 → (bt m y = true ↔ (y : Int) ≤ t.toInt)) → post m) : wpX_upTo post t := by
  have e15 : (15 : Int32).toInt = 15 := by decide
  refine br_c (fun g => ?_) (fun g => ?_)
  · rw [ar_le, ar_0] at g
    obtain ⟨k, hk, rfl⟩ := nI_of (x := t) (by rw [ar_lt, ar_0]; omega)
    rw [nI_toInt hk] at g
    refine br_c (fun g2 => ?_) (fun g2 => ?_)
    · rw [ar_lt, e15, nI_toInt hk] at g2
      refine h _ (fun y hy => ?_)
      rw [ar_up k (by omega) y hy, nI_toInt hk, decide_eq_true_iff]
      omega
    · rw [ar_lt, e15, nI_toInt hk] at g2
      refine h _ (fun y hy => ?_)
      rw [b_65535, nI_toInt hk, decide_eq_true_iff]
      omega
  · rw [ar_le, ar_0] at g
    refine h _ (fun y hy => ?_)
    rw [b_0]
    constructor
    · intro z; exact absurd z (by decide)
    · intro z; omega
theorem ar_mulL {f : Int} (hf : 0 < f) (y t : Int) : (y ≤ t → y * f ≤ t * f) ∧ (t + 1 ≤ y → t * f + f ≤ y * f) := by
  constructor
  · intro h; exact Int.mul_le_mul_of_nonneg_right h (by omega)
  · intro h
    have := Int.mul_le_mul_of_nonneg_right h (show 0 ≤ f by omega)
    rw [Int.add_mul, Int.one_mul] at this
    exact this
theorem ar_below {post : Int32 → Prop} {c f : Int32} (c1 : -1000000000 ≤ c.toInt) (c2 : c.toInt ≤ 1000000000) (f1 : -1000000000 ≤ f.toInt) (f2 : f.toInt ≤ 1000000000) (h : ∀ m : Int32, (∀ y : Nat, y < 16 → (bt m y = true ↔ c.toInt + f.toInt * (y : Int) < 0)) → post m) : wpX_below post c f := by
  refine br_c (fun g => ?_) (fun g => ?_)
  · have e : f.toInt = 0 := by rw [g]; decide
    refine br_c (fun g2 => ?_) (fun g2 => ?_)
    · rw [ar_le, ar_0] at g2
      refine h _ (fun y hy => ?_)
      rw [b_0, e, Int.zero_mul]
      constructor
      · intro z; exact absurd z (by decide)
      · intro z; omega
    · rw [ar_le, ar_0] at g2
      refine h _ (fun y hy => ?_)
      rw [b_65535, e, Int.zero_mul, decide_eq_true_iff]
      omega
  · have g0 : ¬ f.toInt = 0 := by intro z; exact g (ar_eq.mpr (by rw [z, ar_0]))
    refine br_c (fun g2 => ?_) (fun g2 => ?_)
    · rw [ar_le, ar_0] at g2
      have en : (-f).toInt = -f.toInt := ar_neg (by omega) (by omega)
      refine ar_floor (by rw [en]; omega) (by omega) (by omega) (fun t t1 t2 => ?_)
      refine ar_upTo (fun m hm => ?_)
      refine h _ (fun y hy => ?_)
      rw [b_and, b_xor, b_65535, b_m1 y (by omega), decide_eq_true hy]
      have hy2 := hm y hy
      obtain ⟨k1, k2⟩ := ar_mulL (show 0 < -f.toInt by omega) (y : Int) t.toInt
      rw [en] at t1 t2
      have e3 : f.toInt * (y : Int) = -((y : Int) * -f.toInt) := by rw [Int.mul_neg, Int.mul_comm]; omega
      rw [e3]
      cases hb : bt m y
      · rw [hb] at hy2
        have : ¬ (y : Int) ≤ t.toInt := fun z => absurd (hy2.mpr z) (by decide)
        have := k2 (by omega)
        constructor
        · intro _; omega
        · intro _; rfl
      · have := k1 (hy2.mp hb)
        constructor
        · intro z; exact absurd z (by decide)
        · intro z; omega
    · rw [ar_le, ar_0] at g2
      have en : (-c).toInt = -c.toInt := ar_neg (by omega) (by omega)
      have en1 : (-c - 1).toInt = -c.toInt - 1 := by
        rw [ar_sub, en, ar_1]
        · rw [en, ar_1]; omega
        · rw [en, ar_1]; omega
      refine ar_floor (by omega) (by rw [en1]; omega) (by rw [en1]; omega) (fun t t1 t2 => ?_)
      refine ar_upTo (fun m hm => ?_)
      refine h _ (fun y hy => ?_)
      rw [hm y hy]
      obtain ⟨k1, k2⟩ := ar_mulL (show 0 < f.toInt by omega) (y : Int) t.toInt
      rw [en1] at t1 t2
      rw [Int.mul_comm f.toInt]
      constructor
      · intro z; have := k1 z; omega
      · intro z
        by_cases q : (y : Int) ≤ t.toInt
        · exact q
        · have := k2 (by omega); omega
theorem ar_tdA {a b : Int} (hb : b ≠ 0) {M : Int} (h1 : -M ≤ a) (h2 : a ≤ M) : -M ≤ a.tdiv b ∧ a.tdiv b ≤ M := by
  rcases Int.lt_or_gt_of_ne hb with h | h
  · have e : a.tdiv b = -(a.tdiv (-b)) := by rw [Int.tdiv_neg]; omega
    have := ar_tdB (b := -b) (M := M) (by omega) h1 h2
    omega
  · exact ar_tdB h h1 h2
theorem ar_zero {post : Int32 → Prop} {c f : Int32} (c1 : -1000000000 ≤ c.toInt) (c2 : c.toInt ≤ 1000000000) (f1 : -1000000000 ≤ f.toInt) (f2 : f.toInt ≤ 1000000000) (h : ∀ m : Int32, (∀ y : Nat, y < 16 → (bt m y = true ↔ c.toInt + f.toInt * (y : Int) = 0)) → post m) : wpX_zero post c f := by
  have h0 : (∀ y : Nat, y < 16 → ¬ c.toInt + f.toInt * (y : Int) = 0) → post 0 := by
    intro k
    refine h _ (fun y hy => ?_)
    rw [b_0]
    constructor
    · intro z; exact absurd z (by decide)
    · intro z; exact absurd z (k y hy)
  refine br_c (fun g => ?_) (fun g => ?_)
  · have e : f.toInt = 0 := by rw [g]; decide
    refine br_c (fun g2 => ?_) (fun g2 => ?_)
    · refine h _ (fun y hy => ?_)
      rw [b_65535, e, Int.zero_mul, decide_eq_true_iff, g2, ar_0]
      omega
    · rw [ar_eq, ar_0] at g2
      refine h0 (fun y hy => ?_)
      rw [e, Int.zero_mul]; omega
  · have g0 : f.toInt ≠ 0 := by intro z; exact g (ar_eq.mpr (by rw [z, ar_0]))
    have en : (-c).toInt = -c.toInt := ar_neg (by omega) (by omega)
    refine ⟨g, fun z ez => ?_⟩
    have hB := ar_tdA (a := -c.toInt) g0 (M := 1000000000) (by omega) (by omega)
    have eq : z.toInt = (-c.toInt).tdiv f.toInt := by
      rw [ez, Int32.toInt_div, en]; exact ar_bm (by omega) (by omega)
    -- a whole y that solves it is the quotient
    have hy0 : ∀ y : Nat, c.toInt + f.toInt * (y : Int) = 0 → (y : Int) = z.toInt := by
      intro y k
      rw [eq, show -c.toInt = f.toInt * (y : Int) by omega, Int.mul_tdiv_cancel_left _ g0]
    have hzm : z * f = -c ↔ z.toInt * f.toInt = -c.toInt := by
      have hp : z.toInt * f.toInt = -c.toInt - (-c.toInt).tmod f.toInt := by
        have := Int.mul_tdiv_add_tmod (-c.toInt) f.toInt
        rw [Int.mul_comm, ← eq] at this
        omega
      have hm : (-c.toInt).tmod f.toInt ≤ 1000000000 ∧ -1000000000 ≤ (-c.toInt).tmod f.toInt := by
        rcases Int.lt_or_gt_of_ne g0 with q | q
        · obtain ⟨r, e, r1, r2, _⟩ := ar_td (-c.toInt) (-f.toInt) (by omega)
          have := Int.mul_tdiv_add_tmod (-c.toInt) (-f.toInt)
          rw [Int.mul_comm] at this
          rw [Int.tmod_neg] at this
          omega
        · obtain ⟨r, e, r1, r2, _⟩ := ar_td (-c.toInt) f.toInt q
          have := Int.mul_tdiv_add_tmod (-c.toInt) f.toInt
          rw [Int.mul_comm] at this
          omega
      rw [ar_eq, ar_mul, en]
      · omega
      · omega
    have e16 : (16 : Int32).toInt = 16 := by decide
    refine br_c (fun k => ?_) (fun k => ?_)
    · rw [hzm] at k
      refine br_c (fun k2 => ?_) (fun k2 => ?_)
      · rw [ar_lt, ar_0] at k2
        show wX_zero_42 post z
        exact br_t rfl (h0 (fun y hy q => by have := hy0 y q; omega))
      · rw [ar_lt, ar_0] at k2
        refine br_c (fun k3 => ?_) (fun k3 => ?_)
        · rw [ar_le, e16] at k3
          show wX_zero_42 post z
          exact br_t rfl (h0 (fun y hy q => by have := hy0 y q; omega))
        · rw [ar_le, e16] at k3
          obtain ⟨j, hj, rfl⟩ := nI_of (x := z) (by rw [ar_lt, ar_0]; omega)
          rw [nI_toInt hj] at k k2 k3 hy0
          refine br_f (by decide) (h _ (fun y hy => ?_))
          rw [ar_one j (by omega) y hy, decide_eq_true_iff]
          constructor
          · intro q; subst q; rw [Int.mul_comm]; omega
          · intro q; have := hy0 y q; omega
    · rw [hzm] at k
      show wX_zero_42 post z
      refine br_t rfl (h0 (fun y hy q => k ?_))
      rw [← hy0 y q, Int.mul_comm]; omega
end
section
/-! the program as plain data, and what it does for one input -/
/-- a program of n steps that fits: K the kinds, Q the pairs of registers, N the numbers -/
def pg_ok (n : Nat) (K Q : Nat → Nat) (N : Nat → Int32) : Prop := n ≤ 12 ∧ ∀ p, p < n → K p < 8 ∧ Q p < 16 ∧ (K p = 0 → -20 ≤ (N p).toInt ∧ (N p).toInt ≤ 20) ∧ (K p = 3 → -3 ≤ (N p).toInt ∧ (N p).toInt ≤ 3) ∧ (4 ≤ K p → K p ≤ 6 → N p = nI (N p).toNatClampNeg ∧ p < (N p).toNatClampNeg ∧ (N p).toNatClampNeg ≤ 12)
def pg_made (K Q : Nat → Nat) (N : Nat → Int32) (p : Nat) (r : Nat → Int32) : Int32 := if K p = 0 then N p else if K p = 1 then r (Q p % 4) + r (Q p / 4) else if K p = 2 then r (Q p % 4) - r (Q p / 4) else if K p = 3 then r (Q p % 4) * N p else r (Q p % 4)
def pg_next (K Q : Nat → Nat) (N : Nat → Int32) (p : Nat) (r : Nat → Int32) : Nat := if K p = 6 then (N p).toNatClampNeg else if K p = 4 then (if r (Q p % 4) < r (Q p / 4) then (N p).toNatClampNeg else p + 1) else if K p = 5 then (if r (Q p % 4) = r (Q p / 4) then (N p).toNatClampNeg else p + 1) else p + 1
def pg_bad (K Q : Nat → Nat) (p : Nat) (r : Nat → Int32) : Bool := decide (K p = 7) && decide (r (Q p / 4) < r (Q p % 4))
def pg_fin (n : Nat) (K Q : Nat → Nat) (N : Nat → Int32) : Nat → Nat → Nat → (Nat → Int32) → Nat × Int32 × (Nat → Int32)
  | 0, _, d, r => (d, 0, r)
  | m + 1, p, d, r => if n ≤ p then (d, 0, r) else if pg_bad K Q p r = true then (d ||| 2 ^ p, 1, upd r (Q p % 4) (pg_made K Q N p r)) else pg_fin n K Q N m (pg_next K Q N p r) (d ||| 2 ^ p) (upd r (Q p % 4) (pg_made K Q N p r))
theorem pg_next_gt {n : Nat} {K Q : Nat → Nat} {N : Nat → Int32} (ok : pg_ok n K Q N) {p : Nat} (hp : p < n) (r : Nat → Int32) : p < pg_next K Q N p r ∧ pg_next K Q N p r ≤ 12 := by
  obtain ⟨h12, h⟩ := ok
  obtain ⟨_, _, _, _, h5⟩ := h p hp
  unfold pg_next
  by_cases k6 : K p = 6
  · rw [if_pos k6]; exact (h5 (by omega) (by omega)).2
  · rw [if_neg k6]
    by_cases k4 : K p = 4
    · rw [if_pos k4]
      by_cases c : r (Q p % 4) < r (Q p / 4)
      · rw [if_pos c]; exact (h5 (by omega) (by omega)).2
      · rw [if_neg c]; omega
    · rw [if_neg k4]
      by_cases k5 : K p = 5
      · rw [if_pos k5]
        by_cases c : r (Q p % 4) = r (Q p / 4)
        · rw [if_pos c]; exact (h5 (by omega) (by omega)).2
        · rw [if_neg c]; omega
      · rw [if_neg k5]; omega
theorem pg_fin_s (n : Nat) (K Q : Nat → Nat) (N : Nat → Int32) (m p d : Nat) (r : Nat → Int32) : pg_fin n K Q N (m + 1) p d r = if n ≤ p then (d, 0, r) else if pg_bad K Q p r = true then (d ||| 2 ^ p, 1, upd r (Q p % 4) (pg_made K Q N p r)) else pg_fin n K Q N m (pg_next K Q N p r) (d ||| 2 ^ p) (upd r (Q p % 4) (pg_made K Q N p r)) := rfl
theorem pg_fuel {n : Nat} {K Q : Nat → Nat} {N : Nat → Int32} (ok : pg_ok n K Q N) : ∀ (m m' p d : Nat) (r : Nat → Int32), n - p < m → n - p < m' → pg_fin n K Q N m p d r = pg_fin n K Q N m' p d r := by
  intro m
  induction m with
  | zero => intro m' p d r h; omega
  | succ m ih =>
    intro m' p d r h h'
    cases m' with
    | zero => omega
    | succ m' =>
      rw [pg_fin_s, pg_fin_s]
      by_cases c : n ≤ p
      · rw [if_pos c, if_pos c]
      · rw [if_neg c, if_neg c]
        by_cases b : pg_bad K Q p r = true
        · rw [if_pos b, if_pos b]
        · rw [if_neg b, if_neg b]
          have g := (pg_next_gt ok (p := p) (by omega) r).1
          exact ih m' _ _ _ (by omega) (by omega)
def pg_F (n : Nat) (K Q : Nat → Nat) (N : Nat → Int32) (p d : Nat) (r : Nat → Int32) : Nat × Int32 × (Nat → Int32) := pg_fin n K Q N 13 p d r
theorem pg_F_end {n : Nat} {K Q : Nat → Nat} {N : Nat → Int32} {p d : Nat} {r : Nat → Int32} (h : n ≤ p) : pg_F n K Q N p d r = (d, 0, r) := by
  unfold pg_F; rw [pg_fin_s, if_pos h]
theorem pg_F_bad {n : Nat} {K Q : Nat → Nat} {N : Nat → Int32} {p d : Nat} {r : Nat → Int32} (h : p < n) (hb : pg_bad K Q p r = true) : pg_F n K Q N p d r = (d ||| 2 ^ p, 1, upd r (Q p % 4) (pg_made K Q N p r)) := by
  unfold pg_F; rw [pg_fin_s, if_neg (by omega), if_pos hb]
theorem pg_F_go {n : Nat} {K Q : Nat → Nat} {N : Nat → Int32} (ok : pg_ok n K Q N) {p d : Nat} {r : Nat → Int32} (h : p < n) (hb : ¬ pg_bad K Q p r = true) : pg_F n K Q N p d r = pg_F n K Q N (pg_next K Q N p r) (d ||| 2 ^ p) (upd r (Q p % 4) (pg_made K Q N p r)) := by
  have g := (pg_next_gt ok (p := p) h r).1
  have h12 := ok.1
  unfold pg_F; rw [pg_fin_s, if_neg (by omega), if_neg hb]
  exact pg_fuel ok _ _ _ _ _ (by omega) (by omega)
theorem pg_upd_id (r : Nat → Int32) (a : Nat) : upd r a (r a) = r := by
  funext j
  by_cases h : j = a
  · subst h; exact pk_us
  · exact pk_un h
/-- kinds 0 to 3 -/
theorem pg_F_calc {n : Nat} {K Q : Nat → Nat} {N : Nat → Int32} (ok : pg_ok n K Q N) {p d : Nat} {r : Nat → Int32} (h : p < n) (hk : K p ≤ 3) : pg_F n K Q N p d r = pg_F n K Q N (p + 1) (d ||| 2 ^ p) (upd r (Q p % 4) (pg_made K Q N p r)) := by
  rw [pg_F_go ok h]
  · unfold pg_next; rw [if_neg (by omega), if_neg (by omega), if_neg (by omega)]
  · unfold pg_bad; rw [decide_eq_false (show ¬ K p = 7 by omega)]; simp
theorem pg_made_id {K Q : Nat → Nat} {N : Nat → Int32} {p : Nat} {r : Nat → Int32} (hk : 4 ≤ K p) : upd r (Q p % 4) (pg_made K Q N p r) = r := by
  unfold pg_made
  rw [if_neg (by omega), if_neg (by omega), if_neg (by omega), if_neg (by omega)]
  exact pg_upd_id r _
theorem pg_F_jump {n : Nat} {K Q : Nat → Nat} {N : Nat → Int32} (ok : pg_ok n K Q N) {p d : Nat} {r : Nat → Int32} (h : p < n) (hk : K p = 6) : pg_F n K Q N p d r = pg_F n K Q N (N p).toNatClampNeg (d ||| 2 ^ p) r := by
  rw [pg_F_go ok h, pg_made_id (by omega)]
  · unfold pg_next; rw [if_pos hk]
  · unfold pg_bad; rw [decide_eq_false (show ¬ K p = 7 by omega)]; simp
theorem pg_F_less {n : Nat} {K Q : Nat → Nat} {N : Nat → Int32} (ok : pg_ok n K Q N) {p d : Nat} {r : Nat → Int32} (h : p < n) (hk : K p = 4) : pg_F n K Q N p d r = pg_F n K Q N (if r (Q p % 4) < r (Q p / 4) then (N p).toNatClampNeg else p + 1) (d ||| 2 ^ p) r := by
  rw [pg_F_go ok h, pg_made_id (by omega)]
  · unfold pg_next; rw [if_neg (by omega), if_pos hk]
  · unfold pg_bad; rw [decide_eq_false (show ¬ K p = 7 by omega)]; simp
theorem pg_F_equal {n : Nat} {K Q : Nat → Nat} {N : Nat → Int32} (ok : pg_ok n K Q N) {p d : Nat} {r : Nat → Int32} (h : p < n) (hk : K p = 5) : pg_F n K Q N p d r = pg_F n K Q N (if r (Q p % 4) = r (Q p / 4) then (N p).toNatClampNeg else p + 1) (d ||| 2 ^ p) r := by
  rw [pg_F_go ok h, pg_made_id (by omega)]
  · unfold pg_next; rw [if_neg (by omega), if_neg (by omega), if_pos hk]
  · unfold pg_bad; rw [decide_eq_false (show ¬ K p = 7 by omega)]; simp
theorem pg_F_check0 {n : Nat} {K Q : Nat → Nat} {N : Nat → Int32} (ok : pg_ok n K Q N) {p d : Nat} {r : Nat → Int32} (h : p < n) (hk : K p = 7) (hc : ¬ r (Q p / 4) < r (Q p % 4)) : pg_F n K Q N p d r = pg_F n K Q N (p + 1) (d ||| 2 ^ p) r := by
  rw [pg_F_go ok h, pg_made_id (by omega)]
  · unfold pg_next; rw [if_neg (by omega), if_neg (by omega), if_neg (by omega)]
  · unfold pg_bad; rw [decide_eq_false hc]; simp
theorem pg_F_check1 {n : Nat} {K Q : Nat → Nat} {N : Nat → Int32} {p d : Nat} {r : Nat → Int32} (h : p < n) (hk : K p = 7) (hc : r (Q p / 4) < r (Q p % 4)) : pg_F n K Q N p d r = (d ||| 2 ^ p, 1, r) := by
  rw [pg_F_bad h, pg_made_id (by omega)]
  unfold pg_bad; rw [decide_eq_true hc, decide_eq_true hk]; rfl
/-! bounds -/
def pg_bd (p : Nat) : Int := 20 * 3 ^ p
theorem pg_bd_s (p : Nat) : pg_bd (p + 1) = 3 * pg_bd p := by
  unfold pg_bd; rw [Int.pow_succ]; omega
theorem pg_bd_20 (p : Nat) : 20 ≤ pg_bd p := by
  induction p with
  | zero => decide
  | succ p ih => rw [pg_bd_s]; omega
theorem pg_bd_a (p k : Nat) : pg_bd p ≤ pg_bd (p + k) := by
  induction k with
  | zero => exact Int.le_refl _
  | succ k ih =>
    have := pg_bd_20 (p + k)
    rw [← Nat.add_assoc, pg_bd_s]; omega
theorem pg_bd_m {p q : Nat} (h : p ≤ q) : pg_bd p ≤ pg_bd q := by
  obtain ⟨k, rfl⟩ : ∃ k, q = p + k := ⟨q - p, by omega⟩
  exact pg_bd_a p k
theorem pg_bd_12 : pg_bd 12 = 10628820 := by decide +kernel
theorem pg_bd_11 : pg_bd 11 = 3542940 := by decide +kernel
def pg_in (M : Int) (x : Int32) : Prop := -M ≤ x.toInt ∧ x.toInt ≤ M
theorem pg_in_m {M M' : Int} {x : Int32} (h : pg_in M x) (hM : M ≤ M') : pg_in M' x := by
  unfold pg_in at *; omega
theorem pg_in_add {M : Int} {x y : Int32} (hM : M ≤ 100000000) (hx : pg_in M x) (hy : pg_in M y) : pg_in (3 * M) (x + y) := by
  unfold pg_in at *
  rw [ar_add] <;> omega
theorem pg_in_sub {M : Int} {x y : Int32} (hM : M ≤ 100000000) (hx : pg_in M x) (hy : pg_in M y) : pg_in (3 * M) (x - y) := by
  unfold pg_in at *
  rw [ar_sub] <;> omega
theorem pg_m3 {M x k : Int} (h1 : -M ≤ x) (h2 : x ≤ M) (k1 : -3 ≤ k) (k2 : k ≤ 3) : -(3 * M) ≤ x * k ∧ x * k ≤ 3 * M := by
  have : k = -3 ∨ k = -2 ∨ k = -1 ∨ k = 0 ∨ k = 1 ∨ k = 2 ∨ k = 3 := by omega
  rcases this with rfl | rfl | rfl | rfl | rfl | rfl | rfl <;> omega
theorem pg_in_mul {M : Int} {x k : Int32} (hM : M ≤ 100000000) (hx : pg_in M x) (k1 : -3 ≤ k.toInt) (k2 : k.toInt ≤ 3) : pg_in (3 * M) (x * k) := by
  unfold pg_in at *
  have := pg_m3 hx.1 hx.2 k1 k2
  rw [ar_mul] <;> omega
theorem pg_made_in {n : Nat} {K Q : Nat → Nat} {N : Nat → Int32} (ok : pg_ok n K Q N) {p : Nat} {r : Nat → Int32} (h : p < n) (hr : ∀ j, j < 4 → pg_in (pg_bd p) (r j)) : pg_in (pg_bd (p + 1)) (pg_made K Q N p r) := by
  obtain ⟨h12, hh⟩ := ok
  obtain ⟨h1, h2, h3, h4, _⟩ := hh p h
  have b := pg_bd_m (show p ≤ 11 by omega)
  have b2 := pg_bd_20 p
  rw [pg_bd_11] at b
  rw [pg_bd_s]
  have ha := hr (Q p % 4) (by omega)
  have hb := hr (Q p / 4) (by omega)
  unfold pg_made
  by_cases k0 : K p = 0
  · rw [if_pos k0]; have := h3 k0; unfold pg_in; omega
  rw [if_neg k0]
  by_cases k1 : K p = 1
  · rw [if_pos k1]; exact pg_in_add (by omega) ha hb
  rw [if_neg k1]
  by_cases k2 : K p = 2
  · rw [if_pos k2]; exact pg_in_sub (by omega) ha hb
  rw [if_neg k2]
  by_cases k3 : K p = 3
  · rw [if_pos k3]; exact pg_in_mul (by omega) ha (h4 k3).1 (h4 k3).2
  rw [if_neg k3]
  exact pg_in_m ha (by omega)
theorem pg_or_lt {d p : Nat} (hd : d < 4096) (hp : p < 12) : d ||| 2 ^ p < 4096 := by
  have : 2 ^ p < 2 ^ 12 := Nat.pow_lt_pow_right (by decide) hp
  exact Nat.or_lt_two_pow (n := 12) hd this
/-- what comes out: a set of positions, a boolean, registers within the bound -/
def pg_good (o : Nat × Int32 × (Nat → Int32)) : Prop := o.1 < 4096 ∧ (o.2.1 = 0 ∨ o.2.1 = 1) ∧ ∀ j, j < 4 → pg_in 10628820 (o.2.2 j)
theorem pg_fin_good {n : Nat} {K Q : Nat → Nat} {N : Nat → Int32} (ok : pg_ok n K Q N) : ∀ (m p d : Nat) (r : Nat → Int32), p ≤ 12 → d < 4096 → (∀ j, j < 4 → pg_in (pg_bd p) (r j)) → pg_good (pg_fin n K Q N m p d r) := by
  intro m
  induction m with
  | zero =>
    intro p d r hp hd hr
    exact ⟨hd, Or.inl rfl, fun j hj => pg_in_m (hr j hj) (by rw [← pg_bd_12]; exact pg_bd_m hp)⟩
  | succ m ih =>
    intro p d r hp hd hr
    rw [pg_fin_s]
    by_cases c : n ≤ p
    · rw [if_pos c]
      exact ⟨hd, Or.inl rfl, fun j hj => pg_in_m (hr j hj) (by rw [← pg_bd_12]; exact pg_bd_m hp)⟩
    · rw [if_neg c]
      have h12 := ok.1
      have hr2 : ∀ j, j < 4 → pg_in (pg_bd (p + 1)) (upd r (Q p % 4) (pg_made K Q N p r) j) := by
        intro j hj
        by_cases e : j = Q p % 4
        · rw [e, pk_us]; exact pg_made_in ok (by omega) hr
        · rw [pk_un e]; exact pg_in_m (hr j hj) (pg_bd_m (by omega))
      by_cases b : pg_bad K Q p r = true
      · rw [if_pos b]
        exact ⟨pg_or_lt hd (by omega), Or.inr rfl, fun j hj => pg_in_m (hr2 j hj) (by rw [← pg_bd_12]; exact pg_bd_m (by omega))⟩
      · rw [if_neg b]
        have g := pg_next_gt ok (p := p) (by omega) r
        exact ih _ _ _ g.2 (pg_or_lt hd (by omega)) (fun j hj => pg_in_m (hr2 j hj) (pg_bd_m (by omega)))
def pg_init (i : Nat) : Nat → Int32 := fun j => if j = 0 then nI (i % 16) else if j = 1 then nI (i / 16) else 0
def pg_out (n : Nat) (K Q : Nat → Nat) (N : Nat → Int32) (i : Nat) : Nat × Int32 × (Nat → Int32) := pg_F n K Q N 0 0 (pg_init i)
theorem pg_in_nI {M : Int} {k : Nat} (hk : k < 2 ^ 31) (hM : (k : Int) ≤ M) : pg_in M (nI k) := by
  unfold pg_in; rw [nI_toInt hk]; omega
theorem pg_out_good {n : Nat} {K Q : Nat → Nat} {N : Nat → Int32} (ok : pg_ok n K Q N) {i : Nat} (hi : i < 256) : pg_good (pg_out n K Q N i) := by
  refine pg_fin_good ok 13 0 0 _ (by omega) (by omega) (fun j hj => ?_)
  have e : pg_bd 0 = 20 := by decide
  rw [e]
  unfold pg_init
  by_cases h0 : j = 0
  · rw [if_pos h0]; exact pg_in_nI (by omega) (by omega)
  rw [if_neg h0]
  by_cases h1 : j = 1
  · rw [if_pos h1]; exact pg_in_nI (by omega) (by omega)
  rw [if_neg h1]
  exact pg_in_nI (k := 0) (by omega) (by omega)
/-- the arrays hold what comes out for input i -/
def pg_at (n : Nat) (K Q : Nat → Nat) (N : Nat → Int32) (i : Nat) (pa fl en : Nat → Int32) : Prop := pa i = nI (pg_out n K Q N i).1 ∧ fl i = (pg_out n K Q N i).2.1 ∧ ∀ j, j < 4 → en (4 * i + j) = (pg_out n K Q N i).2.2 j
def pg_rec (n : Nat) (K Q : Nat → Nat) (N : Nat → Int32) (pa fl en : Nat → Int32) : Prop := ∀ i, i < 256 → pg_at n K Q N i pa fl en
/-- the two programs are this one -/
def pg_X (n : Nat) (K Q : Nat → Nat) (N : Nat → Int32) (kd pr nb : Nat → Int32) : Prop := ∀ p, p < n → kd p = nI (K p) ∧ pr p = nI (Q p) ∧ (K p = 0 ∨ (3 ≤ K p ∧ K p ≤ 6) → nb p = N p)
def pg_Y (n : Nat) (K Q : Nat → Nat) (yk ya yb : Nat → Int32) : Prop := ∀ p, p < n → yk p = nI (K p) ∧ ya p = nI (Q p % 4) ∧ yb p = nI (Q p / 4)
theorem nx_or (a b : Nat) : nI a ||| nI b = nI (a ||| b) := by
  apply Int32.toBitVec_inj.1
  show BitVec.ofNat 32 a ||| BitVec.ofNat 32 b = BitVec.ofNat 32 (a ||| b)
  apply BitVec.eq_of_getLsbD_eq
  intro i hi
  simp [hi]
theorem pg_shl1 : ∀ p, p < 16 → (1 : Int32) <<< (nI p &&& 31) = nI (2 ^ p) := by decide +kernel
theorem pg_orI {d p : Nat} (hp : p < 16) : nI d ||| ((1 : Int32) <<< (nI p &&& 31)) = nI (d ||| 2 ^ p) := by
  rw [pg_shl1 p hp, nx_or]
end
section
/-! the reference runs each input -/
def yr_Q (i : Nat) (o : Nat × Int32 × (Nat → Int32)) (yp yf ye yp' yf' ye' : Nat → Int32) : Prop := (yp' i = nI o.1 ∧ yf' i = o.2.1 ∧ ∀ j, j < 4 → ye' (4 * i + j) = o.2.2 j) ∧ (∀ j, j ≠ i → yp' j = yp j ∧ yf' j = yf j) ∧ (∀ j, j < 4 * i ∨ 4 * i + 4 ≤ j → ye' j = ye j)
theorem yr_b0 : vp_nar .boolean 0 = 0 := rfl
theorem yr_b1 : vp_nar .boolean 1 = 1 := rfl
section
variable {post : SY → Prop} {ys : Int32} {yk ya yb yn ym yp yf ye : Nat → Int32}
/-- the join behind a step: the flag, the path, the next position -/
theorem yr_257 {J : Int32 → (Nat → Int32) → (Nat → Int32) → (Nat → Int32) → (Nat → Int32) → (Nat → Int32) → (Nat → Int32) → (Nat → Int32) → (Nat → Int32) → Prop} {i p q d : Nat} {x2 x7 x8 z : Int32} (hi : i < 256) (hp : p < 12) (hz : z = 0 ∨ z = 1) (hd : yp i = nI d) (h8 : (x8 = 0 ∧ q = p + 1) ∨ (x8 = 1 ∧ x7 = nI q)) (h : J (nI q) yk ya yb yn ym (upd yp i (nI (d ||| 2 ^ p))) (upd yf i z) ye) : wY_run_257 post J (nI i) x2 (nI p) x7 x8 z (nI i) ys yk ya yb yn ym yp yf ye := by
  have ez : vp_nar .boolean z = z := by rcases hz with rfl | rfl <;> rfl
  have ei : (nI i).toNatClampNeg = i := nI_clamp (by omega)
  refine ⟨vp_in_nI hi (by decide), nm_r (e' := upd yf i z) (by rw [ez, ei]) ⟨vp_in_nI hi (by decide), vp_in_nI hi (by decide), nm_r (e' := upd yp i (nI (d ||| 2 ^ p))) (by rw [ei, hd, pg_orI (by omega)]) ?_⟩⟩
  rcases h8 with ⟨rfl, rfl⟩ | ⟨rfl, rfl⟩
  · exact br_t rfl (nm_r (nI_1 p) h)
  · exact br_f (by decide) h
theorem yr_216 {J : Int32 → (Nat → Int32) → (Nat → Int32) → (Nat → Int32) → (Nat → Int32) → (Nat → Int32) → (Nat → Int32) → (Nat → Int32) → (Nat → Int32) → Prop} {i p q d a k : Nat} {x5 x6 x7 x8 v z : Int32} (hi : i < 256) (hp : p < 12) (ha : a < 4) (ea : ya p = nI a) (hk : k < 8) (hd : yp i = nI d) (hz : z = if k = 7 ∧ x6 < x5 then 1 else 0) (h8 : (x8 = 0 ∧ q = p + 1) ∨ (x8 = 1 ∧ x7 = nI q)) (h : J (nI q) yk ya yb yn ym (upd yp i (nI (d ||| 2 ^ p))) (upd yf i z) (upd ye (4 * i + a) v)) : wY_run_216 post J (nI i) (nI (4 * i)) (nI p) (nI k) x5 x6 x7 x8 v ys yk ya yb yn ym yp yf ye := by
  have ep : (nI p).toNatClampNeg = p := nI_clamp (by omega)
  have e1 : nI (4 * i) + ya (nI p).toNatClampNeg = nI (4 * i + a) := by rw [ep, ea, nI_add]
  unfold wY_run_216
  rw [e1, nI_clamp (show 4 * i + a < 2 ^ 31 by omega)]
  refine ⟨vp_in_nI hp (by decide), vp_in_nI (by omega) (by decide), nm_e ?_⟩
  refine pk_eq k 7 (fun k7 => ?_) (fun k7 => ?_)
  · refine br_c (fun c => ?_) (fun c => ?_)
    · rw [if_neg (fun z => absurd c (Int32.not_le.mpr z.2))] at hz
      subst hz
      exact yr_257 hi hp (Or.inl rfl) hd h8 h
    · rw [if_pos ⟨k7, Int32.not_le.mp c⟩] at hz
      subst hz
      exact yr_257 hi hp (Or.inr rfl) hd h8 h
  · rw [if_neg (fun z => k7 z.1)] at hz
    subst hz
    exact yr_257 hi hp (Or.inl rfl) hd h8 h
theorem yr_160 {J : Int32 → (Nat → Int32) → (Nat → Int32) → (Nat → Int32) → (Nat → Int32) → (Nat → Int32) → (Nat → Int32) → (Nat → Int32) → (Nat → Int32) → Prop} {K Q : Nat → Nat} {i p q d : Nat} {r : Nat → Int32} {x8 z : Int32} (hi : i < 256) (hp : p < 12) (hQ : Q p < 16) (ea : ya p = nI (Q p % 4)) (hk : K p < 8) (hd : yp i = nI d) (hz : z = if K p = 7 ∧ r (Q p / 4) < r (Q p % 4) then 1 else 0) (h8 : (x8 = 0 ∧ q = p + 1) ∨ (x8 = 1 ∧ yn p = nI q)) (h : J (nI q) yk ya yb yn ym (upd yp i (nI (d ||| 2 ^ p))) (upd yf i z) (upd ye (4 * i + Q p % 4) (pg_made K Q yn p r))) : wY_run_160 post J (nI i) (nI (4 * i)) (nI p) (nI (K p)) (r (Q p % 4)) (r (Q p / 4)) (yn p) x8 ys yk ya yb yn ym yp yf ye := by
  have H : ∀ v : Int32, pg_made K Q yn p r = v → wY_run_216 post J (nI i) (nI (4 * i)) (nI p) (nI (K p)) (r (Q p % 4)) (r (Q p / 4)) (yn p) x8 v ys yk ya yb yn ym yp yf ye := by
    intro v ev
    rw [ev] at h
    exact yr_216 hi hp (by omega) ea hk hd hz h8 h
  unfold pg_made at H
  refine pk_eq (K p) 0 (fun k0 => H _ (by rw [if_pos k0])) (fun k0 => ?_)
  refine pk_eq (K p) 1 (fun k1 => H _ (by rw [if_neg k0, if_pos k1])) (fun k1 => ?_)
  refine pk_eq (K p) 2 (fun k2 => H _ (by rw [if_neg k0, if_neg k1, if_pos k2])) (fun k2 => ?_)
  exact pk_eq (K p) 3 (fun k3 => H _ (by rw [if_neg k0, if_neg k1, if_neg k2, if_pos k3])) (fun k3 => H _ (by rw [if_neg k0, if_neg k1, if_neg k2, if_neg k3]))
end
section
variable {post : SY → Prop} {n : Nat} {K Q : Nat → Nat} {yk ya yb yn ym : Nat → Int32}
theorem yr_stop {i : Nat} (hi : i < 256) {m p : Nat} {yp yf ye : Nat → Int32} (hp : p ≤ 12) (hn : n ≤ 12) (hf : n ≤ p ∨ ¬ yf i = 0) (h : post (nI n, yk, ya, yb, yn, ym, yp, yf, ye)) : wY_run_59 post (nI i) (nI (4 * i)) (nI n) (m + 1) (nI p) yk ya yb yn ym yp yf ye := by
  have ei : (nI i).toNatClampNeg = i := nI_clamp (by omega)
  refine pk_le n p (fun _ => h) (fun g => ⟨vp_in_nI hi (by decide), ?_⟩)
  rw [ei]
  rcases hf with f | f
  · omega
  · exact br_f f h
theorem yr_loop (ok : pg_ok n K Q yn) (hY : pg_Y n K Q yk ya yb) {i : Nat} (hi : i < 256) : ∀ (m p d : Nat) (r yp yf ye : Nat → Int32), n - p < m → p ≤ 12 → yp i = nI d → yf i = 0 → (∀ j, j < 4 → ye (4 * i + j) = r j) → (∀ yp' yf' ye', yr_Q i (pg_fin n K Q yn m p d r) yp yf ye yp' yf' ye' → post (nI n, yk, ya, yb, yn, ym, yp', yf', ye')) → wY_run_59 post (nI i) (nI (4 * i)) (nI n) (m + 1) (nI p) yk ya yb yn ym yp yf ye := by
  have h12 := ok.1
  have ei : (nI i).toNatClampNeg = i := nI_clamp (by omega)
  intro m
  induction m with
  | zero => intro p d r yp yf ye h; omega
  | succ m ih =>
    intro p d r yp yf ye hm hp hd hf he h
    by_cases c : n ≤ p
    · rw [pg_fin_s, if_pos c] at h
      exact yr_stop hi hp h12 (Or.inl c) (h _ _ _ ⟨⟨hd, hf, he⟩, fun j _ => ⟨rfl, rfl⟩, fun j _ => rfl⟩)
    · obtain ⟨k1, k2, k3⟩ := hY p (by omega)
      obtain ⟨o1, o2, _, _, o5⟩ := ok.2 p (by omega)
      have ep : (nI p).toNatClampNeg = p := nI_clamp (by omega)
      rw [pg_fin_s, if_neg c] at h
      refine br_f (nI_ge (by omega) (by omega)) ⟨vp_in_nI hi (by decide), ?_⟩
      rw [ei]
      refine br_t hf ⟨vp_in_nI (by omega) (by decide), nm_r (e' := nI (K p)) (by rw [ep, k1]) ⟨vp_in_nI (by omega) (by decide), ?_⟩⟩
      rw [ep, k2, k3, nI_add, nI_add, nI_clamp (show 4 * i + Q p % 4 < 2 ^ 31 by omega), nI_clamp (show 4 * i + Q p / 4 < 2 ^ 31 by omega)]
      refine ⟨vp_in_nI (by omega) (by decide), nm_r (he _ (by omega)) ⟨vp_in_nI (by omega) (by decide), vp_in_nI (by omega) (by decide), nm_r (he _ (by omega)) ⟨vp_in_nI (by omega) (by decide), nm_e ?_⟩⟩⟩
      -- what the step leaves behind, and the rest of the run
      have he2 : ∀ j, j < 4 → upd ye (4 * i + Q p % 4) (pg_made K Q yn p r) (4 * i + j) = upd r (Q p % 4) (pg_made K Q yn p r) j := by
        intro j hj
        by_cases e : j = Q p % 4
        · rw [e, pk_us, pk_us]
        · rw [pk_un e, pk_un (by omega), he j hj]
      have hQ : ∀ (z : Int32) (o : Nat × Int32 × (Nat → Int32)) (yp' yf' ye' : Nat → Int32), yr_Q i o (upd yp i (nI (d ||| 2 ^ p))) (upd yf i z) (upd ye (4 * i + Q p % 4) (pg_made K Q yn p r)) yp' yf' ye' → yr_Q i o yp yf ye yp' yf' ye' := by
        intro z o yp' yf' ye' q
        refine ⟨q.1, fun j hj => ?_, fun j hj => ?_⟩
        · have := q.2.1 j hj
          rw [pk_un hj, pk_un hj] at this
          exact this
        · have := q.2.2 j hj
          rw [pk_un (by omega)] at this
          exact this
      have H : ∀ (q : Nat) (z : Int32), pg_next K Q yn p r = q → z = (if K p = 7 ∧ r (Q p / 4) < r (Q p % 4) then 1 else 0) → wY_run_59 post (nI i) (nI (4 * i)) (nI n) (m + 1) (nI q) yk ya yb yn ym (upd yp i (nI (d ||| 2 ^ p))) (upd yf i z) (upd ye (4 * i + Q p % 4) (pg_made K Q yn p r)) := by
        intro q z hq hz
        have g := pg_next_gt ok (p := p) (by omega) r
        rw [hq] at g
        by_cases b : K p = 7 ∧ r (Q p / 4) < r (Q p % 4)
        · rw [if_pos b] at hz
          have hb : pg_bad K Q p r = true := by unfold pg_bad; rw [decide_eq_true b.1, decide_eq_true b.2]; rfl
          rw [if_pos hb] at h
          refine yr_stop hi g.2 h12 (Or.inr (by rw [pk_us, hz]; decide)) (h _ _ _ (hQ z _ _ _ _ ⟨⟨pk_us, ?_, he2⟩, fun j hj => ⟨rfl, rfl⟩, fun j hj => rfl⟩))
          rw [pk_us, hz]
        · rw [if_neg b] at hz
          have hb : ¬ pg_bad K Q p r = true := by
            intro z
            unfold pg_bad at z
            rw [Bool.and_eq_true, decide_eq_true_iff, decide_eq_true_iff] at z
            exact b z
          rw [if_neg hb, hq] at h
          exact ih q _ _ _ _ _ (by omega) g.2 pk_us (by rw [pk_us, hz]) he2 (fun yp' yf' ye' q => h yp' yf' ye' (hQ z _ _ _ _ q))
      have H160 : ∀ (x8 : Int32) (q : Nat), pg_next K Q yn p r = q → ((x8 = 0 ∧ q = p + 1) ∨ (x8 = 1 ∧ yn p = nI q)) → wY_run_160 post (wY_run_59 post (nI i) (nI (4 * i)) (nI n) (m + 1)) (nI i) (nI (4 * i)) (nI p) (nI (K p)) (r (Q p % 4)) (r (Q p / 4)) (yn p) x8 (nI n) yk ya yb yn ym yp yf ye := by
        intro x8 q hq h8
        exact yr_160 hi (by omega) o2 k2 o1 hd rfl h8 (H q _ hq rfl)
      have H155 : pg_next K Q yn p r = (yn p).toNatClampNeg → 4 ≤ K p → K p ≤ 6 → wY_run_155 post (wY_run_59 post (nI i) (nI (4 * i)) (nI n) (m + 1)) (nI i) (nI (4 * i)) (nI p) (nI (K p)) (r (Q p % 4)) (r (Q p / 4)) (yn p) (nI n) yk ya yb yn ym yp yf ye := by
        intro hq a b
        exact H160 1 _ hq (Or.inr ⟨rfl, (o5 a b).1⟩)
      have H159 : pg_next K Q yn p r = p + 1 → wY_run_159 post (wY_run_59 post (nI i) (nI (4 * i)) (nI n) (m + 1)) (nI i) (nI (4 * i)) (nI p) (nI (K p)) (r (Q p % 4)) (r (Q p / 4)) (yn p) (nI n) yk ya yb yn ym yp yf ye := by
        intro hq
        exact H160 0 _ hq (Or.inl ⟨rfl, rfl⟩)
      unfold pg_next at H155 H159
      have H142 : ¬ K p = 6 → ¬ (K p = 4 ∧ r (Q p % 4) < r (Q p / 4)) → wY_run_142 post (wY_run_59 post (nI i) (nI (4 * i)) (nI n) (m + 1)) (nI i) (nI (4 * i)) (nI p) (nI (K p)) (r (Q p % 4)) (r (Q p / 4)) (yn p) (nI n) yk ya yb yn ym yp yf ye := by
        intro k6 k4
        refine pk_eq (K p) 5 (fun k5 => ?_) (fun k5 => ?_)
        · exact br_c (fun g => H155 (by rw [if_neg k6, if_neg (by omega), if_pos k5, if_pos g]) (by omega) (by omega)) (fun g => H159 (by rw [if_neg k6, if_neg (by omega), if_pos k5, if_neg g]))
        · refine H159 ?_
          rw [if_neg k6]
          by_cases k : K p = 4
          · rw [if_pos k, if_neg (fun z => k4 ⟨k, z⟩)]
          · rw [if_neg k, if_neg k5]
      refine pk_eq (K p) 6 (fun k6 => H155 (by rw [if_pos k6]) (by omega) (by omega)) (fun k6 => ?_)
      refine pk_eq (K p) 4 (fun k4 => ?_) (fun k4 => H142 k6 (fun z => k4 z.1))
      exact br_c (fun g => H155 (by rw [if_neg k6, if_pos k4, if_pos g]) (by omega) (by omega)) (fun g => H142 k6 (fun z => g z.2))
theorem yr_run (ok : pg_ok n K Q yn) (hY : pg_Y n K Q yk ya yb) {i : Nat} (hi : i < 256) {yp yf ye : Nat → Int32} (h : ∀ yp' yf' ye', yr_Q i (pg_out n K Q yn i) yp yf ye yp' yf' ye' → post (nI n, yk, ya, yb, yn, ym, yp', yf', ye')) : wpY_run post (nI n, yk, ya, yb, yn, ym, yp, yf, ye) (nI i) := by
  have h12 := ok.1
  have ei : (nI i).toNatClampNeg = i := nI_clamp (by omega)
  have e4 : 4 * nI i = nI (4 * i) := pk_mul 4 i
  have e15 : nI i &&& 15 = nI (i % 16) := pk_andN (by omega) 4 (by decide)
  have es : nI i >>> ((4 : Int32) &&& 31) = nI (i / 16) := pk_shrN (by omega) _ 4 (by decide)
  refine nm_r e4 ⟨vp_in_nI (by omega) (by decide), ?_⟩
  rw [e15, es, ei, show nI (4 * i) + 1 = nI (4 * i + 1) from nI_1 _, show nI (4 * i) + 2 = nI (4 * i + 2) from nI_add _ 2, show nI (4 * i) + 3 = nI (4 * i + 3) from nI_add _ 3, nI_clamp (show 4 * i < 2 ^ 31 by omega), nI_clamp (show 4 * i + 1 < 2 ^ 31 by omega), nI_clamp (show 4 * i + 2 < 2 ^ 31 by omega), nI_clamp (show 4 * i + 3 < 2 ^ 31 by omega), yr_b0]
  refine nm_e ⟨vp_in_nI (by omega) (by decide), nm_e ⟨vp_in_nI (by omega) (by decide), nm_e ⟨vp_in_nI (by omega) (by decide), nm_e ⟨vp_in_nI hi (by decide), nm_e ⟨vp_in_nI hi (by decide), nm_e ⟨14, ?_⟩⟩⟩⟩⟩⟩
  refine yr_loop ok hY hi 13 0 0 (pg_init i) _ _ _ (by omega) (by omega) pk_us pk_us (fun j hj => ?_) (fun yp' yf' ye' q => h yp' yf' ye' ⟨q.1, fun j hj => ?_, fun j hj => ?_⟩)
  · unfold pg_init
    by_cases j0 : j = 0
    · subst j0
      rw [if_pos rfl, pk_un (by omega), pk_un (by omega), pk_un (by omega)]
      exact pk_us
    rw [if_neg j0]
    by_cases j1 : j = 1
    · subst j1
      rw [if_pos rfl, pk_un (by omega), pk_un (by omega)]
      exact pk_us
    rw [if_neg j1]
    by_cases j2 : j = 2
    · subst j2
      rw [pk_un (by omega)]
      exact pk_us
    · have j3 : j = 3 := by omega
      subst j3
      exact pk_us
  · have := q.2.1 j hj
    rw [pk_un hj, pk_un hj] at this
    exact this
  · have := q.2.2 j hj
    rw [pk_un (by omega), pk_un (by omega), pk_un (by omega), pk_un (by omega)] at this
    exact this
theorem yr_work (ok : pg_ok n K Q yn) (hY : pg_Y n K Q yk ya yb) {yp yf ye : Nat → Int32} (h : ∀ yp' yf' ye', pg_rec n K Q yn yp' yf' ye' → post (nI n, yk, ya, yb, yn, ym, yp', yf', ye')) : wpY_work post (nI n, yk, ya, yb, yn, ym, yp, yf, ye) := by
  refine loop_0 (fun m i (s : (Nat → Int32) × (Nat → Int32) × (Nat → Int32)) => wY_work_2 post m (nI i) (nI n) yk ya yb yn ym s.1 s.2.1 s.2.2) (fun i s => ∀ j, j < i → pg_at n K Q yn j s.1 s.2.1 s.2.2) 256 (yp, yf, ye) (fun j hj => by omega) (fun m s hs => br_t (nI_le (a := 256) (b := 256) (by omega) (by decide)) (h _ _ _ hs)) (fun m i s hi hs ih => ?_)
  refine br_f (nI_ge (b := 256) hi (by decide)) (yr_run ok hY hi (fun yp' yf' ye' q => ?_))
  refine nm_r (nI_1 i) (ih (yp', yf', ye') (fun j hj => ?_))
  by_cases e : j = i
  · subst e; exact q.1
  · have g := hs j (by omega)
    have g1 := q.2.1 j e
    refine ⟨g1.1.trans g.1, g1.2.trans g.2.1, fun a ha => ?_⟩
    exact (q.2.2 (4 * j + a) (by omega)).trans (g.2.2 a ha)
end
end
section
/-! the class's own small methods, each once, with a general post -/
def xs_mem (ip : Nat → Int32) (w i : Nat) : Bool := bt (ip (w * 16 + i % 16)) (i / 16)
def xs_ev (rg : Nat → Int32) (w i : Nat) : Nat → Int32 := fun j => if j < 4 then rg (w * 12 + 3 * j) * nI (i % 16) + rg (w * 12 + 3 * j + 1) * nI (i / 16) + rg (w * 12 + 3 * j + 2) else 0
theorem xs_mb {X M : Int} {x : Nat} (h1 : -M ≤ X) (h2 : X ≤ M) (hx : x ≤ 15) (hM : 0 ≤ M) : -(15 * M) ≤ X * (x : Int) ∧ X * (x : Int) ≤ 15 * M := by
  have a1 : X * (x : Int) ≤ M * (x : Int) := Int.mul_le_mul_of_nonneg_right h2 (by omega)
  have a2 : M * (x : Int) ≤ M * 15 := Int.mul_le_mul_of_nonneg_left (by omega) hM
  have a3 : -M * (x : Int) ≤ X * (x : Int) := Int.mul_le_mul_of_nonneg_right h1 (by omega)
  have a4 : -M * (x : Int) = -(M * (x : Int)) := Int.neg_mul M (x : Int)
  omega
theorem xs_mulI {X : Int32} {x : Nat} (h : pg_in 100000000 X) (hx : x ≤ 15) : (X * nI x).toInt = X.toInt * (x : Int) := by
  have b := xs_mb h.1 h.2 hx (by decide)
  have e : (nI x).toInt = (x : Int) := nI_toInt (by omega)
  rw [ar_mul, e]
  · rw [e]; omega
  · rw [e]; omega
theorem xs_evI {X Y C : Int32} {x y : Nat} (hX : pg_in 10628820 X) (hY : pg_in 10628820 Y) (hC : pg_in 10628820 C) (hx : x ≤ 15) (hy : y ≤ 15) : (X * nI x + Y * nI y + C).toInt = X.toInt * (x : Int) + Y.toInt * (y : Int) + C.toInt := by
  have bx := xs_mb hX.1 hX.2 hx (by decide)
  have b2 := xs_mb hY.1 hY.2 hy (by decide)
  have ex := xs_mulI (pg_in_m hX (by decide)) hx
  have ey := xs_mulI (pg_in_m hY (by decide)) hy
  have hc := hC
  unfold pg_in at hc
  have e1 : (X * nI x + Y * nI y).toInt = X.toInt * (x : Int) + Y.toInt * (y : Int) := by
    rw [ar_add, ex, ey]
    · rw [ex, ey]; omega
    · rw [ex, ey]; omega
  rw [ar_add, e1]
  · rw [e1]; omega
  · rw [e1]; omega
/-- what solve finds: less or equal, for each input -/
def xs_H (rg ho : Nat → Int32) (w a b : Nat) (e : Int32) : Prop := ∀ i, i < 256 → (bt (ho (i % 16)) (i / 16) = true ↔ if e = 0 then xs_ev rg w i a < xs_ev rg w i b else xs_ev rg w i a = xs_ev rg w i b)
section
variable {sz wy kn : Int32} {kd pr nb po dn ip rg ho pa fl en mk : Nat → Int32} {post : SX → Prop}
theorem xs_change (h : ∀ mk' : Nat → Int32, (∀ i, i < 256 → mk' i = 0) → post (sz, wy, 0, kd, pr, nb, po, dn, ip, rg, ho, pa, fl, en, mk')) : wpX_change post (sz, wy, kn, kd, pr, nb, po, dn, ip, rg, ho, pa, fl, en, mk) := by
  refine loop_0 (fun n i (s : Nat → Int32) => wX_change_7 post sz wy 0 n (nI i) kd pr nb po dn ip rg ho pa fl en s) (fun i s => ∀ j, j < i → s j = 0) 256 mk (fun j hj => by omega) (fun n s hs => br_t (nI_le (a := 256) (b := 256) (by omega) (by decide)) (h s hs)) (fun n i s hi hs ih => ?_)
  refine br_f (nI_ge (b := 256) hi (by decide)) ⟨vp_in_nI hi (by decide), nm_r (e' := upd s i 0) (by rw [nI_clamp (by omega)]; rfl) (nm_r (nI_1 i) (ih _ (fun j hj => ?_)))⟩
  by_cases e : j = i
  · rw [e]; exact pk_us
  · rw [pk_un e]; exact hs j (by omega)
/-- the loop of solve, over the three numbers of the difference -/
theorem xs_solve82 {dx dy dc e : Int32} (hx : pg_in 30000000 dx) (hy : pg_in 30000000 dy) (hc : pg_in 30000000 dc) (h : ∀ ho' : Nat → Int32, (∀ x, x < 16 → ∀ y, y < 16 → (bt (ho' x) y = true ↔ if e = 0 then dx.toInt * (x : Int) + dy.toInt * (y : Int) + dc.toInt < 0 else dx.toInt * (x : Int) + dy.toInt * (y : Int) + dc.toInt = 0)) → post (sz, wy, kn, kd, pr, nb, po, dn, ip, rg, ho', pa, fl, en, mk)) : ∃ n, wX_solve_82 post e dx dy dc sz wy kn n 0 kd pr nb po dn ip rg ho pa fl en mk := by
  refine loop_0 (fun n i (s : Nat → Int32) => wX_solve_82 post e dx dy dc sz wy kn n (nI i) kd pr nb po dn ip rg s pa fl en mk) (fun i s => ∀ x, x < i → ∀ y, y < 16 → (bt (s x) y = true ↔ if e = 0 then dx.toInt * (x : Int) + dy.toInt * (y : Int) + dc.toInt < 0 else dx.toInt * (x : Int) + dy.toInt * (y : Int) + dc.toInt = 0)) 16 ho (fun j hj => by omega) (fun n s hs => br_t (nI_le (a := 16) (b := 16) (by omega) (by decide)) (h s hs)) (fun n i s hi hs ih => ?_)
  have bx := xs_mb hx.1 hx.2 (show i ≤ 15 by omega) (by decide)
  have ex := xs_mulI (pg_in_m hx (by decide)) (show i ≤ 15 by omega)
  have hc2 := hc
  have hy2 := hy
  unfold pg_in at hc2 hy2
  have ec : (dx * nI i + dc).toInt = dx.toInt * (i : Int) + dc.toInt := by
    rw [ar_add, ex]
    · rw [ex]; omega
    · rw [ex]; omega
  have fin : ∀ m : Int32, (∀ y, y < 16 → (bt m y = true ↔ if e = 0 then dx.toInt * (i : Int) + dy.toInt * (y : Int) + dc.toInt < 0 else dx.toInt * (i : Int) + dy.toInt * (y : Int) + dc.toInt = 0)) → vp_in (nI i) 16 ∧ ∀ a_holding_17 : Nat → Int32, a_holding_17 = upd s (nI i).toNatClampNeg m → ∀ x10_18 : Int32, x10_18 = nI i + 1 → wX_solve_82 post e dx dy dc sz wy kn n x10_18 kd pr nb po dn ip rg a_holding_17 pa fl en mk := by
    intro m hm
    refine ⟨vp_in_nI hi (by decide), nm_r (e' := upd s i m) (by rw [nI_clamp (by omega)]) (nm_r (nI_1 i) (ih _ (fun x hx y hy => ?_)))⟩
    by_cases q : x = i
    · rw [q, pk_us]; exact hm y hy
    · rw [pk_un q]; exact hs x (by omega) y hy
  refine br_f (nI_ge (b := 16) hi (by decide)) (nm_e (br_c (fun z => ?_) (fun z => ?_)))
  · refine ar_below (by rw [ec]; omega) (by rw [ec]; omega) (by omega) (by omega) (fun m hm => fin m (fun y hy => ?_))
    rw [hm y hy, ec, if_pos z]
    omega
  · refine ar_zero (by rw [ec]; omega) (by rw [ec]; omega) (by omega) (by omega) (fun m hm => fin m (fun y hy => ?_))
    rw [hm y hy, ec, if_neg z]
    omega
theorem xs_ix12 (w a : Nat) : nI w * 12 + 3 * nI a = nI (w * 12 + 3 * a) := by
  rw [show nI w * 12 = nI (w * 12) from pk_mul w 12, show 3 * nI a = nI (3 * a) from pk_mul 3 a, nI_add]
theorem xs_ix16 (w x : Nat) : nI w * 16 + nI x = nI (w * 16 + x) := by
  rw [show nI w * 16 = nI (w * 16) from pk_mul w 16, nI_add]
theorem xs_ixR (w x : Nat) : nI w * 12 + nI x = nI (w * 12 + x) := by
  rw [show nI w * 12 = nI (w * 12) from pk_mul w 12, nI_add]
theorem xs_dif {X Y : Int32} (hX : pg_in 10628820 X) (hY : pg_in 10628820 Y) : (X - Y).toInt = X.toInt - Y.toInt ∧ pg_in 30000000 (X - Y) := by
  unfold pg_in at *
  have e : (X - Y).toInt = X.toInt - Y.toInt := ar_sub (by omega) (by omega)
  rw [e]
  omega
theorem xs_solve {w a b : Nat} {e : Int32} (hw : w < 16) (ha : a < 4) (hb : b < 4) (hB : ∀ j, j < 12 → pg_in 10628820 (rg (w * 12 + j))) (h : ∀ ho' : Nat → Int32, xs_H rg ho' w a b e → post (sz, wy, kn, kd, pr, nb, po, dn, ip, rg, ho', pa, fl, en, mk)) : wpX_solve post (sz, wy, kn, kd, pr, nb, po, dn, ip, rg, ho, pa, fl, en, mk) (nI w) (nI a) (nI b) e := by
  obtain ⟨e0, d0⟩ := xs_dif (hB (3 * a) (by omega)) (hB (3 * b) (by omega))
  obtain ⟨e1, d1⟩ := xs_dif (hB (3 * a + 1) (by omega)) (hB (3 * b + 1) (by omega))
  obtain ⟨e2, d2⟩ := xs_dif (hB (3 * a + 2) (by omega)) (hB (3 * b + 2) (by omega))
  rw [← Nat.add_assoc, ← Nat.add_assoc] at e1 d1 e2 d2
  refine nm_r (xs_ix12 w a) (nm_r (xs_ix12 w b) ?_)
  rw [show nI (w * 12 + 3 * a) + 1 = nI (w * 12 + 3 * a + 1) from nI_1 _, show nI (w * 12 + 3 * b) + 1 = nI (w * 12 + 3 * b + 1) from nI_1 _, show nI (w * 12 + 3 * a) + 2 = nI (w * 12 + 3 * a + 2) from nI_add _ 2, show nI (w * 12 + 3 * b) + 2 = nI (w * 12 + 3 * b + 2) from nI_add _ 2, nI_clamp (show w * 12 + 3 * a < 2 ^ 31 by omega), nI_clamp (show w * 12 + 3 * b < 2 ^ 31 by omega), nI_clamp (show w * 12 + 3 * a + 1 < 2 ^ 31 by omega), nI_clamp (show w * 12 + 3 * b + 1 < 2 ^ 31 by omega), nI_clamp (show w * 12 + 3 * a + 2 < 2 ^ 31 by omega), nI_clamp (show w * 12 + 3 * b + 2 < 2 ^ 31 by omega)]
  refine ⟨vp_in_nI (by omega) (by decide), vp_in_nI (by omega) (by decide), nm_e ⟨vp_in_nI (by omega) (by decide), vp_in_nI (by omega) (by decide), nm_e ⟨vp_in_nI (by omega) (by decide), vp_in_nI (by omega) (by decide), nm_e ?_⟩⟩⟩
  refine xs_solve82 d0 d1 d2 (fun ho' hh => h ho' (fun i hi => ?_))
  have := hh (i % 16) (by omega) (i / 16) (by omega)
  rw [this, e0, e1, e2]
  have f : ∀ j, j < 4 → (xs_ev rg w i j).toInt = (rg (w * 12 + 3 * j)).toInt * ((i % 16 : Nat) : Int) + (rg (w * 12 + 3 * j + 1)).toInt * ((i / 16 : Nat) : Int) + (rg (w * 12 + 3 * j + 2)).toInt := by
    intro j hj
    unfold xs_ev
    rw [if_pos hj]
    exact xs_evI (hB (3 * j) (by omega)) (hB (3 * j + 1) (by omega)) (hB (3 * j + 2) (by omega)) (by omega) (by omega)
  rw [Int.sub_mul, Int.sub_mul]
  by_cases z : e = 0
  · rw [if_pos z, if_pos z, ar_lt, f a ha, f b hb]
    omega
  · rw [if_neg z, if_neg z, ar_eq, f a ha, f b hb]
    omega
end
end
section
/-! copyWay and keep -/
/-- the cells of way t, k each, hold what those of way f held; the others are as they were -/
def xc_cp (k t f : Nat) (a a' : Nat → Int32) : Prop := (∀ x, x < k → a' (t * k + x) = a (f * k + x)) ∧ ∀ j, j < t * k ∨ t * k + k ≤ j → a' j = a j
section
variable {sz wy kn : Int32} {kd pr nb po dn ip rg ho pa fl en mk : Nat → Int32} {post : SX → Prop}
theorem xc_62 {f t : Nat} (hf : f < 16) (ht : t < 16) (hft : f ≠ t) (h : ∀ rg' : Nat → Int32, xc_cp 12 t f rg rg' → post (sz, wy, kn, kd, pr, nb, po, dn, ip, rg', ho, pa, fl, en, mk)) : ∃ n, wX_copyWay_62 post (nI f) (nI t) sz wy kn n 0 kd pr nb po dn ip rg ho pa fl en mk := by
  refine loop_0 (fun n i (s : Nat → Int32) => wX_copyWay_62 post (nI f) (nI t) sz wy kn n (nI i) kd pr nb po dn ip s ho pa fl en mk) (fun i s => (∀ x, x < i → s (t * 12 + x) = rg (f * 12 + x)) ∧ ∀ j, j < t * 12 ∨ t * 12 + i ≤ j → s j = rg j) 12 rg ⟨fun j hj => by omega, fun j hj => rfl⟩ (fun n s hs => br_t (nI_le (a := 12) (b := 12) (by omega) (by decide)) (h s hs)) (fun n i s hi hs ih => ?_)
  refine br_f (nI_ge (b := 12) hi (by decide)) ?_
  rw [xs_ixR, xs_ixR, nI_clamp (show f * 12 + i < 2 ^ 31 by omega), nI_clamp (show t * 12 + i < 2 ^ 31 by omega)]
  refine ⟨vp_in_nI (by omega) (by decide), vp_in_nI (by omega) (by decide), nm_e (nm_r (nI_1 i) (ih _ ⟨fun x hx => ?_, fun j hj => ?_⟩))⟩
  · by_cases e : x = i
    · rw [e, pk_us]; exact hs.2 _ (by omega)
    · rw [pk_un (by omega)]; exact hs.1 x (by omega)
  · rw [pk_un (by omega)]; exact hs.2 j (by omega)
theorem xc_26 {f t : Nat} (hf : f < 16) (ht : t < 16) (hft : f ≠ t) (h : ∀ ip' rg' : Nat → Int32, xc_cp 16 t f ip ip' → xc_cp 12 t f rg rg' → post (sz, wy, kn, kd, pr, nb, po, dn, ip', rg', ho, pa, fl, en, mk)) : ∃ n, wX_copyWay_26 post (nI f) (nI t) sz wy kn n 0 kd pr nb po dn ip rg ho pa fl en mk := by
  refine loop_0 (fun n i (s : Nat → Int32) => wX_copyWay_26 post (nI f) (nI t) sz wy kn n (nI i) kd pr nb po dn s rg ho pa fl en mk) (fun i s => (∀ x, x < i → s (t * 16 + x) = ip (f * 16 + x)) ∧ ∀ j, j < t * 16 ∨ t * 16 + i ≤ j → s j = ip j) 16 ip ⟨fun j hj => by omega, fun j hj => rfl⟩ (fun n s hs => br_t (nI_le (a := 16) (b := 16) (by omega) (by decide)) (xc_62 hf ht hft (fun rg' hr => h s rg' hs hr))) (fun n i s hi hs ih => ?_)
  refine br_f (nI_ge (b := 16) hi (by decide)) ?_
  rw [xs_ix16, xs_ix16, nI_clamp (show f * 16 + i < 2 ^ 31 by omega), nI_clamp (show t * 16 + i < 2 ^ 31 by omega)]
  refine ⟨vp_in_nI (by omega) (by decide), vp_in_nI (by omega) (by decide), nm_e (nm_r (nI_1 i) (ih _ ⟨fun x hx => ?_, fun j hj => ?_⟩))⟩
  · by_cases e : x = i
    · rw [e, pk_us]; exact hs.2 _ (by omega)
    · rw [pk_un (by omega)]; exact hs.1 x (by omega)
  · rw [pk_un (by omega)]; exact hs.2 j (by omega)
theorem xc_nb {p : Nat} (hp : p < 128) : vp_nar .byte (nI p) = nI p := by
  rw [vp_nar_byte]; exact lg_i2b_small (by rw [nI_toInt (by omega)]; omega) (by rw [nI_toInt (by omega)]; omega)
theorem xc_ns {d : Nat} (hd : d < 4096) : (nI d).toInt16.toInt32 = nI d := lg_i2s_small (by rw [nI_toInt (by omega)]; omega) (by rw [nI_toInt (by omega)]; omega)
theorem xc_nsh {d : Nat} (hd : d < 4096) : vp_nar .short (nI d) = nI d := by
  rw [vp_nar_short]; exact xc_ns hd
theorem xc_copy {f t p d : Nat} (hf : f < 16) (ht : t < 16) (hft : f ≠ t) (hp : po f = nI p) (hp2 : p < 128) (hd : dn f = nI d) (hd2 : d < 4096) (h : ∀ ip' rg' : Nat → Int32, xc_cp 16 t f ip ip' → xc_cp 12 t f rg rg' → post (sz, wy, kn, kd, pr, nb, upd po t (nI p), upd dn t (nI d), ip', rg', ho, pa, fl, en, mk)) : wpX_copyWay post (sz, wy, kn, kd, pr, nb, po, dn, ip, rg, ho, pa, fl, en, mk) (nI f) (nI t) := by
  have ef : (nI f).toNatClampNeg = f := nI_clamp (by omega)
  have et : (nI t).toNatClampNeg = t := nI_clamp (by omega)
  refine ⟨vp_in_nI hf (by decide), vp_in_nI ht (by decide), nm_r (e' := upd po t (nI p)) (by rw [ef, et, hp, xc_nb hp2]) ⟨vp_in_nI hf (by decide), vp_in_nI ht (by decide), nm_r (e' := upd dn t (nI d)) (by rw [ef, et, hd, xc_nsh hd2]) ?_⟩⟩
  exact xc_26 hf ht hft h
end
/-- keep: the masks of way w are cut down -/
def xc_kp (w : Nat) (holds : Int32) (ho ip ip' : Nat → Int32) : Prop := (∀ x, x < 16 → ip' (w * 16 + x) = ip (w * 16 + x) &&& (if holds = 0 then ho x ^^^ (-1) else ho x)) ∧ ∀ j, j < w * 16 ∨ w * 16 + 16 ≤ j → ip' j = ip j
section
variable {sz wy kn : Int32} {kd pr nb po dn ip rg ho pa fl en mk : Nat → Int32} {post : Int32 → SX → Prop}
theorem xc_or {z a : Int32} (ha : a = 0 ∨ a = 1) (hz : z = 0 ∨ z = 1) : (a ||| z = 0 ∨ a ||| z = 1) ∧ (a ||| z = 0 ↔ a = 0 ∧ z = 0) := by
  rcases ha with rfl | rfl <;> rcases hz with rfl | rfl <;> decide
theorem xc_keep {w : Nat} {c : Int32} (hw : w < 16) (h : ∀ (r : Int32) (ip' : Nat → Int32), xc_kp w c ho ip ip' → (r = 0 ∨ r = 1) → (r = 0 ↔ ∀ x, x < 16 → ip' (w * 16 + x) = 0) → post r (sz, wy, kn, kd, pr, nb, po, dn, ip', rg, ho, pa, fl, en, mk)) : wpX_keep post (sz, wy, kn, kd, pr, nb, po, dn, ip, rg, ho, pa, fl, en, mk) (nI w) c := by
  refine loop_0 (fun n i (s : Int32 × (Nat → Int32)) => wX_keep_5 post (nI w) c sz wy kn n s.1 (nI i) kd pr nb po dn s.2 rg ho pa fl en mk) (fun i s => ((∀ x, x < i → s.2 (w * 16 + x) = ip (w * 16 + x) &&& (if c = 0 then ho x ^^^ (-1) else ho x)) ∧ ∀ j, j < w * 16 ∨ w * 16 + i ≤ j → s.2 j = ip j) ∧ (s.1 = 0 ∨ s.1 = 1) ∧ (s.1 = 0 ↔ ∀ x, x < i → s.2 (w * 16 + x) = 0)) 16 (0, ip) ⟨⟨fun j hj => by omega, fun j hj => rfl⟩, Or.inl rfl, ⟨fun _ x hx => by omega, fun _ => rfl⟩⟩ (fun n s hs => br_t (nI_le (a := 16) (b := 16) (by omega) (by decide)) ⟨?_, h s.1 s.2 hs.1 hs.2.1 hs.2.2⟩) (fun n i s hi hs ih => ?_)
  · rcases hs.2.1 with e | e <;> rw [e]
    · exact narrow_b0
    · exact narrow_b1
  obtain ⟨⟨s1, s2⟩, s3, s4⟩ := hs
  have K : ∀ z : Int32, z = (if c = 0 then ho i ^^^ (-1) else ho i) → wX_keep_48 post (wX_keep_5 post (nI w) c sz wy kn n) (nI w) c s.1 (nI i) z (s.2 (w * 16 + i)) (nI (w * 16 + i)) sz wy kn kd pr nb po dn s.2 rg ho pa fl en mk := by
    intro z hz
    unfold wX_keep_48
    rw [xs_ix16, nI_clamp (show w * 16 + i < 2 ^ 31 by omega)]
    refine ⟨vp_in_nI (by omega) (by decide), nm_e ⟨vp_in_nI (by omega) (by decide), ?_⟩⟩
    have st : ∀ b : Int32, (b = 0 ∨ b = 1) → (b = 0 ↔ s.2 (w * 16 + i) &&& z = 0) → wX_keep_5 post (nI w) c sz wy kn n (s.1 ||| b) (nI (i + 1)) kd pr nb po dn (upd s.2 (w * 16 + i) (s.2 (w * 16 + i) &&& z)) rg ho pa fl en mk := by
      intro b hb hb2
      obtain ⟨o1, o2⟩ := xc_or s3 hb
      refine ih (s.1 ||| b, upd s.2 (w * 16 + i) (s.2 (w * 16 + i) &&& z)) ⟨⟨fun x hx => ?_, fun j hj => ?_⟩, o1, o2.trans ⟨fun q x hx => ?_, fun q => ⟨s4.mpr (fun x hx => ?_), hb2.mpr ?_⟩⟩⟩
      · dsimp only
        by_cases e : x = i
        · rw [e, pk_us, ← hz, s2 _ (by omega)]
        · rw [pk_un (by omega)]; exact s1 x (by omega)
      · dsimp only
        rw [pk_un (by omega)]; exact s2 j (by omega)
      · dsimp only
        by_cases e : x = i
        · rw [e, pk_us]; exact hb2.mp q.2
        · rw [pk_un (by omega)]; exact s4.mp q.1 x (by omega)
      · have := q x (by omega)
        dsimp only at this
        rw [pk_un (by omega)] at this
        exact this
      · have := q i (by omega)
        dsimp only at this
        rw [pk_us] at this
        exact this
    rw [pk_us]
    refine br_c (fun q => nm_e (nm_r (nI_1 i) (st 0 (Or.inl rfl) ⟨fun _ => q, fun _ => rfl⟩))) (fun q => nm_e (nm_r (nI_1 i) (st 1 (Or.inr rfl) ⟨fun z => absurd z (by decide), fun z => absurd z q⟩)))
  have ei : (nI i).toNatClampNeg = i := nI_clamp (by omega)
  refine br_f (nI_ge (b := 16) hi (by decide)) ?_
  rw [xs_ix16, nI_clamp (show w * 16 + i < 2 ^ 31 by omega), ei]
  refine ⟨vp_in_nI (by omega) (by decide), br_c (fun q => ⟨vp_in_nI hi (by decide), K _ (by rw [if_pos q])⟩) (fun q => ⟨vp_in_nI hi (by decide), K _ (by rw [if_neg q])⟩)⟩
end
end
section
/-! finish and calculate -/
/-- finish of way w: the inputs in it get its path, flag and registers; the others keep theirs -/
def xf_Q (w : Nat) (f : Int32) (dn ip rg pa fl en pa' fl' en' : Nat → Int32) : Prop := ∀ i, i < 256 → (xs_mem ip w i = true → pa' i = dn w ∧ fl' i = f ∧ ∀ j, j < 4 → en' (4 * i + j) = xs_ev rg w i j) ∧ (xs_mem ip w i = false → pa' i = pa i ∧ fl' i = fl i ∧ ∀ j, j < 4 → en' (4 * i + j) = en (4 * i + j))
theorem xf_bit (v : Int32) {y : Nat} (hy : y < 16) : (v >>> (nI y &&& 31)) &&& 1 = 0 ↔ bt v y = false := by
  have e0 : bt ((v >>> (nI y &&& 31)) &&& 1) 0 = bt v y := by
    rw [b_and, b_sshr y (by omega) v (by omega), if_pos (by omega)]
    have : bt 1 0 = true := by decide
    rw [this, Bool.and_true]; rfl
  constructor
  · intro z; rw [← e0, z]; exact b_0 0
  · intro z
    apply b_ext
    intro i hi
    rw [b_0]
    by_cases h : i = 0
    · rw [h, e0]; exact z
    · have h1 : bt 1 i = false := (by decide +kernel : ∀ i, i < 32 → i ≠ 0 → bt 1 i = false) i hi h
      rw [b_and, h1, Bool.and_false]
section
variable {sz wy kn : Int32} {kd pr nb po dn ip rg ho pa fl en mk : Nat → Int32} {post : SX → Prop}
theorem xf_62 {J : Int32 → (Nat → Int32) → (Nat → Int32) → (Nat → Int32) → (Nat → Int32) → (Nat → Int32) → (Nat → Int32) → (Nat → Int32) → (Nat → Int32) → (Nat → Int32) → (Nat → Int32) → (Nat → Int32) → (Nat → Int32) → Prop} {w i : Nat} {f : Int32} (hw : w < 16) (hi : i < 256) (h : ∀ en' : Nat → Int32, (∀ j, j < 4 → en' (4 * i + j) = xs_ev rg w i j) → (∀ j, j < 4 * i ∨ 4 * i + 4 ≤ j → en' j = en j) → J (nI (i + 1)) kd pr nb po dn ip rg ho pa fl en' mk) : ∃ n, wX_finish_62 post J (nI w) f (nI i) (nI (i % 16)) (nI (i / 16)) sz wy kn n 0 kd pr nb po dn ip rg ho pa fl en mk := by
  refine loop_0 (fun n r (s : Nat → Int32) => wX_finish_62 post J (nI w) f (nI i) (nI (i % 16)) (nI (i / 16)) sz wy kn n (nI r) kd pr nb po dn ip rg ho pa fl s mk) (fun r s => (∀ j, j < r → s (4 * i + j) = xs_ev rg w i j) ∧ ∀ j, j < 4 * i ∨ 4 * i + r ≤ j → s j = en j) 4 en ⟨fun j hj => by omega, fun j hj => rfl⟩ (fun n s hs => br_t (nI_le (a := 4) (b := 4) (by omega) (by decide)) (nm_r (nI_1 i) (h s hs.1 hs.2))) (fun n r s hr hs ih => ?_)
  refine br_f (nI_ge (b := 4) hr (by decide)) (nm_r (xs_ix12 w r) ?_)
  have e4 : 4 * nI i + nI r = nI (4 * i + r) := by rw [show 4 * nI i = nI (4 * i) from pk_mul 4 i, nI_add]
  rw [e4, show nI (w * 12 + 3 * r) + 1 = nI (w * 12 + 3 * r + 1) from nI_1 _, show nI (w * 12 + 3 * r) + 2 = nI (w * 12 + 3 * r + 2) from nI_add _ 2, nI_clamp (show w * 12 + 3 * r < 2 ^ 31 by omega), nI_clamp (show w * 12 + 3 * r + 1 < 2 ^ 31 by omega), nI_clamp (show w * 12 + 3 * r + 2 < 2 ^ 31 by omega), nI_clamp (show 4 * i + r < 2 ^ 31 by omega)]
  refine ⟨vp_in_nI (by omega) (by decide), vp_in_nI (by omega) (by decide), vp_in_nI (by omega) (by decide), vp_in_nI (by omega) (by decide), nm_e (nm_r (nI_1 r) (ih _ ⟨fun j hj => ?_, fun j hj => ?_⟩))⟩
  · by_cases e : j = r
    · rw [e, pk_us]; unfold xs_ev; rw [if_pos hr]
    · rw [pk_un (by omega)]; exact hs.1 j (by omega)
  · rw [pk_un (by omega)]; exact hs.2 j (by omega)
theorem xf_finish {w d : Nat} {f : Int32} (hw : w < 16) (hf : f = 0 ∨ f = 1) (hd : dn w = nI d) (hd2 : d < 4096) (h : ∀ pa' fl' en' : Nat → Int32, xf_Q w f dn ip rg pa fl en pa' fl' en' → post (sz, wy, kn, kd, pr, nb, po, dn, ip, rg, ho, pa', fl', en', mk)) : wpX_finish post (sz, wy, kn, kd, pr, nb, po, dn, ip, rg, ho, pa, fl, en, mk) (nI w) f := by
  have ef : vp_nar .boolean f = f := by rcases hf with rfl | rfl <;> rfl
  have ew : (nI w).toNatClampNeg = w := nI_clamp (by omega)
  refine loop_0 (fun n i (s : (Nat → Int32) × (Nat → Int32) × (Nat → Int32)) => wX_finish_2 post (nI w) f sz wy kn n (nI i) kd pr nb po dn ip rg ho s.1 s.2.1 s.2.2 mk) (fun i s => (∀ k, k < i → (xs_mem ip w k = true → s.1 k = dn w ∧ s.2.1 k = f ∧ ∀ j, j < 4 → s.2.2 (4 * k + j) = xs_ev rg w k j) ∧ (xs_mem ip w k = false → s.1 k = pa k ∧ s.2.1 k = fl k ∧ ∀ j, j < 4 → s.2.2 (4 * k + j) = en (4 * k + j))) ∧ (∀ k, i ≤ k → s.1 k = pa k ∧ s.2.1 k = fl k) ∧ ∀ j, 4 * i ≤ j → s.2.2 j = en j) 256 (pa, fl, en) ⟨fun k hk => by omega, fun k hk => ⟨rfl, rfl⟩, fun j hj => rfl⟩ (fun n s hs => br_t (nI_le (a := 256) (b := 256) (by omega) (by decide)) (h _ _ _ hs.1)) (fun n i s hi hs ih => ?_)
  obtain ⟨s1, s2, s3⟩ := hs
  have e15 : nI i &&& 15 = nI (i % 16) := pk_andN (by omega) 4 (by decide)
  have es : nI i >>> ((4 : Int32) &&& 31) = nI (i / 16) := pk_shrN (by omega) _ 4 (by decide)
  refine br_f (nI_ge (b := 256) hi (by decide)) (nm_r e15 (nm_r es ?_))
  rw [xs_ix16, nI_clamp (show w * 16 + i % 16 < 2 ^ 31 by omega), nI_clamp (show i < 2 ^ 31 by omega), ew, hd, xc_nsh hd2, ef]
  refine ⟨vp_in_nI (by omega) (by decide), br_c (fun q => nm_r (nI_1 i) (ih s ⟨fun k hk => ?_, fun k hk => s2 k (by omega), fun j hj => s3 j (by omega)⟩)) (fun q => ?_)⟩
  · rw [xf_bit _ (by omega)] at q
    by_cases e : k = i
    · subst e
      refine ⟨fun z => ?_, fun z => ⟨(s2 k (by omega)).1, (s2 k (by omega)).2, fun j hj => s3 _ (by omega)⟩⟩
      unfold xs_mem at z
      rw [q] at z
      exact absurd z (by decide)
    · exact s1 k (by omega)
  · rw [xf_bit _ (by omega)] at q
    refine ⟨vp_in_nI hw (by decide), vp_in_nI hi (by decide), nm_e ⟨vp_in_nI hi (by decide), nm_e ?_⟩⟩
    refine xf_62 hw hi (fun en' g1 g2 => ih (upd s.1 i (nI d), upd s.2.1 i f, en') ⟨fun k hk => ?_, fun k hk => ?_, fun j hj => ?_⟩)
    · dsimp only
      by_cases e : k = i
      · subst e
        refine ⟨fun z => ⟨by rw [pk_us, hd], pk_us, g1⟩, fun z => ?_⟩
        exact absurd z q
      · rw [pk_un e, pk_un e]
        obtain ⟨t1, t2⟩ := s1 k (by omega)
        refine ⟨fun z => ⟨(t1 z).1, (t1 z).2.1, fun j hj => ?_⟩, fun z => ⟨(t2 z).1, (t2 z).2.1, fun j hj => ?_⟩⟩
        · rw [g2 _ (by omega)]; exact (t1 z).2.2 j hj
        · rw [g2 _ (by omega)]; exact (t2 z).2.2 j hj
    · dsimp only
      rw [pk_un (by omega), pk_un (by omega)]; exact s2 k (by omega)
    · dsimp only
      rw [g2 _ (by omega)]; exact s3 j (by omega)
/-- one number of a register after a step of kind k -/
def xf_v (k c : Nat) (x o n : Int32) : Int32 := if k = 0 then (if c = 2 then n else 0) else if k = 3 then x * n else if k = 1 then x + o else x + -o
theorem xf_calc {w k a b : Nat} {x : Int32} (hw : w < 16) (hk : k < 8) (ha : a < 4) (hb : b < 4) (h : ∀ rg' : Nat → Int32, (∀ c, c < 3 → rg' (w * 12 + 3 * a + c) = xf_v k c (rg (w * 12 + 3 * a + c)) (rg (w * 12 + 3 * b + c)) x) → (∀ j, j < w * 12 + 3 * a ∨ w * 12 + 3 * a + 3 ≤ j → rg' j = rg j) → post (sz, wy, kn, kd, pr, nb, po, dn, ip, rg', ho, pa, fl, en, mk)) : wpX_calculate post (sz, wy, kn, kd, pr, nb, po, dn, ip, rg, ho, pa, fl, en, mk) (nI w) (nI k) (nI a) (nI b) x := by
  refine loop_0 (fun n i (s : Nat → Int32) => wX_calculate_3 post (nI w) (nI k) (nI a) (nI b) x sz wy kn n (nI i) kd pr nb po dn ip s ho pa fl en mk) (fun i s => (∀ c, c < i → s (w * 12 + 3 * a + c) = xf_v k c (rg (w * 12 + 3 * a + c)) (rg (w * 12 + 3 * b + c)) x) ∧ ∀ j, j < w * 12 + 3 * a ∨ w * 12 + 3 * a + i ≤ j → s j = rg j) 3 rg ⟨fun j hj => by omega, fun j hj => rfl⟩ (fun n s hs => br_t (nI_le (a := 3) (b := 3) (by omega) (by decide)) (h s hs.1 hs.2)) (fun n i s hi hs ih => ?_)
  have hrb : s (w * 12 + 3 * b + i) = rg (w * 12 + 3 * b + i) := by
    by_cases e : a = b
    · exact hs.2 _ (by omega)
    · exact hs.2 _ (by omega)
  have hra : s (w * 12 + 3 * a + i) = rg (w * 12 + 3 * a + i) := hs.2 _ (by omega)
  have H : ∀ v : Int32, xf_v k i (s (w * 12 + 3 * a + i)) (s (w * 12 + 3 * b + i)) x = v → wX_calculate_3 post (nI w) (nI k) (nI a) (nI b) x sz wy kn n (nI (i + 1)) kd pr nb po dn ip (upd s (w * 12 + 3 * a + i) v) ho pa fl en mk := by
    intro v hv
    rw [hra, hrb] at hv
    refine ih _ ⟨fun c hc => ?_, fun j hj => ?_⟩
    · by_cases e : c = i
      · rw [e, pk_us, hv]
      · rw [pk_un (by omega)]; exact hs.1 c (by omega)
    · rw [pk_un (by omega)]; exact hs.2 j (by omega)
  unfold xf_v at H
  have I1 : vp_in (nI (w * 12 + 3 * a + i)) 192 := vp_in_nI (by omega) (by decide)
  refine br_f (nI_ge (b := 3) hi (by decide)) (nm_r (e' := nI (w * 12 + 3 * a + i)) (by rw [xs_ix12, nI_add]) ?_)
  rw [xs_ix12, nI_add, nI_clamp (show w * 12 + 3 * a + i < 2 ^ 31 by omega), nI_clamp (show w * 12 + 3 * b + i < 2 ^ 31 by omega)]
  refine ⟨vp_in_nI (by omega) (by decide), nm_e ?_⟩
  refine pk_eq k 0 (fun k0 => ?_) (fun k0 => ?_)
  · exact pk_eq i 2 (fun i2 => ⟨I1, nm_e (nm_r (nI_1 i) (H _ (by rw [if_pos k0, if_pos i2])))⟩) (fun i2 => ⟨I1, nm_e (nm_r (nI_1 i) (H _ (by rw [if_pos k0, if_neg i2])))⟩)
  refine pk_eq k 3 (fun k3 => ⟨I1, I1, nm_e (nm_r (nI_1 i) (H _ (by rw [if_neg k0, if_pos k3])))⟩) (fun k3 => ⟨I1, ?_⟩)
  exact pk_eq k 1 (fun k1 => ⟨I1, nm_e (nm_r (nI_1 i) (H _ (by rw [if_neg k0, if_neg k3, if_pos k1])))⟩) (fun k1 => ⟨I1, nm_e (nm_r (nI_1 i) (H _ (by rw [if_neg k0, if_neg k3, if_neg k1])))⟩)
end
end
section
/-! the invariant of learn, and its potential, in plain terms -/
def lr_sum : Nat → (Nat → Nat) → Nat
  | 0, _ => 0
  | n + 1, f => lr_sum n f + f n
theorem lr_sum_s (n : Nat) (f : Nat → Nat) : lr_sum (n + 1) f = lr_sum n f + f n := rfl
theorem lr_sum_le {f g : Nat → Nat} : ∀ n, (∀ i, i < n → f i ≤ g i) → lr_sum n f ≤ lr_sum n g := by
  intro n
  induction n with
  | zero => intro _; exact Nat.le_refl _
  | succ n ih =>
    intro h
    have h1 := ih (fun i hi => h i (by omega))
    have h2 := h n (by omega)
    rw [lr_sum_s, lr_sum_s]; omega
theorem lr_sum_lt {f g : Nat → Nat} : ∀ n, (∀ i, i < n → f i ≤ g i) → (∃ i, i < n ∧ f i < g i) → lr_sum n f < lr_sum n g := by
  intro n
  induction n with
  | zero => intro _ h; obtain ⟨i, hi, _⟩ := h; omega
  | succ n ih =>
    intro h hx
    obtain ⟨i, hi, hl⟩ := hx
    have h2 := h n (by omega)
    rw [lr_sum_s, lr_sum_s]
    by_cases e : i = n
    · subst e
      have h1 := lr_sum_le i (fun j hj => h j (by omega))
      omega
    · have h1 := ih (fun j hj => h j (by omega)) ⟨i, by omega, hl⟩
      omega
theorem lr_sum_eq {f g : Nat → Nat} (n : Nat) (h : ∀ i, i < n → f i = g i) : lr_sum n f = lr_sum n g := Nat.le_antisymm (lr_sum_le n (fun i hi => Nat.le_of_eq (h i hi))) (lr_sum_le n (fun i hi => Nat.le_of_eq (h i hi).symm))
theorem lr_sum_b {f : Nat → Nat} {c : Nat} : ∀ n, (∀ i, i < n → f i ≤ c) → lr_sum n f ≤ n * c := by
  intro n
  induction n with
  | zero => intro _; exact Nat.zero_le _
  | succ n ih =>
    intro h
    have h1 := ih (fun i hi => h i (by omega))
    have h2 := h n (by omega)
    rw [lr_sum_s, Nat.succ_mul]; omega
def lr_c (po ip : Nat → Int32) (i w : Nat) : Nat := if xs_mem ip w i = true then 13 - (po w).toNatClampNeg else 0
def lr_in (po ip : Nat → Int32) (m i : Nat) : Nat := lr_sum m (fun w => lr_c po ip i w)
def lr_phi (po ip : Nat → Int32) (m : Nat) : Nat := lr_sum 256 (fun i => lr_in po ip m i)
theorem lr_in_s (po ip : Nat → Int32) (m i : Nat) : lr_in po ip (m + 1) i = lr_in po ip m i + lr_c po ip i m := rfl
theorem lr_c_t {po ip : Nat → Int32} {i w p : Nat} (hp : po w = nI p) (hp2 : p < 2 ^ 31) (h : xs_mem ip w i = true) : lr_c po ip i w = 13 - p := by
  unfold lr_c; rw [if_pos h, hp, nI_clamp hp2]
theorem lr_c_f {po ip : Nat → Int32} {i w : Nat} (h : ¬ xs_mem ip w i = true) : lr_c po ip i w = 0 := if_neg h
def lr_mk (ip : Nat → Int32) (w : Nat) : Prop := ∀ x, x < 16 → ip (w * 16 + x) &&& 65535 = ip (w * 16 + x)
def lr_bd (rg : Nat → Int32) (w p : Nat) : Prop := ∀ j, j < 12 → pg_in (pg_bd p) (rg (w * 12 + j))
def lr_way (n : Nat) (K Q : Nat → Nat) (N po dn ip rg : Nat → Int32) (w : Nat) : Prop := ∃ p d : Nat, po w = nI p ∧ dn w = nI d ∧ w ≤ p ∧ p ≤ 12 ∧ d < 4096 ∧ lr_mk ip w ∧ lr_bd rg w p ∧ (∀ i, i < 256 → xs_mem ip w i = true → pg_F n K Q N p d (xs_ev rg w i) = pg_out n K Q N i) ∧ ∃ i, i < 256 ∧ xs_mem ip w i = true
def lr_inv (n : Nat) (K Q : Nat → Nat) (N : Nat → Int32) (m : Nat) (po dn ip rg pa fl en : Nat → Int32) : Prop := (∀ w, w < m → lr_way n K Q N po dn ip rg w) ∧ ∀ i, i < 256 → (∃ w, w < m ∧ xs_mem ip w i = true) ∨ pg_at n K Q N i pa fl en
/-! how the views of a way move -/
theorem lr_mem_eq {a a' : Nat → Int32} {w v : Nat} (h : ∀ x, x < 16 → a' (w * 16 + x) = a (v * 16 + x)) (i : Nat) : xs_mem a' w i = xs_mem a v i := by
  unfold xs_mem; rw [h _ (Nat.mod_lt _ (by omega))]
theorem lr_ev_eq {a a' : Nat → Int32} {w v : Nat} (h : ∀ x, x < 12 → a' (w * 12 + x) = a (v * 12 + x)) (i : Nat) : xs_ev a' w i = xs_ev a v i := by
  funext j
  unfold xs_ev
  by_cases c : j < 4
  · rw [if_pos c, if_pos c, h (3 * j) (by omega), Nat.add_assoc, h (3 * j + 1) (by omega), Nat.add_assoc, h (3 * j + 2) (by omega), Nat.add_assoc, Nat.add_assoc]
  · rw [if_neg c, if_neg c]
theorem lr_mk_eq {a a' : Nat → Int32} {w v : Nat} (h : ∀ x, x < 16 → a' (w * 16 + x) = a (v * 16 + x)) (k : lr_mk a v) : lr_mk a' w := by
  intro x hx; rw [h x hx]; exact k x hx
theorem lr_bd_eq {a a' : Nat → Int32} {w v p : Nat} (h : ∀ x, x < 12 → a' (w * 12 + x) = a (v * 12 + x)) (k : lr_bd a v p) : lr_bd a' w p := by
  intro x hx; rw [h x hx]; exact k x hx
theorem lr_bd_m {a : Nat → Int32} {w p q : Nat} (k : lr_bd a w p) (h : p ≤ q) : lr_bd a w q := fun j hj => pg_in_m (k j hj) (pg_bd_m h)
theorem lr_bd_M {a : Nat → Int32} {w p : Nat} (k : lr_bd a w p) (h : p ≤ 12) : ∀ j, j < 12 → pg_in 10628820 (a (w * 12 + j)) := fun j hj => by
  rw [← pg_bd_12]; exact pg_in_m (k j hj) (pg_bd_m h)
theorem lr_cp_o {k t f w : Nat} {a a' : Nat → Int32} (h : xc_cp k t f a a') (hw : w < t ∨ t < w) : ∀ x, x < k → a' (w * k + x) = a (w * k + x) := by
  intro x hx
  refine h.2 _ ?_
  rcases hw with q | q
  · left
    have := Nat.mul_le_mul_right k (show w + 1 ≤ t from q)
    rw [Nat.succ_mul] at this
    omega
  · right
    have := Nat.mul_le_mul_right k (show t + 1 ≤ w from q)
    rw [Nat.succ_mul] at this
    omega
theorem lr_kp_o {w v : Nat} {c : Int32} {ho a a' : Nat → Int32} (h : xc_kp w c ho a a') (hw : v < w ∨ w < v) : ∀ x, x < 16 → a' (v * 16 + x) = a (v * 16 + x) := by
  intro x hx
  exact h.2 _ (by omega)
theorem lr_kp_mk {w : Nat} {c : Int32} {ho a a' : Nat → Int32} (h : xc_kp w c ho a a') (k : lr_mk a w) : lr_mk a' w := by
  intro x hx
  rw [h.1 x hx]
  generalize (if c = 0 then ho x ^^^ (-1) else ho x) = m
  have := k x hx
  rw [Int32.and_assoc, Int32.and_comm m, ← Int32.and_assoc, this]
theorem lr_kp_1 {w : Nat} {ho a a' : Nat → Int32} (h : xc_kp w 1 ho a a') (i : Nat) : xs_mem a' w i = (xs_mem a w i && bt (ho (i % 16)) (i / 16)) := by
  unfold xs_mem
  rw [h.1 _ (Nat.mod_lt _ (by omega)), if_neg (by decide), b_and]
theorem lr_kp_0 {w : Nat} {ho a a' : Nat → Int32} (h : xc_kp w 0 ho a a') {i : Nat} (hi : i < 256) : xs_mem a' w i = (xs_mem a w i && !bt (ho (i % 16)) (i / 16)) := by
  unfold xs_mem
  rw [h.1 _ (Nat.mod_lt _ (by omega)), if_pos rfl, b_and, b_xor, b_m1 _ (by omega), Bool.xor_true]
/-- no input in a way: all its masks are 0, and the other way round -/
theorem lr_none {ip : Nat → Int32} {w : Nat} (k : lr_mk ip w) : (∀ x, x < 16 → ip (w * 16 + x) = 0) ↔ ∀ i, i < 256 → xs_mem ip w i = false := by
  constructor
  · intro h i hi
    unfold xs_mem; rw [h _ (Nat.mod_lt _ (by omega))]; exact b_0 _
  · intro h x hx
    apply b_ext
    intro y hy
    rw [b_0]
    by_cases c : y < 16
    · have := h (y * 16 + x) (by omega)
      unfold xs_mem at this
      rw [show (y * 16 + x) % 16 = x by omega, show (y * 16 + x) / 16 = y by omega] at this
      exact this
    · rw [← k x hx, b_and, b_65535, decide_eq_false c, Bool.and_false]
theorem lr_some {ip : Nat → Int32} {w : Nat} (k : lr_mk ip w) (h : ¬ ∀ x, x < 16 → ip (w * 16 + x) = 0) : ∃ i, i < 256 ∧ xs_mem ip w i = true := by
  apply Classical.byContradiction
  intro z
  apply h
  rw [lr_none k]
  intro i hi
  cases e : xs_mem ip w i with
  | false => rfl
  | true => exact absurd ⟨i, hi, e⟩ z
section
variable {n : Nat} {K Q : Nat → Nat} {N po dn ip rg pa fl en po' dn' ip' rg' pa' fl' en' : Nat → Int32}
theorem lr_way_eq {w : Nat} (h1 : po' w = po w) (h2 : dn' w = dn w) (h3 : ∀ x, x < 16 → ip' (w * 16 + x) = ip (w * 16 + x)) (h4 : ∀ x, x < 12 → rg' (w * 12 + x) = rg (w * 12 + x)) (h : lr_way n K Q N po dn ip rg w) : lr_way n K Q N po' dn' ip' rg' w := by
  obtain ⟨p, d, a1, a2, a3, a4, a5, a6, a7, a8, i, hi, a9⟩ := h
  refine ⟨p, d, h1.trans a1, h2.trans a2, a3, a4, a5, lr_mk_eq h3 a6, lr_bd_eq h4 a7, fun i hi q => ?_, i, hi, ?_⟩
  · rw [lr_mem_eq h3] at q
    rw [lr_ev_eq h4]; exact a8 i hi q
  · rw [lr_mem_eq h3]; exact a9
/-- the top way t at position p gives way to what stands at t .. m' - 1 -/
theorem lr_top {t m' p : Nat} (I : lr_inv n K Q N (t + 1) po dn ip rg pa fl en) (hp : po t = nI p) (hp12 : p ≤ 12) (low : ∀ w, w < t → po' w = po w ∧ dn' w = dn w) (lowI : ∀ j, j < t * 16 → ip' j = ip j) (lowR : ∀ j, j < t * 12 → rg' j = rg j) (hw : ∀ w, t ≤ w → w < m' → lr_way n K Q N po' dn' ip' rg' w) (ht : t ≤ m') (hc : ∀ i, i < 256 → xs_mem ip t i = true → (∃ w, w < m' ∧ xs_mem ip' w i = true) ∨ pg_at n K Q N i pa' fl' en') (hr : ∀ i, i < 256 → pg_at n K Q N i pa fl en → pg_at n K Q N i pa' fl' en') (hphi : ∀ i, i < 256 → lr_in po' ip' m' i ≤ lr_in po' ip' t i + if xs_mem ip t i = true then 12 - p else 0) : lr_inv n K Q N m' po' dn' ip' rg' pa' fl' en' ∧ lr_phi po' ip' m' < lr_phi po ip (t + 1) := by
  have lI : ∀ w, w < t → ∀ x, x < 16 → ip' (w * 16 + x) = ip (w * 16 + x) := fun w hw x hx => lowI _ (by omega)
  have lR : ∀ w, w < t → ∀ x, x < 12 → rg' (w * 12 + x) = rg (w * 12 + x) := fun w hw x hx => lowR _ (by omega)
  obtain ⟨I1, I2⟩ := I
  refine ⟨⟨fun w h => ?_, fun i hi => ?_⟩, ?_⟩
  · by_cases c : w < t
    · exact lr_way_eq (low w c).1 (low w c).2 (lI w c) (lR w c) (I1 w (by omega))
    · exact hw w (by omega) h
  · rcases I2 i hi with ⟨w, h, q⟩ | q
    · by_cases c : w < t
      · exact Or.inl ⟨w, by omega, by rw [lr_mem_eq (lI w c)]; exact q⟩
      · have e : w = t := by omega
        subst e
        exact hc i hi q
    · exact Or.inr (hr i hi q)
  · have hin : ∀ i, lr_in po' ip' t i = lr_in po ip t i := by
      intro i
      refine lr_sum_eq t (fun w hw => ?_)
      unfold lr_c
      rw [lr_mem_eq (lI w hw), (low w hw).1]
    have hle : ∀ i, i < 256 → lr_in po' ip' m' i ≤ lr_in po ip t i + if xs_mem ip t i = true then 12 - p else 0 := by
      intro i hi; rw [← hin i]; exact hphi i hi
    obtain ⟨_, _, _, _, _, _, _, _, _, _, i0, hi0, m0⟩ := I1 t (by omega)
    refine lr_sum_lt 256 (fun i hi => ?_) ⟨i0, hi0, ?_⟩
    · have g := hle i hi
      rw [lr_in_s]
      by_cases c : xs_mem ip t i = true
      · rw [if_pos c] at g
        rw [lr_c_t hp (by omega) c]; omega
      · rw [if_neg c] at g
        rw [lr_c_f c]; omega
    · have g := hle i0 hi0
      rw [lr_in_s]
      rw [if_pos m0] at g
      rw [lr_c_t hp (by omega) m0]; omega
/-- a way that ends: what finish writes is what comes out -/
theorem lr_fin {w d : Nat} {f : Int32} (q : xf_Q w f dn ip rg pa fl en pa' fl' en') (hd : dn w = nI d) (ho : ∀ i, i < 256 → xs_mem ip w i = true → pg_out n K Q N i = (d, f, xs_ev rg w i)) : (∀ i, i < 256 → xs_mem ip w i = true → pg_at n K Q N i pa' fl' en') ∧ (∀ i, i < 256 → pg_at n K Q N i pa fl en → pg_at n K Q N i pa' fl' en') := by
  have A : ∀ i, i < 256 → xs_mem ip w i = true → pg_at n K Q N i pa' fl' en' := by
    intro i hi m
    obtain ⟨q1, _⟩ := q i hi
    obtain ⟨g1, g2, g3⟩ := q1 m
    unfold pg_at
    rw [ho i hi m]
    exact ⟨g1.trans hd, g2, g3⟩
  refine ⟨A, fun i hi h => ?_⟩
  cases m : xs_mem ip w i with
  | true => exact A i hi m
  | false =>
    obtain ⟨_, q2⟩ := q i hi
    obtain ⟨g1, g2, g3⟩ := q2 m
    exact ⟨g1.trans h.1, g2.trans h.2.1, fun j hj => (g3 j hj).trans (h.2.2 j hj)⟩
/-- the top way goes on as one way, with some of its inputs -/
theorem lr_one {t p p' : Nat} (I : lr_inv n K Q N (t + 1) po dn ip rg pa fl en) (hp : po t = nI p) (hp12 : p ≤ 12) (low : ∀ w, w < t → po' w = po w ∧ dn' w = dn w) (lowI : ∀ j, j < t * 16 → ip' j = ip j) (lowR : ∀ j, j < t * 12 → rg' j = rg j) (hw : lr_way n K Q N po' dn' ip' rg' t) (hp' : po' t = nI p') (hl : p < p') (hp2 : p' ≤ 12) (hs : ∀ i, i < 256 → xs_mem ip' t i = true → xs_mem ip t i = true) (hc : ∀ i, i < 256 → xs_mem ip t i = true → xs_mem ip' t i = true ∨ pg_at n K Q N i pa' fl' en') (hr : ∀ i, i < 256 → pg_at n K Q N i pa fl en → pg_at n K Q N i pa' fl' en') : lr_inv n K Q N (t + 1) po' dn' ip' rg' pa' fl' en' ∧ lr_phi po' ip' (t + 1) < lr_phi po ip (t + 1) := by
  refine lr_top I hp hp12 low lowI lowR (fun w h1 h2 => ?_) (by omega) (fun i hi m => ?_) hr (fun i hi => ?_)
  · have e : w = t := by omega
    subst e; exact hw
  · rcases hc i hi m with z | z
    · exact Or.inl ⟨t, by omega, z⟩
    · exact Or.inr z
  · rw [lr_in_s]
    by_cases c : xs_mem ip' t i = true
    · rw [lr_c_t hp' (by omega) c, if_pos (hs i hi c)]; omega
    · rw [lr_c_f c]; omega
theorem lr_two {t p p1 p2 : Nat} (I : lr_inv n K Q N (t + 1) po dn ip rg pa fl en) (hp : po t = nI p) (hp12 : p ≤ 12) (low : ∀ w, w < t → po' w = po w ∧ dn' w = dn w) (lowI : ∀ j, j < t * 16 → ip' j = ip j) (lowR : ∀ j, j < t * 12 → rg' j = rg j) (hw1 : lr_way n K Q N po' dn' ip' rg' t) (hw2 : lr_way n K Q N po' dn' ip' rg' (t + 1)) (hp1 : po' t = nI p1) (hp2 : po' (t + 1) = nI p2) (l1 : p < p1) (l2 : p < p2) (b1 : p1 ≤ 12) (b2 : p2 ≤ 12) (h : Nat → Bool) (m1 : ∀ i, i < 256 → xs_mem ip' t i = (xs_mem ip t i && !h i)) (m2 : ∀ i, i < 256 → xs_mem ip' (t + 1) i = (xs_mem ip t i && h i)) : lr_inv n K Q N (t + 2) po' dn' ip' rg' pa fl en ∧ lr_phi po' ip' (t + 2) < lr_phi po ip (t + 1) := by
  refine lr_top I hp hp12 low lowI lowR (fun w h1 h2 => ?_) (by omega) (fun i hi m => ?_) (fun i hi z => z) (fun i hi => ?_)
  · by_cases e : w = t
    · subst e; exact hw1
    · have e : w = t + 1 := by omega
      subst e; exact hw2
  · cases c : h i with
    | false => exact Or.inl ⟨t, by omega, by rw [m1 i hi, m, c]; rfl⟩
    | true => exact Or.inl ⟨t + 1, by omega, by rw [m2 i hi, m, c]; rfl⟩
  · rw [lr_in_s, lr_in_s]
    cases m : xs_mem ip t i with
    | false =>
      rw [lr_c_f (by rw [m1 i hi, m]; simp), lr_c_f (by rw [m2 i hi, m]; simp)]; omega
    | true =>
      cases c : h i with
      | false =>
        rw [lr_c_t hp1 (by omega) (by rw [m1 i hi, m, c]; rfl), lr_c_f (by rw [m2 i hi, m, c]; decide), if_pos rfl]; omega
      | true =>
        rw [lr_c_f (by rw [m1 i hi, m, c]; decide), lr_c_t hp2 (by omega) (by rw [m2 i hi, m, c]; rfl), if_pos rfl]; omega
end
/-! one step of calculation on linear forms -/
theorem lr_bd_v {n : Nat} {K Q : Nat → Nat} {N : Nat → Int32} (ok : pg_ok n K Q N) {p c : Nat} {x o v : Int32} (h : p < n) (hk : K p ≤ 3) (hx : pg_in (pg_bd p) x) (ho : pg_in (pg_bd p) o) (hv : K p = 0 ∨ K p = 3 → v = N p) : pg_in (pg_bd (p + 1)) (xf_v (K p) c x o v) := by
  obtain ⟨h12, hh⟩ := ok
  obtain ⟨_, _, h3, h4, _⟩ := hh p h
  have b := pg_bd_m (show p ≤ 11 by omega)
  have b2 := pg_bd_20 p
  rw [pg_bd_11] at b
  rw [pg_bd_s]
  unfold xf_v
  by_cases k0 : K p = 0
  · rw [if_pos k0]
    have := h3 k0
    by_cases c2 : c = 2
    · rw [if_pos c2, hv (Or.inl k0)]; unfold pg_in; omega
    · rw [if_neg c2]; unfold pg_in; rw [ar_0]; omega
  rw [if_neg k0]
  by_cases k3 : K p = 3
  · rw [if_pos k3, hv (Or.inr k3)]; exact pg_in_mul (by omega) hx (h4 k3).1 (h4 k3).2
  rw [if_neg k3]
  by_cases k1 : K p = 1
  · rw [if_pos k1]; exact pg_in_add (by omega) hx ho
  rw [if_neg k1]
  rw [← Int32.sub_eq_add_neg]
  exact pg_in_sub (by omega) hx ho
theorem lr_lin0 (n x y : Int32) : 0 * x + 0 * y + n = n := by grind
theorem lr_lin1 (a b c d e f x y : Int32) : (a + d) * x + (b + e) * y + (c + f) = (a * x + b * y + c) + (d * x + e * y + f) := by grind
theorem lr_lin2 (a b c d e f x y : Int32) : (a + -d) * x + (b + -e) * y + (c + -f) = (a * x + b * y + c) - (d * x + e * y + f) := by grind
theorem lr_lin3 (a b c n x y : Int32) : (a * n) * x + (b * n) * y + c * n = (a * x + b * y + c) * n := by grind
theorem lr_calc_ev {K Q : Nat → Nat} {N rg rg' : Nat → Int32} {w p : Nat} {v : Int32} (hk : K p ≤ 3) (hQ : Q p < 16) (hv : K p = 0 ∨ K p = 3 → v = N p) (h1 : ∀ c, c < 3 → rg' (w * 12 + 3 * (Q p % 4) + c) = xf_v (K p) c (rg (w * 12 + 3 * (Q p % 4) + c)) (rg (w * 12 + 3 * (Q p / 4) + c)) v) (h2 : ∀ j, j < w * 12 + 3 * (Q p % 4) ∨ w * 12 + 3 * (Q p % 4) + 3 ≤ j → rg' j = rg j) (i : Nat) : xs_ev rg' w i = upd (xs_ev rg w i) (Q p % 4) (pg_made K Q N p (xs_ev rg w i)) := by
  funext j
  by_cases e : j = Q p % 4
  · subst e
    rw [pk_us]
    have g0 := h1 0 (by omega)
    have g1 := h1 1 (by omega)
    have g2 := h1 2 (by omega)
    rw [Nat.add_zero, Nat.add_zero] at g0
    unfold pg_made xs_ev
    rw [if_pos (show Q p % 4 < 4 by omega), if_pos (show Q p / 4 < 4 by omega), g0, g1, g2, if_pos (show Q p % 4 < 4 by omega)]
    unfold xf_v
    by_cases k0 : K p = 0
    · rw [if_pos k0, if_pos k0, if_pos k0, if_pos k0, if_neg (by decide), if_neg (by decide), if_pos rfl, hv (Or.inl k0)]
      exact lr_lin0 _ _ _
    rw [if_neg k0, if_neg k0, if_neg k0, if_neg k0]
    by_cases k3 : K p = 3
    · rw [if_pos k3, if_pos k3, if_pos k3, if_neg (by omega), if_neg (by omega), if_pos k3, hv (Or.inr k3)]
      exact lr_lin3 _ _ _ _ _ _
    rw [if_neg k3, if_neg k3, if_neg k3]
    by_cases k1 : K p = 1
    · rw [if_pos k1, if_pos k1, if_pos k1, if_pos k1]
      exact lr_lin1 _ _ _ _ _ _ _ _
    rw [if_neg k1, if_neg k1, if_neg k1, if_neg k1, if_pos (by omega)]
    exact lr_lin2 _ _ _ _ _ _ _ _
  · rw [pk_un e]
    unfold xs_ev
    by_cases c : j < 4
    · rw [if_pos c, if_pos c, h2 _ (by omega), h2 _ (by omega), h2 _ (by omega)]
    · rw [if_neg c, if_neg c]
end
section
/-! part and check, from the invariant to the invariant -/
theorem xl_nb8 {p : Nat} (hp : p < 128) : vp_nar .byte (nI p).toInt8.toInt32 = nI p := by
  rw [pk_vb]; exact lg_i2b_small (by rw [nI_toInt (by omega)]; omega) (by rw [nI_toInt (by omega)]; omega)
section
variable {kn : Int32} {kd pr nb po dn ip rg ho pa fl en mk : Nat → Int32} {post : SX → Prop} {n : Nat} {K Q : Nat → Nat} {N : Nat → Int32}
theorem xl_part {t p d q a b : Nat} {e : Int32} (hpn : p < 12) (I : lr_inv n K Q N (t + 1) po dn ip rg pa fl en) (a1 : po t = nI p) (a3 : t ≤ p) (hd' : d ||| 2 ^ p < 4096) (a6 : lr_mk ip t) (a7 : lr_bd rg t p) (a8 : ∀ i, i < 256 → xs_mem ip t i = true → pg_F n K Q N p d (xs_ev rg t i) = pg_out n K Q N i) (a9 : ∃ i, i < 256 ∧ xs_mem ip t i = true) (ha : a < 4) (hb : b < 4) (hnb : nb p = nI q) (hq1 : p < q) (hq2 : q ≤ 12)
    (hF : ∀ i, i < 256 → ((if e = 0 then xs_ev rg t i a < xs_ev rg t i b else xs_ev rg t i a = xs_ev rg t i b) → pg_F n K Q N p d (xs_ev rg t i) = pg_F n K Q N q (d ||| 2 ^ p) (xs_ev rg t i)) ∧ (¬ (if e = 0 then xs_ev rg t i a < xs_ev rg t i b else xs_ev rg t i a = xs_ev rg t i b) → pg_F n K Q N p d (xs_ev rg t i) = pg_F n K Q N (p + 1) (d ||| 2 ^ p) (xs_ev rg t i)))
    (h : ∀ (m' : Nat) (po' dn' ip' rg' ho' : Nat → Int32), lr_inv n K Q N m' po' dn' ip' rg' pa fl en → lr_phi po' ip' m' < lr_phi po ip (t + 1) → post (nI n, nI m', kn, kd, pr, nb, po', dn', ip', rg', ho', pa, fl, en, mk)) :
    wpX_part post (nI n, nI (t + 1), kn, kd, pr, nb, upd po t (nI (p + 1)), upd dn t (nI (d ||| 2 ^ p)), ip, rg, ho, pa, fl, en, mk) (nI t) (nI p) (nI a) (nI b) e := by
  have et : (nI (t + 1)).toNatClampNeg = t + 1 := nI_clamp (by omega)
  have ep : (nI p).toNatClampNeg = p := nI_clamp (by omega)
  unfold wpX_part
  dsimp only
  rw [nI_1 t]
  refine xs_solve (by omega) ha hb (lr_bd_M a7 (by omega)) (fun ho' hH => ?_)
  dsimp only
  refine xc_copy (f := t) (t := t + 1) (p := p + 1) (d := d ||| 2 ^ p) (by omega) (by omega) (by omega) pk_us (by omega) pk_us hd' (fun ip2 rg2 c1 c2 => ?_)
  dsimp only
  refine ⟨vp_in_nI hpn (by decide), vp_in_nI (by omega) (by decide), nm_r (e' := upd (upd (upd po t (nI (p + 1))) (t + 1) (nI (p + 1))) (t + 1) (nI q)) (by rw [et, ep, hnb, xc_nb (by omega)]) ?_⟩
  refine xc_keep (w := t + 1) (c := 1) (by omega) (fun r1 ip3 k1 _ z1 => ?_)
  dsimp only
  refine xc_keep (w := t) (c := 0) (by omega) (fun r2 ip4 k2 _ z2 => ?_)
  dsimp only
  -- the views
  have m2t : ∀ i, xs_mem ip2 t i = xs_mem ip t i := lr_mem_eq (lr_cp_o c1 (by omega))
  have m2s : ∀ i, xs_mem ip2 (t + 1) i = xs_mem ip t i := lr_mem_eq c1.1
  have v2t : ∀ i, xs_ev rg2 t i = xs_ev rg t i := lr_ev_eq (lr_cp_o c2 (by omega))
  have v2s : ∀ i, xs_ev rg2 (t + 1) i = xs_ev rg t i := lr_ev_eq c2.1
  have M3s : lr_mk ip3 (t + 1) := lr_kp_mk k1 (lr_mk_eq c1.1 a6)
  have M4s : lr_mk ip4 (t + 1) := lr_mk_eq (lr_kp_o k2 (by omega)) M3s
  have M4t : lr_mk ip4 t := lr_kp_mk k2 (lr_mk_eq (lr_kp_o k1 (by omega)) (lr_mk_eq (lr_cp_o c1 (by omega)) a6))
  have m3s : ∀ i, xs_mem ip3 (t + 1) i = (xs_mem ip t i && bt (ho' (i % 16)) (i / 16)) := fun i => by rw [lr_kp_1 k1, m2s]
  have m4s : ∀ i, xs_mem ip4 (t + 1) i = (xs_mem ip t i && bt (ho' (i % 16)) (i / 16)) := fun i => by rw [lr_mem_eq (lr_kp_o k2 (by omega)), m3s]
  have m4t : ∀ i, i < 256 → xs_mem ip4 t i = (xs_mem ip t i && !bt (ho' (i % 16)) (i / 16)) := fun i hi => by rw [lr_kp_0 k2 hi, lr_mem_eq (lr_kp_o k1 (by omega)), m2t]
  have B2t : lr_bd rg2 t p := lr_bd_eq (lr_cp_o c2 (by omega)) a7
  have B2s : lr_bd rg2 (t + 1) p := lr_bd_eq c2.1 a7
  have lowI : ∀ j, j < t * 16 → ip4 j = ip j := fun j hj => by rw [k2.2 j (by omega), k1.2 j (by omega), c1.2 j (by omega)]
  have lowR : ∀ j, j < t * 12 → rg2 j = rg j := fun j hj => c2.2 j (by omega)
  -- what comes out, for those that jump and those that don't
  have FJ : ∀ i, i < 256 → xs_mem ip t i = true → bt (ho' (i % 16)) (i / 16) = true → pg_F n K Q N q (d ||| 2 ^ p) (xs_ev rg t i) = pg_out n K Q N i := fun i hi m g => by
    rw [← (hF i hi).1 ((hH i hi).mp g)]; exact a8 i hi m
  have FS : ∀ i, i < 256 → xs_mem ip t i = true → bt (ho' (i % 16)) (i / 16) = false → pg_F n K Q N (p + 1) (d ||| 2 ^ p) (xs_ev rg t i) = pg_out n K Q N i := fun i hi m g => by
    rw [← (hF i hi).2 (fun z => by rw [(hH i hi).mpr z] at g; exact absurd g (by decide))]; exact a8 i hi m
  have FJ4 : ∀ i, i < 256 → xs_mem ip4 (t + 1) i = true → pg_F n K Q N q (d ||| 2 ^ p) (xs_ev rg t i) = pg_out n K Q N i := fun i hi m => by
    rw [m4s, Bool.and_eq_true] at m
    exact FJ i hi m.1 m.2
  have FS4 : ∀ i, i < 256 → xs_mem ip4 t i = true → pg_F n K Q N (p + 1) (d ||| 2 ^ p) (xs_ev rg t i) = pg_out n K Q N i := fun i hi m => by
    rw [m4t i hi, Bool.and_eq_true, Bool.not_eq_true'] at m
    exact FS i hi m.1 m.2
  have pt : upd (upd (upd po t (nI (p + 1))) (t + 1) (nI (p + 1))) (t + 1) (nI q) t = nI (p + 1) := by
    rw [pk_un (by omega), pk_un (by omega), pk_us]
  have dt : upd (upd dn t (nI (d ||| 2 ^ p))) (t + 1) (nI (d ||| 2 ^ p)) t = nI (d ||| 2 ^ p) := by
    rw [pk_un (by omega), pk_us]
  have low : ∀ w, w < t → upd (upd (upd po t (nI (p + 1))) (t + 1) (nI (p + 1))) (t + 1) (nI q) w = po w ∧ upd (upd dn t (nI (d ||| 2 ^ p))) (t + 1) (nI (d ||| 2 ^ p)) w = dn w := fun w hw => by
    rw [pk_un (by omega), pk_un (by omega), pk_un (by omega), pk_un (by omega), pk_un (by omega)]
    exact ⟨rfl, rfl⟩
  refine br_c (fun g2 => ?_) (fun g2 => ?_)
  · -- all jump
    have n4 := (lr_none M4t).mp (z2.mp g2)
    have hJ : ∀ i, i < 256 → xs_mem ip t i = true → bt (ho' (i % 16)) (i / 16) = true := fun i hi m => by
      have := n4 i hi
      rw [m4t i hi, m] at this
      cases c : bt (ho' (i % 16)) (i / 16) with
      | true => rfl
      | false => rw [c] at this; exact absurd this (by decide)
    refine xc_copy (f := t + 1) (t := t) (p := q) (d := d ||| 2 ^ p) (by omega) (by omega) (by omega) pk_us (by omega) pk_us hd' (fun ip5 rg5 c3 c4 => ?_)
    dsimp only
    have m5 : ∀ i, xs_mem ip5 t i = (xs_mem ip t i && bt (ho' (i % 16)) (i / 16)) := fun i => by rw [lr_mem_eq c3.1, m4s]
    obtain ⟨i0, hi0, m0⟩ := a9
    have R := lr_one (po' := upd (upd (upd (upd po t (nI (p + 1))) (t + 1) (nI (p + 1))) (t + 1) (nI q)) t (nI q)) (dn' := upd (upd (upd dn t (nI (d ||| 2 ^ p))) (t + 1) (nI (d ||| 2 ^ p))) t (nI (d ||| 2 ^ p))) (ip' := ip5) (rg' := rg5) (pa' := pa) (fl' := fl) (en' := en) (p' := q) I a1 (by omega) (fun w hw => by rw [pk_un (show w ≠ t by omega), pk_un (show w ≠ t by omega)]; exact low w hw) (fun j hj => by rw [c3.2 j (by omega)]; exact lowI j hj) (fun j hj => by rw [c4.2 j (by omega)]; exact lowR j hj)
      ⟨q, d ||| 2 ^ p, pk_us, pk_us, by omega, hq2, hd', lr_mk_eq c3.1 M4s, lr_bd_m (lr_bd_eq c4.1 B2s) (by omega), fun i hi m => by rw [lr_ev_eq c4.1, v2s]; exact FJ4 i hi (by rw [← lr_mem_eq c3.1]; exact m), i0, hi0, by rw [m5, m0, hJ i0 hi0 m0]; rfl⟩
      pk_us hq1 hq2 (fun i hi m => by rw [m5, Bool.and_eq_true] at m; exact m.1) (fun i hi m => Or.inl (by rw [m5, m, hJ i hi m]; rfl)) (fun i hi z => z)
    exact h _ _ _ _ _ _ R.1 R.2
  · have WA : lr_way n K Q N (upd (upd (upd po t (nI (p + 1))) (t + 1) (nI (p + 1))) (t + 1) (nI q)) (upd (upd dn t (nI (d ||| 2 ^ p))) (t + 1) (nI (d ||| 2 ^ p))) ip4 rg2 t :=
      ⟨p + 1, d ||| 2 ^ p, pt, dt, by omega, by omega, hd', M4t, lr_bd_m B2t (by omega), fun i hi m => by rw [v2t]; exact FS4 i hi m, lr_some M4t (fun z => g2 (z2.mpr z))⟩
    refine br_c (fun g1 => ?_) (fun g1 => ?_)
    · -- none jumps
      have n3 := (lr_none M3s).mp (z1.mp g1)
      have R := lr_one (pa' := pa) (fl' := fl) (en' := en) (p' := p + 1) I a1 (by omega) low lowI lowR WA pt (by omega) (by omega) (fun i hi m => by rw [m4t i hi, Bool.and_eq_true] at m; exact m.1) (fun i hi m => Or.inl (by
        have := n3 i hi
        rw [m3s, m, Bool.true_and] at this
        rw [m4t i hi, m, this]; rfl)) (fun i hi z => z)
      exact h _ _ _ _ _ _ R.1 R.2
    · have WB : lr_way n K Q N (upd (upd (upd po t (nI (p + 1))) (t + 1) (nI (p + 1))) (t + 1) (nI q)) (upd (upd dn t (nI (d ||| 2 ^ p))) (t + 1) (nI (d ||| 2 ^ p))) ip4 rg2 (t + 1) := by
        obtain ⟨i1, hi1, e1⟩ := lr_some M3s (fun z => g1 (z1.mpr z))
        exact ⟨q, d ||| 2 ^ p, pk_us, pk_us, by omega, hq2, hd', M4s, lr_bd_m B2s (by omega), fun i hi m => by rw [v2s]; exact FJ4 i hi m, i1, hi1, by rw [m4s, ← m3s]; exact e1⟩
      have R := lr_two (p1 := p + 1) (p2 := q) I a1 (by omega) low lowI lowR WA WB pt pk_us (by omega) hq1 (by omega) hq2 (fun i => bt (ho' (i % 16)) (i / 16)) (fun i hi => m4t i hi) (fun i _ => m4s i)
      refine nm_r (nI_1 (t + 1)) (h _ _ _ _ _ _ R.1 R.2)
theorem xl_check {t p d a b : Nat} (hpn : p < 12) (I : lr_inv n K Q N (t + 1) po dn ip rg pa fl en) (a1 : po t = nI p) (a3 : t ≤ p) (hd' : d ||| 2 ^ p < 4096) (a6 : lr_mk ip t) (a7 : lr_bd rg t p) (a8 : ∀ i, i < 256 → xs_mem ip t i = true → pg_F n K Q N p d (xs_ev rg t i) = pg_out n K Q N i) (ha : a < 4) (hb : b < 4)
    (hF : ∀ i, i < 256 → (xs_ev rg t i b < xs_ev rg t i a → pg_F n K Q N p d (xs_ev rg t i) = (d ||| 2 ^ p, 1, xs_ev rg t i)) ∧ (¬ xs_ev rg t i b < xs_ev rg t i a → pg_F n K Q N p d (xs_ev rg t i) = pg_F n K Q N (p + 1) (d ||| 2 ^ p) (xs_ev rg t i)))
    (h : ∀ (m' : Nat) (po' dn' ip' rg' ho' pa' fl' en' : Nat → Int32), lr_inv n K Q N m' po' dn' ip' rg' pa' fl' en' → lr_phi po' ip' m' < lr_phi po ip (t + 1) → post (nI n, nI m', kn, kd, pr, nb, po', dn', ip', rg', ho', pa', fl', en', mk)) :
    wpX_check post (nI n, nI (t + 1), kn, kd, pr, nb, upd po t (nI (p + 1)), upd dn t (nI (d ||| 2 ^ p)), ip, rg, ho, pa, fl, en, mk) (nI t) (nI a) (nI b) := by
  unfold wpX_check
  dsimp only
  rw [nI_1 t]
  refine xs_solve (by omega) hb ha (lr_bd_M a7 (by omega)) (fun ho' hH => ?_)
  dsimp only
  refine xc_copy (f := t) (t := t + 1) (p := p + 1) (d := d ||| 2 ^ p) (by omega) (by omega) (by omega) pk_us (by omega) pk_us hd' (fun ip2 rg2 c1 c2 => ?_)
  dsimp only
  refine xc_keep (w := t + 1) (c := 1) (by omega) (fun r1 ip3 k1 _ z1 => ?_)
  dsimp only
  have m2t : ∀ i, xs_mem ip2 t i = xs_mem ip t i := lr_mem_eq (lr_cp_o c1 (by omega))
  have m2s : ∀ i, xs_mem ip2 (t + 1) i = xs_mem ip t i := lr_mem_eq c1.1
  have v2t : ∀ i, xs_ev rg2 t i = xs_ev rg t i := lr_ev_eq (lr_cp_o c2 (by omega))
  have v2s : ∀ i, xs_ev rg2 (t + 1) i = xs_ev rg t i := lr_ev_eq c2.1
  have M3s : lr_mk ip3 (t + 1) := lr_kp_mk k1 (lr_mk_eq c1.1 a6)
  have M3t : lr_mk ip3 t := lr_mk_eq (lr_kp_o k1 (by omega)) (lr_mk_eq (lr_cp_o c1 (by omega)) a6)
  have m3s : ∀ i, xs_mem ip3 (t + 1) i = (xs_mem ip t i && bt (ho' (i % 16)) (i / 16)) := fun i => by rw [lr_kp_1 k1, m2s]
  have m3t : ∀ i, xs_mem ip3 t i = xs_mem ip t i := fun i => by rw [lr_mem_eq (lr_kp_o k1 (by omega)), m2t]
  have B2t : lr_bd rg2 t p := lr_bd_eq (lr_cp_o c2 (by omega)) a7
  have hH2 : ∀ i, i < 256 → (bt (ho' (i % 16)) (i / 16) = true ↔ xs_ev rg t i b < xs_ev rg t i a) := fun i hi => by
    have := hH i hi
    rw [if_pos rfl] at this
    exact this
  have pt : upd (upd po t (nI (p + 1))) (t + 1) (nI (p + 1)) t = nI (p + 1) := by
    rw [pk_un (by omega), pk_us]
  have dt : upd (upd dn t (nI (d ||| 2 ^ p))) (t + 1) (nI (d ||| 2 ^ p)) t = nI (d ||| 2 ^ p) := by
    rw [pk_un (by omega), pk_us]
  have low : ∀ w, w < t → upd (upd po t (nI (p + 1))) (t + 1) (nI (p + 1)) w = po w ∧ upd (upd dn t (nI (d ||| 2 ^ p))) (t + 1) (nI (d ||| 2 ^ p)) w = dn w := fun w hw => by
    rw [pk_un (by omega), pk_un (by omega), pk_un (by omega), pk_un (by omega)]
    exact ⟨rfl, rfl⟩
  have lowR : ∀ j, j < t * 12 → rg2 j = rg j := fun j hj => c2.2 j (by omega)
  have H35 : ∀ pa' fl' en' : Nat → Int32, (∀ i, i < 256 → xs_mem ip t i = true → bt (ho' (i % 16)) (i / 16) = true → pg_at n K Q N i pa' fl' en') → (∀ i, i < 256 → pg_at n K Q N i pa fl en → pg_at n K Q N i pa' fl' en') → wX_check_35 post (nI t) (nI n) (nI (t + 1)) kn kd pr nb (upd (upd po t (nI (p + 1))) (t + 1) (nI (p + 1))) (upd (upd dn t (nI (d ||| 2 ^ p))) (t + 1) (nI (d ||| 2 ^ p))) ip3 rg2 ho' pa' fl' en' mk := by
    intro pa' fl' en' A B
    refine xc_keep (w := t) (c := 0) (by omega) (fun r2 ip4 k2 _ z2 => ?_)
    dsimp only
    have M4t : lr_mk ip4 t := lr_kp_mk k2 M3t
    have m4t : ∀ i, i < 256 → xs_mem ip4 t i = (xs_mem ip t i && !bt (ho' (i % 16)) (i / 16)) := fun i hi => by rw [lr_kp_0 k2 hi, m3t]
    have lowI : ∀ j, j < t * 16 → ip4 j = ip j := fun j hj => by rw [k2.2 j (by omega), k1.2 j (by omega), c1.2 j (by omega)]
    refine br_c (fun g2 => ?_) (fun g2 => ?_)
    · have n4 := (lr_none M4t).mp (z2.mp g2)
      have R := lr_top (m' := t) (po' := upd (upd po t (nI (p + 1))) (t + 1) (nI (p + 1))) (dn' := upd (upd dn t (nI (d ||| 2 ^ p))) (t + 1) (nI (d ||| 2 ^ p))) (pa' := pa') (fl' := fl') (en' := en') I a1 (by omega) low lowI lowR (fun w h1 h2 => by omega) (by omega) (fun i hi m => Or.inr (A i hi m (by
        have := n4 i hi
        rw [m4t i hi, m] at this
        cases c : bt (ho' (i % 16)) (i / 16) with
        | true => rfl
        | false => rw [c] at this; exact absurd this (by decide)))) B (fun i hi => by omega)
      exact nm_r (nI_pred t) (h _ _ _ _ _ _ _ _ _ R.1 R.2)
    · have WA : lr_way n K Q N (upd (upd po t (nI (p + 1))) (t + 1) (nI (p + 1))) (upd (upd dn t (nI (d ||| 2 ^ p))) (t + 1) (nI (d ||| 2 ^ p))) ip4 rg2 t :=
        ⟨p + 1, d ||| 2 ^ p, pt, dt, by omega, by omega, hd', M4t, lr_bd_m B2t (by omega), fun i hi m => by
          rw [m4t i hi, Bool.and_eq_true, Bool.not_eq_true'] at m
          rw [v2t, ← (hF i hi).2 (fun z => by rw [(hH2 i hi).mpr z] at m; exact absurd m.2 (by decide))]
          exact a8 i hi m.1, lr_some M4t (fun z => g2 (z2.mpr z))⟩
      have R := lr_one (pa' := pa') (fl' := fl') (en' := en') (p' := p + 1) I a1 (by omega) low lowI lowR WA pt (by omega) (by omega) (fun i hi m => by rw [m4t i hi, Bool.and_eq_true] at m; exact m.1) (fun i hi m => by
        cases c : bt (ho' (i % 16)) (i / 16) with
        | true => exact Or.inr (A i hi m c)
        | false => exact Or.inl (by rw [m4t i hi, m, c]; rfl)) B
      exact h _ _ _ _ _ _ _ _ _ R.1 R.2
  refine br_c (fun g1 => ?_) (fun g1 => ?_)
  · have n3 := (lr_none M3s).mp (z1.mp g1)
    refine H35 pa fl en (fun i hi m c => ?_) (fun i hi z => z)
    have := n3 i hi
    rw [m3s, m, c] at this
    exact absurd this (by decide)
  · refine xf_finish (w := t + 1) (d := d ||| 2 ^ p) (by omega) (Or.inr rfl) pk_us hd' (fun pa' fl' en' q => ?_)
    obtain ⟨A, B⟩ := lr_fin (n := n) (K := K) (Q := Q) (N := N) q pk_us (fun i hi m => by
      rw [m3s, Bool.and_eq_true] at m
      rw [v2s, ← a8 i hi m.1]
      exact (hF i hi).1 ((hH2 i hi).mp m.2))
    exact H35 pa' fl' en' (fun i hi m c => A i hi (by rw [m3s, m, c]; rfl)) B
end
end
section
/-! follow and learn -/
section
variable {kn : Int32} {kd pr nb po dn ip rg ho pa fl en mk : Nat → Int32} {post : SX → Prop} {n : Nat} {K Q : Nat → Nat} {N : Nat → Int32}
theorem xl_follow {t p d : Nat} (ok : pg_ok n K Q N) (hX : pg_X n K Q N kd pr nb) (hpn : p < n) (I : lr_inv n K Q N (t + 1) po dn ip rg pa fl en) (a1 : po t = nI p) (a2 : dn t = nI d) (a3 : t ≤ p) (a5 : d < 4096) (a6 : lr_mk ip t) (a7 : lr_bd rg t p) (a8 : ∀ i, i < 256 → xs_mem ip t i = true → pg_F n K Q N p d (xs_ev rg t i) = pg_out n K Q N i) (a9 : ∃ i, i < 256 ∧ xs_mem ip t i = true)
    (h : ∀ (m' : Nat) (po' dn' ip' rg' ho' pa' fl' en' : Nat → Int32), lr_inv n K Q N m' po' dn' ip' rg' pa' fl' en' → lr_phi po' ip' m' < lr_phi po ip (t + 1) → post (nI n, nI m', kn, kd, pr, nb, po', dn', ip', rg', ho', pa', fl', en', mk)) :
    wpX_follow post (nI n, nI (t + 1), kn, kd, pr, nb, po, dn, ip, rg, ho, pa, fl, en, mk) (nI t) := by
  have h12 := ok.1
  obtain ⟨x1, x2, x3⟩ := hX p hpn
  obtain ⟨o1, o2, _, _, o5⟩ := ok.2 p hpn
  have et : (nI t).toNatClampNeg = t := nI_clamp (by omega)
  have ep : (nI p).toNatClampNeg = p := nI_clamp (by omega)
  have hd' : d ||| 2 ^ p < 4096 := pg_or_lt a5 (by omega)
  have low : ∀ (q : Nat) (w : Nat), w < t → upd po t (nI q) w = po w ∧ upd dn t (nI (d ||| 2 ^ p)) w = dn w := fun q w hw => by
    rw [pk_un (by omega), pk_un (by omega)]; exact ⟨rfl, rfl⟩
  refine ⟨vp_in_nI (by omega) (by decide), nm_r (e' := nI p) (by rw [et, a1]) ⟨vp_in_nI (by omega) (by decide), nm_r (e' := nI (K p)) (by rw [ep, x1]) ⟨vp_in_nI (by omega) (by decide), nm_r (e' := nI (Q p % 4)) (by rw [ep, x2]; exact pk_andN (by omega) 2 (by decide)) ⟨vp_in_nI (by omega) (by decide), nm_r (e' := nI (Q p / 4)) (by rw [ep, x2]; exact pk_shrN (by omega) _ 2 (by decide)) ⟨vp_in_nI (by omega) (by decide), vp_in_nI (by omega) (by decide), nm_r (e' := upd dn t (nI (d ||| 2 ^ p))) (by rw [et, a2, pg_orI (by omega), xc_ns hd', xc_nsh hd']) ?_⟩⟩⟩⟩⟩
  refine pk_eq (K p) 6 (fun k6 => ⟨vp_in_nI (by omega) (by decide), ?_⟩) (fun k6 => ?_)
  · obtain ⟨j1, j2, j3⟩ := o5 (by omega) (by omega)
    have j4 := x3 (Or.inr (by omega))
    rw [ep, j4]
    unfold wX_follow_74
    refine ⟨vp_in_nI (by omega) (by decide), nm_r (e' := upd po t (nI (N p).toNatClampNeg)) (by rw [et, j1, nI_clamp (by omega), xl_nb8 (by omega)]) ?_⟩
    refine pk_lt 3 (K p) (fun _ => ?_) (fun z => by omega)
    refine pk_eq (K p) 7 (fun z => by omega) (fun _ => ?_)
    refine pk_eq (K p) 6 (fun _ => ?_) (fun z => absurd k6 z)
    have R := lr_one (po' := upd po t (nI (N p).toNatClampNeg)) (dn' := upd dn t (nI (d ||| 2 ^ p))) (ip' := ip) (rg' := rg) (pa' := pa) (fl' := fl) (en' := en) (p' := (N p).toNatClampNeg) I a1 (by omega) (low _) (fun j hj => rfl) (fun j hj => rfl)
      ⟨(N p).toNatClampNeg, d ||| 2 ^ p, pk_us, pk_us, by omega, j3, hd', a6, lr_bd_m a7 (by omega), fun i hi m => by rw [← pg_F_jump ok hpn k6]; exact a8 i hi m, a9⟩ pk_us j2 j3 (fun i hi m => m) (fun i hi m => Or.inl m) (fun i hi z => z)
    exact h _ _ _ _ _ _ _ _ _ R.1 R.2
  · unfold wX_follow_74
    refine ⟨vp_in_nI (by omega) (by decide), nm_r (e' := upd po t (nI (p + 1))) (by rw [et, nI_1 p, xl_nb8 (by omega)]) ?_⟩
    rw [ep]
    refine pk_lt 3 (K p) (fun k3 => ?_) (fun k3 => ⟨vp_in_nI (by omega) (by decide), ?_⟩)
    · refine pk_eq (K p) 7 (fun k7 => ?_) (fun k7 => ?_)
      · refine xl_check (n := n) (K := K) (Q := Q) (N := N) (by omega) I a1 a3 hd' a6 a7 a8 (by omega) (by omega) (fun i hi => ⟨fun c => pg_F_check1 hpn k7 c, fun c => pg_F_check0 ok hpn k7 c⟩) ?_
        exact h
      · refine pk_eq (K p) 6 (fun z => absurd z k6) (fun _ => ?_)
        obtain ⟨j1, j2, j3⟩ := o5 (by omega) (by omega)
        have j4 := x3 (Or.inr (by omega))
        rw [j1] at j4
        refine pk_eq (K p) 5 (fun k5 => ?_) (fun k5 => ?_)
        · refine xl_part (n := n) (K := K) (Q := Q) (N := N) (by omega) I a1 a3 hd' a6 a7 a8 a9 (by omega) (by omega) j4 j2 j3 (fun i hi => ?_) ?_
          · rw [if_neg (by decide), pg_F_equal ok hpn k5]
            exact ⟨fun c => by rw [if_pos c], fun c => by rw [if_neg c]⟩
          · intro m' po' dn' ip' rg' ho' r1 r2
            exact h _ _ _ _ _ _ _ _ _ r1 r2
        · refine xl_part (n := n) (K := K) (Q := Q) (N := N) (by omega) I a1 a3 hd' a6 a7 a8 a9 (by omega) (by omega) j4 j2 j3 (fun i hi => ?_) ?_
          · rw [if_pos rfl, pg_F_less ok hpn (by omega)]
            exact ⟨fun c => by rw [if_pos c], fun c => by rw [if_neg c]⟩
          · intro m' po' dn' ip' rg' ho' r1 r2
            exact h _ _ _ _ _ _ _ _ _ r1 r2
    · have hv : K p = 0 ∨ K p = 3 → nb p = N p := fun z => x3 (by omega)
      refine xf_calc (by omega) (by omega) (by omega) (by omega) (fun rg' g1 g2 => ?_)
      have B : lr_bd rg' t (p + 1) := by
        intro j hj
        by_cases c : j < 3 * (Q p % 4) ∨ 3 * (Q p % 4) + 3 ≤ j
        · rw [g2 _ (by omega)]; exact pg_in_m (a7 j hj) (pg_bd_m (by omega))
        · obtain ⟨c', rfl, hc⟩ : ∃ c', j = 3 * (Q p % 4) + c' ∧ c' < 3 := ⟨j - 3 * (Q p % 4), by omega, by omega⟩
          rw [← Nat.add_assoc, g1 c' hc]
          refine lr_bd_v ok hpn (by omega) ?_ ?_ hv
          · rw [Nat.add_assoc]; exact a7 _ hj
          · rw [Nat.add_assoc]; exact a7 _ (by omega)
      have R := lr_one (po' := upd po t (nI (p + 1))) (dn' := upd dn t (nI (d ||| 2 ^ p))) (ip' := ip) (rg' := rg') (pa' := pa) (fl' := fl) (en' := en) (p' := p + 1) I a1 (by omega) (low _) (fun j hj => rfl) (fun j hj => g2 j (by omega))
        ⟨p + 1, d ||| 2 ^ p, pk_us, pk_us, by omega, by omega, hd', a6, B, fun i hi m => by rw [lr_calc_ev (N := N) (by omega) o2 hv g1 g2, ← pg_F_calc ok hpn (by omega)]; exact a8 i hi m, a9⟩ pk_us (by omega) (by omega) (fun i hi m => m) (fun i hi m => Or.inl m) (fun i hi z => z)
      exact h _ _ _ _ _ _ _ _ _ R.1 R.2
end
section
variable {kn : Int32} {kd pr nb mk : Nat → Int32} {post : SX → Prop} {n : Nat} {K Q : Nat → Nat} {N : Nat → Int32}
theorem xl_91 (ok : pg_ok n K Q N) (hX : pg_X n K Q N kd pr nb) (h : ∀ (wy : Int32) (po dn ip rg ho pa fl en : Nat → Int32), pg_rec n K Q N pa fl en → post (nI n, wy, kn, kd, pr, nb, po, dn, ip, rg, ho, pa, fl, en, mk)) : ∀ (f x1 m : Nat) (po dn ip rg ho pa fl en : Nat → Int32), lr_inv n K Q N m po dn ip rg pa fl en → lr_phi po ip m < f → x1 + lr_phi po ip m ≤ 3328 → wX_learn_91 post f (nI x1) (nI n) (nI m) kn kd pr nb po dn ip rg ho pa fl en mk := by
  intro f
  induction f with
  | zero => intro x1 m po dn ip rg ho pa fl en _ hf; omega
  | succ f ih =>
    intro x1 m po dn ip rg ho pa fl en I hf hx
    refine br_f (nI_ge (b := 3584) (by omega) (by decide)) ?_
    cases m with
    | zero =>
      refine br_t (nI_le (a := 0) (b := 0) (by omega) (by decide)) (h _ _ _ _ _ _ _ _ _ (fun i hi => ?_))
      rcases I.2 i hi with ⟨w, hw, _⟩ | z
      · omega
      · exact z
    | succ t =>
      obtain ⟨p, d, a1, a2, a3, a4, a5, a6, a7, a8, a9⟩ := I.1 t (by omega)
      have et : (nI t).toNatClampNeg = t := nI_clamp (by omega)
      refine br_f (nI_nle (by omega) (by omega)) (nm_r (nI_pred t) ⟨vp_in_nI (by omega) (by decide), ?_⟩)
      rw [et, a1]
      have h12 := ok.1
      refine pk_lt p n (fun g => ?_) (fun g => ?_)
      · refine xl_follow ok hX g I a1 a2 a3 a5 a6 a7 a8 a9 (fun m' po' dn' ip' rg' ho' pa' fl' en' I' hl => ?_)
        exact nm_r (nI_1 x1) (ih _ _ _ _ _ _ _ _ _ _ I' (by omega) (by omega))
      · refine xf_finish (by omega) (Or.inl rfl) a2 a5 (fun pa' fl' en' q => ?_)
        obtain ⟨A, B⟩ := lr_fin (n := n) (K := K) (Q := Q) (N := N) q a2 (fun i hi m => by rw [← a8 i hi m]; exact pg_F_end g)
        have R := lr_top (m' := t) (po' := po) (dn' := dn) (ip' := ip) (rg' := rg) (pa' := pa') (fl' := fl') (en' := en') I a1 a4 (fun w _ => ⟨rfl, rfl⟩) (fun j _ => rfl) (fun j _ => rfl) (fun w h1 h2 => by omega) (by omega) (fun i hi m => Or.inr (A i hi m)) B (fun i hi => by omega)
        exact nm_r (nI_pred t) (nm_r (nI_1 x1) (ih _ _ _ _ _ _ _ _ _ _ R.1 (by omega) (by omega)))
theorem xl_1 (x y : Int32) : 1 * x + 0 * y + 0 = x := by grind
theorem xl_2 (x y : Int32) : 0 * x + 1 * y + 0 = y := by grind
theorem xl_ev0 {rg : Nat → Int32} (hr : ∀ j, j < 12 → rg j = if j = 0 ∨ j = 4 then 1 else 0) (i : Nat) : xs_ev rg 0 i = pg_init i := by
  funext j
  unfold xs_ev pg_init
  by_cases c : j < 4
  · rw [if_pos c, Nat.zero_mul, Nat.zero_add, hr _ (by omega), hr _ (by omega), hr _ (by omega)]
    by_cases j0 : j = 0
    · subst j0
      rw [if_pos rfl, if_pos (by omega), if_neg (by omega), if_neg (by omega)]
      exact xl_1 _ _
    rw [if_neg j0]
    by_cases j1 : j = 1
    · subst j1
      rw [if_pos rfl, if_neg (by omega), if_pos (by omega), if_neg (by omega)]
      exact xl_2 _ _
    rw [if_neg j1, if_neg (by omega), if_neg (by omega), if_neg (by omega)]
    exact lr_lin0 _ _ _
  · rw [if_neg c, if_neg (by omega), if_neg (by omega)]
theorem xl_inv0 {po dn ip rg pa fl en : Nat → Int32} (hr : ∀ j, j < 12 → rg j = if j = 0 ∨ j = 4 then 1 else 0) (hi : ∀ x, x < 16 → ip x = 65535) (hp : po 0 = nI 0) (hd : dn 0 = nI 0) : lr_inv n K Q N 1 po dn ip rg pa fl en ∧ lr_phi po ip 1 ≤ 3328 := by
  have M : ∀ i, i < 256 → xs_mem ip 0 i = true := by
    intro i h
    unfold xs_mem
    rw [Nat.zero_mul, Nat.zero_add, hi _ (by omega), b_65535, decide_eq_true_iff]; omega
  refine ⟨⟨fun w hw => ?_, fun i h => Or.inl ⟨0, by omega, M i h⟩⟩, ?_⟩
  · have e : w = 0 := by omega
    subst e
    refine ⟨0, 0, hp, hd, by omega, by omega, by omega, fun x hx => ?_, fun j hj => ?_, fun i h m => ?_, 0, by omega, M 0 (by omega)⟩
    · rw [Nat.zero_mul, Nat.zero_add, hi x hx]; decide
    · rw [Nat.zero_mul, Nat.zero_add, hr j hj, show pg_bd 0 = 20 by decide]
      by_cases c : j = 0 ∨ j = 4
      · rw [if_pos c]; unfold pg_in; rw [ar_1]; omega
      · rw [if_neg c]; unfold pg_in; rw [ar_0]; omega
    · rw [xl_ev0 hr]; rfl
  · refine Nat.le_trans (lr_sum_b (c := 13) 256 (fun i h => ?_)) (by decide)
    rw [lr_in_s, lr_c_t hp (by omega) (M i h)]
    show 0 + (13 - 0) ≤ 13
    omega
theorem xl_learn (ok : pg_ok n K Q N) (hX : pg_X n K Q N kd pr nb) {wy : Int32} {po dn ip rg ho pa fl en : Nat → Int32} (hk : kn = 0 ∨ (kn = 1 ∧ pg_rec n K Q N pa fl en)) (h : ∀ (wy : Int32) (po dn ip rg ho pa fl en : Nat → Int32), pg_rec n K Q N pa fl en → post (nI n, wy, 1, kd, pr, nb, po, dn, ip, rg, ho, pa, fl, en, mk)) : wpX_learn post (nI n, wy, kn, kd, pr, nb, po, dn, ip, rg, ho, pa, fl, en, mk) := by
  rcases hk with rfl | ⟨rfl, hk⟩
  · refine br_t rfl ?_
    refine loop_0 (fun m i (s : Nat → Int32) => wX_learn_15 post (nI n) wy 1 m (nI i) kd pr nb po dn ip s ho pa fl en mk) (fun i s => ∀ j, j < i → s j = 0) 12 rg (fun j hj => by omega) (fun m s hs => br_t (nI_le (a := 12) (b := 12) (by omega) (by decide)) ?_) (fun m i s hi hs ih => ?_)
    · refine nm_e (nm_e ?_)
      refine loop_0 (fun m i (s2 : Nat → Int32) => wX_learn_50 post (nI n) wy 1 m (nI i) kd pr nb po dn s2 (upd (upd s 0 1) 4 1) ho pa fl en mk) (fun i s2 => ∀ j, j < i → s2 j = 65535) 16 ip (fun j hj => by omega) (fun m s2 hs2 => br_t (nI_le (a := 16) (b := 16) (by omega) (by decide)) ?_) (fun m i s2 hi hs2 ih => ?_)
      · refine nm_r (e' := upd po 0 (nI 0)) (by rw [← xc_nb (p := 0) (by omega)]; rfl) (nm_r (e' := upd dn 0 (nI 0)) (by rw [← xc_nsh (d := 0) (by omega)]; rfl) ?_)
        have R := xl_inv0 (n := n) (K := K) (Q := Q) (N := N) (po := upd po 0 (nI 0)) (dn := upd dn 0 (nI 0)) (ip := s2) (rg := upd (upd s 0 1) 4 1) (pa := pa) (fl := fl) (en := en) (fun j hj => ?_) hs2 pk_us pk_us
        · exact ⟨3329, xl_91 ok hX h 3329 0 1 _ _ _ _ _ _ _ _ R.1 (by omega) (by omega)⟩
        · by_cases j4 : j = 4
          · subst j4; rw [pk_us]; rfl
          rw [pk_un j4]
          by_cases j0 : j = 0
          · subst j0; rw [pk_us]; rfl
          rw [pk_un j0, if_neg (by omega)]
          exact hs j hj
      · refine br_f (nI_ge (b := 16) hi (by decide)) ⟨vp_in_nI (by omega) (by decide), nm_r (e' := upd s2 i 65535) (by rw [nI_clamp (by omega)]) (nm_r (nI_1 i) (ih _ (fun j hj => ?_)))⟩
        by_cases e : j = i
        · rw [e]; exact pk_us
        · rw [pk_un e]; exact hs2 j (by omega)
    · refine br_f (nI_ge (b := 12) hi (by decide)) ⟨vp_in_nI (by omega) (by decide), nm_r (e' := upd s i 0) (by rw [nI_clamp (by omega)]) (nm_r (nI_1 i) (ih _ (fun j hj => ?_)))⟩
      by_cases e : j = i
      · rw [e]; exact pk_us
      · rw [pk_un e]; exact hs j (by omega)
  · exact br_f (by decide) (h _ _ _ _ _ _ _ _ _ hk)
end
end
section
/-! the relation; the program's changes -/
/-- marks: X's by input, Y's by path -/
def re_mk (n : Nat) (K Q : Nat → Nat) (N mk ym : Nat → Int32) : Prop := (∀ i, i < 256 → (mk i = 0 ∨ mk i = 1) ∧ (mk i = 0 ↔ ym (pg_out n K Q N i).1 = 0)) ∧ ∀ q, q < 4096 → ¬ ym q = 0 → ∃ i, i < 256 ∧ (pg_out n K Q N i).1 = q
def re_up (f : Nat → Nat) (k v : Nat) : Nat → Nat := fun j => if j = k then v else f j
theorem re_us {f : Nat → Nat} {k v : Nat} : re_up f k v k = v := if_pos rfl
theorem re_un {f : Nat → Nat} {k v j : Nat} (h : j ≠ k) : re_up f k v j = f j := if_neg h
def i_Rel (k : Nat) (u : SX) (v : SY) : Prop := match u, v with
  | (sz, wy, kn, kd, pr, nb, po, dn, ip, rg, ho, pa, fl, en, mm), (ys, yk, ya, yb, yn, ym, yp, yf, ye) => ∃ (n : Nat) (K Q : Nat → Nat), sz = nI n ∧ ys = nI n ∧ pg_ok n K Q yn ∧ pg_X n K Q yn kd pr nb ∧ pg_Y n K Q yk ya yb ∧ (kn = 0 ∨ (kn = 1 ∧ pg_rec n K Q yn pa fl en)) ∧ re_mk n K Q yn mm ym
theorem i_up {k : Nat} {u : SX} {v : SY} (h : i_Rel k u v) : i_Rel (k + 4) u v := h
theorem re_mk0 {n : Nat} {K Q : Nat → Nat} {N mk ym : Nat → Int32} (ok : pg_ok n K Q N) (h1 : ∀ i, i < 256 → mk i = 0) (h2 : ∀ q, q < 4096 → ym q = 0) : re_mk n K Q N mk ym := by
  refine ⟨fun i hi => ⟨Or.inl (h1 i hi), ⟨fun _ => h2 _ (pg_out_good ok hi).1, fun _ => h1 i hi⟩⟩, fun q hq z => absurd (h2 q hq) z⟩
theorem i_vc0 : wpX_init (fun u => wpY_init (fun v => i_Rel 0 u v)) := by
  have ok : pg_ok 0 (fun _ => 0) (fun _ => 0) (fun _ => 0) := ⟨by omega, fun p hp => by omega⟩
  exact ⟨0, fun _ => 0, fun _ => 0, rfl, rfl, ok, fun p hp => by omega, fun p hp => by omega, Or.inl rfl, re_mk0 ok (fun _ _ => rfl) (fun _ _ => rfl)⟩
section
variable {sz wy kn ys : Int32} {kd pr nb po dn ip rg ho pa fl en mk yk ya yb yn ym yp yf ye : Nat → Int32}
theorem re_forget {post : SY → Prop} (h : ∀ ym' : Nat → Int32, (∀ q, q < 4096 → ym' q = 0) → post (ys, yk, ya, yb, yn, ym', yp, yf, ye)) : wpY_forget post (ys, yk, ya, yb, yn, ym, yp, yf, ye) := by
  refine loop_0 (fun n i (s : Nat → Int32) => wY_forget_2 post ys n (nI i) yk ya yb yn s yp yf ye) (fun i s => ∀ j, j < i → s j = 0) 4096 ym (fun j hj => by omega) (fun n s hs => br_t (nI_le (a := 4096) (b := 4096) (by omega) (by decide)) (h s hs)) (fun n i s hi hs ih => ?_)
  refine br_f (nI_ge (b := 4096) hi (by decide)) ⟨vp_in_nI hi (by decide), nm_r (e' := upd s i 0) (by rw [nI_clamp (by omega)]; rfl) (nm_r (nI_1 i) (ih _ (fun j hj => ?_)))⟩
  by_cases e : j = i
  · rw [e]; exact pk_us
  · rw [pk_un e]; exact hs j (by omega)
/-- what a number must be, and that both sides ask the same -/
theorem re_num {n k : Nat} {x : Int32} (hn : n ≤ 12) (hk : k < 8) : ∃ r : Int32, (¬ r = 0 → (k = 0 → -20 ≤ x.toInt ∧ x.toInt ≤ 20) ∧ (k = 3 → -3 ≤ x.toInt ∧ x.toInt ≤ 3) ∧ (4 ≤ k → k ≤ 6 → ∃ j, x = nI j ∧ n < j ∧ j ≤ 12)) ∧ (∀ post : Int32 → Prop, post r → wpX_numberOk post (nI n, wy, kn, kd, pr, nb, po, dn, ip, rg, ho, pa, fl, en, mk) (nI k) x) ∧ (∀ post : Int32 → Prop, post r → wpY_fits post (nI n, yk, ya, yb, yn, ym, yp, yf, ye) (nI k) x) := by
  have z0 : ∀ A : Prop, ¬ (0 : Int32) = 0 → A := fun A z => absurd rfl z
  have e20 : (20 : Int32).toInt = 20 := by decide
  have em20 : (-20 : Int32).toInt = -20 := by decide
  have e3 : (3 : Int32).toInt = 3 := by decide
  have em3 : (-3 : Int32).toInt = -3 := by decide
  by_cases k0 : k = 0
  · have c0 : nI k = 0 := by rw [k0]; rfl
    by_cases c1 : x < -20
    · exact ⟨0, z0 _, fun _ h => br_t c0 (br_t c1 h), fun _ h => br_t c0 (br_t c1 h)⟩
    by_cases c2 : 20 < x
    · exact ⟨0, z0 _, fun _ h => br_t c0 (br_f c1 (br_t c2 h)), fun _ h => br_t c0 (br_f c1 (br_t c2 h))⟩
    refine ⟨1, fun _ => ⟨fun _ => ?_, fun _ => by omega, fun _ _ => by omega⟩, fun _ h => br_t c0 (br_f c1 (br_f c2 h)), fun _ h => br_t c0 (br_f c1 (br_f c2 h))⟩
    rw [ar_lt, em20] at c1
    rw [ar_lt, e20] at c2
    omega
  have c0 : ¬ nI k = 0 := nI_ne0 (by omega) (by omega)
  by_cases k3 : k = 3
  · have c3 : nI k = 3 := by rw [k3]; rfl
    by_cases c1 : x < -3
    · exact ⟨0, z0 _, fun _ h => br_f c0 (br_t c3 (br_t c1 h)), fun _ h => br_f c0 (br_t c3 (br_t c1 h))⟩
    by_cases c2 : 3 < x
    · exact ⟨0, z0 _, fun _ h => br_f c0 (br_t c3 (br_f c1 (br_t c2 h))), fun _ h => br_f c0 (br_t c3 (br_f c1 (br_t c2 h)))⟩
    refine ⟨1, fun _ => ⟨fun _ => by omega, fun _ => ?_, fun _ _ => by omega⟩, fun _ h => br_f c0 (br_t c3 (br_f c1 (br_f c2 h))), fun _ h => br_f c0 (br_t c3 (br_f c1 (br_f c2 h)))⟩
    rw [ar_lt, em3] at c1
    rw [ar_lt, e3] at c2
    omega
  have c3 : ¬ nI k = 3 := fun z => k3 ((nI_eq (b := 3) (by omega) (by omega)).mp z)
  by_cases k4 : k < 4
  · have c4 : nI k < 4 := nI_lt (b := 4) k4 (by omega)
    exact ⟨1, fun _ => ⟨fun _ => by omega, fun _ => by omega, fun _ _ => by omega⟩, fun _ h => br_f c0 (br_f c3 (br_t c4 h)), fun _ h => br_f c0 (br_f c3 (br_t c4 h))⟩
  have c4 : ¬ nI k < 4 := nI_nlt (b := 4) (by omega) (by omega)
  by_cases k7 : k = 7
  · have c7 : nI k = 7 := by rw [k7]; rfl
    exact ⟨1, fun _ => ⟨fun _ => by omega, fun _ => by omega, fun _ _ => by omega⟩, fun _ h => br_f c0 (br_f c3 (br_f c4 (br_t c7 h))), fun _ h => br_f c0 (br_f c3 (br_f c4 (br_t c7 h)))⟩
  have c7 : ¬ nI k = 7 := fun z => k7 ((nI_eq (b := 7) (by omega) (by omega)).mp z)
  by_cases cn : x ≤ nI n
  · exact ⟨0, z0 _, fun _ h => br_f c0 (br_f c3 (br_f c4 (br_f c7 (br_t cn h)))), fun _ h => br_f c0 (br_f c3 (br_f c4 (br_f c7 (br_t cn h))))⟩
  by_cases c12 : 12 < x
  · exact ⟨0, z0 _, fun _ h => br_f c0 (br_f c3 (br_f c4 (br_f c7 (br_f cn (br_t c12 h))))), fun _ h => br_f c0 (br_f c3 (br_f c4 (br_f c7 (br_f cn (br_t c12 h)))))⟩
  refine ⟨1, fun _ => ⟨fun _ => by omega, fun _ => by omega, fun _ _ => ?_⟩, fun _ h => br_f c0 (br_f c3 (br_f c4 (br_f c7 (br_f cn (br_f c12 h))))), fun _ h => br_f c0 (br_f c3 (br_f c4 (br_f c7 (br_f cn (br_f c12 h)))))⟩
  have g1 : nI n < x := Int32.not_le.mp cn
  rw [ar_lt, nI_toInt (by omega)] at g1
  obtain ⟨j, hj, rfl⟩ := nI_of (x := x) (by rw [ar_lt, ar_0]; omega)
  rw [nI_toInt hj] at g1
  have g2 : ¬ 12 < j := fun z => c12 (nI_lt (a := 12) z hj)
  exact ⟨j, rfl, by omega, by omega⟩
end
theorem i_vc_step {k : Nat} {u : SX} {v : SY} (I : i_Rel k u v) (hk : k + 4 ≤ 2048) (v1 : Int32) (v2 : Int32) (v3 : Int32) : wpX_step (fun r u' => wpY_step (fun r' v' => r' = r ∧ i_Rel (k + 4) u' v') v v1 v2 v3) u v1 v2 v3 := by
  obtain ⟨sz, wy, kn, kd, pr, nb, po, dn, ip, rg, ho, pa, fl, en, mk⟩ := u
  obtain ⟨ys, yk, ya, yb, yn, ym, yp, yf, ye⟩ := v
  have I0 := I
  obtain ⟨n, K, Q, rfl, rfl, ok, hX, hY, hkn, hm⟩ := I
  have hn := ok.1
  by_cases c0 : v1 < 0
  · exact br_t c0 (br_t c0 ⟨rfl, I0⟩)
  by_cases c7 : 7 < v1
  · exact br_f c0 (br_t c7 (br_f c0 (br_t c7 ⟨rfl, I0⟩)))
  by_cases d0 : v2 < 0
  · exact br_f c0 (br_f c7 (br_t d0 (br_f c0 (br_f c7 (br_t d0 ⟨rfl, I0⟩)))))
  by_cases d7 : 15 < v2
  · exact br_f c0 (br_f c7 (br_f d0 (br_t d7 (br_f c0 (br_f c7 (br_f d0 (br_t d7 ⟨rfl, I0⟩)))))))
  obtain ⟨kk, hkk, rfl⟩ := nI_of c0
  obtain ⟨q, hq, rfl⟩ := nI_of d0
  have hkk8 : kk < 8 := by
    have : ¬ 7 < kk := fun z => c7 (nI_lt (a := 7) z hkk)
    omega
  have hq16 : q < 16 := by
    have : ¬ 15 < q := fun z => d7 (nI_lt (a := 15) z hq)
    omega
  obtain ⟨r, hr, nX, nY⟩ := re_num (wy := wy) (kn := kn) (kd := kd) (pr := pr) (nb := nb) (po := po) (dn := dn) (ip := ip) (rg := rg) (ho := ho) (pa := pa) (fl := fl) (en := en) (mk := mk) (yk := yk) (ya := ya) (yb := yb) (yn := yn) (ym := ym) (yp := yp) (yf := yf) (ye := ye) (x := v3) hn hkk8
  refine br_f c0 (br_f c7 (br_f d0 (br_f d7 (nX _ ?_))))
  by_cases r0 : r = 0
  · exact br_t r0 (br_f c0 (br_f c7 (br_f d0 (br_f d7 (nY _ (br_t r0 ⟨rfl, I0⟩))))))
  refine br_f r0 ?_
  by_cases n12 : n = 12
  · have f12 : ¬ nI n < 12 := nI_nlt (b := 12) (by omega) (by omega)
    exact br_f f12 (br_f c0 (br_f c7 (br_f d0 (br_f d7 (nY _ (br_f r0 (br_f f12 ⟨rfl, I0⟩)))))))
  have f12 : nI n < 12 := nI_lt (b := 12) (by omega) (by omega)
  have en' : (nI n).toNatClampNeg = n := nI_clamp (by omega)
  have inn : vp_in (nI n) 12 := vp_in_nI (by omega) (by decide)
  obtain ⟨h0, h3, h4⟩ := hr r0
  refine br_t f12 ?_
  rw [en']
  refine ⟨inn, nm_r (e' := upd kd n (nI kk)) (by rw [xl_nb8 (by omega)]) ⟨inn, nm_r (e' := upd pr n (nI q)) (by rw [xl_nb8 (by omega)]) ⟨inn, nm_e (nm_r (nI_1 n) ?_)⟩⟩⟩
  refine xs_change (fun mk' hmk => ?_)
  refine br_f c0 (br_f c7 (br_f d0 (br_f d7 (nY _ (br_f r0 (br_t f12 ?_))))))
  refine re_forget (fun ym' hym => ?_)
  dsimp only
  rw [en']
  refine ⟨inn, nm_e ⟨inn, nm_r (e' := upd ya n (nI (q % 4))) (by rw [show nI q &&& 3 = nI (q % 4) from pk_andN (by omega) 2 (by decide)]) ⟨inn, nm_r (e' := upd yb n (nI (q / 4))) (by rw [show nI q >>> ((2 : Int32) &&& 31) = nI (q / 4) from pk_shrN (by omega) _ 2 (by decide)]) ⟨inn, nm_e (nm_r (nI_1 n) ⟨rfl, ?_⟩)⟩⟩⟩⟩
  have ok' : pg_ok (n + 1) (re_up K n kk) (re_up Q n q) (upd yn n v3) := by
    refine ⟨by omega, fun p hp => ?_⟩
    by_cases e : p = n
    · rw [e, re_us, re_us, pk_us]
      refine ⟨hkk8, hq16, h0, h3, fun x1 x2 => ?_⟩
      obtain ⟨j, rfl, j1, j2⟩ := h4 x1 x2
      rw [nI_clamp (by omega)]
      exact ⟨rfl, j1, j2⟩
    · rw [re_un e, re_un e, pk_un e]
      exact ok.2 p (by omega)
  have e8 : ∀ z : Int32, -128 ≤ z.toInt → z.toInt < 128 → vp_nar .byte z.toInt8.toInt32 = z := fun z a b => by
    rw [pk_vb]; exact lg_i2b_small a b
  refine ⟨n + 1, re_up K n kk, re_up Q n q, rfl, rfl, ok', fun p hp => ?_, fun p hp => ?_, Or.inl rfl, re_mk0 ok' hmk hym⟩
  · by_cases e : p = n
    · rw [e, re_us, re_us, pk_us, pk_us, pk_us, pk_us]
      refine ⟨rfl, rfl, fun z => ?_⟩
      rcases z with z | ⟨z1, z2⟩
      · have := h0 z
        exact e8 v3 (by omega) (by omega)
      · by_cases z3 : kk = 3
        · have := h3 z3
          exact e8 v3 (by omega) (by omega)
        · obtain ⟨j, rfl, j1, j2⟩ := h4 (by omega) z2
          exact xl_nb8 (by omega)
    · rw [re_un e, re_un e, pk_un e, pk_un e, pk_un e, pk_un e]
      exact hX p (by omega)
  · by_cases e : p = n
    · rw [e, re_us, re_us, pk_us, pk_us, pk_us]
      exact ⟨rfl, rfl, rfl⟩
    · rw [re_un e, re_un e, pk_un e, pk_un e, pk_un e]
      exact hY p (by omega)
theorem i_vc_drop {k : Nat} {u : SX} {v : SY} (I : i_Rel k u v) (hk : k + 4 ≤ 2048) : wpX_drop (fun r u' => wpY_drop (fun r' v' => r' = r ∧ i_Rel (k + 4) u' v') v) u := by
  obtain ⟨sz, wy, kn, kd, pr, nb, po, dn, ip, rg, ho, pa, fl, en, mk⟩ := u
  obtain ⟨ys, yk, ya, yb, yn, ym, yp, yf, ye⟩ := v
  have I0 := I
  obtain ⟨n, K, Q, rfl, rfl, ok, hX, hY, hkn, hm⟩ := I
  have hn := ok.1
  cases n with
  | zero => exact br_t rfl (br_t rfl ⟨rfl, I0⟩)
  | succ n =>
    have z : ¬ nI (n + 1) = 0 := nI_ne0 (by omega) (by omega)
    refine br_f z (nm_r (nI_pred n) (xs_change (fun mk' hmk => br_f z (re_forget (fun ym' hym => nm_r (nI_pred n) ⟨rfl, ?_⟩)))))
    have ok' : pg_ok n K Q yn := ⟨by omega, fun p hp => ok.2 p (by omega)⟩
    exact ⟨n, K, Q, rfl, rfl, ok', fun p hp => hX p (by omega), fun p hp => hY p (by omega), Or.inl rfl, re_mk0 ok' hmk hym⟩
theorem i_vc_length {k : Nat} {u : SX} {v : SY} (I : i_Rel k u v) (hk : k + 4 ≤ 2048) : wpX_length (fun r => wpY_length (fun r' => r' = r ∧ i_Rel (k + 4) u v) v) u := by
  obtain ⟨sz, wy, kn, kd, pr, nb, po, dn, ip, rg, ho, pa, fl, en, mk⟩ := u
  obtain ⟨ys, yk, ya, yb, yn, ym, yp, yf, ye⟩ := v
  have I0 := I
  obtain ⟨n, K, Q, rfl, rfl, ok, hX, hY, hkn, hm⟩ := I
  exact ⟨rfl, I0⟩
end
section
/-! the answers, in lockstep -/
def an_ag (pa fl en yp yf ye : Nat → Int32) : Prop := ∀ i, i < 256 → yp i = pa i ∧ yf i = fl i ∧ ∀ j, j < 4 → ye (4 * i + j) = en (4 * i + j)
theorem an_same {n : Nat} {K Q : Nat → Nat} {N pa fl en yp yf ye : Nat → Int32} (hx : pg_rec n K Q N pa fl en) (hy : pg_rec n K Q N yp yf ye) : an_ag pa fl en yp yf ye := by
  intro i hi
  obtain ⟨x1, x2, x3⟩ := hx i hi
  obtain ⟨y1, y2, y3⟩ := hy i hi
  exact ⟨y1.trans x1.symm, y2.trans x2.symm, fun j hj => (y3 j hj).trans (x3 j hj).symm⟩
theorem an_b01 (v : Int32) : v &&& 1 = 0 ∨ v &&& 1 = 1 := by
  obtain ⟨j, hj, e⟩ := pk_andE v (m := 1) 1 (by decide)
  have : j = 0 ∨ j = 1 := by omega
  rcases this with rfl | rfl
  · exact Or.inl e
  · exact Or.inr e
theorem an_pos {x : Int32} (h : x < 0) {i : Nat} (hi : i < 2 ^ 31) : ¬ nI i < x := by
  rw [ar_lt, nI_toInt hi]
  rw [ar_lt, ar_0] at h
  omega
section
variable {n : Nat} {sz wy kn ys : Int32} {kd pr nb po dn ip rg ho pa fl en mk yk ya yb yn ym yp yf ye : Nat → Int32}
theorem an_rel {k : Nat} {K Q : Nat → Nat} (ok : pg_ok n K Q yn) (hX : pg_X n K Q yn kd pr nb) (hY : pg_Y n K Q yk ya yb) (hkn : kn = 0 ∨ (kn = 1 ∧ pg_rec n K Q yn pa fl en)) (hm : re_mk n K Q yn mk ym) : i_Rel k (nI n, wy, kn, kd, pr, nb, po, dn, ip, rg, ho, pa, fl, en, mk) (nI n, yk, ya, yb, yn, ym, yp, yf, ye) := ⟨n, K, Q, rfl, rfl, ok, hX, hY, hkn, hm⟩
theorem an_is1 {post : Int32 → Prop} {j : Nat} (hn : n ≤ 12) (hj : j < n) (h : post 1) : wpY_is post (nI n, yk, ya, yb, yn, ym, yp, yf, ye) (nI j) := br_f (nI_pos (by omega)) (br_f (nI_ge hj (by omega)) h)
theorem an_is0 {post : Int32 → Prop} {x : Int32} (hx : x < 0 ∨ nI n ≤ x) (h : post 0) : wpY_is post (nI n, yk, ya, yb, yn, ym, yp, yf, ye) x := br_c (fun _ => h) (fun c => br_t (hx.resolve_left c) h)
theorem an_st1 {post : Int32 → Prop} {j : Nat} (hn : n ≤ 12) (hj : j < n) (h : post 1) : wpX_isStep post (nI n, wy, kn, kd, pr, nb, po, dn, ip, rg, ho, pa, fl, en, mk) (nI j) := br_f (nI_pos (by omega)) (br_f (nI_ge hj (by omega)) h)
theorem an_st0 {post : Int32 → Prop} {x : Int32} (hx : x < 0 ∨ nI n ≤ x) (h : post 0) : wpX_isStep post (nI n, wy, kn, kd, pr, nb, po, dn, ip, rg, ho, pa, fl, en, mk) x := br_c (fun _ => h) (fun c => br_t (hx.resolve_left c) h)
theorem an_xi1 {post : Int32 → Prop} {j : Nat} (hj : j < 256) (h : post 1) : wpX_isInput post (nI j) := br_f (nI_pos (by omega)) (br_f (nI_ge (b := 256) hj (by omega)) h)
theorem an_xi0 {post : Int32 → Prop} {x : Int32} (hx : x < 0 ∨ nI 256 ≤ x) (h : post 0) : wpX_isInput post x := br_c (fun _ => h) (fun c => br_t (hx.resolve_left c) h)
theorem an_yi1 {post : Int32 → Prop} {j : Nat} (hj : j < 256) (h : post 1) : wpY_isInput post (ys, yk, ya, yb, yn, ym, yp, yf, ye) (nI j) := br_f (nI_pos (by omega)) (br_f (nI_nlt (a := 255) (by omega) (by omega)) h)
theorem an_yi0 {post : Int32 → Prop} {x : Int32} (hx : x < 0 ∨ nI 256 ≤ x) (h : post 0) : wpY_isInput post (ys, yk, ya, yb, yn, ym, yp, yf, ye) x := by
  refine br_c (fun _ => h) (fun c => br_t ?_ h)
  have g := hx.resolve_left c
  obtain ⟨j, hj, rfl⟩ := nI_of c
  rw [nI_leI (by omega) hj] at g
  exact nI_lt (a := 255) (by omega) hj
/-! reach -/
theorem an_reach {j : Nat} (hn : n ≤ 12) (hj : j < n) : ∀ (d i : Nat) (acc : Int32), i + d = 256 → ∃ r : Int32, (∀ post : Int32 → SX → Prop, post r (sz, wy, kn, kd, pr, nb, po, dn, ip, rg, ho, pa, fl, en, mk) → wX_reach_18 post (nI j) sz wy kn kd pr nb po dn ip rg ho pa fl en mk (d + 1) acc (nI i)) ∧ (∀ yp yf ye : Nat → Int32, an_ag pa fl en yp yf ye → ∀ post : Int32 → SY → Prop, post r (nI n, yk, ya, yb, yn, ym, yp, yf, ye) → wY_reach_8 post (nI j) (nI n) yk ya yb yn ym yp yf ye (d + 1) acc (nI i)) := by
  intro d
  induction d with
  | zero =>
    intro i acc h
    have e : (256 : Int32) ≤ nI i := nI_le (a := 256) (by omega) (by omega)
    exact ⟨acc, fun _ hp => br_t e hp, fun _ _ _ _ _ hp => br_t e (an_is1 hn hj (br_f (by decide) hp))⟩
  | succ d ih =>
    intro i acc h
    have e : ¬ (256 : Int32) ≤ nI i := nI_ge (b := 256) (by omega) (by decide)
    have ei : (nI i).toNatClampNeg = i := nI_clamp (by omega)
    have hi : vp_in (nI i) 256 := vp_in_nI (by omega) (by decide)
    obtain ⟨r, hx, hy⟩ := ih (i + 1) (acc + ((pa i >>> (nI j &&& 31)) &&& 1)) (by omega)
    exact ⟨r, fun post hp => br_f e ⟨hi, nm_r (by rw [ei]) (nm_r (nI_1 i) (hx post hp))⟩, fun yp yf ye ag post hp => br_f e (an_is1 hn hj (br_f (by decide) ⟨hi, nm_r (by rw [ei, (ag i (by omega)).1]) (nm_r (nI_1 i) (hy yp yf ye ag post hp))⟩))⟩
/-! firstAt -/
theorem an_fa {j : Nat} (hn : n ≤ 12) (hj : j < n) : ∀ (d i : Nat), i + d = 256 → ∃ r : Int32, (∀ post : Int32 → SX → Prop, post r (sz, wy, kn, kd, pr, nb, po, dn, ip, rg, ho, pa, fl, en, mk) → wX_firstAt_24 post (nI j) sz wy kn kd pr nb po dn ip rg ho pa fl en mk (d + 1) (nI i)) ∧ (∀ yp yf ye : Nat → Int32, an_ag pa fl en yp yf ye → ∀ x : Int32, (∀ q : Nat, i ≤ q → q < 256 → ¬ nI q < x) → ∀ post : Int32 → SY → Prop, post r (nI n, yk, ya, yb, yn, ym, yp, yf, ye) → wY_firstAt_6 post (nI j) x (nI n) yk ya yb yn ym yp yf ye (d + 1) (nI i)) := by
  intro d
  induction d with
  | zero =>
    intro i h
    have e : (256 : Int32) ≤ nI i := nI_le (a := 256) (by omega) (by omega)
    exact ⟨-1, fun _ hp => br_t e hp, fun _ _ _ _ _ _ _ hp => br_t e hp⟩
  | succ d ih =>
    intro i h
    have e : ¬ (256 : Int32) ≤ nI i := nI_ge (b := 256) (by omega) (by decide)
    have ei : (nI i).toNatClampNeg = i := nI_clamp (by omega)
    have hi : vp_in (nI i) 256 := vp_in_nI (by omega) (by decide)
    by_cases b : (pa i >>> (nI j &&& 31)) &&& 1 = 0
    · obtain ⟨r, hx, hy⟩ := ih (i + 1) (by omega)
      refine ⟨r, fun post hp => br_f e ⟨hi, ?_⟩, fun yp yf ye ag x hs post hp => br_f e (an_is1 hn hj (br_f (by decide) (br_f (hs i (by omega) (by omega)) ⟨hi, ?_⟩)))⟩
      · rw [ei]; exact br_t b (nm_r (nI_1 i) (hx post hp))
      · rw [ei, (ag i (by omega)).1, b]
        exact br_f (by decide) (nm_r (nI_1 i) (hy yp yf ye ag x (fun q h1 h2 => hs q (by omega) h2) post hp))
    · refine ⟨nI i, fun post hp => br_f e ⟨hi, ?_⟩, fun yp yf ye ag x hs post hp => br_f e (an_is1 hn hj (br_f (by decide) (br_f (hs i (by omega) (by omega)) ⟨hi, ?_⟩)))⟩
      · rw [ei]; exact br_f b hp
      · rw [ei, (ag i (by omega)).1]
        exact br_t ((an_b01 _).resolve_left b) hp
theorem an_faS {j s f : Nat} {x : Int32} {post : Int32 → SY → Prop} (hn : n ≤ 12) (hj : j < n) (hs : s ≤ 256) (hx : ∀ q, q < s → nI q < x) (h : wY_firstAt_6 post (nI j) x (nI n) yk ya yb yn ym yp yf ye f (nI s)) : ∀ (d i : Nat), i + d = s → wY_firstAt_6 post (nI j) x (nI n) yk ya yb yn ym yp yf ye (f + d) (nI i) := by
  intro d
  induction d with
  | zero => intro i e; rw [show i = s by omega]; exact h
  | succ d ih =>
    intro i e
    exact br_f (nI_ge (b := 256) (by omega) (by decide)) (an_is1 hn hj (br_f (by decide) (br_t (hx i (by omega)) (nm_r (nI_1 i) (ih (i + 1) (by omega))))))
/-! failing -/
theorem an_failing : ∀ (d i : Nat) (acc : Int32), i + d = 256 → ∃ r : Int32, (∀ post : Int32 → SX → Prop, post r (sz, wy, kn, kd, pr, nb, po, dn, ip, rg, ho, pa, fl, en, mk) → wX_failing_8 post sz wy kn kd pr nb po dn ip rg ho pa fl en mk (d + 1) acc (nI i)) ∧ (∀ yp yf ye : Nat → Int32, an_ag pa fl en yp yf ye → ∀ post : Int32 → SY → Prop, post r (ys, yk, ya, yb, yn, ym, yp, yf, ye) → wY_failing_8 post ys yk ya yb yn ym yp yf ye (d + 1) acc (nI i)) := by
  intro d
  induction d with
  | zero =>
    intro i acc h
    have e : (256 : Int32) ≤ nI i := nI_le (a := 256) (by omega) (by omega)
    exact ⟨acc, fun _ hp => br_t e hp, fun _ _ _ _ _ hp => br_t e hp⟩
  | succ d ih =>
    intro i acc h
    have e : ¬ (256 : Int32) ≤ nI i := nI_ge (b := 256) (by omega) (by decide)
    have ei : (nI i).toNatClampNeg = i := nI_clamp (by omega)
    have hi : vp_in (nI i) 256 := vp_in_nI (by omega) (by decide)
    by_cases b : fl i = 0
    · obtain ⟨r, hx, hy⟩ := ih (i + 1) acc (by omega)
      refine ⟨r, fun post hp => br_f e ⟨hi, ?_⟩, fun yp yf ye ag post hp => br_f e ⟨hi, ?_⟩⟩
      · rw [ei]; exact br_t b (nm_r (Int32.add_zero acc) (nm_r (nI_1 i) (hx post hp)))
      · rw [ei, (ag i (by omega)).2.1]; exact br_t b (nm_r (nI_1 i) (hy yp yf ye ag post hp))
    · obtain ⟨r, hx, hy⟩ := ih (i + 1) (acc + 1) (by omega)
      refine ⟨r, fun post hp => br_f e ⟨hi, ?_⟩, fun yp yf ye ag post hp => br_f e ⟨hi, ?_⟩⟩
      · rw [ei]; exact br_f b (nm_e (nm_r (nI_1 i) (hx post hp)))
      · rw [ei, (ag i (by omega)).2.1]; exact br_f b (nm_e (nm_r (nI_1 i) (hy yp yf ye ag post hp)))
/-! firstFailing -/
theorem an_ff : ∀ (d i : Nat), i + d = 256 → ∃ r : Int32, (∀ post : Int32 → SX → Prop, post r (sz, wy, kn, kd, pr, nb, po, dn, ip, rg, ho, pa, fl, en, mk) → wX_firstFailing_14 post sz wy kn kd pr nb po dn ip rg ho pa fl en mk (d + 1) (nI i)) ∧ (∀ yp yf ye : Nat → Int32, an_ag pa fl en yp yf ye → ∀ x : Int32, (∀ q : Nat, i ≤ q → q < 256 → ¬ nI q < x) → ∀ post : Int32 → SY → Prop, post r (ys, yk, ya, yb, yn, ym, yp, yf, ye) → wY_firstFailing_6 post x ys yk ya yb yn ym yp yf ye (d + 1) (nI i)) := by
  intro d
  induction d with
  | zero =>
    intro i h
    have e : (256 : Int32) ≤ nI i := nI_le (a := 256) (by omega) (by omega)
    exact ⟨-1, fun _ hp => br_t e hp, fun _ _ _ _ _ _ _ hp => br_t e hp⟩
  | succ d ih =>
    intro i h
    have e : ¬ (256 : Int32) ≤ nI i := nI_ge (b := 256) (by omega) (by decide)
    have ei : (nI i).toNatClampNeg = i := nI_clamp (by omega)
    have hi : vp_in (nI i) 256 := vp_in_nI (by omega) (by decide)
    by_cases b : fl i = 0
    · obtain ⟨r, hx, hy⟩ := ih (i + 1) (by omega)
      refine ⟨r, fun post hp => br_f e ⟨hi, ?_⟩, fun yp yf ye ag x hs post hp => br_f e (br_f (hs i (by omega) (by omega)) ⟨hi, ?_⟩)⟩
      · rw [ei]; exact br_t b (nm_r (nI_1 i) (hx post hp))
      · rw [ei, (ag i (by omega)).2.1]
        exact br_t b (nm_r (nI_1 i) (hy yp yf ye ag x (fun q h1 h2 => hs q (by omega) h2) post hp))
    · refine ⟨nI i, fun post hp => br_f e ⟨hi, ?_⟩, fun yp yf ye ag x hs post hp => br_f e (br_f (hs i (by omega) (by omega)) ⟨hi, ?_⟩)⟩
      · rw [ei]; exact br_f b hp
      · rw [ei, (ag i (by omega)).2.1]; exact br_f b hp
theorem an_ffS {s f : Nat} {x : Int32} {post : Int32 → SY → Prop} (hs : s ≤ 256) (hx : ∀ q, q < s → nI q < x) (h : wY_firstFailing_6 post x ys yk ya yb yn ym yp yf ye f (nI s)) : ∀ (d i : Nat), i + d = s → wY_firstFailing_6 post x ys yk ya yb yn ym yp yf ye (f + d) (nI i) := by
  intro d
  induction d with
  | zero => intro i e; rw [show i = s by omega]; exact h
  | succ d ih =>
    intro i e
    exact br_f (nI_ge (b := 256) (by omega) (by decide)) (br_t (hx i (by omega)) (nm_r (nI_1 i) (ih (i + 1) (by omega))))
/-! firstLike and least -/
def an_L (pa : Nat → Int32) (i l : Nat) : Prop := l ≤ i ∧ pa l = pa i ∧ ∀ j, j < l → ¬ pa j = pa i
theorem an_lst (pa : Nat → Int32) (i : Nat) : ∃ l, an_L pa i l := by
  have H : ∀ d l, l + d = i → (∀ j, j < l → ¬ pa j = pa i) → ∃ l, an_L pa i l := by
    intro d
    induction d with
    | zero => intro l e h; exact ⟨l, by omega, by rw [show l = i by omega], h⟩
    | succ d ih =>
      intro l e h
      by_cases c : pa l = pa i
      · exact ⟨l, by omega, c, h⟩
      · refine ih (l + 1) (by omega) (fun j hj => ?_)
        by_cases q : j = l
        · rw [q]; exact c
        · exact h j (by omega)
  exact H i 0 (by omega) (fun j hj => by omega)
theorem an_L_ag {i l : Nat} (hi : i < 256) (ag : an_ag pa fl en yp yf ye) (h : an_L pa i l) : an_L yp i l := by
  obtain ⟨h1, h2, h3⟩ := h
  refine ⟨h1, ?_, fun j hj => ?_⟩
  · rw [(ag l (by omega)).1, (ag i hi).1]; exact h2
  · rw [(ag j (by omega)).1, (ag i hi).1]; exact h3 j hj
theorem an_flX {post : Int32 → Prop} {i l : Nat} (hi : i < 256) (hl : an_L pa i l) (h : post (nI l)) : wpX_firstLike post (sz, wy, kn, kd, pr, nb, po, dn, ip, rg, ho, pa, fl, en, mk) (nI i) := by
  obtain ⟨h1, h2, h3⟩ := hl
  have ei : (nI i).toNatClampNeg = i := nI_clamp (by omega)
  have H : ∀ d j, j + d = l → wX_firstLike_2 post (nI i) sz wy kn kd pr nb po dn ip rg ho pa fl en mk (d + 1) (nI j) := by
    intro d
    induction d with
    | zero =>
      intro j e
      have ej : (nI j).toNatClampNeg = j := nI_clamp (by omega)
      refine ⟨vp_in_nI (by omega) (by decide), vp_in_nI hi (by decide), ?_⟩
      rw [ei, ej, show j = l by omega]
      exact br_t h2 h
    | succ d ih =>
      intro j e
      have ej : (nI j).toNatClampNeg = j := nI_clamp (by omega)
      refine ⟨vp_in_nI (by omega) (by decide), vp_in_nI hi (by decide), ?_⟩
      rw [ei, ej]
      exact br_f (h3 j (by omega)) (nm_r (nI_1 j) (ih (j + 1) (by omega)))
  exact ⟨l + 1, H l 0 (by omega)⟩
theorem an_flY {post : Int32 → Prop} {i l : Nat} (hi : i < 256) (hl : an_L yp i l) (h : post (nI l)) : wpY_least post (ys, yk, ya, yb, yn, ym, yp, yf, ye) (nI i) := by
  obtain ⟨h1, h2, h3⟩ := hl
  have ei : (nI i).toNatClampNeg = i := nI_clamp (by omega)
  have H : ∀ d j, j + d = l → wY_least_2 post (nI i) ys yk ya yb yn ym yp yf ye (d + 1) (nI j) := by
    intro d
    induction d with
    | zero =>
      intro j e
      have ej : (nI j).toNatClampNeg = j := nI_clamp (by omega)
      refine ⟨vp_in_nI (by omega) (by decide), vp_in_nI hi (by decide), ?_⟩
      rw [ei, ej, show j = l by omega]
      exact br_t h2 h
    | succ d ih =>
      intro j e
      have ej : (nI j).toNatClampNeg = j := nI_clamp (by omega)
      refine ⟨vp_in_nI (by omega) (by decide), vp_in_nI hi (by decide), ?_⟩
      rw [ei, ej]
      exact br_f (h3 j (by omega)) (nm_r (nI_1 j) (ih (j + 1) (by omega)))
  exact ⟨l + 1, H l 0 (by omega)⟩
/-! paths -/
theorem an_paths : ∀ (d i : Nat) (acc : Int32), i + d = 256 → ∃ r : Int32, (∀ post : Int32 → SX → Prop, post r (sz, wy, kn, kd, pr, nb, po, dn, ip, rg, ho, pa, fl, en, mk) → wX_paths_8 post sz wy kn kd pr nb po dn ip rg ho pa fl en mk (d + 1) acc (nI i)) ∧ (∀ yp yf ye : Nat → Int32, an_ag pa fl en yp yf ye → ∀ post : Int32 → SY → Prop, post r (ys, yk, ya, yb, yn, ym, yp, yf, ye) → wY_paths_8 post ys yk ya yb yn ym yp yf ye (d + 1) acc (nI i)) := by
  intro d
  induction d with
  | zero =>
    intro i acc h
    have e : (256 : Int32) ≤ nI i := nI_le (a := 256) (by omega) (by omega)
    exact ⟨acc, fun _ hp => br_t e hp, fun _ _ _ _ _ hp => br_t e hp⟩
  | succ d ih =>
    intro i acc h
    have e : ¬ (256 : Int32) ≤ nI i := nI_ge (b := 256) (by omega) (by decide)
    obtain ⟨l, hl⟩ := an_lst pa i
    by_cases b : nI l = nI i
    · obtain ⟨r, hx, hy⟩ := ih (i + 1) (acc + 1) (by omega)
      refine ⟨r, fun post hp => br_f e (an_flX (by omega) hl (br_t b (nm_e (nm_r (nI_1 i) (hx post hp))))), fun yp yf ye ag post hp => br_f e (an_flY (by omega) (an_L_ag (by omega) ag hl) (br_t b (nm_e (nm_r (nI_1 i) (hy yp yf ye ag post hp)))))⟩
    · obtain ⟨r, hx, hy⟩ := ih (i + 1) acc (by omega)
      refine ⟨r, fun post hp => br_f e (an_flX (by omega) hl (br_f b (nm_r (Int32.add_zero acc) (nm_r (nI_1 i) (hx post hp))))), fun yp yf ye ag post hp => br_f e (an_flY (by omega) (an_L_ag (by omega) ag hl) (br_f b (nm_r (nI_1 i) (hy yp yf ye ag post hp))))⟩
/-! alike -/
theorem an_alike {a : Nat} (ha : a < 256) : ∀ (d i : Nat) (acc : Int32), i + d = 256 → ∃ r : Int32, (∀ post : Int32 → SX → Prop, post r (sz, wy, kn, kd, pr, nb, po, dn, ip, rg, ho, pa, fl, en, mk) → wX_alike_17 post (nI a) sz wy kn kd pr nb po dn ip rg ho pa fl en mk (d + 1) acc (nI i)) ∧ (∀ yp yf ye : Nat → Int32, an_ag pa fl en yp yf ye → ∀ post : Int32 → SY → Prop, post r (ys, yk, ya, yb, yn, ym, yp, yf, ye) → wY_alike_8 post (nI a) ys yk ya yb yn ym yp yf ye (d + 1) acc (nI i)) := by
  have ea : (nI a).toNatClampNeg = a := nI_clamp (by omega)
  have ia : vp_in (nI a) 256 := vp_in_nI ha (by decide)
  intro d
  induction d with
  | zero =>
    intro i acc h
    have e : (256 : Int32) ≤ nI i := nI_le (a := 256) (by omega) (by omega)
    exact ⟨acc, fun _ hp => br_t e hp, fun _ _ _ _ _ hp => br_t e (an_yi1 ha (br_f (by decide) hp))⟩
  | succ d ih =>
    intro i acc h
    have e : ¬ (256 : Int32) ≤ nI i := nI_ge (b := 256) (by omega) (by decide)
    have ei : (nI i).toNatClampNeg = i := nI_clamp (by omega)
    have hi : vp_in (nI i) 256 := vp_in_nI (by omega) (by decide)
    by_cases b : pa i = pa a
    · obtain ⟨r, hx, hy⟩ := ih (i + 1) (acc + 1) (by omega)
      refine ⟨r, fun post hp => br_f e ⟨hi, ia, ?_⟩, fun yp yf ye ag post hp => br_f e (an_yi1 ha (br_f (by decide) ⟨hi, ia, ?_⟩))⟩
      · rw [ei, ea]; exact br_t b (nm_e (nm_r (nI_1 i) (hx post hp)))
      · rw [ei, ea, (ag i (by omega)).1, (ag a ha).1]; exact br_t b (nm_e (nm_r (nI_1 i) (hy yp yf ye ag post hp)))
    · obtain ⟨r, hx, hy⟩ := ih (i + 1) acc (by omega)
      refine ⟨r, fun post hp => br_f e ⟨hi, ia, ?_⟩, fun yp yf ye ag post hp => br_f e (an_yi1 ha (br_f (by decide) ⟨hi, ia, ?_⟩))⟩
      · rw [ei, ea]; exact br_f b (nm_r (Int32.add_zero acc) (nm_r (nI_1 i) (hx post hp)))
      · rw [ei, ea, (ag i (by omega)).1, (ag a ha).1]; exact br_f b (nm_r (nI_1 i) (hy yp yf ye ag post hp))
/-! steps -/
theorem an_steps {a : Nat} (ha : a < 256) : ∀ (d i : Nat) (acc : Int32), i + d = 12 → ∃ r : Int32, (∀ post : Int32 → SX → Prop, post r (sz, wy, kn, kd, pr, nb, po, dn, ip, rg, ho, pa, fl, en, mk) → wX_steps_17 post (nI a) sz wy kn kd pr nb po dn ip rg ho pa fl en mk (d + 1) acc (nI i)) ∧ (∀ yp yf ye : Nat → Int32, an_ag pa fl en yp yf ye → ∀ post : Int32 → SY → Prop, post r (ys, yk, ya, yb, yn, ym, yp, yf, ye) → wY_steps_8 post (nI a) ys yk ya yb yn ym yp yf ye (d + 1) acc (nI i)) := by
  have ea : (nI a).toNatClampNeg = a := nI_clamp (by omega)
  have ia : vp_in (nI a) 256 := vp_in_nI ha (by decide)
  intro d
  induction d with
  | zero =>
    intro i acc h
    have e : (12 : Int32) ≤ nI i := nI_le (a := 12) (by omega) (by omega)
    exact ⟨acc, fun _ hp => br_t e hp, fun _ _ _ _ _ hp => br_t e (an_yi1 ha (br_f (by decide) hp))⟩
  | succ d ih =>
    intro i acc h
    have e : ¬ (12 : Int32) ≤ nI i := nI_ge (b := 12) (by omega) (by decide)
    obtain ⟨r, hx, hy⟩ := ih (i + 1) (acc + ((pa a >>> (nI i &&& 31)) &&& 1)) (by omega)
    exact ⟨r, fun post hp => br_f e ⟨ia, nm_r (by rw [ea]) (nm_r (nI_1 i) (hx post hp))⟩, fun yp yf ye ag post hp => br_f e (an_yi1 ha (br_f (by decide) ⟨ia, nm_r (by rw [ea, (ag a ha).1]) (nm_r (nI_1 i) (hy yp yf ye ag post hp))⟩))⟩
/-! ending -/
theorem an_ending {a : Nat} {x : Int32} (ha : a < 4) : ∀ (d i : Nat) (acc : Int32), i + d = 256 → ∃ r : Int32, (∀ post : Int32 → SX → Prop, post r (sz, wy, kn, kd, pr, nb, po, dn, ip, rg, ho, pa, fl, en, mk) → wX_ending_20 post (nI a) x sz wy kn kd pr nb po dn ip rg ho pa fl en mk (d + 1) acc (nI i)) ∧ (∀ yp yf ye : Nat → Int32, an_ag pa fl en yp yf ye → ∀ post : Int32 → SY → Prop, post r (ys, yk, ya, yb, yn, ym, yp, yf, ye) → wY_ending_9 post (nI a) x ys yk ya yb yn ym yp yf ye (d + 1) acc (nI i)) := by
  have p0 : ¬ nI a < 0 := nI_pos (by omega)
  have p3 : ¬ 3 < nI a := nI_nlt (a := 3) (by omega) (by omega)
  intro d
  induction d with
  | zero =>
    intro i acc h
    have e : (256 : Int32) ≤ nI i := nI_le (a := 256) (by omega) (by omega)
    exact ⟨acc, fun _ hp => br_t e hp, fun _ _ _ _ _ hp => br_t e hp⟩
  | succ d ih =>
    intro i acc h
    have e : ¬ (256 : Int32) ≤ nI i := nI_ge (b := 256) (by omega) (by decide)
    have ei : (nI i).toNatClampNeg = i := nI_clamp (by omega)
    have hi : vp_in (nI i) 256 := vp_in_nI (by omega) (by decide)
    have e4 : 4 * nI i + nI a = nI (4 * i + a) := by rw [show 4 * nI i = nI (4 * i) from pk_mul 4 i, nI_add]
    have ee : (nI (4 * i + a)).toNatClampNeg = 4 * i + a := nI_clamp (by omega)
    have h4 : vp_in (nI (4 * i + a)) 1024 := vp_in_nI (by omega) (by decide)
    by_cases b : fl i = 0
    · by_cases c : en (4 * i + a) = x
      · obtain ⟨r, hx, hy⟩ := ih (i + 1) (acc + 1) (by omega)
        refine ⟨r, fun post hp => br_f e ⟨hi, ?_⟩, fun yp yf ye ag post hp => br_f e (br_f p0 (br_f p3 ⟨hi, ?_⟩))⟩
        · rw [ei, e4, ee]; exact br_t b ⟨h4, br_t c (nm_e (nm_r (nI_1 i) (hx post hp)))⟩
        · rw [ei, e4, ee, (ag i (by omega)).2.1, (ag i (by omega)).2.2 a ha]; exact br_t b ⟨h4, br_t c (nm_e (nm_r (nI_1 i) (hy yp yf ye ag post hp)))⟩
      · obtain ⟨r, hx, hy⟩ := ih (i + 1) acc (by omega)
        refine ⟨r, fun post hp => br_f e ⟨hi, ?_⟩, fun yp yf ye ag post hp => br_f e (br_f p0 (br_f p3 ⟨hi, ?_⟩))⟩
        · rw [ei, e4, ee]; exact br_t b ⟨h4, br_f c (nm_r (Int32.add_zero acc) (nm_r (nI_1 i) (hx post hp)))⟩
        · rw [ei, e4, ee, (ag i (by omega)).2.1, (ag i (by omega)).2.2 a ha]; exact br_t b ⟨h4, br_f c (nm_r (nI_1 i) (hy yp yf ye ag post hp))⟩
    · obtain ⟨r, hx, hy⟩ := ih (i + 1) acc (by omega)
      refine ⟨r, fun post hp => br_f e ⟨hi, ?_⟩, fun yp yf ye ag post hp => br_f e (br_f p0 (br_f p3 ⟨hi, ?_⟩))⟩
      · rw [ei]; exact br_f b (nm_r (Int32.add_zero acc) (nm_r (nI_1 i) (hx post hp)))
      · rw [ei, (ag i (by omega)).2.1]; exact br_f b (nm_r (nI_1 i) (hy yp yf ye ag post hp))
end
end
section
/-! extreme, unmarked, mark -/
section
variable {n : Nat} {sz wy kn ys : Int32} {kd pr nb po dn ip rg ho pa fl en mk yk ya yb yn ym yp yf ye : Nat → Int32}
theorem an_x82 {post : Int32 → SX → Prop} {J : Int32 → Int32 → Prop} {x1 x2 b v z : Int32} {i : Nat} (hi : i < 256) (h1 : fl i = 0 → ¬ z = 0 → J v (nI (i + 1))) (h2 : ¬ fl i = 0 ∨ z = 0 → J b (nI (i + 1))) : wX_extreme_82 post J x1 x2 b (nI i) v z sz wy kn kd pr nb po dn ip rg ho pa fl en mk := by
  have ei : (nI i).toNatClampNeg = i := nI_clamp (by omega)
  unfold wX_extreme_82
  rw [ei]
  exact ⟨vp_in_nI hi (by decide), br_c (fun c => br_c (fun c2 => nm_r (nI_1 i) (h2 (Or.inr c2))) (fun c2 => nm_r (nI_1 i) (h1 c c2))) (fun c => nm_r (nI_1 i) (h2 (Or.inl c)))⟩
theorem an_y104 {post : Int32 → SY → Prop} {J : Int32 → Int32 → Int32 → Prop} {x1 x2 s z : Int32} {i : Nat} (hi : i < 256) (hs : s = 0 ∨ s = 1) (h0 : s = 0 → ¬ yf i = 0 → J z 0 (nI (i + 1))) (h1 : s = 1 ∨ yf i = 0 → J z 1 (nI (i + 1))) : wY_extreme_104 post J x1 x2 s (nI i) z ys yk ya yb yn ym yp yf ye := by
  have ei : (nI i).toNatClampNeg = i := nI_clamp (by omega)
  unfold wY_extreme_104
  rw [ei]
  exact br_c (fun c => ⟨vp_in_nI hi (by decide), br_c (fun c2 => nm_r (nI_1 i) (h1 (Or.inr c2))) (fun c2 => nm_r (nI_1 i) (h0 c c2))⟩) (fun c => nm_r (nI_1 i) (h1 (Or.inl (hs.resolve_left c))))
theorem an_extreme {a b : Nat} (ha : a < 4) (hb : b ≤ 1) (hv : ∀ i, i < 256 → ¬ en (4 * i + a) = -1000000000) : ∀ (d i : Nat) (best s : Int32), i + d = 256 → ((s = 0 ∧ best = -1000000000) ∨ (s = 1 ∧ ¬ best = -1000000000)) → ∃ r : Int32, (∀ post : Int32 → SX → Prop, post r (sz, wy, kn, kd, pr, nb, po, dn, ip, rg, ho, pa, fl, en, mk) → wX_extreme_31 post (nI a) (nI b) sz wy kn kd pr nb po dn ip rg ho pa fl en mk (d + 1) best (nI i)) ∧ (∀ yp yf ye : Nat → Int32, an_ag pa fl en yp yf ye → ∀ post : Int32 → SY → Prop, post r (ys, yk, ya, yb, yn, ym, yp, yf, ye) → wY_extreme_13 post (nI a) (nI b) ys yk ya yb yn ym yp yf ye (d + 1) best s (nI i)) := by
  have p0 : ¬ nI a < 0 := nI_pos (by omega)
  have p3 : ¬ 3 < nI a := nI_nlt (a := 3) (by omega) (by omega)
  intro d
  induction d with
  | zero =>
    intro i best s h _
    have e : (256 : Int32) ≤ nI i := nI_le (a := 256) (by omega) (by omega)
    exact ⟨best, fun _ hp => br_t e hp, fun _ _ _ _ _ hp => br_t e hp⟩
  | succ d ih =>
    intro i best s h hs
    have e : ¬ (256 : Int32) ≤ nI i := nI_ge (b := 256) (by omega) (by decide)
    have ei : (nI i).toNatClampNeg = i := nI_clamp (by omega)
    have hi : vp_in (nI i) 256 := vp_in_nI (by omega) (by decide)
    have e4 : 4 * nI i + nI a = nI (4 * i + a) := by rw [show 4 * nI i = nI (4 * i) from pk_mul 4 i, nI_add]
    have ee : (nI (4 * i + a)).toNatClampNeg = 4 * i + a := nI_clamp (by omega)
    have h4 : vp_in (nI (4 * i + a)) 1024 := vp_in_nI (by omega) (by decide)
    have hs01 : s = 0 ∨ s = 1 := by rcases hs with q | q; exact Or.inl q.1; exact Or.inr q.1
    -- Y's way into the body
    have HY : ∀ (yp yf ye : Nat → Int32) (post : Int32 → SY → Prop), wY_extreme_39 post (wY_extreme_13 post (nI a) (nI b) ys yk ya yb yn ym yp yf ye (d + 1)) (nI a) (nI b) best s (nI i) ys yk ya yb yn ym yp yf ye → wY_extreme_13 post (nI a) (nI b) ys yk ya yb yn ym yp yf ye (d + 1 + 1) best s (nI i) := by
      intro yp yf ye post hh
      refine br_f e (br_f p0 (br_f p3 (pk_eq b 0 (fun _ => hh) (fun b0 => pk_eq b 1 (fun _ => hh) (fun b1 => by omega)))))
    by_cases f : fl i = 0
    · -- the value stands for best from now on, or best stays
      have T1 : ∃ r : Int32, ∀ dummy : Nat, (∀ post : Int32 → SX → Prop, post r (sz, wy, kn, kd, pr, nb, po, dn, ip, rg, ho, pa, fl, en, mk) → wX_extreme_31 post (nI a) (nI b) sz wy kn kd pr nb po dn ip rg ho pa fl en mk (d + 1) (en (4 * i + a)) (nI (i + 1))) ∧ (∀ yp yf ye : Nat → Int32, an_ag pa fl en yp yf ye → ∀ post : Int32 → SY → Prop, post r (ys, yk, ya, yb, yn, ym, yp, yf, ye) → wY_extreme_13 post (nI a) (nI b) ys yk ya yb yn ym yp yf ye (d + 1) (en (4 * i + a)) 1 (nI (i + 1))) := by
        obtain ⟨r, hh⟩ := ih (i + 1) (en (4 * i + a)) 1 (by omega) (Or.inr ⟨rfl, hv i (by omega)⟩)
        exact ⟨r, fun _ => hh⟩
      obtain ⟨rv, hv1⟩ := T1
      obtain ⟨xv, yv⟩ := hv1 0
      rcases hs with ⟨s0, b0⟩ | ⟨s1, b1⟩
      · refine ⟨rv, fun post hp => br_f e ?_, fun yp yf ye ag post hp => HY yp yf ye post ?_⟩
        · rw [e4, ee]
          exact ⟨h4, nm_e (br_t b0 (an_x82 (by omega) (fun _ _ => xv post hp) (fun z => absurd z (fun q => q.elim (fun q => q f) (by decide)))))⟩
        · unfold wY_extreme_39
          rw [e4, ee, ei, (ag i (by omega)).2.1, (ag i (by omega)).2.2 a ha]
          refine ⟨h4, nm_e ⟨hi, br_t f (br_t s0 (br_f (by decide) (an_y104 (by omega) hs01 (fun _ z => absurd ((ag i (by omega)).2.1.trans f) z) (fun _ => yv yp yf ye ag post hp))))⟩⟩
      · obtain ⟨rb, xb, yb'⟩ := ih (i + 1) best 1 (by omega) (Or.inr ⟨rfl, b1⟩)
        have s0 : ¬ s = 0 := by rw [s1]; decide
        -- X and Y, when the value is better and when it isn't
        have X1 : ∀ post : Int32 → SX → Prop, post rv (sz, wy, kn, kd, pr, nb, po, dn, ip, rg, ho, pa, fl, en, mk) → wX_extreme_82 post (wX_extreme_31 post (nI a) (nI b) sz wy kn kd pr nb po dn ip rg ho pa fl en mk (d + 1)) (nI a) (nI b) best (nI i) (en (4 * i + a)) 1 sz wy kn kd pr nb po dn ip rg ho pa fl en mk := fun post hp => an_x82 (by omega) (fun _ _ => xv post hp) (fun z => absurd z (fun q => q.elim (fun q => q f) (by decide)))
        have X0 : ∀ post : Int32 → SX → Prop, post rb (sz, wy, kn, kd, pr, nb, po, dn, ip, rg, ho, pa, fl, en, mk) → wX_extreme_82 post (wX_extreme_31 post (nI a) (nI b) sz wy kn kd pr nb po dn ip rg ho pa fl en mk (d + 1)) (nI a) (nI b) best (nI i) (en (4 * i + a)) 0 sz wy kn kd pr nb po dn ip rg ho pa fl en mk := fun post hp => an_x82 (by omega) (fun _ z => absurd rfl z) (fun _ => xb post hp)
        have Y1 : ∀ yp yf ye : Nat → Int32, an_ag pa fl en yp yf ye → ∀ post : Int32 → SY → Prop, post rv (ys, yk, ya, yb, yn, ym, yp, yf, ye) → wY_extreme_91 post (wY_extreme_13 post (nI a) (nI b) ys yk ya yb yn ym yp yf ye (d + 1)) (nI a) (nI b) best s (nI i) (en (4 * i + a)) 1 ys yk ya yb yn ym yp yf ye := fun yp yf ye ag post hp => br_f (by decide) (an_y104 (by omega) hs01 (fun z => absurd z s0) (fun _ => yv yp yf ye ag post hp))
        have Y0 : ∀ yp yf ye : Nat → Int32, an_ag pa fl en yp yf ye → ∀ post : Int32 → SY → Prop, post rb (ys, yk, ya, yb, yn, ym, yp, yf, ye) → wY_extreme_91 post (wY_extreme_13 post (nI a) (nI b) ys yk ya yb yn ym yp yf ye (d + 1)) (nI a) (nI b) best s (nI i) (en (4 * i + a)) 0 ys yk ya yb yn ym yp yf ye := fun yp yf ye ag post hp => br_t rfl (an_y104 (by omega) hs01 (fun z => absurd z s0) (fun _ => yb' yp yf ye ag post hp))
        by_cases bz : b = 0
        · have bb : nI b = 0 := by rw [bz]; rfl
          by_cases g : best ≤ en (4 * i + a)
          · refine ⟨rb, fun post hp => br_f e ?_, fun yp yf ye ag post hp => HY yp yf ye post ?_⟩
            · rw [e4, ee]; exact ⟨h4, nm_e (br_f b1 (br_t bb (br_t g (X0 post hp))))⟩
            · unfold wY_extreme_39
              rw [e4, ee, ei, (ag i (by omega)).2.1, (ag i (by omega)).2.2 a ha]
              exact ⟨h4, nm_e ⟨hi, br_t f (br_f s0 (br_t bb (br_t g (Y0 yp yf ye ag post hp))))⟩⟩
          · refine ⟨rv, fun post hp => br_f e ?_, fun yp yf ye ag post hp => HY yp yf ye post ?_⟩
            · rw [e4, ee]; exact ⟨h4, nm_e (br_f b1 (br_t bb (br_f g (X1 post hp))))⟩
            · unfold wY_extreme_39
              rw [e4, ee, ei, (ag i (by omega)).2.1, (ag i (by omega)).2.2 a ha]
              exact ⟨h4, nm_e ⟨hi, br_t f (br_f s0 (br_t bb (br_f g (Y1 yp yf ye ag post hp))))⟩⟩
        · have bb : ¬ nI b = 0 := nI_ne0 (by omega) (by omega)
          by_cases g : en (4 * i + a) ≤ best
          · refine ⟨rb, fun post hp => br_f e ?_, fun yp yf ye ag post hp => HY yp yf ye post ?_⟩
            · rw [e4, ee]; exact ⟨h4, nm_e (br_f b1 (br_f bb (br_t g (X0 post hp))))⟩
            · unfold wY_extreme_39
              rw [e4, ee, ei, (ag i (by omega)).2.1, (ag i (by omega)).2.2 a ha]
              exact ⟨h4, nm_e ⟨hi, br_t f (br_f s0 (br_f bb (br_t g (Y0 yp yf ye ag post hp))))⟩⟩
          · refine ⟨rv, fun post hp => br_f e ?_, fun yp yf ye ag post hp => HY yp yf ye post ?_⟩
            · rw [e4, ee]; exact ⟨h4, nm_e (br_f b1 (br_f bb (br_f g (X1 post hp))))⟩
            · unfold wY_extreme_39
              rw [e4, ee, ei, (ag i (by omega)).2.1, (ag i (by omega)).2.2 a ha]
              exact ⟨h4, nm_e ⟨hi, br_t f (br_f s0 (br_f bb (br_f g (Y1 yp yf ye ag post hp))))⟩⟩
    · obtain ⟨r, hx, hy⟩ := ih (i + 1) best s (by omega) hs
      have HX : ∀ (post : Int32 → SX → Prop) (z : Int32), post r (sz, wy, kn, kd, pr, nb, po, dn, ip, rg, ho, pa, fl, en, mk) → wX_extreme_82 post (wX_extreme_31 post (nI a) (nI b) sz wy kn kd pr nb po dn ip rg ho pa fl en mk (d + 1)) (nI a) (nI b) best (nI i) (en (4 * i + a)) z sz wy kn kd pr nb po dn ip rg ho pa fl en mk := fun post z hp => an_x82 (by omega) (fun q _ => absurd q f) (fun _ => hx post hp)
      refine ⟨r, fun post hp => br_f e ?_, fun yp yf ye ag post hp => HY yp yf ye post ?_⟩
      · rw [e4, ee]
        exact ⟨h4, nm_e (br_c (fun _ => HX post 1 hp) (fun _ => br_c (fun _ => br_c (fun _ => HX post 0 hp) (fun _ => HX post 1 hp)) (fun _ => br_c (fun _ => HX post 0 hp) (fun _ => HX post 1 hp))))⟩
      · have f' : ¬ yf i = 0 := by rw [(ag i (by omega)).2.1]; exact f
        unfold wY_extreme_39
        rw [e4, ee, ei]
        refine ⟨h4, nm_e ⟨hi, br_f f' (br_t rfl (an_y104 (by omega) hs01 (fun z _ => ?_) (fun z => ?_)))⟩⟩
        · rw [← z]; exact hy yp yf ye ag post hp
        · have : s = 1 := z.resolve_right f'
          rw [← this]; exact hy yp yf ye ag post hp
/-! unmarked -/
theorem an_unm {P : Nat → Nat} (hP : ∀ i, i < 256 → P i < 4096 ∧ (mk i = 0 ↔ ym (P i) = 0)) : ∀ (d i : Nat), i + d = 256 → ∃ r : Int32, (∀ post : Int32 → Prop, post r → wX_unmarked_2 post sz wy kn kd pr nb po dn ip rg ho pa fl en mk (d + 1) (nI i)) ∧ (∀ yp yf ye : Nat → Int32, (∀ i, i < 256 → yp i = nI (P i)) → ∀ post : Int32 → SY → Prop, post r (ys, yk, ya, yb, yn, ym, yp, yf, ye) → wY_unmarked_6 post ys yk ya yb yn ym yp yf ye (d + 1) (nI i)) := by
  intro d
  induction d with
  | zero =>
    intro i h
    have e : (256 : Int32) ≤ nI i := nI_le (a := 256) (by omega) (by omega)
    exact ⟨-1, fun _ hp => br_t e hp, fun _ _ _ _ _ hp => br_t e hp⟩
  | succ d ih =>
    intro i h
    have e : ¬ (256 : Int32) ≤ nI i := nI_ge (b := 256) (by omega) (by decide)
    have ei : (nI i).toNatClampNeg = i := nI_clamp (by omega)
    have hi : vp_in (nI i) 256 := vp_in_nI (by omega) (by decide)
    obtain ⟨hq, hm⟩ := hP i (by omega)
    have eq : (nI (P i)).toNatClampNeg = P i := nI_clamp (by omega)
    have iq : vp_in (nI (P i)) 4096 := vp_in_nI hq (by decide)
    by_cases b : mk i = 0
    · refine ⟨nI i, fun post hp => br_f e ⟨hi, ?_⟩, fun yp yf ye ag post hp => br_f e ⟨hi, ?_⟩⟩
      · rw [ei]; exact br_t b hp
      · rw [ei, ag i (by omega), eq]; exact ⟨iq, br_t (hm.mp b) hp⟩
    · obtain ⟨r, hx, hy⟩ := ih (i + 1) (by omega)
      refine ⟨r, fun post hp => br_f e ⟨hi, ?_⟩, fun yp yf ye ag post hp => br_f e ⟨hi, ?_⟩⟩
      · rw [ei]; exact br_f b (nm_r (nI_1 i) (hx post hp))
      · rw [ei, ag i (by omega), eq]; exact ⟨iq, br_f (fun z => b (hm.mpr z)) (nm_r (nI_1 i) (hy yp yf ye ag post hp))⟩
end
/-! counting -/
noncomputable def an_cn (g : Nat → Prop) : Nat → Nat
  | 0 => 0
  | n + 1 => an_cn g n + @ite Nat (g n) (Classical.propDecidable _) 1 0
theorem an_cn_t {g : Nat → Prop} {n : Nat} (h : g n) : an_cn g (n + 1) = an_cn g n + 1 := congrArg (an_cn g n + ·) (if_pos h)
theorem an_cn_f {g : Nat → Prop} {n : Nat} (h : ¬ g n) : an_cn g (n + 1) = an_cn g n := congrArg (an_cn g n + ·) (if_neg h)
theorem an_cn_c {g g' : Nat → Prop} : ∀ n, (∀ i, i < n → (g i ↔ g' i)) → an_cn g n = an_cn g' n := by
  intro n
  induction n with
  | zero => intro _; rfl
  | succ n ih =>
    intro h
    have e := ih (fun i hi => h i (by omega))
    by_cases c : g n
    · rw [an_cn_t c, an_cn_t ((h n (by omega)).mp c), e]
    · rw [an_cn_f c, an_cn_f (fun z => c ((h n (by omega)).mpr z)), e]
theorem an_cn_0 {g : Nat → Prop} : ∀ n, (∀ i, i < n → ¬ g i) → an_cn g n = 0 := by
  intro n
  induction n with
  | zero => intro _; rfl
  | succ n ih => intro h; rw [an_cn_f (h n (by omega)), ih (fun i hi => h i (by omega))]
theorem an_cn_le {g : Nat → Prop} : ∀ n, an_cn g n ≤ n := by
  intro n
  induction n with
  | zero => exact Nat.le_refl _
  | succ n ih =>
    by_cases c : g n
    · rw [an_cn_t c]; omega
    · rw [an_cn_f c]; omega
theorem an_cn_a {g g' : Nat → Prop} {q : Nat} (hq : ¬ g q) : ∀ n, q < n → (∀ i, i < n → (g' i ↔ g i ∨ i = q)) → an_cn g' n = an_cn g n + 1 := by
  intro n
  induction n with
  | zero => intro h; omega
  | succ n ih =>
    intro h k
    by_cases e : q = n
    · subst e
      rw [an_cn_t ((k q (by omega)).mpr (Or.inr rfl)), an_cn_f hq, an_cn_c (g := g') (g' := g) q]
      intro i hi
      exact (k i (by omega)).trans ⟨fun z => z.resolve_right (by omega), Or.inl⟩
    · have r := ih (by omega) (fun i hi => k i (by omega))
      by_cases c : g n
      · rw [an_cn_t c, an_cn_t ((k n (by omega)).mpr (Or.inl c)), r]
      · rw [an_cn_f c, an_cn_f (fun z => ((k n (by omega)).mp z).elim c (by omega)), r]
/-- the first inputs of the paths with A are as many as the paths with A that occur -/
theorem an_bij {A : Nat → Prop} {P : Nat → Nat} : ∀ M, (∀ i, i < M → P i < 4096) → an_cn (fun i => A (P i) ∧ ∀ j, j < i → ¬ P j = P i) M = an_cn (fun q => A q ∧ ∃ j, j < M ∧ P j = q) 4096 := by
  intro M
  induction M with
  | zero =>
    intro _
    exact (an_cn_0 4096 (fun q _ z => by obtain ⟨_, j, hj, _⟩ := z; omega)).symm
  | succ M ih =>
    intro h
    have r := ih (fun i hi => h i (by omega))
    by_cases c : A (P M) ∧ ∀ j, j < M → ¬ P j = P M
    · rw [an_cn_t (g := fun i => A (P i) ∧ ∀ j, j < i → ¬ P j = P i) c, r]
      refine (an_cn_a (q := P M) (fun z => ?_) 4096 (h M (by omega)) (fun q hq => ?_)).symm
      · obtain ⟨_, j, hj, e⟩ := z
        exact c.2 j hj e
      · constructor
        · intro z
          obtain ⟨z1, j, hj, e⟩ := z
          by_cases e2 : j = M
          · right; rw [← e, e2]
          · left; exact ⟨z1, j, by omega, e⟩
        · intro z
          rcases z with ⟨z1, j, hj, e⟩ | e
          · exact ⟨z1, j, by omega, e⟩
          · exact ⟨by rw [e]; exact c.1, M, by omega, e.symm⟩
    · rw [an_cn_f (g := fun i => A (P i) ∧ ∀ j, j < i → ¬ P j = P i) c, r]
      refine an_cn_c 4096 (fun q hq => ?_)
      constructor
      · intro z
        obtain ⟨z1, j, hj, e⟩ := z
        exact ⟨z1, j, by omega, e⟩
      · intro z
        obtain ⟨z1, j, hj, e⟩ := z
        by_cases e2 : j = M
        · subst e2
          apply Classical.byContradiction
          intro w
          apply c
          refine ⟨by rw [e]; exact z1, fun j' hj' e' => w ⟨z1, j', hj', e'.trans e⟩⟩
        · exact ⟨z1, j, by omega, e⟩
section
variable {n : Nat} {sz wy kn ys : Int32} {kd pr nb po dn ip rg ho pa fl en mk yk ya yb yn ym yp yf ye : Nat → Int32}
theorem an_markX {post : Int32 → SX → Prop} {a : Nat} (ha : a < 256) (hm : ∀ i, i < 256 → mk i = 0 ∨ mk i = 1) (h : ∀ mk' : Nat → Int32, (∀ i, i < 256 → (mk' i = 0 ∨ mk' i = 1) ∧ (mk' i = 0 ↔ mk i = 0 ∧ ¬ pa i = pa a)) → post (nI (an_cn (fun i => ¬ (mk i = 0 ∧ ¬ pa i = pa a) ∧ ∀ j, j < i → ¬ pa j = pa i) 256)) (sz, wy, kn, kd, pr, nb, po, dn, ip, rg, ho, pa, fl, en, mk')) : ∃ n, wX_mark_17 post (nI a) sz wy kn n 0 0 kd pr nb po dn ip rg ho pa fl en mk := by
  have ea : (nI a).toNatClampNeg = a := nI_clamp (by omega)
  refine loop_0 (fun n i (s : Int32 × (Nat → Int32)) => wX_mark_17 post (nI a) sz wy kn n s.1 (nI i) kd pr nb po dn ip rg ho pa fl en s.2) (fun i s => s.1 = nI (an_cn (fun i => ¬ (mk i = 0 ∧ ¬ pa i = pa a) ∧ ∀ j, j < i → ¬ pa j = pa i) i) ∧ (∀ j, j < i → (s.2 j = 0 ∨ s.2 j = 1) ∧ (s.2 j = 0 ↔ mk j = 0 ∧ ¬ pa j = pa a)) ∧ ∀ j, i ≤ j → s.2 j = mk j) 256 (0, mk) ⟨rfl, fun j hj => by omega, fun j hj => rfl⟩ (fun n s hs => br_t (nI_le (a := 256) (b := 256) (by omega) (by decide)) ?_) (fun n i s hi hs ih => ?_)
  · obtain ⟨s1, s2, _⟩ := hs
    show post s.1 (sz, wy, kn, kd, pr, nb, po, dn, ip, rg, ho, pa, fl, en, s.2)
    rw [s1]
    exact h s.2 s2
  obtain ⟨s1, s2, s3⟩ := hs
  have ei : (nI i).toNatClampNeg = i := nI_clamp (by omega)
  have inn : vp_in (nI i) 256 := vp_in_nI hi (by decide)
  have K : ∀ z : Int32, (z = 0 ∨ z = 1) → (z = 0 ↔ ¬ pa i = pa a) → wX_mark_51 post (wX_mark_17 post (nI a) sz wy kn n) (nI a) s.1 (nI i) z (s.2 i) (nI i) sz wy kn kd pr nb po dn ip rg ho pa fl en s.2 := by
    intro z hz hz2
    have e2 : s.2 i = mk i := s3 i (by omega)
    obtain ⟨o1, o2⟩ := xc_or (hm i hi) hz
    have en0 : vp_nar .boolean (s.2 i ||| z) = mk i ||| z := by
      rw [e2]
      rcases o1 with q | q <;> rw [q] <;> rfl
    unfold wX_mark_51
    rw [ei, en0]
    have NX : ∀ c : Int32, c = nI (an_cn (fun i => ¬ (mk i = 0 ∧ ¬ pa i = pa a) ∧ ∀ j, j < i → ¬ pa j = pa i) (i + 1)) → wX_mark_17 post (nI a) sz wy kn n c (nI (i + 1)) kd pr nb po dn ip rg ho pa fl en (upd s.2 i (mk i ||| z)) := by
      intro c hc
      refine ih (c, upd s.2 i (mk i ||| z)) ⟨hc, fun j hj => ?_, fun j hj => ?_⟩
      · dsimp only
        by_cases e : j = i
        · rw [e, pk_us]
          exact ⟨o1, by rw [o2, hz2]⟩
        · rw [pk_un e]; exact s2 j (by omega)
      · dsimp only
        rw [pk_un (by omega)]; exact s3 j (by omega)
    refine ⟨inn, nm_e ⟨inn, ?_⟩⟩
    rw [pk_us]
    refine br_c (fun c => ?_) (fun c => ?_)
    · refine nm_r (Int32.add_zero s.1) (nm_r (nI_1 i) (NX _ ?_))
      rw [s1, an_cn_f (fun q => q.1 (by rw [← hz2, ← o2]; exact c))]
    · obtain ⟨l, hl⟩ := an_lst pa i
      refine an_flX hi hl ?_
      refine br_c (fun g => ?_) (fun g => ?_)
      · refine nm_e (nm_r (nI_1 i) (NX _ ?_))
        have el : l = i := (nI_eq (by have := hl.1; omega) (by omega)).mp g
        subst el
        rw [s1, nI_1, an_cn_t]
        exact ⟨fun q => c (by rw [o2, hz2]; exact q), hl.2.2⟩
      · refine nm_r (Int32.add_zero s.1) (nm_r (nI_1 i) (NX _ ?_))
        rw [s1, an_cn_f]
        intro q
        have hlt : l < i := by
          have h1 := hl.1
          have h2 : l ≠ i := fun z => g (by rw [z])
          omega
        exact q.2 l hlt hl.2.1
  refine br_f (nI_ge (b := 256) hi (by decide)) ?_
  rw [ei, ea]
  exact ⟨inn, inn, vp_in_nI ha (by decide), br_c (fun c => K 1 (Or.inr rfl) ⟨fun z => absurd z (by decide), fun z => absurd c z⟩) (fun c => K 0 (Or.inl rfl) ⟨fun _ => c, fun _ => rfl⟩)⟩
theorem an_markY {post : Int32 → SY → Prop} (h : post (nI (an_cn (fun q => ¬ ym q = 0) 4096)) (ys, yk, ya, yb, yn, ym, yp, yf, ye)) : ∃ n, wY_mark_30 post ys yk ya yb yn ym yp yf ye n 0 0 := by
  refine loop_0 (fun n i (s : Int32) => wY_mark_30 post ys yk ya yb yn ym yp yf ye n s (nI i)) (fun i s => s = nI (an_cn (fun q => ¬ ym q = 0) i)) 4096 0 rfl (fun n s hs => br_t (nI_le (a := 4096) (b := 4096) (by omega) (by decide)) (by rw [hs]; exact h)) (fun n i s hi hs ih => ?_)
  have ei : (nI i).toNatClampNeg = i := nI_clamp (by omega)
  refine br_f (nI_ge (b := 4096) hi (by decide)) ⟨vp_in_nI hi (by decide), ?_⟩
  rw [ei]
  refine br_c (fun c => nm_r (nI_1 i) (ih s ?_)) (fun c => nm_e (nm_r (nI_1 i) (ih _ ?_)))
  · rw [hs, an_cn_f (fun z => z c)]
  · rw [hs, nI_1, an_cn_t (g := fun q => ¬ ym q = 0) c]
end
end
section
/-! the owed answers -/
theorem an_ix {x : Int32} {n : Nat} (hn : n < 2 ^ 31) (h : ¬ (x < 0 ∨ nI n ≤ x)) : ∃ j : Nat, j < n ∧ x = nI j := by
  rcases pk_ix x hn with z | z | z
  · exact absurd (Or.inl z) h
  · exact absurd (Or.inr z) h
  · exact z

theorem i_vc_reach {k : Nat} {u : SX} {v : SY} (I : i_Rel k u v) (hk : k + 4 ≤ 2048) (v1 : Int32) : wpX_reach (fun r u' => wpY_reach (fun r' v' => r' = r ∧ i_Rel (k + 4) u' v') v v1) u v1 := by
  obtain ⟨sz, wy, kn, kd, pr, nb, po, dn, ip, rg, ho, pa, fl, en, mk⟩ := u
  obtain ⟨ys, yk, ya, yb, yn, ym, yp, yf, ye⟩ := v
  obtain ⟨n, K, Q, rfl, rfl, ok, hX, hY, hkn, hm⟩ := I
  have hn := ok.1
  unfold wpX_reach wpY_reach
  dsimp only
  by_cases hv : v1 < 0 ∨ nI n ≤ v1
  · exact an_st0 hv (br_t rfl (yr_work ok hY (fun yp' yf' ye' hr => ⟨1, br_f (nI_ge (a := 0) (b := 256) (by omega) (by decide)) (an_is0 hv (br_t rfl (an_is0 hv (br_t rfl ⟨rfl, an_rel ok hX hY hkn hm⟩))))⟩)))
  · obtain ⟨j, hj, rfl⟩ := an_ix (by omega) hv
    refine an_st1 hn hj (br_f (by decide) ?_)
    refine xl_learn ok hX hkn (fun wy po dn ip rg ho pa fl en hr => ?_)
    dsimp only
    obtain ⟨r, hx, hy⟩ := an_reach (sz := nI n) (wy := wy) (kn := 1) (kd := kd) (pr := pr) (nb := nb) (po := po) (dn := dn) (ip := ip) (rg := rg) (ho := ho) (pa := pa) (fl := fl) (en := en) (mk := mk) (yk := yk) (ya := ya) (yb := yb) (yn := yn) (ym := ym) hn hj 256 0 0 rfl
    exact ⟨257, hx _ (yr_work ok hY (fun yp' yf' ye' hr' => ⟨257, hy yp' yf' ye' (an_same hr hr') _ ⟨rfl, an_rel ok hX hY (Or.inr ⟨rfl, hr⟩) hm⟩⟩))⟩

theorem i_vc_firstAt {k : Nat} {u : SX} {v : SY} (I : i_Rel k u v) (hk : k + 4 ≤ 2048) (v1 : Int32) (v2 : Int32) : wpX_firstAt (fun r u' => wpY_firstAt (fun r' v' => r' = r ∧ i_Rel (k + 4) u' v') v v1 v2) u v1 v2 := by
  obtain ⟨sz, wy, kn, kd, pr, nb, po, dn, ip, rg, ho, pa, fl, en, mk⟩ := u
  obtain ⟨ys, yk, ya, yb, yn, ym, yp, yf, ye⟩ := v
  obtain ⟨n, K, Q, rfl, rfl, ok, hX, hY, hkn, hm⟩ := I
  have hn := ok.1
  unfold wpX_firstAt wpY_firstAt
  dsimp only
  by_cases hv : v1 < 0 ∨ nI n ≤ v1
  · exact an_st0 hv (br_t rfl (yr_work ok hY (fun yp' yf' ye' hr => ⟨1, br_f (nI_ge (a := 0) (b := 256) (by omega) (by decide)) (an_is0 hv (br_t rfl ⟨rfl, an_rel ok hX hY hkn hm⟩))⟩)))
  · obtain ⟨j, hj, rfl⟩ := an_ix (by omega) hv
    refine an_st1 hn hj (br_f (by decide) ?_)
    refine xl_learn ok hX hkn (fun wy po dn ip rg ho pa fl en hr => ?_)
    dsimp only
    by_cases c : v2 < 0
    · obtain ⟨r, hx, hy⟩ := an_fa (sz := nI n) (wy := wy) (kn := 1) (kd := kd) (pr := pr) (nb := nb) (po := po) (dn := dn) (ip := ip) (rg := rg) (ho := ho) (pa := pa) (fl := fl) (en := en) (mk := mk) (yk := yk) (ya := ya) (yb := yb) (yn := yn) (ym := ym) hn hj 256 0 rfl
      exact br_f (Int32.not_le.mpr c) ⟨257, hx _ (yr_work ok hY (fun yp' yf' ye' hr' => ⟨257, hy yp' yf' ye' (an_same hr hr') v2 (fun q _ h2 => an_pos c (by omega)) _ ⟨rfl, an_rel ok hX hY (Or.inr ⟨rfl, hr⟩) hm⟩⟩))⟩
    · obtain ⟨s, hs, rfl⟩ := nI_of c
      refine br_t (nI_pos' hs) ?_
      by_cases c2 : s < 256
      · obtain ⟨r, hx, hy⟩ := an_fa (sz := nI n) (wy := wy) (kn := 1) (kd := kd) (pr := pr) (nb := nb) (po := po) (dn := dn) (ip := ip) (rg := rg) (ho := ho) (pa := pa) (fl := fl) (en := en) (mk := mk) (yk := yk) (ya := ya) (yb := yb) (yn := yn) (ym := ym) hn hj (256 - s) s (by omega)
        refine ⟨256 - s + 1, hx _ (yr_work ok hY (fun yp' yf' ye' hr' => ⟨256 - s + 1 + s, an_faS (s := s) hn hj (by omega) (fun q hq => nI_lt hq hs) ?_ s 0 (by omega)⟩))⟩
        exact hy yp' yf' ye' (an_same hr hr') _ (fun q h1 h2 => nI_nlt h1 (by omega)) _ ⟨rfl, an_rel ok hX hY (Or.inr ⟨rfl, hr⟩) hm⟩
      · refine ⟨1, br_t (nI_le (a := 256) (by omega) hs) (yr_work ok hY (fun yp' yf' ye' hr' => ⟨1 + 256, an_faS (s := 256) hn hj (by omega) (fun q hq => nI_lt (by omega) hs) ?_ 256 0 (by omega)⟩))⟩
        exact br_t (nI_le (a := 256) (b := 256) (by omega) (by decide)) ⟨rfl, an_rel ok hX hY (Or.inr ⟨rfl, hr⟩) hm⟩

theorem i_vc_failing {k : Nat} {u : SX} {v : SY} (I : i_Rel k u v) (hk : k + 4 ≤ 2048) : wpX_failing (fun r u' => wpY_failing (fun r' v' => r' = r ∧ i_Rel (k + 4) u' v') v) u := by
  obtain ⟨sz, wy, kn, kd, pr, nb, po, dn, ip, rg, ho, pa, fl, en, mk⟩ := u
  obtain ⟨ys, yk, ya, yb, yn, ym, yp, yf, ye⟩ := v
  obtain ⟨n, K, Q, rfl, rfl, ok, hX, hY, hkn, hm⟩ := I
  have hn := ok.1
  unfold wpX_failing wpY_failing
  dsimp only
  · refine xl_learn ok hX hkn (fun wy po dn ip rg ho pa fl en hr => ?_)
    dsimp only
    obtain ⟨r, hx, hy⟩ := an_failing (sz := nI n) (wy := wy) (kn := 1) (kd := kd) (pr := pr) (nb := nb) (po := po) (dn := dn) (ip := ip) (rg := rg) (ho := ho) (pa := pa) (fl := fl) (en := en) (mk := mk) (ys := nI n) (yk := yk) (ya := ya) (yb := yb) (yn := yn) (ym := ym) 256 0 0 rfl
    exact ⟨257, hx _ (yr_work ok hY (fun yp' yf' ye' hr' => ⟨257, hy yp' yf' ye' (an_same hr hr') _ ⟨rfl, an_rel ok hX hY (Or.inr ⟨rfl, hr⟩) hm⟩⟩))⟩

theorem i_vc_firstFailing {k : Nat} {u : SX} {v : SY} (I : i_Rel k u v) (hk : k + 4 ≤ 2048) (v1 : Int32) : wpX_firstFailing (fun r u' => wpY_firstFailing (fun r' v' => r' = r ∧ i_Rel (k + 4) u' v') v v1) u v1 := by
  obtain ⟨sz, wy, kn, kd, pr, nb, po, dn, ip, rg, ho, pa, fl, en, mk⟩ := u
  obtain ⟨ys, yk, ya, yb, yn, ym, yp, yf, ye⟩ := v
  obtain ⟨n, K, Q, rfl, rfl, ok, hX, hY, hkn, hm⟩ := I
  have hn := ok.1
  unfold wpX_firstFailing wpY_firstFailing
  dsimp only
  · refine xl_learn ok hX hkn (fun wy po dn ip rg ho pa fl en hr => ?_)
    dsimp only
    by_cases c : v1 < 0
    · obtain ⟨r, hx, hy⟩ := an_ff (sz := nI n) (wy := wy) (kn := 1) (kd := kd) (pr := pr) (nb := nb) (po := po) (dn := dn) (ip := ip) (rg := rg) (ho := ho) (pa := pa) (fl := fl) (en := en) (mk := mk) (ys := nI n) (yk := yk) (ya := ya) (yb := yb) (yn := yn) (ym := ym) 256 0 rfl
      exact br_f (Int32.not_le.mpr c) ⟨257, hx _ (yr_work ok hY (fun yp' yf' ye' hr' => ⟨257, hy yp' yf' ye' (an_same hr hr') v1 (fun q _ h2 => an_pos c (by omega)) _ ⟨rfl, an_rel ok hX hY (Or.inr ⟨rfl, hr⟩) hm⟩⟩))⟩
    · obtain ⟨s, hs, rfl⟩ := nI_of c
      refine br_t (nI_pos' hs) ?_
      by_cases c2 : s < 256
      · obtain ⟨r, hx, hy⟩ := an_ff (sz := nI n) (wy := wy) (kn := 1) (kd := kd) (pr := pr) (nb := nb) (po := po) (dn := dn) (ip := ip) (rg := rg) (ho := ho) (pa := pa) (fl := fl) (en := en) (mk := mk) (ys := nI n) (yk := yk) (ya := ya) (yb := yb) (yn := yn) (ym := ym) (256 - s) s (by omega)
        refine ⟨256 - s + 1, hx _ (yr_work ok hY (fun yp' yf' ye' hr' => ⟨256 - s + 1 + s, an_ffS (s := s) (by omega) (fun q hq => nI_lt hq hs) ?_ s 0 (by omega)⟩))⟩
        exact hy yp' yf' ye' (an_same hr hr') _ (fun q h1 h2 => nI_nlt h1 (by omega)) _ ⟨rfl, an_rel ok hX hY (Or.inr ⟨rfl, hr⟩) hm⟩
      · refine ⟨1, br_t (nI_le (a := 256) (by omega) hs) (yr_work ok hY (fun yp' yf' ye' hr' => ⟨1 + 256, an_ffS (s := 256) (by omega) (fun q hq => nI_lt (by omega) hs) ?_ 256 0 (by omega)⟩))⟩
        exact br_t (nI_le (a := 256) (b := 256) (by omega) (by decide)) ⟨rfl, an_rel ok hX hY (Or.inr ⟨rfl, hr⟩) hm⟩

theorem i_vc_paths {k : Nat} {u : SX} {v : SY} (I : i_Rel k u v) (hk : k + 4 ≤ 2048) : wpX_paths (fun r u' => wpY_paths (fun r' v' => r' = r ∧ i_Rel (k + 4) u' v') v) u := by
  obtain ⟨sz, wy, kn, kd, pr, nb, po, dn, ip, rg, ho, pa, fl, en, mk⟩ := u
  obtain ⟨ys, yk, ya, yb, yn, ym, yp, yf, ye⟩ := v
  obtain ⟨n, K, Q, rfl, rfl, ok, hX, hY, hkn, hm⟩ := I
  have hn := ok.1
  unfold wpX_paths wpY_paths
  dsimp only
  · refine xl_learn ok hX hkn (fun wy po dn ip rg ho pa fl en hr => ?_)
    dsimp only
    obtain ⟨r, hx, hy⟩ := an_paths (sz := nI n) (wy := wy) (kn := 1) (kd := kd) (pr := pr) (nb := nb) (po := po) (dn := dn) (ip := ip) (rg := rg) (ho := ho) (pa := pa) (fl := fl) (en := en) (mk := mk) (ys := nI n) (yk := yk) (ya := ya) (yb := yb) (yn := yn) (ym := ym) 256 0 0 rfl
    exact ⟨257, hx _ (yr_work ok hY (fun yp' yf' ye' hr' => ⟨257, hy yp' yf' ye' (an_same hr hr') _ ⟨rfl, an_rel ok hX hY (Or.inr ⟨rfl, hr⟩) hm⟩⟩))⟩

theorem i_vc_alike {k : Nat} {u : SX} {v : SY} (I : i_Rel k u v) (hk : k + 4 ≤ 2048) (v1 : Int32) : wpX_alike (fun r u' => wpY_alike (fun r' v' => r' = r ∧ i_Rel (k + 4) u' v') v v1) u v1 := by
  obtain ⟨sz, wy, kn, kd, pr, nb, po, dn, ip, rg, ho, pa, fl, en, mk⟩ := u
  obtain ⟨ys, yk, ya, yb, yn, ym, yp, yf, ye⟩ := v
  obtain ⟨n, K, Q, rfl, rfl, ok, hX, hY, hkn, hm⟩ := I
  have hn := ok.1
  unfold wpX_alike wpY_alike
  dsimp only
  by_cases hv : v1 < 0 ∨ nI 256 ≤ v1
  · exact an_xi0 hv (br_t rfl (yr_work ok hY (fun yp' yf' ye' hr => ⟨1, br_f (nI_ge (a := 0) (b := 256) (by omega) (by decide)) (an_yi0 hv (br_t rfl (an_yi0 hv (br_t rfl ⟨rfl, an_rel ok hX hY hkn hm⟩))))⟩)))
  · obtain ⟨a, ha, rfl⟩ := an_ix (by omega) hv
    refine an_xi1 ha (br_f (by decide) ?_)
    refine xl_learn ok hX hkn (fun wy po dn ip rg ho pa fl en hr => ?_)
    dsimp only
    obtain ⟨r, hx, hy⟩ := an_alike (sz := nI n) (wy := wy) (kn := 1) (kd := kd) (pr := pr) (nb := nb) (po := po) (dn := dn) (ip := ip) (rg := rg) (ho := ho) (pa := pa) (fl := fl) (en := en) (mk := mk) (ys := nI n) (yk := yk) (ya := ya) (yb := yb) (yn := yn) (ym := ym) ha 256 0 0 rfl
    exact ⟨257, hx _ (yr_work ok hY (fun yp' yf' ye' hr' => ⟨257, hy yp' yf' ye' (an_same hr hr') _ ⟨rfl, an_rel ok hX hY (Or.inr ⟨rfl, hr⟩) hm⟩⟩))⟩

theorem i_vc_first {k : Nat} {u : SX} {v : SY} (I : i_Rel k u v) (hk : k + 4 ≤ 2048) (v1 : Int32) : wpX_first (fun r u' => wpY_first (fun r' v' => r' = r ∧ i_Rel (k + 4) u' v') v v1) u v1 := by
  obtain ⟨sz, wy, kn, kd, pr, nb, po, dn, ip, rg, ho, pa, fl, en, mk⟩ := u
  obtain ⟨ys, yk, ya, yb, yn, ym, yp, yf, ye⟩ := v
  obtain ⟨n, K, Q, rfl, rfl, ok, hX, hY, hkn, hm⟩ := I
  have hn := ok.1
  unfold wpX_first wpY_first
  dsimp only
  by_cases hv : v1 < 0 ∨ nI 256 ≤ v1
  · exact an_xi0 hv (br_t rfl (yr_work ok hY (fun yp' yf' ye' hr => an_yi0 hv (br_t rfl ⟨rfl, an_rel ok hX hY hkn hm⟩))))
  · obtain ⟨a, ha, rfl⟩ := an_ix (by omega) hv
    refine an_xi1 ha (br_f (by decide) ?_)
    refine xl_learn ok hX hkn (fun wy po dn ip rg ho pa fl en hr => ?_)
    dsimp only
    obtain ⟨l, hl⟩ := an_lst pa a
    exact an_flX ha hl (yr_work ok hY (fun yp' yf' ye' hr' => an_yi1 ha (br_f (by decide) (an_flY ha (an_L_ag ha (an_same hr hr') hl) ⟨rfl, an_rel ok hX hY (Or.inr ⟨rfl, hr⟩) hm⟩))))

theorem i_vc_mark {k : Nat} {u : SX} {v : SY} (I : i_Rel k u v) (hk : k + 4 ≤ 2048) (v1 : Int32) : wpX_mark (fun r u' => wpY_mark (fun r' v' => r' = r ∧ i_Rel (k + 4) u' v') v v1) u v1 := by
  obtain ⟨sz, wy, kn, kd, pr, nb, po, dn, ip, rg, ho, pa, fl, en, mk⟩ := u
  obtain ⟨ys, yk, ya, yb, yn, ym, yp, yf, ye⟩ := v
  obtain ⟨n, K, Q, rfl, rfl, ok, hX, hY, hkn, hm⟩ := I
  have hn := ok.1
  unfold wpX_mark wpY_mark
  dsimp only
  by_cases hv : v1 < 0 ∨ nI 256 ≤ v1
  · exact an_xi0 hv (br_t rfl (an_yi0 hv (br_t rfl ⟨rfl, an_rel ok hX hY hkn hm⟩)))
  · obtain ⟨a, ha, rfl⟩ := an_ix (by omega) hv
    refine an_xi1 ha (br_f (by decide) ?_)
    refine xl_learn ok hX hkn (fun wy po dn ip rg ho pa fl en hr => ?_)
    dsimp only
    refine an_markX ha (fun i hi => (hm.1 i hi).1) (fun mk' hmk => ?_)
    refine an_yi1 ha (br_f (by decide) (yr_work ok hY (fun yp' yf' ye' hr' => ?_)))
    dsimp only
    have ea : (nI a).toNatClampNeg = a := nI_clamp (by omega)
    have hPl : ∀ i, i < 256 → (pg_out n K Q yn i).1 < 4096 := fun i hi => (pg_out_good ok hi).1
    have ePa : (nI (pg_out n K Q yn a).1).toNatClampNeg = (pg_out n K Q yn a).1 := nI_clamp (by have := hPl a ha; omega)
    rw [ea, (hr' a ha).1, ePa]
    refine ⟨vp_in_nI ha (by decide), vp_in_nI (hPl a ha) (by decide), nm_r (e' := upd ym (pg_out n K Q yn a).1 1) rfl (an_markY ⟨?_, ?_⟩)⟩
    · -- the two counts
      have hpe : ∀ i j, i < 256 → j < 256 → (pa i = pa j ↔ (pg_out n K Q yn i).1 = (pg_out n K Q yn j).1) := fun i j hi hj => by
        rw [(hr i hi).1, (hr j hj).1]
        exact nI_eq (by have := hPl i hi; omega) (by have := hPl j hj; omega)
      have hA : ∀ i, i < 256 → (¬ (mk i = 0 ∧ ¬ pa i = pa a) ↔ ¬ upd ym (pg_out n K Q yn a).1 1 (pg_out n K Q yn i).1 = 0) := fun i hi => by
        rw [hpe i a hi ha]
        by_cases c : (pg_out n K Q yn i).1 = (pg_out n K Q yn a).1
        · rw [c, pk_us]
          exact ⟨fun _ => by decide, fun _ z => z.2 rfl⟩
        · rw [pk_un c, (hm.1 i hi).2]
          exact ⟨fun z q => z ⟨q, c⟩, fun z q => z q.1⟩
      refine congrArg nI ?_
      have e1 := an_bij (A := fun q => ¬ upd ym (pg_out n K Q yn a).1 1 q = 0) (P := fun i => (pg_out n K Q yn i).1) 256 hPl
      have e2 : an_cn (fun i => ¬ (mk i = 0 ∧ ¬ pa i = pa a) ∧ ∀ j, j < i → ¬ pa j = pa i) 256 = an_cn (fun i => ¬ upd ym (pg_out n K Q yn a).1 1 (pg_out n K Q yn i).1 = 0 ∧ ∀ j, j < i → ¬ (pg_out n K Q yn j).1 = (pg_out n K Q yn i).1) 256 := by
        refine an_cn_c 256 (fun i hi => ?_)
        rw [hA i hi]
        exact ⟨fun z => ⟨z.1, fun j hj q => z.2 j hj ((hpe j i (by omega) hi).mpr q)⟩, fun z => ⟨z.1, fun j hj q => z.2 j hj ((hpe j i (by omega) hi).mp q)⟩⟩
      rw [e2, e1]
      refine an_cn_c 4096 (fun q hq => ⟨fun z => ⟨z, ?_⟩, fun z => z.1⟩)
      by_cases c : q = (pg_out n K Q yn a).1
      · exact ⟨a, ha, c.symm⟩
      · rw [pk_un c] at z
        exact hm.2 q hq z
    · refine an_rel ok hX hY (Or.inr ⟨rfl, hr⟩) ⟨fun i hi => ⟨(hmk i hi).1, ?_⟩, fun q hq z => ?_⟩
      · rw [(hmk i hi).2, (hr i hi).1, (hr a ha).1, nI_eq (by have := hPl i hi; omega) (by have := hPl a ha; omega), (hm.1 i hi).2]
        by_cases c : (pg_out n K Q yn i).1 = (pg_out n K Q yn a).1
        · rw [c, pk_us]
          exact ⟨fun z => absurd rfl z.2, fun z => absurd z (by decide)⟩
        · rw [pk_un c]
          exact ⟨fun z => z.1, fun z => ⟨z, c⟩⟩
      · by_cases c : q = (pg_out n K Q yn a).1
        · exact ⟨a, ha, c.symm⟩
        · rw [pk_un c] at z
          exact hm.2 q hq z

theorem i_vc_unmarked {k : Nat} {u : SX} {v : SY} (I : i_Rel k u v) (hk : k + 4 ≤ 2048) : wpX_unmarked (fun r => wpY_unmarked (fun r' v' => r' = r ∧ i_Rel (k + 4) u v') v) u := by
  obtain ⟨sz, wy, kn, kd, pr, nb, po, dn, ip, rg, ho, pa, fl, en, mk⟩ := u
  obtain ⟨ys, yk, ya, yb, yn, ym, yp, yf, ye⟩ := v
  obtain ⟨n, K, Q, rfl, rfl, ok, hX, hY, hkn, hm⟩ := I
  have hn := ok.1
  unfold wpX_unmarked wpY_unmarked
  dsimp only
  obtain ⟨r, hx, hy⟩ := an_unm (P := fun i => (pg_out n K Q yn i).1) (sz := nI n) (wy := wy) (kn := kn) (kd := kd) (pr := pr) (nb := nb) (po := po) (dn := dn) (ip := ip) (rg := rg) (ho := ho) (pa := pa) (fl := fl) (en := en) (mk := mk) (ys := nI n) (yk := yk) (ya := ya) (yb := yb) (yn := yn) (ym := ym) (fun i hi => ⟨(pg_out_good ok hi).1, (hm.1 i hi).2⟩) 256 0 rfl
  exact ⟨257, hx _ (yr_work ok hY (fun yp' yf' ye' hr' => ⟨257, hy yp' yf' ye' (fun i hi => (hr' i hi).1) _ ⟨rfl, an_rel ok hX hY hkn hm⟩⟩))⟩

theorem i_vc_extreme {k : Nat} {u : SX} {v : SY} (I : i_Rel k u v) (hk : k + 4 ≤ 2048) (v1 : Int32) (v2 : Int32) : wpX_extreme (fun r u' => wpY_extreme (fun r' v' => r' = r ∧ i_Rel (k + 4) u' v') v v1 v2) u v1 v2 := by
  obtain ⟨sz, wy, kn, kd, pr, nb, po, dn, ip, rg, ho, pa, fl, en, mk⟩ := u
  obtain ⟨ys, yk, ya, yb, yn, ym, yp, yf, ye⟩ := v
  obtain ⟨n, K, Q, rfl, rfl, ok, hX, hY, hkn, hm⟩ := I
  have hn := ok.1
  unfold wpX_extreme wpY_extreme
  dsimp only
  have e0 : ¬ (256 : Int32) ≤ nI 0 := nI_ge (a := 0) (b := 256) (by omega) (by decide)
  by_cases c0 : v1 < 0
  · exact br_t c0 (yr_work ok hY (fun yp' yf' ye' hr => ⟨1, br_f e0 (br_t c0 ⟨rfl, an_rel ok hX hY hkn hm⟩)⟩))
  by_cases c3 : 3 < v1
  · exact br_f c0 (br_t c3 (yr_work ok hY (fun yp' yf' ye' hr => ⟨1, br_f e0 (br_f c0 (br_t c3 ⟨rfl, an_rel ok hX hY hkn hm⟩))⟩)))
  by_cases d0 : v2 < 0
  · have z0 : ¬ v2 = 0 := fun z => by rw [z] at d0; exact absurd d0 (by decide)
    have z1 : ¬ v2 = 1 := fun z => by rw [z] at d0; exact absurd d0 (by decide)
    exact br_f c0 (br_f c3 (br_t d0 (yr_work ok hY (fun yp' yf' ye' hr => ⟨1, br_f e0 (br_f c0 (br_f c3 (br_f z0 (br_f z1 ⟨rfl, an_rel ok hX hY hkn hm⟩))))⟩))))
  by_cases d1 : v2 ≤ 1
  · obtain ⟨a, ha0, rfl⟩ := nI_of c0
    have ha : a < 4 := by
      have : ¬ 3 < a := fun z => c3 (nI_lt (a := 3) z ha0)
      omega
    obtain ⟨b, hb, rfl⟩ := nI_of2 (n := 1) (by decide) d0 d1
    refine br_f c0 (br_f c3 (br_f d0 (br_t d1 ?_)))
    refine xl_learn ok hX hkn (fun wy po dn ip rg ho pa fl en hr => ?_)
    dsimp only
    have hv : ∀ i, i < 256 → ¬ en (4 * i + a) = -1000000000 := fun i hi z => by
      have g := (pg_out_good ok hi).2.2 a ha
      rw [← (hr i hi).2.2 a ha, z] at g
      exact absurd g.1 (by decide)
    obtain ⟨r, hx, hy⟩ := an_extreme (sz := nI n) (wy := wy) (kn := 1) (kd := kd) (pr := pr) (nb := nb) (po := po) (dn := dn) (ip := ip) (rg := rg) (ho := ho) (pa := pa) (fl := fl) (en := en) (mk := mk) (ys := nI n) (yk := yk) (ya := ya) (yb := yb) (yn := yn) (ym := ym) ha hb hv 256 0 (-1000000000) 0 rfl (Or.inl ⟨rfl, rfl⟩)
    exact ⟨257, hx _ (yr_work ok hY (fun yp' yf' ye' hr' => ⟨257, hy yp' yf' ye' (an_same hr hr') _ ⟨rfl, an_rel ok hX hY (Or.inr ⟨rfl, hr⟩) hm⟩⟩))⟩
  · have z0 : ¬ v2 = 0 := fun z => d1 (by rw [z]; decide)
    have z1 : ¬ v2 = 1 := fun z => d1 (by rw [z]; decide)
    exact br_f c0 (br_f c3 (br_f d0 (br_f d1 (yr_work ok hY (fun yp' yf' ye' hr => ⟨1, br_f e0 (br_f c0 (br_f c3 (br_f z0 (br_f z1 ⟨rfl, an_rel ok hX hY hkn hm⟩))))⟩)))))

theorem i_vc_ending {k : Nat} {u : SX} {v : SY} (I : i_Rel k u v) (hk : k + 4 ≤ 2048) (v1 : Int32) (v2 : Int32) : wpX_ending (fun r u' => wpY_ending (fun r' v' => r' = r ∧ i_Rel (k + 4) u' v') v v1 v2) u v1 v2 := by
  obtain ⟨sz, wy, kn, kd, pr, nb, po, dn, ip, rg, ho, pa, fl, en, mk⟩ := u
  obtain ⟨ys, yk, ya, yb, yn, ym, yp, yf, ye⟩ := v
  obtain ⟨n, K, Q, rfl, rfl, ok, hX, hY, hkn, hm⟩ := I
  have hn := ok.1
  unfold wpX_ending wpY_ending
  dsimp only
  have e0 : ¬ (256 : Int32) ≤ nI 0 := nI_ge (a := 0) (b := 256) (by omega) (by decide)
  by_cases c0 : v1 < 0
  · exact br_t c0 (yr_work ok hY (fun yp' yf' ye' hr => ⟨1, br_f e0 (br_t c0 ⟨rfl, an_rel ok hX hY hkn hm⟩)⟩))
  by_cases c3 : v1 ≤ 3
  · obtain ⟨a, ha, rfl⟩ := nI_of2 (n := 3) (by decide) c0 c3
    refine br_f c0 (br_t c3 ?_)
    refine xl_learn ok hX hkn (fun wy po dn ip rg ho pa fl en hr => ?_)
    dsimp only
    obtain ⟨r, hx, hy⟩ := an_ending (x := v2) (sz := nI n) (wy := wy) (kn := 1) (kd := kd) (pr := pr) (nb := nb) (po := po) (dn := dn) (ip := ip) (rg := rg) (ho := ho) (pa := pa) (fl := fl) (en := en) (mk := mk) (ys := nI n) (yk := yk) (ya := ya) (yb := yb) (yn := yn) (ym := ym) (show a < 4 by omega) 256 0 0 rfl
    exact ⟨257, hx _ (yr_work ok hY (fun yp' yf' ye' hr' => ⟨257, hy yp' yf' ye' (an_same hr hr') _ ⟨rfl, an_rel ok hX hY (Or.inr ⟨rfl, hr⟩) hm⟩⟩))⟩
  · have c3' : 3 < v1 := Int32.not_le.mp c3
    exact br_f c0 (br_f c3 (yr_work ok hY (fun yp' yf' ye' hr => ⟨1, br_f e0 (br_f c0 (br_t c3' ⟨rfl, an_rel ok hX hY hkn hm⟩))⟩)))

theorem i_vc_steps {k : Nat} {u : SX} {v : SY} (I : i_Rel k u v) (hk : k + 4 ≤ 2048) (v1 : Int32) : wpX_steps (fun r u' => wpY_steps (fun r' v' => r' = r ∧ i_Rel (k + 4) u' v') v v1) u v1 := by
  obtain ⟨sz, wy, kn, kd, pr, nb, po, dn, ip, rg, ho, pa, fl, en, mk⟩ := u
  obtain ⟨ys, yk, ya, yb, yn, ym, yp, yf, ye⟩ := v
  obtain ⟨n, K, Q, rfl, rfl, ok, hX, hY, hkn, hm⟩ := I
  have hn := ok.1
  unfold wpX_steps wpY_steps
  dsimp only
  by_cases hv : v1 < 0 ∨ nI 256 ≤ v1
  · exact an_xi0 hv (br_t rfl (yr_work ok hY (fun yp' yf' ye' hr => ⟨1, br_f (nI_ge (a := 0) (b := 12) (by omega) (by decide)) (an_yi0 hv (br_t rfl (an_yi0 hv (br_t rfl ⟨rfl, an_rel ok hX hY hkn hm⟩))))⟩)))
  · obtain ⟨a, ha, rfl⟩ := an_ix (by omega) hv
    refine an_xi1 ha (br_f (by decide) ?_)
    refine xl_learn ok hX hkn (fun wy po dn ip rg ho pa fl en hr => ?_)
    dsimp only
    obtain ⟨r, hx, hy⟩ := an_steps (sz := nI n) (wy := wy) (kn := 1) (kd := kd) (pr := pr) (nb := nb) (po := po) (dn := dn) (ip := ip) (rg := rg) (ho := ho) (pa := pa) (fl := fl) (en := en) (mk := mk) (ys := nI n) (yk := yk) (ya := ya) (yb := yb) (yn := yn) (ym := ym) ha 12 0 0 rfl
    exact ⟨13, hx _ (yr_work ok hY (fun yp' yf' ye' hr' => ⟨13, hy yp' yf' ye' (an_same hr hr') _ ⟨rfl, an_rel ok hX hY (Or.inr ⟨rfl, hr⟩) hm⟩⟩))⟩
end
