section
/-! pure rows to paste: stores, nI and lN arithmetic, masks, shifts, narrowing, branches by naturals (pk_le, pk_lt, pk_eq), loops (lp1 .. lp16: the measure of the state; rp1 ..: recursion), negatives. Take what you need -/
theorem pk_us {f : Nat → Int32} {k : Nat} {x : Int32} : upd f k x k = x := if_pos rfl
theorem pk_un {f : Nat → Int32} {k j : Nat} {x : Int32} (h : j ≠ k) : upd f k x j = f j := if_neg h
theorem pk_uLs {f : Nat → Int64} {k : Nat} {x : Int64} : vp_updL f k x k = x := if_pos rfl
theorem pk_uLn {f : Nat → Int64} {k j : Nat} {x : Int64} (h : j ≠ k) : vp_updL f k x j = f j := if_neg h
theorem pk_sub {a b : Nat} (h : b ≤ a) : nI a - nI b = nI (a - b) := by
  obtain ⟨c, rfl⟩ : ∃ c, a = c + b := ⟨a - b, by omega⟩
  rw [← nI_add, Int32.add_sub_cancel, Nat.add_sub_cancel]
theorem pk_m1 (n : Nat) : nI (n + 1) + (-1) = nI n := by
  rw [← nI_1, Int32.add_assoc, show (1 : Int32) + (-1) = 0 from rfl, Int32.add_zero]
theorem pk_mul (a b : Nat) : nI a * nI b = nI (a * b) := (Int32.ofNat_mul a b).symm
theorem pk_div {a d : Nat} (ha : a < 2 ^ 31) (h0 : 0 < d) (hd : d < 2 ^ 31) : nI a / nI d = nI (a / d) := by
  apply Int32.toInt_inj.mp
  rw [lg_idiv_nonneg (by rw [nI_toInt ha]; omega) (by rw [nI_toInt hd]; omega), nI_toInt ha, nI_toInt hd, nI_toInt (Nat.lt_of_le_of_lt (Nat.div_le_self a d) ha)]
  first | rfl | exact (Int.natCast_ediv _ _).symm
theorem pk_rem {a d : Nat} (ha : a < 2 ^ 31) (h0 : 0 < d) (hd : d < 2 ^ 31) : nI a - nI a / nI d * nI d = nI (a % d) := by
  rw [pk_div ha h0 hd, pk_mul, pk_sub (Nat.div_mul_le_self a d)]
  exact congrArg nI (by have := Nat.div_add_mod' a d; omega)
theorem pk_sub_toInt {a b : Nat} (ha : a < 2 ^ 30) (hb : b < 2 ^ 30) : (nI a - nI b).toInt = (a : Int) - b := by
  rw [Int32.toInt_sub, nI_toInt (by omega), nI_toInt (by omega)]
  exact Int.bmod_eq_of_le (by omega) (by omega)
theorem pk_sneg {a b : Nat} (hb : b < 2 ^ 30) (h : a < b) : nI a - nI b < 0 := by
  rw [Int32.lt_iff_toInt_lt, pk_sub_toInt (by omega) hb, show (0 : Int32).toInt = 0 from by decide]
  omega
theorem pk_ix (x : Int32) {n : Nat} (hn : n < 2 ^ 31) : x < 0 ∨ nI n ≤ x ∨ ∃ j : Nat, j < n ∧ x = nI j := by
  by_cases h : x < 0
  · exact Or.inl h
  · obtain ⟨j, hj, rfl⟩ := nI_of h
    by_cases h2 : j < n
    · exact Or.inr (Or.inr ⟨j, h2, rfl⟩)
    · exact Or.inr (Or.inl (nI_le (by omega) hj))
theorem pk_le {x y : Int32} {A B : Prop} (a b : Nat) (f : a ≤ b → A) (g : b < a → B) (hx : x = nI a := by rfl) (hy : y = nI b := by rfl) (ha : a < 2 ^ 31 := by omega) (hb : b < 2 ^ 31 := by omega) : (x ≤ y → A) ∧ (¬ x ≤ y → B) := by
  subst hx hy
  rw [nI_leI ha hb]
  exact ⟨f, fun z => g (by omega)⟩
theorem pk_lt {x y : Int32} {A B : Prop} (a b : Nat) (f : a < b → A) (g : b ≤ a → B) (hx : x = nI a := by rfl) (hy : y = nI b := by rfl) (ha : a < 2 ^ 31 := by omega) (hb : b < 2 ^ 31 := by omega) : (x < y → A) ∧ (¬ x < y → B) := by
  subst hx hy
  rw [nI_ltI ha hb]
  exact ⟨f, fun z => g (by omega)⟩
theorem pk_eq {x y : Int32} {A B : Prop} (a b : Nat) (f : a = b → A) (g : a ≠ b → B) (hx : x = nI a := by rfl) (hy : y = nI b := by rfl) (ha : a < 2 ^ 31 := by omega) (hb : b < 2 ^ 31 := by omega) : (x = y → A) ∧ (¬ x = y → B) := by
  subst hx hy
  rw [nI_eq ha hb]
  exact ⟨f, g⟩
theorem pk_in {x : Int32} (n N : Nat) (h : n < N) (hx : x = nI n := by rfl) (hN : N < 2 ^ 31 := by omega) : vp_in x N := by
  subst hx
  exact vp_in_nI h hN
theorem pk_cl {x : Int32} (n : Nat) (hx : x = nI n := by rfl) (h : n < 2 ^ 31 := by omega) : x.toNatClampNeg = n := by
  subst hx
  exact nI_clamp h
theorem pk_tn {n : Nat} (h : n < 2 ^ 32) : (nI n).toBitVec.toNat = n := Nat.mod_eq_of_lt h
theorem pk_and (x : Int32) {m : Int32} (k : Nat) (hm : m.toBitVec.toNat = 2 ^ k - 1) : x &&& m = nI (x.toBitVec.toNat % 2 ^ k) := by
  apply Int32.toBitVec_inj.mp
  apply BitVec.eq_of_toNat_eq
  rw [Int32.toBitVec_and, BitVec.toNat_and, hm, Nat.and_two_pow_sub_one_eq_mod]
  show _ = (BitVec.ofNat 32 _).toNat
  rw [BitVec.toNat_ofNat]
  exact (Nat.mod_eq_of_lt (Nat.lt_of_le_of_lt (Nat.mod_le _ _) x.toBitVec.isLt)).symm
theorem pk_andN {n : Nat} (h : n < 2 ^ 32) {m : Int32} (k : Nat) (hm : m.toBitVec.toNat = 2 ^ k - 1) : nI n &&& m = nI (n % 2 ^ k) := by
  rw [pk_and _ k hm, pk_tn h]
theorem pk_andE (x : Int32) {m : Int32} (k : Nat) (hm : m.toBitVec.toNat = 2 ^ k - 1) : ∃ j : Nat, j < 2 ^ k ∧ x &&& m = nI j := ⟨_, Nat.mod_lt _ (Nat.two_pow_pos k), pk_and x k hm⟩
theorem pk_andIn (x : Int32) {m : Int32} (k : Nat) (hm : m.toBitVec.toNat = 2 ^ k - 1) (hk : k ≤ 30) : vp_in (x &&& m) (2 ^ k) := by
  obtain ⟨j, hj, e⟩ := pk_andE x k hm
  rw [e]
  exact vp_in_nI hj (Nat.lt_of_le_of_lt (Nat.pow_le_pow_right (by decide) hk) (by decide))
theorem pk_shl (a s : Int32) (k : Nat) (hs : (s.toBitVec.smod 32).toNat = k) : (a <<< s).toBitVec.toNat = a.toBitVec.toNat * 2 ^ k % 2 ^ 32 := by
  show (a.toBitVec <<< (s.toBitVec.smod 32).toNat).toNat = _
  rw [hs, BitVec.toNat_shiftLeft, Nat.shiftLeft_eq]
theorem pk_shlN {n : Nat} (s : Int32) (k : Nat) (hs : (s.toBitVec.smod 32).toNat = k) (h : n * 2 ^ k < 2 ^ 32) : nI n <<< s = nI (n * 2 ^ k) := by
  apply Int32.toBitVec_inj.mp
  apply BitVec.eq_of_toNat_eq
  have hn : n < 2 ^ 32 := Nat.lt_of_le_of_lt (Nat.le_mul_of_pos_right n (Nat.two_pow_pos k)) h
  rw [pk_shl _ _ k hs, pk_tn hn, pk_tn h, Nat.mod_eq_of_lt h]
theorem pk_shr (a s : Int32) (k : Nat) (hs : (s.toBitVec.smod 32).toNat = k) : (a >>> s).toInt = a.toInt >>> k := by
  show (a.toBitVec.sshiftRight (s.toBitVec.smod 32).toNat).toInt = _
  rw [hs, BitVec.toInt_sshiftRight]
  rfl
theorem pk_shrN {n : Nat} (h : n < 2 ^ 31) (s : Int32) (k : Nat) (hs : (s.toBitVec.smod 32).toNat = k) : nI n >>> s = nI (n / 2 ^ k) := by
  apply Int32.toInt_inj.mp
  have h2 : n / 2 ^ k ≤ n := Nat.div_le_self _ _
  rw [pk_shr _ _ k hs, nI_toInt h, nI_toInt (by omega), Int.shiftRight_eq_div_pow]
  rfl
theorem pk_ushr (x s : Int32) (k : Nat) (hs : ((s.toUInt32 &&& Int32.toUInt32 31).toBitVec % 32).toNat = k) : (x.toUInt32 >>> (s.toUInt32 &&& Int32.toUInt32 31)).toInt32.toBitVec.toNat = x.toBitVec.toNat / 2 ^ k := by
  have e : (x.toUInt32 >>> (s.toUInt32 &&& Int32.toUInt32 31)).toInt32.toBitVec = x.toBitVec >>> k := by
    rw [← hs]
    exact UInt32.toBitVec_shiftRight _ _
  rw [e, BitVec.toNat_ushiftRight, Nat.shiftRight_eq_div_pow]
theorem pk_ushrN {n : Nat} (hn : n < 2 ^ 32) (s : Int32) (k : Nat) (hs : ((s.toUInt32 &&& Int32.toUInt32 31).toBitVec % 32).toNat = k) : ((nI n).toUInt32 >>> (s.toUInt32 &&& Int32.toUInt32 31)).toInt32 = nI (n / 2 ^ k) := by
  apply Int32.toBitVec_inj.mp
  apply BitVec.eq_of_toNat_eq
  rw [pk_ushr _ s k hs, pk_tn hn, pk_tn (Nat.lt_of_le_of_lt (Nat.div_le_self _ _) hn)]
theorem pk_nb (z : Int32) : narrow .byte (.int z.toInt8.toInt32) = .int z.toInt8.toInt32 := congrArg Value.int (by simp)
theorem pk_ns (z : Int32) : narrow .short (.int z.toInt16.toInt32) = .int z.toInt16.toInt32 := congrArg Value.int (by simp)
theorem pk_fb (r : Int32) : fits .byte (.int r.toInt8.toInt32) = true := by
  have ⟨a, b⟩ := lg_i2b_range r
  have h1 : (-128 : Int32).toInt = -128 := by decide
  have h2 : (127 : Int32).toInt = 127 := by decide
  simp only [fits, Bool.and_eq_true, decide_eq_true_eq, Int32.le_iff_toInt_le, h1, h2]
  omega
theorem pk_fs (r : Int32) : fits .short (.int r.toInt16.toInt32) = true := by
  have ⟨a, b⟩ := lg_i2s_range r
  have h1 : (-32768 : Int32).toInt = -32768 := by decide
  have h2 : (32767 : Int32).toInt = 32767 := by decide
  simp only [fits, Bool.and_eq_true, decide_eq_true_eq, Int32.le_iff_toInt_le, h1, h2]
  omega
theorem pk_charN {q : Nat} (hq : q < 65536) : narrow .char (.int (nI q)) = .int (nI q) ∧ fits .char (.int (nI q)) = true := by
  constructor
  · have e : (nI q).toUInt32.toUInt16.toUInt32.toInt32 = nI q := by
      apply Int32.toBitVec_inj.mp
      apply BitVec.eq_of_toNat_eq
      show (nI q).toUInt32.toUInt16.toUInt32.toNat = q % 2 ^ 32
      rw [UInt16.toNat_toUInt32, UInt32.toNat_toUInt16, show (nI q).toUInt32.toNat = q % 2 ^ 32 from rfl]
      omega
    exact congrArg Value.int e
  · have a : (0 : Int32) ≤ nI q := nI_pos' (by omega)
    have b : nI q ≤ 65535 := nI_le (b := 65535) (by omega) (by decide)
    show (decide ((0 : Int32) ≤ nI q) && decide (nI q ≤ 65535)) = true
    rw [decide_eq_true a, decide_eq_true b]
    rfl
theorem pk_char (x : Int32) : (x.toUInt32 % 65536).toInt32 = nI (x.toBitVec.toNat % 65536) := by
  apply Int32.toBitVec_inj.mp
  apply BitVec.eq_of_toNat_eq
  rw [pk_tn (by omega)]
  show (x.toUInt32 % 65536).toNat = _
  rw [UInt32.toNat_mod]
  rfl
theorem pk_nc (x : Int32) : narrow .char (.int (x.toUInt32 % 65536).toInt32) = .int (x.toUInt32 % 65536).toInt32 := by
  rw [pk_char]
  exact (pk_charN (Nat.mod_lt _ (by decide))).1
theorem pk_fc (x : Int32) : fits .char (.int (x.toUInt32 % 65536).toInt32) = true := by
  rw [pk_char]
  exact (pk_charN (Nat.mod_lt _ (by decide))).2
theorem pk_vb (z : Int32) : vp_nar .byte z.toInt8.toInt32 = z.toInt8.toInt32 := by rw [vp_nar_byte]; simp
theorem pk_vs (z : Int32) : vp_nar .short z.toInt16.toInt32 = z.toInt16.toInt32 := by rw [vp_nar_short]; simp
theorem pk_vc (z : Int32) : vp_nar .char (z.toUInt32 % 65536).toInt32 = (z.toUInt32 % 65536).toInt32 := Value.int.inj (pk_nc z)
/-! rows on bits, shifts and unsigned numbers, to paste: each family out of a closed proof of our own, whole with what it rests on; each by itself clean at Lean in its own claim (generation 39, form 5). Take a family whole -/
/-! ===== Int32 by its bits: bt x i ===== -/
def bt (x : Int32) (i : Nat) : Bool := x.toBitVec.getLsbD i
theorem b_ext {x y : Int32} (h : ∀ i, i < 32 → bt x i = bt y i) : x = y := Int32.toBitVec_inj.mp (BitVec.eq_of_getLsbD_eq (fun i hi => h i hi))
theorem b_or (x y : Int32) (i : Nat) : bt (x ||| y) i = (bt x i || bt y i) := by unfold bt; rw [Int32.toBitVec_or, BitVec.getLsbD_or]
theorem b_and (x y : Int32) (i : Nat) : bt (x &&& y) i = (bt x i && bt y i) := by unfold bt; rw [Int32.toBitVec_and, BitVec.getLsbD_and]
theorem b_xor (x y : Int32) (i : Nat) : bt (x ^^^ y) i = (bt x i ^^ bt y i) := by unfold bt; rw [Int32.toBitVec_xor, BitVec.getLsbD_xor]
theorem b_big {x : Int32} {i : Nat} (h : 32 ≤ i) : bt x i = false := BitVec.getLsbD_of_ge _ _ h
theorem b_255 (i : Nat) : bt 255 i = decide (i < 8) := by
  rcases Nat.lt_or_ge i 32 with h | h
  · exact (by decide +kernel : ∀ i, i < 32 → bt 255 i = decide (i < 8)) i h
  · rw [b_big h, decide_eq_false (by omega)]
theorem b_65535 (i : Nat) : bt 65535 i = decide (i < 16) := by
  rcases Nat.lt_or_ge i 32 with h | h
  · exact (by decide +kernel : ∀ i, i < 32 → bt 65535 i = decide (i < 16)) i h
  · rw [b_big h, decide_eq_false (by omega)]
theorem b_m1 : ∀ i, i < 32 → bt (-1) i = true := by decide +kernel
theorem b_0 (i : Nat) : bt 0 i = false := BitVec.getLsbD_zero
theorem s_l : ∀ n, n < 32 → ((nI n &&& 31).toBitVec.smod 32).toNat = n := by decide +kernel
theorem s_u : ∀ n, n < 32 → (((nI n).toUInt32 &&& Int32.toUInt32 31).toBitVec % 32).toNat = n := by decide +kernel
theorem b_shl (n : Nat) (hn : n < 32) (x : Int32) {i : Nat} (hi : i < 32) : bt (x <<< (nI n &&& 31)) i = (decide (n ≤ i) && bt x (i - n)) := by
  unfold bt
  rw [Int32.toBitVec_shiftLeft]
  show (x.toBitVec <<< ((nI n &&& 31).toBitVec.smod 32).toNat).getLsbD i = _
  rw [s_l n hn, BitVec.getLsbD_shiftLeft]
  rcases Nat.lt_or_ge i n with h | h
  · simp [h, Nat.not_le.mpr h]
  · simp [hi, h, Nat.not_lt.mpr h]
theorem b_ushr (n : Nat) (hn : n < 32) (x : Int32) (i : Nat) : bt ((x.toUInt32 >>> ((nI n).toUInt32 &&& Int32.toUInt32 31)).toInt32) i = bt x (n + i) := by
  show (x.toUInt32 >>> ((nI n).toUInt32 &&& Int32.toUInt32 31)).toBitVec.getLsbD i = x.toUInt32.toBitVec.getLsbD (n + i)
  rw [UInt32.toBitVec_shiftRight]
  show (x.toUInt32.toBitVec >>> (((nI n).toUInt32 &&& Int32.toUInt32 31).toBitVec % 32).toNat).getLsbD i = _
  rw [s_u n hn, BitVec.getLsbD_ushiftRight]
theorem b_sshr (n : Nat) (hn : n < 32) (x : Int32) {i : Nat} (hi : i < 32) : bt (x >>> (nI n &&& 31)) i = if n + i < 32 then bt x (n + i) else bt x 31 := by
  unfold bt
  rw [Int32.toBitVec_shiftRight]
  show (x.toBitVec.sshiftRight ((nI n &&& 31).toBitVec.smod 32).toNat).getLsbD i = _
  rw [s_l n hn, BitVec.getLsbD_sshiftRight, BitVec.msb_eq_getLsbD_last]
  simp [hi]
theorem b_shl8 (x : Int32) {i : Nat} (hi : i < 32) : bt (x <<< ((8 : Int32) &&& 31)) i = (decide (8 ≤ i) && bt x (i - 8)) := b_shl 8 (by omega) x hi
theorem b_shl16 (x : Int32) {i : Nat} (hi : i < 32) : bt (x <<< ((16 : Int32) &&& 31)) i = (decide (16 ≤ i) && bt x (i - 16)) := b_shl 16 (by omega) x hi
theorem b_shl24 (x : Int32) {i : Nat} (hi : i < 32) : bt (x <<< ((24 : Int32) &&& 31)) i = (decide (24 ≤ i) && bt x (i - 24)) := b_shl 24 (by omega) x hi
theorem b_sshr8 (x : Int32) {i : Nat} (hi : i < 32) : bt (x >>> ((8 : Int32) &&& 31)) i = if 8 + i < 32 then bt x (8 + i) else bt x 31 := b_sshr 8 (by omega) x hi
/-! ===== nI under and, xor, >>>, one bit, 65535 ===== -/
theorem nx_and (a b : Nat) : nI a &&& nI b = nI (a &&& b) := by
  apply Int32.toBitVec_inj.1
  show BitVec.ofNat 32 a &&& BitVec.ofNat 32 b = BitVec.ofNat 32 (a &&& b)
  apply BitVec.eq_of_getLsbD_eq
  intro i hi
  simp [hi]
theorem nx_xor (a b : Nat) : nI a ^^^ nI b = nI (a ^^^ b) := by
  apply Int32.toBitVec_inj.1
  show BitVec.ofNat 32 a ^^^ BitVec.ofNat 32 b = BitVec.ofNat 32 (a ^^^ b)
  apply BitVec.eq_of_getLsbD_eq
  intro i hi
  simp [hi]
theorem nx_cnt : ∀ j : Fin 32, (UInt32.ofNat j.val &&& Int32.toUInt32 31).toNat % 32 = j.val := by decide +kernel
theorem nx_ush {k j : Nat} (hk : k < 65536) (hj : j < 32) : ((nI k).toUInt32 >>> ((nI j).toUInt32 &&& Int32.toUInt32 31)).toInt32 = nI (k >>> j) := by
  have hs : k >>> j ≤ k := by
    rw [Nat.shiftRight_eq_div_pow]
    exact Nat.div_le_self _ _
  have e2 : UInt32.ofNat k >>> (UInt32.ofNat j &&& Int32.toUInt32 31) = UInt32.ofNat (k >>> j) := by
    apply UInt32.toNat_inj.1
    have h1 : (UInt32.ofNat k).toNat = k := Nat.mod_eq_of_lt (by omega)
    have h2 : (UInt32.ofNat (k >>> j)).toNat = k >>> j := Nat.mod_eq_of_lt (by omega)
    rw [UInt32.toNat_shiftRight, nx_cnt ⟨j, hj⟩, h1, h2]
  show (UInt32.ofNat k >>> (UInt32.ofNat j &&& Int32.toUInt32 31)).toInt32 = _
  rw [e2]
  rfl
theorem nx_bit {k j : Nat} (hk : k < 65536) (hj : j < 16) : (((nI k).toUInt32 >>> ((nI j).toUInt32 &&& Int32.toUInt32 31)).toInt32 &&& 1) = 0 ↔ k.testBit j = false := by
  rw [nx_ush hk (by omega)]
  show nI (k >>> j) &&& nI 1 = 0 ↔ _
  rw [nx_and, Nat.and_one_is_mod, ← nI_0, nI_eq (by omega) (by omega), Nat.testBit_eq_decide_div_mod_eq, Nat.shiftRight_eq_div_pow, decide_eq_false_iff_not]
  generalize k / 2 ^ j = z
  omega
theorem nx_mod (k : Nat) : nI k &&& 65535 = nI (k % 65536) := by
  show nI k &&& nI 65535 = _
  rw [nx_and, show (65535 : Nat) = 2 ^ 16 - 1 from rfl, Nat.and_two_pow_sub_one_eq_mod]
theorem nx_m16 {k : Nat} (h : k < 65536) : nI k &&& 65535 = nI k := by rw [nx_mod, Nat.mod_eq_of_lt h]
theorem nx_mask (x : Int32) : ∃ k, k < 65536 ∧ x &&& 65535 = nI k := by
  have e : x = nI x.toBitVec.toNat := by
    apply Int32.toBitVec_inj.1
    show x.toBitVec = BitVec.ofNat 32 x.toBitVec.toNat
    simp
  refine ⟨x.toBitVec.toNat % 65536, Nat.mod_lt _ (by omega), ?_⟩
  rw [← nx_mod, ← e]
/-! ===== Int32 as a set of bits: test, set ===== -/
def nf_M (m : Int32) : Nat := 4294967296 - m.toBitVec.toNat
theorem nf_sh : ∀ l, l < 32 → ((1 : Int32) <<< (nI l &&& 31)).toBitVec = BitVec.twoPow 32 l := by decide +kernel
theorem nf_sl : ∀ l, l < 32 → (((nI l).toUInt32 &&& Int32.toUInt32 31).toBitVec % 32).toNat = l := by decide +kernel
theorem nf_tp : ∀ l, l < 32 → BitVec.twoPow 32 l ≠ 0#32 := by decide +kernel
theorem nf_bit (m : Int32) (l : Nat) (hl : l < 32) : ((m.toUInt32 >>> ((nI l).toUInt32 &&& Int32.toUInt32 31)).toInt32 &&& 1) = 0 ↔ (m &&& ((1 : Int32) <<< (nI l &&& 31))) = 0 := by
  have e : ((m.toUInt32 >>> ((nI l).toUInt32 &&& Int32.toUInt32 31)).toInt32).toBitVec = m.toBitVec >>> l := by
    show m.toBitVec >>> (((nI l).toUInt32 &&& Int32.toUInt32 31).toBitVec % 32) = m.toBitVec >>> l
    rw [BitVec.ushiftRight_eq', nf_sl l hl]
  rw [← Int32.toBitVec_inj, ← Int32.toBitVec_inj, Int32.toBitVec_and, Int32.toBitVec_and, nf_sh l hl, e, BitVec.and_twoPow]
  show (m.toBitVec >>> l &&& 1#32) = 0#32 ↔ _ = 0#32
  rw [BitVec.and_one_eq_setWidth_ofBool_getLsbD, BitVec.getLsbD_ushiftRight, Nat.add_zero]
  cases hb : m.toBitVec.getLsbD l
  · exact ⟨fun _ => by simp, fun _ => by decide⟩
  · exact ⟨fun z => absurd z (by decide), fun z => absurd ((if_pos rfl).symm.trans z) (nf_tp l hl)⟩
theorem nf_gr (m k : Int32) (h : m &&& k = 0) (hk : k ≠ 0) : nf_M (m ||| k) < nf_M m := by
  have hm := m.toBitVec.isLt
  have hm' := (m ||| k).toBitVec.isLt
  have h1 : m.toBitVec.toNat ≤ (m ||| k).toBitVec.toNat := by
    rw [Int32.toBitVec_or, BitVec.toNat_or]
    exact Nat.left_le_or
  have h2 : m.toBitVec.toNat ≠ (m ||| k).toBitVec.toNat := by
    intro e
    have e2 : m = m ||| k := Int32.toBitVec_inj.mp (BitVec.eq_of_toNat_eq e)
    apply hk
    apply Int32.toBitVec_inj.mp
    show k.toBitVec = 0#32
    apply BitVec.eq_of_getLsbD_eq
    intro i hi
    have a : m.toBitVec.getLsbD i = (m.toBitVec.getLsbD i || k.toBitVec.getLsbD i) := by rw [← BitVec.getLsbD_or, ← Int32.toBitVec_or, ← e2]
    have b : (m.toBitVec.getLsbD i && k.toBitVec.getLsbD i) = false := by
      rw [← BitVec.getLsbD_and, ← Int32.toBitVec_and, h]
      exact BitVec.getLsbD_zero
    rw [BitVec.getLsbD_zero]
    revert a b
    cases m.toBitVec.getLsbD i <;> cases k.toBitVec.getLsbD i <;> simp
  unfold nf_M
  omega
end
section
/-! sums, counts and masks below n -/
def cc_s (f : Nat → Nat) : Nat → Nat
  | 0 => 0
  | n + 1 => cc_s f n + f n
def cc_n (p : Nat → Bool) (n : Nat) : Nat := cc_s (fun i => (p i).toNat) n
theorem cc_s_add (f g : Nat → Nat) : ∀ n, cc_s (fun i => f i + g i) n = cc_s f n + cc_s g n
  | 0 => rfl
  | n + 1 => by
    have h := cc_s_add f g n
    show cc_s (fun i => f i + g i) n + (f n + g n) = (cc_s f n + f n) + (cc_s g n + g n)
    omega
theorem cc_s_le {f g : Nat → Nat} : ∀ {n : Nat}, (∀ i, i < n → f i ≤ g i) → cc_s f n ≤ cc_s g n
  | 0, _ => Nat.le_refl 0
  | n + 1, h => Nat.add_le_add (cc_s_le (fun i hi => h i (Nat.lt_succ_of_lt hi))) (h n (Nat.lt_succ_self n))
theorem cc_s_eq {f g : Nat → Nat} {n : Nat} (h : ∀ i, i < n → f i = g i) : cc_s f n = cc_s g n :=
  Nat.le_antisymm (cc_s_le (fun i hi => Nat.le_of_eq (h i hi))) (cc_s_le (fun i hi => Nat.le_of_eq (h i hi).symm))
theorem cc_s_tight {f g : Nat → Nat} : ∀ {n : Nat}, (∀ i, i < n → f i ≤ g i) → cc_s g n ≤ cc_s f n → ∀ i, i < n → f i = g i
  | 0, _, _ => fun i hi => absurd hi (Nat.not_lt_zero i)
  | n + 1, h, hs => by
    have h1 : cc_s f n ≤ cc_s g n := cc_s_le (fun i hi => h i (Nat.lt_succ_of_lt hi))
    have h2 := h n (Nat.lt_succ_self n)
    have h3 : cc_s g n + g n ≤ cc_s f n + f n := hs
    have h4 : cc_s g n ≤ cc_s f n := by omega
    have h5 : f n = g n := by omega
    intro i hi
    rcases Nat.lt_or_ge i n with z | z
    · exact cc_s_tight (fun i hi => h i (Nat.lt_succ_of_lt hi)) h4 i z
    · have e : i = n := by omega
      rw [e]; exact h5
theorem cc_s_zero {f : Nat → Nat} : ∀ {n : Nat}, (∀ i, i < n → f i = 0) → cc_s f n = 0
  | 0, _ => rfl
  | n + 1, h => by
    have h1 : cc_s f n = 0 := cc_s_zero (fun i hi => h i (Nat.lt_succ_of_lt hi))
    have h2 := h n (Nat.lt_succ_self n)
    show cc_s f n + f n = 0
    omega
theorem cc_s_one {f : Nat → Nat} {k : Nat} : ∀ {n : Nat}, k < n → (∀ i, i < n → i ≠ k → f i = 0) → cc_s f n = f k
  | 0, hk, _ => absurd hk (Nat.not_lt_zero k)
  | n + 1, hk, h => by
    show cc_s f n + f n = f k
    rcases Nat.lt_or_ge k n with z | z
    · have h1 := cc_s_one z (fun i hi ne => h i (Nat.lt_succ_of_lt hi) ne)
      have h2 := h n (Nat.lt_succ_self n) (by omega)
      omega
    · have e : k = n := by omega
      have h1 : cc_s f n = 0 := cc_s_zero (fun i hi => h i (Nat.lt_succ_of_lt hi) (by omega))
      rw [h1, e, Nat.zero_add]
theorem cc_s_swap (f : Nat → Nat → Nat) (m : Nat) : ∀ n, cc_s (fun i => cc_s (f i) m) n = cc_s (fun j => cc_s (fun i => f i j) n) m
  | 0 => (cc_s_zero (fun _ _ => rfl)).symm
  | n + 1 => by
    have h := cc_s_add (fun j => cc_s (fun i => f i j) n) (fun j => f n j) m
    show cc_s (fun i => cc_s (f i) m) n + cc_s (f n) m = _
    rw [cc_s_swap f m n]
    exact h.symm
theorem cc_n_le {p q : Nat → Bool} {n : Nat} (h : ∀ i, i < n → p i = true → q i = true) : cc_n p n ≤ cc_n q n :=
  cc_s_le (fun i hi => by
    show (p i).toNat ≤ (q i).toNat
    cases hp : p i
    · exact Nat.zero_le _
    · exact Nat.le_of_eq (by rw [h i hi hp]))
theorem cc_n_eq {p q : Nat → Bool} {n : Nat} (h : ∀ i, i < n → p i = q i) : cc_n p n = cc_n q n := cc_s_eq (fun i hi => congrArg Bool.toNat (h i hi))
theorem cc_n_bound (p : Nat → Bool) : ∀ n, cc_n p n ≤ n
  | 0 => Nat.le_refl 0
  | n + 1 => by
    have h := cc_n_bound p n
    have h2 : (p n).toNat ≤ 1 := Bool.toNat_le (p n)
    show cc_n p n + (p n).toNat ≤ n + 1
    omega
theorem cc_n_succ (p : Nat → Bool) (n : Nat) : cc_n p (n + 1) = cc_n p n + (p n).toNat := rfl
theorem cc_n_all {p : Nat → Bool} : ∀ {n : Nat}, (∀ i, i < n → p i = true) → cc_n p n = n
  | 0, _ => rfl
  | n + 1, h => by
    have h1 : cc_n p n = n := cc_n_all (fun i hi => h i (Nat.lt_succ_of_lt hi))
    rw [cc_n_succ, h1, h n (Nat.lt_succ_self n)]
    rfl
theorem cc_n_none {p : Nat → Bool} {n : Nat} (h : ∀ i, i < n → p i = false) : cc_n p n = 0 :=
  cc_s_zero (fun i hi => by show (p i).toNat = 0; rw [h i hi]; rfl)
theorem cc_n_single {n k : Nat} (hk : k < n) : cc_n (fun i => i == k) n = 1 := by
  have h : cc_s (fun i => (i == k).toNat) n = (k == k).toNat := cc_s_one (f := fun i => (i == k).toNat) hk (fun i _ ne => by
    show (i == k).toNat = 0
    rw [beq_false_of_ne ne]; rfl)
  have e : (k == k).toNat = 1 := by rw [beq_self_eq_true]; rfl
  exact h.trans e
theorem cc_n_add1 {p : Nat → Bool} {n k : Nat} (hk : k < n) (hp : p k = false) : cc_n (fun i => p i || i == k) n = cc_n p n + 1 := by
  have h := cc_s_add (fun i => (p i).toNat) (fun i => (i == k).toNat) n
  have e : cc_n (fun i => p i || i == k) n = cc_s (fun i => (p i).toNat + (i == k).toNat) n := cc_s_eq (fun i _ => by
    show (p i || i == k).toNat = (p i).toNat + (i == k).toNat
    by_cases z : i = k
    · subst z; rw [hp, beq_self_eq_true]; rfl
    · rw [beq_false_of_ne z, Bool.or_false]; rfl)
  have s := cc_n_single hk
  rw [e, h]
  show cc_n p n + cc_n (fun i => i == k) n = cc_n p n + 1
  rw [s]
theorem cc_n_or1 (p : Nat → Bool) (n k : Nat) : cc_n (fun i => p i || i == k) n ≤ cc_n p n + 1 := by
  by_cases hk : k < n
  · cases hp : p k
    · exact Nat.le_of_eq (cc_n_add1 hk hp)
    · have e : cc_n (fun i => p i || i == k) n = cc_n p n := cc_n_eq (fun i _ => by
        by_cases z : i = k
        · rw [z, hp]; rfl
        · rw [beq_false_of_ne z, Bool.or_false])
      omega
  · have e : cc_n (fun i => p i || i == k) n = cc_n p n := cc_n_eq (fun i hi => by
      rw [beq_false_of_ne (by omega : i ≠ k), Bool.or_false])
    omega
theorem cc_n_grow {p q : Nat → Bool} {n : Nat} (h : ∀ i, i < n → p i = true → q i = true) (hn : ∃ i, i < n ∧ q i = true ∧ p i = false) : cc_n p n + 1 ≤ cc_n q n := by
  obtain ⟨k, hk, hq, hp⟩ := hn
  rw [← cc_n_add1 hk hp]
  exact cc_n_le (fun i hi z => by
    rw [Bool.or_eq_true] at z
    rcases z with z | z
    · exact h i hi z
    · rw [eq_of_beq z]; exact hq)
theorem cc_n_pos {p : Nat → Bool} {n k : Nat} (hk : k < n) (hp : p k = true) : 1 ≤ cc_n p n := by
  rw [← cc_n_single hk]
  exact cc_n_le (fun i _ z => by rw [eq_of_beq z]; exact hp)
theorem cc_n_wide {p : Nat → Bool} {n : Nat} : ∀ {m : Nat}, n ≤ m → (∀ i, n ≤ i → p i = false) → cc_n p m = cc_n p n
  | 0, h, _ => by rw [Nat.le_zero.mp h]
  | m + 1, h, hp => by
    rcases Nat.lt_or_ge m n with z | z
    · have e : n = m + 1 := by omega
      rw [e]
    · rw [cc_n_succ, cc_n_wide z hp, hp m z]
      rfl
theorem cc_n_tight {p q : Nat → Bool} {n : Nat} (h : ∀ i, i < n → p i = true → q i = true) (hs : cc_n q n ≤ cc_n p n) : ∀ i, i < n → p i = q i := by
  intro i hi
  cases hp : p i
  · cases hq : q i
    · rfl
    · have := cc_n_grow h ⟨i, hi, hq, hp⟩
      omega
  · rw [h i hi hp]
def cc_ex (p : Nat → Bool) : Nat → Bool
  | 0 => false
  | n + 1 => cc_ex p n || p n
theorem cc_ex_iff (p : Nat → Bool) : ∀ n, cc_ex p n = true ↔ ∃ i, i < n ∧ p i = true
  | 0 => ⟨fun h => absurd h Bool.false_ne_true, fun ⟨i, h, _⟩ => absurd h (Nat.not_lt_zero i)⟩
  | n + 1 => by
    have ih := cc_ex_iff p n
    constructor
    · intro h
      have h : (cc_ex p n || p n) = true := h
      rw [Bool.or_eq_true] at h
      rcases h with h | h
      · obtain ⟨i, hi, hp⟩ := ih.mp h
        exact ⟨i, by omega, hp⟩
      · exact ⟨n, by omega, h⟩
    · intro ⟨i, hi, hp⟩
      show (cc_ex p n || p n) = true
      rw [Bool.or_eq_true]
      rcases Nat.lt_or_ge i n with z | z
      · exact Or.inl (ih.mpr ⟨i, z, hp⟩)
      · have e : i = n := by omega
        exact Or.inr (e ▸ hp)
/-! masks -/
def cc_mk (A : Nat → Bool) : Nat → Nat
  | 0 => 0
  | n + 1 => cc_mk A n ||| (if A n = true then 2 ^ n else 0)
theorem cc_pow (n : Nat) : 2 ^ (n + 1) = 2 * 2 ^ n := by rw [Nat.pow_succ, Nat.mul_comm]
theorem cc_mk_lt (A : Nat → Bool) : ∀ n, cc_mk A n < 2 ^ n
  | 0 => Nat.zero_lt_one
  | n + 1 => by
    have h := cc_mk_lt A n
    have hp := cc_pow n
    show cc_mk A n ||| (if A n = true then 2 ^ n else 0) < 2 ^ (n + 1)
    apply Nat.or_lt_two_pow
    · omega
    · split <;> omega
theorem cc_mk_bit (A : Nat → Bool) (i : Nat) : ∀ n, (cc_mk A n).testBit i = (decide (i < n) && A i)
  | 0 => by
    show Nat.testBit 0 i = _
    rw [Nat.zero_testBit, decide_eq_false (Nat.not_lt_zero i)]; rfl
  | n + 1 => by
    have h := cc_mk_bit A i n
    show (cc_mk A n ||| (if A n = true then 2 ^ n else 0)).testBit i = _
    rw [Nat.testBit_or, h]
    by_cases z : i = n
    · subst z
      rw [decide_eq_false (Nat.lt_irrefl i), decide_eq_true (Nat.lt_succ_self i)]
      cases hA : A i
      · simp
      · simp [Nat.testBit_two_pow]
    · have e : (if A n = true then 2 ^ n else 0).testBit i = false := by
        split
        · rw [Nat.testBit_two_pow]; exact decide_eq_false (fun c => z c.symm)
        · exact Nat.zero_testBit i
      rw [e, Bool.or_false]
      by_cases y : i < n
      · rw [decide_eq_true y, decide_eq_true (Nat.lt_succ_of_lt y)]
      · rw [decide_eq_false y, decide_eq_false (by omega)]
theorem cc_hi {m n i : Nat} (hm : m < 2 ^ n) (hi : n ≤ i) : m.testBit i = false :=
  Nat.testBit_lt_two_pow (Nat.lt_of_lt_of_le hm (Nat.pow_le_pow_right (by decide) hi))
theorem cc_in {m n i : Nat} (hm : m < 2 ^ n) (hi : m.testBit i = true) : i < n := by
  rcases Nat.lt_or_ge i n with z | z
  · exact z
  · rw [cc_hi hm z] at hi
    exact absurd hi Bool.false_ne_true
theorem cc_ext {m k n : Nat} (hm : m < 2 ^ n) (hk : k < 2 ^ n) (h : ∀ i, i < n → m.testBit i = k.testBit i) : m = k := by
  apply Nat.eq_of_testBit_eq
  intro i
  rcases Nat.lt_or_ge i n with z | z
  · exact h i z
  · rw [cc_hi hm z, cc_hi hk z]
theorem cc_lt {m n : Nat} (h : ∀ i, n ≤ i → m.testBit i = false) : m < 2 ^ n := Nat.lt_pow_two_of_testBit m h
theorem cc_two {k n : Nat} (h : k < n) : 2 ^ k < 2 ^ n := Nat.pow_lt_pow_right (by decide) h
theorem cc_p10 {n : Nat} (h : n ≤ 10) : 2 ^ n ≤ 1024 := Nat.le_trans (Nat.pow_le_pow_right (by decide) h) (by decide)
theorem cc_bit1 {k : Nat} (i : Nat) : (2 ^ k).testBit i = (i == k) := by
  rw [Nat.testBit_two_pow]
  by_cases z : i = k
  · subst z; rw [decide_eq_true rfl, beq_self_eq_true]
  · rw [decide_eq_false (fun c => z c.symm), beq_false_of_ne z]
/-- the bits of a that b lacks -/
def cc_an (a b : Nat) : Nat := a &&& (b ^^^ 4294967295)
theorem cc_an_bit {a : Nat} (b : Nat) (ha : a < 2 ^ 32) (i : Nat) : (cc_an a b).testBit i = (a.testBit i && !b.testBit i) := by
  unfold cc_an
  rw [Nat.testBit_and, Nat.testBit_xor, show (4294967295 : Nat) = 2 ^ 32 - 1 from rfl, Nat.testBit_two_pow_sub_one]
  rcases Nat.lt_or_ge i 32 with z | z
  · rw [decide_eq_true z, Bool.xor_true]
  · rw [cc_hi ha z]; rfl
theorem cc_an_le (a b : Nat) : cc_an a b ≤ a := Nat.and_le_left
/-- the next smaller part of a set -/
theorem cc_sub_next : ∀ (b : Nat) {q p s : Nat}, p < 2 ^ b → q < p → (∀ i, q.testBit i = true → s.testBit i = true) → (∀ i, p.testBit i = true → s.testBit i = true) → q ≤ (p - 1) &&& s
  | 0, q, p, s, hb, hq, _, _ => by omega
  | b + 1, q, p, s, hb, hq, h1, h2 => by
    have hp := cc_pow b
    have e : ((p - 1) &&& s) = 2 * (((p - 1) &&& s) / 2) + ((p - 1) &&& s) % 2 := by omega
    have d : ((p - 1) &&& s) / 2 = ((p - 1) / 2) &&& (s / 2) := Nat.and_div_two
    have s1 : ∀ i, (q / 2).testBit i = true → (s / 2).testBit i = true := fun i z => by
      rw [Nat.testBit_div_two] at z ⊢; exact h1 _ z
    have s2 : ∀ i, (p / 2).testBit i = true → (s / 2).testBit i = true := fun i z => by
      rw [Nat.testBit_div_two] at z ⊢; exact h2 _ z
    rcases Nat.mod_two_eq_zero_or_one p with z | z
    · have g : (p - 1) / 2 = p / 2 - 1 := by omega
      have ih := cc_sub_next b (q := q / 2) (p := p / 2) (s := s / 2) (by omega) (by omega) s1 s2
      rw [g] at d
      have m : q % 2 ≤ ((p - 1) &&& s) % 2 := by
        rcases Nat.mod_two_eq_zero_or_one q with y | y
        · omega
        · have t := h1 0 (by rw [Nat.testBit_zero]; exact decide_eq_true y)
          have t2 : s % 2 = 1 := by rw [Nat.testBit_zero] at t; exact of_decide_eq_true t
          have t3 : ((p - 1) &&& s) % 2 = 1 := Nat.and_mod_two_eq_one.mpr ⟨by omega, t2⟩
          omega
      omega
    · have g : (p - 1) / 2 = p / 2 := by omega
      have k : (p / 2) &&& (s / 2) = p / 2 := by
        apply Nat.eq_of_testBit_eq
        intro i
        rw [Nat.testBit_and]
        cases t : (p / 2).testBit i
        · rfl
        · rw [s2 i t]; rfl
      rw [g, k] at d
      omega
end
section
/-! masks and entries as ints -/
theorem xb_or (a b : Nat) : nI a ||| nI b = nI (a ||| b) := by
  apply Int32.toBitVec_inj.1
  show BitVec.ofNat 32 a ||| BitVec.ofNat 32 b = BitVec.ofNat 32 (a ||| b)
  apply BitVec.eq_of_getLsbD_eq
  intro i hi
  simp [hi]
theorem xb_shl {k : Nat} (hk : k < 31) : (1 : Int32) <<< (nI k &&& 31) = nI (2 ^ k) := by
  have h := pk_shlN (n := 1) (nI k &&& 31) k (s_l k (by omega)) (by rw [Nat.one_mul]; exact cc_two (n := 32) (by omega))
  rw [Nat.one_mul] at h
  exact h
theorem xb_an (a b : Nat) : nI a &&& (nI b ^^^ (-1)) = nI (cc_an a b) := by
  rw [show (-1 : Int32) = nI 4294967295 from by decide +kernel, nx_xor, nx_and]
  rfl
theorem xb_shr {a k : Nat} (ha : a < 2 ^ 31) (hk : k < 32) : nI a >>> (nI k &&& 31) = nI (a / 2 ^ k) := pk_shrN ha _ k (s_l k hk)
theorem xb_bit {a k : Nat} (ha : a < 2 ^ 31) (hk : k < 32) : (nI a >>> (nI k &&& 31)) &&& 1 = nI (a.testBit k).toNat := by
  rw [xb_shr ha hk, show (1 : Int32) = nI 1 from rfl, nx_and, Nat.and_one_is_mod, ← Nat.toNat_testBit]
theorem xb_b0 {a k : Nat} {A B : Prop} (ha : a < 2 ^ 31) (hk : k < 32) (f : a.testBit k = false → A) (g : a.testBit k = true → B) : (((nI a >>> (nI k &&& 31)) &&& 1) = 0 → A) ∧ (¬ ((nI a >>> (nI k &&& 31)) &&& 1) = 0 → B) := by
  rw [xb_bit ha hk]
  cases h : a.testBit k
  · exact br_t nI_0 (f h)
  · exact br_f (nI_ne0 (n := 1) (by decide) (by decide)) (g h)
theorem xb_b1 {a k : Nat} {A B : Prop} (ha : a < 2 ^ 31) (hk : k < 32) (f : a.testBit k = true → A) (g : a.testBit k = false → B) : (((nI a >>> (nI k &&& 31)) &&& 1) = 1 → A) ∧ (¬ ((nI a >>> (nI k &&& 31)) &&& 1) = 1 → B) := by
  rw [xb_bit ha hk]
  cases h : a.testBit k
  · exact br_f (show ¬ nI 0 = 1 by decide +kernel) (g h)
  · exact br_t (show nI 1 = 1 by decide +kernel) (f h)
/-- a mask and one bit of it -/
theorem xb_m0 {a k : Nat} {A B : Prop} (ha : a < 2 ^ 31) (hk : k < 31) (f : a.testBit k = false → A) (g : a.testBit k = true → B) : ((nI a &&& ((1 : Int32) <<< (nI k &&& 31))) = 0 → A) ∧ (¬ (nI a &&& ((1 : Int32) <<< (nI k &&& 31))) = 0 → B) := by
  rw [xb_shl hk, nx_and]
  have e : a &&& 2 ^ k = if a.testBit k = true then 2 ^ k else 0 := by
    apply Nat.eq_of_testBit_eq
    intro i
    rw [Nat.testBit_and, cc_bit1]
    by_cases z : i = k
    · subst z
      rw [beq_self_eq_true, Bool.and_true]
      cases h : a.testBit i
      · simp
      · simp [Nat.testBit_two_pow]
    · rw [beq_false_of_ne z, Bool.and_false]
      split
      · rw [cc_bit1, beq_false_of_ne z]
      · rw [Nat.zero_testBit]
  rw [e]
  cases h : a.testBit k
  · exact br_t nI_0 (f h)
  · have p : 2 ^ k < 2 ^ 31 := cc_two hk
    exact br_f (nI_ne0 (n := 2 ^ k) (Nat.two_pow_pos k) p) (g h)
/-- no bit of a mask from k on -/
theorem xb_s0 {a k : Nat} {A B : Prop} (ha : a < 2 ^ 31) (hk : k < 32) (f : a < 2 ^ k → A) (g : ¬ a < 2 ^ k → B) : ((nI a >>> (nI k &&& 31)) = 0 → A) ∧ (¬ (nI a >>> (nI k &&& 31)) = 0 → B) := by
  have d : a / 2 ^ k ≤ a := Nat.div_le_self _ _
  rw [xb_shr ha hk, ← nI_0, nI_eq (by omega) (by omega), Nat.div_eq_zero_iff_lt (Nat.two_pow_pos k)]
  exact br_c f g
theorem xb_z {a : Nat} {A B : Prop} (ha : a < 2 ^ 31) (f : a = 0 → A) (g : a ≠ 0 → B) : (nI a = 0 → A) ∧ (¬ nI a = 0 → B) := by
  rw [← nI_0, nI_eq ha (by omega)]
  exact br_c f g
theorem xb_all {n : Nat} (h : n ≤ 10) : (1 : Int32) <<< (nI n &&& 31) - 1 = nI (2 ^ n - 1) := by
  rw [xb_shl (by omega)]
  exact pk_sub (b := 1) (Nat.two_pow_pos n)
/-- an entry: an element or none -/
def xa_p : Option Nat → Int32
  | none => -1
  | some k => nI k
def xa_N (f : Nat → Nat) : Nat → Int32 := fun i => nI (f i)
def xa_P (f : Nat → Option Nat) : Nat → Int32 := fun i => xa_p (f i)
def xa_u {α : Type} (f : Nat → α) (k : Nat) (x : α) : Nat → α := fun j => if j = k then x else f j
theorem xa_us {α : Type} {f : Nat → α} {k : Nat} {x : α} : xa_u f k x k = x := if_pos rfl
theorem xa_un {α : Type} {f : Nat → α} {k j : Nat} {x : α} (h : j ≠ k) : xa_u f k x j = f j := if_neg h
theorem xa_updN (f : Nat → Nat) (k x : Nat) : upd (xa_N f) k (nI x) = xa_N (xa_u f k x) := funext fun j => by
  show (if j = k then nI x else nI (f j)) = nI (if j = k then x else f j)
  split <;> rfl
theorem xa_updP (f : Nat → Option Nat) (k : Nat) (x : Option Nat) : upd (xa_P f) k (xa_p x) = xa_P (xa_u f k x) := funext fun j => by
  show (if j = k then xa_p x else xa_p (f j)) = xa_p (if j = k then x else f j)
  split <;> rfl
theorem xa_N0 : (fun _ => 0 : Nat → Int32) = xa_N (fun _ => 0) := funext fun _ => nI_0.symm
theorem xa_P0 : (fun _ => 0 : Nat → Int32) = xa_P (fun _ => some 0) := funext fun _ => nI_0.symm
def xa_ok (o : Option Nat) : Prop := ∀ k, o = some k → k < 10
theorem xa_pos {o : Option Nat} {A B : Prop} (hb : xa_ok o) (f : ∀ k, o = some k → A) (g : o = none → B) : (0 ≤ xa_p o → A) ∧ (¬ 0 ≤ xa_p o → B) := by
  cases o with
  | none => exact br_f (show ¬ (0 : Int32) ≤ -1 by decide) (g rfl)
  | some k => exact br_t (nI_pos' (by have := hb k rfl; omega)) (f k rfl)
theorem xa_neg {o : Option Nat} {A B : Prop} (hb : xa_ok o) (f : o = none → A) (g : ∀ k, o = some k → B) : (xa_p o < 0 → A) ∧ (¬ xa_p o < 0 → B) := by
  cases o with
  | none => exact br_t (show (-1 : Int32) < 0 by decide) (f rfl)
  | some k => exact br_f (nI_pos (by have := hb k rfl; omega)) (g k rfl)
theorem xa_byte : ∀ k, k < 128 → (nI k).toInt8.toInt32 = nI k := by decide +kernel
theorem xa_nar {k : Nat} (h : k < 128) : vp_nar .byte (nI k) = nI k := by rw [vp_nar_byte, xa_byte k h]
theorem xa_narb {k : Nat} (h : k < 128) : vp_nar .byte (nI k).toInt8.toInt32 = nI k := by rw [pk_vb, xa_byte k h]
theorem xa_nm1 : vp_nar .byte (-1) = xa_p none := by rw [vp_nar_byte]; decide
theorem xa_narp {o : Option Nat} (h : xa_ok o) : vp_nar .byte (xa_p o) = xa_p o := by
  cases o with
  | none => exact xa_nm1
  | some k => exact xa_nar (by have := h k rfl; omega)
end
section
/-! matchings between elements, covers, antichains: no program in sight -/
def mt_Mat (n : Nat) (R : Nat → Nat → Bool) (s : Nat → Bool) (UP DN : Nat → Option Nat) : Prop :=
  (∀ u v, u < n → UP u = some v → v < n ∧ R u v = true ∧ s u = true ∧ s v = true ∧ DN v = some u) ∧
  (∀ v u, v < n → DN v = some u → u < n ∧ UP u = some v)
def mt_sz (n : Nat) (UP : Nat → Option Nat) : Nat := cc_n (fun u => (UP u).isSome) n
theorem mt_flip {n : Nat} {R : Nat → Nat → Bool} {s : Nat → Bool} {UP DN : Nat → Option Nat} (h : mt_Mat n R s UP DN) : mt_Mat n (fun a b => R b a) s DN UP := by
  refine ⟨fun u v hu e => ?_, fun v u hv e => ?_⟩
  · obtain ⟨hv, e2⟩ := h.2 u v hu e
    obtain ⟨_, r, sv, su, _⟩ := h.1 v u hv e2
    exact ⟨hv, r, su, sv, e2⟩
  · obtain ⟨hu, _, _, _, e2⟩ := h.1 v u hv e
    exact ⟨hu, e2⟩
theorem mt_congr {n : Nat} {R R' : Nat → Nat → Bool} {s s' : Nat → Bool} {UP DN UP' DN' : Nat → Option Nat} (h : mt_Mat n R s UP DN) (hR : ∀ a b, a < n → b < n → R a b = R' a b) (hs : ∀ a, a < n → s a = s' a)
    (hU : ∀ a, a < n → UP' a = UP a) (hD : ∀ a, a < n → DN' a = DN a) : mt_Mat n R' s' UP' DN' := by
  refine ⟨fun u v hu e => ?_, fun v u hv e => ?_⟩
  · rw [hU u hu] at e
    obtain ⟨hv, r, su, sv, e2⟩ := h.1 u v hu e
    exact ⟨hv, by rw [← hR u v hu hv]; exact r, by rw [← hs u hu]; exact su, by rw [← hs v hv]; exact sv, by rw [hD v hv]; exact e2⟩
  · rw [hD v hv] at e
    obtain ⟨hu, e2⟩ := h.2 v u hv e
    exact ⟨hu, by rw [hU u hu]; exact e2⟩
theorem mt_bij {n : Nat} {R : Nat → Nat → Bool} {s : Nat → Bool} {UP DN : Nat → Option Nat} (h : mt_Mat n R s UP DN) (P : Nat → Bool) : cc_n (fun l => (UP l).isSome && P l) n = cc_n (fun r => (DN r).any P) n := by
  have sw := cc_s_swap (fun l r => (decide (UP l = some r) && P l).toNat) n n
  have e1 : cc_s (fun l => cc_s (fun r => (decide (UP l = some r) && P l).toNat) n) n = cc_n (fun l => (UP l).isSome && P l) n := cc_s_eq (fun l hl => by
    show cc_s (fun r => (decide (UP l = some r) && P l).toNat) n = ((UP l).isSome && P l).toNat
    cases hu : UP l with
    | none => exact cc_s_zero (f := fun r => (decide ((none : Option Nat) = some r) && P l).toNat) (fun r _ => by simp)
    | some v =>
      have hv := (h.1 l v hl hu).1
      have t := cc_s_one (f := fun r => (decide ((some v : Option Nat) = some r) && P l).toNat) hv (fun r _ ne => by
        show (decide ((some v : Option Nat) = some r) && P l).toNat = 0
        rw [decide_eq_false (fun c => ne (Option.some.inj c).symm)]; rfl)
      exact t.trans (by simp))
  have e2 : cc_s (fun r => cc_s (fun l => (decide (UP l = some r) && P l).toNat) n) n = cc_n (fun r => (DN r).any P) n := cc_s_eq (fun r hr => by
    show cc_s (fun l => (decide (UP l = some r) && P l).toNat) n = ((DN r).any P).toNat
    cases hd : DN r with
    | none => exact cc_s_zero (f := fun l => (decide (UP l = some r) && P l).toNat) (fun l hl => by
        show (decide (UP l = some r) && P l).toNat = 0
        rw [decide_eq_false (fun c => Option.some_ne_none l (((h.1 l r hl c).2.2.2.2).symm.trans hd))]; rfl)
    | some u =>
      obtain ⟨hu, e⟩ := h.2 r u hr hd
      have t := cc_s_one (f := fun l => (decide (UP l = some r) && P l).toNat) hu (fun l hl ne => by
        show (decide (UP l = some r) && P l).toNat = 0
        rw [decide_eq_false (fun c => ne (Option.some.inj (((h.1 l r hl c).2.2.2.2).symm.trans hd)))]; rfl)
      exact t.trans (by simp [e]))
  exact e1.symm.trans (sw.trans e2)
theorem mt_split (n : Nat) (UP : Nat → Option Nat) (P : Nat → Bool) : cc_n (fun l => (UP l).isSome && P l) n + cc_n (fun l => (UP l).isSome && !P l) n = mt_sz n UP := by
  have h := cc_s_add (fun l => ((UP l).isSome && P l).toNat) (fun l => ((UP l).isSome && !P l).toNat) n
  exact h.symm.trans (cc_s_eq (fun i _ => by
    show ((UP i).isSome && P i).toNat + ((UP i).isSome && !P i).toNat = (UP i).isSome.toNat
    cases (UP i).isSome <;> cases P i <;> rfl))
theorem mt_split2 {n : Nat} {R : Nat → Nat → Bool} {s : Nat → Bool} {UP DN : Nat → Option Nat} (h : mt_Mat n R s UP DN) (P : Nat → Bool) : cc_n (fun l => (UP l).isSome && P l) n + cc_n (fun r => (DN r).any (fun l => !P l)) n = mt_sz n UP := by
  rw [← mt_split n UP P, mt_bij h (fun l => !P l)]
theorem mt_szd {n : Nat} {R : Nat → Nat → Bool} {s : Nat → Bool} {UP DN : Nat → Option Nat} (h : mt_Mat n R s UP DN) : mt_sz n DN = mt_sz n UP := by
  have a := mt_bij h (fun _ => true)
  have b : cc_n (fun l => (UP l).isSome && true) n = mt_sz n UP := cc_n_eq (fun i _ => Bool.and_true _)
  have c : cc_n (fun r => (DN r).any (fun _ => true)) n = mt_sz n DN := cc_n_eq (fun i _ => by cases DN i <;> rfl)
  rw [← b, ← c]; exact a.symm
/-! antichains -/
def mt_tr (n : Nat) (R : Nat → Nat → Bool) : Prop := ∀ a b c, a < n → b < n → c < n → R a b = true → R b c = true → R a c = true
def mt_anti (n : Nat) (R : Nat → Nat → Bool) (A : Nat → Bool) : Prop := ∀ a b, a < n → b < n → A a = true → A b = true → R a b = false
def mt_D (n : Nat) (R : Nat → Nat → Bool) (A : Nat → Bool) (x : Nat) : Bool := cc_ex (fun a => A a && R x a) n
theorem mt_D_iff {n : Nat} {R : Nat → Nat → Bool} {A : Nat → Bool} {x : Nat} : mt_D n R A x = true ↔ ∃ a, a < n ∧ A a = true ∧ R x a = true := by
  unfold mt_D
  rw [cc_ex_iff]
  constructor
  · intro ⟨a, ha, h⟩
    rw [Bool.and_eq_true] at h
    exact ⟨a, ha, h.1, h.2⟩
  · intro ⟨a, ha, h1, h2⟩
    exact ⟨a, ha, by rw [h1, h2]; rfl⟩
theorem mt_pt {n : Nat} {R : Nat → Nat → Bool} {s : Nat → Bool} {UP DN : Nat → Option Nat} (h : mt_Mat n R s UP DN) (tr : mt_tr n R) {A : Nat → Bool} (an : mt_anti n R A) (hA : ∀ x, x < n → A x = true → s x = true) :
    ∀ x, x < n → ((UP x).isSome && mt_D n R A x).toNat + ((DN x).any (fun l => !mt_D n R A l)).toNat + (A x).toNat ≤ (s x).toNat := by
  intro x hx
  have F0 : ∀ l, DN x = some l → (mt_D n R A x = true ∨ A x = true) → mt_D n R A l = true := by
    intro l e z
    obtain ⟨hl, e2⟩ := h.2 x l hx e
    obtain ⟨_, r, _, _, _⟩ := h.1 l x hl e2
    rcases z with z | z
    · obtain ⟨a, ha, h1, h2⟩ := mt_D_iff.mp z
      exact mt_D_iff.mpr ⟨a, ha, h1, tr l x a hl hx ha r h2⟩
    · exact mt_D_iff.mpr ⟨x, hx, z, r⟩
  have F1 : A x = true → mt_D n R A x = false := by
    intro z
    cases d : mt_D n R A x
    · rfl
    · obtain ⟨a, ha, h1, h2⟩ := mt_D_iff.mp d
      rw [an x a hx ha z h1] at h2
      exact absurd h2 Bool.false_ne_true
  have F2 : A x = true → (DN x).any (fun l => !mt_D n R A l) = false := by
    intro z
    cases e : DN x with
    | none => rfl
    | some l =>
      show (!mt_D n R A l) = false
      rw [F0 l e (Or.inr z)]; rfl
  have F3 : (UP x).isSome = true → s x = true := by
    intro z
    obtain ⟨v, e⟩ := Option.isSome_iff_exists.mp z
    exact (h.1 x v hx e).2.2.1
  have F6 : (DN x).any (fun l => !mt_D n R A l) = true → s x = true := by
    intro z
    cases e : DN x with
    | none => rw [e] at z; exact absurd z Bool.false_ne_true
    | some l =>
      obtain ⟨hl, e2⟩ := h.2 x l hx e
      exact (h.1 l x hl e2).2.2.2.1
  have F4 : mt_D n R A x = true → (DN x).any (fun l => !mt_D n R A l) = false := by
    intro z
    cases e : DN x with
    | none => rfl
    | some l =>
      show (!mt_D n R A l) = false
      rw [F0 l e (Or.inl z)]; rfl
  have F5 := hA x hx
  revert F1 F2 F3 F4 F5 F6
  generalize (UP x).isSome = p
  generalize (DN x).any (fun l => !mt_D n R A l) = q
  generalize mt_D n R A x = d
  generalize A x = a
  generalize s x = t
  cases p <;> cases d <;> cases q <;> cases a <;> cases t <;> decide
theorem mt_sum3 {n : Nat} {R : Nat → Nat → Bool} {s : Nat → Bool} {UP DN : Nat → Option Nat} (h : mt_Mat n R s UP DN) (A : Nat → Bool) :
    cc_s (fun x => ((UP x).isSome && mt_D n R A x).toNat + ((DN x).any (fun l => !mt_D n R A l)).toNat + (A x).toNat) n = mt_sz n UP + cc_n A n := by
  have a := cc_s_add (fun x => ((UP x).isSome && mt_D n R A x).toNat + ((DN x).any (fun l => !mt_D n R A l)).toNat) (fun x => (A x).toNat) n
  have b := cc_s_add (fun x => ((UP x).isSome && mt_D n R A x).toNat) (fun x => ((DN x).any (fun l => !mt_D n R A l)).toNat) n
  have c := mt_split2 h (mt_D n R A)
  rw [a, b, ← c]
  rfl
theorem mt_dual {n : Nat} {R : Nat → Nat → Bool} {s : Nat → Bool} {UP DN : Nat → Option Nat} (h : mt_Mat n R s UP DN) (tr : mt_tr n R) {A : Nat → Bool} (an : mt_anti n R A) (hA : ∀ x, x < n → A x = true → s x = true) : mt_sz n UP + cc_n A n ≤ cc_n s n := by
  rw [← mt_sum3 h A]
  exact cc_s_le (mt_pt h tr an hA)
theorem mt_tight {n : Nat} {R : Nat → Nat → Bool} {s : Nat → Bool} {UP DN : Nat → Option Nat} (h : mt_Mat n R s UP DN) (tr : mt_tr n R) {A : Nat → Bool} (an : mt_anti n R A) (hA : ∀ x, x < n → A x = true → s x = true) (hs : cc_n s n ≤ mt_sz n UP + cc_n A n) :
    ∀ x, x < n → s x = true → A x = true ∨ ((UP x).isSome = true ∧ mt_D n R A x = true) ∨ (∃ l, DN x = some l ∧ mt_D n R A l = false) := by
  rw [← mt_sum3 h A] at hs
  intro x hx sx
  have t := cc_s_tight (mt_pt h tr an hA) hs x hx
  rw [sx] at t
  cases a : A x
  · right
    rw [a] at t
    cases p : ((UP x).isSome && mt_D n R A x)
    · right
      rw [p] at t
      cases q : (DN x).any (fun l => !mt_D n R A l)
      · rw [q] at t
        exact absurd t (by decide)
      · cases e : DN x with
        | none => rw [e] at q; exact absurd q Bool.false_ne_true
        | some l =>
          rw [e] at q
          have q : (!mt_D n R A l) = true := q
          exact ⟨l, rfl, by rw [Bool.not_eq_true'] at q; exact q⟩
    · left
      rw [Bool.and_eq_true] at p
      exact p
  · left; rfl
/-! covers -/
def mt_cov (n : Nat) (R : Nat → Nat → Bool) (s : Nat → Bool) (P : Nat → Prop) (CL CR : Nat → Bool) : Prop :=
  ∀ a b, a < n → b < n → P a → s a = true → s b = true → R a b = true → CL a = true ∨ CR b = true
/-- a matching with lower ends in P, and a cover, no larger, of what goes up out of P -/
def mt_inc (n : Nat) (R : Nat → Nat → Bool) (s : Nat → Bool) (UP DN : Nat → Option Nat) (P : Nat → Prop) : Prop :=
  mt_Mat n R s UP DN ∧ (∀ u, u < n → UP u ≠ none → P u) ∧ ∃ CL CR : Nat → Bool, mt_cov n R s P CL CR ∧ cc_n CL n + cc_n CR n ≤ mt_sz n UP
def mt_max (n : Nat) (R : Nat → Nat → Bool) (s : Nat → Bool) (UP DN : Nat → Option Nat) : Prop := mt_inc n R s UP DN (fun _ => True)
theorem mt_inc_mono {n : Nat} {R : Nat → Nat → Bool} {s : Nat → Bool} {UP DN : Nat → Option Nat} {P Q : Nat → Prop} (h : mt_inc n R s UP DN P) (h1 : ∀ a, a < n → UP a ≠ none → Q a) (h2 : ∀ a, a < n → s a = true → Q a → P a) : mt_inc n R s UP DN Q := by
  obtain ⟨m, _, CL, CR, c, z⟩ := h
  exact ⟨m, h1, CL, CR, fun a b ha hb q sa sb r => c a b ha hb (h2 a ha sa q) sa sb r, z⟩
theorem mt_cov_anti {n : Nat} {R : Nat → Nat → Bool} {s : Nat → Bool} {CL CR : Nat → Bool} (h : mt_cov n R s (fun _ => True) CL CR) :
    mt_anti n R (fun x => s x && !CL x && !CR x) ∧ cc_n s n ≤ cc_n (fun x => s x && !CL x && !CR x) n + (cc_n CL n + cc_n CR n) := by
  constructor
  · intro a b ha hb za zb
    cases r : R a b
    · rfl
    · simp only [Bool.and_eq_true, Bool.not_eq_true'] at za zb
      rcases h a b ha hb trivial za.1.1 zb.1.1 r with c | c
      · rw [za.1.2] at c; exact absurd c Bool.false_ne_true
      · rw [zb.2] at c; exact absurd c Bool.false_ne_true
  · have a := cc_s_add (fun x => (CL x).toNat) (fun x => (CR x).toNat) n
    have b := cc_s_add (fun x => (s x && !CL x && !CR x).toNat) (fun x => (CL x).toNat + (CR x).toNat) n
    have c : cc_n (fun x => s x && !CL x && !CR x) n + (cc_n CL n + cc_n CR n) = cc_s (fun x => (s x && !CL x && !CR x).toNat + ((CL x).toNat + (CR x).toNat)) n := by
      rw [b, a]; rfl
    rw [c]
    exact cc_s_le (fun x _ => by
      show (s x).toNat ≤ (s x && !CL x && !CR x).toNat + ((CL x).toNat + (CR x).toNat)
      cases s x <;> cases CL x <;> cases CR x <;> decide)
/-- a largest antichain is there, and it has as many elements as the matching leaves chains -/
theorem mt_width {n : Nat} {R : Nat → Nat → Bool} {s : Nat → Bool} {UP DN : Nat → Option Nat} (h : mt_max n R s UP DN) (tr : mt_tr n R) :
    ∃ A : Nat → Bool, mt_anti n R A ∧ (∀ x, x < n → A x = true → s x = true) ∧ mt_sz n UP + cc_n A n = cc_n s n := by
  obtain ⟨m, _, CL, CR, c, z⟩ := h
  obtain ⟨an, le⟩ := mt_cov_anti c
  have sub : ∀ x, x < n → (s x && !CL x && !CR x) = true → s x = true := fun x _ e => by
    rw [Bool.and_eq_true, Bool.and_eq_true] at e
    exact e.1.1
  have d := mt_dual m tr an sub
  exact ⟨_, an, sub, by omega⟩
/-! one search: it fails, or the matching grows -/
def mt_closed (n : Nat) (R : Nat → Nat → Bool) (s : Nat → Bool) (UP DN : Nat → Option Nat) (st : Nat) (sn : Nat → Bool) : Prop :=
  (∀ v, v < n → sn v = true → ∃ l, DN v = some l) ∧
  (∀ l, l < n → (l = st ∨ ∃ w, UP l = some w ∧ sn w = true) → ∀ v, v < n → R l v = true → s v = true → sn v = true)
theorem mt_cov_tight {n : Nat} {R : Nat → Nat → Bool} {s : Nat → Bool} {UP DN : Nat → Option Nat} {P : Nat → Prop} (m : mt_Mat n R s UP DN) (hP : ∀ u, u < n → UP u ≠ none → P u) {CL CR : Nat → Bool} (c : mt_cov n R s P CL CR) (z : cc_n CL n + cc_n CR n ≤ mt_sz n UP) :
    ∀ i, i < n → (CL i = ((UP i).isSome && CL i)) ∧ (CR i = (DN i).any (fun l => !CL l)) := by
  have sp := mt_split2 m CL
  have a := cc_s_add (fun x => (CL x).toNat) (fun x => (CR x).toNat) n
  have b := cc_s_add (fun x => ((UP x).isSome && CL x).toNat) (fun x => ((DN x).any (fun l => !CL l)).toNat) n
  have p2 : ∀ i, i < n → (DN i).any (fun l => !CL l) = true → CR i = true := by
    intro i hi q
    cases e : DN i with
    | none => rw [e] at q; exact absurd q Bool.false_ne_true
    | some l =>
      rw [e] at q
      have q : (!CL l) = true := q
      obtain ⟨hl, e2⟩ := m.2 i l hi e
      obtain ⟨_, r, sl, si, _⟩ := m.1 l i hl e2
      rcases c l i hl hi (hP l hl (by rw [e2]; exact Option.some_ne_none i)) sl si r with y | y
      · rw [y] at q; exact absurd q Bool.false_ne_true
      · exact y
  have t := cc_s_tight (f := fun x => ((UP x).isSome && CL x).toNat + ((DN x).any (fun l => !CL l)).toNat) (g := fun x => (CL x).toNat + (CR x).toNat) (n := n) (fun i hi => by
    show ((UP i).isSome && CL i).toNat + ((DN i).any (fun l => !CL l)).toNat ≤ (CL i).toNat + (CR i).toNat
    have y := p2 i hi
    revert y
    generalize (DN i).any (fun l => !CL l) = q
    generalize (UP i).isSome = p
    generalize CL i = x
    generalize CR i = y
    cases p <;> cases q <;> cases x <;> cases y <;> decide) (by
      rw [a, b]
      show cc_n CL n + cc_n CR n ≤ cc_n (fun l => (UP l).isSome && CL l) n + cc_n (fun r => (DN r).any (fun l => !CL l)) n
      rw [sp]; exact z)
  intro i hi
  have ti := t i hi
  have y := p2 i hi
  revert ti y
  generalize (DN i).any (fun l => !CL l) = q
  generalize (UP i).isSome = p
  generalize CL i = x
  generalize CR i = y
  cases p <;> cases q <;> cases x <;> cases y <;> decide
theorem mt_fail {n : Nat} {R : Nat → Nat → Bool} {s : Nat → Bool} {UP DN : Nat → Option Nat} {P : Nat → Prop} {st : Nat} {sn : Nat → Bool} (h : mt_inc n R s UP DN P) (cl : mt_closed n R s UP DN st sn) : mt_inc n R s UP DN (fun a => P a ∨ a = st) := by
  obtain ⟨m, hP, CL, CR, c, z⟩ := h
  have t := mt_cov_tight m hP c z
  have sp := mt_split2 m (fun l => CL l && !(UP l).any sn)
  refine ⟨m, fun u hu e => Or.inl (hP u hu e), fun l => CL l && !(UP l).any sn, fun r => CR r || sn r, ?_, ?_⟩
  · intro a b ha hb pa sa sb r
    by_cases q : a = st ∨ ∃ w, UP a = some w ∧ sn w = true
    · right
      show (CR b || sn b) = true
      rw [cl.2 a ha q b hb r sb, Bool.or_true]
    · have nq : (UP a).any sn = false := by
        cases e : UP a with
        | none => rfl
        | some w =>
          show sn w = false
          cases y : sn w
          · rfl
          · exact absurd (Or.inr ⟨w, e, y⟩) q
      have pa' : P a := by
        rcases pa with pa | pa
        · exact pa
        · exact absurd (Or.inl pa) q
      rcases c a b ha hb pa' sa sb r with y | y
      · left
        show (CL a && !(UP a).any sn) = true
        rw [y, nq]; rfl
      · right
        show (CR b || sn b) = true
        rw [y]; rfl
  · rw [← sp]
    refine Nat.add_le_add (cc_n_le (fun i hi e => ?_)) (cc_n_le (fun i hi e => ?_))
    · have ti := (t i hi).1
      rw [Bool.and_eq_true] at e
      rw [e.1, Bool.and_true] at ti
      show ((UP i).isSome && (CL i && !(UP i).any sn)) = true
      rw [← ti, e.1, e.2]; rfl
    · have ti := (t i hi).2
      have e : (CR i || sn i) = true := e
      cases d : DN i with
      | none =>
        rw [d] at ti
        have ti : CR i = false := ti
        rw [ti, Bool.false_or] at e
        obtain ⟨l, y⟩ := cl.1 i hi e
        rw [d] at y
        exact absurd y.symm (Option.some_ne_none l)
      | some l =>
        rw [d] at ti
        have ti : CR i = !CL l := ti
        obtain ⟨hl, e2⟩ := m.2 i l hi d
        show (!(CL l && !(UP l).any sn)) = true
        rw [e2]
        show (!(CL l && !sn i)) = true
        rw [ti] at e
        revert e
        cases CL l <;> cases sn i <;> decide
theorem mt_grow_sz {n : Nat} {UP UP' : Nat → Option Nat} {st : Nat} (hst : st < n) (h0 : UP st = none) (hu : ∀ u, u < n → (UP' u).isSome = ((UP u).isSome || u == st)) : mt_sz n UP' = mt_sz n UP + 1 := by
  unfold mt_sz
  rw [← cc_n_add1 (p := fun u => (UP u).isSome) hst (by show (UP st).isSome = false; rw [h0]; rfl)]
  exact cc_n_eq (fun i hi => hu i hi)
theorem mt_succ {n : Nat} {R : Nat → Nat → Bool} {s : Nat → Bool} {UP DN UP' DN' : Nat → Option Nat} {P : Nat → Prop} {st : Nat} (h : mt_inc n R s UP DN P) (m' : mt_Mat n R s UP' DN') (hst : st < n) (h0 : UP st = none) (hu : ∀ u, u < n → (UP' u).isSome = ((UP u).isSome || u == st)) : mt_inc n R s UP' DN' (fun a => P a ∨ a = st) := by
  obtain ⟨m, hP, CL, CR, c, z⟩ := h
  refine ⟨m', ?_, fun l => CL l || l == st, CR, ?_, ?_⟩
  · intro u hu' e
    have q : (UP' u).isSome = true := Option.isSome_iff_ne_none.mpr e
    rw [hu u hu', Bool.or_eq_true] at q
    rcases q with q | q
    · exact Or.inl (hP u hu' (Option.isSome_iff_ne_none.mp q))
    · exact Or.inr (eq_of_beq q)
  · intro a b ha hb pa sa sb r
    by_cases q : a = st
    · left
      show (CL a || a == st) = true
      rw [q, beq_self_eq_true, Bool.or_true]
    · rcases c a b ha hb (pa.resolve_right q) sa sb r with y | y
      · left
        show (CL a || a == st) = true
        rw [y]; rfl
      · exact Or.inr y
  · rw [mt_grow_sz hst h0 hu]
    have := cc_n_or1 CL n st
    omega
end
section
/-! the rounds of lowest and highest, and what they end in -/
def ex_B (E : Nat → Nat) (v A B : Nat) : Nat := if A.testBit v = true then B ||| E v else B
def ex_A (p : Nat → Option Nat) (v A B : Nat) : Nat := if B.testBit v = true then (match p v with | none => A | some w => A ||| 2 ^ w) else A
def ex_r (E : Nat → Nat) (p : Nat → Option Nat) : Nat → Nat × Nat → Nat × Nat
  | 0, s => s
  | v + 1, s => (ex_A p v (ex_r E p v s).1 (ex_B E v (ex_r E p v s).1 (ex_r E p v s).2), ex_B E v (ex_r E p v s).1 (ex_r E p v s).2)
def ex_it (E : Nat → Nat) (p : Nat → Option Nat) (n : Nat) : Nat → Nat × Nat → Nat × Nat
  | 0, s => s
  | k + 1, s => ex_r E p n (ex_it E p n k s)
theorem ex_B_bit (E : Nat → Nat) (v A B x : Nat) : (ex_B E v A B).testBit x = true ↔ B.testBit x = true ∨ (A.testBit v = true ∧ (E v).testBit x = true) := by
  unfold ex_B
  split
  · next h => rw [Nat.testBit_or, Bool.or_eq_true]; exact ⟨fun z => z.elim Or.inl (fun y => Or.inr ⟨h, y⟩), fun z => z.elim Or.inl (fun y => Or.inr y.2)⟩
  · next h => exact ⟨Or.inl, fun z => z.elim id (fun y => absurd y.1 h)⟩
theorem ex_A_bit (p : Nat → Option Nat) (v A B x : Nat) : (ex_A p v A B).testBit x = true ↔ A.testBit x = true ∨ (B.testBit v = true ∧ p v = some x) := by
  unfold ex_A
  split
  · next h =>
    cases e : p v with
    | none => exact ⟨Or.inl, fun z => z.elim id (fun y => absurd y.2.symm (Option.some_ne_none x))⟩
    | some w =>
      show (A ||| 2 ^ w).testBit x = true ↔ _
      rw [Nat.testBit_or, Bool.or_eq_true, cc_bit1]
      exact ⟨fun z => z.elim Or.inl (fun y => Or.inr ⟨h, by rw [eq_of_beq y]⟩), fun z => z.elim Or.inl (fun y => Or.inr (by rw [Option.some.inj y.2]; exact beq_self_eq_true x))⟩
  · next h => exact ⟨Or.inl, fun z => z.elim id (fun y => absurd y.1 h)⟩
theorem ex_r1 (E : Nat → Nat) (p : Nat → Option Nat) (v : Nat) (s : Nat × Nat) (x : Nat) : (ex_r E p (v + 1) s).1.testBit x = true ↔ (ex_r E p v s).1.testBit x = true ∨ ((ex_r E p (v + 1) s).2.testBit v = true ∧ p v = some x) := ex_A_bit p v _ _ x
theorem ex_r2 (E : Nat → Nat) (p : Nat → Option Nat) (v : Nat) (s : Nat × Nat) (x : Nat) : (ex_r E p (v + 1) s).2.testBit x = true ↔ (ex_r E p v s).2.testBit x = true ∨ ((ex_r E p v s).1.testBit v = true ∧ (E v).testBit x = true) := ex_B_bit E v _ _ x
/-- two sets that hold what the rounds add -/
def ex_clP (n : Nat) (E : Nat → Nat) (p : Nat → Option Nat) (PA PB : Nat → Prop) : Prop :=
  (∀ v, v < n → PA v → ∀ x, (E v).testBit x = true → PB x) ∧ (∀ v, v < n → PB v → ∀ w, p v = some w → PA w)
theorem ex_r_sub {n : Nat} {E : Nat → Nat} {p : Nat → Option Nat} {PA PB : Nat → Prop} (c : ex_clP n E p PA PB) (s : Nat × Nat) (hA : ∀ x, s.1.testBit x = true → PA x) (hB : ∀ x, s.2.testBit x = true → PB x) :
    ∀ v, v ≤ n → (∀ x, (ex_r E p v s).1.testBit x = true → PA x) ∧ (∀ x, (ex_r E p v s).2.testBit x = true → PB x)
  | 0, _ => ⟨hA, hB⟩
  | v + 1, hv => by
    obtain ⟨a, b⟩ := ex_r_sub c s hA hB v (by omega)
    have b' : ∀ x, (ex_r E p (v + 1) s).2.testBit x = true → PB x := by
      intro x h
      rcases (ex_r2 E p v s x).mp h with h | h
      · exact b x h
      · exact c.1 v (by omega) (a v h.1) x h.2
    refine ⟨fun x h => ?_, b'⟩
    rcases (ex_r1 E p v s x).mp h with h | h
    · exact a x h
    · exact c.2 v (by omega) (b' v h.1) x h.2
theorem ex_it_sub {n : Nat} {E : Nat → Nat} {p : Nat → Option Nat} {PA PB : Nat → Prop} (c : ex_clP n E p PA PB) (s : Nat × Nat) (hA : ∀ x, s.1.testBit x = true → PA x) (hB : ∀ x, s.2.testBit x = true → PB x) :
    ∀ k, (∀ x, (ex_it E p n k s).1.testBit x = true → PA x) ∧ (∀ x, (ex_it E p n k s).2.testBit x = true → PB x)
  | 0 => ⟨hA, hB⟩
  | k + 1 => by
    obtain ⟨a, b⟩ := ex_it_sub c s hA hB k
    exact ex_r_sub c (ex_it E p n k s) a b n (Nat.le_refl n)
theorem ex_r_mono (E : Nat → Nat) (p : Nat → Option Nat) (s : Nat × Nat) : ∀ v, (∀ x, s.1.testBit x = true → (ex_r E p v s).1.testBit x = true) ∧ (∀ x, s.2.testBit x = true → (ex_r E p v s).2.testBit x = true)
  | 0 => ⟨fun _ h => h, fun _ h => h⟩
  | v + 1 => by
    obtain ⟨a, b⟩ := ex_r_mono E p s v
    exact ⟨fun x h => (ex_r1 E p v s x).mpr (Or.inl (a x h)), fun x h => (ex_r2 E p v s x).mpr (Or.inl (b x h))⟩
theorem ex_it_mono (E : Nat → Nat) (p : Nat → Option Nat) (n : Nat) (s : Nat × Nat) : ∀ k x, s.1.testBit x = true → (ex_it E p n k s).1.testBit x = true
  | 0, _, h => h
  | k + 1, x, h => (ex_r_mono E p (ex_it E p n k s) n).1 x (ex_it_mono E p n s k x h)
/-- all bits stay below n -/
theorem ex_bnd {n : Nat} {E : Nat → Nat} {p : Nat → Option Nat} (hE : ∀ v, v < n → E v < 2 ^ n) (hp : ∀ v, v < n → ∀ w, p v = some w → w < n) : ex_clP n E p (fun x => x < n) (fun x => x < n) :=
  ⟨fun v hv _ x hx => cc_in (hE v hv) hx, fun v hv _ w e => hp v hv w e⟩
theorem ex_lt {m n : Nat} (h : ∀ x, m.testBit x = true → x < n) : m < 2 ^ n := cc_lt (fun i hi => by
  cases e : m.testBit i
  · rfl
  · have := h i e; omega)
theorem ex_r_lt {n : Nat} {E : Nat → Nat} {p : Nat → Option Nat} (hE : ∀ v, v < n → E v < 2 ^ n) (hp : ∀ v, v < n → ∀ w, p v = some w → w < n) {s : Nat × Nat} (h1 : s.1 < 2 ^ n) (h2 : s.2 < 2 ^ n) {v : Nat} (hv : v ≤ n) : (ex_r E p v s).1 < 2 ^ n ∧ (ex_r E p v s).2 < 2 ^ n := by
  have h := ex_r_sub (ex_bnd hE hp) s (fun x hx => cc_in h1 hx) (fun x hx => cc_in h2 hx) v hv
  exact ⟨ex_lt h.1, ex_lt h.2⟩
theorem ex_it_lt {n : Nat} {E : Nat → Nat} {p : Nat → Option Nat} (hE : ∀ v, v < n → E v < 2 ^ n) (hp : ∀ v, v < n → ∀ w, p v = some w → w < n) {s : Nat × Nat} (h1 : s.1 < 2 ^ n) (h2 : s.2 < 2 ^ n) (k : Nat) : (ex_it E p n k s).1 < 2 ^ n ∧ (ex_it E p n k s).2 < 2 ^ n := by
  have h := ex_it_sub (ex_bnd hE hp) s (fun x hx => cc_in h1 hx) (fun x hx => cc_in h2 hx) k
  exact ⟨ex_lt h.1, ex_lt h.2⟩
def ex_cl (n : Nat) (E : Nat → Nat) (p : Nat → Option Nat) (s : Nat × Nat) : Prop := ex_clP n E p (fun x => s.1.testBit x = true) (fun x => s.2.testBit x = true)
/-- downwards: what is added to the second set at v is below v, what is added to the first is above v -/
theorem ex_low {n : Nat} {E : Nat → Nat} {p : Nat → Option Nat} (hE : ∀ v, v < n → ∀ x, (E v).testBit x = true → x < v) (hp : ∀ v, v < n → ∀ w, p v = some w → v < w) (s : Nat × Nat) :
    ∀ v, v ≤ n → (∀ x, x < v → (ex_r E p v s).1.testBit x = true → ∀ y, (E x).testBit y = true → (ex_r E p v s).2.testBit y = true) ∧
      (∀ x, x < v → s.2.testBit x = true → ∀ w, p x = some w → (ex_r E p v s).1.testBit w = true) ∧
      (∀ y, (ex_r E p v s).2.testBit y = true → s.2.testBit y = true ∨ ∃ x, x < n ∧ (ex_r E p v s).1.testBit x = true ∧ (E x).testBit y = true)
  | 0, _ => ⟨fun x hx => absurd hx (Nat.not_lt_zero x), fun x hx => absurd hx (Nat.not_lt_zero x), fun y h => Or.inl h⟩
  | v + 1, hv => by
    obtain ⟨h1, h2, h3⟩ := ex_low hE hp s v (by omega)
    refine ⟨fun x hx ax y ey => ?_, fun x hx bx w e => ?_, fun y by' => ?_⟩
    · have ax' : (ex_r E p v s).1.testBit x = true := by
        rcases (ex_r1 E p v s x).mp ax with z | z
        · exact z
        · have := hp v (by omega) x z.2; omega
      apply (ex_r2 E p v s y).mpr
      rcases Nat.lt_or_ge x v with q | q
      · exact Or.inl (h1 x q ax' y ey)
      · have e : x = v := by omega
        rw [e] at ax' ey
        exact Or.inr ⟨ax', ey⟩
    · apply (ex_r1 E p v s w).mpr
      rcases Nat.lt_or_ge x v with q | q
      · exact Or.inl (h2 x q bx w e)
      · have e' : x = v := by omega
        rw [e'] at bx e
        exact Or.inr ⟨(ex_r_mono E p s (v + 1)).2 v bx, e⟩
    · rcases (ex_r2 E p v s y).mp by' with z | z
      · rcases h3 y z with q | ⟨x, hx, q, r⟩
        · exact Or.inl q
        · exact Or.inr ⟨x, hx, (ex_r1 E p v s x).mpr (Or.inl q), r⟩
      · exact Or.inr ⟨v, by omega, (ex_r1 E p v s v).mpr (Or.inl z.1), z.2⟩
/-- upwards: the other way round -/
theorem ex_high {n : Nat} {E : Nat → Nat} {p : Nat → Option Nat} (hE : ∀ v, v < n → ∀ x, (E v).testBit x = true → v < x) (s : Nat × Nat) :
    ∀ v, v ≤ n → (∀ x, x < v → s.1.testBit x = true → ∀ y, (E x).testBit y = true → (ex_r E p v s).2.testBit y = true) ∧
      (∀ x, x < v → (ex_r E p v s).2.testBit x = true → ∀ w, p x = some w → (ex_r E p v s).1.testBit w = true)
  | 0, _ => ⟨fun x hx => absurd hx (Nat.not_lt_zero x), fun x hx => absurd hx (Nat.not_lt_zero x)⟩
  | v + 1, hv => by
    obtain ⟨h1, h2⟩ := ex_high hE s v (by omega)
    refine ⟨fun x hx ax y ey => ?_, fun x hx bx w e => ?_⟩
    · apply (ex_r2 E p v s y).mpr
      rcases Nat.lt_or_ge x v with q | q
      · exact Or.inl (h1 x q ax y ey)
      · have e : x = v := by omega
        rw [e] at ax ey
        exact Or.inr ⟨(ex_r_mono E p s v).1 v ax, ey⟩
    · apply (ex_r1 E p v s w).mpr
      rcases Nat.lt_or_ge x v with q | q
      · left
        rcases (ex_r2 E p v s x).mp bx with z | z
        · exact h2 x q z w e
        · have := hE v (by omega) x z.2; omega
      · have e' : x = v := by omega
        rw [e'] at bx e
        exact Or.inr ⟨bx, e⟩
theorem ex_rounds {n : Nat} {E : Nat → Nat} {p : Nat → Option Nat} (J : Nat × Nat → Prop) (hE : ∀ v, v < n → E v < 2 ^ n) (hp : ∀ v, v < n → ∀ w, p v = some w → w < n)
    (j1 : ∀ s, J (ex_r E p n s)) (j2 : ∀ s, s.1 < 2 ^ n → s.2 < 2 ^ n → J s → (∀ x, x < n → (ex_r E p n s).1.testBit x = true → s.1.testBit x = true) → ex_cl n E p (ex_r E p n s))
    (s : Nat × Nat) (h1 : s.1 < 2 ^ n) (h2 : s.2 < 2 ^ n) (h0 : 1 ≤ cc_n (fun x => s.1.testBit x) n) :
    ∀ k, J (ex_it E p n (k + 1) s) ∧ (ex_cl n E p (ex_it E p n (k + 1) s) ∨ k + 1 ≤ cc_n (fun x => (ex_it E p n (k + 1) s).1.testBit x) n)
  | 0 => ⟨j1 _, Or.inr (Nat.le_trans h0 (cc_n_le (fun i _ z => (ex_r_mono E p s n).1 i z)))⟩
  | k + 1 => by
    obtain ⟨j, c⟩ := ex_rounds J hE hp j1 j2 s h1 h2 h0 k
    obtain ⟨b1, b2⟩ := ex_it_lt hE hp h1 h2 (k + 1)
    refine ⟨j1 _, ?_⟩
    show ex_cl n E p (ex_r E p n (ex_it E p n (k + 1) s)) ∨ k + 1 + 1 ≤ cc_n (fun x => (ex_r E p n (ex_it E p n (k + 1) s)).1.testBit x) n
    generalize ex_it E p n (k + 1) s = t at j c b1 b2
    by_cases q : ∀ x, x < n → (ex_r E p n t).1.testBit x = true → t.1.testBit x = true
    · exact Or.inl (j2 t b1 b2 j q)
    · right
      rcases c with c | c
      · exact absurd (fun x _ z => (ex_r_sub c t (fun _ h => h) (fun _ h => h) n (Nat.le_refl n)).1 x z) q
      · refine Nat.le_trans (Nat.add_le_add_right c 1) (cc_n_grow (fun i _ z => (ex_r_mono E p t n).1 i z) ?_)
        refine Classical.byContradiction (fun w => q (fun x hx z => ?_))
        cases y : t.1.testBit x
        · exact absurd ⟨x, hx, z, y⟩ w
        · rfl
theorem ex_end {n : Nat} {E : Nat → Nat} {p : Nat → Option Nat} (J : Nat × Nat → Prop) (hE : ∀ v, v < n → E v < 2 ^ n) (hp : ∀ v, v < n → ∀ w, p v = some w → w < n)
    (j1 : ∀ s, J (ex_r E p n s)) (j2 : ∀ s, s.1 < 2 ^ n → s.2 < 2 ^ n → J s → (∀ x, x < n → (ex_r E p n s).1.testBit x = true → s.1.testBit x = true) → ex_cl n E p (ex_r E p n s))
    (s : Nat × Nat) (h1 : s.1 < 2 ^ n) (h2 : s.2 < 2 ^ n) (h0 : 0 < n → 1 ≤ cc_n (fun x => s.1.testBit x) n) : ex_cl n E p (ex_it E p n (n + 1) s) := by
  rcases Nat.eq_zero_or_pos n with z | z
  · refine ⟨fun v hv => ?_, fun v hv => ?_⟩ <;> omega
  · rcases (ex_rounds J hE hp j1 j2 s h1 h2 (h0 z) n).2 with c | c
    · exact c
    · have := cc_n_bound (fun x => (ex_it E p n (n + 1) s).1.testBit x) n
      omega
theorem ex_end_low {n : Nat} {E : Nat → Nat} {p : Nat → Option Nat} (hE : ∀ v, v < n → ∀ x, (E v).testBit x = true → x < v) (hp : ∀ v, v < n → ∀ w, p v = some w → v < w ∧ w < n)
    (s : Nat × Nat) (h1 : s.1 < 2 ^ n) (h2 : s.2 < 2 ^ n) (h0 : 0 < n → 1 ≤ cc_n (fun x => s.1.testBit x) n) : ex_cl n E p (ex_it E p n (n + 1) s) := by
  refine ex_end (fun s => ∀ x, x < n → s.1.testBit x = true → ∀ y, (E x).testBit y = true → s.2.testBit y = true) (fun v hv => ex_lt (fun x hx => by have := hE v hv x hx; omega)) (fun v hv w e => (hp v hv w e).2) ?_ ?_ s h1 h2 h0
  · intro s
    exact (ex_low hE (fun v hv w e => (hp v hv w e).1) s n (Nat.le_refl n)).1
  · intro s b1 b2 j q
    obtain ⟨l1, l2, l3⟩ := ex_low hE (fun v hv w e => (hp v hv w e).1) s n (Nat.le_refl n)
    refine ⟨fun v hv a x ex => l1 v hv a x ex, fun v hv b w e => l2 v hv ?_ w e⟩
    rcases l3 v b with z | ⟨x, hx, z, r⟩
    · exact z
    · exact j x hx (q x hx z) v r
theorem ex_end_high {n : Nat} {E : Nat → Nat} {p : Nat → Option Nat} (hE : ∀ v, v < n → ∀ x, (E v).testBit x = true → v < x ∧ x < n) (hp : ∀ v, v < n → ∀ w, p v = some w → w < n)
    (s : Nat × Nat) (h1 : s.1 < 2 ^ n) (h2 : s.2 < 2 ^ n) (h0 : 0 < n → 1 ≤ cc_n (fun x => s.1.testBit x) n) : ex_cl n E p (ex_it E p n (n + 1) s) := by
  refine ex_end (fun _ => True) (fun v hv => ex_lt (fun x hx => (hE v hv x hx).2)) hp (fun _ => trivial) ?_ s h1 h2 h0
  intro s b1 b2 _ q
  obtain ⟨l1, l2⟩ := ex_high (p := p) (fun v hv x e => (hE v hv x e).1) s n (Nat.le_refl n)
  exact ⟨fun v hv a x ex => l1 v hv (q v hv a) x ex, fun v hv b w e => l2 v hv b w e⟩
/-- what the closed pair leaves is a largest antichain, and lies below or on every other one -/
theorem ex_main {n : Nat} {R : Nat → Nat → Bool} {UP DN : Nat → Option Nat} {E : Nat → Nat} {t : Nat × Nat} (m : mt_Mat n R (fun _ => true) UP DN) (tr : mt_tr n R) {A0 : Nat → Bool} (an0 : mt_anti n R A0) (z0 : mt_sz n UP + cc_n A0 n = n)
    (hE : ∀ v, v < n → ∀ y, (E v).testBit y = true ↔ y < n ∧ R y v = true) (c : ex_cl n E UP t) (i0 : ∀ x, x < n → DN x = none → t.1.testBit x = true)
    (snd : ∀ PA PB : Nat → Prop, ex_clP n E UP PA PB → (∀ x, x < n → DN x = none → PA x) → (∀ x, t.1.testBit x = true → PA x) ∧ (∀ x, t.2.testBit x = true → PB x)) :
    mt_anti n R (fun x => t.1.testBit x && !t.2.testBit x) ∧ mt_sz n UP + cc_n (fun x => t.1.testBit x && !t.2.testBit x) n = n ∧
      ∀ O : Nat → Bool, mt_anti n R O → mt_sz n UP + cc_n O n = n → ∀ x, x < n → (t.1.testBit x && !t.2.testBit x) = true → O x = true ∨ ∃ w, w < n ∧ O w = true ∧ R x w = true := by
  have hall : cc_n (fun _ => true) n = n := cc_n_all (fun _ _ => rfl)
  have key : ∀ O : Nat → Bool, mt_anti n R O → mt_sz n UP + cc_n O n = n → (∀ x, t.1.testBit x = true → x < n ∧ (O x = true ∨ mt_D n R O x = true)) ∧ (∀ x, t.2.testBit x = true → x < n ∧ mt_D n R O x = true) := by
    intro O an z
    have tg := mt_tight m tr an (fun _ _ _ => rfl) (by omega)
    refine snd (fun x => x < n ∧ (O x = true ∨ mt_D n R O x = true)) (fun x => x < n ∧ mt_D n R O x = true) ⟨?_, ?_⟩ ?_
    · intro v hv ⟨_, pa⟩ y ey
      obtain ⟨hy, r⟩ := (hE v hv y).mp ey
      refine ⟨hy, ?_⟩
      rcases pa with pa | pa
      · exact mt_D_iff.mpr ⟨v, hv, pa, r⟩
      · obtain ⟨a, ha, oa, ra⟩ := mt_D_iff.mp pa
        exact mt_D_iff.mpr ⟨a, ha, oa, tr y v a hy hv ha r ra⟩
    · intro v hv ⟨_, pb⟩ w e
      obtain ⟨hw, _, _, _, e2⟩ := m.1 v w hv e
      refine ⟨hw, ?_⟩
      rcases tg w hw rfl with q | q | ⟨l, e3, q⟩
      · exact Or.inl q
      · exact Or.inr q.2
      · rw [e2] at e3
        rw [← Option.some.inj e3, pb] at q
        exact absurd q.symm Bool.false_ne_true
    · intro x hx e
      refine ⟨hx, ?_⟩
      rcases tg x hx rfl with q | q | ⟨l, e3, _⟩
      · exact Or.inl q
      · exact Or.inr q.2
      · rw [e] at e3
        exact absurd e3.symm (Option.some_ne_none l)
  have cov : mt_cov n R (fun _ => true) (fun _ => True) (fun x => t.2.testBit x) (fun x => !t.1.testBit x) := by
    intro a b ha hb _ _ _ r
    cases q : t.1.testBit b
    · right; show (!t.1.testBit b) = true; rw [q]; rfl
    · left; exact c.1 b hb q a ((hE b hb a).mpr ⟨ha, r⟩)
  obtain ⟨ca, cs⟩ := mt_cov_anti cov
  have es : (fun x => true && !(fun x => t.2.testBit x) x && !(fun x => !t.1.testBit x) x) = (fun x => t.1.testBit x && !t.2.testBit x) := funext fun x => by
    show (true && !t.2.testBit x && !!t.1.testBit x) = (t.1.testBit x && !t.2.testBit x)
    cases t.1.testBit x <;> cases t.2.testBit x <;> rfl
  have ca : mt_anti n R (fun x => true && !(fun x => t.2.testBit x) x && !(fun x => !t.1.testBit x) x) := ca
  have cs : cc_n (fun _ => true) n ≤ cc_n (fun x => true && !(fun x => t.2.testBit x) x && !(fun x => !t.1.testBit x) x) n + (cc_n (fun x => t.2.testBit x) n + cc_n (fun x => !t.1.testBit x) n) := cs
  rw [es] at ca cs
  have k0 := key A0 an0 z0
  have tg0 := mt_tight m tr an0 (fun _ _ _ => rfl) (by omega)
  have b1 : cc_n (fun x => t.2.testBit x) n ≤ cc_n (fun l => (UP l).isSome && t.2.testBit l) n := cc_n_le (fun x hx e => by
    obtain ⟨_, d⟩ := k0.2 x e
    obtain ⟨a, ha, oa, ra⟩ := mt_D_iff.mp d
    rcases tg0 x hx rfl with q | q | ⟨l, e3, q⟩
    · rw [an0 x a hx ha q oa] at ra
      exact absurd ra Bool.false_ne_true
    · show ((UP x).isSome && t.2.testBit x) = true
      rw [q.1, e]; rfl
    · obtain ⟨hl, e4⟩ := m.2 x l hx e3
      obtain ⟨_, r, _⟩ := m.1 l x hl e4
      have : mt_D n R A0 l = true := mt_D_iff.mpr ⟨a, ha, oa, tr l x a hl hx ha r ra⟩
      rw [this] at q
      exact absurd q.symm Bool.false_ne_true)
  have b2 : cc_n (fun x => !t.1.testBit x) n ≤ cc_n (fun r => (DN r).any (fun l => !t.2.testBit l)) n := cc_n_le (fun x hx e => by
    have e : (!t.1.testBit x) = true := e
    rw [Bool.not_eq_true'] at e
    cases d : DN x with
    | none => rw [i0 x hx d] at e; exact absurd e.symm Bool.false_ne_true
    | some l =>
      show (!t.2.testBit l) = true
      obtain ⟨hl, e4⟩ := m.2 x l hx d
      cases q : t.2.testBit l
      · rfl
      · have := c.2 l hl q x e4
        have this : t.1.testBit x = true := this
        rw [this] at e
        exact absurd e.symm Bool.false_ne_true)
  have sp := mt_split2 m (fun l => t.2.testBit l)
  have du := mt_dual m tr ca (fun _ _ _ => rfl)
  refine ⟨ca, by omega, fun O an z x hx e => ?_⟩
  rw [Bool.and_eq_true] at e
  rcases ((key O an z).1 x e.1).2 with q | q
  · exact Or.inl q
  · exact Or.inr (mt_D_iff.mp q)
end
section
/-! chains: the longest one by lengths, and a cover by chains out of a matching -/
def ch_chain (n : Nat) (R : Nat → Nat → Bool) (C : Nat → Bool) : Prop := ∀ u v, u < v → v < n → C u = true → C v = true → R u v = true
/-- lengths: L x is the length of the longest chain of s that ends in x -/
def ch_len (n : Nat) (R : Nat → Nat → Bool) (s : Nat → Bool) (L : Nat → Nat) : Prop :=
  ∀ x, x < n → (s x = true → 1 ≤ L x ∧ (∀ u, u < x → R u x = true → s u = true → L u + 1 ≤ L x) ∧ (L x = 1 ∨ ∃ u, u < x ∧ R u x = true ∧ s u = true ∧ L x = L u + 1))
theorem ch_last (C : Nat → Bool) : ∀ v, cc_n C v = 0 ∨ ∃ u, u < v ∧ C u = true ∧ cc_n C v = cc_n C (u + 1)
  | 0 => Or.inl rfl
  | v + 1 => by
    cases h : C v
    · have e : cc_n C (v + 1) = cc_n C v := by rw [cc_n_succ, h]; rfl
      rcases ch_last C v with z | ⟨u, hu, cu, z⟩
      · left; omega
      · right; exact ⟨u, by omega, cu, by omega⟩
    · right; exact ⟨v, by omega, h, rfl⟩
theorem ch_up {n : Nat} {R : Nat → Nat → Bool} {s : Nat → Bool} {L : Nat → Nat} (hL : ch_len n R s L) {C : Nat → Bool} (hC : ch_chain n R C) (hs : ∀ x, x < n → C x = true → s x = true) :
    ∀ d v, v < d → v < n → C v = true → cc_n C (v + 1) ≤ L v := by
  intro d
  induction d with
  | zero => intro v h; omega
  | succ d ih =>
    intro v hd hv cv
    obtain ⟨h1, h2, _⟩ := hL v hv (hs v hv cv)
    have e : cc_n C (v + 1) = cc_n C v + 1 := by rw [cc_n_succ, cv]; rfl
    rcases ch_last C v with z | ⟨u, hu, cu, z⟩
    · omega
    · have a := ih u (by omega) (by omega) cu
      have b := h2 u hu (hC u v hu hv cu cv) (hs u (by omega) cu)
      omega
theorem ch_dn {n : Nat} {R : Nat → Nat → Bool} {s : Nat → Bool} {L : Nat → Nat} (tr : mt_tr n R) (hL : ch_len n R s L) :
    ∀ d v, v < d → v < n → s v = true → ∃ C : Nat → Bool, ch_chain n R C ∧ (∀ x, C x = true → s x = true ∧ x ≤ v) ∧ C v = true ∧ cc_n C (v + 1) = L v := by
  intro d
  induction d with
  | zero => intro v h; omega
  | succ d ih =>
    intro v hd hv sv
    obtain ⟨_, _, h⟩ := hL v hv sv
    rcases h with h | ⟨u, hu, ru, su, h⟩
    · refine ⟨fun x => x == v, fun a b hab hb ca cb => ?_, fun x cx => ?_, beq_self_eq_true v, ?_⟩
      · have := eq_of_beq ca
        have := eq_of_beq cb
        omega
      · rw [eq_of_beq cx]; exact ⟨sv, Nat.le_refl v⟩
      · rw [cc_n_single (Nat.lt_succ_self v), h]
    · obtain ⟨C, c1, c2, c3, c4⟩ := ih u (by omega) (by omega) su
      refine ⟨fun x => C x || x == v, fun a b hab hb ca cb => ?_, fun x cx => ?_, ?_, ?_⟩
      · rw [Bool.or_eq_true] at ca cb
        rcases cb with cb | cb
        · rcases ca with ca | ca
          · exact c1 a b hab hb ca cb
          · have := eq_of_beq ca
            have := (c2 b cb).2
            omega
        · have eb := eq_of_beq cb
          rcases ca with ca | ca
          · have la := (c2 a ca).2
            rw [eb]
            rcases Nat.lt_or_ge a u with q | q
            · exact tr a u v (by omega) (by omega) hv (c1 a u q (by omega) ca c3) ru
            · have e : a = u := by omega
              rw [e]; exact ru
          · have := eq_of_beq ca
            omega
      · rw [Bool.or_eq_true] at cx
        rcases cx with cx | cx
        · have := c2 x cx
          exact ⟨this.1, by omega⟩
        · rw [eq_of_beq cx]; exact ⟨sv, Nat.le_refl v⟩
      · show (C v || v == v) = true
        rw [beq_self_eq_true, Bool.or_true]
      · have nv : C v = false := by
          cases q : C v
          · rfl
          · have := (c2 v q).2; omega
        have w : cc_n C (v + 1) = cc_n C (u + 1) := cc_n_wide (by omega) (fun i hi => by
          cases q : C i
          · rfl
          · have := (c2 i q).2; omega)
        rw [cc_n_add1 (Nat.lt_succ_self v) nv, w, c4, h]
/-- the greatest length is the size of a longest chain -/
theorem ch_long {n : Nat} {R : Nat → Nat → Bool} {s : Nat → Bool} {L : Nat → Nat} (tr : mt_tr n R) (hL : ch_len n R s L) {b : Nat} (h1 : ∀ x, x < n → s x = true → L x ≤ b) (h2 : b = 0 ∨ ∃ x, x < n ∧ s x = true ∧ b = L x) :
    (∀ C : Nat → Bool, ch_chain n R C → (∀ x, x < n → C x = true → s x = true) → cc_n C n ≤ b) ∧ ∃ C : Nat → Bool, ch_chain n R C ∧ (∀ x, x < n → C x = true → s x = true) ∧ cc_n C n = b := by
  constructor
  · intro C hC hs
    rcases ch_last C n with z | ⟨u, hu, cu, z⟩
    · omega
    · have a := ch_up hL hC hs (u + 1) u (by omega) hu cu
      have := h1 u hu (hs u hu cu)
      omega
  · rcases h2 with h2 | ⟨x, hx, sx, h2⟩
    · exact ⟨fun _ => false, fun u v _ _ c => absurd c Bool.false_ne_true, fun x _ c => absurd c Bool.false_ne_true, by rw [h2]; exact cc_n_none (fun _ _ => rfl)⟩
    · obtain ⟨C, c1, c2, _, c4⟩ := ch_dn tr hL (x + 1) x (by omega) hx sx
      refine ⟨C, c1, fun y _ cy => (c2 y cy).1, ?_⟩
      rw [h2, ← c4]
      exact cc_n_wide (by omega) (fun i hi => by
        cases q : C i
        · rfl
        · have := (c2 i q).2; omega)
/-! the chains of a matching -/
def ch_tp (UP : Nat → Option Nat) : Nat → Nat → Nat
  | 0, x => x
  | k + 1, x => match UP x with
    | none => x
    | some y => ch_tp UP k y
theorem ch_tp_n {UP : Nat → Option Nat} {k x : Nat} (h : UP x = none) : ch_tp UP (k + 1) x = x := by
  show (match UP x with | none => x | some y => ch_tp UP k y) = x
  rw [h]
theorem ch_tp_s {UP : Nat → Option Nat} {k x y : Nat} (h : UP x = some y) : ch_tp UP (k + 1) x = ch_tp UP k y := by
  show (match UP x with | none => x | some y => ch_tp UP k y) = ch_tp UP k y
  rw [h]
theorem ch_tp_fix {n : Nat} {UP : Nat → Option Nat} (hu : ∀ x y, x < n → UP x = some y → x < y ∧ y < n) : ∀ k x, x < n → n - x ≤ k → ch_tp UP (k + 1) x = ch_tp UP k x
  | 0, x, hx, h => by omega
  | k + 1, x, hx, h => by
    cases e : UP x with
    | none => rw [ch_tp_n e, ch_tp_n e]
    | some y =>
      obtain ⟨a, b⟩ := hu x y hx e
      rw [ch_tp_s e, ch_tp_s e]
      exact ch_tp_fix hu k y b (by omega)
/-- a top for every element: itself, or its upper partner's -/
theorem ch_top {n : Nat} {UP : Nat → Option Nat} (hu : ∀ x y, x < n → UP x = some y → x < y ∧ y < n) :
    ∃ T : Nat → Nat, (∀ x, x < n → UP x = none → T x = x) ∧ (∀ x y, x < n → UP x = some y → T x = T y) := by
  refine ⟨ch_tp UP n, fun x hx e => ?_, fun x y hx e => ?_⟩
  · obtain ⟨m, rfl⟩ : ∃ m, n = m + 1 := ⟨n - 1, by omega⟩
    exact ch_tp_n e
  · obtain ⟨a, b⟩ := hu x y hx e
    obtain ⟨m, rfl⟩ : ∃ m, n = m + 1 := ⟨n - 1, by omega⟩
    rw [ch_tp_s e]
    exact (ch_tp_fix hu m y b (by omega)).symm
theorem ch_top_in {n : Nat} {s : Nat → Bool} {UP : Nat → Option Nat} {T : Nat → Nat} (hu : ∀ x y, x < n → UP x = some y → x < y ∧ y < n ∧ s y = true) (t1 : ∀ x, x < n → UP x = none → T x = x) (t2 : ∀ x y, x < n → UP x = some y → T x = T y) :
    ∀ d x, n - x ≤ d → x < n → s x = true → x ≤ T x ∧ T x < n ∧ s (T x) = true ∧ UP (T x) = none := by
  intro d
  induction d with
  | zero => intro x h1 h2; omega
  | succ d ih =>
    intro x hd hx sx
    cases e : UP x with
    | none => rw [t1 x hx e]; exact ⟨Nat.le_refl x, hx, sx, e⟩
    | some y =>
      obtain ⟨a, b, c⟩ := hu x y hx e
      obtain ⟨p, q⟩ := ih y (by omega) b c
      rw [t2 x y hx e]
      exact ⟨by omega, q⟩
/-- two elements with one top are one below the other -/
theorem ch_same {n : Nat} {R : Nat → Nat → Bool} {s : Nat → Bool} {UP DN : Nat → Option Nat} {T : Nat → Nat} (m : mt_Mat n R s UP DN) (tr : mt_tr n R) (lt : ∀ a b, b < n → R a b = true → a < b) (t1 : ∀ x, x < n → UP x = none → T x = x) (t2 : ∀ x y, x < n → UP x = some y → T x = T y) :
    ∀ d x y, n - x ≤ d → x < y → y < n → s x = true → s y = true → T x = T y → R x y = true ∧ ∃ z, DN y = some z ∧ x ≤ z := by
  have hu : ∀ x y, x < n → UP x = some y → x < y ∧ y < n ∧ s y = true := fun x y hx e => by
    obtain ⟨hy, r, _, sy, _⟩ := m.1 x y hx e
    exact ⟨lt x y hy r, hy, sy⟩
  intro d
  induction d with
  | zero => intro x y h1 h2 h3; omega
  | succ d ih =>
    intro x y hd hxy hy sx sy ht
    have ty := ch_top_in hu t1 t2 n y (by omega) hy sy
    cases e : UP x with
    | none =>
      have := t1 x (by omega) e
      omega
    | some x' =>
      obtain ⟨hx', r, _, sx', e2⟩ := m.1 x x' (by omega) e
      have lx := lt x x' hx' r
      have h2 := t2 x x' (by omega) e
      rcases Nat.lt_trichotomy x' y with q | q | q
      · obtain ⟨a, z, b, c⟩ := ih x' y (by omega) q hy sx' sy (by omega)
        exact ⟨tr x x' y (by omega) hx' hy r a, z, b, by omega⟩
      · rw [← q]
        exact ⟨r, x, e2, Nat.le_refl x⟩
      · obtain ⟨a, z, b, c⟩ := ih y x' (by omega) q hx' sy sx' (by omega)
        rw [e2] at b
        have := Option.some.inj b
        omega
/-! the chains' masks in ascending order -/
def ch_cm (n : Nat) (s : Nat → Bool) (T : Nat → Nat) (t : Nat) : Nat := cc_mk (fun y => s y && T y == t) n
def ch_W (n : Nat) (s : Nat → Bool) (T : Nat → Nat) (k : Nat) : Nat := cc_mk (fun x => s x && decide (ch_cm n s T (T x) ≤ k)) n
def ch_N (n : Nat) (s : Nat → Bool) (UP : Nat → Option Nat) (T : Nat → Nat) (k : Nat) : Nat := cc_n (fun t => s t && (UP t).isNone && decide (ch_cm n s T t ≤ k)) n
theorem ch_cm_bit {n : Nat} {s : Nat → Bool} {T : Nat → Nat} {t x : Nat} : (ch_cm n s T t).testBit x = true ↔ x < n ∧ s x = true ∧ T x = t := by
  unfold ch_cm
  rw [cc_mk_bit, Bool.and_eq_true, Bool.and_eq_true, decide_eq_true_eq, beq_iff_eq]
theorem ch_W_bit {n : Nat} {s : Nat → Bool} {T : Nat → Nat} {k x : Nat} : (ch_W n s T k).testBit x = true ↔ x < n ∧ s x = true ∧ ch_cm n s T (T x) ≤ k := by
  unfold ch_W
  rw [cc_mk_bit, Bool.and_eq_true, Bool.and_eq_true, decide_eq_true_eq, decide_eq_true_eq]
theorem ch_bext {m k : Nat} (h : ∀ i, m.testBit i = true ↔ k.testBit i = true) : m = k := Nat.eq_of_testBit_eq (fun i => by
  have := h i
  cases a : m.testBit i <;> cases b : k.testBit i
  · rfl
  · rw [a, b] at this; exact absurd (this.mpr rfl) Bool.false_ne_true
  · rw [a, b] at this; exact absurd (this.mp rfl) Bool.false_ne_true
  · rfl)
theorem ch_bz {m k : Nat} (h : ∀ i, m.testBit i = true → k.testBit i = true → False) : m &&& k = 0 := ch_bext (fun i => by
  rw [Nat.testBit_and, Bool.and_eq_true, Nat.zero_testBit]
  exact ⟨fun z => (h i z.1 z.2).elim, fun z => absurd z Bool.false_ne_true⟩)
/-- one step of the order of masks: no chain has the next mask, or just one has -/
theorem ch_step {n : Nat} {R : Nat → Nat → Bool} {s : Nat → Bool} {UP DN : Nat → Option Nat} {T : Nat → Nat} (m : mt_Mat n R s UP DN) (tr : mt_tr n R) (lt : ∀ a b, b < n → R a b = true → a < b) (t1 : ∀ x, x < n → UP x = none → T x = x) (t2 : ∀ x y, x < n → UP x = some y → T x = T y) (k : Nat) :
    (ch_W n s T (k + 1) = ch_W n s T k ∧ ch_N n s UP T (k + 1) = ch_N n s UP T k) ∨
    (ch_chain n R (fun x => (k + 1).testBit x) ∧ (∀ x, (k + 1).testBit x = true → x < n ∧ s x = true) ∧ ch_W n s T k &&& (k + 1) = 0 ∧ ch_W n s T (k + 1) = ch_W n s T k ||| (k + 1) ∧ ch_N n s UP T (k + 1) = ch_N n s UP T k + 1) := by
  have hu : ∀ x y, x < n → UP x = some y → x < y ∧ y < n ∧ s y = true := fun x y hx e => by
    obtain ⟨hy, r, _, sy, _⟩ := m.1 x y hx e
    exact ⟨lt x y hy r, hy, sy⟩
  have tin : ∀ x, x < n → s x = true → x ≤ T x ∧ T x < n ∧ s (T x) = true ∧ UP (T x) = none := fun x hx sx => ch_top_in hu t1 t2 n x (by omega) hx sx
  by_cases q : ∃ t, t < n ∧ s t = true ∧ UP t = none ∧ ch_cm n s T t = k + 1
  · right
    obtain ⟨t, ht, st, ut, e⟩ := q
    have bit : ∀ x, (k + 1).testBit x = true ↔ x < n ∧ s x = true ∧ T x = t := fun x => by rw [← e]; exact ch_cm_bit
    refine ⟨fun u v huv hv cu cv => ?_, fun x hx => ?_, ?_, ?_, ?_⟩
    · obtain ⟨_, su, tu⟩ := (bit u).mp cu
      obtain ⟨_, sv, tv⟩ := (bit v).mp cv
      exact (ch_same m tr lt t1 t2 n u v (by omega) huv hv su sv (by omega)).1
    · have := (bit x).mp hx
      exact ⟨this.1, this.2.1⟩
    · refine ch_bz (fun i a b => ?_)
      have a := ch_W_bit.mp a
      have b := (bit i).mp b
      rw [b.2.2] at a
      omega
    · refine ch_bext (fun i => ?_)
      rw [Nat.testBit_or, Bool.or_eq_true, ch_W_bit, ch_W_bit, bit]
      constructor
      · intro ⟨a, b, c⟩
        rcases Nat.lt_or_ge (ch_cm n s T (T i)) (k + 1) with z | z
        · exact Or.inl ⟨a, b, by omega⟩
        · refine Or.inr ⟨a, b, ?_⟩
          have e3 : ch_cm n s T (T i) = k + 1 := by omega
          have b3 : (ch_cm n s T (T i)).testBit i = true := ch_cm_bit.mpr ⟨a, b, rfl⟩
          rw [e3] at b3
          exact ((bit i).mp b3).2.2
      · intro z
        rcases z with ⟨a, b, c⟩ | ⟨a, b, c⟩
        · exact ⟨a, b, by omega⟩
        · exact ⟨a, b, by rw [c, e]; exact Nat.le_refl _⟩
    · unfold ch_N
      rw [← cc_n_add1 (p := fun t => s t && (UP t).isNone && decide (ch_cm n s T t ≤ k)) ht (by
        show (s t && (UP t).isNone && decide (ch_cm n s T t ≤ k)) = false
        rw [e, decide_eq_false (by omega), Bool.and_false])]
      refine cc_n_eq (fun i hi => ?_)
      show (s i && (UP i).isNone && decide (ch_cm n s T i ≤ k + 1)) = ((s i && (UP i).isNone && decide (ch_cm n s T i ≤ k)) || i == t)
      by_cases z : i = t
      · subst z
        rw [beq_self_eq_true, Bool.or_true, st, ut, e, decide_eq_true (Nat.le_refl _)]
        rfl
      · rw [beq_false_of_ne z, Bool.or_false]
        cases si : s i
        · rfl
        · cases ui : UP i with
          | some y => rfl
          | none =>
            have ne : ch_cm n s T i ≠ k + 1 := by
              intro c
              have b3 : (ch_cm n s T i).testBit i = true := ch_cm_bit.mpr ⟨hi, si, t1 i hi ui⟩
              rw [c] at b3
              have b4 := ((bit i).mp b3).2.2
              rw [t1 i hi ui] at b4
              exact z b4
            rw [show decide (ch_cm n s T i ≤ k + 1) = decide (ch_cm n s T i ≤ k) from decide_eq_decide.mpr (by omega)]
  · left
    have ne : ∀ t, t < n → s t = true → UP t = none → ch_cm n s T t ≠ k + 1 := fun t ht st ut e => q ⟨t, ht, st, ut, e⟩
    constructor
    · refine ch_bext (fun i => ?_)
      rw [ch_W_bit, ch_W_bit]
      constructor
      · intro ⟨a, b, c⟩
        obtain ⟨_, p1, p2, p3⟩ := tin i a b
        have := ne (T i) p1 p2 p3
        exact ⟨a, b, by omega⟩
      · intro ⟨a, b, c⟩
        exact ⟨a, b, by omega⟩
    · unfold ch_N
      refine cc_n_eq (fun i hi => ?_)
      cases si : s i
      · rfl
      · cases ui : UP i with
        | some y => rfl
        | none =>
          have := ne i hi si ui
          rw [show decide (ch_cm n s T i ≤ k + 1) = decide (ch_cm n s T i ≤ k) from decide_eq_decide.mpr (by omega)]
theorem ch_start {n : Nat} {s : Nat → Bool} {UP : Nat → Option Nat} {T : Nat → Nat} (t1 : ∀ x, x < n → UP x = none → T x = x) : ch_W n s T 0 = 0 ∧ ch_N n s UP T 0 = 0 := by
  constructor
  · refine ch_bext (fun i => ?_)
    rw [ch_W_bit, Nat.zero_testBit]
    refine ⟨fun ⟨a, b, c⟩ => ?_, fun z => absurd z Bool.false_ne_true⟩
    have b3 : (ch_cm n s T (T i)).testBit i = true := ch_cm_bit.mpr ⟨a, b, rfl⟩
    rw [Nat.le_zero.mp c, Nat.zero_testBit] at b3
    exact b3
  · refine cc_n_none (fun i hi => ?_)
    cases si : s i
    · rfl
    · cases ui : UP i with
      | some y => rfl
      | none =>
        have b3 : (ch_cm n s T i).testBit i = true := ch_cm_bit.mpr ⟨hi, si, t1 i hi ui⟩
        rw [decide_eq_false (fun c => by
          rw [Nat.le_zero.mp c, Nat.zero_testBit] at b3
          exact absurd b3 Bool.false_ne_true)]
        rfl
theorem ch_endW {n : Nat} {s : Nat → Bool} {UP : Nat → Option Nat} {T : Nat → Nat} {S : Nat} (hS : S < 2 ^ n) (hs : ∀ x, x < n → s x = S.testBit x) : ch_W n s T S = S ∧ ch_N n s UP T S = cc_n (fun t => s t && (UP t).isNone) n := by
  have le : ∀ t, ch_cm n s T t ≤ S := fun t => Nat.le_of_testBit (fun i z => by
    obtain ⟨a, b, _⟩ := ch_cm_bit.mp z
    rw [← hs i a]; exact b)
  constructor
  · refine ch_bext (fun i => ?_)
    rw [ch_W_bit]
    constructor
    · intro ⟨a, b, _⟩
      rw [← hs i a]; exact b
    · intro z
      have a := cc_in hS z
      exact ⟨a, by rw [hs i a]; exact z, le _⟩
  · refine cc_n_eq (fun i hi => ?_)
    show (s i && (UP i).isNone && decide (ch_cm n s T i ≤ S)) = (s i && (UP i).isNone)
    rw [decide_eq_true (le i), Bool.and_true]
theorem ch_tops {n : Nat} {R : Nat → Nat → Bool} {s : Nat → Bool} {UP DN : Nat → Option Nat} (m : mt_Mat n R s UP DN) : cc_n (fun t => s t && (UP t).isNone) n + mt_sz n UP = cc_n s n := by
  have h := cc_s_add (fun t => (s t && (UP t).isNone).toNat) (fun t => (UP t).isSome.toNat) n
  exact h.symm.trans (cc_s_eq (fun i hi => by
    show (s i && (UP i).isNone).toNat + (UP i).isSome.toNat = (s i).toNat
    cases e : UP i with
    | none => cases s i <;> rfl
    | some y => rw [(m.1 i y hi e).2.2.1]; rfl))
end
section
/-! the same rows with the ints given by equations, for terms over the printed predicates -/
theorem xe_b0 {x y : Int32} {a k : Nat} {A B : Prop} (ex : x = nI a) (ey : y = nI k) (ha : a < 2 ^ 31) (hk : k < 32) (f : a.testBit k = false → A) (g : a.testBit k = true → B) : (((x >>> (y &&& 31)) &&& 1) = 0 → A) ∧ (¬ ((x >>> (y &&& 31)) &&& 1) = 0 → B) := by
  subst ex ey; exact xb_b0 ha hk f g
theorem xe_b1 {x y : Int32} {a k : Nat} {A B : Prop} (ex : x = nI a) (ey : y = nI k) (ha : a < 2 ^ 31) (hk : k < 32) (f : a.testBit k = true → A) (g : a.testBit k = false → B) : (((x >>> (y &&& 31)) &&& 1) = 1 → A) ∧ (¬ ((x >>> (y &&& 31)) &&& 1) = 1 → B) := by
  subst ex ey; exact xb_b1 ha hk f g
theorem xe_m0 {x y : Int32} {a k : Nat} {A B : Prop} (ex : x = nI a) (ey : y = nI k) (ha : a < 2 ^ 31) (hk : k < 31) (f : a.testBit k = false → A) (g : a.testBit k = true → B) : ((x &&& ((1 : Int32) <<< (y &&& 31))) = 0 → A) ∧ (¬ (x &&& ((1 : Int32) <<< (y &&& 31))) = 0 → B) := by
  subst ex ey; exact xb_m0 ha hk f g
theorem xe_s0 {x y : Int32} {a k : Nat} {A B : Prop} (ex : x = nI a) (ey : y = nI k) (ha : a < 2 ^ 31) (hk : k < 32) (f : a < 2 ^ k → A) (g : ¬ a < 2 ^ k → B) : ((x >>> (y &&& 31)) = 0 → A) ∧ (¬ (x >>> (y &&& 31)) = 0 → B) := by
  subst ex ey; exact xb_s0 ha hk f g
theorem xe_z {x : Int32} {a : Nat} {A B : Prop} (ex : x = nI a) (ha : a < 2 ^ 31) (f : a = 0 → A) (g : a ≠ 0 → B) : (x = 0 → A) ∧ (¬ x = 0 → B) := by
  subst ex; exact xb_z ha f g
theorem xe_pos {x : Int32} {o : Option Nat} {A B : Prop} (ex : x = xa_p o) (hb : xa_ok o) (f : ∀ k, o = some k → A) (g : o = none → B) : (0 ≤ x → A) ∧ (¬ 0 ≤ x → B) := by
  subst ex; exact xa_pos hb f g
theorem xe_neg {x : Int32} {o : Option Nat} {A B : Prop} (ex : x = xa_p o) (hb : xa_ok o) (f : o = none → A) (g : ∀ k, o = some k → B) : (x < 0 → A) ∧ (¬ x < 0 → B) := by
  subst ex; exact xa_neg hb f g
theorem xa_rN {f : Nat → Nat} {k : Nat} (hk : k < 2 ^ 31) : xa_N f (nI k).toNatClampNeg = nI (f k) := by rw [nI_clamp hk]; rfl
theorem xa_rP {f : Nat → Option Nat} {k : Nat} (hk : k < 2 ^ 31) : xa_P f (nI k).toNatClampNeg = xa_p (f k) := by rw [nI_clamp hk]; rfl
theorem xa_wN {f : Nat → Nat} {k v : Nat} {z : Int32} (hk : k < 2 ^ 31) (hz : z = nI v) : upd (xa_N f) (nI k).toNatClampNeg z = xa_N (xa_u f k v) := by rw [nI_clamp hk, hz, xa_updN]
theorem xa_wP {f : Nat → Option Nat} {k : Nat} {o : Option Nat} {z : Int32} (hk : k < 2 ^ 31) (hz : z = xa_p o) : upd (xa_P f) (nI k).toNatClampNeg z = xa_P (xa_u f k o) := by rw [nI_clamp hk, hz, xa_updP]
theorem xa_i {k : Nat} (h : k < 10) : vp_in (nI k) 10 := vp_in_nI h (by decide)
theorem xa_l {k : Nat} (h : k < 1024) : vp_in (nI k) 1024 := vp_in_nI h (by decide)
theorem xa_31 {a n : Nat} (hn : n ≤ 10) (h : a < 2 ^ n) : a < 2 ^ 31 := Nat.lt_of_lt_of_le h (Nat.pow_le_pow_right (by decide) (by omega))
theorem xa_k {a n : Nat} (hn : n ≤ 10) (h : a < 2 ^ n) : a < 1024 := Nat.lt_of_lt_of_le h (cc_p10 hn)
end
section
/-! turnPath: the path is turned, the matching grows by its start -/
def tp_inv (n : Nat) (R : Nat → Nat → Bool) (s : Nat → Bool) (UP DN : Nat → Option Nat) (w : Nat) : Prop :=
  (∀ u v, u < n → UP u = some v → v < n ∧ R u v = true ∧ s u = true ∧ s v = true ∧ DN v = some u ∧ v ≠ w) ∧
  (∀ v u, v < n → v ≠ w → DN v = some u → u < n ∧ UP u = some v)
theorem tp_start {n : Nat} {R : Nat → Nat → Bool} {s : Nat → Bool} {UP DN : Nat → Option Nat} {w : Nat} (m : mt_Mat n R s UP DN) (hw : DN w = none) : tp_inv n R s UP DN w := by
  refine ⟨fun u v hu e => ?_, fun v u hv _ e => m.2 v u hv e⟩
  obtain ⟨a, b, c, d, f⟩ := m.1 u v hu e
  refine ⟨a, b, c, d, f, fun z => ?_⟩
  rw [z, hw] at f
  exact Option.some_ne_none u f.symm
theorem tp_end {n : Nat} {R : Nat → Nat → Bool} {s : Nat → Bool} {UP DN : Nat → Option Nat} {w st : Nat} (h : tp_inv n R s UP DN w) (hst : st < n) (hw : w < n) (r : R st w = true) (ss : s st = true) (sw : s w = true) (u0 : UP st = none) : mt_Mat n R s (xa_u UP st (some w)) (xa_u DN w (some st)) := by
  refine ⟨fun u v hu e => ?_, fun v u hv e => ?_⟩
  · by_cases z : u = st
    · rw [z, xa_us] at e
      rw [z, ← Option.some.inj e, xa_us]
      exact ⟨hw, r, ss, sw, rfl⟩
    · rw [xa_un z] at e
      obtain ⟨a, b, c, d, f, g⟩ := h.1 u v hu e
      rw [xa_un g]
      exact ⟨a, b, c, d, f⟩
  · by_cases z : v = w
    · rw [z, xa_us] at e
      rw [z, ← Option.some.inj e, xa_us]
      exact ⟨hst, rfl⟩
    · rw [xa_un z] at e
      obtain ⟨a, b⟩ := h.2 v u hv z e
      have ne : u ≠ st := fun c => by rw [c, u0] at b; exact Option.some_ne_none v b.symm
      rw [xa_un ne]
      exact ⟨a, b⟩
theorem tp_step {n : Nat} {R : Nat → Nat → Bool} {s : Nat → Bool} {UP DN : Nat → Option Nat} {w q w' : Nat} (h : tp_inv n R s UP DN w) (hq : q < n) (hw : w < n) (r : R q w = true) (ss : s q = true) (sw : s w = true) (uq : UP q = some w') : tp_inv n R s (xa_u UP q (some w)) (xa_u DN w (some q)) w' := by
  obtain ⟨_, _, _, _, dq, nq⟩ := h.1 q w' hq uq
  refine ⟨fun u v hu e => ?_, fun v u hv nv e => ?_⟩
  · by_cases z : u = q
    · rw [z, xa_us] at e
      rw [z, ← Option.some.inj e, xa_us]
      exact ⟨hw, r, ss, sw, rfl, fun c => nq c.symm⟩
    · rw [xa_un z] at e
      obtain ⟨a, b, c, d, f, g⟩ := h.1 u v hu e
      rw [xa_un g]
      refine ⟨a, b, c, d, f, fun y => ?_⟩
      rw [y, dq] at f
      exact z (Option.some.inj f).symm
  · by_cases z : v = w
    · rw [z, xa_us] at e
      rw [z, ← Option.some.inj e, xa_us]
      exact ⟨hq, rfl⟩
    · rw [xa_un z] at e
      obtain ⟨a, b⟩ := h.2 v u hv z e
      have ne : u ≠ q := fun c => by rw [c, uq] at b; exact nv (Option.some.inj b).symm
      rw [xa_un ne]
      exact ⟨a, b⟩
section
variable {post : SX → Prop} {fb : Int32} {aU aO aKU aKD aQ aL : Nat → Int32}
theorem xw_turn5 {n : Nat} (hn : n ≤ 10) {R : Nat → Nat → Bool} {s : Nat → Bool} {C Q V par : Nat → Nat} {st : Nat} (hst : st < n) (q0 : Q 0 = st) :
    ∀ (f j : Nat) (UP DN : Nat → Option Nat) (w stp : Nat), j < f → stp + j < 10 → w < n → C w = Q j → R (Q j) w = true → s w = true → s (Q j) = true → Q j < n → UP st = none → tp_inv n R s UP DN w →
      (∀ i, 1 ≤ i → i ≤ j → V i < n ∧ UP (Q i) = some (V i) ∧ C (V i) = Q (par i) ∧ par i < i ∧ R (Q (par i)) (V i) = true ∧ s (V i) = true) →
      (∀ i, i ≤ j → Q i < n ∧ s (Q i) = true) → (∀ i i', 1 ≤ i → i < i' → i' ≤ j → V i ≠ V i') →
      (∀ UP' DN', mt_Mat n R s UP' DN' → (∀ u, u < n → (UP' u).isSome = ((UP u).isSome || u == st)) → post (nI n, fb, aU, aO, aKU, aKD, xa_P UP', xa_P DN', aQ, xa_N C, aL)) →
      wX_turnPath_5 post (nI st) (nI n) fb f (nI w) (nI stp) aU aO aKU aKD (xa_P UP) (xa_P DN) aQ (xa_N C) aL := by
  intro f
  induction f with
  | zero => intro j UP DN w stp h; omega
  | succ f ih =>
    intro j UP DN w stp hj hs hw cw rw' sw sq hq u0 inv path qs inj K
    have b31 : ∀ k, k < n → k < 2 ^ 31 := fun k h => by omega
    refine pk_le 10 stp (fun h => by omega) (fun _ => ?_)
    refine ⟨xa_i (by omega), nm_r ((xa_rN (b31 w hw)).trans (congrArg nI cw)) ⟨xa_i (by omega), nm_r (xa_rP (b31 _ hq)) ⟨xa_i (by omega), nm_r (xa_wP (o := some w) (b31 _ hq) (xa_narb (by omega))) ⟨xa_i (by omega), nm_r (xa_wP (o := some (Q j)) (b31 w hw) (xa_narb (by omega))) ?_⟩⟩⟩⟩
    by_cases z : j = 0
    · subst z
      refine pk_eq (Q 0) st (fun _ => ?_) (fun h => absurd q0 h)
      rw [q0] at sq rw' ⊢
      refine K _ _ (tp_end inv hst hw rw' sq sw u0) (fun u hu => ?_)
      by_cases y : u = st
      · rw [y, xa_us, beq_self_eq_true, Bool.or_true]; rfl
      · rw [xa_un y, beq_false_of_ne y, Bool.or_false]
    · obtain ⟨p1, p2, p3, p4, p5, p6⟩ := path j (by omega) (Nat.le_refl j)
      have ne : Q j ≠ st := fun c => by rw [c, u0] at p2; exact Option.some_ne_none _ p2.symm
      refine pk_eq (Q j) st (fun h => absurd h ne) (fun _ => nm_r (nI_1 stp) ?_)
      rw [p2]
      have nq : ∀ i, 1 ≤ i → i < j → Q i ≠ Q j := fun i h1 h2 c => by
        have e := (path i h1 (by omega)).2.1
        rw [c, p2] at e
        exact inj i j h1 h2 (Nat.le_refl j) (Option.some.inj e).symm
      refine ih (par j) (xa_u UP (Q j) (some w)) (xa_u DN w (some (Q j))) (V j) (stp + 1) (by omega) (by omega) p1 p3 p5 p6 (qs _ (by omega)).2 (qs _ (by omega)).1 (by rw [xa_un (fun c => ne c.symm)]; exact u0) (tp_step inv hq hw rw' sq sw p2) ?_ (fun i hi => qs i (by omega)) (fun i i' h1 h2 h3 => inj i i' h1 h2 (by omega)) ?_
      · intro i h1 h2
        obtain ⟨a, b, c⟩ := path i h1 (by omega)
        rw [xa_un (nq i h1 (by omega))]
        exact ⟨a, b, c⟩
      · intro UP' DN' m e
        refine K UP' DN' m (fun u hu => ?_)
        rw [e u hu]
        by_cases y : u = Q j
        · rw [y, xa_us, p2]; rfl
        · rw [xa_un y]
end
end
section
/-! augment: the search -/
def bf_I (n : Nat) (R : Nat → Nat → Bool) (s : Nat → Bool) (DN : Nat → Option Nat) (st e sn : Nat) (Q C V par : Nat → Nat) : Prop :=
  1 ≤ e ∧ Q 0 = st ∧ sn < 2 ^ n ∧ cc_n (fun x => sn.testBit x) n + 1 = e ∧ sn.testBit 0 = false ∧
  (∀ i, 1 ≤ i → i < e → V i < n ∧ sn.testBit (V i) = true ∧ DN (V i) = some (Q i) ∧ C (V i) = Q (par i) ∧ par i < i ∧ R (Q (par i)) (V i) = true ∧ s (V i) = true) ∧
  (∀ i i', 1 ≤ i → i < i' → i' < e → V i ≠ V i') ∧
  (∀ v, sn.testBit v = true → ∃ i, 1 ≤ i ∧ i < e ∧ v = V i)
theorem bf_0 {n : Nat} {R : Nat → Nat → Bool} {s : Nat → Bool} {DN : Nat → Option Nat} {st : Nat} {Q C : Nat → Nat} (h : Q 0 = st) : bf_I n R s DN st 1 0 Q C (fun _ => 0) (fun _ => 0) := by
  refine ⟨Nat.le_refl 1, h, Nat.two_pow_pos n, ?_, Nat.zero_testBit 0, fun i h1 h2 => by omega, fun i i' h1 h2 h3 => by omega, fun v hv => ?_⟩
  · rw [cc_n_none (fun i _ => Nat.zero_testBit i)]
  · rw [Nat.zero_testBit] at hv; exact absurd hv Bool.false_ne_true
theorem bf_e {n : Nat} {R : Nat → Nat → Bool} {s : Nat → Bool} {DN : Nat → Option Nat} {st e sn : Nat} {Q C V par : Nat → Nat} (h : bf_I n R s DN st e sn Q C V par) (hn : 0 < n) : e ≤ n := by
  obtain ⟨_, _, _, c, z, _⟩ := h
  have g : cc_n (fun x => sn.testBit x) n + 1 ≤ cc_n (fun _ => true) n := cc_n_grow (fun _ _ _ => rfl) ⟨0, hn, rfl, z⟩
  have a : cc_n (fun _ => true) n = n := cc_n_all (fun _ _ => rfl)
  omega
theorem bf_Q {n : Nat} {R : Nat → Nat → Bool} {s : Nat → Bool} {UP DN : Nat → Option Nat} {st e sn : Nat} {Q C V par : Nat → Nat} (m : mt_Mat n R s UP DN) (hst : st < n) (ss : s st = true) (h : bf_I n R s DN st e sn Q C V par) :
    ∀ i, i < e → Q i < n ∧ s (Q i) = true ∧ (1 ≤ i → UP (Q i) = some (V i)) := by
  obtain ⟨_, q0, _, _, _, p, _⟩ := h
  intro i hi
  by_cases z : i = 0
  · rw [z, q0]; exact ⟨hst, ss, fun h => by omega⟩
  · obtain ⟨a, _, b, _⟩ := p i (by omega) hi
    obtain ⟨c, d⟩ := m.2 (V i) (Q i) a b
    exact ⟨c, (m.1 (Q i) (V i) c d).2.2.1, fun _ => d⟩
theorem bf_add {n : Nat} {R : Nat → Nat → Bool} {s : Nat → Bool} {DN : Nat → Option Nat} {st e sn : Nat} {Q C V par : Nat → Nat} (h : bf_I n R s DN st e sn Q C V par) {at' v l : Nat} (ha : at' < e) (hv : v < n) (v0 : 0 < v) (ns : sn.testBit v = false) (r : R (Q at') v = true) (sv : s v = true) (d : DN v = some l) :
    bf_I n R s DN st (e + 1) (sn ||| 2 ^ v) (xa_u Q e l) (xa_u C v (Q at')) (xa_u V e v) (xa_u par e at') := by
  obtain ⟨h1, h2, h3, h4, h5, h6, h7, h8⟩ := h
  have nv : ∀ i, 1 ≤ i → i < e → V i ≠ v := fun i a b c => by
    have := (h6 i a b).2.1
    rw [c, ns] at this
    exact absurd this Bool.false_ne_true
  have bit : ∀ x, (sn ||| 2 ^ v).testBit x = (sn.testBit x || x == v) := fun x => by rw [Nat.testBit_or, cc_bit1]
  refine ⟨by omega, ?_, Nat.or_lt_two_pow h3 (cc_two hv), ?_, ?_, ?_, ?_, ?_⟩
  · rw [xa_un (by omega)]; exact h2
  · have g : cc_n (fun x => (sn ||| 2 ^ v).testBit x) n = cc_n (fun x => sn.testBit x) n + 1 := by
      rw [← cc_n_add1 (p := fun x => sn.testBit x) hv ns]
      exact cc_n_eq (fun i _ => bit i)
    omega
  · rw [bit, h5, beq_false_of_ne (by omega)]; rfl
  · intro i a b
    by_cases z : i = e
    · subst z
      rw [xa_us, xa_us, xa_us, xa_us, xa_un (by omega)]
      exact ⟨hv, by rw [bit, beq_self_eq_true, Bool.or_true], d, rfl, ha, r, sv⟩
    · have b' : i < e := by omega
      obtain ⟨p1, p2, p3, p4, p5, p6, p7⟩ := h6 i a b'
      rw [xa_un z, xa_un z, xa_un z, xa_un (nv i a b'), xa_un (by omega)]
      exact ⟨p1, by rw [bit, p2]; rfl, p3, p4, p5, p6, p7⟩
  · intro i i' a b c
    rw [xa_un (by omega : i ≠ e)]
    by_cases z : i' = e
    · rw [z, xa_us]; exact nv i a (by omega)
    · rw [xa_un z]; exact h7 i i' a b (by omega)
  · intro x hx
    rw [bit, Bool.or_eq_true] at hx
    rcases hx with hx | hx
    · obtain ⟨i, a, b, c⟩ := h8 x hx
      exact ⟨i, a, by omega, by rw [xa_un (by omega)]; exact c⟩
    · exact ⟨e, h1, by omega, by rw [xa_us]; exact eq_of_beq hx⟩
section
variable {post : Int32 → SX → Prop} {fb : Int32} {aU aKU aKD aL : Nat → Int32}
theorem xw_aug37 {n : Nat} (hn : n ≤ 10) {R : Nat → Nat → Bool} {m : Nat} {O : Nat → Nat} (hm : m < 2 ^ n) (hO : ∀ u, u < n → ∀ v, (O u).testBit v = true ↔ v < n ∧ R u v = true) (lt : ∀ a b, b < n → R a b = true → a < b) {UP DN : Nat → Option Nat} (mat : mt_Mat n R (fun x => m.testBit x) UP DN) {st : Nat} (hst : st < n) (sst : m.testBit st = true) (ust : UP st = none)
    (J : Int32 → Int32 → Int32 → (Nat → Int32) → (Nat → Int32) → (Nat → Int32) → (Nat → Int32) → (Nat → Int32) → (Nat → Int32) → (Nat → Int32) → (Nat → Int32) → (Nat → Int32) → Prop) {at' u : Nat} (hu : u < n)
    (h1 : ∀ Q C UP' DN', mt_Mat n R (fun x => m.testBit x) UP' DN' → (∀ u, u < n → (UP' u).isSome = ((UP u).isSome || u == st)) → post 1 (nI n, fb, aU, xa_N O, aKU, aKD, xa_P UP', xa_P DN', xa_N Q, xa_N C, aL))
    (hJ : ∀ e sn Q C V par, at' < e → bf_I n R (fun x => m.testBit x) DN st e sn Q C V par → (∀ i, i < at' + 1 → ∀ v, v < n → R (Q i) v = true → m.testBit v = true → sn.testBit v = true) → J (nI e) (nI sn) (nI (at' + 1)) aU (xa_N O) aKU aKD (xa_P UP) (xa_P DN) (xa_N Q) (xa_N C) aL) :
    ∀ (f v e sn : Nat) (Q C V par : Nat → Nat), n - v < f → v ≤ n → u < v → at' < e → Q at' = u → bf_I n R (fun x => m.testBit x) DN st e sn Q C V par →
      (∀ i, i < at' → ∀ v, v < n → R (Q i) v = true → m.testBit v = true → sn.testBit v = true) → (∀ x, x < v → R u x = true → m.testBit x = true → sn.testBit x = true) →
      wX_augment_37 post J (nI st) (nI m) (nI at') (nI u) (nI n) fb f (nI e) (nI sn) (nI v) aU (xa_N O) aKU aKD (xa_P UP) (xa_P DN) (xa_N Q) (xa_N C) aL := by
  have b31 : ∀ k, k < n → k < 2 ^ 31 := fun k h => by omega
  have hOu : O u < 2 ^ n := ex_lt (fun x hx => ((hO u hu x).mp hx).1)
  intro f
  induction f with
  | zero => intro v e sn Q C V par h; omega
  | succ f ih =>
    intro v e sn Q C V par hf hv huv hae qa I cl cu
    have E1 : ((xa_N O (nI u).toNatClampNeg) &&& nI m) &&& (nI sn ^^^ (-1)) = nI (cc_an (O u &&& m) sn) := by
      rw [xa_rN (b31 u hu), nx_and, xb_an]
    have la : O u &&& m < 2 ^ n := Nat.and_lt_two_pow _ hm
    have la' : cc_an (O u &&& m) sn < 2 ^ n := Nat.lt_of_le_of_lt (cc_an_le _ _) la
    have la31 : cc_an (O u &&& m) sn < 2 ^ 31 := xa_31 hn la'
    have lbit : ∀ x, (cc_an (O u &&& m) sn).testBit x = ((O u).testBit x && m.testBit x && !sn.testBit x) := fun x => by
      rw [cc_an_bit sn (Nat.lt_of_lt_of_le (xa_31 hn la) (by decide)), Nat.testBit_and]
    have lem : ∀ x, x < n → (cc_an (O u &&& m) sn).testBit x = false → R u x = true → m.testBit x = true → sn.testBit x = true := fun x hx a b c => by
      rw [lbit, (hO u hu x).mpr ⟨hx, b⟩, c] at a
      revert a
      cases sn.testBit x <;> decide
    have done : (∀ x, x < n → R u x = true → m.testBit x = true → sn.testBit x = true) → J (nI e) (nI sn) (nI (at' + 1)) aU (xa_N O) aKU aKD (xa_P UP) (xa_P DN) (xa_N Q) (xa_N C) aL := fun hx => by
      refine hJ e sn Q C V par hae I (fun i hi x hxn r mx => ?_)
      rcases Nat.lt_or_ge i at' with q | q
      · exact cl i q x hxn r mx
      · have ei : i = at' := by omega
        rw [ei, qa] at r
        exact hx x hxn r mx
    refine pk_le n v (fun h => nm_r (nI_1 at') (done (fun x hx r mx => cu x (by omega) r mx))) (fun hvn => ?_)
    refine ⟨xa_i (by omega), xe_s0 E1 rfl la31 (by omega) (fun z => nm_r (nI_1 at') (done (fun x hx r mx => ?_))) (fun _ => ⟨xa_i (by omega), xe_m0 E1 rfl la31 (by omega) (fun z => nm_r (nI_1 v) ?_) (fun z => ?_)⟩)⟩
    · rcases Nat.lt_or_ge x v with q | q
      · exact cu x q r mx
      · exact lem x hx (cc_hi z q) r mx
    · refine ih (v + 1) e sn Q C V par (by omega) (by omega) (by omega) hae qa I cl (fun x hx r mx => ?_)
      rcases Nat.lt_or_ge x v with q | q
      · exact cu x q r mx
      · have ex : x = v := by omega
        rw [ex] at r mx ⊢
        exact lem v hvn z r mx
    · rw [lbit, Bool.and_eq_true, Bool.and_eq_true, Bool.not_eq_true'] at z
      have rv := ((hO u hu v).mp z.1.1).2
      have okd : xa_ok (DN v) := fun k e => by have := (mat.2 v k hvn e).1; omega
      refine nm_r ((congrArg (nI sn ||| ·) (xb_shl (by omega))).trans (xb_or sn (2 ^ v))) ⟨xa_i (by omega), nm_r (xa_wN (v := u) (b31 v hvn) (xa_narb (by omega))) ⟨xa_i (by omega), xe_pos (xa_rP (b31 v hvn)) okd (fun l d => ?_) (fun d => ?_)⟩⟩
      · have I' := bf_add I hae hvn (by omega) z.2 (by rw [qa]; exact rv) z.1.2 d
        rw [qa] at I'
        have e9 := bf_e I' (by omega)
        have hl := okd l d
        refine ⟨xa_i (by omega), xa_i (by omega), nm_r (xa_wN (v := l) (b31 e (by omega)) (by rw [xa_rP (b31 v hvn), d]; exact xa_nar (by omega))) (nm_r (nI_1 e) (nm_r (nI_1 v) ?_))⟩
        refine ih (v + 1) (e + 1) (sn ||| 2 ^ v) (xa_u Q e l) (xa_u C v u) (xa_u V e v) (xa_u par e at') (by omega) (by omega) (by omega) (by omega) (by rw [xa_un (by omega)]; exact qa) I' ?_ ?_
        · intro i hi x hx r mx
          rw [xa_un (by omega)] at r
          rw [Nat.testBit_or, cl i hi x hx r mx]; rfl
        · intro x hx r mx
          rw [Nat.testBit_or, cc_bit1]
          rcases Nat.lt_or_ge x v with q | q
          · rw [cu x q r mx]; rfl
          · rw [show x = v by omega, beq_self_eq_true, Bool.or_true]
      · have hQ := bf_Q mat hst sst I
        have e9 := bf_e I (by omega)
        obtain ⟨i1, i2, i3, i4, i5, i6, i7, i8⟩ := I
        have nv : ∀ i, 1 ≤ i → i < e → V i ≠ v := fun i a b c => by
          have := (i6 i a b).2.1
          rw [c, z.2] at this
          exact absurd this Bool.false_ne_true
        refine ⟨10, ?_⟩
        refine xw_turn5 (post := fun w => post 1 w) (C := xa_u C v u) (Q := Q) (V := V) (par := par) (s := fun x => m.testBit x) hn hst i2 10 at' UP DN v 0 (by omega) (by omega) hvn (by rw [xa_us, qa]) (by rw [qa]; exact rv) z.1.2 (hQ at' hae).2.1 (hQ at' hae).1 ust (tp_start mat d) ?_ (fun i hi => ⟨(hQ i (by omega)).1, (hQ i (by omega)).2.1⟩) (fun i i' a b c => i7 i i' a b (by omega)) (fun UP' DN' m' e' => h1 Q (xa_u C v u) UP' DN' m' e')
        intro i a b
        obtain ⟨p1, p2, p3, p4, p5, p6, p7⟩ := i6 i a (by omega)
        exact ⟨p1, (hQ i (by omega)).2.2 a, by rw [xa_un (nv i a (by omega))]; exact p4, p5, p6, p7⟩
theorem xw_aug16 {n : Nat} (hn : n ≤ 10) {R : Nat → Nat → Bool} {m : Nat} {O : Nat → Nat} (hm : m < 2 ^ n) (hO : ∀ u, u < n → ∀ v, (O u).testBit v = true ↔ v < n ∧ R u v = true) (lt : ∀ a b, b < n → R a b = true → a < b) {UP DN : Nat → Option Nat} (mat : mt_Mat n R (fun x => m.testBit x) UP DN) {st : Nat} (hst : st < n) (sst : m.testBit st = true) (ust : UP st = none)
    (h0 : ∀ Q C sn, mt_closed n R (fun x => m.testBit x) UP DN st sn → post 0 (nI n, fb, aU, xa_N O, aKU, aKD, xa_P UP, xa_P DN, xa_N Q, xa_N C, aL))
    (h1 : ∀ Q C UP' DN', mt_Mat n R (fun x => m.testBit x) UP' DN' → (∀ u, u < n → (UP' u).isSome = ((UP u).isSome || u == st)) → post 1 (nI n, fb, aU, xa_N O, aKU, aKD, xa_P UP', xa_P DN', xa_N Q, xa_N C, aL)) :
    ∀ (f at' e sn : Nat) (Q C V par : Nat → Nat), n - at' < f → at' ≤ e → bf_I n R (fun x => m.testBit x) DN st e sn Q C V par →
      (∀ i, i < at' → ∀ v, v < n → R (Q i) v = true → m.testBit v = true → sn.testBit v = true) →
      wX_augment_16 post (nI st) (nI m) (nI n) fb f (nI e) (nI sn) (nI at') aU (xa_N O) aKU aKD (xa_P UP) (xa_P DN) (xa_N Q) (xa_N C) aL := by
  intro f
  induction f with
  | zero => intro at' e sn Q C V par h; omega
  | succ f ih =>
    intro at' e sn Q C V par hf ha I cl
    have e9 := bf_e I (by omega)
    have hQ := bf_Q mat hst sst I
    refine pk_le e at' (fun h => ?_) (fun h => ?_)
    · refine h0 Q C (fun x => sn.testBit x) ⟨fun v hv sv => ?_, fun l hl z v hv r sv => ?_⟩
      · obtain ⟨i, a, b, c⟩ := I.2.2.2.2.2.2.2 v sv
        rw [c]
        exact ⟨Q i, (I.2.2.2.2.2.1 i a b).2.2.1⟩
      · rcases z with z | ⟨w, e1, sw⟩
        · have q0 := I.2.1
          have e1 := I.1
          exact cl 0 (by omega) v hv (by rw [q0, ← z]; exact r) sv
        · obtain ⟨i, a, b, c⟩ := I.2.2.2.2.2.2.2 w sw
          have e2 := (mat.1 l w hl e1).2.2.2.2
          rw [c, (I.2.2.2.2.2.1 i a b).2.2.1] at e2
          exact cl i (by omega) v hv (by rw [Option.some.inj e2]; exact r) sv
    · have hu := (hQ at' h).1
      refine ⟨xa_i (by omega), nm_r (xa_rN (by omega)) (nm_r (nI_1 (Q at')) ⟨n + 1, ?_⟩)⟩
      refine xw_aug37 hn hm hO lt mat hst sst ust _ hu h1 (fun e sn Q C V par a b c => ih (at' + 1) e sn Q C V par (by omega) (by omega) b c) (n + 1) (Q at' + 1) e sn Q C V par (by omega) (by omega) (by omega) h rfl I cl (fun x hx r _ => ?_)
      have := lt (Q at') x (by omega) r
      omega
theorem xw_augment {n : Nat} (hn : n ≤ 10) {R : Nat → Nat → Bool} {m : Nat} {O : Nat → Nat} (hm : m < 2 ^ n) (hO : ∀ u, u < n → ∀ v, (O u).testBit v = true ↔ v < n ∧ R u v = true) (lt : ∀ a b, b < n → R a b = true → a < b) {UP DN : Nat → Option Nat} (mat : mt_Mat n R (fun x => m.testBit x) UP DN) {st : Nat} (hst : st < n) (sst : m.testBit st = true) (ust : UP st = none) {Q C : Nat → Nat}
    (h0 : ∀ Q C sn, mt_closed n R (fun x => m.testBit x) UP DN st sn → post 0 (nI n, fb, aU, xa_N O, aKU, aKD, xa_P UP, xa_P DN, xa_N Q, xa_N C, aL))
    (h1 : ∀ Q C UP' DN', mt_Mat n R (fun x => m.testBit x) UP' DN' → (∀ u, u < n → (UP' u).isSome = ((UP u).isSome || u == st)) → post 1 (nI n, fb, aU, xa_N O, aKU, aKD, xa_P UP', xa_P DN', xa_N Q, xa_N C, aL)) :
    wpX_augment post (nI n, fb, aU, xa_N O, aKU, aKD, xa_P UP, xa_P DN, xa_N Q, xa_N C, aL) (nI st) (nI m) := by
  refine nm_r (e' := xa_N (xa_u Q 0 st)) ?_ ⟨n + 1, ?_⟩
  · rw [xa_narb (by omega), xa_updN]
  · exact xw_aug16 hn hm hO lt mat hst sst ust h0 h1 (n + 1) 0 1 0 (xa_u Q 0 st) C (fun _ => 0) (fun _ => 0) (by omega) (by omega) (bf_0 xa_us) (fun i hi => by omega)
end
end
section
/-! load, store, pairUp, matchAll, couples, bits -/
theorem mt_max_congr {n : Nat} {R R' : Nat → Nat → Bool} {s s' : Nat → Bool} {UP DN UP' DN' : Nat → Option Nat} (h : mt_max n R s UP DN) (hR : ∀ a b, a < n → b < n → R a b = R' a b) (hs : ∀ a, a < n → s a = s' a)
    (hU : ∀ a, a < n → UP' a = UP a) (hD : ∀ a, a < n → DN' a = DN a) : mt_max n R' s' UP' DN' := by
  obtain ⟨m, _, CL, CR, c, z⟩ := h
  refine ⟨mt_congr m hR hs hU hD, fun _ _ _ => trivial, CL, CR, fun a b ha hb _ sa sb r => c a b ha hb trivial (by rw [hs a ha]; exact sa) (by rw [hs b hb]; exact sb) (by rw [hR a b ha hb]; exact r), ?_⟩
  have e : mt_sz n UP' = mt_sz n UP := cc_n_eq (fun i hi => by rw [hU i hi])
  omega
theorem mt_ok {n : Nat} (hn : n ≤ 10) {R : Nat → Nat → Bool} {s : Nat → Bool} {UP DN : Nat → Option Nat} (m : mt_Mat n R s UP DN) : ∀ v, v < n → xa_ok (UP v) ∧ xa_ok (DN v) := fun v hv =>
  ⟨fun k e => by have := (m.1 v k hv e).1; omega, fun k e => by have := (m.2 v k hv e).1; omega⟩
def kc_ok (n : Nat) (R : Nat → Nat → Bool) (fb : Int32) (KU KD : Nat → Option Nat) : Prop := fb = 0 ∨ (¬ fb = 0 ∧ mt_max n R (fun _ => true) KU KD)
theorem mt_none {n : Nat} {R : Nat → Nat → Bool} {s : Nat → Bool} {UP DN : Nat → Option Nat} (h : ∀ x, x < n → UP x = none ∧ DN x = none) : mt_inc n R s UP DN (fun a => a < 0) := by
  refine ⟨⟨fun u v hu e => ?_, fun v u hv e => ?_⟩, fun u hu e => absurd (h u hu).1 e, fun _ => false, fun _ => false, fun a b _ _ p => absurd p (Nat.not_lt_zero a), ?_⟩
  · rw [(h u hu).1] at e; exact absurd e.symm (Option.some_ne_none v)
  · rw [(h v hv).2] at e; exact absurd e.symm (Option.some_ne_none u)
  · rw [cc_n_none (fun _ _ => rfl)]; exact Nat.zero_le _
section
variable {fb : Int32} {aU aO aKU aKD aQ aC aL : Nat → Int32}
theorem xw_load {post : SX → Prop} {n : Nat} (hn : n ≤ 10) {KU KD : Nat → Option Nat} (hk : ∀ v, v < n → xa_ok (KU v) ∧ xa_ok (KD v)) (h : ∀ UP' DN', (∀ v, v < n → UP' v = KU v ∧ DN' v = KD v) → post (nI n, fb, aU, aO, xa_P KU, xa_P KD, xa_P UP', xa_P DN', aQ, aC, aL)) (UP DN : Nat → Option Nat) :
    wpX_loadKept post (nI n, fb, aU, aO, xa_P KU, xa_P KD, xa_P UP, xa_P DN, aQ, aC, aL) := by
  have L : ∀ d v UP DN, v + d = n → (∀ x, x < v → UP x = KU x ∧ DN x = KD x) → wX_loadKept_2 post (nI n) fb (d + 1) (nI v) aU aO (xa_P KU) (xa_P KD) (xa_P UP) (xa_P DN) aQ aC aL := by
    intro d
    induction d with
    | zero => exact fun v UP DN e i => pk_le n v (fun _ => h UP DN (fun x hx => i x (by omega))) (fun z => by omega)
    | succ d ih =>
      intro v UP DN e i
      have b : v < 2 ^ 31 := by omega
      have hv : v < n := by omega
      refine pk_le n v (fun z => by omega) (fun _ => ⟨xa_i (by omega), xa_i (by omega), nm_r (xa_wP (o := KU v) b ((congrArg (vp_nar .byte) (xa_rP b)).trans (xa_narp (hk v hv).1))) ⟨xa_i (by omega), xa_i (by omega), nm_r (xa_wP (o := KD v) b ((congrArg (vp_nar .byte) (xa_rP b)).trans (xa_narp (hk v hv).2))) (nm_r (nI_1 v) ?_)⟩⟩)
      refine ih (v + 1) _ _ (by omega) (fun x hx => ?_)
      by_cases z : x = v
      · rw [z, xa_us, xa_us]; exact ⟨rfl, rfl⟩
      · rw [xa_un z, xa_un z]; exact i x (by omega)
  exact ⟨n + 1, L n 0 UP DN (by omega) (fun x hx => by omega)⟩
theorem xw_store {post : SX → Prop} {n : Nat} (hn : n ≤ 10) {UP DN : Nat → Option Nat} (hk : ∀ v, v < n → xa_ok (UP v) ∧ xa_ok (DN v)) (h : ∀ KU' KD', (∀ v, v < n → KU' v = UP v ∧ KD' v = DN v) → post (nI n, fb, aU, aO, xa_P KU', xa_P KD', xa_P UP, xa_P DN, aQ, aC, aL)) (KU KD : Nat → Option Nat) :
    wpX_storeKept post (nI n, fb, aU, aO, xa_P KU, xa_P KD, xa_P UP, xa_P DN, aQ, aC, aL) := by
  have L : ∀ d v KU KD, v + d = n → (∀ x, x < v → KU x = UP x ∧ KD x = DN x) → wX_storeKept_2 post (nI n) fb (d + 1) (nI v) aU aO (xa_P KU) (xa_P KD) (xa_P UP) (xa_P DN) aQ aC aL := by
    intro d
    induction d with
    | zero => exact fun v KU KD e i => pk_le n v (fun _ => h KU KD (fun x hx => i x (by omega))) (fun z => by omega)
    | succ d ih =>
      intro v KU KD e i
      have b : v < 2 ^ 31 := by omega
      have hv : v < n := by omega
      refine pk_le n v (fun z => by omega) (fun _ => ⟨xa_i (by omega), xa_i (by omega), nm_r (xa_wP (o := UP v) b ((congrArg (vp_nar .byte) (xa_rP b)).trans (xa_narp (hk v hv).1))) ⟨xa_i (by omega), xa_i (by omega), nm_r (xa_wP (o := DN v) b ((congrArg (vp_nar .byte) (xa_rP b)).trans (xa_narp (hk v hv).2))) (nm_r (nI_1 v) ?_)⟩⟩)
      refine ih (v + 1) _ _ (by omega) (fun x hx => ?_)
      by_cases z : x = v
      · rw [z, xa_us, xa_us]; exact ⟨rfl, rfl⟩
      · rw [xa_un z, xa_un z]; exact i x (by omega)
  exact ⟨n + 1, L n 0 KU KD (by omega) (fun x hx => by omega)⟩
theorem xw_bits {post : Int32 → Prop} {u : SX} {m : Nat} (hm : m < 2 ^ 31) (h : post (nI (cc_n (fun x => m.testBit x) 10))) : wpX_bitsIn post u (nI m) := by
  obtain ⟨f0, f1, a1, a2, a3, a4, a5, a6, a7, a8, a9⟩ := u
  have L : ∀ d v, v + d = 10 → wX_bitsIn_4 post (nI m) f0 f1 a1 a2 a3 a4 a5 a6 a7 a8 a9 (d + 1) (nI (cc_n (fun x => m.testBit x) v)) (nI v) := by
    intro d
    induction d with
    | zero => exact fun v e => pk_le 10 v (fun _ => by rw [show v = 10 by omega]; exact h) (fun z => by omega)
    | succ d ih =>
      intro v e
      refine pk_le 10 v (fun z => by omega) (fun _ => nm_r (e' := nI (cc_n (fun x => m.testBit x) (v + 1))) ?_ (nm_r (nI_1 v) (ih (v + 1) (by omega))))
      rw [xb_bit hm (by omega), nI_add]; rfl
  exact ⟨11, L 10 0 rfl⟩
theorem xw_isSet {post : Int32 → Prop} {n : Nat} (hn : n ≤ 10) {aUP aDN : Nat → Int32} (p : Int32) (h1 : ∀ m, m < 2 ^ n → p = nI m → post 1) (h0 : (¬ ∃ m, m < 2 ^ n ∧ p = nI m) → post 0) : wpX_isSet post (nI n, fb, aU, aO, aKU, aKD, aUP, aDN, aQ, aC, aL) p := by
  have p31 : 2 ^ n < 2 ^ 31 := cc_two (by omega)
  refine br_c (fun z => h0 (fun ⟨m, a, b⟩ => ?_)) (fun z => ?_)
  · rw [b] at z; exact nI_pos (by omega) z
  · obtain ⟨j, hj, e⟩ := nI_of z
    refine pk_le (2 ^ n) j (fun y => h0 (fun ⟨m, a, b⟩ => ?_)) (fun y => h1 j y e) (xb_shl (by omega)) e p31 hj
    rw [b] at e
    have := (nI_eq (by omega) hj).mp e
    omega
end
section
variable {fb : Int32} {aU aKU aKD aL : Nat → Int32}
theorem xw_pairUp {post : SX → Prop} {n : Nat} (hn : n ≤ 10) {R : Nat → Nat → Bool} {m : Nat} {O : Nat → Nat} (hm : m < 2 ^ n) (hO : ∀ u, u < n → ∀ v, (O u).testBit v = true ↔ v < n ∧ R u v = true) (lt : ∀ a b, b < n → R a b = true → a < b)
    (h : ∀ UP' DN' Q' C', mt_max n R (fun x => m.testBit x) UP' DN' → post (nI n, fb, aU, xa_N O, aKU, aKD, xa_P UP', xa_P DN', xa_N Q', xa_N C', aL)) (UP DN : Nat → Option Nat) (Q C : Nat → Nat) :
    wpX_pairUp post (nI n, fb, aU, xa_N O, aKU, aKD, xa_P UP, xa_P DN, xa_N Q, xa_N C, aL) (nI m) := by
  have L2 : ∀ d u UP DN Q C, u + d = n → mt_inc n R (fun x => m.testBit x) UP DN (fun a => a < u) → wX_pairUp_32 post (nI m) (d + 1) (nI u) (nI n) fb aU (xa_N O) aKU aKD (xa_P UP) (xa_P DN) (xa_N Q) (xa_N C) aL := by
    intro d
    induction d with
    | zero => exact fun u UP DN Q C e i => pk_le n u (fun _ => h UP DN Q C (mt_inc_mono i (fun _ _ _ => trivial) (fun a ha _ _ => by omega))) (fun z => by omega)
    | succ d ih =>
      intro u UP DN Q C e i
      have hu : u < n := by omega
      have u0 : UP u = none := Classical.byContradiction (fun z => by have := i.2.1 u hu z; omega)
      refine pk_le n u (fun z => by omega) (fun _ => xe_b0 rfl rfl (xa_31 hn hm) (by omega) (fun z => nm_r (nI_1 u) (ih (u + 1) UP DN Q C (by omega) ?_)) (fun z => ?_))
      · refine mt_inc_mono i (fun a ha y => by have := i.2.1 a ha y; omega) (fun a ha sa y => ?_)
        rcases Nat.lt_or_ge a u with q | q
        · exact q
        · have ea : a = u := by omega
          rw [ea, z] at sa
          exact absurd sa Bool.false_ne_true
      · refine xw_augment hn hm hO lt i.1 hu z u0 (fun Q C sn c => nm_r (nI_1 u) (ih (u + 1) UP DN Q C (by omega) ?_)) (fun Q C UP' DN' m' e' => nm_r (nI_1 u) (ih (u + 1) UP' DN' Q C (by omega) ?_))
        · have g := mt_fail i c
          exact mt_inc_mono g (fun a ha y => by have := g.2.1 a ha y; omega) (fun a ha sa y => by omega)
        · have g := mt_succ i m' hu u0 e'
          exact mt_inc_mono g (fun a ha y => by have := g.2.1 a ha y; omega) (fun a ha sa y => by omega)
  have L : ∀ d v UP DN, v + d = n → (∀ x, x < v → UP x = none ∧ DN x = none) → wX_pairUp_2 post (nI m) (nI n) fb (d + 1) (nI v) aU (xa_N O) aKU aKD (xa_P UP) (xa_P DN) (xa_N Q) (xa_N C) aL := by
    intro d
    induction d with
    | zero => exact fun v UP DN e i => pk_le n v (fun _ => ⟨n + 1, L2 n 0 UP DN Q C (by omega) (mt_none (fun x hx => i x (by omega)))⟩) (fun z => by omega)
    | succ d ih =>
      intro v UP DN e i
      have b : v < 2 ^ 31 := by omega
      refine pk_le n v (fun z => by omega) (fun _ => ⟨xa_i (by omega), nm_r (xa_wP (o := none) b xa_nm1) ⟨xa_i (by omega), nm_r (xa_wP (o := none) b xa_nm1) (nm_r (nI_1 v) ?_)⟩⟩)
      refine ih (v + 1) _ _ (by omega) (fun x hx => ?_)
      by_cases z : x = v
      · rw [z, xa_us, xa_us]; exact ⟨rfl, rfl⟩
      · rw [xa_un z, xa_un z]; exact i x (by omega)
  exact ⟨n + 1, L n 0 UP DN (by omega) (fun x hx => by omega)⟩
theorem mt_all {n x : Nat} (h : x < n) : (2 ^ n - 1).testBit x = true := by rw [Nat.testBit_two_pow_sub_one]; exact decide_eq_true h
theorem mt_all_lt (n : Nat) : 2 ^ n - 1 < 2 ^ n := by have := Nat.two_pow_pos n; omega
end
section
variable {aU aL : Nat → Int32}
theorem xw_matchAll {post : SX → Prop} {n : Nat} (hn : n ≤ 10) {R : Nat → Nat → Bool} {O : Nat → Nat} (hO : ∀ u, u < n → ∀ v, (O u).testBit v = true ↔ v < n ∧ R u v = true) (lt : ∀ a b, b < n → R a b = true → a < b) {fb : Int32} {KU KD : Nat → Option Nat} (hk : kc_ok n R fb KU KD)
    (h : ∀ fb' KU' KD' UP' DN' Q' C', kc_ok n R fb' KU' KD' → mt_max n R (fun _ => true) UP' DN' → post (nI n, fb', aU, xa_N O, xa_P KU', xa_P KD', xa_P UP', xa_P DN', xa_N Q', xa_N C', aL)) (UP DN : Nat → Option Nat) (Q C : Nat → Nat) :
    wpX_matchAll post (nI n, fb, aU, xa_N O, xa_P KU, xa_P KD, xa_P UP, xa_P DN, xa_N Q, xa_N C, aL) := by
  rcases hk with z | ⟨z, mx⟩
  · refine br_t z ?_
    rw [xb_all hn]
    refine xw_pairUp hn (mt_all_lt n) hO lt (fun UP' DN' Q' C' mx => ?_) UP DN Q C
    have mx' : mt_max n R (fun _ => true) UP' DN' := mt_max_congr mx (fun _ _ _ _ => rfl) (fun a ha => mt_all ha) (fun _ _ => rfl) (fun _ _ => rfl)
    refine xw_store hn (mt_ok hn mx.1) (fun KU' KD' e => ?_) KU KD
    exact h 1 KU' KD' UP' DN' Q' C' (Or.inr ⟨by decide, mt_max_congr mx' (fun _ _ _ _ => rfl) (fun _ _ => rfl) (fun a ha => (e a ha).1) (fun a ha => (e a ha).2)⟩) mx'
  · refine br_f z ?_
    refine xw_load hn (mt_ok hn mx.1) (fun UP' DN' e => ?_) UP DN
    exact h fb KU KD UP' DN' Q C (Or.inr ⟨z, mx⟩) (mt_max_congr mx (fun _ _ _ _ => rfl) (fun _ _ => rfl) (fun a ha => (e a ha).1) (fun a ha => (e a ha).2))
theorem xw_couples {post : Int32 → SX → Prop} {n : Nat} (hn : n ≤ 10) {R : Nat → Nat → Bool} {O : Nat → Nat} (hO : ∀ u, u < n → ∀ v, (O u).testBit v = true ↔ v < n ∧ R u v = true) (lt : ∀ a b, b < n → R a b = true → a < b) {fb : Int32} {KU KD : Nat → Option Nat} (hk : kc_ok n R fb KU KD) {m : Nat} (hm : m < 2 ^ n)
    (h : ∀ fb' KU' KD' UP' DN' Q' C', kc_ok n R fb' KU' KD' → mt_max n R (fun x => m.testBit x) UP' DN' → post (nI (mt_sz n UP')) (nI n, fb', aU, xa_N O, xa_P KU', xa_P KD', xa_P UP', xa_P DN', xa_N Q', xa_N C', aL)) (UP DN : Nat → Option Nat) (Q C : Nat → Nat) :
    wpX_couplesWithin post (nI n, fb, aU, xa_N O, xa_P KU, xa_P KD, xa_P UP, xa_P DN, xa_N Q, xa_N C, aL) (nI m) := by
  have L : ∀ fb' KU' KD' UP' DN' Q' C', kc_ok n R fb' KU' KD' → mt_max n R (fun x => m.testBit x) UP' DN' → ∀ d v, v + d = n →
      wX_couplesWithin_28 post (nI n) fb' aU (xa_N O) (xa_P KU') (xa_P KD') (xa_P UP') (xa_P DN') (xa_N Q') (xa_N C') aL (d + 1) (nI (cc_n (fun x => (UP' x).isSome) v)) (nI v) := by
    intro fb' KU' KD' UP' DN' Q' C' k mx d
    induction d with
    | zero => exact fun v e => pk_le n v (fun _ => by rw [show v = n by omega]; exact h fb' KU' KD' UP' DN' Q' C' k mx) (fun z => by omega)
    | succ d ih =>
      intro v e
      have b : v < 2 ^ 31 := by omega
      have hv : v < n := by omega
      have ih' := ih (v + 1) (by omega)
      refine pk_le n v (fun z => by omega) (fun _ => ⟨xa_i (by omega), xe_neg (xa_rP b) (mt_ok hn mx.1 v hv).1 (fun z => nm_r (nI_1 v) ?_) (fun k z => nm_r (nI_1 _) (nm_r (nI_1 v) ?_))⟩)
      · rw [cc_n_succ, z] at ih'; exact ih'
      · rw [cc_n_succ, z] at ih'; exact ih'
  refine br_c (fun z => ?_) (fun z => ?_)
  · rw [xb_all hn] at z
    have p31 : 2 ^ n < 2 ^ 31 := cc_two (by omega)
    have e := (nI_eq (xa_31 hn hm) (by omega)).mp z
    refine xw_matchAll hn hO lt hk (fun fb' KU' KD' UP' DN' Q' C' k mx => ⟨n + 1, L fb' KU' KD' UP' DN' Q' C' k ?_ n 0 (by omega)⟩) UP DN Q C
    exact mt_max_congr mx (fun _ _ _ _ => rfl) (fun a ha => by rw [e]; exact (mt_all ha).symm) (fun _ _ => rfl) (fun _ _ => rfl)
  · exact xw_pairUp hn hm hO lt (fun UP' DN' Q' C' mx => ⟨n + 1, L fb KU KD UP' DN' Q' C' hk mx n 0 (by omega)⟩) UP DN Q C
/-- the width of a set of elements, by a matching that cannot grow -/
theorem xw_width {post : Int32 → SX → Prop} {n : Nat} (hn : n ≤ 10) {R : Nat → Nat → Bool} {O : Nat → Nat} (hO : ∀ u, u < n → ∀ v, (O u).testBit v = true ↔ v < n ∧ R u v = true) (lt : ∀ a b, b < n → R a b = true → a < b) {fb : Int32} {KU KD : Nat → Option Nat} (hk : kc_ok n R fb KU KD) {m : Nat} (hm : m < 2 ^ n)
    (h : ∀ fb' KU' KD' UP' DN' Q' C', kc_ok n R fb' KU' KD' → mt_max n R (fun x => m.testBit x) UP' DN' → post (nI (cc_n (fun x => m.testBit x) n - mt_sz n UP')) (nI n, fb', aU, xa_N O, xa_P KU', xa_P KD', xa_P UP', xa_P DN', xa_N Q', xa_N C', aL)) (UP DN : Nat → Option Nat) (Q C : Nat → Nat) :
    wpX_width post (nI n, fb, aU, xa_N O, xa_P KU, xa_P KD, xa_P UP, xa_P DN, xa_N Q, xa_N C, aL) (nI m) := by
  have e10 : cc_n (fun x => m.testBit x) 10 = cc_n (fun x => m.testBit x) n := cc_n_wide hn (fun i hi => cc_hi hm hi)
  unfold wpX_width
  refine xw_isSet hn (nI m) (fun m' _ _ => ?_) (fun z => absurd ⟨m, hm, rfl⟩ z)
  refine br_f (by decide) (xw_bits (xa_31 hn hm) (xw_couples hn hO lt hk hm (fun fb' KU' KD' UP' DN' Q' C' k mx => ?_) UP DN Q C))
  have le : mt_sz n UP' ≤ cc_n (fun x => m.testBit x) n := by
    have := ch_tops mx.1
    omega
  have g := h fb' KU' KD' UP' DN' Q' C' k mx
  rw [← pk_sub le, ← e10] at g
  exact g
end
end
section
/-! the reference: bits, sizes, uniform sets, the largest ones -/
theorem yw_in {post : Int32 → Prop} {u : SY} {x y : Int32} {a k : Nat} (ex : x = nI a) (ey : y = nI k) (ha : a < 2 ^ 31) (hk : k < 32) (f : a.testBit k = true → post 1) (g : a.testBit k = false → post 0) : wpY_in post u x y := by
  obtain ⟨f0, a1, a2⟩ := u
  exact xe_b1 ex ey ha hk f g
theorem yw_isSet {post : Int32 → Prop} {n : Nat} (hn : n ≤ 10) {aU aLe : Nat → Int32} (p : Int32) (h1 : ∀ m, m < 2 ^ n → p = nI m → post 1) (h0 : (¬ ∃ m, m < 2 ^ n ∧ p = nI m) → post 0) : wpY_isSet post (nI n, aU, aLe) p := by
  have p31 : 2 ^ n < 2 ^ 31 := cc_two (by omega)
  refine br_c (fun z => h0 (fun ⟨m, a, b⟩ => ?_)) (fun z => ?_)
  · rw [b] at z; exact nI_pos (by omega) z
  · obtain ⟨j, hj, e⟩ := nI_of z
    refine pk_le (2 ^ n) j (fun y => h0 (fun ⟨m, a, b⟩ => ?_)) (fun y => h1 j y e) (xb_shl (by omega)) e p31 hj
    rw [b] at e
    have := (nI_eq (by omega) hj).mp e
    omega
theorem yw_size {post : Int32 → Prop} {u : SY} {m : Nat} (hm : m < 2 ^ 31) (h : post (nI (cc_n (fun x => m.testBit x) 10))) : wpY_sizeOf post u (nI m) := by
  obtain ⟨f0, a1, a2⟩ := u
  have L : ∀ d v, v + d = 10 → wY_sizeOf_4 post (nI m) f0 a1 a2 (d + 1) (nI (cc_n (fun x => m.testBit x) v)) (nI v) := by
    intro d
    induction d with
    | zero => exact fun v e => pk_le 10 v (fun _ => by rw [show v = 10 by omega]; exact h) (fun z => by omega)
    | succ d ih =>
      intro v e
      have ih' := ih (v + 1) (by omega)
      refine pk_le 10 v (fun z => by omega) (fun _ => yw_in rfl rfl hm (by omega) (fun z => br_f (by decide) (nm_r (nI_1 _) (nm_r (nI_1 v) ?_))) (fun z => br_t rfl (nm_r (nI_1 v) ?_)))
      · rw [cc_n_succ, z] at ih'; exact ih'
      · rw [cc_n_succ, z] at ih'; exact ih'
  exact ⟨11, L 10 0 rfl⟩
/-- two elements of the set are related as wanted -/
def un_c (U : Nat → Nat) (m : Nat) (w : Bool) (u v : Nat) : Prop := m.testBit u = true → m.testBit v = true → ((U v).testBit u || (U u).testBit v) = w
def un_I (n : Nat) (U : Nat → Nat) (m : Nat) (w : Bool) : Prop := ∀ v, v < n → ∀ u, u < v → un_c U m w u v
theorem yw_54 {post J2 J13 : Int32 → Prop} {U : Nat → Nat} {m u v : Nat} {w z : Bool} {f : Int32} {a b : Nat → Int32} (hm : m < 2 ^ 31) (hu : u < 32) (hv : v < 32) (ez : ((U v).testBit u || (U u).testBit v) = z) (h1 : un_c U m w u v → J13 (nI (u + 1))) (h0 : ¬ un_c U m w u v → post 0) :
    wY_uniform_54 post J2 J13 (nI m) (nI w.toNat) (nI v) (nI u) (nI z.toNat) f a b := by
  refine yw_in rfl rfl hm hu (fun p => br_f (by decide) ?_) (fun p => br_t rfl (nm_r (nI_1 u) (h1 (fun q => by rw [p] at q; exact absurd q Bool.false_ne_true))))
  refine yw_in rfl rfl hm hv (fun q => br_f (by decide) ?_) (fun q => br_t rfl (nm_r (nI_1 u) (h1 (fun _ r => by rw [q] at r; exact absurd r Bool.false_ne_true))))
  refine br_c (fun e => nm_r (nI_1 u) (h1 (fun _ _ => ?_))) (fun e => h0 (fun c => e ?_))
  · rw [ez]
    revert e
    cases z <;> cases w
    · exact fun _ => rfl
    · exact fun e => absurd e (by decide +kernel)
    · exact fun e => absurd e (by decide +kernel)
    · exact fun _ => rfl
  · rw [← ez, c p q]
theorem yw_uniform {post : Int32 → Prop} {n : Nat} (hn : n ≤ 10) {U : Nat → Nat} (hU : ∀ v, v < n → U v < 2 ^ 31) {aLe : Nat → Int32} {m : Nat} (hm : m < 2 ^ 31) (w : Bool) (h1 : un_I n U m w → post 1) (h0 : ¬ un_I n U m w → post 0) : wpY_uniform post (nI n, xa_N U, aLe) (nI m) (nI w.toNat) := by
  have L1 : ∀ (J2 : Int32 → Prop) v, v < n → ((∀ u, u < v → un_c U m w u v) → J2 (nI (v + 1))) → ∀ d u, u + d = v → (∀ u', u' < u → un_c U m w u' v) → wY_uniform_13 post J2 (nI m) (nI w.toNat) (nI v) (nI n) (xa_N U) aLe (d + 1) (nI u) := by
    intro J2 v hv hJ d
    induction d with
    | zero => exact fun u e i => pk_le v u (fun _ => nm_r (nI_1 v) (hJ (fun u' hu' => i u' (by omega)))) (fun z => by omega)
    | succ d ih =>
      intro u e i
      have bv : v < 2 ^ 31 := by omega
      have bu : u < 2 ^ 31 := by omega
      have nx : un_c U m w u v → wY_uniform_13 post J2 (nI m) (nI w.toNat) (nI v) (nI n) (xa_N U) aLe (d + 1) (nI (u + 1)) := fun c => ih (u + 1) (by omega) (fun u' hu' => by
        rcases Nat.lt_or_ge u' u with q | q
        · exact i u' q
        · rw [show u' = u by omega]; exact c)
      have bad : ¬ un_c U m w u v → post 0 := fun c => h0 (fun k => c (k v hv u (by omega)))
      refine pk_le v u (fun z => by omega) (fun _ => ⟨xa_i (by omega), yw_in (xa_rN bv) rfl (hU v hv) (by omega) (fun p => br_f (by decide) ?_) (fun p => br_t rfl ⟨xa_i (by omega), yw_in (xa_rN bu) rfl (hU u (by omega)) (by omega) (fun q => br_f (by decide) ?_) (fun q => br_t rfl ?_)⟩)⟩)
      · exact yw_54 (z := true) hm (by omega) (by omega) (by rw [p]; rfl) nx bad
      · exact yw_54 (z := true) hm (by omega) (by omega) (by rw [q, Bool.or_true]) nx bad
      · exact yw_54 (z := false) hm (by omega) (by omega) (by rw [p, q]; rfl) nx bad
  have L2 : ∀ d v, v + d = n → (∀ v', v' < v → ∀ u, u < v' → un_c U m w u v') → wY_uniform_2 post (nI m) (nI w.toNat) (nI n) (xa_N U) aLe (d + 1) (nI v) := by
    intro d
    induction d with
    | zero => exact fun v e i => pk_le n v (fun _ => h1 (fun v' hv' => i v' (by omega))) (fun z => by omega)
    | succ d ih =>
      intro v e i
      refine pk_le n v (fun z => by omega) (fun _ => ⟨v + 1, L1 _ v (by omega) (fun c => ih (v + 1) (by omega) (fun v' hv' => ?_)) v 0 (by omega) (fun u' hu' => by omega)⟩)
      rcases Nat.lt_or_ge v' v with q | q
      · exact i v' q
      · rw [show v' = v by omega]; exact c
  exact ⟨n + 1, L2 n 0 (by omega) (fun v' hv' => by omega)⟩
def cc_sub (p S : Nat) : Prop := ∀ i, p.testBit i = true → S.testBit i = true
theorem cc_sub_lt {p S n : Nat} (h : cc_sub p S) (hS : S < 2 ^ n) : p < 2 ^ n := Nat.lt_of_le_of_lt (Nat.le_of_testBit h) hS
theorem yw_largest {post : Int32 → Prop} {n : Nat} (hn : n ≤ 10) {U : Nat → Nat} (hU : ∀ v, v < n → U v < 2 ^ 31) {aLe : Nat → Int32} {S : Nat} (hS : S < 2 ^ n) (w : Bool)
    (h : ∀ b, (∃ p, cc_sub p S ∧ un_I n U p w ∧ cc_n (fun x => p.testBit x) n = b) → (∀ p, cc_sub p S → un_I n U p w → cc_n (fun x => p.testBit x) n ≤ b) → post (nI b)) : wpY_largest post (nI n, xa_N U, aLe) (nI S) (nI w.toNat) := by
  have e10 : ∀ p, cc_sub p S → cc_n (fun x => p.testBit x) 10 = cc_n (fun x => p.testBit x) n := fun p hp => cc_n_wide hn (fun i hi => cc_hi (cc_sub_lt hp hS) hi)
  have L : ∀ f b part, part < f → cc_sub part S → (∃ p, cc_sub p S ∧ un_I n U p w ∧ cc_n (fun x => p.testBit x) n = b) → (∀ p, part < p → cc_sub p S → un_I n U p w → cc_n (fun x => p.testBit x) n ≤ b) →
      wY_largest_5 post (nI S) (nI w.toNat) (nI n) (xa_N U) aLe f (nI b) (nI part) := by
    intro f
    induction f with
    | zero => intro b part h; omega
    | succ f ih =>
      intro b part hf hp hb hi
      have l31 : part < 2 ^ 31 := xa_31 hn (cc_sub_lt hp hS)
      have b31 : b < 2 ^ 31 := by
        obtain ⟨p, _, _, e⟩ := hb
        have := cc_n_bound (fun x => p.testBit x) n
        omega
      have k31 := cc_n_bound (fun x => part.testBit x) 10
      refine pk_le part 0 (fun z => ?_) (fun z => ?_)
      · refine h b hb (fun p sp up => ?_)
        rcases Nat.lt_or_ge part p with q | q
        · exact hi p q sp up
        · rw [show p = 0 by omega, cc_n_none (fun i _ => Nat.zero_testBit i)]; exact Nat.zero_le b
      · have en : (nI part - 1) &&& nI S = nI ((part - 1) &&& S) := by
          rw [show (1 : Int32) = nI 1 from rfl, pk_sub z, nx_and]
        have sn : cc_sub ((part - 1) &&& S) S := fun i hi => by
          rw [Nat.testBit_and, Bool.and_eq_true] at hi
          exact hi.2
        have ln : (part - 1) &&& S < f := Nat.lt_of_le_of_lt (Nat.and_le_left) (by omega)
        have nx : ∀ b', (∃ p, cc_sub p S ∧ un_I n U p w ∧ cc_n (fun x => p.testBit x) n = b') → (∀ p, part ≤ p → cc_sub p S → un_I n U p w → cc_n (fun x => p.testBit x) n ≤ b') →
            wY_largest_5 post (nI S) (nI w.toNat) (nI n) (xa_N U) aLe f (nI b') (nI ((part - 1) &&& S)) := fun b' e1 e2 => ih b' _ ln sn e1 (fun p hp' sp up => by
          rcases Nat.lt_or_ge p part with q | q
          · have := cc_sub_next n (cc_sub_lt hp hS) q sp hp
            omega
          · exact e2 p q sp up)
        refine yw_size l31 ?_
        rw [e10 part hp] at k31 ⊢
        refine pk_le _ b (fun y => nm_r en (nx b hb (fun p hp' sp up => ?_))) (fun y => yw_uniform hn hU l31 w (fun up => br_f (by decide) (nm_r en (nx _ ⟨part, hp, up, rfl⟩ (fun p hp' sp up => ?_)))) (fun nup => br_t rfl (nm_r en (nx b hb (fun p hp' sp up => ?_))))) (ha := by omega)
        · rcases Nat.lt_or_ge part p with q | q
          · exact hi p q sp up
          · rw [show p = part by omega]; exact y
        · rcases Nat.lt_or_ge part p with q | q
          · have := hi p q sp up; omega
          · rw [show p = part by omega]; exact Nat.le_refl _
        · rcases Nat.lt_or_ge part p with q | q
          · exact hi p q sp up
          · rw [show p = part by omega] at up; exact absurd up nup
  refine ⟨S + 1, L (S + 1) 0 S (by omega) (fun _ h => h) ⟨0, fun i hi => by rw [Nat.zero_testBit] at hi; exact absurd hi Bool.false_ne_true, fun v _ u _ c => by rw [Nat.zero_testBit] at c; exact absurd c Bool.false_ne_true, cc_n_none (fun i _ => Nat.zero_testBit i)⟩ (fun p hp sp up => ?_)⟩
  have := Nat.le_of_testBit sp
  omega
end
section
/-! the order of a state, widths and longest chains as numbers -/
def po_R (U : Nat → Nat) : Nat → Nat → Bool := fun a b => (U b).testBit a
def po_P (n : Nat) (U : Nat → Nat) : Prop := n ≤ 10 ∧ (∀ v, v < n → U v < 2 ^ v) ∧ (∀ v, v < n → ∀ u, (U v).testBit u = true → ∀ w, (U u).testBit w = true → (U v).testBit w = true)
theorem po_lt {n : Nat} {U : Nat → Nat} (h : po_P n U) : ∀ a b, b < n → po_R U a b = true → a < b := fun a b hb r => cc_in (h.2.1 b hb) r
theorem po_tr {n : Nat} {U : Nat → Nat} (h : po_P n U) : mt_tr n (po_R U) := fun a b c _ _ hc r1 r2 => h.2.2 c hc b r2 a r1
theorem po_31 {n : Nat} {U : Nat → Nat} (h : po_P n U) : ∀ v, v < n → U v < 2 ^ 31 := fun v hv => Nat.lt_of_lt_of_le (h.2.1 v hv) (Nat.pow_le_pow_right (by decide) (by have := h.1; omega))
theorem po_n {n : Nat} {U : Nat → Nat} (h : po_P n U) : ∀ v, v < n → U v < 2 ^ n := fun v hv => Nat.lt_of_lt_of_le (h.2.1 v hv) (Nat.pow_le_pow_right (by decide) (by omega))
theorem un_anti {n : Nat} {U : Nat → Nat} (h : po_P n U) (m : Nat) : un_I n U m false ↔ mt_anti n (po_R U) (fun x => m.testBit x) := by
  constructor
  · intro c a b ha hb ma mb
    rcases Nat.lt_trichotomy a b with q | q | q
    · have := c b hb a q ma mb
      rw [Bool.or_eq_false_iff] at this
      exact this.1
    · rw [q]; exact cc_hi (h.2.1 b hb) (Nat.le_refl b)
    · have := c a ha b q mb ma
      rw [Bool.or_eq_false_iff] at this
      exact this.2
  · intro c v hv u hu mu mv
    have a := c u v (by omega) hv mu mv
    have b := c v u hv (by omega) mv mu
    have a : (U v).testBit u = false := a
    have b : (U u).testBit v = false := b
    rw [a, b]; rfl
theorem un_chain {n : Nat} {U : Nat → Nat} (h : po_P n U) (m : Nat) : un_I n U m true ↔ ch_chain n (po_R U) (fun x => m.testBit x) := by
  constructor
  · intro c u v huv hv mu mv
    have := c v hv u huv mu mv
    rw [cc_hi (h.2.1 u (by omega)) (show u ≤ v by omega), Bool.or_false] at this
    exact this
  · intro c v hv u hu mu mv
    have a : (U v).testBit u = true := c u v hu hv mu mv
    rw [a]; rfl
/-- b is the size of a largest antichain (a longest chain) of the set S -/
def wd_is (n : Nat) (R : Nat → Nat → Bool) (S : Nat → Bool) (b : Nat) : Prop := (∃ A : Nat → Bool, mt_anti n R A ∧ (∀ x, x < n → A x = true → S x = true) ∧ cc_n A n = b) ∧ (∀ A : Nat → Bool, mt_anti n R A → (∀ x, x < n → A x = true → S x = true) → cc_n A n ≤ b)
def lc_is (n : Nat) (R : Nat → Nat → Bool) (S : Nat → Bool) (b : Nat) : Prop := (∃ A : Nat → Bool, ch_chain n R A ∧ (∀ x, x < n → A x = true → S x = true) ∧ cc_n A n = b) ∧ (∀ A : Nat → Bool, ch_chain n R A → (∀ x, x < n → A x = true → S x = true) → cc_n A n ≤ b)
theorem wd_uniq {n : Nat} {R : Nat → Nat → Bool} {S : Nat → Bool} {b c : Nat} (h : wd_is n R S b) (k : wd_is n R S c) : b = c := by
  obtain ⟨⟨A, a1, a2, a3⟩, a4⟩ := h
  obtain ⟨⟨B, b1, b2, b3⟩, b4⟩ := k
  have := a4 B b1 b2
  have := b4 A a1 a2
  omega
theorem lc_uniq {n : Nat} {R : Nat → Nat → Bool} {S : Nat → Bool} {b c : Nat} (h : lc_is n R S b) (k : lc_is n R S c) : b = c := by
  obtain ⟨⟨A, a1, a2, a3⟩, a4⟩ := h
  obtain ⟨⟨B, b1, b2, b3⟩, b4⟩ := k
  have := a4 B b1 b2
  have := b4 A a1 a2
  omega
theorem wd_congr {n : Nat} {R : Nat → Nat → Bool} {S S' : Nat → Bool} {b : Nat} (e : ∀ x, x < n → S x = S' x) (h : wd_is n R S b) : wd_is n R S' b := by
  obtain ⟨⟨A, a1, a2, a3⟩, a4⟩ := h
  exact ⟨⟨A, a1, fun x hx z => by rw [← e x hx]; exact a2 x hx z, a3⟩, fun B b1 b2 => a4 B b1 (fun x hx z => by rw [e x hx]; exact b2 x hx z)⟩
theorem wd_max {n : Nat} {R : Nat → Nat → Bool} {s : Nat → Bool} {UP DN : Nat → Option Nat} (h : mt_max n R s UP DN) (tr : mt_tr n R) : wd_is n R s (cc_n s n - mt_sz n UP) := by
  obtain ⟨A, a1, a2, a3⟩ := mt_width h tr
  refine ⟨⟨A, a1, a2, by omega⟩, fun B b1 b2 => ?_⟩
  have := mt_dual h.1 tr b1 b2
  omega
theorem mk_bit {A : Nat → Bool} {n x : Nat} (hx : x < n) : (cc_mk A n).testBit x = A x := by rw [cc_mk_bit, decide_eq_true hx]; rfl
theorem mk_sub {A : Nat → Bool} {n S : Nat} (h : ∀ x, x < n → A x = true → S.testBit x = true) : cc_sub (cc_mk A n) S := fun i hi => by
  have l := cc_in (cc_mk_lt A n) hi
  rw [mk_bit l] at hi
  exact h i l hi
theorem yw_width {post : Int32 → Prop} {n : Nat} {U : Nat → Nat} (hp : po_P n U) {aLe : Nat → Int32} {S : Nat} (hS : S < 2 ^ n) (h : ∀ b, wd_is n (po_R U) (fun x => S.testBit x) b → post (nI b)) : wpY_width post (nI n, xa_N U, aLe) (nI S) := by
  unfold wpY_width
  refine yw_isSet hp.1 (nI S) (fun _ _ _ => br_f (by decide) (yw_largest hp.1 (po_31 hp) hS false (fun b e1 e2 => h b ⟨?_, fun A a1 a2 => ?_⟩))) (fun z => absurd ⟨S, hS, rfl⟩ z)
  · obtain ⟨p, p1, p2, p3⟩ := e1
    exact ⟨fun x => p.testBit x, (un_anti hp p).mp p2, fun x _ => p1 x, p3⟩
  · have := e2 (cc_mk A n) (mk_sub a2) ((un_anti hp _).mpr (fun a b ha hb z1 z2 => a1 a b ha hb ((mk_bit ha).symm.trans z1) ((mk_bit hb).symm.trans z2)))
    rw [cc_n_eq (fun i hi => mk_bit hi)] at this
    exact this
theorem yw_longest {post : Int32 → Prop} {n : Nat} {U : Nat → Nat} (hp : po_P n U) {aLe : Nat → Int32} {S : Nat} (hS : S < 2 ^ n) (h : ∀ b, lc_is n (po_R U) (fun x => S.testBit x) b → post (nI b)) : wpY_longestChain post (nI n, xa_N U, aLe) (nI S) := by
  unfold wpY_longestChain
  refine yw_isSet hp.1 (nI S) (fun _ _ _ => br_f (by decide) (yw_largest hp.1 (po_31 hp) hS true (fun b e1 e2 => h b ⟨?_, fun A a1 a2 => ?_⟩))) (fun z => absurd ⟨S, hS, rfl⟩ z)
  · obtain ⟨p, p1, p2, p3⟩ := e1
    exact ⟨fun x => p.testBit x, (un_chain hp p).mp p2, fun x _ => p1 x, p3⟩
  · have := e2 (cc_mk A n) (mk_sub a2) ((un_chain hp _).mpr (fun a b hab hb z1 z2 => a1 a b hab hb ((mk_bit (show a < n by omega)).symm.trans z1) ((mk_bit hb).symm.trans z2)))
    rw [cc_n_eq (fun i hi => mk_bit hi)] at this
    exact this
/-! the marks of the largest antichains -/
def fl_big (n : Nat) (R : Nat → Nat → Bool) (most m : Nat) : Prop := mt_anti n R (fun x => m.testBit x) ∧ cc_n (fun x => m.testBit x) n = most
def fl_ok (n : Nat) (R : Nat → Nat → Bool) (most k : Nat) (LE : Nat → Nat) : Prop := ∀ m, m < k → (LE m = 1 ∧ fl_big n R most m) ∨ (LE m = 0 ∧ ¬ fl_big n R most m)
theorem fl_step {n : Nat} {R : Nat → Nat → Bool} {most k : Nat} {LE : Nat → Nat} (h : fl_ok n R most k LE) {b : Nat} (hb : (b = 1 ∧ fl_big n R most k) ∨ (b = 0 ∧ ¬ fl_big n R most k)) : fl_ok n R most (k + 1) (xa_u LE k b) := by
  intro m hm
  by_cases z : m = k
  · rw [z, xa_us]; exact hb
  · rw [xa_un z]; exact h m (by omega)
theorem yw_find {post : SY → Prop} {n : Nat} {U : Nat → Nat} (hp : po_P n U) (h : ∀ most LE, wd_is n (po_R U) (fun _ => true) most → fl_ok n (po_R U) most (2 ^ n) LE → post (nI n, xa_N U, xa_N LE)) (LE : Nat → Nat) : wpY_findLargest post (nI n, xa_N U, xa_N LE) := by
  have hn := hp.1
  have p31 : 2 ^ n < 2 ^ 31 := cc_two (by omega)
  have p10 := cc_p10 hn
  unfold wpY_findLargest
  dsimp only
  rw [xb_all hn]
  refine yw_width hp (mt_all_lt n) (fun most hw => ?_)
  have hw : wd_is n (po_R U) (fun _ => true) most := wd_congr (fun x hx => mt_all hx) hw
  have mb : most ≤ n := by
    obtain ⟨⟨A, _, _, e⟩, _⟩ := hw
    have := cc_n_bound A n
    omega
  have L : ∀ d m LE, m + d = 2 ^ n → fl_ok n (po_R U) most m LE → wY_findLargest_15 post (nI most) (nI n) (d + 1) (nI m) (xa_N U) (xa_N LE) := by
    intro d
    induction d with
    | zero => exact fun m LE e i => pk_le (2 ^ n) m (fun _ => h most LE hw (by rw [show 2 ^ n = m by omega]; exact i)) (fun z => by omega) (hx := xb_shl (by omega))
    | succ d ih =>
      intro m LE e i
      have l31 : m < 2 ^ 31 := by omega
      have lm : m < 2 ^ n := by omega
      have e10 : cc_n (fun x => m.testBit x) 10 = cc_n (fun x => m.testBit x) n := cc_n_wide hn (fun i hi => cc_hi lm hi)
      have kb := cc_n_bound (fun x => m.testBit x) n
      refine pk_le (2 ^ n) m (fun z => by omega) (fun _ => yw_size l31 ?_) (hx := xb_shl (by omega))
      rw [e10]
      refine pk_eq _ most (fun y => yw_uniform hn (po_31 hp) l31 false (fun c => br_f (by decide) ⟨xa_l (by omega), nm_r (xa_wN (v := 1) l31 rfl) (nm_r (nI_1 m) (ih (m + 1) _ (by omega) (fl_step i (Or.inl ⟨rfl, (un_anti hp m).mp c, y⟩))))⟩) (fun c => br_t rfl ⟨xa_l (by omega), nm_r (xa_wN (v := 0) l31 rfl) (nm_r (nI_1 m) (ih (m + 1) _ (by omega) (fl_step i (Or.inr ⟨rfl, fun z => c ((un_anti hp m).mpr z.1)⟩))))⟩))
        (fun y => ⟨xa_l (by omega), nm_r (xa_wN (v := 0) l31 rfl) (nm_r (nI_1 m) (ih (m + 1) _ (by omega) (fl_step i (Or.inr ⟨rfl, fun z => y z.2⟩))))⟩) (ha := by omega) (hb := by omega)
  exact ⟨2 ^ n + 1, L (2 ^ n) 0 LE (by omega) (fun m hm => by omega)⟩
end
section
/-! the reference: the lowest and highest of the largest antichains -/
section
variable {aLe : Nat → Int32}
def ab_c (n : Nat) (U : Nat → Nat) (o v : Nat) : Prop := o.testBit v = true ∨ ∃ w, w < n ∧ o.testBit w = true ∧ (U w).testBit v = true
def aa_c (n : Nat) (U : Nat → Nat) (o v : Nat) : Prop := o.testBit v = true ∨ ∃ w, w < n ∧ o.testBit w = true ∧ (U v).testBit w = true
theorem yw_some {post : Int32 → Prop} {n : Nat} {U : Nat → Nat} (hp : po_P n U) {v o : Nat} (hv : v < n) (ho : o < 2 ^ n) (h1 : (∃ w, w < n ∧ o.testBit w = true ∧ (U w).testBit v = true) → post 1) (h0 : (¬ ∃ w, w < n ∧ o.testBit w = true ∧ (U w).testBit v = true) → post 0) :
    wpY_someAbove post (nI n, xa_N U, aLe) (nI v) (nI o) := by
  have hn := hp.1
  have L : ∀ d w, w + d = n → (∀ x, x < w → ¬ (o.testBit x = true ∧ (U x).testBit v = true)) → wY_someAbove_2 post (nI v) (nI o) (nI n) (xa_N U) aLe (d + 1) (nI w) := by
    intro d
    induction d with
    | zero => exact fun w e i => pk_le n w (fun _ => h0 (fun ⟨x, a, b⟩ => i x (by omega) b)) (fun z => by omega)
    | succ d ih =>
      intro w e i
      have nx : ¬ (o.testBit w = true ∧ (U w).testBit v = true) → wY_someAbove_2 post (nI v) (nI o) (nI n) (xa_N U) aLe (d + 1) (nI (w + 1)) := fun c => ih (w + 1) (by omega) (fun x hx => by
        rcases Nat.lt_or_ge x w with q | q
        · exact i x q
        · rw [show x = w by omega]; exact c)
      refine pk_le n w (fun z => by omega) (fun _ => yw_in rfl rfl (xa_31 hn ho) (by omega) (fun z => br_f (by decide) ⟨xa_i (by omega), yw_in (xa_rN (by omega)) rfl (po_31 hp w (by omega)) (by omega) (fun y => br_f (by decide) (h1 ⟨w, by omega, z, y⟩)) (fun y => br_t rfl (nm_r (nI_1 w) (nx (fun c => ?_))))⟩) (fun z => br_t rfl (nm_r (nI_1 w) (nx (fun c => ?_)))))
      · rw [y] at c; exact absurd c.2 Bool.false_ne_true
      · rw [z] at c; exact absurd c.1 Bool.false_ne_true
  exact ⟨n + 1, L n 0 (by omega) (fun x hx => by omega)⟩
theorem yw_allBelow {post : Int32 → Prop} {n : Nat} {U : Nat → Nat} (hp : po_P n U) {m o : Nat} (hm : m < 2 ^ n) (ho : o < 2 ^ n) (h1 : (∀ v, v < n → m.testBit v = true → ab_c n U o v) → post 1) (h0 : (¬ ∀ v, v < n → m.testBit v = true → ab_c n U o v) → post 0) :
    wpY_allBelow post (nI n, xa_N U, aLe) (nI m) (nI o) := by
  have hn := hp.1
  have L : ∀ d v, v + d = n → (∀ x, x < v → m.testBit x = true → ab_c n U o x) → wY_allBelow_2 post (nI m) (nI o) (nI n) (xa_N U) aLe (d + 1) (nI v) := by
    intro d
    induction d with
    | zero => exact fun v e i => pk_le n v (fun _ => h1 (fun x hx => i x (by omega))) (fun z => by omega)
    | succ d ih =>
      intro v e i
      have nx : (m.testBit v = true → ab_c n U o v) → wY_allBelow_2 post (nI m) (nI o) (nI n) (xa_N U) aLe (d + 1) (nI (v + 1)) := fun c => ih (v + 1) (by omega) (fun x hx => by
        rcases Nat.lt_or_ge x v with q | q
        · exact i x q
        · rw [show x = v by omega]; exact c)
      refine pk_le n v (fun z => by omega) (fun _ => yw_in rfl rfl (xa_31 hn hm) (by omega) (fun z => br_f (by decide) (yw_in rfl rfl (xa_31 hn ho) (by omega) (fun y => br_f (by decide) (nm_r (nI_1 v) (nx (fun _ => Or.inl y)))) (fun y => br_t rfl (yw_some hp (by omega) ho (fun c => br_f (by decide) (nm_r (nI_1 v) (nx (fun _ => Or.inr c)))) (fun c => br_t rfl (h0 (fun k => ?_))))))) (fun z => br_t rfl (nm_r (nI_1 v) (nx (fun c => ?_)))))
      · rcases k v (by omega) z with q | q
        · rw [y] at q; exact absurd q Bool.false_ne_true
        · exact c q
      · rw [z] at c; exact absurd c Bool.false_ne_true
  exact ⟨n + 1, L n 0 (by omega) (fun x hx => by omega)⟩
theorem yw_allAbove {post : Int32 → Prop} {n : Nat} {U : Nat → Nat} (hp : po_P n U) {m o : Nat} (hm : m < 2 ^ n) (ho : o < 2 ^ n) (h1 : (∀ v, v < n → m.testBit v = true → aa_c n U o v) → post 1) (h0 : (¬ ∀ v, v < n → m.testBit v = true → aa_c n U o v) → post 0) :
    wpY_allAbove post (nI n, xa_N U, aLe) (nI m) (nI o) := by
  have hn := hp.1
  have L : ∀ d v, v + d = n → (∀ x, x < v → m.testBit x = true → aa_c n U o x) → wY_allAbove_2 post (nI m) (nI o) (nI n) (xa_N U) aLe (d + 1) (nI v) := by
    intro d
    induction d with
    | zero => exact fun v e i => pk_le n v (fun _ => h1 (fun x hx => i x (by omega))) (fun z => by omega)
    | succ d ih =>
      intro v e i
      have nx : (m.testBit v = true → aa_c n U o v) → wY_allAbove_2 post (nI m) (nI o) (nI n) (xa_N U) aLe (d + 1) (nI (v + 1)) := fun c => ih (v + 1) (by omega) (fun x hx => by
        rcases Nat.lt_or_ge x v with q | q
        · exact i x q
        · rw [show x = v by omega]; exact c)
      have E : xa_N U (nI v).toNatClampNeg &&& nI o = nI (U v &&& o) := by rw [xa_rN (by omega), nx_and]
      refine pk_le n v (fun z => by omega) (fun _ => yw_in rfl rfl (xa_31 hn hm) (by omega) (fun z => br_f (by decide) (yw_in rfl rfl (xa_31 hn ho) (by omega) (fun y => br_f (by decide) (nm_r (nI_1 v) (nx (fun _ => Or.inl y)))) (fun y => br_t rfl ⟨xa_i (by omega), xe_z E (xa_31 hn (Nat.and_lt_two_pow _ ho)) (fun c => h0 (fun k => ?_)) (fun c => nm_r (nI_1 v) (nx (fun _ => Or.inr ?_)))⟩))) (fun z => br_t rfl (nm_r (nI_1 v) (nx (fun c => ?_)))))
      · rcases k v (by omega) z with q | ⟨w, hw, ow, uw⟩
        · rw [y] at q; exact absurd q Bool.false_ne_true
        · have t : (U v &&& o).testBit w = true := by rw [Nat.testBit_and, ow, uw]; rfl
          rw [c, Nat.zero_testBit] at t
          exact absurd t Bool.false_ne_true
      · obtain ⟨w, hw⟩ := Nat.exists_testBit_of_ne_zero c
        rw [Nat.testBit_and, Bool.and_eq_true] at hw
        exact ⟨w, cc_in ho hw.2, hw.2, hw.1⟩
      · rw [z] at c; exact absurd c Bool.false_ne_true
  exact ⟨n + 1, L n 0 (by omega) (fun x hx => by omega)⟩
end
/-- the set m lies below (above) or on o -/
def et_c (n : Nat) (U : Nat → Nat) (low : Bool) (m o : Nat) : Prop := ∀ v, v < n → m.testBit v = true → (if low = true then ab_c n U o v else aa_c n U o v)
theorem fl_1 {n : Nat} {R : Nat → Nat → Bool} {most k : Nat} {LE : Nat → Nat} (h : fl_ok n R most k LE) {m : Nat} (hm : m < k) {x : Int32} (hx : x = nI (LE m)) {A B : Prop} (f : fl_big n R most m → A) (g : ¬ fl_big n R most m → B) : (x = 1 → A) ∧ (¬ x = 1 → B) := by
  subst hx
  rcases h m hm with ⟨e, c⟩ | ⟨e, c⟩
  · rw [e]; exact br_t (by decide +kernel) (f c)
  · rw [e]; exact br_f (by decide +kernel) (g c)
theorem yw_isExt {post : Int32 → Prop} {n : Nat} {U : Nat → Nat} (hp : po_P n U) {most : Nat} {LE : Nat → Nat} (hL : fl_ok n (po_R U) most (2 ^ n) LE) {m : Nat} (hm : m < 2 ^ n) (low : Bool)
    (h1 : (∀ o, o < 2 ^ n → fl_big n (po_R U) most o → et_c n U low m o) → post 1) (h0 : (¬ ∀ o, o < 2 ^ n → fl_big n (po_R U) most o → et_c n U low m o) → post 0) :
    wpY_isExtreme post (nI n, xa_N U, xa_N LE) (nI m) (nI low.toNat) := by
  have hn := hp.1
  have p31 : 2 ^ n < 2 ^ 31 := cc_two (by omega)
  have p10 := cc_p10 hn
  have L : ∀ d o, o + d = 2 ^ n → (∀ x, x < o → fl_big n (po_R U) most x → et_c n U low m x) → wY_isExtreme_2 post (nI m) (nI low.toNat) (nI n) (xa_N U) (xa_N LE) (d + 1) (nI o) := by
    intro d
    induction d with
    | zero => exact fun o e i => pk_le (2 ^ n) o (fun _ => h1 (fun x hx => i x (by omega))) (fun z => by omega) (hx := xb_shl (by omega))
    | succ d ih =>
      intro o e i
      have lo : o < 2 ^ n := by omega
      have nx : (fl_big n (po_R U) most o → et_c n U low m o) → wY_isExtreme_2 post (nI m) (nI low.toNat) (nI n) (xa_N U) (xa_N LE) (d + 1) (nI (o + 1)) := fun c => ih (o + 1) (by omega) (fun x hx => by
        rcases Nat.lt_or_ge x o with q | q
        · exact i x q
        · rw [show x = o by omega]; exact c)
      refine pk_le (2 ^ n) o (fun z => by omega) (fun _ => ⟨xa_l (by omega), fl_1 hL lo (xa_rN (by omega)) (fun c => ?_) (fun c => nm_r (nI_1 o) (nx (fun k => absurd k c)))⟩) (hx := xb_shl (by omega))
      cases low with
      | false =>
        refine br_t rfl (yw_allAbove hp hm lo (fun k => br_f (by decide) (nm_r (nI_1 o) (nx (fun _ v hv mv => ?_)))) (fun k => br_t rfl (h0 (fun j => k (fun v hv mv => ?_)))))
        · rw [if_neg Bool.false_ne_true]; exact k v hv mv
        · have := j o lo c v hv mv
          rw [if_neg Bool.false_ne_true] at this
          exact this
      | true =>
        refine br_f (by decide +kernel) (yw_allBelow hp hm lo (fun k => br_f (by decide) (nm_r (nI_1 o) (nx (fun _ v hv mv => ?_)))) (fun k => br_t rfl (h0 (fun j => k (fun v hv mv => ?_)))))
        · rw [if_pos rfl]; exact k v hv mv
        · have := j o lo c v hv mv
          rw [if_pos rfl] at this
          exact this
  exact ⟨2 ^ n + 1, L (2 ^ n) 0 (by omega) (fun x hx => by omega)⟩
theorem yw_ext {post : Int32 → SY → Prop} {n : Nat} {U : Nat → Nat} (hp : po_P n U) (low : Bool) (r : Nat → Nat) (hr : ∀ most, wd_is n (po_R U) (fun _ => true) most → r most < 2 ^ n ∧ fl_big n (po_R U) most (r most) ∧ (∀ o, o < 2 ^ n → fl_big n (po_R U) most o → et_c n U low (r most) o) ∧
      (∀ m, m < 2 ^ n → fl_big n (po_R U) most m → (∀ o, o < 2 ^ n → fl_big n (po_R U) most o → et_c n U low m o) → m = r most))
    (h : ∀ most LE, wd_is n (po_R U) (fun _ => true) most → post (nI (r most)) (nI n, xa_N U, xa_N LE)) (LE : Nat → Nat) : wpY_extreme post (nI n, xa_N U, xa_N LE) (nI low.toNat) := by
  have hn := hp.1
  have p31 : 2 ^ n < 2 ^ 31 := cc_two (by omega)
  have p10 := cc_p10 hn
  unfold wpY_extreme
  refine yw_find hp (fun most LE hw hL => ?_) LE
  obtain ⟨r1, r2, r3, r4⟩ := hr most hw
  have L : ∀ d m, m + d = 2 ^ n → m ≤ r most → wY_extreme_6 post (nI low.toNat) (nI n) (xa_N U) (xa_N LE) (d + 1) (nI m) := by
    intro d
    induction d with
    | zero => exact fun m e i => by omega
    | succ d ih =>
      intro m e i
      have lm : m < 2 ^ n := by omega
      have nx : m ≠ r most → wY_extreme_6 post (nI low.toNat) (nI n) (xa_N U) (xa_N LE) (d + 1) (nI (m + 1)) := fun c => ih (m + 1) (by omega) (by omega)
      refine pk_le (2 ^ n) m (fun z => by omega) (fun _ => ⟨xa_l (by omega), fl_1 hL lm (xa_rN (by omega)) (fun c => ?_) (fun c => nm_r (nI_1 m) (nx (fun k => c (by rw [k]; exact r2))))⟩) (hx := xb_shl (by omega))
      refine yw_isExt hp hL lm low (fun k => br_f (by decide) ?_) (fun k => br_t rfl (nm_r (nI_1 m) (nx (fun j => k (by rw [j]; exact r3)))))
      rw [r4 m lm c k]
      exact h most LE hw
  exact ⟨2 ^ n + 1, L (2 ^ n) 0 (by omega) (by omega)⟩
theorem yw_inSome {post : Int32 → SY → Prop} {n : Nat} {U : Nat → Nat} (hp : po_P n U) {v : Nat} (hv : v < n)
    (h1 : ∀ most LE, wd_is n (po_R U) (fun _ => true) most → (∃ m, m < 2 ^ n ∧ fl_big n (po_R U) most m ∧ m.testBit v = true) → post 1 (nI n, xa_N U, xa_N LE))
    (h0 : ∀ most LE, wd_is n (po_R U) (fun _ => true) most → (¬ ∃ m, m < 2 ^ n ∧ fl_big n (po_R U) most m ∧ m.testBit v = true) → post 0 (nI n, xa_N U, xa_N LE)) (LE : Nat → Nat) : wpY_inSomeLargest post (nI n, xa_N U, xa_N LE) (nI v) := by
  have hn := hp.1
  have p31 : 2 ^ n < 2 ^ 31 := cc_two (by omega)
  have p10 := cc_p10 hn
  unfold wpY_inSomeLargest
  refine br_f (nI_pos (by omega)) (br_t (nI_lt hv (by omega)) (yw_find hp (fun most LE hw hL => ?_) LE))
  have L : ∀ d m, m + d = 2 ^ n → (∀ x, x < m → ¬ (fl_big n (po_R U) most x ∧ x.testBit v = true)) → wY_inSomeLargest_20 post (nI v) (nI n) (xa_N U) (xa_N LE) (d + 1) (nI m) := by
    intro d
    induction d with
    | zero => exact fun m e i => pk_le (2 ^ n) m (fun _ => h0 most LE hw (fun ⟨x, a, b⟩ => i x (by omega) b)) (fun z => by omega) (hx := xb_shl (by omega))
    | succ d ih =>
      intro m e i
      have lm : m < 2 ^ n := by omega
      have nx : ¬ (fl_big n (po_R U) most m ∧ m.testBit v = true) → wY_inSomeLargest_20 post (nI v) (nI n) (xa_N U) (xa_N LE) (d + 1) (nI (m + 1)) := fun c => ih (m + 1) (by omega) (fun x hx => by
        rcases Nat.lt_or_ge x m with q | q
        · exact i x q
        · rw [show x = m by omega]; exact c)
      refine pk_le (2 ^ n) m (fun z => by omega) (fun _ => ⟨xa_l (by omega), fl_1 hL lm (xa_rN (by omega)) (fun c => yw_in rfl rfl (by omega) (by omega) (fun k => br_f (by decide) (h1 most LE hw ⟨m, lm, c, k⟩)) (fun k => br_t rfl (nm_r (nI_1 m) (nx (fun j => ?_))))) (fun c => nm_r (nI_1 m) (nx (fun k => c k.1)))⟩) (hx := xb_shl (by omega))
      rw [k] at j; exact absurd j.2 Bool.false_ne_true
  exact ⟨2 ^ n + 1, L (2 ^ n) 0 (by omega) (fun x hx => by omega)⟩
/-! two largest antichains that lie below or on each other are one -/
theorem et_uniq {n : Nat} {R : Nat → Nat → Bool} (tr : mt_tr n R) {A B : Nat → Bool} (ha : mt_anti n R A) (hb : mt_anti n R B) (h1 : ∀ x, x < n → A x = true → B x = true ∨ ∃ w, w < n ∧ B w = true ∧ R x w = true) (h2 : ∀ x, x < n → B x = true → A x = true ∨ ∃ w, w < n ∧ A w = true ∧ R x w = true) :
    ∀ x, x < n → A x = true → B x = true := by
  intro x hx ax
  rcases h1 x hx ax with q | ⟨w, hw, bw, r⟩
  · exact q
  · rcases h2 w hw bw with q | ⟨y, hy, ay, r2⟩
    · rw [ha x w hx hw ax q] at r
      exact absurd r Bool.false_ne_true
    · have := tr x w y hx hw hy r r2
      rw [ha x y hx hy ax ay] at this
      exact absurd this Bool.false_ne_true
end
section
/-! the reference: the least number of chains -/
theorem cc_n_le1 {p : Nat → Bool} : ∀ {n : Nat}, (∀ u v, u < v → v < n → p u = true → p v = true → False) → cc_n p n ≤ 1
  | 0, _ => Nat.zero_le 1
  | n + 1, h => by
    rw [cc_n_succ]
    cases e : p n
    · exact cc_n_le1 (fun u v a b => h u v a (by omega))
    · have z : cc_n p n = 0 := cc_n_none (fun i hi => by
        cases q : p i
        · rfl
        · exact (h i n hi (by omega) q e).elim)
      rw [z]; exact Nat.le_refl 1
def dp_lb (n S : Nat) (A : Nat → Bool) (LE : Nat → Nat) : Prop := ∀ m, m ≤ S → cc_n (fun x => A x && m.testBit x) n ≤ LE m ∧ LE m ≤ 100
theorem dp_add {n : Nat} {R : Nat → Nat → Bool} {A : Nat → Bool} (an : mt_anti n R A) {c : Nat} (hc : ch_chain n R (fun x => c.testBit x)) (r : Nat) : cc_n (fun x => A x && (r ||| c).testBit x) n ≤ cc_n (fun x => A x && r.testBit x) n + 1 := by
  have one : cc_n (fun x => A x && c.testBit x) n ≤ 1 := cc_n_le1 (fun u v huv hv cu cv => by
    rw [Bool.and_eq_true] at cu cv
    have r := hc u v huv hv cu.2 cv.2
    rw [an u v (by omega) hv cu.1 cv.1] at r
    exact absurd r Bool.false_ne_true)
  have s := cc_s_add (fun x => (A x && r.testBit x).toNat) (fun x => (A x && c.testBit x).toNat) n
  have le : cc_n (fun x => A x && (r ||| c).testBit x) n ≤ cc_s (fun x => (A x && r.testBit x).toNat + (A x && c.testBit x).toNat) n := cc_s_le (fun x _ => by
    show (A x && (r ||| c).testBit x).toNat ≤ (A x && r.testBit x).toNat + (A x && c.testBit x).toNat
    rw [Nat.testBit_or]
    cases A x <;> cases r.testBit x <;> cases c.testBit x <;> decide)
  rw [s] at le
  have le : cc_n (fun x => A x && (r ||| c).testBit x) n ≤ cc_n (fun x => A x && r.testBit x) n + cc_n (fun x => A x && c.testBit x) n := le
  omega
theorem dp_sub {a S : Nat} (ha : a < 2 ^ 32) : cc_an a S = 0 ↔ cc_sub a S := by
  constructor
  · intro h i hi
    have b := cc_an_bit S ha i
    rw [h, Nat.zero_testBit, hi] at b
    revert b
    cases S.testBit i <;> decide
  · intro h
    refine ch_bext (fun i => ?_)
    rw [cc_an_bit S ha, Nat.zero_testBit]
    constructor
    · intro z
      rw [Bool.and_eq_true] at z
      have := h i z.1
      rw [this] at z
      exact absurd z.2 Bool.false_ne_true
    · intro z; exact absurd z Bool.false_ne_true
section
variable {post : Int32 → SY → Prop}
theorem yw_72 {n : Nat} (hn : n ≤ 10) {R : Nat → Nat → Bool} {A : Nat → Bool} (an : mt_anti n R A) {S : Nat} (hS : S < 2 ^ n) {c : Nat} (c0 : 0 < c) (cS : cc_sub c S) (hc : ch_chain n R (fun x => c.testBit x)) {aU : Nat → Int32} (J : Int32 → (Nat → Int32) → (Nat → Int32) → Prop) (LE0 : Nat → Nat)
    (hJ : ∀ LE, dp_lb n S A LE → (∀ m, m ≤ S → LE m ≤ LE0 m) → (∀ r, r ≤ S → r &&& c = 0 → cc_sub r S → LE (r ||| c) ≤ LE0 r + 1) → J (nI (c + 1)) aU (xa_N LE)) :
    ∀ d rest LE, rest + d = S + 1 → dp_lb n S A LE → (∀ m, m ≤ S → LE m ≤ LE0 m) → (∀ r, r < rest → r &&& c = 0 → cc_sub r S → LE (r ||| c) ≤ LE0 r + 1) → wY_chains_72 post J (nI S) (nI c) 1 (nI n) (d + 1) (nI rest) aU (xa_N LE) := by
  have s10 := xa_k hn hS
  intro d
  induction d with
  | zero => exact fun rest LE e i1 i2 i3 => br_f (by decide) (pk_lt S rest (fun _ => nm_r (nI_1 c) (hJ LE i1 i2 (fun r hr => i3 r (by omega)))) (fun z => by omega))
  | succ d ih =>
    intro rest LE e i1 i2 i3
    have lr : rest ≤ S := by omega
    have lc : c < 2 ^ n := cc_sub_lt cS hS
    have c31 := xa_31 hn lc
    have r31 : rest < 2 ^ 31 := by omega
    have nx : ∀ LE', dp_lb n S A LE' → (∀ m, m ≤ S → LE' m ≤ LE m) → (rest &&& c = 0 → cc_sub rest S → LE' (rest ||| c) ≤ LE rest + 1) → wY_chains_72 post J (nI S) (nI c) 1 (nI n) (d + 1) (nI (rest + 1)) aU (xa_N LE') := fun LE' j1 j2 j3 => by
      refine ih (rest + 1) LE' (by omega) j1 (fun m hm => Nat.le_trans (j2 m hm) (i2 m hm)) (fun r hr z1 z2 => ?_)
      have sub : cc_sub (r ||| c) S := fun i hi => by
        rw [Nat.testBit_or, Bool.or_eq_true] at hi
        exact hi.elim (z2 i) (cS i)
      have lrc : r ||| c ≤ S := Nat.le_of_testBit sub
      rcases Nat.lt_or_ge r rest with q | q
      · exact Nat.le_trans (j2 _ lrc) (i3 r q z1 z2)
      · have er : r = rest := by omega
        rw [er] at z1 z2 ⊢
        exact Nat.le_trans (j3 z1 z2) (Nat.add_le_add_right (i2 rest lr) 1)
    have ea : nI rest &&& nI c = nI (rest &&& c) := nx_and rest c
    have en : nI rest &&& (nI S ^^^ (-1)) = nI (cc_an rest S) := xb_an rest S
    have eo : nI rest ||| nI c = nI (rest ||| c) := xb_or rest c
    refine br_f (by decide) (pk_lt S rest (fun z => by omega) (fun _ => ?_))
    refine xe_z ea (Nat.lt_of_le_of_lt Nat.and_le_left r31) (fun z1 => ?_) (fun z1 => nm_r (nI_1 rest) (nx LE i1 (fun _ _ => Nat.le_refl _) (fun z => absurd z z1)))
    refine xe_z en (Nat.lt_of_le_of_lt (cc_an_le rest S) r31) (fun z2 => ?_) (fun z2 => nm_r (nI_1 rest) (nx LE i1 (fun _ _ => Nat.le_refl _) (fun _ z => absurd ((dp_sub (by omega)).mpr z) z2)))
    have z2 := (dp_sub (show rest < 2 ^ 32 by omega)).mp z2
    have sub : cc_sub (rest ||| c) S := fun i hi => by
      rw [Nat.testBit_or, Bool.or_eq_true] at hi
      exact hi.elim (z2 i) (cS i)
    have lrc : rest ||| c ≤ S := Nat.le_of_testBit sub
    have b1 := i1 rest lr
    have b2 := i1 (rest ||| c) lrc
    rw [eo]
    refine ⟨xa_l (by omega), xa_l (by omega), pk_le (LE (rest ||| c)) (LE rest + 1) (fun y => nm_r (nI_1 rest) (nx LE i1 (fun _ _ => Nat.le_refl _) (fun _ _ => y))) (fun y => ⟨xa_l (by omega), xa_l (by omega), nm_r (xa_wN (v := LE rest + 1) (by omega) (by rw [xa_rN r31, nI_1])) (nm_r (nI_1 rest) (nx _ ?_ ?_ ?_))⟩) (hx := xa_rN (by omega)) (hy := by rw [xa_rN r31, nI_1]) (ha := by omega) (hb := by omega)⟩
    · intro m hm
      by_cases q : m = rest ||| c
      · rw [q, xa_us]
        have := dp_add an hc rest
        exact ⟨by omega, by omega⟩
      · rw [xa_un q]; exact i1 m hm
    · intro m hm
      by_cases q : m = rest ||| c
      · rw [q, xa_us]; omega
      · rw [xa_un q]; exact Nat.le_refl _
    · intro _ _
      rw [xa_us]; exact Nat.le_refl _
theorem yw_chains {n : Nat} {U : Nat → Nat} (hp : po_P n U) {S : Nat} (hS : S < 2 ^ n) {A : Nat → Bool} (an : mt_anti n (po_R U) A) (hA : ∀ x, x < n → A x = true → S.testBit x = true) {UP DN : Nat → Option Nat} (m : mt_Mat n (po_R U) (fun x => S.testBit x) UP DN) (hc : cc_n (fun t => S.testBit t && (UP t).isNone) n = cc_n A n)
    (h : ∀ LE, post (nI (cc_n A n)) (nI n, xa_N U, xa_N LE)) (LE : Nat → Nat) : wpY_chains post (nI n, xa_N U, xa_N LE) (nI S) := by
  have hn := hp.1
  have s10 := xa_k hn hS
  have tr := po_tr hp
  have lt := po_lt hp
  obtain ⟨T, t1, t2⟩ := ch_top (n := n) (UP := UP) (fun x y hx e => by
    obtain ⟨hy, r, _⟩ := m.1 x y hx e
    exact ⟨lt x y hy r, hy⟩)
  obtain ⟨w0, n0⟩ := ch_start (s := fun x => S.testBit x) t1
  obtain ⟨wS, nS⟩ := ch_endW (s := fun x => S.testBit x) (UP := UP) (T := T) hS (fun _ _ => rfl)
  have wk : ∀ k, cc_sub (ch_W n (fun x => S.testBit x) T k) S := fun k i hi => (ch_W_bit.mp hi).2.1
  have lb0 : ∀ x : Nat, cc_n (fun y => A y && x.testBit y) n ≤ 10 := fun x => Nat.le_trans (cc_n_bound _ n) hn
  have L2 : ∀ d k LE, k + d = S → dp_lb n S A LE → LE (ch_W n (fun x => S.testBit x) T k) ≤ ch_N n (fun x => S.testBit x) UP T k → wY_chains_41 post (nI S) (nI n) (d + 1) (nI (k + 1)) (xa_N U) (xa_N LE) := by
    intro d
    induction d with
    | zero =>
      intro k LE e i1 i2
      refine pk_lt S (k + 1) (fun _ => ⟨xa_l (by omega), ?_⟩) (fun z => by omega)
      rw [show k = S by omega, wS, nS, hc] at i2
      have b := (i1 S (Nat.le_refl S)).1
      rw [cc_n_eq (q := A) (fun i hi => by
        show (A i && S.testBit i) = A i
        cases q : A i
        · rfl
        · rw [hA i hi q]; rfl)] at b
      rw [xa_rN (by omega), show LE S = cc_n A n by omega]
      exact h LE
    | succ d ih =>
      intro k LE e i1 i2
      have k31 : k + 1 < 2 ^ 31 := by omega
      have st := ch_step m tr lt t1 t2 k
      have skip : (¬ (cc_sub (k + 1) S ∧ ch_chain n (po_R U) (fun x => (k + 1).testBit x))) → wY_chains_41 post (nI S) (nI n) (d + 1) (nI (k + 1 + 1)) (xa_N U) (xa_N LE) := fun z => by
        refine ih (k + 1) LE (by omega) i1 ?_
        rcases st with ⟨a, b⟩ | ⟨a, b, _⟩
        · rw [a, b]; exact i2
        · exact absurd ⟨fun x hx => (b x hx).2, a⟩ z
      refine pk_lt S (k + 1) (fun z => by omega) (fun _ => xe_z (xb_an (k + 1) S) (Nat.lt_of_le_of_lt (cc_an_le _ _) k31) (fun z => ?_) (fun z => ⟨1, br_t rfl (nm_r (nI_1 (k + 1)) (skip (fun y => z ((dp_sub (by omega)).mpr y.1))))⟩))
      have cS := (dp_sub (show k + 1 < 2 ^ 32 by omega)).mp z
      refine yw_uniform hn (po_31 hp) k31 true (fun y => br_f (by decide) ⟨S + 2, ?_⟩) (fun y => br_t rfl ⟨1, br_t rfl (nm_r (nI_1 (k + 1)) (skip (fun x => y ((un_chain hp _).mpr x.2))))⟩)
      have ch := (un_chain hp _).mp y
      refine yw_72 hn an hS (by omega) cS ch _ LE (fun LE' j1 j2 j3 => ih (k + 1) LE' (by omega) j1 ?_) (S + 1) 0 LE (by omega) i1 (fun _ _ => Nat.le_refl _) (fun r hr => by omega)
      have lw : ch_W n (fun x => S.testBit x) T k ≤ S := Nat.le_of_testBit (wk k)
      rcases st with ⟨a, b⟩ | ⟨_, _, a, b, c⟩
      · rw [a, b]; exact Nat.le_trans (j2 _ lw) i2
      · rw [b, c]
        have := j3 _ lw a (wk k)
        omega
  have L1 : ∀ d p LE, p + d = S + 1 → (∀ x, x < p → LE x = if x = 0 then 0 else 100) → wY_chains_12 post (nI S) (nI n) (d + 1) (nI p) (xa_N U) (xa_N LE) := by
    intro d
    induction d with
    | zero =>
      intro p LE e i
      refine pk_lt S p (fun _ => ⟨S + 1, L2 S 0 LE (by omega) (fun x hx => ?_) ?_⟩) (fun z => by omega)
      · rw [i x (by omega)]
        split
        · next z =>
          rw [z, cc_n_none (fun i _ => by rw [Nat.zero_testBit, Bool.and_false])]
          exact ⟨Nat.le_refl 0, by decide⟩
        · exact ⟨Nat.le_trans (lb0 x) (by decide), Nat.le_refl 100⟩
      · rw [w0, n0, i 0 (by omega), if_pos rfl]; exact Nat.le_refl 0
    | succ d ih =>
      intro p LE e i
      have nx : ∀ v, v = (if p = 0 then 0 else 100) → wY_chains_12 post (nI S) (nI n) (d + 1) (nI (p + 1)) (xa_N U) (xa_N (xa_u LE p v)) := fun v hv => ih (p + 1) _ (by omega) (fun x hx => by
        by_cases q : x = p
        · rw [q, xa_us]; exact hv
        · rw [xa_un q]; exact i x (by omega))
      refine pk_lt S p (fun z => by omega) (fun _ => xe_z rfl (by omega) (fun z => ⟨xa_l (by omega), nm_r (xa_wN (v := 0) (by omega) rfl) (nm_r (nI_1 p) (nx 0 (by rw [if_pos z])))⟩) (fun z => ⟨xa_l (by omega), nm_r (xa_wN (v := 100) (by omega) rfl) (nm_r (nI_1 p) (nx 100 (by rw [if_neg z])))⟩))
  unfold wpY_chains
  refine yw_isSet hn (nI S) (fun _ _ _ => br_f (by decide) ⟨S + 2, L1 (S + 1) 0 LE (by omega) (fun x hx => by omega)⟩) (fun z => absurd ⟨S, hS, rfl⟩ z)
end
end
section
/-! X: chains and the longest chain -/
section
variable {aU aL : Nat → Int32}
theorem xw_chains {post : Int32 → SX → Prop} {n : Nat} (hn : n ≤ 10) {R : Nat → Nat → Bool} {O : Nat → Nat} (hO : ∀ u, u < n → ∀ v, (O u).testBit v = true ↔ v < n ∧ R u v = true) (lt : ∀ a b, b < n → R a b = true → a < b) {fb : Int32} {KU KD : Nat → Option Nat} (hk : kc_ok n R fb KU KD) {m : Nat} (hm : m < 2 ^ n)
    (h : ∀ fb' KU' KD' UP' DN' Q' C', kc_ok n R fb' KU' KD' → mt_max n R (fun x => m.testBit x) UP' DN' → post (nI (cc_n (fun t => m.testBit t && (UP' t).isNone) n)) (nI n, fb', aU, xa_N O, xa_P KU', xa_P KD', xa_P UP', xa_P DN', xa_N Q', xa_N C', aL)) (UP DN : Nat → Option Nat) (Q C : Nat → Nat) :
    wpX_chains post (nI n, fb, aU, xa_N O, xa_P KU, xa_P KD, xa_P UP, xa_P DN, xa_N Q, xa_N C, aL) (nI m) := by
  unfold wpX_chains
  refine xw_isSet hn (nI m) (fun m' _ _ => ?_) (fun z => absurd ⟨m, hm, rfl⟩ z)
  refine br_f (by decide) (xw_couples hn hO lt hk hm (fun fb' KU' KD' UP' DN' Q' C' k mx => ?_) UP DN Q C)
  have L : ∀ d v, v + d = n → wX_chains_20 post (nI m) (nI n) fb' aU (xa_N O) (xa_P KU') (xa_P KD') (xa_P UP') (xa_P DN') (xa_N Q') (xa_N C') aL (d + 1) (nI (cc_n (fun t => m.testBit t && (UP' t).isNone) v)) (nI v) := by
    intro d
    induction d with
    | zero => exact fun v e => pk_le n v (fun _ => by rw [show v = n by omega]; exact h fb' KU' KD' UP' DN' Q' C' k mx) (fun z => by omega)
    | succ d ih =>
      intro v e
      have ih' := ih (v + 1) (by omega)
      have b : v < 2 ^ 31 := by omega
      refine pk_le n v (fun z => by omega) (fun _ => xe_b0 rfl rfl (xa_31 hn hm) (by omega) (fun z => nm_r (nI_1 v) ?_) (fun z => ⟨xa_i (by omega), xe_pos (xa_rP b) (mt_ok hn mx.1 v (by omega)).1 (fun k y => nm_r (nI_1 v) ?_) (fun y => nm_r (nI_1 _) (nm_r (nI_1 v) ?_))⟩))
      · rw [cc_n_succ, z] at ih'; exact ih'
      · rw [cc_n_succ, z, y] at ih'; exact ih'
      · rw [cc_n_succ, z, y] at ih'; exact ih'
  exact ⟨n + 1, L n 0 (by omega)⟩
end
section
variable {fb : Int32} {aO aKU aKD aUP aDN aQ aC : Nat → Int32}
theorem xw_under {post : Int32 → Prop} {n : Nat} (hn : n ≤ 10) {U : Nat → Nat} {L : Nat → Nat} {v S : Nat} (hv : v < n) (hU : U v < 2 ^ 31) (hL : ∀ u, u < v → S.testBit u = true → L u ≤ 10)
    (h : ∀ r, (∀ u, u < v → (U v).testBit u = true → S.testBit u = true → L u ≤ r) → (r = 0 ∨ ∃ u, u < v ∧ (U v).testBit u = true ∧ S.testBit u = true ∧ r = L u) → r ≤ 10 → post (nI r)) :
    wpX_longestUnder post (nI n, fb, xa_N U, aO, aKU, aKD, aUP, aDN, aQ, aC, xa_N L) (nI v) (nI S) := by
  have E : xa_N U (nI v).toNatClampNeg &&& nI S = nI (U v &&& S) := by rw [xa_rN (by omega), nx_and]
  have l31 : U v &&& S < 2 ^ 31 := Nat.lt_of_le_of_lt Nat.and_le_left hU
  have K : ∀ d u r, u + d = v → (∀ x, x < u → (U v).testBit x = true → S.testBit x = true → L x ≤ r) → (r = 0 ∨ ∃ x, x < v ∧ (U v).testBit x = true ∧ S.testBit x = true ∧ r = L x) → r ≤ 10 →
      wX_longestUnder_5 post (nI v) (nI S) (nI n) fb (xa_N U) aO aKU aKD aUP aDN aQ aC (xa_N L) (d + 1) (nI r) (nI u) := by
    intro d
    induction d with
    | zero => exact fun u r e i1 i2 i3 => pk_le v u (fun _ => h r (fun x hx => i1 x (by omega)) i2 i3) (fun z => by omega)
    | succ d ih =>
      intro u r e i1 i2 i3
      have nx : ∀ r', r ≤ r' → ((U v).testBit u = true → S.testBit u = true → L u ≤ r') → (r' = 0 ∨ ∃ x, x < v ∧ (U v).testBit x = true ∧ S.testBit x = true ∧ r' = L x) → r' ≤ 10 → wX_longestUnder_5 post (nI v) (nI S) (nI n) fb (xa_N U) aO aKU aKD aUP aDN aQ aC (xa_N L) (d + 1) (nI r') (nI (u + 1)) := fun r' a b c d => ih (u + 1) r' (by omega) (fun x hx y1 y2 => by
        rcases Nat.lt_or_ge x u with q | q
        · exact Nat.le_trans (i1 x q y1 y2) a
        · have ex : x = u := by omega
          rw [ex] at y1 y2 ⊢
          exact b y1 y2) c d
      refine pk_le v u (fun z => by omega) (fun _ => ⟨xa_i (by omega), xe_m0 E rfl l31 (by omega) (fun z => nm_r (nI_1 u) (nx r (Nat.le_refl r) (fun a b => ?_) i2 i3)) (fun z => ?_)⟩)
      · rw [Nat.testBit_and, a, b] at z
        exact absurd z (by decide)
      · rw [Nat.testBit_and, Bool.and_eq_true] at z
        have lu := hL u (by omega) z.2
        refine ⟨xa_i (by omega), pk_le (L u) r (fun y => nm_r (nI_1 u) (nx r (Nat.le_refl r) (fun _ _ => y) i2 i3)) (fun y => ⟨xa_i (by omega), nm_r (xa_rN (by omega)) (nm_r (nI_1 u) (nx (L u) (by omega) (fun _ _ => Nat.le_refl _) (Or.inr ⟨u, by omega, z.1, z.2, rfl⟩) lu))⟩) (hx := xa_rN (by omega))⟩
  exact ⟨v + 1, K v 0 0 (by omega) (fun x hx => by omega) (Or.inl rfl) (by omega)⟩
theorem xw_long {post : Int32 → SX → Prop} {n : Nat} {U : Nat → Nat} (hp : po_P n U) {S : Nat} (hS : S < 2 ^ n)
    (h : ∀ b L, lc_is n (po_R U) (fun x => S.testBit x) b → post (nI b) (nI n, fb, xa_N U, aO, aKU, aKD, aUP, aDN, aQ, aC, xa_N L)) (L : Nat → Nat) :
    wpX_longestChain post (nI n, fb, xa_N U, aO, aKU, aKD, aUP, aDN, aQ, aC, xa_N L) (nI S) := by
  have hn := hp.1
  have K : ∀ d v b L, v + d = n → ch_len v (po_R U) (fun x => S.testBit x) L → (∀ x, x < v → S.testBit x = true → L x ≤ b ∧ L x ≤ x + 1) → (b = 0 ∨ ∃ x, x < v ∧ S.testBit x = true ∧ b = L x) →
      wX_longestChain_14 post (nI S) (nI n) fb (d + 1) (nI b) (nI v) (xa_N U) aO aKU aKD aUP aDN aQ aC (xa_N L) := by
    intro d
    induction d with
    | zero =>
      intro v b L e i1 i2 i3
      have ev : v = n := by omega
      rw [ev] at i1 i2 i3
      exact pk_le n v (fun _ => h b L (by
        have := ch_long (po_tr hp) i1 (fun x hx sx => (i2 x hx sx).1) i3
        exact ⟨this.2, this.1⟩)) (fun z => by omega)
    | succ d ih =>
      intro v b L e i1 i2 i3
      have hv : v < n := by omega
      have b10 : b ≤ 10 := by
        rcases i3 with z | ⟨x, hx, sx, z⟩
        · omega
        · have := (i2 x hx sx).2; omega
      have step : ∀ r, r ≤ v + 1 → (S.testBit v = true → 1 ≤ r ∧ (∀ u, u < v → po_R U u v = true → S.testBit u = true → L u + 1 ≤ r) ∧ (r = 1 ∨ ∃ u, u < v ∧ po_R U u v = true ∧ S.testBit u = true ∧ r = L u + 1)) → (S.testBit v = false → r = 0) →
          wX_longestChain_43 post (wX_longestChain_14 post (nI S) (nI n) fb (d + 1)) (nI S) (nI b) (nI v) (nI r) (nI n) fb (xa_N U) aO aKU aKD aUP aDN aQ aC (xa_N L) := by
        intro r r10 g1 g2
        have j1 : ch_len (v + 1) (po_R U) (fun x => S.testBit x) (xa_u L v r) := by
          intro x hx sx
          by_cases q : x = v
          · rw [q] at sx
            obtain ⟨a1, a2, a3⟩ := g1 sx
            rw [q, xa_us]
            refine ⟨a1, fun u hu => by rw [xa_un (by omega)]; exact a2 u hu, ?_⟩
            rcases a3 with a3 | ⟨u, hu, a3⟩
            · exact Or.inl a3
            · exact Or.inr ⟨u, hu, by rw [xa_un (by omega)]; exact a3⟩
          · obtain ⟨a1, a2, a3⟩ := i1 x (by omega) sx
            rw [xa_un q]
            refine ⟨a1, fun u hu => by rw [xa_un (by omega)]; exact a2 u hu, ?_⟩
            rcases a3 with a3 | ⟨u, hu, a3⟩
            · exact Or.inl a3
            · exact Or.inr ⟨u, hu, by rw [xa_un (by omega)]; exact a3⟩
        have j2 : ∀ b', b ≤ b' → r ≤ b' → ∀ x, x < v + 1 → S.testBit x = true → xa_u L v r x ≤ b' ∧ xa_u L v r x ≤ x + 1 := fun b' h1 h2 x hx sx => by
          by_cases q : x = v
          · rw [q, xa_us]; exact ⟨h2, r10⟩
          · rw [xa_un q]
            have := i2 x (by omega) sx
            exact ⟨by omega, this.2⟩
        refine ⟨xa_i (by omega), nm_r (xa_wN (v := r) (by omega) (xa_narb (by omega))) (pk_le r b (fun y => nm_r (nI_1 v) (ih (v + 1) b _ (by omega) j1 (j2 b (Nat.le_refl b) y) ?_)) (fun y => nm_r (nI_1 v) (ih (v + 1) r _ (by omega) j1 (j2 r (by omega) (Nat.le_refl r)) (Or.inr ⟨v, by omega, ?_, by rw [xa_us]⟩))))⟩
        · rcases i3 with i3 | ⟨x, hx, sx, i3⟩
          · exact Or.inl i3
          · exact Or.inr ⟨x, by omega, sx, by rw [xa_un (by omega)]; exact i3⟩
        · cases q : S.testBit v
          · have := g2 q; omega
          · rfl
      refine pk_le n v (fun z => by omega) (fun _ => xe_b0 rfl rfl (xa_31 hn hS) (by omega) (fun z => ?_) (fun z => ?_))
      · exact step 0 (by omega) (fun c => by rw [z] at c; exact absurd c Bool.false_ne_true) (fun _ => rfl)
      · refine xw_under hn hv (po_31 hp v hv) (fun u hu su => by have := (i2 u hu su).2; omega) (fun r r1 r2 r3 => nm_r (e' := nI (r + 1)) (by rw [Nat.add_comm, ← nI_add]; rfl) (step (r + 1) ?_ (fun _ => ⟨by omega, fun u hu ru su => ?_, ?_⟩) (fun c => by rw [z] at c; exact absurd c.symm Bool.false_ne_true)))
        · rcases r2 with r2 | ⟨u, hu, ru, su, r2⟩
          · omega
          · have := (i2 u hu su).2; omega
        · have := r1 u hu ru su; omega
        · rcases r2 with r2 | ⟨u, hu, ru, su, r2⟩
          · exact Or.inl (by omega)
          · exact Or.inr ⟨u, hu, ru, su, by omega⟩
  unfold wpX_longestChain
  refine xw_isSet hn (nI S) (fun m' _ _ => ?_) (fun z => absurd ⟨S, hS, rfl⟩ z)
  exact br_f (by decide) ⟨n + 1, K n 0 0 L (by omega) (fun x hx => by omega) (fun x hx => by omega) (Or.inl rfl)⟩
end
end
section
/-! X: lowest and highest, by the rounds of part 05 -/
section
variable {aL : Nat → Int32}
theorem xw_lowest {post : Int32 → SX → Prop} {n : Nat} (hn : n ≤ 10) {R : Nat → Nat → Bool} {U O : Nat → Nat} (hO : ∀ u, u < n → ∀ v, (O u).testBit v = true ↔ v < n ∧ R u v = true) (lt : ∀ a b, b < n → R a b = true → a < b) (hE : ∀ v, v < n → U v < 2 ^ n) {fb : Int32} {KU KD : Nat → Option Nat} (hk : kc_ok n R fb KU KD)
    (h : ∀ fb' KU' KD' UP' DN' Q' C' A B, kc_ok n R fb' KU' KD' → mt_max n R (fun _ => true) UP' DN' → (A, B) = ex_it U UP' n (n + 1) (cc_mk (fun v => (DN' v).isNone) n, 0) → post (nI (cc_an A B)) (nI n, fb', xa_N U, xa_N O, xa_P KU', xa_P KD', xa_P UP', xa_P DN', xa_N Q', xa_N C', aL)) (UP DN : Nat → Option Nat) (Q C : Nat → Nat) :
    wpX_lowest post (nI n, fb, xa_N U, xa_N O, xa_P KU, xa_P KD, xa_P UP, xa_P DN, xa_N Q, xa_N C, aL) := by
  unfold wpX_lowest
  refine xw_matchAll hn hO lt hk (fun fb' KU' KD' UP' DN' Q' C' k mx => ?_) UP DN Q C
  have ok := mt_ok hn mx.1
  have hp : ∀ v, v < n → ∀ w, UP' v = some w → w < n := fun v hv w e => by
    exact (mx.1.1 v w hv e).1
  have i0 := cc_mk_lt (fun v => (DN' v).isNone) n
  have z0 : 0 < 2 ^ n := Nat.two_pow_pos n
  have L52 : ∀ (J41 : Int32 → Int32 → Int32 → Prop) (r : Nat) (s : Nat × Nat), s.1 < 2 ^ n → s.2 < 2 ^ n → J41 (nI (ex_r U UP' n s).1) (nI (ex_r U UP' n s).2) (nI (r + 1)) → ∀ d v, v + d = n →
      wX_lowest_52 post J41 (nI r) (nI n) fb' (xa_N U) (xa_N O) (xa_P KU') (xa_P KD') (xa_P UP') (xa_P DN') (xa_N Q') (xa_N C') aL (d + 1) (nI (ex_r U UP' v s).1) (nI (ex_r U UP' v s).2) (nI v) := by
    intro J41 r s h1 h2 hJ d
    induction d with
    | zero => exact fun v e => pk_le n v (fun _ => nm_r (nI_1 r) (by rw [show v = n by omega]; exact hJ)) (fun z => by omega)
    | succ d ih =>
      intro v e
      have hv : v < n := by omega
      have b : v < 2 ^ 31 := by omega
      have ih' := ih (v + 1) (by omega)
      obtain ⟨l1, l2⟩ := ex_r_lt hE hp h1 h2 (show v ≤ n by omega)
      obtain ⟨_, l3⟩ := ex_r_lt hE hp h1 h2 (show v + 1 ≤ n by omega)
      have K80 : ∀ A B, B < 2 ^ n → (ex_r U UP' (v + 1) s).1 = ex_A UP' v A B → (ex_r U UP' (v + 1) s).2 = B →
          wX_lowest_80 post J41 (wX_lowest_52 post J41 (nI r) (nI n) fb' (xa_N U) (xa_N O) (xa_P KU') (xa_P KD') (xa_P UP') (xa_P DN') (xa_N Q') (xa_N C') aL (d + 1)) (nI A) (nI B) (nI r) (nI v) (nI n) fb' (xa_N U) (xa_N O) (xa_P KU') (xa_P KD') (xa_P UP') (xa_P DN') (xa_N Q') (xa_N C') aL := by
        intro A B lB e1 e2
        rw [e1, e2] at ih'
        unfold ex_A at ih'
        refine xe_b0 rfl rfl (xa_31 hn lB) (by omega) (fun z => nm_r (nI_1 v) ?_) (fun z => ⟨xa_i (by omega), xe_neg (xa_rP b) (ok v hv).1 (fun y => nm_r (nI_1 v) ?_) (fun w y => ⟨xa_i (by omega), nm_r (e' := nI (A ||| 2 ^ w)) ?_ (nm_r (nI_1 v) ?_)⟩)⟩)
        · rw [if_neg (by rw [z]; exact Bool.false_ne_true)] at ih'; exact ih'
        · rw [if_pos z, y] at ih'; exact ih'
        · have hw := hp v hv w y
          rw [xa_rP b, y]
          show nI A ||| (1 : Int32) <<< (nI w &&& 31) = _
          rw [xb_shl (by omega), xb_or]
        · rw [if_pos z, y] at ih'; exact ih'
      refine pk_le n v (fun z => by omega) (fun _ => xe_b0 rfl rfl (xa_31 hn l1) (by omega) (fun z => ?_) (fun z => ⟨xa_i (by omega), nm_r (e' := nI ((ex_r U UP' v s).2 ||| U v)) (by rw [xa_rN b, xb_or]) ?_⟩))
      · have eB : ex_B U v (ex_r U UP' v s).1 (ex_r U UP' v s).2 = (ex_r U UP' v s).2 := if_neg (by rw [z]; exact Bool.false_ne_true)
        exact K80 _ _ l2 (by show ex_A UP' v _ (ex_B U v _ _) = _; rw [eB]) eB
      · have eB : ex_B U v (ex_r U UP' v s).1 (ex_r U UP' v s).2 = (ex_r U UP' v s).2 ||| U v := if_pos z
        exact K80 _ _ (Nat.or_lt_two_pow l2 (hE v hv)) (by show ex_A UP' v _ (ex_B U v _ _) = _; rw [eB]) eB
  have L41 : ∀ d j, j + d = n + 1 → wX_lowest_41 post (nI n) fb' (xa_N U) (xa_N O) (xa_P KU') (xa_P KD') (xa_P UP') (xa_P DN') (xa_N Q') (xa_N C') aL (d + 1) (nI (ex_it U UP' n j (cc_mk (fun v => (DN' v).isNone) n, 0)).1) (nI (ex_it U UP' n j (cc_mk (fun v => (DN' v).isNone) n, 0)).2) (nI j) := by
    intro d
    induction d with
    | zero =>
      intro j e
      rw [show j = n + 1 by omega]
      refine pk_lt n (n + 1) (fun _ => ?_) (fun z => by omega)
      rw [xb_an]
      exact h fb' KU' KD' UP' DN' Q' C' _ _ k mx rfl
    | succ d ih =>
      intro j e
      obtain ⟨l1, l2⟩ := ex_it_lt hE hp (s := (cc_mk (fun v => (DN' v).isNone) n, 0)) i0 z0 j
      exact pk_lt n j (fun z => by omega) (fun _ => ⟨n + 1, L52 _ j _ l1 l2 (ih (j + 1) (by omega)) n 0 (by omega)⟩)
  have L8 : ∀ d v, v + d = n → wX_lowest_8 post (nI n) fb' (xa_N U) (xa_N O) (xa_P KU') (xa_P KD') (xa_P UP') (xa_P DN') (xa_N Q') (xa_N C') aL (d + 1) (nI (cc_mk (fun v => (DN' v).isNone) v)) (nI v) := by
    intro d
    induction d with
    | zero => exact fun v e => pk_le n v (fun _ => ⟨n + 2, by rw [show v = n by omega]; exact L41 (n + 1) 0 (by omega)⟩) (fun z => by omega)
    | succ d ih =>
      intro v e
      have b : v < 2 ^ 31 := by omega
      have ih' := ih (v + 1) (by omega)
      have eS : cc_mk (fun v => (DN' v).isNone) (v + 1) = cc_mk (fun v => (DN' v).isNone) v ||| (if (DN' v).isNone = true then 2 ^ v else 0) := rfl
      rw [eS] at ih'
      refine pk_le n v (fun z => by omega) (fun _ => ⟨xa_i (by omega), xe_pos (xa_rP b) (ok v (by omega)).2 (fun w y => nm_r (nI_1 v) ?_) (fun y => nm_r (e' := nI (cc_mk (fun v => (DN' v).isNone) v ||| 2 ^ v)) (by rw [xb_shl (by omega), xb_or]) (nm_r (nI_1 v) ?_))⟩)
      · rw [y, if_neg (show ¬ (some w).isNone = true from Bool.false_ne_true), Nat.or_zero] at ih'; exact ih'
      · rw [y, if_pos (show (none : Option Nat).isNone = true from rfl)] at ih'; exact ih'
  exact ⟨n + 1, L8 n 0 (by omega)⟩
theorem xw_highest {post : Int32 → SX → Prop} {n : Nat} (hn : n ≤ 10) {R : Nat → Nat → Bool} {U O : Nat → Nat} (hO : ∀ u, u < n → ∀ v, (O u).testBit v = true ↔ v < n ∧ R u v = true) (lt : ∀ a b, b < n → R a b = true → a < b) (hE : ∀ v, v < n → O v < 2 ^ n) {fb : Int32} {KU KD : Nat → Option Nat} (hk : kc_ok n R fb KU KD)
    (h : ∀ fb' KU' KD' UP' DN' Q' C' A B, kc_ok n R fb' KU' KD' → mt_max n R (fun _ => true) UP' DN' → (A, B) = ex_it O DN' n (n + 1) (cc_mk (fun v => (UP' v).isNone) n, 0) → post (nI (cc_an A B)) (nI n, fb', xa_N U, xa_N O, xa_P KU', xa_P KD', xa_P UP', xa_P DN', xa_N Q', xa_N C', aL)) (UP DN : Nat → Option Nat) (Q C : Nat → Nat) :
    wpX_highest post (nI n, fb, xa_N U, xa_N O, xa_P KU, xa_P KD, xa_P UP, xa_P DN, xa_N Q, xa_N C, aL) := by
  unfold wpX_highest
  refine xw_matchAll hn hO lt hk (fun fb' KU' KD' UP' DN' Q' C' k mx => ?_) UP DN Q C
  have ok := mt_ok hn mx.1
  have hp : ∀ v, v < n → ∀ w, DN' v = some w → w < n := fun v hv w e => by
    exact (mx.1.2 v w hv e).1
  have i0 := cc_mk_lt (fun v => (UP' v).isNone) n
  have z0 : 0 < 2 ^ n := Nat.two_pow_pos n
  have L52 : ∀ (J41 : Int32 → Int32 → Int32 → Prop) (r : Nat) (s : Nat × Nat), s.1 < 2 ^ n → s.2 < 2 ^ n → J41 (nI (ex_r O DN' n s).1) (nI (ex_r O DN' n s).2) (nI (r + 1)) → ∀ d v, v + d = n →
      wX_highest_52 post J41 (nI r) (nI n) fb' (xa_N U) (xa_N O) (xa_P KU') (xa_P KD') (xa_P UP') (xa_P DN') (xa_N Q') (xa_N C') aL (d + 1) (nI (ex_r O DN' v s).1) (nI (ex_r O DN' v s).2) (nI v) := by
    intro J41 r s h1 h2 hJ d
    induction d with
    | zero => exact fun v e => pk_le n v (fun _ => nm_r (nI_1 r) (by rw [show v = n by omega]; exact hJ)) (fun z => by omega)
    | succ d ih =>
      intro v e
      have hv : v < n := by omega
      have b : v < 2 ^ 31 := by omega
      have ih' := ih (v + 1) (by omega)
      obtain ⟨l1, l2⟩ := ex_r_lt hE hp h1 h2 (show v ≤ n by omega)
      obtain ⟨_, l3⟩ := ex_r_lt hE hp h1 h2 (show v + 1 ≤ n by omega)
      have K80 : ∀ A B, B < 2 ^ n → (ex_r O DN' (v + 1) s).1 = ex_A DN' v A B → (ex_r O DN' (v + 1) s).2 = B →
          wX_highest_80 post J41 (wX_highest_52 post J41 (nI r) (nI n) fb' (xa_N U) (xa_N O) (xa_P KU') (xa_P KD') (xa_P UP') (xa_P DN') (xa_N Q') (xa_N C') aL (d + 1)) (nI A) (nI B) (nI r) (nI v) (nI n) fb' (xa_N U) (xa_N O) (xa_P KU') (xa_P KD') (xa_P UP') (xa_P DN') (xa_N Q') (xa_N C') aL := by
        intro A B lB e1 e2
        rw [e1, e2] at ih'
        unfold ex_A at ih'
        refine xe_b0 rfl rfl (xa_31 hn lB) (by omega) (fun z => nm_r (nI_1 v) ?_) (fun z => ⟨xa_i (by omega), xe_neg (xa_rP b) (ok v hv).2 (fun y => nm_r (nI_1 v) ?_) (fun w y => ⟨xa_i (by omega), nm_r (e' := nI (A ||| 2 ^ w)) ?_ (nm_r (nI_1 v) ?_)⟩)⟩)
        · rw [if_neg (by rw [z]; exact Bool.false_ne_true)] at ih'; exact ih'
        · rw [if_pos z, y] at ih'; exact ih'
        · have hw := hp v hv w y
          rw [xa_rP b, y]
          show nI A ||| (1 : Int32) <<< (nI w &&& 31) = _
          rw [xb_shl (by omega), xb_or]
        · rw [if_pos z, y] at ih'; exact ih'
      refine pk_le n v (fun z => by omega) (fun _ => xe_b0 rfl rfl (xa_31 hn l1) (by omega) (fun z => ?_) (fun z => ⟨xa_i (by omega), nm_r (e' := nI ((ex_r O DN' v s).2 ||| O v)) (by rw [xa_rN b, xb_or]) ?_⟩))
      · have eB : ex_B O v (ex_r O DN' v s).1 (ex_r O DN' v s).2 = (ex_r O DN' v s).2 := if_neg (by rw [z]; exact Bool.false_ne_true)
        exact K80 _ _ l2 (by show ex_A DN' v _ (ex_B O v _ _) = _; rw [eB]) eB
      · have eB : ex_B O v (ex_r O DN' v s).1 (ex_r O DN' v s).2 = (ex_r O DN' v s).2 ||| O v := if_pos z
        exact K80 _ _ (Nat.or_lt_two_pow l2 (hE v hv)) (by show ex_A DN' v _ (ex_B O v _ _) = _; rw [eB]) eB
  have L41 : ∀ d j, j + d = n + 1 → wX_highest_41 post (nI n) fb' (xa_N U) (xa_N O) (xa_P KU') (xa_P KD') (xa_P UP') (xa_P DN') (xa_N Q') (xa_N C') aL (d + 1) (nI (ex_it O DN' n j (cc_mk (fun v => (UP' v).isNone) n, 0)).1) (nI (ex_it O DN' n j (cc_mk (fun v => (UP' v).isNone) n, 0)).2) (nI j) := by
    intro d
    induction d with
    | zero =>
      intro j e
      rw [show j = n + 1 by omega]
      refine pk_lt n (n + 1) (fun _ => ?_) (fun z => by omega)
      rw [xb_an]
      exact h fb' KU' KD' UP' DN' Q' C' _ _ k mx rfl
    | succ d ih =>
      intro j e
      obtain ⟨l1, l2⟩ := ex_it_lt hE hp (s := (cc_mk (fun v => (UP' v).isNone) n, 0)) i0 z0 j
      exact pk_lt n j (fun z => by omega) (fun _ => ⟨n + 1, L52 _ j _ l1 l2 (ih (j + 1) (by omega)) n 0 (by omega)⟩)
  have L8 : ∀ d v, v + d = n → wX_highest_8 post (nI n) fb' (xa_N U) (xa_N O) (xa_P KU') (xa_P KD') (xa_P UP') (xa_P DN') (xa_N Q') (xa_N C') aL (d + 1) (nI (cc_mk (fun v => (UP' v).isNone) v)) (nI v) := by
    intro d
    induction d with
    | zero => exact fun v e => pk_le n v (fun _ => ⟨n + 2, by rw [show v = n by omega]; exact L41 (n + 1) 0 (by omega)⟩) (fun z => by omega)
    | succ d ih =>
      intro v e
      have b : v < 2 ^ 31 := by omega
      have ih' := ih (v + 1) (by omega)
      have eS : cc_mk (fun v => (UP' v).isNone) (v + 1) = cc_mk (fun v => (UP' v).isNone) v ||| (if (UP' v).isNone = true then 2 ^ v else 0) := rfl
      rw [eS] at ih'
      refine pk_le n v (fun z => by omega) (fun _ => ⟨xa_i (by omega), xe_pos (xa_rP b) (ok v (by omega)).1 (fun w y => nm_r (nI_1 v) ?_) (fun y => nm_r (e' := nI (cc_mk (fun v => (UP' v).isNone) v ||| 2 ^ v)) (by rw [xb_shl (by omega), xb_or]) (nm_r (nI_1 v) ?_))⟩)
      · rw [y, if_neg (show ¬ (some w).isNone = true from Bool.false_ne_true), Nat.or_zero] at ih'; exact ih'
      · rw [y, if_pos (show (none : Option Nat).isNone = true from rfl)] at ih'; exact ih'
  exact ⟨n + 1, L8 n 0 (by omega)⟩
end
end
section
/-! isLargest and inSomeLargest -/
theorem is_pure {n : Nat} {R : Nat → Nat → Bool} {v : Nat} (hv : v < n) (rv : R v v = false) {S : Nat → Bool} (hS : ∀ x, x < n → (S x = true ↔ R x v = false ∧ R v x = false ∧ x ≠ v)) {b most : Nat} (w1 : wd_is n R S b) (w2 : wd_is n R (fun _ => true) most) :
    b + 1 = most ↔ ∃ m, m < 2 ^ n ∧ fl_big n R most m ∧ m.testBit v = true := by
  obtain ⟨⟨A, a1, a2, a3⟩, a4⟩ := w1
  have av : A v = false := by
    cases q : A v
    · rfl
    · exact absurd rfl ((hS v hv).mp (a2 v hv q)).2.2
  have an : mt_anti n R (fun x => A x || x == v) := by
    intro x y hx hy cx cy
    rw [Bool.or_eq_true] at cx cy
    rcases cx with cx | cx
    · rcases cy with cy | cy
      · exact a1 x y hx hy cx cy
      · rw [eq_of_beq cy]; exact ((hS x hx).mp (a2 x hx cx)).1
    · rcases cy with cy | cy
      · rw [eq_of_beq cx]; exact ((hS y hy).mp (a2 y hy cy)).2.1
      · rw [eq_of_beq cx, eq_of_beq cy]; exact rv
  have c1 := cc_n_add1 hv av
  have le := w2.2 _ an (fun _ _ _ => rfl)
  constructor
  · intro e
    have eb : ∀ x, x < n → (cc_mk (fun x => A x || x == v) n).testBit x = (A x || x == v) := fun x hx => mk_bit hx
    refine ⟨cc_mk (fun x => A x || x == v) n, cc_mk_lt _ n, ⟨fun x y hx hy cx cy => an x y hx hy ((eb x hx).symm.trans cx) ((eb y hy).symm.trans cy), ?_⟩, ?_⟩
    · rw [cc_n_eq eb]; omega
    · rw [eb v hv, beq_self_eq_true, Bool.or_true]
  · intro ⟨m, hm, ⟨m1, m2⟩, mv⟩
    have g := a4 (fun x => m.testBit x && !(x == v)) (fun x y hx hy cx cy => by
      rw [Bool.and_eq_true] at cx cy
      exact m1 x y hx hy cx.1 cy.1) (fun x hx cx => by
      rw [Bool.and_eq_true, Bool.not_eq_true'] at cx
      exact (hS x hx).mpr ⟨m1 x v hx hv cx.1 mv, m1 v x hv hx mv cx.1, fun c => by rw [c, beq_self_eq_true] at cx; exact absurd cx.2.symm Bool.false_ne_true⟩)
    have k := cc_n_add1 (p := fun x => m.testBit x && !(x == v)) hv (by rw [beq_self_eq_true, Bool.not_true, Bool.and_false])
    have e : cc_n (fun x => (m.testBit x && !(x == v)) || x == v) n = cc_n (fun x => m.testBit x) n := cc_n_eq (fun x hx => by
      by_cases z : x = v
      · rw [z, beq_self_eq_true, mv]; rfl
      · rw [beq_false_of_ne z, Bool.not_false, Bool.and_true, Bool.or_false])
    omega
section
variable {fb : Int32} {aU aO aKU aKD aUP aDN aQ aC aL : Nat → Int32}
theorem xw_elem {post : Int32 → Prop} {n : Nat} (hn : n ≤ 10) (p : Int32) (h1 : ∀ v, v < n → p = nI v → post 1) (h0 : (¬ ∃ v, v < n ∧ p = nI v) → post 0) : wpX_isElement post (nI n, fb, aU, aO, aKU, aKD, aUP, aDN, aQ, aC, aL) p := by
  refine br_c (fun z => h0 (fun ⟨m, a, b⟩ => ?_)) (fun z => ?_)
  · rw [b] at z; exact nI_pos (by omega) z
  · obtain ⟨j, hj, e⟩ := nI_of z
    refine pk_le n j (fun y => h0 (fun ⟨m, a, b⟩ => ?_)) (fun y => h1 j y e) rfl e (by omega) hj
    rw [b] at e
    have := (nI_eq (by omega) hj).mp e
    omega
end
section
variable {aL : Nat → Int32}
theorem xw_isLargest {post : Int32 → SX → Prop} {n : Nat} {U O : Nat → Nat} (hp : po_P n U) (hO : ∀ u, u < n → ∀ v, (O u).testBit v = true ↔ v < n ∧ po_R U u v = true) {fb : Int32} {KU KD : Nat → Option Nat} (hk : kc_ok n (po_R U) fb KU KD) {S : Nat} (hS : S < 2 ^ n)
    (h : ∀ fb' KU' KD' UP' DN' Q' C' r, kc_ok n (po_R U) fb' KU' KD' → (r = 1 ∧ (mt_anti n (po_R U) (fun x => S.testBit x) ∧ wd_is n (po_R U) (fun _ => true) (cc_n (fun x => S.testBit x) n))) ∨ (r = 0 ∧ ¬ (mt_anti n (po_R U) (fun x => S.testBit x) ∧ wd_is n (po_R U) (fun _ => true) (cc_n (fun x => S.testBit x) n))) →
      post r (nI n, fb', xa_N U, xa_N O, xa_P KU', xa_P KD', xa_P UP', xa_P DN', xa_N Q', xa_N C', aL)) (UP DN : Nat → Option Nat) (Q C : Nat → Nat) :
    wpX_isLargest post (nI n, fb, xa_N U, xa_N O, xa_P KU, xa_P KD, xa_P UP, xa_P DN, xa_N Q, xa_N C, aL) (nI S) := by
  have hn := hp.1
  have s31 := xa_31 hn hS
  have e10 : cc_n (fun x => S.testBit x) 10 = cc_n (fun x => S.testBit x) n := cc_n_wide hn (fun i hi => cc_hi hS hi)
  have L : ∀ d v, v + d = n → (∀ x, x < v → S.testBit x = true → U x &&& S = 0) → wX_isLargest_12 post (nI S) (nI n) fb (xa_N U) (xa_N O) (xa_P KU) (xa_P KD) (xa_P UP) (xa_P DN) (xa_N Q) (xa_N C) aL (d + 1) (nI v) := by
    intro d
    induction d with
    | zero =>
      intro v e i
      refine pk_le n v (fun _ => xw_bits s31 ?_) (fun z => by omega)
      rw [xb_all hn]
      refine xw_width hn hO (po_lt hp) hk (mt_all_lt n) (fun fb' KU' KD' UP' DN' Q' C' k mx => ?_) UP DN Q C
      have an : mt_anti n (po_R U) (fun x => S.testBit x) := fun a b ha hb sa sb => by
        have z := i b (by omega) sb
        cases q : (U b).testBit a
        · exact q
        · have t : (U b &&& S).testBit a = true := by rw [Nat.testBit_and, q, Bool.true_and]; exact sa
          rw [z, Nat.zero_testBit] at t
          exact absurd t Bool.false_ne_true
      have wd : wd_is n (po_R U) (fun _ => true) (cc_n (fun x => (2 ^ n - 1).testBit x) n - mt_sz n UP') := wd_congr (fun x hx => mt_all hx) (wd_max mx (po_tr hp))
      have k1 := cc_n_bound (fun x => S.testBit x) n
      have k2 := cc_n_bound (fun x => (2 ^ n - 1).testBit x) n
      rw [e10]
      refine pk_eq _ _ (fun y => h fb' KU' KD' UP' DN' Q' C' 1 k (Or.inl ⟨rfl, an, by rw [y]; exact wd⟩)) (fun y => h fb' KU' KD' UP' DN' Q' C' 0 k (Or.inr ⟨rfl, fun z => y (wd_uniq z.2 wd)⟩)) rfl rfl (by omega) (by omega)
    | succ d ih =>
      intro v e i
      have hv : v < n := by omega
      have E : xa_N U (nI v).toNatClampNeg &&& nI S = nI (U v &&& S) := by rw [xa_rN (by omega), nx_and]
      have nx : (S.testBit v = true → U v &&& S = 0) → wX_isLargest_12 post (nI S) (nI n) fb (xa_N U) (xa_N O) (xa_P KU) (xa_P KD) (xa_P UP) (xa_P DN) (xa_N Q) (xa_N C) aL (d + 1) (nI (v + 1)) := fun c => ih (v + 1) (by omega) (fun x hx => by
        rcases Nat.lt_or_ge x v with q | q
        · exact i x q
        · rw [show x = v by omega]; exact c)
      refine pk_le n v (fun z => by omega) (fun _ => xe_b0 rfl rfl s31 (by omega) (fun z => nm_r (nI_1 v) (nx (fun c => by rw [z] at c; exact absurd c Bool.false_ne_true))) (fun z => ⟨xa_i (by omega), xe_z E (xa_31 hn (Nat.and_lt_two_pow _ hS)) (fun y => nm_r (nI_1 v) (nx (fun _ => y))) (fun y => h fb KU KD UP DN Q C 0 hk (Or.inr ⟨rfl, fun c => ?_⟩))⟩))
      obtain ⟨w, hw⟩ := Nat.exists_testBit_of_ne_zero y
      rw [Nat.testBit_and, Bool.and_eq_true] at hw
      have := c.1 w v (cc_in hS hw.2) hv hw.2 z
      have this : (U v).testBit w = false := this
      rw [hw.1] at this
      exact absurd this.symm Bool.false_ne_true
  unfold wpX_isLargest
  refine xw_isSet hn (nI S) (fun m' _ _ => br_f (by decide) ⟨n + 1, L n 0 (by omega) (fun x hx => by omega)⟩) (fun z => absurd ⟨S, hS, rfl⟩ z)
theorem yw_isLargest {post : Int32 → Prop} {n : Nat} {U : Nat → Nat} (hp : po_P n U) {aLe : Nat → Int32} {S : Nat} (hS : S < 2 ^ n)
    (h1 : (mt_anti n (po_R U) (fun x => S.testBit x) ∧ wd_is n (po_R U) (fun _ => true) (cc_n (fun x => S.testBit x) n)) → post 1) (h0 : (¬ (mt_anti n (po_R U) (fun x => S.testBit x) ∧ wd_is n (po_R U) (fun _ => true) (cc_n (fun x => S.testBit x) n))) → post 0) :
    wpY_isLargest post (nI n, xa_N U, aLe) (nI S) := by
  have hn := hp.1
  have s31 := xa_31 hn hS
  have e10 : cc_n (fun x => S.testBit x) 10 = cc_n (fun x => S.testBit x) n := cc_n_wide hn (fun i hi => cc_hi hS hi)
  unfold wpY_isLargest
  refine yw_isSet hn (nI S) (fun m' _ _ => br_f (by decide) ?_) (fun z => absurd ⟨S, hS, rfl⟩ z)
  refine yw_uniform hn (po_31 hp) s31 false (fun y => br_f (by decide) (yw_size s31 ?_)) (fun y => br_t rfl (h0 (fun c => y ((un_anti hp S).mpr c.1))))
  have an := (un_anti hp S).mp y
  rw [xb_all hn, e10]
  refine yw_width hp (mt_all_lt n) (fun b wd => ?_)
  have wd : wd_is n (po_R U) (fun _ => true) b := wd_congr (fun x hx => mt_all hx) wd
  have k1 := cc_n_bound (fun x => S.testBit x) n
  have k2 : b ≤ n := by
    obtain ⟨⟨A, _, _, e⟩, _⟩ := wd
    have := cc_n_bound A n
    omega
  exact pk_eq _ b (fun y => h1 ⟨an, by rw [y]; exact wd⟩) (fun y => h0 (fun z => y (wd_uniq z.2 wd))) rfl rfl (by omega) (by omega)
theorem xw_inSome {post : Int32 → SX → Prop} {n : Nat} {U O : Nat → Nat} (hp : po_P n U) (hO : ∀ u, u < n → ∀ v, (O u).testBit v = true ↔ v < n ∧ po_R U u v = true) {fb : Int32} {KU KD : Nat → Option Nat} (hk : kc_ok n (po_R U) fb KU KD) {v : Nat} (hv : v < n)
    (h : ∀ fb' KU' KD' UP' DN' Q' C' r most, kc_ok n (po_R U) fb' KU' KD' → wd_is n (po_R U) (fun _ => true) most → (r = 1 ∧ (∃ m, m < 2 ^ n ∧ fl_big n (po_R U) most m ∧ m.testBit v = true)) ∨ (r = 0 ∧ ¬ (∃ m, m < 2 ^ n ∧ fl_big n (po_R U) most m ∧ m.testBit v = true)) →
      post r (nI n, fb', xa_N U, xa_N O, xa_P KU', xa_P KD', xa_P UP', xa_P DN', xa_N Q', xa_N C', aL)) (UP DN : Nat → Option Nat) (Q C : Nat → Nat) :
    wpX_inSomeLargest post (nI n, fb, xa_N U, xa_N O, xa_P KU, xa_P KD, xa_P UP, xa_P DN, xa_N Q, xa_N C, aL) (nI v) := by
  have hn := hp.1
  have b : v < 2 ^ 31 := by omega
  have la : 2 ^ n - 1 < 2 ^ n := mt_all_lt n
  have E : nI (2 ^ n - 1) &&& (((xa_N U (nI v).toNatClampNeg ||| xa_N O (nI v).toNatClampNeg) ||| (1 : Int32) <<< (nI v &&& 31)) ^^^ (-1)) = nI (cc_an (2 ^ n - 1) (U v ||| O v ||| 2 ^ v)) := by
    rw [xa_rN b, xa_rN b, xb_shl (by omega), xb_or, xb_or, xb_an]
  have lS : cc_an (2 ^ n - 1) (U v ||| O v ||| 2 ^ v) < 2 ^ n := Nat.lt_of_le_of_lt (cc_an_le _ _) la
  have bitS : ∀ x, x < n → ((cc_an (2 ^ n - 1) (U v ||| O v ||| 2 ^ v)).testBit x = true ↔ po_R U x v = false ∧ po_R U v x = false ∧ x ≠ v) := by
    intro x hx
    rw [cc_an_bit _ (Nat.lt_of_lt_of_le (xa_31 hn la) (by decide)), mt_all hx, Nat.testBit_or, Nat.testBit_or, cc_bit1, Bool.true_and, Bool.not_eq_true', Bool.or_eq_false_iff, Bool.or_eq_false_iff]
    have o : (O v).testBit x = po_R U v x := by
      have := hO v hv x
      cases q : (O v).testBit x
      · cases r : po_R U v x
        · rfl
        · rw [q, r] at this; exact absurd (this.mpr ⟨hx, rfl⟩) Bool.false_ne_true
      · rw [q] at this; exact (this.mp rfl).2.symm
    rw [o]
    constructor
    · intro ⟨⟨a, c⟩, d⟩
      exact ⟨a, c, fun e => by rw [e, beq_self_eq_true] at d; exact absurd d.symm Bool.false_ne_true⟩
    · intro ⟨a, c, d⟩
      exact ⟨⟨a, c⟩, beq_false_of_ne d⟩
  unfold wpX_inSomeLargest
  refine xw_elem hn (nI v) (fun v' _ _ => br_f (by decide) (nm_r (xb_all hn) ⟨xa_i (by omega), xa_i (by omega), nm_r E ?_⟩)) (fun z => absurd ⟨v, hv, rfl⟩ z)
  refine xw_width hn hO (po_lt hp) hk lS (fun fb1 KU1 KD1 UP1 DN1 Q1 C1 k1 mx1 => ?_) UP DN Q C
  refine xw_width hn hO (po_lt hp) k1 la (fun fb2 KU2 KD2 UP2 DN2 Q2 C2 k2 mx2 => ?_) UP1 DN1 Q1 C1
  have w1 := wd_max mx1 (po_tr hp)
  have w2 : wd_is n (po_R U) (fun _ => true) (cc_n (fun x => (2 ^ n - 1).testBit x) n - mt_sz n UP2) := wd_congr (fun x hx => mt_all hx) (wd_max mx2 (po_tr hp))
  have rv : po_R U v v = false := cc_hi (hp.2.1 v hv) (Nat.le_refl v)
  have eq := is_pure hv rv bitS w1 w2
  have c1 := cc_n_bound (fun x => (cc_an (2 ^ n - 1) (U v ||| O v ||| 2 ^ v)).testBit x) n
  have c2 := cc_n_bound (fun x => (2 ^ n - 1).testBit x) n
  exact pk_eq _ _ (fun y => h fb2 KU2 KD2 UP2 DN2 Q2 C2 1 _ k2 w2 (Or.inl ⟨rfl, eq.mp y⟩)) (fun y => h fb2 KU2 KD2 UP2 DN2 Q2 C2 0 _ k2 w2 (Or.inr ⟨rfl, fun z => y (eq.mpr z)⟩)) (nI_1 _) rfl (by omega) (by omega)
end
end
section
/-! add and removeLast -/
def ad_all (p : Nat) (U : Nat → Nat) : Nat → Nat
  | 0 => p
  | k + 1 => if p.testBit k = true then ad_all p U k ||| U k else ad_all p U k
theorem ad_bit (p : Nat) (U : Nat → Nat) (x : Nat) : ∀ k, (ad_all p U k).testBit x = true ↔ p.testBit x = true ∨ ∃ u, u < k ∧ p.testBit u = true ∧ (U u).testBit x = true
  | 0 => ⟨Or.inl, fun z => z.elim id (fun ⟨u, h, _⟩ => absurd h (Nat.not_lt_zero u))⟩
  | k + 1 => by
    have ih := ad_bit p U x k
    unfold ad_all
    split
    · next h =>
      rw [Nat.testBit_or, Bool.or_eq_true, ih]
      constructor
      · rintro ((z | ⟨u, a, b, c⟩) | z)
        · exact Or.inl z
        · exact Or.inr ⟨u, by omega, b, c⟩
        · exact Or.inr ⟨k, by omega, h, z⟩
      · rintro (z | ⟨u, a, b, c⟩)
        · exact Or.inl (Or.inl z)
        · rcases Nat.lt_or_ge u k with q | q
          · exact Or.inl (Or.inr ⟨u, q, b, c⟩)
          · rw [show u = k by omega] at c; exact Or.inr c
    · next h =>
      rw [ih]
      constructor
      · rintro (z | ⟨u, a, b, c⟩)
        · exact Or.inl z
        · exact Or.inr ⟨u, by omega, b, c⟩
      · rintro (z | ⟨u, a, b, c⟩)
        · exact Or.inl z
        · rcases Nat.lt_or_ge u k with q | q
          · exact Or.inr ⟨u, q, b, c⟩
          · rw [show u = k by omega] at b; exact absurd b h
theorem ad_lt {p n : Nat} {U : Nat → Nat} (hp : p < 2 ^ n) (hU : ∀ v, v < n → U v < 2 ^ n) : ∀ k, k ≤ n → ad_all p U k < 2 ^ n
  | 0, _ => hp
  | k + 1, h => by
    have ih := ad_lt hp hU k (by omega)
    unfold ad_all
    split
    · exact Nat.or_lt_two_pow ih (hU k (by omega))
    · exact ih
theorem ad_po {n p : Nat} {U : Nat → Nat} (h : po_P n U) (hn : n < 10) (hp : p < 2 ^ n) : po_P (n + 1) (xa_u U n (ad_all p U n)) := by
  have la := ad_lt hp (po_n h) n (Nat.le_refl n)
  refine ⟨by omega, fun v hv => ?_, fun v hv u uv w wu => ?_⟩
  · by_cases z : v = n
    · rw [z, xa_us]; exact la
    · rw [xa_un z]; exact h.2.1 v (by omega)
  · by_cases z : v = n
    · rw [z, xa_us] at uv ⊢
      have hu := cc_in la uv
      rw [xa_un (by omega)] at wu
      apply (ad_bit p U w n).mpr
      rcases (ad_bit p U u n).mp uv with q | ⟨t, ht, pt, q⟩
      · exact Or.inr ⟨u, hu, q, wu⟩
      · exact Or.inr ⟨t, ht, pt, h.2.2 t ht u q w wu⟩
    · rw [xa_un z] at uv ⊢
      have := cc_in (h.2.1 v (by omega)) uv
      rw [xa_un (by omega)] at wu
      exact h.2.2 v (by omega) u uv w wu
def po_O (n : Nat) (U O : Nat → Nat) : Prop := ∀ u, u < n → ∀ v, (O u).testBit v = true ↔ v < n ∧ po_R U u v = true
theorem ad_O {n p : Nat} {U O O' : Nat → Nat} (h : po_P n U) (hp : p < 2 ^ n) (hO : po_O n U O) (h1 : ∀ x, x < n → O' x = if (ad_all p U n).testBit x = true then O x ||| 2 ^ n else O x) (h2 : O' n = 0) : po_O (n + 1) (xa_u U n (ad_all p U n)) O' := by
  have la := ad_lt hp (po_n h) n (Nat.le_refl n)
  intro u hu v
  show _ ↔ v < n + 1 ∧ (xa_u U n (ad_all p U n) v).testBit u = true
  by_cases z : u = n
  · rw [z, h2, Nat.zero_testBit]
    refine ⟨fun c => absurd c Bool.false_ne_true, fun ⟨a, b⟩ => ?_⟩
    by_cases y : v = n
    · rw [y, xa_us] at b
      have := cc_in la b; omega
    · rw [xa_un y] at b
      have := cc_in (h.2.1 v (by omega)) b; omega
  · have b := hO u (by omega) v
    rw [h1 u (by omega)]
    by_cases y : v = n
    · rw [y, xa_us]
      rw [y] at b
      have nb : (O u).testBit n = false := by
        cases q : (O u).testBit n
        · rfl
        · have := (b.mp q).1; omega
      split
      · next c => rw [Nat.testBit_or, cc_bit1, beq_self_eq_true, Bool.or_true]; exact ⟨fun _ => ⟨by omega, c⟩, fun _ => rfl⟩
      · next c => rw [nb]; exact ⟨fun z => absurd z Bool.false_ne_true, fun z => absurd z.2 c⟩
    · rw [xa_un y]
      have e : (if (ad_all p U n).testBit u = true then O u ||| 2 ^ n else O u).testBit v = (O u).testBit v := by
        split
        · rw [Nat.testBit_or, cc_bit1, beq_false_of_ne y, Bool.or_false]
        · rfl
      rw [e, b]
      exact ⟨fun c => ⟨by omega, c.2⟩, fun c => ⟨by omega, c.2⟩⟩
section
variable {fb : Int32} {aU aL : Nat → Int32}
theorem xw_oneMore {post : SX → Prop} {n : Nat} (hn : n + 1 ≤ 10) {R : Nat → Nat → Bool} {O : Nat → Nat} (hO : ∀ u, u < n + 1 → ∀ v, (O u).testBit v = true ↔ v < n + 1 ∧ R u v = true) (lt : ∀ a b, b < n + 1 → R a b = true → a < b) {KU KD : Nat → Option Nat} (mat : mt_Mat (n + 1) R (fun _ => true) KU KD) (kn : KU n = none)
    {CL CR : Nat → Bool} (cov : ∀ a b, a < n → b < n → R a b = true → CL a = true ∨ CR b = true) (cz : cc_n CL n + cc_n CR n ≤ mt_sz n KU)
    (h : ∀ KU' KD' UP' DN' Q' C', mt_max (n + 1) R (fun _ => true) KU' KD' → post (nI (n + 1), fb, aU, xa_N O, xa_P KU', xa_P KD', xa_P UP', xa_P DN', xa_N Q', xa_N C', aL)) (UP DN : Nat → Option Nat) (Q C : Nat → Nat) :
    wpX_matchOneMore post (nI (n + 1), fb, aU, xa_N O, xa_P KU, xa_P KD, xa_P UP, xa_P DN, xa_N Q, xa_N C, aL) := by
  have all : ∀ a, a < n + 1 → (2 ^ (n + 1) - 1).testBit a = true := fun a ha => mt_all ha
  have K51 : ∀ KU KD UP DN Q C, mt_max (n + 1) R (fun _ => true) UP DN → wX_matchOneMore_51 post (nI (n + 1)) fb aU (xa_N O) (xa_P KU) (xa_P KD) (xa_P UP) (xa_P DN) (xa_N Q) (xa_N C) aL := fun KU KD UP DN Q C mx =>
    xw_store hn (mt_ok hn mx.1) (fun KU' KD' e => h KU' KD' UP DN Q C (mt_max_congr mx (fun _ _ _ _ => rfl) (fun _ _ => rfl) (fun a ha => (e a ha).1) (fun a ha => (e a ha).2))) KU KD
  unfold wpX_matchOneMore
  refine xw_load hn (mt_ok hn mat) (fun UP' DN' e => ?_) UP DN
  have m' : mt_Mat (n + 1) R (fun x => (2 ^ (n + 1) - 1).testBit x) UP' DN' := mt_congr mat (fun _ _ _ _ => rfl) (fun a ha => (all a ha).symm) (fun a ha => (e a ha).1) (fun a ha => (e a ha).2)
  have sz : mt_sz (n + 1) UP' = mt_sz n KU := by
    have a : mt_sz (n + 1) UP' = mt_sz (n + 1) KU := cc_n_eq (fun i hi => by rw [(e i hi).1])
    have b : mt_sz (n + 1) KU = mt_sz n KU + (KU n).isSome.toNat := cc_n_succ _ n
    rw [kn] at b
    rw [a, b]; rfl
  have grown : ∀ UP'' DN'' st, st < n + 1 → UP' st = none → mt_Mat (n + 1) R (fun x => (2 ^ (n + 1) - 1).testBit x) UP'' DN'' → (∀ u, u < n + 1 → (UP'' u).isSome = ((UP' u).isSome || u == st)) → mt_max (n + 1) R (fun _ => true) UP'' DN'' := by
    intro UP'' DN'' st hst us m2 e2
    have g := mt_grow_sz hst us e2
    refine ⟨mt_congr m2 (fun _ _ _ _ => rfl) (fun a ha => all a ha) (fun _ _ => rfl) (fun _ _ => rfl), fun _ _ _ => trivial, fun i => CL i && decide (i < n), fun i => (CR i && decide (i < n)) || i == n, ?_, ?_⟩
    · intro a b ha hb _ _ _ r
      have lab := lt a b hb r
      by_cases z : b = n
      · right
        show ((CR b && decide (b < n)) || b == n) = true
        rw [z, beq_self_eq_true, Bool.or_true]
      · rcases cov a b (by omega) (by omega) r with q | q
        · left
          show (CL a && decide (a < n)) = true
          rw [q, decide_eq_true (by omega)]; rfl
        · right
          show ((CR b && decide (b < n)) || b == n) = true
          rw [q, decide_eq_true (by omega)]; rfl
    · have c1 : cc_n (fun i => CL i && decide (i < n)) (n + 1) = cc_n CL n := by
        rw [cc_n_succ, decide_eq_false (Nat.lt_irrefl n), Bool.and_false]
        exact cc_n_eq (fun i hi => by rw [decide_eq_true hi, Bool.and_true])
      have c2 : cc_n (fun i => (CR i && decide (i < n)) || i == n) (n + 1) = cc_n CR n + 1 := by
        rw [cc_n_succ, beq_self_eq_true, Bool.or_true]
        have : cc_n (fun i => (CR i && decide (i < n)) || i == n) n = cc_n CR n := cc_n_eq (fun i hi => by rw [decide_eq_true hi, Bool.and_true, beq_false_of_ne (by omega), Bool.or_false])
        rw [this]; rfl
      omega
  have fin : ∀ KU KD UP DN Q C u f, mt_max (n + 1) R (fun _ => true) UP DN → wX_matchOneMore_17 post (nI (2 ^ (n + 1) - 1)) (f + 1) 1 (nI u) (nI (n + 1)) fb aU (xa_N O) (xa_P KU) (xa_P KD) (xa_P UP) (xa_P DN) (xa_N Q) (xa_N C) aL := fun KU KD UP DN Q C u f mx =>
    br_c (fun _ => K51 KU KD UP DN Q C mx) (fun _ => br_f (by decide) (K51 KU KD UP DN Q C mx))
  have L : ∀ d u Q C, u + d = n + 1 → mt_inc (n + 1) R (fun x => (2 ^ (n + 1) - 1).testBit x) UP' DN' (fun a => UP' a ≠ none ∨ a < u) → wX_matchOneMore_17 post (nI (2 ^ (n + 1) - 1)) (d + 2) 0 (nI u) (nI (n + 1)) fb aU (xa_N O) (xa_P KU) (xa_P KD) (xa_P UP') (xa_P DN') (xa_N Q) (xa_N C) aL := by
    intro d
    induction d with
    | zero =>
      intro u Q C e i
      refine pk_le (n + 1) u (fun _ => K51 KU KD UP' DN' Q C ?_) (fun z => by omega)
      exact mt_max_congr (mt_inc_mono i (fun _ _ _ => trivial) (fun a ha _ _ => Or.inr (by omega))) (fun _ _ _ _ => rfl) (fun a ha => all a ha) (fun _ _ => rfl) (fun _ _ => rfl)
    | succ d ih =>
      intro u Q C e i
      have hu : u < n + 1 := by omega
      refine pk_le (n + 1) u (fun z => by omega) (fun _ => br_t rfl ⟨xa_i (by omega), xe_pos (xa_rP (by omega)) (mt_ok hn m' u hu).1 (fun k y => nm_r (nI_1 u) (ih (u + 1) Q C (by omega) ?_)) (fun y => ?_)⟩)
      · refine mt_inc_mono i (fun a ha y => Or.inl y) (fun a ha sa q => ?_)
        rcases q with q | q
        · exact Or.inl q
        · by_cases z : a = u
          · rw [z, y]; exact Or.inl (Option.some_ne_none k)
          · exact Or.inr (by omega)
      · refine xw_augment hn (mt_all_lt (n + 1)) hO lt m' hu (all u hu) y (fun Q C sn c => nm_r (nI_1 u) (ih (u + 1) Q C (by omega) ?_)) (fun Q C UP'' DN'' m2 e2 => nm_r (nI_1 u) (fin KU KD UP'' DN'' Q C (u + 1) (d + 1) (grown UP'' DN'' u hu y m2 e2)))
        exact mt_inc_mono (mt_fail i c) (fun a ha y => Or.inl y) (fun a ha sa q => by
          rcases q with q | q
          · exact Or.inl (Or.inl q)
          · by_cases z : a = u
            · exact Or.inr z
            · exact Or.inl (Or.inr (by omega)))
  refine nm_r (xb_all hn) ⟨n + 3, L (n + 1) 0 Q C (by omega) ?_⟩
  refine ⟨m', fun u hu y => Or.inl y, fun a => (UP' a).isSome, fun _ => false, fun a b ha hb pa _ _ r => ?_, ?_⟩
  · rcases pa with q | q
    · exact Or.inl (Option.isSome_iff_ne_none.mpr q)
    · omega
  · rw [cc_n_none (p := fun _ => false) (fun _ _ => rfl)]
    exact Nat.le_refl _
end
section
variable {aL : Nat → Int32}
theorem xw_add {post : Int32 → SX → Prop} {n : Nat} {U O : Nat → Nat} (hP : po_P n U) (hn : n < 10) (hO : po_O n U O) {fb : Int32} {KU KD : Nat → Option Nat} (hk : kc_ok n (po_R U) fb KU KD) {p : Nat} (hp : p < 2 ^ n)
    (h : ∀ O' KU' KD' UP' DN' Q' C', po_O (n + 1) (xa_u U n (ad_all p U n)) O' → kc_ok (n + 1) (po_R (xa_u U n (ad_all p U n))) fb KU' KD' → post (nI (n + 1)) (nI (n + 1), fb, xa_N (xa_u U n (ad_all p U n)), xa_N O', xa_P KU', xa_P KD', xa_P UP', xa_P DN', xa_N Q', xa_N C', aL)) (UP DN : Nat → Option Nat) (Q C : Nat → Nat) :
    wpX_add post (nI n, fb, xa_N U, xa_N O, xa_P KU, xa_P KD, xa_P UP, xa_P DN, xa_N Q, xa_N C, aL) (nI p) := by
  have b : n < 2 ^ 31 := by omega
  have p31 := xa_31 (show n ≤ 10 by omega) hp
  have la := ad_lt hp (po_n hP) n (Nat.le_refl n)
  have a31 := xa_31 (show n ≤ 10 by omega) la
  have hP' := ad_po hP hn hp
  have L80 : ∀ d u O', u + d = n → (∀ x, x < u → O' x = if (ad_all p U n).testBit x = true then O x ||| 2 ^ n else O x) → (∀ x, u ≤ x → x < n → O' x = O x) → O' n = 0 →
      wX_add_80 post (nI n) (nI (ad_all p U n)) (nI n) fb (d + 1) (nI u) (xa_N (xa_u U n (ad_all p U n))) (xa_N O') (xa_P KU) (xa_P KD) (xa_P UP) (xa_P DN) (xa_N Q) (xa_N C) aL := by
    intro d
    induction d with
    | zero =>
      intro u O' e i1 i2 i3
      have o := ad_O hP hp hO (fun x hx => i1 x (by omega)) i3
      refine pk_le n u (fun _ => ⟨xa_i hn, nm_r (xa_wP (o := none) b xa_nm1) ⟨xa_i hn, nm_r (xa_wP (o := none) b xa_nm1) (nm_r (nI_1 n) ?_)⟩⟩) (fun z => by omega)
      rcases hk with z | ⟨z, mx⟩
      · exact br_t z (h O' _ _ UP DN Q C o (Or.inl z))
      · refine br_f z ?_
        have eR : ∀ a c, c < n → po_R (xa_u U n (ad_all p U n)) a c = po_R U a c := fun a c hc => by
          unfold po_R; rw [xa_un (by omega)]
        have mat : mt_Mat (n + 1) (po_R (xa_u U n (ad_all p U n))) (fun _ => true) (xa_u KU n none) (xa_u KD n none) := by
          refine ⟨fun a c ha e => ?_, fun c a hc e => ?_⟩
          · by_cases q : a = n
            · rw [q, xa_us] at e; exact absurd e.symm (Option.some_ne_none c)
            · rw [xa_un q] at e
              obtain ⟨y1, y2, _, _, y5⟩ := mx.1.1 a c (by omega) e
              exact ⟨by omega, by rw [eR a c y1]; exact y2, rfl, rfl, by rw [xa_un (by omega)]; exact y5⟩
          · by_cases q : c = n
            · rw [q, xa_us] at e; exact absurd e.symm (Option.some_ne_none a)
            · rw [xa_un q] at e
              obtain ⟨y1, y2⟩ := mx.1.2 c a (by omega) e
              exact ⟨by omega, by rw [xa_un (by omega)]; exact y2⟩
        obtain ⟨_, _, CL, CR, cov, cz⟩ := mx
        have sz : mt_sz n (xa_u KU n none) = mt_sz n KU := cc_n_eq (fun i hi => by rw [xa_un (by omega)])
        refine xw_oneMore (by omega) o (po_lt hP') mat xa_us (CL := CL) (CR := CR) (fun a c ha hc r => cov a c ha hc trivial rfl rfl (by rw [← eR a c hc]; exact r)) (by rw [sz]; exact cz) ?_ UP DN Q C
        exact fun KU' KD' UP' DN' Q' C' mx' => h O' KU' KD' UP' DN' Q' C' o (Or.inr ⟨z, mx'⟩)
    | succ d ih =>
      intro u O' e i1 i2 i3
      have hu : u < n := by omega
      refine pk_le n u (fun z => by omega) (fun _ => xe_b0 rfl rfl a31 (by omega) (fun z => nm_r (nI_1 u) (ih (u + 1) O' (by omega) (fun x hx => ?_) (fun x h1 h2 => i2 x (by omega) h2) i3)) (fun z => ⟨xa_i (by omega), xa_i (by omega), nm_r (xa_wN (v := O u ||| 2 ^ n) (by omega) (by rw [xa_rN (by omega), i2 u (Nat.le_refl u) hu, xb_shl (by omega), xb_or])) (nm_r (nI_1 u) (ih (u + 1) _ (by omega) (fun x hx => ?_) (fun x h1 h2 => ?_) ?_))⟩))
      · by_cases q : x = u
        · rw [q, i2 u (Nat.le_refl u) hu, if_neg (by rw [z]; exact Bool.false_ne_true)]
        · exact i1 x (by omega)
      · by_cases q : x = u
        · rw [q, xa_us, if_pos z]
        · rw [xa_un q]; exact i1 x (by omega)
      · rw [xa_un (by omega)]; exact i2 x (by omega) h2
      · rw [xa_un (by omega)]; exact i3
  have L32 : ∀ d u, u + d = n → wX_add_32 post (nI p) (nI n) (nI n) fb (xa_N U) (xa_N O) (xa_P KU) (xa_P KD) (xa_P UP) (xa_P DN) (xa_N Q) (xa_N C) aL (d + 1) (nI (ad_all p U u)) (nI u) := by
    intro d
    induction d with
    | zero =>
      intro u e
      rw [show u = n by omega]
      exact pk_le n n (fun _ => ⟨xa_i hn, nm_r (xa_wN (v := ad_all p U n) b rfl) ⟨xa_i hn, nm_r (xa_wN (v := 0) b rfl) ⟨n + 1, L80 n 0 (xa_u O n 0) (by omega) (fun x hx => by omega) (fun x _ hx => xa_un (by omega)) xa_us⟩⟩⟩) (fun z => by omega)
    | succ d ih =>
      intro u e
      have ih' := ih (u + 1) (by omega)
      unfold ad_all at ih'
      refine pk_le n u (fun z => by omega) (fun _ => xe_b0 rfl rfl p31 (by omega) (fun z => nm_r (nI_1 u) ?_) (fun z => ⟨xa_i (by omega), nm_r (e' := nI (ad_all p U u ||| U u)) (by rw [xa_rN (by omega), xb_or]) (nm_r (nI_1 u) ?_)⟩))
      · rw [if_neg (by rw [z]; exact Bool.false_ne_true)] at ih'; exact ih'
      · rw [if_pos z] at ih'; exact ih'
  unfold wpX_add
  refine pk_lt n 10 (fun _ => xw_isSet (by omega) (nI p) (fun _ _ _ => br_f (by decide) ⟨n + 1, L32 n 0 (by omega)⟩) (fun z => absurd ⟨p, hp, rfl⟩ z)) (fun z => by omega)
theorem yw_add {post : Int32 → SY → Prop} {n : Nat} {U : Nat → Nat} (hP : po_P n U) (hn : n < 10) {p : Nat} (hp : p < 2 ^ n) {aLe : Nat → Int32} (h : post (nI (n + 1)) (nI (n + 1), xa_N (xa_u U n (ad_all p U n)), aLe)) : wpY_add post (nI n, xa_N U, aLe) (nI p) := by
  have p31 := xa_31 (show n ≤ 10 by omega) hp
  have L : ∀ d u, u + d = n → wY_add_26 post (nI p) (nI n) (xa_N U) aLe (d + 1) (nI (ad_all p U u)) (nI u) := by
    intro d
    induction d with
    | zero =>
      intro u e
      rw [show u = n by omega]
      exact pk_le n n (fun _ => ⟨xa_i hn, nm_r (xa_wN (v := ad_all p U n) (by omega) rfl) (nm_r (nI_1 n) h)⟩) (fun z => by omega)
    | succ d ih =>
      intro u e
      have ih' := ih (u + 1) (by omega)
      unfold ad_all at ih'
      refine pk_le n u (fun z => by omega) (fun _ => yw_in rfl rfl p31 (by omega) (fun z => br_f (by decide) ⟨xa_i (by omega), nm_r (e' := nI (ad_all p U u ||| U u)) (by rw [xa_rN (by omega), xb_or]) (nm_r (nI_1 u) ?_)⟩) (fun z => br_t rfl (nm_r (nI_1 u) ?_)))
      · rw [if_pos z] at ih'; exact ih'
      · rw [if_neg (by rw [z]; exact Bool.false_ne_true)] at ih'; exact ih'
  unfold wpY_add
  refine pk_eq n 10 (fun z => by omega) (fun _ => yw_isSet (by omega) (nI p) (fun _ _ _ => br_f (by decide) ⟨n + 1, L n 0 (by omega)⟩) (fun z => absurd ⟨p, hp, rfl⟩ z))
end
end
section
/-! removeLast and turn -/
section
variable {fb : Int32} {aKU aKD aUP aDN aQ aC aL : Nat → Int32}
theorem xw_remove {post : Int32 → SX → Prop} {n : Nat} (hn : n + 1 ≤ 10) {U O : Nat → Nat} (hO : po_O (n + 1) U O) (h : ∀ O', po_O n U O' → post (nI n) (nI n, 0, xa_N U, xa_N O', aKU, aKD, aUP, aDN, aQ, aC, aL)) :
    wpX_removeLast post (nI (n + 1), fb, xa_N U, xa_N O, aKU, aKD, aUP, aDN, aQ, aC, aL) := by
  have lO : ∀ u, u < n → O u < 2 ^ 32 := fun u hu => Nat.lt_of_lt_of_le (xa_31 hn (ex_lt (fun x hx => ((hO u (by omega) x).mp hx).1))) (by decide)
  have L : ∀ d u O', u + d = n → (∀ x, x < u → O' x = cc_an (O x) (2 ^ n)) → (∀ x, u ≤ x → x < n → O' x = O x) → wX_removeLast_21 post (nI n) fb (d + 1) (nI u) (xa_N U) (xa_N O') aKU aKD aUP aDN aQ aC aL := by
    intro d
    induction d with
    | zero =>
      intro u O' e i1 i2
      refine pk_le n u (fun _ => h O' (fun x hx v => ?_)) (fun z => by omega)
      rw [i1 x (by omega), cc_an_bit _ (lO x hx), cc_bit1, Bool.and_eq_true, Bool.not_eq_true', hO x (by omega) v]
      constructor
      · intro ⟨⟨a, b⟩, c⟩
        have ne : v ≠ n := fun q => by rw [q, beq_self_eq_true] at c; exact absurd c.symm Bool.false_ne_true
        exact ⟨by omega, b⟩
      · intro ⟨a, b⟩
        exact ⟨⟨by omega, b⟩, beq_false_of_ne (by omega)⟩
    | succ d ih =>
      intro u O' e i1 i2
      refine pk_le n u (fun z => by omega) (fun _ => ⟨xa_i (by omega), xa_i (by omega), nm_r (xa_wN (v := cc_an (O u) (2 ^ n)) (by omega) (by rw [xa_rN (by omega), i2 u (Nat.le_refl u) (by omega), xb_shl (by omega), xb_an])) (nm_r (nI_1 u) (ih (u + 1) _ (by omega) (fun x hx => ?_) (fun x h1 h2 => ?_)))⟩)
      · by_cases q : x = u
        · rw [q, xa_us]
        · rw [xa_un q]; exact i1 x (by omega)
      · rw [xa_un (by omega)]; exact i2 x (by omega) h2
  unfold wpX_removeLast
  exact br_f (nI_ne0 (by omega) (by omega)) (nm_r (nI_pred n) ⟨n + 1, L n 0 O (by omega) (fun x hx => by omega) (fun x _ _ => rfl)⟩)
end
def tu_rv (n S v : Nat) : Nat := cc_mk (fun y => decide (n - 1 - y < v) && S.testBit (n - 1 - y)) n
theorem tu_rv_bit {n S v y : Nat} : (tu_rv n S v).testBit y = true ↔ y < n ∧ n - 1 - y < v ∧ S.testBit (n - 1 - y) = true := by
  unfold tu_rv
  rw [cc_mk_bit, Bool.and_eq_true, Bool.and_eq_true, decide_eq_true_eq, decide_eq_true_eq]
theorem tu_rv_0 (n S : Nat) : tu_rv n S 0 = 0 := ch_bext (fun i => by
  rw [tu_rv_bit, Nat.zero_testBit]
  exact ⟨fun z => by omega, fun z => absurd z Bool.false_ne_true⟩)
theorem tu_rv_s {n S v : Nat} (hv : v < n) : tu_rv n S (v + 1) = if S.testBit v = true then tu_rv n S v ||| 2 ^ (n - 1 - v) else tu_rv n S v := by
  split
  · next h =>
    refine ch_bext (fun y => ?_)
    rw [Nat.testBit_or, Bool.or_eq_true, tu_rv_bit, tu_rv_bit, cc_bit1, beq_iff_eq]
    constructor
    · intro ⟨a, b, c⟩
      by_cases q : n - 1 - y = v
      · exact Or.inr (by omega)
      · exact Or.inl ⟨a, by omega, c⟩
    · rintro (⟨a, b, c⟩ | e)
      · exact ⟨a, by omega, c⟩
      · have q : n - 1 - y = v := by omega
        exact ⟨by omega, by omega, by rw [q]; exact h⟩
  · next h =>
    refine ch_bext (fun y => ?_)
    rw [tu_rv_bit, tu_rv_bit]
    constructor
    · intro ⟨a, b, c⟩
      by_cases q : n - 1 - y = v
      · rw [q] at c; exact absurd c h
      · exact ⟨a, by omega, c⟩
    · intro ⟨a, b, c⟩
      exact ⟨a, by omega, c⟩
theorem tu_ix {n v : Nat} (hv : v < n) : (nI n - 1) - nI v = nI (n - 1 - v) := by
  rw [show (1 : Int32) = nI 1 from rfl, pk_sub (by omega), pk_sub (by omega)]
theorem xw_rev {post : Int32 → Prop} {u : SX} {n S : Nat} (hn : n ≤ 10) (hS : S < 2 ^ 31) {x : Int32} (ex : x = nI S) (h : post (nI (tu_rv n S n))) : wpX_reversed post u x (nI n) := by
  subst ex
  obtain ⟨f0, f1, a1, a2, a3, a4, a5, a6, a7, a8, a9⟩ := u
  have L : ∀ d v, v + d = n → wX_reversed_5 post (nI S) (nI n) f0 f1 a1 a2 a3 a4 a5 a6 a7 a8 a9 (d + 1) (nI (tu_rv n S v)) (nI v) := by
    intro d
    induction d with
    | zero => exact fun v e => pk_le n v (fun _ => by rw [show v = n by omega]; exact h) (fun z => by omega)
    | succ d ih =>
      intro v e
      have ih' := ih (v + 1) (by omega)
      rw [tu_rv_s (by omega)] at ih'
      refine pk_le n v (fun z => by omega) (fun _ => xe_b0 rfl rfl hS (by omega) (fun z => nm_r (nI_1 v) ?_) (fun z => nm_r (e' := nI (tu_rv n S v ||| 2 ^ (n - 1 - v))) (by rw [tu_ix (by omega), xb_shl (by omega), xb_or]) (nm_r (nI_1 v) ?_)))
      · rw [if_neg (by rw [z]; exact Bool.false_ne_true)] at ih'; exact ih'
      · rw [if_pos z] at ih'; exact ih'
  have L0 := L n 0 (by omega)
  rw [tu_rv_0] at L0
  exact ⟨n + 1, L0⟩
def tu_sw (n : Nat) (U : Nat → Nat) (v : Nat) : Nat → Nat := fun x => if x < n ∧ (x < v ∨ n - 1 - v < x) then U (n - 1 - x) else U x
theorem tu_sw_0 (n : Nat) (U : Nat → Nat) : tu_sw n U 0 = U := funext fun x => if_neg (by omega)
theorem tu_sw_s {n v : Nat} (U : Nat → Nat) (h : v < n - 1 - v) : xa_u (xa_u (tu_sw n U v) v (tu_sw n U v (n - 1 - v))) (n - 1 - v) (tu_sw n U v v) = tu_sw n U (v + 1) := funext fun x => by
  have e1 : tu_sw n U v v = U v := if_neg (by omega)
  have e2 : tu_sw n U v (n - 1 - v) = U (n - 1 - v) := if_neg (by omega)
  rw [e1, e2]
  by_cases q : x = n - 1 - v
  · rw [q, xa_us]
    have : tu_sw n U (v + 1) (n - 1 - v) = U (n - 1 - (n - 1 - v)) := if_pos (by omega)
    rw [this, show n - 1 - (n - 1 - v) = v by omega]
  · rw [xa_un q]
    by_cases r : x = v
    · rw [r, xa_us]
      exact (if_pos (by omega) : tu_sw n U (v + 1) v = U (n - 1 - v)).symm
    · rw [xa_un r]
      unfold tu_sw
      by_cases c : x < n ∧ (x < v ∨ n - 1 - v < x)
      · rw [if_pos c, if_pos (by omega)]
      · rw [if_neg c, if_neg (by omega)]
theorem tu_sw_e {n v x : Nat} (U : Nat → Nat) (h : n - 1 - v ≤ v) (hv : v < n) (hx : x < n) : tu_sw n U v x = U (n - 1 - x) := by
  unfold tu_sw
  by_cases c : x < n ∧ (x < v ∨ n - 1 - v < x)
  · rw [if_pos c]
  · rw [if_neg c, show n - 1 - x = x by omega]
section
variable {fb : Int32} {aKU aKD aUP aDN aQ aC aL : Nat → Int32}
theorem xw_exch {post : SX → Prop} {n : Nat} {U O : Nat → Nat} {v w : Nat} (hv : v < 10) (hw : w < 10) (h : post (nI n, fb, xa_N (xa_u (xa_u U v (U w)) w (U v)), xa_N (xa_u (xa_u O v (O w)) w (O v)), aKU, aKD, aUP, aDN, aQ, aC, aL)) :
    wpX_exchangeSets post (nI n, fb, xa_N U, xa_N O, aKU, aKD, aUP, aDN, aQ, aC, aL) (nI v) (nI w) := by
  have bv : v < 2 ^ 31 := by omega
  have bw : w < 2 ^ 31 := by omega
  unfold wpX_exchangeSets
  exact ⟨xa_i hv, nm_r (xa_rN bv) ⟨xa_i hw, xa_i hv, nm_r (xa_wN (v := U w) bv (xa_rN bw)) ⟨xa_i hw, nm_r (xa_wN (v := U v) bw rfl) ⟨xa_i hv, nm_r (xa_rN bv) ⟨xa_i hw, xa_i hv, nm_r (xa_wN (v := O w) bv (xa_rN bw)) ⟨xa_i hw, nm_r (xa_wN (v := O v) bw rfl) h⟩⟩⟩⟩⟩⟩
theorem xw_turn {post : Int32 → SX → Prop} {n : Nat} (hn : n ≤ 10) {U O : Nat → Nat} (hU : ∀ v, v < n → U v < 2 ^ 31) (hO : ∀ v, v < n → O v < 2 ^ 31)
    (h : ∀ U' O', (∀ v, v < n → U' v = tu_rv n (O (n - 1 - v)) n) → (∀ v, v < n → O' v = tu_rv n (U (n - 1 - v)) n) → (∀ v, n ≤ v → U' v = U v) → post (nI n) (nI n, 0, xa_N U', xa_N O', aKU, aKD, aUP, aDN, aQ, aC, aL)) :
    wpX_turn post (nI n, fb, xa_N U, xa_N O, aKU, aKD, aUP, aDN, aQ, aC, aL) := by
  have L34 : ∀ d v U' O', v + d = n → (∀ x, x < v → U' x = tu_rv n (O (n - 1 - x)) n ∧ O' x = tu_rv n (U (n - 1 - x)) n) → (∀ x, v ≤ x → x < n → U' x = U (n - 1 - x) ∧ O' x = O (n - 1 - x)) → (∀ x, n ≤ x → U' x = U x) →
      wX_turn_34 post (nI n) (nI n) fb (d + 1) (nI v) (xa_N U') (xa_N O') aKU aKD aUP aDN aQ aC aL := by
    intro d
    induction d with
    | zero => exact fun v U' O' e i1 i2 i3 => pk_le n v (fun _ => h U' O' (fun x hx => (i1 x (by omega)).1) (fun x hx => (i1 x (by omega)).2) i3) (fun z => by omega)
    | succ d ih =>
      intro v U' O' e i1 i2 i3
      have hv : v < n := by omega
      have b : v < 2 ^ 31 := by omega
      obtain ⟨e1, e2⟩ := i2 v (Nat.le_refl v) hv
      refine pk_le n v (fun z => by omega) (fun _ => ⟨xa_i (by omega), xw_rev hn (hO (n - 1 - v) (by omega)) (by rw [xa_rN b, e2]) ⟨xa_i (by omega), xw_rev hn (hU (n - 1 - v) (by omega)) (by rw [xa_rN b, e1]) ⟨xa_i (by omega), nm_r (xa_wN (v := tu_rv n (U (n - 1 - v)) n) b rfl) ⟨xa_i (by omega), nm_r (xa_wN (v := tu_rv n (O (n - 1 - v)) n) b rfl) (nm_r (nI_1 v) (ih (v + 1) _ _ (by omega) (fun x hx => ?_) (fun x h1 h2 => ?_) (fun x hx => ?_)))⟩⟩⟩⟩)
      · by_cases q : x = v
        · rw [q, xa_us, xa_us]; exact ⟨rfl, rfl⟩
        · rw [xa_un q, xa_un q]; exact i1 x (by omega)
      · rw [xa_un (by omega), xa_un (by omega)]; exact i2 x (by omega) h2
      · rw [xa_un (by omega)]; exact i3 x hx
  have L7 : ∀ f v, v < n → n - v ≤ f → wX_turn_7 post (nI n) f (nI v) (nI n) fb (xa_N (tu_sw n U v)) (xa_N (tu_sw n O v)) aKU aKD aUP aDN aQ aC aL := by
    intro f
    induction f with
    | zero => intro v h1 h2; omega
    | succ f ih =>
      intro v hv hf
      refine pk_le (n - 1 - v) v (fun z => ⟨n + 1, L34 n 0 _ _ (by omega) (fun x hx => by omega) (fun x _ hx => ⟨tu_sw_e U z hv hx, tu_sw_e O z hv hx⟩) (fun x hx => if_neg (by omega))⟩) (fun z => ?_) (hx := tu_ix hv)
      rw [tu_ix hv]
      refine xw_exch (by omega) (by omega) ?_
      rw [tu_sw_s U z, tu_sw_s O z]
      exact nm_r (nI_1 v) (ih (v + 1) (by omega) (by omega))
  unfold wpX_turn
  rcases Nat.eq_zero_or_pos n with z | z
  · subst z
    exact ⟨1, br_t (show (nI 0 - 1) - 0 ≤ (0 : Int32) by decide +kernel) ⟨1, L34 0 0 U O rfl (fun x hx => by omega) (fun x _ hx => by omega) (fun x _ => rfl)⟩⟩
  · have g := L7 n 0 z (by omega)
    rw [tu_sw_0, tu_sw_0] at g
    exact ⟨n, g⟩
end
def tu_ly (n : Nat) (U : Nat → Nat) (v u x : Nat) : Nat := cc_mk (fun y => (decide (n - 1 - y < v) || (n - 1 - y == v && decide (n - 1 - x < u))) && (U (n - 1 - y)).testBit (n - 1 - x)) n
theorem tu_ly_bit {n : Nat} {U : Nat → Nat} {v u x y : Nat} : (tu_ly n U v u x).testBit y = true ↔ y < n ∧ (n - 1 - y < v ∨ (n - 1 - y = v ∧ n - 1 - x < u)) ∧ (U (n - 1 - y)).testBit (n - 1 - x) = true := by
  unfold tu_ly
  rw [cc_mk_bit, Bool.and_eq_true, Bool.and_eq_true, Bool.or_eq_true, Bool.and_eq_true, decide_eq_true_eq, decide_eq_true_eq, decide_eq_true_eq, beq_iff_eq]
theorem tu_ly_s {n : Nat} {U : Nat → Nat} {v u x : Nat} (hv : v < n) (hu : u < n) (hx : x < n) : tu_ly n U v (u + 1) x = if x = n - 1 - u ∧ (U v).testBit u = true then tu_ly n U v u x ||| 2 ^ (n - 1 - v) else tu_ly n U v u x := by
  split
  · next h =>
    have ex : n - 1 - x = u := by omega
    refine ch_bext (fun y => ?_)
    rw [Nat.testBit_or, Bool.or_eq_true, tu_ly_bit, tu_ly_bit, cc_bit1, beq_iff_eq, ex]
    constructor
    · rintro ⟨a, b, c⟩
      by_cases q : n - 1 - y = v
      · exact Or.inr (by omega)
      · exact Or.inl ⟨a, Or.inl (by omega), c⟩
    · rintro (⟨a, b, c⟩ | e)
      · exact ⟨a, by omega, c⟩
      · have q : n - 1 - y = v := by omega
        exact ⟨by omega, by omega, by rw [q]; exact h.2⟩
  · next h =>
    refine ch_bext (fun y => ?_)
    rw [tu_ly_bit, tu_ly_bit]
    constructor
    · rintro ⟨a, b, c⟩
      by_cases q : n - 1 - y = v ∧ n - 1 - x = u
      · rw [q.1, q.2] at c
        exact absurd ⟨by omega, c⟩ h
      · exact ⟨a, by omega, c⟩
    · rintro ⟨a, b, c⟩
      exact ⟨a, by omega, c⟩
theorem tu_ly_e {n : Nat} {U : Nat → Nat} {v x : Nat} (hx : x < n) : tu_ly n U v n x = tu_ly n U (v + 1) 0 x := ch_bext (fun y => by
  rw [tu_ly_bit, tu_ly_bit]
  exact ⟨fun ⟨a, b, c⟩ => ⟨a, by omega, c⟩, fun ⟨a, b, c⟩ => ⟨a, by omega, c⟩⟩)
theorem tu_ly_0 {n : Nat} {U : Nat → Nat} {x : Nat} : tu_ly n U 0 0 x = 0 := ch_bext (fun y => by
  rw [tu_ly_bit, Nat.zero_testBit]
  exact ⟨fun ⟨a, b, c⟩ => by omega, fun z => absurd z Bool.false_ne_true⟩)
theorem yw_turn {post : Int32 → SY → Prop} {n : Nat} (hn : n ≤ 10) {U : Nat → Nat} (hU : ∀ v, v < n → U v < 2 ^ 31) (h : ∀ U' LE, (∀ x, x < n → U' x = tu_ly n U n 0 x) → (∀ x, n ≤ x → U' x = U x) → post (nI n) (nI n, xa_N U', xa_N LE)) (LE : Nat → Nat) : wpY_turn post (nI n, xa_N U, xa_N LE) := by
  have L108 : ∀ LE, (∀ x, x < n → LE x = tu_ly n U n 0 x) → ∀ d v U', v + d = n → (∀ x, x < v → U' x = tu_ly n U n 0 x) → (∀ x, n ≤ x → U' x = U x) → wY_turn_108 post (nI n) (d + 1) (nI v) (xa_N U') (xa_N LE) := by
    intro LE hL d
    induction d with
    | zero => exact fun v U' e i1 i2 => pk_le n v (fun _ => h U' LE (fun x hx => i1 x (by omega)) i2) (fun z => by omega)
    | succ d ih =>
      intro v U' e i1 i2
      refine pk_le n v (fun z => by omega) (fun _ => ⟨xa_l (by omega), xa_i (by omega), nm_r (xa_wN (v := LE v) (by omega) (xa_rN (by omega))) (nm_r (nI_1 v) (ih (v + 1) _ (by omega) (fun x hx => ?_) (fun x hx => ?_)))⟩)
      · by_cases q : x = v
        · rw [q, xa_us]; exact hL v (by omega)
        · rw [xa_un q]; exact i1 x (by omega)
      · rw [xa_un (by omega)]; exact i2 x hx
  have L35 : ∀ (J : Int32 → (Nat → Int32) → (Nat → Int32) → Prop) v, v < n → (∀ LE, (∀ x, x < n → LE x = tu_ly n U (v + 1) 0 x) → J (nI (v + 1)) (xa_N U) (xa_N LE)) → ∀ d u LE, u + d = n → (∀ x, x < n → LE x = tu_ly n U v u x) → wY_turn_35 post J (nI v) (nI n) (d + 1) (nI u) (xa_N U) (xa_N LE) := by
    intro J v hv hJ d
    induction d with
    | zero => exact fun u LE e i => pk_le n u (fun _ => nm_r (nI_1 v) (hJ LE (fun x hx => by rw [i x hx, show u = n by omega]; exact tu_ly_e hx))) (fun z => by omega)
    | succ d ih =>
      intro u LE e i
      have hu : u < n := by omega
      have b : n - 1 - u < 2 ^ 31 := by omega
      refine pk_le n u (fun z => by omega) (fun _ => ⟨xa_i (by omega), yw_in (xa_rN (by omega)) rfl (hU v hv) (by omega) (fun z => br_f (by decide) ?_) (fun z => br_t rfl (nm_r (nI_1 u) (ih (u + 1) LE (by omega) (fun x hx => ?_))))⟩)
      · rw [tu_ix hu]
        refine ⟨xa_l (by omega), xa_l (by omega), nm_r (xa_wN (v := LE (n - 1 - u) ||| 2 ^ (n - 1 - v)) b (by rw [xa_rN b, tu_ix hv, xb_shl (by omega), xb_or])) (nm_r (nI_1 u) (ih (u + 1) _ (by omega) (fun x hx => ?_)))⟩
        rw [tu_ly_s hv hu hx]
        by_cases q : x = n - 1 - u
        · rw [if_pos ⟨q, z⟩, q, xa_us, i _ (by omega)]
        · rw [if_neg (fun c => q c.1), xa_un q]; exact i x hx
      · rw [tu_ly_s hv hu hx, if_neg (fun c => by rw [z] at c; exact absurd c.2 Bool.false_ne_true)]
        exact i x hx
  have L25 : ∀ d v LE, v + d = n → (∀ x, x < n → LE x = tu_ly n U v 0 x) → wY_turn_25 post (nI n) (d + 1) (nI v) (xa_N U) (xa_N LE) := by
    intro d
    induction d with
    | zero => exact fun v LE e i => pk_le n v (fun _ => ⟨n + 1, L108 LE (fun x hx => by rw [i x hx, show v = n by omega]) n 0 U (by omega) (fun x hx => by omega) (fun x _ => rfl)⟩) (fun z => by omega)
    | succ d ih =>
      exact fun v LE e i => pk_le n v (fun z => by omega) (fun _ => ⟨n + 1, L35 _ v (by omega) (fun LE i' => ih (v + 1) LE (by omega) i') n 0 LE (by omega) i⟩)
  have L2 : ∀ d v LE, v + d = n → (∀ x, x < v → LE x = 0) → wY_turn_2 post (nI n) (d + 1) (nI v) (xa_N U) (xa_N LE) := by
    intro d
    induction d with
    | zero => exact fun v LE e i => pk_le n v (fun _ => ⟨n + 1, L25 n 0 LE (by omega) (fun x hx => by rw [i x (by omega), tu_ly_0])⟩) (fun z => by omega)
    | succ d ih =>
      intro v LE e i
      refine pk_le n v (fun z => by omega) (fun _ => ⟨xa_l (by omega), nm_r (xa_wN (v := 0) (by omega) rfl) (nm_r (nI_1 v) (ih (v + 1) _ (by omega) (fun x hx => ?_)))⟩)
      by_cases q : x = v
      · rw [q, xa_us]
      · rw [xa_un q]; exact i x (by omega)
  exact ⟨n + 1, L2 n 0 LE (by omega) (fun x hx => by omega)⟩
theorem tu_same {n : Nat} {U O : Nat → Nat} (hO : po_O n U O) {x : Nat} (hx : x < n) : tu_rv n (O (n - 1 - x)) n = tu_ly n U n 0 x := ch_bext (fun y => by
  rw [tu_rv_bit, tu_ly_bit, hO (n - 1 - x) (by omega)]
  show _ ∧ _ ∧ _ ∧ (U (n - 1 - y)).testBit (n - 1 - x) = true ↔ _
  exact ⟨fun ⟨a, b, c, d⟩ => ⟨a, Or.inl b, d⟩, fun ⟨a, b, d⟩ => ⟨a, by omega, by omega, d⟩⟩)
theorem tu_bit {n : Nat} {U : Nat → Nat} {x y : Nat} : (tu_ly n U n 0 x).testBit y = true ↔ y < n ∧ (U (n - 1 - y)).testBit (n - 1 - x) = true := by
  rw [tu_ly_bit]
  exact ⟨fun ⟨a, b, c⟩ => ⟨a, c⟩, fun ⟨a, c⟩ => ⟨a, Or.inl (by omega), c⟩⟩
theorem tu_po {n : Nat} {U U' : Nat → Nat} (h : po_P n U) (e : ∀ x, x < n → U' x = tu_ly n U n 0 x) : po_P n U' := by
  refine ⟨h.1, fun v hv => ex_lt (fun y hy => ?_), fun v hv u uv w wu => ?_⟩
  · rw [e v hv] at hy
    obtain ⟨a, b⟩ := tu_bit.mp hy
    have := cc_in (h.2.1 (n - 1 - y) (by omega)) b
    omega
  · rw [e v hv] at uv ⊢
    obtain ⟨a, b⟩ := tu_bit.mp uv
    rw [e u a] at wu
    obtain ⟨c, d⟩ := tu_bit.mp wu
    exact tu_bit.mpr ⟨c, h.2.2 (n - 1 - w) (by omega) (n - 1 - u) d (n - 1 - v) b⟩
theorem tu_O {n : Nat} {U U' O' : Nat → Nat} (e : ∀ x, x < n → U' x = tu_ly n U n 0 x) (o : ∀ v, v < n → O' v = tu_rv n (U (n - 1 - v)) n) : po_O n U' O' := by
  intro u hu v
  rw [o u hu, tu_rv_bit]
  constructor
  · intro ⟨a, b, c⟩
    refine ⟨a, ?_⟩
    show (U' v).testBit u = true
    rw [e v a]
    exact tu_bit.mpr ⟨hu, c⟩
  · intro ⟨a, b⟩
    have b : (U' v).testBit u = true := b
    rw [e v a] at b
    exact ⟨a, by omega, (tu_bit.mp b).2⟩
end
section
/-! lowest and highest: X's answer is the reference's -/
theorem lo_pack {n : Nat} {U : Nat → Nat} {R' : Nat → Nat → Bool} (tr : mt_tr n R') {low : Bool} (hl : ∀ m o, et_c n U low m o ↔ ∀ v, v < n → m.testBit v = true → o.testBit v = true ∨ ∃ w, w < n ∧ o.testBit w = true ∧ R' v w = true)
    (hb : ∀ A, mt_anti n (po_R U) A ↔ mt_anti n R' A) {most A B : Nat} (hA : A < 2 ^ n) (hn : n ≤ 10) (an : mt_anti n R' (fun x => A.testBit x && !B.testBit x)) (sz : cc_n (fun x => A.testBit x && !B.testBit x) n = most)
    (ext : ∀ O : Nat → Bool, mt_anti n R' O → cc_n O n = most → ∀ x, x < n → (A.testBit x && !B.testBit x) = true → O x = true ∨ ∃ w, w < n ∧ O w = true ∧ R' x w = true) :
    cc_an A B < 2 ^ n ∧ fl_big n (po_R U) most (cc_an A B) ∧ (∀ o, o < 2 ^ n → fl_big n (po_R U) most o → et_c n U low (cc_an A B) o) ∧
      (∀ m, m < 2 ^ n → fl_big n (po_R U) most m → (∀ o, o < 2 ^ n → fl_big n (po_R U) most o → et_c n U low m o) → m = cc_an A B) := by
  have l : cc_an A B < 2 ^ n := Nat.lt_of_le_of_lt (cc_an_le A B) hA
  have bit : ∀ x, (cc_an A B).testBit x = (A.testBit x && !B.testBit x) := cc_an_bit B (Nat.lt_of_lt_of_le (xa_31 hn hA) (by decide))
  have ef : (fun x => (cc_an A B).testBit x) = (fun x => A.testBit x && !B.testBit x) := funext bit
  have big : fl_big n (po_R U) most (cc_an A B) := by
    constructor
    · rw [ef]; exact (hb _).mpr an
    · rw [ef]; exact sz
  have low' : ∀ o, o < 2 ^ n → fl_big n (po_R U) most o → et_c n U low (cc_an A B) o := fun o _ ho => (hl _ _).mpr (fun v hv z => ext (fun x => o.testBit x) ((hb _).mp ho.1) ho.2 v hv (by rw [← bit]; exact z))
  refine ⟨l, big, low', fun m hm bm em => cc_ext hm l (fun i hi => ?_)⟩
  have a1 := (hl _ _).mp (em _ l big)
  have a2 := (hl _ _).mp (low' m hm bm)
  have u1 := et_uniq tr (A := fun x => m.testBit x) (B := fun x => (cc_an A B).testBit x) ((hb _).mp bm.1) ((hb _).mp big.1) a1 a2 i hi
  have u2 := et_uniq tr (A := fun x => (cc_an A B).testBit x) (B := fun x => m.testBit x) ((hb _).mp big.1) ((hb _).mp bm.1) a2 a1 i hi
  cases p : m.testBit i
  · cases q : (cc_an A B).testBit i
    · rfl
    · rw [u2 q] at p; exact absurd p.symm Bool.false_ne_true
  · exact (u1 p).symm
theorem lo_most {n : Nat} {R : Nat → Nat → Bool} {UP DN : Nat → Option Nat} (mx : mt_max n R (fun _ => true) UP DN) (tr : mt_tr n R) {most : Nat} (wd : wd_is n R (fun _ => true) most) : mt_sz n UP + most = n := by
  have a : cc_n (fun _ => true) n = n := cc_n_all (fun _ _ => rfl)
  have w := wd_max mx tr
  have e := wd_uniq wd w
  have b := ch_tops mx.1
  omega
theorem lo_low {n : Nat} {U O : Nat → Nat} (hp : po_P n U) {UP DN : Nat → Option Nat} (mx : mt_max n (po_R U) (fun _ => true) UP DN) {A B : Nat} (e : (A, B) = ex_it U UP n (n + 1) (cc_mk (fun v => (DN v).isNone) n, 0)) {most : Nat} (wd : wd_is n (po_R U) (fun _ => true) most) :
    cc_an A B < 2 ^ n ∧ fl_big n (po_R U) most (cc_an A B) ∧ (∀ o, o < 2 ^ n → fl_big n (po_R U) most o → et_c n U true (cc_an A B) o) ∧
      (∀ m, m < 2 ^ n → fl_big n (po_R U) most m → (∀ o, o < 2 ^ n → fl_big n (po_R U) most o → et_c n U true m o) → m = cc_an A B) := by
  have tr := po_tr hp
  have lt := po_lt hp
  have sm := lo_most mx tr wd
  have i0 := cc_mk_lt (fun v => (DN v).isNone) n
  have hUP : ∀ v, v < n → ∀ w, UP v = some w → v < w ∧ w < n := fun v hv w q => by
    obtain ⟨a, b, _⟩ := mx.1.1 v w hv q
    exact ⟨lt v w a b, a⟩
  have cl : ex_cl n U UP (A, B) := by
    rw [e]
    refine ex_end_low (fun v hv x hx => cc_in (hp.2.1 v hv) hx) hUP _ i0 (Nat.two_pow_pos n) (fun z => cc_n_pos z ?_)
    show (cc_mk (fun v => (DN v).isNone) n).testBit 0 = true
    rw [mk_bit z]
    cases d : DN 0 with
    | none => rfl
    | some l =>
      obtain ⟨a, b⟩ := mx.1.2 0 l z d
      have := (hUP l a 0 b).1
      omega
  have lA : A < 2 ^ n := by
    have := (ex_it_lt (E := U) (p := UP) (po_n hp) (fun v hv w q => (hUP v hv w q).2) (s := (cc_mk (fun v => (DN v).isNone) n, 0)) i0 (Nat.two_pow_pos n) (n + 1)).1
    rw [← e] at this
    exact this
  obtain ⟨A0, a1, _, a3⟩ := mt_width mx tr
  have hall : cc_n (fun _ => true) n = n := cc_n_all (fun _ _ => rfl)
  obtain ⟨r1, r2, r3⟩ := ex_main (t := (A, B)) mx.1 tr a1 (by omega) (fun v hv y => ⟨fun z => ⟨Nat.lt_trans (lt y v hv z) hv, z⟩, fun z => z.2⟩) cl (fun x hx d => by
    rw [e]
    refine ex_it_mono U UP n _ (n + 1) x ?_
    show (cc_mk (fun v => (DN v).isNone) n).testBit x = true
    rw [mk_bit hx, d]; rfl) (fun PA PB c i => by
    rw [e]
    refine ex_it_sub c _ (fun x hx => ?_) (fun x hx => ?_) (n + 1)
    · have hx : (cc_mk (fun v => (DN v).isNone) n).testBit x = true := hx
      have l := cc_in i0 hx
      rw [mk_bit l] at hx
      exact i x l (Option.isNone_iff_eq_none.mp hx)
    · have hx : Nat.testBit 0 x = true := hx
      rw [Nat.zero_testBit] at hx
      exact absurd hx Bool.false_ne_true)
  have r2 : mt_sz n UP + cc_n (fun x => A.testBit x && !B.testBit x) n = n := r2
  refine lo_pack (R' := po_R U) tr (fun m o => ?_) (fun _ => Iff.rfl) lA hp.1 r1 (by omega) (fun O o1 o2 => r3 O o1 (by omega))
  exact ⟨fun z v hv mv => by have := z v hv mv; rw [if_pos rfl] at this; exact this, fun z v hv mv => by rw [if_pos rfl]; exact z v hv mv⟩
theorem lo_high {n : Nat} {U O : Nat → Nat} (hp : po_P n U) (hO : po_O n U O) {UP DN : Nat → Option Nat} (mx : mt_max n (po_R U) (fun _ => true) UP DN) {A B : Nat} (e : (A, B) = ex_it O DN n (n + 1) (cc_mk (fun v => (UP v).isNone) n, 0)) {most : Nat} (wd : wd_is n (po_R U) (fun _ => true) most) :
    cc_an A B < 2 ^ n ∧ fl_big n (po_R U) most (cc_an A B) ∧ (∀ o, o < 2 ^ n → fl_big n (po_R U) most o → et_c n U false (cc_an A B) o) ∧
      (∀ m, m < 2 ^ n → fl_big n (po_R U) most m → (∀ o, o < 2 ^ n → fl_big n (po_R U) most o → et_c n U false m o) → m = cc_an A B) := by
  have tr := po_tr hp
  have lt := po_lt hp
  have sm := lo_most mx tr wd
  have i0 := cc_mk_lt (fun v => (UP v).isNone) n
  have tr' : mt_tr n (fun a b => po_R U b a) := fun a b c ha hb hc x y => tr c b a hc hb ha y x
  have hb : ∀ A, mt_anti n (po_R U) A ↔ mt_anti n (fun a b => po_R U b a) A := fun A => ⟨fun z a b ha hb x y => z b a hb ha y x, fun z a b ha hb x y => z b a hb ha y x⟩
  have hDN : ∀ v, v < n → ∀ w, DN v = some w → w < n := fun v hv w q => (mx.1.2 v w hv q).1
  have hEO : ∀ v, v < n → ∀ x, (O v).testBit x = true → v < x ∧ x < n := fun v hv x hx => by
    obtain ⟨a, b⟩ := (hO v hv x).mp hx
    exact ⟨lt v x a b, a⟩
  have cl : ex_cl n O DN (A, B) := by
    rw [e]
    refine ex_end_high hEO hDN _ i0 (Nat.two_pow_pos n) (fun z => cc_n_pos (k := n - 1) (by omega) ?_)
    show (cc_mk (fun v => (UP v).isNone) n).testBit (n - 1) = true
    rw [mk_bit (by omega)]
    cases d : UP (n - 1) with
    | none => rfl
    | some l =>
      obtain ⟨a, b, _⟩ := mx.1.1 (n - 1) l (by omega) d
      have := lt (n - 1) l a b
      omega
  have lA : A < 2 ^ n := by
    have := (ex_it_lt (E := O) (p := DN) (fun v hv => ex_lt (fun x hx => (hEO v hv x hx).2)) hDN (s := (cc_mk (fun v => (UP v).isNone) n, 0)) i0 (Nat.two_pow_pos n) (n + 1)).1
    rw [← e] at this
    exact this
  obtain ⟨A0, a1, _, a3⟩ := mt_width mx tr
  have hall : cc_n (fun _ => true) n = n := cc_n_all (fun _ _ => rfl)
  have szd := mt_szd mx.1
  obtain ⟨r1, r2, r3⟩ := ex_main (t := (A, B)) (mt_flip mx.1) tr' ((hb A0).mp a1) (by omega) (fun v hv y => hO v hv y) cl (fun x hx d => by
    rw [e]
    refine ex_it_mono O DN n _ (n + 1) x ?_
    show (cc_mk (fun v => (UP v).isNone) n).testBit x = true
    rw [mk_bit hx, d]; rfl) (fun PA PB c i => by
    rw [e]
    refine ex_it_sub c _ (fun x hx => ?_) (fun x hx => ?_) (n + 1)
    · have hx : (cc_mk (fun v => (UP v).isNone) n).testBit x = true := hx
      have l := cc_in i0 hx
      rw [mk_bit l] at hx
      exact i x l (Option.isNone_iff_eq_none.mp hx)
    · have hx : Nat.testBit 0 x = true := hx
      rw [Nat.zero_testBit] at hx
      exact absurd hx Bool.false_ne_true)
  have r2 : mt_sz n DN + cc_n (fun x => A.testBit x && !B.testBit x) n = n := r2
  refine lo_pack (R' := fun a b => po_R U b a) tr' (fun m o => ?_) hb lA hp.1 r1 (by omega) (fun O o1 o2 => r3 O o1 (by omega))
  exact ⟨fun z v hv mv => by have := z v hv mv; rw [if_neg Bool.false_ne_true] at this; exact this, fun z v hv mv => by rw [if_neg Bool.false_ne_true]; exact z v hv mv⟩
/-- an index that is, or isn't, an element -/
theorem yb_elem {n : Nat} (hn : n ≤ 10) {p : Int32} {A B : Prop} (h1 : ∀ v, v < n → p = nI v → B) (h0 : (¬ ∃ v, v < n ∧ p = nI v) → A) : (p < 0 → A) ∧ (¬ p < 0 → ((nI n ≤ p → A) ∧ (¬ nI n ≤ p → B))) := by
  refine br_c (fun z => h0 (fun ⟨m, a, b⟩ => ?_)) (fun z => ?_)
  · rw [b] at z; exact nI_pos (by omega) z
  · obtain ⟨j, hj, e⟩ := nI_of z
    refine pk_le n j (fun y => h0 (fun ⟨m, a, b⟩ => ?_)) (fun y => h1 j y e) rfl e (by omega) hj
    rw [b] at e
    have := (nI_eq (by omega) hj).mp e
    omega
end
section
/-! the relation and the owed statements -/
def rl_K (n : Nat) (fb : Int32) (U O : Nat → Nat) (KU KD : Nat → Option Nat) : Prop := po_P n U ∧ po_O n U O ∧ kc_ok n (po_R U) fb KU KD
/-- both hold one order on n elements; what X keeps of a matching, if it says that it keeps one, cannot grow -/
def i_Rel (k : Nat) (u : SX) (v : SY) : Prop := ∃ (n : Nat) (fb : Int32) (U O : Nat → Nat) (KU KD UP DN : Nat → Option Nat) (Q C L LE : Nat → Nat), rl_K n fb U O KU KD ∧
  u = (nI n, fb, xa_N U, xa_N O, xa_P KU, xa_P KD, xa_P UP, xa_P DN, xa_N Q, xa_N C, xa_N L) ∧ v = (nI n, xa_N U, xa_N LE)
theorem i_up {k : Nat} {u : SX} {v : SY} (h : i_Rel k u v) : i_Rel (k + 3) u v := h
theorem zz_mk (k : Nat) {n : Nat} {fb : Int32} {U O : Nat → Nat} {KU KD : Nat → Option Nat} (h : rl_K n fb U O KU KD) (UP DN : Nat → Option Nat) (Q C L LE : Nat → Nat) :
    i_Rel k (nI n, fb, xa_N U, xa_N O, xa_P KU, xa_P KD, xa_P UP, xa_P DN, xa_N Q, xa_N C, xa_N L) (nI n, xa_N U, xa_N LE) := ⟨n, fb, U, O, KU, KD, UP, DN, Q, C, L, LE, h, rfl, rfl⟩
theorem zz_el {k : Nat} {u : SX} {v : SY} {P : SX → SY → Prop} (h : ∀ (n : Nat) (fb : Int32) (U O : Nat → Nat) (KU KD UP DN : Nat → Option Nat) (Q C L LE : Nat → Nat), rl_K n fb U O KU KD →
    P (nI n, fb, xa_N U, xa_N O, xa_P KU, xa_P KD, xa_P UP, xa_P DN, xa_N Q, xa_N C, xa_N L) (nI n, xa_N U, xa_N LE)) (I : i_Rel k u v) : P u v := by
  obtain ⟨n, fb, U, O, KU, KD, UP, DN, Q, C, L, LE, hK, rfl, rfl⟩ := I
  exact h n fb U O KU KD UP DN Q C L LE hK
theorem i_vc0 : wpX_init (fun u => wpY_init (fun v => i_Rel 0 u v)) := by
  refine ⟨0, 1, fun _ => 0, fun _ => 0, fun _ => some 0, fun _ => some 0, fun _ => some 0, fun _ => some 0, fun _ => 0, fun _ => 0, fun _ => 0, fun _ => 0, ⟨⟨by omega, fun v hv => by omega, fun v hv => by omega⟩, fun u hu => by omega, Or.inr ⟨by decide, ⟨fun u v hu => by omega, fun v u hv => by omega⟩, fun _ _ _ => trivial, fun _ => false, fun _ => false, fun a b ha => by omega, Nat.le_refl 0⟩⟩, ?_, ?_⟩
  · rfl
  · rfl
theorem i_vc_add {k : Nat} {u : SX} {v : SY} (I : i_Rel k u v) (hk : k + 3 ≤ 1536) (v1 : Int32) : wpX_add (fun r u' => wpY_add (fun r' v' => r' = r ∧ i_Rel (k + 3) u' v') v v1) u v1 := by
  refine zz_el (P := fun u v => wpX_add (fun r u' => wpY_add (fun r' v' => r' = r ∧ i_Rel (k + 3) u' v') v v1) u v1) ?_ I
  intro n fb U O KU KD UP DN Q C L LE K
  obtain ⟨hp, hO, hk'⟩ := K
  have hn := hp.1
  by_cases z : n = 10
  · unfold wpX_add wpY_add
    exact pk_lt n 10 (fun q => by omega) (fun _ => pk_eq n 10 (fun _ => ⟨rfl, zz_mk _ ⟨hp, hO, hk'⟩ UP DN Q C L LE⟩) (fun q => absurd z q))
  · by_cases g : ∃ m, m < 2 ^ n ∧ v1 = nI m
    · obtain ⟨p, lp, rfl⟩ := g
      refine xw_add hp (by omega) hO hk' lp (fun O' KU' KD' UP' DN' Q' C' o' k' => ?_) UP DN Q C
      exact yw_add hp (by omega) lp ⟨rfl, zz_mk _ ⟨ad_po hp (by omega) lp, o', k'⟩ UP' DN' Q' C' L LE⟩
    · unfold wpX_add wpY_add
      exact pk_lt n 10 (fun _ => xw_isSet hn v1 (fun m a b => absurd ⟨m, a, b⟩ g) (fun _ => br_t rfl (pk_eq n 10 (fun q => absurd q z) (fun _ => yw_isSet hn v1 (fun m a b => absurd ⟨m, a, b⟩ g) (fun _ => br_t rfl ⟨rfl, zz_mk _ ⟨hp, hO, hk'⟩ UP DN Q C L LE⟩))))) (fun q => by omega)
theorem i_vc_removeLast {k : Nat} {u : SX} {v : SY} (I : i_Rel k u v) (hk : k + 3 ≤ 1536) : wpX_removeLast (fun r u' => wpY_removeLast (fun r' v' => r' = r ∧ i_Rel (k + 3) u' v') v) u := by
  refine zz_el (P := fun u v => wpX_removeLast (fun r u' => wpY_removeLast (fun r' v' => r' = r ∧ i_Rel (k + 3) u' v') v) u) ?_ I
  intro n fb U O KU KD UP DN Q C L LE K
  obtain ⟨hp, hO, hk'⟩ := K
  have hn := hp.1
  rcases Nat.eq_zero_or_pos n with z | z
  · subst z
    unfold wpX_removeLast wpY_removeLast
    exact br_t nI_0 (br_t nI_0 ⟨rfl, zz_mk _ ⟨hp, hO, hk'⟩ UP DN Q C L LE⟩)
  · obtain ⟨m, rfl⟩ : ∃ m, n = m + 1 := ⟨n - 1, by omega⟩
    refine xw_remove hn hO (fun O' o' => ?_)
    unfold wpY_removeLast
    exact br_f (nI_ne0 (by omega) (by omega)) (nm_r (nI_pred m) ⟨rfl, zz_mk _ ⟨⟨by omega, fun v hv => hp.2.1 v (by omega), fun v hv => hp.2.2 v (by omega)⟩, o', Or.inl rfl⟩ UP DN Q C L LE⟩)
theorem i_vc_turn {k : Nat} {u : SX} {v : SY} (I : i_Rel k u v) (hk : k + 3 ≤ 1536) : wpX_turn (fun r u' => wpY_turn (fun r' v' => r' = r ∧ i_Rel (k + 3) u' v') v) u := by
  refine zz_el (P := fun u v => wpX_turn (fun r u' => wpY_turn (fun r' v' => r' = r ∧ i_Rel (k + 3) u' v') v) u) ?_ I
  intro n fb U O KU KD UP DN Q C L LE K
  obtain ⟨hp, hO, hk'⟩ := K
  have hn := hp.1
  refine xw_turn hn (po_31 hp) (fun v hv => xa_31 hn (ex_lt (fun x hx => ((hO v hv x).mp hx).1))) (fun U' O' e1 e2 e3 => ?_)
  have e1' : ∀ x, x < n → U' x = tu_ly n U n 0 x := fun x hx => (e1 x hx).trans (tu_same hO hx)
  refine yw_turn hn (po_31 hp) (fun U'' LE' f1 f2 => ?_) LE
  have e : U'' = U' := funext fun x => by
    rcases Nat.lt_or_ge x n with q | q
    · rw [f1 x q, e1' x q]
    · rw [f2 x q, e3 x q]
  rw [e]
  exact ⟨rfl, zz_mk _ ⟨tu_po hp e1', tu_O e1' e2, Or.inl rfl⟩ UP DN Q C L LE'⟩
theorem i_vc_size {k : Nat} {u : SX} {v : SY} (I : i_Rel k u v) (hk : k + 3 ≤ 1536) : wpX_size (fun r => wpY_size (fun r' => r' = r ∧ i_Rel (k + 3) u v) v) u := by
  refine zz_el (P := fun u v => wpX_size (fun r => wpY_size (fun r' => r' = r ∧ i_Rel (k + 3) u v) v) u) ?_ I
  intro n fb U O KU KD UP DN Q C L LE K
  exact And.intro rfl (zz_mk _ K UP DN Q C L LE)
theorem i_vc_below {k : Nat} {u : SX} {v : SY} (I : i_Rel k u v) (hk : k + 3 ≤ 1536) (v1 : Int32) (v2 : Int32) : wpX_below (fun r => wpY_below (fun r' => r' = r ∧ i_Rel (k + 3) u v) v v1 v2) u v1 v2 := by
  refine zz_el (P := fun u v => wpX_below (fun r => wpY_below (fun r' => r' = r ∧ i_Rel (k + 3) u v) v v1 v2) u v1 v2) ?_ I
  intro n fb U O KU KD UP DN Q C L LE K
  have hp := K.1
  have hn := hp.1
  have R := zz_mk (k + 3) K UP DN Q C L LE
  unfold wpX_below wpY_below
  refine xw_elem hn v1 (fun a ha ea => br_f (by decide) (xw_elem hn v2 (fun b hb eb => br_f (by decide) ?_) (fun g2 => br_t rfl ?_))) (fun g1 => br_t rfl ?_)
  · subst ea eb
    refine ⟨xa_i (by omega), xe_b0 (xa_rN (by omega)) rfl (po_31 hp b hb) (by omega) (fun z => ?_) (fun z => ?_)⟩
    · exact yb_elem hn (fun _ _ _ => yb_elem hn (fun _ _ _ => ⟨xa_i (by omega), yw_in (xa_rN (by omega)) rfl (po_31 hp b hb) (by omega) (fun y => by rw [z] at y; exact absurd y Bool.false_ne_true) (fun y => br_t rfl ⟨rfl, R⟩)⟩) (fun g => absurd ⟨b, hb, rfl⟩ g)) (fun g => absurd ⟨a, ha, rfl⟩ g)
    · exact yb_elem hn (fun _ _ _ => yb_elem hn (fun _ _ _ => ⟨xa_i (by omega), yw_in (xa_rN (by omega)) rfl (po_31 hp b hb) (by omega) (fun y => br_f (by decide) ⟨rfl, R⟩) (fun y => by rw [z] at y; exact absurd y.symm Bool.false_ne_true)⟩) (fun g => absurd ⟨b, hb, rfl⟩ g)) (fun g => absurd ⟨a, ha, rfl⟩ g)
  · exact yb_elem hn (fun _ _ _ => yb_elem hn (fun c hc ec => absurd ⟨c, hc, ec⟩ g2) (fun _ => ⟨rfl, R⟩)) (fun g => absurd ⟨a, ha, ea⟩ g)
  · exact yb_elem hn (fun c hc ec => absurd ⟨c, hc, ec⟩ g1) (fun _ => ⟨rfl, R⟩)
theorem i_vc_width {k : Nat} {u : SX} {v : SY} (I : i_Rel k u v) (hk : k + 3 ≤ 1536) (v1 : Int32) : wpX_width (fun r u' => wpY_width (fun r' => r' = r ∧ i_Rel (k + 3) u' v) v v1) u v1 := by
  refine zz_el (P := fun u v => wpX_width (fun r u' => wpY_width (fun r' => r' = r ∧ i_Rel (k + 3) u' v) v v1) u v1) ?_ I
  intro n fb U O KU KD UP DN Q C L LE K
  obtain ⟨hp, hO, hk'⟩ := K
  have hn := hp.1
  by_cases g : ∃ m, m < 2 ^ n ∧ v1 = nI m
  · obtain ⟨m, lm, rfl⟩ := g
    refine xw_width hn hO (po_lt hp) hk' lm (fun fb' KU' KD' UP' DN' Q' C' k' mx => ?_) UP DN Q C
    refine yw_width hp lm (fun b wd => ?_)
    rw [wd_uniq wd (wd_max mx (po_tr hp))]
    exact ⟨rfl, zz_mk _ ⟨hp, hO, k'⟩ UP' DN' Q' C' L LE⟩
  · unfold wpX_width wpY_width
    exact xw_isSet hn v1 (fun m a b => absurd ⟨m, a, b⟩ g) (fun _ => br_t rfl (yw_isSet hn v1 (fun m a b => absurd ⟨m, a, b⟩ g) (fun _ => br_t rfl ⟨rfl, zz_mk _ ⟨hp, hO, hk'⟩ UP DN Q C L LE⟩)))
theorem i_vc_chains {k : Nat} {u : SX} {v : SY} (I : i_Rel k u v) (hk : k + 3 ≤ 1536) (v1 : Int32) : wpX_chains (fun r u' => wpY_chains (fun r' v' => r' = r ∧ i_Rel (k + 3) u' v') v v1) u v1 := by
  refine zz_el (P := fun u v => wpX_chains (fun r u' => wpY_chains (fun r' v' => r' = r ∧ i_Rel (k + 3) u' v') v v1) u v1) ?_ I
  intro n fb U O KU KD UP DN Q C L LE K
  obtain ⟨hp, hO, hk'⟩ := K
  have hn := hp.1
  by_cases g : ∃ m, m < 2 ^ n ∧ v1 = nI m
  · obtain ⟨m, lm, rfl⟩ := g
    refine xw_chains hn hO (po_lt hp) hk' lm (fun fb' KU' KD' UP' DN' Q' C' k' mx => ?_) UP DN Q C
    obtain ⟨A, a1, a2, a3⟩ := mt_width mx (po_tr hp)
    have t := ch_tops mx.1
    have e : cc_n (fun t => m.testBit t && (UP' t).isNone) n = cc_n A n := by omega
    refine yw_chains hp lm a1 a2 mx.1 e (fun LE' => ?_) LE
    rw [e]
    exact ⟨rfl, zz_mk _ ⟨hp, hO, k'⟩ UP' DN' Q' C' L LE'⟩
  · unfold wpX_chains wpY_chains
    exact xw_isSet hn v1 (fun m a b => absurd ⟨m, a, b⟩ g) (fun _ => br_t rfl (yw_isSet hn v1 (fun m a b => absurd ⟨m, a, b⟩ g) (fun _ => br_t rfl ⟨rfl, zz_mk _ ⟨hp, hO, hk'⟩ UP DN Q C L LE⟩)))
theorem i_vc_longestChain {k : Nat} {u : SX} {v : SY} (I : i_Rel k u v) (hk : k + 3 ≤ 1536) (v1 : Int32) : wpX_longestChain (fun r u' => wpY_longestChain (fun r' => r' = r ∧ i_Rel (k + 3) u' v) v v1) u v1 := by
  refine zz_el (P := fun u v => wpX_longestChain (fun r u' => wpY_longestChain (fun r' => r' = r ∧ i_Rel (k + 3) u' v) v v1) u v1) ?_ I
  intro n fb U O KU KD UP DN Q C L LE K
  obtain ⟨hp, hO, hk'⟩ := K
  have hn := hp.1
  by_cases g : ∃ m, m < 2 ^ n ∧ v1 = nI m
  · obtain ⟨m, lm, rfl⟩ := g
    refine xw_long hp lm (fun b L' lc => ?_) L
    refine yw_longest hp lm (fun b' lc' => ?_)
    rw [lc_uniq lc' lc]
    exact ⟨rfl, zz_mk _ ⟨hp, hO, hk'⟩ UP DN Q C L' LE⟩
  · unfold wpX_longestChain wpY_longestChain
    exact xw_isSet hn v1 (fun m a b => absurd ⟨m, a, b⟩ g) (fun _ => br_t rfl (yw_isSet hn v1 (fun m a b => absurd ⟨m, a, b⟩ g) (fun _ => br_t rfl ⟨rfl, zz_mk _ ⟨hp, hO, hk'⟩ UP DN Q C L LE⟩)))
theorem i_vc_lowest {k : Nat} {u : SX} {v : SY} (I : i_Rel k u v) (hk : k + 3 ≤ 1536) : wpX_lowest (fun r u' => wpY_lowest (fun r' v' => r' = r ∧ i_Rel (k + 3) u' v') v) u := by
  refine zz_el (P := fun u v => wpX_lowest (fun r u' => wpY_lowest (fun r' v' => r' = r ∧ i_Rel (k + 3) u' v') v) u) ?_ I
  intro n fb U O KU KD UP DN Q C L LE K
  obtain ⟨hp, hO, hk'⟩ := K
  have hn := hp.1
  refine xw_lowest hn hO (po_lt hp) (po_n hp) hk' (fun fb' KU' KD' UP' DN' Q' C' A B k' mx e => ?_) UP DN Q C
  unfold wpY_lowest
  refine yw_ext hp true (fun _ => cc_an A B) (fun most wd => lo_low (O := O) hp mx e wd) (fun most LE' wd => ?_) LE
  exact ⟨rfl, zz_mk _ ⟨hp, hO, k'⟩ UP' DN' Q' C' L LE'⟩
theorem i_vc_highest {k : Nat} {u : SX} {v : SY} (I : i_Rel k u v) (hk : k + 3 ≤ 1536) : wpX_highest (fun r u' => wpY_highest (fun r' v' => r' = r ∧ i_Rel (k + 3) u' v') v) u := by
  refine zz_el (P := fun u v => wpX_highest (fun r u' => wpY_highest (fun r' v' => r' = r ∧ i_Rel (k + 3) u' v') v) u) ?_ I
  intro n fb U O KU KD UP DN Q C L LE K
  obtain ⟨hp, hO, hk'⟩ := K
  have hn := hp.1
  refine xw_highest hn hO (po_lt hp) (fun v hv => ex_lt (fun x hx => ((hO v hv x).mp hx).1)) hk' (fun fb' KU' KD' UP' DN' Q' C' A B k' mx e => ?_) UP DN Q C
  unfold wpY_highest
  refine yw_ext hp false (fun _ => cc_an A B) (fun most wd => lo_high hp hO mx e wd) (fun most LE' wd => ?_) LE
  exact ⟨rfl, zz_mk _ ⟨hp, hO, k'⟩ UP' DN' Q' C' L LE'⟩
theorem i_vc_isLargest {k : Nat} {u : SX} {v : SY} (I : i_Rel k u v) (hk : k + 3 ≤ 1536) (v1 : Int32) : wpX_isLargest (fun r u' => wpY_isLargest (fun r' => r' = r ∧ i_Rel (k + 3) u' v) v v1) u v1 := by
  refine zz_el (P := fun u v => wpX_isLargest (fun r u' => wpY_isLargest (fun r' => r' = r ∧ i_Rel (k + 3) u' v) v v1) u v1) ?_ I
  intro n fb U O KU KD UP DN Q C L LE K
  obtain ⟨hp, hO, hk'⟩ := K
  have hn := hp.1
  by_cases g : ∃ m, m < 2 ^ n ∧ v1 = nI m
  · obtain ⟨m, lm, rfl⟩ := g
    refine xw_isLargest hp hO hk' lm (fun fb' KU' KD' UP' DN' Q' C' r k' c => ?_) UP DN Q C
    have R := zz_mk (k + 3) ⟨hp, hO, k'⟩ UP' DN' Q' C' L LE
    rcases c with ⟨rfl, c⟩ | ⟨rfl, c⟩
    · exact yw_isLargest hp lm (fun _ => ⟨rfl, R⟩) (fun d => absurd c d)
    · exact yw_isLargest hp lm (fun d => absurd d c) (fun _ => ⟨rfl, R⟩)
  · unfold wpX_isLargest wpY_isLargest
    exact xw_isSet hn v1 (fun m a b => absurd ⟨m, a, b⟩ g) (fun _ => br_t rfl (yw_isSet hn v1 (fun m a b => absurd ⟨m, a, b⟩ g) (fun _ => br_t rfl ⟨rfl, zz_mk _ ⟨hp, hO, hk'⟩ UP DN Q C L LE⟩)))
theorem i_vc_inSomeLargest {k : Nat} {u : SX} {v : SY} (I : i_Rel k u v) (hk : k + 3 ≤ 1536) (v1 : Int32) : wpX_inSomeLargest (fun r u' => wpY_inSomeLargest (fun r' v' => r' = r ∧ i_Rel (k + 3) u' v') v v1) u v1 := by
  refine zz_el (P := fun u v => wpX_inSomeLargest (fun r u' => wpY_inSomeLargest (fun r' v' => r' = r ∧ i_Rel (k + 3) u' v') v v1) u v1) ?_ I
  intro n fb U O KU KD UP DN Q C L LE K
  obtain ⟨hp, hO, hk'⟩ := K
  have hn := hp.1
  by_cases g : ∃ v, v < n ∧ v1 = nI v
  · obtain ⟨m, lm, rfl⟩ := g
    refine xw_inSome hp hO hk' lm (fun fb' KU' KD' UP' DN' Q' C' r most k' wd c => ?_) UP DN Q C
    have R := fun LE => zz_mk (k + 3) ⟨hp, hO, k'⟩ UP' DN' Q' C' L LE
    rcases c with ⟨rfl, c⟩ | ⟨rfl, c⟩
    · exact yw_inSome hp lm (fun most' LE' wd' _ => ⟨rfl, R LE'⟩) (fun most' LE' wd' d => absurd (by rw [wd_uniq wd' wd]; exact c) d) LE
    · exact yw_inSome hp lm (fun most' LE' wd' d => absurd (by rw [← wd_uniq wd' wd]; exact d) c) (fun most' LE' wd' _ => ⟨rfl, R LE'⟩) LE
  · have R := zz_mk (k + 3) ⟨hp, hO, hk'⟩ UP DN Q C L LE
    unfold wpX_inSomeLargest wpY_inSomeLargest
    refine xw_elem hn v1 (fun m a b => absurd ⟨m, a, b⟩ g) (fun _ => br_t rfl ?_)
    refine br_c (fun _ => ⟨rfl, R⟩) (fun z => ?_)
    obtain ⟨j, hj, rfl⟩ := nI_of z
    exact pk_lt j n (fun y => absurd ⟨j, y, rfl⟩ g) (fun _ => ⟨rfl, R⟩)
end
