section
/-! pure rows to paste: stores, nI and lN arithmetic, masks, shifts, narrowing, branches by naturals (pk_le, pk_lt, pk_eq), loops (lp1 .. lp16: the measure of the state; rp1 ..: recursion), negatives. Take what you need -/
theorem pk_us {f : Nat → Int32} {k : Nat} {x : Int32} : upd f k x k = x := if_pos rfl
theorem pk_un {f : Nat → Int32} {k j : Nat} {x : Int32} (h : j ≠ k) : upd f k x j = f j := if_neg h
theorem pk_uLs {f : Nat → Int64} {k : Nat} {x : Int64} : vp_updL f k x k = x := if_pos rfl
theorem pk_uLn {f : Nat → Int64} {k j : Nat} {x : Int64} (h : j ≠ k) : vp_updL f k x j = f j := if_neg h
theorem pk_sub {a b : Nat} (h : b ≤ a) : nI a - nI b = nI (a - b) := by
  obtain ⟨c, rfl⟩ : ∃ c, a = c + b := ⟨a - b, by omega⟩
  rw [← nI_add, Int32.add_sub_cancel, Nat.add_sub_cancel]
theorem pk_m1 (n : Nat) : nI (n + 1) + (-1) = nI n := by
  rw [← nI_1, Int32.add_assoc, show (1 : Int32) + (-1) = 0 from rfl, Int32.add_zero]
theorem pk_mul (a b : Nat) : nI a * nI b = nI (a * b) := (Int32.ofNat_mul a b).symm
theorem pk_div {a d : Nat} (ha : a < 2 ^ 31) (h0 : 0 < d) (hd : d < 2 ^ 31) : nI a / nI d = nI (a / d) := by
  apply Int32.toInt_inj.mp
  rw [lg_idiv_nonneg (by rw [nI_toInt ha]; omega) (by rw [nI_toInt hd]; omega), nI_toInt ha, nI_toInt hd, nI_toInt (Nat.lt_of_le_of_lt (Nat.div_le_self a d) ha)]
  first | rfl | exact (Int.natCast_ediv _ _).symm
theorem pk_rem {a d : Nat} (ha : a < 2 ^ 31) (h0 : 0 < d) (hd : d < 2 ^ 31) : nI a - nI a / nI d * nI d = nI (a % d) := by
  rw [pk_div ha h0 hd, pk_mul, pk_sub (Nat.div_mul_le_self a d)]
  exact congrArg nI (by have := Nat.div_add_mod' a d; omega)
theorem pk_sub_toInt {a b : Nat} (ha : a < 2 ^ 30) (hb : b < 2 ^ 30) : (nI a - nI b).toInt = (a : Int) - b := by
  rw [Int32.toInt_sub, nI_toInt (by omega), nI_toInt (by omega)]
  exact Int.bmod_eq_of_le (by omega) (by omega)
theorem pk_sneg {a b : Nat} (hb : b < 2 ^ 30) (h : a < b) : nI a - nI b < 0 := by
  rw [Int32.lt_iff_toInt_lt, pk_sub_toInt (by omega) hb, show (0 : Int32).toInt = 0 from by decide]
  omega
theorem pk_ix (x : Int32) {n : Nat} (hn : n < 2 ^ 31) : x < 0 ∨ nI n ≤ x ∨ ∃ j : Nat, j < n ∧ x = nI j := by
  by_cases h : x < 0
  · exact Or.inl h
  · obtain ⟨j, hj, rfl⟩ := nI_of h
    by_cases h2 : j < n
    · exact Or.inr (Or.inr ⟨j, h2, rfl⟩)
    · exact Or.inr (Or.inl (nI_le (by omega) hj))
theorem pk_le {x y : Int32} {A B : Prop} (a b : Nat) (f : a ≤ b → A) (g : b < a → B) (hx : x = nI a := by rfl) (hy : y = nI b := by rfl) (ha : a < 2 ^ 31 := by omega) (hb : b < 2 ^ 31 := by omega) : (x ≤ y → A) ∧ (¬ x ≤ y → B) := by
  subst hx hy
  rw [nI_leI ha hb]
  exact ⟨f, fun z => g (by omega)⟩
theorem pk_lt {x y : Int32} {A B : Prop} (a b : Nat) (f : a < b → A) (g : b ≤ a → B) (hx : x = nI a := by rfl) (hy : y = nI b := by rfl) (ha : a < 2 ^ 31 := by omega) (hb : b < 2 ^ 31 := by omega) : (x < y → A) ∧ (¬ x < y → B) := by
  subst hx hy
  rw [nI_ltI ha hb]
  exact ⟨f, fun z => g (by omega)⟩
theorem pk_eq {x y : Int32} {A B : Prop} (a b : Nat) (f : a = b → A) (g : a ≠ b → B) (hx : x = nI a := by rfl) (hy : y = nI b := by rfl) (ha : a < 2 ^ 31 := by omega) (hb : b < 2 ^ 31 := by omega) : (x = y → A) ∧ (¬ x = y → B) := by
  subst hx hy
  rw [nI_eq ha hb]
  exact ⟨f, g⟩
theorem pk_in {x : Int32} (n N : Nat) (h : n < N) (hx : x = nI n := by rfl) (hN : N < 2 ^ 31 := by omega) : vp_in x N := by
  subst hx
  exact vp_in_nI h hN
theorem pk_cl {x : Int32} (n : Nat) (hx : x = nI n := by rfl) (h : n < 2 ^ 31 := by omega) : x.toNatClampNeg = n := by
  subst hx
  exact nI_clamp h
theorem pk_tn {n : Nat} (h : n < 2 ^ 32) : (nI n).toBitVec.toNat = n := Nat.mod_eq_of_lt h
theorem pk_and (x : Int32) {m : Int32} (k : Nat) (hm : m.toBitVec.toNat = 2 ^ k - 1) : x &&& m = nI (x.toBitVec.toNat % 2 ^ k) := by
  apply Int32.toBitVec_inj.mp
  apply BitVec.eq_of_toNat_eq
  rw [Int32.toBitVec_and, BitVec.toNat_and, hm, Nat.and_two_pow_sub_one_eq_mod]
  show _ = (BitVec.ofNat 32 _).toNat
  rw [BitVec.toNat_ofNat]
  exact (Nat.mod_eq_of_lt (Nat.lt_of_le_of_lt (Nat.mod_le _ _) x.toBitVec.isLt)).symm
theorem pk_andN {n : Nat} (h : n < 2 ^ 32) {m : Int32} (k : Nat) (hm : m.toBitVec.toNat = 2 ^ k - 1) : nI n &&& m = nI (n % 2 ^ k) := by
  rw [pk_and _ k hm, pk_tn h]
theorem pk_andE (x : Int32) {m : Int32} (k : Nat) (hm : m.toBitVec.toNat = 2 ^ k - 1) : ∃ j : Nat, j < 2 ^ k ∧ x &&& m = nI j := ⟨_, Nat.mod_lt _ (Nat.two_pow_pos k), pk_and x k hm⟩
theorem pk_andIn (x : Int32) {m : Int32} (k : Nat) (hm : m.toBitVec.toNat = 2 ^ k - 1) (hk : k ≤ 30) : vp_in (x &&& m) (2 ^ k) := by
  obtain ⟨j, hj, e⟩ := pk_andE x k hm
  rw [e]
  exact vp_in_nI hj (Nat.lt_of_le_of_lt (Nat.pow_le_pow_right (by decide) hk) (by decide))
theorem pk_shl (a s : Int32) (k : Nat) (hs : (s.toBitVec.smod 32).toNat = k) : (a <<< s).toBitVec.toNat = a.toBitVec.toNat * 2 ^ k % 2 ^ 32 := by
  show (a.toBitVec <<< (s.toBitVec.smod 32).toNat).toNat = _
  rw [hs, BitVec.toNat_shiftLeft, Nat.shiftLeft_eq]
theorem pk_shlN {n : Nat} (s : Int32) (k : Nat) (hs : (s.toBitVec.smod 32).toNat = k) (h : n * 2 ^ k < 2 ^ 32) : nI n <<< s = nI (n * 2 ^ k) := by
  apply Int32.toBitVec_inj.mp
  apply BitVec.eq_of_toNat_eq
  have hn : n < 2 ^ 32 := Nat.lt_of_le_of_lt (Nat.le_mul_of_pos_right n (Nat.two_pow_pos k)) h
  rw [pk_shl _ _ k hs, pk_tn hn, pk_tn h, Nat.mod_eq_of_lt h]
theorem pk_shr (a s : Int32) (k : Nat) (hs : (s.toBitVec.smod 32).toNat = k) : (a >>> s).toInt = a.toInt >>> k := by
  show (a.toBitVec.sshiftRight (s.toBitVec.smod 32).toNat).toInt = _
  rw [hs, BitVec.toInt_sshiftRight]
  rfl
theorem pk_shrN {n : Nat} (h : n < 2 ^ 31) (s : Int32) (k : Nat) (hs : (s.toBitVec.smod 32).toNat = k) : nI n >>> s = nI (n / 2 ^ k) := by
  apply Int32.toInt_inj.mp
  have h2 : n / 2 ^ k ≤ n := Nat.div_le_self _ _
  rw [pk_shr _ _ k hs, nI_toInt h, nI_toInt (by omega), Int.shiftRight_eq_div_pow]
  rfl
theorem pk_ushr (x s : Int32) (k : Nat) (hs : ((s.toUInt32 &&& Int32.toUInt32 31).toBitVec % 32).toNat = k) : (x.toUInt32 >>> (s.toUInt32 &&& Int32.toUInt32 31)).toInt32.toBitVec.toNat = x.toBitVec.toNat / 2 ^ k := by
  have e : (x.toUInt32 >>> (s.toUInt32 &&& Int32.toUInt32 31)).toInt32.toBitVec = x.toBitVec >>> k := by
    rw [← hs]
    exact UInt32.toBitVec_shiftRight _ _
  rw [e, BitVec.toNat_ushiftRight, Nat.shiftRight_eq_div_pow]
theorem pk_ushrN {n : Nat} (hn : n < 2 ^ 32) (s : Int32) (k : Nat) (hs : ((s.toUInt32 &&& Int32.toUInt32 31).toBitVec % 32).toNat = k) : ((nI n).toUInt32 >>> (s.toUInt32 &&& Int32.toUInt32 31)).toInt32 = nI (n / 2 ^ k) := by
  apply Int32.toBitVec_inj.mp
  apply BitVec.eq_of_toNat_eq
  rw [pk_ushr _ s k hs, pk_tn hn, pk_tn (Nat.lt_of_le_of_lt (Nat.div_le_self _ _) hn)]
theorem pk_nb (z : Int32) : narrow .byte (.int z.toInt8.toInt32) = .int z.toInt8.toInt32 := congrArg Value.int (by simp)
theorem pk_ns (z : Int32) : narrow .short (.int z.toInt16.toInt32) = .int z.toInt16.toInt32 := congrArg Value.int (by simp)
theorem pk_fb (r : Int32) : fits .byte (.int r.toInt8.toInt32) = true := by
  have ⟨a, b⟩ := lg_i2b_range r
  have h1 : (-128 : Int32).toInt = -128 := by decide
  have h2 : (127 : Int32).toInt = 127 := by decide
  simp only [fits, Bool.and_eq_true, decide_eq_true_eq, Int32.le_iff_toInt_le, h1, h2]
  omega
theorem pk_fs (r : Int32) : fits .short (.int r.toInt16.toInt32) = true := by
  have ⟨a, b⟩ := lg_i2s_range r
  have h1 : (-32768 : Int32).toInt = -32768 := by decide
  have h2 : (32767 : Int32).toInt = 32767 := by decide
  simp only [fits, Bool.and_eq_true, decide_eq_true_eq, Int32.le_iff_toInt_le, h1, h2]
  omega
theorem pk_charN {q : Nat} (hq : q < 65536) : narrow .char (.int (nI q)) = .int (nI q) ∧ fits .char (.int (nI q)) = true := by
  constructor
  · have e : (nI q).toUInt32.toUInt16.toUInt32.toInt32 = nI q := by
      apply Int32.toBitVec_inj.mp
      apply BitVec.eq_of_toNat_eq
      show (nI q).toUInt32.toUInt16.toUInt32.toNat = q % 2 ^ 32
      rw [UInt16.toNat_toUInt32, UInt32.toNat_toUInt16, show (nI q).toUInt32.toNat = q % 2 ^ 32 from rfl]
      omega
    exact congrArg Value.int e
  · have a : (0 : Int32) ≤ nI q := nI_pos' (by omega)
    have b : nI q ≤ 65535 := nI_le (b := 65535) (by omega) (by decide)
    show (decide ((0 : Int32) ≤ nI q) && decide (nI q ≤ 65535)) = true
    rw [decide_eq_true a, decide_eq_true b]
    rfl
theorem pk_char (x : Int32) : (x.toUInt32 % 65536).toInt32 = nI (x.toBitVec.toNat % 65536) := by
  apply Int32.toBitVec_inj.mp
  apply BitVec.eq_of_toNat_eq
  rw [pk_tn (by omega)]
  show (x.toUInt32 % 65536).toNat = _
  rw [UInt32.toNat_mod]
  rfl
theorem pk_nc (x : Int32) : narrow .char (.int (x.toUInt32 % 65536).toInt32) = .int (x.toUInt32 % 65536).toInt32 := by
  rw [pk_char]
  exact (pk_charN (Nat.mod_lt _ (by decide))).1
theorem pk_fc (x : Int32) : fits .char (.int (x.toUInt32 % 65536).toInt32) = true := by
  rw [pk_char]
  exact (pk_charN (Nat.mod_lt _ (by decide))).2
theorem pk_vb (z : Int32) : vp_nar .byte z.toInt8.toInt32 = z.toInt8.toInt32 := by rw [vp_nar_byte]; simp
theorem pk_vs (z : Int32) : vp_nar .short z.toInt16.toInt32 = z.toInt16.toInt32 := by rw [vp_nar_short]; simp
theorem pk_vc (z : Int32) : vp_nar .char (z.toUInt32 % 65536).toInt32 = (z.toUInt32 % 65536).toInt32 := Value.int.inj (pk_nc z)
/-! ===== Int32 by its bits: bt x i ===== -/
def bt (x : Int32) (i : Nat) : Bool := x.toBitVec.getLsbD i
theorem b_ext {x y : Int32} (h : ∀ i, i < 32 → bt x i = bt y i) : x = y := Int32.toBitVec_inj.mp (BitVec.eq_of_getLsbD_eq (fun i hi => h i hi))
theorem b_or (x y : Int32) (i : Nat) : bt (x ||| y) i = (bt x i || bt y i) := by unfold bt; rw [Int32.toBitVec_or, BitVec.getLsbD_or]
theorem b_and (x y : Int32) (i : Nat) : bt (x &&& y) i = (bt x i && bt y i) := by unfold bt; rw [Int32.toBitVec_and, BitVec.getLsbD_and]
theorem b_xor (x y : Int32) (i : Nat) : bt (x ^^^ y) i = (bt x i ^^ bt y i) := by unfold bt; rw [Int32.toBitVec_xor, BitVec.getLsbD_xor]
theorem b_big {x : Int32} {i : Nat} (h : 32 ≤ i) : bt x i = false := BitVec.getLsbD_of_ge _ _ h
theorem b_255 (i : Nat) : bt 255 i = decide (i < 8) := by
  rcases Nat.lt_or_ge i 32 with h | h
  · exact (by decide +kernel : ∀ i, i < 32 → bt 255 i = decide (i < 8)) i h
  · rw [b_big h, decide_eq_false (by omega)]
theorem b_65535 (i : Nat) : bt 65535 i = decide (i < 16) := by
  rcases Nat.lt_or_ge i 32 with h | h
  · exact (by decide +kernel : ∀ i, i < 32 → bt 65535 i = decide (i < 16)) i h
  · rw [b_big h, decide_eq_false (by omega)]
theorem b_m1 : ∀ i, i < 32 → bt (-1) i = true := by decide +kernel
theorem b_0 (i : Nat) : bt 0 i = false := BitVec.getLsbD_zero
theorem s_l : ∀ n, n < 32 → ((nI n &&& 31).toBitVec.smod 32).toNat = n := by decide +kernel
theorem s_u : ∀ n, n < 32 → (((nI n).toUInt32 &&& Int32.toUInt32 31).toBitVec % 32).toNat = n := by decide +kernel
theorem b_shl (n : Nat) (hn : n < 32) (x : Int32) {i : Nat} (hi : i < 32) : bt (x <<< (nI n &&& 31)) i = (decide (n ≤ i) && bt x (i - n)) := by
  unfold bt
  rw [Int32.toBitVec_shiftLeft]
  show (x.toBitVec <<< ((nI n &&& 31).toBitVec.smod 32).toNat).getLsbD i = _
  rw [s_l n hn, BitVec.getLsbD_shiftLeft]
  rcases Nat.lt_or_ge i n with h | h
  · simp [h, Nat.not_le.mpr h]
  · simp [hi, h, Nat.not_lt.mpr h]
theorem b_ushr (n : Nat) (hn : n < 32) (x : Int32) (i : Nat) : bt ((x.toUInt32 >>> ((nI n).toUInt32 &&& Int32.toUInt32 31)).toInt32) i = bt x (n + i) := by
  show (x.toUInt32 >>> ((nI n).toUInt32 &&& Int32.toUInt32 31)).toBitVec.getLsbD i = x.toUInt32.toBitVec.getLsbD (n + i)
  rw [UInt32.toBitVec_shiftRight]
  show (x.toUInt32.toBitVec >>> (((nI n).toUInt32 &&& Int32.toUInt32 31).toBitVec % 32).toNat).getLsbD i = _
  rw [s_u n hn, BitVec.getLsbD_ushiftRight]
theorem b_sshr (n : Nat) (hn : n < 32) (x : Int32) {i : Nat} (hi : i < 32) : bt (x >>> (nI n &&& 31)) i = if n + i < 32 then bt x (n + i) else bt x 31 := by
  unfold bt
  rw [Int32.toBitVec_shiftRight]
  show (x.toBitVec.sshiftRight ((nI n &&& 31).toBitVec.smod 32).toNat).getLsbD i = _
  rw [s_l n hn, BitVec.getLsbD_sshiftRight, BitVec.msb_eq_getLsbD_last]
  simp [hi]
theorem b_shl8 (x : Int32) {i : Nat} (hi : i < 32) : bt (x <<< ((8 : Int32) &&& 31)) i = (decide (8 ≤ i) && bt x (i - 8)) := b_shl 8 (by omega) x hi
theorem b_shl16 (x : Int32) {i : Nat} (hi : i < 32) : bt (x <<< ((16 : Int32) &&& 31)) i = (decide (16 ≤ i) && bt x (i - 16)) := b_shl 16 (by omega) x hi
theorem b_shl24 (x : Int32) {i : Nat} (hi : i < 32) : bt (x <<< ((24 : Int32) &&& 31)) i = (decide (24 ≤ i) && bt x (i - 24)) := b_shl 24 (by omega) x hi
theorem b_sshr8 (x : Int32) {i : Nat} (hi : i < 32) : bt (x >>> ((8 : Int32) &&& 31)) i = if 8 + i < 32 then bt x (8 + i) else bt x 31 := b_sshr 8 (by omega) x hi
/-! ===== a byte read unsigned ===== -/
theorem bp_b (x : Int32) : x.toInt8.toInt32 &&& 255 = x &&& 255 := by
  apply Int32.toBitVec_inj.mp
  rw [Int32.toBitVec_and, Int32.toBitVec_and, Int8.toBitVec_toInt32, Int32.toBitVec_toInt8]
  apply BitVec.eq_of_getLsbD_eq
  intro i hi
  rw [BitVec.getLsbD_and, BitVec.getLsbD_and]
  have hm : ∀ i < 32, 8 ≤ i → (255 : Int32).toBitVec.getLsbD i = false := by decide
  rcases Nat.lt_or_ge i 8 with z | z
  · rw [BitVec.getLsbD_signExtend, BitVec.getLsbD_signExtend, if_pos z, if_pos hi]
    simp only [z, hi, decide_true, Bool.true_and]
  · rw [hm i hi z]; simp
end
section
/-! numbers, narrowing, bytes: pure -/
theorem sb2_up_self (f : Nat → Int32) (k : Nat) : upd f k (f k) = f := by
  funext j
  by_cases h : j = k
  · rw [h, pk_us]
  · rw [pk_un h]
/-- narrowing to 1, 2 or 4 bytes -/
def sv_nr (lw : Nat) (x : Int32) : Int32 := if lw = 0 then x.toInt8.toInt32 else if lw = 1 then x.toInt16.toInt32 else x
theorem sv_nr0 (x : Int32) : sv_nr 0 x = x.toInt8.toInt32 := rfl
theorem sv_nr1 (x : Int32) : sv_nr 1 x = x.toInt16.toInt32 := rfl
theorem sv_nr2 (x : Int32) : sv_nr 2 x = x := rfl
/-- the number of bits -/
def sv_bits (lw : Nat) : Nat := if lw = 0 then 8 else if lw = 1 then 16 else 32
theorem sv_b8 (x : Int32) {i : Nat} (hi : i < 32) : bt x.toInt8.toInt32 i = if i < 8 then bt x i else bt x 7 := by
  unfold bt
  rw [Int8.toBitVec_toInt32, Int32.toBitVec_toInt8, BitVec.getLsbD_signExtend]
  rcases Nat.lt_or_ge i 8 with z | z
  · rw [if_pos z, if_pos z, BitVec.getLsbD_signExtend, if_pos (by omega : i < 32)]
    simp [z, hi]
  · rw [if_neg (by omega), if_neg (by omega), BitVec.msb_eq_getLsbD_last, BitVec.getLsbD_signExtend, if_pos (by omega : 8 - 1 < 32)]
    simp [hi]
theorem sv_b16 (x : Int32) {i : Nat} (hi : i < 32) : bt x.toInt16.toInt32 i = if i < 16 then bt x i else bt x 15 := by
  unfold bt
  rw [Int16.toBitVec_toInt32, Int32.toBitVec_toInt16, BitVec.getLsbD_signExtend]
  rcases Nat.lt_or_ge i 16 with z | z
  · rw [if_pos z, if_pos z, BitVec.getLsbD_signExtend, if_pos (by omega : i < 32)]
    simp [z, hi]
  · rw [if_neg (by omega), if_neg (by omega), BitVec.msb_eq_getLsbD_last, BitVec.getLsbD_signExtend, if_pos (by omega : 16 - 1 < 32)]
    simp [hi]
theorem sv_lw3 {lw : Nat} (h : lw ≤ 2) : lw = 0 ∨ lw = 1 ∨ lw = 2 := by omega
theorem sv_nrb {lw : Nat} (h : lw ≤ 2) (x : Int32) {i : Nat} (hi : i < 32) : bt (sv_nr lw x) i = if i < sv_bits lw then bt x i else bt x (sv_bits lw - 1) := by
  rcases sv_lw3 h with rfl | rfl | rfl
  · exact sv_b8 x hi
  · exact sv_b16 x hi
  · exact (if_pos hi).symm
theorem sv_bitsr {lw : Nat} (h : lw ≤ 2) : 8 ≤ sv_bits lw ∧ sv_bits lw ≤ 32 := by
  rcases sv_lw3 h with rfl | rfl | rfl <;> decide
theorem sv_nrnr {lw : Nat} (h : lw ≤ 2) (x : Int32) : sv_nr lw (sv_nr lw x) = sv_nr lw x := by
  have hb := sv_bitsr h
  apply b_ext
  intro i hi
  rw [sv_nrb h _ hi, sv_nrb h x hi]
  rcases Nat.lt_or_ge i (sv_bits lw) with z | z
  · rw [if_pos z, if_pos z]
  · rw [if_neg (by omega), if_neg (by omega), sv_nrb h x (by omega), if_pos (by omega)]
theorem sv_nr_and {lw : Nat} (h : lw ≤ 2) (x y : Int32) : sv_nr lw (x &&& y) = sv_nr lw x &&& sv_nr lw y := by
  apply b_ext
  intro i hi
  rw [b_and, sv_nrb h _ hi, sv_nrb h _ hi, sv_nrb h _ hi, b_and, b_and]
  rcases Nat.lt_or_ge i (sv_bits lw) with z | z
  · rw [if_pos z, if_pos z, if_pos z]
  · rw [if_neg (by omega), if_neg (by omega), if_neg (by omega)]
theorem sv_nr_or {lw : Nat} (h : lw ≤ 2) (x y : Int32) : sv_nr lw (x ||| y) = sv_nr lw x ||| sv_nr lw y := by
  apply b_ext
  intro i hi
  rw [b_or, sv_nrb h _ hi, sv_nrb h _ hi, sv_nrb h _ hi, b_or, b_or]
  rcases Nat.lt_or_ge i (sv_bits lw) with z | z
  · rw [if_pos z, if_pos z, if_pos z]
  · rw [if_neg (by omega), if_neg (by omega), if_neg (by omega)]
theorem sv_nr_xor {lw : Nat} (h : lw ≤ 2) (x y : Int32) : sv_nr lw (x ^^^ y) = sv_nr lw x ^^^ sv_nr lw y := by
  apply b_ext
  intro i hi
  rw [b_xor, sv_nrb h _ hi, sv_nrb h _ hi, sv_nrb h _ hi, b_xor, b_xor]
  rcases Nat.lt_or_ge i (sv_bits lw) with z | z
  · rw [if_pos z, if_pos z, if_pos z]
  · rw [if_neg (by omega), if_neg (by omega), if_neg (by omega)]
theorem sv_nr_sm0 : ∀ i, i < 128 → (nI i).toInt8.toInt32 = nI i := by decide +kernel
theorem sv_nr_sm1 : ∀ i, i < 128 → (nI i).toInt16.toInt32 = nI i := by decide +kernel
theorem sv_nr_sm {lw i : Nat} (h : lw ≤ 2) (hi : i < 128) : sv_nr lw (nI i) = nI i := by
  rcases sv_lw3 h with rfl | rfl | rfl
  · exact sv_nr_sm0 i hi
  · exact sv_nr_sm1 i hi
  · rfl
/-! shifts by constants -/
theorem sv_sh1 : ∀ l, l < 31 → (1 : Int32) <<< (nI l &&& 31) = nI (2 ^ l) := by decide +kernel
theorem sv_shl {a l : Nat} (hl : l < 31) (h : a * 2 ^ l < 2 ^ 31) : nI a <<< (nI l &&& 31) = nI (a * 2 ^ l) := pk_shlN _ l (s_l l (by omega)) (by omega)
theorem sv_sh0 (x : Int32) : x <<< (nI 0 &&& 31) = x := by
  apply b_ext
  intro i hi
  rw [b_shl 0 (by omega) x hi]; simp
theorem sv_sr0 (x : Int32) : x >>> (nI 0 &&& 31) = x := by
  apply b_ext
  intro i hi
  rw [b_sshr 0 (by omega) x hi, if_pos (by omega), Nat.zero_add]
/-- X's narrow: left, then right -/
theorem sv_lr (n : Nat) (hn : n < 32) (x : Int32) {i : Nat} (hi : i < 32) : bt ((x <<< (nI n &&& 31)) >>> (nI n &&& 31)) i = if i < 32 - n then bt x i else bt x (31 - n) := by
  rw [b_sshr n hn _ hi]
  rcases Nat.lt_or_ge i (32 - n) with z | z
  · rw [if_pos (by omega), if_pos z, b_shl n hn x (by omega), decide_eq_true (by omega), Bool.true_and, Nat.add_sub_cancel_left]
  · rw [if_neg (by omega), if_neg (by omega), b_shl n hn x (by omega), decide_eq_true (by omega), Bool.true_and]
theorem sv_sp0 : (32 : Int32) - ((8 : Int32) <<< (nI 0 &&& 31)) = nI 24 := by decide
theorem sv_sp1 : (32 : Int32) - ((8 : Int32) <<< (nI 1 &&& 31)) = nI 16 := by decide
theorem sv_sp2 : (32 : Int32) - ((8 : Int32) <<< (nI 2 &&& 31)) = nI 0 := by decide
theorem sv_nrX {lw : Nat} (h : lw ≤ 2) (x : Int32) : (x <<< ((32 - ((8 : Int32) <<< (nI lw &&& 31))) &&& 31)) >>> ((32 - ((8 : Int32) <<< (nI lw &&& 31))) &&& 31) = sv_nr lw x := by
  rcases sv_lw3 h with rfl | rfl | rfl
  · rw [sv_sp0]
    apply b_ext
    intro i hi
    rw [sv_lr 24 (by omega) x hi]
    exact (sv_b8 x hi).symm
  · rw [sv_sp1]
    apply b_ext
    intro i hi
    rw [sv_lr 16 (by omega) x hi]
    exact (sv_b16 x hi).symm
  · rw [sv_sp2, sv_sh0, sv_sr0]
    rfl
theorem sv_nrY {post : Int32 → Prop} {lw : Nat} (h : lw ≤ 2) {x : Int32} (k : post (sv_nr lw x)) : ((nI (2 ^ lw) = 1 → (post x.toInt8.toInt32)) ∧ (¬ nI (2 ^ lw) = 1 → (((nI (2 ^ lw) = 2 → (post x.toInt16.toInt32)) ∧ (¬ nI (2 ^ lw) = 2 → (post x)))))) := by
  rcases sv_lw3 h with rfl | rfl | rfl
  · exact br_t (by decide) k
  · exact br_f (by decide) (br_t (by decide) k)
  · exact br_f (by decide) (br_f (by decide) k)
/-! bytes -/
def sv_or (f : Nat → Int32) : Nat → Int32
  | 0 => 0
  | t + 1 => sv_or f t ||| (f t <<< ((8 * nI t) &&& 31))
theorem sv_or_congr {f g : Nat → Int32} : ∀ T, (∀ t, t < T → f t = g t) → sv_or f T = sv_or g T := by
  intro T
  induction T with
  | zero => intro _; rfl
  | succ T ih =>
    intro h
    show sv_or f T ||| (f T <<< ((8 * nI T) &&& 31)) = sv_or g T ||| (g T <<< ((8 * nI T) &&& 31))
    rw [ih (fun t ht => h t (by omega)), h T (by omega)]
theorem sv_8 : ∀ t, t < 4 → 8 * nI t = nI (8 * t) := by decide
/-- the byte t of v, as it is stored -/
def sv_by (v : Int32) (t : Nat) : Int32 := vp_nar .byte ((v >>> ((8 * nI t) &&& 31)).toInt8.toInt32)
theorem sv_by255 (v : Int32) (t : Nat) : sv_by v t &&& 255 = (v >>> ((8 * nI t) &&& 31)) &&& 255 := by
  unfold sv_by
  rw [pk_vb, bp_b]
theorem sv_byb (v : Int32) {t i : Nat} (ht : t < 4) : bt ((v >>> ((8 * nI t) &&& 31)) &&& 255) i = (decide (i < 8) && bt v (8 * t + i)) := by
  rw [b_and, b_255]
  rcases Nat.lt_or_ge i 8 with z | z
  · rw [sv_8 t ht, b_sshr (8 * t) (by omega) v (by omega), if_pos (by omega), decide_eq_true z, Bool.true_and, Bool.and_true]
  · rw [decide_eq_false (by omega), Bool.false_and, Bool.and_false]
theorem sv_orb (f : Nat → Int32) (v : Int32) (T : Nat) (hT : T ≤ 4) (hf : ∀ t, t < T → f t = (v >>> ((8 * nI t) &&& 31)) &&& 255) : ∀ i, i < 32 → bt (sv_or f T) i = (decide (i < 8 * T) && bt v i) := by
  induction T with
  | zero => intro i _; rw [decide_eq_false (by omega), Bool.false_and]; exact b_0 i
  | succ T ih =>
    intro i hi
    show bt (sv_or f T ||| (f T <<< ((8 * nI T) &&& 31))) i = _
    rw [b_or, ih (by omega) (fun t ht => hf t (by omega)) i hi, hf T (by omega), sv_8 T (by omega), b_shl (8 * T) (by omega) _ hi, ← sv_8 T (by omega)]
    rcases Nat.lt_or_ge i (8 * T) with z | z
    · rw [decide_eq_true z, decide_eq_false (by omega : ¬ 8 * T ≤ i), decide_eq_true (by omega : i < 8 * (T + 1)), Bool.false_and, Bool.or_false]
    · rw [decide_eq_false (by omega : ¬ i < 8 * T), decide_eq_true z, Bool.false_and, Bool.false_or, Bool.true_and, sv_byb v (by omega), show 8 * T + (i - 8 * T) = i from by omega]
      congr 1
      exact decide_eq_decide.mpr (by omega)
theorem sv_p24 {lw : Nat} (h : lw ≤ 2) : 2 ^ lw ≤ 4 ∧ 1 ≤ 2 ^ lw ∧ 8 * 2 ^ lw = sv_bits lw := by
  rcases sv_lw3 h with rfl | rfl | rfl <;> decide
/-- reading back the bytes of v gives v, narrowed -/
theorem sv_rb {lw : Nat} (h : lw ≤ 2) (f : Nat → Int32) (v : Int32) (hf : ∀ t, t < 2 ^ lw → f t = (v >>> ((8 * nI t) &&& 31)) &&& 255) : sv_nr lw (sv_or f (2 ^ lw)) = sv_nr lw v := by
  have hb := sv_bitsr h
  have hp := sv_p24 h
  have ho := sv_orb f v (2 ^ lw) hp.1 hf
  apply b_ext
  intro i hi
  rw [sv_nrb h _ hi, sv_nrb h v hi]
  rcases Nat.lt_or_ge i (sv_bits lw) with z | z
  · rw [if_pos z, if_pos z, ho i hi, decide_eq_true (by omega), Bool.true_and]
  · rw [if_neg (by omega), if_neg (by omega), ho _ (by omega), decide_eq_true (by omega), Bool.true_and]
/-- the bytes of v written from b on -/
def sv_wr (rg : Nat → Int32) (b : Nat) (v : Int32) : Nat → (Nat → Int32)
  | 0 => rg
  | t + 1 => upd (sv_wr rg b v t) (b + t) (sv_by v t)
theorem sv_wr_out (rg : Nat → Int32) (b : Nat) (v : Int32) {j : Nat} : ∀ T, (j < b ∨ b + T ≤ j) → sv_wr rg b v T j = rg j := by
  intro T
  induction T with
  | zero => intro _; rfl
  | succ T ih =>
    intro h
    show upd (sv_wr rg b v T) (b + T) (sv_by v T) j = _
    rw [pk_un (by omega), ih (by omega)]
theorem sv_wr_in (rg : Nat → Int32) (b : Nat) (v : Int32) {t : Nat} : ∀ T, t < T → sv_wr rg b v T (b + t) = sv_by v t := by
  intro T
  induction T with
  | zero => intro h; omega
  | succ T ih =>
    intro h
    show upd (sv_wr rg b v T) (b + T) (sv_by v T) (b + t) = _
    by_cases e : t = T
    · subst e; rw [pk_us]
    · rw [pk_un (by omega), ih (by omega)]
/-- the register slot of node k, element e -/
def sv_sl (lb lg lw k e : Nat) : Nat := k * 2 ^ (lb + lg) + e * 2 ^ lw
def sv_g (lb lg lw : Nat) (rg : Nat → Int32) (k e : Nat) : Int32 := sv_nr lw (sv_or (fun t => rg (sv_sl lb lg lw k e + t) &&& 255) (2 ^ lw))
def sv_vm (lb lg lw : Nat) : Nat := 2 ^ (lb + lg - lw)
theorem sv_vmW {lb lg lw : Nat} (hb : 2 ≤ lb) (hl : lw ≤ 2) : 2 ^ (lb + lg) = sv_vm lb lg lw * 2 ^ lw := by
  unfold sv_vm
  rw [← Nat.pow_add]
  congr 1
  omega
theorem sv_sl_q {lb lg lw k e : Nat} (hb : 2 ≤ lb) (hl : lw ≤ 2) : sv_sl lb lg lw k e = (k * sv_vm lb lg lw + e) * 2 ^ lw := by
  unfold sv_sl
  rw [sv_vmW hb hl, Nat.add_mul, Nat.mul_assoc]
theorem sv_sl_b {lb lg lw n k e : Nat} (hb : 2 ≤ lb) (hb3 : lb ≤ 3) (hl : lw ≤ 2) (hn : n * 2 ^ lg ≤ 32) (hk : k < n) (he : e < sv_vm lb lg lw) : sv_sl lb lg lw k e + 2 ^ lw ≤ 256 := by
  rw [sv_sl_q hb hl]
  have h1 : (k * sv_vm lb lg lw + e + 1) * 2 ^ lw ≤ (n * sv_vm lb lg lw) * 2 ^ lw := by
    apply Nat.mul_le_mul_right
    have : (k + 1) * sv_vm lb lg lw ≤ n * sv_vm lb lg lw := Nat.mul_le_mul_right _ hk
    rw [Nat.add_mul] at this
    omega
  rw [Nat.mul_assoc, ← sv_vmW hb hl, Nat.pow_add, Nat.mul_comm (2 ^ lb), ← Nat.mul_assoc, Nat.add_mul _ 1, Nat.one_mul] at h1
  have h2 : n * 2 ^ lg * 2 ^ lb ≤ 32 * 2 ^ 3 := Nat.mul_le_mul hn (Nat.pow_le_pow_right (by decide) hb3)
  omega
theorem sv_sl_d {lb lg lw k e k' e' : Nat} (hb : 2 ≤ lb) (hl : lw ≤ 2) (he : e < sv_vm lb lg lw) (he' : e' < sv_vm lb lg lw) (h : ¬ (k' = k ∧ e' = e)) : sv_sl lb lg lw k' e' + 2 ^ lw ≤ sv_sl lb lg lw k e ∨ sv_sl lb lg lw k e + 2 ^ lw ≤ sv_sl lb lg lw k' e' := by
  rw [sv_sl_q hb hl, sv_sl_q hb hl]
  have key : ∀ a b : Nat, a < b → a * 2 ^ lw + 2 ^ lw ≤ b * 2 ^ lw := by
    intro a b hab
    have := Nat.mul_le_mul_right (2 ^ lw) (show a + 1 ≤ b from hab)
    rw [Nat.add_mul, Nat.one_mul] at this
    exact this
  generalize sv_vm lb lg lw = M at *
  rcases Nat.lt_trichotomy k' k with z | z | z
  · left; apply key
    have := Nat.mul_le_mul_right M (show k' + 1 ≤ k from z)
    rw [Nat.add_mul] at this
    omega
  · subst z
    rcases Nat.lt_or_ge e' e with y | y
    · left; apply key; omega
    · right; apply key
      have : e' ≠ e := fun q => h ⟨rfl, q⟩
      omega
  · right; apply key
    have := Nat.mul_le_mul_right M (show k + 1 ≤ k' from z)
    rw [Nat.add_mul] at this
    omega
/-- put, then get -/
theorem sv_gp {lb lg lw k e : Nat} (hl : lw ≤ 2) (rg : Nat → Int32) (v : Int32) : sv_g lb lg lw (sv_wr rg (sv_sl lb lg lw k e) v (2 ^ lw)) k e = sv_nr lw v := by
  unfold sv_g
  apply sv_rb hl
  intro t ht
  rw [sv_wr_in _ _ _ _ ht, sv_by255]
theorem sv_gp_ne {lb lg lw k e k' e' : Nat} (hb : 2 ≤ lb) (hl : lw ≤ 2) (he : e < sv_vm lb lg lw) (he' : e' < sv_vm lb lg lw) (h : ¬ (k' = k ∧ e' = e)) (rg : Nat → Int32) (v : Int32) : sv_g lb lg lw (sv_wr rg (sv_sl lb lg lw k e) v (2 ^ lw)) k' e' = sv_g lb lg lw rg k' e' := by
  unfold sv_g
  congr 1
  apply sv_or_congr
  intro t ht
  have := sv_sl_d hb hl he he' h
  rw [sv_wr_out _ _ _ _ (by omega)]
end
section
/-! the pure picture of a kernel -/
/-- a kernel: logWidth, count, source, ops, as, bs, cs, masks, passes, pages -/
abbrev SvC : Type := Nat × Nat × Nat × (Nat → Int32) × (Nat → Int32) × (Nat → Int32) × (Nat → Int32) × (Nat → Int32) × (Nat → Int32) × (Nat → Int32)
abbrev sv_lw (C : SvC) : Nat := C.1
abbrev sv_n (C : SvC) : Nat := C.2.1
abbrev sv_s (C : SvC) : Nat := C.2.2.1
abbrev sv_op (C : SvC) : Nat → Int32 := C.2.2.2.1
abbrev sv_ia (C : SvC) : Nat → Int32 := C.2.2.2.2.1
abbrev sv_ib (C : SvC) : Nat → Int32 := C.2.2.2.2.2.1
abbrev sv_ic (C : SvC) : Nat → Int32 := C.2.2.2.2.2.2.1
abbrev sv_mk (C : SvC) : Nat → Int32 := C.2.2.2.2.2.2.2.1
abbrev sv_ps (C : SvC) : Nat → Int32 := C.2.2.2.2.2.2.2.2.1
abbrev sv_pg (C : SvC) : Nat → Int32 := C.2.2.2.2.2.2.2.2.2
def sv_o (C : SvC) (k : Nat) : Nat := ((sv_op C) k).toNatClampNeg
def sv_a (C : SvC) (k : Nat) : Nat := ((sv_ia C) k).toNatClampNeg
def sv_b (C : SvC) (k : Nat) : Nat := ((sv_ib C) k).toNatClampNeg
def sv_m (C : SvC) (k : Nat) : Nat := ((sv_mk C) k).toNatClampNeg
def sv_p (C : SvC) (k : Nat) : Nat := ((sv_ps C) k).toNatClampNeg
/-- x names a value node before k -/
def sv_VN (C : SvC) (k : Nat) (x : Int32) : Prop := x = nI x.toNatClampNeg ∧ x.toNatClampNeg < k ∧ sv_o C x.toNatClampNeg ≤ 15
def sv_WK (C : SvC) (k : Nat) : Prop := ((sv_op C) k = nI (sv_o C k) ∧ sv_o C k ≤ 18) ∧ ((2 ≤ sv_o C k ∧ sv_o C k ≠ 14) → sv_VN C k ((sv_ia C) k)) ∧ (((2 ≤ sv_o C k ∧ sv_o C k ≤ 12) ∨ sv_o C k = 17) → sv_VN C k ((sv_ib C) k)) ∧ (sv_o C k = 18 → (sv_ib C) k = nI (sv_b C k) ∧ sv_b C k ≤ 3) ∧ ((sv_mk C) k = -1 ∨ (sv_VN C k ((sv_mk C) k) ∧ sv_VN C k ((sv_ps C) k)))
def sv_WF (C : SvC) : Prop := ∀ k, k < (sv_n C) → sv_WK C k
def sv_US (C : SvC) : Prop := ∀ i j, i < (sv_n C) → j < (sv_n C) → (sv_o C i = 16 ∨ sv_o C i = 17) → (sv_o C j = 16 ∨ sv_o C j = 17) → i = j
def sv_OK (C : SvC) : Prop := (sv_lw C) ≤ 2 ∧ (sv_n C) ≤ 16 ∧ (sv_s C) ≤ 1 ∧ sv_WF C ∧ sv_US C
/-- active, by the values N of the element -/
def sv_ac (C : SvC) (N : Nat → Int32) (k : Nat) : Bool := decide ((sv_mk C) k = -1) || !decide (N (sv_m C k) = 0)
def sv_lo (lw : Nat) (x : Int32) : Int32 := if lw = 0 then x &&& 255 else if lw = 1 then x &&& 65535 else x
def sv_sr (lw : Nat) (x y : Int32) : Int32 := sv_nr lw (((sv_lo lw x).toUInt32 >>> ((y &&& ((8 * nI (2 ^ lw)) - 1)).toUInt32 &&& Int32.toUInt32 31)).toInt32)
def sv_ar (lw o : Nat) (x y : Int32) : Int32 :=
  if o = 2 then sv_nr lw (x + y) else if o = 3 then sv_nr lw (x - y) else if o = 4 then sv_nr lw (x * y)
  else if o = 5 then x &&& y else if o = 6 then x ||| y else if o = 7 then x ^^^ y
  else if o = 8 then (if y ≤ x then y else x) else if o = 9 then (if x ≤ y then y else x)
  else if o = 10 then (if y ≤ x then 0 else 1) else if o = 11 then (if x = y then 1 else 0) else sv_sr lw x y
def sv_of (C : SvC) (N : Nat → Int32) (i k : Nat) : Int32 :=
  if sv_o C k = 14 then (sv_ia C) k + nI i * (sv_ib C) k else if sv_o C k = 15 then (sv_ib C) k + N (sv_a C k)
  else if sv_o C k = 16 then (sv_ib C) k + nI i * (sv_ic C) k else (sv_ic C) k + N (sv_b C k)
def sv_bk (C : SvC) (k : Nat) : Nat := if sv_o C k ≤ 15 then (sv_s C) else 1 - (sv_s C)
def sv_nd (C : SvC) (k : Nat) : Int32 := if sv_o C k ≤ 15 then 1 else 2
def sv_ad (b : Nat) (o : Int32) (t : Nat) : Nat := 128 * b + (o + nI t).toBitVec.toNat % 128
def sv_fp (pg : Nat → Int32) (nd : Int32) (b : Nat) (o : Int32) : Nat → Nat → Option Nat
  | 0, _ => none
  | d + 1, t => if nd ≤ pg (sv_ad b o t / 16) then sv_fp pg nd b o d (t + 1) else some (sv_ad b o t / 16)
def sv_mn (C : SvC) (k : Nat) : Bool := decide (14 ≤ sv_o C k) && decide (sv_o C k ≤ 17)
/-- the fault of node k at element i -/
def sv_ft (C : SvC) (N : Nat → Int32) (i k : Nat) : Option Nat :=
  if sv_mn C k && sv_ac C N k then sv_fp (sv_pg C) (sv_nd C k) (sv_bk C k) (sv_of C N i k) (2 ^ (sv_lw C)) 0 else none
/-- the trap of the first K nodes -/
def sv_fl (C : SvC) (N : Nat → Int32) (i : Nat) : Nat → Option Nat
  | 0 => none
  | k + 1 => match sv_fl C N i k with
    | some t => some t
    | none => (sv_ft C N i k).map (fun p => k * 16 + p)
def sv_ld (lw : Nat) (m : Nat → Int32) (b : Nat) (o : Int32) : Int32 := sv_nr lw (sv_or (fun t => m (sv_ad b o t)) (2 ^ lw))
/-- the value of node k at element i: memory m, values pv of the element before, N of this element -/
def sv_vc (C : SvC) (m : Nat → Int32) (i : Nat) (pv N : Nat → Int32) (k : Nat) : Int32 :=
  if sv_o C k = 0 then sv_nr (sv_lw C) ((sv_ia C) k) else if sv_o C k = 1 then nI i
  else if sv_o C k = 13 then (if i = 0 then sv_nr (sv_lw C) ((sv_ib C) k) else pv (sv_a C k))
  else if 14 ≤ sv_o C k then sv_ld (sv_lw C) m (sv_s C) (sv_of C N i k)
  else sv_ar (sv_lw C) (sv_o C k) (N (sv_a C k)) (N (sv_b C k))
def sv_vv (C : SvC) (m : Nat → Int32) (i : Nat) (pv N : Nat → Int32) (k : Nat) : Int32 :=
  if sv_ac C N k then sv_vc C m i pv N k else N (sv_p C k)
def sv_nw (C : SvC) (m : Nat → Int32) (i : Nat) (pv : Nat → Int32) : Nat → (Nat → Int32)
  | 0 => fun _ => 0
  | k + 1 => upd (sv_nw C m i pv k) k (sv_vv C m i pv (sv_nw C m i pv k) k)
def sv_now (C : SvC) (m : Nat → Int32) (i : Nat) (pv : Nat → Int32) : Nat → Int32 := sv_nw C m i pv (sv_n C)
/-! effects -/
def sv_stm (b : Nat) (o v : Int32) (m : Nat → Int32) : Nat → (Nat → Int32)
  | 0 => m
  | t + 1 => upd (sv_stm b o v m t) (sv_ad b o t) ((v >>> ((8 * nI t) &&& 31)) &&& 255)
def sv_tch (b : Nat) (o bit : Int32) (tc : Nat → Int32) : Nat → (Nat → Int32)
  | 0 => tc
  | t + 1 => upd (sv_tch b o bit tc t) (sv_ad b o t) ((sv_tch b o bit tc t (sv_ad b o t)) ||| bit)
def sv_eM (C : SvC) (N : Nat → Int32) (i k : Nat) (m : Nat → Int32) : Nat → Int32 :=
  if (decide (16 ≤ sv_o C k) && decide (sv_o C k ≤ 17)) && sv_ac C N k then sv_stm (sv_bk C k) (sv_of C N i k) (N (sv_a C k)) m (2 ^ (sv_lw C)) else m
def sv_eT (C : SvC) (N : Nat → Int32) (i k : Nat) (tc : Nat → Int32) : Nat → Int32 :=
  if sv_mn C k && sv_ac C N k then sv_tch (sv_bk C k) (sv_of C N i k) (sv_nd C k) tc (2 ^ (sv_lw C)) else tc
def sv_rd (lw j : Nat) (z x : Int32) : Int32 :=
  if j = 0 then sv_nr lw (z + x) else if j = 1 then (if x ≤ z then x else z) else if j = 2 then (if z ≤ x then x else z) else z ^^^ x
def sv_r (C : SvC) (N : Nat → Int32) (k : Nat) (z : Int32) : Int32 :=
  if sv_o C k ≤ 15 then N k else if sv_ac C N k then (if sv_o C k = 18 then sv_rd (sv_lw C) (sv_b C k) z (N (sv_a C k)) else z + 1) else z
def sv_eR (C : SvC) (N : Nat → Int32) (k : Nat) (rs : Nat → Int32) : Nat → Int32 := upd rs k (sv_r C N k (rs k))
/-! folds -/
def sv_row {σ : Type} (f : Nat → σ → σ) : Nat → σ → σ
  | 0, x => x
  | k + 1, x => f k (sv_row f k x)
abbrev SvQ : Type := (Nat → Int32) × (Nat → Int32) × (Nat → Int32)
/-- one element, given its values -/
def sv_st (C : SvC) (N : Nat → Int32) (i : Nat) (q : SvQ) : SvQ := (sv_row (sv_eM C N i) (sv_n C) q.1, sv_row (sv_eT C N i) (sv_n C) q.2.1, sv_row (sv_eR C N) (sv_n C) q.2.2)
def sv_N (C : SvC) (i : Nat) (q : SvQ) : Nat → Int32 := sv_now C q.1 i q.2.2
def sv_sq (C : SvC) (nx : Nat) (q : SvQ) : Nat → SvQ
  | 0 => q
  | e + 1 => sv_st C (sv_N C (nx + e) (sv_sq C nx q e)) (nx + e) (sv_sq C nx q e)
def sv_Ne (C : SvC) (nx : Nat) (q : SvQ) (e : Nat) : Nat → Int32 := sv_N C (nx + e) (sv_sq C nx q e)
/-- the run of at most l elements from i on -/
def sv_rn (C : SvC) : Nat → Nat → SvQ → SvQ × Nat × Option Nat
  | 0, i, q => (q, i, none)
  | l + 1, i, q => match sv_fl C (sv_N C i q) i (sv_n C) with
    | some t => (q, i, some t)
    | none => sv_rn C l (i + 1) (sv_st C (sv_N C i q) i q)
end
section
/-! laws of the pure picture -/
theorem sv_ff {α : Type} {a b : α} : (if false = true then a else b) = b := if_neg (by decide)
theorem sv_tt {α : Type} {a b : α} : (if (true && true) = true then a else b) = a := if_pos rfl
theorem sv_bf {x : Bool} (h : ¬ x = true) : x = false := by cases x with | false => rfl | true => exact absurd rfl h
section SvLaws
variable {C : SvC}
def sv_ag (C : SvC) (K : Nat) (N N' : Nat → Int32) : Prop := ∀ j, j < K → sv_o C j ≤ 15 → N j = N' j
theorem sv_ag_le {K K' : Nat} {N N' : Nat → Int32} (h : sv_ag C K' N N') (hk : K ≤ K') : sv_ag C K N N' := fun j hj ho => h j (by omega) ho
theorem sv_VN_ag {k : Nat} {x : Int32} {N N' : Nat → Int32} (h : sv_VN C k x) (ha : sv_ag C k N N') : N x.toNatClampNeg = N' x.toNatClampNeg := ha _ h.2.1 h.2.2
theorem sv_ac_c {k : Nat} {N N' : Nat → Int32} (hw : sv_WK C k) (ha : sv_ag C k N N') : sv_ac C N k = sv_ac C N' k := by
  unfold sv_ac
  rcases hw.2.2.2.2 with h | h
  · rw [decide_eq_true h, Bool.true_or, Bool.true_or]
  · rw [show N (sv_m C k) = N' (sv_m C k) from sv_VN_ag h.1 ha]
theorem sv_of_c {i k : Nat} {N N' : Nat → Int32} (hw : sv_WK C k) (ha : sv_ag C k N N') (h1 : 14 ≤ sv_o C k) (h2 : sv_o C k ≤ 17) : sv_of C N i k = sv_of C N' i k := by
  unfold sv_of
  by_cases e14 : sv_o C k = 14
  · rw [if_pos e14, if_pos e14]
  · rw [if_neg e14, if_neg e14, show N (sv_a C k) = N' (sv_a C k) from sv_VN_ag (hw.2.1 ⟨by omega, e14⟩) ha]
    by_cases e17 : sv_o C k = 17
    · rw [show N (sv_b C k) = N' (sv_b C k) from sv_VN_ag (hw.2.2.1 (Or.inr e17)) ha]
    · by_cases e15 : sv_o C k = 15
      · rw [if_pos e15, if_pos e15]
      · rw [if_neg e15, if_neg e15, if_pos (by omega), if_pos (by omega)]
theorem sv_ad_div (b : Nat) (o : Int32) (t : Nat) : sv_ad b o t / 128 = b := by
  unfold sv_ad
  have := Nat.mod_lt (o + nI t).toBitVec.toNat (show 0 < 128 by decide)
  omega
theorem sv_ad_lt {b : Nat} (hb : b ≤ 1) (o : Int32) (t : Nat) : sv_ad b o t < 256 := by
  have := sv_ad_div b o t
  omega
theorem sv_ld_c {lw b : Nat} {o : Int32} {m m' : Nat → Int32} (h : ∀ j, j / 128 = b → m j = m' j) : sv_ld lw m b o = sv_ld lw m' b o := by
  unfold sv_ld
  congr 1
  apply sv_or_congr
  intro t _
  exact h _ (sv_ad_div b o t)
theorem sv_vc_c {m m' : Nat → Int32} {i k : Nat} {pv pv' N N' : Nat → Int32} (hw : sv_WK C k) (ho : sv_o C k ≤ 15) (hm : ∀ j, j / 128 = (sv_s C) → m j = m' j) (hp : sv_ag C k pv pv') (ha : sv_ag C k N N') : sv_vc C m i pv N k = sv_vc C m' i pv' N' k := by
  unfold sv_vc
  by_cases e0 : sv_o C k = 0
  · rw [if_pos e0, if_pos e0]
  · rw [if_neg e0, if_neg e0]
    by_cases e1 : sv_o C k = 1
    · rw [if_pos e1, if_pos e1]
    · rw [if_neg e1, if_neg e1]
      by_cases e13 : sv_o C k = 13
      · rw [if_pos e13, if_pos e13, show pv (sv_a C k) = pv' (sv_a C k) from sv_VN_ag (hw.2.1 ⟨by omega, by omega⟩) hp]
      · rw [if_neg e13, if_neg e13]
        by_cases e14 : 14 ≤ sv_o C k
        · rw [if_pos e14, if_pos e14, sv_of_c hw ha e14 (by omega), sv_ld_c hm]
        · rw [if_neg e14, if_neg e14, show N (sv_a C k) = N' (sv_a C k) from sv_VN_ag (hw.2.1 ⟨by omega, by omega⟩) ha, show N (sv_b C k) = N' (sv_b C k) from sv_VN_ag (hw.2.2.1 (Or.inl ⟨by omega, by omega⟩)) ha]
theorem sv_vv_c {m m' : Nat → Int32} {i k : Nat} {pv pv' N N' : Nat → Int32} (hw : sv_WK C k) (ho : sv_o C k ≤ 15) (hm : ∀ j, j / 128 = (sv_s C) → m j = m' j) (hp : sv_ag C k pv pv') (ha : sv_ag C k N N') : sv_vv C m i pv N k = sv_vv C m' i pv' N' k := by
  unfold sv_vv
  rw [sv_ac_c hw ha, sv_vc_c hw ho hm hp ha]
  by_cases e : sv_ac C N' k = true
  · rw [if_pos e, if_pos e]
  · rw [if_neg e, if_neg e]
    rcases hw.2.2.2.2 with h | h
    · exact absurd (show sv_ac C N' k = true from by unfold sv_ac; rw [decide_eq_true h, Bool.true_or]) e
    · exact sv_VN_ag h.2 ha
theorem sv_mn_r {k : Nat} (h : sv_mn C k = true) : 14 ≤ sv_o C k ∧ sv_o C k ≤ 17 := by
  unfold sv_mn at h
  rw [Bool.and_eq_true, decide_eq_true_eq, decide_eq_true_eq] at h
  exact h
theorem sv_ft_c {i k : Nat} {N N' : Nat → Int32} (hw : sv_WK C k) (ha : sv_ag C k N N') : sv_ft C N i k = sv_ft C N' i k := by
  unfold sv_ft
  rw [sv_ac_c hw ha]
  by_cases e : sv_mn C k = true
  · rw [sv_of_c hw ha (sv_mn_r e).1 (sv_mn_r e).2]
  · rw [sv_bf e, Bool.false_and, sv_ff, sv_ff]
theorem sv_fl_c {i : Nat} {N N' : Nat → Int32} (hw : sv_WF C) : ∀ K, K ≤ (sv_n C) → sv_ag C K N N' → sv_fl C N i K = sv_fl C N' i K := by
  intro K
  induction K with
  | zero => intro _ _; rfl
  | succ K ih =>
    intro hK ha
    unfold sv_fl
    rw [ih (by omega) (sv_ag_le ha (by omega)), sv_ft_c (hw K (by omega)) (sv_ag_le ha (by omega))]
theorem sv_eM_c {i k : Nat} {N N' m : Nat → Int32} (hw : sv_WK C k) (ha : sv_ag C k N N') : sv_eM C N i k m = sv_eM C N' i k m := by
  unfold sv_eM
  rw [sv_ac_c hw ha]
  by_cases e : 16 ≤ sv_o C k ∧ sv_o C k ≤ 17
  · rw [sv_of_c hw ha (by omega) e.2, show N (sv_a C k) = N' (sv_a C k) from sv_VN_ag (hw.2.1 ⟨by omega, by omega⟩) ha]
  · have : (decide (16 ≤ sv_o C k) && decide (sv_o C k ≤ 17)) = false := by
      rw [Bool.and_eq_false_iff, decide_eq_false_iff_not, decide_eq_false_iff_not]
      omega
    rw [this, Bool.false_and, sv_ff, sv_ff]
theorem sv_eT_c {i k : Nat} {N N' m : Nat → Int32} (hw : sv_WK C k) (ha : sv_ag C k N N') : sv_eT C N i k m = sv_eT C N' i k m := by
  unfold sv_eT
  rw [sv_ac_c hw ha]
  by_cases e : sv_mn C k = true
  · rw [sv_of_c hw ha (sv_mn_r e).1 (sv_mn_r e).2]
  · rw [sv_bf e, Bool.false_and, sv_ff, sv_ff]
theorem sv_r_c {k : Nat} {N N' : Nat → Int32} {z : Int32} (hw : sv_WK C k) (ha : sv_ag C (k + 1) N N') : sv_r C N k z = sv_r C N' k z := by
  unfold sv_r
  rw [sv_ac_c hw (sv_ag_le ha (by omega))]
  by_cases e : sv_o C k ≤ 15
  · rw [if_pos e, if_pos e, ha k (by omega) e]
  · rw [if_neg e, if_neg e, show N (sv_a C k) = N' (sv_a C k) from sv_VN_ag (hw.2.1 ⟨by omega, by omega⟩) (sv_ag_le ha (by omega))]
theorem sv_eR_c {k : Nat} {N N' rs : Nat → Int32} (hw : sv_WK C k) (ha : sv_ag C (k + 1) N N') : sv_eR C N k rs = sv_eR C N' k rs := by
  unfold sv_eR
  rw [sv_r_c hw ha]
theorem sv_row_c {σ : Type} {f g : Nat → σ → σ} : ∀ K, (∀ k, k < K → ∀ x, f k x = g k x) → ∀ x, sv_row f K x = sv_row g K x := by
  intro K
  induction K with
  | zero => intro _ _; rfl
  | succ K ih =>
    intro h x
    show f K (sv_row f K x) = g K (sv_row g K x)
    rw [ih (fun k hk => h k (by omega)), h K (by omega)]
theorem sv_st_c {N N' : Nat → Int32} {i : Nat} {q : SvQ} (hw : sv_WF C) (ha : sv_ag C (sv_n C) N N') : sv_st C N i q = sv_st C N' i q := by
  unfold sv_st
  rw [sv_row_c (f := sv_eM C N i) (g := sv_eM C N' i) _ (fun k hk x => sv_eM_c (hw k hk) (sv_ag_le ha (by omega))), sv_row_c (f := sv_eT C N i) (g := sv_eT C N' i) _ (fun k hk x => sv_eT_c (hw k hk) (sv_ag_le ha (by omega))), sv_row_c (f := sv_eR C N) (g := sv_eR C N') _ (fun k hk x => sv_eR_c (hw k hk) (sv_ag_le ha (by omega)))]
/-! the values of an element -/
theorem sv_nw_lt {m : Nat → Int32} {i : Nat} {pv : Nat → Int32} {j k : Nat} (hj : j < k) : ∀ d, sv_nw C m i pv (k + d) j = sv_nw C m i pv k j := by
  intro d
  induction d with
  | zero => rfl
  | succ d ih =>
    show upd (sv_nw C m i pv (k + d)) (k + d) _ j = _
    rw [pk_un (by omega), ih]
theorem sv_now_fix {m : Nat → Int32} {i : Nat} {pv : Nat → Int32} {k : Nat} (hw : sv_WF C) (hk : k < (sv_n C)) (ho : sv_o C k ≤ 15) : sv_now C m i pv k = sv_vv C m i pv (sv_now C m i pv) k := by
  have e1 : sv_now C m i pv k = sv_nw C m i pv (k + 1) k := by
    unfold sv_now
    obtain ⟨d, hd⟩ : ∃ d, (sv_n C) = (k + 1) + d := ⟨(sv_n C) - (k + 1), by omega⟩
    rw [hd]
    exact sv_nw_lt (by omega) d
  rw [e1]
  show upd (sv_nw C m i pv k) k _ k = _
  rw [pk_us]
  apply sv_vv_c (hw k hk) ho (fun _ _ => rfl) (fun _ _ _ => rfl)
  intro j hj _
  unfold sv_now
  obtain ⟨d, hd⟩ : ∃ d, (sv_n C) = k + d := ⟨(sv_n C) - k, by omega⟩
  rw [hd]
  exact (sv_nw_lt hj d).symm
/-! narrow values -/
def sv_Nar (C : SvC) (N : Nat → Int32) : Prop := ∀ k, k < (sv_n C) → sv_o C k ≤ 15 → sv_nr (sv_lw C) (N k) = N k
theorem sv_ar_n {lw o : Nat} {x y : Int32} (hl : lw ≤ 2) (hx : sv_nr lw x = x) (hy : sv_nr lw y = y) : sv_nr lw (sv_ar lw o x y) = sv_ar lw o x y := by
  unfold sv_ar
  by_cases e2 : o = 2
  · rw [if_pos e2]; exact sv_nrnr hl _
  rw [if_neg e2]
  by_cases e3 : o = 3
  · rw [if_pos e3]; exact sv_nrnr hl _
  rw [if_neg e3]
  by_cases e4 : o = 4
  · rw [if_pos e4]; exact sv_nrnr hl _
  rw [if_neg e4]
  by_cases e5 : o = 5
  · rw [if_pos e5, sv_nr_and hl, hx, hy]
  rw [if_neg e5]
  by_cases e6 : o = 6
  · rw [if_pos e6, sv_nr_or hl, hx, hy]
  rw [if_neg e6]
  by_cases e7 : o = 7
  · rw [if_pos e7, sv_nr_xor hl, hx, hy]
  rw [if_neg e7]
  by_cases e8 : o = 8
  · rw [if_pos e8]
    by_cases c : y ≤ x
    · rw [if_pos c]; exact hy
    · rw [if_neg c]; exact hx
  rw [if_neg e8]
  by_cases e9 : o = 9
  · rw [if_pos e9]
    by_cases c : x ≤ y
    · rw [if_pos c]; exact hy
    · rw [if_neg c]; exact hx
  rw [if_neg e9]
  by_cases e10 : o = 10
  · rw [if_pos e10]
    by_cases c : y ≤ x
    · rw [if_pos c]; exact sv_nr_sm (i := 0) hl (by omega)
    · rw [if_neg c]; exact sv_nr_sm (i := 1) hl (by omega)
  rw [if_neg e10]
  by_cases e11 : o = 11
  · rw [if_pos e11]
    by_cases c : x = y
    · rw [if_pos c]; exact sv_nr_sm (i := 1) hl (by omega)
    · rw [if_neg c]; exact sv_nr_sm (i := 0) hl (by omega)
  rw [if_neg e11]
  exact sv_nrnr hl _
theorem sv_vv_n {m : Nat → Int32} {i k : Nat} {pv N : Nat → Int32} (hl : (sv_lw C) ≤ 2) (hw : sv_WK C k) (ho : sv_o C k ≤ 15) (hi : i < 128) (hp : ∀ j, j < k → sv_o C j ≤ 15 → sv_nr (sv_lw C) (pv j) = pv j) (hN : ∀ j, j < k → sv_o C j ≤ 15 → sv_nr (sv_lw C) (N j) = N j) : sv_nr (sv_lw C) (sv_vv C m i pv N k) = sv_vv C m i pv N k := by
  have key : ∀ {x : Int32} {f : Nat → Int32}, (∀ j, j < k → sv_o C j ≤ 15 → sv_nr (sv_lw C) (f j) = f j) → sv_VN C k x → sv_nr (sv_lw C) (f x.toNatClampNeg) = f x.toNatClampNeg := fun hf h => hf _ h.2.1 h.2.2
  unfold sv_vv
  by_cases e : sv_ac C N k = true
  · rw [if_pos e]
    unfold sv_vc
    by_cases e0 : sv_o C k = 0
    · rw [if_pos e0]; exact sv_nrnr hl _
    rw [if_neg e0]
    by_cases e1 : sv_o C k = 1
    · rw [if_pos e1]; exact sv_nr_sm hl hi
    rw [if_neg e1]
    by_cases e13 : sv_o C k = 13
    · rw [if_pos e13]
      by_cases c : i = 0
      · rw [if_pos c]; exact sv_nrnr hl _
      · rw [if_neg c]; exact key hp (hw.2.1 ⟨by omega, by omega⟩)
    rw [if_neg e13]
    by_cases e14 : 14 ≤ sv_o C k
    · rw [if_pos e14]; exact sv_nrnr hl _
    rw [if_neg e14]
    exact sv_ar_n hl (key hN (hw.2.1 ⟨by omega, by omega⟩)) (key hN (hw.2.2.1 (Or.inl ⟨by omega, by omega⟩)))
  · rw [if_neg e]
    rcases hw.2.2.2.2 with h | h
    · exact absurd (show sv_ac C N k = true from by unfold sv_ac; rw [decide_eq_true h, Bool.true_or]) e
    · exact key hN h.2
theorem sv_now_n {m : Nat → Int32} {i : Nat} {pv : Nat → Int32} (hl : (sv_lw C) ≤ 2) (hw : sv_WF C) (hi : i < 128) (hp : sv_Nar C pv) : sv_Nar C (sv_now C m i pv) := by
  have H : ∀ K, ∀ k, k < K → k < (sv_n C) → sv_o C k ≤ 15 → sv_nr (sv_lw C) (sv_now C m i pv k) = sv_now C m i pv k := by
    intro K
    induction K with
    | zero => intro k h; omega
    | succ K ih =>
      intro k hk hn ho
      rw [sv_now_fix hw hn ho]
      exact sv_vv_n hl (hw k hn) ho hi (fun j hj hoj => hp j (by omega) hoj) (fun j hj hoj => ih j (by omega) (by omega) hoj)
  exact fun k hk ho => H (k + 1) k (by omega) hk ho
/-! what an element leaves -/
theorem sv_row_R {N rs : Nat → Int32} {k : Nat} : ∀ K, sv_row (sv_eR C N) K rs k = if k < K then sv_r C N k (rs k) else rs k := by
  intro K
  induction K with
  | zero => rw [if_neg (by omega)]; rfl
  | succ K ih =>
    show upd (sv_row (sv_eR C N) K rs) K _ k = _
    by_cases e : k = K
    · subst e
      rw [pk_us, ih, if_neg (by omega), if_pos (by omega)]
    · rw [pk_un e, ih]
      by_cases h : k < K
      · rw [if_pos h, if_pos (by omega)]
      · rw [if_neg h, if_neg (by omega)]
theorem sv_stm_b {b : Nat} {o v : Int32} {m : Nat → Int32} {j : Nat} (h : ¬ j / 128 = b) : ∀ T, sv_stm b o v m T j = m j := by
  intro T
  induction T with
  | zero => rfl
  | succ T ih =>
    show upd (sv_stm b o v m T) (sv_ad b o T) _ j = _
    rw [pk_un (fun e => h (by rw [e]; exact sv_ad_div b o T)), ih]
theorem sv_eM_b {N m : Nat → Int32} {i k j : Nat} (hs : (sv_s C) ≤ 1) (h : j / 128 = (sv_s C)) : sv_eM C N i k m j = m j := by
  unfold sv_eM
  by_cases e : ((decide (16 ≤ sv_o C k) && decide (sv_o C k ≤ 17)) && sv_ac C N k) = true
  · rw [if_pos e]
    rw [Bool.and_eq_true, Bool.and_eq_true, decide_eq_true_eq] at e
    apply sv_stm_b
    unfold sv_bk
    rw [if_neg (by omega)]
    omega
  · rw [if_neg e]
theorem sv_row_M {N m : Nat → Int32} {i j : Nat} (hs : (sv_s C) ≤ 1) (h : j / 128 = (sv_s C)) : ∀ K, sv_row (sv_eM C N i) K m j = m j := by
  intro K
  induction K with
  | zero => rfl
  | succ K ih =>
    show sv_eM C N i K (sv_row (sv_eM C N i) K m) j = _
    rw [sv_eM_b hs h, ih]
theorem sv_sq_M {nx : Nat} {q : SvQ} {j : Nat} (hs : (sv_s C) ≤ 1) (h : j / 128 = (sv_s C)) : ∀ e, (sv_sq C nx q e).1 j = q.1 j := by
  intro e
  induction e with
  | zero => rfl
  | succ e ih =>
    show sv_row (sv_eM C _ _) (sv_n C) (sv_sq C nx q e).1 j = _
    rw [sv_row_M hs h, ih]
theorem sv_sq_R {nx : Nat} {q : SvQ} {e k : Nat} (hk : k < (sv_n C)) (ho : sv_o C k ≤ 15) : (sv_sq C nx q (e + 1)).2.2 k = sv_Ne C nx q e k := by
  show sv_row (sv_eR C _) (sv_n C) (sv_sq C nx q e).2.2 k = _
  rw [sv_row_R, if_pos hk]
  unfold sv_r
  rw [if_pos ho]
  rfl
/-- the values of the element before: those kept, at the strip's start -/
def sv_pv (C : SvC) (nx : Nat) (q : SvQ) : Nat → (Nat → Int32)
  | 0 => q.2.2
  | e + 1 => sv_Ne C nx q e
theorem sv_pv_ag {nx : Nat} {q : SvQ} : ∀ e, sv_ag C (sv_n C) (sv_sq C nx q e).2.2 (sv_pv C nx q e)
  | 0 => fun _ _ _ => rfl
  | _ + 1 => fun _ hj ho => sv_sq_R hj ho
theorem sv_Ne_fix {nx : Nat} {q : SvQ} {e k : Nat} (hs : (sv_s C) ≤ 1) (hw : sv_WF C) (hk : k < (sv_n C)) (ho : sv_o C k ≤ 15) : sv_Ne C nx q e k = sv_vv C q.1 (nx + e) (sv_pv C nx q e) (sv_Ne C nx q e) k := by
  show sv_now C _ _ _ k = _
  rw [sv_now_fix hw hk ho]
  exact sv_vv_c (hw k hk) ho (fun j hj => sv_sq_M hs hj e) (sv_ag_le (sv_pv_ag e) (by omega)) (fun _ _ _ => rfl)
theorem sv_sq_n {nx : Nat} {q : SvQ} (hl : (sv_lw C) ≤ 2) (hw : sv_WF C) (hq : sv_Nar C q.2.2) : ∀ e, nx + e ≤ 128 → sv_Nar C (sv_sq C nx q e).2.2 := by
  intro e
  induction e with
  | zero => intro _; exact hq
  | succ e ih =>
    intro he k hk ho
    rw [sv_sq_R hk ho]
    exact sv_now_n hl hw (by omega) (ih (by omega)) k hk ho
theorem sv_Ne_n {nx : Nat} {q : SvQ} {e : Nat} (hl : (sv_lw C) ≤ 2) (hw : sv_WF C) (hq : sv_Nar C q.2.2) (he : nx + e < 128) : sv_Nar C (sv_Ne C nx q e) := sv_now_n hl hw he (sv_sq_n hl hw hq e (by omega))
end SvLaws
end
section
/-! node by node, or element by element: the same -/
theorem sv_cm1 {σ : Type} {F : Nat → Nat → σ → σ} {n : Nat} (hc : ∀ k k', k < n → k' < n → k ≠ k' → ∀ e e' x, F e k (F e' k' x) = F e' k' (F e k x)) {K e E : Nat} (hK : K < n) : ∀ K', K' ≤ K → ∀ z, F e K (sv_row (F E) K' z) = sv_row (F E) K' (F e K z) := by
  intro K'
  induction K' with
  | zero => intro _ _; rfl
  | succ K' ih =>
    intro h z
    show F e K (F E K' (sv_row (F E) K' z)) = F E K' (sv_row (F E) K' (F e K z))
    rw [hc K K' hK (by omega) (by omega), ih (by omega)]
theorem sv_cm2 {σ : Type} {F : Nat → Nat → σ → σ} {n : Nat} (hc : ∀ k k', k < n → k' < n → k ≠ k' → ∀ e e' x, F e k (F e' k' x) = F e' k' (F e k x)) {K E : Nat} (hK : K < n) : ∀ E' z, sv_row (fun e => F e K) E' (sv_row (F E) K z) = sv_row (F E) K (sv_row (fun e => F e K) E' z) := by
  intro E'
  induction E' with
  | zero => intro _; rfl
  | succ E' ih =>
    intro z
    show F E' K (sv_row (fun e => F e K) E' (sv_row (F E) K z)) = sv_row (F E) K (F E' K (sv_row (fun e => F e K) E' z))
    rw [ih, sv_cm1 hc hK K (Nat.le_refl K)]
theorem sv_cm3 {σ : Type} {F : Nat → Nat → σ → σ} {n : Nat} (hc : ∀ k k', k < n → k' < n → k ≠ k' → ∀ e e' x, F e k (F e' k' x) = F e' k' (F e k x)) (E : Nat) (x : σ) : ∀ K, K ≤ n → sv_row (fun k => sv_row (fun e => F e k) (E + 1)) K x = sv_row (F E) K (sv_row (fun k => sv_row (fun e => F e k) E) K x) := by
  intro K
  induction K with
  | zero => intro _; rfl
  | succ K ih =>
    intro h
    show F E K (sv_row (fun e => F e K) E (sv_row (fun k => sv_row (fun e => F e k) (E + 1)) K x)) = F E K (sv_row (F E) K (sv_row (fun e => F e K) E (sv_row (fun k => sv_row (fun e => F e k) E) K x)))
    rw [ih (by omega), sv_cm2 hc (by omega)]
theorem sv_cm0 {σ : Type} {F : Nat → Nat → σ → σ} (x : σ) : ∀ K, sv_row (fun k => sv_row (fun e => F e k) 0) K x = x := by
  intro K
  induction K with
  | zero => rfl
  | succ K ih => exact ih
theorem sv_swap {σ : Type} {F : Nat → Nat → σ → σ} {n : Nat} (hc : ∀ k k', k < n → k' < n → k ≠ k' → ∀ e e' x, F e k (F e' k' x) = F e' k' (F e k x)) (x : σ) : ∀ E, sv_row (fun k => sv_row (fun e => F e k) E) n x = sv_row (fun e => sv_row (F e) n) E x := by
  intro E
  induction E with
  | zero => exact sv_cm0 x n
  | succ E ih =>
    rw [sv_cm3 hc E x n (Nat.le_refl n), ih]
    rfl
theorem sv_upd_cm {f : Nat → Int32} {k k' : Nat} {x y : Int32} (h : k ≠ k') : upd (upd f k' y) k x = upd (upd f k x) k' y := by
  funext j
  by_cases e : j = k
  · subst e
    rw [pk_us, pk_un h, pk_us]
  · by_cases e' : j = k'
    · subst e'
      rw [pk_un e, pk_us, pk_us]
    · rw [pk_un e, pk_un e', pk_un e', pk_un e]
section SvSwap
variable {C : SvC}
theorem sv_eR_cm {N N' : Nat → Int32} {k k' : Nat} (h : k ≠ k') (rs : Nat → Int32) : sv_eR C N k (sv_eR C N' k' rs) = sv_eR C N' k' (sv_eR C N k rs) := by
  unfold sv_eR
  rw [pk_un h, pk_un (Ne.symm h)]
  exact sv_upd_cm h
theorem sv_eM_cm {N N' : Nat → Int32} {i i' k k' : Nat} (hU : sv_US C) (hk : k < (sv_n C)) (hk' : k' < (sv_n C)) (h : k ≠ k') (m : Nat → Int32) : sv_eM C N i k (sv_eM C N' i' k' m) = sv_eM C N' i' k' (sv_eM C N i k m) := by
  have key : ∀ (N : Nat → Int32) (i k : Nat), ¬ (sv_o C k = 16 ∨ sv_o C k = 17) → ∀ m, sv_eM C N i k m = m := by
    intro N i k hn m
    unfold sv_eM
    have : (decide (16 ≤ sv_o C k) && decide (sv_o C k ≤ 17)) = false := by
      rw [Bool.and_eq_false_iff, decide_eq_false_iff_not, decide_eq_false_iff_not]
      omega
    rw [this, Bool.false_and, sv_ff]
  by_cases c : sv_o C k = 16 ∨ sv_o C k = 17
  · by_cases c' : sv_o C k' = 16 ∨ sv_o C k' = 17
    · exact absurd (hU k k' hk hk' c c') h
    · rw [key N' i' k' c', key N' i' k' c']
  · rw [key N i k c, key N i k c]
def sv_hit (b : Nat) (o : Int32) (j : Nat) : Nat → Bool
  | 0 => false
  | t + 1 => sv_hit b o j t || decide (j = sv_ad b o t)
theorem sv_tch_h {b : Nat} {o bit : Int32} {tc : Nat → Int32} {j : Nat} : ∀ T, sv_tch b o bit tc T j = if sv_hit b o j T then tc j ||| bit else tc j := by
  intro T
  induction T with
  | zero => rfl
  | succ T ih =>
    show upd (sv_tch b o bit tc T) (sv_ad b o T) _ j = if (sv_hit b o j T || decide (j = sv_ad b o T)) = true then _ else _
    by_cases e : j = sv_ad b o T
    · rw [decide_eq_true e, Bool.or_true, if_pos rfl, ← e, pk_us, ih]
      by_cases c : sv_hit b o j T = true
      · rw [if_pos c, Int32.or_assoc, Int32.or_self]
      · rw [if_neg c]
    · rw [pk_un e, ih, decide_eq_false e, Bool.or_false]
theorem sv_tch_cm {b b' : Nat} {o o' bit bit' : Int32} {T T' : Nat} (tc : Nat → Int32) : sv_tch b o bit (sv_tch b' o' bit' tc T') T = sv_tch b' o' bit' (sv_tch b o bit tc T) T' := by
  funext j
  rw [sv_tch_h, sv_tch_h, sv_tch_h, sv_tch_h]
  by_cases c : sv_hit b o j T = true
  · by_cases c' : sv_hit b' o' j T' = true
    · rw [if_pos c, if_pos c, if_pos c', if_pos c', Int32.or_assoc, Int32.or_assoc, Int32.or_comm bit' bit]
    · rw [if_pos c, if_neg c', if_neg c', if_pos c]
  · rw [if_neg c, if_neg c]
theorem sv_eT_cm {N N' : Nat → Int32} {i i' k k' : Nat} (tc : Nat → Int32) : sv_eT C N i k (sv_eT C N' i' k' tc) = sv_eT C N' i' k' (sv_eT C N i k tc) := by
  unfold sv_eT
  by_cases c : (sv_mn C k && sv_ac C N k) = true
  · by_cases c' : (sv_mn C k' && sv_ac C N' k') = true
    · rw [if_pos c, if_pos c, if_pos c', if_pos c']
      exact sv_tch_cm tc
    · rw [if_pos c, if_neg c', if_neg c', if_pos c]
  · rw [if_neg c, if_neg c]
/-! the sequence's components, node by node -/
theorem sv_sq1 {nx : Nat} {q : SvQ} : ∀ E, (sv_sq C nx q E).1 = sv_row (fun e => sv_row (sv_eM C (sv_Ne C nx q e) (nx + e)) (sv_n C)) E q.1 := by
  intro E
  induction E with
  | zero => rfl
  | succ E ih =>
    show sv_row (sv_eM C (sv_Ne C nx q E) (nx + E)) (sv_n C) (sv_sq C nx q E).1 = _
    rw [ih]
    rfl
theorem sv_sq2 {nx : Nat} {q : SvQ} : ∀ E, (sv_sq C nx q E).2.1 = sv_row (fun e => sv_row (sv_eT C (sv_Ne C nx q e) (nx + e)) (sv_n C)) E q.2.1 := by
  intro E
  induction E with
  | zero => rfl
  | succ E ih =>
    show sv_row (sv_eT C (sv_Ne C nx q E) (nx + E)) (sv_n C) (sv_sq C nx q E).2.1 = _
    rw [ih]
    rfl
theorem sv_sq3 {nx : Nat} {q : SvQ} : ∀ E, (sv_sq C nx q E).2.2 = sv_row (fun e => sv_row (sv_eR C (sv_Ne C nx q e)) (sv_n C)) E q.2.2 := by
  intro E
  induction E with
  | zero => rfl
  | succ E ih =>
    show sv_row (sv_eR C (sv_Ne C nx q E)) (sv_n C) (sv_sq C nx q E).2.2 = _
    rw [ih]
    rfl
/-- node k over the elements below E -/
def sv_cM (C : SvC) (nx : Nat) (q : SvQ) (k E : Nat) (m : Nat → Int32) : Nat → Int32 := sv_row (fun e => sv_eM C (sv_Ne C nx q e) (nx + e) k) E m
def sv_cT (C : SvC) (nx : Nat) (q : SvQ) (k E : Nat) (m : Nat → Int32) : Nat → Int32 := sv_row (fun e => sv_eT C (sv_Ne C nx q e) (nx + e) k) E m
def sv_cR (C : SvC) (nx : Nat) (q : SvQ) (k E : Nat) (m : Nat → Int32) : Nat → Int32 := sv_row (fun e => sv_eR C (sv_Ne C nx q e) k) E m
theorem sv_sw1 {nx E : Nat} {q : SvQ} (hU : sv_US C) : sv_row (fun k => sv_cM C nx q k E) (sv_n C) q.1 = (sv_sq C nx q E).1 := by
  rw [sv_sq1]
  exact sv_swap (F := fun e k => sv_eM C (sv_Ne C nx q e) (nx + e) k) (n := (sv_n C)) (fun k k' hk hk' h e e' x => sv_eM_cm hU hk hk' h x) q.1 E
theorem sv_sw2 {nx E : Nat} {q : SvQ} : sv_row (fun k => sv_cT C nx q k E) (sv_n C) q.2.1 = (sv_sq C nx q E).2.1 := by
  rw [sv_sq2]
  exact sv_swap (F := fun e k => sv_eT C (sv_Ne C nx q e) (nx + e) k) (n := (sv_n C)) (fun k k' hk hk' h e e' x => sv_eT_cm x) q.2.1 E
theorem sv_sw3 {nx E : Nat} {q : SvQ} : sv_row (fun k => sv_cR C nx q k E) (sv_n C) q.2.2 = (sv_sq C nx q E).2.2 := by
  rw [sv_sq3]
  exact sv_swap (F := fun e k => sv_eR C (sv_Ne C nx q e) k) (n := (sv_n C)) (fun k k' hk hk' h e e' x => sv_eR_cm h x) q.2.2 E
/-! the run -/
theorem sv_rn_s {l i t : Nat} {q : SvQ} (h : sv_fl C (sv_N C i q) i (sv_n C) = some t) : sv_rn C (l + 1) i q = (q, i, some t) := by
  rw [sv_rn, h]
theorem sv_rn_n {l i : Nat} {q : SvQ} (h : sv_fl C (sv_N C i q) i (sv_n C) = none) : sv_rn C (l + 1) i q = sv_rn C l (i + 1) (sv_st C (sv_N C i q) i q) := by
  rw [sv_rn, h]
theorem sv_rn_go {nx : Nat} {q : SvQ} : ∀ v l, (∀ e, e < v → sv_fl C (sv_Ne C nx q e) (nx + e) (sv_n C) = none) → sv_rn C (v + l) nx q = sv_rn C l (nx + v) (sv_sq C nx q v) := by
  intro v
  induction v with
  | zero => intro l _; rw [Nat.zero_add]; rfl
  | succ v ih =>
    intro l h
    rw [show v + 1 + l = v + (l + 1) from by omega, ih (l + 1) (fun e he => h e (by omega)), sv_rn_n (h v (by omega))]
    rfl
theorem sv_rn_st {nx v l t : Nat} {q : SvQ} (h : ∀ e, e < v → sv_fl C (sv_Ne C nx q e) (nx + e) (sv_n C) = none) (ht : sv_fl C (sv_Ne C nx q v) (nx + v) (sv_n C) = some t) : sv_rn C (v + (l + 1)) nx q = (sv_sq C nx q v, nx + v, some t) := by
  rw [sv_rn_go v (l + 1) h, sv_rn_s ht]
/-! what a run keeps -/
def sv_TB (tc : Nat → Int32) : Prop := ∀ j, tc j = 0 ∨ tc j = 1 ∨ tc j = 2 ∨ tc j = 3
theorem sv_nd2 (k : Nat) : sv_nd C k = 1 ∨ sv_nd C k = 2 := by
  unfold sv_nd
  by_cases h : sv_o C k ≤ 15
  · exact Or.inl (if_pos h)
  · exact Or.inr (if_neg h)
theorem sv_tb_or {x bit : Int32} (h : x = 0 ∨ x = 1 ∨ x = 2 ∨ x = 3) (hb : bit = 1 ∨ bit = 2) : (x ||| bit = 0 ∨ x ||| bit = 1 ∨ x ||| bit = 2 ∨ x ||| bit = 3) ∧ vp_nar .byte ((x ||| bit).toInt8.toInt32) = x ||| bit := by
  rw [pk_vb]
  rcases h with rfl | rfl | rfl | rfl <;> rcases hb with rfl | rfl <;> decide
theorem sv_tch_tb {b : Nat} {o bit : Int32} {tc : Nat → Int32} (h : sv_TB tc) (hb : bit = 1 ∨ bit = 2) (T : Nat) : sv_TB (sv_tch b o bit tc T) := by
  intro j
  rw [sv_tch_h]
  by_cases c : sv_hit b o j T = true
  · rw [if_pos c]; exact (sv_tb_or (h j) hb).1
  · rw [if_neg c]; exact h j
theorem sv_eT_tb {N : Nat → Int32} {i k : Nat} {tc : Nat → Int32} (h : sv_TB tc) : sv_TB (sv_eT C N i k tc) := by
  unfold sv_eT
  by_cases c : (sv_mn C k && sv_ac C N k) = true
  · rw [if_pos c]; exact sv_tch_tb h (sv_nd2 k) _
  · rw [if_neg c]; exact h
theorem sv_cT_tb {nx : Nat} {q : SvQ} {k : Nat} {tc : Nat → Int32} (h : sv_TB tc) : ∀ E, sv_TB (sv_cT C nx q k E tc) := by
  intro E
  induction E with
  | zero => exact h
  | succ E ih => exact sv_eT_tb ih
theorem sv_rowT_tb {N : Nat → Int32} {i : Nat} {tc : Nat → Int32} (h : sv_TB tc) : ∀ K, sv_TB (sv_row (sv_eT C N i) K tc) := by
  intro K
  induction K with
  | zero => exact h
  | succ K ih => exact sv_eT_tb ih
theorem sv_sq_tb {nx : Nat} {q : SvQ} (h : sv_TB q.2.1) : ∀ E, sv_TB (sv_sq C nx q E).2.1 := by
  intro E
  induction E with
  | zero => exact h
  | succ E ih => exact sv_rowT_tb ih _
/-- a run's end: where, and what is kept -/
theorem sv_rn_ok (hl : (sv_lw C) ≤ 2) (hw : sv_WF C) : ∀ l i q, i + l ≤ 128 → sv_TB q.2.1 → sv_Nar C q.2.2 → sv_TB (sv_rn C l i q).1.2.1 ∧ sv_Nar C (sv_rn C l i q).1.2.2 ∧ ((sv_rn C l i q).2.2 = none → (sv_rn C l i q).2.1 = i + l) ∧ (∀ t, (sv_rn C l i q).2.2 = some t → i ≤ (sv_rn C l i q).2.1 ∧ (sv_rn C l i q).2.1 < i + l) := by
  intro l
  induction l with
  | zero => intro i q _ h1 h2; exact ⟨h1, h2, fun _ => rfl, fun t h => nomatch h⟩
  | succ l ih =>
    intro i q hi h1 h2
    cases e : sv_fl C (sv_N C i q) i (sv_n C) with
    | some t =>
      rw [sv_rn_s e]
      exact ⟨h1, h2, fun h => (nomatch h), fun t _ => ⟨Nat.le_refl _, by show i < i + (l + 1); omega⟩⟩
    | none =>
      rw [sv_rn_n e]
      obtain ⟨a, b, c, d⟩ := ih (i + 1) (sv_st C (sv_N C i q) i q) (by omega) (sv_rowT_tb h1 _) (sv_sq_n (nx := i) (q := q) hl hw h2 1 (by omega))
      refine ⟨a, b, fun h => ?_, fun t h => ?_⟩
      · have := c h; omega
      · have := d t h; omega
end SvSwap
end
section
/-! X's small methods, over raw names -/
theorem sv_slX {lb lg lw k e : Nat} (h3 : lb ≤ 3) (hg : lg ≤ 3) (hl : lw ≤ 2) (hb : sv_sl lb lg lw k e ≤ 256) : (nI k <<< ((nI lb + nI lg) &&& 31)) + (nI e <<< (nI lw &&& 31)) = nI (sv_sl lb lg lw k e) := by
  unfold sv_sl at hb ⊢
  rw [nI_add lb lg, sv_shl (a := k) (l := lb + lg) (by omega) (by omega), sv_shl (a := e) (l := lw) (by omega) (by omega), nI_add]
theorem sv_adX {b : Nat} (hb : b ≤ 1) (o : Int32) (t : Nat) : (nI b <<< ((7 : Int32) &&& 31)) + ((o + nI t) &&& 127) = nI (sv_ad b o t) := by
  rw [pk_shlN (n := b) _ 7 (by decide) (by omega), pk_and (o + nI t) 7 (by decide), nI_add]
  unfold sv_ad
  rw [Nat.mul_comm b]
theorem sv_adY {b : Nat} (o : Int32) (t : Nat) : (128 * nI b) + ((o + nI t) &&& 127) = nI (sv_ad b o t) := by
  rw [show (128 : Int32) * nI b = nI (128 * b) from pk_mul 128 b, pk_and (o + nI t) 7 (by decide), nI_add]
  rfl
theorem sv_pgS {b : Nat} (hb : b ≤ 1) (o : Int32) (t : Nat) : nI (sv_ad b o t) >>> ((4 : Int32) &&& 31) = nI (sv_ad b o t / 16) := by
  have := sv_ad_lt hb o t
  exact pk_shrN (by omega) _ 4 (by decide)
/-- a fault page as an int -/
def sv_fr (x : Option Nat) : Int32 := match x with
  | none => -1
  | some p => nI p
theorem sv_fp_lt {pg : Nat → Int32} {nd : Int32} {b : Nat} {o : Int32} (hb : b ≤ 1) : ∀ d t p, sv_fp pg nd b o d t = some p → p < 16 := by
  intro d
  induction d with
  | zero => intro t p h; exact nomatch h
  | succ d ih =>
    intro t p h
    rw [sv_fp] at h
    by_cases c : nd ≤ pg (sv_ad b o t / 16)
    · rw [if_pos c] at h; exact ih _ _ h
    · rw [if_neg c] at h
      have := sv_ad_lt hb o t
      have e : sv_ad b o t / 16 = p := Option.some.inj h
      omega
/-- X's stores, as bytes -/
def sv_stX (b : Nat) (o v : Int32) (m : Nat → Int32) : Nat → (Nat → Int32)
  | 0 => m
  | t + 1 => upd (sv_stX b o v m t) (sv_ad b o t) (sv_by v t)
theorem sv_stX_m {b : Nat} {o v : Int32} {m : Nat → Int32} : ∀ T, (fun j => sv_stX b o v m T j &&& 255) = sv_stm b o v (fun j => m j &&& 255) T := by
  intro T
  induction T with
  | zero => rfl
  | succ T ih =>
    show _ = upd (sv_stm b o v (fun j => m j &&& 255) T) (sv_ad b o T) _
    rw [← ih]
    funext j
    show upd (sv_stX b o v m T) (sv_ad b o T) (sv_by v T) j &&& 255 = _
    by_cases e : j = sv_ad b o T
    · rw [e, pk_us, pk_us, sv_by255]
    · rw [pk_un e, pk_un e]
theorem sv_andm1 (x : Int32) : x &&& (-1) = x := by
  apply b_ext
  intro i hi
  rw [b_and, b_m1 i hi, Bool.and_true]
theorem sv_srX {lw : Nat} (hl : lw ≤ 2) (x y : Int32) : sv_nr lw (((x &&& (((-1 : Int32).toUInt32 >>> ((32 - ((8 : Int32) <<< (nI lw &&& 31))).toUInt32 &&& Int32.toUInt32 31)).toInt32)).toUInt32 >>> ((y &&& (((8 : Int32) <<< (nI lw &&& 31)) - 1)).toUInt32 &&& Int32.toUInt32 31)).toInt32) = sv_sr lw x y := by
  rcases sv_lw3 hl with rfl | rfl | rfl
  · rw [show (((-1 : Int32).toUInt32 >>> ((32 - ((8 : Int32) <<< (nI 0 &&& 31))).toUInt32 &&& Int32.toUInt32 31)).toInt32) = 255 from by decide, show ((8 : Int32) <<< (nI 0 &&& 31)) - 1 = (8 * nI (2 ^ 0)) - 1 from by decide]
    rfl
  · rw [show (((-1 : Int32).toUInt32 >>> ((32 - ((8 : Int32) <<< (nI 1 &&& 31))).toUInt32 &&& Int32.toUInt32 31)).toInt32) = 65535 from by decide, show ((8 : Int32) <<< (nI 1 &&& 31)) - 1 = (8 * nI (2 ^ 1)) - 1 from by decide]
    rfl
  · rw [show (((-1 : Int32).toUInt32 >>> ((32 - ((8 : Int32) <<< (nI 2 &&& 31))).toUInt32 &&& Int32.toUInt32 31)).toInt32) = -1 from by decide, show ((8 : Int32) <<< (nI 2 &&& 31)) - 1 = (8 * nI (2 ^ 2)) - 1 from by decide, sv_andm1]
    rfl
section SvXb
variable {e1 e2 e3 e4 e5 e6 e7 e8 e9 e10 e11 e12 e13 : Int32} {g1 g2 g3 g4 g5 g6 g7 g8 g9 g10 g11 : Nat → Int32}
theorem xb_narrow {post : Int32 → Prop} {lw : Nat} {x : Int32} (hl : lw ≤ 2) (h : post (sv_nr lw x)) : wpX_narrow post (e1, e2, nI lw, e4, e5, e6, e7, e8, e9, e10, e11, e12, e13, g1, g2, g3, g4, g5, g6, g7, g8, g9, g10, g11) x := by
  unfold wpX_narrow
  dsimp only
  refine nm_e ?_
  rw [sv_nrX hl]
  exact h
theorem xb_get21 {post : Int32 → Prop} {lw b : Nat} (hl : lw ≤ 2) (hb : b + 2 ^ lw ≤ 256) (h : post (sv_nr lw (sv_or (fun t => g4 (b + t) &&& 255) (2 ^ lw)))) : ∀ d t, t + d = 2 ^ lw → wX_get_21 post (nI b) (nI (2 ^ lw)) e1 e2 (nI lw) e4 e5 e6 e7 e8 e9 e10 e11 e12 e13 g1 g2 g3 g4 g5 g6 g7 g8 g9 g10 g11 (d + 1) (sv_or (fun t => g4 (b + t) &&& 255) t) (nI t) := by
  intro d
  induction d with
  | zero =>
    intro t ht
    have e : t = 2 ^ lw := by omega
    subst e
    rw [wX_get_21]
    exact br_t (nI_le (Nat.le_refl _) (by omega)) (xb_narrow hl h)
  | succ d ih =>
    intro t ht
    rw [wX_get_21]
    have c : (nI b + nI t).toNatClampNeg = b + t := by rw [nI_add]; exact nI_clamp (by omega)
    refine br_f (nI_ge (by omega) (by omega)) ⟨?_, nm_r (e' := sv_or (fun t => g4 (b + t) &&& 255) (t + 1)) (by rw [c]; rfl) (nm_r (nI_1 t) (ih (t + 1) (by omega)))⟩
    rw [nI_add]
    exact vp_in_nI (by omega) (by omega)
theorem xb_get {post : Int32 → Prop} {lb lg lw k e : Nat} (h3 : lb ≤ 3) (hg : lg ≤ 3) (hl : lw ≤ 2) (hb : sv_sl lb lg lw k e + 2 ^ lw ≤ 256) (h : post (sv_g lb lg lw g4 k e)) : wpX_get post (nI lb, nI lg, nI lw, e4, e5, e6, e7, e8, e9, e10, e11, e12, e13, g1, g2, g3, g4, g5, g6, g7, g8, g9, g10, g11) (nI k) (nI e) := by
  unfold wpX_get
  dsimp only
  unfold wpX_slot
  dsimp only
  rw [sv_slX h3 hg hl (Nat.le_trans (Nat.le_add_right _ _) hb)]
  refine nm_r (sv_sh1 lw (by omega)) ⟨2 ^ lw + 1, ?_⟩
  exact xb_get21 hl hb h (2 ^ lw) 0 (by omega)
theorem xb_put19 {post : SX → Prop} {lw b : Nat} {v : Int32} (hb : b + 2 ^ lw ≤ 256) (h : post (e1, e2, nI lw, e4, e5, e6, e7, e8, e9, e10, e11, e12, e13, g1, g2, g3, sv_wr g4 b v (2 ^ lw), g5, g6, g7, g8, g9, g10, g11)) : ∀ d t, t + d = 2 ^ lw → wX_put_19 post v (nI b) (nI (2 ^ lw)) e1 e2 (nI lw) e4 e5 e6 e7 e8 e9 e10 e11 e12 e13 (d + 1) (nI t) g1 g2 g3 (sv_wr g4 b v t) g5 g6 g7 g8 g9 g10 g11 := by
  intro d
  induction d with
  | zero =>
    intro t ht
    have e : t = 2 ^ lw := by omega
    subst e
    rw [wX_put_19]
    exact br_t (nI_le (Nat.le_refl _) (by omega)) h
  | succ d ih =>
    intro t ht
    rw [wX_put_19]
    have c : (nI b + nI t).toNatClampNeg = b + t := by rw [nI_add]; exact nI_clamp (by omega)
    refine br_f (nI_ge (by omega) (by omega)) ⟨?_, nm_r (e' := sv_wr g4 b v (t + 1)) (by rw [c]; rfl) (nm_r (nI_1 t) (ih (t + 1) (by omega)))⟩
    rw [nI_add]
    exact vp_in_nI (by omega) (by omega)
theorem xb_put {post : SX → Prop} {lb lg lw k e : Nat} {v : Int32} (h3 : lb ≤ 3) (hg : lg ≤ 3) (hl : lw ≤ 2) (hb : sv_sl lb lg lw k e + 2 ^ lw ≤ 256) (h : post (nI lb, nI lg, nI lw, e4, e5, e6, e7, e8, e9, e10, e11, e12, e13, g1, g2, g3, sv_wr g4 (sv_sl lb lg lw k e) v (2 ^ lw), g5, g6, g7, g8, g9, g10, g11)) : wpX_put post (nI lb, nI lg, nI lw, e4, e5, e6, e7, e8, e9, e10, e11, e12, e13, g1, g2, g3, g4, g5, g6, g7, g8, g9, g10, g11) (nI k) (nI e) v := by
  unfold wpX_put
  dsimp only
  unfold wpX_slot
  dsimp only
  rw [sv_slX h3 hg hl (Nat.le_trans (Nat.le_add_right _ _) hb)]
  refine nm_r (sv_sh1 lw (by omega)) ⟨2 ^ lw + 1, ?_⟩
  exact xb_put19 hb h (2 ^ lw) 0 (by omega)
theorem xb_addr {post : Int32 → Prop} {b : Nat} {o : Int32} {t : Nat} (hb : b ≤ 1) (h : post (nI (sv_ad b o t))) : wpX_addressOf post (e1, e2, e3, e4, e5, e6, e7, e8, e9, e10, e11, e12, e13, g1, g2, g3, g4, g5, g6, g7, g8, g9, g10, g11) (nI b) (o + nI t) := by
  unfold wpX_addressOf
  dsimp only
  rw [sv_adX hb]
  exact h
theorem xb_fp35 {post : Int32 → Prop} {lw b : Nat} {o nd : Int32} (hl : lw ≤ 2) (hb : b ≤ 1) : ∀ d t, t + d = 2 ^ lw → post (sv_fr (sv_fp g3 nd b o d t)) → wX_faultPage_35 post o (nI b) nd (nI (2 ^ lw)) e1 e2 (nI lw) e4 e5 e6 e7 e8 e9 e10 e11 e12 e13 g1 g2 g3 g4 g5 g6 g7 g8 g9 g10 g11 (d + 1) (nI t) := by
  have hp := sv_p24 hl
  intro d
  induction d with
  | zero =>
    intro t ht h
    have e : t = 2 ^ lw := by omega
    subst e
    rw [wX_faultPage_35]
    exact br_t (nI_le (Nat.le_refl _) (by omega)) h
  | succ d ih =>
    intro t ht h
    have hlt := sv_ad_lt hb o t
    have c : (nI (sv_ad b o t / 16)).toNatClampNeg = sv_ad b o t / 16 := nI_clamp (by omega)
    rw [wX_faultPage_35]
    rw [sv_fp] at h
    refine br_f (nI_ge (by omega) (by omega)) (xb_addr hb (nm_r (sv_pgS hb o t) ⟨vp_in_nI (by omega) (by omega), ?_⟩))
    rw [c]
    by_cases z : nd ≤ g3 (sv_ad b o t / 16)
    · rw [if_pos z] at h
      exact br_t z (nm_r (nI_1 t) (ih (t + 1) (by omega) h))
    · rw [if_neg z] at h
      exact br_f z h
theorem xb_ld13 {post : Int32 → Prop} {lw b : Nat} {o : Int32} (hl : lw ≤ 2) (hb : b ≤ 1) (h : post (sv_ld lw (fun j => g1 j &&& 255) b o)) : ∀ d t, t + d = 2 ^ lw → wX_loadElement_13 post (nI b) o (nI (2 ^ lw)) e1 e2 (nI lw) e4 e5 e6 e7 e8 e9 e10 e11 e12 e13 g1 g2 g3 g4 g5 g6 g7 g8 g9 g10 g11 (d + 1) (sv_or (fun t => g1 (sv_ad b o t) &&& 255) t) (nI t) := by
  have hp := sv_p24 hl
  intro d
  induction d with
  | zero =>
    intro t ht
    have e : t = 2 ^ lw := by omega
    subst e
    rw [wX_loadElement_13]
    exact br_t (nI_le (Nat.le_refl _) (by omega)) (xb_narrow hl h)
  | succ d ih =>
    intro t ht
    have hlt := sv_ad_lt hb o t
    have c : (nI (sv_ad b o t)).toNatClampNeg = sv_ad b o t := nI_clamp (by omega)
    rw [wX_loadElement_13]
    exact br_f (nI_ge (by omega) (by omega)) (xb_addr hb ⟨vp_in_nI (by omega) (by omega), nm_r (e' := sv_or (fun t => g1 (sv_ad b o t) &&& 255) (t + 1)) (by rw [c]; rfl) (nm_r (nI_1 t) (ih (t + 1) (by omega)))⟩)
theorem xb_ld {post : Int32 → Prop} {lw b : Nat} {o : Int32} (hl : lw ≤ 2) (hb : b ≤ 1) (h : post (sv_ld lw (fun j => g1 j &&& 255) b o)) : wpX_loadElement post (e1, e2, nI lw, e4, e5, e6, e7, e8, e9, e10, e11, e12, e13, g1, g2, g3, g4, g5, g6, g7, g8, g9, g10, g11) (nI b) o := by
  unfold wpX_loadElement
  dsimp only
  refine nm_r (sv_sh1 lw (by omega)) ⟨2 ^ lw + 1, ?_⟩
  exact xb_ld13 hl hb h (2 ^ lw) 0 (by omega)
theorem xb_st11 {post : SX → Prop} {lw b : Nat} {o v : Int32} (hl : lw ≤ 2) (hb : b ≤ 1) (h : post (e1, e2, nI lw, e4, e5, e6, e7, e8, e9, e10, e11, e12, e13, sv_stX b o v g1 (2 ^ lw), g2, g3, g4, g5, g6, g7, g8, g9, g10, g11)) : ∀ d t, t + d = 2 ^ lw → wX_storeElement_11 post (nI b) o v (nI (2 ^ lw)) e1 e2 (nI lw) e4 e5 e6 e7 e8 e9 e10 e11 e12 e13 (d + 1) (nI t) (sv_stX b o v g1 t) g2 g3 g4 g5 g6 g7 g8 g9 g10 g11 := by
  have hp := sv_p24 hl
  intro d
  induction d with
  | zero =>
    intro t ht
    have e : t = 2 ^ lw := by omega
    subst e
    rw [wX_storeElement_11]
    exact br_t (nI_le (Nat.le_refl _) (by omega)) h
  | succ d ih =>
    intro t ht
    have hlt := sv_ad_lt hb o t
    have c : (nI (sv_ad b o t)).toNatClampNeg = sv_ad b o t := nI_clamp (by omega)
    rw [wX_storeElement_11]
    exact br_f (nI_ge (by omega) (by omega)) (xb_addr hb ⟨vp_in_nI (by omega) (by omega), nm_r (e' := sv_stX b o v g1 (t + 1)) (by rw [c]; rfl) (nm_r (nI_1 t) (ih (t + 1) (by omega)))⟩)
theorem xb_st {post : SX → Prop} {lw b : Nat} {o v : Int32} (hl : lw ≤ 2) (hb : b ≤ 1) (h : post (e1, e2, nI lw, e4, e5, e6, e7, e8, e9, e10, e11, e12, e13, sv_stX b o v g1 (2 ^ lw), g2, g3, g4, g5, g6, g7, g8, g9, g10, g11)) : wpX_storeElement post (e1, e2, nI lw, e4, e5, e6, e7, e8, e9, e10, e11, e12, e13, g1, g2, g3, g4, g5, g6, g7, g8, g9, g10, g11) (nI b) o v := by
  unfold wpX_storeElement
  dsimp only
  refine nm_r (sv_sh1 lw (by omega)) ⟨2 ^ lw + 1, ?_⟩
  exact xb_st11 hl hb h (2 ^ lw) 0 (by omega)
theorem xb_tc11 {post : SX → Prop} {lw b : Nat} {o bit : Int32} (hl : lw ≤ 2) (hb : b ≤ 1) (hT : sv_TB g2) (hbit : bit = 1 ∨ bit = 2) (h : post (e1, e2, nI lw, e4, e5, e6, e7, e8, e9, e10, e11, e12, e13, g1, sv_tch b o bit g2 (2 ^ lw), g3, g4, g5, g6, g7, g8, g9, g10, g11)) : ∀ d t, t + d = 2 ^ lw → wX_touchElement_11 post (nI b) o bit (nI (2 ^ lw)) e1 e2 (nI lw) e4 e5 e6 e7 e8 e9 e10 e11 e12 e13 (d + 1) (nI t) g1 (sv_tch b o bit g2 t) g3 g4 g5 g6 g7 g8 g9 g10 g11 := by
  have hp := sv_p24 hl
  intro d
  induction d with
  | zero =>
    intro t ht
    have e : t = 2 ^ lw := by omega
    subst e
    rw [wX_touchElement_11]
    exact br_t (nI_le (Nat.le_refl _) (by omega)) h
  | succ d ih =>
    intro t ht
    have hlt := sv_ad_lt hb o t
    have c : (nI (sv_ad b o t)).toNatClampNeg = sv_ad b o t := nI_clamp (by omega)
    have hv : vp_in (nI (sv_ad b o t)) 256 := vp_in_nI (by omega) (by omega)
    rw [wX_touchElement_11]
    exact br_f (nI_ge (by omega) (by omega)) (xb_addr hb ⟨hv, hv, nm_r (e' := sv_tch b o bit g2 (t + 1)) (by rw [c, (sv_tb_or (sv_tch_tb hT hbit t (sv_ad b o t)) hbit).2]; rfl) (nm_r (nI_1 t) (ih (t + 1) (by omega)))⟩)
theorem xb_tc {post : SX → Prop} {lw b : Nat} {o bit : Int32} (hl : lw ≤ 2) (hb : b ≤ 1) (hT : sv_TB g2) (hbit : bit = 1 ∨ bit = 2) (h : post (e1, e2, nI lw, e4, e5, e6, e7, e8, e9, e10, e11, e12, e13, g1, sv_tch b o bit g2 (2 ^ lw), g3, g4, g5, g6, g7, g8, g9, g10, g11)) : wpX_touchElement post (e1, e2, nI lw, e4, e5, e6, e7, e8, e9, e10, e11, e12, e13, g1, g2, g3, g4, g5, g6, g7, g8, g9, g10, g11) (nI b) o bit := by
  unfold wpX_touchElement
  dsimp only
  refine nm_r (sv_sh1 lw (by omega)) ⟨2 ^ lw + 1, ?_⟩
  exact xb_tc11 hl hb hT hbit h (2 ^ lw) 0 (by omega)
theorem xb_les {post : Int32 → Prop} {x y : Int32} (h : post (if y ≤ x then y else x)) : wpX_lesser post (e1, e2, e3, e4, e5, e6, e7, e8, e9, e10, e11, e12, e13, g1, g2, g3, g4, g5, g6, g7, g8, g9, g10, g11) x y := by
  unfold wpX_lesser
  dsimp only
  exact br_c (fun c => by rw [if_pos c] at h; exact h) (fun c => by rw [if_neg c] at h; exact h)
theorem xb_gre {post : Int32 → Prop} {x y : Int32} (h : post (if x ≤ y then y else x)) : wpX_greater post (e1, e2, e3, e4, e5, e6, e7, e8, e9, e10, e11, e12, e13, g1, g2, g3, g4, g5, g6, g7, g8, g9, g10, g11) x y := by
  unfold wpX_greater
  dsimp only
  exact br_c (fun c => by rw [if_pos c] at h; exact h) (fun c => by rw [if_neg c] at h; exact h)
theorem xb_shr {post : Int32 → Prop} {lw : Nat} {x y : Int32} (hl : lw ≤ 2) (h : post (sv_sr lw x y)) : wpX_shiftRight post (e1, e2, nI lw, e4, e5, e6, e7, e8, e9, e10, e11, e12, e13, g1, g2, g3, g4, g5, g6, g7, g8, g9, g10, g11) x y := by
  unfold wpX_shiftRight
  dsimp only
  refine nm_e (nm_e (xb_narrow hl ?_))
  rw [sv_srX hl]
  exact h
theorem xb_ar {post : Int32 → Prop} {lw o : Nat} {x y : Int32} (hl : lw ≤ 2) (h2 : 2 ≤ o) (ho : o ≤ 12) (h : post (sv_ar lw o x y)) : wpX_arithmetic post (e1, e2, nI lw, e4, e5, e6, e7, e8, e9, e10, e11, e12, e13, g1, g2, g3, g4, g5, g6, g7, g8, g9, g10, g11) (nI o) x y := by
  unfold wpX_arithmetic
  dsimp only
  have hc : o = 2 ∨ o = 3 ∨ o = 4 ∨ o = 5 ∨ o = 6 ∨ o = 7 ∨ o = 8 ∨ o = 9 ∨ o = 10 ∨ o = 11 ∨ o = 12 := by omega
  rcases hc with rfl | rfl | rfl | rfl | rfl | rfl | rfl | rfl | rfl | rfl | rfl
  · exact br_f (by decide) (br_f (by decide) (br_t (by decide) (xb_narrow hl h)))
  · exact br_f (by decide) (br_f (by decide) (br_f (by decide) (br_t (by decide) (xb_narrow hl h))))
  · exact br_f (by decide) (br_f (by decide) (br_f (by decide) (br_f (by decide) (br_t (by decide) (xb_narrow hl h)))))
  · exact br_f (by decide) (br_f (by decide) (br_f (by decide) (br_f (by decide) (br_f (by decide) (br_t (by decide) h)))))
  · exact br_f (by decide) (br_f (by decide) (br_f (by decide) (br_f (by decide) (br_f (by decide) (br_f (by decide) (br_t (by decide) h))))))
  · exact br_f (by decide) (br_f (by decide) (br_f (by decide) (br_f (by decide) (br_f (by decide) (br_f (by decide) (br_f (by decide) (br_t (by decide) h)))))))
  · exact br_f (by decide) (br_f (by decide) (br_f (by decide) (br_f (by decide) (br_f (by decide) (br_f (by decide) (br_f (by decide) (br_f (by decide) (br_t (by decide) (xb_les h)))))))))
  · exact br_f (by decide) (br_f (by decide) (br_f (by decide) (br_f (by decide) (br_f (by decide) (br_f (by decide) (br_f (by decide) (br_f (by decide) (br_f (by decide) (br_t (by decide) (xb_gre h))))))))))
  · have h' : post (if y ≤ x then 0 else 1) := h
    exact br_f (by decide) (br_f (by decide) (br_f (by decide) (br_f (by decide) (br_f (by decide) (br_f (by decide) (br_f (by decide) (br_f (by decide) (br_f (by decide) (br_f (by decide) (br_t (by decide) (br_c (fun c => by rw [if_pos c] at h'; exact h') (fun c => by rw [if_neg c] at h'; exact h'))))))))))))
  · have h' : post (if x = y then 1 else 0) := h
    exact br_f (by decide) (br_f (by decide) (br_f (by decide) (br_f (by decide) (br_f (by decide) (br_f (by decide) (br_f (by decide) (br_f (by decide) (br_f (by decide) (br_f (by decide) (br_f (by decide) (br_t (by decide) (br_c (fun c => by rw [if_pos c] at h'; exact h') (fun c => by rw [if_neg c] at h'; exact h')))))))))))))
  · exact br_f (by decide) (br_t (by decide) (xb_shr hl h))
theorem xb_red {post : Int32 → Prop} {lw j : Nat} {z x : Int32} (hl : lw ≤ 2) (hj : j ≤ 3) (h : post (sv_rd lw j z x)) : wpX_reduced post (e1, e2, nI lw, e4, e5, e6, e7, e8, e9, e10, e11, e12, e13, g1, g2, g3, g4, g5, g6, g7, g8, g9, g10, g11) (nI j) z x := by
  unfold wpX_reduced
  dsimp only
  have hc : j = 0 ∨ j = 1 ∨ j = 2 ∨ j = 3 := by omega
  rcases hc with rfl | rfl | rfl | rfl
  · exact br_f (by decide) (br_f (by decide) (br_t (by decide) (xb_narrow hl h)))
  · exact br_f (by decide) (br_f (by decide) (br_f (by decide) (br_t (by decide) (xb_les h))))
  · exact br_f (by decide) (br_f (by decide) (br_f (by decide) (br_f (by decide) (br_t (by decide) (xb_gre h)))))
  · exact br_f (by decide) (br_t (by decide) h)
end SvXb
end
section
/-! X's methods on a node and an element -/
/-- what a kernel that runs satisfies -/
def sv_XK (lb lg : Nat) (C : SvC) : Prop := 2 ≤ lb ∧ lb ≤ 3 ∧ lg ≤ 3 ∧ (sv_n C) * 2 ^ lg ≤ 32 ∧ sv_OK C
section SvXc
variable {C : SvC} {lb lg nx : Nat} {cm cp hs st tt tr vl : Int32} {me tb rg rs : Nat → Int32}
theorem sv_XK_b {k e : Nat} (hX : sv_XK lb lg C) (hk : k < (sv_n C)) (he : e < sv_vm lb lg (sv_lw C)) : sv_sl lb lg (sv_lw C) k e + 2 ^ (sv_lw C) ≤ 256 := sv_sl_b hX.1 hX.2.1 hX.2.2.2.2.1 hX.2.2.2.1 hk he
/-- the registers hold the values N of element e for the nodes below K -/
abbrev sv_RA (lb lg : Nat) (C : SvC) (rg : Nat → Int32) (K e : Nat) (N : Nat → Int32) : Prop := ∀ j, j < K → sv_o C j ≤ 15 → sv_g lb lg (sv_lw C) rg j e = N j
theorem xc_get {post : Int32 → Prop} {x : Int32} {k e : Nat} {N : Nat → Int32} (hX : sv_XK lb lg C) (hk : k ≤ (sv_n C)) (hx : sv_VN C k x) (he : e < sv_vm lb lg (sv_lw C)) (ha : sv_RA lb lg C rg k e N) (h : post (N x.toNatClampNeg)) : wpX_get post (nI lb, nI lg, nI (sv_lw C), nI (sv_n C), cm, cp, hs, st, tt, nI (sv_s C), nI nx, tr, vl, me, tb, (sv_pg C), rg, (sv_op C), (sv_ia C), (sv_ib C), (sv_ic C), (sv_mk C), (sv_ps C), rs) x (nI e) := by
  obtain ⟨e1, h2, h3⟩ := hx
  have hg := ha _ h2 h3
  rw [← hg] at h
  generalize x.toNatClampNeg = j at *
  subst e1
  exact xb_get hX.2.1 hX.2.2.1 hX.2.2.2.2.1 (sv_XK_b hX (by omega) he) h
theorem xc_put {post : SX → Prop} {k e : Nat} {v : Int32} (hX : sv_XK lb lg C) (hk : k < (sv_n C)) (he : e < sv_vm lb lg (sv_lw C)) (h : post (nI lb, nI lg, nI (sv_lw C), nI (sv_n C), cm, cp, hs, st, tt, nI (sv_s C), nI nx, tr, vl, me, tb, (sv_pg C), sv_wr rg (sv_sl lb lg (sv_lw C) k e) v (2 ^ (sv_lw C)), (sv_op C), (sv_ia C), (sv_ib C), (sv_ic C), (sv_mk C), (sv_ps C), rs)) : wpX_put post (nI lb, nI lg, nI (sv_lw C), nI (sv_n C), cm, cp, hs, st, tt, nI (sv_s C), nI nx, tr, vl, me, tb, (sv_pg C), rg, (sv_op C), (sv_ia C), (sv_ib C), (sv_ic C), (sv_mk C), (sv_ps C), rs) (nI k) (nI e) v := xb_put hX.2.1 hX.2.2.1 hX.2.2.2.2.1 (sv_XK_b hX hk he) h
theorem xc_act {post : Int32 → Prop} {k e : Nat} {N : Nat → Int32} (hX : sv_XK lb lg C) (hk : k < (sv_n C)) (he : e < sv_vm lb lg (sv_lw C)) (ha : sv_RA lb lg C rg k e N) (h : post (cond (sv_ac C N k) 1 0)) : wpX_isActive post (nI lb, nI lg, nI (sv_lw C), nI (sv_n C), cm, cp, hs, st, tt, nI (sv_s C), nI nx, tr, vl, me, tb, (sv_pg C), rg, (sv_op C), (sv_ia C), (sv_ib C), (sv_ic C), (sv_mk C), (sv_ps C), rs) (nI k) (nI e) := by
  have hn := hX.2.2.2.2.2.1
  have hw := hX.2.2.2.2.2.2.2.1 k hk
  have c : (nI k).toNatClampNeg = k := nI_clamp (by omega)
  have hi : vp_in (nI k) 16 := vp_in_nI (by omega) (by omega)
  unfold wpX_isActive
  dsimp only
  rw [c]
  refine ⟨hi, br_c (fun hm => ?_) (fun hm => ⟨hi, ?_⟩)⟩
  · have e1 : sv_ac C N k = true := by unfold sv_ac; rw [decide_eq_true hm, Bool.true_or]
    rw [e1] at h
    exact h
  · rcases hw.2.2.2.2 with z | z
    · exact absurd z hm
    · refine xc_get hX (by omega) z.1 he ha ?_
      have e2 : sv_ac C N k = !decide (N (sv_m C k) = 0) := by unfold sv_ac; rw [decide_eq_false hm, Bool.false_or]
      rw [e2] at h
      refine br_c (fun c0 => ?_) (fun c0 => ?_)
      · rw [decide_eq_true (show N (sv_m C k) = 0 from c0)] at h
        exact h
      · rw [decide_eq_false (show ¬ N (sv_m C k) = 0 from c0)] at h
        exact h
theorem xc_off {post : Int32 → Prop} {k e : Nat} {N : Nat → Int32} (hX : sv_XK lb lg C) (hk : k < (sv_n C)) (he : e < sv_vm lb lg (sv_lw C)) (ha : sv_RA lb lg C rg k e N) (h14 : 14 ≤ sv_o C k) (h17 : sv_o C k ≤ 17) (h : post (sv_of C N (nx + e) k)) : wpX_offsetOf post (nI lb, nI lg, nI (sv_lw C), nI (sv_n C), cm, cp, hs, st, tt, nI (sv_s C), nI nx, tr, vl, me, tb, (sv_pg C), rg, (sv_op C), (sv_ia C), (sv_ib C), (sv_ic C), (sv_mk C), (sv_ps C), rs) (nI k) (nI e) := by
  have hn := hX.2.2.2.2.2.1
  have hw := hX.2.2.2.2.2.2.2.1 k hk
  have c : (nI k).toNatClampNeg = k := nI_clamp (by omega)
  have hi : vp_in (nI k) 16 := vp_in_nI (by omega) (by omega)
  unfold wpX_offsetOf
  dsimp only
  rw [c]
  refine nm_r (nI_add nx e) ⟨hi, nm_r hw.1.1 ?_⟩
  unfold sv_of at h
  have hc : sv_o C k = 14 ∨ sv_o C k = 15 ∨ sv_o C k = 16 ∨ sv_o C k = 17 := by omega
  rcases hc with z | z | z | z
  · rw [if_pos z] at h
    rw [z]
    exact br_f (by decide) (br_f (by decide) (br_t (by decide) ⟨hi, hi, h⟩))
  · rw [if_neg (by omega), if_pos z] at h
    have hv := hw.2.1 ⟨by omega, by omega⟩
    rw [z]
    exact br_f (by decide) (br_f (by decide) (br_f (by decide) (br_t (by decide) ⟨hi, hi, xc_get hX (by omega) hv he ha h⟩)))
  · rw [if_neg (by omega), if_neg (by omega), if_pos z] at h
    rw [z]
    exact br_f (by decide) (br_f (by decide) (br_f (by decide) (br_f (by decide) (br_t (by decide) ⟨hi, hi, h⟩))))
  · rw [if_neg (by omega), if_neg (by omega), if_neg (by omega)] at h
    have hv := hw.2.2.1 (Or.inr z)
    rw [z]
    exact br_f (by decide) (br_t (by decide) ⟨hi, hi, xc_get hX (by omega) hv he ha h⟩)
theorem sv_1s {s : Nat} (h : s ≤ 1) : (1 : Int32) - nI s = nI (1 - s) := pk_sub (a := 1) h
theorem sv_15 {o : Nat} {A B : Prop} (ho : o ≤ 18) (f : 16 ≤ o → A) (g : o ≤ 15 → B) : (15 < nI o → A) ∧ (¬ 15 < nI o → B) := pk_lt 15 o (fun h => f (by omega)) (fun h => g (by omega))
theorem sv_bk1 {k : Nat} (h : (sv_s C) ≤ 1) : sv_bk C k ≤ 1 := by
  unfold sv_bk
  by_cases z : sv_o C k ≤ 15
  · rw [if_pos z]; exact h
  · rw [if_neg z]; omega
theorem xc_bank {post : Int32 → Prop} {k : Nat} (hX : sv_XK lb lg C) (hk : k < (sv_n C)) (h : post (nI (sv_bk C k))) : wpX_bankOf post (nI lb, nI lg, nI (sv_lw C), nI (sv_n C), cm, cp, hs, st, tt, nI (sv_s C), nI nx, tr, vl, me, tb, (sv_pg C), rg, (sv_op C), (sv_ia C), (sv_ib C), (sv_ic C), (sv_mk C), (sv_ps C), rs) (nI k) := by
  have hn := hX.2.2.2.2.2.1
  have hw := hX.2.2.2.2.2.2.2.1 k hk
  have c : (nI k).toNatClampNeg = k := nI_clamp (by omega)
  unfold wpX_bankOf
  dsimp only
  rw [c, hw.1.1]
  unfold sv_bk at h
  refine ⟨vp_in_nI (by omega) (by omega), sv_15 hw.1.2 (fun z => ?_) (fun z => ?_)⟩
  · rw [if_neg (by omega)] at h
    rw [sv_1s hX.2.2.2.2.2.2.1]
    exact h
  · rw [if_pos z] at h
    exact h
theorem xc_fp {post : Int32 → Prop} {k : Nat} {o : Int32} (hX : sv_XK lb lg C) (hk : k < (sv_n C)) (h : post (sv_fr (sv_fp (sv_pg C) (sv_nd C k) (sv_bk C k) o (2 ^ (sv_lw C)) 0))) : wpX_faultPage post (nI lb, nI lg, nI (sv_lw C), nI (sv_n C), cm, cp, hs, st, tt, nI (sv_s C), nI nx, tr, vl, me, tb, (sv_pg C), rg, (sv_op C), (sv_ia C), (sv_ib C), (sv_ic C), (sv_mk C), (sv_ps C), rs) (nI k) o := by
  have hn := hX.2.2.2.2.2.1
  have hw := hX.2.2.2.2.2.2.2.1 k hk
  have hl := hX.2.2.2.2.1
  have hb : sv_bk C k ≤ 1 := sv_bk1 hX.2.2.2.2.2.2.1
  have c : (nI k).toNatClampNeg = k := nI_clamp (by omega)
  unfold wpX_faultPage
  dsimp only
  refine xc_bank hX hk ?_
  rw [c, hw.1.1]
  refine ⟨vp_in_nI (by omega) (by omega), sv_15 hw.1.2 (fun z => ?_) (fun z => ?_)⟩
  · unfold sv_nd at h
    rw [if_neg (by omega)] at h
    unfold wX_faultPage_22
    exact nm_r (sv_sh1 _ (by omega)) ⟨2 ^ (sv_lw C) + 1, xb_fp35 hl hb (2 ^ (sv_lw C)) 0 (by omega) h⟩
  · unfold sv_nd at h
    rw [if_pos z] at h
    unfold wX_faultPage_22
    exact nm_r (sv_sh1 _ (by omega)) ⟨2 ^ (sv_lw C) + 1, xb_fp35 hl hb (2 ^ (sv_lw C)) 0 (by omega) h⟩
theorem xc_ae {post : Int32 → SX → Prop} {k e : Nat} {N : Nat → Int32} (hX : sv_XK lb lg C) (hk : k < (sv_n C)) (he : e < sv_vm lb lg (sv_lw C)) (ha : sv_RA lb lg C rg k e N) (h14 : 14 ≤ sv_o C k) (h17 : sv_o C k ≤ 17)
    (hS : ∀ p, sv_fp (sv_pg C) (sv_nd C k) (sv_bk C k) (sv_of C N (nx + e) k) (2 ^ (sv_lw C)) 0 = some p → p < 16 → post (nI p) (nI lb, nI lg, nI (sv_lw C), nI (sv_n C), cm, cp, hs, st, tt, nI (sv_s C), nI nx, tr, vl, me, tb, (sv_pg C), rg, (sv_op C), (sv_ia C), (sv_ib C), (sv_ic C), (sv_mk C), (sv_ps C), rs))
    (hA : sv_fp (sv_pg C) (sv_nd C k) (sv_bk C k) (sv_of C N (nx + e) k) (2 ^ (sv_lw C)) 0 = none → 16 ≤ sv_o C k → post (-1) (nI lb, nI lg, nI (sv_lw C), nI (sv_n C), cm, cp, hs, st, tt, nI (sv_s C), nI nx, tr, vl, me, tb, (sv_pg C), rg, (sv_op C), (sv_ia C), (sv_ib C), (sv_ic C), (sv_mk C), (sv_ps C), rs))
    (hL : sv_fp (sv_pg C) (sv_nd C k) (sv_bk C k) (sv_of C N (nx + e) k) (2 ^ (sv_lw C)) 0 = none → sv_o C k ≤ 15 → post (-1) (nI lb, nI lg, nI (sv_lw C), nI (sv_n C), cm, cp, hs, st, tt, nI (sv_s C), nI nx, tr, vl, me, tb, (sv_pg C), sv_wr rg (sv_sl lb lg (sv_lw C) k e) (sv_ld (sv_lw C) (fun j => me j &&& 255) (sv_s C) (sv_of C N (nx + e) k)) (2 ^ (sv_lw C)), (sv_op C), (sv_ia C), (sv_ib C), (sv_ic C), (sv_mk C), (sv_ps C), rs)) : wpX_accessElement post (nI lb, nI lg, nI (sv_lw C), nI (sv_n C), cm, cp, hs, st, tt, nI (sv_s C), nI nx, tr, vl, me, tb, (sv_pg C), rg, (sv_op C), (sv_ia C), (sv_ib C), (sv_ic C), (sv_mk C), (sv_ps C), rs) (nI k) (nI e) := by
  have hn := hX.2.2.2.2.2.1
  have hw := hX.2.2.2.2.2.2.2.1 k hk
  have hl := hX.2.2.2.2.1
  have hs1 := hX.2.2.2.2.2.2.1
  have c : (nI k).toNatClampNeg = k := nI_clamp (by omega)
  unfold wpX_accessElement
  dsimp only
  refine xc_off hX hk he ha h14 h17 ?_
  refine xc_fp hX hk ?_
  rw [c, hw.1.1]
  cases hf : sv_fp (sv_pg C) (sv_nd C k) (sv_bk C k) (sv_of C N (nx + e) k) (2 ^ (sv_lw C)) 0 with
  | some p =>
    have hp := sv_fp_lt (sv_bk1 hs1) _ _ _ hf
    exact br_t (nI_pos' (by omega)) (hS p hf hp)
  | none =>
    refine br_f (by decide) ⟨vp_in_nI (by omega) (by omega), sv_15 hw.1.2 (fun z => hA hf z) (fun z => ?_)⟩
    refine xb_ld hl hs1 ?_
    exact xc_put hX hk he (hL hf z)
/-- what a slide reads: the registers of the element before, or the results -/
def sv_SL (lb lg : Nat) (C : SvC) (rg rs : Nat → Int32) (k e : Nat) (pv : Nat → Int32) : Prop := (e = 0 ∧ ∀ j, pv j = rs j) ∨ (0 < e ∧ sv_RA lb lg C rg k (e - 1) pv)
theorem xc_comp {post : Int32 → Prop} {k e : Nat} {N pv m : Nat → Int32} (hX : sv_XK lb lg C) (hk : k < (sv_n C)) (he : e < sv_vm lb lg (sv_lw C)) (hnx : nx < 2 ^ 20) (ha : sv_RA lb lg C rg k e N) (hp : sv_SL lb lg C rg rs k e pv) (h13 : sv_o C k ≤ 13) (h : post (sv_vc C m (nx + e) pv N k)) : wpX_compute post (nI lb, nI lg, nI (sv_lw C), nI (sv_n C), cm, cp, hs, st, tt, nI (sv_s C), nI nx, tr, vl, me, tb, (sv_pg C), rg, (sv_op C), (sv_ia C), (sv_ib C), (sv_ic C), (sv_mk C), (sv_ps C), rs) (nI k) (nI e) := by
  have hn := hX.2.2.2.2.2.1
  have hw := hX.2.2.2.2.2.2.2.1 k hk
  have hl := hX.2.2.2.2.1
  have c : (nI k).toNatClampNeg = k := nI_clamp (by omega)
  have hi : vp_in (nI k) 16 := vp_in_nI (by omega) (by omega)
  have he2 : e < 2 ^ 6 := Nat.lt_of_lt_of_le he (Nat.pow_le_pow_right (by decide) (by have := hX.2.1; have := hX.2.2.1; omega))
  unfold wpX_compute
  dsimp only
  rw [c]
  refine ⟨hi, nm_r hw.1.1 ?_⟩
  unfold sv_vc at h
  by_cases e0 : sv_o C k = 0
  · rw [if_pos e0] at h
    rw [e0]
    exact br_t (by decide) ⟨hi, xb_narrow hl h⟩
  rw [if_neg e0] at h
  by_cases e1 : sv_o C k = 1
  · rw [if_pos e1] at h
    rw [e1, nI_add]
    exact br_f (by decide) (br_t (by decide) h)
  rw [if_neg e1] at h
  by_cases e13 : sv_o C k = 13
  · rw [if_pos e13] at h
    have hv := hw.2.1 ⟨by omega, by omega⟩
    rw [e13]
    refine br_f (by decide) (br_f (by decide) (br_t (by decide) ?_))
    unfold wpX_slideIn
    dsimp only
    rw [c]
    rcases hp with ⟨z, hr⟩ | ⟨z, hr⟩
    · subst z
      refine br_t (by decide) (br_c (fun q => ⟨hi, xb_narrow hl ?_⟩) (fun q => ⟨hi, ?_, ?_⟩))
      · have : nx = 0 := by
          rw [← nI_0, nI_eq (by omega) (by omega)] at q
          exact q
        rw [if_pos (by omega)] at h
        exact h
      · have h2 := hv.1
        have h3 := hv.2.1
        rw [h2]
        exact vp_in_nI (by omega) (by omega)
      · have : nx ≠ 0 := by
          intro y
          apply q
          rw [y]
          exact nI_0
        rw [if_neg (by omega), hr] at h
        exact h
    · refine br_f (nI_nle z (by omega)) ⟨hi, ?_⟩
      rw [show nI e - 1 = nI (e - 1) from pk_sub (b := 1) (by omega)]
      rw [if_neg (by omega)] at h
      exact xc_get hX (by omega) hv (by omega) hr h
  rw [if_neg e13, if_neg (by omega)] at h
  have hva := hw.2.1 ⟨by omega, by omega⟩
  have hvb := hw.2.2.1 (Or.inl ⟨by omega, by omega⟩)
  refine br_f ?_ (br_f ?_ (br_f ?_ ⟨hi, ?_⟩))
  · intro y
    exact e0 ((nI_eq (by omega) (by omega)).mp (y.trans nI_0.symm))
  · intro y
    exact e1 ((nI_eq (b := 1) (by omega) (by omega)).mp y)
  · intro y
    exact e13 ((nI_eq (b := 13) (by omega) (by omega)).mp y)
  · refine xc_get hX (by omega) hva he ha ⟨hi, ?_⟩
    refine xc_get hX (by omega) hvb he ha ?_
    exact xb_ar hl (by omega) (by omega) h
end SvXc
end
section
/-! X: a strip's values and faults -/
section SvXs
variable {C : SvC} {lb lg nx : Nat} {cm cp hs st tt tr vl : Int32} {me tb rg rs : Nat → Int32} {q : SvQ}
def sv_RK (lb lg : Nat) (C : SvC) (nx : Nat) (q : SvQ) (rg : Nat → Int32) (K v : Nat) : Prop := ∀ e, e < v → sv_RA lb lg C rg K e (sv_Ne C nx q e)
def sv_RP (lb lg : Nat) (C : SvC) (nx : Nat) (q : SvQ) (rg : Nat → Int32) (K e : Nat) : Prop := ∀ e', e' < e → sv_o C K ≤ 15 → sv_g lb lg (sv_lw C) rg K e' = sv_Ne C nx q e' K
theorem sv_RK_up {K v : Nat} (R : sv_RK lb lg C nx q rg K v) (P : sv_RP lb lg C nx q rg K v) : sv_RK lb lg C nx q rg (K + 1) v := by
  intro e he j hj ho
  by_cases z : j = K
  · subst z; exact P e he ho
  · exact R e he j (by omega) ho
theorem sv_RK_le {K v v' : Nat} (R : sv_RK lb lg C nx q rg K v) (h : v' ≤ v) : sv_RK lb lg C nx q rg K v' := fun e he => R e (by omega)
theorem sv_RP0 {K : Nat} : sv_RP lb lg C nx q rg K 0 := fun e he => absurd he (by omega)
theorem sv_RK_put {K e v : Nat} {x : Int32} (hX : sv_XK lb lg C) (hv : v ≤ sv_vm lb lg (sv_lw C)) (he : e < v) (R : sv_RK lb lg C nx q rg K v) : sv_RK lb lg C nx q (sv_wr rg (sv_sl lb lg (sv_lw C) K e) x (2 ^ (sv_lw C))) K v := by
  intro e' he' j hj ho
  rw [sv_gp_ne hX.1 hX.2.2.2.2.1 (by omega) (by omega) (by omega)]
  exact R e' he' j hj ho
theorem sv_RP_put {K e v : Nat} {x : Int32} (hX : sv_XK lb lg C) (hv : v ≤ sv_vm lb lg (sv_lw C)) (he : e < v) (P : sv_RP lb lg C nx q rg K e) (hx : sv_nr (sv_lw C) x = sv_Ne C nx q e K) : sv_RP lb lg C nx q (sv_wr rg (sv_sl lb lg (sv_lw C) K e) x (2 ^ (sv_lw C))) K (e + 1) := by
  intro e' he' ho
  by_cases z : e' = e
  · subst z
    rw [sv_gp hX.2.2.2.2.1, hx]
  · rw [sv_gp_ne hX.1 hX.2.2.2.2.1 (by omega) (by omega) (by omega)]
    exact P e' (by omega) ho
theorem sv_SL_of {K e v : Nat} (R : sv_RK lb lg C nx q rg K v) (he : e < v) (hr : q.2.2 = rs) : sv_SL lb lg C rg rs K e (sv_pv C nx q e) := by
  cases e with
  | zero => exact Or.inl ⟨rfl, fun j => by rw [← hr]; rfl⟩
  | succ e => exact Or.inr ⟨by omega, fun j hj ho => R e (by omega) j hj ho⟩
/-- the value that X finds is the value of the picture, and narrow -/
theorem sv_val_a {K e : Nat} (hX : sv_XK lb lg C) (hK : K < (sv_n C)) (ho : sv_o C K ≤ 15) (ha : sv_ac C (sv_Ne C nx q e) K = true) : sv_vc C q.1 (nx + e) (sv_pv C nx q e) (sv_Ne C nx q e) K = sv_Ne C nx q e K := by
  rw [sv_Ne_fix (e := e) hX.2.2.2.2.2.2.1 hX.2.2.2.2.2.2.2.1 hK ho]
  unfold sv_vv
  rw [if_pos ha]
theorem sv_val_p {K e : Nat} (hX : sv_XK lb lg C) (hK : K < (sv_n C)) (ho : sv_o C K ≤ 15) (ha : sv_ac C (sv_Ne C nx q e) K = false) : sv_Ne C nx q e (sv_p C K) = sv_Ne C nx q e K := by
  rw [sv_Ne_fix (e := e) (k := K) hX.2.2.2.2.2.2.1 hX.2.2.2.2.2.2.2.1 hK ho]
  unfold sv_vv
  rw [if_neg (by rw [ha]; decide)]
theorem sv_pass {K : Nat} {N : Nat → Int32} (hw : sv_WK C K) (ha : sv_ac C N K = false) : sv_VN C K ((sv_ps C) K) := by
  rcases hw.2.2.2.2 with h | h
  · exact absurd (show sv_ac C N K = true from by unfold sv_ac; rw [decide_eq_true h, Bool.true_or]) (by rw [ha]; decide)
  · exact h.2
theorem xs_cs7 {post : SX → Prop} {K v : Nat} (hX : sv_XK lb lg C) (hK : K < (sv_n C)) (hv : v ≤ sv_vm lb lg (sv_lw C)) (hnv : nx + v ≤ 128) (hq : sv_Nar C q.2.2) (hr : q.2.2 = rs) (ho : sv_o C K ≤ 13)
    (hP : ∀ rg, sv_RK lb lg C nx q rg (K + 1) v → post (nI lb, nI lg, nI (sv_lw C), nI (sv_n C), cm, cp, hs, st, tt, nI (sv_s C), nI nx, tr, nI v, me, tb, (sv_pg C), rg, (sv_op C), (sv_ia C), (sv_ib C), (sv_ic C), (sv_mk C), (sv_ps C), rs)) : ∀ d e rg, e + d = v → sv_RK lb lg C nx q rg K v → sv_RP lb lg C nx q rg K e → wX_computeStrip_7 post (nI K) (nI v) (d + 1) (nI e) (nI lb) (nI lg) (nI (sv_lw C)) (nI (sv_n C)) cm cp hs st tt (nI (sv_s C)) (nI nx) tr (nI v) me tb (sv_pg C) rg (sv_op C) (sv_ia C) (sv_ib C) (sv_ic C) (sv_mk C) (sv_ps C) rs := by
  have hn := hX.2.2.2.2.2.1
  have hl := hX.2.2.2.2.1
  have hw := hX.2.2.2.2.2.2.2.1 K hK
  have c : (nI K).toNatClampNeg = K := nI_clamp (by omega)
  intro d
  induction d with
  | zero =>
    intro e rg he R P
    have e1 : e = v := by omega
    subst e1
    rw [wX_computeStrip_7]
    exact br_t (nI_le (Nat.le_refl _) (by omega)) (hP rg (sv_RK_up R P))
  | succ d ih =>
    intro e rg he R P
    have hN : sv_nr (sv_lw C) (sv_Ne C nx q e K) = sv_Ne C nx q e K := sv_Ne_n hl hX.2.2.2.2.2.2.2.1 hq (by omega) K hK (by omega)
    have hput : ∀ x, x = sv_Ne C nx q e K → wX_computeStrip_41 post (wX_computeStrip_7 post (nI K) (nI v) (d + 1)) (nI K) (nI v) (nI e) x (nI lb) (nI lg) (nI (sv_lw C)) (nI (sv_n C)) cm cp hs st tt (nI (sv_s C)) (nI nx) tr (nI v) me tb (sv_pg C) rg (sv_op C) (sv_ia C) (sv_ib C) (sv_ic C) (sv_mk C) (sv_ps C) rs := by
      intro x hx
      unfold wX_computeStrip_41
      refine xc_put hX hK (by omega) ?_
      exact nm_r (nI_1 e) (ih (e + 1) _ (by omega) (sv_RK_put hX hv (by omega) R) (sv_RP_put hX hv (by omega) P (by rw [hx]; exact hN)))
    rw [wX_computeStrip_7]
    refine br_f (nI_ge (by omega) (by omega)) (xc_act hX hK (by omega) (R e (by omega)) ?_)
    rw [c]
    cases ha : sv_ac C (sv_Ne C nx q e) K with
    | true =>
      refine br_f (by decide) (xc_comp (m := q.1) hX hK (by omega) (by omega) (R e (by omega)) (sv_SL_of R (by omega) hr) ho ?_)
      exact hput _ (sv_val_a hX hK (by omega) ha)
    | false =>
      refine br_t (by decide) ⟨vp_in_nI (by omega) (by omega), xc_get hX (by omega) (sv_pass hw ha) (by omega) (R e (by omega)) ?_⟩
      exact hput _ (sv_val_p hX hK (by omega) ha)
theorem sv_ft_off {N : Nat → Int32} {i k : Nat} (h : ¬ (14 ≤ sv_o C k ∧ sv_o C k ≤ 17)) : sv_ft C N i k = none := by
  unfold sv_ft
  rw [show sv_mn C k = false from sv_bf (fun z => h (sv_mn_r z)), Bool.false_and, sv_ff]
theorem sv_mn_of {k : Nat} (h1 : 14 ≤ sv_o C k) (h2 : sv_o C k ≤ 17) : sv_mn C k = true := by
  unfold sv_mn
  rw [decide_eq_true h1, decide_eq_true h2]
  rfl
theorem sv_ft_a {N : Nat → Int32} {i k : Nat} (h1 : 14 ≤ sv_o C k) (h2 : sv_o C k ≤ 17) (ha : sv_ac C N k = true) : sv_ft C N i k = sv_fp (sv_pg C) (sv_nd C k) (sv_bk C k) (sv_of C N i k) (2 ^ (sv_lw C)) 0 := by
  unfold sv_ft
  rw [sv_mn_of h1 h2, ha, sv_tt]
theorem sv_ft_p {N : Nat → Int32} {i k : Nat} (ha : sv_ac C N k = false) : sv_ft C N i k = none := by
  unfold sv_ft
  rw [ha, Bool.and_false, sv_ff]
theorem xs_as7 {post : SX → Prop} {K v : Nat} (hX : sv_XK lb lg C) (hK : K < (sv_n C)) (hv : v ≤ sv_vm lb lg (sv_lw C)) (hnv : nx + v ≤ 128) (hq : sv_Nar C q.2.2) (hm : q.1 = (fun j => me j &&& 255)) (h14 : 14 ≤ sv_o C K) (h17 : sv_o C K ≤ 17)
    (hD : ∀ rg, sv_RK lb lg C nx q rg (K + 1) v → (∀ e, e < v → sv_ft C (sv_Ne C nx q e) (nx + e) K = none) → post (nI lb, nI lg, nI (sv_lw C), nI (sv_n C), cm, cp, hs, st, tt, nI (sv_s C), nI nx, tr, nI v, me, tb, (sv_pg C), rg, (sv_op C), (sv_ia C), (sv_ib C), (sv_ic C), (sv_mk C), (sv_ps C), rs))
    (hT : ∀ rg e p, e < v → sv_RK lb lg C nx q rg (K + 1) e → (∀ e', e' < e → sv_ft C (sv_Ne C nx q e') (nx + e') K = none) → sv_ft C (sv_Ne C nx q e) (nx + e) K = some p → p < 16 → post (nI lb, nI lg, nI (sv_lw C), nI (sv_n C), cm, cp, hs, st, tt, nI (sv_s C), nI nx, nI (K * 16 + p), nI e, me, tb, (sv_pg C), rg, (sv_op C), (sv_ia C), (sv_ib C), (sv_ic C), (sv_mk C), (sv_ps C), rs)) : ∀ d e rg, e + d = v → sv_RK lb lg C nx q rg K v → sv_RP lb lg C nx q rg K e → (∀ e', e' < e → sv_ft C (sv_Ne C nx q e') (nx + e') K = none) → wX_accessStrip_7 post (nI K) (nI v) (d + 1) (nI e) (nI lb) (nI lg) (nI (sv_lw C)) (nI (sv_n C)) cm cp hs st tt (nI (sv_s C)) (nI nx) tr (nI v) me tb (sv_pg C) rg (sv_op C) (sv_ia C) (sv_ib C) (sv_ic C) (sv_mk C) (sv_ps C) rs := by
  have hn := hX.2.2.2.2.2.1
  have hl := hX.2.2.2.2.1
  have hw := hX.2.2.2.2.2.2.2.1 K hK
  have c : (nI K).toNatClampNeg = K := nI_clamp (by omega)
  intro d
  induction d with
  | zero =>
    intro e rg he R P F
    have e1 : e = v := by omega
    subst e1
    rw [wX_accessStrip_7]
    exact br_t (nI_le (Nat.le_refl _) (by omega)) (hD rg (sv_RK_up R P) F)
  | succ d ih =>
    intro e rg he R P F
    have F1 : sv_ft C (sv_Ne C nx q e) (nx + e) K = none → ∀ e', e' < e + 1 → sv_ft C (sv_Ne C nx q e') (nx + e') K = none := by
      intro h e' he'
      by_cases z : e' = e
      · subst z; exact h
      · exact F e' (by omega)
    rw [wX_accessStrip_7]
    refine br_f (nI_ge (by omega) (by omega)) (xc_act hX hK (by omega) (R e (by omega)) ?_)
    dsimp only
    rw [c, hw.1.1]
    cases ha : sv_ac C (sv_Ne C nx q e) K with
    | true =>
      refine br_f (by decide) (xc_ae hX hK (by omega) (R e (by omega)) h14 h17 ?_ ?_ ?_)
      · intro p hp h16
        rw [← sv_ft_a h14 h17 ha] at hp
        refine br_f (nI_pos (by omega)) (nm_r (e' := nI (K * 16 + p)) ?_ ?_)
        · rw [show nI K * 16 = nI (K * 16) from pk_mul K 16, nI_add]
        · exact hT rg e p (by omega) (sv_RK_up (sv_RK_le R (by omega)) P) F hp h16
      · intro hp h16
        rw [← sv_ft_a h14 h17 ha] at hp
        exact br_t (by decide) (nm_r (nI_1 e) (ih (e + 1) rg (by omega) R (fun e' he' ho => absurd ho (by omega)) (F1 hp)))
      · intro hp h15
        rw [← sv_ft_a h14 h17 ha] at hp
        refine br_t (by decide) (nm_r (nI_1 e) (ih (e + 1) _ (by omega) (sv_RK_put hX hv (by omega) R) (sv_RP_put hX hv (by omega) P ?_) (F1 hp)))
        have hN : sv_nr (sv_lw C) (sv_Ne C nx q e K) = sv_Ne C nx q e K := sv_Ne_n hl hX.2.2.2.2.2.2.2.1 hq (by omega) K hK (by omega)
        rw [← hm]
        have hx := sv_val_a (nx := nx) (q := q) (e := e) hX hK h15 ha
        unfold sv_vc at hx
        rw [if_neg (by omega), if_neg (by omega), if_neg (by omega), if_pos h14] at hx
        rw [hx]
        exact hN
    | false =>
      refine br_t (by decide) ⟨vp_in_nI (by omega) (by omega), sv_15 hw.1.2 (fun z => ?_) (fun z => ⟨vp_in_nI (by omega) (by omega), ?_⟩)⟩
      · exact nm_r (nI_1 e) (ih (e + 1) rg (by omega) R (fun e' he' ho => absurd ho (by omega)) (F1 (sv_ft_p ha)))
      · refine xc_get hX (by omega) (sv_pass hw ha) (by omega) (R e (by omega)) ?_
        refine xc_put hX hK (by omega) ?_
        refine nm_r (nI_1 e) (ih (e + 1) _ (by omega) (sv_RK_put hX hv (by omega) R) (sv_RP_put hX hv (by omega) P ?_) (F1 (sv_ft_p ha)))
        have hN : sv_nr (sv_lw C) (sv_Ne C nx q e K) = sv_Ne C nx q e K := sv_Ne_n hl hX.2.2.2.2.2.2.2.1 hq (by omega) K hK (by omega)
        have hx := sv_val_p (nx := nx) (q := q) (e := e) hX hK z ha
        show sv_nr (sv_lw C) (sv_Ne C nx q e (sv_p C K)) = _
        rw [hx]
        exact hN
theorem sv_fl_n {N : Nat → Int32} {i K : Nat} (h : sv_fl C N i K = none) (hf : sv_ft C N i K = none) : sv_fl C N i (K + 1) = none := by
  rw [sv_fl, h, hf]
  rfl
theorem sv_fl_s {N : Nat → Int32} {i K t : Nat} (h : sv_fl C N i K = some t) : sv_fl C N i (K + 1) = some t := by
  rw [sv_fl, h]
theorem sv_fl_f {N : Nat → Int32} {i K p : Nat} (h : sv_fl C N i K = none) (hf : sv_ft C N i K = some p) : sv_fl C N i (K + 1) = some (K * 16 + p) := by
  rw [sv_fl, h, hf]
  rfl
/-- a strip of L elements after K nodes -/
def sv_IX (lb lg : Nat) (C : SvC) (nx : Nat) (q : SvQ) (L K v : Nat) (tr : Int32) (rg : Nat → Int32) : Prop :=
  v ≤ L ∧ sv_RK lb lg C nx q rg K v ∧ (∀ e, e < v → sv_fl C (sv_Ne C nx q e) (nx + e) K = none) ∧ ((v = L ∧ tr = -1) ∨ (v < L ∧ ∃ t, t < 256 ∧ sv_fl C (sv_Ne C nx q v) (nx + v) K = some t ∧ tr = nI t))
theorem sv_IX_up {L K v : Nat} {tr : Int32} {rg rg' : Nat → Int32} (h : sv_IX lb lg C nx q L K v tr rg) (R : sv_RK lb lg C nx q rg' (K + 1) v) (F : ∀ e, e < v → sv_ft C (sv_Ne C nx q e) (nx + e) K = none) : sv_IX lb lg C nx q L (K + 1) v tr rg' := by
  obtain ⟨h1, h2, h3, h4⟩ := h
  refine ⟨h1, R, fun e he => sv_fl_n (h3 e he) (F e he), ?_⟩
  rcases h4 with z | ⟨z, t, ht, hf, hr⟩
  · exact Or.inl z
  · exact Or.inr ⟨z, t, ht, sv_fl_s hf, hr⟩
theorem xs_ex {post : SX → Prop} {L K v : Nat} (hX : sv_XK lb lg C) (hK : K < (sv_n C)) (hL : L ≤ sv_vm lb lg (sv_lw C)) (hnL : nx + L ≤ 128) (hq : sv_Nar C q.2.2) (hm : q.1 = (fun j => me j &&& 255)) (hr : q.2.2 = rs) (hI : sv_IX lb lg C nx q L K v tr rg)
    (hP : ∀ v tr rg, sv_IX lb lg C nx q L (K + 1) v tr rg → post (nI lb, nI lg, nI (sv_lw C), nI (sv_n C), cm, cp, hs, st, tt, nI (sv_s C), nI nx, tr, nI v, me, tb, (sv_pg C), rg, (sv_op C), (sv_ia C), (sv_ib C), (sv_ic C), (sv_mk C), (sv_ps C), rs)) : wpX_execute post (nI lb, nI lg, nI (sv_lw C), nI (sv_n C), cm, cp, hs, st, tt, nI (sv_s C), nI nx, tr, nI v, me, tb, (sv_pg C), rg, (sv_op C), (sv_ia C), (sv_ib C), (sv_ic C), (sv_mk C), (sv_ps C), rs) (nI K) := by
  have hn := hX.2.2.2.2.2.1
  have hw := hX.2.2.2.2.2.2.2.1 K hK
  have c : (nI K).toNatClampNeg = K := nI_clamp (by omega)
  have hvL := hI.1
  have ho18 := hw.1.2
  unfold wpX_execute
  dsimp only
  rw [c]
  refine ⟨vp_in_nI (by omega) (by omega), nm_r hw.1.1 (pk_lt 13 (sv_o C K) (fun z => pk_lt 17 (sv_o C K) (fun z2 => ?_) (fun z2 => ?_)) (fun z => ?_))⟩
  · refine hP v tr rg (sv_IX_up hI (sv_RK_up hI.2.1 (fun e _ ho => absurd ho (by omega))) (fun e _ => sv_ft_off (by omega)))
  · unfold wpX_accessStrip
    dsimp only
    refine ⟨v + 1, xs_as7 hX hK (by omega) (by omega) hq hm (by omega) (by omega) ?_ ?_ v 0 rg (by omega) hI.2.1 sv_RP0 (fun e he => absurd he (by omega))⟩
    · intro rg' R F
      exact hP v tr rg' (sv_IX_up hI R F)
    · intro rg' e p he R F hp h16
      refine hP e _ rg' ⟨by omega, R, fun e' he' => sv_fl_n (hI.2.2.1 e' (by omega)) (F e' he'), Or.inr ⟨by omega, K * 16 + p, by omega, sv_fl_f (hI.2.2.1 e he) hp, rfl⟩⟩
  · unfold wpX_computeStrip
    dsimp only
    refine ⟨v + 1, xs_cs7 hX hK (by omega) (by omega) hq hr z ?_ v 0 rg (by omega) hI.2.1 sv_RP0⟩
    intro rg' R
    exact hP v tr rg' (sv_IX_up hI R (fun e _ => sv_ft_off (by omega)))
end SvXs
end
section
/-! X: committing a strip -/
section SvXm
variable {C : SvC} {lb lg nx : Nat} {cm cp hs st tt tr vl : Int32} {me tb rg rs : Nat → Int32} {q : SvQ}
theorem sv_cR_u {K : Nat} : ∀ E, sv_cR C nx q K E rs = upd rs K (sv_cR C nx q K E rs K) := by
  intro E
  induction E with
  | zero => exact (sb2_up_self rs K).symm
  | succ E ih =>
    show sv_eR C (sv_Ne C nx q E) K (sv_cR C nx q K E rs) = upd rs K (sv_eR C (sv_Ne C nx q E) K (sv_cR C nx q K E rs) K)
    unfold sv_eR
    rw [pk_us]
    generalize sv_r C (sv_Ne C nx q E) K (sv_cR C nx q K E rs K) = z
    rw [ih]
    funext j
    by_cases h : j = K
    · rw [h, pk_us, pk_us]
    · rw [pk_un h, pk_un h, pk_un h]
theorem sv_cR_s {K E : Nat} : sv_cR C nx q K (E + 1) rs K = sv_r C (sv_Ne C nx q E) K (sv_cR C nx q K E rs K) := by
  show upd _ K _ K = _
  rw [pk_us]
  rfl
theorem sv_cR_v {K v : Nat} (hv : 0 < v) (ho : sv_o C K ≤ 15) : sv_cR C nx q K v rs = upd rs K (sv_Ne C nx q (v - 1) K) := by
  rw [sv_cR_u]
  obtain ⟨E, rfl⟩ : ∃ E, v = E + 1 := ⟨v - 1, by omega⟩
  rw [sv_cR_s]
  unfold sv_r
  rw [if_pos ho]
  rfl
theorem sv_cM_off {K : Nat} (h : ¬ (16 ≤ sv_o C K ∧ sv_o C K ≤ 17)) (m : Nat → Int32) : ∀ E, sv_cM C nx q K E m = m := by
  intro E
  induction E with
  | zero => rfl
  | succ E ih =>
    show sv_eM C (sv_Ne C nx q E) (nx + E) K (sv_cM C nx q K E m) = m
    rw [ih]
    unfold sv_eM
    have : (decide (16 ≤ sv_o C K) && decide (sv_o C K ≤ 17)) = false := by
      rw [Bool.and_eq_false_iff, decide_eq_false_iff_not, decide_eq_false_iff_not]
      omega
    rw [this, Bool.false_and, sv_ff]
theorem sv_cT_off {K : Nat} (h : ¬ (14 ≤ sv_o C K ∧ sv_o C K ≤ 17)) (m : Nat → Int32) : ∀ E, sv_cT C nx q K E m = m := by
  intro E
  induction E with
  | zero => rfl
  | succ E ih =>
    show sv_eT C (sv_Ne C nx q E) (nx + E) K (sv_cT C nx q K E m) = m
    rw [ih]
    unfold sv_eT
    rw [show sv_mn C K = false from sv_bf (fun z => h (sv_mn_r z)), Bool.false_and, sv_ff]
theorem sv_cT_a {K E : Nat} {m : Nat → Int32} (h1 : 14 ≤ sv_o C K) (h2 : sv_o C K ≤ 17) (ha : sv_ac C (sv_Ne C nx q E) K = true) : sv_cT C nx q K (E + 1) m = sv_tch (sv_bk C K) (sv_of C (sv_Ne C nx q E) (nx + E) K) (sv_nd C K) (sv_cT C nx q K E m) (2 ^ (sv_lw C)) := by
  show sv_eT C (sv_Ne C nx q E) (nx + E) K (sv_cT C nx q K E m) = _
  unfold sv_eT
  rw [sv_mn_of h1 h2, ha, sv_tt]
theorem sv_cT_p {K E : Nat} {m : Nat → Int32} (ha : sv_ac C (sv_Ne C nx q E) K = false) : sv_cT C nx q K (E + 1) m = sv_cT C nx q K E m := by
  show sv_eT C (sv_Ne C nx q E) (nx + E) K (sv_cT C nx q K E m) = _
  unfold sv_eT
  rw [ha, Bool.and_false, sv_ff]
theorem sv_cM_a {K E : Nat} {m : Nat → Int32} (h1 : 16 ≤ sv_o C K) (h2 : sv_o C K ≤ 17) (ha : sv_ac C (sv_Ne C nx q E) K = true) : sv_cM C nx q K (E + 1) m = sv_stm (sv_bk C K) (sv_of C (sv_Ne C nx q E) (nx + E) K) (sv_Ne C nx q E (sv_a C K)) (sv_cM C nx q K E m) (2 ^ (sv_lw C)) := by
  show sv_eM C (sv_Ne C nx q E) (nx + E) K (sv_cM C nx q K E m) = _
  unfold sv_eM
  rw [decide_eq_true h1, decide_eq_true h2, ha, Bool.and_self, sv_tt]
theorem sv_cM_p {K E : Nat} {m : Nat → Int32} (ha : sv_ac C (sv_Ne C nx q E) K = false) : sv_cM C nx q K (E + 1) m = sv_cM C nx q K E m := by
  show sv_eM C (sv_Ne C nx q E) (nx + E) K (sv_cM C nx q K E m) = _
  unfold sv_eM
  rw [ha, Bool.and_false, sv_ff]
theorem sv_cR_p {K E : Nat} (ho : 16 ≤ sv_o C K) (ha : sv_ac C (sv_Ne C nx q E) K = false) : sv_cR C nx q K (E + 1) rs = sv_cR C nx q K E rs := by
  show sv_eR C (sv_Ne C nx q E) K (sv_cR C nx q K E rs) = _
  unfold sv_eR sv_r
  rw [if_neg (by omega), ha, if_neg (by decide)]
  exact sb2_up_self _ _
theorem sv_cR_st {K E : Nat} (h1 : 16 ≤ sv_o C K) (h2 : sv_o C K ≤ 17) (ha : sv_ac C (sv_Ne C nx q E) K = true) : sv_cR C nx q K (E + 1) rs = upd (sv_cR C nx q K E rs) K (sv_cR C nx q K E rs K + 1) := by
  show sv_eR C (sv_Ne C nx q E) K (sv_cR C nx q K E rs) = _
  unfold sv_eR sv_r
  rw [if_neg (by omega), ha, if_pos rfl, if_neg (by omega)]
/-- touchStrip -/
theorem xm_ts2 {post : SX → Prop} {K v : Nat} (hX : sv_XK lb lg C) (hK : K < (sv_n C)) (hv : v ≤ sv_vm lb lg (sv_lw C)) (R : sv_RK lb lg C nx q rg (sv_n C) v) (hT : sv_TB tb) (hv2 : v < 2 ^ 20) (h14 : 14 ≤ sv_o C K) (h15 : sv_o C K ≤ 15)
    (hP : post (nI lb, nI lg, nI (sv_lw C), nI (sv_n C), cm, cp, hs, st, tt, nI (sv_s C), nI nx, tr, nI v, me, sv_cT C nx q K v tb, (sv_pg C), rg, (sv_op C), (sv_ia C), (sv_ib C), (sv_ic C), (sv_mk C), (sv_ps C), rs)) : ∀ d e, e + d = v → wX_touchStrip_2 post (nI K) (d + 1) (nI e) (nI lb) (nI lg) (nI (sv_lw C)) (nI (sv_n C)) cm cp hs st tt (nI (sv_s C)) (nI nx) tr (nI v) me (sv_cT C nx q K e tb) (sv_pg C) rg (sv_op C) (sv_ia C) (sv_ib C) (sv_ic C) (sv_mk C) (sv_ps C) rs := by
  have hn := hX.2.2.2.2.2.1
  have hl := hX.2.2.2.2.1
  have hs1 := hX.2.2.2.2.2.2.1
  intro d
  induction d with
  | zero =>
    intro e he
    have e1 : e = v := by omega
    subst e1
    rw [wX_touchStrip_2]
    exact br_t (nI_le (Nat.le_refl _) (by omega)) hP
  | succ d ih =>
    intro e he
    have hRA : sv_RA lb lg C rg K e (sv_Ne C nx q e) := fun j hj ho => R e (by omega) j (by omega) ho
    have hi := ih (e + 1) (by omega)
    rw [wX_touchStrip_2]
    refine br_f (nI_ge (by omega) (by omega)) (xc_act hX hK (by omega) hRA ?_)
    dsimp only
    cases ha : sv_ac C (sv_Ne C nx q e) K with
    | true =>
      rw [sv_cT_a h14 (by omega) ha, show sv_bk C K = (sv_s C) from if_pos h15, show sv_nd C K = 1 from if_pos h15] at hi
      refine br_f (by decide) (xc_off hX hK (by omega) hRA h14 (by omega) ?_)
      refine xb_tc hl hs1 (sv_cT_tb hT e) (Or.inl rfl) ?_
      exact nm_r (nI_1 e) hi
    | false =>
      rw [sv_cT_p ha] at hi
      exact br_t (by decide) (nm_r (nI_1 e) hi)
/-- reduceStrip -/
theorem xm_rs9 {post : SX → Prop} {K v : Nat} (hX : sv_XK lb lg C) (hK : K < (sv_n C)) (hv : v ≤ sv_vm lb lg (sv_lw C)) (R : sv_RK lb lg C nx q rg (sv_n C) v) (hv2 : v < 2 ^ 20) (h18 : sv_o C K = 18)
    (hP : post (nI lb, nI lg, nI (sv_lw C), nI (sv_n C), cm, cp, hs, st, tt, nI (sv_s C), nI nx, tr, nI v, me, tb, (sv_pg C), rg, (sv_op C), (sv_ia C), (sv_ib C), (sv_ic C), (sv_mk C), (sv_ps C), sv_cR C nx q K v rs)) : ∀ d e, e + d = v → wX_reduceStrip_9 post (nI K) (nI lb) (nI lg) (nI (sv_lw C)) (nI (sv_n C)) cm cp hs st tt (nI (sv_s C)) (nI nx) tr (nI v) me tb (sv_pg C) rg (sv_op C) (sv_ia C) (sv_ib C) (sv_ic C) (sv_mk C) (sv_ps C) rs (d + 1) (sv_cR C nx q K e rs K) (nI e) := by
  have hn := hX.2.2.2.2.2.1
  have hl := hX.2.2.2.2.1
  have hw := hX.2.2.2.2.2.2.2.1 K hK
  have c : (nI K).toNatClampNeg = K := nI_clamp (by omega)
  have hvi : vp_in (nI K) 16 := vp_in_nI (by omega) (by omega)
  intro d
  induction d with
  | zero =>
    intro e he
    have e1 : e = v := by omega
    subst e1
    rw [wX_reduceStrip_9]
    exact br_t (nI_le (Nat.le_refl _) (by omega)) ⟨hvi, nm_r (e' := sv_cR C nx q K e rs) (by rw [c]; exact (sv_cR_u e).symm) hP⟩
  | succ d ih =>
    intro e he
    have hRA : sv_RA lb lg C rg K e (sv_Ne C nx q e) := fun j hj ho => R e (by omega) j (by omega) ho
    have hi := ih (e + 1) (by omega)
    rw [wX_reduceStrip_9]
    refine br_f (nI_ge (by omega) (by omega)) (xc_act hX hK (by omega) hRA ?_)
    rw [c]
    cases ha : sv_ac C (sv_Ne C nx q e) K with
    | true =>
      have hb := hw.2.2.2.1 h18
      rw [sv_cR_s] at hi
      unfold sv_r at hi
      rw [if_neg (by omega), ha, if_pos rfl, if_pos h18] at hi
      refine br_f (by decide) ⟨hvi, xc_get hX (by omega) (hw.2.1 ⟨by omega, by omega⟩) (by omega) hRA ⟨hvi, ?_⟩⟩
      rw [hb.1]
      refine xb_red hl hb.2 ?_
      exact nm_r (nI_1 e) hi
    | false =>
      rw [sv_cR_p (by omega) ha] at hi
      exact br_t (by decide) (nm_r (nI_1 e) hi)
/-- storeStrip -/
theorem xm_ss8 {post : SX → Prop} {K v : Nat} (hX : sv_XK lb lg C) (hK : K < (sv_n C)) (hv : v ≤ sv_vm lb lg (sv_lw C)) (R : sv_RK lb lg C nx q rg (sv_n C) v) (hT : sv_TB tb) (hv2 : v < 2 ^ 20) (h16 : 16 ≤ sv_o C K) (h17 : sv_o C K ≤ 17)
    (hP : ∀ me', (fun j => me' j &&& 255) = sv_cM C nx q K v (fun j => me j &&& 255) → post (nI lb, nI lg, nI (sv_lw C), nI (sv_n C), cm, cp, hs, st, tt, nI (sv_s C), nI nx, tr, nI v, me', sv_cT C nx q K v tb, (sv_pg C), rg, (sv_op C), (sv_ia C), (sv_ib C), (sv_ic C), (sv_mk C), (sv_ps C), sv_cR C nx q K v rs)) : ∀ d e me', e + d = v → (fun j => me' j &&& 255) = sv_cM C nx q K e (fun j => me j &&& 255) → wX_storeStrip_8 post (nI K) (nI (sv_bk C K)) (d + 1) (nI e) (nI lb) (nI lg) (nI (sv_lw C)) (nI (sv_n C)) cm cp hs st tt (nI (sv_s C)) (nI nx) tr (nI v) me' (sv_cT C nx q K e tb) (sv_pg C) rg (sv_op C) (sv_ia C) (sv_ib C) (sv_ic C) (sv_mk C) (sv_ps C) (sv_cR C nx q K e rs) := by
  have hn := hX.2.2.2.2.2.1
  have hl := hX.2.2.2.2.1
  have hs1 : sv_bk C K ≤ 1 := sv_bk1 hX.2.2.2.2.2.2.1
  have hw := hX.2.2.2.2.2.2.2.1 K hK
  have c : (nI K).toNatClampNeg = K := nI_clamp (by omega)
  have hvi : vp_in (nI K) 16 := vp_in_nI (by omega) (by omega)
  intro d
  induction d with
  | zero =>
    intro e me' he hm
    have e1 : e = v := by omega
    subst e1
    rw [wX_storeStrip_8]
    exact br_t (nI_le (Nat.le_refl _) (by omega)) (hP me' hm)
  | succ d ih =>
    intro e me' he hm
    have hRA : sv_RA lb lg C rg K e (sv_Ne C nx q e) := fun j hj ho => R e (by omega) j (by omega) ho
    have hi := fun me2 => ih (e + 1) me2 (by omega)
    rw [wX_storeStrip_8]
    refine br_f (nI_ge (by omega) (by omega)) (xc_act hX hK (by omega) hRA ?_)
    dsimp only
    cases ha : sv_ac C (sv_Ne C nx q e) K with
    | true =>
      rw [sv_cM_a h16 h17 ha, sv_cT_a (by omega) h17 ha, sv_cR_st h16 h17 ha, show sv_nd C K = 2 from if_neg (by omega)] at hi
      refine br_f (by decide) (xc_off hX hK (by omega) hRA (by omega) h17 ?_)
      refine ⟨hvi, ?_⟩
      rw [c]
      refine xc_get hX (by omega) (hw.2.1 ⟨by omega, by omega⟩) (by omega) hRA ?_
      refine xb_st hl hs1 ?_
      dsimp only
      refine xb_tc hl hs1 (sv_cT_tb hT e) (Or.inr rfl) ?_
      dsimp only
      refine ⟨hvi, hvi, nm_e (nm_r (nI_1 e) ?_)⟩
      exact hi _ (by rw [sv_stX_m, hm]; rfl)
    | false =>
      rw [sv_cM_p ha, sv_cT_p ha, sv_cR_p h16 ha] at hi
      exact br_t (by decide) (nm_r (nI_1 e) (hi me' hm))
theorem xm_cn30 {post : SX → Prop} {K v : Nat} (hX : sv_XK lb lg C) (hK : K < (sv_n C)) (hv : v ≤ sv_vm lb lg (sv_lw C)) (R : sv_RK lb lg C nx q rg (sv_n C) v) (hT : sv_TB tb) (hv2 : v < 2 ^ 20) (h16 : 16 ≤ sv_o C K)
    (hP : ∀ me', (fun j => me' j &&& 255) = sv_cM C nx q K v (fun j => me j &&& 255) → post (nI lb, nI lg, nI (sv_lw C), nI (sv_n C), cm, cp, hs, st, tt, nI (sv_s C), nI nx, tr, nI v, me', sv_cT C nx q K v tb, (sv_pg C), rg, (sv_op C), (sv_ia C), (sv_ib C), (sv_ic C), (sv_mk C), (sv_ps C), sv_cR C nx q K v rs)) : wX_commitNode_30 post (nI K) (nI (sv_o C K)) (nI lb) (nI lg) (nI (sv_lw C)) (nI (sv_n C)) cm cp hs st tt (nI (sv_s C)) (nI nx) tr (nI v) me tb (sv_pg C) rg (sv_op C) (sv_ia C) (sv_ib C) (sv_ic C) (sv_mk C) (sv_ps C) rs := by
  have hn := hX.2.2.2.2.2.1
  have hw := hX.2.2.2.2.2.2.2.1 K hK
  have c : (nI K).toNatClampNeg = K := nI_clamp (by omega)
  have hvi : vp_in (nI K) 16 := vp_in_nI (by omega) (by omega)
  have ho := hw.1.2
  unfold wX_commitNode_30
  refine pk_eq (sv_o C K) 18 (fun z => ?_) (fun z => pk_lt (sv_o C K) 16 (fun z2 => absurd z2 (by omega)) (fun z2 => ?_))
  · unfold wpX_reduceStrip
    dsimp only
    rw [c]
    refine ⟨hvi, nm_e ⟨v + 1, ?_⟩⟩
    have hP' := hP me (by rw [sv_cM_off (by omega)])
    rw [sv_cT_off (by omega)] at hP'
    exact xm_rs9 hX hK hv R hv2 z hP' v 0 (by omega)
  · unfold wpX_storeStrip
    dsimp only
    refine xc_bank hX hK ⟨v + 1, ?_⟩
    exact xm_ss8 hX hK hv R hT hv2 h16 (by omega) hP v 0 me (by omega) rfl
theorem xm_cn {post : SX → Prop} {K v : Nat} (hX : sv_XK lb lg C) (hK : K < (sv_n C)) (hv0 : 0 < v) (hv : v ≤ sv_vm lb lg (sv_lw C)) (R : sv_RK lb lg C nx q rg (sv_n C) v) (hT : sv_TB tb) (hv2 : v < 2 ^ 20)
    (hP : ∀ me', (fun j => me' j &&& 255) = sv_cM C nx q K v (fun j => me j &&& 255) → post (nI lb, nI lg, nI (sv_lw C), nI (sv_n C), cm, cp, hs, st, tt, nI (sv_s C), nI nx, tr, nI v, me', sv_cT C nx q K v tb, (sv_pg C), rg, (sv_op C), (sv_ia C), (sv_ib C), (sv_ic C), (sv_mk C), (sv_ps C), sv_cR C nx q K v rs)) : wpX_commitNode post (nI lb, nI lg, nI (sv_lw C), nI (sv_n C), cm, cp, hs, st, tt, nI (sv_s C), nI nx, tr, nI v, me, tb, (sv_pg C), rg, (sv_op C), (sv_ia C), (sv_ib C), (sv_ic C), (sv_mk C), (sv_ps C), rs) (nI K) := by
  have hn := hX.2.2.2.2.2.1
  have hl := hX.2.2.2.2.1
  have hw := hX.2.2.2.2.2.2.2.1 K hK
  have c : (nI K).toNatClampNeg = K := nI_clamp (by omega)
  have hvi : vp_in (nI K) 16 := vp_in_nI (by omega) (by omega)
  unfold wpX_commitNode
  dsimp only
  rw [c]
  refine ⟨hvi, nm_r hw.1.1 (sv_15 hw.1.2 (fun z => xm_cn30 hX hK hv R hT hv2 z hP) (fun z => ?_))⟩
  rw [show nI v - 1 = nI (v - 1) from pk_sub (b := 1) (by omega)]
  refine xb_get hX.2.1 hX.2.2.1 hl (sv_XK_b hX hK (by omega)) ⟨hvi, ?_⟩
  rw [R (v - 1) (by omega) K hK z, ← sv_cR_v (rs := rs) hv0 z]
  refine nm_e ?_
  have hP' := hP me (by rw [sv_cM_off (by omega)])
  unfold wX_commitNode_30
  refine pk_eq (sv_o C K) 18 (fun z2 => absurd z2 (by omega)) (fun _ => pk_lt (sv_o C K) 16 (fun z2 => pk_lt (sv_o C K) 14 (fun z3 => ?_) (fun z3 => ?_)) (fun z2 => absurd z2 (by omega)))
  · rw [sv_cT_off (by omega)] at hP'
    exact hP'
  · unfold wpX_touchStrip
    dsimp only
    exact ⟨v + 1, xm_ts2 hX hK hv R hT hv2 z3 z hP' v 0 (by omega)⟩
theorem sv_rT_tb {v : Nat} {tc : Nat → Int32} (h : sv_TB tc) : ∀ K, sv_TB (sv_row (fun k => sv_cT C nx q k v) K tc) := by
  intro K
  induction K with
  | zero => exact h
  | succ K ih => exact sv_cT_tb ih v
theorem xm_cs2 {post : SX → Prop} {v : Nat} (hX : sv_XK lb lg C) (hv0 : 0 < v) (hv : v ≤ sv_vm lb lg (sv_lw C)) (R : sv_RK lb lg C nx q rg (sv_n C) v) (hT : sv_TB tb) (hv2 : v < 2 ^ 20)
    (hP : ∀ me', (fun j => me' j &&& 255) = sv_row (fun k => sv_cM C nx q k v) (sv_n C) (fun j => me j &&& 255) → post (nI lb, nI lg, nI (sv_lw C), nI (sv_n C), cm, cp, hs, st, tt, nI (sv_s C), nI (nx + v), tr, nI v, me', sv_row (fun k => sv_cT C nx q k v) (sv_n C) tb, (sv_pg C), rg, (sv_op C), (sv_ia C), (sv_ib C), (sv_ic C), (sv_mk C), (sv_ps C), sv_row (fun k => sv_cR C nx q k v) (sv_n C) rs)) : ∀ d K me', K + d = (sv_n C) → (fun j => me' j &&& 255) = sv_row (fun k => sv_cM C nx q k v) K (fun j => me j &&& 255) → wX_commitStrip_2 post (d + 1) (nI K) (nI lb) (nI lg) (nI (sv_lw C)) (nI (sv_n C)) cm cp hs st tt (nI (sv_s C)) (nI nx) tr (nI v) me' (sv_row (fun k => sv_cT C nx q k v) K tb) (sv_pg C) rg (sv_op C) (sv_ia C) (sv_ib C) (sv_ic C) (sv_mk C) (sv_ps C) (sv_row (fun k => sv_cR C nx q k v) K rs) := by
  have hn := hX.2.2.2.2.2.1
  intro d
  induction d with
  | zero =>
    intro K me' hK hm
    have e1 : K = (sv_n C) := by omega
    subst e1
    rw [wX_commitStrip_2]
    exact br_t (nI_le (Nat.le_refl _) (by omega)) (nm_r (nI_add nx v) (hP me' hm))
  | succ d ih =>
    intro K me' hK hm
    rw [wX_commitStrip_2]
    refine br_f (nI_ge (by omega) (by omega)) (xm_cn (q := q) hX (by omega) hv0 hv R (sv_rT_tb hT K) hv2 ?_)
    intro me2 h2
    exact nm_r (nI_1 K) (ih (K + 1) me2 (by omega) (by rw [h2, hm]; rfl))
/-- commitStrip: the state of the sequence after v elements -/
theorem xm_cs {post : SX → Prop} {v : Nat} (hX : sv_XK lb lg C) (hv0 : 0 < v) (hv : v ≤ sv_vm lb lg (sv_lw C)) (R : sv_RK lb lg C nx q rg (sv_n C) v) (hT : sv_TB tb) (hv2 : v < 2 ^ 20) (hm : q.1 = (fun j => me j &&& 255)) (ht : q.2.1 = tb) (hr : q.2.2 = rs)
    (hP : ∀ me', (fun j => me' j &&& 255) = (sv_sq C nx q v).1 → post (nI lb, nI lg, nI (sv_lw C), nI (sv_n C), cm, cp, hs, st, tt, nI (sv_s C), nI (nx + v), tr, nI v, me', (sv_sq C nx q v).2.1, (sv_pg C), rg, (sv_op C), (sv_ia C), (sv_ib C), (sv_ic C), (sv_mk C), (sv_ps C), (sv_sq C nx q v).2.2)) : wpX_commitStrip post (nI lb, nI lg, nI (sv_lw C), nI (sv_n C), cm, cp, hs, st, tt, nI (sv_s C), nI nx, tr, nI v, me, tb, (sv_pg C), rg, (sv_op C), (sv_ia C), (sv_ib C), (sv_ic C), (sv_mk C), (sv_ps C), rs) := by
  unfold wpX_commitStrip
  dsimp only
  refine ⟨(sv_n C) + 1, xm_cs2 (q := q) hX hv0 hv R hT hv2 ?_ (sv_n C) 0 me (by omega) rfl⟩
  intro me' h
  rw [← hm, sv_sw1 hX.2.2.2.2.2.2.2.2] at h
  have := hP me' h
  rw [← sv_sw2, ← sv_sw3, ht, hr] at this
  exact this
end SvXm
end
section
/-! X: a strip as a whole, and the run -/
section SvXr
variable {C : SvC} {lb lg nx : Nat} {cm cp hs st tt tr vl : Int32} {me tb rg rs : Nat → Int32} {q : SvQ}
theorem xr_ws17 {post : SX → Prop} {L : Nat} (hX : sv_XK lb lg C) (hL : L ≤ sv_vm lb lg (sv_lw C)) (hnL : nx + L ≤ 128) (hq : sv_Nar C q.2.2) (hT : sv_TB tb) (hm : q.1 = (fun j => me j &&& 255)) (ht : q.2.1 = tb) (hr : q.2.2 = rs)
    (hE : ∀ v tr rg me', v ≤ L → (∀ e, e < v → sv_fl C (sv_Ne C nx q e) (nx + e) (sv_n C) = none) → ((v = L ∧ tr = -1) ∨ (v < L ∧ ∃ t, t < 256 ∧ sv_fl C (sv_Ne C nx q v) (nx + v) (sv_n C) = some t ∧ tr = nI t)) → (fun j => me' j &&& 255) = (sv_sq C nx q v).1 → post (nI lb, nI lg, nI (sv_lw C), nI (sv_n C), cm, cp, hs, st, tt, nI (sv_s C), nI (nx + v), tr, nI v, me', (sv_sq C nx q v).2.1, (sv_pg C), rg, (sv_op C), (sv_ia C), (sv_ib C), (sv_ic C), (sv_mk C), (sv_ps C), (sv_sq C nx q v).2.2)) : ∀ d K v tr rg, K + d = (sv_n C) → sv_IX lb lg C nx q L K v tr rg → wX_workStrip_17 post (d + 1) (nI K) (nI lb) (nI lg) (nI (sv_lw C)) (nI (sv_n C)) cm cp hs st tt (nI (sv_s C)) (nI nx) tr (nI v) me tb (sv_pg C) rg (sv_op C) (sv_ia C) (sv_ib C) (sv_ic C) (sv_mk C) (sv_ps C) rs := by
  have hn := hX.2.2.2.2.2.1
  intro d
  induction d with
  | zero =>
    intro K v tr rg hK hI
    have e1 : K = (sv_n C) := by omega
    subst e1
    have hvL := hI.1
    rw [wX_workStrip_17]
    refine br_t (nI_le (Nat.le_refl _) (by omega)) (pk_le v 0 (fun z => ?_) (fun z => ?_))
    · have e0 : v = 0 := by omega
      subst e0
      have h0 := hE 0 tr rg me (by omega) hI.2.2.1 hI.2.2.2 hm.symm
      rw [show sv_sq C nx q 0 = q from rfl, ht, hr] at h0
      exact h0
    · exact xm_cs hX z (by omega) hI.2.1 hT (by omega) hm ht hr (fun me' h' => hE v tr rg me' hvL hI.2.2.1 hI.2.2.2 h')
  | succ d ih =>
    intro K v tr rg hK hI
    rw [wX_workStrip_17]
    refine br_f (nI_ge (by omega) (by omega)) (xs_ex hX (by omega) hL hnL hq hm hr hI ?_)
    intro v' tr' rg' hI'
    exact nm_r (nI_1 K) (ih (K + 1) v' tr' rg' (by omega) hI')
def sv_min (a b : Nat) : Nat := if a ≤ b then a else b
theorem sv_min_I {a b : Nat} (ha : a < 2 ^ 31) (hb : b < 2 ^ 31) : (if nI a ≤ nI b then nI a else nI b) = nI (sv_min a b) := by
  unfold sv_min
  by_cases h : a ≤ b
  · rw [if_pos h, if_pos (nI_le h hb)]
  · rw [if_neg h, if_neg (nI_ge (by omega) ha)]
theorem sv_min_r (a b : Nat) : sv_min a b ≤ a ∧ sv_min a b ≤ b ∧ (sv_min a b = a ∨ sv_min a b = b) := by
  unfold sv_min
  by_cases h : a ≤ b
  · rw [if_pos h]; omega
  · rw [if_neg h]; omega
theorem sv_vmX {lw : Nat} (hb : 2 ≤ lb) (hb3 : lb ≤ 3) (hg : lg ≤ 3) (hl : lw ≤ 2) : (1 : Int32) <<< (((nI lb + nI lg) - nI lw) &&& 31) = nI (sv_vm lb lg lw) := by
  rw [nI_add, pk_sub (by omega)]
  exact sv_sh1 _ (by omega)
theorem sv_vm_r {lw : Nat} (hb3 : lb ≤ 3) (hg : lg ≤ 3) : 1 ≤ sv_vm lb lg lw ∧ sv_vm lb lg lw ≤ 64 := by
  unfold sv_vm
  refine ⟨Nat.one_le_two_pow, ?_⟩
  exact Nat.le_trans (Nat.pow_le_pow_right (by decide) (show lb + lg - lw ≤ 6 by omega)) (by decide)
theorem xr_ws {post : SX → Prop} {left L : Nat} (hX : sv_XK lb lg C) (hL : L = sv_min left (sv_vm lb lg (sv_lw C))) (hl0 : left < 2 ^ 20) (hnL : nx + L ≤ 128) (hq : sv_Nar C q.2.2) (hT : sv_TB tb) (hm : q.1 = (fun j => me j &&& 255)) (ht : q.2.1 = tb) (hr : q.2.2 = rs)
    (hE : ∀ v tr rg me', v ≤ L → (∀ e, e < v → sv_fl C (sv_Ne C nx q e) (nx + e) (sv_n C) = none) → ((v = L ∧ tr = -1) ∨ (v < L ∧ ∃ t, t < 256 ∧ sv_fl C (sv_Ne C nx q v) (nx + v) (sv_n C) = some t ∧ tr = nI t)) → (fun j => me' j &&& 255) = (sv_sq C nx q v).1 → post (nI lb, nI lg, nI (sv_lw C), nI (sv_n C), cm, cp, hs, st, tt, nI (sv_s C), nI (nx + v), tr, nI v, me', (sv_sq C nx q v).2.1, (sv_pg C), rg, (sv_op C), (sv_ia C), (sv_ib C), (sv_ic C), (sv_mk C), (sv_ps C), (sv_sq C nx q v).2.2)) : wpX_workStrip post (nI lb, nI lg, nI (sv_lw C), nI (sv_n C), cm, cp, hs, st, tt, nI (sv_s C), nI nx, -1, vl, me, tb, (sv_pg C), rg, (sv_op C), (sv_ia C), (sv_ib C), (sv_ic C), (sv_mk C), (sv_ps C), rs) (nI left) := by
  have hv := sv_vm_r (lb := lb) (lg := lg) (lw := (sv_lw C)) hX.2.1 hX.2.2.1
  have hmr := sv_min_r left (sv_vm lb lg (sv_lw C))
  unfold wpX_workStrip
  dsimp only
  unfold wpX_vlmax
  dsimp only
  rw [sv_vmX hX.1 hX.2.1 hX.2.2.1 hX.2.2.2.2.1]
  refine xb_les ?_
  rw [sv_min_I (by omega) (by omega), ← hL]
  refine ⟨(sv_n C) + 1, xr_ws17 hX (by omega) hnL hq hT hm ht hr hE (sv_n C) 0 L (-1) rg (by omega) ⟨Nat.le_refl _, fun e _ j hj => absurd hj (by omega), fun e _ => rfl, Or.inl ⟨rfl, rfl⟩⟩⟩
/-- what X's run asks at an end r of the picture's run -/
def sv_XO (post : Int32 → SX → Prop) (C : SvC) (lb lg : Nat) (cm cp hs st tt : Int32) (r : SvQ × Nat × Option Nat) : Prop :=
  ∀ (vl : Int32) (me rg : Nat → Int32), (fun j => me j &&& 255) = r.1.1 → (∀ t, r.2.2 = some t → t < 256 → post 3 (nI lb, nI lg, nI (sv_lw C), nI (sv_n C), cm, cp, hs, st, tt, nI (sv_s C), nI r.2.1, nI t, vl, me, r.1.2.1, (sv_pg C), rg, (sv_op C), (sv_ia C), (sv_ib C), (sv_ic C), (sv_mk C), (sv_ps C), r.1.2.2)) ∧ (r.2.2 = none → ((nI r.2.1 = tt → post 1 (nI lb, nI lg, nI (sv_lw C), nI (sv_n C), cm, cp, hs, 2, tt, nI (sv_s C), nI r.2.1, -1, vl, me, r.1.2.1, (sv_pg C), rg, (sv_op C), (sv_ia C), (sv_ib C), (sv_ic C), (sv_mk C), (sv_ps C), r.1.2.2)) ∧ (¬ nI r.2.1 = tt → post 2 (nI lb, nI lg, nI (sv_lw C), nI (sv_n C), cm, cp, hs, st, tt, nI (sv_s C), nI r.2.1, -1, vl, me, r.1.2.1, (sv_pg C), rg, (sv_op C), (sv_ia C), (sv_ib C), (sv_ic C), (sv_mk C), (sv_ps C), r.1.2.2))))
theorem xr_86 {post : Int32 → SX → Prop} (h : sv_XO post C lb lg cm cp hs st tt ((fun j => me j &&& 255, tb, rs), nx, none)) : wX_run_86 post (nI lb) (nI lg) (nI (sv_lw C)) (nI (sv_n C)) cm cp hs st tt (nI (sv_s C)) (nI nx) (-1) vl me tb (sv_pg C) rg (sv_op C) (sv_ia C) (sv_ib C) (sv_ic C) (sv_mk C) (sv_ps C) rs := by
  unfold wX_run_86
  exact (h vl me rg rfl).2 rfl
theorem xr_48 {post : Int32 → SX → Prop} (hX : sv_XK lb lg C) : ∀ (F left sp nx : Nat) (vl : Int32) (me tb rg rs : Nat → Int32), left < F → sp + left ≤ 128 → nx + left ≤ 128 → sv_TB tb → sv_Nar C rs → sv_XO post C lb lg cm cp hs st tt (sv_rn C left nx (fun j => me j &&& 255, tb, rs)) → wX_run_48 post F (nI left) (nI sp) (nI lb) (nI lg) (nI (sv_lw C)) (nI (sv_n C)) cm cp hs st tt (nI (sv_s C)) (nI nx) (-1) vl me tb (sv_pg C) rg (sv_op C) (sv_ia C) (sv_ib C) (sv_ic C) (sv_mk C) (sv_ps C) rs := by
  intro F
  induction F with
  | zero => intro left sp nx vl me tb rg rs h; omega
  | succ F ih =>
    intro left sp nx vl me tb rg rs hF hsp hnx hT hN hO
    rw [wX_run_48]
    by_cases hl0 : left = 0
    · subst hl0
      have h86 : wX_run_86 post (nI lb) (nI lg) (nI (sv_lw C)) (nI (sv_n C)) cm cp hs st tt (nI (sv_s C)) (nI nx) (-1) vl me tb (sv_pg C) rg (sv_op C) (sv_ia C) (sv_ib C) (sv_ic C) (sv_mk C) (sv_ps C) rs := xr_86 hO
      exact br_c (fun _ => h86) (fun _ => br_t (by decide) h86)
    · have hv := sv_vm_r (lb := lb) (lg := lg) (lw := (sv_lw C)) hX.2.1 hX.2.2.1
      have hmr := sv_min_r left (sv_vm lb lg (sv_lw C))
      refine br_f (nI_ge (b := 128) (by omega) (by decide)) (br_f (nI_nle (by omega) (by omega)) ?_)
      obtain ⟨Q, hQ1, hQ2, hQ3, hO⟩ : ∃ Q : SvQ, Q.1 = (fun j => me j &&& 255) ∧ Q.2.1 = tb ∧ Q.2.2 = rs ∧ sv_XO post C lb lg cm cp hs st tt (sv_rn C left nx Q) := ⟨_, rfl, rfl, rfl, hO⟩
      have hNQ : sv_Nar C Q.2.2 := by rw [hQ3]; exact hN
      have hTQ : sv_TB Q.2.1 := by rw [hQ2]; exact hT
      refine xr_ws (q := Q) hX rfl (by omega) (by omega) hNQ hT hQ1 hQ2 hQ3 ?_
      intro v tr' rg' me' hvL hf hc hm'
      rcases hc with ⟨e1, e2⟩ | ⟨e1, t, ht, hs', e2⟩
      · subst e2
        refine nm_r (e' := nI (left - v)) (pk_sub (by omega)) (br_t (by decide) (nm_r (nI_1 sp) ?_))
        have hT2 : sv_TB (sv_sq C nx Q v).2.1 := sv_sq_tb hTQ v
        have hN2 : sv_Nar C (sv_sq C nx Q v).2.2 := sv_sq_n hX.2.2.2.2.1 hX.2.2.2.2.2.2.2.1 hNQ v (by omega)
        have hgo := sv_rn_go (C := C) (nx := nx) (q := Q) v (left - v) hf
        rw [show v + (left - v) = left from by omega] at hgo
        rw [hgo] at hO
        generalize sv_sq C nx Q v = S at *
        have hS : (fun j => me' j &&& 255, S.2.1, S.2.2) = S := by rw [hm']
        rw [← hS] at hO
        exact ih (left - v) (sp + 1) (nx + v) (nI v) me' S.2.1 rg' S.2.2 (by omega) (by omega) (by omega) hT2 hN2 hO
      · subst e2
        refine nm_e (br_f (nI_pos (by omega)) ?_)
        have hst := sv_rn_st (C := C) (nx := nx) (l := left - v - 1) (q := Q) hf hs'
        rw [show v + (left - v - 1 + 1) = left from by omega] at hst
        rw [hst] at hO
        exact (hO (nI v) me' rg' hm').1 t rfl ht
end SvXr
end
section
/-! Y: values, faults -/
/-- Y's at -/
def sv_at (nw : Nat → Int32) (x : Int32) : Int32 := if x < 0 then 0 else if 16 ≤ x then 0 else nw x.toNatClampNeg
theorem sv_at_VN {C : SvC} {k : Nat} {x : Int32} {nw : Nat → Int32} (hk : k ≤ 16) (h : sv_VN C k x) : sv_at nw x = nw x.toNatClampNeg := by
  obtain ⟨h1, h2, _⟩ := h
  unfold sv_at
  generalize x.toNatClampNeg = j at *
  subst h1
  rw [if_neg (nI_pos (by omega)), if_neg (show ¬ (16 : Int32) ≤ nI j from nI_ge (b := 16) (by omega) (by decide))]
section SvYb
variable {e1 e2 e3 e4 e5 e6 e7 e8 e9 e10 e11 : Int32} {g1 g2 g3 g4 g5 g6 g7 g8 g9 g10 g11 : Nat → Int32}
theorem yb_narrow {post : Int32 → Prop} {lw : Nat} {x : Int32} (hl : lw ≤ 2) (h : post (sv_nr lw x)) : wpY_narrow post (e1, nI (2 ^ lw), e3, e4, e5, e6, e7, e8, e9, e10, e11, g1, g2, g3, g4, g5, g6, g7, g8, g9, g10, g11) x := by
  unfold wpY_narrow
  dsimp only
  exact sv_nrY hl h
theorem yb_at {post : Int32 → Prop} {x : Int32} (h : post (sv_at g11 x)) : wpY_at post (e1, e2, e3, e4, e5, e6, e7, e8, e9, e10, e11, g1, g2, g3, g4, g5, g6, g7, g8, g9, g10, g11) x := by
  unfold wpY_at
  dsimp only
  unfold sv_at at h
  refine br_c (fun c => ?_) (fun c => br_c (fun c2 => ?_) (fun c2 => ⟨?_, ?_⟩))
  · rw [if_pos c] at h
    exact h
  · rw [if_neg c, if_pos c2] at h
    exact h
  · obtain ⟨j, hj, rfl⟩ := nI_of c
    refine vp_in_nI ?_ (by omega)
    rcases Nat.lt_or_ge j 16 with z | z
    · exact z
    · exact absurd (nI_le (a := 16) z hj) c2
  · rw [if_neg c, if_neg c2] at h
    exact h
end SvYb
section SvYc
variable {C : SvC} {nx : Nat} {by' gg cm cp tt st tr : Int32} {me tb rs nw : Nat → Int32}
theorem yc_act {post : Int32 → Prop} {k : Nat} (hO : sv_OK C) (hk : k < (sv_n C)) (h : post (cond (sv_ac C nw k) 1 0)) : wpY_active post (by', nI (2 ^ (sv_lw C)), gg, nI (sv_n C), cm, cp, tt, nI (sv_s C), st, nI nx, tr, me, tb, (sv_pg C), (sv_op C), (sv_ia C), (sv_ib C), (sv_ic C), (sv_mk C), (sv_ps C), rs, nw) (nI k) := by
  have hn := hO.2.1
  have hw := hO.2.2.2.1 k hk
  have c : (nI k).toNatClampNeg = k := nI_clamp (by omega)
  have hi : vp_in (nI k) 16 := vp_in_nI (by omega) (by omega)
  unfold wpY_active
  dsimp only
  rw [c]
  refine ⟨hi, br_c (fun hm => ?_) (fun hm => ⟨hi, yb_at ?_⟩)⟩
  · have e1 : sv_ac C nw k = true := by unfold sv_ac; rw [decide_eq_true hm, Bool.true_or]
    rw [e1] at h
    exact h
  · rcases hw.2.2.2.2 with z | z
    · exact absurd z hm
    · rw [sv_at_VN (by omega) z.1]
      have e2 : sv_ac C nw k = !decide (nw (sv_m C k) = 0) := by unfold sv_ac; rw [decide_eq_false hm, Bool.false_or]
      rw [e2] at h
      refine br_c (fun c0 => ?_) (fun c0 => ?_)
      · rw [decide_eq_true (show nw (sv_m C k) = 0 from c0)] at h
        exact h
      · rw [decide_eq_false (show ¬ nw (sv_m C k) = 0 from c0)] at h
        exact h
theorem yc_105 {post : Int32 → Prop} {k t : Nat} {x4 : Int32} (hO : sv_OK C) (hk : k < (sv_n C)) (h : post (nI (sv_ad (sv_bk C k) x4 t))) : wY_address_105 post (nI k) (nI t) x4 by' (nI (2 ^ (sv_lw C))) gg (nI (sv_n C)) cm cp tt (nI (sv_s C)) st (nI nx) tr me tb (sv_pg C) (sv_op C) (sv_ia C) (sv_ib C) (sv_ic C) (sv_mk C) (sv_ps C) rs nw := by
  have hn := hO.2.1
  have hw := hO.2.2.2.1 k hk
  have c : (nI k).toNatClampNeg = k := nI_clamp (by omega)
  unfold wY_address_105
  rw [c, hw.1.1]
  unfold sv_bk at h
  refine ⟨vp_in_nI (by omega) (by omega), sv_15 hw.1.2 (fun z => ?_) (fun z => ?_)⟩
  · rw [if_neg (by omega)] at h
    unfold wY_address_129
    rw [sv_1s hO.2.2.1, sv_adY]
    exact h
  · rw [if_pos z] at h
    unfold wY_address_129
    rw [sv_adY]
    exact h
theorem yc_ad {post : Int32 → Prop} {k i t : Nat} (hO : sv_OK C) (hk : k < (sv_n C)) (h14 : 14 ≤ sv_o C k) (h17 : sv_o C k ≤ 17) (h : post (nI (sv_ad (sv_bk C k) (sv_of C nw i k) t))) : wpY_address post (by', nI (2 ^ (sv_lw C)), gg, nI (sv_n C), cm, cp, tt, nI (sv_s C), st, nI nx, tr, me, tb, (sv_pg C), (sv_op C), (sv_ia C), (sv_ib C), (sv_ic C), (sv_mk C), (sv_ps C), rs, nw) (nI k) (nI i) (nI t) := by
  have hn := hO.2.1
  have hw := hO.2.2.2.1 k hk
  have c : (nI k).toNatClampNeg = k := nI_clamp (by omega)
  have hi : vp_in (nI k) 16 := vp_in_nI (by omega) (by omega)
  unfold wpY_address
  dsimp only
  rw [c]
  refine ⟨hi, hi, yb_at (nm_e ⟨hi, ?_⟩)⟩
  rw [hw.1.1]
  unfold sv_of at h
  have hc : sv_o C k = 14 ∨ sv_o C k = 15 ∨ sv_o C k = 16 ∨ sv_o C k = 17 := by omega
  rcases hc with z | z | z | z
  · rw [if_pos z] at h
    rw [z]
    refine br_t (by decide) ⟨hi, hi, nm_e ?_⟩
    unfold wY_address_47
    rw [c, hw.1.1, z]
    refine ⟨hi, br_f (by decide) ?_⟩
    unfold wY_address_77
    rw [c, hw.1.1, z]
    exact ⟨hi, br_f (by decide) (yc_105 hO hk h)⟩
  · rw [if_neg (by omega), if_pos z] at h
    rw [z]
    refine br_f (by decide) ?_
    unfold wY_address_47
    rw [c, hw.1.1, z]
    refine ⟨hi, br_t (by decide) ⟨hi, hi, yb_at (nm_e ?_)⟩⟩
    rw [sv_at_VN (by omega) (hw.2.1 ⟨by omega, by omega⟩)]
    unfold wY_address_77
    rw [c, hw.1.1, z]
    exact ⟨hi, br_f (by decide) (yc_105 hO hk h)⟩
  · rw [if_neg (by omega), if_neg (by omega), if_pos z] at h
    rw [z]
    refine br_f (by decide) ?_
    unfold wY_address_47
    rw [c, hw.1.1, z]
    refine ⟨hi, br_f (by decide) ?_⟩
    unfold wY_address_77
    rw [c, hw.1.1, z]
    exact ⟨hi, br_t (by decide) ⟨hi, hi, nm_e (yc_105 hO hk h)⟩⟩
  · rw [if_neg (by omega), if_neg (by omega), if_neg (by omega)] at h
    rw [z, sv_at_VN (by omega) (hw.2.2.1 (Or.inr z))]
    refine br_f (by decide) ?_
    unfold wY_address_47
    rw [c, hw.1.1, z]
    refine ⟨hi, br_f (by decide) ?_⟩
    unfold wY_address_77
    rw [c, hw.1.1, z]
    exact ⟨hi, br_f (by decide) (yc_105 hO hk h)⟩
theorem yc_336 {post : Int32 → Prop} {k i : Nat} (hO : sv_OK C) (hk : k < (sv_n C)) (h14 : 14 ≤ sv_o C k) (h17 : sv_o C k ≤ 17) (h : post (sv_ld (sv_lw C) me (sv_bk C k) (sv_of C nw i k))) : ∀ d t, t + d = 2 ^ (sv_lw C) → wY_value_336 post (nI k) (nI i) by' (nI (2 ^ (sv_lw C))) gg (nI (sv_n C)) cm cp tt (nI (sv_s C)) st (nI nx) tr me tb (sv_pg C) (sv_op C) (sv_ia C) (sv_ib C) (sv_ic C) (sv_mk C) (sv_ps C) rs nw (d + 1) (sv_or (fun t => me (sv_ad (sv_bk C k) (sv_of C nw i k) t)) t) (nI t) := by
  have hp := sv_p24 hO.1
  intro d
  induction d with
  | zero =>
    intro t ht
    have e : t = 2 ^ (sv_lw C) := by omega
    subst e
    rw [wY_value_336]
    exact br_t (nI_le (Nat.le_refl _) (by omega)) (yb_narrow hO.1 h)
  | succ d ih =>
    intro t ht
    have hlt := sv_ad_lt (sv_bk1 (k := k) hO.2.2.1) (sv_of C nw i k) t
    have c : (nI (sv_ad (sv_bk C k) (sv_of C nw i k) t)).toNatClampNeg = sv_ad (sv_bk C k) (sv_of C nw i k) t := nI_clamp (by omega)
    rw [wY_value_336]
    refine br_f (nI_ge (by omega) (by omega)) (yc_ad hO hk h14 h17 ⟨vp_in_nI (by omega) (by omega), ?_⟩)
    rw [c]
    exact nm_r (e' := sv_or (fun t => me (sv_ad (sv_bk C k) (sv_of C nw i k) t)) (t + 1)) rfl (nm_r (nI_1 t) (ih (t + 1) (by omega)))
theorem yc_267 {post : Int32 → Prop} {k i : Nat} {y z0 : Int32} (hO : sv_OK C) (hk : k < (sv_n C)) (hi' : i < 2 ^ 20) (h12 : 12 ≤ sv_o C k) (h15 : sv_o C k ≤ 15)
    (h1 : sv_o C k = 12 → post (sv_nr (sv_lw C) ((z0.toUInt32 >>> ((y &&& ((8 * nI (2 ^ (sv_lw C))) - 1)).toUInt32 &&& Int32.toUInt32 31)).toInt32)))
    (h2 : sv_o C k = 13 → post (if i = 0 then sv_nr (sv_lw C) ((sv_ib C) k) else rs (sv_a C k)))
    (h3 : 14 ≤ sv_o C k → post (sv_ld (sv_lw C) me (sv_s C) (sv_of C nw i k))) : wY_value_267 post (nI k) (nI i) (nI (sv_o C k)) y z0 by' (nI (2 ^ (sv_lw C))) gg (nI (sv_n C)) cm cp tt (nI (sv_s C)) st (nI nx) tr me tb (sv_pg C) (sv_op C) (sv_ia C) (sv_ib C) (sv_ic C) (sv_mk C) (sv_ps C) rs nw := by
  have hn := hO.2.1
  have hw := hO.2.2.2.1 k hk
  have c : (nI k).toNatClampNeg = k := nI_clamp (by omega)
  have hi : vp_in (nI k) 16 := vp_in_nI (by omega) (by omega)
  unfold wY_value_267
  rw [c]
  refine pk_eq (sv_o C k) 12 (fun z => yb_narrow hO.1 (h1 z)) (fun z => pk_eq (sv_o C k) 13 (fun z2 => ?_) (fun z2 => ?_))
  · have h := h2 z2
    have hv := hw.2.1 ⟨by omega, by omega⟩
    refine pk_eq i 0 (fun q => ⟨hi, yb_narrow hO.1 ?_⟩) (fun q => ⟨hi, ?_, ?_⟩)
    · rw [if_pos q] at h
      exact h
    · rw [hv.1]
      have := hv.2.1
      exact vp_in_nI (by omega) (by omega)
    · rw [if_neg q] at h
      exact h
  · have h := h3 (by omega)
    rw [show (sv_s C) = sv_bk C k from (if_pos h15).symm] at h
    exact ⟨2 ^ (sv_lw C) + 1, yc_336 hO hk (by omega) (by omega) h (2 ^ (sv_lw C)) 0 (by omega)⟩
theorem sv_ne {o c : Nat} {x : Int32} (hx : x = nI c) (ho : o ≤ 18) (hc : c ≤ 18) (h : o ≠ c) : ¬ nI o = x := by
  rw [hx, nI_eq (by omega) (by omega)]
  exact h
theorem sv_w3 {A : Int32 → Prop} {lw : Nat} {x : Int32} (hl : lw ≤ 2) (h : A (sv_lo lw x)) : ((nI (2 ^ lw) = 1 → A (x &&& 255)) ∧ (¬ nI (2 ^ lw) = 1 → ((nI (2 ^ lw) = 2 → A (x &&& 65535)) ∧ (¬ nI (2 ^ lw) = 2 → A x)))) := by
  rcases sv_lw3 hl with rfl | rfl | rfl
  · exact br_t (by decide) h
  · exact br_f (by decide) (br_t (by decide) h)
  · exact br_f (by decide) (br_f (by decide) h)
theorem yc_value {post : Int32 → Prop} {k i : Nat} (hO : sv_OK C) (hk : k < (sv_n C)) (hi' : i < 2 ^ 20) (h15 : sv_o C k ≤ 15) (h : post (sv_vv C me i rs nw k)) : wpY_value post (by', nI (2 ^ (sv_lw C)), gg, nI (sv_n C), cm, cp, tt, nI (sv_s C), st, nI nx, tr, me, tb, (sv_pg C), (sv_op C), (sv_ia C), (sv_ib C), (sv_ic C), (sv_mk C), (sv_ps C), rs, nw) (nI k) (nI i) := by
  have hn := hO.2.1
  have hl := hO.1
  have hw := hO.2.2.2.1 k hk
  have c : (nI k).toNatClampNeg = k := nI_clamp (by omega)
  have hi : vp_in (nI k) 16 := vp_in_nI (by omega) (by omega)
  unfold wpY_value
  dsimp only
  refine yc_act hO hk ?_
  rw [c]
  unfold sv_vv at h
  cases ha : sv_ac C nw k with
  | false =>
    rw [if_neg (by rw [ha]; decide)] at h
    refine br_t (by decide) ⟨hi, yb_at ?_⟩
    rw [sv_at_VN (by omega) (sv_pass hw ha)]
    exact h
  | true =>
    rw [if_pos ha] at h
    refine br_f (by decide) ⟨hi, nm_r hw.1.1 ⟨hi, yb_at ⟨hi, yb_at ?_⟩⟩⟩
    obtain ⟨x, hx⟩ : ∃ x, x = sv_at nw ((sv_ia C) k) := ⟨_, rfl⟩
    obtain ⟨y, hy⟩ : ∃ y, y = sv_at nw ((sv_ib C) k) := ⟨_, rfl⟩
    rw [← hx, ← hy]
    have hxa : 2 ≤ sv_o C k → sv_o C k ≤ 12 → nw (sv_a C k) = x := fun z1 z2 => (hx.trans (sv_at_VN (by omega) (hw.2.1 ⟨by omega, by omega⟩))).symm
    have hyb : 2 ≤ sv_o C k → sv_o C k ≤ 12 → nw (sv_b C k) = y := fun z1 z2 => (hy.trans (sv_at_VN (by omega) (hw.2.2.1 (Or.inl ⟨by omega, by omega⟩)))).symm
    have hc : sv_o C k = 0 ∨ sv_o C k = 1 ∨ sv_o C k = 2 ∨ sv_o C k = 3 ∨ sv_o C k = 4 ∨ sv_o C k = 5 ∨ sv_o C k = 6 ∨ sv_o C k = 7 ∨ sv_o C k = 8 ∨ sv_o C k = 9 ∨ sv_o C k = 10 ∨ sv_o C k = 11 ∨ 12 ≤ sv_o C k := by omega
    rcases hc with z | z | z | z | z | z | z | z | z | z | z | z | z
    · have hv : sv_vc C me i rs nw k = sv_nr (sv_lw C) ((sv_ia C) k) := by
        unfold sv_vc
        rw [z]
        rfl
      rw [hv] at h
      rw [z]
      exact br_t (by decide) ⟨hi, yb_narrow hl h⟩
    · have hv : sv_vc C me i rs nw k = nI i := by
        unfold sv_vc
        rw [z]
        rfl
      rw [hv] at h
      rw [z]
      exact br_f (by decide) (br_t (by decide) h)
    · have hv : sv_vc C me i rs nw k = sv_nr (sv_lw C) (x + y) := by
        unfold sv_vc
        rw [hxa (by omega) (by omega), hyb (by omega) (by omega), z]
        rfl
      rw [hv] at h
      rw [z]
      exact br_f (by decide) (br_f (by decide) (br_t (by decide) (yb_narrow hl h)))
    · have hv : sv_vc C me i rs nw k = sv_nr (sv_lw C) (x - y) := by
        unfold sv_vc
        rw [hxa (by omega) (by omega), hyb (by omega) (by omega), z]
        rfl
      rw [hv] at h
      rw [z]
      exact br_f (by decide) (br_f (by decide) (br_f (by decide) (br_t (by decide) (yb_narrow hl h))))
    · have hv : sv_vc C me i rs nw k = sv_nr (sv_lw C) (x * y) := by
        unfold sv_vc
        rw [hxa (by omega) (by omega), hyb (by omega) (by omega), z]
        rfl
      rw [hv] at h
      rw [z]
      exact br_f (by decide) (br_f (by decide) (br_f (by decide) (br_f (by decide) (br_t (by decide) (yb_narrow hl h)))))
    · have hv : sv_vc C me i rs nw k = x &&& y := by
        unfold sv_vc
        rw [hxa (by omega) (by omega), hyb (by omega) (by omega), z]
        rfl
      rw [hv] at h
      rw [z]
      exact br_f (by decide) (br_f (by decide) (br_f (by decide) (br_f (by decide) (br_f (by decide) (br_t (by decide) h)))))
    · have hv : sv_vc C me i rs nw k = x ||| y := by
        unfold sv_vc
        rw [hxa (by omega) (by omega), hyb (by omega) (by omega), z]
        rfl
      rw [hv] at h
      rw [z]
      exact br_f (by decide) (br_f (by decide) (br_f (by decide) (br_f (by decide) (br_f (by decide) (br_f (by decide) (br_t (by decide) h))))))
    · have hv : sv_vc C me i rs nw k = x ^^^ y := by
        unfold sv_vc
        rw [hxa (by omega) (by omega), hyb (by omega) (by omega), z]
        rfl
      rw [hv] at h
      rw [z]
      exact br_f (by decide) (br_f (by decide) (br_f (by decide) (br_f (by decide) (br_f (by decide) (br_f (by decide) (br_f (by decide) (br_t (by decide) h)))))))
    · have hv : sv_vc C me i rs nw k = (if y ≤ x then y else x) := by
        unfold sv_vc
        rw [hxa (by omega) (by omega), hyb (by omega) (by omega), z]
        rfl
      rw [hv] at h
      rw [z]
      exact br_f (by decide) (br_f (by decide) (br_f (by decide) (br_f (by decide) (br_f (by decide) (br_f (by decide) (br_f (by decide) (br_f (by decide) (br_t (by decide) (br_c (fun q => by rw [if_pos q] at h; exact h) (fun q => by rw [if_neg q] at h; exact h))))))))))
    · have hv : sv_vc C me i rs nw k = (if x ≤ y then y else x) := by
        unfold sv_vc
        rw [hxa (by omega) (by omega), hyb (by omega) (by omega), z]
        rfl
      rw [hv] at h
      rw [z]
      exact br_f (by decide) (br_f (by decide) (br_f (by decide) (br_f (by decide) (br_f (by decide) (br_f (by decide) (br_f (by decide) (br_f (by decide) (br_f (by decide) (br_t (by decide) (br_c (fun q => by rw [if_pos q] at h; exact h) (fun q => by rw [if_neg q] at h; exact h)))))))))))
    · have hv : sv_vc C me i rs nw k = (if y ≤ x then 0 else 1) := by
        unfold sv_vc
        rw [hxa (by omega) (by omega), hyb (by omega) (by omega), z]
        rfl
      rw [hv] at h
      rw [z]
      exact br_f (by decide) (br_f (by decide) (br_f (by decide) (br_f (by decide) (br_f (by decide) (br_f (by decide) (br_f (by decide) (br_f (by decide) (br_f (by decide) (br_f (by decide) (br_t (by decide) (br_c (fun q => by rw [if_pos q] at h; exact h) (fun q => by rw [if_neg q] at h; exact h))))))))))))
    · have hv : sv_vc C me i rs nw k = (if x = y then 1 else 0) := by
        unfold sv_vc
        rw [hxa (by omega) (by omega), hyb (by omega) (by omega), z]
        rfl
      rw [hv] at h
      rw [z]
      exact br_f (by decide) (br_f (by decide) (br_f (by decide) (br_f (by decide) (br_f (by decide) (br_f (by decide) (br_f (by decide) (br_f (by decide) (br_f (by decide) (br_f (by decide) (br_f (by decide) (br_t (by decide) (br_c (fun q => by rw [if_pos q] at h; exact h) (fun q => by rw [if_neg q] at h; exact h)))))))))))))
    · refine br_f (sv_ne (c := 0) rfl (by omega) (by omega) (by omega)) (br_f (sv_ne (c := 1) rfl (by omega) (by omega) (by omega)) (br_f (sv_ne (c := 2) rfl (by omega) (by omega) (by omega)) (br_f (sv_ne (c := 3) rfl (by omega) (by omega) (by omega)) (br_f (sv_ne (c := 4) rfl (by omega) (by omega) (by omega)) (br_f (sv_ne (c := 5) rfl (by omega) (by omega) (by omega)) (br_f (sv_ne (c := 6) rfl (by omega) (by omega) (by omega)) (br_f (sv_ne (c := 7) rfl (by omega) (by omega) (by omega)) (br_f (sv_ne (c := 8) rfl (by omega) (by omega) (by omega)) (br_f (sv_ne (c := 9) rfl (by omega) (by omega) (by omega)) (br_f (sv_ne (c := 10) rfl (by omega) (by omega) (by omega)) (br_f (sv_ne (c := 11) rfl (by omega) (by omega) (by omega)) (sv_w3 (A := fun z0 => wY_value_267 post (nI k) (nI i) (nI (sv_o C k)) y z0 by' (nI (2 ^ (sv_lw C))) gg (nI (sv_n C)) cm cp tt (nI (sv_s C)) st (nI nx) tr me tb (sv_pg C) (sv_op C) (sv_ia C) (sv_ib C) (sv_ic C) (sv_mk C) (sv_ps C) rs nw) hl ?_))))))))))))
      unfold sv_vc at h
      rw [if_neg (by omega), if_neg (by omega)] at h
      refine yc_267 hO hk hi' z h15 (fun q => ?_) (fun q => ?_) (fun q => ?_)
      · rw [hxa (by omega) (by omega), hyb (by omega) (by omega), if_neg (by omega), if_neg (by omega), q] at h
        exact h
      · rw [if_pos q] at h
        exact h
      · rw [if_neg (by omega), if_pos q] at h
        exact h
end SvYc
end
section
/-! Y: an element, and the run -/
abbrev SvJ : Type := Int32 → (Nat → Int32) → (Nat → Int32) → (Nat → Int32) → (Nat → Int32) → (Nat → Int32) → (Nat → Int32) → (Nat → Int32) → (Nat → Int32) → (Nat → Int32) → (Nat → Int32) → (Nat → Int32) → Prop
section SvYe
variable {C : SvC} {nx : Nat} {by' gg cm cp tt st tr : Int32} {me tb rs nw : Nat → Int32}
theorem ye_119 {post : Int32 → SY → Prop} {J2 : SvJ} {k i : Nat} (hO : sv_OK C) (hk : k < (sv_n C)) (hi' : i < 2 ^ 20)
    (h : J2 (nI (k + 1)) me tb (sv_pg C) (sv_op C) (sv_ia C) (sv_ib C) (sv_ic C) (sv_mk C) (sv_ps C) rs (upd nw k (if sv_o C k ≤ 15 then sv_vv C me i rs nw k else 0))) : wY_examine_119 post J2 (nI i) (nI k) by' (nI (2 ^ (sv_lw C))) gg (nI (sv_n C)) cm cp tt (nI (sv_s C)) st (nI nx) tr me tb (sv_pg C) (sv_op C) (sv_ia C) (sv_ib C) (sv_ic C) (sv_mk C) (sv_ps C) rs nw := by
  have hn := hO.2.1
  have hw := hO.2.2.2.1 k hk
  have c : (nI k).toNatClampNeg = k := nI_clamp (by omega)
  have hi : vp_in (nI k) 16 := vp_in_nI (by omega) (by omega)
  unfold wY_examine_119
  rw [c, hw.1.1]
  refine ⟨hi, sv_15 hw.1.2 (fun z => ⟨hi, ?_⟩) (fun z => ?_)⟩
  · rw [if_neg (by omega)] at h
    exact nm_e (nm_r (nI_1 k) h)
  · rw [if_pos z] at h
    refine yc_value hO hk hi' z ⟨hi, ?_⟩
    exact nm_e (nm_r (nI_1 k) h)
theorem ye_49 {post : Int32 → SY → Prop} {J2 : SvJ} {k i : Nat} (hO : sv_OK C) (hk : k < (sv_n C)) (h14 : 14 ≤ sv_o C k) (h17 : sv_o C k ≤ 17) : ∀ d t, t + d = 2 ^ (sv_lw C) → (sv_fp (sv_pg C) (sv_nd C k) (sv_bk C k) (sv_of C nw i k) d t = none → wY_examine_119 post J2 (nI i) (nI k) by' (nI (2 ^ (sv_lw C))) gg (nI (sv_n C)) cm cp tt (nI (sv_s C)) st (nI nx) tr me tb (sv_pg C) (sv_op C) (sv_ia C) (sv_ib C) (sv_ic C) (sv_mk C) (sv_ps C) rs nw) → (∀ p, sv_fp (sv_pg C) (sv_nd C k) (sv_bk C k) (sv_of C nw i k) d t = some p → p < 16 → post 0 (by', nI (2 ^ (sv_lw C)), gg, nI (sv_n C), cm, cp, tt, nI (sv_s C), st, nI nx, nI (k * 16 + p), me, tb, (sv_pg C), (sv_op C), (sv_ia C), (sv_ib C), (sv_ic C), (sv_mk C), (sv_ps C), rs, nw)) → wY_examine_49 post J2 (nI i) (nI k) 1 by' (nI (2 ^ (sv_lw C))) gg (nI (sv_n C)) cm cp tt (nI (sv_s C)) st (nI nx) tr me tb (sv_pg C) (sv_op C) (sv_ia C) (sv_ib C) (sv_ic C) (sv_mk C) (sv_ps C) rs nw (d + 1) (nI t) := by
  have hp := sv_p24 hO.1
  have hn := hO.2.1
  have hw := hO.2.2.2.1 k hk
  have c : (nI k).toNatClampNeg = k := nI_clamp (by omega)
  have hi : vp_in (nI k) 16 := vp_in_nI (by omega) (by omega)
  intro d
  induction d with
  | zero =>
    intro t ht h1 h2
    have e : t = 2 ^ (sv_lw C) := by omega
    subst e
    rw [wY_examine_49]
    exact br_f (by decide) (br_t (nI_le (Nat.le_refl _) (by omega)) (h1 rfl))
  | succ d ih =>
    intro t ht h1 h2
    have hb := sv_bk1 (k := k) hO.2.2.1
    have hlt := sv_ad_lt hb (sv_of C nw i k) t
    have c2 : (nI (sv_ad (sv_bk C k) (sv_of C nw i k) t / 16)).toNatClampNeg = sv_ad (sv_bk C k) (sv_of C nw i k) t / 16 := nI_clamp (by omega)
    rw [wY_examine_49]
    refine br_f (by decide) (br_f (nI_ge (by omega) (by omega)) (yc_ad hO hk h14 h17 (nm_r (sv_pgS hb _ t) ⟨vp_in_nI (by omega) (by omega), hi, ?_⟩)))
    rw [c, c2, hw.1.1]
    rw [sv_fp] at h1 h2
    have key : wY_examine_97 post J2 (wY_examine_49 post J2 (nI i) (nI k) 1 by' (nI (2 ^ (sv_lw C))) gg (nI (sv_n C)) cm cp tt (nI (sv_s C)) st (nI nx) tr me tb (sv_pg C) (sv_op C) (sv_ia C) (sv_ib C) (sv_ic C) (sv_mk C) (sv_ps C) rs nw (d + 1)) (nI i) (nI k) 1 (nI t) (nI (sv_ad (sv_bk C k) (sv_of C nw i k) t / 16)) (sv_nd C k) ((sv_pg C) (sv_ad (sv_bk C k) (sv_of C nw i k) t / 16)) by' (nI (2 ^ (sv_lw C))) gg (nI (sv_n C)) cm cp tt (nI (sv_s C)) st (nI nx) tr me tb (sv_pg C) (sv_op C) (sv_ia C) (sv_ib C) (sv_ic C) (sv_mk C) (sv_ps C) rs nw := by
      unfold wY_examine_97
      refine br_c (fun z => ?_) (fun z => ?_)
      · rw [if_pos z] at h1 h2
        exact nm_r (nI_1 t) (ih (t + 1) (by omega) h1 h2)
      · rw [if_neg z] at h2
        refine nm_r (e' := nI (k * 16 + sv_ad (sv_bk C k) (sv_of C nw i k) t / 16)) ?_ (h2 _ rfl (by omega))
        rw [show nI k * 16 = nI (k * 16) from pk_mul k 16, nI_add]
    unfold sv_nd at key
    refine sv_15 hw.1.2 (fun z => ?_) (fun z => ?_)
    · rw [if_neg (by omega)] at key
      exact key
    · rw [if_pos z] at key
      exact key
theorem sv_fl_up {N : Nat → Int32} {i K t : Nat} (h : sv_fl C N i K = some t) : ∀ d, sv_fl C N i (K + d) = some t := by
  intro d
  induction d with
  | zero => exact h
  | succ d ih => exact sv_fl_s ih
theorem ye_49n {post : Int32 → SY → Prop} {J2 : SvJ} {k i : Nat} (h : wY_examine_119 post J2 (nI i) (nI k) by' (nI (2 ^ (sv_lw C))) gg (nI (sv_n C)) cm cp tt (nI (sv_s C)) st (nI nx) tr me tb (sv_pg C) (sv_op C) (sv_ia C) (sv_ib C) (sv_ic C) (sv_mk C) (sv_ps C) rs nw) : ∃ n49, wY_examine_49 post J2 (nI i) (nI k) 0 by' (nI (2 ^ (sv_lw C))) gg (nI (sv_n C)) cm cp tt (nI (sv_s C)) st (nI nx) tr me tb (sv_pg C) (sv_op C) (sv_ia C) (sv_ib C) (sv_ic C) (sv_mk C) (sv_ps C) rs nw n49 0 := by
  refine ⟨1, ?_⟩
  rw [wY_examine_49]
  exact br_t rfl h
theorem ye_2 {post : Int32 → SY → Prop} {i : Nat} {N : Nat → Int32} (hO : sv_OK C) (hi' : i < 2 ^ 20) (hN : N = sv_now C me i rs)
    (hE : ∀ nw, sv_ag C (sv_n C) nw N → sv_fl C N i (sv_n C) = none → post 1 (by', nI (2 ^ (sv_lw C)), gg, nI (sv_n C), cm, cp, tt, nI (sv_s C), st, nI nx, tr, me, tb, (sv_pg C), (sv_op C), (sv_ia C), (sv_ib C), (sv_ic C), (sv_mk C), (sv_ps C), rs, nw))
    (hT : ∀ nw t, sv_fl C N i (sv_n C) = some t → t < 256 → post 0 (by', nI (2 ^ (sv_lw C)), gg, nI (sv_n C), cm, cp, tt, nI (sv_s C), st, nI nx, nI t, me, tb, (sv_pg C), (sv_op C), (sv_ia C), (sv_ib C), (sv_ic C), (sv_mk C), (sv_ps C), rs, nw)) : ∀ d K nw, K + d = (sv_n C) → sv_ag C K nw N → sv_fl C N i K = none → wY_examine_2 post (nI i) by' (nI (2 ^ (sv_lw C))) gg (nI (sv_n C)) cm cp tt (nI (sv_s C)) st (nI nx) tr (d + 1) (nI K) me tb (sv_pg C) (sv_op C) (sv_ia C) (sv_ib C) (sv_ic C) (sv_mk C) (sv_ps C) rs nw := by
  have hn := hO.2.1
  intro d
  induction d with
  | zero =>
    intro K nw hK ha hf
    have e1 : K = (sv_n C) := by omega
    subst e1
    rw [wY_examine_2]
    exact br_t (nI_le (Nat.le_refl _) (by omega)) (hE nw ha hf)
  | succ d ih =>
    intro K nw hK ha hf
    have hKn : K < (sv_n C) := by omega
    have hw := hO.2.2.2.1 K hKn
    have c : (nI K).toNatClampNeg = K := nI_clamp (by omega)
    have hi : vp_in (nI K) 16 := vp_in_nI (by omega) (by omega)
    have hft := sv_ft_c (i := i) hw ha
    have ho18 := hw.1.2
    have hgo : sv_ft C nw i K = none → wY_examine_119 post (wY_examine_2 post (nI i) by' (nI (2 ^ (sv_lw C))) gg (nI (sv_n C)) cm cp tt (nI (sv_s C)) st (nI nx) tr (d + 1)) (nI i) (nI K) by' (nI (2 ^ (sv_lw C))) gg (nI (sv_n C)) cm cp tt (nI (sv_s C)) st (nI nx) tr me tb (sv_pg C) (sv_op C) (sv_ia C) (sv_ib C) (sv_ic C) (sv_mk C) (sv_ps C) rs nw := by
      intro h0
      refine ye_119 hO hKn hi' (ih (K + 1) _ (by omega) ?_ (sv_fl_n hf (hft.symm.trans h0)))
      intro j hj ho
      by_cases z : j = K
      · subst z
        rw [pk_us, if_pos ho, hN, sv_now_fix hO.2.2.2.1 hKn ho, ← hN]
        exact sv_vv_c hw ho (fun _ _ => rfl) (fun _ _ _ => rfl) ha
      · rw [pk_un z]
        exact ha j (by omega) ho
    rw [wY_examine_2]
    refine br_f (nI_ge (by omega) (by omega)) ⟨hi, ?_⟩
    rw [c, hw.1.1]
    refine pk_lt (sv_o C K) 14 (fun z => ye_49n (hgo (sv_ft_off (by omega)))) (fun z => ⟨hi, pk_lt 17 (sv_o C K) (fun z2 => ye_49n (hgo (sv_ft_off (by omega)))) (fun z2 => yc_act hO hKn ?_)⟩)
    cases hac : sv_ac C nw K with
    | false => exact br_t (by decide) (ye_49n (hgo (sv_ft_p hac)))
    | true =>
      rw [sv_ft_a z z2 hac] at hft hgo
      refine br_f (by decide) ⟨2 ^ (sv_lw C) + 1, ye_49 hO hKn z z2 (2 ^ (sv_lw C)) 0 (by omega) hgo ?_⟩
      intro p hp h16
      have h1 : sv_fl C N i (K + 1) = some (K * 16 + p) := sv_fl_f hf (hft.symm.trans hp)
      have h2 := sv_fl_up h1 d
      rw [show K + 1 + d = (sv_n C) from by omega] at h2
      exact hT nw _ h2 (by omega)
/-! complete -/
theorem yk_297 {post : SY → Prop} {J2 : SvJ} {x1 x4 x5 : Int32} {k o : Nat} {b : Bool} (hk : k < 16) (ho : o ≤ 18) (hp : b = false ∨ o ≠ 18 ∨ ¬ (sv_ib C) k = 3) (h : J2 (nI (k + 1)) me tb (sv_pg C) (sv_op C) (sv_ia C) (sv_ib C) (sv_ic C) (sv_mk C) (sv_ps C) rs nw) : wY_complete_297 post J2 x1 (nI k) (nI o) x4 x5 (cond b 1 0) by' (nI (2 ^ (sv_lw C))) gg (nI (sv_n C)) cm cp tt (nI (sv_s C)) st (nI nx) tr me tb (sv_pg C) (sv_op C) (sv_ia C) (sv_ib C) (sv_ic C) (sv_mk C) (sv_ps C) rs nw := by
  have c : (nI k).toNatClampNeg = k := nI_clamp (by omega)
  have hi : vp_in (nI k) 16 := vp_in_nI (by omega) (by omega)
  unfold wY_complete_297
  rw [c]
  cases b with
  | false => exact br_t (by decide) (nm_r (nI_1 k) h)
  | true =>
    refine br_f (by decide) (pk_eq o 18 (fun z => ⟨hi, br_f ?_ (nm_r (nI_1 k) h)⟩) (fun z => nm_r (nI_1 k) h))
    rcases hp with y | y | y
    · exact absurd y (by decide)
    · exact absurd z y
    · exact y
theorem yk_256 {post : SY → Prop} {J2 : SvJ} {x1 x4 x5 : Int32} {k o : Nat} {b : Bool} (hk : k < 16) (ho : o ≤ 18) (hp : b = false ∨ o ≠ 18 ∨ ¬ (sv_ib C) k = 2) (h : wY_complete_297 post J2 x1 (nI k) (nI o) x4 x5 (cond b 1 0) by' (nI (2 ^ (sv_lw C))) gg (nI (sv_n C)) cm cp tt (nI (sv_s C)) st (nI nx) tr me tb (sv_pg C) (sv_op C) (sv_ia C) (sv_ib C) (sv_ic C) (sv_mk C) (sv_ps C) rs nw) : wY_complete_256 post J2 x1 (nI k) (nI o) x4 x5 (cond b 1 0) by' (nI (2 ^ (sv_lw C))) gg (nI (sv_n C)) cm cp tt (nI (sv_s C)) st (nI nx) tr me tb (sv_pg C) (sv_op C) (sv_ia C) (sv_ib C) (sv_ic C) (sv_mk C) (sv_ps C) rs nw := by
  have c : (nI k).toNatClampNeg = k := nI_clamp (by omega)
  have hi : vp_in (nI k) 16 := vp_in_nI (by omega) (by omega)
  unfold wY_complete_256
  rw [c]
  cases b with
  | false => exact br_t (by decide) h
  | true =>
    refine br_f (by decide) (pk_eq o 18 (fun z => ⟨hi, br_f ?_ h⟩) (fun z => h))
    rcases hp with y | y | y
    · exact absurd y (by decide)
    · exact absurd z y
    · exact y
theorem yk_215 {post : SY → Prop} {J2 : SvJ} {x1 x4 x5 : Int32} {k o : Nat} {b : Bool} (hk : k < 16) (ho : o ≤ 18) (hp : b = false ∨ o ≠ 18 ∨ ¬ (sv_ib C) k = 1) (h : wY_complete_256 post J2 x1 (nI k) (nI o) x4 x5 (cond b 1 0) by' (nI (2 ^ (sv_lw C))) gg (nI (sv_n C)) cm cp tt (nI (sv_s C)) st (nI nx) tr me tb (sv_pg C) (sv_op C) (sv_ia C) (sv_ib C) (sv_ic C) (sv_mk C) (sv_ps C) rs nw) : wY_complete_215 post J2 x1 (nI k) (nI o) x4 x5 (cond b 1 0) by' (nI (2 ^ (sv_lw C))) gg (nI (sv_n C)) cm cp tt (nI (sv_s C)) st (nI nx) tr me tb (sv_pg C) (sv_op C) (sv_ia C) (sv_ib C) (sv_ic C) (sv_mk C) (sv_ps C) rs nw := by
  have c : (nI k).toNatClampNeg = k := nI_clamp (by omega)
  have hi : vp_in (nI k) 16 := vp_in_nI (by omega) (by omega)
  unfold wY_complete_215
  rw [c]
  cases b with
  | false => exact br_t (by decide) h
  | true =>
    refine br_f (by decide) (pk_eq o 18 (fun z => ⟨hi, br_f ?_ h⟩) (fun z => h))
    rcases hp with y | y | y
    · exact absurd y (by decide)
    · exact absurd z y
    · exact y
theorem yk_180 {post : SY → Prop} {J2 : SvJ} {x1 x4 x5 : Int32} {k o : Nat} {b : Bool} (hk : k < 16) (ho : o ≤ 18) (hp : b = false ∨ o ≠ 18 ∨ ¬ (sv_ib C) k = 0) (h : wY_complete_215 post J2 x1 (nI k) (nI o) x4 x5 (cond b 1 0) by' (nI (2 ^ (sv_lw C))) gg (nI (sv_n C)) cm cp tt (nI (sv_s C)) st (nI nx) tr me tb (sv_pg C) (sv_op C) (sv_ia C) (sv_ib C) (sv_ic C) (sv_mk C) (sv_ps C) rs nw) : wY_complete_180 post J2 x1 (nI k) (nI o) x4 x5 (cond b 1 0) by' (nI (2 ^ (sv_lw C))) gg (nI (sv_n C)) cm cp tt (nI (sv_s C)) st (nI nx) tr me tb (sv_pg C) (sv_op C) (sv_ia C) (sv_ib C) (sv_ic C) (sv_mk C) (sv_ps C) rs nw := by
  have c : (nI k).toNatClampNeg = k := nI_clamp (by omega)
  have hi : vp_in (nI k) 16 := vp_in_nI (by omega) (by omega)
  unfold wY_complete_180
  rw [c]
  cases b with
  | false => exact br_t (by decide) h
  | true =>
    refine br_f (by decide) (pk_eq o 18 (fun z => ⟨hi, br_f ?_ h⟩) (fun z => h))
    rcases hp with y | y | y
    · exact absurd y (by decide)
    · exact absurd z y
    · exact y
theorem yk_180n {post : SY → Prop} {J2 : SvJ} {x1 x4 x5 : Int32} {k o : Nat} {b : Bool} (hk : k < 16) (ho : o ≤ 18) (hp : b = false ∨ o ≠ 18) (h : J2 (nI (k + 1)) me tb (sv_pg C) (sv_op C) (sv_ia C) (sv_ib C) (sv_ic C) (sv_mk C) (sv_ps C) rs nw) : wY_complete_180 post J2 x1 (nI k) (nI o) x4 x5 (cond b 1 0) by' (nI (2 ^ (sv_lw C))) gg (nI (sv_n C)) cm cp tt (nI (sv_s C)) st (nI nx) tr me tb (sv_pg C) (sv_op C) (sv_ia C) (sv_ib C) (sv_ic C) (sv_mk C) (sv_ps C) rs nw := by
  have hp' : ∀ {p : Prop}, b = false ∨ o ≠ 18 ∨ p := by
    intro p
    rcases hp with y | y
    · exact Or.inl y
    · exact Or.inr (Or.inl y)
  exact yk_180 hk ho hp' (yk_215 hk ho hp' (yk_256 hk ho hp' (yk_297 hk ho hp' h)))
theorem yk_180r {post : SY → Prop} {J2 : SvJ} {x1 x4 : Int32} {k j : Nat} (hl : (sv_lw C) ≤ 2) (hk : k < 16) (hj : j ≤ 3) (hb : (sv_ib C) k = nI j) (h : J2 (nI (k + 1)) me tb (sv_pg C) (sv_op C) (sv_ia C) (sv_ib C) (sv_ic C) (sv_mk C) (sv_ps C) (upd rs k (sv_rd (sv_lw C) j (rs k) x4)) nw) : wY_complete_180 post J2 x1 (nI k) (nI 18) x4 (rs k) (cond true 1 0) by' (nI (2 ^ (sv_lw C))) gg (nI (sv_n C)) cm cp tt (nI (sv_s C)) st (nI nx) tr me tb (sv_pg C) (sv_op C) (sv_ia C) (sv_ib C) (sv_ic C) (sv_mk C) (sv_ps C) rs nw := by
  have c : (nI k).toNatClampNeg = k := nI_clamp (by omega)
  have hi : vp_in (nI k) 16 := vp_in_nI (by omega) (by omega)
  have hc : j = 0 ∨ j = 1 ∨ j = 2 ∨ j = 3 := by omega
  rcases hc with rfl | rfl | rfl | rfl
  · unfold wY_complete_180
    rw [c]
    refine br_f (by decide) (br_t (by decide) ⟨hi, br_t hb (yb_narrow hl ⟨hi, nm_e ?_⟩)⟩)
    have n1 : ¬ (sv_ib C) k = 1 := by rw [hb]; decide
    have n2 : ¬ (sv_ib C) k = 2 := by rw [hb]; decide
    have n3 : ¬ (sv_ib C) k = 3 := by rw [hb]; decide
    exact yk_215 (b := true) (o := 18) hk (by omega) (Or.inr (Or.inr n1)) (yk_256 (b := true) hk (by omega) (Or.inr (Or.inr n2)) (yk_297 (b := true) hk (by omega) (Or.inr (Or.inr n3)) h))
  · have n0 : ¬ (sv_ib C) k = 0 := by rw [hb]; decide
    have n2 : ¬ (sv_ib C) k = 2 := by rw [hb]; decide
    have n3 : ¬ (sv_ib C) k = 3 := by rw [hb]; decide
    refine yk_180 (b := true) hk (by omega) (Or.inr (Or.inr n0)) ?_
    unfold wY_complete_215
    rw [c]
    refine br_f (by decide) (br_t (by decide) ⟨hi, br_t hb ?_⟩)
    have h' : J2 (nI (k + 1)) me tb (sv_pg C) (sv_op C) (sv_ia C) (sv_ib C) (sv_ic C) (sv_mk C) (sv_ps C) (upd rs k (if x4 ≤ rs k then x4 else rs k)) nw := h
    refine br_c (fun z => ?_) (fun z => ?_)
    · rw [if_pos z] at h'
      unfold wY_complete_255
      rw [c]
      exact ⟨hi, nm_e (yk_256 (b := true) hk (by omega) (Or.inr (Or.inr n2)) (yk_297 (b := true) hk (by omega) (Or.inr (Or.inr n3)) h'))⟩
    · rw [if_neg z] at h'
      unfold wY_complete_255
      rw [c]
      exact ⟨hi, nm_e (yk_256 (b := true) hk (by omega) (Or.inr (Or.inr n2)) (yk_297 (b := true) hk (by omega) (Or.inr (Or.inr n3)) h'))⟩
  · have n0 : ¬ (sv_ib C) k = 0 := by rw [hb]; decide
    have n1 : ¬ (sv_ib C) k = 1 := by rw [hb]; decide
    have n3 : ¬ (sv_ib C) k = 3 := by rw [hb]; decide
    refine yk_180 (b := true) hk (by omega) (Or.inr (Or.inr n0)) (yk_215 (b := true) hk (by omega) (Or.inr (Or.inr n1)) ?_)
    unfold wY_complete_256
    rw [c]
    refine br_f (by decide) (br_t (by decide) ⟨hi, br_t hb ?_⟩)
    have h' : J2 (nI (k + 1)) me tb (sv_pg C) (sv_op C) (sv_ia C) (sv_ib C) (sv_ic C) (sv_mk C) (sv_ps C) (upd rs k (if rs k ≤ x4 then x4 else rs k)) nw := h
    refine br_c (fun z => ?_) (fun z => ?_)
    · rw [if_pos z] at h'
      unfold wY_complete_296
      rw [c]
      exact ⟨hi, nm_e (yk_297 (b := true) hk (by omega) (Or.inr (Or.inr n3)) h')⟩
    · rw [if_neg z] at h'
      unfold wY_complete_296
      rw [c]
      exact ⟨hi, nm_e (yk_297 (b := true) hk (by omega) (Or.inr (Or.inr n3)) h')⟩
  · have n0 : ¬ (sv_ib C) k = 0 := by rw [hb]; decide
    have n1 : ¬ (sv_ib C) k = 1 := by rw [hb]; decide
    have n2 : ¬ (sv_ib C) k = 2 := by rw [hb]; decide
    refine yk_180 (b := true) hk (by omega) (Or.inr (Or.inr n0)) (yk_215 (b := true) hk (by omega) (Or.inr (Or.inr n1)) (yk_256 (b := true) hk (by omega) (Or.inr (Or.inr n2)) ?_))
    unfold wY_complete_297
    rw [c]
    exact br_f (by decide) (br_t (by decide) ⟨hi, br_t hb ⟨hi, nm_e (nm_r (nI_1 k) h)⟩⟩)
theorem yk_135 {post : SY → Prop} {J2 : SvJ} {x1 x4 : Int32} {k : Nat} (hO : sv_OK C) (hk : k < (sv_n C)) (hx : 16 ≤ sv_o C k → x4 = nw (sv_a C k)) (h : J2 (nI (k + 1)) me tb (sv_pg C) (sv_op C) (sv_ia C) (sv_ib C) (sv_ic C) (sv_mk C) (sv_ps C) (sv_eR C nw k rs) nw) : wY_complete_135 post J2 x1 (nI k) (nI (sv_o C k)) x4 (rs k) (cond (sv_ac C nw k) 1 0) by' (nI (2 ^ (sv_lw C))) gg (nI (sv_n C)) cm cp tt (nI (sv_s C)) st (nI nx) tr me tb (sv_pg C) (sv_op C) (sv_ia C) (sv_ib C) (sv_ic C) (sv_mk C) (sv_ps C) rs nw := by
  have hn := hO.2.1
  have hw := hO.2.2.2.1 k hk
  have c : (nI k).toNatClampNeg = k := nI_clamp (by omega)
  have hi : vp_in (nI k) 16 := vp_in_nI (by omega) (by omega)
  have ho := hw.1.2
  unfold sv_eR sv_r at h
  unfold wY_complete_135
  rw [c]
  refine sv_15 ho (fun z => ?_) (fun z => ⟨hi, hi, nm_e ?_⟩)
  · rw [if_neg (by omega)] at h
    unfold wY_complete_153
    cases ha : sv_ac C nw k with
    | false =>
      rw [ha, if_neg (by decide), sb2_up_self] at h
      exact br_t (by decide) (yk_180n (b := false) (by omega) ho (Or.inl rfl) h)
    | true =>
      rw [ha, if_pos rfl] at h
      refine br_f (by decide) ?_
      by_cases e18 : sv_o C k = 18
      · have hb := hw.2.2.2.1 e18
        rw [if_pos e18, ← hx z] at h
        rw [e18]
        exact br_f (by decide) (br_f (by decide) (yk_180r hO.1 (by omega) hb.2 hb.1 h))
      · rw [if_neg e18] at h
        have h170 : wY_complete_170 post J2 x1 (nI k) (nI (sv_o C k)) x4 (rs k) (cond true 1 0) by' (nI (2 ^ (sv_lw C))) gg (nI (sv_n C)) cm cp tt (nI (sv_s C)) st (nI nx) tr me tb (sv_pg C) (sv_op C) (sv_ia C) (sv_ib C) (sv_ic C) (sv_mk C) (sv_ps C) rs nw := by
          unfold wY_complete_170
          rw [c]
          exact ⟨hi, nm_e (yk_180n (b := true) (by omega) ho (Or.inr e18) h)⟩
        exact pk_eq (sv_o C k) 16 (fun _ => h170) (fun _ => pk_eq (sv_o C k) 17 (fun _ => h170) (fun _ => absurd z (by omega)))
  · rw [if_pos z] at h
    unfold wY_complete_153
    have h180 := yk_180n (post := post) (by' := by') (gg := gg) (cm := cm) (cp := cp) (tt := tt) (st := st) (nx := nx) (tr := tr) (x1 := x1) (x4 := x4) (x5 := rs k) (o := sv_o C k) (b := sv_ac C nw k) (by omega) ho (Or.inr (by omega)) h
    exact br_c (fun _ => h180) (fun _ => pk_eq (sv_o C k) 16 (fun y => absurd y (by omega)) (fun _ => pk_eq (sv_o C k) 17 (fun y => absurd y (by omega)) (fun _ => h180)))
end SvYe
end
section
/-! Y: the effects of an element, the run -/
section SvYf
variable {C : SvC} {nx : Nat} {by' gg cm cp tt st tr : Int32} {me tb rs nw : Nat → Int32}
theorem yf_47l {post : SY → Prop} {J2 : SvJ} {x4 x5 : Int32} {k i : Nat} (hO : sv_OK C) (hk : k < (sv_n C)) (h14 : 14 ≤ sv_o C k) (h15 : sv_o C k ≤ 15)
    (h : wY_complete_135 post J2 (nI i) (nI k) (nI (sv_o C k)) x4 x5 (cond true 1 0) by' (nI (2 ^ (sv_lw C))) gg (nI (sv_n C)) cm cp tt (nI (sv_s C)) st (nI nx) tr me (sv_tch (sv_bk C k) (sv_of C nw i k) 1 tb (2 ^ (sv_lw C))) (sv_pg C) (sv_op C) (sv_ia C) (sv_ib C) (sv_ic C) (sv_mk C) (sv_ps C) rs nw) : ∀ d t, t + d = 2 ^ (sv_lw C) → wY_complete_47 post J2 (nI i) (nI k) (nI (sv_o C k)) x4 x5 (cond true 1 0) by' (nI (2 ^ (sv_lw C))) gg (nI (sv_n C)) cm cp tt (nI (sv_s C)) st (nI nx) tr (d + 1) (nI t) me (sv_tch (sv_bk C k) (sv_of C nw i k) 1 tb t) (sv_pg C) (sv_op C) (sv_ia C) (sv_ib C) (sv_ic C) (sv_mk C) (sv_ps C) rs nw := by
  have hp := sv_p24 hO.1
  intro d
  induction d with
  | zero =>
    intro t ht
    have e : t = 2 ^ (sv_lw C) := by omega
    subst e
    rw [wY_complete_47]
    exact br_f (by decide) (pk_lt (sv_o C k) 14 (fun y => absurd y (by omega)) (fun _ => pk_lt 17 (sv_o C k) (fun y => absurd y (by omega)) (fun _ => br_t (nI_le (Nat.le_refl _) (by omega)) h)))
  | succ d ih =>
    intro t ht
    have hlt := sv_ad_lt (sv_bk1 (k := k) hO.2.2.1) (sv_of C nw i k) t
    have c : (nI (sv_ad (sv_bk C k) (sv_of C nw i k) t)).toNatClampNeg = sv_ad (sv_bk C k) (sv_of C nw i k) t := nI_clamp (by omega)
    have hv : vp_in (nI (sv_ad (sv_bk C k) (sv_of C nw i k) t)) 256 := vp_in_nI (by omega) (by omega)
    rw [wY_complete_47]
    refine br_f (by decide) (pk_lt (sv_o C k) 14 (fun y => absurd y (by omega)) (fun _ => pk_lt 17 (sv_o C k) (fun y => absurd y (by omega)) (fun _ => br_f (nI_ge (by omega) (by omega)) (yc_ad hO hk h14 (by omega) ⟨hv, sv_15 (by omega) (fun y => absurd y (by omega)) (fun _ => ?_)⟩))))
    unfold wY_complete_102
    rw [c]
    refine ⟨hv, nm_r (e' := sv_tch (sv_bk C k) (sv_of C nw i k) 1 tb (t + 1)) rfl (pk_lt (sv_o C k) 16 (fun _ => nm_r (nI_1 t) (ih (t + 1) (by omega))) (fun y => absurd y (by omega)))⟩
theorem yf_47s {post : SY → Prop} {J2 : SvJ} {x4 x5 : Int32} {k i : Nat} (hO : sv_OK C) (hk : k < (sv_n C)) (h16 : 16 ≤ sv_o C k) (h17 : sv_o C k ≤ 17)
    (h : wY_complete_135 post J2 (nI i) (nI k) (nI (sv_o C k)) x4 x5 (cond true 1 0) by' (nI (2 ^ (sv_lw C))) gg (nI (sv_n C)) cm cp tt (nI (sv_s C)) st (nI nx) tr (sv_stm (sv_bk C k) (sv_of C nw i k) x4 me (2 ^ (sv_lw C))) (sv_tch (sv_bk C k) (sv_of C nw i k) 2 tb (2 ^ (sv_lw C))) (sv_pg C) (sv_op C) (sv_ia C) (sv_ib C) (sv_ic C) (sv_mk C) (sv_ps C) rs nw) : ∀ d t, t + d = 2 ^ (sv_lw C) → wY_complete_47 post J2 (nI i) (nI k) (nI (sv_o C k)) x4 x5 (cond true 1 0) by' (nI (2 ^ (sv_lw C))) gg (nI (sv_n C)) cm cp tt (nI (sv_s C)) st (nI nx) tr (d + 1) (nI t) (sv_stm (sv_bk C k) (sv_of C nw i k) x4 me t) (sv_tch (sv_bk C k) (sv_of C nw i k) 2 tb t) (sv_pg C) (sv_op C) (sv_ia C) (sv_ib C) (sv_ic C) (sv_mk C) (sv_ps C) rs nw := by
  have hp := sv_p24 hO.1
  intro d
  induction d with
  | zero =>
    intro t ht
    have e : t = 2 ^ (sv_lw C) := by omega
    subst e
    rw [wY_complete_47]
    exact br_f (by decide) (pk_lt (sv_o C k) 14 (fun y => absurd y (by omega)) (fun _ => pk_lt 17 (sv_o C k) (fun y => absurd y (by omega)) (fun _ => br_t (nI_le (Nat.le_refl _) (by omega)) h)))
  | succ d ih =>
    intro t ht
    have hlt := sv_ad_lt (sv_bk1 (k := k) hO.2.2.1) (sv_of C nw i k) t
    have c : (nI (sv_ad (sv_bk C k) (sv_of C nw i k) t)).toNatClampNeg = sv_ad (sv_bk C k) (sv_of C nw i k) t := nI_clamp (by omega)
    have hv : vp_in (nI (sv_ad (sv_bk C k) (sv_of C nw i k) t)) 256 := vp_in_nI (by omega) (by omega)
    rw [wY_complete_47]
    refine br_f (by decide) (pk_lt (sv_o C k) 14 (fun y => absurd y (by omega)) (fun _ => pk_lt 17 (sv_o C k) (fun y => absurd y (by omega)) (fun _ => br_f (nI_ge (by omega) (by omega)) (yc_ad hO hk (by omega) h17 ⟨hv, sv_15 (by omega) (fun _ => ?_) (fun y => absurd y (by omega))⟩))))
    unfold wY_complete_102
    rw [c]
    refine ⟨hv, nm_r (e' := sv_tch (sv_bk C k) (sv_of C nw i k) 2 tb (t + 1)) rfl (pk_lt (sv_o C k) 16 (fun y => absurd y (by omega)) (fun _ => ⟨hv, nm_r (e' := sv_stm (sv_bk C k) (sv_of C nw i k) x4 me (t + 1)) rfl (nm_r (nI_1 t) (ih (t + 1) (by omega)))⟩))⟩
theorem yf_node {post : SY → Prop} {J2 : SvJ} {k i : Nat} (hO : sv_OK C) (hk : k < (sv_n C)) (h : J2 (nI (k + 1)) (sv_eM C nw i k me) (sv_eT C nw i k tb) (sv_pg C) (sv_op C) (sv_ia C) (sv_ib C) (sv_ic C) (sv_mk C) (sv_ps C) (sv_eR C nw k rs) nw) : ∃ n47, wY_complete_47 post J2 (nI i) (nI k) (nI (sv_o C k)) (sv_at nw ((sv_ia C) k)) (rs k) (cond (sv_ac C nw k) 1 0) by' (nI (2 ^ (sv_lw C))) gg (nI (sv_n C)) cm cp tt (nI (sv_s C)) st (nI nx) tr n47 0 me tb (sv_pg C) (sv_op C) (sv_ia C) (sv_ib C) (sv_ic C) (sv_mk C) (sv_ps C) rs nw := by
  have hn := hO.2.1
  have hw := hO.2.2.2.1 k hk
  have ho := hw.1.2
  have hx : 16 ≤ sv_o C k → sv_at nw ((sv_ia C) k) = nw (sv_a C k) := fun z => sv_at_VN (by omega) (hw.2.1 ⟨by omega, by omega⟩)
  have h135 := yk_135 (post := post) (by' := by') (gg := gg) (cm := cm) (cp := cp) (tt := tt) (st := st) (nx := nx) (tr := tr) (x1 := nI i) (x4 := sv_at nw ((sv_ia C) k)) (me := sv_eM C nw i k me) (tb := sv_eT C nw i k tb) hO hk hx h
  unfold sv_eM sv_eT at h135
  cases ha : sv_ac C nw k with
  | false =>
    rw [ha, Bool.and_false, Bool.and_false, sv_ff, sv_ff] at h135
    refine ⟨1, ?_⟩
    rw [wY_complete_47]
    exact br_t (by decide) h135
  | true =>
    rw [ha] at h135
    by_cases hm : 14 ≤ sv_o C k ∧ sv_o C k ≤ 17
    · rw [sv_mn_of hm.1 hm.2, sv_tt] at h135
      by_cases h15 : sv_o C k ≤ 15
      · rw [show (decide (16 ≤ sv_o C k) && decide (sv_o C k ≤ 17)) = false from by rw [decide_eq_false (by omega), Bool.false_and], Bool.false_and, sv_ff, show sv_nd C k = 1 from if_pos h15] at h135
        exact ⟨2 ^ (sv_lw C) + 1, yf_47l hO hk hm.1 h15 h135 (2 ^ (sv_lw C)) 0 (by omega)⟩
      · have h16 : 16 ≤ sv_o C k := by omega
        rw [decide_eq_true h16, decide_eq_true hm.2, Bool.and_self, sv_tt, show sv_nd C k = 2 from if_neg h15, ← hx h16] at h135
        exact ⟨2 ^ (sv_lw C) + 1, yf_47s hO hk h16 hm.2 h135 (2 ^ (sv_lw C)) 0 (by omega)⟩
    · rw [show sv_mn C k = false from sv_bf (fun z => hm (sv_mn_r z)), Bool.false_and, sv_ff, show (decide (16 ≤ sv_o C k) && decide (sv_o C k ≤ 17)) = false from by rw [Bool.and_eq_false_iff, decide_eq_false_iff_not, decide_eq_false_iff_not]; omega, Bool.false_and, sv_ff] at h135
      refine ⟨1, ?_⟩
      rw [wY_complete_47]
      exact br_f (by decide) (pk_lt (sv_o C k) 14 (fun _ => h135) (fun y => pk_lt 17 (sv_o C k) (fun _ => h135) (fun y2 => absurd ⟨y, y2⟩ hm)))
theorem yf_2 {post : SY → Prop} {i : Nat} (hO : sv_OK C) (h : post (by', nI (2 ^ (sv_lw C)), gg, nI (sv_n C), cm, cp, tt, nI (sv_s C), st, nI nx, tr, sv_row (sv_eM C nw i) (sv_n C) me, sv_row (sv_eT C nw i) (sv_n C) tb, (sv_pg C), (sv_op C), (sv_ia C), (sv_ib C), (sv_ic C), (sv_mk C), (sv_ps C), sv_row (sv_eR C nw) (sv_n C) rs, nw)) : ∀ d K, K + d = (sv_n C) → wY_complete_2 post (nI i) by' (nI (2 ^ (sv_lw C))) gg (nI (sv_n C)) cm cp tt (nI (sv_s C)) st (nI nx) tr (d + 1) (nI K) (sv_row (sv_eM C nw i) K me) (sv_row (sv_eT C nw i) K tb) (sv_pg C) (sv_op C) (sv_ia C) (sv_ib C) (sv_ic C) (sv_mk C) (sv_ps C) (sv_row (sv_eR C nw) K rs) nw := by
  have hn := hO.2.1
  intro d
  induction d with
  | zero =>
    intro K hK
    have e1 : K = (sv_n C) := by omega
    subst e1
    rw [wY_complete_2]
    exact br_t (nI_le (Nat.le_refl _) (by omega)) h
  | succ d ih =>
    intro K hK
    have hKn : K < (sv_n C) := by omega
    have hw := hO.2.2.2.1 K hKn
    have c : (nI K).toNatClampNeg = K := nI_clamp (by omega)
    have hi : vp_in (nI K) 16 := vp_in_nI (by omega) (by omega)
    rw [wY_complete_2]
    refine br_f (nI_ge (by omega) (by omega)) ⟨hi, ?_⟩
    rw [c]
    refine nm_r hw.1.1 ⟨hi, yb_at ⟨hi, nm_e (yc_act hO hKn ?_)⟩⟩
    exact yf_node hO hKn (ih (K + 1) (by omega))
/-- what Y's run asks at an end r of the picture's run -/
def sv_YO (post : Int32 → SY → Prop) (C : SvC) (tot : Nat) (by' gg cm cp st : Int32) (r : SvQ × Nat × Option Nat) : Prop :=
  ∀ (nw : Nat → Int32), (∀ t, r.2.2 = some t → t < 256 → post 3 (by', nI (2 ^ (sv_lw C)), gg, nI (sv_n C), cm, cp, nI tot, nI (sv_s C), st, nI r.2.1, nI t, r.1.1, r.1.2.1, (sv_pg C), (sv_op C), (sv_ia C), (sv_ib C), (sv_ic C), (sv_mk C), (sv_ps C), r.1.2.2, nw)) ∧ (r.2.2 = none → ((r.2.1 = tot → post 1 (by', nI (2 ^ (sv_lw C)), gg, nI (sv_n C), cm, cp, nI tot, nI (sv_s C), 2, nI r.2.1, -1, r.1.1, r.1.2.1, (sv_pg C), (sv_op C), (sv_ia C), (sv_ib C), (sv_ic C), (sv_mk C), (sv_ps C), r.1.2.2, nw)) ∧ (¬ r.2.1 = tot → post 2 (by', nI (2 ^ (sv_lw C)), gg, nI (sv_n C), cm, cp, nI tot, nI (sv_s C), st, nI r.2.1, -1, r.1.1, r.1.2.1, (sv_pg C), (sv_op C), (sv_ia C), (sv_ib C), (sv_ic C), (sv_mk C), (sv_ps C), r.1.2.2, nw))))
theorem yr_38 {post : Int32 → SY → Prop} {first lim tot : Nat} (hO : sv_OK C) (ht : tot ≤ 128) (hlim : lim < 2 ^ 31) : ∀ (l i : Nat) (q : SvQ) (nw : Nat → Int32), first ≤ i → ((i + l = tot ∧ i + l ≤ first + lim) ∨ (i + l < tot ∧ i + l = first + lim)) → sv_YO post C tot by' gg cm cp st (sv_rn C l i q) → wY_run_38 post (nI lim) (nI first) (l + 1) (nI i) by' (nI (2 ^ (sv_lw C))) gg (nI (sv_n C)) cm cp (nI tot) (nI (sv_s C)) st (nI i) (-1) (q.1) (q.2.1) (sv_pg C) (sv_op C) (sv_ia C) (sv_ib C) (sv_ic C) (sv_mk C) (sv_ps C) (q.2.2) nw := by
  intro l
  induction l with
  | zero =>
    intro i q nw hf hc hY
    have hY0 := (hY nw).2 rfl
    rw [wY_run_38]
    refine pk_le tot i (fun z => hY0.1 (show i = tot by omega)) (fun z => br_f ?_ (hY0.2 (show ¬ i = tot by omega)))
    rw [pk_sub hf]
    exact nI_nlt (by omega) (by omega)
  | succ l ih =>
    intro i q nw hf hc hY
    rw [wY_run_38]
    refine br_f (nI_ge (by omega) (by omega)) (br_t ?_ ?_)
    · rw [pk_sub hf]
      exact nI_lt (by omega) hlim
    · unfold wpY_examine
      dsimp only
      refine ⟨(sv_n C) + 1, ye_2 (N := sv_N C i q) hO (by omega) rfl ?_ ?_ (sv_n C) 0 nw (by omega) (fun j hj => absurd hj (by omega)) rfl⟩
      · intro nw' ha hfl
        refine br_f (by decide) ?_
        unfold wpY_complete
        dsimp only
        refine ⟨(sv_n C) + 1, yf_2 hO ?_ (sv_n C) 0 (by omega)⟩
        rw [sv_rn_n hfl, ← sv_st_c hO.2.2.2.1 ha] at hY
        exact nm_r (nI_1 i) (nm_r (nI_1 i) (ih (i + 1) (sv_st C nw' i q) nw' (by omega) (by omega) hY))
      · intro nw' t hfl h256
        rw [sv_rn_s hfl] at hY
        exact br_t rfl ((hY nw').1 t rfl h256)
end SvYf
end
section
/-! the relation -/
def sv_HS (C : SvC) (hs : Int32) : Prop := (hs = 0 ∧ ∀ j, j < (sv_n C) → ¬ (sv_o C j = 16 ∨ sv_o C j = 17)) ∨ (hs = 1 ∧ ∃ j, j < (sv_n C) ∧ (sv_o C j = 16 ∨ sv_o C j = 17))
def sv_F (lb lg : Nat) (C : SvC) (tot nx : Nat) (cm cp hs st : Int32) (tb rs : Nat → Int32) : Prop :=
  sv_XK lb lg C ∧ (cm = -1 ∨ (sv_VN C (sv_n C) cm ∧ sv_VN C (sv_n C) cp)) ∧ sv_HS C hs ∧ (st = 0 ∨ st = 1 ∨ st = 2) ∧ tot ≤ 128 ∧ nx ≤ tot ∧ (st = 1 → nx < tot) ∧ sv_TB tb ∧ sv_Nar C rs
/-- the relation: one kernel, one progress; X's memory holds bytes, Y's the same bytes unsigned; X's registers and Y's values of the last element are free -/
def i_Rel (k : Nat) (u : SX) (v : SY) : Prop := ∃ (C : SvC) (lb lg tot nx : Nat) (cm cp hs st tr vl : Int32) (me tb rg rs nw : Nat → Int32), sv_F lb lg C tot nx cm cp hs st tb rs ∧ u = (nI lb, nI lg, nI (sv_lw C), nI (sv_n C), cm, cp, hs, st, nI tot, nI (sv_s C), nI nx, tr, vl, me, tb, (sv_pg C), rg, (sv_op C), (sv_ia C), (sv_ib C), (sv_ic C), (sv_mk C), (sv_ps C), rs) ∧ v = (nI (2 ^ lb), nI (2 ^ (sv_lw C)), nI (2 ^ lg), nI (sv_n C), cm, cp, nI tot, nI (sv_s C), st, nI nx, tr, (fun j => me j &&& 255), tb, (sv_pg C), (sv_op C), (sv_ia C), (sv_ib C), (sv_ic C), (sv_mk C), (sv_ps C), rs, nw)
theorem i_up {k : Nat} {u : SX} {v : SY} (h : i_Rel k u v) : i_Rel (k + 5) u v := h
theorem sv_el {P : SX → SY → Prop} {k : Nat} {u : SX} {v : SY} (I : i_Rel k u v) (h : ∀ (C : SvC) (lb lg tot nx : Nat) (cm cp hs st tr vl : Int32) (me tb rg rs nw : Nat → Int32), sv_F lb lg C tot nx cm cp hs st tb rs → P (nI lb, nI lg, nI (sv_lw C), nI (sv_n C), cm, cp, hs, st, nI tot, nI (sv_s C), nI nx, tr, vl, me, tb, (sv_pg C), rg, (sv_op C), (sv_ia C), (sv_ib C), (sv_ic C), (sv_mk C), (sv_ps C), rs) (nI (2 ^ lb), nI (2 ^ (sv_lw C)), nI (2 ^ lg), nI (sv_n C), cm, cp, nI tot, nI (sv_s C), st, nI nx, tr, (fun j => me j &&& 255), tb, (sv_pg C), (sv_op C), (sv_ia C), (sv_ib C), (sv_ic C), (sv_mk C), (sv_ps C), rs, nw)) : P u v := by
  obtain ⟨C, lb, lg, tot, nx, cm, cp, hs, st, tr, vl, me, tb, rg, rs, nw, hF, hu, hv⟩ := I
  rw [hu, hv]
  exact h C lb lg tot nx cm cp hs st tr vl me tb rg rs nw hF
section SvIn
variable {C : SvC} {lb lg tot nx k : Nat} {cm cp hs st tr vl : Int32} {me tb rg rs nw : Nat → Int32}
theorem sv_in (hF : sv_F lb lg C tot nx cm cp hs st tb rs) : i_Rel k (nI lb, nI lg, nI (sv_lw C), nI (sv_n C), cm, cp, hs, st, nI tot, nI (sv_s C), nI nx, tr, vl, me, tb, (sv_pg C), rg, (sv_op C), (sv_ia C), (sv_ib C), (sv_ic C), (sv_mk C), (sv_ps C), rs) (nI (2 ^ lb), nI (2 ^ (sv_lw C)), nI (2 ^ lg), nI (sv_n C), cm, cp, nI tot, nI (sv_s C), st, nI nx, tr, (fun j => me j &&& 255), tb, (sv_pg C), (sv_op C), (sv_ia C), (sv_ib C), (sv_ic C), (sv_mk C), (sv_ps C), rs, nw) := ⟨C, lb, lg, tot, nx, cm, cp, hs, st, tr, vl, me, tb, rg, rs, nw, hF, rfl, rfl⟩
end SvIn
/-- a fresh kernel -/
theorem sv_F0 {lb lg w : Nat} {op ia ib ic mk ps pg tb rs : Nat → Int32} (h2 : 2 ≤ lb) (h3 : lb ≤ 3) (hg : lg ≤ 3) (hw : w ≤ 2) (hT : sv_TB tb) : sv_F lb lg (w, 0, 0, op, ia, ib, ic, mk, ps, pg) 0 0 (-1) (-1) 0 0 tb rs := by
  refine ⟨⟨h2, h3, hg, ?_, hw, Nat.zero_le _, Nat.zero_le _, fun k hk => absurd hk (Nat.not_lt_zero k), fun i j hi => absurd hi (Nat.not_lt_zero i)⟩, Or.inl rfl, Or.inl ⟨rfl, fun j hj => absurd hj (Nat.not_lt_zero j)⟩, Or.inl rfl, Nat.zero_le _, Nat.le_refl _, fun h => absurd h (by decide), hT, fun j hj => absurd hj (Nat.not_lt_zero j)⟩
  show 0 * 2 ^ lg ≤ 32
  omega
theorem i_vc_kernel {k : Nat} {u : SX} {v : SY} (I : i_Rel k u v) (hk : k + 5 ≤ 2562) (v1 : Int32) : wpX_kernel (fun r u' => wpY_kernel (fun r' v' => r' = r ∧ i_Rel (k + 5) u' v') v v1) u v1 := by
  refine sv_el (P := fun u v => wpX_kernel (fun r u' => wpY_kernel (fun r' v' => r' = r ∧ i_Rel (k + 5) u' v') v v1) u v1) I ?_
  intro C lb lg tot nx cm cp hs st tr vl me tb rg rs nw hF
  have hX := hF.1
  unfold wpX_kernel wpY_kernel
  dsimp only
  by_cases h0 : v1 < 0
  · exact br_t h0 (br_t h0 ⟨rfl, sv_in hF⟩)
  · obtain ⟨j, hj, rfl⟩ := nI_of h0
    refine br_f h0 (pk_le j 2 (fun z => ?_) (fun z => ?_))
    · have hN := sv_F0 (op := (sv_op C)) (ia := (sv_ia C)) (ib := (sv_ib C)) (ic := (sv_ic C)) (mk := (sv_mk C)) (ps := (sv_ps C)) (pg := (sv_pg C)) (rs := rs) hX.1 hX.2.1 hX.2.2.1 z hF.2.2.2.2.2.2.2.1
      have R := sv_in (k := k + 5) (tr := -1) (vl := 0) (me := me) (rg := rg) (nw := nw) hN
      refine br_f h0 (br_t (nI_le (b := 2) z (by decide)) ?_)
      have hc : j = 0 ∨ j = 1 ∨ j = 2 := by omega
      unfold wY_kernel_30
      rcases hc with rfl | rfl | rfl
      · exact br_t (by decide) ⟨rfl, R⟩
      · exact br_f (by decide) (br_t (by decide) ⟨rfl, R⟩)
      · exact br_f (by decide) (br_f (by decide) ⟨rfl, R⟩)
    · exact br_f h0 (br_f (nI_ge (b := j) z hj) ⟨rfl, sv_in hF⟩)
theorem i_vc_next {k : Nat} {u : SX} {v : SY} (I : i_Rel k u v) (hk : k + 5 ≤ 2562) : wpX_next (fun r => wpY_next (fun r' => r' = r ∧ i_Rel (k + 5) u v) v) u := by
  refine sv_el (P := fun u v => wpX_next (fun r => wpY_next (fun r' => r' = r ∧ i_Rel (k + 5) u v) v) u) I ?_
  intro C lb lg tot nx cm cp hs st tr vl me tb rg rs nw hF
  unfold wpX_next wpY_next
  exact ⟨rfl, sv_in hF⟩
theorem i_vc_trap {k : Nat} {u : SX} {v : SY} (I : i_Rel k u v) (hk : k + 5 ≤ 2562) : wpX_trap (fun r => wpY_trap (fun r' => r' = r ∧ i_Rel (k + 5) u v) v) u := by
  refine sv_el (P := fun u v => wpX_trap (fun r => wpY_trap (fun r' => r' = r ∧ i_Rel (k + 5) u v) v) u) I ?_
  intro C lb lg tot nx cm cp hs st tr vl me tb rg rs nw hF
  unfold wpX_trap wpY_trap
  exact ⟨rfl, sv_in hF⟩
end
section
/-! the calls that read, setPage -/
theorem sv_ge0 {n : Nat} {x : Int32} (hn : n < 2 ^ 31) (h : nI n ≤ x) : ¬ x < 0 := Int32.not_lt.mpr (Int32.le_trans (nI_pos' hn) h)
theorem i_vc_result {k : Nat} {u : SX} {v : SY} (I : i_Rel k u v) (hk : k + 5 ≤ 2562) (v1 : Int32) : wpX_result (fun r => wpY_result (fun r' => r' = r ∧ i_Rel (k + 5) u v) v v1) u v1 := by
  refine sv_el (P := fun u v => wpX_result (fun r => wpY_result (fun r' => r' = r ∧ i_Rel (k + 5) u v) v v1) u v1) I ?_
  intro C lb lg tot nx cm cp hs st tr vl me tb rg rs nw hF
  have hn := hF.1.2.2.2.2.2.1
  unfold wpX_result wpX_isNode wpY_result
  dsimp only
  rcases pk_ix v1 (n := (sv_n C)) (by omega) with h | h | ⟨j, hj, rfl⟩
  · exact br_t h (br_t rfl (br_t h ⟨rfl, sv_in hF⟩))
  · have h0 := sv_ge0 (by omega) h
    exact br_f h0 (br_t h (br_t rfl (br_f h0 (br_f (Int32.not_lt.mpr h) ⟨rfl, sv_in hF⟩))))
  · have h0 : ¬ nI j < 0 := nI_pos (by omega)
    have hi : vp_in (nI j) 16 := vp_in_nI (by omega) (by omega)
    exact br_f h0 (br_f (nI_ge hj (by omega)) (br_f (by decide) ⟨hi, br_f h0 (br_t (nI_lt hj (by omega)) ⟨hi, rfl, sv_in hF⟩)⟩))
theorem i_vc_touched {k : Nat} {u : SX} {v : SY} (I : i_Rel k u v) (hk : k + 5 ≤ 2562) (v1 : Int32) : wpX_touched (fun r => wpY_touched (fun r' => r' = r ∧ i_Rel (k + 5) u v) v v1) u v1 := by
  refine sv_el (P := fun u v => wpX_touched (fun r => wpY_touched (fun r' => r' = r ∧ i_Rel (k + 5) u v) v v1) u v1) I ?_
  intro C lb lg tot nx cm cp hs st tr vl me tb rg rs nw hF
  unfold wpX_touched wpY_touched
  dsimp only
  by_cases h0 : v1 < 0
  · exact br_t h0 (br_t h0 ⟨rfl, sv_in hF⟩)
  · obtain ⟨j, hj, rfl⟩ := nI_of h0
    by_cases z : j ≤ 255
    · have hi : vp_in (nI j) 256 := vp_in_nI (by omega) (by omega)
      have hz : nI j ≤ 255 := nI_le (b := 255) z (by decide)
      exact br_f h0 (br_t hz ⟨hi, br_f h0 (br_t hz ⟨hi, rfl, sv_in hF⟩)⟩)
    · have hz : ¬ nI j ≤ 255 := nI_ge (a := 255) (by omega) hj
      exact br_f h0 (br_f hz (br_f h0 (br_f hz ⟨rfl, sv_in hF⟩)))
theorem i_vc_access {k : Nat} {u : SX} {v : SY} (I : i_Rel k u v) (hk : k + 5 ≤ 2562) (v1 : Int32) : wpX_access (fun r => wpY_access (fun r' => r' = r ∧ i_Rel (k + 5) u v) v v1) u v1 := by
  refine sv_el (P := fun u v => wpX_access (fun r => wpY_access (fun r' => r' = r ∧ i_Rel (k + 5) u v) v v1) u v1) I ?_
  intro C lb lg tot nx cm cp hs st tr vl me tb rg rs nw hF
  unfold wpX_access wpY_access
  dsimp only
  by_cases h0 : v1 < 0
  · exact br_t h0 (br_t h0 ⟨rfl, sv_in hF⟩)
  · obtain ⟨j, hj, rfl⟩ := nI_of h0
    by_cases z : j ≤ 15
    · have hi : vp_in (nI j) 16 := vp_in_nI (by omega) (by omega)
      have hz : nI j ≤ 15 := nI_le (b := 15) z (by decide)
      exact br_f h0 (br_t hz ⟨hi, br_f h0 (br_t hz ⟨hi, rfl, sv_in hF⟩)⟩)
    · have hz : ¬ nI j ≤ 15 := nI_ge (a := 15) (by omega) hj
      exact br_f h0 (br_f hz (br_f h0 (br_f hz ⟨rfl, sv_in hF⟩)))
/-- another table of pages -/
theorem sv_F_pg {lb lg tot nx : Nat} {C : SvC} {cm cp hs st : Int32} {tb rs : Nat → Int32} (pg : Nat → Int32) (h : sv_F lb lg C tot nx cm cp hs st tb rs) : sv_F lb lg ((sv_lw C), (sv_n C), (sv_s C), (sv_op C), (sv_ia C), (sv_ib C), (sv_ic C), (sv_mk C), (sv_ps C), pg) tot nx cm cp hs st tb rs := h
theorem i_vc_setPage {k : Nat} {u : SX} {v : SY} (I : i_Rel k u v) (hk : k + 5 ≤ 2562) (v1 : Int32) (v2 : Int32) : wpX_setPage (fun r u' => wpY_setPage (fun r' v' => r' = r ∧ i_Rel (k + 5) u' v') v v1 v2) u v1 v2 := by
  refine sv_el (P := fun u v => wpX_setPage (fun r u' => wpY_setPage (fun r' v' => r' = r ∧ i_Rel (k + 5) u' v') v v1 v2) u v1 v2) I ?_
  intro C lb lg tot nx cm cp hs st tr vl me tb rg rs nw hF
  unfold wpX_setPage wpY_setPage
  dsimp only
  by_cases h0 : v1 < 0
  · exact br_t h0 (br_t h0 ⟨rfl, sv_in hF⟩)
  · by_cases h1 : 15 < v1
    · exact br_f h0 (br_t h1 (br_f h0 (br_t h1 ⟨rfl, sv_in hF⟩)))
    · by_cases h2 : v2 < 0
      · exact br_f h0 (br_f h1 (br_t h2 (br_f h0 (br_f h1 (br_t h2 ⟨rfl, sv_in hF⟩)))))
      · by_cases h3 : v2 ≤ 2
        · have hi : vp_in v1 16 := by
            obtain ⟨j, hj, rfl⟩ := nI_of h0
            refine vp_in_nI ?_ (by omega)
            rcases Nat.lt_or_ge j 16 with z | z
            · exact z
            · exact absurd (nI_lt (a := 15) (by omega) hj) h1
          refine br_f h0 (br_f h1 (br_f h2 (br_t h3 ⟨hi, nm_e (br_f h0 (br_f h1 (br_f h2 (br_t h3 ⟨hi, nm_e ⟨rfl, ?_⟩⟩))))⟩)))
          exact sv_in (sv_F_pg (upd (sv_pg C) v1.toNatClampNeg v2) hF)
        · exact br_f h0 (br_f h1 (br_f h2 (br_f h3 (br_f h0 (br_f h1 (br_f h2 (br_f h3 ⟨rfl, sv_in hF⟩)))))))
theorem sv_vmY {post : Int32 → Prop} {lb lg lw : Nat} (h2 : 2 ≤ lb) (h3 : lb ≤ 3) (hg : lg ≤ 3) (hl : lw ≤ 2) (h : post (nI (sv_vm lb lg lw))) : ((nI (2 ^ lw) = 1 → (post (nI (2 ^ lb) * nI (2 ^ lg)))) ∧ (¬ nI (2 ^ lw) = 1 → (((nI (2 ^ lw) = 2 → (¬ (2 : Int32) = 0 ∧ (post ((nI (2 ^ lb) * nI (2 ^ lg)) / 2)))) ∧ (¬ nI (2 ^ lw) = 2 → (¬ (4 : Int32) = 0 ∧ (post ((nI (2 ^ lb) * nI (2 ^ lg)) / 4)))))))) := by
  have hp : 2 ^ lb * 2 ^ lg ≤ 64 := by
    rw [← Nat.pow_add]
    exact Nat.le_trans (Nat.pow_le_pow_right (by decide) (show lb + lg ≤ 6 by omega)) (by decide)
  rw [pk_mul]
  unfold sv_vm at h
  rcases sv_lw3 hl with rfl | rfl | rfl
  · refine br_t (by decide) ?_
    rw [← Nat.pow_add]
    exact h
  · refine br_f (by decide) (br_t (by decide) ⟨by decide, ?_⟩)
    rw [show nI (2 ^ lb * 2 ^ lg) / 2 = nI (2 ^ lb * 2 ^ lg / 2) from pk_div (d := 2) (by omega) (by omega) (by omega), ← Nat.pow_add, show 2 ^ (lb + lg) / 2 = 2 ^ (lb + lg - 1) from Nat.pow_div (n := 1) (by omega) (by omega)]
    exact h
  · refine br_f (by decide) (br_f (by decide) ⟨by decide, ?_⟩)
    rw [show nI (2 ^ lb * 2 ^ lg) / 4 = nI (2 ^ lb * 2 ^ lg / 4) from pk_div (d := 4) (by omega) (by omega) (by omega), ← Nat.pow_add, show 2 ^ (lb + lg) / 4 = 2 ^ (lb + lg - 2) from Nat.pow_div (n := 2) (by omega) (by omega)]
    exact h
theorem i_vc_vlmax {k : Nat} {u : SX} {v : SY} (I : i_Rel k u v) (hk : k + 5 ≤ 2562) : wpX_vlmax (fun r => wpY_vlmax (fun r' => r' = r ∧ i_Rel (k + 5) u v) v) u := by
  refine sv_el (P := fun u v => wpX_vlmax (fun r => wpY_vlmax (fun r' => r' = r ∧ i_Rel (k + 5) u v) v) u) I ?_
  intro C lb lg tot nx cm cp hs st tr vl me tb rg rs nw hF
  have hX := hF.1
  unfold wpX_vlmax wpY_vlmax
  dsimp only
  rw [sv_vmX hX.1 hX.2.1 hX.2.2.1 hX.2.2.2.2.1]
  exact sv_vmY (post := fun r' => r' = nI (sv_vm lb lg (sv_lw C)) ∧ i_Rel (k + 5) (nI lb, nI lg, nI (sv_lw C), nI (sv_n C), cm, cp, hs, st, nI tot, nI (sv_s C), nI nx, tr, vl, me, tb, (sv_pg C), rg, (sv_op C), (sv_ia C), (sv_ib C), (sv_ic C), (sv_mk C), (sv_ps C), rs) (nI (2 ^ lb), nI (2 ^ (sv_lw C)), nI (2 ^ lg), nI (sv_n C), cm, cp, nI tot, nI (sv_s C), st, nI nx, tr, (fun j => me j &&& 255), tb, (sv_pg C), (sv_op C), (sv_ia C), (sv_ib C), (sv_ic C), (sv_mk C), (sv_ps C), rs, nw)) hX.1 hX.2.1 hX.2.2.1 hX.2.2.2.2.1 ⟨rfl, sv_in hF⟩
section SvG
variable {e1 e2 e3 e4 e5 e6 e7 e8 e9 e10 e11 e12 e13 : Int32} {g1 g2 g3 g4 g5 g6 g7 g8 g9 g10 g11 : Nat → Int32}
theorem xg_log {post : Int32 → Prop} {x : Int32} (h : ∀ l, l < 4 → x = nI (2 ^ l) → post (nI l)) (hN : (∀ l, l < 4 → ¬ x = nI (2 ^ l)) → post (-1)) : ∀ d t, t + d = 4 → (∀ l, l < t → ¬ x = nI (2 ^ l)) → wX_logOfGroup_2 post x e1 e2 e3 e4 e5 e6 e7 e8 e9 e10 e11 e12 e13 g1 g2 g3 g4 g5 g6 g7 g8 g9 g10 g11 (d + 1) (nI t) := by
  intro d
  induction d with
  | zero =>
    intro t ht hb
    have e : t = 4 := by omega
    subst e
    rw [wX_logOfGroup_2]
    exact br_t (by decide) (hN hb)
  | succ d ih =>
    intro t ht hb
    rw [wX_logOfGroup_2]
    dsimp only
    rw [sv_sh1 t (by omega)]
    refine br_f (nI_ge (b := 4) (by omega) (by decide)) (br_c (fun z => h t (by omega) z) (fun z => nm_r (nI_1 t) (ih (t + 1) (by omega) ?_)))
    intro l hl
    by_cases e : l = t
    · subst e; exact z
    · exact hb l (by omega)
end SvG
theorem sv_32 : ∀ l, l < 4 → (32 : Int32) >>> (nI l &&& 31) = nI (32 / 2 ^ l) := by decide +kernel
theorem sv_pw4 : ∀ l, l < 4 → 1 ≤ 2 ^ l ∧ 2 ^ l ≤ 8 ∧ 32 / 2 ^ l ≤ 32 := by decide
theorem sv_g32 {n l : Nat} (hl : l < 4) : n ≤ 32 / 2 ^ l ↔ n * 2 ^ l ≤ 32 := by
  have h := sv_pw4 l hl
  exact Nat.le_div_iff_mul_le (by omega)
theorem sv_gY {v1 : Int32} {Z B : Prop} {l : Nat} (hl : l < 4) (e : v1 = nI (2 ^ l)) (h : Z) : ((v1 = 1 → Z) ∧ (¬ v1 = 1 → (((v1 = 2 → Z) ∧ (¬ v1 = 2 → (((v1 = 4 → Z) ∧ (¬ v1 = 4 → (((v1 = 8 → Z) ∧ (¬ v1 = 8 → B))))))))))) := by
  have hc : l = 0 ∨ l = 1 ∨ l = 2 ∨ l = 3 := by omega
  rcases hc with rfl | rfl | rfl | rfl
  · exact br_t e h
  · subst e; exact br_f (by decide) (br_t (by decide) h)
  · subst e; exact br_f (by decide) (br_f (by decide) (br_t (by decide) h))
  · subst e; exact br_f (by decide) (br_f (by decide) (br_f (by decide) (br_t (by decide) h)))
/-- another group -/
theorem sv_F_lg {lb lg lg' tot nx : Nat} {C : SvC} {cm cp hs st : Int32} {tb rs : Nat → Int32} (h : sv_F lb lg C tot nx cm cp hs st tb rs) (hl : lg' ≤ 3) (hn : (sv_n C) * 2 ^ lg' ≤ 32) : sv_F lb lg' C tot nx cm cp hs st tb rs := ⟨⟨h.1.1, h.1.2.1, hl, hn, h.1.2.2.2.2⟩, h.2⟩
theorem i_vc_group {k : Nat} {u : SX} {v : SY} (I : i_Rel k u v) (hk : k + 5 ≤ 2562) (v1 : Int32) : wpX_group (fun r u' => wpY_group (fun r' v' => r' = r ∧ i_Rel (k + 5) u' v') v v1) u v1 := by
  refine sv_el (P := fun u v => wpX_group (fun r u' => wpY_group (fun r' v' => r' = r ∧ i_Rel (k + 5) u' v') v v1) u v1) I ?_
  intro C lb lg tot nx cm cp hs st tr vl me tb rg rs nw hF
  have hn := hF.1.2.2.2.2.2.1
  unfold wpX_group wpX_logOfGroup wpY_group
  dsimp only
  refine ⟨5, xg_log ?_ ?_ 4 0 rfl (fun l hl => absurd hl (by omega))⟩
  · intro l hl e
    have hp := sv_pw4 l hl
    refine br_t (nI_pos' (by omega)) ?_
    rw [sv_32 l hl]
    refine pk_le (sv_n C) (32 / 2 ^ l) (fun z => ?_) (fun z => ?_) rfl rfl (by omega) (by omega)
    · have z' := (sv_g32 hl).mp z
      refine sv_gY hl e ?_
      unfold wY_group_23
      rw [e, pk_mul]
      refine br_t (nI_le (b := 32) z' (by decide)) ⟨rfl, ?_⟩
      exact sv_in (sv_F_lg hF (by omega) z')
    · have z' : ¬ (sv_n C) * 2 ^ l ≤ 32 := fun q => absurd ((sv_g32 hl).mpr q) (by omega)
      refine sv_gY hl e ?_
      unfold wY_group_23
      rw [e, pk_mul]
      refine br_f (nI_ge (a := 32) (by omega) ?_) ⟨rfl, sv_in hF⟩
      have : (sv_n C) * 2 ^ l ≤ 16 * 8 := Nat.mul_le_mul hn hp.2.1
      omega
  · intro hN
    refine br_f (by decide) ?_
    exact br_f (hN 0 (by omega)) (br_f (hN 1 (by omega)) (br_f (hN 2 (by omega)) (br_f (hN 3 (by omega)) ⟨rfl, sv_in hF⟩)))
end
section
/-! field, poke, peek -/
theorem i_vc_field {k : Nat} {u : SX} {v : SY} (I : i_Rel k u v) (hk : k + 5 ≤ 2562) (v1 : Int32) (v2 : Int32) : wpX_field (fun r => wpY_field (fun r' => r' = r ∧ i_Rel (k + 5) u v) v v1 v2) u v1 v2 := by
  refine sv_el (P := fun u v => wpX_field (fun r => wpY_field (fun r' => r' = r ∧ i_Rel (k + 5) u v) v v1 v2) u v1 v2) I ?_
  intro C lb lg tot nx cm cp hs st tr vl me tb rg rs nw hF
  have hn := hF.1.2.2.2.2.2.1
  have hl := hF.1.2.2.2.2.1
  have hg := hF.1.2.2.1
  have R := sv_in (k := k + 5) (tr := tr) (vl := vl) (me := me) (rg := rg) (nw := nw) hF
  have hneg : v2 < 0 → ∀ c : Int32, ¬ c < 0 → ¬ v2 = c := fun h c hc e => hc (e ▸ h)
  unfold wpX_field wpX_unitField wpX_isNode wpX_nodeField wpY_field
  dsimp only
  by_cases h1 : v1 = -1
  · refine br_t h1 ?_
    by_cases h0 : v2 < 0
    · have hne := hneg h0
      exact br_t h0 (br_t h1 (br_f (hne 0 (by decide)) ( br_f (hne 1 (by decide)) ( br_f (hne 2 (by decide)) ( br_f (hne 3 (by decide)) ( br_f (hne 4 (by decide)) ( br_f (hne 5 (by decide)) ( br_f (hne 6 (by decide)) ( br_f (hne 7 (by decide)) (⟨rfl, R⟩))))))))))
    · obtain ⟨j, hj, rfl⟩ := nI_of h0
      by_cases h7 : 7 < j
      · have hne : ∀ c : Nat, c ≤ 7 → ¬ nI j = nI c := fun c hc e => absurd ((nI_eq hj (by omega)).mp e) (by omega)
        exact br_f h0 (br_t (nI_lt (a := 7) h7 hj) (br_t h1 (br_f (hne 0 (by omega)) ( br_f (hne 1 (by omega)) ( br_f (hne 2 (by omega)) ( br_f (hne 3 (by omega)) ( br_f (hne 4 (by omega)) ( br_f (hne 5 (by omega)) ( br_f (hne 6 (by omega)) ( br_f (hne 7 (by omega)) (⟨rfl, R⟩)))))))))))
      · have hc : j = 0 ∨ j = 1 ∨ j = 2 ∨ j = 3 ∨ j = 4 ∨ j = 5 ∨ j = 6 ∨ j = 7 := by omega
        rcases hc with rfl | rfl | rfl | rfl | rfl | rfl | rfl | rfl
        · exact br_f (by decide) (br_f (by decide) (br_t (by decide) (br_t h1 (br_t (by decide) ⟨(sv_sh1 _ (by omega)).symm, R⟩))))
        · exact br_f (by decide) (br_f (by decide) (br_f (by decide) (br_t (by decide) (br_t h1 (br_f (by decide) (br_t (by decide) ⟨(sv_sh1 _ (by omega)).symm, R⟩))))))
        · exact br_f (by decide) (br_f (by decide) (br_f (by decide) (br_f (by decide) (br_t (by decide) (br_t h1 (br_f (by decide) (br_f (by decide) (br_t (by decide) ⟨rfl, R⟩))))))))
        · exact br_f (by decide) (br_f (by decide) (br_f (by decide) (br_f (by decide) (br_f (by decide) (br_t (by decide) (br_t h1 (br_f (by decide) (br_f (by decide) (br_f (by decide) (br_t (by decide) ⟨rfl, R⟩))))))))))
        · exact br_f (by decide) (br_f (by decide) (br_f (by decide) (br_f (by decide) (br_f (by decide) (br_f (by decide) (br_t (by decide) (br_t h1 (br_f (by decide) (br_f (by decide) (br_f (by decide) (br_f (by decide) (br_t (by decide) ⟨rfl, R⟩))))))))))))
        · exact br_f (by decide) (br_f (by decide) (br_f (by decide) (br_f (by decide) (br_f (by decide) (br_f (by decide) (br_f (by decide) (br_t (by decide) (br_t h1 (br_f (by decide) (br_f (by decide) (br_f (by decide) (br_f (by decide) (br_f (by decide) (br_t (by decide) ⟨rfl, R⟩))))))))))))))
        · exact br_f (by decide) (br_f (by decide) (br_f (by decide) (br_f (by decide) (br_f (by decide) (br_f (by decide) (br_f (by decide) (br_f (by decide) (br_t (by decide) (br_t h1 (br_f (by decide) (br_f (by decide) (br_f (by decide) (br_f (by decide) (br_f (by decide) (br_f (by decide) (br_t (by decide) ⟨rfl, R⟩))))))))))))))))
        · exact br_f (by decide) (br_f (by decide) (br_f (by decide) (br_f (by decide) (br_f (by decide) (br_f (by decide) (br_f (by decide) (br_f (by decide) (br_f (by decide) (br_t (by decide) (br_t h1 (br_f (by decide) (br_f (by decide) (br_f (by decide) (br_f (by decide) (br_f (by decide) (br_f (by decide) (br_f (by decide) (br_t (by decide) ⟨rfl, R⟩))))))))))))))))))
  · refine br_f h1 ?_
    rcases pk_ix v1 (n := (sv_n C)) (by omega) with h | h | ⟨i, hi, rfl⟩
    · exact br_t h (br_t rfl (br_f h1 (br_t h ⟨rfl, R⟩)))
    · have h0 := sv_ge0 (by omega) h
      exact br_f h0 (br_t h (br_t rfl (br_f h1 (br_f h0 (br_f (Int32.not_lt.mpr h) ⟨rfl, R⟩)))))
    · have hi0 : ¬ nI i < 0 := nI_pos (by omega)
      have hv : vp_in (nI i) 16 := vp_in_nI (by omega) (by omega)
      have hlt := nI_lt hi (show (sv_n C) < 2 ^ 31 by omega)
      refine br_f hi0 (br_f (nI_ge hi (by omega)) (br_f (by decide) ?_))
      by_cases h0 : v2 < 0
      · have hne := hneg h0
        exact br_t h0 (br_f h1 (br_f hi0 (br_t hlt (br_f (hne 0 (by decide)) ( br_f (hne 1 (by decide)) ( br_f (hne 2 (by decide)) ( br_f (hne 3 (by decide)) ( br_f (hne 4 (by decide)) ( br_f (hne 5 (by decide)) (⟨rfl, R⟩))))))))))
      · obtain ⟨j, hj, rfl⟩ := nI_of h0
        by_cases h7 : 5 < j
        · have hne : ∀ c : Nat, c ≤ 5 → ¬ nI j = nI c := fun c hc e => absurd ((nI_eq hj (by omega)).mp e) (by omega)
          exact br_f h0 (br_t (nI_lt (a := 5) h7 hj) (br_f h1 (br_f hi0 (br_t hlt (br_f (hne 0 (by omega)) ( br_f (hne 1 (by omega)) ( br_f (hne 2 (by omega)) ( br_f (hne 3 (by omega)) ( br_f (hne 4 (by omega)) ( br_f (hne 5 (by omega)) (⟨rfl, R⟩)))))))))))
        · have hc : j = 0 ∨ j = 1 ∨ j = 2 ∨ j = 3 ∨ j = 4 ∨ j = 5 := by omega
          rcases hc with rfl | rfl | rfl | rfl | rfl | rfl
          · exact br_f (by decide) (br_f (by decide) (br_t (by decide) ⟨hv, br_f h1 (br_f hi0 (br_t hlt (br_t (by decide) ⟨hv, rfl, R⟩)))⟩))
          · exact br_f (by decide) (br_f (by decide) (br_f (by decide) (br_t (by decide) ⟨hv, br_f h1 (br_f hi0 (br_t hlt (br_f (by decide) (br_t (by decide) ⟨hv, rfl, R⟩))))⟩)))
          · exact br_f (by decide) (br_f (by decide) (br_f (by decide) (br_f (by decide) (br_t (by decide) ⟨hv, br_f h1 (br_f hi0 (br_t hlt (br_f (by decide) (br_f (by decide) (br_t (by decide) ⟨hv, rfl, R⟩)))))⟩))))
          · exact br_f (by decide) (br_f (by decide) (br_f (by decide) (br_f (by decide) (br_f (by decide) (br_t (by decide) ⟨hv, br_f h1 (br_f hi0 (br_t hlt (br_f (by decide) (br_f (by decide) (br_f (by decide) (br_t (by decide) ⟨hv, rfl, R⟩))))))⟩)))))
          · exact br_f (by decide) (br_f (by decide) (br_f (by decide) (br_f (by decide) (br_f (by decide) (br_f (by decide) (br_t (by decide) ⟨hv, br_f h1 (br_f hi0 (br_t hlt (br_f (by decide) (br_f (by decide) (br_f (by decide) (br_f (by decide) (br_t (by decide) ⟨hv, rfl, R⟩)))))))⟩))))))
          · exact br_f (by decide) (br_f (by decide) (br_f (by decide) (br_f (by decide) (br_f (by decide) (br_f (by decide) (br_f (by decide) (br_t (by decide) ⟨hv, br_f h1 (br_f hi0 (br_t hlt (br_f (by decide) (br_f (by decide) (br_f (by decide) (br_f (by decide) (br_f (by decide) (br_t (by decide) ⟨hv, rfl, R⟩))))))))⟩)))))))
/-- poke, as ints -/
def sv_wrY (m : Nat → Int32) (b : Nat) (v : Int32) : Nat → (Nat → Int32)
  | 0 => m
  | t + 1 => upd (sv_wrY m b v t) (b + t) ((v >>> ((8 * nI t) &&& 31)) &&& 255)
theorem sv_wr_Y {m : Nat → Int32} {b : Nat} {v : Int32} : ∀ T, (fun j => sv_wr m b v T j &&& 255) = sv_wrY (fun j => m j &&& 255) b v T := by
  intro T
  induction T with
  | zero => rfl
  | succ T ih =>
    show _ = upd (sv_wrY (fun j => m j &&& 255) b v T) (b + T) _
    rw [← ih]
    funext j
    show upd (sv_wr m b v T) (b + T) (sv_by v T) j &&& 255 = _
    by_cases e : j = b + T
    · rw [e, pk_us, pk_us, sv_by255]
    · rw [pk_un e, pk_un e]
section SvPoke
variable {e1 e2 e3 e4 e5 e6 e7 e8 e9 e10 e11 e12 e13 : Int32} {g1 g2 g3 g4 g5 g6 g7 g8 g9 g10 g11 : Nat → Int32}
theorem xp_15 {post : Int32 → SX → Prop} {a : Nat} {v : Int32} (ha : a ≤ 252) (h : post 0 (e1, e2, e3, e4, e5, e6, e7, e8, e9, e10, e11, e12, e13, sv_wr g1 a v 4, g2, g3, g4, g5, g6, g7, g8, g9, g10, g11)) : ∀ d t, t + d = 4 → wX_poke_15 post (nI a) v e1 e2 e3 e4 e5 e6 e7 e8 e9 e10 e11 e12 e13 (d + 1) (nI t) (sv_wr g1 a v t) g2 g3 g4 g5 g6 g7 g8 g9 g10 g11 := by
  intro d
  induction d with
  | zero =>
    intro t ht
    have e : t = 4 := by omega
    subst e
    rw [wX_poke_15]
    exact br_t (by decide) h
  | succ d ih =>
    intro t ht
    rw [wX_poke_15]
    have c : (nI a + nI t).toNatClampNeg = a + t := by rw [nI_add]; exact nI_clamp (by omega)
    refine br_f (nI_ge (b := 4) (by omega) (by decide)) ⟨?_, nm_r (e' := sv_wr g1 a v (t + 1)) (by rw [c]; rfl) (nm_r (nI_1 t) (ih (t + 1) (by omega)))⟩
    rw [nI_add]
    exact vp_in_nI (by omega) (by omega)
theorem xp_17 {post : Int32 → Prop} {a : Nat} (ha : a ≤ 252) (h : post (sv_or (fun t => g1 (a + t) &&& 255) 4)) : ∀ d t, t + d = 4 → wX_peek_17 post (nI a) e1 e2 e3 e4 e5 e6 e7 e8 e9 e10 e11 e12 e13 g1 g2 g3 g4 g5 g6 g7 g8 g9 g10 g11 (d + 1) (sv_or (fun t => g1 (a + t) &&& 255) t) (nI t) := by
  intro d
  induction d with
  | zero =>
    intro t ht
    have e : t = 4 := by omega
    subst e
    rw [wX_peek_17]
    exact br_t (by decide) h
  | succ d ih =>
    intro t ht
    rw [wX_peek_17]
    have c : (nI a + nI t).toNatClampNeg = a + t := by rw [nI_add]; exact nI_clamp (by omega)
    refine br_f (nI_ge (b := 4) (by omega) (by decide)) ⟨?_, nm_r (e' := sv_or (fun t => g1 (a + t) &&& 255) (t + 1)) (by rw [c]; rfl) (nm_r (nI_1 t) (ih (t + 1) (by omega)))⟩
    rw [nI_add]
    exact vp_in_nI (by omega) (by omega)
end SvPoke
section SvPokeY
variable {e1 e2 e3 e4 e5 e6 e7 e8 e9 e10 e11 : Int32} {g1 g2 g3 g4 g5 g6 g7 g8 g9 g10 g11 : Nat → Int32}
theorem yp_15 {post : Int32 → SY → Prop} {a : Nat} {v : Int32} (ha : a ≤ 252) (h : post 0 (e1, e2, e3, e4, e5, e6, e7, e8, e9, e10, e11, sv_wrY g1 a v 4, g2, g3, g4, g5, g6, g7, g8, g9, g10, g11)) : ∀ d t, t + d = 4 → wY_poke_15 post (nI a) v e1 e2 e3 e4 e5 e6 e7 e8 e9 e10 e11 (d + 1) (nI t) (sv_wrY g1 a v t) g2 g3 g4 g5 g6 g7 g8 g9 g10 g11 := by
  intro d
  induction d with
  | zero =>
    intro t ht
    have e : t = 4 := by omega
    subst e
    rw [wY_poke_15]
    exact br_t (by decide) h
  | succ d ih =>
    intro t ht
    rw [wY_poke_15]
    have c : (nI a + nI t).toNatClampNeg = a + t := by rw [nI_add]; exact nI_clamp (by omega)
    refine br_f (nI_ge (b := 4) (by omega) (by decide)) ⟨?_, nm_r (e' := sv_wrY g1 a v (t + 1)) (by rw [c]; rfl) (nm_r (nI_1 t) (ih (t + 1) (by omega)))⟩
    rw [nI_add]
    exact vp_in_nI (by omega) (by omega)
end SvPokeY
theorem i_vc_poke {k : Nat} {u : SX} {v : SY} (I : i_Rel k u v) (hk : k + 5 ≤ 2562) (v1 : Int32) (v2 : Int32) : wpX_poke (fun r u' => wpY_poke (fun r' v' => r' = r ∧ i_Rel (k + 5) u' v') v v1 v2) u v1 v2 := by
  refine sv_el (P := fun u v => wpX_poke (fun r u' => wpY_poke (fun r' v' => r' = r ∧ i_Rel (k + 5) u' v') v v1 v2) u v1 v2) I ?_
  intro C lb lg tot nx cm cp hs st tr vl me tb rg rs nw hF
  unfold wpX_poke wpY_poke
  dsimp only
  by_cases h0 : v1 < 0
  · exact br_t h0 (br_t h0 ⟨rfl, sv_in hF⟩)
  · obtain ⟨j, hj, rfl⟩ := nI_of h0
    by_cases z : j ≤ 252
    · have hz : nI j ≤ 252 := nI_le (b := 252) z (by decide)
      refine br_f h0 (br_t hz ⟨5, xp_15 z ?_ 4 0 rfl⟩)
      refine br_f h0 (br_t hz ⟨5, yp_15 z ⟨rfl, ?_⟩ 4 0 rfl⟩)
      rw [← sv_wr_Y]
      exact sv_in hF
    · have hz : ¬ nI j ≤ 252 := nI_ge (a := 252) (by omega) hj
      exact br_f h0 (br_f hz (br_f h0 (br_f hz ⟨rfl, sv_in hF⟩)))
theorem sv_or4 (f : Nat → Int32) : sv_or f 4 = (((f 0 ||| (f 1 <<< ((8 : Int32) &&& 31))) ||| (f 2 <<< ((16 : Int32) &&& 31))) ||| (f 3 <<< ((24 : Int32) &&& 31))) := by
  show ((((0 ||| (f 0 <<< ((8 * nI 0) &&& 31))) ||| (f 1 <<< ((8 * nI 1) &&& 31))) ||| (f 2 <<< ((8 * nI 2) &&& 31))) ||| (f 3 <<< ((8 * nI 3) &&& 31))) = _
  rw [show (8 : Int32) * nI 0 = nI 0 from by decide, sv_sh0, show (8 : Int32) * nI 1 = 8 from by decide, show (8 : Int32) * nI 2 = 16 from by decide, show (8 : Int32) * nI 3 = 24 from by decide, Int32.zero_or]
theorem i_vc_peek {k : Nat} {u : SX} {v : SY} (I : i_Rel k u v) (hk : k + 5 ≤ 2562) (v1 : Int32) : wpX_peek (fun r => wpY_peek (fun r' => r' = r ∧ i_Rel (k + 5) u v) v v1) u v1 := by
  refine sv_el (P := fun u v => wpX_peek (fun r => wpY_peek (fun r' => r' = r ∧ i_Rel (k + 5) u v) v v1) u v1) I ?_
  intro C lb lg tot nx cm cp hs st tr vl me tb rg rs nw hF
  unfold wpX_peek wpY_peek
  dsimp only
  by_cases h0 : v1 < 0
  · exact br_t h0 (br_t h0 ⟨rfl, sv_in hF⟩)
  · obtain ⟨j, hj, rfl⟩ := nI_of h0
    by_cases z : j ≤ 252
    · have hz : nI j ≤ 252 := nI_le (b := 252) z (by decide)
      have e1 : nI j + 1 = nI (j + 1) := nI_1 j
      have e2 : nI j + 2 = nI (j + 2) := nI_add j 2
      have e3 : nI j + 3 = nI (j + 3) := nI_add j 3
      refine br_f h0 (br_t hz ⟨5, xp_17 z ?_ 4 0 rfl⟩)
      rw [e1, e2, e3, nI_clamp hj, nI_clamp (by omega), nI_clamp (by omega), nI_clamp (by omega)]
      refine br_f h0 (br_t hz ⟨vp_in_nI (by omega) (by omega), vp_in_nI (by omega) (by omega), vp_in_nI (by omega) (by omega), vp_in_nI (by omega) (by omega), ?_, sv_in hF⟩)
      exact (sv_or4 (fun t => me (j + t) &&& 255)).symm
    · have hz : ¬ nI j ≤ 252 := nI_ge (a := 252) (by omega) hj
      exact br_f h0 (br_f hz (br_f h0 (br_f hz ⟨rfl, sv_in hF⟩)))
end
section
/-! the constructors, start, run -/
def sv_fi (x : Int32) (f : Nat → Int32) : Nat → (Nat → Int32)
  | 0 => f
  | t + 1 => upd (sv_fi x f t) t x
section SvInitX
variable {e1 e2 e3 e4 e5 e6 e7 e8 e9 e10 e11 e12 e13 : Int32} {g1 g2 g3 g4 g5 g6 g7 g8 g9 g10 g11 : Nat → Int32}
theorem xi_133 {post : SX → Prop} {x : Int32} (h : wpX_kernel (fun r u => match u with | (a1, a2, a3, a4, a5, a6, a7, a8, a9, a10, a11, a12, a13, b1, b2, b3, b4, b5, b6, b7, b8, b9, b10, b11) => post (a1, a2, a3, a4, a5, a6, a7, a8, a9, a10, a11, a12, a13, b1, b2, b3, b4, b5, b6, b7, b8, b9, b10, b11)) (e1, 0, e3, e4, e5, e6, e7, e8, e9, e10, e11, e12, e13, g1, g2, sv_fi x g3 16, g4, g5, g6, g7, g8, g9, g10, g11) 0) : ∀ d t, t + d = 16 → wX_init_133 post x e1 e2 e3 e4 e5 e6 e7 e8 e9 e10 e11 e12 e13 (d + 1) (nI t) g1 g2 (sv_fi x g3 t) g4 g5 g6 g7 g8 g9 g10 g11 := by
  intro d
  induction d with
  | zero =>
    intro t ht
    have e : t = 16 := by omega
    subst e
    rw [wX_init_133]
    exact br_t (by decide) h
  | succ d ih =>
    intro t ht
    rw [wX_init_133]
    have c : (nI t).toNatClampNeg = t := nI_clamp (by omega)
    exact br_f (nI_ge (b := 16) (by omega) (by decide)) ⟨vp_in_nI (by omega) (by omega), nm_r (e' := sv_fi x g3 (t + 1)) (by rw [c]; rfl) (nm_r (nI_1 t) (ih (t + 1) (by omega)))⟩
end SvInitX
section SvInitY
variable {e1 e2 e3 e4 e5 e6 e7 e8 e9 e10 e11 : Int32} {g1 g2 g3 g4 g5 g6 g7 g8 g9 g10 g11 : Nat → Int32}
theorem yi_116 {post : SY → Prop} {x A : Int32} (hA : (0 ≤ x ∧ x ≤ 2 ∧ A = x) ∨ (0 ≤ x ∧ ¬ x ≤ 2 ∧ A = 2) ∨ (¬ 0 ≤ x ∧ A = 0)) (h : wpY_kernel (fun r u => match u with | (a1, a2, a3, a4, a5, a6, a7, a8, a9, a10, a11, b1, b2, b3, b4, b5, b6, b7, b8, b9, b10, b11) => post (a1, a2, a3, a4, a5, a6, a7, a8, a9, a10, a11, b1, b2, b3, b4, b5, b6, b7, b8, b9, b10, b11)) (e1, e2, e3, e4, e5, e6, e7, e8, e9, e10, e11, g1, g2, sv_fi A g3 16, g4, g5, g6, g7, g8, g9, g10, g11) 0) : ∀ d t, t + d = 16 → wY_init_116 post x e1 e2 e3 e4 e5 e6 e7 e8 e9 e10 e11 (d + 1) (nI t) g1 g2 (sv_fi A g3 t) g4 g5 g6 g7 g8 g9 g10 g11 := by
  intro d
  induction d with
  | zero =>
    intro t ht
    have e : t = 16 := by omega
    subst e
    rw [wY_init_116]
    exact br_t (by decide) h
  | succ d ih =>
    intro t ht
    rw [wY_init_116]
    have c : (nI t).toNatClampNeg = t := nI_clamp (by omega)
    have hi : vp_in (nI t) 16 := vp_in_nI (by omega) (by omega)
    refine br_f (nI_ge (b := 16) (by omega) (by decide)) ?_
    have H := ih (t + 1) (by omega)
    rcases hA with ⟨h1, h2, h3⟩ | ⟨h1, h2, h3⟩ | ⟨h1, h3⟩
    · exact br_t h1 (br_t h2 ⟨hi, nm_r (e' := sv_fi A g3 (t + 1)) (by rw [c, h3]; rfl) (nm_r (nI_1 t) H)⟩)
    · exact br_t h1 (br_f h2 ⟨hi, nm_r (e' := sv_fi A g3 (t + 1)) (by rw [c, h3]; rfl) (nm_r (nI_1 t) H)⟩)
    · exact br_f h1 ⟨hi, nm_r (e' := sv_fi A g3 (t + 1)) (by rw [c, h3]; rfl) (nm_r (nI_1 t) H)⟩
end SvInitY
theorem sv_TB0 : sv_TB (fun _ => 0) := fun _ => Or.inl rfl
theorem sv_yinit {A k0 k1 : Int32} {lb : Nat} {u : SX} (h2 : 2 ≤ lb) (h3 : lb ≤ 3) (hk : (k0 < 3 → lb = 2) ∧ (¬ k0 < 3 → lb = 3)) (hA : (0 ≤ k1 ∧ k1 ≤ 2 ∧ A = k1) ∨ (0 ≤ k1 ∧ ¬ k1 ≤ 2 ∧ A = 2) ∨ (¬ 0 ≤ k1 ∧ A = 0))
    (hu : u = (nI lb, nI 0, nI 0, nI 0, -1, -1, 0, 0, nI 0, nI 0, nI 0, -1, 0, fun _ => 0, fun _ => 0, sv_fi A (fun _ => 0) 16, fun _ => 0, fun _ => 0, fun _ => 0, fun _ => 0, fun _ => 0, fun _ => 0, fun _ => 0, fun _ => 0)) : wpY_init (fun v => i_Rel 2 u v) k0 k1 := by
  have R := sv_in (k := 2) (tr := -1) (vl := 0) (me := fun _ => 0) (rg := fun _ => 0) (nw := fun _ => 0) (sv_F0 (lb := lb) (lg := 0) (w := 0) (op := fun _ => 0) (ia := fun _ => 0) (ib := fun _ => 0) (ic := fun _ => 0) (mk := fun _ => 0) (ps := fun _ => 0) (pg := sv_fi A (fun _ => 0) 16) (rs := fun _ => 0) h2 h3 (by omega) (by omega) sv_TB0)
  have hz : (fun j : Nat => ((fun _ => 0 : Nat → Int32) j) &&& 255) = (fun _ => 0) := by
    funext j
    show (0 : Int32) &&& 255 = 0
    decide
  rw [hz] at R
  subst hu
  unfold wpY_init
  refine br_c (fun c => ⟨17, yi_116 hA ?_ 16 0 rfl⟩) (fun c => ⟨17, yi_116 hA ?_ 16 0 rfl⟩)
  · have e := hk.1 c
    subst e
    unfold wpY_kernel wY_kernel_30
    exact br_f (by decide) (br_t (by decide) (br_t (by decide) R))
  · have e := hk.2 c
    subst e
    unfold wpY_kernel wY_kernel_30
    exact br_f (by decide) (br_t (by decide) (br_t (by decide) R))
theorem sv_k3 {k0 : Int32} : 2 < k0 ↔ ¬ k0 < 3 := by
  rw [Int32.lt_iff_toInt_lt, Int32.lt_iff_toInt_lt, show (2 : Int32).toInt = 2 from by decide, show (3 : Int32).toInt = 3 from by decide]
  omega
theorem i_vc0 (k0 : Int32) (k1 : Int32) : wpX_init (fun u => wpY_init (fun v => i_Rel 2 u v) k0 k1) k0 k1 := by
  have key : ∀ lb : Nat, 2 ≤ lb → lb ≤ 3 → ((k0 < 3 → lb = 2) ∧ (¬ k0 < 3 → lb = 3)) → wX_init_106 (fun u => wpY_init (fun v => i_Rel 2 u v) k0 k1) k1 (nI lb) 0 0 0 0 0 0 0 0 0 0 0 0 0 (fun _ => 0) (fun _ => 0) (fun _ => 0) (fun _ => 0) (fun _ => 0) (fun _ => 0) (fun _ => 0) (fun _ => 0) (fun _ => 0) (fun _ => 0) (fun _ => 0) := by
    intro lb h2 h3 hk
    unfold wX_init_106 wX_init_118
    refine br_c (fun c => br_c (fun c2 => ⟨17, xi_133 ?_ 16 0 rfl⟩) (fun c2 => ⟨17, xi_133 ?_ 16 0 rfl⟩)) (fun c => br_t (by decide) ⟨17, xi_133 ?_ 16 0 rfl⟩)
    · unfold wpX_kernel
      exact br_f (by decide) (br_t (by decide) (sv_yinit h2 h3 hk (Or.inl ⟨c, c2, rfl⟩) rfl))
    · unfold wpX_kernel
      exact br_f (by decide) (br_t (by decide) (sv_yinit h2 h3 hk (Or.inr (Or.inl ⟨c, c2, rfl⟩)) rfl))
    · unfold wpX_kernel
      exact br_f (by decide) (br_t (by decide) (sv_yinit h2 h3 hk (Or.inr (Or.inr ⟨c, rfl⟩)) rfl))
  unfold wpX_init
  refine br_c (fun c => ?_) (fun c => ?_)
  · exact key 3 (by omega) (by omega) ⟨fun y => absurd y (sv_k3.mp c), fun _ => rfl⟩
  · have c' : k0 < 3 := Decidable.byContradiction (fun q => c (sv_k3.mpr q))
    exact key 2 (by omega) (by omega) ⟨fun _ => rfl, fun y => absurd c' y⟩
/-! start -/
def sv_rz (C : SvC) (k : Nat) : Int32 := if sv_o C k = 18 then sv_nr (sv_lw C) ((sv_ic C) k) else 0
def sv_rst (C : SvC) (rs : Nat → Int32) : Nat → (Nat → Int32)
  | 0 => rs
  | t + 1 => upd (sv_rst C rs t) t (sv_rz C t)
theorem sv_rst_v {C : SvC} {rs : Nat → Int32} {k : Nat} : ∀ T, k < T → sv_rst C rs T k = sv_rz C k := by
  intro T
  induction T with
  | zero => intro h; omega
  | succ T ih =>
    intro h
    show upd (sv_rst C rs T) T (sv_rz C T) k = _
    by_cases e : k = T
    · rw [e, pk_us]
    · rw [pk_un e, ih (by omega)]
theorem sv_fi_tb {f : Nat → Int32} (h : sv_TB f) : ∀ T, sv_TB (sv_fi 0 f T) := by
  intro T
  induction T with
  | zero => exact h
  | succ T ih =>
    intro j
    show upd (sv_fi 0 f T) T 0 j = 0 ∨ upd (sv_fi 0 f T) T 0 j = 1 ∨ upd (sv_fi 0 f T) T 0 j = 2 ∨ upd (sv_fi 0 f T) T 0 j = 3
    by_cases e : j = T
    · rw [e, pk_us]; exact Or.inl rfl
    · rw [pk_un e]; exact ih j
section SvStX
variable {C : SvC} {lb lg nx : Nat} {cm cp hs st tt tr vl : Int32} {me tb rg rs : Nat → Int32}
theorem xt_reset {post : SX → Prop} {k : Nat} (hl : (sv_lw C) ≤ 2) (hk : k < 16) (ho : (sv_op C) k = nI (sv_o C k)) (ho2 : sv_o C k ≤ 18) (h : post (nI lb, nI lg, nI (sv_lw C), nI (sv_n C), cm, cp, hs, st, tt, nI (sv_s C), nI nx, tr, vl, me, tb, (sv_pg C), rg, (sv_op C), (sv_ia C), (sv_ib C), (sv_ic C), (sv_mk C), (sv_ps C), upd rs k (sv_rz C k))) : wpX_resetResult post (nI lb, nI lg, nI (sv_lw C), nI (sv_n C), cm, cp, hs, st, tt, nI (sv_s C), nI nx, tr, vl, me, tb, (sv_pg C), rg, (sv_op C), (sv_ia C), (sv_ib C), (sv_ic C), (sv_mk C), (sv_ps C), rs) (nI k) := by
  have c : (nI k).toNatClampNeg = k := nI_clamp (by omega)
  have hi : vp_in (nI k) 16 := vp_in_nI (by omega) (by omega)
  unfold wpX_resetResult
  dsimp only
  rw [c, ho]
  unfold sv_rz at h
  refine ⟨hi, pk_eq (sv_o C k) 18 (fun z => ⟨hi, xb_narrow hl ⟨hi, nm_e ?_⟩⟩) (fun z => ⟨hi, nm_e ?_⟩)⟩
  · rw [if_pos z] at h
    exact h
  · rw [if_neg z] at h
    exact h
theorem xt_73 {post : Int32 → SX → Prop} {x : Nat} (hl : (sv_lw C) ≤ 2) (hn : (sv_n C) ≤ 16) (hw : sv_WF C) (hx : x ≤ 128) (h1 : x = 0 → post 0 (nI lb, nI lg, nI (sv_lw C), nI (sv_n C), cm, cp, hs, 2, tt, nI (sv_s C), nI nx, tr, vl, me, tb, (sv_pg C), rg, (sv_op C), (sv_ia C), (sv_ib C), (sv_ic C), (sv_mk C), (sv_ps C), sv_rst C rs (sv_n C))) (h2 : 0 < x → post 0 (nI lb, nI lg, nI (sv_lw C), nI (sv_n C), cm, cp, hs, 1, tt, nI (sv_s C), nI nx, tr, vl, me, tb, (sv_pg C), rg, (sv_op C), (sv_ia C), (sv_ib C), (sv_ic C), (sv_mk C), (sv_ps C), sv_rst C rs (sv_n C))) : ∀ d t, t + d = (sv_n C) → wX_start_73 post (nI x) (d + 1) (nI t) (nI lb) (nI lg) (nI (sv_lw C)) (nI (sv_n C)) cm cp hs st tt (nI (sv_s C)) (nI nx) tr vl me tb (sv_pg C) rg (sv_op C) (sv_ia C) (sv_ib C) (sv_ic C) (sv_mk C) (sv_ps C) (sv_rst C rs t) := by
  intro d
  induction d with
  | zero =>
    intro t ht
    have e : t = (sv_n C) := by omega
    subst e
    rw [wX_start_73]
    exact br_t (nI_le (Nat.le_refl _) (by omega)) (pk_le x 0 (fun z => h1 (by omega)) (fun z => h2 z))
  | succ d ih =>
    intro t ht
    rw [wX_start_73]
    have hwk := hw t (by omega)
    refine br_f (nI_ge (by omega) (by omega)) (xt_reset hl (by omega) hwk.1.1 hwk.1.2 ?_)
    exact nm_r (nI_1 t) (ih (t + 1) (by omega))
theorem xt_51 {post : Int32 → SX → Prop} {x : Int32} (h : ∃ n73, wX_start_73 post x n73 0 (nI lb) (nI lg) (nI (sv_lw C)) (nI (sv_n C)) cm cp hs st tt (nI (sv_s C)) (nI nx) tr vl me (sv_fi 0 tb 256) (sv_pg C) rg (sv_op C) (sv_ia C) (sv_ib C) (sv_ic C) (sv_mk C) (sv_ps C) rs) : ∀ d t, t + d = 256 → wX_start_51 post x (nI lb) (nI lg) (nI (sv_lw C)) (nI (sv_n C)) cm cp hs st tt (nI (sv_s C)) (nI nx) tr vl (d + 1) (nI t) me (sv_fi 0 tb t) (sv_pg C) rg (sv_op C) (sv_ia C) (sv_ib C) (sv_ic C) (sv_mk C) (sv_ps C) rs := by
  intro d
  induction d with
  | zero =>
    intro t ht
    have e : t = 256 := by omega
    subst e
    rw [wX_start_51]
    exact br_t (by decide) h
  | succ d ih =>
    intro t ht
    rw [wX_start_51]
    have c : (nI t).toNatClampNeg = t := nI_clamp (by omega)
    exact br_f (nI_ge (b := 256) (by omega) (by decide)) ⟨vp_in_nI (by omega) (by omega), nm_r (e' := sv_fi 0 tb (t + 1)) (by rw [c, show vp_nar .byte 0 = 0 from by rw [vp_nar_byte]; decide]; rfl) (nm_r (nI_1 t) (ih (t + 1) (by omega)))⟩
end SvStX
section SvStY
variable {C : SvC} {nx : Nat} {by' gg cm cp tt st tr : Int32} {me tb rs nw : Nat → Int32}
theorem yt_73 {post : Int32 → SY → Prop} {x : Nat} (hl : (sv_lw C) ≤ 2) (hn : (sv_n C) ≤ 16) (hw : sv_WF C) (hx : x ≤ 128) (h1 : x = 0 → post 0 (by', nI (2 ^ (sv_lw C)), gg, nI (sv_n C), cm, cp, tt, nI (sv_s C), 2, nI nx, tr, me, tb, (sv_pg C), (sv_op C), (sv_ia C), (sv_ib C), (sv_ic C), (sv_mk C), (sv_ps C), sv_rst C rs (sv_n C), nw)) (h2 : 0 < x → post 0 (by', nI (2 ^ (sv_lw C)), gg, nI (sv_n C), cm, cp, tt, nI (sv_s C), 1, nI nx, tr, me, tb, (sv_pg C), (sv_op C), (sv_ia C), (sv_ib C), (sv_ic C), (sv_mk C), (sv_ps C), sv_rst C rs (sv_n C), nw)) : ∀ d t, t + d = (sv_n C) → wY_start_73 post (nI x) by' (nI (2 ^ (sv_lw C))) gg (nI (sv_n C)) cm cp tt (nI (sv_s C)) st (nI nx) tr (d + 1) (nI t) me tb (sv_pg C) (sv_op C) (sv_ia C) (sv_ib C) (sv_ic C) (sv_mk C) (sv_ps C) (sv_rst C rs t) nw := by
  intro d
  induction d with
  | zero =>
    intro t ht
    have e : t = (sv_n C) := by omega
    subst e
    rw [wY_start_73]
    exact br_t (nI_le (Nat.le_refl _) (by omega)) (pk_le x 0 (fun z => h1 (by omega)) (fun z => h2 z))
  | succ d ih =>
    intro t ht
    rw [wY_start_73]
    have hwk := hw t (by omega)
    have ho2 := hwk.1.2
    have c : (nI t).toNatClampNeg = t := nI_clamp (by omega)
    have hi : vp_in (nI t) 16 := vp_in_nI (by omega) (by omega)
    have H := ih (t + 1) (by omega)
    refine br_f (nI_ge (by omega) (by omega)) ⟨hi, ?_⟩
    rw [c, hwk.1.1]
    refine pk_eq (sv_o C t) 18 (fun z => ⟨hi, yb_narrow hl ⟨hi, nm_r (e' := sv_rst C rs (t + 1)) ?_ (nm_r (nI_1 t) H)⟩⟩) (fun z => ⟨hi, nm_r (e' := sv_rst C rs (t + 1)) ?_ (nm_r (nI_1 t) H)⟩)
    · show _ = upd (sv_rst C rs t) t (sv_rz C t)
      unfold sv_rz
      rw [if_pos z]
    · show _ = upd (sv_rst C rs t) t (sv_rz C t)
      unfold sv_rz
      rw [if_neg z]
theorem yt_51 {post : Int32 → SY → Prop} {x : Int32} (h : ∃ n73, wY_start_73 post x by' (nI (2 ^ (sv_lw C))) gg (nI (sv_n C)) cm cp tt (nI (sv_s C)) st (nI nx) tr n73 0 me (sv_fi 0 tb 256) (sv_pg C) (sv_op C) (sv_ia C) (sv_ib C) (sv_ic C) (sv_mk C) (sv_ps C) rs nw) : ∀ d t, t + d = 256 → wY_start_51 post x by' (nI (2 ^ (sv_lw C))) gg (nI (sv_n C)) cm cp tt (nI (sv_s C)) st (nI nx) tr (d + 1) (nI t) me (sv_fi 0 tb t) (sv_pg C) (sv_op C) (sv_ia C) (sv_ib C) (sv_ic C) (sv_mk C) (sv_ps C) rs nw := by
  intro d
  induction d with
  | zero =>
    intro t ht
    have e : t = 256 := by omega
    subst e
    rw [wY_start_51]
    exact br_t (by decide) h
  | succ d ih =>
    intro t ht
    rw [wY_start_51]
    have c : (nI t).toNatClampNeg = t := nI_clamp (by omega)
    exact br_f (nI_ge (b := 256) (by omega) (by decide)) ⟨vp_in_nI (by omega) (by omega), nm_r (e' := sv_fi 0 tb (t + 1)) (by rw [c]; rfl) (nm_r (nI_1 t) (ih (t + 1) (by omega)))⟩
end SvStY
/-- a start -/
theorem sv_F_st {lb lg tot nx x s : Nat} {C : SvC} {cm cp hs st st' : Int32} {tb rs : Nat → Int32} (h : sv_F lb lg C tot nx cm cp hs st tb rs) (hs1 : s ≤ 1) (hx : x ≤ 128) (hst : (x = 0 ∧ st' = 2) ∨ (0 < x ∧ st' = 1)) : sv_F lb lg ((sv_lw C), (sv_n C), s, (sv_op C), (sv_ia C), (sv_ib C), (sv_ic C), (sv_mk C), (sv_ps C), (sv_pg C)) x 0 cm cp hs st' (sv_fi 0 tb 256) (sv_rst ((sv_lw C), (sv_n C), s, (sv_op C), (sv_ia C), (sv_ib C), (sv_ic C), (sv_mk C), (sv_ps C), (sv_pg C)) rs (sv_n C)) := by
  obtain ⟨⟨h2, h3, hg, hn32, hl, hn, _, hw, hU⟩, hcm, hhs, _, _, _, _, hT, _⟩ := h
  refine ⟨⟨h2, h3, hg, hn32, hl, hn, hs1, hw, hU⟩, hcm, hhs, ?_, hx, Nat.zero_le _, ?_, sv_fi_tb hT 256, ?_⟩
  · rcases hst with ⟨_, e⟩ | ⟨_, e⟩
    · exact Or.inr (Or.inr e)
    · exact Or.inr (Or.inl e)
  · intro e1
    rcases hst with ⟨_, e⟩ | ⟨z, e⟩
    · exact absurd (e.symm.trans e1) (by decide)
    · exact z
  · intro k hk ho
    rw [sv_rst_v _ hk]
    unfold sv_rz
    rw [if_neg (by omega)]
    exact sv_nr_sm (i := 0) hl (by omega)
theorem i_vc_start {k : Nat} {u : SX} {v : SY} (I : i_Rel k u v) (hk : k + 5 ≤ 2562) (v1 : Int32) (v2 : Int32) : wpX_start (fun r u' => wpY_start (fun r' v' => r' = r ∧ i_Rel (k + 5) u' v') v v1 v2) u v1 v2 := by
  refine sv_el (P := fun u v => wpX_start (fun r u' => wpY_start (fun r' v' => r' = r ∧ i_Rel (k + 5) u' v') v v1 v2) u v1 v2) I ?_
  intro C lb lg tot nx cm cp hs st tr vl me tb rg rs nw hF
  have hl := hF.1.2.2.2.2.1
  have hn := hF.1.2.2.2.2.2.1
  have hw := hF.1.2.2.2.2.2.2.2.1
  unfold wpX_start wpY_start
  dsimp only
  by_cases hc : nI (sv_n C) = 0
  · exact br_t hc (br_t hc ⟨rfl, sv_in hF⟩)
  by_cases h0 : v1 < 0
  · exact br_f hc (br_t h0 (br_f hc (br_t h0 ⟨rfl, sv_in hF⟩)))
  by_cases h1 : 128 < v1
  · exact br_f hc (br_f h0 (br_t h1 (br_f hc (br_f h0 (br_t h1 ⟨rfl, sv_in hF⟩)))))
  by_cases h2 : v2 < 0
  · exact br_f hc (br_f h0 (br_f h1 (br_t h2 (br_f hc (br_f h0 (br_f h1 (br_t h2 ⟨rfl, sv_in hF⟩)))))))
  by_cases h3 : v2 ≤ 1
  · obtain ⟨x, hx, rfl⟩ := nI_of h0
    obtain ⟨s, hs1, rfl⟩ := nI_of2 (M := 1) (n := 1) (by decide) h2 h3
    have hx2 : x ≤ 128 := by
      rcases Nat.lt_or_ge 128 x with z | z
      · exact absurd (nI_lt z hx) h1
      · exact z
    have hF2 := fun st' (hst : (x = 0 ∧ st' = 2) ∨ (0 < x ∧ st' = 1)) => sv_F_st (st' := st') hF hs1 hx2 hst
    have hw2 : sv_WF ((sv_lw C), (sv_n C), s, (sv_op C), (sv_ia C), (sv_ib C), (sv_ic C), (sv_mk C), (sv_ps C), (sv_pg C)) := hw
    generalize hC2 : ((sv_lw C), (sv_n C), s, (sv_op C), (sv_ia C), (sv_ib C), (sv_ic C), (sv_mk C), (sv_ps C), (sv_pg C)) = C2 at hF2 hw2
    refine br_f hc (br_f h0 (br_f h1 (br_f h2 (br_t h3 ⟨257, xt_51 (C := ((sv_lw C), (sv_n C), s, (sv_op C), (sv_ia C), (sv_ib C), (sv_ic C), (sv_mk C), (sv_ps C), (sv_pg C))) (nx := 0) (lb := lb) (lg := lg) ⟨(sv_n C) + 1, xt_73 (C := ((sv_lw C), (sv_n C), s, (sv_op C), (sv_ia C), (sv_ib C), (sv_ic C), (sv_mk C), (sv_ps C), (sv_pg C))) (nx := 0) (lb := lb) (lg := lg) hl hn hw hx2 ?_ ?_ (sv_n C) 0 (Nat.zero_add _)⟩ 256 0 rfl⟩))))
    · intro z
      refine br_f hc (br_f h0 (br_f h1 (br_f h2 (br_t h3 ⟨257, yt_51 (C := ((sv_lw C), (sv_n C), s, (sv_op C), (sv_ia C), (sv_ib C), (sv_ic C), (sv_mk C), (sv_ps C), (sv_pg C))) (nx := 0) ⟨(sv_n C) + 1, yt_73 (C := ((sv_lw C), (sv_n C), s, (sv_op C), (sv_ia C), (sv_ib C), (sv_ic C), (sv_mk C), (sv_ps C), (sv_pg C))) (nx := 0) hl hn hw hx2 ?_ ?_ (sv_n C) 0 (Nat.zero_add _)⟩ 256 0 rfl⟩))))
      · intro _
        refine ⟨rfl, ?_⟩
        have R := sv_in (k := k + 5) (tr := -1) (vl := vl) (me := me) (rg := rg) (nw := nw) (hF2 2 (Or.inl ⟨z, rfl⟩))
        rw [← hC2] at R
        exact R
      · intro z2
        exact absurd z (by omega)
    · intro z
      refine br_f hc (br_f h0 (br_f h1 (br_f h2 (br_t h3 ⟨257, yt_51 (C := ((sv_lw C), (sv_n C), s, (sv_op C), (sv_ia C), (sv_ib C), (sv_ic C), (sv_mk C), (sv_ps C), (sv_pg C))) (nx := 0) ⟨(sv_n C) + 1, yt_73 (C := ((sv_lw C), (sv_n C), s, (sv_op C), (sv_ia C), (sv_ib C), (sv_ic C), (sv_mk C), (sv_ps C), (sv_pg C))) (nx := 0) hl hn hw hx2 ?_ ?_ (sv_n C) 0 (Nat.zero_add _)⟩ 256 0 rfl⟩))))
      · intro z2
        exact absurd z (by omega)
      · intro _
        refine ⟨rfl, ?_⟩
        have R := sv_in (k := k + 5) (tr := -1) (vl := vl) (me := me) (rg := rg) (nw := nw) (hF2 1 (Or.inr ⟨z, rfl⟩))
        rw [← hC2] at R
        exact R
  · exact br_f hc (br_f h0 (br_f h1 (br_f h2 (br_f h3 (br_f hc (br_f h0 (br_f h1 (br_f h2 (br_f h3 ⟨rfl, sv_in hF⟩)))))))))
end
section
/-! run, mask -/
theorem sv_F_rn {lb lg tot nx nx' : Nat} {C : SvC} {cm cp hs st st' : Int32} {tb rs tb' rs' : Nat → Int32} (h : sv_F lb lg C tot nx cm cp hs st tb rs) (hst : st' = 1 ∨ st' = 2) (h1 : nx' ≤ tot) (h2 : st' = 1 → nx' < tot) (hT : sv_TB tb') (hN : sv_Nar C rs') : sv_F lb lg C tot nx' cm cp hs st' tb' rs' := ⟨h.1, h.2.1, h.2.2.1, Or.inr hst, h.2.2.2.2.1, h1, h2, hT, hN⟩
theorem i_vc_run {k : Nat} {u : SX} {v : SY} (I : i_Rel k u v) (hk : k + 5 ≤ 2562) (v1 : Int32) : wpX_run (fun r u' => wpY_run (fun r' v' => r' = r ∧ i_Rel (k + 5) u' v') v v1) u v1 := by
  refine sv_el (P := fun u v => wpX_run (fun r u' => wpY_run (fun r' v' => r' = r ∧ i_Rel (k + 5) u' v') v v1) u v1) I ?_
  intro C lb lg tot nx cm cp hs st tr vl me tb rg rs nw hF
  have hX := hF.1
  have htot := hF.2.2.2.2.1
  have hnt := hF.2.2.2.2.2.1
  have hlt := hF.2.2.2.2.2.2.1
  have hT := hF.2.2.2.2.2.2.2.1
  have hN := hF.2.2.2.2.2.2.2.2
  unfold wpX_run wpY_run
  dsimp only
  rcases hF.2.2.2.1 with rfl | rfl | rfl
  · exact br_t rfl (br_t rfl ⟨rfl, sv_in hF⟩)
  · have hnx := hlt rfl
    by_cases h1 : 1 ≤ v1
    · obtain ⟨lim, hlim, rfl⟩ := nI_of (x := v1) (sv_ge0 (n := 1) (by omega) h1)
      have hlim1 : 1 ≤ lim := (nI_leI (a := 1) (by omega) hlim).mp h1
      have hmr := sv_min_r (tot - nx) lim
      refine br_f (by decide) (br_f (by decide) (br_t h1 (xb_les ?_)))
      rw [pk_sub hnt, sv_min_I (by omega) hlim]
      have hok := sv_rn_ok (C := C) hX.2.2.2.2.1 hX.2.2.2.2.2.2.2.1 (sv_min (tot - nx) lim) nx (fun j => me j &&& 255, tb, rs) (by omega) hT hN
      have hY : ∀ post : Int32 → SY → Prop, sv_YO post C tot (nI (2 ^ lb)) (nI (2 ^ lg)) cm cp 1 (sv_rn C (sv_min (tot - nx) lim) nx (fun j => me j &&& 255, tb, rs)) → ∃ n38, wY_run_38 post (nI lim) (nI nx) n38 (nI nx) (nI (2 ^ lb)) (nI (2 ^ (sv_lw C))) (nI (2 ^ lg)) (nI (sv_n C)) cm cp (nI tot) (nI (sv_s C)) 1 (nI nx) (-1) ((fun j => me j &&& 255)) tb (sv_pg C) (sv_op C) (sv_ia C) (sv_ib C) (sv_ic C) (sv_mk C) (sv_ps C) rs nw := by
        intro post hp
        exact ⟨_, yr_38 (first := nx) hX.2.2.2.2 htot hlim (sv_min (tot - nx) lim) nx (fun j => me j &&& 255, tb, rs) nw (Nat.le_refl _) (by omega) hp⟩
      refine ⟨_, xr_48 hX (sv_min (tot - nx) lim + 1) (sv_min (tot - nx) lim) 0 nx vl me tb rg rs (by omega) (by omega) (by omega) hT hN ?_⟩
      generalize sv_rn C (sv_min (tot - nx) lim) nx (fun j => me j &&& 255, tb, rs) = r at *
      obtain ⟨⟨m', tb', rs'⟩, i', o⟩ := r
      obtain ⟨hT', hN', hn', hs'⟩ := hok
      dsimp only at hT' hN' hn' hs'
      intro vl' me' rg' hm'
      dsimp only at hm'
      subst hm'
      dsimp only
      cases o with
      | some t =>
        have hb := hs' t rfl
        refine ⟨fun t' ht' h256 => ?_, fun h => nomatch h⟩
        have e : t = t' := Option.some.inj ht'
        subst e
        refine br_f (by decide) (br_f (by decide) (br_t h1 (hY _ ?_)))
        intro nw'
        refine ⟨fun t2 ht2 _ => ?_, fun h => nomatch h⟩
        have e : t = t2 := Option.some.inj ht2
        subst e
        exact ⟨rfl, sv_in (sv_F_rn hF (Or.inl rfl) (by omega) (fun _ => by omega) hT' hN')⟩
      | none =>
        have hb := hn' rfl
        refine ⟨(fun t ht => nomatch ht), fun _ => br_c (fun z => ?_) (fun z => ?_)⟩
        · have z' : i' = tot := (nI_eq (by omega) (by omega)).mp z
          refine br_f (by decide) (br_f (by decide) (br_t h1 (hY _ ?_)))
          intro nw'
          refine ⟨(fun t ht => nomatch ht), fun _ => ⟨fun _ => ?_, fun y => absurd z' y⟩⟩
          exact ⟨rfl, sv_in (sv_F_rn hF (Or.inr rfl) (by omega) (fun y => absurd y (by decide)) hT' hN')⟩
        · have z' : ¬ i' = tot := fun e => z (by rw [e])
          refine br_f (by decide) (br_f (by decide) (br_t h1 (hY _ ?_)))
          intro nw'
          refine ⟨(fun t ht => nomatch ht), fun _ => ⟨fun y => absurd y z', fun _ => ?_⟩⟩
          exact ⟨rfl, sv_in (sv_F_rn hF (Or.inl rfl) (by omega) (fun _ => by omega) hT' hN')⟩
    · exact br_f (by decide) (br_f (by decide) (br_f h1 (br_f (by decide) (br_f (by decide) (br_f h1 ⟨rfl, sv_in hF⟩)))))
  · exact br_f (by decide) (br_t rfl (br_f (by decide) (br_t rfl ⟨rfl, sv_in hF⟩)))
/-! a value node, on both sides -/
theorem sv_iv {C : SvC} {lb lg nx : Nat} {cm cp hs st tt tr vl : Int32} {me tb rg rs : Nat → Int32} {by' gg : Int32} {me' nw : Nat → Int32} (hn : (sv_n C) ≤ 16) (hw : sv_WF C) (x : Int32) : ∃ b : Bool, (b = true → sv_VN C (sv_n C) x) ∧ (∀ post : Int32 → Prop, post (cond b 1 0) → wpX_isValueNode post (nI lb, nI lg, nI (sv_lw C), nI (sv_n C), cm, cp, hs, st, tt, nI (sv_s C), nI nx, tr, vl, me, tb, (sv_pg C), rg, (sv_op C), (sv_ia C), (sv_ib C), (sv_ic C), (sv_mk C), (sv_ps C), rs) x) ∧ (∀ post : Int32 → Prop, post (cond b 1 0) → wpY_isValue post (by', nI (2 ^ (sv_lw C)), gg, nI (sv_n C), cm, cp, tt, nI (sv_s C), st, nI nx, tr, me', tb, (sv_pg C), (sv_op C), (sv_ia C), (sv_ib C), (sv_ic C), (sv_mk C), (sv_ps C), rs, nw) x) := by
  unfold wpX_isValueNode wpY_isValue
  dsimp only
  rcases pk_ix x (n := (sv_n C)) (by omega) with h | h | ⟨j, hj, rfl⟩
  · exact ⟨false, (fun e => nomatch e), fun post hp => br_t h hp, fun post hp => br_t h hp⟩
  · have h0 := sv_ge0 (by omega) h
    exact ⟨false, (fun e => nomatch e), fun post hp => br_f h0 (br_t h hp), fun post hp => br_f h0 (br_t h hp)⟩
  · have h0 : ¬ nI j < 0 := nI_pos (by omega)
    have h1 : ¬ nI (sv_n C) ≤ nI j := nI_ge hj (by omega)
    have hi : vp_in (nI j) 16 := vp_in_nI (by omega) (by omega)
    have c : (nI j).toNatClampNeg = j := nI_clamp (by omega)
    have hwk := hw j hj
    have ho2 := hwk.1.2
    rw [c, hwk.1.1]
    by_cases z : sv_o C j ≤ 15
    · have z' : ¬ (15 : Int32) < nI (sv_o C j) := nI_nlt (b := sv_o C j) (a := 15) z (by omega)
      refine ⟨true, fun _ => ?_, fun post hp => br_f h0 (br_f h1 ⟨hi, br_f z' hp⟩), fun post hp => br_f h0 (br_f h1 ⟨hi, br_f z' hp⟩)⟩
      unfold sv_VN
      rw [c]
      exact ⟨rfl, hj, z⟩
    · have z' : (15 : Int32) < nI (sv_o C j) := nI_lt (a := 15) (by omega) (by omega)
      exact ⟨false, (fun e => nomatch e), fun post hp => br_f h0 (br_f h1 ⟨hi, br_t z' hp⟩), fun post hp => br_f h0 (br_f h1 ⟨hi, br_t z' hp⟩)⟩
theorem i_vc_mask {k : Nat} {u : SX} {v : SY} (I : i_Rel k u v) (hk : k + 5 ≤ 2562) (v1 : Int32) (v2 : Int32) : wpX_mask (fun r u' => wpY_mask (fun r' v' => r' = r ∧ i_Rel (k + 5) u' v') v v1 v2) u v1 v2 := by
  refine sv_el (P := fun u v => wpX_mask (fun r u' => wpY_mask (fun r' v' => r' = r ∧ i_Rel (k + 5) u' v') v v1 v2) u v1 v2) I ?_
  intro C lb lg tot nx cm cp hs st tr vl me tb rg rs nw hF
  have hn := hF.1.2.2.2.2.2.1
  have hw := hF.1.2.2.2.2.2.2.2.1
  have R := sv_in (k := k + 5) (tr := tr) (vl := vl) (me := me) (rg := rg) (nw := nw) hF
  obtain ⟨b1, hv1, hx1, hy1⟩ := sv_iv (C := C) (lb := lb) (lg := lg) (nx := nx) (cm := cm) (cp := cp) (hs := hs) (st := st) (tt := nI tot) (tr := tr) (vl := vl) (me := me) (tb := tb) (rg := rg) (rs := rs) (by' := nI (2 ^ lb)) (gg := nI (2 ^ lg)) (me' := fun j => me j &&& 255) (nw := nw) hn hw v1
  obtain ⟨b2, hv2, hx2, hy2⟩ := sv_iv (C := C) (lb := lb) (lg := lg) (nx := nx) (cm := cm) (cp := cp) (hs := hs) (st := st) (tt := nI tot) (tr := tr) (vl := vl) (me := me) (tb := tb) (rg := rg) (rs := rs) (by' := nI (2 ^ lb)) (gg := nI (2 ^ lg)) (me' := fun j => me j &&& 255) (nw := nw) hn hw v2
  unfold wpX_mask wpY_mask
  dsimp only
  by_cases hst : st = 0
  · refine br_t hst ?_
    by_cases hm : v1 = -1
    · subst hm
      refine br_t rfl (br_t hst (br_t rfl ?_))
      unfold wY_mask_33
      refine br_t rfl ⟨rfl, sv_in ?_⟩
      exact ⟨hF.1, Or.inl rfl, hF.2.2⟩
    · refine br_f hm (hx1 _ ?_)
      cases b1 with
      | false => exact br_t rfl (br_t hst (br_f hm (hy1 _ (br_t rfl ⟨rfl, R⟩))))
      | true =>
        refine br_f (by decide) (hx2 _ ?_)
        cases b2 with
        | false => exact br_t rfl (br_t hst (br_f hm (hy1 _ (br_f (by decide) (hy2 _ (br_t rfl ⟨rfl, R⟩))))))
        | true =>
          refine br_f (by decide) (br_t hst (br_f hm (hy1 _ (br_f (by decide) (hy2 _ (br_f (by decide) ?_))))))
          unfold wY_mask_33
          refine br_f hm ⟨rfl, sv_in ?_⟩
          exact ⟨hF.1, Or.inr ⟨hv1 rfl, hv2 rfl⟩, hF.2.2⟩
  · exact br_f hst (br_f hst ⟨rfl, R⟩)
end
section
/-! node -/
abbrev sv_C2 (C : SvC) (v1 v2 v3 v4 cm cp : Int32) : SvC := ((sv_lw C), (sv_n C) + 1, (sv_s C), upd (sv_op C) (sv_n C) v1, upd (sv_ia C) (sv_n C) v2, upd (sv_ib C) (sv_n C) v3, upd (sv_ic C) (sv_n C) v4, upd (sv_mk C) (sv_n C) cm, upd (sv_ps C) (sv_n C) cp, (sv_pg C))
section SvNd
variable {C : SvC} {v1 v2 v3 v4 cm cp : Int32} {o : Nat}
theorem sv_o2 {k : Nat} (h : k ≠ (sv_n C)) : sv_o (sv_C2 C v1 v2 v3 v4 cm cp) k = sv_o C k := by
  show (upd (sv_op C) (sv_n C) v1 k).toNatClampNeg = ((sv_op C) k).toNatClampNeg
  rw [pk_un h]
theorem sv_o2n (ho : o ≤ 18) : sv_o (sv_C2 C (nI o) v2 v3 v4 cm cp) (sv_n C) = o := by
  show (upd (sv_op C) (sv_n C) (nI o) (sv_n C)).toNatClampNeg = o
  rw [pk_us]
  exact nI_clamp (by omega)
theorem sv_VN2 {k k' : Nat} {x : Int32} (h : sv_VN C k x) (hk : k ≤ (sv_n C)) (hk' : k ≤ k') : sv_VN (sv_C2 C v1 v2 v3 v4 cm cp) k' x := by
  obtain ⟨h1, h2, h3⟩ := h
  refine ⟨h1, by omega, ?_⟩
  rw [sv_o2 (by omega)]
  exact h3
theorem sv_WK2 {k : Nat} (hk : k < (sv_n C)) (h : sv_WK C k) : sv_WK (sv_C2 C v1 v2 v3 v4 cm cp) k := by
  have e1 : sv_op (sv_C2 C v1 v2 v3 v4 cm cp) k = (sv_op C) k := pk_un (by omega)
  have e2 : sv_ia (sv_C2 C v1 v2 v3 v4 cm cp) k = (sv_ia C) k := pk_un (by omega)
  have e3 : sv_ib (sv_C2 C v1 v2 v3 v4 cm cp) k = (sv_ib C) k := pk_un (by omega)
  have e4 : sv_mk (sv_C2 C v1 v2 v3 v4 cm cp) k = (sv_mk C) k := pk_un (by omega)
  have e5 : sv_ps (sv_C2 C v1 v2 v3 v4 cm cp) k = (sv_ps C) k := pk_un (by omega)
  have e6 : sv_b (sv_C2 C v1 v2 v3 v4 cm cp) k = sv_b C k := congrArg Int32.toNatClampNeg e3
  unfold sv_WK
  rw [e1, e2, e3, e4, e5, e6, sv_o2 (by omega)]
  refine ⟨h.1, fun z => sv_VN2 (h.2.1 z) (by omega) (Nat.le_refl _), fun z => sv_VN2 (h.2.2.1 z) (by omega) (Nat.le_refl _), h.2.2.2.1, ?_⟩
  rcases h.2.2.2.2 with z | z
  · exact Or.inl z
  · exact Or.inr ⟨sv_VN2 z.1 (by omega) (Nat.le_refl _), sv_VN2 z.2 (by omega) (Nat.le_refl _)⟩
def sv_AC (C : SvC) (o : Nat) (v2 v3 hs : Int32) : Prop := ((2 ≤ o ∧ o ≠ 14) → sv_VN C (sv_n C) v2) ∧ (((2 ≤ o ∧ o ≤ 12) ∨ o = 17) → sv_VN C (sv_n C) v3) ∧ (o = 18 → v3 = nI v3.toNatClampNeg ∧ v3.toNatClampNeg ≤ 3) ∧ ((o = 16 ∨ o = 17) → hs = 0)
theorem sv_WK2n {hs : Int32} (ho : o ≤ 18) (hA : sv_AC C o v2 v3 hs) (hc : cm = -1 ∨ (sv_VN C (sv_n C) cm ∧ sv_VN C (sv_n C) cp)) : sv_WK (sv_C2 C (nI o) v2 v3 v4 cm cp) (sv_n C) := by
  have e1 : sv_op (sv_C2 C (nI o) v2 v3 v4 cm cp) (sv_n C) = nI o := pk_us
  have e2 : sv_ia (sv_C2 C (nI o) v2 v3 v4 cm cp) (sv_n C) = v2 := pk_us
  have e3 : sv_ib (sv_C2 C (nI o) v2 v3 v4 cm cp) (sv_n C) = v3 := pk_us
  have e4 : sv_mk (sv_C2 C (nI o) v2 v3 v4 cm cp) (sv_n C) = cm := pk_us
  have e5 : sv_ps (sv_C2 C (nI o) v2 v3 v4 cm cp) (sv_n C) = cp := pk_us
  have e6 : sv_b (sv_C2 C (nI o) v2 v3 v4 cm cp) (sv_n C) = v3.toNatClampNeg := congrArg Int32.toNatClampNeg e3
  unfold sv_WK
  rw [e1, e2, e3, e4, e5, e6, sv_o2n ho]
  refine ⟨⟨rfl, ho⟩, fun z => sv_VN2 (hA.1 z) (Nat.le_refl _) (Nat.le_refl _), fun z => sv_VN2 (hA.2.1 z) (Nat.le_refl _) (Nat.le_refl _), hA.2.2.1, ?_⟩
  rcases hc with z | z
  · exact Or.inl z
  · exact Or.inr ⟨sv_VN2 z.1 (Nat.le_refl _) (Nat.le_refl _), sv_VN2 z.2 (Nat.le_refl _) (Nat.le_refl _)⟩
theorem sv_rz2 (ho : o ≤ 18) : sv_rz (sv_C2 C (nI o) v2 v3 v4 cm cp) (sv_n C) = if o = 18 then sv_nr (sv_lw C) v4 else 0 := by
  have e : sv_ic (sv_C2 C (nI o) v2 v3 v4 cm cp) (sv_n C) = v4 := pk_us
  unfold sv_rz
  rw [sv_o2n ho, e]
theorem sv_F_nd {lb lg tot nx : Nat} {hs hs' st : Int32} {tb rs : Nat → Int32} (h : sv_F lb lg C tot nx cm cp hs st tb rs) (ho : o ≤ 18) (hA : sv_AC C o v2 v3 hs) (hn : (sv_n C) < 16) (hg : ((sv_n C) + 1) * 2 ^ lg ≤ 32) (hh : (hs' = 1 ∧ (hs = 1 ∨ o = 16 ∨ o = 17)) ∨ (hs' = 0 ∧ hs = 0 ∧ ¬ (o = 16 ∨ o = 17))) : sv_F lb lg (sv_C2 C (nI o) v2 v3 v4 cm cp) tot nx cm cp hs' st tb (upd rs (sv_n C) (sv_rz (sv_C2 C (nI o) v2 v3 v4 cm cp) (sv_n C))) := by
  obtain ⟨⟨h2, h3, hlg, _, hl, _, hs1, hw, hU⟩, hcm, hhs, hst, h128, hnx, h1, hT, hN⟩ := h
  have hstore : (o = 16 ∨ o = 17) → ∀ j, j < (sv_n C) → ¬ (sv_o C j = 16 ∨ sv_o C j = 17) := by
    intro z
    rcases hhs with ⟨_, y⟩ | ⟨y, _⟩
    · exact y
    · exact absurd (y.symm.trans (hA.2.2.2 z)) (by decide)
  refine ⟨⟨h2, h3, hlg, hg, hl, by show (sv_n C) + 1 ≤ 16; omega, hs1, ?_, ?_⟩, ?_, ?_, hst, h128, hnx, h1, hT, ?_⟩
  · intro k hk
    by_cases z : k = (sv_n C)
    · subst z; exact sv_WK2n ho hA hcm
    · have hk' : k < (sv_n C) + 1 := hk
      exact sv_WK2 (by omega) (hw k (by omega))
  · intro i j hi hj hoi hoj
    have hi' : i < (sv_n C) + 1 := hi
    have hj' : j < (sv_n C) + 1 := hj
    by_cases zi : i = (sv_n C)
    · by_cases zj : j = (sv_n C)
      · rw [zi, zj]
      · rw [zi, sv_o2n ho] at hoi
        rw [sv_o2 zj] at hoj
        exact absurd hoj (hstore hoi j (by omega))
    · rw [sv_o2 zi] at hoi
      by_cases zj : j = (sv_n C)
      · rw [zj, sv_o2n ho] at hoj
        exact absurd hoi (hstore hoj i (by omega))
      · rw [sv_o2 zj] at hoj
        exact hU i j (by omega) (by omega) hoi hoj
  · rcases hcm with z | z
    · exact Or.inl z
    · exact Or.inr ⟨sv_VN2 z.1 (Nat.le_refl _) (Nat.le_succ _), sv_VN2 z.2 (Nat.le_refl _) (Nat.le_succ _)⟩
  · rcases hh with ⟨z, y⟩ | ⟨z, y, y2⟩
    · refine Or.inr ⟨z, ?_⟩
      rcases y with y | y
      · rcases hhs with ⟨q, _⟩ | ⟨_, j, hj, q⟩
        · exact absurd (q.symm.trans y) (by decide)
        · exact ⟨j, Nat.lt_succ_of_lt hj, by rw [sv_o2 (by omega)]; exact q⟩
      · exact ⟨(sv_n C), Nat.lt_succ_self _, by rw [sv_o2n ho]; exact y⟩
    · refine Or.inl ⟨z, fun j hj => ?_⟩
      have hj' : j < (sv_n C) + 1 := hj
      by_cases zj : j = (sv_n C)
      · rw [zj, sv_o2n ho]; exact y2
      · rw [sv_o2 zj]
        rcases hhs with ⟨_, q⟩ | ⟨q, _⟩
        · exact q j (by omega)
        · exact absurd (y.symm.trans q) (by decide)
  · intro k hk ho2
    have hk' : k < (sv_n C) + 1 := hk
    by_cases z : k = (sv_n C)
    · rw [z, sv_o2n ho] at ho2
      rw [z, pk_us, sv_rz2 ho, if_neg (by omega)]
      exact sv_nr_sm (i := 0) hl (by omega)
    · rw [pk_un z]
      rw [sv_o2 z] at ho2
      exact hN k (by omega) ho2
end SvNd
/-! the checks, on both sides -/
abbrev SvP : Type := (Int32 → SY → Prop) → Prop
def sv_OUT (b : Bool) (ZX : (Int32 → Prop) → Prop) (ZY YR YI : SvP) : Prop := (∀ post : Int32 → Prop, post (cond b 1 0) → ZX post) ∧ (∀ post : Int32 → SY → Prop, (b = false → YR post) → (b = true → YI post) → ZY post)
section SvNc
variable {C : SvC} {lb lg nx o : Nat} {cm cp hs st tt tr vl v2 v3 v4 : Int32} {me tb rg rs : Nat → Int32} {by' gg : Int32} {me' nw : Nat → Int32} {YI : SvP}
theorem nd_3 (ho : o ≤ 18) (hhs : hs = 0 ∨ hs = 1) (hgo : ((o = 16 ∨ o = 17) → hs = 0) → ∀ post, YI post → ∃ n122, wY_node_122 post (nI o) v2 v3 v4 by' (nI (2 ^ (sv_lw C))) gg (nI (sv_n C)) cm cp tt (nI (sv_s C)) st (nI nx) tr me' tb (sv_pg C) (sv_op C) (sv_ia C) (sv_ib C) (sv_ic C) (sv_mk C) (sv_ps C) rs nw n122 0) (hno : (o = 16 ∨ o = 17) → hs = 1 → ∀ post : Int32 → SY → Prop, post (-1) (by', nI (2 ^ (sv_lw C)), gg, nI (sv_n C), cm, cp, tt, nI (sv_s C), st, nI nx, tr, me', tb, (sv_pg C), (sv_op C), (sv_ia C), (sv_ib C), (sv_ic C), (sv_mk C), (sv_ps C), rs, nw) → ∃ n122, wY_node_122 post (nI o) v2 v3 v4 by' (nI (2 ^ (sv_lw C))) gg (nI (sv_n C)) cm cp tt (nI (sv_s C)) st (nI nx) tr me' tb (sv_pg C) (sv_op C) (sv_ia C) (sv_ib C) (sv_ic C) (sv_mk C) (sv_ps C) rs nw n122 0) : ∃ b : Bool, (b = true → (o = 18 → v3 = nI v3.toNatClampNeg ∧ v3.toNatClampNeg ≤ 3) ∧ ((o = 16 ∨ o = 17) → hs = 0)) ∧ sv_OUT b (fun post => wX_isAcceptable_84 post (nI o) v3 (nI lb) (nI lg) (nI (sv_lw C)) (nI (sv_n C)) cm cp hs st tt (nI (sv_s C)) (nI nx) tr vl me tb (sv_pg C) rg (sv_op C) (sv_ia C) (sv_ib C) (sv_ic C) (sv_mk C) (sv_ps C) rs) (fun post => wY_node_102 post (nI o) v2 v3 v4 by' (nI (2 ^ (sv_lw C))) gg (nI (sv_n C)) cm cp tt (nI (sv_s C)) st (nI nx) tr me' tb (sv_pg C) (sv_op C) (sv_ia C) (sv_ib C) (sv_ic C) (sv_mk C) (sv_ps C) rs nw) (fun post => post (-1) (by', nI (2 ^ (sv_lw C)), gg, nI (sv_n C), cm, cp, tt, nI (sv_s C), st, nI nx, tr, me', tb, (sv_pg C), (sv_op C), (sv_ia C), (sv_ib C), (sv_ic C), (sv_mk C), (sv_ps C), rs, nw)) YI := by
  unfold sv_OUT wX_isAcceptable_84 wY_node_102
  by_cases h18 : o = 18
  · have e18 : nI o = 18 := by rw [h18]; decide
    by_cases h0 : v3 < 0
    · exact ⟨false, (fun e => nomatch e), fun post hp => br_t e18 (br_t h0 hp), fun post hf _ => br_t e18 (br_t h0 (hf rfl))⟩
    · obtain ⟨j, hj, rfl⟩ := nI_of h0
      by_cases h3 : j ≤ 3
      · have c : (nI j).toNatClampNeg = j := nI_clamp hj
        refine ⟨true, fun _ => ⟨fun _ => by rw [c]; exact ⟨rfl, h3⟩, fun z => absurd z (by omega)⟩, fun post hp => br_t e18 (br_f h0 (br_f (nI_nlt (b := j) (a := 3) h3 (by decide)) hp)), fun post _ ht => br_t e18 (br_f h0 (br_t (nI_le (b := 3) h3 (by decide)) (hgo (fun z => absurd z (by omega)) post (ht rfl))))⟩
      · exact ⟨false, (fun e => nomatch e), fun post hp => br_t e18 (br_f h0 (br_t (nI_lt (a := 3) (by omega) hj) hp)), fun post hf _ => br_t e18 (br_f h0 (br_f (nI_ge (a := 3) (by omega) hj) (hf rfl)))⟩
  · have e18 : ¬ nI o = 18 := sv_ne (c := 18) rfl ho (by omega) h18
    by_cases h16 : o < 16
    · exact ⟨true, fun _ => ⟨fun z => absurd z h18, fun z => absurd z (by omega)⟩, fun post hp => br_f e18 (br_t (nI_lt (b := 16) h16 (by decide)) hp), fun post _ ht => br_f e18 (hgo (fun z => absurd z (by omega)) post (ht rfl))⟩
    · have e16 : ¬ nI o < 16 := nI_nlt (b := 16) (by omega) (by omega)
      rcases hhs with y | y
      · exact ⟨true, fun _ => ⟨fun z => absurd z h18, fun _ => y⟩, fun post hp => br_f e18 (br_f e16 (br_t y hp)), fun post _ ht => br_f e18 (hgo (fun _ => y) post (ht rfl))⟩
      · have y0 : ¬ hs = 0 := by rw [y]; decide
        exact ⟨false, (fun e => nomatch e), fun post hp => br_f e18 (br_f e16 (br_f y0 hp)), fun post hf _ => br_f e18 (hno (by omega) y post (hf rfl))⟩
theorem nd_2 (ho : o ≤ 18) (hn : (sv_n C) ≤ 16) (hw : sv_WF C) (hhs : hs = 0 ∨ hs = 1) (hgo : ((o = 16 ∨ o = 17) → hs = 0) → ∀ post, YI post → ∃ n122, wY_node_122 post (nI o) v2 v3 v4 by' (nI (2 ^ (sv_lw C))) gg (nI (sv_n C)) cm cp tt (nI (sv_s C)) st (nI nx) tr me' tb (sv_pg C) (sv_op C) (sv_ia C) (sv_ib C) (sv_ic C) (sv_mk C) (sv_ps C) rs nw n122 0) (hno : (o = 16 ∨ o = 17) → hs = 1 → ∀ post : Int32 → SY → Prop, post (-1) (by', nI (2 ^ (sv_lw C)), gg, nI (sv_n C), cm, cp, tt, nI (sv_s C), st, nI nx, tr, me', tb, (sv_pg C), (sv_op C), (sv_ia C), (sv_ib C), (sv_ic C), (sv_mk C), (sv_ps C), rs, nw) → ∃ n122, wY_node_122 post (nI o) v2 v3 v4 by' (nI (2 ^ (sv_lw C))) gg (nI (sv_n C)) cm cp tt (nI (sv_s C)) st (nI nx) tr me' tb (sv_pg C) (sv_op C) (sv_ia C) (sv_ib C) (sv_ic C) (sv_mk C) (sv_ps C) rs nw n122 0) : ∃ b : Bool, (b = true → (((2 ≤ o ∧ o ≤ 12) ∨ o = 17) → sv_VN C (sv_n C) v3) ∧ (o = 18 → v3 = nI v3.toNatClampNeg ∧ v3.toNatClampNeg ≤ 3) ∧ ((o = 16 ∨ o = 17) → hs = 0)) ∧ sv_OUT b (fun post => wX_isAcceptable_45 post (nI o) v3 (nI lb) (nI lg) (nI (sv_lw C)) (nI (sv_n C)) cm cp hs st tt (nI (sv_s C)) (nI nx) tr vl me tb (sv_pg C) rg (sv_op C) (sv_ia C) (sv_ib C) (sv_ic C) (sv_mk C) (sv_ps C) rs) (fun post => wY_node_75 post (nI o) v2 v3 v4 by' (nI (2 ^ (sv_lw C))) gg (nI (sv_n C)) cm cp tt (nI (sv_s C)) st (nI nx) tr me' tb (sv_pg C) (sv_op C) (sv_ia C) (sv_ib C) (sv_ic C) (sv_mk C) (sv_ps C) rs nw) (fun post => post (-1) (by', nI (2 ^ (sv_lw C)), gg, nI (sv_n C), cm, cp, tt, nI (sv_s C), st, nI nx, tr, me', tb, (sv_pg C), (sv_op C), (sv_ia C), (sv_ib C), (sv_ic C), (sv_mk C), (sv_ps C), rs, nw)) YI := by
  obtain ⟨b3, hf3, hx3, hy3⟩ := nd_3 (C := C) (lb := lb) (lg := lg) (nx := nx) (cm := cm) (cp := cp) (hs := hs) (st := st) (tt := tt) (tr := tr) (vl := vl) (v2 := v2) (v3 := v3) (v4 := v4) (me := me) (tb := tb) (rg := rg) (rs := rs) (by' := by') (gg := gg) (me' := me') (nw := nw) (YI := YI) ho hhs hgo hno
  obtain ⟨bB, hvB, hxB, hyB⟩ := sv_iv (C := C) (lb := lb) (lg := lg) (nx := nx) (cm := cm) (cp := cp) (hs := hs) (st := st) (tt := tt) (tr := tr) (vl := vl) (me := me) (tb := tb) (rg := rg) (rs := rs) (by' := by') (gg := gg) (me' := me') (nw := nw) hn hw v3
  by_cases hb : (2 ≤ o ∧ o ≤ 12) ∨ o = 17
  · have key : ∃ b : Bool, (b = true → bB = true ∧ b3 = true) ∧ (∀ post : Int32 → Prop, post (cond b 1 0) → wX_isAcceptable_62 post (nI o) v3 (nI lb) (nI lg) (nI (sv_lw C)) (nI (sv_n C)) cm cp hs st tt (nI (sv_s C)) (nI nx) tr vl me tb (sv_pg C) rg (sv_op C) (sv_ia C) (sv_ib C) (sv_ic C) (sv_mk C) (sv_ps C) rs) ∧ (∀ post : Int32 → SY → Prop, (b = false → post (-1) (by', nI (2 ^ (sv_lw C)), gg, nI (sv_n C), cm, cp, tt, nI (sv_s C), st, nI nx, tr, me', tb, (sv_pg C), (sv_op C), (sv_ia C), (sv_ib C), (sv_ic C), (sv_mk C), (sv_ps C), rs, nw)) → (b = true → YI post) → wY_node_92 post (nI o) v2 v3 v4 by' (nI (2 ^ (sv_lw C))) gg (nI (sv_n C)) cm cp tt (nI (sv_s C)) st (nI nx) tr me' tb (sv_pg C) (sv_op C) (sv_ia C) (sv_ib C) (sv_ic C) (sv_mk C) (sv_ps C) rs nw) := by
      unfold wX_isAcceptable_62 wX_isAcceptable_67 wY_node_92
      cases bB with
      | false => exact ⟨false, (fun e => nomatch e), fun post hp => br_f (by decide) (hxB _ (br_t rfl hp)), fun post hf _ => hyB _ (br_t rfl (hf rfl))⟩
      | true => exact ⟨b3, fun e => ⟨rfl, e⟩, fun post hp => br_f (by decide) (hxB _ (br_f (by decide) (hx3 post hp))), fun post hf ht => hyB _ (br_f (by decide) (hy3 post hf ht))⟩
    obtain ⟨b, hk, hx, hy⟩ := key
    refine ⟨b, fun e => ⟨fun _ => hvB (hk e).1, hf3 (hk e).2⟩, fun post hp => ?_, fun post hf ht => ?_⟩
    · unfold wX_isAcceptable_45 wX_isAcceptable_56
      exact pk_lt o 2 (fun z => br_t (show nI o = 17 by exact absurd z (by omega)) (hx post hp)) (fun z => pk_le o 12 (fun _ => hx post hp) (fun z2 => pk_eq o 17 (fun _ => hx post hp) (fun z3 => absurd hb (by omega))))
    · unfold wY_node_75 wY_node_86
      exact pk_lt o 2 (fun z => absurd hb (by omega)) (fun z => pk_le o 12 (fun _ => hy post hf ht) (fun z2 => pk_eq o 17 (fun _ => hy post hf ht) (fun z3 => absurd hb (by omega))))
  · refine ⟨b3, fun e => ⟨fun y => absurd y hb, hf3 e⟩, fun post hp => ?_, fun post hf ht => ?_⟩
    · have h67 : wX_isAcceptable_67 post (nI o) v3 0 (nI lb) (nI lg) (nI (sv_lw C)) (nI (sv_n C)) cm cp hs st tt (nI (sv_s C)) (nI nx) tr vl me tb (sv_pg C) rg (sv_op C) (sv_ia C) (sv_ib C) (sv_ic C) (sv_mk C) (sv_ps C) rs := by
        unfold wX_isAcceptable_67
        exact br_t rfl (hx3 post hp)
      unfold wX_isAcceptable_45 wX_isAcceptable_56
      exact pk_lt o 2 (fun z => pk_eq o 17 (fun y => absurd y (by omega)) (fun _ => h67)) (fun z => pk_le o 12 (fun z2 => absurd (Or.inl ⟨z, z2⟩) hb) (fun z2 => pk_eq o 17 (fun y => absurd (Or.inr y) hb) (fun _ => h67)))
    · have h102 := hy3 post hf ht
      unfold wY_node_75 wY_node_86
      exact pk_lt o 2 (fun z => pk_eq o 17 (fun y => absurd y (by omega)) (fun _ => h102)) (fun z => pk_le o 12 (fun z2 => absurd (Or.inl ⟨z, z2⟩) hb) (fun z2 => pk_eq o 17 (fun y => absurd (Or.inr y) hb) (fun _ => h102)))
theorem nd_1 (ho : o ≤ 18) (hn : (sv_n C) ≤ 16) (hw : sv_WF C) (hhs : hs = 0 ∨ hs = 1) (hgo : ((o = 16 ∨ o = 17) → hs = 0) → ∀ post, YI post → ∃ n122, wY_node_122 post (nI o) v2 v3 v4 by' (nI (2 ^ (sv_lw C))) gg (nI (sv_n C)) cm cp tt (nI (sv_s C)) st (nI nx) tr me' tb (sv_pg C) (sv_op C) (sv_ia C) (sv_ib C) (sv_ic C) (sv_mk C) (sv_ps C) rs nw n122 0) (hno : (o = 16 ∨ o = 17) → hs = 1 → ∀ post : Int32 → SY → Prop, post (-1) (by', nI (2 ^ (sv_lw C)), gg, nI (sv_n C), cm, cp, tt, nI (sv_s C), st, nI nx, tr, me', tb, (sv_pg C), (sv_op C), (sv_ia C), (sv_ib C), (sv_ic C), (sv_mk C), (sv_ps C), rs, nw) → ∃ n122, wY_node_122 post (nI o) v2 v3 v4 by' (nI (2 ^ (sv_lw C))) gg (nI (sv_n C)) cm cp tt (nI (sv_s C)) st (nI nx) tr me' tb (sv_pg C) (sv_op C) (sv_ia C) (sv_ib C) (sv_ic C) (sv_mk C) (sv_ps C) rs nw n122 0) : ∃ b : Bool, (b = true → sv_AC C o v2 v3 hs) ∧ sv_OUT b (fun post => wpX_isAcceptable post (nI lb, nI lg, nI (sv_lw C), nI (sv_n C), cm, cp, hs, st, tt, nI (sv_s C), nI nx, tr, vl, me, tb, (sv_pg C), rg, (sv_op C), (sv_ia C), (sv_ib C), (sv_ic C), (sv_mk C), (sv_ps C), rs) (nI o) v2 v3) (fun post => ((nI o < 2 → (wY_node_59 post (nI o) v2 v3 v4 by' (nI (2 ^ (sv_lw C))) gg (nI (sv_n C)) cm cp tt (nI (sv_s C)) st (nI nx) tr me' tb (sv_pg C) (sv_op C) (sv_ia C) (sv_ib C) (sv_ic C) (sv_mk C) (sv_ps C) rs nw)) ∧ (¬ nI o < 2 → (((nI o ≤ 13 → (wY_node_65 post (nI o) v2 v3 v4 by' (nI (2 ^ (sv_lw C))) gg (nI (sv_n C)) cm cp tt (nI (sv_s C)) st (nI nx) tr me' tb (sv_pg C) (sv_op C) (sv_ia C) (sv_ib C) (sv_ic C) (sv_mk C) (sv_ps C) rs nw)) ∧ (¬ nI o ≤ 13 → (wY_node_59 post (nI o) v2 v3 v4 by' (nI (2 ^ (sv_lw C))) gg (nI (sv_n C)) cm cp tt (nI (sv_s C)) st (nI nx) tr me' tb (sv_pg C) (sv_op C) (sv_ia C) (sv_ib C) (sv_ic C) (sv_mk C) (sv_ps C) rs nw))))))) (fun post => post (-1) (by', nI (2 ^ (sv_lw C)), gg, nI (sv_n C), cm, cp, tt, nI (sv_s C), st, nI nx, tr, me', tb, (sv_pg C), (sv_op C), (sv_ia C), (sv_ib C), (sv_ic C), (sv_mk C), (sv_ps C), rs, nw)) YI := by
  obtain ⟨b2, hf2, hx2, hy2⟩ := nd_2 (C := C) (lb := lb) (lg := lg) (nx := nx) (cm := cm) (cp := cp) (hs := hs) (st := st) (tt := tt) (tr := tr) (vl := vl) (v2 := v2) (v3 := v3) (v4 := v4) (me := me) (tb := tb) (rg := rg) (rs := rs) (by' := by') (gg := gg) (me' := me') (nw := nw) (YI := YI) ho hn hw hhs hgo hno
  obtain ⟨bA, hvA, hxA, hyA⟩ := sv_iv (C := C) (lb := lb) (lg := lg) (nx := nx) (cm := cm) (cp := cp) (hs := hs) (st := st) (tt := tt) (tr := tr) (vl := vl) (me := me) (tb := tb) (rg := rg) (rs := rs) (by' := by') (gg := gg) (me' := me') (nw := nw) hn hw v2
  have h0 : ¬ nI o < 0 := nI_pos (by omega)
  have h18 : nI o ≤ 18 := nI_le (b := 18) ho (by decide)
  by_cases ha : 2 ≤ o ∧ o ≠ 14
  · have key : ∃ b : Bool, (b = true → bA = true ∧ b2 = true) ∧ (∀ post : Int32 → Prop, post (cond b 1 0) → wX_isAcceptable_28 post (nI o) v2 v3 1 (nI lb) (nI lg) (nI (sv_lw C)) (nI (sv_n C)) cm cp hs st tt (nI (sv_s C)) (nI nx) tr vl me tb (sv_pg C) rg (sv_op C) (sv_ia C) (sv_ib C) (sv_ic C) (sv_mk C) (sv_ps C) rs) ∧ (∀ post : Int32 → SY → Prop, (b = false → post (-1) (by', nI (2 ^ (sv_lw C)), gg, nI (sv_n C), cm, cp, tt, nI (sv_s C), st, nI nx, tr, me', tb, (sv_pg C), (sv_op C), (sv_ia C), (sv_ib C), (sv_ic C), (sv_mk C), (sv_ps C), rs, nw)) → (b = true → YI post) → wY_node_65 post (nI o) v2 v3 v4 by' (nI (2 ^ (sv_lw C))) gg (nI (sv_n C)) cm cp tt (nI (sv_s C)) st (nI nx) tr me' tb (sv_pg C) (sv_op C) (sv_ia C) (sv_ib C) (sv_ic C) (sv_mk C) (sv_ps C) rs nw) := by
      unfold wX_isAcceptable_28 wY_node_65
      cases bA with
      | false => exact ⟨false, (fun e => nomatch e), fun post hp => br_f (by decide) (hxA _ (br_t rfl hp)), fun post hf _ => hyA _ (br_t rfl (hf rfl))⟩
      | true => exact ⟨b2, fun e => ⟨rfl, e⟩, fun post hp => br_f (by decide) (hxA _ (br_f (by decide) (hx2 post hp))), fun post hf ht => hyA _ (br_f (by decide) (hy2 post hf ht))⟩
    obtain ⟨b, hk, hx, hy⟩ := key
    refine ⟨b, fun e => ⟨fun _ => hvA (hk e).1, hf2 (hk e).2⟩, fun post hp => ?_, fun post hf ht => ?_⟩
    · unfold wpX_isAcceptable
      exact br_f h0 (br_t h18 (pk_lt o 2 (fun z => absurd ha (by omega)) (fun _ => pk_eq o 14 (fun z => absurd z ha.2) (fun _ => hx post hp))))
    · unfold wY_node_59
      exact pk_lt o 2 (fun z => absurd ha (by omega)) (fun _ => pk_le o 13 (fun _ => hy post hf ht) (fun z => pk_lt o 15 (fun z2 => absurd ha (by omega)) (fun _ => hy post hf ht)))
  · refine ⟨b2, fun e => ⟨fun y => absurd y ha, hf2 e⟩, fun post hp => ?_, fun post hf ht => ?_⟩
    · have h27 : wX_isAcceptable_27 post (nI o) v2 v3 (nI lb) (nI lg) (nI (sv_lw C)) (nI (sv_n C)) cm cp hs st tt (nI (sv_s C)) (nI nx) tr vl me tb (sv_pg C) rg (sv_op C) (sv_ia C) (sv_ib C) (sv_ic C) (sv_mk C) (sv_ps C) rs := by
        unfold wX_isAcceptable_27 wX_isAcceptable_28
        exact br_t rfl (hx2 post hp)
      unfold wpX_isAcceptable
      exact br_f h0 (br_t h18 (pk_lt o 2 (fun _ => h27) (fun z => pk_eq o 14 (fun _ => h27) (fun z2 => absurd ⟨z, z2⟩ ha))))
    · have h75 := hy2 post hf ht
      unfold wY_node_59
      exact pk_lt o 2 (fun _ => pk_lt o 15 (fun _ => h75) (fun z => absurd ha (by omega))) (fun z => pk_le o 13 (fun z2 => absurd ⟨z, by omega⟩ ha) (fun z2 => pk_lt o 15 (fun _ => h75) (fun z3 => absurd ⟨z, by omega⟩ ha)))
/-! Y's loop over the nodes, and the new node -/
theorem nd_ins {post : Int32 → SY → Prop} (hl : (sv_lw C) ≤ 2) (hn : (sv_n C) < 16) (ho : o ≤ 18) (hs' : ¬ (o = 16 ∨ o = 17) ∨ ∀ j, j < (sv_n C) → ¬ ((sv_op C) j = 16 ∨ (sv_op C) j = 17))
    (h : post (nI (sv_n C)) (by', nI (2 ^ (sv_lw C)), gg, nI ((sv_n C) + 1), cm, cp, tt, nI (sv_s C), st, nI nx, tr, me', tb, (sv_pg C), upd (sv_op C) (sv_n C) (nI o), upd (sv_ia C) (sv_n C) v2, upd (sv_ib C) (sv_n C) v3, upd (sv_ic C) (sv_n C) v4, upd (sv_mk C) (sv_n C) cm, upd (sv_ps C) (sv_n C) cp, upd rs (sv_n C) (if o = 18 then sv_nr (sv_lw C) v4 else 0), nw)) : ∀ d t, t + d = (sv_n C) → wY_node_122 post (nI o) v2 v3 v4 by' (nI (2 ^ (sv_lw C))) gg (nI (sv_n C)) cm cp tt (nI (sv_s C)) st (nI nx) tr me' tb (sv_pg C) (sv_op C) (sv_ia C) (sv_ib C) (sv_ic C) (sv_mk C) (sv_ps C) rs nw (d + 1) (nI t) := by
  have cn : (nI (sv_n C)).toNatClampNeg = (sv_n C) := nI_clamp (by omega)
  have hin : vp_in (nI (sv_n C)) 16 := vp_in_nI (by omega) (by omega)
  intro d
  induction d with
  | zero =>
    intro t ht
    have e : t = (sv_n C) := by omega
    subst e
    rw [wY_node_122]
    dsimp only
    rw [cn]
    refine br_t (nI_le (Nat.le_refl _) (by omega)) ⟨hin, nm_e ⟨hin, nm_e ⟨hin, nm_e ⟨hin, nm_e ⟨hin, nm_e ⟨hin, nm_e (pk_eq o 18 (fun z => yb_narrow hl ?_) (fun z => ?_))⟩⟩⟩⟩⟩⟩
    · unfold wY_node_266
      rw [cn]
      refine ⟨hin, nm_e (nm_r (nI_1 (sv_n C)) ?_)⟩
      rw [if_pos z] at h
      rw [nI_pred]
      exact h
    · unfold wY_node_266
      rw [cn]
      refine ⟨hin, nm_e (nm_r (nI_1 (sv_n C)) ?_)⟩
      rw [if_neg z] at h
      rw [nI_pred]
      exact h
  | succ d ih =>
    intro t ht
    have c : (nI t).toNatClampNeg = t := nI_clamp (by omega)
    have hi : vp_in (nI t) 16 := vp_in_nI (by omega) (by omega)
    have H := ih (t + 1) (by omega)
    have h143 : (o = 16 ∨ o = 17) → wY_node_143 post (wY_node_122 post (nI o) v2 v3 v4 by' (nI (2 ^ (sv_lw C))) gg (nI (sv_n C)) cm cp tt (nI (sv_s C)) st (nI nx) tr me' tb (sv_pg C) (sv_op C) (sv_ia C) (sv_ib C) (sv_ic C) (sv_mk C) (sv_ps C) rs nw (d + 1)) (nI o) v2 v3 v4 (nI t) by' (nI (2 ^ (sv_lw C))) gg (nI (sv_n C)) cm cp tt (nI (sv_s C)) st (nI nx) tr me' tb (sv_pg C) (sv_op C) (sv_ia C) (sv_ib C) (sv_ic C) (sv_mk C) (sv_ps C) rs nw := by
      intro z
      rcases hs' with y | y
      · exact absurd z y
      · have hy := y t (by omega)
        unfold wY_node_143
        rw [c]
        exact ⟨hi, br_f (fun q => hy (Or.inl q)) ⟨hi, br_f (fun q => hy (Or.inr q)) (nm_r (nI_1 t) H)⟩⟩
    rw [wY_node_122]
    exact br_f (nI_ge (by omega) (by omega)) (pk_eq o 16 (fun z => h143 (Or.inl z)) (fun _ => pk_eq o 17 (fun z => h143 (Or.inr z)) (fun _ => nm_r (nI_1 t) H)))
theorem nd_stop {post : Int32 → SY → Prop} (hn : (sv_n C) ≤ 16) (ho : o = 16 ∨ o = 17) (h : post (-1) (by', nI (2 ^ (sv_lw C)), gg, nI (sv_n C), cm, cp, tt, nI (sv_s C), st, nI nx, tr, me', tb, (sv_pg C), (sv_op C), (sv_ia C), (sv_ib C), (sv_ic C), (sv_mk C), (sv_ps C), rs, nw)) : ∀ d t, t + d = (sv_n C) → (∃ j, t ≤ j ∧ j < (sv_n C) ∧ ((sv_op C) j = 16 ∨ (sv_op C) j = 17)) → wY_node_122 post (nI o) v2 v3 v4 by' (nI (2 ^ (sv_lw C))) gg (nI (sv_n C)) cm cp tt (nI (sv_s C)) st (nI nx) tr me' tb (sv_pg C) (sv_op C) (sv_ia C) (sv_ib C) (sv_ic C) (sv_mk C) (sv_ps C) rs nw (d + 1) (nI t) := by
  intro d
  induction d with
  | zero =>
    intro t ht ⟨j, h1, h2, _⟩
    omega
  | succ d ih =>
    intro t ht hj
    have c : (nI t).toNatClampNeg = t := nI_clamp (by omega)
    have hi : vp_in (nI t) 16 := vp_in_nI (by omega) (by omega)
    have h143 : wY_node_143 post (wY_node_122 post (nI o) v2 v3 v4 by' (nI (2 ^ (sv_lw C))) gg (nI (sv_n C)) cm cp tt (nI (sv_s C)) st (nI nx) tr me' tb (sv_pg C) (sv_op C) (sv_ia C) (sv_ib C) (sv_ic C) (sv_mk C) (sv_ps C) rs nw (d + 1)) (nI o) v2 v3 v4 (nI t) by' (nI (2 ^ (sv_lw C))) gg (nI (sv_n C)) cm cp tt (nI (sv_s C)) st (nI nx) tr me' tb (sv_pg C) (sv_op C) (sv_ia C) (sv_ib C) (sv_ic C) (sv_mk C) (sv_ps C) rs nw := by
      unfold wY_node_143
      rw [c]
      refine ⟨hi, br_c (fun _ => h) (fun y1 => ⟨hi, br_c (fun _ => h) (fun y2 => nm_r (nI_1 t) (ih (t + 1) (by omega) ?_))⟩)⟩
      obtain ⟨j, h1, h2, h3⟩ := hj
      refine ⟨j, ?_, h2, h3⟩
      by_cases e : j = t
      · subst e
        rcases h3 with z | z
        · exact absurd z y1
        · exact absurd z y2
      · omega
    rw [wY_node_122]
    exact br_f (nI_ge (by omega) (by omega)) (pk_eq o 16 (fun _ => h143) (fun z => pk_eq o 17 (fun _ => h143) (fun z2 => absurd ho (by omega))))
end SvNc
end
section
/-! node: the owed statement -/
theorem sv_lg32 {n l : Nat} (hl : l ≤ 3) : n < 32 / 2 ^ l ↔ n * 2 ^ l < 32 := by
  have hc : l = 0 ∨ l = 1 ∨ l = 2 ∨ l = 3 := by omega
  rcases hc with rfl | rfl | rfl | rfl
  · show n < 32 / 1 ↔ n * 1 < 32
    omega
  · show n < 32 / 2 ↔ n * 2 < 32
    omega
  · show n < 32 / 4 ↔ n * 4 < 32
    omega
  · show n < 32 / 8 ↔ n * 8 < 32
    omega
theorem i_vc_node {k : Nat} {u : SX} {v : SY} (I : i_Rel k u v) (hk : k + 5 ≤ 2562) (v1 : Int32) (v2 : Int32) (v3 : Int32) (v4 : Int32) : wpX_node (fun r u' => wpY_node (fun r' v' => r' = r ∧ i_Rel (k + 5) u' v') v v1 v2 v3 v4) u v1 v2 v3 v4 := by
  refine sv_el (P := fun u v => wpX_node (fun r u' => wpY_node (fun r' v' => r' = r ∧ i_Rel (k + 5) u' v') v v1 v2 v3 v4) u v1 v2 v3 v4) I ?_
  intro C lb lg tot nx cm cp hs st tr vl me tb rg rs nw hF
  have hl := hF.1.2.2.2.2.1
  have hlg := hF.1.2.2.1
  have hn := hF.1.2.2.2.2.2.1
  have hw := hF.1.2.2.2.2.2.2.2.1
  have hHS := hF.2.2.1
  have R := sv_in (k := k + 5) (tr := tr) (vl := vl) (me := me) (rg := rg) (nw := nw) hF
  have hpl := sv_pw4 lg (by omega)
  unfold wpX_node wpY_node
  dsimp only
  by_cases hst : st = 0
  · refine br_t hst ?_
    by_cases h16 : 16 ≤ (sv_n C)
    · have e16 : (16 : Int32) ≤ nI (sv_n C) := nI_le (a := 16) h16 (by omega)
      exact br_t e16 (br_t hst (br_t e16 ⟨rfl, R⟩))
    · have e16 : ¬ (16 : Int32) ≤ nI (sv_n C) := nI_ge (b := 16) (by omega) (by decide)
      have hmul : (sv_n C) * 2 ^ lg ≤ 16 * 8 := Nat.mul_le_mul hn hpl.2.1
      rw [sv_32 lg (by omega), pk_mul]
      by_cases hf : (sv_n C) * 2 ^ lg < 32
      · have eX : nI (sv_n C) < nI (32 / 2 ^ lg) := nI_lt ((sv_lg32 hlg).mpr hf) (by omega)
        have eY : nI ((sv_n C) * 2 ^ lg) < 32 := nI_lt (b := 32) hf (by decide)
        have hg1 : ((sv_n C) + 1) * 2 ^ lg ≤ 32 := (sv_g32 (by omega)).mp ((sv_lg32 hlg).mpr hf)
        refine br_f e16 (br_t eX ?_)
        by_cases h0 : v1 < 0
        · unfold wpX_isAcceptable
          exact br_t h0 (br_t rfl (br_t hst (br_f e16 (br_t eY (br_t h0 ⟨rfl, R⟩)))))
        · by_cases h18 : v1 ≤ 18
          · obtain ⟨o, ho, rfl⟩ := nI_of2 (M := 18) (n := 18) (by decide) h0 h18
            have hhs : hs = 0 ∨ hs = 1 := by
              rcases hHS with z | z
              · exact Or.inl z.1
              · exact Or.inr z.1
            obtain ⟨b, hA, hx, hy⟩ := nd_1 (C := C) (lb := lb) (lg := lg) (nx := nx) (o := o) (cm := cm) (cp := cp) (hs := hs) (st := st) (tt := nI tot) (tr := tr) (vl := vl) (v2 := v2) (v3 := v3) (v4 := v4) (me := me) (tb := tb) (rg := rg) (rs := rs) (by' := nI (2 ^ lb)) (gg := nI (2 ^ lg)) (me' := fun j => me j &&& 255) (nw := nw) (YI := fun post => post (nI (sv_n C)) (nI (2 ^ lb), nI (2 ^ (sv_lw C)), nI (2 ^ lg), nI ((sv_n C) + 1), cm, cp, nI tot, nI (sv_s C), st, nI nx, tr, (fun j => me j &&& 255), tb, (sv_pg C), upd (sv_op C) (sv_n C) (nI o), upd (sv_ia C) (sv_n C) v2, upd (sv_ib C) (sv_n C) v3, upd (sv_ic C) (sv_n C) v4, upd (sv_mk C) (sv_n C) cm, upd (sv_ps C) (sv_n C) cp, upd rs (sv_n C) (if o = 18 then sv_nr (sv_lw C) v4 else 0), nw)) ho hn hw hhs
              (by
                intro hz post hp
                refine ⟨(sv_n C) + 1, nd_ins hl (by omega) ho ?_ hp (sv_n C) 0 (Nat.zero_add _)⟩
                by_cases z : o = 16 ∨ o = 17
                · refine Or.inr (fun j hj q => ?_)
                  rcases hHS with ⟨_, y⟩ | ⟨y, _⟩
                  · refine y j hj ?_
                    unfold sv_o
                    rcases q with q | q
                    · rw [q]; exact Or.inl (by decide)
                    · rw [q]; exact Or.inr (by decide)
                  · exact absurd (y.symm.trans (hz z)) (by decide)
                · exact Or.inl z)
              (by
                intro hz h1 post hp
                refine ⟨(sv_n C) + 1, nd_stop hn hz hp (sv_n C) 0 (Nat.zero_add _) ?_⟩
                rcases hHS with ⟨y, _⟩ | ⟨_, j, hj, y⟩
                · exact absurd (y.symm.trans h1) (by decide)
                · refine ⟨j, Nat.zero_le _, hj, ?_⟩
                  rw [(hw j hj).1.1]
                  rcases y with y | y
                  · rw [y]; exact Or.inl (by decide)
                  · rw [y]; exact Or.inr (by decide))
            refine hx _ ?_
            cases b with
            | false =>
              exact br_t rfl (br_t hst (br_f e16 (br_t eY (br_f h0 (br_t h18 (hy _ (fun _ => ⟨rfl, R⟩) (fun e => nomatch e)))))))
            | true =>
              have hAC := hA rfl
              have cn : (nI (sv_n C)).toNatClampNeg = (sv_n C) := nI_clamp (by omega)
              have hin : vp_in (nI (sv_n C)) 16 := vp_in_nI (by omega) (by omega)
              have hfin : ∀ hs' : Int32, ((hs' = 1 ∧ (hs = 1 ∨ o = 16 ∨ o = 17)) ∨ (hs' = 0 ∧ hs = 0 ∧ ¬ (o = 16 ∨ o = 17))) → i_Rel (k + 5) (nI lb, nI lg, nI (sv_lw C), nI ((sv_n C) + 1), cm, cp, hs', st, nI tot, nI (sv_s C), nI nx, tr, vl, me, tb, (sv_pg C), rg, upd (sv_op C) (sv_n C) (nI o), upd (sv_ia C) (sv_n C) v2, upd (sv_ib C) (sv_n C) v3, upd (sv_ic C) (sv_n C) v4, upd (sv_mk C) (sv_n C) cm, upd (sv_ps C) (sv_n C) cp, upd rs (sv_n C) (sv_rz (sv_C2 C (nI o) v2 v3 v4 cm cp) (sv_n C))) (nI (2 ^ lb), nI (2 ^ (sv_lw C)), nI (2 ^ lg), nI ((sv_n C) + 1), cm, cp, nI tot, nI (sv_s C), st, nI nx, tr, (fun j => me j &&& 255), tb, (sv_pg C), upd (sv_op C) (sv_n C) (nI o), upd (sv_ia C) (sv_n C) v2, upd (sv_ib C) (sv_n C) v3, upd (sv_ic C) (sv_n C) v4, upd (sv_mk C) (sv_n C) cm, upd (sv_ps C) (sv_n C) cp, upd rs (sv_n C) (sv_rz (sv_C2 C (nI o) v2 v3 v4 cm cp) (sv_n C)), nw) := by
                intro hs' hh
                exact sv_in (sv_F_nd (v4 := v4) hF ho hAC (by omega) hg1 hh)
              have hwn : sv_WK (sv_C2 C (nI o) v2 v3 v4 cm cp) (sv_n C) := sv_WK2n ho hAC hF.2.1
              have h144 : ∀ hs' : Int32, ((hs' = 1 ∧ (hs = 1 ∨ o = 16 ∨ o = 17)) ∨ (hs' = 0 ∧ hs = 0 ∧ ¬ (o = 16 ∨ o = 17))) → wX_node_144 (fun r u' => wpY_node (fun r' v' => r' = r ∧ i_Rel (k + 5) u' v') (nI (2 ^ lb), nI (2 ^ (sv_lw C)), nI (2 ^ lg), nI (sv_n C), cm, cp, nI tot, nI (sv_s C), st, nI nx, tr, (fun j => me j &&& 255), tb, (sv_pg C), (sv_op C), (sv_ia C), (sv_ib C), (sv_ic C), (sv_mk C), (sv_ps C), rs, nw) (nI o) v2 v3 v4) (nI (sv_n C)) hs' (nI lb) (nI lg) (nI (sv_lw C)) (nI ((sv_n C) + 1)) cm cp hs st (nI tot) (nI (sv_s C)) (nI nx) tr vl me tb (sv_pg C) rg (upd (sv_op C) (sv_n C) (nI o)) (upd (sv_ia C) (sv_n C) v2) (upd (sv_ib C) (sv_n C) v3) (upd (sv_ic C) (sv_n C) v4) (upd (sv_mk C) (sv_n C) cm) (upd (sv_ps C) (sv_n C) cp) rs := by
                intro hs' hh
                have hfi := hfin hs' hh
                unfold wX_node_144
                have hb : narrow .boolean (.int hs') = .int hs' ∧ fits .boolean (.int hs') = true := by
                  rcases hh with ⟨z, _⟩ | ⟨z, _⟩
                  · rw [z]; exact ⟨rfl, rfl⟩
                  · rw [z]; exact ⟨rfl, rfl⟩
                refine ⟨hb.1, hb.2, ?_⟩
                refine xt_reset (C := sv_C2 C (nI o) v2 v3 v4 cm cp) (lb := lb) (lg := lg) (nx := nx) hl (by omega) hwn.1.1 hwn.1.2 ?_
                rw [sv_rz2 ho] at hfi ⊢
                unfold wpY_node
                dsimp only
                rw [pk_mul]
                exact br_t hst (br_f e16 (br_t eY (br_f h0 (br_t h18 (hy _ (fun e => nomatch e) (fun _ => ⟨rfl, hfi⟩))))))
              rw [cn]
              refine br_f (by decide) ⟨hin, nm_e ⟨hin, nm_e ⟨hin, nm_e ⟨hin, nm_e ⟨hin, nm_e ⟨hin, nm_e (nm_r (nI_1 (sv_n C)) ?_)⟩⟩⟩⟩⟩⟩
              unfold wX_node_139
              unfold wpY_node at h144
              dsimp only at h144
              rw [pk_mul] at h144
              refine br_c (fun y => ?_) (fun y => ?_)
              · refine pk_eq o 16 (fun z => h144 1 (Or.inl ⟨rfl, Or.inr (Or.inl z)⟩)) (fun z => pk_eq o 17 (fun z2 => h144 1 (Or.inl ⟨rfl, Or.inr (Or.inr z2)⟩)) (fun z2 => h144 0 (Or.inr ⟨rfl, y, by omega⟩)))
              · refine h144 1 (Or.inl ⟨rfl, Or.inl ?_⟩)
                rcases hhs with q | q
                · exact absurd q y
                · exact q
          · unfold wpX_isAcceptable
            exact br_f h0 (br_f h18 (br_t rfl (br_t hst (br_f e16 (br_t eY (br_f h0 (br_f h18 ⟨rfl, R⟩)))))))
      · have eX : ¬ nI (sv_n C) < nI (32 / 2 ^ lg) := nI_nlt (by have := mt (sv_lg32 (n := (sv_n C)) hlg).mp hf; omega) (by omega)
        have eY : ¬ nI ((sv_n C) * 2 ^ lg) < 32 := nI_nlt (b := 32) (by omega) (by omega)
        exact br_f e16 (br_f eX (br_t hst (br_f e16 (br_f eY ⟨rfl, R⟩))))
  · exact br_f hst (br_f hst ⟨rfl, R⟩)
end
