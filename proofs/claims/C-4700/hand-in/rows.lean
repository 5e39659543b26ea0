section
/-! pure rows to paste: stores, nI and lN arithmetic, masks, shifts, narrowing, branches by naturals (pk_le, pk_lt, pk_eq), loops (lp1 .. lp16: the measure of the state; rp1 ..: recursion), negatives. Take what you need -/
theorem pk_us {f : Nat → Int32} {k : Nat} {x : Int32} : upd f k x k = x := if_pos rfl
theorem pk_un {f : Nat → Int32} {k j : Nat} {x : Int32} (h : j ≠ k) : upd f k x j = f j := if_neg h
theorem pk_uLs {f : Nat → Int64} {k : Nat} {x : Int64} : vp_updL f k x k = x := if_pos rfl
theorem pk_uLn {f : Nat → Int64} {k j : Nat} {x : Int64} (h : j ≠ k) : vp_updL f k x j = f j := if_neg h
theorem pk_sub {a b : Nat} (h : b ≤ a) : nI a - nI b = nI (a - b) := by
  obtain ⟨c, rfl⟩ : ∃ c, a = c + b := ⟨a - b, by omega⟩
  rw [← nI_add, Int32.add_sub_cancel, Nat.add_sub_cancel]
theorem pk_m1 (n : Nat) : nI (n + 1) + (-1) = nI n := by
  rw [← nI_1, Int32.add_assoc, show (1 : Int32) + (-1) = 0 from rfl, Int32.add_zero]
theorem pk_mul (a b : Nat) : nI a * nI b = nI (a * b) := (Int32.ofNat_mul a b).symm
theorem pk_div {a d : Nat} (ha : a < 2 ^ 31) (h0 : 0 < d) (hd : d < 2 ^ 31) : nI a / nI d = nI (a / d) := by
  apply Int32.toInt_inj.mp
  rw [lg_idiv_nonneg (by rw [nI_toInt ha]; omega) (by rw [nI_toInt hd]; omega), nI_toInt ha, nI_toInt hd, nI_toInt (Nat.lt_of_le_of_lt (Nat.div_le_self a d) ha)]
  first | rfl | exact (Int.natCast_ediv _ _).symm
theorem pk_rem {a d : Nat} (ha : a < 2 ^ 31) (h0 : 0 < d) (hd : d < 2 ^ 31) : nI a - nI a / nI d * nI d = nI (a % d) := by
  rw [pk_div ha h0 hd, pk_mul, pk_sub (Nat.div_mul_le_self a d)]
  exact congrArg nI (by have := Nat.div_add_mod' a d; omega)
theorem pk_sub_toInt {a b : Nat} (ha : a < 2 ^ 30) (hb : b < 2 ^ 30) : (nI a - nI b).toInt = (a : Int) - b := by
  rw [Int32.toInt_sub, nI_toInt (by omega), nI_toInt (by omega)]
  exact Int.bmod_eq_of_le (by omega) (by omega)
theorem pk_sneg {a b : Nat} (hb : b < 2 ^ 30) (h : a < b) : nI a - nI b < 0 := by
  rw [Int32.lt_iff_toInt_lt, pk_sub_toInt (by omega) hb, show (0 : Int32).toInt = 0 from by decide]
  omega
theorem pk_ix (x : Int32) {n : Nat} (hn : n < 2 ^ 31) : x < 0 ∨ nI n ≤ x ∨ ∃ j : Nat, j < n ∧ x = nI j := by
  by_cases h : x < 0
  · exact Or.inl h
  · obtain ⟨j, hj, rfl⟩ := nI_of h
    by_cases h2 : j < n
    · exact Or.inr (Or.inr ⟨j, h2, rfl⟩)
    · exact Or.inr (Or.inl (nI_le (by omega) hj))
theorem pk_le {x y : Int32} {A B : Prop} (a b : Nat) (f : a ≤ b → A) (g : b < a → B) (hx : x = nI a := by rfl) (hy : y = nI b := by rfl) (ha : a < 2 ^ 31 := by omega) (hb : b < 2 ^ 31 := by omega) : (x ≤ y → A) ∧ (¬ x ≤ y → B) := by
  subst hx hy
  rw [nI_leI ha hb]
  exact ⟨f, fun z => g (by omega)⟩
theorem pk_lt {x y : Int32} {A B : Prop} (a b : Nat) (f : a < b → A) (g : b ≤ a → B) (hx : x = nI a := by rfl) (hy : y = nI b := by rfl) (ha : a < 2 ^ 31 := by omega) (hb : b < 2 ^ 31 := by omega) : (x < y → A) ∧ (¬ x < y → B) := by
  subst hx hy
  rw [nI_ltI ha hb]
  exact ⟨f, fun z => g (by omega)⟩
theorem pk_eq {x y : Int32} {A B : Prop} (a b : Nat) (f : a = b → A) (g : a ≠ b → B) (hx : x = nI a := by rfl) (hy : y = nI b := by rfl) (ha : a < 2 ^ 31 := by omega) (hb : b < 2 ^ 31 := by omega) : (x = y → A) ∧ (¬ x = y → B) := by
  subst hx hy
  rw [nI_eq ha hb]
  exact ⟨f, g⟩
theorem pk_in {x : Int32} (n N : Nat) (h : n < N) (hx : x = nI n := by rfl) (hN : N < 2 ^ 31 := by omega) : vp_in x N := by
  subst hx
  exact vp_in_nI h hN
theorem pk_cl {x : Int32} (n : Nat) (hx : x = nI n := by rfl) (h : n < 2 ^ 31 := by omega) : x.toNatClampNeg = n := by
  subst hx
  exact nI_clamp h
theorem pk_tn {n : Nat} (h : n < 2 ^ 32) : (nI n).toBitVec.toNat = n := Nat.mod_eq_of_lt h
theorem pk_and (x : Int32) {m : Int32} (k : Nat) (hm : m.toBitVec.toNat = 2 ^ k - 1) : x &&& m = nI (x.toBitVec.toNat % 2 ^ k) := by
  apply Int32.toBitVec_inj.mp
  apply BitVec.eq_of_toNat_eq
  rw [Int32.toBitVec_and, BitVec.toNat_and, hm, Nat.and_two_pow_sub_one_eq_mod]
  show _ = (BitVec.ofNat 32 _).toNat
  rw [BitVec.toNat_ofNat]
  exact (Nat.mod_eq_of_lt (Nat.lt_of_le_of_lt (Nat.mod_le _ _) x.toBitVec.isLt)).symm
theorem pk_andN {n : Nat} (h : n < 2 ^ 32) {m : Int32} (k : Nat) (hm : m.toBitVec.toNat = 2 ^ k - 1) : nI n &&& m = nI (n % 2 ^ k) := by
  rw [pk_and _ k hm, pk_tn h]
theorem pk_andE (x : Int32) {m : Int32} (k : Nat) (hm : m.toBitVec.toNat = 2 ^ k - 1) : ∃ j : Nat, j < 2 ^ k ∧ x &&& m = nI j := ⟨_, Nat.mod_lt _ (Nat.two_pow_pos k), pk_and x k hm⟩
theorem pk_andIn (x : Int32) {m : Int32} (k : Nat) (hm : m.toBitVec.toNat = 2 ^ k - 1) (hk : k ≤ 30) : vp_in (x &&& m) (2 ^ k) := by
  obtain ⟨j, hj, e⟩ := pk_andE x k hm
  rw [e]
  exact vp_in_nI hj (Nat.lt_of_le_of_lt (Nat.pow_le_pow_right (by decide) hk) (by decide))
theorem pk_shl (a s : Int32) (k : Nat) (hs : (s.toBitVec.smod 32).toNat = k) : (a <<< s).toBitVec.toNat = a.toBitVec.toNat * 2 ^ k % 2 ^ 32 := by
  show (a.toBitVec <<< (s.toBitVec.smod 32).toNat).toNat = _
  rw [hs, BitVec.toNat_shiftLeft, Nat.shiftLeft_eq]
theorem pk_shlN {n : Nat} (s : Int32) (k : Nat) (hs : (s.toBitVec.smod 32).toNat = k) (h : n * 2 ^ k < 2 ^ 32) : nI n <<< s = nI (n * 2 ^ k) := by
  apply Int32.toBitVec_inj.mp
  apply BitVec.eq_of_toNat_eq
  have hn : n < 2 ^ 32 := Nat.lt_of_le_of_lt (Nat.le_mul_of_pos_right n (Nat.two_pow_pos k)) h
  rw [pk_shl _ _ k hs, pk_tn hn, pk_tn h, Nat.mod_eq_of_lt h]
theorem pk_shr (a s : Int32) (k : Nat) (hs : (s.toBitVec.smod 32).toNat = k) : (a >>> s).toInt = a.toInt >>> k := by
  show (a.toBitVec.sshiftRight (s.toBitVec.smod 32).toNat).toInt = _
  rw [hs, BitVec.toInt_sshiftRight]
  rfl
theorem pk_shrN {n : Nat} (h : n < 2 ^ 31) (s : Int32) (k : Nat) (hs : (s.toBitVec.smod 32).toNat = k) : nI n >>> s = nI (n / 2 ^ k) := by
  apply Int32.toInt_inj.mp
  have h2 : n / 2 ^ k ≤ n := Nat.div_le_self _ _
  rw [pk_shr _ _ k hs, nI_toInt h, nI_toInt (by omega), Int.shiftRight_eq_div_pow]
  rfl
theorem pk_ushr (x s : Int32) (k : Nat) (hs : ((s.toUInt32 &&& Int32.toUInt32 31).toBitVec % 32).toNat = k) : (x.toUInt32 >>> (s.toUInt32 &&& Int32.toUInt32 31)).toInt32.toBitVec.toNat = x.toBitVec.toNat / 2 ^ k := by
  have e : (x.toUInt32 >>> (s.toUInt32 &&& Int32.toUInt32 31)).toInt32.toBitVec = x.toBitVec >>> k := by
    rw [← hs]
    exact UInt32.toBitVec_shiftRight _ _
  rw [e, BitVec.toNat_ushiftRight, Nat.shiftRight_eq_div_pow]
theorem pk_ushrN {n : Nat} (hn : n < 2 ^ 32) (s : Int32) (k : Nat) (hs : ((s.toUInt32 &&& Int32.toUInt32 31).toBitVec % 32).toNat = k) : ((nI n).toUInt32 >>> (s.toUInt32 &&& Int32.toUInt32 31)).toInt32 = nI (n / 2 ^ k) := by
  apply Int32.toBitVec_inj.mp
  apply BitVec.eq_of_toNat_eq
  rw [pk_ushr _ s k hs, pk_tn hn, pk_tn (Nat.lt_of_le_of_lt (Nat.div_le_self _ _) hn)]
theorem pk_nb (z : Int32) : narrow .byte (.int z.toInt8.toInt32) = .int z.toInt8.toInt32 := congrArg Value.int (by simp)
theorem pk_ns (z : Int32) : narrow .short (.int z.toInt16.toInt32) = .int z.toInt16.toInt32 := congrArg Value.int (by simp)
theorem pk_fb (r : Int32) : fits .byte (.int r.toInt8.toInt32) = true := by
  have ⟨a, b⟩ := lg_i2b_range r
  have h1 : (-128 : Int32).toInt = -128 := by decide
  have h2 : (127 : Int32).toInt = 127 := by decide
  simp only [fits, Bool.and_eq_true, decide_eq_true_eq, Int32.le_iff_toInt_le, h1, h2]
  omega
theorem pk_fs (r : Int32) : fits .short (.int r.toInt16.toInt32) = true := by
  have ⟨a, b⟩ := lg_i2s_range r
  have h1 : (-32768 : Int32).toInt = -32768 := by decide
  have h2 : (32767 : Int32).toInt = 32767 := by decide
  simp only [fits, Bool.and_eq_true, decide_eq_true_eq, Int32.le_iff_toInt_le, h1, h2]
  omega
theorem pk_charN {q : Nat} (hq : q < 65536) : narrow .char (.int (nI q)) = .int (nI q) ∧ fits .char (.int (nI q)) = true := by
  constructor
  · have e : (nI q).toUInt32.toUInt16.toUInt32.toInt32 = nI q := by
      apply Int32.toBitVec_inj.mp
      apply BitVec.eq_of_toNat_eq
      show (nI q).toUInt32.toUInt16.toUInt32.toNat = q % 2 ^ 32
      rw [UInt16.toNat_toUInt32, UInt32.toNat_toUInt16, show (nI q).toUInt32.toNat = q % 2 ^ 32 from rfl]
      omega
    exact congrArg Value.int e
  · have a : (0 : Int32) ≤ nI q := nI_pos' (by omega)
    have b : nI q ≤ 65535 := nI_le (b := 65535) (by omega) (by decide)
    show (decide ((0 : Int32) ≤ nI q) && decide (nI q ≤ 65535)) = true
    rw [decide_eq_true a, decide_eq_true b]
    rfl
theorem pk_char (x : Int32) : (x.toUInt32 % 65536).toInt32 = nI (x.toBitVec.toNat % 65536) := by
  apply Int32.toBitVec_inj.mp
  apply BitVec.eq_of_toNat_eq
  rw [pk_tn (by omega)]
  show (x.toUInt32 % 65536).toNat = _
  rw [UInt32.toNat_mod]
  rfl
theorem pk_nc (x : Int32) : narrow .char (.int (x.toUInt32 % 65536).toInt32) = .int (x.toUInt32 % 65536).toInt32 := by
  rw [pk_char]
  exact (pk_charN (Nat.mod_lt _ (by decide))).1
theorem pk_fc (x : Int32) : fits .char (.int (x.toUInt32 % 65536).toInt32) = true := by
  rw [pk_char]
  exact (pk_charN (Nat.mod_lt _ (by decide))).2
theorem pk_vb (z : Int32) : vp_nar .byte z.toInt8.toInt32 = z.toInt8.toInt32 := by rw [vp_nar_byte]; simp
theorem pk_vs (z : Int32) : vp_nar .short z.toInt16.toInt32 = z.toInt16.toInt32 := by rw [vp_nar_short]; simp
theorem pk_vc (z : Int32) : vp_nar .char (z.toUInt32 % 65536).toInt32 = (z.toUInt32 % 65536).toInt32 := Value.int.inj (pk_nc z)
theorem pk_lT {n : Nat} (h : n < 2 ^ 63) : (lN n).toInt = (n : Int) := lg_ofNat_toInt h
theorem pk_lLT {a b : Nat} (ha : a < 2 ^ 63) (hb : b < 2 ^ 63) : lN a < lN b ↔ a < b := by
  rw [Int64.lt_iff_toInt_lt, pk_lT ha, pk_lT hb]; omega
theorem pk_lLE {a b : Nat} (ha : a < 2 ^ 63) (hb : b < 2 ^ 63) : lN a ≤ lN b ↔ a ≤ b := by
  rw [Int64.le_iff_toInt_le, pk_lT ha, pk_lT hb]; omega
theorem pk_lEQ {a b : Nat} (ha : a < 2 ^ 63) (hb : b < 2 ^ 63) : lN a = lN b ↔ a = b := by
  rw [← Int64.toInt_inj, pk_lT ha, pk_lT hb]; omega
theorem pk_lOf {x : Int64} (h : ¬ x < 0) : ∃ k : Nat, k < 2 ^ 63 ∧ x = lN k := by
  rw [Int64.lt_iff_toInt_lt] at h
  have h0 : (0 : Int64).toInt = 0 := by decide
  have hx := Int64.toInt_lt x
  refine ⟨x.toInt.toNat, by omega, Int64.toInt_inj.mp ?_⟩
  rw [pk_lT (by omega)]
  omega
/-! ===== Int32 by its bits: bt x i ===== -/
def bt (x : Int32) (i : Nat) : Bool := x.toBitVec.getLsbD i
theorem b_ext {x y : Int32} (h : ∀ i, i < 32 → bt x i = bt y i) : x = y := Int32.toBitVec_inj.mp (BitVec.eq_of_getLsbD_eq (fun i hi => h i hi))
theorem b_or (x y : Int32) (i : Nat) : bt (x ||| y) i = (bt x i || bt y i) := by unfold bt; rw [Int32.toBitVec_or, BitVec.getLsbD_or]
theorem b_and (x y : Int32) (i : Nat) : bt (x &&& y) i = (bt x i && bt y i) := by unfold bt; rw [Int32.toBitVec_and, BitVec.getLsbD_and]
theorem b_xor (x y : Int32) (i : Nat) : bt (x ^^^ y) i = (bt x i ^^ bt y i) := by unfold bt; rw [Int32.toBitVec_xor, BitVec.getLsbD_xor]
theorem b_big {x : Int32} {i : Nat} (h : 32 ≤ i) : bt x i = false := BitVec.getLsbD_of_ge _ _ h
theorem b_255 (i : Nat) : bt 255 i = decide (i < 8) := by
  rcases Nat.lt_or_ge i 32 with h | h
  · exact (by decide +kernel : ∀ i, i < 32 → bt 255 i = decide (i < 8)) i h
  · rw [b_big h, decide_eq_false (by omega)]
theorem b_65535 (i : Nat) : bt 65535 i = decide (i < 16) := by
  rcases Nat.lt_or_ge i 32 with h | h
  · exact (by decide +kernel : ∀ i, i < 32 → bt 65535 i = decide (i < 16)) i h
  · rw [b_big h, decide_eq_false (by omega)]
theorem b_m1 : ∀ i, i < 32 → bt (-1) i = true := by decide +kernel
theorem b_0 (i : Nat) : bt 0 i = false := BitVec.getLsbD_zero
theorem s_l : ∀ n, n < 32 → ((nI n &&& 31).toBitVec.smod 32).toNat = n := by decide +kernel
theorem s_u : ∀ n, n < 32 → (((nI n).toUInt32 &&& Int32.toUInt32 31).toBitVec % 32).toNat = n := by decide +kernel
theorem b_shl (n : Nat) (hn : n < 32) (x : Int32) {i : Nat} (hi : i < 32) : bt (x <<< (nI n &&& 31)) i = (decide (n ≤ i) && bt x (i - n)) := by
  unfold bt
  rw [Int32.toBitVec_shiftLeft]
  show (x.toBitVec <<< ((nI n &&& 31).toBitVec.smod 32).toNat).getLsbD i = _
  rw [s_l n hn, BitVec.getLsbD_shiftLeft]
  rcases Nat.lt_or_ge i n with h | h
  · simp [h, Nat.not_le.mpr h]
  · simp [hi, h, Nat.not_lt.mpr h]
theorem b_ushr (n : Nat) (hn : n < 32) (x : Int32) (i : Nat) : bt ((x.toUInt32 >>> ((nI n).toUInt32 &&& Int32.toUInt32 31)).toInt32) i = bt x (n + i) := by
  show (x.toUInt32 >>> ((nI n).toUInt32 &&& Int32.toUInt32 31)).toBitVec.getLsbD i = x.toUInt32.toBitVec.getLsbD (n + i)
  rw [UInt32.toBitVec_shiftRight]
  show (x.toUInt32.toBitVec >>> (((nI n).toUInt32 &&& Int32.toUInt32 31).toBitVec % 32).toNat).getLsbD i = _
  rw [s_u n hn, BitVec.getLsbD_ushiftRight]
theorem b_sshr (n : Nat) (hn : n < 32) (x : Int32) {i : Nat} (hi : i < 32) : bt (x >>> (nI n &&& 31)) i = if n + i < 32 then bt x (n + i) else bt x 31 := by
  unfold bt
  rw [Int32.toBitVec_shiftRight]
  show (x.toBitVec.sshiftRight ((nI n &&& 31).toBitVec.smod 32).toNat).getLsbD i = _
  rw [s_l n hn, BitVec.getLsbD_sshiftRight, BitVec.msb_eq_getLsbD_last]
  simp [hi]
theorem b_shl8 (x : Int32) {i : Nat} (hi : i < 32) : bt (x <<< ((8 : Int32) &&& 31)) i = (decide (8 ≤ i) && bt x (i - 8)) := b_shl 8 (by omega) x hi
theorem b_shl16 (x : Int32) {i : Nat} (hi : i < 32) : bt (x <<< ((16 : Int32) &&& 31)) i = (decide (16 ≤ i) && bt x (i - 16)) := b_shl 16 (by omega) x hi
theorem b_shl24 (x : Int32) {i : Nat} (hi : i < 32) : bt (x <<< ((24 : Int32) &&& 31)) i = (decide (24 ≤ i) && bt x (i - 24)) := b_shl 24 (by omega) x hi
theorem b_sshr8 (x : Int32) {i : Nat} (hi : i < 32) : bt (x >>> ((8 : Int32) &&& 31)) i = if 8 + i < 32 then bt x (8 + i) else bt x 31 := b_sshr 8 (by omega) x hi
/-! ===== Int64 as a set of bits: test, set, clear ===== -/
theorem ts_nf {x : Bool} (h : ¬ x = false) : x = true := by cases x <;> first | rfl | exact absurd rfl h
theorem ts_nt {x : Bool} (h : ¬ x = true) : x = false := by cases x <;> first | rfl | exact absurd rfl h
theorem ts_bit {w : Int64} {s : UInt64} {j : Nat} (hj : j < 64) (hs : s.toNat = j) : ((w.toUInt64 >>> s).toInt64 &&& 1) = 0 ↔ w.toBitVec.getLsbD j = false := by
  have e : (w.toUInt64 >>> s).toInt64.toBitVec = w.toBitVec >>> j := by
    apply BitVec.eq_of_toNat_eq
    show (w.toUInt64 >>> s).toNat = _
    rw [UInt64.toNat_shiftRight, hs, Nat.mod_eq_of_lt hj, BitVec.toNat_ushiftRight]
    rfl
  rw [← Int64.toBitVec_inj, Int64.toBitVec_and, e]
  show w.toBitVec >>> j &&& 1#64 = 0#64 ↔ _
  constructor
  · intro h
    have t := congrArg (fun x => x.getLsbD 0) h
    simpa using t
  · intro h
    apply BitVec.eq_of_getLsbD_eq
    intro i hi
    cases i with
    | zero => simp [h]
    | succ i => simp
theorem ts_or {w m : Int64} {j : Nat} (hj : j < 64) (hm : m.toBitVec = BitVec.twoPow 64 j) : (w ||| m) = w ↔ w.toBitVec.getLsbD j = true := by
  rw [← Int64.toBitVec_inj, Int64.toBitVec_or, hm]
  constructor
  · intro h
    have t := congrArg (fun x => x.getLsbD j) h
    simp only [BitVec.getLsbD_or, BitVec.getLsbD_twoPow] at t
    simpa [hj] using t.symm
  · intro h
    apply BitVec.eq_of_getLsbD_eq
    intro i hi
    rw [BitVec.getLsbD_or, BitVec.getLsbD_twoPow]
    by_cases e : j = i
    · subst e; rw [h, Bool.true_or]
    · simp [e]
theorem ts_and {w m : Int64} {j : Nat} (hj : j < 64) (hm : m.toBitVec = BitVec.twoPow 64 j) : (w &&& (m ^^^ (-1))) = w ↔ w.toBitVec.getLsbD j = false := by
  have ha : (-1 : Int64).toBitVec = BitVec.allOnes 64 := by decide
  rw [← Int64.toBitVec_inj, Int64.toBitVec_and, Int64.toBitVec_xor, hm, ha]
  constructor
  · intro h
    have t := congrArg (fun x => x.getLsbD j) h
    simp only [BitVec.getLsbD_and, BitVec.getLsbD_xor, BitVec.getLsbD_twoPow, BitVec.getLsbD_allOnes] at t
    simpa [hj] using t.symm
  · intro h
    apply BitVec.eq_of_getLsbD_eq
    intro i hi
    rw [BitVec.getLsbD_and, BitVec.getLsbD_xor, BitVec.getLsbD_twoPow, BitVec.getLsbD_allOnes]
    by_cases e : j = i
    · subst e; rw [h, Bool.false_and]
    · simp [e, hi]
/-! ===== lN n to 2^64: shifts, and, or, masks, one bit ===== -/
theorem wb_tb (n : Nat) : (lN n).toBitVec = BitVec.ofNat 64 n := rfl
theorem wb_inj {a b : Int64} (h : a.toBitVec = b.toBitVec) : a = b := Int64.toBitVec_inj.mp h
theorem wb_tn {n : Nat} (h : n < 2 ^ 64) : (lN n).toBitVec.toNat = n := by rw [wb_tb, BitVec.toNat_ofNat, Nat.mod_eq_of_lt h]
theorem wb_of (x : Int64) : ∃ n, n < 2 ^ 64 ∧ x = lN n := ⟨x.toBitVec.toNat, x.toBitVec.isLt, wb_inj (by rw [wb_tb]; simp)⟩
theorem wb_of32 (x : Int32) : ∃ n, n < 2 ^ 32 ∧ x = nI n := ⟨x.toBitVec.toNat, x.toBitVec.isLt, Int32.toBitVec_inj.mp (by show _ = BitVec.ofNat 32 _; simp)⟩
theorem wb_c : ∀ k, k < 64 → ((nI k).toInt64 &&& 63) = lN k := by decide +kernel
theorem wb_cu : ∀ k, k < 64 → ((nI k).toInt64.toUInt64 &&& Int64.toUInt64 63) = UInt64.ofNat k := by decide +kernel
theorem wb_sm : ∀ k, k < 64 → (BitVec.ofNat 64 k).smod 64 = BitVec.ofNat 64 k := by decide +kernel
theorem wb_pw {a b : Nat} (h : a ≤ b) : 2 ^ b = 2 ^ a * 2 ^ (b - a) := by rw [← Nat.pow_add]; congr 1; omega
theorem wb_lt2 {a b : Nat} (h : a < b) : 2 ^ a < 2 ^ b := Nat.pow_lt_pow_right (by decide) h
theorem wb_mod (n : Nat) : lN n = lN (n % 2 ^ 64) := wb_inj (by rw [wb_tb, wb_tb]; apply BitVec.eq_of_toNat_eq; rw [BitVec.toNat_ofNat, BitVec.toNat_ofNat, Nat.mod_mod])
theorem wb_shr {n k : Nat} (hn : n < 2 ^ 64) (hk : k < 64) : ((lN n).toUInt64 >>> ((nI k).toInt64.toUInt64 &&& Int64.toUInt64 63)).toInt64 = lN (n / 2 ^ k) := by
  rw [wb_cu k hk]
  apply wb_inj
  apply BitVec.eq_of_toNat_eq
  show ((lN n).toUInt64 >>> UInt64.ofNat k).toNat = (BitVec.ofNat 64 _).toNat
  have h1 : (UInt64.ofNat k).toNat = k := by
    show (BitVec.ofNat 64 k).toNat = k
    rw [BitVec.toNat_ofNat, Nat.mod_eq_of_lt (by omega)]
  have h2 : (lN n).toUInt64.toNat = n := wb_tn hn
  rw [UInt64.toNat_shiftRight, h1, h2, Nat.mod_eq_of_lt hk, Nat.shiftRight_eq_div_pow, BitVec.toNat_ofNat, Nat.mod_eq_of_lt (Nat.lt_of_le_of_lt (Nat.div_le_self _ _) hn)]
theorem wb_shl (n : Nat) {k : Nat} (hk : k < 64) : lN n <<< ((nI k).toInt64 &&& 63) = lN (n * 2 ^ k) := by
  rw [wb_c k hk]
  apply wb_inj
  rw [Int64.toBitVec_shiftLeft, wb_tb, wb_tb, wb_tb, wb_sm k hk]
  apply BitVec.eq_of_toNat_eq
  rw [BitVec.shiftLeft_eq', BitVec.toNat_shiftLeft, BitVec.toNat_ofNat, BitVec.toNat_ofNat, BitVec.toNat_ofNat, Nat.mod_eq_of_lt (show k < 2 ^ 64 by omega), Nat.shiftLeft_eq, Nat.mul_mod, Nat.mod_mod, ← Nat.mul_mod]
theorem wb_and {a b : Nat} (ha : a < 2 ^ 64) (hb : b < 2 ^ 64) : lN a &&& lN b = lN (a &&& b) := by
  apply wb_inj
  rw [Int64.toBitVec_and, wb_tb, wb_tb, wb_tb]
  apply BitVec.eq_of_toNat_eq
  rw [BitVec.toNat_and, BitVec.toNat_ofNat, BitVec.toNat_ofNat, BitVec.toNat_ofNat, Nat.mod_eq_of_lt ha, Nat.mod_eq_of_lt hb, Nat.mod_eq_of_lt (Nat.and_lt_two_pow _ hb)]
theorem wb_or {a b : Nat} (ha : a < 2 ^ 64) (hb : b < 2 ^ 64) : lN a ||| lN b = lN (a ||| b) := by
  apply wb_inj
  rw [Int64.toBitVec_or, wb_tb, wb_tb, wb_tb]
  apply BitVec.eq_of_toNat_eq
  rw [BitVec.toNat_or, BitVec.toNat_ofNat, BitVec.toNat_ofNat, BitVec.toNat_ofNat, Nat.mod_eq_of_lt ha, Nat.mod_eq_of_lt hb, Nat.mod_eq_of_lt (Nat.or_lt_two_pow ha hb)]
theorem wb_mask {n k : Nat} (hn : n < 2 ^ 64) (hk : k < 64) : lN n &&& lN (2 ^ k - 1) = lN (n % 2 ^ k) := by
  rw [wb_and hn (by have := wb_lt2 hk; omega), Nat.and_two_pow_sub_one_eq_mod]
theorem wb_a1 {n : Nat} (hn : n < 2 ^ 64) : lN n &&& 1 = lN (n % 2) := wb_mask (k := 1) hn (by decide)
theorem wb_bit {n k : Nat} (hn : n < 2 ^ 64) (hk : k < 64) : ((lN n).toUInt64 >>> ((nI k).toInt64.toUInt64 &&& Int64.toUInt64 63)).toInt64 &&& 1 = lN (n / 2 ^ k % 2) := by
  rw [wb_shr hn hk, wb_a1 (Nat.lt_of_le_of_lt (Nat.div_le_self _ _) hn)]
theorem wb_xor {q k : Nat} (hk : k < 63) (h : 2 ^ k ≤ q) (h2 : q < 2 ^ (k + 1)) : lN q ^^^ lN (2 ^ k) = lN (q - 2 ^ k) := by
  obtain ⟨r, rfl⟩ : ∃ r, q = 2 ^ k + r := ⟨q - 2 ^ k, by omega⟩
  have hr : r < 2 ^ k := by rw [Nat.pow_succ] at h2; omega
  have hx : (2 ^ k + r) ^^^ 2 ^ k = r := by
    apply Nat.eq_of_testBit_eq
    intro i
    rw [Nat.testBit_xor, Nat.testBit_two_pow]
    rcases Nat.lt_trichotomy i k with h | h | h
    · rw [Nat.testBit_two_pow_add_gt h]
      simp [show ¬ k = i by omega]
    · subst h
      rw [Nat.testBit_two_pow_add_eq]
      simp
    · have a1 : 2 ^ (k + 1) ≤ 2 ^ i := Nat.pow_le_pow_right (by decide) h
      rw [Nat.testBit_lt_two_pow (show 2 ^ k + r < 2 ^ i by omega), Nat.testBit_lt_two_pow (show r < 2 ^ i by omega)]
      simp [show ¬ k = i by omega]
  have b1 := wb_lt2 (show k + 1 < 64 by omega)
  have b2 := wb_lt2 (show k < 64 by omega)
  apply wb_inj
  rw [Int64.toBitVec_xor, wb_tb, wb_tb, wb_tb]
  apply BitVec.eq_of_toNat_eq
  rw [BitVec.toNat_xor, BitVec.toNat_ofNat, BitVec.toNat_ofNat, BitVec.toNat_ofNat, Nat.mod_eq_of_lt (by omega : 2 ^ k + r < 2 ^ 64), Nat.mod_eq_of_lt b2, hx, Nat.add_sub_cancel_left, Nat.mod_eq_of_lt (by omega)]
end
section
/-! the bits of an Int32 as a set -/
def pl_T (x : Int32) (i : Nat) : Prop := bt x i = true
theorem pl_T_or (x y : Int32) (i : Nat) : pl_T (x ||| y) i ↔ pl_T x i ∨ pl_T y i := by
  unfold pl_T; rw [b_or]; simp
theorem pl_T_and (x y : Int32) (i : Nat) : pl_T (x &&& y) i ↔ pl_T x i ∧ pl_T y i := by
  unfold pl_T; rw [b_and]; simp
theorem pl_T_lt {x : Int32} {i : Nat} (h : pl_T x i) : i < 32 := by
  rcases Nat.lt_or_ge i 32 with z | z
  · exact z
  · unfold pl_T at h; rw [b_big z] at h; cases h
theorem pl_T_nand (x y : Int32) (i : Nat) : pl_T (x &&& (y ^^^ (-1))) i ↔ pl_T x i ∧ ¬ pl_T y i := by
  rw [pl_T_and]
  constructor
  · rintro ⟨a, b⟩
    refine ⟨a, fun c => ?_⟩
    unfold pl_T at b c
    rw [b_xor, c, b_m1 i (pl_T_lt a)] at b
    exact absurd b (by decide)
  · rintro ⟨a, b⟩
    refine ⟨a, ?_⟩
    unfold pl_T at b ⊢
    rw [b_xor, b_m1 i (pl_T_lt a), ts_nt b]; rfl
theorem pl_T_0 (i : Nat) : ¬ pl_T 0 i := by unfold pl_T; rw [b_0]; decide
theorem pl_ext {x y : Int32} (h : ∀ i, pl_T x i ↔ pl_T y i) : x = y := b_ext (fun i _ => Bool.eq_iff_iff.mpr (h i))
theorem pl_z (x : Int32) : x = 0 ↔ ∀ i, ¬ pl_T x i :=
  ⟨fun h i => by rw [h]; exact pl_T_0 i, fun h => pl_ext (fun i => ⟨fun a => absurd a (h i), fun a => absurd a (pl_T_0 i)⟩)⟩
theorem pl_nz (x : Int32) : ¬ x = 0 ↔ ∃ i, pl_T x i := by
  rw [pl_z]
  exact ⟨fun h => Classical.byContradiction (fun z => h (fun i a => z ⟨i, a⟩)), fun ⟨i, a⟩ h => h i a⟩
def pl_Sub (x y : Int32) : Prop := ∀ i, pl_T x i → pl_T y i
theorem pl_sub (x y : Int32) : (x &&& (y ^^^ (-1))) = 0 ↔ pl_Sub x y := by
  rw [pl_z]
  constructor
  · intro h i a
    exact Classical.byContradiction (fun z => h i ((pl_T_nand x y i).mpr ⟨a, z⟩))
  · intro h i a
    have b := (pl_T_nand x y i).mp a
    exact b.2 (h i b.1)
theorem pl_dis (x y : Int32) : (x &&& y) = 0 ↔ ∀ i, pl_T x i → ¬ pl_T y i := by
  rw [pl_z]
  exact ⟨fun h i a b => h i ((pl_T_and x y i).mpr ⟨a, b⟩), fun h i a => h i ((pl_T_and x y i).mp a).1 ((pl_T_and x y i).mp a).2⟩
theorem pl_b1 (i : Nat) : bt 1 i = decide (i = 0) := by
  rcases Nat.lt_or_ge i 32 with h | h
  · exact (by decide +kernel : ∀ i, i < 32 → bt 1 i = decide (i = 0)) i h
  · rw [b_big h, decide_eq_false (by omega)]
theorem pl_T_1 (i : Nat) : pl_T 1 i ↔ i = 0 := by unfold pl_T; rw [pl_b1]; simp
theorem pl_and1 (x : Int32) : (x &&& 1) = 0 ↔ ¬ pl_T x 0 := by
  rw [pl_dis]
  exact ⟨fun h a => h 0 a ((pl_T_1 0).mpr rfl), fun h i a b => h (((pl_T_1 i).mp b) ▸ a)⟩
theorem pl_T_sh (x : Int32) {j : Nat} (hj : j < 32) : pl_T (x >>> (nI j &&& 31)) 0 ↔ pl_T x j := by
  unfold pl_T; rw [b_sshr j hj x (by decide), if_pos (by omega), Nat.add_zero]
theorem pl_sh (x : Int32) {j : Nat} (hj : j < 32) : ((x >>> (nI j &&& 31)) &&& 1) = 0 ↔ ¬ pl_T x j := by
  rw [pl_and1, pl_T_sh x hj]
theorem pl_sh2 (x y : Int32) {i j : Nat} (hi : i < 32) (hj : j < 32) : (((x >>> (nI i &&& 31)) &&& (y >>> (nI j &&& 31))) &&& 1) = 0 ↔ ¬ (pl_T x i ∧ pl_T y j) := by
  rw [pl_and1, pl_T_and, pl_T_sh x hi, pl_T_sh y hj]
theorem pl_T_one {j : Nat} (hj : j < 32) (i : Nat) : pl_T ((1 : Int32) <<< (nI j &&& 31)) i ↔ i = j := by
  constructor
  · intro h
    have hi := pl_T_lt h
    unfold pl_T at h
    rw [b_shl j hj 1 hi, pl_b1] at h
    simp at h
    omega
  · rintro rfl
    unfold pl_T
    rw [b_shl i hj 1 hj, pl_b1]; simp
theorem pl_T_add {x : Int32} {j : Nat} (hj : j < 32) (i : Nat) : pl_T (x ||| ((1 : Int32) <<< (nI j &&& 31))) i ↔ pl_T x i ∨ i = j := by
  rw [pl_T_or, pl_T_one hj]
/-! sets of facts: eight bits -/
def pl_Sm (x : Int32) : Prop := ∀ i, pl_T x i → i < 8
def pl_D15 (x : Int32) : Prop := ∀ i, pl_T x i → i < 15
theorem pl_Sm_0 : pl_Sm 0 := fun i h => absurd h (pl_T_0 i)
theorem pl_D15_0 : pl_D15 0 := fun i h => absurd h (pl_T_0 i)
theorem pl_Sm_or {x y : Int32} (hx : pl_Sm x) (hy : pl_Sm y) : pl_Sm (x ||| y) := fun i h => ((pl_T_or x y i).mp h).elim (hx i) (hy i)
theorem pl_Sm_one {j : Nat} (hj : j < 8) : pl_Sm ((1 : Int32) <<< (nI j &&& 31)) := fun i h => by
  rw [pl_T_one (by omega)] at h; omega
theorem pl_T_nI {k i : Nat} (hi : i < 32) : pl_T (nI k) i ↔ k.testBit i = true := by
  unfold pl_T bt
  show (BitVec.ofNat 32 k).getLsbD i = true ↔ _
  rw [BitVec.getLsbD_ofNat]
  simp [hi]
theorem pl_Sm_nI {k : Nat} (h : k < 256) : pl_Sm (nI k) := by
  intro i hi
  have h2 := pl_T_lt hi
  rw [pl_T_nI h2] at hi
  rcases Nat.lt_or_ge i 8 with z | z
  · exact z
  · have e : (2 : Nat) ^ 8 ≤ 2 ^ i := Nat.pow_le_pow_right (by decide) z
    have e2 : k.testBit i = false := Nat.testBit_lt_two_pow (Nat.lt_of_lt_of_le h e)
    rw [e2] at hi; cases hi
theorem pl_Sm_of {x : Int32} (h : pl_Sm x) : ∃ k, k < 256 ∧ x = nI k := by
  refine ⟨x.toBitVec.toNat, ?_, ?_⟩
  · have e : x.toBitVec.toNat < 2 ^ 8 := by
      apply Nat.lt_pow_two_of_testBit
      intro i hi
      have z : ¬ pl_T x i := fun z => by have := h i z; omega
      exact ts_nt z
    exact e
  · apply Int32.toBitVec_inj.mp
    show x.toBitVec = BitVec.ofNat 32 x.toBitVec.toNat
    simp
theorem pl_Sm_iff (x : Int32) : pl_Sm x ↔ ¬ x < 0 ∧ ¬ 255 < x := by
  constructor
  · intro h
    obtain ⟨k, hk, rfl⟩ := pl_Sm_of h
    exact ⟨nI_pos (by omega), nI_nlt (a := 255) (b := k) (by omega) (by decide)⟩
  · rintro ⟨a, b⟩
    obtain ⟨j, hj, rfl⟩ := nI_of a
    have z : j < 256 := by
      rcases Nat.lt_or_ge j 256 with z | z
      · exact z
      · exact absurd (nI_lt (a := 255) (b := j) (by omega) hj) b
    exact pl_Sm_nI z
theorem pl_T_255 (i : Nat) : pl_T 255 i ↔ i < 8 := by unfold pl_T; rw [b_255]; simp
theorem pl_pk1 {o x : Int32} (ho : pl_Sm o) : (o ||| (x <<< ((8 : Int32) &&& 31))) &&& 255 = o := by
  apply pl_ext; intro i
  rw [pl_T_and, pl_T_or, pl_T_255]
  constructor
  · rintro ⟨a | a, b⟩
    · exact a
    · exfalso
      have hi := pl_T_lt a
      unfold pl_T at a
      rw [b_shl8 x hi] at a
      simp at a
      omega
  · intro a; exact ⟨Or.inl a, ho i a⟩
theorem pl_pk2 {o x : Int32} (ho : pl_Sm o) (hx : pl_D15 x) : (o ||| (x <<< ((8 : Int32) &&& 31))) >>> ((8 : Int32) &&& 31) = x := by
  apply b_ext; intro i hi
  rw [b_sshr8 _ hi]
  split
  · rename_i h
    have a : bt o (8 + i) = false := ts_nt (fun z => by have := ho (8 + i) z; omega)
    rw [b_or, b_shl8 x h, a, Nat.add_sub_cancel_left, decide_eq_true (by omega), Bool.true_and, Bool.false_or]
  · rename_i h
    have c : bt x i = false := ts_nt (fun z => by have := hx i z; omega)
    have a : bt o 31 = false := ts_nt (fun z => by have := ho 31 z; omega)
    have b : bt x (31 - 8) = false := ts_nt (fun z => by have := hx (31 - 8) z; omega)
    rw [c, b_or, b_shl8 x (by decide), a, b]; rfl
/-! one bit in a row of longs -/
def pl_Mk (a : Nat → Int64) (L k : Nat) : Prop := (a (4 * L + k / 64)).toBitVec.getLsbD (k % 64) = true
theorem pl_tst (w : Int64) {k : Nat} (hk : k < 256) : ((w.toUInt64 >>> ((nI k &&& 63).toInt64.toUInt64 &&& Int64.toUInt64 63)).toInt64 &&& 1) = 0 ↔ ¬ w.toBitVec.getLsbD (k % 64) = true := by
  have e : nI k &&& 63 = nI (k % 64) := pk_andN (by omega) 6 (by decide)
  have hm : k % 64 < 64 := Nat.mod_lt _ (by decide)
  have hs : (UInt64.ofNat (k % 64)).toNat = k % 64 := Nat.mod_eq_of_lt (by omega)
  rw [e, wb_cu (k % 64) hm, ts_bit hm hs]
  simp
theorem pl_set (w : Int64) {k : Nat} (hk : k < 256) {i : Nat} (hi : i < 64) : (w ||| ((1 : Int64) <<< ((nI k &&& 63).toInt64 &&& 63))).toBitVec.getLsbD i = true ↔ w.toBitVec.getLsbD i = true ∨ i = k % 64 := by
  have e : nI k &&& 63 = nI (k % 64) := pk_andN (by omega) 6 (by decide)
  have hm : k % 64 < 64 := Nat.mod_lt _ (by decide)
  have e2 : (1 : Int64) <<< ((nI (k % 64)).toInt64 &&& 63) = lN (1 * 2 ^ (k % 64)) := wb_shl 1 hm
  rw [e, e2, Int64.toBitVec_or, BitVec.getLsbD_or, wb_tb, BitVec.getLsbD_ofNat, Nat.one_mul, Nat.testBit_two_pow]
  simp only [hi, decide_true, Bool.true_and, Bool.or_eq_true, decide_eq_true_eq]
  exact ⟨fun h => h.imp id Eq.symm, fun h => h.imp id Eq.symm⟩
theorem pl_Mk_set (a : Nat → Int64) {L k L' k' : Nat} (hk : k < 256) (hk' : k' < 256) : pl_Mk (vp_updL a (4 * L + k / 64) (a (4 * L + k / 64) ||| ((1 : Int64) <<< ((nI k &&& 63).toInt64 &&& 63)))) L' k' ↔ pl_Mk a L' k' ∨ (L' = L ∧ k' = k) := by
  unfold pl_Mk
  by_cases h : 4 * L' + k' / 64 = 4 * L + k / 64
  · rw [h, pk_uLs, pl_set _ hk (Nat.mod_lt _ (by decide))]
    constructor
    · rintro (z | z)
      · exact Or.inl z
      · exact Or.inr ⟨by omega, by omega⟩
    · rintro (z | ⟨rfl, rfl⟩)
      · exact Or.inl z
      · exact Or.inr rfl
  · rw [pk_uLn h]
    constructor
    · exact Or.inl
    · rintro (z | ⟨rfl, rfl⟩)
      · exact z
      · exact absurd rfl h
theorem pl_Mk_0 {a : Nat → Int64} (h : ∀ w, w < 36 → a w = 0) {L k : Nat} (hL : L ≤ 8) (hk : k < 256) : ¬ pl_Mk a L k := by
  unfold pl_Mk
  rw [h _ (by omega)]
  intro z
  have e : (0 : Int64).toBitVec.getLsbD (k % 64) = false := BitVec.getLsbD_zero
  rw [e] at z; cases z
/-! numbers in bytes -/
theorem pl_by0 : ∀ d, d < 128 → (nI d).toInt8.toInt32 = nI d := by decide +kernel
theorem pl_by {d : Nat} (h : d < 128) : vp_nar .byte (nI d).toInt8.toInt32 = nI d := by rw [pk_vb, pl_by0 d h]
theorem pl_fc {f k : Nat} : nI f + 8 * nI k = nI (f + 8 * k) := by
  rw [show (8 : Int32) * nI k = nI (8 * k) from pk_mul 8 k, nI_add]
theorem pl_fd {f k : Nat} (hf : f < 8) (hk : k < 16) : nI (f + 8 * k) / 8 = nI k := by
  rw [show nI (f + 8 * k) / 8 = nI ((f + 8 * k) / 8) from pk_div (by omega) (by decide) (by decide)]
  exact congrArg nI (by omega)
theorem pl_fr {f k : Nat} (hf : f < 8) (hk : k < 16) : nI (f + 8 * k) - nI (f + 8 * k) / 8 * 8 = nI f := by
  rw [show nI (f + 8 * k) - nI (f + 8 * k) / 8 * 8 = nI ((f + 8 * k) % 8) from pk_rem (by omega) (by decide) (by decide)]
  exact congrArg nI (by omega)
/-! counting bits -/
def pl_pc (x : Int32) : Nat → Nat
  | 0 => 0
  | i + 1 => pl_pc x i + (if bt x i then 1 else 0)
theorem pl_pc_s (x : Int32) (i : Nat) : pl_pc x (i + 1) = pl_pc x i + (if bt x i then 1 else 0) := rfl
theorem pl_pc_le (x : Int32) : ∀ n, pl_pc x n ≤ n
  | 0 => Nat.le_refl 0
  | n + 1 => by
    have := pl_pc_le x n
    rw [pl_pc_s]
    split <;> omega
theorem pl_pc_mono {x y : Int32} (h : pl_Sub x y) : ∀ n, pl_pc x n ≤ pl_pc y n
  | 0 => Nat.le_refl 0
  | n + 1 => by
    have := pl_pc_mono h n
    have hn := h n
    unfold pl_T at hn
    rw [pl_pc_s, pl_pc_s]
    by_cases a : bt x n = true
    · rw [if_pos a, if_pos (hn a)]; omega
    · rw [if_neg a]; omega
theorem pl_pc_lt {x y : Int32} (h : pl_Sub x y) {f : Nat} (hx : ¬ pl_T x f) (hy : pl_T y f) : ∀ n, f < n → pl_pc x n < pl_pc y n
  | 0, z => absurd z (by omega)
  | n + 1, z => by
    rcases Nat.lt_or_ge f n with w | w
    · have := pl_pc_lt h hx hy n w
      have hn := h n
      unfold pl_T at hn
      rw [pl_pc_s, pl_pc_s]
      by_cases a : bt x n = true
      · rw [if_pos a, if_pos (hn a)]; omega
      · rw [if_neg a]; omega
    · have e : f = n := by omega
      subst e
      have := pl_pc_mono h f
      unfold pl_T at hx hy
      rw [pl_pc_s, pl_pc_s]
      rw [if_neg hx, if_pos hy]; omega
/-! unions over a set of indices -/
def pl_un (a : Nat → Int32) (l : Int32) : Nat → Int32
  | 0 => 0
  | i + 1 => if bt l i then pl_un a l i ||| a i else pl_un a l i
theorem pl_un_s (a : Nat → Int32) (l : Int32) (i : Nat) : pl_un a l (i + 1) = if bt l i then pl_un a l i ||| a i else pl_un a l i := rfl
theorem pl_un_T (a : Nat → Int32) (l : Int32) (b : Nat) : ∀ n, pl_T (pl_un a l n) b ↔ ∃ i, i < n ∧ pl_T l i ∧ pl_T (a i) b
  | 0 => ⟨fun h => absurd h (pl_T_0 b), fun ⟨i, h, _⟩ => absurd h (by omega)⟩
  | n + 1 => by
    have ih := pl_un_T a l b n
    rw [pl_un_s]
    by_cases c : bt l n = true
    · rw [if_pos c, pl_T_or, ih]
      constructor
      · rintro (⟨i, h1, h2⟩ | h)
        · exact ⟨i, by omega, h2⟩
        · exact ⟨n, by omega, c, h⟩
      · rintro ⟨i, h1, h2⟩
        rcases Nat.lt_or_ge i n with z | z
        · exact Or.inl ⟨i, z, h2⟩
        · have e : i = n := by omega
          subst e; exact Or.inr h2.2
    · rw [if_neg c, ih]
      constructor
      · rintro ⟨i, h1, h2⟩
        exact ⟨i, by omega, h2⟩
      · rintro ⟨i, h1, h2⟩
        rcases Nat.lt_or_ge i n with z | z
        · exact ⟨i, z, h2⟩
        · have e : i = n := by omega
          subst e; exact absurd h2.1 c
end
section
/-! deeds: actions below 7, keeping a fact from 7 to 14 -/
def pl_dn (a : Nat → Int32) (d : Nat) : Int32 := if d < 7 then a d else (1 : Int32) <<< (nI (d - 7) &&& 31)
def pl_dl (a : Nat → Int32) (d : Nat) : Int32 := if d < 7 then a d else 0
def pl_DC (nd gn ls : Nat → Int32) (d e : Nat) : Prop := ¬ (pl_dl ls d &&& (pl_dn nd e ||| pl_dn gn e)) = 0 ∨ ¬ (pl_dl ls e &&& (pl_dn nd d ||| pl_dn gn d)) = 0
def pl_ex (na d : Nat) : Prop := 7 ≤ d ∨ d < na
def pl_D (na : Nat) (nd gn ls : Nat → Int32) : Prop := na ≤ 7 ∧ ∀ i, i < 7 → pl_Sm (nd i) ∧ pl_Sm (gn i) ∧ pl_Sm (ls i)
def pl_ok (na : Nat) (nd gn ls : Nat → Int32) (s l : Int32) : Prop := ∀ i, i < na → pl_T l i → pl_Sub (nd i) s ∧ ∀ j, j < i → pl_T l j → ¬ pl_DC nd gn ls i j
def pl_M (na : Nat) (gn ls : Nat → Int32) (s l : Int32) (b : Nat) : Prop := (∃ i, i < na ∧ pl_T l i ∧ pl_T (gn i) b) ∨ (pl_T s b ∧ ∀ i, i < na → pl_T l i → ¬ pl_T (ls i) b)
def pl_aft (na : Nat) (gn ls : Nat → Int32) (s l r : Int32) : Prop := ∀ b, pl_T r b ↔ pl_M na gn ls s l b
def pl_Step (na : Nat) (nd gn ls : Nat → Int32) (s s' : Int32) : Prop := ∃ l, pl_ok na nd gn ls s l ∧ pl_aft na gn ls s l s'
def pl_R (na : Nat) (nd gn ls : Nat → Int32) (st : Int32) : Nat → Int32 → Prop
  | 0 => fun s => s = st
  | k + 1 => fun s' => ∃ s, pl_R na nd gn ls st k s ∧ pl_Step na nd gn ls s s'
def pl_Srv (na : Nat) (nd gn ls : Nat → Int32) (st : Int32) (k : Nat) (g : Int32) : Prop := ∃ s, pl_R na nd gn ls st k s ∧ pl_Sub g s
theorem pl_dn_lo {a : Nat → Int32} {d : Nat} (h : d < 7) : pl_dn a d = a d := if_pos h
theorem pl_dl_lo {a : Nat → Int32} {d : Nat} (h : d < 7) : pl_dl a d = a d := if_pos h
theorem pl_dl_hi {a : Nat → Int32} {d : Nat} (h : 7 ≤ d) : pl_dl a d = 0 := if_neg (by omega)
theorem pl_dn_T {a : Nat → Int32} {d : Nat} (h : 7 ≤ d) (h2 : d < 15) (b : Nat) : pl_T (pl_dn a d) b ↔ b + 7 = d := by
  unfold pl_dn
  rw [if_neg (by omega), pl_T_one (by omega)]
  omega
theorem pl_dn_Sm {a : Nat → Int32} {d : Nat} (h : ∀ i, i < 7 → pl_Sm (a i)) (h2 : d < 15) : pl_Sm (pl_dn a d) := by
  rcases Nat.lt_or_ge d 7 with z | z
  · rw [pl_dn_lo z]; exact h d z
  · intro b hb
    rw [pl_dn_T z h2] at hb
    omega
theorem pl_c3 (x y z : Int32) : ¬ (x &&& (y ||| z)) = 0 ↔ ∃ b, pl_T x b ∧ (pl_T y b ∨ pl_T z b) := by
  rw [pl_nz]
  constructor
  · rintro ⟨b, h⟩
    rw [pl_T_and, pl_T_or] at h
    exact ⟨b, h⟩
  · rintro ⟨b, h⟩
    exact ⟨b, by rw [pl_T_and, pl_T_or]; exact h⟩
theorem pl_DC_sym {nd gn ls : Nat → Int32} {d e : Nat} (h : pl_DC nd gn ls d e) : pl_DC nd gn ls e d := Or.symm h
theorem pl_DC_an {nd gn ls : Nat → Int32} {d e : Nat} (hd : d < 7) (he : 7 ≤ e) (he2 : e < 15) : pl_DC nd gn ls d e ↔ pl_T (ls d) (e - 7) := by
  unfold pl_DC
  rw [pl_c3, pl_c3, pl_dl_lo hd, pl_dl_hi he]
  constructor
  · rintro (⟨b, h, h2⟩ | ⟨b, h, h2⟩)
    · rw [pl_dn_T he he2, pl_dn_T he he2] at h2
      have e1 : e - 7 = b := by omega
      rw [e1]; exact h
    · exact absurd h (pl_T_0 b)
  · intro h
    exact Or.inl ⟨e - 7, h, Or.inl ((pl_dn_T he he2 _).mpr (by omega))⟩
theorem pl_DC_nn {nd gn ls : Nat → Int32} {d e : Nat} (hd : 7 ≤ d) (he : 7 ≤ e) : ¬ pl_DC nd gn ls d e := by
  unfold pl_DC
  rw [pl_c3, pl_c3, pl_dl_hi hd, pl_dl_hi he]
  rintro (⟨b, h, _⟩ | ⟨b, h, _⟩)
  · exact absurd h (pl_T_0 b)
  · exact absurd h (pl_T_0 b)
theorem pl_aft_ex (na : Nat) (gn ls : Nat → Int32) (s l : Int32) : ∃ r, pl_aft na gn ls s l r := by
  refine ⟨(s &&& (pl_un ls l na ^^^ (-1))) ||| pl_un gn l na, fun b => ?_⟩
  rw [pl_T_or, pl_T_nand, pl_un_T, pl_un_T]
  unfold pl_M
  constructor
  · rintro (⟨a, c⟩ | c)
    · exact Or.inr ⟨a, fun i h1 h2 h3 => c ⟨i, h1, h2, h3⟩⟩
    · exact Or.inl c
  · rintro (c | ⟨a, c⟩)
    · exact Or.inr c
    · exact Or.inl ⟨a, fun ⟨i, h1, h2, h3⟩ => c i h1 h2 h3⟩
theorem pl_aft_un {na : Nat} {gn ls : Nat → Int32} {s l r r' : Int32} (h : pl_aft na gn ls s l r) (h' : pl_aft na gn ls s l r') : r = r' := pl_ext (fun b => (h b).trans (h' b).symm)
theorem pl_aft_Sm {na : Nat} {nd gn ls : Nat → Int32} {s l r : Int32} (hD : pl_D na nd gn ls) (hs : pl_Sm s) (h : pl_aft na gn ls s l r) : pl_Sm r := by
  intro b hb
  rcases (h b).mp hb with ⟨i, h1, _, h2⟩ | ⟨h1, _⟩
  · exact (hD.2 i (Nat.lt_of_lt_of_le h1 hD.1)).2.1 b h2
  · exact hs b h1
theorem pl_R_Sm {na : Nat} {nd gn ls : Nat → Int32} {st : Int32} (hD : pl_D na nd gn ls) (hs : pl_Sm st) : ∀ k s, pl_R na nd gn ls st k s → pl_Sm s
  | 0, s, h => by
    have e : s = st := h
    rw [e]; exact hs
  | k + 1, s, h => by
    obtain ⟨s0, h0, l, _, h2⟩ := h
    exact pl_aft_Sm hD (pl_R_Sm hD hs k s0 h0) h2
/-- the deeds that go on in a layer l out of s -/
def pl_C (na : Nat) (ls : Nat → Int32) (s l : Int32) (d : Nat) : Prop := (d < na ∧ pl_T l d) ∨ (7 ≤ d ∧ pl_T s (d - 7) ∧ ∀ i, i < na → pl_T l i → ¬ pl_T (ls i) (d - 7))
section
variable {na : Nat} {nd gn ls : Nat → Int32} {s l : Int32}
theorem pl_C_lt (hD : pl_D na nd gn ls) (hs : pl_Sm s) {d : Nat} (h : pl_C na ls s l d) : d < 15 := by
  rcases h with ⟨h, _⟩ | ⟨h, h2, _⟩
  · have := hD.1; omega
  · have := hs _ h2; omega
theorem pl_C_ex {d : Nat} (h : pl_C na ls s l d) : pl_ex na d := by
  rcases h with ⟨h, _⟩ | ⟨h, h2, _⟩
  · exact Or.inr h
  · exact Or.inl h
theorem pl_C_need (hD : pl_D na nd gn ls) (hs : pl_Sm s) (ho : pl_ok na nd gn ls s l) {d : Nat} (h : pl_C na ls s l d) : pl_Sub (pl_dn nd d) s := by
  have hlt := pl_C_lt hD hs h
  have hna := hD.1
  rcases h with ⟨h, h2⟩ | ⟨h, h2, _⟩
  · rw [pl_dn_lo (by omega)]
    exact (ho d h h2).1
  · intro b hb
    rw [pl_dn_T h hlt] at hb
    have e : d - 7 = b := by omega
    rw [e] at h2; exact h2
theorem pl_C_gain (hD : pl_D na nd gn ls) (hs : pl_Sm s) {d b : Nat} (h : pl_C na ls s l d) (hb : pl_T (pl_dn gn d) b) : pl_M na gn ls s l b := by
  have hlt := pl_C_lt hD hs h
  have hna := hD.1
  rcases h with ⟨h, h2⟩ | ⟨h, h2, h3⟩
  · rw [pl_dn_lo (by omega)] at hb
    exact Or.inl ⟨d, h, h2, hb⟩
  · rw [pl_dn_T h hlt] at hb
    have e : d - 7 = b := by omega
    rw [e] at h2 h3
    exact Or.inr ⟨h2, h3⟩
theorem pl_C_of (hD : pl_D na nd gn ls) (hs : pl_Sm s) {b : Nat} (h : pl_M na gn ls s l b) : ∃ d, pl_C na ls s l d ∧ pl_T (pl_dn gn d) b := by
  have hna := hD.1
  rcases h with ⟨i, h1, h2, h3⟩ | ⟨h1, h2⟩
  · refine ⟨i, Or.inl ⟨h1, h2⟩, ?_⟩
    rw [pl_dn_lo (by omega)]; exact h3
  · have := hs b h1
    have e : b + 7 - 7 = b := by omega
    refine ⟨b + 7, Or.inr ⟨by omega, ?_, ?_⟩, ?_⟩
    · rw [e]; exact h1
    · rw [e]; exact h2
    · rw [pl_dn_T (by omega) (by omega)]
theorem pl_C_nc (hD : pl_D na nd gn ls) (hs : pl_Sm s) (ho : pl_ok na nd gn ls s l) {d e : Nat} (h : pl_C na ls s l d) (h' : pl_C na ls s l e) (hn : d ≠ e) : ¬ pl_DC nd gn ls d e := by
  have hlt := pl_C_lt hD hs h
  have hlt' := pl_C_lt hD hs h'
  have hna := hD.1
  rcases h with ⟨h, h2⟩ | ⟨h, h2, h3⟩
  · rcases h' with ⟨k, k2⟩ | ⟨k, k2, k3⟩
    · rcases Nat.lt_or_ge e d with z | z
      · exact (ho d h h2).2 e z k2
      · exact fun w => (ho e k k2).2 d (by omega) h2 (pl_DC_sym w)
    · rw [pl_DC_an (by omega) k hlt']
      exact k3 d h h2
  · rcases h' with ⟨k, k2⟩ | ⟨k, k2, k3⟩
    · intro w
      have w2 := pl_DC_sym w
      rw [pl_DC_an (by omega) h hlt] at w2
      exact h3 e k k2 w2
    · exact pl_DC_nn h k
end
/-! the graph -/
def pl_CB (fa fb : Nat → Int32) (x : Int32) (k : Nat) : Prop := pl_Sub x (fa k) ∧ ∀ f, f < 8 → pl_T x f → (fb (8 * k + f) &&& x) = 0
def pl_mk (gn da : Nat → Int32) (k f d : Nat) : Prop := d < 15 ∧ pl_T (da k) d ∧ pl_T (pl_dn gn d) f
def pl_Cl (na : Nat) (nd gn ls cl : Nat → Int32) : Prop := ∀ d, d < 15 → ∀ e, pl_T (cl d) e ↔ e < 15 ∧ d ≠ e ∧ pl_ex na d ∧ pl_ex na e ∧ pl_DC nd gn ls d e
def pl_Gd (na : Nat) (nd fa fb da : Nat → Int32) (k : Nat) : Prop := ∀ d, pl_T (da k) d ↔ d < 15 ∧ pl_ex na d ∧ pl_CB fa fb (pl_dn nd d) k
def pl_Gb (nd fa fb da db cl : Nat → Int32) (k : Nat) : Prop := ∀ d, d < 15 → ∀ e, pl_T (db (15 * k + d)) e ↔ pl_T (cl d) e ∨ (e < 15 ∧ d ≠ e ∧ pl_T (da k) d ∧ pl_T (da k) e ∧ ¬ pl_CB fa fb (pl_dn nd d ||| pl_dn nd e) k)
def pl_Gf (gn fa da : Nat → Int32) (k : Nat) : Prop := ∀ f, pl_T (fa (k + 1)) f ↔ f < 8 ∧ ∃ d, pl_mk gn da k f d
def pl_AB (gn da db : Nat → Int32) (k f g : Nat) : Prop := ∀ d, pl_mk gn da k f d → ∀ e, pl_mk gn da k g e → pl_T (db (15 * k + d)) e
def pl_Gx (gn fa fb da db : Nat → Int32) (k : Nat) : Prop := ∀ f, f < 8 → ∀ g, pl_T (fb (8 * k + 8 + f)) g ↔ g < 8 ∧ f ≠ g ∧ (pl_T (fa (k + 1)) f ∧ pl_T (fa (k + 1)) g) ∧ pl_AB gn da db k f g
def pl_Gk (na : Nat) (nd gn fa da fb db cl : Nat → Int32) (k : Nat) : Prop := pl_Gd na nd fa fb da k ∧ pl_Gb nd fa fb da db cl k ∧ pl_Gf gn fa da k ∧ pl_Gx gn fa fb da db k
def pl_G (na : Nat) (nd gn ls : Nat → Int32) (st : Int32) (fa da fb db cl : Nat → Int32) (K : Nat) : Prop := pl_Cl na nd gn ls cl ∧ fa 0 = st ∧ (∀ f, f < 8 → fb f = 0) ∧ ∀ k, k < K → pl_Gk na nd gn fa da fb db cl k
theorem pl_CB_mono {fa fb : Nat → Int32} {x y : Int32} {k : Nat} (h : pl_CB fa fb y k) (hs : pl_Sub x y) : pl_CB fa fb x k := by
  refine ⟨fun i hi => h.1 i (hs i hi), fun f hf hx => ?_⟩
  have z := h.2 f hf (hs f hx)
  rw [pl_dis] at z ⊢
  exact fun i hi hi2 => z i hi (hs i hi2)
section
variable {na : Nat} {nd gn ls fa da fb db cl : Nat → Int32} {st s l : Int32}
theorem pl_B1 (hD : pl_D na nd gn ls) (hs : pl_Sm s) (ho : pl_ok na nd gn ls s l) {k : Nat} (hG : pl_Gd na nd fa fb da k) (hc : pl_CB fa fb s k) {d : Nat} (h : pl_C na ls s l d) : pl_T (da k) d :=
  (hG d).mpr ⟨pl_C_lt hD hs h, pl_C_ex h, pl_CB_mono hc (pl_C_need hD hs ho h)⟩
theorem pl_B2 (hD : pl_D na nd gn ls) (hs : pl_Sm s) (ho : pl_ok na nd gn ls s l) {k : Nat} (hC : pl_Cl na nd gn ls cl) (hG : pl_Gb nd fa fb da db cl k) (hc : pl_CB fa fb s k) {d e : Nat} (h : pl_C na ls s l d) (h' : pl_C na ls s l e) : ¬ pl_T (db (15 * k + d)) e := by
  intro z
  rcases (hG d (pl_C_lt hD hs h) e).mp z with z | z
  · have w := (hC d (pl_C_lt hD hs h) e).mp z
    exact pl_C_nc hD hs ho h h' w.2.1 w.2.2.2.2
  · refine z.2.2.2.2 (pl_CB_mono hc (fun i hi => ?_))
    rcases (pl_T_or _ _ i).mp hi with a | a
    · exact pl_C_need hD hs ho h i a
    · exact pl_C_need hD hs ho h' i a
theorem pl_snd (hD : pl_D na nd gn ls) (hs : pl_Sm st) {K : Nat} (hG : pl_G na nd gn ls st fa da fb db cl K) : ∀ k, k ≤ K → ∀ s, pl_R na nd gn ls st k s → pl_CB fa fb s k
  | 0, _, s, h => by
    have e : s = st := h
    subst e
    refine ⟨fun i hi => by rw [hG.2.1]; exact hi, fun f hf _ => ?_⟩
    rw [show 8 * 0 + f = f by omega, hG.2.2.1 f hf]
    exact Int32.zero_and
  | k + 1, hk, s', h => by
    have hs' := pl_R_Sm hD hs (k + 1) s' h
    obtain ⟨s, h0, l, ho, h2⟩ := h
    have ih := pl_snd hD hs hG k (by omega) s h0
    have hsm := pl_R_Sm hD hs k s h0
    obtain ⟨g1, g2, g3, g4⟩ := hG.2.2.2 k (by omega)
    have mk : ∀ b, pl_T s' b → ∃ d, pl_C na ls s l d ∧ pl_mk gn da k b d := by
      intro b hb
      obtain ⟨d, hd, hd2⟩ := pl_C_of hD hsm ((h2 b).mp hb)
      exact ⟨d, hd, pl_C_lt hD hsm hd, pl_B1 hD hsm ho g1 ih hd, hd2⟩
    have i1 : ∀ b, pl_T s' b → pl_T (fa (k + 1)) b := by
      intro b hb
      obtain ⟨d, _, hm⟩ := mk b hb
      exact (g3 b).mpr ⟨hs' b hb, d, hm⟩
    refine ⟨i1, fun f hf hx => ?_⟩
    rw [pl_dis]
    intro g hg hg2
    have z := (g4 f hf g).mp (by rw [show 8 * k + 8 + f = 8 * (k + 1) + f by omega]; exact hg)
    obtain ⟨d, hd, hm⟩ := mk f hx
    obtain ⟨e, he, hm'⟩ := mk g hg2
    exact pl_B2 hD hsm ho hG.1 g2 ih hd he (z.2.2.2 d hm e hm')
theorem pl_Srv_CB (hD : pl_D na nd gn ls) (hs : pl_Sm st) {K : Nat} (hG : pl_G na nd gn ls st fa da fb db cl K) {k : Nat} (hk : k ≤ K) {g : Int32} (h : pl_Srv na nd gn ls st k g) : pl_CB fa fb g k := by
  obtain ⟨s, h1, h2⟩ := h
  exact pl_CB_mono (pl_snd hD hs hG k hk s h1) h2
theorem pl_R_mono (k : Nat) (h : pl_R na nd gn ls st k s) : pl_R na nd gn ls st (k + 1) s := by
  refine ⟨s, h, 0, fun i _ hi => absurd hi (pl_T_0 i), fun b => ⟨fun hb => Or.inr ⟨hb, fun i _ hi => absurd hi (pl_T_0 i)⟩, fun hb => ?_⟩⟩
  rcases hb with ⟨i, _, hi, _⟩ | ⟨hb, _⟩
  · exact absurd hi (pl_T_0 i)
  · exact hb
theorem pl_R_le {j : Nat} (h : pl_R na nd gn ls st j s) : ∀ k, j ≤ k → pl_R na nd gn ls st k s
  | 0, z => by
    have e : j = 0 := by omega
    subst e; exact h
  | k + 1, z => by
    rcases Nat.lt_or_ge k j with w | w
    · have e : j = k + 1 := by omega
      subst e; exact h
    · exact pl_R_mono k (pl_R_le h k w)
end
end
section
/-! the search: what chosen deeds and facts still wanted can come to -/
def pl_NR (na : Nat) (nd gn ls : Nat → Int32) (st : Int32) (k : Nat) (o x : Int32) : Prop := ∀ s l, pl_R na nd gn ls st k s → pl_ok na nd gn ls s l → (∀ d, pl_T x d → pl_C na ls s l d) → ¬ (∀ b, pl_T o b → pl_M na gn ls s l b)
def pl_NB (na : Nat) (nd gn ls : Nat → Int32) (st : Int32) (k f d : Nat) (o x : Int32) : Prop := ∀ d', d' < d → pl_T (pl_dn gn d') f → ∀ s l, pl_R na nd gn ls st k s → pl_ok na nd gn ls s l → pl_C na ls s l d' → (∀ e, pl_T x e → pl_C na ls s l e) → ¬ (∀ b, pl_T o b → pl_M na gn ls s l b)
def pl_sk (gn da db : Nat → Int32) (k f d : Nat) (x : Int32) : Prop := ¬ pl_mk gn da k f d ∨ ∃ e, pl_T (db (15 * k + d)) e ∧ pl_T x e
def pl_Nx (nd : Nat → Int32) (x r : Int32) : Prop := ∀ b, pl_T r b ↔ ∃ d, d < 15 ∧ pl_T x d ∧ pl_T (pl_dn nd d) b
def pl_Go (na : Nat) (nd gn ls : Nat → Int32) (w o x : Int32) : Prop := (∀ d, pl_T x d → d < 15 ∧ pl_ex na d) ∧ (∀ d e, pl_T x d → pl_T x e → d ≠ e → ¬ pl_DC nd gn ls d e) ∧ (∀ b, pl_T w b → pl_T o b ∨ ∃ d, pl_T x d ∧ pl_T (pl_dn gn d) b)
section
variable {na : Nat} {nd gn ls fa da fb db cl : Nat → Int32} {st : Int32}
theorem pl_NR_srv {k : Nat} {w : Int32} (h : pl_NR na nd gn ls st k w 0) : ¬ pl_Srv na nd gn ls st (k + 1) w := by
  rintro ⟨s', ⟨s, h0, l, ho, ha⟩, hs⟩
  exact h s l h0 ho (fun d hd => absurd hd (pl_T_0 d)) (fun b hb => (ha b).mp (hs b hb))
theorem pl_NB_0 {k f : Nat} {o x : Int32} : pl_NB na nd gn ls st k f 0 o x := fun d' h => absurd h (by omega)
theorem pl_NB_sk (hD : pl_D na nd gn ls) (hs : pl_Sm st) {K : Nat} (hG : pl_G na nd gn ls st fa da fb db cl K) {k f d : Nat} (hk : k < K) {o x : Int32} (h : pl_NB na nd gn ls st k f d o x) (hsk : pl_sk gn da db k f d x) : pl_NB na nd gn ls st k f (d + 1) o x := by
  intro d' hd' hm s l hr ho hc hx
  rcases Nat.lt_or_ge d' d with z | z
  · exact h d' z hm s l hr ho hc hx
  · have e : d' = d := by omega
    subst e
    intro _
    have hsm := pl_R_Sm hD hs k s hr
    have hcb := pl_snd hD hs hG k (by omega) s hr
    obtain ⟨g1, g2, g3, g4⟩ := hG.2.2.2 k hk
    rcases hsk with w | ⟨e, w1, w2⟩
    · exact w ⟨pl_C_lt hD hsm hc, pl_B1 hD hsm ho g1 hcb hc, hm⟩
    · exact pl_B2 hD hsm ho hG.1 g2 hcb hc (hx e w2) w1
theorem pl_NB_sks (hD : pl_D na nd gn ls) (hs : pl_Sm st) {K : Nat} (hG : pl_G na nd gn ls st fa da fb db cl K) {k f d0 : Nat} (hk : k < K) {o x : Int32} (h : pl_NB na nd gn ls st k f d0 o x) : ∀ d, d0 ≤ d → (∀ d', d0 ≤ d' → d' < d → pl_sk gn da db k f d' x) → pl_NB na nd gn ls st k f d o x
  | 0, z, _ => by
    have e : d0 = 0 := by omega
    subst e; exact h
  | d + 1, z, hsk => by
    rcases Nat.lt_or_ge d d0 with w | w
    · have e : d0 = d + 1 := by omega
      subst e; exact h
    · exact pl_NB_sk hD hs hG hk (pl_NB_sks hD hs hG hk h d w (fun d' h1 h2 => hsk d' h1 (by omega))) (hsk d w (by omega))
theorem pl_NB_NR {k f d : Nat} (hd : d < 15) {o x : Int32} (h : pl_NB na nd gn ls st k f d o x) (hn : pl_NR na nd gn ls st k (o &&& (pl_dn gn d ^^^ (-1))) (x ||| ((1 : Int32) <<< (nI d &&& 31)))) : pl_NB na nd gn ls st k f (d + 1) o x := by
  intro d' hd' hm s l hr ho hc hx
  rcases Nat.lt_or_ge d' d with z | z
  · exact h d' z hm s l hr ho hc hx
  · have e : d' = d := by omega
    subst e
    intro hall
    refine hn s l hr ho (fun e he => ?_) (fun b hb => hall b ((pl_T_nand _ _ b).mp hb).1)
    rcases (pl_T_add (by omega) e).mp he with a | a
    · exact hx e a
    · subst a; exact hc
theorem pl_NB_end (hD : pl_D na nd gn ls) (hs : pl_Sm st) {k f : Nat} {o x : Int32} (h : pl_NB na nd gn ls st k f 15 o x) (hf : pl_T o f) : pl_NR na nd gn ls st k o x := by
  intro s l hr ho hx hall
  have hsm := pl_R_Sm hD hs k s hr
  obtain ⟨d, hd, hg⟩ := pl_C_of hD hsm (hall f hf)
  exact h d (pl_C_lt hD hsm hd) hg s l hr ho hd hx hall
theorem pl_NR_nx (hD : pl_D na nd gn ls) (hs : pl_Sm st) {k : Nat} {o x r : Int32} (hn : pl_Nx nd x r) (h : ¬ pl_Srv na nd gn ls st k r) : pl_NR na nd gn ls st k o x := by
  intro s l hr ho hx _
  have hsm := pl_R_Sm hD hs k s hr
  refine h ⟨s, hr, fun b hb => ?_⟩
  obtain ⟨d, _, hd, hb2⟩ := (hn b).mp hb
  exact pl_C_need hD hsm ho (hx d hd) b hb2
theorem pl_Go_0 (w : Int32) : pl_Go na nd gn ls w w 0 := ⟨fun d h => absurd h (pl_T_0 d), fun d e h => absurd h (pl_T_0 d), fun b h => Or.inl h⟩
theorem pl_Go_push {K : Nat} (hG : pl_G na nd gn ls st fa da fb db cl K) {k f d : Nat} (hk : k < K) {w o x : Int32} (h : pl_Go na nd gn ls w o x) (hm : pl_mk gn da k f d) (hb : ∀ e, pl_T x e → ¬ pl_T (db (15 * k + d)) e) : pl_Go na nd gn ls w (o &&& (pl_dn gn d ^^^ (-1))) (x ||| ((1 : Int32) <<< (nI d &&& 31))) := by
  obtain ⟨h1, h2, h3⟩ := h
  obtain ⟨g1, g2, _, _⟩ := hG.2.2.2 k hk
  have hd15 := hm.1
  have hex : pl_ex na d := ((g1 d).mp hm.2.1).2.1
  have hd32 : d < 32 := by omega
  have nc : ∀ e, pl_T x e → d ≠ e → ¬ pl_DC nd gn ls d e := by
    intro e he hne hdc
    have z := (hG.1 d hd15 e).mpr ⟨(h1 e he).1, hne, hex, (h1 e he).2, hdc⟩
    exact hb e he ((g2 d hd15 e).mpr (Or.inl z))
  refine ⟨fun e he => ?_, fun e e' he he' hne hdc => ?_, fun b hw => ?_⟩
  · rcases (pl_T_add hd32 e).mp he with a | a
    · exact h1 e a
    · subst a; exact ⟨hd15, hex⟩
  · rcases (pl_T_add hd32 e).mp he with a | a
    · rcases (pl_T_add hd32 e').mp he' with a' | a'
      · exact h2 e e' a a' hne hdc
      · subst a'; exact nc e a (fun z => hne z.symm) (pl_DC_sym hdc)
    · rcases (pl_T_add hd32 e').mp he' with a' | a'
      · subst a; exact nc e' a' hne hdc
      · exact hne (a.trans a'.symm)
  · rcases h3 b hw with a | ⟨e, a1, a2⟩
    · by_cases z : pl_T (pl_dn gn d) b
      · exact Or.inr ⟨d, (pl_T_add hd32 d).mpr (Or.inr rfl), z⟩
      · exact Or.inl ((pl_T_nand _ _ b).mpr ⟨a, z⟩)
    · exact Or.inr ⟨e, (pl_T_add hd32 e).mpr (Or.inl a1), a2⟩
theorem pl_Go_srv (hD : pl_D na nd gn ls) {k : Nat} {w x r : Int32} (h : pl_Go na nd gn ls w 0 x) (hn : pl_Nx nd x r) (hr : pl_Srv na nd gn ls st k r) : pl_Srv na nd gn ls st (k + 1) w := by
  obtain ⟨h1, h2, h3⟩ := h
  obtain ⟨s, hr, hsub⟩ := hr
  obtain ⟨s', ha⟩ := pl_aft_ex na gn ls s x
  have hna := hD.1
  have need : ∀ d, pl_T x d → pl_Sub (pl_dn nd d) s := fun d hd b hb => hsub b ((hn b).mpr ⟨d, (h1 d hd).1, hd, hb⟩)
  refine ⟨s', ⟨s, hr, x, fun i hi hx => ⟨?_, fun j hj hxj => h2 i j hx hxj (by omega)⟩, ha⟩, fun b hb => (ha b).mpr ?_⟩
  · have z := need i hx
    rw [pl_dn_lo (by omega)] at z
    exact z
  · rcases h3 b hb with z | ⟨d, hd, hg⟩
    · exact absurd z (pl_T_0 b)
    · obtain ⟨d15, dex⟩ := h1 d hd
      rcases Nat.lt_or_ge d 7 with z | z
      · rw [pl_dn_lo z] at hg
        have : d < na := by
          rcases dex with w | w
          · omega
          · exact w
        exact Or.inl ⟨d, this, hd, hg⟩
      · rw [pl_dn_T z d15] at hg
        have e : d - 7 = b := by omega
        refine Or.inr ⟨need d hd b ((pl_dn_T z d15 b).mpr hg), fun i hi hti hl => ?_⟩
        refine h2 i d hti hd (by omega) ((pl_DC_an (by omega) z d15).mpr ?_)
        rw [e]; exact hl
end
/-! the stack of choices -/
def pl_Cf (na : Nat) (nd gn ls : Nat → Int32) (st : Int32) (L : Nat) (wa op ch cd cf co : Nat → Int32) : Nat → Nat → Nat → Int32 → Int32 → Prop
  | 0 => fun _ _ _ _ => False
  | m + 1 => fun k c o x => (k ≤ L ∧ pl_Sm (wa k) ∧ pl_Sm o ∧ pl_D15 x ∧ pl_Go na nd gn ls (wa k) o x) ∧
    ((∃ k' c' f d : Nat, ∃ o' x' : Int32, k = k' + 1 ∧ c = c' + 1 ∧ f < 8 ∧ d < 15 ∧ cd c' = nI d ∧ cf c' = nI (f + 8 * k) ∧ co c' = (o' ||| (x' <<< ((8 : Int32) &&& 31))) ∧ pl_T o' f ∧ pl_T (pl_dn gn d) f ∧ o = (o' &&& (pl_dn gn d ^^^ (-1))) ∧ x = (x' ||| ((1 : Int32) <<< (nI d &&& 31))) ∧ pl_NB na nd gn ls st k' f d o' x' ∧ pl_Cf na nd gn ls st L wa op ch cd cf co m k c' o' x')
      ∨ (o = wa k ∧ x = 0 ∧ ((k = L ∧ c = 0) ∨ (k < L ∧ op (k + 1) = 0 ∧ pl_Nx nd (ch (k + 1)) (wa k) ∧ pl_Cf na nd gn ls st L wa op ch cd cf co m (k + 1) c (op (k + 1)) (ch (k + 1))))))
section
variable {na : Nat} {nd gn ls : Nat → Int32} {st : Int32} {L : Nat} {wa op ch cd cf co : Nat → Int32}
theorem pl_Cf_hd {m k c : Nat} {o x : Int32} (h : pl_Cf na nd gn ls st L wa op ch cd cf co m k c o x) : k ≤ L ∧ pl_Sm (wa k) ∧ pl_Sm o ∧ pl_D15 x ∧ pl_Go na nd gn ls (wa k) o x := by
  cases m with
  | zero => exact h.elim
  | succ m => exact h.1
theorem pl_Cf_top : ∀ (m k c' : Nat) (o x : Int32), pl_Cf na nd gn ls st L wa op ch cd cf co m k (c' + 1) o x → ∃ k' f, k ≤ k' ∧ k' ≤ L ∧ f < 8 ∧ cf c' = nI (f + 8 * k')
  | 0, _, _, _, _, h => h.elim
  | m + 1, k, c', o, x, h => by
    obtain ⟨⟨h1, _⟩, ⟨k2, c2, f, d, o', x', e1, e2, hf, _, _, hcf, _⟩ | ⟨_, _, ⟨_, z⟩ | ⟨_, _, _, h2⟩⟩⟩ := h
    · have e : c' = c2 := by omega
      subst e
      exact ⟨k, f, Nat.le_refl k, h1, hf, hcf⟩
    · omega
    · obtain ⟨k', f, a1, a2, a3, a4⟩ := pl_Cf_top m (k + 1) c' _ _ h2
      exact ⟨k', f, by omega, a2, a3, a4⟩
theorem pl_Cf_cnt : ∀ (m k c : Nat) (o x : Int32), pl_Cf na nd gn ls st L wa op ch cd cf co m k c o x → c + pl_pc o 8 + 8 * k ≤ 8 * L + 8
  | 0, _, _, _, _, h => h.elim
  | m + 1, k, c, o, x, h => by
    obtain ⟨⟨h1, _⟩, ⟨k2, c2, f, d, o', x', e1, e2, hf, _, _, _, _, hof, hdf, eo, _, _, h2⟩ | ⟨_, _, ⟨_, z⟩ | ⟨_, _, _, h2⟩⟩⟩ := h
    · have ih := pl_Cf_cnt m k c2 o' x' h2
      have z : pl_pc o 8 < pl_pc o' 8 := by
        rw [eo]
        exact pl_pc_lt (fun i hi => ((pl_T_nand _ _ i).mp hi).1) (fun hi => ((pl_T_nand _ _ f).mp hi).2 hdf) hof 8 hf
      omega
    · have := pl_pc_le o 8
      omega
    · have ih := pl_Cf_cnt m (k + 1) c _ _ h2
      have := pl_pc_le o 8
      omega
theorem pl_Cf_fr {wa' op' ch' cd' cf' co' : Nat → Int32} : ∀ (m k c : Nat) (o x : Int32), (∀ j, k ≤ j → wa' j = wa j) → (∀ j, k < j → op' j = op j ∧ ch' j = ch j) → (∀ i, i < c → cd' i = cd i ∧ cf' i = cf i ∧ co' i = co i) → pl_Cf na nd gn ls st L wa op ch cd cf co m k c o x → pl_Cf na nd gn ls st L wa' op' ch' cd' cf' co' m k c o x
  | 0, _, _, _, _, _, _, _, h => h.elim
  | m + 1, k, c, o, x, hw, ho, hc, h => by
    obtain ⟨h1, ⟨k2, c2, f, d, o', x', e1, e2, hf, a1, a2, a3, a4, a5, a6, a7, a8, a9, h2⟩ | ⟨a1, a2, ⟨a3, a4⟩ | ⟨a3, a4, a5, h2⟩⟩⟩ := h
    · have w := hw k (Nat.le_refl k)
      obtain ⟨w1, w2, w3⟩ := hc c2 (by omega)
      refine ⟨by rw [w]; exact h1, Or.inl ⟨k2, c2, f, d, o', x', e1, e2, hf, a1, w1.trans a2, w2.trans a3, w3.trans a4, a5, a6, a7, a8, a9, ?_⟩⟩
      exact pl_Cf_fr m k c2 o' x' hw ho (fun i hi => hc i (by omega)) h2
    · have w := hw k (Nat.le_refl k)
      exact ⟨by rw [w]; exact h1, Or.inr ⟨by rw [w]; exact a1, a2, Or.inl ⟨a3, a4⟩⟩⟩
    · have w := hw k (Nat.le_refl k)
      obtain ⟨w1, w2⟩ := ho (k + 1) (by omega)
      refine ⟨by rw [w]; exact h1, Or.inr ⟨by rw [w]; exact a1, a2, Or.inr ⟨a3, by rw [w1]; exact a4, by rw [w, w2]; exact a5, ?_⟩⟩⟩
      rw [w1, w2]
      exact pl_Cf_fr m (k + 1) c _ _ (fun j hj => hw j (by omega)) (fun j hj => ho j (by omega)) hc h2
theorem pl_Cf_up (hD : pl_D na nd gn ls) : ∀ (m k c : Nat) (o x : Int32), pl_Cf na nd gn ls st L wa op ch cd cf co m k c o x → pl_Srv na nd gn ls st k (wa k) → ∀ j, k ≤ j → j ≤ L → pl_Srv na nd gn ls st j (wa j)
  | 0, _, _, _, _, h => h.elim
  | m + 1, k, c, o, x, h => by
    intro hS j h1 h2
    obtain ⟨_, ⟨k2, c2, f, d, o', x', e1, e2, hf, a1, a2, a3, a4, a5, a6, a7, a8, a9, hh⟩ | ⟨a1, a2, ⟨a3, a4⟩ | ⟨a3, a4, a5, hh⟩⟩⟩ := h
    · exact pl_Cf_up hD m k c2 o' x' hh hS j h1 h2
    · have e : j = k := by omega
      subst e; exact hS
    · rcases Nat.lt_or_ge k j with z | z
      · obtain ⟨_, _, _, _, g⟩ := pl_Cf_hd hh
        rw [a4] at g
        exact pl_Cf_up hD m (k + 1) c _ _ hh (pl_Go_srv hD g a5 hS) j (by omega) h2
      · have e : j = k := by omega
        subst e; exact hS
end
/-! the measure: the choices as the digits of a number -/
def pl_dg (x : Int32) : Nat := x.toNatClampNeg % 15 + 1
def pl_V (cd : Nat → Int32) : Nat → Nat
  | 0 => 0
  | c + 1 => pl_V cd c + pl_dg (cd c) * 16 ^ (63 - c)
theorem pl_V_s (cd : Nat → Int32) (c : Nat) : pl_V cd (c + 1) = pl_V cd c + pl_dg (cd c) * 16 ^ (63 - c) := rfl
def pl_B : Nat := 16 ^ 64
theorem pl_pw {c : Nat} (h : c < 64) : (16 : Nat) ^ (64 - c) = 16 * 16 ^ (63 - c) := by
  rw [show 64 - c = (63 - c) + 1 by omega, Nat.pow_succ, Nat.mul_comm]
theorem pl_dg_le (x : Int32) : pl_dg x ≤ 15 := by
  have : x.toNatClampNeg % 15 < 15 := Nat.mod_lt _ (by decide)
  unfold pl_dg; omega
theorem pl_dg_nI {d : Nat} (h : d < 15) : pl_dg (nI d) = d + 1 := by
  unfold pl_dg
  rw [nI_clamp (by omega), Nat.mod_eq_of_lt h]
theorem pl_V_le (cd : Nat → Int32) : ∀ c, c ≤ 64 → pl_V cd c + 16 ^ (64 - c) ≤ pl_B
  | 0, _ => by
    show 0 + 16 ^ 64 ≤ pl_B
    rw [Nat.zero_add]; exact Nat.le_refl _
  | c + 1, h => by
    have ih := pl_V_le cd c (by omega)
    rw [pl_pw (by omega)] at ih
    have hd := pl_dg_le (cd c)
    have e : (16 : Nat) ^ (64 - (c + 1)) = 16 ^ (63 - c) := by rw [show 64 - (c + 1) = 63 - c by omega]
    have hm : pl_dg (cd c) * 16 ^ (63 - c) ≤ 15 * 16 ^ (63 - c) := Nat.mul_le_mul_right _ hd
    rw [e, pl_V_s]
    generalize (16 : Nat) ^ (63 - c) = p at *
    omega
theorem pl_V_lt (cd : Nat → Int32) {c : Nat} (h : c ≤ 64) : pl_V cd c < pl_B := by
  have := pl_V_le cd c h
  have p : 0 < (16 : Nat) ^ (64 - c) := Nat.pow_pos (by decide)
  omega
theorem pl_V_fr {cd cd' : Nat → Int32} : ∀ c, (∀ i, i < c → cd' i = cd i) → pl_V cd' c = pl_V cd c
  | 0, _ => rfl
  | c + 1, h => by
    rw [pl_V_s, pl_V_s, pl_V_fr c (fun i hi => h i (by omega)), h c (by omega)]
theorem pl_V_pop {cd : Nat → Int32} {c V0 : Nat} (hc : c < 64) (h : V0 < pl_V cd (c + 1) + 16 ^ (63 - c)) : V0 < pl_V cd c + 16 ^ (64 - c) := by
  rw [pl_pw hc]
  rw [pl_V_s] at h
  have hd := pl_dg_le (cd c)
  have hm : pl_dg (cd c) * 16 ^ (63 - c) ≤ 15 * 16 ^ (63 - c) := Nat.mul_le_mul_right _ hd
  generalize (16 : Nat) ^ (63 - c) = p at *
  omega
theorem pl_V_push {cd cd' : Nat → Int32} {c V0 d d' : Nat} (h : V0 < pl_V cd (c + 1) + 16 ^ (63 - c)) (hf : ∀ i, i < c → cd' i = cd i) (e : cd c = nI d) (e' : cd' c = nI d') (hd : d < d') (hd' : d' < 15) : V0 < pl_V cd' (c + 1) := by
  rw [pl_V_s] at h ⊢
  rw [pl_V_fr c hf, e', pl_dg_nI hd']
  rw [e, pl_dg_nI (by omega)] at h
  have hm : (d + 1 + 1) * 16 ^ (63 - c) ≤ (d' + 1) * 16 ^ (63 - c) := Nat.mul_le_mul_right _ (by omega)
  rw [Nat.add_mul (d + 1) 1] at hm
  omega
theorem pl_V_up {cd cd' : Nat → Int32} {c : Nat} (hf : ∀ i, i < c → cd' i = cd i) : pl_V cd c < pl_V cd' (c + 1) := by
  rw [pl_V_s, pl_V_fr c hf]
  have p : 0 < (16 : Nat) ^ (63 - c) := Nat.pow_pos (by decide)
  have z : 0 < pl_dg (cd' c) * 16 ^ (63 - c) := Nat.mul_pos (by unfold pl_dg; omega) p
  omega
end
section
theorem pl_if {c d A B : Prop} (e : c ↔ d) (f : d → A) (g : ¬ d → B) : (c → A) ∧ (¬ c → B) := ⟨fun h => f (e.mp h), fun h => g (fun z => h (e.mpr z))⟩
theorem pl_bit {c d A B : Prop} (e : c ↔ ¬ d) (f : ¬ d → A) (g : d → B) : (c → A) ∧ (¬ c → B) := ⟨fun h => f (e.mp h), fun h => g (Classical.byContradiction (fun z => h (e.mpr z)))⟩
theorem pl_8 (k i : Nat) : 8 * nI k + nI i = nI (8 * k + i) := by rw [show (8 : Int32) * nI k = nI (8 * k) from pk_mul 8 k, nI_add]
theorem pl_15 (k i : Nat) : 15 * nI k + nI i = nI (15 * k + i) := by rw [show (15 : Int32) * nI k = nI (15 * k) from pk_mul 15 k, nI_add]
section
variable {na : Nat} {st bu cc : Int32} {nd gn ls fa da fb db cl wa op ch cd cf co : Nat → Int32} {fl sv : Nat → Int64}
theorem xw_isSet {post : Int32 → Prop} (x : Int32) (h1 : pl_Sm x → post 1) (h0 : ¬ pl_Sm x → post 0) : wpX_isSet post (nI na, st, bu, cc, nd, gn, ls, fa, da, fb, db, cl, fl, sv, wa, op, ch, cd, cf, co) x :=
  br_c (fun a => h0 (fun z => ((pl_Sm_iff x).mp z).1 a)) (fun a => br_c (fun b => h0 (fun z => ((pl_Sm_iff x).mp z).2 b)) (fun b => h1 ((pl_Sm_iff x).mpr ⟨a, b⟩)))
theorem xw_isAction {post : Int32 → Prop} (hna : na ≤ 7) (x : Int32) (h1 : ∀ i, i < na → x = nI i → post 1) (h0 : (∀ i, i < na → x ≠ nI i) → post 0) : wpX_isAction post (nI na, st, bu, cc, nd, gn, ls, fa, da, fb, db, cl, fl, sv, wa, op, ch, cd, cf, co) x := by
  refine br_c (fun a => h0 (fun i hi e => ?_)) (fun a => ?_)
  · rw [e] at a; exact nI_pos (by omega) a
  · obtain ⟨j, hj, rfl⟩ := nI_of a
    exact pk_le na j (fun w => h0 (fun i hi e => by rw [nI_eq hj (by omega)] at e; omega)) (fun w => h1 j w rfl)
theorem xw_needsOf {post : Int32 → Prop} {d : Nat} (hd : d < 15) (h : post (pl_dn nd d)) : wpX_needsOf post (nI na, st, bu, cc, nd, gn, ls, fa, da, fb, db, cl, fl, sv, wa, op, ch, cd, cf, co) (nI d) := by
  refine pk_le 7 d (fun z => ?_) (fun z => ⟨pk_in d 7 z, ?_⟩)
  · unfold pl_dn at h
    rw [if_neg (by omega)] at h
    rw [show nI d - 7 = nI (d - 7) from pk_sub z]
    exact h
  · rw [nI_clamp (by omega)]
    rw [pl_dn_lo z] at h
    exact h
theorem xw_gainsOf {post : Int32 → Prop} {d : Nat} (hd : d < 15) (h : post (pl_dn gn d)) : wpX_gainsOf post (nI na, st, bu, cc, nd, gn, ls, fa, da, fb, db, cl, fl, sv, wa, op, ch, cd, cf, co) (nI d) := by
  refine pk_le 7 d (fun z => ?_) (fun z => ⟨pk_in d 7 z, ?_⟩)
  · unfold pl_dn at h
    rw [if_neg (by omega)] at h
    rw [show nI d - 7 = nI (d - 7) from pk_sub z]
    exact h
  · rw [nI_clamp (by omega)]
    rw [pl_dn_lo z] at h
    exact h
theorem xw_lossesOf {post : Int32 → Prop} {d : Nat} (hd : d < 15) (h : post (pl_dl ls d)) : wpX_lossesOf post (nI na, st, bu, cc, nd, gn, ls, fa, da, fb, db, cl, fl, sv, wa, op, ch, cd, cf, co) (nI d) := by
  refine pk_le 7 d (fun z => ?_) (fun z => ⟨pk_in d 7 z, ?_⟩)
  · rw [pl_dl_hi z] at h
    exact h
  · rw [nI_clamp (by omega)]
    rw [pl_dl_lo z] at h
    exact h
theorem xw_deedsClash {post : Int32 → Prop} {d e : Nat} (hd : d < 15) (he : e < 15) (h1 : pl_DC nd gn ls d e → post 1) (h0 : ¬ pl_DC nd gn ls d e → post 0) : wpX_deedsClash post (nI na, st, bu, cc, nd, gn, ls, fa, da, fb, db, cl, fl, sv, wa, op, ch, cd, cf, co) (nI d) (nI e) := by
  unfold wpX_deedsClash
  dsimp only
  refine xw_needsOf hd ?_
  refine xw_gainsOf hd ?_
  refine nm_e ?_
  refine xw_needsOf he ?_
  refine xw_gainsOf he ?_
  refine nm_e ?_
  refine xw_lossesOf hd ?_
  refine br_c (fun a => xw_lossesOf he ?_) (fun a => h1 (Or.inl a))
  refine br_c (fun b => h0 ?_) (fun b => h1 (Or.inr b))
  rintro (z | z)
  · exact z a
  · exact z b
theorem xw_exists {post : Int32 → Prop} (hna : na ≤ 7) {d : Nat} (hd : d < 15) (h1 : pl_ex na d → post 1) (h0 : ¬ pl_ex na d → post 0) : wpX_exists post (nI na, st, bu, cc, nd, gn, ls, fa, da, fb, db, cl, fl, sv, wa, op, ch, cd, cf, co) (nI d) := by
  refine pk_le 7 d (fun z => h1 (Or.inl z)) (fun z => pk_le na d (fun w => h0 ?_) (fun w => h1 (Or.inr w)))
  rintro (a | a) <;> omega
theorem xw_cbt_l {post : Int32 → Prop} {x : Int32} {k : Nat} (hk : k ≤ 8) (h1 : (∀ f, f < 8 → pl_T x f → (fb (8 * k + f) &&& x) = 0) → post 1) (h0 : (∃ f, f < 8 ∧ pl_T x f ∧ ¬ (fb (8 * k + f) &&& x) = 0) → post 0) : ∀ (t i n : Nat), i + t = 8 → t < n → (∀ f, f < i → pl_T x f → (fb (8 * k + f) &&& x) = 0) → wX_canBeTogether_17 post x (nI k) (nI na) st bu cc nd gn ls fa da fb db cl fl sv wa op ch cd cf co n (nI i) := by
  intro t
  induction t with
  | zero =>
    intro i n hi hn hf
    obtain ⟨n, rfl⟩ : ∃ n', n = n' + 1 := ⟨n - 1, by omega⟩
    have e : i = 8 := by omega
    subst e
    exact br_t (nI_le (a := 8) (b := 8) (by omega) (by decide)) (h1 hf)
  | succ t ih =>
    intro i n hi hn hf
    obtain ⟨n, rfl⟩ : ∃ n', n = n' + 1 := ⟨n - 1, by omega⟩
    have nx : (pl_T x i → (fb (8 * k + i) &&& x) = 0) → ∀ y, y = nI i + 1 → wX_canBeTogether_17 post x (nI k) (nI na) st bu cc nd gn ls fa da fb db cl fl sv wa op ch cd cf co n y := by
      intro hx y ey
      rw [ey, nI_1]
      refine ih (i + 1) n (by omega) (by omega) (fun f hf' hT => ?_)
      rcases Nat.lt_or_ge f i with z | z
      · exact hf f z hT
      · have e : f = i := by omega
        subst e; exact hx hT
    refine br_f (nI_ge (b := 8) (by omega) (by decide)) (pl_bit (pl_sh x (by omega)) (fun z => nx (fun hT => absurd hT z)) (fun z => ?_))
    rw [pl_8, nI_clamp (by omega)]
    exact ⟨vp_in_nI (by omega) (by decide), br_c (fun w => nx (fun _ => w)) (fun w => h0 ⟨i, by omega, z, w⟩)⟩
theorem xw_cbt {post : Int32 → Prop} {x : Int32} {k : Nat} (hk : k ≤ 8) (h1 : pl_CB fa fb x k → post 1) (h0 : ¬ pl_CB fa fb x k → post 0) : wpX_canBeTogether post (nI na, st, bu, cc, nd, gn, ls, fa, da, fb, db, cl, fl, sv, wa, op, ch, cd, cf, co) x (nI k) := by
  unfold wpX_canBeTogether
  dsimp only
  rw [nI_clamp (by omega)]
  refine ⟨vp_in_nI (by omega) (by decide), pl_if (pl_sub x (fa k)) (fun z => ⟨9, ?_⟩) (fun z => h0 (fun w => z w.1))⟩
  exact xw_cbt_l hk (fun w => h1 ⟨z, w⟩) (fun ⟨f, a, b, c⟩ => h0 (fun w => c (w.2 f a b))) 8 0 9 (by omega) (by omega) (fun f hf => absurd hf (by omega))
theorem xw_mk_l {post : Int32 → Prop} {f k : Nat} (hf : f < 8) (hk : k < 9) (h : ∀ r, (∀ d, pl_T r d ↔ pl_mk gn da k f d) → post r) : ∀ (t i n : Nat) (r : Int32), i + t = 15 → t < n → (∀ d, pl_T r d ↔ d < i ∧ pl_mk gn da k f d) → wX_makersOf_5 post (nI f) (nI k) (nI na) st bu cc nd gn ls fa da fb db cl fl sv wa op ch cd cf co n r (nI i) := by
  intro t
  induction t with
  | zero =>
    intro i n r hi hn hr
    obtain ⟨n, rfl⟩ : ∃ n', n = n' + 1 := ⟨n - 1, by omega⟩
    have e : i = 15 := by omega
    subst e
    exact br_t (nI_le (a := 15) (b := 15) (by omega) (by decide)) (h r (fun d => (hr d).trans ⟨fun a => a.2, fun a => ⟨a.1, a⟩⟩))
  | succ t ih =>
    intro i n r hi hn hr
    obtain ⟨n, rfl⟩ : ∃ n', n = n' + 1 := ⟨n - 1, by omega⟩
    have nx0 : ¬ pl_mk gn da k f i → ∀ y, y = nI i + 1 → wX_makersOf_5 post (nI f) (nI k) (nI na) st bu cc nd gn ls fa da fb db cl fl sv wa op ch cd cf co n r y := by
      intro hx y ey
      rw [ey, nI_1]
      refine ih (i + 1) n r (by omega) (by omega) (fun d => (hr d).trans ⟨fun a => ⟨by omega, a.2⟩, fun a => ⟨?_, a.2⟩⟩)
      rcases Nat.lt_or_ge d i with z | z
      · exact z
      · have e : d = i := by omega
        subst e; exact absurd a.2 hx
    have nx1 : pl_mk gn da k f i → ∀ y, y = nI i + 1 → wX_makersOf_5 post (nI f) (nI k) (nI na) st bu cc nd gn ls fa da fb db cl fl sv wa op ch cd cf co n (r ||| ((1 : Int32) <<< (nI i &&& 31))) y := by
      intro hx y ey
      rw [ey, nI_1]
      refine ih (i + 1) n _ (by omega) (by omega) (fun d => (pl_T_add (by omega) d).trans ⟨?_, ?_⟩)
      · rintro (a | a)
        · have b := (hr d).mp a
          exact ⟨by omega, b.2⟩
        · subst a; exact ⟨by omega, hx⟩
      · rintro ⟨a, b⟩
        rcases Nat.lt_or_ge d i with z | z
        · exact Or.inl ((hr d).mpr ⟨z, b⟩)
        · exact Or.inr (by omega)
    refine br_f (nI_ge (b := 15) (by omega) (by decide)) ⟨vp_in_nI (by omega) (by decide), ?_⟩
    rw [nI_clamp (by omega)]
    refine pl_bit (pl_sh _ (by omega)) (fun z => nx0 (fun w => z w.2.1)) (fun z => xw_gainsOf (by omega) ?_)
    exact pl_bit (pl_sh _ (by omega)) (fun w => nx0 (fun v => w v.2.2)) (fun w => nm_e (nx1 ⟨by omega, z, w⟩))
theorem xw_makersOf {post : Int32 → Prop} {f k : Nat} (hf : f < 8) (hk : k < 9) (h : ∀ r, (∀ d, pl_T r d ↔ pl_mk gn da k f d) → post r) : wpX_makersOf post (nI na, st, bu, cc, nd, gn, ls, fa, da, fb, db, cl, fl, sv, wa, op, ch, cd, cf, co) (nI f) (nI k) :=
  ⟨16, xw_mk_l hf hk h 15 0 16 0 (by omega) (by omega) (fun d => ⟨fun a => absurd a (pl_T_0 d), fun a => absurd a.1 (by omega)⟩)⟩
theorem xw_ab_l {post : Int32 → Prop} {k : Nat} {r1 r2 : Int32} (hk : k < 9) (h1 : (∀ d, d < 15 → pl_T r1 d → pl_Sub r2 (db (15 * k + d))) → post 1) (h0 : (∃ d, d < 15 ∧ pl_T r1 d ∧ ¬ pl_Sub r2 (db (15 * k + d))) → post 0) : ∀ (t i n : Nat), i + t = 15 → t < n → (∀ d, d < i → pl_T r1 d → pl_Sub r2 (db (15 * k + d))) → wX_allBarred_19 post (nI k) r1 r2 (nI na) st bu cc nd gn ls fa da fb db cl fl sv wa op ch cd cf co n (nI i) := by
  intro t
  induction t with
  | zero =>
    intro i n hi hn hf
    obtain ⟨n, rfl⟩ : ∃ n', n = n' + 1 := ⟨n - 1, by omega⟩
    have e : i = 15 := by omega
    subst e
    exact br_t (nI_le (a := 15) (b := 15) (by omega) (by decide)) (h1 hf)
  | succ t ih =>
    intro i n hi hn hf
    obtain ⟨n, rfl⟩ : ∃ n', n = n' + 1 := ⟨n - 1, by omega⟩
    have nx : (pl_T r1 i → pl_Sub r2 (db (15 * k + i))) → ∀ y, y = nI i + 1 → wX_allBarred_19 post (nI k) r1 r2 (nI na) st bu cc nd gn ls fa da fb db cl fl sv wa op ch cd cf co n y := by
      intro hx y ey
      rw [ey, nI_1]
      refine ih (i + 1) n (by omega) (by omega) (fun f hf' hT => ?_)
      rcases Nat.lt_or_ge f i with z | z
      · exact hf f z hT
      · have e : f = i := by omega
        subst e; exact hx hT
    refine br_f (nI_ge (b := 15) (by omega) (by decide)) (pl_bit (pl_sh r1 (by omega)) (fun z => nx (fun hT => absurd hT z)) (fun z => ?_))
    rw [pl_15, nI_clamp (by omega)]
    exact ⟨vp_in_nI (by omega) (by decide), pl_if (pl_sub r2 (db (15 * k + i))) (fun w => nx (fun _ => w)) (fun w => h0 ⟨i, by omega, z, w⟩)⟩
theorem xw_allBarred {post : Int32 → Prop} {f g k : Nat} (hf : f < 8) (hg : g < 8) (hk : k < 9) (h1 : pl_AB gn da db k f g → post 1) (h0 : ¬ pl_AB gn da db k f g → post 0) : wpX_allBarred post (nI na, st, bu, cc, nd, gn, ls, fa, da, fb, db, cl, fl, sv, wa, op, ch, cd, cf, co) (nI f) (nI g) (nI k) := by
  unfold wpX_allBarred
  dsimp only
  refine xw_makersOf hf hk (fun r1 hr1 => ?_)
  refine xw_makersOf hg hk (fun r2 hr2 => ?_)
  refine ⟨16, xw_ab_l hk (fun w => h1 ?_) (fun w => h0 ?_) 15 0 16 (by omega) (by omega) (fun f hf => absurd hf (by omega))⟩
  · intro d hd e he
    exact w d hd.1 ((hr1 d).mpr hd) e ((hr2 e).mpr he)
  · obtain ⟨d, _, hd, hn⟩ := w
    exact fun z => hn (fun e he => z d ((hr1 d).mp hd) e ((hr2 e).mp he))
end
end
section
def pl_row (nd fa fb da cl : Nat → Int32) (k d i : Nat) (w : Int32) : Prop := ∀ e, pl_T w e ↔ pl_T (cl d) e ∨ (e < i ∧ d ≠ e ∧ pl_T (da k) d ∧ pl_T (da k) e ∧ ¬ pl_CB fa fb (pl_dn nd d ||| pl_dn nd e) k)
section
variable {na : Nat} {st bu cc : Int32} {nd gn ls fa da fb db cl wa op ch cd cf co : Nat → Int32} {fl sv : Nat → Int64}
theorem xw_fd9 {post : SX → Prop} {k : Nat} (hk : k < 9) (hna : na ≤ 7) (h : ∀ da1 : Nat → Int32, (∀ j, j ≠ k → da1 j = da j) → pl_Gd na nd fa fb da1 k → ∃ n58 : Nat, wX_findDeeds_58 post (nI k) (nI na) st bu cc n58 0 nd gn ls fa da1 fb db cl fl sv wa op ch cd cf co) : ∀ (t i n : Nat) (da1 : Nat → Int32), i + t = 15 → t < n → (∀ j, j ≠ k → da1 j = da j) → (∀ d, pl_T (da1 k) d ↔ d < i ∧ pl_ex na d ∧ pl_CB fa fb (pl_dn nd d) k) → wX_findDeeds_9 post (nI k) (nI na) st bu cc n (nI i) nd gn ls fa da1 fb db cl fl sv wa op ch cd cf co := by
  intro t
  induction t with
  | zero =>
    intro i n da1 hi hn hfr hr
    obtain ⟨n, rfl⟩ : ∃ n', n = n' + 1 := ⟨n - 1, by omega⟩
    have e : i = 15 := by omega
    subst e
    exact br_t (nI_le (a := 15) (b := 15) (by omega) (by decide)) (h da1 hfr hr)
  | succ t ih =>
    intro i n da1 hi hn hfr hr
    obtain ⟨n, rfl⟩ : ∃ n', n = n' + 1 := ⟨n - 1, by omega⟩
    have nx0 : ¬ (pl_ex na i ∧ pl_CB fa fb (pl_dn nd i) k) → ∀ y, y = nI i + 1 → wX_findDeeds_9 post (nI k) (nI na) st bu cc n y nd gn ls fa da1 fb db cl fl sv wa op ch cd cf co := by
      intro hx y ey
      rw [ey, nI_1]
      refine ih (i + 1) n da1 (by omega) (by omega) hfr (fun d => (hr d).trans ⟨fun a => ⟨by omega, a.2⟩, fun a => ⟨?_, a.2⟩⟩)
      rcases Nat.lt_or_ge d i with z | z
      · exact z
      · have e : d = i := by omega
        subst e; exact absurd a.2 hx
    have nx1 : (pl_ex na i ∧ pl_CB fa fb (pl_dn nd i) k) → ∀ y, y = nI i + 1 → wX_findDeeds_9 post (nI k) (nI na) st bu cc n y nd gn ls fa (upd da1 k (da1 k ||| ((1 : Int32) <<< (nI i &&& 31)))) fb db cl fl sv wa op ch cd cf co := by
      intro hx y ey
      rw [ey, nI_1]
      refine ih (i + 1) n _ (by omega) (by omega) (fun j hj => by rw [pk_un hj]; exact hfr j hj) (fun d => ?_)
      rw [pk_us, pl_T_add (by omega)]
      constructor
      · rintro (a | a)
        · have b := (hr d).mp a
          exact ⟨by omega, b.2⟩
        · subst a; exact ⟨by omega, hx⟩
      · rintro ⟨a, b⟩
        rcases Nat.lt_or_ge d i with z | z
        · exact Or.inl ((hr d).mpr ⟨z, b⟩)
        · exact Or.inr (by omega)
    refine br_f (nI_ge (b := 15) (by omega) (by decide)) (xw_needsOf (by omega) ?_)
    refine xw_exists hna (by omega) (fun a => ?_) (fun a => ?_)
    · refine br_f (by decide) (xw_cbt (by omega) (fun b => ?_) (fun b => ?_))
      · refine br_f (by decide) ?_
        rw [nI_clamp (by omega)]
        exact ⟨vp_in_nI (by omega) (by decide), vp_in_nI (by omega) (by decide), nm_e (nx1 ⟨a, b⟩)⟩
      · exact br_t rfl (nx0 (fun z => b z.2))
    · exact br_t rfl (nx0 (fun z => a z.1))
theorem xw_fd83 {post : SX → Prop} {J : Int32 → (Nat → Int32) → (Nat → Int32) → (Nat → Int32) → (Nat → Int32) → (Nat → Int32) → (Nat → Int32) → (Nat → Int32) → (Nat → Int32) → (Nat → Int64) → (Nat → Int64) → (Nat → Int32) → (Nat → Int32) → (Nat → Int32) → (Nat → Int32) → (Nat → Int32) → (Nat → Int32) → Prop} {k d : Nat} (hk : k < 9) (hd : d < 15) (h : ∀ db1 : Nat → Int32, (∀ j, j ≠ 15 * k + d → db1 j = db j) → pl_row nd fa fb da cl k d 15 (db1 (15 * k + d)) → J (nI (d + 1)) nd gn ls fa da fb db1 cl fl sv wa op ch cd cf co) : ∀ (t i n : Nat) (db1 : Nat → Int32), i + t = 15 → t < n → (∀ j, j ≠ 15 * k + d → db1 j = db j) → pl_row nd fa fb da cl k d i (db1 (15 * k + d)) → wX_findDeeds_83 post J (nI k) (nI d) (nI na) st bu cc n (nI i) nd gn ls fa da fb db1 cl fl sv wa op ch cd cf co := by
  intro t
  induction t with
  | zero =>
    intro i n db1 hi hn hfr hr
    obtain ⟨n, rfl⟩ : ∃ n', n = n' + 1 := ⟨n - 1, by omega⟩
    have e : i = 15 := by omega
    subst e
    exact br_t (nI_le (a := 15) (b := 15) (by omega) (by decide)) (nm_r (nI_1 d) (h db1 hfr hr))
  | succ t ih =>
    intro i n db1 hi hn hfr hr
    obtain ⟨n, rfl⟩ : ∃ n', n = n' + 1 := ⟨n - 1, by omega⟩
    have nx0 : ¬ (d ≠ i ∧ pl_T (da k) d ∧ pl_T (da k) i ∧ ¬ pl_CB fa fb (pl_dn nd d ||| pl_dn nd i) k) → ∀ y, y = nI i + 1 → wX_findDeeds_83 post J (nI k) (nI d) (nI na) st bu cc n y nd gn ls fa da fb db1 cl fl sv wa op ch cd cf co := by
      intro hx y ey
      rw [ey, nI_1]
      refine ih (i + 1) n db1 (by omega) (by omega) hfr (fun e => (hr e).trans (or_congr Iff.rfl ⟨fun a => ⟨by omega, a.2⟩, fun a => ⟨?_, a.2⟩⟩))
      rcases Nat.lt_or_ge e i with z | z
      · exact z
      · have e : e = i := by omega
        subst e; exact absurd a.2 hx
    have nx1 : (d ≠ i ∧ pl_T (da k) d ∧ pl_T (da k) i ∧ ¬ pl_CB fa fb (pl_dn nd d ||| pl_dn nd i) k) → ∀ y, y = nI i + 1 → wX_findDeeds_83 post J (nI k) (nI d) (nI na) st bu cc n y nd gn ls fa da fb (upd db1 (15 * k + d) (db1 (15 * k + d) ||| ((1 : Int32) <<< (nI i &&& 31)))) cl fl sv wa op ch cd cf co := by
      intro hx y ey
      rw [ey, nI_1]
      refine ih (i + 1) n _ (by omega) (by omega) (fun j hj => by rw [pk_un hj]; exact hfr j hj) (fun e => ?_)
      rw [pk_us, pl_T_add (by omega)]
      constructor
      · rintro (a | a)
        · rcases (hr e).mp a with b | b
          · exact Or.inl b
          · exact Or.inr ⟨by omega, b.2⟩
        · subst a; exact Or.inr ⟨by omega, hx⟩
      · rintro (a | ⟨a, b⟩)
        · exact Or.inl ((hr e).mpr (Or.inl a))
        · rcases Nat.lt_or_ge e i with z | z
          · exact Or.inl ((hr e).mpr (Or.inr ⟨z, b⟩))
          · exact Or.inr (by omega)
    refine br_f (nI_ge (b := 15) (by omega) (by decide)) (pk_eq d i (fun z => nx0 (fun w => w.1 z)) (fun z => ?_))
    rw [nI_clamp (by omega)]
    refine ⟨vp_in_nI (by omega) (by decide), vp_in_nI (by omega) (by decide), ?_⟩
    refine pl_bit (pl_sh2 _ _ (by omega) (by omega)) (fun w => nx0 (fun v => w ⟨v.2.1, v.2.2.1⟩)) (fun w => ?_)
    refine xw_needsOf (by omega) ?_
    refine xw_needsOf (by omega) ?_
    refine nm_e ?_
    refine xw_cbt (by omega) (fun b => ?_) (fun b => ?_)
    · exact br_f (by decide) (nx0 (fun v => v.2.2.2 b))
    · refine br_t rfl ?_
      rw [pl_15, nI_clamp (by omega)]
      exact ⟨vp_in_nI (by omega) (by decide), vp_in_nI (by omega) (by decide), nm_e (nx1 ⟨z, w.1, w.2, b⟩)⟩
theorem xw_fd58 {post : SX → Prop} {k : Nat} (hk : k < 9) (h : ∀ db1 : Nat → Int32, (∀ j, (j < 15 * k ∨ 15 * k + 15 ≤ j) → db1 j = db j) → pl_Gb nd fa fb da db1 cl k → post (nI na, st, bu, cc, nd, gn, ls, fa, da, fb, db1, cl, fl, sv, wa, op, ch, cd, cf, co)) : ∀ (t i n : Nat) (db1 : Nat → Int32), i + t = 15 → t < n → (∀ j, (j < 15 * k ∨ 15 * k + 15 ≤ j) → db1 j = db j) → (∀ d, d < i → pl_row nd fa fb da cl k d 15 (db1 (15 * k + d))) → wX_findDeeds_58 post (nI k) (nI na) st bu cc n (nI i) nd gn ls fa da fb db1 cl fl sv wa op ch cd cf co := by
  intro t
  induction t with
  | zero =>
    intro i n db1 hi hn hfr hr
    obtain ⟨n, rfl⟩ : ∃ n', n = n' + 1 := ⟨n - 1, by omega⟩
    have e : i = 15 := by omega
    subst e
    exact br_t (nI_le (a := 15) (b := 15) (by omega) (by decide)) (h db1 hfr hr)
  | succ t ih =>
    intro i n db1 hi hn hfr hr
    obtain ⟨n, rfl⟩ : ∃ n', n = n' + 1 := ⟨n - 1, by omega⟩
    refine br_f (nI_ge (b := 15) (by omega) (by decide)) ⟨vp_in_nI (by omega) (by decide), ?_⟩
    rw [pl_15, nI_clamp (by omega), nI_clamp (by omega)]
    refine ⟨vp_in_nI (by omega) (by decide), nm_e ⟨16, ?_⟩⟩
    refine xw_fd83 (db := upd db1 (15 * k + i) (cl i)) hk (by omega) (fun db2 hf2 hr2 => ?_) 15 0 16 _ (by omega) (by omega) (fun j hj => rfl) (fun e => ?_)
    · refine ih (i + 1) n db2 (by omega) (by omega) (fun j hj => ?_) (fun d hd => ?_)
      · rw [hf2 j (by omega), pk_un (by omega)]
        exact hfr j hj
      · rcases Nat.lt_or_ge d i with z | z
        · rw [hf2 _ (by omega), pk_un (by omega)]
          exact hr d z
        · have e : d = i := by omega
          subst e; exact hr2
    · rw [pk_us]
      exact ⟨Or.inl, fun z => z.elim id (fun w => absurd w.1 (by omega))⟩
theorem xw_findDeeds {post : SX → Prop} {k : Nat} (hk : k < 9) (hna : na ≤ 7) (h : ∀ da1 db1 : Nat → Int32, (∀ j, j ≠ k → da1 j = da j) → (∀ j, (j < 15 * k ∨ 15 * k + 15 ≤ j) → db1 j = db j) → pl_Gd na nd fa fb da1 k → pl_Gb nd fa fb da1 db1 cl k → post (nI na, st, bu, cc, nd, gn, ls, fa, da1, fb, db1, cl, fl, sv, wa, op, ch, cd, cf, co)) : wpX_findDeeds post (nI na, st, bu, cc, nd, gn, ls, fa, da, fb, db, cl, fl, sv, wa, op, ch, cd, cf, co) (nI k) := by
  unfold wpX_findDeeds
  dsimp only
  rw [nI_clamp (by omega)]
  refine ⟨vp_in_nI (by omega) (by decide), nm_e ⟨16, ?_⟩⟩
  refine xw_fd9 (da := da) hk hna (fun da1 hf1 hg1 => ⟨16, ?_⟩) 15 0 16 _ (by omega) (by omega) (fun j hj => pk_un hj) (fun d => ?_)
  · exact xw_fd58 (db := db) hk (fun db1 hf2 hg2 => h da1 db1 hf1 hf2 hg1 hg2) 15 0 16 db (by omega) (by omega) (fun j _ => rfl) (fun d hd => absurd hd (by omega))
  · rw [pk_us]
    exact ⟨fun a => absurd a (pl_T_0 d), fun a => absurd a.1 (by omega)⟩
/-! findFacts -/
theorem xw_ff58 {post : SX → Prop} {J : Int32 → (Nat → Int32) → (Nat → Int32) → (Nat → Int32) → (Nat → Int32) → (Nat → Int32) → (Nat → Int32) → (Nat → Int32) → (Nat → Int32) → (Nat → Int64) → (Nat → Int64) → (Nat → Int32) → (Nat → Int32) → (Nat → Int32) → (Nat → Int32) → (Nat → Int32) → (Nat → Int32) → Prop} {k f : Nat} {F : Int32} (hk : k < 8) (hf : f < 8) (h : ∀ w : Int32, (∀ g, pl_T w g ↔ g < 8 ∧ f ≠ g ∧ (pl_T F f ∧ pl_T F g) ∧ pl_AB gn da db k f g) → J (nI (f + 1)) nd gn ls fa da (upd fb (8 * k + 8 + f) w) db cl fl sv wa op ch cd cf co) : ∀ (t i n : Nat) (w : Int32), i + t = 8 → t < n → (∀ g, pl_T w g ↔ g < i ∧ f ≠ g ∧ (pl_T F f ∧ pl_T F g) ∧ pl_AB gn da db k f g) → wX_findFacts_58 post J (nI k) F (nI f) (nI na) st bu cc nd gn ls fa da fb db cl fl sv wa op ch cd cf co n w (nI i) := by
  intro t
  induction t with
  | zero =>
    intro i n w hi hn hr
    obtain ⟨n, rfl⟩ : ∃ n', n = n' + 1 := ⟨n - 1, by omega⟩
    have e : i = 8 := by omega
    subst e
    have ei : 8 * nI k + 8 + nI f = nI (8 * k + 8 + f) := by
      rw [show (8 : Int32) * nI k + 8 = nI (8 * k + 8) from pl_8 k 8, nI_add]
    refine br_t (nI_le (a := 8) (b := 8) (by omega) (by decide)) ?_
    rw [ei, nI_clamp (by omega)]
    exact ⟨vp_in_nI (by omega) (by decide), nm_e (nm_r (nI_1 f) (h w hr))⟩
  | succ t ih =>
    intro i n w hi hn hr
    obtain ⟨n, rfl⟩ : ∃ n', n = n' + 1 := ⟨n - 1, by omega⟩
    have nx0 : ¬ (f ≠ i ∧ (pl_T F f ∧ pl_T F i) ∧ pl_AB gn da db k f i) → ∀ y, y = nI i + 1 → wX_findFacts_58 post J (nI k) F (nI f) (nI na) st bu cc nd gn ls fa da fb db cl fl sv wa op ch cd cf co n w y := by
      intro hx y ey
      rw [ey, nI_1]
      refine ih (i + 1) n w (by omega) (by omega) (fun e => (hr e).trans ⟨fun a => ⟨by omega, a.2⟩, fun a => ⟨?_, a.2⟩⟩)
      rcases Nat.lt_or_ge e i with z | z
      · exact z
      · have e : e = i := by omega
        subst e; exact absurd a.2 hx
    have nx1 : (f ≠ i ∧ (pl_T F f ∧ pl_T F i) ∧ pl_AB gn da db k f i) → ∀ y, y = nI i + 1 → wX_findFacts_58 post J (nI k) F (nI f) (nI na) st bu cc nd gn ls fa da fb db cl fl sv wa op ch cd cf co n (w ||| ((1 : Int32) <<< (nI i &&& 31))) y := by
      intro hx y ey
      rw [ey, nI_1]
      refine ih (i + 1) n _ (by omega) (by omega) (fun e => (pl_T_add (by omega) e).trans ⟨?_, ?_⟩)
      · rintro (a | a)
        · have b := (hr e).mp a
          exact ⟨by omega, b.2⟩
        · subst a; exact ⟨by omega, hx⟩
      · rintro ⟨a, b⟩
        rcases Nat.lt_or_ge e i with z | z
        · exact Or.inl ((hr e).mpr ⟨z, b⟩)
        · exact Or.inr (by omega)
    refine br_f (nI_ge (b := 8) (by omega) (by decide)) (pk_eq f i (fun z => nx0 (fun w => w.1 z)) (fun z => ?_))
    refine pl_bit (pl_sh2 _ _ (by omega) (by omega)) (fun w => nx0 (fun v => w v.2.1)) (fun w => ?_)
    refine xw_allBarred (by omega) (by omega) (by omega) (fun b => ?_) (fun b => ?_)
    · exact br_f (by decide) (nm_e (nx1 ⟨z, w, b⟩))
    · exact br_t rfl (nx0 (fun v => b v.2.2))
theorem xw_ff46 {post : SX → Prop} {k : Nat} {F : Int32} (hk : k < 8) (h : ∀ fb1 : Nat → Int32, (∀ j, (j < 8 * k + 8 ∨ 8 * k + 16 ≤ j) → fb1 j = fb j) → (∀ f, f < 8 → ∀ g, pl_T (fb1 (8 * k + 8 + f)) g ↔ g < 8 ∧ f ≠ g ∧ (pl_T F f ∧ pl_T F g) ∧ pl_AB gn da db k f g) → post (nI na, st, bu, cc, nd, gn, ls, fa, da, fb1, db, cl, fl, sv, wa, op, ch, cd, cf, co)) : ∀ (t i n : Nat) (fb1 : Nat → Int32), i + t = 8 → t < n → (∀ j, (j < 8 * k + 8 ∨ 8 * k + 16 ≤ j) → fb1 j = fb j) → (∀ f, f < i → ∀ g, pl_T (fb1 (8 * k + 8 + f)) g ↔ g < 8 ∧ f ≠ g ∧ (pl_T F f ∧ pl_T F g) ∧ pl_AB gn da db k f g) → wX_findFacts_46 post (nI k) F (nI na) st bu cc n (nI i) nd gn ls fa da fb1 db cl fl sv wa op ch cd cf co := by
  intro t
  induction t with
  | zero =>
    intro i n fb1 hi hn hfr hr
    obtain ⟨n, rfl⟩ : ∃ n', n = n' + 1 := ⟨n - 1, by omega⟩
    have e : i = 8 := by omega
    subst e
    exact br_t (nI_le (a := 8) (b := 8) (by omega) (by decide)) (h fb1 hfr hr)
  | succ t ih =>
    intro i n fb1 hi hn hfr hr
    obtain ⟨n, rfl⟩ : ∃ n', n = n' + 1 := ⟨n - 1, by omega⟩
    refine br_f (nI_ge (b := 8) (by omega) (by decide)) ⟨9, ?_⟩
    refine xw_ff58 hk (by omega) (fun w hw => ?_) 8 0 9 0 (by omega) (by omega) (fun g => ⟨fun a => absurd a (pl_T_0 g), fun a => absurd a.1 (by omega)⟩)
    refine ih (i + 1) n _ (by omega) (by omega) (fun j hj => ?_) (fun f hf => ?_)
    · rw [pk_un (by omega)]; exact hfr j hj
    · rcases Nat.lt_or_ge f i with z | z
      · rw [pk_un (by omega)]; exact hr f z
      · have e : f = i := by omega
        subst e; rw [pk_us]; exact hw
theorem xw_ff4 {post : SX → Prop} {k : Nat} (hk : k < 8) (h : ∀ F : Int32, (∀ f, pl_T F f ↔ f < 8 ∧ ∃ d, pl_mk gn da k f d) → ∃ n46 : Nat, wX_findFacts_46 post (nI k) F (nI na) st bu cc n46 0 nd gn ls (upd fa (k + 1) F) da fb db cl fl sv wa op ch cd cf co) : ∀ (t i n : Nat) (F : Int32), i + t = 8 → t < n → (∀ f, pl_T F f ↔ f < i ∧ ∃ d, pl_mk gn da k f d) → wX_findFacts_4 post (nI k) (nI na) st bu cc nd gn ls fa da fb db cl fl sv wa op ch cd cf co n F (nI i) := by
  intro t
  induction t with
  | zero =>
    intro i n F hi hn hr
    obtain ⟨n, rfl⟩ : ∃ n', n = n' + 1 := ⟨n - 1, by omega⟩
    have e : i = 8 := by omega
    subst e
    refine br_t (nI_le (a := 8) (b := 8) (by omega) (by decide)) ?_
    rw [nI_1 k, nI_clamp (by omega)]
    exact ⟨vp_in_nI (by omega) (by decide), nm_e (h F hr)⟩
  | succ t ih =>
    intro i n F hi hn hr
    obtain ⟨n, rfl⟩ : ∃ n', n = n' + 1 := ⟨n - 1, by omega⟩
    refine br_f (nI_ge (b := 8) (by omega) (by decide)) (xw_makersOf (by omega) (by omega) (fun r hm => ?_))
    refine br_c (fun z => nm_r (nI_1 i) ?_) (fun z => nm_e (nm_r (nI_1 i) ?_))
    · refine ih (i + 1) n F (by omega) (by omega) (fun e => (hr e).trans ⟨fun a => ⟨by omega, a.2⟩, fun a => ⟨?_, a.2⟩⟩)
      rcases Nat.lt_or_ge e i with y | y
      · exact y
      · have e : e = i := by omega
        subst e
        obtain ⟨d, hd⟩ := a.2
        exact absurd ((hm d).mpr hd) ((pl_z r).mp z d)
    · refine ih (i + 1) n _ (by omega) (by omega) (fun e => (pl_T_add (by omega) e).trans ⟨?_, ?_⟩)
      · rintro (a | a)
        · have b := (hr e).mp a
          exact ⟨by omega, b.2⟩
        · subst a
          obtain ⟨d, hd⟩ := (pl_nz r).mp z
          exact ⟨by omega, d, (hm d).mp hd⟩
      · rintro ⟨a, b⟩
        rcases Nat.lt_or_ge e i with y | y
        · exact Or.inl ((hr e).mpr ⟨y, b⟩)
        · exact Or.inr (by omega)
theorem xw_findFacts {post : SX → Prop} {k : Nat} (hk : k < 8) (h : ∀ fa1 fb1 : Nat → Int32, (∀ j, j ≠ k + 1 → fa1 j = fa j) → (∀ j, (j < 8 * k + 8 ∨ 8 * k + 16 ≤ j) → fb1 j = fb j) → pl_Gf gn fa1 da k → pl_Gx gn fa1 fb1 da db k → post (nI na, st, bu, cc, nd, gn, ls, fa1, da, fb1, db, cl, fl, sv, wa, op, ch, cd, cf, co)) : wpX_findFacts post (nI na, st, bu, cc, nd, gn, ls, fa, da, fb, db, cl, fl, sv, wa, op, ch, cd, cf, co) (nI k) := by
  refine ⟨9, xw_ff4 hk (fun F hF => ⟨9, ?_⟩) 8 0 9 0 (by omega) (by omega) (fun f => ⟨fun a => absurd a (pl_T_0 f), fun a => absurd a.1 (by omega)⟩)⟩
  refine xw_ff46 (fb := fb) hk (fun fb1 hf1 hx => ?_) 8 0 9 fb (by omega) (by omega) (fun j _ => rfl) (fun f hf => absurd hf (by omega))
  refine h _ fb1 (fun j hj => pk_un hj) hf1 (fun f => ?_) (fun f hf g => ?_)
  · rw [pk_us]; exact hF f
  · rw [pk_us]; exact hx f hf g
end
end
section
/-! frames of the graph's predicates -/
theorem pl_CB_fr {fa fb fa1 fb1 : Nat → Int32} {k : Nat} (x : Int32) (h1 : fa1 k = fa k) (h2 : ∀ f, f < 8 → fb1 (8 * k + f) = fb (8 * k + f)) : pl_CB fa1 fb1 x k ↔ pl_CB fa fb x k := by
  unfold pl_CB
  rw [h1]
  constructor
  · rintro ⟨a, b⟩
    exact ⟨a, fun f hf hx => by rw [← h2 f hf]; exact b f hf hx⟩
  · rintro ⟨a, b⟩
    exact ⟨a, fun f hf hx => by rw [h2 f hf]; exact b f hf hx⟩
theorem pl_Gd_fr {na : Nat} {nd fa fb da fa1 fb1 da1 : Nat → Int32} {k : Nat} (h1 : fa1 k = fa k) (h2 : ∀ f, f < 8 → fb1 (8 * k + f) = fb (8 * k + f)) (h3 : da1 k = da k) (h : pl_Gd na nd fa fb da k) : pl_Gd na nd fa1 fb1 da1 k := by
  intro d
  rw [h3, pl_CB_fr _ h1 h2]
  exact h d
theorem pl_Gb_fr {nd fa fb da db cl fa1 fb1 da1 db1 : Nat → Int32} {k : Nat} (h1 : fa1 k = fa k) (h2 : ∀ f, f < 8 → fb1 (8 * k + f) = fb (8 * k + f)) (h3 : da1 k = da k) (h4 : ∀ d, d < 15 → db1 (15 * k + d) = db (15 * k + d)) (h : pl_Gb nd fa fb da db cl k) : pl_Gb nd fa1 fb1 da1 db1 cl k := by
  intro d hd e
  rw [h3, h4 d hd, pl_CB_fr _ h1 h2]
  exact h d hd e
theorem pl_mk_fr {gn da da1 : Nat → Int32} {k : Nat} (h3 : da1 k = da k) (f d : Nat) : pl_mk gn da1 k f d ↔ pl_mk gn da k f d := by
  unfold pl_mk
  rw [h3]
theorem pl_Gf_fr {gn fa da fa1 da1 : Nat → Int32} {k : Nat} (h1 : fa1 (k + 1) = fa (k + 1)) (h3 : da1 k = da k) (h : pl_Gf gn fa da k) : pl_Gf gn fa1 da1 k := by
  intro f
  rw [h1, h f]
  constructor
  · rintro ⟨a, d, b⟩; exact ⟨a, d, (pl_mk_fr h3 f d).mpr b⟩
  · rintro ⟨a, d, b⟩; exact ⟨a, d, (pl_mk_fr h3 f d).mp b⟩
theorem pl_AB_fr {gn da db da1 db1 : Nat → Int32} {k : Nat} (h3 : da1 k = da k) (h4 : ∀ d, d < 15 → db1 (15 * k + d) = db (15 * k + d)) (f g : Nat) : pl_AB gn da1 db1 k f g ↔ pl_AB gn da db k f g := by
  constructor
  · intro h d hd e he
    rw [← h4 d hd.1]
    exact h d ((pl_mk_fr h3 f d).mpr hd) e ((pl_mk_fr h3 g e).mpr he)
  · intro h d hd e he
    rw [h4 d hd.1]
    exact h d ((pl_mk_fr h3 f d).mp hd) e ((pl_mk_fr h3 g e).mp he)
theorem pl_Gx_fr {gn fa fb da db fa1 fb1 da1 db1 : Nat → Int32} {k : Nat} (h1 : fa1 (k + 1) = fa (k + 1)) (h2 : ∀ f, f < 8 → fb1 (8 * k + 8 + f) = fb (8 * k + 8 + f)) (h3 : da1 k = da k) (h4 : ∀ d, d < 15 → db1 (15 * k + d) = db (15 * k + d)) (h : pl_Gx gn fa fb da db k) : pl_Gx gn fa1 fb1 da1 db1 k := by
  intro f hf g
  rw [h1, h2 f hf, pl_AB_fr h3 h4]
  exact h f hf g
/-! the marks -/
def pl_K (na : Nat) (nd gn ls : Nat → Int32) (st : Int32) (fl sv : Nat → Int64) : Prop := ∀ L j, L ≤ 8 → j < 256 → (pl_Mk fl L j → ¬ pl_Srv na nd gn ls st L (nI j)) ∧ (pl_Mk sv L j → pl_Srv na nd gn ls st L (nI j))
theorem pl_K_0 {na : Nat} {nd gn ls : Nat → Int32} {st : Int32} {fl sv : Nat → Int64} (h1 : ∀ w, w < 36 → fl w = 0) (h2 : ∀ w, w < 36 → sv w = 0) : pl_K na nd gn ls st fl sv :=
  fun L j hL hj => ⟨fun z => absurd z (pl_Mk_0 h1 hL hj), fun z => absurd z (pl_Mk_0 h2 hL hj)⟩
section
variable {na : Nat} {st bu cc : Int32} {nd gn ls fa da fb db cl wa op ch cd cf co : Nat → Int32} {fl sv : Nat → Int64}
theorem xw_b30 {post : SX → Prop} {J : Int32 → (Nat → Int32) → (Nat → Int32) → (Nat → Int32) → (Nat → Int32) → (Nat → Int32) → (Nat → Int32) → (Nat → Int32) → (Nat → Int32) → (Nat → Int64) → (Nat → Int64) → (Nat → Int32) → (Nat → Int32) → (Nat → Int32) → (Nat → Int32) → (Nat → Int32) → (Nat → Int32) → Prop} {d : Nat} (hna : na ≤ 7) (hd : d < 15) (h : ∀ cl1 : Nat → Int32, (∀ j, j ≠ d → cl1 j = cl j) → (∀ e, pl_T (cl1 d) e ↔ e < 15 ∧ d ≠ e ∧ pl_ex na d ∧ pl_ex na e ∧ pl_DC nd gn ls d e) → J (nI (d + 1)) nd gn ls fa da fb db cl1 fl sv wa op ch cd cf co) : ∀ (t i n : Nat) (cl1 : Nat → Int32), i + t = 15 → t < n → (∀ j, j ≠ d → cl1 j = cl j) → (∀ e, pl_T (cl1 d) e ↔ e < i ∧ d ≠ e ∧ pl_ex na d ∧ pl_ex na e ∧ pl_DC nd gn ls d e) → wX_build_30 post J (nI d) (nI na) st bu cc n (nI i) nd gn ls fa da fb db cl1 fl sv wa op ch cd cf co := by
  intro t
  induction t with
  | zero =>
    intro i n cl1 hi hn hfr hr
    obtain ⟨n, rfl⟩ : ∃ n', n = n' + 1 := ⟨n - 1, by omega⟩
    have e : i = 15 := by omega
    subst e
    exact br_t (nI_le (a := 15) (b := 15) (by omega) (by decide)) (nm_r (nI_1 d) (h cl1 hfr hr))
  | succ t ih =>
    intro i n cl1 hi hn hfr hr
    obtain ⟨n, rfl⟩ : ∃ n', n = n' + 1 := ⟨n - 1, by omega⟩
    have nx0 : ¬ (d ≠ i ∧ pl_ex na d ∧ pl_ex na i ∧ pl_DC nd gn ls d i) → ∀ y, y = nI i + 1 → wX_build_30 post J (nI d) (nI na) st bu cc n y nd gn ls fa da fb db cl1 fl sv wa op ch cd cf co := by
      intro hx y ey
      rw [ey, nI_1]
      refine ih (i + 1) n cl1 (by omega) (by omega) hfr (fun e => (hr e).trans ⟨fun a => ⟨by omega, a.2⟩, fun a => ⟨?_, a.2⟩⟩)
      rcases Nat.lt_or_ge e i with z | z
      · exact z
      · have e : e = i := by omega
        subst e; exact absurd a.2 hx
    have nx1 : (d ≠ i ∧ pl_ex na d ∧ pl_ex na i ∧ pl_DC nd gn ls d i) → ∀ y, y = nI i + 1 → wX_build_30 post J (nI d) (nI na) st bu cc n y nd gn ls fa da fb db (upd cl1 d (cl1 d ||| ((1 : Int32) <<< (nI i &&& 31)))) fl sv wa op ch cd cf co := by
      intro hx y ey
      rw [ey, nI_1]
      refine ih (i + 1) n _ (by omega) (by omega) (fun j hj => by rw [pk_un hj]; exact hfr j hj) (fun e => ?_)
      rw [pk_us, pl_T_add (by omega)]
      constructor
      · rintro (a | a)
        · have b := (hr e).mp a
          exact ⟨by omega, b.2⟩
        · subst a; exact ⟨by omega, hx⟩
      · rintro ⟨a, b⟩
        rcases Nat.lt_or_ge e i with z | z
        · exact Or.inl ((hr e).mpr ⟨z, b⟩)
        · exact Or.inr (by omega)
    refine br_f (nI_ge (b := 15) (by omega) (by decide)) (pk_eq d i (fun z => nx0 (fun w => w.1 z)) (fun z => ?_))
    refine xw_exists hna hd (fun a => ?_) (fun a => br_t rfl (nx0 (fun v => a v.2.1)))
    refine br_f (by decide) (xw_exists hna (by omega) (fun b => ?_) (fun b => br_t rfl (nx0 (fun v => b v.2.2.1))))
    refine br_f (by decide) (xw_deedsClash hd (by omega) (fun c => ?_) (fun c => br_t rfl (nx0 (fun v => c v.2.2.2))))
    refine br_f (by decide) ?_
    rw [nI_clamp (by omega)]
    exact ⟨vp_in_nI (by omega) (by decide), vp_in_nI (by omega) (by decide), nm_e (nx1 ⟨z, a, b, c⟩)⟩
theorem xw_b15 {post : SX → Prop} (hna : na ≤ 7) (h : ∀ cl1 : Nat → Int32, pl_Cl na nd gn ls cl1 → ∃ n92 : Nat, wX_build_92 post (nI na) st bu cc n92 0 nd gn ls fa da fb db cl1 fl sv wa op ch cd cf co) : ∀ (t i n : Nat) (cl1 : Nat → Int32), i + t = 15 → t < n → (∀ d, d < i → ∀ e, pl_T (cl1 d) e ↔ e < 15 ∧ d ≠ e ∧ pl_ex na d ∧ pl_ex na e ∧ pl_DC nd gn ls d e) → wX_build_15 post (nI na) st bu cc n (nI i) nd gn ls fa da fb db cl1 fl sv wa op ch cd cf co := by
  intro t
  induction t with
  | zero =>
    intro i n cl1 hi hn hr
    obtain ⟨n, rfl⟩ : ∃ n', n = n' + 1 := ⟨n - 1, by omega⟩
    have e : i = 15 := by omega
    subst e
    exact br_t (nI_le (a := 15) (b := 15) (by omega) (by decide)) (h cl1 hr)
  | succ t ih =>
    intro i n cl1 hi hn hr
    obtain ⟨n, rfl⟩ : ∃ n', n = n' + 1 := ⟨n - 1, by omega⟩
    refine br_f (nI_ge (b := 15) (by omega) (by decide)) ⟨vp_in_nI (by omega) (by decide), ?_⟩
    rw [nI_clamp (by omega)]
    refine nm_e ⟨16, ?_⟩
    refine xw_b30 (cl := upd cl1 i 0) hna (by omega) (fun cl2 hf2 hr2 => ?_) 15 0 16 _ (by omega) (by omega) (fun j hj => rfl) (fun e => ?_)
    · refine ih (i + 1) n cl2 (by omega) (by omega) (fun d hd => ?_)
      rcases Nat.lt_or_ge d i with z | z
      · rw [hf2 _ (by omega), pk_un (by omega)]
        exact hr d z
      · have e : d = i := by omega
        subst e; exact hr2
    · rw [pk_us]
      exact ⟨fun a => absurd a (pl_T_0 e), fun a => absurd a.1 (by omega)⟩
theorem xw_b92 {post : SX → Prop} (h : ∀ fl1 sv1 : Nat → Int64, (∀ w, w < 36 → fl1 w = 0) → (∀ w, w < 36 → sv1 w = 0) → ∃ n130 : Nat, wX_build_130 post (nI na) st bu cc n130 0 nd gn ls (upd fa 0 st) da fb db cl fl1 sv1 wa op ch cd cf co) : ∀ (t i n : Nat) (fl1 sv1 : Nat → Int64), i + t = 36 → t < n → (∀ w, w < i → fl1 w = 0) → (∀ w, w < i → sv1 w = 0) → wX_build_92 post (nI na) st bu cc n (nI i) nd gn ls fa da fb db cl fl1 sv1 wa op ch cd cf co := by
  intro t
  induction t with
  | zero =>
    intro i n fl1 sv1 hi hn h1 h2
    obtain ⟨n, rfl⟩ : ∃ n', n = n' + 1 := ⟨n - 1, by omega⟩
    have e : i = 36 := by omega
    subst e
    exact br_t (nI_le (a := 36) (b := 36) (by omega) (by decide)) (nm_e (h fl1 sv1 h1 h2))
  | succ t ih =>
    intro i n fl1 sv1 hi hn h1 h2
    obtain ⟨n, rfl⟩ : ∃ n', n = n' + 1 := ⟨n - 1, by omega⟩
    refine br_f (nI_ge (b := 36) (by omega) (by decide)) ?_
    rw [nI_clamp (by omega)]
    refine ⟨vp_in_nI (by omega) (by decide), nm_e ⟨vp_in_nI (by omega) (by decide), nm_e (nm_r (nI_1 i) ?_)⟩⟩
    have z : ∀ a : Nat → Int64, (∀ w, w < i → a w = 0) → ∀ w, w < i + 1 → vp_updL a i 0 w = 0 := by
      intro a ha w hw
      rcases Nat.lt_or_ge w i with z | z
      · rw [pk_uLn (by omega)]; exact ha w z
      · have e : w = i := by omega
        subst e; exact pk_uLs
    exact ih (i + 1) n _ _ (by omega) (by omega) (z _ h1) (z _ h2)
theorem xw_b130 {post : SX → Prop} (h : ∀ fb1 : Nat → Int32, (∀ f, f < 8 → fb1 f = 0) → ∃ n151 : Nat, wX_build_151 post n151 0 (nI na) st bu cc nd gn ls fa da fb1 db cl fl sv wa op ch cd cf co) : ∀ (t i n : Nat) (fb1 : Nat → Int32), i + t = 8 → t < n → (∀ f, f < i → fb1 f = 0) → wX_build_130 post (nI na) st bu cc n (nI i) nd gn ls fa da fb1 db cl fl sv wa op ch cd cf co := by
  intro t
  induction t with
  | zero =>
    intro i n fb1 hi hn h1
    obtain ⟨n, rfl⟩ : ∃ n', n = n' + 1 := ⟨n - 1, by omega⟩
    have e : i = 8 := by omega
    subst e
    exact br_t (nI_le (a := 8) (b := 8) (by omega) (by decide)) (h fb1 h1)
  | succ t ih =>
    intro i n fb1 hi hn h1
    obtain ⟨n, rfl⟩ : ∃ n', n = n' + 1 := ⟨n - 1, by omega⟩
    refine br_f (nI_ge (b := 8) (by omega) (by decide)) ?_
    rw [nI_clamp (by omega)]
    refine ⟨vp_in_nI (by omega) (by decide), nm_e (nm_r (nI_1 i) ?_)⟩
    refine ih (i + 1) n _ (by omega) (by omega) (fun w hw => ?_)
    rcases Nat.lt_or_ge w i with z | z
    · rw [pk_un (by omega)]; exact h1 w z
    · have e : w = i := by omega
      subst e; exact pk_us
theorem xw_b151 {post : SX → Prop} (hna : na ≤ 7) (h : ∀ fa1 da1 fb1 db1 : Nat → Int32, pl_G na nd gn ls st fa1 da1 fb1 db1 cl 8 → post (nI na, st, bu, cc, nd, gn, ls, fa1, da1, fb1, db1, cl, fl, sv, wa, op, ch, cd, cf, co)) : ∀ (t k n : Nat) (fa1 da1 fb1 db1 : Nat → Int32), k + t = 8 → t < n → pl_G na nd gn ls st fa1 da1 fb1 db1 cl k → wX_build_151 post n (nI k) (nI na) st bu cc nd gn ls fa1 da1 fb1 db1 cl fl sv wa op ch cd cf co := by
  intro t
  induction t with
  | zero =>
    intro k n fa1 da1 fb1 db1 hi hn hG
    obtain ⟨n, rfl⟩ : ∃ n', n = n' + 1 := ⟨n - 1, by omega⟩
    have e : k = 8 := by omega
    subst e
    exact br_t (nI_le (a := 8) (b := 8) (by omega) (by decide)) (h fa1 da1 fb1 db1 hG)
  | succ t ih =>
    intro k n fa1 da1 fb1 db1 hi hn hG
    obtain ⟨n, rfl⟩ : ∃ n', n = n' + 1 := ⟨n - 1, by omega⟩
    refine br_f (nI_ge (b := 8) (by omega) (by decide)) (xw_findDeeds (by omega) hna (fun da2 db2 f1 f2 g1 g2 => ?_))
    refine xw_findFacts (by omega) (fun fa2 fb2 f3 f4 g3 g4 => ?_)
    refine nm_r (nI_1 k) (ih (k + 1) n fa2 da2 fb2 db2 (by omega) (by omega) ⟨hG.1, ?_, fun f hf => ?_, fun k' hk' => ?_⟩)
    · rw [f3 0 (by omega)]; exact hG.2.1
    · rw [f4 f (by omega)]; exact hG.2.2.1 f hf
    · rcases Nat.lt_or_ge k' k with z | z
      · obtain ⟨a1, a2, a3, a4⟩ := hG.2.2.2 k' z
        have e1 : fa2 k' = fa1 k' := f3 k' (by omega)
        have e2 : fa2 (k' + 1) = fa1 (k' + 1) := f3 (k' + 1) (by omega)
        have e3 : da2 k' = da1 k' := f1 k' (by omega)
        have e4 : ∀ f, f < 8 → fb2 (8 * k' + f) = fb1 (8 * k' + f) := fun f hf => f4 _ (by omega)
        have e5 : ∀ f, f < 8 → fb2 (8 * k' + 8 + f) = fb1 (8 * k' + 8 + f) := fun f hf => f4 _ (by omega)
        have e6 : ∀ d, d < 15 → db2 (15 * k' + d) = db1 (15 * k' + d) := fun d hd => f2 _ (by omega)
        exact ⟨pl_Gd_fr e1 e4 e3 a1, pl_Gb_fr e1 e4 e3 e6 a2, pl_Gf_fr e2 e3 a3, pl_Gx_fr e2 e5 e3 e6 a4⟩
      · have e : k' = k := by omega
        subst e
        have e1 : fa2 k' = fa1 k' := f3 k' (by omega)
        have e4 : ∀ f, f < 8 → fb2 (8 * k' + f) = fb1 (8 * k' + f) := fun f hf => f4 _ (by omega)
        exact ⟨pl_Gd_fr e1 e4 rfl g1, pl_Gb_fr e1 e4 rfl (fun _ _ => rfl) g2, g3, g4⟩
theorem xw_build {post : SX → Prop} (hna : na ≤ 7) (hb : ¬ bu = 0 → pl_G na nd gn ls st fa da fb db cl 8 ∧ pl_K na nd gn ls st fl sv) (h : ∀ (bu1 : Int32) (fa1 da1 fb1 db1 cl1 : Nat → Int32) (fl1 sv1 : Nat → Int64), pl_G na nd gn ls st fa1 da1 fb1 db1 cl1 8 → pl_K na nd gn ls st fl1 sv1 → post (nI na, st, bu1, cc, nd, gn, ls, fa1, da1, fb1, db1, cl1, fl1, sv1, wa, op, ch, cd, cf, co)) : wpX_build post (nI na, st, bu, cc, nd, gn, ls, fa, da, fb, db, cl, fl, sv, wa, op, ch, cd, cf, co) := by
  refine br_c (fun _ => ⟨16, ?_⟩) (fun z => h bu fa da fb db cl fl sv (hb z).1 (hb z).2)
  refine xw_b15 hna (fun cl1 hcl => ⟨37, ?_⟩) 15 0 16 cl (by omega) (by omega) (fun d hd => absurd hd (by omega))
  refine xw_b92 (fun fl1 sv1 hf hs => ⟨9, ?_⟩) 36 0 37 fl sv (by omega) (by omega) (fun d hd => absurd hd (by omega)) (fun d hd => absurd hd (by omega))
  refine xw_b130 (fun fb1 hfb => ⟨9, ?_⟩) 8 0 9 fb (by omega) (by omega) (fun d hd => absurd hd (by omega))
  refine xw_b151 hna (fun fa2 da2 fb2 db2 hG => h 1 fa2 da2 fb2 db2 cl1 fl1 sv1 hG (pl_K_0 hf hs)) 8 0 9 _ da fb1 db (by omega) (by omega) ⟨hcl, pk_us, hfb, fun k hk => absurd hk (by omega)⟩
end
end
section
theorem pl_wix {L j : Nat} (hj : j < 256) : 4 * nI L + (nI j >>> ((6 : Int32) &&& 31)) = nI (4 * L + j / 64) := by
  rw [show (4 : Int32) * nI L = nI (4 * L) from pk_mul 4 L, pk_shrN (by omega) _ 6 (by decide), nI_add]
section
variable {na : Nat} {st bu cc : Int32} {nd gn ls fa da fb db cl wa op ch cd cf co : Nat → Int32} {fl sv : Nat → Int64}
theorem xw_isM0 {post : Int32 → Prop} {L j : Nat} (hL : L ≤ 8) (hj : j < 256) (h1 : pl_Mk fl L j → post 1) (h0 : ¬ pl_Mk fl L j → post 0) : wpX_isMarked post (nI na, st, bu, cc, nd, gn, ls, fa, da, fb, db, cl, fl, sv, wa, op, ch, cd, cf, co) 0 (nI L) (nI j) := by
  refine nm_r (pl_wix hj) (br_t rfl ?_)
  rw [nI_clamp (by omega)]
  exact ⟨vp_in_nI (by omega) (by decide), pl_bit (pl_tst _ hj) h0 h1⟩
theorem xw_isM1 {post : Int32 → Prop} {L j : Nat} (hL : L ≤ 8) (hj : j < 256) (h1 : pl_Mk sv L j → post 1) (h0 : ¬ pl_Mk sv L j → post 0) : wpX_isMarked post (nI na, st, bu, cc, nd, gn, ls, fa, da, fb, db, cl, fl, sv, wa, op, ch, cd, cf, co) 1 (nI L) (nI j) := by
  refine nm_r (pl_wix hj) (br_f (by decide) ?_)
  rw [nI_clamp (by omega)]
  exact ⟨vp_in_nI (by omega) (by decide), pl_bit (pl_tst _ hj) h0 h1⟩
theorem xw_mark0 {post : SX → Prop} {L j : Nat} (hL : L ≤ 8) (hj : j < 256) (h : ∀ fl1 : Nat → Int64, (∀ L' k', k' < 256 → (pl_Mk fl1 L' k' ↔ pl_Mk fl L' k' ∨ (L' = L ∧ k' = j))) → post (nI na, st, bu, cc, nd, gn, ls, fa, da, fb, db, cl, fl1, sv, wa, op, ch, cd, cf, co)) : wpX_markSet post (nI na, st, bu, cc, nd, gn, ls, fa, da, fb, db, cl, fl, sv, wa, op, ch, cd, cf, co) 0 (nI L) (nI j) := by
  refine nm_r (pl_wix hj) (br_t rfl ?_)
  rw [nI_clamp (by omega)]
  exact ⟨vp_in_nI (by omega) (by decide), vp_in_nI (by omega) (by decide), nm_e (h _ (fun L' k' hk' => pl_Mk_set fl hj hk'))⟩
theorem xw_mark1 {post : SX → Prop} {L j : Nat} (hL : L ≤ 8) (hj : j < 256) (h : ∀ sv1 : Nat → Int64, (∀ L' k', k' < 256 → (pl_Mk sv1 L' k' ↔ pl_Mk sv L' k' ∨ (L' = L ∧ k' = j))) → post (nI na, st, bu, cc, nd, gn, ls, fa, da, fb, db, cl, fl, sv1, wa, op, ch, cd, cf, co)) : wpX_markSet post (nI na, st, bu, cc, nd, gn, ls, fa, da, fb, db, cl, fl, sv, wa, op, ch, cd, cf, co) 1 (nI L) (nI j) := by
  refine nm_r (pl_wix hj) (br_f (by decide) ?_)
  rw [nI_clamp (by omega)]
  exact ⟨vp_in_nI (by omega) (by decide), vp_in_nI (by omega) (by decide), nm_e (h _ (fun L' k' hk' => pl_Mk_set sv hj hk'))⟩
theorem xw_enter {post : SX → Prop} {k : Nat} {x : Int32} (hk : k < 9) (h : post (nI na, st, bu, cc, nd, gn, ls, fa, da, fb, db, cl, fl, sv, upd wa k x, upd op k x, upd ch k 0, cd, cf, co)) : wpX_enter post (nI na, st, bu, cc, nd, gn, ls, fa, da, fb, db, cl, fl, sv, wa, op, ch, cd, cf, co) (nI k) x := by
  unfold wpX_enter
  dsimp only
  rw [nI_clamp (by omega)]
  exact ⟨vp_in_nI hk (by decide), nm_e ⟨vp_in_nI hk (by decide), nm_e ⟨vp_in_nI hk (by decide), nm_e h⟩⟩⟩
theorem xw_markAbove {post : SX → Prop} {k L : Nat} {Q : Nat → Nat → Prop} (hk : k ≤ L) (hL : L ≤ 8) (hQ : ∀ j, k ≤ j → j ≤ L → pl_Sm (wa j)) (h : ∀ sv1 : Nat → Int64, (∀ L' k', k' < 256 → pl_Mk sv1 L' k' → Q L' k') → post (nI na, st, bu, cc, nd, gn, ls, fa, da, fb, db, cl, fl, sv1, wa, op, ch, cd, cf, co)) (hq : ∀ j, k ≤ j → j ≤ L → ∀ k', k' < 256 → wa j = nI k' → Q j k') (hm : ∀ L' k', k' < 256 → pl_Mk sv L' k' → Q L' k') : wpX_markAbove post (nI na, st, bu, cc, nd, gn, ls, fa, da, fb, db, cl, fl, sv, wa, op, ch, cd, cf, co) (nI k) (nI L) := by
  refine ⟨L + 2, ?_⟩
  have g : ∀ (t i n : Nat) (sv1 : Nat → Int64), k ≤ i → i + t = L + 1 → t < n → (∀ L' k', k' < 256 → pl_Mk sv1 L' k' → Q L' k') → wX_markAbove_2 post (nI L) n (nI i) (nI na) st bu cc nd gn ls fa da fb db cl fl sv1 wa op ch cd cf co := by
    intro t
    induction t with
    | zero =>
      intro i n sv1 hki hi hn hm
      obtain ⟨n, rfl⟩ : ∃ n', n = n' + 1 := ⟨n - 1, by omega⟩
      exact br_t (nI_lt (by omega) (by omega)) (h sv1 hm)
    | succ t ih =>
      intro i n sv1 hki hi hn hm
      obtain ⟨n, rfl⟩ : ∃ n', n = n' + 1 := ⟨n - 1, by omega⟩
      obtain ⟨j, hj, ej⟩ := pl_Sm_of (hQ i hki (by omega))
      refine br_f (nI_nlt (by omega) (by omega)) ⟨vp_in_nI (by omega) (by decide), ?_⟩
      rw [nI_clamp (by omega), ej]
      refine xw_mark1 (by omega) hj (fun sv2 hs2 => nm_r (nI_1 i) ?_)
      refine ih (i + 1) n sv2 (by omega) (by omega) (by omega) (fun L' k' hk' hM => ?_)
      rcases (hs2 L' k' hk').mp hM with a | ⟨a, b⟩
      · exact hm L' k' hk' a
      · subst a; subst b
        exact hq L' (by omega) (by omega) k' hk' ej
  exact g (L + 1 - k) k (L + 2) sv (Nat.le_refl k) (by omega) (by omega) hm
theorem xw_nb_l {post : Int32 → Prop} {k : Nat} (hk : k < 9) (h : ∀ r, pl_Nx nd (ch k) r → post r) : ∀ (t i n : Nat) (r : Int32), i + t = 15 → t < n → (∀ b, pl_T r b ↔ ∃ d, d < i ∧ pl_T (ch k) d ∧ pl_T (pl_dn nd d) b) → wX_neededBy_4 post (nI k) (nI na) st bu cc nd gn ls fa da fb db cl fl sv wa op ch cd cf co n r (nI i) := by
  intro t
  induction t with
  | zero =>
    intro i n r hi hn hr
    obtain ⟨n, rfl⟩ : ∃ n', n = n' + 1 := ⟨n - 1, by omega⟩
    have e : i = 15 := by omega
    subst e
    exact br_t (nI_le (a := 15) (b := 15) (by omega) (by decide)) (h r hr)
  | succ t ih =>
    intro i n r hi hn hr
    obtain ⟨n, rfl⟩ : ∃ n', n = n' + 1 := ⟨n - 1, by omega⟩
    refine br_f (nI_ge (b := 15) (by omega) (by decide)) ⟨vp_in_nI (by omega) (by decide), ?_⟩
    rw [nI_clamp (by omega)]
    refine pl_bit (pl_sh _ (by omega)) (fun z => nm_r (nI_1 i) ?_) (fun z => xw_needsOf (by omega) (nm_e (nm_r (nI_1 i) ?_)))
    · refine ih (i + 1) n r (by omega) (by omega) (fun b => (hr b).trans ⟨fun ⟨d, h1, h2⟩ => ⟨d, by omega, h2⟩, fun ⟨d, h1, h2⟩ => ⟨d, ?_, h2⟩⟩)
      rcases Nat.lt_or_ge d i with y | y
      · exact y
      · have e : d = i := by omega
        subst e; exact absurd h2.1 z
    · refine ih (i + 1) n _ (by omega) (by omega) (fun b => (pl_T_or _ _ b).trans ⟨?_, ?_⟩)
      · rintro (a | a)
        · obtain ⟨d, h1, h2⟩ := (hr b).mp a
          exact ⟨d, by omega, h2⟩
        · exact ⟨i, by omega, z, a⟩
      · rintro ⟨d, h1, h2⟩
        rcases Nat.lt_or_ge d i with y | y
        · exact Or.inl ((hr b).mpr ⟨d, y, h2⟩)
        · have e : d = i := by omega
          subst e; exact Or.inr h2.2
theorem xw_neededBy {post : Int32 → Prop} {k : Nat} (hk : k < 9) (h : ∀ r, pl_Nx nd (ch k) r → post r) : wpX_neededBy post (nI na, st, bu, cc, nd, gn, ls, fa, da, fb, db, cl, fl, sv, wa, op, ch, cd, cf, co) (nI k) :=
  ⟨16, xw_nb_l hk h 15 0 16 0 (by omega) (by omega) (fun b => ⟨fun a => absurd a (pl_T_0 b), fun ⟨d, a, _⟩ => absurd a (by omega)⟩)⟩
theorem xw_lo_l {post : Int32 → Prop} {k : Nat} (hk : k < 9) (h : ∀ f, f < 8 → pl_T (op k) f → post (nI f)) : ∀ (t i n : Nat), i + t = 8 → t < n → (∃ f, i ≤ f ∧ f < 8 ∧ pl_T (op k) f) → wX_lowestOpen_2 post (nI k) (nI na) st bu cc nd gn ls fa da fb db cl fl sv wa op ch cd cf co n (nI i) := by
  intro t
  induction t with
  | zero =>
    intro i n hi hn hr
    obtain ⟨f, h1, h2, _⟩ := hr
    omega
  | succ t ih =>
    intro i n hi hn hr
    obtain ⟨n, rfl⟩ : ∃ n', n = n' + 1 := ⟨n - 1, by omega⟩
    have hin : vp_in (nI k) 9 := vp_in_nI hk (by decide)
    have hcl : (nI k).toNatClampNeg = k := nI_clamp (by omega)
    refine And.intro hin (pl_bit (d := pl_T (op k) i) (by rw [hcl]; exact pl_sh _ (by omega)) (fun z => nm_r (nI_1 i) ?_) (fun z => h i (by omega) z))
    refine ih (i + 1) n (by omega) (by omega) ?_
    obtain ⟨f, h1, h2, h3⟩ := hr
    refine ⟨f, ?_, h2, h3⟩
    rcases Nat.lt_or_ge i f with y | y
    · exact y
    · have e : f = i := by omega
      subst e; exact absurd h3 z
theorem xw_lowestOpen {post : Int32 → Prop} {k : Nat} (hk : k < 9) (ho : pl_Sm (op k)) (hz : ¬ op k = 0) (h : ∀ f, f < 8 → pl_T (op k) f → post (nI f)) : wpX_lowestOpen post (nI na, st, bu, cc, nd, gn, ls, fa, da, fb, db, cl, fl, sv, wa, op, ch, cd, cf, co) (nI k) := by
  obtain ⟨f, hf⟩ := (pl_nz _).mp hz
  exact ⟨9, xw_lo_l hk h 8 0 9 (by omega) (by omega) ⟨f, by omega, ho f hf, hf⟩⟩
/-- choose: passes over what it skips, takes the first that fits -/
theorem xw_ch_l {post : Int32 → SX → Prop} {k f c d0 : Nat} {r : Int32} (hk : k < 8) (hf : f < 8) (hc : c < 72) (hr : ∀ d, pl_T r d ↔ pl_mk gn da k f d)
    (h1 : ∀ d, d0 ≤ d → d < 15 → (∀ d', d0 ≤ d' → d' < d → pl_sk gn da db k f d' (ch (k + 1))) → pl_mk gn da k f d → (∀ e, pl_T (ch (k + 1)) e → ¬ pl_T (db (15 * k + d)) e) → post 1 (nI na, st, bu, nI (c + 1), nd, gn, ls, fa, da, fb, db, cl, fl, sv, wa, upd op (k + 1) (op (k + 1) &&& (pl_dn gn d ^^^ (-1))), upd ch (k + 1) (ch (k + 1) ||| ((1 : Int32) <<< (nI d &&& 31))), upd cd c (nI d), upd cf c (nI (f + 8 * (k + 1))), upd co c (op (k + 1) ||| (ch (k + 1) <<< ((8 : Int32) &&& 31)))))
    (h0 : (∀ d', d0 ≤ d' → d' < 15 → pl_sk gn da db k f d' (ch (k + 1))) → post 0 (nI na, st, bu, nI c, nd, gn, ls, fa, da, fb, db, cl, fl, sv, wa, op, ch, cd, cf, co)) : ∀ (t i n : Nat), i + t = 15 → t < n → d0 ≤ i → (∀ d', d0 ≤ d' → d' < i → pl_sk gn da db k f d' (ch (k + 1))) → wX_choose_13 post (nI (k + 1)) (nI f) r (nI na) st bu (nI c) nd gn ls fa da fb db cl fl sv wa op ch cd cf co n (nI i) := by
  intro t
  induction t with
  | zero =>
    intro i n hi hn hd hs
    obtain ⟨n, rfl⟩ : ∃ n', n = n' + 1 := ⟨n - 1, by omega⟩
    have e : i = 15 := by omega
    subst e
    exact br_t (nI_le (a := 15) (b := 15) (by omega) (by decide)) (h0 hs)
  | succ t ih =>
    intro i n hi hn hd hs
    obtain ⟨n, rfl⟩ : ∃ n', n = n' + 1 := ⟨n - 1, by omega⟩
    have nx : pl_sk gn da db k f i (ch (k + 1)) → ∀ y, y = nI i + 1 → wX_choose_13 post (nI (k + 1)) (nI f) r (nI na) st bu (nI c) nd gn ls fa da fb db cl fl sv wa op ch cd cf co n y := by
      intro hx y ey
      rw [ey, nI_1]
      refine ih (i + 1) n (by omega) (by omega) (by omega) (fun d' a b => ?_)
      rcases Nat.lt_or_ge d' i with z | z
      · exact hs d' a z
      · have e : d' = i := by omega
        subst e; exact hx
    refine br_f (nI_ge (b := 15) (by omega) (by decide)) (pl_bit (pl_sh _ (by omega)) (fun z => nx (Or.inl (fun w => z ((hr i).mpr w)))) (fun z => ?_))
    rw [nI_pred, pl_15, nI_clamp (n := 15 * k + i) (by omega), nI_clamp (n := k + 1) (by omega), nI_clamp (n := c) (by omega)]
    have v1 : vp_in (nI (k + 1)) 9 := vp_in_nI (by omega) (by decide)
    have v2 : vp_in (nI c) 72 := vp_in_nI hc (by decide)
    refine ⟨vp_in_nI (by omega) (by decide), v1, pl_if (pl_dis _ _) (fun w => ?_) (fun w => nx (Or.inr ?_))⟩
    · refine ⟨v2, nm_r (congrArg _ (pl_by (by omega))) ⟨v2, nm_r (e' := upd cf c (nI (f + 8 * (k + 1)))) ?_ ⟨v1, v1, v2, nm_e (nm_r (nI_1 c) ⟨v1, xw_gainsOf (by omega) ⟨v1, nm_e ⟨v1, v1, nm_e ?_⟩⟩⟩)⟩⟩⟩
      · rw [pl_fc, pl_by (by omega)]
      · exact h1 i hd (by omega) hs ((hr i).mp z) (fun e a b => w e b a)
    · refine Classical.byContradiction (fun y => w (fun e a b => y ⟨e, a, b⟩))
theorem xw_choose {post : Int32 → SX → Prop} {k f c d0 : Nat} {o x : Int32} (eo : op (k + 1) = o) (ex : ch (k + 1) = x) (hk : k < 8) (hf : f < 8) (hc : c < 72) (hd : d0 ≤ 15)
    (h1 : ∀ d, d0 ≤ d → d < 15 → (∀ d', d0 ≤ d' → d' < d → pl_sk gn da db k f d' x) → pl_mk gn da k f d → (∀ e, pl_T x e → ¬ pl_T (db (15 * k + d)) e) → post 1 (nI na, st, bu, nI (c + 1), nd, gn, ls, fa, da, fb, db, cl, fl, sv, wa, upd op (k + 1) (o &&& (pl_dn gn d ^^^ (-1))), upd ch (k + 1) (x ||| ((1 : Int32) <<< (nI d &&& 31))), upd cd c (nI d), upd cf c (nI (f + 8 * (k + 1))), upd co c (o ||| (x <<< ((8 : Int32) &&& 31)))))
    (h0 : (∀ d', d0 ≤ d' → d' < 15 → pl_sk gn da db k f d' x) → post 0 (nI na, st, bu, nI c, nd, gn, ls, fa, da, fb, db, cl, fl, sv, wa, op, ch, cd, cf, co)) : wpX_choose post (nI na, st, bu, nI c, nd, gn, ls, fa, da, fb, db, cl, fl, sv, wa, op, ch, cd, cf, co) (nI (k + 1)) (nI f) (nI d0) := by
  subst eo; subst ex
  unfold wpX_choose
  dsimp only
  rw [nI_pred]
  refine xw_makersOf hf (by omega) (fun r hr => ⟨16, ?_⟩)
  exact xw_ch_l hk hf hc hr h1 h0 (15 - d0) d0 16 (by omega) (by omega) (Nat.le_refl d0) (fun d' a b => absurd b (by omega))
end
end
section
section
variable {na : Nat} {nd gn ls : Nat → Int32} {st : Int32} {L : Nat} {wa op ch cd cf co : Nat → Int32}
theorem pl_Cf_sm : ∀ (m k c : Nat) (o x : Int32), pl_Cf na nd gn ls st L wa op ch cd cf co m k c o x → ∀ j, k ≤ j → j ≤ L → pl_Sm (wa j)
  | 0, _, _, _, _, h => h.elim
  | m + 1, k, c, o, x, h => by
    intro j h1 h2
    rcases Nat.lt_or_ge k j with z | z
    · obtain ⟨_, ⟨k2, c2, f, d, o', x', e1, e2, hf, a1, a2, a3, a4, a5, a6, a7, a8, a9, hh⟩ | ⟨a1, a2, ⟨a3, a4⟩ | ⟨a3, a4, a5, hh⟩⟩⟩ := h
      · exact pl_Cf_sm m k c2 o' x' hh j h1 h2
      · omega
      · exact pl_Cf_sm m (k + 1) c _ _ hh j (by omega) h2
    · have e : j = k := by omega
      subst e; exact (pl_Cf_hd h).2.1
theorem pl_Nx_Sm (hD : pl_D na nd gn ls) {x r : Int32} (h : pl_Nx nd x r) : pl_Sm r := by
  intro b hb
  obtain ⟨d, h1, _, h3⟩ := (h b).mp hb
  exact pl_dn_Sm (fun i hi => (hD.2 i hi).1) h1 b h3
theorem pl_Sm_nand {x y : Int32} (h : pl_Sm x) : pl_Sm (x &&& (y ^^^ (-1))) := fun i hi => h i ((pl_T_nand _ _ i).mp hi).1
theorem pl_D15_add {x : Int32} {d : Nat} (hd : d < 15) (h : pl_D15 x) : pl_D15 (x ||| ((1 : Int32) <<< (nI d &&& 31))) := fun i hi => by
  rcases (pl_T_add (by omega) i).mp hi with a | a
  · exact h i a
  · omega
end
section
variable {na : Nat} {st bu : Int32} {nd gn ls fa da fb db cl : Nat → Int32}
/-- goBack: ends above the last layer with the set refuted, or with another choice made -/
theorem xw_gb_l {wa : Nat → Int32} {sv : Nat → Int64} {post : Int32 → SX → Prop} {L V0 : Nat} (hD : pl_D na nd gn ls) (hs : pl_Sm st) (hG : pl_G na nd gn ls st fa da fb db cl 8) (hL : L ≤ 8)
    (hE : ¬ pl_Srv na nd gn ls st L (wa L) → ∀ (c : Nat) (fl : Nat → Int64) (op ch cd cf co : Nat → Int32), pl_K na nd gn ls st fl sv → post (nI (L + 1)) (nI na, st, bu, nI c, nd, gn, ls, fa, da, fb, db, cl, fl, sv, wa, op, ch, cd, cf, co))
    (hC : ∀ (k c m : Nat) (fl : Nat → Int64) (op ch cd cf co : Nat → Int32), 1 ≤ k → k ≤ L → pl_Cf na nd gn ls st L wa op ch cd cf co m k c (op k) (ch k) → pl_K na nd gn ls st fl sv → V0 < pl_V cd c → post (nI k) (nI na, st, bu, nI c, nd, gn, ls, fa, da, fb, db, cl, fl, sv, wa, op, ch, cd, cf, co)) :
    ∀ (n k c m : Nat) (o x : Int32) (fl : Nat → Int64) (op ch cd cf co : Nat → Int32), pl_Cf na nd gn ls st L wa op ch cd cf co m (k + 1) c o x → pl_NR na nd gn ls st k o x → pl_K na nd gn ls st fl sv → V0 < pl_V cd c + 16 ^ (64 - c) → c + (L - k) < n → wX_goBack_2 post (nI L) n (nI (k + 1)) (nI na) st bu (nI c) nd gn ls fa da fb db cl fl sv wa op ch cd cf co := by
  intro n
  induction n with
  | zero => intro k c m o x fl op ch cd cf co _ _ _ _ hn; exact absurd hn (Nat.not_lt_zero _)
  | succ n ih =>
    intro k c m o x fl op ch cd cf co hcf hnr hK hV hn
    have hcnt := pl_Cf_cnt _ _ _ _ _ hcf
    cases m with
    | zero => exact hcf.elim
    | succ m =>
      obtain ⟨⟨hkL, hwa, hso, hsx, hgo⟩, hcase⟩ := hcf
      have v1 : vp_in (nI (k + 1)) 9 := vp_in_nI (by omega) (by decide)
      rcases hcase with ⟨k', c', f, d, o', x', e1, e2, hf, hd, acd, acf, aco, aof, adf, eo, ex, hnb, hcf'⟩ | ⟨eo, ex, hb⟩
      · have ek : k' = k := by omega
        subst ek
        subst e2
        have hc64 : c' < 64 := by omega
        have v2 : vp_in (nI c') 72 := vp_in_nI (by omega) (by decide)
        obtain ⟨_, _, hso', hsx', hgo'⟩ := pl_Cf_hd hcf'
        have e63 : 64 - (c' + 1) = 63 - c' := by omega
        rw [e63] at hV
        have hnb1 : pl_NB na nd gn ls st k' f (d + 1) o' x' := pl_NB_NR hd hnb (by rw [← eo, ← ex]; exact hnr)
        refine br_f (nI_nlt hkL (by omega)) (br_f (nI_nle (by omega) (by omega)) ?_)
        rw [nI_pred, nI_clamp (n := c') (by omega), acf, pl_fd hf (by omega)]
        refine ⟨v2, by decide, br_t rfl (br_f (by decide) (nm_r (nI_pred c') ?_))⟩
        rw [nI_clamp (n := c') (by omega), nI_clamp (n := k' + 1) (by omega), acf, acd, aco, pl_fr hf (by omega), pl_pk1 hso', pl_pk2 hso' hsx']
        refine ⟨v2, by decide, nm_e ⟨v2, nm_e ⟨v2, v1, nm_e ⟨v2, v1, nm_e ?_⟩⟩⟩⟩
        rw [nI_1 d]
        refine xw_choose (k := k') (c := c') (d0 := d + 1) pk_us pk_us (by omega) hf (by omega) (by omega) (fun d2 q1 q2 q3 q4 q5 => ?_) (fun q => ?_)
        · refine br_f (by decide) ?_
          refine hC (k' + 1) (c' + 1) (m + 1) fl _ _ _ _ _ (by omega) hkL ?_ hK (pl_V_push hV (fun i hi => pk_un (by omega)) acd pk_us (by omega) q2)
          rw [pk_us, pk_us]
          refine ⟨⟨hkL, hwa, pl_Sm_nand hso', pl_D15_add q2 hsx', pl_Go_push hG (by omega) hgo' q4 q5⟩, Or.inl ⟨k', c', f, d2, o', x', rfl, rfl, hf, q2, pk_us, pk_us, pk_us, aof, q4.2.2, rfl, rfl, pl_NB_sks hD hs hG (by omega) hnb1 d2 q1 q3, ?_⟩⟩
          refine pl_Cf_fr m (k' + 1) c' o' x' (fun j _ => rfl) (fun j hj => ⟨?_, ?_⟩) (fun i hi => ⟨pk_un (by omega), pk_un (by omega), pk_un (by omega)⟩) hcf'
          · rw [pk_un (by omega), pk_un (by omega)]
          · rw [pk_un (by omega), pk_un (by omega)]
        · refine br_t rfl ?_
          refine ih k' c' m o' x' fl _ _ cd cf co ?_ (pl_NB_end hD hs (pl_NB_sks hD hs hG (by omega) hnb1 15 (by omega) q) aof) hK (pl_V_pop hc64 hV) (by omega)
          exact pl_Cf_fr m (k' + 1) c' o' x' (fun j _ => rfl) (fun j hj => ⟨pk_un (by omega), pk_un (by omega)⟩) (fun i hi => ⟨rfl, rfl, rfl⟩) hcf'
      · have hns : ¬ pl_Srv na nd gn ls st (k + 1) (wa (k + 1)) := pl_NR_srv (by rw [← eo, ← ex]; exact hnr)
        obtain ⟨j, hj, ej⟩ := pl_Sm_of hwa
        have mk36 : wX_goBack_36 post (wX_goBack_2 post (nI L) n) (nI L) (nI (k + 1)) (nI na) st bu (nI c) nd gn ls fa da fb db cl fl sv wa op ch cd cf co := by
          refine br_t rfl ⟨v1, ?_⟩
          rw [nI_clamp (n := k + 1) (by omega), ej]
          refine xw_mark0 (by omega) hj (fun fl1 hf1 => nm_r (nI_1 (k + 1)) ?_)
          have hK1 : pl_K na nd gn ls st fl1 sv := by
            intro L' j' hL' hj'
            refine ⟨fun z => ?_, (hK L' j' hL' hj').2⟩
            rcases (hf1 L' j' hj').mp z with a | ⟨a, b⟩
            · exact (hK L' j' hL' hj').1 a
            · rw [a, b, ← ej]; exact hns
          rcases hb with ⟨a, b⟩ | ⟨a, b, b2, b3⟩
          · obtain ⟨n', en⟩ : ∃ n', n = n' + 1 := ⟨n - 1, by omega⟩
            rw [en, a]
            rw [a] at hns
            exact br_t (nI_lt (by omega) (by omega)) (hE hns c fl1 op ch cd cf co hK1)
          · exact ih (k + 1) c m _ _ fl1 op ch cd cf co b3 (pl_NR_nx hD hs b2 hns) hK1 hV (by omega)
        refine br_f (nI_nlt hkL (by omega)) ?_
        rcases Nat.eq_zero_or_pos c with hc0 | hc0
        · refine br_t ?_ mk36
          rw [hc0]
          exact nI_le (a := 0) (b := 0) (by omega) (by decide)
        · obtain ⟨c', ec⟩ : ∃ c', c = c' + 1 := ⟨c - 1, by omega⟩
          subst ec
          rcases hb with ⟨a, b⟩ | ⟨a, b, b2, b3⟩
          · omega
          · obtain ⟨k2, f2, a1, a2, a3, a4⟩ := pl_Cf_top m (k + 1 + 1) c' _ _ b3
            refine br_f (nI_nle (by omega) (by omega)) ?_
            rw [nI_pred, nI_clamp (n := c') (by omega), a4, pl_fd a3 (by omega)]
            refine ⟨vp_in_nI (by omega) (by decide), by decide, br_f (fun z => ?_) mk36⟩
            rw [nI_eq (by omega) (by omega)] at z
            omega
/-- the search -/
theorem xw_sv_l {post : Int32 → SX → Prop} {L : Nat} {g : Int32} (hD : pl_D na nd gn ls) (hs : pl_Sm st) (hG : pl_G na nd gn ls st fa da fb db cl 8) (hL : L ≤ 8)
    (h1 : pl_Srv na nd gn ls st L g → ∀ (cc : Int32) (fl sv : Nat → Int64) (wa op ch cd cf co : Nat → Int32), pl_K na nd gn ls st fl sv → post 1 (nI na, st, bu, cc, nd, gn, ls, fa, da, fb, db, cl, fl, sv, wa, op, ch, cd, cf, co))
    (h0 : ¬ pl_Srv na nd gn ls st L g → ∀ (cc : Int32) (fl sv : Nat → Int64) (wa op ch cd cf co : Nat → Int32), pl_K na nd gn ls st fl sv → post 0 (nI na, st, bu, cc, nd, gn, ls, fa, da, fb, db, cl, fl, sv, wa, op, ch, cd, cf, co)) :
    ∀ (n k c m : Nat) (fl sv : Nat → Int64) (wa op ch cd cf co : Nat → Int32), wa L = g → (k = 0 → pl_Sub (wa 0) st) → pl_Cf na nd gn ls st L wa op ch cd cf co m k c (op k) (ch k) → pl_K na nd gn ls st fl sv → 10 * (pl_B - pl_V cd c) + k < n → wX_serves_46 post (nI L) n (nI k) (nI na) st bu (nI c) nd gn ls fa da fb db cl fl sv wa op ch cd cf co := by
  intro n
  induction n with
  | zero => intro k c m fl sv wa op ch cd cf co _ _ _ _ hn; exact absurd hn (Nat.not_lt_zero _)
  | succ n ih =>
    intro k c m fl sv wa op ch cd cf co hg hst hcf hK hn
    obtain ⟨hkL, hwa, hso, hsx, hgo⟩ := pl_Cf_hd hcf
    have hcnt := pl_Cf_cnt _ _ _ _ _ hcf
    have s70 : pl_Srv na nd gn ls st k (wa k) → wX_serves_70 post (nI L) (nI k) (nI na) st bu (nI c) nd gn ls fa da fb db cl fl sv wa op ch cd cf co := by
      intro hS
      have up := pl_Cf_up hD m k c _ _ hcf hS
      have sm := pl_Cf_sm m k c _ _ hcf
      refine xw_markAbove (Q := fun L' k' => L' ≤ 8 → pl_Srv na nd gn ls st L' (nI k')) hkL hL sm (fun sv1 hs1 => ?_) (fun j a b k' hk' e _ => ?_) (fun L' k' hk' hM hL' => (hK L' k' hL' hk').2 hM)
      · exact h1 (by rw [← hg]; exact up L hkL (Nat.le_refl L)) (nI c) fl sv1 wa op ch cd cf co (fun L' j hL' hj => ⟨(hK L' j hL' hj).1, fun hM => hs1 L' j hj hM hL'⟩)
      · rw [← e]; exact up j a b
    refine br_f (nI_nlt hkL (by omega)) ?_
    rcases Nat.eq_zero_or_pos k with hk0 | hk0
    · subst hk0
      exact br_t nI_0 (s70 ⟨st, rfl, hst rfl⟩)
    · obtain ⟨k', ek⟩ : ∃ k', k = k' + 1 := ⟨k - 1, by omega⟩
      subst ek
      have hVB := pl_V_lt cd (c := c) (by omega)
      have gb : ∀ P : Int32 → SX → Prop, (∀ (r cc1 : Int32) (fl1 : Nat → Int64) (op1 ch1 cd1 cf1 co1 : Nat → Int32), wX_serves_46 post (nI L) n r (nI na) st bu cc1 nd gn ls fa da fb db cl fl1 sv wa op1 ch1 cd1 cf1 co1 → P r (nI na, st, bu, cc1, nd, gn, ls, fa, da, fb, db, cl, fl1, sv, wa, op1, ch1, cd1, cf1, co1)) → pl_NR na nd gn ls st k' (op (k' + 1)) (ch (k' + 1)) → wpX_goBack P (nI na, st, bu, nI c, nd, gn, ls, fa, da, fb, db, cl, fl, sv, wa, op, ch, cd, cf, co) (nI (k' + 1)) (nI L) := by
        intro P hP hNR
        refine ⟨c + (L - k') + 1, ?_⟩
        have hp : 0 < (16 : Nat) ^ (64 - c) := Nat.pow_pos (by decide)
        refine xw_gb_l (V0 := pl_V cd c) hD hs hG hL (fun hnS c1 fl1 op1 ch1 cd1 cf1 co1 hK1 => hP _ _ _ _ _ _ _ _ ?_) (fun k1 c1 m1 fl1 op1 ch1 cd1 cf1 co1 a1 a2 a3 a4 a5 => hP _ _ _ _ _ _ _ _ ?_) _ k' c m _ _ fl op ch cd cf co hcf hNR hK (by omega) (by omega)
        · obtain ⟨n', en⟩ : ∃ n', n = n' + 1 := ⟨n - 1, by omega⟩
          rw [en]
          exact br_t (nI_lt (by omega) (by omega)) (h0 (by rw [← hg]; exact hnS) (nI c1) fl1 sv wa op1 ch1 cd1 cf1 co1 hK1)
        · exact ih k1 c1 m1 fl1 sv wa op1 ch1 cd1 cf1 co1 hg (fun z => absurd z (by omega)) a3 a4 (by omega)
      have v1 : vp_in (nI (k' + 1)) 9 := vp_in_nI (by omega) (by decide)
      obtain ⟨j, hj, ej⟩ := pl_Sm_of hwa
      refine br_f (nI_ne0 (by omega) (by omega)) ⟨v1, ?_⟩
      rw [nI_clamp (n := k' + 1) (by omega), ej]
      refine xw_isM1 (by omega) hj (fun hM => ?_) (fun hM => ?_)
      · exact br_f (by decide) (s70 (by rw [ej]; exact (hK (k' + 1) j (by omega) hj).2 hM))
      · refine br_t rfl ⟨v1, br_c (fun hz => ?_) (fun hz => ?_)⟩
        · refine xw_neededBy (by omega) (fun r hr => ?_)
          obtain ⟨jr, hjr, er⟩ := pl_Sm_of (pl_Nx_Sm hD hr)
          subst er
          rw [nI_pred]
          have g123 : ¬ pl_Srv na nd gn ls st k' (nI jr) → wX_serves_123 post (wX_serves_46 post (nI L) n) (nI L) (nI (k' + 1)) (nI jr) (nI na) st bu (nI c) nd gn ls fa da fb db cl fl sv wa op ch cd cf co := by
            intro hn2
            refine br_t rfl (gb _ (fun _ _ _ _ _ _ _ _ z => z) (pl_NR_nx hD hs hr hn2))
          refine xw_cbt (by omega) (fun hcb => ?_) (fun hcb => ?_)
          · refine br_f (by decide) (xw_isM0 (by omega) hjr (fun hM2 => ?_) (fun hM2 => ?_))
            · exact br_f (by decide) (g123 ((hK k' jr (by omega) hjr).1 hM2))
            · refine br_t rfl (br_f (by decide) (nm_r (pk_m1 k') (xw_enter (by omega) ?_)))
              refine ih k' c (m + 1) fl sv _ _ _ cd cf co ?_ (fun z => ?_) ?_ hK (by omega)
              · rw [pk_un (by omega)]; exact hg
              · subst z
                rw [pk_us]
                have w := hcb.1
                rw [hG.2.1] at w
                exact w
              · rw [pk_us, pk_us]
                have hsr := pl_Sm_nI hjr
                refine ⟨⟨by omega, ?_, hsr, pl_D15_0, ?_⟩, Or.inr ⟨?_, rfl, Or.inr ⟨by omega, ?_, ?_, ?_⟩⟩⟩
                · rw [pk_us]; exact hsr
                · rw [pk_us]; exact pl_Go_0 _
                · rw [pk_us]
                · rw [pk_un (by omega)]; exact hz
                · rw [pk_us, pk_un (by omega)]; exact hr
                · rw [pk_un (by omega), pk_un (by omega)]
                  exact pl_Cf_fr m (k' + 1) c _ _ (fun i hi => pk_un (by omega)) (fun i hi => ⟨pk_un (by omega), pk_un (by omega)⟩) (fun i hi => ⟨rfl, rfl, rfl⟩) hcf
          · exact br_t rfl (g123 (fun z => hcb (pl_Srv_CB hD hs hG (by omega) z)))
        · refine xw_lowestOpen (by omega) hso hz (fun f hf hT => ?_)
          refine xw_choose (k := k') (c := c) (d0 := 0) rfl rfl (by omega) hf (by omega) (by omega) (fun d q1 q2 q3 q4 q5 => ?_) (fun q => ?_)
          · refine br_f (by decide) ?_
            have hV := pl_V_up (cd := cd) (cd' := upd cd c (nI d)) (c := c) (fun i hi => pk_un (by omega))
            refine ih (k' + 1) (c + 1) (m + 1) fl sv wa _ _ _ _ _ hg (fun z => absurd z (by omega)) ?_ hK (by omega)
            rw [pk_us, pk_us]
            refine ⟨⟨hkL, hwa, pl_Sm_nand hso, pl_D15_add q2 hsx, pl_Go_push hG (by omega) hgo q4 q5⟩, Or.inl ⟨k', c, f, d, op (k' + 1), ch (k' + 1), rfl, rfl, hf, q2, pk_us, pk_us, pk_us, hT, q4.2.2, rfl, rfl, pl_NB_sks hD hs hG (by omega) pl_NB_0 d q1 q3, ?_⟩⟩
            exact pl_Cf_fr m (k' + 1) c _ _ (fun i _ => rfl) (fun i hi => ⟨pk_un (by omega), pk_un (by omega)⟩) (fun i hi => ⟨pk_un (by omega), pk_un (by omega), pk_un (by omega)⟩) hcf
          · exact br_t rfl (gb _ (fun _ _ _ _ _ _ _ _ z => z) (pl_NB_end hD hs (pl_NB_sks hD hs hG (by omega) pl_NB_0 15 (by omega) q) hT))
theorem xw_serves {cc : Int32} {fl sv : Nat → Int64} {wa op ch cd cf co : Nat → Int32} {post : Int32 → SX → Prop} {L : Nat} {g : Int32} (hD : pl_D na nd gn ls) (hs : pl_Sm st) (hG : pl_G na nd gn ls st fa da fb db cl 8) (hK : pl_K na nd gn ls st fl sv) (hL : L ≤ 8) (hg : pl_Sm g)
    (h1 : pl_Srv na nd gn ls st L g → ∀ (cc : Int32) (fl sv : Nat → Int64) (wa op ch cd cf co : Nat → Int32), pl_K na nd gn ls st fl sv → post 1 (nI na, st, bu, cc, nd, gn, ls, fa, da, fb, db, cl, fl, sv, wa, op, ch, cd, cf, co))
    (h0 : ¬ pl_Srv na nd gn ls st L g → ∀ (cc : Int32) (fl sv : Nat → Int64) (wa op ch cd cf co : Nat → Int32), pl_K na nd gn ls st fl sv → post 0 (nI na, st, bu, cc, nd, gn, ls, fa, da, fb, db, cl, fl, sv, wa, op, ch, cd, cf, co)) : wpX_serves post (nI na, st, bu, cc, nd, gn, ls, fa, da, fb, db, cl, fl, sv, wa, op, ch, cd, cf, co) g (nI L) := by
  obtain ⟨j, hj, ej⟩ := pl_Sm_of hg
  subst ej
  unfold wpX_serves
  dsimp only
  refine xw_cbt hL (fun hcb => ?_) (fun hcb => br_t rfl (h0 (fun z => hcb (pl_Srv_CB hD hs hG hL z)) cc fl sv wa op ch cd cf co hK))
  refine br_f (by decide) (xw_isM0 hL hj (fun hM => br_f (by decide) (h0 ((hK L j hL hj).1 hM) cc fl sv wa op ch cd cf co hK)) (fun hM => br_t rfl ?_))
  refine xw_isM1 hL hj (fun hM => br_f (by decide) (h1 ((hK L j hL hj).2 hM) cc fl sv wa op ch cd cf co hK)) (fun hM => br_t rfl ?_)
  refine xw_enter (by omega) ⟨10 * pl_B + L + 1, ?_⟩
  have hV : pl_V cd 0 = 0 := rfl
  refine xw_sv_l (g := nI j) hD hs hG hL h1 h0 _ L 0 1 fl sv (upd wa L (nI j)) (upd op L (nI j)) (upd ch L 0) cd cf co pk_us (fun z => ?_) ?_ hK (by omega)
  · subst z
    rw [pk_us]
    have w := hcb.1
    rw [hG.2.1] at w
    exact w
  · rw [pk_us, pk_us]
    refine ⟨⟨Nat.le_refl L, ?_, hg, pl_D15_0, ?_⟩, Or.inr ⟨?_, rfl, Or.inl ⟨rfl, rfl⟩⟩⟩
    · rw [pk_us]; exact hg
    · rw [pk_us]; exact pl_Go_0 _
    · rw [pk_us]
end
end
section
section
variable {na : Nat} {st bu cc : Int32} {nd gn ls fa da fb db cl wa op ch cd cf co : Nat → Int32} {fl sv : Nat → Int64}
theorem xw_il39 {post : Int32 → Prop} {J : Int32 → Prop} {l s : Int32} {i : Nat} (hna : na ≤ 7) (hi : i < na) (h1 : (∀ j, j < i → pl_T l j → ¬ pl_DC nd gn ls i j) → J (nI (i + 1))) (h0 : (∃ j, j < i ∧ pl_T l j ∧ pl_DC nd gn ls i j) → post 0) : ∀ (t j n : Nat), j + t = i → t < n → (∀ j', j' < j → pl_T l j' → ¬ pl_DC nd gn ls i j') → wX_isLayer_39 post J l s (nI i) (nI na) st bu cc nd gn ls fa da fb db cl fl sv wa op ch cd cf co n (nI j) := by
  intro t
  induction t with
  | zero =>
    intro j n hj hn hr
    obtain ⟨n, rfl⟩ : ∃ n', n = n' + 1 := ⟨n - 1, by omega⟩
    have e : j = i := by omega
    subst e
    exact br_t (nI_le (Nat.le_refl j) (by omega)) (nm_r (nI_1 j) (h1 hr))
  | succ t ih =>
    intro j n hj hn hr
    obtain ⟨n, rfl⟩ : ∃ n', n = n' + 1 := ⟨n - 1, by omega⟩
    have nx : (pl_T l j → ¬ pl_DC nd gn ls i j) → ∀ y, y = nI j + 1 → wX_isLayer_39 post J l s (nI i) (nI na) st bu cc nd gn ls fa da fb db cl fl sv wa op ch cd cf co n y := by
      intro hx y ey
      rw [ey, nI_1]
      refine ih (j + 1) n (by omega) (by omega) (fun f hf' hT => ?_)
      rcases Nat.lt_or_ge f j with z | z
      · exact hr f z hT
      · have e : f = j := by omega
        subst e; exact hx hT
    refine br_f (nI_ge (by omega) (by omega)) (pl_bit (pl_sh _ (by omega)) (fun z => nx (fun hT => absurd hT z)) (fun z => ?_))
    exact xw_deedsClash (by omega) (by omega) (fun w => br_f (by decide) (h0 ⟨j, by omega, z, w⟩)) (fun w => br_t rfl (nx (fun _ => w)))
theorem xw_il2 {post : Int32 → Prop} {l s : Int32} (hna : na ≤ 7) (h1 : pl_ok na nd gn ls s l → post 1) (h0 : ¬ pl_ok na nd gn ls s l → post 0) : ∀ (t i n : Nat), i + t = na → t < n → (∀ i', i' < i → pl_T l i' → pl_Sub (nd i') s ∧ ∀ j, j < i' → pl_T l j → ¬ pl_DC nd gn ls i' j) → wX_isLayer_2 post l s (nI na) st bu cc nd gn ls fa da fb db cl fl sv wa op ch cd cf co n (nI i) := by
  intro t
  induction t with
  | zero =>
    intro i n hi hn hr
    obtain ⟨n, rfl⟩ : ∃ n', n = n' + 1 := ⟨n - 1, by omega⟩
    have e : i = na := by omega
    subst e
    exact br_t (nI_le (Nat.le_refl i) (by omega)) (h1 hr)
  | succ t ih =>
    intro i n hi hn hr
    obtain ⟨n, rfl⟩ : ∃ n', n = n' + 1 := ⟨n - 1, by omega⟩
    have nx : (pl_T l i → pl_Sub (nd i) s ∧ ∀ j, j < i → pl_T l j → ¬ pl_DC nd gn ls i j) → wX_isLayer_2 post l s (nI na) st bu cc nd gn ls fa da fb db cl fl sv wa op ch cd cf co n (nI (i + 1)) := by
      intro hx
      refine ih (i + 1) n (by omega) (by omega) (fun f hf' hT => ?_)
      rcases Nat.lt_or_ge f i with z | z
      · exact hr f z hT
      · have e : f = i := by omega
        subst e; exact hx hT
    refine br_f (nI_ge (by omega) (by omega)) (pl_bit (pl_sh _ (by omega)) (fun z => nm_r (nI_1 i) (nx (fun hT => absurd hT z))) (fun z => ?_))
    rw [nI_clamp (by omega)]
    refine ⟨vp_in_nI (by omega) (by decide), pl_if (pl_sub _ _) (fun w => ⟨i + 1, ?_⟩) (fun w => h0 (fun y => w (y i (by omega) z).1))⟩
    refine xw_il39 hna (by omega) (fun y => nx (fun _ => ⟨w, y⟩)) (fun ⟨j, a, b, c⟩ => h0 (fun y => (y i (by omega) z).2 j a b c)) i 0 (i + 1) (by omega) (by omega) (fun j' h => absurd h (by omega))
theorem xw_isLayer {post : Int32 → Prop} {l s : Int32} (hna : na ≤ 7) (h1 : pl_ok na nd gn ls s l → post 1) (h0 : ¬ pl_ok na nd gn ls s l → post 0) : wpX_isLayer post (nI na, st, bu, cc, nd, gn, ls, fa, da, fb, db, cl, fl, sv, wa, op, ch, cd, cf, co) l s :=
  ⟨na + 1, xw_il2 hna h1 h0 na 0 (na + 1) (by omega) (by omega) (fun j' h => absurd h (by omega))⟩
theorem xw_af44 {post : Int32 → Prop} {l s : Int32} (hna : na ≤ 7) (h : ∀ r, pl_aft na gn ls s l r → post r) : ∀ (t i n : Nat) (r : Int32), i + t = na → t < n → (∀ b, pl_T r b ↔ (∃ i', i' < i ∧ pl_T l i' ∧ pl_T (gn i') b) ∨ (pl_T s b ∧ ∀ i', i' < na → pl_T l i' → ¬ pl_T (ls i') b)) → wX_after_44 post l (nI na) st bu cc nd gn ls fa da fb db cl fl sv wa op ch cd cf co n r (nI i) := by
  intro t
  induction t with
  | zero =>
    intro i n r hi hn hr
    obtain ⟨n, rfl⟩ : ∃ n', n = n' + 1 := ⟨n - 1, by omega⟩
    have e : i = na := by omega
    subst e
    exact br_t (nI_le (Nat.le_refl i) (by omega)) (h r hr)
  | succ t ih =>
    intro i n r hi hn hr
    obtain ⟨n, rfl⟩ : ∃ n', n = n' + 1 := ⟨n - 1, by omega⟩
    refine br_f (nI_ge (by omega) (by omega)) (pl_bit (pl_sh _ (by omega)) (fun z => nm_r (nI_1 i) ?_) (fun z => ?_))
    · refine ih (i + 1) n r (by omega) (by omega) (fun b => (hr b).trans (or_congr ⟨fun ⟨d, h1, h2⟩ => ⟨d, by omega, h2⟩, fun ⟨d, h1, h2⟩ => ⟨d, ?_, h2⟩⟩ Iff.rfl))
      rcases Nat.lt_or_ge d i with y | y
      · exact y
      · have e : d = i := by omega
        subst e; exact absurd h2.1 z
    · rw [nI_clamp (by omega)]
      refine ⟨vp_in_nI (by omega) (by decide), nm_e (nm_r (nI_1 i) ?_)⟩
      refine ih (i + 1) n _ (by omega) (by omega) (fun b => (pl_T_or _ _ b).trans ⟨?_, ?_⟩)
      · rintro (a | a)
        · rcases (hr b).mp a with ⟨d, h1, h2⟩ | c
          · exact Or.inl ⟨d, by omega, h2⟩
          · exact Or.inr c
        · exact Or.inl ⟨i, by omega, z, a⟩
      · rintro (⟨d, h1, h2⟩ | c)
        · rcases Nat.lt_or_ge d i with y | y
          · exact Or.inl ((hr b).mpr (Or.inl ⟨d, y, h2⟩))
          · have e : d = i := by omega
            subst e; exact Or.inr h2.2
        · exact Or.inl ((hr b).mpr (Or.inr c))
theorem xw_af5 {post : Int32 → Prop} {l s : Int32} (hna : na ≤ 7) (h : ∀ r, pl_aft na gn ls s l r → post r) : ∀ (t i n : Nat) (r : Int32), i + t = na → t < n → (∀ b, pl_T r b ↔ pl_T s b ∧ ∀ i', i' < i → pl_T l i' → ¬ pl_T (ls i') b) → wX_after_5 post l (nI na) st bu cc nd gn ls fa da fb db cl fl sv wa op ch cd cf co n r (nI i) := by
  intro t
  induction t with
  | zero =>
    intro i n r hi hn hr
    obtain ⟨n, rfl⟩ : ∃ n', n = n' + 1 := ⟨n - 1, by omega⟩
    have e : i = na := by omega
    subst e
    refine br_t (nI_le (Nat.le_refl i) (by omega)) ⟨i + 1, xw_af44 hna h i 0 (i + 1) r (by omega) (by omega) (fun b => (hr b).trans ⟨Or.inr, ?_⟩)⟩
    rintro (⟨d, a, _⟩ | a)
    · omega
    · exact a
  | succ t ih =>
    intro i n r hi hn hr
    obtain ⟨n, rfl⟩ : ∃ n', n = n' + 1 := ⟨n - 1, by omega⟩
    refine br_f (nI_ge (by omega) (by omega)) (pl_bit (pl_sh _ (by omega)) (fun z => nm_r (nI_1 i) ?_) (fun z => ?_))
    · refine ih (i + 1) n r (by omega) (by omega) (fun b => (hr b).trans (and_congr Iff.rfl ⟨fun a d h1 h2 => ?_, fun a d h1 h2 => a d (by omega) h2⟩))
      rcases Nat.lt_or_ge d i with y | y
      · exact a d y h2
      · have e : d = i := by omega
        subst e; exact absurd h2 z
    · rw [nI_clamp (by omega)]
      refine ⟨vp_in_nI (by omega) (by decide), nm_e (nm_r (nI_1 i) ?_)⟩
      refine ih (i + 1) n _ (by omega) (by omega) (fun b => (pl_T_nand _ _ b).trans ⟨?_, ?_⟩)
      · rintro ⟨a, c⟩
        obtain ⟨a1, a2⟩ := (hr b).mp a
        refine ⟨a1, fun d h1 h2 => ?_⟩
        rcases Nat.lt_or_ge d i with y | y
        · exact a2 d y h2
        · have e : d = i := by omega
          subst e; exact c
      · rintro ⟨a, c⟩
        exact ⟨(hr b).mpr ⟨a, fun d h1 h2 => c d (by omega) h2⟩, c i (by omega) z⟩
theorem xw_after {post : Int32 → Prop} {l s : Int32} (hna : na ≤ 7) (h : ∀ r, pl_aft na gn ls s l r → post r) : wpX_after post (nI na, st, bu, cc, nd, gn, ls, fa, da, fb, db, cl, fl, sv, wa, op, ch, cd, cf, co) l s :=
  ⟨na + 1, xw_af5 hna h na 0 (na + 1) s (by omega) (by omega) (fun b => ⟨fun a => ⟨a, fun d h => absurd h (by omega)⟩, fun a => a.1⟩)⟩
end
end
section
theorem pl_pw2 : ∀ n, n < 8 → (1 : Int32) <<< (nI n &&& 31) = nI (2 ^ n) := by decide +kernel
theorem pl_p7 {na : Nat} (h : na ≤ 7) : 2 ^ na ≤ 128 := Nat.pow_le_pow_right (n := 2) (by decide) h
theorem pl_lay (na : Nat) (l : Int32) : ∃ m, m < 2 ^ na ∧ ∀ i, i < na → i < 32 → (pl_T (nI m) i ↔ pl_T l i) := by
  refine ⟨l.toBitVec.toNat % 2 ^ na, Nat.mod_lt _ (Nat.two_pow_pos na), fun i hi h32 => ?_⟩
  rw [pl_T_nI h32, Nat.testBit_mod_two_pow, decide_eq_true hi, Bool.true_and]
  exact Iff.rfl
section
variable {na : Nat} {st : Int32} {nd gn ls : Nat → Int32}
theorem pl_ok_fr {s l l' : Int32} (h : ∀ i, i < na → (pl_T l' i ↔ pl_T l i)) (ho : pl_ok na nd gn ls s l) : pl_ok na nd gn ls s l' := by
  intro i hi hl
  obtain ⟨a, b⟩ := ho i hi ((h i hi).mp hl)
  exact ⟨a, fun j hj hlj => b j hj ((h j (by omega)).mp hlj)⟩
theorem pl_aft_fr {s l l' r : Int32} (h : ∀ i, i < na → (pl_T l' i ↔ pl_T l i)) (ha : pl_aft na gn ls s l r) : pl_aft na gn ls s l' r := by
  intro b
  refine (ha b).trans (or_congr ?_ (and_congr Iff.rfl ?_))
  · constructor
    · rintro ⟨i, h1, h2, h3⟩; exact ⟨i, h1, (h i h1).mpr h2, h3⟩
    · rintro ⟨i, h1, h2, h3⟩; exact ⟨i, h1, (h i h1).mp h2, h3⟩
  · constructor
    · intro a i h1 h2; exact a i h1 ((h i h1).mp h2)
    · intro a i h1 h2; exact a i h1 ((h i h1).mpr h2)
theorem pl_Step_m (hna : na ≤ 7) {s s' : Int32} (h : pl_Step na nd gn ls s s') : ∃ m, m < 2 ^ na ∧ pl_ok na nd gn ls s (nI m) ∧ pl_aft na gn ls s (nI m) s' := by
  obtain ⟨l, h1, h2⟩ := h
  obtain ⟨m, hm, he⟩ := pl_lay na l
  have he' : ∀ i, i < na → (pl_T (nI m) i ↔ pl_T l i) := fun i hi => he i hi (by omega)
  exact ⟨m, hm, pl_ok_fr he' h1, pl_aft_fr he' h2⟩
end
section
variable {na : Nat} {st : Int32} {nd gn ls hd : Nat → Int32}
theorem yw_isSet {post : Int32 → Prop} (x : Int32) (h1 : pl_Sm x → post 1) (h0 : ¬ pl_Sm x → post 0) : wpY_isSet post (nI na, st, nd, gn, ls, hd) x :=
  br_c (fun a => h0 (fun z => ((pl_Sm_iff x).mp z).1 a)) (fun a => br_c (fun b => h0 (fun z => ((pl_Sm_iff x).mp z).2 b)) (fun b => h1 ((pl_Sm_iff x).mpr ⟨a, b⟩)))
theorem yw_isAction {post : Int32 → Prop} (hna : na ≤ 7) (x : Int32) (h1 : ∀ i, i < na → x = nI i → post 1) (h0 : (∀ i, i < na → x ≠ nI i) → post 0) : wpY_isAction post (nI na, st, nd, gn, ls, hd) x := by
  refine br_c (fun a => h0 (fun i hi e => ?_)) (fun a => ?_)
  · rw [e] at a; exact nI_pos (by omega) a
  · obtain ⟨j, hj, rfl⟩ := nI_of a
    exact pk_le na j (fun w => h0 (fun i hi e => by rw [nI_eq hj (by omega)] at e; omega)) (fun w => h1 j w rfl)
theorem pl_DC_lo {i j : Nat} (hi : i < 7) (hj : j < 7) : pl_DC nd gn ls i j ↔ ¬ (ls i &&& (nd j ||| gn j)) = 0 ∨ ¬ (ls j &&& (nd i ||| gn i)) = 0 := by
  unfold pl_DC
  rw [pl_dl_lo hi, pl_dl_lo hj, pl_dn_lo hi, pl_dn_lo hj, pl_dn_lo hi, pl_dn_lo hj]
theorem yw_clash {post : Int32 → Prop} {i j : Nat} (hna : na ≤ 7) (hi : i < na) (hj : j < na) (hn : i ≠ j) (h1 : pl_DC nd gn ls i j → post 1) (h0 : ¬ pl_DC nd gn ls i j → post 0) : wpY_clash post (nI na, st, nd, gn, ls, hd) (nI i) (nI j) := by
  unfold wpY_clash
  dsimp only
  refine yw_isAction hna _ (fun _ _ _ => br_f (by decide) ?_) (fun z => absurd rfl (z i hi))
  refine yw_isAction hna _ (fun _ _ _ => br_f (by decide) ?_) (fun z => absurd rfl (z j hj))
  rw [pl_DC_lo (by omega) (by omega)] at h1 h0
  refine br_f (fun z => by rw [nI_eq (by omega) (by omega)] at z; exact hn z) ?_
  rw [nI_clamp (n := i) (by omega), nI_clamp (n := j) (by omega)]
  have vi : vp_in (nI i) 7 := vp_in_nI (by omega) (by decide)
  have vj : vp_in (nI j) 7 := vp_in_nI (by omega) (by decide)
  refine ⟨vi, vj, vj, br_c (fun a => ⟨vj, vi, vi, br_c (fun b => h0 ?_) (fun b => h1 (Or.inr b))⟩) (fun a => h1 (Or.inl a))⟩
  rintro (z | z)
  · exact z a
  · exact z b
theorem yw_a45 {post : Int32 → Prop} {J : Int32 → Int32 → Int32 → Prop} {s l p q : Int32} {i : Nat} (hna : na ≤ 7) (hi : i < na) (h1 : (∀ j, j < i → pl_T l j → ¬ pl_DC nd gn ls i j) → J (p ||| ls i) (q ||| gn i) (nI (i + 1))) (h0 : (∃ j, j < i ∧ pl_T l j ∧ pl_DC nd gn ls i j) → post (-1)) : ∀ (t j n : Nat), j + t = i → t < n → (∀ j', j' < j → pl_T l j' → ¬ pl_DC nd gn ls i j') → wY_after_45 post J s l p q (nI i) (nI na) st nd gn ls hd n (nI j) := by
  intro t
  induction t with
  | zero =>
    intro j n hj hn hr
    obtain ⟨n, rfl⟩ : ∃ n', n = n' + 1 := ⟨n - 1, by omega⟩
    have e : j = i := by omega
    subst e
    have vi : vp_in (nI j) 7 := vp_in_nI (by omega) (by decide)
    refine br_t (nI_le (Nat.le_refl j) (by omega)) ?_
    rw [nI_clamp (n := j) (by omega)]
    exact ⟨vi, nm_e ⟨vi, nm_e (nm_r (nI_1 j) (h1 hr))⟩⟩
  | succ t ih =>
    intro j n hj hn hr
    obtain ⟨n, rfl⟩ : ∃ n', n = n' + 1 := ⟨n - 1, by omega⟩
    have nx : (pl_T l j → ¬ pl_DC nd gn ls i j) → ∀ y, y = nI j + 1 → wY_after_45 post J s l p q (nI i) (nI na) st nd gn ls hd n y := by
      intro hx y ey
      rw [ey, nI_1]
      refine ih (j + 1) n (by omega) (by omega) (fun f hf' hT => ?_)
      rcases Nat.lt_or_ge f j with z | z
      · exact hr f z hT
      · have e : f = j := by omega
        subst e; exact hx hT
    refine br_f (nI_ge (by omega) (by omega)) (pl_bit (pl_sh _ (by omega)) (fun z => nx (fun hT => absurd hT z)) (fun z => ?_))
    exact yw_clash hna (by omega) (by omega) (by omega) (fun w => br_f (by decide) (h0 ⟨j, by omega, z, w⟩)) (fun w => br_t rfl (nx (fun _ => w)))
theorem yw_a8 {post : Int32 → Prop} {s l : Int32} (hna : na ≤ 7) (h1 : pl_ok na nd gn ls s l → ∀ r, pl_aft na gn ls s l r → post r) (h0 : ¬ pl_ok na nd gn ls s l → post (-1)) : ∀ (t i n : Nat) (p q : Int32), i + t = na → t < n → (∀ b, pl_T p b ↔ ∃ i', i' < i ∧ pl_T l i' ∧ pl_T (ls i') b) → (∀ b, pl_T q b ↔ ∃ i', i' < i ∧ pl_T l i' ∧ pl_T (gn i') b) → (∀ i', i' < i → pl_T l i' → pl_Sub (nd i') s ∧ ∀ j, j < i' → pl_T l j → ¬ pl_DC nd gn ls i' j) → wY_after_8 post s l (nI na) st nd gn ls hd n p q (nI i) := by
  intro t
  induction t with
  | zero =>
    intro i n p q hi hn hp hq hr
    obtain ⟨n, rfl⟩ : ∃ n', n = n' + 1 := ⟨n - 1, by omega⟩
    have e : i = na := by omega
    subst e
    refine br_t (nI_le (Nat.le_refl i) (by omega)) (h1 hr _ (fun b => ?_))
    rw [pl_T_or, pl_T_nand, hp, hq]
    unfold pl_M
    constructor
    · rintro (⟨a, c⟩ | c)
      · exact Or.inr ⟨a, fun i h1 h2 h3 => c ⟨i, h1, h2, h3⟩⟩
      · exact Or.inl c
    · rintro (c | ⟨a, c⟩)
      · exact Or.inr c
      · exact Or.inl ⟨a, fun ⟨i, h1, h2, h3⟩ => c i h1 h2 h3⟩
  | succ t ih =>
    intro i n p q hi hn hp hq hr
    obtain ⟨n, rfl⟩ : ∃ n', n = n' + 1 := ⟨n - 1, by omega⟩
    have keep : ∀ (a : Nat → Int32) (x : Int32), ¬ pl_T l i → (∀ b, pl_T x b ↔ ∃ i', i' < i ∧ pl_T l i' ∧ pl_T (a i') b) → ∀ b, pl_T x b ↔ ∃ i', i' < i + 1 ∧ pl_T l i' ∧ pl_T (a i') b := by
      intro a x z hx b
      refine (hx b).trans ⟨fun ⟨d, h1, h2⟩ => ⟨d, by omega, h2⟩, fun ⟨d, h1, h2⟩ => ⟨d, ?_, h2⟩⟩
      rcases Nat.lt_or_ge d i with y | y
      · exact y
      · have e : d = i := by omega
        subst e; exact absurd h2.1 z
    have grow : ∀ (a : Nat → Int32) (x : Int32), pl_T l i → (∀ b, pl_T x b ↔ ∃ i', i' < i ∧ pl_T l i' ∧ pl_T (a i') b) → ∀ b, pl_T (x ||| a i) b ↔ ∃ i', i' < i + 1 ∧ pl_T l i' ∧ pl_T (a i') b := by
      intro a x z hx b
      rw [pl_T_or]
      constructor
      · rintro (c | c)
        · obtain ⟨d, h1, h2⟩ := (hx b).mp c
          exact ⟨d, by omega, h2⟩
        · exact ⟨i, by omega, z, c⟩
      · rintro ⟨d, h1, h2⟩
        rcases Nat.lt_or_ge d i with y | y
        · exact Or.inl ((hx b).mpr ⟨d, y, h2⟩)
        · have e : d = i := by omega
          subst e; exact Or.inr h2.2
    have pre : (pl_T l i → pl_Sub (nd i) s ∧ ∀ j, j < i → pl_T l j → ¬ pl_DC nd gn ls i j) → ∀ i', i' < i + 1 → pl_T l i' → pl_Sub (nd i') s ∧ ∀ j, j < i' → pl_T l j → ¬ pl_DC nd gn ls i' j := by
      intro hx f hf' hT
      rcases Nat.lt_or_ge f i with z | z
      · exact hr f z hT
      · have e : f = i := by omega
        subst e; exact hx hT
    refine br_f (nI_ge (by omega) (by omega)) (pl_bit (pl_sh _ (by omega)) (fun z => nm_r (nI_1 i) ?_) (fun z => ?_))
    · exact ih (i + 1) n p q (by omega) (by omega) (keep ls p z hp) (keep gn q z hq) (pre (fun hT => absurd hT z))
    · rw [nI_clamp (by omega)]
      refine ⟨vp_in_nI (by omega) (by decide), pl_if (pl_sub _ _) (fun w => ⟨i + 1, ?_⟩) (fun w => h0 (fun y => w (y i (by omega) z).1))⟩
      refine yw_a45 hna (by omega) (fun y => ?_) (fun ⟨j, a, b, c⟩ => h0 (fun y => (y i (by omega) z).2 j a b c)) i 0 (i + 1) (by omega) (by omega) (fun j' h => absurd h (by omega))
      exact ih (i + 1) n _ _ (by omega) (by omega) (grow ls p z hp) (grow gn q z hq) (pre (fun _ => ⟨w, y⟩))
theorem yw_after {post : Int32 → Prop} {s l : Int32} (hna : na ≤ 7) (h1 : pl_ok na nd gn ls s l → ∀ r, pl_aft na gn ls s l r → post r) (h0 : ¬ pl_ok na nd gn ls s l → post (-1)) : wpY_after post (nI na, st, nd, gn, ls, hd) s l :=
  ⟨na + 1, yw_a8 hna h1 h0 na 0 (na + 1) 0 0 (by omega) (by omega) (fun b => ⟨fun a => absurd a (pl_T_0 b), fun ⟨d, a, _⟩ => absurd a (by omega)⟩) (fun b => ⟨fun a => absurd a (pl_T_0 b), fun ⟨d, a, _⟩ => absurd a (by omega)⟩) (fun j' h => absurd h (by omega))⟩
end
end
section
/-! setOut: had is reach -/
def pl_Hd (na : Nat) (nd gn ls : Nat → Int32) (s0 : Nat) (hd : Nat → Int32) (N : Nat) : Prop :=
  (∀ j, j < 2304 → ¬ hd j = 0 → pl_R na nd gn ls (nI s0) (j / 256) (nI (j % 256))) ∧ ¬ hd s0 = 0 ∧ ∀ k p q, 256 * k + p < N → p < 256 → q < 256 → pl_R na nd gn ls (nI s0) k (nI p) → pl_Step na nd gn ls (nI p) (nI q) → ¬ hd (256 * k + 256 + q) = 0
def pl_HR (na : Nat) (nd gn ls : Nat → Int32) (st : Int32) (hd : Nat → Int32) : Prop := ∀ k q, k ≤ 8 → q < 256 → (¬ hd (256 * k + q) = 0 ↔ pl_R na nd gn ls st k (nI q))
section
variable {na : Nat} {st : Int32} {nd gn ls hd : Nat → Int32}
theorem pl_Hd_c (hD : pl_D na nd gn ls) {s0 : Nat} (h0 : s0 < 256) {N : Nat} (h : pl_Hd na nd gn ls s0 hd N) : ∀ k q, 256 * k ≤ N → q < 256 → pl_R na nd gn ls (nI s0) k (nI q) → ¬ hd (256 * k + q) = 0
  | 0, q, _, hq, hr => by
    have e : nI q = nI s0 := hr
    rw [nI_eq (by omega) (by omega)] at e
    rw [e, show 256 * 0 + s0 = s0 by omega]
    exact h.2.1
  | k + 1, q, hN, hq, hr => by
    obtain ⟨s, h1, h2⟩ := hr
    obtain ⟨p, hp, ep⟩ := pl_Sm_of (pl_R_Sm hD (pl_Sm_nI h0) k s h1)
    subst ep
    have z := h.2.2 k p q (by omega) hp hq h1 h2
    rw [show 256 * (k + 1) + q = 256 * k + 256 + q by omega]
    exact z
theorem pl_HR_of (hD : pl_D na nd gn ls) {s0 : Nat} (h0 : s0 < 256) (h : pl_Hd na nd gn ls s0 hd 2048) : pl_HR na nd gn ls (nI s0) hd := by
  intro k q hk hq
  constructor
  · intro z
    have w := h.1 (256 * k + q) (by omega) z
    rw [show (256 * k + q) / 256 = k by omega, show (256 * k + q) % 256 = q by omega] at w
    exact w
  · exact pl_Hd_c hD h0 h k q (by omega) hq
theorem yw_so42 {post : SY → Prop} {J : Int32 → (Nat → Int32) → (Nat → Int32) → (Nat → Int32) → (Nat → Int32) → Prop} {s0 k p : Nat} (hD : pl_D na nd gn ls) (h0 : s0 < 256) (hk : k < 8) (hp : p < 256) (h : ∀ hd2 : Nat → Int32, pl_Hd na nd gn ls s0 hd2 (256 * k + p + 1) → J (nI (256 * k + p + 1)) nd gn ls hd2) :
    ∀ (t m n : Nat) (hd1 : Nat → Int32), m + t = 2 ^ na → t < n → pl_Hd na nd gn ls s0 hd1 (256 * k + p) → ¬ hd1 (256 * k + p) = 0 → (∀ m', m' < m → pl_ok na nd gn ls (nI p) (nI m') → ∀ q, q < 256 → pl_aft na gn ls (nI p) (nI m') (nI q) → ¬ hd1 (256 * k + 256 + q) = 0) → wY_setOut_42 post J (nI (256 * k + p)) (nI na) st n (nI m) nd gn ls hd1 := by
  have hna := hD.1
  have hp7 := pl_p7 hna
  have hv : vp_in (nI (256 * k + p)) 2304 := vp_in_nI (by omega) (by decide)
  have hcl : (nI (256 * k + p)).toNatClampNeg = 256 * k + p := nI_clamp (by omega)
  intro t
  induction t with
  | zero =>
    intro m n hd1 hm hn hH hi hr
    obtain ⟨n, rfl⟩ : ∃ n', n = n' + 1 := ⟨n - 1, by omega⟩
    have e : m = 2 ^ na := by omega
    subst e
    refine And.intro hv (br_f (by rw [hcl]; exact hi) (br_t ?_ (nm_r (nI_1 (256 * k + p)) (h hd1 ⟨hH.1, hH.2.1, fun k' p' q' a1 a2 a3 a4 a5 => ?_⟩))))
    · rw [pl_pw2 na (by omega)]; exact nI_le (Nat.le_refl _) (by omega)
    · rcases Nat.lt_or_ge (256 * k' + p') (256 * k + p) with z | z
      · exact hH.2.2 k' p' q' z a2 a3 a4 a5
      · have ek : k' = k := by omega
        have ep : p' = p := by omega
        subst ek; subst ep
        obtain ⟨m, b1, b2, b3⟩ := pl_Step_m hna a5
        exact hr m b1 b2 q' a3 b3
  | succ t ih =>
    intro m n hd1 hm hn hH hi hr
    obtain ⟨n, rfl⟩ : ∃ n', n = n' + 1 := ⟨n - 1, by omega⟩
    have hR : pl_R na nd gn ls (nI s0) k (nI p) := by
      have w := hH.1 (256 * k + p) (by omega) hi
      rw [show (256 * k + p) / 256 = k by omega, show (256 * k + p) % 256 = p by omega] at w
      exact w
    have hm2 : m < 2 ^ na := by omega
    refine And.intro hv (br_f (by rw [hcl]; exact hi) (br_f ?_ ⟨by decide, ?_⟩))
    · rw [pl_pw2 na (by omega)]; exact nI_ge hm2 (by omega)
    have er : nI (256 * k + p) - nI (256 * k + p) / 256 * 256 = nI p := by
      rw [show nI (256 * k + p) - nI (256 * k + p) / 256 * 256 = nI ((256 * k + p) % 256) from pk_rem (by omega) (by decide) (by decide)]
      exact congrArg nI (by omega)
    rw [er]
    refine yw_after hna (fun ho r ha => ?_) (fun ho => ?_)
    · obtain ⟨q, hq, eq⟩ := pl_Sm_of (pl_aft_Sm hD (pl_Sm_nI hp) ha)
      subst eq
      have ei : nI (256 * k + p) / 256 * 256 + 256 + nI q = nI (256 * k + 256 + q) := by
        rw [show nI (256 * k + p) / 256 = nI ((256 * k + p) / 256) from pk_div (by omega) (by decide) (by decide), show nI ((256 * k + p) / 256) * 256 = nI ((256 * k + p) / 256 * 256) from pk_mul _ 256, show nI ((256 * k + p) / 256 * 256) + 256 = nI ((256 * k + p) / 256 * 256 + 256) from nI_add _ 256, nI_add]
        exact congrArg nI (by omega)
      refine br_f (nI_pos (by omega)) ⟨by decide, ?_⟩
      rw [ei, nI_clamp (by omega)]
      refine ⟨vp_in_nI (by omega) (by decide), nm_e (nm_r (nI_1 m) ?_)⟩
      have hone : ∀ j, ¬ hd1 j = 0 → ¬ upd hd1 (256 * k + 256 + q) (vp_nar .boolean 1) j = 0 := by
        intro j hj
        by_cases z : j = 256 * k + 256 + q
        · rw [z, pk_us]; decide
        · rw [pk_un z]; exact hj
      refine ih (m + 1) n _ (by omega) (by omega) ⟨fun j hj hz => ?_, hone _ hH.2.1, fun k' p' q' a1 a2 a3 a4 a5 => hone _ (hH.2.2 k' p' q' a1 a2 a3 a4 a5)⟩ (hone _ hi) (fun m' hm' ho' q' hq' ha' => ?_)
      · by_cases z : j = 256 * k + 256 + q
        · rw [z, show (256 * k + 256 + q) / 256 = k + 1 by omega, show (256 * k + 256 + q) % 256 = q by omega]
          exact ⟨nI p, hR, nI m, ho, ha⟩
        · rw [pk_un z] at hz
          exact hH.1 j hj hz
      · rcases Nat.lt_or_ge m' m with z | z
        · exact hone _ (hr m' z ho' q' hq' ha')
        · have e : m' = m := by omega
          subst e
          have e2 := pl_aft_un ha ha'
          rw [nI_eq (by omega) (by omega)] at e2
          subst e2
          rw [pk_us]; decide
    · refine br_t (by decide) (nm_r (nI_1 m) (ih (m + 1) n hd1 (by omega) (by omega) hH hi (fun m' hm' ho' q' hq' ha' => ?_)))
      rcases Nat.lt_or_ge m' m with z | z
      · exact hr m' z ho' q' hq' ha'
      · have e : m' = m := by omega
        subst e
        exact absurd ho' ho
theorem yw_so33 {post : SY → Prop} {s0 : Nat} (hD : pl_D na nd gn ls) (h0 : s0 < 256) (h : ∀ hd2 : Nat → Int32, pl_HR na nd gn ls (nI s0) hd2 → post (nI na, st, nd, gn, ls, hd2)) :
    ∀ (t i n : Nat) (hd1 : Nat → Int32), i + t = 2048 → t < n → pl_Hd na nd gn ls s0 hd1 i → wY_setOut_33 post (nI na) st n (nI i) nd gn ls hd1 := by
  have hna := hD.1
  have hp7 := pl_p7 hna
  intro t
  induction t with
  | zero =>
    intro i n hd1 hi hn hH
    obtain ⟨n, rfl⟩ : ∃ n', n = n' + 1 := ⟨n - 1, by omega⟩
    have e : i = 2048 := by omega
    subst e
    exact br_t (nI_le (a := 2048) (b := 2048) (by omega) (by decide)) (h hd1 (pl_HR_of hD h0 hH))
  | succ t ih =>
    intro i n hd1 hi hn hH
    obtain ⟨n, rfl⟩ : ∃ n', n = n' + 1 := ⟨n - 1, by omega⟩
    obtain ⟨k, p, hk, hp, ei⟩ : ∃ k p, k < 8 ∧ p < 256 ∧ i = 256 * k + p := ⟨i / 256, i % 256, by omega, by omega, by omega⟩
    subst ei
    refine br_f (nI_ge (b := 2048) (by omega) (by decide)) ⟨2 ^ na + 1, ?_⟩
    by_cases hz : hd1 (256 * k + p) = 0
    · have hv : vp_in (nI (256 * k + p)) 2304 := vp_in_nI (by omega) (by decide)
      have hcl : (nI (256 * k + p)).toNatClampNeg = 256 * k + p := nI_clamp (by omega)
      refine And.intro hv (br_t (by rw [hcl]; exact hz) (nm_r (nI_1 (256 * k + p)) (ih (256 * k + p + 1) n hd1 (by omega) (by omega) ⟨hH.1, hH.2.1, fun k' p' q' a1 a2 a3 a4 a5 => ?_⟩)))
      rcases Nat.lt_or_ge (256 * k' + p') (256 * k + p) with z | z
      · exact hH.2.2 k' p' q' z a2 a3 a4 a5
      · have ek : k' = k := by omega
        have ep : p' = p := by omega
        subst ek; subst ep
        exact absurd hz (pl_Hd_c hD h0 hH k' p' (by omega) hp a4)
    · exact yw_so42 hD h0 hk hp (fun hd2 hH2 => ih (256 * k + p + 1) n hd2 (by omega) (by omega) hH2) (2 ^ na) 0 (2 ^ na + 1) hd1 (by omega) (by omega) hH hz (fun m' h => absurd h (by omega))
theorem yw_so2 {post : SY → Prop} {s0 : Nat} (hD : pl_D na nd gn ls) (h0 : s0 < 256) (h : ∀ hd2 : Nat → Int32, pl_HR na nd gn ls (nI s0) hd2 → post (nI na, st, nd, gn, ls, hd2)) :
    ∀ (t i n : Nat) (hd1 : Nat → Int32), i + t = 2304 → t < n → (∀ j, j < i → (¬ hd1 j = 0 ↔ j = s0)) → wY_setOut_2 post (nI s0) (nI na) st n (nI i) nd gn ls hd1 := by
  intro t
  induction t with
  | zero =>
    intro i n hd1 hi hn hr
    obtain ⟨n, rfl⟩ : ∃ n', n = n' + 1 := ⟨n - 1, by omega⟩
    have e : i = 2304 := by omega
    subst e
    refine br_t (nI_le (a := 2304) (b := 2304) (by omega) (by decide)) ⟨2049, yw_so33 hD h0 h 2048 0 2049 hd1 (by omega) (by omega) ⟨fun j hj hz => ?_, (hr s0 (by omega)).mpr rfl, fun k' p' q' a1 => absurd a1 (by omega)⟩⟩
    have e := (hr j hj).mp hz
    subst e
    rw [show j / 256 = 0 by omega, show j % 256 = j by omega]
    exact rfl
  | succ t ih =>
    intro i n hd1 hi hn hr
    obtain ⟨n, rfl⟩ : ∃ n', n = n' + 1 := ⟨n - 1, by omega⟩
    have hv : vp_in (nI i) 2304 := vp_in_nI (by omega) (by decide)
    have hcl : (nI i).toNatClampNeg = i := nI_clamp (by omega)
    refine br_f (nI_ge (b := 2304) (by omega) (by decide)) (pk_eq i s0 (fun z => ⟨hv, ?_⟩) (fun z => ⟨hv, ?_⟩))
    · rw [hcl]
      refine nm_e (nm_r (nI_1 i) (ih (i + 1) n _ (by omega) (by omega) (fun j hj => ?_)))
      rcases Nat.lt_or_ge j i with y | y
      · rw [pk_un (by omega)]; exact hr j y
      · have e : j = i := by omega
        subst e
        rw [pk_us]
        exact ⟨fun _ => z, fun _ => by decide⟩
    · rw [hcl]
      refine nm_e (nm_r (nI_1 i) (ih (i + 1) n _ (by omega) (by omega) (fun j hj => ?_)))
      rcases Nat.lt_or_ge j i with y | y
      · rw [pk_un (by omega)]; exact hr j y
      · have e : j = i := by omega
        subst e
        rw [pk_us]
        exact ⟨fun w => absurd (by decide) w, fun w => absurd w z⟩
theorem yw_setOut {post : SY → Prop} {s : Int32} (hD : pl_D na nd gn ls) (hs : pl_Sm s) (h : ∀ hd2 : Nat → Int32, pl_HR na nd gn ls s hd2 → post (nI na, st, nd, gn, ls, hd2)) : wpY_setOut post (nI na, st, nd, gn, ls, hd) s := by
  obtain ⟨s0, h0, e⟩ := pl_Sm_of hs
  subst e
  exact ⟨2305, yw_so2 hD h0 h 2304 0 2305 hd (by omega) (by omega) (fun j hj => absurd hj (by omega))⟩
theorem yw_sd_l {post : Int32 → Prop} {g : Int32} {k : Nat} (hk : k ≤ 8) (h1 : (∃ q, q < 256 ∧ ¬ hd (256 * k + q) = 0 ∧ pl_Sub g (nI q)) → post 1) (h0 : ¬ (∃ q, q < 256 ∧ ¬ hd (256 * k + q) = 0 ∧ pl_Sub g (nI q)) → post 0) :
    ∀ (t i n : Nat), i + t = 256 → t < n → (∀ q, q < i → ¬ (¬ hd (256 * k + q) = 0 ∧ pl_Sub g (nI q))) → wY_served_2 post g (nI k) (nI na) st nd gn ls hd n (nI i) := by
  intro t
  induction t with
  | zero =>
    intro i n hi hn hr
    obtain ⟨n, rfl⟩ : ∃ n', n = n' + 1 := ⟨n - 1, by omega⟩
    have e : i = 256 := by omega
    subst e
    exact br_t (nI_le (a := 256) (b := 256) (by omega) (by decide)) (h0 (fun ⟨q, a, b⟩ => hr q a b))
  | succ t ih =>
    intro i n hi hn hr
    obtain ⟨n, rfl⟩ : ∃ n', n = n' + 1 := ⟨n - 1, by omega⟩
    have nx : ¬ (¬ hd (256 * k + i) = 0 ∧ pl_Sub g (nI i)) → ∀ y, y = nI i + 1 → wY_served_2 post g (nI k) (nI na) st nd gn ls hd n y := by
      intro hx y ey
      rw [ey, nI_1]
      refine ih (i + 1) n (by omega) (by omega) (fun f hf' => ?_)
      rcases Nat.lt_or_ge f i with z | z
      · exact hr f z
      · have e : f = i := by omega
        subst e; exact hx
    have ei : nI k * 256 + nI i = nI (256 * k + i) := by
      rw [show nI k * 256 = nI (k * 256) from pk_mul k 256, nI_add]
      exact congrArg nI (by omega)
    refine br_f (nI_ge (b := 256) (by omega) (by decide)) ?_
    rw [ei, nI_clamp (by omega)]
    refine ⟨vp_in_nI (by omega) (by decide), br_c (fun z => nx (fun w => w.1 z)) (fun z => ?_)⟩
    exact pl_if (pl_sub _ _) (fun w => h1 ⟨i, by omega, z, w⟩) (fun w => nx (fun v => w v.2))
theorem yw_served {post : Int32 → Prop} {g : Int32} {k : Nat} (hD : pl_D na nd gn ls) {s : Int32} (hs : pl_Sm s) (hk : k ≤ 8) (hH : pl_HR na nd gn ls s hd) (h1 : pl_Srv na nd gn ls s k g → post 1) (h0 : ¬ pl_Srv na nd gn ls s k g → post 0) : wpY_served post (nI na, st, nd, gn, ls, hd) g (nI k) := by
  refine ⟨257, yw_sd_l hk (fun ⟨q, a, b, c⟩ => h1 ⟨nI q, (hH k q hk a).mp b, c⟩) (fun z => h0 (fun ⟨s', a, b⟩ => ?_)) 256 0 257 (by omega) (by omega) (fun q h => absurd h (by omega))⟩
  obtain ⟨q, hq, e⟩ := pl_Sm_of (pl_R_Sm hD hs k s' a)
  subst e
  exact z ⟨q, hq, (hH k q hk hq).mpr a, b⟩
end
end
section
def pl_I (na : Nat) (nd gn ls : Nat → Int32) (st bu : Int32) (fa da fb db cl : Nat → Int32) (fl sv : Nat → Int64) : Prop := ¬ bu = 0 → pl_G na nd gn ls st fa da fb db cl 8 ∧ pl_K na nd gn ls st fl sv
def pl_Few (na : Nat) (nd gn ls : Nat → Int32) (st g r : Int32) : Prop := (∃ k, k ≤ 8 ∧ r = nI k ∧ pl_Srv na nd gn ls st k g ∧ ∀ j, j < k → ¬ pl_Srv na nd gn ls st j g) ∨ (r = -3 ∧ ∀ j, j ≤ 8 → ¬ pl_Srv na nd gn ls st j g)
def pl_W (na : Nat) (nd gn ls : Nat → Int32) (st : Int32) (k : Nat) (r : Int32) : Prop := ∀ b, pl_T r b ↔ ∃ s, pl_R na nd gn ls st k s ∧ pl_T s b
theorem pl_Few_un {na : Nat} {nd gn ls : Nat → Int32} {st g r r' : Int32} (h : pl_Few na nd gn ls st g r) (h' : pl_Few na nd gn ls st g r') : r = r' := by
  rcases h with ⟨k, a1, a2, a3, a4⟩ | ⟨a1, a2⟩
  · rcases h' with ⟨k', b1, b2, b3, b4⟩ | ⟨b1, b2⟩
    · have e : k = k' := by
        rcases Nat.lt_trichotomy k k' with z | z | z
        · exact absurd a3 (b4 k z)
        · exact z
        · exact absurd b3 (a4 k' z)
      rw [a2, b2, e]
    · exact absurd a3 (b2 k a1)
  · rcases h' with ⟨k', b1, b2, b3, b4⟩ | ⟨b1, b2⟩
    · exact absurd b3 (a2 k' b1)
    · rw [a1, b1]
theorem pl_Srv_one {na : Nat} {nd gn ls : Nat → Int32} {st : Int32} {k f : Nat} (hf : f < 32) : pl_Srv na nd gn ls st k ((1 : Int32) <<< (nI f &&& 31)) ↔ ∃ s, pl_R na nd gn ls st k s ∧ pl_T s f := by
  constructor
  · rintro ⟨s, a, b⟩
    exact ⟨s, a, b f ((pl_T_one hf f).mpr rfl)⟩
  · rintro ⟨s, a, b⟩
    exact ⟨s, a, fun i hi => by rw [pl_T_one hf] at hi; rw [hi]; exact b⟩
section
variable {na : Nat} {st bu : Int32} {nd gn ls fa da fb db cl : Nat → Int32}
theorem xw_fw_l {post : Int32 → SX → Prop} {g : Int32} (hD : pl_D na nd gn ls) (hs : pl_Sm st) (hG : pl_G na nd gn ls st fa da fb db cl 8) (hg : pl_Sm g)
    (h : ∀ r, pl_Few na nd gn ls st g r → ∀ (cc : Int32) (fl sv : Nat → Int64) (wa op ch cd cf co : Nat → Int32), pl_K na nd gn ls st fl sv → post r (nI na, st, bu, cc, nd, gn, ls, fa, da, fb, db, cl, fl, sv, wa, op, ch, cd, cf, co)) :
    ∀ (t k n : Nat) (cc : Int32) (fl sv : Nat → Int64) (wa op ch cd cf co : Nat → Int32), k + t = 9 → t < n → (∀ j, j < k → ¬ pl_Srv na nd gn ls st j g) → pl_K na nd gn ls st fl sv → wX_fewest_16 post g n (nI k) (nI na) st bu cc nd gn ls fa da fb db cl fl sv wa op ch cd cf co := by
  intro t
  induction t with
  | zero =>
    intro k n cc fl sv wa op ch cd cf co hk hn hr hK
    obtain ⟨n, rfl⟩ : ∃ n', n = n' + 1 := ⟨n - 1, by omega⟩
    have e : k = 9 := by omega
    subst e
    exact br_t (nI_lt (a := 8) (b := 9) (by omega) (by decide)) (h (-3) (Or.inr ⟨rfl, fun j hj => hr j (by omega)⟩) cc fl sv wa op ch cd cf co hK)
  | succ t ih =>
    intro k n cc fl sv wa op ch cd cf co hk hn hr hK
    obtain ⟨n, rfl⟩ : ∃ n', n = n' + 1 := ⟨n - 1, by omega⟩
    refine br_f (nI_nlt (a := 8) (by omega) (by decide)) (xw_serves hD hs hG hK (by omega) hg (fun hS cc fl sv wa op ch cd cf co hK => ?_) (fun hS cc fl sv wa op ch cd cf co hK => ?_))
    · exact br_f (by decide) (h (nI k) (Or.inl ⟨k, by omega, rfl, hS, hr⟩) cc fl sv wa op ch cd cf co hK)
    · refine br_t rfl (nm_r (nI_1 k) (ih (k + 1) n cc fl sv wa op ch cd cf co (by omega) (by omega) (fun j hj => ?_) hK))
      rcases Nat.lt_or_ge j k with z | z
      · exact hr j z
      · have e : j = k := by omega
        subst e; exact hS
theorem xw_wi_l {post : Int32 → SX → Prop} {k : Nat} (hD : pl_D na nd gn ls) (hs : pl_Sm st) (hG : pl_G na nd gn ls st fa da fb db cl 8) (hk : k ≤ 8)
    (h : ∀ r, pl_W na nd gn ls st k r → ∀ (cc : Int32) (fl sv : Nat → Int64) (wa op ch cd cf co : Nat → Int32), pl_K na nd gn ls st fl sv → post r (nI na, st, bu, cc, nd, gn, ls, fa, da, fb, db, cl, fl, sv, wa, op, ch, cd, cf, co)) :
    ∀ (t f n : Nat) (r cc : Int32) (fl sv : Nat → Int64) (wa op ch cd cf co : Nat → Int32), f + t = 8 → t < n → (∀ b, pl_T r b ↔ b < f ∧ ∃ s, pl_R na nd gn ls st k s ∧ pl_T s b) → pl_K na nd gn ls st fl sv → wX_within_20 post (nI k) n r (nI f) (nI na) st bu cc nd gn ls fa da fb db cl fl sv wa op ch cd cf co := by
  intro t
  induction t with
  | zero =>
    intro f n r cc fl sv wa op ch cd cf co hf hn hr hK
    obtain ⟨n, rfl⟩ : ∃ n', n = n' + 1 := ⟨n - 1, by omega⟩
    have e : f = 8 := by omega
    subst e
    refine br_t (nI_le (a := 8) (b := 8) (by omega) (by decide)) (h r (fun b => (hr b).trans ⟨fun a => a.2, fun a => ⟨?_, a⟩⟩) cc fl sv wa op ch cd cf co hK)
    obtain ⟨s, a1, a2⟩ := a
    exact pl_R_Sm hD hs k s a1 b a2
  | succ t ih =>
    intro f n r cc fl sv wa op ch cd cf co hf hn hr hK
    obtain ⟨n, rfl⟩ : ∃ n', n = n' + 1 := ⟨n - 1, by omega⟩
    refine br_f (nI_ge (b := 8) (by omega) (by decide)) (xw_serves hD hs hG hK hk (pl_Sm_one (by omega)) (fun hS cc fl sv wa op ch cd cf co hK => ?_) (fun hS cc fl sv wa op ch cd cf co hK => ?_))
    · rw [pl_Srv_one (by omega)] at hS
      refine br_f (by decide) (nm_e (nm_r (nI_1 f) (ih (f + 1) n _ cc fl sv wa op ch cd cf co (by omega) (by omega) (fun b => (pl_T_add (by omega) b).trans ⟨?_, ?_⟩) hK)))
      · rintro (a | a)
        · have c := (hr b).mp a
          exact ⟨by omega, c.2⟩
        · subst a; exact ⟨by omega, hS⟩
      · rintro ⟨a, c⟩
        rcases Nat.lt_or_ge b f with z | z
        · exact Or.inl ((hr b).mpr ⟨z, c⟩)
        · exact Or.inr (by omega)
    · rw [pl_Srv_one (by omega)] at hS
      refine br_t rfl (nm_r (nI_1 f) (ih (f + 1) n r cc fl sv wa op ch cd cf co (by omega) (by omega) (fun b => (hr b).trans ⟨fun a => ⟨by omega, a.2⟩, fun a => ⟨?_, a.2⟩⟩) hK))
      rcases Nat.lt_or_ge b f with z | z
      · exact z
      · have e : b = f := by omega
        subst e; exact absurd a.2 hS
end
section
variable {na : Nat} {st bu cc : Int32} {nd gn ls fa da fb db cl wa op ch cd cf co : Nat → Int32} {fl sv : Nat → Int64}
theorem xw_fewest {post : Int32 → SX → Prop} (g : Int32) (hD : pl_D na nd gn ls) (hs : pl_Sm st) (hI : pl_I na nd gn ls st bu fa da fb db cl fl sv)
    (h1 : pl_Sm g → ∀ r, pl_Few na nd gn ls st g r → ∀ (bu cc : Int32) (fa da fb db cl : Nat → Int32) (fl sv : Nat → Int64) (wa op ch cd cf co : Nat → Int32), pl_I na nd gn ls st bu fa da fb db cl fl sv → post r (nI na, st, bu, cc, nd, gn, ls, fa, da, fb, db, cl, fl, sv, wa, op, ch, cd, cf, co))
    (h0 : ¬ pl_Sm g → post (-1) (nI na, st, bu, cc, nd, gn, ls, fa, da, fb, db, cl, fl, sv, wa, op, ch, cd, cf, co)) : wpX_fewest post (nI na, st, bu, cc, nd, gn, ls, fa, da, fb, db, cl, fl, sv, wa, op, ch, cd, cf, co) g := by
  unfold wpX_fewest
  dsimp only
  refine xw_isSet g (fun hg => br_f (by decide) ?_) (fun hg => br_t rfl (h0 hg))
  refine xw_build hD.1 hI (fun bu1 fa1 da1 fb1 db1 cl1 fl1 sv1 hG hK => ⟨10, ?_⟩)
  exact xw_fw_l hD hs hG hg (fun r hr cc fl sv wa op ch cd cf co hK => h1 hg r hr bu1 cc fa1 da1 fb1 db1 cl1 fl sv wa op ch cd cf co (fun _ => ⟨hG, hK⟩)) 9 0 10 cc fl1 sv1 wa op ch cd cf co (by omega) (by omega) (fun j hj => absurd hj (by omega)) hK
theorem xw_within {post : Int32 → SX → Prop} {k : Nat} (hk : k ≤ 8) (hD : pl_D na nd gn ls) (hs : pl_Sm st) (hI : pl_I na nd gn ls st bu fa da fb db cl fl sv)
    (h : ∀ r, pl_W na nd gn ls st k r → ∀ (bu cc : Int32) (fa da fb db cl : Nat → Int32) (fl sv : Nat → Int64) (wa op ch cd cf co : Nat → Int32), pl_I na nd gn ls st bu fa da fb db cl fl sv → post r (nI na, st, bu, cc, nd, gn, ls, fa, da, fb, db, cl, fl, sv, wa, op, ch, cd, cf, co)) : wpX_within post (nI na, st, bu, cc, nd, gn, ls, fa, da, fb, db, cl, fl, sv, wa, op, ch, cd, cf, co) (nI k) := by
  refine br_f (nI_pos (by omega)) (br_t (nI_le (b := 8) hk (by decide)) ?_)
  refine xw_build hD.1 hI (fun bu1 fa1 da1 fb1 db1 cl1 fl1 sv1 hG hK => ⟨9, ?_⟩)
  exact xw_wi_l hD hs hG hk (fun r hr cc fl sv wa op ch cd cf co hK => h r hr bu1 cc fa1 da1 fb1 db1 cl1 fl sv wa op ch cd cf co (fun _ => ⟨hG, hK⟩)) 8 0 9 0 cc fl1 sv1 wa op ch cd cf co (by omega) (by omega) (fun b => ⟨fun a => absurd a (pl_T_0 b), fun a => absurd a.1 (by omega)⟩) hK
end
/-! Y -/
section
variable {na : Nat} {st : Int32} {nd gn ls hd : Nat → Int32}
theorem yw_fw_l {post : Int32 → SY → Prop} {g : Int32} (hD : pl_D na nd gn ls) (hs : pl_Sm st) (hH : pl_HR na nd gn ls st hd)
    (h : ∀ r, pl_Few na nd gn ls st g r → post r (nI na, st, nd, gn, ls, hd)) :
    ∀ (t k n : Nat), k + t = 9 → t < n → (∀ j, j < k → ¬ pl_Srv na nd gn ls st j g) → wY_fewest_20 post g (nI na) st nd gn ls hd n (nI k) := by
  intro t
  induction t with
  | zero =>
    intro k n hk hn hr
    obtain ⟨n, rfl⟩ : ∃ n', n = n' + 1 := ⟨n - 1, by omega⟩
    have e : k = 9 := by omega
    subst e
    exact br_t (nI_lt (a := 8) (b := 9) (by omega) (by decide)) (h (-3) (Or.inr ⟨rfl, fun j hj => hr j (by omega)⟩))
  | succ t ih =>
    intro k n hk hn hr
    obtain ⟨n, rfl⟩ : ∃ n', n = n' + 1 := ⟨n - 1, by omega⟩
    refine br_f (nI_nlt (a := 8) (by omega) (by decide)) (yw_served hD hs (by omega) hH (fun hS => ?_) (fun hS => ?_))
    · exact br_f (by decide) (h (nI k) (Or.inl ⟨k, by omega, rfl, hS, hr⟩))
    · refine br_t rfl (nm_r (nI_1 k) (ih (k + 1) n (by omega) (by omega) (fun j hj => ?_)))
      rcases Nat.lt_or_ge j k with z | z
      · exact hr j z
      · have e : j = k := by omega
        subst e; exact hS
theorem yw_fewest {post : Int32 → SY → Prop} (g : Int32) (hD : pl_D na nd gn ls) (hs : pl_Sm st) (h1 : pl_Sm g → ∀ r, pl_Few na nd gn ls st g r → ∀ hd : Nat → Int32, post r (nI na, st, nd, gn, ls, hd)) (h0 : ¬ pl_Sm g → post (-1) (nI na, st, nd, gn, ls, hd)) : wpY_fewest post (nI na, st, nd, gn, ls, hd) g := by
  unfold wpY_fewest
  dsimp only
  refine yw_isSet g (fun hg => br_f (by decide) ?_) (fun hg => br_t rfl (h0 hg))
  refine yw_setOut hD hs (fun hd2 hH => ⟨10, ?_⟩)
  exact yw_fw_l hD hs hH (fun r hr => h1 hg r hr hd2) 9 0 10 (by omega) (by omega) (fun j hj => absurd hj (by omega))
theorem yw_wi_l {post : Int32 → SY → Prop} {k : Nat} (hD : pl_D na nd gn ls) (hs : pl_Sm st) (hH : pl_HR na nd gn ls st hd) (hk : k ≤ 8)
    (h : ∀ r, pl_W na nd gn ls st k r → post r (nI na, st, nd, gn, ls, hd)) :
    ∀ (t i n : Nat) (r : Int32), i + t = 256 * (k + 1) → t < n → (∀ b, pl_T r b ↔ ∃ j, j < i ∧ ¬ hd j = 0 ∧ pl_T (nI (j % 256)) b) → wY_within_24 post (nI k) (nI na) st nd gn ls hd n r (nI i) := by
  have eb : (256 : Int32) * (nI k + 1) = nI (256 * (k + 1)) := by
    rw [nI_1]; exact pk_mul 256 (k + 1)
  intro t
  induction t with
  | zero =>
    intro i n r hi hn hr
    obtain ⟨n, rfl⟩ : ∃ n', n = n' + 1 := ⟨n - 1, by omega⟩
    have e : i = 256 * (k + 1) := by omega
    subst e
    refine br_t (by rw [eb]; exact nI_le (Nat.le_refl _) (by omega)) (h r (fun b => (hr b).trans ⟨?_, ?_⟩))
    · rintro ⟨j, a1, a2, a3⟩
      have ej : j = 256 * (j / 256) + j % 256 := by omega
      rw [ej] at a2
      exact ⟨nI (j % 256), pl_R_le ((hH (j / 256) (j % 256) (by omega) (by omega)).mp a2) k (by omega), a3⟩
    · rintro ⟨s, a1, a2⟩
      obtain ⟨q, hq, e⟩ := pl_Sm_of (pl_R_Sm hD hs k s a1)
      subst e
      refine ⟨256 * k + q, by omega, (hH k q hk hq).mpr a1, ?_⟩
      rw [show (256 * k + q) % 256 = q by omega]; exact a2
  | succ t ih =>
    intro i n r hi hn hr
    obtain ⟨n, rfl⟩ : ∃ n', n = n' + 1 := ⟨n - 1, by omega⟩
    refine br_f (by rw [eb]; exact nI_ge (by omega) (by omega)) ?_
    rw [nI_clamp (by omega)]
    refine ⟨vp_in_nI (by omega) (by decide), br_c (fun z => nm_r (nI_1 i) ?_) (fun z => ⟨by decide, ?_⟩)⟩
    · refine ih (i + 1) n r (by omega) (by omega) (fun b => (hr b).trans ⟨fun ⟨j, a1, a2⟩ => ⟨j, by omega, a2⟩, fun ⟨j, a1, a2⟩ => ⟨j, ?_, a2⟩⟩)
      rcases Nat.lt_or_ge j i with y | y
      · exact y
      · have e : j = i := by omega
        subst e; exact absurd z a2.1
    · have er : nI i - nI i / 256 * 256 = nI (i % 256) := pk_rem (by omega) (by decide) (by decide)
      rw [er]
      refine nm_e (nm_r (nI_1 i) (ih (i + 1) n _ (by omega) (by omega) (fun b => (pl_T_or _ _ b).trans ⟨?_, ?_⟩)))
      · rintro (a | a)
        · obtain ⟨j, a1, a2⟩ := (hr b).mp a
          exact ⟨j, by omega, a2⟩
        · exact ⟨i, by omega, z, a⟩
      · rintro ⟨j, a1, a2⟩
        rcases Nat.lt_or_ge j i with y | y
        · exact Or.inl ((hr b).mpr ⟨j, y, a2⟩)
        · have e : j = i := by omega
          subst e; exact Or.inr a2.2
theorem yw_within {post : Int32 → SY → Prop} {k : Nat} (hk : k ≤ 8) (hD : pl_D na nd gn ls) (hs : pl_Sm st) (h : ∀ r, pl_W na nd gn ls st k r → ∀ hd : Nat → Int32, post r (nI na, st, nd, gn, ls, hd)) : wpY_within post (nI na, st, nd, gn, ls, hd) (nI k) := by
  refine br_f (nI_pos (by omega)) (br_t (nI_le (b := 8) hk (by decide)) ?_)
  refine yw_setOut hD hs (fun hd2 hH => ⟨256 * (k + 1) + 1, ?_⟩)
  exact yw_wi_l hD hs hH hk (fun r hr => h r hr hd2) (256 * (k + 1)) 0 (256 * (k + 1) + 1) 0 (by omega) (by omega) (fun b => ⟨fun a => absurd a (pl_T_0 b), fun ⟨j, a, _⟩ => absurd a (by omega)⟩)
end
end
section
/-- a layer with action i, after which the goal is served in k layers -/
def pl_Bg (na : Nat) (nd gn ls : Nat → Int32) (st : Int32) (i k : Nat) (g : Int32) (m : Nat) : Prop := pl_T (nI m) i ∧ pl_ok na nd gn ls st (nI m) ∧ ∃ r, pl_aft na gn ls st (nI m) r ∧ pl_Srv na nd gn ls r k g
def pl_Ans (na : Nat) (nd gn ls : Nat → Int32) (st g x : Int32) : Prop := ∃ i k, i < na ∧ x = nI i ∧ k < 8 ∧ pl_Sm g ∧ pl_Few na nd gn ls st g (nI (k + 1)) ∧ ∃ m, m < 2 ^ na ∧ pl_Bg na nd gn ls st i k g m
section
variable {na : Nat} {nd gn ls : Nat → Int32}
theorem xw_bg_l {post : Int32 → SX → Prop} {s0 g : Int32} {i k : Nat} (hD : pl_D na nd gn ls) (hs : pl_Sm s0) (hg : pl_Sm g) (hk : k < 8) (hi : i < na)
    (h1 : (∃ m, m < 2 ^ na ∧ pl_Bg na nd gn ls s0 i k g m) → ∀ (cc : Int32) (fa da fb db cl : Nat → Int32) (fl sv : Nat → Int64) (wa op ch cd cf co : Nat → Int32), post 1 (nI na, s0, 0, cc, nd, gn, ls, fa, da, fb, db, cl, fl, sv, wa, op, ch, cd, cf, co))
    (h0 : ¬ (∃ m, m < 2 ^ na ∧ pl_Bg na nd gn ls s0 i k g m) → ∀ (cc : Int32) (fa da fb db cl : Nat → Int32) (fl sv : Nat → Int64) (wa op ch cd cf co : Nat → Int32), post 0 (nI na, s0, 0, cc, nd, gn, ls, fa, da, fb, db, cl, fl, sv, wa, op, ch, cd, cf, co)) :
    ∀ (t m n : Nat) (x st bu cc : Int32) (fa da fb db cl : Nat → Int32) (fl sv : Nat → Int64) (wa op ch cd cf co : Nat → Int32), m + t = 2 ^ na → t < n → ((x = 0 ∧ ∀ m', m' < m → ¬ pl_Bg na nd gn ls s0 i k g m') ∨ (x = 1 ∧ ∃ m', m' < 2 ^ na ∧ pl_Bg na nd gn ls s0 i k g m')) → wX_begins_42 post g (nI i) (nI (k + 1)) s0 n x (nI m) (nI na) st bu cc nd gn ls fa da fb db cl fl sv wa op ch cd cf co := by
  have hna := hD.1
  have hp7 := pl_p7 hna
  intro t
  induction t with
  | zero =>
    intro m n x st bu cc fa da fb db cl fl sv wa op ch cd cf co hm hn hx
    obtain ⟨n, rfl⟩ : ∃ n', n = n' + 1 := ⟨n - 1, by omega⟩
    have e : m = 2 ^ na := by omega
    subst e
    refine br_t (by rw [pl_pw2 na (by omega)]; exact nI_le (Nat.le_refl _) (by omega)) ?_
    rcases hx with ⟨e, hx⟩ | ⟨e, hx⟩
    · subst e
      exact And.intro rfl (h0 (fun ⟨m', a, b⟩ => hx m' a b) cc fa da fb db cl fl sv wa op ch cd cf co)
    · subst e
      exact And.intro rfl (h1 hx cc fa da fb db cl fl sv wa op ch cd cf co)
  | succ t ih =>
    intro m n x st bu cc fa da fb db cl fl sv wa op ch cd cf co hm hn hx
    obtain ⟨n, rfl⟩ : ∃ n', n = n' + 1 := ⟨n - 1, by omega⟩
    refine br_f (by rw [pl_pw2 na (by omega)]; exact nI_ge (by omega) (by omega)) ?_
    rcases hx with ⟨e, hx⟩ | ⟨e, hx⟩
    · subst e
      have nx : ∀ m', ¬ pl_Bg na nd gn ls s0 i k g m → m' < m + 1 → ¬ pl_Bg na nd gn ls s0 i k g m' := by
        intro m' hz h
        rcases Nat.lt_or_ge m' m with z | z
        · exact hx m' z
        · have e : m' = m := by omega
          subst e; exact hz
      refine br_t rfl (pl_bit (pl_sh _ (by omega)) (fun z => ?_) (fun z => ?_))
      · exact nm_r (nI_1 m) (ih (m + 1) n 0 st bu cc fa da fb db cl fl sv wa op ch cd cf co (by omega) (by omega) (Or.inl ⟨rfl, fun m' h => nx m' (fun w => z w.1) h⟩))
      · refine xw_isLayer hna (fun ho => br_f (by decide) ?_) (fun ho => br_t rfl (nm_r (nI_1 m) (ih (m + 1) n 0 st bu cc fa da fb db cl fl sv wa op ch cd cf co (by omega) (by omega) (Or.inl ⟨rfl, fun m' h => nx m' (fun w => ho w.2.1) h⟩))))
        refine xw_after hna (fun r ha => ?_)
        refine xw_build hna (fun w => absurd rfl w) (fun bu1 fa1 da1 fb1 db1 cl1 fl1 sv1 hG hK => ?_)
        rw [nI_pred]
        refine xw_serves hD (pl_aft_Sm hD hs ha) hG hK (by omega) hg (fun hS cc fl sv wa op ch cd cf co _ => ?_) (fun hS cc fl sv wa op ch cd cf co _ => ?_)
        · exact nm_r (nI_1 m) (ih (m + 1) n 1 r bu1 cc fa1 da1 fb1 db1 cl1 fl sv wa op ch cd cf co (by omega) (by omega) (Or.inr ⟨rfl, m, by omega, z, ho, r, ha, hS⟩))
        · refine nm_r (nI_1 m) (ih (m + 1) n 0 r bu1 cc fa1 da1 fb1 db1 cl1 fl sv wa op ch cd cf co (by omega) (by omega) (Or.inl ⟨rfl, fun m' h => nx m' (fun w => ?_) h⟩))
          obtain ⟨_, _, r', ha', hS'⟩ := w
          rw [pl_aft_un ha' ha] at hS'
          exact hS hS'
    · subst e
      exact br_f (by decide) (And.intro rfl (h1 hx cc fa da fb db cl fl sv wa op ch cd cf co))
end
section
variable {na : Nat} {st bu cc : Int32} {nd gn ls fa da fb db cl wa op ch cd cf co : Nat → Int32} {fl sv : Nat → Int64}
theorem xw_begins {post : Int32 → SX → Prop} (g x : Int32) (hD : pl_D na nd gn ls) (hs : pl_Sm st) (hI : pl_I na nd gn ls st bu fa da fb db cl fl sv)
    (h1 : pl_Ans na nd gn ls st g x → ∀ (bu cc : Int32) (fa da fb db cl : Nat → Int32) (fl sv : Nat → Int64) (wa op ch cd cf co : Nat → Int32), pl_I na nd gn ls st bu fa da fb db cl fl sv → post 1 (nI na, st, bu, cc, nd, gn, ls, fa, da, fb, db, cl, fl, sv, wa, op, ch, cd, cf, co))
    (h0 : ¬ pl_Ans na nd gn ls st g x → ∀ (bu cc : Int32) (fa da fb db cl : Nat → Int32) (fl sv : Nat → Int64) (wa op ch cd cf co : Nat → Int32), pl_I na nd gn ls st bu fa da fb db cl fl sv → post 0 (nI na, st, bu, cc, nd, gn, ls, fa, da, fb, db, cl, fl, sv, wa, op, ch, cd, cf, co)) : wpX_begins post (nI na, st, bu, cc, nd, gn, ls, fa, da, fb, db, cl, fl, sv, wa, op, ch, cd, cf, co) g x := by
  have hna := hD.1
  unfold wpX_begins
  dsimp only
  refine xw_isSet g (fun hg => br_f (by decide) ?_) (fun hg => br_t rfl (h0 (fun ⟨_, _, _, _, _, z, _⟩ => hg z) bu cc fa da fb db cl fl sv wa op ch cd cf co hI))
  refine xw_isAction hna x (fun i hi ex => br_f (by decide) ?_) (fun hx => br_t rfl (h0 (fun ⟨i, _, z, z2, _⟩ => hx i z z2) bu cc fa da fb db cl fl sv wa op ch cd cf co hI))
  subst ex
  refine xw_fewest g hD hs hI (fun _ r hr bu cc fa da fb db cl fl sv wa op ch cd cf co hI => ?_) (fun z => absurd hg z)
  refine br_c (fun hp => ?_) (fun hp => h0 (fun ⟨i', k', a1, a2, a3, a4, a5, a6⟩ => ?_) bu cc fa da fb db cl fl sv wa op ch cd cf co hI)
  · have hk : ∃ k, k < 8 ∧ r = nI (k + 1) := by
      rcases hr with ⟨k, a1, a2, _⟩ | ⟨a1, _⟩
      · rcases Nat.eq_zero_or_pos k with z | z
        · rw [a2, z] at hp
          exact absurd hp (by decide)
        · exact ⟨k - 1, by omega, by rw [a2]; exact congrArg nI (by omega)⟩
      · rw [a1] at hp
        exact absurd hp (by decide)
    obtain ⟨k, hk, ek⟩ := hk
    subst ek
    refine ⟨2 ^ na + 1, xw_bg_l hD hs hg hk hi (fun hm cc fa da fb db cl fl sv wa op ch cd cf co => ?_) (fun hm cc fa da fb db cl fl sv wa op ch cd cf co => ?_) (2 ^ na) 0 (2 ^ na + 1) 0 st bu cc fa da fb db cl fl sv wa op ch cd cf co (by omega) (by omega) (Or.inl ⟨rfl, fun m' h => absurd h (by omega)⟩)⟩
    · exact h1 ⟨i, k, hi, rfl, hk, hg, hr, hm⟩ 0 cc fa da fb db cl fl sv wa op ch cd cf co (fun z => absurd rfl z)
    · refine h0 (fun ⟨i', k', a1, a2, a3, a4, a5, a6⟩ => ?_) 0 cc fa da fb db cl fl sv wa op ch cd cf co (fun z => absurd rfl z)
      rw [nI_eq (by omega) (by omega)] at a2
      have e := pl_Few_un hr a5
      rw [nI_eq (by omega) (by omega)] at e
      have ek : k = k' := by omega
      subst a2; subst ek
      exact hm a6
  · have e := pl_Few_un hr a5
    rw [e] at hp
    exact hp (nI_lt (a := 0) (by omega) (by omega))
end
section
variable {na : Nat} {st : Int32} {nd gn ls : Nat → Int32}
theorem yw_bg_l {post : Int32 → SY → Prop} {g : Int32} {i k : Nat} (hD : pl_D na nd gn ls) (hs : pl_Sm st) (hk : k < 8) (hi : i < na)
    (h1 : (∃ m, m < 2 ^ na ∧ pl_Bg na nd gn ls st i k g m) → ∀ hd : Nat → Int32, post 1 (nI na, st, nd, gn, ls, hd))
    (h0 : ¬ (∃ m, m < 2 ^ na ∧ pl_Bg na nd gn ls st i k g m) → ∀ hd : Nat → Int32, post 0 (nI na, st, nd, gn, ls, hd)) :
    ∀ (t m n : Nat) (hd : Nat → Int32), m + t = 2 ^ na → t < n → (∀ m', m' < m → ¬ pl_Bg na nd gn ls st i k g m') → wY_begins_24 post g (nI i) (nI (k + 1)) n (nI m) (nI na) st nd gn ls hd := by
  have hna := hD.1
  have hp7 := pl_p7 hna
  intro t
  induction t with
  | zero =>
    intro m n hd hm hn hx
    obtain ⟨n, rfl⟩ : ∃ n', n = n' + 1 := ⟨n - 1, by omega⟩
    have e : m = 2 ^ na := by omega
    subst e
    exact br_t (by rw [pl_pw2 na (by omega)]; exact nI_le (Nat.le_refl _) (by omega)) (h0 (fun ⟨m', a, b⟩ => hx m' a b) hd)
  | succ t ih =>
    intro m n hd hm hn hx
    obtain ⟨n, rfl⟩ : ∃ n', n = n' + 1 := ⟨n - 1, by omega⟩
    have nx : ¬ pl_Bg na nd gn ls st i k g m → ∀ (hd : Nat → Int32) y, y = nI m + 1 → wY_begins_24 post g (nI i) (nI (k + 1)) n y (nI na) st nd gn ls hd := by
      intro hz hd y ey
      rw [ey, nI_1]
      refine ih (m + 1) n hd (by omega) (by omega) (fun m' h => ?_)
      rcases Nat.lt_or_ge m' m with z | z
      · exact hx m' z
      · have e : m' = m := by omega
        subst e; exact hz
    refine br_f (by rw [pl_pw2 na (by omega)]; exact nI_ge (by omega) (by omega)) ?_
    refine pl_bit (pl_sh _ (by omega)) (fun z => br_t (by decide) (nx (fun w => z w.1) hd)) (fun z => ?_)
    refine yw_after hna (fun ho r ha => ?_) (fun ho => br_t (by decide) (nx (fun w => ho w.2.1) hd))
    have hr := pl_aft_Sm hD hs ha
    refine br_f ((pl_Sm_iff r).mp hr).1 (yw_setOut hD hr (fun hd2 hH => ?_))
    rw [nI_pred]
    refine yw_served hD hr (by omega) hH (fun hS => br_f (by decide) (h1 ⟨m, by omega, z, ho, r, ha, hS⟩ hd2)) (fun hS => br_t rfl (nx (fun w => ?_) hd2))
    obtain ⟨_, _, r', ha', hS'⟩ := w
    rw [pl_aft_un ha' ha] at hS'
    exact hS hS'
theorem yw_begins {hd : Nat → Int32} {post : Int32 → SY → Prop} (g x : Int32) (hD : pl_D na nd gn ls) (hs : pl_Sm st)
    (h1 : pl_Ans na nd gn ls st g x → ∀ hd : Nat → Int32, post 1 (nI na, st, nd, gn, ls, hd)) (h0 : ¬ pl_Ans na nd gn ls st g x → ∀ hd : Nat → Int32, post 0 (nI na, st, nd, gn, ls, hd)) : wpY_begins post (nI na, st, nd, gn, ls, hd) g x := by
  have hna := hD.1
  unfold wpY_begins
  dsimp only
  refine yw_fewest g hD hs (fun hg r hr hd => ?_) (fun hg => br_t (by decide) (h0 (fun ⟨_, _, _, _, _, z, _⟩ => hg z) hd))
  refine br_c (fun hp => h0 (fun ⟨i', k', a1, a2, a3, a4, a5, a6⟩ => ?_) hd) (fun hp => ?_)
  · have e := pl_Few_un hr a5
    rw [e] at hp
    exact nI_nlt (a := k' + 1) (b := 1) (by omega) (by omega) hp
  · refine yw_isAction hna x (fun i hi ex => br_f (by decide) ?_) (fun hx => br_t rfl (h0 (fun ⟨i, _, z, z2, _⟩ => hx i z z2) hd))
    subst ex
    have hk : ∃ k, k < 8 ∧ r = nI (k + 1) := by
      rcases hr with ⟨k, a1, a2, _⟩ | ⟨a1, _⟩
      · rcases Nat.eq_zero_or_pos k with z | z
        · rw [a2, z] at hp
          exact absurd (by decide) hp
        · exact ⟨k - 1, by omega, by rw [a2]; exact congrArg nI (by omega)⟩
      · rw [a1] at hp
        exact absurd (by decide) hp
    obtain ⟨k, hk, ek⟩ := hk
    subst ek
    refine ⟨2 ^ na + 1, yw_bg_l hD hs hk hi (fun hm hd => h1 ⟨i, k, hi, rfl, hk, hg, hr, hm⟩ hd) (fun hm hd => h0 (fun ⟨i', k', a1, a2, a3, a4, a5, a6⟩ => ?_) hd) (2 ^ na) 0 (2 ^ na + 1) hd (by omega) (by omega) (fun m' h => absurd h (by omega))⟩
    rw [nI_eq (by omega) (by omega)] at a2
    have e := pl_Few_un hr a5
    rw [nI_eq (by omega) (by omega)] at e
    have ek : k = k' := by omega
    subst a2; subst ek
    exact hm a6
end
/-! drop -/
def pl_S7 (nd gn ls : Nat → Int32) : Prop := ∀ i, i < 7 → pl_Sm (nd i) ∧ pl_Sm (gn i) ∧ pl_Sm (ls i)
theorem pl_S7_u {nd gn ls : Nat → Int32} {i : Nat} {x y z : Int32} (h : pl_S7 nd gn ls) (hx : pl_Sm x) (hy : pl_Sm y) (hz : pl_Sm z) : pl_S7 (upd nd i x) (upd gn i y) (upd ls i z) := by
  intro j hj
  by_cases e : j = i
  · subst e; rw [pk_us, pk_us, pk_us]; exact ⟨hx, hy, hz⟩
  · rw [pk_un e, pk_un e, pk_un e]; exact h j hj
theorem pl_drop {na : Nat} (hna : na < 7) : ∀ (t i : Nat) (nd gn ls : Nat → Int32), i + t = na → pl_S7 nd gn ls → ∃ nd' gn' ls' : Nat → Int32, pl_S7 nd' gn' ls' ∧
    (∀ (post : Int32 → SX → Prop) (n : Nat) (st bu cc : Int32) (fa da fb db cl : Nat → Int32) (fl sv : Nat → Int64) (wa op ch cd cf co : Nat → Int32), t < n → post (nI na) (nI na, st, 0, cc, nd', gn', ls', fa, da, fb, db, cl, fl, sv, wa, op, ch, cd, cf, co) → wX_drop_22 post (nI na) st bu cc n (nI i) nd gn ls fa da fb db cl fl sv wa op ch cd cf co) ∧
    (∀ (post : Int32 → SY → Prop) (n : Nat) (st : Int32) (hd : Nat → Int32), t < n → post (nI na) (nI na, st, nd', gn', ls', hd) → wY_drop_22 post (nI na) st n (nI i) nd gn ls hd) := by
  intro t
  induction t with
  | zero =>
    intro i nd gn ls hi h7
    have e : i = na := by omega
    subst e
    refine ⟨nd, gn, ls, h7, fun post n st bu cc fa da fb db cl fl sv wa op ch cd cf co hn hp => ?_, fun post n st hd hn hp => ?_⟩
    · obtain ⟨n, rfl⟩ : ∃ n', n = n' + 1 := ⟨n - 1, by omega⟩
      exact br_t (nI_le (Nat.le_refl _) (by omega)) hp
    · obtain ⟨n, rfl⟩ : ∃ n', n = n' + 1 := ⟨n - 1, by omega⟩
      exact br_t (nI_le (Nat.le_refl _) (by omega)) hp
  | succ t ih =>
    intro i nd gn ls hi h7
    have h8 := h7 (i + 1) (by omega)
    obtain ⟨nd', gn', ls', a1, a2, a3⟩ := ih (i + 1) (upd nd i (nd (i + 1))) (upd gn i (gn (i + 1))) (upd ls i (ls (i + 1))) (by omega) (pl_S7_u h7 h8.1 h8.2.1 h8.2.2)
    have v1 : vp_in (nI (i + 1)) 7 := vp_in_nI (by omega) (by decide)
    have v0 : vp_in (nI i) 7 := vp_in_nI (by omega) (by decide)
    refine ⟨nd', gn', ls', a1, fun post n st bu cc fa da fb db cl fl sv wa op ch cd cf co hn hp => ?_, fun post n st hd hn hp => ?_⟩
    · obtain ⟨n, rfl⟩ : ∃ n', n = n' + 1 := ⟨n - 1, by omega⟩
      refine br_f (nI_ge (by omega) (by omega)) ?_
      rw [nI_1 i, nI_clamp (n := i) (by omega), nI_clamp (n := i + 1) (by omega)]
      exact ⟨v1, v0, nm_e ⟨v1, v0, nm_e ⟨v1, v0, nm_e (nm_e (a2 post n st bu cc fa da fb db cl fl sv wa op ch cd cf co (by omega) hp))⟩⟩⟩
    · obtain ⟨n, rfl⟩ : ∃ n', n = n' + 1 := ⟨n - 1, by omega⟩
      refine br_f (nI_ge (by omega) (by omega)) ?_
      rw [nI_1 i, nI_clamp (n := i) (by omega), nI_clamp (n := i + 1) (by omega)]
      exact ⟨v1, v0, nm_e ⟨v1, v0, nm_e ⟨v1, v0, nm_e (nm_e (a3 post n st hd (by omega) hp))⟩⟩⟩
end
section
/-- the same actions, the same start, small sets; and where the graph is built it is the graph of these, its marks true -/
def i_Rel (k : Nat) (u : SX) (v : SY) : Prop := ∃ (na : Nat) (st bu cc : Int32) (nd gn ls fa da fb db cl : Nat → Int32) (fl sv : Nat → Int64) (wa op ch cd cf co hd : Nat → Int32), u = (nI na, st, bu, cc, nd, gn, ls, fa, da, fb, db, cl, fl, sv, wa, op, ch, cd, cf, co) ∧ v = (nI na, st, nd, gn, ls, hd) ∧ pl_D na nd gn ls ∧ pl_Sm st ∧ pl_I na nd gn ls st bu fa da fb db cl fl sv
theorem pl_el {P : SX → SY → Prop} {k : Nat} {u : SX} {v : SY} (h : ∀ (na : Nat) (st bu cc : Int32) (nd gn ls fa da fb db cl : Nat → Int32) (fl sv : Nat → Int64) (wa op ch cd cf co hd : Nat → Int32), pl_D na nd gn ls → pl_Sm st → pl_I na nd gn ls st bu fa da fb db cl fl sv → P (nI na, st, bu, cc, nd, gn, ls, fa, da, fb, db, cl, fl, sv, wa, op, ch, cd, cf, co) (nI na, st, nd, gn, ls, hd)) (I : i_Rel k u v) : P u v := by
  obtain ⟨na, st, bu, cc, nd, gn, ls, fa, da, fb, db, cl, fl, sv, wa, op, ch, cd, cf, co, hd, eu, ev, h1, h2, h3⟩ := I
  rw [eu, ev]
  exact h na st bu cc nd gn ls fa da fb db cl fl sv wa op ch cd cf co hd h1 h2 h3
section
variable {na : Nat} {st bu cc : Int32} {nd gn ls fa da fb db cl wa op ch cd cf co : Nat → Int32} {fl sv : Nat → Int64} {hd : Nat → Int32} {k : Nat}
theorem pl_rel (hD : pl_D na nd gn ls) (hs : pl_Sm st) (hI : pl_I na nd gn ls st bu fa da fb db cl fl sv) : i_Rel k (nI na, st, bu, cc, nd, gn, ls, fa, da, fb, db, cl, fl, sv, wa, op, ch, cd, cf, co) (nI na, st, nd, gn, ls, hd) :=
  ⟨na, st, bu, cc, nd, gn, ls, fa, da, fb, db, cl, fl, sv, wa, op, ch, cd, cf, co, hd, rfl, rfl, hD, hs, hI⟩
theorem pl_rel0 (hD : pl_D na nd gn ls) (hs : pl_Sm st) : i_Rel k (nI na, st, 0, cc, nd, gn, ls, fa, da, fb, db, cl, fl, sv, wa, op, ch, cd, cf, co) (nI na, st, nd, gn, ls, hd) := pl_rel hD hs (fun z => absurd rfl z)
theorem yo_bad {post : Int32 → SY → Prop} {x y z : Int32} (hna : na < 7) (h : ¬ (pl_Sm x ∧ pl_Sm y ∧ pl_Sm z)) (hp : post (-1) (nI na, st, nd, gn, ls, hd)) : wpY_action post (nI na, st, nd, gn, ls, hd) x y z := by
  refine br_f (fun w => ?_) (yw_isSet x (fun a => br_f (by decide) (yw_isSet y (fun b => br_f (by decide) (yw_isSet z (fun c => absurd ⟨a, b, c⟩ h) (fun _ => br_t rfl hp))) (fun _ => br_t rfl hp))) (fun _ => br_t rfl hp))
  have w2 : nI na = nI 7 := w
  rw [nI_eq (by omega) (by omega)] at w2
  omega
theorem yo_noc {post : Int32 → Prop} {x y : Int32} (hna : na ≤ 7) (hx : (∀ i, i < na → x ≠ nI i) ∨ (∀ j, j < na → y ≠ nI j) ∨ x = y) (hp : post 0) : wpY_clash post (nI na, st, nd, gn, ls, hd) x y := by
  unfold wpY_clash
  dsimp only
  refine yw_isAction hna x (fun i hi e1 => br_f (by decide) ?_) (fun _ => br_t rfl hp)
  refine yw_isAction hna y (fun j hj e2 => br_f (by decide) ?_) (fun _ => br_t rfl hp)
  rcases hx with hx | hx | hx
  · exact absurd e1 (hx i hi)
  · exact absurd e2 (hx j hj)
  · exact br_t hx hp
end
theorem pl_gt {n : Nat} {x : Int32} (hn : n < 1000) (h : nI (n + 1) ≤ x) : ¬ x < 0 ∧ nI n < x ∧ ¬ x ≤ nI n := by
  have a : (nI (n + 1)).toInt = ((n + 1 : Nat) : Int) := nI_toInt (by omega)
  have b : (nI n).toInt = (n : Int) := nI_toInt (by omega)
  have c : (0 : Int32).toInt = 0 := by decide
  rw [Int32.le_iff_toInt_le] at h
  rw [Int32.lt_iff_toInt_lt, Int32.lt_iff_toInt_lt, Int32.le_iff_toInt_le]
  omega
theorem i_up {k : Nat} {u : SX} {v : SY} (h : i_Rel k u v) : i_Rel (k + 4) u v := h
theorem i_vc0 : wpX_init (fun u => wpY_init (fun v => i_Rel 0 u v)) :=
  pl_rel0 (k := 0) (na := 0) (st := 0) (cc := 0) ⟨by decide, fun i _ => ⟨pl_Sm_0, pl_Sm_0, pl_Sm_0⟩⟩ pl_Sm_0
theorem i_vc_action {k : Nat} {u : SX} {v : SY} (I : i_Rel k u v) (hk : k + 4 ≤ 2048) (v1 : Int32) (v2 : Int32) (v3 : Int32) : wpX_action (fun r u' => wpY_action (fun r' v' => r' = r ∧ i_Rel (k + 4) u' v') v v1 v2 v3) u v1 v2 v3 := by
  refine pl_el (P := fun u v => wpX_action (fun r u' => wpY_action (fun r' v' => r' = r ∧ i_Rel (k + 4) u' v') v v1 v2 v3) u v1 v2 v3) ?_ I
  intro na st bu cc nd gn ls fa da fb db cl fl sv wa op ch cd cf co hd hD hs hI
  have hna := hD.1
  have rel : i_Rel (k + 4) (nI na, st, bu, cc, nd, gn, ls, fa, da, fb, db, cl, fl, sv, wa, op, ch, cd, cf, co) (nI na, st, nd, gn, ls, hd) := pl_rel hD hs hI
  refine pk_lt na 7 (fun h7 => ?_) (fun h7 => ?_)
  · refine xw_isSet v1 (fun a => br_f (by decide) ?_) (fun a => br_t rfl (yo_bad h7 (fun z => a z.1) ⟨rfl, rel⟩))
    refine xw_isSet v2 (fun b => br_f (by decide) ?_) (fun b => br_t rfl (yo_bad h7 (fun z => b z.2.1) ⟨rfl, rel⟩))
    refine xw_isSet v3 (fun c => br_f (by decide) ?_) (fun c => br_t rfl (yo_bad h7 (fun z => c z.2.2) ⟨rfl, rel⟩))
    have vi : vp_in (nI na) 7 := vp_in_nI h7 (by decide)
    have hcl : (nI na).toNatClampNeg = na := nI_clamp (by omega)
    rw [hcl]
    refine ⟨vi, nm_e ⟨vi, nm_e ⟨vi, nm_e (nm_r (nI_1 na) ?_)⟩⟩⟩
    refine br_f (fun w => ?_) (yw_isSet v1 (fun _ => br_f (by decide) (yw_isSet v2 (fun _ => br_f (by decide) (yw_isSet v3 (fun _ => br_f (by decide) ?_) (fun z => absurd c z))) (fun z => absurd b z))) (fun z => absurd a z))
    · have w2 : nI na = nI 7 := w
      rw [nI_eq (by omega) (by omega)] at w2
      omega
    · rw [hcl]
      refine ⟨vi, nm_e ⟨vi, nm_e ⟨vi, nm_e (nm_r (nI_1 na) ⟨rfl, ?_⟩)⟩⟩⟩
      exact pl_rel0 ⟨by omega, pl_S7_u hD.2 a b c⟩ hs
  · have e : na = 7 := by omega
    subst e
    exact br_t rfl ⟨rfl, rel⟩
theorem i_vc_drop {k : Nat} {u : SX} {v : SY} (I : i_Rel k u v) (hk : k + 4 ≤ 2048) (v1 : Int32) : wpX_drop (fun r u' => wpY_drop (fun r' v' => r' = r ∧ i_Rel (k + 4) u' v') v v1) u v1 := by
  refine pl_el (P := fun u v => wpX_drop (fun r u' => wpY_drop (fun r' v' => r' = r ∧ i_Rel (k + 4) u' v') v v1) u v1) ?_ I
  intro na st bu cc nd gn ls fa da fb db cl fl sv wa op ch cd cf co hd hD hs hI
  have hna := hD.1
  have rel : i_Rel (k + 4) (nI na, st, bu, cc, nd, gn, ls, fa, da, fb, db, cl, fl, sv, wa, op, ch, cd, cf, co) (nI na, st, nd, gn, ls, hd) := pl_rel hD hs hI
  unfold wpX_drop wpY_drop
  dsimp only
  refine xw_isAction hna v1 (fun i hi e1 => br_f (by decide) ?_) (fun hx => br_t rfl ?_)
  · obtain ⟨n, en⟩ : ∃ n, na = n + 1 := ⟨na - 1, by omega⟩
    subst en
    subst e1
    obtain ⟨nd', gn', ls', a1, a2, a3⟩ := pl_drop (na := n) (by omega) (n - i) i nd gn ls (by omega) hD.2
    refine nm_r (nI_pred n) ⟨n + 1, a2 _ (n + 1) st bu cc fa da fb db cl fl sv wa op ch cd cf co (by omega) ?_⟩
    refine yw_isAction hna (nI i) (fun i' hi' e1 => br_f (by decide) ?_) (fun hx => absurd rfl (hx i hi))
    refine nm_r (nI_pred n) ⟨n + 1, a3 _ (n + 1) st hd (by omega) ⟨rfl, ?_⟩⟩
    exact pl_rel0 ⟨by omega, a1⟩ hs
  · exact yw_isAction hna v1 (fun i hi e1 => absurd e1 (hx i hi)) (fun _ => br_t rfl ⟨rfl, rel⟩)
theorem i_vc_start {k : Nat} {u : SX} {v : SY} (I : i_Rel k u v) (hk : k + 4 ≤ 2048) (v1 : Int32) : wpX_start (fun r u' => wpY_start (fun r' v' => r' = r ∧ i_Rel (k + 4) u' v') v v1) u v1 := by
  refine pl_el (P := fun u v => wpX_start (fun r u' => wpY_start (fun r' v' => r' = r ∧ i_Rel (k + 4) u' v') v v1) u v1) ?_ I
  intro na st bu cc nd gn ls fa da fb db cl fl sv wa op ch cd cf co hd hD hs hI
  have rel : i_Rel (k + 4) (nI na, st, bu, cc, nd, gn, ls, fa, da, fb, db, cl, fl, sv, wa, op, ch, cd, cf, co) (nI na, st, nd, gn, ls, hd) := pl_rel hD hs hI
  unfold wpX_start wpY_start
  dsimp only
  refine xw_isSet v1 (fun a => br_f (by decide) ?_) (fun a => br_t rfl ?_)
  · exact yw_isSet v1 (fun _ => br_f (by decide) ⟨rfl, pl_rel0 hD a⟩) (fun z => absurd a z)
  · exact yw_isSet v1 (fun z => absurd z a) (fun _ => br_t rfl ⟨rfl, rel⟩)
theorem i_vc_clash {k : Nat} {u : SX} {v : SY} (I : i_Rel k u v) (hk : k + 4 ≤ 2048) (v1 : Int32) (v2 : Int32) : wpX_clash (fun r => wpY_clash (fun r' => r' = r ∧ i_Rel (k + 4) u v) v v1 v2) u v1 v2 := by
  refine pl_el (P := fun u v => wpX_clash (fun r => wpY_clash (fun r' => r' = r ∧ i_Rel (k + 4) u v) v v1 v2) u v1 v2) ?_ I
  intro na st bu cc nd gn ls fa da fb db cl fl sv wa op ch cd cf co hd hD hs hI
  have hna := hD.1
  have rel : i_Rel (k + 4) (nI na, st, bu, cc, nd, gn, ls, fa, da, fb, db, cl, fl, sv, wa, op, ch, cd, cf, co) (nI na, st, nd, gn, ls, hd) := pl_rel hD hs hI
  unfold wpX_clash
  dsimp only
  refine xw_isAction hna v1 (fun i hi e1 => br_f (by decide) ?_) (fun hx => br_t rfl (yo_noc hna (Or.inl hx) ⟨rfl, rel⟩))
  refine xw_isAction hna v2 (fun j hj e2 => br_f (by decide) ?_) (fun hx => br_t rfl (yo_noc hna (Or.inr (Or.inl hx)) ⟨rfl, rel⟩))
  refine br_c (fun e => yo_noc hna (Or.inr (Or.inr e)) ⟨rfl, rel⟩) (fun e => ?_)
  subst e1; subst e2
  have hn : i ≠ j := fun z => e (by rw [z])
  refine xw_deedsClash (by omega) (by omega) (fun w => br_f (by decide) ?_) (fun w => br_t rfl ?_)
  · exact yw_clash hna hi hj hn (fun _ => ⟨rfl, rel⟩) (fun z => absurd w z)
  · exact yw_clash hna hi hj hn (fun z => absurd z w) (fun _ => ⟨rfl, rel⟩)
theorem i_vc_fewest {k : Nat} {u : SX} {v : SY} (I : i_Rel k u v) (hk : k + 4 ≤ 2048) (v1 : Int32) : wpX_fewest (fun r u' => wpY_fewest (fun r' v' => r' = r ∧ i_Rel (k + 4) u' v') v v1) u v1 := by
  refine pl_el (P := fun u v => wpX_fewest (fun r u' => wpY_fewest (fun r' v' => r' = r ∧ i_Rel (k + 4) u' v') v v1) u v1) ?_ I
  intro na st bu cc nd gn ls fa da fb db cl fl sv wa op ch cd cf co hd hD hs hI
  refine xw_fewest v1 hD hs hI (fun hg r hr bu cc fa da fb db cl fl sv wa op ch cd cf co hI => ?_) (fun hg => ?_)
  · exact yw_fewest v1 hD hs (fun _ r' hr' hd => ⟨pl_Few_un hr' hr, pl_rel hD hs hI⟩) (fun z => absurd hg z)
  · exact yw_fewest v1 hD hs (fun z => absurd z hg) (fun _ => ⟨rfl, pl_rel hD hs hI⟩)
theorem i_vc_within {k : Nat} {u : SX} {v : SY} (I : i_Rel k u v) (hk : k + 4 ≤ 2048) (v1 : Int32) : wpX_within (fun r u' => wpY_within (fun r' v' => r' = r ∧ i_Rel (k + 4) u' v') v v1) u v1 := by
  refine pl_el (P := fun u v => wpX_within (fun r u' => wpY_within (fun r' v' => r' = r ∧ i_Rel (k + 4) u' v') v v1) u v1) ?_ I
  intro na st bu cc nd gn ls fa da fb db cl fl sv wa op ch cd cf co hd hD hs hI
  have rel : i_Rel (k + 4) (nI na, st, bu, cc, nd, gn, ls, fa, da, fb, db, cl, fl, sv, wa, op, ch, cd, cf, co) (nI na, st, nd, gn, ls, hd) := pl_rel hD hs hI
  rcases pk_ix v1 (n := 9) (by decide) with h | h | ⟨q, hq, e⟩
  · exact br_t h (br_t h ⟨rfl, rel⟩)
  · obtain ⟨a, b, c⟩ := pl_gt (n := 8) (by decide) h
    exact br_f a (br_f c (br_f a (br_f c ⟨rfl, rel⟩)))
  · subst e
    refine xw_within (by omega) hD hs hI (fun r hr bu cc fa da fb db cl fl sv wa op ch cd cf co hI => ?_)
    exact yw_within (by omega) hD hs (fun r' hr' hd => ⟨pl_ext (fun b => (hr' b).trans (hr b).symm), pl_rel hD hs hI⟩)
theorem i_vc_together {k : Nat} {u : SX} {v : SY} (I : i_Rel k u v) (hk : k + 4 ≤ 2048) (v1 : Int32) (v2 : Int32) (v3 : Int32) : wpX_together (fun r u' => wpY_together (fun r' v' => r' = r ∧ i_Rel (k + 4) u' v') v v1 v2 v3) u v1 v2 v3 := by
  refine pl_el (P := fun u v => wpX_together (fun r u' => wpY_together (fun r' v' => r' = r ∧ i_Rel (k + 4) u' v') v v1 v2 v3) u v1 v2 v3) ?_ I
  intro na st bu cc nd gn ls fa da fb db cl fl sv wa op ch cd cf co hd hD hs hI
  have rel : i_Rel (k + 4) (nI na, st, bu, cc, nd, gn, ls, fa, da, fb, db, cl, fl, sv, wa, op, ch, cd, cf, co) (nI na, st, nd, gn, ls, hd) := pl_rel hD hs hI
  rcases pk_ix v1 (n := 8) (by decide) with h | h | ⟨f, hf, e1⟩
  · exact br_t h (br_t h ⟨rfl, rel⟩)
  · obtain ⟨a, b, _⟩ := pl_gt (n := 7) (by decide) h
    exact br_f a (br_t h (br_f a (br_t b ⟨rfl, rel⟩)))
  subst e1
  have p1 : ¬ nI f < 0 := nI_pos (by omega)
  have p2 : ¬ (8 : Int32) ≤ nI f := nI_ge (b := 8) hf (by decide)
  have p3 : ¬ (7 : Int32) < nI f := nI_nlt (a := 7) (by omega) (by decide)
  rcases pk_ix v2 (n := 8) (by decide) with h | h | ⟨g, hg, e2⟩
  · exact br_f p1 (br_f p2 (br_t h (br_f p1 (br_f p3 (br_t h ⟨rfl, rel⟩)))))
  · obtain ⟨a, b, _⟩ := pl_gt (n := 7) (by decide) h
    exact br_f p1 (br_f p2 (br_f a (br_t h (br_f p1 (br_f p3 (br_f a (br_t b ⟨rfl, rel⟩)))))))
  subst e2
  have q1 : ¬ nI g < 0 := nI_pos (by omega)
  have q2 : ¬ (8 : Int32) ≤ nI g := nI_ge (b := 8) hg (by decide)
  have q3 : ¬ (7 : Int32) < nI g := nI_nlt (a := 7) (by omega) (by decide)
  rcases pk_ix v3 (n := 9) (by decide) with h | h | ⟨q, hq, e3⟩
  · exact br_f p1 (br_f p2 (br_f q1 (br_f q2 (br_t h (br_f p1 (br_f p3 (br_f q1 (br_f q3 (br_t h ⟨rfl, rel⟩)))))))))
  · obtain ⟨a, _, c⟩ := pl_gt (n := 8) (by decide) h
    exact br_f p1 (br_f p2 (br_f q1 (br_f q2 (br_f a (br_f c (br_f p1 (br_f p3 (br_f q1 (br_f q3 (br_f a (br_f c ⟨rfl, rel⟩)))))))))))
  subst e3
  have r1 : ¬ nI q < 0 := nI_pos (by omega)
  have r2 : nI q ≤ (8 : Int32) := nI_le (b := 8) (by omega) (by decide)
  have hsm : pl_Sm (((1 : Int32) <<< (nI f &&& 31)) ||| ((1 : Int32) <<< (nI g &&& 31))) := pl_Sm_or (pl_Sm_one hf) (pl_Sm_one hg)
  refine br_f p1 (br_f p2 (br_f q1 (br_f q2 (br_f r1 (br_t r2 ?_)))))
  refine xw_build hD.1 hI (fun bu1 fa1 da1 fb1 db1 cl1 fl1 sv1 hG hK => ?_)
  refine xw_serves hD hs hG hK (by omega) hsm (fun hS cc fl sv wa op ch cd cf co hK => And.intro rfl ?_) (fun hS cc fl sv wa op ch cd cf co hK => And.intro rfl ?_)
  · refine br_f p1 (br_f p3 (br_f q1 (br_f q3 (br_f r1 (br_t r2 (yw_setOut hD hs (fun hd2 hH => ?_)))))))
    exact yw_served hD hs (by omega) hH (fun _ => And.intro rfl ⟨rfl, pl_rel hD hs (fun _ => ⟨hG, hK⟩)⟩) (fun z => absurd hS z)
  · refine br_f p1 (br_f p3 (br_f q1 (br_f q3 (br_f r1 (br_t r2 (yw_setOut hD hs (fun hd2 hH => ?_)))))))
    exact yw_served hD hs (by omega) hH (fun z => absurd z hS) (fun _ => And.intro rfl ⟨rfl, pl_rel hD hs (fun _ => ⟨hG, hK⟩)⟩)
theorem i_vc_begins {k : Nat} {u : SX} {v : SY} (I : i_Rel k u v) (hk : k + 4 ≤ 2048) (v1 : Int32) (v2 : Int32) : wpX_begins (fun r u' => wpY_begins (fun r' v' => r' = r ∧ i_Rel (k + 4) u' v') v v1 v2) u v1 v2 := by
  refine pl_el (P := fun u v => wpX_begins (fun r u' => wpY_begins (fun r' v' => r' = r ∧ i_Rel (k + 4) u' v') v v1 v2) u v1 v2) ?_ I
  intro na st bu cc nd gn ls fa da fb db cl fl sv wa op ch cd cf co hd hD hs hI
  refine xw_begins v1 v2 hD hs hI (fun hA bu cc fa da fb db cl fl sv wa op ch cd cf co hI => ?_) (fun hA bu cc fa da fb db cl fl sv wa op ch cd cf co hI => ?_)
  · exact yw_begins v1 v2 hD hs (fun _ hd => ⟨rfl, pl_rel hD hs hI⟩) (fun z => absurd hA z)
  · exact yw_begins v1 v2 hD hs (fun z => absurd z hA) (fun _ hd => ⟨rfl, pl_rel hD hs hI⟩)
theorem i_vc_advance {k : Nat} {u : SX} {v : SY} (I : i_Rel k u v) (hk : k + 4 ≤ 2048) (v1 : Int32) : wpX_advance (fun r u' => wpY_advance (fun r' v' => r' = r ∧ i_Rel (k + 4) u' v') v v1) u v1 := by
  refine pl_el (P := fun u v => wpX_advance (fun r u' => wpY_advance (fun r' v' => r' = r ∧ i_Rel (k + 4) u' v') v v1) u v1) ?_ I
  intro na st bu cc nd gn ls fa da fb db cl fl sv wa op ch cd cf co hd hD hs hI
  have hna := hD.1
  have hp7 := pl_p7 hna
  have rel : i_Rel (k + 4) (nI na, st, bu, cc, nd, gn, ls, fa, da, fb, db, cl, fl, sv, wa, op, ch, cd, cf, co) (nI na, st, nd, gn, ls, hd) := pl_rel hD hs hI
  have ep := pl_pw2 na (by omega)
  by_cases h : v1 < 0
  · exact br_t h (br_t h ⟨rfl, rel⟩)
  · obtain ⟨m, hm, e⟩ := nI_of h
    subst e
    rcases Nat.lt_or_ge m (2 ^ na) with z | z
    · have hY : nI m < (1 : Int32) <<< (nI na &&& 31) := by rw [ep]; exact nI_lt z (by omega)
      refine br_f h (br_f (by rw [ep]; exact nI_ge z (by omega)) (xw_isLayer hna (fun ho => br_f (by decide) ?_) (fun ho => br_t rfl ?_)))
      · refine xw_after hna (fun r ha => br_f h (br_t hY (yw_after hna (fun _ r' ha' => ?_) (fun w => absurd ho w))))
        have e := pl_aft_un ha' ha
        subst e
        have hr := pl_aft_Sm hD hs ha'
        exact br_t (Int32.not_lt.mp ((pl_Sm_iff r').mp hr).1) ⟨rfl, pl_rel0 hD hr⟩
      · exact br_f h (br_t hY (yw_after hna (fun w => absurd w ho) (fun _ => br_f (by decide) ⟨rfl, rel⟩)))
    · exact br_f h (br_t (by rw [ep]; exact nI_le z hm) (br_f h (br_f (by rw [ep]; exact nI_nlt z hm) ⟨rfl, rel⟩)))
theorem i_vc_state {k : Nat} {u : SX} {v : SY} (I : i_Rel k u v) (hk : k + 4 ≤ 2048) : wpX_state (fun r => wpY_state (fun r' => r' = r ∧ i_Rel (k + 4) u v) v) u := by
  refine pl_el (P := fun u v => wpX_state (fun r => wpY_state (fun r' => r' = r ∧ i_Rel (k + 4) u v) v) u) ?_ I
  intro na st bu cc nd gn ls fa da fb db cl fl sv wa op ch cd cf co hd hD hs hI
  exact ⟨rfl, pl_rel hD hs hI⟩
end
