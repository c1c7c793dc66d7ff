section
/-! pure rows to paste: stores, nI and lN arithmetic, masks, shifts, narrowing, branches by naturals (pk_le, pk_lt, pk_eq), loops (lp1 .. lp16: the measure of the state; rp1 ..: recursion), negatives. Take what you need -/
theorem pk_us {f : Nat → Int32} {k : Nat} {x : Int32} : upd f k x k = x := if_pos rfl
theorem pk_un {f : Nat → Int32} {k j : Nat} {x : Int32} (h : j ≠ k) : upd f k x j = f j := if_neg h
theorem pk_uLs {f : Nat → Int64} {k : Nat} {x : Int64} : vp_updL f k x k = x := if_pos rfl
theorem pk_uLn {f : Nat → Int64} {k j : Nat} {x : Int64} (h : j ≠ k) : vp_updL f k x j = f j := if_neg h
theorem pk_sub {a b : Nat} (h : b ≤ a) : nI a - nI b = nI (a - b) := by
  obtain ⟨c, rfl⟩ : ∃ c, a = c + b := ⟨a - b, by omega⟩
  rw [← nI_add, Int32.add_sub_cancel, Nat.add_sub_cancel]
theorem pk_m1 (n : Nat) : nI (n + 1) + (-1) = nI n := by
  rw [← nI_1, Int32.add_assoc, show (1 : Int32) + (-1) = 0 from rfl, Int32.add_zero]
theorem pk_mul (a b : Nat) : nI a * nI b = nI (a * b) := (Int32.ofNat_mul a b).symm
theorem pk_div {a d : Nat} (ha : a < 2 ^ 31) (h0 : 0 < d) (hd : d < 2 ^ 31) : nI a / nI d = nI (a / d) := by
  apply Int32.toInt_inj.mp
  rw [lg_idiv_nonneg (by rw [nI_toInt ha]; omega) (by rw [nI_toInt hd]; omega), nI_toInt ha, nI_toInt hd, nI_toInt (Nat.lt_of_le_of_lt (Nat.div_le_self a d) ha)]
  first | rfl | exact (Int.natCast_ediv _ _).symm
theorem pk_rem {a d : Nat} (ha : a < 2 ^ 31) (h0 : 0 < d) (hd : d < 2 ^ 31) : nI a - nI a / nI d * nI d = nI (a % d) := by
  rw [pk_div ha h0 hd, pk_mul, pk_sub (Nat.div_mul_le_self a d)]
  exact congrArg nI (by have := Nat.div_add_mod' a d; omega)
theorem pk_sub_toInt {a b : Nat} (ha : a < 2 ^ 30) (hb : b < 2 ^ 30) : (nI a - nI b).toInt = (a : Int) - b := by
  rw [Int32.toInt_sub, nI_toInt (by omega), nI_toInt (by omega)]
  exact Int.bmod_eq_of_le (by omega) (by omega)
theorem pk_sneg {a b : Nat} (hb : b < 2 ^ 30) (h : a < b) : nI a - nI b < 0 := by
  rw [Int32.lt_iff_toInt_lt, pk_sub_toInt (by omega) hb, show (0 : Int32).toInt = 0 from by decide]
  omega
theorem pk_ix (x : Int32) {n : Nat} (hn : n < 2 ^ 31) : x < 0 ∨ nI n ≤ x ∨ ∃ j : Nat, j < n ∧ x = nI j := by
  by_cases h : x < 0
  · exact Or.inl h
  · obtain ⟨j, hj, rfl⟩ := nI_of h
    by_cases h2 : j < n
    · exact Or.inr (Or.inr ⟨j, h2, rfl⟩)
    · exact Or.inr (Or.inl (nI_le (by omega) hj))
theorem pk_le {x y : Int32} {A B : Prop} (a b : Nat) (f : a ≤ b → A) (g : b < a → B) (hx : x = nI a := by rfl) (hy : y = nI b := by rfl) (ha : a < 2 ^ 31 := by omega) (hb : b < 2 ^ 31 := by omega) : (x ≤ y → A) ∧ (¬ x ≤ y → B) := by
  subst hx hy
  rw [nI_leI ha hb]
  exact ⟨f, fun z => g (by omega)⟩
theorem pk_lt {x y : Int32} {A B : Prop} (a b : Nat) (f : a < b → A) (g : b ≤ a → B) (hx : x = nI a := by rfl) (hy : y = nI b := by rfl) (ha : a < 2 ^ 31 := by omega) (hb : b < 2 ^ 31 := by omega) : (x < y → A) ∧ (¬ x < y → B) := by
  subst hx hy
  rw [nI_ltI ha hb]
  exact ⟨f, fun z => g (by omega)⟩
theorem pk_eq {x y : Int32} {A B : Prop} (a b : Nat) (f : a = b → A) (g : a ≠ b → B) (hx : x = nI a := by rfl) (hy : y = nI b := by rfl) (ha : a < 2 ^ 31 := by omega) (hb : b < 2 ^ 31 := by omega) : (x = y → A) ∧ (¬ x = y → B) := by
  subst hx hy
  rw [nI_eq ha hb]
  exact ⟨f, g⟩
theorem pk_in {x : Int32} (n N : Nat) (h : n < N) (hx : x = nI n := by rfl) (hN : N < 2 ^ 31 := by omega) : vp_in x N := by
  subst hx
  exact vp_in_nI h hN
theorem pk_cl {x : Int32} (n : Nat) (hx : x = nI n := by rfl) (h : n < 2 ^ 31 := by omega) : x.toNatClampNeg = n := by
  subst hx
  exact nI_clamp h
theorem pk_tn {n : Nat} (h : n < 2 ^ 32) : (nI n).toBitVec.toNat = n := Nat.mod_eq_of_lt h
theorem pk_and (x : Int32) {m : Int32} (k : Nat) (hm : m.toBitVec.toNat = 2 ^ k - 1) : x &&& m = nI (x.toBitVec.toNat % 2 ^ k) := by
  apply Int32.toBitVec_inj.mp
  apply BitVec.eq_of_toNat_eq
  rw [Int32.toBitVec_and, BitVec.toNat_and, hm, Nat.and_two_pow_sub_one_eq_mod]
  show _ = (BitVec.ofNat 32 _).toNat
  rw [BitVec.toNat_ofNat]
  exact (Nat.mod_eq_of_lt (Nat.lt_of_le_of_lt (Nat.mod_le _ _) x.toBitVec.isLt)).symm
theorem pk_andN {n : Nat} (h : n < 2 ^ 32) {m : Int32} (k : Nat) (hm : m.toBitVec.toNat = 2 ^ k - 1) : nI n &&& m = nI (n % 2 ^ k) := by
  rw [pk_and _ k hm, pk_tn h]
theorem pk_andE (x : Int32) {m : Int32} (k : Nat) (hm : m.toBitVec.toNat = 2 ^ k - 1) : ∃ j : Nat, j < 2 ^ k ∧ x &&& m = nI j := ⟨_, Nat.mod_lt _ (Nat.two_pow_pos k), pk_and x k hm⟩
theorem pk_andIn (x : Int32) {m : Int32} (k : Nat) (hm : m.toBitVec.toNat = 2 ^ k - 1) (hk : k ≤ 30) : vp_in (x &&& m) (2 ^ k) := by
  obtain ⟨j, hj, e⟩ := pk_andE x k hm
  rw [e]
  exact vp_in_nI hj (Nat.lt_of_le_of_lt (Nat.pow_le_pow_right (by decide) hk) (by decide))
theorem pk_shl (a s : Int32) (k : Nat) (hs : (s.toBitVec.smod 32).toNat = k) : (a <<< s).toBitVec.toNat = a.toBitVec.toNat * 2 ^ k % 2 ^ 32 := by
  show (a.toBitVec <<< (s.toBitVec.smod 32).toNat).toNat = _
  rw [hs, BitVec.toNat_shiftLeft, Nat.shiftLeft_eq]
theorem pk_shlN {n : Nat} (s : Int32) (k : Nat) (hs : (s.toBitVec.smod 32).toNat = k) (h : n * 2 ^ k < 2 ^ 32) : nI n <<< s = nI (n * 2 ^ k) := by
  apply Int32.toBitVec_inj.mp
  apply BitVec.eq_of_toNat_eq
  have hn : n < 2 ^ 32 := Nat.lt_of_le_of_lt (Nat.le_mul_of_pos_right n (Nat.two_pow_pos k)) h
  rw [pk_shl _ _ k hs, pk_tn hn, pk_tn h, Nat.mod_eq_of_lt h]
theorem pk_shr (a s : Int32) (k : Nat) (hs : (s.toBitVec.smod 32).toNat = k) : (a >>> s).toInt = a.toInt >>> k := by
  show (a.toBitVec.sshiftRight (s.toBitVec.smod 32).toNat).toInt = _
  rw [hs, BitVec.toInt_sshiftRight]
  rfl
theorem pk_shrN {n : Nat} (h : n < 2 ^ 31) (s : Int32) (k : Nat) (hs : (s.toBitVec.smod 32).toNat = k) : nI n >>> s = nI (n / 2 ^ k) := by
  apply Int32.toInt_inj.mp
  have h2 : n / 2 ^ k ≤ n := Nat.div_le_self _ _
  rw [pk_shr _ _ k hs, nI_toInt h, nI_toInt (by omega), Int.shiftRight_eq_div_pow]
  rfl
theorem pk_ushr (x s : Int32) (k : Nat) (hs : ((s.toUInt32 &&& Int32.toUInt32 31).toBitVec % 32).toNat = k) : (x.toUInt32 >>> (s.toUInt32 &&& Int32.toUInt32 31)).toInt32.toBitVec.toNat = x.toBitVec.toNat / 2 ^ k := by
  have e : (x.toUInt32 >>> (s.toUInt32 &&& Int32.toUInt32 31)).toInt32.toBitVec = x.toBitVec >>> k := by
    rw [← hs]
    exact UInt32.toBitVec_shiftRight _ _
  rw [e, BitVec.toNat_ushiftRight, Nat.shiftRight_eq_div_pow]
theorem pk_ushrN {n : Nat} (hn : n < 2 ^ 32) (s : Int32) (k : Nat) (hs : ((s.toUInt32 &&& Int32.toUInt32 31).toBitVec % 32).toNat = k) : ((nI n).toUInt32 >>> (s.toUInt32 &&& Int32.toUInt32 31)).toInt32 = nI (n / 2 ^ k) := by
  apply Int32.toBitVec_inj.mp
  apply BitVec.eq_of_toNat_eq
  rw [pk_ushr _ s k hs, pk_tn hn, pk_tn (Nat.lt_of_le_of_lt (Nat.div_le_self _ _) hn)]
theorem pk_nb (z : Int32) : narrow .byte (.int z.toInt8.toInt32) = .int z.toInt8.toInt32 := congrArg Value.int (by simp)
theorem pk_ns (z : Int32) : narrow .short (.int z.toInt16.toInt32) = .int z.toInt16.toInt32 := congrArg Value.int (by simp)
theorem pk_fb (r : Int32) : fits .byte (.int r.toInt8.toInt32) = true := by
  have ⟨a, b⟩ := lg_i2b_range r
  have h1 : (-128 : Int32).toInt = -128 := by decide
  have h2 : (127 : Int32).toInt = 127 := by decide
  simp only [fits, Bool.and_eq_true, decide_eq_true_eq, Int32.le_iff_toInt_le, h1, h2]
  omega
theorem pk_fs (r : Int32) : fits .short (.int r.toInt16.toInt32) = true := by
  have ⟨a, b⟩ := lg_i2s_range r
  have h1 : (-32768 : Int32).toInt = -32768 := by decide
  have h2 : (32767 : Int32).toInt = 32767 := by decide
  simp only [fits, Bool.and_eq_true, decide_eq_true_eq, Int32.le_iff_toInt_le, h1, h2]
  omega
theorem pk_charN {q : Nat} (hq : q < 65536) : narrow .char (.int (nI q)) = .int (nI q) ∧ fits .char (.int (nI q)) = true := by
  constructor
  · have e : (nI q).toUInt32.toUInt16.toUInt32.toInt32 = nI q := by
      apply Int32.toBitVec_inj.mp
      apply BitVec.eq_of_toNat_eq
      show (nI q).toUInt32.toUInt16.toUInt32.toNat = q % 2 ^ 32
      rw [UInt16.toNat_toUInt32, UInt32.toNat_toUInt16, show (nI q).toUInt32.toNat = q % 2 ^ 32 from rfl]
      omega
    exact congrArg Value.int e
  · have a : (0 : Int32) ≤ nI q := nI_pos' (by omega)
    have b : nI q ≤ 65535 := nI_le (b := 65535) (by omega) (by decide)
    show (decide ((0 : Int32) ≤ nI q) && decide (nI q ≤ 65535)) = true
    rw [decide_eq_true a, decide_eq_true b]
    rfl
theorem pk_char (x : Int32) : (x.toUInt32 % 65536).toInt32 = nI (x.toBitVec.toNat % 65536) := by
  apply Int32.toBitVec_inj.mp
  apply BitVec.eq_of_toNat_eq
  rw [pk_tn (by omega)]
  show (x.toUInt32 % 65536).toNat = _
  rw [UInt32.toNat_mod]
  rfl
theorem pk_nc (x : Int32) : narrow .char (.int (x.toUInt32 % 65536).toInt32) = .int (x.toUInt32 % 65536).toInt32 := by
  rw [pk_char]
  exact (pk_charN (Nat.mod_lt _ (by decide))).1
theorem pk_fc (x : Int32) : fits .char (.int (x.toUInt32 % 65536).toInt32) = true := by
  rw [pk_char]
  exact (pk_charN (Nat.mod_lt _ (by decide))).2
theorem pk_vb (z : Int32) : vp_nar .byte z.toInt8.toInt32 = z.toInt8.toInt32 := by rw [vp_nar_byte]; simp
theorem pk_vs (z : Int32) : vp_nar .short z.toInt16.toInt32 = z.toInt16.toInt32 := by rw [vp_nar_short]; simp
theorem pk_vc (z : Int32) : vp_nar .char (z.toUInt32 % 65536).toInt32 = (z.toUInt32 % 65536).toInt32 := Value.int.inj (pk_nc z)
/-! ===== Int32 by its bits: bt x i ===== -/
def bt (x : Int32) (i : Nat) : Bool := x.toBitVec.getLsbD i
theorem b_ext {x y : Int32} (h : ∀ i, i < 32 → bt x i = bt y i) : x = y := Int32.toBitVec_inj.mp (BitVec.eq_of_getLsbD_eq (fun i hi => h i hi))
theorem b_or (x y : Int32) (i : Nat) : bt (x ||| y) i = (bt x i || bt y i) := by unfold bt; rw [Int32.toBitVec_or, BitVec.getLsbD_or]
theorem b_and (x y : Int32) (i : Nat) : bt (x &&& y) i = (bt x i && bt y i) := by unfold bt; rw [Int32.toBitVec_and, BitVec.getLsbD_and]
theorem b_xor (x y : Int32) (i : Nat) : bt (x ^^^ y) i = (bt x i ^^ bt y i) := by unfold bt; rw [Int32.toBitVec_xor, BitVec.getLsbD_xor]
theorem b_big {x : Int32} {i : Nat} (h : 32 ≤ i) : bt x i = false := BitVec.getLsbD_of_ge _ _ h
theorem b_255 (i : Nat) : bt 255 i = decide (i < 8) := by
  rcases Nat.lt_or_ge i 32 with h | h
  · exact (by decide +kernel : ∀ i, i < 32 → bt 255 i = decide (i < 8)) i h
  · rw [b_big h, decide_eq_false (by omega)]
theorem b_65535 (i : Nat) : bt 65535 i = decide (i < 16) := by
  rcases Nat.lt_or_ge i 32 with h | h
  · exact (by decide +kernel : ∀ i, i < 32 → bt 65535 i = decide (i < 16)) i h
  · rw [b_big h, decide_eq_false (by omega)]
theorem b_m1 : ∀ i, i < 32 → bt (-1) i = true := by decide +kernel
theorem b_0 (i : Nat) : bt 0 i = false := BitVec.getLsbD_zero
theorem s_l : ∀ n, n < 32 → ((nI n &&& 31).toBitVec.smod 32).toNat = n := by decide +kernel
theorem s_u : ∀ n, n < 32 → (((nI n).toUInt32 &&& Int32.toUInt32 31).toBitVec % 32).toNat = n := by decide +kernel
theorem b_shl (n : Nat) (hn : n < 32) (x : Int32) {i : Nat} (hi : i < 32) : bt (x <<< (nI n &&& 31)) i = (decide (n ≤ i) && bt x (i - n)) := by
  unfold bt
  rw [Int32.toBitVec_shiftLeft]
  show (x.toBitVec <<< ((nI n &&& 31).toBitVec.smod 32).toNat).getLsbD i = _
  rw [s_l n hn, BitVec.getLsbD_shiftLeft]
  rcases Nat.lt_or_ge i n with h | h
  · simp [h, Nat.not_le.mpr h]
  · simp [hi, h, Nat.not_lt.mpr h]
theorem b_ushr (n : Nat) (hn : n < 32) (x : Int32) (i : Nat) : bt ((x.toUInt32 >>> ((nI n).toUInt32 &&& Int32.toUInt32 31)).toInt32) i = bt x (n + i) := by
  show (x.toUInt32 >>> ((nI n).toUInt32 &&& Int32.toUInt32 31)).toBitVec.getLsbD i = x.toUInt32.toBitVec.getLsbD (n + i)
  rw [UInt32.toBitVec_shiftRight]
  show (x.toUInt32.toBitVec >>> (((nI n).toUInt32 &&& Int32.toUInt32 31).toBitVec % 32).toNat).getLsbD i = _
  rw [s_u n hn, BitVec.getLsbD_ushiftRight]
theorem b_sshr (n : Nat) (hn : n < 32) (x : Int32) {i : Nat} (hi : i < 32) : bt (x >>> (nI n &&& 31)) i = if n + i < 32 then bt x (n + i) else bt x 31 := by
  unfold bt
  rw [Int32.toBitVec_shiftRight]
  show (x.toBitVec.sshiftRight ((nI n &&& 31).toBitVec.smod 32).toNat).getLsbD i = _
  rw [s_l n hn, BitVec.getLsbD_sshiftRight, BitVec.msb_eq_getLsbD_last]
  simp [hi]
theorem b_shl8 (x : Int32) {i : Nat} (hi : i < 32) : bt (x <<< ((8 : Int32) &&& 31)) i = (decide (8 ≤ i) && bt x (i - 8)) := b_shl 8 (by omega) x hi
theorem b_shl16 (x : Int32) {i : Nat} (hi : i < 32) : bt (x <<< ((16 : Int32) &&& 31)) i = (decide (16 ≤ i) && bt x (i - 16)) := b_shl 16 (by omega) x hi
theorem b_shl24 (x : Int32) {i : Nat} (hi : i < 32) : bt (x <<< ((24 : Int32) &&& 31)) i = (decide (24 ≤ i) && bt x (i - 24)) := b_shl 24 (by omega) x hi
theorem b_sshr8 (x : Int32) {i : Nat} (hi : i < 32) : bt (x >>> ((8 : Int32) &&& 31)) i = if 8 + i < 32 then bt x (8 + i) else bt x 31 := b_sshr 8 (by omega) x hi
/-! ===== Int64 as a set of bits: test, set, clear ===== -/
theorem ts_nf {x : Bool} (h : ¬ x = false) : x = true := by cases x <;> first | rfl | exact absurd rfl h
theorem ts_nt {x : Bool} (h : ¬ x = true) : x = false := by cases x <;> first | rfl | exact absurd rfl h
theorem ts_bit {w : Int64} {s : UInt64} {j : Nat} (hj : j < 64) (hs : s.toNat = j) : ((w.toUInt64 >>> s).toInt64 &&& 1) = 0 ↔ w.toBitVec.getLsbD j = false := by
  have e : (w.toUInt64 >>> s).toInt64.toBitVec = w.toBitVec >>> j := by
    apply BitVec.eq_of_toNat_eq
    show (w.toUInt64 >>> s).toNat = _
    rw [UInt64.toNat_shiftRight, hs, Nat.mod_eq_of_lt hj, BitVec.toNat_ushiftRight]
    rfl
  rw [← Int64.toBitVec_inj, Int64.toBitVec_and, e]
  show w.toBitVec >>> j &&& 1#64 = 0#64 ↔ _
  constructor
  · intro h
    have t := congrArg (fun x => x.getLsbD 0) h
    simpa using t
  · intro h
    apply BitVec.eq_of_getLsbD_eq
    intro i hi
    cases i with
    | zero => simp [h]
    | succ i => simp
theorem ts_or {w m : Int64} {j : Nat} (hj : j < 64) (hm : m.toBitVec = BitVec.twoPow 64 j) : (w ||| m) = w ↔ w.toBitVec.getLsbD j = true := by
  rw [← Int64.toBitVec_inj, Int64.toBitVec_or, hm]
  constructor
  · intro h
    have t := congrArg (fun x => x.getLsbD j) h
    simp only [BitVec.getLsbD_or, BitVec.getLsbD_twoPow] at t
    simpa [hj] using t.symm
  · intro h
    apply BitVec.eq_of_getLsbD_eq
    intro i hi
    rw [BitVec.getLsbD_or, BitVec.getLsbD_twoPow]
    by_cases e : j = i
    · subst e; rw [h, Bool.true_or]
    · simp [e]
theorem ts_and {w m : Int64} {j : Nat} (hj : j < 64) (hm : m.toBitVec = BitVec.twoPow 64 j) : (w &&& (m ^^^ (-1))) = w ↔ w.toBitVec.getLsbD j = false := by
  have ha : (-1 : Int64).toBitVec = BitVec.allOnes 64 := by decide
  rw [← Int64.toBitVec_inj, Int64.toBitVec_and, Int64.toBitVec_xor, hm, ha]
  constructor
  · intro h
    have t := congrArg (fun x => x.getLsbD j) h
    simp only [BitVec.getLsbD_and, BitVec.getLsbD_xor, BitVec.getLsbD_twoPow, BitVec.getLsbD_allOnes] at t
    simpa [hj] using t.symm
  · intro h
    apply BitVec.eq_of_getLsbD_eq
    intro i hi
    rw [BitVec.getLsbD_and, BitVec.getLsbD_xor, BitVec.getLsbD_twoPow, BitVec.getLsbD_allOnes]
    by_cases e : j = i
    · subst e; rw [h, Bool.false_and]
    · simp [e, hi]
/-! ===== lN n to 2^64: shifts, and, or, masks, one bit ===== -/
theorem wb_tb (n : Nat) : (lN n).toBitVec = BitVec.ofNat 64 n := rfl
theorem wb_inj {a b : Int64} (h : a.toBitVec = b.toBitVec) : a = b := Int64.toBitVec_inj.mp h
theorem wb_tn {n : Nat} (h : n < 2 ^ 64) : (lN n).toBitVec.toNat = n := by rw [wb_tb, BitVec.toNat_ofNat, Nat.mod_eq_of_lt h]
theorem wb_of (x : Int64) : ∃ n, n < 2 ^ 64 ∧ x = lN n := ⟨x.toBitVec.toNat, x.toBitVec.isLt, wb_inj (by rw [wb_tb]; simp)⟩
theorem wb_of32 (x : Int32) : ∃ n, n < 2 ^ 32 ∧ x = nI n := ⟨x.toBitVec.toNat, x.toBitVec.isLt, Int32.toBitVec_inj.mp (by show _ = BitVec.ofNat 32 _; simp)⟩
theorem wb_c : ∀ k, k < 64 → ((nI k).toInt64 &&& 63) = lN k := by decide +kernel
theorem wb_cu : ∀ k, k < 64 → ((nI k).toInt64.toUInt64 &&& Int64.toUInt64 63) = UInt64.ofNat k := by decide +kernel
theorem wb_sm : ∀ k, k < 64 → (BitVec.ofNat 64 k).smod 64 = BitVec.ofNat 64 k := by decide +kernel
theorem wb_pw {a b : Nat} (h : a ≤ b) : 2 ^ b = 2 ^ a * 2 ^ (b - a) := by rw [← Nat.pow_add]; congr 1; omega
theorem wb_lt2 {a b : Nat} (h : a < b) : 2 ^ a < 2 ^ b := Nat.pow_lt_pow_right (by decide) h
theorem wb_mod (n : Nat) : lN n = lN (n % 2 ^ 64) := wb_inj (by rw [wb_tb, wb_tb]; apply BitVec.eq_of_toNat_eq; rw [BitVec.toNat_ofNat, BitVec.toNat_ofNat, Nat.mod_mod])
theorem wb_shr {n k : Nat} (hn : n < 2 ^ 64) (hk : k < 64) : ((lN n).toUInt64 >>> ((nI k).toInt64.toUInt64 &&& Int64.toUInt64 63)).toInt64 = lN (n / 2 ^ k) := by
  rw [wb_cu k hk]
  apply wb_inj
  apply BitVec.eq_of_toNat_eq
  show ((lN n).toUInt64 >>> UInt64.ofNat k).toNat = (BitVec.ofNat 64 _).toNat
  have h1 : (UInt64.ofNat k).toNat = k := by
    show (BitVec.ofNat 64 k).toNat = k
    rw [BitVec.toNat_ofNat, Nat.mod_eq_of_lt (by omega)]
  have h2 : (lN n).toUInt64.toNat = n := wb_tn hn
  rw [UInt64.toNat_shiftRight, h1, h2, Nat.mod_eq_of_lt hk, Nat.shiftRight_eq_div_pow, BitVec.toNat_ofNat, Nat.mod_eq_of_lt (Nat.lt_of_le_of_lt (Nat.div_le_self _ _) hn)]
theorem wb_shl (n : Nat) {k : Nat} (hk : k < 64) : lN n <<< ((nI k).toInt64 &&& 63) = lN (n * 2 ^ k) := by
  rw [wb_c k hk]
  apply wb_inj
  rw [Int64.toBitVec_shiftLeft, wb_tb, wb_tb, wb_tb, wb_sm k hk]
  apply BitVec.eq_of_toNat_eq
  rw [BitVec.shiftLeft_eq', BitVec.toNat_shiftLeft, BitVec.toNat_ofNat, BitVec.toNat_ofNat, BitVec.toNat_ofNat, Nat.mod_eq_of_lt (show k < 2 ^ 64 by omega), Nat.shiftLeft_eq, Nat.mul_mod, Nat.mod_mod, ← Nat.mul_mod]
theorem wb_and {a b : Nat} (ha : a < 2 ^ 64) (hb : b < 2 ^ 64) : lN a &&& lN b = lN (a &&& b) := by
  apply wb_inj
  rw [Int64.toBitVec_and, wb_tb, wb_tb, wb_tb]
  apply BitVec.eq_of_toNat_eq
  rw [BitVec.toNat_and, BitVec.toNat_ofNat, BitVec.toNat_ofNat, BitVec.toNat_ofNat, Nat.mod_eq_of_lt ha, Nat.mod_eq_of_lt hb, Nat.mod_eq_of_lt (Nat.and_lt_two_pow _ hb)]
theorem wb_or {a b : Nat} (ha : a < 2 ^ 64) (hb : b < 2 ^ 64) : lN a ||| lN b = lN (a ||| b) := by
  apply wb_inj
  rw [Int64.toBitVec_or, wb_tb, wb_tb, wb_tb]
  apply BitVec.eq_of_toNat_eq
  rw [BitVec.toNat_or, BitVec.toNat_ofNat, BitVec.toNat_ofNat, BitVec.toNat_ofNat, Nat.mod_eq_of_lt ha, Nat.mod_eq_of_lt hb, Nat.mod_eq_of_lt (Nat.or_lt_two_pow ha hb)]
theorem wb_mask {n k : Nat} (hn : n < 2 ^ 64) (hk : k < 64) : lN n &&& lN (2 ^ k - 1) = lN (n % 2 ^ k) := by
  rw [wb_and hn (by have := wb_lt2 hk; omega), Nat.and_two_pow_sub_one_eq_mod]
theorem wb_a1 {n : Nat} (hn : n < 2 ^ 64) : lN n &&& 1 = lN (n % 2) := wb_mask (k := 1) hn (by decide)
theorem wb_bit {n k : Nat} (hn : n < 2 ^ 64) (hk : k < 64) : ((lN n).toUInt64 >>> ((nI k).toInt64.toUInt64 &&& Int64.toUInt64 63)).toInt64 &&& 1 = lN (n / 2 ^ k % 2) := by
  rw [wb_shr hn hk, wb_a1 (Nat.lt_of_le_of_lt (Nat.div_le_self _ _) hn)]
theorem wb_xor {q k : Nat} (hk : k < 63) (h : 2 ^ k ≤ q) (h2 : q < 2 ^ (k + 1)) : lN q ^^^ lN (2 ^ k) = lN (q - 2 ^ k) := by
  obtain ⟨r, rfl⟩ : ∃ r, q = 2 ^ k + r := ⟨q - 2 ^ k, by omega⟩
  have hr : r < 2 ^ k := by rw [Nat.pow_succ] at h2; omega
  have hx : (2 ^ k + r) ^^^ 2 ^ k = r := by
    apply Nat.eq_of_testBit_eq
    intro i
    rw [Nat.testBit_xor, Nat.testBit_two_pow]
    rcases Nat.lt_trichotomy i k with h | h | h
    · rw [Nat.testBit_two_pow_add_gt h]
      simp [show ¬ k = i by omega]
    · subst h
      rw [Nat.testBit_two_pow_add_eq]
      simp
    · have a1 : 2 ^ (k + 1) ≤ 2 ^ i := Nat.pow_le_pow_right (by decide) h
      rw [Nat.testBit_lt_two_pow (show 2 ^ k + r < 2 ^ i by omega), Nat.testBit_lt_two_pow (show r < 2 ^ i by omega)]
      simp [show ¬ k = i by omega]
  have b1 := wb_lt2 (show k + 1 < 64 by omega)
  have b2 := wb_lt2 (show k < 64 by omega)
  apply wb_inj
  rw [Int64.toBitVec_xor, wb_tb, wb_tb, wb_tb]
  apply BitVec.eq_of_toNat_eq
  rw [BitVec.toNat_xor, BitVec.toNat_ofNat, BitVec.toNat_ofNat, BitVec.toNat_ofNat, Nat.mod_eq_of_lt (by omega : 2 ^ k + r < 2 ^ 64), Nat.mod_eq_of_lt b2, hx, Nat.add_sub_cancel_left, Nat.mod_eq_of_lt (by omega)]
end
section
/-! pure rows: bits, chars, booleans; the passes of fix -/
def qz_b : Bool → Int32
  | true => 1
  | false => 0
theorem qz_b0 {b : Bool} : qz_b b = 0 ↔ b = false := by cases b <;> decide
theorem qz_bn (b : Bool) : vp_nar .boolean (qz_b b) = qz_b b := by cases b <;> rfl
theorem qz_if {c A B : Prop} {b : Bool} (e : c ↔ b = false) (f : b = false → A) (g : b = true → B) : (c → A) ∧ (¬ c → B) :=
  ⟨fun h => f (e.mp h), fun h => g (ts_nf (fun z => h (e.mpr z)))⟩
theorem qz_bit1 : ∀ i, i < 32 → bt 1 i = decide (i = 0) := by decide +kernel
theorem qz_one (x : Int32) : (x &&& 1) = 0 ↔ bt x 0 = false := by
  constructor
  · intro h
    have t : bt (x &&& 1) 0 = false := by rw [h]; exact b_0 0
    rw [b_and, qz_bit1 0 (by decide)] at t
    simpa using t
  · intro h
    apply b_ext
    intro i hi
    rw [b_and, b_0, qz_bit1 i hi]
    by_cases e : i = 0
    · subst e; rw [h]; rfl
    · simp [e]
theorem qz_tu {x : Int32} {n : Nat} (hn : n < 32) : (((x.toUInt32 >>> ((nI n).toUInt32 &&& Int32.toUInt32 31)).toInt32) &&& 1) = 0 ↔ bt x n = false := by
  rw [qz_one, b_ushr n hn]
  exact Iff.rfl
theorem qz_ts {x : Int32} {n : Nat} (hn : n < 32) : ((x >>> (nI n &&& 31)) &&& 1) = 0 ↔ bt x n = false := by
  rw [qz_one, b_sshr n hn x (by omega), if_pos (by omega)]
  exact Iff.rfl
theorem qz_sh1 {n i : Nat} (hn : n < 32) (hi : i < 32) : bt ((1 : Int32) <<< (nI n &&& 31)) i = decide (i = n) := by
  rw [b_shl n hn 1 hi, qz_bit1 _ (by omega), ← Bool.decide_and]
  exact decide_eq_decide.mpr (by omega)
theorem qz_set {x : Int32} {n i : Nat} (hn : n < 32) (hi : i < 32) : bt (x ||| ((1 : Int32) <<< (nI n &&& 31))) i = (bt x i || decide (i = n)) := by
  rw [b_or, qz_sh1 hn hi]
def qz_lb (x : Int64) (i : Nat) : Bool := x.toBitVec.getLsbD i
theorem qz_tl {w : Int64} {n : Nat} (hn : n < 64) : (((w.toUInt64 >>> ((nI n).toInt64.toUInt64 &&& Int64.toUInt64 63)).toInt64) &&& 1) = 0 ↔ qz_lb w n = false :=
  ts_bit hn (by rw [wb_cu n hn]; exact Nat.mod_eq_of_lt (by omega))
theorem qz_l1 : ∀ n, n < 64 → ((1 : Int64) <<< ((nI n).toInt64 &&& 63)).toBitVec = BitVec.twoPow 64 n := by decide +kernel
theorem qz_ls {w : Int64} {n i : Nat} (hn : n < 64) : qz_lb (w ||| ((1 : Int64) <<< ((nI n).toInt64 &&& 63))) i = (qz_lb w i || decide (i = n)) := by
  unfold qz_lb
  rw [Int64.toBitVec_or, BitVec.getLsbD_or, qz_l1 n hn, BitVec.getLsbD_twoPow, decide_eq_true hn, Bool.true_and]
  exact congrArg (fun z => (w.toBitVec.getLsbD i || z)) (decide_eq_decide.mpr ⟨Eq.symm, Eq.symm⟩)
theorem qz_l0 (i : Nat) : qz_lb 0 i = false := BitVec.getLsbD_zero
theorem qz_li {w : Int64} {i : Nat} (hi : i < 32) : bt w.toInt32 i = qz_lb w i := by
  unfold bt qz_lb
  rw [Int64.toBitVec_toInt32, BitVec.getLsbD_signExtend, if_pos (by omega), decide_eq_true hi, Bool.true_and]
theorem qz_keep {al : Int32} {w : Int64} {i : Nat} (hi : i < 32) : bt (al ||| (w.toInt32 ^^^ (-1))) i = (bt al i || !qz_lb w i) := by
  rw [b_or, b_xor, qz_li hi, b_m1 i hi, Bool.xor_true]
theorem qz_b34 : ∀ i, i < 32 → bt 65534 i = decide (1 ≤ i ∧ i < 16) := by decide +kernel
theorem qz_and34 {x : Int32} {i : Nat} (hi : i < 32) : bt (x &&& 65534) i = (decide (1 ≤ i ∧ i < 16) && bt x i) := by
  rw [b_and, qz_b34 i hi, Bool.and_comm]
theorem qz_cb0 (x : Int32) : (x.toUInt32 % 65536).toInt32 = x &&& 65535 := by
  rw [pk_char, pk_and x (m := 65535) 16 (by decide)]
theorem qz_cbit (x : Int32) (i : Nat) : bt ((x.toUInt32 % 65536).toInt32) i = (decide (i < 16) && bt x i) := by
  rw [qz_cb0, b_and, b_65535, Bool.and_comm]
theorem qz_c {w : Nat} (h : w < 65536) : vp_nar .char (nI w) = nI w := Value.int.inj (pk_charN h).1
theorem qz_cm {w : Nat} (h : w < 65536) : ((nI w).toUInt32 % 65536).toInt32 = nI w := by
  rw [pk_char, pk_tn (by omega), Nat.mod_eq_of_lt h]
theorem qz_cw {x : Int32} (h : ∀ t, 16 ≤ t → t < 32 → bt x t = false) : ∃ w, w < 65536 ∧ x = nI w := by
  have e : x = x &&& 65535 := by
    apply b_ext
    intro i hi
    rw [b_and, b_65535]
    rcases Nat.lt_or_ge i 16 with z | z
    · rw [decide_eq_true z, Bool.and_true]
    · rw [h i z hi, Bool.false_and]
  refine ⟨x.toBitVec.toNat % 2 ^ 16, Nat.mod_lt _ (by decide), ?_⟩
  rw [← pk_and x (m := 65535) 16 (by decide)]
  exact e
theorem qz_cb {x : Int32} (h : ∀ t, 16 ≤ t → t < 32 → bt x t = false) : vp_nar .char x = x := by
  obtain ⟨w, hw, rfl⟩ := qz_cw h
  exact qz_c hw
theorem qz_s0 : vp_nar .short 0 = 0 := by rw [vp_nar_short]; decide
theorem qz_c0 : vp_nar .char 0 = 0 := qz_c (w := 0) (by decide)
theorem qz_u {f : Nat → Int32} {i : Nat} {x y : Int32} (hi : i < 2 ^ 31) (h : x = y) : upd f (nI i).toNatClampNeg x = upd f i y := by rw [nI_clamp hi, h]
theorem qz_ux {f : Nat → Int32} {z : Int32} (i : Nat) {x y : Int32} (e : z = nI i) (hi : i < 2 ^ 31) (h : x = y) : upd f z.toNatClampNeg x = upd f i y := by rw [e, nI_clamp hi, h]
theorem qz_at {a : Nat → Int32} {x y : Int32} (n : Nat) (e : x = nI n) (hn : n < 2 ^ 31) (h : a n = y) : a x.toNatClampNeg = y := by rw [e, nI_clamp hn]; exact h
theorem qz_m4 (a k : Nat) : nI a * 4 + nI k = nI (a * 4 + k) := by rw [show nI a * 4 = nI (a * 4) from pk_mul a 4, nI_add]
theorem qz_m16 (a k : Nat) : nI a * 16 + nI k = nI (a * 16 + k) := by rw [show nI a * 16 = nI (a * 16) from pk_mul a 16, nI_add]
def qz_T (x : Int64) (w : Nat) : Nat := x.toBitVec.toNat / 2 ^ (4 * w) % 16
theorem qz_Tl (x : Int64) (w : Nat) : qz_T x w < 16 := Nat.mod_lt _ (by decide)
theorem qz_Te (x : Int64) {w : Nat} (hw : w < 16) : (((x.toUInt64 >>> ((4 * nI w).toInt64.toUInt64 &&& Int64.toUInt64 63)).toInt64) &&& 15).toInt32 = nI (qz_T x w) := by
  have e4 : 4 * nI w = nI (4 * w) := pk_mul 4 w
  obtain ⟨n, hn, rfl⟩ := wb_of x
  have h15 : (15 : Int64) = lN (2 ^ 4 - 1) := by decide
  rw [e4, wb_shr hn (by omega), h15, wb_mask (Nat.lt_of_le_of_lt (Nat.div_le_self _ _) hn) (by omega), lN_i]
  unfold qz_T
  rw [wb_tn hn]
/-! what fix computes -/
def qz_st (D : Nat → Bool) (al : Int32) (w : Nat) : Bool := decide (w = 0) || decide (15 < w) || !D w || bt al w
def qz_mp (T : Nat → Nat) (w : Nat) : Nat := if w = 0 then 0 else if 15 < w then w else T w
theorem qz_mp0 (T : Nat → Nat) : qz_mp T 0 = 0 := rfl
theorem qz_mpl {T : Nat → Nat} {w : Nat} (h0 : w ≠ 0) (h : w ≤ 15) : qz_mp T w = T w := by
  unfold qz_mp; rw [if_neg h0, if_neg (by omega)]
theorem qz_mpg {T : Nat → Nat} {w : Nat} (h : 15 < w) : qz_mp T w = w := by
  unfold qz_mp; rw [if_neg (by omega), if_pos h]
theorem qz_mpb {T : Nat → Nat} {w : Nat} (hT : ∀ j, T j < 16) (h : w < 65536) : qz_mp T w < 65536 := by
  unfold qz_mp
  have := hT w
  split
  · omega
  · split <;> omega
def qz_ok1 (T : Nat → Nat) (i : Nat) : Prop := ∀ j, 1 ≤ j → j < i → T j ≠ 0 ∧ ∀ l, 1 ≤ l → l < j → T l ≠ T j
def qz_vis (T : Nat → Nat) : Nat → Nat → Bool
  | 0, _ => false
  | j + 1, t => qz_vis T j t || (decide (1 ≤ j) && decide (t = T j))
theorem qz_vis1 (T : Nat → Nat) (t : Nat) : qz_vis T 1 t = false := rfl
theorem qz_viss {T : Nat → Nat} {j : Nat} (h : 1 ≤ j) (t : Nat) : qz_vis T (j + 1) t = (qz_vis T j t || decide (t = T j)) := by
  show (qz_vis T j t || (decide (1 ≤ j) && decide (t = T j))) = _
  rw [decide_eq_true h, Bool.true_and]
theorem qz_vist {T : Nat → Nat} {t : Nat} : ∀ i, qz_vis T i t = true → ∃ j, 1 ≤ j ∧ j < i ∧ T j = t := by
  intro i
  induction i with
  | zero => intro h; exact absurd h Bool.false_ne_true
  | succ i ih =>
    intro h
    by_cases e : qz_vis T i t = true
    · obtain ⟨j, h1, h2, h3⟩ := ih e
      exact ⟨j, h1, by omega, h3⟩
    · have h' : (qz_vis T i t || (decide (1 ≤ i) && decide (t = T i))) = true := h
      rw [ts_nt e, Bool.false_or, Bool.and_eq_true, decide_eq_true_eq, decide_eq_true_eq] at h'
      exact ⟨i, h'.1, by omega, h'.2.symm⟩
theorem qz_visf {T : Nat → Nat} {t : Nat} : ∀ i, qz_vis T i t = false → ∀ j, 1 ≤ j → j < i → T j ≠ t := by
  intro i
  induction i with
  | zero => intro _ j _ h; omega
  | succ i ih =>
    intro h j h1 h2 e
    have h' : (qz_vis T i t || (decide (1 ≤ i) && decide (t = T i))) = false := h
    rw [Bool.or_eq_false_iff] at h'
    by_cases z : j = i
    · subst z
      rw [decide_eq_true h1, decide_eq_true e.symm] at h'
      exact absurd h'.2 (by decide)
    · exact ih h'.1 j h1 (by omega) e
theorem qz_ok1s {T : Nat → Nat} {i : Nat} (h : qz_ok1 T i) (h0 : T i ≠ 0) (hv : qz_vis T i (T i) = false) : qz_ok1 T (i + 1) := by
  intro j h1 h2
  by_cases z : j = i
  · subst z
    exact ⟨h0, fun l hl1 hl2 => qz_visf _ hv l hl1 hl2⟩
  · exact h j h1 (by omega)
def qz_g {α : Type} (z : α) (sel : Nat → Bool) (T : Nat → Nat) (f : Nat → α) : Nat → Nat → α
  | 0, _ => z
  | c + 1, d => if sel c = true ∧ d = T c then f c else qz_g z sel T f c d
theorem qz_gn {α : Type} {z : α} {sel : Nat → Bool} {T : Nat → Nat} {f : Nat → α} {c : Nat} (h : sel c = false) (d : Nat) : qz_g z sel T f (c + 1) d = qz_g z sel T f c d := by
  show (if sel c = true ∧ d = T c then f c else qz_g z sel T f c d) = _
  rw [if_neg (fun w => by rw [h] at w; exact absurd w.1 (by decide))]
theorem qz_ge {α : Type} {z : α} {sel : Nat → Bool} {T : Nat → Nat} {f : Nat → α} {c : Nat} (h : sel c = true) : qz_g z sel T f (c + 1) (T c) = f c := by
  show (if sel c = true ∧ T c = T c then f c else qz_g z sel T f c (T c)) = _
  rw [if_pos ⟨h, rfl⟩]
theorem qz_gd {α : Type} {z : α} {sel : Nat → Bool} {T : Nat → Nat} {f : Nat → α} {c d : Nat} (h : d ≠ T c) : qz_g z sel T f (c + 1) d = qz_g z sel T f c d := by
  show (if sel c = true ∧ d = T c then f c else qz_g z sel T f c d) = _
  rw [if_neg (fun w => h w.2)]
theorem qz_gP {α : Type} {z : α} {sel : Nat → Bool} {T : Nat → Nat} {f : Nat → α} {P : α → Prop} {d : Nat} (hz : P z) : ∀ c, (∀ j, j < c → sel j = true → d = T j → P (f j)) → P (qz_g z sel T f c d) := by
  intro c
  induction c with
  | zero => intro _; exact hz
  | succ c ih =>
    intro h
    show P (if sel c = true ∧ d = T c then f c else qz_g z sel T f c d)
    split
    · next w => exact h c (by omega) w.1 w.2
    · exact ih (fun j hj => h j (by omega))
theorem qz_gz {α : Type} {z : α} {sel : Nat → Bool} {T : Nat → Nat} {f : Nat → α} {c d : Nat} (h : ∀ j, j < c → sel j = true → d ≠ T j) : qz_g z sel T f c d = z :=
  qz_gP (P := fun x => x = z) rfl c (fun j hj hs e => absurd e (h j hj hs))
theorem qz_gDH {sel : Nat → Bool} {T : Nat → Nat} {f : Nat → Nat} {d : Nat} : ∀ c, qz_g false sel T (fun _ => true) c d = false → qz_g 0 sel T f c d = 0 := by
  intro c
  induction c with
  | zero => intro _; rfl
  | succ c ih =>
    intro h
    by_cases w : sel c = true ∧ d = T c
    · have e : qz_g false sel T (fun _ => true) (c + 1) d = true := if_pos w
      rw [e] at h
      exact absurd h (by decide)
    · have e : qz_g false sel T (fun _ => true) (c + 1) d = qz_g false sel T (fun _ => true) c d := if_neg w
      have e2 : qz_g 0 sel T f (c + 1) d = qz_g 0 sel T f c d := if_neg w
      rw [e2]
      rw [e] at h
      exact ih h
def qz_rw (l s : Nat → Bool) (T : Nat → Nat) : Nat → Nat → Bool
  | 0, _ => false
  | m + 1, t => qz_rw l s T m t || (l m && s m && decide (t = T m))
theorem qz_rwn {l s : Nat → Bool} {T : Nat → Nat} {m : Nat} (h : l m = false ∨ s m = false) (t : Nat) : qz_rw l s T (m + 1) t = qz_rw l s T m t := by
  show (qz_rw l s T m t || (l m && s m && decide (t = T m))) = _
  rcases h with h | h
  · rw [h, Bool.false_and, Bool.false_and, Bool.or_false]
  · rw [h, Bool.and_false, Bool.false_and, Bool.or_false]
theorem qz_rwy {l s : Nat → Bool} {T : Nat → Nat} {m : Nat} (h : l m = true) (h' : s m = true) (t : Nat) : qz_rw l s T (m + 1) t = (qz_rw l s T m t || decide (t = T m)) := by
  show (qz_rw l s T m t || (l m && s m && decide (t = T m))) = _
  rw [h, h', Bool.true_and, Bool.true_and]
theorem qz_rw1 {l s : Nat → Bool} {T : Nat → Nat} (h : l 0 = false) (t : Nat) : qz_rw l s T 1 t = false := qz_rwn (Or.inl h) t
theorem qz_rwf {l s : Nat → Bool} {T : Nat → Nat} {t : Nat} : ∀ m, (∀ j, j < m → l j = true → t ≠ T j) → qz_rw l s T m t = false := by
  intro m
  induction m with
  | zero => intro _; rfl
  | succ m ih =>
    intro h
    show (qz_rw l s T m t || (l m && s m && decide (t = T m))) = false
    rw [ih (fun j hj => h j (by omega)), Bool.false_or]
    cases e : l m with
    | false => rw [Bool.false_and, Bool.false_and]
    | true => rw [decide_eq_false (h m (by omega) e), Bool.and_false]
def qz_K (kp : Nat → Bool) : Nat → Nat
  | 0 => 0
  | r + 1 => if kp r = true then qz_K kp r + 1 else qz_K kp r
def qz_N (kp : Nat → Bool) (f : Nat → Nat → Nat) : Nat → Nat → Nat → Nat
  | 0, _, _ => 0
  | r + 1, s, k => if kp r = true ∧ s = qz_K kp r then f r k else qz_N kp f r s k
theorem qz_Ky {kp : Nat → Bool} {r : Nat} (h : kp r = true) : qz_K kp (r + 1) = qz_K kp r + 1 := if_pos h
theorem qz_Kn {kp : Nat → Bool} {r : Nat} (h : kp r = false) : qz_K kp (r + 1) = qz_K kp r := if_neg (by rw [h]; decide)
theorem qz_Kl (kp : Nat → Bool) : ∀ r, qz_K kp r ≤ r := by
  intro r
  induction r with
  | zero => exact Nat.le_refl 0
  | succ r ih =>
    show (if kp r = true then qz_K kp r + 1 else qz_K kp r) ≤ r + 1
    split <;> omega
theorem qz_Ny {kp : Nat → Bool} {f : Nat → Nat → Nat} {r : Nat} (h : kp r = true) (k : Nat) : qz_N kp f (r + 1) (qz_K kp r) k = f r k := if_pos ⟨h, rfl⟩
theorem qz_Nd {kp : Nat → Bool} {f : Nat → Nat → Nat} {r s : Nat} (h : s ≠ qz_K kp r) (k : Nat) : qz_N kp f (r + 1) s k = qz_N kp f r s k := if_neg (fun w => h w.2)
theorem qz_Nn {kp : Nat → Bool} {f : Nat → Nat → Nat} {r : Nat} (h : kp r = false) (s k : Nat) : qz_N kp f (r + 1) s k = qz_N kp f r s k := if_neg (fun w => by rw [h] at w; exact absurd w.1 (by decide))
theorem qz_Nb {kp : Nat → Bool} {f : Nat → Nat → Nat} {b k : Nat} (hb : 0 < b) : ∀ r, (∀ j, j < r → f j k < b) → ∀ s, qz_N kp f r s k < b := by
  intro r
  induction r with
  | zero => intro _ _; exact hb
  | succ r ih =>
    intro h s
    show (if kp r = true ∧ s = qz_K kp r then f r k else qz_N kp f r s k) < b
    split
    · exact h r (by omega)
    · exact ih (fun j hj => h j (by omega)) s
/-- the new row of row r -/
def qz_row (T : Nat → Nat) (R : Nat → Nat → Nat) (r : Nat) : Nat → Nat
  | 0 => qz_mp T (R r 0)
  | 1 => qz_mp T (R r 1)
  | 2 => R r 2
  | _ => R r 3
theorem qz_u4d {f : Nat → Int32} {d s k : Nat} {x0 x1 x2 x3 : Int32} (hk : k < 4) (h : s ≠ d) : upd (upd (upd (upd f (d * 4) x0) (d * 4 + 1) x1) (d * 4 + 2) x2) (d * 4 + 3) x3 (s * 4 + k) = f (s * 4 + k) := by
  rw [pk_un (by omega), pk_un (by omega), pk_un (by omega), pk_un (by omega)]
theorem qz_u4e {f : Nat → Int32} {d k : Nat} {y : Nat → Nat} (hk : k < 4) : upd (upd (upd (upd f (d * 4) (nI (y 0))) (d * 4 + 1) (nI (y 1))) (d * 4 + 2) (nI (y 2))) (d * 4 + 3) (nI (y 3)) (d * 4 + k) = nI (y k) := by
  have h : k = 0 ∨ k = 1 ∨ k = 2 ∨ k = 3 := by omega
  rcases h with h | h | h | h
  · subst h
    rw [pk_un (by omega), pk_un (by omega), pk_un (by omega)]
    exact pk_us
  · subst h
    rw [pk_un (by omega), pk_un (by omega)]
    exact pk_us
  · subst h
    rw [pk_un (by omega)]
    exact pk_us
  · subst h
    exact pk_us
end
section
/-! the relation, and the methods other than fix -/
theorem qz_iff {c d A B : Prop} (e : c ↔ d) (f : d → A) (g : ¬ d → B) : (c → A) ∧ (¬ c → B) := ⟨fun h => f (e.mp h), fun h => g (fun z => h (e.mpr z))⟩
theorem qz_rng {x : Int32} (h1 : ¬ x < 1) (h2 : x ≤ 15) : ∃ c : Nat, 1 ≤ c ∧ c < 16 ∧ x = nI c := by
  have h0 : ¬ x < 0 := fun z => h1 (Int32.lt_trans z (by decide))
  obtain ⟨c, hc, rfl⟩ := nI_of h0
  rw [show (1 : Int32) = nI 1 from rfl, nI_ltI hc (by decide)] at h1
  rw [show (15 : Int32) = nI 15 from rfl, nI_leI hc (by decide)] at h2
  exact ⟨c, by omega, by omega, rfl⟩
theorem qz_34c (x : Int32) : vp_nar .char (((x &&& 65534).toUInt32 % 65536).toInt32) = x &&& 65534 := by
  rw [pk_vc]
  apply b_ext
  intro i hi
  rw [qz_cbit, qz_and34 hi]
  by_cases h : 1 ≤ i ∧ i < 16
  · rw [decide_eq_true h.2, Bool.true_and]
  · rw [decide_eq_false h, Bool.false_and, Bool.and_false]
def qz_y4 (w0 w1 w2 w3 : Nat) : Nat → Nat
  | 0 => w0
  | 1 => w1
  | 2 => w2
  | _ => w3
def qz_pair (q : Nat) (R : Nat → Nat → Nat) (c : Nat) : Prop := ∃ a b, a < b ∧ b < q ∧ R a 0 = c ∧ R b 0 = c ∧ R a 1 ≠ R b 1
def qz_nc (PK : Nat → Int32) (HO : Nat → Nat) (D : Nat → Bool) (L : Nat → Nat → Bool) (c : Nat) : Int32 :=
  if HO c = 0 then 0 else if 15 < HO c then 1 else if D (HO c) = false then 1 else if PK (HO c) = PK c then (if L (HO c) c = false then 2 else 0) else 3
def qp_W (q : Nat) (R : Nat → Nat → Nat) (PK : Nat → Int32) (HO : Nat → Nat) (D : Nat → Bool) (L : Nat → Nat → Bool) : Prop :=
  q ≤ 6 ∧ (∀ r, r < q → ∀ k, k < 4 → R r k < 65536) ∧ (∀ i, i < 16 → vp_nar .short (PK i) = PK i) ∧ (∀ i, i < 16 → HO i < 65536) ∧ (∀ i, i < 16 → D i = false → HO i = 0) ∧ D 0 = false ∧ (∀ m, 16 ≤ m → D m = false) ∧ (∀ i, i < 16 → L i 0 = false ∧ ∀ m, 16 ≤ m → L i m = false)
def qp_X (q : Nat) (R : Nat → Nat → Nat) (PK : Nat → Int32) (HO : Nat → Nat) (D : Nat → Bool) (L : Nat → Nat → Bool) (u : SX) : Prop := match u with
  | (f_count, a_rows, a_pkgs, a_hosts, a_mems, a_decl, a_npkgs, a_nhosts, a_nmems, a_ndecl) => f_count = nI q ∧ (∀ r, r < q → ∀ k, k < 4 → a_rows (r * 4 + k) = nI (R r k)) ∧ (∀ i, i < 16 → a_pkgs i = PK i) ∧ (∀ i, i < 16 → a_hosts i = nI (HO i)) ∧ (∀ i, i < 16 → ∀ m, m < 32 → bt (a_mems i) m = L i m) ∧ (∀ i, i < 16 → a_decl i = qz_b (D i))
def qp_Y (q : Nat) (R : Nat → Nat → Nat) (PK : Nat → Int32) (HO : Nat → Nat) (D : Nat → Bool) (L : Nat → Nat → Bool) (v : SY) : Prop := match v with
  | (f_count, f_here, a_inner, a_outer, a_name, a_flags, a_pkg, a_host, a_lists, a_to, a_hits, a_p2, a_h2, a_l2) => f_count = nI q ∧ (∀ m, m < 64 → qz_lb f_here m = D m) ∧ (∀ r, r < q → a_inner r = nI (R r 0) ∧ a_outer r = nI (R r 1) ∧ a_name r = nI (R r 2) ∧ a_flags r = nI (R r 3)) ∧ (∀ i, i < 16 → a_pkg i = PK i) ∧ (∀ i, i < 16 → a_host i = nI (HO i)) ∧ (∀ i, i < 16 → ∀ m, m < 16 → a_lists (i * 16 + m) = qz_b (L i m)) ∧ a_to 0 = 0
def i_Rel (_ : Nat) (u : SX) (v : SY) : Prop := ∃ (q : Nat) (R : Nat → Nat → Nat) (PK : Nat → Int32) (HO : Nat → Nat) (D : Nat → Bool) (L : Nat → Nat → Bool), qp_W q R PK HO D L ∧ qp_X q R PK HO D L u ∧ qp_Y q R PK HO D L v
theorem i_up {k : Nat} {u : SX} {v : SY} (h : i_Rel k u v) : i_Rel (k + 5) u v := h
theorem i_vc0 : wpX_init (fun u => wpY_init (fun v => i_Rel 0 u v)) := by
  refine ⟨0, fun _ _ => 0, fun _ => 0, fun _ => 0, fun _ => false, fun _ _ => false, ?_, ?_, ?_⟩
  · exact ⟨by decide, fun r h => absurd h (Nat.not_lt_zero r), fun _ _ => qz_s0, fun _ _ => Nat.zero_lt_succ _, fun _ _ _ => rfl, rfl, fun _ _ => rfl, fun _ _ => ⟨rfl, fun _ _ => rfl⟩⟩
  · exact ⟨rfl, fun r h => absurd h (Nat.not_lt_zero r), fun _ _ => rfl, fun _ _ => rfl, fun _ _ m _ => b_0 m, fun _ _ => rfl⟩
  · exact ⟨rfl, fun m _ => qz_l0 m, fun r h => absurd h (Nat.not_lt_zero r), fun _ _ => rfl, fun _ _ => rfl, fun _ _ _ _ => rfl, rfl⟩
section
variable {f_count : Int32} {f_here : Int64} {a_rows a_pkgs a_hosts a_mems a_decl a_npkgs a_nhosts a_nmems a_ndecl : Nat → Int32} {a_inner a_outer a_name a_flags a_pkg a_host a_lists a_to a_hits a_p2 a_h2 a_l2 : Nat → Int32}
variable {q : Nat} {R : Nat → Nat → Nat} {PK : Nat → Int32} {HO : Nat → Nat} {D : Nat → Bool} {L : Nat → Nat → Bool}
theorem qx_nest {post : Int32 → Prop} {c : Nat} (hc : c < 16) (hp : ∀ i, i < 16 → a_pkgs i = PK i) (hh : ∀ i, i < 16 → a_hosts i = nI (HO i)) (hm : ∀ i, i < 16 → ∀ m, m < 32 → bt (a_mems i) m = L i m) (hd : ∀ i, i < 16 → a_decl i = qz_b (D i)) (hH : ∀ i, i < 16 → HO i < 65536) (h : post (qz_nc PK HO D L c)) : wpX_nestCode post (f_count, a_rows, a_pkgs, a_hosts, a_mems, a_decl, a_npkgs, a_nhosts, a_nmems, a_ndecl) (nI c) := by
  have hHc := hH c hc
  refine And.intro (vp_in_nI hc (by omega)) (nm_r (qz_at c rfl (by omega) (hh c hc)) ?_)
  refine pk_eq (HO c) 0 (fun e0 => ?_) (fun n0 => pk_lt 15 (HO c) (fun hl => ?_) (fun hl => ⟨vp_in_nI (by omega) (by omega), qz_if (b := D (HO c)) ?_ (fun e1 => ?_) (fun e1 => ⟨vp_in_nI (by omega) (by omega), vp_in_nI (by omega) (by omega), qz_iff (d := PK (HO c) = PK c) ?_ (fun e2 => ⟨vp_in_nI (by omega) (by omega), qz_if (b := L (HO c) c) ?_ (fun e3 => ?_) (fun e3 => ?_)⟩) (fun e2 => ?_)⟩)⟩))
  · have e : qz_nc PK HO D L c = 0 := by unfold qz_nc; rw [if_pos e0]
    rw [e] at h; exact h
  · have e : qz_nc PK HO D L c = 1 := by unfold qz_nc; rw [if_neg n0, if_pos hl]
    rw [e] at h; exact h
  · rw [nI_clamp (by omega), hd _ (by omega)]; exact qz_b0
  · have e : qz_nc PK HO D L c = 1 := by unfold qz_nc; rw [if_neg n0, if_neg (by omega), if_pos e1]
    rw [e] at h; exact h
  · rw [nI_clamp (by omega), nI_clamp (by omega), hp _ (by omega), hp _ hc]
  · rw [nI_clamp (by omega), qz_tu (by omega), hm _ (by omega) _ (by omega)]
  · have e : qz_nc PK HO D L c = 2 := by unfold qz_nc; rw [if_neg n0, if_neg (by omega), if_neg (by rw [e1]; decide), if_pos e2, if_pos e3]
    rw [e] at h; exact h
  · have e : qz_nc PK HO D L c = 0 := by unfold qz_nc; rw [if_neg n0, if_neg (by omega), if_neg (by rw [e1]; decide), if_pos e2, if_neg (by rw [e3]; decide)]
    rw [e] at h; exact h
  · have e : qz_nc PK HO D L c = 3 := by unfold qz_nc; rw [if_neg n0, if_neg (by omega), if_neg (by rw [e1]; decide), if_neg e2]
    rw [e] at h; exact h
theorem qy_has {post : Int32 → Prop} {w : Nat} (hw : w < 2 ^ 31) (hb : ∀ m, m < 64 → qz_lb f_here m = D m) (hD : ∀ m, 16 ≤ m → D m = false) (h : post (qz_b (D w))) : wpY_has post (f_count, f_here, a_inner, a_outer, a_name, a_flags, a_pkg, a_host, a_lists, a_to, a_hits, a_p2, a_h2, a_l2) (nI w) := by
  refine pk_lt 15 w (fun hl => ?_) (fun hl => qz_if (b := D w) ?_ (fun e => ?_) (fun e => ?_))
  · rw [hD w (by omega)] at h; exact h
  · rw [qz_tl (by omega), hb w (by omega)]
  · rw [e] at h; exact h
  · rw [e] at h; exact h
theorem qy_nest {post : Int32 → Prop} {c : Nat} (hc : c < 16) (hp : ∀ i, i < 16 → a_pkg i = PK i) (hh : ∀ i, i < 16 → a_host i = nI (HO i)) (hl : ∀ i, i < 16 → ∀ m, m < 16 → a_lists (i * 16 + m) = qz_b (L i m)) (hb : ∀ m, m < 64 → qz_lb f_here m = D m) (hD : ∀ m, 16 ≤ m → D m = false) (hH : ∀ i, i < 16 → HO i < 65536) (h : post (qz_nc PK HO D L c)) : wpY_nestCode post (f_count, f_here, a_inner, a_outer, a_name, a_flags, a_pkg, a_host, a_lists, a_to, a_hits, a_p2, a_h2, a_l2) (nI c) := by
  have hHc := hH c hc
  refine And.intro (vp_in_nI hc (by omega)) (nm_r (qz_at c rfl (by omega) (hh c hc)) ?_)
  refine pk_eq (HO c) 0 (fun e0 => ?_) (fun n0 => qy_has (by omega) hb hD ?_)
  · have e : qz_nc PK HO D L c = 0 := by unfold qz_nc; rw [if_pos e0]
    rw [e] at h; exact h
  · refine qz_if qz_b0 (fun e1 => ?_) (fun e1 => ?_)
    · have e : qz_nc PK HO D L c = 1 := by
        unfold qz_nc
        rw [if_neg n0, if_pos e1]
        split <;> rfl
      rw [e] at h; exact h
    · have h16 : HO c < 16 := by
        rcases Nat.lt_or_ge (HO c) 16 with z | z
        · exact z
        · rw [hD _ z] at e1; exact absurd e1 (by decide)
      refine ⟨vp_in_nI (by omega) (by omega), vp_in_nI (by omega) (by omega), qz_iff (d := PK (HO c) = PK c) ?_ (fun e2 => ⟨pk_in (HO c * 16 + c) 256 (by omega) (qz_m16 _ _), qz_if (b := L (HO c) c) ?_ (fun e3 => ?_) (fun e3 => ?_)⟩) (fun e2 => ?_)⟩
      · rw [nI_clamp (by omega), nI_clamp (by omega), hp _ (by omega), hp _ hc]
      · rw [qz_m16, nI_clamp (by omega), hl _ h16 _ hc]; exact qz_b0
      · have e : qz_nc PK HO D L c = 2 := by unfold qz_nc; rw [if_neg n0, if_neg (by omega), if_neg (by rw [e1]; decide), if_pos e2, if_pos e3]
        rw [e] at h; exact h
      · have e : qz_nc PK HO D L c = 0 := by unfold qz_nc; rw [if_neg n0, if_neg (by omega), if_neg (by rw [e1]; decide), if_pos e2, if_neg (by rw [e3]; decide)]
        rw [e] at h; exact h
      · have e : qz_nc PK HO D L c = 3 := by unfold qz_nc; rw [if_neg n0, if_neg (by omega), if_neg (by rw [e1]; decide), if_neg e2]
        rw [e] at h; exact h
/-! setNest -/
theorem qx_set51 {post : Int32 → SX → Prop} {c w : Nat} (hc : c < 16) (hw : w < 65536) {p1 p3 z : Int32} (h : post z (f_count, a_rows, upd a_pkgs c p1.toInt16.toInt32, upd a_hosts c (nI w), upd a_mems c (p3 &&& 65534), upd a_decl c (qz_b true), a_npkgs, a_nhosts, a_nmems, a_ndecl)) : wX_setNest_51 post (nI c) p1 (nI w) (p3 &&& 65534) z f_count a_rows a_pkgs a_hosts a_mems a_decl a_npkgs a_nhosts a_nmems a_ndecl :=
  have hi : vp_in (nI c) 16 := vp_in_nI hc (by omega)
  have hc31 : c < 2 ^ 31 := by omega
  And.intro hi (nm_r (qz_u hc31 (qz_bn true)) ⟨hi, nm_r (qz_u hc31 (pk_vs p1)) ⟨hi, nm_r (qz_u hc31 (qz_c hw)) ⟨hi, nm_r (qz_u hc31 (qz_34c p3)) h⟩⟩⟩)
theorem qx_set37 {post : Int32 → SX → Prop} {c w : Nat} (hc : c < 16) (hw : w < 65536) {p1 p3 : Int32} (hd : ∀ i, i < 16 → a_decl i = qz_b (D i)) (h : post (qz_b (D c)) (f_count, a_rows, upd a_pkgs c p1.toInt16.toInt32, upd a_hosts c (nI w), upd a_mems c (p3 &&& 65534), upd a_decl c (qz_b true), a_npkgs, a_nhosts, a_nmems, a_ndecl)) : wX_setNest_37 post (nI c) p1 (nI w) (p3 &&& 65534) f_count a_rows a_pkgs a_hosts a_mems a_decl a_npkgs a_nhosts a_nmems a_ndecl := by
  refine And.intro (vp_in_nI hc (by omega)) (qz_if (b := D c) ?_ (fun e => ?_) (fun e => ?_))
  · rw [nI_clamp (by omega), hd c hc]; exact qz_b0
  · rw [e] at h; exact qx_set51 hc hw h
  · rw [e] at h; exact qx_set51 hc hw h
theorem qy_set54 {post : Int32 → SY → Prop} {c : Nat} (hc : c < 16) {p3 : Int32} (hb : ∀ m, m < 64 → qz_lb f_here m = D m) (hK : ∀ ls : Nat → Int32, (∀ j, 1 ≤ j → j < 16 → ls (c * 16 + j) = qz_b (bt p3 j)) → (∀ x, (∀ j, 1 ≤ j → j < 16 → x ≠ c * 16 + j) → ls x = a_lists x) → post (qz_b (D c)) (f_count, f_here ||| ((1 : Int64) <<< ((nI c).toInt64 &&& 63)), a_inner, a_outer, a_name, a_flags, a_pkg, a_host, ls, a_to, a_hits, a_p2, a_h2, a_l2)) :
    ∀ (d m : Nat) (ls : Nat → Int32), m + d = 16 → 1 ≤ m → (∀ j, 1 ≤ j → j < m → ls (c * 16 + j) = qz_b (bt p3 j)) → (∀ x, (∀ j, 1 ≤ j → j < 16 → x ≠ c * 16 + j) → ls x = a_lists x) → wY_setNest_54 post (nI c) p3 f_here f_count f_here (d + 1) (nI m) a_inner a_outer a_name a_flags a_pkg a_host ls a_to a_hits a_p2 a_h2 a_l2 := by
  intro d
  induction d with
  | zero =>
    intro m ls hm h1 hs ho
    have e : m = 16 := by omega
    subst e
    have K := hK ls hs ho
    refine br_t (nI_le (a := 16) (b := 16) (by omega) (by omega)) ?_
    refine nm_e ?_
    by_cases e : D c = true
    · rw [e] at K
      refine br_t ?_ K
      rw [ts_or (j := c) (by omega) (qz_l1 c (by omega))]
      exact (hb c (by omega)).trans e
    · rw [ts_nt e] at K
      refine br_f ?_ K
      rw [ts_or (j := c) (by omega) (qz_l1 c (by omega))]
      exact fun z => e ((hb c (by omega)).symm.trans z)
  | succ d ih =>
    intro m ls hm h1 hs ho
    have hi : vp_in (nI c * 16 + nI m) 256 := pk_in (c * 16 + m) 256 (by omega) (qz_m16 _ _)
    have step : ∀ b : Bool, bt p3 m = b → wY_setNest_54 post (nI c) p3 f_here f_count f_here (d + 1) (nI (m + 1)) a_inner a_outer a_name a_flags a_pkg a_host (upd ls (c * 16 + m) (qz_b b)) a_to a_hits a_p2 a_h2 a_l2 := by
      intro b hbm
      refine ih (m + 1) (upd ls (c * 16 + m) (qz_b b)) (by omega) (by omega) (fun j j1 j2 => ?_) (fun x hx => ?_)
      · by_cases e : j = m
        · subst e; rw [hbm]; exact pk_us
        · rw [pk_un (by omega)]; exact hs j j1 (by omega)
      · rw [pk_un (hx m h1 (by omega))]; exact ho x hx
    refine br_f (nI_ge (b := 16) (by omega) (by omega)) (qz_if (b := bt p3 m) (qz_ts (by omega)) (fun e => ⟨hi, nm_r (qz_ux (c * 16 + m) (qz_m16 _ _) (by omega) (qz_bn false)) (nm_r (nI_1 m) (step false e))⟩) (fun e => ⟨hi, nm_r (qz_ux (c * 16 + m) (qz_m16 _ _) (by omega) (qz_bn true)) (nm_r (nI_1 m) (step true e))⟩))
theorem qy_set29 {post : Int32 → SY → Prop} {c : Nat} (hc : c < 16) {p1 p2 p3 : Int32} (hb : ∀ m, m < 64 → qz_lb f_here m = D m) (hK : ∀ ls : Nat → Int32, (∀ j, 1 ≤ j → j < 16 → ls (c * 16 + j) = qz_b (bt p3 j)) → (∀ x, (∀ j, 1 ≤ j → j < 16 → x ≠ c * 16 + j) → ls x = a_lists x) → post (qz_b (D c)) (f_count, f_here ||| ((1 : Int64) <<< ((nI c).toInt64 &&& 63)), a_inner, a_outer, a_name, a_flags, upd a_pkg c p1.toInt16.toInt32, upd a_host c (nI (p2.toBitVec.toNat % 65536)), ls, a_to, a_hits, a_p2, a_h2, a_l2)) : wY_setNest_29 post (nI c) p1 p2 p3 f_count f_here a_inner a_outer a_name a_flags a_pkg a_host a_lists a_to a_hits a_p2 a_h2 a_l2 :=
  have hi : vp_in (nI c) 16 := vp_in_nI hc (by omega)
  have hc31 : c < 2 ^ 31 := by omega
  And.intro hi (nm_r (qz_u hc31 (pk_vs p1)) ⟨hi, nm_r (qz_u hc31 ((pk_vc p2).trans (pk_char p2))) ⟨16, qy_set54 hc hb hK 15 1 a_lists rfl (by omega) (fun j h1 h2 => by omega) (fun _ _ => rfl)⟩⟩)
theorem qp_set {c w : Nat} {p1 p3 : Int32} {ls : Nat → Int32} (hc1 : 1 ≤ c) (hc : c < 16) (hw : w < 65536) (hW : qp_W q R PK HO D L) (hX : qp_X q R PK HO D L (f_count, a_rows, a_pkgs, a_hosts, a_mems, a_decl, a_npkgs, a_nhosts, a_nmems, a_ndecl)) (hY : qp_Y q R PK HO D L (nI q, f_here, a_inner, a_outer, a_name, a_flags, a_pkg, a_host, a_lists, a_to, a_hits, a_p2, a_h2, a_l2)) (h1 : ∀ j, 1 ≤ j → j < 16 → ls (c * 16 + j) = qz_b (bt p3 j)) (h2 : ∀ x, (∀ j, 1 ≤ j → j < 16 → x ≠ c * 16 + j) → ls x = a_lists x) {k : Nat} :
    i_Rel k (f_count, a_rows, upd a_pkgs c p1.toInt16.toInt32, upd a_hosts c (nI w), upd a_mems c (p3 &&& 65534), upd a_decl c (qz_b true), a_npkgs, a_nhosts, a_nmems, a_ndecl) (nI q, f_here ||| ((1 : Int64) <<< ((nI c).toInt64 &&& 63)), a_inner, a_outer, a_name, a_flags, upd a_pkg c p1.toInt16.toInt32, upd a_host c (nI w), ls, a_to, a_hits, a_p2, a_h2, a_l2) := by
  obtain ⟨W1, W2, W3, W4, W5, W6, W7, W8⟩ := hW
  obtain ⟨X1, X2, X3, X4, X5, X6⟩ := hX
  obtain ⟨Y1, Y2, Y3, Y4, Y5, Y6, Y7⟩ := hY
  refine ⟨q, R, fun i => if i = c then p1.toInt16.toInt32 else PK i, fun i => if i = c then w else HO i, fun i => if i = c then true else D i, fun i m => if i = c then (decide (1 ≤ m ∧ m < 16) && bt p3 m) else L i m, ⟨W1, W2, ?_, ?_, ?_, ?_, ?_, ?_⟩, ⟨X1, X2, ?_, ?_, ?_, ?_⟩, ⟨Y1, ?_, Y3, ?_, ?_, ?_, Y7⟩⟩
  · intro i hi
    by_cases e : i = c
    · simp only [e, if_true]; exact pk_vs p1
    · simp only [e, if_false]; exact W3 i hi
  · intro i hi
    by_cases e : i = c
    · simp only [e, if_true]; exact hw
    · simp only [e, if_false]; exact W4 i hi
  · intro i hi
    by_cases e : i = c
    · simp only [e, if_true]; intro z; exact absurd z (by decide)
    · simp only [e, if_false]; exact W5 i hi
  · dsimp only; rw [if_neg (by omega)]; exact W6
  · intro m hm
    dsimp only; rw [if_neg (by omega)]; exact W7 m hm
  · intro i hi
    by_cases e : i = c
    · simp only [e, if_true]
      refine ⟨rfl, fun m hm => ?_⟩
      rw [decide_eq_false (by omega), Bool.false_and]
    · simp only [e, if_false]; exact W8 i hi
  · intro i hi
    dsimp only
    by_cases e : i = c
    · subst e; rw [if_pos rfl]; exact pk_us
    · rw [if_neg e, pk_un e]; exact X3 i hi
  · intro i hi
    dsimp only
    by_cases e : i = c
    · subst e; rw [if_pos rfl]; exact pk_us
    · rw [if_neg e, pk_un e]; exact X4 i hi
  · intro i hi m hm
    dsimp only
    by_cases e : i = c
    · subst e; rw [if_pos rfl, pk_us]; exact qz_and34 hm
    · rw [if_neg e, pk_un e]; exact X5 i hi m hm
  · intro i hi
    dsimp only
    by_cases e : i = c
    · subst e; rw [if_pos rfl]; exact pk_us
    · rw [if_neg e, pk_un e]; exact X6 i hi
  · intro m hm
    dsimp only
    rw [qz_ls (by omega), Y2 m hm]
    by_cases e : m = c
    · rw [if_pos e, decide_eq_true e, Bool.or_true]
    · rw [if_neg e, decide_eq_false e, Bool.or_false]
  · intro i hi
    dsimp only
    by_cases e : i = c
    · subst e; rw [if_pos rfl]; exact pk_us
    · rw [if_neg e, pk_un e]; exact Y4 i hi
  · intro i hi
    dsimp only
    by_cases e : i = c
    · subst e; rw [if_pos rfl]; exact pk_us
    · rw [if_neg e, pk_un e]; exact Y5 i hi
  · intro i hi m hm
    dsimp only
    by_cases e : i = c
    · subst e
      rw [if_pos rfl]
      by_cases z : m = 0
      · subst z
        rw [h2 _ (fun j j1 j2 => by omega), Y6 i hi 0 hm, (W8 i hi).1]
        rfl
      · rw [h1 m (by omega) hm, decide_eq_true (by omega), Bool.true_and]
    · rw [if_neg e, h2 _ (fun j j1 j2 => by omega)]; exact Y6 i hi m hm
/-! addRow -/
theorem qx_add33 {post : Int32 → SX → Prop} {w0 w1 w2 : Nat} {p3 : Int32} (hq : q ≤ 6) (h0 : w0 < 65536) (h1 : w1 < 65536) (h2 : w2 < 65536) (hF : 6 ≤ q → post (-1) (nI q, a_rows, a_pkgs, a_hosts, a_mems, a_decl, a_npkgs, a_nhosts, a_nmems, a_ndecl)) (hK : q < 6 → post (nI (q + 1)) (nI (q + 1), upd (upd (upd (upd a_rows (q * 4) (nI w0)) (q * 4 + 1) (nI w1)) (q * 4 + 2) (nI w2)) (q * 4 + 3) (nI (p3.toBitVec.toNat % 65536)), a_pkgs, a_hosts, a_mems, a_decl, a_npkgs, a_nhosts, a_nmems, a_ndecl)) : wX_addRow_33 post p3 (nI w0) (nI w1) (nI w2) (nI q) a_rows a_pkgs a_hosts a_mems a_decl a_npkgs a_nhosts a_nmems a_ndecl :=
  pk_lt q 6 (fun h => nm_r (show nI q * 4 = nI (q * 4) from pk_mul q 4) ⟨vp_in_nI (by omega) (by omega), nm_r (qz_u (by omega) (qz_c h0)) ⟨pk_in (q * 4 + 1) 24 (by omega) (nI_add (q * 4) 1), nm_r (qz_ux (q * 4 + 1) (nI_add (q * 4) 1) (by omega) (qz_c h1)) ⟨pk_in (q * 4 + 2) 24 (by omega) (nI_add (q * 4) 2), nm_r (qz_ux (q * 4 + 2) (nI_add (q * 4) 2) (by omega) (qz_c h2)) ⟨pk_in (q * 4 + 3) 24 (by omega) (nI_add (q * 4) 3), nm_r (qz_ux (q * 4 + 3) (nI_add (q * 4) 3) (by omega) ((pk_vc p3).trans (pk_char p3))) (nm_r (nI_1 q) (hK h))⟩⟩⟩⟩) (fun h => hF h)
theorem qy_add21 {post : Int32 → SY → Prop} {p0 p1 p2 p3 : Int32} (hq : q ≤ 6) (hF : 6 ≤ q → post (-1) (nI q, f_here, a_inner, a_outer, a_name, a_flags, a_pkg, a_host, a_lists, a_to, a_hits, a_p2, a_h2, a_l2)) (hK : q < 6 → post (nI (q + 1)) (nI (q + 1), f_here, upd a_inner q (nI (p0.toBitVec.toNat % 65536)), upd a_outer q (nI (p1.toBitVec.toNat % 65536)), upd a_name q (nI (p2.toBitVec.toNat % 65536)), upd a_flags q (nI (p3.toBitVec.toNat % 65536)), a_pkg, a_host, a_lists, a_to, a_hits, a_p2, a_h2, a_l2)) : wY_addRow_21 post p0 p1 p2 p3 (nI q) f_here a_inner a_outer a_name a_flags a_pkg a_host a_lists a_to a_hits a_p2 a_h2 a_l2 :=
  have hq31 : q < 2 ^ 31 := by omega
  pk_lt q 6 (fun h =>
    have hi : vp_in (nI q) 6 := vp_in_nI h (by omega)
    ⟨hi, nm_r (qz_u hq31 ((pk_vc p0).trans (pk_char p0))) ⟨hi, nm_r (qz_u hq31 ((pk_vc p1).trans (pk_char p1))) ⟨hi, nm_r (qz_u hq31 ((pk_vc p2).trans (pk_char p2))) (nm_r (nI_1 q) ⟨hi, nm_r (qz_u hq31 ((pk_vc p3).trans (pk_char p3))) (hK h)⟩)⟩⟩⟩) (fun h => hF h)
theorem qp_add {w0 w1 w2 w3 k : Nat} (h0 : w0 < 65536) (h1 : w1 < 65536) (h2 : w2 < 65536) (h3 : w3 < 65536) (hq : q < 6) (hW : qp_W q R PK HO D L) (hX : qp_X q R PK HO D L (nI q, a_rows, a_pkgs, a_hosts, a_mems, a_decl, a_npkgs, a_nhosts, a_nmems, a_ndecl)) (hY : qp_Y q R PK HO D L (nI q, f_here, a_inner, a_outer, a_name, a_flags, a_pkg, a_host, a_lists, a_to, a_hits, a_p2, a_h2, a_l2)) :
    i_Rel k (nI (q + 1), upd (upd (upd (upd a_rows (q * 4) (nI w0)) (q * 4 + 1) (nI w1)) (q * 4 + 2) (nI w2)) (q * 4 + 3) (nI w3), a_pkgs, a_hosts, a_mems, a_decl, a_npkgs, a_nhosts, a_nmems, a_ndecl) (nI (q + 1), f_here, upd a_inner q (nI w0), upd a_outer q (nI w1), upd a_name q (nI w2), upd a_flags q (nI w3), a_pkg, a_host, a_lists, a_to, a_hits, a_p2, a_h2, a_l2) := by
  obtain ⟨W1, W2, W3, W4, W5, W6, W7, W8⟩ := hW
  obtain ⟨X1, X2, X3, X4, X5, X6⟩ := hX
  obtain ⟨Y1, Y2, Y3, Y4, Y5, Y6, Y7⟩ := hY
  refine ⟨q + 1, fun r k => if r = q then qz_y4 w0 w1 w2 w3 k else R r k, PK, HO, D, L, ⟨by omega, ?_, W3, W4, W5, W6, W7, W8⟩, ⟨rfl, ?_, X3, X4, X5, X6⟩, ⟨rfl, Y2, ?_, Y4, Y5, Y6, Y7⟩⟩
  · intro r hr k hk
    by_cases e : r = q
    · simp only [e, if_true]
      have h : k = 0 ∨ k = 1 ∨ k = 2 ∨ k = 3 := by omega
      rcases h with rfl | rfl | rfl | rfl
      · exact h0
      · exact h1
      · exact h2
      · exact h3
    · simp only [e, if_false]; exact W2 r (by omega) k hk
  · intro r hr k hk
    dsimp only
    by_cases e : r = q
    · subst e
      rw [if_pos rfl]
      exact qz_u4e (y := qz_y4 w0 w1 w2 w3) hk
    · rw [if_neg e, qz_u4d hk e]; exact X2 r (by omega) k hk
  · intro r hr
    by_cases e : r = q
    · subst e
      simp only [if_true]
      exact ⟨pk_us, pk_us, pk_us, pk_us⟩
    · simp only [e, if_false]
      rw [pk_un e, pk_un e, pk_un e, pk_un e]
      exact Y3 r (by omega)
/-! verdictOf -/
theorem qx_v61 {post J : Int32 → Prop} {c a : Nat} (hq : q ≤ 6) (hR : ∀ r, r < q → ∀ k, k < 4 → R r k < 65536) (hr : ∀ r, r < q → ∀ k, k < 4 → a_rows (r * 4 + k) = nI (R r k)) (hc : c < 65536) (ha : a < q) (hac : R a 0 = c) (hT : qz_pair q R c → post 4) (hJ : (∀ b, a < b → b < q → ¬ (R b 0 = c ∧ R a 1 ≠ R b 1)) → J (nI (a + 1))) :
    ∀ d b : Nat, b + d = q → a < b → (∀ b', a < b' → b' < b → ¬ (R b' 0 = c ∧ R a 1 ≠ R b' 1)) → wX_verdictOf_61 post J (nI c) (nI a) (nI q) a_rows a_pkgs a_hosts a_mems a_decl a_npkgs a_nhosts a_nmems a_ndecl (d + 1) (nI b) := by
  intro d
  induction d with
  | zero =>
    intro b hb hab hn
    have e : b = q := by omega
    subst e
    exact br_t (nI_le (Nat.le_refl _) (by omega)) (nm_r (nI_1 a) (hJ hn))
  | succ d ih =>
    intro b hb hab hn
    have hbq : b < q := by omega
    have B0 := hR b hbq 0 (by omega)
    have B1 := hR b hbq 1 (by omega)
    have A1 := hR a ha 1 (by omega)
    have next : ¬ (R b 0 = c ∧ R a 1 ≠ R b 1) → wX_verdictOf_61 post J (nI c) (nI a) (nI q) a_rows a_pkgs a_hosts a_mems a_decl a_npkgs a_nhosts a_nmems a_ndecl (d + 1) (nI (b + 1)) := fun hx => ih (b + 1) (by omega) (by omega) (fun b' h1 h2 => by
      by_cases e : b' = b
      · subst e; exact hx
      · exact hn b' h1 (by omega))
    refine br_f (nI_ge hbq (by omega)) ⟨pk_in (b * 4) 24 (by omega) (pk_mul b 4), pk_eq (R b 0) c (fun e => ⟨pk_in (b * 4 + 1) 24 (by omega) (qz_m4 b 1), pk_in (a * 4 + 1) 24 (by omega) (qz_m4 a 1), pk_eq (R b 1) (R a 1) (fun e2 => nm_r (nI_1 b) (next (fun z => z.2 e2.symm))) (fun n2 => hT ⟨a, b, hab, hbq, hac, e, fun z => n2 z.symm⟩) (qz_at (b * 4 + 1) (qz_m4 b 1) (by omega) (hr b hbq 1 (by omega))) (qz_at (a * 4 + 1) (qz_m4 a 1) (by omega) (hr a ha 1 (by omega)))⟩) (fun n => nm_r (nI_1 b) (next (fun z => n z.1))) (qz_at (b * 4) (pk_mul b 4) (by omega) (hr b hbq 0 (by omega))) rfl (by omega) (by omega)⟩
theorem qx_v36 {post : Int32 → Prop} {c : Nat} (hq : q ≤ 6) (hR : ∀ r, r < q → ∀ k, k < 4 → R r k < 65536) (hr : ∀ r, r < q → ∀ k, k < 4 → a_rows (r * 4 + k) = nI (R r k)) (hc : c < 65536) (hT : qz_pair q R c → post 4) (hF : ¬ qz_pair q R c → post 0) :
    ∀ d a : Nat, a + d = q → (∀ a', a' < a → ∀ b, a' < b → b < q → ¬ (R a' 0 = c ∧ R b 0 = c ∧ R a' 1 ≠ R b 1)) → wX_verdictOf_36 post (nI c) (nI q) a_rows a_pkgs a_hosts a_mems a_decl a_npkgs a_nhosts a_nmems a_ndecl (d + 1) (nI a) := by
  intro d
  induction d with
  | zero =>
    intro a ha hn
    have e : a = q := by omega
    subst e
    exact br_t (nI_le (Nat.le_refl _) (by omega)) (hF (fun ⟨a', b, h1, h2, h3, h4, h5⟩ => hn a' (by omega) b h1 h2 ⟨h3, h4, h5⟩))
  | succ d ih =>
    intro a ha hn
    have haq : a < q := by omega
    have B0 := hR a haq 0 (by omega)
    refine br_f (nI_ge haq (by omega)) ⟨pk_in (a * 4) 24 (by omega) (pk_mul a 4), pk_eq (R a 0) c (fun e => nm_r (nI_1 a) ⟨d + 1, qx_v61 hq hR hr hc haq e hT (fun hb => ih (a + 1) (by omega) (fun a' h1 b h2 h3 => ?_)) d (a + 1) (by omega) (by omega) (fun b' h1 h2 => by omega)⟩) (fun n => nm_r (nI_1 a) (ih (a + 1) (by omega) (fun a' h1 b h2 h3 => ?_))) (qz_at (a * 4) (pk_mul a 4) (by omega) (hr a haq 0 (by omega))) rfl (by omega) (by omega)⟩
    · by_cases z : a' = a
      · subst z; exact fun w => hb b h2 h3 w.2
      · exact hn a' (by omega) b h2 h3
    · by_cases z : a' = a
      · subst z; exact fun w => n w.1
      · exact hn a' (by omega) b h2 h3
theorem qy_v40 {post J : Int32 → Prop} {c i : Nat} (hq : q ≤ 6) (hR : ∀ r, r < q → ∀ k, k < 4 → R r k < 65536) (hr : ∀ r, r < q → a_inner r = nI (R r 0) ∧ a_outer r = nI (R r 1) ∧ a_name r = nI (R r 2) ∧ a_flags r = nI (R r 3)) (hc : c < 65536) (hi : i < q) (hT : qz_pair q R c → post 4) (hJ : (∀ j, j < i → ¬ (R j 0 = c ∧ R i 0 = c ∧ R j 1 ≠ R i 1)) → J (nI (i + 1))) :
    ∀ d j : Nat, j + d = i → (∀ j', j' < j → ¬ (R j' 0 = c ∧ R i 0 = c ∧ R j' 1 ≠ R i 1)) → wY_verdictOf_40 post J (nI c) (nI i) f_count f_here a_inner a_outer a_name a_flags a_pkg a_host a_lists a_to a_hits a_p2 a_h2 a_l2 (d + 1) (nI j) := by
  intro d
  induction d with
  | zero =>
    intro j hj hn
    have e : j = i := by omega
    subst e
    exact br_t (nI_le (Nat.le_refl _) (by omega)) (nm_r (nI_1 j) (hJ hn))
  | succ d ih =>
    intro j hj hn
    have hjq : j < q := by omega
    have I0 := hR i hi 0 (by omega)
    have I1 := hR i hi 1 (by omega)
    have J0 := hR j hjq 0 (by omega)
    have J1 := hR j hjq 1 (by omega)
    have vi : vp_in (nI i) 6 := vp_in_nI (by omega) (by omega)
    have vj : vp_in (nI j) 6 := vp_in_nI (by omega) (by omega)
    have next : ¬ (R j 0 = c ∧ R i 0 = c ∧ R j 1 ≠ R i 1) → wY_verdictOf_40 post J (nI c) (nI i) f_count f_here a_inner a_outer a_name a_flags a_pkg a_host a_lists a_to a_hits a_p2 a_h2 a_l2 (d + 1) (nI (j + 1)) := fun hx => ih (j + 1) (by omega) (fun j' h1 => by
      by_cases e : j' = j
      · subst e; exact hx
      · exact hn j' (by omega))
    refine br_f (nI_ge (by omega) (by omega)) ⟨vi, pk_eq (R i 0) c (fun e => ⟨vj, pk_eq (R j 0) c (fun e2 => ⟨vi, vj, pk_eq (R i 1) (R j 1) (fun e3 => nm_r (nI_1 j) (next (fun z => z.2.2 e3.symm))) (fun n3 => hT ⟨j, i, by omega, hi, e2, e, fun z => n3 z.symm⟩) (qz_at i rfl (by omega) (hr i hi).2.1) (qz_at j rfl (by omega) (hr j hjq).2.1)⟩) (fun n2 => nm_r (nI_1 j) (next (fun z => n2 z.1))) (qz_at j rfl (by omega) (hr j hjq).1) rfl (by omega) (by omega)⟩) (fun n => nm_r (nI_1 j) (next (fun z => n z.2.1))) (qz_at i rfl (by omega) (hr i hi).1) rfl (by omega) (by omega)⟩
theorem qy_v29 {post : Int32 → Prop} {c : Nat} (hq : q ≤ 6) (hR : ∀ r, r < q → ∀ k, k < 4 → R r k < 65536) (hr : ∀ r, r < q → a_inner r = nI (R r 0) ∧ a_outer r = nI (R r 1) ∧ a_name r = nI (R r 2) ∧ a_flags r = nI (R r 3)) (hc : c < 65536) (hT : qz_pair q R c → post 4) (hF : ¬ qz_pair q R c → post 0) :
    ∀ d i : Nat, i + d = q → (∀ i', i' < i → ∀ j, j < i' → ¬ (R j 0 = c ∧ R i' 0 = c ∧ R j 1 ≠ R i' 1)) → wY_verdictOf_29 post (nI c) (nI q) f_here a_inner a_outer a_name a_flags a_pkg a_host a_lists a_to a_hits a_p2 a_h2 a_l2 (d + 1) (nI i) := by
  intro d
  induction d with
  | zero =>
    intro i hi hn
    have e : i = q := by omega
    subst e
    exact br_t (nI_le (Nat.le_refl _) (by omega)) (hF (fun ⟨a, b, h1, h2, h3, h4, h5⟩ => hn b h2 a h1 ⟨h3, h4, h5⟩))
  | succ d ih =>
    intro i hi hn
    have hiq : i < q := by omega
    refine br_f (nI_ge hiq (by omega)) ⟨i + 1, qy_v40 hq hR hr hc hiq hT (fun hj => ih (i + 1) (by omega) (fun i' h1 j h2 => ?_)) i 0 (by omega) (fun j' h1 => by omega)⟩
    by_cases z : i' = i
    · subst z; exact hj j h2
    · exact hn i' (by omega) j h2
/-! rowAt -/
theorem qy_r136 {post : Int32 → Prop} {i : Nat} (hi : i < 16) (hl : ∀ m, m < 16 → a_lists (i * 16 + m) = qz_b (L i m)) (h0 : L i 0 = false) (h16 : ∀ m, 16 ≤ m → L i m = false) (hK : ∀ x : Int32, (∀ t, t < 32 → bt x t = L i t) → post x) :
    ∀ (d m : Nat) (x : Int32), m + d = 16 → 1 ≤ m → (∀ t, t < 32 → bt x t = (decide (t < m) && L i t)) → wY_rowAt_136 post (nI i) f_count f_here a_inner a_outer a_name a_flags a_pkg a_host a_lists a_to a_hits a_p2 a_h2 a_l2 (d + 1) x (nI m) := by
  intro d
  induction d with
  | zero =>
    intro m x hm h1 hx
    have e : m = 16 := by omega
    subst e
    refine br_t (nI_le (a := 16) (b := 16) (by omega) (by omega)) (hK x (fun t ht => ?_))
    rw [hx t ht]
    rcases Nat.lt_or_ge t 16 with z | z
    · rw [decide_eq_true z, Bool.true_and]
    · rw [h16 t z, Bool.and_false]
  | succ d ih =>
    intro m x hm h1 hx
    refine br_f (nI_ge (b := 16) (by omega) (by omega)) ⟨pk_in (i * 16 + m) 256 (by omega) (qz_m16 _ _), qz_if (b := L i m) ?_ (fun e => nm_r (nI_1 m) (ih (m + 1) x (by omega) (by omega) (fun t ht => ?_))) (fun e => nm_e (nm_r (nI_1 m) (ih (m + 1) _ (by omega) (by omega) (fun t ht => ?_))))⟩
    · rw [qz_m16, nI_clamp (by omega), hl m (by omega)]; exact qz_b0
    · rw [hx t ht]
      by_cases z : t = m
      · subst z; rw [e, Bool.and_false, Bool.and_false]
      · exact congrArg (fun y => (y && L i t)) (decide_eq_decide.mpr (by omega))
    · rw [qz_set (by omega) ht, hx t ht]
      by_cases z : t = m
      · subst z; rw [e, decide_eq_true rfl, Bool.or_true, decide_eq_true (by omega)]; rfl
      · rw [decide_eq_false z, Bool.or_false]
        exact congrArg (fun y => (y && L i t)) (decide_eq_decide.mpr (by omega))
end
end
section
/-! fix: the class against the pure passes -/
def qz_sel (D : Nat → Bool) (al : Int32) (c : Nat) : Bool := D c && bt al c
def qz_ok2 (HO : Nat → Nat) (D : Nat → Bool) (al : Int32) : Prop := ∀ c, 1 ≤ c → c < 16 → qz_sel D al c = true → qz_st D al (HO c) = true
def qz_ok3 (q : Nat) (R : Nat → Nat → Nat) (D : Nat → Bool) (al : Int32) : Prop := ∀ r, r < q → qz_st D al (R r 0) = true → qz_st D al (R r 1) = true
theorem qz_seln {D : Nat → Bool} {al : Int32} {c : Nat} (h : D c = false ∨ bt al c = false) : qz_sel D al c = false := by
  unfold qz_sel
  rcases h with h | h
  · rw [h, Bool.false_and]
  · rw [h, Bool.and_false]
theorem qz_sely {D : Nat → Bool} {al : Int32} {c : Nat} (h : D c = true) (h' : bt al c = true) : qz_sel D al c = true := by
  unfold qz_sel; rw [h, h']; rfl
theorem qz_stx {D : Nat → Bool} {al : Int32} {w : Nat} (h : w = 0 ∨ 15 < w ∨ D w = false ∨ bt al w = true) : qz_st D al w = true := by
  unfold qz_st
  rcases h with h | h | h | h
  · rw [decide_eq_true h, Bool.true_or, Bool.true_or, Bool.true_or]
  · rw [decide_eq_true h, Bool.or_true, Bool.true_or, Bool.true_or]
  · rw [h, Bool.not_false, Bool.or_true, Bool.true_or]
  · rw [h, Bool.or_true]
theorem qz_stf {D : Nat → Bool} {al : Int32} {w : Nat} (h0 : w ≠ 0) (h : w ≤ 15) (hd : D w = true) (ha : bt al w = false) : qz_st D al w = false := by
  unfold qz_st
  rw [decide_eq_false h0, decide_eq_false (by omega), hd, ha]
  rfl
section
variable {f_count : Int32} {a_rows a_pkgs a_hosts a_mems a_decl a_npkgs a_nhosts a_nmems a_ndecl : Nat → Int32}
variable {q : Nat} {R : Nat → Nat → Nat} {PK : Nat → Int32} {HO : Nat → Nat} {D : Nat → Bool} {L : Nat → Nat → Bool}
theorem qx_stays {post : Int32 → Prop} {al p : Int32} {w : Nat} (hd : ∀ i, i < 16 → a_decl i = qz_b (D i)) (e : p = nI w) (hw : w < 65536) (h : post (qz_b (qz_st D al w))) : wpX_stays post (f_count, a_rows, a_pkgs, a_hosts, a_mems, a_decl, a_npkgs, a_nhosts, a_nmems, a_ndecl) p al := by
  subst e
  refine pk_eq w 0 (fun e => ?_) (fun n0 => pk_le w 15 (fun hl => ⟨vp_in_nI (by omega) (by omega), qz_if (b := D w) ?_ (fun e1 => ?_) (fun e1 => qz_if (b := bt al w) (qz_tu (by omega)) (fun e2 => ?_) (fun e2 => ?_))⟩) (fun hl => ?_))
  · rw [qz_stx (Or.inl e)] at h; exact h
  · rw [nI_clamp (by omega), hd _ (by omega)]; exact qz_b0
  · rw [qz_stx (Or.inr (Or.inr (Or.inl e1)))] at h; exact h
  · rw [qz_stf n0 hl e1 e2] at h; exact h
  · rw [qz_stx (Or.inr (Or.inr (Or.inr e2)))] at h; exact h
  · rw [qz_stx (Or.inr (Or.inl hl))] at h; exact h
theorem qx_to {post : Int32 → Prop} {p : Int32} {x : Int64} {w : Nat} (e : p = nI w) (hw : w < 65536) (h : post (nI (qz_mp (qz_T x) w))) : wpX_to post (f_count, a_rows, a_pkgs, a_hosts, a_mems, a_decl, a_npkgs, a_nhosts, a_nmems, a_ndecl) p x := by
  subst e
  refine pk_eq w 0 (fun e => ?_) (fun n0 => pk_le w 15 (fun hl => ?_) (fun hl => ?_))
  · subst e; exact h
  · rw [qz_mpl n0 hl] at h
    rw [qz_Te x (by omega)]
    exact h
  · rw [qz_mpg hl] at h; exact h
theorem qx_to1 {post : Int32 → Prop} {x : Int64} {w : Nat} (h1 : 1 ≤ w) (hw : w < 16) (h : post (nI (qz_T x w))) : wpX_to post (f_count, a_rows, a_pkgs, a_hosts, a_mems, a_decl, a_npkgs, a_nhosts, a_nmems, a_ndecl) (nI w) x :=
  qx_to rfl (by omega) (by rw [qz_mpl (by omega) (by omega)]; exact h)
theorem qx_558 {post : Int32 → SX → Prop} {x5 : Int32} (hp : ∀ j, j < 16 → vp_nar .short (a_npkgs j) = a_npkgs j) (hh : ∀ j, j < 16 → vp_nar .char (a_nhosts j) = a_nhosts j) (hm : ∀ j, j < 16 → vp_nar .char (a_nmems j) = a_nmems j) (hd : ∀ j, j < 16 → vp_nar .boolean (a_ndecl j) = a_ndecl j)
    (hK : ∀ s1 s2 s3 s4 : Nat → Int32, (∀ j, j < 16 → s1 j = a_npkgs j ∧ s2 j = a_nhosts j ∧ s3 j = a_nmems j ∧ s4 j = a_ndecl j) → post x5 (f_count, a_rows, s1, s2, s3, s4, a_npkgs, a_nhosts, a_nmems, a_ndecl)) :
    ∀ (d i : Nat) (s1 s2 s3 s4 : Nat → Int32), i + d = 16 → (∀ j, j < i → s1 j = a_npkgs j ∧ s2 j = a_nhosts j ∧ s3 j = a_nmems j ∧ s4 j = a_ndecl j) → wX_fix_558 post x5 f_count (d + 1) (nI i) a_rows s1 s2 s3 s4 a_npkgs a_nhosts a_nmems a_ndecl := by
  intro d
  induction d with
  | zero =>
    intro i s1 s2 s3 s4 hi hs
    have e : i = 16 := by omega
    subst e
    exact br_t (nI_le (a := 16) (b := 16) (by omega) (by omega)) (hK s1 s2 s3 s4 hs)
  | succ d ih =>
    intro i s1 s2 s3 s4 hi hs
    have h16 : i < 16 := by omega
    have h31 : i < 2 ^ 31 := by omega
    have vi : vp_in (nI i) 16 := vp_in_nI h16 (by omega)
    refine br_f (nI_ge (b := 16) (by omega) (by omega)) ⟨vi, vi, nm_r (e' := upd s1 i (a_npkgs i)) (by rw [nI_clamp h31, hp i h16]) ⟨vi, vi, nm_r (e' := upd s2 i (a_nhosts i)) (by rw [nI_clamp h31, hh i h16]) ⟨vi, vi, nm_r (e' := upd s3 i (a_nmems i)) (by rw [nI_clamp h31, hm i h16]) ⟨vi, vi, nm_r (e' := upd s4 i (a_ndecl i)) (by rw [nI_clamp h31, hd i h16]) (nm_r (nI_1 i) (ih (i + 1) _ _ _ _ (by omega) (fun j hj => ?_)))⟩⟩⟩⟩
    by_cases e : j = i
    · subst e; exact ⟨pk_us, pk_us, pk_us, pk_us⟩
    · rw [pk_un e, pk_un e, pk_un e, pk_un e]; exact hs j (by omega)
theorem qx_528 {post : Int32 → SX → Prop} {x5 : Int32} {z : Nat}
    (hK : ∀ s : Nat → Int32, (∀ j, j < z → s j = a_rows j) → ∃ n, wX_fix_558 post x5 x5 n 0 s a_pkgs a_hosts a_mems a_decl a_npkgs a_nhosts a_nmems a_ndecl) :
    ∀ (d i : Nat) (s : Nat → Int32), i + d = 24 → z ≤ i → (∀ j, j < z → s j = a_rows j) → wX_fix_528 post x5 f_count (d + 1) (nI i) s a_pkgs a_hosts a_mems a_decl a_npkgs a_nhosts a_nmems a_ndecl := by
  intro d
  induction d with
  | zero =>
    intro i s hi hz hs
    have e : i = 24 := by omega
    subst e
    exact br_t (nI_le (a := 24) (b := 24) (by omega) (by omega)) (hK s hs)
  | succ d ih =>
    intro i s hi hz hs
    refine br_f (nI_ge (b := 24) (by omega) (by omega)) ⟨vp_in_nI (by omega) (by omega), nm_r (qz_u (by omega) qz_c0) (nm_r (nI_1 i) (ih (i + 1) _ (by omega) (by omega) (fun j hj => ?_)))⟩
    rw [pk_un (by omega)]; exact hs j hj
theorem qx_378 {post : Int32 → SX → Prop} {x1 : Int32} {x2 : Int64} (hq : q ≤ 6) (hR : ∀ r, r < q → ∀ k, k < 4 → R r k < 65536) (hd : ∀ i, i < 16 → a_decl i = qz_b (D i))
    (hK : ∀ s : Nat → Int32, (∀ r, r < qz_K (fun r => qz_st D x1 (R r 0)) q → ∀ k, k < 4 → s (r * 4 + k) = nI (qz_N (fun r => qz_st D x1 (R r 0)) (qz_row (qz_T x2) R) q r k)) → ∃ n, wX_fix_528 post (nI (qz_K (fun r => qz_st D x1 (R r 0)) q)) (nI q) n (nI (qz_K (fun r => qz_st D x1 (R r 0)) q * 4)) s a_pkgs a_hosts a_mems a_decl a_npkgs a_nhosts a_nmems a_ndecl) :
    ∀ (d i : Nat) (s : Nat → Int32), i + d = q → (∀ r, r < qz_K (fun r => qz_st D x1 (R r 0)) i → ∀ k, k < 4 → s (r * 4 + k) = nI (qz_N (fun r => qz_st D x1 (R r 0)) (qz_row (qz_T x2) R) i r k)) → (∀ r, i ≤ r → r < q → ∀ k, k < 4 → s (r * 4 + k) = nI (R r k)) → wX_fix_378 post x1 x2 (nI q) (d + 1) (nI (qz_K (fun r => qz_st D x1 (R r 0)) i)) (nI i) s a_pkgs a_hosts a_mems a_decl a_npkgs a_nhosts a_nmems a_ndecl := by
  intro d
  induction d with
  | zero =>
    intro i s hi hs ht
    have e : i = q := by omega
    subst e
    exact br_t (nI_le (Nat.le_refl _) (by omega)) (nm_r (pk_mul _ 4) (hK s hs))
  | succ d ih =>
    intro i s hi hs ht
    have hiq : i < q := by omega
    have hKl := qz_Kl (fun r => qz_st D x1 (R r 0)) i
    have R0 := hR i hiq 0 (by omega)
    have R1 := hR i hiq 1 (by omega)
    have R2 := hR i hiq 2 (by omega)
    have R3 := hR i hiq 3 (by omega)
    have M0 := qz_mpb (qz_Tl x2) R0
    have M1 := qz_mpb (qz_Tl x2) R1
    have t0 : s (nI (i * 4)).toNatClampNeg = nI (R i 0) := qz_at (i * 4) rfl (by omega) (ht i (Nat.le_refl _) hiq 0 (by omega))
    have t1 : s (nI (i * 4) + 1).toNatClampNeg = nI (R i 1) := qz_at (i * 4 + 1) (nI_add (i * 4) 1) (by omega) (ht i (Nat.le_refl _) hiq 1 (by omega))
    have t2 : s (nI (i * 4) + 2).toNatClampNeg = nI (R i 2) := qz_at (i * 4 + 2) (nI_add (i * 4) 2) (by omega) (ht i (Nat.le_refl _) hiq 2 (by omega))
    have t3 : s (nI (i * 4) + 3).toNatClampNeg = nI (R i 3) := qz_at (i * 4 + 3) (nI_add (i * 4) 3) (by omega) (ht i (Nat.le_refl _) hiq 3 (by omega))
    refine br_f (nI_ge hiq (by omega)) (nm_r (pk_mul i 4) ⟨vp_in_nI (by omega) (by omega), qx_stays hd t0 R0 (qz_if qz_b0 (fun hk => nm_r (nI_1 i) ?_) (fun hk => nm_r (pk_mul _ 4) ⟨vp_in_nI (by omega) (by omega), qx_to t0 R0 (nm_r (qz_cm M0) ⟨pk_in (i * 4 + 1) 24 (by omega) (nI_add (i * 4) 1), qx_to t1 R1 (nm_r (qz_cm M1) ⟨pk_in (i * 4 + 2) 24 (by omega) (nI_add (i * 4) 2), nm_r t2 ⟨pk_in (i * 4 + 3) 24 (by omega) (nI_add (i * 4) 3), nm_r t3 ⟨vp_in_nI (by omega) (by omega), nm_r (qz_u (by omega) (qz_c M0)) ⟨pk_in (qz_K (fun r => qz_st D x1 (R r 0)) i * 4 + 1) 24 (by omega) (nI_add _ 1), nm_r (qz_ux (qz_K (fun r => qz_st D x1 (R r 0)) i * 4 + 1) (nI_add _ 1) (by omega) (qz_c M1)) ⟨pk_in (qz_K (fun r => qz_st D x1 (R r 0)) i * 4 + 2) 24 (by omega) (nI_add _ 2), nm_r (qz_ux (qz_K (fun r => qz_st D x1 (R r 0)) i * 4 + 2) (nI_add _ 2) (by omega) (qz_c R2)) ⟨pk_in (qz_K (fun r => qz_st D x1 (R r 0)) i * 4 + 3) 24 (by omega) (nI_add _ 3), nm_r (qz_ux (qz_K (fun r => qz_st D x1 (R r 0)) i * 4 + 3) (nI_add _ 3) (by omega) (qz_c R3)) (nm_r (nI_1 _) (nm_r (nI_1 i) ?_))⟩⟩⟩⟩⟩⟩)⟩)⟩))⟩)
    · have eK := qz_Kn (kp := fun r => qz_st D x1 (R r 0)) (r := i) hk
      have := ih (i + 1) s (by omega) (fun r hr k hk' => by rw [qz_Nn (kp := fun r => qz_st D x1 (R r 0)) (r := i) hk]; rw [eK] at hr; exact hs r hr k hk') (fun r h1 h2 => ht r (by omega) h2)
      rw [eK] at this
      exact this
    · have eK := qz_Ky (kp := fun r => qz_st D x1 (R r 0)) (r := i) hk
      have := ih (i + 1) (upd (upd (upd (upd s (qz_K (fun r => qz_st D x1 (R r 0)) i * 4) (nI (qz_row (qz_T x2) R i 0))) (qz_K (fun r => qz_st D x1 (R r 0)) i * 4 + 1) (nI (qz_row (qz_T x2) R i 1))) (qz_K (fun r => qz_st D x1 (R r 0)) i * 4 + 2) (nI (qz_row (qz_T x2) R i 2))) (qz_K (fun r => qz_st D x1 (R r 0)) i * 4 + 3) (nI (qz_row (qz_T x2) R i 3))) (by omega) (fun r hr k hk' => ?_) (fun r h1 h2 k hk' => ?_)
      · rw [eK] at this
        exact this
      · by_cases e : r = qz_K (fun r => qz_st D x1 (R r 0)) i
        · subst e
          rw [qz_Ny (kp := fun r => qz_st D x1 (R r 0)) hk, qz_u4e hk']
        · rw [qz_u4d hk' e, qz_Nd e]
          rw [eK] at hr
          exact hs r (by omega) k hk'
      · rw [qz_u4d hk' (by omega)]
        exact ht r (by omega) h2 k hk'
theorem qx_309 {post : Int32 → SX → Prop} {J : Int32 → (Nat → Int32) → (Nat → Int32) → (Nat → Int32) → (Nat → Int32) → (Nat → Int32) → (Nat → Int32) → (Nat → Int32) → (Nat → Int32) → (Nat → Int32) → Prop} {x1 x8 : Int32} {x2 : Int64} {c t : Nat} {l : Nat → Bool} (ht : t < 16) (hd : ∀ i, i < 16 → a_decl i = qz_b (D i)) (hl : ∀ m, m < 16 → bt x8 m = l m)
    (hK : ∀ y : Int32, (∀ j, j < 32 → bt y j = qz_rw l (qz_st D x1) (qz_T x2) 16 j) → J (nI (c + 1)) a_rows a_pkgs a_hosts a_mems a_decl a_npkgs a_nhosts (upd a_nmems t y) a_ndecl) :
    ∀ (d m : Nat) (y : Int32), m + d = 16 → 1 ≤ m → (∀ j, j < 32 → bt y j = qz_rw l (qz_st D x1) (qz_T x2) m j) → wX_fix_309 post J x1 x2 (nI c) (nI t) x8 f_count a_rows a_pkgs a_hosts a_mems a_decl a_npkgs a_nhosts a_nmems a_ndecl (d + 1) y (nI m) := by
  intro d
  induction d with
  | zero =>
    intro m y hm h1 hy
    have e : m = 16 := by omega
    subst e
    refine br_t (nI_lt (a := 15) (b := 16) (by omega) (by omega)) ⟨vp_in_nI ht (by omega), nm_r (qz_u (by omega) (pk_vc y)) (nm_r (nI_1 c) (hK _ (fun j hj => ?_)))⟩
    rw [qz_cbit, hy j hj]
    rcases Nat.lt_or_ge j 16 with z | z
    · rw [decide_eq_true z, Bool.true_and]
    · rw [qz_rwf 16 (fun i _ _ => by have := qz_Tl x2 i; omega), Bool.and_false]
  | succ d ih =>
    intro m y hm h1 hy
    refine br_f (nI_nlt (a := 15) (by omega) (by omega)) (qz_if (b := l m) ?_ (fun e => nm_r (nI_1 m) (ih (m + 1) y (by omega) (by omega) (fun j hj => ?_))) (fun e => qx_stays hd rfl (by omega) (qz_if qz_b0 (fun e2 => nm_r (nI_1 m) (ih (m + 1) y (by omega) (by omega) (fun j hj => ?_))) (fun e2 => qx_to1 h1 (by omega) (nm_e (nm_r (nI_1 m) (ih (m + 1) _ (by omega) (by omega) (fun j hj => ?_))))))))
    · rw [qz_tu (by omega), hl m (by omega)]
    · rw [qz_rwn (Or.inl e)]; exact hy j hj
    · rw [qz_rwn (Or.inr e2)]; exact hy j hj
    · rw [qz_rwy e e2, qz_set (by have := qz_Tl x2 m; omega) hj, hy j hj]
theorem qx_217 {post : Int32 → SX → Prop} {x1 : Int32} {x2 : Int64} (hp : ∀ i, i < 16 → a_pkgs i = PK i ∧ vp_nar .short (PK i) = PK i) (hh : ∀ i, i < 16 → a_hosts i = nI (HO i) ∧ HO i < 65536) (hm : ∀ i, i < 16 → ∀ m, m < 32 → bt (a_mems i) m = L i m) (h0 : ∀ i, i < 16 → L i 0 = false) (hd : ∀ i, i < 16 → a_decl i = qz_b (D i))
    (hK : ∀ s1 s2 s3 s4 : Nat → Int32, (∀ j, j < 16 → s1 j = qz_g 0 (qz_sel D x1) (qz_T x2) PK 16 j ∧ s2 j = nI (qz_g 0 (qz_sel D x1) (qz_T x2) (fun c => qz_mp (qz_T x2) (HO c)) 16 j) ∧ (∀ t, t < 32 → bt (s3 j) t = qz_g (fun _ => false) (qz_sel D x1) (qz_T x2) (fun c => qz_rw (L c) (qz_st D x1) (qz_T x2) 16) 16 j t) ∧ s4 j = qz_b (qz_g false (qz_sel D x1) (qz_T x2) (fun _ => true) 16 j)) → ∃ n, wX_fix_378 post x1 x2 f_count n 0 0 a_rows a_pkgs a_hosts a_mems a_decl s1 s2 s3 s4) :
    ∀ (d c : Nat) (s1 s2 s3 s4 : Nat → Int32), c + d = 16 → 1 ≤ c → (∀ j, j < 16 → s1 j = qz_g 0 (qz_sel D x1) (qz_T x2) PK c j ∧ s2 j = nI (qz_g 0 (qz_sel D x1) (qz_T x2) (fun c => qz_mp (qz_T x2) (HO c)) c j) ∧ (∀ t, t < 32 → bt (s3 j) t = qz_g (fun _ => false) (qz_sel D x1) (qz_T x2) (fun c => qz_rw (L c) (qz_st D x1) (qz_T x2) 16) c j t) ∧ s4 j = qz_b (qz_g false (qz_sel D x1) (qz_T x2) (fun _ => true) c j)) → wX_fix_217 post x1 x2 f_count (d + 1) (nI c) a_rows a_pkgs a_hosts a_mems a_decl s1 s2 s3 s4 := by
  intro d
  induction d with
  | zero =>
    intro c s1 s2 s3 s4 hc h1 hs
    have e : c = 16 := by omega
    subst e
    exact br_t (nI_lt (a := 15) (b := 16) (by omega) (by omega)) (hK s1 s2 s3 s4 hs)
  | succ d ih =>
    intro c s1 s2 s3 s4 hc h1 hs
    have h16 : c < 16 := by omega
    have h31 : c < 2 ^ 31 := by omega
    have vc : vp_in (nI c) 16 := vp_in_nI h16 (by omega)
    have hT := qz_Tl x2 c
    have vt : vp_in (nI (qz_T x2 c)) 16 := vp_in_nI hT (by omega)
    have M0 := qz_mpb (qz_Tl x2) (hh c h16).2
    have stay : qz_sel D x1 c = false → wX_fix_217 post x1 x2 f_count (d + 1) (nI (c + 1)) a_rows a_pkgs a_hosts a_mems a_decl s1 s2 s3 s4 := fun hz => ih (c + 1) s1 s2 s3 s4 (by omega) (by omega) (fun j hj => by
      rw [qz_gn hz, qz_gn hz, qz_gn hz, qz_gn hz]
      exact hs j hj)
    refine br_f (nI_nlt (a := 15) (by omega) (by omega)) ⟨vc, qz_if (b := D c) ?_ (fun e => nm_r (nI_1 c) (stay (qz_seln (Or.inl e)))) (fun e => qz_if (b := bt x1 c) (qz_tu (by omega)) (fun e2 => nm_r (nI_1 c) (stay (qz_seln (Or.inr e2)))) (fun e2 => qx_to1 h1 h16 ⟨vt, nm_r (qz_u (by omega) (qz_bn true)) ⟨vc, vt, nm_r (e' := upd s1 (qz_T x2 c) (PK c)) ?_ ⟨vc, qx_to (qz_at c rfl h31 (hh c h16).1) (hh c h16).2 ⟨vt, nm_r (e' := upd s2 (qz_T x2 c) (nI (qz_mp (qz_T x2) (HO c)))) ?_ ⟨vc, nm_r (e' := a_mems c) ?_ ⟨16, qx_309 (l := L c) hT hd (fun m hm' => hm c h16 m (by omega)) (fun y hy => ih (c + 1) _ _ _ _ (by omega) (by omega) (fun j hj => ?_)) 15 1 0 rfl (by omega) (fun j hj => ?_)⟩⟩⟩⟩⟩⟩))⟩
    · rw [nI_clamp h31, hd c h16]; exact qz_b0
    · rw [nI_clamp (by omega), nI_clamp h31, (hp c h16).1, (hp c h16).2]
    · rw [nI_clamp (by omega), qz_cm M0, qz_c M0]
    · rw [nI_clamp h31]
    · have hse := qz_sely e e2
      by_cases z : j = qz_T x2 c
      · subst z
        rw [qz_ge hse, qz_ge hse, qz_ge hse, qz_ge hse]
        refine ⟨pk_us, pk_us, fun t ht => ?_, pk_us⟩
        rw [pk_us]
        exact hy t ht
      · rw [qz_gd z, qz_gd z, qz_gd z, qz_gd z, pk_un z, pk_un z, pk_un z, pk_un z]
        exact hs j hj
    · rw [b_0, qz_rw1 (h0 c h16)]
theorem qx_169 {post : Int32 → SX → Prop} {x1 : Int32} {x2 : Int64}
    (hK : ∀ s1 s2 s3 s4 : Nat → Int32, (∀ j, j < 16 → s1 j = 0 ∧ s2 j = 0 ∧ s3 j = 0 ∧ s4 j = 0) → ∃ n, wX_fix_217 post x1 x2 f_count n 1 a_rows a_pkgs a_hosts a_mems a_decl s1 s2 s3 s4) :
    ∀ (d i : Nat) (s1 s2 s3 s4 : Nat → Int32), i + d = 16 → (∀ j, j < i → s1 j = 0 ∧ s2 j = 0 ∧ s3 j = 0 ∧ s4 j = 0) → wX_fix_169 post x1 x2 f_count (d + 1) (nI i) a_rows a_pkgs a_hosts a_mems a_decl s1 s2 s3 s4 := by
  intro d
  induction d with
  | zero =>
    intro i s1 s2 s3 s4 hi hs
    have e : i = 16 := by omega
    subst e
    exact br_t (nI_le (a := 16) (b := 16) (by omega) (by omega)) (hK s1 s2 s3 s4 hs)
  | succ d ih =>
    intro i s1 s2 s3 s4 hi hs
    have h31 : i < 2 ^ 31 := by omega
    have vi : vp_in (nI i) 16 := vp_in_nI (by omega) (by omega)
    refine br_f (nI_ge (b := 16) (by omega) (by omega)) ⟨vi, nm_r (qz_u h31 qz_s0) ⟨vi, nm_r (qz_u h31 qz_c0) ⟨vi, nm_r (qz_u h31 qz_c0) ⟨vi, nm_r (qz_u h31 (qz_bn false)) (nm_r (nI_1 i) (ih (i + 1) _ _ _ _ (by omega) (fun j hj => ?_)))⟩⟩⟩⟩
    by_cases e : j = i
    · subst e; exact ⟨pk_us, pk_us, pk_us, pk_us⟩
    · rw [pk_un e, pk_un e, pk_un e, pk_un e]; exact hs j (by omega)
theorem qx_112 {post : Int32 → SX → Prop} {x1 : Int32} {x2 : Int64} (hq : q ≤ 6) (hR : ∀ r, r < q → ∀ k, k < 4 → R r k < 65536) (hr : ∀ r, r < q → ∀ k, k < 4 → a_rows (r * 4 + k) = nI (R r k)) (hd : ∀ i, i < 16 → a_decl i = qz_b (D i))
    (hF : ¬ qz_ok3 q R D x1 → post (-2) (nI q, a_rows, a_pkgs, a_hosts, a_mems, a_decl, a_npkgs, a_nhosts, a_nmems, a_ndecl)) (hK : qz_ok3 q R D x1 → ∃ n, wX_fix_169 post x1 x2 (nI q) n 0 a_rows a_pkgs a_hosts a_mems a_decl a_npkgs a_nhosts a_nmems a_ndecl) :
    ∀ d i : Nat, i + d = q → (∀ r, r < i → qz_st D x1 (R r 0) = true → qz_st D x1 (R r 1) = true) → wX_fix_112 post x1 x2 (nI q) a_rows a_pkgs a_hosts a_mems a_decl a_npkgs a_nhosts a_nmems a_ndecl (d + 1) (nI i) := by
  intro d
  induction d with
  | zero =>
    intro i hi hs
    have e : i = q := by omega
    subst e
    exact br_t (nI_le (Nat.le_refl _) (by omega)) (hK hs)
  | succ d ih =>
    intro i hi hs
    have hiq : i < q := by omega
    refine br_f (nI_ge hiq (by omega)) ⟨pk_in (i * 4) 24 (by omega) (pk_mul i 4), qx_stays hd (qz_at (i * 4) (pk_mul i 4) (by omega) (hr i hiq 0 (by omega))) (hR i hiq 0 (by omega)) (qz_if qz_b0 (fun e => nm_r (nI_1 i) (ih (i + 1) (by omega) (fun r h1 h2 => ?_))) (fun e => ⟨pk_in (i * 4 + 1) 24 (by omega) (qz_m4 i 1), qx_stays hd (qz_at (i * 4 + 1) (qz_m4 i 1) (by omega) (hr i hiq 1 (by omega))) (hR i hiq 1 (by omega)) (qz_if qz_b0 (fun e2 => hF (fun ok => ?_)) (fun e2 => nm_r (nI_1 i) (ih (i + 1) (by omega) (fun r h1 h2 => ?_))))⟩))⟩
    · by_cases z : r = i
      · subst z; rw [e] at h2; exact absurd h2 (by decide)
      · exact hs r (by omega) h2
    · have := ok i hiq e
      rw [e2] at this
      exact absurd this (by decide)
    · by_cases z : r = i
      · subst z; exact e2
      · exact hs r (by omega) h2
theorem qx_59 {post : Int32 → SX → Prop} {x1 : Int32} {x2 : Int64} (hh : ∀ i, i < 16 → a_hosts i = nI (HO i) ∧ HO i < 65536) (hd : ∀ i, i < 16 → a_decl i = qz_b (D i))
    (hF : ¬ qz_ok2 HO D x1 → post (-2) (f_count, a_rows, a_pkgs, a_hosts, a_mems, a_decl, a_npkgs, a_nhosts, a_nmems, a_ndecl)) (hK : qz_ok2 HO D x1 → ∃ n, wX_fix_112 post x1 x2 f_count a_rows a_pkgs a_hosts a_mems a_decl a_npkgs a_nhosts a_nmems a_ndecl n 0) :
    ∀ d c : Nat, c + d = 16 → 1 ≤ c → (∀ r, 1 ≤ r → r < c → qz_sel D x1 r = true → qz_st D x1 (HO r) = true) → wX_fix_59 post x1 x2 f_count a_rows a_pkgs a_hosts a_mems a_decl a_npkgs a_nhosts a_nmems a_ndecl (d + 1) (nI c) := by
  intro d
  induction d with
  | zero =>
    intro c hc h1 hs
    have e : c = 16 := by omega
    subst e
    exact br_t (nI_lt (a := 15) (b := 16) (by omega) (by omega)) (hK hs)
  | succ d ih =>
    intro c hc h1 hs
    have h16 : c < 16 := by omega
    have h31 : c < 2 ^ 31 := by omega
    have vc : vp_in (nI c) 16 := vp_in_nI h16 (by omega)
    have next : (qz_sel D x1 c = true → qz_st D x1 (HO c) = true) → wX_fix_59 post x1 x2 f_count a_rows a_pkgs a_hosts a_mems a_decl a_npkgs a_nhosts a_nmems a_ndecl (d + 1) (nI (c + 1)) := fun hx => ih (c + 1) (by omega) (by omega) (fun r a1 a2 a3 => by
      by_cases z : r = c
      · subst z; exact hx a3
      · exact hs r a1 (by omega) a3)
    refine br_f (nI_nlt (a := 15) (by omega) (by omega)) ⟨vc, qz_if (b := D c) ?_ (fun e => nm_r (nI_1 c) (next (fun z => ?_))) (fun e => qz_if (b := bt x1 c) (qz_tu (by omega)) (fun e2 => nm_r (nI_1 c) (next (fun z => ?_))) (fun e2 => ⟨vc, qx_stays hd (qz_at c rfl h31 (hh c h16).1) (hh c h16).2 (qz_if qz_b0 (fun e3 => hF (fun ok => ?_)) (fun e3 => nm_r (nI_1 c) (next (fun _ => e3))))⟩))⟩
    · rw [nI_clamp h31, hd c h16]; exact qz_b0
    · rw [qz_seln (Or.inl e)] at z; exact absurd z (by decide)
    · rw [qz_seln (Or.inr e2)] at z; exact absurd z (by decide)
    · have := ok c h1 h16 (qz_sely e e2)
      rw [e3] at this
      exact absurd this (by decide)
theorem qx_6 {post : Int32 → SX → Prop} {x1 : Int32} {x2 : Int64}
    (hF : ¬ qz_ok1 (qz_T x2) 16 → post (-1) (f_count, a_rows, a_pkgs, a_hosts, a_mems, a_decl, a_npkgs, a_nhosts, a_nmems, a_ndecl)) (hK : qz_ok1 (qz_T x2) 16 → ∃ n, wX_fix_59 post x1 x2 f_count a_rows a_pkgs a_hosts a_mems a_decl a_npkgs a_nhosts a_nmems a_ndecl n 1) :
    ∀ (d i : Nat) (y : Int32), i + d = 16 → 1 ≤ i → qz_ok1 (qz_T x2) i → (∀ t, t < 16 → bt y t = qz_vis (qz_T x2) i t) → wX_fix_6 post x1 x2 f_count a_rows a_pkgs a_hosts a_mems a_decl a_npkgs a_nhosts a_nmems a_ndecl (d + 1) y (nI i) := by
  intro d
  induction d with
  | zero =>
    intro i y hi h1 ok hy
    have e : i = 16 := by omega
    subst e
    exact br_t (nI_lt (a := 15) (b := 16) (by omega) (by omega)) (hK ok)
  | succ d ih =>
    intro i y hi h1 ok hy
    have hT := qz_Tl x2 i
    refine br_f (nI_nlt (a := 15) (by omega) (by omega)) (qx_to1 h1 (by omega) (pk_eq (qz_T x2 i) 0 (fun e => hF (fun o => (o i h1 (by omega)).1 e)) (fun n0 => qz_if (b := bt y (qz_T x2 i)) (qz_tu (by omega)) (fun e => nm_e (nm_r (nI_1 i) (ih (i + 1) _ (by omega) (by omega) ?_ (fun t ht => ?_)))) (fun e => hF (fun o => ?_)))))
    · rw [hy _ hT] at e
      exact qz_ok1s ok n0 e
    · rw [qz_set (by omega) (by omega), qz_viss h1, hy t ht]
    · rw [hy _ hT] at e
      obtain ⟨j, j1, j2, j3⟩ := qz_vist _ e
      exact (o i h1 (by omega)).2 j j1 j2 j3
end
end
section
/-! fix: the new abstract state; the class's fix as one lemma -/
def qn_q (q : Nat) (R : Nat → Nat → Nat) (D : Nat → Bool) (al : Int32) : Nat := qz_K (fun r => qz_st D al (R r 0)) q
def qn_R (q : Nat) (R : Nat → Nat → Nat) (D : Nat → Bool) (al : Int32) (x2 : Int64) : Nat → Nat → Nat := qz_N (fun r => qz_st D al (R r 0)) (qz_row (qz_T x2) R) q
def qn_P (PK : Nat → Int32) (D : Nat → Bool) (al : Int32) (x2 : Int64) : Nat → Int32 := qz_g 0 (qz_sel D al) (qz_T x2) PK 16
def qn_H (HO : Nat → Nat) (D : Nat → Bool) (al : Int32) (x2 : Int64) : Nat → Nat := qz_g 0 (qz_sel D al) (qz_T x2) (fun c => qz_mp (qz_T x2) (HO c)) 16
def qn_D (D : Nat → Bool) (al : Int32) (x2 : Int64) : Nat → Bool := qz_g false (qz_sel D al) (qz_T x2) (fun _ => true) 16
def qn_L (D : Nat → Bool) (L : Nat → Nat → Bool) (al : Int32) (x2 : Int64) : Nat → Nat → Bool := qz_g (fun _ => false) (qz_sel D al) (qz_T x2) (fun c => qz_rw (L c) (qz_st D al) (qz_T x2) 16) 16
section
variable {f_count : Int32} {a_rows a_pkgs a_hosts a_mems a_decl a_npkgs a_nhosts a_nmems a_ndecl : Nat → Int32}
variable {q : Nat} {R : Nat → Nat → Nat} {PK : Nat → Int32} {HO : Nat → Nat} {D : Nat → Bool} {L : Nat → Nat → Bool}
theorem qz_selp {al : Int32} {c : Nat} (h0 : D 0 = false) (h : qz_sel D al c = true) : 1 ≤ c := by
  rcases Nat.eq_zero_or_pos c with z | z
  · subst z
    rw [qz_seln (Or.inl h0)] at h
    exact absurd h (by decide)
  · exact z
theorem qp_Wn {al : Int32} {x2 : Int64} (hW : qp_W q R PK HO D L) (ok : qz_ok1 (qz_T x2) 16) : qp_W (qn_q q R D al) (qn_R q R D al x2) (qn_P PK D al x2) (qn_H HO D al x2) (qn_D D al x2) (qn_L D L al x2) := by
  obtain ⟨W1, W2, W3, W4, W5, W6, W7, W8⟩ := hW
  refine ⟨Nat.le_trans (qz_Kl _ q) W1, ?_, ?_, ?_, ?_, ?_, ?_, ?_⟩
  · intro r hr k hk
    refine qz_Nb (b := 65536) (by decide) q (fun j hj => ?_) r
    have h : k = 0 ∨ k = 1 ∨ k = 2 ∨ k = 3 := by omega
    rcases h with rfl | rfl | rfl | rfl
    · exact qz_mpb (qz_Tl x2) (W2 j hj 0 (by omega))
    · exact qz_mpb (qz_Tl x2) (W2 j hj 1 (by omega))
    · exact W2 j hj 2 (by omega)
    · exact W2 j hj 3 (by omega)
  · intro i hi
    exact qz_gP (P := fun x => vp_nar .short x = x) qz_s0 16 (fun j hj _ _ => W3 j hj)
  · intro i hi
    exact qz_gP (P := fun x => x < 65536) (by decide) 16 (fun j hj _ _ => qz_mpb (qz_Tl x2) (W4 j hj))
  · intro i hi h
    exact qz_gDH 16 h
  · exact qz_gz (fun j hj hs e => (ok j (qz_selp W6 hs) hj).1 e.symm)
  · intro m hm
    exact qz_gz (fun j hj hs e => by have := qz_Tl x2 j; omega)
  · intro i hi
    refine ⟨qz_gP (P := fun f : Nat → Bool => f 0 = false) rfl 16 (fun j hj _ _ => qz_rwf 16 (fun m hm hl e => ?_)), fun t ht => qz_gP (P := fun f : Nat → Bool => f t = false) rfl 16 (fun j hj _ _ => qz_rwf 16 (fun m hm hl e => ?_))⟩
    · have h1 : 1 ≤ m := by
        rcases Nat.eq_zero_or_pos m with z | z
        · subst z
          rw [(W8 j hj).1] at hl
          exact absurd hl (by decide)
        · exact z
      exact (ok m h1 hm).1 e.symm
    · have := qz_Tl x2 m
      omega
theorem qx_fix {post : Int32 → SX → Prop} {x1 : Int32} {x2 : Int64} (hW : qp_W q R PK HO D L) (hX : qp_X q R PK HO D L (f_count, a_rows, a_pkgs, a_hosts, a_mems, a_decl, a_npkgs, a_nhosts, a_nmems, a_ndecl))
    (h1 : ¬ qz_ok1 (qz_T x2) 16 → post (-1) (f_count, a_rows, a_pkgs, a_hosts, a_mems, a_decl, a_npkgs, a_nhosts, a_nmems, a_ndecl)) (h2 : qz_ok1 (qz_T x2) 16 → ¬ (qz_ok2 HO D x1 ∧ qz_ok3 q R D x1) → post (-2) (f_count, a_rows, a_pkgs, a_hosts, a_mems, a_decl, a_npkgs, a_nhosts, a_nmems, a_ndecl))
    (h3 : qz_ok1 (qz_T x2) 16 → qz_ok2 HO D x1 ∧ qz_ok3 q R D x1 → ∀ u, qp_X (qn_q q R D x1) (qn_R q R D x1 x2) (qn_P PK D x1 x2) (qn_H HO D x1 x2) (qn_D D x1 x2) (qn_L D L x1 x2) u → post (nI (qn_q q R D x1)) u) : wpX_fix post (f_count, a_rows, a_pkgs, a_hosts, a_mems, a_decl, a_npkgs, a_nhosts, a_nmems, a_ndecl) x1 x2 := by
  have hW0 := hW
  obtain ⟨W1, W2, W3, W4, W5, W6, W7, W8⟩ := hW
  obtain ⟨X1, X2, X3, X4, X5, X6⟩ := hX
  subst X1
  have hh : ∀ i, i < 16 → a_hosts i = nI (HO i) ∧ HO i < 65536 := fun i hi => ⟨X4 i hi, W4 i hi⟩
  refine Exists.intro 16 (qx_6 h1 (fun ok => ⟨16, qx_59 hh X6 (fun n2 => h2 ok (fun z => n2 z.1)) (fun o2 => ⟨q + 1, qx_112 W1 W2 X2 X6 (fun n3 => h2 ok (fun z => n3 z.2)) (fun o3 => ⟨17, qx_169 (fun s1 s2 s3 s4 hs => ⟨16, qx_217 (fun i hi => ⟨X3 i hi, W3 i hi⟩) hh X5 (fun i hi => (W8 i hi).1) X6 (fun t1 t2 t3 t4 ht => ⟨q + 1, qx_378 W1 W2 X6 (fun r0 hr0 => ⟨24 - qn_q q R D x1 * 4 + 1, ?_⟩) q 0 a_rows (by omega) (fun r hr => absurd hr (Nat.not_lt_zero r)) (fun r _ hr => X2 r hr)⟩) 15 1 s1 s2 s3 s4 rfl (by omega) (fun j hj => ?_)⟩) 16 0 a_npkgs a_nhosts a_nmems a_ndecl rfl (fun j hj => absurd hj (Nat.not_lt_zero j))⟩) q 0 (by omega) (fun r hr => absurd hr (Nat.not_lt_zero r))⟩) 15 1 rfl (by omega) (fun r a1 a2 => by omega)⟩) 15 1 0 rfl (by omega) (fun j a1 a2 => by omega) (fun t ht => b_0 t))
  · have hWn := qp_Wn (al := x1) hW0 ok
    obtain ⟨V1, V2, V3, V4, V5, V6, V7, V8⟩ := hWn
    refine qx_528 (z := qn_q q R D x1 * 4) (fun s' hs' => ⟨17, qx_558 ?_ ?_ ?_ ?_ (fun p1 p2 p3 p4 hp => h3 ok ⟨o2, o3⟩ _ ⟨rfl, ?_, ?_, ?_, ?_, ?_⟩) 16 0 a_pkgs a_hosts a_mems a_decl rfl (fun j hj => absurd hj (Nat.not_lt_zero j))⟩) (24 - qn_q q R D x1 * 4) (qn_q q R D x1 * 4) r0 (by omega) (Nat.le_refl _) (fun j hj => rfl)
    · intro j hj
      rw [(ht j hj).1]
      exact V3 j hj
    · intro j hj
      rw [(ht j hj).2.1]
      exact qz_c (V4 j hj)
    · intro j hj
      refine qz_cb (fun t a1 a2 => ?_)
      rw [(ht j hj).2.2.1 t a2]
      exact (V8 j hj).2 t a1
    · intro j hj
      rw [(ht j hj).2.2.2]
      exact qz_bn _
    · intro r hr k hk
      rw [hs' _ (by omega)]
      exact hr0 r hr k hk
    · intro i hi
      rw [(hp i hi).1]
      exact (ht i hi).1
    · intro i hi
      rw [(hp i hi).2.1]
      exact (ht i hi).2.1
    · intro i hi m hm
      rw [(hp i hi).2.2.1]
      exact (ht i hi).2.2.1 m hm
    · intro i hi
      rw [(hp i hi).2.2.2]
      exact (ht i hi).2.2.2
  · have hz : qz_sel D x1 0 = false := qz_seln (Or.inl W6)
    obtain ⟨a1, a2, a3, a4⟩ := hs j hj
    refine ⟨?_, ?_, fun t ht => ?_, ?_⟩
    · rw [a1]; exact (qz_gn hz j).symm
    · rw [a2]; exact congrArg nI (qz_gn hz j).symm
    · rw [a3, b_0, qz_gn hz j]; rfl
    · rw [a4, qz_gn hz j]; rfl
end
end
section
/-! fix: the reference against the pure passes -/
section
variable {f_count : Int32} {f_here : Int64} {a_inner a_outer a_name a_flags a_pkg a_host a_lists a_to a_hits a_p2 a_h2 a_l2 : Nat → Int32}
variable {q : Nat} {R : Nat → Nat → Nat} {PK : Nat → Int32} {HO : Nat → Nat} {D : Nat → Bool} {L : Nat → Nat → Bool}
theorem qz_stY {al : Int32} {w : Nat} (h0 : D 0 = false) (hw : w ≤ 15) : qz_st D al w = (bt al w || !D w) := by
  unfold qz_st
  rw [decide_eq_false (show ¬ 15 < w by omega), Bool.or_false]
  by_cases e : w = 0
  · subst e
    rw [h0, decide_eq_true rfl, Bool.true_or, Bool.true_or, Bool.not_false, Bool.or_true]
  · rw [decide_eq_false e, Bool.false_or, Bool.or_comm]
theorem qy_stays {post : Int32 → Prop} {al kp p : Int32} {w : Nat} (hk : ∀ m, m < 16 → bt kp m = (bt al m || !D m)) (h0 : D 0 = false) (e : p = nI w) (hw : w < 65536) (h : post (qz_b (qz_st D al w))) : wpY_stays post p kp := by
  subst e
  refine pk_lt 15 w (fun hl => ?_) (fun hl => qz_if (b := qz_st D al w) ?_ (fun e => ?_) (fun e => ?_))
  · rw [qz_stx (Or.inr (Or.inl hl))] at h; exact h
  · rw [qz_ts (by omega), hk w (by omega), qz_stY h0 hl]
  · rw [e] at h; exact h
  · rw [e] at h; exact h
theorem qy_map {post : Int32 → Prop} {T : Nat → Nat} {p : Int32} {w : Nat} (h0 : a_to 0 = 0) (ht : ∀ j, 1 ≤ j → j < 16 → a_to j = nI (T j)) (hT : ∀ j, T j < 16) (e : p = nI w) (hw : w < 65536) (h : post (nI (qz_mp T w))) : wpY_map__to post (f_count, f_here, a_inner, a_outer, a_name, a_flags, a_pkg, a_host, a_lists, a_to, a_hits, a_p2, a_h2, a_l2) p := by
  subst e
  refine pk_le w 15 (fun hl => ?_) (fun hl => ?_)
  · have e : a_to (nI w).toNatClampNeg = nI (qz_mp T w) := qz_at w rfl (by omega) (by
      by_cases z : w = 0
      · subst z; exact h0
      · rw [qz_mpl z hl]; exact ht w (by omega) (by omega))
    rw [e]
    exact ⟨vp_in_nI (by omega) (by omega), (pk_charN (qz_mpb hT hw)).1, h⟩
  · rw [qz_cm hw]
    rw [qz_mpg hl] at h
    exact ⟨(pk_charN hw).1, h⟩
theorem qy_mark {post : Int64 → SY → Prop} {p : Int32} (h : post (f_here ||| ((1 : Int64) <<< (p.toInt64 &&& 63))) (f_count, f_here ||| ((1 : Int64) <<< (p.toInt64 &&& 63)), a_inner, a_outer, a_name, a_flags, a_pkg, a_host, a_lists, a_to, a_hits, a_p2, a_h2, a_l2)) : wpY_mark post (f_count, f_here, a_inner, a_outer, a_name, a_flags, a_pkg, a_host, a_lists, a_to, a_hits, a_p2, a_h2, a_l2) p := nm_e h
theorem qy_495 {post : Int32 → SY → Prop} {al x4 : Int32} {T : Nat → Nat} (hk : ∀ m, m < 16 → bt x4 m = (bt al m || !D m)) (hD : D 0 = false) (h0 : a_to 0 = 0) (ht : ∀ j, 1 ≤ j → j < 16 → a_to j = nI (T j)) (hT : ∀ j, T j < 16) (hq : q ≤ 6) (hR : ∀ r, r < q → ∀ k, k < 4 → R r k < 65536)
    (hK : ∀ s0 s1 s2 s3 : Nat → Int32, (∀ r, r < qz_K (fun r => qz_st D al (R r 0)) q → s0 r = nI (qz_N (fun r => qz_st D al (R r 0)) (qz_row T R) q r 0) ∧ s1 r = nI (qz_N (fun r => qz_st D al (R r 0)) (qz_row T R) q r 1) ∧ s2 r = nI (qz_N (fun r => qz_st D al (R r 0)) (qz_row T R) q r 2) ∧ s3 r = nI (qz_N (fun r => qz_st D al (R r 0)) (qz_row T R) q r 3)) → post (nI (qz_K (fun r => qz_st D al (R r 0)) q)) (nI (qz_K (fun r => qz_st D al (R r 0)) q), f_here, s0, s1, s2, s3, a_pkg, a_host, a_lists, a_to, a_hits, a_p2, a_h2, a_l2)) :
    ∀ (d i : Nat) (s0 s1 s2 s3 : Nat → Int32), i + d = q → (∀ r, r < qz_K (fun r => qz_st D al (R r 0)) i → s0 r = nI (qz_N (fun r => qz_st D al (R r 0)) (qz_row T R) i r 0) ∧ s1 r = nI (qz_N (fun r => qz_st D al (R r 0)) (qz_row T R) i r 1) ∧ s2 r = nI (qz_N (fun r => qz_st D al (R r 0)) (qz_row T R) i r 2) ∧ s3 r = nI (qz_N (fun r => qz_st D al (R r 0)) (qz_row T R) i r 3)) → (∀ r, i ≤ r → r < q → s0 r = nI (R r 0) ∧ s1 r = nI (R r 1) ∧ s2 r = nI (R r 2) ∧ s3 r = nI (R r 3)) → wY_fix_495 post x4 (nI q) f_here (d + 1) (nI (qz_K (fun r => qz_st D al (R r 0)) i)) (nI i) s0 s1 s2 s3 a_pkg a_host a_lists a_to a_hits a_p2 a_h2 a_l2 := by
  intro d
  induction d with
  | zero =>
    intro i s0 s1 s2 s3 hi hs hu
    have e : i = q := by omega
    subst e
    exact br_t (nI_le (Nat.le_refl _) (by omega)) (hK s0 s1 s2 s3 hs)
  | succ d ih =>
    intro i s0 s1 s2 s3 hi hs hu
    have hiq : i < q := by omega
    have hKl := qz_Kl (fun r => qz_st D al (R r 0)) i
    have h31 : i < 2 ^ 31 := by omega
    have hK31 : qz_K (fun r => qz_st D al (R r 0)) i < 2 ^ 31 := by omega
    have R0 := hR i hiq 0 (by omega)
    have R1 := hR i hiq 1 (by omega)
    have R2 := hR i hiq 2 (by omega)
    have R3 := hR i hiq 3 (by omega)
    have M0 := qz_mpb hT R0
    have M1 := qz_mpb hT R1
    obtain ⟨u0, u1, u2, u3⟩ := hu i (Nat.le_refl _) hiq
    have t0 : s0 (nI i).toNatClampNeg = nI (R i 0) := qz_at i rfl h31 u0
    have t1 : s1 (nI i).toNatClampNeg = nI (R i 1) := qz_at i rfl h31 u1
    have t2 : vp_nar .char (s2 (nI i).toNatClampNeg) = nI (R i 2) := by rw [nI_clamp h31, u2]; exact qz_c R2
    have t3 : vp_nar .char (s3 (nI i).toNatClampNeg) = nI (R i 3) := by rw [nI_clamp h31, u3]; exact qz_c R3
    have vi : vp_in (nI i) 6 := vp_in_nI (by omega) (by omega)
    have vk : vp_in (nI (qz_K (fun r => qz_st D al (R r 0)) i)) 6 := vp_in_nI (by omega) (by omega)
    refine br_f (nI_ge hiq (by omega)) ⟨vi, qy_stays hk hD t0 R0 (qz_if qz_b0 (fun hx => nm_r (nI_1 i) ?_) (fun hx => ⟨vi, qy_map h0 ht hT t0 R0 ⟨vk, nm_r (qz_u hK31 (qz_c M0)) ⟨vi, qy_map h0 ht hT t1 R1 ⟨vk, nm_r (qz_u hK31 (qz_c M1)) ⟨vi, vk, nm_r (qz_u hK31 t2) ⟨vi, vk, nm_r (qz_u hK31 t3) (nm_r (nI_1 _) (nm_r (nI_1 i) ?_))⟩⟩⟩⟩⟩⟩))⟩
    · have eK := qz_Kn (kp := fun r => qz_st D al (R r 0)) (r := i) hx
      have := ih (i + 1) s0 s1 s2 s3 (by omega) (fun r hr => by rw [qz_Nn (kp := fun r => qz_st D al (R r 0)) (r := i) hx, qz_Nn (kp := fun r => qz_st D al (R r 0)) (r := i) hx, qz_Nn (kp := fun r => qz_st D al (R r 0)) (r := i) hx, qz_Nn (kp := fun r => qz_st D al (R r 0)) (r := i) hx]; rw [eK] at hr; exact hs r hr) (fun r a1 a2 => hu r (by omega) a2)
      rw [eK] at this
      exact this
    · have eK := qz_Ky (kp := fun r => qz_st D al (R r 0)) (r := i) hx
      have := ih (i + 1) (upd s0 (qz_K (fun r => qz_st D al (R r 0)) i) (nI (qz_mp T (R i 0)))) (upd s1 (qz_K (fun r => qz_st D al (R r 0)) i) (nI (qz_mp T (R i 1)))) (upd s2 (qz_K (fun r => qz_st D al (R r 0)) i) (nI (R i 2))) (upd s3 (qz_K (fun r => qz_st D al (R r 0)) i) (nI (R i 3))) (by omega) (fun r hr => ?_) (fun r a1 a2 => ?_)
      · rw [eK] at this
        exact this
      · by_cases e : r = qz_K (fun r => qz_st D al (R r 0)) i
        · subst e
          rw [qz_Ny (kp := fun r => qz_st D al (R r 0)) hx, qz_Ny (kp := fun r => qz_st D al (R r 0)) hx, qz_Ny (kp := fun r => qz_st D al (R r 0)) hx, qz_Ny (kp := fun r => qz_st D al (R r 0)) hx]
          exact ⟨pk_us, pk_us, pk_us, pk_us⟩
        · rw [pk_un e, pk_un e, pk_un e, pk_un e, qz_Nd e, qz_Nd e, qz_Nd e, qz_Nd e]
          rw [eK] at hr
          exact hs r (by omega)
      · have e : r ≠ qz_K (fun r => qz_st D al (R r 0)) i := by omega
        rw [pk_un e, pk_un e, pk_un e, pk_un e]
        exact hu r (by omega) a2
theorem qy_461 {post : Int32 → SY → Prop} {x4 : Int32} (hb : ∀ x, x < 256 → vp_nar .boolean (a_l2 x) = a_l2 x)
    (hK : ∀ s : Nat → Int32, (∀ x, x < 256 → s x = a_l2 x) → ∃ n, wY_fix_495 post x4 f_count f_here n 0 0 a_inner a_outer a_name a_flags a_pkg a_host s a_to a_hits a_p2 a_h2 a_l2) :
    ∀ (d i : Nat) (s : Nat → Int32), i + d = 256 → (∀ x, x < i → s x = a_l2 x) → wY_fix_461 post x4 f_count f_here (d + 1) (nI i) a_inner a_outer a_name a_flags a_pkg a_host s a_to a_hits a_p2 a_h2 a_l2 := by
  intro d
  induction d with
  | zero =>
    intro i s hi hs
    have e : i = 256 := by omega
    subst e
    exact br_t (nI_le (a := 256) (b := 256) (by omega) (by omega)) (hK s hs)
  | succ d ih =>
    intro i s hi hs
    have h31 : i < 2 ^ 31 := by omega
    have vi : vp_in (nI i) 256 := vp_in_nI (by omega) (by omega)
    refine br_f (nI_ge (b := 256) (by omega) (by omega)) ⟨vi, vi, nm_r (e' := upd s i (a_l2 i)) (by rw [nI_clamp h31, hb i (by omega)]) (nm_r (nI_1 i) (ih (i + 1) _ (by omega) (fun j hj => ?_)))⟩
    by_cases e : j = i
    · subst e; exact pk_us
    · rw [pk_un e]; exact hs j (by omega)
theorem qy_417 {post : Int32 → SY → Prop} {x4 : Int32} (hp : ∀ j, j < 16 → vp_nar .short (a_p2 j) = a_p2 j) (hh : ∀ j, j < 16 → vp_nar .char (a_h2 j) = a_h2 j)
    (hK : ∀ s1 s2 : Nat → Int32, (∀ j, j < 16 → s1 j = a_p2 j ∧ s2 j = a_h2 j) → ∃ n, wY_fix_461 post x4 f_count f_here n 0 a_inner a_outer a_name a_flags s1 s2 a_lists a_to a_hits a_p2 a_h2 a_l2) :
    ∀ (d i : Nat) (s1 s2 : Nat → Int32), i + d = 16 → (∀ j, j < i → s1 j = a_p2 j ∧ s2 j = a_h2 j) → wY_fix_417 post x4 f_count f_here (d + 1) (nI i) a_inner a_outer a_name a_flags s1 s2 a_lists a_to a_hits a_p2 a_h2 a_l2 := by
  intro d
  induction d with
  | zero =>
    intro i s1 s2 hi hs
    have e : i = 16 := by omega
    subst e
    exact br_t (nI_le (a := 16) (b := 16) (by omega) (by omega)) (hK s1 s2 hs)
  | succ d ih =>
    intro i s1 s2 hi hs
    have h16 : i < 16 := by omega
    have h31 : i < 2 ^ 31 := by omega
    have vi : vp_in (nI i) 16 := vp_in_nI h16 (by omega)
    refine br_f (nI_ge (b := 16) (by omega) (by omega)) ⟨vi, vi, nm_r (e' := upd s1 i (a_p2 i)) (by rw [nI_clamp h31, hp i h16]) ⟨vi, vi, nm_r (e' := upd s2 i (a_h2 i)) (by rw [nI_clamp h31, hh i h16]) (nm_r (nI_1 i) (ih (i + 1) _ _ (by omega) (fun j hj => ?_)))⟩⟩
    by_cases e : j = i
    · subst e; exact ⟨pk_us, pk_us⟩
    · rw [pk_un e, pk_un e]; exact hs j (by omega)
theorem qy_350 {post : Int32 → SY → Prop} {J : Int32 → Int32 → Int64 → (Nat → Int32) → (Nat → Int32) → (Nat → Int32) → (Nat → Int32) → (Nat → Int32) → (Nat → Int32) → (Nat → Int32) → (Nat → Int32) → (Nat → Int32) → (Nat → Int32) → (Nat → Int32) → (Nat → Int32) → Prop} {x1 x4 al : Int32} {x5 : Int64} {T : Nat → Nat} {c t : Nat} {l : Nat → Bool} (hk : ∀ m, m < 16 → bt x4 m = (bt al m || !D m)) (hD : D 0 = false) (ht : ∀ j, 1 ≤ j → j < 16 → a_to j = nI (T j)) (hT : ∀ j, T j < 16) (hc : c < 16) (htl : t < 16) (hl : ∀ m, m < 16 → a_lists (c * 16 + m) = qz_b (l m))
    (hK : ∀ s : Nat → Int32, (∀ j, j < 16 → s (t * 16 + j) = qz_b (qz_rw l (qz_st D al) T 16 j)) → (∀ x, (∀ j, j < 16 → x ≠ t * 16 + j) → s x = a_l2 x) → J (nI (c + 1)) f_count f_here a_inner a_outer a_name a_flags a_pkg a_host a_lists a_to a_hits a_p2 a_h2 s) :
    ∀ (d m : Nat) (s : Nat → Int32), m + d = 16 → 1 ≤ m → (∀ j, j < 16 → s (t * 16 + j) = qz_b (qz_rw l (qz_st D al) T m j)) → (∀ x, (∀ j, j < 16 → x ≠ t * 16 + j) → s x = a_l2 x) → wY_fix_350 post J x1 x4 x5 (nI c) (nI t) f_count f_here (d + 1) (nI m) a_inner a_outer a_name a_flags a_pkg a_host a_lists a_to a_hits a_p2 a_h2 s := by
  intro d
  induction d with
  | zero =>
    intro m s hm h1 hs ho
    have e : m = 16 := by omega
    subst e
    exact br_t (nI_le (a := 16) (b := 16) (by omega) (by omega)) (nm_r (nI_1 c) (hK s hs ho))
  | succ d ih =>
    intro m s hm h1 hs ho
    have hTm := hT m
    have E : nI t * 16 + a_to (nI m).toNatClampNeg = nI (t * 16 + T m) := by rw [nI_clamp (by omega), ht m h1 (by omega), qz_m16]
    refine br_f (nI_ge (b := 16) (by omega) (by omega)) ⟨pk_in (c * 16 + m) 256 (by omega) (qz_m16 _ _), qz_if (b := l m) ?_ (fun e => nm_r (nI_1 m) (ih (m + 1) s (by omega) (by omega) (fun j hj => ?_) ho)) (fun e => qy_stays hk hD rfl (by omega) (qz_if qz_b0 (fun e2 => nm_r (nI_1 m) (ih (m + 1) s (by omega) (by omega) (fun j hj => ?_) ho)) (fun e2 => ⟨vp_in_nI (by omega) (by omega), pk_in (t * 16 + T m) 256 (by omega) E, nm_r (qz_ux (t * 16 + T m) E (by omega) (qz_bn true)) (nm_r (nI_1 m) (ih (m + 1) _ (by omega) (by omega) (fun j hj => ?_) (fun x hx => ?_)))⟩)))⟩
    · rw [qz_m16, nI_clamp (by omega), hl m (by omega)]; exact qz_b0
    · rw [qz_rwn (Or.inl e)]; exact hs j hj
    · rw [qz_rwn (Or.inr e2)]; exact hs j hj
    · rw [qz_rwy e e2]
      by_cases z : j = T m
      · subst z
        rw [pk_us, decide_eq_true rfl, Bool.or_true]
      · rw [pk_un (by omega), decide_eq_false z, Bool.or_false]
        exact hs j hj
    · rw [pk_un (hx (T m) hTm)]
      exact ho x hx
theorem qy_268 {post : Int32 → SY → Prop} {x1 x4 : Int32} {x5 : Int64} {T : Nat → Nat} (hk : ∀ m, m < 16 → bt x4 m = (bt x1 m || !D m)) (hD : D 0 = false) (h0 : a_to 0 = 0) (ht : ∀ j, 1 ≤ j → j < 16 → a_to j = nI (T j)) (hT : ∀ j, T j < 16) (ok : qz_ok1 T 16) (hx5 : ∀ m, m < 64 → qz_lb x5 m = D m) (hp : ∀ i, i < 16 → a_pkg i = PK i ∧ vp_nar .short (PK i) = PK i) (hh : ∀ i, i < 16 → a_host i = nI (HO i) ∧ HO i < 65536) (hl : ∀ i, i < 16 → ∀ m, m < 16 → a_lists (i * 16 + m) = qz_b (L i m)) (hL0 : ∀ i, i < 16 → L i 0 = false)
    (hK : ∀ (fh : Int64) (s1 s2 s3 : Nat → Int32), (∀ m, m < 64 → qz_lb fh m = qz_g false (qz_sel D x1) T (fun _ => true) 16 m) → (∀ j, j < 16 → s1 j = qz_g 0 (qz_sel D x1) T PK 16 j ∧ s2 j = nI (qz_g 0 (qz_sel D x1) T (fun c => qz_mp T (HO c)) 16 j) ∧ (∀ t, t < 16 → s3 (j * 16 + t) = qz_b (qz_g (fun _ => false) (qz_sel D x1) T (fun c => qz_rw (L c) (qz_st D x1) T 16) 16 j t))) → ∃ n, wY_fix_417 post x4 f_count fh n 0 a_inner a_outer a_name a_flags a_pkg a_host a_lists a_to a_hits s1 s2 s3) :
    ∀ (d c : Nat) (fh : Int64) (s1 s2 s3 : Nat → Int32), c + d = 16 → 1 ≤ c → (∀ m, m < 64 → qz_lb fh m = qz_g false (qz_sel D x1) T (fun _ => true) c m) → (∀ j, j < 16 → s1 j = qz_g 0 (qz_sel D x1) T PK c j ∧ s2 j = nI (qz_g 0 (qz_sel D x1) T (fun c => qz_mp T (HO c)) c j) ∧ (∀ t, t < 16 → s3 (j * 16 + t) = qz_b (qz_g (fun _ => false) (qz_sel D x1) T (fun c => qz_rw (L c) (qz_st D x1) T 16) c j t))) → wY_fix_268 post x1 x4 x5 (d + 1) (nI c) f_count fh a_inner a_outer a_name a_flags a_pkg a_host a_lists a_to a_hits s1 s2 s3 := by
  intro d
  induction d with
  | zero =>
    intro c fh s1 s2 s3 hc h1 hf hs
    have e : c = 16 := by omega
    subst e
    exact br_t (nI_le (a := 16) (b := 16) (by omega) (by omega)) (hK fh s1 s2 s3 hf hs)
  | succ d ih =>
    intro c fh s1 s2 s3 hc h1 hf hs
    have h16 : c < 16 := by omega
    have h31 : c < 2 ^ 31 := by omega
    have vc : vp_in (nI c) 16 := vp_in_nI h16 (by omega)
    have hTc := hT c
    have vt : vp_in (nI (T c)) 16 := vp_in_nI hTc (by omega)
    have M0 := qz_mpb hT (hh c h16).2
    have stay : qz_sel D x1 c = false → wY_fix_268 post x1 x4 x5 (d + 1) (nI (c + 1)) f_count fh a_inner a_outer a_name a_flags a_pkg a_host a_lists a_to a_hits s1 s2 s3 := fun hz => ih (c + 1) fh s1 s2 s3 (by omega) (by omega) (fun m hm => by rw [qz_gn hz]; exact hf m hm) (fun j hj => by
      rw [qz_gn hz, qz_gn hz, qz_gn hz]
      exact hs j hj)
    have row0 : ∀ t, t < 16 → s3 (T c * 16 + t) = qz_b false := fun t htt => by
      rw [(hs (T c) hTc).2.2 t htt, qz_gz (fun j hj hsj e => (ok c h1 h16).2 j (qz_selp hD hsj) hj e.symm)]
    refine br_f (nI_ge (b := 16) (by omega) (by omega)) (qz_if (b := D c) ?_ (fun e => nm_r (nI_1 c) (stay (qz_seln (Or.inl e)))) (fun e => qz_if (b := bt x1 c) (qz_ts (by omega)) (fun e2 => nm_r (nI_1 c) (stay (qz_seln (Or.inr e2)))) (fun e2 => ⟨vc, nm_r (qz_at c rfl h31 (ht c h1 h16)) (qy_mark ?_)⟩)))
    · rw [qz_tl (by omega), hx5 c (by omega)]
    · refine And.intro vc ⟨vt, nm_r (e' := upd s1 (T c) (PK c)) ?_ ⟨vc, qy_map h0 ht hT (qz_at c rfl h31 (hh c h16).1) (hh c h16).2 ⟨vt, nm_r (qz_u (by omega) (qz_c M0)) ⟨16, qy_350 (l := L c) hk hD ht hT h16 hTc (hl c h16) (fun s b1 b2 => ih (c + 1) _ _ _ _ (by omega) (by omega) (fun m hm => ?_) (fun j hj => ?_)) 15 1 s3 rfl (by omega) (fun j hj => ?_) (fun x hx => rfl)⟩⟩⟩⟩
      · rw [nI_clamp (by omega), nI_clamp h31, (hp c h16).1, (hp c h16).2]
      · have hse := qz_sely e e2
        rw [qz_ls (by omega), hf m hm]
        by_cases z : m = T c
        · subst z
          rw [qz_ge hse, decide_eq_true rfl, Bool.or_true]
        · rw [qz_gd z, decide_eq_false z, Bool.or_false]
      · have hse := qz_sely e e2
        by_cases z : j = T c
        · subst z
          rw [qz_ge hse, qz_ge hse, qz_ge hse]
          exact ⟨pk_us, pk_us, b1⟩
        · rw [qz_gd z, qz_gd z, qz_gd z, pk_un z, pk_un z]
          refine ⟨(hs j hj).1, (hs j hj).2.1, fun t htt => ?_⟩
          rw [b2 _ (fun i hi => by omega)]
          exact (hs j hj).2.2 t htt
      · rw [row0 j hj, qz_rw1 (hL0 c h16)]
theorem qy_238 {post : Int32 → SY → Prop} {x1 x4 : Int32} {x5 : Int64}
    (hK : ∀ s : Nat → Int32, (∀ x, x < 256 → s x = 0) → ∃ n, wY_fix_268 post x1 x4 x5 n 1 f_count 0 a_inner a_outer a_name a_flags a_pkg a_host a_lists a_to a_hits a_p2 a_h2 s) :
    ∀ (d i : Nat) (s : Nat → Int32), i + d = 256 → (∀ x, x < i → s x = 0) → wY_fix_238 post x1 x4 x5 f_count f_here (d + 1) (nI i) a_inner a_outer a_name a_flags a_pkg a_host a_lists a_to a_hits a_p2 a_h2 s := by
  intro d
  induction d with
  | zero =>
    intro i s hi hs
    have e : i = 256 := by omega
    subst e
    exact br_t (nI_le (a := 256) (b := 256) (by omega) (by omega)) (hK s hs)
  | succ d ih =>
    intro i s hi hs
    refine br_f (nI_ge (b := 256) (by omega) (by omega)) ⟨vp_in_nI (by omega) (by omega), nm_r (qz_u (by omega) (qz_bn false)) (nm_r (nI_1 i) (ih (i + 1) _ (by omega) (fun j hj => ?_)))⟩
    by_cases e : j = i
    · subst e; exact pk_us
    · rw [pk_un e]; exact hs j (by omega)
theorem qy_206 {post : Int32 → SY → Prop} {x1 x4 : Int32} {x5 : Int64}
    (hK : ∀ s1 s2 : Nat → Int32, (∀ j, j < 16 → s1 j = 0 ∧ s2 j = 0) → ∃ n, wY_fix_238 post x1 x4 x5 f_count f_here n 0 a_inner a_outer a_name a_flags a_pkg a_host a_lists a_to a_hits s1 s2 a_l2) :
    ∀ (d i : Nat) (s1 s2 : Nat → Int32), i + d = 16 → (∀ j, j < i → s1 j = 0 ∧ s2 j = 0) → wY_fix_206 post x1 x4 x5 f_count f_here (d + 1) (nI i) a_inner a_outer a_name a_flags a_pkg a_host a_lists a_to a_hits s1 s2 a_l2 := by
  intro d
  induction d with
  | zero =>
    intro i s1 s2 hi hs
    have e : i = 16 := by omega
    subst e
    exact br_t (nI_le (a := 16) (b := 16) (by omega) (by omega)) (hK s1 s2 hs)
  | succ d ih =>
    intro i s1 s2 hi hs
    have h31 : i < 2 ^ 31 := by omega
    have vi : vp_in (nI i) 16 := vp_in_nI (by omega) (by omega)
    refine br_f (nI_ge (b := 16) (by omega) (by omega)) ⟨vi, nm_r (qz_u h31 qz_s0) ⟨vi, nm_r (qz_u h31 qz_c0) (nm_r (nI_1 i) (ih (i + 1) _ _ (by omega) (fun j hj => ?_)))⟩⟩
    by_cases e : j = i
    · subst e; exact ⟨pk_us, pk_us⟩
    · rw [pk_un e, pk_un e]; exact hs j (by omega)
theorem qy_149 {post : Int32 → SY → Prop} {x1 x4 : Int32} (hk : ∀ m, m < 16 → bt x4 m = (bt x1 m || !D m)) (hD : D 0 = false) (hq : q ≤ 6) (hR : ∀ r, r < q → ∀ k, k < 4 → R r k < 65536) (hr : ∀ r, r < q → a_inner r = nI (R r 0) ∧ a_outer r = nI (R r 1) ∧ a_name r = nI (R r 2) ∧ a_flags r = nI (R r 3))
    (hF : ¬ qz_ok3 q R D x1 → post (-2) (nI q, f_here, a_inner, a_outer, a_name, a_flags, a_pkg, a_host, a_lists, a_to, a_hits, a_p2, a_h2, a_l2)) (hK : qz_ok3 q R D x1 → ∃ n, wY_fix_206 post x1 x4 f_here (nI q) f_here n 0 a_inner a_outer a_name a_flags a_pkg a_host a_lists a_to a_hits a_p2 a_h2 a_l2) :
    ∀ d i : Nat, i + d = q → (∀ r, r < i → qz_st D x1 (R r 0) = true → qz_st D x1 (R r 1) = true) → wY_fix_149 post x1 x4 (nI q) f_here a_inner a_outer a_name a_flags a_pkg a_host a_lists a_to a_hits a_p2 a_h2 a_l2 (d + 1) (nI i) := by
  intro d
  induction d with
  | zero =>
    intro i hi hs
    have e : i = q := by omega
    subst e
    exact br_t (nI_le (Nat.le_refl _) (by omega)) (hK hs)
  | succ d ih =>
    intro i hi hs
    have hiq : i < q := by omega
    have vi : vp_in (nI i) 6 := vp_in_nI (by omega) (by omega)
    refine br_f (nI_ge hiq (by omega)) ⟨vi, qy_stays hk hD (qz_at i rfl (by omega) (hr i hiq).1) (hR i hiq 0 (by omega)) (qz_if qz_b0 (fun e => nm_r (nI_1 i) (ih (i + 1) (by omega) (fun r h1 h2 => ?_))) (fun e => ⟨vi, qy_stays hk hD (qz_at i rfl (by omega) (hr i hiq).2.1) (hR i hiq 1 (by omega)) (qz_if qz_b0 (fun e2 => hF (fun ok => ?_)) (fun e2 => nm_r (nI_1 i) (ih (i + 1) (by omega) (fun r h1 h2 => ?_))))⟩))⟩
    · by_cases z : r = i
      · subst z; rw [e] at h2; exact absurd h2 (by decide)
      · exact hs r (by omega) h2
    · have := ok i hiq e
      rw [e2] at this
      exact absurd this (by decide)
    · by_cases z : r = i
      · subst z; exact e2
      · exact hs r (by omega) h2
theorem qy_105 {post : Int32 → SY → Prop} {x1 x4 : Int32} (hk : ∀ m, m < 16 → bt x4 m = (bt x1 m || !D m)) (hD : D 0 = false) (hh : ∀ i, i < 16 → a_host i = nI (HO i) ∧ HO i < 65536) (hz : ∀ i, i < 16 → D i = false → HO i = 0)
    (hF : ¬ qz_ok2 HO D x1 → post (-2) (f_count, f_here, a_inner, a_outer, a_name, a_flags, a_pkg, a_host, a_lists, a_to, a_hits, a_p2, a_h2, a_l2)) (hK : qz_ok2 HO D x1 → ∃ n, wY_fix_149 post x1 x4 f_count f_here a_inner a_outer a_name a_flags a_pkg a_host a_lists a_to a_hits a_p2 a_h2 a_l2 n 0) :
    ∀ d c : Nat, c + d = 16 → 1 ≤ c → (∀ r, 1 ≤ r → r < c → qz_sel D x1 r = true → qz_st D x1 (HO r) = true) → wY_fix_105 post x1 x4 f_count f_here a_inner a_outer a_name a_flags a_pkg a_host a_lists a_to a_hits a_p2 a_h2 a_l2 (d + 1) (nI c) := by
  intro d
  induction d with
  | zero =>
    intro c hc h1 hs
    have e : c = 16 := by omega
    subst e
    exact br_t (nI_le (a := 16) (b := 16) (by omega) (by omega)) (hK hs)
  | succ d ih =>
    intro c hc h1 hs
    have h16 : c < 16 := by omega
    have h31 : c < 2 ^ 31 := by omega
    have vc : vp_in (nI c) 16 := vp_in_nI h16 (by omega)
    have next : (qz_sel D x1 c = true → qz_st D x1 (HO c) = true) → wY_fix_105 post x1 x4 f_count f_here a_inner a_outer a_name a_flags a_pkg a_host a_lists a_to a_hits a_p2 a_h2 a_l2 (d + 1) (nI (c + 1)) := fun hx => ih (c + 1) (by omega) (by omega) (fun r a1 a2 a3 => by
      by_cases z : r = c
      · subst z; exact hx a3
      · exact hs r a1 (by omega) a3)
    refine br_f (nI_ge (b := 16) (by omega) (by omega)) (qy_stays hk hD rfl (by omega) (qz_if qz_b0 (fun e => nm_r (nI_1 c) (next (fun z => ?_))) (fun e => ⟨vc, qy_stays hk hD (qz_at c rfl h31 (hh c h16).1) (hh c h16).2 (qz_if qz_b0 (fun e3 => hF (fun ok => ?_)) (fun e3 => nm_r (nI_1 c) (next (fun _ => e3))))⟩)))
    · rw [qz_sel, Bool.and_eq_true] at z
      rw [qz_stx (Or.inr (Or.inr (Or.inr z.2)))] at e
      exact absurd e (by decide)
    · by_cases hDc : D c = true
      · have hb : bt x1 c = true := by
          rw [qz_stY hD (by omega), hDc, Bool.not_true, Bool.or_false] at e
          exact e
        have := ok c h1 h16 (qz_sely hDc hb)
        rw [e3] at this
        exact absurd this (by decide)
      · rw [hz c h16 (ts_nt hDc), qz_stx (Or.inl rfl)] at e3
        exact absurd e3 (by decide)
theorem qy_27 {post : Int32 → SY → Prop} {x1 : Int32} {x2 : Int64}
    (hF : ¬ qz_ok1 (qz_T x2) 16 → ∀ s1 s2 : Nat → Int32, s1 0 = 0 → post (-1) (f_count, f_here, a_inner, a_outer, a_name, a_flags, a_pkg, a_host, a_lists, s1, s2, a_p2, a_h2, a_l2))
    (hK : qz_ok1 (qz_T x2) 16 → ∀ s1 s2 : Nat → Int32, s1 0 = 0 → (∀ j, 1 ≤ j → j < 16 → s1 j = nI (qz_T x2 j)) → ∃ n, wY_fix_105 post x1 (x1 ||| (f_here.toInt32 ^^^ (-1))) f_count f_here a_inner a_outer a_name a_flags a_pkg a_host a_lists s1 s2 a_p2 a_h2 a_l2 n 1) :
    ∀ (d i : Nat) (s1 s2 : Nat → Int32), i + d = 16 → 1 ≤ i → qz_ok1 (qz_T x2) i → s1 0 = 0 → (∀ j, 1 ≤ j → j < i → s1 j = nI (qz_T x2 j)) → (∀ t, t < 16 → s2 t = qz_b (qz_vis (qz_T x2) i t)) → wY_fix_27 post x1 x2 f_count f_here (d + 1) (nI i) a_inner a_outer a_name a_flags a_pkg a_host a_lists s1 s2 a_p2 a_h2 a_l2 := by
  intro d
  induction d with
  | zero =>
    intro i s1 s2 hi h1 ok z0 hs hv
    have e : i = 16 := by omega
    subst e
    exact br_t (nI_le (a := 16) (b := 16) (by omega) (by omega)) (nm_e (hK ok s1 s2 z0 hs))
  | succ d ih =>
    intro i s1 s2 hi h1 ok z0 hs hv
    have hT := qz_Tl x2 i
    have h31 : i < 2 ^ 31 := by omega
    have vi : vp_in (nI i) 16 := vp_in_nI (by omega) (by omega)
    have E1 : upd s1 (nI i).toNatClampNeg (vp_nar .char ((((((x2.toUInt64 >>> ((4 * nI i).toInt64.toUInt64 &&& Int64.toUInt64 63)).toInt64) &&& 15).toInt32).toUInt32 % 65536).toInt32)) = upd s1 i (nI (qz_T x2 i)) := by
      rw [nI_clamp h31, qz_Te x2 (by omega), qz_cm (by omega), qz_c (by omega)]
    have E2 : upd s1 i (nI (qz_T x2 i)) (nI i).toNatClampNeg = nI (qz_T x2 i) := by rw [nI_clamp h31]; exact pk_us
    have z1 : upd s1 i (nI (qz_T x2 i)) 0 = 0 := by rw [pk_un (by omega)]; exact z0
    have vt : vp_in (upd s1 i (nI (qz_T x2 i)) (nI i).toNatClampNeg) 16 := by rw [E2]; exact vp_in_nI hT (by omega)
    have E3 : s2 (upd s1 i (nI (qz_T x2 i)) (nI i).toNatClampNeg).toNatClampNeg = qz_b (qz_vis (qz_T x2) i (qz_T x2 i)) := by rw [E2, nI_clamp (by omega)]; exact hv _ hT
    refine br_f (nI_ge (b := 16) (by omega) (by omega)) ⟨vi, nm_r E1 ⟨vi, pk_eq (qz_T x2 i) 0 (fun e => hF (fun o => (o i h1 (by omega)).1 e) _ _ z1) (fun n0 => ⟨vi, vt, vt, nm_r (e' := upd s2 (qz_T x2 i) (qz_b (qz_vis (qz_T x2) i (qz_T x2 i)) + 1)) ?_ (qz_if (b := qz_vis (qz_T x2) i (qz_T x2 i)) ?_ (fun e => nm_r (nI_1 i) (ih (i + 1) _ _ (by omega) (by omega) (qz_ok1s ok n0 e) z1 (fun j j1 j2 => ?_) (fun t htt => ?_))) (fun e => hF (fun o => ?_) _ _ z1))⟩) E2 rfl (by omega) (by omega)⟩⟩
    · rw [E3, E2, nI_clamp (by omega)]
    · rw [E3]; exact qz_b0
    · by_cases z : j = i
      · subst z; exact pk_us
      · rw [pk_un z]; exact hs j j1 (by omega)
    · rw [qz_viss h1]
      by_cases z : t = qz_T x2 i
      · subst z
        rw [pk_us, e, decide_eq_true rfl]
        rfl
      · rw [pk_un z, decide_eq_false z, Bool.or_false]
        exact hv t htt
    · obtain ⟨j, j1, j2, j3⟩ := qz_vist _ e
      exact (o i h1 (by omega)).2 j j1 j2 j3
theorem qy_3 {post : Int32 → SY → Prop} {x1 : Int32} {x2 : Int64}
    (hK : ∀ s : Nat → Int32, (∀ j, j < 16 → s j = 0) → ∃ n, wY_fix_27 post x1 x2 f_count f_here n 1 a_inner a_outer a_name a_flags a_pkg a_host a_lists a_to s a_p2 a_h2 a_l2) :
    ∀ (d i : Nat) (s : Nat → Int32), i + d = 16 → (∀ j, j < i → s j = 0) → wY_fix_3 post x1 x2 f_count f_here (d + 1) (nI i) a_inner a_outer a_name a_flags a_pkg a_host a_lists a_to s a_p2 a_h2 a_l2 := by
  intro d
  induction d with
  | zero =>
    intro i s hi hs
    have e : i = 16 := by omega
    subst e
    exact br_t (nI_le (a := 16) (b := 16) (by omega) (by omega)) (hK s hs)
  | succ d ih =>
    intro i s hi hs
    refine br_f (nI_ge (b := 16) (by omega) (by omega)) ⟨vp_in_nI (by omega) (by omega), nm_r (qz_u (by omega) rfl) (nm_r (nI_1 i) (ih (i + 1) _ (by omega) (fun j hj => ?_)))⟩
    by_cases e : j = i
    · subst e; exact pk_us
    · rw [pk_un e]; exact hs j (by omega)
theorem qy_fix {post : Int32 → SY → Prop} {x1 : Int32} {x2 : Int64} (hW : qp_W q R PK HO D L) (hY : qp_Y q R PK HO D L (f_count, f_here, a_inner, a_outer, a_name, a_flags, a_pkg, a_host, a_lists, a_to, a_hits, a_p2, a_h2, a_l2))
    (h1 : ¬ qz_ok1 (qz_T x2) 16 → ∀ v, qp_Y q R PK HO D L v → post (-1) v) (h2 : qz_ok1 (qz_T x2) 16 → ¬ (qz_ok2 HO D x1 ∧ qz_ok3 q R D x1) → ∀ v, qp_Y q R PK HO D L v → post (-2) v)
    (h3 : qz_ok1 (qz_T x2) 16 → qz_ok2 HO D x1 ∧ qz_ok3 q R D x1 → ∀ v, qp_Y (qn_q q R D x1) (qn_R q R D x1 x2) (qn_P PK D x1 x2) (qn_H HO D x1 x2) (qn_D D x1 x2) (qn_L D L x1 x2) v → post (nI (qn_q q R D x1)) v) : wpY_fix post (f_count, f_here, a_inner, a_outer, a_name, a_flags, a_pkg, a_host, a_lists, a_to, a_hits, a_p2, a_h2, a_l2) x1 x2 := by
  have hW0 := hW
  obtain ⟨W1, W2, W3, W4, W5, W6, W7, W8⟩ := hW
  obtain ⟨Y1, Y2, Y3, Y4, Y5, Y6, Y7⟩ := hY
  subst Y1
  have hh : ∀ i, i < 16 → a_host i = nI (HO i) ∧ HO i < 65536 := fun i hi => ⟨Y5 i hi, W4 i hi⟩
  have hk : ∀ m, m < 16 → bt (x1 ||| (f_here.toInt32 ^^^ (-1))) m = (bt x1 m || !D m) := fun m hm => by rw [qz_keep (by omega), Y2 m (by omega)]
  refine Exists.intro 17 (qy_3 (fun s0 hs0 => ⟨16, qy_27 (fun n1 s1 s2 z => h1 n1 _ ⟨rfl, Y2, Y3, Y4, Y5, Y6, z⟩) (fun ok s1 s2 z0 hto => ⟨16, qy_105 hk W6 hh W5 (fun n2 => h2 ok (fun z => n2 z.1) _ ⟨rfl, Y2, Y3, Y4, Y5, Y6, z0⟩) (fun o2 => ⟨q + 1, qy_149 hk W6 W1 W2 Y3 (fun n3 => h2 ok (fun z => n3 z.2) _ ⟨rfl, Y2, Y3, Y4, Y5, Y6, z0⟩) (fun o3 => ⟨17, qy_206 (fun b1 b2 hb => ⟨257, qy_238 (fun b3 hb3 => ⟨16, qy_268 hk W6 z0 hto (qz_Tl x2) ok Y2 (fun i hi => ⟨Y4 i hi, W3 i hi⟩) hh Y6 (fun i hi => (W8 i hi).1) (fun fh c1 c2 c3 hf hc => ?_) 15 1 0 b1 b2 b3 rfl (by omega) (fun m hm => ?_) (fun j hj => ?_)⟩) 256 0 a_l2 rfl (fun j hj => absurd hj (Nat.not_lt_zero j))⟩) 16 0 a_p2 a_h2 rfl (fun j hj => absurd hj (Nat.not_lt_zero j))⟩) q 0 (by omega) (fun r hr => absurd hr (Nat.not_lt_zero r))⟩) 15 1 rfl (by omega) (fun r a1 a2 => by omega)⟩) 15 1 a_to s0 rfl (by omega) (fun j a1 a2 => by omega) Y7 (fun j a1 a2 => by omega) (fun t ht => hs0 t ht)⟩) 16 0 a_hits rfl (fun j hj => absurd hj (Nat.not_lt_zero j)))
  · have hWn := qp_Wn (al := x1) hW0 ok
    obtain ⟨V1, V2, V3, V4, V5, V6, V7, V8⟩ := hWn
    refine ⟨17, qy_417 ?_ ?_ (fun e1 e2 he => ⟨257, qy_461 ?_ (fun g hg => ⟨q + 1, qy_495 hk W6 z0 hto (qz_Tl x2) W1 W2 (fun r0 r1 r2 r3 hr => h3 ok ⟨o2, o3⟩ _ ⟨rfl, hf, hr, ?_, ?_, ?_, z0⟩) q 0 a_inner a_outer a_name a_flags (by omega) (fun r hr => absurd hr (Nat.not_lt_zero r)) (fun r _ hr => Y3 r hr)⟩) 256 0 a_lists rfl (fun j hj => absurd hj (Nat.not_lt_zero j))⟩) 16 0 a_pkg a_host rfl (fun j hj => absurd hj (Nat.not_lt_zero j))⟩
    · intro j hj
      rw [(hc j hj).1]
      exact V3 j hj
    · intro j hj
      rw [(hc j hj).2.1]
      exact qz_c (V4 j hj)
    · intro x hx
      have e : x = x / 16 * 16 + x % 16 := by omega
      rw [e, (hc (x / 16) (by omega)).2.2 (x % 16) (by omega)]
      exact qz_bn _
    · intro i hi
      rw [(he i hi).1]
      exact (hc i hi).1
    · intro i hi
      rw [(he i hi).2]
      exact (hc i hi).2.1
    · intro i hi m hm
      rw [hg _ (by omega)]
      exact (hc i hi).2.2 m hm
  · rw [qz_gn (qz_seln (Or.inl W6))]
    exact qz_l0 m
  · have hz : qz_sel D x1 0 = false := qz_seln (Or.inl W6)
    refine ⟨?_, ?_, fun t ht => ?_⟩
    · rw [(hb j hj).1]; exact (qz_gn hz j).symm
    · rw [(hb j hj).2]; exact congrArg nI (qz_gn hz j).symm
    · rw [hb3 _ (by omega), qz_gn hz j]; rfl
end
end
section
/-! what is owed -/
section
variable {f_here : Int64} {a_rows a_pkgs a_hosts a_mems a_decl a_npkgs a_nhosts a_nmems a_ndecl : Nat → Int32} {a_inner a_outer a_name a_flags a_pkg a_host a_lists a_to a_hits a_p2 a_h2 a_l2 : Nat → Int32}
variable {q : Nat} {R : Nat → Nat → Nat} {PK : Nat → Int32} {HO : Nat → Nat} {D : Nat → Bool} {L : Nat → Nat → Bool}
theorem qy_hostOf {post : Int32 → Prop} {c : Nat} (hc1 : 1 ≤ c) (hc : c < 16) (hW : qp_W q R PK HO D L) (hY : qp_Y q R PK HO D L (nI q, f_here, a_inner, a_outer, a_name, a_flags, a_pkg, a_host, a_lists, a_to, a_hits, a_p2, a_h2, a_l2)) (hD : D c = true) (h0 : HO c = 0 → post (nI c)) (h1 : HO c ≠ 0 → qz_nc PK HO D L c = 0 → post (nI (HO c))) (h2 : HO c ≠ 0 → qz_nc PK HO D L c ≠ 0 → post (nI c)) : wpY_hostOf post (nI q, f_here, a_inner, a_outer, a_name, a_flags, a_pkg, a_host, a_lists, a_to, a_hits, a_p2, a_h2, a_l2) (nI c) := by
  obtain ⟨W1, W2, W3, W4, W5, W6, W7, W8⟩ := hW
  obtain ⟨Y1, Y2, Y3, Y4, Y5, Y6, Y7⟩ := hY
  have h31 : c < 2 ^ 31 := by omega
  have vc : vp_in (nI c) 16 := vp_in_nI hc (by omega)
  have hHc := W4 c hc
  have eH : a_host (nI c).toNatClampNeg = nI (HO c) := qz_at c rfl h31 (Y5 c hc)
  refine br_f (nI_nlt (b := 1) hc1 h31) (qy_has h31 Y2 W7 (br_f (by rw [hD]; decide) ⟨vc, pk_eq (HO c) 0 h0 (fun nz => qy_nest hc Y4 Y5 Y6 Y2 W7 W4 ?_) eH rfl (by omega) (by omega)⟩))
  by_cases e : qz_nc PK HO D L c = 0
  · refine br_t e ⟨vc, ?_⟩
    rw [eH]
    exact h1 nz e
  · exact br_f e (h2 nz e)
theorem qy_verdictOf {post : Int32 → Prop} {c : Nat} (hc1 : 1 ≤ c) (hc : c < 16) (hW : qp_W q R PK HO D L) (hY : qp_Y q R PK HO D L (nI q, f_here, a_inner, a_outer, a_name, a_flags, a_pkg, a_host, a_lists, a_to, a_hits, a_p2, a_h2, a_l2)) (hD : D c = true) (h1 : qz_nc PK HO D L c ≠ 0 → post (qz_nc PK HO D L c)) (h2 : qz_nc PK HO D L c = 0 → qz_pair q R c → post 4) (h3 : qz_nc PK HO D L c = 0 → ¬ qz_pair q R c → post 0) : wpY_verdictOf post (nI q, f_here, a_inner, a_outer, a_name, a_flags, a_pkg, a_host, a_lists, a_to, a_hits, a_p2, a_h2, a_l2) (nI c) := by
  obtain ⟨W1, W2, W3, W4, W5, W6, W7, W8⟩ := hW
  obtain ⟨Y1, Y2, Y3, Y4, Y5, Y6, Y7⟩ := hY
  have h31 : c < 2 ^ 31 := by omega
  refine br_f (nI_nlt (b := 1) hc1 h31) (qy_has h31 Y2 W7 (br_f (by rw [hD]; decide) (qy_nest hc Y4 Y5 Y6 Y2 W7 W4 ?_)))
  by_cases e : qz_nc PK HO D L c = 0
  · exact br_t e ⟨q + 1, qy_v29 W1 W2 Y3 (by omega) (h2 e) (h3 e) q 0 (by omega) (fun i hi => absurd hi (Nat.not_lt_zero i))⟩
  · exact br_f e (h1 e)
theorem qy_row03 {post : Int32 → Prop} {r j : Nat} (hj : j < 4) (hr : r < q) (hW : qp_W q R PK HO D L) (hY : qp_Y q R PK HO D L (nI q, f_here, a_inner, a_outer, a_name, a_flags, a_pkg, a_host, a_lists, a_to, a_hits, a_p2, a_h2, a_l2)) (h : post (nI (R r j))) : wpY_rowAt post (nI q, f_here, a_inner, a_outer, a_name, a_flags, a_pkg, a_host, a_lists, a_to, a_hits, a_p2, a_h2, a_l2) (nI r) (nI j) := by
  obtain ⟨W1, W2, W3, W4, W5, W6, W7, W8⟩ := hW
  obtain ⟨Y1, Y2, Y3, Y4, Y5, Y6, Y7⟩ := hY
  have h31 : r < 2 ^ 31 := by omega
  have vr : vp_in (nI r) 6 := vp_in_nI (by omega) (by omega)
  obtain ⟨y0, y1, y2, y3⟩ := Y3 r hr
  refine pk_eq j 7 (fun z => by omega) (fun _ => br_f (nI_pos (by omega)) (pk_lt 3 j (fun z => by omega) (fun _ => br_f (nI_pos h31) (br_t (nI_lt hr (by omega)) (pk_eq j 0 (fun e => ⟨vr, ?_⟩) (fun n0 => pk_eq j 1 (fun e => ⟨vr, ?_⟩) (fun n1 => pk_eq j 2 (fun e => ⟨vr, ?_⟩) (fun n2 => ⟨vr, ?_⟩))))))))
  · subst e; rw [nI_clamp h31, y0]; exact h
  · subst e; rw [nI_clamp h31, y1]; exact h
  · subst e; rw [nI_clamp h31, y2]; exact h
  · have e : j = 3 := by omega
    subst e; rw [nI_clamp h31, y3]; exact h
theorem qq_45 {v1 v2 : Int32} {P : Prop} (J : P) (hW : qp_W q R PK HO D L) (hX : qp_X q R PK HO D L (nI q, a_rows, a_pkgs, a_hosts, a_mems, a_decl, a_npkgs, a_nhosts, a_nmems, a_ndecl)) (hY : qp_Y q R PK HO D L (nI q, f_here, a_inner, a_outer, a_name, a_flags, a_pkg, a_host, a_lists, a_to, a_hits, a_p2, a_h2, a_l2)) (YW : ∀ post : Int32 → Prop, wY_rowAt_82 post v1 v2 (nI q) f_here a_inner a_outer a_name a_flags a_pkg a_host a_lists a_to a_hits a_p2 a_h2 a_l2 → wpY_rowAt post (nI q, f_here, a_inner, a_outer, a_name, a_flags, a_pkg, a_host, a_lists, a_to, a_hits, a_p2, a_h2, a_l2) v1 v2) : wX_rowAt_45 (fun r => wpY_rowAt (fun r' => r' = r ∧ P) (nI q, f_here, a_inner, a_outer, a_name, a_flags, a_pkg, a_host, a_lists, a_to, a_hits, a_p2, a_h2, a_l2) v1 v2) v1 v2 (nI q) a_rows a_pkgs a_hosts a_mems a_decl a_npkgs a_nhosts a_nmems a_ndecl := by
  obtain ⟨W1, W2, W3, W4, W5, W6, W7, W8⟩ := hW
  obtain ⟨X1, X2, X3, X4, X5, X6⟩ := hX
  obtain ⟨Y1, Y2, Y3, Y4, Y5, Y6, Y7⟩ := hY
  by_cases a1 : v2 < 4
  · exact br_t a1 (YW _ (br_t a1 ⟨rfl, J⟩))
  by_cases a2 : 6 < v2
  · exact br_f a1 (br_t a2 (YW _ (br_f a1 (br_t a2 ⟨rfl, J⟩))))
  by_cases a3 : v1 < 1
  · exact br_f a1 (br_f a2 (br_t a3 (YW _ (br_f a1 (br_f a2 (br_t a3 ⟨rfl, J⟩))))))
  by_cases a4 : v1 ≤ 15
  · obtain ⟨c, hc1, hc, rfl⟩ := qz_rng a3 a4
    have h31 : c < 2 ^ 31 := by omega
    have vc : vp_in (nI c) 16 := vp_in_nI hc (by omega)
    refine br_f a1 (br_f a2 (br_f a3 (br_t a4 ?_)))
    have YW' := fun post h => YW post (br_f a1 (br_f a2 (br_f a3 (br_t a4 h))))
    by_cases a5 : v2 = 4
    · refine br_t a5 ⟨vc, YW' _ (br_t a5 ⟨vc, ?_, J⟩)⟩
      rw [nI_clamp h31, X4 c hc, Y5 c hc]
    by_cases a6 : v2 = 5
    · have a7 : ¬ v2 = 6 := by rw [a6]; decide
      refine br_f a5 (br_t a6 ⟨vc, YW' _ (br_f a5 (br_f a7 ⟨16, qy_r136 (i := c) hc (Y6 c hc) (W8 c hc).1 (W8 c hc).2 (fun x hx => ⟨?_, J⟩) 15 1 0 rfl (by omega) (fun t ht => ?_)⟩))⟩)
      · rw [b_0]
        by_cases z : t = 0
        · subst z; rw [(W8 c hc).1, Bool.and_false]
        · rw [decide_eq_false (by omega), Bool.false_and]
      · rw [nI_clamp h31]
        apply b_ext
        intro t ht
        rw [hx t ht, X5 c hc t ht]
    · have a7 : v2 = 6 := by
        obtain ⟨j, hj, rfl⟩ := nI_of (x := v2) (fun z => a1 (Int32.lt_trans z (by decide)))
        rw [show (4 : Int32) = nI 4 from rfl, nI_ltI hj (by decide)] at a1
        rw [show (6 : Int32) = nI 6 from rfl, nI_ltI (by decide) hj] at a2
        rw [show (4 : Int32) = nI 4 from rfl, nI_eq hj (by decide)] at a5
        rw [show (5 : Int32) = nI 5 from rfl, nI_eq hj (by decide)] at a6
        have e : j = 6 := by omega
        subst e
        rfl
      refine br_f a5 (br_f a6 ⟨vc, YW' _ (br_f a5 (br_t a7 ⟨vc, ?_, J⟩))⟩)
      rw [nI_clamp h31, X3 c hc, Y4 c hc]
  · exact br_f a1 (br_f a2 (br_f a3 (br_f a4 (YW _ (br_f a1 (br_f a2 (br_f a3 (br_f a4 ⟨rfl, J⟩))))))))
end
theorem i_vc_setNest {k : Nat} {u : SX} {v : SY} (I : i_Rel k u v) (hk : k + 5 ≤ 2560) (v1 : Int32) (v2 : Int32) (v3 : Int32) (v4 : Int32) : wpX_setNest (fun r u' => wpY_setNest (fun r' v' => r' = r ∧ i_Rel (k + 5) u' v') v v1 v2 v3 v4) u v1 v2 v3 v4 := by
  have J : i_Rel (k + 5) u v := I
  obtain ⟨q, R, PK, HO, D, L, hW, hX, hY⟩ := I
  obtain ⟨f_count, a_rows, a_pkgs, a_hosts, a_mems, a_decl, a_npkgs, a_nhosts, a_nmems, a_ndecl⟩ := u
  obtain ⟨g_count, f_here, a_inner, a_outer, a_name, a_flags, a_pkg, a_host, a_lists, a_to, a_hits, a_p2, a_h2, a_l2⟩ := v
  obtain ⟨X1, X2, X3, X4, X5, X6⟩ := id hX
  obtain ⟨Y1, Y2, Y3, Y4, Y5, Y6, Y7⟩ := id hY
  subst X1 Y1
  by_cases h1 : v1 < 1
  · exact br_t h1 (br_t h1 ⟨rfl, J⟩)
  by_cases h15 : v1 ≤ 15
  · obtain ⟨c, hc1, hc, rfl⟩ := qz_rng h1 h15
    have hw : v3.toBitVec.toNat % 65536 < 65536 := Nat.mod_lt _ (by decide)
    have hgood : (∀ post : Int32 → SY → Prop, wY_setNest_29 post (nI c) v2 v3 v4 (nI q) f_here a_inner a_outer a_name a_flags a_pkg a_host a_lists a_to a_hits a_p2 a_h2 a_l2 → wpY_setNest post (nI q, f_here, a_inner, a_outer, a_name, a_flags, a_pkg, a_host, a_lists, a_to, a_hits, a_p2, a_h2, a_l2) (nI c) v2 v3 v4) → wX_setNest_37 (fun r u' => wpY_setNest (fun r' v' => r' = r ∧ i_Rel (k + 5) u' v') (nI q, f_here, a_inner, a_outer, a_name, a_flags, a_pkg, a_host, a_lists, a_to, a_hits, a_p2, a_h2, a_l2) (nI c) v2 v3 v4) (nI c) v2 (nI (v3.toBitVec.toNat % 65536)) (v4 &&& 65534) (nI q) a_rows a_pkgs a_hosts a_mems a_decl a_npkgs a_nhosts a_nmems a_ndecl := fun YW =>
      qx_set37 hc hw X6 (YW _ (qy_set29 hc Y2 (fun ls b1 b2 => ⟨rfl, qp_set hc1 hc hw hW hX hY b1 b2⟩)))
    refine br_f h1 (br_t h15 (nm_r (pk_char v3) (nm_e ?_)))
    by_cases z3 : (v3.toUInt32 % 65536).toInt32 = 0
    · exact br_t ((pk_char v3).symm.trans z3) (hgood (fun post h => br_f h1 (br_t h15 (br_t z3 h))))
    · have z3' : ¬ nI (v3.toBitVec.toNat % 65536) = 0 := fun h => z3 ((pk_char v3).trans h)
      by_cases z4 : v4 &&& 65534 = 0
      · exact br_f z3' (br_t z4 (hgood (fun post h => br_f h1 (br_t h15 (br_f z3 (br_t z4 h))))))
      · exact br_f z3' (br_f z4 (br_f h1 (br_t h15 (br_f z3 (br_f z4 ⟨rfl, J⟩)))))
  · exact br_f h1 (br_f h15 (br_f h1 (br_f h15 ⟨rfl, J⟩)))
theorem i_vc_addRow {k : Nat} {u : SX} {v : SY} (I : i_Rel k u v) (hk : k + 5 ≤ 2560) (v1 : Int32) (v2 : Int32) (v3 : Int32) (v4 : Int32) : wpX_addRow (fun r u' => wpY_addRow (fun r' v' => r' = r ∧ i_Rel (k + 5) u' v') v v1 v2 v3 v4) u v1 v2 v3 v4 := by
  have J : i_Rel (k + 5) u v := I
  obtain ⟨q, R, PK, HO, D, L, hW, hX, hY⟩ := I
  obtain ⟨f_count, a_rows, a_pkgs, a_hosts, a_mems, a_decl, a_npkgs, a_nhosts, a_nmems, a_ndecl⟩ := u
  obtain ⟨g_count, f_here, a_inner, a_outer, a_name, a_flags, a_pkg, a_host, a_lists, a_to, a_hits, a_p2, a_h2, a_l2⟩ := v
  obtain ⟨X1, X2, X3, X4, X5, X6⟩ := id hX
  obtain ⟨Y1, Y2, Y3, Y4, Y5, Y6, Y7⟩ := id hY
  subst X1 Y1
  have hq := hW.1
  have w1 : v1.toBitVec.toNat % 65536 < 65536 := Nat.mod_lt _ (by decide)
  have w2 : v2.toBitVec.toNat % 65536 < 65536 := Nat.mod_lt _ (by decide)
  have w3 : v3.toBitVec.toNat % 65536 < 65536 := Nat.mod_lt _ (by decide)
  have w4 : v4.toBitVec.toNat % 65536 < 65536 := Nat.mod_lt _ (by decide)
  have hgood : (∀ post : Int32 → SY → Prop, wY_addRow_21 post v1 v2 v3 v4 (nI q) f_here a_inner a_outer a_name a_flags a_pkg a_host a_lists a_to a_hits a_p2 a_h2 a_l2 → wpY_addRow post (nI q, f_here, a_inner, a_outer, a_name, a_flags, a_pkg, a_host, a_lists, a_to, a_hits, a_p2, a_h2, a_l2) v1 v2 v3 v4) → wX_addRow_33 (fun r u' => wpY_addRow (fun r' v' => r' = r ∧ i_Rel (k + 5) u' v') (nI q, f_here, a_inner, a_outer, a_name, a_flags, a_pkg, a_host, a_lists, a_to, a_hits, a_p2, a_h2, a_l2) v1 v2 v3 v4) v4 (nI (v1.toBitVec.toNat % 65536)) (nI (v2.toBitVec.toNat % 65536)) (nI (v3.toBitVec.toNat % 65536)) (nI q) a_rows a_pkgs a_hosts a_mems a_decl a_npkgs a_nhosts a_nmems a_ndecl := fun YW =>
    qx_add33 hq w1 w2 w3 (fun h => YW _ (qy_add21 hq (fun _ => ⟨rfl, J⟩) (fun h' => absurd h' (by omega)))) (fun h => YW _ (qy_add21 hq (fun h' => absurd h' (by omega)) (fun _ => ⟨rfl, qp_add w1 w2 w3 w4 h hW hX hY⟩)))
  refine nm_r (pk_char v1) (nm_r (pk_char v2) (nm_r (pk_char v3) ?_))
  by_cases z1 : (v1.toUInt32 % 65536).toInt32 = 0
  · exact br_t ((pk_char v1).symm.trans z1) (br_t z1 ⟨rfl, J⟩)
  have z1' : ¬ nI (v1.toBitVec.toNat % 65536) = 0 := fun h => z1 ((pk_char v1).trans h)
  by_cases z3 : (v3.toUInt32 % 65536).toInt32 = 0
  · by_cases z2 : (v2.toUInt32 % 65536).toInt32 = 0
    · exact br_f z1' (br_t ((pk_char v3).symm.trans z3) (br_t ((pk_char v2).symm.trans z2) (hgood (fun post h => br_f z1 (br_t z3 (br_t z2 h))))))
    · have z2' : ¬ nI (v2.toBitVec.toNat % 65536) = 0 := fun h => z2 ((pk_char v2).trans h)
      exact br_f z1' (br_t ((pk_char v3).symm.trans z3) (br_f z2' (br_f z1 (br_t z3 (br_f z2 ⟨rfl, J⟩)))))
  · have z3' : ¬ nI (v3.toBitVec.toNat % 65536) = 0 := fun h => z3 ((pk_char v3).trans h)
    exact br_f z1' (br_f z3' (hgood (fun post h => br_f z1 (br_f z3 h))))
theorem i_vc_fix {k : Nat} {u : SX} {v : SY} (I : i_Rel k u v) (hk : k + 5 ≤ 2560) (v1 : Int32) (a1 : Int64) : wpX_fix (fun r u' => wpY_fix (fun r' v' => r' = r ∧ i_Rel (k + 5) u' v') v v1 a1) u v1 a1 := by
  obtain ⟨q, R, PK, HO, D, L, hW, hX, hY⟩ := I
  obtain ⟨f_count, a_rows, a_pkgs, a_hosts, a_mems, a_decl, a_npkgs, a_nhosts, a_nmems, a_ndecl⟩ := u
  obtain ⟨g_count, f_here, a_inner, a_outer, a_name, a_flags, a_pkg, a_host, a_lists, a_to, a_hits, a_p2, a_h2, a_l2⟩ := v
  refine qx_fix hW hX (fun n1 => ?_) (fun ok n2 => ?_) (fun ok o u' hu => ?_)
  · exact qy_fix hW hY (fun _ v' hv => ⟨rfl, q, R, PK, HO, D, L, hW, hX, hv⟩) (fun ok => absurd ok n1) (fun ok => absurd ok n1)
  · exact qy_fix hW hY (fun n1 => absurd ok n1) (fun _ _ v' hv => ⟨rfl, q, R, PK, HO, D, L, hW, hX, hv⟩) (fun _ o => absurd o n2)
  · exact qy_fix hW hY (fun n1 => absurd ok n1) (fun _ n2 => absurd o n2) (fun _ _ v' hv => ⟨rfl, _, _, _, _, _, _, qp_Wn hW ok, hu, hv⟩)
theorem i_vc_hostOf {k : Nat} {u : SX} {v : SY} (I : i_Rel k u v) (hk : k + 5 ≤ 2560) (v1 : Int32) : wpX_hostOf (fun r => wpY_hostOf (fun r' => r' = r ∧ i_Rel (k + 5) u v) v v1) u v1 := by
  have J : i_Rel (k + 5) u v := I
  generalize i_Rel (k + 5) u v = P at J
  obtain ⟨q, R, PK, HO, D, L, hW, hX, hY⟩ := I
  obtain ⟨f_count, a_rows, a_pkgs, a_hosts, a_mems, a_decl, a_npkgs, a_nhosts, a_nmems, a_ndecl⟩ := u
  obtain ⟨g_count, f_here, a_inner, a_outer, a_name, a_flags, a_pkg, a_host, a_lists, a_to, a_hits, a_p2, a_h2, a_l2⟩ := v
  obtain ⟨X1, X2, X3, X4, X5, X6⟩ := id hX
  obtain ⟨Y1, Y2, Y3, Y4, Y5, Y6, Y7⟩ := id hY
  obtain ⟨W1, W2, W3, W4, W5, W6, W7, W8⟩ := id hW
  subst X1 Y1
  by_cases h1 : v1 < 1
  · exact br_t h1 (br_t h1 ⟨rfl, J⟩)
  by_cases h15 : 15 < v1
  · exact br_f h1 (br_t h15 (br_f h1 (br_t h15 (br_t rfl ⟨rfl, J⟩))))
  obtain ⟨c, hc1, hc, rfl⟩ := qz_rng h1 (Int32.not_lt.mp h15)
  have h31 : c < 2 ^ 31 := by omega
  have vc : vp_in (nI c) 16 := vp_in_nI hc (by omega)
  have hHc := W4 c hc
  refine br_f h1 (br_f h15 ⟨vc, qz_if (b := D c) ?_ (fun e => br_f h1 (qy_has h31 Y2 W7 (br_t ?_ ⟨rfl, J⟩))) (fun e => ⟨vc, nm_r (qz_at c rfl h31 (X4 c hc)) (pk_eq (HO c) 0 (fun z => ?_) (fun nz => qx_nest hc X3 X4 X5 X6 W4 ?_))⟩)⟩)
  · rw [nI_clamp h31, X6 c hc]; exact qz_b0
  · rw [e]; rfl
  · exact qy_hostOf hc1 hc hW hY e (fun _ => ⟨rfl, J⟩) (fun n => absurd z n) (fun n => absurd z n)
  · by_cases e0 : qz_nc PK HO D L c = 0
    · exact br_t e0 (qy_hostOf hc1 hc hW hY e (fun z => absurd z nz) (fun _ _ => ⟨rfl, J⟩) (fun _ n => absurd e0 n))
    · exact br_f e0 (qy_hostOf hc1 hc hW hY e (fun z => absurd z nz) (fun _ z => absurd z e0) (fun _ _ => ⟨rfl, J⟩))
theorem i_vc_verdictOf {k : Nat} {u : SX} {v : SY} (I : i_Rel k u v) (hk : k + 5 ≤ 2560) (v1 : Int32) : wpX_verdictOf (fun r => wpY_verdictOf (fun r' => r' = r ∧ i_Rel (k + 5) u v) v v1) u v1 := by
  have J : i_Rel (k + 5) u v := I
  generalize i_Rel (k + 5) u v = P at J
  obtain ⟨q, R, PK, HO, D, L, hW, hX, hY⟩ := I
  obtain ⟨f_count, a_rows, a_pkgs, a_hosts, a_mems, a_decl, a_npkgs, a_nhosts, a_nmems, a_ndecl⟩ := u
  obtain ⟨g_count, f_here, a_inner, a_outer, a_name, a_flags, a_pkg, a_host, a_lists, a_to, a_hits, a_p2, a_h2, a_l2⟩ := v
  obtain ⟨X1, X2, X3, X4, X5, X6⟩ := id hX
  obtain ⟨Y1, Y2, Y3, Y4, Y5, Y6, Y7⟩ := id hY
  obtain ⟨W1, W2, W3, W4, W5, W6, W7, W8⟩ := id hW
  subst X1 Y1
  by_cases h1 : v1 < 1
  · exact br_t h1 (br_t h1 ⟨rfl, J⟩)
  by_cases h15 : 15 < v1
  · exact br_f h1 (br_t h15 (br_f h1 (br_t h15 (br_t rfl ⟨rfl, J⟩))))
  obtain ⟨c, hc1, hc, rfl⟩ := qz_rng h1 (Int32.not_lt.mp h15)
  have h31 : c < 2 ^ 31 := by omega
  have vc : vp_in (nI c) 16 := vp_in_nI hc (by omega)
  refine br_f h1 (br_f h15 ⟨vc, qz_if (b := D c) ?_ (fun e => br_f h1 (qy_has h31 Y2 W7 (br_t ?_ ⟨rfl, J⟩))) (fun e => qx_nest hc X3 X4 X5 X6 W4 ?_)⟩)
  · rw [nI_clamp h31, X6 c hc]; exact qz_b0
  · rw [e]; rfl
  · by_cases e0 : qz_nc PK HO D L c = 0
    · refine br_t e0 ⟨q + 1, qx_v36 W1 W2 X2 (by omega) (fun p => ?_) (fun p => ?_) q 0 (by omega) (fun i hi => absurd hi (Nat.not_lt_zero i))⟩
      · exact qy_verdictOf hc1 hc hW hY e (fun n => absurd e0 n) (fun _ _ => ⟨rfl, J⟩) (fun _ n => absurd p n)
      · exact qy_verdictOf hc1 hc hW hY e (fun n => absurd e0 n) (fun _ p' => absurd p' p) (fun _ _ => ⟨rfl, J⟩)
    · exact br_f e0 (qy_verdictOf hc1 hc hW hY e (fun _ => ⟨rfl, J⟩) (fun z => absurd z e0) (fun z => absurd z e0))
theorem i_vc_rowAt {k : Nat} {u : SX} {v : SY} (I : i_Rel k u v) (hk : k + 5 ≤ 2560) (v1 : Int32) (v2 : Int32) : wpX_rowAt (fun r => wpY_rowAt (fun r' => r' = r ∧ i_Rel (k + 5) u v) v v1 v2) u v1 v2 := by
  have J : i_Rel (k + 5) u v := I
  generalize i_Rel (k + 5) u v = P at J
  obtain ⟨q, R, PK, HO, D, L, hW, hX, hY⟩ := I
  obtain ⟨f_count, a_rows, a_pkgs, a_hosts, a_mems, a_decl, a_npkgs, a_nhosts, a_nmems, a_ndecl⟩ := u
  obtain ⟨g_count, f_here, a_inner, a_outer, a_name, a_flags, a_pkg, a_host, a_lists, a_to, a_hits, a_p2, a_h2, a_l2⟩ := v
  obtain ⟨X1, X2, X3, X4, X5, X6⟩ := id hX
  obtain ⟨Y1, Y2, Y3, Y4, Y5, Y6, Y7⟩ := id hY
  obtain ⟨W1, W2, W3, W4, W5, W6, W7, W8⟩ := id hW
  subst X1 Y1
  by_cases h7 : v2 = 7
  · exact br_t h7 (br_t h7 ⟨rfl, J⟩)
  by_cases h0 : v2 < 0
  · exact br_f h7 (br_t h0 (qq_45 J hW hX hY (fun post h => br_f h7 (br_t h0 h))))
  by_cases h3 : 3 < v2
  · exact br_f h7 (br_f h0 (br_t h3 (qq_45 J hW hX hY (fun post h => br_f h7 (br_f h0 (br_t h3 h))))))
  by_cases g0 : v1 < 0
  · exact br_f h7 (br_f h0 (br_f h3 (br_t g0 (br_f h7 (br_f h0 (br_f h3 (br_t g0 ⟨rfl, J⟩)))))))
  by_cases gq : v1 < nI q
  · obtain ⟨j, hj, rfl⟩ := nI_of h0
    obtain ⟨r, hr, rfl⟩ := nI_of g0
    have hj4 : j < 4 := by
      rw [show (3 : Int32) = nI 3 from rfl, nI_ltI (by decide) hj] at h3
      omega
    have hrq : r < q := (nI_ltI hr (by omega)).mp gq
    refine br_f h7 (br_f h0 (br_f h3 (br_f g0 (br_t gq ⟨pk_in (r * 4 + j) 24 (by omega) (qz_m4 r j), ?_⟩))))
    refine qy_row03 hj4 hrq hW hY ⟨?_, J⟩
    exact (qz_at (r * 4 + j) (qz_m4 r j) (by omega) (X2 r hrq j hj4)).symm
  · exact br_f h7 (br_f h0 (br_f h3 (br_f g0 (br_f gq (br_f h7 (br_f h0 (br_f h3 (br_f g0 (br_f gq ⟨rfl, J⟩)))))))))
end
