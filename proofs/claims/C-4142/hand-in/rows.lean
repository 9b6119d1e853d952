section
/-! pure rows to paste: stores, nI and lN arithmetic, masks, shifts, narrowing, branches by naturals (pk_le, pk_lt, pk_eq), loops (lp1 .. lp16: the measure of the state; rp1 ..: recursion), negatives. Take what you need -/
theorem pk_us {f : Nat → Int32} {k : Nat} {x : Int32} : upd f k x k = x := if_pos rfl
theorem pk_un {f : Nat → Int32} {k j : Nat} {x : Int32} (h : j ≠ k) : upd f k x j = f j := if_neg h
theorem pk_uLs {f : Nat → Int64} {k : Nat} {x : Int64} : vp_updL f k x k = x := if_pos rfl
theorem pk_uLn {f : Nat → Int64} {k j : Nat} {x : Int64} (h : j ≠ k) : vp_updL f k x j = f j := if_neg h
theorem pk_sub {a b : Nat} (h : b ≤ a) : nI a - nI b = nI (a - b) := by
  obtain ⟨c, rfl⟩ : ∃ c, a = c + b := ⟨a - b, by omega⟩
  rw [← nI_add, Int32.add_sub_cancel, Nat.add_sub_cancel]
theorem pk_m1 (n : Nat) : nI (n + 1) + (-1) = nI n := by
  rw [← nI_1, Int32.add_assoc, show (1 : Int32) + (-1) = 0 from rfl, Int32.add_zero]
theorem pk_mul (a b : Nat) : nI a * nI b = nI (a * b) := (Int32.ofNat_mul a b).symm
theorem pk_div {a d : Nat} (ha : a < 2 ^ 31) (h0 : 0 < d) (hd : d < 2 ^ 31) : nI a / nI d = nI (a / d) := by
  apply Int32.toInt_inj.mp
  rw [lg_idiv_nonneg (by rw [nI_toInt ha]; omega) (by rw [nI_toInt hd]; omega), nI_toInt ha, nI_toInt hd, nI_toInt (Nat.lt_of_le_of_lt (Nat.div_le_self a d) ha)]
  first | rfl | exact (Int.natCast_ediv _ _).symm
theorem pk_rem {a d : Nat} (ha : a < 2 ^ 31) (h0 : 0 < d) (hd : d < 2 ^ 31) : nI a - nI a / nI d * nI d = nI (a % d) := by
  rw [pk_div ha h0 hd, pk_mul, pk_sub (Nat.div_mul_le_self a d)]
  exact congrArg nI (by have := Nat.div_add_mod' a d; omega)
theorem pk_sub_toInt {a b : Nat} (ha : a < 2 ^ 30) (hb : b < 2 ^ 30) : (nI a - nI b).toInt = (a : Int) - b := by
  rw [Int32.toInt_sub, nI_toInt (by omega), nI_toInt (by omega)]
  exact Int.bmod_eq_of_le (by omega) (by omega)
theorem pk_sneg {a b : Nat} (hb : b < 2 ^ 30) (h : a < b) : nI a - nI b < 0 := by
  rw [Int32.lt_iff_toInt_lt, pk_sub_toInt (by omega) hb, show (0 : Int32).toInt = 0 from by decide]
  omega
theorem pk_ix (x : Int32) {n : Nat} (hn : n < 2 ^ 31) : x < 0 ∨ nI n ≤ x ∨ ∃ j : Nat, j < n ∧ x = nI j := by
  by_cases h : x < 0
  · exact Or.inl h
  · obtain ⟨j, hj, rfl⟩ := nI_of h
    by_cases h2 : j < n
    · exact Or.inr (Or.inr ⟨j, h2, rfl⟩)
    · exact Or.inr (Or.inl (nI_le (by omega) hj))
theorem pk_le {x y : Int32} {A B : Prop} (a b : Nat) (f : a ≤ b → A) (g : b < a → B) (hx : x = nI a := by rfl) (hy : y = nI b := by rfl) (ha : a < 2 ^ 31 := by omega) (hb : b < 2 ^ 31 := by omega) : (x ≤ y → A) ∧ (¬ x ≤ y → B) := by
  subst hx hy
  rw [nI_leI ha hb]
  exact ⟨f, fun z => g (by omega)⟩
theorem pk_lt {x y : Int32} {A B : Prop} (a b : Nat) (f : a < b → A) (g : b ≤ a → B) (hx : x = nI a := by rfl) (hy : y = nI b := by rfl) (ha : a < 2 ^ 31 := by omega) (hb : b < 2 ^ 31 := by omega) : (x < y → A) ∧ (¬ x < y → B) := by
  subst hx hy
  rw [nI_ltI ha hb]
  exact ⟨f, fun z => g (by omega)⟩
theorem pk_eq {x y : Int32} {A B : Prop} (a b : Nat) (f : a = b → A) (g : a ≠ b → B) (hx : x = nI a := by rfl) (hy : y = nI b := by rfl) (ha : a < 2 ^ 31 := by omega) (hb : b < 2 ^ 31 := by omega) : (x = y → A) ∧ (¬ x = y → B) := by
  subst hx hy
  rw [nI_eq ha hb]
  exact ⟨f, g⟩
theorem pk_in {x : Int32} (n N : Nat) (h : n < N) (hx : x = nI n := by rfl) (hN : N < 2 ^ 31 := by omega) : vp_in x N := by
  subst hx
  exact vp_in_nI h hN
theorem pk_cl {x : Int32} (n : Nat) (hx : x = nI n := by rfl) (h : n < 2 ^ 31 := by omega) : x.toNatClampNeg = n := by
  subst hx
  exact nI_clamp h
theorem pk_tn {n : Nat} (h : n < 2 ^ 32) : (nI n).toBitVec.toNat = n := Nat.mod_eq_of_lt h
theorem pk_and (x : Int32) {m : Int32} (k : Nat) (hm : m.toBitVec.toNat = 2 ^ k - 1) : x &&& m = nI (x.toBitVec.toNat % 2 ^ k) := by
  apply Int32.toBitVec_inj.mp
  apply BitVec.eq_of_toNat_eq
  rw [Int32.toBitVec_and, BitVec.toNat_and, hm, Nat.and_two_pow_sub_one_eq_mod]
  show _ = (BitVec.ofNat 32 _).toNat
  rw [BitVec.toNat_ofNat]
  exact (Nat.mod_eq_of_lt (Nat.lt_of_le_of_lt (Nat.mod_le _ _) x.toBitVec.isLt)).symm
theorem pk_andN {n : Nat} (h : n < 2 ^ 32) {m : Int32} (k : Nat) (hm : m.toBitVec.toNat = 2 ^ k - 1) : nI n &&& m = nI (n % 2 ^ k) := by
  rw [pk_and _ k hm, pk_tn h]
theorem pk_andE (x : Int32) {m : Int32} (k : Nat) (hm : m.toBitVec.toNat = 2 ^ k - 1) : ∃ j : Nat, j < 2 ^ k ∧ x &&& m = nI j := ⟨_, Nat.mod_lt _ (Nat.two_pow_pos k), pk_and x k hm⟩
theorem pk_andIn (x : Int32) {m : Int32} (k : Nat) (hm : m.toBitVec.toNat = 2 ^ k - 1) (hk : k ≤ 30) : vp_in (x &&& m) (2 ^ k) := by
  obtain ⟨j, hj, e⟩ := pk_andE x k hm
  rw [e]
  exact vp_in_nI hj (Nat.lt_of_le_of_lt (Nat.pow_le_pow_right (by decide) hk) (by decide))
theorem pk_shl (a s : Int32) (k : Nat) (hs : (s.toBitVec.smod 32).toNat = k) : (a <<< s).toBitVec.toNat = a.toBitVec.toNat * 2 ^ k % 2 ^ 32 := by
  show (a.toBitVec <<< (s.toBitVec.smod 32).toNat).toNat = _
  rw [hs, BitVec.toNat_shiftLeft, Nat.shiftLeft_eq]
theorem pk_shlN {n : Nat} (s : Int32) (k : Nat) (hs : (s.toBitVec.smod 32).toNat = k) (h : n * 2 ^ k < 2 ^ 32) : nI n <<< s = nI (n * 2 ^ k) := by
  apply Int32.toBitVec_inj.mp
  apply BitVec.eq_of_toNat_eq
  have hn : n < 2 ^ 32 := Nat.lt_of_le_of_lt (Nat.le_mul_of_pos_right n (Nat.two_pow_pos k)) h
  rw [pk_shl _ _ k hs, pk_tn hn, pk_tn h, Nat.mod_eq_of_lt h]
theorem pk_shr (a s : Int32) (k : Nat) (hs : (s.toBitVec.smod 32).toNat = k) : (a >>> s).toInt = a.toInt >>> k := by
  show (a.toBitVec.sshiftRight (s.toBitVec.smod 32).toNat).toInt = _
  rw [hs, BitVec.toInt_sshiftRight]
  rfl
theorem pk_shrN {n : Nat} (h : n < 2 ^ 31) (s : Int32) (k : Nat) (hs : (s.toBitVec.smod 32).toNat = k) : nI n >>> s = nI (n / 2 ^ k) := by
  apply Int32.toInt_inj.mp
  have h2 : n / 2 ^ k ≤ n := Nat.div_le_self _ _
  rw [pk_shr _ _ k hs, nI_toInt h, nI_toInt (by omega), Int.shiftRight_eq_div_pow]
  rfl
theorem pk_ushr (x s : Int32) (k : Nat) (hs : ((s.toUInt32 &&& Int32.toUInt32 31).toBitVec % 32).toNat = k) : (x.toUInt32 >>> (s.toUInt32 &&& Int32.toUInt32 31)).toInt32.toBitVec.toNat = x.toBitVec.toNat / 2 ^ k := by
  have e : (x.toUInt32 >>> (s.toUInt32 &&& Int32.toUInt32 31)).toInt32.toBitVec = x.toBitVec >>> k := by
    rw [← hs]
    exact UInt32.toBitVec_shiftRight _ _
  rw [e, BitVec.toNat_ushiftRight, Nat.shiftRight_eq_div_pow]
theorem pk_ushrN {n : Nat} (hn : n < 2 ^ 32) (s : Int32) (k : Nat) (hs : ((s.toUInt32 &&& Int32.toUInt32 31).toBitVec % 32).toNat = k) : ((nI n).toUInt32 >>> (s.toUInt32 &&& Int32.toUInt32 31)).toInt32 = nI (n / 2 ^ k) := by
  apply Int32.toBitVec_inj.mp
  apply BitVec.eq_of_toNat_eq
  rw [pk_ushr _ s k hs, pk_tn hn, pk_tn (Nat.lt_of_le_of_lt (Nat.div_le_self _ _) hn)]
theorem pk_nb (z : Int32) : narrow .byte (.int z.toInt8.toInt32) = .int z.toInt8.toInt32 := congrArg Value.int (by simp)
theorem pk_ns (z : Int32) : narrow .short (.int z.toInt16.toInt32) = .int z.toInt16.toInt32 := congrArg Value.int (by simp)
theorem pk_fb (r : Int32) : fits .byte (.int r.toInt8.toInt32) = true := by
  have ⟨a, b⟩ := lg_i2b_range r
  have h1 : (-128 : Int32).toInt = -128 := by decide
  have h2 : (127 : Int32).toInt = 127 := by decide
  simp only [fits, Bool.and_eq_true, decide_eq_true_eq, Int32.le_iff_toInt_le, h1, h2]
  omega
theorem pk_fs (r : Int32) : fits .short (.int r.toInt16.toInt32) = true := by
  have ⟨a, b⟩ := lg_i2s_range r
  have h1 : (-32768 : Int32).toInt = -32768 := by decide
  have h2 : (32767 : Int32).toInt = 32767 := by decide
  simp only [fits, Bool.and_eq_true, decide_eq_true_eq, Int32.le_iff_toInt_le, h1, h2]
  omega
theorem pk_charN {q : Nat} (hq : q < 65536) : narrow .char (.int (nI q)) = .int (nI q) ∧ fits .char (.int (nI q)) = true := by
  constructor
  · have e : (nI q).toUInt32.toUInt16.toUInt32.toInt32 = nI q := by
      apply Int32.toBitVec_inj.mp
      apply BitVec.eq_of_toNat_eq
      show (nI q).toUInt32.toUInt16.toUInt32.toNat = q % 2 ^ 32
      rw [UInt16.toNat_toUInt32, UInt32.toNat_toUInt16, show (nI q).toUInt32.toNat = q % 2 ^ 32 from rfl]
      omega
    exact congrArg Value.int e
  · have a : (0 : Int32) ≤ nI q := nI_pos' (by omega)
    have b : nI q ≤ 65535 := nI_le (b := 65535) (by omega) (by decide)
    show (decide ((0 : Int32) ≤ nI q) && decide (nI q ≤ 65535)) = true
    rw [decide_eq_true a, decide_eq_true b]
    rfl
theorem pk_char (x : Int32) : (x.toUInt32 % 65536).toInt32 = nI (x.toBitVec.toNat % 65536) := by
  apply Int32.toBitVec_inj.mp
  apply BitVec.eq_of_toNat_eq
  rw [pk_tn (by omega)]
  show (x.toUInt32 % 65536).toNat = _
  rw [UInt32.toNat_mod]
  rfl
theorem pk_nc (x : Int32) : narrow .char (.int (x.toUInt32 % 65536).toInt32) = .int (x.toUInt32 % 65536).toInt32 := by
  rw [pk_char]
  exact (pk_charN (Nat.mod_lt _ (by decide))).1
theorem pk_fc (x : Int32) : fits .char (.int (x.toUInt32 % 65536).toInt32) = true := by
  rw [pk_char]
  exact (pk_charN (Nat.mod_lt _ (by decide))).2
theorem pk_vb (z : Int32) : vp_nar .byte z.toInt8.toInt32 = z.toInt8.toInt32 := by rw [vp_nar_byte]; simp
theorem pk_vs (z : Int32) : vp_nar .short z.toInt16.toInt32 = z.toInt16.toInt32 := by rw [vp_nar_short]; simp
theorem pk_vc (z : Int32) : vp_nar .char (z.toUInt32 % 65536).toInt32 = (z.toUInt32 % 65536).toInt32 := Value.int.inj (pk_nc z)
theorem pk_lT {n : Nat} (h : n < 2 ^ 63) : (lN n).toInt = (n : Int) := lg_ofNat_toInt h
theorem pk_lLT {a b : Nat} (ha : a < 2 ^ 63) (hb : b < 2 ^ 63) : lN a < lN b ↔ a < b := by
  rw [Int64.lt_iff_toInt_lt, pk_lT ha, pk_lT hb]; omega
theorem pk_lLE {a b : Nat} (ha : a < 2 ^ 63) (hb : b < 2 ^ 63) : lN a ≤ lN b ↔ a ≤ b := by
  rw [Int64.le_iff_toInt_le, pk_lT ha, pk_lT hb]; omega
theorem pk_lEQ {a b : Nat} (ha : a < 2 ^ 63) (hb : b < 2 ^ 63) : lN a = lN b ↔ a = b := by
  rw [← Int64.toInt_inj, pk_lT ha, pk_lT hb]; omega
theorem pk_lOf {x : Int64} (h : ¬ x < 0) : ∃ k : Nat, k < 2 ^ 63 ∧ x = lN k := by
  rw [Int64.lt_iff_toInt_lt] at h
  have h0 : (0 : Int64).toInt = 0 := by decide
  have hx := Int64.toInt_lt x
  refine ⟨x.toInt.toNat, by omega, Int64.toInt_inj.mp ?_⟩
  rw [pk_lT (by omega)]
  omega
theorem pk_lDiv {a b : Nat} (ha : a < 2 ^ 63) (h0 : 0 < b) (hb : b < 2 ^ 63) : lN a / lN b = lN (a / b) := by
  apply Int64.toInt_inj.mp
  rw [lg_ldiv_nonneg (by rw [pk_lT ha]; omega) (by rw [pk_lT hb]; omega), pk_lT ha, pk_lT hb, pk_lT (Nat.lt_of_le_of_lt (Nat.div_le_self a b) ha)]
  rfl
theorem pk_lRem {a b : Nat} (ha : a < 2 ^ 63) (h0 : 0 < b) (hb : b < 2 ^ 63) : lN a - lN a / lN b * lN b = lN (a % b) := by
  rw [pk_lDiv ha h0 hb, lN_mul, lN_sub (Nat.div_mul_le_self a b)]
  exact congrArg lN (by have := Nat.div_add_mod' a b; omega)
theorem pk_loop {σ : Type} (W : Nat → Nat → σ → Prop) (I : Nat → σ → Prop) (e i0 : Nat) (s : σ) (hi : i0 ≤ e) (h0 : I i0 s) (hx : ∀ n s, I e s → W (n + 1) e s)
    (hs : ∀ n i s, i < e → I i s → (∀ s', I (i + 1) s' → W n (i + 1) s') → W (n + 1) i s) : ∃ n, W n i0 s :=
  ⟨e + 1, loop_i W I e hx hs (e + 1) i0 s hi (by omega) h0⟩
theorem pk_loopD {σ : Type} (W : Nat → Nat → σ → Prop) (I : Nat → σ → Prop) (hx : ∀ n s, I 0 s → W (n + 1) 0 s)
    (hs : ∀ n i s, I (i + 1) s → (∀ s', I i s' → W n i s') → W (n + 1) (i + 1) s) : ∀ (e : Nat) (s : σ), I e s → W (e + 1) e s := by
  intro e
  induction e with
  | zero => exact fun s h => hx 0 s h
  | succ e ih => exact fun s h => hs (e + 1) e s h (fun s' h' => ih s' h')
/-! ===== Int32 by its bits: bt x i ===== -/
def bt (x : Int32) (i : Nat) : Bool := x.toBitVec.getLsbD i
theorem b_ext {x y : Int32} (h : ∀ i, i < 32 → bt x i = bt y i) : x = y := Int32.toBitVec_inj.mp (BitVec.eq_of_getLsbD_eq (fun i hi => h i hi))
theorem b_or (x y : Int32) (i : Nat) : bt (x ||| y) i = (bt x i || bt y i) := by unfold bt; rw [Int32.toBitVec_or, BitVec.getLsbD_or]
theorem b_and (x y : Int32) (i : Nat) : bt (x &&& y) i = (bt x i && bt y i) := by unfold bt; rw [Int32.toBitVec_and, BitVec.getLsbD_and]
theorem b_xor (x y : Int32) (i : Nat) : bt (x ^^^ y) i = (bt x i ^^ bt y i) := by unfold bt; rw [Int32.toBitVec_xor, BitVec.getLsbD_xor]
theorem b_big {x : Int32} {i : Nat} (h : 32 ≤ i) : bt x i = false := BitVec.getLsbD_of_ge _ _ h
theorem b_255 (i : Nat) : bt 255 i = decide (i < 8) := by
  rcases Nat.lt_or_ge i 32 with h | h
  · exact (by decide +kernel : ∀ i, i < 32 → bt 255 i = decide (i < 8)) i h
  · rw [b_big h, decide_eq_false (by omega)]
theorem b_65535 (i : Nat) : bt 65535 i = decide (i < 16) := by
  rcases Nat.lt_or_ge i 32 with h | h
  · exact (by decide +kernel : ∀ i, i < 32 → bt 65535 i = decide (i < 16)) i h
  · rw [b_big h, decide_eq_false (by omega)]
theorem b_m1 : ∀ i, i < 32 → bt (-1) i = true := by decide +kernel
theorem b_0 (i : Nat) : bt 0 i = false := BitVec.getLsbD_zero
theorem s_l : ∀ n, n < 32 → ((nI n &&& 31).toBitVec.smod 32).toNat = n := by decide +kernel
theorem s_u : ∀ n, n < 32 → (((nI n).toUInt32 &&& Int32.toUInt32 31).toBitVec % 32).toNat = n := by decide +kernel
theorem b_shl (n : Nat) (hn : n < 32) (x : Int32) {i : Nat} (hi : i < 32) : bt (x <<< (nI n &&& 31)) i = (decide (n ≤ i) && bt x (i - n)) := by
  unfold bt
  rw [Int32.toBitVec_shiftLeft]
  show (x.toBitVec <<< ((nI n &&& 31).toBitVec.smod 32).toNat).getLsbD i = _
  rw [s_l n hn, BitVec.getLsbD_shiftLeft]
  rcases Nat.lt_or_ge i n with h | h
  · simp [h, Nat.not_le.mpr h]
  · simp [hi, h, Nat.not_lt.mpr h]
theorem b_ushr (n : Nat) (hn : n < 32) (x : Int32) (i : Nat) : bt ((x.toUInt32 >>> ((nI n).toUInt32 &&& Int32.toUInt32 31)).toInt32) i = bt x (n + i) := by
  show (x.toUInt32 >>> ((nI n).toUInt32 &&& Int32.toUInt32 31)).toBitVec.getLsbD i = x.toUInt32.toBitVec.getLsbD (n + i)
  rw [UInt32.toBitVec_shiftRight]
  show (x.toUInt32.toBitVec >>> (((nI n).toUInt32 &&& Int32.toUInt32 31).toBitVec % 32).toNat).getLsbD i = _
  rw [s_u n hn, BitVec.getLsbD_ushiftRight]
theorem b_sshr (n : Nat) (hn : n < 32) (x : Int32) {i : Nat} (hi : i < 32) : bt (x >>> (nI n &&& 31)) i = if n + i < 32 then bt x (n + i) else bt x 31 := by
  unfold bt
  rw [Int32.toBitVec_shiftRight]
  show (x.toBitVec.sshiftRight ((nI n &&& 31).toBitVec.smod 32).toNat).getLsbD i = _
  rw [s_l n hn, BitVec.getLsbD_sshiftRight, BitVec.msb_eq_getLsbD_last]
  simp [hi]
theorem b_shl8 (x : Int32) {i : Nat} (hi : i < 32) : bt (x <<< ((8 : Int32) &&& 31)) i = (decide (8 ≤ i) && bt x (i - 8)) := b_shl 8 (by omega) x hi
theorem b_shl16 (x : Int32) {i : Nat} (hi : i < 32) : bt (x <<< ((16 : Int32) &&& 31)) i = (decide (16 ≤ i) && bt x (i - 16)) := b_shl 16 (by omega) x hi
theorem b_shl24 (x : Int32) {i : Nat} (hi : i < 32) : bt (x <<< ((24 : Int32) &&& 31)) i = (decide (24 ≤ i) && bt x (i - 24)) := b_shl 24 (by omega) x hi
theorem b_sshr8 (x : Int32) {i : Nat} (hi : i < 32) : bt (x >>> ((8 : Int32) &&& 31)) i = if 8 + i < 32 then bt x (8 + i) else bt x 31 := b_sshr 8 (by omega) x hi
/-! ===== lN n to 2^64: shifts, and, or, masks, one bit ===== -/
theorem wb_tb (n : Nat) : (lN n).toBitVec = BitVec.ofNat 64 n := rfl
theorem wb_inj {a b : Int64} (h : a.toBitVec = b.toBitVec) : a = b := Int64.toBitVec_inj.mp h
theorem wb_tn {n : Nat} (h : n < 2 ^ 64) : (lN n).toBitVec.toNat = n := by rw [wb_tb, BitVec.toNat_ofNat, Nat.mod_eq_of_lt h]
theorem wb_of (x : Int64) : ∃ n, n < 2 ^ 64 ∧ x = lN n := ⟨x.toBitVec.toNat, x.toBitVec.isLt, wb_inj (by rw [wb_tb]; simp)⟩
theorem wb_of32 (x : Int32) : ∃ n, n < 2 ^ 32 ∧ x = nI n := ⟨x.toBitVec.toNat, x.toBitVec.isLt, Int32.toBitVec_inj.mp (by show _ = BitVec.ofNat 32 _; simp)⟩
theorem wb_c : ∀ k, k < 64 → ((nI k).toInt64 &&& 63) = lN k := by decide +kernel
theorem wb_cu : ∀ k, k < 64 → ((nI k).toInt64.toUInt64 &&& Int64.toUInt64 63) = UInt64.ofNat k := by decide +kernel
theorem wb_sm : ∀ k, k < 64 → (BitVec.ofNat 64 k).smod 64 = BitVec.ofNat 64 k := by decide +kernel
theorem wb_pw {a b : Nat} (h : a ≤ b) : 2 ^ b = 2 ^ a * 2 ^ (b - a) := by rw [← Nat.pow_add]; congr 1; omega
theorem wb_lt2 {a b : Nat} (h : a < b) : 2 ^ a < 2 ^ b := Nat.pow_lt_pow_right (by decide) h
theorem wb_mod (n : Nat) : lN n = lN (n % 2 ^ 64) := wb_inj (by rw [wb_tb, wb_tb]; apply BitVec.eq_of_toNat_eq; rw [BitVec.toNat_ofNat, BitVec.toNat_ofNat, Nat.mod_mod])
theorem wb_shr {n k : Nat} (hn : n < 2 ^ 64) (hk : k < 64) : ((lN n).toUInt64 >>> ((nI k).toInt64.toUInt64 &&& Int64.toUInt64 63)).toInt64 = lN (n / 2 ^ k) := by
  rw [wb_cu k hk]
  apply wb_inj
  apply BitVec.eq_of_toNat_eq
  show ((lN n).toUInt64 >>> UInt64.ofNat k).toNat = (BitVec.ofNat 64 _).toNat
  have h1 : (UInt64.ofNat k).toNat = k := by
    show (BitVec.ofNat 64 k).toNat = k
    rw [BitVec.toNat_ofNat, Nat.mod_eq_of_lt (by omega)]
  have h2 : (lN n).toUInt64.toNat = n := wb_tn hn
  rw [UInt64.toNat_shiftRight, h1, h2, Nat.mod_eq_of_lt hk, Nat.shiftRight_eq_div_pow, BitVec.toNat_ofNat, Nat.mod_eq_of_lt (Nat.lt_of_le_of_lt (Nat.div_le_self _ _) hn)]
theorem wb_shl (n : Nat) {k : Nat} (hk : k < 64) : lN n <<< ((nI k).toInt64 &&& 63) = lN (n * 2 ^ k) := by
  rw [wb_c k hk]
  apply wb_inj
  rw [Int64.toBitVec_shiftLeft, wb_tb, wb_tb, wb_tb, wb_sm k hk]
  apply BitVec.eq_of_toNat_eq
  rw [BitVec.shiftLeft_eq', BitVec.toNat_shiftLeft, BitVec.toNat_ofNat, BitVec.toNat_ofNat, BitVec.toNat_ofNat, Nat.mod_eq_of_lt (show k < 2 ^ 64 by omega), Nat.shiftLeft_eq, Nat.mul_mod, Nat.mod_mod, ← Nat.mul_mod]
theorem wb_and {a b : Nat} (ha : a < 2 ^ 64) (hb : b < 2 ^ 64) : lN a &&& lN b = lN (a &&& b) := by
  apply wb_inj
  rw [Int64.toBitVec_and, wb_tb, wb_tb, wb_tb]
  apply BitVec.eq_of_toNat_eq
  rw [BitVec.toNat_and, BitVec.toNat_ofNat, BitVec.toNat_ofNat, BitVec.toNat_ofNat, Nat.mod_eq_of_lt ha, Nat.mod_eq_of_lt hb, Nat.mod_eq_of_lt (Nat.and_lt_two_pow _ hb)]
theorem wb_or {a b : Nat} (ha : a < 2 ^ 64) (hb : b < 2 ^ 64) : lN a ||| lN b = lN (a ||| b) := by
  apply wb_inj
  rw [Int64.toBitVec_or, wb_tb, wb_tb, wb_tb]
  apply BitVec.eq_of_toNat_eq
  rw [BitVec.toNat_or, BitVec.toNat_ofNat, BitVec.toNat_ofNat, BitVec.toNat_ofNat, Nat.mod_eq_of_lt ha, Nat.mod_eq_of_lt hb, Nat.mod_eq_of_lt (Nat.or_lt_two_pow ha hb)]
theorem wb_mask {n k : Nat} (hn : n < 2 ^ 64) (hk : k < 64) : lN n &&& lN (2 ^ k - 1) = lN (n % 2 ^ k) := by
  rw [wb_and hn (by have := wb_lt2 hk; omega), Nat.and_two_pow_sub_one_eq_mod]
theorem wb_a1 {n : Nat} (hn : n < 2 ^ 64) : lN n &&& 1 = lN (n % 2) := wb_mask (k := 1) hn (by decide)
theorem wb_bit {n k : Nat} (hn : n < 2 ^ 64) (hk : k < 64) : ((lN n).toUInt64 >>> ((nI k).toInt64.toUInt64 &&& Int64.toUInt64 63)).toInt64 &&& 1 = lN (n / 2 ^ k % 2) := by
  rw [wb_shr hn hk, wb_a1 (Nat.lt_of_le_of_lt (Nat.div_le_self _ _) hn)]
theorem wb_xor {q k : Nat} (hk : k < 63) (h : 2 ^ k ≤ q) (h2 : q < 2 ^ (k + 1)) : lN q ^^^ lN (2 ^ k) = lN (q - 2 ^ k) := by
  obtain ⟨r, rfl⟩ : ∃ r, q = 2 ^ k + r := ⟨q - 2 ^ k, by omega⟩
  have hr : r < 2 ^ k := by rw [Nat.pow_succ] at h2; omega
  have hx : (2 ^ k + r) ^^^ 2 ^ k = r := by
    apply Nat.eq_of_testBit_eq
    intro i
    rw [Nat.testBit_xor, Nat.testBit_two_pow]
    rcases Nat.lt_trichotomy i k with h | h | h
    · rw [Nat.testBit_two_pow_add_gt h]
      simp [show ¬ k = i by omega]
    · subst h
      rw [Nat.testBit_two_pow_add_eq]
      simp
    · have a1 : 2 ^ (k + 1) ≤ 2 ^ i := Nat.pow_le_pow_right (by decide) h
      rw [Nat.testBit_lt_two_pow (show 2 ^ k + r < 2 ^ i by omega), Nat.testBit_lt_two_pow (show r < 2 ^ i by omega)]
      simp [show ¬ k = i by omega]
  have b1 := wb_lt2 (show k + 1 < 64 by omega)
  have b2 := wb_lt2 (show k < 64 by omega)
  apply wb_inj
  rw [Int64.toBitVec_xor, wb_tb, wb_tb, wb_tb]
  apply BitVec.eq_of_toNat_eq
  rw [BitVec.toNat_xor, BitVec.toNat_ofNat, BitVec.toNat_ofNat, BitVec.toNat_ofNat, Nat.mod_eq_of_lt (by omega : 2 ^ k + r < 2 ^ 64), Nat.mod_eq_of_lt b2, hx, Nat.add_sub_cancel_left, Nat.mod_eq_of_lt (by omega)]
end
section
/-! ===== lists of objects, block by block (no program in sight) ===== -/
def ro_sum (f : Nat → Nat) : Nat → Nat
  | 0 => 0
  | n + 1 => ro_sum f n + f n
def ro_cat {α : Type} (f : Nat → List α) : Nat → List α
  | 0 => []
  | n + 1 => ro_cat f n ++ f n
def ro_at (o : List Nat) (i : Nat) : Nat := (o[i]?).getD 0
theorem ro_sum_le {f : Nat → Nat} {a b : Nat} (h : a ≤ b) : ro_sum f a ≤ ro_sum f b := by
  induction b with
  | zero => rw [Nat.le_zero.mp h]; exact Nat.le_refl _
  | succ b ih =>
    rcases Nat.lt_or_ge b a with h1 | h1
    · rw [show a = b + 1 by omega]; exact Nat.le_refl _
    · exact Nat.le_trans (ih h1) (Nat.le_add_right _ _)
theorem ro_sum_lt {f : Nat → Nat} {a b : Nat} (h : a < b) : ro_sum f a + f a ≤ ro_sum f b := ro_sum_le (f := f) (a := a + 1) h
theorem ro_sum_eq {f g : Nat → Nat} {m : Nat} (h : ∀ x, x < m → f x = g x) : ro_sum f m = ro_sum g m := by
  induction m with
  | zero => rfl
  | succ m ih =>
    show ro_sum f m + f m = ro_sum g m + g m
    rw [ih (fun x hx => h x (by omega)), h m (by omega)]
theorem ro_sum_z {f : Nat → Nat} {a b : Nat} (hab : a ≤ b) (h : ∀ x, a ≤ x → x < b → f x = 0) : ro_sum f b = ro_sum f a := by
  induction b with
  | zero => rw [Nat.le_zero.mp hab]
  | succ b ih =>
    rcases Nat.lt_or_ge b a with h1 | h1
    · rw [show a = b + 1 by omega]
    · show ro_sum f b + f b = ro_sum f a
      rw [ih h1 (fun x h2 h3 => h x h2 (by omega)), h b h1 (by omega), Nat.add_zero]
theorem ro_sum_rm {f g : Nat → Nat} {x : Nat} (h : ∀ y, y ≠ x → f y = g y) (hx : f x = g x + 1) : ∀ m, x < m → ro_sum f m = ro_sum g m + 1 := by
  intro m
  induction m with
  | zero => intro h0; omega
  | succ m ih =>
    intro hm
    show ro_sum f m + f m = ro_sum g m + g m + 1
    rcases Nat.lt_or_ge x m with h1 | h1
    · rw [ih h1, h m (by omega)]; omega
    · have e : x = m := by omega
      subst e
      rw [hx, ro_sum_eq (f := f) (g := g) (fun y hy => h y (by omega))]; omega
theorem ro_sum_mul (c : Nat → Prop) [DecidablePred c] (a : Nat) : ∀ m, ro_sum (fun x => if c x then a else 0) m = ro_sum (fun x => if c x then 1 else 0) m * a := by
  intro m
  induction m with
  | zero => exact (Nat.zero_mul a).symm
  | succ m ih =>
    show ro_sum (fun x => if c x then a else 0) m + (if c m then a else 0) = (ro_sum (fun x => if c x then 1 else 0) m + (if c m then 1 else 0)) * a
    rw [ih, Nat.add_mul]
    by_cases h : c m
    · rw [if_pos h, if_pos h, Nat.one_mul]
    · rw [if_neg h, if_neg h, Nat.zero_mul]
theorem ro_sum_pos {f : Nat → Nat} : ∀ m, 0 < ro_sum f m → ∃ x, x < m ∧ 0 < f x := by
  intro m
  induction m with
  | zero => intro h; exact absurd h (Nat.lt_irrefl 0)
  | succ m ih =>
    intro h
    by_cases h0 : 0 < f m
    · exact ⟨m, by omega, h0⟩
    · have h1 : ro_sum f (m + 1) = ro_sum f m + f m := rfl
      obtain ⟨x, hx, hf⟩ := ih (by omega)
      exact ⟨x, by omega, hf⟩
theorem ro_cat_len {α : Type} (f : Nat → List α) : ∀ n, (ro_cat f n).length = ro_sum (fun x => (f x).length) n := by
  intro n
  induction n with
  | zero => rfl
  | succ n ih =>
    show (ro_cat f n ++ f n).length = ro_sum (fun x => (f x).length) n + (f n).length
    rw [List.length_append, ih]
theorem ro_cat_get {α : Type} (f : Nat → List α) {x t : Nat} (ht : t < (f x).length) : ∀ n, x < n → (ro_cat f n)[ro_sum (fun x => (f x).length) x + t]? = (f x)[t]? := by
  intro n
  induction n with
  | zero => intro h; omega
  | succ n ih =>
    intro h
    show (ro_cat f n ++ f n)[ro_sum (fun x => (f x).length) x + t]? = _
    rcases Nat.lt_or_ge x n with h1 | h1
    · have h2 := ro_sum_lt (f := fun x => (f x).length) h1
      have h3 := ro_cat_len f n
      have h4 : ro_sum (fun x => (f x).length) x + (f x).length ≤ ro_sum (fun x => (f x).length) n := h2
      rw [List.getElem?_append_left (by omega)]
      exact ih h1
    · have e : x = n := by omega
      subst e
      rw [List.getElem?_append_right (by rw [ro_cat_len]; omega), ro_cat_len, Nat.add_sub_cancel_left]
theorem ro_cat_dec {α : Type} (f : Nat → List α) {t : Nat} : ∀ n, t < (ro_cat f n).length → ∃ x t', x < n ∧ t' < (f x).length ∧ t = ro_sum (fun x => (f x).length) x + t' := by
  intro n
  induction n with
  | zero => intro h; exact absurd h (Nat.not_lt_zero _)
  | succ n ih =>
    intro h
    rcases Nat.lt_or_ge t (ro_cat f n).length with h1 | h1
    · obtain ⟨x, t', a, b, c⟩ := ih h1
      exact ⟨x, t', by omega, b, c⟩
    · have h2 : (ro_cat f (n + 1)).length = (ro_cat f n).length + (f n).length := List.length_append
      have h3 := ro_cat_len f n
      exact ⟨n, t - (ro_cat f n).length, by omega, by omega, by omega⟩
theorem ro_cat_flat {α β : Type} (f : Nat → List α) (E : α → List β) : ∀ n, (ro_cat f n).flatMap E = ro_cat (fun x => (f x).flatMap E) n := by
  intro n
  induction n with
  | zero => rfl
  | succ n ih =>
    show (ro_cat f n ++ f n).flatMap E = ro_cat (fun x => (f x).flatMap E) n ++ (f n).flatMap E
    rw [List.flatMap_append, ih]
theorem ro_cat_eq {α : Type} {f g : Nat → List α} {m : Nat} (h : ∀ x, x < m → f x = g x) : ro_cat f m = ro_cat g m := by
  induction m with
  | zero => rfl
  | succ m ih =>
    show ro_cat f m ++ f m = ro_cat g m ++ g m
    rw [ih (fun x hx => h x (by omega)), h m (by omega)]
theorem ro_snoc {P : List Nat → Prop} (h0 : P []) (hs : ∀ p x, P p → P (p ++ [x])) : ∀ p, P p := by
  intro p
  have h : ∀ q : List Nat, P q.reverse := by
    intro q
    induction q with
    | nil => exact h0
    | cons a q ih => rw [List.reverse_cons]; exact hs _ _ ih
  have h1 := h p.reverse
  rwa [List.reverse_reverse] at h1
theorem ro_at_l {p q : List Nat} {i : Nat} (h : i < p.length) : ro_at (p ++ q) i = ro_at p i := by
  unfold ro_at
  rw [List.getElem?_append_left h]
theorem ro_at_s (p : List Nat) (x : Nat) : ro_at (p ++ [x]) p.length = x := by
  unfold ro_at
  rw [List.getElem?_concat_length]
  rfl
theorem ro_take_s {o : List Nat} {i : Nat} (h : i < o.length) : o.take (i + 1) = o.take i ++ [ro_at o i] := by
  rw [List.take_succ]
  unfold ro_at
  rw [List.getElem?_eq_getElem h]
  rfl
theorem ro_at_take {o : List Nat} {i j : Nat} (h : j < i) : ro_at (o.take i) j = ro_at o j := by
  unfold ro_at
  rw [List.getElem?_take_of_lt h]
theorem ro_len_take {o : List Nat} {i : Nat} (h : i ≤ o.length) : (o.take i).length = i := by
  rw [List.length_take, Nat.min_eq_left h]
theorem ro_take_take {o : List Nat} {i j : Nat} (h : j ≤ i) : (o.take i).take j = o.take j := by
  rw [List.take_take, Nat.min_eq_left h]
/-- equal digits, equal lengths -/
theorem ro_ext {o q : List Nat} (hl : o.length = q.length) (h : ∀ i, i < o.length → ro_at o i = ro_at q i) : o = q := by
  apply List.ext_getElem?
  intro i
  rcases Nat.lt_or_ge i o.length with h1 | h1
  · have h2 := h i h1
    unfold ro_at at h2
    rw [List.getElem?_eq_getElem h1, List.getElem?_eq_getElem (by omega : i < q.length)] at h2 ⊢
    exact congrArg some h2
  · rw [List.getElem?_eq_none h1, List.getElem?_eq_none (by omega : q.length ≤ i)]
/-! ===== the list of all extensions ===== -/
def ro_LL (G : List Nat → Nat → Bool) : Nat → List Nat → List (List Nat)
  | 0 => fun p => [p]
  | s + 1 => fun p => ro_cat (fun x => if G p x = true then ro_LL G s (p ++ [x]) else []) 8
def ro_bk (G : List Nat → Nat → Bool) (s : Nat) (p : List Nat) (x : Nat) : List (List Nat) := if G p x = true then ro_LL G s (p ++ [x]) else []
def ro_ww (G : List Nat → Nat → Bool) (s : Nat) (p : List Nat) (x : Nat) : Nat := (ro_bk G s p x).length
def ro_SW (G : List Nat → Nat → Bool) (s : Nat) (p : List Nat) (x : Nat) : Nat := ro_sum (ro_ww G s p) x
def ro_E (G : List Nat → Nat → Bool) (p : List Nat) : List (List Nat) := ro_cat (fun x => if G p x = true then [p ++ [x]] else []) 8
def ro_V (G : List Nat → Nat → Bool) (p : List Nat) : Prop := ∀ i, i < p.length → ro_at p i < 8 ∧ G (p.take i) (ro_at p i) = true
def ro_bs (G : List Nat → Nat → Bool) (L : Nat) (o : List Nat) : Nat → Nat
  | 0 => 0
  | i + 1 => ro_bs G L o i + ro_SW G (L - i - 1) (o.take i) (ro_at o i)
section
variable {G : List Nat → Nat → Bool}
theorem ro_LL_s (s : Nat) (p : List Nat) : ro_LL G (s + 1) p = ro_cat (ro_bk G s p) 8 := rfl
theorem ro_bk_t {s x : Nat} {p : List Nat} (h : G p x = true) : ro_bk G s p x = ro_LL G s (p ++ [x]) := if_pos h
theorem ro_bk_f {s x : Nat} {p : List Nat} (h : ¬ G p x = true) : ro_bk G s p x = [] := if_neg h
theorem ro_ww_t {s x : Nat} {p : List Nat} (h : G p x = true) : ro_ww G s p x = (ro_LL G s (p ++ [x])).length := by
  unfold ro_ww
  rw [ro_bk_t h]
theorem ro_ww_f {s x : Nat} {p : List Nat} (h : ¬ G p x = true) : ro_ww G s p x = 0 := by
  unfold ro_ww
  rw [ro_bk_f h]
  rfl
theorem ro_ww_g {s x : Nat} {p : List Nat} (h : ro_ww G s p x ≠ 0) : G p x = true := by
  by_cases g : G p x = true
  · exact g
  · exact absurd (ro_ww_f g) h
theorem ro_SW_s (s : Nat) (p : List Nat) (x : Nat) : ro_SW G s p (x + 1) = ro_SW G s p x + ro_ww G s p x := rfl
theorem ro_LL_len (s : Nat) (p : List Nat) : (ro_LL G (s + 1) p).length = ro_SW G s p 8 := by
  rw [ro_LL_s, ro_cat_len]
  rfl
theorem ro_LL_get {s x t : Nat} {p : List Nat} (hx : x < 8) (ht : t < ro_ww G s p x) : (ro_LL G (s + 1) p)[ro_SW G s p x + t]? = (ro_LL G s (p ++ [x]))[t]? := by
  have g : G p x = true := ro_ww_g (s := s) (by omega)
  rw [ro_LL_s]
  have h := ro_cat_get (ro_bk G s p) (x := x) (t := t) ht 8 hx
  rw [ro_bk_t g] at h
  exact h
theorem ro_LL_dec {s t : Nat} {p : List Nat} (h : t < (ro_LL G (s + 1) p).length) : ∃ x t', x < 8 ∧ G p x = true ∧ t' < ro_ww G s p x ∧ t = ro_SW G s p x + t' ∧ (ro_LL G (s + 1) p)[t]? = (ro_LL G s (p ++ [x]))[t']? := by
  obtain ⟨x, t', hx, h1, e⟩ := ro_cat_dec (ro_bk G s p) 8 h
  have h2 : t' < ro_ww G s p x := h1
  have e2 : t = ro_SW G s p x + t' := e
  refine ⟨x, t', hx, ro_ww_g (s := s) (by omega), h2, e2, ?_⟩
  rw [e2]
  exact ro_LL_get hx h2
theorem ro_V_nil : ro_V G [] := fun i hi => absurd hi (Nat.not_lt_zero i)
theorem ro_V_snoc {p : List Nat} {x : Nat} (h : ro_V G p) (hx : x < 8) (g : G p x = true) : ro_V G (p ++ [x]) := by
  intro i hi
  rw [List.length_append] at hi
  have hi' : i < p.length + 1 := hi
  rcases Nat.lt_or_ge i p.length with h1 | h1
  · rw [ro_at_l h1, List.take_append_of_le_length (Nat.le_of_lt h1)]
    exact h i h1
  · have e : i = p.length := by omega
    subst e
    rw [ro_at_s, List.take_left]
    exact ⟨hx, g⟩
theorem ro_V_inv {p : List Nat} {x : Nat} (h : ro_V G (p ++ [x])) : ro_V G p ∧ x < 8 ∧ G p x = true := by
  refine ⟨fun i hi => ?_, ?_⟩
  · have h1 := h i (by rw [List.length_append]; omega)
    rw [ro_at_l hi, List.take_append_of_le_length (Nat.le_of_lt hi)] at h1
    exact h1
  · have h1 := h p.length (by rw [List.length_append]; exact Nat.lt_succ_self _)
    rw [ro_at_s, List.take_left] at h1
    exact h1
theorem ro_V_take {o : List Nat} (h : ro_V G o) (i : Nat) : ro_V G (o.take i) := by
  intro j hj
  have h1 : j < i ∧ j < o.length := by rw [List.length_take] at hj; omega
  rw [ro_at_take h1.1, ro_take_take (Nat.le_of_lt h1.1)]
  exact h j h1.2
theorem ro_LL_in : ∀ (s : Nat) (p : List Nat) (t : Nat) (o : List Nat), (ro_LL G s p)[t]? = some o → o.length = p.length + s ∧ o.take p.length = p ∧ (ro_V G p → ro_V G o) := by
  intro s
  induction s with
  | zero =>
    intro p t o h
    have h1 : o ∈ ro_LL G 0 p := List.mem_of_getElem? h
    have e : o = p := List.mem_singleton.mp h1
    subst e
    exact ⟨rfl, List.take_length, id⟩
  | succ s ih =>
    intro p t o h
    obtain ⟨hl, _⟩ := List.getElem?_eq_some_iff.mp h
    obtain ⟨x, t', hx, g, _, _, e⟩ := ro_LL_dec hl
    rw [e] at h
    obtain ⟨h1, h2, h3⟩ := ih _ _ _ h
    have hlen : (p ++ [x]).length = p.length + 1 := List.length_append
    refine ⟨by omega, ?_, fun hv => h3 (ro_V_snoc hv hx g)⟩
    have h4 : (o.take (p ++ [x]).length).take p.length = o.take p.length := ro_take_take (by omega)
    rw [h2, List.take_left] at h4
    exact h4.symm
/-- the place of a block in the whole list -/
theorem ro_blk {L : Nat} {o : List Nat} (hv : ro_V G o) : ∀ i, i ≤ L → i ≤ o.length → ro_bs G L o i + (ro_LL G (L - i) (o.take i)).length ≤ (ro_LL G L []).length ∧ ∀ t, t < (ro_LL G (L - i) (o.take i)).length → (ro_LL G L [])[ro_bs G L o i + t]? = (ro_LL G (L - i) (o.take i))[t]? := by
  intro i
  induction i with
  | zero =>
    intro _ _
    refine ⟨?_, fun t _ => ?_⟩
    · show 0 + (ro_LL G L (o.take 0)).length ≤ _
      rw [List.take_zero]; omega
    · show (ro_LL G L [])[0 + t]? = (ro_LL G L (o.take 0))[t]?
      rw [List.take_zero, Nat.zero_add]
  | succ i ih =>
    intro h1 h2
    obtain ⟨hA, hB⟩ := ih (by omega) (by omega)
    obtain ⟨s, hs⟩ : ∃ s, L - i = s + 1 := ⟨L - i - 1, by omega⟩
    have hs1 : L - (i + 1) = s := by omega
    have hs2 : L - i - 1 = s := by omega
    obtain ⟨hx, hg⟩ := hv i (by omega)
    have e1 : ro_bs G L o (i + 1) = ro_bs G L o i + ro_SW G s (o.take i) (ro_at o i) := by
      show ro_bs G L o i + ro_SW G (L - i - 1) (o.take i) (ro_at o i) = _
      rw [hs2]
    have e2 : ro_ww G s (o.take i) (ro_at o i) = (ro_LL G s (o.take (i + 1))).length := by
      rw [ro_ww_t hg, ro_take_s (by omega)]
    have h3 : ro_SW G s (o.take i) (ro_at o i) + ro_ww G s (o.take i) (ro_at o i) ≤ ro_SW G s (o.take i) 8 := ro_sum_lt hx
    rw [hs, ro_LL_len] at hA
    rw [hs1, e1]
    refine ⟨by omega, fun t ht => ?_⟩
    have h4 := hB (ro_SW G s (o.take i) (ro_at o i) + t) (by rw [hs, ro_LL_len]; omega)
    rw [hs, ro_LL_get hx (by omega), ← ro_take_s (by omega)] at h4
    rw [Nat.add_assoc]
    exact h4
/-- every object lies in the block of each of its beginnings -/
theorem ro_dec {L t : Nat} {o : List Nat} (h : (ro_LL G L [])[t]? = some o) : ∀ i, i ≤ L → ro_bs G L o i ≤ t ∧ t - ro_bs G L o i < (ro_LL G (L - i) (o.take i)).length ∧ (ro_LL G (L - i) (o.take i))[t - ro_bs G L o i]? = some o := by
  have hlen : o.length = 0 + L := (ro_LL_in L [] t o h).1
  intro i
  induction i with
  | zero =>
    intro _
    have h0 : ro_bs G L o 0 = 0 := rfl
    rw [h0, List.take_zero, Nat.sub_zero, Nat.sub_zero]
    exact ⟨Nat.zero_le _, (List.getElem?_eq_some_iff.mp h).1, h⟩
  | succ i ih =>
    intro h1
    obtain ⟨hA, hB, hC⟩ := ih (by omega)
    obtain ⟨s, hs⟩ : ∃ s, L - i = s + 1 := ⟨L - i - 1, by omega⟩
    have hs1 : L - (i + 1) = s := by omega
    have hs2 : L - i - 1 = s := by omega
    rw [hs] at hB hC
    obtain ⟨x, t', hx, g, ht', et, e⟩ := ro_LL_dec hB
    rw [e] at hC
    have h2 := (ro_LL_in _ _ _ _ hC).2.1
    have hl : (o.take i ++ [x]).length = i + 1 := by
      rw [List.length_append, ro_len_take (by omega)]; rfl
    rw [hl, ro_take_s (by omega)] at h2
    have ex : ro_at o i = x := by
      have h3 := List.append_cancel_left h2
      exact (List.cons.inj h3).1
    have e1 : ro_bs G L o (i + 1) = ro_bs G L o i + ro_SW G s (o.take i) x := by
      show ro_bs G L o i + ro_SW G (L - i - 1) (o.take i) (ro_at o i) = _
      rw [hs2, ex]
    have e2 : o.take (i + 1) = o.take i ++ [x] := by rw [ro_take_s (by omega), ex]
    rw [ro_ww_t g] at ht'
    rw [hs1, e1, e2]
    have e3 : t - (ro_bs G L o i + ro_SW G s (o.take i) x) = t' := by omega
    rw [e3]
    exact ⟨by omega, ht', hC⟩
theorem ro_dec_all {L t : Nat} {o : List Nat} (h : (ro_LL G L [])[t]? = some o) : t = ro_bs G L o L := by
  have hlen : o.length = 0 + L := (ro_LL_in L [] t o h).1
  obtain ⟨hA, hB, _⟩ := ro_dec h L (Nat.le_refl L)
  rw [Nat.sub_self] at hB
  have h1 : (ro_LL G 0 (o.take L)).length = 1 := rfl
  omega
theorem ro_find {L : Nat} {o : List Nat} (hv : ro_V G o) (hl : o.length = L) : (ro_LL G L [])[ro_bs G L o L]? = some o := by
  obtain ⟨_, hB⟩ := ro_blk (L := L) hv L (Nat.le_refl L) (by omega)
  rw [Nat.sub_self] at hB
  have h1 := hB 0 Nat.one_pos
  rw [Nat.add_zero] at h1
  rw [h1]
  show (([o.take L] : List (List Nat)))[0]? = some o
  rw [← hl, List.take_length]
  rfl
theorem ro_bs_take {L : Nat} {o q : List Nat} : ∀ i, o.take i = q.take i → i ≤ o.length → i ≤ q.length → ro_bs G L o i = ro_bs G L q i := by
  intro i
  induction i with
  | zero => intro _ _ _; rfl
  | succ i ih =>
    intro h h1 h2
    have e1 : o.take i = q.take i := by
      have h3 := congrArg (List.take i) h
      rw [ro_take_take (by omega), ro_take_take (by omega)] at h3
      exact h3
    have e2 : ro_at o i = ro_at q i := by
      rw [← ro_at_take (o := o) (Nat.lt_succ_self i), ← ro_at_take (o := q) (Nat.lt_succ_self i)]
      exact congrArg (fun l => ro_at l i) h
    show ro_bs G L o i + ro_SW G (L - i - 1) (o.take i) (ro_at o i) = ro_bs G L q i + ro_SW G (L - i - 1) (q.take i) (ro_at q i)
    rw [ih e1 (by omega) (by omega), e1, e2]
/-- growing at the end: what the reference's list does -/
theorem ro_back : ∀ (s : Nat) (p : List Nat), ro_LL G (s + 1) p = (ro_LL G s p).flatMap (ro_E G) := by
  intro s
  induction s with
  | zero =>
    intro p
    show _ = ([p] : List (List Nat)).flatMap (ro_E G)
    rw [List.flatMap_cons, List.flatMap_nil, List.append_nil]
    rfl
  | succ s ih =>
    intro p
    rw [ro_LL_s (s + 1) p, ro_LL_s s p, ro_cat_flat]
    apply ro_cat_eq
    intro x _
    by_cases g : G p x = true
    · rw [ro_bk_t g, ro_bk_t g, ih]
    · rw [ro_bk_f g, ro_bk_f g]; rfl
theorem ro_flat_len {E : List Nat → List (List Nat)} : ∀ l : List (List Nat), (∀ p, p ∈ l → 1 ≤ (E p).length) → l.length ≤ (l.flatMap E).length := by
  intro l
  induction l with
  | nil => intro _; exact Nat.zero_le _
  | cons a l ih =>
    intro h
    rw [List.flatMap_cons, List.length_append, List.length_cons]
    have h1 := h a List.mem_cons_self
    have h2 := ih (fun p hp => h p (List.mem_cons_of_mem a hp))
    omega
theorem ro_E_pos {p : List Nat} {x : Nat} (hx : x < 8) (g : G p x = true) : 1 ≤ (ro_E G p).length := by
  unfold ro_E
  rw [ro_cat_len]
  have h := ro_sum_lt (f := fun x => (if G p x = true then [p ++ [x]] else [] : List (List Nat)).length) hx
  have h2 : (if G p x = true then [p ++ [x]] else [] : List (List Nat)).length = 1 := by rw [if_pos g]; rfl
  have h3 : ro_sum (fun x => (if G p x = true then [p ++ [x]] else [] : List (List Nat)).length) x + (if G p x = true then [p ++ [x]] else [] : List (List Nat)).length ≤ ro_sum (fun x => (if G p x = true then [p ++ [x]] else [] : List (List Nat)).length) 8 := h
  omega
theorem ro_mono {L : Nat} (h : ∀ p, ro_V G p → p.length < L → ∃ x, x < 8 ∧ G p x = true) : ∀ d s, s + d = L → (ro_LL G s []).length ≤ (ro_LL G L []).length := by
  intro d
  induction d with
  | zero => intro s hs; rw [← hs]; exact Nat.le_refl _
  | succ d ih =>
    intro s hs
    refine Nat.le_trans ?_ (ih (s + 1) (by omega))
    rw [ro_back]
    apply ro_flat_len
    intro p hp
    obtain ⟨t, ht⟩ := List.mem_iff_getElem?.mp hp
    obtain ⟨h1, _, h3⟩ := ro_LL_in s [] t p ht
    have h4 : p.length = s := by rw [h1]; exact Nat.zero_add s
    obtain ⟨x, hx, g⟩ := h p (h3 ro_V_nil) (by omega)
    exact ro_E_pos hx g
end
end
section
/-! ===== the five sorts: what goes on, and how many ===== -/
def ro_la (p : List Nat) : Nat := p.foldl (fun _ x => x + 1) 0
def ro_mx (p : List Nat) : Nat := p.foldl (fun m x => if m ≤ x then x + 1 else m) 0
def ro_sm (p : List Nat) : Nat := p.foldl (fun m x => m + x) 0
def ro_cd (p : List Nat) : Nat := p.foldl (fun m x => 8 * m + x) 0
def ro_ln (so n k : Nat) : Nat := if so = 0 ∨ so = 4 then k else if so = 3 then 2 * n else n
def ro_G (so n k : Nat) (p : List Nat) (x : Nat) : Bool :=
  if so = 0 then decide (x < n ∧ ro_la p ≤ x)
  else if so = 1 then decide (x < n ∧ x ∉ p)
  else if so = 2 then decide (x ≤ ro_mx p)
  else if so = 4 then decide (ro_sm p + x ≤ n ∧ (p.length + 1 < k ∨ ro_sm p + x = n))
  else decide (x ≤ 1 ∧ ro_sm p + x ≤ n ∧ p.length + 1 ≤ 2 * (ro_sm p + x))
def ro_M (so n k : Nat) (p : List Nat) (x : Nat) : Bool := if so = 4 then decide (x ≤ n) else ro_G so n k p x
def ro_fac : Nat → Nat
  | 0 => 1
  | a + 1 => (a + 1) * ro_fac a
def ro_bin : Nat → Nat → Nat
  | 0 => fun b => if b = 0 then 1 else 0
  | a + 1 => fun b => match b with
    | 0 => 1
    | b + 1 => ro_bin a b + ro_bin a (b + 1)
def ro_ge : Nat → Nat → Nat
  | 0 => fun _ => 1
  | l + 1 => fun g => g * ro_ge l g + ro_ge l (g + 1)
def ro_nx (f : Nat → Nat) (z : Nat) : Nat → Nat
  | 0 => f 0
  | o + 1 => ro_nx f z o + (if o < z then f (o + 1) else 0)
def ro_ne : Nat → Nat → Nat
  | 0 => fun _ => 1
  | z + 1 => ro_nx (ro_ne z) z
def ro_ws (r : Nat) : Nat → Nat
  | 0 => 1
  | j + 1 => ro_ws r j * (r + (j + 1)) / (j + 1)
def ro_pa (n s l : Nat) : Nat := if n < s then 0 else if l = 0 then (if s < n then 0 else 1) else ro_ws (n - s) (l - 1)
def ro_cx (so n k : Nat) (p : List Nat) : Nat :=
  if so = 1 then ro_fac (ro_ln so n k - p.length)
  else if so = 2 then ro_ge (ro_ln so n k - p.length) (ro_mx p)
  else if so = 0 then (if ro_ln so n k - p.length ≤ n - ro_la p then ro_bin (n - ro_la p) (ro_ln so n k - p.length) else 0)
  else if so = 3 then ro_ne (n + ro_sm p - p.length) (n - ro_sm p)
  else ro_pa n (ro_sm p) (ro_ln so n k - p.length)
def ro_Cf (so n k : Nat) : Prop := so ≤ 4 ∧ 1 ≤ n ∧ n ≤ 7 ∧ (so = 0 ∨ so = 4 → k ≤ n)
def ro_un (n : Nat) (p : List Nat) : Nat := ro_sum (fun x => if x < n ∧ x ∉ p then 1 else 0) 8
theorem ro_la_s (p : List Nat) (x : Nat) : ro_la (p ++ [x]) = x + 1 := by unfold ro_la; rw [List.foldl_append]; rfl
theorem ro_mx_s (p : List Nat) (x : Nat) : ro_mx (p ++ [x]) = if ro_mx p ≤ x then x + 1 else ro_mx p := by unfold ro_mx; rw [List.foldl_append]; rfl
theorem ro_sm_s (p : List Nat) (x : Nat) : ro_sm (p ++ [x]) = ro_sm p + x := by unfold ro_sm; rw [List.foldl_append]; rfl
theorem ro_cd_s (p : List Nat) (x : Nat) : ro_cd (p ++ [x]) = 8 * ro_cd p + x := by unfold ro_cd; rw [List.foldl_append]; rfl
theorem ro_len_s (p : List Nat) (x : Nat) : (p ++ [x]).length = p.length + 1 := List.length_append
theorem ro_if {P : Prop} [Decidable P] {b : Bool} (h : b = decide P) (a c : Nat) : (if b = true then a else c) = if P then a else c := by
  subst h
  by_cases z : P
  · rw [if_pos z, if_pos (decide_eq_true z)]
  · rw [if_neg z, if_neg (by rw [decide_eq_true_eq]; exact z)]
theorem ro_t0 : ∀ n, n < 8 → ∀ m, m < 8 → ∀ l, l < 8 → ro_sum (fun x => if x < n ∧ m ≤ x then (if l ≤ n - (x + 1) then ro_bin (n - (x + 1)) l else 0) else 0) 8 = if l + 1 ≤ n - m then ro_bin (n - m) (l + 1) else 0 := by decide +kernel
theorem ro_t2 : ∀ g, g < 8 → ∀ l, l < 8 → ro_sum (fun x => if x ≤ g then ro_ge l (if g ≤ x then x + 1 else g) else 0) 8 = ro_ge (l + 1) g := by decide +kernel
theorem ro_t3 : ∀ n, n < 8 → ∀ i, i < 15 → ∀ s, s < 8 → (s ≤ n ∧ i ≤ 2 * s ∧ i < 2 * n) → ro_sum (fun x => if x ≤ 1 ∧ s + x ≤ n ∧ i + 1 ≤ 2 * (s + x) then ro_ne (n + (s + x) - (i + 1)) (n - (s + x)) else 0) 8 = ro_ne (n + s - i) (n - s) := by decide +kernel
theorem ro_t4 : ∀ n, n < 8 → ∀ s, s < 8 → ∀ l, l < 8 → s ≤ n → ro_sum (fun x => if s + x ≤ n ∧ (0 < l ∨ s + x = n) then ro_pa n (s + x) l else 0) 8 = ro_pa n s (l + 1) := by decide +kernel
theorem ro_un0 : ∀ n, n < 8 → ro_un n [] = n := by decide +kernel
section
variable {so n k : Nat}
theorem ro_inv0 : ∀ p, ro_V (ro_G 0 n k) p → ro_la p ≤ n := by
  apply ro_snoc
  · intro _; exact Nat.zero_le _
  · intro p x _ hv
    obtain ⟨_, _, g⟩ := ro_V_inv hv
    have g1 : x < n ∧ ro_la p ≤ x := of_decide_eq_true g
    rw [ro_la_s]
    exact g1.1
theorem ro_inv1 (hn : n ≤ 7) : ∀ p, ro_V (ro_G 1 n k) p → ro_un n p + p.length = n := by
  apply ro_snoc
  · intro _
    rw [ro_un0 n (by omega)]
    rfl
  · intro p x ih hv
    obtain ⟨h1, hx, g⟩ := ro_V_inv hv
    have g1 : x < n ∧ x ∉ p := of_decide_eq_true g
    have h2 := ih h1
    have h3 : ro_un n p = ro_un n (p ++ [x]) + 1 := by
      unfold ro_un
      apply ro_sum_rm (x := x) _ _ 8 hx
      · intro y hy
        have e : (y < n ∧ y ∉ p) ↔ (y < n ∧ y ∉ p ++ [x]) := by
          rw [List.mem_append, List.mem_singleton]
          constructor
          · intro z; exact ⟨z.1, fun w => w.elim z.2 hy⟩
          · intro z; exact ⟨z.1, fun w => z.2 (Or.inl w)⟩
        by_cases z : y < n ∧ y ∉ p
        · rw [if_pos z, if_pos (e.mp z)]
        · rw [if_neg z, if_neg (fun w => z (e.mpr w))]
      · rw [if_pos g1, if_neg (fun w => w.2 (List.mem_append.mpr (Or.inr (List.mem_singleton.mpr rfl))))]
    rw [ro_len_s]
    omega
theorem ro_inv2 : ∀ p, ro_V (ro_G 2 n k) p → ro_mx p ≤ p.length := by
  apply ro_snoc
  · intro _; exact Nat.le_refl _
  · intro p x ih hv
    obtain ⟨h1, _, g⟩ := ro_V_inv hv
    have g1 : x ≤ ro_mx p := of_decide_eq_true g
    have h2 := ih h1
    rw [ro_mx_s, ro_len_s]
    by_cases z : ro_mx p ≤ x
    · rw [if_pos z]; omega
    · rw [if_neg z]; omega
theorem ro_inv3 : ∀ p, ro_V (ro_G 3 n k) p → ro_sm p ≤ n ∧ p.length ≤ 2 * ro_sm p ∧ ro_sm p ≤ p.length := by
  apply ro_snoc
  · intro _; exact ⟨Nat.zero_le _, Nat.zero_le _, Nat.zero_le _⟩
  · intro p x ih hv
    obtain ⟨h1, _, g⟩ := ro_V_inv hv
    have g1 : x ≤ 1 ∧ ro_sm p + x ≤ n ∧ p.length + 1 ≤ 2 * (ro_sm p + x) := of_decide_eq_true g
    have h2 := ih h1
    rw [ro_sm_s, ro_len_s]
    omega
theorem ro_inv4 : ∀ p, ro_V (ro_G 4 n k) p → ro_sm p ≤ n ∧ (0 < p.length → p.length < k ∨ ro_sm p = n) := by
  apply ro_snoc
  · intro _; exact ⟨Nat.zero_le _, fun h => absurd h (Nat.lt_irrefl 0)⟩
  · intro p x ih hv
    obtain ⟨h1, _, g⟩ := ro_V_inv hv
    have g1 : ro_sm p + x ≤ n ∧ (p.length + 1 < k ∨ ro_sm p + x = n) := of_decide_eq_true g
    rw [ro_sm_s, ro_len_s]
    exact ⟨g1.1, fun _ => g1.2⟩
theorem ro_bin0 (m : Nat) : ro_bin m 0 = 1 := by cases m <;> rfl
theorem ro_so (h : so ≤ 4) : so = 0 ∨ so = 1 ∨ so = 2 ∨ so = 3 ∨ so = 4 := by omega
theorem ro_end (hc : ro_Cf so n k) (hn : ¬ (so = 4 ∧ k = 0)) (p : List Nat) (hv : ro_V (ro_G so n k) p) (hl : p.length = ro_ln so n k) : ro_cx so n k p = 1 := by
  obtain ⟨c1, c2, c3, c4⟩ := hc
  rcases ro_so c1 with rfl | rfl | rfl | rfl | rfl
  · have e : p.length = k := hl
    show (if k - p.length ≤ n - ro_la p then ro_bin (n - ro_la p) (k - p.length) else 0) = 1
    rw [e, Nat.sub_self, if_pos (Nat.zero_le _), ro_bin0]
  · have e : p.length = n := hl
    show ro_fac (n - p.length) = 1
    rw [e, Nat.sub_self]; rfl
  · have e : p.length = n := hl
    show ro_ge (n - p.length) (ro_mx p) = 1
    rw [e, Nat.sub_self]; rfl
  · have e : p.length = 2 * n := hl
    have h := ro_inv3 p hv
    show ro_ne (n + ro_sm p - p.length) (n - ro_sm p) = 1
    rw [show n + ro_sm p - p.length = 0 by omega]; rfl
  · have e : p.length = k := hl
    have h := ro_inv4 p hv
    show ro_pa n (ro_sm p) (k - p.length) = 1
    have e2 : ro_sm p = n := by
      have h3 := h.2 (by omega)
      omega
    rw [e, Nat.sub_self, e2]
    unfold ro_pa
    rw [if_neg (Nat.lt_irrefl n), if_pos rfl, if_neg (Nat.lt_irrefl n)]
theorem ro_rec (hc : ro_Cf so n k) (p : List Nat) (hv : ro_V (ro_G so n k) p) (hl : p.length < ro_ln so n k) : ro_sum (fun x => if ro_G so n k p x = true then ro_cx so n k (p ++ [x]) else 0) 8 = ro_cx so n k p := by
  obtain ⟨c1, c2, c3, c4⟩ := hc
  rcases ro_so c1 with rfl | rfl | rfl | rfl | rfl
  · have e : p.length < k := hl
    have h := ro_inv0 p hv
    have hk := c4 (Or.inl rfl)
    obtain ⟨l, el⟩ : ∃ l, k - p.length = l + 1 := ⟨k - p.length - 1, by omega⟩
    have t := ro_t0 n (by omega) (ro_la p) (by omega) l (by omega)
    show _ = (if k - p.length ≤ n - ro_la p then ro_bin (n - ro_la p) (k - p.length) else 0)
    rw [el, ← t]
    apply ro_sum_eq
    intro x _
    refine (ro_if (b := ro_G 0 n k p x) (P := x < n ∧ ro_la p ≤ x) rfl _ _).trans ?_
    have e3 : ro_cx 0 n k (p ++ [x]) = (if l ≤ n - (x + 1) then ro_bin (n - (x + 1)) l else 0) := by
      show (if k - (p ++ [x]).length ≤ n - ro_la (p ++ [x]) then ro_bin (n - ro_la (p ++ [x])) (k - (p ++ [x]).length) else 0) = _
      rw [ro_la_s, ro_len_s, show k - (p.length + 1) = l by omega]
    rw [e3]
  · have e : p.length < n := hl
    have h := ro_inv1 c3 p hv
    obtain ⟨l, el⟩ : ∃ l, n - p.length = l + 1 := ⟨n - p.length - 1, by omega⟩
    show _ = ro_fac (n - p.length)
    rw [el]
    show _ = (l + 1) * ro_fac l
    have h2 := ro_sum_mul (fun x => x < n ∧ x ∉ p) (ro_fac l) 8
    have h3 : ro_sum (fun x => if x < n ∧ x ∉ p then 1 else 0) 8 = l + 1 := by
      have : ro_sum (fun x => if x < n ∧ x ∉ p then 1 else 0) 8 = ro_un n p := rfl
      omega
    rw [h3] at h2
    rw [← h2]
    apply ro_sum_eq
    intro x _
    refine (ro_if (b := ro_G 1 n k p x) (P := x < n ∧ x ∉ p) rfl _ _).trans ?_
    have e3 : ro_cx 1 n k (p ++ [x]) = ro_fac l := by
      show ro_fac (n - (p ++ [x]).length) = _
      rw [ro_len_s, show n - (p.length + 1) = l by omega]
    rw [e3]
  · have e : p.length < n := hl
    have h := ro_inv2 p hv
    obtain ⟨l, el⟩ : ∃ l, n - p.length = l + 1 := ⟨n - p.length - 1, by omega⟩
    have t := ro_t2 (ro_mx p) (by omega) l (by omega)
    show _ = ro_ge (n - p.length) (ro_mx p)
    rw [el, ← t]
    apply ro_sum_eq
    intro x _
    refine (ro_if (b := ro_G 2 n k p x) (P := x ≤ ro_mx p) rfl _ _).trans ?_
    have e3 : ro_cx 2 n k (p ++ [x]) = ro_ge l (if ro_mx p ≤ x then x + 1 else ro_mx p) := by
      show ro_ge (n - (p ++ [x]).length) (ro_mx (p ++ [x])) = _
      rw [ro_mx_s, ro_len_s, show n - (p.length + 1) = l by omega]
    rw [e3]
  · have e : p.length < 2 * n := hl
    have h := ro_inv3 p hv
    have t := ro_t3 n (by omega) p.length (by omega) (ro_sm p) (by omega) ⟨h.1, h.2.1, e⟩
    show _ = ro_ne (n + ro_sm p - p.length) (n - ro_sm p)
    rw [← t]
    apply ro_sum_eq
    intro x _
    refine (ro_if (b := ro_G 3 n k p x) (P := x ≤ 1 ∧ ro_sm p + x ≤ n ∧ p.length + 1 ≤ 2 * (ro_sm p + x)) rfl _ _).trans ?_
    have e3 : ro_cx 3 n k (p ++ [x]) = ro_ne (n + (ro_sm p + x) - (p.length + 1)) (n - (ro_sm p + x)) := by
      show ro_ne (n + ro_sm (p ++ [x]) - (p ++ [x]).length) (n - ro_sm (p ++ [x])) = _
      rw [ro_sm_s, ro_len_s]
    rw [e3]
  · have e : p.length < k := hl
    have h := ro_inv4 p hv
    have hk := c4 (Or.inr rfl)
    obtain ⟨l, el⟩ : ∃ l, k - p.length = l + 1 := ⟨k - p.length - 1, by omega⟩
    have t := ro_t4 n (by omega) (ro_sm p) (by omega) l (by omega) h.1
    show _ = ro_pa n (ro_sm p) (k - p.length)
    rw [el, ← t]
    apply ro_sum_eq
    intro x _
    refine (ro_if (b := ro_G 4 n k p x) (P := ro_sm p + x ≤ n ∧ (p.length + 1 < k ∨ ro_sm p + x = n)) rfl _ _).trans ?_
    have e3 : ro_cx 4 n k (p ++ [x]) = ro_pa n (ro_sm p + x) l := by
      show ro_pa n (ro_sm (p ++ [x])) (k - (p ++ [x]).length) = _
      rw [ro_sm_s, ro_len_s, show k - (p.length + 1) = l by omega]
    rw [e3]
    have e4 : (p.length + 1 < k) ↔ 0 < l := by omega
    by_cases z : ro_sm p + x ≤ n ∧ (p.length + 1 < k ∨ ro_sm p + x = n)
    · rw [if_pos z, if_pos ⟨z.1, z.2.elim (fun w => Or.inl (e4.mp w)) Or.inr⟩]
    · rw [if_neg z, if_neg (fun w => z ⟨w.1, w.2.elim (fun w => Or.inl (e4.mpr w)) Or.inr⟩)]
theorem ro_law (hc : ro_Cf so n k) (hn : ¬ (so = 4 ∧ k = 0)) : ∀ (s : Nat) (p : List Nat), ro_V (ro_G so n k) p → p.length + s = ro_ln so n k → (ro_LL (ro_G so n k) s p).length = ro_cx so n k p := by
  intro s
  induction s with
  | zero =>
    intro p hv hl
    rw [ro_end hc hn p hv (by omega)]
    rfl
  | succ s ih =>
    intro p hv hl
    rw [ro_LL_len, ← ro_rec hc p hv (by omega)]
    apply ro_sum_eq
    intro x hx
    by_cases g : ro_G so n k p x = true
    · rw [ro_ww_t g, if_pos g]
      exact ih (p ++ [x]) (ro_V_snoc hv hx g) (by rw [ro_len_s]; omega)
    · rw [ro_ww_f g, if_neg g]
/-- what withItem answers -/
theorem ro_with (hc : ro_Cf so n k) (hn : ¬ (so = 4 ∧ k = 0)) {p : List Nat} {x s : Nat} (hv : ro_V (ro_G so n k) p) (hl : p.length + (s + 1) = ro_ln so n k) (hx : x < 8) : ro_ww (ro_G so n k) s p x = if ro_M so n k p x = true then ro_cx so n k (p ++ [x]) else 0 := by
  by_cases g : ro_G so n k p x = true
  · rw [ro_ww_t g, ro_law hc hn s (p ++ [x]) (ro_V_snoc hv hx g) (by rw [ro_len_s]; omega)]
    have m : ro_M so n k p x = true := by
      unfold ro_M
      by_cases z : so = 4
      · subst z
        have g1 : ro_sm p + x ≤ n ∧ (p.length + 1 < k ∨ ro_sm p + x = n) := of_decide_eq_true g
        rw [if_pos rfl, decide_eq_true_eq]
        omega
      · rw [if_neg z]; exact g
    rw [if_pos m]
  · rw [ro_ww_f g]
    by_cases z : so = 4
    · subst z
      have g1 : ¬ (ro_sm p + x ≤ n ∧ (p.length + 1 < k ∨ ro_sm p + x = n)) := fun w => g (decide_eq_true w)
      have hl' : p.length + (s + 1) = k := hl
      have e : ro_cx 4 n k (p ++ [x]) = 0 := by
        show ro_pa n (ro_sm (p ++ [x])) (k - (p ++ [x]).length) = 0
        rw [ro_sm_s, ro_len_s]
        unfold ro_pa
        by_cases y : n < ro_sm p + x
        · rw [if_pos y]
        · rw [if_neg y, if_pos (by omega), if_pos (by omega)]
      rw [e]
      by_cases m : ro_M 4 n k p x = true
      · rw [if_pos m]
      · rw [if_neg m]
    · have m : ¬ ro_M so n k p x = true := by
        unfold ro_M
        rw [if_neg z]
        exact g
      rw [if_neg m]
theorem ro_ln_le (hc : ro_Cf so n k) : ro_ln so n k ≤ 14 := by
  obtain ⟨c1, c2, c3, c4⟩ := hc
  unfold ro_ln
  by_cases h : so = 0 ∨ so = 4
  · rw [if_pos h]; have := c4 h; omega
  · rw [if_neg h]
    by_cases h2 : so = 3
    · rw [if_pos h2]; omega
    · rw [if_neg h2]; omega
theorem ro_b0 : ∀ n, n < 8 → ∀ l, l < 8 → (if l ≤ n then ro_bin n l else 0) ≤ 5040 := by decide +kernel
theorem ro_b1 : ∀ n, n < 8 → ro_fac n ≤ 5040 := by decide +kernel
theorem ro_b2 : ∀ n, n < 8 → ro_ge n 0 ≤ 5040 := by decide +kernel
theorem ro_b3 : ∀ n, n < 8 → ro_ne n n ≤ 5040 := by decide +kernel
theorem ro_b4 : ∀ n, n < 8 → ∀ l, l < 8 → ro_pa n 0 l ≤ 5040 := by decide +kernel
theorem ro_some (hc : ro_Cf so n k) (h0 : so ≠ 0) (p : List Nat) (hv : ro_V (ro_G so n k) p) (hl : p.length < ro_ln so n k) : ∃ x, x < 8 ∧ ro_G so n k p x = true := by
  obtain ⟨c1, c2, c3, c4⟩ := hc
  rcases ro_so c1 with rfl | rfl | rfl | rfl | rfl
  · exact absurd rfl h0
  · have e : p.length < n := hl
    have h := ro_inv1 c3 p hv
    obtain ⟨x, hx, h1⟩ := ro_sum_pos (f := fun x => if x < n ∧ x ∉ p then 1 else 0) 8 (by have : ro_sum (fun x => if x < n ∧ x ∉ p then 1 else 0) 8 = ro_un n p := rfl; omega)
    refine ⟨x, hx, ?_⟩
    by_cases z : x < n ∧ x ∉ p
    · exact decide_eq_true z
    · have h2 : 0 < (if x < n ∧ x ∉ p then 1 else 0) := h1
      rw [if_neg z] at h2
      exact absurd h2 (Nat.lt_irrefl 0)
  · exact ⟨0, by omega, decide_eq_true (Nat.zero_le (ro_mx p))⟩
  · have e : p.length < 2 * n := hl
    have h := ro_inv3 p hv
    by_cases z : ro_sm p < n
    · exact ⟨1, by omega, decide_eq_true ⟨Nat.le_refl 1, by omega, by omega⟩⟩
    · exact ⟨0, by omega, decide_eq_true ⟨by omega, by omega, by omega⟩⟩
  · have e : p.length < k := hl
    have h := ro_inv4 p hv
    by_cases z : p.length + 1 < k
    · exact ⟨0, by omega, decide_eq_true ⟨by omega, Or.inl z⟩⟩
    · exact ⟨n - ro_sm p, by omega, decide_eq_true ⟨by omega, Or.inr (by omega)⟩⟩
theorem ro_bound (hc : ro_Cf so n k) (hn : ¬ (so = 4 ∧ k = 0)) (s : Nat) (hs : s ≤ ro_ln so n k) : (ro_LL (ro_G so n k) s []).length ≤ 5040 := by
  have hc' := hc
  obtain ⟨c1, c2, c3, c4⟩ := hc
  by_cases h0 : so = 0
  · subst h0
    have hk : k ≤ n := c4 (Or.inl rfl)
    have hs' : s ≤ k := hs
    have e : (ro_LL (ro_G 0 n k) s []).length = ro_cx 0 n s [] := by
      have e1 : ro_G 0 n k = ro_G 0 n s := rfl
      rw [e1]
      refine ro_law (so := 0) (n := n) (k := s) ⟨by omega, c2, c3, fun _ => by omega⟩ (by omega) s [] ro_V_nil ?_
      show 0 + s = s
      omega
    rw [e]
    exact ro_b0 n (by omega) s (by omega)
  · refine Nat.le_trans (ro_mono (L := ro_ln so n k) (fun p hv hl => ro_some hc' h0 p hv hl) (ro_ln so n k - s) s (by omega)) ?_
    rw [ro_law hc' hn (ro_ln so n k) [] ro_V_nil (by show 0 + _ = _; omega)]
    rcases ro_so c1 with rfl | rfl | rfl | rfl | rfl
    · exact absurd rfl h0
    · exact ro_b1 n (by omega)
    · exact ro_b2 n (by omega)
    · exact ro_b3 n (by omega)
    · exact ro_b4 n (by omega) k (by have := c4 (Or.inr rfl); omega)
end
def ro_Lst (so n k : Nat) : List (List Nat) := if so = 4 ∧ k = 0 then [] else ro_LL (ro_G so n k) (ro_ln so n k) []
end
section
/-! ===== the tables of the component ===== -/
def ro_TF (tf : Nat → Int32) (m : Nat) : Prop := ∀ j, j < m → tf j = nI (ro_fac j)
def ro_TB (tb : Nat → Int32) (m : Nat) : Prop := ∀ r, r < m → ∀ c, c ≤ r → tb (8 * r + c) = nI (ro_bin r c)
def ro_TG (tg : Nat → Int32) (m : Nat) : Prop := ∀ l, l < m → ∀ g, g + l < 16 → tg (16 * l + g) = nI (ro_ge l g)
def ro_TN (tn : Nat → Int32) (m : Nat) : Prop := ∀ z, z < m → ∀ o, o ≤ z → tn (8 * z + o) = nI (ro_ne z o)
def ro_TT (tb tg tn tf : Nat → Int32) : Prop := ro_TB tb 8 ∧ ro_TG tg 8 ∧ ro_TN tn 8 ∧ ro_TF tf 8
theorem ro_8 (z : Nat) : (8 : Int32) * nI z = nI (8 * z) := pk_mul 8 z
theorem ro_16 (z : Nat) : (16 : Int32) * nI z = nI (16 * z) := pk_mul 16 z
theorem ro_8a (z o : Nat) : (8 : Int32) * nI z + nI o = nI (8 * z + o) := by rw [ro_8, nI_add]
theorem ro_8b (z o : Nat) : (8 : Int32) * nI (z + 1) - 8 + nI o = nI (8 * z + o) := by
  rw [ro_8]
  have h : nI (8 * (z + 1)) - nI 8 = nI (8 * (z + 1) - 8) := pk_sub (by omega)
  have h2 : nI (8 * (z + 1)) - 8 = nI (8 * z) := h
  rw [h2, nI_add]
theorem ro_8c (z o : Nat) : (8 : Int32) * nI z + nI (o + 1) - 1 = nI (8 * z + o) := by
  rw [ro_8a]
  exact nI_pred (8 * z + o)
theorem ro_8d (z o : Nat) : (8 : Int32) * nI (z + 1) - 8 + nI (o + 1) - 1 = nI (8 * z + o) := by
  rw [ro_8b]
  exact nI_pred (8 * z + o)
theorem ro_16a (z o : Nat) : (16 : Int32) * nI z + nI o = nI (16 * z + o) := by rw [ro_16, nI_add]
theorem ro_16b (z o : Nat) : (16 : Int32) * nI (z + 1) - 16 + nI o = nI (16 * z + o) := by
  rw [ro_16]
  have h : nI (16 * (z + 1)) - nI 16 = nI (16 * (z + 1) - 16) := pk_sub (by omega)
  have h2 : nI (16 * (z + 1)) - 16 = nI (16 * z) := h
  rw [h2, nI_add]
theorem ro_16c (z o : Nat) : (16 : Int32) * nI (z + 1) - 15 + nI o = nI (16 * z + (o + 1)) := by
  rw [ro_16]
  have h : nI (16 * (z + 1)) - nI 15 = nI (16 * (z + 1) - 15) := pk_sub (by omega)
  have h2 : nI (16 * (z + 1)) - 15 = nI (16 * z + 1) := h
  rw [h2, nI_add]
  exact congrArg nI (by omega)
theorem ro_binz : ∀ a b, a < b → ro_bin a b = 0 := by
  intro a
  induction a with
  | zero => intro b h; exact if_neg (by omega)
  | succ a ih =>
    intro b h
    obtain ⟨c, rfl⟩ : ∃ c, b = c + 1 := ⟨b - 1, by omega⟩
    show ro_bin a c + ro_bin a (c + 1) = 0
    rw [ih c (by omega), ih (c + 1) (by omega)]
theorem ro_nez (o : Nat) : ro_ne 0 o = 1 := rfl
section
variable {post : SX → Prop} {s1 s2 s3 s4 s5 : Int32} {a b tb tg tn tf : Nat → Int32}
variable {J J2 : Int32 → (Nat → Int32) → (Nat → Int32) → (Nat → Int32) → (Nat → Int32) → (Nat → Int32) → (Nat → Int32) → Prop}
theorem ro_f285 {z o v : Nat} (hz : z < 8) (ho : o ≤ z) (K : J2 (nI (o + 1)) a b tb tg (upd tn (8 * z + o) (nI v)) tf) : wX_fillTables_285 post J J2 (nI z) (nI o) (nI v) s1 s2 s3 s4 s5 a b tb tg tn tf := by
  unfold wX_fillTables_285
  rw [ro_8a, nI_clamp (by omega)]
  exact ⟨vp_in_nI (by omega) (by omega), nm_e (nm_r (nI_1 o) K)⟩
theorem ro_f263 {z o v : Nat} (hz : z < 8) (ho : o ≤ z) (T : ro_TN tn z) (K : J2 (nI (o + 1)) a b tb tg (upd tn (8 * z + o) (nI (v + (if o < z then ro_ne (z - 1) o else 0)))) tf) : wX_fillTables_263 post J J2 (nI z) (nI o) (nI v) s1 s2 s3 s4 s5 a b tb tg tn tf := by
  unfold wX_fillTables_263
  refine pk_le z o (fun h => ?_) (fun h => ?_)
  · rw [if_neg (by omega), Nat.add_zero] at K
    exact ro_f285 hz ho K
  · rw [if_pos h] at K
    obtain ⟨y, rfl⟩ : ∃ y, z = y + 1 := ⟨z - 1, by omega⟩
    rw [ro_8b, nI_clamp (by omega), T y (by omega) o (by omega), nI_add]
    exact ⟨vp_in_nI (by omega) (by omega), nm_e (ro_f285 hz ho K)⟩
theorem ro_f242 {z o v : Nat} (hz : z < 8) (ho : o ≤ z) (T : ro_TN tn z) (T2 : ∀ c, c < o → tn (8 * z + c) = nI (ro_ne z c)) (hv : v + (if 0 < o then ro_ne z (o - 1) else 0) + (if o < z then ro_ne (z - 1) o else 0) = ro_ne z o) (K : J2 (nI (o + 1)) a b tb tg (upd tn (8 * z + o) (nI (ro_ne z o))) tf) : wX_fillTables_242 post J J2 (nI z) (nI o) (nI v) s1 s2 s3 s4 s5 a b tb tg tn tf := by
  unfold wX_fillTables_242
  refine pk_le o 0 (fun h => ?_) (fun h => ?_)
  · rw [if_neg (by omega), Nat.add_zero] at hv
    rw [← hv] at K
    exact ro_f263 hz ho T K
  · rw [if_pos h] at hv
    obtain ⟨y, rfl⟩ : ∃ y, o = y + 1 := ⟨o - 1, by omega⟩
    rw [ro_8c, nI_clamp (by omega), T2 y (by omega), nI_add]
    rw [← hv] at K
    exact ⟨vp_in_nI (by omega) (by omega), nm_e (ro_f263 hz ho T K)⟩
theorem ro_ne_eq {z o : Nat} (h : o ≤ z) : (if z = 0 then 1 else 0) + (if 0 < o then ro_ne z (o - 1) else 0) + (if o < z then ro_ne (z - 1) o else 0) = ro_ne z o := by
  cases z with
  | zero =>
    have e : o = 0 := by omega
    subst e
    rfl
  | succ z =>
    rw [if_neg (by omega), Nat.zero_add]
    cases o with
    | zero =>
      rw [if_neg (by omega), if_pos (by omega), Nat.zero_add]
      rfl
    | succ o =>
      rw [if_pos (by omega)]
      show ro_ne (z + 1) o + _ = ro_ne (z + 1) o + _
      by_cases w : o < z
      · rw [if_pos (by omega), if_pos w]
        rfl
      · rw [if_neg (by omega), if_neg w]
theorem ro_f228 {z : Nat} (hz : z < 8) (K : ∀ tn', ro_TN tn' (z + 1) → J (nI (z + 1)) a b tb tg tn' tf) : ∀ (n o : Nat) (tn : Nat → Int32), z + 1 - o < n → o ≤ z + 1 → ro_TN tn z → (∀ c, c < o → tn (8 * z + c) = nI (ro_ne z c)) → wX_fillTables_228 post J (nI z) s1 s2 s3 s4 s5 n (nI o) a b tb tg tn tf := by
  intro n
  induction n with
  | zero => intro o tn h; omega
  | succ n ih =>
    intro o tn h ho T T2
    refine pk_lt z o (fun h => ?_) (fun h => ?_)
    · have e : o = z + 1 := by omega
      subst e
      refine nm_r (nI_1 z) (K tn ?_)
      intro y hy c hc
      rcases Nat.lt_or_ge y z with h1 | h1
      · exact T y h1 c hc
      · have e : y = z := by omega
        subst e
        exact T2 c (by omega)
    · have hK : wX_fillTables_228 post J (nI z) s1 s2 s3 s4 s5 n (nI (o + 1)) a b tb tg (upd tn (8 * z + o) (nI (ro_ne z o))) tf := by
        refine ih (o + 1) _ (by omega) (by omega) ?_ ?_
        · intro y hy c hc
          rw [pk_un (by omega)]
          exact T y hy c hc
        · intro c hc
          rcases Nat.lt_or_ge c o with h1 | h1
          · rw [pk_un (by omega)]
            exact T2 c h1
          · have e : c = o := by omega
            subst e
            exact pk_us
      have hE := ro_ne_eq h
      refine pk_eq z 0 (fun w => ?_) (fun w => ?_)
      · rw [if_pos w] at hE
        exact ro_f242 (v := 1) hz h T T2 hE hK
      · rw [if_neg w] at hE
        exact ro_f242 (v := 0) hz h T T2 hE hK
theorem ro_f220 (K : ∀ tn', ro_TN tn' 8 → post (s1, s2, s3, s4, s5, a, b, tb, tg, tn', tf)) : ∀ (n z : Nat) (tn : Nat → Int32), 8 - z < n → z ≤ 8 → ro_TN tn z → wX_fillTables_220 post s1 s2 s3 s4 s5 n (nI z) a b tb tg tn tf := by
  intro n
  induction n with
  | zero => intro z tn h; omega
  | succ n ih =>
    intro z tn h hz T
    refine pk_le 8 z (fun h => ?_) (fun h => ?_)
    · have e : z = 8 := by omega
      subst e
      exact K tn T
    · exact ⟨z + 2, ro_f228 h (fun tn' T' => ih (z + 1) tn' (by omega) (by omega) T') (z + 2) 0 tn (by omega) (by omega) T (fun c hc => absurd hc (Nat.not_lt_zero c))⟩
theorem ro_f156 {l : Nat} (hl : l < 7) (K : ∀ tg', ro_TG tg' (l + 2) → J (nI (l + 2)) a b tb tg' tn tf) : ∀ (n g : Nat) (tg : Nat → Int32), 16 - (l + 1) - g < n → g + (l + 1) ≤ 16 → ro_TG tg (l + 1) → (∀ c, c < g → tg (16 * (l + 1) + c) = nI (ro_ge (l + 1) c)) → wX_fillTables_156 post J (nI (l + 1)) s1 s2 s3 s4 s5 n (nI g) a b tb tg tn tf := by
  intro n
  induction n with
  | zero => intro g tg h; omega
  | succ n ih =>
    intro g tg h hg T T2
    refine pk_le 16 (g + (l + 1)) (fun h => ?_) (fun h => ?_) rfl (nI_add g (l + 1))
    · refine nm_r (nI_1 (l + 1)) (K tg ?_)
      intro y hy c hc
      rcases Nat.lt_or_ge y (l + 1) with h1 | h1
      · exact T y h1 c hc
      · have e : y = l + 1 := by omega
        subst e
        exact T2 c (by omega)
    · have h1 := T l (by omega) g (by omega)
      have h2 := T l (by omega) (g + 1) (by omega)
      rw [ro_16b, ro_16c, ro_16a, nI_clamp (by omega), nI_clamp (by omega), nI_clamp (by omega), h1, h2, pk_mul, nI_add]
      refine ⟨vp_in_nI (by omega) (by omega), vp_in_nI (by omega) (by omega), vp_in_nI (by omega) (by omega), nm_e (nm_r (nI_1 g) (ih (g + 1) _ (by omega) (by omega) ?_ ?_))⟩
      · intro y hy c hc
        rw [pk_un (by omega)]
        exact T y hy c hc
      · intro c hc
        rcases Nat.lt_or_ge c g with h3 | h3
        · rw [pk_un (by omega)]
          exact T2 c h3
        · have e : c = g := by omega
          subst e
          exact pk_us
theorem ro_f148 (K : ∀ tg', ro_TG tg' 8 → ∃ m, wX_fillTables_220 post s1 s2 s3 s4 s5 m 0 a b tb tg' tn tf) : ∀ (n l : Nat) (tg : Nat → Int32), 8 - (l + 1) < n → l ≤ 7 → ro_TG tg (l + 1) → wX_fillTables_148 post s1 s2 s3 s4 s5 n (nI (l + 1)) a b tb tg tn tf := by
  intro n
  induction n with
  | zero => intro l tg h; omega
  | succ n ih =>
    intro l tg h hl T
    refine pk_le 8 (l + 1) (fun h => ?_) (fun h => ?_)
    · have e : l = 7 := by omega
      subst e
      exact K tg T
    · exact ⟨17, ro_f156 (by omega) (fun tg' T' => ih (l + 1) tg' (by omega) (by omega) T') 17 0 tg (by omega) (by omega) T (fun c hc => absurd hc (Nat.not_lt_zero c))⟩
theorem ro_f127 (K : ∀ tg', ro_TG tg' 8 → ∃ m, wX_fillTables_220 post s1 s2 s3 s4 s5 m 0 a b tb tg' tn tf) : ∀ (n j : Nat) (tg : Nat → Int32), 16 - j < n → j ≤ 16 → (∀ c, c < j → tg c = nI 1) → wX_fillTables_127 post s1 s2 s3 s4 s5 n (nI j) a b tb tg tn tf := by
  intro n
  induction n with
  | zero => intro j tg h; omega
  | succ n ih =>
    intro j tg h hj T
    refine pk_le 16 j (fun h => ?_) (fun h => ?_)
    · refine ⟨9, ro_f148 K 9 0 tg (by omega) (by omega) ?_⟩
      intro y hy c hc
      have e : y = 0 := by omega
      subst e
      have h2 := T c (by omega)
      rw [show 16 * 0 + c = c by omega, h2]
      rfl
    · rw [nI_clamp (by omega)]
      refine ⟨vp_in_nI (by omega) (by omega), nm_e (nm_r (nI_1 j) (ih (j + 1) _ (by omega) (by omega) ?_))⟩
      intro c hc
      rcases Nat.lt_or_ge c j with h3 | h3
      · rw [pk_un (by omega)]
        exact T c h3
      · have e : c = j := by omega
        subst e
        exact pk_us
theorem ro_f57 {r : Nat} (hr : r < 8) (K : ∀ tb', ro_TB tb' (r + 1) → J (nI (r + 1)) a b tb' tg tn tf) : ∀ (n c : Nat) (tb : Nat → Int32), r + 1 - c < n + 1 → 1 ≤ c → c ≤ r + 1 → ro_TB tb r → (∀ d, d < c → tb (8 * r + d) = nI (ro_bin r d)) → wX_fillTables_57 post J (nI r) s1 s2 s3 s4 s5 (n + 1) (nI c) a b tb tg tn tf := by
  intro n
  induction n with
  | zero =>
    intro c tb h h1 hc T T2
    refine pk_lt r c (fun h => ?_) (fun h => by omega)
    refine nm_r (nI_1 r) (K tb ?_)
    intro y hy d hd
    rcases Nat.lt_or_ge y r with h1 | h1
    · exact T y h1 d hd
    · have e : y = r := by omega
      subst e
      exact T2 d (by omega)
  | succ n ih =>
    intro c tb h h1 hc T T2
    refine pk_lt r c (fun h => ?_) (fun h => ?_)
    · refine nm_r (nI_1 r) (K tb ?_)
      intro y hy d hd
      rcases Nat.lt_or_ge y r with h1 | h1
      · exact T y h1 d hd
      · have e : y = r := by omega
        subst e
        exact T2 d (by omega)
    · obtain ⟨q, rfl⟩ : ∃ q, r = q + 1 := ⟨r - 1, by omega⟩
      obtain ⟨d, rfl⟩ : ∃ d, c = d + 1 := ⟨c - 1, by omega⟩
      have hK : wX_fillTables_57 post J (nI (q + 1)) s1 s2 s3 s4 s5 (n + 1) (nI (d + 1 + 1)) a b (upd tb (8 * (q + 1) + (d + 1)) (nI (ro_bin (q + 1) (d + 1)))) tg tn tf := by
        refine ih (d + 1 + 1) _ (by omega) (by omega) (by omega) ?_ ?_
        · intro y hy e he
          rw [pk_un (by omega)]
          exact T y hy e he
        · intro e he
          rcases Nat.lt_or_ge e (d + 1) with h3 | h3
          · rw [pk_un (by omega)]
            exact T2 e h3
          · have e : e = d + 1 := by omega
            subst e
            exact pk_us
      have hB : ro_bin (q + 1) (d + 1) = ro_bin q d + ro_bin q (d + 1) := rfl
      have hT := T q (by omega) d (by omega)
      rw [ro_8d, ro_8a, ro_8b, nI_clamp (by omega), nI_clamp (by omega), nI_clamp (by omega), hT]
      refine ⟨vp_in_nI (by omega) (by omega), pk_le (q + 1) (d + 1) (fun w => ?_) (fun w => ?_)⟩
      · rw [ro_binz q (d + 1) (by omega), Nat.add_zero] at hB
        refine ⟨vp_in_nI (by omega) (by omega), nm_r (e' := upd tb (8 * (q + 1) + (d + 1)) (nI (ro_bin (q + 1) (d + 1)))) ?_ (nm_r (nI_1 (d + 1)) hK)⟩
        rw [hB, Int32.add_zero]; rfl
      · refine ⟨vp_in_nI (by omega) (by omega), vp_in_nI (by omega) (by omega), nm_r (e' := upd tb (8 * (q + 1) + (d + 1)) (nI (ro_bin (q + 1) (d + 1)))) ?_ (nm_r (nI_1 (d + 1)) hK)⟩
        rw [hB, T q (by omega) (d + 1) (by omega), nI_add]
theorem ro_f39 (K : ∀ tb', ro_TB tb' 8 → ∃ m, wX_fillTables_127 post s1 s2 s3 s4 s5 m 0 a b tb' tg tn tf) : ∀ (n r : Nat) (tb : Nat → Int32), 8 - r < n → r ≤ 8 → ro_TB tb r → wX_fillTables_39 post s1 s2 s3 s4 s5 n (nI r) a b tb tg tn tf := by
  intro n
  induction n with
  | zero => intro r tb h; omega
  | succ n ih =>
    intro r tb h hr T
    refine pk_le 8 r (fun h => ?_) (fun h => ?_)
    · have e : r = 8 := by omega
      subst e
      exact K tb T
    · rw [ro_8, nI_clamp (by omega)]
      refine ⟨vp_in_nI (by omega) (by omega), nm_e ⟨r + 1 + 1, ro_f57 h (fun tb' T' => ih (r + 1) tb' (by omega) (by omega) T') (r + 1) 1 _ (by omega) (by omega) (by omega) ?_ ?_⟩⟩
      · intro y hy d hd
        rw [pk_un (by omega)]
        exact T y hy d hd
      · intro d hd
        have e : d = 0 := by omega
        subst e
        rw [Nat.add_zero, pk_us, ro_bin0]
        rfl
theorem ro_f9 (K : ∀ tf', ro_TF tf' 8 → ∃ m, wX_fillTables_39 post s1 s2 s3 s4 s5 m 0 a b tb tg tn tf') : ∀ (n j : Nat) (tf : Nat → Int32), 8 - j < n → 1 ≤ j → j ≤ 8 → ro_TF tf j → wX_fillTables_9 post s1 s2 s3 s4 s5 n (nI j) a b tb tg tn tf := by
  intro n
  induction n with
  | zero => intro j tf h; omega
  | succ n ih =>
    intro j tf h h1 h8 T
    refine pk_le 8 j (fun h => ?_) (fun h => ?_)
    · have e : j = 8 := by omega
      subst e
      exact K tf T
    · obtain ⟨i, rfl⟩ : ∃ i, j = i + 1 := ⟨j - 1, by omega⟩
      rw [nI_pred, nI_clamp (by omega), nI_clamp (by omega), T i (by omega), pk_mul]
      refine ⟨vp_in_nI (by omega) (by omega), vp_in_nI (by omega) (by omega), nm_e (nm_r (nI_1 (i + 1)) (ih (i + 1 + 1) _ (by omega) (by omega) (by omega) ?_))⟩
      intro q hq
      by_cases z : q = i + 1
      · subst z; exact pk_us
      · rw [pk_un z]; exact T q (by omega)
theorem ro_fill (K : ∀ tb tg tn tf, ro_TT tb tg tn tf → post (s1, s2, s3, s4, s5, a, b, tb, tg, tn, tf)) : wpX_fillTables post (s1, s2, s3, s4, s5, a, b, tb, tg, tn, tf) := by
  unfold wpX_fillTables
  refine nm_e ⟨8, ro_f9 (fun tf' TF => ⟨9, ro_f39 (fun tb' TB => ⟨17, ro_f127 (fun tg' TG => ⟨9, ro_f220 (fun tn' TN => K tb' tg' tn' tf' ⟨TB, TG, TN, TF⟩) 9 0 tn (by omega) (by omega) ?_⟩) 17 0 tg (by omega) (by omega) ?_⟩) 9 0 tb (by omega) (by omega) ?_⟩) 8 1 _ (by omega) (by omega) (by omega) ?_⟩
  · intro y hy; exact absurd hy (Nat.not_lt_zero y)
  · intro y hy; exact absurd hy (Nat.not_lt_zero y)
  · intro y hy; exact absurd hy (Nat.not_lt_zero y)
  · intro y hy
    have e : y = 0 := by omega
    subst e
    exact pk_us
end
end
section
/-! ===== the component: counting ===== -/
def ro_It (p : List Nat) (a : Nat → Int32) : Prop := ∀ j, j < p.length → a j = nI (ro_at p j)
def ro_By (a : Nat → Int32) : Prop := ∀ j, vp_nar .byte (a j) = a j
def ro_pm (m : Nat) : Int32 := nI m - 1
theorem ro_pm1 (m : Nat) : ro_pm m + 1 = nI m := by unfold ro_pm; rw [Int32.sub_add_cancel]
theorem ro_pm_le : ∀ d, d < 8 → ∀ m, m < 16 → (nI d ≤ ro_pm m ↔ d < m) := by decide +kernel
theorem ro_nar : ∀ x, x < 16 → vp_nar .byte (nI x).toInt8.toInt32 = nI x := by
  intro x hx
  rw [pk_vb]
  exact (by decide +kernel : ∀ x, x < 16 → (nI x).toInt8.toInt32 = nI x) x hx
theorem ro_nar2 : ∀ x, x < 16 → vp_nar .byte (nI x) = nI x := by
  intro x hx
  rw [vp_nar_byte]
  exact (by decide +kernel : ∀ x, x < 16 → (nI x).toInt8.toInt32 = nI x) x hx
theorem ro_ByU {a : Nat → Int32} {i x : Nat} (h : ro_By a) (hx : x < 16) : ro_By (upd a i (nI x)) := by
  intro j
  by_cases z : j = i
  · subst z; rw [pk_us]; exact ro_nar2 x hx
  · rw [pk_un z]; exact h j
theorem ro_ItS {p : List Nat} {a : Nat → Int32} (h : ro_It p a) (x : Nat) : ro_It (p ++ [x]) (upd a p.length (nI x)) := by
  intro j hj
  rw [ro_len_s] at hj
  by_cases z : j = p.length
  · subst z; rw [pk_us, ro_at_s]
  · rw [pk_un z, ro_at_l (by omega)]; exact h j (by omega)
theorem ro_ItT {o : List Nat} {a : Nat → Int32} (h : ro_It o a) (i : Nat) : ro_It (o.take i) a := by
  intro j hj
  rw [List.length_take] at hj
  rw [ro_at_take (by omega)]
  exact h j (by omega)
theorem ro_la_at {p : List Nat} {m : Nat} (h : p.length = m + 1) : ro_la p = ro_at p m + 1 := by
  have e : p = p.take m ++ [ro_at p m] := by
    rw [← ro_take_s (by omega), ← h, List.take_length]
  have h2 := ro_la_s (p.take m) (ro_at p m)
  rw [← e] at h2
  exact h2
theorem ro_bt1 : ∀ i, i < 32 → bt 1 i = decide (i = 0) := by decide +kernel
theorem ro_bit (r : Int32) {x : Nat} (hx : x < 8) : ((r >>> (nI x &&& 31)) &&& 1) = 0 ↔ bt r x = false := by
  have h0 : bt (r >>> (nI x &&& 31)) 0 = bt r x := by
    rw [b_sshr x (by omega) r (by omega), if_pos (by omega), Nat.add_zero]
  constructor
  · intro h
    have h1 := congrArg (fun z => bt z 0) h
    have h2 : bt ((r >>> (nI x &&& 31)) &&& 1) 0 = bt 0 0 := h1
    rw [b_and, h0, b_0, ro_bt1 0 (by omega)] at h2
    simpa using h2
  · intro h
    apply b_ext
    intro i hi
    rw [b_and, ro_bt1 i hi, b_0]
    by_cases z : i = 0
    · subst z; rw [h0, h]; rfl
    · rw [decide_eq_false z, Bool.and_false]
theorem ro_wsb : ∀ r, r < 8 → ∀ i, i < 8 → ro_ws r i * (r + (i + 1)) < 1000000 := by decide +kernel
section
variable {post : Int32 → Prop} {so n k : Nat} {s3 s5 : Int32} {a b tb tg tn tf : Nat → Int32} {p : List Nat}
theorem ro_xsum_l (hI : ro_It p a) (hl : p.length ≤ 14) (K : post (nI (ro_sm p))) : ∀ m i, i ≤ p.length → p.length - i < m → wX_sumBefore_4 post (nI p.length) (nI so) (nI n) s3 (nI (ro_ln so n k)) s5 a b tb tg tn tf m (nI (ro_sm (p.take i))) (nI i) := by
  intro m
  induction m with
  | zero => intro i _ h; omega
  | succ m ih =>
    intro i h h2
    refine pk_le p.length i (fun h => ?_) (fun h => ?_)
    · rw [show i = p.length by omega, List.take_length]
      exact K
    · refine ⟨vp_in_nI (by omega) (by omega), nm_r (e' := nI (ro_sm (p.take (i + 1)))) ?_ (nm_r (nI_1 i) (ih (i + 1) (by omega) (by omega)))⟩
      rw [nI_clamp (by omega), hI i h, nI_add, ro_take_s h, ro_sm_s]
theorem ro_xsum (hI : ro_It p a) (hl : p.length ≤ 14) (K : post (nI (ro_sm p))) : wpX_sumBefore post (nI so, nI n, s3, nI (ro_ln so n k), s5, a, b, tb, tg, tn, tf) (nI p.length) :=
  ⟨p.length + 1, ro_xsum_l hI hl K (p.length + 1) 0 (by omega) (by omega)⟩
theorem ro_xgre_l (hI : ro_It p a) (hl : p.length ≤ 14) (hv : ro_V (ro_G 2 n k) p) (K : post (ro_pm (ro_mx p))) : ∀ m i, i ≤ p.length → p.length - i < m → wX_greatestBefore_4 post (nI p.length) (nI so) (nI n) s3 (nI (ro_ln so n k)) s5 a b tb tg tn tf m (ro_pm (ro_mx (p.take i))) (nI i) := by
  intro m
  induction m with
  | zero => intro i _ h; omega
  | succ m ih =>
    intro i h h2
    refine pk_le p.length i (fun h => ?_) (fun h => ?_)
    · rw [show i = p.length by omega, List.take_length]
      exact K
    · have hd := (hv i h).1
      have hm := ro_inv2 (n := n) (k := k) (p.take i) (ro_V_take hv i)
      rw [ro_len_take (by omega)] at hm
      have hc := ro_pm_le (ro_at p i) hd (ro_mx (p.take i)) (by omega)
      have hs := ro_mx_s (p.take i) (ro_at p i)
      rw [← ro_take_s h] at hs
      rw [nI_clamp (by omega), hI i h]
      refine ⟨vp_in_nI (by omega) (by omega), br_c (fun z => ?_) (fun z => ?_)⟩
      · rw [if_neg (by rw [hc] at z; omega)] at hs
        refine nm_r (nI_1 i) ?_
        rw [← hs]
        exact ih (i + 1) (by omega) (by omega)
      · rw [if_pos (by rw [hc] at z; omega)] at hs
        refine ⟨vp_in_nI (by omega) (by omega), nm_r (e' := ro_pm (ro_mx (p.take (i + 1)))) ?_ (nm_r (nI_1 i) (ih (i + 1) (by omega) (by omega)))⟩
        rw [hs]
        exact (nI_pred _).symm
theorem ro_xgre (hI : ro_It p a) (hl : p.length ≤ 14) (hv : ro_V (ro_G 2 n k) p) (K : post (ro_pm (ro_mx p))) : wpX_greatestBefore post (nI so, nI n, s3, nI (ro_ln so n k), s5, a, b, tb, tg, tn, tf) (nI p.length) :=
  ⟨p.length + 1, ro_xgre_l hI hl hv K (p.length + 1) 0 (by omega) (by omega)⟩
theorem ro_xuse_l (hI : ro_It p a) (hl : p.length ≤ 14) (hd : ∀ i, i < p.length → ro_at p i < 8) (K : ∀ r, (∀ y, y < 8 → bt r y = decide (y ∈ p)) → post r) : ∀ m i r, i ≤ p.length → p.length - i < m → (∀ y, y < 8 → bt r y = decide (y ∈ p.take i)) → wX_usedBefore_4 post (nI p.length) (nI so) (nI n) s3 (nI (ro_ln so n k)) s5 a b tb tg tn tf m r (nI i) := by
  intro m
  induction m with
  | zero => intro i r _ h; omega
  | succ m ih =>
    intro i r h h2 hr
    refine pk_le p.length i (fun h => ?_) (fun h => ?_)
    · rw [show i = p.length by omega, List.take_length] at hr
      exact K r hr
    · rw [nI_clamp (by omega), hI i h]
      refine ⟨vp_in_nI (by omega) (by omega), nm_e (nm_r (nI_1 i) (ih (i + 1) _ (by omega) (by omega) ?_))⟩
      intro y hy
      have hx := hd i h
      rw [b_or, hr y hy, b_shl (ro_at p i) (by omega) 1 (by omega), ro_bt1 _ (by omega), ro_take_s h]
      by_cases z : y = ro_at p i
      · rw [z, Nat.sub_self]
        simp
      · have e : (decide (ro_at p i ≤ y) && decide (y - ro_at p i = 0)) = false := by
          by_cases w : ro_at p i ≤ y
          · rw [decide_eq_false (by omega : ¬ y - ro_at p i = 0), Bool.and_false]
          · rw [decide_eq_false w, Bool.false_and]
        rw [e, Bool.or_false]
        simp [z]
theorem ro_xuse (hI : ro_It p a) (hl : p.length ≤ 14) (hd : ∀ i, i < p.length → ro_at p i < 8) (K : ∀ r, (∀ y, y < 8 → bt r y = decide (y ∈ p)) → post r) : wpX_usedBefore post (nI so, nI n, s3, nI (ro_ln so n k), s5, a, b, tb, tg, tn, tf) (nI p.length) := by
  refine ⟨p.length + 1, ro_xuse_l hI hl hd K (p.length + 1) 0 0 (by omega) (by omega) ?_⟩
  intro y _
  rw [b_0, List.take_zero]
  simp
theorem ro_xway_l {r l : Nat} (hr : r < 8) (hl : l < 8) (K : post (nI (ro_ws r l))) : ∀ m i, i ≤ l → l - i < m → wX_waysToSplit_5 post (nI r) (nI (l + 1)) (nI so) (nI n) s3 (nI (ro_ln so n k)) s5 a b tb tg tn tf m (nI (ro_ws r i)) (nI (i + 1)) := by
  intro m
  induction m with
  | zero => intro i _ h; omega
  | succ m ih =>
    intro i h h2
    refine pk_le (l + 1) (i + 1) (fun h => ?_) (fun h => ?_)
    · rw [show i = l by omega]
      exact K
    · have hb := ro_wsb r hr i (by omega)
      refine ⟨nI_ne0 (by omega) (by omega), nm_r (e' := nI (ro_ws r (i + 1))) ?_ (nm_r (nI_1 (i + 1)) (ih (i + 1) (by omega) (by omega)))⟩
      rw [nI_add, pk_mul, pk_div (by omega) (by omega) (by omega)]
      rfl
theorem ro_xway {r l : Nat} (hr : r < 8) (hl : l < 8) (K : post (nI (ro_ws r l))) : wpX_waysToSplit post (nI so, nI n, s3, nI (ro_ln so n k), s5, a, b, tb, tg, tn, tf) (nI r) (nI (l + 1)) :=
  ⟨l + 1, ro_xway_l hr hl K (l + 1) 0 (by omega) (by omega)⟩
theorem ro_x83 {l f : Nat} (TB : ro_TB tb 8) (hf : f < 8) (K : post (nI (if l ≤ f then ro_bin f l else 0))) (hl : l < 15) : wX_goingOn_83 post (nI l) (nI f) (nI so) (nI n) s3 (nI (ro_ln so n k)) s5 a b tb tg tn tf := by
  unfold wX_goingOn_83
  refine pk_le l f (fun h => ?_) (fun h => ?_)
  · rw [if_pos h] at K
    rw [ro_8a, nI_clamp (by omega), TB f hf l h]
    exact ⟨vp_in_nI (by omega) (by omega), K⟩
  · rw [if_neg (by omega)] at K
    exact K
end
end
section
/-! ===== the component: goingOn, mayCome, withItem ===== -/
section
variable {post : Int32 → Prop} {so n k : Nat} {s3 s5 : Int32} {a b tb tg tn tf : Nat → Int32} {p : List Nat}
theorem ro_x3 {i s : Nat} (h : i ≤ n + s) (h2 : s ≤ n) : 8 * (nI n - nI i + nI s) + nI n - nI s = nI (8 * (n + s - i) + (n - s)) := by
  have e : nI n - nI i + nI s = nI (n + s - i) := by
    have e1 : nI n - nI i + nI s = nI n + nI s - nI i := by grind
    rw [e1, nI_add, pk_sub h]
  rw [e, ro_8a, pk_sub (by omega)]
  exact congrArg nI (by omega)
theorem ro_xgo (hc : ro_Cf so n k) (TT : ro_TT tb tg tn tf) (hI : ro_It p a) (hle : p.length ≤ ro_ln so n k) (hw : ro_V (ro_G so n k) p ∨ (so = 4 ∧ ro_sm p ≤ 100)) (K : post (nI (ro_cx so n k p))) : wpX_goingOn post (nI so, nI n, s3, nI (ro_ln so n k), s5, a, b, tb, tg, tn, tf) (nI p.length) := by
  obtain ⟨TB, TG, TN, TF⟩ := TT
  have hln := ro_ln_le hc
  obtain ⟨c1, c2, c3, c4⟩ := hc
  unfold wpX_goingOn
  refine nm_r (pk_sub hle) ?_
  refine pk_eq so 1 (fun h => ?_) (fun h1 => ?_)
  · subst h
    have e : ro_ln 1 n k = n := rfl
    rw [nI_clamp (by omega), TF _ (by omega)]
    exact ⟨vp_in_nI (by omega) (by omega), K⟩
  refine pk_eq so 2 (fun h => ?_) (fun h2 => ?_)
  · subst h
    have e : ro_ln 2 n k = n := rfl
    have hv := hw.resolve_right (by omega)
    have hm := ro_inv2 p hv
    refine ro_xgre hI (by omega) hv ?_
    refine nm_r (ro_pm1 _) ?_
    rw [ro_16a, nI_clamp (by omega), TG _ (by omega) _ (by omega)]
    exact ⟨vp_in_nI (by omega) (by omega), K⟩
  refine pk_eq so 0 (fun h => ?_) (fun h0 => ?_)
  · subst h
    have e : ro_ln 0 n k = k := rfl
    have hk := c4 (Or.inl rfl)
    have hv := hw.resolve_right (by omega)
    have hm := ro_inv0 p hv
    refine pk_eq p.length 0 (fun h => ?_) (fun h => ?_)
    · have ep : p = [] := List.length_eq_zero_iff.mp h
      subst ep
      exact ro_x83 TB (by omega) K (by omega)
    · obtain ⟨m, em⟩ : ∃ m, p.length = m + 1 := ⟨p.length - 1, by omega⟩
      have hla := ro_la_at em
      have e2 : nI n - 1 - nI (ro_at p m) = nI (n - ro_la p) := by
        have e3 : nI n - 1 = nI (n - 1) := pk_sub (b := 1) c2
        rw [e3, pk_sub (by omega)]
        exact congrArg nI (by omega)
      rw [show nI p.length - 1 = nI m by rw [em, nI_pred], nI_clamp (by omega), hI m (by omega), e2]
      exact ⟨vp_in_nI (by omega) (by omega), ro_x83 TB (by omega) K (by omega)⟩
  refine ro_xsum hI (by omega) ?_
  refine pk_eq so 3 (fun h => ?_) (fun h3 => ?_)
  · subst h
    have e : ro_ln 3 n k = 2 * n := rfl
    have hv := hw.resolve_right (by omega)
    have hm := ro_inv3 p hv
    rw [ro_x3 (by omega) hm.1, nI_clamp (by omega), TN _ (by omega) _ (by omega)]
    exact ⟨vp_in_nI (by omega) (by omega), K⟩
  · have h4 : so = 4 := by omega
    subst h4
    have e : ro_ln 4 n k = k := rfl
    have hk := c4 (Or.inr rfl)
    have hs : ro_sm p ≤ 100 := by
      rcases hw with hv | hv
      · have := (ro_inv4 p hv).1; omega
      · exact hv.2
    have K' : post (nI (ro_pa n (ro_sm p) (ro_ln 4 n k - p.length))) := K
    unfold ro_pa at K'
    refine nm_e ?_
    by_cases z : n < ro_sm p
    · rw [if_pos z] at K'
      exact br_t (pk_sneg (by omega) z) K'
    · rw [if_neg z] at K'
      rw [pk_sub (by omega)]
      refine br_f (nI_pos (by omega)) ?_
      refine pk_eq (ro_ln 4 n k - p.length) 0 (fun w => ?_) (fun w => ?_)
      · rw [if_pos w] at K'
        refine pk_le (n - ro_sm p) 0 (fun v => ?_) (fun v => ?_)
        · rw [if_neg (by omega)] at K'
          unfold wX_goingOn_167
          refine pk_eq (ro_ln 4 n k - p.length) 0 (fun _ => K') (fun w2 => absurd w w2)
        · rw [if_pos (by omega)] at K'
          exact K'
      · rw [if_neg w] at K'
        unfold wX_goingOn_167
        refine pk_eq (ro_ln 4 n k - p.length) 0 (fun w2 => absurd w2 w) (fun _ => ?_)
        obtain ⟨l, el⟩ : ∃ l, ro_ln 4 n k - p.length = l + 1 := ⟨ro_ln 4 n k - p.length - 1, by omega⟩
        rw [el, Nat.add_sub_cancel] at K'
        rw [el]
        exact ro_xway (by omega) (by omega) K'
theorem ro_xmay {x : Nat} (hc : ro_Cf so n k) (hI : ro_It p a) (hle : p.length < ro_ln so n k) (hv : ro_V (ro_G so n k) p) (hx : x < 8) (K1 : ro_M so n k p x = true → post 1) (K0 : ¬ ro_M so n k p x = true → post 0) : wpX_mayCome post (nI so, nI n, s3, nI (ro_ln so n k), s5, a, b, tb, tg, tn, tf) (nI p.length) (nI x) := by
  have hln := ro_ln_le hc
  obtain ⟨c1, c2, c3, c4⟩ := hc
  unfold wpX_mayCome
  refine pk_eq so 0 (fun h => ?_) (fun h0 => ?_)
  · subst h
    have e : ro_M 0 n k p x = decide (x < n ∧ ro_la p ≤ x) := rfl
    rw [e, decide_eq_true_eq] at K1 K0
    refine pk_le n x (fun h => K0 (by omega)) (fun h => ?_)
    refine pk_eq p.length 0 (fun h => ?_) (fun h => ?_)
    · have ep : p = [] := List.length_eq_zero_iff.mp h
      subst ep
      exact K1 ⟨by omega, Nat.zero_le _⟩
    · obtain ⟨m, em⟩ : ∃ m, p.length = m + 1 := ⟨p.length - 1, by omega⟩
      have hla := ro_la_at em
      have hd := (hv m (by omega)).1
      rw [show nI p.length - 1 = nI m by rw [em, nI_pred], nI_clamp (by omega), hI m (by omega)]
      exact ⟨vp_in_nI (by omega) (by omega), pk_le x (ro_at p m) (fun w => K0 (by omega)) (fun w => K1 ⟨by omega, by omega⟩)⟩
  refine pk_eq so 1 (fun h => ?_) (fun h1 => ?_)
  · subst h
    have e : ro_M 1 n k p x = decide (x < n ∧ x ∉ p) := rfl
    rw [e, decide_eq_true_eq] at K1 K0
    refine pk_le n x (fun h => K0 (by omega)) (fun h => ?_)
    refine ro_xuse hI (by omega) (fun i hi => (hv i hi).1) ?_
    intro r hr
    have hb := ro_bit r hx
    rw [hr x hx, decide_eq_false_iff_not] at hb
    exact br_c (fun z => K1 ⟨by omega, hb.mp z⟩) (fun z => K0 (fun w => z (hb.mpr w.2)))
  refine pk_eq so 2 (fun h => ?_) (fun h2 => ?_)
  · subst h
    have e : ro_M 2 n k p x = decide (x ≤ ro_mx p) := rfl
    rw [e, decide_eq_true_eq] at K1 K0
    have hm := ro_inv2 p hv
    refine ro_xgre hI (by omega) hv ?_
    rw [ro_pm1]
    exact pk_lt (ro_mx p) x (fun w => K0 (by omega)) (fun w => K1 w)
  refine pk_eq so 4 (fun h => ?_) (fun h4 => ?_)
  · subst h
    have e : ro_M 4 n k p x = decide (x ≤ n) := rfl
    rw [e, decide_eq_true_eq] at K1 K0
    exact pk_lt n x (fun w => K0 (by omega)) (fun w => K1 w)
  have h3 : so = 3 := by omega
  subst h3
  have e : ro_M 3 n k p x = decide (x ≤ 1 ∧ ro_sm p + x ≤ n ∧ p.length + 1 ≤ 2 * (ro_sm p + x)) := rfl
  rw [e, decide_eq_true_eq] at K1 K0
  have hm := ro_inv3 p hv
  refine pk_le x 1 (fun w => ?_) (fun w => K0 (by omega))
  refine ro_xsum hI (by omega) ?_
  refine pk_eq x 1 (fun w1 => ?_) (fun w1 => ?_)
  · exact pk_le n (ro_sm p) (fun w => K0 (by omega)) (fun w => K1 ⟨by omega, by omega, by omega⟩)
  · exact pk_le (ro_sm p) (p.length - ro_sm p) (fun w => K0 (by omega)) (fun w => K1 ⟨by omega, by omega, by omega⟩) rfl (pk_sub hm.2.2)
end
theorem ro_xwith {post : Int32 → SX → Prop} {so n k : Nat} {s3 s5 : Int32} {a b tb tg tn tf : Nat → Int32} {p : List Nat} {x s : Nat} (hc : ro_Cf so n k) (hn : ¬ (so = 4 ∧ k = 0)) (TT : ro_TT tb tg tn tf) (hB : ro_By a) (hI : ro_It p a) (hl : p.length + (s + 1) = ro_ln so n k) (hv : ro_V (ro_G so n k) p) (hx : x < 8) (K : post (nI (ro_ww (ro_G so n k) s p x)) (nI so, nI n, s3, nI (ro_ln so n k), s5, a, b, tb, tg, tn, tf)) : wpX_withItem post (nI so, nI n, s3, nI (ro_ln so n k), s5, a, b, tb, tg, tn, tf) (nI p.length) (nI x) := by
  have hW := ro_with hc hn hv hl hx
  have hln := ro_ln_le hc
  unfold wpX_withItem
  refine ro_xmay hc hI (by omega) hv hx (fun m => ?_) (fun m => ?_)
  · rw [if_pos m] at hW
    refine br_f (by decide) ?_
    refine ⟨vp_in_nI (by omega) (by omega), nm_e ⟨vp_in_nI (by omega) (by omega), nm_r (e' := upd a p.length (nI x)) ?_ ?_⟩⟩
    · rw [nI_clamp (by omega), ro_nar x (by omega)]
    · rw [nI_1, ← ro_len_s p x]
      refine ro_xgo hc TT (ro_ItS hI x) (by rw [ro_len_s]; omega) ?_ ?_
      · by_cases z : so = 4
        · right
          subst z
          have h1 := (ro_inv4 p hv).1
          have h2 := hc.2.2.1
          rw [ro_sm_s]
          exact ⟨rfl, by omega⟩
        · left
          refine ro_V_snoc hv hx ?_
          unfold ro_M at m
          rw [if_neg z] at m
          exact m
      · rw [← hW]
        refine ⟨vp_in_nI (by omega) (by omega), nm_r (e' := a) ?_ K⟩
        rw [nI_clamp (by omega), hB p.length]
        funext j
        by_cases z : j = p.length
        · rw [z, pk_us]
        · rw [pk_un z, pk_un z]
  · rw [if_neg m] at hW
    rw [hW] at K
    exact br_t rfl K
end
section
/-! ===== the component: go, rankUpTo ===== -/
def ro_Ev (so n k : Nat) (tb tg tn tf : Nat → Int32) : Prop := ro_Cf so n k ∧ (¬ (so = 4 ∧ k = 0)) ∧ ro_TT tb tg tn tf
def ro_Pf (so n k : Nat) (p : List Nat) (s : Nat) (a : Nat → Int32) : Prop := ro_V (ro_G so n k) p ∧ p.length + s = ro_ln so n k ∧ ro_It p a ∧ ro_By a
theorem ro_pm_lt : ∀ c, c < 16 → ∀ j, j < 16 → (ro_pm c < nI j ↔ c ≤ j) := by decide +kernel
theorem ro_pms (x : Nat) : ro_pm (x + 1) = nI x := nI_pred x
theorem ro_pmm (x : Nat) : nI x + (-1) = ro_pm x := by unfold ro_pm; grind
section
variable {so n k : Nat} {s3 s5 : Int32} {a b tb tg tn tf : Nat → Int32} {p o : List Nat} {s : Nat}
theorem ro_PfS {x : Nat} (h : ro_Pf so n k p (s + 1) a) (hx : x < 8) (g : ro_G so n k p x = true) : ro_Pf so n k (p ++ [x]) s (upd a p.length (nI x)) :=
  ⟨ro_V_snoc h.1 hx g, by rw [ro_len_s]; have := h.2.1; omega, ro_ItS h.2.2.1 x, ro_ByU h.2.2.2 (by omega)⟩
theorem ro_Pf0 (hB : ro_By a) : ro_Pf so n k [] (ro_ln so n k) a :=
  ⟨ro_V_nil, Nat.zero_add _, fun j hj => absurd hj (Nat.not_lt_zero j), hB⟩
theorem ro_PfT {i : Nat} (h : ro_Pf so n k o 0 a) (hi : i ≤ ro_ln so n k) : ro_Pf so n k (o.take i) (ro_ln so n k - i) a := by
  have h1 : o.length + 0 = ro_ln so n k := h.2.1
  exact ⟨ro_V_take h.1 i, by rw [ro_len_take (by omega)]; omega, ro_ItT h.2.2.1 i, h.2.2.2⟩
theorem ro_small (hE : ro_Ev so n k tb tg tn tf) (hv : ro_V (ro_G so n k) p) (hl : p.length + s = ro_ln so n k) : (ro_LL (ro_G so n k) s p).length ≤ 5040 := by
  have h1 := (ro_blk (L := ro_ln so n k) hv p.length (by omega) (Nat.le_refl _)).1
  rw [List.take_length, show ro_ln so n k - p.length = s by omega] at h1
  have h2 := ro_bound hE.1 hE.2.1 (ro_ln so n k) (Nat.le_refl _)
  omega
theorem ro_xw {post : Int32 → SX → Prop} {i x : Nat} (hE : ro_Ev so n k tb tg tn tf) (hP : ro_Pf so n k p (s + 1) a) (hi : p.length = i) (hx : x < 8) (K : post (nI (ro_ww (ro_G so n k) s p x)) (nI so, nI n, s3, nI (ro_ln so n k), s5, a, b, tb, tg, tn, tf)) : wpX_withItem post (nI so, nI n, s3, nI (ro_ln so n k), s5, a, b, tb, tg, tn, tf) (nI i) (nI x) := by
  subst hi
  exact ro_xwith hE.1 hE.2.1 hE.2.2 hP.2.2.2 hP.2.2.1 hP.2.1 hP.1 hx K
theorem ro_ww8 {x : Nat} (hx : x < 8) : ro_SW (ro_G so n k) s p x + ro_ww (ro_G so n k) s p x ≤ (ro_LL (ro_G so n k) (s + 1) p).length := by
  rw [ro_LL_len]
  exact ro_sum_lt hx
theorem ro_g44 {post : Int32 → SX → Prop} {J : Int32 → Int32 → Int32 → Int32 → Int32 → Int32 → Int32 → (Nat → Int32) → (Nat → Int32) → (Nat → Int32) → (Nat → Int32) → (Nat → Int32) → (Nat → Int32) → Prop} {x1 : Int32} {t : Nat} (hE : ro_Ev so n k tb tg tn tf) (hP : ro_Pf so n k p (s + 1) a) (ht : (ro_LL (ro_G so n k) (s + 1) p)[t]? = some o)
    (K : ∀ x r, x < 8 → ro_G so n k p x = true → (ro_LL (ro_G so n k) s (p ++ [x]))[r]? = some o → J (nI r) (nI (p.length + 1)) (nI so) (nI n) s3 (nI (ro_ln so n k)) s5 (upd a p.length (nI x)) b tb tg tn tf) :
    ∀ m x r, x < 8 → 8 - x < m → t = ro_SW (ro_G so n k) s p x + r → wX_go_44 post J x1 (nI p.length) m (nI r) (nI x) (nI (ro_ww (ro_G so n k) s p x)) (nI so) (nI n) s3 (nI (ro_ln so n k)) s5 a b tb tg tn tf := by
  have hb := ro_small hE hP.1 hP.2.1
  have htl := (List.getElem?_eq_some_iff.mp ht).1
  have hln := ro_ln_le hE.1
  have hpl := hP.2.1
  intro m
  induction m with
  | zero => intro x r _ h; omega
  | succ m ih =>
    intro x r hx hm e
    have hw := ro_ww8 (so := so) (n := n) (k := k) (s := s) (p := p) hx
    refine pk_lt r (ro_ww (ro_G so n k) s p x) (fun h => ?_) (fun h => ?_)
    · have g : ro_G so n k p x = true := ro_ww_g (s := s) (by omega)
      refine ⟨vp_in_nI (by omega) (by omega), nm_r (e' := upd a p.length (nI x)) ?_ (nm_r (nI_1 p.length) (K x r hx g ?_))⟩
      · rw [nI_clamp (by omega), ro_nar x (by omega)]
      · rw [← ro_LL_get hx h, ← e]
        exact ht
    · have hs := ro_SW_s (G := ro_G so n k) s p x
      have hx8 : x + 1 < 8 := by
        rcases Nat.lt_or_ge (x + 1) 8 with h1 | h1
        · exact h1
        · have e7 : x = 7 := by omega
          subst e7
          have h8 := ro_LL_len (G := ro_G so n k) s p
          have hs' : ro_SW (ro_G so n k) s p 8 = ro_SW (ro_G so n k) s p 7 + ro_ww (ro_G so n k) s p 7 := hs
          omega
      refine nm_r (pk_sub h) (nm_r (nI_1 x) ?_)
      exact ro_xw hE hP rfl hx8 (ih (x + 1) (r - ro_ww (ro_G so n k) s p x) hx8 (by omega) (by omega))
theorem ro_g22 {post : Int32 → SX → Prop} {x1 : Int32} (hE : ro_Ev so n k tb tg tn tf) (K : ∀ a', ro_Pf so n k o 0 a' → post x1 (nI so, nI n, s3, nI (ro_ln so n k), x1, a', b, tb, tg, tn, tf)) :
    ∀ m s p a r, s < m → ro_Pf so n k p s a → (ro_LL (ro_G so n k) s p)[r]? = some o → wX_go_22 post x1 m (nI r) (nI p.length) (nI so) (nI n) s3 (nI (ro_ln so n k)) s5 a b tb tg tn tf := by
  have hln := ro_ln_le hE.1
  intro m
  induction m with
  | zero => intro s p a r h; omega
  | succ m ih =>
    intro s p a r h hP ht
    have hpl := hP.2.1
    refine pk_le (ro_ln so n k) p.length (fun h => ?_) (fun h => ?_)
    · have e : s = 0 := by omega
      subst e
      have h1 : o ∈ ro_LL (ro_G so n k) 0 p := List.mem_of_getElem? ht
      have e : o = p := List.mem_singleton.mp h1
      subst e
      exact K a hP
    · obtain ⟨q, rfl⟩ : ∃ q, s = q + 1 := ⟨s - 1, by omega⟩
      refine ro_xw (x := 0) hE hP rfl (by omega) ⟨9, ro_g44 hE hP ht (fun x r' hx g h2 => ?_) 9 0 r (by omega) (by omega) ?_⟩
      · have h3 := ih q (p ++ [x]) _ r' (by omega) (ro_PfS hP hx g) h2
        rw [ro_len_s] at h3
        exact h3
      · exact (Nat.zero_add r).symm
/-- goingOn(0): the number of all objects -/
theorem ro_xcnt {post : Int32 → Prop} (hc : ro_Cf so n k) (TT : ro_TT tb tg tn tf) (K : post (nI (ro_Lst so n k).length)) : wpX_goingOn post (nI so, nI n, s3, nI (ro_ln so n k), s5, a, b, tb, tg, tn, tf) 0 := by
  have h : post (nI (ro_cx so n k [])) := by
    unfold ro_Lst at K
    by_cases z : so = 4 ∧ k = 0
    · rw [if_pos z] at K
      obtain ⟨rfl, rfl⟩ := z
      have e : ro_cx 4 n 0 [] = 0 := by
        show ro_pa n 0 0 = 0
        unfold ro_pa
        have := hc.2.1
        rw [if_neg (by omega), if_pos rfl, if_pos (by omega)]
      rw [e]
      exact K
    · rw [if_neg z, ro_law hc z _ [] ro_V_nil (Nat.zero_add _)] at K
      exact K
  exact ro_xgo (p := []) hc TT (fun j hj => absurd hj (Nat.not_lt_zero j)) (Nat.zero_le _) (Or.inl ro_V_nil) h
theorem ro_Lst_n (hE : ro_Ev so n k tb tg tn tf) : ro_Lst so n k = ro_LL (ro_G so n k) (ro_ln so n k) [] := if_neg hE.2.1
theorem ro_Lst_le (hc : ro_Cf so n k) : (ro_Lst so n k).length ≤ 5040 := by
  unfold ro_Lst
  by_cases z : so = 4 ∧ k = 0
  · rw [if_pos z]; exact Nat.zero_le _
  · rw [if_neg z]; exact ro_bound hc z _ (Nat.le_refl _)
theorem ro_xgoN {post : Int32 → SX → Prop} {r : Nat} (hE : ro_Ev so n k tb tg tn tf) (hB : ro_By a) (hr : (ro_Lst so n k)[r]? = some o) (K : ∀ a', ro_Pf so n k o 0 a' → post (nI r) (nI so, nI n, s3, nI (ro_ln so n k), nI r, a', b, tb, tg, tn, tf)) : wpX_go post (nI so, nI n, s3, nI (ro_ln so n k), s5, a, b, tb, tg, tn, tf) (nI r) := by
  have h1 := (List.getElem?_eq_some_iff.mp hr).1
  have h2 := ro_Lst_le hE.1
  unfold wpX_go
  refine ro_xcnt hE.1 hE.2.2 ?_
  refine br_f (nI_pos (by omega)) (br_t (nI_lt h1 (by omega)) ?_)
  rw [ro_Lst_n hE] at hr
  exact ⟨ro_ln so n k + 1, ro_g22 hE K (ro_ln so n k + 1) (ro_ln so n k) [] a r (by omega) (ro_Pf0 hB) hr⟩
theorem ro_r20 {post : Int32 → SX → Prop} {J : Int32 → Int32 → Int32 → Int32 → Int32 → Int32 → Int32 → (Nat → Int32) → (Nat → Int32) → (Nat → Int32) → (Nat → Int32) → (Nat → Int32) → (Nat → Int32) → Prop} {x1 : Int32} {j q c : Nat} (hE : ro_Ev so n k tb tg tn tf) (hP : ro_Pf so n k o 0 a) (hj : j + (q + 1) = ro_ln so n k)
    (K : J (nI (c + ro_SW (ro_G so n k) q (o.take j) (ro_at o j))) (nI (j + 1)) (nI so) (nI n) s3 (nI (ro_ln so n k)) s5 a b tb tg tn tf) :
    ∀ m x, x ≤ ro_at o j → ro_at o j - x < m → wX_rankUpTo_20 post J x1 (nI j) (nI (ro_at o j)) m (nI (c + ro_SW (ro_G so n k) q (o.take j) x)) (nI x) (nI so) (nI n) s3 (nI (ro_ln so n k)) s5 a b tb tg tn tf := by
  have hln := ro_ln_le hE.1
  have hol : o.length + 0 = ro_ln so n k := hP.2.1
  have hd := (hP.1 j (by omega)).1
  intro m
  induction m with
  | zero => intro x _ h; omega
  | succ m ih =>
    intro x hx hm
    refine pk_le (ro_at o j) x (fun h => ?_) (fun h => ?_)
    · have e : x = ro_at o j := by omega
      subst e
      refine ⟨vp_in_nI (by omega) (by omega), nm_r (e' := a) ?_ (nm_r (nI_1 j) K)⟩
      rw [nI_clamp (by omega), ro_nar _ (by omega), ← hP.2.2.1 j (by omega)]
      funext y
      by_cases z : y = j
      · rw [z, pk_us]
      · rw [pk_un z]
    · have hP2 : ro_Pf so n k (o.take j) (q + 1) a := by
        have h3 := ro_PfT (i := j) hP (by omega)
        rw [show ro_ln so n k - j = q + 1 by omega] at h3
        exact h3
      refine ro_xw hE hP2 (ro_len_take (by omega)) (by omega) ?_
      refine nm_r (e' := nI (c + ro_SW (ro_G so n k) q (o.take j) (x + 1))) ?_ (nm_r (nI_1 x) (ih (x + 1) (by omega) (by omega)))
      rw [nI_add, ro_SW_s, Nat.add_assoc]
theorem ro_r4 {post : Int32 → SX → Prop} {c : Nat} (hE : ro_Ev so n k tb tg tn tf) (hP : ro_Pf so n k o 0 a) (hc : c ≤ ro_ln so n k) (K : post (nI (ro_bs (ro_G so n k) (ro_ln so n k) o c)) (nI so, nI n, s3, nI (ro_ln so n k), s5, a, b, tb, tg, tn, tf)) :
    ∀ m j, j ≤ c → c - j < m → wX_rankUpTo_4 post (ro_pm c) m (nI (ro_bs (ro_G so n k) (ro_ln so n k) o j)) (nI j) (nI so) (nI n) s3 (nI (ro_ln so n k)) s5 a b tb tg tn tf := by
  have hln := ro_ln_le hE.1
  have hol : o.length + 0 = ro_ln so n k := hP.2.1
  intro m
  induction m with
  | zero => intro j _ h; omega
  | succ m ih =>
    intro j hj hm
    have hlt := ro_pm_lt c (by omega) j (by omega)
    refine br_c (fun z => ?_) (fun z => ?_)
    · have e : j = c := by have := hlt.mp z; omega
      subst e
      exact K
    · have h : j < c := by
        rcases Nat.lt_or_ge j c with h | h
        · exact h
        · exact absurd (hlt.mpr h) z
      obtain ⟨q, hq⟩ : ∃ q, j + (q + 1) = ro_ln so n k := ⟨ro_ln so n k - j - 1, by omega⟩
      have hb : ro_bs (ro_G so n k) (ro_ln so n k) o (j + 1) = ro_bs (ro_G so n k) (ro_ln so n k) o j + ro_SW (ro_G so n k) q (o.take j) (ro_at o j) := by
        show _ + ro_SW (ro_G so n k) (ro_ln so n k - j - 1) (o.take j) (ro_at o j) = _
        rw [show ro_ln so n k - j - 1 = q by omega]
      have h5 := ih (j + 1) (by omega) (by omega)
      rw [hb] at h5
      refine ⟨vp_in_nI (by omega) (by omega), nm_r (e' := nI (ro_at o j)) ?_ ⟨9, ?_⟩⟩
      · rw [nI_clamp (by omega)]
        exact hP.2.2.1 j (by omega)
      · have hd := (hP.1 j (by omega)).1
        exact ro_r20 hE hP hq h5 9 0 (by omega) (by omega)
theorem ro_xrank {post : Int32 → SX → Prop} {c : Nat} (hE : ro_Ev so n k tb tg tn tf) (hP : ro_Pf so n k o 0 a) (hc : c ≤ ro_ln so n k) (K : post (nI (ro_bs (ro_G so n k) (ro_ln so n k) o c)) (nI so, nI n, s3, nI (ro_ln so n k), s5, a, b, tb, tg, tn, tf)) : wpX_rankUpTo post (nI so, nI n, s3, nI (ro_ln so n k), s5, a, b, tb, tg, tn, tf) (ro_pm c) :=
  ⟨c + 1, ro_r4 hE hP hc K (c + 1) 0 (by omega) (by omega)⟩
end
end
section
/-! ===== the component: next, previous ===== -/
theorem ro_pm_neg : ∀ c, c < 16 → (ro_pm c < 0 ↔ c = 0) := by decide +kernel
section
variable {so n k : Nat} {s3 s5 : Int32} {a b tb tg tn tf : Nat → Int32} {p o : List Nat} {s : Nat}
variable {J : Int32 → Int32 → Int32 → Int32 → Int32 → Int32 → (Nat → Int32) → (Nat → Int32) → (Nat → Int32) → (Nat → Int32) → (Nat → Int32) → (Nat → Int32) → Prop}
theorem ro_bs_s {j q : Nat} (hj : j + (q + 1) = ro_ln so n k) : ro_bs (ro_G so n k) (ro_ln so n k) o (j + 1) = ro_bs (ro_G so n k) (ro_ln so n k) o j + ro_SW (ro_G so n k) q (o.take j) (ro_at o j) := by
  show _ + ro_SW (ro_G so n k) (ro_ln so n k - j - 1) (o.take j) (ro_at o j) = _
  rw [show ro_ln so n k - j - 1 = q by omega]
theorem ro_x_ww {x : Nat} (hE : ro_Ev so n k tb tg tn tf) (hP : ro_Pf so n k p (s + 1) a) (hx : x < 8) : ro_ww (ro_G so n k) s p x ≤ 5040 := by
  have hb := ro_small hE hP.1 hP.2.1
  have hw := ro_ww8 (so := so) (n := n) (k := k) (s := s) (p := p) hx
  omega
theorem ro_sm2 {post : Int32 → SX → Prop} (hE : ro_Ev so n k tb tg tn tf) (hP : ro_Pf so n k p (s + 1) a) (hne : 0 < (ro_LL (ro_G so n k) (s + 1) p).length) (K : ∀ x, x < 8 → ro_ww (ro_G so n k) s p x ≠ 0 → ro_SW (ro_G so n k) s p x = 0 → post (nI x) (nI so, nI n, s3, nI (ro_ln so n k), s5, a, b, tb, tg, tn, tf)) :
    ∀ m x, x < 8 → 8 - x < m → ro_SW (ro_G so n k) s p x = 0 → wX_smallestAt_2 post (nI p.length) m (nI x) (nI so) (nI n) s3 (nI (ro_ln so n k)) s5 a b tb tg tn tf := by
  intro m
  induction m with
  | zero => intro x _ h; omega
  | succ m ih =>
    intro x hx hm h0
    have hw := ro_x_ww hE hP hx
    unfold wX_smallestAt_2
    refine ro_xw hE hP rfl hx ?_
    refine pk_eq (ro_ww (ro_G so n k) s p x) 0 (fun z => ?_) (fun z => K x hx z h0)
    have hs := ro_SW_s (G := ro_G so n k) s p x
    have hx8 : x + 1 < 8 := by
      rcases Nat.lt_or_ge (x + 1) 8 with h1 | h1
      · exact h1
      · have e7 : x = 7 := by omega
        subst e7
        have h8 := ro_LL_len (G := ro_G so n k) s p
        have hs' : ro_SW (ro_G so n k) s p 8 = ro_SW (ro_G so n k) s p 7 + ro_ww (ro_G so n k) s p 7 := hs
        omega
    exact nm_r (nI_1 x) (ih (x + 1) hx8 (by omega) (by omega))
theorem ro_xsmall {post : Int32 → SX → Prop} (hE : ro_Ev so n k tb tg tn tf) (hP : ro_Pf so n k p (s + 1) a) (hne : 0 < (ro_LL (ro_G so n k) (s + 1) p).length) (K : ∀ x, x < 8 → ro_ww (ro_G so n k) s p x ≠ 0 → ro_SW (ro_G so n k) s p x = 0 → post (nI x) (nI so, nI n, s3, nI (ro_ln so n k), s5, a, b, tb, tg, tn, tf)) : wpX_smallestAt post (nI so, nI n, s3, nI (ro_ln so n k), s5, a, b, tb, tg, tn, tf) (nI p.length) :=
  ⟨9, ro_sm2 hE hP hne K 9 0 (by omega) (by omega) rfl⟩
theorem ro_gr3 {post : Int32 → SX → Prop} (hE : ro_Ev so n k tb tg tn tf) (hP : ro_Pf so n k p (s + 1) a) (hne : 0 < (ro_LL (ro_G so n k) (s + 1) p).length) (K : ∀ x, x < 8 → ro_ww (ro_G so n k) s p x ≠ 0 → ro_SW (ro_G so n k) s p (x + 1) = (ro_LL (ro_G so n k) (s + 1) p).length → post (nI x) (nI so, nI n, s3, nI (ro_ln so n k), s5, a, b, tb, tg, tn, tf)) :
    ∀ m x, x < 8 → x < m → ro_SW (ro_G so n k) s p (x + 1) = (ro_LL (ro_G so n k) (s + 1) p).length → wX_greatestAt_3 post (nI p.length) m (nI x) (nI so) (nI n) s3 (nI (ro_ln so n k)) s5 a b tb tg tn tf := by
  intro m
  induction m with
  | zero => intro x _ h; omega
  | succ m ih =>
    intro x hx hm h0
    have hw := ro_x_ww hE hP hx
    unfold wX_greatestAt_3
    refine ro_xw hE hP rfl hx ?_
    refine pk_eq (ro_ww (ro_G so n k) s p x) 0 (fun z => ?_) (fun z => K x hx z h0)
    have hs := ro_SW_s (G := ro_G so n k) s p x
    cases x with
    | zero =>
      have h9 : ro_SW (ro_G so n k) s p 0 = 0 := rfl
      omega
    | succ y => exact nm_r (pk_m1 y) (ih y (by omega) (by omega) (by omega))
theorem ro_xgreat {post : Int32 → SX → Prop} (hE : ro_Ev so n k tb tg tn tf) (hP : ro_Pf so n k p (s + 1) a) (hne : 0 < (ro_LL (ro_G so n k) (s + 1) p).length) (K : ∀ x, x < 8 → ro_ww (ro_G so n k) s p x ≠ 0 → ro_SW (ro_G so n k) s p (x + 1) = (ro_LL (ro_G so n k) (s + 1) p).length → post (nI x) (nI so, nI n, s3, nI (ro_ln so n k), s5, a, b, tb, tg, tn, tf)) : wpX_greatestAt post (nI so, nI n, s3, nI (ro_ln so n k), s5, a, b, tb, tg, tn, tf) (nI p.length) :=
  ⟨8, ro_gr3 hE hP hne K 8 7 (by omega) (by omega) (ro_LL_len s p).symm⟩
theorem ro_n89 {post : Int32 → SX → Prop} {cur : Nat} (hE : ro_Ev so n k tb tg tn tf) (K : ∀ a', ro_Pf so n k o 0 a' → post (nI (cur + 1)) (nI so, nI n, s3, nI (ro_ln so n k), nI (cur + 1), a', b, tb, tg, tn, tf)) :
    ∀ m s p a, s < m → ro_Pf so n k p s a → (ro_LL (ro_G so n k) s p)[0]? = some o → wX_next_89 post m (nI p.length) (nI so) (nI n) s3 (nI (ro_ln so n k)) (nI cur) a b tb tg tn tf := by
  have hln := ro_ln_le hE.1
  intro m
  induction m with
  | zero => intro s p a h; omega
  | succ m ih =>
    intro s p a h hP ht
    have hpl := hP.2.1
    refine pk_le (ro_ln so n k) p.length (fun h => ?_) (fun h => ?_)
    · have e : s = 0 := by omega
      subst e
      have h1 : o ∈ ro_LL (ro_G so n k) 0 p := List.mem_of_getElem? ht
      have e : o = p := List.mem_singleton.mp h1
      subst e
      exact nm_r (nI_1 cur) (K a hP)
    · obtain ⟨q, rfl⟩ : ∃ q, s = q + 1 := ⟨s - 1, by omega⟩
      refine ro_xsmall hE hP (List.getElem?_eq_some_iff.mp ht).1 ?_
      intro x hx hw h0
      refine ⟨vp_in_nI (by omega) (by omega), nm_r (e' := upd a p.length (nI x)) ?_ (nm_r (nI_1 p.length) ?_)⟩
      · rw [nI_clamp (by omega), ro_nar x (by omega)]
      · have h3 := ro_LL_get (G := ro_G so n k) (s := q) (p := p) (t := 0) hx (by omega)
        rw [h0, ht] at h3
        have h4 := ih q (p ++ [x]) _ (by omega) (ro_PfS hP hx (ro_ww_g hw)) h3.symm
        rw [ro_len_s] at h4
        exact h4
theorem ro_p68 {post : Int32 → SX → Prop} {cur : Nat} (hE : ro_Ev so n k tb tg tn tf) (K : ∀ a', ro_Pf so n k o 0 a' → post (nI cur) (nI so, nI n, s3, nI (ro_ln so n k), nI cur, a', b, tb, tg, tn, tf)) :
    ∀ m s p a t, s < m → ro_Pf so n k p s a → t + 1 = (ro_LL (ro_G so n k) s p).length → (ro_LL (ro_G so n k) s p)[t]? = some o → wX_previous_68 post m (nI p.length) (nI so) (nI n) s3 (nI (ro_ln so n k)) (nI (cur + 1)) a b tb tg tn tf := by
  have hln := ro_ln_le hE.1
  intro m
  induction m with
  | zero => intro s p a t h; omega
  | succ m ih =>
    intro s p a t h hP hl ht
    have hpl := hP.2.1
    refine pk_le (ro_ln so n k) p.length (fun h => ?_) (fun h => ?_)
    · have e : s = 0 := by omega
      subst e
      have h1 : o ∈ ro_LL (ro_G so n k) 0 p := List.mem_of_getElem? ht
      have e : o = p := List.mem_singleton.mp h1
      subst e
      exact nm_r (nI_pred cur) (K a hP)
    · obtain ⟨q, rfl⟩ : ∃ q, s = q + 1 := ⟨s - 1, by omega⟩
      refine ro_xgreat hE hP (by omega) ?_
      intro x hx hw h0
      refine ⟨vp_in_nI (by omega) (by omega), nm_r (e' := upd a p.length (nI x)) ?_ (nm_r (nI_1 p.length) ?_)⟩
      · rw [nI_clamp (by omega), ro_nar x (by omega)]
      · have hs := ro_SW_s (G := ro_G so n k) q p x
        have g := ro_ww_g hw
        have hwt := ro_ww_t (s := q) g
        have h3 := ro_LL_get (G := ro_G so n k) (s := q) (p := p) (t := ro_ww (ro_G so n k) q p x - 1) hx (by omega)
        rw [show ro_SW (ro_G so n k) q p x + (ro_ww (ro_G so n k) q p x - 1) = t by omega, ht] at h3
        have h4 := ih q (p ++ [x]) _ (ro_ww (ro_G so n k) q p x - 1) (by omega) (ro_PfS hP hx g) (by omega) h3.symm
        rw [ro_len_s] at h4
        exact h4
theorem ro_n46 {post : Int32 → SX → Prop} {j q : Nat} (hE : ro_Ev so n k tb tg tn tf) (hP : ro_Pf so n k (o.take j) (q + 1) a) (hj : (o.take j).length = j) (h14 : j < 14)
    (K0 : ro_SW (ro_G so n k) q (o.take j) 8 = ro_SW (ro_G so n k) q (o.take j) (ro_at o j + 1) → J (ro_pm j) (nI so) (nI n) s3 (nI (ro_ln so n k)) s5 a b tb tg tn tf)
    (K1 : ∀ x, x < 8 → ro_ww (ro_G so n k) q (o.take j) x ≠ 0 → ro_SW (ro_G so n k) q (o.take j) x = ro_SW (ro_G so n k) q (o.take j) (ro_at o j + 1) → ∃ m, wX_next_89 post m (nI (j + 1)) (nI so) (nI n) s3 (nI (ro_ln so n k)) s5 (upd a j (nI x)) b tb tg tn tf) :
    ∀ m x, x ≤ 8 → 8 - x < m → ro_SW (ro_G so n k) q (o.take j) x = ro_SW (ro_G so n k) q (o.take j) (ro_at o j + 1) → wX_next_46 post J (nI j) m (nI x) (nI so) (nI n) s3 (nI (ro_ln so n k)) s5 a b tb tg tn tf := by
  intro m
  induction m with
  | zero => intro x _ h; omega
  | succ m ih =>
    intro x hx hm h0
    refine pk_le 8 x (fun h => ?_) (fun h => ?_)
    · have e : x = 8 := by omega
      subst e
      unfold wX_next_67
      exact br_t rfl (nm_r (ro_pmm j) (K0 h0))
    · have hw := ro_x_ww hE hP h
      refine ro_xw hE hP hj h ?_
      refine pk_eq (ro_ww (ro_G so n k) q (o.take j) x) 0 (fun z => ?_) (fun z => ?_)
      · have hs := ro_SW_s (G := ro_G so n k) q (o.take j) x
        exact nm_r (nI_1 x) (ih (x + 1) (by omega) (by omega) (by omega))
      · unfold wX_next_67
        refine pk_eq x 8 (fun w => by omega) (fun w => ?_)
        refine ⟨vp_in_nI (by omega) (by omega), nm_r (e' := upd a j (nI x)) ?_ (nm_r (nI_1 j) (K1 x h z h0))⟩
        rw [nI_clamp (by omega), ro_nar x (by omega)]
theorem ro_n33 {post : Int32 → SX → Prop} {cur : Nat} {o' : List Nat} (hE : ro_Ev so n k tb tg tn tf) (hP : ro_Pf so n k o 0 a) (ht : (ro_LL (ro_G so n k) (ro_ln so n k) [])[cur + 1]? = some o') (K : ∀ a', ro_Pf so n k o' 0 a' → post (nI (cur + 1)) (nI so, nI n, s3, nI (ro_ln so n k), nI (cur + 1), a', b, tb, tg, tn, tf)) :
    ∀ m c, c ≤ ro_ln so n k → c < m → cur + 1 = ro_bs (ro_G so n k) (ro_ln so n k) o c + (ro_LL (ro_G so n k) (ro_ln so n k - c) (o.take c)).length → wX_next_33 post m (ro_pm c) (nI so) (nI n) s3 (nI (ro_ln so n k)) (nI cur) a b tb tg tn tf := by
  have hln := ro_ln_le hE.1
  have hol : o.length + 0 = ro_ln so n k := hP.2.1
  have htl := (List.getElem?_eq_some_iff.mp ht).1
  intro m
  induction m with
  | zero => intro c _ h; omega
  | succ m ih =>
    intro c hc hm h0
    cases c with
    | zero =>
      exfalso
      rw [List.take_zero, Nat.sub_zero] at h0
      have h9 : ro_bs (ro_G so n k) (ro_ln so n k) o 0 = 0 := rfl
      omega
    | succ j =>
      obtain ⟨q, hq⟩ : ∃ q, j + (q + 1) = ro_ln so n k := ⟨ro_ln so n k - j - 1, by omega⟩
      have hb := ro_bs_s (o := o) hq
      have hd := hP.1 j (by omega)
      have hP2 : ro_Pf so n k (o.take j) (q + 1) a := by
        have h3 := ro_PfT (i := j) hP (by omega)
        rw [show ro_ln so n k - j = q + 1 by omega] at h3
        exact h3
      have hj := ro_len_take (o := o) (i := j) (by omega)
      have hs := ro_SW_s (G := ro_G so n k) q (o.take j) (ro_at o j)
      have hwt := ro_ww_t (s := q) hd.2
      rw [← ro_take_s (by omega)] at hwt
      rw [show ro_ln so n k - (j + 1) = q by omega, ← hwt, hb] at h0
      rw [ro_pms]
      refine br_f (nI_pos (by omega)) ⟨vp_in_nI (by omega) (by omega), nm_r (e' := nI (ro_at o j + 1)) ?_ ⟨9, ro_n46 hE hP2 hj (by omega) (fun h8 => ?_) (fun x hx hw hx0 => ?_) 9 (ro_at o j + 1) (by omega) (by omega) rfl⟩⟩
      · rw [nI_clamp (by omega), hP.2.2.1 j (by omega), nI_1]
      · refine ih j (by omega) (by omega) ?_
        rw [show ro_ln so n k - j = q + 1 by omega, ro_LL_len]
        omega
      · have g := ro_ww_g hw
        have hblk := (ro_blk (L := ro_ln so n k) hP.1 j (by omega) (by omega)).2 (ro_SW (ro_G so n k) q (o.take j) x) (by
          rw [show ro_ln so n k - j = q + 1 by omega]
          have := ro_ww8 (so := so) (n := n) (k := k) (s := q) (p := o.take j) hx
          omega)
        rw [show ro_ln so n k - j = q + 1 by omega] at hblk
        have h3 : (ro_LL (ro_G so n k) (q + 1) (o.take j))[ro_SW (ro_G so n k) q (o.take j) x]? = (ro_LL (ro_G so n k) q (o.take j ++ [x]))[0]? := ro_LL_get (t := 0) hx (by omega)
        rw [h3, show ro_bs (ro_G so n k) (ro_ln so n k) o j + ro_SW (ro_G so n k) q (o.take j) x = cur + 1 by omega, ht] at hblk
        have hP3 := ro_PfS hP2 hx g
        have h4 := ro_n89 hE K (q + 1) q (o.take j ++ [x]) _ (by omega) hP3 hblk.symm
        rw [ro_len_s, hj] at h4
        exact ⟨q + 1, h4⟩
theorem ro_p30 {post : Int32 → SX → Prop} {j q : Nat} (hE : ro_Ev so n k tb tg tn tf) (hP : ro_Pf so n k (o.take j) (q + 1) a) (hj : (o.take j).length = j) (h14 : j < 14) (h8 : ro_at o j < 8)
    (K0 : ro_SW (ro_G so n k) q (o.take j) (ro_at o j) = 0 → J (ro_pm j) (nI so) (nI n) s3 (nI (ro_ln so n k)) s5 a b tb tg tn tf)
    (K1 : ∀ x, x < 8 → ro_ww (ro_G so n k) q (o.take j) x ≠ 0 → ro_SW (ro_G so n k) q (o.take j) (x + 1) = ro_SW (ro_G so n k) q (o.take j) (ro_at o j) → ∃ m, wX_previous_68 post m (nI (j + 1)) (nI so) (nI n) s3 (nI (ro_ln so n k)) s5 (upd a j (nI x)) b tb tg tn tf) :
    ∀ m y, y ≤ ro_at o j → y < m → ro_SW (ro_G so n k) q (o.take j) y = ro_SW (ro_G so n k) q (o.take j) (ro_at o j) → wX_previous_30 post J (nI j) m (ro_pm y) (nI so) (nI n) s3 (nI (ro_ln so n k)) s5 a b tb tg tn tf := by
  intro m
  induction m with
  | zero => intro y _ h; omega
  | succ m ih =>
    intro y hy hm h0
    cases y with
    | zero =>
      refine br_t (by decide) ?_
      unfold wX_previous_49
      exact br_f (by decide) (nm_r (ro_pmm j) (K0 h0.symm))
    | succ x =>
      rw [ro_pms]
      have hw := ro_x_ww (x := x) hE hP (by omega)
      refine br_f (nI_pos (by omega)) (ro_xw hE hP hj (by omega) ?_)
      refine pk_eq (ro_ww (ro_G so n k) q (o.take j) x) 0 (fun z => ?_) (fun z => ?_)
      · have hs := ro_SW_s (G := ro_G so n k) q (o.take j) x
        exact nm_r (ro_pmm x) (ih x (by omega) (by omega) (by omega))
      · unfold wX_previous_49
        refine br_t (nI_pos' (by omega)) ?_
        refine ⟨vp_in_nI (by omega) (by omega), nm_r (e' := upd a j (nI x)) ?_ (nm_r (nI_1 j) (K1 x (by omega) z h0))⟩
        rw [nI_clamp (by omega), ro_nar x (by omega)]
theorem ro_p17 {post : Int32 → SX → Prop} {cur : Nat} {o' : List Nat} (hE : ro_Ev so n k tb tg tn tf) (hP : ro_Pf so n k o 0 a) (ht : (ro_LL (ro_G so n k) (ro_ln so n k) [])[cur]? = some o') (K : ∀ a', ro_Pf so n k o' 0 a' → post (nI cur) (nI so, nI n, s3, nI (ro_ln so n k), nI cur, a', b, tb, tg, tn, tf)) :
    ∀ m c, c ≤ ro_ln so n k → c < m → cur + 1 = ro_bs (ro_G so n k) (ro_ln so n k) o c → wX_previous_17 post m (ro_pm c) (nI so) (nI n) s3 (nI (ro_ln so n k)) (nI (cur + 1)) a b tb tg tn tf := by
  have hln := ro_ln_le hE.1
  have hol : o.length + 0 = ro_ln so n k := hP.2.1
  intro m
  induction m with
  | zero => intro c _ h; omega
  | succ m ih =>
    intro c hc hm h0
    cases c with
    | zero =>
      exfalso
      have h9 : ro_bs (ro_G so n k) (ro_ln so n k) o 0 = 0 := rfl
      omega
    | succ j =>
      obtain ⟨q, hq⟩ : ∃ q, j + (q + 1) = ro_ln so n k := ⟨ro_ln so n k - j - 1, by omega⟩
      have hb := ro_bs_s (o := o) hq
      have hd := hP.1 j (by omega)
      have hP2 : ro_Pf so n k (o.take j) (q + 1) a := by
        have h3 := ro_PfT (i := j) hP (by omega)
        rw [show ro_ln so n k - j = q + 1 by omega] at h3
        exact h3
      have hj := ro_len_take (o := o) (i := j) (by omega)
      rw [ro_pms]
      refine br_f (nI_pos (by omega)) ⟨vp_in_nI (by omega) (by omega), nm_r (e' := ro_pm (ro_at o j)) ?_ ⟨9, ro_p30 hE hP2 hj (by omega) hd.1 (fun h8 => ?_) (fun x hx hw hx0 => ?_) 9 (ro_at o j) (by omega) (by omega) rfl⟩⟩
      · rw [nI_clamp (by omega), hP.2.2.1 j (by omega)]
        rfl
      · exact ih j (by omega) (by omega) (by omega)
      · have g := ro_ww_g hw
        have hs := ro_SW_s (G := ro_G so n k) q (o.take j) x
        have hwt := ro_ww_t (s := q) g
        have hblk := (ro_blk (L := ro_ln so n k) hP.1 j (by omega) (by omega)).2 (ro_SW (ro_G so n k) q (o.take j) x + (ro_ww (ro_G so n k) q (o.take j) x - 1)) (by
          rw [show ro_ln so n k - j = q + 1 by omega]
          have := ro_ww8 (so := so) (n := n) (k := k) (s := q) (p := o.take j) hx
          omega)
        rw [show ro_ln so n k - j = q + 1 by omega] at hblk
        have h3 := ro_LL_get (G := ro_G so n k) (s := q) (p := o.take j) (t := ro_ww (ro_G so n k) q (o.take j) x - 1) hx (by omega)
        rw [h3, show ro_bs (ro_G so n k) (ro_ln so n k) o j + (ro_SW (ro_G so n k) q (o.take j) x + (ro_ww (ro_G so n k) q (o.take j) x - 1)) = cur by omega, ht] at hblk
        have hP3 := ro_PfS hP2 hx g
        have h4 := ro_p68 hE K (q + 1) q (o.take j ++ [x]) _ (ro_ww (ro_G so n k) q (o.take j) x - 1) (by omega) hP3 (by omega) hblk.symm
        rw [ro_len_s, hj] at h4
        exact ⟨q + 1, h4⟩
end
end
section
/-! ===== the reference: length, digits, goesOn ===== -/
theorem ro_sm_c (x : Nat) : ∀ p, ro_sm (x :: p) = x + ro_sm p := by
  apply ro_snoc
  · show 0 + x = x + 0
    omega
  · intro p y ih
    rw [← List.cons_append, ro_sm_s, ih, ro_sm_s, Nat.add_assoc]
theorem ro_sm_rev : ∀ p : List Nat, ro_sm p.reverse = ro_sm p := by
  apply ro_snoc
  · rfl
  · intro p x ih
    rw [List.reverse_append, ro_sm_s]
    show ro_sm (x :: p.reverse) = _
    rw [ro_sm_c, ih, Nat.add_comm]
theorem ro_mx_le (c : Nat) : ∀ p : List Nat, ro_mx p ≤ c ↔ ∀ y, y ∈ p → y < c := by
  apply ro_snoc
  · exact ⟨fun _ y hy => absurd hy List.not_mem_nil, fun _ => Nat.zero_le c⟩
  · intro p x ih
    rw [ro_mx_s]
    constructor
    · intro h y hy
      rcases List.mem_append.mp hy with h1 | h1
      · refine ih.mp ?_ y h1
        by_cases z : ro_mx p ≤ x
        · rw [if_pos z] at h; omega
        · rw [if_neg z] at h; exact h
      · have e := List.mem_singleton.mp h1
        subst e
        by_cases z : ro_mx p ≤ y
        · rw [if_pos z] at h; omega
        · rw [if_neg z] at h; omega
    · intro h
      have h1 := ih.mpr (fun y hy => h y (List.mem_append.mpr (Or.inl hy)))
      have h2 := h x (List.mem_append.mpr (Or.inr (List.mem_singleton.mpr rfl)))
      by_cases z : ro_mx p ≤ x
      · rw [if_pos z]; omega
      · rw [if_neg z]; exact h1
theorem ro_mx_rev (p : List Nat) : ro_mx p.reverse = ro_mx p := by
  apply Nat.le_antisymm
  · exact (ro_mx_le _ _).mpr (fun y hy => (ro_mx_le _ p).mp (Nat.le_refl _) y (List.mem_reverse.mp hy))
  · exact (ro_mx_le _ _).mpr (fun y hy => (ro_mx_le _ p.reverse).mp (Nat.le_refl _) y (List.mem_reverse.mpr hy))
def ro_D8 (p : List Nat) : Prop := ∀ i, i < p.length → ro_at p i < 8
theorem ro_V_D8 {G : List Nat → Nat → Bool} {p : List Nat} (h : ro_V G p) : ro_D8 p := fun i hi => (h i hi).1
theorem ro_mem_at {p : List Nat} {y : Nat} (h : y ∈ p) : ∃ i, i < p.length ∧ ro_at p i = y := by
  obtain ⟨i, hi⟩ := List.mem_iff_getElem?.mp h
  refine ⟨i, (List.getElem?_eq_some_iff.mp hi).1, ?_⟩
  unfold ro_at
  rw [hi]
  rfl
theorem ro_at_mem {p : List Nat} {i : Nat} (h : i < p.length) : ro_at p i ∈ p := by
  unfold ro_at
  rw [List.getElem?_eq_getElem h]
  exact List.getElem_mem h
theorem ro_mx8 {p : List Nat} (h : ro_D8 p) : ro_mx p ≤ 8 := by
  refine (ro_mx_le 8 p).mpr (fun y hy => ?_)
  obtain ⟨i, hi, e⟩ := ro_mem_at hy
  have := h i hi
  omega
theorem ro_cd_lt {p : List Nat} (h : ro_D8 p) : ∀ m, m ≤ p.length → ro_cd (p.take m) < 8 ^ m := by
  intro m
  induction m with
  | zero => intro _; rw [List.take_zero]; decide
  | succ m ih =>
    intro hm
    have h1 := ih (by omega)
    have h2 := h m (by omega)
    rw [ro_take_s (by omega), ro_cd_s, Nat.pow_succ]
    omega
theorem ro_cd_b {p : List Nat} (h : ro_D8 p) (hl : p.length ≤ 14) (m : Nat) (hm : m ≤ p.length) : ro_cd (p.take m) < 2 ^ 42 := by
  have h1 := ro_cd_lt h m hm
  have h2 : 8 ^ m ≤ 8 ^ 14 := Nat.pow_le_pow_right (by decide) (by omega)
  have h3 : 8 ^ 14 = 2 ^ 42 := by decide
  omega
theorem ro_cd_b' {p : List Nat} (h : ro_D8 p) (hl : p.length ≤ 14) : ro_cd p < 2 ^ 42 := by
  have h1 := ro_cd_b h hl p.length (Nat.le_refl _)
  rw [List.take_length] at h1
  exact h1
theorem ro_cd_div {p : List Nat} (h : ro_D8 p) : ∀ d m, m + d = p.length → ro_cd p / 8 ^ d = ro_cd (p.take m) := by
  intro d
  induction d with
  | zero => intro m hm; rw [Nat.pow_zero, Nat.div_one, show m = p.length by omega, List.take_length]
  | succ d ih =>
    intro m hm
    have h1 := ih (m + 1) (by omega)
    have h2 := h m (by omega)
    rw [Nat.pow_succ, ← Nat.div_div_eq_div_mul, h1, ro_take_s (by omega), ro_cd_s]
    omega
theorem ro_cd_at {p : List Nat} (h : ro_D8 p) {d i : Nat} (hi : i + (d + 1) = p.length) : ro_cd p / 8 ^ d % 8 = ro_at p i := by
  have h2 := h i (by omega)
  rw [ro_cd_div h d (i + 1) (by omega), ro_take_s (by omega), ro_cd_s]
  omega
theorem ro_cd_inj {p q : List Nat} (hp : ro_D8 p) (hq : ro_D8 q) (hl : p.length = q.length) (h : ro_cd p = ro_cd q) : p = q := by
  apply ro_ext hl
  intro i hi
  rw [← ro_cd_at hp (d := p.length - i - 1) (i := i) (by omega), ← ro_cd_at hq (d := p.length - i - 1) (i := i) (by omega), h]
theorem ro_l8 (c x : Nat) (hx : x < 2 ^ 31) : 8 * lN c + (nI x).toInt64 = lN (8 * c + x) := by
  rw [nI_l hx]
  have h : lN 8 * lN c = lN (8 * c) := lN_mul 8 c
  have h2 : 8 * lN c = lN (8 * c) := h
  rw [h2, lN_add]
section
variable {post : Int32 → Prop} {so n k : Nat} {kk nw ct : Int32} {li lo : Nat → Int64} {p o : List Nat}
theorem ro_ylen (hk : so = 0 ∨ so = 4 → kk = nI k) (hs : so ≤ 4) (K : post (nI (ro_ln so n k))) : wpY_length post (nI so, nI n, kk, nw, ct, li, lo) := by
  unfold wpY_length
  unfold ro_ln at K
  refine pk_eq so 0 (fun h => ?_) (fun h0 => ?_)
  · rw [if_pos (Or.inl h)] at K
    rw [hk (Or.inl h)]
    exact K
  refine pk_eq so 4 (fun h => ?_) (fun h4 => ?_)
  · rw [if_pos (Or.inr h)] at K
    rw [hk (Or.inr h)]
    exact K
  rw [if_neg (by omega)] at K
  refine pk_eq so 3 (fun h => ?_) (fun h3 => ?_)
  · rw [if_pos h] at K
    have e : (2 : Int32) * nI n = nI (2 * n) := pk_mul 2 n
    rw [e]
    exact K
  · rw [if_neg h3] at K
    exact K
theorem ro_ydig (hk : so = 0 ∨ so = 4 → kk = nI k) (hc : ro_Cf so n k) (hd : ro_D8 o) (hl : o.length = ro_ln so n k) {i : Nat} (hi : i < ro_ln so n k) (K : post (nI (ro_at o i))) : wpY_digit post (nI so, nI n, kk, nw, ct, li, lo) (lN (ro_cd o)) (nI i) := by
  have hln := ro_ln_le hc
  unfold wpY_digit
  refine ro_ylen hk hc.1 ?_
  obtain ⟨d, e⟩ : ∃ d, i + (d + 1) = ro_ln so n k := ⟨ro_ln so n k - i - 1, by omega⟩
  have e1 : (3 : Int32) * (nI (ro_ln so n k) - 1 - nI i) = nI (3 * d) := by
    have e2 : nI (ro_ln so n k) - 1 = nI (ro_ln so n k - 1) := pk_sub (b := 1) (by omega)
    rw [e2, pk_sub (by omega)]
    have e3 : nI 3 * nI (ro_ln so n k - 1 - i) = nI (3 * (ro_ln so n k - 1 - i)) := pk_mul _ _
    have e4 : ro_ln so n k - 1 - i = d := by omega
    rw [e4] at e3 ⊢
    exact e3
  have hb := ro_cd_b' hd (by omega)
  rw [e1, wb_shr (by omega) (by omega), lN_i, pk_and _ 3 (by decide)]
  have e5 : (nI (ro_cd o / 2 ^ (3 * d))).toBitVec.toNat % 2 ^ 3 = ro_at o i := by
    show (ro_cd o / 2 ^ (3 * d)) % 2 ^ 32 % 2 ^ 3 = _
    rw [Nat.pow_mul, show 2 ^ 3 = 8 from rfl, ← ro_cd_at hd (d := d) (i := i) (by omega)]
    omega
  rw [e5]
  exact K
theorem ro_ygo_end {x : Nat} {x5 x6 x7 x8 : Int32} {m : Nat} {x9 : Int64} (hk : so = 0 ∨ so = 4 → kk = nI k) (hc : ro_Cf so n k) (hd : ro_D8 p) (hl : p.length < ro_ln so n k) (hx : x < 8)
    (e5 : x5 = ro_pm (ro_mx p)) (e6 : x6 = nI (x + ro_sm p)) (hs : ro_sm p ≤ 200) (e7 : x7 = ro_pm (ro_la p)) (hla : ro_la p ≤ 8) (e8 : x8 = if x ∈ p then 1 else 0)
    (K1 : ro_G so n k p x = true → post 1) (K0 : ¬ ro_G so n k p x = true → post 0) : wY_goesOn_19 post (nI p.length) (nI x) (nI so) (nI n) kk nw ct li lo (m + 1) x5 x6 x7 x8 x9 (nI p.length) := by
  have hln := ro_ln_le hc
  have hmx := ro_mx8 hd
  obtain ⟨c1, c2, c3, c4⟩ := hc
  subst e5 e6 e7 e8
  refine br_t (Int32.le_refl _) ?_
  refine pk_eq so 0 (fun h => ?_) (fun h0 => ?_)
  · subst h
    have e : ro_G 0 n k p x = decide (x < n ∧ ro_la p ≤ x) := rfl
    rw [e, decide_eq_true_eq] at K1 K0
    have hp := ro_pm_le x hx (ro_la p) (by omega)
    refine pk_le n x (fun w => K0 (by omega)) (fun w => br_c (fun z => K0 ?_) (fun z => K1 ?_))
    · have := hp.mp z; omega
    · refine ⟨w, ?_⟩
      rcases Nat.lt_or_ge x (ro_la p) with h1 | h1
      · exact absurd (hp.mpr h1) z
      · exact h1
  refine pk_eq so 1 (fun h => ?_) (fun h1 => ?_)
  · subst h
    have e : ro_G 1 n k p x = decide (x < n ∧ x ∉ p) := rfl
    rw [e, decide_eq_true_eq] at K1 K0
    refine pk_le n x (fun w => K0 (by omega)) (fun w => ?_)
    by_cases z : x ∈ p
    · rw [if_pos z]
      exact br_f (by decide) (K0 (fun v => v.2 z))
    · rw [if_neg z]
      exact br_t rfl (K1 ⟨w, z⟩)
  refine pk_eq so 2 (fun h => ?_) (fun h2 => ?_)
  · subst h
    have e : ro_G 2 n k p x = decide (x ≤ ro_mx p) := rfl
    rw [e, decide_eq_true_eq] at K1 K0
    rw [ro_pm1]
    exact pk_lt (ro_mx p) x (fun w => K0 (by omega)) (fun w => K1 w)
  refine pk_eq so 4 (fun h => ?_) (fun h4 => ?_)
  · subst h
    have e : ro_G 4 n k p x = decide (ro_sm p + x ≤ n ∧ (p.length + 1 < k ∨ ro_sm p + x = n)) := rfl
    rw [e, decide_eq_true_eq] at K1 K0
    have el : ro_ln 4 n k = k := rfl
    have ek : kk - 1 = nI (k - 1) := by
      rw [hk (Or.inr rfl)]
      exact pk_sub (b := 1) (by omega)
    rw [ek]
    refine pk_lt n (x + ro_sm p) (fun w => K0 (by omega)) (fun w => ?_)
    refine pk_lt p.length (k - 1) (fun w2 => K1 ⟨by omega, Or.inl (by omega)⟩) (fun w2 => ?_)
    exact pk_eq (x + ro_sm p) n (fun w3 => K1 ⟨by omega, Or.inr (by omega)⟩) (fun w3 => K0 (by omega))
  have h3 : so = 3 := by omega
  subst h3
  have e : ro_G 3 n k p x = decide (x ≤ 1 ∧ ro_sm p + x ≤ n ∧ p.length + 1 ≤ 2 * (ro_sm p + x)) := rfl
  rw [e, decide_eq_true_eq] at K1 K0
  refine pk_lt 1 x (fun w => K0 (by omega)) (fun w => ?_)
  refine pk_lt n (x + ro_sm p) (fun w => K0 (by omega)) (fun w => ?_)
  exact pk_lt (2 * (x + ro_sm p)) (p.length + 1) (fun w => K0 (by omega)) (fun w => K1 ⟨by omega, by omega, by omega⟩) (pk_mul 2 _) (nI_1 _)
end
end
section
/-! ===== the reference: the loop of goesOn ===== -/
theorem ro_sm_b {p : List Nat} (h : ro_D8 p) : ∀ m, m ≤ p.length → ro_sm (p.take m) ≤ 7 * m := by
  intro m
  induction m with
  | zero => intro _; rw [List.take_zero]; exact Nat.le_refl _
  | succ m ih =>
    intro hm
    have h1 := ih (by omega)
    have h2 := h m (by omega)
    rw [ro_take_s (by omega), ro_sm_s]
    omega
theorem ro_at_rev {p : List Nat} {i j : Nat} (h : i + j + 1 = p.length) : ro_at p.reverse i = ro_at p j := by
  unfold ro_at
  rw [List.getElem?_reverse' h]
theorem ro_D8_rev {p : List Nat} (h : ro_D8 p) : ro_D8 p.reverse := by
  intro i hi
  rw [List.length_reverse] at hi
  rw [ro_at_rev (i := i) (j := p.length - i - 1) (by omega)]
  exact h _ (by omega)
theorem ro_D8_take {p : List Nat} (h : ro_D8 p) (i : Nat) : ro_D8 (p.take i) := by
  intro j hj
  rw [List.length_take] at hj
  rw [ro_at_take (by omega)]
  exact h j (by omega)
theorem ro_and7 {c d : Nat} (hd : d < 8) (hb : 8 * c + d < 2 ^ 64) : (lN (8 * c + d) &&& 7).toInt32 = nI d := by
  have h : lN (8 * c + d) &&& lN (2 ^ 3 - 1) = lN ((8 * c + d) % 2 ^ 3) := wb_mask hb (by decide)
  have h2 : lN (8 * c + d) &&& 7 = lN ((8 * c + d) % 2 ^ 3) := h
  rw [h2, lN_i]
  exact congrArg nI (by omega)
theorem ro_shr3 {c d : Nat} (hd : d < 8) (hb : 8 * c + d < 2 ^ 64) : ((lN (8 * c + d)).toUInt64 >>> ((3 : Int32).toInt64.toUInt64 &&& Int64.toUInt64 63)).toInt64 = lN c := by
  have h : ((lN (8 * c + d)).toUInt64 >>> ((nI 3).toInt64.toUInt64 &&& Int64.toUInt64 63)).toInt64 = lN ((8 * c + d) / 2 ^ 3) := wb_shr hb (by decide)
  have e : (8 * c + d) / 2 ^ 3 = c := by omega
  rw [e] at h
  exact h
section
variable {post : Int32 → Prop} {so n k : Nat} {kk nw ct : Int32} {li lo : Nat → Int64} {p : List Nat} {J : Int32 → Int32 → Int32 → Int32 → Int64 → Int32 → Prop}
theorem ro_y64 {x5 x3 x4 x7 x8 : Int32} {w d c i : Nat} (hd : d < 8) (hb : 8 * c + d < 2 ^ 64) (K : J x5 (nI (w + d)) x7 x8 (lN c) (nI (i + 1))) : wY_goesOn_64 post J x3 x4 x5 (nI w) x7 x8 (lN (8 * c + d)) (nI i) (nI d) (nI so) (nI n) kk nw ct li lo := by
  unfold wY_goesOn_64
  exact nm_r (nI_add w d) (nm_r (ro_shr3 hd hb) (nm_r (nI_1 i) K))
theorem ro_y54 {x5 x3 x7 x8 : Int32} {x w d c i : Nat} (hx : x < 8) (hd : d < 8) (hb : 8 * c + d < 2 ^ 64) (K : J x5 (nI (w + d)) x7 (if d = x then 1 else x8) (lN c) (nI (i + 1))) : wY_goesOn_54 post J x3 (nI x) x5 (nI w) x7 x8 (lN (8 * c + d)) (nI i) (nI d) (nI so) (nI n) kk nw ct li lo := by
  unfold wY_goesOn_54
  refine pk_eq d x (fun h => ?_) (fun h => ?_)
  · rw [if_pos h] at K
    exact ro_y64 hd hb K
  · rw [if_neg h] at K
    exact ro_y64 hd hb K
theorem ro_y43 {x3 x7 x8 : Int32} {M x w d c i : Nat} (hM : M < 16) (hx : x < 8) (hd : d < 8) (hb : 8 * c + d < 2 ^ 64) (K : J (ro_pm (if M ≤ d then d + 1 else M)) (nI (w + d)) x7 (if d = x then 1 else x8) (lN c) (nI (i + 1))) : wY_goesOn_43 post J x3 (nI x) (ro_pm M) (nI w) x7 x8 (lN (8 * c + d)) (nI i) (nI d) (nI so) (nI n) kk nw ct li lo := by
  unfold wY_goesOn_43
  have h := ro_pm_le d hd M hM
  refine br_c (fun z => ?_) (fun z => ?_)
  · rw [if_neg (by have := h.mp z; omega)] at K
    exact ro_y54 hx hd hb K
  · rw [if_pos (by rcases Nat.lt_or_ge d M with h1 | h1; exact absurd (h.mpr h1) z; exact h1), ro_pms] at K
    exact ro_y54 hx hd hb K
theorem ro_y19 {x : Nat} (hk : so = 0 ∨ so = 4 → kk = nI k) (hc : ro_Cf so n k) (hd : ro_D8 p) (hl : p.length < ro_ln so n k) (hx : x < 8) (K1 : ro_G so n k p x = true → post 1) (K0 : ¬ ro_G so n k p x = true → post 0) :
    ∀ m i, i ≤ p.length → p.length - i < m → wY_goesOn_19 post (nI p.length) (nI x) (nI so) (nI n) kk nw ct li lo m (ro_pm (ro_mx (p.reverse.take i))) (nI (x + ro_sm (p.reverse.take i))) (ro_pm (if i = 0 then 0 else ro_la p)) (if x ∈ p.reverse.take i then 1 else 0) (lN (ro_cd (p.take (p.length - i)))) (nI i) := by
  have hln := ro_ln_le hc
  have hr := ro_D8_rev hd
  have hrl : p.reverse.length = p.length := List.length_reverse
  have hla : ro_la p ≤ 8 := by
    cases h : p.length with
    | zero =>
      have ep : p = [] := List.length_eq_zero_iff.mp h
      subst ep
      exact Nat.zero_le _
    | succ m =>
      have h1 := ro_la_at h
      have h2 := hd m (by omega)
      omega
  intro m
  induction m with
  | zero => intro i _ h; omega
  | succ m ih =>
    intro i hi hm
    rcases Nat.lt_or_ge i p.length with h | h
    · refine br_f (nI_ge h (by omega)) ?_
      obtain ⟨j, hj⟩ : ∃ j, i + j + 1 = p.length := ⟨p.length - i - 1, by omega⟩
      have hdj := hd j (by omega)
      have hat := ro_at_rev (p := p) (i := i) (j := j) hj
      have e1 : ro_cd (p.take (p.length - i)) = 8 * ro_cd (p.take j) + ro_at p j := by
        rw [show p.length - i = j + 1 by omega, ro_take_s (by omega), ro_cd_s]
      have hcb := ro_cd_b hd (by omega) (p.length - i) (by omega)
      rw [e1] at hcb ⊢
      have hb : 8 * ro_cd (p.take j) + ro_at p j < 2 ^ 64 := by omega
      have hmx := ro_mx8 (ro_D8_take hr i)
      have ih2 := ih (i + 1) (by omega) (by omega)
      rw [ro_take_s (by omega), ro_mx_s, ro_sm_s, hat, show p.length - (i + 1) = j by omega, if_neg (by omega : ¬ i + 1 = 0), ← Nat.add_assoc] at ih2
      have e8 : (if x ∈ p.reverse.take i ++ [ro_at p j] then (1 : Int32) else 0) = if ro_at p j = x then 1 else (if x ∈ p.reverse.take i then 1 else 0) := by
        by_cases z : ro_at p j = x
        · rw [if_pos z, if_pos (List.mem_append.mpr (Or.inr (List.mem_singleton.mpr z.symm)))]
        · rw [if_neg z]
          by_cases w : x ∈ p.reverse.take i
          · rw [if_pos w, if_pos (List.mem_append.mpr (Or.inl w))]
          · rw [if_neg w, if_neg (fun v => (List.mem_append.mp v).elim w (fun u => z (List.mem_singleton.mp u).symm))]
      rw [e8] at ih2
      refine nm_r (ro_and7 hdj hb) ?_
      refine pk_eq i 0 (fun z => ?_) (fun z => ?_)
      · have e9 : ro_la p = ro_at p j + 1 := ro_la_at (by omega)
        rw [e9, ro_pms] at ih2
        exact ro_y43 (by omega) hx hdj hb ih2
      · rw [if_neg z]
        exact ro_y43 (by omega) hx hdj hb ih2
    · have ei : i = p.length := by omega
      subst ei
      have hsb := ro_sm_b hd p.length (Nat.le_refl _)
      rw [List.take_length] at hsb
      have et : p.reverse.take p.length = p.reverse := by rw [← hrl]; exact List.take_length
      have e7 : (if p.length = 0 then 0 else ro_la p) = ro_la p := by
        by_cases z : p.length = 0
        · have ep : p = [] := List.length_eq_zero_iff.mp z
          subst ep
          rfl
        · rw [if_neg z]
      rw [et, e7]
      refine ro_ygo_end hk hc hd hl hx (by rw [ro_mx_rev]) (by rw [ro_sm_rev]) (by omega) rfl hla ?_ K1 K0
      by_cases z : x ∈ p
      · rw [if_pos z, if_pos (List.mem_reverse.mpr z)]
      · rw [if_neg z, if_neg (fun w => z (List.mem_reverse.mp w))]
theorem ro_ygoes {x : Nat} (hk : so = 0 ∨ so = 4 → kk = nI k) (hc : ro_Cf so n k) (hd : ro_D8 p) (hl : p.length < ro_ln so n k) (hx : x < 8) (K1 : ro_G so n k p x = true → post 1) (K0 : ¬ ro_G so n k p x = true → post 0) : wpY_goesOn post (nI so, nI n, kk, nw, ct, li, lo) (lN (ro_cd p)) (nI p.length) (nI x) := by
  have h := ro_y19 (nw := nw) (ct := ct) (li := li) (lo := lo) hk hc hd hl hx K1 K0 (p.length + 1) 0 (by omega) (by omega)
  rw [List.take_zero, Nat.sub_zero, List.take_length] at h
  exact ⟨p.length + 1, h⟩
end
end
section
/-! ===== the reference: write ===== -/
def ro_Ho (D : List (List Nat)) (f : Nat → Int64) : Prop := ∀ t o, D[t]? = some o → f t = lN (ro_cd o)
def ro_Dr (G : List Nat → Nat → Bool) (A : List (List Nat)) (r : Nat) (p : List Nat) (x : Nat) : List (List Nat) := (A.take r).flatMap (ro_E G) ++ ro_cat (fun y => if G p y = true then [p ++ [y]] else []) x
theorem ro_Ho_s {D : List (List Nat)} {f : Nat → Int64} {o : List Nat} (h : ro_Ho D f) : ro_Ho (D ++ [o]) (vp_updL f D.length (lN (ro_cd o))) := by
  intro t q hq
  have ht := (List.getElem?_eq_some_iff.mp hq).1
  rw [List.length_append] at ht
  have ht' : t < D.length + 1 := ht
  by_cases z : t = D.length
  · subst z
    rw [List.getElem?_concat_length] at hq
    rw [pk_uLs, Option.some.inj hq]
  · rw [pk_uLn z]
    rw [List.getElem?_append_left (by omega)] at hq
    exact h t q hq
section
variable {G : List Nat → Nat → Bool} {A : List (List Nat)} {r x : Nat} {p : List Nat}
theorem ro_Dr_t (g : G p x = true) : ro_Dr G A r p (x + 1) = ro_Dr G A r p x ++ [p ++ [x]] := by
  unfold ro_Dr
  rw [List.append_assoc]
  show _ ++ (_ ++ (if G p x = true then [p ++ [x]] else [])) = _
  rw [if_pos g]
theorem ro_Dr_f (g : ¬ G p x = true) : ro_Dr G A r p (x + 1) = ro_Dr G A r p x := by
  unfold ro_Dr
  show _ ++ (_ ++ (if G p x = true then [p ++ [x]] else [])) = _
  rw [if_neg g, List.append_nil]
theorem ro_Dr_8 (h : A[r]? = some p) : ro_Dr G A r p 8 = (A.take (r + 1)).flatMap (ro_E G) := by
  rw [List.take_succ, h, List.flatMap_append]
  show _ = _ ++ ([p] : List (List Nat)).flatMap (ro_E G)
  rw [List.flatMap_cons, List.flatMap_nil, List.append_nil]
  rfl
theorem ro_Dr_0 : ro_Dr G A r p 0 = (A.take r).flatMap (ro_E G) := List.append_nil _
theorem ro_Dr_le (h : A[r]? = some p) (hx : x ≤ 8) : (ro_Dr G A r p x).length ≤ (A.flatMap (ro_E G)).length := by
  have h1 : (ro_Dr G A r p x).length ≤ (ro_Dr G A r p 8).length := by
    unfold ro_Dr
    rw [List.length_append, List.length_append, ro_cat_len, ro_cat_len]
    have := ro_sum_le (f := fun y => (if G p y = true then [p ++ [y]] else [] : List (List Nat)).length) hx
    omega
  rw [ro_Dr_8 h] at h1
  have h2 : A.flatMap (ro_E G) = (A.take (r + 1)).flatMap (ro_E G) ++ (A.drop (r + 1)).flatMap (ro_E G) := by
    rw [← List.flatMap_append, List.take_append_drop]
  rw [h2, List.length_append]
  omega
/-- where the reference's inner loop stands -/
def ro_At (G : List Nat → Nat → Bool) (A : List (List Nat)) (r x : Nat) (D : List (List Nat)) : Prop := (r = A.length ∧ x = 0 ∧ D = A.flatMap (ro_E G)) ∨ ∃ p, A[r]? = some p ∧ x < 8 ∧ D = ro_Dr G A r p x
theorem ro_At_0 : ro_At G A 0 0 [] := by
  rcases Nat.lt_or_ge 0 A.length with h | h
  · exact Or.inr ⟨A[0], List.getElem?_eq_getElem h, by omega, rfl⟩
  · have e : A = [] := List.length_eq_zero_iff.mp (by omega)
    subst e
    exact Or.inl ⟨rfl, rfl, rfl⟩
theorem ro_At_s (h : A[r]? = some p) (hx : x < 8) : ∃ r' x', 8 * r' + x' = 8 * r + x + 1 ∧ ro_At G A r' x' (ro_Dr G A r p (x + 1)) := by
  rcases Nat.lt_or_ge (x + 1) 8 with h1 | h1
  · exact ⟨r, x + 1, by omega, Or.inr ⟨p, h, h1, rfl⟩⟩
  · have e : x = 7 := by omega
    subst e
    have hl := (List.getElem?_eq_some_iff.mp h).1
    have e8 : ro_Dr G A r p (7 + 1) = (A.take (r + 1)).flatMap (ro_E G) := ro_Dr_8 h
    refine ⟨r + 1, 0, by omega, ?_⟩
    rw [e8]
    rcases Nat.lt_or_ge (r + 1) A.length with h2 | h2
    · exact Or.inr ⟨A[r + 1], List.getElem?_eq_getElem h2, by omega, ro_Dr_0.symm⟩
    · refine Or.inl ⟨by omega, rfl, ?_⟩
      rw [List.take_of_length_le h2]
end
section
variable {post : SY → Prop} {so n k : Nat} {kk nw ct : Int32} {li lo : Nat → Int64} {J : Int32 → Int32 → (Nat → Int64) → (Nat → Int64) → Prop}
theorem ro_w118 {s c : Nat} (hc : c ≤ 5040) (K : ∀ li', (∀ u, u < c → li' u = lo u) → J (nI (s + 1)) (nI c) li' lo) :
    ∀ m t li, t ≤ c → c - t < m → (∀ u, u < t → li u = lo u) → wY_write_118 post J (nI s) (nI so) (nI n) kk nw (nI c) m (nI t) li lo := by
  intro m
  induction m with
  | zero => intro t li _ h; omega
  | succ m ih =>
    intro t li ht hm hu
    refine pk_le c t (fun h => ?_) (fun h => ?_)
    · refine nm_r (nI_1 s) (K li ?_)
      intro u h1
      exact hu u (by omega)
    · rw [nI_clamp (by omega)]
      refine ⟨vp_in_nI (by omega) (by omega), vp_in_nI (by omega) (by omega), nm_e (nm_r (nI_1 t) (ih (t + 1) _ (by omega) (by omega) ?_))⟩
      intro u h1
      by_cases z : u = t
      · rw [z, pk_uLs]
      · rw [pk_uLn z]; exact hu u (by omega)
theorem ro_w45 {s : Nat} {A : List (List Nat)} (hk : so = 0 ∨ so = 4 → kk = nI k) (hc : ro_Cf so n k) (hs : s < ro_ln so n k) (hA : A.length ≤ 5040) (hN : (A.flatMap (ro_E (ro_G so n k))).length ≤ 5040) (hd : ∀ (t : Nat) (p : List Nat), A[t]? = some p → p.length = s ∧ ro_D8 p) (hL : ro_Ho A li)
    (K : ∀ lo', ro_Ho (A.flatMap (ro_E (ro_G so n k))) lo' → ∃ m, wY_write_118 post J (nI s) (nI so) (nI n) kk nw (nI (A.flatMap (ro_E (ro_G so n k))).length) m 0 li lo') :
    ∀ m r x D lo, 8 * A.length - (8 * r + x) < m → ro_At (ro_G so n k) A r x D → ro_Ho D lo → wY_write_45 post J (nI s) (nI so) (nI n) kk nw (nI A.length) m (nI D.length) (nI (8 * r + x)) li lo := by
  intro m
  induction m with
  | zero => intro r x D lo h; omega
  | succ m ih =>
    intro r x D lo hm hAt hD
    rcases hAt with ⟨hr, hx, eD⟩ | ⟨p, hp, hx, eD⟩
    · subst hr hx eD
      refine br_t ?_ (K lo hD)
      rw [ro_8]
      exact nI_le (by omega) (by omega)
    · have hrl := (List.getElem?_eq_some_iff.mp hp).1
      have hpd := hd r p hp
      have hdiv : nI (8 * r + x) / 8 = nI r := by
        have h1 : nI (8 * r + x) / nI 8 = nI ((8 * r + x) / 8) := pk_div (by omega) (by omega) (by omega)
        have h2 : (8 * r + x) / 8 = r := by omega
        rw [h2] at h1
        exact h1
      have hrem : nI (8 * r + x) - nI (8 * r + x) / 8 * 8 = nI x := by
        have h1 : nI (8 * r + x) - nI (8 * r + x) / nI 8 * nI 8 = nI ((8 * r + x) % 8) := pk_rem (by omega) (by omega) (by omega)
        have h2 : (8 * r + x) % 8 = x := by omega
        rw [h2] at h1
        exact h1
      refine br_f ?_ ?_
      · rw [ro_8]
        exact nI_ge (by omega) (by omega)
      · rw [hrem, hdiv, nI_clamp (n := r) (by omega), hL r p hp]
        refine ⟨by decide, vp_in_nI (by omega) (by omega), by decide, ?_⟩
        obtain ⟨r', x', e1, hAt'⟩ := ro_At_s (G := ro_G so n k) hp hx
        rw [← hpd.1]
        refine ro_ygoes hk hc hpd.2 (by omega) hx (fun g => ?_) (fun g => ?_)
        · have hb := ro_Dr_le (G := ro_G so n k) (x := x + 1) hp (by omega)
          rw [ro_Dr_t g, ← eD] at hAt' hb
          rw [List.length_append] at hb
          have hb' : D.length + 1 ≤ (A.flatMap (ro_E (ro_G so n k))).length := hb
          have h5 := ih r' x' _ _ (by omega) hAt' (ro_Ho_s hD)
          rw [e1, List.length_append] at h5
          refine br_f (by decide) ⟨by decide, vp_in_nI (by omega) (by omega), by decide, vp_in_nI (by omega) (by omega), nm_r (e' := vp_updL lo D.length (lN (ro_cd (p ++ [x])))) ?_ (nm_r (nI_1 _) (nm_r (nI_1 _) ?_))⟩
          · rw [nI_clamp (by omega), ro_l8 _ _ (by omega), ro_cd_s]
          · rw [hpd.1]
            exact h5
        · rw [ro_Dr_f g, ← eD] at hAt'
          have h5 := ih r' x' _ _ (by omega) hAt' hD
          rw [e1] at h5
          refine br_t rfl (nm_r (nI_1 _) ?_)
          rw [hpd.1]
          exact h5
theorem ro_w33 (hk : so = 0 ∨ so = 4 → kk = nI k) (hc : ro_Cf so n k) (hn : ¬ (so = 4 ∧ k = 0)) (K : ∀ li' lo', ro_Ho (ro_LL (ro_G so n k) (ro_ln so n k) []) li' → post (nI so, nI n, kk, nw, nI (ro_LL (ro_G so n k) (ro_ln so n k) []).length, li', lo')) :
    ∀ m s li lo, s ≤ ro_ln so n k → ro_ln so n k - s < m → ro_Ho (ro_LL (ro_G so n k) s []) li → wY_write_33 post (nI so) (nI n) kk nw m (nI s) (nI (ro_LL (ro_G so n k) s []).length) li lo := by
  have hln := ro_ln_le hc
  intro m
  induction m with
  | zero => intro s li lo _ h; omega
  | succ m ih =>
    intro s li lo hs hm hL
    unfold wY_write_33
    refine ro_ylen hk hc.1 ?_
    refine pk_le (ro_ln so n k) s (fun h => ?_) (fun h => ?_)
    · have e : s = ro_ln so n k := by omega
      subst e
      exact K li lo hL
    · have b1 := ro_bound hc hn s (by omega)
      have b2 := ro_bound hc hn (s + 1) (by omega)
      rw [ro_back] at b2
      have hd : ∀ (t : Nat) (p : List Nat), (ro_LL (ro_G so n k) s [])[t]? = some p → p.length = s ∧ ro_D8 p := by
        intro t p hp
        obtain ⟨h1, _, h3⟩ := ro_LL_in s [] t p hp
        exact ⟨by rw [h1]; exact Nat.zero_add s, ro_V_D8 (h3 ro_V_nil)⟩
      refine ⟨8 * (ro_LL (ro_G so n k) s []).length + 1, ro_w45 hk hc h b1 b2 hd hL (fun lo' hL' => ?_) (8 * (ro_LL (ro_G so n k) s []).length + 1) 0 0 [] lo (by omega) ro_At_0 (fun t o h => absurd h (by rw [List.getElem?_nil]; exact fun w => nomatch w))⟩
      refine ⟨_, ro_w118 b2 (fun li' hli => ?_) ((ro_LL (ro_G so n k) s []).flatMap (ro_E (ro_G so n k))).length.succ 0 li (by omega) (by omega) (fun u hu => absurd hu (Nat.not_lt_zero u))⟩
      rw [← ro_back] at hli hL' ⊢
      refine ih (s + 1) li' lo' (by omega) (by omega) ?_
      intro t o ht
      rw [hli t (List.getElem?_eq_some_iff.mp ht).1]
      exact hL' t o ht
theorem ro_w21 (hk : so = 0 ∨ so = 4 → kk = nI k) (hc : ro_Cf so n k) (hn : ¬ (so = 4 ∧ k = 0)) (K : ∀ li' lo', ro_Ho (ro_Lst so n k) li' → post (nI so, nI n, kk, nw, nI (ro_Lst so n k).length, li', lo')) : wY_write_20 post (nI so) (nI n) kk nw ct li lo := by
  have e : ro_Lst so n k = ro_LL (ro_G so n k) (ro_ln so n k) [] := if_neg hn
  rw [e] at K
  unfold wY_write_20 wY_write_21
  refine nm_e ⟨ro_ln so n k + 1, ro_w33 hk hc hn K (ro_ln so n k + 1) 0 _ lo (by omega) (by omega) ?_⟩
  intro t o h
  have h1 : o ∈ ro_LL (ro_G so n k) 0 [] := List.mem_of_getElem? h
  have e : o = [] := List.mem_singleton.mp h1
  have h2 : t < 1 := (List.getElem?_eq_some_iff.mp h).1
  have e2 : t = 0 := by omega
  subst e e2
  exact pk_uLs
theorem ro_ywrite (hk : so = 0 ∨ so = 4 → kk = nI k) (hc : ro_Cf so n k) (K : ∀ li' lo', ro_Ho (ro_Lst so n k) li' → post (nI so, nI n, kk, nw, nI (ro_Lst so n k).length, li', lo')) : wpY_write post (nI so, nI n, kk, nw, ct, li, lo) := by
  have hln := ro_ln_le hc
  have hc1 := hc.1
  unfold wpY_write
  refine ro_ylen hk hc.1 ?_
  refine pk_eq (ro_ln so n k) 0 (fun h0 => ?_) (fun h0 => ?_)
  · refine pk_eq so 4 (fun h4 => ?_) (fun h4 => ?_)
    · subst h4
      have hk0 : k = 0 := h0
      have e : ro_Lst 4 n k = [] := if_pos ⟨rfl, hk0⟩
      rw [e] at K
      unfold wY_write_21
      refine nm_e ⟨1, ?_⟩
      unfold wY_write_33
      refine ro_ylen hk hc.1 ?_
      refine pk_le (ro_ln 4 n k) 0 (fun h => ?_) (fun h => by omega)
      exact K _ lo (fun t o h => absurd h (by rw [List.getElem?_nil]; exact fun w => nomatch w))
    · exact ro_w21 hk hc (fun w => h4 w.1) K
  · refine ro_w21 hk hc (fun w => h0 ?_) K
    obtain ⟨rfl, rfl⟩ := w
    rfl
end
end
section
/-! ===== alike, mirrored: no program in sight ===== -/
theorem ro_alike {G : List Nat → Nat → Bool} {L x cur c : Nat} {q o : List Nat} (hq : (ro_LL G L [])[x]? = some q) (ho : (ro_LL G L [])[cur]? = some o) (hc : c ≤ L) : q.take c = o.take c ↔ ro_bs G L o c ≤ x ∧ x < ro_bs G L o c + (ro_LL G (L - c) (o.take c)).length := by
  obtain ⟨hql, _, _⟩ := ro_LL_in L [] x q hq
  obtain ⟨hol, _, hov⟩ := ro_LL_in L [] cur o ho
  have hql' : q.length = L := by rw [hql]; exact Nat.zero_add L
  have hol' : o.length = L := by rw [hol]; exact Nat.zero_add L
  constructor
  · intro h
    obtain ⟨h1, h2, _⟩ := ro_dec hq c hc
    have e : ro_bs G L q c = ro_bs G L o c := ro_bs_take c h (by omega) (by omega)
    rw [e, h] at h2
    rw [e] at h1
    omega
  · intro h
    obtain ⟨_, hB⟩ := ro_blk (L := L) (hov ro_V_nil) c hc (by omega)
    have h3 := hB (x - ro_bs G L o c) (by omega)
    rw [show ro_bs G L o c + (x - ro_bs G L o c) = x by omega, hq] at h3
    have h4 := (ro_LL_in _ _ _ _ h3.symm).2.1
    rw [ro_len_take (by omega)] at h4
    exact h4
def ro_mv (so n v : Nat) : Nat := if so = 0 then n - 1 - v else if so = 3 then 1 - v else v
def ro_mir (so n : Nat) (o : List Nat) : List Nat := (List.range o.length).map (fun i => ro_mv so n (ro_at o (o.length - 1 - i)))
theorem ro_mir_len (so n : Nat) (o : List Nat) : (ro_mir so n o).length = o.length := by
  unfold ro_mir
  rw [List.length_map, List.length_range]
theorem ro_mir_at (so n : Nat) {o : List Nat} {i : Nat} (h : i < o.length) : ro_at (ro_mir so n o) i = ro_mv so n (ro_at o (o.length - 1 - i)) := by
  have h2 : (ro_mir so n o)[i]? = some (ro_mv so n (ro_at o (o.length - 1 - i))) := by
    unfold ro_mir
    rw [List.getElem?_map, List.getElem?_range h]
    rfl
  show ((ro_mir so n o)[i]?).getD 0 = _
  rw [h2]
  rfl
section
variable {so n k : Nat} {o : List Nat}
theorem ro_la_t {j : Nat} (h : j < o.length) : ro_la (o.take (j + 1)) = ro_at o j + 1 := by
  rw [ro_la_at (p := o.take (j + 1)) (m := j) (ro_len_take (by omega)), ro_at_take (by omega)]
theorem ro_mir0 (hn : n ≤ 7) (hv : ro_V (ro_G 0 n k) o) : ro_V (ro_G 0 n k) (ro_mir 0 n o) := by
  have hf : ∀ i, i < o.length → ro_at o i < n ∧ ro_la (o.take i) ≤ ro_at o i := fun i hi => of_decide_eq_true (hv i hi).2
  intro i hi
  rw [ro_mir_len] at hi
  have h1 := hf (o.length - 1 - i) (by omega)
  have e : ro_at (ro_mir 0 n o) i = n - 1 - ro_at o (o.length - 1 - i) := ro_mir_at 0 n hi
  refine ⟨by omega, decide_eq_true ⟨by omega, ?_⟩⟩
  cases i with
  | zero => rw [List.take_zero]; exact Nat.zero_le _
  | succ j =>
    rw [ro_la_t (by rw [ro_mir_len]; omega), e]
    have e2 : ro_at (ro_mir 0 n o) j = n - 1 - ro_at o (o.length - 1 - j) := ro_mir_at 0 n (by omega)
    rw [e2]
    have h2 := hf (o.length - 1 - j) (by omega)
    rw [show o.length - 1 - j = (o.length - 1 - (j + 1)) + 1 by omega] at h2 ⊢
    rw [ro_la_t (by omega)] at h2
    omega
theorem ro_mir1 (hn : n ≤ 7) (hv : ro_V (ro_G 1 n k) o) : ro_V (ro_G 1 n k) (ro_mir 1 n o) := by
  have hf : ∀ i, i < o.length → ro_at o i < n ∧ ro_at o i ∉ o.take i := fun i hi => of_decide_eq_true (hv i hi).2
  have hm : ∀ i, i < o.length → ro_at (ro_mir 1 n o) i = ro_at o (o.length - 1 - i) := fun i hi => ro_mir_at 1 n hi
  intro i hi
  rw [ro_mir_len] at hi
  have h1 := hf (o.length - 1 - i) (by omega)
  have e := hm i hi
  refine ⟨by omega, decide_eq_true ⟨by omega, fun w => ?_⟩⟩
  obtain ⟨j, hj, ej⟩ := ro_mem_at w
  rw [ro_len_take (by rw [ro_mir_len]; omega)] at hj
  rw [ro_at_take hj, hm j (by omega), e] at ej
  have h2 := (hf (o.length - 1 - j) (by omega)).2
  apply h2
  rw [ej, ← ro_at_take (o := o) (i := o.length - 1 - j) (j := o.length - 1 - i) (by omega)]
  exact ro_at_mem (by rw [ro_len_take (by omega)]; omega)
theorem ro_mir3 (hl : o.length = 2 * n) (hv : ro_V (ro_G 3 n k) o) : ro_V (ro_G 3 n k) (ro_mir 3 n o) := by
  have hf : ∀ i, i < o.length → ro_at o i ≤ 1 ∧ ro_sm (o.take i) + ro_at o i ≤ n ∧ (o.take i).length + 1 ≤ 2 * (ro_sm (o.take i) + ro_at o i) := fun i hi => of_decide_eq_true (hv i hi).2
  have hm : ∀ i, i < o.length → ro_at (ro_mir 3 n o) i = 1 - ro_at o (o.length - 1 - i) := fun i hi => ro_mir_at 3 n hi
  have hS : ∀ i, i ≤ o.length → ro_sm (o.take i) ≤ n ∧ i ≤ 2 * ro_sm (o.take i) ∧ ro_sm (o.take i) ≤ i := by
    intro i hi
    have h := ro_inv3 (o.take i) (ro_V_take hv i)
    rw [ro_len_take hi] at h
    exact h
  have hT : ∀ i, i ≤ o.length → ro_sm ((ro_mir 3 n o).take i) + n = i + ro_sm (o.take (o.length - i)) := by
    intro i
    induction i with
    | zero =>
      intro _
      have h := hS o.length (Nat.le_refl _)
      rw [List.take_zero, Nat.sub_zero]
      have h0 : ro_sm [] = 0 := rfl
      omega
    | succ i ih =>
      intro hi
      have h := ih (by omega)
      have h1 := hf (o.length - 1 - i) (by omega)
      rw [ro_take_s (by rw [ro_mir_len]; omega), ro_sm_s, hm i (by omega)]
      have e : o.take (o.length - i) = o.take (o.length - (i + 1)) ++ [ro_at o (o.length - 1 - i)] := by
        rw [show o.length - i = (o.length - 1 - i) + 1 by omega, ro_take_s (by omega), show o.length - (i + 1) = o.length - 1 - i by omega]
      rw [e, ro_sm_s] at h
      omega
  intro i hi
  rw [ro_mir_len] at hi
  have h1 := hT i (by omega)
  have h2 := hT (i + 1) (by omega)
  have h3 := hS (o.length - (i + 1)) (by omega)
  have h4 := hf (o.length - 1 - i) (by omega)
  have e := hm i hi
  rw [ro_take_s (by rw [ro_mir_len]; omega), ro_sm_s] at h2
  refine ⟨by omega, decide_eq_true ⟨by omega, by omega, ?_⟩⟩
  rw [ro_len_take (by rw [ro_mir_len]; omega)]
  omega
theorem ro_mir4 (hl : o.length = k) (hk : k ≠ 0) (hv : ro_V (ro_G 4 n k) o) : ro_V (ro_G 4 n k) (ro_mir 4 n o) := by
  have hm : ∀ i, i < o.length → ro_at (ro_mir 4 n o) i = ro_at o (o.length - 1 - i) := fun i hi => ro_mir_at 4 n hi
  have hT : ∀ i, i ≤ o.length → ro_sm ((ro_mir 4 n o).take i) + ro_sm (o.take (o.length - i)) = n := by
    intro i
    induction i with
    | zero =>
      intro _
      have h := (ro_inv4 o hv).2 (by omega)
      rw [List.take_zero, Nat.sub_zero, List.take_length]
      have h0 : ro_sm [] = 0 := rfl
      omega
    | succ i ih =>
      intro hi
      have h := ih (by omega)
      rw [ro_take_s (by rw [ro_mir_len]; omega), ro_sm_s, hm i (by omega)]
      have e : o.take (o.length - i) = o.take (o.length - (i + 1)) ++ [ro_at o (o.length - 1 - i)] := by
        rw [show o.length - i = (o.length - 1 - i) + 1 by omega, ro_take_s (by omega), show o.length - (i + 1) = o.length - 1 - i by omega]
      rw [e, ro_sm_s] at h
      omega
  intro i hi
  rw [ro_mir_len] at hi
  have h2 := hT (i + 1) (by omega)
  have h4 := (hv (o.length - 1 - i) (by omega)).1
  have e := hm i hi
  rw [ro_take_s (by rw [ro_mir_len]; omega), ro_sm_s] at h2
  refine ⟨by omega, decide_eq_true ⟨by omega, ?_⟩⟩
  rw [ro_len_take (by rw [ro_mir_len]; omega)]
  rcases Nat.lt_or_ge (i + 1) k with h5 | h5
  · exact Or.inl h5
  · right
    rw [show o.length - (i + 1) = 0 by omega, List.take_zero] at h2
    have h0 : ro_sm [] = 0 := rfl
    omega
theorem ro_mir_V (hc : ro_Cf so n k) (hn : ¬ (so = 4 ∧ k = 0)) (h2 : so ≠ 2) (hl : o.length = ro_ln so n k) (hv : ro_V (ro_G so n k) o) : ro_V (ro_G so n k) (ro_mir so n o) := by
  obtain ⟨c1, c2, c3, c4⟩ := hc
  rcases ro_so c1 with rfl | rfl | rfl | rfl | rfl
  · exact ro_mir0 c3 hv
  · exact ro_mir1 c3 hv
  · exact absurd rfl h2
  · exact ro_mir3 hl hv
  · exact ro_mir4 hl (fun w => hn ⟨rfl, w⟩) hv
/-- a digit of an object, mirrored, as both sides reckon it -/
theorem ro_mv_b (hc : ro_Cf so n k) (hv : ro_V (ro_G so n k) o) {i : Nat} (hi : i < o.length) : (so = 0 → ro_at o i + 1 ≤ n) ∧ (so = 3 → ro_at o i ≤ 1) ∧ ro_mv so n (ro_at o i) < 8 := by
  have h8 := (hv i hi).1
  have c3 := hc.2.2.1
  refine ⟨fun h => ?_, fun h => ?_, ?_⟩
  · subst h
    have h1 : ro_at o i < n ∧ ro_la (o.take i) ≤ ro_at o i := of_decide_eq_true (hv i hi).2
    exact h1.1
  · subst h
    have h1 : ro_at o i ≤ 1 ∧ ro_sm (o.take i) + ro_at o i ≤ n ∧ (o.take i).length + 1 ≤ 2 * (ro_sm (o.take i) + ro_at o i) := of_decide_eq_true (hv i hi).2
    exact h1.1
  · unfold ro_mv
    by_cases h0 : so = 0
    · rw [if_pos h0]; omega
    · rw [if_neg h0]
      by_cases h3 : so = 3
      · rw [if_pos h3]; omega
      · rw [if_neg h3]; exact h8
end
end
section
/-! ===== difference and mirrored of the component ===== -/
def ro_df (q o : List Nat) (i : Nat) : Nat := ro_sum (fun j => if ro_at q j = ro_at o j then 0 else 1) i
theorem ro_df_t {q o : List Nat} {i : Nat} (h : ro_at q i = ro_at o i) : ro_df q o (i + 1) = ro_df q o i := by
  show ro_df q o i + (if ro_at q i = ro_at o i then 0 else 1) = _
  rw [if_pos h, Nat.add_zero]
theorem ro_df_f {q o : List Nat} {i : Nat} (h : ¬ ro_at q i = ro_at o i) : ro_df q o (i + 1) = ro_df q o i + 1 := by
  show ro_df q o i + (if ro_at q i = ro_at o i then 0 else 1) = _
  rw [if_neg h]
theorem ro_Lst_in {so n k t : Nat} {q : List Nat} (h : (ro_Lst so n k)[t]? = some q) : q.length = ro_ln so n k ∧ ro_V (ro_G so n k) q := by
  by_cases z : so = 4 ∧ k = 0
  · have e : ro_Lst so n k = [] := if_pos z
    rw [e, List.getElem?_nil] at h
    exact nomatch h
  · have e : ro_Lst so n k = ro_LL (ro_G so n k) (ro_ln so n k) [] := if_neg z
    rw [e] at h
    obtain ⟨h1, _, h3⟩ := ro_LL_in _ _ _ _ h
    exact ⟨by rw [h1]; exact Nat.zero_add _, h3 ro_V_nil⟩
section
variable {so n k : Nat} {s3 s5 : Int32} {a b tb tg tn tf : Nat → Int32} {q o : List Nat} {cur r : Nat} {post : Int32 → SX → Prop}
theorem ro_d66 (hE : ro_Ev so n k tb tg tn tf) (hq : ro_Pf so n k q 0 a) (ho : (ro_Lst so n k)[cur]? = some o) (hb : ro_It o b) (K : ∀ a', ro_Pf so n k o 0 a' → post (nI (ro_df q o (ro_ln so n k))) (nI so, nI n, s3, nI (ro_ln so n k), nI cur, a', b, tb, tg, tn, tf)) :
    ∀ m j, j ≤ ro_ln so n k → ro_ln so n k - j < m → wX_difference_66 post (nI cur) (nI so) (nI n) s3 (nI (ro_ln so n k)) s5 a b tb tg tn tf m (nI (ro_df q o j)) (nI j) := by
  have hln := ro_ln_le hE.1
  have hql : q.length + 0 = ro_ln so n k := hq.2.1
  obtain ⟨hol, hov⟩ := ro_Lst_in ho
  intro m
  induction m with
  | zero => intro j _ h; omega
  | succ m ih =>
    intro j hj hm
    refine pk_le (ro_ln so n k) j (fun h => ?_) (fun h => ?_)
    · have e : j = ro_ln so n k := by omega
      subst e
      exact ro_xgoN hE hq.2.2.2 ho K
    · have d1 := (hq.1 j (by omega)).1
      have d2 := (hov j (by omega)).1
      rw [nI_clamp (by omega), hq.2.2.1 j (by omega), hb j (by omega)]
      refine ⟨vp_in_nI (by omega) (by omega), vp_in_nI (by omega) (by omega), pk_eq (ro_at q j) (ro_at o j) (fun z => ?_) (fun z => ?_)⟩
      · have h1 := ih (j + 1) (by omega) (by omega)
        rw [ro_df_t z] at h1
        exact nm_r (nI_1 j) h1
      · have h1 := ih (j + 1) (by omega) (by omega)
        rw [ro_df_f z] at h1
        exact nm_r (nI_1 _) (nm_r (nI_1 j) h1)
theorem ro_d25 (hE : ro_Ev so n k tb tg tn tf) (hP : ro_Pf so n k o 0 a) (hr : (ro_Lst so n k)[r]? = some q) (ho : (ro_Lst so n k)[cur]? = some o) (K : ∀ a' b', ro_Pf so n k o 0 a' → post (nI (ro_df q o (ro_ln so n k))) (nI so, nI n, s3, nI (ro_ln so n k), nI cur, a', b', tb, tg, tn, tf)) :
    ∀ m j b, j ≤ ro_ln so n k → ro_ln so n k - j < m → (∀ i, i < j → b i = nI (ro_at o i)) → wX_difference_25 post (nI r) (nI cur) (nI so) (nI n) s3 (nI (ro_ln so n k)) s5 m (nI j) a b tb tg tn tf := by
  have hln := ro_ln_le hE.1
  have hol : o.length + 0 = ro_ln so n k := hP.2.1
  intro m
  induction m with
  | zero => intro j b _ h; omega
  | succ m ih =>
    intro j b hj hm hb
    refine pk_le (ro_ln so n k) j (fun h => ?_) (fun h => ?_)
    · refine ro_xgoN hE hP.2.2.2 hr (fun a' hq => ?_)
      exact ⟨ro_ln so n k + 1, ro_d66 hE hq ho (fun i hi => hb i (by omega)) (fun a'' h3 => K a'' b h3) (ro_ln so n k + 1) 0 (by omega) (by omega)⟩
    · have d1 := (hP.1 j (by omega)).1
      rw [nI_clamp (by omega), hP.2.2.1 j (by omega), ro_nar2 _ (by omega)]
      refine ⟨vp_in_nI (by omega) (by omega), vp_in_nI (by omega) (by omega), nm_e (nm_r (nI_1 j) (ih (j + 1) _ (by omega) (by omega) ?_))⟩
      intro i hi
      by_cases z : i = j
      · rw [z, pk_us]
      · rw [pk_un z]; exact hb i (by omega)
theorem ro_xdiff (hE : ro_Ev so n k tb tg tn tf) (hP : ro_Pf so n k o 0 a) (hr : (ro_Lst so n k)[r]? = some q) (ho : (ro_Lst so n k)[cur]? = some o) (K : ∀ a' b', ro_Pf so n k o 0 a' → post (nI (ro_df q o (ro_ln so n k))) (nI so, nI n, s3, nI (ro_ln so n k), nI cur, a', b', tb, tg, tn, tf)) : wpX_difference post (nI so, nI n, s3, nI (ro_ln so n k), nI cur, a, b, tb, tg, tn, tf) (nI r) := by
  have h1 := (List.getElem?_eq_some_iff.mp hr).1
  have h2 := ro_Lst_le hE.1
  unfold wpX_difference
  refine ro_xcnt hE.1 hE.2.2 ?_
  refine br_f (nI_pos (by omega)) (br_t (nI_lt h1 (by omega)) ?_)
  exact ⟨ro_ln so n k + 1, ro_d25 hE hP hr ho K (ro_ln so n k + 1) 0 b (by omega) (by omega) (fun i hi => absurd hi (Nat.not_lt_zero i))⟩
theorem ro_m91 {mm : List Nat} (hE : ro_Ev so n k tb tg tn tf) (hml : mm.length = ro_ln so n k) (hmv : ro_V (ro_G so n k) mm) (hb : ro_It mm b) (ho : (ro_Lst so n k)[cur]? = some o) (K : ∀ a', ro_Pf so n k o 0 a' → post (nI (ro_bs (ro_G so n k) (ro_ln so n k) mm (ro_ln so n k))) (nI so, nI n, s3, nI (ro_ln so n k), nI cur, a', b, tb, tg, tn, tf)) :
    ∀ m j a, j ≤ ro_ln so n k → ro_ln so n k - j < m → ro_By a → (∀ i, i < j → a i = nI (ro_at mm i)) → wX_mirrored_91 post (nI cur) (nI so) (nI n) s3 (nI (ro_ln so n k)) s5 m (nI j) a b tb tg tn tf := by
  have hln := ro_ln_le hE.1
  intro m
  induction m with
  | zero => intro j a _ h; omega
  | succ m ih =>
    intro j a hj hm hB ha
    refine pk_le (ro_ln so n k) j (fun h => ?_) (fun h => ?_)
    · have hP : ro_Pf so n k mm 0 a := ⟨hmv, by omega, fun i hi => ha i (by omega), hB⟩
      refine ro_xrank hE hP (Nat.le_refl _) ?_
      exact ro_xgoN hE hB ho K
    · have d1 := (hmv j (by omega)).1
      rw [nI_clamp (by omega), hb j (by omega), ro_nar2 _ (by omega)]
      refine ⟨vp_in_nI (by omega) (by omega), vp_in_nI (by omega) (by omega), nm_e (nm_r (nI_1 j) (ih (j + 1) _ (by omega) (by omega) (ro_ByU hB (by omega)) ?_))⟩
      intro i hi
      by_cases z : i = j
      · rw [z, pk_us]
      · rw [pk_un z]; exact ha i (by omega)
theorem ro_m75 {J : Int32 → (Nat → Int32) → (Nat → Int32) → (Nat → Int32) → (Nat → Int32) → (Nat → Int32) → (Nat → Int32) → Prop} {x1 : Int32} {j v : Nat} (hj : j < 14) (hv : v < 8) (K : J (nI (j + 1)) a (upd b j (nI v)) tb tg tn tf) : wX_mirrored_75 post J x1 (nI j) (nI v) (nI so) (nI n) s3 (nI (ro_ln so n k)) s5 a b tb tg tn tf := by
  unfold wX_mirrored_75
  rw [nI_clamp (by omega), ro_nar v (by omega)]
  exact ⟨vp_in_nI (by omega) (by omega), nm_e (nm_r (nI_1 j) K)⟩
theorem ro_m25 (hE : ro_Ev so n k tb tg tn tf) (h2 : so ≠ 2) (hP : ro_Pf so n k o 0 a) (ho : (ro_Lst so n k)[cur]? = some o) (K : ∀ a' b', ro_Pf so n k o 0 a' → post (nI (ro_bs (ro_G so n k) (ro_ln so n k) (ro_mir so n o) (ro_ln so n k))) (nI so, nI n, s3, nI (ro_ln so n k), nI cur, a', b', tb, tg, tn, tf)) :
    ∀ m j b, j ≤ ro_ln so n k → ro_ln so n k - j < m → (∀ i, i < j → b i = nI (ro_at (ro_mir so n o) i)) → wX_mirrored_25 post (nI cur) (nI so) (nI n) s3 (nI (ro_ln so n k)) s5 m (nI j) a b tb tg tn tf := by
  have hln := ro_ln_le hE.1
  have hc1 := hE.1.1
  have hol : o.length + 0 = ro_ln so n k := hP.2.1
  have hml := ro_mir_len so n o
  intro m
  induction m with
  | zero => intro j b _ h; omega
  | succ m ih =>
    intro j b hj hm hb
    refine pk_le (ro_ln so n k) j (fun h => ?_) (fun h => ?_)
    · exact ⟨ro_ln so n k + 1, ro_m91 hE (by omega) (ro_mir_V hE.1 hE.2.1 h2 (by omega) hP.1) (fun i hi => hb i (by omega)) ho (fun a' h3 => K a' b h3) (ro_ln so n k + 1) 0 a (by omega) (by omega) hP.2.2.2 (fun i hi => absurd hi (Nat.not_lt_zero i))⟩
    · have e1 : nI (ro_ln so n k) - 1 - nI j = nI (o.length - 1 - j) := by
        have e2 : nI (ro_ln so n k) - 1 = nI (ro_ln so n k - 1) := pk_sub (b := 1) (by omega)
        rw [e2, pk_sub (by omega)]
        exact congrArg nI (by omega)
      have hI := hP.2.2.1 (o.length - 1 - j) (by omega)
      obtain ⟨v0, v3, v8⟩ := ro_mv_b hE.1 hP.1 (i := o.length - 1 - j) (by omega)
      have hat := ro_mir_at so n (o := o) (i := j) (by omega)
      have hc2 := hE.1.2.1
      have ih2 := ih (j + 1) (upd b j (nI (ro_at (ro_mir so n o) j))) (by omega) (by omega) (by
        intro i hi
        by_cases z : i = j
        · rw [z, pk_us]
        · rw [pk_un z]; exact hb i (by omega))
      rw [hat] at ih2
      rw [e1]
      refine ⟨vp_in_nI (by omega) (by omega), nm_r (e' := nI (ro_at o (o.length - 1 - j))) (by rw [nI_clamp (by omega)]; exact hI) ?_⟩
      have hmv : ro_mv so n (ro_at o (o.length - 1 - j)) = if so = 0 then n - 1 - ro_at o (o.length - 1 - j) else if so = 3 then 1 - ro_at o (o.length - 1 - j) else ro_at o (o.length - 1 - j) := rfl
      refine pk_eq so 0 (fun h0 => ?_) (fun h0 => ?_)
      · rw [if_pos h0] at hmv
        have hv := v0 h0
        have e3 : nI n - 1 - nI (ro_at o (o.length - 1 - j)) = nI (ro_mv so n (ro_at o (o.length - 1 - j))) := by
          have e4 : nI n - 1 = nI (n - 1) := pk_sub (b := 1) (by omega)
          rw [e4, pk_sub (by omega), hmv]
        refine nm_r e3 ?_
        unfold wX_mirrored_63
        refine pk_eq so 3 (fun h3 => by omega) (fun _ => ?_)
        exact ro_m75 (by omega) v8 ih2
      · rw [if_neg h0] at hmv
        unfold wX_mirrored_63
        refine pk_eq so 3 (fun h3 => ?_) (fun h3 => ?_)
        · rw [if_pos h3] at hmv
          have e3 : 1 - nI (ro_at o (o.length - 1 - j)) = nI (ro_mv so n (ro_at o (o.length - 1 - j))) := by
            rw [hmv]
            exact pk_sub (a := 1) (v3 h3)
          exact nm_r e3 (ro_m75 (by omega) v8 ih2)
        · rw [if_neg h3] at hmv
          rw [hmv] at v8 ih2
          exact ro_m75 (by omega) v8 ih2
theorem ro_xmir (hE : ro_Ev so n k tb tg tn tf) (h2 : so ≠ 2) (hP : ro_Pf so n k o 0 a) (ho : (ro_Lst so n k)[cur]? = some o) (K : ∀ a' b', ro_Pf so n k o 0 a' → post (nI (ro_bs (ro_G so n k) (ro_ln so n k) (ro_mir so n o) (ro_ln so n k))) (nI so, nI n, s3, nI (ro_ln so n k), nI cur, a', b', tb, tg, tn, tf)) : wpX_mirrored post (nI so, nI n, s3, nI (ro_ln so n k), nI cur, a, b, tb, tg, tn, tf) := by
  have h1 := (List.getElem?_eq_some_iff.mp ho).1
  have h3 := ro_Lst_le hE.1
  have hc1 := hE.1.1
  unfold wpX_mirrored
  refine br_f (nI_pos (by omega)) (pk_eq so 2 (fun h => absurd h h2) (fun _ => ?_))
  exact ⟨ro_ln so n k + 1, ro_m25 hE h2 hP ho K (ro_ln so n k + 1) 0 b (by omega) (by omega) (fun i hi => absurd hi (Nat.not_lt_zero i))⟩
end
end
section
/-! ===== the reference's questions ===== -/
def ro_Yv (so n k : Nat) (kk : Int32) (li : Nat → Int64) : Prop := ro_Cf so n k ∧ (so = 0 ∨ so = 4 → kk = nI k) ∧ ro_Ho (ro_Lst so n k) li
section
variable {so n k : Nat} {kk ct : Int32} {li lo : Nat → Int64} {q o : List Nat} {cur x c : Nat} {post : Int32 → Prop}
theorem ro_Yb (hY : ro_Yv so n k kk li) (h : (ro_Lst so n k)[x]? = some q) : x < 5040 ∧ x < (ro_Lst so n k).length := by
  have h1 := (List.getElem?_eq_some_iff.mp h).1
  have h2 := ro_Lst_le hY.1
  omega
/-- a digit of the object at a place of the list -/
theorem ro_yd {i : Nat} {nw : Int32} (hY : ro_Yv so n k kk li) (hq : (ro_Lst so n k)[x]? = some q) (hi : i < ro_ln so n k) (K : post (nI (ro_at q i))) : vp_in (nI x) 5040 ∧ wpY_digit post (nI so, nI n, kk, nw, ct, li, lo) (li (nI x).toNatClampNeg) (nI i) := by
  obtain ⟨hql, hqv⟩ := ro_Lst_in hq
  have hb := ro_Yb hY hq
  rw [nI_clamp (by omega), hY.2.2 x q hq]
  exact ⟨vp_in_nI hb.1 (by omega), ro_ydig hY.2.1 hY.1 (ro_V_D8 hqv) hql hi K⟩
theorem ro_al2 {i : Nat} (hY : ro_Yv so n k kk li) (hq : (ro_Lst so n k)[x]? = some q) (ho : (ro_Lst so n k)[cur]? = some o) (hi : i < ro_ln so n k) (K1 : q.take (i + 1) = o.take (i + 1) → post 1) (K0 : ¬ q.take (i + 1) = o.take (i + 1) → post 0) :
    ∀ m j, j ≤ i + 1 → i + 1 - j < m → (∀ y, y < j → ro_at q y = ro_at o y) → wY_alike_2 post (nI x) (nI i) (nI so) (nI n) kk (nI cur) ct li lo m (nI j) := by
  have hln := ro_ln_le hY.1
  obtain ⟨hql, hqv⟩ := ro_Lst_in hq
  obtain ⟨hol, hov⟩ := ro_Lst_in ho
  intro m
  induction m with
  | zero => intro j _ h; omega
  | succ m ih =>
    intro j hj hm hy
    refine pk_lt i j (fun h => K1 ?_) (fun h => ?_)
    · apply ro_ext
      · rw [ro_len_take (by omega), ro_len_take (by omega)]
      · intro y h1
        rw [ro_len_take (by omega)] at h1
        rw [ro_at_take h1, ro_at_take h1]
        exact hy y (by omega)
    · refine ro_yd hY hq (by omega) (ro_yd hY ho (by omega) ?_)
      have d1 := (hqv j (by omega)).1
      have d2 := (hov j (by omega)).1
      refine pk_eq (ro_at q j) (ro_at o j) (fun z => ?_) (fun z => K0 (fun w => z ?_))
      · refine nm_r (nI_1 j) (ih (j + 1) (by omega) (by omega) ?_)
        intro y h1
        by_cases e : y = j
        · rw [e]; exact z
        · exact hy y (by omega)
      · rw [← ro_at_take (o := q) (i := i + 1) (j := j) (by omega), w, ro_at_take (by omega)]
theorem ro_yalike {i : Nat} (hY : ro_Yv so n k kk li) (hq : (ro_Lst so n k)[x]? = some q) (ho : (ro_Lst so n k)[cur]? = some o) (hi : i < ro_ln so n k) (K1 : q.take (i + 1) = o.take (i + 1) → post 1) (K0 : ¬ q.take (i + 1) = o.take (i + 1) → post 0) : wpY_alike post (nI so, nI n, kk, nI cur, ct, li, lo) (nI x) (nI i) :=
  ⟨i + 1 + 1, ro_al2 hY hq ho hi K1 K0 (i + 1 + 1) 0 (by omega) (by omega) (fun y hy => absurd hy (Nat.not_lt_zero y))⟩
theorem ro_Lst_al {i : Nat} (hn : ¬ (so = 4 ∧ k = 0)) (hq : (ro_Lst so n k)[x]? = some q) (ho : (ro_Lst so n k)[cur]? = some o) (hi : i < ro_ln so n k) : q.take (i + 1) = o.take (i + 1) ↔ ro_bs (ro_G so n k) (ro_ln so n k) o (i + 1) ≤ x ∧ x < ro_bs (ro_G so n k) (ro_ln so n k) o (i + 1) + (ro_LL (ro_G so n k) (ro_ln so n k - (i + 1)) (o.take (i + 1))).length := by
  have e : ro_Lst so n k = ro_LL (ro_G so n k) (ro_ln so n k) [] := if_neg hn
  rw [e] at hq ho
  exact ro_alike hq ho hi
theorem ro_Lst_bs {i : Nat} (hn : ¬ (so = 4 ∧ k = 0)) (ho : (ro_Lst so n k)[cur]? = some o) (hi : i < ro_ln so n k) : ro_bs (ro_G so n k) (ro_ln so n k) o (i + 1) + (ro_LL (ro_G so n k) (ro_ln so n k - (i + 1)) (o.take (i + 1))).length ≤ (ro_Lst so n k).length ∧ 0 < (ro_LL (ro_G so n k) (ro_ln so n k - (i + 1)) (o.take (i + 1))).length := by
  have e : ro_Lst so n k = ro_LL (ro_G so n k) (ro_ln so n k) [] := if_neg hn
  obtain ⟨hol, hov⟩ := ro_Lst_in ho
  rw [e] at ho ⊢
  have h1 := (ro_dec ho (i + 1) hi).2.1
  exact ⟨(ro_blk hov (i + 1) hi (by omega)).1, by omega⟩
theorem ro_yf23 {i : Nat} (hY : ro_Yv so n k kk li) (hn : ¬ (so = 4 ∧ k = 0)) (ho : (ro_Lst so n k)[cur]? = some o) (hi : i < ro_ln so n k) (K : post (nI (ro_bs (ro_G so n k) (ro_ln so n k) o (i + 1)))) :
    ∀ m x, x ≤ ro_bs (ro_G so n k) (ro_ln so n k) o (i + 1) → ro_bs (ro_G so n k) (ro_ln so n k) o (i + 1) - x < m → wY_firstLike_23 post (nI i) (nI so) (nI n) kk (nI cur) (nI (ro_Lst so n k).length) li lo m (nI x) := by
  have hN := ro_Lst_le hY.1
  have hbs := ro_Lst_bs hn ho hi
  intro m
  induction m with
  | zero => intro x _ h; omega
  | succ m ih =>
    intro x hx hm
    have hxl : x < (ro_Lst so n k).length := by omega
    have hq : (ro_Lst so n k)[x]? = some (ro_Lst so n k)[x] := List.getElem?_eq_getElem hxl
    have hal := ro_Lst_al hn hq ho hi
    refine br_f (nI_ge hxl (by omega)) (ro_yalike hY hq ho hi (fun h => ?_) (fun h => ?_))
    · rw [hal] at h
      have e : x = ro_bs (ro_G so n k) (ro_ln so n k) o (i + 1) := by omega
      refine br_f (by decide) ?_
      rw [e]
      exact K
    · rw [hal] at h
      exact br_t rfl (nm_r (nI_1 x) (ih (x + 1) (by omega) (by omega)))
theorem ro_yl25 {i : Nat} (hY : ro_Yv so n k kk li) (hn : ¬ (so = 4 ∧ k = 0)) (ho : (ro_Lst so n k)[cur]? = some o) (hi : i < ro_ln so n k) (K : post (nI (ro_LL (ro_G so n k) (ro_ln so n k - (i + 1)) (o.take (i + 1))).length)) :
    ∀ m x v, x ≤ (ro_Lst so n k).length → (ro_Lst so n k).length - x < m → (x ≤ ro_bs (ro_G so n k) (ro_ln so n k) o (i + 1) → v = 0) → (ro_bs (ro_G so n k) (ro_ln so n k) o (i + 1) ≤ x → x ≤ ro_bs (ro_G so n k) (ro_ln so n k) o (i + 1) + (ro_LL (ro_G so n k) (ro_ln so n k - (i + 1)) (o.take (i + 1))).length → v = x - ro_bs (ro_G so n k) (ro_ln so n k) o (i + 1)) → (ro_bs (ro_G so n k) (ro_ln so n k) o (i + 1) + (ro_LL (ro_G so n k) (ro_ln so n k - (i + 1)) (o.take (i + 1))).length ≤ x → v = (ro_LL (ro_G so n k) (ro_ln so n k - (i + 1)) (o.take (i + 1))).length) → wY_like_25 post (nI i) (nI so) (nI n) kk (nI cur) (nI (ro_Lst so n k).length) li lo m (nI v) (nI x) := by
  have hN := ro_Lst_le hY.1
  have hbs := ro_Lst_bs hn ho hi
  intro m
  induction m with
  | zero => intro x v _ h; omega
  | succ m ih =>
    intro x v hx hm v1 v2 v3
    refine pk_le (ro_Lst so n k).length x (fun h => ?_) (fun hxl => ?_)
    · rw [v3 (by omega)]
      exact K
    · have hq : (ro_Lst so n k)[x]? = some (ro_Lst so n k)[x] := List.getElem?_eq_getElem hxl
      have hal := ro_Lst_al hn hq ho hi
      refine ro_yalike hY hq ho hi (fun h => ?_) (fun h => ?_)
      · rw [hal] at h
        have e := v2 (by omega) (by omega)
        exact br_f (by decide) (nm_r (nI_1 v) (nm_r (nI_1 x) (ih (x + 1) (v + 1) (by omega) (by omega) (fun w => by omega) (fun w1 w2 => by omega) (fun w => by omega))))
      · rw [hal] at h
        refine br_t rfl (nm_r (nI_1 x) (ih (x + 1) v (by omega) (by omega) (fun w => v1 (by omega)) (fun w1 w2 => ?_) (fun w => v3 (by omega))))
        rw [v1 (by omega)]
        omega
theorem ro_yd18 {r : Nat} (hY : ro_Yv so n k kk li) (hq : (ro_Lst so n k)[r]? = some q) (ho : (ro_Lst so n k)[cur]? = some o) (K : post (nI (ro_df q o (ro_ln so n k)))) :
    ∀ m j, j ≤ ro_ln so n k → ro_ln so n k - j < m → wY_difference_18 post (nI r) (nI so) (nI n) kk (nI cur) ct li lo m (nI (ro_df q o j)) (nI j) := by
  have hln := ro_ln_le hY.1
  obtain ⟨hql, hqv⟩ := ro_Lst_in hq
  obtain ⟨hol, hov⟩ := ro_Lst_in ho
  intro m
  induction m with
  | zero => intro j _ h; omega
  | succ m ih =>
    intro j hj hm
    unfold wY_difference_18
    refine ro_ylen hY.2.1 hY.1.1 ?_
    refine pk_le (ro_ln so n k) j (fun h => ?_) (fun h => ?_)
    · have e : j = ro_ln so n k := by omega
      subst e
      exact K
    · refine ro_yd hY hq (by omega) (ro_yd hY ho (by omega) ?_)
      have d1 := (hqv j (by omega)).1
      have d2 := (hov j (by omega)).1
      refine pk_eq (ro_at q j) (ro_at o j) (fun z => ?_) (fun z => ?_)
      · have h1 := ih (j + 1) (by omega) (by omega)
        rw [ro_df_t z] at h1
        exact nm_r (nI_1 j) h1
      · have h1 := ih (j + 1) (by omega) (by omega)
        rw [ro_df_f z] at h1
        exact nm_r (nI_1 _) (nm_r (nI_1 j) h1)
theorem ro_ym99 {mm : List Nat} {nw : Int32} (hY : ro_Yv so n k kk li) (hn : ¬ (so = 4 ∧ k = 0)) (hml : mm.length = ro_ln so n k) (hmv : ro_V (ro_G so n k) mm) (K : post (nI (ro_bs (ro_G so n k) (ro_ln so n k) mm (ro_ln so n k)))) :
    ∀ m x, x ≤ ro_bs (ro_G so n k) (ro_ln so n k) mm (ro_ln so n k) → ro_bs (ro_G so n k) (ro_ln so n k) mm (ro_ln so n k) - x < m → wY_mirrored_99 post (lN (ro_cd mm)) (nI so) (nI n) kk nw (nI (ro_Lst so n k).length) li lo m (nI x) := by
  have hln := ro_ln_le hY.1
  have hN := ro_Lst_le hY.1
  have e : ro_Lst so n k = ro_LL (ro_G so n k) (ro_ln so n k) [] := if_neg hn
  have hf := ro_find hmv hml
  rw [← e] at hf
  have hfl := (List.getElem?_eq_some_iff.mp hf).1
  have hb := ro_cd_b' (ro_V_D8 hmv) (by omega)
  intro m
  induction m with
  | zero => intro x _ h; omega
  | succ m ih =>
    intro x hx hm
    have hxl : x < (ro_Lst so n k).length := by omega
    have hq : (ro_Lst so n k)[x]? = some (ro_Lst so n k)[x] := List.getElem?_eq_getElem hxl
    obtain ⟨hql, hqv⟩ := ro_Lst_in hq
    have hqb := ro_cd_b' (ro_V_D8 hqv) (by omega)
    refine br_f (nI_ge hxl (by omega)) ?_
    rw [nI_clamp (by omega), hY.2.2 x _ hq]
    refine ⟨vp_in_nI (by omega) (by omega), br_c (fun z => ?_) (fun z => ?_)⟩
    · rw [pk_lEQ (by omega) (by omega)] at z
      have e2 := ro_cd_inj (ro_V_D8 hqv) (ro_V_D8 hmv) (by omega) z
      rw [e2, e] at hq
      have e3 := ro_dec_all hq
      rw [e3]
      exact K
    · have hne : x ≠ ro_bs (ro_G so n k) (ro_ln so n k) mm (ro_ln so n k) := by
        intro w
        apply z
        have e4 : mm = (ro_Lst so n k)[x] := by
          have h7 : (ro_Lst so n k)[x]? = some mm := by rw [w]; exact hf
          rw [List.getElem?_eq_getElem hxl] at h7
          exact (Option.some.inj h7).symm
        rw [← e4]
      exact nm_r (nI_1 x) (ih (x + 1) (by omega) (by omega))
theorem ro_ym27 (hY : ro_Yv so n k kk li) (hn : ¬ (so = 4 ∧ k = 0)) (h2 : so ≠ 2) (ho : (ro_Lst so n k)[cur]? = some o) (K : post (nI (ro_bs (ro_G so n k) (ro_ln so n k) (ro_mir so n o) (ro_ln so n k)))) :
    ∀ m c, c ≤ ro_ln so n k → c < m → wY_mirrored_27 post (nI so) (nI n) kk (nI cur) (nI (ro_Lst so n k).length) li lo m (lN (ro_cd ((ro_mir so n o).take (ro_ln so n k - c)))) (ro_pm c) := by
  have hln := ro_ln_le hY.1
  have hc1 := hY.1.1
  have hc2 := hY.1.2.1
  obtain ⟨hol, hov⟩ := ro_Lst_in ho
  have hml := ro_mir_len so n o
  have hmv := ro_mir_V hY.1 hn h2 hol hov
  intro m
  induction m with
  | zero => intro c _ h; omega
  | succ m ih =>
    intro c hc hm
    cases c with
    | zero =>
      rw [Nat.sub_zero, show (ro_mir so n o).take (ro_ln so n k) = ro_mir so n o from by rw [← hol, ← hml]; exact List.take_length]
      exact br_t (by decide) ⟨ro_bs (ro_G so n k) (ro_ln so n k) (ro_mir so n o) (ro_ln so n k) + 1, ro_ym99 hY hn (by omega) hmv K _ 0 (by omega) (by omega)⟩
    | succ i =>
      rw [ro_pms]
      have ih2 := ih i (by omega) (by omega)
      have hat := ro_mir_at so n (o := o) (i := ro_ln so n k - (i + 1)) (by omega)
      rw [show o.length - 1 - (ro_ln so n k - (i + 1)) = i by omega] at hat
      obtain ⟨v0, v3, v8⟩ := ro_mv_b hY.1 hov (i := i) (by omega)
      have d8 := (hov i (by omega)).1
      rw [show ro_ln so n k - i = (ro_ln so n k - (i + 1)) + 1 by omega, ro_take_s (by omega), ro_cd_s, hat] at ih2
      have hmve : ro_mv so n (ro_at o i) = if so = 0 then n - 1 - ro_at o i else if so = 3 then 1 - ro_at o i else ro_at o i := rfl
      refine br_f (nI_pos (by omega)) (ro_yd hY ho (by omega) ?_)
      refine pk_eq so 0 (fun h0 => ?_) (fun h0 => ?_)
      · rw [if_pos h0] at hmve
        have hv := v0 h0
        have e3 : nI n - 1 - nI (ro_at o i) = nI (ro_mv so n (ro_at o i)) := by
          have e4 : nI n - 1 = nI (n - 1) := pk_sub (b := 1) (by omega)
          rw [e4, pk_sub (by omega), hmve]
        rw [e3]
        exact nm_r (ro_l8 _ _ (by omega)) (nm_r (ro_pmm i) ih2)
      · rw [if_neg h0] at hmve
        refine pk_eq so 3 (fun h3 => ?_) (fun h3 => ?_)
        · rw [if_pos h3] at hmve
          have e3 : 1 - nI (ro_at o i) = nI (ro_mv so n (ro_at o i)) := by
            rw [hmve]
            exact pk_sub (a := 1) (v3 h3)
          rw [e3]
          exact nm_r (ro_l8 _ _ (by omega)) (nm_r (ro_pmm i) ih2)
        · rw [if_neg h3] at hmve
          rw [hmve] at ih2
          exact nm_r (ro_l8 _ _ (by omega)) (nm_r (ro_pmm i) ih2)
end
end
section
/-! ===== choose, and the relation ===== -/
section
variable {so n k : Nat} {s1 s2 s3 s4 s5 v3 : Int32} {a b tb tg tn tf : Nat → Int32} {post : Int32 → SX → Prop}
theorem ro_c100 (hc : ro_Cf so n k) (TT : ro_TT tb tg tn tf) (hB : ro_By a) (K0 : ro_Lst so n k = [] → post 1 (nI so, nI n, s3, nI (ro_ln so n k), -2, a, b, tb, tg, tn, tf)) (K1 : ∀ o a', (ro_Lst so n k)[0]? = some o → ro_Ev so n k tb tg tn tf → ro_Pf so n k o 0 a' → post 1 (nI so, nI n, s3, nI (ro_ln so n k), nI 0, a', b, tb, tg, tn, tf)) : wX_choose_100 post (nI (ro_ln so n k)) (nI so) (nI n) s3 s4 s5 a b tb tg tn tf := by
  have hN := ro_Lst_le hc
  unfold wX_choose_100 wpX_count
  refine ro_xcnt hc TT ?_
  refine pk_le (ro_Lst so n k).length 0 (fun h => ?_) (fun h => ?_)
  · exact K0 (List.length_eq_zero_iff.mp (by omega))
  · have hn : ¬ (so = 4 ∧ k = 0) := by
      intro w
      have e : ro_Lst so n k = [] := if_pos w
      rw [e] at h
      exact absurd h (Nat.lt_irrefl 0)
    have hq : (ro_Lst so n k)[0]? = some (ro_Lst so n k)[0] := List.getElem?_eq_getElem h
    exact ro_xgoN (r := 0) ⟨hc, hn, TT⟩ hB hq (fun a' hP => K1 _ a' hq ⟨hc, hn, TT⟩ hP)
theorem ro_c54a (h04 : so = 0 ∨ so = 4) (hv : v3 = nI k) (K : ∀ s3 s4 s5, wX_choose_100 post (nI (ro_ln so n k)) (nI so) (nI n) s3 s4 s5 a b tb tg tn tf) : wX_choose_54 post (nI so) (nI n) v3 1 s1 s2 s3 s4 s5 a b tb tg tn tf := by
  have e : ro_ln so n k = k := if_pos h04
  rw [e] at K
  unfold wX_choose_54
  refine br_f (by decide) ?_
  unfold wX_choose_75
  refine br_f (by decide) ?_
  rw [hv]
  exact K _ _ _
theorem ro_c54b (hs : so ≤ 4) (h04 : ¬ (so = 0 ∨ so = 4)) (K : ∀ s3 s4 s5, wX_choose_100 post (nI (ro_ln so n k)) (nI so) (nI n) s3 s4 s5 a b tb tg tn tf) : wX_choose_54 post (nI so) (nI n) v3 0 s1 s2 s3 s4 s5 a b tb tg tn tf := by
  have e : ro_ln so n k = if so = 3 then 2 * n else n := if_neg h04
  rw [e] at K
  unfold wX_choose_54
  refine br_t rfl ?_
  unfold wX_choose_75
  refine br_t rfl ?_
  refine pk_eq so 3 (fun h => ?_) (fun h => ?_)
  · rw [if_pos h] at K
    have e2 : (2 : Int32) * nI n = nI (2 * n) := pk_mul 2 n
    rw [e2]
    exact K _ _ _
  · rw [if_neg h] at K
    exact K _ _ _
theorem ro_xch (hc : ro_Cf so n k) (hv : so = 0 ∨ so = 4 → v3 = nI k) (TT : ro_TT tb tg tn tf) (hB : ro_By a) (K0 : ∀ s3, ro_Lst so n k = [] → post 1 (nI so, nI n, s3, nI (ro_ln so n k), -2, a, b, tb, tg, tn, tf)) (K1 : ∀ s3 o a', (ro_Lst so n k)[0]? = some o → ro_Ev so n k tb tg tn tf → ro_Pf so n k o 0 a' → post 1 (nI so, nI n, s3, nI (ro_ln so n k), nI 0, a', b, tb, tg, tn, tf)) : wpX_choose post (s1, s2, s3, s4, s5, a, b, tb, tg, tn, tf) (nI so) (nI n) v3 := by
  have K : ∀ s3 s4 s5, wX_choose_100 post (nI (ro_ln so n k)) (nI so) (nI n) s3 s4 s5 a b tb tg tn tf := fun s3 s4 s5 => ro_c100 hc TT hB (K0 s3) (K1 s3)
  obtain ⟨c1, c2, c3, c4⟩ := hc
  unfold wpX_choose
  refine br_f (nI_pos (by omega)) ?_
  refine pk_lt 4 so (fun h => by omega) (fun _ => ?_)
  refine pk_lt n 1 (fun h => by omega) (fun _ => ?_)
  refine pk_le n 7 (fun _ => ?_) (fun h => by omega)
  have h31 : so = 0 ∨ so = 4 → wX_choose_31 post (nI so) (nI n) v3 s1 s2 s3 s4 s5 a b tb tg tn tf := by
    intro h04
    have ev := hv h04
    have hk := c4 h04
    unfold wX_choose_31 wX_choose_36
    refine br_f (by decide) ?_
    rw [ev]
    refine br_f (nI_pos (by omega)) (br_t (nI_le hk (by omega)) ?_)
    exact ro_c54a h04 rfl K
  refine pk_eq so 0 (fun h => h31 (Or.inl h)) (fun h0 => ?_)
  refine pk_eq so 4 (fun h => h31 (Or.inr h)) (fun h4 => ?_)
  unfold wX_choose_36
  refine br_t rfl ?_
  exact ro_c54b c1 (fun w => w.elim h0 h4) K
end
section
variable {so n k : Nat} {s1 s2 s3 s4 s5 v3 : Int32} {li lo : Nat → Int64} {post : Int32 → SY → Prop}
theorem ro_ych (hc : ro_Cf so n k) (hv : so = 0 ∨ so = 4 → v3 = nI k) (K : ∀ li' lo', ro_Yv so n k v3 li' → post 1 (nI so, nI n, v3, 0, nI (ro_Lst so n k).length, li', lo')) : wpY_choose post (s1, s2, s3, s4, s5, li, lo) (nI so) (nI n) v3 := by
  have h42 : wY_choose_42 post (nI so) (nI n) v3 s1 s2 s3 s4 s5 li lo := by
    unfold wY_choose_42
    exact ro_ywrite hv hc (fun li' lo' h => K li' lo' ⟨hc, hv, h⟩)
  obtain ⟨c1, c2, c3, c4⟩ := hc
  unfold wpY_choose
  refine br_f (nI_pos (by omega)) ?_
  refine pk_lt 4 so (fun h => by omega) (fun _ => ?_)
  refine pk_lt n 1 (fun h => by omega) (fun _ => ?_)
  refine pk_le n 7 (fun _ => ?_) (fun h => by omega)
  have h31 : so = 0 ∨ so = 4 → wY_choose_31 post (nI so) (nI n) v3 s1 s2 s3 s4 s5 li lo := by
    intro h04
    have ev := hv h04
    have hk := c4 h04
    unfold wY_choose_31
    have h1 : ¬ v3 < 0 := by rw [ev]; exact nI_pos (by omega)
    have h2 : v3 ≤ nI n := by rw [ev]; exact nI_le hk (by omega)
    exact br_f h1 (br_t h2 h42)
  refine pk_eq so 0 (fun h => h31 (Or.inl h)) (fun h0 => ?_)
  refine pk_eq so 4 (fun h => h31 (Or.inr h)) (fun h4 => ?_)
  exact h42
end
end
section
/-! ===== what is owed ===== -/
/-- one setting on both sides; the reference's list holds the codes of all objects; the component's items are the current object -/
def i_Rel (_ : Nat) (u : SX) (v : SY) : Prop :=
  ∃ (so n k : Nat) (s3 s5 kk nw : Int32) (a b tb tg tn tf : Nat → Int32) (li lo : Nat → Int64),
    u = (nI so, nI n, s3, nI (ro_ln so n k), s5, a, b, tb, tg, tn, tf) ∧ v = (nI so, nI n, kk, nw, nI (ro_Lst so n k).length, li, lo) ∧ ro_Yv so n k kk li ∧ ro_TT tb tg tn tf ∧ ro_By a ∧ ((ro_Lst so n k = [] ∧ s5 = -2 ∧ nw = 0) ∨ ∃ (cur : Nat) (o : List Nat), (ro_Lst so n k)[cur]? = some o ∧ s5 = nI cur ∧ nw = nI cur ∧ ro_It o a)
theorem ro_nsp {so n k cur : Nat} {o : List Nat} (h : (ro_Lst so n k)[cur]? = some o) : ¬ (so = 4 ∧ k = 0) := by
  intro z
  have e : ro_Lst so n k = [] := if_pos z
  rw [e, List.getElem?_nil] at h
  exact nomatch h
theorem ro_el {P : SX → SY → Prop} {j : Nat} {u : SX} {v : SY} (I : i_Rel j u v)
    (h0 : ∀ (so n k : Nat) (s3 kk : Int32) (a b tb tg tn tf : Nat → Int32) (li lo : Nat → Int64), ro_Yv so n k kk li → ro_TT tb tg tn tf → ro_By a → ro_Lst so n k = [] → P (nI so, nI n, s3, nI (ro_ln so n k), -2, a, b, tb, tg, tn, tf) (nI so, nI n, kk, 0, 0, li, lo))
    (h1 : ∀ (so n k cur : Nat) (o : List Nat) (s3 kk : Int32) (a b tb tg tn tf : Nat → Int32) (li lo : Nat → Int64), ro_Yv so n k kk li → ro_Ev so n k tb tg tn tf → ro_Pf so n k o 0 a → (ro_Lst so n k)[cur]? = some o → P (nI so, nI n, s3, nI (ro_ln so n k), nI cur, a, b, tb, tg, tn, tf) (nI so, nI n, kk, nI cur, nI (ro_Lst so n k).length, li, lo)) : P u v := by
  obtain ⟨so, n, k, s3, s5, kk, nw, a, b, tb, tg, tn, tf, li, lo, rfl, rfl, hY, TT, hB, hh⟩ := I
  rcases hh with ⟨e, rfl, rfl⟩ | ⟨cur, o, ho, rfl, rfl, hI⟩
  · have h := h0 so n k s3 kk a b tb tg tn tf li lo hY TT hB e
    rw [e]
    exact h
  · obtain ⟨hol, hov⟩ := ro_Lst_in ho
    exact h1 so n k cur o s3 kk a b tb tg tn tf li lo hY ⟨hY.1, ro_nsp ho, TT⟩ ⟨hov, hol, hI, hB⟩ ho
section
variable {j so n k cur : Nat} {o : List Nat} {s3 kk : Int32} {a b tb tg tn tf : Nat → Int32} {li lo : Nat → Int64}
theorem ro_in0 (hY : ro_Yv so n k kk li) (TT : ro_TT tb tg tn tf) (hB : ro_By a) (e : ro_Lst so n k = []) : i_Rel j (nI so, nI n, s3, nI (ro_ln so n k), -2, a, b, tb, tg, tn, tf) (nI so, nI n, kk, 0, 0, li, lo) :=
  ⟨so, n, k, s3, -2, kk, 0, a, b, tb, tg, tn, tf, li, lo, rfl, by rw [e]; rfl, hY, TT, hB, Or.inl ⟨e, rfl, rfl⟩⟩
theorem ro_in1 (hY : ro_Yv so n k kk li) (hE : ro_Ev so n k tb tg tn tf) (hP : ro_Pf so n k o 0 a) (ho : (ro_Lst so n k)[cur]? = some o) : i_Rel j (nI so, nI n, s3, nI (ro_ln so n k), nI cur, a, b, tb, tg, tn, tf) (nI so, nI n, kk, nI cur, nI (ro_Lst so n k).length, li, lo) :=
  ⟨so, n, k, s3, nI cur, kk, nI cur, a, b, tb, tg, tn, tf, li, lo, rfl, rfl, hY, hE.2.2, hP.2.2.2, Or.inr ⟨cur, o, ho, rfl, rfl, hP.2.2.1⟩⟩
end
theorem i_up {k : Nat} {u : SX} {v : SY} (h : i_Rel k u v) : i_Rel (k + 4) u v := h
theorem ro_init {s1 s2 s3 s4 s5 t1 t2 t3 t4 t5 v3 : Int32} {a b tb tg tn tf : Nat → Int32} {li lo : Nat → Int64} {so n k j : Nat} (hc : ro_Cf so n k) (hv : so = 0 ∨ so = 4 → v3 = nI k) (TT : ro_TT tb tg tn tf) (hB : ro_By a) : wpX_choose (fun r u' => wpY_choose (fun r' v' => r' = r ∧ i_Rel j u' v') (t1, t2, t3, t4, t5, li, lo) (nI so) (nI n) v3) (s1, s2, s3, s4, s5, a, b, tb, tg, tn, tf) (nI so) (nI n) v3 := by
  refine ro_xch hc hv TT hB (fun s3 e => ?_) (fun s3 o a' hq hE hP => ?_)
  · refine ro_ych hc hv (fun li' lo' hY => ⟨rfl, ?_⟩)
    rw [e]
    exact ro_in0 hY TT hB e
  · exact ro_ych hc hv (fun li' lo' hY => ⟨rfl, ro_in1 (cur := 0) hY hE hP hq⟩)
theorem i_vc0 : wpX_init (fun u => wpY_init (fun v => i_Rel 0 u v)) := by
  have hc : ro_Cf 1 3 0 := ⟨by decide, by decide, by decide, fun h => by omega⟩
  have hB : ro_By (fun _ => 0) := fun j => ro_nar2 0 (by decide)
  unfold wpX_init
  refine ro_fill (fun tb tg tn tf TT => ?_)
  refine ro_xch (so := 1) (n := 3) (k := 0) hc (fun h => by omega) TT hB (fun s3 e => ?_) (fun s3 o a' hq hE hP => ?_)
  · unfold wpY_init
    refine ro_ywrite (so := 1) (n := 3) (k := 0) (kk := 0) (nw := 0) (fun h => by omega) hc (fun li' lo' h => ?_)
    have hY : ro_Yv 1 3 0 0 li' := ⟨hc, fun h => by omega, h⟩
    have h2 := ro_in0 (j := 0) (s3 := s3) (b := fun _ => 0) (lo := lo') hY TT hB e
    rw [e]
    exact h2
  · unfold wpY_init
    refine ro_ywrite (so := 1) (n := 3) (k := 0) (kk := 0) (nw := 0) (fun h => by omega) hc (fun li' lo' h => ?_)
    have hY : ro_Yv 1 3 0 0 li' := ⟨hc, fun h => by omega, h⟩
    exact ro_in1 (cur := 0) hY hE hP hq
theorem i_vc_choose {k : Nat} {u : SX} {v : SY} (I : i_Rel k u v) (hk : k + 4 ≤ 2048) (v1 : Int32) (v2 : Int32) (v3 : Int32) : wpX_choose (fun r u' => wpY_choose (fun r' v' => r' = r ∧ i_Rel (k + 4) u' v') v v1 v2 v3) u v1 v2 v3 := by
  have I4 : i_Rel (k + 4) u v := I
  obtain ⟨so0, n0, k0, s3, s5, kk, nw, a, b, tb, tg, tn, tf, li, lo, rfl, rfl, hY, TT, hB, hh⟩ := I
  by_cases h1 : v1 < 0
  · exact br_t h1 (br_t h1 ⟨rfl, I4⟩)
  by_cases h2 : 4 < v1
  · exact br_f h1 (br_t h2 (br_f h1 (br_t h2 ⟨rfl, I4⟩)))
  by_cases h3 : v2 < 1
  · exact br_f h1 (br_f h2 (br_t h3 (br_f h1 (br_f h2 (br_t h3 ⟨rfl, I4⟩)))))
  by_cases h4 : v2 ≤ 7
  case neg => exact br_f h1 (br_f h2 (br_f h3 (br_f h4 (br_f h1 (br_f h2 (br_f h3 (br_f h4 ⟨rfl, I4⟩)))))))
  obtain ⟨so, hso, rfl⟩ := nI_of2 (x := v1) (M := 4) (n := 4) (by decide) h1 (Int32.not_lt.mp h2)
  have h30 : ¬ v2 < 0 := fun w => h3 (Int32.lt_trans w (by decide))
  obtain ⟨n, hn, rfl⟩ := nI_of2 (x := v2) (M := 7) (n := 7) (by decide) h30 h4
  have hn1 : 1 ≤ n := by
    rcases Nat.lt_or_ge n 1 with w | w
    · exact absurd (nI_lt (a := n) (b := 1) w (by decide)) h3
    · exact w
  by_cases h04 : so = 0 ∨ so = 4
  · by_cases h5 : v3 < 0
    · have hX : ∀ post : Int32 → SX → Prop, post 0 (nI so0, nI n0, s3, nI (ro_ln so0 n0 k0), s5, a, b, tb, tg, tn, tf) → wX_choose_31 post (nI so) (nI n) v3 (nI so0) (nI n0) s3 (nI (ro_ln so0 n0 k0)) s5 a b tb tg tn tf := fun post hp => br_f (by decide) (br_t h5 hp)
      have hX' : ∀ post : Int32 → SY → Prop, post 0 (nI so0, nI n0, kk, nw, nI (ro_Lst so0 n0 k0).length, li, lo) → wY_choose_31 post (nI so) (nI n) v3 (nI so0) (nI n0) kk nw (nI (ro_Lst so0 n0 k0).length) li lo := fun post hp => br_t h5 hp
      refine br_f h1 (br_f h2 (br_f h3 (br_t h4 (pk_eq so 0 (fun e => hX _ ?_) (fun e => pk_eq so 4 (fun e => hX _ ?_) (fun e4 => by omega))))))
      · exact br_f h1 (br_f h2 (br_f h3 (br_t h4 (pk_eq so 0 (fun e => hX' _ ⟨rfl, I4⟩) (fun e => by omega)))))
      · exact br_f h1 (br_f h2 (br_f h3 (br_t h4 (pk_eq so 0 (fun e => by omega) (fun e => pk_eq so 4 (fun e => hX' _ ⟨rfl, I4⟩) (fun e => by omega))))))
    by_cases h6 : v3 ≤ nI n
    · obtain ⟨kc, hkc, rfl⟩ := nI_of h5
      rw [nI_leI hkc (by omega)] at h6
      exact ro_init (k := kc) ⟨hso, hn1, hn, fun _ => h6⟩ (fun _ => rfl) TT hB
    · have hX : ∀ post : Int32 → SX → Prop, post 0 (nI so0, nI n0, s3, nI (ro_ln so0 n0 k0), s5, a, b, tb, tg, tn, tf) → wX_choose_31 post (nI so) (nI n) v3 (nI so0) (nI n0) s3 (nI (ro_ln so0 n0 k0)) s5 a b tb tg tn tf := fun post hp => br_f (by decide) (br_f h5 (br_f h6 hp))
      have hX' : ∀ post : Int32 → SY → Prop, post 0 (nI so0, nI n0, kk, nw, nI (ro_Lst so0 n0 k0).length, li, lo) → wY_choose_31 post (nI so) (nI n) v3 (nI so0) (nI n0) kk nw (nI (ro_Lst so0 n0 k0).length) li lo := fun post hp => br_f h5 (br_f h6 hp)
      refine br_f h1 (br_f h2 (br_f h3 (br_t h4 (pk_eq so 0 (fun e => hX _ ?_) (fun e => pk_eq so 4 (fun e => hX _ ?_) (fun e4 => by omega))))))
      · exact br_f h1 (br_f h2 (br_f h3 (br_t h4 (pk_eq so 0 (fun e => hX' _ ⟨rfl, I4⟩) (fun e => by omega)))))
      · exact br_f h1 (br_f h2 (br_f h3 (br_t h4 (pk_eq so 0 (fun e => by omega) (fun e => pk_eq so 4 (fun e => hX' _ ⟨rfl, I4⟩) (fun e => by omega))))))
  · exact ro_init (k := 0) ⟨hso, hn1, hn, fun w => absurd w h04⟩ (fun w => absurd w h04) TT hB
theorem i_vc_count {k : Nat} {u : SX} {v : SY} (I : i_Rel k u v) (hk : k + 4 ≤ 2048) : wpX_count (fun r => wpY_count (fun r' => r' = r ∧ i_Rel (k + 4) u v) v) u := by
  have I4 : i_Rel (k + 4) u v := I
  obtain ⟨so0, n0, k0, s3, s5, kk, nw, a, b, tb, tg, tn, tf, li, lo, rfl, rfl, hY, TT, hB, hh⟩ := I
  unfold wpX_count
  exact ro_xcnt hY.1 TT ⟨rfl, I4⟩
theorem i_vc_number {k : Nat} {u : SX} {v : SY} (I : i_Rel k u v) (hk : k + 4 ≤ 2048) : wpX_number (fun r => wpY_number (fun r' => r' = r ∧ i_Rel (k + 4) u v) v) u := by
  refine ro_el (P := fun u v => wpX_number (fun r => wpY_number (fun r' => r' = r ∧ i_Rel (k + 4) u v) v) u) I ?_ ?_
  · intro so n k s3 kk a b tb tg tn tf li lo hY TT hB e
    exact br_t rfl ⟨rfl, ro_in0 hY TT hB e⟩
  · intro so n k cur o s3 kk a b tb tg tn tf li lo hY hE hP ho
    have hb := ro_Yb hY ho
    have hN := ro_Lst_le hY.1
    exact br_f (nI_ne0 (by omega) (by omega)) ⟨rfl, ro_in1 hY hE hP ho⟩
theorem i_vc_item {k : Nat} {u : SX} {v : SY} (I : i_Rel k u v) (hk : k + 4 ≤ 2048) (v1 : Int32) : wpX_item (fun r => wpY_item (fun r' => r' = r ∧ i_Rel (k + 4) u v) v v1) u v1 := by
  refine ro_el (P := fun u v => wpX_item (fun r => wpY_item (fun r' => r' = r ∧ i_Rel (k + 4) u v) v v1) u v1) I ?_ ?_
  · intro so n k s3 kk a b tb tg tn tf li lo hY TT hB e
    exact br_t (by decide) (br_t rfl ⟨rfl, ro_in0 hY TT hB e⟩)
  · intro so n k cur o s3 kk a b tb tg tn tf li lo hY hE hP ho
    have hb := ro_Yb hY ho
    have hN := ro_Lst_le hY.1
    have hln := ro_ln_le hY.1
    have hol : o.length + 0 = ro_ln so n k := hP.2.1
    have hI := ro_in1 (j := k) (b := b) (s3 := s3) (lo := lo) hY hE hP ho
    have hc0 : ¬ nI (ro_Lst so n k).length = 0 := nI_ne0 (by omega) (by omega)
    by_cases h1 : v1 < 0
    · exact br_f (nI_pos (by omega)) (br_t h1 (br_f hc0 (br_t h1 ⟨rfl, hI⟩)))
    · obtain ⟨i, hi, rfl⟩ := nI_of h1
      refine br_f (nI_pos (by omega)) (br_f h1 (pk_lt i (ro_ln so n k) (fun h => ?_) (fun h => ?_)))
      · refine ⟨vp_in_nI (by omega) (by omega), br_f hc0 (br_f h1 (ro_ylen hY.2.1 hY.1.1 (br_t (nI_lt h (by omega)) ?_)))⟩
        refine ro_yd hY ho h ⟨?_, hI⟩
        rw [nI_clamp hi, hP.2.2.1 i (by omega)]
      · exact br_f hc0 (br_f h1 (ro_ylen hY.2.1 hY.1.1 (br_f (nI_nlt h hi) ⟨rfl, hI⟩)))
end
section
theorem i_vc_go {k : Nat} {u : SX} {v : SY} (I : i_Rel k u v) (hk : k + 4 ≤ 2048) (v1 : Int32) : wpX_go (fun r u' => wpY_go (fun r' v' => r' = r ∧ i_Rel (k + 4) u' v') v v1) u v1 := by
  refine ro_el (P := fun u v => wpX_go (fun r u' => wpY_go (fun r' v' => r' = r ∧ i_Rel (k + 4) u' v') v v1) u v1) I ?_ ?_
  · intro so n k s3 kk a b tb tg tn tf li lo hY TT hB e
    unfold wpX_go
    refine ro_xcnt hY.1 TT ?_
    rw [e]
    have hI := ro_in0 (j := k) (b := b) (s3 := s3) (lo := lo) hY TT hB e
    by_cases h1 : v1 < 0
    · exact br_t h1 (br_t h1 ⟨rfl, hI⟩)
    · exact br_f h1 (br_f h1 (br_f h1 (br_f h1 ⟨rfl, hI⟩)))
  · intro so n k cur o s3 kk a b tb tg tn tf li lo hY hE hP ho
    have hN := ro_Lst_le hY.1
    have hI := ro_in1 (j := k) (b := b) (s3 := s3) (lo := lo) hY hE hP ho
    by_cases h1 : v1 < 0
    · unfold wpX_go
      exact ro_xcnt hY.1 hE.2.2 (br_t h1 (br_t h1 ⟨rfl, hI⟩))
    · obtain ⟨i, hi, rfl⟩ := nI_of h1
      by_cases h2 : i < (ro_Lst so n k).length
      · have hq : (ro_Lst so n k)[i]? = some (ro_Lst so n k)[i] := List.getElem?_eq_getElem h2
        refine ro_xgoN hE hP.2.2.2 hq (fun a' hP' => ?_)
        exact br_f h1 (br_t (nI_lt h2 (by omega)) ⟨rfl, ro_in1 hY hE hP' hq⟩)
      · have h3 : ¬ nI i < nI (ro_Lst so n k).length := nI_nlt (by omega) hi
        unfold wpX_go
        exact ro_xcnt hY.1 hE.2.2 (br_f h1 (br_f h3 (br_f h1 (br_f h3 ⟨rfl, hI⟩))))
theorem i_vc_next {k : Nat} {u : SX} {v : SY} (I : i_Rel k u v) (hk : k + 4 ≤ 2048) : wpX_next (fun r u' => wpY_next (fun r' v' => r' = r ∧ i_Rel (k + 4) u' v') v) u := by
  refine ro_el (P := fun u v => wpX_next (fun r u' => wpY_next (fun r' v' => r' = r ∧ i_Rel (k + 4) u' v') v) u) I ?_ ?_
  · intro so n k s3 kk a b tb tg tn tf li lo hY TT hB e
    unfold wpX_next
    refine ro_xcnt hY.1 TT ?_
    exact br_t (by decide) (br_f (by decide) ⟨rfl, ro_in0 hY TT hB e⟩)
  · intro so n k cur o s3 kk a b tb tg tn tf li lo hY hE hP ho
    have hN := ro_Lst_le hY.1
    have hb := ro_Yb hY ho
    unfold wpX_next
    refine ro_xcnt hY.1 hE.2.2 ?_
    refine br_f (nI_pos (by omega)) (pk_lt (cur + 1) (ro_Lst so n k).length (fun h => ?_) (fun h => ?_) (nI_1 cur))
    · obtain ⟨o', hq⟩ : ∃ o', (ro_Lst so n k)[cur + 1]? = some o' := ⟨_, List.getElem?_eq_getElem h⟩
      have e := ro_Lst_n hE
      have hq' := hq
      rw [e] at hq'
      have ho' := ho
      rw [e] at ho'
      have hd := ro_dec_all ho'
      refine nm_r (e' := ro_pm (ro_ln so n k)) rfl ⟨ro_ln so n k + 1, ro_n33 hE hP hq' (fun a' hP' => ?_) (ro_ln so n k + 1) (ro_ln so n k) (Nat.le_refl _) (by omega) ?_⟩
      · refine br_t ?_ (nm_r (nI_1 cur) ⟨rfl, ro_in1 hY hE hP' hq⟩)
        rw [nI_1]
        exact nI_lt h (by omega)
      · rw [Nat.sub_self]
        show cur + 1 = _ + 1
        omega
    · refine br_f ?_ ⟨rfl, ro_in1 hY hE hP ho⟩
      rw [nI_1]
      exact nI_nlt h (by omega)
theorem i_vc_previous {k : Nat} {u : SX} {v : SY} (I : i_Rel k u v) (hk : k + 4 ≤ 2048) : wpX_previous (fun r u' => wpY_previous (fun r' v' => r' = r ∧ i_Rel (k + 4) u' v') v) u := by
  refine ro_el (P := fun u v => wpX_previous (fun r u' => wpY_previous (fun r' v' => r' = r ∧ i_Rel (k + 4) u' v') v) u) I ?_ ?_
  · intro so n k s3 kk a b tb tg tn tf li lo hY TT hB e
    exact br_f (by decide) (br_t rfl ⟨rfl, ro_in0 hY TT hB e⟩)
  · intro so n k cur o s3 kk a b tb tg tn tf li lo hY hE hP ho
    have hN := ro_Lst_le hY.1
    have hb := ro_Yb hY ho
    have hc0 : ¬ nI (ro_Lst so n k).length = 0 := nI_ne0 (by omega) (by omega)
    cases cur with
    | zero => exact br_f (by decide) (br_f hc0 (br_t rfl ⟨rfl, ro_in1 hY hE hP ho⟩))
    | succ c =>
      obtain ⟨o', hq⟩ : ∃ o', (ro_Lst so n k)[c]? = some o' := ⟨_, List.getElem?_eq_getElem (by omega)⟩
      have e := ro_Lst_n hE
      have hq' := hq
      rw [e] at hq'
      have ho' := ho
      rw [e] at ho'
      have hd := ro_dec_all ho'
      refine br_t (nI_lt (a := 0) (by omega) (by omega)) ?_
      refine nm_r (e' := ro_pm (ro_ln so n k)) rfl ⟨ro_ln so n k + 1, ro_p17 hE hP hq' (fun a' hP' => ?_) (ro_ln so n k + 1) (ro_ln so n k) (Nat.le_refl _) (by omega) hd⟩
      exact br_f hc0 (br_f (nI_ne0 (by omega) (by omega)) (nm_r (nI_pred c) ⟨rfl, ro_in1 hY hE hP' hq⟩))
theorem i_vc_firstLike {k : Nat} {u : SX} {v : SY} (I : i_Rel k u v) (hk : k + 4 ≤ 2048) (v1 : Int32) : wpX_firstLike (fun r u' => wpY_firstLike (fun r' => r' = r ∧ i_Rel (k + 4) u' v) v v1) u v1 := by
  refine ro_el (P := fun u v => wpX_firstLike (fun r u' => wpY_firstLike (fun r' => r' = r ∧ i_Rel (k + 4) u' v) v v1) u v1) I ?_ ?_
  · intro so n k s3 kk a b tb tg tn tf li lo hY TT hB e
    exact br_t (by decide) (br_t rfl ⟨rfl, ro_in0 hY TT hB e⟩)
  · intro so n k cur o s3 kk a b tb tg tn tf li lo hY hE hP ho
    have hb := ro_Yb hY ho
    have hN := ro_Lst_le hY.1
    have hln := ro_ln_le hY.1
    have hI := ro_in1 (j := k) (b := b) (s3 := s3) (lo := lo) hY hE hP ho
    have hc0 : ¬ nI (ro_Lst so n k).length = 0 := nI_ne0 (by omega) (by omega)
    by_cases h1 : v1 < 0
    · exact br_f (nI_pos (by omega)) (br_t h1 (br_f hc0 (br_t h1 ⟨rfl, hI⟩)))
    · obtain ⟨i, hi, rfl⟩ := nI_of h1
      refine br_f (nI_pos (by omega)) (br_f h1 (pk_lt i (ro_ln so n k) (fun h => ?_) (fun h => ?_)))
      · rw [← ro_pms i]
        refine ro_xrank hE hP h ?_
        rw [ro_pms i]
        refine br_f hc0 (br_f h1 (ro_ylen hY.2.1 hY.1.1 (br_t (nI_lt h (by omega)) ?_)))
        exact ⟨ro_bs (ro_G so n k) (ro_ln so n k) o (i + 1) + 1, ro_yf23 hY hE.2.1 ho h ⟨rfl, hI⟩ _ 0 (by omega) (by omega)⟩
      · exact br_f hc0 (br_f h1 (ro_ylen hY.2.1 hY.1.1 (br_f (nI_nlt h hi) ⟨rfl, hI⟩)))
theorem i_vc_like {k : Nat} {u : SX} {v : SY} (I : i_Rel k u v) (hk : k + 4 ≤ 2048) (v1 : Int32) : wpX_like (fun r => wpY_like (fun r' => r' = r ∧ i_Rel (k + 4) u v) v v1) u v1 := by
  refine ro_el (P := fun u v => wpX_like (fun r => wpY_like (fun r' => r' = r ∧ i_Rel (k + 4) u v) v v1) u v1) I ?_ ?_
  · intro so n k s3 kk a b tb tg tn tf li lo hY TT hB e
    exact br_t (by decide) (br_t rfl ⟨rfl, ro_in0 hY TT hB e⟩)
  · intro so n k cur o s3 kk a b tb tg tn tf li lo hY hE hP ho
    have hb := ro_Yb hY ho
    have hN := ro_Lst_le hY.1
    have hln := ro_ln_le hY.1
    have hol : o.length + 0 = ro_ln so n k := hP.2.1
    have hI := ro_in1 (j := k) (b := b) (s3 := s3) (lo := lo) hY hE hP ho
    have hc0 : ¬ nI (ro_Lst so n k).length = 0 := nI_ne0 (by omega) (by omega)
    by_cases h1 : v1 < 0
    · exact br_f (nI_pos (by omega)) (br_t h1 (br_f hc0 (br_t h1 ⟨rfl, hI⟩)))
    · obtain ⟨i, hi, rfl⟩ := nI_of h1
      refine br_f (nI_pos (by omega)) (br_f h1 (pk_lt i (ro_ln so n k) (fun h => ?_) (fun h => ?_)))
      · have hPT := ro_PfT (i := i + 1) hP h
        have hl := ro_len_take (o := o) (i := i + 1) (by omega)
        have hlaw := ro_law hE.1 hE.2.1 (ro_ln so n k - (i + 1)) (o.take (i + 1)) hPT.1 hPT.2.1
        have hbs := ro_Lst_bs hE.2.1 ho h
        have hgo : wpX_goingOn (fun r => wpY_like (fun r' => r' = r ∧ i_Rel (k + 4) (nI so, nI n, s3, nI (ro_ln so n k), nI cur, a, b, tb, tg, tn, tf) (nI so, nI n, kk, nI cur, nI (ro_Lst so n k).length, li, lo)) (nI so, nI n, kk, nI cur, nI (ro_Lst so n k).length, li, lo) (nI i)) (nI so, nI n, s3, nI (ro_ln so n k), nI cur, a, b, tb, tg, tn, tf) (nI (o.take (i + 1)).length) := by
          refine ro_xgo hE.1 hE.2.2 hPT.2.2.1 (by omega) (Or.inl hPT.1) ?_
          rw [← hlaw]
          refine br_f hc0 (br_f h1 (ro_ylen hY.2.1 hY.1.1 (br_t (nI_lt h (by omega)) ?_)))
          exact ⟨(ro_Lst so n k).length + 1, ro_yl25 hY hE.2.1 ho h ⟨rfl, hI⟩ _ 0 0 (by omega) (by omega) (fun _ => rfl) (fun w1 w2 => by omega) (fun w => by omega)⟩
        rw [hl, ← nI_1] at hgo
        exact hgo
      · exact br_f hc0 (br_f h1 (ro_ylen hY.2.1 hY.1.1 (br_f (nI_nlt h hi) ⟨rfl, hI⟩)))
theorem i_vc_difference {k : Nat} {u : SX} {v : SY} (I : i_Rel k u v) (hk : k + 4 ≤ 2048) (v1 : Int32) : wpX_difference (fun r u' => wpY_difference (fun r' => r' = r ∧ i_Rel (k + 4) u' v) v v1) u v1 := by
  refine ro_el (P := fun u v => wpX_difference (fun r u' => wpY_difference (fun r' => r' = r ∧ i_Rel (k + 4) u' v) v v1) u v1) I ?_ ?_
  · intro so n k s3 kk a b tb tg tn tf li lo hY TT hB e
    unfold wpX_difference
    refine ro_xcnt hY.1 TT ?_
    rw [e]
    have hI := ro_in0 (j := k) (b := b) (s3 := s3) (lo := lo) hY TT hB e
    by_cases h1 : v1 < 0
    · exact br_t h1 (br_t h1 ⟨rfl, hI⟩)
    · exact br_f h1 (br_f h1 (br_f h1 (br_f h1 ⟨rfl, hI⟩)))
  · intro so n k cur o s3 kk a b tb tg tn tf li lo hY hE hP ho
    have hN := ro_Lst_le hY.1
    have hI := ro_in1 (j := k) (b := b) (s3 := s3) (lo := lo) hY hE hP ho
    by_cases h1 : v1 < 0
    · unfold wpX_difference
      exact ro_xcnt hY.1 hE.2.2 (br_t h1 (br_t h1 ⟨rfl, hI⟩))
    · obtain ⟨i, hi, rfl⟩ := nI_of h1
      by_cases h2 : i < (ro_Lst so n k).length
      · have hq : (ro_Lst so n k)[i]? = some (ro_Lst so n k)[i] := List.getElem?_eq_getElem h2
        refine ro_xdiff hE hP hq ho (fun a' b' hP' => ?_)
        refine br_f h1 (br_t (nI_lt h2 (by omega)) ?_)
        exact ⟨ro_ln so n k + 1, ro_yd18 hY hq ho ⟨rfl, ro_in1 hY hE hP' ho⟩ (ro_ln so n k + 1) 0 (by omega) (by omega)⟩
      · have h3 : ¬ nI i < nI (ro_Lst so n k).length := nI_nlt (by omega) hi
        unfold wpX_difference
        exact ro_xcnt hY.1 hE.2.2 (br_f h1 (br_f h3 (br_f h1 (br_f h3 ⟨rfl, hI⟩))))
theorem i_vc_mirrored {k : Nat} {u : SX} {v : SY} (I : i_Rel k u v) (hk : k + 4 ≤ 2048) : wpX_mirrored (fun r u' => wpY_mirrored (fun r' => r' = r ∧ i_Rel (k + 4) u' v) v) u := by
  refine ro_el (P := fun u v => wpX_mirrored (fun r u' => wpY_mirrored (fun r' => r' = r ∧ i_Rel (k + 4) u' v) v) u) I ?_ ?_
  · intro so n k s3 kk a b tb tg tn tf li lo hY TT hB e
    have hI := ro_in0 (j := k) (b := b) (s3 := s3) (lo := lo) hY TT hB e
    exact br_t (by decide) (br_c (fun _ => ⟨rfl, hI⟩) (fun _ => br_t rfl ⟨rfl, hI⟩))
  · intro so n k cur o s3 kk a b tb tg tn tf li lo hY hE hP ho
    have hN := ro_Lst_le hY.1
    have hb := ro_Yb hY ho
    have hc1 := hY.1.1
    have hc0 : ¬ nI (ro_Lst so n k).length = 0 := nI_ne0 (by omega) (by omega)
    by_cases h2 : so = 2
    · subst h2
      exact br_f (nI_pos (by omega)) (br_t rfl (br_t rfl ⟨rfl, ro_in1 hY hE hP ho⟩))
    · refine ro_xmir hE h2 hP ho (fun a' b' hP' => ?_)
      refine pk_eq so 2 (fun w => absurd w h2) (fun _ => br_f hc0 (ro_ylen hY.2.1 hY.1.1 ?_))
      have h9 := ro_ym27 (lo := lo) (post := fun r' => r' = nI (ro_bs (ro_G so n k) (ro_ln so n k) (ro_mir so n o) (ro_ln so n k)) ∧ i_Rel (k + 4) (nI so, nI n, s3, nI (ro_ln so n k), nI cur, a', b', tb, tg, tn, tf) (nI so, nI n, kk, nI cur, nI (ro_Lst so n k).length, li, lo)) hY hE.2.1 h2 ho ⟨rfl, ro_in1 hY hE hP' ho⟩ (ro_ln so n k + 1) (ro_ln so n k) (Nat.le_refl _) (by omega)
      rw [Nat.sub_self, List.take_zero] at h9
      exact nm_r (e' := ro_pm (ro_ln so n k)) rfl ⟨ro_ln so n k + 1, h9⟩
end
