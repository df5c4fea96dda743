section
/-! pure rows to paste: stores, nI and lN arithmetic, masks, shifts, narrowing, branches by naturals (pk_le, pk_lt, pk_eq), loops (lp1 .. lp16: the measure of the state; rp1 ..: recursion), negatives. Take what you need -/
theorem pk_us {f : Nat → Int32} {k : Nat} {x : Int32} : upd f k x k = x := if_pos rfl
theorem pk_un {f : Nat → Int32} {k j : Nat} {x : Int32} (h : j ≠ k) : upd f k x j = f j := if_neg h
theorem pk_uLs {f : Nat → Int64} {k : Nat} {x : Int64} : vp_updL f k x k = x := if_pos rfl
theorem pk_uLn {f : Nat → Int64} {k j : Nat} {x : Int64} (h : j ≠ k) : vp_updL f k x j = f j := if_neg h
theorem pk_sub {a b : Nat} (h : b ≤ a) : nI a - nI b = nI (a - b) := by
  obtain ⟨c, rfl⟩ : ∃ c, a = c + b := ⟨a - b, by omega⟩
  rw [← nI_add, Int32.add_sub_cancel, Nat.add_sub_cancel]
theorem pk_m1 (n : Nat) : nI (n + 1) + (-1) = nI n := by
  rw [← nI_1, Int32.add_assoc, show (1 : Int32) + (-1) = 0 from rfl, Int32.add_zero]
theorem pk_mul (a b : Nat) : nI a * nI b = nI (a * b) := (Int32.ofNat_mul a b).symm
theorem pk_div {a d : Nat} (ha : a < 2 ^ 31) (h0 : 0 < d) (hd : d < 2 ^ 31) : nI a / nI d = nI (a / d) := by
  apply Int32.toInt_inj.mp
  rw [lg_idiv_nonneg (by rw [nI_toInt ha]; omega) (by rw [nI_toInt hd]; omega), nI_toInt ha, nI_toInt hd, nI_toInt (Nat.lt_of_le_of_lt (Nat.div_le_self a d) ha)]
  first | rfl | exact (Int.natCast_ediv _ _).symm
theorem pk_rem {a d : Nat} (ha : a < 2 ^ 31) (h0 : 0 < d) (hd : d < 2 ^ 31) : nI a - nI a / nI d * nI d = nI (a % d) := by
  rw [pk_div ha h0 hd, pk_mul, pk_sub (Nat.div_mul_le_self a d)]
  exact congrArg nI (by have := Nat.div_add_mod' a d; omega)
theorem pk_sub_toInt {a b : Nat} (ha : a < 2 ^ 30) (hb : b < 2 ^ 30) : (nI a - nI b).toInt = (a : Int) - b := by
  rw [Int32.toInt_sub, nI_toInt (by omega), nI_toInt (by omega)]
  exact Int.bmod_eq_of_le (by omega) (by omega)
theorem pk_sneg {a b : Nat} (hb : b < 2 ^ 30) (h : a < b) : nI a - nI b < 0 := by
  rw [Int32.lt_iff_toInt_lt, pk_sub_toInt (by omega) hb, show (0 : Int32).toInt = 0 from by decide]
  omega
theorem pk_ix (x : Int32) {n : Nat} (hn : n < 2 ^ 31) : x < 0 ∨ nI n ≤ x ∨ ∃ j : Nat, j < n ∧ x = nI j := by
  by_cases h : x < 0
  · exact Or.inl h
  · obtain ⟨j, hj, rfl⟩ := nI_of h
    by_cases h2 : j < n
    · exact Or.inr (Or.inr ⟨j, h2, rfl⟩)
    · exact Or.inr (Or.inl (nI_le (by omega) hj))
theorem pk_le {x y : Int32} {A B : Prop} (a b : Nat) (f : a ≤ b → A) (g : b < a → B) (hx : x = nI a := by rfl) (hy : y = nI b := by rfl) (ha : a < 2 ^ 31 := by omega) (hb : b < 2 ^ 31 := by omega) : (x ≤ y → A) ∧ (¬ x ≤ y → B) := by
  subst hx hy
  rw [nI_leI ha hb]
  exact ⟨f, fun z => g (by omega)⟩
theorem pk_lt {x y : Int32} {A B : Prop} (a b : Nat) (f : a < b → A) (g : b ≤ a → B) (hx : x = nI a := by rfl) (hy : y = nI b := by rfl) (ha : a < 2 ^ 31 := by omega) (hb : b < 2 ^ 31 := by omega) : (x < y → A) ∧ (¬ x < y → B) := by
  subst hx hy
  rw [nI_ltI ha hb]
  exact ⟨f, fun z => g (by omega)⟩
theorem pk_eq {x y : Int32} {A B : Prop} (a b : Nat) (f : a = b → A) (g : a ≠ b → B) (hx : x = nI a := by rfl) (hy : y = nI b := by rfl) (ha : a < 2 ^ 31 := by omega) (hb : b < 2 ^ 31 := by omega) : (x = y → A) ∧ (¬ x = y → B) := by
  subst hx hy
  rw [nI_eq ha hb]
  exact ⟨f, g⟩
theorem pk_in {x : Int32} (n N : Nat) (h : n < N) (hx : x = nI n := by rfl) (hN : N < 2 ^ 31 := by omega) : vp_in x N := by
  subst hx
  exact vp_in_nI h hN
theorem pk_cl {x : Int32} (n : Nat) (hx : x = nI n := by rfl) (h : n < 2 ^ 31 := by omega) : x.toNatClampNeg = n := by
  subst hx
  exact nI_clamp h
theorem pk_tn {n : Nat} (h : n < 2 ^ 32) : (nI n).toBitVec.toNat = n := Nat.mod_eq_of_lt h
theorem pk_and (x : Int32) {m : Int32} (k : Nat) (hm : m.toBitVec.toNat = 2 ^ k - 1) : x &&& m = nI (x.toBitVec.toNat % 2 ^ k) := by
  apply Int32.toBitVec_inj.mp
  apply BitVec.eq_of_toNat_eq
  rw [Int32.toBitVec_and, BitVec.toNat_and, hm, Nat.and_two_pow_sub_one_eq_mod]
  show _ = (BitVec.ofNat 32 _).toNat
  rw [BitVec.toNat_ofNat]
  exact (Nat.mod_eq_of_lt (Nat.lt_of_le_of_lt (Nat.mod_le _ _) x.toBitVec.isLt)).symm
theorem pk_andN {n : Nat} (h : n < 2 ^ 32) {m : Int32} (k : Nat) (hm : m.toBitVec.toNat = 2 ^ k - 1) : nI n &&& m = nI (n % 2 ^ k) := by
  rw [pk_and _ k hm, pk_tn h]
theorem pk_andE (x : Int32) {m : Int32} (k : Nat) (hm : m.toBitVec.toNat = 2 ^ k - 1) : ∃ j : Nat, j < 2 ^ k ∧ x &&& m = nI j := ⟨_, Nat.mod_lt _ (Nat.two_pow_pos k), pk_and x k hm⟩
theorem pk_andIn (x : Int32) {m : Int32} (k : Nat) (hm : m.toBitVec.toNat = 2 ^ k - 1) (hk : k ≤ 30) : vp_in (x &&& m) (2 ^ k) := by
  obtain ⟨j, hj, e⟩ := pk_andE x k hm
  rw [e]
  exact vp_in_nI hj (Nat.lt_of_le_of_lt (Nat.pow_le_pow_right (by decide) hk) (by decide))
theorem pk_shl (a s : Int32) (k : Nat) (hs : (s.toBitVec.smod 32).toNat = k) : (a <<< s).toBitVec.toNat = a.toBitVec.toNat * 2 ^ k % 2 ^ 32 := by
  show (a.toBitVec <<< (s.toBitVec.smod 32).toNat).toNat = _
  rw [hs, BitVec.toNat_shiftLeft, Nat.shiftLeft_eq]
theorem pk_shlN {n : Nat} (s : Int32) (k : Nat) (hs : (s.toBitVec.smod 32).toNat = k) (h : n * 2 ^ k < 2 ^ 32) : nI n <<< s = nI (n * 2 ^ k) := by
  apply Int32.toBitVec_inj.mp
  apply BitVec.eq_of_toNat_eq
  have hn : n < 2 ^ 32 := Nat.lt_of_le_of_lt (Nat.le_mul_of_pos_right n (Nat.two_pow_pos k)) h
  rw [pk_shl _ _ k hs, pk_tn hn, pk_tn h, Nat.mod_eq_of_lt h]
theorem pk_shr (a s : Int32) (k : Nat) (hs : (s.toBitVec.smod 32).toNat = k) : (a >>> s).toInt = a.toInt >>> k := by
  show (a.toBitVec.sshiftRight (s.toBitVec.smod 32).toNat).toInt = _
  rw [hs, BitVec.toInt_sshiftRight]
  rfl
theorem pk_shrN {n : Nat} (h : n < 2 ^ 31) (s : Int32) (k : Nat) (hs : (s.toBitVec.smod 32).toNat = k) : nI n >>> s = nI (n / 2 ^ k) := by
  apply Int32.toInt_inj.mp
  have h2 : n / 2 ^ k ≤ n := Nat.div_le_self _ _
  rw [pk_shr _ _ k hs, nI_toInt h, nI_toInt (by omega), Int.shiftRight_eq_div_pow]
  rfl
theorem pk_ushr (x s : Int32) (k : Nat) (hs : ((s.toUInt32 &&& Int32.toUInt32 31).toBitVec % 32).toNat = k) : (x.toUInt32 >>> (s.toUInt32 &&& Int32.toUInt32 31)).toInt32.toBitVec.toNat = x.toBitVec.toNat / 2 ^ k := by
  have e : (x.toUInt32 >>> (s.toUInt32 &&& Int32.toUInt32 31)).toInt32.toBitVec = x.toBitVec >>> k := by
    rw [← hs]
    exact UInt32.toBitVec_shiftRight _ _
  rw [e, BitVec.toNat_ushiftRight, Nat.shiftRight_eq_div_pow]
theorem pk_ushrN {n : Nat} (hn : n < 2 ^ 32) (s : Int32) (k : Nat) (hs : ((s.toUInt32 &&& Int32.toUInt32 31).toBitVec % 32).toNat = k) : ((nI n).toUInt32 >>> (s.toUInt32 &&& Int32.toUInt32 31)).toInt32 = nI (n / 2 ^ k) := by
  apply Int32.toBitVec_inj.mp
  apply BitVec.eq_of_toNat_eq
  rw [pk_ushr _ s k hs, pk_tn hn, pk_tn (Nat.lt_of_le_of_lt (Nat.div_le_self _ _) hn)]
theorem pk_nb (z : Int32) : narrow .byte (.int z.toInt8.toInt32) = .int z.toInt8.toInt32 := congrArg Value.int (by simp)
theorem pk_ns (z : Int32) : narrow .short (.int z.toInt16.toInt32) = .int z.toInt16.toInt32 := congrArg Value.int (by simp)
theorem pk_fb (r : Int32) : fits .byte (.int r.toInt8.toInt32) = true := by
  have ⟨a, b⟩ := lg_i2b_range r
  have h1 : (-128 : Int32).toInt = -128 := by decide
  have h2 : (127 : Int32).toInt = 127 := by decide
  simp only [fits, Bool.and_eq_true, decide_eq_true_eq, Int32.le_iff_toInt_le, h1, h2]
  omega
theorem pk_fs (r : Int32) : fits .short (.int r.toInt16.toInt32) = true := by
  have ⟨a, b⟩ := lg_i2s_range r
  have h1 : (-32768 : Int32).toInt = -32768 := by decide
  have h2 : (32767 : Int32).toInt = 32767 := by decide
  simp only [fits, Bool.and_eq_true, decide_eq_true_eq, Int32.le_iff_toInt_le, h1, h2]
  omega
theorem pk_charN {q : Nat} (hq : q < 65536) : narrow .char (.int (nI q)) = .int (nI q) ∧ fits .char (.int (nI q)) = true := by
  constructor
  · have e : (nI q).toUInt32.toUInt16.toUInt32.toInt32 = nI q := by
      apply Int32.toBitVec_inj.mp
      apply BitVec.eq_of_toNat_eq
      show (nI q).toUInt32.toUInt16.toUInt32.toNat = q % 2 ^ 32
      rw [UInt16.toNat_toUInt32, UInt32.toNat_toUInt16, show (nI q).toUInt32.toNat = q % 2 ^ 32 from rfl]
      omega
    exact congrArg Value.int e
  · have a : (0 : Int32) ≤ nI q := nI_pos' (by omega)
    have b : nI q ≤ 65535 := nI_le (b := 65535) (by omega) (by decide)
    show (decide ((0 : Int32) ≤ nI q) && decide (nI q ≤ 65535)) = true
    rw [decide_eq_true a, decide_eq_true b]
    rfl
theorem pk_char (x : Int32) : (x.toUInt32 % 65536).toInt32 = nI (x.toBitVec.toNat % 65536) := by
  apply Int32.toBitVec_inj.mp
  apply BitVec.eq_of_toNat_eq
  rw [pk_tn (by omega)]
  show (x.toUInt32 % 65536).toNat = _
  rw [UInt32.toNat_mod]
  rfl
theorem pk_nc (x : Int32) : narrow .char (.int (x.toUInt32 % 65536).toInt32) = .int (x.toUInt32 % 65536).toInt32 := by
  rw [pk_char]
  exact (pk_charN (Nat.mod_lt _ (by decide))).1
theorem pk_fc (x : Int32) : fits .char (.int (x.toUInt32 % 65536).toInt32) = true := by
  rw [pk_char]
  exact (pk_charN (Nat.mod_lt _ (by decide))).2
theorem pk_vb (z : Int32) : vp_nar .byte z.toInt8.toInt32 = z.toInt8.toInt32 := by rw [vp_nar_byte]; simp
theorem pk_vs (z : Int32) : vp_nar .short z.toInt16.toInt32 = z.toInt16.toInt32 := by rw [vp_nar_short]; simp
theorem pk_vc (z : Int32) : vp_nar .char (z.toUInt32 % 65536).toInt32 = (z.toUInt32 % 65536).toInt32 := Value.int.inj (pk_nc z)
theorem pk_lT {n : Nat} (h : n < 2 ^ 63) : (lN n).toInt = (n : Int) := lg_ofNat_toInt h
theorem pk_lLT {a b : Nat} (ha : a < 2 ^ 63) (hb : b < 2 ^ 63) : lN a < lN b ↔ a < b := by
  rw [Int64.lt_iff_toInt_lt, pk_lT ha, pk_lT hb]; omega
theorem pk_lLE {a b : Nat} (ha : a < 2 ^ 63) (hb : b < 2 ^ 63) : lN a ≤ lN b ↔ a ≤ b := by
  rw [Int64.le_iff_toInt_le, pk_lT ha, pk_lT hb]; omega
theorem pk_lEQ {a b : Nat} (ha : a < 2 ^ 63) (hb : b < 2 ^ 63) : lN a = lN b ↔ a = b := by
  rw [← Int64.toInt_inj, pk_lT ha, pk_lT hb]; omega
theorem pk_lOf {x : Int64} (h : ¬ x < 0) : ∃ k : Nat, k < 2 ^ 63 ∧ x = lN k := by
  rw [Int64.lt_iff_toInt_lt] at h
  have h0 : (0 : Int64).toInt = 0 := by decide
  have hx := Int64.toInt_lt x
  refine ⟨x.toInt.toNat, by omega, Int64.toInt_inj.mp ?_⟩
  rw [pk_lT (by omega)]
  omega
theorem pk_lDiv {a b : Nat} (ha : a < 2 ^ 63) (h0 : 0 < b) (hb : b < 2 ^ 63) : lN a / lN b = lN (a / b) := by
  apply Int64.toInt_inj.mp
  rw [lg_ldiv_nonneg (by rw [pk_lT ha]; omega) (by rw [pk_lT hb]; omega), pk_lT ha, pk_lT hb, pk_lT (Nat.lt_of_le_of_lt (Nat.div_le_self a b) ha)]
  rfl
theorem pk_lRem {a b : Nat} (ha : a < 2 ^ 63) (h0 : 0 < b) (hb : b < 2 ^ 63) : lN a - lN a / lN b * lN b = lN (a % b) := by
  rw [pk_lDiv ha h0 hb, lN_mul, lN_sub (Nat.div_mul_le_self a b)]
  exact congrArg lN (by have := Nat.div_add_mod' a b; omega)
theorem pk_loop {σ : Type} (W : Nat → Nat → σ → Prop) (I : Nat → σ → Prop) (e i0 : Nat) (s : σ) (hi : i0 ≤ e) (h0 : I i0 s) (hx : ∀ n s, I e s → W (n + 1) e s)
    (hs : ∀ n i s, i < e → I i s → (∀ s', I (i + 1) s' → W n (i + 1) s') → W (n + 1) i s) : ∃ n, W n i0 s :=
  ⟨e + 1, loop_i W I e hx hs (e + 1) i0 s hi (by omega) h0⟩
theorem pk_loopD {σ : Type} (W : Nat → Nat → σ → Prop) (I : Nat → σ → Prop) (hx : ∀ n s, I 0 s → W (n + 1) 0 s)
    (hs : ∀ n i s, I (i + 1) s → (∀ s', I i s' → W n i s') → W (n + 1) (i + 1) s) : ∀ (e : Nat) (s : σ), I e s → W (e + 1) e s := by
  intro e
  induction e with
  | zero => exact fun s h => hx 0 s h
  | succ e ih => exact fun s h => hs (e + 1) e s h (fun s' h' => ih s' h')
/-! ===== Int32 by its bits: bt x i ===== -/
def bt (x : Int32) (i : Nat) : Bool := x.toBitVec.getLsbD i
theorem b_ext {x y : Int32} (h : ∀ i, i < 32 → bt x i = bt y i) : x = y := Int32.toBitVec_inj.mp (BitVec.eq_of_getLsbD_eq (fun i hi => h i hi))
theorem b_or (x y : Int32) (i : Nat) : bt (x ||| y) i = (bt x i || bt y i) := by unfold bt; rw [Int32.toBitVec_or, BitVec.getLsbD_or]
theorem b_and (x y : Int32) (i : Nat) : bt (x &&& y) i = (bt x i && bt y i) := by unfold bt; rw [Int32.toBitVec_and, BitVec.getLsbD_and]
theorem b_xor (x y : Int32) (i : Nat) : bt (x ^^^ y) i = (bt x i ^^ bt y i) := by unfold bt; rw [Int32.toBitVec_xor, BitVec.getLsbD_xor]
theorem b_big {x : Int32} {i : Nat} (h : 32 ≤ i) : bt x i = false := BitVec.getLsbD_of_ge _ _ h
theorem b_255 (i : Nat) : bt 255 i = decide (i < 8) := by
  rcases Nat.lt_or_ge i 32 with h | h
  · exact (by decide +kernel : ∀ i, i < 32 → bt 255 i = decide (i < 8)) i h
  · rw [b_big h, decide_eq_false (by omega)]
theorem b_65535 (i : Nat) : bt 65535 i = decide (i < 16) := by
  rcases Nat.lt_or_ge i 32 with h | h
  · exact (by decide +kernel : ∀ i, i < 32 → bt 65535 i = decide (i < 16)) i h
  · rw [b_big h, decide_eq_false (by omega)]
theorem b_m1 : ∀ i, i < 32 → bt (-1) i = true := by decide +kernel
theorem b_0 (i : Nat) : bt 0 i = false := BitVec.getLsbD_zero
theorem s_l : ∀ n, n < 32 → ((nI n &&& 31).toBitVec.smod 32).toNat = n := by decide +kernel
theorem s_u : ∀ n, n < 32 → (((nI n).toUInt32 &&& Int32.toUInt32 31).toBitVec % 32).toNat = n := by decide +kernel
theorem b_shl (n : Nat) (hn : n < 32) (x : Int32) {i : Nat} (hi : i < 32) : bt (x <<< (nI n &&& 31)) i = (decide (n ≤ i) && bt x (i - n)) := by
  unfold bt
  rw [Int32.toBitVec_shiftLeft]
  show (x.toBitVec <<< ((nI n &&& 31).toBitVec.smod 32).toNat).getLsbD i = _
  rw [s_l n hn, BitVec.getLsbD_shiftLeft]
  rcases Nat.lt_or_ge i n with h | h
  · simp [h, Nat.not_le.mpr h]
  · simp [hi, h, Nat.not_lt.mpr h]
theorem b_ushr (n : Nat) (hn : n < 32) (x : Int32) (i : Nat) : bt ((x.toUInt32 >>> ((nI n).toUInt32 &&& Int32.toUInt32 31)).toInt32) i = bt x (n + i) := by
  show (x.toUInt32 >>> ((nI n).toUInt32 &&& Int32.toUInt32 31)).toBitVec.getLsbD i = x.toUInt32.toBitVec.getLsbD (n + i)
  rw [UInt32.toBitVec_shiftRight]
  show (x.toUInt32.toBitVec >>> (((nI n).toUInt32 &&& Int32.toUInt32 31).toBitVec % 32).toNat).getLsbD i = _
  rw [s_u n hn, BitVec.getLsbD_ushiftRight]
theorem b_sshr (n : Nat) (hn : n < 32) (x : Int32) {i : Nat} (hi : i < 32) : bt (x >>> (nI n &&& 31)) i = if n + i < 32 then bt x (n + i) else bt x 31 := by
  unfold bt
  rw [Int32.toBitVec_shiftRight]
  show (x.toBitVec.sshiftRight ((nI n &&& 31).toBitVec.smod 32).toNat).getLsbD i = _
  rw [s_l n hn, BitVec.getLsbD_sshiftRight, BitVec.msb_eq_getLsbD_last]
  simp [hi]
theorem b_shl8 (x : Int32) {i : Nat} (hi : i < 32) : bt (x <<< ((8 : Int32) &&& 31)) i = (decide (8 ≤ i) && bt x (i - 8)) := b_shl 8 (by omega) x hi
theorem b_shl16 (x : Int32) {i : Nat} (hi : i < 32) : bt (x <<< ((16 : Int32) &&& 31)) i = (decide (16 ≤ i) && bt x (i - 16)) := b_shl 16 (by omega) x hi
theorem b_shl24 (x : Int32) {i : Nat} (hi : i < 32) : bt (x <<< ((24 : Int32) &&& 31)) i = (decide (24 ≤ i) && bt x (i - 24)) := b_shl 24 (by omega) x hi
theorem b_sshr8 (x : Int32) {i : Nat} (hi : i < 32) : bt (x >>> ((8 : Int32) &&& 31)) i = if 8 + i < 32 then bt x (8 + i) else bt x 31 := b_sshr 8 (by omega) x hi
/-! ===== lN n to 2^64: shifts, and, or, masks, one bit ===== -/
theorem wb_tb (n : Nat) : (lN n).toBitVec = BitVec.ofNat 64 n := rfl
theorem wb_inj {a b : Int64} (h : a.toBitVec = b.toBitVec) : a = b := Int64.toBitVec_inj.mp h
theorem wb_tn {n : Nat} (h : n < 2 ^ 64) : (lN n).toBitVec.toNat = n := by rw [wb_tb, BitVec.toNat_ofNat, Nat.mod_eq_of_lt h]
theorem wb_of (x : Int64) : ∃ n, n < 2 ^ 64 ∧ x = lN n := ⟨x.toBitVec.toNat, x.toBitVec.isLt, wb_inj (by rw [wb_tb]; simp)⟩
theorem wb_of32 (x : Int32) : ∃ n, n < 2 ^ 32 ∧ x = nI n := ⟨x.toBitVec.toNat, x.toBitVec.isLt, Int32.toBitVec_inj.mp (by show _ = BitVec.ofNat 32 _; simp)⟩
theorem wb_c : ∀ k, k < 64 → ((nI k).toInt64 &&& 63) = lN k := by decide +kernel
theorem wb_cu : ∀ k, k < 64 → ((nI k).toInt64.toUInt64 &&& Int64.toUInt64 63) = UInt64.ofNat k := by decide +kernel
theorem wb_sm : ∀ k, k < 64 → (BitVec.ofNat 64 k).smod 64 = BitVec.ofNat 64 k := by decide +kernel
theorem wb_pw {a b : Nat} (h : a ≤ b) : 2 ^ b = 2 ^ a * 2 ^ (b - a) := by rw [← Nat.pow_add]; congr 1; omega
theorem wb_lt2 {a b : Nat} (h : a < b) : 2 ^ a < 2 ^ b := Nat.pow_lt_pow_right (by decide) h
theorem wb_mod (n : Nat) : lN n = lN (n % 2 ^ 64) := wb_inj (by rw [wb_tb, wb_tb]; apply BitVec.eq_of_toNat_eq; rw [BitVec.toNat_ofNat, BitVec.toNat_ofNat, Nat.mod_mod])
theorem wb_shr {n k : Nat} (hn : n < 2 ^ 64) (hk : k < 64) : ((lN n).toUInt64 >>> ((nI k).toInt64.toUInt64 &&& Int64.toUInt64 63)).toInt64 = lN (n / 2 ^ k) := by
  rw [wb_cu k hk]
  apply wb_inj
  apply BitVec.eq_of_toNat_eq
  show ((lN n).toUInt64 >>> UInt64.ofNat k).toNat = (BitVec.ofNat 64 _).toNat
  have h1 : (UInt64.ofNat k).toNat = k := by
    show (BitVec.ofNat 64 k).toNat = k
    rw [BitVec.toNat_ofNat, Nat.mod_eq_of_lt (by omega)]
  have h2 : (lN n).toUInt64.toNat = n := wb_tn hn
  rw [UInt64.toNat_shiftRight, h1, h2, Nat.mod_eq_of_lt hk, Nat.shiftRight_eq_div_pow, BitVec.toNat_ofNat, Nat.mod_eq_of_lt (Nat.lt_of_le_of_lt (Nat.div_le_self _ _) hn)]
theorem wb_shl (n : Nat) {k : Nat} (hk : k < 64) : lN n <<< ((nI k).toInt64 &&& 63) = lN (n * 2 ^ k) := by
  rw [wb_c k hk]
  apply wb_inj
  rw [Int64.toBitVec_shiftLeft, wb_tb, wb_tb, wb_tb, wb_sm k hk]
  apply BitVec.eq_of_toNat_eq
  rw [BitVec.shiftLeft_eq', BitVec.toNat_shiftLeft, BitVec.toNat_ofNat, BitVec.toNat_ofNat, BitVec.toNat_ofNat, Nat.mod_eq_of_lt (show k < 2 ^ 64 by omega), Nat.shiftLeft_eq, Nat.mul_mod, Nat.mod_mod, ← Nat.mul_mod]
theorem wb_and {a b : Nat} (ha : a < 2 ^ 64) (hb : b < 2 ^ 64) : lN a &&& lN b = lN (a &&& b) := by
  apply wb_inj
  rw [Int64.toBitVec_and, wb_tb, wb_tb, wb_tb]
  apply BitVec.eq_of_toNat_eq
  rw [BitVec.toNat_and, BitVec.toNat_ofNat, BitVec.toNat_ofNat, BitVec.toNat_ofNat, Nat.mod_eq_of_lt ha, Nat.mod_eq_of_lt hb, Nat.mod_eq_of_lt (Nat.and_lt_two_pow _ hb)]
theorem wb_or {a b : Nat} (ha : a < 2 ^ 64) (hb : b < 2 ^ 64) : lN a ||| lN b = lN (a ||| b) := by
  apply wb_inj
  rw [Int64.toBitVec_or, wb_tb, wb_tb, wb_tb]
  apply BitVec.eq_of_toNat_eq
  rw [BitVec.toNat_or, BitVec.toNat_ofNat, BitVec.toNat_ofNat, BitVec.toNat_ofNat, Nat.mod_eq_of_lt ha, Nat.mod_eq_of_lt hb, Nat.mod_eq_of_lt (Nat.or_lt_two_pow ha hb)]
theorem wb_mask {n k : Nat} (hn : n < 2 ^ 64) (hk : k < 64) : lN n &&& lN (2 ^ k - 1) = lN (n % 2 ^ k) := by
  rw [wb_and hn (by have := wb_lt2 hk; omega), Nat.and_two_pow_sub_one_eq_mod]
theorem wb_a1 {n : Nat} (hn : n < 2 ^ 64) : lN n &&& 1 = lN (n % 2) := wb_mask (k := 1) hn (by decide)
theorem wb_bit {n k : Nat} (hn : n < 2 ^ 64) (hk : k < 64) : ((lN n).toUInt64 >>> ((nI k).toInt64.toUInt64 &&& Int64.toUInt64 63)).toInt64 &&& 1 = lN (n / 2 ^ k % 2) := by
  rw [wb_shr hn hk, wb_a1 (Nat.lt_of_le_of_lt (Nat.div_le_self _ _) hn)]
theorem wb_xor {q k : Nat} (hk : k < 63) (h : 2 ^ k ≤ q) (h2 : q < 2 ^ (k + 1)) : lN q ^^^ lN (2 ^ k) = lN (q - 2 ^ k) := by
  obtain ⟨r, rfl⟩ : ∃ r, q = 2 ^ k + r := ⟨q - 2 ^ k, by omega⟩
  have hr : r < 2 ^ k := by rw [Nat.pow_succ] at h2; omega
  have hx : (2 ^ k + r) ^^^ 2 ^ k = r := by
    apply Nat.eq_of_testBit_eq
    intro i
    rw [Nat.testBit_xor, Nat.testBit_two_pow]
    rcases Nat.lt_trichotomy i k with h | h | h
    · rw [Nat.testBit_two_pow_add_gt h]
      simp [show ¬ k = i by omega]
    · subst h
      rw [Nat.testBit_two_pow_add_eq]
      simp
    · have a1 : 2 ^ (k + 1) ≤ 2 ^ i := Nat.pow_le_pow_right (by decide) h
      rw [Nat.testBit_lt_two_pow (show 2 ^ k + r < 2 ^ i by omega), Nat.testBit_lt_two_pow (show r < 2 ^ i by omega)]
      simp [show ¬ k = i by omega]
  have b1 := wb_lt2 (show k + 1 < 64 by omega)
  have b2 := wb_lt2 (show k < 64 by omega)
  apply wb_inj
  rw [Int64.toBitVec_xor, wb_tb, wb_tb, wb_tb]
  apply BitVec.eq_of_toNat_eq
  rw [BitVec.toNat_xor, BitVec.toNat_ofNat, BitVec.toNat_ofNat, BitVec.toNat_ofNat, Nat.mod_eq_of_lt (by omega : 2 ^ k + r < 2 ^ 64), Nat.mod_eq_of_lt b2, hx, Nat.add_sub_cancel_left, Nat.mod_eq_of_lt (by omega)]
end
section
/-! indices; bits of ints and of words; counts -/
theorem gm_ix8 (m p : Nat) : nI m * 8 + nI p = nI (m * 8 + p) := by
  show nI m * nI 8 + nI p = _
  rw [pk_mul, nI_add]
theorem gm_ix16 (p i : Nat) : nI p * 16 + nI i = nI (p * 16 + i) := by
  show nI p * nI 16 + nI i = _
  rw [pk_mul, nI_add]
theorem gm_cd (k m p : Nat) : nI k * 128 + nI m * 8 + nI p = nI (k * 128 + m * 8 + p) := by
  show nI k * nI 128 + nI m * nI 8 + nI p = _
  rw [pk_mul, pk_mul, nI_add, nI_add]
theorem gm_10 : ¬ (1 : Int32) = 0 := by decide
theorem gm_b1 (j : Nat) : bt 1 j = decide (j = 0) := by
  rcases Nat.lt_or_ge j 32 with h | h
  · exact (by decide +kernel : ∀ j, j < 32 → bt 1 j = decide (j = 0)) j h
  · rw [b_big h, decide_eq_false (by omega)]
theorem gm_one {q i : Nat} (hq : q < 32) (hi : i < 32) : bt ((1 : Int32) <<< (nI q &&& 31)) i = decide (i = q) := by
  rw [b_shl q hq 1 hi, gm_b1]
  by_cases h : i = q
  · subst h; simp
  · rw [decide_eq_false h]
    by_cases h2 : q ≤ i
    · rw [decide_eq_false (show ¬ i - q = 0 by omega), Bool.and_false]
    · rw [decide_eq_false h2, Bool.false_and]
theorem gm_tx (x : Int32) {q : Nat} (hq : q < 32) : (x &&& ((1 : Int32) <<< (nI q &&& 31))) = 0 ↔ bt x q = false := by
  constructor
  · intro h
    have t := b_and x ((1 : Int32) <<< (nI q &&& 31)) q
    rw [h, b_0, gm_one hq hq, decide_eq_true rfl, Bool.and_true] at t
    exact t.symm
  · intro h
    apply b_ext
    intro i hi
    rw [b_and, b_0, gm_one hq hi]
    by_cases e : i = q
    · subst e; rw [h, Bool.false_and]
    · rw [decide_eq_false e, Bool.and_false]
theorem gm_sh1 (x : Int32) {q : Nat} (hq : q < 32) : (x >>> (nI q &&& 31)) &&& 1 = if bt x q = true then 1 else 0 := by
  apply b_ext
  intro i hi
  rw [b_and, gm_b1, b_sshr q hq x hi]
  by_cases e : i = 0
  · subst e
    rw [if_pos (by omega), Nat.add_zero, decide_eq_true rfl, Bool.and_true]
    cases bt x q
    · rw [if_neg (by decide), b_0]
    · rw [if_pos rfl, gm_b1, decide_eq_true rfl]
  · rw [decide_eq_false e, Bool.and_false]
    cases bt x q
    · rw [if_neg (by decide), b_0]
    · rw [if_pos rfl, gm_b1, decide_eq_false e]
theorem gm_ty (x : Int32) {q : Nat} (hq : q < 32) : ((x >>> (nI q &&& 31)) &&& 1) = 1 ↔ bt x q = true := by
  rw [gm_sh1 x hq]
  cases bt x q
  · exact ⟨fun z => absurd z (by decide), fun z => nomatch z⟩
  · exact ⟨fun _ => rfl, fun _ => rfl⟩
theorem gm_ty0 (x : Int32) {q : Nat} (hq : q < 32) : ((x >>> (nI q &&& 31)) &&& 1) = 0 ↔ bt x q = false := by
  rw [gm_sh1 x hq]
  cases bt x q
  · exact ⟨fun _ => rfl, fun _ => rfl⟩
  · exact ⟨fun z => absurd z (by decide), fun z => nomatch z⟩
theorem gm_clr (x : Int32) {q i : Nat} (hq : q < 32) (hi : i < 32) : bt (x &&& (((1 : Int32) <<< (nI q &&& 31)) ^^^ (-1))) i = (bt x i && !decide (i = q)) := by
  rw [b_and, b_xor, gm_one hq hi, b_m1 i hi, Bool.xor_true]
theorem gm_seb (x : Int32) {q i : Nat} (hq : q < 32) (hi : i < 32) : bt (x ||| ((1 : Int32) <<< (nI q &&& 31))) i = (bt x i || decide (i = q)) := by
  rw [b_or, gm_one hq hi]
theorem gm_sub (x : Int32) {q : Nat} (hq : q < 32) (h : bt x q = true) : x - ((1 : Int32) <<< (nI q &&& 31)) = x &&& (((1 : Int32) <<< (nI q &&& 31)) ^^^ (-1)) := by
  have hbb : ∀ i, i < 32 → bt ((1 : Int32) <<< (nI q &&& 31)) i = decide (i = q) := fun i hi => gm_one hq hi
  revert hbb
  generalize (1 : Int32) <<< (nI q &&& 31) = b
  intro hbb
  have h1 : (x &&& (b ^^^ (-1))) &&& b = 0 := by
    apply b_ext
    intro i hi
    rw [b_and, b_and, b_xor, b_m1 i hi, b_0, Bool.xor_true]
    cases bt b i <;> simp
  have h2 : (x &&& (b ^^^ (-1))) ||| b = x := by
    apply b_ext
    intro i hi
    rw [b_or, b_and, b_xor, b_m1 i hi, Bool.xor_true, hbb i hi]
    by_cases e : i = q
    · subst e; simp [h]
    · simp [e]
  have h3 : (x &&& (b ^^^ (-1))) + b = x := by
    refine Eq.trans ?_ h2
    apply Int32.toBitVec_inj.mp
    rw [Int32.toBitVec_add, Int32.toBitVec_or]
    apply BitVec.add_eq_or_of_and_eq_zero
    rw [← Int32.toBitVec_and, h1]
    rfl
  have h4 : (x &&& (b ^^^ (-1))) + b - b = x &&& (b ^^^ (-1)) := Int32.add_sub_cancel _ _
  rw [h3] at h4
  exact h4
/-! words -/
def gm_tb (x : Int64) (i : Nat) : Bool := x.toBitVec.toNat.testBit i
theorem gm_oneL : ∀ k, k < 64 → ((1 : Int64) <<< ((nI k).toInt64 &&& 63)).toBitVec = BitVec.twoPow 64 k := by decide +kernel
theorem gm_L_ext {x y : Int64} (h : ∀ i, i < 64 → gm_tb x i = gm_tb y i) : x = y := Int64.toBitVec_inj.mp (BitVec.eq_of_getLsbD_eq (fun i hi => h i hi))
theorem gm_L_and (x y : Int64) (i : Nat) : gm_tb (x &&& y) i = (gm_tb x i && gm_tb y i) := by
  show (x &&& y).toBitVec.getLsbD i = _
  rw [Int64.toBitVec_and, BitVec.getLsbD_and]
  rfl
theorem gm_L_or (x y : Int64) (i : Nat) : gm_tb (x ||| y) i = (gm_tb x i || gm_tb y i) := by
  show (x ||| y).toBitVec.getLsbD i = _
  rw [Int64.toBitVec_or, BitVec.getLsbD_or]
  rfl
theorem gm_L_xor (x y : Int64) (i : Nat) : gm_tb (x ^^^ y) i = (gm_tb x i ^^ gm_tb y i) := by
  show (x ^^^ y).toBitVec.getLsbD i = _
  rw [Int64.toBitVec_xor, BitVec.getLsbD_xor]
  rfl
theorem gm_L_0 (i : Nat) : gm_tb 0 i = false := BitVec.getLsbD_zero
theorem gm_L_m1 : ∀ i, i < 64 → gm_tb (-1) i = true := by decide +kernel
theorem gm_L_one {k i : Nat} (hk : k < 64) (_hi : i < 64) : gm_tb ((1 : Int64) <<< ((nI k).toInt64 &&& 63)) i = decide (i = k) := by
  show ((1 : Int64) <<< ((nI k).toInt64 &&& 63)).toBitVec.getLsbD i = _
  rw [gm_oneL k hk, BitVec.getLsbD_twoPow]
  by_cases e : i = k
  · subst e; simp [hk]
  · rw [decide_eq_false e, decide_eq_false (show ¬ k = i from fun z => e z.symm), Bool.and_false]
theorem gm_L_t (x : Int64) {k : Nat} (hk : k < 64) : (x &&& ((1 : Int64) <<< ((nI k).toInt64 &&& 63))) = 0 ↔ gm_tb x k = false := by
  constructor
  · intro h
    have t := gm_L_and x ((1 : Int64) <<< ((nI k).toInt64 &&& 63)) k
    rw [h, gm_L_0, gm_L_one hk hk, decide_eq_true rfl, Bool.and_true] at t
    exact t.symm
  · intro h
    apply gm_L_ext
    intro i hi
    rw [gm_L_and, gm_L_0, gm_L_one hk hi]
    by_cases e : i = k
    · subst e; rw [h, Bool.false_and]
    · rw [decide_eq_false e, Bool.and_false]
theorem gm_L_set (x : Int64) {k i : Nat} (hk : k < 64) (hi : i < 64) : gm_tb (x ||| ((1 : Int64) <<< ((nI k).toInt64 &&& 63))) i = (gm_tb x i || decide (i = k)) := by
  rw [gm_L_or, gm_L_one hk hi]
theorem gm_L_clr (x : Int64) {k i : Nat} (hk : k < 64) (hi : i < 64) : gm_tb (x &&& (((1 : Int64) <<< ((nI k).toInt64 &&& 63)) ^^^ (-1))) i = (gm_tb x i && !decide (i = k)) := by
  rw [gm_L_and, gm_L_xor, gm_L_one hk hi, gm_L_m1 i hi, Bool.xor_true]
theorem gm_L_nat {n : Nat} (h : n < 2 ^ 64) (i : Nat) : gm_tb (lN n) i = n.testBit i := by
  unfold gm_tb
  rw [wb_tn h]
theorem gm_L_big (x : Int64) {i : Nat} (h : 64 ≤ i) : gm_tb x i = false := BitVec.getLsbD_of_ge _ _ h
/-! counts -/
def gm_ct (B : Nat → Bool) : Nat → Nat
  | 0 => 0
  | n + 1 => gm_ct B n + (if B n = true then 1 else 0)
theorem gm_ct_le (B : Nat → Bool) : ∀ n, gm_ct B n ≤ n := by
  intro n
  induction n with
  | zero => exact Nat.le_refl 0
  | succ n ih =>
    show gm_ct B n + (if B n = true then 1 else 0) ≤ n + 1
    split <;> omega
theorem gm_ct_add (B : Nat → Bool) (s : Nat) : ∀ n, gm_ct B (s + n) = gm_ct B s + gm_ct (fun i => B (s + i)) n := by
  intro n
  induction n with
  | zero => rfl
  | succ n ih =>
    show gm_ct B (s + n) + (if B (s + n) = true then 1 else 0) = gm_ct B s + (gm_ct (fun i => B (s + i)) n + (if B (s + n) = true then 1 else 0))
    rw [ih, Nat.add_assoc]
theorem gm_ct_congr {B C : Nat → Bool} : ∀ n, (∀ i, i < n → B i = C i) → gm_ct B n = gm_ct C n := by
  intro n
  induction n with
  | zero => intro _; rfl
  | succ n ih =>
    intro h
    show gm_ct B n + (if B n = true then 1 else 0) = gm_ct C n + (if C n = true then 1 else 0)
    rw [ih (fun i hi => h i (by omega)), h n (by omega)]
theorem gm_ct_s {B : Nat → Bool} {a : Nat} (h : B a = true) : gm_ct B (a + 1) = gm_ct B a + 1 := by
  show gm_ct B a + (if B a = true then 1 else 0) = _
  rw [if_pos h]
theorem gm_ct_n {B : Nat → Bool} {a : Nat} (h : B a = false) : gm_ct B (a + 1) = gm_ct B a := by
  show gm_ct B a + (if B a = true then 1 else 0) = _
  rw [h, if_neg (by decide), Nat.add_zero]
theorem gm_ct_none {B : Nat → Bool} {a : Nat} : ∀ n, (∀ i, a ≤ i → i < a + n → B i = false) → gm_ct B (a + n) = gm_ct B a := by
  intro n
  induction n with
  | zero => intro _; rfl
  | succ n ih =>
    intro h
    have e : gm_ct B (a + n + 1) = gm_ct B (a + n) := gm_ct_n (h (a + n) (by omega) (by omega))
    exact e.trans (ih (fun i h1 h2 => h i h1 (by omega)))
theorem gm_ct_mono {B : Nat → Bool} {a b : Nat} (h : a ≤ b) : gm_ct B a ≤ gm_ct B b := by
  obtain ⟨n, rfl⟩ : ∃ n, b = a + n := ⟨b - a, by omega⟩
  rw [gm_ct_add B a n]
  omega
theorem gm_ct_lt {B : Nat → Bool} {a b : Nat} (hab : a < b) (h : B a = true) : gm_ct B a < gm_ct B b := by
  have t := gm_ct_mono (B := B) (show a + 1 ≤ b from hab)
  rw [gm_ct_s h] at t
  omega
theorem gm_ct_uniq {B : Nat → Bool} {a b : Nat} (ha : B a = true) (hb : B b = true) (e : gm_ct B a = gm_ct B b) : a = b := by
  rcases Nat.lt_trichotomy a b with h | h | h
  · have := gm_ct_lt h ha; omega
  · exact h
  · have := gm_ct_lt h hb; omega
theorem gm_ct_ex {B : Nat → Bool} {a b : Nat} (hab : a ≤ b) (h : gm_ct B a < gm_ct B b) : ∃ i, a ≤ i ∧ i < b ∧ B i = true := by
  obtain ⟨n, rfl⟩ : ∃ n, b = a + n := ⟨b - a, by omega⟩
  apply Classical.byContradiction
  intro hn
  have t : gm_ct B (a + n) = gm_ct B a := gm_ct_none n (fun i h1 h2 => by
    cases hb : B i with
    | false => rfl
    | true => exact absurd ⟨i, h1, h2, hb⟩ hn)
  omega
def gm_bu (B : Nat → Bool) (c : Nat) (v : Bool) : Nat → Bool := fun i => if i = c then v else B i
theorem gm_bu_s {B : Nat → Bool} {c : Nat} {v : Bool} : gm_bu B c v c = v := if_pos rfl
theorem gm_bu_n {B : Nat → Bool} {c i : Nat} {v : Bool} (h : i ≠ c) : gm_bu B c v i = B i := if_neg h
theorem gm_ct_bu {B : Nat → Bool} {c : Nat} {v : Bool} {n : Nat} (hc : c < n) : gm_ct (gm_bu B c v) n = gm_ct B c + (if v = true then 1 else 0) + gm_ct (fun i => B (c + 1 + i)) (n - (c + 1)) := by
  obtain ⟨d, rfl⟩ : ∃ d, n = (c + 1) + d := ⟨n - (c + 1), by omega⟩
  have e1 : gm_ct (gm_bu B c v) (c + 1) = gm_ct (gm_bu B c v) c + (if gm_bu B c v c = true then 1 else 0) := rfl
  have e2 : gm_ct (gm_bu B c v) c = gm_ct B c := gm_ct_congr c (fun i hi => gm_bu_n (by omega))
  have e3 : gm_ct (fun i => gm_bu B c v (c + 1 + i)) d = gm_ct (fun i => B (c + 1 + i)) d := gm_ct_congr d (fun i _ => gm_bu_n (by omega))
  have e4 : c + 1 + d - (c + 1) = d := by omega
  rw [gm_ct_add (gm_bu B c v) (c + 1) d, e1, e2, e3, gm_bu_s, e4]
theorem gm_bu_self {B : Nat → Bool} {c : Nat} : gm_bu B c (B c) = B := by
  funext i
  unfold gm_bu
  split
  · rename_i h; rw [h]
  · rfl
theorem gm_ct_set {B : Nat → Bool} {c n : Nat} (hc : c < n) (h : B c = false) : gm_ct (gm_bu B c true) n = gm_ct B n + 1 := by
  have a := gm_ct_bu (B := B) (v := true) hc
  have b := gm_ct_bu (B := B) (v := B c) hc
  rw [gm_bu_self, h, if_neg (by decide)] at b
  rw [if_pos rfl] at a
  omega
theorem gm_ct_clr {B : Nat → Bool} {c n : Nat} (hc : c < n) (h : B c = true) : gm_ct (gm_bu B c false) n + 1 = gm_ct B n := by
  have a := gm_ct_bu (B := B) (v := false) hc
  have b := gm_ct_bu (B := B) (v := B c) hc
  rw [gm_bu_self, h, if_pos rfl] at b
  rw [if_neg (by decide)] at a
  omega
theorem gm_ct_inj : ∀ (D : Nat) (B : Nat → Bool) (f : Nat → Nat) (A : Nat), (∀ i, i < D → f i < A) → (∀ i j, i < D → j < D → f i = f j → i = j) → (∀ x, x < A → (B x = true ↔ ∃ i, i < D ∧ f i = x)) → gm_ct B A = D := by
  intro D
  induction D with
  | zero =>
    intro B f A _ _ h
    have h0 : gm_ct B (0 + A) = gm_ct B 0 := gm_ct_none A (fun i _ hi => by
      cases hb : B i with
      | false => rfl
      | true =>
        obtain ⟨j, hj, _⟩ := (h i (by omega)).mp hb
        omega)
    rw [Nat.zero_add] at h0
    exact h0
  | succ D ih =>
    intro B f A h1 h2 h3
    have hB : B (f D) = true := (h3 _ (h1 D (by omega))).mpr ⟨D, by omega, rfl⟩
    have h5 := ih (gm_bu B (f D) false) f A (fun i hi => h1 i (by omega)) (fun i j hi hj => h2 i j (by omega) (by omega)) (fun x hx => by
      by_cases e : x = f D
      · subst e
        rw [gm_bu_s]
        refine ⟨fun z => (nomatch z), fun ⟨i, hi, e⟩ => ?_⟩
        have := h2 i D (by omega) (by omega) e
        omega
      · rw [gm_bu_n e, h3 x hx]
        constructor
        · rintro ⟨i, hi, rfl⟩
          refine ⟨i, ?_, rfl⟩
          by_cases e2 : i = D
          · subst e2; exact absurd rfl e
          · omega
        · rintro ⟨i, hi, rfl⟩
          exact ⟨i, by omega, rfl⟩)
    have h4 := gm_ct_clr (h1 D (by omega)) hB
    omega
theorem gm_pig {n k : Nat} {f : Nat → Nat} (h1 : ∀ i, i < n → f i < k) (h2 : ∀ i j, i < n → j < n → f i = f j → i = j) : n ≤ k := by
  have t := gm_ct_inj n (fun x => @decide (∃ i, i < n ∧ f i = x) (Classical.propDecidable _)) f k h1 h2 (fun x _ => @decide_eq_true_iff _ (Classical.propDecidable _))
  have h := gm_ct_le (fun x => @decide (∃ i, i < n ∧ f i = x) (Classical.propDecidable _)) k
  rw [t] at h
  exact h
end
section
/-! the lowest bit, the bit of a rank, the item of a rank -/
theorem gm_clow {n l : Nat} (h1 : n.testBit l = true) (h2 : ∀ j, j < l → n.testBit j = false) (j : Nat) : (n &&& (n - 1)).testBit j = (n.testBit j && !decide (j = l)) := by
  have hm : n % 2 ^ l = 0 := by
    apply Nat.eq_of_testBit_eq
    intro j
    rw [Nat.testBit_mod_two_pow, Nat.zero_testBit]
    by_cases h : j < l
    · rw [h2 j h, Bool.and_false]
    · rw [decide_eq_false h, Bool.false_and]
  have ho : n / 2 ^ l % 2 = 1 := by
    have t := Nat.testBit_div_two_pow (n := l) n 0
    rw [Nat.zero_add, h1, Nat.testBit_zero] at t
    exact of_decide_eq_true t
  obtain ⟨y, hy⟩ : ∃ y, n / 2 ^ l = 2 * y + 1 := ⟨n / 2 ^ l / 2, by omega⟩
  have hp : 0 < 2 ^ l := Nat.two_pow_pos l
  have hn : n = 2 ^ l * (2 * y + 1) + 0 := by
    have t := Nat.div_add_mod n (2 ^ l)
    rw [hm, hy] at t
    exact t.symm
  have hn1 : n - 1 = 2 ^ l * (2 * y) + (2 ^ l - 1) := by
    have t : 2 ^ l * (2 * y + 1) = 2 ^ l * (2 * y) + 2 ^ l := by rw [Nat.mul_add, Nat.mul_one]
    rw [t] at hn
    generalize 2 ^ l * (2 * y) = z at hn ⊢
    omega
  have t1 : n.testBit j = if j < l then Nat.testBit 0 j else (2 * y + 1).testBit (j - l) := by
    have t := Nat.testBit_two_pow_mul_add (2 * y + 1) (b := 0) (i := l) hp j
    rw [← hn] at t
    exact t
  have t2 : (n - 1).testBit j = if j < l then (2 ^ l - 1).testBit j else (2 * y).testBit (j - l) := by
    have t := Nat.testBit_two_pow_mul_add (2 * y) (b := 2 ^ l - 1) (i := l) (by omega) j
    rw [← hn1] at t
    exact t
  rw [Nat.testBit_and]
  rcases Nat.lt_trichotomy j l with h | h | h
  · rw [h2 j h, Bool.false_and, Bool.false_and]
  · subst h
    rw [t2, if_neg (by omega), Nat.sub_self, Nat.testBit_zero, decide_eq_false (show ¬ 2 * y % 2 = 1 by omega), decide_eq_true rfl]
    rfl
  · obtain ⟨t, ht⟩ : ∃ t, j - l = t + 1 := ⟨j - l - 1, by omega⟩
    rw [t1, t2, if_neg (by omega), if_neg (by omega), ht, Nat.testBit_add_one, Nat.testBit_add_one, show (2 * y + 1) / 2 = y by omega, show 2 * y / 2 = y by omega, decide_eq_false (by omega), Bool.and_self]
    simp
def gm_B (pw : Nat → Int64) (c : Nat) : Bool := gm_tb (pw (c / 64)) (c % 64)
theorem gm_B_at (pw : Nat → Int64) (w : Nat) {b : Nat} (hb : b < 64) : gm_B pw (64 * w + b) = gm_tb (pw w) b := by
  unfold gm_B
  rw [show (64 * w + b) / 64 = w by omega, show (64 * w + b) % 64 = b by omega]
theorem gm_B_ct (pw : Nat → Int64) (w : Nat) {n : Nat} (hn : n ≤ 64) : gm_ct (gm_B pw) (64 * w + n) = gm_ct (gm_B pw) (64 * w) + gm_ct (gm_tb (pw w)) n := by
  rw [gm_ct_add (gm_B pw) (64 * w) n]
  congr 1
  exact gm_ct_congr n (fun i hi => gm_B_at pw w (by omega))
/-- the words and counts hold the set that ip holds -/
def gm_W (T : Nat) (pw : Nat → Int64) (wc ip : Nat → Int32) : Prop :=
  (∀ c, c < 512 → (ip c = 0 ↔ gm_B pw c = false)) ∧ (∀ w, w < 8 → wc w = nI (gm_ct (gm_tb (pw w)) 64)) ∧ T = gm_ct (gm_B pw) 512
section
variable {P L A T : Nat} {sn gr aw fi sg sp ut ck ad dm de se li wc ip pl : Nat → Int32} {pw : Nat → Int64} {dl : Int32}
theorem gm_low (k : Nat) : k ≤ 6 → ∀ r, r < 2 ^ 64 → r % 2 ^ (2 ^ k) ≠ 0 → ∃ i, i < 2 ^ k ∧ r.testBit i = true ∧ (∀ j, j < i → r.testBit j = false) ∧ ∀ (post : Int32 → Prop) (a : Nat), post (nI (a + i)) → wX_lowestBit_9 post (nI P) (nI L) (nI A) (nI T) sn gr aw fi sg sp ut ck ad dm de se li pw wc (k + 1) (lN r) (nI a) (nI (2 ^ k / 2)) := by
  induction k with
  | zero =>
    intro _ r hr h
    have h1 : r % 2 = 1 := by
      have e : (2 : Nat) ^ 2 ^ 0 = 2 := by decide
      rw [e] at h
      omega
    refine ⟨0, by decide, by rw [Nat.testBit_zero]; exact decide_eq_true h1, fun j hj => absurd hj (Nat.not_lt_zero j), fun post a hp => ?_⟩
    have e : nI (2 ^ 0 / 2) = 0 := by decide
    rw [e]
    exact br_t (by decide) hp
  | succ k ih =>
    intro hk r hr h
    have e1 : 2 ^ (k + 1) = 2 ^ k + 2 ^ k := by rw [Nat.pow_succ]; omega
    have e2 : 2 ^ (k + 1) / 2 = 2 ^ k := by rw [Nat.pow_succ]; omega
    have h32 : 2 ^ k ≤ 2 ^ 5 := Nat.pow_le_pow_right (by decide) (by omega)
    have hpos : 0 < 2 ^ k := Nat.two_pow_pos k
    rw [e1, Nat.pow_add, Nat.mod_mul] at h
    rw [e2, e1]
    generalize 2 ^ k = w at ih h h32 hpos ⊢
    have h32 : w ≤ 32 := h32
    have em : (1 : Int64) <<< ((nI w).toInt64 &&& 63) - 1 = lN (2 ^ w - 1) := by
      have t := wb_shl 1 (k := w) (by omega)
      show lN 1 <<< _ - lN 1 = _
      rw [t, Nat.one_mul, lN_sub (Nat.one_le_two_pow)]
    have hlt : r % 2 ^ w < 2 ^ 63 := Nat.lt_of_lt_of_le (Nat.mod_lt _ (Nat.two_pow_pos w)) (Nat.pow_le_pow_right (by decide) (by omega))
    have hz : (lN r &&& lN (2 ^ w - 1)) = 0 ↔ r % 2 ^ w = 0 := by
      rw [wb_mask hr (by omega)]
      exact pk_lEQ (b := 0) hlt (by decide)
    have hw0 : ¬ nI w ≤ 0 := nI_nle hpos (by omega)
    have eh : nI w >>> ((1 : Int32) &&& 31) = nI (w / 2) := pk_shrN (by omega) _ 1 (by decide)
    by_cases h0 : r % 2 ^ w = 0
    · have hne : r / 2 ^ w % 2 ^ w ≠ 0 := by
        intro z
        rw [h0, z] at h
        exact h (by simp)
      obtain ⟨i, h1, h2, h3, h4⟩ := ih (by omega) (r / 2 ^ w) (Nat.lt_of_le_of_lt (Nat.div_le_self _ _) hr) hne
      refine ⟨w + i, by omega, ?_, ?_, fun post a hp => ?_⟩
      · rw [Nat.add_comm, ← Nat.testBit_div_two_pow]
        exact h2
      · intro j hj
        by_cases hjw : j < w
        · have t := Nat.testBit_mod_two_pow r w j
          rw [h0, Nat.zero_testBit, decide_eq_true hjw, Bool.true_and] at t
          exact t.symm
        · have t := h3 (j - w) (by omega)
          rw [Nat.testBit_div_two_pow, show j - w + w = j by omega] at t
          exact t
      · have e5 : a + (w + i) = a + w + i := by omega
        rw [e5] at hp
        exact br_f hw0 (nm_r em (br_t (hz.mpr h0) (nm_r (wb_shr hr (by omega)) (nm_r (nI_add a w) (nm_r eh (h4 post (a + w) hp))))))
    · obtain ⟨i, h1, h2, h3, h4⟩ := ih (by omega) r hr h0
      exact ⟨i, by omega, h2, h3, fun post a hp => br_f hw0 (nm_r em (br_f (fun z => h0 (hz.mp z)) (nm_r eh (h4 post a hp))))⟩
/-- the lowest bit of a word that isn't 0 -/
theorem gm_xlow {r : Nat} (hr : r < 2 ^ 64) (h0 : r ≠ 0) : ∃ i, i < 64 ∧ r.testBit i = true ∧ (∀ j, j < i → r.testBit j = false) ∧ ∀ post : Int32 → Prop, post (nI i) → wpX_lowestBit post ((nI P), (nI L), (nI A), (nI T), sn, gr, aw, fi, sg, sp, ut, ck, ad, dm, de, se, li, pw, wc) (lN r) := by
  have hm : r % 2 ^ (2 ^ 6) ≠ 0 := by
    have e : (2 : Nat) ^ (2 ^ 6) = 2 ^ 64 := by decide
    rw [e, Nat.mod_eq_of_lt hr]
    exact h0
  obtain ⟨i, h1, h2, h3, h4⟩ := gm_low (P := P) (L := L) (A := A) (T := T) (sn := sn) (gr := gr) (aw := aw) (fi := fi) (sg := sg) (sp := sp) (ut := ut) (ck := ck) (ad := ad) (dm := dm) (de := de) (se := se) (li := li) (pw := pw) (wc := wc) 6 (by omega) r hr hm
  refine ⟨i, h1, h2, h3, fun post hp => Exists.intro 7 ?_⟩
  have t := h4 post 0 (by rw [Nat.zero_add]; exact hp)
  exact t
theorem gm_selb {b k : Nat} (hk : k < gm_ct b.testBit 64) : ∀ d i lo r, i + d = k → r < 2 ^ 64 → lo ≤ 64 → (∀ j, r.testBit j = (decide (lo ≤ j) && b.testBit j)) → gm_ct b.testBit lo = i → ∃ c, c < 64 ∧ b.testBit c = true ∧ gm_ct b.testBit c = k ∧ ∀ post : Int32 → Prop, post (nI c) → wX_selectBit_6 post (nI k) (nI P) (nI L) (nI A) (nI T) sn gr aw fi sg sp ut ck ad dm de se li pw wc (d + 1) (lN r) (nI i) := by
  have hk64 : k < 64 := Nat.lt_of_lt_of_le hk (gm_ct_le _ 64)
  intro d
  induction d with
  | zero =>
    intro i lo r hd hr hlo hb hc
    obtain ⟨j, j1, j2, j3⟩ := gm_ct_ex (B := b.testBit) hlo (by omega)
    have hr0 : r ≠ 0 := by
      intro z
      have t := hb j
      rw [z, Nat.zero_testBit, j3, decide_eq_true j1] at t
      exact (nomatch t)
    obtain ⟨c, c1, c2, c3, c4⟩ := gm_xlow (P := P) (L := L) (A := A) (T := T) (sn := sn) (gr := gr) (aw := aw) (fi := fi) (sg := sg) (sp := sp) (ut := ut) (ck := ck) (ad := ad) (dm := dm) (de := de) (se := se) (li := li) (pw := pw) (wc := wc) hr hr0
    have hcb := hb c
    rw [c2] at hcb
    have hcb2 : lo ≤ c ∧ b.testBit c = true := by simpa using hcb.symm
    refine ⟨c, c1, hcb2.2, ?_, fun post hp => ?_⟩
    · obtain ⟨n, rfl⟩ : ∃ n, c = lo + n := ⟨c - lo, by omega⟩
      rw [gm_ct_none n (fun j h1 h2 => by
        have t := hb j
        rw [c3 j h2, decide_eq_true h1, Bool.true_and] at t
        exact t.symm)]
      omega
    · exact br_t (nI_le (by omega) (by omega)) (c4 _ hp)
  | succ d ih =>
    intro i lo r hd hr hlo hb hc
    obtain ⟨j, j1, j2, j3⟩ := gm_ct_ex (B := b.testBit) hlo (by omega)
    have hr0 : r ≠ 0 := by
      intro z
      have t := hb j
      rw [z, Nat.zero_testBit, j3, decide_eq_true j1] at t
      exact (nomatch t)
    obtain ⟨c, c1, c2, c3, _⟩ := gm_xlow (P := P) (L := L) (A := A) (T := T) (sn := sn) (gr := gr) (aw := aw) (fi := fi) (sg := sg) (sp := sp) (ut := ut) (ck := ck) (ad := ad) (dm := dm) (de := de) (se := se) (li := li) (pw := pw) (wc := wc) hr hr0
    have hcb := hb c
    rw [c2] at hcb
    have hcb2 : lo ≤ c ∧ b.testBit c = true := by simpa using hcb.symm
    have hlow : ∀ j, lo ≤ j → j < c → b.testBit j = false := fun j h1 h2 => by
      have t := hb j
      rw [c3 j h2, decide_eq_true h1, Bool.true_and] at t
      exact t.symm
    have hcc : gm_ct b.testBit (c + 1) = i + 1 := by
      rw [gm_ct_s hcb2.2]
      obtain ⟨n, rfl⟩ : ∃ n, c = lo + n := ⟨c - lo, by omega⟩
      rw [gm_ct_none n hlow, hc]
    have hb' : ∀ j, (r &&& (r - 1)).testBit j = (decide (c + 1 ≤ j) && b.testBit j) := by
      intro j
      rw [gm_clow c2 c3 j, hb j]
      by_cases h1 : c + 1 ≤ j
      · rw [decide_eq_true h1, decide_eq_true (show lo ≤ j by omega), decide_eq_false (show ¬ j = c by omega)]
        simp
      · rw [decide_eq_false h1]
        by_cases h2 : j = c
        · rw [decide_eq_true h2]; simp
        · by_cases h3 : lo ≤ j
          · rw [hlow j h3 (by omega)]; simp
          · rw [decide_eq_false h3]; simp
    obtain ⟨x, x1, x2, x3, x4⟩ := ih (i + 1) (c + 1) (r &&& (r - 1)) (by omega) (Nat.lt_of_le_of_lt Nat.and_le_left hr) (by omega) hb' hcc
    refine ⟨x, x1, x2, x3, fun post hp => ?_⟩
    have e1 : lN r &&& (lN r - 1) = lN (r &&& (r - 1)) := by
      show lN r &&& (lN r - lN 1) = _
      rw [lN_sub (by omega), wb_and hr (by omega)]
    exact br_f (nI_ge (by omega) (by omega)) (nm_r e1 (nm_r (nI_1 i) (x4 post hp)))
theorem gm_xsel (W : gm_W T pw wc ip) {k : Nat} (hk : k < T) : ∀ d w, w + d = 8 → gm_ct (gm_B pw) (64 * w) ≤ k → ∃ c, c < 512 ∧ gm_B pw c = true ∧ gm_ct (gm_B pw) c = k ∧ ∀ post : Int32 → Prop, post (nI c) → wX_select_4 post (nI P) (nI L) (nI A) (nI T) sn gr aw fi sg sp ut ck ad dm de se li pw wc (d + 1) (nI (k - gm_ct (gm_B pw) (64 * w))) (nI w) := by
  obtain ⟨_, W2, rfl⟩ := W
  have hT : gm_ct (gm_B pw) 512 ≤ 512 := gm_ct_le _ _
  intro d
  induction d with
  | zero =>
    intro w hw h
    have e : 64 * w = 512 := by omega
    rw [e] at h
    omega
  | succ d ih =>
    intro w hw h
    have hcw := W2 w (by omega)
    have h64 : gm_ct (gm_tb (pw w)) 64 ≤ 64 := gm_ct_le _ _
    have hadd : gm_ct (gm_B pw) (64 * (w + 1)) = gm_ct (gm_B pw) (64 * w) + gm_ct (gm_tb (pw w)) 64 := gm_B_ct pw w (Nat.le_refl 64)
    have cl : (nI w).toNatClampNeg = w := nI_clamp (by omega)
    have vi : vp_in (nI w) 8 := vp_in_nI (by omega) (by omega)
    have h8 : ¬ (8 : Int32) ≤ nI w := nI_ge (b := 8) (by omega) (by omega)
    generalize hbase : gm_ct (gm_B pw) (64 * w) = base at h hadd ⊢
    by_cases hc : gm_ct (gm_tb (pw w)) 64 ≤ k - base
    · obtain ⟨c, c1, c2, c3, c4⟩ := ih (w + 1) (by omega) (by omega)
      refine ⟨c, c1, c2, c3, fun post hp => ?_⟩
      have e1 : nI (k - base) - wc (nI w).toNatClampNeg = nI (k - gm_ct (gm_B pw) (64 * (w + 1))) := by
        rw [cl, hcw, pk_sub hc, hadd, show k - base - gm_ct (gm_tb (pw w)) 64 = k - (base + gm_ct (gm_tb (pw w)) 64) by omega]
      exact br_f h8 ⟨vi, br_t (by rw [cl, hcw]; exact nI_le hc (by omega)) ⟨vi, nm_r e1 (nm_r (nI_1 w) (c4 post hp))⟩⟩
    · obtain ⟨b, hb1, hb2⟩ := wb_of (pw w)
      have htb : gm_tb (pw w) = b.testBit := by
        funext i
        rw [hb2, gm_L_nat hb1]
      rw [htb] at hc hcw h64 hadd
      obtain ⟨c, c1, c2, c3, c4⟩ := gm_selb (P := P) (L := L) (A := A) (T := (gm_ct (gm_B pw) 512)) (sn := sn) (gr := gr) (aw := aw) (fi := fi) (sg := sg) (sp := sp) (ut := ut) (ck := ck) (ad := ad) (dm := dm) (de := de) (se := se) (li := li) (pw := pw) (wc := wc) (b := b) (k := k - base) (by omega) (k - base) 0 0 b (by omega) hb1 (by omega) (fun j => by rw [decide_eq_true (Nat.zero_le j), Bool.true_and]) rfl
      refine ⟨64 * w + c, by omega, ?_, ?_, fun post hp => ?_⟩
      · rw [gm_B_at pw w c1, htb]
        exact c2
      · rw [gm_B_ct pw w (by omega), htb, c3, hbase]
        omega
      · refine br_f h8 ⟨vi, br_f ?_ ⟨vi, ?_⟩⟩
        · rw [cl, hcw]
          exact nI_ge (by omega) (by omega)
        · rw [cl, hb2]
          refine Exists.intro (k - base + 1) (c4 _ ?_)
          have e2 : nI w * 64 + nI c = nI (64 * w + c) := by
            show nI w * nI 64 + nI c = _
            rw [pk_mul, nI_add, Nat.mul_comm]
          show post (nI w * 64 + nI c)
          rw [e2]
          exact hp
/-- X's select: the item with k smaller ones -/
theorem gm_xselect (W : gm_W T pw wc ip) {k : Nat} (hk : k < T) : ∃ c, c < 512 ∧ gm_B pw c = true ∧ gm_ct (gm_B pw) c = k ∧ ∀ post : Int32 → Prop, post (nI c) → wpX_select post ((nI P), (nI L), (nI A), (nI T), sn, gr, aw, fi, sg, sp, ut, ck, ad, dm, de, se, li, pw, wc) (nI k) := by
  obtain ⟨c, c1, c2, c3, c4⟩ := gm_xsel (P := P) (L := L) (A := A) (sn := sn) (gr := gr) (aw := aw) (fi := fi) (sg := sg) (sp := sp) (ut := ut) (ck := ck) (ad := ad) (dm := dm) (de := de) (se := se) (li := li) W hk 8 0 (by omega) (Nat.zero_le _)
  exact ⟨c, c1, c2, c3, fun post hp => Exists.intro 9 (c4 post hp)⟩
/-- Y's poolSize -/
theorem gm_ysize (W : gm_W T pw wc ip) {post : Int32 → Prop} (h : post (nI T)) : wpY_poolSize post ((nI P), (nI L), (nI A), dl, ip, sn, gr, aw, fi, ck, sg, sp, pl) := by
  obtain ⟨W1, _, rfl⟩ := W
  have key : ∀ d c, c + d = 512 → wY_poolSize_4 post (nI P) (nI L) (nI A) dl ip sn gr aw fi ck sg sp pl (d + 1) (nI (gm_ct (gm_B pw) c)) (nI c) := by
    intro d
    induction d with
    | zero =>
      intro c hc
      have e : c = 512 := by omega
      subst e
      exact br_t (nI_le (a := 512) (b := 512) (by omega) (by omega)) h
    | succ d ih =>
      intro c hc
      have cl : (nI c).toNatClampNeg = c := nI_clamp (by omega)
      refine br_f (nI_ge (b := 512) (by omega) (by omega)) ⟨vp_in_nI (by omega) (by omega), br_c (fun z => ?_) (fun z => ?_)⟩
      · rw [cl] at z
        have t := ih (c + 1) (by omega)
        rw [gm_ct_n ((W1 c (by omega)).mp z)] at t
        exact nm_r (nI_1 c) t
      · rw [cl] at z
        have hb : gm_B pw c = true := by
          cases hh : gm_B pw c with
          | true => rfl
          | false => exact absurd ((W1 c (by omega)).mpr hh) z
        have t := ih (c + 1) (by omega)
        rw [gm_ct_s hb] at t
        exact nm_r (nI_1 _) (nm_r (nI_1 c) t)
  exact Exists.intro 513 (key 512 0 (by omega))
/-- Y's poolItem, found -/
theorem gm_yitem (W : gm_W T pw wc ip) {k t : Nat} (ht : t < 512) (hB : gm_B pw t = true) (hc : gm_ct (gm_B pw) t = k) {post : Int32 → Prop} (h : post (nI t)) : wpY_poolItem post ((nI P), (nI L), (nI A), dl, ip, sn, gr, aw, fi, ck, sg, sp, pl) (nI k) := by
  obtain ⟨W1, _, _⟩ := W
  have key : ∀ d c, c + d = t → wY_poolItem_4 post (nI k) (nI P) (nI L) (nI A) dl ip sn gr aw fi ck sg sp pl (d + 1) (nI (gm_ct (gm_B pw) c)) (nI c) := by
    intro d
    induction d with
    | zero =>
      intro c hcd
      have e : c = t := by omega
      subst e
      have cl : (nI c).toNatClampNeg = c := nI_clamp (by omega)
      refine br_f (nI_ge (b := 512) (by omega) (by omega)) ⟨vp_in_nI (by omega) (by omega), br_f (fun z => ?_) (fun y _ => br_t ?_ h)⟩
      · rw [cl] at z
        have t2 := (W1 c (by omega)).mp z
        rw [hB] at t2
        exact (nomatch t2)
      · rw [hc]
    | succ d ih =>
      intro c hcd
      have cl : (nI c).toNatClampNeg = c := nI_clamp (by omega)
      refine br_f (nI_ge (b := 512) (by omega) (by omega)) ⟨vp_in_nI (by omega) (by omega), br_c (fun z => ?_) (fun z => ?_)⟩
      · rw [cl] at z
        have t2 := ih (c + 1) (by omega)
        rw [gm_ct_n ((W1 c (by omega)).mp z)] at t2
        exact nm_r (nI_1 c) t2
      · rw [cl] at z
        have hb : gm_B pw c = true := by
          cases hh : gm_B pw c with
          | true => rfl
          | false => exact absurd ((W1 c (by omega)).mpr hh) z
        have t2 := ih (c + 1) (by omega)
        rw [gm_ct_s hb] at t2
        have h1 := gm_ct_lt (show c < t by omega) hb
        have h2 := gm_ct_le (gm_B pw) t
        refine nm_r (nI_1 _) (br_f ?_ (nm_r (nI_1 c) t2))
        rw [nI_eq (by omega) (by omega)]
        omega
  exact Exists.intro (t + 1) (key t 0 (by omega))
/-- Y's poolItem, none -/
theorem gm_yitem0 (W : gm_W T pw wc ip) {x : Int32} (hx : ∀ k, k < T → x ≠ nI k) {post : Int32 → Prop} (h : post (-2)) : wpY_poolItem post ((nI P), (nI L), (nI A), dl, ip, sn, gr, aw, fi, ck, sg, sp, pl) x := by
  obtain ⟨W1, _, rfl⟩ := W
  have key : ∀ d c, c + d = 512 → wY_poolItem_4 post x (nI P) (nI L) (nI A) dl ip sn gr aw fi ck sg sp pl (d + 1) (nI (gm_ct (gm_B pw) c)) (nI c) := by
    intro d
    induction d with
    | zero =>
      intro c hc
      have e : c = 512 := by omega
      subst e
      exact br_t (nI_le (a := 512) (b := 512) (by omega) (by omega)) h
    | succ d ih =>
      intro c hcd
      have cl : (nI c).toNatClampNeg = c := nI_clamp (by omega)
      refine br_f (nI_ge (b := 512) (by omega) (by omega)) ⟨vp_in_nI (by omega) (by omega), br_c (fun z => ?_) (fun z => ?_)⟩
      · rw [cl] at z
        have t2 := ih (c + 1) (by omega)
        rw [gm_ct_n ((W1 c (by omega)).mp z)] at t2
        exact nm_r (nI_1 c) t2
      · rw [cl] at z
        have hb : gm_B pw c = true := by
          cases hh : gm_B pw c with
          | true => rfl
          | false => exact absurd ((W1 c (by omega)).mpr hh) z
        have t2 := ih (c + 1) (by omega)
        rw [gm_ct_s hb] at t2
        exact nm_r (nI_1 _) (br_f (fun e => hx _ (gm_ct_lt (show c < 512 by omega) hb) e.symm) (nm_r (nI_1 c) t2))
  exact Exists.intro 513 (key 512 0 (by omega))
end
end
section
/-! one process: its line -/
def gm_lt (sp : Nat → Int32) (x y : Nat) : Prop := (sp x).toInt < (sp y).toInt ∨ ((sp x).toInt = (sp y).toInt ∧ x < y)
theorem gm_lt_tr {sp : Nat → Int32} {x y z : Nat} (h1 : gm_lt sp x y) (h2 : gm_lt sp y z) : gm_lt sp x z := by
  unfold gm_lt at *
  omega
theorem gm_lt_ir {sp : Nat → Int32} {x : Nat} (h : gm_lt sp x x) : False := by
  unfold gm_lt at h
  omega
theorem gm_lt_to {sp : Nat → Int32} {x y : Nat} (h : x ≠ y) : gm_lt sp x y ∨ gm_lt sp y x := by
  unfold gm_lt
  omega
theorem gm_inc {c : Int32} (h : c.toInt < 2147483647) : (c + 1).toInt = c.toInt + 1 := by
  rw [Int32.toInt_add, show (1 : Int32).toInt = 1 from by decide]
  have := c.le_toInt
  exact Int.bmod_eq_of_le (by omega) (by omega)
/-- the line of a process: D delivered, S seen, ln its messages -/
def gm_LB (A : Nat) (sg sp pl ut : Nat → Int32) (ck ad dm de se : Int32) (li : Nat → Int32) (D S : Nat) (ln : Nat → Nat) : Prop :=
  (de = nI D ∧ se = nI S ∧ D ≤ S ∧ S ≤ 16 ∧ A ≤ 16) ∧
  (∀ i, i < S → li i = nI (ln i) ∧ ln i < A) ∧
  (∀ i j, i < S → j < S → ln i = ln j → i = j) ∧
  (∀ i, i < D → sg (ln i) = 4 ∧ pl (ln i) = nI (i + 1) ∧ ∀ y, y < 32 → (bt (ut (ln i)) y = true ↔ ∃ j, j ≤ i ∧ ln j = y)) ∧
  (∀ i, D ≤ i → i < S → sg (ln i) = 2 ∨ sg (ln i) = 3) ∧
  (∀ m, m < A → (sg m = 2 ∨ sg m = 3 ∨ sg m = 4) → ∃ i, i < S ∧ ln i = m) ∧
  (∀ i, i < S → (sp (ln i)).toInt ≤ ck.toInt) ∧
  (∀ m, m < 16 → sg m ≠ 4 → pl m = 0) ∧
  (∀ y, y < 32 → (bt dm y = true ↔ ∃ j, j < D ∧ ln j = y)) ∧
  (∀ y, y < 32 → (bt ad y = true ↔ y < A ∧ sg y ≠ 0)) ∧
  (∀ m, A ≤ m → m < 16 → sg m = 0)
def gm_So (sp : Nat → Int32) (D S : Nat) (ln : Nat → Nat) : Prop := ∀ i j, D ≤ i → i < j → j < S → gm_lt sp (ln i) (ln j)
def gm_LP (A : Nat) (sg sp pl ut : Nat → Int32) (ck ad dm de se : Int32) (li : Nat → Int32) : Prop := ∃ (D S : Nat) (ln : Nat → Nat), gm_LB A sg sp pl ut ck ad dm de se li D S ln ∧ gm_So sp D S ln
section
variable {A : Nat} {sg sp pl ut : Nat → Int32} {ck ad dm de se : Int32} {li : Nat → Int32} {D S : Nat} {ln : Nat → Nat}
theorem gm_LB_li {li' : Nat → Int32} (h : gm_LB A sg sp pl ut ck ad dm de se li D S ln) (e : ∀ i, i < 16 → li' i = li i) : gm_LB A sg sp pl ut ck ad dm de se li' D S ln := by
  obtain ⟨⟨e1, e2, hDS, hS, hA⟩, hl, hr⟩ := h
  refine ⟨⟨e1, e2, hDS, hS, hA⟩, fun i hi => ?_, hr⟩
  rw [e i (by omega)]
  exact hl i hi
theorem gm_LP_li {li' : Nat → Int32} (h : gm_LP A sg sp pl ut ck ad dm de se li) (e : ∀ i, i < 16 → li' i = li i) : gm_LP A sg sp pl ut ck ad dm de se li' := by
  obtain ⟨D, S, ln, h1, h2⟩ := h
  exact ⟨D, S, ln, gm_LB_li h1 e, h2⟩
theorem gm_LB_st (h : gm_LB A sg sp pl ut ck ad dm de se li D S ln) {i : Nat} (hi : i < S) : sg (ln i) = 2 ∨ sg (ln i) = 3 ∨ sg (ln i) = 4 := by
  obtain ⟨_, _, _, hd, hu, _⟩ := h
  by_cases hD : i < D
  · exact Or.inr (Or.inr (hd i hD).1)
  · rcases hu i (by omega) hi with z | z
    · exact Or.inl z
    · exact Or.inr (Or.inl z)
theorem gm_LB_not1 (h : gm_LB A sg sp pl ut ck ad dm de se li D S ln) {m : Nat} (hm : sg m = 1) : ∀ i, i < S → ln i ≠ m := by
  intro i hi e
  have t := gm_LB_st h hi
  rw [e, hm] at t
  exact absurd t (by decide)
def gm_ap (ln : Nat → Nat) (S m : Nat) : Nat → Nat := fun j => if j = S then m else ln j
theorem gm_ap_s {m : Nat} : gm_ap ln S m S = m := if_pos rfl
theorem gm_ap_n {m j : Nat} (h : j ≠ S) : gm_ap ln S m j = ln j := if_neg h
theorem gm_ap_inj (h : gm_LB A sg sp pl ut ck ad dm de se li D S ln) {m : Nat} (hm : sg m = 1) : ∀ i j, i < S + 1 → j < S + 1 → gm_ap ln S m i = gm_ap ln S m j → i = j := by
  intro i j hi hj e
  have hn := gm_LB_not1 h hm
  obtain ⟨_, _, hin, _⟩ := h
  by_cases h1 : i = S
  · by_cases h2 : j = S
    · omega
    · rw [h1, gm_ap_s, gm_ap_n h2] at e
      exact absurd e.symm (hn j (by omega))
  · by_cases h2 : j = S
    · rw [h2, gm_ap_s, gm_ap_n h1] at e
      exact absurd e (hn i (by omega))
    · rw [gm_ap_n h1, gm_ap_n h2] at e
      exact hin i j (by omega) (by omega) e
theorem gm_LB_room (h : gm_LB A sg sp pl ut ck ad dm de se li D S ln) {m : Nat} (hA : m < A) (hm : sg m = 1) : S < 16 := by
  have hi := gm_ap_inj h hm
  obtain ⟨⟨_, _, _, _, hA16⟩, hl, _⟩ := h
  have t : S + 1 ≤ A := gm_pig (f := gm_ap ln S m) (fun i hi => by
    by_cases h1 : i = S
    · rw [h1, gm_ap_s]; exact hA
    · rw [gm_ap_n h1]; exact (hl i (by omega)).2) hi
  omega
theorem gm_LB_prop {li' : Nat → Int32} {m : Nat} (h : gm_LB A sg sp pl ut ck ad dm de se li D S ln) (o : gm_So sp D S ln) (hA : m < A) (hm : sg m = 1) (hk : ck.toInt < 2147483647) (h1 : ∀ i, i < S → li' i = li i) (h2 : li' S = nI m) :
    gm_LP A (upd sg m 2) (upd sp m (ck + 1)) pl ut (ck + 1) ad dm de (nI (S + 1)) li' := by
  have hroom := gm_LB_room h hA hm
  have hinj := gm_ap_inj h hm
  have hn := gm_LB_not1 h hm
  have ei := gm_inc hk
  obtain ⟨⟨e1, e2, hDS, hS, hA16⟩, hl, hin, hd, hu, hc, hkk, hp, hmm, hadd, hf⟩ := h
  have hne : ∀ i, i < S → ln i ≠ m := hn
  refine ⟨D, S + 1, gm_ap ln S m, ⟨⟨e1, rfl, by omega, by omega, hA16⟩, ?_, hinj, ?_, ?_, ?_, ?_, ?_, ?_, ?_, ?_⟩, ?_⟩
  · intro i hi
    by_cases z : i = S
    · subst z; rw [gm_ap_s]; exact ⟨h2, hA⟩
    · rw [gm_ap_n z, h1 i (by omega)]; exact hl i (by omega)
  · intro i hi
    rw [gm_ap_n (show i ≠ S by omega), pk_un (hne i (by omega))]
    obtain ⟨a, b, c⟩ := hd i hi
    refine ⟨a, b, fun y hy => ?_⟩
    rw [c y hy]
    constructor
    · rintro ⟨j, hj, e⟩; exact ⟨j, hj, by rw [gm_ap_n (by omega)]; exact e⟩
    · rintro ⟨j, hj, e⟩; exact ⟨j, hj, by rw [gm_ap_n (by omega)] at e; exact e⟩
  · intro i hi hi2
    by_cases z : i = S
    · subst z; rw [gm_ap_s, pk_us]; exact Or.inl rfl
    · rw [gm_ap_n z, pk_un (hne i (by omega))]; exact hu i hi (by omega)
  · intro x hx hsx
    by_cases z : x = m
    · exact ⟨S, by omega, by rw [gm_ap_s, z]⟩
    · rw [pk_un z] at hsx
      obtain ⟨i, hi, e⟩ := hc x hx hsx
      exact ⟨i, by omega, by rw [gm_ap_n (by omega)]; exact e⟩
  · intro i hi
    by_cases z : i = S
    · subst z; rw [gm_ap_s, pk_us]; exact Int.le_refl _
    · rw [gm_ap_n z, pk_un (hne i (by omega)), ei]
      have := hkk i (by omega)
      omega
  · intro x hx hsx
    by_cases z : x = m
    · rw [z]
      exact hp m (by omega) (by rw [hm]; decide)
    · rw [pk_un z] at hsx
      exact hp x hx hsx
  · intro y hy
    rw [hmm y hy]
    constructor
    · rintro ⟨j, hj, e⟩; exact ⟨j, hj, by rw [gm_ap_n (by omega)]; exact e⟩
    · rintro ⟨j, hj, e⟩; exact ⟨j, hj, by rw [gm_ap_n (by omega)] at e; exact e⟩
  · intro y hy
    rw [hadd y hy]
    by_cases z : y = m
    · rw [z, pk_us, hm]
      exact ⟨fun w => ⟨w.1, by decide⟩, fun w => ⟨w.1, by decide⟩⟩
    · rw [pk_un z]
  · intro x hx hx2
    rw [pk_un (by omega)]
    exact hf x hx hx2
  · intro i j hi hij hj
    have hiS : i ≠ S := by omega
    rw [gm_ap_n hiS]
    by_cases z : j = S
    · subst z
      rw [gm_ap_s]
      left
      rw [pk_us, pk_un (hne i (by omega)), ei]
      have := hkk i (by omega)
      omega
    · rw [gm_ap_n z]
      have t := o i j hi hij (by omega)
      unfold gm_lt at *
      rw [pk_un (hne i (by omega)), pk_un (hne j (by omega))]
      exact t
theorem gm_LP_reg {sg' : Nat → Int32} {ad' : Int32} (h : gm_LP A sg sp pl ut ck ad dm de se li) (hA : A < 16) (h1 : ∀ m, m ≠ A → sg' m = sg m) (h2 : sg' A = 0 ∨ sg' A = 1) (h3 : ∀ y, y < 32 → (bt ad' y = true ↔ bt ad y = true ∨ (y = A ∧ sg' A ≠ 0))) :
    gm_LP (A + 1) sg' sp pl ut ck ad' dm de se li := by
  obtain ⟨D, S, ln, ⟨⟨e1, e2, hDS, hS, hA16⟩, hl, hin, hd, hu, hc, hkk, hp, hmm, hadd, hf⟩, o⟩ := h
  have hne : ∀ i, i < S → ln i ≠ A := fun i hi => by have := (hl i hi).2; omega
  refine ⟨D, S, ln, ⟨⟨e1, e2, hDS, hS, by omega⟩, ?_, hin, ?_, ?_, ?_, hkk, ?_, hmm, ?_, ?_⟩, o⟩
  · intro i hi
    have := hl i hi
    exact ⟨this.1, by omega⟩
  · intro i hi
    rw [h1 _ (hne i (by omega))]
    exact hd i hi
  · intro i hi hi2
    rw [h1 _ (hne i (by omega))]
    exact hu i hi hi2
  · intro m hm hs
    by_cases z : m = A
    · rw [z] at hs
      rcases h2 with w | w <;> rw [w] at hs <;> exact absurd hs (by decide)
    · rw [h1 m z] at hs
      exact hc m (by omega) hs
  · intro m hm hs
    by_cases z : m = A
    · rw [z]
      exact hp A hA (by rw [hf A (Nat.le_refl A) hA]; decide)
    · rw [h1 m z] at hs
      exact hp m hm hs
  · intro y hy
    rw [h3 y hy, hadd y hy]
    by_cases z : y = A
    · rw [z]
      constructor
      · rintro (w | w)
        · omega
        · exact ⟨by omega, w.2⟩
      · intro w; exact Or.inr ⟨rfl, w.2⟩
    · rw [h1 y z]
      constructor
      · rintro (w | w)
        · exact ⟨by omega, w.2⟩
        · exact absurd w.1 z
      · intro w; exact Or.inl ⟨by omega, w.2⟩
  · intro m hm hm2
    rw [h1 m (by omega)]
    exact hf m (by omega) hm2
/-! moving back: m at place i, all but m sorted, all ahead of m smaller -/
def gm_Mo (sp : Nat → Int32) (D S : Nat) (ln : Nat → Nat) (i m : Nat) : Prop :=
  D ≤ i ∧ i < S ∧ ln i = m ∧ (∀ a b, D ≤ a → a < b → b < S → a ≠ i → b ≠ i → gm_lt sp (ln a) (ln b)) ∧ (∀ a, D ≤ a → a < i → gm_lt sp (ln a) m)
theorem gm_LB_learn {m : Nat} {t ck' : Int32} (h : gm_LB A sg sp pl ut ck ad dm de se li D S ln) (o : gm_So sp D S ln) (hA : m < A) (hm : sg m = 2) (ht : (sp m).toInt ≤ t.toInt) (h1 : ck.toInt ≤ ck'.toInt) (h2 : t.toInt ≤ ck'.toInt) :
    ∃ a, gm_LB A (upd sg m 3) (upd sp m t) pl ut ck' ad dm de se li D S ln ∧ gm_Mo (upd sp m t) D S ln a m := by
  obtain ⟨⟨e1, e2, hDS, hS, hA16⟩, hl, hin, hd, hu, hc, hkk, hp, hmm, hadd, hf⟩ := h
  obtain ⟨a, ha, ea⟩ := hc m hA (Or.inl hm)
  have haD : D ≤ a := by
    rcases Nat.lt_or_ge a D with z | z
    · have t2 := (hd a z).1
      rw [ea, hm] at t2
      exact absurd t2 (by decide)
    · exact z
  have hne : ∀ i, i < S → i ≠ a → ln i ≠ m := fun i hi hia e => hia (hin i a hi ha (by rw [e, ea]))
  refine ⟨a, ⟨⟨e1, e2, hDS, hS, hA16⟩, hl, hin, ?_, ?_, ?_, ?_, ?_, hmm, ?_, ?_⟩, haD, ha, ea, ?_, ?_⟩
  · intro i hi
    rw [pk_un (hne i (by omega) (by omega))]
    exact hd i hi
  · intro i hi hi2
    by_cases z : i = a
    · rw [z, ea, pk_us]; exact Or.inr rfl
    · rw [pk_un (hne i hi2 z)]; exact hu i hi hi2
  · intro x hx hsx
    by_cases z : x = m
    · exact ⟨a, ha, by rw [ea, z]⟩
    · rw [pk_un z] at hsx
      exact hc x hx hsx
  · intro i hi
    by_cases z : i = a
    · rw [z, ea, pk_us]; exact h2
    · rw [pk_un (hne i hi z)]
      have := hkk i hi
      omega
  · intro x hx hsx
    by_cases z : x = m
    · rw [z]
      exact hp m (by omega) (by rw [hm]; decide)
    · rw [pk_un z] at hsx
      exact hp x hx hsx
  · intro y hy
    rw [hadd y hy]
    by_cases z : y = m
    · rw [z, pk_us, hm]
      exact ⟨fun w => ⟨w.1, by decide⟩, fun w => ⟨w.1, by decide⟩⟩
    · rw [pk_un z]
  · intro x hx hx2
    rw [pk_un (by omega)]
    exact hf x hx hx2
  · intro x y hx hxy hy hxa hya
    have t2 := o x y hx hxy hy
    unfold gm_lt at *
    rw [pk_un (hne x (by omega) hxa), pk_un (hne y hy hya)]
    exact t2
  · intro x hx hxa
    have t2 := o x a hx hxa ha
    rw [ea] at t2
    unfold gm_lt at *
    rw [pk_un (hne x (by omega) (by omega)), pk_us]
    omega
def gm_tr (i j : Nat) : Nat := if j = i then i + 1 else if j = i + 1 then i else j
theorem gm_tr_tr (i j : Nat) : gm_tr i (gm_tr i j) = j := by
  unfold gm_tr
  split <;> split <;> (try split) <;> omega
theorem gm_tr_a (i : Nat) : gm_tr i i = i + 1 := if_pos rfl
theorem gm_tr_b (i : Nat) : gm_tr i (i + 1) = i := by
  unfold gm_tr
  rw [if_neg (by omega), if_pos rfl]
theorem gm_tr_n {i j : Nat} (h1 : j ≠ i) (h2 : j ≠ i + 1) : gm_tr i j = j := by
  unfold gm_tr
  rw [if_neg h1, if_neg h2]
theorem gm_tr_lt {i j S : Nat} (hi : i + 1 < S) (hj : j < S) : gm_tr i j < S := by
  unfold gm_tr
  split
  · omega
  · split <;> omega
theorem gm_tr_ge {i j D : Nat} (hi : D ≤ i) (hj : D ≤ j) : D ≤ gm_tr i j := by
  unfold gm_tr
  split
  · omega
  · split <;> omega
def gm_sw (ln : Nat → Nat) (i : Nat) : Nat → Nat := fun j => ln (gm_tr i j)
theorem gm_LB_sw {li' : Nat → Int32} {i : Nat} (h : gm_LB A sg sp pl ut ck ad dm de se li D S ln) (hi : D ≤ i) (hS : i + 1 < S) (hli : ∀ j, j < S → li' j = nI (gm_sw ln i j)) : gm_LB A sg sp pl ut ck ad dm de se li' D S (gm_sw ln i) := by
  obtain ⟨⟨e1, e2, hDS, hS16, hA16⟩, hl, hin, hd, hu, hc, hkk, hp, hmm, hadd, hf⟩ := h
  refine ⟨⟨e1, e2, hDS, hS16, hA16⟩, ?_, ?_, ?_, ?_, ?_, ?_, hp, ?_, hadd, hf⟩
  · intro j hj
    exact ⟨hli j hj, (hl _ (gm_tr_lt hS hj)).2⟩
  · intro a b ha hb e
    have t := hin _ _ (gm_tr_lt hS ha) (gm_tr_lt hS hb) e
    have t2 := congrArg (gm_tr i) t
    rw [gm_tr_tr, gm_tr_tr] at t2
    exact t2
  · intro j hj
    have e : gm_sw ln i j = ln j := congrArg ln (gm_tr_n (by omega) (by omega))
    rw [e]
    obtain ⟨a, b, c⟩ := hd j hj
    refine ⟨a, b, fun y hy => ?_⟩
    rw [c y hy]
    constructor
    · rintro ⟨k, hk, e3⟩; exact ⟨k, hk, (congrArg ln (gm_tr_n (by omega) (by omega))).trans e3⟩
    · rintro ⟨k, hk, e3⟩; exact ⟨k, hk, (congrArg ln (gm_tr_n (i := i) (j := k) (by omega) (by omega))).symm.trans e3⟩
  · intro j hj hj2
    exact hu _ (gm_tr_ge hi hj) (gm_tr_lt hS hj2)
  · intro m hm hs
    obtain ⟨k, hk, e⟩ := hc m hm hs
    refine ⟨gm_tr i k, gm_tr_lt hS hk, ?_⟩
    show ln (gm_tr i (gm_tr i k)) = m
    rw [gm_tr_tr]
    exact e
  · intro j hj
    exact hkk _ (gm_tr_lt hS hj)
  · intro y hy
    rw [hmm y hy]
    constructor
    · rintro ⟨k, hk, e3⟩; exact ⟨k, hk, (congrArg ln (gm_tr_n (by omega) (by omega))).trans e3⟩
    · rintro ⟨k, hk, e3⟩; exact ⟨k, hk, (congrArg ln (gm_tr_n (i := i) (j := k) (by omega) (by omega))).symm.trans e3⟩
theorem gm_Mo_sw {i m : Nat} (h : gm_Mo sp D S ln i m) (hS : i + 1 < S) (hl : gm_lt sp (ln (i + 1)) m) : gm_Mo sp D S (gm_sw ln i) (i + 1) m := by
  obtain ⟨h1, h2, h3, h4, h5⟩ := h
  have ei : gm_sw ln i i = ln (i + 1) := congrArg ln (gm_tr_a i)
  have en : ∀ j, j ≠ i → j ≠ i + 1 → gm_sw ln i j = ln j := fun j a b => congrArg ln (gm_tr_n a b)
  refine ⟨by omega, hS, ?_, ?_, ?_⟩
  · show ln (gm_tr i (i + 1)) = m
    rw [gm_tr_b]
    exact h3
  · intro a b ha hab hb ha1 hb1
    by_cases za : a = i
    · subst za
      rw [ei, en b (by omega) hb1]
      exact h4 (a + 1) b (by omega) (by omega) hb (by omega) (by omega)
    · rw [en a za ha1]
      by_cases zb : b = i
      · subst zb
        rw [ei]
        exact h4 a (b + 1) ha (by omega) (by omega) za (by omega)
      · rw [en b zb hb1]
        exact h4 a b ha hab hb za zb
  · intro a ha hai
    by_cases za : a = i
    · subst za
      rw [ei]
      exact hl
    · rw [en a za (by omega)]
      exact h5 a ha (by omega)
theorem gm_Mo_end {i m : Nat} (h : gm_Mo sp D S ln i m) (hin : ∀ i j, i < S → j < S → ln i = ln j → i = j) (he : i + 1 < S → ¬ gm_lt sp (ln (i + 1)) m) : gm_So sp D S ln := by
  obtain ⟨h1, h2, h3, h4, h5⟩ := h
  intro a b ha hab hb
  by_cases zb : b = i
  · rw [zb, h3]
    exact h5 a ha (by omega)
  · by_cases za : a = i
    · have hne : m ≠ ln (i + 1) := fun e => by
        have := hin i (i + 1) h2 (by omega) (by rw [h3, e])
        omega
      have hm : gm_lt sp m (ln (i + 1)) := by
        rcases gm_lt_to (sp := sp) hne with w | w
        · exact w
        · exact absurd w (he (by omega))
      rw [za, h3]
      by_cases z : b = i + 1
      · rw [z]; exact hm
      · exact gm_lt_tr hm (h4 (i + 1) b (by omega) (by omega) hb (by omega) zb)
    · exact h4 a b ha hab hb za zb
/-! one delivery -/
theorem gm_LB_del {dm' : Int32} {m : Nat} (h : gm_LB A sg sp pl ut ck ad dm de se li D S ln) (hD : D < S) (hm : ln D = m) (h3 : sg m = 3) (hdm : ∀ y, y < 32 → (bt dm' y = true ↔ bt dm y = true ∨ y = m)) :
    gm_LB A (upd sg m 4) sp (upd pl m (nI (D + 1))) (upd ut m dm') ck ad dm' (nI (D + 1)) se li (D + 1) S ln := by
  obtain ⟨⟨e1, e2, hDS, hS16, hA16⟩, hl, hin, hd, hu, hc, hkk, hp, hmm, hadd, hf⟩ := h
  have hne : ∀ i, i < S → i ≠ D → ln i ≠ m := fun i hi hia e => hia (hin i D hi hD (by rw [e, hm]))
  have hmA : m < A := by rw [← hm]; exact (hl D hD).2
  have hdm2 : ∀ y, y < 32 → (bt dm' y = true ↔ ∃ j, j < D + 1 ∧ ln j = y) := by
    intro y hy
    rw [hdm y hy, hmm y hy]
    constructor
    · rintro (⟨j, hj, e⟩ | e)
      · exact ⟨j, by omega, e⟩
      · exact ⟨D, by omega, by rw [hm, e]⟩
    · rintro ⟨j, hj, e⟩
      by_cases z : j = D
      · right; rw [← e, z, hm]
      · exact Or.inl ⟨j, by omega, e⟩
  refine ⟨⟨rfl, e2, by omega, hS16, hA16⟩, hl, hin, ?_, ?_, ?_, hkk, ?_, hdm2, ?_, ?_⟩
  · intro i hi
    by_cases z : i = D
    · rw [z, hm, pk_us, pk_us, pk_us]
      refine ⟨rfl, rfl, fun y hy => ?_⟩
      rw [hdm2 y hy]
      constructor
      · rintro ⟨j, hj, e⟩; exact ⟨j, by omega, e⟩
      · rintro ⟨j, hj, e⟩; exact ⟨j, by omega, e⟩
    · have t := hne i (by omega) z
      rw [pk_un t, pk_un t, pk_un t]
      exact hd i (by omega)
  · intro i hi hi2
    rw [pk_un (hne i hi2 (by omega))]
    exact hu i (by omega) hi2
  · intro x hx hsx
    by_cases z : x = m
    · exact ⟨D, hD, by rw [hm, z]⟩
    · rw [pk_un z] at hsx
      exact hc x hx hsx
  · intro x hx hsx
    by_cases z : x = m
    · rw [z, pk_us] at hsx
      exact absurd rfl hsx
    · rw [pk_un z] at hsx
      rw [pk_un z]
      exact hp x hx hsx
  · intro y hy
    rw [hadd y hy]
    by_cases z : y = m
    · rw [z, pk_us, h3]
      exact ⟨fun w => ⟨w.1, by decide⟩, fun w => ⟨w.1, by decide⟩⟩
    · rw [pk_un z]
  · intro x hx hx2
    rw [pk_un (by omega)]
    exact hf x hx hx2
/-! what the reference searches for -/
theorem gm_LB_ct (h : gm_LB A sg sp pl ut ck ad dm de se li D S ln) : gm_ct (fun m => decide (sg m = 4)) A = D := by
  have hst := fun i hi => gm_LB_st h (i := i) hi
  obtain ⟨⟨e1, e2, hDS, hS16, hA16⟩, hl, hin, hd, hu, hc, hkk, hp, hmm, hadd, hf⟩ := h
  refine gm_ct_inj D _ ln A (fun i hi => (hl i (by omega)).2) (fun i j hi hj e => hin i j (by omega) (by omega) e) (fun x hx => ?_)
  rw [decide_eq_true_iff]
  constructor
  · intro z
    obtain ⟨i, hi, e⟩ := hc x hx (Or.inr (Or.inr z))
    refine ⟨i, ?_, e⟩
    rcases Nat.lt_or_ge i D with w | w
    · exact w
    · have t := hu i w hi
      rw [e, z] at t
      exact absurd t (by decide)
  · rintro ⟨i, hi, e⟩
    rw [← e]
    exact (hd i hi).1
theorem gm_LB_min (h : gm_LB A sg sp pl ut ck ad dm de se li D S ln) (o : gm_So sp D S ln) (hD : D < S) : ln D < A ∧ (sg (ln D) = 2 ∨ sg (ln D) = 3) ∧ ∀ y, y < A → (sg y = 2 ∨ sg y = 3) → y ≠ ln D → gm_lt sp (ln D) y := by
  obtain ⟨⟨e1, e2, hDS, hS16, hA16⟩, hl, hin, hd, hu, hc, hkk, hp, hmm, hadd, hf⟩ := h
  refine ⟨(hl D hD).2, hu D (Nat.le_refl D) hD, fun y hy hs hne => ?_⟩
  obtain ⟨i, hi, e⟩ := hc y hy (by rcases hs with z | z; exact Or.inl z; exact Or.inr (Or.inl z))
  have hiD : D ≤ i := by
    rcases Nat.lt_or_ge i D with w | w
    · have t := (hd i w).1
      rw [e] at t
      rcases hs with z | z <;> rw [z] at t <;> exact absurd t (by decide)
    · exact w
  have hiD2 : i ≠ D := fun z => hne (by rw [← e, z])
  have t := o D i (Nat.le_refl D) (by omega) hi
  rw [e] at t
  exact t
theorem gm_LB_none (h : gm_LB A sg sp pl ut ck ad dm de se li D S ln) (hD : S ≤ D) : ∀ y, y < A → ¬ (sg y = 2 ∨ sg y = 3) := by
  obtain ⟨⟨e1, e2, hDS, hS16, hA16⟩, hl, hin, hd, hu, hc, hkk, hp, hmm, hadd, hf⟩ := h
  intro y hy hs
  obtain ⟨i, hi, e⟩ := hc y hy (by rcases hs with z | z; exact Or.inl z; exact Or.inr (Or.inl z))
  have t := (hd i (by omega)).1
  rw [e] at t
  rcases hs with z | z <;> rw [z] at t <;> exact absurd t (by decide)
end
end
section
/-! columns; small walks -/
def gm_co (f : Nat → Int32) (p : Nat) : Nat → Int32 := fun m => f (m * 8 + p)
def gm_ro (f : Nat → Int32) (p : Nat) : Nat → Int32 := fun i => f (p * 16 + i)
theorem gm_co_s {f : Nat → Int32} {m p : Nat} {v : Int32} : gm_co (upd f (m * 8 + p) v) p = upd (gm_co f p) m v := by
  funext x
  unfold gm_co upd
  by_cases e : x = m
  · subst e; rw [if_pos rfl, if_pos rfl]
  · rw [if_neg (by omega), if_neg e]
theorem gm_co_n {f : Nat → Int32} {m p q : Nat} {v : Int32} (hp : p < 8) (hq : q < 8) (h : q ≠ p) : gm_co (upd f (m * 8 + p) v) q = gm_co f q := by
  funext x
  unfold gm_co upd
  rw [if_neg (by omega)]
theorem gm_ro_n {f : Nat → Int32} {p q i j : Nat} {v : Int32} (hi : i < 16) (hj : j < 16) (h : q ≠ p) : gm_ro (upd f (p * 16 + j) v) q i = gm_ro f q i := by
  unfold gm_ro upd
  rw [if_neg (by omega)]
theorem gm_up_ge {f : Nat → Int32} {k : Nat} {x : Int32} (h : f k = x) : upd f k x = f := by
  funext j
  unfold upd
  split
  · rename_i e; rw [e, h]
  · rfl
/-- all lines -/
def gm_AL (P A : Nat) (sg sp pl ut ck ad dm de se li : Nat → Int32) : Prop :=
  ∀ p, p < P → gm_LP A (gm_co sg p) (gm_co sp p) (gm_co pl p) (gm_co ut p) (ck p) (ad p) (dm p) (de p) (se p) (gm_ro li p)
section
variable {P L A T : Nat} {sn gr aw fi sg sp ut ck ad dm de se li wc ip pl : Nat → Int32} {pw : Nat → Int64} {dl : Int32}
theorem gm_xv1 {post : Int32 → Prop} {p : Nat} (hP : P ≤ 6) (hp : p < P) (h : post 1) : wpX_valid post ((nI P), (nI L), (nI A), (nI T), sn, gr, aw, fi, sg, sp, ut, ck, ad, dm, de, se, li, pw, wc) (nI p) := br_f (nI_pos (by omega)) (br_f (nI_ge hp (by omega)) h)
theorem gm_xv0 {post : Int32 → Prop} {x : Int32} (hx : x < 0 ∨ nI P ≤ x) (h : post 0) : wpX_valid post ((nI P), (nI L), (nI A), (nI T), sn, gr, aw, fi, sg, sp, ut, ck, ad, dm, de, se, li, pw, wc) x := br_c (fun _ => h) (fun n1 => br_c (fun _ => h) (fun n2 => (hx.elim (fun a => absurd a n1) (fun a => absurd a n2))))
theorem gm_yv1 {post : Int32 → Prop} {p : Nat} (hP : P ≤ 6) (hp : p < P) (h : post 1) : wpY_valid post ((nI P), (nI L), (nI A), dl, ip, sn, gr, aw, fi, ck, sg, sp, pl) (nI p) := br_f (nI_pos (by omega)) (br_f (nI_ge hp (by omega)) h)
theorem gm_yv0 {post : Int32 → Prop} {x : Int32} (hx : x < 0 ∨ nI P ≤ x) (h : post 0) : wpY_valid post ((nI P), (nI L), (nI A), dl, ip, sn, gr, aw, fi, ck, sg, sp, pl) x := br_c (fun _ => h) (fun n1 => br_c (fun _ => h) (fun n2 => (hx.elim (fun a => absurd a n1) (fun a => absurd a n2))))
theorem gm_xe1 {post : Int32 → Prop} {m : Nat} (hA : A ≤ 16) (hm : m < A) (h : post 1) : wpX_exists post ((nI P), (nI L), (nI A), (nI T), sn, gr, aw, fi, sg, sp, ut, ck, ad, dm, de, se, li, pw, wc) (nI m) := br_f (nI_pos (by omega)) (br_f (nI_ge hm (by omega)) h)
theorem gm_xe0 {post : Int32 → Prop} {x : Int32} (hx : x < 0 ∨ nI A ≤ x) (h : post 0) : wpX_exists post ((nI P), (nI L), (nI A), (nI T), sn, gr, aw, fi, sg, sp, ut, ck, ad, dm, de, se, li, pw, wc) x := br_c (fun _ => h) (fun n1 => br_c (fun _ => h) (fun n2 => (hx.elim (fun a => absurd a n1) (fun a => absurd a n2))))
theorem gm_ye1 {post : Int32 → Prop} {m : Nat} (hA : A ≤ 16) (hm : m < A) (h : post 1) : wpY_exists post ((nI P), (nI L), (nI A), dl, ip, sn, gr, aw, fi, ck, sg, sp, pl) (nI m) := br_f (nI_pos (by omega)) (br_f (nI_ge hm (by omega)) h)
theorem gm_ye0 {post : Int32 → Prop} {x : Int32} (hx : x < 0 ∨ nI A ≤ x) (h : post 0) : wpY_exists post ((nI P), (nI L), (nI A), dl, ip, sn, gr, aw, fi, ck, sg, sp, pl) x := br_c (fun _ => h) (fun n1 => br_c (fun _ => h) (fun n2 => (hx.elim (fun a => absurd a n1) (fun a => absurd a n2))))
theorem gm_ix (x : Int32) {n : Nat} (hn : n ≤ 16) : (x < 0 ∨ nI n ≤ x) ∨ ∃ j : Nat, j < n ∧ x = nI j := by
  rcases pk_ix x (n := n) (by omega) with h | h | h
  · exact Or.inl (Or.inl h)
  · exact Or.inl (Or.inr h)
  · exact Or.inr h
/-- X's propose -/
theorem gm_xprop {post : SX → Prop} {m p S : Nat} (hm : m < 16) (hp : p < 8) (hS : S < 16) (hse : se p = nI S)
    (h : post ((nI P), (nI L), (nI A), (nI T), sn, gr, aw, fi, (upd sg (m * 8 + p) 2), (upd sp (m * 8 + p) (ck p + 1)), ut, (upd ck p (ck p + 1)), ad, dm, de, (upd se p (nI (S + 1))), (upd li (p * 16 + S) (nI m)), pw, wc)) : wpX_propose post ((nI P), (nI L), (nI A), (nI T), sn, gr, aw, fi, sg, sp, ut, ck, ad, dm, de, se, li, pw, wc) (nI m) (nI p) := by
  have e1 : nI m * 8 + nI p = nI (m * 8 + p) := gm_ix8 m p
  have e2 : nI p * 16 + nI S = nI (p * 16 + S) := gm_ix16 p S
  have c1 : (nI (m * 8 + p)).toNatClampNeg = m * 8 + p := nI_clamp (by omega)
  have c2 : (nI p).toNatClampNeg = p := nI_clamp (by omega)
  have c3 : (nI (p * 16 + S)).toNatClampNeg = p * 16 + S := nI_clamp (by omega)
  have v1 : vp_in (nI p) 8 := vp_in_nI hp (by omega)
  have v2 : vp_in (nI (m * 8 + p)) 128 := vp_in_nI (by omega) (by omega)
  have v3 : vp_in (nI (p * 16 + S)) 128 := vp_in_nI (by omega) (by omega)
  unfold wpX_propose
  simp only [c2, hse, e1, e2, c1, c3, v1, v2, v3, true_and, forall_eq, pk_us, nI_1]
  exact h
/-- Y's propose -/
theorem gm_yprop {post : SY → Prop} {m p : Nat} (hm : m < 16) (hp : p < 8)
    (h : post ((nI P), (nI L), (nI A), dl, ip, sn, gr, aw, fi, (upd ck p (ck p + 1)), (upd sg (m * 8 + p) 2), (upd sp (m * 8 + p) (ck p + 1)), pl)) : wpY_propose post ((nI P), (nI L), (nI A), dl, ip, sn, gr, aw, fi, ck, sg, sp, pl) (nI m) (nI p) := by
  have e1 : nI m * 8 + nI p = nI (m * 8 + p) := gm_ix8 m p
  have c1 : (nI (m * 8 + p)).toNatClampNeg = m * 8 + p := nI_clamp (by omega)
  have c2 : (nI p).toNatClampNeg = p := nI_clamp (by omega)
  have v1 : vp_in (nI p) 8 := vp_in_nI hp (by omega)
  have v2 : vp_in (nI (m * 8 + p)) 128 := vp_in_nI (by omega) (by omega)
  unfold wpY_propose
  simp only [c2, e1, c1, v1, v2, true_and, forall_eq, pk_us]
  exact h
/-- the lines behind a proposal -/
theorem gm_AL_prop {m p : Nat} (H : gm_AL P A sg sp pl ut ck ad dm de se li) (hP : P ≤ 6) (hp : p < P) (hm : m < A) (hs : sg (m * 8 + p) = 1) (hk : (ck p).toInt < 2147483647) :
    ∃ S, S < 16 ∧ se p = nI S ∧ gm_AL P A (upd sg (m * 8 + p) 2) (upd sp (m * 8 + p) (ck p + 1)) pl ut (upd ck p (ck p + 1)) ad dm de (upd se p (nI (S + 1))) (upd li (p * 16 + S) (nI m)) := by
  obtain ⟨D, S, ln, h1, h2⟩ := H p hp
  have hroom := gm_LB_room h1 hm hs
  refine ⟨S, hroom, h1.1.2.1, fun q hq => ?_⟩
  by_cases e : q = p
  · subst e
    rw [gm_co_s, gm_co_s, pk_us, pk_us]
    refine gm_LB_prop h1 h2 hm hs hk (fun i hi => ?_) ?_
    · exact pk_un (by omega)
    · exact pk_us
  · rw [gm_co_n (by omega) (by omega) e, gm_co_n (by omega) (by omega) e, pk_un e, pk_un e]
    exact gm_LP_li (H q hq) (fun i hi => gm_ro_n hi hroom e)
/-- Y's deliveredCount -/
theorem gm_ycount {post : Int32 → Prop} {p : Nat} (hP : P ≤ 6) (hp : p < P) (hA : A ≤ 16) (h : post (nI (gm_ct (fun m => decide (gm_co sg p m = 4)) A))) : wpY_deliveredCount post ((nI P), (nI L), (nI A), dl, ip, sn, gr, aw, fi, ck, sg, sp, pl) (nI p) := by
  have key : ∀ d c, c + d = A → wY_deliveredCount_14 post (nI p) (nI P) (nI L) (nI A) dl ip sn gr aw fi ck sg sp pl (d + 1) (nI (gm_ct (fun m => decide (gm_co sg p m = 4)) c)) (nI c) := by
    intro d
    induction d with
    | zero =>
      intro c hc
      have e : c = A := by omega
      subst e
      exact br_t (nI_le (Nat.le_refl _) (by omega)) h
    | succ d ih =>
      intro c hc
      have e1 : nI c * 8 + nI p = nI (c * 8 + p) := gm_ix8 c p
      have cl : (nI (c * 8 + p)).toNatClampNeg = c * 8 + p := nI_clamp (by omega)
      have t := ih (c + 1) (by omega)
      refine br_f (nI_ge (by omega) (by omega)) ⟨by rw [e1]; exact vp_in_nI (by omega) (by omega), br_c (fun z => ?_) (fun z => ?_)⟩
      · rw [e1, cl] at z
        rw [gm_ct_s (B := fun m => decide (gm_co sg p m = 4)) (decide_eq_true z)] at t
        exact nm_r (nI_1 _) (nm_r (nI_1 c) t)
      · rw [e1, cl] at z
        rw [gm_ct_n (B := fun m => decide (gm_co sg p m = 4)) (decide_eq_false z)] at t
        exact nm_r (nI_1 c) t
  unfold wpY_deliveredCount
  refine gm_yv1 hP hp ?_
  exact br_f gm_10 ⟨A + 1, key A 0 (by omega)⟩
/-- Y's next: none -/
theorem gm_ynone {post : Int32 → Prop} {p : Nat} (hP : P ≤ 6) (hp : p < P) (hA : A ≤ 16) (hn : ∀ y, y < A → ¬ (gm_co sg p y = 2 ∨ gm_co sg p y = 3)) (h : post (-2)) : wpY_next post ((nI P), (nI L), (nI A), dl, ip, sn, gr, aw, fi, ck, sg, sp, pl) (nI p) := by
  have key : ∀ d c, c + d = A → wY_next_15 post (nI p) (nI P) (nI L) (nI A) dl ip sn gr aw fi ck sg sp pl (d + 1) (-2) (nI c) := by
    intro d
    induction d with
    | zero =>
      intro c hc
      have e : c = A := by omega
      subst e
      exact br_t (nI_le (Nat.le_refl _) (by omega)) h
    | succ d ih =>
      intro c hc
      have cl : (nI (c * 8 + p)).toNatClampNeg = c * 8 + p := nI_clamp (by omega)
      have vi : vp_in (nI (c * 8 + p)) 128 := vp_in_nI (by omega) (by omega)
      have hc2 := hn c (by omega)
      refine br_f (nI_ge (by omega) (by omega)) (nm_r (gm_ix8 c p) ⟨vi, br_f (fun z => ?_) ⟨vi, br_f (fun z => ?_) ?_⟩⟩)
      · rw [cl] at z
        exact hc2 (Or.inl z)
      · rw [cl] at z
        exact hc2 (Or.inr z)
      · exact br_t rfl (nm_r (nI_1 c) (ih (c + 1) (by omega)))
  unfold wpY_next
  refine gm_yv1 hP hp ?_
  exact br_f gm_10 ⟨A + 1, key A 0 (by omega)⟩
theorem gm_m2 : (-2 : Int32) < 0 := by decide
/-- Y's next: the least -/
theorem gm_ynext {post : Int32 → Prop} {p b : Nat} (hP : P ≤ 6) (hp : p < P) (hA : A ≤ 16) (hb : b < A) (ho : gm_co sg p b = 2 ∨ gm_co sg p b = 3) (hmin : ∀ y, y < A → (gm_co sg p y = 2 ∨ gm_co sg p y = 3) → y ≠ b → gm_lt (gm_co sp p) b y) (h : post (nI b)) : wpY_next post ((nI P), (nI L), (nI A), dl, ip, sn, gr, aw, fi, ck, sg, sp, pl) (nI p) := by
  have key : ∀ d c (x : Int32), c + d = A → ((c ≤ b ∧ (x = -2 ∨ ∃ e, e < c ∧ x = nI e ∧ (gm_co sg p e = 2 ∨ gm_co sg p e = 3))) ∨ (b < c ∧ x = nI b)) → wY_next_15 post (nI p) (nI P) (nI L) (nI A) dl ip sn gr aw fi ck sg sp pl (d + 1) x (nI c) := by
    intro d
    induction d with
    | zero =>
      intro c x hc hx
      rcases hx with ⟨h1, _⟩ | ⟨h1, h2⟩
      · omega
      · rw [h2]
        have e : c = A := by omega
        subst e
        exact br_t (nI_le (Nat.le_refl _) (by omega)) h
    | succ d ih =>
      intro c x hc hx
      have cl : (nI (c * 8 + p)).toNatClampNeg = c * 8 + p := nI_clamp (by omega)
      have vi : vp_in (nI (c * 8 + p)) 128 := vp_in_nI (by omega) (by omega)
      have kj : (gm_co sg p c = 2 ∨ gm_co sg p c = 3) → wY_next_58 post (wY_next_15 post (nI p) (nI P) (nI L) (nI A) dl ip sn gr aw fi ck sg sp pl (d + 1)) (nI p) x (nI c) (nI (c * 8 + p)) 1 (nI P) (nI L) (nI A) dl ip sn gr aw fi ck sg sp pl := by
        intro hoc
        refine br_f gm_10 ?_
        rcases hx with ⟨h1, h2 | ⟨e, he, h2, h3⟩⟩ | ⟨h1, h2⟩
        · rw [h2]
          refine br_t gm_m2 (nm_r (nI_1 c) (ih (c + 1) _ (by omega) ?_))
          by_cases z : c = b
          · exact Or.inr ⟨by omega, by rw [z]⟩
          · exact Or.inl ⟨by omega, Or.inr ⟨c, by omega, rfl, hoc⟩⟩
        · rw [h2]
          have ce : (nI (e * 8 + p)).toNatClampNeg = e * 8 + p := nI_clamp (by omega)
          refine br_f (nI_pos (by omega)) ⟨vi, by rw [gm_ix8]; exact vp_in_nI (by omega) (by omega), br_c (fun z => nm_r (nI_1 c) (ih (c + 1) _ (by omega) ?_)) (fun z => nm_r (nI_1 c) (ih (c + 1) _ (by omega) ?_))⟩
          · by_cases zc : c = b
            · rw [gm_ix8, ce, cl, Int32.le_iff_toInt_le] at z
              have t := hmin e (by omega) h3 (by omega)
              unfold gm_lt gm_co at t
              rw [zc] at z
              omega
            · exact Or.inl ⟨by omega, Or.inr ⟨e, by omega, rfl, h3⟩⟩
          · by_cases zc : c = b
            · exact Or.inr ⟨by omega, by rw [zc]⟩
            · exact Or.inl ⟨by omega, Or.inr ⟨c, by omega, rfl, hoc⟩⟩
        · rw [h2]
          have ce : (nI (b * 8 + p)).toNatClampNeg = b * 8 + p := nI_clamp (by omega)
          refine br_f (nI_pos (by omega)) ⟨vi, by rw [gm_ix8]; exact vp_in_nI (by omega) (by omega), br_t ?_ (nm_r (nI_1 c) (ih (c + 1) _ (by omega) (Or.inr ⟨by omega, rfl⟩)))⟩
          rw [gm_ix8, ce, cl, Int32.le_iff_toInt_le]
          have t := hmin c (by omega) hoc (by omega)
          unfold gm_lt gm_co at t
          omega
      refine br_f (nI_ge (by omega) (by omega)) (nm_r (gm_ix8 c p) ⟨vi, br_c (fun z => ?_) (fun z => ⟨vi, br_c (fun z2 => ?_) (fun z2 => ?_)⟩)⟩)
      · rw [cl] at z
        exact kj (Or.inl z)
      · rw [cl] at z2
        exact kj (Or.inr z2)
      · rw [cl] at z z2
        have hcb : c ≠ b := by
          intro e
          rw [← e] at ho
          rcases ho with w | w
          · exact z w
          · exact z2 w
        refine br_t rfl (nm_r (nI_1 c) (ih (c + 1) x (by omega) ?_))
        rcases hx with ⟨h1, h2 | ⟨e, he, h2, h3⟩⟩ | ⟨h1, h2⟩
        · exact Or.inl ⟨by omega, Or.inl h2⟩
        · exact Or.inl ⟨by omega, Or.inr ⟨e, by omega, h2, h3⟩⟩
        · exact Or.inr ⟨by omega, h2⟩
  unfold wpY_next
  refine gm_yv1 hP hp ?_
  exact br_f gm_10 ⟨A + 1, key A 0 (-2) (by omega) (Or.inl ⟨Nat.zero_le b, Or.inl rfl⟩)⟩
end
end
section
/-! learn: X moves back and delivers from the head of the line; Y searches the least again and again -/
section
variable {P L A T : Nat} {sn gr aw fi sg sp ut ck ad dm de se li wc ip pl : Nat → Int32} {pw : Nat → Int64} {dl : Int32}
theorem gm_xplace {p m a D S : Nat} {ln : Nat → Nat} (H : gm_LB A (gm_co sg p) (gm_co sp p) (gm_co pl p) (gm_co ut p) (ck p) (ad p) (dm p) (de p) (se p) (gm_ro li p) D S ln) (hp : p < 8) (hDa : D ≤ a) (ha : a < S) (ea : ln a = m) {post : Int32 → Prop} (h : post (nI a)) : wpX_placeOf post ((nI P), (nI L), (nI A), (nI T), sn, gr, aw, fi, sg, sp, ut, ck, ad, dm, de, se, li, pw, wc) (nI m) (nI p) := by
  obtain ⟨⟨e1, e2, hDS, hS, hA16⟩, hl, hin, _⟩ := H
  have cp : (nI p).toNatClampNeg = p := nI_clamp (by omega)
  have vp : vp_in (nI p) 8 := vp_in_nI hp (by omega)
  have key : ∀ d i, i + d = a → wX_placeOf_7 post (nI m) (nI p) (nI P) (nI L) (nI A) (nI T) sn gr aw fi sg sp ut ck ad dm de se li pw wc (d + 1) (nI i) := by
    intro d
    induction d with
    | zero =>
      intro i hi
      have e : i = a := by omega
      subst e
      have ci : (nI (p * 16 + i)).toNatClampNeg = p * 16 + i := nI_clamp (by omega)
      refine And.intro vp (br_f ?_ ⟨?_, br_t ?_ h⟩)
      · rw [cp, e2]
        exact nI_ge ha (by omega)
      · rw [gm_ix16]
        exact vp_in_nI (by omega) (by omega)
      · rw [gm_ix16, ci, ← ea]
        exact (hl i ha).1
    | succ d ih =>
      intro i hi
      have ci : (nI (p * 16 + i)).toNatClampNeg = p * 16 + i := nI_clamp (by omega)
      refine And.intro vp (br_f ?_ ⟨?_, br_f ?_ (nm_r (nI_1 i) (ih (i + 1) (by omega)))⟩)
      · rw [cp, e2]
        exact nI_ge (by omega) (by omega)
      · rw [gm_ix16]
        exact vp_in_nI (by omega) (by omega)
      · rw [gm_ix16, ci]
        have t := hl i (by omega)
        have t2 := (hl a ha).2
        intro z
        have t3 : nI (ln i) = nI m := t.1.symm.trans z
        rw [nI_eq (by omega) (by omega), ← ea] at t3
        have := hin i a (by omega) ha t3
        omega
  refine And.intro vp ?_
  rw [cp, e1]
  exact nm_e ⟨a - D + 1, key (a - D) D (by omega)⟩
theorem gm_xearl {x y p : Nat} (hx : x < 16) (hy : y < 16) (hp : p < 8) {post : Int32 → Prop} (h1 : gm_lt (gm_co sp p) x y → post 1) (h0 : ¬ gm_lt (gm_co sp p) x y → post 0) : wpX_earlier post ((nI P), (nI L), (nI A), (nI T), sn, gr, aw, fi, sg, sp, ut, ck, ad, dm, de, se, li, pw, wc) (nI x) (nI y) (nI p) := by
  have cx : (nI (x * 8 + p)).toNatClampNeg = x * 8 + p := nI_clamp (by omega)
  have cy : (nI (y * 8 + p)).toNatClampNeg = y * 8 + p := nI_clamp (by omega)
  have vx : vp_in (nI (x * 8 + p)) 128 := vp_in_nI (by omega) (by omega)
  have vy : vp_in (nI (y * 8 + p)) 128 := vp_in_nI (by omega) (by omega)
  refine And.intro (by rw [gm_ix8]; exact vx) (nm_r (e' := sp (x * 8 + p)) (by rw [gm_ix8, cx]) ⟨by rw [gm_ix8]; exact vy, nm_r (e' := sp (y * 8 + p)) (by rw [gm_ix8, cy]) (br_c (fun z => br_c (fun z2 => h0 ?_) (fun z2 => h1 ?_)) (fun z => br_c (fun z2 => h0 ?_) (fun z2 => h1 ?_)))⟩)
  · rw [nI_leI (by omega) (by omega)] at z2
    unfold gm_lt gm_co
    rw [z]
    omega
  · rw [nI_leI (by omega) (by omega)] at z2
    unfold gm_lt gm_co
    rw [z]
    omega
  · rw [Int32.le_iff_toInt_le] at z2
    rw [← Int32.toInt_inj] at z
    unfold gm_lt gm_co
    omega
  · rw [Int32.le_iff_toInt_le] at z2
    unfold gm_lt gm_co
    omega
theorem gm_xmove {p m S D : Nat} (hp : p < 8) : ∀ d i (li : Nat → Int32) (ln : Nat → Nat), i + d + 1 = S → gm_LB A (gm_co sg p) (gm_co sp p) (gm_co pl p) (gm_co ut p) (ck p) (ad p) (dm p) (de p) (se p) (gm_ro li p) D S ln → gm_Mo (gm_co sp p) D S ln i m →
    ∃ li' ln', (∀ q i, q ≠ p → i < 16 → gm_ro li' q i = gm_ro li q i) ∧ gm_LB A (gm_co sg p) (gm_co sp p) (gm_co pl p) (gm_co ut p) (ck p) (ad p) (dm p) (de p) (se p) (gm_ro li' p) D S ln' ∧ gm_So (gm_co sp p) D S ln' ∧
      ∀ post : SX → Prop, post ((nI P), (nI L), (nI A), (nI T), sn, gr, aw, fi, sg, sp, ut, ck, ad, dm, de, se, (li'), pw, wc) → wX_moveBack_27 post (nI m) (nI p) (nI (p * 16)) (nI (S - 1)) (nI P) (nI L) (nI A) (nI T) (d + 1) (nI i) sn gr aw fi sg sp ut ck ad dm de se li pw wc := by
  intro d
  induction d with
  | zero =>
    intro i li ln hi H M
    have hS := H.1.2.2.2.1
    refine ⟨li, ln, fun _ _ _ _ => rfl, H, gm_Mo_end M H.2.2.1 (fun z => absurd z (by omega)), fun post hpost => ?_⟩
    exact br_t (nI_le (by omega) (by omega)) hpost
  | succ d ih =>
    intro i li ln hi H M
    have hS := H.1.2.2.2.1
    have hA := H.1.2.2.2.2
    have hl := H.2.1
    have hmA : m < A := by rw [← M.2.2.1]; exact (hl i (by omega)).2
    have hfA : ln (i + 1) < A := (hl (i + 1) (by omega)).2
    have e1 : nI (p * 16) + nI i = nI (p * 16 + i) := nI_add _ _
    have e2 : nI (p * 16) + nI i + 1 = nI (p * 16 + (i + 1)) := by rw [e1, nI_1, Nat.add_assoc]
    have c1 : (nI (p * 16 + i)).toNatClampNeg = p * 16 + i := nI_clamp (by omega)
    have c2 : (nI (p * 16 + (i + 1))).toNatClampNeg = p * 16 + (i + 1) := nI_clamp (by omega)
    have v1 : vp_in (nI (p * 16 + i)) 128 := vp_in_nI (by omega) (by omega)
    have v2 : vp_in (nI (p * 16 + (i + 1))) 128 := vp_in_nI (by omega) (by omega)
    have hnl : ¬ nI (S - 1) ≤ nI i := nI_ge (by omega) (by omega)
    have hf : li (nI (p * 16) + nI i + 1).toNatClampNeg = nI (ln (i + 1)) := by
      rw [e2, c2]
      exact (hl (i + 1) (by omega)).1
    by_cases hlt : gm_lt (gm_co sp p) (ln (i + 1)) m
    · have hli : ∀ j, j < S → gm_ro (upd (upd li (p * 16 + i) (nI (ln (i + 1)))) (p * 16 + (i + 1)) (nI m)) p j = nI (gm_sw ln i j) := by
        intro j hj
        unfold gm_ro gm_sw
        by_cases z1 : j = i + 1
        · rw [z1, pk_us, gm_tr_b, M.2.2.1]
        · rw [pk_un (by omega)]
          by_cases z2 : j = i
          · rw [z2, pk_us, gm_tr_a]
          · rw [pk_un (by omega), gm_tr_n z2 z1]
            exact (hl j hj).1
      obtain ⟨li', ln', h1, h2, h3, h4⟩ := ih (i + 1) (upd (upd li (p * 16 + i) (nI (ln (i + 1)))) (p * 16 + (i + 1)) (nI m)) (gm_sw ln i) (by omega) (gm_LB_sw H M.1 (by omega) hli) (gm_Mo_sw M (by omega) hlt)
      refine ⟨li', ln', fun q j hq hj => ?_, h2, h3, fun post hpost => ?_⟩
      · rw [h1 q j hq hj, gm_ro_n hj (by omega) hq, gm_ro_n hj (by omega) hq]
      · refine br_f hnl ⟨by rw [e2]; exact v2, nm_r hf (gm_xearl (by omega) (by omega) hp (fun _ => br_f gm_10 ⟨by rw [e1]; exact v1, nm_r (e' := upd li (p * 16 + i) (nI (ln (i + 1)))) (by rw [e1, c1]) ⟨by rw [e2]; exact v2, nm_r (e' := upd (upd li (p * 16 + i) (nI (ln (i + 1)))) (p * 16 + (i + 1)) (nI m)) (by rw [e2, c2]) (nm_r (nI_1 i) (h4 post hpost))⟩⟩) (fun z => absurd hlt z))⟩
    · refine ⟨li, ln, fun _ _ _ _ => rfl, H, gm_Mo_end M H.2.2.1 (fun _ => hlt), fun post hpost => ?_⟩
      exact br_f hnl ⟨by rw [e2]; exact v2, nm_r hf (gm_xearl (by omega) (by omega) hp (fun z => absurd z hlt) (fun _ => br_t rfl hpost))⟩
/-- X's moveBack -/
theorem gm_xback {p m a D S : Nat} {ln : Nat → Nat} (hp : p < 8) (H : gm_LB A (gm_co sg p) (gm_co sp p) (gm_co pl p) (gm_co ut p) (ck p) (ad p) (dm p) (de p) (se p) (gm_ro li p) D S ln) (M : gm_Mo (gm_co sp p) D S ln a m) :
    ∃ li' ln', (∀ q i, q ≠ p → i < 16 → gm_ro li' q i = gm_ro li q i) ∧ gm_LB A (gm_co sg p) (gm_co sp p) (gm_co pl p) (gm_co ut p) (ck p) (ad p) (dm p) (de p) (se p) (gm_ro li' p) D S ln' ∧ gm_So (gm_co sp p) D S ln' ∧
      ∀ post : SX → Prop, post ((nI P), (nI L), (nI A), (nI T), sn, gr, aw, fi, sg, sp, ut, ck, ad, dm, de, se, (li'), pw, wc) → wpX_moveBack post ((nI P), (nI L), (nI A), (nI T), sn, gr, aw, fi, sg, sp, ut, ck, ad, dm, de, se, li, pw, wc) (nI m) (nI p) := by
  have haS := M.2.1
  have hS := H.1.2.2.2.1
  obtain ⟨li', ln', h1, h2, h3, h4⟩ := gm_xmove (P := P) (L := L) (T := T) (sn := sn) (gr := gr) (aw := aw) (fi := fi) (wc := wc) (pw := pw) hp (S - 1 - a) a li ln (by omega) H M
  refine ⟨li', ln', h1, h2, h3, fun post hpost => ?_⟩
  have cp : (nI p).toNatClampNeg = p := nI_clamp (by omega)
  have ex : nI p * 16 = nI (p * 16) := pk_mul p 16
  have es : se (nI p).toNatClampNeg - 1 = nI (S - 1) := by
    rw [cp, H.1.2.1]
    exact pk_sub (b := 1) (by omega)
  have vp : vp_in (nI p) 8 := vp_in_nI hp (by omega)
  unfold wpX_moveBack
  exact nm_r ex ⟨vp, nm_r es (gm_xplace H hp M.1 haS M.2.2.1 ⟨_, h4 post hpost⟩)⟩
/-- stages that went on from 3 to 4 -/
def gm_adv (f g : Nat → Int32) : Prop := ∀ j, g j = f j ∨ (f j = 3 ∧ g j = 4)
theorem gm_adv_r {f : Nat → Int32} : gm_adv f f := fun _ => Or.inl rfl
theorem gm_adv_u {f g : Nat → Int32} {k : Nat} (h3 : f k = 3) (h : gm_adv (upd f k 4) g) : gm_adv f g := by
  intro j
  by_cases e : j = k
  · subst e
    rcases h j with z | z
    · rw [pk_us] at z
      exact Or.inr ⟨h3, z⟩
    · rw [pk_us] at z
      exact absurd z.1 (by decide)
  · have t := h j
    rw [pk_un e] at t
    exact t
/-- X's deliver loop against Y's learn loop -/
theorem gm_dlv {p S : Nat} {ln : Nat → Nat} (hP : P ≤ 6) (hp : p < P) : ∀ d D (sg ut dm de pl : Nat → Int32) (dl : Int32), D + d = S → gm_LB A (gm_co sg p) (gm_co sp p) (gm_co pl p) (gm_co ut p) (ck p) (ad p) (dm p) (de p) (se p) (gm_ro li p) D S ln → gm_So (gm_co sp p) D S ln →
    ∃ k, ∃ sg' ut' dm' de' pl' : Nat → Int32, gm_LB A (gm_co sg' p) (gm_co sp p) (gm_co pl' p) (gm_co ut' p) (ck p) (ad p) (dm' p) (de' p) (se p) (gm_ro li p) (D + k) S ln ∧ gm_So (gm_co sp p) (D + k) S ln ∧ gm_adv sg sg' ∧
      (∀ q, q < 8 → q ≠ p → gm_co sg' q = gm_co sg q ∧ gm_co ut' q = gm_co ut q ∧ gm_co pl' q = gm_co pl q ∧ dm' q = dm q ∧ de' q = de q) ∧
      (∀ (post : Int32 → SX → Prop) (x : Int32), post (nI (D + k) - x) ((nI P), (nI L), (nI A), (nI T), sn, gr, aw, fi, (sg'), sp, (ut'), ck, ad, (dm'), (de'), se, li, pw, wc) → wX_deliver_9 post (nI p) x (nI P) (nI L) (nI A) (nI T) (d + 1) (nI D) sn gr aw fi sg sp ut ck ad dm de se li pw wc) ∧
      (∀ (post : SY → Prop) (r : Nat), r + d ≤ 16 → post ((nI P), (nI L), (nI A), (dl + nI k), ip, sn, gr, aw, fi, ck, (sg'), sp, (pl')) → wY_learn_44 post (nI p) (nI P) (nI L) (nI A) (d + 1) (nI r) dl ip sn gr aw fi ck sg sp pl) := by
  intro d
  have cp : (nI p).toNatClampNeg = p := nI_clamp (by omega)
  have vp : vp_in (nI p) 8 := vp_in_nI (by omega) (by omega)
  have n16 : ∀ r, r ≤ 16 → ¬ (16 : Int32) < nI r := fun r hr => nI_nlt (a := 16) (b := r) hr (by omega)
  induction d with
  | zero =>
    intro D sg ut dm de pl dl hd H o
    have hS := H.1.2.2.2.1
    have hA := H.1.2.2.2.2
    refine ⟨0, sg, ut, dm, de, pl, H, o, gm_adv_r, fun _ _ _ => ⟨rfl, rfl, rfl, rfl, rfl⟩, fun post x hpost => ?_, fun post r hr hpost => ?_⟩
    · refine And.intro vp (br_t ?_ ⟨vp, ?_⟩)
      · rw [cp, H.1.2.1]
        exact nI_le (by omega) (by omega)
      · rw [cp, H.1.1]
        exact hpost
    · have e0 : dl + nI 0 = dl := Int32.add_zero dl
      rw [e0] at hpost
      exact br_f (n16 r (by omega)) (gm_ynone hP hp hA (gm_LB_none H (by omega)) (br_t gm_m2 hpost))
  | succ d ih =>
    intro D sg ut dm de pl dl hd H o
    have hS := H.1.2.2.2.1
    have hA := H.1.2.2.2.2
    have hmin := gm_LB_min H o (by omega)
    obtain ⟨m, hm⟩ : ∃ m, ln D = m := ⟨_, rfl⟩
    rw [hm] at hmin
    obtain ⟨hmA, hop, hml⟩ := hmin
    have hli : gm_ro li p D = nI m := by rw [← hm]; exact (H.2.1 D (by omega)).1
    have ci : (nI (p * 16 + D)).toNatClampNeg = p * 16 + D := nI_clamp (by omega)
    have vi : vp_in (nI (p * 16 + D)) 128 := vp_in_nI (by omega) (by omega)
    have cm : (nI (m * 8 + p)).toNatClampNeg = m * 8 + p := nI_clamp (by omega)
    have vm : vp_in (nI (m * 8 + p)) 128 := vp_in_nI (by omega) (by omega)
    have hge : ¬ se (nI p).toNatClampNeg ≤ nI D := by
      rw [cp, H.1.2.1]
      exact nI_ge (by omega) (by omega)
    have hlv : li (nI p * 16 + nI D).toNatClampNeg = nI m := by
      rw [gm_ix16, ci]
      exact hli
    by_cases h3 : sg (m * 8 + p) = 3
    · have hdm : ∀ y, y < 32 → (bt (dm p ||| ((1 : Int32) <<< (nI m &&& 31))) y = true ↔ bt (dm p) y = true ∨ y = m) := by
        intro y hy
        rw [gm_seb (dm p) (by omega) hy, Bool.or_eq_true, decide_eq_true_iff]
      have H1 := gm_LB_del H (by omega) hm h3 hdm
      have hct := gm_LB_ct H
      have e1 : gm_co (upd sg (m * 8 + p) 4) p = upd (gm_co sg p) m 4 := gm_co_s
      have e2 : gm_co (upd pl (m * 8 + p) (nI (D + 1))) p = upd (gm_co pl p) m (nI (D + 1)) := gm_co_s
      have e3 : gm_co (upd ut (m * 8 + p) (dm p ||| ((1 : Int32) <<< (nI m &&& 31)))) p = upd (gm_co ut p) m (dm p ||| ((1 : Int32) <<< (nI m &&& 31))) := gm_co_s
      have e4 : upd dm p (dm p ||| ((1 : Int32) <<< (nI m &&& 31))) p = dm p ||| ((1 : Int32) <<< (nI m &&& 31)) := pk_us
      have e5 : upd de p (nI (D + 1)) p = nI (D + 1) := pk_us
      rw [← e1, ← e2, ← e3] at H1
      have H2 : gm_LB A (gm_co (upd sg (m * 8 + p) 4) p) (gm_co sp p) (gm_co (upd pl (m * 8 + p) (nI (D + 1))) p) (gm_co (upd ut (m * 8 + p) (dm p ||| ((1 : Int32) <<< (nI m &&& 31)))) p) (ck p) (ad p) (upd dm p (dm p ||| ((1 : Int32) <<< (nI m &&& 31))) p) (upd de p (nI (D + 1)) p) (se p) (gm_ro li p) (D + 1) S ln := by
        rw [e4, e5]
        exact H1
      obtain ⟨k, sg', ut', dm', de', pl', k1, k2, k3, k4, k5, k6⟩ := ih (D + 1) _ _ _ _ _ (dl + 1) (by omega) H2 (fun i j hi => o i j (by omega))
      refine ⟨k + 1, sg', ut', dm', de', pl', ?_, ?_, gm_adv_u h3 k3, ?_, fun post x hpost => ?_, fun post r hr hpost => ?_⟩
      · rw [show D + (k + 1) = D + 1 + k by omega]
        exact k1
      · rw [show D + (k + 1) = D + 1 + k by omega]
        exact k2
      · intro q hq hqp
        obtain ⟨q1, q2, q3, q4, q5⟩ := k4 q hq hqp
        rw [q1, q2, q3, q4, q5, gm_co_n (by omega) hq hqp, gm_co_n (by omega) hq hqp, gm_co_n (by omega) hq hqp, pk_un hqp, pk_un hqp]
        exact ⟨rfl, rfl, rfl, rfl, rfl⟩
      · have t := k5 post x (by rw [show D + 1 + k = D + (k + 1) by omega]; exact hpost)
        refine And.intro vp (br_f hge ⟨by rw [gm_ix16]; exact vi, nm_r hlv ⟨by rw [gm_ix8]; exact vm, br_t (by rw [gm_ix8, cm]; exact h3) ⟨by rw [gm_ix8]; exact vm, nm_r (e' := upd sg (m * 8 + p) 4) (by rw [gm_ix8, cm]) ⟨vp, vp, nm_r (e' := upd dm p (dm p ||| ((1 : Int32) <<< (nI m &&& 31)))) (by rw [cp]) ⟨vp, by rw [gm_ix8]; exact vm, nm_r (e' := upd ut (m * 8 + p) (dm p ||| ((1 : Int32) <<< (nI m &&& 31)))) (by rw [gm_ix8, cm, cp, pk_us]) ⟨vp, nm_r (e' := upd de p (nI (D + 1))) (by rw [cp, nI_1]) (nm_r (nI_1 D) t)⟩⟩⟩⟩⟩⟩)
      · have ed : dl + 1 + nI k = dl + nI (k + 1) := by
          rw [nI_succ, Int32.add_assoc, Int32.add_comm 1]
        have t := k6 post (r + 1) (by omega) (by rw [ed]; exact hpost)
        refine br_f (n16 r (by omega)) (gm_ynext hP hp hA hmA hop hml (br_f (nI_pos (by omega)) ⟨by rw [gm_ix8]; exact vm, br_t (by rw [gm_ix8, cm]; exact h3) (gm_ycount hP hp hA ⟨by rw [gm_ix8]; exact vm, nm_r (e' := upd pl (m * 8 + p) (nI (D + 1))) (by rw [gm_ix8, cm, hct, nI_1]) ⟨by rw [gm_ix8]; exact vm, nm_r (e' := upd sg (m * 8 + p) 4) (by rw [gm_ix8, cm]) (nm_e (nm_r (nI_1 r) t))⟩⟩)⟩))
    · refine ⟨0, sg, ut, dm, de, pl, H, o, gm_adv_r, fun _ _ _ => ⟨rfl, rfl, rfl, rfl, rfl⟩, fun post x hpost => ?_, fun post r hr hpost => ?_⟩
      · refine And.intro vp (br_f hge ⟨by rw [gm_ix16]; exact vi, nm_r hlv ⟨by rw [gm_ix8]; exact vm, br_f (by rw [gm_ix8, cm]; exact h3) ⟨vp, ?_⟩⟩⟩)
        rw [cp, H.1.1]
        exact hpost
      · have e0 : dl + nI 0 = dl := Int32.add_zero dl
        rw [e0] at hpost
        exact br_f (n16 r (by omega)) (gm_ynext hP hp hA hmA hop hml (br_f (nI_pos (by omega)) ⟨by rw [gm_ix8]; exact vm, br_f (by rw [gm_ix8, cm]; exact h3) hpost⟩))
def gm_ckm (ck : Nat → Int32) (p : Nat) (t : Int32) : Nat → Int32 := if t ≤ ck p then ck else upd ck p t
theorem gm_ckm_n {p q : Nat} {t : Int32} (h : q ≠ p) : gm_ckm ck p t q = ck q := by
  unfold gm_ckm
  split
  · rfl
  · exact pk_un h
theorem gm_ckm_s {p : Nat} {t : Int32} : (ck p).toInt ≤ (gm_ckm ck p t p).toInt ∧ t.toInt ≤ (gm_ckm ck p t p).toInt ∧ ((gm_ckm ck p t p).toInt ≤ (ck p).toInt ∨ (gm_ckm ck p t p).toInt ≤ t.toInt) := by
  unfold gm_ckm
  by_cases h : t ≤ ck p
  · rw [if_pos h]
    rw [Int32.le_iff_toInt_le] at h
    omega
  · rw [if_neg h, pk_us]
    rw [Int32.le_iff_toInt_le] at h
    omega
/-- learn: both sides -/
theorem gm_learn {m p : Nat} {t : Int32} (hP : P ≤ 6) (hp : p < P) (H : gm_AL P A sg sp pl ut ck ad dm de se li) (hm : m < A) (h2 : sg (m * 8 + p) = 2) (ht : (sp (m * 8 + p)).toInt ≤ t.toInt) :
    ∃ r : Int32, ∃ sg' ut' dm' de' li' pl' : Nat → Int32, gm_AL P A sg' (upd sp (m * 8 + p) t) pl' ut' (gm_ckm ck p t) ad dm' de' se li' ∧ gm_adv (upd sg (m * 8 + p) 3) sg' ∧
      (∀ post : Int32 → SX → Prop, post r ((nI P), (nI L), (nI A), (nI T), sn, gr, aw, fi, (sg'), (upd sp (m * 8 + p) t), (ut'), (gm_ckm ck p t), ad, (dm'), (de'), se, (li'), pw, wc) → wpX_learn post ((nI P), (nI L), (nI A), (nI T), sn, gr, aw, fi, sg, sp, ut, ck, ad, dm, de, se, li, pw, wc) (nI m) (nI p) t) ∧
      (∀ post : SY → Prop, post ((nI P), (nI L), (nI A), (dl + r), ip, sn, gr, aw, fi, (gm_ckm ck p t), (sg'), (upd sp (m * 8 + p) t), (pl')) → wpY_learn post ((nI P), (nI L), (nI A), dl, ip, sn, gr, aw, fi, ck, sg, sp, pl) (nI m) (nI p) t) := by
  obtain ⟨D, S, ln, H1, o⟩ := H p hp
  have hS := H1.1.2.2.2.1
  have hDS := H1.1.2.2.1
  have hA := H1.1.2.2.2.2
  obtain ⟨a, H2, M⟩ := gm_LB_learn (ck' := gm_ckm ck p t p) H1 o hm h2 ht gm_ckm_s.1 gm_ckm_s.2.1
  have e1 : gm_co (upd sg (m * 8 + p) 3) p = upd (gm_co sg p) m 3 := gm_co_s
  have e2 : gm_co (upd sp (m * 8 + p) t) p = upd (gm_co sp p) m t := gm_co_s
  rw [← e1, ← e2] at H2
  rw [← e2] at M
  obtain ⟨li', ln', l1, l2, l3, l4⟩ := gm_xback (P := P) (L := L) (T := T) (sn := sn) (gr := gr) (aw := aw) (fi := fi) (wc := wc) (pw := pw) (by omega) H2 M
  obtain ⟨k, sg', ut', dm', de', pl', k1, k2, k3, k4, k5, k6⟩ := gm_dlv (L := L) (T := T) (sn := sn) (gr := gr) (aw := aw) (fi := fi) (wc := wc) (pw := pw) (ip := ip) hP hp (S - D) D _ _ _ _ _ dl (by omega) l2 l3
  have cm : (nI (m * 8 + p)).toNatClampNeg = m * 8 + p := nI_clamp (by omega)
  have vm : vp_in (nI (m * 8 + p)) 128 := vp_in_nI (by omega) (by omega)
  have cp : (nI p).toNatClampNeg = p := nI_clamp (by omega)
  have vp : vp_in (nI p) 8 := vp_in_nI (by omega) (by omega)
  refine ⟨nI k, sg', ut', dm', de', li', pl', ?_, k3, fun post hpost => ?_, fun post hpost => ?_⟩
  · intro q hq
    by_cases e : q = p
    · rw [e]
      exact ⟨D + k, S, ln', k1, k2⟩
    · obtain ⟨q1, q2, q3, q4, q5⟩ := k4 q (by omega) e
      rw [q1, q2, q3, q4, q5, gm_co_n (by omega) (by omega) e, gm_co_n (by omega) (by omega) e, gm_ckm_n e]
      exact gm_LP_li (H q hq) (fun i hi => l1 q i e hi)
  · have hk : nI (D + k) - nI D = nI k := by
      rw [pk_sub (by omega), show D + k - D = k by omega]
    have t3 : ∀ post' : Int32 → SX → Prop, post' (nI k) ((nI P), (nI L), (nI A), (nI T), sn, gr, aw, fi, (sg'), (upd sp (m * 8 + p) t), (ut'), (gm_ckm ck p t), ad, (dm'), (de'), se, (li'), pw, wc) → wpX_deliver post' ((nI P), (nI L), (nI A), (nI T), sn, gr, aw, fi, (upd sg (m * 8 + p) 3), (upd sp (m * 8 + p) t), ut, (gm_ckm ck p t), ad, dm, de, se, (li'), pw, wc) (nI p) := by
      intro post' hpost'
      have t2 := k5 post' (nI D) (by rw [hk]; exact hpost')
      refine And.intro vp ?_
      rw [cp, H1.1.1]
      exact nm_e ⟨_, t2⟩
    have t5 : wX_learn_41 post (nI m) (nI p) (nI P) (nI L) (nI A) (nI T) sn gr aw fi (upd sg (m * 8 + p) 3) (upd sp (m * 8 + p) t) ut (gm_ckm ck p t) ad dm de se li pw wc := l4 _ (t3 _ hpost)
    refine And.intro (by rw [gm_ix8]; exact vm) (nm_r (e' := upd sp (m * 8 + p) t) (by rw [gm_ix8, cm]) ⟨by rw [gm_ix8]; exact vm, nm_r (e' := upd sg (m * 8 + p) 3) (by rw [gm_ix8, cm]) ⟨vp, br_c (fun z => ?_) (fun z => ⟨vp, nm_r (e' := gm_ckm ck p t) ?_ t5⟩)⟩⟩)
    · rw [cp] at z
      have e : gm_ckm ck p t = ck := if_pos z
      rw [e] at t5
      exact t5
    · rw [cp] at z
      rw [cp]
      exact (if_neg z).symm
  · have t2 := k6 post 0 (by omega) hpost
    refine And.intro (by rw [gm_ix8]; exact vm) (nm_r (e' := upd sp (m * 8 + p) t) (by rw [gm_ix8, cm]) ⟨by rw [gm_ix8]; exact vm, nm_r (e' := upd sg (m * 8 + p) 3) (by rw [gm_ix8, cm]) ⟨vp, br_c (fun z => ?_) (fun z => ⟨vp, nm_r (e' := gm_ckm ck p t) ?_ ⟨_, t2⟩⟩)⟩⟩)
    · rw [cp] at z
      have e : gm_ckm ck p t = ck := if_pos z
      rw [e] at t2
      exact ⟨_, t2⟩
    · rw [cp] at z
      rw [cp]
      exact (if_neg z).symm
end
end
section
/-! the pool: put, take, send -/
theorem gm_B_upd {pw : Nat → Int64} {c : Nat} {v : Bool} {x : Int64} (h : ∀ i, i < 64 → gm_tb x i = gm_bu (gm_tb (pw (c / 64))) (c % 64) v i) : gm_B (vp_updL pw (c / 64) x) = gm_bu (gm_B pw) c v := by
  funext i
  by_cases e : i / 64 = c / 64
  · have t : gm_B (vp_updL pw (c / 64) x) i = gm_tb x (i % 64) := by
      unfold gm_B
      rw [e, pk_uLs]
    rw [t, h (i % 64) (Nat.mod_lt _ (by decide))]
    by_cases e2 : i = c
    · subst e2
      rw [gm_bu_s, gm_bu_s]
    · rw [gm_bu_n (show i % 64 ≠ c % 64 by omega), gm_bu_n e2]
      unfold gm_B
      rw [e]
  · have t : gm_B (vp_updL pw (c / 64) x) i = gm_B pw i := by
      unfold gm_B
      rw [pk_uLn e]
    rw [t, gm_bu_n (fun z => e (by rw [z]))]
theorem gm_W_set {T c : Nat} {pw : Nat → Int64} {wc ip : Nat → Int32} {x : Int64} (W : gm_W T pw wc ip) (hc : c < 512) (hb : gm_B pw c = false) (hx : ∀ i, i < 64 → gm_tb x i = gm_bu (gm_tb (pw (c / 64))) (c % 64) true i) :
    gm_W (T + 1) (vp_updL pw (c / 64) x) (upd wc (c / 64) (wc (c / 64) + 1)) (upd ip c 1) := by
  obtain ⟨W1, W2, W3⟩ := W
  have eB := gm_B_upd hx
  refine ⟨fun i hi => ?_, fun w hw => ?_, ?_⟩
  · rw [eB]
    by_cases e : i = c
    · subst e
      rw [pk_us, gm_bu_s]
      exact ⟨fun z => absurd z (by decide), fun z => (nomatch z)⟩
    · rw [pk_un e, gm_bu_n e]
      exact W1 i hi
  · by_cases e : w = c / 64
    · subst e
      rw [pk_us, pk_uLs, W2 _ hw, nI_1, gm_ct_congr 64 hx, gm_ct_set (Nat.mod_lt _ (by decide)) hb]
    · rw [pk_un e, pk_uLn e]
      exact W2 w hw
  · rw [eB, gm_ct_set hc hb, W3]
theorem gm_W_clr {T c : Nat} {pw : Nat → Int64} {wc ip : Nat → Int32} {x : Int64} (W : gm_W (T + 1) pw wc ip) (hc : c < 512) (hb : gm_B pw c = true) (hx : ∀ i, i < 64 → gm_tb x i = gm_bu (gm_tb (pw (c / 64))) (c % 64) false i) :
    gm_W T (vp_updL pw (c / 64) x) (upd wc (c / 64) (wc (c / 64) - 1)) (upd ip c 0) := by
  obtain ⟨W1, W2, W3⟩ := W
  have eB := gm_B_upd hx
  refine ⟨fun i hi => ?_, fun w hw => ?_, ?_⟩
  · rw [eB]
    by_cases e : i = c
    · subst e
      rw [pk_us, gm_bu_s]
      exact ⟨fun _ => rfl, fun _ => rfl⟩
    · rw [pk_un e, gm_bu_n e]
      exact W1 i hi
  · by_cases e : w = c / 64
    · subst e
      have t := gm_ct_clr (B := gm_tb (pw (c / 64))) (c := c % 64) (n := 64) (Nat.mod_lt _ (by decide)) hb
      rw [pk_us, pk_uLs, W2 _ hw, gm_ct_congr 64 hx, ← t]
      exact nI_pred _
    · rw [pk_un e, pk_uLn e]
      exact W2 w hw
  · have t := gm_ct_clr hc hb
    rw [eB]
    omega
theorem gm_W_same {T c : Nat} {pw : Nat → Int64} {wc ip : Nat → Int32} (W : gm_W T pw wc ip) (hc : c < 512) (hb : gm_B pw c = true) : gm_W T pw wc (upd ip c 1) := by
  obtain ⟨W1, W2, W3⟩ := W
  refine ⟨fun i hi => ?_, W2, W3⟩
  by_cases e : i = c
  · subst e
    rw [pk_us, hb]
    exact ⟨fun z => absurd z (by decide), fun z => (nomatch z)⟩
  · rw [pk_un e]
    exact W1 i hi
theorem gm_W_pos {T c : Nat} {pw : Nat → Int64} {wc ip : Nat → Int32} (W : gm_W T pw wc ip) (hc : c < 512) (hb : gm_B pw c = true) : ∃ T', T = T' + 1 := by
  have t := gm_ct_clr hc hb
  have t2 := W.2.2
  exact ⟨T - 1, by omega⟩
theorem gm_W_lt {T : Nat} {pw : Nat → Int64} {wc ip : Nat → Int32} (W : gm_W T pw wc ip) : T ≤ 512 := by
  rw [W.2.2]
  exact gm_ct_le _ _
theorem gm_W_in {T c : Nat} {pw : Nat → Int64} {wc ip : Nat → Int32} (W : gm_W T pw wc ip) (hc : c < 512) (h : ip c ≠ 0) : gm_B pw c = true := by
  cases hh : gm_B pw c with
  | true => rfl
  | false => exact absurd ((W.1 c hc).mpr hh) h
theorem gm_W_in' {T c : Nat} {pw : Nat → Int64} {wc ip : Nat → Int32} (W : gm_W T pw wc ip) (hc : c < 512) (h : gm_B pw c = true) : ip c ≠ 0 := by
  intro z
  have t := (W.1 c hc).mp z
  rw [h] at t
  exact (nomatch t)
/-- the items that a sending lays -/
def gm_sd (k m : Nat) (O : Nat → Bool) : Nat → (Nat → Int32) → (Nat → Int32)
  | 0, f => f
  | q + 1, f => if O q = true then upd (gm_sd k m O q f) (k * 128 + m * 8 + q) 1 else gm_sd k m O q f
theorem gm_sd_t {k m q : Nat} {O : Nat → Bool} {f : Nat → Int32} (h : O q = true) : gm_sd k m O (q + 1) f = upd (gm_sd k m O q f) (k * 128 + m * 8 + q) 1 := if_pos h
theorem gm_sd_f {k m q : Nat} {O : Nat → Bool} {f : Nat → Int32} (h : O q = false) : gm_sd k m O (q + 1) f = gm_sd k m O q f := if_neg (by rw [h]; decide)
theorem gm_sd_in {k m : Nat} {O : Nat → Bool} {f : Nat → Int32} {c : Nat} : ∀ n, gm_sd k m O n f c ≠ 0 → f c ≠ 0 ∨ ∃ q, q < n ∧ O q = true ∧ c = k * 128 + m * 8 + q := by
  intro n
  induction n with
  | zero => intro h; exact Or.inl h
  | succ n ih =>
    intro h
    cases ho : O n with
    | false =>
      rw [gm_sd_f ho] at h
      rcases ih h with z | ⟨q, h1, h2⟩
      · exact Or.inl z
      · exact Or.inr ⟨q, by omega, h2⟩
    | true =>
      rw [gm_sd_t ho] at h
      by_cases e : c = k * 128 + m * 8 + n
      · exact Or.inr ⟨n, by omega, ho, e⟩
      · rw [pk_un e] at h
        rcases ih h with z | ⟨q, h1, h2⟩
        · exact Or.inl z
        · exact Or.inr ⟨q, by omega, h2⟩
section
variable {P L A T : Nat} {sn gr aw fi sg sp ut ck ad dm de se li wc ip pl : Nat → Int32} {pw : Nat → Int64} {dl : Int32}
theorem gm_xcode {post : Int32 → Prop} {k m p : Nat} (h : post (nI (k * 128 + m * 8 + p))) : wpX_codeOf post ((nI P), (nI L), (nI A), (nI T), sn, gr, aw, fi, sg, sp, ut, ck, ad, dm, de, se, li, pw, wc) (nI k) (nI m) (nI p) := by
  show post (nI k * 128 + nI m * 8 + nI p)
  rw [gm_cd]
  exact h
theorem gm_e6 {c : Nat} (hc : c < 512) : nI c >>> ((6 : Int32) &&& 31) = nI (c / 64) := pk_shrN (by omega) _ 6 (by decide)
theorem gm_e63 {c : Nat} (hc : c < 512) : nI c &&& 63 = nI (c % 64) := pk_andN (by omega) 6 (by decide)
theorem gm_xin {post : Int32 → Prop} {c : Nat} (hc : c < 512) (h1 : gm_B pw c = true → post 1) (h0 : gm_B pw c = false → post 0) : wpX_inPool post ((nI P), (nI L), (nI A), (nI T), sn, gr, aw, fi, sg, sp, ut, ck, ad, dm, de, se, li, pw, wc) (nI c) := by
  have e6 := gm_e6 hc
  have e63 := gm_e63 hc
  have cl : (nI (c / 64)).toNatClampNeg = c / 64 := nI_clamp (by omega)
  have h64 : c % 64 < 64 := Nat.mod_lt _ (by decide)
  refine And.intro (by rw [e6]; exact vp_in_nI (by omega) (by omega)) (br_c (fun z => h0 ?_) (fun z => h1 ?_))
  · rw [e6, cl, e63, gm_L_t _ h64] at z
    exact z
  · rw [e6, cl, e63, gm_L_t _ h64] at z
    unfold gm_B
    cases hh : gm_tb (pw (c / 64)) (c % 64) with
    | true => rfl
    | false => exact absurd hh z
theorem gm_xput {c : Nat} (hc : c < 512) (W : gm_W T pw wc ip) : ∃ T' pw' wc', gm_W T' pw' wc' (upd ip c 1) ∧ ∀ post : SX → Prop, post ((nI P), (nI L), (nI A), (nI T'), sn, gr, aw, fi, sg, sp, ut, ck, ad, dm, de, se, li, (pw'), (wc')) → wpX_put post ((nI P), (nI L), (nI A), (nI T), sn, gr, aw, fi, sg, sp, ut, ck, ad, dm, de, se, li, pw, wc) (nI c) := by
  have e6 := gm_e6 hc
  have e63 := gm_e63 hc
  have cl : (nI (c / 64)).toNatClampNeg = c / 64 := nI_clamp (by omega)
  have v8 : vp_in (nI (c / 64)) 8 := vp_in_nI (by omega) (by omega)
  have h64 : c % 64 < 64 := Nat.mod_lt _ (by decide)
  cases hb : gm_B pw c with
  | true =>
    refine ⟨T, pw, wc, gm_W_same W hc hb, fun post h => ?_⟩
    unfold wpX_put
    refine gm_xin hc (fun _ => ?_) (fun z => absurd (hb.symm.trans z) (by decide))
    exact br_f gm_10 h
  | false =>
    refine ⟨T + 1, vp_updL pw (c / 64) (pw (c / 64) ||| ((1 : Int64) <<< ((nI (c % 64)).toInt64 &&& 63))), upd wc (c / 64) (wc (c / 64) + 1), gm_W_set W hc hb (fun i hi => ?_), fun post h => ?_⟩
    · rw [gm_L_set _ h64 hi]
      unfold gm_bu
      by_cases e : i = c % 64
      · rw [if_pos e, decide_eq_true e, Bool.or_true]
      · rw [if_neg e, decide_eq_false e, Bool.or_false]
    · unfold wpX_put
      refine gm_xin hc (fun z => absurd (hb.symm.trans z) (by decide)) (fun _ => ?_)
      exact br_t rfl (nm_r e6 ⟨v8, v8, nm_r (by rw [cl, e63]) ⟨v8, v8, nm_r (by rw [cl]) (nm_r (nI_1 T) h)⟩⟩)
theorem gm_xtake {c : Nat} (hc : c < 512) (W : gm_W T pw wc ip) (hb : gm_B pw c = true) : ∃ T' pw' wc', gm_W T' pw' wc' (upd ip c 0) ∧ ∀ post : SX → Prop, post ((nI P), (nI L), (nI A), (nI T'), sn, gr, aw, fi, sg, sp, ut, ck, ad, dm, de, se, li, (pw'), (wc')) → wpX_take post ((nI P), (nI L), (nI A), (nI T), sn, gr, aw, fi, sg, sp, ut, ck, ad, dm, de, se, li, pw, wc) (nI c) := by
  have e6 := gm_e6 hc
  have e63 := gm_e63 hc
  have cl : (nI (c / 64)).toNatClampNeg = c / 64 := nI_clamp (by omega)
  have v8 : vp_in (nI (c / 64)) 8 := vp_in_nI (by omega) (by omega)
  have h64 : c % 64 < 64 := Nat.mod_lt _ (by decide)
  obtain ⟨T', rfl⟩ := gm_W_pos W hc hb
  refine ⟨T', vp_updL pw (c / 64) (pw (c / 64) &&& (((1 : Int64) <<< ((nI (c % 64)).toInt64 &&& 63)) ^^^ (-1))), upd wc (c / 64) (wc (c / 64) - 1), gm_W_clr W hc hb (fun i hi => ?_), fun post h => ?_⟩
  · rw [gm_L_clr _ h64 hi]
    unfold gm_bu
    by_cases e : i = c % 64
    · rw [if_pos e, decide_eq_true e]
      simp
    · rw [if_neg e, decide_eq_false e]
      simp
  · unfold wpX_take
    refine gm_xin hc (fun _ => ?_) (fun z => absurd (hb.symm.trans z) (by decide))
    exact br_f gm_10 (nm_r e6 ⟨v8, v8, nm_r (by rw [cl, e63]) ⟨v8, v8, nm_r (by rw [cl]) (nm_r (nI_pred T') h)⟩⟩)
theorem gm_nb1 : vp_nar .boolean 1 = 1 := rfl
theorem gm_nb0 : vp_nar .boolean 0 = 0 := rfl
/-- Y's sendAll -/
theorem gm_ysend {k m s : Nat} (hk : k < 4) (hm : m < 16) (hP : P ≤ 6) (hs : s < 8) (hsn : sn m = nI s) (hg : ∀ q, q < P → (sg (m * 8 + q) = 0 ↔ bt (gr m) q = false)) {post : SY → Prop} (h : post ((nI P), (nI L), (nI A), dl, (gm_sd k m (fun q => bt (gr m) q && !decide (q = s)) P ip), sn, gr, aw, fi, ck, sg, sp, pl)) : wpY_sendAll post ((nI P), (nI L), (nI A), dl, ip, sn, gr, aw, fi, ck, sg, sp, pl) (nI k) (nI m) := by
  have cm : (nI m).toNatClampNeg = m := nI_clamp (by omega)
  have vm : vp_in (nI m) 16 := vp_in_nI hm (by omega)
  have key : ∀ d q, q + d = P → wY_sendAll_2 post (nI k) (nI m) (nI P) (nI L) (nI A) dl (d + 1) (nI q) (gm_sd k m (fun q => bt (gr m) q && !decide (q = s)) q ip) sn gr aw fi ck sg sp pl := by
    intro d
    induction d with
    | zero =>
      intro q hq
      have e : q = P := by omega
      subst e
      exact br_t (nI_le (Nat.le_refl _) (by omega)) h
    | succ d ih =>
      intro q hq
      have t := ih (q + 1) (by omega)
      have cq : (nI (m * 8 + q)).toNatClampNeg = m * 8 + q := nI_clamp (by omega)
      have vq : vp_in (nI (m * 8 + q)) 128 := vp_in_nI (by omega) (by omega)
      have cc : (nI (k * 128 + m * 8 + q)).toNatClampNeg = k * 128 + m * 8 + q := nI_clamp (by omega)
      have vc : vp_in (nI (k * 128 + m * 8 + q)) 512 := vp_in_nI (by omega) (by omega)
      have hgq := hg q (by omega)
      refine br_f (nI_ge (by omega) (by omega)) ⟨vm, br_c (fun z => ?_) (fun z => ⟨by rw [gm_ix8]; exact vq, br_c (fun z2 => ?_) (fun z2 => ⟨by rw [gm_cd]; exact vc, ?_⟩)⟩)⟩
      · rw [cm, hsn, nI_eq (by omega) (by omega)] at z
        rw [gm_sd_f (by simp [z])] at t
        exact nm_r (nI_1 q) t
      · rw [gm_ix8, cq] at z2
        rw [gm_sd_f (by simp [hgq.mp z2])] at t
        exact nm_r (nI_1 q) t
      · rw [cm, hsn, nI_eq (by omega) (by omega)] at z
        rw [gm_ix8, cq] at z2
        have hbt : bt (gr m) q = true := by
          cases hh : bt (gr m) q with
          | true => rfl
          | false => exact absurd (hgq.mpr hh) z2
        rw [gm_sd_t (by simp [hbt, z])] at t
        exact nm_r (by rw [gm_cd, cc, gm_nb1]) (nm_r (nI_1 q) t)
  exact Exists.intro (P + 1) (key P 0 (by omega))
/-- X's sendToOthers -/
theorem gm_xsend {k m s : Nat} (hk : k < 4) (hm : m < 16) (hP : P ≤ 6) (hs : s < 8) (hsn : sn m = nI s) (W : gm_W T pw wc ip) : ∃ T' pw' wc', gm_W T' pw' wc' (gm_sd k m (fun q => bt (gr m) q && !decide (q = s)) P ip) ∧ ∀ post : SX → Prop, post ((nI P), (nI L), (nI A), (nI T'), sn, gr, aw, fi, sg, sp, ut, ck, ad, dm, de, se, li, (pw'), (wc')) → wpX_sendToOthers post ((nI P), (nI L), (nI A), (nI T), sn, gr, aw, fi, sg, sp, ut, ck, ad, dm, de, se, li, pw, wc) (nI k) (nI m) := by
  have cm : (nI m).toNatClampNeg = m := nI_clamp (by omega)
  have vm : vp_in (nI m) 16 := vp_in_nI hm (by omega)
  have key : ∀ d q T pw wc, q + d = P → gm_W T pw wc (gm_sd k m (fun q => bt (gr m) q && !decide (q = s)) q ip) → ∃ T' pw' wc', gm_W T' pw' wc' (gm_sd k m (fun q => bt (gr m) q && !decide (q = s)) P ip) ∧ ∀ post : SX → Prop, post ((nI P), (nI L), (nI A), (nI T'), sn, gr, aw, fi, sg, sp, ut, ck, ad, dm, de, se, li, (pw'), (wc')) → wX_sendToOthers_21 post (nI k) (nI m) (gr m &&& (((1 : Int32) <<< (nI s &&& 31)) ^^^ (-1))) (d + 1) (nI q) (nI P) (nI L) (nI A) (nI T) sn gr aw fi sg sp ut ck ad dm de se li pw wc := by
    intro d
    induction d with
    | zero =>
      intro q T pw wc hq W
      have e : q = P := by omega
      subst e
      exact ⟨T, pw, wc, W, fun post h => br_t (nI_le (Nat.le_refl _) (by omega)) h⟩
    | succ d ih =>
      intro q T pw wc hq W
      have hbq := gm_clr (gr m) (q := s) (i := q) (by omega) (by omega)
      have hnl : ¬ nI P ≤ nI q := nI_ge (by omega) (by omega)
      cases ho : (bt (gr m) q && !decide (q = s)) with
      | false =>
        obtain ⟨T', pw', wc', h1, h2⟩ := ih (q + 1) T pw wc (by omega) (by rw [gm_sd_f ho]; exact W)
        exact ⟨T', pw', wc', h1, fun post h => br_f hnl (br_t ((gm_tx _ (by omega)).mpr (hbq.trans ho)) (nm_r (nI_1 q) (h2 post h)))⟩
      | true =>
        obtain ⟨T1, pw1, wc1, h3, h4⟩ := gm_xput (P := P) (L := L) (A := A) (sn := sn) (gr := gr) (aw := aw) (fi := fi) (sg := sg) (sp := sp) (ut := ut) (ck := ck) (ad := ad) (dm := dm) (de := de) (se := se) (li := li) (c := k * 128 + m * 8 + q) (by omega) W
        obtain ⟨T', pw', wc', h1, h2⟩ := ih (q + 1) T1 pw1 wc1 (by omega) (by rw [gm_sd_t ho]; exact h3)
        refine ⟨T', pw', wc', h1, fun post h => br_f hnl (br_f (fun z => ?_) (gm_xcode (h4 _ (nm_r (nI_1 q) (h2 post h)))))⟩
        rw [gm_tx _ (by omega), hbq, ho] at z
        exact (nomatch z)
  obtain ⟨T', pw', wc', h1, h2⟩ := key P 0 T pw wc (by omega) W
  refine ⟨T', pw', wc', h1, fun post h => ?_⟩
  exact And.intro vm ⟨vm, nm_r (by rw [cm, hsn]) ⟨P + 1, h2 post h⟩⟩
end
end
section
/-! messages and items: what holds between calls; x is the message about to be decided (16: none) -/
def gm_M (x P A : Nat) (sn gr aw fi sg sp : Nat → Int32) : Prop :=
  (∀ m, m < A → ∃ s, s < P ∧ sn m = nI s ∧ ((aw m ≠ 0 ∨ m = x) → sg (m * 8 + s) = 2)) ∧
  (∀ m q, m < A → q < P → (sg (m * 8 + q) = 0 ↔ bt (gr m) q = false)) ∧
  (∀ m q, m < A → q < P → sg (m * 8 + q) = 1 → bt (aw m) q = true) ∧
  (∀ m q, m < A → q < P → m ≠ x → aw m = 0 → (sp (m * 8 + q)).toInt ≤ (fi m).toInt) ∧
  (∀ m, m < 16 → (A ≤ m ∨ aw m ≠ 0 ∨ m = x) → fi m = 0)
def gm_Q (P A : Nat) (aw sg ip : Nat → Int32) : Prop :=
  (∀ c, c < 512 → ip c ≠ 0 → 128 ≤ c ∧ c / 8 % 16 < A ∧ c % 8 < P) ∧
  (∀ m p, m < A → p < P → ip (2 * 128 + m * 8 + p) ≠ 0 → sg (m * 8 + p) ≠ 1) ∧
  (∀ m p, m < A → p < P → ip (3 * 128 + m * 8 + p) ≠ 0 → aw m = 0)
def gm_K (B P : Nat) (ck fi sp : Nat → Int32) : Prop :=
  (∀ p, p < P → (ck p).toInt ≤ (B : Int)) ∧ (∀ m, m < 16 → (fi m).toInt ≤ (B : Int)) ∧ (∀ m p, m < 16 → p < P → (sp (m * 8 + p)).toInt ≤ (B : Int))
def gm_I (x B P L A T : Nat) (sn gr aw fi sg sp ut ck ad dm de se li : Nat → Int32) (pw : Nat → Int64) (wc ip pl : Nat → Int32) : Prop :=
  (2 ≤ P ∧ P ≤ 6 ∧ A ≤ L ∧ L ≤ 16) ∧ gm_AL P A sg sp pl ut ck ad dm de se li ∧ gm_M x P A sn gr aw fi sg sp ∧ gm_Q P A aw sg ip ∧ gm_K B P ck fi sp ∧ gm_W T pw wc ip
theorem gm_bt0 {x : Int32} {q : Nat} (h : bt x q = true) : x ≠ 0 := by
  intro z
  rw [z, b_0] at h
  exact (nomatch h)
theorem gm_adv_eq {f g : Nat → Int32} (h : gm_adv f g) {j : Nat} {v : Int32} (h3 : v ≠ 3) (h4 : v ≠ 4) : g j = v ↔ f j = v := by
  rcases h j with z | ⟨z1, z2⟩
  · rw [z]
  · rw [z1, z2]
    exact ⟨fun e => absurd e.symm h4, fun e => absurd e.symm h3⟩
section
variable {x B P L A T : Nat} {sn gr aw fi sg sp ut ck ad dm de se li wc ip pl sg' : Nat → Int32} {pw : Nat → Int64} {dl : Int32}
theorem gm_K_up {B' : Nat} (K : gm_K B P ck fi sp) (h : B ≤ B') : gm_K B' P ck fi sp := by
  obtain ⟨h1, h2, h3⟩ := K
  refine ⟨fun p hp => ?_, fun m hm => ?_, fun m p hm hp => ?_⟩
  · have := h1 p hp; omega
  · have := h2 m hm; omega
  · have := h3 m p hm hp; omega
theorem gm_I_up {B' : Nat} (h : gm_I x B P L A T sn gr aw fi sg sp ut ck ad dm de se li pw wc ip pl) (hB : B ≤ B') : gm_I x B' P L A T sn gr aw fi sg sp ut ck ad dm de se li pw wc ip pl := by
  obtain ⟨h1, h2, h3, h4, h5, h6⟩ := h
  exact ⟨h1, h2, h3, h4, gm_K_up h5 hB, h6⟩
/-- messages behind learn -/
theorem gm_M_learn {m p : Nat} {t : Int32} (M : gm_M x P A sn gr aw fi sg sp) (hx : x = m ∨ x = 16) (hP : P ≤ 6) (hA : A ≤ 16) (hm : m < A) (hp : p < P) (h2 : sg (m * 8 + p) = 2) (ha : aw m = 0) (ht : ∀ q, q < P → (sp (m * 8 + q)).toInt ≤ t.toInt) (hv : gm_adv (upd sg (m * 8 + p) 3) sg') : gm_M 16 P A sn gr aw (upd fi m t) sg' (upd sp (m * 8 + p) t) := by
  obtain ⟨M1, M2, M3, M4, M5⟩ := M
  refine ⟨fun m' hm' => ?_, fun m' q hm' hq => ?_, fun m' q hm' hq h1 => ?_, fun m' q hm' hq _ h0 => ?_, fun m' hm' h => ?_⟩
  · obtain ⟨s, s1, s2, s3⟩ := M1 m' hm'
    refine ⟨s, s1, s2, fun h => ?_⟩
    have h0 : aw m' ≠ 0 := by
      rcases h with h | h
      · exact h
      · omega
    have hne : m' ≠ m := fun z => h0 (by rw [z]; exact ha)
    rw [gm_adv_eq hv (by decide) (by decide), pk_un (by omega)]
    exact s3 (Or.inl h0)
  · rw [gm_adv_eq hv (by decide) (by decide), ← M2 m' q hm' hq]
    by_cases e : m' * 8 + q = m * 8 + p
    · rw [e, pk_us, h2]
      exact ⟨fun z => absurd z (by decide), fun z => absurd z (by decide)⟩
    · rw [pk_un e]
  · rw [gm_adv_eq hv (by decide) (by decide)] at h1
    by_cases e : m' * 8 + q = m * 8 + p
    · rw [e, pk_us] at h1
      exact absurd h1 (by decide)
    · rw [pk_un e] at h1
      exact M3 m' q hm' hq h1
  · by_cases e : m' = m
    · subst e
      rw [pk_us]
      by_cases e2 : q = p
      · rw [e2, pk_us]
        exact Int.le_refl _
      · rw [pk_un (by omega)]
        exact ht q hq
    · rw [pk_un e, pk_un (by omega)]
      exact M4 m' q hm' hq (by omega) h0
  · by_cases e : m' = m
    · subst e
      rcases h with h | h | h
      · omega
      · exact absurd ha h
      · omega
    · rw [pk_un e]
      refine M5 m' hm' ?_
      rcases h with h | h | h
      · exact Or.inl h
      · exact Or.inr (Or.inl h)
      · omega
theorem gm_Q_adv {m p : Nat} (Q : gm_Q P A aw sg ip) (hv : gm_adv (upd sg (m * 8 + p) 3) sg') : gm_Q P A aw sg' ip := by
  obtain ⟨Q1, Q2, Q3⟩ := Q
  refine ⟨Q1, fun m' q hm' hq h h1 => ?_, Q3⟩
  rw [gm_adv_eq hv (by decide) (by decide)] at h1
  by_cases e : m' * 8 + q = m * 8 + p
  · rw [e, pk_us] at h1
    exact absurd h1 (by decide)
  · rw [pk_un e] at h1
    exact Q2 m' q hm' hq h h1
theorem gm_Q_send {k m : Nat} {O : Nat → Bool} (Q : gm_Q P A aw sg ip) (hk : k = 1 ∨ k = 3) (hP : P ≤ 6) (hA : A ≤ 16) (hm : m < A) (h3 : k = 3 → aw m = 0) : gm_Q P A aw sg (gm_sd k m O P ip) := by
  obtain ⟨Q1, Q2, Q3⟩ := Q
  refine ⟨fun c hc h => ?_, fun m' q hm' hq h => ?_, fun m' q hm' hq h => ?_⟩
  · rcases gm_sd_in P h with z | ⟨q, hq, _, e⟩
    · exact Q1 c hc z
    · omega
  · rcases gm_sd_in P h with z | ⟨q', hq', _, e⟩
    · exact Q2 m' q hm' hq z
    · omega
  · rcases gm_sd_in P h with z | ⟨q', hq', _, e⟩
    · exact Q3 m' q hm' hq z
    · have : m' = m := by omega
      rw [this]
      exact h3 (by omega)
theorem gm_K_learn {m p : Nat} {t : Int32} (K : gm_K B P ck fi sp) (hm : m < 16) (hP : P ≤ 6) (hp : p < P) (ht : t.toInt ≤ (B : Int)) : gm_K B P (gm_ckm ck p t) (upd fi m t) (upd sp (m * 8 + p) t) := by
  obtain ⟨K1, K2, K3⟩ := K
  refine ⟨fun q hq => ?_, fun m' hm' => ?_, fun m' q hm' hq => ?_⟩
  · by_cases e : q = p
    · rw [e]
      have t1 := gm_ckm_s (ck := ck) (p := p) (t := t)
      have t2 := K1 p hp
      omega
    · rw [gm_ckm_n e]
      exact K1 q hq
  · by_cases e : m' = m
    · rw [e, pk_us]
      exact ht
    · rw [pk_un e]
      exact K2 m' hm'
  · by_cases e : m' * 8 + q = m * 8 + p
    · rw [e, pk_us]
      exact ht
    · rw [pk_un e]
      exact K3 m' q hm' hq
/-! the greatest stamp -/
def gm_gx (sp : Nat → Int32) (m : Nat) : Nat → Int32
  | 0 => 0
  | q + 1 => if sp (m * 8 + q) ≤ gm_gx sp m q then gm_gx sp m q else sp (m * 8 + q)
theorem gm_gx_t {m q : Nat} (h : sp (m * 8 + q) ≤ gm_gx sp m q) : gm_gx sp m (q + 1) = gm_gx sp m q := if_pos h
theorem gm_gx_f {m q : Nat} (h : ¬ sp (m * 8 + q) ≤ gm_gx sp m q) : gm_gx sp m (q + 1) = sp (m * 8 + q) := if_neg h
theorem gm_gx_ge {m : Nat} : ∀ n q, q < n → (sp (m * 8 + q)).toInt ≤ (gm_gx sp m n).toInt := by
  intro n
  induction n with
  | zero => intro q hq; omega
  | succ n ih =>
    intro q hq
    by_cases h : sp (m * 8 + n) ≤ gm_gx sp m n
    · rw [gm_gx_t h]
      by_cases e : q = n
      · rw [e]
        exact Int32.le_iff_toInt_le.mp h
      · exact ih q (by omega)
    · rw [gm_gx_f h]
      by_cases e : q = n
      · rw [e]
        exact Int.le_refl _
      · have t := ih q (by omega)
        rw [Int32.le_iff_toInt_le] at h
        omega
theorem gm_gx_le {m : Nat} : ∀ n, (∀ q, q < n → (sp (m * 8 + q)).toInt ≤ (B : Int)) → (gm_gx sp m n).toInt ≤ (B : Int) := by
  intro n
  induction n with
  | zero =>
    intro _
    show (0 : Int32).toInt ≤ (B : Int)
    rw [show (0 : Int32).toInt = 0 from by decide]
    omega
  | succ n ih =>
    intro h
    by_cases z : sp (m * 8 + n) ≤ gm_gx sp m n
    · rw [gm_gx_t z]
      exact ih (fun q hq => h q (by omega))
    · rw [gm_gx_f z]
      exact h n (by omega)
theorem gm_uu {f : Nat → Int32} {k : Nat} {x y : Int32} : upd (upd f k x) k y = upd f k y := by
  funext j
  unfold upd
  split <;> rfl
/-- decide: both sides -/
theorem gm_decide {m : Nat} (I : gm_I m B P L A T sn gr aw fi sg sp ut ck ad dm de se li pw wc ip pl) (hm : m < A) (ha : aw m = 0) :
    ∃ (r : Int32) (T' : Nat) (fi' sg' sp' ut' ck' dm' de' li' : Nat → Int32) (pw' : Nat → Int64) (wc' ip' pl' : Nat → Int32),
      gm_I 16 B P L A T' sn gr aw (fi') (sg') (sp') (ut') (ck') ad (dm') (de') se (li') (pw') (wc') (ip') (pl') ∧
      (∀ post : Int32 → SX → Prop, post r ((nI P), (nI L), (nI A), (nI T'), sn, gr, aw, (fi'), (sg'), (sp'), (ut'), (ck'), ad, (dm'), (de'), se, (li'), (pw'), (wc')) → wpX_decide post ((nI P), (nI L), (nI A), (nI T), sn, gr, aw, fi, sg, sp, ut, ck, ad, dm, de, se, li, pw, wc) (nI m)) ∧
      (∀ post : SY → Prop, post ((nI P), (nI L), (nI A), (dl + r), (ip'), sn, gr, aw, (fi'), (ck'), (sg'), (sp'), (pl')) → wpY_decide post ((nI P), (nI L), (nI A), dl, ip, sn, gr, aw, fi, ck, sg, sp, pl) (nI m)) := by
  obtain ⟨⟨hP2, hP, hAL, hL⟩, H, M, Q, K, W⟩ := I
  obtain ⟨s, s1, s2, s3⟩ := M.1 m hm
  have hs2 := s3 (Or.inr rfl)
  have hfi : fi m = 0 := M.2.2.2.2 m (by omega) (Or.inr (Or.inr rfl))
  obtain ⟨g, hg⟩ : ∃ g, gm_gx sp m P = g := ⟨_, rfl⟩
  have hge : ∀ q, q < P → (sp (m * 8 + q)).toInt ≤ g.toInt := by
    rw [← hg]
    exact gm_gx_ge P
  have hgB : g.toInt ≤ (B : Int) := by
    rw [← hg]
    exact gm_gx_le P (fun q hq => K.2.2 m q (by omega) hq)
  obtain ⟨r, sg', ut', dm', de', li', pl', l1, l2, l3, l4⟩ := gm_learn (L := L) (T := T) (sn := sn) (gr := gr) (aw := aw) (fi := upd fi m g) (wc := wc) (pw := pw) (ip := ip) (dl := dl) (m := m) (p := s) (t := g) hP s1 H hm hs2 (hge s s1)
  have M' := gm_M_learn M (Or.inl rfl) hP (by omega) hm s1 hs2 ha hge l2
  have Q' := gm_Q_adv Q l2
  have K' := gm_K_learn (m := m) K (by omega) hP s1 hgB
  obtain ⟨T', pw', wc', w1, w2⟩ := gm_xsend (L := L) (A := A) (gr := gr) (aw := aw) (fi := upd fi m g) (sg := sg') (sp := upd sp (m * 8 + s) g) (ut := ut') (ck := gm_ckm ck s g) (ad := ad) (dm := dm') (de := de') (se := se) (li := li') (k := 3) (m := m) (by omega) (by omega) hP (by omega) s2 W
  have Q'' := gm_Q_send (k := 3) (O := fun q => bt (gr m) q && !decide (q = s)) Q' (Or.inr rfl) hP (by omega) hm (fun _ => ha)
  have cm : (nI m).toNatClampNeg = m := nI_clamp (by omega)
  have vm : vp_in (nI m) 16 := vp_in_nI (by omega) (by omega)
  refine ⟨r, T', upd fi m g, sg', upd sp (m * 8 + s) g, ut', gm_ckm ck s g, dm', de', li', pw', wc', _, pl', ⟨⟨hP2, hP, hAL, hL⟩, l1, M', Q'', K', w1⟩, fun post hpost => ?_, fun post hpost => ?_⟩
  · have key : ∀ d q, q + d = P → wX_decide_4 post (nI m) (nI P) (nI L) (nI A) (nI T) sn gr aw fi sg sp ut ck ad dm de se li pw wc (d + 1) (gm_gx sp m q) (nI q) := by
      intro d
      induction d with
      | zero =>
        intro q hq
        have e : q = P := by omega
        subst e
        refine br_t (nI_le (Nat.le_refl _) (by omega)) ⟨vm, nm_r (e' := upd fi m g) (by rw [cm, hg]) ⟨vm, ?_⟩⟩
        rw [cm, s2, hg]
        exact l3 _ (w2 _ hpost)
      | succ d ih =>
        intro q hq
        have t := ih (q + 1) (by omega)
        have cq : (nI (m * 8 + q)).toNatClampNeg = m * 8 + q := nI_clamp (by omega)
        have vq : vp_in (nI (m * 8 + q)) 128 := vp_in_nI (by omega) (by omega)
        refine br_f (nI_ge (by omega) (by omega)) ⟨by rw [gm_ix8]; exact vq, br_c (fun z => ?_) (fun z => ⟨by rw [gm_ix8]; exact vq, ?_⟩)⟩
        · rw [gm_ix8, cq] at z
          rw [gm_gx_t z] at t
          exact nm_r (nI_1 q) t
        · rw [gm_ix8, cq] at z
          rw [gm_gx_f z] at t
          exact nm_r (by rw [gm_ix8, cq]) (nm_r (nI_1 q) t)
    exact Exists.intro (P + 1) (key P 0 (by omega))
  · have key : ∀ d q, q + d = P → wY_decide_2 post (nI m) (nI P) (nI L) (nI A) dl (d + 1) (nI q) ip sn gr aw (upd fi m (gm_gx sp m q)) ck sg sp pl := by
      intro d
      induction d with
      | zero =>
        intro q hq
        have e : q = P := by omega
        subst e
        refine br_t (nI_le (Nat.le_refl _) (by omega)) ⟨vm, vm, ?_⟩
        rw [cm, s2, pk_us, hg]
        exact l4 _ (gm_ysend (k := 3) (by omega) (by omega) hP (by omega) s2 (fun q hq => M'.2.1 m q hm hq) hpost)
      | succ d ih =>
        intro q hq
        have t := ih (q + 1) (by omega)
        have cq : (nI (m * 8 + q)).toNatClampNeg = m * 8 + q := nI_clamp (by omega)
        have vq : vp_in (nI (m * 8 + q)) 128 := vp_in_nI (by omega) (by omega)
        refine br_f (nI_ge (by omega) (by omega)) ⟨by rw [gm_ix8]; exact vq, vm, br_c (fun z => ?_) (fun z => ⟨by rw [gm_ix8]; exact vq, vm, ?_⟩)⟩
        · rw [gm_ix8, cq, cm, pk_us] at z
          rw [gm_gx_t z] at t
          exact nm_r (nI_1 q) t
        · rw [gm_ix8, cq, cm, pk_us] at z
          rw [gm_gx_f z] at t
          exact nm_r (by rw [gm_ix8, cq, cm, gm_uu]) (nm_r (nI_1 q) t)
    have k0 := key P 0 (by omega)
    have e0 : upd fi m (gm_gx sp m 0) = fi := gm_up_ge hfi
    rw [e0] at k0
    exact Exists.intro (P + 1) k0
end
end
section
/-! handle: both sides -/
def gm_O (B P L A : Nat) (sn gr ad : Nat → Int32) (dl : Int32) (WX : (Int32 → SX → Prop) → Prop) (WY : (SY → Prop) → Prop) : Prop :=
  ∃ (r : Int32) (T' : Nat) (aw' fi' sg' sp' ut' ck' dm' de' se' li' : Nat → Int32) (pw' : Nat → Int64) (wc' ip' pl' : Nat → Int32),
      gm_I 16 B P L A T' sn gr (aw') (fi') (sg') (sp') (ut') (ck') ad (dm') (de') (se') (li') (pw') (wc') (ip') (pl') ∧
      (∀ post : Int32 → SX → Prop, post r ((nI P), (nI L), (nI A), (nI T'), sn, gr, (aw'), (fi'), (sg'), (sp'), (ut'), (ck'), ad, (dm'), (de'), (se'), (li'), (pw'), (wc')) → WX post) ∧
      (∀ post : SY → Prop, post ((nI P), (nI L), (nI A), (dl + r), (ip'), sn, gr, (aw'), (fi'), (ck'), (sg'), (sp'), (pl')) → WY post)
section
variable {x B P L A T : Nat} {sn gr aw fi sg sp ut ck ad dm de se li wc ip pl sg' : Nat → Int32} {pw : Nat → Int64} {dl : Int32}
theorem gm_O_same {WX : (Int32 → SX → Prop) → Prop} {WY : (SY → Prop) → Prop} (I : gm_I 16 B P L A T sn gr aw fi sg sp ut ck ad dm de se li pw wc ip pl) (hX : ∀ post : Int32 → SX → Prop, post 0 ((nI P), (nI L), (nI A), (nI T), sn, gr, aw, fi, sg, sp, ut, ck, ad, dm, de, se, li, pw, wc) → WX post) (hY : ∀ post : SY → Prop, post ((nI P), (nI L), (nI A), dl, ip, sn, gr, aw, fi, ck, sg, sp, pl) → WY post) : gm_O (B + 1) P L A sn gr ad dl WX WY := by
  refine ⟨0, T, aw, fi, sg, sp, ut, ck, dm, de, se, li, pw, wc, ip, pl, gm_I_up I (by omega), hX, fun post h => ?_⟩
  rw [Int32.add_zero] at h
  exact hY post h
theorem gm_M_prop {m p : Nat} {v : Int32} (M : gm_M 16 P A sn gr aw fi sg sp) (hP : P ≤ 6) (hm : m < A) (hp : p < P) (h1 : sg (m * 8 + p) = 1) : gm_M 16 P A sn gr aw fi (upd sg (m * 8 + p) 2) (upd sp (m * 8 + p) v) := by
  obtain ⟨M1, M2, M3, M4, M5⟩ := M
  have ha : aw m ≠ 0 := gm_bt0 (M3 m p hm hp h1)
  refine ⟨fun m' hm' => ?_, fun m' q hm' hq => ?_, fun m' q hm' hq z => ?_, fun m' q hm' hq hx h0 => ?_, M5⟩
  · obtain ⟨s, s1, s2, s3⟩ := M1 m' hm'
    refine ⟨s, s1, s2, fun h => ?_⟩
    by_cases e : m' * 8 + s = m * 8 + p
    · rw [e, pk_us]
    · rw [pk_un e]
      exact s3 h
  · rw [← M2 m' q hm' hq]
    by_cases e : m' * 8 + q = m * 8 + p
    · rw [e, pk_us, h1]
      exact ⟨fun z => absurd z (by decide), fun z => absurd z (by decide)⟩
    · rw [pk_un e]
  · by_cases e : m' * 8 + q = m * 8 + p
    · rw [e, pk_us] at z
      exact absurd z (by decide)
    · rw [pk_un e] at z
      exact M3 m' q hm' hq z
  · have hne : m' ≠ m := fun z => ha (by rw [← z]; exact h0)
    rw [pk_un (by omega)]
    exact M4 m' q hm' hq hx h0
theorem gm_Q_prop {m p : Nat} (Q : gm_Q P A aw sg ip) (hP : P ≤ 6) (hA : A ≤ 16) (hm : m < A) (hp : p < P) : gm_Q P A aw (upd sg (m * 8 + p) 2) (upd ip (2 * 128 + m * 8 + p) 1) := by
  obtain ⟨Q1, Q2, Q3⟩ := Q
  refine ⟨fun c hc h => ?_, fun m' q hm' hq h z => ?_, fun m' q hm' hq h => ?_⟩
  · by_cases e : c = 2 * 128 + m * 8 + p
    · omega
    · rw [pk_un e] at h
      exact Q1 c hc h
  · by_cases e : m' * 8 + q = m * 8 + p
    · rw [e, pk_us] at z
      exact absurd z (by decide)
    · rw [pk_un (by omega)] at h
      rw [pk_un e] at z
      exact Q2 m' q hm' hq h z
  · rw [pk_un (by omega)] at h
    exact Q3 m' q hm' hq h
theorem gm_K_prop {m p : Nat} (K : gm_K B P ck fi sp) (hB : B < 2147483647) (hP : P ≤ 6) (hp : p < P) : gm_K (B + 1) P (upd ck p (ck p + 1)) fi (upd sp (m * 8 + p) (ck p + 1)) := by
  obtain ⟨K1, K2, K3⟩ := K
  have k1 := K1 p hp
  have ei := gm_inc (c := ck p) (by omega)
  refine ⟨fun q hq => ?_, fun m' hm' => ?_, fun m' q hm' hq => ?_⟩
  · by_cases e : q = p
    · rw [e, pk_us, ei]
      omega
    · rw [pk_un e]
      have := K1 q hq
      omega
  · have := K2 m' hm'
    omega
  · by_cases e : m' * 8 + q = m * 8 + p
    · rw [e, pk_us, ei]
      omega
    · rw [pk_un e]
      have := K3 m' q hm' hq
      omega
theorem gm_hstart {m p : Nat} (I : gm_I 16 B P L A T sn gr aw fi sg sp ut ck ad dm de se li pw wc ip pl) (hm : m < A) (hp : p < P) (hB : B < 2147483647) :
    gm_O (B + 1) P L A sn gr ad dl (fun post => wpX_handle post ((nI P), (nI L), (nI A), (nI T), sn, gr, aw, fi, sg, sp, ut, ck, ad, dm, de, se, li, pw, wc) (nI 1) (nI m) (nI p)) (fun post => wpY_handle post ((nI P), (nI L), (nI A), dl, ip, sn, gr, aw, fi, ck, sg, sp, pl) (nI 1) (nI m) (nI p)) := by
  have I0 := I
  obtain ⟨⟨hP2, hP, hAL, hL⟩, H, M, Q, K, W⟩ := I
  have cq : (nI (m * 8 + p)).toNatClampNeg = m * 8 + p := nI_clamp (by omega)
  have vq : vp_in (nI (m * 8 + p)) 128 := vp_in_nI (by omega) (by omega)
  have b12 : ¬ nI 1 = 2 := by decide
  have b13 : ¬ nI 1 = 3 := by decide
  by_cases h1 : sg (m * 8 + p) = 1
  · have k1 := K.1 p hp
    obtain ⟨S, hS, hse, H'⟩ := gm_AL_prop H hP hp hm h1 (by omega)
    obtain ⟨T', pw', wc', w1, w2⟩ := gm_xput (P := P) (L := L) (A := A) (sn := sn) (gr := gr) (aw := aw) (fi := fi) (sg := upd sg (m * 8 + p) 2) (sp := upd sp (m * 8 + p) (ck p + 1)) (ut := ut) (ck := upd ck p (ck p + 1)) (ad := ad) (dm := dm) (de := de) (se := upd se p (nI (S + 1))) (li := upd li (p * 16 + S) (nI m)) (c := 2 * 128 + m * 8 + p) (by omega) W
    have e256 : (256 : Int32) + nI (m * 8 + p) = nI (2 * 128 + m * 8 + p) := by
      show nI 256 + _ = _
      rw [nI_add, show 256 + (m * 8 + p) = 2 * 128 + m * 8 + p by omega]
    have cc : (nI (2 * 128 + m * 8 + p)).toNatClampNeg = 2 * 128 + m * 8 + p := nI_clamp (by omega)
    refine ⟨0, T', aw, fi, upd sg (m * 8 + p) 2, upd sp (m * 8 + p) (ck p + 1), ut, upd ck p (ck p + 1), dm, de, upd se p (nI (S + 1)), upd li (p * 16 + S) (nI m), pw', wc', upd ip (2 * 128 + m * 8 + p) 1, pl, ⟨⟨hP2, hP, hAL, hL⟩, H', gm_M_prop M hP hm hp h1, gm_Q_prop Q hP (by omega) hm hp, gm_K_prop K hB hP hp, w1⟩, fun post h => ?_, fun post h => ?_⟩
    · have hs : ∀ post' : SX → Prop, post' ((nI P), (nI L), (nI A), (nI T'), sn, gr, aw, fi, (upd sg (m * 8 + p) 2), (upd sp (m * 8 + p) (ck p + 1)), ut, (upd ck p (ck p + 1)), ad, dm, de, (upd se p (nI (S + 1))), (upd li (p * 16 + S) (nI m)), (pw'), (wc')) → wpX_handleStart post' ((nI P), (nI L), (nI A), (nI T), sn, gr, aw, fi, sg, sp, ut, ck, ad, dm, de, se, li, pw, wc) (nI m) (nI p) := fun post' h' => And.intro (by rw [gm_ix8]; exact vq) (br_t (by rw [gm_ix8, cq]; exact h1) (gm_xprop (by omega) (by omega) hS hse (gm_xcode (k := 2) (w2 _ h'))))
      exact br_t rfl (hs _ h)
    · rw [Int32.add_zero] at h
      exact nm_r (gm_ix8 m p) (br_t rfl ⟨vq, br_t (by rw [cq]; exact h1) (gm_yprop (by omega) (by omega) ⟨by rw [e256]; exact vp_in_nI (by omega) (by omega), nm_r (by rw [e256, cc, gm_nb1]) h⟩)⟩)
  · refine gm_O_same I0 (fun post h => ?_) (fun post h => ?_)
    · have hs : ∀ post' : SX → Prop, post' ((nI P), (nI L), (nI A), (nI T), sn, gr, aw, fi, sg, sp, ut, ck, ad, dm, de, se, li, pw, wc) → wpX_handleStart post' ((nI P), (nI L), (nI A), (nI T), sn, gr, aw, fi, sg, sp, ut, ck, ad, dm, de, se, li, pw, wc) (nI m) (nI p) := fun post' h' => And.intro (by rw [gm_ix8]; exact vq) (br_f (by rw [gm_ix8, cq]; exact h1) h')
      exact br_t rfl (hs _ h)
    · exact nm_r (gm_ix8 m p) (br_t rfl ⟨vq, br_f (by rw [cq]; exact h1) (br_f b12 (br_f b13 h))⟩)
theorem gm_hfin {m p : Nat} (I : gm_I 16 B P L A T sn gr aw fi sg sp ut ck ad dm de se li pw wc ip pl) (hm : m < A) (hp : p < P) (ha : aw m = 0) :
    gm_O (B + 1) P L A sn gr ad dl (fun post => wpX_handle post ((nI P), (nI L), (nI A), (nI T), sn, gr, aw, fi, sg, sp, ut, ck, ad, dm, de, se, li, pw, wc) (nI 3) (nI m) (nI p)) (fun post => wpY_handle post ((nI P), (nI L), (nI A), dl, ip, sn, gr, aw, fi, ck, sg, sp, pl) (nI 3) (nI m) (nI p)) := by
  have I0 := I
  obtain ⟨⟨hP2, hP, hAL, hL⟩, H, M, Q, K, W⟩ := I
  have cq : (nI (m * 8 + p)).toNatClampNeg = m * 8 + p := nI_clamp (by omega)
  have vq : vp_in (nI (m * 8 + p)) 128 := vp_in_nI (by omega) (by omega)
  have cm : (nI m).toNatClampNeg = m := nI_clamp (by omega)
  have vm : vp_in (nI m) 16 := vp_in_nI (by omega) (by omega)
  have b31 : ¬ nI 3 = 1 := by decide
  have b32 : ¬ nI 3 = 2 := by decide
  by_cases h2 : sg (m * 8 + p) = 2
  · have hge : ∀ q, q < P → (sp (m * 8 + q)).toInt ≤ (fi m).toInt := fun q hq => M.2.2.2.1 m q hm hq (by omega) ha
    obtain ⟨r, sg', ut', dm', de', li', pl', l1, l2, l3, l4⟩ := gm_learn (L := L) (T := T) (sn := sn) (gr := gr) (aw := aw) (fi := fi) (wc := wc) (pw := pw) (ip := ip) (dl := dl) (m := m) (p := p) (t := fi m) hP hp H hm h2 (hge p hp)
    have M' := gm_M_learn M (Or.inr rfl) hP (by omega) hm hp h2 ha hge l2
    have K' := gm_K_learn (m := m) K (by omega) hP hp (K.2.1 m (by omega))
    have ef : upd fi m (fi m) = fi := gm_up_ge rfl
    rw [ef] at M' K'
    refine ⟨r, T, aw, fi, sg', upd sp (m * 8 + p) (fi m), ut', gm_ckm ck p (fi m), dm', de', se, li', pw, wc, ip, pl', ⟨⟨hP2, hP, hAL, hL⟩, l1, M', gm_Q_adv Q l2, gm_K_up K' (by omega), W⟩, fun post h => ?_, fun post h => ?_⟩
    · have hf : ∀ post' : Int32 → SX → Prop, post' r ((nI P), (nI L), (nI A), (nI T), sn, gr, aw, fi, (sg'), (upd sp (m * 8 + p) (fi m)), (ut'), (gm_ckm ck p (fi m)), ad, (dm'), (de'), se, (li'), pw, wc) → wpX_handleFinal post' ((nI P), (nI L), (nI A), (nI T), sn, gr, aw, fi, sg, sp, ut, ck, ad, dm, de, se, li, pw, wc) (nI m) (nI p) := by
        intro post' h'
        refine And.intro (by rw [gm_ix8]; exact vq) (br_t (by rw [gm_ix8, cq]; exact h2) ⟨vm, ?_⟩)
        rw [cm]
        exact l3 _ h'
      exact br_f b31 (br_f b32 (hf _ h))
    · refine nm_r (gm_ix8 m p) (br_f b31 (br_f b32 (br_t rfl ⟨vq, br_t (by rw [cq]; exact h2) ⟨vm, ?_⟩⟩)))
      rw [cm]
      exact l4 _ h
  · refine gm_O_same I0 (fun post h => ?_) (fun post h => ?_)
    · have hf : ∀ post' : Int32 → SX → Prop, post' 0 ((nI P), (nI L), (nI A), (nI T), sn, gr, aw, fi, sg, sp, ut, ck, ad, dm, de, se, li, pw, wc) → wpX_handleFinal post' ((nI P), (nI L), (nI A), (nI T), sn, gr, aw, fi, sg, sp, ut, ck, ad, dm, de, se, li, pw, wc) (nI m) (nI p) := fun post' h' => And.intro (by rw [gm_ix8]; exact vq) (br_f (by rw [gm_ix8, cq]; exact h2) h')
      exact br_f b31 (br_f b32 (hf _ h))
    · exact nm_r (gm_ix8 m p) (br_f b31 (br_f b32 (br_t rfl ⟨vq, br_f (by rw [cq]; exact h2) h⟩)))
theorem gm_M_aw {m p y : Nat} (M : gm_M 16 P A sn gr aw fi sg sp) (hy : y = m ∨ (y = 16 ∧ aw m &&& (((1 : Int32) <<< (nI p &&& 31)) ^^^ (-1)) ≠ 0)) (hP : P ≤ 6) (hA : A ≤ 16) (hm : m < A) (hp : p < P) (hb : bt (aw m) p = true) (h1 : sg (m * 8 + p) ≠ 1) : gm_M y P A sn gr (upd aw m (aw m &&& (((1 : Int32) <<< (nI p &&& 31)) ^^^ (-1)))) fi sg sp := by
  obtain ⟨M1, M2, M3, M4, M5⟩ := M
  have ha : aw m ≠ 0 := gm_bt0 hb
  refine ⟨fun m' hm' => ?_, M2, fun m' q hm' hq z => ?_, fun m' q hm' hq hx h0 => ?_, fun m' hm' h => ?_⟩
  · obtain ⟨s, s1, s2, s3⟩ := M1 m' hm'
    refine ⟨s, s1, s2, fun h => s3 (Or.inl ?_)⟩
    by_cases e : m' = m
    · rw [e]
      exact ha
    · rw [pk_un e] at h
      rcases h with h | h
      · exact h
      · omega
  · by_cases e : m' = m
    · subst e
      rw [pk_us, gm_clr (aw m') (by omega) (by omega), M3 m' q hm' hq z]
      have : q ≠ p := fun w => h1 (by rw [← w]; exact z)
      rw [decide_eq_false this]
      rfl
    · rw [pk_un e]
      exact M3 m' q hm' hq z
  · by_cases e : m' = m
    · subst e
      rcases hy with w | w
      · exact absurd w.symm hx
      · rw [pk_us] at h0
        exact absurd h0 w.2
    · rw [pk_un e] at h0
      exact M4 m' q hm' hq (by omega) h0
  · refine M5 m' hm' ?_
    by_cases e : m' = m
    · rw [e]
      exact Or.inr (Or.inl ha)
    · rw [pk_un e] at h
      rcases h with w | w | w
      · exact Or.inl w
      · exact Or.inr (Or.inl w)
      · omega
theorem gm_Q_aw {m : Nat} {v : Int32} (Q : gm_Q P A aw sg ip) (ha : aw m ≠ 0) : gm_Q P A (upd aw m v) sg ip := by
  obtain ⟨Q1, Q2, Q3⟩ := Q
  refine ⟨Q1, Q2, fun m' q hm' hq h => ?_⟩
  have t := Q3 m' q hm' hq h
  have e : m' ≠ m := fun w => ha (by rw [← w]; exact t)
  rw [pk_un e]
  exact t
theorem gm_hprop {m p : Nat} (I : gm_I 16 B P L A T sn gr aw fi sg sp ut ck ad dm de se li pw wc ip pl) (hm : m < A) (hp : p < P) (h1 : sg (m * 8 + p) ≠ 1) :
    gm_O (B + 1) P L A sn gr ad dl (fun post => wpX_handle post ((nI P), (nI L), (nI A), (nI T), sn, gr, aw, fi, sg, sp, ut, ck, ad, dm, de, se, li, pw, wc) (nI 2) (nI m) (nI p)) (fun post => wpY_handle post ((nI P), (nI L), (nI A), dl, ip, sn, gr, aw, fi, ck, sg, sp, pl) (nI 2) (nI m) (nI p)) := by
  have I0 := I
  obtain ⟨⟨hP2, hP, hAL, hL⟩, H, M, Q, K, W⟩ := I
  have cm : (nI m).toNatClampNeg = m := nI_clamp (by omega)
  have vm : vp_in (nI m) 16 := vp_in_nI (by omega) (by omega)
  have b21 : ¬ nI 2 = 1 := by decide
  have b23 : ¬ nI 2 = 3 := by decide
  have hp32 : p < 32 := by omega
  cases hb : bt (aw m) p with
  | false =>
    have hx := (gm_tx (aw m) hp32).mpr hb
    have hy : ¬ ((aw m >>> (nI p &&& 31)) &&& 1) = 1 := by
      rw [gm_ty (aw m) hp32, hb]
      decide
    refine gm_O_same I0 (fun post h => ?_) (fun post h => ?_)
    · have hh : ∀ post' : Int32 → SX → Prop, post' 0 ((nI P), (nI L), (nI A), (nI T), sn, gr, aw, fi, sg, sp, ut, ck, ad, dm, de, se, li, pw, wc) → wpX_handlePropose post' ((nI P), (nI L), (nI A), (nI T), sn, gr, aw, fi, sg, sp, ut, ck, ad, dm, de, se, li, pw, wc) (nI m) (nI p) := fun post' h' => nm_e ⟨vm, br_t (by rw [cm]; exact hx) h'⟩
      exact br_f b21 (br_t rfl (hh _ h))
    · exact nm_r (gm_ix8 m p) (br_f b21 (br_t rfl ⟨vm, br_f (by rw [cm]; exact hy) (br_f b23 h)⟩))
  | true =>
    have ha : aw m ≠ 0 := gm_bt0 hb
    have hx : ¬ (aw m &&& ((1 : Int32) <<< (nI p &&& 31))) = 0 := by
      rw [gm_tx (aw m) hp32, hb]
      decide
    have hy := (gm_ty (aw m) hp32).mpr hb
    have hsub := gm_sub (aw m) hp32 hb
    obtain ⟨v, hv⟩ : ∃ v, aw m &&& (((1 : Int32) <<< (nI p &&& 31)) ^^^ (-1)) = v := ⟨_, rfl⟩
    by_cases hz : v = 0
    · have M' := gm_M_aw (y := m) M (Or.inl rfl) hP (by omega) hm hp hb h1
      rw [hv] at M'
      have I' : gm_I m B P L A T sn gr (upd aw m v) fi sg sp ut ck ad dm de se li pw wc ip pl := ⟨⟨hP2, hP, hAL, hL⟩, H, M', gm_Q_aw Q ha, K, W⟩
      obtain ⟨r, T', fi', sg', sp', ut', ck', dm', de', li', pw', wc', ip', pl', d1, d2, d3⟩ := gm_decide (dl := dl) I' hm (by rw [pk_us]; exact hz)
      refine ⟨r, T', upd aw m v, fi', sg', sp', ut', ck', dm', de', se, li', pw', wc', ip', pl', gm_I_up d1 (by omega), fun post h => ?_, fun post h => ?_⟩
      · have hh : ∀ post' : Int32 → SX → Prop, post' r ((nI P), (nI L), (nI A), (nI T'), sn, gr, (upd aw m v), (fi'), (sg'), (sp'), (ut'), (ck'), ad, (dm'), (de'), se, (li'), (pw'), (wc')) → wpX_handlePropose post' ((nI P), (nI L), (nI A), (nI T), sn, gr, aw, fi, sg, sp, ut, ck, ad, dm, de, se, li, pw, wc) (nI m) (nI p) := fun post' h' => nm_e ⟨vm, br_f (by rw [cm]; exact hx) ⟨vm, vm, nm_r (e' := upd aw m v) (by rw [cm, hv]) ⟨vm, br_t (by rw [cm, pk_us]; exact hz) (d2 _ h')⟩⟩⟩
        exact br_f b21 (br_t rfl (hh _ h))
      · exact nm_r (gm_ix8 m p) (br_f b21 (br_t rfl ⟨vm, br_t (by rw [cm]; exact hy) ⟨vm, vm, nm_r (e' := upd aw m v) (by rw [cm, hsub, hv]) ⟨vm, br_t (by rw [cm, pk_us]; exact hz) (d3 _ h)⟩⟩⟩))
    · have M' := gm_M_aw (y := 16) M (Or.inr ⟨rfl, by rw [hv]; exact hz⟩) hP (by omega) hm hp hb h1
      rw [hv] at M'
      refine ⟨0, T, upd aw m v, fi, sg, sp, ut, ck, dm, de, se, li, pw, wc, ip, pl, ⟨⟨hP2, hP, hAL, hL⟩, H, M', gm_Q_aw Q ha, gm_K_up K (by omega), W⟩, fun post h => ?_, fun post h => ?_⟩
      · have hh : ∀ post' : Int32 → SX → Prop, post' 0 ((nI P), (nI L), (nI A), (nI T), sn, gr, (upd aw m v), fi, sg, sp, ut, ck, ad, dm, de, se, li, pw, wc) → wpX_handlePropose post' ((nI P), (nI L), (nI A), (nI T), sn, gr, aw, fi, sg, sp, ut, ck, ad, dm, de, se, li, pw, wc) (nI m) (nI p) := fun post' h' => nm_e ⟨vm, br_f (by rw [cm]; exact hx) ⟨vm, vm, nm_r (e' := upd aw m v) (by rw [cm, hv]) ⟨vm, br_f (by rw [cm, pk_us]; exact hz) h'⟩⟩⟩
        exact br_f b21 (br_t rfl (hh _ h))
      · rw [Int32.add_zero] at h
        exact nm_r (gm_ix8 m p) (br_f b21 (br_t rfl ⟨vm, br_t (by rw [cm]; exact hy) ⟨vm, vm, nm_r (e' := upd aw m v) (by rw [cm, hsub, hv]) ⟨vm, br_f (by rw [cm, pk_us]; exact hz) h⟩⟩⟩))
theorem gm_handle {k m p : Nat} (I : gm_I 16 B P L A T sn gr aw fi sg sp ut ck ad dm de se li pw wc ip pl) (hk : k = 1 ∨ k = 2 ∨ k = 3) (hm : m < A) (hp : p < P) (h2 : k = 2 → sg (m * 8 + p) ≠ 1) (h3 : k = 3 → aw m = 0) (hB : B < 2147483647) :
    gm_O (B + 1) P L A sn gr ad dl (fun post => wpX_handle post ((nI P), (nI L), (nI A), (nI T), sn, gr, aw, fi, sg, sp, ut, ck, ad, dm, de, se, li, pw, wc) (nI k) (nI m) (nI p)) (fun post => wpY_handle post ((nI P), (nI L), (nI A), dl, ip, sn, gr, aw, fi, ck, sg, sp, pl) (nI k) (nI m) (nI p)) := by
  rcases hk with z | z | z
  · subst z
    exact gm_hstart I hm hp hB
  · subst z
    exact gm_hprop I hm hp (h2 rfl)
  · subst z
    exact gm_hfin I hm hp (h3 rfl)
end
end
section
/-! multicast -/
def gm_rg (g : Int32) (m : Nat) : Nat → (Nat → Int32) → (Nat → Int32)
  | 0, f => f
  | q + 1, f => if bt g q = true then upd (gm_rg g m q f) (m * 8 + q) 1 else gm_rg g m q f
def gm_ra (g : Int32) (m : Nat) : Nat → (Nat → Int32) → (Nat → Int32)
  | 0, f => f
  | q + 1, f => if bt g q = true then upd (gm_ra g m q f) q (gm_ra g m q f q ||| ((1 : Int32) <<< (nI m &&& 31))) else gm_ra g m q f
section
variable {g : Int32} {m : Nat} {f : Nat → Int32}
theorem gm_rg_t {q : Nat} (h : bt g q = true) : gm_rg g m (q + 1) f = upd (gm_rg g m q f) (m * 8 + q) 1 := if_pos h
theorem gm_rg_f {q : Nat} (h : bt g q = false) : gm_rg g m (q + 1) f = gm_rg g m q f := if_neg (by rw [h]; decide)
theorem gm_ra_t {q : Nat} (h : bt g q = true) : gm_ra g m (q + 1) f = upd (gm_ra g m q f) q (gm_ra g m q f q ||| ((1 : Int32) <<< (nI m &&& 31))) := if_pos h
theorem gm_ra_f {q : Nat} (h : bt g q = false) : gm_ra g m (q + 1) f = gm_ra g m q f := if_neg (by rw [h]; decide)
theorem gm_rg_o {x q : Nat} (hq : q < 8) : ∀ n, n ≤ 8 → (x ≠ m ∨ n ≤ q ∨ bt g q = false) → gm_rg g m n f (x * 8 + q) = f (x * 8 + q) := by
  intro n
  induction n with
  | zero => intro _ _; rfl
  | succ n ih =>
    intro hn h
    have t := ih (by omega) (by rcases h with h | h | h; exact Or.inl h; exact Or.inr (Or.inl (by omega)); exact Or.inr (Or.inr h))
    cases hb : bt g n with
    | false => rw [gm_rg_f hb]; exact t
    | true =>
      have hne : ¬ x * 8 + q = m * 8 + n := by
        intro e
        have e1 : x = m := by omega
        have e2 : q = n := by omega
        rcases h with h | h | h
        · exact h e1
        · omega
        · rw [e2, hb] at h; exact (nomatch h)
      rw [gm_rg_t hb, pk_un hne]
      exact t
theorem gm_rg_i {q : Nat} (hb : bt g q = true) : ∀ n, q < n → n ≤ 8 → gm_rg g m n f (m * 8 + q) = 1 := by
  intro n
  induction n with
  | zero => intro h; omega
  | succ n ih =>
    intro hq hn
    by_cases e : q = n
    · subst e
      rw [gm_rg_t hb, pk_us]
    · have t := ih (by omega) (by omega)
      cases hb2 : bt g n with
      | false => rw [gm_rg_f hb2]; exact t
      | true => rw [gm_rg_t hb2, pk_un (by omega)]; exact t
theorem gm_ra_o {q : Nat} : ∀ n, (n ≤ q ∨ bt g q = false) → gm_ra g m n f q = f q := by
  intro n
  induction n with
  | zero => intro _; rfl
  | succ n ih =>
    intro h
    have t := ih (by rcases h with h | h; exact Or.inl (by omega); exact Or.inr h)
    cases hb : bt g n with
    | false => rw [gm_ra_f hb]; exact t
    | true =>
      have hne : ¬ q = n := by
        intro e
        rcases h with h | h
        · omega
        · rw [e, hb] at h; exact (nomatch h)
      rw [gm_ra_t hb, pk_un hne]
      exact t
theorem gm_ra_i {q : Nat} (hb : bt g q = true) : ∀ n, q < n → gm_ra g m n f q = f q ||| ((1 : Int32) <<< (nI m &&& 31)) := by
  intro n
  induction n with
  | zero => intro h; omega
  | succ n ih =>
    intro hq
    by_cases e : q = n
    · subst e
      rw [gm_ra_t hb, pk_us, gm_ra_o q (Or.inl (Nat.le_refl q))]
    · have t := ih (by omega)
      cases hb2 : bt g n with
      | false => rw [gm_ra_f hb2]; exact t
      | true => rw [gm_ra_t hb2, pk_un e]; exact t
end
section
variable {x B P L A T : Nat} {sn gr aw fi sg sp ut ck ad dm de se li wc ip pl : Nat → Int32} {pw : Nat → Int64} {dl : Int32}
/-- X's register -/
theorem gm_xreg {m s : Nat} {g : Int32} (hm : m < 16) (hP : P ≤ 6) {post : SX → Prop} (h : post ((nI P), (nI L), (nI A), (nI T), (upd sn m (nI s)), (upd gr m g), (upd aw m (g &&& (((1 : Int32) <<< (nI s &&& 31)) ^^^ (-1)))), fi, (gm_rg g m P sg), sp, ut, ck, (gm_ra g m P ad), dm, de, se, li, pw, wc)) : wpX_register post ((nI P), (nI L), (nI A), (nI T), sn, gr, aw, fi, sg, sp, ut, ck, ad, dm, de, se, li, pw, wc) (nI m) (nI s) g := by
  have cm : (nI m).toNatClampNeg = m := nI_clamp (by omega)
  have vm : vp_in (nI m) 16 := vp_in_nI hm (by omega)
  have key : ∀ d q, q + d = P → wX_register_30 post (nI m) g (nI P) (nI L) (nI A) (nI T) (d + 1) (nI q) (upd sn m (nI s)) (upd gr m g) (upd aw m (g &&& (((1 : Int32) <<< (nI s &&& 31)) ^^^ (-1)))) fi (gm_rg g m q sg) sp ut ck (gm_ra g m q ad) dm de se li pw wc := by
    intro d
    induction d with
    | zero =>
      intro q hq
      have e : q = P := by omega
      subst e
      exact br_t (nI_le (Nat.le_refl _) (by omega)) h
    | succ d ih =>
      intro q hq
      have t := ih (q + 1) (by omega)
      have cq : (nI (m * 8 + q)).toNatClampNeg = m * 8 + q := nI_clamp (by omega)
      have vq : vp_in (nI (m * 8 + q)) 128 := vp_in_nI (by omega) (by omega)
      have c1 : (nI q).toNatClampNeg = q := nI_clamp (by omega)
      have v1 : vp_in (nI q) 8 := vp_in_nI (by omega) (by omega)
      refine br_f (nI_ge (by omega) (by omega)) ?_
      cases hb : bt g q with
      | false =>
        rw [gm_rg_f hb, gm_ra_f hb] at t
        exact br_t ((gm_tx g (by omega)).mpr hb) (nm_r (nI_1 q) t)
      | true =>
        rw [gm_rg_t hb, gm_ra_t hb] at t
        refine br_f (fun z => ?_) ⟨by rw [gm_ix8]; exact vq, nm_r (by rw [gm_ix8, cq]) ⟨v1, v1, nm_r (by rw [c1]) (nm_r (nI_1 q) t)⟩⟩
        rw [gm_tx g (by omega), hb] at z
        exact (nomatch z)
  unfold wpX_register
  exact ⟨vm, nm_r (by rw [cm]) ⟨vm, nm_r (by rw [cm]) ⟨vm, nm_r (by rw [cm]) ⟨P + 1, key P 0 (by omega)⟩⟩⟩⟩
/-- the lines behind register -/
theorem gm_AL_reg {g : Int32} (H : gm_AL P A sg sp pl ut ck ad dm de se li) (hP : P ≤ 6) (hA : A < 16) : gm_AL P (A + 1) (gm_rg g A P sg) sp pl ut ck (gm_ra g A P ad) dm de se li := by
  intro q hq
  have hf : gm_co sg q A = 0 := by
    obtain ⟨D, S, ln, h1, _⟩ := H q hq
    obtain ⟨_, _, _, _, _, _, _, _, _, _, hf⟩ := h1
    exact hf A (Nat.le_refl A) hA
  refine gm_LP_reg (H q hq) hA (fun m hm => gm_rg_o (by omega) P (by omega) (Or.inl hm)) ?_ ?_
  · cases hb : bt g q with
    | false =>
      left
      exact (gm_rg_o (by omega) P (by omega) (Or.inr (Or.inr hb))).trans hf
    | true =>
      right
      exact gm_rg_i hb P hq (by omega)
  · intro y hy
    cases hb : bt g q with
    | false =>
      have e1 : gm_co (gm_rg g A P sg) q A = 0 := (gm_rg_o (by omega) P (by omega) (Or.inr (Or.inr hb))).trans hf
      rw [gm_ra_o P (Or.inr hb), e1]
      exact ⟨Or.inl, fun z => z.elim id (fun w => absurd rfl w.2)⟩
    | true =>
      have e1 : gm_co (gm_rg g A P sg) q A = 1 := gm_rg_i hb P hq (by omega)
      rw [gm_ra_i hb P hq, gm_seb (ad q) (by omega) hy, Bool.or_eq_true, decide_eq_true_iff, e1]
      exact ⟨fun z => z.elim Or.inl (fun w => Or.inr ⟨w, gm_10⟩), fun z => z.elim Or.inl (fun w => Or.inr w.1)⟩
theorem gm_M_reg {s y : Nat} {g v : Int32} (M : gm_M 16 P A sn gr aw fi sg sp) (hP : P ≤ 6) (hA : A < 16) (hs : s < P) (hg : bt g s = true) (hf : ∀ q, q < P → sg (A * 8 + q) = 0) (hy : y = A ∨ (y = 16 ∧ g &&& (((1 : Int32) <<< (nI s &&& 31)) ^^^ (-1)) ≠ 0)) :
    gm_M y P (A + 1) (upd sn A (nI s)) (upd gr A g) (upd aw A (g &&& (((1 : Int32) <<< (nI s &&& 31)) ^^^ (-1)))) fi (upd (gm_rg g A P sg) (A * 8 + s) 2) (upd sp (A * 8 + s) v) := by
  obtain ⟨M1, M2, M3, M4, M5⟩ := M
  have old : ∀ m q, m < A → q < P → upd (gm_rg g A P sg) (A * 8 + s) 2 (m * 8 + q) = sg (m * 8 + q) := fun m q hm hq => by
    rw [pk_un (by omega)]
    exact gm_rg_o (by omega) P (by omega) (Or.inl (by omega))
  refine ⟨fun m hm => ?_, fun m q hm hq => ?_, fun m q hm hq z => ?_, fun m q hm hq hx h0 => ?_, fun m hm h => ?_⟩
  · by_cases e : m = A
    · subst e
      exact ⟨s, hs, pk_us, fun _ => pk_us⟩
    · obtain ⟨s', s1, s2, s3⟩ := M1 m (by omega)
      refine ⟨s', s1, by rw [pk_un e]; exact s2, fun h => ?_⟩
      rw [old m s' (by omega) s1]
      rw [pk_un e] at h
      refine s3 ?_
      rcases h with h | h
      · exact Or.inl h
      · omega
  · by_cases e : m = A
    · subst e
      rw [pk_us]
      by_cases e2 : q = s
      · rw [e2, pk_us, hg]
        exact ⟨fun z => absurd z (by decide), fun z => (nomatch z)⟩
      · rw [pk_un (by omega)]
        cases hb : bt g q with
        | false =>
          rw [gm_rg_o (by omega) P (by omega) (Or.inr (Or.inr hb))]
          exact ⟨fun _ => rfl, fun _ => hf q hq⟩
        | true =>
          rw [gm_rg_i hb P hq (by omega)]
          exact ⟨fun z => absurd z (by decide), fun z => (nomatch z)⟩
    · rw [old m q (by omega) hq, pk_un e]
      exact M2 m q (by omega) hq
  · by_cases e : m = A
    · subst e
      rw [pk_us, gm_clr g (by omega) (by omega)]
      by_cases e2 : q = s
      · rw [e2, pk_us] at z
        exact absurd z (by decide)
      · rw [decide_eq_false e2]
        cases hb : bt g q with
        | true => rfl
        | false =>
          rw [pk_un (by omega), gm_rg_o (by omega) P (by omega) (Or.inr (Or.inr hb)), hf q hq] at z
          exact absurd z (by decide)
    · rw [old m q (by omega) hq] at z
      rw [pk_un e]
      exact M3 m q (by omega) hq z
  · by_cases e : m = A
    · subst e
      rcases hy with w | w
      · exact absurd w.symm hx
      · rw [pk_us] at h0
        exact absurd h0 w.2
    · rw [pk_un (by omega)]
      rw [pk_un e] at h0
      exact M4 m q (by omega) hq (by omega) h0
  · by_cases e : m = A
    · exact M5 m hm (Or.inl (by omega))
    · rw [pk_un e] at h
      refine M5 m hm ?_
      rcases h with h | h | h
      · exact Or.inl (by omega)
      · exact Or.inr (Or.inl h)
      · omega
theorem gm_Q_reg {s : Nat} {g v : Int32} (Q : gm_Q P A aw sg ip) (hP : P ≤ 6) (hA : A < 16) (hs : s < P) : gm_Q P (A + 1) (upd aw A v) (upd (gm_rg g A P sg) (A * 8 + s) 2) ip := by
  obtain ⟨Q1, Q2, Q3⟩ := Q
  refine ⟨fun c hc h => ?_, fun m q hm hq h => ?_, fun m q hm hq h => ?_⟩
  · have := Q1 c hc h
    omega
  · by_cases e : m = A
    · have := Q1 _ (by omega) h
      omega
    · rw [pk_un (by omega), gm_rg_o (by omega) P (by omega) (Or.inl e)]
      exact Q2 m q (by omega) hq h
  · by_cases e : m = A
    · have := Q1 _ (by omega) h
      omega
    · rw [pk_un e]
      exact Q3 m q (by omega) hq h
/-- multicast, accepted: both sides -/
theorem gm_cast {s : Nat} {g : Int32} (I : gm_I 16 B P L A T sn gr aw fi sg sp ut ck ad dm de se li pw wc ip pl) (hB : B < 2147483647) (hs : s < P) (hg1 : ¬ g < 1) (hg2 : g < ((1 : Int32) <<< (nI P &&& 31))) (hg : bt g s = true) (hAL : A < L) :
    ∃ (T' : Nat) (dl' : Int32) (sn' gr' aw' fi' sg' sp' ut' ck' ad' dm' de' se' li' : Nat → Int32) (pw' : Nat → Int64) (wc' ip' pl' : Nat → Int32),
      gm_I 16 (B + 1) P L (A + 1) T' sn' gr' aw' fi' sg' sp' ut' ck' ad' dm' de' se' li' pw' wc' ip' pl' ∧
      (∀ post : Int32 → SX → Prop, post (nI A) ((nI P), (nI L), (nI (A + 1)), (nI T'), (sn'), (gr'), (aw'), (fi'), (sg'), (sp'), (ut'), (ck'), (ad'), (dm'), (de'), (se'), (li'), (pw'), (wc')) → wpX_multicast post ((nI P), (nI L), (nI A), (nI T), sn, gr, aw, fi, sg, sp, ut, ck, ad, dm, de, se, li, pw, wc) (nI s) g) ∧
      (∀ post : Int32 → SY → Prop, post (nI A) ((nI P), (nI L), (nI (A + 1)), (dl'), (ip'), (sn'), (gr'), (aw'), (fi'), (ck'), (sg'), (sp'), (pl')) → wpY_multicast post ((nI P), (nI L), (nI A), dl, ip, sn, gr, aw, fi, ck, sg, sp, pl) (nI s) g) := by
  obtain ⟨⟨hP2, hP, _, hL⟩, H, M, Q, K, W⟩ := I
  have cA : (nI A).toNatClampNeg = A := nI_clamp (by omega)
  have vA : vp_in (nI A) 16 := vp_in_nI (by omega) (by omega)
  have hs32 : s < 32 := by omega
  have hx : ¬ (g &&& ((1 : Int32) <<< (nI s &&& 31))) = 0 := by
    rw [gm_tx g hs32, hg]
    decide
  have hy : ¬ ((g >>> (nI s &&& 31)) &&& 1) = 0 := by
    rw [gm_ty0 g hs32, hg]
    decide
  have hsub := gm_sub g hs32 hg
  have hlt : nI A < nI L := nI_lt hAL (by omega)
  have hf : ∀ q, q < P → sg (A * 8 + q) = 0 := by
    intro q hq
    obtain ⟨D, S, ln, h1, _⟩ := H q hq
    obtain ⟨_, _, _, _, _, _, _, _, _, _, hf⟩ := h1
    exact hf A (Nat.le_refl A) (by omega)
  have H1 := gm_AL_reg (g := g) H hP (by omega)
  have hsg : gm_rg g A P sg (A * 8 + s) = 1 := gm_rg_i hg P hs (by omega)
  have k1 := K.1 s hs
  obtain ⟨S, hS, hse, H2⟩ := gm_AL_prop H1 hP hs (Nat.lt_succ_self A) hsg (by omega)
  have Q1 := gm_Q_reg (s := s) (g := g) (v := g &&& (((1 : Int32) <<< (nI s &&& 31)) ^^^ (-1))) Q hP (by omega) hs
  have Q2 := gm_Q_send (k := 1) (m := A) (O := fun q => bt (upd gr A g A) q && !decide (q = s)) Q1 (Or.inl rfl) hP (by omega) (Nat.lt_succ_self A) (fun z => absurd z (by decide))
  have K1 := gm_K_prop (m := A) K hB hP hs
  obtain ⟨T1, pw1, wc1, w1, w2⟩ := gm_xsend (L := L) (A := A + 1) (sn := upd sn A (nI s)) (gr := upd gr A g) (aw := upd aw A (g &&& (((1 : Int32) <<< (nI s &&& 31)) ^^^ (-1)))) (fi := fi) (sg := upd (gm_rg g A P sg) (A * 8 + s) 2) (sp := upd sp (A * 8 + s) (ck s + 1)) (ut := ut) (ck := upd ck s (ck s + 1)) (ad := gm_ra g A P ad) (dm := dm) (de := de) (se := upd se s (nI (S + 1))) (li := upd li (s * 16 + S) (nI A)) (k := 1) (m := A) (s := s) (by omega) (by omega) hP (by omega) pk_us W
  have xw : ∀ (post : Int32 → SX → Prop) (r : Int32) (T' : Nat) (fi' sg' sp' ut' ck' dm' de' li' : Nat → Int32) (pw' : Nat → Int64) (wc' : Nat → Int32), (((g &&& (((1 : Int32) <<< (nI s &&& 31)) ^^^ (-1)) = 0) ∧ (∀ post' : Int32 → SX → Prop, post' r ((nI P), (nI L), (nI (A + 1)), (nI T'), (upd sn A (nI s)), (upd gr A g), (upd aw A (g &&& (((1 : Int32) <<< (nI s &&& 31)) ^^^ (-1)))), (fi'), (sg'), (sp'), (ut'), (ck'), (gm_ra g A P ad), (dm'), (de'), (upd se s (nI (S + 1))), (li'), (pw'), (wc')) → wpX_decide post' ((nI P), (nI L), (nI (A + 1)), (nI T1), (upd sn A (nI s)), (upd gr A g), (upd aw A (g &&& (((1 : Int32) <<< (nI s &&& 31)) ^^^ (-1)))), fi, (upd (gm_rg g A P sg) (A * 8 + s) 2), (upd sp (A * 8 + s) (ck s + 1)), ut, (upd ck s (ck s + 1)), (gm_ra g A P ad), dm, de, (upd se s (nI (S + 1))), (upd li (s * 16 + S) (nI A)), (pw1), (wc1)) (nI A)) ∧ post (nI A) ((nI P), (nI L), (nI (A + 1)), (nI T'), (upd sn A (nI s)), (upd gr A g), (upd aw A (g &&& (((1 : Int32) <<< (nI s &&& 31)) ^^^ (-1)))), (fi'), (sg'), (sp'), (ut'), (ck'), (gm_ra g A P ad), (dm'), (de'), (upd se s (nI (S + 1))), (li'), (pw'), (wc'))) ∨ ((g &&& (((1 : Int32) <<< (nI s &&& 31)) ^^^ (-1)) ≠ 0) ∧ post (nI A) ((nI P), (nI L), (nI (A + 1)), (nI T1), (upd sn A (nI s)), (upd gr A g), (upd aw A (g &&& (((1 : Int32) <<< (nI s &&& 31)) ^^^ (-1)))), fi, (upd (gm_rg g A P sg) (A * 8 + s) 2), (upd sp (A * 8 + s) (ck s + 1)), ut, (upd ck s (ck s + 1)), (gm_ra g A P ad), dm, de, (upd se s (nI (S + 1))), (upd li (s * 16 + S) (nI A)), (pw1), (wc1)))) → wpX_multicast post ((nI P), (nI L), (nI A), (nI T), sn, gr, aw, fi, sg, sp, ut, ck, ad, dm, de, se, li, pw, wc) (nI s) g := by
    intro post r T' fi' sg' sp' ut' ck' dm' de' li' pw' wc' h
    unfold wpX_multicast
    refine gm_xv1 hP hs ?_
    refine br_f gm_10 (br_f hg1 (br_t hg2 (br_f hx (br_t hlt (nm_r (nI_1 A) ?_)))))
    refine gm_xreg (by omega) hP ?_
    refine gm_xprop (by omega) (by omega) hS hse ?_
    refine w2 _ ⟨vA, ?_⟩
    rw [cA]
    rcases h with ⟨hz, hd, h⟩ | ⟨hz, h⟩
    · exact br_t (by rw [pk_us]; exact hz) (hd _ h)
    · exact br_f (by rw [pk_us]; exact hz) h
  have yw : ∀ (post : Int32 → SY → Prop) (dl' : Int32) (ip' fi' ck' sg' sp' pl' : Nat → Int32), (((g &&& (((1 : Int32) <<< (nI s &&& 31)) ^^^ (-1)) = 0) ∧ (∀ post' : SY → Prop, post' ((nI P), (nI L), (nI (A + 1)), (dl'), (ip'), (upd sn A (nI s)), (upd gr A g), (upd aw A (g &&& (((1 : Int32) <<< (nI s &&& 31)) ^^^ (-1)))), (fi'), (ck'), (sg'), (sp'), (pl')) → wpY_decide post' ((nI P), (nI L), (nI (A + 1)), dl, (gm_sd 1 A (fun q => bt (upd gr A g A) q && !decide (q = s)) P ip), (upd sn A (nI s)), (upd gr A g), (upd aw A (g &&& (((1 : Int32) <<< (nI s &&& 31)) ^^^ (-1)))), fi, (upd ck s (ck s + 1)), (upd (gm_rg g A P sg) (A * 8 + s) 2), (upd sp (A * 8 + s) (ck s + 1)), pl) (nI A)) ∧ post (nI A) ((nI P), (nI L), (nI (A + 1)), (dl'), (ip'), (upd sn A (nI s)), (upd gr A g), (upd aw A (g &&& (((1 : Int32) <<< (nI s &&& 31)) ^^^ (-1)))), (fi'), (ck'), (sg'), (sp'), (pl'))) ∨ ((g &&& (((1 : Int32) <<< (nI s &&& 31)) ^^^ (-1)) ≠ 0) ∧ post (nI A) ((nI P), (nI L), (nI (A + 1)), dl, (gm_sd 1 A (fun q => bt (upd gr A g A) q && !decide (q = s)) P ip), (upd sn A (nI s)), (upd gr A g), (upd aw A (g &&& (((1 : Int32) <<< (nI s &&& 31)) ^^^ (-1)))), fi, (upd ck s (ck s + 1)), (upd (gm_rg g A P sg) (A * 8 + s) 2), (upd sp (A * 8 + s) (ck s + 1)), pl))) → wpY_multicast post ((nI P), (nI L), (nI A), dl, ip, sn, gr, aw, fi, ck, sg, sp, pl) (nI s) g := by
    intro post dl' ip' fi' ck' sg' sp' pl' h
    have key : ∀ d q, q + d = P → wY_multicast_93 post (nI s) g (nI A) (nI P) (nI L) (nI (A + 1)) dl (d + 1) (nI q) ip (upd sn A (nI s)) (upd gr A g) (upd aw A (g &&& (((1 : Int32) <<< (nI s &&& 31)) ^^^ (-1)))) fi ck (gm_rg g A q sg) sp pl := by
      intro d
      induction d with
      | zero =>
        intro q hq
        have e : q = P := by omega
        subst e
        refine br_t (nI_le (Nat.le_refl _) (by omega)) (gm_yprop (by omega) (by omega) (gm_ysend (k := 1) (s := s) (by omega) (by omega) hP (by omega) pk_us (fun q hq => ?_) ⟨vA, ?_⟩))
        · rw [pk_us]
          by_cases e2 : q = s
          · rw [e2, pk_us, hg]
            exact ⟨fun z => absurd z (by decide), fun z => (nomatch z)⟩
          · rw [pk_un (by omega)]
            cases hb : bt g q with
            | false =>
              rw [gm_rg_o (by omega) _ (by omega) (Or.inr (Or.inr hb))]
              exact ⟨fun _ => rfl, fun _ => hf q hq⟩
            | true =>
              rw [gm_rg_i hb _ hq (by omega)]
              exact ⟨fun z => absurd z (by decide), fun z => (nomatch z)⟩
        · rw [cA]
          rcases h with ⟨hz, hd, h⟩ | ⟨hz, h⟩
          · exact br_t (by rw [pk_us]; exact hz) (hd _ h)
          · exact br_f (by rw [pk_us]; exact hz) h
      | succ d ih =>
        intro q hq
        have t := ih (q + 1) (by omega)
        have cq : (nI (A * 8 + q)).toNatClampNeg = A * 8 + q := nI_clamp (by omega)
        have vq : vp_in (nI (A * 8 + q)) 128 := vp_in_nI (by omega) (by omega)
        refine br_f (nI_ge (by omega) (by omega)) ?_
        cases hb : bt g q with
        | false =>
          rw [gm_rg_f hb] at t
          refine br_f (fun z => ?_) (nm_r (nI_1 q) t)
          rw [gm_ty g (by omega), hb] at z
          exact (nomatch z)
        | true =>
          rw [gm_rg_t hb] at t
          exact br_t ((gm_ty g (by omega)).mpr hb) ⟨by rw [gm_ix8]; exact vq, nm_r (by rw [gm_ix8, cq]) (nm_r (nI_1 q) t)⟩
    unfold wpY_multicast
    refine gm_yv1 hP hs ?_
    exact (br_f gm_10 (br_f hg1 (br_t hg2 (br_f hy (br_t hlt (nm_r (nI_1 A) ⟨vA, nm_r (by rw [cA]) ⟨vA, nm_r (by rw [cA]) ⟨vA, nm_r (by rw [cA, hsub]) ⟨P + 1, key P 0 (by omega)⟩⟩⟩⟩))))))
  by_cases hz : g &&& (((1 : Int32) <<< (nI s &&& 31)) ^^^ (-1)) = 0
  · have M1 := gm_M_reg (y := A) (v := ck s + 1) M hP (by omega) hs hg hf (Or.inl rfl)
    have I1 : gm_I A (B + 1) P L (A + 1) T1 (upd sn A (nI s)) (upd gr A g) (upd aw A (g &&& (((1 : Int32) <<< (nI s &&& 31)) ^^^ (-1)))) fi (upd (gm_rg g A P sg) (A * 8 + s) 2) (upd sp (A * 8 + s) (ck s + 1)) ut (upd ck s (ck s + 1)) (gm_ra g A P ad) dm de (upd se s (nI (S + 1))) (upd li (s * 16 + S) (nI A)) (pw1) (wc1) (gm_sd 1 A (fun q => bt (upd gr A g A) q && !decide (q = s)) P ip) pl := ⟨⟨hP2, hP, by omega, hL⟩, H2, M1, Q2, K1, w1⟩
    obtain ⟨r, T', fi', sg', sp', ut', ck', dm', de', li', pw', wc', ip', pl', d1, d2, d3⟩ := gm_decide (dl := dl) I1 (Nat.lt_succ_self A) (by rw [pk_us]; exact hz)
    exact ⟨T', dl + r, _, _, _, fi', sg', sp', ut', ck', _, dm', de', _, li', pw', wc', ip', pl', d1, fun post h => xw post r T' fi' sg' sp' ut' ck' dm' de' li' pw' wc' (Or.inl ⟨hz, d2, h⟩), fun post h => yw post (dl + r) ip' fi' ck' sg' sp' pl' (Or.inl ⟨hz, d3, h⟩)⟩
  · have M1 := gm_M_reg (y := 16) (v := ck s + 1) M hP (by omega) hs hg hf (Or.inr ⟨rfl, hz⟩)
    have I1 : gm_I 16 (B + 1) P L (A + 1) T1 (upd sn A (nI s)) (upd gr A g) (upd aw A (g &&& (((1 : Int32) <<< (nI s &&& 31)) ^^^ (-1)))) fi (upd (gm_rg g A P sg) (A * 8 + s) 2) (upd sp (A * 8 + s) (ck s + 1)) ut (upd ck s (ck s + 1)) (gm_ra g A P ad) dm de (upd se s (nI (S + 1))) (upd li (s * 16 + S) (nI A)) (pw1) (wc1) (gm_sd 1 A (fun q => bt (upd gr A g A) q && !decide (q = s)) P ip) pl := ⟨⟨hP2, hP, by omega, hL⟩, H2, M1, Q2, K1, w1⟩
    exact ⟨T1, dl, _, _, _, fi, _, _, ut, _, _, dm, de, _, _, pw1, wc1, _, pl, I1, fun post h => xw post 0 T fi sg sp ut ck dm de li pw wc (Or.inr ⟨hz, h⟩), fun post h => yw post dl ip fi ck sg sp pl (Or.inr ⟨hz, h⟩)⟩
end
end
section
/-! receive, receiveCopy, receiveMany -/
theorem gm_kind {x : Int32} (h1 : ¬ x < 1) (h2 : x ≤ 3) : ∃ k, (k = 1 ∨ k = 2 ∨ k = 3) ∧ x = nI k := by
  have e0 : (0 : Int32).toInt = 0 := by decide
  have e1 : (1 : Int32).toInt = 1 := by decide
  have e3 : (3 : Int32).toInt = 3 := by decide
  rw [Int32.lt_iff_toInt_lt, e1] at h1
  rw [Int32.le_iff_toInt_le, e3] at h2
  obtain ⟨j, hj, e⟩ := nI_of (x := x) (by rw [Int32.lt_iff_toInt_lt, e0]; omega)
  rw [e, nI_toInt hj] at h1 h2
  exact ⟨j, by omega, e⟩
def gm_ok (P A : Nat) (v1 v2 v3 : Int32) : Prop := ∃ k m p, (k = 1 ∨ k = 2 ∨ k = 3) ∧ m < A ∧ p < P ∧ v1 = nI k ∧ v2 = nI m ∧ v3 = nI p
section
variable {x B P L A T : Nat} {sn gr aw fi sg sp ut ck ad dm de se li wc ip pl : Nat → Int32} {pw : Nat → Int64} {dl : Int32}
theorem gm_xbad {post : Int32 → Prop} {v1 v2 v3 : Int32} (hP : P ≤ 6) (hA : A ≤ 16) (hn : ¬ gm_ok P A v1 v2 v3) (h : post (-1)) : wpX_refusalOf post ((nI P), (nI L), (nI A), (nI T), sn, gr, aw, fi, sg, sp, ut, ck, ad, dm, de, se, li, pw, wc) v1 v2 v3 := by
  unfold wpX_refusalOf
  refine br_c (fun _ => h) (fun n1 => br_c (fun n2 => ?_) (fun _ => h))
  rcases gm_ix v2 (n := A) hA with hx | ⟨m, hm, e2⟩
  · refine gm_xe0 hx ?_
    exact br_t rfl h
  · rw [e2]
    refine gm_xe1 hA hm ?_
    refine br_f gm_10 ?_
    rcases gm_ix v3 (n := P) (by omega) with hx | ⟨p, hp, e3⟩
    · refine gm_xv0 hx ?_
      exact br_t rfl h
    · obtain ⟨k, hk, e1⟩ := gm_kind n1 n2
      exact absurd ⟨k, m, p, hk, hm, hp, e1, e2, e3⟩ hn
theorem gm_ybad {post : Int32 → SY → Prop} {v1 v2 v3 y : Int32} (hP : P ≤ 6) (hA : A ≤ 16) (hn : ¬ gm_ok P A v1 v2 v3) (h : post (-1) ((nI P), (nI L), (nI A), dl, ip, sn, gr, aw, fi, ck, sg, sp, pl)) : wpY_arrive post ((nI P), (nI L), (nI A), dl, ip, sn, gr, aw, fi, ck, sg, sp, pl) v1 v2 v3 y := by
  unfold wpY_arrive
  refine br_c (fun _ => h) (fun n1 => br_c (fun _ => h) (fun n2 => ?_))
  rcases gm_ix v2 (n := A) hA with hx | ⟨m, hm, e2⟩
  · refine gm_ye0 hx ?_
    exact br_t rfl h
  · rw [e2]
    refine gm_ye1 hA hm ?_
    refine br_f gm_10 ?_
    rcases gm_ix v3 (n := P) (by omega) with hx | ⟨p, hp, e3⟩
    · refine gm_yv0 hx ?_
      exact br_t rfl h
    · obtain ⟨k, hk, e1⟩ := gm_kind n1 (Int32.not_lt.mp n2)
      exact absurd ⟨k, m, p, hk, hm, hp, e1, e2, e3⟩ hn
theorem gm_xref {post : Int32 → Prop} {k m p : Nat} (hk : k = 1 ∨ k = 2 ∨ k = 3) (hP : P ≤ 6) (hA : A ≤ 16) (hm : m < A) (hp : p < P) (h1 : gm_B pw (k * 128 + m * 8 + p) = true → post 0) (h0 : gm_B pw (k * 128 + m * 8 + p) = false → post (-2)) : wpX_refusalOf post ((nI P), (nI L), (nI A), (nI T), sn, gr, aw, fi, sg, sp, ut, ck, ad, dm, de, se, li, pw, wc) (nI k) (nI m) (nI p) := by
  unfold wpX_refusalOf
  refine br_f (nI_nlt (a := k) (b := 1) (by omega) (by omega)) (br_t (nI_le (a := k) (b := 3) (by omega) (by omega)) ?_)
  refine gm_xe1 hA hm ?_
  refine br_f gm_10 ?_
  refine gm_xv1 hP hp ?_
  refine br_f gm_10 ?_
  refine gm_xcode ?_
  refine gm_xin (by omega) (fun hb => ?_) (fun hb => ?_)
  · exact br_f gm_10 (h1 hb)
  · exact br_t rfl (h0 hb)
theorem gm_yarr0 {post : Int32 → SY → Prop} {k m p : Nat} {y : Int32} (hk : k = 1 ∨ k = 2 ∨ k = 3) (hP : P ≤ 6) (hA : A ≤ 16) (hm : m < A) (hp : p < P) (hz : ip (k * 128 + m * 8 + p) = 0) (h : post (-2) ((nI P), (nI L), (nI A), dl, ip, sn, gr, aw, fi, ck, sg, sp, pl)) : wpY_arrive post ((nI P), (nI L), (nI A), dl, ip, sn, gr, aw, fi, ck, sg, sp, pl) (nI k) (nI m) (nI p) y := by
  have cc : (nI (k * 128 + m * 8 + p)).toNatClampNeg = k * 128 + m * 8 + p := nI_clamp (by omega)
  unfold wpY_arrive
  refine br_f (nI_nlt (a := k) (b := 1) (by omega) (by omega)) (br_f (nI_nlt (a := 3) (b := k) (by omega) (by omega)) ?_)
  refine gm_ye1 hA hm ?_
  refine br_f gm_10 ?_
  refine gm_yv1 hP hp ?_
  exact br_f gm_10 ⟨by rw [gm_cd]; exact vp_in_nI (by omega) (by omega), br_t (by rw [gm_cd, cc]; exact hz) h⟩
theorem gm_yarr1 {post : Int32 → SY → Prop} {k m p : Nat} {y dl' : Int32} {ip' aw' fi' ck' sg' sp' pl' : Nat → Int32} (hk : k = 1 ∨ k = 2 ∨ k = 3) (hP : P ≤ 6) (hA : A ≤ 16) (hm : m < A) (hp : p < P) (hz : ip (k * 128 + m * 8 + p) ≠ 0) (hy : vp_nar .boolean y = y)
    (hY : ∀ post' : SY → Prop, post' ((nI P), (nI L), (nI A), (dl'), (ip'), sn, gr, (aw'), (fi'), (ck'), (sg'), (sp'), (pl')) → wpY_handle post' ((nI P), (nI L), (nI A), dl, (upd ip (k * 128 + m * 8 + p) y), sn, gr, aw, fi, ck, sg, sp, pl) (nI k) (nI m) (nI p)) (h : post (dl' - dl) ((nI P), (nI L), (nI A), (dl'), (ip'), sn, gr, (aw'), (fi'), (ck'), (sg'), (sp'), (pl'))) : wpY_arrive post ((nI P), (nI L), (nI A), dl, ip, sn, gr, aw, fi, ck, sg, sp, pl) (nI k) (nI m) (nI p) y := by
  have cc : (nI (k * 128 + m * 8 + p)).toNatClampNeg = k * 128 + m * 8 + p := nI_clamp (by omega)
  have vc : vp_in (nI (k * 128 + m * 8 + p)) 512 := vp_in_nI (by omega) (by omega)
  unfold wpY_arrive
  refine br_f (nI_nlt (a := k) (b := 1) (by omega) (by omega)) (br_f (nI_nlt (a := 3) (b := k) (by omega) (by omega)) ?_)
  refine gm_ye1 hA hm ?_
  refine br_f gm_10 ?_
  refine gm_yv1 hP hp ?_
  refine br_f gm_10 ⟨by rw [gm_cd]; exact vc, br_f (by rw [gm_cd, cc]; exact hz) ⟨by rw [gm_cd]; exact vc, nm_r (e' := upd ip (k * 128 + m * 8 + p) y) (by rw [gm_cd, cc, hy]) ?_⟩⟩
  exact hY _ h
theorem gm_Q_sub {ip' : Nat → Int32} (Q : gm_Q P A aw sg ip) (h : ∀ c, ip' c ≠ 0 → ip c ≠ 0) : gm_Q P A aw sg ip' := by
  obtain ⟨Q1, Q2, Q3⟩ := Q
  exact ⟨fun c hc z => Q1 c hc (h c z), fun m p hm hp z => Q2 m p hm hp (h _ z), fun m p hm hp z => Q3 m p hm hp (h _ z)⟩
theorem gm_up0 {f : Nat → Int32} {c j : Nat} (h : upd f c 0 j ≠ 0) : f j ≠ 0 := by
  by_cases e : j = c
  · rw [e, pk_us] at h
    exact absurd rfl h
  · rw [pk_un e] at h
    exact h
theorem gm_up1 {f : Nat → Int32} {c j : Nat} (hc : f c ≠ 0) (h : upd f c 1 j ≠ 0) : f j ≠ 0 := by
  by_cases e : j = c
  · rw [e]
    exact hc
  · rw [pk_un e] at h
    exact h
theorem gm_cancel (a b : Int32) : a + b - a = b := by rw [Int32.add_comm, Int32.add_sub_cancel]
/-- an item taken and handled: both sides -/
theorem gm_item {k m p : Nat} (I : gm_I 16 B P L A T sn gr aw fi sg sp ut ck ad dm de se li pw wc ip pl) (hB : B < 2147483647) (hk : k = 1 ∨ k = 2 ∨ k = 3) (hm : m < A) (hp : p < P) (hb : gm_B pw (k * 128 + m * 8 + p) = true) :
    ∃ (T1 : Nat) (pw1 : Nat → Int64) (wc1 : Nat → Int32), (∀ post : SX → Prop, post ((nI P), (nI L), (nI A), (nI T1), sn, gr, aw, fi, sg, sp, ut, ck, ad, dm, de, se, li, (pw1), (wc1)) → wpX_take post ((nI P), (nI L), (nI A), (nI T), sn, gr, aw, fi, sg, sp, ut, ck, ad, dm, de, se, li, pw, wc) (nI (k * 128 + m * 8 + p))) ∧
      gm_O (B + 1) P L A sn gr ad dl (fun post => wpX_handle post ((nI P), (nI L), (nI A), (nI T1), sn, gr, aw, fi, sg, sp, ut, ck, ad, dm, de, se, li, (pw1), (wc1)) (nI k) (nI m) (nI p)) (fun post => wpY_handle post ((nI P), (nI L), (nI A), dl, (upd ip (k * 128 + m * 8 + p) 0), sn, gr, aw, fi, ck, sg, sp, pl) (nI k) (nI m) (nI p)) := by
  obtain ⟨⟨hP2, hP, hAL, hL⟩, H, M, Q, K, W⟩ := I
  obtain ⟨T1, pw1, wc1, w1, w2⟩ := gm_xtake (P := P) (L := L) (A := A) (sn := sn) (gr := gr) (aw := aw) (fi := fi) (sg := sg) (sp := sp) (ut := ut) (ck := ck) (ad := ad) (dm := dm) (de := de) (se := se) (li := li) (c := k * 128 + m * 8 + p) (by omega) W hb
  have hip := gm_W_in' W (by omega) hb
  refine ⟨T1, pw1, wc1, w2, ?_⟩
  have I1 : gm_I 16 B P L A T1 sn gr aw fi sg sp ut ck ad dm de se li (pw1) (wc1) (upd ip (k * 128 + m * 8 + p) 0) pl := ⟨⟨hP2, hP, hAL, hL⟩, H, M, gm_Q_sub Q (fun c z => gm_up0 z), K, w1⟩
  exact gm_handle I1 hk hm hp (fun z => Q.2.1 m p hm hp (by rw [← z]; exact hip)) (fun z => Q.2.2 m p hm hp (by rw [← z]; exact hip)) hB
/-- an item handled and left: both sides -/
theorem gm_itemc {k m p : Nat} (I : gm_I 16 B P L A T sn gr aw fi sg sp ut ck ad dm de se li pw wc ip pl) (hB : B < 2147483647) (hk : k = 1 ∨ k = 2 ∨ k = 3) (hm : m < A) (hp : p < P) (hb : gm_B pw (k * 128 + m * 8 + p) = true) :
      gm_O (B + 1) P L A sn gr ad dl (fun post => wpX_handle post ((nI P), (nI L), (nI A), (nI T), sn, gr, aw, fi, sg, sp, ut, ck, ad, dm, de, se, li, pw, wc) (nI k) (nI m) (nI p)) (fun post => wpY_handle post ((nI P), (nI L), (nI A), dl, (upd ip (k * 128 + m * 8 + p) 1), sn, gr, aw, fi, ck, sg, sp, pl) (nI k) (nI m) (nI p)) := by
  obtain ⟨⟨hP2, hP, hAL, hL⟩, H, M, Q, K, W⟩ := I
  have hip := gm_W_in' W (by omega) hb
  have I1 : gm_I 16 B P L A T sn gr aw fi sg sp ut ck ad dm de se li pw wc (upd ip (k * 128 + m * 8 + p) 1) pl := ⟨⟨hP2, hP, hAL, hL⟩, H, M, gm_Q_sub Q (fun c z => gm_up1 hip z), K, gm_W_same W (by omega) hb⟩
  exact gm_handle I1 hk hm hp (fun z => Q.2.1 m p hm hp (by rw [← z]; exact hip)) (fun z => Q.2.2 m p hm hp (by rw [← z]; exact hip)) hB
/-- receiveMany's loops: both sides -/
theorem gm_many {v1 v2 v3 : Int32} {lim : Nat} (hlim : lim ≤ 32) (h1 : ∀ j, j < lim → ¬ v3 ≤ nI j) (h2 : v3 ≤ nI lim ∨ (¬ v3 ≤ nI lim ∧ lim = 32)) : ∀ d j B T (dl : Int32) (aw fi sg sp ut ck dm de se li : Nat → Int32) (pw : Nat → Int64) (wc ip pl : Nat → Int32), j + d = lim → B + d < 2147483647 → gm_I 16 B P L A T sn gr aw fi sg sp ut ck ad dm de se li pw wc ip pl →
    ∃ (t T' : Nat) (dl' : Int32) (aw' fi' sg' sp' ut' ck' dm' de' se' li' : Nat → Int32) (pw' : Nat → Int64) (wc' ip' pl' : Nat → Int32),
      gm_I 16 (B + d) P L A T' sn gr (aw') (fi') (sg') (sp') (ut') (ck') ad (dm') (de') (se') (li') (pw') (wc') (ip') (pl') ∧
      (∀ post : Int32 → SX → Prop, post (nI t) ((nI P), (nI L), (nI A), (nI T'), sn, gr, (aw'), (fi'), (sg'), (sp'), (ut'), (ck'), ad, (dm'), (de'), (se'), (li'), (pw'), (wc')) → wX_receiveMany_24 post v1 v2 (nI lim) (d + 1) (nI j) (nI P) (nI L) (nI A) (nI T) sn gr aw fi sg sp ut ck ad dm de se li pw wc) ∧
      (∀ post : Int32 → SY → Prop, post (nI t) ((nI P), (nI L), (nI A), (dl'), (ip'), sn, gr, (aw'), (fi'), (ck'), (sg'), (sp'), (pl')) → wY_receiveMany_6 post v1 v2 v3 (d + 1) (nI j) (nI j) (nI P) (nI L) (nI A) dl ip sn gr aw fi ck sg sp pl) := by
  intro d
  induction d with
  | zero =>
    intro j B T dl aw fi sg sp ut ck dm de se li pw wc ip pl hj hB I
    have e : j = lim := by omega
    subst e
    refine ⟨j, T, dl, aw, fi, sg, sp, ut, ck, dm, de, se, li, pw, wc, ip, pl, I, fun post h => ?_, fun post h => ?_⟩
    · exact br_t (nI_le (Nat.le_refl _) (by omega)) h
    · rcases h2 with z | ⟨z, z2⟩
      · exact br_t z h
      · refine br_f z (br_t ?_ h)
        rw [z2]
        exact nI_le (a := 32) (b := 32) (by omega) (by omega)
  | succ d ih =>
    intro j B T dl aw fi sg sp ut ck dm de se li pw wc ip pl hj hB I
    have W : gm_W T pw wc ip := I.2.2.2.2.2
    have hT := gm_W_lt W
    have hnl : ¬ nI lim ≤ nI j := nI_ge (by omega) (by omega)
    have hn3 := h1 j (by omega)
    have h32 : ¬ (32 : Int32) ≤ nI j := nI_ge (b := 32) (by omega) (by omega)
    by_cases hT0 : T = 0
    · have hn1 : ¬ (1 : Int32) ≤ nI T := nI_ge (b := 1) (by omega) (by omega)
      refine ⟨j, T, dl, aw, fi, sg, sp, ut, ck, dm, de, se, li, pw, wc, ip, pl, gm_I_up I (by omega), fun post h => ?_, fun post h => ?_⟩
      · exact br_f hnl (br_f hn1 h)
      · refine br_f hn3 (br_f h32 ?_)
        refine gm_ysize W ?_
        exact br_f hn1 h
    · have hp1 : (1 : Int32) ≤ nI T := nI_le (a := 1) (by omega) (by omega)
      have hne : ¬ nI T = 0 := nI_ne0 (by omega) (by omega)
      obtain ⟨y, hy, ey⟩ := pk_andE (v1 + nI j * v2) (m := 2147483647) 31 (by decide)
      have erem : ((v1 + nI j * v2) &&& 2147483647) - ((v1 + nI j * v2) &&& 2147483647) / nI T * nI T = nI (y % T) := by
        rw [ey]
        exact pk_rem hy (by omega) (by omega)
      obtain ⟨c, c1, c2, c3, c4⟩ := gm_xselect (P := P) (L := L) (A := A) (T := T) (sn := sn) (gr := gr) (aw := aw) (fi := fi) (sg := sg) (sp := sp) (ut := ut) (ck := ck) (ad := ad) (dm := dm) (de := de) (se := se) (li := li) (pw := pw) (wc := wc) W (k := y % T) (Nat.mod_lt _ (by omega))
      have Q := I.2.2.2.1
      obtain ⟨q1, q2, q3⟩ := Q.1 c c1 (gm_W_in' W c1 c2)
      have ec : c / 128 * 128 + c / 8 % 16 * 8 + c % 8 = c := by omega
      have e7 : nI c >>> ((7 : Int32) &&& 31) = nI (c / 128) := pk_shrN (by omega) _ 7 (by decide)
      have e3 : nI c >>> ((3 : Int32) &&& 31) = nI (c / 8) := pk_shrN (by omega) _ 3 (by decide)
      have e15 : nI (c / 8) &&& 15 = nI (c / 8 % 16) := pk_andN (by omega) 4 (by decide)
      have e77 : nI c &&& 7 = nI (c % 8) := pk_andN (by omega) 3 (by decide)
      obtain ⟨T1, pw1, wc1, w2, hO⟩ := gm_item (dl := dl) (k := c / 128) (m := c / 8 % 16) (p := c % 8) I (by omega) (by omega) q2 q3 (by rw [ec]; exact c2)
      rw [ec] at w2 hO
      obtain ⟨r, T2, aw2, fi2, sg2, sp2, ut2, ck2, dm2, de2, se2, li2, pw2, wc2, ip2, pl2, o1, o2, o3⟩ := hO
      obtain ⟨t, T', dl', aw', fi', sg', sp', ut', ck', dm', de', se', li', pw', wc', ip', pl', i1, i2, i3⟩ := ih (j + 1) (B + 1) T2 (dl + r) aw2 fi2 sg2 sp2 ut2 ck2 dm2 de2 se2 li2 pw2 wc2 ip2 pl2 (by omega) (by omega) o1
      refine ⟨t, T', dl', aw', fi', sg', sp', ut', ck', dm', de', se', li', pw', wc', ip', pl', gm_I_up i1 (by omega), fun post h => ?_, fun post h => ?_⟩
      · refine br_f hnl (br_t hp1 ⟨hne, nm_r erem ?_⟩)
        refine c4 _ ?_
        refine w2 _ ?_
        show wpX_handle _ _ _ _ _
        rw [e7, e3, e15, e77]
        exact o2 _ (nm_r (nI_1 j) (i2 post h))
      · refine br_f hn3 (br_f h32 ?_)
        refine gm_ysize W ?_
        refine br_t hp1 ⟨hne, ?_⟩
        rw [erem]
        refine gm_yitem W c1 c2 c3 ?_
        have cc : (nI c).toNatClampNeg = c := nI_clamp (by omega)
        refine br_t (nI_pos' (by omega)) ⟨vp_in_nI c1 (by omega), nm_r (e' := upd ip c 0) (by rw [cc, gm_nb0]) ?_⟩
        rw [e7, e3, e15, e77]
        exact o3 _ (nm_r (nI_1 j) (nm_r (nI_1 j) (i3 post h)))
end
/-! the relation -/
def gm_R (B : Nat) (u : SX) (v : SY) : Prop := ∃ (P L A T : Nat) (dl : Int32) (sn gr aw fi sg sp ut ck ad dm de se li : Nat → Int32) (pw : Nat → Int64) (wc ip pl : Nat → Int32), gm_I 16 B P L A T sn gr aw fi sg sp ut ck ad dm de se li pw wc ip pl ∧ u = ((nI P), (nI L), (nI A), (nI T), sn, gr, aw, fi, sg, sp, ut, ck, ad, dm, de, se, li, pw, wc) ∧ v = ((nI P), (nI L), (nI A), dl, ip, sn, gr, aw, fi, ck, sg, sp, pl)
theorem gm_el {B : Nat} {F : SX → SY → Prop} (h : ∀ (P L A T : Nat) (dl : Int32) (sn gr aw fi sg sp ut ck ad dm de se li : Nat → Int32) (pw : Nat → Int64) (wc ip pl : Nat → Int32), gm_I 16 B P L A T sn gr aw fi sg sp ut ck ad dm de se li pw wc ip pl → F ((nI P), (nI L), (nI A), (nI T), sn, gr, aw, fi, sg, sp, ut, ck, ad, dm, de, se, li, pw, wc) ((nI P), (nI L), (nI A), dl, ip, sn, gr, aw, fi, ck, sg, sp, pl)) {u : SX} {v : SY} (I : gm_R B u v) : F u v := by
  obtain ⟨P, L, A, T, dl, sn, gr, aw, fi, sg, sp, ut, ck, ad, dm, de, se, li, pw, wc, ip, pl, hI, e1, e2⟩ := I
  rw [e1, e2]
  exact h P L A T dl sn gr aw fi sg sp ut ck ad dm de se li pw wc ip pl hI
theorem gm_R_in {B P L A T : Nat} {dl : Int32} {sn gr aw fi sg sp ut ck ad dm de se li : Nat → Int32} {pw : Nat → Int64} {wc ip pl : Nat → Int32} (I : gm_I 16 B P L A T sn gr aw fi sg sp ut ck ad dm de se li pw wc ip pl) {B' : Nat} (hB : B ≤ B') : gm_R B' ((nI P), (nI L), (nI A), (nI T), sn, gr, aw, fi, sg, sp, ut, ck, ad, dm, de, se, li, pw, wc) ((nI P), (nI L), (nI A), dl, ip, sn, gr, aw, fi, ck, sg, sp, pl) := ⟨P, L, A, T, dl, sn, gr, aw, fi, sg, sp, ut, ck, ad, dm, de, se, li, pw, wc, ip, pl, gm_I_up I hB, rfl, rfl⟩
theorem gm_R_up {B B' : Nat} {u : SX} {v : SY} (I : gm_R B u v) (hB : B ≤ B') : gm_R B' u v := gm_el (F := fun u v => gm_R B' u v) (fun _ _ _ _ _ _ _ _ _ _ _ _ _ _ _ _ _ _ _ _ _ _ hI => gm_R_in hI hB) I
end
section
/-! precedes: reached by chains -/
def gm_Re (A : Nat) (R : Nat → Nat → Prop) (a y : Nat) : Prop := ∀ S : Nat → Prop, (∀ z, z < A → R a z → S z) → (∀ x z, x < A → z < A → S x → R x z → S z) → S y
theorem gm_Re_1 {A : Nat} {R : Nat → Nat → Prop} {a z : Nat} (hz : z < A) (h : R a z) : gm_Re A R a z := fun _ h1 _ => h1 z hz h
theorem gm_Re_s {A : Nat} {R : Nat → Nat → Prop} {a x z : Nat} (hx : x < A) (hz : z < A) (h : gm_Re A R a x) (r : R x z) : gm_Re A R a z := fun S h1 h2 => h2 x z hx hz (h S h1 h2) r
theorem gm_Re_lt {A : Nat} {R : Nat → Nat → Prop} {a y : Nat} (h : gm_Re A R a y) : y < A := h (fun z => z < A) (fun _ hz _ => hz) (fun _ _ _ hz _ _ => hz)
def gm_D1 (sg pl : Nat → Int32) (x y p : Nat) : Prop := x ≠ y ∧ 0 < (pl (x * 8 + p)).toInt ∧ sg (y * 8 + p) ≠ 0 ∧ (pl (y * 8 + p) = 0 ∨ (pl (x * 8 + p)).toInt < (pl (y * 8 + p)).toInt)
def gm_Di (P : Nat) (sg pl : Nat → Int32) (x y : Nat) : Prop := ∃ p, p < P ∧ gm_D1 sg pl x y p
def gm_F1 (sg ad ut : Nat → Int32) (x y p : Nat) : Prop := sg (x * 8 + p) = 4 ∧ bt (ad p) y = true ∧ bt (ut (x * 8 + p)) y = false
theorem gm_z0 : (0 : Int32).toInt = 0 := by decide
theorem gm_FD {A : Nat} {sg sp pl ut : Nat → Int32} {ck ad dm de se : Int32} {li : Nat → Int32} (h : gm_LP A sg sp pl ut ck ad dm de se li) {x y : Nat} (hx : x < A) (hy : y < 32) :
    (sg x = 4 ∧ bt ad y = true ∧ bt (ut x) y = false) ↔ (y < A ∧ x ≠ y ∧ 0 < (pl x).toInt ∧ sg y ≠ 0 ∧ (pl y = 0 ∨ (pl x).toInt < (pl y).toInt)) := by
  obtain ⟨D, S, ln, h, _⟩ := h
  obtain ⟨⟨e1, e2, hDS, hS16, hA16⟩, hl, hin, hd, hu, hc, hkk, hp, hmm, hadd, hf⟩ := h
  have find : ∀ z, z < A → sg z = 4 → ∃ i, i < D ∧ ln i = z := by
    intro z hz h4
    obtain ⟨i, hi, e⟩ := hc z hz (Or.inr (Or.inr h4))
    refine ⟨i, ?_, e⟩
    rcases Nat.lt_or_ge i D with w | w
    · exact w
    · have t := hu i w hi
      rw [e, h4] at t
      exact absurd t (by decide)
  constructor
  · rintro ⟨h4, ha, ht⟩
    obtain ⟨i, hi, ei⟩ := find x hx h4
    obtain ⟨_, p1, p2⟩ := hd i hi
    rw [ei] at p1 p2
    obtain ⟨a1, a2⟩ := (hadd y hy).mp ha
    have hno : ¬ ∃ j, j ≤ i ∧ ln j = y := fun z => by
      have t := (p2 y hy).mpr z
      rw [ht] at t
      exact (nomatch t)
    refine ⟨a1, ?_, ?_, a2, ?_⟩
    · intro e
      exact hno ⟨i, Nat.le_refl i, by rw [ei, e]⟩
    · rw [p1, nI_toInt (by omega)]
      omega
    · by_cases h4y : sg y = 4
      · obtain ⟨j, hj, ej⟩ := find y a1 h4y
        have t := (hd j hj).2.1
        rw [ej] at t
        right
        rw [p1, t, nI_toInt (by omega), nI_toInt (by omega)]
        have : ¬ j ≤ i := fun w => hno ⟨j, w, ej⟩
        omega
      · left
        exact hp y (by omega) h4y
  · rintro ⟨a1, hne, h0, hs, hpl⟩
    have h4 : sg x = 4 := by
      apply Classical.byContradiction
      intro w
      have t := hp x (by omega) w
      rw [t, gm_z0] at h0
      omega
    obtain ⟨i, hi, ei⟩ := find x hx h4
    obtain ⟨_, p1, p2⟩ := hd i hi
    rw [ei] at p1 p2
    refine ⟨h4, (hadd y hy).mpr ⟨a1, hs⟩, ?_⟩
    cases hb : bt (ut x) y with
    | false => rfl
    | true =>
      obtain ⟨j, hj, ej⟩ := (p2 y hy).mp hb
      have t := (hd j (by omega)).2.1
      rw [ej] at t
      rw [t, p1, nI_toInt (by omega), nI_toInt (by omega)] at hpl
      rcases hpl with w | w
      · exact absurd w (nI_ne0 (by omega) (by omega))
      · omega
theorem gm_ct_strict {B C : Nat → Bool} : ∀ n, (∀ i, i < n → B i = true → C i = true) → (∃ y, y < n ∧ C y = true ∧ B y = false) → gm_ct B n < gm_ct C n := by
  have mono : ∀ n, (∀ i, i < n → B i = true → C i = true) → gm_ct B n ≤ gm_ct C n := by
    intro n
    induction n with
    | zero => intro _; exact Nat.le_refl 0
    | succ n ih =>
      intro h
      have t := ih (fun i hi => h i (by omega))
      cases hb : B n with
      | true => rw [gm_ct_s hb, gm_ct_s (h n (by omega) hb)]; omega
      | false =>
        rw [gm_ct_n hb]
        have := gm_ct_mono (B := C) (show n ≤ n + 1 by omega)
        omega
  intro n
  induction n with
  | zero => rintro _ ⟨y, hy, _⟩; omega
  | succ n ih =>
    rintro h ⟨y, hy, hC, hB⟩
    by_cases e : y = n
    · subst e
      rw [gm_ct_n hB, gm_ct_s hC]
      have := mono y (fun i hi => h i (by omega))
      omega
    · have t := ih (fun i hi => h i (by omega)) ⟨y, by omega, hC, hB⟩
      cases hb : B n with
      | true => rw [gm_ct_s hb, gm_ct_s (h n (by omega) hb)]; omega
      | false =>
        rw [gm_ct_n hb]
        have := gm_ct_mono (B := C) (show n ≤ n + 1 by omega)
        omega
theorem gm_ct_full {B : Nat → Bool} {n : Nat} (h : n ≤ gm_ct B n) : ∀ i, i < n → B i = true := by
  intro i hi
  cases hb : B i with
  | true => rfl
  | false =>
    have t := gm_ct_strict (B := B) (C := fun _ => true) n (fun _ _ _ => rfl) ⟨i, hi, rfl, hb⟩
    have t2 := gm_ct_le (fun _ => true) n
    omega
theorem gm_b32 {n : Nat} (h : n < 2 ^ 32) (i : Nat) : bt (nI n) i = n.testBit i := by
  show (nI n).toBitVec.toNat.testBit i = _
  rw [pk_tn h]
section
variable {P L A T : Nat} {sn gr aw fi sg sp ut ck ad dm de se li wc ip pl : Nat → Int32} {pw : Nat → Int64} {dl : Int32}
/-- Y's directly -/
theorem gm_ydir {x y : Nat} (hx : x < 16) (hy : y < 16) (hP : P ≤ 6) {post : Int32 → Prop} (h1 : gm_Di P sg pl x y → post 1) (h0 : ¬ gm_Di P sg pl x y → post 0) : wpY_directly post ((nI P), (nI L), (nI A), dl, ip, sn, gr, aw, fi, ck, sg, sp, pl) (nI x) (nI y) := by
  have key : ∀ d p, p + d = P → (∀ p', p' < p → ¬ gm_D1 sg pl x y p') → wY_directly_2 post (nI x) (nI y) (nI P) (nI L) (nI A) dl ip sn gr aw fi ck sg sp pl (d + 1) (nI p) := by
    intro d
    induction d with
    | zero =>
      intro p hp hn
      refine br_t (nI_le (by omega) (by omega)) (h0 ?_)
      rintro ⟨p', hp', h⟩
      exact hn p' (by omega) h
    | succ d ih =>
      intro p hp hn
      have cx : (nI (x * 8 + p)).toNatClampNeg = x * 8 + p := nI_clamp (by omega)
      have cy : (nI (y * 8 + p)).toNatClampNeg = y * 8 + p := nI_clamp (by omega)
      have vx : vp_in (nI (x * 8 + p)) 128 := vp_in_nI (by omega) (by omega)
      have vy : vp_in (nI (y * 8 + p)) 128 := vp_in_nI (by omega) (by omega)
      have cont : ¬ gm_D1 sg pl x y p → wY_directly_2 post (nI x) (nI y) (nI P) (nI L) (nI A) dl ip sn gr aw fi ck sg sp pl (d + 1) (nI (p + 1)) := by
        intro w
        refine ih (p + 1) (by omega) (fun p' hp' => ?_)
        by_cases e : p' = p
        · rw [e]; exact w
        · exact hn p' (by omega)
      have fin : gm_D1 sg pl x y p → post 1 := fun w => h1 ⟨p, by omega, w⟩
      refine br_f (nI_ge (by omega) (by omega)) ⟨by rw [gm_ix8]; exact vx, nm_r (e' := pl (x * 8 + p)) (by rw [gm_ix8, cx]) ⟨by rw [gm_ix8]; exact vy, nm_r (e' := pl (y * 8 + p)) (by rw [gm_ix8, cy]) (br_c (fun z1 => nm_r (nI_1 p) (cont ?_)) (fun z1 => br_c (fun z2 => nm_r (nI_1 p) (cont ?_)) (fun z2 => ⟨by rw [gm_ix8]; exact vy, br_c (fun z3 => nm_r (nI_1 p) (cont ?_)) (fun z3 => br_c (fun z4 => fin ?_) (fun z4 => br_c (fun z5 => nm_r (nI_1 p) (cont ?_)) (fun z5 => fin ?_)))⟩)))⟩⟩
      · rw [nI_eq (by omega) (by omega)] at z1
        exact fun w => w.1 z1
      · rw [Int32.le_iff_toInt_le, gm_z0] at z2
        intro w
        have := w.2.1
        omega
      · rw [gm_ix8, cy] at z3
        exact fun w => w.2.2.1 z3
      · rw [nI_eq (by omega) (by omega)] at z1
        rw [Int32.le_iff_toInt_le, gm_z0] at z2
        rw [gm_ix8, cy] at z3
        exact ⟨z1, by omega, z3, Or.inl z4⟩
      · rw [Int32.le_iff_toInt_le] at z5
        intro w
        rcases w.2.2.2 with w2 | w2
        · exact z4 w2
        · omega
      · rw [nI_eq (by omega) (by omega)] at z1
        rw [Int32.le_iff_toInt_le, gm_z0] at z2
        rw [gm_ix8, cy] at z3
        rw [Int32.le_iff_toInt_le] at z5
        exact ⟨z1, by omega, z3, Or.inr (by omega)⟩
  exact Exists.intro (P + 1) (key P 0 (by omega) (fun p' hp' => absurd hp' (Nat.not_lt_zero p')))
/-- X's followers -/
theorem gm_xfol {x : Nat} (hx : x < 16) (hP : P ≤ 6) {post : Int32 → Prop} (h : ∀ f : Int32, (∀ y, y < 32 → (bt f y = true ↔ ∃ p, p < P ∧ gm_F1 sg ad ut x y p)) → post f) : wpX_followers post ((nI P), (nI L), (nI A), (nI T), sn, gr, aw, fi, sg, sp, ut, ck, ad, dm, de, se, li, pw, wc) (nI x) := by
  have key : ∀ d p (f : Int32), p + d = P → (∀ y, y < 32 → (bt f y = true ↔ ∃ p', p' < p ∧ gm_F1 sg ad ut x y p')) → wX_followers_4 post (nI x) (nI P) (nI L) (nI A) (nI T) sn gr aw fi sg sp ut ck ad dm de se li pw wc (d + 1) f (nI p) := by
    intro d
    induction d with
    | zero =>
      intro p f hp hf
      have e : p = P := by omega
      subst e
      exact br_t (nI_le (Nat.le_refl _) (by omega)) (h f hf)
    | succ d ih =>
      intro p f hp hf
      have cx : (nI (x * 8 + p)).toNatClampNeg = x * 8 + p := nI_clamp (by omega)
      have vx : vp_in (nI (x * 8 + p)) 128 := vp_in_nI (by omega) (by omega)
      have cp : (nI p).toNatClampNeg = p := nI_clamp (by omega)
      have vp : vp_in (nI p) 8 := vp_in_nI (by omega) (by omega)
      refine br_f (nI_ge (by omega) (by omega)) ⟨by rw [gm_ix8]; exact vx, br_c (fun z => ⟨vp, by rw [gm_ix8]; exact vx, nm_r (e' := f ||| (ad p &&& (ut (x * 8 + p) ^^^ (-1)))) (by rw [gm_ix8, cx, cp]) (nm_r (nI_1 p) (ih (p + 1) _ (by omega) (fun y hy => ?_)))⟩) (fun z => nm_r (nI_1 p) (ih (p + 1) _ (by omega) (fun y hy => ?_)))⟩
      · rw [gm_ix8, cx] at z
        rw [b_or, b_and, b_xor, b_m1 y hy, Bool.xor_true, Bool.or_eq_true, Bool.and_eq_true, Bool.not_eq_true', hf y hy]
        constructor
        · rintro (⟨p', hp', w⟩ | w)
          · exact ⟨p', by omega, w⟩
          · exact ⟨p, by omega, z, w.1, w.2⟩
        · rintro ⟨p', hp', w⟩
          by_cases e : p' = p
          · rw [e] at w
            exact Or.inr ⟨w.2.1, w.2.2⟩
          · exact Or.inl ⟨p', by omega, w⟩
      · rw [gm_ix8, cx] at z
        rw [hf y hy]
        constructor
        · rintro ⟨p', hp', w⟩
          exact ⟨p', by omega, w⟩
        · rintro ⟨p', hp', w⟩
          by_cases e : p' = p
          · rw [e] at w
            exact absurd w.1 z
          · exact ⟨p', by omega, w⟩
  refine Exists.intro (P + 1) (key P 0 0 (by omega) (fun y _ => ?_))
  rw [b_0]
  exact ⟨fun z => (nomatch z), fun ⟨p', hp', _⟩ => absurd hp' (Nat.not_lt_zero p')⟩
/-- the successors by bits -/
theorem gm_FA (H : gm_AL P A sg sp pl ut ck ad dm de se li) {x y : Nat} (hx : x < A) (hy : y < 32) : (∃ p, p < P ∧ gm_F1 sg ad ut x y p) ↔ (y < A ∧ gm_Di P sg pl x y) := by
  constructor
  · rintro ⟨p, hp, h⟩
    obtain ⟨a, b⟩ := (gm_FD (H p hp) hx hy).mp h
    exact ⟨a, p, hp, b⟩
  · rintro ⟨a, p, hp, b⟩
    exact ⟨p, hp, (gm_FD (H p hp) hx hy).mpr ⟨a, b⟩⟩
/-- X's precedes -/
theorem gm_xprec {a b : Nat} (H : gm_AL P A sg sp pl ut ck ad dm de se li) (hP : P ≤ 6) (hA : A ≤ 16) (ha : a < A) (hb : b < A) {post : Int32 → Prop} (h1 : gm_Re A (gm_Di P sg pl) a b → post 1) (h0 : ¬ gm_Re A (gm_Di P sg pl) a b → post 0) : wpX_precedes post ((nI P), (nI L), (nI A), (nI T), sn, gr, aw, fi, sg, sp, ut, ck, ad, dm, de, se, li, pw, wc) (nI a) (nI b) := by
  have key : ∀ d n (rc ex op : Int32), n + d = 16 → (∀ y, y < 32 → bt rc y = true → gm_Re A (gm_Di P sg pl) a y) → (∀ x z, x < A → z < A → bt ex x = true → gm_Di P sg pl x z → bt rc z = true) → (∀ y, y < 32 → bt op y = true → y < A ∧ (y = a ∨ bt rc y = true) ∧ bt ex y = false) → (∀ y, y < 32 → (y = a ∨ bt rc y = true) → bt op y = true ∨ bt ex y = true) → ((∀ y, y < 32 → bt op y = true → y = a) ∨ bt ex a = true) → n ≤ gm_ct (bt ex) 16 → bt rc b = false → wX_precedes_36 post ((1 : Int32) <<< (nI b &&& 31)) (nI P) (nI L) (nI A) (nI T) sn gr aw fi sg sp ut ck ad dm de se li pw wc (d + 1) rc ex op (nI n) := by
    intro d
    induction d with
    | zero =>
      intro n rc ex op hn i1 i2 i3 i4 i5 i6 i7
      have hfull := gm_ct_full (B := bt ex) (n := 16) (by omega)
      refine br_t (nI_le (a := 16) (by omega) (by omega)) (h0 (fun hR => ?_))
      have t : bt rc b = true := hR (fun z => bt rc z = true) (fun z hz r => i2 a z ha hz (hfull a (by omega)) r) (fun x z hx hz _ r => i2 x z hx hz (hfull x (by omega)) r)
      rw [i7] at t
      exact (nomatch t)
    | succ d ih =>
      intro n rc ex op hn i1 i2 i3 i4 i5 i6 i7
      refine br_f (nI_ge (b := 16) (by omega) (by omega)) (br_c (fun z => h0 (fun hR => ?_)) (fun z => ?_))
      · have hcl : ∀ y, y < A → (y = a ∨ bt rc y = true) → bt ex y = true := by
          intro y hy w
          rcases i4 y (by omega) w with w2 | w2
          · rw [z, b_0] at w2
            exact (nomatch w2)
          · exact w2
        have t : bt rc b = true := hR (fun z => bt rc z = true) (fun z hz r => i2 a z ha hz (hcl a ha (Or.inl rfl)) r) (fun x z hx hz w r => i2 x z hx hz (hcl x hx (Or.inr w)) r)
        rw [i7] at t
        exact (nomatch t)
      · obtain ⟨w, hw, ew⟩ := wb_of32 op
        have hbw : ∀ i, bt op i = w.testBit i := fun i => by rw [ew]; exact gm_b32 hw i
        have hw16 : w < 2 ^ 16 := Nat.lt_pow_two_of_testBit w (fun i hi => by
          rw [← hbw i]
          cases hbi : bt op i with
          | false => rfl
          | true =>
            rcases Nat.lt_or_ge i 32 with h32 | h32
            · have := (i3 i h32 hbi).1
              omega
            · rw [b_big h32] at hbi
              exact (nomatch hbi))
        have hw0 : w ≠ 0 := fun e => z (by rw [ew, e]; rfl)
        obtain ⟨x, x1, x2, x3, x4⟩ := gm_xlow (P := P) (L := L) (A := A) (T := T) (sn := sn) (gr := gr) (aw := aw) (fi := fi) (sg := sg) (sp := sp) (ut := ut) (ck := ck) (ad := ad) (dm := dm) (de := de) (se := se) (li := li) (pw := pw) (wc := wc) (r := w) (by omega) hw0
        have hx32 : x < 32 := by
          rcases Nat.lt_or_ge x 32 with h32 | h32
          · exact h32
          · have t := hbw x
            rw [b_big h32, x2] at t
            exact (nomatch t)
        have hox : bt op x = true := by rw [hbw x]; exact x2
        obtain ⟨xA, xr, xe⟩ := i3 x hx32 hox
        have e64 : op.toInt64 = lN w := by
          rw [ew]
          exact nI_l (by omega)
        have hRx : x = a ∨ gm_Re A (gm_Di P sg pl) a x := xr.elim Or.inl (fun t => Or.inr (i1 x hx32 t))
        rw [e64]
        refine x4 _ ?_
        refine nm_e ?_
        refine gm_xfol (by omega) hP (fun f hf => ?_)
        have hfR : ∀ y, y < 32 → (bt f y = true ↔ (y < A ∧ gm_Di P sg pl x y)) := fun y hy => (hf y hy).trans (gm_FA H xA hy)
        have j1 : ∀ y, y < 32 → bt (rc ||| f) y = true → gm_Re A (gm_Di P sg pl) a y := by
          intro y hy t
          rw [b_or, Bool.or_eq_true] at t
          rcases t with t | t
          · exact i1 y hy t
          · obtain ⟨t1, t2⟩ := (hfR y hy).mp t
            rcases hRx with e | e
            · rw [e] at t2
              exact gm_Re_1 t1 t2
            · exact gm_Re_s xA t1 e t2
        refine nm_e (br_c (fun z2 => ?_) (fun z2 => h1 (j1 b (by omega) ?_)))
        · rw [gm_tx _ (by omega)] at z2
          refine nm_e (nm_r (nI_1 n) (ih (n + 1) _ _ _ (by omega) j1 ?_ ?_ ?_ ?_ ?_ z2))
          · intro x' z' hx' hz' t r
            rw [gm_seb ex hx32 (by omega), Bool.or_eq_true, decide_eq_true_iff] at t
            rw [b_or, Bool.or_eq_true]
            rcases t with t | t
            · exact Or.inl (i2 x' z' hx' hz' t r)
            · rw [t] at r
              exact Or.inr ((hfR z' (by omega)).mpr ⟨hz', r⟩)
          · intro y hy t
            rw [b_and, b_xor, b_m1 y hy, Bool.xor_true, Bool.and_eq_true, Bool.not_eq_true'] at t
            exact ⟨gm_Re_lt (j1 y hy t.1), Or.inr t.1, t.2⟩
          · intro y hy t
            have hea : bt (ex ||| ((1 : Int32) <<< (nI x &&& 31))) a = true := by
              rw [gm_seb ex hx32 (by omega), Bool.or_eq_true, decide_eq_true_iff]
              rcases i5 with w5 | w5
              · exact Or.inr (w5 x hx32 hox).symm
              · exact Or.inl w5
            rcases t with t | t
            · rw [t]
              exact Or.inr hea
            · rw [b_and, b_xor, b_m1 y hy, Bool.xor_true, Bool.and_eq_true, Bool.not_eq_true']
              cases hey : bt (ex ||| ((1 : Int32) <<< (nI x &&& 31))) y with
              | true => exact Or.inr rfl
              | false => exact Or.inl ⟨t, rfl⟩
          · right
            rw [gm_seb ex hx32 (by omega), Bool.or_eq_true, decide_eq_true_iff]
            rcases i5 with w5 | w5
            · exact Or.inr (w5 x hx32 hox).symm
            · exact Or.inl w5
          · have t := gm_ct_strict (B := bt ex) (C := bt (ex ||| ((1 : Int32) <<< (nI x &&& 31)))) 16 (fun i hi w2 => by rw [gm_seb ex hx32 (by omega), w2, Bool.true_or]) ⟨x, by omega, by rw [gm_seb ex hx32 hx32, decide_eq_true rfl, Bool.or_true], xe⟩
            omega
        · rw [gm_tx _ (by omega)] at z2
          cases hh : bt (rc ||| f) b with
          | true => rfl
          | false => exact absurd hh z2
  unfold wpX_precedes
  refine gm_xe1 hA ha ?_
  refine br_f gm_10 ?_
  refine gm_xe1 hA hb ?_
  refine br_f gm_10 (nm_e (nm_e ⟨17, ?_⟩))
  refine key 16 0 0 0 _ (by omega) (fun y _ t => ?_) (fun x z _ _ t => ?_) (fun y hy t => ?_) (fun y hy t => ?_) (Or.inl (fun y hy t => ?_)) (Nat.zero_le _) (b_0 b)
  · rw [b_0] at t
    exact (nomatch t)
  · rw [b_0] at t
    exact (nomatch t)
  · rw [gm_one (by omega) hy, decide_eq_true_iff] at t
    exact ⟨by omega, Or.inl t, b_0 y⟩
  · left
    rw [gm_one (by omega) hy, decide_eq_true_iff]
    rcases t with t | t
    · exact t
    · rw [b_0] at t
      exact (nomatch t)
  · rw [gm_one (by omega) hy, decide_eq_true_iff] at t
    exact t
/-! Y's precedes: three loops -/
theorem gm_y47 {a b x : Nat} {x4 rc0 : Int32} {J23 J35 : Int32 → Int32 → Prop} (hP : P ≤ 6) (hA : A ≤ 16) (hx : x < A) {post : Int32 → Prop} (ha : a < A)
    (hJ : ∀ rc : Int32, (∀ y, y < 32 → bt rc y = true → gm_Re A (gm_Di P sg pl) a y) → (∀ y, y < 32 → bt rc0 y = true → bt rc y = true) → (∀ y, y < A → (x = a ∨ bt rc0 x = true) → gm_Di P sg pl x y → bt rc y = true) → J35 rc (nI (x + 1))) :
    ∀ d y (rc : Int32), y + d = A → (∀ y, y < 32 → bt rc y = true → gm_Re A (gm_Di P sg pl) a y) → (∀ y, y < 32 → bt rc0 y = true → bt rc y = true) → (∀ y', y' < y → (x = a ∨ bt rc0 x = true) → gm_Di P sg pl x y' → bt rc y' = true) → wY_precedes_47 post J23 J35 (nI a) (nI b) x4 (nI x) (nI P) (nI L) (nI A) dl ip sn gr aw fi ck sg sp pl (d + 1) rc (nI y) := by
  intro d
  induction d with
  | zero =>
    intro y rc hy i1 i2 i3
    exact br_t (nI_le (by omega) (by omega)) (nm_r (nI_1 x) (hJ rc i1 i2 (fun y' hy' => i3 y' (by omega))))
  | succ d ih =>
    intro y rc hy i1 i2 i3
    have hd : (x = a ∨ bt rc x = true) → wY_precedes_72 post J23 J35 (wY_precedes_47 post J23 J35 (nI a) (nI b) x4 (nI x) (nI P) (nI L) (nI A) dl ip sn gr aw fi ck sg sp pl (d + 1)) (nI a) (nI b) rc x4 (nI x) (nI y) (nI P) (nI L) (nI A) dl ip sn gr aw fi ck sg sp pl := by
      intro hxr
      unfold wY_precedes_72
      refine gm_ydir (by omega) (by omega) hP (fun hD => ?_) (fun hD => ?_)
      · refine br_f gm_10 (nm_e (nm_r (nI_1 y) (ih (y + 1) _ (by omega) (fun y' hy' t => ?_) (fun y' hy' t => ?_) (fun y' hy' t r => ?_))))
        · rw [gm_seb rc (by omega) hy', Bool.or_eq_true, decide_eq_true_iff] at t
          rcases t with t | t
          · exact i1 y' hy' t
          · rw [t]
            rcases hxr with e | e
            · rw [e] at hD
              exact gm_Re_1 (by omega) hD
            · exact gm_Re_s hx (by omega) (i1 x (by omega) e) hD
        · rw [gm_seb rc (by omega) hy', i2 y' hy' t, Bool.true_or]
        · rw [gm_seb rc (by omega) (by omega), Bool.or_eq_true, decide_eq_true_iff]
          by_cases e : y' = y
          · exact Or.inr e
          · exact Or.inl (i3 y' (by omega) t r)
      · refine br_t rfl (nm_r (nI_1 y) (ih (y + 1) _ (by omega) i1 i2 (fun y' hy' t r => ?_)))
        by_cases e : y' = y
        · rw [e] at r
          exact absurd r hD
        · exact i3 y' (by omega) t r
    refine br_f (nI_ge (by omega) (by omega)) (br_c (fun z => hd (Or.inl ?_)) (fun z => br_c (fun z2 => hd (Or.inr ?_)) (fun z2 => nm_r (nI_1 y) (ih (y + 1) _ (by omega) i1 i2 (fun y' hy' t r => ?_)))))
    · rw [nI_eq (by omega) (by omega)] at z
      exact z
    · rw [gm_ty rc (by omega)] at z2
      exact z2
    · rw [gm_ty rc (by omega)] at z2
      rw [nI_eq (by omega) (by omega)] at z
      rcases t with t | t
      · exact absurd t z
      · exact absurd (i2 x (by omega) t) z2
theorem gm_y35 {a b : Nat} {x4 rc0 : Int32} {J23 : Int32 → Int32 → Prop} (hP : P ≤ 6) (hA : A ≤ 16) {post : Int32 → Prop} (ha : a < A)
    (hJ : ∀ rc : Int32, (∀ y, y < 32 → bt rc y = true → gm_Re A (gm_Di P sg pl) a y) → (∀ y, y < 32 → bt rc0 y = true → bt rc y = true) → (∀ x y, x < A → y < A → (x = a ∨ bt rc0 x = true) → gm_Di P sg pl x y → bt rc y = true) → J23 rc (x4 + 1)) :
    ∀ d x (rc : Int32), x + d = A → (∀ y, y < 32 → bt rc y = true → gm_Re A (gm_Di P sg pl) a y) → (∀ y, y < 32 → bt rc0 y = true → bt rc y = true) → (∀ x' y, x' < x → y < A → (x' = a ∨ bt rc0 x' = true) → gm_Di P sg pl x' y → bt rc y = true) → wY_precedes_35 post J23 (nI a) (nI b) x4 (nI P) (nI L) (nI A) dl ip sn gr aw fi ck sg sp pl (d + 1) rc (nI x) := by
  intro d
  induction d with
  | zero =>
    intro x rc hx i1 i2 i3
    exact br_t (nI_le (by omega) (by omega)) (nm_e (hJ rc i1 i2 (fun x' y hx' => i3 x' y (by omega))))
  | succ d ih =>
    intro x rc hx i1 i2 i3
    refine br_f (nI_ge (by omega) (by omega)) ⟨A + 1, ?_⟩
    refine gm_y47 (rc0 := rc) hP hA (by omega) ha (fun rc' k1 k2 k3 => ?_) A 0 rc (by omega) i1 (fun _ _ t => t) (fun y' hy' => absurd hy' (Nat.not_lt_zero y'))
    refine ih (x + 1) rc' (by omega) k1 (fun y hy t => k2 y hy (i2 y hy t)) (fun x' y hx' hy t r => ?_)
    by_cases e : x' = x
    · rw [e] at t r
      refine k3 y hy ?_ r
      rcases t with t | t
      · exact Or.inl t
      · exact Or.inr (i2 x (by omega) t)
    · exact k2 y (by omega) (i3 x' y (by omega) hy t r)
theorem gm_y23 {a b : Nat} (hP : P ≤ 6) (hA : A ≤ 16) (ha : a < A) (hb : b < A) {post : Int32 → Prop} (h1 : gm_Re A (gm_Di P sg pl) a b → post 1) (h0 : ¬ gm_Re A (gm_Di P sg pl) a b → post 0) :
    ∀ d n (rc : Int32), n + d = A → (∀ y, y < 32 → bt rc y = true → gm_Re A (gm_Di P sg pl) a y) → ((∀ y, gm_Re A (gm_Di P sg pl) a y → bt rc y = true) ∨ n ≤ gm_ct (bt rc) A) → wY_precedes_23 post (nI a) (nI b) (nI P) (nI L) (nI A) dl ip sn gr aw fi ck sg sp pl (d + 1) rc (nI n) := by
  intro d
  induction d with
  | zero =>
    intro n rc hn i1 i2
    have hcomp : ∀ y, gm_Re A (gm_Di P sg pl) a y → bt rc y = true := by
      rcases i2 with w | w
      · exact w
      · exact fun y hy => gm_ct_full (B := bt rc) (n := A) (by omega) y (gm_Re_lt hy)
    refine br_t (nI_le (by omega) (by omega)) (br_c (fun z => h1 ?_) (fun z => h0 (fun hR => z ?_)))
    · rw [gm_ty rc (by omega)] at z
      exact i1 b (by omega) z
    · rw [gm_ty rc (by omega)]
      exact hcomp b hR
  | succ d ih =>
    intro n rc hn i1 i2
    refine br_f (nI_ge (by omega) (by omega)) ⟨A + 1, ?_⟩
    refine gm_y35 (rc0 := rc) hP hA ha (fun rc' k1 k2 k3 => ?_) A 0 rc (by omega) i1 (fun _ _ t => t) (fun x' y hx' => absurd hx' (Nat.not_lt_zero x'))
    rw [nI_1]
    refine ih (n + 1) rc' (by omega) k1 ?_
    rcases i2 with w | w
    · exact Or.inl (fun y hy => k2 y (by have := gm_Re_lt hy; omega) (w y hy))
    · by_cases hg : ∃ y, y < A ∧ bt rc' y = true ∧ bt rc y = false
      · right
        have t := gm_ct_strict (B := bt rc) (C := bt rc') A (fun i hi => k2 i (by omega)) hg
        omega
      · left
        have hsame : ∀ y, y < A → bt rc' y = true → bt rc y = true := by
          intro y hy t
          cases hh : bt rc y with
          | true => rfl
          | false => exact absurd ⟨y, hy, t, hh⟩ hg
        intro y hy
        have hyA := gm_Re_lt hy
        exact hy (fun z => bt rc' z = true) (fun z hz r => k3 a z ha hz (Or.inl rfl) r) (fun x z hx hz t r => k3 x z hx hz (Or.inr (hsame x hx t)) r)
theorem gm_yprec {a b : Nat} (hP : P ≤ 6) (hA : A ≤ 16) (ha : a < A) (hb : b < A) {post : Int32 → Prop} (h1 : gm_Re A (gm_Di P sg pl) a b → post 1) (h0 : ¬ gm_Re A (gm_Di P sg pl) a b → post 0) : wpY_precedes post ((nI P), (nI L), (nI A), dl, ip, sn, gr, aw, fi, ck, sg, sp, pl) (nI a) (nI b) := by
  unfold wpY_precedes
  refine gm_ye1 hA ha ?_
  refine br_f gm_10 ?_
  refine gm_ye1 hA hb ?_
  refine br_f gm_10 ⟨A + 1, ?_⟩
  refine gm_y23 hP hA ha hb h1 h0 A 0 0 (by omega) (fun y _ t => ?_) (Or.inr (Nat.zero_le _))
  rw [b_0] at t
  exact (nomatch t)
end
end
section
/-! the start; deliveredAt -/
theorem gm_xcl {post : Int32 → Prop} {f1 f2 f3 f4 x lo hi : Int32} {sn gr aw fi sg sp ut ck ad dm de se li wc : Nat → Int32} {pw : Nat → Int64} (h : (lo ≤ x ∧ x ≤ hi ∧ post x) ∨ (lo ≤ x ∧ ¬ x ≤ hi ∧ post hi) ∨ (¬ lo ≤ x ∧ post lo)) : wpX_clamp post (f1, f2, f3, f4, sn, gr, aw, fi, sg, sp, ut, ck, ad, dm, de, se, li, pw, wc) x lo hi := by
  rcases h with ⟨a, b, c⟩ | ⟨a, b, c⟩ | ⟨a, c⟩
  · exact br_t a (br_t b c)
  · exact br_t a (br_f b c)
  · exact br_f a c
theorem gm_cl3 (x : Int32) (lo hi : Nat) (hlo : lo ≤ hi) (hhi : hi < 2 ^ 31) : ∃ n, lo ≤ n ∧ n ≤ hi ∧ ((nI lo ≤ x ∧ x ≤ nI hi ∧ x = nI n) ∨ (nI lo ≤ x ∧ ¬ x ≤ nI hi ∧ n = hi) ∨ (¬ nI lo ≤ x ∧ n = lo)) := by
  by_cases a : nI lo ≤ x
  · by_cases b : x ≤ nI hi
    · have a2 := a
      have b2 := b
      rw [Int32.le_iff_toInt_le, nI_toInt (by omega)] at a b
      obtain ⟨j, hj, e⟩ := nI_of (x := x) (by rw [Int32.lt_iff_toInt_lt, gm_z0]; omega)
      rw [e, nI_toInt hj] at a b
      exact ⟨j, by omega, by omega, Or.inl ⟨a2, b2, e⟩⟩
    · exact ⟨hi, hlo, Nat.le_refl _, Or.inr (Or.inl ⟨a, b, rfl⟩)⟩
  · exact ⟨lo, Nat.le_refl _, hlo, Or.inr (Or.inr ⟨a, rfl⟩)⟩
theorem gm_ct0 {B : Nat → Bool} (h : ∀ i, B i = false) (n : Nat) : gm_ct B n = 0 := by
  have t := gm_ct_none (B := B) (a := 0) n (fun i _ _ => h i)
  rw [Nat.zero_add] at t
  exact t
theorem gm_I0 {P L : Nat} (hP2 : 2 ≤ P) (hP : P ≤ 6) (hL : L ≤ 16) : gm_I 16 16 P L 0 0 (fun _ => 0) (fun _ => 0) (fun _ => 0) (fun _ => 0) (fun _ => 0) (fun _ => 0) (fun _ => 0) (fun _ => 0) (fun _ => 0) (fun _ => 0) (fun _ => 0) (fun _ => 0) (fun _ => 0) (fun _ => 0) (fun _ => 0) (fun _ => 0) (fun _ => 0) := by
  have hB : ∀ i, gm_B (fun _ => 0) i = false := fun i => gm_L_0 _
  refine ⟨⟨hP2, hP, Nat.zero_le _, hL⟩, fun p hp => ⟨0, 0, fun _ => 0, ⟨⟨rfl, rfl, Nat.le_refl _, Nat.zero_le _, Nat.zero_le _⟩, fun i hi => absurd hi (Nat.not_lt_zero i), fun i _ hi => absurd hi (Nat.not_lt_zero i), fun i hi => absurd hi (Nat.not_lt_zero i), fun i _ hi => absurd hi (Nat.not_lt_zero i), fun m hm => absurd hm (Nat.not_lt_zero m), fun i hi => absurd hi (Nat.not_lt_zero i), fun _ _ _ => rfl, fun y _ => ?_, fun y _ => ?_, fun _ _ _ => rfl⟩, fun i j _ _ hj => absurd hj (Nat.not_lt_zero j)⟩, ?_, ?_, ?_, ?_⟩
  · rw [b_0]
    exact ⟨fun z => (nomatch z), fun ⟨j, hj, _⟩ => absurd hj (Nat.not_lt_zero j)⟩
  · rw [b_0]
    exact ⟨fun z => (nomatch z), fun ⟨hj, _⟩ => absurd hj (Nat.not_lt_zero y)⟩
  · exact ⟨fun m hm => absurd hm (Nat.not_lt_zero m), fun m _ hm => absurd hm (Nat.not_lt_zero m), fun m _ hm => absurd hm (Nat.not_lt_zero m), fun m _ hm => absurd hm (Nat.not_lt_zero m), fun _ _ _ => rfl⟩
  · exact ⟨fun c _ h => absurd rfl h, fun m _ hm => absurd hm (Nat.not_lt_zero m), fun m _ hm => absurd hm (Nat.not_lt_zero m)⟩
  · refine ⟨fun p _ => ?_, fun m _ => ?_, fun m p _ _ => ?_⟩
    · rw [gm_z0]; decide
    · rw [gm_z0]; decide
    · rw [gm_z0]; decide
  · refine ⟨fun c _ => ⟨fun _ => hB c, fun _ => rfl⟩, fun w _ => ?_, ?_⟩
    · rw [gm_ct0 (fun i => gm_L_0 i)]
      rfl
    · rw [gm_ct0 hB]
section
variable {P L A T : Nat} {sn gr aw fi sg sp ut ck ad dm de se li wc ip pl : Nat → Int32} {pw : Nat → Int64} {dl : Int32}
/-- Y's deliveredAt, found -/
theorem gm_ydat {post : Int32 → Prop} {p t : Nat} {v : Int32} (hP : P ≤ 6) (hp : p < P) (hA : A ≤ 16) (hv : ¬ v < 0) (ht : t < A) (ht1 : pl (t * 8 + p) = v + 1) (hn : ∀ m, m < t → pl (m * 8 + p) ≠ v + 1) (h : post (nI t)) : wpY_deliveredAt post ((nI P), (nI L), (nI A), dl, ip, sn, gr, aw, fi, ck, sg, sp, pl) (nI p) v := by
  have key : ∀ d c, c + d = t → wY_deliveredAt_12 post (nI p) v (nI P) (nI L) (nI A) dl ip sn gr aw fi ck sg sp pl (d + 1) (nI c) := by
    intro d
    induction d with
    | zero =>
      intro c hc
      have e : c = t := by omega
      subst e
      have cl : (nI (c * 8 + p)).toNatClampNeg = c * 8 + p := nI_clamp (by omega)
      exact br_f (nI_ge (by omega) (by omega)) (br_f hv ⟨by rw [gm_ix8]; exact vp_in_nI (by omega) (by omega), br_t (by rw [gm_ix8, cl]; exact ht1) h⟩)
    | succ d ih =>
      intro c hc
      have cl : (nI (c * 8 + p)).toNatClampNeg = c * 8 + p := nI_clamp (by omega)
      exact br_f (nI_ge (by omega) (by omega)) (br_f hv ⟨by rw [gm_ix8]; exact vp_in_nI (by omega) (by omega), br_f (by rw [gm_ix8, cl]; exact hn c (by omega)) (nm_r (nI_1 c) (ih (c + 1) (by omega)))⟩)
  unfold wpY_deliveredAt
  refine gm_yv1 hP hp ?_
  exact br_f gm_10 ⟨t + 1, key t 0 (by omega)⟩
/-- Y's deliveredAt, none -/
theorem gm_ydat0 {post : Int32 → Prop} {p : Nat} {v : Int32} (hP : P ≤ 6) (hp : p < P) (hA : A ≤ 16) (hn : ¬ v < 0 → ∀ m, m < A → pl (m * 8 + p) ≠ v + 1) (h : post (-2)) : wpY_deliveredAt post ((nI P), (nI L), (nI A), dl, ip, sn, gr, aw, fi, ck, sg, sp, pl) (nI p) v := by
  have key : ∀ d c, c + d = A → wY_deliveredAt_12 post (nI p) v (nI P) (nI L) (nI A) dl ip sn gr aw fi ck sg sp pl (d + 1) (nI c) := by
    intro d
    induction d with
    | zero =>
      intro c hc
      exact br_t (nI_le (by omega) (by omega)) h
    | succ d ih =>
      intro c hc
      have cl : (nI (c * 8 + p)).toNatClampNeg = c * 8 + p := nI_clamp (by omega)
      exact br_f (nI_ge (by omega) (by omega)) (br_c (fun _ => nm_r (nI_1 c) (ih (c + 1) (by omega))) (fun hv => ⟨by rw [gm_ix8]; exact vp_in_nI (by omega) (by omega), br_f (by rw [gm_ix8, cl]; exact hn hv c (by omega)) (nm_r (nI_1 c) (ih (c + 1) (by omega)))⟩))
  unfold wpY_deliveredAt
  refine gm_yv1 hP hp ?_
  exact br_f gm_10 ⟨A + 1, key A 0 (by omega)⟩
end
theorem gm_place {A : Nat} {sg sp pl ut : Nat → Int32} {ck ad dm de se : Int32} {li : Nat → Int32} {D S : Nat} {ln : Nat → Nat} (h : gm_LB A sg sp pl ut ck ad dm de se li D S ln) {m : Nat} {v : Int32} (hm : m < A) (hv : ¬ v < 0) (e : pl m = v + 1) : ∃ j, j < D ∧ v = nI j ∧ ln j = m := by
  obtain ⟨⟨e1, e2, hDS, hS16, hA16⟩, hl, hin, hd, hu, hc, hkk, hp, hmm, hadd, hf⟩ := h
  have ev : v = pl m - 1 := by rw [e, Int32.add_sub_cancel]
  by_cases h4 : sg m = 4
  · obtain ⟨i, hi, ei⟩ := hc m hm (Or.inr (Or.inr h4))
    have hiD : i < D := by
      rcases Nat.lt_or_ge i D with w | w
      · exact w
      · have t := hu i w hi
        rw [ei, h4] at t
        exact absurd t (by decide)
    have t := (hd i hiD).2.1
    rw [ei] at t
    rw [t] at ev
    exact ⟨i, hiD, ev.trans (nI_pred i), ei⟩
  · rw [hp m (by omega) h4] at ev
    rw [ev] at hv
    exact absurd (by decide) hv
end
section
def i_Rel (k : Nat) (u : SX) (v : SY) : Prop := gm_R (8 * k) u v
theorem i_up {k : Nat} {u : SX} {v : SY} (h : i_Rel k u v) : i_Rel (k + 4) u v := gm_R_up h (by omega)
theorem i_vc0 (k0 : Int32) (k1 : Int32) : wpX_init (fun u => wpY_init (fun v => i_Rel 2 u v) k0 k1) k0 k1 := by
  obtain ⟨P, p1, p2, hp⟩ := gm_cl3 k0 2 6 (by omega) (by omega)
  obtain ⟨L, l1, l2, hl⟩ := gm_cl3 k1 4 16 (by omega) (by omega)
  have fin : i_Rel 2 (nI P, nI L, 0, 0, (fun _ => 0), (fun _ => 0), (fun _ => 0), (fun _ => 0), (fun _ => 0), (fun _ => 0), (fun _ => 0), (fun _ => 0), (fun _ => 0), (fun _ => 0), (fun _ => 0), (fun _ => 0), (fun _ => 0), (fun _ => 0), (fun _ => 0)) (nI P, nI L, 0, 0, (fun _ => 0), (fun _ => 0), (fun _ => 0), (fun _ => 0), (fun _ => 0), (fun _ => 0), (fun _ => 0), (fun _ => 0), (fun _ => 0)) := gm_R_in (A := 0) (T := 0) (dl := 0) (gm_I0 p1 p2 l2) (by omega)
  have hX : ∀ post : SX → Prop, post (nI P, nI L, 0, 0, (fun _ => 0), (fun _ => 0), (fun _ => 0), (fun _ => 0), (fun _ => 0), (fun _ => 0), (fun _ => 0), (fun _ => 0), (fun _ => 0), (fun _ => 0), (fun _ => 0), (fun _ => 0), (fun _ => 0), (fun _ => 0), (fun _ => 0)) → wpX_init post k0 k1 := by
    intro post h
    have c2 : wpX_clamp (fun r => post (nI P, r, 0, 0, (fun _ => 0), (fun _ => 0), (fun _ => 0), (fun _ => 0), (fun _ => 0), (fun _ => 0), (fun _ => 0), (fun _ => 0), (fun _ => 0), (fun _ => 0), (fun _ => 0), (fun _ => 0), (fun _ => 0), (fun _ => 0), (fun _ => 0))) (nI P, 0, 0, 0, (fun _ => 0), (fun _ => 0), (fun _ => 0), (fun _ => 0), (fun _ => 0), (fun _ => 0), (fun _ => 0), (fun _ => 0), (fun _ => 0), (fun _ => 0), (fun _ => 0), (fun _ => 0), (fun _ => 0), (fun _ => 0), (fun _ => 0)) k1 4 16 := by
      rcases hl with ⟨a, b, e⟩ | ⟨a, b, e⟩ | ⟨a, e⟩
      · exact gm_xcl (Or.inl ⟨a, b, by rw [e]; exact h⟩)
      · rw [e] at h
        exact gm_xcl (Or.inr (Or.inl ⟨a, b, h⟩))
      · rw [e] at h
        exact gm_xcl (Or.inr (Or.inr ⟨a, h⟩))
    unfold wpX_init
    rcases hp with ⟨a, b, e⟩ | ⟨a, b, e⟩ | ⟨a, e⟩
    · exact gm_xcl (Or.inl ⟨a, b, by rw [e]; exact c2⟩)
    · rw [e] at c2
      exact gm_xcl (Or.inr (Or.inl ⟨a, b, c2⟩))
    · rw [e] at c2
      exact gm_xcl (Or.inr (Or.inr ⟨a, c2⟩))
  have hY : ∀ post : SY → Prop, post (nI P, nI L, 0, 0, (fun _ => 0), (fun _ => 0), (fun _ => 0), (fun _ => 0), (fun _ => 0), (fun _ => 0), (fun _ => 0), (fun _ => 0), (fun _ => 0)) → wpY_init post k0 k1 := by
    intro post h
    have c2 : wY_init_102 post k1 (nI P) 0 0 0 0 (fun _ => 0) (fun _ => 0) (fun _ => 0) (fun _ => 0) (fun _ => 0) (fun _ => 0) (fun _ => 0) (fun _ => 0) (fun _ => 0) := by
      rcases hl with ⟨a, b, e⟩ | ⟨a, b, e⟩ | ⟨a, e⟩
      · rw [← e] at h
        exact br_t a (br_t b h)
      · rw [e] at h
        exact br_t a (br_f b h)
      · rw [e] at h
        exact br_f a h
    rcases hp with ⟨a, b, e⟩ | ⟨a, b, e⟩ | ⟨a, e⟩
    · rw [← e] at c2
      exact br_t a (br_t b c2)
    · rw [e] at c2
      exact br_t a (br_f b c2)
    · rw [e] at c2
      exact br_f a c2
  exact hX _ (hY _ fin)
theorem i_vc_multicast {k : Nat} {u : SX} {v : SY} (I : i_Rel k u v) (hk : k + 4 ≤ 2050) (v1 : Int32) (v2 : Int32) : wpX_multicast (fun r u' => wpY_multicast (fun r' v' => r' = r ∧ i_Rel (k + 4) u' v') v v1 v2) u v1 v2 := by
  refine gm_el (F := fun u v => wpX_multicast (fun r u' => wpY_multicast (fun r' v' => r' = r ∧ i_Rel (k + 4) u' v') v v1 v2) u v1 v2) ?_ I
  intro P L A T dl sn gr aw fi sg sp ut ck ad dm de se li pw wc ip pl hI
  have hR : i_Rel (k + 4) ((nI P), (nI L), (nI A), (nI T), sn, gr, aw, fi, sg, sp, ut, ck, ad, dm, de, se, li, pw, wc) ((nI P), (nI L), (nI A), dl, ip, sn, gr, aw, fi, ck, sg, sp, pl) := gm_R_in hI (by omega)
  have I0 := hI
  obtain ⟨⟨hP2, hP, hAL, hL⟩, H, M, Q, K, W⟩ := hI
  
  rcases gm_ix v1 (n := P) (by omega) with hx | ⟨s, hs, e1⟩
  · unfold wpX_multicast
    refine gm_xv0 hx ?_
    refine br_t rfl ?_
    unfold wpY_multicast
    refine gm_yv0 hx ?_
    exact br_t rfl ⟨rfl, hR⟩
  · rw [e1]
    by_cases h1 : v2 < 1
    · unfold wpX_multicast
      refine gm_xv1 hP hs ?_
      refine br_f gm_10 (br_t h1 ?_)
      unfold wpY_multicast
      refine gm_yv1 hP hs ?_
      exact br_f gm_10 (br_t h1 ⟨rfl, hR⟩)
    · by_cases h2 : v2 < ((1 : Int32) <<< (nI P &&& 31))
      · cases hb : bt v2 s with
        | false =>
          unfold wpX_multicast
          refine gm_xv1 hP hs ?_
          refine br_f gm_10 (br_f h1 (br_t h2 (br_t ((gm_tx v2 (by omega)).mpr hb) ?_)))
          unfold wpY_multicast
          refine gm_yv1 hP hs ?_
          exact br_f gm_10 (br_f h1 (br_t h2 (br_t ((gm_ty0 v2 (by omega)).mpr hb) ⟨rfl, hR⟩)))
        | true =>
          by_cases h3 : A < L
          · obtain ⟨T', dl', sn', gr', aw', fi', sg', sp', ut', ck', ad', dm', de', se', li', pw', wc', ip', pl', c1, c2, c3⟩ := gm_cast (dl := dl) I0 (by omega) hs h1 h2 hb h3
            exact c2 _ (c3 _ ⟨rfl, gm_R_in c1 (by omega)⟩)
          · have hlt : ¬ nI A < nI L := nI_nlt (by omega) (by omega)
            unfold wpX_multicast
            refine gm_xv1 hP hs ?_
            refine br_f gm_10 (br_f h1 (br_t h2 (br_f (fun z => ?_) (br_f hlt ?_))))
            · rw [gm_tx v2 (by omega), hb] at z
              exact (nomatch z)
            · unfold wpY_multicast
              refine gm_yv1 hP hs ?_
              refine br_f gm_10 (br_f h1 (br_t h2 (br_f (fun z => ?_) (br_f hlt ⟨rfl, hR⟩))))
              rw [gm_ty0 v2 (by omega), hb] at z
              exact (nomatch z)
      · unfold wpX_multicast
        refine gm_xv1 hP hs ?_
        refine br_f gm_10 (br_f h1 (br_f h2 ?_))
        unfold wpY_multicast
        refine gm_yv1 hP hs ?_
        exact br_f gm_10 (br_f h1 (br_f h2 ⟨rfl, hR⟩))
theorem i_vc_receive {k : Nat} {u : SX} {v : SY} (I : i_Rel k u v) (hk : k + 4 ≤ 2050) (v1 : Int32) (v2 : Int32) (v3 : Int32) : wpX_receive (fun r u' => wpY_receive (fun r' v' => r' = r ∧ i_Rel (k + 4) u' v') v v1 v2 v3) u v1 v2 v3 := by
  refine gm_el (F := fun u v => wpX_receive (fun r u' => wpY_receive (fun r' v' => r' = r ∧ i_Rel (k + 4) u' v') v v1 v2 v3) u v1 v2 v3) ?_ I
  intro P L A T dl sn gr aw fi sg sp ut ck ad dm de se li pw wc ip pl hI
  have hR : i_Rel (k + 4) ((nI P), (nI L), (nI A), (nI T), sn, gr, aw, fi, sg, sp, ut, ck, ad, dm, de, se, li, pw, wc) ((nI P), (nI L), (nI A), dl, ip, sn, gr, aw, fi, ck, sg, sp, pl) := gm_R_in hI (by omega)
  have I0 := hI
  obtain ⟨⟨hP2, hP, hAL, hL⟩, H, M, Q, K, W⟩ := hI
  
  by_cases hok : gm_ok P A v1 v2 v3
  · obtain ⟨c, m, p, hc, hm, hp, e1, e2, e3⟩ := hok
    rw [e1, e2, e3]
    cases hb : gm_B pw (c * 128 + m * 8 + p) with
    | false =>
      unfold wpX_receive
      refine gm_xref hc hP (by omega) hm hp (fun z => absurd (hb.symm.trans z) (by decide)) (fun _ => ?_)
      refine br_f (by decide) ?_
      unfold wpY_receive
      refine gm_yarr0 hc hP (by omega) hm hp ((W.1 _ (by omega)).mpr hb) ?_
      exact ⟨rfl, hR⟩
    | true =>
      have hip := gm_W_in' W (by omega) hb
      obtain ⟨T1, pw1, wc1, w2, r, T2, aw2, fi2, sg2, sp2, ut2, ck2, dm2, de2, se2, li2, pw2, wc2, ip2, pl2, o1, o2, o3⟩ := gm_item (dl := dl) I0 (by omega) hc hm hp hb
      unfold wpX_receive
      refine gm_xref hc hP (by omega) hm hp (fun _ => ?_) (fun z => absurd (hb.symm.trans z) (by decide))
      refine br_t rfl ?_
      refine gm_xcode ?_
      refine w2 _ ?_
      refine o2 _ ?_
      show wpY_receive _ _ _ _ _
      unfold wpY_receive
      refine gm_yarr1 hc hP (by omega) hm hp hip gm_nb0 o3 ?_
      exact ⟨gm_cancel dl r, gm_R_in o1 (by omega)⟩
  · unfold wpX_receive
    refine gm_xbad hP (by omega) hok ?_
    refine br_f (by decide) ?_
    unfold wpY_receive
    refine gm_ybad hP (by omega) hok ?_
    exact ⟨rfl, hR⟩
theorem i_vc_receiveCopy {k : Nat} {u : SX} {v : SY} (I : i_Rel k u v) (hk : k + 4 ≤ 2050) (v1 : Int32) (v2 : Int32) (v3 : Int32) : wpX_receiveCopy (fun r u' => wpY_receiveCopy (fun r' v' => r' = r ∧ i_Rel (k + 4) u' v') v v1 v2 v3) u v1 v2 v3 := by
  refine gm_el (F := fun u v => wpX_receiveCopy (fun r u' => wpY_receiveCopy (fun r' v' => r' = r ∧ i_Rel (k + 4) u' v') v v1 v2 v3) u v1 v2 v3) ?_ I
  intro P L A T dl sn gr aw fi sg sp ut ck ad dm de se li pw wc ip pl hI
  have hR : i_Rel (k + 4) ((nI P), (nI L), (nI A), (nI T), sn, gr, aw, fi, sg, sp, ut, ck, ad, dm, de, se, li, pw, wc) ((nI P), (nI L), (nI A), dl, ip, sn, gr, aw, fi, ck, sg, sp, pl) := gm_R_in hI (by omega)
  have I0 := hI
  obtain ⟨⟨hP2, hP, hAL, hL⟩, H, M, Q, K, W⟩ := hI
  
  by_cases hok : gm_ok P A v1 v2 v3
  · obtain ⟨c, m, p, hc, hm, hp, e1, e2, e3⟩ := hok
    rw [e1, e2, e3]
    cases hb : gm_B pw (c * 128 + m * 8 + p) with
    | false =>
      unfold wpX_receiveCopy
      refine gm_xref hc hP (by omega) hm hp (fun z => absurd (hb.symm.trans z) (by decide)) (fun _ => ?_)
      refine br_f (by decide) ?_
      unfold wpY_receiveCopy
      refine gm_yarr0 hc hP (by omega) hm hp ((W.1 _ (by omega)).mpr hb) ?_
      exact ⟨rfl, hR⟩
    | true =>
      have hip := gm_W_in' W (by omega) hb
      obtain ⟨r, T2, aw2, fi2, sg2, sp2, ut2, ck2, dm2, de2, se2, li2, pw2, wc2, ip2, pl2, o1, o2, o3⟩ := gm_itemc (dl := dl) I0 (by omega) hc hm hp hb
      unfold wpX_receiveCopy
      refine gm_xref hc hP (by omega) hm hp (fun _ => ?_) (fun z => absurd (hb.symm.trans z) (by decide))
      refine br_t rfl ?_
      refine o2 _ ?_
      show wpY_receiveCopy _ _ _ _ _
      unfold wpY_receiveCopy
      refine gm_yarr1 hc hP (by omega) hm hp hip gm_nb1 o3 ?_
      exact ⟨gm_cancel dl r, gm_R_in o1 (by omega)⟩
  · unfold wpX_receiveCopy
    refine gm_xbad hP (by omega) hok ?_
    refine br_f (by decide) ?_
    unfold wpY_receiveCopy
    refine gm_ybad hP (by omega) hok ?_
    exact ⟨rfl, hR⟩
theorem i_vc_receiveMany {k : Nat} {u : SX} {v : SY} (I : i_Rel k u v) (hk : k + 4 ≤ 2050) (v1 : Int32) (v2 : Int32) (v3 : Int32) : wpX_receiveMany (fun r u' => wpY_receiveMany (fun r' v' => r' = r ∧ i_Rel (k + 4) u' v') v v1 v2 v3) u v1 v2 v3 := by
  refine gm_el (F := fun u v => wpX_receiveMany (fun r u' => wpY_receiveMany (fun r' v' => r' = r ∧ i_Rel (k + 4) u' v') v v1 v2 v3) u v1 v2 v3) ?_ I
  intro P L A T dl sn gr aw fi sg sp ut ck ad dm de se li pw wc ip pl hI
  have hR : i_Rel (k + 4) ((nI P), (nI L), (nI A), (nI T), sn, gr, aw, fi, sg, sp, ut, ck, ad, dm, de, se, li, pw, wc) ((nI P), (nI L), (nI A), dl, ip, sn, gr, aw, fi, ck, sg, sp, pl) := gm_R_in hI (by omega)
  have I0 := hI
  obtain ⟨⟨hP2, hP, hAL, hL⟩, H, M, Q, K, W⟩ := hI
  
  by_cases h1 : 1 ≤ v3
  · obtain ⟨lim, l1, l2, hl⟩ := gm_cl3 v3 1 32 (by omega) (by omega)
    have hj : ∀ j, j < lim → ¬ v3 ≤ nI j := by
      intro j hj
      rcases hl with ⟨_, _, e⟩ | ⟨_, b, e⟩ | ⟨a, _⟩
      · rw [e]
        exact nI_ge hj (by omega)
      · intro z
        exact b (Int32.le_trans z (nI_le (by omega) (by omega)))
      · exact absurd h1 a
    have he : v3 ≤ nI lim ∨ (¬ v3 ≤ nI lim ∧ lim = 32) := by
      rcases hl with ⟨_, _, e⟩ | ⟨_, b, e⟩ | ⟨a, _⟩
      · rw [e]
        exact Or.inl (nI_le (Nat.le_refl _) (by omega))
      · rw [e]
        exact Or.inr ⟨b, rfl⟩
      · exact absurd h1 a
    obtain ⟨t, T', dl', aw', fi', sg', sp', ut', ck', dm', de', se', li', pw', wc', ip', pl', c1, c2, c3⟩ := gm_many (v1 := v1) (v2 := v2) l2 hj he lim 0 (8 * k) T dl aw fi sg sp ut ck dm de se li pw wc ip pl (by omega) (by omega) I0
    have hY : wpY_receiveMany (fun r' v' => r' = nI t ∧ i_Rel (k + 4) ((nI P), (nI L), (nI A), (nI T'), sn, gr, (aw'), (fi'), (sg'), (sp'), (ut'), (ck'), ad, (dm'), (de'), (se'), (li'), (pw'), (wc')) v') ((nI P), (nI L), (nI A), dl, ip, sn, gr, aw, fi, ck, sg, sp, pl) v1 v2 v3 := Exists.intro (lim + 1) (c3 _ ⟨rfl, gm_R_in c1 (by omega)⟩)
    have hX := c2 (fun r u' => wpY_receiveMany (fun r' v' => r' = r ∧ i_Rel (k + 4) u' v') ((nI P), (nI L), (nI A), dl, ip, sn, gr, aw, fi, ck, sg, sp, pl) v1 v2 v3) hY
    refine br_t h1 (br_c (fun b => ?_) (fun b => ?_))
    · rcases hl with ⟨_, _, e⟩ | ⟨_, b2, _⟩ | ⟨a, _⟩
      · refine ⟨lim + 1, ?_⟩
        rw [← e] at hX
        exact hX
      · exact absurd b b2
      · exact absurd h1 a
    · rcases hl with ⟨_, b2, _⟩ | ⟨_, _, e⟩ | ⟨a, _⟩
      · exact absurd b2 b
      · refine ⟨lim + 1, ?_⟩
        rw [e] at hX
        rw [e]
        exact hX
      · exact absurd h1 a
  · refine br_f h1 ?_
    have h0 : v3 ≤ 0 := by
      rw [Int32.le_iff_toInt_le, show (1 : Int32).toInt = 1 from by decide] at h1
      rw [Int32.le_iff_toInt_le, gm_z0]
      omega
    exact Exists.intro 1 (br_t h0 ⟨rfl, hR⟩)
theorem i_vc_poolSize {k : Nat} {u : SX} {v : SY} (I : i_Rel k u v) (hk : k + 4 ≤ 2050) : wpX_poolSize (fun r => wpY_poolSize (fun r' => r' = r ∧ i_Rel (k + 4) u v) v) u := by
  refine gm_el (F := fun u v => wpX_poolSize (fun r => wpY_poolSize (fun r' => r' = r ∧ i_Rel (k + 4) u v) v) u) ?_ I
  intro P L A T dl sn gr aw fi sg sp ut ck ad dm de se li pw wc ip pl hI
  have hR : i_Rel (k + 4) ((nI P), (nI L), (nI A), (nI T), sn, gr, aw, fi, sg, sp, ut, ck, ad, dm, de, se, li, pw, wc) ((nI P), (nI L), (nI A), dl, ip, sn, gr, aw, fi, ck, sg, sp, pl) := gm_R_in hI (by omega)
  obtain ⟨⟨hP2, hP, hAL, hL⟩, H, M, Q, K, W⟩ := hI
  
  exact gm_ysize W ⟨rfl, hR⟩
theorem i_vc_poolItem {k : Nat} {u : SX} {v : SY} (I : i_Rel k u v) (hk : k + 4 ≤ 2050) (v1 : Int32) : wpX_poolItem (fun r => wpY_poolItem (fun r' => r' = r ∧ i_Rel (k + 4) u v) v v1) u v1 := by
  refine gm_el (F := fun u v => wpX_poolItem (fun r => wpY_poolItem (fun r' => r' = r ∧ i_Rel (k + 4) u v) v v1) u v1) ?_ I
  intro P L A T dl sn gr aw fi sg sp ut ck ad dm de se li pw wc ip pl hI
  have hR : i_Rel (k + 4) ((nI P), (nI L), (nI A), (nI T), sn, gr, aw, fi, sg, sp, ut, ck, ad, dm, de, se, li, pw, wc) ((nI P), (nI L), (nI A), dl, ip, sn, gr, aw, fi, ck, sg, sp, pl) := gm_R_in hI (by omega)
  obtain ⟨⟨hP2, hP, hAL, hL⟩, H, M, Q, K, W⟩ := hI
  
  have hT := gm_W_lt W
  by_cases h0 : v1 < 0
  · refine br_t h0 ?_
    exact gm_yitem0 W (fun k' hk' e => by rw [e] at h0; exact nI_pos (by omega) h0) ⟨rfl, hR⟩
  · obtain ⟨j, hj, e⟩ := nI_of h0
    rw [e]
    rw [e] at h0
    by_cases h1 : j < T
    · obtain ⟨c, c1, c2, c3, c4⟩ := gm_xselect (P := P) (L := L) (A := A) (T := T) (sn := sn) (gr := gr) (aw := aw) (fi := fi) (sg := sg) (sp := sp) (ut := ut) (ck := ck) (ad := ad) (dm := dm) (de := de) (se := se) (li := li) (pw := pw) (wc := wc) W h1
      refine br_f h0 (br_t (nI_lt h1 (by omega)) ?_)
      refine c4 _ ?_
      exact gm_yitem W c1 c2 c3 ⟨rfl, hR⟩
    · refine br_f h0 (br_f (nI_nlt (by omega) (by omega)) ?_)
      refine gm_yitem0 W (fun k' hk' e' => ?_) ⟨rfl, hR⟩
      rw [nI_eq (by omega) (by omega)] at e'
      omega
theorem i_vc_room {k : Nat} {u : SX} {v : SY} (I : i_Rel k u v) (hk : k + 4 ≤ 2050) : wpX_room (fun r => wpY_room (fun r' => r' = r ∧ i_Rel (k + 4) u v) v) u := by
  refine gm_el (F := fun u v => wpX_room (fun r => wpY_room (fun r' => r' = r ∧ i_Rel (k + 4) u v) v) u) ?_ I
  intro P L A T dl sn gr aw fi sg sp ut ck ad dm de se li pw wc ip pl hI
  have hR : i_Rel (k + 4) ((nI P), (nI L), (nI A), (nI T), sn, gr, aw, fi, sg, sp, ut, ck, ad, dm, de, se, li, pw, wc) ((nI P), (nI L), (nI A), dl, ip, sn, gr, aw, fi, ck, sg, sp, pl) := gm_R_in hI (by omega)
  obtain ⟨⟨hP2, hP, hAL, hL⟩, H, M, Q, K, W⟩ := hI
  
  exact ⟨rfl, hR⟩
theorem i_vc_header {k : Nat} {u : SX} {v : SY} (I : i_Rel k u v) (hk : k + 4 ≤ 2050) (v1 : Int32) : wpX_header (fun r => wpY_header (fun r' => r' = r ∧ i_Rel (k + 4) u v) v v1) u v1 := by
  refine gm_el (F := fun u v => wpX_header (fun r => wpY_header (fun r' => r' = r ∧ i_Rel (k + 4) u v) v v1) u v1) ?_ I
  intro P L A T dl sn gr aw fi sg sp ut ck ad dm de se li pw wc ip pl hI
  have hR : i_Rel (k + 4) ((nI P), (nI L), (nI A), (nI T), sn, gr, aw, fi, sg, sp, ut, ck, ad, dm, de, se, li, pw, wc) ((nI P), (nI L), (nI A), dl, ip, sn, gr, aw, fi, ck, sg, sp, pl) := gm_R_in hI (by omega)
  obtain ⟨⟨hP2, hP, hAL, hL⟩, H, M, Q, K, W⟩ := hI
  
  rcases gm_ix v1 (n := A) (by omega) with hx | ⟨m, hm, e⟩
  · unfold wpX_header
    refine gm_xe0 hx ?_
    refine br_t rfl ?_
    unfold wpY_header
    refine gm_ye0 hx ?_
    exact br_t rfl ⟨rfl, hR⟩
  · rw [e]
    have vm : vp_in (nI m) 16 := vp_in_nI (by omega) (by omega)
    unfold wpX_header
    refine gm_xe1 (by omega) hm ?_
    refine br_f gm_10 ⟨vm, vm, ?_⟩
    unfold wpY_header
    refine gm_ye1 (by omega) hm ?_
    exact br_f gm_10 ⟨vm, vm, rfl, hR⟩
theorem i_vc_awaited {k : Nat} {u : SX} {v : SY} (I : i_Rel k u v) (hk : k + 4 ≤ 2050) (v1 : Int32) : wpX_awaited (fun r => wpY_awaited (fun r' => r' = r ∧ i_Rel (k + 4) u v) v v1) u v1 := by
  refine gm_el (F := fun u v => wpX_awaited (fun r => wpY_awaited (fun r' => r' = r ∧ i_Rel (k + 4) u v) v v1) u v1) ?_ I
  intro P L A T dl sn gr aw fi sg sp ut ck ad dm de se li pw wc ip pl hI
  have hR : i_Rel (k + 4) ((nI P), (nI L), (nI A), (nI T), sn, gr, aw, fi, sg, sp, ut, ck, ad, dm, de, se, li, pw, wc) ((nI P), (nI L), (nI A), dl, ip, sn, gr, aw, fi, ck, sg, sp, pl) := gm_R_in hI (by omega)
  obtain ⟨⟨hP2, hP, hAL, hL⟩, H, M, Q, K, W⟩ := hI
  
  rcases gm_ix v1 (n := A) (by omega) with hx | ⟨m, hm, e⟩
  · unfold wpX_awaited
    refine gm_xe0 hx ?_
    refine br_t rfl ?_
    unfold wpY_awaited
    refine gm_ye0 hx ?_
    exact br_t rfl ⟨rfl, hR⟩
  · rw [e]
    have vm : vp_in (nI m) 16 := vp_in_nI (by omega) (by omega)
    unfold wpX_awaited
    refine gm_xe1 (by omega) hm ?_
    refine br_f gm_10 ⟨vm, ?_⟩
    unfold wpY_awaited
    refine gm_ye1 (by omega) hm ?_
    exact br_f gm_10 ⟨vm, rfl, hR⟩
theorem i_vc_clock {k : Nat} {u : SX} {v : SY} (I : i_Rel k u v) (hk : k + 4 ≤ 2050) (v1 : Int32) : wpX_clock (fun r => wpY_clock (fun r' => r' = r ∧ i_Rel (k + 4) u v) v v1) u v1 := by
  refine gm_el (F := fun u v => wpX_clock (fun r => wpY_clock (fun r' => r' = r ∧ i_Rel (k + 4) u v) v v1) u v1) ?_ I
  intro P L A T dl sn gr aw fi sg sp ut ck ad dm de se li pw wc ip pl hI
  have hR : i_Rel (k + 4) ((nI P), (nI L), (nI A), (nI T), sn, gr, aw, fi, sg, sp, ut, ck, ad, dm, de, se, li, pw, wc) ((nI P), (nI L), (nI A), dl, ip, sn, gr, aw, fi, ck, sg, sp, pl) := gm_R_in hI (by omega)
  obtain ⟨⟨hP2, hP, hAL, hL⟩, H, M, Q, K, W⟩ := hI
  
  rcases gm_ix v1 (n := P) (by omega) with hx | ⟨p, hp, e⟩
  · unfold wpX_clock
    refine gm_xv0 hx ?_
    refine br_t rfl ?_
    unfold wpY_clock
    refine gm_yv0 hx ?_
    exact br_t rfl ⟨rfl, hR⟩
  · rw [e]
    have vp : vp_in (nI p) 8 := vp_in_nI (by omega) (by omega)
    unfold wpX_clock
    refine gm_xv1 hP hp ?_
    refine br_f gm_10 ⟨vp, ?_⟩
    unfold wpY_clock
    refine gm_yv1 hP hp ?_
    exact br_f gm_10 ⟨vp, rfl, hR⟩
theorem i_vc_stage {k : Nat} {u : SX} {v : SY} (I : i_Rel k u v) (hk : k + 4 ≤ 2050) (v1 : Int32) (v2 : Int32) : wpX_stage (fun r => wpY_stage (fun r' => r' = r ∧ i_Rel (k + 4) u v) v v1 v2) u v1 v2 := by
  refine gm_el (F := fun u v => wpX_stage (fun r => wpY_stage (fun r' => r' = r ∧ i_Rel (k + 4) u v) v v1 v2) u v1 v2) ?_ I
  intro P L A T dl sn gr aw fi sg sp ut ck ad dm de se li pw wc ip pl hI
  have hR : i_Rel (k + 4) ((nI P), (nI L), (nI A), (nI T), sn, gr, aw, fi, sg, sp, ut, ck, ad, dm, de, se, li, pw, wc) ((nI P), (nI L), (nI A), dl, ip, sn, gr, aw, fi, ck, sg, sp, pl) := gm_R_in hI (by omega)
  obtain ⟨⟨hP2, hP, hAL, hL⟩, H, M, Q, K, W⟩ := hI
  
  rcases gm_ix v1 (n := A) (by omega) with hx | ⟨m, hm, e⟩
  · unfold wpX_stage
    refine gm_xe0 hx ?_
    refine br_t rfl ?_
    unfold wpY_stage
    refine gm_ye0 hx ?_
    exact br_t rfl ⟨rfl, hR⟩
  · rw [e]
    rcases gm_ix v2 (n := P) (by omega) with hx | ⟨p, hp, e2⟩
    · unfold wpX_stage
      refine gm_xe1 (by omega) hm ?_
      refine br_f gm_10 ?_
      refine gm_xv0 hx ?_
      refine br_t rfl ?_
      unfold wpY_stage
      refine gm_ye1 (by omega) hm ?_
      refine br_f gm_10 ?_
      refine gm_yv0 hx ?_
      exact br_t rfl ⟨rfl, hR⟩
    · rw [e2]
      have vp : vp_in (nI m * 8 + nI p) 128 := by
        rw [gm_ix8]
        exact vp_in_nI (by omega) (by omega)
      unfold wpX_stage
      refine gm_xe1 (by omega) hm ?_
      refine br_f gm_10 ?_
      refine gm_xv1 hP hp ?_
      refine br_f gm_10 ⟨vp, ?_⟩
      unfold wpY_stage
      refine gm_ye1 (by omega) hm ?_
      refine br_f gm_10 ?_
      refine gm_yv1 hP hp ?_
      exact br_f gm_10 ⟨vp, rfl, hR⟩
theorem i_vc_stamp {k : Nat} {u : SX} {v : SY} (I : i_Rel k u v) (hk : k + 4 ≤ 2050) (v1 : Int32) (v2 : Int32) : wpX_stamp (fun r => wpY_stamp (fun r' => r' = r ∧ i_Rel (k + 4) u v) v v1 v2) u v1 v2 := by
  refine gm_el (F := fun u v => wpX_stamp (fun r => wpY_stamp (fun r' => r' = r ∧ i_Rel (k + 4) u v) v v1 v2) u v1 v2) ?_ I
  intro P L A T dl sn gr aw fi sg sp ut ck ad dm de se li pw wc ip pl hI
  have hR : i_Rel (k + 4) ((nI P), (nI L), (nI A), (nI T), sn, gr, aw, fi, sg, sp, ut, ck, ad, dm, de, se, li, pw, wc) ((nI P), (nI L), (nI A), dl, ip, sn, gr, aw, fi, ck, sg, sp, pl) := gm_R_in hI (by omega)
  obtain ⟨⟨hP2, hP, hAL, hL⟩, H, M, Q, K, W⟩ := hI
  
  rcases gm_ix v1 (n := A) (by omega) with hx | ⟨m, hm, e⟩
  · unfold wpX_stamp
    refine gm_xe0 hx ?_
    refine br_t rfl ?_
    unfold wpY_stamp
    refine gm_ye0 hx ?_
    exact br_t rfl ⟨rfl, hR⟩
  · rw [e]
    rcases gm_ix v2 (n := P) (by omega) with hx | ⟨p, hp, e2⟩
    · unfold wpX_stamp
      refine gm_xe1 (by omega) hm ?_
      refine br_f gm_10 ?_
      refine gm_xv0 hx ?_
      refine br_t rfl ?_
      unfold wpY_stamp
      refine gm_ye1 (by omega) hm ?_
      refine br_f gm_10 ?_
      refine gm_yv0 hx ?_
      exact br_t rfl ⟨rfl, hR⟩
    · rw [e2]
      have vp : vp_in (nI m * 8 + nI p) 128 := by
        rw [gm_ix8]
        exact vp_in_nI (by omega) (by omega)
      unfold wpX_stamp
      refine gm_xe1 (by omega) hm ?_
      refine br_f gm_10 ?_
      refine gm_xv1 hP hp ?_
      refine br_f gm_10 ⟨vp, ?_⟩
      unfold wpY_stamp
      refine gm_ye1 (by omega) hm ?_
      refine br_f gm_10 ?_
      refine gm_yv1 hP hp ?_
      exact br_f gm_10 ⟨vp, rfl, hR⟩
theorem i_vc_next {k : Nat} {u : SX} {v : SY} (I : i_Rel k u v) (hk : k + 4 ≤ 2050) (v1 : Int32) : wpX_next (fun r => wpY_next (fun r' => r' = r ∧ i_Rel (k + 4) u v) v v1) u v1 := by
  refine gm_el (F := fun u v => wpX_next (fun r => wpY_next (fun r' => r' = r ∧ i_Rel (k + 4) u v) v v1) u v1) ?_ I
  intro P L A T dl sn gr aw fi sg sp ut ck ad dm de se li pw wc ip pl hI
  have hR : i_Rel (k + 4) ((nI P), (nI L), (nI A), (nI T), sn, gr, aw, fi, sg, sp, ut, ck, ad, dm, de, se, li, pw, wc) ((nI P), (nI L), (nI A), dl, ip, sn, gr, aw, fi, ck, sg, sp, pl) := gm_R_in hI (by omega)
  obtain ⟨⟨hP2, hP, hAL, hL⟩, H, M, Q, K, W⟩ := hI
  
  rcases gm_ix v1 (n := P) (by omega) with hx | ⟨p, hp, e⟩
  · unfold wpX_next
    refine gm_xv0 hx ?_
    refine br_t rfl ?_
    unfold wpY_next
    refine gm_yv0 hx ?_
    exact br_t rfl ⟨rfl, hR⟩
  · rw [e]
    have vp : vp_in (nI p) 8 := vp_in_nI (by omega) (by omega)
    have cp : (nI p).toNatClampNeg = p := nI_clamp (by omega)
    obtain ⟨D, S, ln, H1, o⟩ := H p hp
    have hS := H1.1.2.2.2.1
    have hDS := H1.1.2.2.1
    unfold wpX_next
    refine gm_xv1 hP hp ?_
    refine br_f gm_10 ⟨vp, nm_r (e' := nI D) (by rw [cp]; exact H1.1.1) ⟨vp, ?_⟩⟩
    by_cases hlt : D < S
    · have ci : (nI (p * 16 + D)).toNatClampNeg = p * 16 + D := nI_clamp (by omega)
      have hli : li (nI p * 16 + nI D).toNatClampNeg = nI (ln D) := by
        rw [gm_ix16, ci]
        exact (H1.2.1 D hlt).1
      obtain ⟨m1, m2, m3⟩ := gm_LB_min H1 o hlt
      refine br_t (by rw [cp, H1.1.2.1]; exact nI_lt hlt (by omega)) ⟨by rw [gm_ix16]; exact vp_in_nI (by omega) (by omega), ?_⟩
      rw [hli]
      exact gm_ynext hP hp (by omega) m1 m2 m3 ⟨rfl, hR⟩
    · refine br_f (by rw [cp, H1.1.2.1]; exact nI_nlt (by omega) (by omega)) ?_
      exact gm_ynone hP hp (by omega) (gm_LB_none H1 (by omega)) ⟨rfl, hR⟩
theorem i_vc_deliveredCount {k : Nat} {u : SX} {v : SY} (I : i_Rel k u v) (hk : k + 4 ≤ 2050) (v1 : Int32) : wpX_deliveredCount (fun r => wpY_deliveredCount (fun r' => r' = r ∧ i_Rel (k + 4) u v) v v1) u v1 := by
  refine gm_el (F := fun u v => wpX_deliveredCount (fun r => wpY_deliveredCount (fun r' => r' = r ∧ i_Rel (k + 4) u v) v v1) u v1) ?_ I
  intro P L A T dl sn gr aw fi sg sp ut ck ad dm de se li pw wc ip pl hI
  have hR : i_Rel (k + 4) ((nI P), (nI L), (nI A), (nI T), sn, gr, aw, fi, sg, sp, ut, ck, ad, dm, de, se, li, pw, wc) ((nI P), (nI L), (nI A), dl, ip, sn, gr, aw, fi, ck, sg, sp, pl) := gm_R_in hI (by omega)
  obtain ⟨⟨hP2, hP, hAL, hL⟩, H, M, Q, K, W⟩ := hI
  
  rcases gm_ix v1 (n := P) (by omega) with hx | ⟨p, hp, e⟩
  · unfold wpX_deliveredCount
    refine gm_xv0 hx ?_
    refine br_t rfl ?_
    unfold wpY_deliveredCount
    refine gm_yv0 hx ?_
    exact br_t rfl ⟨rfl, hR⟩
  · rw [e]
    have vp : vp_in (nI p) 8 := vp_in_nI (by omega) (by omega)
    have cp : (nI p).toNatClampNeg = p := nI_clamp (by omega)
    obtain ⟨D, S, ln, H1, o⟩ := H p hp
    have hS := H1.1.2.2.2.1
    have hDS := H1.1.2.2.1
    unfold wpX_deliveredCount
    refine gm_xv1 hP hp ?_
    refine br_f gm_10 ⟨vp, ?_⟩
    rw [cp, H1.1.1]
    refine gm_ycount hP hp (by omega) ?_
    rw [gm_LB_ct H1]
    exact ⟨rfl, hR⟩
theorem i_vc_deliveredAt {k : Nat} {u : SX} {v : SY} (I : i_Rel k u v) (hk : k + 4 ≤ 2050) (v1 : Int32) (v2 : Int32) : wpX_deliveredAt (fun r => wpY_deliveredAt (fun r' => r' = r ∧ i_Rel (k + 4) u v) v v1 v2) u v1 v2 := by
  refine gm_el (F := fun u v => wpX_deliveredAt (fun r => wpY_deliveredAt (fun r' => r' = r ∧ i_Rel (k + 4) u v) v v1 v2) u v1 v2) ?_ I
  intro P L A T dl sn gr aw fi sg sp ut ck ad dm de se li pw wc ip pl hI
  have hR : i_Rel (k + 4) ((nI P), (nI L), (nI A), (nI T), sn, gr, aw, fi, sg, sp, ut, ck, ad, dm, de, se, li, pw, wc) ((nI P), (nI L), (nI A), dl, ip, sn, gr, aw, fi, ck, sg, sp, pl) := gm_R_in hI (by omega)
  obtain ⟨⟨hP2, hP, hAL, hL⟩, H, M, Q, K, W⟩ := hI
  
  rcases gm_ix v1 (n := P) (by omega) with hx | ⟨p, hp, e⟩
  · unfold wpX_deliveredAt
    refine gm_xv0 hx ?_
    refine br_t rfl ?_
    unfold wpY_deliveredAt
    refine gm_yv0 hx ?_
    exact br_t rfl ⟨rfl, hR⟩
  · rw [e]
    have vp : vp_in (nI p) 8 := vp_in_nI (by omega) (by omega)
    have cp : (nI p).toNatClampNeg = p := nI_clamp (by omega)
    obtain ⟨D, S, ln, H1, o⟩ := H p hp
    have hS := H1.1.2.2.2.1
    have hDS := H1.1.2.2.1
    unfold wpX_deliveredAt
    refine gm_xv1 hP hp ?_
    by_cases h0 : v2 < 0
    · refine br_f gm_10 (br_t h0 ?_)
      exact gm_ydat0 hP hp (by omega) (fun z => absurd h0 z) ⟨rfl, hR⟩
    · obtain ⟨i, hi, ei⟩ := nI_of h0
      by_cases hlt : i < D
      · have ci : (nI (p * 16 + i)).toNatClampNeg = p * 16 + i := nI_clamp (by omega)
        have hli : li (nI p * 16 + v2).toNatClampNeg = nI (ln i) := by
          rw [ei, gm_ix16, ci]
          exact (H1.2.1 i (by omega)).1
        refine br_f gm_10 (br_f h0 ⟨vp, br_t (by rw [cp, H1.1.1, ei]; exact nI_lt hlt (by omega)) ⟨by rw [ei, gm_ix16]; exact vp_in_nI (by omega) (by omega), ?_⟩⟩)
        rw [hli]
        refine gm_ydat hP hp (by omega) h0 (H1.2.1 i (by omega)).2 ?_ (fun m hm z => ?_) ⟨rfl, hR⟩
        · rw [ei, nI_1]
          exact (H1.2.2.2.1 i hlt).2.1
        · have hmA := (H1.2.1 i (by omega)).2
          obtain ⟨j, j1, j2, j3⟩ := gm_place H1 (m := m) (by omega) h0 z
          rw [ei, nI_eq (by omega) (by omega)] at j2
          rw [← j2] at j3
          omega
      · refine br_f gm_10 (br_f h0 ⟨vp, br_f (by rw [cp, H1.1.1, ei]; exact nI_nlt (by omega) (by omega)) ?_⟩)
        refine gm_ydat0 hP hp (by omega) (fun _ m hm z => ?_) ⟨rfl, hR⟩
        obtain ⟨j, j1, j2, j3⟩ := gm_place H1 (m := m) hm h0 z
        rw [ei, nI_eq (by omega) (by omega)] at j2
        omega
theorem i_vc_precedes {k : Nat} {u : SX} {v : SY} (I : i_Rel k u v) (hk : k + 4 ≤ 2050) (v1 : Int32) (v2 : Int32) : wpX_precedes (fun r => wpY_precedes (fun r' => r' = r ∧ i_Rel (k + 4) u v) v v1 v2) u v1 v2 := by
  refine gm_el (F := fun u v => wpX_precedes (fun r => wpY_precedes (fun r' => r' = r ∧ i_Rel (k + 4) u v) v v1 v2) u v1 v2) ?_ I
  intro P L A T dl sn gr aw fi sg sp ut ck ad dm de se li pw wc ip pl hI
  have hR : i_Rel (k + 4) ((nI P), (nI L), (nI A), (nI T), sn, gr, aw, fi, sg, sp, ut, ck, ad, dm, de, se, li, pw, wc) ((nI P), (nI L), (nI A), dl, ip, sn, gr, aw, fi, ck, sg, sp, pl) := gm_R_in hI (by omega)
  obtain ⟨⟨hP2, hP, hAL, hL⟩, H, M, Q, K, W⟩ := hI
  
  rcases gm_ix v1 (n := A) (by omega) with hx | ⟨a, ha, e⟩
  · unfold wpX_precedes
    refine gm_xe0 hx ?_
    refine br_t rfl ?_
    unfold wpY_precedes
    refine gm_ye0 hx ?_
    exact br_t rfl ⟨rfl, hR⟩
  · rw [e]
    rcases gm_ix v2 (n := A) (by omega) with hx | ⟨b, hb, e2⟩
    · unfold wpX_precedes
      refine gm_xe1 (by omega) ha ?_
      refine br_f gm_10 ?_
      refine gm_xe0 hx ?_
      refine br_t rfl ?_
      unfold wpY_precedes
      refine gm_ye1 (by omega) ha ?_
      refine br_f gm_10 ?_
      refine gm_ye0 hx ?_
      exact br_t rfl ⟨rfl, hR⟩
    · rw [e2]
      refine gm_xprec H hP (by omega) ha hb (fun r => ?_) (fun r => ?_)
      · exact gm_yprec hP (by omega) ha hb (fun _ => ⟨rfl, hR⟩) (fun z => absurd r z)
      · exact gm_yprec hP (by omega) ha hb (fun z => absurd z r) (fun _ => ⟨rfl, hR⟩)
end
