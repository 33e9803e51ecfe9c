section
/-! pure rows to paste: stores, nI and lN arithmetic, masks, shifts, narrowing, branches by naturals (pk_le, pk_lt, pk_eq), loops (lp1 .. lp16: the measure of the state; rp1 ..: recursion), negatives. Take what you need -/
theorem pk_us {f : Nat → Int32} {k : Nat} {x : Int32} : upd f k x k = x := if_pos rfl
theorem pk_un {f : Nat → Int32} {k j : Nat} {x : Int32} (h : j ≠ k) : upd f k x j = f j := if_neg h
theorem pk_uLs {f : Nat → Int64} {k : Nat} {x : Int64} : vp_updL f k x k = x := if_pos rfl
theorem pk_uLn {f : Nat → Int64} {k j : Nat} {x : Int64} (h : j ≠ k) : vp_updL f k x j = f j := if_neg h
theorem pk_sub {a b : Nat} (h : b ≤ a) : nI a - nI b = nI (a - b) := by
  obtain ⟨c, rfl⟩ : ∃ c, a = c + b := ⟨a - b, by omega⟩
  rw [← nI_add, Int32.add_sub_cancel, Nat.add_sub_cancel]
theorem pk_m1 (n : Nat) : nI (n + 1) + (-1) = nI n := by
  rw [← nI_1, Int32.add_assoc, show (1 : Int32) + (-1) = 0 from rfl, Int32.add_zero]
theorem pk_mul (a b : Nat) : nI a * nI b = nI (a * b) := (Int32.ofNat_mul a b).symm
theorem pk_div {a d : Nat} (ha : a < 2 ^ 31) (h0 : 0 < d) (hd : d < 2 ^ 31) : nI a / nI d = nI (a / d) := by
  apply Int32.toInt_inj.mp
  rw [lg_idiv_nonneg (by rw [nI_toInt ha]; omega) (by rw [nI_toInt hd]; omega), nI_toInt ha, nI_toInt hd, nI_toInt (Nat.lt_of_le_of_lt (Nat.div_le_self a d) ha)]
  first | rfl | exact (Int.natCast_ediv _ _).symm
theorem pk_rem {a d : Nat} (ha : a < 2 ^ 31) (h0 : 0 < d) (hd : d < 2 ^ 31) : nI a - nI a / nI d * nI d = nI (a % d) := by
  rw [pk_div ha h0 hd, pk_mul, pk_sub (Nat.div_mul_le_self a d)]
  exact congrArg nI (by have := Nat.div_add_mod' a d; omega)
theorem pk_sub_toInt {a b : Nat} (ha : a < 2 ^ 30) (hb : b < 2 ^ 30) : (nI a - nI b).toInt = (a : Int) - b := by
  rw [Int32.toInt_sub, nI_toInt (by omega), nI_toInt (by omega)]
  exact Int.bmod_eq_of_le (by omega) (by omega)
theorem pk_sneg {a b : Nat} (hb : b < 2 ^ 30) (h : a < b) : nI a - nI b < 0 := by
  rw [Int32.lt_iff_toInt_lt, pk_sub_toInt (by omega) hb, show (0 : Int32).toInt = 0 from by decide]
  omega
theorem pk_ix (x : Int32) {n : Nat} (hn : n < 2 ^ 31) : x < 0 ∨ nI n ≤ x ∨ ∃ j : Nat, j < n ∧ x = nI j := by
  by_cases h : x < 0
  · exact Or.inl h
  · obtain ⟨j, hj, rfl⟩ := nI_of h
    by_cases h2 : j < n
    · exact Or.inr (Or.inr ⟨j, h2, rfl⟩)
    · exact Or.inr (Or.inl (nI_le (by omega) hj))
theorem pk_le {x y : Int32} {A B : Prop} (a b : Nat) (f : a ≤ b → A) (g : b < a → B) (hx : x = nI a := by rfl) (hy : y = nI b := by rfl) (ha : a < 2 ^ 31 := by omega) (hb : b < 2 ^ 31 := by omega) : (x ≤ y → A) ∧ (¬ x ≤ y → B) := by
  subst hx hy
  rw [nI_leI ha hb]
  exact ⟨f, fun z => g (by omega)⟩
theorem pk_lt {x y : Int32} {A B : Prop} (a b : Nat) (f : a < b → A) (g : b ≤ a → B) (hx : x = nI a := by rfl) (hy : y = nI b := by rfl) (ha : a < 2 ^ 31 := by omega) (hb : b < 2 ^ 31 := by omega) : (x < y → A) ∧ (¬ x < y → B) := by
  subst hx hy
  rw [nI_ltI ha hb]
  exact ⟨f, fun z => g (by omega)⟩
theorem pk_eq {x y : Int32} {A B : Prop} (a b : Nat) (f : a = b → A) (g : a ≠ b → B) (hx : x = nI a := by rfl) (hy : y = nI b := by rfl) (ha : a < 2 ^ 31 := by omega) (hb : b < 2 ^ 31 := by omega) : (x = y → A) ∧ (¬ x = y → B) := by
  subst hx hy
  rw [nI_eq ha hb]
  exact ⟨f, g⟩
theorem pk_in {x : Int32} (n N : Nat) (h : n < N) (hx : x = nI n := by rfl) (hN : N < 2 ^ 31 := by omega) : vp_in x N := by
  subst hx
  exact vp_in_nI h hN
theorem pk_cl {x : Int32} (n : Nat) (hx : x = nI n := by rfl) (h : n < 2 ^ 31 := by omega) : x.toNatClampNeg = n := by
  subst hx
  exact nI_clamp h
theorem pk_tn {n : Nat} (h : n < 2 ^ 32) : (nI n).toBitVec.toNat = n := Nat.mod_eq_of_lt h
theorem pk_and (x : Int32) {m : Int32} (k : Nat) (hm : m.toBitVec.toNat = 2 ^ k - 1) : x &&& m = nI (x.toBitVec.toNat % 2 ^ k) := by
  apply Int32.toBitVec_inj.mp
  apply BitVec.eq_of_toNat_eq
  rw [Int32.toBitVec_and, BitVec.toNat_and, hm, Nat.and_two_pow_sub_one_eq_mod]
  show _ = (BitVec.ofNat 32 _).toNat
  rw [BitVec.toNat_ofNat]
  exact (Nat.mod_eq_of_lt (Nat.lt_of_le_of_lt (Nat.mod_le _ _) x.toBitVec.isLt)).symm
theorem pk_andN {n : Nat} (h : n < 2 ^ 32) {m : Int32} (k : Nat) (hm : m.toBitVec.toNat = 2 ^ k - 1) : nI n &&& m = nI (n % 2 ^ k) := by
  rw [pk_and _ k hm, pk_tn h]
theorem pk_andE (x : Int32) {m : Int32} (k : Nat) (hm : m.toBitVec.toNat = 2 ^ k - 1) : ∃ j : Nat, j < 2 ^ k ∧ x &&& m = nI j := ⟨_, Nat.mod_lt _ (Nat.two_pow_pos k), pk_and x k hm⟩
theorem pk_andIn (x : Int32) {m : Int32} (k : Nat) (hm : m.toBitVec.toNat = 2 ^ k - 1) (hk : k ≤ 30) : vp_in (x &&& m) (2 ^ k) := by
  obtain ⟨j, hj, e⟩ := pk_andE x k hm
  rw [e]
  exact vp_in_nI hj (Nat.lt_of_le_of_lt (Nat.pow_le_pow_right (by decide) hk) (by decide))
theorem pk_shl (a s : Int32) (k : Nat) (hs : (s.toBitVec.smod 32).toNat = k) : (a <<< s).toBitVec.toNat = a.toBitVec.toNat * 2 ^ k % 2 ^ 32 := by
  show (a.toBitVec <<< (s.toBitVec.smod 32).toNat).toNat = _
  rw [hs, BitVec.toNat_shiftLeft, Nat.shiftLeft_eq]
theorem pk_shlN {n : Nat} (s : Int32) (k : Nat) (hs : (s.toBitVec.smod 32).toNat = k) (h : n * 2 ^ k < 2 ^ 32) : nI n <<< s = nI (n * 2 ^ k) := by
  apply Int32.toBitVec_inj.mp
  apply BitVec.eq_of_toNat_eq
  have hn : n < 2 ^ 32 := Nat.lt_of_le_of_lt (Nat.le_mul_of_pos_right n (Nat.two_pow_pos k)) h
  rw [pk_shl _ _ k hs, pk_tn hn, pk_tn h, Nat.mod_eq_of_lt h]
theorem pk_shr (a s : Int32) (k : Nat) (hs : (s.toBitVec.smod 32).toNat = k) : (a >>> s).toInt = a.toInt >>> k := by
  show (a.toBitVec.sshiftRight (s.toBitVec.smod 32).toNat).toInt = _
  rw [hs, BitVec.toInt_sshiftRight]
  rfl
theorem pk_shrN {n : Nat} (h : n < 2 ^ 31) (s : Int32) (k : Nat) (hs : (s.toBitVec.smod 32).toNat = k) : nI n >>> s = nI (n / 2 ^ k) := by
  apply Int32.toInt_inj.mp
  have h2 : n / 2 ^ k ≤ n := Nat.div_le_self _ _
  rw [pk_shr _ _ k hs, nI_toInt h, nI_toInt (by omega), Int.shiftRight_eq_div_pow]
  rfl
theorem pk_ushr (x s : Int32) (k : Nat) (hs : ((s.toUInt32 &&& Int32.toUInt32 31).toBitVec % 32).toNat = k) : (x.toUInt32 >>> (s.toUInt32 &&& Int32.toUInt32 31)).toInt32.toBitVec.toNat = x.toBitVec.toNat / 2 ^ k := by
  have e : (x.toUInt32 >>> (s.toUInt32 &&& Int32.toUInt32 31)).toInt32.toBitVec = x.toBitVec >>> k := by
    rw [← hs]
    exact UInt32.toBitVec_shiftRight _ _
  rw [e, BitVec.toNat_ushiftRight, Nat.shiftRight_eq_div_pow]
theorem pk_ushrN {n : Nat} (hn : n < 2 ^ 32) (s : Int32) (k : Nat) (hs : ((s.toUInt32 &&& Int32.toUInt32 31).toBitVec % 32).toNat = k) : ((nI n).toUInt32 >>> (s.toUInt32 &&& Int32.toUInt32 31)).toInt32 = nI (n / 2 ^ k) := by
  apply Int32.toBitVec_inj.mp
  apply BitVec.eq_of_toNat_eq
  rw [pk_ushr _ s k hs, pk_tn hn, pk_tn (Nat.lt_of_le_of_lt (Nat.div_le_self _ _) hn)]
theorem pk_nb (z : Int32) : narrow .byte (.int z.toInt8.toInt32) = .int z.toInt8.toInt32 := congrArg Value.int (by simp)
theorem pk_ns (z : Int32) : narrow .short (.int z.toInt16.toInt32) = .int z.toInt16.toInt32 := congrArg Value.int (by simp)
theorem pk_fb (r : Int32) : fits .byte (.int r.toInt8.toInt32) = true := by
  have ⟨a, b⟩ := lg_i2b_range r
  have h1 : (-128 : Int32).toInt = -128 := by decide
  have h2 : (127 : Int32).toInt = 127 := by decide
  simp only [fits, Bool.and_eq_true, decide_eq_true_eq, Int32.le_iff_toInt_le, h1, h2]
  omega
theorem pk_fs (r : Int32) : fits .short (.int r.toInt16.toInt32) = true := by
  have ⟨a, b⟩ := lg_i2s_range r
  have h1 : (-32768 : Int32).toInt = -32768 := by decide
  have h2 : (32767 : Int32).toInt = 32767 := by decide
  simp only [fits, Bool.and_eq_true, decide_eq_true_eq, Int32.le_iff_toInt_le, h1, h2]
  omega
theorem pk_charN {q : Nat} (hq : q < 65536) : narrow .char (.int (nI q)) = .int (nI q) ∧ fits .char (.int (nI q)) = true := by
  constructor
  · have e : (nI q).toUInt32.toUInt16.toUInt32.toInt32 = nI q := by
      apply Int32.toBitVec_inj.mp
      apply BitVec.eq_of_toNat_eq
      show (nI q).toUInt32.toUInt16.toUInt32.toNat = q % 2 ^ 32
      rw [UInt16.toNat_toUInt32, UInt32.toNat_toUInt16, show (nI q).toUInt32.toNat = q % 2 ^ 32 from rfl]
      omega
    exact congrArg Value.int e
  · have a : (0 : Int32) ≤ nI q := nI_pos' (by omega)
    have b : nI q ≤ 65535 := nI_le (b := 65535) (by omega) (by decide)
    show (decide ((0 : Int32) ≤ nI q) && decide (nI q ≤ 65535)) = true
    rw [decide_eq_true a, decide_eq_true b]
    rfl
theorem pk_char (x : Int32) : (x.toUInt32 % 65536).toInt32 = nI (x.toBitVec.toNat % 65536) := by
  apply Int32.toBitVec_inj.mp
  apply BitVec.eq_of_toNat_eq
  rw [pk_tn (by omega)]
  show (x.toUInt32 % 65536).toNat = _
  rw [UInt32.toNat_mod]
  rfl
theorem pk_nc (x : Int32) : narrow .char (.int (x.toUInt32 % 65536).toInt32) = .int (x.toUInt32 % 65536).toInt32 := by
  rw [pk_char]
  exact (pk_charN (Nat.mod_lt _ (by decide))).1
theorem pk_fc (x : Int32) : fits .char (.int (x.toUInt32 % 65536).toInt32) = true := by
  rw [pk_char]
  exact (pk_charN (Nat.mod_lt _ (by decide))).2
theorem pk_vb (z : Int32) : vp_nar .byte z.toInt8.toInt32 = z.toInt8.toInt32 := by rw [vp_nar_byte]; simp
theorem pk_vs (z : Int32) : vp_nar .short z.toInt16.toInt32 = z.toInt16.toInt32 := by rw [vp_nar_short]; simp
theorem pk_vc (z : Int32) : vp_nar .char (z.toUInt32 % 65536).toInt32 = (z.toUInt32 % 65536).toInt32 := Value.int.inj (pk_nc z)
theorem pk_lT {n : Nat} (h : n < 2 ^ 63) : (lN n).toInt = (n : Int) := lg_ofNat_toInt h
theorem pk_lLT {a b : Nat} (ha : a < 2 ^ 63) (hb : b < 2 ^ 63) : lN a < lN b ↔ a < b := by
  rw [Int64.lt_iff_toInt_lt, pk_lT ha, pk_lT hb]; omega
theorem pk_lLE {a b : Nat} (ha : a < 2 ^ 63) (hb : b < 2 ^ 63) : lN a ≤ lN b ↔ a ≤ b := by
  rw [Int64.le_iff_toInt_le, pk_lT ha, pk_lT hb]; omega
theorem pk_lEQ {a b : Nat} (ha : a < 2 ^ 63) (hb : b < 2 ^ 63) : lN a = lN b ↔ a = b := by
  rw [← Int64.toInt_inj, pk_lT ha, pk_lT hb]; omega
theorem pk_lOf {x : Int64} (h : ¬ x < 0) : ∃ k : Nat, k < 2 ^ 63 ∧ x = lN k := by
  rw [Int64.lt_iff_toInt_lt] at h
  have h0 : (0 : Int64).toInt = 0 := by decide
  have hx := Int64.toInt_lt x
  refine ⟨x.toInt.toNat, by omega, Int64.toInt_inj.mp ?_⟩
  rw [pk_lT (by omega)]
  omega
theorem pk_lDiv {a b : Nat} (ha : a < 2 ^ 63) (h0 : 0 < b) (hb : b < 2 ^ 63) : lN a / lN b = lN (a / b) := by
  apply Int64.toInt_inj.mp
  rw [lg_ldiv_nonneg (by rw [pk_lT ha]; omega) (by rw [pk_lT hb]; omega), pk_lT ha, pk_lT hb, pk_lT (Nat.lt_of_le_of_lt (Nat.div_le_self a b) ha)]
  rfl
theorem pk_lRem {a b : Nat} (ha : a < 2 ^ 63) (h0 : 0 < b) (hb : b < 2 ^ 63) : lN a - lN a / lN b * lN b = lN (a % b) := by
  rw [pk_lDiv ha h0 hb, lN_mul, lN_sub (Nat.div_mul_le_self a b)]
  exact congrArg lN (by have := Nat.div_add_mod' a b; omega)
theorem pk_loop {σ : Type} (W : Nat → Nat → σ → Prop) (I : Nat → σ → Prop) (e i0 : Nat) (s : σ) (hi : i0 ≤ e) (h0 : I i0 s) (hx : ∀ n s, I e s → W (n + 1) e s)
    (hs : ∀ n i s, i < e → I i s → (∀ s', I (i + 1) s' → W n (i + 1) s') → W (n + 1) i s) : ∃ n, W n i0 s :=
  ⟨e + 1, loop_i W I e hx hs (e + 1) i0 s hi (by omega) h0⟩
theorem pk_loopD {σ : Type} (W : Nat → Nat → σ → Prop) (I : Nat → σ → Prop) (hx : ∀ n s, I 0 s → W (n + 1) 0 s)
    (hs : ∀ n i s, I (i + 1) s → (∀ s', I i s' → W n i s') → W (n + 1) (i + 1) s) : ∀ (e : Nat) (s : σ), I e s → W (e + 1) e s := by
  intro e
  induction e with
  | zero => exact fun s h => hx 0 s h
  | succ e ih => exact fun s h => hs (e + 1) e s h (fun s' h' => ih s' h')
/-! rows on bits, shifts and unsigned numbers, to paste: each family out of a closed proof of our own, whole with what it rests on; each by itself clean at Lean in its own claim (generation 39, form 5). Take a family whole -/
/-! ===== Int32 by its bits: bt x i ===== -/
def bt (x : Int32) (i : Nat) : Bool := x.toBitVec.getLsbD i
theorem b_ext {x y : Int32} (h : ∀ i, i < 32 → bt x i = bt y i) : x = y := Int32.toBitVec_inj.mp (BitVec.eq_of_getLsbD_eq (fun i hi => h i hi))
theorem b_or (x y : Int32) (i : Nat) : bt (x ||| y) i = (bt x i || bt y i) := by unfold bt; rw [Int32.toBitVec_or, BitVec.getLsbD_or]
theorem b_and (x y : Int32) (i : Nat) : bt (x &&& y) i = (bt x i && bt y i) := by unfold bt; rw [Int32.toBitVec_and, BitVec.getLsbD_and]
theorem b_xor (x y : Int32) (i : Nat) : bt (x ^^^ y) i = (bt x i ^^ bt y i) := by unfold bt; rw [Int32.toBitVec_xor, BitVec.getLsbD_xor]
theorem b_big {x : Int32} {i : Nat} (h : 32 ≤ i) : bt x i = false := BitVec.getLsbD_of_ge _ _ h
theorem b_255 (i : Nat) : bt 255 i = decide (i < 8) := by
  rcases Nat.lt_or_ge i 32 with h | h
  · exact (by decide +kernel : ∀ i, i < 32 → bt 255 i = decide (i < 8)) i h
  · rw [b_big h, decide_eq_false (by omega)]
theorem b_65535 (i : Nat) : bt 65535 i = decide (i < 16) := by
  rcases Nat.lt_or_ge i 32 with h | h
  · exact (by decide +kernel : ∀ i, i < 32 → bt 65535 i = decide (i < 16)) i h
  · rw [b_big h, decide_eq_false (by omega)]
theorem b_m1 : ∀ i, i < 32 → bt (-1) i = true := by decide +kernel
theorem b_0 (i : Nat) : bt 0 i = false := BitVec.getLsbD_zero
theorem s_l : ∀ n, n < 32 → ((nI n &&& 31).toBitVec.smod 32).toNat = n := by decide +kernel
theorem s_u : ∀ n, n < 32 → (((nI n).toUInt32 &&& Int32.toUInt32 31).toBitVec % 32).toNat = n := by decide +kernel
theorem b_shl (n : Nat) (hn : n < 32) (x : Int32) {i : Nat} (hi : i < 32) : bt (x <<< (nI n &&& 31)) i = (decide (n ≤ i) && bt x (i - n)) := by
  unfold bt
  rw [Int32.toBitVec_shiftLeft]
  show (x.toBitVec <<< ((nI n &&& 31).toBitVec.smod 32).toNat).getLsbD i = _
  rw [s_l n hn, BitVec.getLsbD_shiftLeft]
  rcases Nat.lt_or_ge i n with h | h
  · simp [h, Nat.not_le.mpr h]
  · simp [hi, h, Nat.not_lt.mpr h]
theorem b_ushr (n : Nat) (hn : n < 32) (x : Int32) (i : Nat) : bt ((x.toUInt32 >>> ((nI n).toUInt32 &&& Int32.toUInt32 31)).toInt32) i = bt x (n + i) := by
  show (x.toUInt32 >>> ((nI n).toUInt32 &&& Int32.toUInt32 31)).toBitVec.getLsbD i = x.toUInt32.toBitVec.getLsbD (n + i)
  rw [UInt32.toBitVec_shiftRight]
  show (x.toUInt32.toBitVec >>> (((nI n).toUInt32 &&& Int32.toUInt32 31).toBitVec % 32).toNat).getLsbD i = _
  rw [s_u n hn, BitVec.getLsbD_ushiftRight]
theorem b_sshr (n : Nat) (hn : n < 32) (x : Int32) {i : Nat} (hi : i < 32) : bt (x >>> (nI n &&& 31)) i = if n + i < 32 then bt x (n + i) else bt x 31 := by
  unfold bt
  rw [Int32.toBitVec_shiftRight]
  show (x.toBitVec.sshiftRight ((nI n &&& 31).toBitVec.smod 32).toNat).getLsbD i = _
  rw [s_l n hn, BitVec.getLsbD_sshiftRight, BitVec.msb_eq_getLsbD_last]
  simp [hi]
theorem b_shl8 (x : Int32) {i : Nat} (hi : i < 32) : bt (x <<< ((8 : Int32) &&& 31)) i = (decide (8 ≤ i) && bt x (i - 8)) := b_shl 8 (by omega) x hi
theorem b_shl16 (x : Int32) {i : Nat} (hi : i < 32) : bt (x <<< ((16 : Int32) &&& 31)) i = (decide (16 ≤ i) && bt x (i - 16)) := b_shl 16 (by omega) x hi
theorem b_shl24 (x : Int32) {i : Nat} (hi : i < 32) : bt (x <<< ((24 : Int32) &&& 31)) i = (decide (24 ≤ i) && bt x (i - 24)) := b_shl 24 (by omega) x hi
theorem b_sshr8 (x : Int32) {i : Nat} (hi : i < 32) : bt (x >>> ((8 : Int32) &&& 31)) i = if 8 + i < 32 then bt x (8 + i) else bt x 31 := b_sshr 8 (by omega) x hi
/-! ===== nI under and, xor, >>>, one bit, 65535 ===== -/
theorem nx_and (a b : Nat) : nI a &&& nI b = nI (a &&& b) := by
  apply Int32.toBitVec_inj.1
  show BitVec.ofNat 32 a &&& BitVec.ofNat 32 b = BitVec.ofNat 32 (a &&& b)
  apply BitVec.eq_of_getLsbD_eq
  intro i hi
  simp [hi]
theorem nx_xor (a b : Nat) : nI a ^^^ nI b = nI (a ^^^ b) := by
  apply Int32.toBitVec_inj.1
  show BitVec.ofNat 32 a ^^^ BitVec.ofNat 32 b = BitVec.ofNat 32 (a ^^^ b)
  apply BitVec.eq_of_getLsbD_eq
  intro i hi
  simp [hi]
theorem nx_cnt : ∀ j : Fin 32, (UInt32.ofNat j.val &&& Int32.toUInt32 31).toNat % 32 = j.val := by decide +kernel
theorem nx_ush {k j : Nat} (hk : k < 65536) (hj : j < 32) : ((nI k).toUInt32 >>> ((nI j).toUInt32 &&& Int32.toUInt32 31)).toInt32 = nI (k >>> j) := by
  have hs : k >>> j ≤ k := by
    rw [Nat.shiftRight_eq_div_pow]
    exact Nat.div_le_self _ _
  have e2 : UInt32.ofNat k >>> (UInt32.ofNat j &&& Int32.toUInt32 31) = UInt32.ofNat (k >>> j) := by
    apply UInt32.toNat_inj.1
    have h1 : (UInt32.ofNat k).toNat = k := Nat.mod_eq_of_lt (by omega)
    have h2 : (UInt32.ofNat (k >>> j)).toNat = k >>> j := Nat.mod_eq_of_lt (by omega)
    rw [UInt32.toNat_shiftRight, nx_cnt ⟨j, hj⟩, h1, h2]
  show (UInt32.ofNat k >>> (UInt32.ofNat j &&& Int32.toUInt32 31)).toInt32 = _
  rw [e2]
  rfl
theorem nx_bit {k j : Nat} (hk : k < 65536) (hj : j < 16) : (((nI k).toUInt32 >>> ((nI j).toUInt32 &&& Int32.toUInt32 31)).toInt32 &&& 1) = 0 ↔ k.testBit j = false := by
  rw [nx_ush hk (by omega)]
  show nI (k >>> j) &&& nI 1 = 0 ↔ _
  rw [nx_and, Nat.and_one_is_mod, ← nI_0, nI_eq (by omega) (by omega), Nat.testBit_eq_decide_div_mod_eq, Nat.shiftRight_eq_div_pow, decide_eq_false_iff_not]
  generalize k / 2 ^ j = z
  omega
theorem nx_mod (k : Nat) : nI k &&& 65535 = nI (k % 65536) := by
  show nI k &&& nI 65535 = _
  rw [nx_and, show (65535 : Nat) = 2 ^ 16 - 1 from rfl, Nat.and_two_pow_sub_one_eq_mod]
theorem nx_m16 {k : Nat} (h : k < 65536) : nI k &&& 65535 = nI k := by rw [nx_mod, Nat.mod_eq_of_lt h]
theorem nx_mask (x : Int32) : ∃ k, k < 65536 ∧ x &&& 65535 = nI k := by
  have e : x = nI x.toBitVec.toNat := by
    apply Int32.toBitVec_inj.1
    show x.toBitVec = BitVec.ofNat 32 x.toBitVec.toNat
    simp
  refine ⟨x.toBitVec.toNat % 65536, Nat.mod_lt _ (by omega), ?_⟩
  rw [← nx_mod, ← e]
/-! ===== Int32 as a set of bits: test, set ===== -/
def nf_M (m : Int32) : Nat := 4294967296 - m.toBitVec.toNat
theorem nf_sh : ∀ l, l < 32 → ((1 : Int32) <<< (nI l &&& 31)).toBitVec = BitVec.twoPow 32 l := by decide +kernel
theorem nf_sl : ∀ l, l < 32 → (((nI l).toUInt32 &&& Int32.toUInt32 31).toBitVec % 32).toNat = l := by decide +kernel
theorem nf_tp : ∀ l, l < 32 → BitVec.twoPow 32 l ≠ 0#32 := by decide +kernel
theorem nf_bit (m : Int32) (l : Nat) (hl : l < 32) : ((m.toUInt32 >>> ((nI l).toUInt32 &&& Int32.toUInt32 31)).toInt32 &&& 1) = 0 ↔ (m &&& ((1 : Int32) <<< (nI l &&& 31))) = 0 := by
  have e : ((m.toUInt32 >>> ((nI l).toUInt32 &&& Int32.toUInt32 31)).toInt32).toBitVec = m.toBitVec >>> l := by
    show m.toBitVec >>> (((nI l).toUInt32 &&& Int32.toUInt32 31).toBitVec % 32) = m.toBitVec >>> l
    rw [BitVec.ushiftRight_eq', nf_sl l hl]
  rw [← Int32.toBitVec_inj, ← Int32.toBitVec_inj, Int32.toBitVec_and, Int32.toBitVec_and, nf_sh l hl, e, BitVec.and_twoPow]
  show (m.toBitVec >>> l &&& 1#32) = 0#32 ↔ _ = 0#32
  rw [BitVec.and_one_eq_setWidth_ofBool_getLsbD, BitVec.getLsbD_ushiftRight, Nat.add_zero]
  cases hb : m.toBitVec.getLsbD l
  · exact ⟨fun _ => by simp, fun _ => by decide⟩
  · exact ⟨fun z => absurd z (by decide), fun z => absurd ((if_pos rfl).symm.trans z) (nf_tp l hl)⟩
theorem nf_gr (m k : Int32) (h : m &&& k = 0) (hk : k ≠ 0) : nf_M (m ||| k) < nf_M m := by
  have hm := m.toBitVec.isLt
  have hm' := (m ||| k).toBitVec.isLt
  have h1 : m.toBitVec.toNat ≤ (m ||| k).toBitVec.toNat := by
    rw [Int32.toBitVec_or, BitVec.toNat_or]
    exact Nat.left_le_or
  have h2 : m.toBitVec.toNat ≠ (m ||| k).toBitVec.toNat := by
    intro e
    have e2 : m = m ||| k := Int32.toBitVec_inj.mp (BitVec.eq_of_toNat_eq e)
    apply hk
    apply Int32.toBitVec_inj.mp
    show k.toBitVec = 0#32
    apply BitVec.eq_of_getLsbD_eq
    intro i hi
    have a : m.toBitVec.getLsbD i = (m.toBitVec.getLsbD i || k.toBitVec.getLsbD i) := by rw [← BitVec.getLsbD_or, ← Int32.toBitVec_or, ← e2]
    have b : (m.toBitVec.getLsbD i && k.toBitVec.getLsbD i) = false := by
      rw [← BitVec.getLsbD_and, ← Int32.toBitVec_and, h]
      exact BitVec.getLsbD_zero
    rw [BitVec.getLsbD_zero]
    revert a b
    cases m.toBitVec.getLsbD i <;> cases k.toBitVec.getLsbD i <;> simp
  unfold nf_M
  omega
/-! ===== a byte read unsigned ===== -/
theorem bp_b (x : Int32) : x.toInt8.toInt32 &&& 255 = x &&& 255 := by
  apply Int32.toBitVec_inj.mp
  rw [Int32.toBitVec_and, Int32.toBitVec_and, Int8.toBitVec_toInt32, Int32.toBitVec_toInt8]
  apply BitVec.eq_of_getLsbD_eq
  intro i hi
  rw [BitVec.getLsbD_and, BitVec.getLsbD_and]
  have hm : ∀ i < 32, 8 ≤ i → (255 : Int32).toBitVec.getLsbD i = false := by decide
  rcases Nat.lt_or_ge i 8 with z | z
  · rw [BitVec.getLsbD_signExtend, BitVec.getLsbD_signExtend, if_pos z, if_pos hi]
    simp only [z, hi, decide_true, Bool.true_and]
  · rw [hm i hi z]; simp
/-! ===== the char cast and 65535 ===== -/
theorem em_w (v : Int32) : ∃ w : Nat, w < 65536 ∧ (v.toUInt32 % 65536).toInt32 = nI w ∧ v &&& 65535 = nI w := by
  have hr := lw_u16_r v
  have h0 : (0 : Int32).toInt = 0 := by decide
  obtain ⟨w, h1, h2⟩ := nI_of (x := lw_u16 v) (by rw [Int32.lt_iff_toInt_lt]; omega)
  have h3 : (v.toUInt32 % 65536).toInt32 = nI w := h2
  rw [h2, nI_toInt h1] at hr
  exact ⟨w, by omega, h3, by rw [← lg_i2c_mask, ← lg_i2c_nf, h3]⟩
/-! ===== Int64 as a set of bits: test, set, clear ===== -/
theorem ts_nf {x : Bool} (h : ¬ x = false) : x = true := by cases x <;> first | rfl | exact absurd rfl h
theorem ts_nt {x : Bool} (h : ¬ x = true) : x = false := by cases x <;> first | rfl | exact absurd rfl h
theorem ts_bit {w : Int64} {s : UInt64} {j : Nat} (hj : j < 64) (hs : s.toNat = j) : ((w.toUInt64 >>> s).toInt64 &&& 1) = 0 ↔ w.toBitVec.getLsbD j = false := by
  have e : (w.toUInt64 >>> s).toInt64.toBitVec = w.toBitVec >>> j := by
    apply BitVec.eq_of_toNat_eq
    show (w.toUInt64 >>> s).toNat = _
    rw [UInt64.toNat_shiftRight, hs, Nat.mod_eq_of_lt hj, BitVec.toNat_ushiftRight]
    rfl
  rw [← Int64.toBitVec_inj, Int64.toBitVec_and, e]
  show w.toBitVec >>> j &&& 1#64 = 0#64 ↔ _
  constructor
  · intro h
    have t := congrArg (fun x => x.getLsbD 0) h
    simpa using t
  · intro h
    apply BitVec.eq_of_getLsbD_eq
    intro i hi
    cases i with
    | zero => simp [h]
    | succ i => simp
theorem ts_or {w m : Int64} {j : Nat} (hj : j < 64) (hm : m.toBitVec = BitVec.twoPow 64 j) : (w ||| m) = w ↔ w.toBitVec.getLsbD j = true := by
  rw [← Int64.toBitVec_inj, Int64.toBitVec_or, hm]
  constructor
  · intro h
    have t := congrArg (fun x => x.getLsbD j) h
    simp only [BitVec.getLsbD_or, BitVec.getLsbD_twoPow] at t
    simpa [hj] using t.symm
  · intro h
    apply BitVec.eq_of_getLsbD_eq
    intro i hi
    rw [BitVec.getLsbD_or, BitVec.getLsbD_twoPow]
    by_cases e : j = i
    · subst e; rw [h, Bool.true_or]
    · simp [e]
theorem ts_and {w m : Int64} {j : Nat} (hj : j < 64) (hm : m.toBitVec = BitVec.twoPow 64 j) : (w &&& (m ^^^ (-1))) = w ↔ w.toBitVec.getLsbD j = false := by
  have ha : (-1 : Int64).toBitVec = BitVec.allOnes 64 := by decide
  rw [← Int64.toBitVec_inj, Int64.toBitVec_and, Int64.toBitVec_xor, hm, ha]
  constructor
  · intro h
    have t := congrArg (fun x => x.getLsbD j) h
    simp only [BitVec.getLsbD_and, BitVec.getLsbD_xor, BitVec.getLsbD_twoPow, BitVec.getLsbD_allOnes] at t
    simpa [hj] using t.symm
  · intro h
    apply BitVec.eq_of_getLsbD_eq
    intro i hi
    rw [BitVec.getLsbD_and, BitVec.getLsbD_xor, BitVec.getLsbD_twoPow, BitVec.getLsbD_allOnes]
    by_cases e : j = i
    · subst e; rw [h, Bool.false_and]
    · simp [e, hi]
/-! ===== lN n to 2^64: shifts, and, or, masks, one bit ===== -/
theorem wb_tb (n : Nat) : (lN n).toBitVec = BitVec.ofNat 64 n := rfl
theorem wb_inj {a b : Int64} (h : a.toBitVec = b.toBitVec) : a = b := Int64.toBitVec_inj.mp h
theorem wb_tn {n : Nat} (h : n < 2 ^ 64) : (lN n).toBitVec.toNat = n := by rw [wb_tb, BitVec.toNat_ofNat, Nat.mod_eq_of_lt h]
theorem wb_of (x : Int64) : ∃ n, n < 2 ^ 64 ∧ x = lN n := ⟨x.toBitVec.toNat, x.toBitVec.isLt, wb_inj (by rw [wb_tb]; simp)⟩
theorem wb_of32 (x : Int32) : ∃ n, n < 2 ^ 32 ∧ x = nI n := ⟨x.toBitVec.toNat, x.toBitVec.isLt, Int32.toBitVec_inj.mp (by show _ = BitVec.ofNat 32 _; simp)⟩
theorem wb_c : ∀ k, k < 64 → ((nI k).toInt64 &&& 63) = lN k := by decide +kernel
theorem wb_cu : ∀ k, k < 64 → ((nI k).toInt64.toUInt64 &&& Int64.toUInt64 63) = UInt64.ofNat k := by decide +kernel
theorem wb_sm : ∀ k, k < 64 → (BitVec.ofNat 64 k).smod 64 = BitVec.ofNat 64 k := by decide +kernel
theorem wb_pw {a b : Nat} (h : a ≤ b) : 2 ^ b = 2 ^ a * 2 ^ (b - a) := by rw [← Nat.pow_add]; congr 1; omega
theorem wb_lt2 {a b : Nat} (h : a < b) : 2 ^ a < 2 ^ b := Nat.pow_lt_pow_right (by decide) h
theorem wb_mod (n : Nat) : lN n = lN (n % 2 ^ 64) := wb_inj (by rw [wb_tb, wb_tb]; apply BitVec.eq_of_toNat_eq; rw [BitVec.toNat_ofNat, BitVec.toNat_ofNat, Nat.mod_mod])
theorem wb_shr {n k : Nat} (hn : n < 2 ^ 64) (hk : k < 64) : ((lN n).toUInt64 >>> ((nI k).toInt64.toUInt64 &&& Int64.toUInt64 63)).toInt64 = lN (n / 2 ^ k) := by
  rw [wb_cu k hk]
  apply wb_inj
  apply BitVec.eq_of_toNat_eq
  show ((lN n).toUInt64 >>> UInt64.ofNat k).toNat = (BitVec.ofNat 64 _).toNat
  have h1 : (UInt64.ofNat k).toNat = k := by
    show (BitVec.ofNat 64 k).toNat = k
    rw [BitVec.toNat_ofNat, Nat.mod_eq_of_lt (by omega)]
  have h2 : (lN n).toUInt64.toNat = n := wb_tn hn
  rw [UInt64.toNat_shiftRight, h1, h2, Nat.mod_eq_of_lt hk, Nat.shiftRight_eq_div_pow, BitVec.toNat_ofNat, Nat.mod_eq_of_lt (Nat.lt_of_le_of_lt (Nat.div_le_self _ _) hn)]
theorem wb_shl (n : Nat) {k : Nat} (hk : k < 64) : lN n <<< ((nI k).toInt64 &&& 63) = lN (n * 2 ^ k) := by
  rw [wb_c k hk]
  apply wb_inj
  rw [Int64.toBitVec_shiftLeft, wb_tb, wb_tb, wb_tb, wb_sm k hk]
  apply BitVec.eq_of_toNat_eq
  rw [BitVec.shiftLeft_eq', BitVec.toNat_shiftLeft, BitVec.toNat_ofNat, BitVec.toNat_ofNat, BitVec.toNat_ofNat, Nat.mod_eq_of_lt (show k < 2 ^ 64 by omega), Nat.shiftLeft_eq, Nat.mul_mod, Nat.mod_mod, ← Nat.mul_mod]
theorem wb_and {a b : Nat} (ha : a < 2 ^ 64) (hb : b < 2 ^ 64) : lN a &&& lN b = lN (a &&& b) := by
  apply wb_inj
  rw [Int64.toBitVec_and, wb_tb, wb_tb, wb_tb]
  apply BitVec.eq_of_toNat_eq
  rw [BitVec.toNat_and, BitVec.toNat_ofNat, BitVec.toNat_ofNat, BitVec.toNat_ofNat, Nat.mod_eq_of_lt ha, Nat.mod_eq_of_lt hb, Nat.mod_eq_of_lt (Nat.and_lt_two_pow _ hb)]
theorem wb_or {a b : Nat} (ha : a < 2 ^ 64) (hb : b < 2 ^ 64) : lN a ||| lN b = lN (a ||| b) := by
  apply wb_inj
  rw [Int64.toBitVec_or, wb_tb, wb_tb, wb_tb]
  apply BitVec.eq_of_toNat_eq
  rw [BitVec.toNat_or, BitVec.toNat_ofNat, BitVec.toNat_ofNat, BitVec.toNat_ofNat, Nat.mod_eq_of_lt ha, Nat.mod_eq_of_lt hb, Nat.mod_eq_of_lt (Nat.or_lt_two_pow ha hb)]
theorem wb_mask {n k : Nat} (hn : n < 2 ^ 64) (hk : k < 64) : lN n &&& lN (2 ^ k - 1) = lN (n % 2 ^ k) := by
  rw [wb_and hn (by have := wb_lt2 hk; omega), Nat.and_two_pow_sub_one_eq_mod]
theorem wb_a1 {n : Nat} (hn : n < 2 ^ 64) : lN n &&& 1 = lN (n % 2) := wb_mask (k := 1) hn (by decide)
theorem wb_bit {n k : Nat} (hn : n < 2 ^ 64) (hk : k < 64) : ((lN n).toUInt64 >>> ((nI k).toInt64.toUInt64 &&& Int64.toUInt64 63)).toInt64 &&& 1 = lN (n / 2 ^ k % 2) := by
  rw [wb_shr hn hk, wb_a1 (Nat.lt_of_le_of_lt (Nat.div_le_self _ _) hn)]
theorem wb_xor {q k : Nat} (hk : k < 63) (h : 2 ^ k ≤ q) (h2 : q < 2 ^ (k + 1)) : lN q ^^^ lN (2 ^ k) = lN (q - 2 ^ k) := by
  obtain ⟨r, rfl⟩ : ∃ r, q = 2 ^ k + r := ⟨q - 2 ^ k, by omega⟩
  have hr : r < 2 ^ k := by rw [Nat.pow_succ] at h2; omega
  have hx : (2 ^ k + r) ^^^ 2 ^ k = r := by
    apply Nat.eq_of_testBit_eq
    intro i
    rw [Nat.testBit_xor, Nat.testBit_two_pow]
    rcases Nat.lt_trichotomy i k with h | h | h
    · rw [Nat.testBit_two_pow_add_gt h]
      simp [show ¬ k = i by omega]
    · subst h
      rw [Nat.testBit_two_pow_add_eq]
      simp
    · have a1 : 2 ^ (k + 1) ≤ 2 ^ i := Nat.pow_le_pow_right (by decide) h
      rw [Nat.testBit_lt_two_pow (show 2 ^ k + r < 2 ^ i by omega), Nat.testBit_lt_two_pow (show r < 2 ^ i by omega)]
      simp [show ¬ k = i by omega]
  have b1 := wb_lt2 (show k + 1 < 64 by omega)
  have b2 := wb_lt2 (show k < 64 by omega)
  apply wb_inj
  rw [Int64.toBitVec_xor, wb_tb, wb_tb, wb_tb]
  apply BitVec.eq_of_toNat_eq
  rw [BitVec.toNat_xor, BitVec.toNat_ofNat, BitVec.toNat_ofNat, BitVec.toNat_ofNat, Nat.mod_eq_of_lt (by omega : 2 ^ k + r < 2 ^ 64), Nat.mod_eq_of_lt b2, hx, Nat.add_sub_cancel_left, Nat.mod_eq_of_lt (by omega)]
/-! ===== lN: masks, 'or' of parts that don't overlap is a sum ===== -/
theorem u_tn {n : Nat} (h : n < 2 ^ 64) : (UInt64.ofNat n).toNat = n := Nat.mod_eq_of_lt h
theorem g_and {a b c : Nat} (ha : a < 2 ^ 64) (hb : b < 2 ^ 64) (hc : a &&& b = c) : lN a &&& lN b = lN c := by
  subst hc
  have h : UInt64.ofNat a &&& UInt64.ofNat b = UInt64.ofNat (a &&& b) := UInt64.toNat_inj.mp (by rw [UInt64.toNat_and, u_tn ha, u_tn hb, u_tn (Nat.and_lt_two_pow a hb)])
  have h2 := congrArg UInt64.toInt64 h
  exact h2
theorem g_and1 {a : Nat} (ha : a < 2 ^ 64) : lN a &&& 1 = lN (a % 2) := g_and (b := 1) ha (by decide) (Nat.and_two_pow_sub_one_eq_mod a 1)
theorem g_mask {a s p : Nat} (hp : 2 ^ s = p) (hs : s < 64) (ha : a < 2 ^ 64) : lN a &&& lN (p - 1) = lN (a % p) := by
  subst hp
  have := Nat.pow_lt_pow_right (show 1 < 2 by decide) hs
  exact g_and ha (by omega) (Nat.and_two_pow_sub_one_eq_mod a s)
theorem g_or {k p a b : Nat} (hp : 2 ^ k = p) (ha : a < p) (h : b * p + a < 2 ^ 64) : lN (b * p) ||| lN a = lN (b * p + a) := by
  subst hp
  have h1 : b * 2 ^ k ||| a = b * 2 ^ k + a := by rw [← Nat.shiftLeft_eq, Nat.shiftLeft_add_eq_or_of_lt ha]
  have h3 : UInt64.ofNat (b * 2 ^ k) ||| UInt64.ofNat a = UInt64.ofNat (b * 2 ^ k + a) := UInt64.toNat_inj.mp (by rw [UInt64.toNat_or, u_tn (by omega), u_tn (by omega), u_tn h, h1])
  have h2 := congrArg UInt64.toInt64 h3
  exact h2
theorem g_or' {k p a b : Nat} (hp : 2 ^ k = p) (ha : a < p) (h : a + b * p < 2 ^ 64) : lN a ||| lN (b * p) = lN (a + b * p) := by
  rw [Int64.or_comm, g_or hp ha (by omega), Nat.add_comm]
theorem g_ushr {a k p : Nat} {y : UInt64} (hy : y = UInt64.ofNat k) (hk : k < 64) (hp : 2 ^ k = p) (ha : a < 2 ^ 64) : ((lN a).toUInt64 >>> y).toInt64 = lN (a / p) := by
  subst hy hp
  have h : UInt64.ofNat a >>> UInt64.ofNat k = UInt64.ofNat (a / 2 ^ k) := UInt64.toNat_inj.mp (by rw [UInt64.toNat_shiftRight, u_tn ha, u_tn (by omega), u_tn (Nat.lt_of_le_of_lt (Nat.div_le_self _ _) ha), Nat.mod_eq_of_lt hk, Nat.shiftRight_eq_div_pow])
  have h2 := congrArg UInt64.toInt64 h
  exact h2
theorem g_shl {a k p : Nat} {y : Int64} (hy : y.toBitVec.smod 64 = BitVec.ofNat 64 k) (hk : k < 64) (hp : 2 ^ k = p) (ha : a < 2 ^ 64) : lN a <<< y = lN (a * p) := by
  subst hp
  apply Int64.toBitVec_inj.mp
  rw [Int64.toBitVec_shiftLeft, hy]
  apply BitVec.eq_of_toNat_eq
  have hb : (lN a).toBitVec.toNat = a := Nat.mod_eq_of_lt ha
  have hk' : (BitVec.ofNat 64 k).toNat = k := Nat.mod_eq_of_lt (by omega)
  have h : ((lN a).toBitVec <<< BitVec.ofNat 64 k).toNat = (a * 2 ^ k) % 2 ^ 64 := by simp only [BitVec.shiftLeft_eq', BitVec.toNat_shiftLeft, hb, hk', Nat.shiftLeft_eq]
  exact h
/-! ===== lN to 2^62 under >> and >>> ===== -/
theorem pf_lI {a : Nat} (h : a < 2 ^ 63) : (lN a).toInt = (a : Int) := lg_ofNat_toInt h
theorem pf_shr {a d : Nat} {D : Int64} (hD : (D.toBitVec.smod 64).toNat = d) (h : a < 2 ^ 62) : lN a >>> D = lN (a / 2 ^ d) := by
  have hd : a / 2 ^ d ≤ a := Nat.div_le_self _ _
  apply Int64.toInt_inj.mp
  have e : (lN a >>> D).toInt = (lN a).toInt >>> d := by
    rw [← hD]
    exact BitVec.toInt_sshiftRight ..
  rw [e, Int.shiftRight_eq_div_pow, pf_lI (by omega), pf_lI (by omega)]
  rfl
theorem pf_ushr {a d : Nat} {D : UInt64} (hD : D.toNat % 64 = d) (h : a < 2 ^ 62) : ((lN a).toUInt64 >>> D).toInt64 = lN (a / 2 ^ d) := by
  have hd : a / 2 ^ d ≤ a := Nat.div_le_self _ _
  have e : (lN a).toUInt64 >>> D = UInt64.ofNat (a / 2 ^ d) := UInt64.toNat_inj.mp (by
    rw [UInt64.toNat_shiftRight, hD, Nat.shiftRight_eq_div_pow, UInt64.toNat_ofNat']
    show (UInt64.ofNat a).toNat / 2 ^ d = _
    rw [UInt64.toNat_ofNat', Nat.mod_eq_of_lt (by omega), Nat.mod_eq_of_lt (by omega)])
  rw [e]
  rfl
theorem pf_andw (x : Int64) : ∃ m, m < 2 ^ 32 ∧ x &&& 4294967295 = lN m := ⟨x.toBitVec.toNat % 2 ^ 32, Nat.mod_lt _ (by decide), Int64.toBitVec_inj.mp (BitVec.eq_of_toNat_eq (by
  show (x.toBitVec &&& 4294967295#64).toNat = (BitVec.ofNat 64 (x.toBitVec.toNat % 2 ^ 32)).toNat
  rw [BitVec.toNat_and, show (4294967295#64).toNat = 2 ^ 32 - 1 from by decide, Nat.and_two_pow_sub_one_eq_mod, BitVec.toNat_ofNat]
  omega))⟩
/-! ===== Int64 as an unsigned number: uN x ===== -/
def uN (x : Int64) : Nat := x.toUInt64.toNat
theorem uN_lt (x : Int64) : uN x < 18446744073709551616 := x.toUInt64.toNat_lt
theorem uN_inj {x y : Int64} (h : uN x = uN y) : x = y := congrArg UInt64.toInt64 (UInt64.toNat_inj.mp h)
theorem uN_add (x y : Int64) : uN (x + y) = (uN x + uN y) % 18446744073709551616 := by
  show (x.toUInt64 + y.toUInt64).toNat = _
  exact UInt64.toNat_add _ _
theorem uN_mul (x y : Int64) : uN (x * y) = (uN x * uN y) % 18446744073709551616 := by
  show (x.toUInt64 * y.toUInt64).toNat = _
  exact UInt64.toNat_mul _ _
theorem uN_shl (x : Int64) : uN (x <<< ((1 : Int32).toInt64 &&& 63)) = (2 * uN x) % 18446744073709551616 := by
  have h : (((1 : Int32).toInt64 &&& 63).toBitVec.smod 64).toNat = 1 := by decide
  show (x.toBitVec <<< (((1 : Int32).toInt64 &&& 63).toBitVec.smod 64).toNat).toNat = _
  rw [h, BitVec.toNat_shiftLeft, Nat.shiftLeft_eq, Nat.mul_comm]
  rfl
theorem uN_shr (x : Int64) (s : UInt64) : uN (x.toUInt64 >>> s).toInt64 = uN x / 2 ^ (s.toNat % 64) := by
  show (x.toUInt64 >>> s).toNat = _
  rw [UInt64.toNat_shiftRight, Nat.shiftRight_eq_div_pow]
  rfl
theorem uN_s32 (x : Int64) : uN (x.toUInt64 >>> ((32 : Int32).toInt64.toUInt64 &&& Int64.toUInt64 63)).toInt64 = uN x / 4294967296 := by
  have h : ((32 : Int32).toInt64.toUInt64 &&& Int64.toUInt64 63).toNat % 64 = 32 := by decide
  rw [uN_shr, h]
theorem uN_s63 (x : Int64) : uN (x.toUInt64 >>> ((63 : Int32).toInt64.toUInt64 &&& Int64.toUInt64 63)).toInt64 = uN x / 9223372036854775808 := by
  have h : ((63 : Int32).toInt64.toUInt64 &&& Int64.toUInt64 63).toNat % 64 = 63 := by decide
  rw [uN_shr, h]
theorem uN_lo (x : Int64) : uN (x &&& 4294967295) = uN x % 4294967296 := by
  show (x.toUInt64 &&& Int64.toUInt64 4294967295).toNat = _
  rw [UInt64.toNat_and]
  exact Nat.and_two_pow_sub_one_eq_mod _ 32
theorem uN_bit (x : Int64) : (x &&& 1) = 0 ↔ uN x % 2 = 0 := by
  have h : uN (x &&& 1) = uN x % 2 := by
    show (x.toUInt64 &&& Int64.toUInt64 1).toNat = _
    rw [UInt64.toNat_and]
    exact Nat.and_two_pow_sub_one_eq_mod _ 1
  rw [← h]
  exact ⟨fun z => by rw [z]; rfl, fun z => uN_inj (z.trans rfl)⟩
theorem uN_or {x y : Int64} (hy : uN y < 2) : uN ((x <<< ((1 : Int32).toInt64 &&& 63)) ||| y) = (2 * uN x) % 18446744073709551616 + uN y := by
  have h1 : uN ((x <<< ((1 : Int32).toInt64 &&& 63)) ||| y) = uN (x <<< ((1 : Int32).toInt64 &&& 63)) ||| uN y := UInt64.toNat_or _ _
  have h2 : (2 * uN x) % 18446744073709551616 = 2 ^ 1 * (uN x % 9223372036854775808) := by omega
  rw [h1, uN_shl, h2]
  exact (Nat.two_pow_add_eq_or_of_lt (i := 1) hy _).symm
theorem nat_xor {a : Nat} (h : a < 18446744073709551616) : a ^^^ 2 ^ 63 = (a + 9223372036854775808) % 18446744073709551616 := by
  have h1 : (a ^^^ 2 ^ 63) % 2 ^ 63 = a % 2 ^ 63 := by rw [Nat.xor_mod_two_pow, Nat.mod_self, Nat.xor_zero]
  have h2 : (a ^^^ 2 ^ 63) / 2 ^ 63 = (a / 2 ^ 63) ^^^ 1 := by rw [Nat.xor_div_two_pow, Nat.div_self (Nat.two_pow_pos 63)]
  have h3 : a / 2 ^ 63 = 0 ∨ a / 2 ^ 63 = 1 := by omega
  generalize a ^^^ 2 ^ 63 = t at h1 h2
  rcases h3 with h3 | h3
  · rw [h3] at h2
    have h2 : t / 2 ^ 63 = 1 := h2
    omega
  · rw [h3] at h2
    have h2 : t / 2 ^ 63 = 0 := h2
    omega
theorem uN_xor (x : Int64) : uN (x ^^^ (-9223372036854775808)) = (uN x + 9223372036854775808) % 18446744073709551616 := by
  rw [← nat_xor (uN_lt x)]
  exact UInt64.toNat_xor _ _
theorem uN_int (x : Int64) : x.toInt = if 2 * uN x < 18446744073709551616 then (uN x : Int) else (uN x : Int) - 18446744073709551616 := BitVec.toInt_eq_toNat_cond _
theorem uN_le (x y : Int64) : (x ^^^ (-9223372036854775808)) ≤ (y ^^^ (-9223372036854775808)) ↔ uN x ≤ uN y := by
  have hx := uN_lt x
  have hy := uN_lt y
  rw [Int64.le_iff_toInt_le, uN_int, uN_int, uN_xor, uN_xor]
  omega
theorem uN_sk (x : Int64) {k : Nat} (hk : k < 64) : uN (x.toUInt64 >>> ((nI k).toInt64.toUInt64 &&& Int64.toUInt64 63)).toInt64 = uN x / 2 ^ k := by
  have h : ((nI k).toInt64.toUInt64 &&& Int64.toUInt64 63).toNat % 64 = k := by
    rw [nI_l (by omega), UInt64.toNat_and]
    have e : (lN k).toUInt64.toNat = k % 2 ^ 64 := rfl
    have e2 : (Int64.toUInt64 63).toNat = 2 ^ 6 - 1 := by decide
    rw [e, e2, Nat.and_two_pow_sub_one_eq_mod]
    omega
  rw [uN_shr, h]
/-! ===== unsigned comparison by xor with the least ===== -/
theorem lN_bv (n : Nat) : (lN n).toBitVec = BitVec.ofNat 64 n := rfl
theorem lN_nat {n : Nat} (h : n < 2 ^ 64) : (lN n).toBitVec.toNat = n := by rw [lN_bv, BitVec.toNat_ofNat]; exact Nat.mod_eq_of_lt h
theorem lN_xor (a b : Nat) : lN a ^^^ lN b = lN (a ^^^ b) := by
  apply Int64.toBitVec_inj.mp; rw [Int64.toBitVec_xor, lN_bv, lN_bv, lN_bv]; apply BitVec.eq_of_getLsbD_eq; intro i hi; simp [BitVec.getLsbD_ofNat, Nat.testBit_xor, hi]
theorem lN_ti {m : Nat} (h : m < 2 ^ 64) : (lN m).toInt = if m < 2 ^ 63 then (m : Int) else (m : Int) - 2 ^ 64 := by
  have c := BitVec.toInt_eq_toNat_cond (lN m).toBitVec
  rw [lN_nat h] at c
  show (lN m).toBitVec.toInt = _
  rw [c]
  split <;> split <;> omega
theorem xor63 {x : Nat} (h : x < 2 ^ 63) : x ^^^ 2 ^ 63 = 2 ^ 63 + x := by
  apply Nat.eq_of_testBit_eq
  intro i
  rw [Nat.testBit_xor, Nat.testBit_two_pow]
  rcases Nat.lt_trichotomy i 63 with z | z | z
  · rw [Nat.testBit_two_pow_add_gt z, decide_eq_false (by omega)]; simp
  · subst z; rw [Nat.testBit_two_pow_add_eq]; simp
  · have hp : 2 ^ 64 ≤ 2 ^ i := Nat.pow_le_pow_right (by decide) z
    rw [Nat.testBit_lt_two_pow (show x < 2 ^ i by omega), Nat.testBit_lt_two_pow (show 2 ^ 63 + x < 2 ^ i by omega), decide_eq_false (by omega)]; rfl
theorem xorS {a : Nat} (h : a < 2 ^ 64) : (lN a ^^^ (-9223372036854775808)).toInt = (a : Int) - 2 ^ 63 := by
  rw [show (-9223372036854775808 : Int64) = lN (2 ^ 63) from by decide +kernel, lN_xor]
  rcases Nat.lt_or_ge a (2 ^ 63) with z | z
  · rw [xor63 z, lN_ti (by omega), if_neg (by omega)]; omega
  · obtain ⟨x, rfl⟩ : ∃ x, a = 2 ^ 63 + x := ⟨a - 2 ^ 63, by omega⟩
    rw [← xor63 (by omega), Nat.xor_assoc, Nat.xor_self, Nat.xor_zero, lN_ti (by omega), if_pos (by omega), xor63 (by omega)]; omega
theorem ultL {a b : Nat} (ha : a < 2 ^ 64) (hb : b < 2 ^ 64) : ((lN b ^^^ (-9223372036854775808)) ≤ (lN a ^^^ (-9223372036854775808))) ↔ b ≤ a := by
  rw [Int64.le_iff_toInt_le, xorS ha, xorS hb]; omega
/-! ===== Int64 masks of n low bits ===== -/
theorem cr_bits (W U M : BitVec 64) : ((W &&& U) &&& (U &&& (M ^^^ BitVec.allOnes 64))) = 0#64 ↔ (W &&& U) &&& M = W &&& U := by
  constructor
  · intro h
    apply BitVec.eq_of_getLsbD_eq
    intro i hi
    have e := congrArg (fun x => BitVec.getLsbD x i) h
    simp only [BitVec.getLsbD_and, BitVec.getLsbD_xor, BitVec.getLsbD_allOnes, BitVec.getLsbD_zero, hi, decide_true] at e ⊢
    revert e
    cases W.getLsbD i <;> cases U.getLsbD i <;> cases M.getLsbD i <;> decide
  · intro h
    apply BitVec.eq_of_getLsbD_eq
    intro i hi
    have e := congrArg (fun x => BitVec.getLsbD x i) h
    simp only [BitVec.getLsbD_and, BitVec.getLsbD_xor, BitVec.getLsbD_allOnes, BitVec.getLsbD_zero, hi, decide_true] at e ⊢
    revert e
    cases W.getLsbD i <;> cases U.getLsbD i <;> cases M.getLsbD i <;> decide
theorem cr_mask (w U m : Int64) (n : Nat) (hm : m.toBitVec.toNat = 2 ^ n - 1) : ((w &&& U) &&& (U &&& (m ^^^ (-1)))) = 0 ↔ (w &&& U).toBitVec.toNat < 2 ^ n := by
  have e0 : (-1 : Int64).toBitVec = BitVec.allOnes 64 := by decide
  have z0 : (0 : Int64).toBitVec = 0#64 := by decide
  rw [← Int64.toBitVec_inj, z0, Int64.toBitVec_and, Int64.toBitVec_and, Int64.toBitVec_and, Int64.toBitVec_xor, e0, cr_bits]
  generalize w.toBitVec &&& U.toBitVec = T
  rw [← BitVec.toNat_inj, BitVec.toNat_and, hm, Nat.and_two_pow_sub_one_eq_mod]
  constructor
  · intro h
    have t := Nat.mod_lt T.toNat (Nat.two_pow_pos n)
    rw [h] at t
    exact t
  · exact Nat.mod_eq_of_lt
theorem cr_shr (t : Int64) (x : UInt64) (n : Nat) (hx : x.toNat % 64 = n) : (t.toUInt64 >>> x).toInt64 = 0 ↔ t.toBitVec.toNat < 2 ^ n := by
  rw [← Int64.toBitVec_inj, ← BitVec.toNat_inj]
  show (t.toUInt64 >>> x).toNat = 0 ↔ t.toUInt64.toNat < 2 ^ n
  rw [UInt64.toNat_shiftRight, hx, Nat.shiftRight_eq_div_pow]
  constructor
  · intro h
    have d : t.toUInt64.toNat / 2 ^ n < 1 := by
      rw [h]
      decide
    have e := (Nat.div_lt_iff_lt_mul (Nat.two_pow_pos n)).mp d
    rw [Nat.one_mul] at e
    exact e
  · exact Nat.div_eq_of_lt
theorem cr_amt (s : Int64) : ∃ n, n < 64 ∧ s &&& 63 = lN n ∧ (s.toUInt64 &&& Int64.toUInt64 63).toNat % 64 = n := by
  have e : (s.toUInt64 &&& Int64.toUInt64 63).toNat = s.toUInt64.toNat % 2 ^ 6 := by
    rw [UInt64.toNat_and, show (Int64.toUInt64 63).toNat = 2 ^ 6 - 1 from by decide, Nat.and_two_pow_sub_one_eq_mod]
  refine ⟨s.toUInt64.toNat % 2 ^ 6, by omega, ?_, by omega⟩
  rw [← Int64.toBitVec_inj, ← BitVec.toNat_inj]
  show (s.toUInt64 &&& Int64.toUInt64 63).toNat = (BitVec.ofNat 64 (s.toUInt64.toNat % 2 ^ 6)).toNat
  rw [e, BitVec.toNat_ofNat]
  omega
end
section
/-! fields of a word -/
def kW (w : Int32) : Nat := w.toBitVec.toNat
def bf (w : Int32) (a k : Nat) : Nat := kW w / 2 ^ a % 2 ^ k
theorem kW_lt (w : Int32) : kW w < 4294967296 := w.toBitVec.isLt
theorem bf_lt (w : Int32) (a k : Nat) : bf w a k < 2 ^ k := Nat.mod_lt _ (Nat.two_pow_pos k)
theorem bt_kW (w : Int32) (i : Nat) : bt w i = (kW w).testBit i := (BitVec.testBit_toNat _).symm
theorem bt_nI (n i : Nat) : bt (nI n) i = (decide (i < 32) && n.testBit i) := BitVec.getLsbD_ofNat 32 n i
theorem bf_bit (w : Int32) (a k i : Nat) : (bf w a k).testBit i = (decide (i < k) && bt w (a + i)) := by
  unfold bf
  rw [Nat.testBit_mod_two_pow, Nat.testBit_div_two_pow, bt_kW]
  congr 2
  omega
theorem kh_nIW (w : Int32) : nI (kW w) = w := Int32.toBitVec_inj.mp (by show BitVec.ofNat 32 _ = _; unfold kW; simp)
theorem bt_mask {m : Int32} {k : Nat} (hm : m.toBitVec.toNat = 2 ^ k - 1) (i : Nat) : bt m i = decide (i < k) := by
  rw [bt_kW]; unfold kW; rw [hm, Nat.testBit_two_pow_sub_one]
/-- an arithmetic shift and a mask -/
theorem kx_fld (w : Int32) (a k : Nat) {m : Int32} (h : a + k ≤ 32) (ha : a < 32) (hm : m.toBitVec.toNat = 2 ^ k - 1) : (w >>> (nI a &&& 31)) &&& m = nI (bf w a k) := by
  apply b_ext
  intro i hi
  rw [b_and, b_sshr a ha w hi, bt_mask hm, bt_nI, bf_bit, decide_eq_true hi, Bool.true_and]
  by_cases z : i < k
  · rw [if_pos (by omega), decide_eq_true z, Bool.and_comm]
  · rw [decide_eq_false z, Bool.and_false, Bool.false_and]
theorem kx_ush (w : Int32) (a k : Nat) (h : a + k = 32) (ha : a < 32) : (w.toUInt32 >>> ((nI a).toUInt32 &&& Int32.toUInt32 31)).toInt32 = nI (bf w a k) := by
  apply b_ext
  intro i hi
  rw [b_ushr a ha w i, bt_nI, bf_bit, decide_eq_true hi, Bool.true_and]
  by_cases z : i < k
  · rw [decide_eq_true z, Bool.true_and]
  · rw [decide_eq_false z, Bool.false_and, b_big (by omega)]
theorem kx_and (w : Int32) (k : Nat) {m : Int32} (hm : m.toBitVec.toNat = 2 ^ k - 1) : w &&& m = nI (bf w 0 k) := by
  rw [pk_and w k hm]
  unfold bf kW
  rw [Nat.pow_zero, Nat.div_one]
/-! Y: bits -/
section
variable {pc nx md tm cp tr st en vc p0 sc ca va tb ih ic oc tn sl dO dD dA dB dI kn td tc tv ny wh : Int32} {me xr ai ao on pg oo od oa ob om bs bl bo hd ct un wt yo : Nat → Int32}
theorem yb_bit (w : Int32) (i : Nat) (hi : i < 32) : (((w.toUInt32 >>> ((nI i).toUInt32 &&& Int32.toUInt32 31)).toInt32) &&& 1) = nI (kW w / 2 ^ i % 2) := by
  apply b_ext
  intro j hj
  rw [b_and, b_ushr i hi, bt_nI, decide_eq_true hj, Bool.true_and, bt_mask (m := 1) (k := 1) (by decide), show (2 : Nat) = 2 ^ 1 from rfl, Nat.testBit_mod_two_pow, Nat.testBit_div_two_pow, ← bt_kW, Bool.and_comm, Nat.add_comm]
theorem yb_mod (W i e : Nat) : W / 2 ^ (i + 1) % 2 ^ e * 2 + W / 2 ^ i % 2 = W / 2 ^ i % 2 ^ (e + 1) := by
  rw [Nat.pow_succ, ← Nat.div_div_eq_div_mul, Nat.pow_succ, Nat.mul_comm (2 ^ e) 2, Nat.mod_mul]
  omega
theorem yb_loop {post : Int32 → Prop} (w : Int32) (a : Nat) : ∀ (d e : Nat), a + d ≤ 32 → post (nI (kW w / 2 ^ a % 2 ^ (e + d))) → wY_bits_6 post w (nI a) pc md st en vc sc p0 ca va tb tm cp ic oc td tc tv ny wh me xr wt yo (d + 1) (nI (kW w / 2 ^ (a + d) % 2 ^ e)) (nI (a + d) + (-1)) := by
  intro d
  induction d with
  | zero =>
    intro e h hp
    have hl : nI (a + 0) + (-1) < nI a := by
      have h1 : (-1 : Int32).toInt = -1 := by decide
      rw [Nat.add_zero, Int32.lt_iff_toInt_lt, Int32.toInt_add, nI_toInt (by omega), h1, Int.bmod_eq_of_le (by omega) (by omega)]
      omega
    exact br_t hl hp
  | succ d ih =>
    intro e h hp
    have e1 : nI (a + (d + 1)) + (-1) = nI (a + d) := pk_m1 (a + d)
    rw [e1]
    refine br_f (nI_nlt (by omega) (by omega)) (nm_r (e' := nI (kW w / 2 ^ (a + d) % 2 ^ (e + 1))) ?_ (nm_e ?_))
    · rw [yb_bit w _ (by omega), ← yb_mod, ← nI_add, ← pk_mul]
      rfl
    · refine ih (e + 1) (by omega) ?_
      rw [Nat.add_assoc, Nat.add_comm 1 d]
      exact hp
theorem y_bits {post : Int32 → Prop} {v : SY} (w : Int32) (a b : Nat) (h : a ≤ b) (hb : b < 32) (hp : post (nI (bf w a (b + 1 - a)))) : wpY_bits post v w (nI a) (nI b) := by
  obtain ⟨pc, md, st, en, vc, sc, p0, ca, va, tb, tm, cp, ic, oc, td, tc, tv, ny, wh, me, xr, wt, yo⟩ := v
  obtain ⟨d, rfl⟩ : ∃ d, b = a + d := ⟨b - a, by omega⟩
  have e1 : nI (a + d) = nI (a + (d + 1)) + (-1) := (pk_m1 (a + d)).symm
  have e2 : (0 : Int32) = nI (kW w / 2 ^ (a + (d + 1)) % 2 ^ 0) := by rw [Nat.pow_zero, Nat.mod_one]; exact nI_0.symm
  refine ⟨d + 1 + 1, ?_⟩
  rw [e1, e2]
  refine yb_loop w a (d + 1) 0 (by omega) ?_
  have e3 : 0 + (d + 1) = a + d + 1 - a := by omega
  rw [e3]
  exact hp
theorem y_signed {post : Int32 → Prop} {v : SY} {x k : Int32} (hp : post ((x <<< ((32 - k) &&& 31)) >>> ((32 - k) &&& 31))) : wpY_signed post v x k := by
  obtain ⟨pc, md, st, en, vc, sc, p0, ca, va, tb, tm, cp, ic, oc, td, tc, tv, ny, wh, me, xr, wt, yo⟩ := v
  exact hp
end
/-! immediates -/
theorem b_lt {x : Int32} {i : Nat} (h : bt x i = true) : i < 32 := by
  rcases Nat.lt_or_ge i 32 with z | z
  · exact z
  · rw [b_big z] at h; cases h
/-- sign extension of the k low bits of a natural -/
theorem b_sx (n k : Nat) (hk : k < 32) (h0 : 0 < k) {i : Nat} (hi : i < 32) : bt ((nI n <<< (nI (32 - k) &&& 31)) >>> (nI (32 - k) &&& 31)) i = if i < k then n.testBit i else n.testBit (k - 1) := by
  rw [b_sshr (32 - k) (by omega) _ hi]
  by_cases z : i < k
  · rw [if_pos (by omega), if_pos z, b_shl (32 - k) (by omega) _ (by omega), decide_eq_true (by omega), Bool.true_and, bt_nI, decide_eq_true (by omega), Bool.true_and]
    congr 1; omega
  · rw [if_neg (by omega), if_neg z, b_shl (32 - k) (by omega) _ (by omega), decide_eq_true (by omega), Bool.true_and, bt_nI, decide_eq_true (by omega), Bool.true_and]
    congr 1; omega
theorem im_I (w : Int32) : (nI (bf w 20 12) <<< (nI 20 &&& 31)) >>> (nI 20 &&& 31) = w >>> (nI 20 &&& 31) := by
  apply b_ext
  intro i hi
  rw [b_sx (bf w 20 12) 12 (by omega) (by omega) hi, b_sshr 20 (by omega) w hi, bf_bit, bf_bit]
  by_cases z : i < 12
  · rw [if_pos z, if_pos (by omega), decide_eq_true z, Bool.true_and]
  · rw [if_neg z, if_neg (by omega)]; rfl
theorem im_S (w : Int32) : (nI (bf w 25 7 * 32 + bf w 7 5) <<< (nI 20 &&& 31)) >>> (nI 20 &&& 31) = ((w >>> (nI 25 &&& 31)) <<< (nI 5 &&& 31)) ||| nI (bf w 7 5) := by
  apply b_ext
  intro i hi
  have h5 := bf_lt w 7 5
  have t : ∀ j, (bf w 25 7 * 32 + bf w 7 5).testBit j = if j < 5 then (bf w 7 5).testBit j else (bf w 25 7).testBit (j - 5) := by
    intro j
    rw [show bf w 25 7 * 32 + bf w 7 5 = 2 ^ 5 * bf w 25 7 + bf w 7 5 by omega]
    exact Nat.testBit_two_pow_mul_add _ h5 j
  rw [b_sx _ 12 (by omega) (by omega) hi, t, t, b_or, b_shl 5 (by omega) _ hi, bt_nI, decide_eq_true hi, Bool.true_and]
  by_cases z5 : i < 5
  · rw [if_pos (show i < 12 by omega), if_pos z5, decide_eq_false (by omega), Bool.false_and, Bool.false_or]
  · rw [b_sshr 25 (by omega) _ (show i - 5 < 32 by omega), bf_bit w 7 5, decide_eq_false z5, Bool.false_and, Bool.or_false, decide_eq_true (show 5 ≤ i by omega), Bool.true_and]
    by_cases z : i < 12
    · rw [if_pos z, if_neg z5, if_pos (by omega), bf_bit, decide_eq_true (by omega), Bool.true_and]
    · rw [if_neg z, if_neg (by omega), if_neg (by omega), bf_bit]; rfl
theorem im_B (w : Int32) : (nI (bf w 31 1 * 4096 + bf w 7 1 * 2048 + bf w 25 6 * 32 + bf w 8 4 * 2) <<< (nI 19 &&& 31)) >>> (nI 19 &&& 31)
    = ((((w >>> (nI 31 &&& 31)) <<< (nI 12 &&& 31)) ||| (((w >>> (nI 7 &&& 31)) &&& 1) <<< (nI 11 &&& 31))) ||| (((w >>> (nI 25 &&& 31)) &&& 63) <<< (nI 5 &&& 31))) ||| (((w >>> (nI 8 &&& 31)) &&& 15) <<< (nI 1 &&& 31)) := by
  rw [kx_fld w 7 1 (by omega) (by omega) (m := 1) (by decide), kx_fld w 25 6 (by omega) (by omega) (m := 63) (by decide), kx_fld w 8 4 (by omega) (by omega) (m := 15) (by decide)]
  apply b_ext
  intro i hi
  have h1 := bf_lt w 31 1
  have h2 := bf_lt w 7 1
  have h3 := bf_lt w 25 6
  have h4 := bf_lt w 8 4
  have t : ∀ j, (bf w 31 1 * 4096 + bf w 7 1 * 2048 + bf w 25 6 * 32 + bf w 8 4 * 2).testBit j = if j < 12 then (if j < 11 then (if j < 5 then (if j < 1 then (0 : Nat).testBit j else (bf w 8 4).testBit (j - 1)) else (bf w 25 6).testBit (j - 5)) else (bf w 7 1).testBit (j - 11)) else (bf w 31 1).testBit (j - 12) := by
    intro j
    rw [show bf w 31 1 * 4096 + bf w 7 1 * 2048 + bf w 25 6 * 32 + bf w 8 4 * 2 = 2 ^ 12 * bf w 31 1 + (2 ^ 11 * bf w 7 1 + (2 ^ 5 * bf w 25 6 + (2 ^ 1 * bf w 8 4 + 0))) by omega]
    rw [Nat.testBit_two_pow_mul_add _ (by omega), Nat.testBit_two_pow_mul_add _ (by omega), Nat.testBit_two_pow_mul_add _ (by omega), Nat.testBit_two_pow_mul_add _ (by omega)]
  rw [b_sx _ 13 (by omega) (by omega) hi, t, t, b_or, b_or, b_or, b_shl 12 (by omega) _ hi, b_shl 11 (by omega) _ hi, b_shl 5 (by omega) _ hi, b_shl 1 (by omega) _ hi, b_sshr 31 (by omega) _ (show i - 12 < 32 by omega), bt_nI, bt_nI, bt_nI, bf_bit, bf_bit, bf_bit, bf_bit, bf_bit, bf_bit, bf_bit, bf_bit]
  clear t h1 h2 h3 h4
  rcases (by omega : i = 0 ∨ (1 ≤ i ∧ i < 5) ∨ (5 ≤ i ∧ i < 11) ∨ i = 11 ∨ i = 12 ∨ (12 < i)) with z | z | z | z | z | z
  · subst z; simp
  · simp [show i < 13 by omega, show i < 12 by omega, show i < 11 by omega, show i < 5 by omega, show ¬ i < 1 by omega, show ¬ 12 ≤ i by omega, show ¬ 11 ≤ i by omega, show ¬ 5 ≤ i by omega, show 1 ≤ i by omega, show i - 1 < 4 by omega, show i - 1 < 32 by omega, show ¬ i = 0 by omega]
  · simp [show i < 13 by omega, show i < 12 by omega, show i < 11 by omega, show ¬ i < 5 by omega, show ¬ i < 1 by omega, show ¬ 12 ≤ i by omega, show ¬ 11 ≤ i by omega, show 5 ≤ i by omega, show 1 ≤ i by omega, show ¬ i - 1 < 4 by omega, show i - 5 < 32 by omega, show i - 5 < 6 by omega, show ¬ i = 0 by omega]
  · subst z; simp
  · subst z; simp
  · simp [show ¬ i < 13 by omega, show ¬ i < 12 by omega, show ¬ i < 11 by omega, show ¬ i < 5 by omega, show ¬ i < 1 by omega, show 12 ≤ i by omega, show 11 ≤ i by omega, show 5 ≤ i by omega, show 1 ≤ i by omega, show ¬ i - 1 < 4 by omega, show ¬ i - 5 < 6 by omega, show ¬ i - 11 < 1 by omega, show ¬ (31 + (i - 12) < 32) by omega, show ¬ i = 0 by omega]
theorem im_J (w : Int32) : (nI (bf w 31 1 * 1048576 + bf w 12 8 * 4096 + bf w 20 1 * 2048 + bf w 21 10 * 2) <<< (nI 11 &&& 31)) >>> (nI 11 &&& 31)
    = ((((w >>> (nI 31 &&& 31)) <<< (nI 20 &&& 31)) ||| (w &&& 1044480)) ||| (((w >>> (nI 20 &&& 31)) &&& 1) <<< (nI 11 &&& 31))) ||| (((w >>> (nI 21 &&& 31)) &&& 1023) <<< (nI 1 &&& 31)) := by
  rw [kx_fld w 20 1 (by omega) (by omega) (m := 1) (by decide), kx_fld w 21 10 (by omega) (by omega) (m := 1023) (by decide)]
  apply b_ext
  intro i hi
  have h1 := bf_lt w 31 1
  have h2 := bf_lt w 12 8
  have h3 := bf_lt w 20 1
  have h4 := bf_lt w 21 10
  have hm : ∀ i, i < 32 → bt 1044480 i = (decide (12 ≤ i) && decide (i < 20)) := by decide +kernel
  have t : ∀ j, (bf w 31 1 * 1048576 + bf w 12 8 * 4096 + bf w 20 1 * 2048 + bf w 21 10 * 2).testBit j = if j < 20 then (if j < 12 then (if j < 11 then (if j < 1 then (0 : Nat).testBit j else (bf w 21 10).testBit (j - 1)) else (bf w 20 1).testBit (j - 11)) else (bf w 12 8).testBit (j - 12)) else (bf w 31 1).testBit (j - 20) := by
    intro j
    rw [show bf w 31 1 * 1048576 + bf w 12 8 * 4096 + bf w 20 1 * 2048 + bf w 21 10 * 2 = 2 ^ 20 * bf w 31 1 + (2 ^ 12 * bf w 12 8 + (2 ^ 11 * bf w 20 1 + (2 ^ 1 * bf w 21 10 + 0))) by omega]
    rw [Nat.testBit_two_pow_mul_add _ (by omega), Nat.testBit_two_pow_mul_add _ (by omega), Nat.testBit_two_pow_mul_add _ (by omega), Nat.testBit_two_pow_mul_add _ (by omega)]
  rw [b_sx _ 21 (by omega) (by omega) hi, t, t, b_or, b_or, b_or, b_shl 20 (by omega) _ hi, b_shl 11 (by omega) _ hi, b_shl 1 (by omega) _ hi, b_sshr 31 (by omega) _ (show i - 20 < 32 by omega), b_and, hm i hi, bt_nI, bt_nI, bf_bit, bf_bit, bf_bit, bf_bit, bf_bit, bf_bit, bf_bit, bf_bit]
  clear t h1 h2 h3 h4 hm
  rcases (by omega : i = 0 ∨ (1 ≤ i ∧ i < 11) ∨ i = 11 ∨ (12 ≤ i ∧ i < 20) ∨ i = 20 ∨ (20 < i)) with z | z | z | z | z | z
  · subst z; simp
  · simp [show i < 21 by omega, show i < 20 by omega, show i < 12 by omega, show i < 11 by omega, show ¬ i < 1 by omega, show ¬ 20 ≤ i by omega, show ¬ 12 ≤ i by omega, show ¬ 11 ≤ i by omega, show 1 ≤ i by omega, show i - 1 < 10 by omega, show i - 1 < 32 by omega, show ¬ i = 0 by omega]
  · subst z; simp
  · simp [show i < 21 by omega, show i < 20 by omega, show ¬ i < 12 by omega, show ¬ i < 11 by omega, show ¬ i < 1 by omega, show ¬ 20 ≤ i by omega, show 12 ≤ i by omega, show 11 ≤ i by omega, show 1 ≤ i by omega, show ¬ i - 1 < 10 by omega, show ¬ i - 11 < 1 by omega, show i - 12 < 8 by omega, show 12 + (i - 12) = i by omega, show ¬ i = 0 by omega]
  · subst z; simp
  · simp [show ¬ i < 21 by omega, show ¬ i < 20 by omega, show ¬ i < 12 by omega, show ¬ i < 11 by omega, show ¬ i < 1 by omega, show 20 ≤ i by omega, show 12 ≤ i by omega, show 11 ≤ i by omega, show 1 ≤ i by omega, show ¬ i - 1 < 10 by omega, show ¬ i - 11 < 1 by omega, show ¬ (31 + (i - 20) < 32) by omega, show ¬ i = 0 by omega]
end
section
/-! what a calculation gives -/
def kc_u (a : Int32) : Int64 := a.toInt64 &&& 4294967295
def kc_d (k : Nat) (a b : Int32) : Int32 :=
  if k = 12 then (((kc_u a * kc_u b).toUInt64 >>> ((32 : Int32).toInt64.toUInt64 &&& Int64.toUInt64 63)).toInt64).toInt32
  else if b = 0 then (if 15 ≤ k then a else -1)
  else if k = 13 then a / b else if k = 14 then (kc_u a / kc_u b).toInt32
  else if k = 15 then a - a / b * b else (kc_u a - kc_u a / kc_u b * kc_u b).toInt32
def kc_v (k : Nat) (a b : Int32) : Int32 :=
  if k = 0 then a + b else if k = 1 then a <<< (b &&& 31) else if k = 2 then (if b ≤ a then 0 else 1)
  else if k = 3 then (if (b ^^^ (-2147483648)) ≤ (a ^^^ (-2147483648)) then 0 else 1)
  else if k = 4 then a ^^^ b else if k = 5 then (a.toUInt32 >>> (b.toUInt32 &&& Int32.toUInt32 31)).toInt32
  else if k = 6 then a ||| b else if k = 7 then a &&& b else if k = 8 then a - b else if k = 9 then a >>> (b &&& 31)
  else if k = 10 then a * b else if k = 11 then ((a.toInt64 * b.toInt64) >>> ((32 : Int32).toInt64 &&& 63)).toInt32
  else kc_d k a b
theorem kc_uW (a : Int32) : uN (kc_u a) = kW a := by
  have h : a.toInt64.toBitVec = a.toBitVec.signExtend 64 := rfl
  unfold kc_u
  rw [uN_lo]
  show a.toInt64.toBitVec.toNat % 4294967296 = a.toBitVec.toNat
  rw [h, BitVec.toNat_signExtend]
  have := a.toBitVec.isLt
  rw [BitVec.toNat_setWidth]
  split <;> omega
theorem kc_u0 {b : Int32} (h : ¬ b = 0) : ¬ kc_u b = 0 := by
  intro e
  apply h
  have e2 := kc_uW b
  rw [e] at e2
  have e3 : kW b = 0 := e2.symm.trans (by decide)
  rw [← kh_nIW b, e3]
  exact nI_0
theorem kc_uI (a : Int32) : (kc_u a).toInt = (kW a : Int) := by
  have h := uN_int (kc_u a)
  rw [kc_uW, if_pos (by have := kW_lt a; omega)] at h
  exact h
theorem kc_xor (a : Int32) : (a ^^^ (-2147483648)).toInt = (kW a : Int) - 2147483648 := by
  have h1 : (a ^^^ (-2147483648)).toInt = (a ^^^ (-2147483648)).toBitVec.toInt := rfl
  have h2 : (a ^^^ (-2147483648)).toBitVec.toNat = kW a ^^^ 2147483648 := by
    rw [Int32.toBitVec_xor, BitVec.toNat_xor]; rfl
  have h3 := kW_lt a
  have h4 : kW a ^^^ 2147483648 = (kW a + 2147483648) % 4294967296 := by
    have e1 : (kW a ^^^ 2 ^ 31) % 2 ^ 31 = kW a % 2 ^ 31 := by rw [Nat.xor_mod_two_pow, Nat.mod_self, Nat.xor_zero]
    have e2 : (kW a ^^^ 2 ^ 31) / 2 ^ 31 = (kW a / 2 ^ 31) ^^^ 1 := by rw [Nat.xor_div_two_pow, Nat.div_self (Nat.two_pow_pos 31)]
    have e3 : kW a / 2 ^ 31 = 0 ∨ kW a / 2 ^ 31 = 1 := by omega
    show kW a ^^^ 2 ^ 31 = _
    generalize kW a ^^^ 2 ^ 31 = t at e1 e2
    rcases e3 with e3 | e3
    · rw [e3] at e2
      have e2 : t / 2 ^ 31 = 1 := e2
      omega
    · rw [e3] at e2
      have e2 : t / 2 ^ 31 = 0 := e2
      omega
  rw [h1, BitVec.toInt_eq_toNat_cond, h2, h4]
  split <;> omega
theorem kc_ult (a b : Int32) : (b ^^^ (-2147483648)) ≤ (a ^^^ (-2147483648)) ↔ kc_u b ≤ kc_u a := by
  rw [Int32.le_iff_toInt_le, Int64.le_iff_toInt_le, kc_xor, kc_xor, kc_uI, kc_uI]
  omega
theorem x_div {post : Int32 → Prop} (k : Nat) (h12 : 12 ≤ k) (hk : k ≤ 16) (a b : Int32) (h : post (kc_d k a b)) : wpX_divide post (nI k) a b := by
  refine nm_e (nm_e ?_)
  refine pk_eq k 12 (fun e => ?_) (fun e => ?_)
  · subst e; exact h
  · refine br_c (fun hb => ?_) (fun hb => ?_)
    · unfold kc_d at h
      rw [if_neg e, if_pos hb] at h
      refine pk_le 15 k (fun e => ?_) (fun e => ?_)
      · rw [if_pos e] at h; exact h
      · rw [if_neg (by omega)] at h; exact h
    · have hu : ¬ (b.toInt64 &&& 4294967295) = 0 := kc_u0 hb
      unfold kc_d at h
      rw [if_neg e, if_neg hb] at h
      refine pk_lt k 13 (fun e => absurd e (by omega)) (fun _ => pk_lt 15 k (fun e => ⟨hu, ?_⟩) (fun _ => pk_eq k 13 (fun e => ⟨hb, ?_⟩) (fun _ => pk_eq k 14 (fun e => ⟨hu, ?_⟩) (fun _ => pk_eq k 15 (fun e => ⟨hb, ?_⟩) (fun _ => trivial)))))
      · rw [if_neg (by omega), if_neg (by omega), if_neg (by omega)] at h; exact h
      · rw [if_pos e] at h; exact h
      · rw [if_neg (by omega), if_pos e] at h; exact h
      · rw [if_neg (by omega), if_neg (by omega), if_pos e] at h; exact h
theorem x_calc {post : Int32 → Prop} (k : Nat) (hk : k ≤ 16) (a b : Int32) (h : post (kc_v k a b)) : wpX_calculate post (nI k) a b := by
  refine br_f (nI_pos (by omega)) (pk_lt 11 k (fun e => ?_) (fun _ => pk_eq k 0 (fun e => ?_) (fun _ => pk_eq k 1 (fun e => ?_) (fun _ => pk_eq k 2 (fun e => ?_) (fun _ => pk_eq k 3 (fun e => ?_) (fun _ => pk_eq k 4 (fun e => ?_) (fun _ => pk_eq k 5 (fun e => ?_) (fun _ => pk_eq k 6 (fun e => ?_) (fun _ => pk_eq k 7 (fun e => ?_) (fun _ => pk_eq k 8 (fun e => ?_) (fun _ => pk_eq k 9 (fun e => ?_) (fun _ => pk_eq k 10 (fun e => ?_) (fun _ => pk_eq k 11 (fun e => ?_) (fun _ => trivial))))))))))))))
  · refine x_div k (by omega) hk a b ?_
    unfold kc_v at h
    rw [if_neg (by omega), if_neg (by omega), if_neg (by omega), if_neg (by omega), if_neg (by omega), if_neg (by omega), if_neg (by omega), if_neg (by omega), if_neg (by omega), if_neg (by omega), if_neg (by omega), if_neg (by omega)] at h
    exact h
  · subst e; exact h
  · subst e; exact h
  · subst e
    have h : post (if b ≤ a then 0 else 1) := h
    exact br_c (fun c => by rw [if_pos c] at h; exact h) (fun c => by rw [if_neg c] at h; exact h)
  · subst e
    have h : post (if (b ^^^ (-2147483648)) ≤ (a ^^^ (-2147483648)) then 0 else 1) := h
    exact br_c (fun c => by rw [if_pos c] at h; exact h) (fun c => by rw [if_neg c] at h; exact h)
  all_goals (subst e; exact h)
/-! Y: combine and product -/
theorem kc_31 (b : Int32) : (b &&& 31) &&& 31 = b &&& 31 := by
  apply b_ext; intro i _; rw [b_and, b_and, Bool.and_assoc, Bool.and_self]
theorem kc_31u (b : Int32) : (b &&& 31).toUInt32 &&& Int32.toUInt32 31 = b.toUInt32 &&& Int32.toUInt32 31 := congrArg Int32.toUInt32 (kc_31 b)
theorem y_below {post : Int32 → Prop} {v : SY} {a b : Int32} (h : post (if kc_u b ≤ kc_u a then 0 else 1)) : wpY_below post v a b := by
  obtain ⟨pc, md, st, en, vc, sc, p0, ca, va, tb, tm, cp, ic, oc, td, tc, tv, ny, wh, me, xr, wt, yo⟩ := v
  exact br_c (fun (c : kc_u b ≤ kc_u a) => by rw [if_pos c] at h; exact h) (fun (c : ¬ kc_u b ≤ kc_u a) => by rw [if_neg c] at h; exact h)
/-- kind of combine(f, g): 0 .. 9 -/
theorem y_comb {post : Int32 → Prop} {v : SY} (f g k : Nat) (hf : f < 8) (hg : g < 128) (a b : Int32)
    (hk : (f = 0 ∧ g ≠ 0 ∧ k = 8) ∨ (f = 5 ∧ g ≠ 0 ∧ k = 9) ∨ (((f ≠ 0 ∧ f ≠ 5) ∨ g = 0) ∧ k = f)) (h : post (kc_v k a b)) : wpY_combine post v (nI f) (nI g) a b := by
  obtain ⟨pc, md, st, en, vc, sc, p0, ca, va, tb, tm, cp, ic, oc, td, tc, tv, ny, wh, me, xr, wt, yo⟩ := v
  refine pk_eq f 0 (fun e => pk_eq g 0 (fun e2 => ?_) (fun e2 => ?_)) (fun _ => pk_eq f 1 (fun e => ?_) (fun _ => pk_eq f 2 (fun e => ?_) (fun _ => pk_eq f 3 (fun e => ?_) (fun _ => pk_eq f 4 (fun e => ?_) (fun _ => pk_eq f 5 (fun e => pk_eq g 0 (fun e2 => ?_) (fun e2 => ?_)) (fun _ => pk_eq f 6 (fun e => ?_) (fun _ => ?_)))))))
  · obtain rfl : k = 0 := by omega
    exact h
  · obtain rfl : k = 8 := by omega
    exact h
  · obtain rfl : k = 1 := by omega
    rw [kc_31]; exact h
  · obtain rfl : k = 2 := by omega
    have h : post (if b ≤ a then 0 else 1) := h
    exact br_c (fun c => by rw [if_pos c] at h; exact h) (fun c => by rw [if_neg c] at h; exact h)
  · obtain rfl : k = 3 := by omega
    have h : post (if (b ^^^ (-2147483648)) ≤ (a ^^^ (-2147483648)) then 0 else 1) := h
    refine y_below ?_
    by_cases c : kc_u b ≤ kc_u a
    · rw [if_pos c]
      rw [if_pos ((kc_ult a b).mpr c)] at h
      exact br_t rfl h
    · rw [if_neg c]
      rw [if_neg (fun z => c ((kc_ult a b).mp z))] at h
      exact br_f (by decide) h
  · obtain rfl : k = 4 := by omega
    exact h
  · obtain rfl : k = 5 := by omega
    rw [kc_31u]; exact h
  · obtain rfl : k = 9 := by omega
    rw [kc_31]; exact h
  · obtain rfl : k = 6 := by omega
    exact h
  · obtain rfl : k = 7 := by omega
    exact h
def rs (x : Nat → Int32) (d : Nat) (v : Int32) : Nat → Int32 := if d = 0 then x else upd x d v
section
variable {pc nx md tm cp tr st en vc p0 sc ca va tb ih ic oc tn sl dO dD dA dB dI kn td tc tv ny wh : Int32} {me xr ai ao on pg oo od oa ob om bs bl bo hd ct un wt yo : Nat → Int32}
theorem y_set {post : SY → Prop} (d : Nat) (hd' : d < 32) (w : Int32) (h : post (pc, md, st, en, vc, sc, p0, ca, va, tb, tm, cp, ic, oc, td, tc, tv, ny, wh, me, rs xr d w, wt, yo)) : wpY_set post (pc, md, st, en, vc, sc, p0, ca, va, tb, tm, cp, ic, oc, td, tc, tv, ny, wh, me, xr, wt, yo) (nI d) w := by
  refine pk_eq d 0 (fun e => ?_) (fun e => ⟨vp_in_nI hd' (by omega), ?_⟩)
  · unfold rs at h; rw [if_pos e] at h; exact h
  · unfold rs at h; rw [if_neg e] at h
    rw [nI_clamp (by omega)]
    exact nm_e h
theorem x_set {post : SX → Prop} (d : Nat) (hd' : d < 32) (w : Int32) (h : post (pc, nx, md, tm, cp, tr, st, en, vc, p0, sc, ca, va, tb, ih, ic, oc, tn, sl, dO, dD, dA, dB, dI, kn, me, rs xr d w, ai, ao, on, pg, oo, od, oa, ob, om, bs, bl, bo, hd, ct, un)) : wpX_set post (pc, nx, md, tm, cp, tr, st, en, vc, p0, sc, ca, va, tb, ih, ic, oc, tn, sl, dO, dD, dA, dB, dI, kn, me, xr, ai, ao, on, pg, oo, od, oa, ob, om, bs, bl, bo, hd, ct, un) (nI d) w := by
  refine pk_le d 0 (fun e => ?_) (fun e => ⟨vp_in_nI hd' (by omega), ?_⟩)
  · unfold rs at h; rw [if_pos (by omega)] at h; exact h
  · unfold rs at h; rw [if_neg (by omega)] at h
    rw [nI_clamp (by omega)]
    exact nm_e h
/-- kinds 10 .. 16 -/
theorem y_prod {post : SY → Prop} (f k d : Nat) (hf : f < 8) (h2 : f ≠ 2) (hd' : d < 32) (hk : k = if f < 2 then 10 + f else 9 + f) (a b : Int32) (h : post (pc, md, st, en, vc, sc, p0, ca, va, tb, tm, cp, ic, oc, td, tc, tv, ny, wh, me, rs xr d (kc_v k a b), wt, yo)) : wpY_product post (pc, md, st, en, vc, sc, p0, ca, va, tb, tm, cp, ic, oc, td, tc, tv, ny, wh, me, xr, wt, yo) (nI d) (nI f) a b := by
  refine nm_e (nm_e ?_)
  have hu : ¬ b = 0 → ¬ (b.toInt64 &&& 4294967295) = 0 := kc_u0
  refine pk_eq f 0 (fun e => ?_) (fun _ => pk_eq f 1 (fun e => ?_) (fun _ => pk_eq f 3 (fun e => ?_) (fun _ => pk_eq f 4 (fun e => ?_) (fun _ => pk_eq f 5 (fun e => ?_) (fun _ => pk_eq f 6 (fun e => ?_) (fun _ => pk_eq f 7 (fun e => ?_) (fun _ => absurd hf (by omega))))))))
  · subst e hk; exact y_set d hd' _ h
  · subst e hk; exact y_set d hd' _ h
  · subst e hk; exact y_set d hd' _ h
  · subst e hk
    have h : post (pc, md, st, en, vc, sc, p0, ca, va, tb, tm, cp, ic, oc, td, tc, tv, ny, wh, me, rs xr d (if b = 0 then (if 15 ≤ 13 then a else -1) else a / b), wt, yo) := h
    refine br_c (fun c => ?_) (fun c => ⟨c, ?_⟩)
    · rw [if_pos c] at h; exact y_set d hd' _ h
    · rw [if_neg c] at h; exact y_set d hd' _ h
  · subst e hk
    have h : post (pc, md, st, en, vc, sc, p0, ca, va, tb, tm, cp, ic, oc, td, tc, tv, ny, wh, me, rs xr d (if b = 0 then (if 15 ≤ 14 then a else -1) else (kc_u a / kc_u b).toInt32), wt, yo) := h
    refine br_c (fun c => ?_) (fun c => ⟨hu c, ?_⟩)
    · rw [if_pos c] at h; exact y_set d hd' _ h
    · rw [if_neg c] at h; exact y_set d hd' _ h
  · subst e hk
    have h : post (pc, md, st, en, vc, sc, p0, ca, va, tb, tm, cp, ic, oc, td, tc, tv, ny, wh, me, rs xr d (if b = 0 then (if 15 ≤ 15 then a else -1) else a - a / b * b), wt, yo) := h
    refine br_c (fun c => ?_) (fun c => ⟨c, ?_⟩)
    · rw [if_pos c] at h; exact y_set d hd' _ h
    · rw [if_neg c] at h; exact y_set d hd' _ h
  · subst e hk
    have h : post (pc, md, st, en, vc, sc, p0, ca, va, tb, tm, cp, ic, oc, td, tc, tv, ny, wh, me, rs xr d (if b = 0 then (if 15 ≤ 16 then a else -1) else (kc_u a - kc_u a / kc_u b * kc_u b).toInt32), wt, yo) := h
    refine br_c (fun c => ?_) (fun c => ⟨hu c, ?_⟩)
    · rw [if_pos c] at h; exact y_set d hd' _ h
    · rw [if_neg c] at h; exact y_set d hd' _ h
end
end
section
/-! a word decoded -/
def kf (w : Int32) : Nat := bf w 12 3
def kg (w : Int32) : Nat := bf w 25 7
def kp (w : Int32) : Nat := bf w 0 7
def kn_s (n : Nat) : Prop := n = 384 ∨ n = 768 ∨ n = 772 ∨ n = 773 ∨ n = 832 ∨ n = 833 ∨ n = 834 ∨ n = 835
def kSh (f g : Nat) : Nat := if f = 1 then (if g = 0 then 65 else 24) else if f = 5 then (if g = 0 then 69 else if g = 32 then 73 else 24) else 64 + f
def kCa (f g : Nat) : Nat := if g = 0 then 32 + f else if g = 32 then (if f = 0 then 40 else if f = 5 then 41 else 24) else if g = 1 then (if f = 2 then 24 else if 2 ≤ f then 41 + f else 42 + f) else 24
def kSy (w : Int32) : Nat := if w = 115 then 19 else if w = 807403635 then 20 else 24
def kCs (w : Int32) : Prop := 0 < kf w ∧ kf w < 4 ∧ kn_s (bf w 20 12)
noncomputable def kO (w : Int32) : Nat :=
  if kp w = 3 then (if 3 ≤ kf w then (if kf w = 4 then 14 else if kf w = 5 then 15 else 24) else 11 + kf w)
  else if kp w = 15 then (if 2 ≤ kf w then 24 else 0)
  else if kp w = 19 then kSh (kf w) (kg w)
  else if kp w = 23 then 2
  else if kp w = 35 then (if 3 ≤ kf w then 24 else 16 + kf w)
  else if kp w = 51 then kCa (kf w) (kg w)
  else if kp w = 55 then 1
  else if kp w = 99 then (if 2 ≤ kf w then (if 4 ≤ kf w then 3 + kf w else 24) else 5 + kf w)
  else if kp w = 103 then (if kf w = 0 then 4 else 24)
  else if kp w = 111 then 3
  else if kp w = 115 then (@ite _ (kCs w) (Classical.propDecidable _) (20 + kf w) (kSy w))
  else 24
def kS (w : Int32) : Int32 := ((w >>> ((25 : Int32) &&& 31)) <<< ((5 : Int32) &&& 31)) ||| nI (bf w 7 5)
def kBr (w : Int32) : Int32 := ((((w >>> ((31 : Int32) &&& 31)) <<< ((12 : Int32) &&& 31)) ||| (((w >>> ((7 : Int32) &&& 31)) &&& 1) <<< ((11 : Int32) &&& 31))) ||| (((w >>> ((25 : Int32) &&& 31)) &&& 63) <<< ((5 : Int32) &&& 31))) ||| (((w >>> ((8 : Int32) &&& 31)) &&& 15) <<< ((1 : Int32) &&& 31))
def kJm (w : Int32) : Int32 := ((((w >>> ((31 : Int32) &&& 31)) <<< ((20 : Int32) &&& 31)) ||| (w &&& 1044480)) ||| (((w >>> ((20 : Int32) &&& 31)) &&& 1) <<< ((11 : Int32) &&& 31))) ||| (((w >>> ((21 : Int32) &&& 31)) &&& 1023) <<< ((1 : Int32) &&& 31))
def kJ (w : Int32) : Int32 :=
  if kp w = 19 then (if kf w = 1 then nI (bf w 20 5) else if kf w = 5 then nI (bf w 20 5) else w >>> ((20 : Int32) &&& 31))
  else if kp w = 23 then w &&& (-4096) else if kp w = 55 then w &&& (-4096)
  else if kp w = 35 then kS w else if kp w = 99 then kBr w else if kp w = 111 then kJm w else if kp w = 115 then w
  else w >>> ((20 : Int32) &&& 31)
noncomputable def kI (w : Int32) : Int32 := if kO w = 24 then w else kJ w
noncomputable def kD (w : Int32) : Nat := if kO w = 24 ∨ (4 < kO w ∧ kO w < 11) ∨ (15 < kO w ∧ kO w < 21) then 0 else bf w 7 5
def kA (w : Int32) : Nat := bf w 15 5
def kB (w : Int32) : Nat := bf w 20 5
theorem kf_lt (w : Int32) : kf w < 8 := bf_lt w 12 3
theorem kg_lt (w : Int32) : kg w < 128 := bf_lt w 25 7
theorem kp_lt (w : Int32) : kp w < 128 := bf_lt w 0 7
theorem kA_lt (w : Int32) : kA w < 32 := bf_lt w 15 5
theorem kB_lt (w : Int32) : kB w < 32 := bf_lt w 20 5
theorem kD_lt (w : Int32) : kD w < 32 := by
  unfold kD; split
  · omega
  · exact bf_lt w 7 5
theorem kSh_r (f g : Nat) (hf : f < 8) : kSh f g = 24 ∨ (64 ≤ kSh f g ∧ kSh f g ≤ 73) := by
  unfold kSh; repeat' split
  all_goals omega
theorem kCa_r (f g : Nat) (hf : f < 8) : kCa f g = 24 ∨ (32 ≤ kCa f g ∧ kCa f g ≤ 48) := by
  unfold kCa; repeat' split
  all_goals omega
theorem kSy_r (w : Int32) : kSy w = 19 ∨ kSy w = 20 ∨ kSy w = 24 := by
  unfold kSy; repeat' split
  all_goals simp
section
theorem kO_3 {w : Int32} (h : kp w = 3) : kO w = (if 3 ≤ kf w then (if kf w = 4 then 14 else if kf w = 5 then 15 else 24) else 11 + kf w) := by unfold kO; rw [if_pos h]
theorem kO_15 {w : Int32} (h : kp w = 15) : kO w = (if 2 ≤ kf w then 24 else 0) := by unfold kO; rw [if_neg (by omega), if_pos h]
theorem kO_19 {w : Int32} (h : kp w = 19) : kO w = kSh (kf w) (kg w) := by unfold kO; rw [if_neg (by omega), if_neg (by omega), if_pos h]
theorem kO_23 {w : Int32} (h : kp w = 23) : kO w = 2 := by unfold kO; rw [if_neg (by omega), if_neg (by omega), if_neg (by omega), if_pos h]
theorem kO_35 {w : Int32} (h : kp w = 35) : kO w = (if 3 ≤ kf w then 24 else 16 + kf w) := by unfold kO; rw [if_neg (by omega), if_neg (by omega), if_neg (by omega), if_neg (by omega), if_pos h]
theorem kO_51 {w : Int32} (h : kp w = 51) : kO w = kCa (kf w) (kg w) := by unfold kO; rw [if_neg (by omega), if_neg (by omega), if_neg (by omega), if_neg (by omega), if_neg (by omega), if_pos h]
theorem kO_55 {w : Int32} (h : kp w = 55) : kO w = 1 := by unfold kO; rw [if_neg (by omega), if_neg (by omega), if_neg (by omega), if_neg (by omega), if_neg (by omega), if_neg (by omega), if_pos h]
theorem kO_99 {w : Int32} (h : kp w = 99) : kO w = (if 2 ≤ kf w then (if 4 ≤ kf w then 3 + kf w else 24) else 5 + kf w) := by unfold kO; rw [if_neg (by omega), if_neg (by omega), if_neg (by omega), if_neg (by omega), if_neg (by omega), if_neg (by omega), if_neg (by omega), if_pos h]
theorem kO_103 {w : Int32} (h : kp w = 103) : kO w = (if kf w = 0 then 4 else 24) := by unfold kO; rw [if_neg (by omega), if_neg (by omega), if_neg (by omega), if_neg (by omega), if_neg (by omega), if_neg (by omega), if_neg (by omega), if_neg (by omega), if_pos h]
theorem kO_111 {w : Int32} (h : kp w = 111) : kO w = 3 := by unfold kO; rw [if_neg (by omega), if_neg (by omega), if_neg (by omega), if_neg (by omega), if_neg (by omega), if_neg (by omega), if_neg (by omega), if_neg (by omega), if_neg (by omega), if_pos h]
theorem kO_115a {w : Int32} (h : kp w = 115) (h2 : kCs w) : kO w = 20 + kf w := by unfold kO; rw [if_neg (by omega), if_neg (by omega), if_neg (by omega), if_neg (by omega), if_neg (by omega), if_neg (by omega), if_neg (by omega), if_neg (by omega), if_neg (by omega), if_neg (by omega), if_pos h, if_pos h2]
theorem kO_115b {w : Int32} (h : kp w = 115) (h2 : ¬ kCs w) : kO w = kSy w := by unfold kO; rw [if_neg (by omega), if_neg (by omega), if_neg (by omega), if_neg (by omega), if_neg (by omega), if_neg (by omega), if_neg (by omega), if_neg (by omega), if_neg (by omega), if_neg (by omega), if_pos h, if_neg h2]
theorem kO_o {w : Int32} (h1 : kp w ≠ 3) (h2 : kp w ≠ 15) (h3 : kp w ≠ 19) (h4 : kp w ≠ 23) (h5 : kp w ≠ 35) (h6 : kp w ≠ 51) (h7 : kp w ≠ 55) (h8 : kp w ≠ 99) (h9 : kp w ≠ 103) (h10 : kp w ≠ 111) (h11 : kp w ≠ 115) : kO w = 24 := by
  unfold kO; rw [if_neg h1, if_neg h2, if_neg h3, if_neg h4, if_neg h5, if_neg h6, if_neg h7, if_neg h8, if_neg h9, if_neg h10, if_neg h11]
theorem kJ_19a {w : Int32} (h : kp w = 19) (h2 : kf w = 1 ∨ kf w = 5) : kJ w = nI (bf w 20 5) := by unfold kJ; rw [if_pos h]; rcases h2 with h2 | h2 <;> simp [h2]
theorem kJ_19b {w : Int32} (h : kp w = 19) (h1 : kf w ≠ 1) (h5 : kf w ≠ 5) : kJ w = w >>> ((20 : Int32) &&& 31) := by unfold kJ; rw [if_pos h, if_neg h1, if_neg h5]
theorem kJ_23 {w : Int32} (h : kp w = 23) : kJ w = w &&& (-4096) := by unfold kJ; rw [if_neg (by omega), if_pos h]
theorem kJ_55 {w : Int32} (h : kp w = 55) : kJ w = w &&& (-4096) := by unfold kJ; rw [if_neg (by omega), if_neg (by omega), if_pos h]
theorem kJ_35 {w : Int32} (h : kp w = 35) : kJ w = kS w := by unfold kJ; rw [if_neg (by omega), if_neg (by omega), if_neg (by omega), if_pos h]
theorem kJ_99 {w : Int32} (h : kp w = 99) : kJ w = kBr w := by unfold kJ; rw [if_neg (by omega), if_neg (by omega), if_neg (by omega), if_neg (by omega), if_pos h]
theorem kJ_111 {w : Int32} (h : kp w = 111) : kJ w = kJm w := by unfold kJ; rw [if_neg (by omega), if_neg (by omega), if_neg (by omega), if_neg (by omega), if_neg (by omega), if_pos h]
theorem kJ_115 {w : Int32} (h : kp w = 115) : kJ w = w := by unfold kJ; rw [if_neg (by omega), if_neg (by omega), if_neg (by omega), if_neg (by omega), if_neg (by omega), if_neg (by omega), if_pos h]
theorem kJ_o {w : Int32} (h3 : kp w ≠ 19) (h4 : kp w ≠ 23) (h5 : kp w ≠ 35) (h7 : kp w ≠ 55) (h8 : kp w ≠ 99) (h10 : kp w ≠ 111) (h11 : kp w ≠ 115) : kJ w = w >>> ((20 : Int32) &&& 31) := by
  unfold kJ; rw [if_neg h3, if_neg h4, if_neg h7, if_neg h5, if_neg h8, if_neg h10, if_neg h11]
theorem kI_n {w c : Int32} (h : kO w ≠ 24) (h2 : kJ w = c) : kI w = c := by unfold kI; rw [if_neg h, h2]
theorem kI_24 {w : Int32} (h : kO w = 24) : kI w = w := by unfold kI; rw [if_pos h]
end
/-- the operations' numbers -/
theorem kO_r (w : Int32) : kO w ≤ 24 ∨ (32 ≤ kO w ∧ kO w ≤ 48) ∨ (64 ≤ kO w ∧ kO w ≤ 73) := by
  have hf := kf_lt w
  by_cases h1 : kp w = 3
  · rw [kO_3 h1]; repeat' split
    all_goals omega
  by_cases h2 : kp w = 15
  · rw [kO_15 h2]; split <;> omega
  by_cases h3 : kp w = 19
  · rw [kO_19 h3]; have := kSh_r (kf w) (kg w) hf; omega
  by_cases h4 : kp w = 23
  · rw [kO_23 h4]; omega
  by_cases h5 : kp w = 35
  · rw [kO_35 h5]; split <;> omega
  by_cases h6 : kp w = 51
  · rw [kO_51 h6]; have := kCa_r (kf w) (kg w) hf; omega
  by_cases h7 : kp w = 55
  · rw [kO_55 h7]; omega
  by_cases h8 : kp w = 99
  · rw [kO_99 h8]; repeat' split
    all_goals omega
  by_cases h9 : kp w = 103
  · rw [kO_103 h9]; split <;> omega
  by_cases h10 : kp w = 111
  · rw [kO_111 h10]; omega
  by_cases h11 : kp w = 115
  · by_cases h12 : kCs w
    · rw [kO_115a h11 h12]; have := h12.2.1; omega
    · rw [kO_115b h11 h12]; have := kSy_r w; omega
  · rw [kO_o h1 h2 h3 h4 h5 h6 h7 h8 h9 h10 h11]; omega
/-! X: decode -/
section
variable {pc nx md tm cp tr st en vc p0 sc ca va tb ih ic oc tn sl dO dD dA dB dI kn td tc tv ny wh : Int32} {me xr ai ao on pg oo od oa ob om bs bl bo hd ct un wt yo : Nat → Int32}
theorem xd_528 {post : SX → Prop} {w z c ii : Int32} (o d dd : Nat) (hz : z = nI o) (ho : o < 100) (hi : ii = if o = 24 then w else c)
    (hdd : dd = if o = 24 ∨ (4 < o ∧ o < 11) ∨ (15 < o ∧ o < 21) then 0 else d) (h : post (pc, nx, md, tm, cp, tr, st, en, vc, p0, sc, ca, va, tb, ih, ic, oc, tn, sl, nI o, nI dd, dA, dB, ii, kn, me, xr, ai, ao, on, pg, oo, od, oa, ob, om, bs, bl, bo, hd, ct, un)) : wX_decode_528 post w pc nx md tm cp tr st en vc p0 sc ca va tb ih ic oc tn sl z (nI d) dA dB c kn me xr ai ao on pg oo od oa ob om bs bl bo hd ct un := by
  subst hz
  refine pk_eq o 24 (fun e => ?_) (fun e => ?_)
  · rw [if_pos e] at hi
    rw [if_pos (Or.inl e)] at hdd
    subst hi hdd
    exact pk_eq o 24 (fun _ => h) (fun z => absurd e z)
  · rw [if_neg e] at hi
    subst hi
    refine pk_eq o 24 (fun z => absurd z e) (fun _ => pk_le o 4 (fun e2 => ?_) (fun e2 => pk_lt o 11 (fun e3 => ?_) (fun e3 => pk_le o 15 (fun e4 => ?_) (fun e4 => pk_le 21 o (fun e5 => ?_) (fun e5 => ?_)))))
    · refine pk_le o 15 (fun _ => ?_) (fun z => absurd z (by omega))
      rw [if_neg (by omega)] at hdd; subst hdd; exact h
    · rw [if_pos (by omega)] at hdd; subst hdd; exact h
    · rw [if_neg (by omega)] at hdd; subst hdd; exact h
    · rw [if_neg (by omega)] at hdd; subst hdd; exact h
    · rw [if_pos (by omega)] at hdd; subst hdd; exact h
theorem xd_leaf {post : SX → Prop} {w z c : Int32} (o : Nat) (ho : kO w = o) (hz : z = nI o) (hJ : o = 24 ∨ kJ w = c)
    (h : post (pc, nx, md, tm, cp, tr, st, en, vc, p0, sc, ca, va, tb, ih, ic, oc, tn, sl, nI (kO w), nI (kD w), nI (kA w), nI (kB w), kI w, kn, me, xr, ai, ao, on, pg, oo, od, oa, ob, om, bs, bl, bo, hd, ct, un)) : wX_decode_528 post w pc nx md tm cp tr st en vc p0 sc ca va tb ih ic oc tn sl z (nI (bf w 7 5)) (nI (kA w)) (nI (kB w)) c kn me xr ai ao on pg oo od oa ob om bs bl bo hd ct un := by
  refine xd_528 o (bf w 7 5) (kD w) (ii := kI w) hz (by have := kO_r w; omega) ?_ ?_ (by rw [ho] at h; exact h)
  · unfold kI
    rw [ho]
    rcases hJ with e | e
    · rw [if_pos e, if_pos e]
    · rw [e]
  · unfold kD
    rw [ho]
theorem xd_shl {post : Int32 → Prop} (f g : Nat) (hf : f < 8) (hg : g < 128) (h : post (nI (kSh f g))) : wpX_shiftless post (nI f) (nI g) := by
  unfold kSh at h
  refine pk_eq f 1 (fun e => ?_) (fun e => ?_)
  · rw [if_pos e] at h
    refine pk_eq g 0 (fun e => ?_) (fun e => ?_)
    · rw [if_pos e] at h; exact h
    · rw [if_neg e] at h; exact h
  · rw [if_neg e] at h
    refine pk_eq f 5 (fun e => ?_) (fun e => ?_)
    · rw [if_pos e] at h
      refine pk_eq g 0 (fun e => ?_) (fun e => pk_eq g 32 (fun e2 => ?_) (fun e2 => ?_))
      · rw [if_pos e] at h; exact h
      · rw [if_neg e, if_pos e2] at h; exact h
      · rw [if_neg e, if_neg e2] at h; exact h
    · rw [if_neg e] at h
      rw [show (64 : Int32) + nI f = nI (64 + f) from nI_add 64 f]
      exact h
theorem xd_cal {post : Int32 → Prop} (f g : Nat) (hf : f < 8) (hg : g < 128) (h : post (nI (kCa f g))) : wpX_calculation post (nI f) (nI g) := by
  unfold kCa at h
  refine pk_eq g 0 (fun e => ?_) (fun e => pk_eq g 32 (fun e1 => pk_eq f 0 (fun e2 => ?_) (fun e2 => pk_eq f 5 (fun e3 => ?_) (fun e3 => ?_))) (fun e1 => pk_eq g 1 (fun e2 => pk_eq f 2 (fun e3 => ?_) (fun e3 => pk_le 2 f (fun e4 => ?_) (fun e4 => ?_))) (fun e2 => ?_)))
  · rw [if_pos e] at h
    rw [show (32 : Int32) + nI f = nI (32 + f) from nI_add 32 f]
    exact h
  · rw [if_neg e, if_pos e1, if_pos e2] at h; exact h
  · rw [if_neg e, if_pos e1, if_neg e2, if_pos e3] at h; exact h
  · rw [if_neg e, if_pos e1, if_neg e2, if_neg e3] at h; exact h
  · rw [if_neg e, if_neg e1, if_pos e2, if_pos e3] at h; exact h
  · rw [if_neg e, if_neg e1, if_pos e2, if_neg e3, if_pos e4] at h
    rw [show (41 : Int32) + nI f = nI (41 + f) from nI_add 41 f]
    exact h
  · rw [if_neg e, if_neg e1, if_pos e2, if_neg e3, if_neg (by omega)] at h
    rw [show (42 : Int32) + nI f = nI (42 + f) from nI_add 42 f]
    exact h
  · rw [if_neg e, if_neg e1, if_neg e2] at h; exact h
theorem xd_isS {post : Int32 → Prop} (n : Nat) (hn : n < 4096) (h1 : kn_s n → post 1) (h0 : ¬ kn_s n → post 0) : wpX_isState post (nI n) := by
  unfold kn_s at h1 h0
  exact pk_eq n 384 (fun e => h1 (by omega)) (fun _ => pk_eq n 768 (fun e => h1 (by omega)) (fun _ => pk_eq n 772 (fun e => h1 (by omega)) (fun _ => pk_eq n 773 (fun e => h1 (by omega)) (fun _ => pk_eq n 832 (fun e => h1 (by omega)) (fun _ => pk_eq n 833 (fun e => h1 (by omega)) (fun _ => pk_eq n 834 (fun e => h1 (by omega)) (fun _ => pk_eq n 835 (fun e => h1 (by omega)) (fun _ => h0 (by omega)))))))))
theorem xd_487 {post : SX → Prop} {w : Int32} (hp : kp w = 115) (hc : ¬ kCs w)
    (h : post (pc, nx, md, tm, cp, tr, st, en, vc, p0, sc, ca, va, tb, ih, ic, oc, tn, sl, nI (kO w), nI (kD w), nI (kA w), nI (kB w), kI w, kn, me, xr, ai, ao, on, pg, oo, od, oa, ob, om, bs, bl, bo, hd, ct, un)) : wX_decode_487 post w pc nx md tm cp tr st en vc p0 sc ca va tb ih ic oc tn sl dO (nI (bf w 7 5)) (nI (kA w)) (nI (kB w)) dI kn me xr ai ao on pg oo od oa ob om bs bl bo hd ct un := by
  have ho := kO_115b hp hc
  unfold kSy at ho
  refine br_c (fun e => ?_) (fun e => br_c (fun e2 => ?_) (fun e2 => ?_))
  · rw [if_pos e] at ho
    exact xd_leaf 19 ho rfl (Or.inr (kJ_115 hp)) h
  · rw [if_neg e, if_pos e2] at ho
    exact xd_leaf 20 ho rfl (Or.inr (kJ_115 hp)) h
  · rw [if_neg e, if_neg e2] at ho
    exact xd_leaf 24 ho rfl (Or.inr (kJ_115 hp)) h
theorem x_decode {post : SX → Prop} (w : Int32) (h : post (pc, nx, md, tm, cp, tr, st, en, vc, p0, sc, ca, va, tb, ih, ic, oc, tn, sl, nI (kO w), nI (kD w), nI (kA w), nI (kB w), kI w, kn, me, xr, ai, ao, on, pg, oo, od, oa, ob, om, bs, bl, bo, hd, ct, un)) : wpX_decode post (pc, nx, md, tm, cp, tr, st, en, vc, p0, sc, ca, va, tb, ih, ic, oc, tn, sl, dO, dD, dA, dB, dI, kn, me, xr, ai, ao, on, pg, oo, od, oa, ob, om, bs, bl, bo, hd, ct, un) w := by
  have hf := kf_lt w
  have hg := kg_lt w
  have hp := kp_lt w
  refine nm_r (e' := nI (kf w)) (kx_fld w 12 3 (by omega) (by omega) (m := 7) (by decide)) (nm_r (e' := nI (bf w 7 5)) (kx_fld w 7 5 (by omega) (by omega) (m := 31) (by decide)) (nm_r (e' := nI (kA w)) (kx_fld w 15 5 (by omega) (by omega) (m := 31) (by decide)) (nm_r (e' := nI (kB w)) (kx_fld w 20 5 (by omega) (by omega) (m := 31) (by decide)) (nm_e (nm_r (e' := nI (kp w)) (kx_and w 7 (m := 127) (by decide)) ?_)))))
  refine pk_eq (kp w) 3 (fun e => ?_) (fun n3 => pk_eq (kp w) 15 (fun e => ?_) (fun n15 => pk_eq (kp w) 19 (fun e => ?_) (fun n19 => pk_eq (kp w) 23 (fun e => ?_) (fun n23 => pk_eq (kp w) 35 (fun e => ?_) (fun n35 => pk_eq (kp w) 51 (fun e => ?_) (fun n51 => pk_eq (kp w) 55 (fun e => ?_) (fun n55 => pk_eq (kp w) 99 (fun e => ?_) (fun n99 => pk_eq (kp w) 103 (fun e => ?_) (fun n103 => pk_eq (kp w) 111 (fun e => ?_) (fun n111 => pk_eq (kp w) 115 (fun e => ?_) (fun n115 => ?_)))))))))))
  · have ho := kO_3 e
    have hj : kJ w = w >>> ((20 : Int32) &&& 31) := kJ_o (by omega) (by omega) (by omega) (by omega) (by omega) (by omega) (by omega)
    refine pk_le 3 (kf w) (fun e1 => pk_eq (kf w) 4 (fun e2 => ?_) (fun e2 => pk_eq (kf w) 5 (fun e3 => ?_) (fun e3 => ?_))) (fun e1 => ?_)
    · rw [if_pos e1, if_pos e2] at ho
      exact xd_leaf 14 ho (by rw [e2]; decide) (Or.inr hj) h
    · rw [if_pos e1, if_neg e2, if_pos e3] at ho
      exact xd_leaf 15 ho (by rw [e3]; decide) (Or.inr hj) h
    · rw [if_pos e1, if_neg e2, if_neg e3] at ho
      exact xd_leaf 24 ho rfl (Or.inr hj) h
    · rw [if_neg (by omega)] at ho
      exact xd_leaf (11 + kf w) ho (nI_add 11 _) (Or.inr hj) h
  · have ho := kO_15 e
    have hj : kJ w = w >>> ((20 : Int32) &&& 31) := kJ_o (by omega) (by omega) (by omega) (by omega) (by omega) (by omega) (by omega)
    refine pk_le 2 (kf w) (fun e1 => ?_) (fun e1 => ?_)
    · rw [if_pos e1] at ho
      exact xd_leaf 24 ho rfl (Or.inr hj) h
    · rw [if_neg (by omega)] at ho
      exact xd_leaf 0 ho rfl (Or.inr hj) h
  · have ho := kO_19 e
    have eg : (w.toUInt32 >>> ((25 : Int32).toUInt32 &&& Int32.toUInt32 31)).toInt32 = nI (kg w) := kx_ush w 25 7 (by omega) (by omega)
    rw [eg]
    refine xd_shl (kf w) (kg w) hf hg ?_
    refine pk_eq (kf w) 1 (fun e1 => ?_) (fun e1 => pk_eq (kf w) 5 (fun e2 => ?_) (fun e2 => ?_))
    · exact xd_leaf _ ho rfl (Or.inr (kJ_19a e (Or.inl e1))) h
    · exact xd_leaf _ ho rfl (Or.inr (kJ_19a e (Or.inr e2))) h
    · exact xd_leaf _ ho rfl (Or.inr (kJ_19b e e1 e2)) h
  · exact nm_e (xd_leaf 2 (kO_23 e) rfl (Or.inr (kJ_23 e)) h)
  · have ho := kO_35 e
    refine pk_le 3 (kf w) (fun e1 => ?_) (fun e1 => ?_)
    · rw [if_pos e1] at ho
      exact nm_e (xd_leaf 24 ho rfl (Or.inr (kJ_35 e)) h)
    · rw [if_neg (by omega)] at ho
      exact nm_e (xd_leaf (16 + kf w) ho (nI_add 16 _) (Or.inr (kJ_35 e)) h)
  · have ho := kO_51 e
    have eg : (w.toUInt32 >>> ((25 : Int32).toUInt32 &&& Int32.toUInt32 31)).toInt32 = nI (kg w) := kx_ush w 25 7 (by omega) (by omega)
    rw [eg]
    refine xd_cal (kf w) (kg w) hf hg ?_
    exact xd_leaf _ ho rfl (Or.inr (kJ_o (by omega) (by omega) (by omega) (by omega) (by omega) (by omega) (by omega))) h
  · exact nm_e (xd_leaf 1 (kO_55 e) rfl (Or.inr (kJ_55 e)) h)
  · have ho := kO_99 e
    refine pk_le 2 (kf w) (fun e1 => pk_le 4 (kf w) (fun e2 => ?_) (fun e2 => ?_)) (fun e1 => ?_)
    · rw [if_pos e1, if_pos e2] at ho
      exact nm_e (xd_leaf (3 + kf w) ho (nI_add 3 _) (Or.inr (kJ_99 e)) h)
    · rw [if_pos e1, if_neg (by omega)] at ho
      exact nm_e (xd_leaf 24 ho rfl (Or.inr (kJ_99 e)) h)
    · rw [if_neg (by omega)] at ho
      exact nm_e (xd_leaf (5 + kf w) ho (nI_add 5 _) (Or.inr (kJ_99 e)) h)
  · have ho := kO_103 e
    have hj : kJ w = w >>> ((20 : Int32) &&& 31) := kJ_o (by omega) (by omega) (by omega) (by omega) (by omega) (by omega) (by omega)
    refine pk_eq (kf w) 0 (fun e1 => ?_) (fun e1 => ?_)
    · rw [if_pos e1] at ho
      exact xd_leaf 4 ho rfl (Or.inr hj) h
    · rw [if_neg e1] at ho
      exact xd_leaf 24 ho rfl (Or.inr hj) h
  · exact nm_e (xd_leaf 3 (kO_111 e) rfl (Or.inr (kJ_111 e)) h)
  · refine pk_le (kf w) 0 (fun e1 => ?_) (fun e1 => pk_le 4 (kf w) (fun e2 => ?_) (fun e2 => ?_))
    · exact xd_487 e (fun c => absurd c.1 (by omega)) h
    · exact xd_487 e (fun c => absurd c.2.1 (by omega)) h
    · have eg : (w.toUInt32 >>> ((20 : Int32).toUInt32 &&& Int32.toUInt32 31)).toInt32 = nI (bf w 20 12) := kx_ush w 20 12 (by omega) (by omega)
      rw [eg]
      refine xd_isS (bf w 20 12) (bf_lt w 20 12) (fun c => br_f (by decide) ?_) (fun c => br_t rfl ?_)
      · exact xd_leaf (20 + kf w) (kO_115a e ⟨by omega, by omega, c⟩) (nI_add 20 _) (Or.inr (kJ_115 e)) h
      · exact xd_487 e (fun z => c z.2.2) h
  · exact xd_leaf 24 (kO_o n3 n15 n19 n23 n35 n51 n55 n99 n103 n111 n115) rfl (Or.inl rfl) h
end
end
section
/-! Y: one word executed, by the decoded numbers -/
def kc_b (o : Nat) (a b : Int32) : Prop :=
  if o = 5 then a = b else if o = 6 then ¬ a = b else if o = 7 then ¬ b ≤ a else if o = 8 then b ≤ a
  else if o = 9 then ¬ (b ^^^ (-2147483648)) ≤ (a ^^^ (-2147483648)) else (b ^^^ (-2147483648)) ≤ (a ^^^ (-2147483648))
def kst (n : Nat) (tb st en vc sc p0 ca va : Int32) : Int32 :=
  if n = 384 then tb else if n = 768 then st else if n = 772 then en else if n = 773 then vc else if n = 832 then sc else if n = 833 then p0 else if n = 834 then ca else if n = 835 then va else -1
def knw (f : Nat) (old a : Int32) : Int32 := if f = 1 then a else if f = 2 then old ||| a else old &&& (a ^^^ (-1))
section
variable {pc nx md tm cp tr st en vc p0 sc ca va tb ih ic oc tn sl dO dD dA dB dI kn td tc tv ny wh : Int32} {me xr ai ao on pg oo od oa ob om bs bl bo hd ct un wt yo : Nat → Int32}
theorem y_trap {post : SY → Prop} {c w : Int32} (h : post (pc, md, st, en, vc, sc, p0, ca, va, tb, tm, cp, ic, oc, 1, c, w, ny, wh, me, xr, wt, yo)) : wpY_trap post (pc, md, st, en, vc, sc, p0, ca, va, tb, tm, cp, ic, oc, td, tc, tv, ny, wh, me, xr, wt, yo) c w := h
theorem y_sg {post : Int32 → Prop} {v : SY} (x k : Int32) (c : Nat) (hc : (32 - k) = nI c) (hp : post ((x <<< (nI c &&& 31)) >>> (nI c &&& 31))) : wpY_signed post v x k := by
  refine y_signed ?_
  rw [hc]
  exact hp
theorem y_holds {post : Int32 → Prop} {v : SY} (f o : Nat) (hf : f < 8) (ho : f < 2 ∧ o = 5 + f ∨ 4 ≤ f ∧ o = 3 + f) (a b : Int32) (h1 : kc_b o a b → post 1) (h0 : ¬ kc_b o a b → post 0) : wpY_holds post v (nI f) a b := by
  obtain ⟨pc, md, st, en, vc, sc, p0, ca, va, tb, tm, cp, ic, oc, td, tc, tv, ny, wh, me, xr, wt, yo⟩ := v
  have n1 : ¬ (0 : Int32) = 1 := by decide
  have n2 : ¬ (1 : Int32) = 0 := by decide
  unfold kc_b at h1 h0
  refine pk_le 2 f (fun e => pk_le 6 f (fun e2 => ?_) (fun e2 => ?_)) (fun e => ?_)
  · refine y_below ?_
    by_cases c : kc_u b ≤ kc_u a
    · have c2 := (kc_ult a b).mpr c
      rw [if_pos c]
      refine pk_eq f 6 (fun e3 => ?_) (fun e3 => ?_)
      · obtain rfl : o = 9 := by omega
        exact br_f n1 (h0 (fun z => z c2))
      · obtain rfl : o = 10 := by omega
        exact br_t rfl (h1 c2)
    · have c2 : ¬ (b ^^^ (-2147483648)) ≤ (a ^^^ (-2147483648)) := fun z => c ((kc_ult a b).mp z)
      rw [if_neg c]
      refine pk_eq f 6 (fun e3 => ?_) (fun e3 => ?_)
      · obtain rfl : o = 9 := by omega
        exact br_t rfl (h1 c2)
      · obtain rfl : o = 10 := by omega
        exact br_f n2 (h0 c2)
  · refine br_c (fun c => pk_eq f 4 (fun e3 => ?_) (fun e3 => ?_)) (fun c => pk_eq f 4 (fun e3 => ?_) (fun e3 => ?_))
    · obtain rfl : o = 7 := by omega
      exact br_f n1 (h0 (fun z => z c))
    · obtain rfl : o = 8 := by omega
      exact br_t rfl (h1 c)
    · obtain rfl : o = 7 := by omega
      exact br_t rfl (h1 c)
    · obtain rfl : o = 8 := by omega
      exact br_f n2 (h0 c)
  · refine br_c (fun c => pk_eq f 0 (fun e3 => ?_) (fun e3 => ?_)) (fun c => pk_eq f 0 (fun e3 => ?_) (fun e3 => ?_))
    · obtain rfl : o = 5 := by omega
      exact br_t rfl (h1 c)
    · obtain rfl : o = 6 := by omega
      exact br_f n2 (h0 (fun z => z c))
    · obtain rfl : o = 5 := by omega
      exact br_f n1 (h0 c)
    · obtain rfl : o = 6 := by omega
      exact br_t rfl (h1 c)
theorem y_known {post : Int32 → Prop} {v : SY} (n : Nat) (hn : n < 4096) (h1 : kn_s n → post 1) (h0 : ¬ kn_s n → post 0) : wpY_known post v (nI n) := by
  obtain ⟨pc, md, st, en, vc, sc, p0, ca, va, tb, tm, cp, ic, oc, td, tc, tv, ny, wh, me, xr, wt, yo⟩ := v
  unfold kn_s at h1 h0
  exact pk_eq n 768 (fun e => h1 (by omega)) (fun _ => pk_eq n 772 (fun e => h1 (by omega)) (fun _ => pk_eq n 773 (fun e => h1 (by omega)) (fun _ => pk_eq n 833 (fun e => h1 (by omega)) (fun _ => pk_eq n 832 (fun e => h1 (by omega)) (fun _ => pk_eq n 834 (fun e => h1 (by omega)) (fun _ => pk_eq n 835 (fun e => h1 (by omega)) (fun _ => pk_eq n 384 (fun e => h1 (by omega)) (fun _ => h0 (by omega)))))))))
theorem y_state {post : Int32 → Prop} (n : Nat) (hn : n < 4096) (h : post (kst n tb st en vc sc p0 ca va)) : wpY_state post (pc, md, st, en, vc, sc, p0, ca, va, tb, tm, cp, ic, oc, td, tc, tv, ny, wh, me, xr, wt, yo) (nI n) := by
  refine pk_eq n 768 (fun e => ?_) (fun _ => pk_eq n 772 (fun e => ?_) (fun _ => pk_eq n 773 (fun e => ?_) (fun _ => pk_eq n 833 (fun e => ?_) (fun _ => pk_eq n 832 (fun e => ?_) (fun _ => pk_eq n 834 (fun e => ?_) (fun _ => pk_eq n 835 (fun e => ?_) (fun _ => pk_eq n 384 (fun e => ?_) (fun _ => ?_))))))))
  all_goals first | (subst e; exact h) | skip
  unfold kst at h
  rw [if_neg (by omega), if_neg (by omega), if_neg (by omega), if_neg (by omega), if_neg (by omega), if_neg (by omega), if_neg (by omega), if_neg (by omega)] at h
  exact h
theorem kD_n {w : Int32} (h : ¬ (kO w = 24 ∨ (4 < kO w ∧ kO w < 11) ∨ (15 < kO w ∧ kO w < 21))) : kD w = bf w 7 5 := by unfold kD; rw [if_neg h]
theorem kp_115 {w : Int32} (h : w = 115) : kp w = 115 ∧ kf w = 0 := by subst h; decide
theorem kp_mret {w : Int32} (h : w = 807403635) : kp w = 115 ∧ kf w = 0 := by subst h; decide
/-- what executing word w leaves: v' -/
def yX (w pc md st en vc sc p0 ca va tb tm cp ic oc td tc tv ny wh : Int32) (me xr wt yo : Nat → Int32) (v' : SY) : Prop :=
  (kO w = 0 → v' = (pc, md, st, en, vc, sc, p0, ca, va, tb, tm, cp, ic, oc, td, tc, tv, ny, wh, me, xr, wt, yo)) ∧ (kO w = 1 → v' = (pc, md, st, en, vc, sc, p0, ca, va, tb, tm, cp, ic, oc, td, tc, tv, ny, wh, me, rs xr (kD w) (kI w), wt, yo)) ∧ (kO w = 2 → v' = (pc, md, st, en, vc, sc, p0, ca, va, tb, tm, cp, ic, oc, td, tc, tv, ny, wh, me, rs xr (kD w) (pc + kI w), wt, yo)) ∧
  (kO w = 3 → ∀ P : SY → Prop, P v' → wpY_jump P (pc, md, st, en, vc, sc, p0, ca, va, tb, tm, cp, ic, oc, td, tc, tv, ny, wh, me, xr, wt, yo) (pc + kI w) (nI (kD w))) ∧
  (kO w = 4 → ∀ P : SY → Prop, P v' → wpY_jump P (pc, md, st, en, vc, sc, p0, ca, va, tb, tm, cp, ic, oc, td, tc, tv, ny, wh, me, xr, wt, yo) ((xr (kA w) + kI w) &&& (-2)) (nI (kD w))) ∧
  (5 ≤ kO w → kO w ≤ 10 → (kc_b (kO w) (xr (kA w)) (xr (kB w)) → ∀ P : SY → Prop, P v' → wpY_jump P (pc, md, st, en, vc, sc, p0, ca, va, tb, tm, cp, ic, oc, td, tc, tv, ny, wh, me, xr, wt, yo) (pc + kI w) 0) ∧ (¬ kc_b (kO w) (xr (kA w)) (xr (kB w)) → v' = (pc, md, st, en, vc, sc, p0, ca, va, tb, tm, cp, ic, oc, td, tc, tv, ny, wh, me, xr, wt, yo))) ∧
  (∀ f, (f < 3 ∧ kO w = 11 + f ∨ (f = 4 ∨ f = 5) ∧ kO w = 10 + f) → ∀ P : SY → Prop, P v' → wpY_load P (pc, md, st, en, vc, sc, p0, ca, va, tb, tm, cp, ic, oc, td, tc, tv, ny, wh, me, xr, wt, yo) (xr (kA w) + kI w) (nI f) (nI (kD w))) ∧
  (∀ f, f < 3 → kO w = 16 + f → ∀ P : SY → Prop, P v' → wpY_store P (pc, md, st, en, vc, sc, p0, ca, va, tb, tm, cp, ic, oc, td, tc, tv, ny, wh, me, xr, wt, yo) (xr (kA w) + kI w) (nI f) (xr (kB w))) ∧
  (kO w = 19 → (md = 0 → v' = (pc, md, st, en, vc, sc, p0, ca, va, tb, tm, cp, ic, oc, 1, 8, 0, ny, wh, me, xr, wt, yo)) ∧ (¬ md = 0 → v' = (pc, md, st, en, vc, sc, p0, ca, va, tb, tm, cp, ic, oc, 1, 11, 0, ny, wh, me, xr, wt, yo))) ∧
  (kO w = 20 → (md = 3 → v' = (pc, if st &&& 6144 = 0 then 0 else 3, (if st &&& 128 = 0 then 0 else 8) ||| 128, en, vc, sc, p0, ca, va, tb, tm, cp, ic, oc, td, tc, tv, p0, wh, me, xr, wt, yo)) ∧ (¬ md = 3 → v' = (pc, md, st, en, vc, sc, p0, ca, va, tb, tm, cp, ic, oc, 1, 2, w, ny, wh, me, xr, wt, yo))) ∧
  (∀ f n, 0 < f → f < 4 → kO w = 20 + f → n = bf w 20 12 → kn_s n → (md = 3 → ∀ P : SY → Prop, P v' → wpY_write P (pc, md, st, en, vc, sc, p0, ca, va, tb, tm, cp, ic, oc, td, tc, tv, ny, wh, me, rs xr (kD w) (kst n tb st en vc sc p0 ca va), wt, yo) (nI n) (knw f (kst n tb st en vc sc p0 ca va) (xr (kA w)))) ∧ (¬ md = 3 → v' = (pc, md, st, en, vc, sc, p0, ca, va, tb, tm, cp, ic, oc, 1, 2, w, ny, wh, me, xr, wt, yo))) ∧
  (kO w = 24 → v' = (pc, md, st, en, vc, sc, p0, ca, va, tb, tm, cp, ic, oc, 1, 2, w, ny, wh, me, xr, wt, yo)) ∧
  (32 ≤ kO w → kO w < 64 → v' = (pc, md, st, en, vc, sc, p0, ca, va, tb, tm, cp, ic, oc, td, tc, tv, ny, wh, me, rs xr (kD w) (kc_v (kO w - 32) (xr (kA w)) (xr (kB w))), wt, yo)) ∧
  (64 ≤ kO w → v' = (pc, md, st, en, vc, sc, p0, ca, va, tb, tm, cp, ic, oc, td, tc, tv, ny, wh, me, rs xr (kD w) (kc_v (kO w - 64) (xr (kA w)) (kI w)), wt, yo))
theorem ye_tr {v' : SY} {w : Int32} {P : SY → Prop} (hP : P v') (h : v' = (pc, md, st, en, vc, sc, p0, ca, va, tb, tm, cp, ic, oc, 1, 2, w, ny, wh, me, xr, wt, yo)) : wY_execute_555 P w pc md st en vc sc p0 ca va tb tm cp ic oc td tc tv ny wh me xr wt yo := by
  subst h; exact hP
theorem ye_sys {v' : SY} {w : Int32} (hp : kp w = 115) (H : yX w pc md st en vc sc p0 ca va tb tm cp ic oc td tc tv ny wh me xr wt yo v') (P : SY → Prop) (hP : P v') : wpY_system P (pc, md, st, en, vc, sc, p0, ca, va, tb, tm, cp, ic, oc, td, tc, tv, ny, wh, me, xr, wt, yo) w (nI (bf w 7 5)) (nI (kf w)) (xr (kA w)) := by
  obtain ⟨_, _, _, _, _, _, _, _, h19, h20, h21, h24, _, _⟩ := H
  have hf := kf_lt w
  unfold wpY_system
  refine y_bits w 20 31 (by omega) (by omega) ?_
  have h109 : kO w = 24 ∨ kO w = 20 ∧ (¬ md = 3) ∨ kCs w → wY_system_109 P w (nI (bf w 7 5)) (nI (kf w)) (xr (kA w)) (nI (bf w 20 (31 + 1 - 20))) pc md st en vc sc p0 ca va tb tm cp ic oc td tc tv ny wh me xr wt yo := by
    intro c
    have tr : (v' = (pc, md, st, en, vc, sc, p0, ca, va, tb, tm, cp, ic, oc, 1, 2, w, ny, wh, me, xr, wt, yo)) → wY_system_190 P w pc md st en vc sc p0 ca va tb tm cp ic oc td tc tv ny wh me xr wt yo := fun e => by subst e; exact hP
    by_cases cs : kCs w
    · have ho := kO_115a hp cs
      have hh := h21 (kf w) (bf w 20 12) cs.1 cs.2.1 ho rfl cs.2.2
      have hD : kD w = bf w 7 5 := kD_n (w := w) (by have := cs.1; have := cs.2.1; omega)
      have h1 := cs.1
      have h2 := cs.2.1
      refine pk_lt (kf w) 1 (fun z => absurd z (by omega)) (fun _ => pk_lt 3 (kf w) (fun z => absurd z (by omega)) (fun _ => br_c (fun hm => ?_) (fun hm => tr (hh.2 hm))))
      refine y_known (bf w 20 12) (bf_lt w 20 12) (fun _ => br_f (by decide) ?_) (fun z => absurd cs.2.2 z)
      refine y_state (bf w 20 12) (bf_lt w 20 12) ?_
      refine y_set (bf w 7 5) (bf_lt w 7 5) _ ?_
      have hw := hh.1 hm
      rw [hD] at hw
      refine pk_eq (kf w) 1 (fun e => ?_) (fun e => pk_eq (kf w) 2 (fun e2 => ?_) (fun e2 => ?_))
      · unfold knw at hw; rw [if_pos e] at hw
        exact hw _ hP
      · unfold knw at hw; rw [if_neg e, if_pos e2] at hw
        exact hw _ hP
      · unfold knw at hw; rw [if_neg e, if_neg e2] at hw
        exact hw _ hP
    · have e2 : v' = (pc, md, st, en, vc, sc, p0, ca, va, tb, tm, cp, ic, oc, 1, 2, w, ny, wh, me, xr, wt, yo) := by
        rcases c with c | c | c
        · exact h24 c
        · exact (h20 c.1).2 c.2
        · exact absurd c cs
      refine pk_lt (kf w) 1 (fun _ => tr e2) (fun g1 => pk_lt 3 (kf w) (fun _ => tr e2) (fun g2 => br_c (fun hm => ?_) (fun hm => tr e2)))
      exact y_known (bf w 20 12) (bf_lt w 20 12) (fun z => absurd (⟨by omega, by omega, z⟩ : kCs w) cs) (fun _ => br_t rfl (tr e2))
  refine br_c (fun e => ?_) (fun e => br_c (fun e2 => ?_) (fun e2 => ?_))
  · have cs : ¬ kCs w := fun c => absurd c.1 (by have := (kp_115 e).2; omega)
    have ho : kO w = 19 := by rw [kO_115b hp cs]; unfold kSy; rw [if_pos e]
    refine br_c (fun hm => ?_) (fun hm => ?_)
    · obtain rfl := (h19 ho).1 hm
      exact hP
    · obtain rfl := (h19 ho).2 hm
      exact hP
  · have cs : ¬ kCs w := fun c => absurd c.1 (by have := (kp_mret e2).2; omega)
    have ho : kO w = 20 := by rw [kO_115b hp cs]; unfold kSy; rw [if_neg e, if_pos e2]
    refine br_c (fun hm => ?_) (fun hm => h109 (Or.inr (Or.inl ⟨ho, hm⟩)))
    have hv := (h20 ho).1 hm
    refine br_c (fun c => ?_) (fun c => ?_)
    · rw [if_pos c] at hv
      refine br_c (fun c2 => nm_e ?_) (fun c2 => nm_e ?_)
      · rw [if_pos c2] at hv; subst hv; exact hP
      · rw [if_neg c2] at hv; subst hv; exact hP
    · rw [if_neg c] at hv
      refine br_c (fun c2 => nm_e ?_) (fun c2 => nm_e ?_)
      · rw [if_pos c2] at hv; subst hv; exact hP
      · rw [if_neg c2] at hv; subst hv; exact hP
  · by_cases cs : kCs w
    · exact h109 (Or.inr (Or.inr cs))
    · refine h109 (Or.inl ?_)
      rw [kO_115b hp cs]; unfold kSy; rw [if_neg e, if_neg e2]
theorem ye_imm {v' : SY} {w : Int32} (hp : kp w = 19) (H : yX w pc md st en vc sc p0 ca va tb tm cp ic oc td tc tv ny wh me xr wt yo v') (P : SY → Prop) (hP : P v') : wpY_immediateOp P (pc, md, st, en, vc, sc, p0, ca, va, tb, tm, cp, ic, oc, td, tc, tv, ny, wh, me, xr, wt, yo) w (nI (bf w 7 5)) (nI (kf w)) (xr (kA w)) (w >>> ((20 : Int32) &&& 31)) (nI (kg w)) := by
  obtain ⟨_, _, _, _, _, _, _, _, _, _, _, h24, _, h64⟩ := H
  have hf := kf_lt w
  have hg := kg_lt w
  have ho := kO_19 hp
  have tr : kO w = 24 → wY_immediateOp_38 P w pc md st en vc sc p0 ca va tb tm cp ic oc td tc tv ny wh me xr wt yo := fun e => by obtain rfl := h24 e; exact hP
  have go : 64 ≤ kO w → v' = (pc, md, st, en, vc, sc, p0, ca, va, tb, tm, cp, ic, oc, td, tc, tv, ny, wh, me, rs xr (bf w 7 5) (kc_v (kO w - 64) (xr (kA w)) (kI w)), wt, yo) := fun e => by
    rw [← kD_n (w := w) (by omega)]; exact h64 e
  unfold wpY_immediateOp
  refine y_bits w 20 24 (by omega) (by omega) ?_
  have k47 : kO w ≠ 24 → wY_immediateOp_47 P (nI (bf w 7 5)) (nI (kf w)) (xr (kA w)) (w >>> ((20 : Int32) &&& 31)) (nI (kg w)) (nI (bf w 20 (24 + 1 - 20))) pc md st en vc sc p0 ca va tb tm cp ic oc td tc tv ny wh me xr wt yo := by
    intro c
    have h64' : 64 ≤ kO w := by have := kSh_r (kf w) (kg w) hf; omega
    have hv := go h64'
    refine pk_eq (kf w) 1 (fun e => ?_) (fun e => pk_eq (kf w) 5 (fun e2 => ?_) (fun e2 => ?_))
    · rw [kI_n c (kJ_19a hp (Or.inl e))] at hv
      unfold kSh at ho
      rw [if_pos e] at ho
      have g0 : kg w = 0 := by
        rcases Nat.eq_zero_or_pos (kg w) with z | z
        · exact z
        · rw [if_neg (by omega)] at ho; exact absurd ho c
      rw [if_pos g0] at ho
      rw [ho] at hv
      refine y_comb (kf w) (kg w) (65 - 64) hf hg _ _ (Or.inr (Or.inr ⟨Or.inr g0, by omega⟩)) ?_
      refine y_set (bf w 7 5) (bf_lt w 7 5) _ ?_
      subst hv; exact hP
    · rw [kI_n c (kJ_19a hp (Or.inr e2))] at hv
      unfold kSh at ho
      rw [if_neg e, if_pos e2] at ho
      by_cases g0 : kg w = 0
      · rw [if_pos g0] at ho
        rw [ho] at hv
        refine y_comb (kf w) (kg w) (69 - 64) hf hg _ _ (Or.inr (Or.inr ⟨Or.inr g0, by omega⟩)) ?_
        refine y_set (bf w 7 5) (bf_lt w 7 5) _ ?_
        subst hv; exact hP
      · rw [if_neg g0] at ho
        have g32 : kg w = 32 := by
          by_cases z : kg w = 32
          · exact z
          · rw [if_neg z] at ho; exact absurd ho c
        rw [if_pos g32] at ho
        rw [ho] at hv
        refine y_comb (kf w) (kg w) (73 - 64) hf hg _ _ (Or.inr (Or.inl ⟨e2, g0, by omega⟩)) ?_
        refine y_set (bf w 7 5) (bf_lt w 7 5) _ ?_
        subst hv; exact hP
    · rw [kI_n c (kJ_19b hp e e2)] at hv
      unfold kSh at ho
      rw [if_neg e, if_neg e2] at ho
      rw [ho] at hv
      refine y_comb (kf w) 0 (64 + kf w - 64) hf (by omega) _ _ (Or.inr (Or.inr ⟨Or.inr rfl, by omega⟩)) ?_
      refine y_set (bf w 7 5) (bf_lt w 7 5) _ ?_
      subst hv; exact hP
  refine pk_eq (kf w) 1 (fun e => pk_eq (kg w) 0 (fun e2 => ?_) (fun e2 => ?_)) (fun e => ?_)
  · refine pk_eq (kf w) 5 (fun z => absurd z (by omega)) (fun _ => k47 ?_)
    rw [ho]; unfold kSh; rw [if_pos e, if_pos e2]; omega
  · refine tr ?_
    rw [ho]; unfold kSh; rw [if_pos e, if_neg e2]
  · refine pk_eq (kf w) 5 (fun e2 => pk_eq (kg w) 0 (fun e3 => k47 ?_) (fun e3 => pk_eq (kg w) 32 (fun e4 => k47 ?_) (fun e4 => tr ?_))) (fun e2 => k47 ?_)
    · rw [ho]; unfold kSh; rw [if_neg e, if_pos e2, if_pos e3]; omega
    · rw [ho]; unfold kSh; rw [if_neg e, if_pos e2, if_neg e3, if_pos e4]; omega
    · rw [ho]; unfold kSh; rw [if_neg e, if_pos e2, if_neg e3, if_neg e4]
    · rw [ho]; unfold kSh; rw [if_neg e, if_neg e2]; omega
theorem ye_524 {v' : SY} {w : Int32} (H : yX w pc md st en vc sc p0 ca va tb tm cp ic oc td tc tv ny wh me xr wt yo v') (hc : kp w = 15 ∨ kp w = 115 ∨ kO w = 24) (P : SY → Prop) (hP : P v') : wY_execute_524 P w (nI (kp w)) (nI (bf w 7 5)) (nI (kf w)) (xr (kA w)) pc md st en vc sc p0 ca va tb tm cp ic oc td tc tv ny wh me xr wt yo := by
  have hf := kf_lt w
  have hp := kp_lt w
  refine pk_eq (kp w) 115 (fun e => ?_) (fun e => pk_eq (kp w) 15 (fun e2 => pk_le (kf w) 1 (fun e3 => ?_) (fun e3 => ?_)) (fun e2 => ?_))
  · exact ye_sys e H _ hP
  · obtain rfl := H.1 (by rw [kO_15 e2, if_neg (by omega)])
    exact hP
  · exact ye_tr hP (H.2.2.2.2.2.2.2.2.2.2.2.1 (by rw [kO_15 e2, if_pos (by omega)]))
  · exact ye_tr hP (H.2.2.2.2.2.2.2.2.2.2.2.1 (by omega))
theorem ye_504 {v' : SY} {w : Int32} (hp : kp w = 51) (H : yX w pc md st en vc sc p0 ca va tb tm cp ic oc td tc tv ny wh me xr wt yo v') (k : Nat) (ho : kO w = 32 + k) (hk : (kf w = 0 ∧ kg w ≠ 0 ∧ k = 8) ∨ (kf w = 5 ∧ kg w ≠ 0 ∧ k = 9) ∨ (((kf w ≠ 0 ∧ kf w ≠ 5) ∨ kg w = 0) ∧ k = kf w)) (P : SY → Prop) (hP : P v') : wY_execute_504 P (nI (bf w 7 5)) (nI (kf w)) (xr (kA w)) (xr (kB w)) (nI (kg w)) pc md st en vc sc p0 ca va tb tm cp ic oc td tc tv ny wh me xr wt yo := by
  have hf := kf_lt w
  have hg := kg_lt w
  have hv := H.2.2.2.2.2.2.2.2.2.2.2.2.1 (by omega) (by omega)
  rw [kD_n (w := w) (by omega), ho, Nat.add_sub_cancel_left] at hv
  refine y_comb (kf w) (kg w) k hf hg _ _ hk ?_
  refine y_set (bf w 7 5) (bf_lt w 7 5) _ ?_
  subst hv; exact hP
theorem ye_475 {v' : SY} {w : Int32} (H : yX w pc md st en vc sc p0 ca va tb tm cp ic oc td tc tv ny wh me xr wt yo v') (hc : (kp w = 51 ∧ (kg w ≠ 1 ∨ kf w = 2)) ∨ kp w = 15 ∨ kp w = 115 ∨ kO w = 24) (P : SY → Prop) (hP : P v') : wY_execute_475 P w (nI (kp w)) (nI (bf w 7 5)) (nI (kf w)) (xr (kA w)) (xr (kB w)) (nI (kg w)) pc md st en vc sc p0 ca va tb tm cp ic oc td tc tv ny wh me xr wt yo := by
  have hf := kf_lt w
  have hg := kg_lt w
  have hp := kp_lt w
  refine pk_eq (kp w) 51 (fun e => ?_) (fun e => ye_524 H (by omega) P hP)
  have ho := kO_51 e
  unfold kCa at ho
  refine pk_eq (kg w) 0 (fun e1 => ?_) (fun e1 => pk_eq (kg w) 32 (fun e2 => pk_eq (kf w) 0 (fun e3 => ?_) (fun e3 => pk_eq (kf w) 5 (fun e4 => ?_) (fun e4 => ?_))) (fun e2 => ?_))
  · rw [if_pos e1] at ho
    exact ye_504 e H (kf w) ho (Or.inr (Or.inr ⟨Or.inr e1, rfl⟩)) P hP
  · rw [if_neg e1, if_pos e2, if_pos e3] at ho
    exact ye_504 e H 8 ho (Or.inl ⟨e3, e1, rfl⟩) P hP
  · rw [if_neg e1, if_pos e2, if_neg e3, if_pos e4] at ho
    exact ye_504 e H 9 ho (Or.inr (Or.inl ⟨e4, e1, rfl⟩)) P hP
  · rw [if_neg e1, if_pos e2, if_neg e3, if_neg e4] at ho
    exact ye_524 H (by omega) P hP
  · rw [if_neg e1, if_neg e2] at ho
    by_cases g1 : kg w = 1
    · by_cases f2 : kf w = 2
      · rw [if_pos g1, if_pos f2] at ho
        exact ye_524 H (by omega) P hP
      · exact ye_524 H (by omega) P hP
    · rw [if_neg g1] at ho
      exact ye_524 H (by omega) P hP
theorem ye_420 {v' : SY} {w : Int32} (H : yX w pc md st en vc sc p0 ca va tb tm cp ic oc td tc tv ny wh me xr wt yo v') (hc : kp w = 19 ∨ kp w = 51 ∨ kp w = 15 ∨ kp w = 115 ∨ kO w = 24) (P : SY → Prop) (hP : P v') : wY_execute_420 P w (nI (kp w)) (nI (bf w 7 5)) (nI (kf w)) (xr (kA w)) (xr (kB w)) (nI (kg w)) (w >>> ((20 : Int32) &&& 31)) pc md st en vc sc p0 ca va tb tm cp ic oc td tc tv ny wh me xr wt yo := by
  have hf := kf_lt w
  have hg := kg_lt w
  have hp := kp_lt w
  refine pk_eq (kp w) 19 (fun e => ye_imm e H _ hP) (fun e => pk_eq (kp w) 51 (fun e1 => pk_eq (kg w) 1 (fun e2 => pk_eq (kf w) 2 (fun e3 => ?_) (fun e3 => ?_)) (fun e2 => ?_)) (fun e1 => ?_))
  · exact ye_475 H (by omega) P hP
  · have ho := kO_51 e1
    unfold kCa at ho
    rw [if_neg (by omega), if_neg (by omega), if_pos e2, if_neg e3] at ho
    have hr : 32 ≤ kO w ∧ kO w < 64 := by by_cases z : 2 ≤ kf w; (rw [if_pos z] at ho; omega); (rw [if_neg z] at ho; omega)
    have hv := H.2.2.2.2.2.2.2.2.2.2.2.2.1 hr.1 hr.2
    rw [kD_n (w := w) (by omega)] at hv
    refine y_prod (kf w) (kO w - 32) (bf w 7 5) hf e3 (bf_lt w 7 5) ?_ _ _ ?_
    · by_cases z : 2 ≤ kf w
      · rw [if_pos z] at ho; rw [if_neg (by omega)]; omega
      · rw [if_neg z] at ho; rw [if_pos (by omega)]; omega
    · subst hv; exact hP
  · exact ye_475 H (by omega) P hP
  · exact ye_475 H (by omega) P hP
theorem ye_381 {v' : SY} {w : Int32} (H : yX w pc md st en vc sc p0 ca va tb tm cp ic oc td tc tv ny wh me xr wt yo v') (hc : kp w = 35 ∨ kp w = 19 ∨ kp w = 51 ∨ kp w = 15 ∨ kp w = 115 ∨ kO w = 24) (P : SY → Prop) (hP : P v') : wY_execute_381 P w (nI (kp w)) (nI (bf w 7 5)) (nI (kf w)) (xr (kA w)) (xr (kB w)) (nI (kg w)) (w >>> ((20 : Int32) &&& 31)) pc md st en vc sc p0 ca va tb tm cp ic oc td tc tv ny wh me xr wt yo := by
  have hf := kf_lt w
  have hp := kp_lt w
  refine pk_eq (kp w) 35 (fun e => pk_le 3 (kf w) (fun e1 => ?_) (fun e1 => ?_)) (fun e => ye_420 H (by omega) P hP)
  · exact ye_420 H (by rw [kO_35 e, if_pos e1]; simp) P hP
  · have ho := kO_35 e
    rw [if_neg (by omega)] at ho
    refine y_sg _ _ 20 (by decide) ?_
    have hs := H.2.2.2.2.2.2.2.1 (kf w) e1 ho
    have hi : kI w = kS w := kI_n (by omega) (kJ_35 e)
    have e3 : ((nI (kg w) * 32 + nI (bf w 7 5)) <<< (nI 20 &&& 31)) >>> (nI 20 &&& 31) = kI w := by
      rw [hi, show nI (kg w) * 32 = nI (kg w * 32) from pk_mul _ 32, nI_add]
      exact im_S w
    rw [e3]
    exact hs _ hP
theorem ye_348 {v' : SY} {w : Int32} (H : yX w pc md st en vc sc p0 ca va tb tm cp ic oc td tc tv ny wh me xr wt yo v') (hc : kp w = 3 ∨ kp w = 35 ∨ kp w = 19 ∨ kp w = 51 ∨ kp w = 15 ∨ kp w = 115 ∨ kO w = 24) (P : SY → Prop) (hP : P v') : wY_execute_348 P w (nI (kp w)) (nI (bf w 7 5)) (nI (kf w)) (xr (kA w)) (xr (kB w)) (nI (kg w)) (w >>> ((20 : Int32) &&& 31)) pc md st en vc sc p0 ca va tb tm cp ic oc td tc tv ny wh me xr wt yo := by
  have hf := kf_lt w
  have hp := kp_lt w
  refine pk_eq (kp w) 3 (fun e => pk_eq (kf w) 3 (fun e1 => ?_) (fun e1 => pk_le 6 (kf w) (fun e2 => ?_) (fun e2 => ?_))) (fun e => ye_381 H (by omega) P hP)
  · exact ye_381 H (by rw [kO_3 e, if_pos (by omega), if_neg (by omega), if_neg (by omega)]; simp) P hP
  · exact ye_381 H (by rw [kO_3 e, if_pos (by omega), if_neg (by omega), if_neg (by omega)]; simp) P hP
  · have ho := kO_3 e
    have hcc : kf w < 3 ∧ kO w = 11 + kf w ∨ (kf w = 4 ∨ kf w = 5) ∧ kO w = 10 + kf w := by
      by_cases z : 3 ≤ kf w
      · rw [if_pos z] at ho
        by_cases z4 : kf w = 4
        · rw [if_pos z4] at ho; omega
        · rw [if_neg z4, if_pos (by omega)] at ho; omega
      · rw [if_neg z] at ho; omega
    have hs := H.2.2.2.2.2.2.1 (kf w) hcc
    have hi : kI w = w >>> ((20 : Int32) &&& 31) := kI_n (by omega) (kJ_o (by omega) (by omega) (by omega) (by omega) (by omega) (by omega) (by omega))
    rw [hi, kD_n (w := w) (by omega)] at hs
    exact hs _ hP
theorem ye_242 {v' : SY} {w : Int32} (H : yX w pc md st en vc sc p0 ca va tb tm cp ic oc td tc tv ny wh me xr wt yo v') (h1 : kp w ≠ 55) (h2 : kp w ≠ 23) (h3 : kp w ≠ 111) (h4 : kp w ≠ 103 ∨ kf w ≠ 0) (P : SY → Prop) (hP : P v') : wY_execute_242 P w (nI (kp w)) (nI (bf w 7 5)) (nI (kf w)) (xr (kA w)) (xr (kB w)) (nI (kg w)) (w >>> ((20 : Int32) &&& 31)) pc md st en vc sc p0 ca va tb tm cp ic oc td tc tv ny wh me xr wt yo := by
  have hf := kf_lt w
  have hp := kp_lt w
  refine pk_eq (kp w) 99 (fun e => pk_eq (kf w) 2 (fun e1 => ?_) (fun e1 => pk_eq (kf w) 3 (fun e2 => ?_) (fun e2 => ?_))) (fun e => ?_)
  · exact ye_348 H (by rw [kO_99 e, if_pos (by omega), if_neg (by omega)]; simp) P hP
  · exact ye_348 H (by rw [kO_99 e, if_pos (by omega), if_neg (by omega)]; simp) P hP
  · have ho := kO_99 e
    have hcc : kf w < 2 ∧ kO w = 5 + kf w ∨ 4 ≤ kf w ∧ kO w = 3 + kf w := by
      by_cases z : 2 ≤ kf w
      · rw [if_pos z, if_pos (by omega)] at ho; omega
      · rw [if_neg z] at ho; omega
    have hb := H.2.2.2.2.2.1 (by omega) (by omega)
    have hi : kI w = kBr w := kI_n (by omega) (kJ_99 e)
    refine y_bits w 31 31 (by omega) (by omega) (y_bits w 7 7 (by omega) (by omega) (y_bits w 25 30 (by omega) (by omega) (y_bits w 8 11 (by omega) (by omega) (nm_e ?_))))
    refine y_holds (kf w) (kO w) hf hcc _ _ (fun c => br_f (by decide) ?_) (fun c => br_t rfl ?_)
    · refine y_sg _ _ 19 (by decide) ?_
      have e3 : ((nI (bf w 31 1) * 4096 + nI (bf w 7 1) * 2048 + nI (bf w 25 6) * 32 + nI (bf w 8 4) * 2) <<< (nI 19 &&& 31)) >>> (nI 19 &&& 31) = kI w := by
        rw [hi, show nI (bf w 31 1) * 4096 = nI (bf w 31 1 * 4096) from pk_mul _ 4096, show nI (bf w 7 1) * 2048 = nI (bf w 7 1 * 2048) from pk_mul _ 2048, show nI (bf w 25 6) * 32 = nI (bf w 25 6 * 32) from pk_mul _ 32, show nI (bf w 8 4) * 2 = nI (bf w 8 4 * 2) from pk_mul _ 2, nI_add, nI_add, nI_add]
        exact im_B w
      have hj := hb.1 c
      rw [← e3] at hj
      exact hj _ hP
    · obtain rfl := hb.2 c
      exact hP
  · refine ye_348 H ?_ P hP
    by_cases z : kp w = 103
    · have z0 : kf w ≠ 0 := by omega
      have := kO_103 z
      rw [if_neg z0] at this
      omega
    · by_cases z2 : kp w = 3 ∨ kp w = 35 ∨ kp w = 19 ∨ kp w = 51 ∨ kp w = 15 ∨ kp w = 115
      · omega
      · have := kO_o (w := w) (by omega) (by omega) (by omega) (by omega) (by omega) (by omega) (by omega) (by omega) (by omega) (by omega) (by omega)
        omega
theorem y_exec {v' : SY} {w : Int32} (H : yX w pc md st en vc sc p0 ca va tb tm cp ic oc td tc tv ny wh me xr wt yo v') (P : SY → Prop) (hP : P v') : wpY_execute P (pc, md, st, en, vc, sc, p0, ca, va, tb, tm, cp, ic, oc, td, tc, tv, ny, wh, me, xr, wt, yo) w := by
  have hf := kf_lt w
  have hp := kp_lt w
  have hA := kA_lt w
  have hB := kB_lt w
  unfold wpY_execute
  refine y_bits w 0 6 (by omega) (by omega) (y_bits w 7 11 (by omega) (by omega) (y_bits w 12 14 (by omega) (by omega) (y_bits w 15 19 (by omega) (by omega) ⟨vp_in_nI hA (by omega), ?_⟩)))
  refine nm_r (e' := xr (kA w)) (congrArg xr (nI_clamp (show kA w < 2 ^ 31 by omega))) (y_bits w 20 24 (by omega) (by omega) ⟨vp_in_nI hB (by omega), ?_⟩)
  refine nm_r (e' := xr (kB w)) (congrArg xr (nI_clamp (show kB w < 2 ^ 31 by omega))) (y_bits w 25 31 (by omega) (by omega) (y_bits w 20 31 (by omega) (by omega) (y_sg _ _ 20 (by decide) ?_)))
  have eI : (nI (bf w 20 (31 + 1 - 20)) <<< (nI 20 &&& 31)) >>> (nI 20 &&& 31) = w >>> ((20 : Int32) &&& 31) := im_I w
  rw [eI]
  refine nm_e ?_
  refine pk_eq (kp w) 55 (fun e => ?_) (fun e1 => pk_eq (kp w) 23 (fun e => ?_) (fun e2 => pk_eq (kp w) 111 (fun e => ?_) (fun e3 => pk_eq (kp w) 103 (fun e => pk_eq (kf w) 0 (fun e4 => ?_) (fun e4 => ?_)) (fun e4 => ?_))))
  · have ho := kO_55 e
    have hv := H.2.1 ho
    rw [kI_n (by omega) (kJ_55 e), kD_n (by omega)] at hv
    refine y_set (bf w 7 5) (bf_lt w 7 5) _ ?_
    subst hv; exact hP
  · have ho := kO_23 e
    have hv := H.2.2.1 ho
    rw [kI_n (by omega) (kJ_23 e), kD_n (by omega)] at hv
    refine y_set (bf w 7 5) (bf_lt w 7 5) _ ?_
    subst hv; exact hP
  · have ho := kO_111 e
    have hv := H.2.2.2.1 ho
    rw [kD_n (w := w) (by omega)] at hv
    have hi : kI w = kJm w := kI_n (by omega) (kJ_111 e)
    refine y_bits w 31 31 (by omega) (by omega) (y_bits w 12 19 (by omega) (by omega) (y_bits w 20 20 (by omega) (by omega) (y_bits w 21 30 (by omega) (by omega) (nm_e (y_sg _ _ 11 (by decide) ?_)))))
    have e3 : ((nI (bf w 31 1) * 1048576 + nI (bf w 12 8) * 4096 + nI (bf w 20 1) * 2048 + nI (bf w 21 10) * 2) <<< (nI 11 &&& 31)) >>> (nI 11 &&& 31) = kI w := by
      rw [hi, show nI (bf w 31 1) * 1048576 = nI (bf w 31 1 * 1048576) from pk_mul _ 1048576, show nI (bf w 12 8) * 4096 = nI (bf w 12 8 * 4096) from pk_mul _ 4096, show nI (bf w 20 1) * 2048 = nI (bf w 20 1 * 2048) from pk_mul _ 2048, show nI (bf w 21 10) * 2 = nI (bf w 21 10 * 2) from pk_mul _ 2, nI_add, nI_add, nI_add]
      exact im_J w
    rw [← e3] at hv
    exact hv _ hP
  · have ho := kO_103 e
    rw [if_pos e4] at ho
    have hv := H.2.2.2.2.1 ho
    have hi : kI w = w >>> ((20 : Int32) &&& 31) := kI_n (by omega) (kJ_o (by omega) (by omega) (by omega) (by omega) (by omega) (by omega) (by omega))
    rw [kD_n (w := w) (by omega), hi] at hv
    exact hv _ hP
  · exact ye_242 H e1 e2 e3 (Or.inr e4) P hP
  · exact ye_242 H e1 e2 e3 (Or.inl e4) P hP
end
end
section
/-! the blocks: ghost starts S and lengths L; how many blocks hold a word -/
def cn (S L : Nat → Nat) (j : Nat) : Nat → Nat
  | 0 => 0
  | m + 1 => cn S L j m + (if S m ≤ j ∧ j < S m + L m then 1 else 0)
theorem cn_le (S L : Nat → Nat) (j m : Nat) : cn S L j m ≤ m := by
  induction m with
  | zero => exact Nat.le_refl 0
  | succ m ih => show cn S L j m + _ ≤ _; split <;> omega
theorem cn_upd {S L S' L' : Nat → Nat} {b : Nat} (hS : ∀ c, c ≠ b → S' c = S c) (hL : ∀ c, c ≠ b → L' c = L c) (j m : Nat) :
    cn S' L' j m + (if b < m ∧ S b ≤ j ∧ j < S b + L b then 1 else 0) = cn S L j m + (if b < m ∧ S' b ≤ j ∧ j < S' b + L' b then 1 else 0) := by
  induction m with
  | zero => rw [if_neg (by omega), if_neg (by omega)]; rfl
  | succ m ih =>
    show cn S' L' j m + _ + _ = cn S L j m + _ + _
    by_cases e : m = b
    · subst e
      rw [if_neg (by omega), if_neg (by omega)] at ih
      by_cases c1 : S m ≤ j ∧ j < S m + L m <;> by_cases c2 : S' m ≤ j ∧ j < S' m + L' m
      · rw [if_pos c1, if_pos c2, if_pos ⟨by omega, c1⟩, if_pos ⟨by omega, c2⟩]; omega
      · rw [if_pos c1, if_neg c2, if_pos ⟨by omega, c1⟩, if_neg (fun z => c2 z.2)]; omega
      · rw [if_neg c1, if_pos c2, if_neg (fun z => c1 z.2), if_pos ⟨by omega, c2⟩]; omega
      · rw [if_neg c1, if_neg c2, if_neg (fun z => c1 z.2), if_neg (fun z => c2 z.2)]; omega
    · rw [hS m e, hL m e]
      have e1 : (b < m + 1 ∧ S b ≤ j ∧ j < S b + L b) ↔ (b < m ∧ S b ≤ j ∧ j < S b + L b) := by omega
      have e2 : (b < m + 1 ∧ S' b ≤ j ∧ j < S' b + L' b) ↔ (b < m ∧ S' b ≤ j ∧ j < S' b + L' b) := by omega
      simp only [e1, e2]
      omega
theorem cn_pos {S L : Nat → Nat} {j b : Nat} : ∀ {m : Nat}, b < m → S b ≤ j → j < S b + L b → 0 < cn S L j m := by
  intro m
  induction m with
  | zero => intro h; omega
  | succ m ih =>
    intro h h1 h2
    show 0 < cn S L j m + _
    by_cases e : b = m
    · subst e; rw [if_pos ⟨h1, h2⟩]; omega
    · have := ih (by omega) h1 h2; omega
def hB (S L : Nat → Nat) (bs bl bo hd : Nat → Int32) : Prop :=
  (∀ b, b < 24 → bl b = nI (L b) ∧ L b ≤ 8 ∧ (0 < L b → bs b = nI (S b) ∧ S b + L b ≤ 256 ∧ bo (S b) = nI (b + 1))) ∧
  (∀ w, w < 256 → bo w = 0 ∨ ∃ b, b < 24 ∧ bo w = nI (b + 1) ∧ 0 < L b ∧ S b = w) ∧
  (∀ j, j < 256 → hd j = nI (cn S L j 24))
theorem na_b : ∀ c, c < 128 → vp_nar .byte ((nI c).toInt8.toInt32) = nI c := by decide +kernel
theorem na_b0 : vp_nar .byte 0 = 0 := by decide
theorem na_z0 : vp_nar .boolean 0 = 0 := by decide
theorem na_z1 : vp_nar .boolean 1 = 1 := by decide
def uN0 (L : Nat → Nat) (b x : Nat) : Nat → Nat := fun c => if c = b then x else L c
theorem uN0_s {L : Nat → Nat} {b x : Nat} : uN0 L b x b = x := if_pos rfl
theorem uN0_n {L : Nat → Nat} {b x c : Nat} (h : c ≠ b) : uN0 L b x c = L c := if_neg h
section
variable {pc nx md tm cp tr st en vc p0 sc ca va tb ih ic oc tn sl dO dD dA dB dI kn td tc tv ny wh : Int32} {me xr ai ao on pg oo od oa ob om bs bl bo hd ct un wt yo : Nat → Int32}
theorem xr_loop {b s l : Nat} (h24 : b < 24) (hs : bs b = nI s) (hl : bl b = nI l) (hsl : s + l ≤ 256) : ∀ (d i : Nat) (g : Nat → Nat) (hd0 : Nat → Int32), i + d = s + l →
    (∀ j, j < 256 → hd0 j = nI (g j) ∧ g j ≤ 24) → (∀ j, i ≤ j → j < i + d → 0 < g j) →
    ∃ hd' : Nat → Int32, (∀ j, j < 256 → hd' j = nI (g j - if i ≤ j ∧ j < i + d then 1 else 0)) ∧
      ∀ post : SX → Prop, post (pc, nx, md, tm, cp, tr, st, en, vc, p0, sc, ca, va, tb, ih, ic, oc, tn, sl, dO, dD, dA, dB, dI, kn, me, xr, ai, ao, on, pg, oo, od, oa, ob, om, bs, upd bl b 0, bo, hd', ct, un) → wX_remove_19 post (nI b) pc nx md tm cp tr st en vc p0 sc ca va tb ih ic oc tn sl dO dD dA dB dI kn (d + 1) (nI i) me xr ai ao on pg oo od oa ob om bs bl bo hd0 ct un := by
  have vb : vp_in (nI b) 24 := vp_in_nI h24 (by omega)
  have cb : (nI b).toNatClampNeg = b := nI_clamp (by omega)
  intro d
  induction d with
  | zero =>
    intro i g hd0 hi hg hp
    refine ⟨hd0, fun j hj => ?_, fun post h => ?_⟩
    · rw [if_neg (by omega)]; exact (hg j hj).1
    · unfold wX_remove_19
      rw [cb, hs, hl, nI_add, na_b0]
      exact ⟨vb, vb, br_t (nI_le (by omega) (by omega)) ⟨vb, nm_e h⟩⟩
  | succ d ih =>
    intro i g hd0 hi hg hp
    have h0 := hg i (by omega)
    have h1 := hp i (by omega) (by omega)
    have e1 : hd0 i - 1 = nI (g i - 1) := by rw [h0.1, ← nI_pred (g i - 1)]; congr 2; omega
    obtain ⟨hd', k1, k2⟩ := ih (i + 1) (fun j => if j = i then g i - 1 else g j) (upd hd0 i (nI (g i - 1))) (by omega) (fun j hj => by
      by_cases e : j = i
      · subst e; rw [pk_us, if_pos rfl]; exact ⟨rfl, by omega⟩
      · rw [pk_un e, if_neg e]; exact hg j hj) (fun j a b => by
      rw [if_neg (by omega)]; exact hp j (by omega) (by omega))
    refine ⟨hd', fun j hj => ?_, fun post h => ?_⟩
    · rw [k1 j hj]
      congr 1
      by_cases e : j = i
      · subst e; rw [if_pos rfl, if_neg (by omega), if_pos (by omega)]; omega
      · rw [if_neg e]
        by_cases z : i + 1 ≤ j ∧ j < i + 1 + d
        · rw [if_pos z, if_pos (by omega)]
        · rw [if_neg z, if_neg (by omega)]
    · have vi : vp_in (nI i) 256 := vp_in_nI (by omega) (by omega)
      unfold wX_remove_19
      rw [cb, hs, hl, nI_add]
      refine ⟨vb, vb, br_f (nI_ge (by omega) (by omega)) ⟨vi, vi, ?_⟩⟩
      rw [nI_clamp (by omega), e1, na_b _ (by omega)]
      refine nm_e (nm_r (nI_1 i) (k2 post h))
theorem x_remove {S L : Nat → Nat} (H : hB S L bs bl bo hd) {b : Nat} (h24 : b < 24) (h0 : 0 < L b) : ∃ bl' bo' hd' : Nat → Int32, hB S (uN0 L b 0) bs bl' bo' hd' ∧
    ∀ post : SX → Prop, post (pc, nx, md, tm, cp, tr, st, en, vc, p0, sc, ca, va, tb, ih, ic, oc, tn, sl, dO, dD, dA, dB, dI, kn, me, xr, ai, ao, on, pg, oo, od, oa, ob, om, bs, bl', bo', hd', ct, un) → wpX_remove post (pc, nx, md, tm, cp, tr, st, en, vc, p0, sc, ca, va, tb, ih, ic, oc, tn, sl, dO, dD, dA, dB, dI, kn, me, xr, ai, ao, on, pg, oo, od, oa, ob, om, bs, bl, bo, hd, ct, un) (nI b) := by
  have vb : vp_in (nI b) 24 := vp_in_nI h24 (by omega)
  have cb : (nI b).toNatClampNeg = b := nI_clamp (by omega)
  obtain ⟨h1, h2, h3⟩ := H
  obtain ⟨k1, k2, k3⟩ := h1 b h24
  obtain ⟨k4, k5, k6⟩ := k3 h0
  have cle := fun j => cn_le S L j 24
  have cup := fun j => cn_upd (S' := S) (L' := uN0 L b 0) (L := L) (b := b) (fun _ _ => rfl) (fun c hc => uN0_n hc) j 24
  obtain ⟨hd', m1, m2⟩ := xr_loop (bo := upd bo (S b) 0) h24 k4 k1 k5 (L b) (S b) (fun j => cn S L j 24) hd rfl (fun j hj => ⟨h3 j hj, cle j⟩) (fun j a c => cn_pos h24 a c)
  refine ⟨upd bl b 0, upd bo (S b) 0, hd', ⟨fun c hc => ?_, fun w hw => ?_, fun j hj => ?_⟩, fun post h => ?_⟩
  · by_cases e : c = b
    · subst e; rw [pk_us, uN0_s]; exact ⟨nI_0.symm, by omega, fun z => absurd z (by omega)⟩
    · rw [pk_un e, uN0_n e]
      obtain ⟨a1, a2, a3⟩ := h1 c hc
      refine ⟨a1, a2, fun z => ?_⟩
      obtain ⟨b1, b2, b3⟩ := a3 z
      refine ⟨b1, b2, ?_⟩
      rw [pk_un ?_]
      · exact b3
      · intro q
        rw [q, k6, nI_eq (by omega) (by omega)] at b3
        omega
  · by_cases e : w = S b
    · subst e; rw [pk_us]; exact Or.inl rfl
    · rw [pk_un e]
      rcases h2 w hw with z | ⟨c, c1, c2, c3, c4⟩
      · exact Or.inl z
      · refine Or.inr ⟨c, c1, c2, ?_, c4⟩
        rw [uN0_n (fun q => e (by rw [← c4, q]))]
        exact c3
  · rw [m1 j hj]
    have q := cup j
    rw [uN0_s] at q
    rw [if_neg (show ¬ (b < 24 ∧ S b ≤ j ∧ j < S b + 0) by omega)] at q
    congr 1
    by_cases z : S b ≤ j ∧ j < S b + L b
    · rw [if_pos z]; rw [if_pos ⟨h24, z⟩] at q; omega
    · rw [if_neg z]; rw [if_neg (fun y => z y.2)] at q; omega
  · unfold wpX_remove
    dsimp only
    rw [cb, k4, na_b0, nI_clamp (show S b < 2 ^ 31 by omega)]
    exact ⟨vb, vp_in_nI (by omega) (by omega), nm_e ⟨vb, nm_e ⟨_, m2 post h⟩⟩⟩
end
end
section
/-! X: forgetPages, setWord -/
section
variable {pc nx md tm cp tr st en vc p0 sc ca va tb ih ic oc tn sl dO dD dA dB dI kn td tc tv ny wh : Int32} {me xr ai ao on pg oo od oa ob om bs bl bo hd ct un wt yo : Nat → Int32}
theorem xf_loop : ∀ (d i : Nat) (on0 : Nat → Int32), i + d = 48 →
    ∃ on' : Nat → Int32, (∀ p, p < 48 → on' p = if i ≤ p then 0 else on0 p) ∧
      ∀ post : SX → Prop, post (pc, nx, md, tm, cp, tr, st, en, vc, p0, sc, ca, va, tb, ih, ic, oc, tn, sl, dO, dD, dA, dB, dI, kn, me, xr, ai, ao, on', pg, oo, od, oa, ob, om, bs, bl, bo, hd, ct, un) → wX_forgetPages_7 post pc nx md tm cp tr st en vc p0 sc ca va tb ih ic oc tn sl dO dD dA dB dI kn (d + 1) (nI i) me xr ai ao on0 pg oo od oa ob om bs bl bo hd ct un := by
  intro d
  induction d with
  | zero =>
    intro i on0 hi
    refine ⟨on0, fun p hp => by rw [if_neg (by omega)], fun post h => ?_⟩
    exact br_t (nI_le (a := 48) (by omega) (by omega)) h
  | succ d ih =>
    intro i on0 hi
    obtain ⟨on', k1, k2⟩ := ih (i + 1) (upd on0 i 0) (by omega)
    refine ⟨on', fun p hp => ?_, fun post h => ?_⟩
    · rw [k1 p hp]
      by_cases e : p = i
      · subst e; rw [if_neg (by omega), if_pos (by omega), pk_us]
      · rw [pk_un e]
        by_cases z : i + 1 ≤ p
        · rw [if_pos z, if_pos (by omega)]
        · rw [if_neg z, if_neg (by omega)]
    · refine br_f (nI_ge (b := 48) (by omega) (by omega)) ⟨vp_in_nI (by omega) (by omega), ?_⟩
      rw [nI_clamp (by omega), na_z0]
      exact nm_e (nm_r (nI_1 i) (k2 post h))
theorem x_forget : ∃ on' : Nat → Int32, (∀ p, p < 48 → on' p = 0) ∧ ∀ post : SX → Prop, post (pc, nx, md, tm, cp, tr, st, en, vc, p0, sc, ca, va, tb, ih, ic, oc, tn, 1, dO, dD, dA, dB, dI, kn, me, xr, ai, ao, on', pg, oo, od, oa, ob, om, bs, bl, bo, hd, ct, un) → wpX_forgetPages post (pc, nx, md, tm, cp, tr, st, en, vc, p0, sc, ca, va, tb, ih, ic, oc, tn, sl, dO, dD, dA, dB, dI, kn, me, xr, ai, ao, on, pg, oo, od, oa, ob, om, bs, bl, bo, hd, ct, un) := by
  obtain ⟨on', k1, k2⟩ := xf_loop (sl := 1) 48 0 on rfl
  refine ⟨on', fun p hp => (k1 p hp).trans (if_pos (by omega)), fun post h => ?_⟩
  unfold wpX_forgetPages
  exact ⟨49, k2 post h⟩
theorem xs_loop {S : Nat → Nat} {w : Nat} (hw : w < 256) : ∀ (d i : Nat) (L : Nat → Nat) (bl bo hd : Nat → Int32), i + d = 24 → hB S L bs bl bo hd →
    (∀ b, b < i → ¬ (S b ≤ w ∧ w < S b + L b)) →
    ∃ (L' : Nat → Nat) (bl' bo' hd' : Nat → Int32), hB S L' bs bl' bo' hd' ∧ (∀ b, b < 24 → (L' b = L b ∧ ¬ (S b ≤ w ∧ w < S b + L b)) ∨ L' b = 0) ∧
      ∀ post : SX → Prop, post (pc, nx, md, tm, cp, tr, st, en, vc, p0, sc, ca, va, tb, ih, ic, oc, tn, sl, dO, dD, dA, dB, dI, kn, me, xr, ai, ao, on, pg, oo, od, oa, ob, om, bs, bl', bo', hd', ct, un) → wX_setWord_41 post (nI w) (d + 1) (nI i) pc nx md tm cp tr st en vc p0 sc ca va tb ih ic oc tn sl dO dD dA dB dI kn me xr ai ao on pg oo od oa ob om bs bl bo hd ct un := by
  intro d
  induction d with
  | zero =>
    intro i L bl bo hd hi H hn
    refine ⟨L, bl, bo, hd, H, fun b hb => Or.inl ⟨rfl, hn b (by omega)⟩, fun post h => ?_⟩
    exact br_t (nI_le (a := 24) (by omega) (by omega)) h
  | succ d IH =>
    intro i L bl bo hd hi H hn
    have ci : (nI i).toNatClampNeg = i := nI_clamp (by omega)
    have vi : vp_in (nI i) 24 := vp_in_nI (by omega) (by omega)
    have nl : ¬ (24 : Int32) ≤ nI i := nI_ge (b := 24) (by omega) (by omega)
    obtain ⟨k1, k2, k3⟩ := H.1 i (by omega)
    by_cases h0 : 0 < L i
    · obtain ⟨k4, k5, k6⟩ := k3 h0
      by_cases hin : S i ≤ w ∧ w < S i + L i
      · obtain ⟨bl1, bo1, hd1, H1, r1⟩ := x_remove (pc := pc) (nx := nx) (md := md) (tm := tm) (cp := cp) (tr := tr) (st := st) (en := en) (vc := vc) (p0 := p0) (sc := sc) (ca := ca) (va := va) (tb := tb) (ih := ih) (ic := ic) (oc := oc) (tn := tn) (sl := sl) (dO := dO) (dD := dD) (dA := dA) (dB := dB) (dI := dI) (kn := kn) (me := me) (xr := xr) (ai := ai) (ao := ao) (on := on) (pg := pg) (oo := oo) (od := od) (oa := oa) (ob := ob) (om := om) (ct := ct) (un := un) H (b := i) (by omega) h0
        obtain ⟨L', bl', bo', hd', H2, q, r2⟩ := IH (i + 1) (uN0 L i 0) bl1 bo1 hd1 (by omega) H1 (fun b hb => by
          by_cases e : b = i
          · subst e; rw [uN0_s]; omega
          · rw [uN0_n e]; exact hn b (by omega))
        refine ⟨L', bl', bo', hd', H2, fun b hb => ?_, fun post h => ?_⟩
        · by_cases e : b = i
          · subst e
            rcases q b hb with z | z
            · rw [uN0_s] at z; exact Or.inr z.1
            · exact Or.inr z
          · have z := q b hb
            rw [uN0_n e] at z
            exact z
        · unfold wX_setWord_41
          rw [ci, k1, k4, nI_add]
          refine br_f nl ⟨vi, br_f (nI_nle h0 (by omega)) ⟨vi, br_f (nI_nlt hin.1 (by omega)) ⟨vi, vi, br_f (nI_ge hin.2 (by omega)) (r1 _ (nm_r (nI_1 i) (r2 post h)))⟩⟩⟩
      · obtain ⟨L', bl', bo', hd', H2, q, r2⟩ := IH (i + 1) L bl bo hd (by omega) H (fun b hb => by
          by_cases e : b = i
          · subst e; exact hin
          · exact hn b (by omega))
        refine ⟨L', bl', bo', hd', H2, q, fun post h => ?_⟩
        unfold wX_setWord_41
        rw [ci, k1, k4, nI_add]
        refine br_f nl ⟨vi, br_f (nI_nle h0 (by omega)) ⟨vi, ?_⟩⟩
        by_cases c1 : w < S i
        · exact br_t (nI_lt c1 (by omega)) (nm_r (nI_1 i) (r2 post h))
        · exact br_f (nI_nlt (by omega) (by omega)) ⟨vi, vi, br_t (nI_le (by omega) (by omega)) (nm_r (nI_1 i) (r2 post h))⟩
    · obtain ⟨L', bl', bo', hd', H2, q, r2⟩ := IH (i + 1) L bl bo hd (by omega) H (fun b hb => by
          by_cases e : b = i
          · subst e; omega
          · exact hn b (by omega))
      refine ⟨L', bl', bo', hd', H2, q, fun post h => ?_⟩
      unfold wX_setWord_41
      rw [ci, k1]
      have z0 : L i = 0 := by omega
      rw [z0]
      exact br_f nl ⟨vi, br_t (by decide) (nm_r (nI_1 i) (r2 post h))⟩
theorem cn_none {S L : Nat → Nat} {j : Nat} (h : cn S L j 24 = 0) : ∀ b, b < 24 → ¬ (S b ≤ j ∧ j < S b + L b) := fun b hb z => by
  have := cn_pos hb z.1 z.2
  omega
/-- every change of memory -/
theorem x_setW {S L : Nat → Nat} (H : hB S L bs bl bo hd) {w : Nat} (hw : w < 256) (v : Int32) :
    ∃ (L' : Nat → Nat) (sl' : Int32) (on' bl' bo' hd' : Nat → Int32), hB S L' bs bl' bo' hd' ∧ (∀ b, b < 24 → (L' b = L b ∧ ¬ (S b ≤ w ∧ w < S b + L b)) ∨ L' b = 0) ∧
      ((w / 16 = bf tb 0 4 ∧ ∀ p, p < 48 → on' p = 0) ∨ (¬ w / 16 = bf tb 0 4 ∧ on' = on)) ∧
      (sl' = 0 → sl = 0 ∧ ¬ w / 16 = bf tb 0 4 ∧ hd w = 0 ∧ hd' = hd) ∧
      ∀ post : SX → Prop, post (pc, nx, md, tm, cp, tr, st, en, vc, p0, sc, ca, va, tb, ih, ic, oc, tn, sl', dO, dD, dA, dB, dI, kn, upd me w v, xr, ai, ao, on', pg, oo, od, oa, ob, om, bs, bl', bo', hd', ct, un) → wpX_setWord post (pc, nx, md, tm, cp, tr, st, en, vc, p0, sc, ca, va, tb, ih, ic, oc, tn, sl, dO, dD, dA, dB, dI, kn, me, xr, ai, ao, on, pg, oo, od, oa, ob, om, bs, bl, bo, hd, ct, un) (nI w) v := by
  have ht := bf_lt tb 0 4
  have vw : vp_in (nI w) 256 := vp_in_nI hw (by omega)
  have cw : (nI w).toNatClampNeg = w := nI_clamp (by omega)
  have e4 : (nI w >>> ((4 : Int32) &&& 31)) = nI (w / 16) := pk_shrN (n := w) (by omega) _ 4 (by decide)
  have e15 : tb &&& 15 = nI (bf tb 0 4) := kx_and tb 4 (by decide)
  have n10 : ¬ (1 : Int32) = 0 := by decide
  -- behind the pages
  have P24 : ∀ (on0 : Nat → Int32) (s0 : Int32), ∃ (L' : Nat → Nat) (sl' : Int32) (bl' bo' hd' : Nat → Int32), hB S L' bs bl' bo' hd' ∧ (∀ b, b < 24 → (L' b = L b ∧ ¬ (S b ≤ w ∧ w < S b + L b)) ∨ L' b = 0) ∧
      (sl' = 0 → s0 = 0 ∧ hd w = 0 ∧ hd' = hd) ∧
      ∀ post : SX → Prop, post (pc, nx, md, tm, cp, tr, st, en, vc, p0, sc, ca, va, tb, ih, ic, oc, tn, sl', dO, dD, dA, dB, dI, kn, upd me w v, xr, ai, ao, on0, pg, oo, od, oa, ob, om, bs, bl', bo', hd', ct, un) → wX_setWord_24 post (nI w) pc nx md tm cp tr st en vc p0 sc ca va tb ih ic oc tn s0 dO dD dA dB dI kn (upd me w v) xr ai ao on0 pg oo od oa ob om bs bl bo hd ct un := by
    intro on0 s0
    by_cases z : hd w = 0
    · have c0 : cn S L w 24 = 0 := by
        have q := H.2.2 w hw
        rw [z, ← nI_0, nI_eq (by omega) (by have := cn_le S L w 24; omega)] at q
        exact q.symm
      refine ⟨L, s0, bl, bo, hd, H, fun b hb => Or.inl ⟨rfl, cn_none c0 b hb⟩, fun e => ⟨e, z, rfl⟩, fun post h => ?_⟩
      unfold wX_setWord_24
      rw [cw]
      exact ⟨vw, br_t z h⟩
    · obtain ⟨L', bl', bo', hd', H2, q, r⟩ := xs_loop (pc := pc) (nx := nx) (md := md) (tm := tm) (cp := cp) (tr := tr) (st := st) (en := en) (vc := vc) (p0 := p0) (sc := sc) (ca := ca) (va := va) (tb := tb) (ih := ih) (ic := ic) (oc := oc) (tn := tn) (sl := 1) (dO := dO) (dD := dD) (dA := dA) (dB := dB) (dI := dI) (kn := kn) (me := upd me w v) (xr := xr) (ai := ai) (ao := ao) (on := on0) (pg := pg) (oo := oo) (od := od) (oa := oa) (ob := ob) (om := om) (ct := ct) (un := un) hw 24 0 L bl bo hd rfl H (fun b hb => absurd hb (by omega))
      refine ⟨L', 1, bl', bo', hd', H2, q, fun e => absurd e n10, fun post h => ?_⟩
      unfold wX_setWord_24
      rw [cw]
      exact ⟨vw, br_f z ⟨25, r post h⟩⟩
  by_cases c : w / 16 = bf tb 0 4
  · obtain ⟨on', o1, o2⟩ := x_forget (pc := pc) (nx := nx) (md := md) (tm := tm) (cp := cp) (tr := tr) (st := st) (en := en) (vc := vc) (p0 := p0) (sc := sc) (ca := ca) (va := va) (tb := tb) (ih := ih) (ic := ic) (oc := oc) (tn := tn) (sl := sl) (dO := dO) (dD := dD) (dA := dA) (dB := dB) (dI := dI) (kn := kn) (me := upd me w v) (xr := xr) (ai := ai) (ao := ao) (on := on) (pg := pg) (oo := oo) (od := od) (oa := oa) (ob := ob) (om := om) (bs := bs) (bl := bl) (bo := bo) (hd := hd) (ct := ct) (un := un)
    obtain ⟨L', sl', bl', bo', hd', H2, q, r1, r2⟩ := P24 on' 1
    refine ⟨L', sl', on', bl', bo', hd', H2, q, Or.inl ⟨c, o1⟩, fun e => absurd (r1 e).1 n10, fun post h => ?_⟩
    unfold wpX_setWord
    dsimp only
    rw [cw, e4, e15]
    exact ⟨vw, nm_e (br_t (congrArg nI c) (o2 _ (r2 post h)))⟩
  · obtain ⟨L', sl', bl', bo', hd', H2, q, r1, r2⟩ := P24 on sl
    refine ⟨L', sl', on, bl', bo', hd', H2, q, Or.inr ⟨c, rfl⟩, fun e => ⟨(r1 e).1, c, (r1 e).2⟩, fun post h => ?_⟩
    unfold wpX_setWord
    dsimp only
    rw [cw, e4, e15]
    refine ⟨vw, nm_e (br_f (fun z => c ?_) (r2 post h))⟩
    rw [nI_eq (by omega) (by omega)] at z
    exact z
end
end
section
/-! the page table: entries, marks; X: walk -/
def nd (k : Nat) : Int32 := if k = 0 then 8 else if k = 1 then 2 else 4
def mk (k : Nat) : Int32 := if k = 2 then 48 else 16
def hTe (e need mark q : Int32) : Prop := ¬ (e &&& 1) = 0 ∧ ¬ (e &&& need) = 0 ∧ e ||| mark = e ∧ q = (e >>> ((8 : Int32) &&& 31)) &&& 15
def hT (tb : Int32) (me on pg : Nat → Int32) : Prop := tb < 0 → ∀ p, p < 16 → ∀ k, k < 3 → ¬ on (16 * k + p) = 0 → hTe (me (16 * bf tb 0 4 + p)) (nd k) (mk k) (pg p)
theorem pb_0 {x : Int32} (h : ∀ i, i < 32 → bt x i = false) : x = 0 := b_ext (fun i hi => by rw [h i hi, b_0])
theorem pb_or {e k m : Int32} (h : ¬ (e &&& m) = 0) : ¬ ((e ||| k) &&& m) = 0 := by
  intro z
  apply h
  apply pb_0
  intro i hi
  have q := congrArg (fun x => bt x i) z
  simp only [b_and, b_or, b_0] at q
  rw [b_and]
  revert q
  cases bt e i <;> cases bt m i <;> simp
theorem pb_oo (e k j : Int32) (h : k ||| j = k) : (e ||| k) ||| j = e ||| k := by rw [Int32.or_assoc, h]
theorem pb_1 {x m : Int32} (j : Nat) (hm : ∀ i, i < 32 → bt m i = decide (i = j)) (h : ¬ (x &&& m) = 0) : x ||| m = x := by
  apply b_ext
  intro i hi
  rw [b_or, hm i hi]
  by_cases e : i = j
  · rw [decide_eq_true e, Bool.or_true]
    cases hb : bt x i
    · exfalso
      apply h
      apply pb_0
      intro a ha
      rw [b_and, hm a ha]
      by_cases z : a = j
      · have : a = i := by omega
        rw [this, hb]; rfl
      · rw [decide_eq_false z, Bool.and_false]
    · rfl
  · rw [decide_eq_false e, Bool.or_false]
theorem pb_32 {x : Int32} (h : ¬ (x &&& 32) = 0) : x ||| 32 = x := pb_1 5 (by decide +kernel) h
def zz (m k : Int32) : Int32 := if m &&& k = 0 then 0 else 1
theorem zz_01 (m k : Int32) : zz m k = 0 ∨ zz m k = 1 := by unfold zz; split; exact Or.inl rfl; exact Or.inr rfl
theorem zz_n {m k : Int32} (h : ¬ zz m k = 0) : ¬ (m &&& k) = 0 := fun z => h (if_pos z)
theorem zz_nar {z : Int32} (h : z = 0 ∨ z = 1) : vp_nar .boolean z = z := by
  rcases h with h | h
  · rw [h]; decide
  · rw [h]; decide
theorem zz_and {a b : Int32} (ha : a = 0 ∨ a = 1) (hb : b = 0 ∨ b = 1) : (a &&& b = 0 ∨ a &&& b = 1) ∧ (¬ a &&& b = 0 → ¬ a = 0 ∧ ¬ b = 0) := by
  rcases ha with h | h <;> rcases hb with h2 | h2 <;> subst h <;> subst h2 <;> decide
theorem pg_b (m : Int32) : vp_nar .byte (((m >>> ((8 : Int32) &&& 31)) &&& 15).toInt8.toInt32) = (m >>> ((8 : Int32) &&& 31)) &&& 15 := by
  have e : (m >>> ((8 : Int32) &&& 31)) &&& 15 = nI (bf m 8 4) := kx_fld m 8 4 (by omega) (by omega) (by decide)
  rw [e, na_b _ (by have := bf_lt m 8 4; omega)]
def onw (on : Nat → Int32) (p : Nat) (m : Int32) : Nat → Int32 := upd (upd (upd on p (zz m 8)) (16 + p) (zz m 2)) (32 + p) (zz m 4 &&& zz m 32)
theorem onw_t {tb e : Int32} {me on pg : Nat → Int32} {p k : Nat} {on0 : Nat → Int32} (hp : p < 16) (h1 : ¬ (e &&& 1) = 0) (he : me (16 * bf tb 0 4 + p) = e ||| mk k)
    (ho : tb < 0 → ∀ q, q < 16 → q ≠ p → ∀ k, k < 3 → ¬ on0 (16 * k + q) = 0 → hTe (me (16 * bf tb 0 4 + q)) (nd k) (mk k) (pg q)) :
    hT tb me (onw on0 p (e ||| mk k)) (upd pg p (((e ||| mk k) >>> ((8 : Int32) &&& 31)) &&& 15)) := by
  intro ht q hq c hc hn
  have hm16 : mk k ||| 16 = mk k := by unfold mk; split <;> decide
  by_cases eq : q = p
  · subst eq
    rw [pk_us, he]
    refine ⟨pb_or h1, ?_, ?_, rfl⟩
    · rcases (by omega : c = 0 ∨ c = 1 ∨ c = 2) with z | z | z
      · subst z
        have : onw on0 q (e ||| mk k) (16 * 0 + q) = zz (e ||| mk k) 8 := by
          unfold onw
          rw [pk_un (by omega), pk_un (by omega), show 16 * 0 + q = q by omega, pk_us]
        rw [this] at hn
        exact zz_n hn
      · subst z
        have : onw on0 q (e ||| mk k) (16 * 1 + q) = zz (e ||| mk k) 2 := by
          unfold onw
          rw [pk_un (by omega), show 16 * 1 + q = 16 + q by omega, pk_us]
        rw [this] at hn
        exact zz_n hn
      · subst z
        have : onw on0 q (e ||| mk k) (16 * 2 + q) = zz (e ||| mk k) 4 &&& zz (e ||| mk k) 32 := by
          unfold onw
          rw [show 16 * 2 + q = 32 + q by omega, pk_us]
        rw [this] at hn
        exact zz_n ((zz_and (zz_01 _ _) (zz_01 _ _)).2 hn).1
    · rcases (by omega : c = 0 ∨ c = 1 ∨ c = 2) with z | z | z
      · subst z; exact pb_oo _ _ _ hm16
      · subst z; exact pb_oo _ _ _ hm16
      · subst z
        have : onw on0 q (e ||| mk k) (16 * 2 + q) = zz (e ||| mk k) 4 &&& zz (e ||| mk k) 32 := by
          unfold onw
          rw [show 16 * 2 + q = 32 + q by omega, pk_us]
        rw [this] at hn
        have h32 := pb_32 (zz_n ((zz_and (zz_01 _ _) (zz_01 _ _)).2 hn).2)
        have h16 := pb_oo e (mk k) 16 hm16
        show (e ||| mk k) ||| 48 = e ||| mk k
        rw [show (48 : Int32) = 16 ||| 32 by decide, ← Int32.or_assoc, h16, h32]
  · have e2 : onw on0 p (e ||| mk k) (16 * c + q) = on0 (16 * c + q) := by
      unfold onw
      rw [pk_un (by omega), pk_un (by omega), pk_un (by omega)]
    rw [e2] at hn
    rw [pk_un eq]
    exact ho ht q hq eq c hc hn
section
variable {pc nx md tm cp tr st en vc p0 sc ca va tb ih ic oc tn sl dO dD dA dB dI kn td tc tv ny wh : Int32} {me xr ai ao on pg oo od oa ob om bs bl bo hd ct un wt yo : Nat → Int32}
theorem xw_158 {post : Int32 → SX → Prop} {p : Nat} (hp : p < 16) {m z0 z1 : Int32} (h0 : z0 = 0 ∨ z0 = 1) (h1 : z1 = 0 ∨ z1 = 1)
    (h : post 1 (pc, nx, md, tm, cp, tr, st, en, vc, p0, sc, ca, va, tb, ih, ic, oc, tn, sl, dO, dD, dA, dB, dI, kn, me, xr, ai, ao, upd on (32 + p) (z1 &&& z0), upd pg p ((m >>> ((8 : Int32) &&& 31)) &&& 15), oo, od, oa, ob, om, bs, bl, bo, hd, ct, un)) : wX_walk_158 post (nI p) m z0 z1 (nI (32 + p)) pc nx md tm cp tr st en vc p0 sc ca va tb ih ic oc tn sl dO dD dA dB dI kn me xr ai ao on pg oo od oa ob om bs bl bo hd ct un := by
  unfold wX_walk_158
  rw [nI_clamp (show 32 + p < 2 ^ 31 by omega), nI_clamp (show p < 2 ^ 31 by omega), pg_b, zz_nar (zz_and h1 h0).1]
  exact ⟨vp_in_nI (by omega) (by omega), nm_e ⟨vp_in_nI (by omega) (by omega), nm_e h⟩⟩
theorem xw_145 {post : Int32 → SX → Prop} {p : Nat} (hp : p < 16) {m z1 : Int32} (h1 : z1 = 0 ∨ z1 = 1)
    (h : post 1 (pc, nx, md, tm, cp, tr, st, en, vc, p0, sc, ca, va, tb, ih, ic, oc, tn, sl, dO, dD, dA, dB, dI, kn, me, xr, ai, ao, upd on (32 + p) (z1 &&& zz m 32), upd pg p ((m >>> ((8 : Int32) &&& 31)) &&& 15), oo, od, oa, ob, om, bs, bl, bo, hd, ct, un)) : wX_walk_145 post (nI p) m z1 (nI (32 + p)) pc nx md tm cp tr st en vc p0 sc ca va tb ih ic oc tn sl dO dD dA dB dI kn me xr ai ao on pg oo od oa ob om bs bl bo hd ct un := by
  refine br_c (fun c => xw_158 hp (Or.inl rfl) h1 ?_) (fun c => xw_158 hp (Or.inr rfl) h1 ?_)
  · unfold zz at h; rw [if_pos c] at h; exact h
  · unfold zz at h; rw [if_neg c] at h; exact h
theorem xw_124 {post : Int32 → SX → Prop} {p : Nat} (hp : p < 16) {m z0 : Int32} (h0 : z0 = 0 ∨ z0 = 1)
    (h : post 1 (pc, nx, md, tm, cp, tr, st, en, vc, p0, sc, ca, va, tb, ih, ic, oc, tn, sl, dO, dD, dA, dB, dI, kn, me, xr, ai, ao, upd (upd on (16 + p) z0) (32 + p) (zz m 4 &&& zz m 32), upd pg p ((m >>> ((8 : Int32) &&& 31)) &&& 15), oo, od, oa, ob, om, bs, bl, bo, hd, ct, un)) : wX_walk_124 post (nI p) m z0 (nI (16 + p)) pc nx md tm cp tr st en vc p0 sc ca va tb ih ic oc tn sl dO dD dA dB dI kn me xr ai ao on pg oo od oa ob om bs bl bo hd ct un := by
  unfold wX_walk_124
  rw [nI_clamp (show 16 + p < 2 ^ 31 by omega), zz_nar h0, show (32 : Int32) + nI p = nI (32 + p) from nI_add 32 p]
  refine ⟨vp_in_nI (by omega) (by omega), nm_e (br_c (fun c => xw_145 hp (Or.inl rfl) ?_) (fun c => xw_145 hp (Or.inr rfl) ?_))⟩
  · have e : zz m 4 = 0 := if_pos c
    rw [e] at h; exact h
  · have e : zz m 4 = 1 := if_neg c
    rw [e] at h; exact h
theorem xw_103 {post : Int32 → SX → Prop} {p : Nat} (hp : p < 16) {m z0 : Int32} (h0 : z0 = 0 ∨ z0 = 1)
    (h : post 1 (pc, nx, md, tm, cp, tr, st, en, vc, p0, sc, ca, va, tb, ih, ic, oc, tn, sl, dO, dD, dA, dB, dI, kn, me, xr, ai, ao, upd (upd (upd on p z0) (16 + p) (zz m 2)) (32 + p) (zz m 4 &&& zz m 32), upd pg p ((m >>> ((8 : Int32) &&& 31)) &&& 15), oo, od, oa, ob, om, bs, bl, bo, hd, ct, un)) : wX_walk_103 post (nI p) m z0 (nI p) pc nx md tm cp tr st en vc p0 sc ca va tb ih ic oc tn sl dO dD dA dB dI kn me xr ai ao on pg oo od oa ob om bs bl bo hd ct un := by
  unfold wX_walk_103
  rw [nI_clamp (show p < 2 ^ 31 by omega), zz_nar h0, show (16 : Int32) + nI p = nI (16 + p) from nI_add 16 p]
  refine ⟨vp_in_nI (by omega) (by omega), nm_e (br_c (fun c => xw_124 hp (Or.inl rfl) ?_) (fun c => xw_124 hp (Or.inr rfl) ?_))⟩
  · have e : zz m 2 = 0 := if_pos c
    rw [e] at h; exact h
  · have e : zz m 2 = 1 := if_neg c
    rw [e] at h; exact h
theorem xw_85 {post : Int32 → SX → Prop} {p : Nat} (hp : p < 16) {m : Int32}
    (h : post 1 (pc, nx, md, tm, cp, tr, st, en, vc, p0, sc, ca, va, tb, ih, ic, oc, tn, sl, dO, dD, dA, dB, dI, kn, me, xr, ai, ao, onw on p m, upd pg p ((m >>> ((8 : Int32) &&& 31)) &&& 15), oo, od, oa, ob, om, bs, bl, bo, hd, ct, un)) : wX_walk_85 post (nI p) m pc nx md tm cp tr st en vc p0 sc ca va tb ih ic oc tn sl dO dD dA dB dI kn me xr ai ao on pg oo od oa ob om bs bl bo hd ct un := by
  refine br_c (fun c => xw_103 hp (Or.inl rfl) ?_) (fun c => xw_103 hp (Or.inr rfl) ?_)
  · have e : zz m 8 = 0 := if_pos c
    unfold onw at h; rw [e] at h; exact h
  · have e : zz m 8 = 1 := if_neg c
    unfold onw at h; rw [e] at h; exact h
/-- the table's word of page p -/
theorem tw_e (tb : Int32) {p : Nat} (hp : p < 16) : ((tb &&& 15) <<< ((4 : Int32) &&& 31)) ||| nI p = nI (16 * bf tb 0 4 + p) := by
  have ht := bf_lt tb 0 4
  have e15 : tb &&& 15 = nI (bf tb 0 4) := kx_and tb 4 (by decide)
  have e4 : nI (bf tb 0 4) <<< ((4 : Int32) &&& 31) = nI (bf tb 0 4 * 2 ^ 4) := pk_shlN _ 4 (by decide) (by omega)
  rw [e15, e4]
  apply Int32.toBitVec_inj.mp
  apply BitVec.eq_of_toNat_eq
  rw [Int32.toBitVec_or, BitVec.toNat_or, pk_tn (by omega), pk_tn (by omega), pk_tn (by omega), Nat.mul_comm, ← Nat.two_pow_add_eq_or_of_lt (i := 4) hp]
theorem x_walk0 {p k : Nat} (hp : p < 16) (hk : k < 3) (h : (me (16 * bf tb 0 4 + p) &&& 1) = 0 ∨ (me (16 * bf tb 0 4 + p) &&& nd k) = 0) (P : Int32 → SX → Prop) (hP : P 0 (pc, nx, md, tm, cp, tr, st, en, vc, p0, sc, ca, va, tb, ih, ic, oc, tn, sl, dO, dD, dA, dB, dI, kn, me, xr, ai, ao, on, pg, oo, od, oa, ob, om, bs, bl, bo, hd, ct, un)) : wpX_walk P (pc, nx, md, tm, cp, tr, st, en, vc, p0, sc, ca, va, tb, ih, ic, oc, tn, sl, dO, dD, dA, dB, dI, kn, me, xr, ai, ao, on, pg, oo, od, oa, ob, om, bs, bl, bo, hd, ct, un) (nI p) (nI k) := by
  have ht := bf_lt tb 0 4
  unfold wpX_walk
  dsimp only
  rw [tw_e tb hp]
  refine nm_e ⟨vp_in_nI (by omega) (by omega), ?_⟩
  rw [nI_clamp (by omega)]
  refine nm_e (br_c (fun _ => hP) (fun n1 => ?_))
  have h2 : (me (16 * bf tb 0 4 + p) &&& nd k) = 0 := by
    rcases h with z | z
    · exact absurd z n1
    · exact z
  refine pk_eq k 0 (fun e => ?_) (fun _ => pk_eq k 1 (fun e => ?_) (fun _ => ?_))
  · subst e; exact br_t h2 hP
  · subst e; exact br_t h2 hP
  · obtain rfl : k = 2 := by omega
    exact br_t h2 hP
theorem x_walk1 {S L : Nat → Nat} (H : hB S L bs bl bo hd) (HT : hT tb me on pg) {p k : Nat} (hp : p < 16) (hk : k < 3) (h1 : ¬ (me (16 * bf tb 0 4 + p) &&& 1) = 0) (h2 : ¬ (me (16 * bf tb 0 4 + p) &&& nd k) = 0) :
    ∃ (L' : Nat → Nat) (sl' : Int32) (on' bl' bo' hd' : Nat → Int32), hB S L' bs bl' bo' hd' ∧ (∀ b, b < 24 → (L' b = L b ∧ (¬ (S b ≤ 16 * bf tb 0 4 + p ∧ 16 * bf tb 0 4 + p < S b + L b) ∨ me (16 * bf tb 0 4 + p) ||| mk k = me (16 * bf tb 0 4 + p))) ∨ L' b = 0) ∧
      hT tb (upd me (16 * bf tb 0 4 + p) (me (16 * bf tb 0 4 + p) ||| mk k)) on' (upd pg p (((me (16 * bf tb 0 4 + p) ||| mk k) >>> ((8 : Int32) &&& 31)) &&& 15)) ∧
      (sl' = 0 → sl = 0 ∧ hd' = hd ∧ me (16 * bf tb 0 4 + p) ||| mk k = me (16 * bf tb 0 4 + p)) ∧
      ∀ P : Int32 → SX → Prop, P 1 (pc, nx, md, tm, cp, tr, st, en, vc, p0, sc, ca, va, tb, ih, ic, oc, tn, sl', dO, dD, dA, dB, dI, kn, upd me (16 * bf tb 0 4 + p) (me (16 * bf tb 0 4 + p) ||| mk k), xr, ai, ao, on', upd pg p (((me (16 * bf tb 0 4 + p) ||| mk k) >>> ((8 : Int32) &&& 31)) &&& 15), oo, od, oa, ob, om, bs, bl', bo', hd', ct, un) → wpX_walk P (pc, nx, md, tm, cp, tr, st, en, vc, p0, sc, ca, va, tb, ih, ic, oc, tn, sl, dO, dD, dA, dB, dI, kn, me, xr, ai, ao, on, pg, oo, od, oa, ob, om, bs, bl, bo, hd, ct, un) (nI p) (nI k) := by
  have ht := bf_lt tb 0 4
  generalize hw : 16 * bf tb 0 4 + p = w at *
  have hw2 : w < 256 := by omega
  generalize hm : me w ||| mk k = m at *
  -- what walk asks behind its tests
  have G : ∀ P : Int32 → SX → Prop, ((m = me w → wX_walk_85 P (nI p) m pc nx md tm cp tr st en vc p0 sc ca va tb ih ic oc tn sl dO dD dA dB dI kn me xr ai ao on pg oo od oa ob om bs bl bo hd ct un) ∧ (¬ m = me w → wpX_setWord (fun u => match u with | (pc, nx, md, tm, cp, tr, st, en, vc, p0, sc, ca, va, tb, ih, ic, oc, tn, sl, dO, dD, dA, dB, dI, kn, me, xr, ai, ao, on, pg, oo, od, oa, ob, om, bs, bl, bo, hd, ct, un) => wX_walk_85 P (nI p) m pc nx md tm cp tr st en vc p0 sc ca va tb ih ic oc tn sl dO dD dA dB dI kn me xr ai ao on pg oo od oa ob om bs bl bo hd ct un) (pc, nx, md, tm, cp, tr, st, en, vc, p0, sc, ca, va, tb, ih, ic, oc, tn, sl, dO, dD, dA, dB, dI, kn, me, xr, ai, ao, on, pg, oo, od, oa, ob, om, bs, bl, bo, hd, ct, un) (nI w) m)) → wpX_walk P (pc, nx, md, tm, cp, tr, st, en, vc, p0, sc, ca, va, tb, ih, ic, oc, tn, sl, dO, dD, dA, dB, dI, kn, me, xr, ai, ao, on, pg, oo, od, oa, ob, om, bs, bl, bo, hd, ct, un) (nI p) (nI k) := by
    intro P hG
    unfold wpX_walk
    dsimp only
    rw [tw_e tb hp, hw]
    refine nm_e ⟨vp_in_nI hw2 (by omega), ?_⟩
    rw [nI_clamp (by omega)]
    refine nm_e (br_f h1 ?_)
    refine pk_eq k 0 (fun e => ?_) (fun _ => pk_eq k 1 (fun e => ?_) (fun _ => ?_))
    · subst e; refine br_f h2 (br_f (by decide) (nm_r hm hG))
    · subst e; refine br_f h2 (br_f (by decide) (nm_r hm hG))
    · obtain rfl : k = 2 := by omega
      refine br_f h2 (br_t rfl (nm_r hm hG))
  by_cases c : m = me w
  · have ue : upd me w m = me := by
      funext j
      by_cases e : j = w
      · subst e; rw [pk_us, c]
      · rw [pk_un e]
    refine ⟨L, sl, onw on p m, bl, bo, hd, H, fun b hb => Or.inl ⟨rfl, Or.inr c⟩, ?_, fun e => ⟨e, rfl, c⟩, fun P hP => ?_⟩
    · rw [ue, ← hm]
      refine onw_t (tb := tb) (me := me) (on := on) hp h1 (by rw [hw, hm]; exact c.symm) (fun t q hq _ k hk hn => HT t q hq k hk hn)
    · rw [ue] at hP
      exact G P ⟨fun _ => xw_85 hp hP, fun z => absurd c z⟩
  · obtain ⟨L', sl', on', bl', bo', hd', H2, q, r1, r2, r3⟩ := x_setW (pc := pc) (nx := nx) (md := md) (tm := tm) (cp := cp) (tr := tr) (st := st) (en := en) (vc := vc) (p0 := p0) (sc := sc) (ca := ca) (va := va) (tb := tb) (ih := ih) (ic := ic) (oc := oc) (tn := tn) (sl := sl) (dO := dO) (dD := dD) (dA := dA) (dB := dB) (dI := dI) (kn := kn) (me := me) (xr := xr) (ai := ai) (ao := ao) (on := on) (pg := pg) (oo := oo) (od := od) (oa := oa) (ob := ob) (om := om) (ct := ct) (un := un) H hw2 m
    have wt' : w / 16 = bf tb 0 4 := by omega
    have on0 : ∀ p, p < 48 → on' p = 0 := by
      rcases r1 with z | z
      · exact z.2
      · exact absurd wt' z.1
    refine ⟨L', sl', onw on' p m, bl', bo', hd', H2, fun b hb => ?_, ?_, fun e => absurd wt' (r2 e).2.1, fun P hP => ?_⟩
    · rcases q b hb with z | z
      · exact Or.inl ⟨z.1, Or.inl z.2⟩
      · exact Or.inr z
    · rw [← hm]
      refine onw_t (tb := tb) (me := upd me w (me w ||| mk k)) (on := on) (e := me w) hp h1 (by rw [hw, pk_us]) (fun t q hq _ k hk hn => absurd (on0 _ (by omega)) hn)
    · exact G P ⟨fun z => absurd z c, fun _ => r3 _ (xw_85 hp hP)⟩
end
end
section
/-! what a block must be -/
def isC (o : Nat) : Prop := o < 3 ∨ 24 < o
def cx (o d a b : Nat) (c pc : Int32) (x : Nat → Int32) : Nat → Int32 :=
  if 64 ≤ o then rs x d (kc_v (o - 64) (x a) c) else if 32 ≤ o then rs x d (kc_v (o - 32) (x a) (x b))
  else if o = 2 then rs x d (pc + c) else if o = 1 then rs x d c else x
def sOK (D K : Nat → Prop) (C : Nat → Int32) (D' K' : Nat → Prop) (C' : Nat → Int32) (w : Int32) (o d a b : Nat) (c : Int32) : Prop :=
  (isC (kO w) ∧ (o < 3 ∨ (32 ≤ o ∧ o ≤ 48) ∨ (64 ≤ o ∧ o ≤ 80)) ∧ d < 32 ∧ a < 32 ∧ b < 32 ∧ ∀ (pc : Int32) (x y : Nat → Int32), y 0 = 0 → (∀ r, ¬ D r → x r = y r) → (∀ r, K r → y r = C r) →
    (∀ r, ¬ D' r → cx o d a b c pc x r = cx (kO w) (kD w) (kA w) (kB w) (kI w) pc y r) ∧ (∀ r, K' r → cx (kO w) (kD w) (kA w) (kB w) (kI w) pc y r = C' r)) ∨
  (¬ isC (kO w) ∧ o = kO w ∧ d = kD w ∧ a = kA w ∧ b = kB w ∧ c = kI w ∧ (∀ r, ¬ D r) ∧ (∀ r, ¬ D' r) ∧ ∀ r, K' r → C' r = C r ∧ (r = 0 ∧ C r = 0 ∨ K r ∧ r ≠ kD w))
def goesOn (o : Nat) : Prop := o < 3 ∨ 24 < o ∨ (10 < o ∧ o < 19)
def bStep (me oo od oa ob om : Nat → Int32) (b w : Nat) (D K : Nat → Nat → Prop) (C : Nat → Nat → Int32) (i : Nat) : Prop :=
  ∃ o d a b', oo (8 * b + i) = nI o ∧ od (8 * b + i) = nI d ∧ oa (8 * b + i) = nI a ∧ ob (8 * b + i) = nI b' ∧
    sOK (D i) (K i) (C i) (D (i + 1)) (K (i + 1)) (C (i + 1)) (me (w + i)) o d a b' (om (8 * b + i))
def BK (me oo od oa ob om : Nat → Int32) (b w n : Nat) : Prop :=
  n ≤ 8 ∧ w % 16 + n ≤ 16 ∧ ∃ (D K : Nat → Nat → Prop) (C : Nat → Nat → Int32), (∀ r, ¬ D 0 r) ∧ (∀ r, ¬ D n r) ∧ (∀ r, K 0 r → r = 0 ∧ C 0 r = 0) ∧
    ∀ i, i < n → (i + 1 < n → goesOn (kO (me (w + i)))) ∧ bStep me oo od oa ob om b w D K C i
def hC (S L : Nat → Nat) (me oo od oa ob om : Nat → Int32) : Prop := ∀ b, b < 24 → 0 < L b → BK me oo od oa ob om b (S b) (L b)
theorem BK_me {me me' oo od oa ob om : Nat → Int32} {b w n : Nat} (h : ∀ i, i < n → me' (w + i) = me (w + i)) (H : BK me oo od oa ob om b w n) : BK me' oo od oa ob om b w n := by
  obtain ⟨h8, h16, D, K, C, h1, h2, h3, h4⟩ := H
  refine ⟨h8, h16, D, K, C, h1, h2, h3, fun i hi => ?_⟩
  have q := h4 i hi
  unfold bStep at q ⊢
  rw [h i hi]
  exact q
theorem hC_me {S L L' : Nat → Nat} {me me' oo od oa ob om : Nat → Int32} (H : hC S L me oo od oa ob om)
    (h : ∀ b, b < 24 → (L' b = L b ∧ ∀ i, i < L b → me' (S b + i) = me (S b + i)) ∨ L' b = 0) : hC S L' me' oo od oa ob om := by
  intro b hb h0
  rcases h b hb with z | z
  · rw [z.1] at h0 ⊢
    exact BK_me z.2 (H b hb h0)
  · omega
/-! alignment, ranges -/
theorem al_and (a : Int32) {s : Nat} (hs : s = 1 ∨ s = 2 ∨ s = 4) : (a &&& (nI s - 1)) = 0 ↔ kW a % s = 0 := by
  have e : a &&& (nI s - 1) = nI (kW a % s) := by
    rcases hs with z | z | z
    · subst z; exact pk_and a 0 (by decide)
    · subst z; exact pk_and a 1 (by decide)
    · subst z; exact pk_and a 2 (by decide)
  rw [e, ← nI_0, nI_eq (by have := kW_lt a; rcases hs with z | z | z <;> subst z <;> omega) (by omega)]
theorem kW_toInt (a : Int32) : a.toInt = if 2 * kW a < 4294967296 then (kW a : Int) else (kW a : Int) - 4294967296 := BitVec.toInt_eq_toNat_cond _
theorem al_rem (a : Int32) {s : Nat} (hs : s = 1 ∨ s = 2 ∨ s = 4) : (a - a / nI s * nI s) = 0 ↔ kW a % s = 0 := by
  have h0 : (0 : Int32).toInt = 0 := by decide
  have e1 : (a - a / nI s * nI s) = 0 ↔ a.toInt.tmod s = 0 := by
    rw [← Int32.toInt_inj, rem_toInt, nI_toInt (by omega), h0]
  rw [e1]
  have e2 : a.toInt.tmod s = 0 ↔ (s : Int) ∣ a.toInt := ⟨Int.dvd_of_tmod_eq_zero, Int.tmod_eq_zero_of_dvd⟩
  rw [e2, kW_toInt]
  rcases hs with z | z | z <;> subst z <;> split <;> omega
theorem u10 (a : Int32) : ((a.toUInt32 >>> ((10 : Int32).toUInt32 &&& Int32.toUInt32 31)).toInt32) = 0 ↔ kW a < 1024 := by
  have e : (a.toUInt32 >>> ((10 : Int32).toUInt32 &&& Int32.toUInt32 31)).toInt32 = nI (bf a 10 22) := kx_ush a 10 22 (by omega) (by omega)
  have h := kW_lt a
  have h2 := bf_lt a 10 22
  rw [e, ← nI_0, nI_eq (by omega) (by omega)]
  unfold bf
  omega
theorem rg_t {a : Int32} (h : kW a < 1024) : ∃ m, m < 1024 ∧ a = nI m := ⟨kW a, h, (kh_nIW a).symm⟩
theorem kW_nI {n : Nat} (h : n < 4294967296) : kW (nI n) = n := pk_tn h
theorem rg_f {a : Int32} (h : ¬ kW a < 1024) : a < 0 ∨ (¬ a < 0 ∧ (1024 : Int32) ≤ a) := by
  have h0 : (0 : Int32).toInt = 0 := by decide
  have h1 : (1024 : Int32).toInt = 1024 := by decide
  have h2 := kW_toInt a
  have h3 := kW_lt a
  rw [Int32.lt_iff_toInt_lt, Int32.le_iff_toInt_le, h0, h1, h2]
  split <;> omega
theorem or_nI {a b i : Nat} (h : a < 2 ^ i) (hb : b * 2 ^ i + a < 4294967296) : nI (b * 2 ^ i) ||| nI a = nI (b * 2 ^ i + a) := by
  apply Int32.toBitVec_inj.mp
  apply BitVec.eq_of_toNat_eq
  rw [Int32.toBitVec_or, BitVec.toNat_or, pk_tn (by omega), pk_tn (by omega), pk_tn (by omega), Nat.mul_comm, ← Nat.two_pow_add_eq_or_of_lt (i := i) h]
theorem mk_pg (e : Int32) (k : Nat) : ((e ||| mk k) >>> ((8 : Int32) &&& 31)) &&& 15 = (e >>> ((8 : Int32) &&& 31)) &&& 15 := by
  have e1 : ((e ||| mk k) >>> ((8 : Int32) &&& 31)) &&& 15 = nI (bf (e ||| mk k) 8 4) := kx_fld _ 8 4 (by omega) (by omega) (by decide)
  have e2 : (e >>> ((8 : Int32) &&& 31)) &&& 15 = nI (bf e 8 4) := kx_fld _ 8 4 (by omega) (by omega) (by decide)
  rw [e1, e2]
  have hm : ∀ i, i < 4 → bt (mk k) (8 + i) = false := by
    unfold mk
    split
    · decide +kernel
    · decide +kernel
  apply b_ext
  intro i hi
  rw [bt_nI, bt_nI, bf_bit, bf_bit, b_or]
  by_cases z : i < 4
  · rw [hm i z, Bool.or_false]
  · rw [decide_eq_false z, Bool.false_and, Bool.false_and]
/-! traps -/
def xst (st md : Int32) : Int32 := ((st &&& 8) <<< ((4 : Int32) &&& 31)) ||| (if md = 3 then 6144 else 0)
def dev (n : Nat) : Prop := n = 1024 ∨ n = 1028 ∨ n = 1032
def cAcc (k : Nat) : Int32 := if k = 0 then 1 else if k = 1 then 5 else 7
def cPag (k : Nat) : Int32 := if k = 0 then 12 else if k = 1 then 13 else 15
def cAl (k : Nat) : Int32 := if k = 1 then 4 else 6
section
variable {pc nx md tm cp tr st en vc p0 sc ca va tb ih ic oc tn sl dO dD dA dB dI kn td tc tv ny wh : Int32} {me xr ai ao on pg oo od oa ob om bs bl bo hd ct un wt yo : Nat → Int32}
theorem x_trap {post : SX → Prop} {c a : Int32} (h : post (pc, vc, 3, tm, cp, tr + 1, xst st md, en, vc, pc, sc, c, a, tb, ih, ic, oc, tn, sl, dO, dD, dA, dB, dI, kn, me, xr, ai, ao, on, pg, oo, od, oa, ob, om, bs, bl, bo, hd, ct, un)) : wpX_trap post (pc, nx, md, tm, cp, tr, st, en, vc, p0, sc, ca, va, tb, ih, ic, oc, tn, sl, dO, dD, dA, dB, dI, kn, me, xr, ai, ao, on, pg, oo, od, oa, ob, om, bs, bl, bo, hd, ct, un) c a := by
  unfold xst at h
  refine br_c (fun e => ?_) (fun e => ?_)
  · rw [if_pos e] at h; exact nm_e (nm_e h)
  · rw [if_neg e] at h; exact nm_e (nm_e h)
/-! X: the last test -/
theorem xl_ok {P : Int32 → SX → Prop} {a : Int32} {k n : Nat} (hk : k < 3) (hn : n < 1024 ∨ (0 < k ∧ dev n)) (h : P (nI n) (pc, nx, md, tm, cp, tr, st, en, vc, p0, sc, ca, va, tb, ih, ic, oc, tn, sl, dO, dD, dA, dB, dI, kn, me, xr, ai, ao, on, pg, oo, od, oa, ob, om, bs, bl, bo, hd, ct, un)) : wX_locate_126 P a (nI k) (nI n) pc nx md tm cp tr st en vc p0 sc ca va tb ih ic oc tn sl dO dD dA dB dI kn me xr ai ao on pg oo od oa ob om bs bl bo hd ct un := by
  unfold dev at hn
  refine br_c (fun _ => h) (fun c => ?_)
  rw [u10, kW_nI (by omega)] at c
  refine br_f (nI_nle (by omega) (by omega)) ?_
  refine pk_eq n 1024 (fun _ => h) (fun _ => pk_eq n 1028 (fun _ => h) (fun _ => pk_eq n 1032 (fun _ => h) (fun _ => absurd hn (by omega))))
theorem xl_165 {P : Int32 → SX → Prop} {a : Int32} {k : Nat} (hk : k < 3) (h : P (-1) (pc, vc, 3, tm, cp, tr + 1, xst st md, en, vc, pc, sc, cAcc k, a, tb, ih, ic, oc, tn, sl, dO, dD, dA, dB, dI, kn, me, xr, ai, ao, on, pg, oo, od, oa, ob, om, bs, bl, bo, hd, ct, un)) : wX_locate_165 P a (nI k) pc nx md tm cp tr st en vc p0 sc ca va tb ih ic oc tn sl dO dD dA dB dI kn me xr ai ao on pg oo od oa ob om bs bl bo hd ct un := by
  refine pk_eq k 0 (fun e => ?_) (fun e => pk_eq k 1 (fun e2 => ?_) (fun e2 => ?_))
  · subst e; unfold wX_locate_185; exact x_trap h
  · subst e2; unfold wX_locate_185; exact x_trap h
  · obtain rfl : k = 2 := by omega
    unfold wX_locate_185; exact x_trap h
theorem xl_bad {P : Int32 → SX → Prop} {a b : Int32} {k : Nat} (hk : k < 3) (hb : ¬ kW b < 1024) (hd' : ¬ (0 < k ∧ (b = 1024 ∨ b = 1028 ∨ b = 1032))) (h : P (-1) (pc, vc, 3, tm, cp, tr + 1, xst st md, en, vc, pc, sc, cAcc k, a, tb, ih, ic, oc, tn, sl, dO, dD, dA, dB, dI, kn, me, xr, ai, ao, on, pg, oo, od, oa, ob, om, bs, bl, bo, hd, ct, un)) : wX_locate_126 P a (nI k) b pc nx md tm cp tr st en vc p0 sc ca va tb ih ic oc tn sl dO dD dA dB dI kn me xr ai ao on pg oo od oa ob om bs bl bo hd ct un := by
  refine br_f (fun z => hb ((u10 b).mp z)) (pk_le k 0 (fun e => ?_) (fun e => ?_))
  · exact xl_165 hk h
  · refine br_c (fun z => absurd (⟨e, Or.inl z⟩ : 0 < k ∧ _) hd') (fun _ => br_c (fun z => absurd (⟨e, Or.inr (Or.inl z)⟩ : 0 < k ∧ _) hd') (fun _ => br_c (fun z => absurd (⟨e, Or.inr (Or.inr z)⟩ : 0 < k ∧ _) hd') (fun _ => ?_)))
    exact xl_165 hk h
theorem xl_79 {P : Int32 → SX → Prop} {a : Int32} {k : Nat} (hk : k < 3) (h : P (-1) (pc, vc, 3, tm, cp, tr + 1, xst st md, en, vc, pc, sc, cPag k, a, tb, ih, ic, oc, tn, sl, dO, dD, dA, dB, dI, kn, me, xr, ai, ao, on, pg, oo, od, oa, ob, om, bs, bl, bo, hd, ct, un)) : wX_locate_79 P a (nI k) pc nx md tm cp tr st en vc p0 sc ca va tb ih ic oc tn sl dO dD dA dB dI kn me xr ai ao on pg oo od oa ob om bs bl bo hd ct un := by
  refine pk_eq k 0 (fun e => ?_) (fun e => pk_eq k 1 (fun e2 => ?_) (fun e2 => ?_))
  · subst e; unfold wX_locate_101; exact x_trap h
  · subst e2; unfold wX_locate_101; exact x_trap h
  · obtain rfl : k = 2 := by omega
    unfold wX_locate_101; exact x_trap h
theorem xl_107 {P : Int32 → SX → Prop} {m k q : Nat} (hk : k < 3) (hm : m < 1024) (hq : q < 16) (hp : pg (m / 64) = nI q) (h : P (nI (q * 64 + m % 64)) (pc, nx, md, tm, cp, tr, st, en, vc, p0, sc, ca, va, tb, ih, ic, oc, tn, sl, dO, dD, dA, dB, dI, kn, me, xr, ai, ao, on, pg, oo, od, oa, ob, om, bs, bl, bo, hd, ct, un)) : wX_locate_107 P (nI m) (nI k) pc nx md tm cp tr st en vc p0 sc ca va tb ih ic oc tn sl dO dD dA dB dI kn me xr ai ao on pg oo od oa ob om bs bl bo hd ct un := by
  have e6 : nI m >>> ((6 : Int32) &&& 31) = nI (m / 64) := pk_shrN (n := m) (by omega) _ 6 (by decide)
  have e63 : nI m &&& 63 = nI (m % 64) := pk_andN (n := m) (by omega) 6 (by decide)
  have e7 : nI q <<< ((6 : Int32) &&& 31) = nI (q * 64) := pk_shlN _ 6 (by decide) (by omega)
  unfold wX_locate_107
  rw [e6, nI_clamp (by omega), hp, e63, e7]
  refine ⟨vp_in_nI (by omega) (by omega), nm_r (or_nI (i := 6) (a := m % 64) (b := q) (by omega) (by omega)) ?_⟩
  exact xl_ok hk (Or.inl (by omega)) h
/-! Y: the last test -/
theorem yl_ok {Q : Int32 → SY → Prop} {a : Int32} {k n : Nat} (hk : k < 3) (hn : n < 1024 ∨ (0 < k ∧ dev n)) (h : Q 1 (pc, md, st, en, vc, sc, p0, ca, va, tb, tm, cp, ic, oc, 0, tc, tv, ny, nI n, me, xr, wt, yo)) : wY_translate_50 Q a (nI k) pc md st en vc sc p0 ca va tb tm cp ic oc 0 tc tv ny (nI n) me xr wt yo := by
  unfold dev at hn
  have K : ∀ z : Int32, (n < 1024 ∨ ¬ z = 0) → wY_translate_94 Q a (nI k) z pc md st en vc sc p0 ca va tb tm cp ic oc 0 tc tv ny (nI n) me xr wt yo := by
    intro z hz
    refine br_f (nI_pos (by omega)) (pk_le 1024 n (fun e => ?_) (fun e => ?_))
    · refine br_t rfl (br_f (by rcases hz with y | y; (exact absurd y (by omega)); exact y) (br_t (nI_lt (a := 0) (by omega) (by omega)) (br_t rfl h)))
    · exact br_f (by decide) (br_t rfl h)
  have n1 : ¬ (1 : Int32) = 0 := by decide
  exact br_t rfl (pk_eq n 1024 (fun _ => K 1 (Or.inr n1)) (fun _ => pk_eq n 1028 (fun _ => K 1 (Or.inr n1)) (fun _ => pk_eq n 1032 (fun _ => K 1 (Or.inr n1)) (fun _ => K 0 (by omega)))))
theorem yl_134 {Q : Int32 → SY → Prop} {a : Int32} {k : Nat} (hk : k < 3) (h : Q 0 (pc, md, st, en, vc, sc, p0, ca, va, tb, tm, cp, ic, oc, 1, cAcc k, a, ny, wh, me, xr, wt, yo)) : wY_translate_134 Q a (nI k) pc md st en vc sc p0 ca va tb tm cp ic oc td tc tv ny wh me xr wt yo := by
  have n1 : ¬ (1 : Int32) = 0 := by decide
  refine pk_eq k 0 (fun e => ?_) (fun e => pk_eq k 1 (fun e2 => ?_) (fun e2 => ?_))
  · subst e; exact br_f n1 h
  · subst e2; exact br_f n1 h
  · obtain rfl : k = 2 := by omega
    exact br_f n1 h
theorem yl_bad {Q : Int32 → SY → Prop} {a b : Int32} {k : Nat} (hk : k < 3) (hb : ¬ kW b < 1024) (hd' : ¬ (0 < k ∧ (b = 1024 ∨ b = 1028 ∨ b = 1032))) (h : Q 0 (pc, md, st, en, vc, sc, p0, ca, va, tb, tm, cp, ic, oc, 1, cAcc k, a, ny, b, me, xr, wt, yo)) : wY_translate_50 Q a (nI k) pc md st en vc sc p0 ca va tb tm cp ic oc 0 tc tv ny b me xr wt yo := by
  have n1 : ¬ (1 : Int32) = 0 := by decide
  have K : ∀ z : Int32, (z = 0 ∨ k = 0) → wY_translate_94 Q a (nI k) z pc md st en vc sc p0 ca va tb tm cp ic oc 0 tc tv ny b me xr wt yo := by
    intro z hz
    have G : wY_translate_117 Q a (nI k) z pc md st en vc sc p0 ca va tb tm cp ic oc 0 tc tv ny b me xr wt yo := by
      refine br_t rfl (br_c (fun _ => yl_134 hk h) (fun y => br_f (fun y2 => ?_) (yl_134 hk h)))
      rcases hz with c | c
      · exact y c
      · subst c; exact absurd y2 (by decide)
    rcases rg_f hb with c | c
    · exact br_t c G
    · exact br_f c.1 (br_t c.2 G)
  have k0 : b = 1024 ∨ b = 1028 ∨ b = 1032 → k = 0 := fun z => by
    rcases Nat.eq_zero_or_pos k with y | y
    · exact y
    · exact absurd ⟨y, z⟩ hd'
  exact br_t rfl (br_c (fun e => K 1 (Or.inr (k0 (Or.inl e)))) (fun _ => br_c (fun e => K 1 (Or.inr (k0 (Or.inr (Or.inl e))))) (fun _ => br_c (fun e => K 1 (Or.inr (k0 (Or.inr (Or.inr e))))) (fun _ => K 0 (Or.inl rfl)))))
theorem yl_tr {Q : Int32 → SY → Prop} {a b : Int32} (h : Q 0 (pc, md, st, en, vc, sc, p0, ca, va, tb, tm, cp, ic, oc, 1, tc, tv, ny, wh, me, xr, wt, yo)) : wY_translate_50 Q a b pc md st en vc sc p0 ca va tb tm cp ic oc 1 tc tv ny wh me xr wt yo := br_f (by decide) h
/-- Y: a walk that fails -/
theorem yw_41f {Q : SY → Prop} {k : Nat} {a c z : Int32} (h : Q (pc, md, st, en, vc, sc, p0, ca, va, tb, tm, cp, ic, oc, 1, c, a, ny, wh, me, xr, wt, yo)) (hc : ¬ kW a < 1024 ∨ ∃ m, m < 1024 ∧ a = nI m ∧ ((me (16 * bf tb 0 4 + m / 64) &&& 1) = 0 ∨ (me (16 * bf tb 0 4 + m / 64) &&& z) = 0)) : wY_walk_41 Q a (nI k) c z pc md st en vc sc p0 ca va tb tm cp ic oc td tc tv ny wh me xr wt yo := by
  have ht := bf_lt tb 0 4
  rcases hc with hc | ⟨m, hm, rfl, hc⟩
  · rcases rg_f hc with e | e
    · exact br_t e h
    · refine br_f e.1 (br_f (fun y => ?_) h)
      have h1 : (1023 : Int32).toInt = 1023 := by decide
      have h2 : (1024 : Int32).toInt = 1024 := by decide
      have e2 := e.2
      rw [Int32.le_iff_toInt_le] at y e2
      omega
  · have e15 : tb &&& 15 = nI (bf tb 0 4) := kx_and tb 4 (by decide)
    have e1 : (16 : Int32) * nI (bf tb 0 4) + nI m / 64 = nI (16 * bf tb 0 4 + m / 64) := by
      rw [show (16 : Int32) * nI (bf tb 0 4) = nI (16 * bf tb 0 4) from pk_mul 16 _, show nI m / 64 = nI (m / 64) from pk_div (d := 64) (by omega) (by omega) (by omega), nI_add]
    have vw : vp_in (nI (16 * bf tb 0 4 + m / 64)) 256 := vp_in_nI (by omega) (by omega)
    refine br_f (nI_pos (by omega)) (br_t (nI_le (b := 1023) (by omega) (by omega)) ⟨by decide, ?_⟩)
    rw [e15]
    refine nm_r e1 ⟨vw, ?_⟩
    rw [nI_clamp (by omega)]
    refine br_c (fun _ => h) (fun n1 => ⟨vw, br_t ?_ h⟩)
    rcases hc with y | y
    · exact absurd y n1
    · exact y
theorem yw_f {Q : SY → Prop} {k : Nat} (hk : k < 3) {a : Int32} (h : Q (pc, md, st, en, vc, sc, p0, ca, va, tb, tm, cp, ic, oc, 1, cPag k, a, ny, wh, me, xr, wt, yo)) (hc : ¬ kW a < 1024 ∨ ∃ m, m < 1024 ∧ a = nI m ∧ ((me (16 * bf tb 0 4 + m / 64) &&& 1) = 0 ∨ (me (16 * bf tb 0 4 + m / 64) &&& nd k) = 0)) : wpY_walk Q (pc, md, st, en, vc, sc, p0, ca, va, tb, tm, cp, ic, oc, td, tc, tv, ny, wh, me, xr, wt, yo) a (nI k) := by
  refine pk_eq k 0 (fun e => ?_) (fun e => pk_eq k 1 (fun e2 => ?_) (fun e2 => ?_))
  · subst e; exact br_t rfl (yw_41f h hc)
  · subst e2; exact br_f (by decide) (br_t rfl (yw_41f h hc))
  · obtain rfl : k = 2 := by omega
    exact br_f (by decide) (br_f (by decide) (yw_41f h hc))
theorem yw_41t {Q : SY → Prop} {k m : Nat} (hk : k < 3) (hm : m < 1024) {c z : Int32} (h1 : ¬ (me (16 * bf tb 0 4 + m / 64) &&& 1) = 0) (h2 : ¬ (me (16 * bf tb 0 4 + m / 64) &&& z) = 0)
    (h : Q (pc, md, st, en, vc, sc, p0, ca, va, tb, tm, cp, ic, oc, td, tc, tv, ny, nI (bf (me (16 * bf tb 0 4 + m / 64)) 8 4 * 64 + m % 64), upd me (16 * bf tb 0 4 + m / 64) (me (16 * bf tb 0 4 + m / 64) ||| mk k), xr, wt, yo)) : wY_walk_41 Q (nI m) (nI k) c z pc md st en vc sc p0 ca va tb tm cp ic oc td tc tv ny wh me xr wt yo := by
  have ht := bf_lt tb 0 4
  have hq := bf_lt (me (16 * bf tb 0 4 + m / 64)) 8 4
  have e15 : tb &&& 15 = nI (bf tb 0 4) := kx_and tb 4 (by decide)
  have e1 : (16 : Int32) * nI (bf tb 0 4) + nI m / 64 = nI (16 * bf tb 0 4 + m / 64) := by
    rw [show (16 : Int32) * nI (bf tb 0 4) = nI (16 * bf tb 0 4) from pk_mul 16 _, show nI m / 64 = nI (m / 64) from pk_div (d := 64) (by omega) (by omega) (by omega), nI_add]
  have vw : vp_in (nI (16 * bf tb 0 4 + m / 64)) 256 := vp_in_nI (by omega) (by omega)
  have cw : (nI (16 * bf tb 0 4 + m / 64)).toNatClampNeg = 16 * bf tb 0 4 + m / 64 := nI_clamp (by omega)
  have e2 : (me (16 * bf tb 0 4 + m / 64) >>> ((8 : Int32) &&& 31)) &&& 15 = nI (bf (me (16 * bf tb 0 4 + m / 64)) 8 4) := kx_fld _ 8 4 (by omega) (by omega) (by decide)
  have e3 : (64 : Int32) * nI (bf (me (16 * bf tb 0 4 + m / 64)) 8 4) + (nI m - nI m / 64 * 64) = nI (bf (me (16 * bf tb 0 4 + m / 64)) 8 4 * 64 + m % 64) := by
    rw [show (64 : Int32) * nI (bf (me (16 * bf tb 0 4 + m / 64)) 8 4) = nI (64 * bf (me (16 * bf tb 0 4 + m / 64)) 8 4) from pk_mul 64 _, show nI m - nI m / 64 * 64 = nI (m % 64) from pk_rem (d := 64) (by omega) (by omega) (by omega), nI_add, Nat.mul_comm]
  refine br_f (nI_pos (by omega)) (br_t (nI_le (b := 1023) (by omega) (by omega)) ⟨by decide, ?_⟩)
  rw [e15]
  refine nm_r e1 ⟨vw, ?_⟩
  rw [cw]
  refine br_f h1 ⟨vw, br_f h2 ⟨vw, nm_r e2 ⟨vw, ?_⟩⟩⟩
  refine pk_eq k 2 (fun e => ?_) (fun e => ?_)
  · subst e
    refine ⟨vw, ?_⟩
    rw [cw]
    exact nm_e ⟨by decide, nm_r e3 h⟩
  · refine ⟨vw, ?_⟩
    rw [cw]
    have em : mk k = 16 := if_neg e
    rw [em] at h
    exact nm_e ⟨by decide, nm_r e3 h⟩
theorem yw_t {Q : SY → Prop} {k m : Nat} (hk : k < 3) (hm : m < 1024) (h1 : ¬ (me (16 * bf tb 0 4 + m / 64) &&& 1) = 0) (h2 : ¬ (me (16 * bf tb 0 4 + m / 64) &&& nd k) = 0)
    (h : Q (pc, md, st, en, vc, sc, p0, ca, va, tb, tm, cp, ic, oc, td, tc, tv, ny, nI (bf (me (16 * bf tb 0 4 + m / 64)) 8 4 * 64 + m % 64), upd me (16 * bf tb 0 4 + m / 64) (me (16 * bf tb 0 4 + m / 64) ||| mk k), xr, wt, yo)) : wpY_walk Q (pc, md, st, en, vc, sc, p0, ca, va, tb, tm, cp, ic, oc, td, tc, tv, ny, wh, me, xr, wt, yo) (nI m) (nI k) := by
  refine pk_eq k 0 (fun e => ?_) (fun e => pk_eq k 1 (fun e2 => ?_) (fun e2 => ?_))
  · subst e; exact br_t rfl (yw_41t (by omega) hm h1 h2 h)
  · subst e2; exact br_f (by decide) (br_t rfl (yw_41t (by omega) hm h1 h2 h))
  · obtain rfl : k = 2 := by omega
    exact br_f (by decide) (br_f (by decide) (yw_41t (by omega) hm h1 h2 h))
end
end
section
/-! an address found by both -/
def hF (md tb a : Int32) (me : Nat → Int32) (n : Nat) : Prop := n % 4 = 0 ∧ n < 1024 ∧
  ((¬ (md = 0 ∧ ¬ 0 ≤ tb) ∧ a = nI n) ∨
   (md = 0 ∧ ¬ 0 ≤ tb ∧ ∃ m q, m < 1024 ∧ a = nI m ∧ m % 4 = 0 ∧ n = q * 64 + m % 64 ∧ q < 16 ∧ hTe (me (16 * bf tb 0 4 + m / 64)) 8 16 (nI q)))
def hL (S : Nat → Nat) (bs oo od oa ob om : Nat → Int32) (tb sl : Int32) (me hd : Nat → Int32) (sl' : Int32) (me' on' pg' bl' bo' hd' : Nat → Int32) : Prop :=
  ∃ L', hB S L' bs bl' bo' hd' ∧ hC S L' me' oo od oa ob om ∧ hT tb me' on' pg' ∧ (sl' = 0 → sl = 0 ∧ hd' = hd ∧ me' = me)
theorem al64 (m q : Nat) {s : Nat} (hs : s = 1 ∨ s = 2 ∨ s = 4) (h : m % s = 0) : (q * 64 + m % 64) % s = 0 := by
  rcases hs with z | z | z <;> subst z <;> omega
section
variable {pc nx md tm cp tr st en vc p0 sc ca va tb ih ic oc tn sl dO dD dA dB dI kn td tc tv ny wh : Int32} {me xr ai ao on pg oo od oa ob om bs bl bo hd ct un wt yo : Nat → Int32}
theorem y_tr_al {Q : Int32 → SY → Prop} {k s : Nat} {a : Int32} (hk : k < 3) (hs : s = 1 ∨ s = 2 ∨ s = 4) (hn : ¬ kW a % s = 0) (h : Q 0 (pc, md, st, en, vc, sc, p0, ca, va, tb, tm, cp, ic, oc, 1, cAl k, a, ny, a, me, xr, wt, yo)) : wpY_translate Q (pc, md, st, en, vc, sc, p0, ca, va, tb, tm, cp, ic, oc, 0, tc, tv, ny, wh, me, xr, wt, yo) a (nI s) (nI k) := by
  refine ⟨nI_ne0 (by omega) (by omega), br_f (fun z => hn ((al_rem a hs).mp z)) (pk_eq k 1 (fun e => ?_) (fun e => ?_))⟩
  · subst e; exact yl_tr h
  · have e2 : cAl k = 6 := if_neg e
    rw [e2] at h
    exact yl_tr h
theorem y_tr_d {Q : Int32 → SY → Prop} {k s : Nat} {a : Int32} (hs : s = 1 ∨ s = 2 ∨ s = 4) (ha : kW a % s = 0) (hm : ¬ (md = 0 ∧ ¬ 0 ≤ tb)) (h : wY_translate_50 Q a (nI k) pc md st en vc sc p0 ca va tb tm cp ic oc 0 tc tv ny a me xr wt yo) : wpY_translate Q (pc, md, st, en, vc, sc, p0, ca, va, tb, tm, cp, ic, oc, 0, tc, tv, ny, wh, me, xr, wt, yo) a (nI s) (nI k) := by
  refine ⟨nI_ne0 (by omega) (by omega), br_t ((al_rem a hs).mpr ha) (br_c (fun e => br_c (fun _ => h) (fun z => absurd ⟨e, z⟩ hm)) (fun _ => h))⟩
theorem y_tr_w {Q : Int32 → SY → Prop} {k s : Nat} {a : Int32} (hs : s = 1 ∨ s = 2 ∨ s = 4) (ha : kW a % s = 0) (hm : md = 0) (ht : ¬ 0 ≤ tb) (h : wpY_walk (fun u => match u with | (pc, md, st, en, vc, sc, p0, ca, va, tb, tm, cp, ic, oc, td, tc, tv, ny, wh, me, xr, wt, yo) => wY_translate_50 Q a (nI k) pc md st en vc sc p0 ca va tb tm cp ic oc td tc tv ny wh me xr wt yo) (pc, md, st, en, vc, sc, p0, ca, va, tb, tm, cp, ic, oc, 0, tc, tv, ny, a, me, xr, wt, yo) a (nI k)) : wpY_translate Q (pc, md, st, en, vc, sc, p0, ca, va, tb, tm, cp, ic, oc, 0, tc, tv, ny, wh, me, xr, wt, yo) a (nI s) (nI k) :=
  ⟨nI_ne0 (by omega) (by omega), br_t ((al_rem a hs).mpr ha) (br_t hm (br_f ht h))⟩
/-- Y alone: a fetch whose entry is marked already -/
theorem y_fetch {Q : Int32 → SY → Prop} {a : Int32} {n : Nat} (H : hF md tb a me n) (h : Q 1 (pc, md, st, en, vc, sc, p0, ca, va, tb, tm, cp, ic, oc, 0, tc, tv, ny, nI n, me, xr, wt, yo)) : wpY_translate Q (pc, md, st, en, vc, sc, p0, ca, va, tb, tm, cp, ic, oc, 0, tc, tv, ny, wh, me, xr, wt, yo) a 4 0 := by
  obtain ⟨h4, hn, H⟩ := H
  rcases H with ⟨hm, rfl⟩ | ⟨hm, ht, m, q, hm2, rfl, hm4, e, hq, he⟩
  · exact y_tr_d (k := 0) (s := 4) (by omega) (by rw [kW_nI (by omega)]; exact h4) hm (yl_ok (k := 0) (by omega) (Or.inl hn) h)
  · have e2 : bf (me (16 * bf tb 0 4 + m / 64)) 8 4 = q := by
      have e3 : (me (16 * bf tb 0 4 + m / 64) >>> ((8 : Int32) &&& 31)) &&& 15 = nI (bf (me (16 * bf tb 0 4 + m / 64)) 8 4) := kx_fld _ 8 4 (by omega) (by omega) (by decide)
      have e4 := he.2.2.2
      rw [e3, nI_eq (by omega) (by have := bf_lt (me (16 * bf tb 0 4 + m / 64)) 8 4; omega)] at e4
      exact e4.symm
    have ue : upd me (16 * bf tb 0 4 + m / 64) (me (16 * bf tb 0 4 + m / 64) ||| mk 0) = me := by
      funext j
      by_cases z : j = 16 * bf tb 0 4 + m / 64
      · subst z; rw [pk_us]; exact he.2.2.1
      · rw [pk_un z]
    refine y_tr_w (k := 0) (s := 4) (by omega) (by rw [kW_nI (by omega)]; exact hm4) hm ht (yw_t (by omega) hm2 he.1 he.2.1 ?_)
    rw [ue, e2, ← e]
    exact yl_ok (k := 0) (by omega) (Or.inl hn) h
theorem x_lo_al {P : Int32 → SX → Prop} {k s : Nat} {a : Int32} (hk : k < 3) (hs : s = 1 ∨ s = 2 ∨ s = 4) (hn : ¬ kW a % s = 0) (h : P (-1) (pc, vc, 3, tm, cp, tr + 1, xst st md, en, vc, pc, sc, cAl k, a, tb, ih, ic, oc, tn, sl, dO, dD, dA, dB, dI, kn, me, xr, ai, ao, on, pg, oo, od, oa, ob, om, bs, bl, bo, hd, ct, un)) : wpX_locate P (pc, nx, md, tm, cp, tr, st, en, vc, p0, sc, ca, va, tb, ih, ic, oc, tn, sl, dO, dD, dA, dB, dI, kn, me, xr, ai, ao, on, pg, oo, od, oa, ob, om, bs, bl, bo, hd, ct, un) a (nI s) (nI k) := by
  refine br_f (fun z => hn ((al_and a hs).mp z)) (pk_eq k 1 (fun e => ?_) (fun e => ?_))
  · subst e; unfold wX_locate_20; exact x_trap h
  · have e2 : cAl k = 6 := if_neg e
    rw [e2] at h
    unfold wX_locate_20; exact x_trap h
theorem x_lo_d {P : Int32 → SX → Prop} {k s : Nat} {a : Int32} (hs : s = 1 ∨ s = 2 ∨ s = 4) (ha : kW a % s = 0) (hm : ¬ (md = 0 ∧ ¬ 0 ≤ tb)) (h : wX_locate_126 P a (nI k) a pc nx md tm cp tr st en vc p0 sc ca va tb ih ic oc tn sl dO dD dA dB dI kn me xr ai ao on pg oo od oa ob om bs bl bo hd ct un) : wpX_locate P (pc, nx, md, tm, cp, tr, st, en, vc, p0, sc, ca, va, tb, ih, ic, oc, tn, sl, dO, dD, dA, dB, dI, kn, me, xr, ai, ao, on, pg, oo, od, oa, ob, om, bs, bl, bo, hd, ct, un) a (nI s) (nI k) :=
  br_t ((al_and a hs).mpr ha) (br_c (fun e => br_c (fun _ => h) (fun z => absurd ⟨e, z⟩ hm)) (fun _ => h))
theorem x_lo_out {P : Int32 → SX → Prop} {k s : Nat} {a : Int32} (hk : k < 3) (hs : s = 1 ∨ s = 2 ∨ s = 4) (ha : kW a % s = 0) (hm : md = 0) (ht : ¬ 0 ≤ tb) (hr : ¬ kW a < 1024) (h : P (-1) (pc, vc, 3, tm, cp, tr + 1, xst st md, en, vc, pc, sc, cPag k, a, tb, ih, ic, oc, tn, sl, dO, dD, dA, dB, dI, kn, me, xr, ai, ao, on, pg, oo, od, oa, ob, om, bs, bl, bo, hd, ct, un)) : wpX_locate P (pc, nx, md, tm, cp, tr, st, en, vc, p0, sc, ca, va, tb, ih, ic, oc, tn, sl, dO, dD, dA, dB, dI, kn, me, xr, ai, ao, on, pg, oo, od, oa, ob, om, bs, bl, bo, hd, ct, un) a (nI s) (nI k) :=
  br_t ((al_and a hs).mpr ha) (br_t hm (br_f ht (br_f (fun z => hr ((u10 a).mp z)) (xl_79 hk h))))
theorem x_lo_in {P : Int32 → SX → Prop} {k s m : Nat} (hk : k < 3) (hs : s = 1 ∨ s = 2 ∨ s = 4) (hr : m < 1024) (ha : m % s = 0) (hm : md = 0) (ht : ¬ 0 ≤ tb)
    (h : (on (16 * k + m / 64) = 0 → wpX_walk (fun r u => match u with | (pc, nx, md, tm, cp, tr, st, en, vc, p0, sc, ca, va, tb, ih, ic, oc, tn, sl, dO, dD, dA, dB, dI, kn, me, xr, ai, ao, on, pg, oo, od, oa, ob, om, bs, bl, bo, hd, ct, un) => ((r = 0 → wX_locate_79 P (nI m) (nI k) pc nx md tm cp tr st en vc p0 sc ca va tb ih ic oc tn sl dO dD dA dB dI kn me xr ai ao on pg oo od oa ob om bs bl bo hd ct un) ∧ (¬ r = 0 → wX_locate_107 P (nI m) (nI k) pc nx md tm cp tr st en vc p0 sc ca va tb ih ic oc tn sl dO dD dA dB dI kn me xr ai ao on pg oo od oa ob om bs bl bo hd ct un))) (pc, nx, md, tm, cp, tr, st, en, vc, p0, sc, ca, va, tb, ih, ic, oc, tn, sl, dO, dD, dA, dB, dI, kn, me, xr, ai, ao, on, pg, oo, od, oa, ob, om, bs, bl, bo, hd, ct, un) (nI (m / 64)) (nI k)) ∧ (¬ on (16 * k + m / 64) = 0 → wX_locate_107 P (nI m) (nI k) pc nx md tm cp tr st en vc p0 sc ca va tb ih ic oc tn sl dO dD dA dB dI kn me xr ai ao on pg oo od oa ob om bs bl bo hd ct un)) : wpX_locate P (pc, nx, md, tm, cp, tr, st, en, vc, p0, sc, ca, va, tb, ih, ic, oc, tn, sl, dO, dD, dA, dB, dI, kn, me, xr, ai, ao, on, pg, oo, od, oa, ob, om, bs, bl, bo, hd, ct, un) (nI m) (nI s) (nI k) := by
  have e6 : nI m >>> ((6 : Int32) &&& 31) = nI (m / 64) := pk_shrN (n := m) (by omega) _ 6 (by decide)
  have e7 : (16 : Int32) * nI k + nI (m / 64) = nI (16 * k + m / 64) := by
    rw [show (16 : Int32) * nI k = nI (16 * k) from pk_mul 16 k, nI_add]
  refine br_t ((al_and (nI m) hs).mpr (by rw [kW_nI (by omega)]; exact ha)) (br_t hm (br_f ht (br_t ((u10 (nI m)).mpr (by rw [kW_nI (by omega)]; exact hr)) ?_)))
  rw [e6, e7, nI_clamp (by omega)]
  exact ⟨vp_in_nI (by omega) (by omega), h⟩
theorem ls_loc {S L : Nat → Nat} (H : hB S L bs bl bo hd) (HC : hC S L me oo od oa ob om) (HT : hT tb me on pg) {k s : Nat} (hk : k < 3) (hs : s = 1 ∨ s = 2 ∨ s = 4) (a : Int32) :
    (∃ c : Int32, (∀ P : Int32 → SX → Prop, P (-1) (pc, vc, 3, tm, cp, tr + 1, xst st md, en, vc, pc, sc, c, a, tb, ih, ic, oc, tn, sl, dO, dD, dA, dB, dI, kn, me, xr, ai, ao, on, pg, oo, od, oa, ob, om, bs, bl, bo, hd, ct, un) → wpX_locate P (pc, nx, md, tm, cp, tr, st, en, vc, p0, sc, ca, va, tb, ih, ic, oc, tn, sl, dO, dD, dA, dB, dI, kn, me, xr, ai, ao, on, pg, oo, od, oa, ob, om, bs, bl, bo, hd, ct, un) a (nI s) (nI k)) ∧
      (∀ Q : Int32 → SY → Prop, Q 0 (pc, md, st, en, vc, sc, p0, ca, va, tb, tm, cp, ic, oc, 1, c, a, ny, a, me, xr, wt, yo) → wpY_translate Q (pc, md, st, en, vc, sc, p0, ca, va, tb, tm, cp, ic, oc, 0, tc, tv, ny, wh, me, xr, wt, yo) a (nI s) (nI k))) ∨
    (∃ (n : Nat) (sl' : Int32) (me' on' pg' bl' bo' hd' : Nat → Int32), (n < 1024 ∨ (0 < k ∧ dev n)) ∧ n % s = 0 ∧ hL S bs oo od oa ob om tb sl me hd sl' me' on' pg' bl' bo' hd' ∧ (k = 0 → s = 4 → hF md tb a me' n) ∧
      (∀ P : Int32 → SX → Prop, P (nI n) (pc, nx, md, tm, cp, tr, st, en, vc, p0, sc, ca, va, tb, ih, ic, oc, tn, sl', dO, dD, dA, dB, dI, kn, me', xr, ai, ao, on', pg', oo, od, oa, ob, om, bs, bl', bo', hd', ct, un) → wpX_locate P (pc, nx, md, tm, cp, tr, st, en, vc, p0, sc, ca, va, tb, ih, ic, oc, tn, sl, dO, dD, dA, dB, dI, kn, me, xr, ai, ao, on, pg, oo, od, oa, ob, om, bs, bl, bo, hd, ct, un) a (nI s) (nI k)) ∧
      (∀ Q : Int32 → SY → Prop, Q 1 (pc, md, st, en, vc, sc, p0, ca, va, tb, tm, cp, ic, oc, 0, tc, tv, ny, nI n, me', xr, wt, yo) → wpY_translate Q (pc, md, st, en, vc, sc, p0, ca, va, tb, tm, cp, ic, oc, 0, tc, tv, ny, wh, me, xr, wt, yo) a (nI s) (nI k))) := by
  have same : hL S bs oo od oa ob om tb sl me hd sl me on pg bl bo hd := ⟨L, H, HC, HT, fun e => ⟨e, rfl, rfl⟩⟩
  by_cases ha : kW a % s = 0
  · by_cases hm : md = 0 ∧ ¬ 0 ≤ tb
    · obtain ⟨hm1, hm2⟩ := hm
      have tl : tb < 0 := Int32.not_le.mp hm2
      by_cases hr : kW a < 1024
      · obtain ⟨m, hm3, rfl⟩ := rg_t hr
        rw [kW_nI (by omega)] at ha
        have hq := bf_lt (me (16 * bf tb 0 4 + m / 64)) 8 4
        have eq : (me (16 * bf tb 0 4 + m / 64) >>> ((8 : Int32) &&& 31)) &&& 15 = nI (bf (me (16 * bf tb 0 4 + m / 64)) 8 4) := kx_fld _ 8 4 (by omega) (by omega) (by decide)
        have yok : ∀ (me' : Nat → Int32), ¬ (me (16 * bf tb 0 4 + m / 64) &&& 1) = 0 → ¬ (me (16 * bf tb 0 4 + m / 64) &&& nd k) = 0 → me' = upd me (16 * bf tb 0 4 + m / 64) (me (16 * bf tb 0 4 + m / 64) ||| mk k) →
            ∀ Q : Int32 → SY → Prop, Q 1 (pc, md, st, en, vc, sc, p0, ca, va, tb, tm, cp, ic, oc, 0, tc, tv, ny, nI (bf (me (16 * bf tb 0 4 + m / 64)) 8 4 * 64 + m % 64), me', xr, wt, yo) → wpY_translate Q (pc, md, st, en, vc, sc, p0, ca, va, tb, tm, cp, ic, oc, 0, tc, tv, ny, wh, me, xr, wt, yo) (nI m) (nI s) (nI k) := by
          intro me' h1 h2 e Q hQ
          refine y_tr_w hs (by rw [kW_nI (by omega)]; exact ha) hm1 hm2 (yw_t hk hm3 h1 h2 ?_)
          rw [← e]
          exact yl_ok hk (Or.inl (by omega)) hQ
        by_cases ho : on (16 * k + m / 64) = 0
        · by_cases hf : (me (16 * bf tb 0 4 + m / 64) &&& 1) = 0 ∨ (me (16 * bf tb 0 4 + m / 64) &&& nd k) = 0
          · refine Or.inl ⟨cPag k, fun P hP => ?_, fun Q hQ => ?_⟩
            · exact x_lo_in hk hs hm3 ha hm1 hm2 (br_t ho (x_walk0 (by omega) hk hf _ (br_t rfl (xl_79 hk hP))))
            · exact y_tr_w hs (by rw [kW_nI (by omega)]; exact ha) hm1 hm2 (yw_f hk (yl_tr hQ) (Or.inr ⟨m, hm3, rfl, hf⟩))
          · have h1 : ¬ (me (16 * bf tb 0 4 + m / 64) &&& 1) = 0 := fun z => hf (Or.inl z)
            have h2 : ¬ (me (16 * bf tb 0 4 + m / 64) &&& nd k) = 0 := fun z => hf (Or.inr z)
            obtain ⟨L', sl', on', bl', bo', hd', H2, r1, r2, r3, r4⟩ := x_walk1 (pc := pc) (nx := nx) (md := md) (tm := tm) (cp := cp) (tr := tr) (st := st) (en := en) (vc := vc) (p0 := p0) (sc := sc) (ca := ca) (va := va) (tb := tb) (ih := ih) (ic := ic) (oc := oc) (tn := tn) (sl := sl) (dO := dO) (dD := dD) (dA := dA) (dB := dB) (dI := dI) (kn := kn) (me := me) (xr := xr) (ai := ai) (ao := ao) (on := on) (pg := pg) (oo := oo) (od := od) (oa := oa) (ob := ob) (om := om) (ct := ct) (un := un) H HT (p := m / 64) (by omega) hk h1 h2
            have ep := mk_pg (me (16 * bf tb 0 4 + m / 64)) k
            rw [eq] at ep
            have me_s : me (16 * bf tb 0 4 + m / 64) ||| mk k = me (16 * bf tb 0 4 + m / 64) → upd me (16 * bf tb 0 4 + m / 64) (me (16 * bf tb 0 4 + m / 64) ||| mk k) = me := by
              intro e
              funext j
              by_cases z : j = 16 * bf tb 0 4 + m / 64
              · subst z; rw [pk_us, e]
              · rw [pk_un z]
            refine Or.inr ⟨bf (me (16 * bf tb 0 4 + m / 64)) 8 4 * 64 + m % 64, sl', _, on', _, bl', bo', hd', Or.inl (by omega), al64 m _ hs ha, ⟨L', H2, ?_, r2, fun e => ?_⟩, fun k0 s4 => ?_, fun P hP => ?_, yok _ h1 h2 rfl⟩
            · refine hC_me HC (fun b hb => ?_)
              rcases r1 b hb with ⟨z1, z2⟩ | z
              · refine Or.inl ⟨z1, fun i hi => ?_⟩
                rcases z2 with y | y
                · rw [pk_un (fun q => y (by omega))]
                · rw [me_s y]
              · exact Or.inr z
            · exact ⟨(r3 e).1, (r3 e).2.1, me_s (r3 e).2.2⟩
            · subst k0 s4
              refine ⟨by omega, by omega, Or.inr ⟨hm1, hm2, m, bf (me (16 * bf tb 0 4 + m / 64)) 8 4, hm3, rfl, ha, rfl, hq, ?_⟩⟩
              rw [pk_us]
              exact ⟨pb_or h1, pb_or h2, pb_oo _ _ _ (by decide), ep.symm⟩
            · refine x_lo_in hk hs hm3 ha hm1 hm2 (br_t ho (r4 _ (br_f (by decide) (xl_107 hk hm3 hq ?_ hP))))
              rw [pk_us]
              exact ep
        · have he := HT tl (m / 64) (by omega) k hk ho
          have ue : me = upd me (16 * bf tb 0 4 + m / 64) (me (16 * bf tb 0 4 + m / 64) ||| mk k) := by
            funext j
            by_cases z : j = 16 * bf tb 0 4 + m / 64
            · subst z; rw [pk_us]; exact he.2.2.1.symm
            · rw [pk_un z]
          have ep : pg (m / 64) = nI (bf (me (16 * bf tb 0 4 + m / 64)) 8 4) := he.2.2.2.trans eq
          refine Or.inr ⟨bf (me (16 * bf tb 0 4 + m / 64)) 8 4 * 64 + m % 64, sl, me, on, pg, bl, bo, hd, Or.inl (by omega), al64 m _ hs ha, same, fun k0 s4 => ?_, fun P hP => ?_, yok _ he.1 he.2.1 ue⟩
          · subst k0 s4
            refine ⟨by omega, by omega, Or.inr ⟨hm1, hm2, m, bf (me (16 * bf tb 0 4 + m / 64)) 8 4, hm3, rfl, ha, rfl, hq, ?_⟩⟩
            rw [← ep]
            exact he
          · exact x_lo_in hk hs hm3 ha hm1 hm2 (br_f ho (xl_107 hk hm3 hq ep hP))
      · refine Or.inl ⟨cPag k, fun P hP => ?_, fun Q hQ => ?_⟩
        · exact x_lo_out hk hs ha hm1 hm2 hr hP
        · exact y_tr_w hs ha hm1 hm2 (yw_f hk (yl_tr hQ) (Or.inl hr))
    · by_cases hr : kW a < 1024
      · obtain ⟨n, hn, rfl⟩ := rg_t hr
        refine Or.inr ⟨n, sl, me, on, pg, bl, bo, hd, Or.inl hn, by rw [kW_nI (by omega)] at ha; exact ha, same, fun k0 s4 => ?_, fun P hP => ?_, fun Q hQ => ?_⟩
        · subst s4
          rw [kW_nI (by omega)] at ha
          exact ⟨ha, hn, Or.inl ⟨hm, rfl⟩⟩
        · exact x_lo_d hs ha hm (xl_ok hk (Or.inl hn) hP)
        · exact y_tr_d hs ha hm (yl_ok hk (Or.inl hn) hQ)
      · by_cases hv : 0 < k ∧ (a = 1024 ∨ a = 1028 ∨ a = 1032)
        · obtain ⟨n, hn, rfl⟩ : ∃ n, dev n ∧ a = nI n := by
            rcases hv.2 with z | z | z
            · exact ⟨1024, Or.inl rfl, z⟩
            · exact ⟨1028, Or.inr (Or.inl rfl), z⟩
            · exact ⟨1032, Or.inr (Or.inr rfl), z⟩
          refine Or.inr ⟨n, sl, me, on, pg, bl, bo, hd, Or.inr ⟨hv.1, hn⟩, by rw [kW_nI (by unfold dev at hn; omega)] at ha; exact ha, same, fun k0 => absurd k0 (by omega), fun P hP => ?_, fun Q hQ => ?_⟩
          · exact x_lo_d hs ha hm (xl_ok hk (Or.inr ⟨hv.1, hn⟩) hP)
          · exact y_tr_d hs ha hm (yl_ok hk (Or.inr ⟨hv.1, hn⟩) hQ)
        · refine Or.inl ⟨cAcc k, fun P hP => ?_, fun Q hQ => ?_⟩
          · exact x_lo_d hs ha hm (xl_bad hk hr hv hP)
          · exact y_tr_d hs ha hm (yl_bad hk hr hv hQ)
  · exact Or.inl ⟨cAl k, fun P hP => x_lo_al hk hs ha hP, fun Q hQ => y_tr_al hk hs ha hQ⟩
end
end
section
/-! the relation, the end of a step, X: execute by numbers -/
def hI (ai : Nat → Int32) (ih ic : Int32) (wt : Nat → Int32) : Prop := ∃ h c : Nat, h < 8 ∧ c ≤ 8 ∧ ih = nI h ∧ ic = nI c ∧ ∀ i, i < c → ai ((h + i) % 8) &&& 255 = wt i
def hO (t : Nat) (ao : Nat → Int32) (oc : Int32) (yo : Nat → Int32) : Prop := ∃ o : Nat, o ≤ t ∧ oc = nI o ∧ ∀ i, i < 32 → i < o → ao i &&& 255 = yo i
def hW (md st en : Int32) : Prop := (md = 0 ∨ md = 3) ∧ (st &&& 6144 = 0 ∨ st &&& 6144 = 6144) ∧ (en = 0 ∨ en = 128)
def hS (me oo od oa ob om bs bl bo hd : Nat → Int32) : Prop := ∃ S L, hB S L bs bl bo hd ∧ hC S L me oo od oa ob om
def hG (t : Nat) (md st en tm tb ih ic oc tn : Int32) (me ai ao on pg oo od oa ob om bs bl bo hd ct wt yo : Nat → Int32) : Prop :=
  hW md st en ∧ tm = nI t ∧ hI ai ih ic wt ∧ hO t ao oc yo ∧ hT tb me on pg ∧ hS me oo od oa ob om bs bl bo hd ∧ (∃ b, b < 24 ∧ tn = nI b) ∧ ct 0 = 0
def hR (V : (Nat → Int32) → (Nat → Int32) → Prop) (t : Nat) (u : SX) (v : SY) : Prop := match u, v with
  | (pc, nx, md, tm, cp, tr, st, en, vc, p0, sc, ca, va, tb, ih, ic, oc, tn, sl, dO, dD, dA, dB, dI, kn, me, xr, ai, ao, on, pg, oo, od, oa, ob, om, bs, bl, bo, hd, ct, un), (pc1, md1, st1, en1, vc1, sc1, p01, ca1, va1, tb1, tm1, cp1, ic1, oc1, td1, tc1, tv1, ny1, wh1, me1, xr1, wt1, yo1) => (pc1 = pc ∧ md1 = md ∧ st1 = st ∧ en1 = en ∧ vc1 = vc ∧ sc1 = sc ∧ p01 = p0 ∧ ca1 = ca ∧ va1 = va ∧ tb1 = tb ∧ tm1 = tm ∧ cp1 = cp ∧ ic1 = ic ∧ oc1 = oc ∧ me1 = me) ∧ V xr xr1 ∧
    hG t md st en tm tb ih ic oc tn me ai ao on pg oo od oa ob om bs bl bo hd ct wt1 yo1
def hV (x y : Nat → Int32) : Prop := y = x ∧ x 0 = 0
def xfin (u : SX) : SX := match u with | (pc, nx, md, tm, cp, tr, st, en, vc, p0, sc, ca, va, tb, ih, ic, oc, tn, sl, dO, dD, dA, dB, dI, kn, me, xr, ai, ao, on, pg, oo, od, oa, ob, om, bs, bl, bo, hd, ct, un) => (nx, nx, md, tm + 1, cp, tr, st, en, vc, p0, sc, ca, va, tb, ih, ic, oc, tn, sl, dO, dD, dA, dB, dI, kn, me, xr, ai, ao, on, pg, oo, od, oa, ob, om, bs, bl, bo, hd, ct, un)
def yst (st md : Int32) : Int32 := (if st &&& 8 = 0 then 0 else 128) ||| (if md = 3 then 6144 else 0)
def yfin (v : SY) : SY := match v with
  | (pc, md, st, en, vc, sc, p0, ca, va, tb, tm, cp, ic, oc, td, tc, tv, ny, wh, me, xr, wt, yo) => if td = 0 then (ny, md, st, en, vc, sc, p0, ca, va, tb, tm + 1, cp, ic, oc, td, tc, tv, ny, wh, me, xr, wt, yo) else (vc, 3, yst st md, en, vc, sc, pc, tc, tv, tb, tm + 1, cp, ic, oc, td, tc, tv, ny, wh, me, xr, wt, yo)
theorem st_8 (st : Int32) : st &&& 8 = 0 ∨ st &&& 8 = 8 := by
  by_cases h : bt st 3 = true
  · refine Or.inr (b_ext (fun i hi => ?_))
    have e : ∀ i, i < 32 → bt 8 i = decide (i = 3) := by decide +kernel
    rw [b_and, e i hi]
    by_cases z : i = 3
    · subst z; rw [h]; rfl
    · rw [decide_eq_false z, Bool.and_false]
  · refine Or.inl (pb_0 (fun i hi => ?_))
    have e : ∀ i, i < 32 → bt 8 i = decide (i = 3) := by decide +kernel
    rw [b_and, e i hi]
    by_cases z : i = 3
    · subst z
      have : bt st 3 = false := by revert h; cases bt st 3 <;> simp
      rw [this]; rfl
    · rw [decide_eq_false z, Bool.and_false]
theorem xst_yst (st md : Int32) : xst st md = yst st md := by
  unfold xst yst
  rcases st_8 st with h | h
  · rw [h, if_pos rfl]; rfl
  · rw [h, if_neg (show ¬ (8 : Int32) = 0 by decide)]; rfl
theorem hW_tr {md st en : Int32} (h : hW md st en) : hW 3 (xst st md) en := by
  refine ⟨Or.inr rfl, ?_, h.2.2⟩
  rw [xst_yst]
  unfold yst
  by_cases c1 : st &&& 8 = 0 <;> by_cases c2 : md = 3
  · rw [if_pos c1, if_pos c2]; exact Or.inr (by decide)
  · rw [if_pos c1, if_neg c2]; exact Or.inl (by decide)
  · rw [if_neg c1, if_pos c2]; exact Or.inr (by decide)
  · rw [if_neg c1, if_neg c2]; exact Or.inl (by decide)
theorem hO_s {t : Nat} {ao : Nat → Int32} {oc : Int32} {yo : Nat → Int32} (h : hO t ao oc yo) : hO (t + 1) ao oc yo := by
  obtain ⟨o, h1, h2, h3⟩ := h
  exact ⟨o, by omega, h2, h3⟩
/-- one operation, before the step's end: u -> u1 against v' -/
def hM (t o d : Nat) (u u1 : SX) (v' : SY) : Prop := hR hV (t + 1) (xfin u1) (yfin v') ∧ match u, u1, v' with
  | (pc, nx, md, tm, cp, tr, st, en, vc, p0, sc, ca, va, tb, ih, ic, oc, tn, sl, dO, dD, dA, dB, dI, kn, me, xr, ai, ao, on, pg, oo, od, oa, ob, om, bs, bl, bo, hd, ct, un), (pc1, nx1, md1, tm1, cp1, tr1, st1, en1, vc1, p01, sc1, ca1, va1, tb1, ih1, ic1, oc1, tn1, sl1, dO1, dD1, dA1, dB1, dI1, kn1, me1, xr1, ai1, ao1, on1, pg1, oo1, od1, oa1, ob1, om1, bs1, bl1, bo1, hd1, ct1, un1), (pc2, md2, st2, en2, vc2, sc2, p02, ca2, va2, tb2, tm2, cp2, ic2, oc2, td2, tc2, tv2, ny2, wh2, me2, xr2, wt2, yo2) => (tr1 = tr + td2 ∧ (td2 = 0 ∨ td2 = 1)) ∧ (oo1 = oo ∧ od1 = od ∧ oa1 = oa ∧ ob1 = ob ∧ om1 = om) ∧
    (sl1 = 0 → td2 = 0 → goesOn o → nx1 = pc + 4 ∧ md1 = md ∧ tb1 = tb ∧ st1 = st ∧ en1 = en ∧ cp1 = cp ∧ sl = 0 ∧ hd1 = hd ∧
      (∀ j, j < 256 → ¬ hd j = 0 → me1 j = me j) ∧ (∀ p, p < 16 → me1 (16 * bf tb 0 4 + p) = me (16 * bf tb 0 4 + p)) ∧ (∀ r, r ≠ d → xr1 r = xr r))
section
variable {pc nx md tm cp tr st en vc p0 sc ca va tb ih ic oc tn sl dO dD dA dB dI kn td tc tv ny wh : Int32} {me xr ai ao on pg oo od oa ob om bs bl bo hd ct un wt yo : Nat → Int32}
theorem y_102 {post : SY → Prop} (h : post (yfin (pc, md, st, en, vc, sc, p0, ca, va, tb, tm, cp, ic, oc, td, tc, tv, ny, wh, me, xr, wt, yo))) : wY_step_102 post pc md st en vc sc p0 ca va tb tm cp ic oc td tc tv ny wh me xr wt yo := by
  have e : yfin (pc, md, st, en, vc, sc, p0, ca, va, tb, tm, cp, ic, oc, td, tc, tv, ny, wh, me, xr, wt, yo) = if td = 0 then (ny, md, st, en, vc, sc, p0, ca, va, tb, tm + 1, cp, ic, oc, td, tc, tv, ny, wh, me, xr, wt, yo) else (vc, 3, yst st md, en, vc, sc, pc, tc, tv, tb, tm + 1, cp, ic, oc, td, tc, tv, ny, wh, me, xr, wt, yo) := rfl
  rw [e] at h
  refine br_c (fun c => ?_) (fun c => ?_)
  · rw [if_pos c] at h; exact nm_e h
  · rw [if_neg c] at h
    unfold yst at h
    refine br_c (fun c2 => ?_) (fun c2 => ?_)
    · rw [if_pos c2] at h
      refine br_c (fun c3 => ?_) (fun c3 => ?_)
      · rw [if_pos c3] at h; exact nm_e (nm_e h)
      · rw [if_neg c3] at h; exact nm_e (nm_e h)
    · rw [if_neg c2] at h
      refine br_c (fun c3 => ?_) (fun c3 => ?_)
      · rw [if_pos c3] at h; exact nm_e (nm_e h)
      · rw [if_neg c3] at h; exact nm_e (nm_e h)
/-- a trap raised by one operation -/
theorem hM_tr {t o d : Nat} {c a : Int32} {sl1 : Int32} {me1 on1 pg1 bl1 bo1 hd1 : Nat → Int32} (G : hG t md st en tm tb ih ic oc tn me ai ao on pg oo od oa ob om bs bl bo hd ct wt yo) (h0 : xr 0 = 0) (T1 : hT tb me1 on1 pg1) (S1 : hS me1 oo od oa ob om bs bl1 bo1 hd1) :
    hM t o d (pc, nx, md, tm, cp, tr, st, en, vc, p0, sc, ca, va, tb, ih, ic, oc, tn, sl, dO, dD, dA, dB, dI, kn, me, xr, ai, ao, on, pg, oo, od, oa, ob, om, bs, bl, bo, hd, ct, un) (pc, vc, 3, tm, cp, tr + 1, xst st md, en, vc, pc, sc, c, a, tb, ih, ic, oc, tn, sl1, dO, dD, dA, dB, dI, kn, me1, xr, ai, ao, on1, pg1, oo, od, oa, ob, om, bs, bl1, bo1, hd1, ct, un) (pc, md, st, en, vc, sc, p0, ca, va, tb, tm, cp, ic, oc, 1, c, a, ny, wh, me1, xr, wt, yo) := by
  have n1 : ¬ (1 : Int32) = 0 := by decide
  refine ⟨⟨⟨rfl, rfl, (xst_yst st md).symm, rfl, rfl, rfl, rfl, rfl, rfl, rfl, rfl, rfl, rfl, rfl, rfl⟩, ⟨rfl, h0⟩, ?_⟩, ⟨rfl, Or.inr rfl⟩, ⟨rfl, rfl, rfl, rfl, rfl⟩, fun _ z => absurd z n1⟩
  refine ⟨hW_tr G.1, ?_, G.2.2.1, hO_s G.2.2.2.1, T1, S1, G.2.2.2.2.2.2.1, G.2.2.2.2.2.2.2⟩
  rw [G.2.1]; exact nI_1 t
/-- an operation that ends without a trap -/
theorem hM_ok {t o d : Nat} {nx1 md1 cp1 st1 en1 vc1 p01 sc1 ca1 va1 tb1 ih1 ic1 oc1 sl1 : Int32} {me1 xr1 ao1 on1 pg1 bl1 bo1 hd1 wt1 yo1 : Nat → Int32}
    (G : hG (t + 1) md1 st1 en1 (tm + 1) tb1 ih1 ic1 oc1 tn me1 ai ao1 on1 pg1 oo od oa ob om bs bl1 bo1 hd1 ct wt1 yo1) (h0 : xr1 0 = 0)
    (fr : sl1 = 0 → goesOn o → nx1 = pc + 4 ∧ md1 = md ∧ tb1 = tb ∧ st1 = st ∧ en1 = en ∧ cp1 = cp ∧ sl = 0 ∧ hd1 = hd ∧
      (∀ j, j < 256 → ¬ hd j = 0 → me1 j = me j) ∧ (∀ p, p < 16 → me1 (16 * bf tb 0 4 + p) = me (16 * bf tb 0 4 + p)) ∧ (∀ r, r ≠ d → xr1 r = xr r)) :
    hM t o d (pc, nx, md, tm, cp, tr, st, en, vc, p0, sc, ca, va, tb, ih, ic, oc, tn, sl, dO, dD, dA, dB, dI, kn, me, xr, ai, ao, on, pg, oo, od, oa, ob, om, bs, bl, bo, hd, ct, un) (pc, nx1, md1, tm, cp1, tr, st1, en1, vc1, p01, sc1, ca1, va1, tb1, ih1, ic1, oc1, tn, sl1, dO, dD, dA, dB, dI, kn, me1, xr1, ai, ao1, on1, pg1, oo, od, oa, ob, om, bs, bl1, bo1, hd1, ct, un)
      (pc, md1, st1, en1, vc1, sc1, p01, ca1, va1, tb1, tm, cp1, ic1, oc1, 0, tc, tv, nx1, wh, me1, xr1, wt1, yo1) :=
  ⟨⟨⟨rfl, rfl, rfl, rfl, rfl, rfl, rfl, rfl, rfl, rfl, rfl, rfl, rfl, rfl, rfl⟩, ⟨rfl, h0⟩, G⟩, ⟨(Int32.add_zero tr).symm, Or.inl rfl⟩, ⟨rfl, rfl, rfl, rfl, rfl⟩, fun z _ g => fr z g⟩
theorem hG_s {t : Nat} (G : hG t md st en tm tb ih ic oc tn me ai ao on pg oo od oa ob om bs bl bo hd ct wt yo) : hG (t + 1) md st en (tm + 1) tb ih ic oc tn me ai ao on pg oo od oa ob om bs bl bo hd ct wt yo := ⟨G.1, by rw [G.2.1]; exact nI_1 t, G.2.2.1, hO_s G.2.2.2.1, G.2.2.2.2⟩
theorem rs_0 {x : Nat → Int32} {d : Nat} {w : Int32} (h : x 0 = 0) : rs x d w 0 = 0 := by
  unfold rs
  by_cases e : d = 0
  · rw [if_pos e]; exact h
  · rw [if_neg e, pk_un (by omega)]; exact h
theorem rs_n {x : Nat → Int32} {d r : Nat} {w : Int32} (h : r ≠ d) : rs x d w r = x r := by
  unfold rs
  by_cases e : d = 0
  · rw [if_pos e]
  · rw [if_neg e, pk_un h]
/-! X: execute -/
def xX (o d a b : Nat) (c : Int32) (pc nx md tm cp tr st en vc p0 sc ca va tb ih ic oc tn sl dO dD dA dB dI kn : Int32) (me xr ai ao on pg oo od oa ob om bs bl bo hd ct un : Nat → Int32) (u1 : SX) : Prop :=
  (isC o → u1 = (pc, pc + 4, md, tm, cp, tr, st, en, vc, p0, sc, ca, va, tb, ih, ic, oc, tn, sl, dO, dD, dA, dB, dI, kn, me, cx o d a b c pc xr, ai, ao, on, pg, oo, od, oa, ob, om, bs, bl, bo, hd, ct, un)) ∧
  (18 < o → o ≤ 24 → ∀ P : SX → Prop, P u1 → wpX_system P (pc, pc + 4, md, tm, cp, tr, st, en, vc, p0, sc, ca, va, tb, ih, ic, oc, tn, sl, dO, dD, dA, dB, dI, kn, me, xr, ai, ao, on, pg, oo, od, oa, ob, om, bs, bl, bo, hd, ct, un) (nI o) (nI d) (nI a) c) ∧
  (15 < o → o ≤ 18 → ∀ P : SX → Prop, P u1 → wpX_store P (pc, pc + 4, md, tm, cp, tr, st, en, vc, p0, sc, ca, va, tb, ih, ic, oc, tn, sl, dO, dD, dA, dB, dI, kn, me, xr, ai, ao, on, pg, oo, od, oa, ob, om, bs, bl, bo, hd, ct, un) (nI o) (xr a + c) (xr b)) ∧
  (10 < o → o ≤ 15 → ∀ P : SX → Prop, P u1 → wpX_load P (pc, pc + 4, md, tm, cp, tr, st, en, vc, p0, sc, ca, va, tb, ih, ic, oc, tn, sl, dO, dD, dA, dB, dI, kn, me, xr, ai, ao, on, pg, oo, od, oa, ob, om, bs, bl, bo, hd, ct, un) (nI o) (nI d) (xr a + c)) ∧
  (4 < o → o ≤ 10 → ∀ P : SX → Prop, P u1 → wpX_branch P (pc, pc + 4, md, tm, cp, tr, st, en, vc, p0, sc, ca, va, tb, ih, ic, oc, tn, sl, dO, dD, dA, dB, dI, kn, me, xr, ai, ao, on, pg, oo, od, oa, ob, om, bs, bl, bo, hd, ct, un) (nI o) (xr a) (xr b) (pc + c)) ∧
  (o = 4 → ∀ P : SX → Prop, P u1 → wpX_jump P (pc, pc + 4, md, tm, cp, tr, st, en, vc, p0, sc, ca, va, tb, ih, ic, oc, tn, sl, dO, dD, dA, dB, dI, kn, me, xr, ai, ao, on, pg, oo, od, oa, ob, om, bs, bl, bo, hd, ct, un) (nI d) ((xr a + c) &&& (-2))) ∧
  (o = 3 → ∀ P : SX → Prop, P u1 → wpX_jump P (pc, pc + 4, md, tm, cp, tr, st, en, vc, p0, sc, ca, va, tb, ih, ic, oc, tn, sl, dO, dD, dA, dB, dI, kn, me, xr, ai, ao, on, pg, oo, od, oa, ob, om, bs, bl, bo, hd, ct, un) (nI d) (pc + c))
theorem xe_fin {P : SX → Prop} {u1 : SX} (h : P (xfin u1)) : (match u1 with | (pc, nx, md, tm, cp, tr, st, en, vc, p0, sc, ca, va, tb, ih, ic, oc, tn, sl, dO, dD, dA, dB, dI, kn, me, xr, ai, ao, on, pg, oo, od, oa, ob, om, bs, bl, bo, hd, ct, un) => wX_execute_249 P pc nx md tm cp tr st en vc p0 sc ca va tb ih ic oc tn sl dO dD dA dB dI kn me xr ai ao on pg oo od oa ob om bs bl bo hd ct un) := by
  obtain ⟨pc, nx, md, tm, cp, tr, st, en, vc, p0, sc, ca, va, tb, ih, ic, oc, tn, sl, dO, dD, dA, dB, dI, kn, me, xr, ai, ao, on, pg, oo, od, oa, ob, om, bs, bl, bo, hd, ct, un⟩ := u1
  exact nm_e h
theorem x_exec {u1 : SX} {o d a b : Nat} {c : Int32} (ho : o ≤ 24 ∨ (32 ≤ o ∧ o ≤ 48) ∨ (64 ≤ o ∧ o ≤ 80)) (hd' : d < 32) (ha : a < 32) (hb : b < 32) (H : xX o d a b c pc nx md tm cp tr st en vc p0 sc ca va tb ih ic oc tn sl dO dD dA dB dI kn me xr ai ao on pg oo od oa ob om bs bl bo hd ct un u1) (P : SX → Prop) (hP : P (xfin u1)) : wpX_execute P (pc, nx, md, tm, cp, tr, st, en, vc, p0, sc, ca, va, tb, ih, ic, oc, tn, sl, dO, dD, dA, dB, dI, kn, me, xr, ai, ao, on, pg, oo, od, oa, ob, om, bs, bl, bo, hd, ct, un) (nI o) (nI d) (nI a) (nI b) c := by
  have va' : vp_in (nI a) 32 := vp_in_nI ha (by omega)
  have vb' : vp_in (nI b) 32 := vp_in_nI hb (by omega)
  have ca' : (nI a).toNatClampNeg = a := nI_clamp (by omega)
  have cb' : (nI b).toNatClampNeg = b := nI_clamp (by omega)
  obtain ⟨h1, h2, h3, h4, h5, h6, h7⟩ := H
  unfold wpX_execute
  dsimp only
  rw [ca', cb']
  refine nm_e ?_
  refine pk_lt o 64 (fun o64 => pk_lt o 32 (fun o32 => pk_le o 18 (fun o18 => pk_le o 15 (fun o15 => pk_le o 10 (fun o10 => pk_le o 4 (fun o4 => pk_eq o 4 (fun e4 => ?_) (fun n4 => pk_eq o 3 (fun e3 => ?_) (fun n3 => pk_le o 0 (fun e0 => ?_) (fun n0 => pk_eq o 1 (fun e1 => ?_) (fun n1 => ?_))))) (fun g4 => ?_)) (fun g10 => ?_)) (fun g15 => ?_)) (fun g18 => ?_)) (fun g32 => ?_)) (fun g64 => ?_)
  · exact ⟨va', h6 e4 _ (xe_fin hP)⟩
  · exact h7 e3 _ (xe_fin hP)
  · obtain rfl : o = 0 := by omega
    obtain rfl := h1 (Or.inl (by omega))
    exact nm_e hP
  · subst e1
    obtain rfl := h1 (Or.inl (by omega))
    exact x_set d hd' _ (nm_e hP)
  · obtain rfl : o = 2 := by omega
    obtain rfl := h1 (Or.inl (by omega))
    exact x_set d hd' _ (nm_e hP)
  · exact ⟨va', vb', h5 g4 o10 _ (xe_fin hP)⟩
  · exact ⟨va', h4 g10 o15 _ (xe_fin hP)⟩
  · exact ⟨va', vb', h3 g15 o18 _ (xe_fin hP)⟩
  · exact h2 g18 (by omega) _ (xe_fin hP)
  · have hu := h1 (Or.inr (by omega))
    unfold cx at hu
    rw [if_neg (by omega), if_pos g32] at hu
    subst hu
    refine ⟨va', vb', ?_⟩
    rw [show nI o - 32 = nI (o - 32) from pk_sub (b := 32) g32]
    exact x_calc (o - 32) (by omega) _ _ (x_set d hd' _ (nm_e hP))
  · have hu := h1 (Or.inr (by omega))
    unfold cx at hu
    rw [if_pos g64] at hu
    subst hu
    refine ⟨va', ?_⟩
    rw [show nI o - 64 = nI (o - 64) from pk_sub (b := 64) g64]
    exact x_calc (o - 64) (by omega) _ _ (x_set d hd' _ (nm_e hP))
/-- Y: a calculation -/
theorem yX_c {w : Int32} (hc : isC (kO w)) : yX w pc md st en vc sc p0 ca va tb tm cp ic oc td tc tv ny wh me xr wt yo (pc, md, st, en, vc, sc, p0, ca, va, tb, tm, cp, ic, oc, td, tc, tv, ny, wh, me, cx (kO w) (kD w) (kA w) (kB w) (kI w) pc xr, wt, yo) := by
  unfold isC at hc
  unfold yX
  have n2 : ∀ {n : Nat}, kO w = n → ¬ (n < 3 ∨ 24 < n) → False := fun e z => z (by omega)
  refine ⟨fun e => ?_, fun e => ?_, fun e => ?_, fun e => absurd e (by omega), fun e => absurd e (by omega), fun e1 e2 => absurd e1 (by omega), fun f e => absurd e (by omega), fun f e1 e2 => absurd e2 (by omega), fun e => absurd e (by omega), fun e => absurd e (by omega), fun f n e1 e2 e3 => absurd e3 (by omega), fun e => absurd e (by omega), fun e1 e2 => ?_, fun e => ?_⟩
  · unfold cx; rw [if_neg (by omega), if_neg (by omega), if_neg (by omega), if_neg (by omega)]
  · unfold cx; rw [if_neg (by omega), if_neg (by omega), if_neg (by omega), if_pos e]
  · unfold cx; rw [if_neg (by omega), if_neg (by omega), if_pos e]
  · unfold cx; rw [if_neg (by omega), if_pos e1]
  · unfold cx; rw [if_pos e]
end
end
section
/-! jumps, branches, what a load gives -/
section
variable {pc nx md tm cp tr st en vc p0 sc ca va tb ih ic oc tn sl dO dD dA dB dI kn td tc tv ny wh : Int32} {me xr ai ao on pg oo od oa ob om bs bl bo hd ct un wt yo : Nat → Int32}
theorem lc_jump {t o' d' d : Nat} (G : hG t md st en tm tb ih ic oc tn me ai ao on pg oo od oa ob om bs bl bo hd ct wt yo) (h0 : xr 0 = 0) (hd' : d < 32) (to : Int32) (hg : ¬ goesOn o') : ∃ (u1 : SX) (v' : SY), (∀ P : SX → Prop, P u1 → wpX_jump P (pc, pc + 4, md, tm, cp, tr, st, en, vc, p0, sc, ca, va, tb, ih, ic, oc, tn, sl, dO, dD, dA, dB, dI, kn, me, xr, ai, ao, on, pg, oo, od, oa, ob, om, bs, bl, bo, hd, ct, un) (nI d) to) ∧
    (∀ Q : SY → Prop, Q v' → wpY_jump Q (pc, md, st, en, vc, sc, p0, ca, va, tb, tm, cp, ic, oc, 0, tc, tv, pc + 4, wh, me, xr, wt, yo) to (nI d)) ∧ hM t o' d' (pc, nx, md, tm, cp, tr, st, en, vc, p0, sc, ca, va, tb, ih, ic, oc, tn, sl, dO, dD, dA, dB, dI, kn, me, xr, ai, ao, on, pg, oo, od, oa, ob, om, bs, bl, bo, hd, ct, un) u1 v' := by
  by_cases c : to &&& 3 = 0
  · refine ⟨(pc, to, md, tm, cp, tr, st, en, vc, p0, sc, ca, va, tb, ih, ic, oc, tn, sl, dO, dD, dA, dB, dI, kn, me, rs xr d (pc + 4), ai, ao, on, pg, oo, od, oa, ob, om, bs, bl, bo, hd, ct, un), (pc, md, st, en, vc, sc, p0, ca, va, tb, tm, cp, ic, oc, 0, tc, tv, to, wh, me, rs xr d (pc + 4), wt, yo), fun P h => ?_, fun Q h => ?_, ?_⟩
    · exact br_t c (x_set d hd' _ h)
    · exact br_t c (y_set d hd' _ h)
    · exact hM_ok (hG_s G) (rs_0 h0) (fun _ g => absurd g hg)
  · refine ⟨(pc, vc, 3, tm, cp, tr + 1, xst st md, en, vc, pc, sc, 0, to, tb, ih, ic, oc, tn, sl, dO, dD, dA, dB, dI, kn, me, xr, ai, ao, on, pg, oo, od, oa, ob, om, bs, bl, bo, hd, ct, un), (pc, md, st, en, vc, sc, p0, ca, va, tb, tm, cp, ic, oc, 1, 0, to, pc + 4, wh, me, xr, wt, yo), fun P h => ?_, fun Q h => ?_, ?_⟩
    · exact br_f c (x_trap h)
    · exact br_f c h
    · exact hM_tr G h0 G.2.2.2.2.1 G.2.2.2.2.2.1
theorem x_branch {u1 : SX} {o : Nat} (h5 : 5 ≤ o) (h10 : o ≤ 10) {a b to : Int32} (h1 : kc_b o a b → ∀ P : SX → Prop, P u1 → wpX_jump P (pc, nx, md, tm, cp, tr, st, en, vc, p0, sc, ca, va, tb, ih, ic, oc, tn, sl, dO, dD, dA, dB, dI, kn, me, xr, ai, ao, on, pg, oo, od, oa, ob, om, bs, bl, bo, hd, ct, un) 0 to) (h0 : ¬ kc_b o a b → u1 = (pc, nx, md, tm, cp, tr, st, en, vc, p0, sc, ca, va, tb, ih, ic, oc, tn, sl, dO, dD, dA, dB, dI, kn, me, xr, ai, ao, on, pg, oo, od, oa, ob, om, bs, bl, bo, hd, ct, un)) (P : SX → Prop) (hP : P u1) : wpX_branch P (pc, nx, md, tm, cp, tr, st, en, vc, p0, sc, ca, va, tb, ih, ic, oc, tn, sl, dO, dD, dA, dB, dI, kn, me, xr, ai, ao, on, pg, oo, od, oa, ob, om, bs, bl, bo, hd, ct, un) (nI o) a b to := by
  have n1 : ¬ (1 : Int32) = 0 := by decide
  have J : kc_b o a b → wX_branch_98 P to pc nx md tm cp tr st en vc p0 sc ca va tb ih ic oc tn sl dO dD dA dB dI kn me xr ai ao on pg oo od oa ob om bs bl bo hd ct un := fun c => by
    unfold wX_branch_98
    exact h1 c _ hP
  have N : ¬ kc_b o a b → P (pc, nx, md, tm, cp, tr, st, en, vc, p0, sc, ca, va, tb, ih, ic, oc, tn, sl, dO, dD, dA, dB, dI, kn, me, xr, ai, ao, on, pg, oo, od, oa, ob, om, bs, bl, bo, hd, ct, un) := fun c => by have e := h0 c; subst e; exact hP
  unfold kc_b at J N
  have K : ∀ z : Int32, (o = 5 ∨ o = 6 ∨ (o = 7 ∧ ((z = 0 ∧ b ≤ a) ∨ (z = 1 ∧ ¬ b ≤ a))) ∨ (o = 8 ∧ ((z = 0 ∧ b ≤ a) ∨ (z = 1 ∧ ¬ b ≤ a))) ∨
      (o = 9 ∧ ((z = 0 ∧ (b ^^^ (-2147483648)) ≤ (a ^^^ (-2147483648))) ∨ (z = 1 ∧ ¬ (b ^^^ (-2147483648)) ≤ (a ^^^ (-2147483648))))) ∨ (o = 10 ∧ ((z = 0 ∧ (b ^^^ (-2147483648)) ≤ (a ^^^ (-2147483648))) ∨ (z = 1 ∧ ¬ (b ^^^ (-2147483648)) ≤ (a ^^^ (-2147483648)))))) →
      wX_branch_44 P (nI o) a b to z pc nx md tm cp tr st en vc p0 sc ca va tb ih ic oc tn sl dO dD dA dB dI kn me xr ai ao on pg oo od oa ob om bs bl bo hd ct un := by
    intro z hz
    refine pk_eq o 5 (fun e => ?_) (fun e5 => pk_eq o 6 (fun e => ?_) (fun e6 => pk_eq o 7 (fun e => ?_) (fun e7 => pk_eq o 9 (fun e => ?_) (fun e9 => ?_))))
    · subst e
      exact br_c (fun c => J c) (fun c => N c)
    · subst e
      exact br_c (fun c => N (fun z => z c)) (fun c => J c)
    · subst e
      have hz : (z = 0 ∧ b ≤ a) ∨ (z = 1 ∧ ¬ b ≤ a) := by
        rcases hz with y | y | y | y | y | y
        · omega
        · omega
        · exact y.2
        · omega
        · omega
        · omega
      rcases hz with ⟨z0, y⟩ | ⟨z0, y⟩
      · subst z0; exact br_t rfl (N (fun q => q y))
      · subst z0; exact br_f n1 (J y)
    · subst e
      have hz : (z = 0 ∧ (b ^^^ (-2147483648)) ≤ (a ^^^ (-2147483648))) ∨ (z = 1 ∧ ¬ (b ^^^ (-2147483648)) ≤ (a ^^^ (-2147483648))) := by
        rcases hz with y | y | y | y | y | y
        · omega
        · omega
        · omega
        · omega
        · exact y.2
        · omega
      rcases hz with ⟨z0, y⟩ | ⟨z0, y⟩
      · subst z0; exact br_t rfl (N (fun q => q y))
      · subst z0; exact br_f n1 (J y)
    · rcases (by omega : o = 8 ∨ o = 10) with e | e
      · subst e
        have hz : (z = 0 ∧ b ≤ a) ∨ (z = 1 ∧ ¬ b ≤ a) := by
          rcases hz with y | y | y | y | y | y
          · omega
          · omega
          · omega
          · exact y.2
          · omega
          · omega
        rcases hz with ⟨z0, y⟩ | ⟨z0, y⟩
        · subst z0; exact br_t rfl (J y)
        · subst z0; exact br_f n1 (N y)
      · subst e
        have hz : (z = 0 ∧ (b ^^^ (-2147483648)) ≤ (a ^^^ (-2147483648))) ∨ (z = 1 ∧ ¬ (b ^^^ (-2147483648)) ≤ (a ^^^ (-2147483648))) := by
          rcases hz with y | y | y | y | y | y
          · omega
          · omega
          · omega
          · omega
          · omega
          · exact y.2
        rcases hz with ⟨z0, y⟩ | ⟨z0, y⟩
        · subst z0; exact br_t rfl (J y)
        · subst z0; exact br_f n1 (N y)
  refine pk_le o 8 (fun e => pk_le o 8 (fun _ => ?_) (fun z => absurd z (by omega))) (fun e => pk_le o 8 (fun z => absurd z (by omega)) (fun _ => ?_))
  · refine br_c (fun c => K 0 ?_) (fun c => K 1 ?_)
    · rcases (by omega : o = 5 ∨ o = 6 ∨ o = 7 ∨ o = 8) with z | z | z | z
      · exact Or.inl z
      · exact Or.inr (Or.inl z)
      · exact Or.inr (Or.inr (Or.inl ⟨z, Or.inl ⟨rfl, c⟩⟩))
      · exact Or.inr (Or.inr (Or.inr (Or.inl ⟨z, Or.inl ⟨rfl, c⟩⟩)))
    · rcases (by omega : o = 5 ∨ o = 6 ∨ o = 7 ∨ o = 8) with z | z | z | z
      · exact Or.inl z
      · exact Or.inr (Or.inl z)
      · exact Or.inr (Or.inr (Or.inl ⟨z, Or.inr ⟨rfl, c⟩⟩))
      · exact Or.inr (Or.inr (Or.inr (Or.inl ⟨z, Or.inr ⟨rfl, c⟩⟩)))
  · refine br_c (fun c => K 0 ?_) (fun c => K 1 ?_)
    · rcases (by omega : o = 9 ∨ o = 10) with z | z
      · exact Or.inr (Or.inr (Or.inr (Or.inr (Or.inl ⟨z, Or.inl ⟨rfl, c⟩⟩))))
      · exact Or.inr (Or.inr (Or.inr (Or.inr (Or.inr ⟨z, Or.inl ⟨rfl, c⟩⟩))))
    · rcases (by omega : o = 9 ∨ o = 10) with z | z
      · exact Or.inr (Or.inr (Or.inr (Or.inr (Or.inl ⟨z, Or.inr ⟨rfl, c⟩⟩))))
      · exact Or.inr (Or.inr (Or.inr (Or.inr (Or.inr ⟨z, Or.inr ⟨rfl, c⟩⟩))))
theorem lc_branch {t o d' : Nat} (G : hG t md st en tm tb ih ic oc tn me ai ao on pg oo od oa ob om bs bl bo hd ct wt yo) (h0 : xr 0 = 0) (h5 : 5 ≤ o) (h10 : o ≤ 10) (a b to : Int32) : ∃ (u1 : SX) (v' : SY), (∀ P : SX → Prop, P u1 → wpX_branch P (pc, pc + 4, md, tm, cp, tr, st, en, vc, p0, sc, ca, va, tb, ih, ic, oc, tn, sl, dO, dD, dA, dB, dI, kn, me, xr, ai, ao, on, pg, oo, od, oa, ob, om, bs, bl, bo, hd, ct, un) (nI o) a b to) ∧
    ((kc_b o a b → ∀ Q : SY → Prop, Q v' → wpY_jump Q (pc, md, st, en, vc, sc, p0, ca, va, tb, tm, cp, ic, oc, 0, tc, tv, pc + 4, wh, me, xr, wt, yo) to 0) ∧ (¬ kc_b o a b → v' = (pc, md, st, en, vc, sc, p0, ca, va, tb, tm, cp, ic, oc, 0, tc, tv, pc + 4, wh, me, xr, wt, yo))) ∧ hM t o d' (pc, nx, md, tm, cp, tr, st, en, vc, p0, sc, ca, va, tb, ih, ic, oc, tn, sl, dO, dD, dA, dB, dI, kn, me, xr, ai, ao, on, pg, oo, od, oa, ob, om, bs, bl, bo, hd, ct, un) u1 v' := by
  have hg : ¬ goesOn o := by unfold goesOn; omega
  by_cases c : kc_b o a b
  · obtain ⟨u1, v', k1, k2, k3⟩ := lc_jump (nx := nx) (tr := tr) (sl := sl) (dO := dO) (dD := dD) (dA := dA) (dB := dB) (dI := dI) (kn := kn) (un := un) (pc := pc) (cp := cp) (vc := vc) (p0 := p0) (sc := sc) (ca := ca) (va := va) (xr := xr) (tc := tc) (tv := tv) (wh := wh) (o' := o) (d' := d') (d := 0) G h0 (by omega) to hg
    exact ⟨u1, v', x_branch h5 h10 (fun _ => k1) (fun z => absurd c z), ⟨fun _ => k2, fun z => absurd c z⟩, k3⟩
  · refine ⟨(pc, pc + 4, md, tm, cp, tr, st, en, vc, p0, sc, ca, va, tb, ih, ic, oc, tn, sl, dO, dD, dA, dB, dI, kn, me, xr, ai, ao, on, pg, oo, od, oa, ob, om, bs, bl, bo, hd, ct, un), (pc, md, st, en, vc, sc, p0, ca, va, tb, tm, cp, ic, oc, 0, tc, tv, pc + 4, wh, me, xr, wt, yo), x_branch h5 h10 (fun z => absurd z c) (fun _ => rfl), ⟨fun z => absurd z c, fun _ => rfl⟩, ?_⟩
    exact hM_ok (hG_s G) h0 (fun _ g => absurd g hg)
end
/-! loaded values -/
def xext (o : Nat) (v : Int32) : Int32 := if o = 11 then v.toInt8.toInt32 else if o = 12 then v.toInt16.toInt32 else if o = 13 then v else if o = 14 then v &&& 255 else (v.toUInt32 % 65536).toInt32
theorem b_i8 (v : Int32) {i : Nat} (hi : i < 32) : bt (v.toInt8.toInt32) i = if i < 8 then bt v i else bt v 7 := by
  unfold bt
  rw [Int8.toBitVec_toInt32, Int32.toBitVec_toInt8, BitVec.getLsbD_signExtend, decide_eq_true hi, Bool.true_and]
  by_cases z : i < 8
  · rw [if_pos z, if_pos z, BitVec.getLsbD_signExtend, decide_eq_true z, Bool.true_and, if_pos hi]
  · rw [if_neg z, if_neg z, BitVec.msb_eq_getLsbD_last, BitVec.getLsbD_signExtend]
    rfl
theorem b_i16 (v : Int32) {i : Nat} (hi : i < 32) : bt (v.toInt16.toInt32) i = if i < 16 then bt v i else bt v 15 := by
  unfold bt
  rw [Int16.toBitVec_toInt32, Int32.toBitVec_toInt16, BitVec.getLsbD_signExtend, decide_eq_true hi, Bool.true_and]
  by_cases z : i < 16
  · rw [if_pos z, if_pos z, BitVec.getLsbD_signExtend, decide_eq_true z, Bool.true_and, if_pos hi]
  · rw [if_neg z, if_neg z, BitVec.msb_eq_getLsbD_last, BitVec.getLsbD_signExtend]
    rfl
theorem b_u16 (v : Int32) {i : Nat} (hi : i < 32) : bt ((v.toUInt32 % 65536).toInt32) i = (decide (i < 16) && bt v i) := by
  rw [pk_char, bt_nI, decide_eq_true hi, Bool.true_and, show (65536 : Nat) = 2 ^ 16 from rfl, Nat.testBit_mod_two_pow, bt_kW]
  rfl
theorem b_sgn (v : Int32) (k : Nat) (h0 : 0 < k) (hk : k < 32) {i : Nat} (hi : i < 32) : bt ((v <<< (nI (32 - k) &&& 31)) >>> (nI (32 - k) &&& 31)) i = if i < k then bt v i else bt v (k - 1) := by
  have e := b_sx (kW v) k hk h0 hi
  rw [kh_nIW] at e
  rw [e, bt_kW, bt_kW]
/-- (f, o, s): the reference's f, the operation, the size -/
def ld (f o s : Nat) : Prop := (f = 0 ∧ o = 11 ∧ s = 1) ∨ (f = 1 ∧ o = 12 ∧ s = 2) ∨ (f = 2 ∧ o = 13 ∧ s = 4) ∨ (f = 4 ∧ o = 14 ∧ s = 1) ∨ (f = 5 ∧ o = 15 ∧ s = 2)
section
variable {pc nx md tm cp tr st en vc p0 sc ca va tb ih ic oc tn sl dO dD dA dB dI kn td tc tv ny wh : Int32} {me xr ai ao on pg oo od oa ob om bs bl bo hd ct un wt yo : Nat → Int32}
theorem x_ld74 {P : SX → Prop} {o d : Nat} (h11 : 11 ≤ o) (h15 : o ≤ 15) (hd' : d < 32) {v : Int32} (h : P (pc, nx, md, tm, cp, tr, st, en, vc, p0, sc, ca, va, tb, ih, ic, oc, tn, sl, dO, dD, dA, dB, dI, kn, me, rs xr d (xext o v), ai, ao, on, pg, oo, od, oa, ob, om, bs, bl, bo, hd, ct, un)) : wX_load_74 P (nI o) (nI d) v pc nx md tm cp tr st en vc p0 sc ca va tb ih ic oc tn sl dO dD dA dB dI kn me xr ai ao on pg oo od oa ob om bs bl bo hd ct un := by
  unfold xext at h
  refine pk_lt o 11 (fun z => absurd z (by omega)) (fun _ => pk_lt 14 o (fun e => ?_) (fun _ => pk_eq o 11 (fun e => ?_) (fun e1 => pk_eq o 12 (fun e => ?_) (fun e2 => pk_eq o 13 (fun e => ?_) (fun e3 => pk_eq o 14 (fun e => ?_) (fun _ => trivial))))))
  · rw [if_neg (by omega), if_neg (by omega), if_neg (by omega), if_neg (by omega)] at h
    exact x_set d hd' _ h
  · rw [if_pos e] at h; exact x_set d hd' _ h
  · rw [if_neg e1, if_pos e] at h; exact x_set d hd' _ h
  · rw [if_neg e1, if_neg e2, if_pos e] at h; exact x_set d hd' _ h
  · rw [if_neg e1, if_neg e2, if_neg e3, if_pos e] at h; exact x_set d hd' _ h
theorem y_ld {Q : SY → Prop} {f o s d : Nat} (hl : ld f o s) (hd' : d < 32) {vx vy : Int32} (hv : ∀ i, i < 8 * s → bt vx i = bt vy i) (h : Q (pc, md, st, en, vc, sc, p0, ca, va, tb, tm, cp, ic, oc, td, tc, tv, ny, wh, me, rs xr d (xext o vx), wt, yo)) : wY_load_117 Q (nI f) (nI d) (nI s) vy pc md st en vc sc p0 ca va tb tm cp ic oc td tc tv ny wh me xr wt yo := by
  rcases hl with ⟨rfl, rfl, rfl⟩ | ⟨rfl, rfl, rfl⟩ | ⟨rfl, rfl, rfl⟩ | ⟨rfl, rfl, rfl⟩ | ⟨rfl, rfl, rfl⟩
  · have e : xext 11 vx = (vy <<< (nI 24 &&& 31)) >>> (nI 24 &&& 31) := by
      apply b_ext
      intro i hi
      show bt (vx.toInt8.toInt32) i = _
      rw [b_i8 vx hi, b_sgn vy 8 (by omega) (by omega) hi]
      by_cases z : i < 8
      · rw [if_pos z, if_pos z, hv i (by omega)]
      · rw [if_neg z, if_neg z, hv 7 (by omega)]
    rw [e] at h
    exact br_f (by decide) (br_f (by decide) (y_sg _ _ 24 (by decide) (y_set d hd' _ h)))
  · have e : xext 12 vx = (vy <<< (nI 16 &&& 31)) >>> (nI 16 &&& 31) := by
      apply b_ext
      intro i hi
      show bt (vx.toInt16.toInt32) i = _
      rw [b_i16 vx hi, b_sgn vy 16 (by omega) (by omega) hi]
      by_cases z : i < 16
      · rw [if_pos z, if_pos z, hv i (by omega)]
      · rw [if_neg z, if_neg z, hv 15 (by omega)]
    rw [e] at h
    exact br_f (by decide) (br_f (by decide) (y_sg _ _ 16 (by decide) (y_set d hd' _ h)))
  · have e : xext 13 vx = vy := by
      show vx = vy
      exact b_ext (fun i hi => hv i (by omega))
    rw [e] at h
    exact br_t (by decide) (y_set d hd' _ h)
  · have e : xext 14 vx = vy &&& 255 := by
      apply b_ext
      intro i hi
      show bt (vx &&& 255) i = _
      rw [b_and, b_and, b_255]
      by_cases z : i < 8
      · rw [hv i (by omega)]
      · rw [decide_eq_false z, Bool.and_false, Bool.and_false]
    rw [e] at h
    exact br_f (by decide) (br_t (by decide) (br_t rfl (y_set d hd' _ h)))
  · have e : xext 15 vx = vy &&& 65535 := by
      apply b_ext
      intro i hi
      show bt ((vx.toUInt32 % 65536).toInt32) i = _
      rw [b_u16 vx hi, b_and, b_65535]
      by_cases z : i < 16
      · rw [hv i (by omega), Bool.and_comm]
      · rw [decide_eq_false z, Bool.and_false, Bool.false_and]
    rw [e] at h
    exact br_f (by decide) (br_t (by decide) (br_f (by decide) (y_set d hd' _ h)))
/-! the device's input -/
theorem yt_loop {r : Int32} {c : Nat} (hc : c ≤ 7) : ∀ (d i : Nat) (wt0 : Nat → Int32), i + d = c → ∃ wt' : Nat → Int32, (∀ j, j < i → wt' j = wt0 j) ∧ (∀ j, i ≤ j → j < c → wt' j = wt0 (j + 1)) ∧
    ∀ Q : Int32 → SY → Prop, Q r (pc, md, st, en, vc, sc, p0, ca, va, tb, tm, cp, nI c, oc, td, tc, tv, ny, wh, me, xr, wt', yo) → wY_take_28 Q r pc md st en vc sc p0 ca va tb tm cp (nI c) oc td tc tv ny wh (d + 1) (nI i) me xr wt0 yo := by
  intro d
  induction d with
  | zero =>
    intro i wt0 hi
    exact ⟨wt0, fun _ _ => rfl, fun j a b => absurd b (by omega), fun Q h => br_t (nI_le (by omega) (by omega)) h⟩
  | succ d IH =>
    intro i wt0 hi
    obtain ⟨wt', k1, k2, k3⟩ := IH (i + 1) (upd wt0 i (wt0 (i + 1))) (by omega)
    refine ⟨wt', fun j hj => ?_, fun j a b => ?_, fun Q h => ?_⟩
    · rw [k1 j (by omega), pk_un (by omega)]
    · by_cases e : j = i
      · subst e; rw [k1 j (by omega), pk_us]
      · rw [k2 j (by omega) b, pk_un (by omega)]
    · refine br_f (nI_ge (by omega) (by omega)) ?_
      rw [nI_1, nI_clamp (by omega), nI_clamp (by omega)]
      exact ⟨vp_in_nI (by omega) (by omega), vp_in_nI (by omega) (by omega), nm_e (nm_e (k3 Q h))⟩
theorem lc_take (HI : hI ai ih ic wt) : ∃ (r ih' ic' : Int32) (wt' : Nat → Int32), hI ai ih' ic' wt' ∧ (∀ P : Int32 → SX → Prop, P r (pc, nx, md, tm, cp, tr, st, en, vc, p0, sc, ca, va, tb, ih', ic', oc, tn, sl, dO, dD, dA, dB, dI, kn, me, xr, ai, ao, on, pg, oo, od, oa, ob, om, bs, bl, bo, hd, ct, un) → wpX_device P (pc, nx, md, tm, cp, tr, st, en, vc, p0, sc, ca, va, tb, ih, ic, oc, tn, sl, dO, dD, dA, dB, dI, kn, me, xr, ai, ao, on, pg, oo, od, oa, ob, om, bs, bl, bo, hd, ct, un) 1024) ∧
    (∀ Q : Int32 → SY → Prop, Q r (pc, md, st, en, vc, sc, p0, ca, va, tb, tm, cp, ic', oc, td, tc, tv, ny, wh, me, xr, wt', yo) → wpY_take Q (pc, md, st, en, vc, sc, p0, ca, va, tb, tm, cp, ic, oc, td, tc, tv, ny, wh, me, xr, wt, yo)) := by
  obtain ⟨h, c, h8, c8, rfl, rfl, hi⟩ := HI
  have n1 : ¬ (1024 : Int32) = 1028 := by decide
  have n2 : ¬ (1024 : Int32) = 1032 := by decide
  by_cases c0 : c = 0
  · subst c0
    exact ⟨-1, nI h, nI 0, wt, ⟨h, 0, h8, by omega, rfl, rfl, hi⟩, fun P hP => br_f n1 (br_f n2 (br_t rfl hP)), fun Q hQ => br_t rfl hQ⟩
  · obtain ⟨wt', k1, k2, k3⟩ := yt_loop (pc := pc) (md := md) (st := st) (en := en) (vc := vc) (sc := sc) (p0 := p0) (ca := ca) (va := va) (tb := tb) (tm := tm) (cp := cp) (oc := oc) (td := td) (tc := tc) (tv := tv) (ny := ny) (wh := wh) (me := me) (xr := xr) (yo := yo) (r := wt 0) (c := c - 1) (by omega) (c - 1) 0 wt (by omega)
    have e0 := hi 0 (by omega)
    rw [Nat.add_zero, Nat.mod_eq_of_lt h8] at e0
    have e1 : (nI h + 1) &&& 7 = nI ((h + 1) % 8) := by rw [nI_1]; exact pk_andN (n := h + 1) (by omega) 3 (by decide)
    have e2 : nI c - 1 = nI (c - 1) := by rw [← nI_pred (c - 1)]; congr 2; omega
    refine ⟨wt 0, nI ((h + 1) % 8), nI (c - 1), wt', ⟨(h + 1) % 8, c - 1, by omega, by omega, rfl, rfl, fun i hj => ?_⟩, fun P hP => ?_, fun Q hQ => ?_⟩
    · rw [k2 i (by omega) hj, ← hi (i + 1) (by omega)]
      congr 2
      omega
    · refine br_f n1 (br_f n2 (br_f (nI_ne0 (by omega) (by omega)) ?_))
      rw [nI_clamp (by omega), e0]
      exact ⟨vp_in_nI h8 (by omega), nm_e (nm_r e1 (nm_r e2 hP))⟩
    · refine br_f (nI_ne0 (by omega) (by omega)) (nm_e (nm_r e2 ⟨_, k3 Q hQ⟩))
end
end
section
/-! load, store -/
section
variable {pc nx md tm cp tr st en vc p0 sc ca va tb ih ic oc tn sl dO dD dA dB dI kn td tc tv ny wh : Int32} {me xr ai ao on pg oo od oa ob om bs bl bo hd ct un wt yo : Nat → Int32}
theorem dv_4 (n : Nat) (h : n < 2000) : nI n / 4 = nI (n / 4) := pk_div (d := 4) (by omega) (by omega) (by omega)
theorem sh_2 (n : Nat) (h : n < 2000) : nI n >>> ((2 : Int32) &&& 31) = nI (n / 4) := pk_shrN (n := n) (by omega) _ 2 (by decide)
theorem sh_x (n : Nat) (h : n < 2000) : (nI n &&& 3) <<< ((3 : Int32) &&& 31) = nI (n % 4 * 8) := by
  have e : nI n &&& 3 = nI (n % 4) := pk_andN (n := n) (by omega) 2 (by decide)
  rw [e]
  exact pk_shlN _ 3 (by decide) (by omega)
theorem sh_y (n : Nat) (h : n < 2000) : (8 : Int32) * (nI n - nI n / 4 * 4) = nI (n % 4 * 8) := by
  have e : nI n - nI n / 4 * 4 = nI (n % 4) := pk_rem (d := 4) (by omega) (by omega) (by omega)
  rw [e, Nat.mul_comm]
  exact pk_mul 8 _
theorem ld_v (w : Int32) {n s : Nat} (hs : s = 1 ∨ s = 2 ∨ s = 4) (hn : n % s = 0) : ∀ i, i < 8 * s → bt (w >>> (nI (n % 4 * 8) &&& 31)) i = bt ((w.toUInt32 >>> ((nI (n % 4 * 8)).toUInt32 &&& Int32.toUInt32 31)).toInt32) i := by
  intro i hi
  have h : n % 4 * 8 + i < 32 := by rcases hs with z | z | z <;> subst z <;> omega
  rw [b_sshr _ (by omega) _ (by omega), b_ushr _ (by omega), if_pos h]
theorem x_ld29 {P : SX → Prop} {o d s : Nat} {f : Nat} (hl : ld f o s) {a : Int32} (h : wX_load_29 P (nI o) (nI d) (nI s) a pc nx md tm cp tr st en vc p0 sc ca va tb ih ic oc tn sl dO dD dA dB dI kn me xr ai ao on pg oo od oa ob om bs bl bo hd ct un) : wpX_load P (pc, nx, md, tm, cp, tr, st, en, vc, p0, sc, ca, va, tb, ih, ic, oc, tn, sl, dO, dD, dA, dB, dI, kn, me, xr, ai, ao, on, pg, oo, od, oa, ob, om, bs, bl, bo, hd, ct, un) (nI o) (nI d) a := by
  rcases hl with ⟨rfl, rfl, rfl⟩ | ⟨rfl, rfl, rfl⟩ | ⟨rfl, rfl, rfl⟩ | ⟨rfl, rfl, rfl⟩ | ⟨rfl, rfl, rfl⟩
  · exact br_f (by decide) (br_f (by decide) (br_f (by decide) h))
  · exact br_f (by decide) (br_t rfl h)
  · exact br_t rfl h
  · exact br_f (by decide) (br_f (by decide) (br_f (by decide) h))
  · exact br_f (by decide) (br_f (by decide) (br_t rfl h))
theorem y_ld22 {Q : SY → Prop} {o d s : Nat} {f : Nat} (hl : ld f o s) {a : Int32} (h : wY_load_22 Q a (nI f) (nI d) (nI s) pc md st en vc sc p0 ca va tb tm cp ic oc td tc tv ny wh me xr wt yo) : wpY_load Q (pc, md, st, en, vc, sc, p0, ca, va, tb, tm, cp, ic, oc, td, tc, tv, ny, wh, me, xr, wt, yo) a (nI f) (nI d) := by
  have n4 : ¬ (4 : Int32) = 0 := by decide
  rcases hl with ⟨rfl, rfl, rfl⟩ | ⟨rfl, rfl, rfl⟩ | ⟨rfl, rfl, rfl⟩ | ⟨rfl, rfl, rfl⟩ | ⟨rfl, rfl, rfl⟩
  · exact ⟨n4, br_t (by decide) h⟩
  · exact ⟨n4, br_f (by decide) ⟨n4, br_t (by decide) h⟩⟩
  · exact ⟨n4, br_f (by decide) ⟨n4, br_f (by decide) h⟩⟩
  · exact ⟨n4, br_t (by decide) h⟩
  · exact ⟨n4, br_f (by decide) ⟨n4, br_t (by decide) h⟩⟩
theorem lc_load {t f o s d : Nat} (G : hG t md st en tm tb ih ic oc tn me ai ao on pg oo od oa ob om bs bl bo hd ct wt yo) (h0 : xr 0 = 0) (hrd : d < 32) (hl : ld f o s) (a : Int32) : ∃ (u1 : SX) (v' : SY), (∀ P : SX → Prop, P u1 → wpX_load P (pc, pc + 4, md, tm, cp, tr, st, en, vc, p0, sc, ca, va, tb, ih, ic, oc, tn, sl, dO, dD, dA, dB, dI, kn, me, xr, ai, ao, on, pg, oo, od, oa, ob, om, bs, bl, bo, hd, ct, un) (nI o) (nI d) a) ∧
    (∀ Q : SY → Prop, Q v' → wpY_load Q (pc, md, st, en, vc, sc, p0, ca, va, tb, tm, cp, ic, oc, 0, tc, tv, pc + 4, wh, me, xr, wt, yo) a (nI f) (nI d)) ∧ hM t o d (pc, nx, md, tm, cp, tr, st, en, vc, p0, sc, ca, va, tb, ih, ic, oc, tn, sl, dO, dD, dA, dB, dI, kn, me, xr, ai, ao, on, pg, oo, od, oa, ob, om, bs, bl, bo, hd, ct, un) u1 v' := by
  have hs : s = 1 ∨ s = 2 ∨ s = 4 := by unfold ld at hl; omega
  have ho : 11 ≤ o ∧ o ≤ 15 := by unfold ld at hl; omega
  have n4 : ¬ (4 : Int32) = 0 := by decide
  have n10 : ¬ (1 : Int32) = 0 := by decide
  obtain ⟨S, L, H, HC⟩ := G.2.2.2.2.2.1
  rcases ls_loc (pc := pc) (nx := pc + 4) (md := md) (tm := tm) (cp := cp) (tr := tr) (st := st) (en := en) (vc := vc) (p0 := p0) (sc := sc) (ca := ca) (va := va) (tb := tb) (ih := ih) (ic := ic) (oc := oc) (tn := tn) (sl := sl) (dO := dO) (dD := dD) (dA := dA) (dB := dB) (dI := dI) (kn := kn) (me := me) (xr := xr) (ai := ai) (ao := ao) (on := on) (pg := pg) (oo := oo) (od := od) (oa := oa) (ob := ob) (om := om) (bs := bs) (bl := bl) (bo := bo) (hd := hd) (ct := ct) (un := un) (tc := tc) (tv := tv) (ny := pc + 4) (wh := wh) (wt := wt) (yo := yo) H HC G.2.2.2.2.1 (k := 1) (s := s) (by omega) hs a with ⟨c, hX, hY⟩ | ⟨n, sl', me', on', pg', bl', bo', hd', hn, hns, ⟨L', H1, H2, H3, H4⟩, _, hX, hY⟩
  · refine ⟨(pc, vc, 3, tm, cp, tr + 1, xst st md, en, vc, pc, sc, c, a, tb, ih, ic, oc, tn, sl, dO, dD, dA, dB, dI, kn, me, xr, ai, ao, on, pg, oo, od, oa, ob, om, bs, bl, bo, hd, ct, un), (pc, md, st, en, vc, sc, p0, ca, va, tb, tm, cp, ic, oc, 1, c, a, pc + 4, a, me, xr, wt, yo), fun P h => x_ld29 hl ?_, fun Q h => y_ld22 hl ?_, hM_tr G h0 G.2.2.2.2.1 G.2.2.2.2.2.1⟩
    · unfold wX_load_29
      exact hX _ (br_f (by decide) h)
    · unfold wY_load_22
      exact hY _ (br_t rfl h)
  · have fr : ∀ (x1 : Nat → Int32), (∀ r, r ≠ d → x1 r = xr r) → sl' = 0 → goesOn o → pc + 4 = pc + 4 ∧ md = md ∧ tb = tb ∧ st = st ∧ en = en ∧ cp = cp ∧ sl = 0 ∧ hd' = hd ∧
      (∀ j, j < 256 → ¬ hd j = 0 → me' j = me j) ∧ (∀ p, p < 16 → me' (16 * bf tb 0 4 + p) = me (16 * bf tb 0 4 + p)) ∧ (∀ r, r ≠ d → x1 r = xr r) := by
      intro x1 hx e _
      obtain ⟨e1, e2, e3⟩ := H4 e
      subst e3
      exact ⟨rfl, rfl, rfl, rfl, rfl, rfl, e1, e2, fun _ _ _ => rfl, fun _ _ => rfl, hx⟩
    have G1 := hG_s G
    by_cases hm : n < 1024
    · refine ⟨(pc, pc + 4, md, tm, cp, tr, st, en, vc, p0, sc, ca, va, tb, ih, ic, oc, tn, sl', dO, dD, dA, dB, dI, kn, me', rs xr d (xext o (me' (n / 4) >>> (nI (n % 4 * 8) &&& 31))), ai, ao, on', pg', oo, od, oa, ob, om, bs, bl', bo', hd', ct, un), (pc, md, st, en, vc, sc, p0, ca, va, tb, tm, cp, ic, oc, 0, tc, tv, pc + 4, nI n, me', rs xr d (xext o (me' (n / 4) >>> (nI (n % 4 * 8) &&& 31))), wt, yo), fun P h => x_ld29 hl ?_, fun Q h => y_ld22 hl ?_, ?_⟩
      · unfold wX_load_29
        refine hX _ (br_t (nI_pos' (by omega)) (br_f (nI_ge (b := 1024) hm (by omega)) ?_))
        rw [sh_2 n (by omega), sh_x n (by omega), nI_clamp (by omega)]
        exact ⟨vp_in_nI (by omega) (by omega), x_ld74 ho.1 ho.2 hrd h⟩
      · unfold wY_load_22
        refine hY _ (br_f n10 (br_f (nI_ge (b := 1024) hm (by omega)) ⟨n4, ?_⟩))
        rw [dv_4 n (by omega)]
        refine ⟨vp_in_nI (by omega) (by omega), n4, ?_⟩
        rw [nI_clamp (by omega)]
        refine nm_e ?_
        have e : (8 : Int32) * (nI n - nI (n / 4) * 4) = nI (n % 4 * 8) := by rw [← dv_4 n (by omega)]; exact sh_y n (by omega)
        rw [e]
        exact y_ld hl hrd (ld_v _ hs hns) h
      · exact hM_ok ⟨G1.1, G1.2.1, G1.2.2.1, G1.2.2.2.1, H3, ⟨S, L', H1, H2⟩, G1.2.2.2.2.2.2⟩ (rs_0 h0) (fr _ (fun r hr => rs_n hr))
    · have hv : dev n := by
        rcases hn with z | z
        · exact absurd z hm
        · exact z.2
      have hr : n < 2000 := by unfold dev at hv; omega
      have ge : (1024 : Int32) ≤ nI n := nI_le (a := 1024) (by omega) (by omega)
      -- a value r, and the input behind it
      have K : ∀ (r ih' ic' : Int32) (wt' : Nat → Int32), hI ai ih' ic' wt' → (∀ P : Int32 → SX → Prop, P r (pc, pc + 4, md, tm, cp, tr, st, en, vc, p0, sc, ca, va, tb, ih', ic', oc, tn, sl', dO, dD, dA, dB, dI, kn, me', xr, ai, ao, on', pg', oo, od, oa, ob, om, bs, bl', bo', hd', ct, un) → wpX_device P (pc, pc + 4, md, tm, cp, tr, st, en, vc, p0, sc, ca, va, tb, ih, ic, oc, tn, sl', dO, dD, dA, dB, dI, kn, me', xr, ai, ao, on', pg', oo, od, oa, ob, om, bs, bl', bo', hd', ct, un) (nI n)) →
          (∀ Q : SY → Prop, wY_load_117 Q (nI f) (nI d) (nI s) r pc md st en vc sc p0 ca va tb tm cp ic' oc 0 tc tv (pc + 4) (nI n) me' xr wt' yo →
            ((nI n = 1024 → wpY_take (fun r u => match u with | (pc, md, st, en, vc, sc, p0, ca, va, tb, tm, cp, ic, oc, td, tc, tv, ny, wh, me, xr, wt, yo) => wY_load_117 Q (nI f) (nI d) (nI s) r pc md st en vc sc p0 ca va tb tm cp ic oc td tc tv ny wh me xr wt yo) (pc, md, st, en, vc, sc, p0, ca, va, tb, tm, cp, ic, oc, 0, tc, tv, pc + 4, nI n, me', xr, wt, yo)) ∧ (¬ nI n = 1024 → ((nI n = 1028 → wY_load_115 Q (nI f) (nI d) (nI s) tm pc md st en vc sc p0 ca va tb tm cp ic oc 0 tc tv (pc + 4) (nI n) me' xr wt yo) ∧ (¬ nI n = 1028 → wY_load_115 Q (nI f) (nI d) (nI s) cp pc md st en vc sc p0 ca va tb tm cp ic oc 0 tc tv (pc + 4) (nI n) me' xr wt yo))))) →
          ∃ (u1 : SX) (v' : SY), (∀ P : SX → Prop, P u1 → wpX_load P (pc, pc + 4, md, tm, cp, tr, st, en, vc, p0, sc, ca, va, tb, ih, ic, oc, tn, sl, dO, dD, dA, dB, dI, kn, me, xr, ai, ao, on, pg, oo, od, oa, ob, om, bs, bl, bo, hd, ct, un) (nI o) (nI d) a) ∧
            (∀ Q : SY → Prop, Q v' → wpY_load Q (pc, md, st, en, vc, sc, p0, ca, va, tb, tm, cp, ic, oc, 0, tc, tv, pc + 4, wh, me, xr, wt, yo) a (nI f) (nI d)) ∧ hM t o d (pc, nx, md, tm, cp, tr, st, en, vc, p0, sc, ca, va, tb, ih, ic, oc, tn, sl, dO, dD, dA, dB, dI, kn, me, xr, ai, ao, on, pg, oo, od, oa, ob, om, bs, bl, bo, hd, ct, un) u1 v' := by
        intro r ih' ic' wt' hi kX kY
        refine ⟨(pc, pc + 4, md, tm, cp, tr, st, en, vc, p0, sc, ca, va, tb, ih', ic', oc, tn, sl', dO, dD, dA, dB, dI, kn, me', rs xr d (xext o r), ai, ao, on', pg', oo, od, oa, ob, om, bs, bl', bo', hd', ct, un), (pc, md, st, en, vc, sc, p0, ca, va, tb, tm, cp, ic', oc, 0, tc, tv, pc + 4, nI n, me', rs xr d (xext o r), wt', yo), fun P h => x_ld29 hl ?_, fun Q h => y_ld22 hl ?_, ?_⟩
        · unfold wX_load_29
          exact hX _ (br_t (nI_pos' (by omega)) (br_t ge (kX _ (x_ld74 ho.1 ho.2 hrd h))))
        · unfold wY_load_22
          exact hY _ (br_f n10 (br_t ge (kY Q (y_ld hl hrd (fun _ _ => rfl) h))))
        · exact hM_ok ⟨G1.1, G1.2.1, hi, G1.2.2.2.1, H3, ⟨S, L', H1, H2⟩, G1.2.2.2.2.2.2⟩ (rs_0 h0) (fr _ (fun r hr => rs_n hr))
      have n1 : ¬ nI 1028 = 1024 := by decide
      have n2 : ¬ nI 1032 = 1024 := by decide
      have n3 : ¬ nI 1032 = 1028 := by decide
      rcases hv with z | z | z
      · subst z
        obtain ⟨r, ih', ic', wt', k1, k2, k3⟩ := lc_take (pc := pc) (nx := pc + 4) (md := md) (tm := tm) (cp := cp) (tr := tr) (st := st) (en := en) (vc := vc) (p0 := p0) (sc := sc) (ca := ca) (va := va) (tb := tb) (ih := ih) (ic := ic) (oc := oc) (tn := tn) (sl := sl') (dO := dO) (dD := dD) (dA := dA) (dB := dB) (dI := dI) (kn := kn) (me := me') (xr := xr) (ai := ai) (ao := ao) (on := on') (pg := pg') (oo := oo) (od := od) (oa := oa) (ob := ob) (om := om) (bs := bs) (bl := bl') (bo := bo') (hd := hd') (ct := ct) (un := un) (td := 0) (tc := tc) (tv := tv) (ny := pc + 4) (wh := nI 1024) (wt := wt) (yo := yo) G.2.2.1
        exact K r ih' ic' wt' k1 k2 (fun Q h => br_t rfl (k3 _ h))
      · subst z
        exact K tm ih ic wt G.2.2.1 (fun P hP => br_t rfl hP) (fun Q h => br_f n1 (br_t rfl h))
      · subst z
        exact K cp ih ic wt G.2.2.1 (fun P hP => br_f n3 (br_t rfl hP)) (fun Q h => br_f n2 (br_f n3 h))
def mz (f : Nat) : Int32 := if f = 0 then 255 else if f = 1 then 65535 else -1
theorem x_stsel {P : SX → Prop} {f : Nat} (hf : f < 3) {v r : Int32} (h : wX_store_44 P v r (mz f) pc nx md tm cp tr st en vc p0 sc ca va tb ih ic oc tn sl dO dD dA dB dI kn me xr ai ao on pg oo od oa ob om bs bl bo hd ct un) : ((nI (16 + f) = 16 → wX_store_44 P v r 255 pc nx md tm cp tr st en vc p0 sc ca va tb ih ic oc tn sl dO dD dA dB dI kn me xr ai ao on pg oo od oa ob om bs bl bo hd ct un) ∧ (¬ nI (16 + f) = 16 → ((nI (16 + f) = 17 → wX_store_44 P v r 65535 pc nx md tm cp tr st en vc p0 sc ca va tb ih ic oc tn sl dO dD dA dB dI kn me xr ai ao on pg oo od oa ob om bs bl bo hd ct un) ∧ (¬ nI (16 + f) = 17 → wX_store_44 P v r (-1) pc nx md tm cp tr st en vc p0 sc ca va tb ih ic oc tn sl dO dD dA dB dI kn me xr ai ao on pg oo od oa ob om bs bl bo hd ct un)))) := by
  rcases (by omega : f = 0 ∨ f = 1 ∨ f = 2) with z | z | z
  · subst z; exact br_t rfl h
  · subst z; exact br_f (by decide) (br_t rfl h)
  · subst z; exact br_f (by decide) (br_f (by decide) h)
theorem y_st41 {Q : SY → Prop} {f s : Nat} (hf : f < 3) (hs : s = 2 ^ f) {a v : Int32} (h : wY_store_41 Q a v (nI s) (mz f) pc md st en vc sc p0 ca va tb tm cp ic oc td tc tv ny wh me xr wt yo) : wpY_store Q (pc, md, st, en, vc, sc, p0, ca, va, tb, tm, cp, ic, oc, td, tc, tv, ny, wh, me, xr, wt, yo) a (nI f) v := by
  subst hs
  rcases (by omega : f = 0 ∨ f = 1 ∨ f = 2) with z | z | z
  · subst z; exact br_t rfl (br_t rfl h)
  · subst z; exact br_f (by decide) (br_t rfl (br_f (by decide) (br_t rfl h)))
  · subst z; exact br_f (by decide) (br_f (by decide) (br_f (by decide) (br_f (by decide) h)))
theorem lc_store {t f d' : Nat} (ht : t < 2 ^ 31) (G : hG t md st en tm tb ih ic oc tn me ai ao on pg oo od oa ob om bs bl bo hd ct wt yo) (h0 : xr 0 = 0) (hf : f < 3) (a v : Int32) : ∃ (u1 : SX) (v' : SY), (∀ P : SX → Prop, P u1 → wpX_store P (pc, pc + 4, md, tm, cp, tr, st, en, vc, p0, sc, ca, va, tb, ih, ic, oc, tn, sl, dO, dD, dA, dB, dI, kn, me, xr, ai, ao, on, pg, oo, od, oa, ob, om, bs, bl, bo, hd, ct, un) (nI (16 + f)) a v) ∧
    (∀ Q : SY → Prop, Q v' → wpY_store Q (pc, md, st, en, vc, sc, p0, ca, va, tb, tm, cp, ic, oc, 0, tc, tv, pc + 4, wh, me, xr, wt, yo) a (nI f) v) ∧ hM t (16 + f) d' (pc, nx, md, tm, cp, tr, st, en, vc, p0, sc, ca, va, tb, ih, ic, oc, tn, sl, dO, dD, dA, dB, dI, kn, me, xr, ai, ao, on, pg, oo, od, oa, ob, om, bs, bl, bo, hd, ct, un) u1 v' := by
  have n4 : ¬ (4 : Int32) = 0 := by decide
  have n10 : ¬ (1 : Int32) = 0 := by decide
  obtain ⟨s, es⟩ : ∃ s, s = 2 ^ f := ⟨_, rfl⟩
  have hs : s = 1 ∨ s = 2 ∨ s = 4 := by
    subst es
    rcases (by omega : f = 0 ∨ f = 1 ∨ f = 2) with z | z | z <;> subst z <;> decide
  have esz : (1 : Int32) <<< ((nI (16 + f) - 16) &&& 31) = nI s := by
    subst es
    rcases (by omega : f = 0 ∨ f = 1 ∨ f = 2) with z | z | z <;> subst z <;> decide
  obtain ⟨S, L, H, HC⟩ := G.2.2.2.2.2.1
  have G1 := hG_s G
  rcases ls_loc (pc := pc) (nx := pc + 4) (md := md) (tm := tm) (cp := cp) (tr := tr) (st := st) (en := en) (vc := vc) (p0 := p0) (sc := sc) (ca := ca) (va := va) (tb := tb) (ih := ih) (ic := ic) (oc := oc) (tn := tn) (sl := sl) (dO := dO) (dD := dD) (dA := dA) (dB := dB) (dI := dI) (kn := kn) (me := me) (xr := xr) (ai := ai) (ao := ao) (on := on) (pg := pg) (oo := oo) (od := od) (oa := oa) (ob := ob) (om := om) (bs := bs) (bl := bl) (bo := bo) (hd := hd) (ct := ct) (un := un) (tc := tc) (tv := tv) (ny := pc + 4) (wh := wh) (wt := wt) (yo := yo) H HC G.2.2.2.2.1 (k := 2) (s := s) (by omega) hs a with ⟨c, hX, hY⟩ | ⟨n, sl', me', on', pg', bl', bo', hd', hn, hns, ⟨L', H1, H2, H3, H4⟩, _, hX, hY⟩
  · refine ⟨(pc, vc, 3, tm, cp, tr + 1, xst st md, en, vc, pc, sc, c, a, tb, ih, ic, oc, tn, sl, dO, dD, dA, dB, dI, kn, me, xr, ai, ao, on, pg, oo, od, oa, ob, om, bs, bl, bo, hd, ct, un), (pc, md, st, en, vc, sc, p0, ca, va, tb, tm, cp, ic, oc, 1, c, a, pc + 4, a, me, xr, wt, yo), fun P h => ?_, fun Q h => y_st41 hf es ?_, hM_tr G h0 G.2.2.2.2.1 G.2.2.2.2.2.1⟩
    · unfold wpX_store
      dsimp only
      rw [esz]
      exact hX _ (br_f (by decide) h)
    · unfold wY_store_41
      exact hY _ (br_t rfl h)
  · by_cases hm : n < 1024
    · have hw : n / 4 < 256 := by omega
      obtain ⟨L2, sl2, on2, bl2, bo2, hd2, J1, J2, J3, J4, J5⟩ := x_setW (pc := pc) (nx := pc + 4) (md := md) (tm := tm) (cp := cp) (tr := tr) (st := st) (en := en) (vc := vc) (p0 := p0) (sc := sc) (ca := ca) (va := va) (tb := tb) (ih := ih) (ic := ic) (oc := oc) (tn := tn) (sl := sl') (dO := dO) (dD := dD) (dA := dA) (dB := dB) (dI := dI) (kn := kn) (me := me') (xr := xr) (ai := ai) (ao := ao) (on := on') (pg := pg') (oo := oo) (od := od) (oa := oa) (ob := ob) (om := om) (ct := ct) (un := un) H1 hw ((me' (n / 4) &&& ((mz f <<< (nI (n % 4 * 8) &&& 31)) ^^^ (-1))) ||| ((v &&& mz f) <<< (nI (n % 4 * 8) &&& 31)))
      generalize hval : ((me' (n / 4) &&& ((mz f <<< (nI (n % 4 * 8) &&& 31)) ^^^ (-1))) ||| ((v &&& mz f) <<< (nI (n % 4 * 8) &&& 31))) = val at *
      refine ⟨(pc, pc + 4, md, tm, cp, tr, st, en, vc, p0, sc, ca, va, tb, ih, ic, oc, tn, sl2, dO, dD, dA, dB, dI, kn, upd me' (n / 4) val, xr, ai, ao, on2, pg', oo, od, oa, ob, om, bs, bl2, bo2, hd2, ct, un), (pc, md, st, en, vc, sc, p0, ca, va, tb, tm, cp, ic, oc, 0, tc, tv, pc + 4, nI n, upd me' (n / 4) val, xr, wt, yo), fun P h => ?_, fun Q h => y_st41 hf es ?_, ?_⟩
      · unfold wpX_store
        dsimp only
        rw [esz]
        refine hX _ (br_t (nI_pos' (by omega)) (x_stsel hf (br_f (nI_ge (b := 1024) hm (by omega)) (nm_r (sh_x n (by omega)) ?_))))
        rw [sh_2 n (by omega), nI_clamp (by omega), hval]
        exact ⟨vp_in_nI hw (by omega), J5 _ h⟩
      · unfold wY_store_41
        refine hY _ (br_f n10 (br_f (nI_ge (b := 1024) hm (by omega)) ⟨n4, nm_r (sh_y n (by omega)) ⟨n4, n4, ?_⟩⟩))
        rw [dv_4 n (by omega), nI_clamp (by omega), hval]
        exact ⟨vp_in_nI hw (by omega), vp_in_nI hw (by omega), nm_e h⟩
      · refine hM_ok ⟨G1.1, G1.2.1, G1.2.2.1, G1.2.2.2.1, ?_, ⟨S, L2, J1, ?_⟩, G1.2.2.2.2.2.2⟩ h0 (fun e _ => ?_)
        · intro tl p hp k hk hon
          rcases J3 with ⟨_, z⟩ | ⟨z, z2⟩
          · exact absurd (z _ (by omega)) hon
          · rw [z2] at hon
            rw [pk_un (by omega)]
            exact H3 tl p hp k hk hon
        · refine hC_me H2 (fun b hb => ?_)
          rcases J2 b hb with ⟨z1, z2⟩ | z
          · exact Or.inl ⟨z1, fun i hi => pk_un (fun q => z2 (by omega))⟩
          · exact Or.inr z
        · obtain ⟨e1, e2, e3, e4⟩ := J4 e
          obtain ⟨f1, f2, f3⟩ := H4 e1
          subst f3
          refine ⟨rfl, rfl, rfl, rfl, rfl, rfl, f1, e4.trans f2, fun j hj hn => ?_, fun p hp => ?_, fun _ _ => rfl⟩
          · refine pk_un (fun q => hn ?_)
            rw [q, ← f2]; exact e3
          · exact pk_un (fun q => e2 (by omega))
    · have hv : dev n := by
        rcases hn with z | z
        · exact absurd z hm
        · exact z.2
      have hr : n < 2000 := by unfold dev at hv; omega
      have ge : (1024 : Int32) ≤ nI n := nI_le (a := 1024) (by omega) (by omega)
      have K : ∀ (cp1 oc1 : Int32) (ao1 yo1 : Nat → Int32), hO (t + 1) ao1 oc1 yo1 →
          (∀ P : SX → Prop, P (pc, pc + 4, md, tm, cp1, tr, st, en, vc, p0, sc, ca, va, tb, ih, ic, oc1, tn, 1, dO, dD, dA, dB, dI, kn, me', xr, ai, ao1, on', pg', oo, od, oa, ob, om, bs, bl', bo', hd', ct, un) → ((nI n = 1032 → ∀ y : Int32, y = v &&& mz f → wX_store_117 P v (nI n) pc (pc + 4) md tm y tr st en vc p0 sc ca va tb ih ic oc tn 1 dO dD dA dB dI kn me' xr ai ao on' pg' oo od oa ob om bs bl' bo' hd' ct un) ∧ (¬ nI n = 1032 → wX_store_117 P v (nI n) pc (pc + 4) md tm cp tr st en vc p0 sc ca va tb ih ic oc tn 1 dO dD dA dB dI kn me' xr ai ao on' pg' oo od oa ob om bs bl' bo' hd' ct un))) →
          (∀ Q : SY → Prop, Q (pc, md, st, en, vc, sc, p0, ca, va, tb, tm, cp1, ic, oc1, 0, tc, tv, pc + 4, nI n, me', xr, wt, yo1) → ((nI n = 1024 → ((32 ≤ oc → wY_store_150 Q pc md st en vc sc p0 ca va tb tm cp ic oc 0 tc tv (pc + 4) (nI n) me' xr wt yo) ∧ (¬ 32 ≤ oc → (vp_in oc 32 ∧ ∀ y : Nat → Int32, y = upd yo oc.toNatClampNeg (v &&& 255) → wY_store_150 Q pc md st en vc sc p0 ca va tb tm cp ic oc 0 tc tv (pc + 4) (nI n) me' xr wt y)))) ∧
            (¬ nI n = 1024 → ((nI n = 1032 → ∀ y : Int32, y = v &&& mz f → Q (pc, md, st, en, vc, sc, p0, ca, va, tb, tm, y, ic, oc, 0, tc, tv, pc + 4, nI n, me', xr, wt, yo)) ∧ (¬ nI n = 1032 → Q (pc, md, st, en, vc, sc, p0, ca, va, tb, tm, cp, ic, oc, 0, tc, tv, pc + 4, nI n, me', xr, wt, yo)))))) →
          ∃ (u1 : SX) (v' : SY), (∀ P : SX → Prop, P u1 → wpX_store P (pc, pc + 4, md, tm, cp, tr, st, en, vc, p0, sc, ca, va, tb, ih, ic, oc, tn, sl, dO, dD, dA, dB, dI, kn, me, xr, ai, ao, on, pg, oo, od, oa, ob, om, bs, bl, bo, hd, ct, un) (nI (16 + f)) a v) ∧
            (∀ Q : SY → Prop, Q v' → wpY_store Q (pc, md, st, en, vc, sc, p0, ca, va, tb, tm, cp, ic, oc, 0, tc, tv, pc + 4, wh, me, xr, wt, yo) a (nI f) v) ∧ hM t (16 + f) d' (pc, nx, md, tm, cp, tr, st, en, vc, p0, sc, ca, va, tb, ih, ic, oc, tn, sl, dO, dD, dA, dB, dI, kn, me, xr, ai, ao, on, pg, oo, od, oa, ob, om, bs, bl, bo, hd, ct, un) u1 v' := by
        intro cp1 oc1 ao1 yo1 ho kX kY
        refine ⟨(pc, pc + 4, md, tm, cp1, tr, st, en, vc, p0, sc, ca, va, tb, ih, ic, oc1, tn, 1, dO, dD, dA, dB, dI, kn, me', xr, ai, ao1, on', pg', oo, od, oa, ob, om, bs, bl', bo', hd', ct, un), (pc, md, st, en, vc, sc, p0, ca, va, tb, tm, cp1, ic, oc1, 0, tc, tv, pc + 4, nI n, me', xr, wt, yo1), fun P h => ?_, fun Q h => y_st41 hf es ?_, ?_⟩
        · unfold wpX_store
          dsimp only
          rw [esz]
          exact hX _ (br_t (nI_pos' (by omega)) (x_stsel hf (br_t ge (kX P h))))
        · unfold wY_store_41
          exact hY _ (br_f n10 (br_t ge (kY Q h)))
        · exact hM_ok ⟨G1.1, G1.2.1, G1.2.2.1, ho, H3, ⟨S, L', H1, H2⟩, G1.2.2.2.2.2.2⟩ h0 (fun e _ => absurd e n10)
      have n1 : ¬ nI 1028 = 1024 := by decide
      have n2 : ¬ nI 1032 = 1024 := by decide
      have n3 : ¬ nI 1028 = 1032 := by decide
      have n5 : ¬ nI 1024 = 1032 := by decide
      obtain ⟨q, hq, rfl, hqo⟩ := G.2.2.2.1
      rcases hv with z | z | z
      · subst z
        by_cases c32 : 32 ≤ q
        · have l32 : (32 : Int32) ≤ nI q := nI_le (a := 32) c32 (by omega)
          refine K cp (nI (q + 1)) ao yo ⟨q + 1, by omega, rfl, fun i hi _ => hqo i hi (by omega)⟩ (fun P hP => br_f n5 (br_t rfl (br_t l32 (nm_r (nI_1 q) hP)))) (fun Q hQ => br_t rfl (br_t l32 (nm_r (nI_1 q) hQ)))
        · have l32 : ¬ (32 : Int32) ≤ nI q := nI_ge (b := 32) (by omega) (by omega)
          have vq : vp_in (nI q) 32 := vp_in_nI (by omega) (by omega)
          have cq : (nI q).toNatClampNeg = q := nI_clamp (by omega)
          refine K cp (nI (q + 1)) (upd ao q v.toInt8.toInt32) (upd yo q (v &&& 255)) ⟨q + 1, by omega, rfl, fun i hi hiq => ?_⟩ (fun P hP => br_f n5 (br_t rfl (br_f l32 ⟨vq, ?_⟩))) (fun Q hQ => br_t rfl (br_f l32 ⟨vq, ?_⟩))
          · by_cases e : i = q
            · subst e; rw [pk_us, pk_us]; exact bp_b v
            · rw [pk_un e, pk_un e]; exact hqo i hi (by omega)
          · rw [cq, pk_vb]
            exact nm_e (nm_r (nI_1 q) hP)
          · rw [cq]
            exact nm_e (nm_r (nI_1 q) hQ)
      · subst z
        exact K cp (nI q) ao yo ⟨q, by omega, rfl, hqo⟩ (fun P hP => br_f n3 (br_f n1 hP)) (fun Q hQ => br_f n1 (br_f n3 hQ))
      · subst z
        exact K (v &&& mz f) (nI q) ao yo ⟨q, by omega, rfl, hqo⟩ (fun P hP => br_t rfl (nm_e (br_f n2 hP))) (fun Q hQ => br_f n2 (br_t rfl (nm_e hQ)))
end
end
section
/-! system: traps, return, state registers -/
theorem pb_pw {m : Int32} (x : Int32) (j : Nat) (hm : ∀ i, i < 32 → bt m i = decide (i = j)) : x &&& m = 0 ∨ x &&& m = m := by
  cases h : bt x j
  · refine Or.inl (pb_0 (fun i hi => ?_))
    rw [b_and, hm i hi]
    by_cases z : i = j
    · subst z; rw [h]; rfl
    · rw [decide_eq_false z, Bool.and_false]
  · refine Or.inr (b_ext (fun i hi => ?_))
    rw [b_and, hm i hi]
    by_cases z : i = j
    · subst z; rw [h]; rfl
    · rw [decide_eq_false z, Bool.and_false]
theorem sy_m {st : Int32} (h : st &&& 6144 = 0 ∨ st &&& 6144 = 6144) : (st >>> ((11 : Int32) &&& 31)) &&& 3 = if st &&& 6144 = 0 then 0 else 3 := by
  have b6 : ∀ i, i < 2 → bt 6144 (11 + i) = true := by decide +kernel
  have b3 : ∀ i, i < 32 → bt 3 i = decide (i < 2) := by decide +kernel
  have key : ∀ (z y : Int32), st &&& 6144 = z → (∀ i, i < 32 → bt y i = (decide (i < 2) && bt z (11 + i))) → (st >>> ((11 : Int32) &&& 31)) &&& 3 = y := by
    intro z y hz hy
    apply b_ext
    intro i hi
    have e := b_sshr 11 (by omega) st hi
    rw [b_and, b3 i hi, hy i hi]
    by_cases c : i < 2
    · have q : bt (st &&& 6144) (11 + i) = bt st (11 + i) := by rw [b_and, b6 i c, Bool.and_true]
      rw [hz] at q
      have e2 : bt (st >>> ((11 : Int32) &&& 31)) i = bt st (11 + i) := by
        rw [if_pos (by omega)] at e; exact e
      rw [e2, q, Bool.and_comm]
    · rw [decide_eq_false c, Bool.and_false, Bool.false_and]
  rcases h with h | h
  · rw [if_pos h]
    exact key 0 0 h (by decide +kernel)
  · rw [if_neg (by rw [h]; decide)]
    exact key 6144 3 h (by decide +kernel)
theorem sy_s (st : Int32) : ((st >>> ((4 : Int32) &&& 31)) &&& 8) = if st &&& 128 = 0 then 0 else 8 := by
  have b8 : ∀ i, i < 32 → bt 8 i = decide (i = 3) := by decide +kernel
  have b128 : ∀ i, i < 32 → bt 128 i = decide (i = 7) := by decide +kernel
  have e3 : bt (st >>> ((4 : Int32) &&& 31)) 3 = bt st 7 := by
    have e := b_sshr 4 (by omega) st (show 3 < 32 by omega)
    exact e
  have e7 : bt (st &&& 128) 7 = bt st 7 := by rw [b_and, b128 7 (by omega)]; simp
  rcases pb_pw st 7 b128 with h | h
  · rw [if_pos h]
    rw [h] at e7
    apply b_ext
    intro i hi
    rw [b_and, b8 i hi]
    by_cases c : i = 3
    · subst c; rw [e3, ← e7]; rfl
    · rw [decide_eq_false c, Bool.and_false, b_0]
  · rw [if_neg (by rw [h]; decide)]
    rw [h] at e7
    apply b_ext
    intro i hi
    rw [b_and, b8 i hi]
    by_cases c : i = 3
    · subst c; rw [e3, ← e7]; decide
    · rw [decide_eq_false c, Bool.and_false]
theorem sy_w (v z : Int32) (hz : z = 0 ∨ z = 6144) : ((v &&& 136) ||| z) &&& 6144 = 0 ∨ ((v &&& 136) ||| z) &&& 6144 = 6144 := by
  have hd : ∀ i, i < 32 → (bt 136 i && bt 6144 i) = false := by decide +kernel
  have e : ((v &&& 136) ||| z) &&& 6144 = z &&& 6144 := by
    apply b_ext
    intro i hi
    have := hd i hi
    rw [b_and, b_or, b_and, b_and]
    revert this
    cases bt v i <;> cases bt 136 i <;> cases bt 6144 i <;> cases bt z i <;> simp
  rw [e]
  rcases hz with h | h
  · subst h; exact Or.inl (by decide)
  · subst h; exact Or.inr (by decide)
section
variable {pc nx md tm cp tr st en vc p0 sc ca va tb ih ic oc tn sl dO dD dA dB dI kn td tc tv ny wh : Int32} {me xr ai ao on pg oo od oa ob om bs bl bo hd ct un wt yo : Nat → Int32}
theorem x_state {post : Int32 → Prop} (n : Nat) (hn : n < 4096) (h : post (kst n tb st en vc sc p0 ca va)) : wpX_state post (pc, nx, md, tm, cp, tr, st, en, vc, p0, sc, ca, va, tb, ih, ic, oc, tn, sl, dO, dD, dA, dB, dI, kn, me, xr, ai, ao, on, pg, oo, od, oa, ob, om, bs, bl, bo, hd, ct, un) (nI n) := by
  refine pk_eq n 384 (fun e => ?_) (fun _ => pk_eq n 768 (fun e => ?_) (fun _ => pk_eq n 772 (fun e => ?_) (fun _ => pk_eq n 773 (fun e => ?_) (fun _ => pk_eq n 832 (fun e => ?_) (fun _ => pk_eq n 833 (fun e => ?_) (fun _ => pk_eq n 834 (fun e => ?_) (fun _ => pk_eq n 835 (fun e => ?_) (fun _ => ?_))))))))
  all_goals first | (subst e; exact h) | skip
  unfold kst at h
  rw [if_neg (by omega), if_neg (by omega), if_neg (by omega), if_neg (by omega), if_neg (by omega), if_neg (by omega), if_neg (by omega), if_neg (by omega)] at h
  exact h
theorem lc_write {n : Nat} (hn : kn_s n) (W : hW md st en) (HT : hT tb me on pg) (v : Int32) : ∃ (st1 en1 vc1 sc1 p01 ca1 va1 tb1 sl1 : Int32) (on1 : Nat → Int32), hW md st1 en1 ∧ hT tb1 me on1 pg ∧
    (∀ P : SX → Prop, P (pc, nx, md, tm, cp, tr, st1, en1, vc1, p01, sc1, ca1, va1, tb1, ih, ic, oc, tn, sl1, dO, dD, dA, dB, dI, kn, me, xr, ai, ao, on1, pg, oo, od, oa, ob, om, bs, bl, bo, hd, ct, un) → wpX_write P (pc, nx, md, tm, cp, tr, st, en, vc, p0, sc, ca, va, tb, ih, ic, oc, tn, sl, dO, dD, dA, dB, dI, kn, me, xr, ai, ao, on, pg, oo, od, oa, ob, om, bs, bl, bo, hd, ct, un) (nI n) v) ∧
    (∀ (x : Nat → Int32) (Q : SY → Prop), Q (pc, md, st1, en1, vc1, sc1, p01, ca1, va1, tb1, tm, cp, ic, oc, td, tc, tv, ny, wh, me, x, wt, yo) → wpY_write Q (pc, md, st, en, vc, sc, p0, ca, va, tb, tm, cp, ic, oc, td, tc, tv, ny, wh, me, x, wt, yo) (nI n) v) := by
  rcases hn with z | z | z | z | z | z | z | z
  · subst z
    obtain ⟨on', o1, o2⟩ := x_forget (pc := pc) (nx := nx) (md := md) (tm := tm) (cp := cp) (tr := tr) (st := st) (en := en) (vc := vc) (p0 := p0) (sc := sc) (ca := ca) (va := va) (tb := v &&& (-2147483633)) (ih := ih) (ic := ic) (oc := oc) (tn := tn) (sl := sl) (dO := dO) (dD := dD) (dA := dA) (dB := dB) (dI := dI) (kn := kn) (me := me) (xr := xr) (ai := ai) (ao := ao) (on := on) (pg := pg) (oo := oo) (od := od) (oa := oa) (ob := ob) (om := om) (bs := bs) (bl := bl) (bo := bo) (hd := hd) (ct := ct) (un := un)
    refine ⟨st, en, vc, sc, p0, ca, va, v &&& (-2147483633), 1, on', W, fun _ p hp k hk h => absurd (o1 _ (by omega)) h, fun P h => ?_, fun x Q h => ?_⟩
    · exact br_t rfl (nm_e (o2 _ h))
    · exact br_f (by decide) (br_f (by decide) (br_f (by decide) (br_f (by decide) (br_f (by decide) (br_f (by decide) (br_f (by decide) (br_t rfl (nm_e h))))))))
  · subst z
    by_cases c : v &&& 6144 = 0
    · refine ⟨(v &&& 136) ||| 0, en, vc, sc, p0, ca, va, tb, sl, on, ⟨W.1, sy_w v 0 (Or.inl rfl), W.2.2⟩, HT, fun P h => ?_, fun x Q h => ?_⟩
      · exact br_f (by decide) (br_t rfl (br_t c (nm_e h)))
      · exact br_t rfl (br_t c (nm_e (br_f (by decide) (br_f (by decide) (br_f (by decide) (br_f (by decide) (br_f (by decide) (br_f (by decide) (br_f (by decide) h)))))))))
    · refine ⟨(v &&& 136) ||| 6144, en, vc, sc, p0, ca, va, tb, sl, on, ⟨W.1, sy_w v 6144 (Or.inr rfl), W.2.2⟩, HT, fun P h => ?_, fun x Q h => ?_⟩
      · exact br_f (by decide) (br_t rfl (br_f c (nm_e h)))
      · exact br_t rfl (br_f c (nm_e (br_f (by decide) (br_f (by decide) (br_f (by decide) (br_f (by decide) (br_f (by decide) (br_f (by decide) (br_f (by decide) h)))))))))
  · subst z
    refine ⟨st, v &&& 128, vc, sc, p0, ca, va, tb, sl, on, ⟨W.1, W.2.1, pb_pw v 7 (by decide +kernel)⟩, HT, fun P h => ?_, fun x Q h => ?_⟩
    · exact br_f (by decide) (br_f (by decide) (br_t rfl (nm_e h)))
    · exact br_f (by decide) (br_t rfl (nm_e (br_f (by decide) (br_f (by decide) (br_f (by decide) (br_f (by decide) (br_f (by decide) (br_f (by decide) h))))))))
  · subst z
    refine ⟨st, en, v &&& (-4), sc, p0, ca, va, tb, sl, on, W, HT, fun P h => ?_, fun x Q h => ?_⟩
    · exact br_f (by decide) (br_f (by decide) (br_f (by decide) (br_t rfl (nm_e h))))
    · exact br_f (by decide) (br_f (by decide) (br_t rfl (nm_e (br_f (by decide) (br_f (by decide) (br_f (by decide) (br_f (by decide) (br_f (by decide) h))))))))
  · subst z
    refine ⟨st, en, vc, v, p0, ca, va, tb, sl, on, W, HT, fun P h => ?_, fun x Q h => ?_⟩
    · exact br_f (by decide) (br_f (by decide) (br_f (by decide) (br_f (by decide) (br_t rfl h))))
    · exact br_f (by decide) (br_f (by decide) (br_f (by decide) (br_f (by decide) (br_t rfl (br_f (by decide) (br_f (by decide) (br_f (by decide) h)))))))
  · subst z
    refine ⟨st, en, vc, sc, v &&& (-4), ca, va, tb, sl, on, W, HT, fun P h => ?_, fun x Q h => ?_⟩
    · exact br_f (by decide) (br_f (by decide) (br_f (by decide) (br_f (by decide) (br_f (by decide) (br_t rfl (nm_e h))))))
    · exact br_f (by decide) (br_f (by decide) (br_f (by decide) (br_t rfl (nm_e (br_f (by decide) (br_f (by decide) (br_f (by decide) (br_f (by decide) h))))))))
  · subst z
    refine ⟨st, en, vc, sc, p0, v, va, tb, sl, on, W, HT, fun P h => ?_, fun x Q h => ?_⟩
    · exact br_f (by decide) (br_f (by decide) (br_f (by decide) (br_f (by decide) (br_f (by decide) (br_f (by decide) (br_t rfl h))))))
    · exact br_f (by decide) (br_f (by decide) (br_f (by decide) (br_f (by decide) (br_f (by decide) (br_t rfl (br_f (by decide) (br_f (by decide) h)))))))
  · subst z
    refine ⟨st, en, vc, sc, p0, ca, v, tb, sl, on, W, HT, fun P h => ?_, fun x Q h => ?_⟩
    · exact br_f (by decide) (br_f (by decide) (br_f (by decide) (br_f (by decide) (br_f (by decide) (br_f (by decide) (br_f (by decide) h))))))
    · exact br_f (by decide) (br_f (by decide) (br_f (by decide) (br_f (by decide) (br_f (by decide) (br_f (by decide) (br_t rfl (br_f (by decide) h)))))))
theorem kO_sys {w : Int32} (h : 19 ≤ kO w) (h2 : kO w ≤ 23) : kp w = 115 := by
  have hf := kf_lt w
  by_cases h1 : kp w = 3
  · rw [kO_3 h1] at h h2
    by_cases y : 3 ≤ kf w
    · rw [if_pos y] at h h2
      by_cases y4 : kf w = 4
      · rw [if_pos y4] at h h2; omega
      · rw [if_neg y4] at h h2
        by_cases y5 : kf w = 5
        · rw [if_pos y5] at h h2; omega
        · rw [if_neg y5] at h h2; omega
    · rw [if_neg y] at h h2; omega
  by_cases h2' : kp w = 15
  · rw [kO_15 h2'] at h h2
    by_cases y : 2 ≤ kf w
    · rw [if_pos y] at h h2; omega
    · rw [if_neg y] at h h2; omega
  by_cases h3 : kp w = 19
  · rw [kO_19 h3] at h h2; have := kSh_r (kf w) (kg w) hf; omega
  by_cases h4 : kp w = 23
  · rw [kO_23 h4] at h h2; omega
  by_cases h5 : kp w = 35
  · rw [kO_35 h5] at h h2
    by_cases y : 3 ≤ kf w
    · rw [if_pos y] at h h2; omega
    · rw [if_neg y] at h h2; omega
  by_cases h6 : kp w = 51
  · rw [kO_51 h6] at h h2; have := kCa_r (kf w) (kg w) hf; omega
  by_cases h7 : kp w = 55
  · rw [kO_55 h7] at h h2; omega
  by_cases h8 : kp w = 99
  · rw [kO_99 h8] at h h2
    by_cases y : 2 ≤ kf w
    · rw [if_pos y] at h h2
      by_cases y4 : 4 ≤ kf w
      · rw [if_pos y4] at h h2; omega
      · rw [if_neg y4] at h h2; omega
    · rw [if_neg y] at h h2; omega
  by_cases h9 : kp w = 103
  · rw [kO_103 h9] at h h2
    by_cases y : kf w = 0
    · rw [if_pos y] at h h2; omega
    · rw [if_neg y] at h h2; omega
  by_cases h10 : kp w = 111
  · rw [kO_111 h10] at h h2; omega
  by_cases h11 : kp w = 115
  · exact h11
  · rw [kO_o h1 h2' h3 h4 h5 h6 h7 h8 h9 h10 h11] at h h2; omega
theorem kJ_sys {w : Int32} (z : kO w = 20) : kJ w = w := kJ_115 (kO_sys (by omega) (by omega))
theorem kO_csr {w : Int32} (z : 21 ≤ kO w ∧ kO w ≤ 23) : kp w = 115 ∧ kCs w ∧ kO w = 20 + kf w := by
  have hp := kO_sys (w := w) (by omega) z.2
  by_cases c : kCs w
  · exact ⟨hp, c, kO_115a hp c⟩
  · have e := kO_115b hp c
    have := kSy_r w
    omega
/-- every operation that isn't a calculation, in lockstep -/
theorem ls_nc {t : Nat} (ht : t < 2 ^ 31) (G : hG t md st en tm tb ih ic oc tn me ai ao on pg oo od oa ob om bs bl bo hd ct wt yo) (h0 : xr 0 = 0) (w : Int32) (hc : ¬ isC (kO w)) : ∃ (u1 : SX) (v' : SY),
    (∀ P : SX → Prop, P (xfin u1) → wpX_execute P (pc, nx, md, tm, cp, tr, st, en, vc, p0, sc, ca, va, tb, ih, ic, oc, tn, sl, dO, dD, dA, dB, dI, kn, me, xr, ai, ao, on, pg, oo, od, oa, ob, om, bs, bl, bo, hd, ct, un) (nI (kO w)) (nI (kD w)) (nI (kA w)) (nI (kB w)) (kI w)) ∧
    (∀ Q : SY → Prop, Q v' → wpY_execute Q (pc, md, st, en, vc, sc, p0, ca, va, tb, tm, cp, ic, oc, 0, tc, tv, pc + 4, wh, me, xr, wt, yo) w) ∧ hM t (kO w) (kD w) (pc, nx, md, tm, cp, tr, st, en, vc, p0, sc, ca, va, tb, ih, ic, oc, tn, sl, dO, dD, dA, dB, dI, kn, me, xr, ai, ao, on, pg, oo, od, oa, ob, om, bs, bl, bo, hd, ct, un) u1 v' := by
  have hr := kO_r w
  have hD := kD_lt w
  have hA := kA_lt w
  have hB' := kB_lt w
  have ho : 3 ≤ kO w ∧ kO w ≤ 24 := by unfold isC at hc; omega
  have hC' : ∀ {p : Prop}, isC (kO w) → p := fun z => absurd z hc
  suffices K : ∃ (u1 : SX) (v' : SY), xX (kO w) (kD w) (kA w) (kB w) (kI w) pc nx md tm cp tr st en vc p0 sc ca va tb ih ic oc tn sl dO dD dA dB dI kn me xr ai ao on pg oo od oa ob om bs bl bo hd ct un u1 ∧ yX w pc md st en vc sc p0 ca va tb tm cp ic oc 0 tc tv (pc + 4) wh me xr wt yo v' ∧ hM t (kO w) (kD w) (pc, nx, md, tm, cp, tr, st, en, vc, p0, sc, ca, va, tb, ih, ic, oc, tn, sl, dO, dD, dA, dB, dI, kn, me, xr, ai, ao, on, pg, oo, od, oa, ob, om, bs, bl, bo, hd, ct, un) u1 v' by
    obtain ⟨u1, v', k1, k2, k3⟩ := K
    exact ⟨u1, v', fun P h => x_exec (by omega) hD hA hB' k1 P h, fun Q h => y_exec k2 Q h, k3⟩
  rcases (by omega : kO w = 3 ∨ kO w = 4 ∨ (5 ≤ kO w ∧ kO w ≤ 10) ∨ (11 ≤ kO w ∧ kO w ≤ 15) ∨ (16 ≤ kO w ∧ kO w ≤ 18) ∨ kO w = 19 ∨ kO w = 20 ∨ (21 ≤ kO w ∧ kO w ≤ 23) ∨ kO w = 24) with z | z | z | z | z | z | z | z | z
  · obtain ⟨u1, v', k1, k2, k3⟩ := lc_jump (pc := pc) (nx := nx) (md := md) (tm := tm) (cp := cp) (tr := tr) (st := st) (en := en) (vc := vc) (p0 := p0) (sc := sc) (ca := ca) (va := va) (tb := tb) (ih := ih) (ic := ic) (oc := oc) (tn := tn) (sl := sl) (dO := dO) (dD := dD) (dA := dA) (dB := dB) (dI := dI) (kn := kn) (me := me) (xr := xr) (ai := ai) (ao := ao) (on := on) (pg := pg) (oo := oo) (od := od) (oa := oa) (ob := ob) (om := om) (bs := bs) (bl := bl) (bo := bo) (hd := hd) (ct := ct) (un := un) (tc := tc) (tv := tv) (wh := wh) (wt := wt) (yo := yo) (o' := kO w) (d' := kD w) (d := kD w) G h0 hD (pc + kI w) (by unfold goesOn; omega)
    refine ⟨u1, v', ⟨hC', fun y y2 => absurd (And.intro y y2) (by omega), fun y y2 => absurd (And.intro y y2) (by omega), fun y y2 => absurd (And.intro y y2) (by omega), fun y y2 => absurd (And.intro y y2) (by omega), fun y => absurd y (by omega), fun _ => k1⟩, ⟨fun y => absurd y (by omega), fun y => absurd y (by omega), fun y => absurd y (by omega), fun _ => k2, fun y => absurd y (by omega), fun y y2 => absurd (And.intro y y2) (by omega), fun g y => absurd y (by omega), fun g y y2 => absurd (And.intro y y2) (by omega), fun y => absurd y (by omega), fun y => absurd y (by omega), fun g n y y2 y3 => absurd (And.intro y (And.intro y2 y3)) (by omega), fun y => absurd y (by omega), fun y y2 => absurd (And.intro y y2) (by omega), fun y => absurd y (by omega)⟩, k3⟩
  · obtain ⟨u1, v', k1, k2, k3⟩ := lc_jump (pc := pc) (nx := nx) (md := md) (tm := tm) (cp := cp) (tr := tr) (st := st) (en := en) (vc := vc) (p0 := p0) (sc := sc) (ca := ca) (va := va) (tb := tb) (ih := ih) (ic := ic) (oc := oc) (tn := tn) (sl := sl) (dO := dO) (dD := dD) (dA := dA) (dB := dB) (dI := dI) (kn := kn) (me := me) (xr := xr) (ai := ai) (ao := ao) (on := on) (pg := pg) (oo := oo) (od := od) (oa := oa) (ob := ob) (om := om) (bs := bs) (bl := bl) (bo := bo) (hd := hd) (ct := ct) (un := un) (tc := tc) (tv := tv) (wh := wh) (wt := wt) (yo := yo) (o' := kO w) (d' := kD w) (d := kD w) G h0 hD ((xr (kA w) + kI w) &&& (-2)) (by unfold goesOn; omega)
    refine ⟨u1, v', ⟨hC', fun y y2 => absurd (And.intro y y2) (by omega), fun y y2 => absurd (And.intro y y2) (by omega), fun y y2 => absurd (And.intro y y2) (by omega), fun y y2 => absurd (And.intro y y2) (by omega), fun _ => k1, fun y => absurd y (by omega)⟩, ⟨fun y => absurd y (by omega), fun y => absurd y (by omega), fun y => absurd y (by omega), fun y => absurd y (by omega), fun _ => k2, fun y y2 => absurd (And.intro y y2) (by omega), fun g y => absurd y (by omega), fun g y y2 => absurd (And.intro y y2) (by omega), fun y => absurd y (by omega), fun y => absurd y (by omega), fun g n y y2 y3 => absurd (And.intro y (And.intro y2 y3)) (by omega), fun y => absurd y (by omega), fun y y2 => absurd (And.intro y y2) (by omega), fun y => absurd y (by omega)⟩, k3⟩
  · obtain ⟨u1, v', k1, k2, k3⟩ := lc_branch (pc := pc) (nx := nx) (md := md) (tm := tm) (cp := cp) (tr := tr) (st := st) (en := en) (vc := vc) (p0 := p0) (sc := sc) (ca := ca) (va := va) (tb := tb) (ih := ih) (ic := ic) (oc := oc) (tn := tn) (sl := sl) (dO := dO) (dD := dD) (dA := dA) (dB := dB) (dI := dI) (kn := kn) (me := me) (xr := xr) (ai := ai) (ao := ao) (on := on) (pg := pg) (oo := oo) (od := od) (oa := oa) (ob := ob) (om := om) (bs := bs) (bl := bl) (bo := bo) (hd := hd) (ct := ct) (un := un) (tc := tc) (tv := tv) (wh := wh) (wt := wt) (yo := yo) (d' := kD w) (o := kO w) G h0 z.1 z.2 (xr (kA w)) (xr (kB w)) (pc + kI w)
    refine ⟨u1, v', ⟨hC', fun y y2 => absurd (And.intro y y2) (by omega), fun y y2 => absurd (And.intro y y2) (by omega), fun y y2 => absurd (And.intro y y2) (by omega), fun _ _ => k1, fun y => absurd y (by omega), fun y => absurd y (by omega)⟩, ⟨fun y => absurd y (by omega), fun y => absurd y (by omega), fun y => absurd y (by omega), fun y => absurd y (by omega), fun y => absurd y (by omega), fun _ _ => k2, fun g y => absurd y (by omega), fun g y y2 => absurd (And.intro y y2) (by omega), fun y => absurd y (by omega), fun y => absurd y (by omega), fun g n y y2 y3 => absurd (And.intro y (And.intro y2 y3)) (by omega), fun y => absurd y (by omega), fun y y2 => absurd (And.intro y y2) (by omega), fun y => absurd y (by omega)⟩, k3⟩
  · obtain ⟨f, s, hl⟩ : ∃ f s, ld f (kO w) s := by
      rcases (by omega : kO w = 11 ∨ kO w = 12 ∨ kO w = 13 ∨ kO w = 14 ∨ kO w = 15) with y | y | y | y | y <;> rw [y]
      · exact ⟨0, 1, Or.inl ⟨rfl, rfl, rfl⟩⟩
      · exact ⟨1, 2, Or.inr (Or.inl ⟨rfl, rfl, rfl⟩)⟩
      · exact ⟨2, 4, Or.inr (Or.inr (Or.inl ⟨rfl, rfl, rfl⟩))⟩
      · exact ⟨4, 1, Or.inr (Or.inr (Or.inr (Or.inl ⟨rfl, rfl, rfl⟩)))⟩
      · exact ⟨5, 2, Or.inr (Or.inr (Or.inr (Or.inr ⟨rfl, rfl, rfl⟩)))⟩
    obtain ⟨u1, v', k1, k2, k3⟩ := lc_load (pc := pc) (nx := nx) (md := md) (tm := tm) (cp := cp) (tr := tr) (st := st) (en := en) (vc := vc) (p0 := p0) (sc := sc) (ca := ca) (va := va) (tb := tb) (ih := ih) (ic := ic) (oc := oc) (tn := tn) (sl := sl) (dO := dO) (dD := dD) (dA := dA) (dB := dB) (dI := dI) (kn := kn) (me := me) (xr := xr) (ai := ai) (ao := ao) (on := on) (pg := pg) (oo := oo) (od := od) (oa := oa) (ob := ob) (om := om) (bs := bs) (bl := bl) (bo := bo) (hd := hd) (ct := ct) (un := un) (tc := tc) (tv := tv) (wh := wh) (wt := wt) (yo := yo) G h0 hD hl (xr (kA w) + kI w)
    refine ⟨u1, v', ⟨hC', fun y y2 => absurd (And.intro y y2) (by omega), fun y y2 => absurd (And.intro y y2) (by omega), fun _ _ => k1, fun y y2 => absurd (And.intro y y2) (by omega), fun y => absurd y (by omega), fun y => absurd y (by omega)⟩, ⟨fun y => absurd y (by omega), fun y => absurd y (by omega), fun y => absurd y (by omega), fun y => absurd y (by omega), fun y => absurd y (by omega), fun y y2 => absurd (And.intro y y2) (by omega), fun g hg => ?_, fun g y y2 => absurd (And.intro y y2) (by omega), fun y => absurd y (by omega), fun y => absurd y (by omega), fun g n y y2 y3 => absurd (And.intro y (And.intro y2 y3)) (by omega), fun y => absurd y (by omega), fun y y2 => absurd (And.intro y y2) (by omega), fun y => absurd y (by omega)⟩, k3⟩
    have e : g = f := by unfold ld at hl; omega
    subst e
    exact k2
  · obtain ⟨f, hf⟩ : ∃ f, kO w = 16 + f := ⟨kO w - 16, by omega⟩
    obtain ⟨u1, v', k1, k2, k3⟩ := lc_store (pc := pc) (nx := nx) (md := md) (tm := tm) (cp := cp) (tr := tr) (st := st) (en := en) (vc := vc) (p0 := p0) (sc := sc) (ca := ca) (va := va) (tb := tb) (ih := ih) (ic := ic) (oc := oc) (tn := tn) (sl := sl) (dO := dO) (dD := dD) (dA := dA) (dB := dB) (dI := dI) (kn := kn) (me := me) (xr := xr) (ai := ai) (ao := ao) (on := on) (pg := pg) (oo := oo) (od := od) (oa := oa) (ob := ob) (om := om) (bs := bs) (bl := bl) (bo := bo) (hd := hd) (ct := ct) (un := un) (tc := tc) (tv := tv) (wh := wh) (wt := wt) (yo := yo) (d' := kD w) ht G h0 (f := f) (by omega) (xr (kA w) + kI w) (xr (kB w))
    rw [← hf] at k1 k3
    refine ⟨u1, v', ⟨hC', fun y y2 => absurd (And.intro y y2) (by omega), fun _ _ => k1, fun y y2 => absurd (And.intro y y2) (by omega), fun y y2 => absurd (And.intro y y2) (by omega), fun y => absurd y (by omega), fun y => absurd y (by omega)⟩, ⟨fun y => absurd y (by omega), fun y => absurd y (by omega), fun y => absurd y (by omega), fun y => absurd y (by omega), fun y => absurd y (by omega), fun y y2 => absurd (And.intro y y2) (by omega), fun g y => absurd y (by omega), fun g hg hg2 => ?_, fun y => absurd y (by omega), fun y => absurd y (by omega), fun g n y y2 y3 => absurd (And.intro y (And.intro y2 y3)) (by omega), fun y => absurd y (by omega), fun y y2 => absurd (And.intro y y2) (by omega), fun y => absurd y (by omega)⟩, k3⟩
    have e : g = f := by omega
    subst e
    exact k2
  · by_cases c : md = 0
    · refine ⟨(pc, vc, 3, tm, cp, tr + 1, xst st md, en, vc, pc, sc, 8, 0, tb, ih, ic, oc, tn, sl, dO, dD, dA, dB, dI, kn, me, xr, ai, ao, on, pg, oo, od, oa, ob, om, bs, bl, bo, hd, ct, un), (pc, md, st, en, vc, sc, p0, ca, va, tb, tm, cp, ic, oc, 1, 8, 0, pc + 4, wh, me, xr, wt, yo), ⟨hC', fun _ _ P h => ?_, fun y y2 => absurd (And.intro y y2) (by omega), fun y y2 => absurd (And.intro y y2) (by omega), fun y y2 => absurd (And.intro y y2) (by omega), fun y => absurd y (by omega), fun y => absurd y (by omega)⟩, ⟨fun y => absurd y (by omega), fun y => absurd y (by omega), fun y => absurd y (by omega), fun y => absurd y (by omega), fun y => absurd y (by omega), fun y y2 => absurd (And.intro y y2) (by omega), fun g y => absurd y (by omega), fun g y y2 => absurd (And.intro y y2) (by omega), fun _ => ⟨fun _ => rfl, fun y => absurd c y⟩, fun y => absurd y (by omega), fun g n y y2 y3 => absurd (And.intro y (And.intro y2 y3)) (by omega), fun y => absurd y (by omega), fun y y2 => absurd (And.intro y y2) (by omega), fun y => absurd y (by omega)⟩, hM_tr G h0 G.2.2.2.2.1 G.2.2.2.2.2.1⟩
      rw [z]
      refine br_t rfl (br_t c ?_)
      unfold wX_system_21
      exact x_trap h
    · refine ⟨(pc, vc, 3, tm, cp, tr + 1, xst st md, en, vc, pc, sc, 11, 0, tb, ih, ic, oc, tn, sl, dO, dD, dA, dB, dI, kn, me, xr, ai, ao, on, pg, oo, od, oa, ob, om, bs, bl, bo, hd, ct, un), (pc, md, st, en, vc, sc, p0, ca, va, tb, tm, cp, ic, oc, 1, 11, 0, pc + 4, wh, me, xr, wt, yo), ⟨hC', fun _ _ P h => ?_, fun y y2 => absurd (And.intro y y2) (by omega), fun y y2 => absurd (And.intro y y2) (by omega), fun y y2 => absurd (And.intro y y2) (by omega), fun y => absurd y (by omega), fun y => absurd y (by omega)⟩, ⟨fun y => absurd y (by omega), fun y => absurd y (by omega), fun y => absurd y (by omega), fun y => absurd y (by omega), fun y => absurd y (by omega), fun y y2 => absurd (And.intro y y2) (by omega), fun g y => absurd y (by omega), fun g y y2 => absurd (And.intro y y2) (by omega), fun _ => ⟨fun y => absurd y c, fun _ => rfl⟩, fun y => absurd y (by omega), fun g n y y2 y3 => absurd (And.intro y (And.intro y2 y3)) (by omega), fun y => absurd y (by omega), fun y y2 => absurd (And.intro y y2) (by omega), fun y => absurd y (by omega)⟩, hM_tr G h0 G.2.2.2.2.1 G.2.2.2.2.2.1⟩
      rw [z]
      refine br_t rfl (br_f c ?_)
      unfold wX_system_21
      exact x_trap h
  · have hp : kI w = w := by
      unfold kI
      rw [if_neg (by omega)]
      exact kJ_sys z
    by_cases c : md = 0
    · have c3 : ¬ md = 3 := by rw [c]; decide
      refine ⟨(pc, vc, 3, tm, cp, tr + 1, xst st md, en, vc, pc, sc, 2, w, tb, ih, ic, oc, tn, sl, dO, dD, dA, dB, dI, kn, me, xr, ai, ao, on, pg, oo, od, oa, ob, om, bs, bl, bo, hd, ct, un), (pc, md, st, en, vc, sc, p0, ca, va, tb, tm, cp, ic, oc, 1, 2, w, pc + 4, wh, me, xr, wt, yo), ⟨hC', fun _ _ P h => ?_, fun y y2 => absurd (And.intro y y2) (by omega), fun y y2 => absurd (And.intro y y2) (by omega), fun y y2 => absurd (And.intro y y2) (by omega), fun y => absurd y (by omega), fun y => absurd y (by omega)⟩, ⟨fun y => absurd y (by omega), fun y => absurd y (by omega), fun y => absurd y (by omega), fun y => absurd y (by omega), fun y => absurd y (by omega), fun y y2 => absurd (And.intro y y2) (by omega), fun g y => absurd y (by omega), fun g y y2 => absurd (And.intro y y2) (by omega), fun y => absurd y (by omega), fun _ => ⟨fun y => absurd y c3, fun _ => rfl⟩, fun g n y y2 y3 => absurd (And.intro y (And.intro y2 y3)) (by omega), fun y => absurd y (by omega), fun y y2 => absurd (And.intro y y2) (by omega), fun y => absurd y (by omega)⟩, hM_tr G h0 G.2.2.2.2.1 G.2.2.2.2.2.1⟩
      rw [z, hp]
      refine br_f (by decide) (br_f (by decide) (br_t c ?_))
      unfold wX_system_41
      exact x_trap h
    · have c3 : md = 3 := by
        rcases G.1.1 with y | y
        · exact absurd y c
        · exact y
      refine ⟨(pc, p0, if st &&& 6144 = 0 then 0 else 3, tm, cp, tr, (if st &&& 128 = 0 then 0 else 8) ||| 128, en, vc, p0, sc, ca, va, tb, ih, ic, oc, tn, sl, dO, dD, dA, dB, dI, kn, me, xr, ai, ao, on, pg, oo, od, oa, ob, om, bs, bl, bo, hd, ct, un), (pc, if st &&& 6144 = 0 then 0 else 3, (if st &&& 128 = 0 then 0 else 8) ||| 128, en, vc, sc, p0, ca, va, tb, tm, cp, ic, oc, 0, tc, tv, p0, wh, me, xr, wt, yo), ⟨hC', fun _ _ P h => ?_, fun y y2 => absurd (And.intro y y2) (by omega), fun y y2 => absurd (And.intro y y2) (by omega), fun y y2 => absurd (And.intro y y2) (by omega), fun y => absurd y (by omega), fun y => absurd y (by omega)⟩, ⟨fun y => absurd y (by omega), fun y => absurd y (by omega), fun y => absurd y (by omega), fun y => absurd y (by omega), fun y => absurd y (by omega), fun y y2 => absurd (And.intro y y2) (by omega), fun g y => absurd y (by omega), fun g y y2 => absurd (And.intro y y2) (by omega), fun y => absurd y (by omega), fun _ => ⟨fun _ => rfl, fun y => absurd c3 y⟩, fun g n y y2 y3 => absurd (And.intro y (And.intro y2 y3)) (by omega), fun y => absurd y (by omega), fun y y2 => absurd (And.intro y y2) (by omega), fun y => absurd y (by omega)⟩, ?_⟩
      · rw [z]
        exact br_f (by decide) (br_f (by decide) (br_f c (br_t rfl (nm_r (sy_m G.1.2.1) (nm_r (congrArg (fun x => x ||| 128) (sy_s st)) h)))))
      · have G1 := hG_s G
        refine hM_ok ⟨⟨?_, ?_, G.1.2.2⟩, G1.2⟩ h0 (fun _ g => absurd g (by unfold goesOn; omega))
        · split
          · exact Or.inl rfl
          · exact Or.inr rfl
        · split
          · exact Or.inl (by decide)
          · exact Or.inl (by decide)
  · have hp := kO_csr z
    obtain ⟨hp, hcs, hf⟩ := hp
    have hi : kI w = w := by
      unfold kI
      rw [if_neg (by omega)]
      exact kJ_115 hp
    have n24 : ¬ nI (kO w) = 24 := by rw [show (24 : Int32) = nI 24 from rfl, nI_eq (by omega) (by omega)]; omega
    have n19 : ¬ nI (kO w) = 19 := by rw [show (19 : Int32) = nI 19 from rfl, nI_eq (by omega) (by omega)]; omega
    have n20 : ¬ nI (kO w) = 20 := by rw [show (20 : Int32) = nI 20 from rfl, nI_eq (by omega) (by omega)]; omega
    by_cases c : md = 0
    · have c3 : ¬ md = 3 := by rw [c]; decide
      refine ⟨(pc, vc, 3, tm, cp, tr + 1, xst st md, en, vc, pc, sc, 2, w, tb, ih, ic, oc, tn, sl, dO, dD, dA, dB, dI, kn, me, xr, ai, ao, on, pg, oo, od, oa, ob, om, bs, bl, bo, hd, ct, un), (pc, md, st, en, vc, sc, p0, ca, va, tb, tm, cp, ic, oc, 1, 2, w, pc + 4, wh, me, xr, wt, yo), ⟨hC', fun _ _ P h => ?_, fun y y2 => absurd (And.intro y y2) (by omega), fun y y2 => absurd (And.intro y y2) (by omega), fun y y2 => absurd (And.intro y y2) (by omega), fun y => absurd y (by omega), fun y => absurd y (by omega)⟩, ⟨fun y => absurd y (by omega), fun y => absurd y (by omega), fun y => absurd y (by omega), fun y => absurd y (by omega), fun y => absurd y (by omega), fun y y2 => absurd (And.intro y y2) (by omega), fun g y => absurd y (by omega), fun g y y2 => absurd (And.intro y y2) (by omega), fun y => absurd y (by omega), fun y => absurd y (by omega), fun f n _ _ _ _ _ => ⟨fun y => absurd y c3, fun _ => rfl⟩, fun y => absurd y (by omega), fun y y2 => absurd (And.intro y y2) (by omega), fun y => absurd y (by omega)⟩, hM_tr G h0 G.2.2.2.2.1 G.2.2.2.2.2.1⟩
      rw [hi]
      refine br_f n19 (br_f n24 (br_t c ?_))
      unfold wX_system_41
      exact x_trap h
    · have c3 : md = 3 := by
        rcases G.1.1 with y | y
        · exact absurd y c
        · exact y
      obtain ⟨st1, en1, vc1, sc1, p01, ca1, va1, tb1, sl1, on1, W1, T1, kX, kY⟩ := lc_write (pc := pc) (nx := pc + 4) (md := md) (tm := tm) (cp := cp) (tr := tr) (st := st) (en := en) (vc := vc) (p0 := p0) (sc := sc) (ca := ca) (va := va) (tb := tb) (ih := ih) (ic := ic) (oc := oc) (tn := tn) (sl := sl) (dO := dO) (dD := dD) (dA := dA) (dB := dB) (dI := dI) (kn := kn) (me := me) (xr := xr) (ai := ai) (ao := ao) (on := on) (pg := pg) (oo := oo) (od := od) (oa := oa) (ob := ob) (om := om) (bs := bs) (bl := bl) (bo := bo) (hd := hd) (ct := ct) (un := un) (tc := tc) (tv := tv) (ny := pc + 4) (wh := wh) (wt := wt) (yo := yo) (td := 0) hcs.2.2 G.1 G.2.2.2.2.1 (knw (kf w) (kst (bf w 20 12) tb st en vc sc p0 ca va) (xr (kA w)))
      refine ⟨(pc, pc + 4, md, tm, cp, tr, st1, en1, vc1, p01, sc1, ca1, va1, tb1, ih, ic, oc, tn, sl1, dO, dD, dA, dB, dI, kn, me, rs xr (kD w) (kst (bf w 20 12) tb st en vc sc p0 ca va), ai, ao, on1, pg, oo, od, oa, ob, om, bs, bl, bo, hd, ct, un), (pc, md, st1, en1, vc1, sc1, p01, ca1, va1, tb1, tm, cp, ic, oc, 0, tc, tv, pc + 4, wh, me, rs xr (kD w) (kst (bf w 20 12) tb st en vc sc p0 ca va), wt, yo), ⟨hC', fun _ _ P h => ?_, fun y y2 => absurd (And.intro y y2) (by omega), fun y y2 => absurd (And.intro y y2) (by omega), fun y y2 => absurd (And.intro y y2) (by omega), fun y => absurd y (by omega), fun y => absurd y (by omega)⟩, ⟨fun y => absurd y (by omega), fun y => absurd y (by omega), fun y => absurd y (by omega), fun y => absurd y (by omega), fun y => absurd y (by omega), fun y y2 => absurd (And.intro y y2) (by omega), fun g y => absurd y (by omega), fun g y y2 => absurd (And.intro y y2) (by omega), fun y => absurd y (by omega), fun y => absurd y (by omega), fun f n hf1 hf2 hf3 hn _ => ⟨fun _ => ?_, fun y => absurd c3 y⟩, fun y => absurd y (by omega), fun y y2 => absurd (And.intro y y2) (by omega), fun y => absurd y (by omega)⟩, ?_⟩
      · have eg : (w.toUInt32 >>> ((20 : Int32).toUInt32 &&& Int32.toUInt32 31)).toInt32 = nI (bf w 20 12) := kx_ush w 20 12 (by omega) (by omega)
        rw [hi]
        refine br_f n19 (br_f n24 (br_f c (br_f n20 (nm_r eg ?_))))
        refine x_state (bf w 20 12) (bf_lt w 20 12) ⟨vp_in_nI hA (by omega), ?_⟩
        rw [nI_clamp (by omega)]
        refine nm_e ?_
        have K : ∀ z1 : Int32, z1 = knw (kf w) (kst (bf w 20 12) tb st en vc sc p0 ca va) (xr (kA w)) → wX_system_156 P (nI (kD w)) (kst (bf w 20 12) tb st en vc sc p0 ca va) z1 (nI (bf w 20 12)) pc (pc + 4) md tm cp tr st en vc p0 sc ca va tb ih ic oc tn sl dO dD dA dB dI kn me xr ai ao on pg oo od oa ob om bs bl bo hd ct un := by
          intro z1 e
          subst e
          unfold wX_system_156
          exact kX _ (x_set (kD w) hD _ h)
        refine pk_eq (kO w) 21 (fun e => K _ ?_) (fun e => pk_eq (kO w) 22 (fun e2 => K _ ?_) (fun e2 => K _ ?_))
        · unfold knw; rw [if_pos (by omega)]
        · unfold knw; rw [if_neg (by omega), if_pos (by omega)]
        · unfold knw; rw [if_neg (by omega), if_neg (by omega)]
      · have e : f = kf w := by omega
        subst e hn
        exact kY _
      · have G1 := hG_s G
        exact hM_ok ⟨⟨G.1.1, W1.2⟩, G1.2.1, G1.2.2.1, G1.2.2.2.1, T1, G1.2.2.2.2.2⟩ (rs_0 h0) (fun _ g => absurd g (by unfold goesOn; omega))
  · have hi : kI w = w := kI_24 z
    refine ⟨(pc, vc, 3, tm, cp, tr + 1, xst st md, en, vc, pc, sc, 2, w, tb, ih, ic, oc, tn, sl, dO, dD, dA, dB, dI, kn, me, xr, ai, ao, on, pg, oo, od, oa, ob, om, bs, bl, bo, hd, ct, un), (pc, md, st, en, vc, sc, p0, ca, va, tb, tm, cp, ic, oc, 1, 2, w, pc + 4, wh, me, xr, wt, yo), ⟨hC', fun _ _ P h => ?_, fun y y2 => absurd (And.intro y y2) (by omega), fun y y2 => absurd (And.intro y y2) (by omega), fun y y2 => absurd (And.intro y y2) (by omega), fun y => absurd y (by omega), fun y => absurd y (by omega)⟩, ⟨fun y => absurd y (by omega), fun y => absurd y (by omega), fun y => absurd y (by omega), fun y => absurd y (by omega), fun y => absurd y (by omega), fun y y2 => absurd (And.intro y y2) (by omega), fun g y => absurd y (by omega), fun g y y2 => absurd (And.intro y y2) (by omega), fun y => absurd y (by omega), fun y => absurd y (by omega), fun g n y y2 y3 => absurd (And.intro y (And.intro y2 y3)) (by omega), fun _ => rfl, fun y y2 => absurd (And.intro y y2) (by omega), fun y => absurd y (by omega)⟩, hM_tr G h0 G.2.2.2.2.1 G.2.2.2.2.2.1⟩
    rw [z, hi]
    refine br_f (by decide) (br_t rfl ?_)
    unfold wX_system_41
    exact x_trap h
end
end
section
/-! a block's building: pure -/
def knp (kn : Int32) (r : Nat) : Prop := r < 32 ∧ bt kn r = true
def nR (o a b r : Nat) : Prop := (64 ≤ o → a ≠ r) ∧ (32 ≤ o → o < 64 → a ≠ r ∧ b ≠ r)
def cv (o a b : Nat) (c pc : Int32) (x : Nat → Int32) : Int32 :=
  if 64 ≤ o then kc_v (o - 64) (x a) c else if 32 ≤ o then kc_v (o - 32) (x a) (x b) else if o = 2 then pc + c else c
theorem cx_cv {o d a b : Nat} {c pc : Int32} {x : Nat → Int32} (h : o = 1 ∨ o = 2 ∨ 32 ≤ o) : cx o d a b c pc x = rs x d (cv o a b c pc x) := by
  unfold cx cv
  by_cases h1 : 64 ≤ o
  · rw [if_pos h1, if_pos h1]
  · rw [if_neg h1, if_neg h1]
    by_cases h2 : 32 ≤ o
    · rw [if_pos h2, if_pos h2]
    · rw [if_neg h2, if_neg h2]
      by_cases h3 : o = 2
      · rw [if_pos h3, if_pos h3]
      · rw [if_neg h3, if_neg h3, if_pos (by omega)]
theorem cx_0 {o d a b : Nat} {c pc : Int32} {x : Nat → Int32} (h : o = 0) : cx o d a b c pc x = x := by
  subst h
  unfold cx
  rw [if_neg (by omega), if_neg (by omega), if_neg (by omega), if_neg (by omega)]
theorem cx_i {o d a b : Nat} {c pc : Int32} {x : Nat → Int32} (h : ¬ (o = 1 ∨ o = 2 ∨ 32 ≤ o)) : cx o d a b c pc x = x := by
  unfold cx
  rw [if_neg (by omega), if_neg (by omega), if_neg (by omega), if_neg (by omega)]
theorem cx_n {o d a b : Nat} {c pc : Int32} {x : Nat → Int32} {q : Nat} (h : q ≠ d) : cx o d a b c pc x q = x q := by
  by_cases z : o = 1 ∨ o = 2 ∨ 32 ≤ o
  · rw [cx_cv z, rs_n h]
  · rw [cx_i z]
theorem rs_e {x : Nat → Int32} {d : Nat} {v : Int32} (h : d ≠ 0) : rs x d v d = v := by unfold rs; rw [if_neg h, pk_us]
theorem cx_fr {o d a b : Nat} {c pc : Int32} {x x2 : Nat → Int32} {r : Nat} (hn : nR o a b r) (h : ∀ q, q ≠ r → x q = x2 q) {q : Nat} (hq : q ≠ r) : cx o d a b c pc x q = cx o d a b c pc x2 q := by
  by_cases z : o = 1 ∨ o = 2 ∨ 32 ≤ o
  · have e : cv o a b c pc x = cv o a b c pc x2 := by
      unfold cv
      by_cases h1 : 64 ≤ o
      · rw [if_pos h1, if_pos h1, h a (hn.1 h1)]
      · rw [if_neg h1, if_neg h1]
        by_cases h2 : 32 ≤ o
        · have := hn.2 h2 (by omega)
          rw [if_pos h2, if_pos h2, h a this.1, h b this.2]
        · rw [if_neg h2, if_neg h2]
    rw [cx_cv z, cx_cv z, e]
    by_cases hd : q = d
    · subst hd
      by_cases h0 : q = 0
      · subst h0; unfold rs; rw [if_pos rfl, if_pos rfl]; exact h 0 hq
      · rw [rs_e h0, rs_e h0]
    · rw [rs_n hd, rs_n hd]; exact h q hq
  · rw [cx_i z, cx_i z]; exact h q hq
def pSt (me : Nat → Int32) (w n : Nat) (D K : Nat → Nat → Prop) (C : Nat → Nat → Int32) (qo qd qa qb : Nat → Nat) (qc : Nat → Int32) : Prop :=
  ∀ i, i < n → sOK (D i) (K i) (C i) (D (i + 1)) (K (i + 1)) (C (i + 1)) (me (w + i)) (qo i) (qd i) (qa i) (qb i) (qc i)
def pB (me : Nat → Int32) (w n : Nat) (kn : Int32) (ct : Nat → Int32) (qo qd qa qb : Nat → Nat) (qc : Nat → Int32) : Prop :=
  ∃ (D K : Nat → Nat → Prop) (C : Nat → Nat → Int32), (∀ r, ¬ D 0 r) ∧ (∀ r, ¬ D n r) ∧ (∀ r, K 0 r → r = 0 ∧ C 0 r = 0) ∧ (∀ r, K n r ↔ knp kn r) ∧ C n = ct ∧ pSt me w n D K C qo qd qa qb qc
def uU (me : Nat → Int32) (w n b : Nat) (un : Nat → Int32) (qo qd qa qb : Nat → Nat) : Prop := ∀ r, r < 32 → un r < 0 ∨ ∃ j, un r = nI (8 * b + j) ∧ 0 < r ∧ j < n ∧
  (∀ i, j ≤ i → i < n → isC (kO (me (w + i)))) ∧ qd j = r ∧ ∀ i, j < i → i < n → nR (qo i) (qa i) (qb i) r
def eF {α : Type} (F : Nat → α) (n : Nat) (x : α) : Nat → α := fun i => if i = n then x else F i
theorem eF_s {α : Type} {F : Nat → α} {n : Nat} {x : α} : eF F n x n = x := if_pos rfl
theorem eF_n {α : Type} {F : Nat → α} {n i : Nat} {x : α} (h : i ≠ n) : eF F n x i = F i := if_neg h
theorem pB_ext {me : Nat → Int32} {w n : Nat} {D K : Nat → Nat → Prop} {C : Nat → Nat → Int32} {qo qd qa qb : Nat → Nat} {qc : Nat → Int32} {D1 K1 : Nat → Prop} {C1 : Nat → Int32} {o d a b : Nat} {c kn1 : Int32}
    (h0 : ∀ r, ¬ D 0 r) (hk0 : ∀ r, K 0 r → r = 0 ∧ C 0 r = 0) (H : pSt me w n D K C qo qd qa qb qc) (new : sOK (D n) (K n) (C n) D1 K1 C1 (me (w + n)) o d a b c)
    (hD1 : ∀ r, ¬ D1 r) (hK1 : ∀ r, K1 r ↔ knp kn1 r) : pB me w (n + 1) kn1 C1 (uN0 qo n o) (uN0 qd n d) (uN0 qa n a) (uN0 qb n b) (upd qc n c) := by
  refine ⟨eF D (n + 1) D1, eF K (n + 1) K1, eF C (n + 1) C1, ?_, ?_, ?_, ?_, eF_s, ?_⟩
  · rw [eF_n (by omega)]; exact h0
  · rw [eF_s]; exact hD1
  · rw [eF_n (by omega), eF_n (by omega)]; exact hk0
  · rw [eF_s]; exact hK1
  · intro i hi
    by_cases e : i = n
    · subst e
      rw [eF_n (by omega), eF_n (by omega), eF_n (by omega), eF_s, eF_s, eF_s, uN0_s, uN0_s, uN0_s, uN0_s, pk_us]
      exact new
    · rw [eF_n (by omega), eF_n (by omega), eF_n (by omega), eF_n (by omega), eF_n (by omega), eF_n (by omega), uN0_n e, uN0_n e, uN0_n e, uN0_n e, pk_un e]
      exact H i (by omega)
/-- an operation not a calculation -/
theorem pB_nc {me : Nat → Int32} {w n : Nat} {kn kn1 : Int32} {ct : Nat → Int32} {qo qd qa qb : Nat → Nat} {qc : Nat → Int32} (H : pB me w n kn ct qo qd qa qb qc) (hc : ¬ isC (kO (me (w + n)))) (hct : ct 0 = 0)
    (hk : ∀ r, knp kn1 r → knp kn r ∧ (r = 0 ∨ r ≠ kD (me (w + n)))) :
    pB me w (n + 1) kn1 ct (uN0 qo n (kO (me (w + n)))) (uN0 qd n (kD (me (w + n)))) (uN0 qa n (kA (me (w + n)))) (uN0 qb n (kB (me (w + n)))) (upd qc n (kI (me (w + n)))) := by
  obtain ⟨D, K, C, h0, hn, hk0, hkn, hcn, hst⟩ := H
  refine pB_ext (D1 := fun _ => False) (K1 := knp kn1) h0 hk0 hst (Or.inr ⟨hc, rfl, rfl, rfl, rfl, rfl, hn, fun _ z => z, fun r hr => ?_⟩) (fun _ z => z) (fun _ => Iff.rfl)
  obtain ⟨z1, z2⟩ := hk r hr
  rw [hcn]
  refine ⟨rfl, ?_⟩
  by_cases e : r = 0
  · subst e; exact Or.inl ⟨rfl, hct⟩
  · exact Or.inr ⟨(hkn r).mpr z1, by omega⟩
/-- a calculation without a result -/
theorem pB_0 {me : Nat → Int32} {w n : Nat} {kn : Int32} {ct : Nat → Int32} {qo qd qa qb : Nat → Nat} {qc : Nat → Int32} {c : Int32} (H : pB me w n kn ct qo qd qa qb qc) (hc : isC (kO (me (w + n)))) (h0' : kO (me (w + n)) = 0 ∨ kD (me (w + n)) = 0) :
    pB me w (n + 1) kn ct (uN0 qo n 0) (uN0 qd n (kD (me (w + n)))) (uN0 qa n (kA (me (w + n)))) (uN0 qb n (kB (me (w + n)))) (upd qc n c) := by
  obtain ⟨D, K, C, h0, hn, hk0, hkn, hcn, hst⟩ := H
  subst hcn
  refine pB_ext (D1 := fun _ => False) (K1 := knp kn) h0 hk0 hst (Or.inl ⟨hc, by omega, kD_lt _, kA_lt _, kB_lt _, fun pc x y hy hx hK => ?_⟩) (fun _ z => z) (fun _ => Iff.rfl)
  have e : cx (kO (me (w + n))) (kD (me (w + n))) (kA (me (w + n))) (kB (me (w + n))) (kI (me (w + n))) pc y = y := by
    by_cases z : kO (me (w + n)) = 1 ∨ kO (me (w + n)) = 2 ∨ 32 ≤ kO (me (w + n))
    · rw [cx_cv z]
      unfold rs
      rw [if_pos (by omega)]
    · exact cx_i z
  rw [e, cx_0 rfl]
  exact ⟨fun r _ => hx r (hn r), fun r hr => hK r ((hkn r).mpr hr)⟩
def vOK (w : Int32) (kn : Int32) (ct : Nat → Int32) (o : Nat) (c : Int32) : Prop := (o = 1 ∨ o = 2 ∨ (32 ≤ o ∧ o ≤ 48) ∨ (64 ≤ o ∧ o ≤ 80)) ∧
  ∀ (pc : Int32) (x y : Nat → Int32), (∀ r, knp kn r → y r = ct r) → (64 ≤ o → x (kA w) = y (kA w)) → (32 ≤ o → o < 64 → x (kA w) = y (kA w) ∧ x (kB w) = y (kB w)) →
    cv o (kA w) (kB w) c pc x = cv (kO w) (kA w) (kB w) (kI w) pc y
theorem vOK_0 {w kn : Int32} {ct : Nat → Int32} (hc : isC (kO w)) (h0 : kO w ≠ 0) : vOK w kn ct (kO w) (kI w) := by
  have hr := kO_r w
  unfold isC at hc
  refine ⟨by omega, fun pc x y _ h1 h2 => ?_⟩
  unfold cv
  by_cases z : 64 ≤ kO w
  · rw [if_pos z, if_pos z, h1 z]
  · rw [if_neg z, if_neg z]
    by_cases z2 : 32 ≤ kO w
    · have := h2 z2 (by omega)
      rw [if_pos z2, if_pos z2, this.1, this.2]
    · rw [if_neg z2, if_neg z2]
theorem vOK_1 {w kn : Int32} {ct : Nat → Int32} {o : Nat} {c : Int32} (H : vOK w kn ct o c) (h32 : 32 ≤ o) (h64 : o < 64) (hb : knp kn (kB w)) : vOK w kn ct (o + 32) (ct (kB w)) := by
  refine ⟨by have := H.1; omega, fun pc x y hK h1 _ => ?_⟩
  have e := H.2 pc y y hK (fun _ => rfl) (fun _ _ => ⟨rfl, rfl⟩)
  rw [← e]
  unfold cv
  rw [if_pos (by omega), if_neg (by omega), if_pos h32, h1 (by omega), hK _ hb, show o + 32 - 64 = o - 32 by omega]
theorem vOK_2 {w kn : Int32} {ct : Nat → Int32} {o : Nat} {c : Int32} (H : vOK w kn ct o c) (h64 : 64 ≤ o) (ha : knp kn (kA w)) : vOK w kn ct 1 (kc_v (o - 64) (ct (kA w)) c) := by
  refine ⟨Or.inl rfl, fun pc x y hK _ _ => ?_⟩
  have e := H.2 pc y y hK (fun _ => rfl) (fun _ _ => ⟨rfl, rfl⟩)
  rw [← e]
  unfold cv
  rw [if_neg (by omega), if_neg (by omega), if_neg (by omega), if_pos h64, hK _ ha]
theorem sOK_new {w kn kn1 : Int32} {ct : Nat → Int32} {Dn Kn : Nat → Prop} {o : Nat} {c : Int32} (hc : isC (kO w)) (hd : kD w ≠ 0) (h0 : kO w ≠ 0) (hV : vOK w kn ct o c) (hD : ∀ r, Dn r → r = kD w ∧ nR o (kA w) (kB w) (kD w))
    (hKn : ∀ r, Kn r ↔ knp kn r) (hK1 : ∀ r, knp kn1 r → (r = kD w ∧ o = 1) ∨ (r ≠ kD w ∧ knp kn r)) :
    sOK Dn Kn ct (fun _ => False) (knp kn1) (upd ct (kD w) c) w o (kD w) (kA w) (kB w) c := by
  have hr := kO_r w
  have hC := hc
  unfold isC at hC
  have hV1 := hV.1
  refine Or.inl ⟨hc, by omega, kD_lt w, kA_lt w, kB_lt w, fun pc x y hy hx hK => ?_⟩
  have hK' : ∀ r, knp kn r → y r = ct r := fun r hr => hK r ((hKn r).mpr hr)
  have nd : ∀ r, ¬ (r = kD w ∧ nR o (kA w) (kB w) (kD w)) → x r = y r := fun r z => hx r (fun q => z (hD r q))
  have ev : cv o (kA w) (kB w) c pc x = cv (kO w) (kA w) (kB w) (kI w) pc y := by
    refine hV.2 pc x y hK' (fun z => nd _ (fun q => q.2.1 z q.1)) (fun z1 z2 => ⟨nd _ (fun q => (q.2.2 z1 z2).1 q.1), nd _ (fun q => (q.2.2 z1 z2).2 q.1)⟩)
  rw [cx_cv (by omega), cx_cv (show kO w = 1 ∨ kO w = 2 ∨ 32 ≤ kO w by omega), ev]
  refine ⟨fun r _ => ?_, fun r hr => ?_⟩
  · by_cases e : r = kD w
    · subst e; rw [rs_e hd, rs_e hd]
    · rw [rs_n e, rs_n e]; exact nd r (fun q => e q.1)
  · rcases hK1 r hr with ⟨e, e1⟩ | ⟨e, e1⟩
    · subst e; rw [rs_e hd, pk_us, ← ev]
      unfold cv
      rw [if_neg (by omega), if_neg (by omega), if_neg (by omega)]
    · rw [rs_n e, pk_un e]; exact hK' r e1
/-- dropping an operation whose result nothing has read -/
theorem pSt_drop {me : Nat → Int32} {w n : Nat} {D K : Nat → Nat → Prop} {C : Nat → Nat → Int32} {qo qd qa qb : Nat → Nat} {qc : Nat → Int32} (H : pSt me w n D K C qo qd qa qb qc) {j r : Nat} (hj : j < n)
    (hC : ∀ i, j ≤ i → i < n → isC (kO (me (w + i)))) (hd : qd j = r) (hR : ∀ i, j < i → i < n → nR (qo i) (qa i) (qb i) r) :
    pSt me w n (fun i q => D i q ∨ (q = r ∧ j < i)) K C (uN0 qo j 0) qd qa qb qc := by
  intro i hi
  rcases Nat.lt_trichotomy i j with z | z | z
  · have e1 : (fun q => D i q ∨ (q = r ∧ j < i)) = D i := by funext q; exact propext ⟨fun y => y.elim id (fun y => absurd y.2 (by omega)), Or.inl⟩
    have e2 : (fun q => D (i + 1) q ∨ (q = r ∧ j < i + 1)) = D (i + 1) := by funext q; exact propext ⟨fun y => y.elim id (fun y => absurd y.2 (by omega)), Or.inl⟩
    show sOK (fun q => D i q ∨ (q = r ∧ j < i)) _ _ (fun q => D (i + 1) q ∨ (q = r ∧ j < i + 1)) _ _ _ _ _ _ _ _
    rw [e1, e2, uN0_n (by omega)]
    exact H i hi
  · subst z
    rcases H i hi with ⟨s1, s2, s3, s4, s5, s6⟩ | ⟨s1, _⟩
    · refine Or.inl ⟨s1, by rw [uN0_s]; omega, s3, s4, s5, fun pc x y hy hx hK => ?_⟩
      obtain ⟨t1, t2⟩ := s6 pc x y hy (fun q hq => hx q (fun y => y.elim hq (fun y => absurd y.2 (by omega)))) hK
      refine ⟨fun q hq => ?_, t2⟩
      rw [uN0_s, cx_0 rfl, ← t1 q (fun y => hq (Or.inl y)), cx_n]
      intro e
      exact hq (Or.inr ⟨by omega, by omega⟩)
    · exact absurd (hC i (by omega) hi) s1
  · rcases H i hi with ⟨s1, s2, s3, s4, s5, s6⟩ | ⟨s1, _⟩
    · refine Or.inl ⟨s1, by rw [uN0_n (by omega)]; exact s2, s3, s4, s5, fun pc x y hy hx hK => ?_⟩
      rw [uN0_n (by omega)]
      obtain ⟨t1, t2⟩ := s6 pc (fun q => if q = r then y q else x q) y hy (fun q hq => by
        by_cases e : q = r
        · show (if q = r then y q else x q) = y q
          rw [if_pos e]
        · show (if q = r then y q else x q) = y q
          rw [if_neg e]; exact hx q (fun y => y.elim hq (fun y => e y.1))) hK
      refine ⟨fun q hq => ?_, t2⟩
      have qr : q ≠ r := fun e => hq (Or.inr ⟨e, by omega⟩)
      rw [← t1 q (fun y => hq (Or.inl y))]
      refine cx_fr (hR i z hi) (fun p hp => ?_) qr
      show x p = (if p = r then y p else x p)
      rw [if_neg hp]
    · exact absurd (hC i (by omega) hi) s1
/-- a calculation with a result -/
theorem pB_c {me : Nat → Int32} {w n b : Nat} {kn kn1 : Int32} {ct : Nat → Int32} {un un2 : Nat → Int32} {qo qd qa qb : Nat → Nat} {qc : Nat → Int32} {o : Nat} {c : Int32} (H : pB me w n kn ct qo qd qa qb qc) (U : uU me w n b un qo qd qa qb)
    (hc : isC (kO (me (w + n)))) (hd : kD (me (w + n)) ≠ 0) (h0 : kO (me (w + n)) ≠ 0) (hV : vOK (me (w + n)) kn ct o c)
    (hK1 : ∀ r, knp kn1 r ↔ (r = kD (me (w + n)) ∧ o = 1) ∨ (r ≠ kD (me (w + n)) ∧ knp kn r))
    (hu : ∀ r, un2 r = un r ∨ un2 r < 0) (hua : 64 ≤ o → un2 (kA (me (w + n))) < 0) (hub : 32 ≤ o → o < 64 → un2 (kA (me (w + n))) < 0 ∧ un2 (kB (me (w + n))) < 0) :
    ∃ qo' : Nat → Nat, (un2 (kD (me (w + n))) < 0 ∧ qo' = qo ∨ ∃ j, j < n ∧ un2 (kD (me (w + n))) = nI (8 * b + j) ∧ qo' = uN0 qo j 0) ∧
      pB me w (n + 1) kn1 (upd ct (kD (me (w + n))) c) (uN0 qo' n o) (uN0 qd n (kD (me (w + n)))) (uN0 qa n (kA (me (w + n)))) (uN0 qb n (kB (me (w + n)))) (upd qc n c) ∧
      uU me w (n + 1) b (upd un2 (kD (me (w + n))) (nI (8 * b + n))) (uN0 qo' n o) (uN0 qd n (kD (me (w + n)))) (uN0 qa n (kA (me (w + n)))) (uN0 qb n (kB (me (w + n)))) := by
  obtain ⟨D, K, C, k0, kn', kk0, kkn, kcn, kst'⟩ := H
  subst kcn
  have hDl := kD_lt (me (w + n))
  -- what is unread stays so
  have UU : ∀ qo' : Nat → Nat, (∀ i, qo' i = qo i ∨ qo' i = 0) → uU me w (n + 1) b (upd un2 (kD (me (w + n))) (nI (8 * b + n))) (uN0 qo' n o) (uN0 qd n (kD (me (w + n)))) (uN0 qa n (kA (me (w + n)))) (uN0 qb n (kB (me (w + n)))) := by
    intro qo' hq r hr
    by_cases e : r = kD (me (w + n))
    · subst e
      rw [pk_us]
      refine Or.inr ⟨n, rfl, by omega, by omega, fun i h1 h2 => ?_, uN0_s, fun i h1 h2 => absurd h2 (by omega)⟩
      have : i = n := by omega
      subst this; exact hc
    · rw [pk_un e]
      rcases hu r with z | z
      · rw [z]
        rcases U r hr with y | ⟨j, y1, y2, y3, y4, y5, y6⟩
        · exact Or.inl y
        · by_cases neg : un2 r < 0
          · rw [z] at neg; exact Or.inl neg
          · refine Or.inr ⟨j, y1, y2, by omega, fun i h1 h2 => ?_, ?_, fun i h1 h2 => ?_⟩
            · by_cases q : i = n
              · subst q; exact hc
              · exact y4 i h1 (by omega)
            · rw [uN0_n (by omega)]; exact y5
            · by_cases q : i = n
              · subst q
                rw [uN0_s, uN0_s, uN0_s]
                exact ⟨fun g e => neg (by rw [← e]; exact hua g), fun g g2 => ⟨fun e => neg (by rw [← e]; exact (hub g g2).1), fun e => neg (by rw [← e]; exact (hub g g2).2)⟩⟩
              · rw [uN0_n q, uN0_n q, uN0_n q]
                rcases hq i with p | p
                · rw [p]; exact y6 i h1 (by omega)
                · rw [p]; exact ⟨fun g => absurd g (by omega), fun g => absurd g (by omega)⟩
      · exact Or.inl z
  by_cases neg : un2 (kD (me (w + n))) < 0
  · refine ⟨qo, Or.inl ⟨neg, rfl⟩, ?_, UU qo (fun _ => Or.inl rfl)⟩
    exact pB_ext (D1 := fun _ => False) (K1 := knp kn1) k0 kk0 kst' (sOK_new hc hd h0 hV (fun r z => absurd z (kn' r)) kkn (fun r z => (hK1 r).mp z)) (fun _ z => z) (fun _ => Iff.rfl)
  · have e : un2 (kD (me (w + n))) = un (kD (me (w + n))) := by
      rcases hu (kD (me (w + n))) with z | z
      · exact z
      · exact absurd z neg
    rcases U (kD (me (w + n))) hDl with y | ⟨j, y1, y2, y3, y4, y5, y6⟩
    · rw [e] at neg; exact absurd y neg
    · refine ⟨uN0 qo j 0, Or.inr ⟨j, y3, e.trans y1, rfl⟩, ?_, UU _ (fun i => ?_)⟩
      · refine pB_ext (D := fun i q => D i q ∨ (q = kD (me (w + n)) ∧ j < i)) (D1 := fun _ => False) (K1 := knp kn1) (fun r z => ?_) kk0 (pSt_drop kst' y3 y4 y5 y6) (sOK_new hc hd h0 hV (fun r z => ?_) kkn (fun r z => (hK1 r).mp z)) (fun _ z => z) (fun _ => Iff.rfl)
        · rcases z with z | z
          · exact k0 r z
          · exact absurd z.2 (by omega)
        · rcases z with z | z
          · exact absurd z (kn' r)
          · exact ⟨z.1, fun g q => neg (by rw [← q]; exact hua g), fun g g2 => ⟨fun q => neg (by rw [← q]; exact (hub g g2).1), fun q => neg (by rw [← q]; exact (hub g g2).2)⟩⟩
      · by_cases q : i = j
        · subst q; exact Or.inr uN0_s
        · exact Or.inl (uN0_n q)
end
section
/-! X: forgetUnread, keep, reduce -/
theorem na_s : ∀ c, c < 256 → vp_nar .short ((nI c).toInt16.toInt32) = nI c := by decide +kernel
theorem na_m1 : vp_nar .short (-1) = -1 := by decide
theorem ng_1 : (-1 : Int32) < 0 := by decide
theorem kb_sh {d i : Nat} (hd : d < 32) (hi : i < 32) : bt ((1 : Int32) <<< (nI d &&& 31)) i = decide (i = d) := by
  have h1 : ∀ j, j < 32 → bt 1 j = decide (j = 0) := by decide +kernel
  rw [b_shl d hd _ hi, h1 _ (by omega)]
  by_cases e : i = d
  · subst e; simp
  · rw [decide_eq_false e]
    by_cases z : d ≤ i
    · rw [decide_eq_true z, decide_eq_false (by omega)]; rfl
    · rw [decide_eq_false z]; rfl
theorem kb_t (kn : Int32) {a : Nat} (ha : a < 32) : ((kn >>> (nI a &&& 31)) &&& 1) = 0 ↔ bt kn a = false := by
  have e : (kn >>> (nI a &&& 31)) &&& 1 = nI (bf kn a 1) := kx_fld kn a 1 (by omega) ha (by decide)
  have h2 := bf_lt kn a 1
  have h3 := bf_bit kn a 1 0
  rw [e, ← nI_0, nI_eq (by omega) (by omega)]
  rw [show (decide (0 < 1) && bt kn (a + 0)) = bt kn a from rfl] at h3
  rw [← h3]
  rcases (by omega : bf kn a 1 = 0 ∨ bf kn a 1 = 1) with z | z <;> rw [z] <;> decide
theorem kb_tf {kn : Int32} {a : Nat} (ha : a < 32) (h : ¬ ((kn >>> (nI a &&& 31)) &&& 1) = 0) : knp kn a := by
  refine ⟨ha, ?_⟩
  cases e : bt kn a
  · exact absurd ((kb_t kn ha).mpr e) h
  · rfl
def kN1 (o d : Nat) (kn : Int32) : Int32 := if o = 1 then kn ||| ((1 : Int32) <<< (nI d &&& 31)) else kn &&& (((1 : Int32) <<< (nI d &&& 31)) ^^^ (-1))
theorem kN1_k {o d : Nat} (hd : d < 32) (kn : Int32) (r : Nat) : knp (kN1 o d kn) r ↔ (r = d ∧ o = 1) ∨ (r ≠ d ∧ knp kn r) := by
  unfold knp kN1
  by_cases h : r < 32
  · by_cases e : o = 1
    · rw [if_pos e, b_or, kb_sh hd h]
      by_cases z : r = d
      · subst z; simp [e, h]
      · simp [z, h]
    · rw [if_neg e, b_and, b_xor, kb_sh hd h, b_m1 r h]
      by_cases z : r = d
      · subst z; simp [e]
      · simp [z, h]
  · constructor
    · intro z; exact absurd z.1 h
    · intro z
      rcases z with z | z
      · omega
      · exact absurd z.2.1 h
theorem kN2_k {d : Nat} (hd : d < 32) (kn : Int32) (r : Nat) (h : knp (kn &&& ((((1 : Int32) <<< (nI d &&& 31)) ^^^ (-1)) ||| 1)) r) : knp kn r ∧ (r = 0 ∨ r ≠ d) := by
  obtain ⟨h1, h2⟩ := h
  have q : ∀ j, j < 32 → bt 1 j = decide (j = 0) := by decide +kernel
  rw [b_and, b_or, b_xor, kb_sh hd h1, b_m1 r h1, q r h1] at h2
  by_cases z : r = d
  · subst z
    by_cases y : r = 0
    · subst y
      refine ⟨⟨h1, ?_⟩, Or.inl rfl⟩
      revert h2; cases bt kn 0 <;> simp
    · simp [y] at h2
  · refine ⟨⟨h1, ?_⟩, Or.inr z⟩
    revert h2; cases bt kn r <;> simp
section
variable {pc nx md tm cp tr st en vc p0 sc ca va tb ih ic oc tn sl dO dD dA dB dI kn td tc tv ny wh : Int32} {me xr ai ao on pg oo od oa ob om bs bl bo hd ct un wt yo : Nat → Int32}
theorem xu_loop : ∀ (d i : Nat) (un0 : Nat → Int32), i + d = 32 →
    ∃ un' : Nat → Int32, (∀ p, p < 32 → un' p = if i ≤ p then -1 else un0 p) ∧
      ∀ post : SX → Prop, post (pc, nx, md, tm, cp, tr, st, en, vc, p0, sc, ca, va, tb, ih, ic, oc, tn, sl, dO, dD, dA, dB, dI, kn, me, xr, ai, ao, on, pg, oo, od, oa, ob, om, bs, bl, bo, hd, ct, un') → wX_forgetUnread_2 post pc nx md tm cp tr st en vc p0 sc ca va tb ih ic oc tn sl dO dD dA dB dI kn (d + 1) (nI i) me xr ai ao on pg oo od oa ob om bs bl bo hd ct un0 := by
  intro d
  induction d with
  | zero =>
    intro i un0 hi
    refine ⟨un0, fun p hp => by rw [if_neg (by omega)], fun post h => ?_⟩
    exact br_t (nI_le (a := 32) (by omega) (by omega)) h
  | succ d IH =>
    intro i un0 hi
    obtain ⟨un', k1, k2⟩ := IH (i + 1) (upd un0 i (-1)) (by omega)
    refine ⟨un', fun p hp => ?_, fun post h => ?_⟩
    · rw [k1 p hp]
      by_cases e : p = i
      · subst e; rw [if_neg (by omega), if_pos (by omega), pk_us]
      · rw [pk_un e]
        by_cases z : i + 1 ≤ p
        · rw [if_pos z, if_pos (by omega)]
        · rw [if_neg z, if_neg (by omega)]
    · refine br_f (nI_ge (b := 32) (by omega) (by omega)) ⟨vp_in_nI (by omega) (by omega), ?_⟩
      rw [nI_clamp (by omega), na_m1]
      exact nm_e (nm_r (nI_1 i) (k2 post h))
theorem x_fu : ∃ un' : Nat → Int32, (∀ r, r < 32 → un' r < 0) ∧ ∀ post : SX → Prop, post (pc, nx, md, tm, cp, tr, st, en, vc, p0, sc, ca, va, tb, ih, ic, oc, tn, sl, dO, dD, dA, dB, dI, kn, me, xr, ai, ao, on, pg, oo, od, oa, ob, om, bs, bl, bo, hd, ct, un') → wpX_forgetUnread post (pc, nx, md, tm, cp, tr, st, en, vc, p0, sc, ca, va, tb, ih, ic, oc, tn, sl, dO, dD, dA, dB, dI, kn, me, xr, ai, ao, on, pg, oo, od, oa, ob, om, bs, bl, bo, hd, ct, un) := by
  obtain ⟨un', k1, k2⟩ := xu_loop (pc := pc) (nx := nx) (md := md) (tm := tm) (cp := cp) (tr := tr) (st := st) (en := en) (vc := vc) (p0 := p0) (sc := sc) (ca := ca) (va := va) (tb := tb) (ih := ih) (ic := ic) (oc := oc) (tn := tn) (sl := sl) (dO := dO) (dD := dD) (dA := dA) (dB := dB) (dI := dI) (kn := kn) (me := me) (xr := xr) (ai := ai) (ao := ao) (on := on) (pg := pg) (oo := oo) (od := od) (oa := oa) (ob := ob) (om := om) (bs := bs) (bl := bl) (bo := bo) (hd := hd) (ct := ct) 32 0 un rfl
  refine ⟨un', fun r hr => ?_, fun post h => ⟨33, k2 post h⟩⟩
  rw [k1 r hr, if_pos (by omega)]
  exact ng_1
theorem x_keep {post : SX → Prop} {k o d a b : Nat} (hk : k < 192) (ho : o < 128) (hd' : d < 32) (ha : a < 32) (hb : b < 32)
    (h : post (pc, nx, md, tm, cp, tr, st, en, vc, p0, sc, ca, va, tb, ih, ic, oc, tn, sl, nI o, nI d, nI a, nI b, dI, kn, me, xr, ai, ao, on, pg, upd oo k (nI o), upd od k (nI d), upd oa k (nI a), upd ob k (nI b), upd om k dI, bs, bl, bo, hd, ct, un)) : wpX_keep post (pc, nx, md, tm, cp, tr, st, en, vc, p0, sc, ca, va, tb, ih, ic, oc, tn, sl, nI o, nI d, nI a, nI b, dI, kn, me, xr, ai, ao, on, pg, oo, od, oa, ob, om, bs, bl, bo, hd, ct, un) (nI k) := by
  have vk : vp_in (nI k) 192 := vp_in_nI hk (by omega)
  unfold wpX_keep
  dsimp only
  rw [nI_clamp (by omega), na_b _ ho, na_b _ (by omega), na_b _ (by omega), na_b _ (by omega)]
  exact ⟨vk, nm_e ⟨vk, nm_e ⟨vk, nm_e ⟨vk, nm_e ⟨vk, nm_e h⟩⟩⟩⟩⟩
theorem xr_205 {post : SX → Prop} {k o d : Nat} (hk : k < 256) (ho : o < 128) (hd' : d < 32)
    (h : post (pc, nx, md, tm, cp, tr, st, en, vc, p0, sc, ca, va, tb, ih, ic, oc, tn, sl, nI o, nI d, dA, dB, dI, kN1 o d kn, me, xr, ai, ao, on, pg, oo, od, oa, ob, om, bs, bl, bo, hd, upd ct d dI, upd un d (nI k))) : wX_reduce_205 post (nI k) pc nx md tm cp tr st en vc p0 sc ca va tb ih ic oc tn sl (nI o) (nI d) dA dB dI kn me xr ai ao on pg oo od oa ob om bs bl bo hd ct un := by
  have vd : vp_in (nI d) 32 := vp_in_nI hd' (by omega)
  unfold wX_reduce_205
  rw [nI_clamp (by omega), na_s k hk]
  unfold kN1 at h
  refine ⟨vd, nm_e (pk_eq o 1 (fun e => ?_) (fun e => ?_))⟩
  · rw [if_pos e] at h
    unfold wX_reduce_252
    rw [nI_clamp (by omega)]
    exact ⟨vd, nm_e h⟩
  · rw [if_neg e] at h
    unfold wX_reduce_252
    rw [nI_clamp (by omega)]
    exact ⟨vd, nm_e h⟩
theorem xr_178 {post : SX → Prop} {k o d : Nat} {oo' : Nat → Int32} (hk : k < 256) (ho : o < 128) (hd' : d < 32) (hu : un d < 0 ∧ oo' = oo ∨ ∃ j, j < 192 ∧ un d = nI j ∧ oo' = upd oo j 0)
    (h : post (pc, nx, md, tm, cp, tr, st, en, vc, p0, sc, ca, va, tb, ih, ic, oc, tn, sl, nI o, nI d, dA, dB, dI, kN1 o d kn, me, xr, ai, ao, on, pg, oo', od, oa, ob, om, bs, bl, bo, hd, upd ct d dI, upd un d (nI k))) : wX_reduce_178 post (nI k) pc nx md tm cp tr st en vc p0 sc ca va tb ih ic oc tn sl (nI o) (nI d) dA dB dI kn me xr ai ao on pg oo od oa ob om bs bl bo hd ct un := by
  have vd : vp_in (nI d) 32 := vp_in_nI hd' (by omega)
  unfold wX_reduce_178
  rw [nI_clamp (by omega)]
  rcases hu with ⟨h1, h2⟩ | ⟨j, h1, h2, h3⟩
  · subst h2
    exact ⟨vd, br_t h1 (xr_205 hk ho hd' h)⟩
  · subst h3
    rw [h2, nI_clamp (by omega), na_b0]
    refine ⟨vd, br_f (nI_pos (by omega)) ⟨vd, vp_in_nI h1 (by omega), nm_e (xr_205 hk ho hd' h)⟩⟩
/-- the reads of operation (o, a, b) end what is unread -/
def uR (o a b : Nat) (un : Nat → Int32) : Nat → Int32 := if 64 ≤ o then upd un a (-1) else if 32 ≤ o then upd (upd un a (-1)) b (-1) else un
theorem xr_131 {post : SX → Prop} {k o d a b : Nat} {oo' : Nat → Int32} (hk : k < 256) (ho : o < 128) (hd' : d < 32) (ha : a < 32) (hb : b < 32) (hu : uR o a b un d < 0 ∧ oo' = oo ∨ ∃ j, j < 192 ∧ uR o a b un d = nI j ∧ oo' = upd oo j 0)
    (h : post (pc, nx, md, tm, cp, tr, st, en, vc, p0, sc, ca, va, tb, ih, ic, oc, tn, sl, nI o, nI d, nI a, nI b, dI, kN1 o d kn, me, xr, ai, ao, on, pg, oo', od, oa, ob, om, bs, bl, bo, hd, upd ct d dI, upd (uR o a b un) d (nI k))) : wX_reduce_131 post (nI k) pc nx md tm cp tr st en vc p0 sc ca va tb ih ic oc tn sl (nI o) (nI d) (nI a) (nI b) dI kn me xr ai ao on pg oo od oa ob om bs bl bo hd ct un := by
  have va' : vp_in (nI a) 32 := vp_in_nI ha (by omega)
  have vb' : vp_in (nI b) 32 := vp_in_nI hb (by omega)
  unfold uR at hu h
  refine pk_lt o 32 (fun e => pk_lt o 32 (fun _ => ?_) (fun z => absurd z (by omega))) (fun e => ⟨va', ?_⟩)
  · rw [if_neg (by omega), if_neg (by omega)] at hu h
    exact xr_178 hk ho hd' hu h
  · rw [nI_clamp (by omega), na_m1]
    refine nm_e (pk_lt o 32 (fun z => absurd z (by omega)) (fun _ => pk_le 64 o (fun e2 => ?_) (fun e2 => ⟨vb', ?_⟩)))
    · rw [if_pos e2] at hu h
      exact xr_178 hk ho hd' hu h
    · rw [if_neg (by omega), if_pos e] at hu h
      rw [nI_clamp (by omega), na_m1]
      exact nm_e (xr_178 hk ho hd' hu h)
theorem uR_f {o a b : Nat} {un : Nat → Int32} : (∀ r, uR o a b un r = un r ∨ uR o a b un r < 0) ∧ (64 ≤ o → uR o a b un a < 0) ∧ (32 ≤ o → o < 64 → uR o a b un a < 0 ∧ uR o a b un b < 0) := by
  unfold uR
  refine ⟨fun r => ?_, fun h => ?_, fun h1 h2 => ?_⟩
  · by_cases h : 64 ≤ o
    · rw [if_pos h]
      by_cases e : r = a
      · subst e; rw [pk_us]; exact Or.inr ng_1
      · rw [pk_un e]; exact Or.inl rfl
    · rw [if_neg h]
      by_cases h2 : 32 ≤ o
      · rw [if_pos h2]
        by_cases e : r = b
        · subst e; rw [pk_us]; exact Or.inr ng_1
        · rw [pk_un e]
          by_cases e2 : r = a
          · subst e2; rw [pk_us]; exact Or.inr ng_1
          · rw [pk_un e2]; exact Or.inl rfl
      · rw [if_neg h2]; exact Or.inl rfl
  · rw [if_pos h, pk_us]; exact ng_1
  · rw [if_neg (by omega), if_pos h1, pk_us]
    refine ⟨?_, ng_1⟩
    by_cases e : a = b
    · rw [e, pk_us]; exact ng_1
    · rw [pk_un e, pk_us]; exact ng_1
theorem x_red0 {post : SX → Prop} {w : Int32} {k : Nat} (h0 : kO w = 0 ∨ kD w = 0) (h : post (pc, nx, md, tm, cp, tr, st, en, vc, p0, sc, ca, va, tb, ih, ic, oc, tn, sl, nI 0, nI (kD w), dA, dB, dI, kn, me, xr, ai, ao, on, pg, oo, od, oa, ob, om, bs, bl, bo, hd, ct, un)) : wpX_reduce post (pc, nx, md, tm, cp, tr, st, en, vc, p0, sc, ca, va, tb, ih, ic, oc, tn, sl, nI (kO w), nI (kD w), dA, dB, dI, kn, me, xr, ai, ao, on, pg, oo, od, oa, ob, om, bs, bl, bo, hd, ct, un) (nI k) := by
  have hD := kD_lt w
  have hr := kO_r w
  refine pk_eq (kD w) 0 (fun e => br_t rfl h) (fun e => ?_)
  have z : kO w = 0 := by omega
  rw [z]
  exact br_t rfl h
theorem x_red {w : Int32} (hc : isC (kO w)) (h0 : kO w ≠ 0) (hd0 : kD w ≠ 0) : ∃ (o : Nat) (c : Int32), o < 128 ∧ (o < 3 ∨ 32 ≤ o) ∧ vOK w kn ct o c ∧
    ∀ (k : Nat) (oo' : Nat → Int32), k < 256 → (uR o (kA w) (kB w) un (kD w) < 0 ∧ oo' = oo ∨ ∃ j, j < 192 ∧ uR o (kA w) (kB w) un (kD w) = nI j ∧ oo' = upd oo j 0) →
      ∀ post : SX → Prop, post (pc, nx, md, tm, cp, tr, st, en, vc, p0, sc, ca, va, tb, ih, ic, oc, tn, sl, nI o, nI (kD w), nI (kA w), nI (kB w), c, kN1 o (kD w) kn, me, xr, ai, ao, on, pg, oo', od, oa, ob, om, bs, bl, bo, hd, upd ct (kD w) c, upd (uR o (kA w) (kB w) un) (kD w) (nI k)) →
        wpX_reduce post (pc, nx, md, tm, cp, tr, st, en, vc, p0, sc, ca, va, tb, ih, ic, oc, tn, sl, nI (kO w), nI (kD w), nI (kA w), nI (kB w), kI w, kn, me, xr, ai, ao, on, pg, oo, od, oa, ob, om, bs, bl, bo, hd, ct, un) (nI k) := by
  have hD := kD_lt w
  have hA := kA_lt w
  have hB' := kB_lt w
  have hr := kO_r w
  have hC := hc
  unfold isC at hC
  -- behind the first rule
  have F : ∀ (o1 : Nat) (c1 : Int32), vOK w kn ct o1 c1 → ∃ (o : Nat) (c : Int32), o < 128 ∧ (o < 3 ∨ 32 ≤ o) ∧ vOK w kn ct o c ∧
      ∀ (k : Nat) (oo' : Nat → Int32), k < 256 → (uR o (kA w) (kB w) un (kD w) < 0 ∧ oo' = oo ∨ ∃ j, j < 192 ∧ uR o (kA w) (kB w) un (kD w) = nI j ∧ oo' = upd oo j 0) →
        ∀ post : SX → Prop, post (pc, nx, md, tm, cp, tr, st, en, vc, p0, sc, ca, va, tb, ih, ic, oc, tn, sl, nI o, nI (kD w), nI (kA w), nI (kB w), c, kN1 o (kD w) kn, me, xr, ai, ao, on, pg, oo', od, oa, ob, om, bs, bl, bo, hd, upd ct (kD w) c, upd (uR o (kA w) (kB w) un) (kD w) (nI k)) →
          wX_reduce_76 post (nI k) pc nx md tm cp tr st en vc p0 sc ca va tb ih ic oc tn sl (nI o1) (nI (kD w)) (nI (kA w)) (nI (kB w)) c1 kn me xr ai ao on pg oo od oa ob om bs bl bo hd ct un := by
    intro o1 c1 hV
    have hV1 := hV.1
    by_cases c : 64 ≤ o1 ∧ ¬ ((kn >>> (nI (kA w) &&& 31)) &&& 1) = 0
    · refine ⟨1, kc_v (o1 - 64) (ct (kA w)) c1, by omega, Or.inl (by omega), vOK_2 hV c.1 (kb_tf hA c.2), fun k oo' hk hu post h => ?_⟩
      refine br_f (nI_nlt (b := 64) c.1 (by omega)) (br_f c.2 ⟨vp_in_nI hA (by omega), ?_⟩)
      rw [nI_clamp (by omega), show nI o1 - 64 = nI (o1 - 64) from pk_sub (b := 64) c.1]
      exact x_calc (o1 - 64) (by omega) _ _ (xr_131 (o := 1) hk (by omega) hD hA hB' hu h)
    · refine ⟨o1, c1, by omega, by omega, hV, fun k oo' hk hu post h => ?_⟩
      refine pk_lt o1 64 (fun e => xr_131 hk (by omega) hD hA hB' hu h) (fun e => br_c (fun _ => xr_131 hk (by omega) hD hA hB' hu h) (fun z => absurd ⟨e, z⟩ c))
  have nd0 : ¬ nI (kD w) = 0 := nI_ne0 (by omega) (by omega)
  have no0 : ¬ nI (kO w) = 0 := nI_ne0 (by omega) (by omega)
  by_cases c : (32 ≤ kO w ∧ kO w < 64) ∧ ¬ ((kn >>> (nI (kB w) &&& 31)) &&& 1) = 0
  · obtain ⟨o, c', h1, h2, h3, h4⟩ := F (kO w + 32) (ct (kB w)) (vOK_1 (vOK_0 hc h0) c.1.1 c.1.2 (kb_tf hB' c.2))
    refine ⟨o, c', h1, h2, h3, fun k oo' hk hu post h => ?_⟩
    refine br_f nd0 (br_f no0 (br_f (nI_nlt (b := 32) c.1.1 (by omega)) (br_f (nI_ge (b := 64) c.1.2 (by omega)) (br_f c.2 (nm_r (show nI (kO w) + 32 = nI (kO w + 32) from nI_add _ 32) ⟨vp_in_nI hB' (by omega), ?_⟩)))))
    rw [nI_clamp (by omega)]
    exact nm_e (h4 k oo' hk hu post h)
  · obtain ⟨o, c', h1, h2, h3, h4⟩ := F (kO w) (kI w) (vOK_0 hc h0)
    refine ⟨o, c', h1, h2, h3, fun k oo' hk hu post h => ?_⟩
    have J := h4 k oo' hk hu post h
    refine br_f nd0 (br_f no0 (pk_lt (kO w) 32 (fun _ => J) (fun e => pk_le 64 (kO w) (fun _ => J) (fun e2 => br_c (fun _ => J) (fun z => absurd ⟨⟨e, e2⟩, z⟩ c)))))
end
end
section
/-! X: translate -/
theorem BK_ar {me oo od oa ob om oo' od' oa' ob' om' : Nat → Int32} {b w n : Nat} (h : ∀ i, i < 8 → oo' (8 * b + i) = oo (8 * b + i) ∧ od' (8 * b + i) = od (8 * b + i) ∧ oa' (8 * b + i) = oa (8 * b + i) ∧ ob' (8 * b + i) = ob (8 * b + i) ∧ om' (8 * b + i) = om (8 * b + i))
    (H : BK me oo od oa ob om b w n) : BK me oo' od' oa' ob' om' b w n := by
  obtain ⟨h8, h16, D, K, C, h1, h2, h3, h4⟩ := H
  refine ⟨h8, h16, D, K, C, h1, h2, h3, fun i hi => ?_⟩
  obtain ⟨q1, q2⟩ := h4 i hi
  refine ⟨q1, ?_⟩
  obtain ⟨e1, e2, e3, e4, e5⟩ := h i (by omega)
  unfold bStep at q2 ⊢
  rw [e1, e2, e3, e4, e5]
  exact q2
/-- while a block is built: blocks as hB, but for the words already counted -/
def hP (S L : Nat → Nat) (bs bl bo hd : Nat → Int32) (w n : Nat) : Prop :=
  (∀ b, b < 24 → bl b = nI (L b) ∧ L b ≤ 8 ∧ (0 < L b → bs b = nI (S b) ∧ S b + L b ≤ 256 ∧ bo (S b) = nI (b + 1))) ∧
  (∀ w, w < 256 → bo w = 0 ∨ ∃ b, b < 24 ∧ bo w = nI (b + 1) ∧ 0 < L b ∧ S b = w) ∧
  (∀ j, j < 256 → hd j = nI (cn S L j 24 + if w ≤ j ∧ j < w + n then 1 else 0))
def tI (b w n : Nat) (kn : Int32) (me ct un oo od oa ob om : Nat → Int32) : Prop :=
  ∃ qo qd qa qb : Nat → Nat, (∀ i, i < n → oo (8 * b + i) = nI (qo i) ∧ od (8 * b + i) = nI (qd i) ∧ oa (8 * b + i) = nI (qa i) ∧ ob (8 * b + i) = nI (qb i)) ∧
    pB me w n kn ct qo qd qa qb (fun i => om (8 * b + i)) ∧ uU me w n b un qo qd qa qb
def tO (w : Nat) (me oo od oa ob om bs bl bo hd ct : Nat → Int32) : Prop := hS me oo od oa ob om bs bl bo hd ∧ ct 0 = 0 ∧ ∃ b, b < 24 ∧ bo w = nI (b + 1)
theorem om_u (om : Nat → Int32) (b n : Nat) (c : Int32) : (fun i => upd om (8 * b + n) c (8 * b + i)) = upd (fun i => om (8 * b + i)) n c := by
  funext i
  by_cases e : i = n
  · subst e
    show upd om (8 * b + i) c (8 * b + i) = _
    rw [pk_us, pk_us]
  · show upd om (8 * b + n) c (8 * b + i) = _
    rw [pk_un (by omega), pk_un e]
theorem goesOn_c {o : Nat} (h : isC o) : goesOn o := by unfold isC at h; unfold goesOn; omega
/-- the finished block -/
theorem tO_end {S L : Nat → Nat} {b w n : Nat} {kn : Int32} {me ct un oo od oa ob om bs bl bo hd : Nat → Int32} (hb : b < 24) (hw : w < 256) (hn0 : 0 < n) (hn : n ≤ 8) (h16 : w % 16 + n ≤ 16) (hL : L b = 0) (hbo : bo w = 0)
    (P : hP S L bs bl bo hd w n) (C : hC S L me oo od oa ob om) (I : tI b w n kn me ct un oo od oa ob om) (hg : ∀ i, i + 1 < n → goesOn (kO (me (w + i)))) (hct : ct 0 = 0) :
    tO w me oo od oa ob om (upd bs b (nI w)) (upd bl b (nI n)) (upd bo w (nI (b + 1))) hd ct := by
  obtain ⟨P1, P2, P3⟩ := P
  refine ⟨⟨uN0 S b w, uN0 L b n, ⟨fun c hc => ?_, fun v hv => ?_, fun j hj => ?_⟩, fun c hc h0 => ?_⟩, hct, b, hb, pk_us⟩
  · by_cases e : c = b
    · subst e
      rw [pk_us, pk_us, uN0_s, uN0_s, pk_us]
      exact ⟨rfl, hn, fun _ => ⟨rfl, by omega, rfl⟩⟩
    · rw [pk_un e, pk_un e, uN0_n e, uN0_n e]
      obtain ⟨a1, a2, a3⟩ := P1 c hc
      refine ⟨a1, a2, fun z => ?_⟩
      obtain ⟨b1, b2, b3⟩ := a3 z
      refine ⟨b1, b2, ?_⟩
      rw [pk_un ?_]
      · exact b3
      · intro q
        rw [q, hbo, ← nI_0, nI_eq (by omega) (by omega)] at b3
        omega
  · by_cases e : v = w
    · subst e; rw [pk_us]; exact Or.inr ⟨b, hb, rfl, by rw [uN0_s]; exact hn0, uN0_s⟩
    · rw [pk_un e]
      rcases P2 v hv with z | ⟨c, c1, c2, c3, c4⟩
      · exact Or.inl z
      · have cb : c ≠ b := fun q => by rw [q] at c3; omega
        exact Or.inr ⟨c, c1, c2, by rw [uN0_n cb]; exact c3, by rw [uN0_n cb]; exact c4⟩
  · rw [P3 j hj]
    have q := cn_upd (S' := uN0 S b w) (L' := uN0 L b n) (L := L) (S := S) (b := b) (fun c hc => uN0_n hc) (fun c hc => uN0_n hc) j 24
    rw [uN0_s, uN0_s, hL, if_neg (show ¬ (b < 24 ∧ S b ≤ j ∧ j < S b + 0) by omega)] at q
    congr 1
    by_cases z : w ≤ j ∧ j < w + n
    · rw [if_pos z]; rw [if_pos ⟨hb, z⟩] at q; omega
    · rw [if_neg z]; rw [if_neg (fun y => z y.2)] at q; omega
  · by_cases e : c = b
    · subst e
      rw [uN0_s, uN0_s]
      obtain ⟨qo, qd, qa, qb, ia, ⟨D, K, C, k0, kn', kk0, kkn, kcn, kst'⟩, _⟩ := I
      refine ⟨hn, h16, D, K, C, k0, kn', kk0, fun i hi => ⟨fun z => hg i z, qo i, qd i, qa i, qb i, (ia i hi).1, (ia i hi).2.1, (ia i hi).2.2.1, (ia i hi).2.2.2, kst' i hi⟩⟩
    · rw [uN0_n e] at h0 ⊢
      rw [uN0_n e]
      exact C c hc h0
section
variable {pc nx md tm cp tr st en vc p0 sc ca va tb ih ic oc tn sl dO dD dA dB dI kn td tc tv ny wh : Int32} {me xr ai ao on pg oo od oa ob om bs bl bo hd ct un wt yo : Nat → Int32}
theorem xt_194 {post : SX → Prop} {w b n : Nat} (hw : w < 256) (hb : b < 24) (hn : n < 128) (h : post (pc, nx, md, tm, cp, tr, st, en, vc, p0, sc, ca, va, tb, ih, ic, oc, tn, sl, dO, dD, dA, dB, dI, kn, me, xr, ai, ao, on, pg, oo, od, oa, ob, om, upd bs b (nI w), upd bl b (nI n), upd bo w (nI (b + 1)), hd, ct, un)) : wX_translate_194 post (nI w) (nI b) (nI n) pc nx md tm cp tr st en vc p0 sc ca va tb ih ic oc tn sl dO dD dA dB dI kn me xr ai ao on pg oo od oa ob om bs bl bo hd ct un := by
  have vb : vp_in (nI b) 24 := vp_in_nI hb (by omega)
  unfold wX_translate_194
  rw [nI_clamp (by omega), nI_clamp (by omega), na_s w hw, na_b n hn, nI_1, na_b (b + 1) (by omega)]
  exact ⟨vb, nm_e ⟨vb, nm_e ⟨vp_in_nI hw (by omega), nm_e h⟩⟩⟩
theorem xt_118 {post : SX → Prop} {J : Int32 → Int32 → Int32 → Int32 → Int32 → Int32 → Int32 → Int32 → Int32 → Int32 → Int32 → Int32 → Int32 → Int32 → Int32 → Int32 → Int32 → Int32 → Int32 → Int32 → Int32 → Int32 → Int32 → Int32 → Int32 → Int32 → (Nat → Int32) → (Nat → Int32) → (Nat → Int32) → (Nat → Int32) → (Nat → Int32) → (Nat → Int32) → (Nat → Int32) → (Nat → Int32) → (Nat → Int32) → (Nat → Int32) → (Nat → Int32) → (Nat → Int32) → (Nat → Int32) → (Nat → Int32) → (Nat → Int32) → (Nat → Int32) → (Nat → Int32) → Prop} {w b n o d a b' h : Nat} (hw : w + n < 256) (hb : b < 24) (hn : n < 8) (ho : o < 128) (hd' : d < 32) (ha : a < 32) (hb' : b' < 32) (hh : hd (w + n) = nI h) (hh2 : h ≤ 24)
    (h1 : goesOn o → n + 1 < 8 → ¬ (w + n + 1) % 16 = 0 → J (nI (n + 1)) pc nx md tm cp tr st en vc p0 sc ca va tb ih ic oc tn sl (nI o) (nI d) (nI a) (nI b') dI kn me xr ai ao on pg (upd oo (8 * b + n) (nI o)) (upd od (8 * b + n) (nI d)) (upd oa (8 * b + n) (nI a)) (upd ob (8 * b + n) (nI b')) (upd om (8 * b + n) dI) bs bl bo (upd hd (w + n) (nI (h + 1))) ct un)
    (h2 : ¬ (goesOn o ∧ n + 1 < 8 ∧ ¬ (w + n + 1) % 16 = 0) → wX_translate_194 post (nI w) (nI b) (nI (n + 1)) pc nx md tm cp tr st en vc p0 sc ca va tb ih ic oc tn sl (nI o) (nI d) (nI a) (nI b') dI kn me xr ai ao on pg (upd oo (8 * b + n) (nI o)) (upd od (8 * b + n) (nI d)) (upd oa (8 * b + n) (nI a)) (upd ob (8 * b + n) (nI b')) (upd om (8 * b + n) dI) bs bl bo (upd hd (w + n) (nI (h + 1))) ct un) :
    wX_translate_118 post J (nI w) (nI b) (nI n) pc nx md tm cp tr st en vc p0 sc ca va tb ih ic oc tn sl (nI o) (nI d) (nI a) (nI b') dI kn me xr ai ao on pg oo od oa ob om bs bl bo hd ct un := by
  have e8 : (8 : Int32) * nI b + nI n = nI (8 * b + n) := by rw [show (8 : Int32) * nI b = nI (8 * b) from pk_mul 8 b, nI_add]
  have vw : vp_in (nI (w + n)) 256 := vp_in_nI hw (by omega)
  have e15 : (nI w + nI (n + 1)) &&& 15 = nI ((w + n + 1) % 16) := by rw [nI_add]; exact pk_andN (n := w + n + 1) (by omega) 4 (by decide)
  have eh : nI h + 1 = nI (h + 1) := nI_1 h
  unfold wX_translate_118
  rw [e8]
  refine x_keep (by omega) ho hd' ha hb' (nm_r (nI_1 n) ?_)
  rw [e15, nI_add, nI_clamp (by omega), hh, eh, na_b (h + 1) (by omega)]
  refine ⟨vw, vw, nm_e ?_⟩
  unfold goesOn at h1 h2
  refine pk_le 8 (n + 1) (fun e => h2 (by omega)) (fun e => ?_)
  refine br_c (fun z => h2 (fun y => y.2.2 ?_)) (fun z => ?_)
  · rw [← nI_0, nI_eq (by omega) (by omega)] at z; exact z
  · have z' : ¬ (w + n + 1) % 16 = 0 := fun y => z (by rw [y]; exact nI_0)
    refine pk_lt o 3 (fun e3 => h1 (Or.inl e3) e z') (fun e3 => pk_lt 24 o (fun e24 => h1 (Or.inr (Or.inl e24)) e z') (fun e24 => pk_le o 10 (fun e10 => h2 (by omega)) (fun e10 => pk_lt o 19 (fun e19 => h1 (by omega) e z') (fun e19 => h2 (by omega)))))
end
end
section
/-! X: translate's loop, and translate -/
theorem hC_ar {S L : Nat → Nat} {b n : Nat} {me oo od oa ob om : Nat → Int32} {x1 x2 x3 x4 x5 : Int32} (hL : L b = 0) (hn : n < 8) (H : hC S L me oo od oa ob om) :
    hC S L me (upd oo (8 * b + n) x1) (upd od (8 * b + n) x2) (upd oa (8 * b + n) x3) (upd ob (8 * b + n) x4) (upd om (8 * b + n) x5) := by
  intro c hc h0
  have e : c ≠ b := fun q => by rw [q] at h0; omega
  refine BK_ar (fun i hi => ?_) (H c hc h0)
  exact ⟨pk_un (by omega), pk_un (by omega), pk_un (by omega), pk_un (by omega), pk_un (by omega)⟩
theorem hC_o {S L : Nat → Nat} {b j : Nat} {me oo od oa ob om : Nat → Int32} {x1 : Int32} (hL : L b = 0) (hn : j < 8) (H : hC S L me oo od oa ob om) : hC S L me (upd oo (8 * b + j) x1) od oa ob om := by
  intro c hc h0
  have e : c ≠ b := fun q => by rw [q] at h0; omega
  refine BK_ar (fun i hi => ?_) (H c hc h0)
  exact ⟨pk_un (by omega), rfl, rfl, rfl, rfl⟩
theorem hP_s {S L : Nat → Nat} {bs bl bo hd : Nat → Int32} {w n : Nat} (P : hP S L bs bl bo hd w n) : hP S L bs bl bo (upd hd (w + n) (nI (cn S L (w + n) 24 + 1))) w (n + 1) := by
  refine ⟨P.1, P.2.1, fun j hj => ?_⟩
  by_cases e : j = w + n
  · subst e; rw [pk_us, if_pos (by omega)]
  · rw [pk_un e, P.2.2 j hj]
    congr 2
    by_cases z : w ≤ j ∧ j < w + n
    · rw [if_pos z, if_pos (by omega)]
    · rw [if_neg z, if_neg (by omega)]
theorem ia_s {b n : Nat} {oo od oa ob : Nat → Int32} {qo qd qa qb : Nat → Nat} {o d a b' : Nat} (h : ∀ i, i < n → oo (8 * b + i) = nI (qo i) ∧ od (8 * b + i) = nI (qd i) ∧ oa (8 * b + i) = nI (qa i) ∧ ob (8 * b + i) = nI (qb i)) :
    ∀ i, i < n + 1 → upd oo (8 * b + n) (nI o) (8 * b + i) = nI (uN0 qo n o i) ∧ upd od (8 * b + n) (nI d) (8 * b + i) = nI (uN0 qd n d i) ∧ upd oa (8 * b + n) (nI a) (8 * b + i) = nI (uN0 qa n a i) ∧ upd ob (8 * b + n) (nI b') (8 * b + i) = nI (uN0 qb n b' i) := by
  intro i hi
  by_cases e : i = n
  · subst e; rw [pk_us, pk_us, pk_us, pk_us, uN0_s, uN0_s, uN0_s, uN0_s]; exact ⟨rfl, rfl, rfl, rfl⟩
  · rw [pk_un (by omega), pk_un (by omega), pk_un (by omega), pk_un (by omega), uN0_n e, uN0_n e, uN0_n e, uN0_n e]
    exact h i (by omega)
section
variable {pc nx md tm cp tr st en vc p0 sc ca va tb ih ic oc tn sl dO dD dA dB dI kn td tc tv ny wh : Int32} {me xr ai ao on pg oo od oa ob om bs bl bo hd ct un wt yo : Nat → Int32}
theorem xt_loop {S L : Nat → Nat} {b w : Nat} (hb : b < 24) (hw : w < 256) (hL : L b = 0) (hbo : bo w = 0) : ∀ (d n : Nat) (dO dD dA dB dI kn : Int32) (oo od oa ob om hd ct un : Nat → Int32), n + (d + 1) = 8 → w % 16 + n < 16 →
    hP S L bs bl bo hd w n → hC S L me oo od oa ob om → tI b w n kn me ct un oo od oa ob om → (∀ i, i < n → goesOn (kO (me (w + i)))) → ct 0 = 0 →
    ∃ (dO' dD' dA' dB' dI' kn' : Int32) (oo' od' oa' ob' om' bs' bl' bo' hd' ct' un' : Nat → Int32), tO w me oo' od' oa' ob' om' bs' bl' bo' hd' ct' ∧
      ∀ post : SX → Prop, post (pc, nx, md, tm, cp, tr, st, en, vc, p0, sc, ca, va, tb, ih, ic, oc, tn, sl, dO', dD', dA', dB', dI', kn', me, xr, ai, ao, on, pg, oo', od', oa', ob', om', bs', bl', bo', hd', ct', un') → wX_translate_53 post (nI w) (nI b) (d + 1) (nI n) pc nx md tm cp tr st en vc p0 sc ca va tb ih ic oc tn sl dO dD dA dB dI kn me xr ai ao on pg oo od oa ob om bs bl bo hd ct un := by
  intro d
  induction d with
  | zero =>
    intro n dO dD dA dB dI kn oo od oa ob om hd ct un hn h16 P C I hg hct
    have hwn : w + n < 256 := by omega
    have vw : vp_in (nI (w + n)) 256 := vp_in_nI hwn (by omega)
    have hcn := cn_le S L (w + n) 24
    have hh : hd (w + n) = nI (cn S L (w + n) 24) := by
      rw [P.2.2 _ hwn, if_neg (by omega)]; rfl
    -- behind the operation
    have TAIL : ∀ (o d2 a b' : Nat) (dI kn : Int32) (oo ct un : Nat → Int32), o < 128 → d2 < 32 → a < 32 → b' < 32 → (goesOn o → goesOn (kO (me (w + n)))) → hC S L me oo od oa ob om →
        tI b w (n + 1) kn me ct un (upd oo (8 * b + n) (nI o)) (upd od (8 * b + n) (nI d2)) (upd oa (8 * b + n) (nI a)) (upd ob (8 * b + n) (nI b')) (upd om (8 * b + n) dI) → ct 0 = 0 →
        ∃ (dO' dD' dA' dB' dI' kn' : Int32) (oo' od' oa' ob' om' bs' bl' bo' hd' ct' un' : Nat → Int32), tO w me oo' od' oa' ob' om' bs' bl' bo' hd' ct' ∧
          ∀ post : SX → Prop, post (pc, nx, md, tm, cp, tr, st, en, vc, p0, sc, ca, va, tb, ih, ic, oc, tn, sl, dO', dD', dA', dB', dI', kn', me, xr, ai, ao, on, pg, oo', od', oa', ob', om', bs', bl', bo', hd', ct', un') → wX_translate_118 post (wX_translate_53 post (nI w) (nI b) 0) (nI w) (nI b) (nI n) pc nx md tm cp tr st en vc p0 sc ca va tb ih ic oc tn sl (nI o) (nI d2) (nI a) (nI b') dI kn me xr ai ao on pg oo od oa ob om bs bl bo hd ct un := by
      intro o d2 a b' dI kn oo ct un h1 h2 h3 h4 hgo C1 I1 hct1
      have C2 := hC_ar (x1 := nI o) (x2 := nI d2) (x3 := nI a) (x4 := nI b') (x5 := dI) hL (show n < 8 by omega) C1
      by_cases c : goesOn o ∧ n + 1 < 8 ∧ ¬ (w + n + 1) % 16 = 0
      · exact absurd c.2.1 (by omega)
      · refine ⟨nI o, nI d2, nI a, nI b', dI, kn, upd oo (8 * b + n) (nI o), upd od (8 * b + n) (nI d2), upd oa (8 * b + n) (nI a), upd ob (8 * b + n) (nI b'), upd om (8 * b + n) dI, upd bs b (nI w), upd bl b (nI (n + 1)), upd bo w (nI (b + 1)), upd hd (w + n) (nI (cn S L (w + n) 24 + 1)), ct, un, tO_end hb hw (by omega) (by omega) (by omega) hL hbo (hP_s P) C2 I1 (fun i hi => hg i (by omega)) hct1, fun post h => ?_⟩
        exact xt_118 hwn hb (by omega) h1 h2 h3 h4 hh hcn (fun a1 a2 a3 => absurd ⟨a1, a2, a3⟩ c) (fun _ => xt_194 hw hb (by omega) h)
    obtain ⟨qo, qd, qa, qb, ia, PB, UU⟩ := I
    have hr := kO_r (me (w + n))
    have hD := kD_lt (me (w + n))
    have hA := kA_lt (me (w + n))
    have hBl := kB_lt (me (w + n))
    have e8 : (8 : Int32) * nI b + nI n = nI (8 * b + n) := by rw [show (8 : Int32) * nI b = nI (8 * b) from pk_mul 8 b, nI_add]
    by_cases hc : isC (kO (me (w + n)))
    · have hC' := hc
      unfold isC at hC'
      by_cases h0 : kO (me (w + n)) = 0 ∨ kD (me (w + n)) = 0
      · have PB1 := pB_0 (c := kI (me (w + n))) PB hc h0
        rw [← om_u] at PB1
        obtain ⟨dO', dD', dA', dB', dI', kn', oo', od', oa', ob', om', bs', bl', bo', hd', ct', un', k1, k2⟩ := TAIL 0 (kD (me (w + n))) (kA (me (w + n))) (kB (me (w + n))) (kI (me (w + n))) kn oo ct un (by omega) hD hA hBl (fun _ => goesOn_c hc) C ⟨_, _, _, _, ia_s ia, PB1, fun r hr => by
          rcases UU r hr with y | ⟨j, y1, y2, y3, y4, y5, y6⟩
          · exact Or.inl y
          · refine Or.inr ⟨j, y1, y2, by omega, fun i h1 h2 => ?_, ?_, fun i h1 h2 => ?_⟩
            · by_cases q : i = n
              · subst q; exact hc
              · exact y4 i h1 (by omega)
            · rw [uN0_n (by omega)]; exact y5
            · by_cases q : i = n
              · subst q; rw [uN0_s]; exact ⟨fun g => absurd g (by omega), fun g => absurd g (by omega)⟩
              · rw [uN0_n q, uN0_n q, uN0_n q]; exact y6 i h1 (by omega)⟩ hct
        refine ⟨dO', dD', dA', dB', dI', kn', oo', od', oa', ob', om', bs', bl', bo', hd', ct', un', k1, fun post h => ?_⟩
        have K : wX_translate_82 post (wX_translate_53 post (nI w) (nI b) 0) (nI w) (nI b) (nI n) pc nx md tm cp tr st en vc p0 sc ca va tb ih ic oc tn sl (nI (kO (me (w + n)))) (nI (kD (me (w + n)))) (nI (kA (me (w + n)))) (nI (kB (me (w + n)))) (kI (me (w + n))) kn me xr ai ao on pg oo od oa ob om bs bl bo hd ct un := by
          unfold wX_translate_82
          rw [e8]
          exact x_red0 h0 (k2 post h)
        unfold wX_translate_53
        rw [nI_add, nI_clamp (by omega)]
        refine ⟨vw, x_decode _ (pk_lt (kO (me (w + n))) 3 (fun _ => K) (fun _ => pk_le (kO (me (w + n))) 24 (fun z => absurd z (by omega)) (fun _ => K)))⟩
      · obtain ⟨o, c, r1, r2, r3, r4⟩ := x_red (pc := pc) (nx := nx) (md := md) (tm := tm) (cp := cp) (tr := tr) (st := st) (en := en) (vc := vc) (p0 := p0) (sc := sc) (ca := ca) (va := va) (tb := tb) (ih := ih) (ic := ic) (oc := oc) (tn := tn) (sl := sl) (kn := kn) (me := me) (xr := xr) (ai := ai) (ao := ao) (on := on) (pg := pg) (oo := oo) (od := od) (oa := oa) (ob := ob) (om := om) (bs := bs) (bl := bl) (bo := bo) (hd := hd) (ct := ct) (un := un) (w := me (w + n)) hc (fun z => h0 (Or.inl z)) (fun z => h0 (Or.inr z))
        obtain ⟨u1, u2, u3⟩ := uR_f (o := o) (a := kA (me (w + n))) (b := kB (me (w + n))) (un := un)
        obtain ⟨qo', q1, PB1, UU1⟩ := pB_c (un2 := uR o (kA (me (w + n))) (kB (me (w + n))) un) (kn1 := kN1 o (kD (me (w + n))) kn) PB UU hc (fun z => h0 (Or.inr z)) (fun z => h0 (Or.inl z)) r3 (kN1_k hD kn) u1 u2 u3
        rw [← om_u] at PB1
        obtain ⟨oo1, hoo, hoo2, hoo3⟩ : ∃ oo1 : Nat → Int32, (uR o (kA (me (w + n))) (kB (me (w + n))) un (kD (me (w + n))) < 0 ∧ oo1 = oo ∨ ∃ j, j < 192 ∧ uR o (kA (me (w + n))) (kB (me (w + n))) un (kD (me (w + n))) = nI j ∧ oo1 = upd oo j 0) ∧
            (∀ i, i < n → oo1 (8 * b + i) = nI (qo' i)) ∧ hC S L me oo1 od oa ob om := by
          rcases q1 with ⟨z1, z2⟩ | ⟨j, z1, z2, z3⟩
          · subst z2
            exact ⟨oo, Or.inl ⟨z1, rfl⟩, fun i hi => (ia i hi).1, C⟩
          · subst z3
            refine ⟨upd oo (8 * b + j) 0, Or.inr ⟨8 * b + j, by omega, z2, rfl⟩, fun i hi => ?_, hC_o hL (by omega) C⟩
            by_cases e : i = j
            · subst e; rw [pk_us, uN0_s]; exact nI_0.symm
            · rw [pk_un (by omega), uN0_n e]; exact (ia i hi).1
        obtain ⟨dO', dD', dA', dB', dI', kn', oo', od', oa', ob', om', bs', bl', bo', hd', ct', un', k1, k2⟩ := TAIL o (kD (me (w + n))) (kA (me (w + n))) (kB (me (w + n))) c (kN1 o (kD (me (w + n))) kn) oo1 (upd ct (kD (me (w + n))) c) (upd (uR o (kA (me (w + n))) (kB (me (w + n))) un) (kD (me (w + n))) (nI (8 * b + n))) r1 hD hA hBl (fun _ => goesOn_c hc) hoo3 ⟨_, _, _, _, ia_s (fun i hi => ⟨hoo2 i hi, (ia i hi).2⟩), PB1, UU1⟩ (by rw [pk_un (fun z => h0 (Or.inr z.symm))]; exact hct)
        refine ⟨dO', dD', dA', dB', dI', kn', oo', od', oa', ob', om', bs', bl', bo', hd', ct', un', k1, fun post h => ?_⟩
        have K : wX_translate_82 post (wX_translate_53 post (nI w) (nI b) 0) (nI w) (nI b) (nI n) pc nx md tm cp tr st en vc p0 sc ca va tb ih ic oc tn sl (nI (kO (me (w + n)))) (nI (kD (me (w + n)))) (nI (kA (me (w + n)))) (nI (kB (me (w + n)))) (kI (me (w + n))) kn me xr ai ao on pg oo od oa ob om bs bl bo hd ct un := by
          unfold wX_translate_82
          rw [e8]
          exact r4 (8 * b + n) oo1 (by omega) hoo _ (k2 post h)
        unfold wX_translate_53
        rw [nI_add, nI_clamp (by omega)]
        refine ⟨vw, x_decode _ (pk_lt (kO (me (w + n))) 3 (fun _ => K) (fun _ => pk_le (kO (me (w + n))) 24 (fun z => absurd z (by omega)) (fun _ => K)))⟩
    · have ho : 3 ≤ kO (me (w + n)) ∧ kO (me (w + n)) ≤ 24 := by unfold isC at hc; omega
      obtain ⟨un1, f1, f2⟩ := x_fu (pc := pc) (nx := nx) (md := md) (tm := tm) (cp := cp) (tr := tr) (st := st) (en := en) (vc := vc) (p0 := p0) (sc := sc) (ca := ca) (va := va) (tb := tb) (ih := ih) (ic := ic) (oc := oc) (tn := tn) (sl := sl) (dO := nI (kO (me (w + n)))) (dD := nI (kD (me (w + n)))) (dA := nI (kA (me (w + n)))) (dB := nI (kB (me (w + n)))) (dI := kI (me (w + n))) (kn := kn) (me := me) (xr := xr) (ai := ai) (ao := ao) (on := on) (pg := pg) (oo := oo) (od := od) (oa := oa) (ob := ob) (om := om) (bs := bs) (bl := bl) (bo := bo) (hd := hd) (ct := ct) (un := un)
      have PB1 := pB_nc (kn1 := kn &&& ((((1 : Int32) <<< (nI (kD (me (w + n))) &&& 31)) ^^^ (-1)) ||| 1)) PB hc hct (kN2_k hD kn)
      rw [← om_u] at PB1
      obtain ⟨dO', dD', dA', dB', dI', kn', oo', od', oa', ob', om', bs', bl', bo', hd', ct', un', k1, k2⟩ := TAIL (kO (me (w + n))) (kD (me (w + n))) (kA (me (w + n))) (kB (me (w + n))) (kI (me (w + n))) (kn &&& ((((1 : Int32) <<< (nI (kD (me (w + n))) &&& 31)) ^^^ (-1)) ||| 1)) oo ct un1 (by omega) hD hA hBl id C ⟨_, _, _, _, ia_s ia, PB1, fun r hr => Or.inl (f1 r hr)⟩ hct
      refine ⟨dO', dD', dA', dB', dI', kn', oo', od', oa', ob', om', bs', bl', bo', hd', ct', un', k1, fun post h => ?_⟩
      unfold wX_translate_53
      rw [nI_add, nI_clamp (by omega)]
      exact ⟨vw, x_decode _ (pk_lt (kO (me (w + n))) 3 (fun z => absurd z (by omega)) (fun _ => pk_le (kO (me (w + n))) 24 (fun _ => f2 _ (nm_e (k2 post h))) (fun z => absurd z (by omega))))⟩
  | succ d IH =>
    intro n dO dD dA dB dI kn oo od oa ob om hd ct un hn h16 P C I hg hct
    have hwn : w + n < 256 := by omega
    have vw : vp_in (nI (w + n)) 256 := vp_in_nI hwn (by omega)
    have hcn := cn_le S L (w + n) 24
    have hh : hd (w + n) = nI (cn S L (w + n) 24) := by
      rw [P.2.2 _ hwn, if_neg (by omega)]; rfl
    -- behind the operation
    have TAIL : ∀ (o d2 a b' : Nat) (dI kn : Int32) (oo ct un : Nat → Int32), o < 128 → d2 < 32 → a < 32 → b' < 32 → (goesOn o → goesOn (kO (me (w + n)))) → hC S L me oo od oa ob om →
        tI b w (n + 1) kn me ct un (upd oo (8 * b + n) (nI o)) (upd od (8 * b + n) (nI d2)) (upd oa (8 * b + n) (nI a)) (upd ob (8 * b + n) (nI b')) (upd om (8 * b + n) dI) → ct 0 = 0 →
        ∃ (dO' dD' dA' dB' dI' kn' : Int32) (oo' od' oa' ob' om' bs' bl' bo' hd' ct' un' : Nat → Int32), tO w me oo' od' oa' ob' om' bs' bl' bo' hd' ct' ∧
          ∀ post : SX → Prop, post (pc, nx, md, tm, cp, tr, st, en, vc, p0, sc, ca, va, tb, ih, ic, oc, tn, sl, dO', dD', dA', dB', dI', kn', me, xr, ai, ao, on, pg, oo', od', oa', ob', om', bs', bl', bo', hd', ct', un') → wX_translate_118 post (wX_translate_53 post (nI w) (nI b) (d + 1)) (nI w) (nI b) (nI n) pc nx md tm cp tr st en vc p0 sc ca va tb ih ic oc tn sl (nI o) (nI d2) (nI a) (nI b') dI kn me xr ai ao on pg oo od oa ob om bs bl bo hd ct un := by
      intro o d2 a b' dI kn oo ct un h1 h2 h3 h4 hgo C1 I1 hct1
      have C2 := hC_ar (x1 := nI o) (x2 := nI d2) (x3 := nI a) (x4 := nI b') (x5 := dI) hL (show n < 8 by omega) C1
      by_cases c : goesOn o ∧ n + 1 < 8 ∧ ¬ (w + n + 1) % 16 = 0
      · obtain ⟨dO', dD', dA', dB', dI', kn', oo', od', oa', ob', om', bs', bl', bo', hd', ct', un', k1, k2⟩ := IH (n + 1) (nI o) (nI d2) (nI a) (nI b') dI kn _ _ _ _ _ _ ct un (by omega) (by omega) (hP_s P) C2 I1 (fun i hi => by
          by_cases e : i = n
          · subst e; exact hgo c.1
          · exact hg i (by omega)) hct1
        refine ⟨dO', dD', dA', dB', dI', kn', oo', od', oa', ob', om', bs', bl', bo', hd', ct', un', k1, fun post h => ?_⟩
        exact xt_118 hwn hb (by omega) h1 h2 h3 h4 hh hcn (fun _ _ _ => k2 post h) (fun z => absurd c z)
      · refine ⟨nI o, nI d2, nI a, nI b', dI, kn, upd oo (8 * b + n) (nI o), upd od (8 * b + n) (nI d2), upd oa (8 * b + n) (nI a), upd ob (8 * b + n) (nI b'), upd om (8 * b + n) dI, upd bs b (nI w), upd bl b (nI (n + 1)), upd bo w (nI (b + 1)), upd hd (w + n) (nI (cn S L (w + n) 24 + 1)), ct, un, tO_end hb hw (by omega) (by omega) (by omega) hL hbo (hP_s P) C2 I1 (fun i hi => hg i (by omega)) hct1, fun post h => ?_⟩
        exact xt_118 hwn hb (by omega) h1 h2 h3 h4 hh hcn (fun a1 a2 a3 => absurd ⟨a1, a2, a3⟩ c) (fun _ => xt_194 hw hb (by omega) h)
    obtain ⟨qo, qd, qa, qb, ia, PB, UU⟩ := I
    have hr := kO_r (me (w + n))
    have hD := kD_lt (me (w + n))
    have hA := kA_lt (me (w + n))
    have hBl := kB_lt (me (w + n))
    have e8 : (8 : Int32) * nI b + nI n = nI (8 * b + n) := by rw [show (8 : Int32) * nI b = nI (8 * b) from pk_mul 8 b, nI_add]
    by_cases hc : isC (kO (me (w + n)))
    · have hC' := hc
      unfold isC at hC'
      by_cases h0 : kO (me (w + n)) = 0 ∨ kD (me (w + n)) = 0
      · have PB1 := pB_0 (c := kI (me (w + n))) PB hc h0
        rw [← om_u] at PB1
        obtain ⟨dO', dD', dA', dB', dI', kn', oo', od', oa', ob', om', bs', bl', bo', hd', ct', un', k1, k2⟩ := TAIL 0 (kD (me (w + n))) (kA (me (w + n))) (kB (me (w + n))) (kI (me (w + n))) kn oo ct un (by omega) hD hA hBl (fun _ => goesOn_c hc) C ⟨_, _, _, _, ia_s ia, PB1, fun r hr => by
          rcases UU r hr with y | ⟨j, y1, y2, y3, y4, y5, y6⟩
          · exact Or.inl y
          · refine Or.inr ⟨j, y1, y2, by omega, fun i h1 h2 => ?_, ?_, fun i h1 h2 => ?_⟩
            · by_cases q : i = n
              · subst q; exact hc
              · exact y4 i h1 (by omega)
            · rw [uN0_n (by omega)]; exact y5
            · by_cases q : i = n
              · subst q; rw [uN0_s]; exact ⟨fun g => absurd g (by omega), fun g => absurd g (by omega)⟩
              · rw [uN0_n q, uN0_n q, uN0_n q]; exact y6 i h1 (by omega)⟩ hct
        refine ⟨dO', dD', dA', dB', dI', kn', oo', od', oa', ob', om', bs', bl', bo', hd', ct', un', k1, fun post h => ?_⟩
        have K : wX_translate_82 post (wX_translate_53 post (nI w) (nI b) (d + 1)) (nI w) (nI b) (nI n) pc nx md tm cp tr st en vc p0 sc ca va tb ih ic oc tn sl (nI (kO (me (w + n)))) (nI (kD (me (w + n)))) (nI (kA (me (w + n)))) (nI (kB (me (w + n)))) (kI (me (w + n))) kn me xr ai ao on pg oo od oa ob om bs bl bo hd ct un := by
          unfold wX_translate_82
          rw [e8]
          exact x_red0 h0 (k2 post h)
        unfold wX_translate_53
        rw [nI_add, nI_clamp (by omega)]
        refine ⟨vw, x_decode _ (pk_lt (kO (me (w + n))) 3 (fun _ => K) (fun _ => pk_le (kO (me (w + n))) 24 (fun z => absurd z (by omega)) (fun _ => K)))⟩
      · obtain ⟨o, c, r1, r2, r3, r4⟩ := x_red (pc := pc) (nx := nx) (md := md) (tm := tm) (cp := cp) (tr := tr) (st := st) (en := en) (vc := vc) (p0 := p0) (sc := sc) (ca := ca) (va := va) (tb := tb) (ih := ih) (ic := ic) (oc := oc) (tn := tn) (sl := sl) (kn := kn) (me := me) (xr := xr) (ai := ai) (ao := ao) (on := on) (pg := pg) (oo := oo) (od := od) (oa := oa) (ob := ob) (om := om) (bs := bs) (bl := bl) (bo := bo) (hd := hd) (ct := ct) (un := un) (w := me (w + n)) hc (fun z => h0 (Or.inl z)) (fun z => h0 (Or.inr z))
        obtain ⟨u1, u2, u3⟩ := uR_f (o := o) (a := kA (me (w + n))) (b := kB (me (w + n))) (un := un)
        obtain ⟨qo', q1, PB1, UU1⟩ := pB_c (un2 := uR o (kA (me (w + n))) (kB (me (w + n))) un) (kn1 := kN1 o (kD (me (w + n))) kn) PB UU hc (fun z => h0 (Or.inr z)) (fun z => h0 (Or.inl z)) r3 (kN1_k hD kn) u1 u2 u3
        rw [← om_u] at PB1
        obtain ⟨oo1, hoo, hoo2, hoo3⟩ : ∃ oo1 : Nat → Int32, (uR o (kA (me (w + n))) (kB (me (w + n))) un (kD (me (w + n))) < 0 ∧ oo1 = oo ∨ ∃ j, j < 192 ∧ uR o (kA (me (w + n))) (kB (me (w + n))) un (kD (me (w + n))) = nI j ∧ oo1 = upd oo j 0) ∧
            (∀ i, i < n → oo1 (8 * b + i) = nI (qo' i)) ∧ hC S L me oo1 od oa ob om := by
          rcases q1 with ⟨z1, z2⟩ | ⟨j, z1, z2, z3⟩
          · subst z2
            exact ⟨oo, Or.inl ⟨z1, rfl⟩, fun i hi => (ia i hi).1, C⟩
          · subst z3
            refine ⟨upd oo (8 * b + j) 0, Or.inr ⟨8 * b + j, by omega, z2, rfl⟩, fun i hi => ?_, hC_o hL (by omega) C⟩
            by_cases e : i = j
            · subst e; rw [pk_us, uN0_s]; exact nI_0.symm
            · rw [pk_un (by omega), uN0_n e]; exact (ia i hi).1
        obtain ⟨dO', dD', dA', dB', dI', kn', oo', od', oa', ob', om', bs', bl', bo', hd', ct', un', k1, k2⟩ := TAIL o (kD (me (w + n))) (kA (me (w + n))) (kB (me (w + n))) c (kN1 o (kD (me (w + n))) kn) oo1 (upd ct (kD (me (w + n))) c) (upd (uR o (kA (me (w + n))) (kB (me (w + n))) un) (kD (me (w + n))) (nI (8 * b + n))) r1 hD hA hBl (fun _ => goesOn_c hc) hoo3 ⟨_, _, _, _, ia_s (fun i hi => ⟨hoo2 i hi, (ia i hi).2⟩), PB1, UU1⟩ (by rw [pk_un (fun z => h0 (Or.inr z.symm))]; exact hct)
        refine ⟨dO', dD', dA', dB', dI', kn', oo', od', oa', ob', om', bs', bl', bo', hd', ct', un', k1, fun post h => ?_⟩
        have K : wX_translate_82 post (wX_translate_53 post (nI w) (nI b) (d + 1)) (nI w) (nI b) (nI n) pc nx md tm cp tr st en vc p0 sc ca va tb ih ic oc tn sl (nI (kO (me (w + n)))) (nI (kD (me (w + n)))) (nI (kA (me (w + n)))) (nI (kB (me (w + n)))) (kI (me (w + n))) kn me xr ai ao on pg oo od oa ob om bs bl bo hd ct un := by
          unfold wX_translate_82
          rw [e8]
          exact r4 (8 * b + n) oo1 (by omega) hoo _ (k2 post h)
        unfold wX_translate_53
        rw [nI_add, nI_clamp (by omega)]
        refine ⟨vw, x_decode _ (pk_lt (kO (me (w + n))) 3 (fun _ => K) (fun _ => pk_le (kO (me (w + n))) 24 (fun z => absurd z (by omega)) (fun _ => K)))⟩
    · have ho : 3 ≤ kO (me (w + n)) ∧ kO (me (w + n)) ≤ 24 := by unfold isC at hc; omega
      obtain ⟨un1, f1, f2⟩ := x_fu (pc := pc) (nx := nx) (md := md) (tm := tm) (cp := cp) (tr := tr) (st := st) (en := en) (vc := vc) (p0 := p0) (sc := sc) (ca := ca) (va := va) (tb := tb) (ih := ih) (ic := ic) (oc := oc) (tn := tn) (sl := sl) (dO := nI (kO (me (w + n)))) (dD := nI (kD (me (w + n)))) (dA := nI (kA (me (w + n)))) (dB := nI (kB (me (w + n)))) (dI := kI (me (w + n))) (kn := kn) (me := me) (xr := xr) (ai := ai) (ao := ao) (on := on) (pg := pg) (oo := oo) (od := od) (oa := oa) (ob := ob) (om := om) (bs := bs) (bl := bl) (bo := bo) (hd := hd) (ct := ct) (un := un)
      have PB1 := pB_nc (kn1 := kn &&& ((((1 : Int32) <<< (nI (kD (me (w + n))) &&& 31)) ^^^ (-1)) ||| 1)) PB hc hct (kN2_k hD kn)
      rw [← om_u] at PB1
      obtain ⟨dO', dD', dA', dB', dI', kn', oo', od', oa', ob', om', bs', bl', bo', hd', ct', un', k1, k2⟩ := TAIL (kO (me (w + n))) (kD (me (w + n))) (kA (me (w + n))) (kB (me (w + n))) (kI (me (w + n))) (kn &&& ((((1 : Int32) <<< (nI (kD (me (w + n))) &&& 31)) ^^^ (-1)) ||| 1)) oo ct un1 (by omega) hD hA hBl id C ⟨_, _, _, _, ia_s ia, PB1, fun r hr => Or.inl (f1 r hr)⟩ hct
      refine ⟨dO', dD', dA', dB', dI', kn', oo', od', oa', ob', om', bs', bl', bo', hd', ct', un', k1, fun post h => ?_⟩
      unfold wX_translate_53
      rw [nI_add, nI_clamp (by omega)]
      exact ⟨vw, x_decode _ (pk_lt (kO (me (w + n))) 3 (fun z => absurd z (by omega)) (fun _ => pk_le (kO (me (w + n))) 24 (fun _ => f2 _ (nm_e (k2 post h))) (fun z => absurd z (by omega))))⟩
theorem x_translate {S L : Nat → Nat} (H : hB S L bs bl bo hd) (HC : hC S L me oo od oa ob om) {w : Nat} (hw : w < 256) (hbo : bo w = 0) (ht : ∃ b, b < 24 ∧ tn = nI b) (hct : ct 0 = 0) :
    ∃ (tn' dO' dD' dA' dB' dI' kn' : Int32) (oo' od' oa' ob' om' bs' bl' bo' hd' ct' un' : Nat → Int32), tO w me oo' od' oa' ob' om' bs' bl' bo' hd' ct' ∧ (∃ b, b < 24 ∧ tn' = nI b) ∧
      ∀ post : SX → Prop, post (pc, nx, md, tm, cp, tr, st, en, vc, p0, sc, ca, va, tb, ih, ic, oc, tn', sl, dO', dD', dA', dB', dI', kn', me, xr, ai, ao, on, pg, oo', od', oa', ob', om', bs', bl', bo', hd', ct', un') → wpX_translate post (pc, nx, md, tm, cp, tr, st, en, vc, p0, sc, ca, va, tb, ih, ic, oc, tn, sl, dO, dD, dA, dB, dI, kn, me, xr, ai, ao, on, pg, oo, od, oa, ob, om, bs, bl, bo, hd, ct, un) (nI w) := by
  obtain ⟨b, hb, rfl⟩ := ht
  have vb : vp_in (nI b) 24 := vp_in_nI hb (by omega)
  have cb : (nI b).toNatClampNeg = b := nI_clamp (by omega)
  -- the next turn
  obtain ⟨tn', ht1, ht2⟩ : ∃ tn' : Int32, (∃ c, c < 24 ∧ tn' = nI c) ∧ ∀ post : SX → Prop, wX_translate_25 post (nI w) (nI b) tn' pc nx md tm cp tr st en vc p0 sc ca va tb ih ic oc (nI b) sl dO dD dA dB dI kn me xr ai ao on pg oo od oa ob om bs bl bo hd ct un → wpX_translate post (pc, nx, md, tm, cp, tr, st, en, vc, p0, sc, ca, va, tb, ih, ic, oc, nI b, sl, dO, dD, dA, dB, dI, kn, me, xr, ai, ao, on, pg, oo, od, oa, ob, om, bs, bl, bo, hd, ct, un) (nI w) := by
    by_cases e : b = 23
    · subst e
      exact ⟨0, ⟨0, by omega, nI_0.symm⟩, fun post h => br_t rfl h⟩
    · refine ⟨nI (b + 1), ⟨b + 1, by omega, rfl⟩, fun post h => pk_eq b 23 (fun z => absurd z e) (fun _ => ?_)⟩
      rw [nI_1]
      exact h
  -- a free block
  obtain ⟨L1, bl1, bo1, hd1, H1, HC1, hL1, hbo1, r1⟩ : ∃ (L1 : Nat → Nat) (bl1 bo1 hd1 : Nat → Int32), hB S L1 bs bl1 bo1 hd1 ∧ hC S L1 me oo od oa ob om ∧ L1 b = 0 ∧ bo1 w = 0 ∧
      ∀ post : SX → Prop, wX_translate_42 post (nI w) (nI b) pc nx md tm cp tr st en vc p0 sc ca va tb ih ic oc tn' sl dO dD dA dB dI kn me xr ai ao on pg oo od oa ob om bs bl1 bo1 hd1 ct un → wX_translate_25 post (nI w) (nI b) tn' pc nx md tm cp tr st en vc p0 sc ca va tb ih ic oc (nI b) sl dO dD dA dB dI kn me xr ai ao on pg oo od oa ob om bs bl bo hd ct un := by
    obtain ⟨k1, k2, k3⟩ := H.1 b hb
    by_cases h0 : 0 < L b
    · obtain ⟨bl1, bo1, hd1, H1, r1⟩ := x_remove (pc := pc) (nx := nx) (md := md) (tm := tm) (cp := cp) (tr := tr) (st := st) (en := en) (vc := vc) (p0 := p0) (sc := sc) (ca := ca) (va := va) (tb := tb) (ih := ih) (ic := ic) (oc := oc) (tn := tn') (sl := sl) (dO := dO) (dD := dD) (dA := dA) (dB := dB) (dI := dI) (kn := kn) (me := me) (xr := xr) (ai := ai) (ao := ao) (on := on) (pg := pg) (oo := oo) (od := od) (oa := oa) (ob := ob) (om := om) (ct := ct) (un := un) H hb h0
      refine ⟨uN0 L b 0, bl1, bo1, hd1, H1, hC_me HC (fun c hc => ?_), uN0_s, ?_, fun post h => ?_⟩
      · by_cases e : c = b
        · subst e; exact Or.inr uN0_s
        · exact Or.inl ⟨uN0_n e, fun _ _ => rfl⟩
      · rcases H1.2.1 w hw with z | ⟨c, c1, c2, c3, c4⟩
        · exact z
        · exfalso
          have e : c ≠ b := fun q => by rw [q, uN0_s] at c3; omega
          rw [uN0_n e] at c3
          have q := ((H.1 c c1).2.2 c3).2.2
          rw [c4, hbo, ← nI_0, nI_eq (by omega) (by omega)] at q
          omega
      · unfold wX_translate_25
        rw [cb, k1]
        exact ⟨vb, br_f (nI_nle h0 (by omega)) (r1 _ h)⟩
    · have z : L b = 0 := by omega
      refine ⟨L, bl, bo, hd, H, HC, z, hbo, fun post h => ?_⟩
      unfold wX_translate_25
      rw [cb, k1, z]
      exact ⟨vb, br_t (by decide) h⟩
  obtain ⟨un1, f1, f2⟩ := x_fu (pc := pc) (nx := nx) (md := md) (tm := tm) (cp := cp) (tr := tr) (st := st) (en := en) (vc := vc) (p0 := p0) (sc := sc) (ca := ca) (va := va) (tb := tb) (ih := ih) (ic := ic) (oc := oc) (tn := tn') (sl := sl) (dO := dO) (dD := dD) (dA := dA) (dB := dB) (dI := dI) (kn := 1) (me := me) (xr := xr) (ai := ai) (ao := ao) (on := on) (pg := pg) (oo := oo) (od := od) (oa := oa) (ob := ob) (om := om) (bs := bs) (bl := bl1) (bo := bo1) (hd := hd1) (ct := ct) (un := un)
  have I0 : tI b w 0 1 me ct un1 oo od oa ob om := by
    refine ⟨fun _ => 0, fun _ => 0, fun _ => 0, fun _ => 0, fun i hi => absurd hi (by omega), ⟨fun _ _ => False, fun _ => knp 1, fun _ => ct, fun _ z => z, fun _ z => z, fun r hr => ?_, fun _ => Iff.rfl, rfl, fun i hi => absurd hi (by omega)⟩, fun r hr => Or.inl (f1 r hr)⟩
    have q : ∀ j, j < 32 → bt 1 j = true → j = 0 := by decide +kernel
    have e := q r hr.1 hr.2
    subst e
    exact ⟨rfl, hct⟩
  obtain ⟨dO', dD', dA', dB', dI', kn', oo', od', oa', ob', om', bs', bl', bo', hd', ct', un', k1, k2⟩ := xt_loop (pc := pc) (nx := nx) (md := md) (tm := tm) (cp := cp) (tr := tr) (st := st) (en := en) (vc := vc) (p0 := p0) (sc := sc) (ca := ca) (va := va) (tb := tb) (ih := ih) (ic := ic) (oc := oc) (tn := tn') (sl := sl) (me := me) (xr := xr) (ai := ai) (ao := ao) (on := on) (pg := pg) (bs := bs) (bl := bl1) (bo := bo1) hb hw hL1 hbo1 7 0 dO dD dA dB dI 1 oo od oa ob om hd1 ct un1 rfl (by omega) ⟨H1.1, H1.2.1, fun j hj => by rw [if_neg (by omega)]; exact H1.2.2 j hj⟩ HC1 I0 (fun i hi => absurd hi (by omega)) hct
  refine ⟨tn', dO', dD', dA', dB', dI', kn', oo', od', oa', ob', om', bs', bl', bo', hd', ct', un', k1, ht1, fun post h => ht2 post (r1 post ?_)⟩
  unfold wX_translate_42
  exact f2 _ ⟨8, k2 post h⟩
end
end
section
/-! Y: steps -/
def ar (md st en : Int32) : Prop := ¬ en = 0 ∧ (md = 0 ∨ ¬ st &&& 8 = 0)
def tdOf (v : SY) : Int32 := match v with | (pc, md, st, en, vc, sc, p0, ca, va, tb, tm, cp, ic, oc, td, tc, tv, ny, wh, me, xr, wt, yo) => td
def trOf (u : SX) : Int32 := match u with | (pc, nx, md, tm, cp, tr, st, en, vc, p0, sc, ca, va, tb, ih, ic, oc, tn, sl, dO, dD, dA, dB, dI, kn, me, xr, ai, ao, on, pg, oo, od, oa, ob, om, bs, bl, bo, hd, ct, un) => tr
def yRn : Nat → SY → Int32 → SY → Int32 → Prop
  | 0, v, T, v', T' => v' = v ∧ T' = T
  | s + 1, v, T, v', T' => ∃ v1 : SY, (∀ Q : SY → Prop, Q v1 → wpY_step Q v) ∧ (tdOf v1 = 0 ∨ tdOf v1 = 1) ∧ yRn s v1 (T + tdOf v1) v' T'
theorem yRn_app {s s' : Nat} {v1 v2 : SY} {T1 T2 : Int32} (h2 : yRn s' v1 T1 v2 T2) : ∀ {v : SY} {T : Int32}, yRn s v T v1 T1 → yRn (s + s') v T v2 T2 := by
  induction s with
  | zero =>
    intro v T h
    obtain ⟨rfl, rfl⟩ := h
    rw [Nat.zero_add]; exact h2
  | succ s IH =>
    intro v T h
    obtain ⟨w, k1, k2, k3⟩ := h
    rw [Nat.add_right_comm]
    exact ⟨w, k1, k2, IH k3⟩
theorem yRn_1 {v v1 : SY} {T : Int32} (h : ∀ Q : SY → Prop, Q v1 → wpY_step Q v) (h2 : tdOf v1 = 0 ∨ tdOf v1 = 1) : yRn 1 v T v1 (T + tdOf v1) := ⟨v1, h, h2, rfl, rfl⟩
theorem yRn_run {post : Int32 → SY → Prop} {N : Nat} (hN : N ≤ 100) : ∀ (s : Nat) {v v' : SY} {T T' : Int32} {i n : Nat}, yRn s v T v' T' → i + s ≤ N →
    (match v' with | (pc, md, st, en, vc, sc, p0, ca, va, tb, tm, cp, ic, oc, td, tc, tv, ny, wh, me, xr, wt, yo) => wY_run_18 post (nI N) n T' (nI (i + s)) pc md st en vc sc p0 ca va tb tm cp ic oc td tc tv ny wh me xr wt yo) → (match v with | (pc, md, st, en, vc, sc, p0, ca, va, tb, tm, cp, ic, oc, td, tc, tv, ny, wh, me, xr, wt, yo) => wY_run_18 post (nI N) (n + s) T (nI i) pc md st en vc sc p0 ca va tb tm cp ic oc td tc tv ny wh me xr wt yo) := by
  intro s
  induction s with
  | zero =>
    intro v v' T T' i n h hi hp
    obtain ⟨rfl, rfl⟩ := h
    exact hp
  | succ s IH =>
    intro v v' T T' i n h hi hp
    obtain ⟨v1, k1, k2, k3⟩ := h
    have q := IH (i := i + 1) (n := n) k3 (by omega) (by rw [Nat.add_assoc, Nat.add_comm 1 s]; exact hp)
    obtain ⟨pc, md, st, en, vc, sc, p0, ca, va, tb, tm, cp, ic, oc, td, tc, tv, ny, wh, me, xr, wt, yo⟩ := v
    show wY_run_18 post (nI N) (n + s + 1) T (nI i) pc md st en vc sc p0 ca va tb tm cp ic oc td tc tv ny wh me xr wt yo
    refine br_f (nI_ge (by omega) (by omega)) (k1 _ ?_)
    obtain ⟨pc1, md1, st1, en1, vc1, sc1, p01, ca1, va1, tb1, tm1, cp1, ic1, oc1, td1, tc1, tv1, ny1, wh1, me1, xr1, wt1, yo1⟩ := v1
    rcases k2 with z | z
    · have z : td1 = 0 := z
      have e : tdOf (pc1, md1, st1, en1, vc1, sc1, p01, ca1, va1, tb1, tm1, cp1, ic1, oc1, td1, tc1, tv1, ny1, wh1, me1, xr1, wt1, yo1) = 0 := z
      rw [e, Int32.add_zero] at q
      exact br_t z (nm_r (nI_1 i) q)
    · have z : td1 = 1 := z
      have e : tdOf (pc1, md1, st1, en1, vc1, sc1, p01, ca1, va1, tb1, tm1, cp1, ic1, oc1, td1, tc1, tv1, ny1, wh1, me1, xr1, wt1, yo1) = 1 := z
      rw [e] at q
      refine br_f ?_ (nm_e (nm_r (nI_1 i) q))
      rw [z]; decide
theorem hR_el {V : (Nat → Int32) → (Nat → Int32) → Prop} {t : Nat} {u : SX} {v : SY} {Pr : SX → SY → Prop} (I : hR V t u v) (h : ∀ (pc nx md tm cp tr st en vc p0 sc ca va tb ih ic oc tn sl dO dD dA dB dI kn td tc tv ny wh : Int32) (me xr ai ao on pg oo od oa ob om bs bl bo hd ct un wt yo : Nat → Int32) (yr : Nat → Int32), V xr yr → hG t md st en tm tb ih ic oc tn me ai ao on pg oo od oa ob om bs bl bo hd ct wt yo → Pr (pc, nx, md, tm, cp, tr, st, en, vc, p0, sc, ca, va, tb, ih, ic, oc, tn, sl, dO, dD, dA, dB, dI, kn, me, xr, ai, ao, on, pg, oo, od, oa, ob, om, bs, bl, bo, hd, ct, un) (pc, md, st, en, vc, sc, p0, ca, va, tb, tm, cp, ic, oc, td, tc, tv, ny, wh, me, yr, wt, yo)) : Pr u v := by
  obtain ⟨pc, nx, md, tm, cp, tr, st, en, vc, p0, sc, ca, va, tb, ih, ic, oc, tn, sl, dO, dD, dA, dB, dI, kn, me, xr, ai, ao, on, pg, oo, od, oa, ob, om, bs, bl, bo, hd, ct, un⟩ := u
  obtain ⟨pc1, md1, st1, en1, vc1, sc1, p01, ca1, va1, tb1, tm1, cp1, ic1, oc1, td1, tc1, tv1, ny1, wh1, me1, xr1, wt1, yo1⟩ := v
  obtain ⟨⟨e1, e2, e3, e4, e5, e6, e7, e8, e9, e10, e11, e12, e13, e14, e15⟩, k1, k2⟩ := I
  rw [e1, e2, e3, e4, e5, e6, e7, e8, e9, e10, e11, e12, e13, e14, e15]
  exact h _ _ _ _ _ _ _ _ _ _ _ _ _ _ _ _ _ _ _ _ _ _ _ _ _ _ _ _ _ _ _ _ _ _ _ _ _ _ _ _ _ _ _ _ _ _ _ _ _ _ k1 k2
section
variable {pc nx md tm cp tr st en vc p0 sc ca va tb ih ic oc tn sl dO dD dA dB dI kn td tc tv ny wh : Int32} {me xr ai ao on pg oo od oa ob om bs bl bo hd ct un wt yo : Nat → Int32}
theorem en_128 {en : Int32} (h : en = 0 ∨ en = 128) : en &&& 128 = 0 ↔ en = 0 := by
  rcases h with z | z <;> subst z <;> decide
theorem y_st_go {Q : SY → Prop} (W : hW md st en) (hn : ¬ (ar md st en ∧ ¬ tm < cp)) (h : wY_step_64 Q pc md st en vc sc p0 ca va tb tm cp ic oc 0 tc tv ny wh me xr wt yo) : wpY_step Q (pc, md, st, en, vc, sc, p0, ca, va, tb, tm, cp, ic, oc, td, tc, tv, ny, wh, me, xr, wt, yo) := by
  have e := en_128 W.2.2
  have K : ∀ z : Int32, (z = 1 → md = 0 ∨ ¬ st &&& 8 = 0) → (z = 0 ∨ z = 1) → wY_step_27 Q z pc md st en vc sc p0 ca va tb tm cp ic oc 0 tc tv ny wh me xr wt yo := by
    intro z hz hz2
    refine br_c (fun _ => h) (fun c => br_c (fun _ => h) (fun c2 => br_c (fun _ => h) (fun c3 => ?_)))
    have z1 : z = 1 := hz2.elim (fun y => absurd y c3) id
    exact absurd (And.intro (And.intro (fun y => c (e.mpr y)) (hz z1)) c2) hn
  refine br_c (fun c => K 1 (fun _ => Or.inl c) (Or.inr rfl)) (fun c => br_c (fun _ => K 0 (fun z => absurd z (by decide)) (Or.inl rfl)) (fun c2 => K 1 (fun _ => Or.inr c2) (Or.inr rfl)))
theorem y_st_int {Q : SY → Prop} (W : hW md st en) (ha : ar md st en) (hn : ¬ tm < cp) (h : Q (yfin (pc, md, st, en, vc, sc, p0, ca, va, tb, tm, cp, ic, oc, 1, -2147483641, 0, ny, wh, me, xr, wt, yo))) : wpY_step Q (pc, md, st, en, vc, sc, p0, ca, va, tb, tm, cp, ic, oc, td, tc, tv, ny, wh, me, xr, wt, yo) := by
  have e := en_128 W.2.2
  have K : wY_step_27 Q 1 pc md st en vc sc p0 ca va tb tm cp ic oc 0 tc tv ny wh me xr wt yo := br_f (fun z => ha.1 (e.mp z)) (br_f hn (br_f (by decide) (y_102 h)))
  refine br_c (fun c => K) (fun c => br_c (fun c2 => ?_) (fun c2 => K))
  rcases ha.2 with z | z
  · exact absurd z c
  · exact absurd c2 z
theorem y_fin {Q : SY → Prop} {v' : SY} (h : Q (yfin v')) : (match v' with | (pc, md, st, en, vc, sc, p0, ca, va, tb, tm, cp, ic, oc, td, tc, tv, ny, wh, me, xr, wt, yo) => wY_step_102 Q pc md st en vc sc p0 ca va tb tm cp ic oc td tc tv ny wh me xr wt yo) := by
  obtain ⟨pc, md, st, en, vc, sc, p0, ca, va, tb, tm, cp, ic, oc, td, tc, tv, ny, wh, me, xr, wt, yo⟩ := v'
  exact y_102 h
/-- a step's fetch and execution -/
theorem y_64 {Q : SY → Prop} {v' : SY} {n : Nat} (hn : n < 1024) {me' : Nat → Int32} (h1 : ∀ Q : Int32 → SY → Prop, Q 1 (pc, md, st, en, vc, sc, p0, ca, va, tb, tm, cp, ic, oc, 0, tc, tv, pc + 4, nI n, me', xr, wt, yo) → wpY_translate Q (pc, md, st, en, vc, sc, p0, ca, va, tb, tm, cp, ic, oc, 0, tc, tv, pc + 4, wh, me, xr, wt, yo) pc 4 0)
    (h2 : ∀ Q : SY → Prop, Q v' → wpY_execute Q (pc, md, st, en, vc, sc, p0, ca, va, tb, tm, cp, ic, oc, 0, tc, tv, pc + 4, nI n, me', xr, wt, yo) (me' (n / 4))) (h : Q (yfin v')) : wY_step_64 Q pc md st en vc sc p0 ca va tb tm cp ic oc 0 tc tv ny wh me xr wt yo := by
  have n10 : ¬ (1 : Int32) = 0 := by decide
  have n4 : ¬ (4 : Int32) = 0 := by decide
  unfold wY_step_64
  refine nm_e (h1 _ (br_f n10 ⟨n4, ?_⟩))
  rw [dv_4 n (by omega), nI_clamp (by omega)]
  exact ⟨vp_in_nI (by omega) (by omega), h2 _ (y_fin h)⟩
theorem y_64f {Q : SY → Prop} {c a wh' : Int32} (h1 : ∀ Q : Int32 → SY → Prop, Q 0 (pc, md, st, en, vc, sc, p0, ca, va, tb, tm, cp, ic, oc, 1, c, a, pc + 4, wh', me, xr, wt, yo) → wpY_translate Q (pc, md, st, en, vc, sc, p0, ca, va, tb, tm, cp, ic, oc, 0, tc, tv, pc + 4, wh, me, xr, wt, yo) pc 4 0) (h : Q (yfin (pc, md, st, en, vc, sc, p0, ca, va, tb, tm, cp, ic, oc, 1, c, a, pc + 4, wh', me, xr, wt, yo))) : wY_step_64 Q pc md st en vc sc p0 ca va tb tm cp ic oc 0 tc tv ny wh me xr wt yo := by
  unfold wY_step_64
  exact nm_e (h1 _ (br_t rfl (y_102 h)))
end
/-- one operation, with the step's end -/
def hN (t o d : Nat) (u u2 : SX) (v2 : SY) : Prop := hR hV (t + 1) u2 v2 ∧ match u, u2, v2 with
  | (pc, nx, md, tm, cp, tr, st, en, vc, p0, sc, ca, va, tb, ih, ic, oc, tn, sl, dO, dD, dA, dB, dI, kn, me, xr, ai, ao, on, pg, oo, od, oa, ob, om, bs, bl, bo, hd, ct, un), (pc1, nx1, md1, tm1, cp1, tr1, st1, en1, vc1, p01, sc1, ca1, va1, tb1, ih1, ic1, oc1, tn1, sl1, dO1, dD1, dA1, dB1, dI1, kn1, me1, xr1, ai1, ao1, on1, pg1, oo1, od1, oa1, ob1, om1, bs1, bl1, bo1, hd1, ct1, un1), (pc2, md2, st2, en2, vc2, sc2, p02, ca2, va2, tb2, tm2, cp2, ic2, oc2, td2, tc2, tv2, ny2, wh2, me2, xr2, wt2, yo2) => (tr1 = tr + td2 ∧ (td2 = 0 ∨ td2 = 1)) ∧ (oo1 = oo ∧ od1 = od ∧ oa1 = oa ∧ ob1 = ob ∧ om1 = om) ∧
    (sl1 = 0 → td2 = 0 → goesOn o → pc1 = pc + 4 ∧ md1 = md ∧ tb1 = tb ∧ st1 = st ∧ en1 = en ∧ cp1 = cp ∧ sl = 0 ∧ hd1 = hd ∧
      (∀ j, j < 256 → ¬ hd j = 0 → me1 j = me j) ∧ (∀ p, p < 16 → me1 (16 * bf tb 0 4 + p) = me (16 * bf tb 0 4 + p)) ∧ (∀ r, r ≠ d → xr1 r = xr r))
theorem td_fin (v : SY) : tdOf (yfin v) = tdOf v := by
  obtain ⟨pc, md, st, en, vc, sc, p0, ca, va, tb, tm, cp, ic, oc, td, tc, tv, ny, wh, me, xr, wt, yo⟩ := v
  have e : yfin (pc, md, st, en, vc, sc, p0, ca, va, tb, tm, cp, ic, oc, td, tc, tv, ny, wh, me, xr, wt, yo) = if td = 0 then (ny, md, st, en, vc, sc, p0, ca, va, tb, tm + 1, cp, ic, oc, td, tc, tv, ny, wh, me, xr, wt, yo) else (vc, 3, yst st md, en, vc, sc, pc, tc, tv, tb, tm + 1, cp, ic, oc, td, tc, tv, ny, wh, me, xr, wt, yo) := rfl
  rw [e]
  split <;> rfl
theorem hM_N {t o d : Nat} {u u1 : SX} {v' : SY} (H : hM t o d u u1 v') : hN t o d u (xfin u1) (yfin v') := by
  obtain ⟨pc, nx, md, tm, cp, tr, st, en, vc, p0, sc, ca, va, tb, ih, ic, oc, tn, sl, dO, dD, dA, dB, dI, kn, me, xr, ai, ao, on, pg, oo, od, oa, ob, om, bs, bl, bo, hd, ct, un⟩ := u
  obtain ⟨pc1, nx1, md1, tm1, cp1, tr1, st1, en1, vc1, p01, sc1, ca1, va1, tb1, ih1, ic1, oc1, tn1, sl1, dO1, dD1, dA1, dB1, dI1, kn1, me1, xr1, ai1, ao1, on1, pg1, oo1, od1, oa1, ob1, om1, bs1, bl1, bo1, hd1, ct1, un1⟩ := u1
  have e := td_fin v'
  obtain ⟨H1, H2⟩ := H
  refine ⟨H1, ?_⟩
  clear H1
  generalize yfin v' = v2 at e ⊢
  obtain ⟨pc2, md2, st2, en2, vc2, sc2, p02, ca2, va2, tb2, tm2, cp2, ic2, oc2, td2, tc2, tv2, ny2, wh2, me2, xr2, wt2, yo2⟩ := v2
  obtain ⟨pc3, md3, st3, en3, vc3, sc3, p03, ca3, va3, tb3, tm3, cp3, ic3, oc3, td3, tc3, tv3, ny3, wh3, me3, xr3, wt3, yo3⟩ := v'
  have e : td2 = td3 := e
  rw [e]
  exact H2
end
section
/-! a block's run -/
def dV (Di Ki : Nat → Prop) (Ci : Nat → Int32) (x y : Nat → Int32) : Prop := (∀ r, ¬ Di r → x r = y r) ∧ y 0 = 0 ∧ (∀ r, Ki r → y r = Ci r)
def dJ (b w n i t : Nat) (T0 : Int32) (D K : Nat → Nat → Prop) (C : Nat → Nat → Int32) (u : SX) : Prop := match u with
  | (pc, nx, md, tm, cp, tr, st, en, vc, p0, sc, ca, va, tb, ih, ic, oc, tn, sl, dO, dD, dA, dB, dI, kn, me, xr, ai, ao, on, pg, oo, od, oa, ob, om, bs, bl, bo, hd, ct, un) => sl = 0 ∧ tr = T0 ∧ (∀ j, i ≤ j → j < n → (j + 1 < n → goesOn (kO (me (w + j)))) ∧ bStep me oo od oa ob om b w D K C j) ∧ (∀ j, j < n → ¬ hd (w + j) = 0) ∧ hF md tb pc me (4 * (w + i)) ∧
    (ar md st en → (t : Int) + n ≤ cp.toInt + i)
def slOf (u : SX) : Int32 := match u with | (pc, nx, md, tm, cp, tr, st, en, vc, p0, sc, ca, va, tb, ih, ic, oc, tn, sl, dO, dD, dA, dB, dI, kn, me, xr, ai, ao, on, pg, oo, od, oa, ob, om, bs, bl, bo, hd, ct, un) => sl
def dKp (P : Int32 → SX → Prop) (b n T0 : Int32) (d : Nat) (i1 : Int32) (u1 : SX) : Prop := match u1 with
  | (pc, nx, md, tm, cp, tr, st, en, vc, p0, sc, ca, va, tb, ih, ic, oc, tn, sl, dO, dD, dA, dB, dI, kn, me, xr, ai, ao, on, pg, oo, od, oa, ob, om, bs, bl, bo, hd, ct, un) => ((n ≤ i1 → P i1 (pc, nx, md, tm, cp, tr, st, en, vc, p0, sc, ca, va, tb, ih, ic, oc, tn, sl, dO, dD, dA, dB, dI, kn, me, xr, ai, ao, on, pg, oo, od, oa, ob, om, bs, bl, bo, hd, ct, un)) ∧ (¬ n ≤ i1 → ((sl = 0 → ((tr = T0 → wX_dispatch_91 P b n T0 d i1 pc nx md tm cp tr st en vc p0 sc ca va tb ih ic oc tn sl dO dD dA dB dI kn me xr ai ao on pg oo od oa ob om bs bl bo hd ct un) ∧ (¬ tr = T0 → P i1 (pc, nx, md, tm, cp, tr, st, en, vc, p0, sc, ca, va, tb, ih, ic, oc, tn, sl, dO, dD, dA, dB, dI, kn, me, xr, ai, ao, on, pg, oo, od, oa, ob, om, bs, bl, bo, hd, ct, un)))) ∧ (¬ sl = 0 → P i1 (pc, nx, md, tm, cp, tr, st, en, vc, p0, sc, ca, va, tb, ih, ic, oc, tn, sl, dO, dD, dA, dB, dI, kn, me, xr, ai, ao, on, pg, oo, od, oa, ob, om, bs, bl, bo, hd, ct, un)))))
theorem dK_end {P : Int32 → SX → Prop} {b n T0 i1 : Int32} {d : Nat} {u1 : SX} (h : n ≤ i1) (hP : P i1 u1) : dKp P b n T0 d i1 u1 := by
  obtain ⟨pc, nx, md, tm, cp, tr, st, en, vc, p0, sc, ca, va, tb, ih, ic, oc, tn, sl, dO, dD, dA, dB, dI, kn, me, xr, ai, ao, on, pg, oo, od, oa, ob, om, bs, bl, bo, hd, ct, un⟩ := u1
  exact br_t h hP
theorem dK_go {P : Int32 → SX → Prop} {b n T0 i1 : Int32} {d : Nat} {u1 : SX} (h : ¬ n ≤ i1) (h1 : slOf u1 = 0) (h2 : trOf u1 = T0) (hP : match u1 with | (pc, nx, md, tm, cp, tr, st, en, vc, p0, sc, ca, va, tb, ih, ic, oc, tn, sl, dO, dD, dA, dB, dI, kn, me, xr, ai, ao, on, pg, oo, od, oa, ob, om, bs, bl, bo, hd, ct, un) => wX_dispatch_91 P b n T0 d i1 pc nx md tm cp tr st en vc p0 sc ca va tb ih ic oc tn sl dO dD dA dB dI kn me xr ai ao on pg oo od oa ob om bs bl bo hd ct un) : dKp P b n T0 d i1 u1 := by
  obtain ⟨pc, nx, md, tm, cp, tr, st, en, vc, p0, sc, ca, va, tb, ih, ic, oc, tn, sl, dO, dD, dA, dB, dI, kn, me, xr, ai, ao, on, pg, oo, od, oa, ob, om, bs, bl, bo, hd, ct, un⟩ := u1
  exact br_f h (br_t h1 (br_t h2 hP))
theorem dK_stop {P : Int32 → SX → Prop} {b n T0 i1 : Int32} {d : Nat} {u1 : SX} (h : ¬ n ≤ i1) (h1 : ¬ (slOf u1 = 0 ∧ trOf u1 = T0)) (hP : P i1 u1) : dKp P b n T0 d i1 u1 := by
  obtain ⟨pc, nx, md, tm, cp, tr, st, en, vc, p0, sc, ca, va, tb, ih, ic, oc, tn, sl, dO, dD, dA, dB, dI, kn, me, xr, ai, ao, on, pg, oo, od, oa, ob, om, bs, bl, bo, hd, ct, un⟩ := u1
  exact br_f h (br_c (fun z1 => br_c (fun z2 => absurd ⟨z1, z2⟩ h1) (fun _ => hP)) (fun _ => hP))
theorem nx_tr {x : Int32} (h : x + 1 = x) : False := by
  have e : (1 : Int32) = 0 := by
    have := congrArg (fun z => z - x) h
    simp only [Int32.add_comm x 1, Int32.add_sub_cancel, Int32.sub_self] at this
    exact this
  exact absurd e (by decide)
theorem hF_s {md tb a : Int32} {me me' : Nat → Int32} {m : Nat} (H : hF md tb a me (4 * m)) (h16 : ¬ (m + 1) % 16 = 0) (he : ∀ p, p < 16 → me' (16 * bf tb 0 4 + p) = me (16 * bf tb 0 4 + p)) : hF md tb (a + 4) me' (4 * (m + 1)) := by
  obtain ⟨h4, hn, H⟩ := H
  refine ⟨by omega, by omega, ?_⟩
  rcases H with ⟨hm, rfl⟩ | ⟨hm, ht, k, q, hk, rfl, hk4, e, hq, he2⟩
  · refine Or.inl ⟨hm, ?_⟩
    rw [show nI (4 * m) + 4 = nI (4 * m + 4) from nI_add _ 4]
    congr 1
  · refine Or.inr ⟨hm, ht, k + 4, q, by omega, nI_add _ 4, by omega, by omega, hq, ?_⟩
    have e3 : (k + 4) / 64 = k / 64 := by omega
    rw [e3, he _ (by omega)]
    exact he2
theorem tm_lt {t : Nat} (ht : t < 2 ^ 31) {cp : Int32} : nI t < cp ↔ (t : Int) < cp.toInt := by
  rw [Int32.lt_iff_toInt_lt, nI_toInt ht]
/-- behind an operation that isn't a calculation the block goes on -/
theorem dJ_nc {b w n i t : Nat} {T0 : Int32} {D K : Nat → Nat → Prop} {C : Nat → Nat → Int32} {u u2 : SX} {v2 : SY} {W : Int32} (hn : hN t (kO W) (kD W) u u2 v2) (J : dJ b w n i t T0 D K C u) (hw : w + n ≤ 256) (h16 : w % 16 + n ≤ 16) (hi : i + 1 < n) (hg : goesOn (kO W))
    (s1 : ∀ r, ¬ D (i + 1) r) (s2 : ∀ r, K (i + 1) r → C (i + 1) r = C i r ∧ (r = 0 ∧ C i r = 0 ∨ K i r ∧ r ≠ kD W)) (x0 : Nat → Int32) (hx0 : match u with | (pc, nx, md, tm, cp, tr, st, en, vc, p0, sc, ca, va, tb, ih, ic, oc, tn, sl, dO, dD, dA, dB, dI, kn, me, xr, ai, ao, on, pg, oo, od, oa, ob, om, bs, bl, bo, hd, ct, un) => xr = x0) (hk : ∀ r, K i r → x0 r = C i r)
    (c1 : slOf u2 = 0) (c2 : trOf u2 = T0) : hR (dV (D (i + 1)) (K (i + 1)) (C (i + 1))) (t + 1) u2 v2 ∧ dJ b w n (i + 1) (t + 1) T0 D K C u2 ∧ tdOf v2 = 0 := by
  obtain ⟨pc, nx, md, tm, cp, tr, st, en, vc, p0, sc, ca, va, tb, ih, ic, oc, tn, sl, dO, dD, dA, dB, dI, kn, me, xr, ai, ao, on, pg, oo, od, oa, ob, om, bs, bl, bo, hd, ct, un⟩ := u
  obtain ⟨pc1, nx1, md1, tm1, cp1, tr1, st1, en1, vc1, p01, sc1, ca1, va1, tb1, ih1, ic1, oc1, tn1, sl1, dO1, dD1, dA1, dB1, dI1, kn1, me1, xr1, ai1, ao1, on1, pg1, oo1, od1, oa1, ob1, om1, bs1, bl1, bo1, hd1, ct1, un1⟩ := u2
  obtain ⟨pc2, md2, st2, en2, vc2, sc2, p02, ca2, va2, tb2, tm2, cp2, ic2, oc2, td2, tc2, tv2, ny2, wh2, me2, xr2, wt2, yo2⟩ := v2
  obtain ⟨H1, ⟨k1, k2⟩, ⟨e1, e2, e3, e4, e5⟩, k4⟩ := hn
  obtain ⟨j1, j2, j3, j4, j5, j6⟩ := J
  have hx0 : xr = x0 := hx0
  have c1 : sl1 = 0 := c1
  have c2 : tr1 = T0 := c2
  subst hx0
  have t0 : td2 = 0 := by
    rcases k2 with z | z
    · exact z
    · rw [z, c2, j2] at k1; exact absurd k1.symm (fun y => nx_tr y)
  obtain ⟨f1, f2, f3, f4, f5, f6, f7, f8, f9, f10, f11⟩ := k4 c1 t0 hg
  obtain ⟨E, V, G⟩ := H1
  obtain ⟨V1, V2⟩ := V
  refine ⟨⟨E, ⟨fun r _ => by rw [V1], by rw [V1]; exact V2, fun r hr => ?_⟩, G⟩, ⟨c1, c2, fun j h1 h2 => ?_, fun j hj => ?_, ?_, ?_⟩, t0⟩
  · obtain ⟨q1, q2⟩ := s2 r hr
    rw [q1, V1]
    rcases q2 with ⟨z, z2⟩ | ⟨z, z2⟩
    · subst z; rw [z2]; exact V2
    · rw [f11 r z2]; exact hk r z
  · have q := j3 j (by omega) h2
    unfold bStep at q ⊢
    rw [e1, e2, e3, e4, e5, f9 (w + j) (by omega) (j4 j h2)]
    exact q
  · rw [f8]; exact j4 j hj
  · rw [f1, f2, f3]
    exact hF_s (m := w + i) j5 (by omega) f10
  · rw [f2, f4, f5, f6]
    intro z
    have := j6 z
    omega
/-- a step from v0 amounts to executing, in v, the word at address n -/
def yS0 (n : Nat) (v0 v : SY) : Prop := match v with
  | (pc, md, st, en, vc, sc, p0, ca, va, tb, tm, cp, ic, oc, td, tc, tv, ny, wh, me, xr, wt, yo) => ∀ v' : SY, (∀ Q : SY → Prop, Q v' → wpY_execute Q (pc, md, st, en, vc, sc, p0, ca, va, tb, tm, cp, ic, oc, 0, tc, tv, pc + 4, nI n, me, xr, wt, yo) (me (n / 4))) → ∀ Q : SY → Prop, Q (yfin v') → wpY_step Q v0
theorem yS0_R {V : (Nat → Int32) → (Nat → Int32) → Prop} {b w n i t : Nat} {T0 : Int32} {D K : Nat → Nat → Prop} {C : Nat → Nat → Int32} {u : SX} {v : SY} (R : hR V t u v) (J : dJ b w n i t T0 D K C u) (hi : i < n) (ht : t + n < 2 ^ 31 + i) : yS0 (4 * (w + i)) v v := by
  revert J
  refine hR_el (Pr := fun u v => dJ b w n i t T0 D K C u → yS0 (4 * (w + i)) v v) R ?_
  intro pc nx md tm cp tr st en vc p0 sc ca va tb ih ic oc tn sl dO dD dA dB dI kn td tc tv ny wh me xr ai ao on pg oo od oa ob om bs bl bo hd ct un wt yo yr V G J
  obtain ⟨_, _, _, _, j5, j6⟩ := J
  have nint : ¬ (ar md st en ∧ ¬ tm < cp) := by
    intro z
    have q := j6 z.1
    apply z.2
    rw [G.2.1, tm_lt (by omega)]
    omega
  intro v' hv Q hQ
  exact y_st_go G.1 nint (y_64 (n := 4 * (w + i)) j5.2.1 (fun Q hq => y_fetch j5 hq) hv hQ)
section
variable {pc nx md tm cp tr st en vc p0 sc ca va tb ih ic oc tn sl dO dD dA dB dI kn td tc tv ny wh : Int32} {me xr ai ao on pg oo od oa ob om bs bl bo hd ct un wt yo : Nat → Int32}
theorem x_91 {P : Int32 → SX → Prop} {b n i d o r a b' : Nat} {T0 : Int32} {u1 : SX} (hb : b < 24) (hi : i < 8) (hn : n ≤ 8) (e1 : oo (8 * b + i) = nI o) (e2 : od (8 * b + i) = nI r) (e3 : oa (8 * b + i) = nI a) (e4 : ob (8 * b + i) = nI b')
    (hX : ∀ Q : SX → Prop, Q u1 → wpX_execute Q (pc, nx, md, tm, cp, tr, st, en, vc, p0, sc, ca, va, tb, ih, ic, oc, tn, sl, dO, dD, dA, dB, dI, kn, me, xr, ai, ao, on, pg, oo, od, oa, ob, om, bs, bl, bo, hd, ct, un) (nI o) (nI r) (nI a) (nI b') (om (8 * b + i)))
    (h : dKp P (nI b) (nI n) T0 d (nI (i + 1)) u1) :
    wX_dispatch_91 P (nI b) (nI n) T0 (d + 1) (nI i) pc nx md tm cp tr st en vc p0 sc ca va tb ih ic oc tn sl dO dD dA dB dI kn me xr ai ao on pg oo od oa ob om bs bl bo hd ct un := by
  have e8 : (8 : Int32) * nI b + nI i = nI (8 * b + i) := by rw [show (8 : Int32) * nI b = nI (8 * b) from pk_mul 8 b, nI_add]
  have vk : vp_in (nI (8 * b + i)) 192 := vp_in_nI (by omega) (by omega)
  unfold wX_dispatch_91
  rw [e8]
  refine nm_r (nI_1 i) (nm_e ?_)
  rw [nI_clamp (by omega), e1, e2, e3, e4]
  exact ⟨vk, vk, vk, vk, vk, hX _ h⟩
theorem ls_block {b w n : Nat} {T0 : Int32} {D K : Nat → Nat → Prop} {C : Nat → Nat → Int32} (hb : b < 24) (hw : w + n ≤ 256) (h16 : w % 16 + n ≤ 16) (hn : n ≤ 8) (hDn : ∀ r, ¬ D n r) :
    ∀ (d i t : Nat) (u : SX) (v v0 : SY), i + (d + 1) = n → t + n < 2 ^ 31 + i → hR (dV (D i) (K i) (C i)) t u v → dJ b w n i t T0 D K C u → yS0 (4 * (w + i)) v0 v →
      ∃ (s : Nat) (u' : SX) (v' : SY) (T' : Int32), 0 < s ∧ i + s ≤ n ∧ hR hV (t + s) u' v' ∧ trOf u' = T' ∧ yRn s v0 T0 v' T' ∧
        ∀ P : Int32 → SX → Prop, P (nI (i + s)) u' → (match u with | (pc, nx, md, tm, cp, tr, st, en, vc, p0, sc, ca, va, tb, ih, ic, oc, tn, sl, dO, dD, dA, dB, dI, kn, me, xr, ai, ao, on, pg, oo, od, oa, ob, om, bs, bl, bo, hd, ct, un) => wX_dispatch_91 P (nI b) (nI n) T0 (d + 1) (nI i) pc nx md tm cp tr st en vc p0 sc ca va tb ih ic oc tn sl dO dD dA dB dI kn me xr ai ao on pg oo od oa ob om bs bl bo hd ct un) := by
  intro d
  induction d with
  | zero =>
    intro i t u v v0 hi ht R J Y0
    revert J Y0
    refine hR_el (Pr := fun u v => dJ b w n i t T0 D K C u → yS0 (4 * (w + i)) v0 v → ∃ (s : Nat) (u' : SX) (v' : SY) (T' : Int32), 0 < s ∧ i + s ≤ n ∧ hR hV (t + s) u' v' ∧ trOf u' = T' ∧ yRn s v0 T0 v' T' ∧
        ∀ P : Int32 → SX → Prop, P (nI (i + s)) u' → (match u with | (pc, nx, md, tm, cp, tr, st, en, vc, p0, sc, ca, va, tb, ih, ic, oc, tn, sl, dO, dD, dA, dB, dI, kn, me, xr, ai, ao, on, pg, oo, od, oa, ob, om, bs, bl, bo, hd, ct, un) => wX_dispatch_91 P (nI b) (nI n) T0 (0 + 1) (nI i) pc nx md tm cp tr st en vc p0 sc ca va tb ih ic oc tn sl dO dD dA dB dI kn me xr ai ao on pg oo od oa ob om bs bl bo hd ct un)) R ?_
    intro pc nx md tm cp tr st en vc p0 sc ca va tb ih ic oc tn sl dO dD dA dB dI kn td tc tv ny wh me xr ai ao on pg oo od oa ob om bs bl bo hd ct un wt yo yr V G J Y0
    obtain ⟨j1, j2, j3, j4, j5, j6⟩ := J
    subst j2
    obtain ⟨g1, o, r, a, b', e1, e2, e3, e4, sok⟩ := j3 i (by omega) (by omega)
    obtain ⟨V1, V2, V3⟩ := V
    have hpc : 4 * (w + i) < 1024 := by omega
    have hw4 : 4 * (w + i) / 4 = w + i := by omega
    rcases sok with ⟨s1, s2, s3, s4, s5, s6⟩ | ⟨s1, s2, s3, s4, s5, s6, s7, s8, s9⟩
    · -- a calculation
      obtain ⟨t1, t2⟩ := s6 pc xr yr V2 V1 V3
      have xw : ∀ Q : SX → Prop, Q (pc + 4, pc + 4, md, tm + 1, cp, tr, st, en, vc, p0, sc, ca, va, tb, ih, ic, oc, tn, sl, dO, dD, dA, dB, dI, kn, me, cx o r a b' (om (8 * b + i)) pc xr, ai, ao, on, pg, oo, od, oa, ob, om, bs, bl, bo, hd, ct, un) → wpX_execute Q (pc, nx, md, tm, cp, tr, st, en, vc, p0, sc, ca, va, tb, ih, ic, oc, tn, sl, dO, dD, dA, dB, dI, kn, me, xr, ai, ao, on, pg, oo, od, oa, ob, om, bs, bl, bo, hd, ct, un) (nI o) (nI r) (nI a) (nI b') (om (8 * b + i)) := by
        intro Q hQ
        exact x_exec (u1 := (pc, pc + 4, md, tm, cp, tr, st, en, vc, p0, sc, ca, va, tb, ih, ic, oc, tn, sl, dO, dD, dA, dB, dI, kn, me, cx o r a b' (om (8 * b + i)) pc xr, ai, ao, on, pg, oo, od, oa, ob, om, bs, bl, bo, hd, ct, un)) (by omega) s3 s4 s5 ⟨fun _ => rfl, fun y y2 => absurd (And.intro y y2) (by omega), fun y y2 => absurd (And.intro y y2) (by omega), fun y y2 => absurd (And.intro y y2) (by omega), fun y y2 => absurd (And.intro y y2) (by omega), fun y => absurd y (by omega), fun y => absurd y (by omega)⟩ Q hQ
      have ys : ∀ Q : SY → Prop, Q (pc + 4, md, st, en, vc, sc, p0, ca, va, tb, tm + 1, cp, ic, oc, 0, tc, tv, pc + 4, nI (4 * (w + i)), me, cx (kO (me (w + i))) (kD (me (w + i))) (kA (me (w + i))) (kB (me (w + i))) (kI (me (w + i))) pc yr, wt, yo) → wpY_step Q v0 := by
        intro Q hQ
        refine Y0 (pc, md, st, en, vc, sc, p0, ca, va, tb, tm, cp, ic, oc, 0, tc, tv, pc + 4, nI (4 * (w + i)), me, cx (kO (me (w + i))) (kD (me (w + i))) (kA (me (w + i))) (kB (me (w + i))) (kI (me (w + i))) pc yr, wt, yo) ?_ Q hQ
        rw [hw4]
        exact fun Q hq => y_exec (yX_c s1) Q hq
      have y1 := yRn_1 (T := tr) ys (Or.inl rfl)
      rw [show tdOf (pc + 4, md, st, en, vc, sc, p0, ca, va, tb, tm + 1, cp, ic, oc, 0, tc, tv, pc + 4, nI (4 * (w + i)), me, cx (kO (me (w + i))) (kD (me (w + i))) (kA (me (w + i))) (kB (me (w + i))) (kI (me (w + i))) pc yr, wt, yo) = 0 from rfl, Int32.add_zero] at y1
      have z0 : cx (kO (me (w + i))) (kD (me (w + i))) (kA (me (w + i))) (kB (me (w + i))) (kI (me (w + i))) pc yr 0 = 0 := by
        by_cases q : kO (me (w + i)) = 1 ∨ kO (me (w + i)) = 2 ∨ 32 ≤ kO (me (w + i))
        · rw [cx_cv q]; exact rs_0 V2
        · rw [cx_i q]; exact V2
      have E : (pc + 4 = pc + 4 ∧ md = md ∧ st = st ∧ en = en ∧ vc = vc ∧ sc = sc ∧ p0 = p0 ∧ ca = ca ∧ va = va ∧ tb = tb ∧ tm + 1 = tm + 1 ∧ cp = cp ∧ ic = ic ∧ oc = oc ∧ me = me) := ⟨rfl, rfl, rfl, rfl, rfl, rfl, rfl, rfl, rfl, rfl, rfl, rfl, rfl, rfl, rfl⟩
      have x_y : cx o r a b' (om (8 * b + i)) pc xr = cx (kO (me (w + i))) (kD (me (w + i))) (kA (me (w + i))) (kB (me (w + i))) (kI (me (w + i))) pc yr := by
        funext q
        refine t1 q ?_
        rw [show i + 1 = n by omega]
        exact hDn q
      refine ⟨1, (pc + 4, pc + 4, md, tm + 1, cp, tr, st, en, vc, p0, sc, ca, va, tb, ih, ic, oc, tn, sl, dO, dD, dA, dB, dI, kn, me, cx o r a b' (om (8 * b + i)) pc xr, ai, ao, on, pg, oo, od, oa, ob, om, bs, bl, bo, hd, ct, un), (pc + 4, md, st, en, vc, sc, p0, ca, va, tb, tm + 1, cp, ic, oc, 0, tc, tv, pc + 4, nI (4 * (w + i)), me, cx (kO (me (w + i))) (kD (me (w + i))) (kA (me (w + i))) (kB (me (w + i))) (kI (me (w + i))) pc yr, wt, yo), tr, by omega, by omega, ⟨E, ⟨x_y.symm, by rw [x_y]; exact z0⟩, hG_s G⟩, rfl, y1, fun P hP => ?_⟩
      exact x_91 hb (by omega) hn e1 e2 e3 e4 xw (dK_end (nI_le (by omega) (by omega)) hP)

    · -- another operation
      have xy : yr = xr := by funext q; exact (V1 q (s7 q)).symm
      subst xy
      obtain ⟨u1, v', kX, kY, kM⟩ := ls_nc (pc := pc) (nx := nx) (md := md) (tm := tm) (cp := cp) (tr := tr) (st := st) (en := en) (vc := vc) (p0 := p0) (sc := sc) (ca := ca) (va := va) (tb := tb) (ih := ih) (ic := ic) (oc := oc) (tn := tn) (sl := sl) (dO := dO) (dD := dD) (dA := dA) (dB := dB) (dI := dI) (kn := kn) (me := me) (xr := yr) (ai := ai) (ao := ao) (on := on) (pg := pg) (oo := oo) (od := od) (oa := oa) (ob := ob) (om := om) (bs := bs) (bl := bl) (bo := bo) (hd := hd) (ct := ct) (un := un) (tc := tc) (tv := tv) (wh := nI (4 * (w + i))) (wt := wt) (yo := yo) (by omega) G V2 (me (w + i)) s1
      have kN := hM_N kM
      rw [← s2, ← s3, ← s4, ← s5, ← s6] at kX
      have ys : ∀ Q : SY → Prop, Q (yfin v') → wpY_step Q v0 := by
        intro Q hQ
        refine Y0 v' ?_ Q hQ
        rw [hw4]
        exact kY
      have tds : tdOf (yfin v') = 0 ∨ tdOf (yfin v') = 1 := by
        rw [td_fin]
        obtain ⟨pc2, md2, st2, en2, vc2, sc2, p02, ca2, va2, tb2, tm2, cp2, ic2, oc2, td2, tc2, tv2, ny2, wh2, me2, xr2, wt2, yo2⟩ := v'
        obtain ⟨pc1, nx1, md1, tm1, cp1, tr1, st1, en1, vc1, p01, sc1, ca1, va1, tb1, ih1, ic1, oc1, tn1, sl1, dO1, dD1, dA1, dB1, dI1, kn1, me1, xr1, ai1, ao1, on1, pg1, oo1, od1, oa1, ob1, om1, bs1, bl1, bo1, hd1, ct1, un1⟩ := u1
        exact kM.2.1.2
      have trs : trOf (xfin u1) = tr + tdOf (yfin v') := by
        rw [td_fin]
        obtain ⟨pc2, md2, st2, en2, vc2, sc2, p02, ca2, va2, tb2, tm2, cp2, ic2, oc2, td2, tc2, tv2, ny2, wh2, me2, xr2, wt2, yo2⟩ := v'
        obtain ⟨pc1, nx1, md1, tm1, cp1, tr1, st1, en1, vc1, p01, sc1, ca1, va1, tb1, ih1, ic1, oc1, tn1, sl1, dO1, dD1, dA1, dB1, dI1, kn1, me1, xr1, ai1, ao1, on1, pg1, oo1, od1, oa1, ob1, om1, bs1, bl1, bo1, hd1, ct1, un1⟩ := u1
        exact kM.2.1.1
      have y1 := yRn_1 (T := tr) ys tds
      have R1 : hR hV (t + 1) (xfin u1) (yfin v') := kM.1
      have xw : ∀ Q : SX → Prop, Q (xfin u1) → wpX_execute Q (pc, nx, md, tm, cp, tr, st, en, vc, p0, sc, ca, va, tb, ih, ic, oc, tn, sl, dO, dD, dA, dB, dI, kn, me, yr, ai, ao, on, pg, oo, od, oa, ob, om, bs, bl, bo, hd, ct, un) (nI o) (nI r) (nI a) (nI b') (om (8 * b + i)) := kX
      refine ⟨1, xfin u1, yfin v', tr + tdOf (yfin v'), by omega, by omega, R1, trs, y1, fun P hP => ?_⟩
      exact x_91 hb (by omega) hn e1 e2 e3 e4 xw (dK_end (nI_le (by omega) (by omega)) hP)

  | succ d IH =>
    intro i t u v v0 hi ht R J Y0
    revert J Y0
    refine hR_el (Pr := fun u v => dJ b w n i t T0 D K C u → yS0 (4 * (w + i)) v0 v → ∃ (s : Nat) (u' : SX) (v' : SY) (T' : Int32), 0 < s ∧ i + s ≤ n ∧ hR hV (t + s) u' v' ∧ trOf u' = T' ∧ yRn s v0 T0 v' T' ∧
        ∀ P : Int32 → SX → Prop, P (nI (i + s)) u' → (match u with | (pc, nx, md, tm, cp, tr, st, en, vc, p0, sc, ca, va, tb, ih, ic, oc, tn, sl, dO, dD, dA, dB, dI, kn, me, xr, ai, ao, on, pg, oo, od, oa, ob, om, bs, bl, bo, hd, ct, un) => wX_dispatch_91 P (nI b) (nI n) T0 (d + 1 + 1) (nI i) pc nx md tm cp tr st en vc p0 sc ca va tb ih ic oc tn sl dO dD dA dB dI kn me xr ai ao on pg oo od oa ob om bs bl bo hd ct un)) R ?_
    intro pc nx md tm cp tr st en vc p0 sc ca va tb ih ic oc tn sl dO dD dA dB dI kn td tc tv ny wh me xr ai ao on pg oo od oa ob om bs bl bo hd ct un wt yo yr V G J Y0
    obtain ⟨j1, j2, j3, j4, j5, j6⟩ := J
    subst j2
    obtain ⟨g1, o, r, a, b', e1, e2, e3, e4, sok⟩ := j3 i (by omega) (by omega)
    obtain ⟨V1, V2, V3⟩ := V
    have hpc : 4 * (w + i) < 1024 := by omega
    have hw4 : 4 * (w + i) / 4 = w + i := by omega
    rcases sok with ⟨s1, s2, s3, s4, s5, s6⟩ | ⟨s1, s2, s3, s4, s5, s6, s7, s8, s9⟩
    · -- a calculation
      obtain ⟨t1, t2⟩ := s6 pc xr yr V2 V1 V3
      have xw : ∀ Q : SX → Prop, Q (pc + 4, pc + 4, md, tm + 1, cp, tr, st, en, vc, p0, sc, ca, va, tb, ih, ic, oc, tn, sl, dO, dD, dA, dB, dI, kn, me, cx o r a b' (om (8 * b + i)) pc xr, ai, ao, on, pg, oo, od, oa, ob, om, bs, bl, bo, hd, ct, un) → wpX_execute Q (pc, nx, md, tm, cp, tr, st, en, vc, p0, sc, ca, va, tb, ih, ic, oc, tn, sl, dO, dD, dA, dB, dI, kn, me, xr, ai, ao, on, pg, oo, od, oa, ob, om, bs, bl, bo, hd, ct, un) (nI o) (nI r) (nI a) (nI b') (om (8 * b + i)) := by
        intro Q hQ
        exact x_exec (u1 := (pc, pc + 4, md, tm, cp, tr, st, en, vc, p0, sc, ca, va, tb, ih, ic, oc, tn, sl, dO, dD, dA, dB, dI, kn, me, cx o r a b' (om (8 * b + i)) pc xr, ai, ao, on, pg, oo, od, oa, ob, om, bs, bl, bo, hd, ct, un)) (by omega) s3 s4 s5 ⟨fun _ => rfl, fun y y2 => absurd (And.intro y y2) (by omega), fun y y2 => absurd (And.intro y y2) (by omega), fun y y2 => absurd (And.intro y y2) (by omega), fun y y2 => absurd (And.intro y y2) (by omega), fun y => absurd y (by omega), fun y => absurd y (by omega)⟩ Q hQ
      have ys : ∀ Q : SY → Prop, Q (pc + 4, md, st, en, vc, sc, p0, ca, va, tb, tm + 1, cp, ic, oc, 0, tc, tv, pc + 4, nI (4 * (w + i)), me, cx (kO (me (w + i))) (kD (me (w + i))) (kA (me (w + i))) (kB (me (w + i))) (kI (me (w + i))) pc yr, wt, yo) → wpY_step Q v0 := by
        intro Q hQ
        refine Y0 (pc, md, st, en, vc, sc, p0, ca, va, tb, tm, cp, ic, oc, 0, tc, tv, pc + 4, nI (4 * (w + i)), me, cx (kO (me (w + i))) (kD (me (w + i))) (kA (me (w + i))) (kB (me (w + i))) (kI (me (w + i))) pc yr, wt, yo) ?_ Q hQ
        rw [hw4]
        exact fun Q hq => y_exec (yX_c s1) Q hq
      have y1 := yRn_1 (T := tr) ys (Or.inl rfl)
      rw [show tdOf (pc + 4, md, st, en, vc, sc, p0, ca, va, tb, tm + 1, cp, ic, oc, 0, tc, tv, pc + 4, nI (4 * (w + i)), me, cx (kO (me (w + i))) (kD (me (w + i))) (kA (me (w + i))) (kB (me (w + i))) (kI (me (w + i))) pc yr, wt, yo) = 0 from rfl, Int32.add_zero] at y1
      have z0 : cx (kO (me (w + i))) (kD (me (w + i))) (kA (me (w + i))) (kB (me (w + i))) (kI (me (w + i))) pc yr 0 = 0 := by
        by_cases q : kO (me (w + i)) = 1 ∨ kO (me (w + i)) = 2 ∨ 32 ≤ kO (me (w + i))
        · rw [cx_cv q]; exact rs_0 V2
        · rw [cx_i q]; exact V2
      have E : (pc + 4 = pc + 4 ∧ md = md ∧ st = st ∧ en = en ∧ vc = vc ∧ sc = sc ∧ p0 = p0 ∧ ca = ca ∧ va = va ∧ tb = tb ∧ tm + 1 = tm + 1 ∧ cp = cp ∧ ic = ic ∧ oc = oc ∧ me = me) := ⟨rfl, rfl, rfl, rfl, rfl, rfl, rfl, rfl, rfl, rfl, rfl, rfl, rfl, rfl, rfl⟩
      have R2 : hR (dV (D (i + 1)) (K (i + 1)) (C (i + 1))) (t + 1) (pc + 4, pc + 4, md, tm + 1, cp, tr, st, en, vc, p0, sc, ca, va, tb, ih, ic, oc, tn, sl, dO, dD, dA, dB, dI, kn, me, cx o r a b' (om (8 * b + i)) pc xr, ai, ao, on, pg, oo, od, oa, ob, om, bs, bl, bo, hd, ct, un) (pc + 4, md, st, en, vc, sc, p0, ca, va, tb, tm + 1, cp, ic, oc, 0, tc, tv, pc + 4, nI (4 * (w + i)), me, cx (kO (me (w + i))) (kD (me (w + i))) (kA (me (w + i))) (kB (me (w + i))) (kI (me (w + i))) pc yr, wt, yo) := ⟨E, ⟨t1, z0, t2⟩, hG_s G⟩
      have J2 : dJ b w n (i + 1) (t + 1) tr D K C (pc + 4, pc + 4, md, tm + 1, cp, tr, st, en, vc, p0, sc, ca, va, tb, ih, ic, oc, tn, sl, dO, dD, dA, dB, dI, kn, me, cx o r a b' (om (8 * b + i)) pc xr, ai, ao, on, pg, oo, od, oa, ob, om, bs, bl, bo, hd, ct, un) := ⟨j1, rfl, fun j h1 h2 => j3 j (by omega) h2, j4, hF_s (m := w + i) j5 (by omega) (fun _ _ => rfl), fun z => by have := j6 z; omega⟩
      obtain ⟨s, u', v', T', q1, q2, q3, q4, q5, q6⟩ := IH (i + 1) (t + 1) _ _ _ (by omega) (by omega) R2 J2 (yS0_R R2 J2 (by omega) (by omega))
      refine ⟨1 + s, u', v', T', by omega, by omega, by rw [← Nat.add_assoc]; exact q3, q4, yRn_app q5 y1, fun P hP => ?_⟩
      refine x_91 hb (by omega) hn e1 e2 e3 e4 xw (dK_go (nI_ge (by omega) (by omega)) j1 rfl (q6 P ?_))
      rw [Nat.add_assoc]
      exact hP

    · -- another operation
      have xy : yr = xr := by funext q; exact (V1 q (s7 q)).symm
      subst xy
      obtain ⟨u1, v', kX, kY, kM⟩ := ls_nc (pc := pc) (nx := nx) (md := md) (tm := tm) (cp := cp) (tr := tr) (st := st) (en := en) (vc := vc) (p0 := p0) (sc := sc) (ca := ca) (va := va) (tb := tb) (ih := ih) (ic := ic) (oc := oc) (tn := tn) (sl := sl) (dO := dO) (dD := dD) (dA := dA) (dB := dB) (dI := dI) (kn := kn) (me := me) (xr := yr) (ai := ai) (ao := ao) (on := on) (pg := pg) (oo := oo) (od := od) (oa := oa) (ob := ob) (om := om) (bs := bs) (bl := bl) (bo := bo) (hd := hd) (ct := ct) (un := un) (tc := tc) (tv := tv) (wh := nI (4 * (w + i))) (wt := wt) (yo := yo) (by omega) G V2 (me (w + i)) s1
      have kN := hM_N kM
      rw [← s2, ← s3, ← s4, ← s5, ← s6] at kX
      have ys : ∀ Q : SY → Prop, Q (yfin v') → wpY_step Q v0 := by
        intro Q hQ
        refine Y0 v' ?_ Q hQ
        rw [hw4]
        exact kY
      have tds : tdOf (yfin v') = 0 ∨ tdOf (yfin v') = 1 := by
        rw [td_fin]
        obtain ⟨pc2, md2, st2, en2, vc2, sc2, p02, ca2, va2, tb2, tm2, cp2, ic2, oc2, td2, tc2, tv2, ny2, wh2, me2, xr2, wt2, yo2⟩ := v'
        obtain ⟨pc1, nx1, md1, tm1, cp1, tr1, st1, en1, vc1, p01, sc1, ca1, va1, tb1, ih1, ic1, oc1, tn1, sl1, dO1, dD1, dA1, dB1, dI1, kn1, me1, xr1, ai1, ao1, on1, pg1, oo1, od1, oa1, ob1, om1, bs1, bl1, bo1, hd1, ct1, un1⟩ := u1
        exact kM.2.1.2
      have trs : trOf (xfin u1) = tr + tdOf (yfin v') := by
        rw [td_fin]
        obtain ⟨pc2, md2, st2, en2, vc2, sc2, p02, ca2, va2, tb2, tm2, cp2, ic2, oc2, td2, tc2, tv2, ny2, wh2, me2, xr2, wt2, yo2⟩ := v'
        obtain ⟨pc1, nx1, md1, tm1, cp1, tr1, st1, en1, vc1, p01, sc1, ca1, va1, tb1, ih1, ic1, oc1, tn1, sl1, dO1, dD1, dA1, dB1, dI1, kn1, me1, xr1, ai1, ao1, on1, pg1, oo1, od1, oa1, ob1, om1, bs1, bl1, bo1, hd1, ct1, un1⟩ := u1
        exact kM.2.1.1
      have y1 := yRn_1 (T := tr) ys tds
      have R1 : hR hV (t + 1) (xfin u1) (yfin v') := kM.1
      have xw : ∀ Q : SX → Prop, Q (xfin u1) → wpX_execute Q (pc, nx, md, tm, cp, tr, st, en, vc, p0, sc, ca, va, tb, ih, ic, oc, tn, sl, dO, dD, dA, dB, dI, kn, me, yr, ai, ao, on, pg, oo, od, oa, ob, om, bs, bl, bo, hd, ct, un) (nI o) (nI r) (nI a) (nI b') (om (8 * b + i)) := kX
      by_cases c : slOf (xfin u1) = 0 ∧ trOf (xfin u1) = tr
      · obtain ⟨k1, k2, k3⟩ := dJ_nc (b := b) (w := w) (n := n) (T0 := tr) (D := D) (K := K) (C := C) (i := i) kN ⟨j1, rfl, j3, j4, j5, j6⟩ hw h16 (by omega) (g1 (by omega)) s8 s9 yr rfl V3 c.1 c.2
        obtain ⟨s, u', v2, T', q1, q2, q3, q4, q5, q6⟩ := IH (i + 1) (t + 1) (xfin u1) (yfin v') (yfin v') (by omega) (by omega) k1 k2 (yS0_R k1 k2 (by omega) (by omega))
        rw [k3, Int32.add_zero] at y1
        refine ⟨1 + s, u', v2, T', by omega, by omega, by rw [← Nat.add_assoc]; exact q3, q4, yRn_app q5 y1, fun P hP => ?_⟩
        rw [← Nat.add_assoc] at hP
        have q7 := q6 P hP
        exact x_91 hb (by omega) hn e1 e2 e3 e4 xw (dK_go (nI_ge (by omega) (by omega)) c.1 c.2 q7)
      · refine ⟨1, xfin u1, yfin v', tr + tdOf (yfin v'), by omega, by omega, R1, trs, y1, fun P hP => ?_⟩
        exact x_91 hb (by omega) hn e1 e2 e3 e4 xw (dK_stop (nI_ge (by omega) (by omega)) c hP)

end
end
section
/-! X: dispatch -/
section
variable {pc nx md tm cp tr st en vc p0 sc ca va tb ih ic oc tn sl dO dD dA dB dI kn td tc tv ny wh : Int32} {me xr ai ao on pg oo od oa ob om bs bl bo hd ct un wt yo : Nat → Int32}
theorem ls_one {t : Nat} (ht : t < 2 ^ 31) (G : hG t md st en tm tb ih ic oc tn me ai ao on pg oo od oa ob om bs bl bo hd ct wt yo) (h0 : xr 0 = 0) (w : Int32) : ∃ (u' : SX) (v' : SY),
    (∀ P : SX → Prop, P u' → wpX_execute P (pc, nx, md, tm, cp, tr, st, en, vc, p0, sc, ca, va, tb, ih, ic, oc, tn, sl, dO, dD, dA, dB, dI, kn, me, xr, ai, ao, on, pg, oo, od, oa, ob, om, bs, bl, bo, hd, ct, un) (nI (kO w)) (nI (kD w)) (nI (kA w)) (nI (kB w)) (kI w)) ∧
    (∀ Q : SY → Prop, Q v' → wpY_execute Q (pc, md, st, en, vc, sc, p0, ca, va, tb, tm, cp, ic, oc, 0, tc, tv, pc + 4, wh, me, xr, wt, yo) w) ∧ hR hV (t + 1) u' (yfin v') ∧ trOf u' = tr + tdOf (yfin v') ∧ (tdOf (yfin v') = 0 ∨ tdOf (yfin v') = 1) := by
  by_cases hc : isC (kO w)
  · have hr := kO_r w
    have hC' := hc
    unfold isC at hC'
    refine ⟨(pc + 4, pc + 4, md, tm + 1, cp, tr, st, en, vc, p0, sc, ca, va, tb, ih, ic, oc, tn, sl, dO, dD, dA, dB, dI, kn, me, cx (kO w) (kD w) (kA w) (kB w) (kI w) pc xr, ai, ao, on, pg, oo, od, oa, ob, om, bs, bl, bo, hd, ct, un), (pc, md, st, en, vc, sc, p0, ca, va, tb, tm, cp, ic, oc, 0, tc, tv, pc + 4, wh, me, cx (kO w) (kD w) (kA w) (kB w) (kI w) pc xr, wt, yo), fun P hP => ?_, fun Q hQ => y_exec (yX_c hc) Q hQ, ⟨⟨rfl, rfl, rfl, rfl, rfl, rfl, rfl, rfl, rfl, rfl, rfl, rfl, rfl, rfl, rfl⟩, ⟨rfl, ?_⟩, hG_s G⟩, (Int32.add_zero tr).symm, Or.inl rfl⟩
    · exact x_exec (u1 := (pc, pc + 4, md, tm, cp, tr, st, en, vc, p0, sc, ca, va, tb, ih, ic, oc, tn, sl, dO, dD, dA, dB, dI, kn, me, cx (kO w) (kD w) (kA w) (kB w) (kI w) pc xr, ai, ao, on, pg, oo, od, oa, ob, om, bs, bl, bo, hd, ct, un)) (by omega) (kD_lt w) (kA_lt w) (kB_lt w) ⟨fun _ => rfl, fun y y2 => absurd (And.intro y y2) (by omega), fun y y2 => absurd (And.intro y y2) (by omega), fun y y2 => absurd (And.intro y y2) (by omega), fun y y2 => absurd (And.intro y y2) (by omega), fun y => absurd y (by omega), fun y => absurd y (by omega)⟩ P hP
    · by_cases q : kO w = 1 ∨ kO w = 2 ∨ 32 ≤ kO w
      · rw [cx_cv q]; exact rs_0 h0
      · rw [cx_i q]; exact h0
  · obtain ⟨u1, v', kX, kY, kM⟩ := ls_nc (pc := pc) (nx := nx) (md := md) (tm := tm) (cp := cp) (tr := tr) (st := st) (en := en) (vc := vc) (p0 := p0) (sc := sc) (ca := ca) (va := va) (tb := tb) (ih := ih) (ic := ic) (oc := oc) (tn := tn) (sl := sl) (dO := dO) (dD := dD) (dA := dA) (dB := dB) (dI := dI) (kn := kn) (me := me) (xr := xr) (ai := ai) (ao := ao) (on := on) (pg := pg) (oo := oo) (od := od) (oa := oa) (ob := ob) (om := om) (bs := bs) (bl := bl) (bo := bo) (hd := hd) (ct := ct) (un := un) (tc := tc) (tv := tv) (wh := wh) (wt := wt) (yo := yo) ht G h0 w hc
    refine ⟨xfin u1, v', kX, kY, kM.1, ?_, ?_⟩
    · rw [td_fin]
      obtain ⟨pc2, md2, st2, en2, vc2, sc2, p02, ca2, va2, tb2, tm2, cp2, ic2, oc2, td2, tc2, tv2, ny2, wh2, me2, xr2, wt2, yo2⟩ := v'
      obtain ⟨pc1, nx1, md1, tm1, cp1, tr1, st1, en1, vc1, p01, sc1, ca1, va1, tb1, ih1, ic1, oc1, tn1, sl1, dO1, dD1, dA1, dB1, dI1, kn1, me1, xr1, ai1, ao1, on1, pg1, oo1, od1, oa1, ob1, om1, bs1, bl1, bo1, hd1, ct1, un1⟩ := u1
      exact kM.2.1.1
    · rw [td_fin]
      obtain ⟨pc2, md2, st2, en2, vc2, sc2, p02, ca2, va2, tb2, tm2, cp2, ic2, oc2, td2, tc2, tv2, ny2, wh2, me2, xr2, wt2, yo2⟩ := v'
      obtain ⟨pc1, nx1, md1, tm1, cp1, tr1, st1, en1, vc1, p01, sc1, ca1, va1, tb1, ih1, ic1, oc1, tn1, sl1, dO1, dD1, dA1, dB1, dI1, kn1, me1, xr1, ai1, ao1, on1, pg1, oo1, od1, oa1, ob1, om1, bs1, bl1, bo1, hd1, ct1, un1⟩ := u1
      exact kM.2.1.2
theorem ls_14 {t w U b : Nat} {v0 : SY} (ht : t + 200 < 2 ^ 31) (G : hG t md st en tm tb ih ic oc tn me ai ao on pg oo od oa ob om bs bl bo hd ct wt yo) (h0 : xr 0 = 0) (hw : w < 256) (hb : b < 24) (hbo : bo w = nI (b + 1)) (HF : hF md tb pc me (4 * w)) (Y0 : yS0 (4 * w) v0 (pc, md, st, en, vc, sc, p0, ca, va, tb, tm, cp, ic, oc, td, tc, tv, ny, wh, me, xr, wt, yo)) (hU : 0 < U) (hU2 : U ≤ 100) (ha : ar md st en → (t : Int) + U ≤ cp.toInt) :
    ∃ (s : Nat) (u' : SX) (v' : SY) (T' : Int32), 0 < s ∧ s ≤ U ∧ hR hV (t + s) u' v' ∧ trOf u' = T' ∧ yRn s v0 tr v' T' ∧
      ∀ P : Int32 → SX → Prop, P (nI s) u' → wX_dispatch_14 P (nI w) (nI U) pc nx md tm cp tr st en vc p0 sc ca va tb ih ic oc tn sl dO dD dA dB dI kn me xr ai ao on pg oo od oa ob om bs bl bo hd ct un := by
  have vw : vp_in (nI w) 256 := vp_in_nI hw (by omega)
  have vb : vp_in (nI b) 24 := vp_in_nI hb (by omega)
  have cb : (nI b).toNatClampNeg = b := nI_clamp (by omega)
  have cw : (nI w).toNatClampNeg = w := nI_clamp (by omega)
  have hw4 : 4 * w / 4 = w := by omega
  obtain ⟨S, L, H, HC⟩ := G.2.2.2.2.2.1
  have hLS : 0 < L b ∧ S b = w := by
    rcases H.2.1 w hw with z | ⟨c, c1, c2, c3, c4⟩
    · rw [hbo, ← nI_0, nI_eq (by omega) (by omega)] at z; omega
    · rw [hbo, nI_eq (by omega) (by omega)] at c2
      obtain rfl : b = c := by omega
      exact ⟨c3, c4⟩
  obtain ⟨hL0, hS⟩ := hLS
  obtain ⟨k1, k2, k3⟩ := H.1 b hb
  obtain ⟨k4, k5, k6⟩ := k3 hL0
  have e0 : bo w - 1 = nI b := by rw [hbo]; exact nI_pred b
  by_cases c : L b ≤ U
  · have B := HC b hb hL0
    rw [hS] at B k5
    obtain ⟨B1, B2, D, K, C, B3, B4, B5, B6⟩ := B
    obtain ⟨s, u', v', T', q1, q2, q3, q4, q5, q6⟩ := ls_block (b := b) (w := w) (n := L b) (T0 := tr) (D := D) (K := K) (C := C) hb (by omega) B2 B1 B4 (L b - 1) 0 t (pc, nx, md, tm, cp, tr, st, en, vc, p0, sc, ca, va, tb, ih, ic, oc, tn, 0, dO, dD, dA, dB, dI, kn, me, xr, ai, ao, on, pg, oo, od, oa, ob, om, bs, bl, bo, hd, ct, un) (pc, md, st, en, vc, sc, p0, ca, va, tb, tm, cp, ic, oc, td, tc, tv, ny, wh, me, xr, wt, yo) v0 (by omega) (by omega)
      ⟨⟨rfl, rfl, rfl, rfl, rfl, rfl, rfl, rfl, rfl, rfl, rfl, rfl, rfl, rfl, rfl⟩, ⟨fun _ _ => rfl, h0, fun r hr => by obtain ⟨z1, z2⟩ := B5 r hr; rw [z1] at z2 ⊢; rw [z2]; exact h0⟩, G⟩
      ⟨rfl, rfl, fun j _ hj => B6 j hj, fun j hj z => by
        rw [H.2.2 (w + j) (by omega), ← nI_0, nI_eq (by have := cn_le S L (w + j) 24; omega) (by omega)] at z
        have := cn_pos (S := S) (L := L) (j := w + j) hb (by omega) (by omega)
        omega, HF, fun z => by have := ha z; omega⟩ Y0
    refine ⟨s, u', v', T', q1, by omega, q3, q4, q5, fun P hP => ?_⟩
    rw [Nat.zero_add] at q6
    unfold wX_dispatch_14
    rw [cw]
    refine ⟨vw, nm_r e0 ⟨vb, ?_⟩⟩
    rw [cb, k1]
    refine br_t (nI_le c (by omega)) ⟨vb, nm_e ⟨L b - 1 + 1, q6 P hP⟩⟩
  · obtain ⟨u', v', kX, kY, kR, kT, kd⟩ := ls_one (pc := pc) (nx := nx) (md := md) (tm := tm) (cp := cp) (tr := tr) (st := st) (en := en) (vc := vc) (p0 := p0) (sc := sc) (ca := ca) (va := va) (tb := tb) (ih := ih) (ic := ic) (oc := oc) (tn := tn) (sl := sl) (dO := nI (kO (me w))) (dD := nI (kD (me w))) (dA := nI (kA (me w))) (dB := nI (kB (me w))) (dI := kI (me w)) (kn := kn) (me := me) (xr := xr) (ai := ai) (ao := ao) (on := on) (pg := pg) (oo := oo) (od := od) (oa := oa) (ob := ob) (om := om) (bs := bs) (bl := bl) (bo := bo) (hd := hd) (ct := ct) (un := un) (tc := tc) (tv := tv) (wh := nI (4 * w)) (wt := wt) (yo := yo) (by omega) G h0 (me w)
    have ys : ∀ Q : SY → Prop, Q (yfin v') → wpY_step Q v0 := Y0 v' (by rw [hw4]; exact kY)
    refine ⟨1, u', yfin v', tr + tdOf (yfin v'), by omega, by omega, kR, kT, yRn_1 ys kd, fun P hP => ?_⟩
    unfold wX_dispatch_14
    rw [cw]
    refine ⟨vw, nm_r e0 ⟨vb, ?_⟩⟩
    rw [cb, k1]
    refine br_f (nI_ge (by omega) (by omega)) ⟨vw, x_decode _ (kX _ ?_)⟩
    obtain ⟨pc1, nx1, md1, tm1, cp1, tr1, st1, en1, vc1, p01, sc1, ca1, va1, tb1, ih1, ic1, oc1, tn1, sl1, dO1, dD1, dA1, dB1, dI1, kn1, me1, xr1, ai1, ao1, on1, pg1, oo1, od1, oa1, ob1, om1, bs1, bl1, bo1, hd1, ct1, un1⟩ := u'
    exact hP
theorem ls_disp {t w U : Nat} {v0 : SY} (ht : t + 200 < 2 ^ 31) (G : hG t md st en tm tb ih ic oc tn me ai ao on pg oo od oa ob om bs bl bo hd ct wt yo) (h0 : xr 0 = 0) (hw : w < 256) (HF : hF md tb pc me (4 * w)) (Y0 : yS0 (4 * w) v0 (pc, md, st, en, vc, sc, p0, ca, va, tb, tm, cp, ic, oc, td, tc, tv, ny, wh, me, xr, wt, yo)) (hU : 0 < U) (hU2 : U ≤ 100) (ha : ar md st en → (t : Int) + U ≤ cp.toInt) :
    ∃ (s : Nat) (u' : SX) (v' : SY) (T' : Int32), 0 < s ∧ s ≤ U ∧ hR hV (t + s) u' v' ∧ trOf u' = T' ∧ yRn s v0 tr v' T' ∧
      ∀ P : Int32 → SX → Prop, P (nI s) u' → wpX_dispatch P (pc, nx, md, tm, cp, tr, st, en, vc, p0, sc, ca, va, tb, ih, ic, oc, tn, sl, dO, dD, dA, dB, dI, kn, me, xr, ai, ao, on, pg, oo, od, oa, ob, om, bs, bl, bo, hd, ct, un) (nI w) (nI U) := by
  have vw : vp_in (nI w) 256 := vp_in_nI hw (by omega)
  have cw : (nI w).toNatClampNeg = w := nI_clamp (by omega)
  obtain ⟨S, L, H, HC⟩ := G.2.2.2.2.2.1
  by_cases c : bo w = 0
  · obtain ⟨tn', dO', dD', dA', dB', dI', kn', oo', od', oa', ob', om', bs', bl', bo', hd', ct', un', ⟨k1, k2, b, k3, k4⟩, k5, k6⟩ := x_translate (pc := pc) (nx := nx) (md := md) (tm := tm) (cp := cp) (tr := tr) (st := st) (en := en) (vc := vc) (p0 := p0) (sc := sc) (ca := ca) (va := va) (tb := tb) (ih := ih) (ic := ic) (oc := oc) (tn := tn) (sl := sl) (dO := dO) (dD := dD) (dA := dA) (dB := dB) (dI := dI) (kn := kn) (me := me) (xr := xr) (ai := ai) (ao := ao) (on := on) (pg := pg) (oo := oo) (od := od) (oa := oa) (ob := ob) (om := om) (bs := bs) (bl := bl) (bo := bo) (hd := hd) (ct := ct) (un := un) H HC hw c G.2.2.2.2.2.2.1 G.2.2.2.2.2.2.2
    obtain ⟨s, u', v', T', q1, q2, q3, q4, q5, q6⟩ := ls_14 (pc := pc) (nx := nx) (md := md) (tm := tm) (cp := cp) (tr := tr) (st := st) (en := en) (vc := vc) (p0 := p0) (sc := sc) (ca := ca) (va := va) (tb := tb) (ih := ih) (ic := ic) (oc := oc) (tn := tn') (sl := sl) (dO := dO') (dD := dD') (dA := dA') (dB := dB') (dI := dI') (kn := kn') (me := me) (xr := xr) (ai := ai) (ao := ao) (on := on) (pg := pg) (oo := oo') (od := od') (oa := oa') (ob := ob') (om := om') (bs := bs') (bl := bl') (bo := bo') (hd := hd') (ct := ct') (un := un') (tc := tc) (tv := tv) (wh := wh) (wt := wt) (yo := yo) (td := td) (ny := ny) (U := U) (v0 := v0) ht ⟨G.1, G.2.1, G.2.2.1, G.2.2.2.1, G.2.2.2.2.1, k1, k5, k2⟩ h0 hw k3 k4 HF Y0 hU hU2 ha
    refine ⟨s, u', v', T', q1, q2, q3, q4, q5, fun P hP => ?_⟩
    unfold wpX_dispatch
    dsimp only
    rw [cw]
    exact ⟨vw, br_t c (k6 _ (q6 P hP))⟩
  · obtain ⟨b, hb, hbo⟩ : ∃ b, b < 24 ∧ bo w = nI (b + 1) := by
      rcases H.2.1 w hw with z | ⟨b, z1, z2, _⟩
      · exact absurd z c
      · exact ⟨b, z1, z2⟩
    obtain ⟨s, u', v', T', q1, q2, q3, q4, q5, q6⟩ := ls_14 (pc := pc) (nx := nx) (md := md) (tm := tm) (cp := cp) (tr := tr) (st := st) (en := en) (vc := vc) (p0 := p0) (sc := sc) (ca := ca) (va := va) (tb := tb) (ih := ih) (ic := ic) (oc := oc) (tn := tn) (sl := sl) (dO := dO) (dD := dD) (dA := dA) (dB := dB) (dI := dI) (kn := kn) (me := me) (xr := xr) (ai := ai) (ao := ao) (on := on) (pg := pg) (oo := oo) (od := od) (oa := oa) (ob := ob) (om := om) (bs := bs) (bl := bl) (bo := bo) (hd := hd) (ct := ct) (un := un) (tc := tc) (tv := tv) (wh := wh) (wt := wt) (yo := yo) (td := td) (ny := ny) (U := U) (v0 := v0) ht G h0 hw hb hbo HF Y0 hU hU2 ha
    refine ⟨s, u', v', T', q1, q2, q3, q4, q5, fun P hP => ?_⟩
    unfold wpX_dispatch
    dsimp only
    rw [cw]
    exact ⟨vw, br_f c (q6 P hP)⟩
end
end
section
/-! run -/
section
variable {pc nx md tm cp tr st en vc p0 sc ca va tb ih ic oc tn sl dO dD dA dB dI kn td tc tv ny wh : Int32} {me xr ai ao on pg oo od oa ob om bs bl bo hd ct un wt yo : Nat → Int32}
theorem x_arm {post : Int32 → SX → Prop} {n l : Nat} (hl : 0 < l) (hl2 : l ≤ 100) (h1 : ar md st en → wX_run_51 post (wX_run_18 post n) (nI l) 1 pc nx md tm cp tr st en vc p0 sc ca va tb ih ic oc tn sl dO dD dA dB dI kn me xr ai ao on pg oo od oa ob om bs bl bo hd ct un) (h0 : ¬ ar md st en → wX_run_51 post (wX_run_18 post n) (nI l) 0 pc nx md tm cp tr st en vc p0 sc ca va tb ih ic oc tn sl dO dD dA dB dI kn me xr ai ao on pg oo od oa ob om bs bl bo hd ct un) : wX_run_18 post (n + 1) (nI l) pc nx md tm cp tr st en vc p0 sc ca va tb ih ic oc tn sl dO dD dA dB dI kn me xr ai ao on pg oo od oa ob om bs bl bo hd ct un := by
  unfold ar at h1 h0
  refine br_f (nI_nle hl (by omega)) (br_c (fun e => h0 (fun z => z.1 e)) (fun e => br_c (fun e2 => h1 ⟨e, Or.inl e2⟩) (fun e2 => br_c (fun e3 => h0 (fun z => ?_)) (fun e3 => h1 ⟨e, Or.inr e3⟩))))
  rcases z.2 with y | y
  · exact e2 y
  · exact y e3
/-- the fetch, and the block or the trap behind it -/
theorem ls_84 {t l : Nat} (ht : t + 300 < 2 ^ 31) (hl : 0 < l) (hl2 : l ≤ 100) (G : hG t md st en tm tb ih ic oc tn me ai ao on pg oo od oa ob om bs bl bo hd ct wt yo) (h0 : xr 0 = 0) (z : Int32) (hz : z = 0 ∧ ¬ ar md st en ∨ z = 1 ∧ tm < cp) :
    ∃ (s : Nat) (u' : SX) (v' : SY) (T' : Int32), 0 < s ∧ s ≤ l ∧ hR hV (t + s) u' v' ∧ trOf u' = T' ∧ yRn s (pc, md, st, en, vc, sc, p0, ca, va, tb, tm, cp, ic, oc, td, tc, tv, ny, wh, me, xr, wt, yo) tr v' T' ∧
      ∀ (post : Int32 → SX → Prop) (n : Nat), (match u' with | (pc, nx, md, tm, cp, tr, st, en, vc, p0, sc, ca, va, tb, ih, ic, oc, tn, sl, dO, dD, dA, dB, dI, kn, me, xr, ai, ao, on, pg, oo, od, oa, ob, om, bs, bl, bo, hd, ct, un) => wX_run_18 post n (nI (l - s)) pc nx md tm cp tr st en vc p0 sc ca va tb ih ic oc tn sl dO dD dA dB dI kn me xr ai ao on pg oo od oa ob om bs bl bo hd ct un) → wX_run_84 post (wX_run_18 post n) (nI l) z pc nx md tm cp tr st en vc p0 sc ca va tb ih ic oc tn sl dO dD dA dB dI kn me xr ai ao on pg oo od oa ob om bs bl bo hd ct un := by
  have nint : ¬ (ar md st en ∧ ¬ tm < cp) := by
    intro y
    rcases hz with q | q
    · exact q.2 y.1
    · exact y.2 q.2
  have em1 : nI l + (-1) = nI (l - 1) := by
    rw [← pk_m1 (l - 1)]; congr 2; omega
  obtain ⟨S, L, H, HC⟩ := G.2.2.2.2.2.1
  rcases ls_loc (pc := pc) (nx := nx) (md := md) (tm := tm) (cp := cp) (tr := tr) (st := st) (en := en) (vc := vc) (p0 := p0) (sc := sc) (ca := ca) (va := va) (tb := tb) (ih := ih) (ic := ic) (oc := oc) (tn := tn) (sl := sl) (dO := dO) (dD := dD) (dA := dA) (dB := dB) (dI := dI) (kn := kn) (me := me) (xr := xr) (ai := ai) (ao := ao) (on := on) (pg := pg) (oo := oo) (od := od) (oa := oa) (ob := ob) (om := om) (bs := bs) (bl := bl) (bo := bo) (hd := hd) (ct := ct) (un := un) (tc := tc) (tv := tv) (ny := pc + 4) (wh := wh) (wt := wt) (yo := yo) H HC G.2.2.2.2.1 (k := 0) (s := 4) (by omega) (by omega) pc with ⟨c, hX, hY⟩ | ⟨n, sl', me', on', pg', bl', bo', hd', hn, hns, ⟨L', H1, H2, H3, H4⟩, hf, hX, hY⟩
  · have kM : hM t 0 0 (pc, nx, md, tm, cp, tr, st, en, vc, p0, sc, ca, va, tb, ih, ic, oc, tn, sl, dO, dD, dA, dB, dI, kn, me, xr, ai, ao, on, pg, oo, od, oa, ob, om, bs, bl, bo, hd, ct, un) (pc, vc, 3, tm, cp, tr + 1, xst st md, en, vc, pc, sc, c, pc, tb, ih, ic, oc, tn, sl, dO, dD, dA, dB, dI, kn, me, xr, ai, ao, on, pg, oo, od, oa, ob, om, bs, bl, bo, hd, ct, un) (pc, md, st, en, vc, sc, p0, ca, va, tb, tm, cp, ic, oc, 1, c, pc, pc + 4, pc, me, xr, wt, yo) := hM_tr G h0 G.2.2.2.2.1 G.2.2.2.2.2.1
    have ys : ∀ Q : SY → Prop, Q (yfin (pc, md, st, en, vc, sc, p0, ca, va, tb, tm, cp, ic, oc, 1, c, pc, pc + 4, pc, me, xr, wt, yo)) → wpY_step Q (pc, md, st, en, vc, sc, p0, ca, va, tb, tm, cp, ic, oc, td, tc, tv, ny, wh, me, xr, wt, yo) := fun Q hQ => y_st_go G.1 nint (y_64f hY hQ)
    have y1 := yRn_1 (T := tr) ys (Or.inr (td_fin _))
    rw [td_fin] at y1
    refine ⟨1, _, _, _, by omega, by omega, kM.1, rfl, y1, fun post k h => ?_⟩
    unfold wX_run_84
    exact hX _ (br_f (by decide) (nm_e (nm_r em1 h)))
  · have hn' : n < 1024 := by
      rcases hn with y | y
      · exact y
      · exact absurd y.1 (by omega)
    have HF := hf rfl rfl
    have e4 : 4 * (n / 4) = n := by omega
    rw [← e4] at HF
    have Y0 : yS0 (4 * (n / 4)) (pc, md, st, en, vc, sc, p0, ca, va, tb, tm, cp, ic, oc, td, tc, tv, ny, wh, me, xr, wt, yo) (pc, md, st, en, vc, sc, p0, ca, va, tb, tm, cp, ic, oc, td, tc, tv, ny, wh, me', xr, wt, yo) := by
      rw [e4]
      intro v' hv Q hQ
      exact y_st_go G.1 nint (y_64 hn' hY hv hQ)
    have G1 : hG t md st en tm tb ih ic oc tn me' ai ao on' pg' oo od oa ob om bs bl' bo' hd' ct wt yo := ⟨G.1, G.2.1, G.2.2.1, G.2.2.2.1, H3, ⟨S, L', H1, H2⟩, G.2.2.2.2.2.2⟩
    -- how far
    obtain ⟨U, hU, hUl, hUa, hUX⟩ : ∃ U : Nat, 0 < U ∧ U ≤ l ∧ (ar md st en → (t : Int) + U ≤ cp.toInt) ∧ ∀ (post : Int32 → SX → Prop) (k : Nat), wX_run_147 post (wX_run_18 post k) (nI U) (nI (n / 4)) (nI l) pc nx md tm cp tr st en vc p0 sc ca va tb ih ic oc tn sl' dO dD dA dB dI kn me' xr ai ao on' pg' oo od oa ob om bs bl' bo' hd' ct un →
        ((z = 0 → wX_run_146 post (wX_run_18 post k) (nI l) (nI (n / 4)) (nI l) pc nx md tm cp tr st en vc p0 sc ca va tb ih ic oc tn sl' dO dD dA dB dI kn me' xr ai ao on' pg' oo od oa ob om bs bl' bo' hd' ct un) ∧ (¬ z = 0 → ((nI l ≤ cp - tm → wX_run_146 post (wX_run_18 post k) (nI l) (nI (n / 4)) (nI l) pc nx md tm cp tr st en vc p0 sc ca va tb ih ic oc tn sl' dO dD dA dB dI kn me' xr ai ao on' pg' oo od oa ob om bs bl' bo' hd' ct un) ∧ (¬ nI l ≤ cp - tm → wX_run_147 post (wX_run_18 post k) (cp - tm) (nI (n / 4)) (nI l) pc nx md tm cp tr st en vc p0 sc ca va tb ih ic oc tn sl' dO dD dA dB dI kn me' xr ai ao on' pg' oo od oa ob om bs bl' bo' hd' ct un)))) := by
      rcases hz with ⟨z0, na⟩ | ⟨z1, lt⟩
      · exact ⟨l, hl, by omega, fun y => absurd y na, fun post k h => br_t z0 h⟩
      · have n10 : ¬ z = 0 := by rw [z1]; decide
        have tm_e := G.2.1
        have lt2 := lt
        rw [tm_e, tm_lt (by omega)] at lt2
        obtain ⟨c, hc, ec⟩ : ∃ c : Nat, c < 2 ^ 31 ∧ cp = nI c := by
          refine nI_of ?_
          rw [Int32.lt_iff_toInt_lt]
          have h0' : (0 : Int32).toInt = 0 := by decide
          rw [h0']; omega
        have ci : cp.toInt = (c : Int) := by rw [ec]; exact nI_toInt hc
        have es : cp - tm = nI (c - t) := by rw [ec, tm_e]; exact pk_sub (by omega)
        by_cases cl : l ≤ c - t
        · refine ⟨l, hl, by omega, fun _ => by omega, fun post k h => br_f n10 ?_⟩
          rw [es]
          exact br_t (nI_le cl (by omega)) h
        · refine ⟨c - t, by omega, by omega, fun _ => by omega, fun post k h => br_f n10 ?_⟩
          rw [es]
          exact br_f (nI_ge (by omega) (by omega)) h
    obtain ⟨s, u', v', T', q1, q2, q3, q4, q5, q6⟩ := ls_disp (pc := pc) (nx := nx) (md := md) (tm := tm) (cp := cp) (tr := tr) (st := st) (en := en) (vc := vc) (p0 := p0) (sc := sc) (ca := ca) (va := va) (tb := tb) (ih := ih) (ic := ic) (oc := oc) (tn := tn) (sl := sl') (dO := dO) (dD := dD) (dA := dA) (dB := dB) (dI := dI) (kn := kn) (me := me') (xr := xr) (ai := ai) (ao := ao) (on := on') (pg := pg') (oo := oo) (od := od) (oa := oa) (ob := ob) (om := om) (bs := bs) (bl := bl') (bo := bo') (hd := hd') (ct := ct) (un := un) (tc := tc) (tv := tv) (wh := wh) (wt := wt) (yo := yo) (td := td) (ny := ny) (v0 := (pc, md, st, en, vc, sc, p0, ca, va, tb, tm, cp, ic, oc, td, tc, tv, ny, wh, me, xr, wt, yo)) (w := n / 4) (U := U) (by omega) G1 h0 (by omega) HF Y0 hU (by omega) hUa
    refine ⟨s, u', v', T', q1, by omega, q3, q4, q5, fun post k h => ?_⟩
    have es : nI l - nI s = nI (l - s) := pk_sub (by omega)
    unfold wX_run_84
    refine hX _ (br_t (nI_pos' (by omega)) ?_)
    rw [sh_2 n (by omega)]
    refine hUX post k ?_
    unfold wX_run_147
    refine q6 _ ?_
    obtain ⟨pc1, nx1, md1, tm1, cp1, tr1, st1, en1, vc1, p01, sc1, ca1, va1, tb1, ih1, ic1, oc1, tn1, sl1, dO1, dD1, dA1, dB1, dI1, kn1, me1, xr1, ai1, ao1, on1, pg1, oo1, od1, oa1, ob1, om1, bs1, bl1, bo1, hd1, ct1, un1⟩ := u'
    exact nm_r es h
end
theorem ls_iter {t l : Nat} (ht : t + 300 < 2 ^ 31) (hl : 0 < l) (hl2 : l ≤ 100) {u : SX} {v : SY} (R : hR hV t u v) :
    ∃ (s : Nat) (u' : SX) (v' : SY) (T' : Int32), 0 < s ∧ s ≤ l ∧ hR hV (t + s) u' v' ∧ trOf u' = T' ∧ yRn s v (trOf u) v' T' ∧
      ∀ (post : Int32 → SX → Prop) (n : Nat), (match u' with | (pc, nx, md, tm, cp, tr, st, en, vc, p0, sc, ca, va, tb, ih, ic, oc, tn, sl, dO, dD, dA, dB, dI, kn, me, xr, ai, ao, on, pg, oo, od, oa, ob, om, bs, bl, bo, hd, ct, un) => wX_run_18 post n (nI (l - s)) pc nx md tm cp tr st en vc p0 sc ca va tb ih ic oc tn sl dO dD dA dB dI kn me xr ai ao on pg oo od oa ob om bs bl bo hd ct un) → (match u with | (pc, nx, md, tm, cp, tr, st, en, vc, p0, sc, ca, va, tb, ih, ic, oc, tn, sl, dO, dD, dA, dB, dI, kn, me, xr, ai, ao, on, pg, oo, od, oa, ob, om, bs, bl, bo, hd, ct, un) => wX_run_18 post (n + 1) (nI l) pc nx md tm cp tr st en vc p0 sc ca va tb ih ic oc tn sl dO dD dA dB dI kn me xr ai ao on pg oo od oa ob om bs bl bo hd ct un) := by
  refine hR_el (Pr := fun u v => ∃ (s : Nat) (u' : SX) (v' : SY) (T' : Int32), 0 < s ∧ s ≤ l ∧ hR hV (t + s) u' v' ∧ trOf u' = T' ∧ yRn s v (trOf u) v' T' ∧
      ∀ (post : Int32 → SX → Prop) (n : Nat), (match u' with | (pc, nx, md, tm, cp, tr, st, en, vc, p0, sc, ca, va, tb, ih, ic, oc, tn, sl, dO, dD, dA, dB, dI, kn, me, xr, ai, ao, on, pg, oo, od, oa, ob, om, bs, bl, bo, hd, ct, un) => wX_run_18 post n (nI (l - s)) pc nx md tm cp tr st en vc p0 sc ca va tb ih ic oc tn sl dO dD dA dB dI kn me xr ai ao on pg oo od oa ob om bs bl bo hd ct un) → (match u with | (pc, nx, md, tm, cp, tr, st, en, vc, p0, sc, ca, va, tb, ih, ic, oc, tn, sl, dO, dD, dA, dB, dI, kn, me, xr, ai, ao, on, pg, oo, od, oa, ob, om, bs, bl, bo, hd, ct, un) => wX_run_18 post (n + 1) (nI l) pc nx md tm cp tr st en vc p0 sc ca va tb ih ic oc tn sl dO dD dA dB dI kn me xr ai ao on pg oo od oa ob om bs bl bo hd ct un)) R ?_
  intro pc nx md tm cp tr st en vc p0 sc ca va tb ih ic oc tn sl dO dD dA dB dI kn td tc tv ny wh me xr ai ao on pg oo od oa ob om bs bl bo hd ct un wt yo yr V G
  obtain ⟨V1, h0⟩ := V
  subst V1
  have n10 : ¬ (1 : Int32) = 0 := by decide
  by_cases a : ar md st en
  · by_cases c : tm < cp
    · obtain ⟨s, u', v', T', q1, q2, q3, q4, q5, q6⟩ := ls_84 (pc := pc) (nx := nx) (md := md) (tm := tm) (cp := cp) (tr := tr) (st := st) (en := en) (vc := vc) (p0 := p0) (sc := sc) (ca := ca) (va := va) (tb := tb) (ih := ih) (ic := ic) (oc := oc) (tn := tn) (sl := sl) (dO := dO) (dD := dD) (dA := dA) (dB := dB) (dI := dI) (kn := kn) (me := me) (xr := yr) (ai := ai) (ao := ao) (on := on) (pg := pg) (oo := oo) (od := od) (oa := oa) (ob := ob) (om := om) (bs := bs) (bl := bl) (bo := bo) (hd := hd) (ct := ct) (un := un) (td := td) (tc := tc) (tv := tv) (ny := ny) (wh := wh) (wt := wt) (yo := yo) ht hl hl2 G h0 1 (Or.inr ⟨rfl, c⟩)
      refine ⟨s, u', v', T', q1, q2, q3, q4, q5, fun post n h => ?_⟩
      exact x_arm hl hl2 (fun _ => br_f n10 (br_t c (q6 post n h))) (fun z => absurd a z)
    · have kM : hM t 0 0 (pc, nx, md, tm, cp, tr, st, en, vc, p0, sc, ca, va, tb, ih, ic, oc, tn, sl, dO, dD, dA, dB, dI, kn, me, yr, ai, ao, on, pg, oo, od, oa, ob, om, bs, bl, bo, hd, ct, un) (pc, vc, 3, tm, cp, tr + 1, xst st md, en, vc, pc, sc, -2147483641, 0, tb, ih, ic, oc, tn, sl, dO, dD, dA, dB, dI, kn, me, yr, ai, ao, on, pg, oo, od, oa, ob, om, bs, bl, bo, hd, ct, un) (pc, md, st, en, vc, sc, p0, ca, va, tb, tm, cp, ic, oc, 1, -2147483641, 0, ny, wh, me, yr, wt, yo) := hM_tr G h0 G.2.2.2.2.1 G.2.2.2.2.2.1
      have ys : ∀ Q : SY → Prop, Q (yfin (pc, md, st, en, vc, sc, p0, ca, va, tb, tm, cp, ic, oc, 1, -2147483641, 0, ny, wh, me, yr, wt, yo)) → wpY_step Q (pc, md, st, en, vc, sc, p0, ca, va, tb, tm, cp, ic, oc, td, tc, tv, ny, wh, me, yr, wt, yo) := fun Q hQ => y_st_int G.1 a c hQ
      have y1 := yRn_1 (T := tr) ys (Or.inr (td_fin _))
      rw [td_fin] at y1
      have em1 : nI l + (-1) = nI (l - 1) := by
        rw [← pk_m1 (l - 1)]; congr 2; omega
      refine ⟨1, _, _, _, by omega, by omega, kM.1, rfl, y1, fun post n h => ?_⟩
      exact x_arm hl hl2 (fun _ => br_f n10 (br_f c (x_trap (nm_e (nm_r em1 h))))) (fun z => absurd a z)
  · obtain ⟨s, u', v', T', q1, q2, q3, q4, q5, q6⟩ := ls_84 (pc := pc) (nx := nx) (md := md) (tm := tm) (cp := cp) (tr := tr) (st := st) (en := en) (vc := vc) (p0 := p0) (sc := sc) (ca := ca) (va := va) (tb := tb) (ih := ih) (ic := ic) (oc := oc) (tn := tn) (sl := sl) (dO := dO) (dD := dD) (dA := dA) (dB := dB) (dI := dI) (kn := kn) (me := me) (xr := yr) (ai := ai) (ao := ao) (on := on) (pg := pg) (oo := oo) (od := od) (oa := oa) (ob := ob) (om := om) (bs := bs) (bl := bl) (bo := bo) (hd := hd) (ct := ct) (un := un) (td := td) (tc := tc) (tv := tv) (ny := ny) (wh := wh) (wt := wt) (yo := yo) ht hl hl2 G h0 0 (Or.inl ⟨rfl, a⟩)
    refine ⟨s, u', v', T', q1, q2, q3, q4, q5, fun post n h => ?_⟩
    exact x_arm hl hl2 (fun z => absurd z a) (fun _ => br_t rfl (q6 post n h))
theorem ls_run : ∀ (m t l : Nat) (u : SX) (v : SY), l ≤ m → l ≤ 100 → t + l + 300 < 2 ^ 31 → hR hV t u v →
    ∃ (u' : SX) (v' : SY) (T' : Int32) (n : Nat), hR hV (t + l) u' v' ∧ trOf u' = T' ∧ yRn l v (trOf u) v' T' ∧
      ∀ post : Int32 → SX → Prop, post T' u' → (match u with | (pc, nx, md, tm, cp, tr, st, en, vc, p0, sc, ca, va, tb, ih, ic, oc, tn, sl, dO, dD, dA, dB, dI, kn, me, xr, ai, ao, on, pg, oo, od, oa, ob, om, bs, bl, bo, hd, ct, un) => wX_run_18 post n (nI l) pc nx md tm cp tr st en vc p0 sc ca va tb ih ic oc tn sl dO dD dA dB dI kn me xr ai ao on pg oo od oa ob om bs bl bo hd ct un) := by
  intro m
  induction m with
  | zero =>
    intro t l u v h1 h2 h3 R
    obtain rfl : l = 0 := by omega
    refine ⟨u, v, trOf u, 1, R, rfl, ⟨rfl, rfl⟩, fun post h => ?_⟩
    obtain ⟨pc, nx, md, tm, cp, tr, st, en, vc, p0, sc, ca, va, tb, ih, ic, oc, tn, sl, dO, dD, dA, dB, dI, kn, me, xr, ai, ao, on, pg, oo, od, oa, ob, om, bs, bl, bo, hd, ct, un⟩ := u
    exact br_t (by decide) h
  | succ m IH =>
    intro t l u v h1 h2 h3 R
    by_cases hl : l = 0
    · exact IH t l u v (by omega) h2 h3 R
    · obtain ⟨s, u1, v1, T1, q1, q2, q3, q4, q5, q6⟩ := ls_iter (t := t) (l := l) (by omega) (by omega) h2 R
      obtain ⟨u', v', T', n, k1, k2, k3, k4⟩ := IH (t + s) (l - s) u1 v1 (by omega) (by omega) (by omega) q3
      rw [q4] at k3
      refine ⟨u', v', T', n + 1, ?_, k2, ?_, fun post h => q6 post n (k4 post h)⟩
      · have e : t + s + (l - s) = t + l := by omega
        rw [e] at k1; exact k1
      · have e : s + (l - s) = l := by omega
        have := yRn_app k3 q5
        rw [e] at this; exact this
end
section
/-! reset -/
def zr (i : Nat) (f : Nat → Int32) : Nat → Int32 := fun j => if j < i then 0 else f j
theorem zr_0 (f : Nat → Int32) : zr 0 f = f := by funext j; show (if j < 0 then 0 else f j) = f j; rw [if_neg (by omega)]
theorem zr_s (i : Nat) (f : Nat → Int32) : upd (zr i f) i 0 = zr (i + 1) f := by
  funext j
  show (if j = i then 0 else (if j < i then 0 else f j)) = (if j < i + 1 then 0 else f j)
  by_cases e : j = i
  · rw [if_pos e, if_pos (by omega)]
  · rw [if_neg e]
    by_cases z : j < i
    · rw [if_pos z, if_pos (by omega)]
    · rw [if_neg z, if_neg (by omega)]
theorem zr_z {i j : Nat} {f : Nat → Int32} (h : j < i) : zr i f j = 0 := if_pos h
theorem cn_0 (j m : Nat) : cn (fun _ => 0) (fun _ => 0) j m = 0 := by
  induction m with
  | zero => rfl
  | succ m IH => show cn (fun _ => 0) (fun _ => 0) j m + _ = 0; rw [IH, if_neg (show ¬ ((0 : Nat) ≤ j ∧ j < 0 + 0) by omega)]
section
variable {pc nx md tm cp tr st en vc p0 sc ca va tb ih ic oc tn sl dO dD dA dB dI kn td tc tv ny wh : Int32} {me xr ai ao on pg oo od oa ob om bs bl bo hd ct un wt yo : Nat → Int32}
theorem xz_59 {post : SX → Prop} (h : post (0, nx, 3, 0, 2147483647, tr, 0, 0, 0, 0, 0, 0, 0, 0, 0, 0, 0, 0, sl, dO, dD, dA, dB, dI, kn, me, xr, ai, ao, on, pg, oo, od, oa, ob, om, bs, zr 24 bl, bo, hd, ct, un)) : ∀ (d i : Nat), i + d = 24 → wX_reset_59 post pc nx md tm cp tr st en vc p0 sc ca va tb ih ic oc tn sl dO dD dA dB dI kn (d + 1) (nI i) me xr ai ao on pg oo od oa ob om bs (zr i bl) bo hd ct un := by
  intro d
  induction d with
  | zero =>
    intro i hi
    obtain rfl : i = 24 := by omega
    exact br_t (by decide) h
  | succ d IH =>
    intro i hi
    refine br_f (nI_ge (b := 24) (by omega) (by omega)) ⟨vp_in_nI (by omega) (by omega), ?_⟩
    rw [nI_clamp (by omega), na_b0, zr_s]
    exact nm_e (nm_r (nI_1 i) (IH (i + 1) (by omega)))
theorem xz_38 {post : SX → Prop} (h : wX_reset_59 post pc nx md tm cp tr st en vc p0 sc ca va tb ih ic oc tn sl dO dD dA dB dI kn 25 0 me (zr 32 xr) ai ao on pg oo od oa ob om bs bl bo hd ct un) : ∀ (d i : Nat), i + d = 32 → wX_reset_38 post pc nx md tm cp tr st en vc p0 sc ca va tb ih ic oc tn sl dO dD dA dB dI kn (d + 1) (nI i) me (zr i xr) ai ao on pg oo od oa ob om bs bl bo hd ct un := by
  intro d
  induction d with
  | zero =>
    intro i hi
    obtain rfl : i = 32 := by omega
    exact br_t (by decide) ⟨25, h⟩
  | succ d IH =>
    intro i hi
    refine br_f (nI_ge (b := 32) (by omega) (by omega)) ⟨vp_in_nI (by omega) (by omega), ?_⟩
    rw [nI_clamp (by omega), zr_s]
    exact nm_e (nm_r (nI_1 i) (IH (i + 1) (by omega)))
theorem xz_2 {post : SX → Prop} (h : wX_reset_38 post pc nx md tm cp tr st en vc p0 sc ca va tb ih ic oc tn sl dO dD dA dB dI kn 33 0 (zr 256 me) xr ai ao on pg oo od oa ob om bs bl (zr 256 bo) (zr 256 hd) ct un) : ∀ (d i : Nat), i + d = 256 → wX_reset_2 post pc nx md tm cp tr st en vc p0 sc ca va tb ih ic oc tn sl dO dD dA dB dI kn (d + 1) (nI i) (zr i me) xr ai ao on pg oo od oa ob om bs bl (zr i bo) (zr i hd) ct un := by
  intro d
  induction d with
  | zero =>
    intro i hi
    obtain rfl : i = 256 := by omega
    exact br_t (by decide) ⟨33, h⟩
  | succ d IH =>
    intro i hi
    have vi : vp_in (nI i) 256 := vp_in_nI (by omega) (by omega)
    refine br_f (nI_ge (b := 256) (by omega) (by omega)) ⟨vi, ?_⟩
    rw [nI_clamp (by omega), na_b0, zr_s, zr_s, zr_s]
    exact nm_e ⟨vi, nm_e ⟨vi, nm_e (nm_r (nI_1 i) (IH (i + 1) (by omega)))⟩⟩
theorem x_reset {post : SX → Prop} (h : post (0, nx, 3, 0, 2147483647, tr, 0, 0, 0, 0, 0, 0, 0, 0, 0, 0, 0, 0, sl, dO, dD, dA, dB, dI, kn, zr 256 me, zr 32 xr, ai, ao, on, pg, oo, od, oa, ob, om, bs, zr 24 bl, zr 256 bo, zr 256 hd, ct, un)) : wpX_reset post (pc, nx, md, tm, cp, tr, st, en, vc, p0, sc, ca, va, tb, ih, ic, oc, tn, sl, dO, dD, dA, dB, dI, kn, me, xr, ai, ao, on, pg, oo, od, oa, ob, om, bs, bl, bo, hd, ct, un) := by
  have k1 := xz_59 (pc := pc) (nx := nx) (md := md) (tm := tm) (cp := cp) (tr := tr) (st := st) (en := en) (vc := vc) (p0 := p0) (sc := sc) (ca := ca) (va := va) (tb := tb) (ih := ih) (ic := ic) (oc := oc) (tn := tn) (sl := sl) (dO := dO) (dD := dD) (dA := dA) (dB := dB) (dI := dI) (kn := kn) (me := zr 256 me) (xr := zr 32 xr) (ai := ai) (ao := ao) (on := on) (pg := pg) (oo := oo) (od := od) (oa := oa) (ob := ob) (om := om) (bs := bs) (bl := bl) (bo := zr 256 bo) (hd := zr 256 hd) (ct := ct) (un := un) h 24 0 rfl
  rw [zr_0, nI_0] at k1
  have k2 := xz_38 (pc := pc) (nx := nx) (md := md) (tm := tm) (cp := cp) (tr := tr) (st := st) (en := en) (vc := vc) (p0 := p0) (sc := sc) (ca := ca) (va := va) (tb := tb) (ih := ih) (ic := ic) (oc := oc) (tn := tn) (sl := sl) (dO := dO) (dD := dD) (dA := dA) (dB := dB) (dI := dI) (kn := kn) (me := zr 256 me) (xr := xr) (ai := ai) (ao := ao) (on := on) (pg := pg) (oo := oo) (od := od) (oa := oa) (ob := ob) (om := om) (bs := bs) (bl := bl) (bo := zr 256 bo) (hd := zr 256 hd) (ct := ct) (un := un) k1 32 0 rfl
  rw [zr_0, nI_0] at k2
  have k3 := xz_2 (pc := pc) (nx := nx) (md := md) (tm := tm) (cp := cp) (tr := tr) (st := st) (en := en) (vc := vc) (p0 := p0) (sc := sc) (ca := ca) (va := va) (tb := tb) (ih := ih) (ic := ic) (oc := oc) (tn := tn) (sl := sl) (dO := dO) (dD := dD) (dA := dA) (dB := dB) (dI := dI) (kn := kn) (me := me) (xr := xr) (ai := ai) (ao := ao) (on := on) (pg := pg) (oo := oo) (od := od) (oa := oa) (ob := ob) (om := om) (bs := bs) (bl := bl) (bo := bo) (hd := hd) (ct := ct) (un := un) k2 256 0 rfl
  rw [zr_0, zr_0, zr_0, nI_0] at k3
  exact ⟨257, k3⟩
theorem yz_24 {post : SY → Prop} (h : post (0, 3, 0, 0, 0, 0, 0, 0, 0, 0, 0, 2147483647, 0, 0, td, tc, tv, ny, wh, me, zr 32 xr, wt, yo)) : ∀ (d i : Nat), i + d = 32 → wY_reset_24 post pc md st en vc sc p0 ca va tb tm cp ic oc td tc tv ny wh (d + 1) (nI i) me (zr i xr) wt yo := by
  intro d
  induction d with
  | zero =>
    intro i hi
    obtain rfl : i = 32 := by omega
    exact br_t (by decide) h
  | succ d IH =>
    intro i hi
    refine br_f (nI_ge (b := 32) (by omega) (by omega)) ⟨vp_in_nI (by omega) (by omega), ?_⟩
    rw [nI_clamp (by omega), zr_s]
    exact nm_e (nm_r (nI_1 i) (IH (i + 1) (by omega)))
theorem yz_2 {post : SY → Prop} (h : wY_reset_24 post pc md st en vc sc p0 ca va tb tm cp ic oc td tc tv ny wh 33 0 (zr 256 me) xr wt yo) : ∀ (d i : Nat), i + d = 256 → wY_reset_2 post pc md st en vc sc p0 ca va tb tm cp ic oc td tc tv ny wh (d + 1) (nI i) (zr i me) xr wt yo := by
  intro d
  induction d with
  | zero =>
    intro i hi
    obtain rfl : i = 256 := by omega
    exact br_t (by decide) ⟨33, h⟩
  | succ d IH =>
    intro i hi
    refine br_f (nI_ge (b := 256) (by omega) (by omega)) ⟨vp_in_nI (by omega) (by omega), ?_⟩
    rw [nI_clamp (by omega), zr_s]
    exact nm_e (nm_r (nI_1 i) (IH (i + 1) (by omega)))
theorem y_reset {post : SY → Prop} (h : post (0, 3, 0, 0, 0, 0, 0, 0, 0, 0, 0, 2147483647, 0, 0, td, tc, tv, ny, wh, zr 256 me, zr 32 xr, wt, yo)) : wpY_reset post (pc, md, st, en, vc, sc, p0, ca, va, tb, tm, cp, ic, oc, td, tc, tv, ny, wh, me, xr, wt, yo) := by
  have k1 := yz_24 (pc := pc) (md := md) (st := st) (en := en) (vc := vc) (sc := sc) (p0 := p0) (ca := ca) (va := va) (tb := tb) (tm := tm) (cp := cp) (ic := ic) (oc := oc) (td := td) (tc := tc) (tv := tv) (ny := ny) (wh := wh) (me := zr 256 me) (xr := xr) (wt := wt) (yo := yo) h 32 0 rfl
  rw [zr_0, nI_0] at k1
  have k2 := yz_2 (pc := pc) (md := md) (st := st) (en := en) (vc := vc) (sc := sc) (p0 := p0) (ca := ca) (va := va) (tb := tb) (tm := tm) (cp := cp) (ic := ic) (oc := oc) (td := td) (tc := tc) (tv := tv) (ny := ny) (wh := wh) (me := me) (xr := xr) (wt := wt) (yo := yo) k1 256 0 rfl
  rw [zr_0, nI_0] at k2
  exact ⟨257, k2⟩
theorem ls_reset (hct : ct 0 = 0) : hR hV 0 (0, nx, 3, 0, 2147483647, tr, 0, 0, 0, 0, 0, 0, 0, 0, 0, 0, 0, 0, sl, dO, dD, dA, dB, dI, kn, zr 256 me, zr 32 xr, ai, ao, on, pg, oo, od, oa, ob, om, bs, zr 24 bl, zr 256 bo, zr 256 hd, ct, un)
    (0, 3, 0, 0, 0, 0, 0, 0, 0, 0, 0, 2147483647, 0, 0, td, tc, tv, ny, wh, zr 256 me, zr 32 xr, wt, yo) := by
  refine ⟨⟨rfl, rfl, rfl, rfl, rfl, rfl, rfl, rfl, rfl, rfl, rfl, rfl, rfl, rfl, rfl⟩, ⟨rfl, zr_z (by omega)⟩, ⟨Or.inr rfl, Or.inl (by decide), Or.inl rfl⟩, nI_0.symm, ⟨0, 0, by omega, by omega, nI_0.symm, nI_0.symm, fun i hi => absurd hi (by omega)⟩, ⟨0, by omega, nI_0.symm, fun i _ hi => absurd hi (by omega)⟩, fun z => absurd z (by decide), ?_, ⟨0, by omega, nI_0.symm⟩, hct⟩
  refine ⟨fun _ => 0, fun _ => 0, ⟨fun b hb => ⟨(zr_z hb).trans nI_0.symm, Nat.zero_le 8, fun z => absurd z (Nat.lt_irrefl 0)⟩, fun w hw => Or.inl (zr_z hw), fun j hj => ?_⟩, fun b hb z => absurd z (Nat.lt_irrefl 0)⟩
  rw [zr_z hj, cn_0]; exact nI_0.symm
end
end
section
/-! what is owed -/
def i_Rel (k : Nat) (u : SX) (v : SY) : Prop := ∃ t : Nat, 3 * t ≤ 100 * k ∧ hR hV t u v
theorem i_up {k : Nat} {u : SX} {v : SY} (h : i_Rel k u v) : i_Rel (k + 3) u v := by
  obtain ⟨t, h1, h2⟩ := h
  exact ⟨t, by omega, h2⟩
theorem i_vc0 : wpX_init (fun u => wpY_init (fun v => i_Rel 0 u v)) := by
  unfold wpX_init
  refine x_reset ?_
  unfold wpY_init
  refine y_reset ?_
  exact ⟨0, by omega, ls_reset rfl⟩
/-- the relation taken apart: one state for both -/
theorem io_el {k : Nat} {u : SX} {v : SY} {Pr : SX → SY → Prop} (I : i_Rel k u v) (h : ∀ (t : Nat) (pc nx md tm cp tr st en vc p0 sc ca va tb ih ic oc tn sl dO dD dA dB dI kn td tc tv ny wh : Int32) (me xr ai ao on pg oo od oa ob om bs bl bo hd ct un wt yo : Nat → Int32), 3 * t ≤ 100 * k → xr 0 = 0 → hG t md st en tm tb ih ic oc tn me ai ao on pg oo od oa ob om bs bl bo hd ct wt yo → Pr (pc, nx, md, tm, cp, tr, st, en, vc, p0, sc, ca, va, tb, ih, ic, oc, tn, sl, dO, dD, dA, dB, dI, kn, me, xr, ai, ao, on, pg, oo, od, oa, ob, om, bs, bl, bo, hd, ct, un) (pc, md, st, en, vc, sc, p0, ca, va, tb, tm, cp, ic, oc, td, tc, tv, ny, wh, me, xr, wt, yo)) : Pr u v := by
  obtain ⟨t, h1, R⟩ := I
  refine hR_el (Pr := Pr) R ?_
  intro pc nx md tm cp tr st en vc p0 sc ca va tb ih ic oc tn sl dO dD dA dB dI kn td tc tv ny wh me xr ai ao on pg oo od oa ob om bs bl bo hd ct un wt yo yr V G
  obtain ⟨V1, h0⟩ := V
  subst V1
  exact h t pc nx md tm cp tr st en vc p0 sc ca va tb ih ic oc tn sl dO dD dA dB dI kn td tc tv ny wh me yr ai ao on pg oo od oa ob om bs bl bo hd ct un wt yo h1 h0 G
theorem io_mk {k t : Nat} {pc nx md tm cp tr st en vc p0 sc ca va tb ih ic oc tn sl dO dD dA dB dI kn td tc tv ny wh : Int32} {me xr ai ao on pg oo od oa ob om bs bl bo hd ct un wt yo : Nat → Int32} (h1 : 3 * t ≤ 100 * k) (h0 : xr 0 = 0) (G : hG t md st en tm tb ih ic oc tn me ai ao on pg oo od oa ob om bs bl bo hd ct wt yo) : i_Rel k (pc, nx, md, tm, cp, tr, st, en, vc, p0, sc, ca, va, tb, ih, ic, oc, tn, sl, dO, dD, dA, dB, dI, kn, me, xr, ai, ao, on, pg, oo, od, oa, ob, om, bs, bl, bo, hd, ct, un) (pc, md, st, en, vc, sc, p0, ca, va, tb, tm, cp, ic, oc, td, tc, tv, ny, wh, me, xr, wt, yo) :=
  ⟨t, h1, ⟨rfl, rfl, rfl, rfl, rfl, rfl, rfl, rfl, rfl, rfl, rfl, rfl, rfl, rfl, rfl⟩, ⟨rfl, h0⟩, G⟩
theorem io_255 (w : Int32) : w < 0 ∨ (¬ w < 0 ∧ ¬ w ≤ 255 ∧ 256 ≤ w) ∨ ∃ j, j < 256 ∧ w = nI j := by
  rcases pk_ix w (n := 256) (by omega) with h | h | h
  · exact Or.inl h
  · refine Or.inr (Or.inl ⟨?_, ?_, h⟩)
    · rw [Int32.not_lt]; exact Int32.le_trans (by decide) h
    · rw [Int32.not_le]; exact Int32.lt_of_lt_of_le (by decide : (255 : Int32) < nI 256) h
  · exact Or.inr (Or.inr h)
theorem io_31 (w : Int32) : w < 0 ∨ (¬ w < 0 ∧ ¬ w ≤ 31 ∧ ¬ w < 1 ∧ 32 ≤ w) ∨ ∃ j, j < 32 ∧ w = nI j := by
  rcases pk_ix w (n := 32) (by omega) with h | h | h
  · exact Or.inl h
  · refine Or.inr (Or.inl ⟨?_, ?_, ?_, h⟩)
    · rw [Int32.not_lt]; exact Int32.le_trans (by decide) h
    · rw [Int32.not_le]; exact Int32.lt_of_lt_of_le (by decide : (31 : Int32) < nI 32) h
    · rw [Int32.not_lt]; exact Int32.le_trans (by decide) h
  · exact Or.inr (Or.inr h)
theorem i_vc_poke {k : Nat} {u : SX} {v : SY} (I : i_Rel k u v) (hk : k + 3 ≤ 1536) (v1 : Int32) (v2 : Int32) : wpX_poke (fun r u' => wpY_poke (fun r' v' => r' = r ∧ i_Rel (k + 3) u' v') v v1 v2) u v1 v2 := by
  refine io_el (Pr := fun u v => wpX_poke (fun r u' => wpY_poke (fun r' v' => r' = r ∧ i_Rel (k + 3) u' v') v v1 v2) u v1 v2) I ?_
  intro t pc nx md tm cp tr st en vc p0 sc ca va tb ih ic oc tn sl dO dD dA dB dI kn td tc tv ny wh me xr ai ao on pg oo od oa ob om bs bl bo hd ct un wt yo h1 h0 G
  rcases io_255 v1 with h | h | ⟨w, hw, rfl⟩
  · exact br_t h (br_t h ⟨rfl, io_mk (t := t) (by omega) h0 G⟩)
  · exact br_f h.1 (br_f h.2.1 (br_f h.1 (br_f h.2.1 ⟨rfl, io_mk (t := t) (by omega) h0 G⟩)))
  · have p1 : ¬ nI w < 0 := nI_pos (by omega)
    have p2 : nI w ≤ 255 := nI_le (b := 255) (by omega) (by omega)
    obtain ⟨S, L, H, HC⟩ := G.2.2.2.2.2.1
    obtain ⟨L', sl', on', bl', bo', hd', H2, q, r1, r2, r3⟩ := x_setW (pc := pc) (nx := nx) (md := md) (tm := tm) (cp := cp) (tr := tr) (st := st) (en := en) (vc := vc) (p0 := p0) (sc := sc) (ca := ca) (va := va) (tb := tb) (ih := ih) (ic := ic) (oc := oc) (tn := tn) (sl := sl) (dO := dO) (dD := dD) (dA := dA) (dB := dB) (dI := dI) (kn := kn) (me := me) (xr := xr) (ai := ai) (ao := ao) (on := on) (pg := pg) (oo := oo) (od := od) (oa := oa) (ob := ob) (om := om) (ct := ct) (un := un) H hw v2
    refine br_f p1 (br_t p2 (r3 _ (br_f p1 (br_t p2 ⟨vp_in_nI hw (by omega), ?_⟩))))
    rw [nI_clamp (by omega)]
    refine nm_e ⟨rfl, io_mk (t := t) (by omega) h0 ⟨G.1, G.2.1, G.2.2.1, G.2.2.2.1, ?_, ⟨S, L', H2, ?_⟩, G.2.2.2.2.2.2⟩⟩
    · intro tl p hp c hc hon
      rcases r1 with ⟨_, z⟩ | ⟨z, z2⟩
      · exact absurd (z _ (by omega)) hon
      · rw [z2] at hon
        rw [pk_un (by omega)]
        exact G.2.2.2.2.1 tl p hp c hc hon
    · refine hC_me HC (fun b hb => ?_)
      rcases q b hb with ⟨z1, z2⟩ | z
      · exact Or.inl ⟨z1, fun i hi => pk_un (fun y => z2 (by omega))⟩
      · exact Or.inr z
theorem i_vc_peek {k : Nat} {u : SX} {v : SY} (I : i_Rel k u v) (hk : k + 3 ≤ 1536) (v1 : Int32) : wpX_peek (fun r => wpY_peek (fun r' => r' = r ∧ i_Rel (k + 3) u v) v v1) u v1 := by
  refine io_el (Pr := fun u v => wpX_peek (fun r => wpY_peek (fun r' => r' = r ∧ i_Rel (k + 3) u v) v v1) u v1) I ?_
  intro t pc nx md tm cp tr st en vc p0 sc ca va tb ih ic oc tn sl dO dD dA dB dI kn td tc tv ny wh me xr ai ao on pg oo od oa ob om bs bl bo hd ct un wt yo h1 h0 G
  have J : i_Rel (k + 3) (pc, nx, md, tm, cp, tr, st, en, vc, p0, sc, ca, va, tb, ih, ic, oc, tn, sl, dO, dD, dA, dB, dI, kn, me, xr, ai, ao, on, pg, oo, od, oa, ob, om, bs, bl, bo, hd, ct, un) (pc, md, st, en, vc, sc, p0, ca, va, tb, tm, cp, ic, oc, td, tc, tv, ny, wh, me, xr, wt, yo) := io_mk (t := t) (by omega) h0 G
  rcases io_255 v1 with h | h | ⟨w, hw, rfl⟩
  · exact br_t h (br_t h ⟨rfl, J⟩)
  · exact br_f h.1 (br_f h.2.1 (br_f h.1 (br_t h.2.2 ⟨rfl, J⟩)))
  · exact br_f (nI_pos (by omega)) (br_t (nI_le (b := 255) (by omega) (by omega)) ⟨vp_in_nI hw (by omega), br_f (nI_pos (by omega)) (br_f (nI_ge (b := 256) hw (by omega)) ⟨vp_in_nI hw (by omega), rfl, J⟩)⟩)
theorem i_vc_setReg {k : Nat} {u : SX} {v : SY} (I : i_Rel k u v) (hk : k + 3 ≤ 1536) (v1 : Int32) (v2 : Int32) : wpX_setReg (fun r u' => wpY_setReg (fun r' v' => r' = r ∧ i_Rel (k + 3) u' v') v v1 v2) u v1 v2 := by
  refine io_el (Pr := fun u v => wpX_setReg (fun r u' => wpY_setReg (fun r' v' => r' = r ∧ i_Rel (k + 3) u' v') v v1 v2) u v1 v2) I ?_
  intro t pc nx md tm cp tr st en vc p0 sc ca va tb ih ic oc tn sl dO dD dA dB dI kn td tc tv ny wh me xr ai ao on pg oo od oa ob om bs bl bo hd ct un wt yo h1 h0 G
  have J : i_Rel (k + 3) (pc, nx, md, tm, cp, tr, st, en, vc, p0, sc, ca, va, tb, ih, ic, oc, tn, sl, dO, dD, dA, dB, dI, kn, me, xr, ai, ao, on, pg, oo, od, oa, ob, om, bs, bl, bo, hd, ct, un) (pc, md, st, en, vc, sc, p0, ca, va, tb, tm, cp, ic, oc, td, tc, tv, ny, wh, me, xr, wt, yo) := io_mk (t := t) (by omega) h0 G
  by_cases c : v1 < 1
  · exact br_t c (br_t c ⟨rfl, J⟩)
  · rcases io_31 v1 with h | h | ⟨w, hw, rfl⟩
    · exfalso
      apply c
      exact Int32.lt_trans h (by decide)
    · exact br_f c (br_f h.2.1 (br_f c (br_f h.2.1 ⟨rfl, J⟩)))
    · have w1 : 1 ≤ w := by
        rcases Nat.eq_zero_or_pos w with z | z
        · subst z; exact absurd (by decide) c
        · exact z
      have p2 : nI w ≤ 31 := nI_le (b := 31) (by omega) (by omega)
      have vw : vp_in (nI w) 32 := vp_in_nI hw (by omega)
      refine br_f c (br_t p2 ⟨vw, ?_⟩)
      rw [nI_clamp (by omega)]
      refine nm_e (br_f c (br_t p2 ⟨vw, ?_⟩))
      rw [nI_clamp (by omega)]
      exact nm_e ⟨rfl, io_mk (t := t) (by omega) (by rw [pk_un (by omega)]; exact h0) G⟩
theorem i_vc_reg {k : Nat} {u : SX} {v : SY} (I : i_Rel k u v) (hk : k + 3 ≤ 1536) (v1 : Int32) : wpX_reg (fun r => wpY_reg (fun r' => r' = r ∧ i_Rel (k + 3) u v) v v1) u v1 := by
  refine io_el (Pr := fun u v => wpX_reg (fun r => wpY_reg (fun r' => r' = r ∧ i_Rel (k + 3) u v) v v1) u v1) I ?_
  intro t pc nx md tm cp tr st en vc p0 sc ca va tb ih ic oc tn sl dO dD dA dB dI kn td tc tv ny wh me xr ai ao on pg oo od oa ob om bs bl bo hd ct un wt yo h1 h0 G
  have J : i_Rel (k + 3) (pc, nx, md, tm, cp, tr, st, en, vc, p0, sc, ca, va, tb, ih, ic, oc, tn, sl, dO, dD, dA, dB, dI, kn, me, xr, ai, ao, on, pg, oo, od, oa, ob, om, bs, bl, bo, hd, ct, un) (pc, md, st, en, vc, sc, p0, ca, va, tb, tm, cp, ic, oc, td, tc, tv, ny, wh, me, xr, wt, yo) := io_mk (t := t) (by omega) h0 G
  rcases io_31 v1 with h | h | ⟨w, hw, rfl⟩
  · exact br_t h (br_t h ⟨rfl, J⟩)
  · exact br_f h.1 (br_f h.2.1 (br_f h.1 (br_t h.2.2.2 ⟨rfl, J⟩)))
  · exact br_f (nI_pos (by omega)) (br_t (nI_le (b := 31) (by omega) (by omega)) ⟨vp_in_nI hw (by omega), br_f (nI_pos (by omega)) (br_f (nI_ge (b := 32) hw (by omega)) ⟨vp_in_nI hw (by omega), rfl, J⟩)⟩)
theorem i_vc_go {k : Nat} {u : SX} {v : SY} (I : i_Rel k u v) (hk : k + 3 ≤ 1536) (v1 : Int32) : wpX_go (fun r u' => wpY_go (fun r' v' => r' = r ∧ i_Rel (k + 3) u' v') v v1) u v1 := by
  refine io_el (Pr := fun u v => wpX_go (fun r u' => wpY_go (fun r' v' => r' = r ∧ i_Rel (k + 3) u' v') v v1) u v1) I ?_
  intro t pc nx md tm cp tr st en vc p0 sc ca va tb ih ic oc tn sl dO dD dA dB dI kn td tc tv ny wh me xr ai ao on pg oo od oa ob om bs bl bo hd ct un wt yo h1 h0 G
  by_cases c : v1 &&& 3 = 0
  · exact br_t c (br_t c ⟨rfl, io_mk (t := t) (by omega) h0 ⟨⟨Or.inr rfl, G.1.2⟩, G.2⟩⟩)
  · exact br_f c (br_f c ⟨rfl, io_mk (t := t) (by omega) h0 G⟩)
theorem i_vc_run {k : Nat} {u : SX} {v : SY} (I : i_Rel k u v) (hk : k + 3 ≤ 1536) (v1 : Int32) : wpX_run (fun r u' => wpY_run (fun r' v' => r' = r ∧ i_Rel (k + 3) u' v') v v1) u v1 := by
  refine io_el (Pr := fun u v => wpX_run (fun r u' => wpY_run (fun r' v' => r' = r ∧ i_Rel (k + 3) u' v') v v1) u v1) I ?_
  intro t pc nx md tm cp tr st en vc p0 sc ca va tb ih ic oc tn sl dO dD dA dB dI kn td tc tv ny wh me xr ai ao on pg oo od oa ob om bs bl bo hd ct un wt yo h1 h0 G
  by_cases c0 : v1 ≤ 0
  · have c100 : v1 ≤ 100 := Int32.le_trans c0 (by decide)
    exact br_t c100 ⟨1, br_t c0 (br_t c100 ⟨1, br_t c0 ⟨rfl, io_mk (t := t) (by omega) h0 G⟩⟩)⟩
  · have go : ∀ l : Nat, l ≤ 100 → ∃ n, wX_run_18 (fun r u' => ∃ m, wY_run_18 (fun r' v' => r' = r ∧ i_Rel (k + 3) u' v') (nI l) m 0 0 pc md st en vc sc p0 ca va tb tm cp ic oc td tc tv ny wh me xr wt yo) n (nI l) pc nx md tm cp 0 st en vc p0 sc ca va tb ih ic oc tn sl dO dD dA dB dI kn me xr ai ao on pg oo od oa ob om bs bl bo hd ct un := by
      intro l hl
      obtain ⟨u', v', T', n, k1, k2, k3, k4⟩ := ls_run 100 t l (pc, nx, md, tm, cp, 0, st, en, vc, p0, sc, ca, va, tb, ih, ic, oc, tn, sl, dO, dD, dA, dB, dI, kn, me, xr, ai, ao, on, pg, oo, od, oa, ob, om, bs, bl, bo, hd, ct, un) (pc, md, st, en, vc, sc, p0, ca, va, tb, tm, cp, ic, oc, td, tc, tv, ny, wh, me, xr, wt, yo) hl hl (by omega) ⟨⟨rfl, rfl, rfl, rfl, rfl, rfl, rfl, rfl, rfl, rfl, rfl, rfl, rfl, rfl, rfl⟩, ⟨rfl, h0⟩, G⟩
      refine ⟨n, k4 _ ⟨1 + l, ?_⟩⟩
      have e : trOf (pc, nx, md, tm, cp, 0, st, en, vc, p0, sc, ca, va, tb, ih, ic, oc, tn, sl, dO, dD, dA, dB, dI, kn, me, xr, ai, ao, on, pg, oo, od, oa, ob, om, bs, bl, bo, hd, ct, un) = 0 := rfl
      rw [e] at k3
      have q := yRn_run (post := fun r' v' => r' = T' ∧ i_Rel (k + 3) u' v') (N := l) (n := 1) (i := 0) hl l k3 (by omega) (by
        obtain ⟨pc1, md1, st1, en1, vc1, sc1, p01, ca1, va1, tb1, tm1, cp1, ic1, oc1, td1, tc1, tv1, ny1, wh1, me1, xr1, wt1, yo1⟩ := v'
        exact br_t (nI_le (by omega) (by omega)) ⟨rfl, t + l, by omega, k1⟩)
      exact q
    rcases pk_ix v1 (n := 101) (by omega) with h | h | ⟨l, hl, rfl⟩
    · exact absurd (Int32.le_of_lt h) c0
    · have c100 : ¬ v1 ≤ 100 := by rw [Int32.not_le]; exact Int32.lt_of_lt_of_le (by decide : (100 : Int32) < nI 101) h
      obtain ⟨n, hn⟩ := go 100 (by omega)
      refine br_f c100 ⟨n, ?_⟩
      have e : (fun (r : Int32) (u' : SX) => wpY_run (fun r' v' => r' = r ∧ i_Rel (k + 3) u' v') (pc, md, st, en, vc, sc, p0, ca, va, tb, tm, cp, ic, oc, td, tc, tv, ny, wh, me, xr, wt, yo) v1) = (fun r u' => ∃ m, wY_run_18 (fun r' v' => r' = r ∧ i_Rel (k + 3) u' v') (nI 100) m 0 0 pc md st en vc sc p0 ca va tb tm cp ic oc td tc tv ny wh me xr wt yo) := by
        funext r u'
        exact propext ⟨fun z => z.2 c100, fun z => br_f c100 z⟩
      rw [e]
      exact hn
    · have c100 : nI l ≤ 100 := nI_le (b := 100) (by omega) (by omega)
      obtain ⟨n, hn⟩ := go l (by omega)
      refine br_t c100 ⟨n, ?_⟩
      have e : (fun (r : Int32) (u' : SX) => wpY_run (fun r' v' => r' = r ∧ i_Rel (k + 3) u' v') (pc, md, st, en, vc, sc, p0, ca, va, tb, tm, cp, ic, oc, td, tc, tv, ny, wh, me, xr, wt, yo) (nI l)) = (fun r u' => ∃ m, wY_run_18 (fun r' v' => r' = r ∧ i_Rel (k + 3) u' v') (nI l) m 0 0 pc md st en vc sc p0 ca va tb tm cp ic oc td tc tv ny wh me xr wt yo) := by
        funext r u'
        exact propext ⟨fun z => z.1 c100, fun z => br_t c100 z⟩
      rw [e]
      exact hn
theorem i_vc_pc {k : Nat} {u : SX} {v : SY} (I : i_Rel k u v) (hk : k + 3 ≤ 1536) : wpX_pc (fun r => wpY_pc (fun r' => r' = r ∧ i_Rel (k + 3) u v) v) u := by
  refine io_el (Pr := fun u v => wpX_pc (fun r => wpY_pc (fun r' => r' = r ∧ i_Rel (k + 3) u v) v) u) I ?_
  intro t pc nx md tm cp tr st en vc p0 sc ca va tb ih ic oc tn sl dO dD dA dB dI kn td tc tv ny wh me xr ai ao on pg oo od oa ob om bs bl bo hd ct un wt yo h1 h0 G
  exact ⟨rfl, io_mk (t := t) (by omega) h0 G⟩
theorem i_vc_mode {k : Nat} {u : SX} {v : SY} (I : i_Rel k u v) (hk : k + 3 ≤ 1536) : wpX_mode (fun r => wpY_mode (fun r' => r' = r ∧ i_Rel (k + 3) u v) v) u := by
  refine io_el (Pr := fun u v => wpX_mode (fun r => wpY_mode (fun r' => r' = r ∧ i_Rel (k + 3) u v) v) u) I ?_
  intro t pc nx md tm cp tr st en vc p0 sc ca va tb ih ic oc tn sl dO dD dA dB dI kn td tc tv ny wh me xr ai ao on pg oo od oa ob om bs bl bo hd ct un wt yo h1 h0 G
  exact ⟨rfl, io_mk (t := t) (by omega) h0 G⟩
theorem i_vc_state {k : Nat} {u : SX} {v : SY} (I : i_Rel k u v) (hk : k + 3 ≤ 1536) (v1 : Int32) : wpX_state (fun r => wpY_state (fun r' => r' = r ∧ i_Rel (k + 3) u v) v v1) u v1 := by
  refine io_el (Pr := fun u v => wpX_state (fun r => wpY_state (fun r' => r' = r ∧ i_Rel (k + 3) u v) v v1) u v1) I ?_
  intro t pc nx md tm cp tr st en vc p0 sc ca va tb ih ic oc tn sl dO dD dA dB dI kn td tc tv ny wh me xr ai ao on pg oo od oa ob om bs bl bo hd ct un wt yo h1 h0 G
  have J : i_Rel (k + 3) (pc, nx, md, tm, cp, tr, st, en, vc, p0, sc, ca, va, tb, ih, ic, oc, tn, sl, dO, dD, dA, dB, dI, kn, me, xr, ai, ao, on, pg, oo, od, oa, ob, om, bs, bl, bo, hd, ct, un) (pc, md, st, en, vc, sc, p0, ca, va, tb, tm, cp, ic, oc, td, tc, tv, ny, wh, me, xr, wt, yo) := io_mk (t := t) (by omega) h0 G
  by_cases small : ∃ j, j < 4096 ∧ v1 = nI j
  · obtain ⟨n, hn, rfl⟩ := small
    exact x_state n hn (y_state n hn ⟨rfl, J⟩)
  · have ne : ∀ j, j < 4096 → ¬ v1 = nI j := fun j hj e => small ⟨j, hj, e⟩
    have a1 : ¬ v1 = 384 := ne 384 (by omega)
    have a2 : ¬ v1 = 768 := ne 768 (by omega)
    have a3 : ¬ v1 = 772 := ne 772 (by omega)
    have a4 : ¬ v1 = 773 := ne 773 (by omega)
    have a5 : ¬ v1 = 832 := ne 832 (by omega)
    have a6 : ¬ v1 = 833 := ne 833 (by omega)
    have a7 : ¬ v1 = 834 := ne 834 (by omega)
    have a8 : ¬ v1 = 835 := ne 835 (by omega)
    exact br_f a1 (br_f a2 (br_f a3 (br_f a4 (br_f a5 (br_f a6 (br_f a7 (br_f a8 (br_f a2 (br_f a3 (br_f a4 (br_f a6 (br_f a5 (br_f a7 (br_f a8 (br_f a1 ⟨rfl, J⟩)))))))))))))))
theorem i_vc_input {k : Nat} {u : SX} {v : SY} (I : i_Rel k u v) (hk : k + 3 ≤ 1536) (v1 : Int32) : wpX_input (fun r u' => wpY_input (fun r' v' => r' = r ∧ i_Rel (k + 3) u' v') v v1) u v1 := by
  refine io_el (Pr := fun u v => wpX_input (fun r u' => wpY_input (fun r' v' => r' = r ∧ i_Rel (k + 3) u' v') v v1) u v1) I ?_
  intro t pc nx md tm cp tr st en vc p0 sc ca va tb ih ic oc tn sl dO dD dA dB dI kn td tc tv ny wh me xr ai ao on pg oo od oa ob om bs bl bo hd ct un wt yo h1 h0 G
  by_cases c : ic = 8
  · exact br_t c (br_t c ⟨rfl, io_mk (t := t) (by omega) h0 G⟩)
  · obtain ⟨h, n, h8, n8, e1, e2, hi⟩ := G.2.2.1
    subst e1 e2
    have n7 : n < 8 := by
      rcases Nat.lt_or_ge n 8 with z | z
      · exact z
      · obtain rfl : n = 8 := by omega
        exact absurd rfl c
    have e7 : (nI h + nI n) &&& 7 = nI ((h + n) % 8) := by rw [nI_add]; exact pk_andN (n := h + n) (by omega) 3 (by decide)
    refine br_f c (nm_r (nI_1 n) ?_)
    rw [e7, nI_clamp (by omega), pk_vb]
    refine ⟨vp_in_nI (by omega) (by omega), nm_e (br_f c ⟨vp_in_nI n7 (by omega), ?_⟩)⟩
    rw [nI_clamp (by omega)]
    refine nm_e (nm_r (nI_1 n) ⟨rfl, io_mk (t := t) (by omega) h0 ⟨G.1, G.2.1, ⟨h, n + 1, h8, by omega, rfl, rfl, fun i hj => ?_⟩, G.2.2.2⟩⟩)
    by_cases e : i = n
    · subst e; rw [pk_us, pk_us]; exact bp_b v1
    · rw [pk_un (by omega), pk_un e]; exact hi i (by omega)
theorem i_vc_output {k : Nat} {u : SX} {v : SY} (I : i_Rel k u v) (hk : k + 3 ≤ 1536) (v1 : Int32) : wpX_output (fun r => wpY_output (fun r' => r' = r ∧ i_Rel (k + 3) u v) v v1) u v1 := by
  refine io_el (Pr := fun u v => wpX_output (fun r => wpY_output (fun r' => r' = r ∧ i_Rel (k + 3) u v) v v1) u v1) I ?_
  intro t pc nx md tm cp tr st en vc p0 sc ca va tb ih ic oc tn sl dO dD dA dB dI kn td tc tv ny wh me xr ai ao on pg oo od oa ob om bs bl bo hd ct un wt yo h1 h0 G
  have J : i_Rel (k + 3) (pc, nx, md, tm, cp, tr, st, en, vc, p0, sc, ca, va, tb, ih, ic, oc, tn, sl, dO, dD, dA, dB, dI, kn, me, xr, ai, ao, on, pg, oo, od, oa, ob, om, bs, bl, bo, hd, ct, un) (pc, md, st, en, vc, sc, p0, ca, va, tb, tm, cp, ic, oc, td, tc, tv, ny, wh, me, xr, wt, yo) := io_mk (t := t) (by omega) h0 G
  by_cases c1 : v1 = -1
  · exact br_t c1 (br_t c1 ⟨rfl, J⟩)
  · rcases io_31 v1 with h | h | ⟨w, hw, rfl⟩
    · exact br_f c1 (br_t h (br_f c1 (br_t h ⟨rfl, J⟩)))
    · exact br_f c1 (br_f h.1 (br_t h.2.2.2 (br_f c1 (br_f h.1 (br_t h.2.2.2 ⟨rfl, J⟩)))))
    · have p1 : ¬ nI w < 0 := nI_pos (by omega)
      have p2 : ¬ (32 : Int32) ≤ nI w := nI_ge (b := 32) hw (by omega)
      have vw : vp_in (nI w) 32 := vp_in_nI hw (by omega)
      refine br_f c1 (br_f p1 (br_f p2 (br_c (fun c => ?_) (fun c => ⟨vw, ?_⟩))))
      · exact br_f c1 (br_f p1 (br_f p2 (br_t c ⟨rfl, J⟩)))
      · refine br_f c1 (br_f p1 (br_f p2 (br_f c ⟨vw, ?_, J⟩)))
        rw [nI_clamp (by omega)]
        obtain ⟨o, o1, o2, o3⟩ := G.2.2.2.1
        refine (o3 w hw ?_).symm
        rw [o2, nI_leI (by omega) (by omega)] at c
        omega
theorem i_vc_clock {k : Nat} {u : SX} {v : SY} (I : i_Rel k u v) (hk : k + 3 ≤ 1536) : wpX_clock (fun r => wpY_clock (fun r' => r' = r ∧ i_Rel (k + 3) u v) v) u := by
  refine io_el (Pr := fun u v => wpX_clock (fun r => wpY_clock (fun r' => r' = r ∧ i_Rel (k + 3) u v) v) u) I ?_
  intro t pc nx md tm cp tr st en vc p0 sc ca va tb ih ic oc tn sl dO dD dA dB dI kn td tc tv ny wh me xr ai ao on pg oo od oa ob om bs bl bo hd ct un wt yo h1 h0 G
  exact ⟨rfl, io_mk (t := t) (by omega) h0 G⟩
theorem i_vc_reset {k : Nat} {u : SX} {v : SY} (I : i_Rel k u v) (hk : k + 3 ≤ 1536) : wpX_reset (fun u' => wpY_reset (fun v' => i_Rel (k + 3) u' v') v) u := by
  refine io_el (Pr := fun u v => wpX_reset (fun u' => wpY_reset (fun v' => i_Rel (k + 3) u' v') v) u) I ?_
  intro t pc nx md tm cp tr st en vc p0 sc ca va tb ih ic oc tn sl dO dD dA dB dI kn td tc tv ny wh me xr ai ao on pg oo od oa ob om bs bl bo hd ct un wt yo h1 h0 G
  exact x_reset (y_reset ⟨0, by omega, ls_reset G.2.2.2.2.2.2.2⟩)
end
