section
/-! pure rows to paste: stores, nI and lN arithmetic, masks, shifts, narrowing, branches by naturals (pk_le, pk_lt, pk_eq), loops (lp1 .. lp16: the measure of the state; rp1 ..: recursion), negatives. Take what you need -/
theorem pk_us {f : Nat → Int32} {k : Nat} {x : Int32} : upd f k x k = x := if_pos rfl
theorem pk_un {f : Nat → Int32} {k j : Nat} {x : Int32} (h : j ≠ k) : upd f k x j = f j := if_neg h
theorem pk_uLs {f : Nat → Int64} {k : Nat} {x : Int64} : vp_updL f k x k = x := if_pos rfl
theorem pk_uLn {f : Nat → Int64} {k j : Nat} {x : Int64} (h : j ≠ k) : vp_updL f k x j = f j := if_neg h
theorem pk_sub {a b : Nat} (h : b ≤ a) : nI a - nI b = nI (a - b) := by
  obtain ⟨c, rfl⟩ : ∃ c, a = c + b := ⟨a - b, by omega⟩
  rw [← nI_add, Int32.add_sub_cancel, Nat.add_sub_cancel]
theorem pk_m1 (n : Nat) : nI (n + 1) + (-1) = nI n := by
  rw [← nI_1, Int32.add_assoc, show (1 : Int32) + (-1) = 0 from rfl, Int32.add_zero]
theorem pk_mul (a b : Nat) : nI a * nI b = nI (a * b) := (Int32.ofNat_mul a b).symm
theorem pk_div {a d : Nat} (ha : a < 2 ^ 31) (h0 : 0 < d) (hd : d < 2 ^ 31) : nI a / nI d = nI (a / d) := by
  apply Int32.toInt_inj.mp
  rw [lg_idiv_nonneg (by rw [nI_toInt ha]; omega) (by rw [nI_toInt hd]; omega), nI_toInt ha, nI_toInt hd, nI_toInt (Nat.lt_of_le_of_lt (Nat.div_le_self a d) ha)]
  first | rfl | exact (Int.natCast_ediv _ _).symm
theorem pk_rem {a d : Nat} (ha : a < 2 ^ 31) (h0 : 0 < d) (hd : d < 2 ^ 31) : nI a - nI a / nI d * nI d = nI (a % d) := by
  rw [pk_div ha h0 hd, pk_mul, pk_sub (Nat.div_mul_le_self a d)]
  exact congrArg nI (by have := Nat.div_add_mod' a d; omega)
theorem pk_sub_toInt {a b : Nat} (ha : a < 2 ^ 30) (hb : b < 2 ^ 30) : (nI a - nI b).toInt = (a : Int) - b := by
  rw [Int32.toInt_sub, nI_toInt (by omega), nI_toInt (by omega)]
  exact Int.bmod_eq_of_le (by omega) (by omega)
theorem pk_sneg {a b : Nat} (hb : b < 2 ^ 30) (h : a < b) : nI a - nI b < 0 := by
  rw [Int32.lt_iff_toInt_lt, pk_sub_toInt (by omega) hb, show (0 : Int32).toInt = 0 from by decide]
  omega
theorem pk_ix (x : Int32) {n : Nat} (hn : n < 2 ^ 31) : x < 0 ∨ nI n ≤ x ∨ ∃ j : Nat, j < n ∧ x = nI j := by
  by_cases h : x < 0
  · exact Or.inl h
  · obtain ⟨j, hj, rfl⟩ := nI_of h
    by_cases h2 : j < n
    · exact Or.inr (Or.inr ⟨j, h2, rfl⟩)
    · exact Or.inr (Or.inl (nI_le (by omega) hj))
theorem pk_le {x y : Int32} {A B : Prop} (a b : Nat) (f : a ≤ b → A) (g : b < a → B) (hx : x = nI a := by rfl) (hy : y = nI b := by rfl) (ha : a < 2 ^ 31 := by omega) (hb : b < 2 ^ 31 := by omega) : (x ≤ y → A) ∧ (¬ x ≤ y → B) := by
  subst hx hy
  rw [nI_leI ha hb]
  exact ⟨f, fun z => g (by omega)⟩
theorem pk_lt {x y : Int32} {A B : Prop} (a b : Nat) (f : a < b → A) (g : b ≤ a → B) (hx : x = nI a := by rfl) (hy : y = nI b := by rfl) (ha : a < 2 ^ 31 := by omega) (hb : b < 2 ^ 31 := by omega) : (x < y → A) ∧ (¬ x < y → B) := by
  subst hx hy
  rw [nI_ltI ha hb]
  exact ⟨f, fun z => g (by omega)⟩
theorem pk_eq {x y : Int32} {A B : Prop} (a b : Nat) (f : a = b → A) (g : a ≠ b → B) (hx : x = nI a := by rfl) (hy : y = nI b := by rfl) (ha : a < 2 ^ 31 := by omega) (hb : b < 2 ^ 31 := by omega) : (x = y → A) ∧ (¬ x = y → B) := by
  subst hx hy
  rw [nI_eq ha hb]
  exact ⟨f, g⟩
theorem pk_in {x : Int32} (n N : Nat) (h : n < N) (hx : x = nI n := by rfl) (hN : N < 2 ^ 31 := by omega) : vp_in x N := by
  subst hx
  exact vp_in_nI h hN
theorem pk_cl {x : Int32} (n : Nat) (hx : x = nI n := by rfl) (h : n < 2 ^ 31 := by omega) : x.toNatClampNeg = n := by
  subst hx
  exact nI_clamp h
theorem pk_tn {n : Nat} (h : n < 2 ^ 32) : (nI n).toBitVec.toNat = n := Nat.mod_eq_of_lt h
theorem pk_and (x : Int32) {m : Int32} (k : Nat) (hm : m.toBitVec.toNat = 2 ^ k - 1) : x &&& m = nI (x.toBitVec.toNat % 2 ^ k) := by
  apply Int32.toBitVec_inj.mp
  apply BitVec.eq_of_toNat_eq
  rw [Int32.toBitVec_and, BitVec.toNat_and, hm, Nat.and_two_pow_sub_one_eq_mod]
  show _ = (BitVec.ofNat 32 _).toNat
  rw [BitVec.toNat_ofNat]
  exact (Nat.mod_eq_of_lt (Nat.lt_of_le_of_lt (Nat.mod_le _ _) x.toBitVec.isLt)).symm
theorem pk_andN {n : Nat} (h : n < 2 ^ 32) {m : Int32} (k : Nat) (hm : m.toBitVec.toNat = 2 ^ k - 1) : nI n &&& m = nI (n % 2 ^ k) := by
  rw [pk_and _ k hm, pk_tn h]
theorem pk_andE (x : Int32) {m : Int32} (k : Nat) (hm : m.toBitVec.toNat = 2 ^ k - 1) : ∃ j : Nat, j < 2 ^ k ∧ x &&& m = nI j := ⟨_, Nat.mod_lt _ (Nat.two_pow_pos k), pk_and x k hm⟩
theorem pk_andIn (x : Int32) {m : Int32} (k : Nat) (hm : m.toBitVec.toNat = 2 ^ k - 1) (hk : k ≤ 30) : vp_in (x &&& m) (2 ^ k) := by
  obtain ⟨j, hj, e⟩ := pk_andE x k hm
  rw [e]
  exact vp_in_nI hj (Nat.lt_of_le_of_lt (Nat.pow_le_pow_right (by decide) hk) (by decide))
theorem pk_shl (a s : Int32) (k : Nat) (hs : (s.toBitVec.smod 32).toNat = k) : (a <<< s).toBitVec.toNat = a.toBitVec.toNat * 2 ^ k % 2 ^ 32 := by
  show (a.toBitVec <<< (s.toBitVec.smod 32).toNat).toNat = _
  rw [hs, BitVec.toNat_shiftLeft, Nat.shiftLeft_eq]
theorem pk_shlN {n : Nat} (s : Int32) (k : Nat) (hs : (s.toBitVec.smod 32).toNat = k) (h : n * 2 ^ k < 2 ^ 32) : nI n <<< s = nI (n * 2 ^ k) := by
  apply Int32.toBitVec_inj.mp
  apply BitVec.eq_of_toNat_eq
  have hn : n < 2 ^ 32 := Nat.lt_of_le_of_lt (Nat.le_mul_of_pos_right n (Nat.two_pow_pos k)) h
  rw [pk_shl _ _ k hs, pk_tn hn, pk_tn h, Nat.mod_eq_of_lt h]
theorem pk_shr (a s : Int32) (k : Nat) (hs : (s.toBitVec.smod 32).toNat = k) : (a >>> s).toInt = a.toInt >>> k := by
  show (a.toBitVec.sshiftRight (s.toBitVec.smod 32).toNat).toInt = _
  rw [hs, BitVec.toInt_sshiftRight]
  rfl
theorem pk_shrN {n : Nat} (h : n < 2 ^ 31) (s : Int32) (k : Nat) (hs : (s.toBitVec.smod 32).toNat = k) : nI n >>> s = nI (n / 2 ^ k) := by
  apply Int32.toInt_inj.mp
  have h2 : n / 2 ^ k ≤ n := Nat.div_le_self _ _
  rw [pk_shr _ _ k hs, nI_toInt h, nI_toInt (by omega), Int.shiftRight_eq_div_pow]
  rfl
theorem pk_ushr (x s : Int32) (k : Nat) (hs : ((s.toUInt32 &&& Int32.toUInt32 31).toBitVec % 32).toNat = k) : (x.toUInt32 >>> (s.toUInt32 &&& Int32.toUInt32 31)).toInt32.toBitVec.toNat = x.toBitVec.toNat / 2 ^ k := by
  have e : (x.toUInt32 >>> (s.toUInt32 &&& Int32.toUInt32 31)).toInt32.toBitVec = x.toBitVec >>> k := by
    rw [← hs]
    exact UInt32.toBitVec_shiftRight _ _
  rw [e, BitVec.toNat_ushiftRight, Nat.shiftRight_eq_div_pow]
theorem pk_ushrN {n : Nat} (hn : n < 2 ^ 32) (s : Int32) (k : Nat) (hs : ((s.toUInt32 &&& Int32.toUInt32 31).toBitVec % 32).toNat = k) : ((nI n).toUInt32 >>> (s.toUInt32 &&& Int32.toUInt32 31)).toInt32 = nI (n / 2 ^ k) := by
  apply Int32.toBitVec_inj.mp
  apply BitVec.eq_of_toNat_eq
  rw [pk_ushr _ s k hs, pk_tn hn, pk_tn (Nat.lt_of_le_of_lt (Nat.div_le_self _ _) hn)]
theorem pk_nb (z : Int32) : narrow .byte (.int z.toInt8.toInt32) = .int z.toInt8.toInt32 := congrArg Value.int (by simp)
theorem pk_ns (z : Int32) : narrow .short (.int z.toInt16.toInt32) = .int z.toInt16.toInt32 := congrArg Value.int (by simp)
theorem pk_fb (r : Int32) : fits .byte (.int r.toInt8.toInt32) = true := by
  have ⟨a, b⟩ := lg_i2b_range r
  have h1 : (-128 : Int32).toInt = -128 := by decide
  have h2 : (127 : Int32).toInt = 127 := by decide
  simp only [fits, Bool.and_eq_true, decide_eq_true_eq, Int32.le_iff_toInt_le, h1, h2]
  omega
theorem pk_fs (r : Int32) : fits .short (.int r.toInt16.toInt32) = true := by
  have ⟨a, b⟩ := lg_i2s_range r
  have h1 : (-32768 : Int32).toInt = -32768 := by decide
  have h2 : (32767 : Int32).toInt = 32767 := by decide
  simp only [fits, Bool.and_eq_true, decide_eq_true_eq, Int32.le_iff_toInt_le, h1, h2]
  omega
theorem pk_charN {q : Nat} (hq : q < 65536) : narrow .char (.int (nI q)) = .int (nI q) ∧ fits .char (.int (nI q)) = true := by
  constructor
  · have e : (nI q).toUInt32.toUInt16.toUInt32.toInt32 = nI q := by
      apply Int32.toBitVec_inj.mp
      apply BitVec.eq_of_toNat_eq
      show (nI q).toUInt32.toUInt16.toUInt32.toNat = q % 2 ^ 32
      rw [UInt16.toNat_toUInt32, UInt32.toNat_toUInt16, show (nI q).toUInt32.toNat = q % 2 ^ 32 from rfl]
      omega
    exact congrArg Value.int e
  · have a : (0 : Int32) ≤ nI q := nI_pos' (by omega)
    have b : nI q ≤ 65535 := nI_le (b := 65535) (by omega) (by decide)
    show (decide ((0 : Int32) ≤ nI q) && decide (nI q ≤ 65535)) = true
    rw [decide_eq_true a, decide_eq_true b]
    rfl
theorem pk_char (x : Int32) : (x.toUInt32 % 65536).toInt32 = nI (x.toBitVec.toNat % 65536) := by
  apply Int32.toBitVec_inj.mp
  apply BitVec.eq_of_toNat_eq
  rw [pk_tn (by omega)]
  show (x.toUInt32 % 65536).toNat = _
  rw [UInt32.toNat_mod]
  rfl
theorem pk_nc (x : Int32) : narrow .char (.int (x.toUInt32 % 65536).toInt32) = .int (x.toUInt32 % 65536).toInt32 := by
  rw [pk_char]
  exact (pk_charN (Nat.mod_lt _ (by decide))).1
theorem pk_fc (x : Int32) : fits .char (.int (x.toUInt32 % 65536).toInt32) = true := by
  rw [pk_char]
  exact (pk_charN (Nat.mod_lt _ (by decide))).2
theorem pk_vb (z : Int32) : vp_nar .byte z.toInt8.toInt32 = z.toInt8.toInt32 := by rw [vp_nar_byte]; simp
theorem pk_vs (z : Int32) : vp_nar .short z.toInt16.toInt32 = z.toInt16.toInt32 := by rw [vp_nar_short]; simp
theorem pk_vc (z : Int32) : vp_nar .char (z.toUInt32 % 65536).toInt32 = (z.toUInt32 % 65536).toInt32 := Value.int.inj (pk_nc z)
theorem pk_lT {n : Nat} (h : n < 2 ^ 63) : (lN n).toInt = (n : Int) := lg_ofNat_toInt h
theorem pk_lLT {a b : Nat} (ha : a < 2 ^ 63) (hb : b < 2 ^ 63) : lN a < lN b ↔ a < b := by
  rw [Int64.lt_iff_toInt_lt, pk_lT ha, pk_lT hb]; omega
theorem pk_lLE {a b : Nat} (ha : a < 2 ^ 63) (hb : b < 2 ^ 63) : lN a ≤ lN b ↔ a ≤ b := by
  rw [Int64.le_iff_toInt_le, pk_lT ha, pk_lT hb]; omega
theorem pk_lEQ {a b : Nat} (ha : a < 2 ^ 63) (hb : b < 2 ^ 63) : lN a = lN b ↔ a = b := by
  rw [← Int64.toInt_inj, pk_lT ha, pk_lT hb]; omega
theorem pk_lOf {x : Int64} (h : ¬ x < 0) : ∃ k : Nat, k < 2 ^ 63 ∧ x = lN k := by
  rw [Int64.lt_iff_toInt_lt] at h
  have h0 : (0 : Int64).toInt = 0 := by decide
  have hx := Int64.toInt_lt x
  refine ⟨x.toInt.toNat, by omega, Int64.toInt_inj.mp ?_⟩
  rw [pk_lT (by omega)]
  omega
theorem pk_lDiv {a b : Nat} (ha : a < 2 ^ 63) (h0 : 0 < b) (hb : b < 2 ^ 63) : lN a / lN b = lN (a / b) := by
  apply Int64.toInt_inj.mp
  rw [lg_ldiv_nonneg (by rw [pk_lT ha]; omega) (by rw [pk_lT hb]; omega), pk_lT ha, pk_lT hb, pk_lT (Nat.lt_of_le_of_lt (Nat.div_le_self a b) ha)]
  rfl
theorem pk_lRem {a b : Nat} (ha : a < 2 ^ 63) (h0 : 0 < b) (hb : b < 2 ^ 63) : lN a - lN a / lN b * lN b = lN (a % b) := by
  rw [pk_lDiv ha h0 hb, lN_mul, lN_sub (Nat.div_mul_le_self a b)]
  exact congrArg lN (by have := Nat.div_add_mod' a b; omega)
theorem pk_loop {σ : Type} (W : Nat → Nat → σ → Prop) (I : Nat → σ → Prop) (e i0 : Nat) (s : σ) (hi : i0 ≤ e) (h0 : I i0 s) (hx : ∀ n s, I e s → W (n + 1) e s)
    (hs : ∀ n i s, i < e → I i s → (∀ s', I (i + 1) s' → W n (i + 1) s') → W (n + 1) i s) : ∃ n, W n i0 s :=
  ⟨e + 1, loop_i W I e hx hs (e + 1) i0 s hi (by omega) h0⟩
theorem pk_loopD {σ : Type} (W : Nat → Nat → σ → Prop) (I : Nat → σ → Prop) (hx : ∀ n s, I 0 s → W (n + 1) 0 s)
    (hs : ∀ n i s, I (i + 1) s → (∀ s', I i s' → W n i s') → W (n + 1) (i + 1) s) : ∀ (e : Nat) (s : σ), I e s → W (e + 1) e s := by
  intro e
  induction e with
  | zero => exact fun s h => hx 0 s h
  | succ e ih => exact fun s h => hs (e + 1) e s h (fun s' h' => ih s' h')
/-! rows on bits, shifts and unsigned numbers, to paste: each family out of a closed proof of our own, whole with what it rests on; each by itself clean at Lean in its own claim (generation 39, form 5). Take a family whole -/
/-! ===== Int32 by its bits: bt x i ===== -/
def bt (x : Int32) (i : Nat) : Bool := x.toBitVec.getLsbD i
theorem b_ext {x y : Int32} (h : ∀ i, i < 32 → bt x i = bt y i) : x = y := Int32.toBitVec_inj.mp (BitVec.eq_of_getLsbD_eq (fun i hi => h i hi))
theorem b_or (x y : Int32) (i : Nat) : bt (x ||| y) i = (bt x i || bt y i) := by unfold bt; rw [Int32.toBitVec_or, BitVec.getLsbD_or]
theorem b_and (x y : Int32) (i : Nat) : bt (x &&& y) i = (bt x i && bt y i) := by unfold bt; rw [Int32.toBitVec_and, BitVec.getLsbD_and]
theorem b_xor (x y : Int32) (i : Nat) : bt (x ^^^ y) i = (bt x i ^^ bt y i) := by unfold bt; rw [Int32.toBitVec_xor, BitVec.getLsbD_xor]
theorem b_big {x : Int32} {i : Nat} (h : 32 ≤ i) : bt x i = false := BitVec.getLsbD_of_ge _ _ h
theorem b_255 (i : Nat) : bt 255 i = decide (i < 8) := by
  rcases Nat.lt_or_ge i 32 with h | h
  · exact (by decide +kernel : ∀ i, i < 32 → bt 255 i = decide (i < 8)) i h
  · rw [b_big h, decide_eq_false (by omega)]
theorem b_65535 (i : Nat) : bt 65535 i = decide (i < 16) := by
  rcases Nat.lt_or_ge i 32 with h | h
  · exact (by decide +kernel : ∀ i, i < 32 → bt 65535 i = decide (i < 16)) i h
  · rw [b_big h, decide_eq_false (by omega)]
theorem b_m1 : ∀ i, i < 32 → bt (-1) i = true := by decide +kernel
theorem b_0 (i : Nat) : bt 0 i = false := BitVec.getLsbD_zero
theorem s_l : ∀ n, n < 32 → ((nI n &&& 31).toBitVec.smod 32).toNat = n := by decide +kernel
theorem s_u : ∀ n, n < 32 → (((nI n).toUInt32 &&& Int32.toUInt32 31).toBitVec % 32).toNat = n := by decide +kernel
theorem b_shl (n : Nat) (hn : n < 32) (x : Int32) {i : Nat} (hi : i < 32) : bt (x <<< (nI n &&& 31)) i = (decide (n ≤ i) && bt x (i - n)) := by
  unfold bt
  rw [Int32.toBitVec_shiftLeft]
  show (x.toBitVec <<< ((nI n &&& 31).toBitVec.smod 32).toNat).getLsbD i = _
  rw [s_l n hn, BitVec.getLsbD_shiftLeft]
  rcases Nat.lt_or_ge i n with h | h
  · simp [h, Nat.not_le.mpr h]
  · simp [hi, h, Nat.not_lt.mpr h]
theorem b_ushr (n : Nat) (hn : n < 32) (x : Int32) (i : Nat) : bt ((x.toUInt32 >>> ((nI n).toUInt32 &&& Int32.toUInt32 31)).toInt32) i = bt x (n + i) := by
  show (x.toUInt32 >>> ((nI n).toUInt32 &&& Int32.toUInt32 31)).toBitVec.getLsbD i = x.toUInt32.toBitVec.getLsbD (n + i)
  rw [UInt32.toBitVec_shiftRight]
  show (x.toUInt32.toBitVec >>> (((nI n).toUInt32 &&& Int32.toUInt32 31).toBitVec % 32).toNat).getLsbD i = _
  rw [s_u n hn, BitVec.getLsbD_ushiftRight]
theorem b_sshr (n : Nat) (hn : n < 32) (x : Int32) {i : Nat} (hi : i < 32) : bt (x >>> (nI n &&& 31)) i = if n + i < 32 then bt x (n + i) else bt x 31 := by
  unfold bt
  rw [Int32.toBitVec_shiftRight]
  show (x.toBitVec.sshiftRight ((nI n &&& 31).toBitVec.smod 32).toNat).getLsbD i = _
  rw [s_l n hn, BitVec.getLsbD_sshiftRight, BitVec.msb_eq_getLsbD_last]
  simp [hi]
theorem b_shl8 (x : Int32) {i : Nat} (hi : i < 32) : bt (x <<< ((8 : Int32) &&& 31)) i = (decide (8 ≤ i) && bt x (i - 8)) := b_shl 8 (by omega) x hi
theorem b_shl16 (x : Int32) {i : Nat} (hi : i < 32) : bt (x <<< ((16 : Int32) &&& 31)) i = (decide (16 ≤ i) && bt x (i - 16)) := b_shl 16 (by omega) x hi
theorem b_shl24 (x : Int32) {i : Nat} (hi : i < 32) : bt (x <<< ((24 : Int32) &&& 31)) i = (decide (24 ≤ i) && bt x (i - 24)) := b_shl 24 (by omega) x hi
theorem b_sshr8 (x : Int32) {i : Nat} (hi : i < 32) : bt (x >>> ((8 : Int32) &&& 31)) i = if 8 + i < 32 then bt x (8 + i) else bt x 31 := b_sshr 8 (by omega) x hi
/-! ===== nI under and, xor, >>>, one bit, 65535 ===== -/
theorem nx_and (a b : Nat) : nI a &&& nI b = nI (a &&& b) := by
  apply Int32.toBitVec_inj.1
  show BitVec.ofNat 32 a &&& BitVec.ofNat 32 b = BitVec.ofNat 32 (a &&& b)
  apply BitVec.eq_of_getLsbD_eq
  intro i hi
  simp [hi]
theorem nx_xor (a b : Nat) : nI a ^^^ nI b = nI (a ^^^ b) := by
  apply Int32.toBitVec_inj.1
  show BitVec.ofNat 32 a ^^^ BitVec.ofNat 32 b = BitVec.ofNat 32 (a ^^^ b)
  apply BitVec.eq_of_getLsbD_eq
  intro i hi
  simp [hi]
theorem nx_cnt : ∀ j : Fin 32, (UInt32.ofNat j.val &&& Int32.toUInt32 31).toNat % 32 = j.val := by decide +kernel
theorem nx_ush {k j : Nat} (hk : k < 65536) (hj : j < 32) : ((nI k).toUInt32 >>> ((nI j).toUInt32 &&& Int32.toUInt32 31)).toInt32 = nI (k >>> j) := by
  have hs : k >>> j ≤ k := by
    rw [Nat.shiftRight_eq_div_pow]
    exact Nat.div_le_self _ _
  have e2 : UInt32.ofNat k >>> (UInt32.ofNat j &&& Int32.toUInt32 31) = UInt32.ofNat (k >>> j) := by
    apply UInt32.toNat_inj.1
    have h1 : (UInt32.ofNat k).toNat = k := Nat.mod_eq_of_lt (by omega)
    have h2 : (UInt32.ofNat (k >>> j)).toNat = k >>> j := Nat.mod_eq_of_lt (by omega)
    rw [UInt32.toNat_shiftRight, nx_cnt ⟨j, hj⟩, h1, h2]
  show (UInt32.ofNat k >>> (UInt32.ofNat j &&& Int32.toUInt32 31)).toInt32 = _
  rw [e2]
  rfl
theorem nx_bit {k j : Nat} (hk : k < 65536) (hj : j < 16) : (((nI k).toUInt32 >>> ((nI j).toUInt32 &&& Int32.toUInt32 31)).toInt32 &&& 1) = 0 ↔ k.testBit j = false := by
  rw [nx_ush hk (by omega)]
  show nI (k >>> j) &&& nI 1 = 0 ↔ _
  rw [nx_and, Nat.and_one_is_mod, ← nI_0, nI_eq (by omega) (by omega), Nat.testBit_eq_decide_div_mod_eq, Nat.shiftRight_eq_div_pow, decide_eq_false_iff_not]
  generalize k / 2 ^ j = z
  omega
theorem nx_mod (k : Nat) : nI k &&& 65535 = nI (k % 65536) := by
  show nI k &&& nI 65535 = _
  rw [nx_and, show (65535 : Nat) = 2 ^ 16 - 1 from rfl, Nat.and_two_pow_sub_one_eq_mod]
theorem nx_m16 {k : Nat} (h : k < 65536) : nI k &&& 65535 = nI k := by rw [nx_mod, Nat.mod_eq_of_lt h]
theorem nx_mask (x : Int32) : ∃ k, k < 65536 ∧ x &&& 65535 = nI k := by
  have e : x = nI x.toBitVec.toNat := by
    apply Int32.toBitVec_inj.1
    show x.toBitVec = BitVec.ofNat 32 x.toBitVec.toNat
    simp
  refine ⟨x.toBitVec.toNat % 65536, Nat.mod_lt _ (by omega), ?_⟩
  rw [← nx_mod, ← e]
/-! ===== Int32 as a set of bits: test, set ===== -/
def nf_M (m : Int32) : Nat := 4294967296 - m.toBitVec.toNat
theorem nf_sh : ∀ l, l < 32 → ((1 : Int32) <<< (nI l &&& 31)).toBitVec = BitVec.twoPow 32 l := by decide +kernel
theorem nf_sl : ∀ l, l < 32 → (((nI l).toUInt32 &&& Int32.toUInt32 31).toBitVec % 32).toNat = l := by decide +kernel
theorem nf_tp : ∀ l, l < 32 → BitVec.twoPow 32 l ≠ 0#32 := by decide +kernel
theorem nf_bit (m : Int32) (l : Nat) (hl : l < 32) : ((m.toUInt32 >>> ((nI l).toUInt32 &&& Int32.toUInt32 31)).toInt32 &&& 1) = 0 ↔ (m &&& ((1 : Int32) <<< (nI l &&& 31))) = 0 := by
  have e : ((m.toUInt32 >>> ((nI l).toUInt32 &&& Int32.toUInt32 31)).toInt32).toBitVec = m.toBitVec >>> l := by
    show m.toBitVec >>> (((nI l).toUInt32 &&& Int32.toUInt32 31).toBitVec % 32) = m.toBitVec >>> l
    rw [BitVec.ushiftRight_eq', nf_sl l hl]
  rw [← Int32.toBitVec_inj, ← Int32.toBitVec_inj, Int32.toBitVec_and, Int32.toBitVec_and, nf_sh l hl, e, BitVec.and_twoPow]
  show (m.toBitVec >>> l &&& 1#32) = 0#32 ↔ _ = 0#32
  rw [BitVec.and_one_eq_setWidth_ofBool_getLsbD, BitVec.getLsbD_ushiftRight, Nat.add_zero]
  cases hb : m.toBitVec.getLsbD l
  · exact ⟨fun _ => by simp, fun _ => by decide⟩
  · exact ⟨fun z => absurd z (by decide), fun z => absurd ((if_pos rfl).symm.trans z) (nf_tp l hl)⟩
theorem nf_gr (m k : Int32) (h : m &&& k = 0) (hk : k ≠ 0) : nf_M (m ||| k) < nf_M m := by
  have hm := m.toBitVec.isLt
  have hm' := (m ||| k).toBitVec.isLt
  have h1 : m.toBitVec.toNat ≤ (m ||| k).toBitVec.toNat := by
    rw [Int32.toBitVec_or, BitVec.toNat_or]
    exact Nat.left_le_or
  have h2 : m.toBitVec.toNat ≠ (m ||| k).toBitVec.toNat := by
    intro e
    have e2 : m = m ||| k := Int32.toBitVec_inj.mp (BitVec.eq_of_toNat_eq e)
    apply hk
    apply Int32.toBitVec_inj.mp
    show k.toBitVec = 0#32
    apply BitVec.eq_of_getLsbD_eq
    intro i hi
    have a : m.toBitVec.getLsbD i = (m.toBitVec.getLsbD i || k.toBitVec.getLsbD i) := by rw [← BitVec.getLsbD_or, ← Int32.toBitVec_or, ← e2]
    have b : (m.toBitVec.getLsbD i && k.toBitVec.getLsbD i) = false := by
      rw [← BitVec.getLsbD_and, ← Int32.toBitVec_and, h]
      exact BitVec.getLsbD_zero
    rw [BitVec.getLsbD_zero]
    revert a b
    cases m.toBitVec.getLsbD i <;> cases k.toBitVec.getLsbD i <;> simp
  unfold nf_M
  omega
/-! small rows of this claim -/
theorem bs_us {f : Nat → Int32} {k : Nat} {x : Int32} : upd f k x k = x := if_pos rfl
theorem bs_un {f : Nat → Int32} {k j : Nat} {x : Int32} (h : j ≠ k) : upd f k x j = f j := if_neg h
/-- a bit tested by >>> -/
theorem bs_bit (m : Int32) (l : Nat) (hl : l < 32) : ((m.toUInt32 >>> ((nI l).toUInt32 &&& Int32.toUInt32 31)).toInt32 &&& 1) = 0 ↔ bt m l = false := by
  have e1 : ∀ i, bt (((m.toUInt32 >>> ((nI l).toUInt32 &&& Int32.toUInt32 31)).toInt32) &&& 1) i = (bt m (l + i) && bt 1 i) := fun i => by rw [b_and, b_ushr l hl]
  have h1 : ∀ i, i < 32 → bt 1 i = decide (i = 0) := by decide +kernel
  constructor
  · intro h
    have := e1 0
    rw [h, b_0, h1 0 (by omega)] at this
    simpa using this.symm
  · intro h
    apply b_ext
    intro i hi
    rw [e1, b_0, h1 i hi]
    by_cases c : i = 0
    · subst c
      rw [Nat.add_zero, h]; rfl
    · rw [decide_eq_false c, Bool.and_false]
theorem bs_bitN (m : Int32) (l : Nat) (hl : l < 32) : ¬ ((m.toUInt32 >>> ((nI l).toUInt32 &&& Int32.toUInt32 31)).toInt32 &&& 1) = 0 ↔ bt m l = true := by
  rw [bs_bit m l hl]
  cases bt m l <;> simp
/-- a bit tested by >> -/
theorem bs_sbit (m : Int32) (l : Nat) (hl : l < 32) : ((m >>> (nI l &&& 31)) &&& 1) = 1 ↔ bt m l = true := by
  have h1 : ∀ i, i < 32 → bt 1 i = decide (i = 0) := by decide +kernel
  have e1 : ∀ i, i < 32 → bt ((m >>> (nI l &&& 31)) &&& 1) i = ((if l + i < 32 then bt m (l + i) else bt m 31) && bt 1 i) := fun i hi => by rw [b_and, b_sshr l hl m hi]
  constructor
  · intro h
    have := e1 0 (by omega)
    rw [h, h1 0 (by omega), Nat.add_zero, if_pos hl] at this
    simpa using this.symm
  · intro h
    apply b_ext
    intro i hi
    rw [e1 i hi, h1 i hi]
    by_cases c : i = 0
    · subst c
      rw [Nat.add_zero, if_pos hl, h]; rfl
    · rw [decide_eq_false c, Bool.and_false]
theorem bs_one (l i : Nat) (hl : l < 32) (hi : i < 32) : bt ((1 : Int32) <<< (nI l &&& 31)) i = decide (i = l) := by
  have h1 : ∀ i, i < 32 → bt 1 i = decide (i = 0) := by decide +kernel
  rw [b_shl l hl 1 hi]
  by_cases c : l ≤ i
  · rw [decide_eq_true c, Bool.true_and, h1 (i - l) (by omega)]
    by_cases e : i = l
    · subst e; simp
    · rw [decide_eq_false e, decide_eq_false (by omega)]
  · rw [decide_eq_false c, decide_eq_false (by omega)]; rfl
theorem bs_not (x : Int32) (i : Nat) (hi : i < 32) : bt (x ^^^ (-1)) i = !(bt x i) := by
  rw [b_xor, b_m1 i hi]
  cases bt x i <;> rfl
theorem bs_zero {m : Int32} (h : ∀ i, i < 32 → bt m i = false) : m = 0 := b_ext (fun i hi => by rw [h i hi, b_0])
theorem bs_nz {m : Int32} (h : ¬ m = 0) : ∃ i, i < 32 ∧ bt m i = true := by
  apply Classical.byContradiction
  intro c
  apply h
  apply bs_zero
  intro i hi
  cases e : bt m i
  · rfl
  · exact absurd ⟨i, hi, e⟩ c
theorem bs_mask : ∀ l, l ≤ 25 → ∀ i, i < 32 → bt (((1 : Int32) <<< (nI l &&& 31)) - 1) i = decide (i < l) := by decide +kernel
theorem bs_vb0 : vp_nar .boolean 0 = 0 := by decide
theorem bs_vb1 : vp_nar .boolean 1 = 1 := by decide
theorem bs_nb0 : narrow .boolean (.int (0 : Int32)) = .int 0 := rfl
theorem bs_nb1 : narrow .boolean (.int (1 : Int32)) = .int 1 := rfl
theorem bs_10 : ¬ (1 : Int32) = 0 := by decide
theorem bs_n1lt : (-1 : Int32) < 0 := by decide
theorem bs_n1le : ¬ (0 : Int32) ≤ -1 := by decide
theorem bs_m {n : Nat} (h : 0 < n) : nI n + (-1) = nI (n - 1) := by
  obtain ⟨m, rfl⟩ : ∃ m, n = m + 1 := ⟨n - 1, by omega⟩
  exact pk_m1 m
theorem bs_s {n : Nat} (h : 0 < n) : nI n - 1 = nI (n - 1) := by
  obtain ⟨m, rfl⟩ : ∃ m, n = m + 1 := ⟨n - 1, by omega⟩
  exact nI_pred m
theorem bs_0m : nI 0 + (-1) = -1 := by decide
theorem bs_0s : nI 0 - 1 = -1 := by decide
theorem bs_mad (a b c : Nat) : nI a * nI b + nI c = nI (a * b + c) := by rw [pk_mul, nI_add]
theorem bs_inj {a b : Nat} (ha : a < 2 ^ 31) (hb : b < 2 ^ 31) (h : nI a = nI b) : a = b := (nI_eq ha hb).mp h
theorem bs_lt0 {a : Nat} (h : a < 2 ^ 31) : ¬ nI a < 0 := nI_pos h
theorem bs_0le {a : Nat} (h : a < 2 ^ 31) : 0 ≤ nI a := nI_pos' h
theorem bs_f {x : Bool} (h : ¬ x = true) : x = false := by cases x <;> first | rfl | exact absurd rfl h
end
section
/-! paths and post-dominance over a graph E with the end n -/
def pd_av (E : Nat → Nat → Prop) (n p : Nat) : Nat → Nat → Prop
  | 0, q => q = n ∧ q ≠ p
  | k + 1, q => q ≠ p ∧ (q = n ∨ ∃ y, E q y ∧ pd_av E n p k y)
def pd_Av (E : Nat → Nat → Prop) (n p q : Nat) : Prop := ∃ k, pd_av E n p k q
def pd_rc (E : Nat → Nat → Prop) (n : Nat) : Nat → Nat → Prop
  | 0, q => q = n
  | k + 1, q => q = n ∨ ∃ y, E q y ∧ pd_rc E n k y
/-- p post-dominates q -/
def pd_PD (E : Nat → Nat → Prop) (n p q : Nat) : Prop := ¬ pd_Av E n p q
section
variable {E : Nat → Nat → Prop} {n : Nat}
theorem pd_av_s {p k q : Nat} : pd_av E n p (k + 1) q ↔ q ≠ p ∧ (q = n ∨ ∃ y, E q y ∧ pd_av E n p k y) := Iff.rfl
theorem pd_av_ne {p k q : Nat} (h : pd_av E n p k q) : q ≠ p := by
  cases k with
  | zero => exact h.2
  | succ k => exact h.1
theorem pd_av_m1 {p : Nat} : ∀ (k q : Nat), pd_av E n p k q → pd_av E n p (k + 1) q := by
  intro k
  induction k with
  | zero => intro q h; exact ⟨h.2, Or.inl h.1⟩
  | succ k ih =>
    intro q h
    rcases h with ⟨h1, h2 | ⟨y, h3, h4⟩⟩
    · exact ⟨h1, Or.inl h2⟩
    · exact ⟨h1, Or.inr ⟨y, h3, ih y h4⟩⟩
theorem pd_av_m {p k q : Nat} (j : Nat) (h : pd_av E n p k q) : pd_av E n p (k + j) q := by
  induction j with
  | zero => exact h
  | succ j ih => exact pd_av_m1 _ _ ih
theorem pd_av_le {p k k' q : Nat} (hk : k ≤ k') (h : pd_av E n p k q) : pd_av E n p k' q := by
  have := pd_av_m (k' - k) h
  rwa [show k + (k' - k) = k' by omega] at this
theorem pd_Av_ne {p q : Nat} (h : pd_Av E n p q) : q ≠ p := h.elim fun _ z => pd_av_ne z
theorem pd_Av_n {p : Nat} (h : n ≠ p) : pd_Av E n p n := ⟨0, rfl, h⟩
theorem pd_Av_step {p q y : Nat} (he : E q y) (hq : q ≠ p) (h : pd_Av E n p y) : pd_Av E n p q := by
  obtain ⟨k, hk⟩ := h
  exact ⟨k + 1, hq, Or.inr ⟨y, he, hk⟩⟩
theorem pd_Av_inv {p q : Nat} (hq : q ≠ n) (h : pd_Av E n p q) : q ≠ p ∧ ∃ y, E q y ∧ pd_Av E n p y := by
  obtain ⟨k, hk⟩ := h
  cases k with
  | zero => exact absurd hk.1 hq
  | succ k =>
    rcases hk with ⟨h1, h2 | ⟨y, h3, h4⟩⟩
    · exact absurd h2 hq
    · exact ⟨h1, y, h3, k, h4⟩
theorem pd_end (q : Nat) : pd_PD E n n q := by
  intro ⟨k, hk⟩
  induction k generalizing q with
  | zero => exact hk.2 hk.1
  | succ k ih =>
    rcases hk with ⟨h1, h2 | ⟨y, _, h4⟩⟩
    · exact h1 h2
    · exact ih y h4
theorem pd_refl (q : Nat) : pd_PD E n q q := fun h => pd_Av_ne h rfl
theorem pd_ofn {p : Nat} (h : pd_PD E n p n) : p = n := by
  by_cases e : n = p
  · exact e.symm
  · exact absurd (pd_Av_n e) h
theorem pd_sub {s p : Nat} (h : pd_PD E n s p) : ∀ (k q : Nat), pd_av E n s k q → pd_av E n p k q := by
  intro k
  induction k with
  | zero =>
    intro q hq
    refine ⟨hq.1, fun e => h ?_⟩
    rw [← e]; exact ⟨0, hq⟩
  | succ k ih =>
    intro q hq
    have hn : q ≠ p := fun e => h (by rw [← e]; exact ⟨k + 1, hq⟩)
    rcases hq with ⟨h1, h2 | ⟨y, h3, h4⟩⟩
    · exact ⟨hn, Or.inl h2⟩
    · exact ⟨hn, Or.inr ⟨y, h3, ih y h4⟩⟩
theorem pd_subA {s p q : Nat} (h : pd_PD E n s p) (hq : pd_Av E n s q) : pd_Av E n p q := by
  obtain ⟨k, hk⟩ := hq
  exact ⟨k, pd_sub h k q hk⟩
theorem pd_trans {s p q : Nat} (h1 : pd_PD E n s p) (h2 : pd_PD E n p q) : pd_PD E n s q := fun h => h2 (pd_subA h1 h)
theorem pd_anti {p q : Nat} (h1 : pd_PD E n p q) (h2 : pd_PD E n q p) (hr : ∃ k, pd_rc E n k q) : p = q := by
  apply Classical.byContradiction
  intro hne
  have key : ∀ (k x : Nat), pd_rc E n k x → pd_Av E n p x := by
    intro k
    induction k with
    | zero =>
      intro x hx
      have e : x = n := hx
      subst e
      by_cases c : x = p
      · exact pd_subA h2 (pd_Av_n (fun z => hne (c.symm.trans z)))
      · exact pd_Av_n c
    | succ k ih =>
      intro x hx
      rcases hx with e | ⟨y, he, hy⟩
      · subst e
        by_cases c : x = p
        · exact pd_subA h2 (pd_Av_n (fun z => hne (c.symm.trans z)))
        · exact pd_Av_n c
      · have hp := ih y hy
        have hq := pd_subA h1 hp
        by_cases c : x = p
        · exact pd_subA h2 (pd_Av_step he (fun z => hne (c.symm.trans z)) hq)
        · exact pd_Av_step he c hp
  obtain ⟨k, hk⟩ := hr
  exact h1 (key k q hk)
/-- a step keeps strict post-dominators -/
theorem pd_step {p q y : Nat} (he : E q y) (hq : q ≠ p) (h : pd_PD E n p q) : pd_PD E n p y := fun z => h (pd_Av_step he hq z)
/-- the immediate post-dominator exists -/
theorem pd_imm {q : Nat} (hq : q ≠ n) (hr : ∃ k, pd_rc E n k q) : ∃ p, p ≠ q ∧ pd_PD E n p q ∧ ∀ s, s ≠ q → pd_PD E n s q → pd_PD E n s p := by
  have key : ∀ (k x : Nat), pd_rc E n k x → (∀ s, s ≠ q → pd_PD E n s q → pd_PD E n s x) → ∃ p, p ≠ q ∧ pd_PD E n p q ∧ ∀ s, s ≠ q → pd_PD E n s q → pd_PD E n s p := by
    intro k
    induction k with
    | zero =>
      intro x hx hI
      have e : x = n := hx
      subst e
      exact ⟨x, fun z => hq z.symm, pd_end q, hI⟩
    | succ k ih =>
      intro x hx hI
      rcases hx with e | ⟨y, he, hy⟩
      · subst e
        exact ⟨x, fun z => hq z.symm, pd_end q, hI⟩
      · by_cases c : x ≠ q ∧ pd_PD E n x q
        · exact ⟨x, c.1, c.2, hI⟩
        · refine ih y hy (fun s hs hp => pd_step he ?_ (hI s hs hp))
          intro e
          subst e
          exact c ⟨hs, hp⟩
  obtain ⟨k, hk⟩ := hr
  exact key k q hk (fun _ _ h => h)
/-! counting, for the bound on paths -/
noncomputable def pd_cn (P : Nat → Prop) : Nat → Nat
  | 0 => 0
  | m + 1 => pd_cn P m + @ite Nat (P m) (Classical.propDecidable (P m)) 1 0
theorem pd_cn_t {P : Nat → Prop} {m : Nat} (h : P m) : pd_cn P (m + 1) = pd_cn P m + 1 := by
  show pd_cn P m + @ite Nat (P m) (Classical.propDecidable (P m)) 1 0 = _
  rw [if_pos h]
theorem pd_cn_f {P : Nat → Prop} {m : Nat} (h : ¬ P m) : pd_cn P (m + 1) = pd_cn P m := by
  show pd_cn P m + @ite Nat (P m) (Classical.propDecidable (P m)) 1 0 = _
  rw [if_neg h]; rfl
theorem pd_cn_le (P : Nat → Prop) (m : Nat) : pd_cn P m ≤ m := by
  induction m with
  | zero => exact Nat.le_refl 0
  | succ m ih =>
    by_cases h : P m
    · rw [pd_cn_t h]; omega
    · rw [pd_cn_f h]; omega
theorem pd_cn_mono {P Q : Nat → Prop} (m : Nat) (h : ∀ x, x < m → P x → Q x) : pd_cn P m ≤ pd_cn Q m := by
  induction m with
  | zero => exact Nat.le_refl 0
  | succ m ih =>
    have := ih (fun x hx => h x (by omega))
    by_cases hp : P m
    · rw [pd_cn_t hp, pd_cn_t (h m (by omega) hp)]; omega
    · rw [pd_cn_f hp]
      by_cases hq : Q m
      · rw [pd_cn_t hq]; omega
      · rw [pd_cn_f hq]; exact this
theorem pd_cn_lt {P Q : Nat → Prop} (m y : Nat) (h : ∀ x, x < m → P x → Q x) (hy : y < m) (hq : Q y) (hp : ¬ P y) : pd_cn P m < pd_cn Q m := by
  induction m with
  | zero => omega
  | succ m ih =>
    have hm := pd_cn_mono m (fun x hx => h x (by omega))
    by_cases e : y = m
    · subst e
      rw [pd_cn_f hp, pd_cn_t hq]; omega
    · have := ih (fun x hx => h x (by omega)) (by omega)
      by_cases hp' : P m
      · rw [pd_cn_t hp', pd_cn_t (h m (by omega) hp')]; omega
      · rw [pd_cn_f hp']
        by_cases hq' : Q m
        · rw [pd_cn_t hq']; omega
        · rw [pd_cn_f hq']; exact this
theorem pd_stab {p k : Nat} (hE : ∀ x y, E x y → y ≤ n) (h : ∀ x, x ≤ n → pd_av E n p (k + 1) x → pd_av E n p k x) : ∀ (j x : Nat), x ≤ n → pd_av E n p (k + j) x → pd_av E n p k x := by
  intro j
  induction j with
  | zero => intro x _ hx; exact hx
  | succ j ih =>
    intro x hx hv
    rcases hv with ⟨h1, h2 | ⟨y, h3, h4⟩⟩
    · exact h x hx ⟨h1, Or.inl h2⟩
    · exact h x hx ⟨h1, Or.inr ⟨y, h3, ih y (hE x y h3) h4⟩⟩
theorem pd_grow (p : Nat) (k : Nat) : (∃ k', k' < k ∧ ∀ x, x ≤ n → pd_av E n p (k' + 1) x → pd_av E n p k' x) ∨ k ≤ pd_cn (pd_av E n p k) (n + 1) := by
  induction k with
  | zero => exact Or.inr (Nat.zero_le _)
  | succ k ih =>
    rcases ih with ⟨k', h1, h2⟩ | ih
    · exact Or.inl ⟨k', by omega, h2⟩
    · by_cases c : ∀ x, x ≤ n → pd_av E n p (k + 1) x → pd_av E n p k x
      · exact Or.inl ⟨k, by omega, c⟩
      · right
        obtain ⟨x, hx⟩ := Classical.not_forall.mp c
        have hx1 : x ≤ n := Classical.byContradiction fun z => hx fun w => absurd w z
        have hx2 : pd_av E n p (k + 1) x := Classical.byContradiction fun z => hx fun _ w => absurd w z
        have hx3 : ¬ pd_av E n p k x := fun z => hx fun _ _ => z
        have := pd_cn_lt (P := pd_av E n p k) (Q := pd_av E n p (k + 1)) (n + 1) x (fun y _ hy => pd_av_m1 k y hy) (by omega) hx2 hx3
        omega
/-- a path may be taken of at most n + 1 steps -/
theorem pd_bound {p q : Nat} (hE : ∀ x y, E x y → y ≤ n) (hq : q ≤ n) (h : pd_Av E n p q) : pd_av E n p (n + 1) q := by
  obtain ⟨k, hk⟩ := h
  rcases pd_grow (E := E) (n := n) p (n + 2) with ⟨k', h1, h2⟩ | h1
  · by_cases c : k ≤ n + 1
    · exact pd_av_le c hk
    · have := pd_stab hE h2 (k - k') q hq (by rw [show k' + (k - k') = k by omega]; exact hk)
      exact pd_av_le (by omega) this
  · have := pd_cn_le (pd_av E n p (n + 2)) (n + 1)
    omega
end
end
section
/-! nesting by levels: ln m is the number of open blocks before line m -/
def ns_ln (kd : Nat → Int32) : Nat → Nat
  | 0 => 0
  | m + 1 => if kd m = 13 then ns_ln kd m + 1 else if kd m = 16 then ns_ln kd m + 1 else if kd m = 15 then ns_ln kd m - 1 else ns_ln kd m
def ns_Op (kd : Nat → Int32) (x : Nat) : Prop := kd x = 13 ∨ kd x = 16
/-- x is open before line m -/
def ns_OA (kd : Nat → Int32) (x m : Nat) : Prop := x < m ∧ ns_Op kd x ∧ ∀ j, x < j → j ≤ m → ns_ln kd x < ns_ln kd j
/-- i is the END of x -/
def ns_EN (kd : Nat → Int32) (x i : Nat) : Prop := x < i ∧ ns_Op kd x ∧ ns_ln kd (i + 1) = ns_ln kd x ∧ ∀ j, x < j → j ≤ i → ns_ln kd x < ns_ln kd j
/-- el is an ELSE of x -/
def ns_EL (kd : Nat → Int32) (x el : Nat) : Prop := ns_OA kd x el ∧ kd el = 14 ∧ ns_ln kd el = ns_ln kd x + 1
/-- w is the innermost WHILE around x -/
def ns_LP (kd : Nat → Int32) (w x : Nat) : Prop := ns_OA kd w x ∧ kd w = 16 ∧ ∀ w', ns_OA kd w' x → kd w' = 16 → w' ≤ w
def ns_WF1 (kd : Nat → Int32) (i : Nat) : Prop :=
  (1 ≤ kd i ∧ kd i ≤ 19) ∧
  (kd i = 14 → ∃ x, ns_OA kd x i ∧ ns_ln kd i = ns_ln kd x + 1 ∧ kd x = 13 ∧ ∀ el, el < i → ¬ ns_EL kd x el) ∧
  (kd i = 15 → 0 < ns_ln kd i) ∧
  (kd i = 17 ∨ kd i = 18 → ∃ w, ns_OA kd w i ∧ kd w = 16) ∧
  (ns_Op kd i → ns_ln kd i < 5) ∧
  (kd i = 16 → ∀ w1 w2, w1 < w2 → ns_OA kd w1 i → ns_OA kd w2 i → kd w1 = 16 → kd w2 = 16 → False)
def ns_WF (kd : Nat → Int32) (n : Nat) : Prop := ∀ i, i < n → ns_WF1 kd i
theorem ns_k1 : ¬ (13 : Int32) = 14 := by decide
theorem ns_k2 : ¬ (13 : Int32) = 15 := by decide
theorem ns_k3 : ¬ (13 : Int32) = 16 := by decide
theorem ns_k4 : ¬ (16 : Int32) = 14 := by decide
theorem ns_k5 : ¬ (16 : Int32) = 15 := by decide
theorem ns_k6 : ¬ (16 : Int32) = 13 := by decide
theorem ns_k7 : ¬ (15 : Int32) = 13 := by decide
theorem ns_k8 : ¬ (15 : Int32) = 16 := by decide
theorem ns_k9 : ¬ (14 : Int32) = 13 := by decide
theorem ns_k10 : ¬ (14 : Int32) = 16 := by decide
theorem ns_k11 : ¬ (14 : Int32) = 15 := by decide
section
variable {kd : Nat → Int32}
theorem ns_ln_s (m : Nat) : ns_ln kd (m + 1) = if kd m = 13 then ns_ln kd m + 1 else if kd m = 16 then ns_ln kd m + 1 else if kd m = 15 then ns_ln kd m - 1 else ns_ln kd m := rfl
theorem ns_ln_op {m : Nat} (h : ns_Op kd m) : ns_ln kd (m + 1) = ns_ln kd m + 1 := by
  rw [ns_ln_s]
  rcases h with h | h
  · rw [if_pos h]
  · rw [if_neg (by rw [h]; exact ns_k6), if_pos h]
theorem ns_ln_cl {m : Nat} (h : kd m = 15) : ns_ln kd (m + 1) = ns_ln kd m - 1 := by
  rw [ns_ln_s, if_neg (by rw [h]; exact ns_k7), if_neg (by rw [h]; exact ns_k8), if_pos h]
theorem ns_ln_o {m : Nat} (h : ¬ ns_Op kd m) (h2 : ¬ kd m = 15) : ns_ln kd (m + 1) = ns_ln kd m := by
  rw [ns_ln_s, if_neg (fun z => h (Or.inl z)), if_neg (fun z => h (Or.inr z)), if_neg h2]
theorem ns_nop {m : Nat} {c : Int32} (h : kd m = c) (h1 : ¬ c = 13) (h2 : ¬ c = 16) : ¬ ns_Op kd m := by
  rintro (z | z)
  · exact h1 (h.symm.trans z)
  · exact h2 (h.symm.trans z)
theorem ns_op_n15 {m : Nat} (h : ns_Op kd m) : ¬ kd m = 15 := by
  intro z
  rcases h with h | h
  · exact ns_k2 (h.symm.trans z)
  · exact ns_k5 (h.symm.trans z)
theorem ns_op_n14 {m : Nat} (h : ns_Op kd m) : ¬ kd m = 14 := by
  intro z
  rcases h with h | h
  · exact ns_k1 (h.symm.trans z)
  · exact ns_k4 (h.symm.trans z)
theorem ns_ln_le (m : Nat) : ns_ln kd (m + 1) ≤ ns_ln kd m + 1 ∧ ns_ln kd m ≤ ns_ln kd (m + 1) + 1 := by
  by_cases h : ns_Op kd m
  · rw [ns_ln_op h]; omega
  · by_cases h2 : kd m = 15
    · rw [ns_ln_cl h2]; omega
    · rw [ns_ln_o h h2]; omega
/-- only an END lowers the level -/
theorem ns_drop {m : Nat} (h : ns_ln kd (m + 1) < ns_ln kd m) : kd m = 15 := by
  apply Classical.byContradiction
  intro h2
  by_cases h1 : ns_Op kd m
  · rw [ns_ln_op h1] at h; omega
  · rw [ns_ln_o h1 h2] at h; omega
theorem ns_rise {m : Nat} (h : ns_ln kd m < ns_ln kd (m + 1)) : ns_Op kd m := by
  apply Classical.byContradiction
  intro h1
  by_cases h2 : kd m = 15
  · rw [ns_ln_cl h2] at h; omega
  · rw [ns_ln_o h1 h2] at h; omega
theorem ns_ln_c {kd' : Nat → Int32} (m : Nat) (h : ∀ j, j < m → kd' j = kd j) : ns_ln kd' m = ns_ln kd m := by
  induction m with
  | zero => rfl
  | succ m ih => rw [ns_ln_s, ns_ln_s, ih (fun j hj => h j (by omega)), h m (by omega)]
theorem ns_Op_c {kd' : Nat → Int32} {x : Nat} (h : kd' x = kd x) (z : ns_Op kd x) : ns_Op kd' x := by
  unfold ns_Op; rw [h]; exact z
theorem ns_OA_c {kd' : Nat → Int32} {x m : Nat} (h : ∀ j, j < m → kd' j = kd j) (z : ns_OA kd x m) : ns_OA kd' x m := by
  obtain ⟨h1, h2, h3⟩ := z
  refine ⟨h1, ns_Op_c (h x h1) h2, fun j a b => ?_⟩
  rw [ns_ln_c x (fun i hi => h i (by omega)), ns_ln_c j (fun i hi => h i (by omega))]
  exact h3 j a b
theorem ns_EL_c {kd' : Nat → Int32} {x el : Nat} (h : ∀ j, j ≤ el → kd' j = kd j) (z : ns_EL kd x el) : ns_EL kd' x el := by
  obtain ⟨h1, h2, h3⟩ := z
  refine ⟨ns_OA_c (fun j hj => h j (by omega)) h1, (h el (Nat.le_refl _)).trans h2, ?_⟩
  rw [ns_ln_c el (fun i hi => h i (by omega)), ns_ln_c x (fun i hi => h i (by have := h1.1; omega))]
  exact h3
theorem ns_WF1_c {kd' : Nat → Int32} {i : Nat} (h : ∀ j, j ≤ i → kd' j = kd j) (z : ns_WF1 kd i) : ns_WF1 kd' i := by
  obtain ⟨a, b, c, d, e, f⟩ := z
  have hi := h i (Nat.le_refl _)
  have hl := ns_ln_c i (fun j hj => h j (by omega))
  have hb : ∀ j, j < i → kd' j = kd j := fun j hj => h j (by omega)
  have hb' : ∀ j, j < i → kd j = kd' j := fun j hj => (h j (by omega)).symm
  refine ⟨by rw [hi]; exact a, ?_, by rw [hi, hl]; exact c, ?_, ?_, ?_⟩
  · rw [hi, hl]
    intro k
    obtain ⟨x, x1, x2, x3, x4⟩ := b k
    refine ⟨x, ns_OA_c hb x1, ?_, (hb x x1.1).trans x3, fun el he hel => x4 el he (ns_EL_c (fun j hj => hb' j (by omega)) hel)⟩
    rw [ns_ln_c x (fun j hj => hb j (by have := x1.1; omega))]; exact x2
  · rw [hi]
    intro k
    obtain ⟨w, w1, w2⟩ := d k
    exact ⟨w, ns_OA_c hb w1, (hb w w1.1).trans w2⟩
  · intro k
    rw [hl]
    exact e (ns_Op_c hi.symm k)
  · rw [hi]
    intro k w1 w2 l o1 o2 k1 k2
    exact f k w1 w2 l (ns_OA_c hb' o1) (ns_OA_c hb' o2) ((hb' w1 o1.1).trans k1) ((hb' w2 o2.1).trans k2)
theorem ns_WF_c {kd' : Nat → Int32} {n : Nat} (h : ∀ j, j < n → kd' j = kd j) (z : ns_WF kd n) : ns_WF kd' n := fun i hi => ns_WF1_c (fun j hj => h j (by omega)) (z i hi)
/-! uniqueness -/
theorem ns_OA_u {x y m : Nat} (h1 : ns_OA kd x m) (h2 : ns_OA kd y m) (e : ns_ln kd x = ns_ln kd y) : x = y := by
  rcases Nat.lt_trichotomy x y with c | c | c
  · have := h1.2.2 y c (by have := h2.1; omega); omega
  · exact c
  · have := h2.2.2 x c (by have := h1.1; omega); omega
theorem ns_OA_lt {x y m : Nat} (h1 : ns_OA kd x m) (h2 : ns_OA kd y m) (c : x < y) : ns_ln kd x < ns_ln kd y := h1.2.2 y c (by have := h2.1; omega)
theorem ns_EN_OA {x i : Nat} (h : ns_EN kd x i) : ns_OA kd x i := ⟨h.1, h.2.1, h.2.2.2⟩
theorem ns_EN_15 {x i : Nat} (h : ns_EN kd x i) : kd i = 15 := by
  obtain ⟨h1, h2, h3, h4⟩ := h
  exact ns_drop (by rw [h3]; exact h4 i h1 (Nat.le_refl _))
theorem ns_EN_ln {x i : Nat} (h : ns_EN kd x i) : ns_ln kd i = ns_ln kd x + 1 := by
  have h1 := ns_ln_cl (ns_EN_15 h)
  have h2 := h.2.2.1
  have h3 := h.2.2.2 i h.1 (Nat.le_refl _)
  omega
theorem ns_EN_u {x i i' : Nat} (h : ns_EN kd x i) (h' : ns_EN kd x i') : i = i' := by
  rcases Nat.lt_trichotomy i i' with c | c | c
  · have := h'.2.2.2 (i + 1) (by have := h.1; omega) (by omega)
    rw [h.2.2.1] at this; omega
  · exact c
  · have := h.2.2.2 (i' + 1) (by have := h'.1; omega) (by omega)
    rw [h'.2.2.1] at this; omega
theorem ns_EN_u2 {x y i : Nat} (h : ns_EN kd x i) (h' : ns_EN kd y i) : x = y :=
  ns_OA_u (ns_EN_OA h) (ns_EN_OA h') (h.2.2.1.symm.trans h'.2.2.1)
theorem ns_EL_u2 {x y el : Nat} (h : ns_EL kd x el) (h' : ns_EL kd y el) : x = y :=
  ns_OA_u h.1 h'.1 (by have := h.2.2; have := h'.2.2; omega)
theorem ns_EL_u {n x el el' : Nat} (hw : ns_WF kd n) (h : ns_EL kd x el) (h' : ns_EL kd x el') (he : el < n) (he' : el' < n) : el = el' := by
  have aux : ∀ a b, a < n → ns_EL kd x a → ns_EL kd x b → b < a → False := by
    intro a b ha ea eb hba
    obtain ⟨x', x1, x2, _, x4⟩ := (hw a ha).2.1 ea.2.1
    have : x' = x := ns_OA_u x1 ea.1 (by have := ea.2.2; omega)
    subst this
    exact x4 b hba eb
  rcases Nat.lt_trichotomy el el' with c | c | c
  · exact (aux el' el he' h' h c).elim
  · exact c
  · exact (aux el el' he h h' c).elim
theorem ns_EL_13 {n x el : Nat} (hw : ns_WF kd n) (h : ns_EL kd x el) (he : el < n) : kd x = 13 := by
  obtain ⟨x', x1, x2, x3, _⟩ := (hw el he).2.1 h.2.1
  have : x' = x := ns_OA_u x1 h.1 (by have := h.2.2; omega)
  subst this
  exact x3
theorem ns_LP_u {w w' x : Nat} (h : ns_LP kd w x) (h' : ns_LP kd w' x) : w = w' :=
  Nat.le_antisymm (h'.2.2 w h.1 h.2.1) (h.2.2 w' h'.1 h'.2.1)
/-! existence -/
theorem ns_lev (m : Nat) : ∀ l, l < ns_ln kd m → ∃ x, ns_OA kd x m ∧ ns_ln kd x = l := by
  induction m with
  | zero => intro l hl; exact absurd hl (Nat.not_lt_zero _)
  | succ m ih =>
    intro l hl
    by_cases h : l < ns_ln kd m
    · obtain ⟨x, h1, h2⟩ := ih l h
      refine ⟨x, ⟨by have := h1.1; omega, h1.2.1, fun j a b => ?_⟩, h2⟩
      by_cases e : j = m + 1
      · subst e; omega
      · exact h1.2.2 j a (by omega)
    · have ho := ns_rise (kd := kd) (m := m) (by omega)
      have := ns_ln_op ho
      refine ⟨m, ⟨by omega, ho, fun j a b => ?_⟩, by omega⟩
      have : j = m + 1 := by omega
      subst this; omega
theorem ns_LP_ex {w x : Nat} (h : ns_OA kd w x) (hk : kd w = 16) : ∃ w', ns_LP kd w' x := by
  have : ∀ d w, x - w ≤ d → ns_OA kd w x → kd w = 16 → ∃ w', ns_LP kd w' x := by
    intro d
    induction d with
    | zero => intro w hd ho _; have := ho.1; omega
    | succ d ih =>
      intro w hd ho hk
      by_cases c : ∃ w', ns_OA kd w' x ∧ kd w' = 16 ∧ w < w'
      · obtain ⟨w', c1, c2, c3⟩ := c
        exact ih w' (by have := ho.1; omega) c1 c2
      · refine ⟨w, ho, hk, fun w' h1 h2 => ?_⟩
        apply Classical.byContradiction
        intro z
        exact c ⟨w', h1, h2, by omega⟩
  exact this (x - w) w (Nat.le_refl _) h hk
theorem ns_EN_or {x m : Nat} (ho : ns_Op kd x) (hm : x < m) : ns_OA kd x m ∨ ∃ i, i < m ∧ ns_EN kd x i := by
  induction m with
  | zero => omega
  | succ m ih =>
    by_cases e : x = m
    · subst e
      left
      refine ⟨hm, ho, fun j a b => ?_⟩
      have : j = x + 1 := by omega
      subst this
      rw [ns_ln_op ho]; omega
    · rcases ih (by omega) with h | ⟨i, h1, h2⟩
      · by_cases c : ns_ln kd x < ns_ln kd (m + 1)
        · left
          refine ⟨hm, ho, fun j a b => ?_⟩
          by_cases e2 : j = m + 1
          · subst e2; exact c
          · exact h.2.2 j a (by omega)
        · right
          refine ⟨m, by omega, h.1, ho, ?_, h.2.2⟩
          have h3 := h.2.2 m h.1 (Nat.le_refl _)
          have h4 := (ns_ln_le (kd := kd) m).2
          omega
      · exact Or.inr ⟨i, by omega, h2⟩
theorem ns_EN_ex {n x : Nat} (h0 : ns_ln kd n = 0) (ho : ns_Op kd x) (hx : x < n) : ∃ i, i < n ∧ ns_EN kd x i := by
  rcases ns_EN_or ho hx with h | h
  · have := h.2.2 n hx (Nat.le_refl _); omega
  · exact h
theorem ns_OA_EN {x m i : Nat} (h : ns_OA kd x m) (h2 : ns_EN kd x i) : m ≤ i := by
  apply Classical.byContradiction
  intro c
  have := h.2.2 (i + 1) (by have := h2.1; omega) (by omega)
  rw [h2.2.2.1] at this; omega
/-- inside is open -/
theorem ns_in {x i m : Nat} (h : ns_EN kd x i) (h1 : x < m) (h2 : m ≤ i) : ns_OA kd x m := ⟨h1, h.2.1, fun j a b => h.2.2.2 j a (by omega)⟩
end
end
section
/-! where a lane goes: the specification of both ways, and the moves -/
def wy_W (kd : Nat → Int32) (n x : Nat) (a b : Int32) : Prop :=
  (kd x < 13 → a = nI (x + 1) ∧ b = nI (x + 1)) ∧
  (kd x = 13 → a = nI (x + 1) ∧ ((∃ el, ns_EL kd x el ∧ el < n ∧ b = nI (el + 1)) ∨ ((∀ el, el < n → ¬ ns_EL kd x el) ∧ ∃ i, ns_EN kd x i ∧ i < n ∧ b = nI i))) ∧
  (kd x = 14 → ∃ x0 i, ns_EL kd x0 x ∧ ns_EN kd x0 i ∧ i < n ∧ a = nI i ∧ b = nI i) ∧
  (kd x = 15 → ∃ x0, ns_EN kd x0 x ∧ ((kd x0 = 16 ∧ a = nI x0 ∧ b = nI x0) ∨ (kd x0 = 13 ∧ a = nI (x + 1) ∧ b = nI (x + 1)))) ∧
  (kd x = 16 → ∃ i, ns_EN kd x i ∧ i < n ∧ a = nI (x + 1) ∧ b = nI (i + 1)) ∧
  (kd x = 17 → b = nI (x + 1) ∧ ∃ w i, ns_LP kd w x ∧ ns_EN kd w i ∧ i < n ∧ a = nI (i + 1)) ∧
  (kd x = 18 → b = nI (x + 1) ∧ ∃ w i, ns_LP kd w x ∧ ns_EN kd w i ∧ i < n ∧ a = nI i) ∧
  (kd x = 19 → a = -1 ∧ b = nI (x + 1))
/-- the kinds, one by one -/
theorem wy_kinds {k : Int32} (h1 : 1 ≤ k) (h2 : k ≤ 19) : k < 13 ∨ k = 13 ∨ k = 14 ∨ k = 15 ∨ k = 16 ∨ k = 17 ∨ k = 18 ∨ k = 19 := by
  obtain ⟨j, hj, rfl⟩ := nI_of2 (x := k) (M := 19) (n := 19) (by decide) (fun z => by
    rw [Int32.lt_iff_toInt_lt] at z
    rw [Int32.le_iff_toInt_le] at h1
    have e1 : (1 : Int32).toInt = 1 := by decide
    have e0 : (0 : Int32).toInt = 0 := by decide
    omega) h2
  have : ∀ j, j ≤ 19 → nI j < 13 ∨ nI j = 13 ∨ nI j = 14 ∨ nI j = 15 ∨ nI j = 16 ∨ nI j = 17 ∨ nI j = 18 ∨ nI j = 19 := by decide +kernel
  exact this j hj
theorem wy_lt13 {k c : Int32} (h : k < 13) (hc : 13 ≤ c) : ¬ k = c := by
  intro e
  subst e
  exact absurd h (Int32.not_lt.mpr hc)
section
variable {kd : Nat → Int32} {n : Nat}
theorem wy_u {x : Nat} {a b a' b' : Int32} (hw : ns_WF kd n) (hx : x < n) (h : wy_W kd n x a b) (h' : wy_W kd n x a' b') : a = a' ∧ b = b' := by
  obtain ⟨p1, p2, p3, p4, p5, p6, p7, p8⟩ := h
  obtain ⟨q1, q2, q3, q4, q5, q6, q7, q8⟩ := h'
  rcases wy_kinds (hw x hx).1.1 (hw x hx).1.2 with k | k | k | k | k | k | k | k
  · obtain ⟨r1, r2⟩ := p1 k
    obtain ⟨s1, s2⟩ := q1 k
    exact ⟨r1.trans s1.symm, r2.trans s2.symm⟩
  · obtain ⟨r1, r2⟩ := p2 k
    obtain ⟨s1, s2⟩ := q2 k
    refine ⟨r1.trans s1.symm, ?_⟩
    rcases r2 with ⟨el, e1, e2, e3⟩ | ⟨f1, i, f2, f3, f4⟩
    · rcases s2 with ⟨el', g1, g2, g3⟩ | ⟨g1, _⟩
      · rw [e3, g3, ns_EL_u hw e1 g1 e2 g2]
      · exact absurd e1 (g1 el e2)
    · rcases s2 with ⟨el', g1, g2, g3⟩ | ⟨_, i', g2, g3, g4⟩
      · exact absurd g1 (f1 el' g2)
      · rw [f4, g4, ns_EN_u f2 g2]
  · obtain ⟨x0, i, r1, r2, r3, r4, r5⟩ := p3 k
    obtain ⟨y0, j, s1, s2, s3, s4, s5⟩ := q3 k
    have := ns_EL_u2 r1 s1
    subst this
    have := ns_EN_u r2 s2
    subst this
    exact ⟨r4.trans s4.symm, r5.trans s5.symm⟩
  · obtain ⟨x0, r1, r2⟩ := p4 k
    obtain ⟨y0, s1, s2⟩ := q4 k
    have := ns_EN_u2 r1 s1
    subst this
    rcases r2 with ⟨t1, t2, t3⟩ | ⟨t1, t2, t3⟩
    · rcases s2 with ⟨u1, u2, u3⟩ | ⟨u1, u2, u3⟩
      · exact ⟨t2.trans u2.symm, t3.trans u3.symm⟩
      · exact absurd (t1.symm.trans u1) ns_k6
    · rcases s2 with ⟨u1, u2, u3⟩ | ⟨u1, u2, u3⟩
      · exact absurd (t1.symm.trans u1) ns_k3
      · exact ⟨t2.trans u2.symm, t3.trans u3.symm⟩
  · obtain ⟨i, r1, r2, r3, r4⟩ := p5 k
    obtain ⟨j, s1, s2, s3, s4⟩ := q5 k
    have := ns_EN_u r1 s1
    subst this
    exact ⟨r3.trans s3.symm, r4.trans s4.symm⟩
  · obtain ⟨r0, w, i, r1, r2, r3, r4⟩ := p6 k
    obtain ⟨s0, w', j, s1, s2, s3, s4⟩ := q6 k
    have := ns_LP_u r1 s1
    subst this
    have := ns_EN_u r2 s2
    subst this
    exact ⟨r4.trans s4.symm, r0.trans s0.symm⟩
  · obtain ⟨r0, w, i, r1, r2, r3, r4⟩ := p7 k
    obtain ⟨s0, w', j, s1, s2, s3, s4⟩ := q7 k
    have := ns_LP_u r1 s1
    subst this
    have := ns_EN_u r2 s2
    subst this
    exact ⟨r4.trans s4.symm, r0.trans s0.symm⟩
  · obtain ⟨r1, r2⟩ := p8 k
    obtain ⟨s1, s2⟩ := q8 k
    exact ⟨r1.trans s1.symm, r2.trans s2.symm⟩
/-- a loop of the kernel -/
def wy_L (kd : Nat → Int32) (w e : Nat) : Prop := kd w = 16 ∧ ns_EN kd w e
/-- a forward move that stays in every loop around -/
def wy_F (kd : Nat → Int32) (n x y : Nat) : Prop := x < y ∧ y ≤ n ∧ kd x ≠ 16 ∧ (∀ j, x < j → j ≤ y → ns_ln kd y ≤ ns_ln kd j) ∧ ∀ w e, wy_L kd w e → w < x → x ≤ e → y ≤ e
theorem wy_stay {x y w e : Nat} (hm : ∀ j, x < j → j ≤ y → ns_ln kd y ≤ ns_ln kd j) (h : wy_L kd w e) (hx : x ≤ e) (hl : ns_ln kd w < ns_ln kd y) : y ≤ e := by
  apply Classical.byContradiction
  intro c
  have := hm (e + 1) (by omega) (by omega)
  rw [h.2.2.2.1] at this; omega
theorem wy_nojump {x y w e : Nat} (hm : ∀ j, x < j → j ≤ y → ns_ln kd y ≤ ns_ln kd j) (h : wy_L kd w e) (hx : x < w) : y ≤ w ∨ e < y := by
  apply Classical.byContradiction
  intro c
  have h1 : w < y ∧ y ≤ e := by omega
  have h2 := h.2.2.2.2 y h1.1 h1.2
  have h3 := hm w hx (by omega)
  omega
theorem wy_seq {x : Nat} (hx : x < n) (h6 : kd x ≠ 16) (hE : ∀ w, ns_EN kd w x → kd w ≠ 16) : wy_F kd n x (x + 1) := by
  refine ⟨by omega, by omega, h6, fun j a b => ?_, fun w e h a b => ?_⟩
  · have : j = x + 1 := by omega
    subst this; exact Nat.le_refl _
  · apply Classical.byContradiction
    intro c
    have : e = x := by omega
    subst this
    exact hE w h.2 h.1
theorem wy_ne15 {x w : Nat} (h : ¬ kd x = 15) : ns_EN kd w x → kd w ≠ 16 := fun z => absurd (ns_EN_15 z) h
theorem wy_lin {x w e : Nat} (h : wy_L kd w e) (h1 : w < x) (h2 : x ≤ e) : ns_ln kd w < ns_ln kd x := h.2.2.2.2 x h1 h2
/-- moves that change no trip count -/
theorem wy_mv {x y : Nat} {a b : Int32} (hn : n < 2 ^ 31) (hw : ns_WF kd n) (hx : x < n) (h : wy_W kd n x a b) (h6 : kd x ≠ 16) (hy : y ≤ n) (hab : nI y = b ∨ (nI y = a ∧ kd x ≠ 17)) :
    wy_F kd n x y ∨ (wy_L kd y x) := by
  obtain ⟨p1, p2, p3, p4, p5, p6, p7, p8⟩ := h
  have inj : ∀ z : Nat, z ≤ n → nI y = nI z → y = z := fun z hz e => (nI_eq (by omega) (by omega)).mp e
  have seq : ¬ kd x = 15 → nI y = nI (x + 1) → wy_F kd n x y ∨ wy_L kd y x := by
    intro h15 e
    have := inj (x + 1) (by omega) e
    subst this
    exact Or.inl (wy_seq hx h6 (fun w => wy_ne15 h15))
  rcases wy_kinds (hw x hx).1.1 (hw x hx).1.2 with k | k | k | k | k | k | k | k
  · obtain ⟨r1, r2⟩ := p1 k
    refine seq (wy_lt13 k (by decide)) ?_
    rcases hab with e | ⟨e, _⟩
    · exact e.trans r2
    · exact e.trans r1
  · obtain ⟨r1, r2⟩ := p2 k
    rcases hab with e | ⟨e, _⟩
    · rcases r2 with ⟨el, e1, e2, e3⟩ | ⟨_, i, f2, f3, f4⟩
      · have := inj (el + 1) (by omega) (e.trans e3)
        subst this
        have hl : ns_ln kd (el + 1) = ns_ln kd x + 1 := by
          rw [ns_ln_o (ns_nop e1.2.1 ns_k9 ns_k10) (by rw [e1.2.1]; exact ns_k11)]
          exact e1.2.2
        have hm : ∀ j, x < j → j ≤ el + 1 → ns_ln kd (el + 1) ≤ ns_ln kd j := by
          intro j a b
          by_cases c : j = el + 1
          · subst c; exact Nat.le_refl _
          · have := e1.1.2.2 j a (by omega); omega
        refine Or.inl ⟨by have := e1.1.1; omega, hy, h6, hm, fun w e hL a b => wy_stay hm hL b ?_⟩
        have := wy_lin hL a b; omega
      · have := inj i (by omega) (e.trans f4)
        subst this
        have hm : ∀ j, x < j → j ≤ y → ns_ln kd y ≤ ns_ln kd j := by
          intro j a b
          have := f2.2.2.2 j a b
          have := ns_EN_ln f2
          omega
        refine Or.inl ⟨f2.1, hy, h6, hm, fun w e hL a b => wy_stay hm hL b ?_⟩
        have := wy_lin hL a b
        have := ns_EN_ln f2
        omega
    · exact seq (by rw [k]; decide) (e.trans r1)
  · obtain ⟨x0, i, r1, r2, r3, r4, r5⟩ := p3 k
    have e : nI y = nI i := by
      rcases hab with e | ⟨e, _⟩
      · exact e.trans r5
      · exact e.trans r4
    have := inj i (by omega) e
    subst this
    have hxi : x < y := by
      have h1 := ns_OA_EN r1.1 r2
      have h2 : x ≠ y := by
        intro z
        subst z
        exact absurd ((ns_EN_15 r2).symm.trans k) (by decide)
      omega
    have hm : ∀ j, x < j → j ≤ y → ns_ln kd y ≤ ns_ln kd j := by
      intro j a b
      have := r2.2.2.2 j (by have := r1.1.1; omega) b
      have := ns_EN_ln r2
      omega
    refine Or.inl ⟨hxi, hy, h6, hm, fun w e hL a b => wy_stay hm hL b ?_⟩
    have := wy_lin hL a b
    have := ns_EN_ln r2
    have := r1.2.2
    omega
  · obtain ⟨x0, r1, r2⟩ := p4 k
    rcases r2 with ⟨t1, t2, t3⟩ | ⟨t1, t2, t3⟩
    · have e : nI y = nI x0 := by
        rcases hab with e | ⟨e, _⟩
        · exact e.trans t3
        · exact e.trans t2
      have := inj x0 (by have := r1.1; omega) e
      subst this
      exact Or.inr ⟨t1, r1⟩
    · have e : nI y = nI (x + 1) := by
        rcases hab with e | ⟨e, _⟩
        · exact e.trans t3
        · exact e.trans t2
      have := inj (x + 1) (by omega) e
      subst this
      refine Or.inl (wy_seq hx h6 (fun w hw' => ?_))
      have := ns_EN_u2 r1 hw'
      subst this
      rw [t1]; exact ns_k3
  · exact absurd k h6
  · obtain ⟨r0, _⟩ := p6 k
    rcases hab with e | ⟨_, e⟩
    · exact seq (by rw [k]; decide) (e.trans r0)
    · exact absurd k e
  · obtain ⟨r0, w0, i, r1, r2, r3, r4⟩ := p7 k
    rcases hab with e | ⟨e, _⟩
    · exact seq (by rw [k]; decide) (e.trans r0)
    · have := inj i (by omega) (e.trans r4)
      subst this
      have hxi : x < y := by
        have h1 := ns_OA_EN r1.1 r2
        have h2 : x ≠ y := by
          intro z
          subst z
          exact absurd ((ns_EN_15 r2).symm.trans k) (by decide)
        omega
      have hm : ∀ j, x < j → j ≤ y → ns_ln kd y ≤ ns_ln kd j := by
        intro j a b
        have := r2.2.2.2 j (by have := r1.1.1; omega) b
        have := ns_EN_ln r2
        omega
      refine Or.inl ⟨hxi, hy, h6, hm, fun w e hL a b => wy_stay hm hL b ?_⟩
      have hL' := ns_in hL.2 a b
      have h1 := r1.2.2 w hL' hL.1
      have h2 := ns_EN_ln r2
      by_cases c : w = w0
      · subst c; omega
      · have := ns_OA_lt hL' r1.1 (by omega); omega
  · obtain ⟨r1, r2⟩ := p8 k
    rcases hab with e | ⟨e, _⟩
    · exact seq (by rw [k]; decide) (e.trans r2)
    · exfalso
      rw [r1] at e
      have h1 := nI_pos (n := y) (by omega)
      rw [e] at h1
      exact h1 (by decide)
/-- every way leads to a place, but for the nonzero way of an EXIT -/
theorem wy_tgt {x : Nat} {a b : Int32} (hw : ns_WF kd n) (hx : x < n) (h : wy_W kd n x a b) : (∃ y, y ≤ n ∧ b = nI y) ∧ ((kd x = 19 ∧ a = -1) ∨ (kd x ≠ 19 ∧ ∃ y, y ≤ n ∧ a = nI y)) := by
  obtain ⟨p1, p2, p3, p4, p5, p6, p7, p8⟩ := h
  rcases wy_kinds (hw x hx).1.1 (hw x hx).1.2 with k | k | k | k | k | k | k | k
  · obtain ⟨r1, r2⟩ := p1 k
    exact ⟨⟨x + 1, by omega, r2⟩, Or.inr ⟨wy_lt13 k (by decide), x + 1, by omega, r1⟩⟩
  · obtain ⟨r1, r2⟩ := p2 k
    refine ⟨?_, Or.inr ⟨by rw [k]; decide, x + 1, by omega, r1⟩⟩
    rcases r2 with ⟨el, e1, e2, e3⟩ | ⟨_, i, f2, f3, f4⟩
    · exact ⟨el + 1, by omega, e3⟩
    · exact ⟨i, by omega, f4⟩
  · obtain ⟨x0, i, r1, r2, r3, r4, r5⟩ := p3 k
    exact ⟨⟨i, by omega, r5⟩, Or.inr ⟨by rw [k]; decide, i, by omega, r4⟩⟩
  · obtain ⟨x0, r1, r2⟩ := p4 k
    rcases r2 with ⟨t1, t2, t3⟩ | ⟨t1, t2, t3⟩
    · exact ⟨⟨x0, by have := r1.1; omega, t3⟩, Or.inr ⟨by rw [k]; decide, x0, by have := r1.1; omega, t2⟩⟩
    · exact ⟨⟨x + 1, by omega, t3⟩, Or.inr ⟨by rw [k]; decide, x + 1, by omega, t2⟩⟩
  · obtain ⟨i, r1, r2, r3, r4⟩ := p5 k
    exact ⟨⟨i + 1, by omega, r4⟩, Or.inr ⟨by rw [k]; decide, x + 1, by omega, r3⟩⟩
  · obtain ⟨r0, w, i, r1, r2, r3, r4⟩ := p6 k
    exact ⟨⟨x + 1, by omega, r0⟩, Or.inr ⟨by rw [k]; decide, i + 1, by omega, r4⟩⟩
  · obtain ⟨r0, w, i, r1, r2, r3, r4⟩ := p7 k
    exact ⟨⟨x + 1, by omega, r0⟩, Or.inr ⟨by rw [k]; decide, i, by omega, r4⟩⟩
  · obtain ⟨r1, r2⟩ := p8 k
    exact ⟨⟨x + 1, by omega, r2⟩, Or.inl ⟨k, r1⟩⟩
/-- where the two ways are one -/
theorem wy_same {x : Nat} {a b : Int32} (h : wy_W kd n x a b) (k : kd x < 13 ∨ kd x = 14 ∨ kd x = 15) : a = b := by
  obtain ⟨p1, p2, p3, p4, p5, p6, p7, p8⟩ := h
  rcases k with k | k | k
  · obtain ⟨r1, r2⟩ := p1 k
    exact r1.trans r2.symm
  · obtain ⟨x0, i, r1, r2, r3, r4, r5⟩ := p3 k
    exact r4.trans r5.symm
  · obtain ⟨x0, r1, r2⟩ := p4 k
    rcases r2 with ⟨t1, t2, t3⟩ | ⟨t1, t2, t3⟩
    · exact t2.trans t3.symm
    · exact t2.trans t3.symm
end
/-- the graph of the ways -/
def wy_E (n : Nat) (nzW zW : Nat → Int32) (x y : Nat) : Prop := x < n ∧ y ≤ n ∧ (zW x = nI y ∨ nzW x = nI y)
section
variable {kd : Nat → Int32} {n : Nat} {nzW zW : Nat → Int32}
theorem wy_E_le (x y : Nat) (h : wy_E n nzW zW x y) : y ≤ n := h.2.1
/-- every place reaches the end -/
theorem wy_reach (hn : n < 2 ^ 31) (hw : ns_WF kd n) (hW : ∀ x, x < n → wy_W kd n x (nzW x) (zW x)) : ∀ q, q ≤ n → ∃ k, pd_rc (wy_E n nzW zW) n k q := by
  have key : ∀ d q, n - q ≤ d → q ≤ n → ∃ k, pd_rc (wy_E n nzW zW) n k q := by
    intro d
    induction d with
    | zero => intro q hd hq; exact ⟨0, by show q = n; omega⟩
    | succ d ih =>
      intro q hd hq
      by_cases e : q = n
      · exact ⟨0, e⟩
      · have hqn : q < n := by omega
        have go : ∀ y, y ≤ n → q < y → zW q = nI y → ∃ k, pd_rc (wy_E n nzW zW) n k q := by
          intro y h1 h2 h3
          obtain ⟨k, hk⟩ := ih y (by omega) h1
          exact ⟨k + 1, Or.inr ⟨y, ⟨hqn, h1, Or.inl h3⟩, hk⟩⟩
        by_cases h6 : kd q = 16
        · obtain ⟨i, r1, r2, r3, r4⟩ := (hW q hqn).2.2.2.2.1 h6
          exact go (i + 1) (by omega) (by have := r1.1; omega) r4
        · obtain ⟨⟨y, h1, h2⟩, _⟩ := wy_tgt hw hqn (hW q hqn)
          rcases wy_mv hn hw hqn (hW q hqn) h6 h1 (Or.inl h2.symm) with h | h
          · exact go y h1 h.1 h2
          · obtain ⟨i, r1, r2, r3, r4⟩ := (hW y (by have := h.2.1; omega)).2.2.2.2.1 h.1
            have := ns_EN_u r1 h.2
            subst this
            obtain ⟨k, hk⟩ := ih (i + 1) (by omega) (by omega)
            exact ⟨k + 2, Or.inr ⟨y, ⟨hqn, h1, Or.inl h2⟩, Or.inr ⟨i + 1, ⟨by have := h.2.1; omega, by omega, Or.inl r4⟩, hk⟩⟩⟩
  exact fun q hq => key (n - q) q (Nat.le_refl _) hq
end
end
section
/-! a bound on the visits of a lane: for each line a count that no move raises and a visit lowers -/
def pt_SI (kd : Nat → Int32) (x : Nat) (t : Nat → Nat) : Prop := ∀ w e, wy_L kd w e → (w < x → x ≤ e → 1 ≤ t w ∧ t w ≤ 4) ∧ (x = w → t w ≤ 4) ∧ (x < w ∨ e < x → t w = 0)
def pt_M (kd : Nat → Int32) (n x : Nat) (t : Nat → Nat) (x' : Nat) (t' : Nat → Nat) : Prop :=
  (wy_F kd n x x' ∧ ∀ w, t' w = t w) ∨
  (wy_L kd x' x ∧ ∀ w, t' w = t w) ∨
  (∃ e, wy_L kd x e ∧ x' = x + 1 ∧ t x < 4 ∧ t' x = t x + 1 ∧ ∀ w, w ≠ x → t' w = t w) ∨
  (∃ w e, wy_L kd w e ∧ (x = w ∨ (kd x = 17 ∧ ns_LP kd w x)) ∧ x' = e + 1 ∧ t' w = 0 ∧ ∀ w', w' ≠ w → t' w' = t w')
/-- a move as one loop (w, e) sees it -/
def pt_P (w e x x' a a' : Nat) : Prop :=
  (a' = a ∧ x < x' ∧ x ≠ w ∧ (x < w → x' ≤ w ∨ e < x') ∧ (w < x → x ≤ e → x' ≤ e)) ∨
  (x = e ∧ x' = w ∧ a' = a) ∨
  (a' = a ∧ x' < x ∧ (x < w ∨ e < x' ∨ (w < x' ∧ x < e) ∨ (x' < w ∧ e < x))) ∨
  (x = w ∧ x' = w + 1 ∧ a < 4 ∧ a' = a + 1) ∨
  (w ≤ x ∧ x ≤ e ∧ x' = e + 1 ∧ a' = 0)
def pt_S (w e x a : Nat) : Prop := (w < x → x ≤ e → 1 ≤ a ∧ a ≤ 4) ∧ (x = w → a ≤ 4) ∧ (x < w ∨ e < x → a = 0)
theorem pt_SP {w e x x' a a' : Nat} (hw : w < e) (h : pt_S w e x a) (p : pt_P w e x x' a a') : pt_S w e x' a' := by
  obtain ⟨h1, h2, h3⟩ := h
  rcases p with ⟨p1, p2, p3, p4, p5⟩ | ⟨p1, p2, p3⟩ | ⟨p1, p2, p3⟩ | ⟨p1, p2, p3, p4⟩ | ⟨p1, p2, p3, p4⟩
  · refine ⟨fun a b => ?_, fun a => ?_, fun a => ?_⟩
    · omega
    · omega
    · omega
  · refine ⟨fun a b => ?_, fun a => ?_, fun a => ?_⟩
    · omega
    · omega
    · omega
  · refine ⟨fun a b => ?_, fun a => ?_, fun a => ?_⟩
    · omega
    · omega
    · omega
  · refine ⟨fun a b => ?_, fun a => ?_, fun a => ?_⟩
    · omega
    · omega
    · omega
  · refine ⟨fun a b => ?_, fun a => ?_, fun a => ?_⟩
    · omega
    · omega
    · omega
/-! the counts -/
def pt_c0 (y x : Nat) : Nat := if x ≤ y then 1 else 0
def pt_c1 (w e y x a : Nat) : Nat := (if x ≤ e then 4 - a else 0) + (if w < x ∧ x ≤ y then 1 else 0)
def pt_d0 (e x a : Nat) : Nat := if x ≤ e then 5 - a else 0
def pt_c2 (w1 e1 w2 e2 y x a b : Nat) : Nat := 4 * (if x ≤ e1 then 4 - a else 0) + (if w1 < x ∧ x ≤ e2 then 4 - b else 0) + (if w2 < x ∧ x ≤ y then 1 else 0)
def pt_d1 (w1 e1 e2 x a b : Nat) : Nat := 5 * (if x ≤ e1 then 4 - a else 0) + (if w1 < x ∧ x ≤ e2 then 5 - b else 0)
theorem pt_l0 {y x x' : Nat} (h : x < x' ∨ (x' < x ∧ (y < x' ∨ x < y))) : pt_c0 y x' ≤ pt_c0 y x ∧ (x = y → pt_c0 y x' + 1 ≤ pt_c0 y x) := by
  unfold pt_c0
  refine ⟨?_, fun e => ?_⟩
  · (repeat' split) <;> omega
  · (repeat' split) <;> omega
theorem pt_l1 {w e y x x' a a' : Nat} (h1 : w < y) (h2 : y ≤ e) (hS : pt_S w e x a) (hP : pt_P w e x x' a a') (hb : x' < x → x = e ∨ y < x' ∨ x < y) : pt_c1 w e y x' a' ≤ pt_c1 w e y x a ∧ (x = y → pt_c1 w e y x' a' + 1 ≤ pt_c1 w e y x a) := by
  obtain ⟨s1, s2, s3⟩ := hS
  unfold pt_c1
  rcases hP with ⟨p1, p2, p3, p4, p5⟩ | ⟨p1, p2, p3⟩ | ⟨p1, p2, p3⟩ | ⟨p1, p2, p3, p4⟩ | ⟨p1, p2, p3, p4⟩ <;>
    (refine ⟨?_, fun e => ?_⟩ <;> ((repeat' split) <;> omega))
theorem pt_l2 {w e x x' a a' : Nat} (h1 : w < e) (hS : pt_S w e x a) (hP : pt_P w e x x' a a') (hb : x' < x → x = e ∨ w < x' ∨ x < w) : pt_d0 e x' a' ≤ pt_d0 e x a ∧ (x = w → pt_d0 e x' a' + 1 ≤ pt_d0 e x a) := by
  obtain ⟨s1, s2, s3⟩ := hS
  unfold pt_d0
  rcases hP with ⟨p1, p2, p3, p4, p5⟩ | ⟨p1, p2, p3⟩ | ⟨p1, p2, p3⟩ | ⟨p1, p2, p3, p4⟩ | ⟨p1, p2, p3, p4⟩ <;>
    (refine ⟨?_, fun e => ?_⟩ <;> ((repeat' split) <;> omega))
theorem pt_l3 {w1 e1 w2 e2 y x x' a a' b b' : Nat} (q1 : w1 < w2) (q2 : e2 < e1) (h1 : w2 < y) (h2 : y ≤ e2) (hS : pt_S w1 e1 x a) (hP : pt_P w1 e1 x x' a a') (hS2 : pt_S w2 e2 x b) (hP2 : pt_P w2 e2 x x' b b')
    (hb : x' < x → x = e1 ∨ x = e2 ∨ y < x' ∨ x < y) : pt_c2 w1 e1 w2 e2 y x' a' b' ≤ pt_c2 w1 e1 w2 e2 y x a b ∧ (x = y → pt_c2 w1 e1 w2 e2 y x' a' b' + 1 ≤ pt_c2 w1 e1 w2 e2 y x a b) := by
  obtain ⟨s1, s2, s3⟩ := hS
  obtain ⟨t1, t2, t3⟩ := hS2
  unfold pt_c2
  rcases hP with ⟨p1, p2, p3, p4, p5⟩ | ⟨p1, p2, p3⟩ | ⟨p1, p2, p3⟩ | ⟨p1, p2, p3, p4⟩ | ⟨p1, p2, p3, p4⟩ <;>
    rcases hP2 with ⟨r1, r2, r3, r4, r5⟩ | ⟨r1, r2, r3⟩ | ⟨r1, r2, r3⟩ | ⟨r1, r2, r3, r4⟩ | ⟨r1, r2, r3, r4⟩ <;>
    first
    | (exfalso; omega)
    | (refine ⟨?_, fun e => ?_⟩ <;> ((repeat' split) <;> omega))
theorem pt_l4 {w1 e1 w2 e2 x x' a a' b b' : Nat} (q1 : w1 < w2) (q2 : e2 < e1) (h1 : w2 < e2) (hS : pt_S w1 e1 x a) (hP : pt_P w1 e1 x x' a a') (hS2 : pt_S w2 e2 x b) (hP2 : pt_P w2 e2 x x' b b')
    (hb : x' < x → x = e1 ∨ x = e2 ∨ w2 < x' ∨ x < w2) : pt_d1 w1 e1 e2 x' a' b' ≤ pt_d1 w1 e1 e2 x a b ∧ (x = w2 → pt_d1 w1 e1 e2 x' a' b' + 1 ≤ pt_d1 w1 e1 e2 x a b) := by
  obtain ⟨s1, s2, s3⟩ := hS
  obtain ⟨t1, t2, t3⟩ := hS2
  unfold pt_d1
  rcases hP with ⟨p1, p2, p3, p4, p5⟩ | ⟨p1, p2, p3⟩ | ⟨p1, p2, p3⟩ | ⟨p1, p2, p3, p4⟩ | ⟨p1, p2, p3, p4⟩ <;>
    rcases hP2 with ⟨r1, r2, r3, r4, r5⟩ | ⟨r1, r2, r3⟩ | ⟨r1, r2, r3⟩ | ⟨r1, r2, r3, r4⟩ | ⟨r1, r2, r3, r4⟩ <;>
    first
    | (exfalso; omega)
    | (refine ⟨?_, fun e => ?_⟩ <;> ((repeat' split) <;> omega))
section
variable {kd : Nat → Int32} {n : Nat}
theorem pt_lam {w e w' e' : Nat} (h : wy_L kd w e) (h' : wy_L kd w' e') : (w = w' ∧ e = e') ∨ (w < w' ∧ e' < e) ∨ (w' < w ∧ e < e') ∨ e < w' ∨ e' < w := by
  have aux : ∀ w e w' e', wy_L kd w e → wy_L kd w' e' → w < w' → w' ≤ e → e' < e := by
    intro w e w' e' h h' c1 c2
    apply Classical.byContradiction
    intro c
    have h1 : ns_ln kd w < ns_ln kd w' := h.2.2.2.2 w' c1 c2
    by_cases c3 : e = e'
    · subst c3
      have := ns_EN_u2 h.2 h'.2
      omega
    · have h2 := h'.2.2.2.2 (e + 1) (by omega) (by omega)
      rw [h.2.2.2.1] at h2
      omega
  rcases Nat.lt_trichotomy w w' with c | c | c
  · by_cases c2 : w' ≤ e
    · exact Or.inr (Or.inl ⟨c, aux w e w' e' h h' c c2⟩)
    · exact Or.inr (Or.inr (Or.inr (Or.inl (by omega))))
  · subst c
    exact Or.inl ⟨rfl, ns_EN_u h.2 h'.2⟩
  · by_cases c2 : w ≤ e'
    · exact Or.inr (Or.inr (Or.inl ⟨c, aux w' e' w e h' h c c2⟩))
    · exact Or.inr (Or.inr (Or.inr (Or.inr (by omega))))
theorem pt_ne15 {x w e : Nat} (h : wy_L kd w e) (hx : kd x = 16 ∨ kd x = 17) : x ≠ e := by
  intro z
  subst z
  have := ns_EN_15 h.2
  rcases hx with k | k <;> exact absurd (k.symm.trans this) (by decide)
theorem pt_MP {x x' : Nat} {t t' : Nat → Nat} (hM : pt_M kd n x t x' t') {w e : Nat} (h : wy_L kd w e) : pt_P w e x x' (t w) (t' w) := by
  have hwe : w < e := h.2.1
  rcases hM with ⟨hF, ht⟩ | ⟨hB, ht⟩ | ⟨e0, hA, h1, h2, h3, h4⟩ | ⟨w0, e0, hQ, h1, h2, h3, h4⟩
  · exact Or.inl ⟨ht w, hF.1, fun z => hF.2.2.1 (by rw [z]; exact h.1), fun z => wy_nojump hF.2.2.2.1 h z, fun a b => hF.2.2.2.2 w e h a b⟩
  · have hwe' : x' < x := hB.2.1
    rcases pt_lam h hB with ⟨c1, c2⟩ | c | c | c | c
    · exact Or.inr (Or.inl ⟨c2.symm, c1.symm, ht w⟩)
    · exact Or.inr (Or.inr (Or.inl ⟨ht w, hwe', by omega⟩))
    · exact Or.inr (Or.inr (Or.inl ⟨ht w, hwe', by omega⟩))
    · exact Or.inr (Or.inr (Or.inl ⟨ht w, hwe', by omega⟩))
    · exact Or.inr (Or.inr (Or.inl ⟨ht w, hwe', by omega⟩))
  · by_cases c : w = x
    · subst c
      exact Or.inr (Or.inr (Or.inr (Or.inl ⟨rfl, h1, h2, h3⟩)))
    · have := pt_ne15 h (Or.inl hA.1)
      exact Or.inl ⟨h4 w c, by omega, fun z => c z.symm, by omega, by omega⟩
  · have hwe' : w0 < e0 := hQ.2.1
    have hin : w0 ≤ x ∧ x ≤ e0 := by
      rcases h1 with z | ⟨_, z⟩
      · omega
      · have := ns_OA_EN z.1 hQ.2
        have := z.1.1
        omega
    by_cases c : w = w0
    · subst c
      have := ns_EN_u h.2 hQ.2
      subst this
      exact Or.inr (Or.inr (Or.inr (Or.inr ⟨hin.1, hin.2, h2, h3⟩)))
    · have hout : x = w → x = w0 := by
        intro z
        rcases h1 with z' | ⟨z', _⟩
        · exact z'
        · rw [z] at z'
          exact absurd (h.1.symm.trans z') (by decide)
      have hnest : w0 < w → w < x → x ≤ e → False := by
        intro c1 c2 c3
        rcases h1 with z' | ⟨_, z'⟩
        · omega
        · have := z'.2.2 w (ns_in h.2 c2 c3) h.1
          omega
      rcases pt_lam h hQ with ⟨c1, c2⟩ | c' | c' | c' | c'
      · exact absurd c1 c
      · exact Or.inl ⟨h4 w c, by omega, by omega, by omega, by omega⟩
      · have hx : x < w ∨ e < x := by
          apply Classical.byContradiction
          intro z
          by_cases z2 : x = w
          · have := hout z2; omega
          · exact hnest c'.1 (by omega) (by omega)
        exact Or.inl ⟨h4 w c, by omega, by omega, by omega, by omega⟩
      · exact Or.inl ⟨h4 w c, by omega, by omega, by omega, by omega⟩
      · exact Or.inl ⟨h4 w c, by omega, by omega, by omega, by omega⟩
theorem pt_SI_M {x x' : Nat} {t t' : Nat → Nat} (hS : pt_SI kd x t) (hM : pt_M kd n x t x' t') : pt_SI kd x' t' :=
  fun w e h => pt_SP h.2.1 (hS w e h) (pt_MP hM h)
theorem pt_back {x x' : Nat} {t t' : Nat → Nat} (hM : pt_M kd n x t x' t') (h : ¬ x < x') : wy_L kd x' x := by
  rcases hM with ⟨hF, ht⟩ | ⟨hB, ht⟩ | ⟨e0, hA, h1, h2, h3, h4⟩ | ⟨w0, e0, hQ, h1, h2, h3, h4⟩
  · exact absurd hF.1 h
  · exact hB
  · omega
  · exfalso
    rcases h1 with z | ⟨_, z⟩
    · have := hQ.2.1; omega
    · have := ns_OA_EN z.1 hQ.2; omega
/-- the count of a line -/
theorem pt_ex (hw : ns_WF kd n) (h0 : ns_ln kd n = 0) {y : Nat} (hy : y < n) : ∃ c : Nat → (Nat → Nat) → Nat, (∀ t, (∀ w, t w = 0) → c 0 t ≤ 20) ∧
    ∀ x t x' t', pt_SI kd x t → pt_M kd n x t x' t' → c x' t' ≤ c x t ∧ (x = y → c x' t' + 1 ≤ c x t) := by
  by_cases h6 : kd y = 16
  · obtain ⟨e, he, hE⟩ := ns_EN_ex h0 (Or.inr h6) hy
    have hL : wy_L kd y e := ⟨h6, hE⟩
    have hye : y < e := hE.1
    by_cases c1 : ∃ w1 e1, wy_L kd w1 e1 ∧ w1 < y ∧ y ≤ e1
    · obtain ⟨w1, e1, hL1, c1, c2⟩ := c1
      have hee : e < e1 := by
        rcases pt_lam hL1 hL with z | z | z | z | z <;> omega
      refine ⟨fun x t => pt_d1 w1 e1 e x (t w1) (t y), fun t ht => ?_, fun x t x' t' hS hM => ?_⟩
      · show pt_d1 w1 e1 e 0 (t w1) (t y) ≤ 20
        rw [ht, ht]
        unfold pt_d1
        (repeat' split) <;> omega
      · refine pt_l4 c1 hee hE.1 (hS w1 e1 hL1) (pt_MP hM hL1) (hS y e hL) (pt_MP hM hL) (fun hb => ?_)
        have hB := pt_back hM (by omega)
        rcases pt_lam hL hB with z | z | z | z | z
        · omega
        · omega
        · by_cases q : x' = w1
          · subst q
            have := ns_EN_u hB.2 hL1.2
            omega
          · exfalso
            rcases pt_lam hL1 hB with z' | z' | z' | z' | z'
            · omega
            · exact (hw y hy).2.2.2.2.2 h6 w1 x' z'.1 (ns_in hL1.2 c1 c2) (ns_in hB.2 (by omega) (by omega)) hL1.1 hB.1
            · exact (hw y hy).2.2.2.2.2 h6 x' w1 z'.1 (ns_in hB.2 (by omega) (by omega)) (ns_in hL1.2 c1 c2) hB.1 hL1.1
            · omega
            · omega
        · omega
        · omega
    · refine ⟨fun x t => pt_d0 e x (t y), fun t ht => ?_, fun x t x' t' hS hM => ?_⟩
      · show pt_d0 e 0 (t y) ≤ 20
        rw [ht]
        unfold pt_d0
        (repeat' split) <;> omega
      · refine pt_l2 hE.1 (hS y e hL) (pt_MP hM hL) (fun hb => ?_)
        have hB := pt_back hM (by omega)
        rcases pt_lam hL hB with z | z | z | z | z
        · omega
        · omega
        · exact (c1 ⟨x', x, hB, z.1, by have := hE.1; omega⟩).elim
        · omega
        · omega
  · have ny : ∀ {w e}, wy_L kd w e → y ≠ w := fun h z => h6 (by rw [z]; exact h.1)
    by_cases c1 : ∃ w1 e1, wy_L kd w1 e1 ∧ w1 < y ∧ y ≤ e1
    · obtain ⟨w1, e1, hL1, c1, c2⟩ := c1
      by_cases d1 : ∃ w2 e2, wy_L kd w2 e2 ∧ w2 < y ∧ y ≤ e2 ∧ w2 ≠ w1
      · have : ∃ w1 e1 w2 e2, wy_L kd w1 e1 ∧ wy_L kd w2 e2 ∧ w1 < w2 ∧ e2 < e1 ∧ w2 < y ∧ y ≤ e2 := by
          obtain ⟨w2, e2, hL2, d1, d2, d3⟩ := d1
          rcases pt_lam hL1 hL2 with z | z | z | z | z
          · exact absurd z.1.symm d3
          · exact ⟨w1, e1, w2, e2, hL1, hL2, z.1, z.2, d1, d2⟩
          · exact ⟨w2, e2, w1, e1, hL2, hL1, z.1, z.2, c1, c2⟩
          · omega
          · omega
        obtain ⟨w1, e1, w2, e2, hL1, hL2, q1, q2, d1, d2⟩ := this
        refine ⟨fun x t => pt_c2 w1 e1 w2 e2 y x (t w1) (t w2), fun t ht => ?_, fun x t x' t' hS hM => ?_⟩
        · show pt_c2 w1 e1 w2 e2 y 0 (t w1) (t w2) ≤ 20
          rw [ht, ht]
          unfold pt_c2
          (repeat' split) <;> omega
        · refine pt_l3 q1 q2 d1 d2 (hS w1 e1 hL1) (pt_MP hM hL1) (hS w2 e2 hL2) (pt_MP hM hL2) (fun hb => ?_)
          have hB := pt_back hM (by omega)
          have hny := ny hB
          apply Classical.byContradiction
          intro z
          have hin : x' < y ∧ y ≤ x := by omega
          have hw2n : ∀ {w e}, wy_L kd w e → w < n → kd w = 16 := fun h _ => h.1
          rcases pt_lam hL2 hB with z' | z' | z' | z' | z'
          · omega
          · exact (hw x' (by omega)).2.2.2.2.2 hB.1 w1 w2 q1 (ns_in hL1.2 (by omega) (by omega)) (ns_in hL2.2 (by omega) (by omega)) hL1.1 hL2.1
          · rcases pt_lam hL1 hB with z2 | z2 | z2 | z2 | z2
            · omega
            · exact (hw w2 (by omega)).2.2.2.2.2 hL2.1 w1 x' z2.1 (ns_in hL1.2 (by omega) (by omega)) (ns_in hB.2 (by omega) (by omega)) hL1.1 hB.1
            · exact (hw w2 (by omega)).2.2.2.2.2 hL2.1 x' w1 z2.1 (ns_in hB.2 (by omega) (by omega)) (ns_in hL1.2 (by omega) (by omega)) hB.1 hL1.1
            · omega
            · omega
          · omega
          · omega
      · refine ⟨fun x t => pt_c1 w1 e1 y x (t w1), fun t ht => ?_, fun x t x' t' hS hM => ?_⟩
        · show pt_c1 w1 e1 y 0 (t w1) ≤ 20
          rw [ht]
          unfold pt_c1
          (repeat' split) <;> omega
        · refine pt_l1 c1 c2 (hS w1 e1 hL1) (pt_MP hM hL1) (fun hb => ?_)
          have hB := pt_back hM (by omega)
          have hny := ny hB
          apply Classical.byContradiction
          intro z
          by_cases q : x' = w1
          · subst q
            have := ns_EN_u hB.2 hL1.2
            omega
          · exact d1 ⟨x', x, hB, by omega, by omega, q⟩
    · refine ⟨fun x t => pt_c0 y x, fun t ht => ?_, fun x t x' t' hS hM => pt_l0 ?_⟩
      · show pt_c0 y 0 ≤ 20
        unfold pt_c0
        (repeat' split) <;> omega
      · by_cases q : x < x'
        · exact Or.inl q
        · right
          have hB := pt_back hM q
          have hny := ny hB
          refine ⟨hB.2.1, ?_⟩
          apply Classical.byContradiction
          intro z
          exact c1 ⟨x', x, hB, by omega, by omega⟩
/-! the sum -/
def pt_sum (f : Nat → Nat) : Nat → Nat
  | 0 => 0
  | m + 1 => pt_sum f m + f m
theorem pt_sum_le {f g : Nat → Nat} (m : Nat) (h : ∀ y, y < m → f y ≤ g y) : pt_sum f m ≤ pt_sum g m := by
  induction m with
  | zero => exact Nat.le_refl 0
  | succ m ih =>
    have h1 := ih (fun y hy => h y (by omega))
    have h2 := h m (by omega)
    show pt_sum f m + f m ≤ pt_sum g m + g m
    omega
theorem pt_sum_lt {f g : Nat → Nat} (m x : Nat) (h : ∀ y, y < m → f y ≤ g y) (hx : x < m) (h2 : f x + 1 ≤ g x) : pt_sum f m + 1 ≤ pt_sum g m := by
  induction m with
  | zero => omega
  | succ m ih =>
    show pt_sum f m + f m + 1 ≤ pt_sum g m + g m
    by_cases e : x = m
    · subst e
      have := pt_sum_le (f := f) (g := g) x (fun y hy => h y (by omega))
      omega
    · have h1 := ih (fun y hy => h y (by omega)) (by omega)
      have h2 := h m (by omega)
      omega
theorem pt_sum_b {f : Nat → Nat} (m B : Nat) (h : ∀ y, y < m → f y ≤ B) : pt_sum f m ≤ m * B := by
  induction m with
  | zero => exact Nat.zero_le _
  | succ m ih =>
    have h1 := ih (fun y hy => h y (by omega))
    have h2 := h m (by omega)
    show pt_sum f m + f m ≤ (m + 1) * B
    rw [Nat.add_mul, Nat.one_mul]
    omega
/-- a potential: at most 480 at the start, every visit lowers it -/
theorem pt_pot (hn : n ≤ 24) (hw : ns_WF kd n) (h0 : ns_ln kd n = 0) : ∃ C : Nat → (Nat → Nat) → Nat, (∀ t, (∀ w, t w = 0) → C 0 t ≤ 480) ∧
    ∀ x t x' t', x < n → pt_SI kd x t → pt_M kd n x t x' t' → C x' t' + 1 ≤ C x t := by
  have hc : ∀ y, ∃ c : Nat → (Nat → Nat) → Nat, y < n → ((∀ t, (∀ w, t w = 0) → c 0 t ≤ 20) ∧
      ∀ x t x' t', pt_SI kd x t → pt_M kd n x t x' t' → c x' t' ≤ c x t ∧ (x = y → c x' t' + 1 ≤ c x t)) := by
    intro y
    by_cases hy : y < n
    · obtain ⟨c, h⟩ := pt_ex hw h0 hy
      exact ⟨c, fun _ => h⟩
    · exact ⟨fun _ _ => 0, fun z => absurd z hy⟩
  refine ⟨fun x t => pt_sum (fun y => Classical.choose (hc y) x t) n, fun t ht => ?_, fun x t x' t' hx hS hM => ?_⟩
  · have := pt_sum_b (f := fun y => Classical.choose (hc y) 0 t) n 20 (fun y hy => (Classical.choose_spec (hc y) hy).1 t ht)
    show pt_sum (fun y => Classical.choose (hc y) 0 t) n ≤ 480
    omega
  · exact pt_sum_lt n x (fun y hy => ((Classical.choose_spec (hc y) hy).2 x t x' t' hS hM).1) hx (((Classical.choose_spec (hc x) hx).2 x t x' t' hS hM).2 rfl)
theorem pt_SI0 {t : Nat → Nat} (ht : ∀ w, t w = 0) : pt_SI kd 0 t := fun w e h => ⟨fun a _ => absurd a (Nat.not_lt_zero _), fun _ => by rw [ht]; omega, fun _ => ht w⟩
end
end
section
/-! the warp against lanes that run alone: pure. pl f v: the place of lane f before its visit v; tv f: its number of visits -/
def wp_fv (p : Nat → Int32) (r : Int32) : Nat → Nat → Option Nat
  | 0, _ => none
  | d + 1, v => if p v = r then some v else wp_fv p r d (v + 1)
def wp_FV (p : Nat → Int32) (T : Nat) (r : Int32) (v : Nat) : Option Nat := wp_fv p r (T - v) v
def wp_both (a b : Option Nat) : Option (Nat × Nat) := match a with
  | none => none
  | some i => match b with
    | none => none
    | some j => some (i, j)
theorem wp_FV_hit {p : Nat → Int32} {T v : Nat} {r : Int32} (h : v < T) (e : p v = r) : wp_FV p T r v = some v := by
  unfold wp_FV
  obtain ⟨d, hd⟩ : ∃ d, T - v = d + 1 := ⟨T - v - 1, by omega⟩
  rw [hd]
  exact if_pos e
theorem wp_FV_miss {p : Nat → Int32} {T v : Nat} {r : Int32} (e : p v ≠ r) : wp_FV p T r v = wp_FV p T r (v + 1) := by
  unfold wp_FV
  by_cases h : v < T
  · obtain ⟨d, hd⟩ : ∃ d, T - v = d + 1 := ⟨T - v - 1, by omega⟩
    rw [hd, show T - (v + 1) = d by omega]
    exact if_neg e
  · rw [show T - v = 0 by omega, show T - (v + 1) = 0 by omega]
    rfl
theorem wp_FV_end {p : Nat → Int32} {T v : Nat} {r : Int32} (h : T ≤ v) : wp_FV p T r v = none := by
  unfold wp_FV
  rw [show T - v = 0 by omega]
  rfl
theorem wp_fv_some {p : Nat → Int32} {r : Int32} : ∀ (d v v' : Nat), wp_fv p r d v = some v' → v ≤ v' ∧ v' < v + d ∧ p v' = r := by
  intro d
  induction d with
  | zero => intro v v' h; exact absurd h (by intro z; cases z)
  | succ d ih =>
    intro v v' h
    have h' : (if p v = r then some v else wp_fv p r d (v + 1)) = some v' := h
    by_cases c : p v = r
    · rw [if_pos c] at h'
      have := Option.some.inj h'
      subst this
      exact ⟨Nat.le_refl _, by omega, c⟩
    · rw [if_neg c] at h'
      obtain ⟨a, b, e⟩ := ih (v + 1) v' h'
      exact ⟨by omega, by omega, e⟩
theorem wp_FV_some {p : Nat → Int32} {T v v' : Nat} {r : Int32} (h : wp_FV p T r v = some v') : v ≤ v' ∧ v' < T ∧ p v' = r := by
  obtain ⟨a, b, c⟩ := wp_fv_some _ _ _ h
  exact ⟨a, by omega, c⟩
theorem wp_both_some {a b : Option Nat} {i j : Nat} (h : wp_both a b = some (i, j)) : a = some i ∧ b = some j := by
  cases a with
  | none => cases h
  | some a =>
    cases b with
    | none => cases h
    | some b =>
      cases h
      exact ⟨rfl, rfl⟩
theorem wp_both_n1 {b : Option Nat} : wp_both none b = none := rfl
theorem wp_both_n2 {a : Option Nat} : wp_both a none = none := by cases a <;> rfl
/-- the pairs of visits that f and g make together -/
def wp_nx (pl : Nat → Nat → Int32) (tv : Nat → Nat) (rj : Int32 → Int32) (f g i j : Nat) : Option (Nat × Nat) :=
  if pl f (i + 1) < 0 ∨ pl g (j + 1) < 0 then none
  else if pl f (i + 1) = pl g (j + 1) then wp_both (wp_FV (pl f) (tv f) (pl f (i + 1)) (i + 1)) (wp_FV (pl g) (tv g) (pl f (i + 1)) (j + 1))
  else wp_both (wp_FV (pl f) (tv f) (rj (pl f i)) (i + 1)) (wp_FV (pl g) (tv g) (rj (pl f i)) (j + 1))
def wp_pr (pl : Nat → Nat → Int32) (tv : Nat → Nat) (rj : Int32 → Int32) (f g : Nat) : Nat → Option (Nat × Nat)
  | 0 => if 0 < tv f ∧ 0 < tv g then some (0, 0) else none
  | s + 1 => match wp_pr pl tv rj f g s with
    | none => none
    | some p => wp_nx pl tv rj f g p.1 p.2
section
variable {pl : Nat → Nat → Int32} {tv : Nat → Nat} {rj : Int32 → Int32}
theorem wp_pr_n {f g s : Nat} (h : wp_pr pl tv rj f g s = none) : wp_pr pl tv rj f g (s + 1) = none := by
  show (match wp_pr pl tv rj f g s with | none => none | some p => wp_nx pl tv rj f g p.1 p.2) = none
  rw [h]
theorem wp_pr_s {f g s i j : Nat} (h : wp_pr pl tv rj f g s = some (i, j)) : wp_pr pl tv rj f g (s + 1) = wp_nx pl tv rj f g i j := by
  show (match wp_pr pl tv rj f g s with | none => none | some p => wp_nx pl tv rj f g p.1 p.2) = _
  rw [h]
theorem wp_pr_nk {f g s : Nat} (h : wp_pr pl tv rj f g s = none) (k : Nat) : wp_pr pl tv rj f g (s + k) = none := by
  induction k with
  | zero => exact h
  | succ k ih => exact wp_pr_n ih
theorem wp_nx_some {f g i j i' j' : Nat} (h : wp_nx pl tv rj f g i j = some (i', j')) : i < i' ∧ i' < tv f ∧ j < j' ∧ j' < tv g := by
  unfold wp_nx at h
  split at h
  · cases h
  · split at h
    · obtain ⟨h1, h2⟩ := wp_both_some h
      have a1 := wp_FV_some h1
      have a2 := wp_FV_some h2
      omega
    · obtain ⟨h1, h2⟩ := wp_both_some h
      have a1 := wp_FV_some h1
      have a2 := wp_FV_some h2
      omega
theorem wp_pr_in {f g s i j : Nat} (h : wp_pr pl tv rj f g s = some (i, j)) : i < tv f ∧ j < tv g ∧ s ≤ i ∧ s ≤ j := by
  induction s generalizing i j with
  | zero =>
    have h' : (if 0 < tv f ∧ 0 < tv g then some (0, 0) else none) = some (i, j) := h
    split at h'
    · cases h'
      omega
    · cases h'
  | succ s ih =>
    cases hp : wp_pr pl tv rj f g s with
    | none => rw [wp_pr_n hp] at h; cases h
    | some p =>
      obtain ⟨a, b⟩ := p
      have h1 := ih hp
      rw [wp_pr_s hp] at h
      have h2 := wp_nx_some h
      omega
theorem wp_pr_lt {f g s i j : Nat} (h : wp_pr pl tv rj f g s = some (i, j)) : ∀ (k i' j' : Nat), wp_pr pl tv rj f g (s + k + 1) = some (i', j') → i < i' ∧ j < j' := by
  intro k
  induction k with
  | zero =>
    intro i' j' h'
    rw [show s + 0 + 1 = s + 1 from rfl, wp_pr_s h] at h'
    have := wp_nx_some h'
    omega
  | succ k ih =>
    intro i' j' h'
    cases hp : wp_pr pl tv rj f g (s + k + 1) with
    | none =>
      have := wp_pr_n hp
      rw [show s + (k + 1) + 1 = s + k + 1 + 1 from rfl, this] at h'
      cases h'
    | some p =>
      obtain ⟨a, b⟩ := p
      have h1 := ih a b hp
      rw [show s + (k + 1) + 1 = s + k + 1 + 1 from rfl, wp_pr_s hp] at h'
      have h2 := wp_nx_some h'
      omega
end
/-- f and g make their visits i and j together -/
def wp_T (pl : Nat → Nat → Int32) (tv : Nat → Nat) (rj : Int32 → Int32) (f g i j : Nat) : Prop := ∃ s, wp_pr pl tv rj f g s = some (i, j)
/-- the lanes that are at f's visit i with f -/
def wp_mt (pl : Nat → Nat → Int32) (tv : Nat → Nat) (rj : Int32 → Int32) (f i g : Nat) : Prop := g = f ∨ (f < g ∧ ∃ j, wp_T pl tv rj f g i j) ∨ (g < f ∧ ∃ j, wp_T pl tv rj g f j i)
/-- the place of the topmost entry below k that holds both lanes -/
def wp_low (n : Nat) (sp sm : Nat → Int32) (f g : Nat) : Nat → Int32
  | 0 => nI n
  | k + 1 => if bt (sm k) f = true ∧ bt (sm k) g = true then sp k else wp_low n sp sm f g k
theorem wp_low_t {n : Nat} {sp sm : Nat → Int32} {f g k : Nat} (h1 : bt (sm k) f = true) (h2 : bt (sm k) g = true) : wp_low n sp sm f g (k + 1) = sp k := if_pos ⟨h1, h2⟩
theorem wp_low_f {n : Nat} {sp sm : Nat → Int32} {f g k : Nat} (h : ¬ (bt (sm k) f = true ∧ bt (sm k) g = true)) : wp_low n sp sm f g (k + 1) = wp_low n sp sm f g k := if_neg h
theorem wp_low_c {n : Nat} {sp sm sp' sm' : Nat → Int32} {f g : Nat} (k : Nat) (h : ∀ j, j < k → sp' j = sp j ∧ sm' j = sm j) : wp_low n sp' sm' f g k = wp_low n sp sm f g k := by
  induction k with
  | zero => rfl
  | succ k ih =>
    show (if _ then _ else _) = (if _ then _ else _)
    rw [ih (fun j hj => h j (by omega)), (h k (by omega)).1, (h k (by omega)).2]
theorem wp_low_sym {n : Nat} {sp sm : Nat → Int32} {f g : Nat} (k : Nat) : wp_low n sp sm f g k = wp_low n sp sm g f k := by
  induction k with
  | zero => rfl
  | succ k ih =>
    by_cases h : bt (sm k) f = true ∧ bt (sm k) g = true
    · rw [wp_low_t h.1 h.2, wp_low_t h.2 h.1]
    · rw [wp_low_f h, wp_low_f (fun z => h ⟨z.2, z.1⟩), ih]
/-- what the lanes' own runs give -/
def wp_K (n : Nat) (E : Nat → Nat → Prop) (rj : Int32 → Int32) (pl : Nat → Nat → Int32) (tv : Nat → Nat) (C : Nat → Prop) : Prop :=
  n < 2 ^ 31 ∧ 0 < n ∧ (∀ q, q ≤ n → ∃ k, pd_rc E n k q) ∧
  (∀ x, x < n → ∃ r, rj (nI x) = nI r ∧ r ≤ n ∧ r ≠ x ∧ pd_PD E n r x ∧ ∀ s, s ≠ x → pd_PD E n s x → pd_PD E n s r) ∧
  (∀ f, C f → pl f 0 = 0) ∧
  (∀ f, C f → ∀ v, v < tv f → ∃ x, x < n ∧ pl f v = nI x) ∧
  (∀ f, C f → pl f (tv f) = nI n ∨ pl f (tv f) = -1) ∧
  (∀ f, C f → ∀ v x y, v < tv f → x < n → y ≤ n → pl f v = nI x → pl f (v + 1) = nI y → E x y)
def wp_W (n : Nat) (E : Nat → Nat → Prop) (rj : Int32 → Int32) (pl : Nat → Nat → Int32) (tv : Nat → Nat) (C : Nat → Prop) (v : Nat → Nat) (sp sm sr : Nat → Int32) (dp : Nat) : Prop :=
  (∀ f, C f → v f ≤ tv f) ∧
  (∀ f g, C f → C g → pl f (v f) ≠ -1 → pl g (v g) ≠ -1 → ∀ k, k < dp → bt (sm k) f = true → bt (sm k) g = true → sr k = wp_low n sp sm f g k) ∧
  (∀ f, C f → pl f (v f) ≠ -1 → pl f (v f) = wp_low n sp sm f f dp) ∧
  (∀ f, C f → pl f (v f) ≠ -1 → ∀ k, k < dp → bt (sm k) f = true → ∃ a b, sr k = nI a ∧ sp k = nI b ∧ a ≤ n ∧ b ≤ n ∧ pd_PD E n a b) ∧
  (∀ f g, C f → C g → f < g → ∃ s, (∀ s', s' < s → ∀ i j, wp_pr pl tv rj f g s' = some (i, j) → i < v f ∧ j < v g) ∧
    (pl f (v f) ≠ -1 → pl g (v g) ≠ -1 → wp_pr pl tv rj f g s = wp_both (wp_FV (pl f) (tv f) (wp_low n sp sm f g dp) (v f)) (wp_FV (pl g) (tv g) (wp_low n sp sm f g dp) (v g))) ∧
    (pl f (v f) = -1 ∨ pl g (v g) = -1 → wp_pr pl tv rj f g s = none))
section
variable {n : Nat} {E : Nat → Nat → Prop} {rj : Int32 → Int32} {pl : Nat → Nat → Int32} {tv : Nat → Nat} {C : Nat → Prop} {v : Nat → Nat} {sp sm sr : Nat → Int32} {dp : Nat}
theorem wp_nm1 {a : Nat} (h : a < 2 ^ 31) : nI a ≠ -1 := by
  intro e
  have := nI_pos (n := a) h
  rw [e] at this
  exact this (by decide)
theorem wp_lown (hn : n < 2 ^ 31) (hW : wp_W n E rj pl tv C v sp sm sr dp) {f : Nat} (hf : C f) (ha : pl f (v f) ≠ -1) (g : Nat) : ∀ k, k ≤ dp → ∃ b, b ≤ n ∧ wp_low n sp sm f g k = nI b := by
  intro k
  induction k with
  | zero => intro _; exact ⟨n, Nat.le_refl _, rfl⟩
  | succ k ih =>
    intro hk
    by_cases h : bt (sm k) f = true ∧ bt (sm k) g = true
    · obtain ⟨a, b, h1, h2, h3, h4, h5⟩ := hW.2.2.2.1 f hf ha k (by omega) h.1
      exact ⟨b, h4, by rw [wp_low_t h.1 h.2]; exact h2⟩
    · rw [wp_low_f h]
      exact ih (by omega)
theorem wp_chain (hn : n < 2 ^ 31) (hW : wp_W n E rj pl tv C v sp sm sr dp) {f : Nat} (hf : C f) (ha : pl f (v f) ≠ -1) (g : Nat) : ∀ k, k ≤ dp → ∀ b c, b ≤ n → c ≤ n → wp_low n sp sm f f k = nI b → wp_low n sp sm f g k = nI c → pd_PD E n c b := by
  intro k
  induction k with
  | zero =>
    intro _ b c hb hc h1 h2
    have e1 : n = b := (nI_eq (by omega) (by omega)).mp h1
    have e2 : n = c := (nI_eq (by omega) (by omega)).mp h2
    rw [← e1, ← e2]
    exact pd_end n
  | succ k ih =>
    intro hk b c hb hc h1 h2
    by_cases h : bt (sm k) f = true
    · rw [wp_low_t h h] at h1
      by_cases h' : bt (sm k) g = true
      · rw [wp_low_t h h'] at h2
        have e : b = c := (nI_eq (by omega) (by omega)).mp (h1.symm.trans h2)
        rw [e]
        exact pd_refl c
      · rw [wp_low_f (fun z => h' z.2)] at h2
        obtain ⟨a, b', e1, e2, e3, e4, e5⟩ := hW.2.2.2.1 f hf ha k (by omega) h
        have e6 : b' = b := (nI_eq (by omega) (by omega)).mp (e2.symm.trans h1)
        subst e6
        have e7 := hW.2.1 f f hf hf ha ha k (by omega) h h
        have := ih (by omega) a c e3 hc (by rw [← e7]; exact e1) h2
        exact pd_trans this e5
    · rw [wp_low_f (fun z => h z.1)] at h1 h2
      exact ih (by omega) b c hb hc h1 h2
/-- a lower common entry does not wait at the place of the top -/
theorem wp_ne (hK : wp_K n E rj pl tv C) {t : Nat} (hW : wp_W n E rj pl tv C v sp sm sr (t + 1)) {f g : Nat} (hf : C f) (ha : pl f (v f) ≠ -1) (h1 : bt (sm t) f = true) (h2 : ¬ bt (sm t) g = true) (hne : sp t ≠ sr t) : pl f (v f) ≠ wp_low n sp sm f g (t + 1) := by
  obtain ⟨hn, hn0, hR, _⟩ := hK
  rw [hW.2.2.1 f hf ha, wp_low_t h1 h1, wp_low_f (fun z => h2 z.2)]
  intro e
  obtain ⟨a, b, e1, e2, e3, e4, e5⟩ := hW.2.2.2.1 f hf ha t (by omega) h1
  have e6 := hW.2.1 f f hf hf ha ha t (by omega) h1 h1
  obtain ⟨c, c1, c2⟩ := wp_lown hn hW hf ha g t (by omega)
  have e7 := wp_chain hn hW hf ha g t (by omega) a c e3 c1 (by rw [← e6]; exact e1) c2
  have e8 : b = c := (nI_eq (by omega) (by omega)).mp (e2.symm.trans (e.trans c2))
  subst e8
  have e9 := pd_anti e5 e7 (hR b e4)
  apply hne
  rw [e1, e2, e9]
theorem wp_line (hK : wp_K n E rj pl tv C) {f x : Nat} (hf : C f) (h : v f ≤ tv f) (hx : x < n) (e : pl f (v f) = nI x) : v f < tv f := by
  obtain ⟨hn, hn0, hR, h4, h5, h6, h7, h8⟩ := hK
  apply Classical.byContradiction
  intro c
  have c' : v f = tv f := by omega
  rw [c'] at e
  rcases h7 f hf with z | z
  · have := (nI_eq (by omega) (by omega)).mp (e.symm.trans z)
    omega
  · exact wp_nm1 (by omega) (e.symm.trans z)
theorem wp_last (hK : wp_K n E rj pl tv C) {f : Nat} (hf : C f) {u : Nat} (h : u ≤ tv f) (e : pl f u = -1 ∨ pl f u = nI n) : u = tv f := by
  obtain ⟨hn, hn0, hR, h4, h5, h6, h7, h8⟩ := hK
  apply Classical.byContradiction
  intro c
  obtain ⟨x, hx, hp⟩ := h6 f hf u (by omega)
  rcases e with e | e
  · exact wp_nm1 (by omega) (hp.symm.trans e)
  · have := (nI_eq (by omega) (by omega)).mp (hp.symm.trans e)
    omega
/-- the start -/
theorem wp_start (hK : wp_K n E rj pl tv C) (h0 : sp 0 = 0) (hs : sr 0 = nI n) (hm : ∀ f, C f → bt (sm 0) f = true) (hv : ∀ f, v f = 0) : wp_W n E rj pl tv C v sp sm sr 1 := by
  obtain ⟨hn, hn0, hR, h4, h5, h6, h7, h8⟩ := hK
  have lo : ∀ f g, C f → C g → wp_low n sp sm f g 1 = 0 := fun f g hf hg => (wp_low_t (hm f hf) (hm g hg)).trans h0
  have t0 : ∀ f, C f → 0 < tv f := by
    intro f hf
    apply Classical.byContradiction
    intro c
    have c' : tv f = 0 := by omega
    have e := h5 f hf
    rcases h7 f hf with z | z
    · rw [c', e, ← nI_0] at z
      have := (nI_eq (by omega) (by omega)).mp z
      omega
    · rw [c', e] at z
      exact absurd z (by decide)
  refine ⟨fun f _ => by rw [hv]; omega, ?_, ?_, ?_, ?_⟩
  · intro f g hf hg _ _ k hk _ _
    have : k = 0 := by omega
    subst this
    exact hs
  · intro f hf _
    rw [hv, lo f f hf hf]
    exact h5 f hf
  · intro f hf _ k hk _
    have : k = 0 := by omega
    subst this
    exact ⟨n, 0, hs, h0.trans nI_0.symm, Nat.le_refl _, by omega, pd_end 0⟩
  · intro f g hf hg hfg
    refine ⟨0, fun s' z => absurd z (Nat.not_lt_zero _), fun _ _ => ?_, fun z => ?_⟩
    · rw [hv, hv, lo f g hf hg, wp_FV_hit (t0 f hf) (h5 f hf), wp_FV_hit (t0 g hg) (h5 g hg)]
      exact if_pos ⟨t0 f hf, t0 g hg⟩
    · exfalso
      rcases z with z | z
      · rw [hv, h5 f hf] at z
        exact absurd z (by decide)
      · rw [hv, h5 g hg] at z
        exact absurd z (by decide)
/-- a pop -/
theorem wp_pop {t : Nat} (hW : wp_W n E rj pl tv C v sp sm sr (t + 1)) (h : sp t = sr t ∨ ∀ f, C f → pl f (v f) ≠ -1 → ¬ bt (sm t) f = true) : wp_W n E rj pl tv C v sp sm sr t := by
  obtain ⟨w0, w1, w2, w3, w4⟩ := hW
  have lo : ∀ f g, C f → C g → pl f (v f) ≠ -1 → pl g (v g) ≠ -1 → wp_low n sp sm f g (t + 1) = wp_low n sp sm f g t := by
    intro f g hf hg af ag
    by_cases c : bt (sm t) f = true ∧ bt (sm t) g = true
    · rcases h with h | h
      · rw [wp_low_t c.1 c.2, h]
        exact w1 f g hf hg af ag t (by omega) c.1 c.2
      · exact absurd c.1 (h f hf af)
    · exact wp_low_f c
  refine ⟨w0, fun f g hf hg af ag k hk => w1 f g hf hg af ag k (by omega), fun f hf af => (w2 f hf af).trans (lo f f hf hf af af), fun f hf af k hk => w3 f hf af k (by omega), ?_⟩
  intro f g hf hg hfg
  obtain ⟨s, s1, s2, s3⟩ := w4 f g hf hg hfg
  refine ⟨s, s1, fun af ag => ?_, s3⟩
  rw [s2 af ag, lo f g hf hg af ag]
/-- one visit by the active lanes: A; the stack afterwards is known by its low places -/
theorem wp_visit (hK : wp_K n E rj pl tv C) {t dp' x : Nat} {A : Nat → Prop} {v' : Nat → Nat} {sp' sm' sr' : Nat → Int32} (hW : wp_W n E rj pl tv C v sp sm sr (t + 1)) (hx : x < n) (hp : sp t = nI x) (hne : sp t ≠ sr t)
    (hA : ∀ f, C f → (A f ↔ bt (sm t) f = true ∧ pl f (v f) ≠ -1)) (hv1 : ∀ f, C f → A f → v' f = v f + 1) (hv2 : ∀ f, C f → ¬ A f → v' f = v f)
    (hw1 : ∀ f g, C f → C g → pl f (v' f) ≠ -1 → pl g (v' g) ≠ -1 → ∀ k, k < dp' → bt (sm' k) f = true → bt (sm' k) g = true → sr' k = wp_low n sp' sm' f g k)
    (hw3 : ∀ f, C f → pl f (v' f) ≠ -1 → ∀ k, k < dp' → bt (sm' k) f = true → ∃ a b, sr' k = nI a ∧ sp' k = nI b ∧ a ≤ n ∧ b ≤ n ∧ pd_PD E n a b)
    (hl1 : ∀ f g, C f → C g → pl f (v' f) ≠ -1 → pl g (v' g) ≠ -1 → ¬ (A f ∧ A g) → wp_low n sp' sm' f g dp' = wp_low n sp sm f g (t + 1))
    (hl2 : ∀ f g, C f → C g → pl f (v' f) ≠ -1 → pl g (v' g) ≠ -1 → A f → A g → wp_low n sp' sm' f g dp' = if pl f (v f + 1) = pl g (v g + 1) then pl f (v f + 1) else rj (nI x)) :
    wp_W n E rj pl tv C v' sp' sm' sr' dp' := by
  have hK' := hK
  obtain ⟨hn, hn0, hR, h4, h5, h6, h7, h8⟩ := hK'
  have hW' := hW
  obtain ⟨w0, w1, w2, w3, w4⟩ := hW'
  have atx : ∀ f, C f → A f → pl f (v f) = nI x := by
    intro f hf af
    obtain ⟨b1, b2⟩ := (hA f hf).mp af
    rw [w2 f hf b2, wp_low_t b1 b1]
    exact hp
  have lt : ∀ f, C f → A f → v f < tv f := fun f hf af => wp_line hK hf (w0 f hf) hx (atx f hf af)
  have le' : ∀ f, C f → v' f ≤ tv f := by
    intro f hf
    by_cases af : A f
    · rw [hv1 f hf af]; exact lt f hf af
    · rw [hv2 f hf af]; exact w0 f hf
  have al : ∀ f, C f → pl f (v' f) ≠ -1 → pl f (v f) ≠ -1 := by
    intro f hf h
    by_cases af : A f
    · rw [atx f hf af]; exact wp_nm1 (by omega)
    · rwa [hv2 f hf af] at h
  have neg : ∀ f, C f → A f → (pl f (v f + 1) < 0 ↔ pl f (v f + 1) = -1) := by
    intro f hf af
    refine ⟨fun h => ?_, fun h => by rw [h]; decide⟩
    by_cases c : v f + 1 < tv f
    · obtain ⟨y, hy, e⟩ := h6 f hf _ c
      rw [e] at h
      exact absurd h (nI_pos (by omega))
    · have c' : v f + 1 = tv f := by have := lt f hf af; omega
      rcases h7 f hf with e | e
      · rw [c', e] at h
        exact absurd h (nI_pos (by omega))
      · rw [c']; exact e
  refine ⟨le', hw1, ?_, hw3, ?_⟩
  · intro f hf ha
    by_cases af : A f
    · rw [hl2 f f hf hf ha ha af af, if_pos rfl, hv1 f hf af]
    · rw [hl1 f f hf hf ha ha (fun z => af z.1)]
      rw [hv2 f hf af] at ha ⊢
      exact w2 f hf ha
  · intro f g hf hg hfg
    obtain ⟨s, s1, s2, s3⟩ := w4 f g hf hg hfg
    by_cases af : A f
    · by_cases ag : A g
      · have e0 : wp_pr pl tv rj f g s = some (v f, v g) := by
          obtain ⟨b1, b2⟩ := (hA f hf).mp af
          obtain ⟨c1, c2⟩ := (hA g hg).mp ag
          rw [s2 b2 c2, wp_low_t b1 c1, hp, wp_FV_hit (lt f hf af) (atx f hf af), wp_FV_hit (lt g hg ag) (atx g hg ag)]
          rfl
        refine ⟨s + 1, ?_, ?_, ?_⟩
        · intro s' hs' i j e
          rw [hv1 f hf af, hv1 g hg ag]
          by_cases c : s' = s
          · subst c
            rw [e0] at e
            cases e
            omega
          · have := s1 s' (by omega) i j e
            omega
        · intro nf ng
          rw [wp_pr_s e0, hl2 f g hf hg nf ng af ag]
          rw [hv1 f hf af] at nf ⊢
          rw [hv1 g hg ag] at ng ⊢
          unfold wp_nx
          rw [if_neg (fun z => by
            rcases z with z | z
            · exact nf ((neg f hf af).mp z)
            · exact ng ((neg g hg ag).mp z))]
          by_cases c : pl f (v f + 1) = pl g (v g + 1)
          · rw [if_pos c, if_pos c]
          · rw [if_neg c, if_neg c, atx f hf af]
        · intro z
          rw [wp_pr_s e0]
          unfold wp_nx
          rw [if_pos]
          rcases z with z | z
          · left
            rw [hv1 f hf af] at z
            exact (neg f hf af).mpr z
          · right
            rw [hv1 g hg ag] at z
            exact (neg g hg ag).mpr z
      · refine ⟨s, ?_, ?_, ?_⟩
        · intro s' hs' i j e
          have := s1 s' hs' i j e
          rw [hv1 f hf af, hv2 g hg ag]
          omega
        · intro nf ng
          have of := al f hf nf
          have og := al g hg ng
          rw [s2 of og, hl1 f g hf hg nf ng (fun z => ag z.2), hv1 f hf af, hv2 g hg ag]
          have b := (hA f hf).mp af
          rw [wp_FV_miss (wp_ne hK hW hf of b.1 (fun z => ag ((hA g hg).mpr ⟨z, og⟩)) hne)]
        · intro z
          by_cases og : pl g (v g) = -1
          · exact s3 (Or.inr og)
          · have b := (hA f hf).mp af
            rw [s2 b.2 og]
            have z1 : pl f (v f + 1) = -1 := by
              rcases z with z | z
              · rw [hv1 f hf af] at z; exact z
              · rw [hv2 g hg ag] at z; exact absurd z og
            have z2 := wp_last hK hf (u := v f + 1) (lt f hf af) (Or.inl z1)
            rw [wp_FV_miss (wp_ne hK hW hf b.2 b.1 (fun z => ag ((hA g hg).mpr ⟨z, og⟩)) hne), wp_FV_end (by omega)]
            rfl
    · by_cases ag : A g
      · refine ⟨s, ?_, ?_, ?_⟩
        · intro s' hs' i j e
          have := s1 s' hs' i j e
          rw [hv2 f hf af, hv1 g hg ag]
          omega
        · intro nf ng
          have of := al f hf nf
          have og := al g hg ng
          rw [s2 of og, hl1 f g hf hg nf ng (fun z => af z.1), hv2 f hf af, hv1 g hg ag]
          have b := (hA g hg).mp ag
          have q := wp_ne hK hW hg og b.1 (fun z => af ((hA f hf).mpr ⟨z, of⟩)) hne
          rw [wp_low_sym] at q
          rw [wp_FV_miss (p := pl g) q]
        · intro z
          by_cases of : pl f (v f) = -1
          · exact s3 (Or.inl of)
          · have b := (hA g hg).mp ag
            rw [s2 of b.2]
            have z1 : pl g (v g + 1) = -1 := by
              rcases z with z | z
              · rw [hv2 f hf af] at z; exact absurd z of
              · rw [hv1 g hg ag] at z; exact z
            have z2 := wp_last hK hg (u := v g + 1) (lt g hg ag) (Or.inl z1)
            have q := wp_ne hK hW hg b.2 b.1 (fun z => af ((hA f hf).mpr ⟨z, of⟩)) hne
            rw [wp_low_sym] at q
            rw [wp_FV_miss (p := pl g) q, wp_FV_end (p := pl g) (by omega)]
            exact wp_both_n2
      · refine ⟨s, ?_, ?_, ?_⟩
        · intro s' hs' i j e
          rw [hv2 f hf af, hv2 g hg ag]
          exact s1 s' hs' i j e
        · intro nf ng
          rw [s2 (al f hf nf) (al g hg ng), hl1 f g hf hg nf ng (fun z => af z.1), hv2 f hf af, hv2 g hg ag]
        · intro z
          rw [hv2 f hf af, hv2 g hg ag] at z
          exact s3 z
/-- the mask of a visit -/
theorem wp_mask (hK : wp_K n E rj pl tv C) {t x : Nat} (hW : wp_W n E rj pl tv C v sp sm sr (t + 1)) (hx : x < n) (hp : sp t = nI x) (hne : sp t ≠ sr t) {f g : Nat} (hf : C f) (hg : C g) (h1 : bt (sm t) f = true) (h2 : pl f (v f) ≠ -1) :
    (bt (sm t) g = true ∧ pl g (v g) ≠ -1) ↔ wp_mt pl tv rj f (v f) g := by
  have hK' := hK
  obtain ⟨hn, hn0, hR, h4, h5, h6, h7, h8⟩ := hK'
  have hW' := hW
  obtain ⟨w0, w1, w2, w3, w4⟩ := hW'
  have atx : ∀ f, C f → bt (sm t) f = true → pl f (v f) ≠ -1 → pl f (v f) = nI x := by
    intro f hf b1 b2
    rw [w2 f hf b2, wp_low_t b1 b1]
    exact hp
  have lt : ∀ f, C f → bt (sm t) f = true → pl f (v f) ≠ -1 → v f < tv f := fun f hf b1 b2 => wp_line hK hf (w0 f hf) hx (atx f hf b1 b2)
  rcases Nat.lt_trichotomy f g with c | c | c
  · obtain ⟨s, s1, s2, s3⟩ := w4 f g hf hg c
    constructor
    · intro ⟨b1, b2⟩
      refine Or.inr (Or.inl ⟨c, v g, s, ?_⟩)
      rw [s2 h2 b2, wp_low_t h1 b1, hp, wp_FV_hit (lt f hf h1 h2) (atx f hf h1 h2), wp_FV_hit (lt g hg b1 b2) (atx g hg b1 b2)]
      rfl
    · intro z
      rcases z with z | ⟨_, j, s', z⟩ | ⟨z, _⟩
      · omega
      · apply Classical.byContradiction
        intro no
        have hs : s ≤ s' := by
          apply Classical.byContradiction
          intro q
          have := s1 s' (by omega) _ _ z
          omega
        cases hp' : wp_pr pl tv rj f g s with
        | none =>
          have := wp_pr_nk hp' (s' - s)
          rw [show s + (s' - s) = s' by omega, z] at this
          cases this
        | some p =>
          obtain ⟨i, j'⟩ := p
          have ag : pl g (v g) ≠ -1 := fun q => by
            rw [s3 (Or.inr q)] at hp'
            cases hp'
          have hi : v f < i := by
            have q := s2 h2 ag
            rw [hp', wp_FV_miss (wp_ne hK hW hf h2 h1 (fun z => no ⟨z, ag⟩) hne)] at q
            have := (wp_FV_some (wp_both_some q.symm).1).1
            omega
          by_cases e : s' = s
          · subst e
            rw [hp'] at z
            cases z
            omega
          · have := wp_pr_lt hp' (s' - s - 1) (v f) j (by rw [show s + (s' - s - 1) + 1 = s' by omega]; exact z)
            omega
      · omega
  · subst c
    exact ⟨fun _ => Or.inl rfl, fun _ => ⟨h1, h2⟩⟩
  · obtain ⟨s, s1, s2, s3⟩ := w4 g f hg hf c
    constructor
    · intro ⟨b1, b2⟩
      refine Or.inr (Or.inr ⟨c, v g, s, ?_⟩)
      rw [s2 b2 h2, wp_low_t b1 h1, hp, wp_FV_hit (lt f hf h1 h2) (atx f hf h1 h2), wp_FV_hit (lt g hg b1 b2) (atx g hg b1 b2)]
      rfl
    · intro z
      rcases z with z | ⟨z, _⟩ | ⟨_, j, s', z⟩
      · omega
      · omega
      · apply Classical.byContradiction
        intro no
        have hs : s ≤ s' := by
          apply Classical.byContradiction
          intro q
          have := s1 s' (by omega) _ _ z
          omega
        cases hp' : wp_pr pl tv rj g f s with
        | none =>
          have := wp_pr_nk hp' (s' - s)
          rw [show s + (s' - s) = s' by omega, z] at this
          cases this
        | some p =>
          obtain ⟨i, j'⟩ := p
          have ag : pl g (v g) ≠ -1 := fun q => by
            rw [s3 (Or.inl q)] at hp'
            cases hp'
          have hi : v f < j' := by
            have q := s2 ag h2
            have q2 := wp_ne hK hW hf h2 h1 (fun z => no ⟨z, ag⟩) hne
            rw [wp_low_sym] at q2
            rw [hp', wp_FV_miss (p := pl f) q2] at q
            have := (wp_FV_some (wp_both_some q.symm).2).1
            omega
          by_cases e : s' = s
          · subst e
            rw [hp'] at z
            cases z
            omega
          · have := wp_pr_lt hp' (s' - s - 1) j (v f) (by rw [show s + (s' - s - 1) + 1 = s' by omega]; exact z)
            omega
end
end
section
/-! the two shapes of a visit: together, or parted -/
section
variable {n : Nat} {E : Nat → Nat → Prop} {rj : Int32 → Int32} {pl : Nat → Nat → Int32} {tv : Nat → Nat} {C : Nat → Prop} {v : Nat → Nat} {sp sm sr : Nat → Int32}
theorem wq_al (hK : wp_K n E rj pl tv C) {t x : Nat} {A : Nat → Prop} {v' : Nat → Nat} (hW : wp_W n E rj pl tv C v sp sm sr (t + 1)) (hx : x < n) (hp : sp t = nI x)
    (hA : ∀ f, C f → (A f ↔ bt (sm t) f = true ∧ pl f (v f) ≠ -1)) (hv2 : ∀ f, C f → ¬ A f → v' f = v f) : ∀ f, C f → pl f (v' f) ≠ -1 → pl f (v f) ≠ -1 := by
  intro f hf h
  by_cases af : A f
  · exact ((hA f hf).mp af).2
  · rwa [hv2 f hf af] at h
/-- all go on to q -/
theorem wq_N (hK : wp_K n E rj pl tv C) {t x : Nat} {A : Nat → Prop} {v' : Nat → Nat} {q : Int32} (hW : wp_W n E rj pl tv C v sp sm sr (t + 1)) (hx : x < n) (hp : sp t = nI x) (hne : sp t ≠ sr t)
    (hA : ∀ f, C f → (A f ↔ bt (sm t) f = true ∧ pl f (v f) ≠ -1)) (hv1 : ∀ f, C f → A f → v' f = v f + 1) (hv2 : ∀ f, C f → ¬ A f → v' f = v f)
    (hq : ∀ f, C f → A f → pl f (v f + 1) ≠ -1 → pl f (v f + 1) = q) : wp_W n E rj pl tv C v' (upd sp t q) sm sr (t + 1) := by
  have al := wq_al hK hW hx hp hA hv2
  have hK' := hK
  obtain ⟨hn, hn0, hR, h4, h5, h6, h7, h8⟩ := hK'
  have hW' := hW
  obtain ⟨w0, w1, w2, w3, w4⟩ := hW'
  have lo : ∀ f g k, k ≤ t → wp_low n (upd sp t q) sm f g k = wp_low n sp sm f g k := fun f g k hk => wp_low_c k (fun j hj => ⟨bs_un (by omega), rfl⟩)
  refine wp_visit hK hW hx hp hne hA hv1 hv2 ?_ ?_ ?_ ?_
  · intro f g hf hg af ag k hk b1 b2
    rw [lo f g k (by omega)]
    exact w1 f g hf hg (al f hf af) (al g hg ag) k hk b1 b2
  · intro f hf af k hk b1
    by_cases e : k = t
    · subst e
      obtain ⟨a, b, e1, e2, e3, e4, e5⟩ := w3 f hf (al f hf af) k hk b1
      have eb : b = x := bs_inj (by omega) (by omega) (e2.symm.trans hp)
      subst eb
      have hAf : A f := (hA f hf).mpr ⟨b1, al f hf af⟩
      rw [hv1 f hf hAf] at af
      have hpl : pl f (v f) = nI b := by
        rw [w2 f hf ((hA f hf).mp hAf).2, wp_low_t b1 b1]; exact hp
      have hlt : v f < tv f := wp_line hK hf (w0 f hf) hx hpl
      have hy : ∃ y, y ≤ n ∧ pl f (v f + 1) = nI y := by
        by_cases c : v f + 1 < tv f
        · obtain ⟨y, hy, e⟩ := h6 f hf _ c
          exact ⟨y, by omega, e⟩
        · have c' : v f + 1 = tv f := by omega
          rcases h7 f hf with z | z
          · exact ⟨n, Nat.le_refl _, by rw [c']; exact z⟩
          · rw [← c'] at z; exact absurd z af
      obtain ⟨y, hy, ey⟩ := hy
      refine ⟨a, y, e1, ?_, e3, hy, pd_step (h8 f hf (v f) b y hlt hx hy hpl ey) ?_ e5⟩
      · rw [bs_us, ← hq f hf hAf af]; exact ey
      · intro z
        apply hne
        rw [e1, e2, z]
    · rw [bs_un e]
      exact w3 f hf (al f hf af) k hk b1
  · intro f g hf hg af ag hn'
    have hno : ¬ (bt (sm t) f = true ∧ bt (sm t) g = true) := fun z => hn' ⟨(hA f hf).mpr ⟨z.1, al f hf af⟩, (hA g hg).mpr ⟨z.2, al g hg ag⟩⟩
    rw [wp_low_f hno, wp_low_f hno, lo f g t (Nat.le_refl _)]
  · intro f g hf hg af ag hAf hAg
    rw [wp_low_t ((hA f hf).mp hAf).1 ((hA g hg).mp hAg).1, bs_us]
    rw [hv1 f hf hAf] at af
    rw [hv1 g hg hAg] at ag
    rw [hq f hf hAf af, hq g hg hAg ag, if_pos rfl]
/-- the lanes part -/
theorem wq_D (hK : wp_K n E rj pl tv C) {t x a b : Nat} {A : Nat → Prop} {v' : Nat → Nat} {tk rs : Int32} {sp' sm' sr' : Nat → Int32} (hW : wp_W n E rj pl tv C v sp sm sr (t + 1)) (hx : x < n) (hp : sp t = nI x) (hne : sp t ≠ sr t)
    (hA : ∀ f, C f → (A f ↔ bt (sm t) f = true ∧ pl f (v f) ≠ -1)) (hv1 : ∀ f, C f → A f → v' f = v f + 1) (hv2 : ∀ f, C f → ¬ A f → v' f = v f)
    (ha : a ≤ n) (hb : b ≤ n) (hab : a ≠ b) (hEa : E x a) (hEb : E x b)
    (htk : ∀ f, C f → (bt tk f = true ↔ A f ∧ pl f (v f + 1) = nI a)) (hrs : ∀ f, C f → (bt rs f = true ↔ A f ∧ pl f (v f + 1) = nI b)) (hall : ∀ f, C f → A f → pl f (v f + 1) = nI a ∨ pl f (v f + 1) = nI b)
    (p0 : ∀ j, j < t → sp' j = sp j) (p1 : sp' t = rj (nI x)) (p2 : sp' (t + 1) = nI b) (p3 : sp' (t + 2) = nI a)
    (m0 : ∀ j, j ≤ t → sm' j = sm j) (m1 : sm' (t + 1) = rs) (m2 : sm' (t + 2) = tk)
    (r0 : ∀ j, j ≤ t → sr' j = sr j) (r1 : sr' (t + 1) = rj (nI x)) (r2 : sr' (t + 2) = rj (nI x)) : wp_W n E rj pl tv C v' sp' sm' sr' (t + 3) := by
  have al := wq_al hK hW hx hp hA hv2
  have hK' := hK
  obtain ⟨hn, hn0, hR, h4, h5, h6, h7, h8⟩ := hK'
  have hW' := hW
  obtain ⟨w0, w1, w2, w3, w4⟩ := hW'
  obtain ⟨r, er, hr, hrx, hr1, hr2⟩ := h4 x hx
  have nab : nI a ≠ nI b := fun z => hab (bs_inj (by omega) (by omega) z)
  have lo : ∀ f g k, k ≤ t → wp_low n sp' sm' f g k = wp_low n sp sm f g k := fun f g k hk => wp_low_c k (fun j hj => ⟨p0 j (by omega), m0 j (by omega)⟩)
  have tkA : ∀ f, C f → bt tk f = true → bt (sm' t) f = true := fun f hf h => by
    rw [m0 t (Nat.le_refl _)]; exact ((hA f hf).mp ((htk f hf).mp h).1).1
  have rsA : ∀ f, C f → bt rs f = true → bt (sm' t) f = true := fun f hf h => by
    rw [m0 t (Nat.le_refl _)]; exact ((hA f hf).mp ((hrs f hf).mp h).1).1
  have ntr : ∀ f, C f → bt tk f = true → ¬ bt rs f = true := fun f hf h h' => nab (((htk f hf).mp h).2.symm.trans ((hrs f hf).mp h').2)
  have lo1 : ∀ f g, bt (sm' t) f = true → bt (sm' t) g = true → wp_low n sp' sm' f g (t + 1) = nI r := fun f g h1 h2 => by
    rw [wp_low_t h1 h2, p1, er]
  refine wp_visit hK hW hx hp hne hA hv1 hv2 ?_ ?_ ?_ ?_
  · intro f g hf hg af ag k hk b1 b2
    by_cases c : k ≤ t
    · rw [lo f g k c, r0 k c]
      rw [m0 k c] at b1 b2
      exact w1 f g hf hg (al f hf af) (al g hg ag) k (by omega) b1 b2
    · by_cases c1 : k = t + 1
      · subst c1
        rw [m1] at b1 b2
        rw [r1, lo1 f g (rsA f hf b1) (rsA g hg b2), er]
      · have c2 : k = t + 2 := by omega
        subst c2
        rw [m2] at b1 b2
        rw [r2, wp_low_f (by rw [m1]; exact fun z => ntr f hf b1 z.1), lo1 f g (tkA f hf b1) (tkA g hg b2), er]
  · intro f hf af k hk b1
    by_cases c : k ≤ t
    · rw [m0 k c] at b1
      rw [r0 k c]
      obtain ⟨c', d, e1, e2, e3, e4, e5⟩ := w3 f hf (al f hf af) k (by omega) b1
      by_cases e : k = t
      · subst e
        have ed : d = x := bs_inj (by omega) (by omega) (e2.symm.trans hp)
        subst ed
        refine ⟨c', r, e1, p1.trans er, e3, hr, hr2 c' (fun z => hne ?_) e5⟩
        rw [e1, e2, z]
      · rw [p0 k (by omega)]
        exact ⟨c', d, e1, e2, e3, e4, e5⟩
    · by_cases c1 : k = t + 1
      · subst c1
        exact ⟨r, b, r1.trans er, p2, hr, hb, pd_step hEb hrx.symm hr1⟩
      · have c2 : k = t + 2 := by omega
        subst c2
        exact ⟨r, a, r2.trans er, p3, hr, ha, pd_step hEa hrx.symm hr1⟩
  · intro f g hf hg af ag hn'
    have hno : ¬ (bt (sm t) f = true ∧ bt (sm t) g = true) := fun z => hn' ⟨(hA f hf).mpr ⟨z.1, al f hf af⟩, (hA g hg).mpr ⟨z.2, al g hg ag⟩⟩
    have hno' : ¬ (bt (sm' t) f = true ∧ bt (sm' t) g = true) := by rw [m0 t (Nat.le_refl _)]; exact hno
    rw [wp_low_f hno, wp_low_f (by rw [m2]; exact fun z => hno' ⟨tkA f hf z.1, tkA g hg z.2⟩), wp_low_f (by rw [m1]; exact fun z => hno' ⟨rsA f hf z.1, rsA g hg z.2⟩), wp_low_f hno', lo f g t (Nat.le_refl _)]
  · intro f g hf hg af ag hAf hAg
    have bf : bt (sm' t) f = true := by rw [m0 t (Nat.le_refl _)]; exact ((hA f hf).mp hAf).1
    have bg : bt (sm' t) g = true := by rw [m0 t (Nat.le_refl _)]; exact ((hA g hg).mp hAg).1
    rcases hall f hf hAf with ef | ef
    · have tf := (htk f hf).mpr ⟨hAf, ef⟩
      rcases hall g hg hAg with eg | eg
      · have tg := (htk g hg).mpr ⟨hAg, eg⟩
        rw [wp_low_t (by rw [m2]; exact tf) (by rw [m2]; exact tg), p3, ef, eg, if_pos rfl]
      · have tg := (hrs g hg).mpr ⟨hAg, eg⟩
        rw [wp_low_f (by rw [m2]; exact fun z => ntr g hg z.2 tg), wp_low_f (by rw [m1]; exact fun z => ntr f hf tf z.1), lo1 f g bf bg, ef, eg, if_neg nab, er]
    · have tf := (hrs f hf).mpr ⟨hAf, ef⟩
      rcases hall g hg hAg with eg | eg
      · have tg := (htk g hg).mpr ⟨hAg, eg⟩
        rw [wp_low_f (by rw [m2]; exact fun z => ntr f hf z.1 tf), wp_low_f (by rw [m1]; exact fun z => ntr g hg tg z.2), lo1 f g bf bg, ef, eg, if_neg nab.symm, er]
      · have tg := (hrs g hg).mpr ⟨hAg, eg⟩
        rw [wp_low_f (by rw [m2]; exact fun z => ntr f hf z.1 tf), wp_low_t (by rw [m1]; exact tf) (by rw [m1]; exact tg), p2, ef, eg, if_pos rfl]
end
/-! how high the stack gets -/
noncomputable def wq_pc (m : Int32) : Nat := pd_cn (fun f => bt m f = true) 8
def wq_H (sm : Nat → Int32) (dp : Nat) : Prop := ∀ k, k < dp → wq_pc (sm k) + (k + 1) / 2 ≤ 8
theorem wq_pc_le {a b : Int32} (h : ∀ f, f < 8 → bt a f = true → bt b f = true) : wq_pc a ≤ wq_pc b := pd_cn_mono 8 h
theorem wq_pc_lt {a b : Int32} (h : ∀ f, f < 8 → bt a f = true → bt b f = true) {g : Nat} (hg : g < 8) (h1 : bt b g = true) (h2 : ¬ bt a g = true) : wq_pc a < wq_pc b := pd_cn_lt 8 g h hg h1 h2
theorem wq_pc_pos {a : Int32} {g : Nat} (hg : g < 8) (h : bt a g = true) : 0 < wq_pc a := by
  have h1 := pd_cn_lt (P := fun _ => False) (Q := fun f => bt a f = true) 8 g (fun _ _ z => z.elim) hg h (fun z => z)
  have h2 : wq_pc a = pd_cn (fun f => bt a f = true) 8 := rfl
  omega
end
section
/-! one lane alone. A lane's state: registers, memory as it sees it, trip counts, reads, writes -/
abbrev la_S : Type := (Nat → Int32) × (Nat → Int32) × (Nat → Int32) × Int32 × Int32
def la_c (fa fb : Nat → Int32) (x : Nat) (s : la_S) : Int32 := (s.1 (fa x).toNatClampNeg + fb x) &&& 31
def la_v (kd fa fb : Nat → Int32) (f x : Nat) (s : la_S) : Int32 :=
  if kd x = 1 then fb x else if kd x = 2 then nI f
  else if kd x = 3 then s.1 (fa x).toNatClampNeg + s.1 (fb x).toNatClampNeg
  else if kd x = 4 then s.1 (fa x).toNatClampNeg - s.1 (fb x).toNatClampNeg
  else if kd x = 5 then s.1 (fa x).toNatClampNeg * s.1 (fb x).toNatClampNeg
  else if kd x = 6 then s.1 (fa x).toNatClampNeg &&& s.1 (fb x).toNatClampNeg
  else if kd x = 7 then (if s.1 (fb x).toNatClampNeg ≤ s.1 (fa x).toNatClampNeg then 0 else 1)
  else if kd x = 8 then (if s.1 (fa x).toNatClampNeg = s.1 (fb x).toNatClampNeg then 1 else 0)
  else if kd x = 9 then s.1 (fa x).toNatClampNeg + fb x
  else s.2.1 (la_c fa fb x s).toNatClampNeg
def la_tk (T : Int32) (kd fd : Nat → Int32) (x : Nat) (s : la_S) : Bool :=
  if s.1 (fd x).toNatClampNeg = 0 then false else if kd x = 16 then (if T ≤ s.2.2.1 x then false else true) else true
def la_tr (T : Int32) (kd fd : Nat → Int32) (lp : Nat → Nat) (x : Nat) (s : la_S) : Nat → Int32 :=
  if kd x = 16 then (if la_tk T kd fd x s = true then upd s.2.2.1 x (s.2.2.1 x + 1) else upd s.2.2.1 x 0)
  else if kd x = 17 then (if la_tk T kd fd x s = true then upd s.2.2.1 (lp x) 0 else s.2.2.1) else s.2.2.1
def la_st (T : Int32) (kd fd fa fb : Nat → Int32) (lp : Nat → Nat) (f x : Nat) (s : la_S) : la_S :=
  (if kd x ≤ 10 then upd s.1 (fd x).toNatClampNeg (la_v kd fa fb f x s) else s.1,
   if kd x = 11 then upd s.2.1 (la_c fa fb x s).toNatClampNeg (s.1 (fd x).toNatClampNeg) else s.2.1,
   la_tr T kd fd lp x s,
   if kd x = 10 then s.2.2.2.1 ||| ((1 : Int32) <<< (la_c fa fb x s &&& 31)) else s.2.2.2.1,
   if kd x = 11 then s.2.2.2.2 ||| ((1 : Int32) <<< (la_c fa fb x s &&& 31)) else s.2.2.2.2)
def la_to (T : Int32) (kd fd nzW zW : Nat → Int32) (x : Nat) (s : la_S) : Int32 := if la_tk T kd fd x s = true then nzW x else zW x
def la_so (T : Int32) (kd fd fa fb nzW zW : Nat → Int32) (lp : Nat → Nat) (rg mem : Nat → Int32) (f : Nat) : Nat → la_S × Int32
  | 0 => ((fun r => rg (f * 8 + r), mem, fun _ => 0, 0, 0), 0)
  | v + 1 => (la_st T kd fd fa fb lp f (la_so T kd fd fa fb nzW zW lp rg mem f v).2.toNatClampNeg (la_so T kd fd fa fb nzW zW lp rg mem f v).1, la_to T kd fd nzW zW (la_so T kd fd fa fb nzW zW lp rg mem f v).2.toNatClampNeg (la_so T kd fd fa fb nzW zW lp rg mem f v).1)
def la_L (n : Nat) (p : Int32) : Prop := ∃ x, x < n ∧ p = nI x
/-- the kernel is sound -/
def la_K (n : Nat) (T : Int32) (kd nzW zW : Nat → Int32) (lp : Nat → Nat) : Prop :=
  0 < n ∧ n ≤ 24 ∧ (∃ m, m ≤ 4 ∧ T = nI m) ∧ ns_WF kd n ∧ ns_ln kd n = 0 ∧ (∀ x, x < n → wy_W kd n x (nzW x) (zW x)) ∧ (∀ x, x < n → kd x = 17 → ns_LP kd (lp x) x)
section
variable {n : Nat} {T : Int32} {kd fd fa fb nzW zW : Nat → Int32} {lp : Nat → Nat} {rg mem : Nat → Int32} {f : Nat}
theorem la_so_s (v : Nat) : la_so T kd fd fa fb nzW zW lp rg mem f (v + 1) = (la_st T kd fd fa fb lp f (la_so T kd fd fa fb nzW zW lp rg mem f v).2.toNatClampNeg (la_so T kd fd fa fb nzW zW lp rg mem f v).1, la_to T kd fd nzW zW (la_so T kd fd fa fb nzW zW lp rg mem f v).2.toNatClampNeg (la_so T kd fd fa fb nzW zW lp rg mem f v).1) := rfl
def la_t (s : la_S) : Nat → Nat := fun w => (s.2.2.1 w).toNatClampNeg
def la_TI (s : la_S) : Prop := ∀ w, ∃ m, m ≤ 4 ∧ s.2.2.1 w = nI m
theorem la_t_e {s : la_S} {w m : Nat} (hm : m ≤ 4) (h : s.2.2.1 w = nI m) : la_t s w = m := by
  show (s.2.2.1 w).toNatClampNeg = m
  rw [h, nI_clamp (by omega)]
/-- a step keeps small trip counts, and is a move -/
theorem la_mv (hK : la_K n T kd nzW zW lp) {x y : Nat} {s : la_S} (hx : x < n) (hy : y ≤ n) (hT : la_TI s) (he : la_to T kd fd nzW zW x s = nI y) :
    la_TI (la_st T kd fd fa fb lp f x s) ∧ pt_M kd n x (la_t s) y (la_t (la_st T kd fd fa fb lp f x s)) := by
  obtain ⟨hn0, hn, ⟨tm, htm, eT⟩, hw, h0, hW, hlp⟩ := hK
  have e3 : (la_st T kd fd fa fb lp f x s).2.2.1 = la_tr T kd fd lp x s := rfl
  have hWx := hW x hx
  by_cases k6 : kd x = 16
  · obtain ⟨i, r1, r2, r3, r4⟩ := hWx.2.2.2.2.1 k6
    have etr : la_tr T kd fd lp x s = if la_tk T kd fd x s = true then upd s.2.2.1 x (s.2.2.1 x + 1) else upd s.2.2.1 x 0 := if_pos k6
    by_cases c : la_tk T kd fd x s = true
    · have he' : nzW x = nI y := by
        have : la_to T kd fd nzW zW x s = nzW x := if_pos c
        exact this.symm.trans he
      have ey : y = x + 1 := bs_inj (by omega) (by omega) (he'.symm.trans r3)
      obtain ⟨m, hm, em⟩ := hT x
      have hlt : m < tm := by
        have c2 := c
        unfold la_tk at c2
        split at c2
        · cases c2
        · split at c2
          · cases c2
          · rename_i h
            rw [eT, em] at h
            apply Classical.byContradiction
            intro z
            exact h (nI_le (by omega) (by omega))
      rw [if_pos c] at etr
      have t1 : ∀ w, w ≠ x → (la_st T kd fd fa fb lp f x s).2.2.1 w = s.2.2.1 w := fun w hwx => by rw [e3, etr, bs_un hwx]
      have t2 : (la_st T kd fd fa fb lp f x s).2.2.1 x = nI (m + 1) := by rw [e3, etr, bs_us, em, nI_1]
      refine ⟨fun w => ?_, Or.inr (Or.inr (Or.inl ⟨i, ⟨k6, r1⟩, ey, ?_, ?_, ?_⟩))⟩
      · by_cases z : w = x
        · subst z
          exact ⟨m + 1, by omega, t2⟩
        · rw [t1 w z]; exact hT w
      · rw [la_t_e hm em]; omega
      · rw [la_t_e hm em, la_t_e (by omega) t2]
      · intro w hwx
        show ((la_st T kd fd fa fb lp f x s).2.2.1 w).toNatClampNeg = (s.2.2.1 w).toNatClampNeg
        rw [t1 w hwx]
    · have he' : zW x = nI y := by
        have : la_to T kd fd nzW zW x s = zW x := if_neg c
        exact this.symm.trans he
      have ey : y = i + 1 := bs_inj (by omega) (by omega) (he'.symm.trans r4)
      rw [if_neg c] at etr
      have t1 : ∀ w, w ≠ x → (la_st T kd fd fa fb lp f x s).2.2.1 w = s.2.2.1 w := fun w hwx => by rw [e3, etr, bs_un hwx]
      have t2 : (la_st T kd fd fa fb lp f x s).2.2.1 x = nI 0 := by rw [e3, etr, bs_us, nI_0]
      refine ⟨fun w => ?_, Or.inr (Or.inr (Or.inr ⟨x, i, ⟨k6, r1⟩, Or.inl rfl, ey, la_t_e (by omega) t2, ?_⟩))⟩
      · by_cases z : w = x
        · subst z
          exact ⟨0, by omega, t2⟩
        · rw [t1 w z]; exact hT w
      · intro w hwx
        show ((la_st T kd fd fa fb lp f x s).2.2.1 w).toNatClampNeg = (s.2.2.1 w).toNatClampNeg
        rw [t1 w hwx]
  · by_cases k7 : kd x = 17 ∧ la_tk T kd fd x s = true
    · obtain ⟨k7, c⟩ := k7
      obtain ⟨r0, w0, i, r1, r2, r3, r4⟩ := hWx.2.2.2.2.2.1 k7
      have ew := ns_LP_u (hlp x hx k7) r1
      have etr : la_tr T kd fd lp x s = upd s.2.2.1 w0 0 := by
        unfold la_tr
        rw [if_neg k6, if_pos k7, if_pos c, ew]
      have he' : nzW x = nI y := by
        have : la_to T kd fd nzW zW x s = nzW x := if_pos c
        exact this.symm.trans he
      have ey : y = i + 1 := bs_inj (by omega) (by omega) (he'.symm.trans r4)
      have t1 : ∀ w, w ≠ w0 → (la_st T kd fd fa fb lp f x s).2.2.1 w = s.2.2.1 w := fun w hwx => by rw [e3, etr, bs_un hwx]
      have t2 : (la_st T kd fd fa fb lp f x s).2.2.1 w0 = nI 0 := by rw [e3, etr, bs_us, nI_0]
      refine ⟨fun w => ?_, Or.inr (Or.inr (Or.inr ⟨w0, i, ⟨r1.2.1, r2⟩, Or.inr ⟨k7, r1⟩, ey, la_t_e (by omega) t2, ?_⟩))⟩
      · by_cases z : w = w0
        · subst z
          exact ⟨0, by omega, t2⟩
        · rw [t1 w z]; exact hT w
      · intro w hwx
        show ((la_st T kd fd fa fb lp f x s).2.2.1 w).toNatClampNeg = (s.2.2.1 w).toNatClampNeg
        rw [t1 w hwx]
    · have etr : la_tr T kd fd lp x s = s.2.2.1 := by
        unfold la_tr
        rw [if_neg k6]
        by_cases c : kd x = 17
        · rw [if_pos c, if_neg (fun z => k7 ⟨c, z⟩)]
        · rw [if_neg c]
      have t1 : ∀ w, (la_st T kd fd fa fb lp f x s).2.2.1 w = s.2.2.1 w := fun w => by rw [e3, etr]
      have t3 : ∀ w, la_t (la_st T kd fd fa fb lp f x s) w = la_t s w := fun w => by
        show ((la_st T kd fd fa fb lp f x s).2.2.1 w).toNatClampNeg = (s.2.2.1 w).toNatClampNeg
        rw [t1 w]
      refine ⟨fun w => by rw [t1 w]; exact hT w, ?_⟩
      have hab : nI y = zW x ∨ (nI y = nzW x ∧ kd x ≠ 17) := by
        by_cases c : la_tk T kd fd x s = true
        · right
          have : la_to T kd fd nzW zW x s = nzW x := if_pos c
          exact ⟨he.symm.trans this, fun z => k7 ⟨z, c⟩⟩
        · left
          have : la_to T kd fd nzW zW x s = zW x := if_neg c
          exact he.symm.trans this
      rcases wy_mv (by omega) hw hx hWx k6 hy hab with h | h
      · exact Or.inl ⟨h, t3⟩
      · exact Or.inr (Or.inl ⟨h, t3⟩)
/-- from every line there is a move -/
theorem la_some (hK : la_K n T kd nzW zW lp) {x : Nat} (hx : x < n) (t : Nat → Nat) : ∃ y t', pt_M kd n x t y t' := by
  obtain ⟨hn0, hn, ⟨tm, htm, eT⟩, hw, h0, hW, hlp⟩ := hK
  by_cases k6 : kd x = 16
  · obtain ⟨i, r1, r2, r3, r4⟩ := (hW x hx).2.2.2.2.1 k6
    exact ⟨i + 1, fun w => if w = x then 0 else t w, Or.inr (Or.inr (Or.inr ⟨x, i, ⟨k6, r1⟩, Or.inl rfl, rfl, if_pos rfl, fun w' h => if_neg h⟩))⟩
  · obtain ⟨⟨y, h1, h2⟩, _⟩ := wy_tgt hw hx (hW x hx)
    rcases wy_mv (by omega) hw hx (hW x hx) k6 h1 (Or.inl h2.symm) with h | h
    · exact ⟨y, t, Or.inl ⟨h, fun _ => rfl⟩⟩
    · exact ⟨y, t, Or.inr (Or.inl ⟨h, fun _ => rfl⟩)⟩
theorem la_to_or (hK : la_K n T kd nzW zW lp) {x : Nat} (hx : x < n) (s : la_S) : (∃ y, y ≤ n ∧ la_to T kd fd nzW zW x s = nI y ∧ wy_E n nzW zW x y) ∨ (kd x = 19 ∧ la_tk T kd fd x s = true ∧ la_to T kd fd nzW zW x s = -1) := by
  obtain ⟨hn0, hn, ⟨tm, htm, eT⟩, hw, h0, hW, hlp⟩ := hK
  obtain ⟨⟨y, h1, h2⟩, h3⟩ := wy_tgt hw hx (hW x hx)
  by_cases c : la_tk T kd fd x s = true
  · have e : la_to T kd fd nzW zW x s = nzW x := if_pos c
    rw [e]
    rcases h3 with ⟨k, h⟩ | ⟨_, y', h4, h5⟩
    · exact Or.inr ⟨k, c, h⟩
    · exact Or.inl ⟨y', h4, h5, hx, h4, Or.inr h5⟩
  · have e : la_to T kd fd nzW zW x s = zW x := if_neg c
    rw [e]
    exact Or.inl ⟨y, h1, h2, hx, h1, Or.inl h2⟩
theorem la_run (hK : la_K n T kd nzW zW lp) (C : Nat → (Nat → Nat) → Nat) (hC0 : ∀ t, (∀ w, t w = 0) → C 0 t ≤ 480) (hC : ∀ x t x' t', x < n → pt_SI kd x t → pt_M kd n x t x' t' → C x' t' + 1 ≤ C x t) :
    ∀ v, (∀ u, u < v → la_L n (la_so T kd fd fa fb nzW zW lp rg mem f u).2) → ((∃ x, x ≤ n ∧ (la_so T kd fd fa fb nzW zW lp rg mem f v).2 = nI x ∧ pt_SI kd x (la_t (la_so T kd fd fa fb nzW zW lp rg mem f v).1) ∧ la_TI (la_so T kd fd fa fb nzW zW lp rg mem f v).1 ∧ C x (la_t (la_so T kd fd fa fb nzW zW lp rg mem f v).1) + v ≤ 480) ∨ (la_so T kd fd fa fb nzW zW lp rg mem f v).2 = -1) := by
  intro v
  induction v with
  | zero =>
    intro _
    have z : ∀ w, la_t (la_so T kd fd fa fb nzW zW lp rg mem f 0).1 w = 0 := fun _ => rfl
    exact Or.inl ⟨0, by omega, rfl, pt_SI0 z, fun w => ⟨0, by omega, rfl⟩, by have := hC0 _ z; omega⟩
  | succ v ih =>
    intro hu
    obtain ⟨x, hx, ex⟩ := hu v (by omega)
    have hn := hK.2.1
    rcases ih (fun u hu' => hu u (by omega)) with ⟨x', h1, h2, h3, h4, h5⟩ | h
    · have : x' = x := bs_inj (by omega) (by omega) (h2.symm.trans ex)
      subst this
      have ec : (la_so T kd fd fa fb nzW zW lp rg mem f v).2.toNatClampNeg = x' := by rw [ex, nI_clamp (by omega)]
      rw [la_so_s, ec]
      rcases la_to_or (fd := fd) hK hx (la_so T kd fd fa fb nzW zW lp rg mem f v).1 with ⟨y, hy, ey, _⟩ | ⟨_, _, ey⟩
      · obtain ⟨m1, m2⟩ := la_mv (fa := fa) (fb := fb) (f := f) hK hx hy h4 ey
        refine Or.inl ⟨y, hy, ey, pt_SI_M h3 m2, m1, ?_⟩
        have := hC _ _ _ _ hx h3 m2
        show C y (la_t (la_st T kd fd fa fb lp f x' (la_so T kd fd fa fb nzW zW lp rg mem f v).1)) + (v + 1) ≤ 480
        omega
      · exact Or.inr ey
    · rw [h] at ex
      exact absurd ex.symm (wp_nm1 (by omega))
/-- a lane's run ends within 480 visits -/
theorem la_ends (hK : la_K n T kd nzW zW lp) : ∃ v, v ≤ 480 ∧ (∀ u, u < v → la_L n (la_so T kd fd fa fb nzW zW lp rg mem f u).2) ∧ ((la_so T kd fd fa fb nzW zW lp rg mem f v).2 = nI n ∨ (la_so T kd fd fa fb nzW zW lp rg mem f v).2 = -1) := by
  obtain ⟨C, hC0, hC⟩ := pt_pot hK.2.1 hK.2.2.2.1 hK.2.2.2.2.1
  have R := la_run (fa := fa) (fb := fb) (fd := fd) (rg := rg) (mem := mem) (f := f) hK C hC0 hC
  have hn := hK.2.1
  have key : ∀ d v, 481 - v ≤ d → (∀ u, u < v → la_L n (la_so T kd fd fa fb nzW zW lp rg mem f u).2) → v ≤ 480 → ∃ v, v ≤ 480 ∧ (∀ u, u < v → la_L n (la_so T kd fd fa fb nzW zW lp rg mem f u).2) ∧ ((la_so T kd fd fa fb nzW zW lp rg mem f v).2 = nI n ∨ (la_so T kd fd fa fb nzW zW lp rg mem f v).2 = -1) := by
    intro d
    induction d with
    | zero => intro v h1 _ h2; omega
    | succ d ih =>
      intro v h1 h2 h3
      rcases R v h2 with ⟨x, r1, r2, r3, r4, r5⟩ | r
      · by_cases c : x = n
        · subst c
          exact ⟨v, h3, h2, Or.inl r2⟩
        · have hx : x < n := by omega
          obtain ⟨y, t', hM⟩ := la_some hK hx (la_t (la_so T kd fd fa fb nzW zW lp rg mem f v).1)
          have := hC _ _ _ _ hx r3 hM
          refine ih (v + 1) (by omega) (fun u hu => ?_) (by omega)
          by_cases e : u = v
          · subst e
            exact ⟨x, hx, r2⟩
          · exact h2 u (by omega)
      · exact ⟨v, h3, h2, Or.inr r⟩
  exact key 481 0 (by omega) (fun u hu => absurd hu (Nat.not_lt_zero _)) (by omega)
end
noncomputable def la_tv (n : Nat) (T : Int32) (kd fd fa fb nzW zW : Nat → Int32) (lp : Nat → Nat) (rg mem : Nat → Int32) (ch : Int32) (f : Nat) : Nat :=
  if bt ch f = true then Classical.epsilon (fun v => v ≤ 480 ∧ (∀ u, u < v → la_L n (la_so T kd fd fa fb nzW zW lp rg mem f u).2) ∧ ((la_so T kd fd fa fb nzW zW lp rg mem f v).2 = nI n ∨ (la_so T kd fd fa fb nzW zW lp rg mem f v).2 = -1)) else 0
section
variable {n : Nat} {T : Int32} {kd fd fa fb nzW zW : Nat → Int32} {lp : Nat → Nat} {rg mem : Nat → Int32} {f : Nat} {ch : Int32}
theorem la_tv_s (hK : la_K n T kd nzW zW lp) (h : bt ch f = true) : la_tv n T kd fd fa fb nzW zW lp rg mem ch f ≤ 480 ∧ (∀ u, u < la_tv n T kd fd fa fb nzW zW lp rg mem ch f → la_L n (la_so T kd fd fa fb nzW zW lp rg mem f u).2) ∧ ((la_so T kd fd fa fb nzW zW lp rg mem f (la_tv n T kd fd fa fb nzW zW lp rg mem ch f)).2 = nI n ∨ (la_so T kd fd fa fb nzW zW lp rg mem f (la_tv n T kd fd fa fb nzW zW lp rg mem ch f)).2 = -1) := by
  have e : la_tv n T kd fd fa fb nzW zW lp rg mem ch f = Classical.epsilon (fun v => v ≤ 480 ∧ (∀ u, u < v → la_L n (la_so T kd fd fa fb nzW zW lp rg mem f u).2) ∧ ((la_so T kd fd fa fb nzW zW lp rg mem f v).2 = nI n ∨ (la_so T kd fd fa fb nzW zW lp rg mem f v).2 = -1)) := if_pos h
  rw [e]
  exact Classical.epsilon_spec (la_ends hK)
theorem la_tv_0 (h : ¬ bt ch f = true) : la_tv n T kd fd fa fb nzW zW lp rg mem ch f = 0 := if_neg h
theorem la_tv_le (hK : la_K n T kd nzW zW lp) : la_tv n T kd fd fa fb nzW zW lp rg mem ch f ≤ 480 := by
  by_cases h : bt ch f = true
  · exact (la_tv_s hK h).1
  · rw [la_tv_0 h]; omega
theorem la_line_lt {v : Nat} (hK : la_K n T kd nzW zW lp) (h : bt ch f = true) (hv : v ≤ la_tv n T kd fd fa fb nzW zW lp rg mem ch f) (hl : la_L n (la_so T kd fd fa fb nzW zW lp rg mem f v).2) : v < la_tv n T kd fd fa fb nzW zW lp rg mem ch f := by
  obtain ⟨h1, h2, h3⟩ := la_tv_s (fd := fd) (fa := fa) (fb := fb) (rg := rg) (mem := mem) hK h
  apply Classical.byContradiction
  intro c
  have c' : v = la_tv n T kd fd fa fb nzW zW lp rg mem ch f := by omega
  obtain ⟨x, hx, e⟩ := hl
  have hn := hK.2.1
  rw [← c'] at h3
  rcases h3 with z | z
  · have := bs_inj (by omega) (by omega) (e.symm.trans z)
    omega
  · exact wp_nm1 (by omega) (e.symm.trans z)
/-- the lanes' runs as the warp's mathematics wants them -/
theorem la_wpK (hK : la_K n T kd nzW zW lp) {rj : Int32 → Int32}
    (hrj : ∀ x, x < n → ∃ r, rj (nI x) = nI r ∧ r ≤ n ∧ r ≠ x ∧ pd_PD (wy_E n nzW zW) n r x ∧ ∀ s, s ≠ x → pd_PD (wy_E n nzW zW) n s x → pd_PD (wy_E n nzW zW) n s r) :
    wp_K n (wy_E n nzW zW) rj (fun f v => (la_so T kd fd fa fb nzW zW lp rg mem f v).2) (la_tv n T kd fd fa fb nzW zW lp rg mem ch) (fun f => bt ch f = true) := by
  have hK' := hK
  obtain ⟨hn0, hn, hT, hw, h0, hW, hlp⟩ := hK'
  refine ⟨by omega, hn0, wy_reach (by omega) hw hW, hrj, fun f _ => rfl, fun f hf v hv => (la_tv_s hK hf).2.1 v hv, fun f hf => (la_tv_s hK hf).2.2, ?_⟩
  intro f hf v x y hv hx hy e1 e2
  have e2' : (la_so T kd fd fa fb nzW zW lp rg mem f (v + 1)).2 = nI y := e2
  have e1' : (la_so T kd fd fa fb nzW zW lp rg mem f v).2 = nI x := e1
  rw [la_so_s, e1', nI_clamp (by omega)] at e2'
  have e3 : la_to T kd fd nzW zW x (la_so T kd fd fa fb nzW zW lp rg mem f v).1 = nI y := e2'
  rcases la_to_or (fd := fd) hK hx (la_so T kd fd fa fb nzW zW lp rg mem f v).1 with ⟨y', h1, h2, h3⟩ | ⟨_, _, h2⟩
  · have : y' = y := bs_inj (by omega) (by omega) (h2.symm.trans e3)
    subst this
    exact h3
  · rw [h2] at e3
    exact absurd e3.symm (wp_nm1 (by omega))
end
end
section
/-! the reference reads its lines: opens, endOf, elseOf, loopOf -/
section
variable {g_lanes g_lines g_trips g_logSize g_n g_sealed g_clash : Int32} {b_kinds b_fd b_fa b_fb b_nzWay b_zWay b_post b_seen b_regs b_mem b_own b_priv b_trip b_visits b_lineOf b_goneTo b_mates b_exits b_reads b_writes b_marks b_logLine b_logMask : Nat → Int32}
theorem ye_op {post : Int32 → Prop} {i : Nat} (hi : i < 24) (h1 : ns_Op b_kinds i → post 1) (h0 : ¬ ns_Op b_kinds i → post 0) : wpY_opens post (g_lanes, g_lines, g_trips, g_logSize, g_n, g_sealed, g_clash, b_kinds, b_fd, b_fa, b_fb, b_nzWay, b_zWay, b_post, b_seen, b_regs, b_mem, b_own, b_priv, b_trip, b_visits, b_lineOf, b_goneTo, b_mates, b_exits, b_reads, b_writes, b_marks, b_logLine, b_logMask) (nI i) := by
  have c : (nI i).toNatClampNeg = i := nI_clamp (by omega)
  have v : vp_in (nI i) 24 := vp_in_nI hi (by decide)
  unfold wpY_opens
  dsimp only
  rw [c]
  refine ⟨v, br_c (fun h => h1 (Or.inl h)) (fun h => ⟨v, br_c (fun h' => h1 (Or.inr h')) (fun h' => h0 (fun z => ?_))⟩)⟩
  rcases z with z | z
  · exact h z
  · exact h' z
theorem ye_e25 {post : Int32 → Prop} {J : Int32 → Int32 → Prop} {i d : Nat} (hi : i < 24) (hd : 0 < d) (hd2 : d < 100) (h0 : b_kinds i = 15 → d = 1 → post (nI i)) (h1 : b_kinds i = 15 → 1 < d → J (nI (d - 1)) (nI (i + 1))) (h2 : ¬ b_kinds i = 15 → J (nI d) (nI (i + 1))) :
    wY_endOf_25 post J (nI d) (nI i) g_lanes g_lines g_trips g_logSize g_n g_sealed g_clash b_kinds b_fd b_fa b_fb b_nzWay b_zWay b_post b_seen b_regs b_mem b_own b_priv b_trip b_visits b_lineOf b_goneTo b_mates b_exits b_reads b_writes b_marks b_logLine b_logMask := by
  have c : (nI i).toNatClampNeg = i := nI_clamp (by omega)
  unfold wY_endOf_25
  rw [c]
  refine ⟨vp_in_nI hi (by decide), br_c (fun h => ?_) (fun h => ?_)⟩
  · refine nm_r (bs_m hd) ?_
    unfold wY_endOf_39
    by_cases e : d = 1
    · subst e
      exact br_t rfl (h0 h rfl)
    · exact br_f (nI_ne0 (by omega) (by omega)) (nm_r (nI_1 i) (h1 h (by omega)))
  · unfold wY_endOf_39
    exact br_f (nI_ne0 hd (by omega)) (nm_r (nI_1 i) (h2 h))
theorem ye_OA_s {x i : Nat} (h : ns_OA b_kinds x i) (hl : ns_ln b_kinds x < ns_ln b_kinds (i + 1)) : ns_OA b_kinds x (i + 1) := by
  refine ⟨by have := h.1; omega, h.2.1, fun j a b => ?_⟩
  by_cases e : j = i + 1
  · subst e; exact hl
  · exact h.2.2 j a (by omega)
theorem ye_end6 {post : Int32 → Prop} {n x : Nat} (hn : n ≤ 24) (hl : ∀ j, j ≤ n → ns_ln b_kinds j ≤ 24) (ho : ns_OA b_kinds x n → post (-1)) (he : ∀ i, i < n → ns_EN b_kinds x i → post (nI i)) :
    ∀ m i, n - i < m → i ≤ n → ns_OA b_kinds x i → wY_endOf_6 post g_lanes g_lines g_trips g_logSize (nI n) g_sealed g_clash b_kinds b_fd b_fa b_fb b_nzWay b_zWay b_post b_seen b_regs b_mem b_own b_priv b_trip b_visits b_lineOf b_goneTo b_mates b_exits b_reads b_writes b_marks b_logLine b_logMask m (nI (ns_ln b_kinds i - ns_ln b_kinds x)) (nI i) := by
  intro m
  induction m with
  | zero => intro i h; omega
  | succ m ih =>
    intro i hm hi hO
    have hlt := hO.2.2 i hO.1 (Nat.le_refl _)
    have hli := hl i hi
    rw [wY_endOf_6]
    by_cases c : n ≤ i
    · have : i = n := by omega
      subst this
      exact br_t (nI_le (Nat.le_refl _) (by omega)) (ho hO)
    · refine br_f (nI_ge (by omega) (by omega)) (ye_op (by omega) (fun hop => ?_) (fun hop => ?_))
      · refine br_f bs_10 (nm_r (nI_1 _) (ye_e25 (by omega) (by omega) (by omega) (fun h => absurd h (ns_op_n15 hop)) (fun h => absurd h (ns_op_n15 hop)) (fun _ => ?_)))
        have e := ns_ln_op hop
        have := ih (i + 1) (by omega) (by omega) (ye_OA_s hO (by omega))
        rw [show ns_ln b_kinds (i + 1) - ns_ln b_kinds x = ns_ln b_kinds i - ns_ln b_kinds x + 1 by omega] at this
        exact this
      · refine br_t rfl (ye_e25 (by omega) (by omega) (by omega) (fun h hd => ?_) (fun h hd => ?_) (fun h => ?_))
        · have e := ns_ln_cl h
          exact he i (by omega) ⟨hO.1, hO.2.1, by omega, hO.2.2⟩
        · have e := ns_ln_cl h
          have := ih (i + 1) (by omega) (by omega) (ye_OA_s hO (by omega))
          rw [show ns_ln b_kinds (i + 1) - ns_ln b_kinds x = ns_ln b_kinds i - ns_ln b_kinds x - 1 by omega] at this
          exact this
        · have e := ns_ln_o hop h
          have := ih (i + 1) (by omega) (by omega) (ye_OA_s hO (by omega))
          rw [e] at this
          exact this
theorem ye_ln {kd : Nat → Int32} : ∀ j, ns_ln kd j ≤ j := by
  intro j
  induction j with
  | zero => exact Nat.le_refl 0
  | succ j ih => have := (ns_ln_le (kd := kd) j).1; omega
theorem ye_end {post : Int32 → Prop} {n x : Nat} (hn : n ≤ 24) (hx : x < n) (hop : ns_Op b_kinds x) (ho : ns_OA b_kinds x n → post (-1)) (he : ∀ i, i < n → ns_EN b_kinds x i → post (nI i)) : wpY_endOf post (g_lanes, g_lines, g_trips, g_logSize, nI n, g_sealed, g_clash, b_kinds, b_fd, b_fa, b_fb, b_nzWay, b_zWay, b_post, b_seen, b_regs, b_mem, b_own, b_priv, b_trip, b_visits, b_lineOf, b_goneTo, b_mates, b_exits, b_reads, b_writes, b_marks, b_logLine, b_logMask) (nI x) := by
  unfold wpY_endOf
  dsimp only
  have e := ns_ln_op hop
  have := ye_end6 (g_lanes := g_lanes) (g_lines := g_lines) (g_trips := g_trips) (g_logSize := g_logSize) (g_sealed := g_sealed) (g_clash := g_clash) (b_fd := b_fd) (b_fa := b_fa) (b_fb := b_fb) (b_nzWay := b_nzWay) (b_zWay := b_zWay) (b_post := b_post) (b_seen := b_seen) (b_regs := b_regs) (b_mem := b_mem) (b_own := b_own) (b_priv := b_priv) (b_trip := b_trip) (b_visits := b_visits) (b_lineOf := b_lineOf) (b_goneTo := b_goneTo) (b_mates := b_mates) (b_exits := b_exits) (b_reads := b_reads) (b_writes := b_writes) (b_marks := b_marks) (b_logLine := b_logLine) (b_logMask := b_logMask)
    hn (fun j hj => Nat.le_trans (ye_ln j) (by omega)) ho he (n + 1) (x + 1) (by omega) (by omega) ⟨by omega, hop, fun j a b => by
      have : j = x + 1 := by omega
      subst this; omega⟩
  rw [e, show ns_ln b_kinds x + 1 - ns_ln b_kinds x = 1 by omega] at this
  exact nm_r (nI_1 x) ⟨n + 1, this⟩
theorem ye_endE {post : Int32 → Prop} {n x x0 : Nat} (hn : n ≤ 24) (hx : x < n) (hel : ns_EL b_kinds x0 x) (ho : ns_OA b_kinds x0 n → post (-1)) (he : ∀ i, i < n → ns_EN b_kinds x0 i → post (nI i)) : wpY_endOf post (g_lanes, g_lines, g_trips, g_logSize, nI n, g_sealed, g_clash, b_kinds, b_fd, b_fa, b_fb, b_nzWay, b_zWay, b_post, b_seen, b_regs, b_mem, b_own, b_priv, b_trip, b_visits, b_lineOf, b_goneTo, b_mates, b_exits, b_reads, b_writes, b_marks, b_logLine, b_logMask) (nI x) := by
  unfold wpY_endOf
  dsimp only
  obtain ⟨h1, h2, h3⟩ := hel
  have e := ns_ln_o (kd := b_kinds) (m := x) (ns_nop h2 ns_k9 ns_k10) (by rw [h2]; exact ns_k11)
  refine nm_r (nI_1 x) ⟨n + 1, ?_⟩
  have := ye_end6 (g_lanes := g_lanes) (g_lines := g_lines) (g_trips := g_trips) (g_logSize := g_logSize) (g_sealed := g_sealed) (g_clash := g_clash) (b_fd := b_fd) (b_fa := b_fa) (b_fb := b_fb) (b_nzWay := b_nzWay) (b_zWay := b_zWay) (b_post := b_post) (b_seen := b_seen) (b_regs := b_regs) (b_mem := b_mem) (b_own := b_own) (b_priv := b_priv) (b_trip := b_trip) (b_visits := b_visits) (b_lineOf := b_lineOf) (b_goneTo := b_goneTo) (b_mates := b_mates) (b_exits := b_exits) (b_reads := b_reads) (b_writes := b_writes) (b_marks := b_marks) (b_logLine := b_logLine) (b_logMask := b_logMask)
    hn (fun j hj => Nat.le_trans (ye_ln j) (by omega)) ho he (n + 1) (x + 1) (by omega) (by omega) (ye_OA_s h1 (by omega))
  rw [e, show ns_ln b_kinds x - ns_ln b_kinds x0 = 1 by omega] at this
  exact this
/-! elseOf -/
theorem ye_l25 {post : Int32 → Prop} {J : Int32 → Int32 → Prop} {i d : Nat} (hi : i < 24) (hd : 0 < d) (hd2 : d < 100) (h0 : b_kinds i = 15 → d = 1 → post (-1)) (h1 : b_kinds i = 15 → 1 < d → J (nI (d - 1)) (nI (i + 1)))
    (h2 : ¬ b_kinds i = 15 → b_kinds i = 14 → d = 1 → post (nI i)) (h3 : ¬ b_kinds i = 15 → ¬ (b_kinds i = 14 ∧ d = 1) → J (nI d) (nI (i + 1))) :
    wY_elseOf_25 post J (nI d) (nI i) g_lanes g_lines g_trips g_logSize g_n g_sealed g_clash b_kinds b_fd b_fa b_fb b_nzWay b_zWay b_post b_seen b_regs b_mem b_own b_priv b_trip b_visits b_lineOf b_goneTo b_mates b_exits b_reads b_writes b_marks b_logLine b_logMask := by
  have c : (nI i).toNatClampNeg = i := nI_clamp (by omega)
  have v : vp_in (nI i) 24 := vp_in_nI hi (by decide)
  unfold wY_elseOf_25
  rw [c]
  refine ⟨v, br_c (fun h => ?_) (fun h => ?_)⟩
  · refine nm_r (bs_m hd) ?_
    unfold wY_elseOf_39
    rw [c]
    by_cases e : d = 1
    · subst e
      exact br_t rfl (h0 h rfl)
    · refine br_f (nI_ne0 (by omega) (by omega)) (br_c (fun _ => ⟨v, br_f (by rw [h]; decide) (nm_r (nI_1 i) (h1 h (by omega)))⟩) (fun _ => nm_r (nI_1 i) (h1 h (by omega))))
  · unfold wY_elseOf_39
    rw [c]
    refine br_f (nI_ne0 hd (by omega)) (pk_eq d 1 (fun e => ⟨v, br_c (fun k => h2 h k e) (fun k => nm_r (nI_1 i) (h3 h (fun z => k z.1)))⟩) (fun e => nm_r (nI_1 i) (h3 h (fun z => e z.2))))
theorem ye_else6 {post : Int32 → Prop} {n x : Nat} (hn : n ≤ 24) (ho : (∀ el, el < n → ¬ ns_EL b_kinds x el) → post (-1)) (he : ∀ i, i < n → ns_EL b_kinds x i → post (nI i)) :
    ∀ m i, n - i < m → i ≤ n → ns_OA b_kinds x i → (∀ el, el < i → ¬ ns_EL b_kinds x el) → wY_elseOf_6 post g_lanes g_lines g_trips g_logSize (nI n) g_sealed g_clash b_kinds b_fd b_fa b_fb b_nzWay b_zWay b_post b_seen b_regs b_mem b_own b_priv b_trip b_visits b_lineOf b_goneTo b_mates b_exits b_reads b_writes b_marks b_logLine b_logMask m (nI (ns_ln b_kinds i - ns_ln b_kinds x)) (nI i) := by
  intro m
  induction m with
  | zero => intro i h; omega
  | succ m ih =>
    intro i hm hi hO hno
    have hlt := hO.2.2 i hO.1 (Nat.le_refl _)
    have hli := ye_ln (kd := b_kinds) i
    have hs : (¬ ns_EL b_kinds x i) → ∀ el, el < i + 1 → ¬ ns_EL b_kinds x el := by
      intro z el hel
      by_cases e : el = i
      · subst e; exact z
      · exact hno el (by omega)
    rw [wY_elseOf_6]
    by_cases c : n ≤ i
    · have : i = n := by omega
      subst this
      exact br_t (nI_le (Nat.le_refl _) (by omega)) (ho hno)
    · refine br_f (nI_ge (by omega) (by omega)) (ye_op (by omega) (fun hop => ?_) (fun hop => ?_))
      · refine br_f bs_10 (nm_r (nI_1 _) (ye_l25 (by omega) (by omega) (by omega) (fun h => absurd h (ns_op_n15 hop)) (fun h => absurd h (ns_op_n15 hop)) (fun _ h => absurd h (ns_op_n14 hop)) (fun _ _ => ?_)))
        have e := ns_ln_op hop
        have := ih (i + 1) (by omega) (by omega) (ye_OA_s hO (by omega)) (hs (fun z => ns_op_n14 hop z.2.1))
        rw [show ns_ln b_kinds (i + 1) - ns_ln b_kinds x = ns_ln b_kinds i - ns_ln b_kinds x + 1 by omega] at this
        exact this
      · refine br_t rfl (ye_l25 (by omega) (by omega) (by omega) (fun h hd => ?_) (fun h hd => ?_) (fun h k hd => ?_) (fun h k => ?_))
        · have e := ns_ln_cl h
          have hE : ns_EN b_kinds x i := ⟨hO.1, hO.2.1, by omega, hO.2.2⟩
          refine ho (fun el hel z => ?_)
          have h1 := ns_OA_EN z.1 hE
          by_cases e2 : el = i
          · subst e2
            exact absurd (h.symm.trans z.2.1) (by decide)
          · exact hno el (by omega) z
        · have e := ns_ln_cl h
          have := ih (i + 1) (by omega) (by omega) (ye_OA_s hO (by omega)) (hs (fun z => absurd (h.symm.trans z.2.1) (by decide)))
          rw [show ns_ln b_kinds (i + 1) - ns_ln b_kinds x = ns_ln b_kinds i - ns_ln b_kinds x - 1 by omega] at this
          exact this
        · exact he i (by omega) ⟨hO, k, by omega⟩
        · have e := ns_ln_o hop h
          have := ih (i + 1) (by omega) (by omega) (ye_OA_s hO (by omega)) (hs (fun z => k ⟨z.2.1, by have := z.2.2; omega⟩))
          rw [e] at this
          exact this
theorem ye_else {post : Int32 → Prop} {n x : Nat} (hn : n ≤ 24) (hx : x < n) (hop : ns_Op b_kinds x) (ho : (∀ el, el < n → ¬ ns_EL b_kinds x el) → post (-1)) (he : ∀ i, i < n → ns_EL b_kinds x i → post (nI i)) : wpY_elseOf post (g_lanes, g_lines, g_trips, g_logSize, nI n, g_sealed, g_clash, b_kinds, b_fd, b_fa, b_fb, b_nzWay, b_zWay, b_post, b_seen, b_regs, b_mem, b_own, b_priv, b_trip, b_visits, b_lineOf, b_goneTo, b_mates, b_exits, b_reads, b_writes, b_marks, b_logLine, b_logMask) (nI x) := by
  unfold wpY_elseOf
  dsimp only
  have e := ns_ln_op hop
  refine nm_r (nI_1 x) ⟨n + 1, ?_⟩
  have := ye_else6 (g_lanes := g_lanes) (g_lines := g_lines) (g_trips := g_trips) (g_logSize := g_logSize) (g_sealed := g_sealed) (g_clash := g_clash) (b_fd := b_fd) (b_fa := b_fa) (b_fb := b_fb) (b_nzWay := b_nzWay) (b_zWay := b_zWay) (b_post := b_post) (b_seen := b_seen) (b_regs := b_regs) (b_mem := b_mem) (b_own := b_own) (b_priv := b_priv) (b_trip := b_trip) (b_visits := b_visits) (b_lineOf := b_lineOf) (b_goneTo := b_goneTo) (b_mates := b_mates) (b_exits := b_exits) (b_reads := b_reads) (b_writes := b_writes) (b_marks := b_marks) (b_logLine := b_logLine) (b_logMask := b_logMask)
    hn ho he (n + 1) (x + 1) (by omega) (by omega) ⟨by omega, hop, fun j a b => by
      have : j = x + 1 := by omega
      subst this; omega⟩ (fun el hel z => by have := z.1.1; omega)
  rw [e, show ns_ln b_kinds x + 1 - ns_ln b_kinds x = 1 by omega] at this
  exact this
/-! loopOf, in a kernel whose blocks are closed -/
theorem ye_loop4 {post : Int32 → Prop} {n x w0 : Nat} (hn : n ≤ 24) (h0 : ns_ln b_kinds n = 0) (hx : x < n) (h15 : ¬ b_kinds x = 15) (hL : ns_LP b_kinds w0 x) (hp : post (nI w0)) :
    ∀ k, w0 < k → k ≤ x → wY_loopOf_4 post (nI x) g_lanes g_lines g_trips g_logSize (nI n) g_sealed g_clash b_kinds b_fd b_fa b_fb b_nzWay b_zWay b_post b_seen b_regs b_mem b_own b_priv b_trip b_visits b_lineOf b_goneTo b_mates b_exits b_reads b_writes b_marks b_logLine b_logMask (k + 1) (nI (k - 1)) := by
  intro k
  induction k with
  | zero => intro h; omega
  | succ k ih =>
    intro h1 h2
    have c : (nI k).toNatClampNeg = k := nI_clamp (by omega)
    rw [show k + 1 - 1 = k from rfl, wY_loopOf_4]
    dsimp only
    rw [c]
    refine br_f (nI_pos (by omega)) ⟨vp_in_nI (by omega) (by decide), br_c (fun hk => ?_) (fun hk => ?_)⟩
    · refine ye_end hn (by omega) (Or.inr hk) (fun hO => ?_) (fun i hi hE => ?_)
      · exfalso
        have := hO.2.2 n hO.1 (Nat.le_refl _)
        omega
      · by_cases e : k = w0
        · subst e
          refine br_f (nI_ge ?_ (by omega)) hp
          have h3 := ns_OA_EN hL.1 hE
          by_cases e2 : x = i
          · subst e2
            exact absurd (ns_EN_15 hE) h15
          · omega
        · refine br_t (nI_le ?_ (by omega)) (nm_r (bs_m (by omega)) (ih (by omega) (by omega)))
          apply Classical.byContradiction
          intro z
          have := hL.2.2 k (ns_in hE (by omega) (by omega)) hk
          omega
    · have e : k ≠ w0 := fun z => hk (by rw [z]; exact hL.2.1)
      exact nm_r (bs_m (by omega)) (ih (by omega) (by omega))
theorem ye_loop {post : Int32 → Prop} {n x w0 : Nat} (hn : n ≤ 24) (h0 : ns_ln b_kinds n = 0) (hx : x < n) (h15 : ¬ b_kinds x = 15) (hL : ns_LP b_kinds w0 x) (hp : post (nI w0)) : wpY_loopOf post (g_lanes, g_lines, g_trips, g_logSize, nI n, g_sealed, g_clash, b_kinds, b_fd, b_fa, b_fb, b_nzWay, b_zWay, b_post, b_seen, b_regs, b_mem, b_own, b_priv, b_trip, b_visits, b_lineOf, b_goneTo, b_mates, b_exits, b_reads, b_writes, b_marks, b_logLine, b_logMask) (nI x) := by
  unfold wpY_loopOf
  dsimp only
  have h1 := hL.1.1
  exact nm_r (bs_s (by omega)) ⟨x + 1, ye_loop4 hn h0 hx h15 hL hp x h1 (Nat.le_refl _)⟩
end
end
section
/-! the relation -/
def rl_wc (kd bl : Nat → Int32) : Nat → Nat
  | 0 => 0
  | c + 1 => rl_wc kd bl c + (if kd (bl c).toNatClampNeg = 16 then 1 else 0)
/-- a kernel that is being fed: the stack of open blocks -/
def rl_U (n : Nat) (kd : Nat → Int32) (ot ol : Int32) (bl bh : Nat → Int32) : Prop :=
  ot = nI (ns_ln kd n) ∧ ol = nI (rl_wc kd bl (ns_ln kd n)) ∧
  ∀ l, l < ns_ln kd n → ∃ x, bl l = nI x ∧ ns_OA kd x n ∧ ns_ln kd x = l ∧ (bh l = 0 ∨ bh l = 1) ∧ (bh l = 1 ↔ ∃ el, el < n ∧ ns_EL kd x el)
def rl_F (n : Nat) (kd fd fa fb : Nat → Int32) : Prop := ∀ x, x < n → (∃ j, j < 8 ∧ fd x = nI j) ∧ (∃ j, j < 8 ∧ fa x = nI j) ∧ (3 ≤ kd x → kd x ≤ 8 → ∃ j, j < 8 ∧ fb x = nI j)
def rl_J (n : Nat) (nzW zW : Nat → Int32) (x r : Nat) : Prop := r ≤ n ∧ r ≠ x ∧ pd_PD (wy_E n nzW zW) n r x ∧ ∀ s, s ≠ x → pd_PD (wy_E n nzW zW) n s x → pd_PD (wy_E n nzW zW) n s r
/-- a sealed kernel -/
def rl_S (n : Nat) (kd nzX zX nzY zY pdX po rjX op : Nat → Int32) : Prop :=
  0 < n ∧ ns_ln kd n = 0 ∧ (∀ x, x < n → nzX x = nzY x ∧ zX x = zY x ∧ wy_W kd n x (nzY x) (zY x)) ∧
  (∀ p q, p ≤ n → q ≤ n → (bt (pdX q) p = true ↔ pd_PD (wy_E n nzY zY) n p q) ∧ (po (p * 25 + q) = 0 ∨ po (p * 25 + q) = 1) ∧ (po (p * 25 + q) = 1 ↔ pd_PD (wy_E n nzY zY) n p q)) ∧
  (∀ x, x < n → ∃ r, rjX x = nI r ∧ rl_J n nzY zY x r) ∧
  (∀ x, x < n → kd x = 17 → ∃ w, op x = nI w ∧ ns_LP kd w x)
/-- the reports -/
def rl_P (G : Nat) (slX exY rdX rdY wrX wrY mkX mkY llX llY lmX lmY : Nat → Int32) : Prop :=
  ∀ f, f < 8 → slX f = exY f ∧ rdX f = rdY f ∧ wrX f = wrY f ∧ mkX f = mkY f ∧ ∀ k, k < G → ¬ mkX f ≤ nI k → llX (f * 16 + k) = llY (f * 16 + k) ∧ lmX (f * 16 + k) = lmY (f * 16 + k)
def rl_M (rgX rgY ceX meY : Nat → Int32) : Prop := (∀ j, j < 64 → rgX j = rgY j) ∧ ∀ j, j < 32 → ceX j = meY j
def rl_B (L LL T G n : Nat) : Prop := 1 ≤ L ∧ L ≤ 8 ∧ 8 ≤ LL ∧ LL ≤ 24 ∧ 1 ≤ T ∧ T ≤ 4 ∧ 4 ≤ G ∧ G ≤ 16 ∧ n ≤ LL
def rl_R (L LL T G n : Nat) (se ot ol : Int32) (kd fd fa fb bl bh op nzX zX pdX rjX rgX ceX slX rdX wrX mkX llX lmX nzY zY po rgY meY exY rdY wrY mkY llY lmY : Nat → Int32) : Prop :=
  rl_B L LL T G n ∧ ns_WF kd n ∧ rl_F n kd fd fa fb ∧ ((se = 0 ∧ rl_U n kd ot ol bl bh) ∨ (se = 1 ∧ ot = 0 ∧ rl_S n kd nzX zX nzY zY pdX po rjX op)) ∧
  rl_M rgX rgY ceX meY ∧ rl_P G slX exY rdX rdY wrX wrY mkX mkY llX llY lmX lmY
def i_Rel (k : Nat) (u : SX) (v : SY) : Prop := match u, v with
  | (f_laneTotal, f_lineLimit, f_tripLimit, f_logLimit, f_count, f_isSealed, f_openTotal, f_openLoops, f_alive, f_depth, f_clash, a_kinds, a_fieldD, a_fieldA, a_fieldB, a_blockLine, a_blockHasElse, a_opener, a_elseOf, a_endOf, a_wayNonzero, a_wayZero, a_postDom, a_rejoinOf, a_regs, a_cells, a_work, a_stored, a_tripCount, a_stackPlace, a_stackMask, a_stackRejoin, a_stopLine, a_reads, a_writes, a_marks, a_logLine, a_logMask), (g_lanes, g_lines, g_trips, g_logSize, g_n, g_sealed, g_clash, b_kinds, b_fd, b_fa, b_fb, b_nzWay, b_zWay, b_post, b_seen, b_regs, b_mem, b_own, b_priv, b_trip, b_visits, b_lineOf, b_goneTo, b_mates, b_exits, b_reads, b_writes, b_marks, b_logLine, b_logMask) => ∃ L LL T G n : Nat, f_laneTotal = nI L ∧ g_lanes = nI L ∧ f_lineLimit = nI LL ∧ g_lines = nI LL ∧ f_tripLimit = nI T ∧ g_trips = nI T ∧ f_logLimit = nI G ∧ g_logSize = nI G ∧ f_count = nI n ∧ g_n = nI n ∧
    g_sealed = f_isSealed ∧ g_clash = f_clash ∧ b_kinds = a_kinds ∧ b_fd = a_fieldD ∧ b_fa = a_fieldA ∧ b_fb = a_fieldB ∧
    rl_R L LL T G n f_isSealed f_openTotal f_openLoops a_kinds a_fieldD a_fieldA a_fieldB a_blockLine a_blockHasElse a_opener a_wayNonzero a_wayZero a_postDom a_rejoinOf a_regs a_cells a_stopLine a_reads a_writes a_marks a_logLine a_logMask b_nzWay b_zWay b_post b_regs b_mem b_exits b_reads b_writes b_marks b_logLine b_logMask
theorem i_up {k : Nat} {u : SX} {v : SY} (h : i_Rel k u v) : i_Rel (k + 5) u v := h
theorem rl_el {k : Nat} {P : SX → SY → Prop}
    (h : ∀ (L LL T G n : Nat) (f_isSealed f_openTotal f_openLoops f_alive f_depth f_clash : Int32) (a_kinds a_fieldD a_fieldA a_fieldB a_blockLine a_blockHasElse a_opener a_elseOf a_endOf a_wayNonzero a_wayZero a_postDom a_rejoinOf a_regs a_cells a_work a_stored a_tripCount a_stackPlace a_stackMask a_stackRejoin a_stopLine a_reads a_writes a_marks a_logLine a_logMask b_nzWay b_zWay b_post b_seen b_regs b_mem b_own b_priv b_trip b_visits b_lineOf b_goneTo b_mates b_exits b_reads b_writes b_marks b_logLine b_logMask : Nat → Int32),
      rl_R L LL T G n f_isSealed f_openTotal f_openLoops a_kinds a_fieldD a_fieldA a_fieldB a_blockLine a_blockHasElse a_opener a_wayNonzero a_wayZero a_postDom a_rejoinOf a_regs a_cells a_stopLine a_reads a_writes a_marks a_logLine a_logMask b_nzWay b_zWay b_post b_regs b_mem b_exits b_reads b_writes b_marks b_logLine b_logMask →
      P (nI L, nI LL, nI T, nI G, nI n, f_isSealed, f_openTotal, f_openLoops, f_alive, f_depth, f_clash, a_kinds, a_fieldD, a_fieldA, a_fieldB, a_blockLine, a_blockHasElse, a_opener, a_elseOf, a_endOf, a_wayNonzero, a_wayZero, a_postDom, a_rejoinOf, a_regs, a_cells, a_work, a_stored, a_tripCount, a_stackPlace, a_stackMask, a_stackRejoin, a_stopLine, a_reads, a_writes, a_marks, a_logLine, a_logMask) (nI L, nI LL, nI T, nI G, nI n, f_isSealed, f_clash, a_kinds, a_fieldD, a_fieldA, a_fieldB, b_nzWay, b_zWay, b_post, b_seen, b_regs, b_mem, b_own, b_priv, b_trip, b_visits, b_lineOf, b_goneTo, b_mates, b_exits, b_reads, b_writes, b_marks, b_logLine, b_logMask)) :
    ∀ (u : SX) (v : SY), i_Rel k u v → P u v
  | (f_laneTotal, f_lineLimit, f_tripLimit, f_logLimit, f_count, f_isSealed, f_openTotal, f_openLoops, f_alive, f_depth, f_clash, a_kinds, a_fieldD, a_fieldA, a_fieldB, a_blockLine, a_blockHasElse, a_opener, a_elseOf, a_endOf, a_wayNonzero, a_wayZero, a_postDom, a_rejoinOf, a_regs, a_cells, a_work, a_stored, a_tripCount, a_stackPlace, a_stackMask, a_stackRejoin, a_stopLine, a_reads, a_writes, a_marks, a_logLine, a_logMask), (g_lanes, g_lines, g_trips, g_logSize, g_n, g_sealed, g_clash, b_kinds, b_fd, b_fa, b_fb, b_nzWay, b_zWay, b_post, b_seen, b_regs, b_mem, b_own, b_priv, b_trip, b_visits, b_lineOf, b_goneTo, b_mates, b_exits, b_reads, b_writes, b_marks, b_logLine, b_logMask), ⟨L, LL, T, G, n, e1, e2, e3, e4, e5, e6, e7, e8, e9, e10, e11, e12, e13, e14, e15, e16, hR⟩ => by
    subst e1 e2 e3 e4 e5 e6 e7 e8 e9 e10 e11 e12 e13 e14 e15 e16
    exact h _ _ _ _ _ _ _ _ _ _ _ _ _ _ _ _ _ _ _ _ _ _ _ _ _ _ _ _ _ _ _ _ _ _ _ _ _ _ _ _ _ _ _ _ _ _ _ _ _ _ _ _ _ _ _ _ _ hR
end
section
/-! the methods that only read, and the small writers -/
section
variable {f_laneTotal f_lineLimit f_tripLimit f_logLimit f_count f_isSealed f_openTotal f_openLoops f_alive f_depth f_clash : Int32} {a_kinds a_fieldD a_fieldA a_fieldB a_blockLine a_blockHasElse a_opener a_elseOf a_endOf a_wayNonzero a_wayZero a_postDom a_rejoinOf a_regs a_cells a_work a_stored a_tripCount a_stackPlace a_stackMask a_stackRejoin a_stopLine a_reads a_writes a_marks a_logLine a_logMask : Nat → Int32}
theorem sm_line {post : Int32 → Prop} {n : Nat} (hn : n ≤ 24) (x : Int32) (h0 : (x < 0 ∨ nI n ≤ x) → post 0) (h1 : ∀ j, j < n → x = nI j → post 1) : wpX_isLine post (f_laneTotal, f_lineLimit, f_tripLimit, f_logLimit, nI n, f_isSealed, f_openTotal, f_openLoops, f_alive, f_depth, f_clash, a_kinds, a_fieldD, a_fieldA, a_fieldB, a_blockLine, a_blockHasElse, a_opener, a_elseOf, a_endOf, a_wayNonzero, a_wayZero, a_postDom, a_rejoinOf, a_regs, a_cells, a_work, a_stored, a_tripCount, a_stackPlace, a_stackMask, a_stackRejoin, a_stopLine, a_reads, a_writes, a_marks, a_logLine, a_logMask) x := by
  unfold wpX_isLine
  dsimp only
  rcases pk_ix x (n := n) (by omega) with c | c | ⟨j, hj, rfl⟩
  · exact br_t c (h0 (Or.inl c))
  · refine br_c (fun z => h0 (Or.inl z)) (fun z => br_t c (h0 (Or.inr c)))
  · exact br_f (nI_pos (by omega)) (br_f (nI_ge hj (by omega)) (h1 j hj rfl))
theorem sm_lane {post : Int32 → Prop} {L : Nat} (hn : L ≤ 8) (x : Int32) (h0 : (x < 0 ∨ nI L ≤ x) → post 0) (h1 : ∀ j, j < L → x = nI j → post 1) : wpX_isLane post (nI L, f_lineLimit, f_tripLimit, f_logLimit, f_count, f_isSealed, f_openTotal, f_openLoops, f_alive, f_depth, f_clash, a_kinds, a_fieldD, a_fieldA, a_fieldB, a_blockLine, a_blockHasElse, a_opener, a_elseOf, a_endOf, a_wayNonzero, a_wayZero, a_postDom, a_rejoinOf, a_regs, a_cells, a_work, a_stored, a_tripCount, a_stackPlace, a_stackMask, a_stackRejoin, a_stopLine, a_reads, a_writes, a_marks, a_logLine, a_logMask) x := by
  unfold wpX_isLane
  dsimp only
  rcases pk_ix x (n := L) (by omega) with c | c | ⟨j, hj, rfl⟩
  · exact br_t c (h0 (Or.inl c))
  · refine br_c (fun z => h0 (Or.inl z)) (fun z => br_t c (h0 (Or.inr c)))
  · exact br_f (nI_pos (by omega)) (br_f (nI_ge hj (by omega)) (h1 j hj rfl))
end
section
variable {g_lanes g_lines g_trips g_logSize g_n g_sealed g_clash : Int32} {b_kinds b_fd b_fa b_fb b_nzWay b_zWay b_post b_seen b_regs b_mem b_own b_priv b_trip b_visits b_lineOf b_goneTo b_mates b_exits b_reads b_writes b_marks b_logLine b_logMask : Nat → Int32}
theorem sm_laneY {post : Int32 → Prop} {L : Nat} (hn : L ≤ 8) (x : Int32) (h0 : (x < 0 ∨ nI L ≤ x) → post 0) (h1 : ∀ j, j < L → x = nI j → post 1) : wpY_isLane post (nI L, g_lines, g_trips, g_logSize, g_n, g_sealed, g_clash, b_kinds, b_fd, b_fa, b_fb, b_nzWay, b_zWay, b_post, b_seen, b_regs, b_mem, b_own, b_priv, b_trip, b_visits, b_lineOf, b_goneTo, b_mates, b_exits, b_reads, b_writes, b_marks, b_logLine, b_logMask) x := by
  unfold wpY_isLane
  dsimp only
  rcases pk_ix x (n := L) (by omega) with c | c | ⟨j, hj, rfl⟩
  · exact br_t c (h0 (Or.inl c))
  · refine br_c (fun z => h0 (Or.inl z)) (fun z => br_t c (h0 (Or.inr c)))
  · exact br_f (nI_pos (by omega)) (br_f (nI_ge hj (by omega)) (h1 j hj rfl))
end
theorem sm_out {x : Int32} {n j : Nat} (hn : n < 2 ^ 31) (h : x < 0 ∨ nI n ≤ x) (hj : j < n) (e : x = nI j) : False := by
  rcases h with h | h
  · rw [e] at h; exact nI_pos (by omega) h
  · rw [e] at h; exact nI_ge hj hn h
theorem i_vc_lineCount {k : Nat} {u : SX} {v : SY} (I : i_Rel k u v) (hk : k + 5 ≤ 2564) : wpX_lineCount (fun r => wpY_lineCount (fun r' => r' = r ∧ i_Rel (k + 5) u v) v) u := by
  refine rl_el (k := k) (P := fun u v => ∀ R : Prop, R → wpX_lineCount (fun r => wpY_lineCount (fun r' => r' = r ∧ R) v) u) ?_ u v I _ (i_up I)
  intro L LL T G n f_isSealed f_openTotal f_openLoops f_alive f_depth f_clash a_kinds a_fieldD a_fieldA a_fieldB a_blockLine a_blockHasElse a_opener a_elseOf a_endOf a_wayNonzero a_wayZero a_postDom a_rejoinOf a_regs a_cells a_work a_stored a_tripCount a_stackPlace a_stackMask a_stackRejoin a_stopLine a_reads a_writes a_marks a_logLine a_logMask b_nzWay b_zWay b_post b_seen b_regs b_mem b_own b_priv b_trip b_visits b_lineOf b_goneTo b_mates b_exits b_reads b_writes b_marks b_logLine b_logMask hR R hr
  unfold wpX_lineCount wpY_lineCount
  exact ⟨rfl, hr⟩
theorem i_vc_clashCell {k : Nat} {u : SX} {v : SY} (I : i_Rel k u v) (hk : k + 5 ≤ 2564) : wpX_clashCell (fun r => wpY_clashCell (fun r' => r' = r ∧ i_Rel (k + 5) u v) v) u := by
  refine rl_el (k := k) (P := fun u v => ∀ R : Prop, R → wpX_clashCell (fun r => wpY_clashCell (fun r' => r' = r ∧ R) v) u) ?_ u v I _ (i_up I)
  intro L LL T G n f_isSealed f_openTotal f_openLoops f_alive f_depth f_clash a_kinds a_fieldD a_fieldA a_fieldB a_blockLine a_blockHasElse a_opener a_elseOf a_endOf a_wayNonzero a_wayZero a_postDom a_rejoinOf a_regs a_cells a_work a_stored a_tripCount a_stackPlace a_stackMask a_stackRejoin a_stopLine a_reads a_writes a_marks a_logLine a_logMask b_nzWay b_zWay b_post b_seen b_regs b_mem b_own b_priv b_trip b_visits b_lineOf b_goneTo b_mates b_exits b_reads b_writes b_marks b_logLine b_logMask hR R hr
  unfold wpX_clashCell wpY_clashCell
  exact ⟨rfl, hr⟩
theorem i_vc_lineKind {k : Nat} {u : SX} {v : SY} (I : i_Rel k u v) (hk : k + 5 ≤ 2564) (v1 : Int32) : wpX_lineKind (fun r => wpY_lineKind (fun r' => r' = r ∧ i_Rel (k + 5) u v) v v1) u v1 := by
  refine rl_el (k := k) (P := fun u v => ∀ R : Prop, R → wpX_lineKind (fun r => wpY_lineKind (fun r' => r' = r ∧ R) v v1) u v1) ?_ u v I _ (i_up I)
  intro L LL T G n f_isSealed f_openTotal f_openLoops f_alive f_depth f_clash a_kinds a_fieldD a_fieldA a_fieldB a_blockLine a_blockHasElse a_opener a_elseOf a_endOf a_wayNonzero a_wayZero a_postDom a_rejoinOf a_regs a_cells a_work a_stored a_tripCount a_stackPlace a_stackMask a_stackRejoin a_stopLine a_reads a_writes a_marks a_logLine a_logMask b_nzWay b_zWay b_post b_seen b_regs b_mem b_own b_priv b_trip b_visits b_lineOf b_goneTo b_mates b_exits b_reads b_writes b_marks b_logLine b_logMask hR R hr
  have hn : n ≤ 24 := by have := hR.1; unfold rl_B at this; omega
  unfold wpX_lineKind
  refine sm_line hn v1 (fun h => br_t rfl ?_) (fun j hj e => br_f bs_10 ?_)
  · unfold wpY_lineKind
    rcases h with h | h
    · exact br_t h ⟨rfl, hr⟩
    · exact br_c (fun _ => ⟨rfl, hr⟩) (fun _ => br_f (fun z => absurd z (Int32.not_lt.mpr h)) ⟨rfl, hr⟩)
  · subst e
    refine ⟨vp_in_nI (by omega) (by decide), ?_⟩
    unfold wpY_lineKind
    exact br_f (nI_pos (by omega)) (br_t (nI_lt hj (by omega)) ⟨vp_in_nI (by omega) (by decide), rfl, hr⟩)
theorem i_vc_lineField {k : Nat} {u : SX} {v : SY} (I : i_Rel k u v) (hk : k + 5 ≤ 2564) (v1 : Int32) (v2 : Int32) : wpX_lineField (fun r => wpY_lineField (fun r' => r' = r ∧ i_Rel (k + 5) u v) v v1 v2) u v1 v2 := by
  refine rl_el (k := k) (P := fun u v => ∀ R : Prop, R → wpX_lineField (fun r => wpY_lineField (fun r' => r' = r ∧ R) v v1 v2) u v1 v2) ?_ u v I _ (i_up I)
  intro L LL T G n f_isSealed f_openTotal f_openLoops f_alive f_depth f_clash a_kinds a_fieldD a_fieldA a_fieldB a_blockLine a_blockHasElse a_opener a_elseOf a_endOf a_wayNonzero a_wayZero a_postDom a_rejoinOf a_regs a_cells a_work a_stored a_tripCount a_stackPlace a_stackMask a_stackRejoin a_stopLine a_reads a_writes a_marks a_logLine a_logMask b_nzWay b_zWay b_post b_seen b_regs b_mem b_own b_priv b_trip b_visits b_lineOf b_goneTo b_mates b_exits b_reads b_writes b_marks b_logLine b_logMask hR R hr
  have hn : n ≤ 24 := by have := hR.1; unfold rl_B at this; omega
  unfold wpX_lineField
  refine sm_line hn v1 (fun h => br_t rfl ?_) (fun j hj e => br_f bs_10 ?_)
  · unfold wpY_lineField
    rcases h with h | h
    · exact br_t h ⟨rfl, hr⟩
    · exact br_c (fun _ => ⟨rfl, hr⟩) (fun _ => br_f (fun z => absurd z (Int32.not_lt.mpr h)) ⟨rfl, hr⟩)
  · subst e
    have v : vp_in (nI j) 24 := vp_in_nI (by omega) (by decide)
    refine br_c (fun a => ⟨v, ?_⟩) (fun a => br_c (fun b => ⟨v, ?_⟩) (fun b => br_c (fun c => ⟨v, ?_⟩) (fun c => ?_)))
    · unfold wpY_lineField
      exact br_f (nI_pos (by omega)) (br_t (nI_lt hj (by omega)) (br_t a ⟨v, rfl, hr⟩))
    · unfold wpY_lineField
      exact br_f (nI_pos (by omega)) (br_t (nI_lt hj (by omega)) (br_f a (br_t b ⟨v, rfl, hr⟩)))
    · unfold wpY_lineField
      exact br_f (nI_pos (by omega)) (br_t (nI_lt hj (by omega)) (br_f a (br_f b (br_t c ⟨v, rfl, hr⟩))))
    · unfold wpY_lineField
      exact br_f (nI_pos (by omega)) (br_t (nI_lt hj (by omega)) (br_f a (br_f b (br_f c ⟨rfl, hr⟩))))
theorem i_vc_goesTo {k : Nat} {u : SX} {v : SY} (I : i_Rel k u v) (hk : k + 5 ≤ 2564) (v1 : Int32) (v2 : Int32) : wpX_goesTo (fun r => wpY_goesTo (fun r' => r' = r ∧ i_Rel (k + 5) u v) v v1 (lw_bz v2)) u v1 (lw_bz v2) := by
  refine rl_el (k := k) (P := fun u v => ∀ R : Prop, R → wpX_goesTo (fun r => wpY_goesTo (fun r' => r' = r ∧ R) v v1 (lw_bz v2)) u v1 (lw_bz v2)) ?_ u v I _ (i_up I)
  intro L LL T G n f_isSealed f_openTotal f_openLoops f_alive f_depth f_clash a_kinds a_fieldD a_fieldA a_fieldB a_blockLine a_blockHasElse a_opener a_elseOf a_endOf a_wayNonzero a_wayZero a_postDom a_rejoinOf a_regs a_cells a_work a_stored a_tripCount a_stackPlace a_stackMask a_stackRejoin a_stopLine a_reads a_writes a_marks a_logLine a_logMask b_nzWay b_zWay b_post b_seen b_regs b_mem b_own b_priv b_trip b_visits b_lineOf b_goneTo b_mates b_exits b_reads b_writes b_marks b_logLine b_logMask hR R hr
  have hn : n ≤ 24 := by have := hR.1; unfold rl_B at this; omega
  unfold wpX_goesTo
  rcases hR.2.2.2.1 with ⟨s0, _⟩ | ⟨s1, _, hS⟩
  · subst s0
    refine br_t rfl ?_
    unfold wpY_goesTo
    exact br_t rfl ⟨rfl, hr⟩
  · subst s1
    refine br_f bs_10 ?_
    refine sm_line hn v1 (fun h => br_t rfl ?_) (fun j hj e => br_f bs_10 ?_)
    · unfold wpY_goesTo
      refine br_f bs_10 ?_
      rcases h with h | h
      · exact br_t h ⟨rfl, hr⟩
      · exact br_c (fun _ => ⟨rfl, hr⟩) (fun _ => br_f (fun z => absurd z (Int32.not_lt.mpr h)) ⟨rfl, hr⟩)
    · subst e
      have v : vp_in (nI j) 24 := vp_in_nI (by omega) (by decide)
      have c : (nI j).toNatClampNeg = j := nI_clamp (by omega)
      obtain ⟨q1, q2, _⟩ := hS.2.2.1 j hj
      refine br_c (fun a => ⟨v, ?_⟩) (fun a => ⟨v, ?_⟩)
      · unfold wpY_goesTo
        refine br_f bs_10 (br_f (nI_pos (by omega)) (br_t (nI_lt hj (by omega)) (br_t a ⟨v, ?_, hr⟩)))
        rw [c]; exact q2.symm
      · unfold wpY_goesTo
        refine br_f bs_10 (br_f (nI_pos (by omega)) (br_t (nI_lt hj (by omega)) (br_f a ⟨v, ?_, hr⟩)))
        rw [c]; exact q1.symm
theorem i_vc_postDominates {k : Nat} {u : SX} {v : SY} (I : i_Rel k u v) (hk : k + 5 ≤ 2564) (v1 : Int32) (v2 : Int32) : wpX_postDominates (fun r => wpY_postDominates (fun r' => r' = r ∧ i_Rel (k + 5) u v) v v1 v2) u v1 v2 := by
  refine rl_el (k := k) (P := fun u v => ∀ R : Prop, R → wpX_postDominates (fun r => wpY_postDominates (fun r' => r' = r ∧ R) v v1 v2) u v1 v2) ?_ u v I _ (i_up I)
  intro L LL T G n f_isSealed f_openTotal f_openLoops f_alive f_depth f_clash a_kinds a_fieldD a_fieldA a_fieldB a_blockLine a_blockHasElse a_opener a_elseOf a_endOf a_wayNonzero a_wayZero a_postDom a_rejoinOf a_regs a_cells a_work a_stored a_tripCount a_stackPlace a_stackMask a_stackRejoin a_stopLine a_reads a_writes a_marks a_logLine a_logMask b_nzWay b_zWay b_post b_seen b_regs b_mem b_own b_priv b_trip b_visits b_lineOf b_goneTo b_mates b_exits b_reads b_writes b_marks b_logLine b_logMask hR R hr
  have hn : n ≤ 24 := by have := hR.1; unfold rl_B at this; omega
  unfold wpX_postDominates
  rcases hR.2.2.2.1 with ⟨s0, _⟩ | ⟨s1, _, hS⟩
  · subst s0
    refine br_t rfl ?_
    unfold wpY_postDominates
    exact br_t rfl ⟨rfl, hr⟩
  · subst s1
    refine br_f bs_10 ?_
    rcases pk_ix v1 (n := n + 1) (by omega) with c | c | ⟨p, hp, rfl⟩
    · refine br_t c ?_
      unfold wpY_postDominates
      exact br_f bs_10 (br_t c ⟨rfl, hr⟩)
    · have c1 : ¬ v1 < 0 := fun z => by
        have h1 : nI (n + 1) < 0 := Int32.lt_of_le_of_lt c z
        exact nI_pos (by omega) h1
      have c2 : nI n < v1 := Int32.lt_of_lt_of_le (nI_lt (by omega) (by omega)) c
      refine br_f c1 (br_t c2 ?_)
      unfold wpY_postDominates
      exact br_f bs_10 (br_f c1 (br_t c2 ⟨rfl, hr⟩))
    · have c1 : ¬ nI p < 0 := nI_pos (by omega)
      have c2 : ¬ nI n < nI p := nI_nlt (by omega) (by omega)
      refine br_f c1 (br_f c2 ?_)
      rcases pk_ix v2 (n := n + 1) (by omega) with d | d | ⟨q, hq, rfl⟩
      · refine br_t d ?_
        unfold wpY_postDominates
        exact br_f bs_10 (br_f c1 (br_f c2 (br_t d ⟨rfl, hr⟩)))
      · have d1 : ¬ v2 < 0 := fun z => by
          have h1 : nI (n + 1) < 0 := Int32.lt_of_le_of_lt d z
          exact nI_pos (by omega) h1
        have d2 : ¬ v2 ≤ nI n := fun z => by
          have h1 : nI (n + 1) ≤ nI n := Int32.le_trans d z
          exact nI_ge (by omega) (by omega) h1
        refine br_f d1 (br_f d2 ?_)
        unfold wpY_postDominates
        exact br_f bs_10 (br_f c1 (br_f c2 (br_f d1 (br_f d2 ⟨rfl, hr⟩))))
      · have d1 : ¬ nI q < 0 := nI_pos (by omega)
        have d2 : nI q ≤ nI n := nI_le (by omega) (by omega)
        have cq : (nI q).toNatClampNeg = q := nI_clamp (by omega)
        have ei : nI p * 25 + nI q = nI (p * 25 + q) := bs_mad p 25 q
        have vi : vp_in (nI p * 25 + nI q) 625 := by rw [ei]; exact vp_in_nI (by omega) (by decide)
        have ci : (nI p * 25 + nI q).toNatClampNeg = p * 25 + q := by rw [ei]; exact nI_clamp (by omega)
        obtain ⟨q1, q2, q3⟩ := hS.2.2.2.1 p q (by omega) (by omega)
        refine br_f d1 (br_t d2 ⟨vp_in_nI (by omega) (by decide), ?_⟩)
        rw [cq]
        refine br_c (fun z => ?_) (fun z => ?_)
        · have z' := (bs_bit _ p (by omega)).mp z
          have z2 : ¬ b_post (p * 25 + q) = 1 := fun w => by
            rw [q1.mpr (q3.mp w)] at z'
            cases z'
          have z3 : b_post (p * 25 + q) = 0 := by
            rcases q2 with w | w
            · exact w
            · exact absurd w z2
          unfold wpY_postDominates
          refine br_f bs_10 (br_f c1 (br_f c2 (br_f d1 (br_t d2 ⟨vi, ?_⟩))))
          rw [ci, z3]
          exact ⟨bs_nb0, rfl, hr⟩
        · have z' := (bs_bitN _ p (by omega)).mp z
          have z3 : b_post (p * 25 + q) = 1 := q3.mpr (q1.mp z')
          unfold wpY_postDominates
          refine br_f bs_10 (br_f c1 (br_f c2 (br_f d1 (br_t d2 ⟨vi, ?_⟩))))
          rw [ci, z3]
          exact ⟨bs_nb1, rfl, hr⟩
theorem i_vc_exitLine {k : Nat} {u : SX} {v : SY} (I : i_Rel k u v) (hk : k + 5 ≤ 2564) (v1 : Int32) : wpX_exitLine (fun r => wpY_exitLine (fun r' => r' = r ∧ i_Rel (k + 5) u v) v v1) u v1 := by
  refine rl_el (k := k) (P := fun u v => ∀ R : Prop, R → wpX_exitLine (fun r => wpY_exitLine (fun r' => r' = r ∧ R) v v1) u v1) ?_ u v I _ (i_up I)
  intro L LL T G n f_isSealed f_openTotal f_openLoops f_alive f_depth f_clash a_kinds a_fieldD a_fieldA a_fieldB a_blockLine a_blockHasElse a_opener a_elseOf a_endOf a_wayNonzero a_wayZero a_postDom a_rejoinOf a_regs a_cells a_work a_stored a_tripCount a_stackPlace a_stackMask a_stackRejoin a_stopLine a_reads a_writes a_marks a_logLine a_logMask b_nzWay b_zWay b_post b_seen b_regs b_mem b_own b_priv b_trip b_visits b_lineOf b_goneTo b_mates b_exits b_reads b_writes b_marks b_logLine b_logMask hR R hr
  have hB := hR.1
  unfold rl_B at hB
  have hP := hR.2.2.2.2.2
  unfold wpX_exitLine
  refine sm_lane (by omega) v1 (fun h => br_t rfl ?_) (fun j hj e => br_f bs_10 ?_)
  · unfold wpY_exitLine
    exact sm_laneY (by omega) v1 (fun _ => br_t rfl ⟨rfl, hr⟩) (fun j hj e => (sm_out (by omega) h hj e).elim)
  · subst e
    have v : vp_in (nI j) 8 := vp_in_nI (by omega) (by decide)
    have c : (nI j).toNatClampNeg = j := nI_clamp (by omega)
    refine ⟨v, ?_⟩
    unfold wpY_exitLine
    refine sm_laneY (by omega) (nI j) (fun h => (sm_out (by omega) h hj rfl).elim) (fun j' hj' e' => br_f bs_10 ⟨v, ?_, hr⟩)
    rw [c]
    exact (hP j (by omega)).1.symm
theorem i_vc_readSet {k : Nat} {u : SX} {v : SY} (I : i_Rel k u v) (hk : k + 5 ≤ 2564) (v1 : Int32) : wpX_readSet (fun r => wpY_readSet (fun r' => r' = r ∧ i_Rel (k + 5) u v) v v1) u v1 := by
  refine rl_el (k := k) (P := fun u v => ∀ R : Prop, R → wpX_readSet (fun r => wpY_readSet (fun r' => r' = r ∧ R) v v1) u v1) ?_ u v I _ (i_up I)
  intro L LL T G n f_isSealed f_openTotal f_openLoops f_alive f_depth f_clash a_kinds a_fieldD a_fieldA a_fieldB a_blockLine a_blockHasElse a_opener a_elseOf a_endOf a_wayNonzero a_wayZero a_postDom a_rejoinOf a_regs a_cells a_work a_stored a_tripCount a_stackPlace a_stackMask a_stackRejoin a_stopLine a_reads a_writes a_marks a_logLine a_logMask b_nzWay b_zWay b_post b_seen b_regs b_mem b_own b_priv b_trip b_visits b_lineOf b_goneTo b_mates b_exits b_reads b_writes b_marks b_logLine b_logMask hR R hr
  have hB := hR.1
  unfold rl_B at hB
  have hP := hR.2.2.2.2.2
  unfold wpX_readSet
  refine sm_lane (by omega) v1 (fun h => br_t rfl ?_) (fun j hj e => br_f bs_10 ?_)
  · unfold wpY_readSet
    exact sm_laneY (by omega) v1 (fun _ => br_t rfl ⟨rfl, hr⟩) (fun j hj e => (sm_out (by omega) h hj e).elim)
  · subst e
    have v : vp_in (nI j) 8 := vp_in_nI (by omega) (by decide)
    have c : (nI j).toNatClampNeg = j := nI_clamp (by omega)
    refine ⟨v, ?_⟩
    unfold wpY_readSet
    refine sm_laneY (by omega) (nI j) (fun h => (sm_out (by omega) h hj rfl).elim) (fun j' hj' e' => br_f bs_10 ⟨v, ?_, hr⟩)
    rw [c]
    exact (hP j (by omega)).2.1.symm
theorem i_vc_writeSet {k : Nat} {u : SX} {v : SY} (I : i_Rel k u v) (hk : k + 5 ≤ 2564) (v1 : Int32) : wpX_writeSet (fun r => wpY_writeSet (fun r' => r' = r ∧ i_Rel (k + 5) u v) v v1) u v1 := by
  refine rl_el (k := k) (P := fun u v => ∀ R : Prop, R → wpX_writeSet (fun r => wpY_writeSet (fun r' => r' = r ∧ R) v v1) u v1) ?_ u v I _ (i_up I)
  intro L LL T G n f_isSealed f_openTotal f_openLoops f_alive f_depth f_clash a_kinds a_fieldD a_fieldA a_fieldB a_blockLine a_blockHasElse a_opener a_elseOf a_endOf a_wayNonzero a_wayZero a_postDom a_rejoinOf a_regs a_cells a_work a_stored a_tripCount a_stackPlace a_stackMask a_stackRejoin a_stopLine a_reads a_writes a_marks a_logLine a_logMask b_nzWay b_zWay b_post b_seen b_regs b_mem b_own b_priv b_trip b_visits b_lineOf b_goneTo b_mates b_exits b_reads b_writes b_marks b_logLine b_logMask hR R hr
  have hB := hR.1
  unfold rl_B at hB
  have hP := hR.2.2.2.2.2
  unfold wpX_writeSet
  refine sm_lane (by omega) v1 (fun h => br_t rfl ?_) (fun j hj e => br_f bs_10 ?_)
  · unfold wpY_writeSet
    exact sm_laneY (by omega) v1 (fun _ => br_t rfl ⟨rfl, hr⟩) (fun j hj e => (sm_out (by omega) h hj e).elim)
  · subst e
    have v : vp_in (nI j) 8 := vp_in_nI (by omega) (by decide)
    have c : (nI j).toNatClampNeg = j := nI_clamp (by omega)
    refine ⟨v, ?_⟩
    unfold wpY_writeSet
    refine sm_laneY (by omega) (nI j) (fun h => (sm_out (by omega) h hj rfl).elim) (fun j' hj' e' => br_f bs_10 ⟨v, ?_, hr⟩)
    rw [c]
    exact (hP j (by omega)).2.2.1.symm
theorem i_vc_markCount {k : Nat} {u : SX} {v : SY} (I : i_Rel k u v) (hk : k + 5 ≤ 2564) (v1 : Int32) : wpX_markCount (fun r => wpY_markCount (fun r' => r' = r ∧ i_Rel (k + 5) u v) v v1) u v1 := by
  refine rl_el (k := k) (P := fun u v => ∀ R : Prop, R → wpX_markCount (fun r => wpY_markCount (fun r' => r' = r ∧ R) v v1) u v1) ?_ u v I _ (i_up I)
  intro L LL T G n f_isSealed f_openTotal f_openLoops f_alive f_depth f_clash a_kinds a_fieldD a_fieldA a_fieldB a_blockLine a_blockHasElse a_opener a_elseOf a_endOf a_wayNonzero a_wayZero a_postDom a_rejoinOf a_regs a_cells a_work a_stored a_tripCount a_stackPlace a_stackMask a_stackRejoin a_stopLine a_reads a_writes a_marks a_logLine a_logMask b_nzWay b_zWay b_post b_seen b_regs b_mem b_own b_priv b_trip b_visits b_lineOf b_goneTo b_mates b_exits b_reads b_writes b_marks b_logLine b_logMask hR R hr
  have hB := hR.1
  unfold rl_B at hB
  have hP := hR.2.2.2.2.2
  unfold wpX_markCount
  refine sm_lane (by omega) v1 (fun h => br_t rfl ?_) (fun j hj e => br_f bs_10 ?_)
  · unfold wpY_markCount
    exact sm_laneY (by omega) v1 (fun _ => br_t rfl ⟨rfl, hr⟩) (fun j hj e => (sm_out (by omega) h hj e).elim)
  · subst e
    have v : vp_in (nI j) 8 := vp_in_nI (by omega) (by decide)
    have c : (nI j).toNatClampNeg = j := nI_clamp (by omega)
    refine ⟨v, ?_⟩
    unfold wpY_markCount
    refine sm_laneY (by omega) (nI j) (fun h => (sm_out (by omega) h hj rfl).elim) (fun j' hj' e' => br_f bs_10 ⟨v, ?_, hr⟩)
    rw [c]
    exact (hP j (by omega)).2.2.2.1.symm
theorem i_vc_reg {k : Nat} {u : SX} {v : SY} (I : i_Rel k u v) (hk : k + 5 ≤ 2564) (v1 : Int32) (v2 : Int32) : wpX_reg (fun r => wpY_reg (fun r' => r' = r ∧ i_Rel (k + 5) u v) v v1 v2) u v1 v2 := by
  refine rl_el (k := k) (P := fun u v => ∀ R : Prop, R → wpX_reg (fun r => wpY_reg (fun r' => r' = r ∧ R) v v1 v2) u v1 v2) ?_ u v I _ (i_up I)
  intro L LL T G n f_isSealed f_openTotal f_openLoops f_alive f_depth f_clash a_kinds a_fieldD a_fieldA a_fieldB a_blockLine a_blockHasElse a_opener a_elseOf a_endOf a_wayNonzero a_wayZero a_postDom a_rejoinOf a_regs a_cells a_work a_stored a_tripCount a_stackPlace a_stackMask a_stackRejoin a_stopLine a_reads a_writes a_marks a_logLine a_logMask b_nzWay b_zWay b_post b_seen b_regs b_mem b_own b_priv b_trip b_visits b_lineOf b_goneTo b_mates b_exits b_reads b_writes b_marks b_logLine b_logMask hR R hr
  have hB := hR.1
  unfold rl_B at hB
  have hM := hR.2.2.2.2.1
  unfold wpX_reg
  refine sm_lane (by omega) v1 (fun h => br_t rfl ?_) (fun j hj e => br_f bs_10 ?_)
  · unfold wpY_reg
    exact sm_laneY (by omega) v1 (fun _ => br_t rfl ⟨rfl, hr⟩) (fun j hj e => (sm_out (by omega) h hj e).elim)
  · subst e
    rcases pk_ix v2 (n := 8) (by omega) with c | c | ⟨i, hi, rfl⟩
    · refine br_t c ?_
      unfold wpY_reg
      exact sm_laneY (by omega) (nI j) (fun h => (sm_out (by omega) h hj rfl).elim) (fun j' hj' e' => br_f bs_10 (br_t c ⟨rfl, hr⟩))
    · have c1 : ¬ v2 < 8 := fun z => absurd z (Int32.not_lt.mpr c)
      have c2 : ¬ v2 ≤ 7 := fun z => absurd (Int32.le_trans c z) (by decide)
      refine br_c (fun c3 => ?_) (fun c3 => br_f c1 ?_)
      · unfold wpY_reg
        exact sm_laneY (by omega) (nI j) (fun h => (sm_out (by omega) h hj rfl).elim) (fun j' hj' e' => br_f bs_10 (br_t c3 ⟨rfl, hr⟩))
      · unfold wpY_reg
        exact sm_laneY (by omega) (nI j) (fun h => (sm_out (by omega) h hj rfl).elim) (fun j' hj' e' => br_f bs_10 (br_f c3 (br_f c2 ⟨rfl, hr⟩)))
    · have c1 : ¬ nI i < 0 := nI_pos (by omega)
      have c2 : nI i < 8 := nI_lt (b := 8) hi (by decide)
      have c3 : nI i ≤ 7 := nI_le (b := 7) (by omega) (by decide)
      have ei : nI j * 8 + nI i = nI (j * 8 + i) := bs_mad j 8 i
      have vi : vp_in (nI j * 8 + nI i) 64 := by rw [ei]; exact vp_in_nI (by omega) (by decide)
      have ci : (nI j * 8 + nI i).toNatClampNeg = j * 8 + i := by rw [ei]; exact nI_clamp (by omega)
      refine br_f c1 (br_t c2 ⟨vi, ?_⟩)
      unfold wpY_reg
      refine sm_laneY (by omega) (nI j) (fun h => (sm_out (by omega) h hj rfl).elim) (fun j' hj' e' => br_f bs_10 (br_f c1 (br_t c3 ⟨vi, ?_, hr⟩)))
      rw [ci]
      exact (hM.1 _ (by omega)).symm
theorem i_vc_peek {k : Nat} {u : SX} {v : SY} (I : i_Rel k u v) (hk : k + 5 ≤ 2564) (v1 : Int32) : wpX_peek (fun r => wpY_peek (fun r' => r' = r ∧ i_Rel (k + 5) u v) v v1) u v1 := by
  refine rl_el (k := k) (P := fun u v => ∀ R : Prop, R → wpX_peek (fun r => wpY_peek (fun r' => r' = r ∧ R) v v1) u v1) ?_ u v I _ (i_up I)
  intro L LL T G n f_isSealed f_openTotal f_openLoops f_alive f_depth f_clash a_kinds a_fieldD a_fieldA a_fieldB a_blockLine a_blockHasElse a_opener a_elseOf a_endOf a_wayNonzero a_wayZero a_postDom a_rejoinOf a_regs a_cells a_work a_stored a_tripCount a_stackPlace a_stackMask a_stackRejoin a_stopLine a_reads a_writes a_marks a_logLine a_logMask b_nzWay b_zWay b_post b_seen b_regs b_mem b_own b_priv b_trip b_visits b_lineOf b_goneTo b_mates b_exits b_reads b_writes b_marks b_logLine b_logMask hR R hr
  have hM := hR.2.2.2.2.1
  unfold wpX_peek
  rcases pk_ix v1 (n := 32) (by omega) with c | c | ⟨i, hi, rfl⟩
  · refine br_t c ?_
    unfold wpY_peek
    exact br_t c ⟨rfl, hr⟩
  · have c1 : ¬ v1 < 32 := fun z => absurd z (Int32.not_lt.mpr c)
    have c2 : ¬ v1 ≤ 31 := fun z => absurd (Int32.le_trans c z) (by decide)
    refine br_c (fun c3 => ?_) (fun c3 => br_f c1 ?_)
    · unfold wpY_peek
      exact br_t c3 ⟨rfl, hr⟩
    · unfold wpY_peek
      exact br_f c3 (br_f c2 ⟨rfl, hr⟩)
  · have c1 : ¬ nI i < 0 := nI_pos (by omega)
    have v : vp_in (nI i) 32 := vp_in_nI hi (by decide)
    have c : (nI i).toNatClampNeg = i := nI_clamp (by omega)
    refine br_f c1 (br_t (nI_lt (b := 32) hi (by decide)) ⟨v, ?_⟩)
    unfold wpY_peek
    refine br_f c1 (br_t (nI_le (b := 31) (by omega) (by decide)) ⟨v, ?_, hr⟩)
    rw [c]
    exact (hM.2 i hi).symm
theorem i_vc_markLine {k : Nat} {u : SX} {v : SY} (I : i_Rel k u v) (hk : k + 5 ≤ 2564) (v1 : Int32) (v2 : Int32) : wpX_markLine (fun r => wpY_markLine (fun r' => r' = r ∧ i_Rel (k + 5) u v) v v1 v2) u v1 v2 := by
  refine rl_el (k := k) (P := fun u v => ∀ R : Prop, R → wpX_markLine (fun r => wpY_markLine (fun r' => r' = r ∧ R) v v1 v2) u v1 v2) ?_ u v I _ (i_up I)
  intro L LL T G n f_isSealed f_openTotal f_openLoops f_alive f_depth f_clash a_kinds a_fieldD a_fieldA a_fieldB a_blockLine a_blockHasElse a_opener a_elseOf a_endOf a_wayNonzero a_wayZero a_postDom a_rejoinOf a_regs a_cells a_work a_stored a_tripCount a_stackPlace a_stackMask a_stackRejoin a_stopLine a_reads a_writes a_marks a_logLine a_logMask b_nzWay b_zWay b_post b_seen b_regs b_mem b_own b_priv b_trip b_visits b_lineOf b_goneTo b_mates b_exits b_reads b_writes b_marks b_logLine b_logMask hR R hr
  have hB := hR.1
  unfold rl_B at hB
  have hP := hR.2.2.2.2.2
  unfold wpX_markLine wpX_isLogged
  refine sm_lane (by omega) v1 (fun h => br_t rfl (br_t rfl ?_)) (fun j hj e => br_f bs_10 ?_)
  · unfold wpY_markLine wpY_kept
    exact sm_laneY (by omega) v1 (fun _ => br_t rfl (br_t rfl ⟨rfl, hr⟩)) (fun j hj e => (sm_out (by omega) h hj e).elim)
  · subst e
    have v : vp_in (nI j) 8 := vp_in_nI (by omega) (by decide)
    have c : (nI j).toNatClampNeg = j := nI_clamp (by omega)
    obtain ⟨_, _, _, hm, hl⟩ := hP j (by omega)
    have yy : ∀ {post : Int32 → Prop}, (v2 < 0 → post 0) → (¬ v2 < 0 → (b_marks j ≤ v2 → post 0) ∧ (¬ b_marks j ≤ v2 → (nI G ≤ v2 → post 0) ∧ (¬ nI G ≤ v2 → post 1))) → wpY_kept post (nI L, nI LL, nI T, nI G, nI n, f_isSealed, f_clash, a_kinds, a_fieldD, a_fieldA, a_fieldB, b_nzWay, b_zWay, b_post, b_seen, b_regs, b_mem, b_own, b_priv, b_trip, b_visits, b_lineOf, b_goneTo, b_mates, b_exits, b_reads, b_writes, b_marks, b_logLine, b_logMask) (nI j) v2 := by
      intro post h1 h2
      unfold wpY_kept
      refine sm_laneY (by omega) (nI j) (fun h => (sm_out (by omega) h hj rfl).elim) (fun j' hj' e' => br_f bs_10 (br_c h1 (fun z => ⟨v, ?_⟩)))
      rw [c]
      exact h2 z
    refine br_c (fun z => br_t rfl ?_) (fun z => ⟨v, ?_⟩)
    · unfold wpY_markLine
      exact yy (fun _ => br_t rfl ⟨rfl, hr⟩) (fun z' => absurd z z')
    · rw [c]
      have hm' : b_marks j = a_marks j := hm.symm
      refine br_c (fun w => br_t rfl ?_) (fun w => br_c (fun w2 => br_t rfl ?_) (fun w2 => br_f bs_10 ?_))
      · unfold wpY_markLine
        refine yy (fun z' => absurd z' z) (fun _ => br_t ?_ (br_t rfl ⟨rfl, hr⟩))
        rw [hm']; exact w
      · unfold wpY_markLine
        refine yy (fun z' => absurd z' z) (fun _ => br_f ?_ (br_t w2 (br_t rfl ⟨rfl, hr⟩)))
        rw [hm']; exact w
      · obtain ⟨i, hi, rfl⟩ := nI_of z
        have hiG : i < G := Classical.byContradiction fun q => w2 (nI_le (by omega) (by omega))
        have ei : nI j * 16 + nI i = nI (j * 16 + i) := bs_mad j 16 i
        have vi : vp_in (nI j * 16 + nI i) 128 := by rw [ei]; exact vp_in_nI (by omega) (by decide)
        have ci : (nI j * 16 + nI i).toNatClampNeg = j * 16 + i := by rw [ei]; exact nI_clamp (by omega)
        refine ⟨vi, ?_⟩
        unfold wpY_markLine
        refine yy (fun z' => absurd z' z) (fun _ => br_f ?_ (br_f w2 (br_f bs_10 ⟨vi, ?_, hr⟩)))
        · rw [hm']; exact w
        · rw [ci]
          exact (hl i hiG w).1.symm
theorem i_vc_markMask {k : Nat} {u : SX} {v : SY} (I : i_Rel k u v) (hk : k + 5 ≤ 2564) (v1 : Int32) (v2 : Int32) : wpX_markMask (fun r => wpY_markMask (fun r' => r' = r ∧ i_Rel (k + 5) u v) v v1 v2) u v1 v2 := by
  refine rl_el (k := k) (P := fun u v => ∀ R : Prop, R → wpX_markMask (fun r => wpY_markMask (fun r' => r' = r ∧ R) v v1 v2) u v1 v2) ?_ u v I _ (i_up I)
  intro L LL T G n f_isSealed f_openTotal f_openLoops f_alive f_depth f_clash a_kinds a_fieldD a_fieldA a_fieldB a_blockLine a_blockHasElse a_opener a_elseOf a_endOf a_wayNonzero a_wayZero a_postDom a_rejoinOf a_regs a_cells a_work a_stored a_tripCount a_stackPlace a_stackMask a_stackRejoin a_stopLine a_reads a_writes a_marks a_logLine a_logMask b_nzWay b_zWay b_post b_seen b_regs b_mem b_own b_priv b_trip b_visits b_lineOf b_goneTo b_mates b_exits b_reads b_writes b_marks b_logLine b_logMask hR R hr
  have hB := hR.1
  unfold rl_B at hB
  have hP := hR.2.2.2.2.2
  unfold wpX_markMask wpX_isLogged
  refine sm_lane (by omega) v1 (fun h => br_t rfl (br_t rfl ?_)) (fun j hj e => br_f bs_10 ?_)
  · unfold wpY_markMask wpY_kept
    exact sm_laneY (by omega) v1 (fun _ => br_t rfl (br_t rfl ⟨rfl, hr⟩)) (fun j hj e => (sm_out (by omega) h hj e).elim)
  · subst e
    have v : vp_in (nI j) 8 := vp_in_nI (by omega) (by decide)
    have c : (nI j).toNatClampNeg = j := nI_clamp (by omega)
    obtain ⟨_, _, _, hm, hl⟩ := hP j (by omega)
    have yy : ∀ {post : Int32 → Prop}, (v2 < 0 → post 0) → (¬ v2 < 0 → (b_marks j ≤ v2 → post 0) ∧ (¬ b_marks j ≤ v2 → (nI G ≤ v2 → post 0) ∧ (¬ nI G ≤ v2 → post 1))) → wpY_kept post (nI L, nI LL, nI T, nI G, nI n, f_isSealed, f_clash, a_kinds, a_fieldD, a_fieldA, a_fieldB, b_nzWay, b_zWay, b_post, b_seen, b_regs, b_mem, b_own, b_priv, b_trip, b_visits, b_lineOf, b_goneTo, b_mates, b_exits, b_reads, b_writes, b_marks, b_logLine, b_logMask) (nI j) v2 := by
      intro post h1 h2
      unfold wpY_kept
      refine sm_laneY (by omega) (nI j) (fun h => (sm_out (by omega) h hj rfl).elim) (fun j' hj' e' => br_f bs_10 (br_c h1 (fun z => ⟨v, ?_⟩)))
      rw [c]
      exact h2 z
    refine br_c (fun z => br_t rfl ?_) (fun z => ⟨v, ?_⟩)
    · unfold wpY_markMask
      exact yy (fun _ => br_t rfl ⟨rfl, hr⟩) (fun z' => absurd z z')
    · rw [c]
      have hm' : b_marks j = a_marks j := hm.symm
      refine br_c (fun w => br_t rfl ?_) (fun w => br_c (fun w2 => br_t rfl ?_) (fun w2 => br_f bs_10 ?_))
      · unfold wpY_markMask
        refine yy (fun z' => absurd z' z) (fun _ => br_t ?_ (br_t rfl ⟨rfl, hr⟩))
        rw [hm']; exact w
      · unfold wpY_markMask
        refine yy (fun z' => absurd z' z) (fun _ => br_f ?_ (br_t w2 (br_t rfl ⟨rfl, hr⟩)))
        rw [hm']; exact w
      · obtain ⟨i, hi, rfl⟩ := nI_of z
        have hiG : i < G := Classical.byContradiction fun q => w2 (nI_le (by omega) (by omega))
        have ei : nI j * 16 + nI i = nI (j * 16 + i) := bs_mad j 16 i
        have vi : vp_in (nI j * 16 + nI i) 128 := by rw [ei]; exact vp_in_nI (by omega) (by decide)
        have ci : (nI j * 16 + nI i).toNatClampNeg = j * 16 + i := by rw [ei]; exact nI_clamp (by omega)
        refine ⟨vi, ?_⟩
        unfold wpY_markMask
        refine yy (fun z' => absurd z' z) (fun _ => br_f ?_ (br_f w2 (br_f bs_10 ⟨vi, ?_, hr⟩)))
        · rw [hm']; exact w
        · rw [ci]
          exact (hl i hiG w).2.symm
theorem sm_updM {a b : Nat → Int32} {m i : Nat} {x : Int32} (h : ∀ j, j < m → a j = b j) : ∀ j, j < m → upd a i x j = upd b i x j := by
  intro j hj
  by_cases e : j = i
  · subst e; rw [bs_us, bs_us]
  · rw [bs_un e, bs_un e]; exact h j hj
theorem i_vc_poke {k : Nat} {u : SX} {v : SY} (I : i_Rel k u v) (hk : k + 5 ≤ 2564) (v1 : Int32) (v2 : Int32) : wpX_poke (fun r u' => wpY_poke (fun r' v' => r' = r ∧ i_Rel (k + 5) u' v') v v1 v2) u v1 v2 := by
  refine rl_el (k := k) (P := fun u v => wpX_poke (fun r u' => wpY_poke (fun r' v' => r' = r ∧ i_Rel (k + 5) u' v') v v1 v2) u v1 v2) ?_ u v I
  intro L LL T G n f_isSealed f_openTotal f_openLoops f_alive f_depth f_clash a_kinds a_fieldD a_fieldA a_fieldB a_blockLine a_blockHasElse a_opener a_elseOf a_endOf a_wayNonzero a_wayZero a_postDom a_rejoinOf a_regs a_cells a_work a_stored a_tripCount a_stackPlace a_stackMask a_stackRejoin a_stopLine a_reads a_writes a_marks a_logLine a_logMask b_nzWay b_zWay b_post b_seen b_regs b_mem b_own b_priv b_trip b_visits b_lineOf b_goneTo b_mates b_exits b_reads b_writes b_marks b_logLine b_logMask hR
  unfold wpX_poke
  rcases pk_ix v1 (n := 32) (by omega) with c | c | ⟨i, hi, rfl⟩
  · refine br_t c ?_
    unfold wpY_poke
    exact br_t c ⟨rfl, ⟨L, LL, T, G, n, rfl, rfl, rfl, rfl, rfl, rfl, rfl, rfl, rfl, rfl, rfl, rfl, rfl, rfl, rfl, rfl, hR⟩⟩
  · have c1 : ¬ v1 < 32 := fun z => absurd z (Int32.not_lt.mpr c)
    have c2 : ¬ v1 ≤ 31 := fun z => absurd (Int32.le_trans c z) (by decide)
    refine br_c (fun c3 => ?_) (fun c3 => br_f c1 ?_)
    · unfold wpY_poke
      exact br_t c3 ⟨rfl, ⟨L, LL, T, G, n, rfl, rfl, rfl, rfl, rfl, rfl, rfl, rfl, rfl, rfl, rfl, rfl, rfl, rfl, rfl, rfl, hR⟩⟩
    · unfold wpY_poke
      exact br_f c3 (br_f c2 ⟨rfl, ⟨L, LL, T, G, n, rfl, rfl, rfl, rfl, rfl, rfl, rfl, rfl, rfl, rfl, rfl, rfl, rfl, rfl, rfl, rfl, hR⟩⟩)
  · have c1 : ¬ nI i < 0 := nI_pos (by omega)
    have v : vp_in (nI i) 32 := vp_in_nI hi (by decide)
    obtain ⟨r1, r2, r3, r4, r5, r6⟩ := hR
    refine br_f c1 (br_t (nI_lt (b := 32) hi (by decide)) ⟨v, nm_e ?_⟩)
    unfold wpY_poke
    exact br_f c1 (br_t (nI_le (b := 31) (by omega) (by decide)) ⟨v, nm_e ⟨rfl, ⟨L, LL, T, G, n, rfl, rfl, rfl, rfl, rfl, rfl, rfl, rfl, rfl, rfl, rfl, rfl, rfl, rfl, rfl, rfl, ⟨r1, r2, r3, r4, ⟨r5.1, sm_updM r5.2⟩, r6⟩⟩⟩⟩)
theorem i_vc_setReg {k : Nat} {u : SX} {v : SY} (I : i_Rel k u v) (hk : k + 5 ≤ 2564) (v1 : Int32) (v2 : Int32) (v3 : Int32) : wpX_setReg (fun r u' => wpY_setReg (fun r' v' => r' = r ∧ i_Rel (k + 5) u' v') v v1 v2 v3) u v1 v2 v3 := by
  refine rl_el (k := k) (P := fun u v => wpX_setReg (fun r u' => wpY_setReg (fun r' v' => r' = r ∧ i_Rel (k + 5) u' v') v v1 v2 v3) u v1 v2 v3) ?_ u v I
  intro L LL T G n f_isSealed f_openTotal f_openLoops f_alive f_depth f_clash a_kinds a_fieldD a_fieldA a_fieldB a_blockLine a_blockHasElse a_opener a_elseOf a_endOf a_wayNonzero a_wayZero a_postDom a_rejoinOf a_regs a_cells a_work a_stored a_tripCount a_stackPlace a_stackMask a_stackRejoin a_stopLine a_reads a_writes a_marks a_logLine a_logMask b_nzWay b_zWay b_post b_seen b_regs b_mem b_own b_priv b_trip b_visits b_lineOf b_goneTo b_mates b_exits b_reads b_writes b_marks b_logLine b_logMask hR
  have hB := hR.1
  unfold rl_B at hB
  unfold wpX_setReg
  refine sm_lane (by omega) v1 (fun h => br_t rfl ?_) (fun j hj e => br_f bs_10 ?_)
  · unfold wpY_setReg
    exact sm_laneY (by omega) v1 (fun _ => br_t rfl ⟨rfl, ⟨L, LL, T, G, n, rfl, rfl, rfl, rfl, rfl, rfl, rfl, rfl, rfl, rfl, rfl, rfl, rfl, rfl, rfl, rfl, hR⟩⟩) (fun j hj e => (sm_out (by omega) h hj e).elim)
  · subst e
    rcases pk_ix v2 (n := 8) (by omega) with c | c | ⟨i, hi, rfl⟩
    · refine br_t c ?_
      unfold wpY_setReg
      exact sm_laneY (by omega) (nI j) (fun h => (sm_out (by omega) h hj rfl).elim) (fun j' hj' e' => br_f bs_10 (br_t c ⟨rfl, ⟨L, LL, T, G, n, rfl, rfl, rfl, rfl, rfl, rfl, rfl, rfl, rfl, rfl, rfl, rfl, rfl, rfl, rfl, rfl, hR⟩⟩))
    · have c1 : ¬ v2 < 8 := fun z => absurd z (Int32.not_lt.mpr c)
      have c2 : ¬ v2 ≤ 7 := fun z => absurd (Int32.le_trans c z) (by decide)
      refine br_c (fun c3 => ?_) (fun c3 => br_f c1 ?_)
      · unfold wpY_setReg
        exact sm_laneY (by omega) (nI j) (fun h => (sm_out (by omega) h hj rfl).elim) (fun j' hj' e' => br_f bs_10 (br_t c3 ⟨rfl, ⟨L, LL, T, G, n, rfl, rfl, rfl, rfl, rfl, rfl, rfl, rfl, rfl, rfl, rfl, rfl, rfl, rfl, rfl, rfl, hR⟩⟩))
      · unfold wpY_setReg
        exact sm_laneY (by omega) (nI j) (fun h => (sm_out (by omega) h hj rfl).elim) (fun j' hj' e' => br_f bs_10 (br_f c3 (br_f c2 ⟨rfl, ⟨L, LL, T, G, n, rfl, rfl, rfl, rfl, rfl, rfl, rfl, rfl, rfl, rfl, rfl, rfl, rfl, rfl, rfl, rfl, hR⟩⟩)))
    · have c1 : ¬ nI i < 0 := nI_pos (by omega)
      have c2 : nI i < 8 := nI_lt (b := 8) hi (by decide)
      have c3 : nI i ≤ 7 := nI_le (b := 7) (by omega) (by decide)
      have ei : nI j * 8 + nI i = nI (j * 8 + i) := bs_mad j 8 i
      have vi : vp_in (nI j * 8 + nI i) 64 := by rw [ei]; exact vp_in_nI (by omega) (by decide)
      obtain ⟨r1, r2, r3, r4, r5, r6⟩ := hR
      refine br_f c1 (br_t c2 ⟨vi, nm_e ?_⟩)
      unfold wpY_setReg
      exact sm_laneY (by omega) (nI j) (fun h => (sm_out (by omega) h hj rfl).elim) (fun j' hj' e' => br_f bs_10 (br_f c1 (br_t c3 ⟨vi, nm_e ⟨rfl, ⟨L, LL, T, G, n, rfl, rfl, rfl, rfl, rfl, rfl, rfl, rfl, rfl, rfl, rfl, rfl, rfl, rfl, rfl, rfl, ⟨r1, r2, r3, r4, ⟨sm_updM r5.1, r5.2⟩, r6⟩⟩⟩⟩)))
end
section
/-! the wiping of the reports, the constructors, clear -/
def wi_W (sl rd wr mk : Nat → Int32) (i : Nat) : Prop := ∀ f, f < i → sl f = -1 ∧ rd f = 0 ∧ wr f = 0 ∧ mk f = 0
theorem wi_s {sl rd wr mk : Nat → Int32} {i : Nat} (h : wi_W sl rd wr mk i) : wi_W (upd sl i (-1)) (upd rd i 0) (upd wr i 0) (upd mk i 0) (i + 1) := by
  intro f hf
  by_cases e : f = i
  · subst e
    exact ⟨bs_us, bs_us, bs_us, bs_us⟩
  · rw [bs_un e, bs_un e, bs_un e, bs_un e]
    exact h f (by omega)
section
variable {f_laneTotal f_lineLimit f_tripLimit f_logLimit f_count f_isSealed f_openTotal f_openLoops f_alive f_depth f_clash : Int32} {a_kinds a_fieldD a_fieldA a_fieldB a_blockLine a_blockHasElse a_opener a_elseOf a_endOf a_wayNonzero a_wayZero a_postDom a_rejoinOf a_regs a_cells a_work a_stored a_tripCount a_stackPlace a_stackMask a_stackRejoin a_stopLine a_reads a_writes a_marks a_logLine a_logMask : Nat → Int32}
theorem wi_X7 {post : SX → Prop} (K : ∀ sl rd wr mk, wi_W sl rd wr mk 8 → post (f_laneTotal, f_lineLimit, f_tripLimit, f_logLimit, f_count, f_isSealed, f_openTotal, f_openLoops, f_alive, f_depth, f_clash, a_kinds, a_fieldD, a_fieldA, a_fieldB, a_blockLine, a_blockHasElse, a_opener, a_elseOf, a_endOf, a_wayNonzero, a_wayZero, a_postDom, a_rejoinOf, a_regs, a_cells, a_work, a_stored, a_tripCount, a_stackPlace, a_stackMask, a_stackRejoin, sl, rd, wr, mk, a_logLine, a_logMask)) :
    ∀ m i sl rd wr mk, 8 - i < m → i ≤ 8 → wi_W sl rd wr mk i → wX_wipeReports_7 post f_laneTotal f_lineLimit f_tripLimit f_logLimit f_count f_isSealed f_openTotal f_openLoops f_alive f_depth f_clash m (nI i) a_kinds a_fieldD a_fieldA a_fieldB a_blockLine a_blockHasElse a_opener a_elseOf a_endOf a_wayNonzero a_wayZero a_postDom a_rejoinOf a_regs a_cells a_work a_stored a_tripCount a_stackPlace a_stackMask a_stackRejoin sl rd wr mk a_logLine a_logMask := by
  intro m
  induction m with
  | zero => intro i _ _ _ _ h; omega
  | succ m ih =>
    intro i sl rd wr mk hm hi hW
    rw [wX_wipeReports_7]
    dsimp only
    have c : i < 8 → (nI i).toNatClampNeg = i := fun _ => nI_clamp (by omega)
    by_cases h : 8 ≤ i
    · have : i = 8 := by omega
      subst this
      exact br_t (by decide) (K sl rd wr mk hW)
    · have v : vp_in (nI i) 8 := vp_in_nI (by omega) (by decide)
      rw [c (by omega)]
      exact br_f (nI_ge (b := 8) (by omega) (by decide)) ⟨v, nm_e ⟨v, nm_e ⟨v, nm_e ⟨v, nm_e (nm_r (nI_1 i) (ih (i + 1) _ _ _ _ (by omega) (by omega) (wi_s hW)))⟩⟩⟩⟩
theorem wi_X {post : SX → Prop} (K : ∀ sl rd wr mk, wi_W sl rd wr mk 8 → post (f_laneTotal, f_lineLimit, f_tripLimit, f_logLimit, f_count, f_isSealed, f_openTotal, f_openLoops, f_alive, f_depth, -1, a_kinds, a_fieldD, a_fieldA, a_fieldB, a_blockLine, a_blockHasElse, a_opener, a_elseOf, a_endOf, a_wayNonzero, a_wayZero, a_postDom, a_rejoinOf, a_regs, a_cells, a_work, a_stored, a_tripCount, a_stackPlace, a_stackMask, a_stackRejoin, sl, rd, wr, mk, a_logLine, a_logMask)) : wpX_wipeReports post (f_laneTotal, f_lineLimit, f_tripLimit, f_logLimit, f_count, f_isSealed, f_openTotal, f_openLoops, f_alive, f_depth, f_clash, a_kinds, a_fieldD, a_fieldA, a_fieldB, a_blockLine, a_blockHasElse, a_opener, a_elseOf, a_endOf, a_wayNonzero, a_wayZero, a_postDom, a_rejoinOf, a_regs, a_cells, a_work, a_stored, a_tripCount, a_stackPlace, a_stackMask, a_stackRejoin, a_stopLine, a_reads, a_writes, a_marks, a_logLine, a_logMask) := by
  unfold wpX_wipeReports
  dsimp only
  exact ⟨9, wi_X7 (f_clash := -1) K 9 0 _ _ _ _ (by omega) (by omega) (fun f hf => absurd hf (Nat.not_lt_zero _))⟩
end
section
variable {g_lanes g_lines g_trips g_logSize g_n g_sealed g_clash : Int32} {b_kinds b_fd b_fa b_fb b_nzWay b_zWay b_post b_seen b_regs b_mem b_own b_priv b_trip b_visits b_lineOf b_goneTo b_mates b_exits b_reads b_writes b_marks b_logLine b_logMask : Nat → Int32}
theorem wi_Y7 {post : SY → Prop} (K : ∀ sl rd wr mk vs, wi_W sl rd wr mk 8 → (∀ f, f < 8 → vs f = 0) → post (g_lanes, g_lines, g_trips, g_logSize, g_n, g_sealed, g_clash, b_kinds, b_fd, b_fa, b_fb, b_nzWay, b_zWay, b_post, b_seen, b_regs, b_mem, b_own, b_priv, b_trip, vs, b_lineOf, b_goneTo, b_mates, sl, rd, wr, mk, b_logLine, b_logMask)) :
    ∀ m i sl rd wr mk vs, 8 - i < m → i ≤ 8 → wi_W sl rd wr mk i → (∀ f, f < i → vs f = 0) → wY_wipe_7 post g_lanes g_lines g_trips g_logSize g_n g_sealed g_clash m (nI i) b_kinds b_fd b_fa b_fb b_nzWay b_zWay b_post b_seen b_regs b_mem b_own b_priv b_trip vs b_lineOf b_goneTo b_mates sl rd wr mk b_logLine b_logMask := by
  intro m
  induction m with
  | zero => intro i _ _ _ _ _ h; omega
  | succ m ih =>
    intro i sl rd wr mk vs hm hi hW hV
    rw [wY_wipe_7]
    dsimp only
    have c : i < 8 → (nI i).toNatClampNeg = i := fun _ => nI_clamp (by omega)
    by_cases h : 8 ≤ i
    · have : i = 8 := by omega
      subst this
      exact br_t (by decide) (K sl rd wr mk vs hW hV)
    · have v : vp_in (nI i) 8 := vp_in_nI (by omega) (by decide)
      rw [c (by omega)]
      refine br_f (nI_ge (b := 8) (by omega) (by decide)) ⟨v, nm_e ⟨v, nm_e ⟨v, nm_e ⟨v, nm_e ⟨v, nm_e (nm_r (nI_1 i) (ih (i + 1) _ _ _ _ _ (by omega) (by omega) (wi_s hW) (fun f hf => ?_)))⟩⟩⟩⟩⟩
      by_cases e : f = i
      · subst e; exact bs_us
      · rw [bs_un e]; exact hV f (by omega)
theorem wi_Y {post : SY → Prop} (K : ∀ sl rd wr mk vs, wi_W sl rd wr mk 8 → (∀ f, f < 8 → vs f = 0) → post (g_lanes, g_lines, g_trips, g_logSize, g_n, g_sealed, -1, b_kinds, b_fd, b_fa, b_fb, b_nzWay, b_zWay, b_post, b_seen, b_regs, b_mem, b_own, b_priv, b_trip, vs, b_lineOf, b_goneTo, b_mates, sl, rd, wr, mk, b_logLine, b_logMask)) : wpY_wipe post (g_lanes, g_lines, g_trips, g_logSize, g_n, g_sealed, g_clash, b_kinds, b_fd, b_fa, b_fb, b_nzWay, b_zWay, b_post, b_seen, b_regs, b_mem, b_own, b_priv, b_trip, b_visits, b_lineOf, b_goneTo, b_mates, b_exits, b_reads, b_writes, b_marks, b_logLine, b_logMask) := by
  unfold wpY_wipe
  dsimp only
  exact ⟨9, wi_Y7 (g_clash := -1) K 9 0 _ _ _ _ _ (by omega) (by omega) (fun f hf => absurd hf (Nat.not_lt_zero _)) (fun f hf => absurd hf (Nat.not_lt_zero _))⟩
end
theorem wi_P {G : Nat} {sl rd wr mk sl' rd' wr' mk' a b c d : Nat → Int32} (hG : G ≤ 16) (h : wi_W sl rd wr mk 8) (h' : wi_W sl' rd' wr' mk' 8) : rl_P G sl sl' rd rd' wr wr' mk mk' a b c d := by
  intro f hf
  obtain ⟨h1, h2, h3, h4⟩ := h f hf
  obtain ⟨k1, k2, k3, k4⟩ := h' f hf
  refine ⟨h1.trans k1.symm, h2.trans k2.symm, h3.trans k3.symm, h4.trans k4.symm, fun k hk z => ?_⟩
  rw [h4] at z
  exact absurd (nI_pos' (n := k) (by omega)) z
theorem wi_U0 {kd bl bh : Nat → Int32} : rl_U 0 kd 0 0 bl bh := ⟨rfl, rfl, fun l hl => absurd hl (Nat.not_lt_zero _)⟩
theorem i_vc_clear {k : Nat} {u : SX} {v : SY} (I : i_Rel k u v) (hk : k + 5 ≤ 2564) : wpX_clear (fun u' => wpY_clear (fun v' => i_Rel (k + 5) u' v') v) u := by
  refine rl_el (k := k) (P := fun u v => wpX_clear (fun u' => wpY_clear (fun v' => i_Rel (k + 5) u' v') v) u) ?_ u v I
  intro L LL T G n f_isSealed f_openTotal f_openLoops f_alive f_depth f_clash a_kinds a_fieldD a_fieldA a_fieldB a_blockLine a_blockHasElse a_opener a_elseOf a_endOf a_wayNonzero a_wayZero a_postDom a_rejoinOf a_regs a_cells a_work a_stored a_tripCount a_stackPlace a_stackMask a_stackRejoin a_stopLine a_reads a_writes a_marks a_logLine a_logMask b_nzWay b_zWay b_post b_seen b_regs b_mem b_own b_priv b_trip b_visits b_lineOf b_goneTo b_mates b_exits b_reads b_writes b_marks b_logLine b_logMask hR
  obtain ⟨r1, r2, r3, r4, r5, r6⟩ := hR
  unfold wpX_clear
  dsimp only
  refine wi_X (fun sl rd wr mk h => ?_)
  unfold wpY_clear
  dsimp only
  refine wi_Y (fun sl' rd' wr' mk' vs' h' _ => ?_)
  exact ⟨L, LL, T, G, 0, rfl, rfl, rfl, rfl, rfl, rfl, rfl, rfl, rfl, rfl, rfl, rfl, rfl, rfl, rfl, rfl, by unfold rl_B at *; omega, fun i hi => absurd hi (Nat.not_lt_zero _), fun i hi => absurd hi (Nat.not_lt_zero _), Or.inl ⟨rfl, wi_U0⟩, r5, wi_P (by unfold rl_B at *; omega) h h'⟩
/-- a clamped argument -/
theorem wi_cX {post : Int32 → Prop} {a b : Nat} {u : SX} (x : Int32) (hab : a ≤ b) (hb : b < 2 ^ 31) (K : ∀ c, a ≤ c → c ≤ b → (∀ post' : Int32 → Prop, ∀ w : SY, post' (nI c) → wpY_clamp post' w x (nI a) (nI b)) → post (nI c)) : wpX_clamp post u x (nI a) (nI b) := by
  obtain ⟨_, _, _, _, _, _, _, _, _, _, _, _, _, _, _, _, _, _, _, _, _, _, _, _, _, _, _, _, _, _, _, _, _, _, _, _, _, _⟩ := u
  unfold wpX_clamp
  dsimp only
  have yy : ∀ (c : Nat), (∀ post' : Int32 → Prop, post' (nI c) → (nI a ≤ x → (x ≤ nI b → post' x) ∧ (¬ x ≤ nI b → post' (nI b))) ∧ (¬ nI a ≤ x → post' (nI a))) → ∀ post' : Int32 → Prop, ∀ w : SY, post' (nI c) → wpY_clamp post' w x (nI a) (nI b) := by
    intro c h post' w hp
    obtain ⟨_, _, _, _, _, _, _, _, _, _, _, _, _, _, _, _, _, _, _, _, _, _, _, _, _, _, _, _, _, _⟩ := w
    exact h post' hp
  by_cases h1 : nI a ≤ x
  · by_cases h2 : x ≤ nI b
    · have h0 : ¬ x < 0 := fun z => nI_pos (n := a) (by omega) (Int32.lt_of_le_of_lt h1 z)
      obtain ⟨c, hc, rfl⟩ := nI_of h0
      have c1 := (nI_leI (by omega) hc).mp h1
      have c2 := (nI_leI hc (by omega)).mp h2
      exact br_t h1 (br_t h2 (K c c1 c2 (yy c (fun post' hp => br_t h1 (br_t h2 hp)))))
    · exact br_t h1 (br_f h2 (K b hab (Nat.le_refl _) (yy b (fun post' hp => br_t h1 (br_f h2 hp)))))
  · exact br_f h1 (K a (Nat.le_refl _) hab (yy a (fun post' hp => br_f h1 hp)))
theorem i_vc0 (k0 : Int32) (k1 : Int32) (k2 : Int32) (k3 : Int32) : wpX_init (fun u => wpY_init (fun v => i_Rel 4 u v) k0 k1 k2 k3) k0 k1 k2 k3 := by
  unfold wpX_init
  refine wi_cX (a := 1) (b := 8) k0 (by omega) (by omega) (fun L l1 l2 yL => ?_)
  refine wi_cX (a := 8) (b := 24) k1 (by omega) (by omega) (fun LL ll1 ll2 yLL => ?_)
  refine wi_cX (a := 1) (b := 4) k2 (by omega) (by omega) (fun T t1 t2 yT => ?_)
  refine wi_cX (a := 4) (b := 16) k3 (by omega) (by omega) (fun G g1 g2 yG => ?_)
  refine wi_X (fun sl rd wr mk h => ?_)
  unfold wpY_init
  refine yL _ _ (yLL _ _ (yT _ _ (yG _ _ ?_)))
  refine wi_Y (fun sl' rd' wr' mk' vs' h' _ => ?_)
  exact ⟨L, LL, T, G, 0, rfl, rfl, rfl, rfl, rfl, rfl, rfl, rfl, rfl, rfl, rfl, rfl, rfl, rfl, rfl, rfl, ⟨l1, l2, ll1, ll2, t1, t2, g1, g2, by omega⟩, fun i hi => absurd hi (Nat.not_lt_zero _), fun i hi => absurd hi (Nat.not_lt_zero _), Or.inl ⟨rfl, wi_U0⟩, ⟨fun _ _ => rfl, fun _ _ => rfl⟩, wi_P (by omega) h h'⟩
end
section
/-! adding a line: the pure side -/
def ad_D (k : Int32) : Int32 := if k = 12 then 0 else if k = 14 then 0 else if k = 15 then 0 else 1
def ad_A (k : Int32) : Int32 := if k < 3 then 0 else if 11 < k then 0 else 1
def ad_R (k : Int32) : Int32 := if k < 3 then 0 else if 8 < k then 0 else 1
def ad_I (k : Int32) : Int32 := if k = 1 then 1 else if k < 9 then 0 else if 11 < k then 0 else 1
def ad_ok (g x : Int32) : Prop := g = 0 ∨ (¬ x < 0 ∧ x < 8)
def ad_fit (k d a b : Int32) : Prop := ad_ok (ad_D k) d ∧ ad_ok (ad_A k) a ∧ ad_ok (ad_R k) b
def ad_in (bl : Nat → Int32) : Nat → Int32
  | 0 => -1
  | c + 1 => bl c
theorem ad_s {a b : Nat} (h : a = b - 1) (h0 : 0 < b) : b = a + 1 := by omega
theorem ad_8 {x : Int32} : x < 8 ↔ x ≤ 7 := by
  rw [Int32.lt_iff_toInt_lt, Int32.le_iff_toInt_le]
  have e1 : (8 : Int32).toInt = 8 := by decide
  have e2 : (7 : Int32).toInt = 7 := by decide
  omega
theorem ad_ok8 {x : Int32} (h0 : ¬ x < 0) (h : x < 8) : ∃ j, j < 8 ∧ x = nI j := by
  obtain ⟨j, hj, rfl⟩ := nI_of h0
  exact ⟨j, (nI_ltI (b := 8) hj (by decide)).mp h, rfl⟩
theorem ad_I_e {k : Int32} (h1 : 1 ≤ k) (h2 : k ≤ 19) : ad_I k = if k = 1 then 1 else if k = 9 then 1 else if k = 10 then 1 else if k = 11 then 1 else 0 := by
  obtain ⟨j, hj, rfl⟩ := nI_of2 (x := k) (M := 19) (n := 19) (by decide) (fun z => by
    rw [Int32.lt_iff_toInt_lt] at z
    rw [Int32.le_iff_toInt_le] at h1
    have e1 : (1 : Int32).toInt = 1 := by decide
    have e0 : (0 : Int32).toInt = 0 := by decide
    omega) h2
  have : ∀ j, j ≤ 19 → ad_I (nI j) = if nI j = 1 then 1 else if nI j = 9 then 1 else if nI j = 10 then 1 else if nI j = 11 then 1 else 0 := by decide +kernel
  exact this j hj
section
variable {kd bl bh : Nat → Int32} {n : Nat} {ot ol k : Int32}
theorem ad_c (j : Nat) (hj : j < n) : upd kd n k j = kd j := bs_un (by omega)
theorem ad_ln : ns_ln (upd kd n k) n = ns_ln kd n := ns_ln_c n (fun j hj => ad_c j hj)
theorem ad_lnx {x : Nat} (hx : x ≤ n) : ns_ln (upd kd n k) x = ns_ln kd x := ns_ln_c x (fun j hj => ad_c j (by omega))
theorem ad_OA {x : Nat} (h : ns_OA kd x n) (hl : ns_ln kd x < ns_ln (upd kd n k) (n + 1)) : ns_OA (upd kd n k) x (n + 1) := by
  have h' := ns_OA_c (kd' := upd kd n k) (fun j hj => ad_c j hj) h
  refine ⟨by have := h.1; omega, h'.2.1, fun j a b => ?_⟩
  by_cases e : j = n + 1
  · subst e
    rw [ad_lnx (by have := h.1; omega)]; exact hl
  · exact h'.2.2 j a (by omega)
theorem ad_EL {x el : Nat} (he : el < n) : ns_EL (upd kd n k) x el ↔ ns_EL kd x el :=
  ⟨fun h => ns_EL_c (fun j hj => (ad_c j (by omega)).symm) h, fun h => ns_EL_c (fun j hj => ad_c j (by omega)) h⟩
theorem ad_ELs {x : Nat} (h : k ≠ 14 ∨ ns_ln kd n ≠ ns_ln kd x + 1) (hx : x ≤ n) : (∃ el, el < n + 1 ∧ ns_EL (upd kd n k) x el) ↔ ∃ el, el < n ∧ ns_EL kd x el := by
  constructor
  · intro ⟨el, h1, h2⟩
    by_cases e : el = n
    · subst e
      exfalso
      rcases h with h | h
      · have := h2.2.1
        rw [bs_us] at this
        exact h this
      · have := h2.2.2
        rw [ad_ln, ad_lnx hx] at this
        exact h this
    · exact ⟨el, by omega, (ad_EL (by omega)).mp h2⟩
  · intro ⟨el, h1, h2⟩
    exact ⟨el, by omega, (ad_EL h1).mpr h2⟩
theorem ad_wc {bl' : Nat → Int32} (c : Nat) (h : ∀ l, l < c → bl' l = bl l ∧ ∃ x, bl l = nI x ∧ x < n) (hn : n < 2 ^ 31) : rl_wc (upd kd n k) bl' c = rl_wc kd bl c := by
  induction c with
  | zero => rfl
  | succ c ih =>
    obtain ⟨h1, x, h2, h3⟩ := h c (by omega)
    show rl_wc (upd kd n k) bl' c + (if upd kd n k (bl' c).toNatClampNeg = 16 then 1 else 0) = rl_wc kd bl c + (if kd (bl c).toNatClampNeg = 16 then 1 else 0)
    rw [ih (fun l hl => h l (by omega)), h1, h2, nI_clamp (by omega), ad_c x h3]
theorem ad_Uo (hn : n < 2 ^ 31) (h : rl_U n kd ot ol bl bh) (k1 : ¬ k = 13) (k2 : ¬ k = 16) (k3 : ¬ k = 14) (k4 : ¬ k = 15) : rl_U (n + 1) (upd kd n k) ot ol bl bh := by
  obtain ⟨h1, h2, h3⟩ := h
  have e : ns_ln (upd kd n k) (n + 1) = ns_ln kd n := by
    rw [ns_ln_o (ns_nop bs_us k1 k2) (by rw [bs_us]; exact k4), ad_ln]
  unfold rl_U
  rw [e, ad_wc (ns_ln kd n) (fun l hl => ⟨rfl, by obtain ⟨x, a, b, _⟩ := h3 l hl; exact ⟨x, a, b.1⟩⟩) hn]
  refine ⟨h1, h2, fun l hl => ?_⟩
  obtain ⟨x, a, b, c, d, f⟩ := h3 l hl
  have hx := b.1
  refine ⟨x, a, ad_OA b (by omega), by rw [ad_lnx (by omega)]; exact c, d, f.trans (ad_ELs (Or.inl k3) (by omega)).symm⟩
theorem ad_Up (hn : n < 2 ^ 31) (h : rl_U n kd ot ol bl bh) (hk : k = 13 ∨ k = 16) : rl_U (n + 1) (upd kd n k) (nI (ns_ln kd n + 1)) (nI (rl_wc kd bl (ns_ln kd n) + if k = 16 then 1 else 0)) (upd bl (ns_ln kd n) (nI n)) (upd bh (ns_ln kd n) 0) := by
  obtain ⟨h1, h2, h3⟩ := h
  have hop : ns_Op (upd kd n k) n := by
    unfold ns_Op
    rw [bs_us]; exact hk
  have e : ns_ln (upd kd n k) (n + 1) = ns_ln kd n + 1 := by rw [ns_ln_op hop, ad_ln]
  have k14 : k ≠ 14 := by
    intro z
    rcases hk with q | q <;> exact absurd (q.symm.trans z) (by decide)
  unfold rl_U
  rw [e]
  refine ⟨rfl, ?_, fun l hl => ?_⟩
  · congr 1
    show _ = rl_wc (upd kd n k) (upd bl (ns_ln kd n) (nI n)) (ns_ln kd n) + (if upd kd n k (upd bl (ns_ln kd n) (nI n) (ns_ln kd n)).toNatClampNeg = 16 then 1 else 0)
    rw [bs_us, nI_clamp hn, bs_us, ad_wc (ns_ln kd n) (fun l hl => ⟨bs_un (by omega), by obtain ⟨x, a, b, _⟩ := h3 l hl; exact ⟨x, a, b.1⟩⟩) hn]
  · by_cases c : l = ns_ln kd n
    · subst c
      refine ⟨n, bs_us, ⟨by omega, hop, fun j a b => ?_⟩, ad_ln, Or.inl bs_us, ?_⟩
      · have : j = n + 1 := by omega
        subst this
        rw [e, ad_ln]; omega
      · rw [bs_us]
        refine ⟨fun z => absurd z.symm bs_10, fun ⟨el, z1, z2⟩ => ?_⟩
        have := z2.1.1
        omega
    · obtain ⟨x, a, b, c', d, f⟩ := h3 l (by omega)
      have hx := b.1
      rw [bs_un c, bs_un c]
      exact ⟨x, a, ad_OA b (by omega), by rw [ad_lnx (by omega)]; exact c', d, f.trans (ad_ELs (Or.inl k14) (by omega)).symm⟩
theorem ad_Ue (hn : n < 2 ^ 31) (h : rl_U n kd ot ol bl bh) (hk : k = 14) (hl0 : 0 < ns_ln kd n) : rl_U (n + 1) (upd kd n k) ot ol bl (upd bh (ns_ln kd n - 1) 1) := by
  obtain ⟨h1, h2, h3⟩ := h
  have e : ns_ln (upd kd n k) (n + 1) = ns_ln kd n := by
    rw [ns_ln_o (ns_nop (bs_us.trans hk) ns_k9 ns_k10) (by rw [bs_us, hk]; exact ns_k11), ad_ln]
  unfold rl_U
  rw [e, ad_wc (ns_ln kd n) (fun l hl => ⟨rfl, by obtain ⟨x, a, b, _⟩ := h3 l hl; exact ⟨x, a, b.1⟩⟩) hn]
  refine ⟨h1, h2, fun l hl => ?_⟩
  obtain ⟨x, a, b, c, d, f⟩ := h3 l hl
  have hx := b.1
  by_cases c' : l = ns_ln kd n - 1
  · rw [← c', bs_us]
    refine ⟨x, a, ad_OA b (by omega), by rw [ad_lnx (by omega)]; exact c, Or.inr rfl, fun _ => ⟨n, by omega, ns_OA_c (fun j hj => ad_c j hj) b, bs_us.trans hk, ?_⟩, fun _ => rfl⟩
    rw [ad_ln, ad_lnx (by omega)]
    omega
  · rw [bs_un c']
    exact ⟨x, a, ad_OA b (by omega), by rw [ad_lnx (by omega)]; exact c, d, f.trans (ad_ELs (Or.inr (by omega)) (by omega)).symm⟩
theorem ad_Un (hn : n < 2 ^ 31) (h : rl_U n kd ot ol bl bh) (hk : k = 15) (hl0 : 0 < ns_ln kd n) : rl_U (n + 1) (upd kd n k) (nI (ns_ln kd n - 1)) (nI (rl_wc kd bl (ns_ln kd n - 1))) bl bh := by
  obtain ⟨h1, h2, h3⟩ := h
  have e : ns_ln (upd kd n k) (n + 1) = ns_ln kd n - 1 := by
    rw [ns_ln_cl (bs_us.trans hk), ad_ln]
  unfold rl_U
  rw [e, ad_wc (ns_ln kd n - 1) (fun l hl => ⟨rfl, by obtain ⟨x, a, b, _⟩ := h3 l (by omega); exact ⟨x, a, b.1⟩⟩) hn]
  refine ⟨rfl, rfl, fun l hl => ?_⟩
  obtain ⟨x, a, b, c, d, f⟩ := h3 l (by omega)
  have hx := b.1
  exact ⟨x, a, ad_OA b (by omega), by rw [ad_lnx (by omega)]; exact c, d, f.trans (ad_ELs (Or.inl (by rw [hk]; decide)) (by omega)).symm⟩
theorem ad_wcs (c : Nat) : rl_wc kd bl (c + 1) = rl_wc kd bl c + (if kd (bl c).toNatClampNeg = 16 then 1 else 0) := rfl
theorem ad_wc1 {c l : Nat} (hl : l < c) (h : kd (bl l).toNatClampNeg = 16) : 0 < rl_wc kd bl c := by
  induction c with
  | zero => omega
  | succ c ih =>
    rw [ad_wcs]
    by_cases e : l = c
    · subst e
      rw [if_pos h]; omega
    · have := ih (by omega); omega
theorem ad_wc2 {c l l' : Nat} (hl : l < l') (hl' : l' < c) (h : kd (bl l).toNatClampNeg = 16) (h' : kd (bl l').toNatClampNeg = 16) : 1 < rl_wc kd bl c := by
  induction c with
  | zero => omega
  | succ c ih =>
    rw [ad_wcs]
    by_cases e : l' = c
    · subst e
      have := ad_wc1 hl h
      rw [if_pos h']; omega
    · have := ih (by omega); omega
theorem ad_wc0 {c : Nat} (h : 0 < rl_wc kd bl c) : ∃ l, l < c ∧ kd (bl l).toNatClampNeg = 16 := by
  induction c with
  | zero => exact absurd h (Nat.lt_irrefl 0)
  | succ c ih =>
    rw [ad_wcs] at h
    by_cases e : kd (bl c).toNatClampNeg = 16
    · exact ⟨c, by omega, e⟩
    · rw [if_neg e] at h
      obtain ⟨l, h1, h2⟩ := ih (by omega)
      exact ⟨l, by omega, h2⟩
theorem ad_wcle (c : Nat) : rl_wc kd bl c ≤ c := by
  induction c with
  | zero => exact Nat.le_refl 0
  | succ c ih =>
    rw [ad_wcs]
    split <;> omega
theorem ad_ln5 (hw : ns_WF kd n) : ∀ m, m ≤ n → ns_ln kd m ≤ 5 := by
  intro m
  induction m with
  | zero => intro _; exact Nat.zero_le _
  | succ m ih =>
    intro hm
    have h1 := ih (by omega)
    by_cases c : ns_Op kd m
    · have := (hw m (by omega)).2.2.2.2.1 c
      rw [ns_ln_op c]; omega
    · by_cases c2 : kd m = 15
      · rw [ns_ln_cl c2]; omega
      · rw [ns_ln_o c c2]; omega
theorem ad_bl (h : rl_U n kd ot ol bl bh) {x : Nat} (hx : ns_OA kd x n) : ns_ln kd x < ns_ln kd n ∧ bl (ns_ln kd x) = nI x := by
  have h1 := hx.2.2 n hx.1 (Nat.le_refl _)
  obtain ⟨y, a, b, c, _⟩ := h.2.2 _ h1
  have := ns_OA_u b hx c
  subst this
  exact ⟨h1, a⟩
/-- the new line keeps the kernel well formed -/
theorem ad_WF (hn : n < 2 ^ 31) (hw : ns_WF kd n) (hU : rl_U n kd ot ol bl bh) (k1 : 1 ≤ k) (k2 : k ≤ 19)
    (h14 : k = 14 → ∃ x, x < n ∧ bl (ns_ln kd n - 1) = nI x ∧ 0 < ns_ln kd n ∧ kd x = 13 ∧ bh (ns_ln kd n - 1) = 0) (h15 : k = 15 → 0 < ns_ln kd n) (h17 : k = 17 ∨ k = 18 → 0 < rl_wc kd bl (ns_ln kd n)) (h5 : k = 13 ∨ k = 16 → ns_ln kd n < 5) (h16 : k = 16 → rl_wc kd bl (ns_ln kd n) < 2) :
    ns_WF (upd kd n k) (n + 1) := by
  intro i hi
  by_cases e : i = n
  · subst e
    have hc : ∀ j, j < i → upd kd i k j = kd j := fun j hj => ad_c j hj
    have hc' : ∀ j, j < i → kd j = upd kd i k j := fun j hj => (ad_c j hj).symm
    refine ⟨by rw [bs_us]; exact ⟨k1, k2⟩, ?_, ?_, ?_, ?_, ?_⟩
    · rw [bs_us, ad_ln]
      intro z
      obtain ⟨x, a0, a1, a2, a3, a4⟩ := h14 z
      obtain ⟨y, b1, b2, b3, b4, b5⟩ := hU.2.2 (ns_ln kd i - 1) (by omega)
      have hy := b2.1
      have : x = y := bs_inj (by omega) (by omega) (a1.symm.trans b1)
      subst this
      refine ⟨x, ns_OA_c hc b2, by rw [ad_lnx (Nat.le_of_lt hy)]; exact ad_s b3 a2, (hc x hy).trans a3, fun el hel z' => ?_⟩
      have := b5.mpr ⟨el, hel, (ad_EL hel).mp z'⟩
      rw [a4] at this
      exact bs_10 this.symm
    · rw [bs_us, ad_ln]; exact h15
    · rw [bs_us]
      intro z
      obtain ⟨l, l1, l2⟩ := ad_wc0 (h17 z)
      obtain ⟨y, b1, b2, b3, b4, b5⟩ := hU.2.2 l l1
      have hy := b2.1
      rw [b1, nI_clamp (by omega)] at l2
      exact ⟨y, ns_OA_c hc b2, (hc y hy).trans l2⟩
    · rw [ad_ln]
      intro z
      apply h5
      unfold ns_Op at z
      rwa [bs_us] at z
    · rw [bs_us]
      intro z w1 w2 h o1 o2 q1 q2
      have p1 := ns_OA_c hc' o1
      have p2 := ns_OA_c hc' o2
      obtain ⟨l1, e1⟩ := ad_bl hU p1
      obtain ⟨l2, e2⟩ := ad_bl hU p2
      have hlt := ns_OA_lt p1 p2 h
      have := ad_wc2 (kd := kd) (bl := bl) hlt l2 (by rw [e1, nI_clamp (by have := p1.1; omega)]; exact (hc' w1 p1.1).trans q1) (by rw [e2, nI_clamp (by have := p2.1; omega)]; exact (hc' w2 p2.1).trans q2)
      have := h16 z
      omega
  · exact ns_WF1_c (fun j hj => ad_c j (by omega)) (hw i (by omega))
end
end
section
/-! add: the walks -/
def xa_pk (g x : Int32) : Int32 := if g = 0 then 0 else x
def xa_pb (r i x : Int32) : Int32 := if r = 0 then (if i = 0 then 0 else x) else x
def xa_CN (n : Nat) (kd bl bh : Nat → Int32) (k : Int32) : Prop :=
  (k = 14 → ∃ x, x < n ∧ bl (ns_ln kd n - 1) = nI x ∧ 0 < ns_ln kd n ∧ kd x = 13 ∧ bh (ns_ln kd n - 1) = 0) ∧ (k = 15 → 0 < ns_ln kd n) ∧ (k = 17 ∨ k = 18 → 0 < rl_wc kd bl (ns_ln kd n)) ∧ (k = 13 ∨ k = 16 → ns_ln kd n < 5) ∧ (k = 16 → rl_wc kd bl (ns_ln kd n) < 2)
section
variable {f_laneTotal f_lineLimit f_tripLimit f_logLimit f_count f_isSealed f_openTotal f_openLoops f_alive f_depth f_clash : Int32} {a_kinds a_fieldD a_fieldA a_fieldB a_blockLine a_blockHasElse a_opener a_elseOf a_endOf a_wayNonzero a_wayZero a_postDom a_rejoinOf a_regs a_cells a_work a_stored a_tripCount a_stackPlace a_stackMask a_stackRejoin a_stopLine a_reads a_writes a_marks a_logLine a_logMask : Nat → Int32} {k d a b : Int32}
theorem xa_D {post : Int32 → Prop} (h : post (ad_D k)) : wpX_usesD post (f_laneTotal, f_lineLimit, f_tripLimit, f_logLimit, f_count, f_isSealed, f_openTotal, f_openLoops, f_alive, f_depth, f_clash, a_kinds, a_fieldD, a_fieldA, a_fieldB, a_blockLine, a_blockHasElse, a_opener, a_elseOf, a_endOf, a_wayNonzero, a_wayZero, a_postDom, a_rejoinOf, a_regs, a_cells, a_work, a_stored, a_tripCount, a_stackPlace, a_stackMask, a_stackRejoin, a_stopLine, a_reads, a_writes, a_marks, a_logLine, a_logMask) k := by
  unfold wpX_usesD
  dsimp only
  unfold ad_D at h
  refine br_c (fun c => ?_) (fun c => br_c (fun c2 => ?_) (fun c2 => br_c (fun c3 => ?_) (fun c3 => ?_)))
  · rwa [if_pos c] at h
  · rwa [if_neg c, if_pos c2] at h
  · rwa [if_neg c, if_neg c2, if_pos c3] at h
  · rwa [if_neg c, if_neg c2, if_neg c3] at h
theorem xa_A {post : Int32 → Prop} (h : post (ad_A k)) : wpX_usesA post (f_laneTotal, f_lineLimit, f_tripLimit, f_logLimit, f_count, f_isSealed, f_openTotal, f_openLoops, f_alive, f_depth, f_clash, a_kinds, a_fieldD, a_fieldA, a_fieldB, a_blockLine, a_blockHasElse, a_opener, a_elseOf, a_endOf, a_wayNonzero, a_wayZero, a_postDom, a_rejoinOf, a_regs, a_cells, a_work, a_stored, a_tripCount, a_stackPlace, a_stackMask, a_stackRejoin, a_stopLine, a_reads, a_writes, a_marks, a_logLine, a_logMask) k := by
  unfold wpX_usesA
  dsimp only
  unfold ad_A at h
  refine br_c (fun c => ?_) (fun c => br_c (fun c2 => ?_) (fun c2 => ?_))
  · rwa [if_pos c] at h
  · rwa [if_neg c, if_pos c2] at h
  · rwa [if_neg c, if_neg c2] at h
theorem xa_R {post : Int32 → Prop} (h : post (ad_R k)) : wpX_usesRegB post (f_laneTotal, f_lineLimit, f_tripLimit, f_logLimit, f_count, f_isSealed, f_openTotal, f_openLoops, f_alive, f_depth, f_clash, a_kinds, a_fieldD, a_fieldA, a_fieldB, a_blockLine, a_blockHasElse, a_opener, a_elseOf, a_endOf, a_wayNonzero, a_wayZero, a_postDom, a_rejoinOf, a_regs, a_cells, a_work, a_stored, a_tripCount, a_stackPlace, a_stackMask, a_stackRejoin, a_stopLine, a_reads, a_writes, a_marks, a_logLine, a_logMask) k := by
  unfold wpX_usesRegB
  dsimp only
  unfold ad_R at h
  refine br_c (fun c => ?_) (fun c => br_c (fun c2 => ?_) (fun c2 => ?_))
  · rwa [if_pos c] at h
  · rwa [if_neg c, if_pos c2] at h
  · rwa [if_neg c, if_neg c2] at h
theorem xa_I {post : Int32 → Prop} (h : post (ad_I k)) : wpX_usesImmB post (f_laneTotal, f_lineLimit, f_tripLimit, f_logLimit, f_count, f_isSealed, f_openTotal, f_openLoops, f_alive, f_depth, f_clash, a_kinds, a_fieldD, a_fieldA, a_fieldB, a_blockLine, a_blockHasElse, a_opener, a_elseOf, a_endOf, a_wayNonzero, a_wayZero, a_postDom, a_rejoinOf, a_regs, a_cells, a_work, a_stored, a_tripCount, a_stackPlace, a_stackMask, a_stackRejoin, a_stopLine, a_reads, a_writes, a_marks, a_logLine, a_logMask) k := by
  unfold wpX_usesImmB
  dsimp only
  unfold ad_I at h
  refine br_c (fun c => ?_) (fun c => br_c (fun c2 => ?_) (fun c2 => br_c (fun c3 => ?_) (fun c3 => ?_)))
  · rwa [if_pos c] at h
  · rwa [if_neg c, if_pos c2] at h
  · rwa [if_neg c, if_neg c2, if_pos c3] at h
  · rwa [if_neg c, if_neg c2, if_neg c3] at h
theorem xa_nle {x y : Int32} (h : ¬ y ≤ x) : x < y := Int32.not_le.mp h
theorem xa_40 {post : Int32 → Prop} (h1 : ad_ok (ad_R k) b → post 1) (h0 : ¬ ad_ok (ad_R k) b → post 0) : wX_fieldsFit_40 post k b f_laneTotal f_lineLimit f_tripLimit f_logLimit f_count f_isSealed f_openTotal f_openLoops f_alive f_depth f_clash a_kinds a_fieldD a_fieldA a_fieldB a_blockLine a_blockHasElse a_opener a_elseOf a_endOf a_wayNonzero a_wayZero a_postDom a_rejoinOf a_regs a_cells a_work a_stored a_tripCount a_stackPlace a_stackMask a_stackRejoin a_stopLine a_reads a_writes a_marks a_logLine a_logMask := by
  unfold wX_fieldsFit_40
  refine xa_R (br_c (fun c => h1 (Or.inl c)) (fun c => br_c (fun e => h0 (fun z => ?_)) (fun e => br_c (fun g => h0 (fun z => ?_)) (fun g => h1 (Or.inr ⟨e, xa_nle g⟩)))))
  · rcases z with z | z
    · exact c z
    · exact z.1 e
  · rcases z with z | z
    · exact c z
    · exact absurd z.2 (Int32.not_lt.mpr g)
theorem xa_fit {post : Int32 → Prop} (h1 : ad_fit k d a b → post 1) (h0 : ¬ ad_fit k d a b → post 0) : wpX_fieldsFit post (f_laneTotal, f_lineLimit, f_tripLimit, f_logLimit, f_count, f_isSealed, f_openTotal, f_openLoops, f_alive, f_depth, f_clash, a_kinds, a_fieldD, a_fieldA, a_fieldB, a_blockLine, a_blockHasElse, a_opener, a_elseOf, a_endOf, a_wayNonzero, a_wayZero, a_postDom, a_rejoinOf, a_regs, a_cells, a_work, a_stored, a_tripCount, a_stackPlace, a_stackMask, a_stackRejoin, a_stopLine, a_reads, a_writes, a_marks, a_logLine, a_logMask) k d a b := by
  have s20 : ad_ok (ad_D k) d → wX_fieldsFit_20 post k a b f_laneTotal f_lineLimit f_tripLimit f_logLimit f_count f_isSealed f_openTotal f_openLoops f_alive f_depth f_clash a_kinds a_fieldD a_fieldA a_fieldB a_blockLine a_blockHasElse a_opener a_elseOf a_endOf a_wayNonzero a_wayZero a_postDom a_rejoinOf a_regs a_cells a_work a_stored a_tripCount a_stackPlace a_stackMask a_stackRejoin a_stopLine a_reads a_writes a_marks a_logLine a_logMask := by
    intro hd
    unfold wX_fieldsFit_20
    have s40 : ad_ok (ad_A k) a → wX_fieldsFit_40 post k b f_laneTotal f_lineLimit f_tripLimit f_logLimit f_count f_isSealed f_openTotal f_openLoops f_alive f_depth f_clash a_kinds a_fieldD a_fieldA a_fieldB a_blockLine a_blockHasElse a_opener a_elseOf a_endOf a_wayNonzero a_wayZero a_postDom a_rejoinOf a_regs a_cells a_work a_stored a_tripCount a_stackPlace a_stackMask a_stackRejoin a_stopLine a_reads a_writes a_marks a_logLine a_logMask := fun ha => xa_40 (fun hb => h1 ⟨hd, ha, hb⟩) (fun hb => h0 (fun z => hb z.2.2))
    refine xa_A (br_c (fun c => s40 (Or.inl c)) (fun c => br_c (fun e => h0 (fun z => ?_)) (fun e => br_c (fun g => s40 (Or.inr ⟨e, g⟩)) (fun g => h0 (fun z => ?_)))))
    · rcases z.2.1 with z | z
      · exact c z
      · exact z.1 e
    · rcases z.2.1 with z | z
      · exact c z
      · exact g z.2
  unfold wpX_fieldsFit
  dsimp only
  refine xa_D (br_c (fun c => s20 (Or.inl c)) (fun c => br_c (fun e => h0 (fun z => ?_)) (fun e => br_c (fun g => s20 (Or.inr ⟨e, g⟩)) (fun g => h0 (fun z => ?_)))))
  · rcases z.1 with z | z
    · exact c z
    · exact z.1 e
  · rcases z.1 with z | z
    · exact c z
    · exact g z.2
theorem xa_t12 {post : SX → Prop} {n : Nat} {kd : Nat → Int32} (hn : n < 24) (hk : k = 13 ∨ k = 16) (h5 : ns_ln kd n < 5) (hU : rl_U n kd f_openTotal f_openLoops a_blockLine a_blockHasElse)
    (K : ∀ ot ol bl bh, rl_U (n + 1) (upd kd n k) ot ol bl bh → post (f_laneTotal, f_lineLimit, f_tripLimit, f_logLimit, nI n, f_isSealed, ot, ol, f_alive, f_depth, f_clash, a_kinds, a_fieldD, a_fieldA, a_fieldB, bl, bh, a_opener, a_elseOf, a_endOf, a_wayNonzero, a_wayZero, a_postDom, a_rejoinOf, a_regs, a_cells, a_work, a_stored, a_tripCount, a_stackPlace, a_stackMask, a_stackRejoin, a_stopLine, a_reads, a_writes, a_marks, a_logLine, a_logMask)) : wX_trackBlocks_12 post k f_laneTotal f_lineLimit f_tripLimit f_logLimit (nI n) f_isSealed f_openTotal f_openLoops f_alive f_depth f_clash a_kinds a_fieldD a_fieldA a_fieldB a_blockLine a_blockHasElse a_opener a_elseOf a_endOf a_wayNonzero a_wayZero a_postDom a_rejoinOf a_regs a_cells a_work a_stored a_tripCount a_stackPlace a_stackMask a_stackRejoin a_stopLine a_reads a_writes a_marks a_logLine a_logMask := by
  have hU2 := ad_Up (by omega) hU hk
  have hU' := hU
  obtain ⟨e1, e2, e3⟩ := hU'
  subst e1
  have c : (nI (ns_ln kd n)).toNatClampNeg = ns_ln kd n := nI_clamp (by omega)
  have v : vp_in (nI (ns_ln kd n)) 5 := vp_in_nI h5 (by decide)
  unfold wX_trackBlocks_12
  rw [c, bs_vb0]
  refine ⟨v, nm_e ⟨v, nm_e (nm_r (nI_1 _) (br_c (fun h => ?_) (fun h => ?_)))⟩⟩
  · rw [if_pos h] at hU2
    refine nm_r (e' := nI (rl_wc kd a_blockLine (ns_ln kd n) + 1)) (by rw [e2, nI_1]) (K _ _ _ _ hU2)
  · rw [if_neg h, Nat.add_zero (rl_wc kd a_blockLine (ns_ln kd n)), ← e2] at hU2
    exact K _ _ _ _ hU2
theorem xa_tr {post : SX → Prop} {n : Nat} {kd : Nat → Int32} (hn : n < 24) (hw : ns_WF kd n) (hU : rl_U n kd f_openTotal f_openLoops a_blockLine a_blockHasElse) (hC : xa_CN n kd a_blockLine a_blockHasElse k)
    (K : ∀ ot ol bl bh, rl_U (n + 1) (upd kd n k) ot ol bl bh → post (f_laneTotal, f_lineLimit, f_tripLimit, f_logLimit, nI n, f_isSealed, ot, ol, f_alive, f_depth, f_clash, upd kd n k, a_fieldD, a_fieldA, a_fieldB, bl, bh, a_opener, a_elseOf, a_endOf, a_wayNonzero, a_wayZero, a_postDom, a_rejoinOf, a_regs, a_cells, a_work, a_stored, a_tripCount, a_stackPlace, a_stackMask, a_stackRejoin, a_stopLine, a_reads, a_writes, a_marks, a_logLine, a_logMask)) : wpX_trackBlocks post (f_laneTotal, f_lineLimit, f_tripLimit, f_logLimit, nI n, f_isSealed, f_openTotal, f_openLoops, f_alive, f_depth, f_clash, upd kd n k, a_fieldD, a_fieldA, a_fieldB, a_blockLine, a_blockHasElse, a_opener, a_elseOf, a_endOf, a_wayNonzero, a_wayZero, a_postDom, a_rejoinOf, a_regs, a_cells, a_work, a_stored, a_tripCount, a_stackPlace, a_stackMask, a_stackRejoin, a_stopLine, a_reads, a_writes, a_marks, a_logLine, a_logMask) k := by
  obtain ⟨c14, c15, c17, c5, c16⟩ := hC
  have l5 := ad_ln5 hw n (Nat.le_refl _)
  unfold wpX_trackBlocks
  dsimp only
  refine br_c (fun h => xa_t12 hn (Or.inl h) (c5 (Or.inl h)) hU K) (fun h13 => br_c (fun h => xa_t12 hn (Or.inr h) (c5 (Or.inr h)) hU K) (fun h16 => br_c (fun h14 => ?_) (fun h14 => br_c (fun h15 => ?_) (fun h15 => ?_))))
  · obtain ⟨x, x1, x2, x3, x4, x5⟩ := c14 h14
    have hU2 := ad_Ue (by omega) hU h14 x3
    have e1 := hU.1
    have c : (f_openTotal - 1).toNatClampNeg = ns_ln kd n - 1 := by rw [e1, bs_s x3, nI_clamp (by omega)]
    have v : vp_in (f_openTotal - 1) 5 := by rw [e1, bs_s x3]; exact vp_in_nI (by omega) (by decide)
    rw [c, bs_vb1]
    exact ⟨v, nm_e (K _ _ _ _ hU2)⟩
  · have l0 := c15 h15
    have hU2 := ad_Un (by omega) hU h15 l0
    obtain ⟨e1, e2, e3⟩ := hU
    obtain ⟨x, x1, x2, x3, _⟩ := e3 (ns_ln kd n - 1) (by omega)
    have hx := x2.1
    have c : (nI (ns_ln kd n - 1)).toNatClampNeg = ns_ln kd n - 1 := nI_clamp (by omega)
    refine nm_r (e' := nI (ns_ln kd n - 1)) (by rw [e1, bs_s l0]) ⟨vp_in_nI (by omega) (by decide), ?_⟩
    rw [c, x1, nI_clamp (by omega), ad_c x hx]
    have ew : rl_wc kd a_blockLine (ns_ln kd n) = rl_wc kd a_blockLine (ns_ln kd n - 1) + (if kd x = 16 then 1 else 0) := by
      have q := ad_wcs (kd := kd) (bl := a_blockLine) (ns_ln kd n - 1)
      rw [Nat.sub_add_cancel l0, x1, nI_clamp (by omega)] at q
      exact q
    refine ⟨vp_in_nI (by omega) (by decide), br_c (fun h => ?_) (fun h => ?_)⟩
    · rw [if_pos h] at ew
      refine nm_r (e' := nI (rl_wc kd a_blockLine (ns_ln kd n - 1))) (by rw [e2, ew, nI_pred]) (K _ _ _ _ hU2)
    · rw [if_neg h, Nat.add_zero] at ew
      rw [← ew, ← e2] at hU2
      exact K _ _ _ _ hU2
  · exact K _ _ _ _ (ad_Uo (by omega) hU h13 h16 h14 h15)
theorem xa_put {post : Int32 → SX → Prop} {n : Nat} (hn : n < 24) (hw : ns_WF a_kinds n) (hU : rl_U n a_kinds f_openTotal f_openLoops a_blockLine a_blockHasElse) (hC : xa_CN n a_kinds a_blockLine a_blockHasElse k)
    (K : ∀ ot ol bl bh, rl_U (n + 1) (upd a_kinds n k) ot ol bl bh → post 0 (f_laneTotal, f_lineLimit, f_tripLimit, f_logLimit, nI (n + 1), f_isSealed, ot, ol, f_alive, f_depth, f_clash, upd a_kinds n k, upd a_fieldD n (xa_pk (ad_D k) d), upd a_fieldA n (xa_pk (ad_A k) a), upd a_fieldB n (xa_pb (ad_R k) (ad_I k) b), bl, bh, a_opener, a_elseOf, a_endOf, a_wayNonzero, a_wayZero, a_postDom, a_rejoinOf, a_regs, a_cells, a_work, a_stored, a_tripCount, a_stackPlace, a_stackMask, a_stackRejoin, a_stopLine, a_reads, a_writes, a_marks, a_logLine, a_logMask)) :
    wpX_usesD (fun r => ((r = 0 → wX_add_95 post k a b 0 (nI n) f_laneTotal f_lineLimit f_tripLimit f_logLimit (nI n) f_isSealed f_openTotal f_openLoops f_alive f_depth f_clash (upd a_kinds n k) a_fieldD a_fieldA a_fieldB a_blockLine a_blockHasElse a_opener a_elseOf a_endOf a_wayNonzero a_wayZero a_postDom a_rejoinOf a_regs a_cells a_work a_stored a_tripCount a_stackPlace a_stackMask a_stackRejoin a_stopLine a_reads a_writes a_marks a_logLine a_logMask) ∧ (¬ r = 0 → wX_add_95 post k a b d (nI n) f_laneTotal f_lineLimit f_tripLimit f_logLimit (nI n) f_isSealed f_openTotal f_openLoops f_alive f_depth f_clash (upd a_kinds n k) a_fieldD a_fieldA a_fieldB a_blockLine a_blockHasElse a_opener a_elseOf a_endOf a_wayNonzero a_wayZero a_postDom a_rejoinOf a_regs a_cells a_work a_stored a_tripCount a_stackPlace a_stackMask a_stackRejoin a_stopLine a_reads a_writes a_marks a_logLine a_logMask))) (f_laneTotal, f_lineLimit, f_tripLimit, f_logLimit, nI n, f_isSealed, f_openTotal, f_openLoops, f_alive, f_depth, f_clash, upd a_kinds n k, a_fieldD, a_fieldA, a_fieldB, a_blockLine, a_blockHasElse, a_opener, a_elseOf, a_endOf, a_wayNonzero, a_wayZero, a_postDom, a_rejoinOf, a_regs, a_cells, a_work, a_stored, a_tripCount, a_stackPlace, a_stackMask, a_stackRejoin, a_stopLine, a_reads, a_writes, a_marks, a_logLine, a_logMask) k := by
  have v : vp_in (nI n) 24 := vp_in_nI hn (by decide)
  have c : (nI n).toNatClampNeg = n := nI_clamp (by omega)
  have s160 : ∀ (fD fA : Nat → Int32) (z : Int32), fD = upd a_fieldD n (xa_pk (ad_D k) d) → fA = upd a_fieldA n (xa_pk (ad_A k) a) → z = xa_pb (ad_R k) (ad_I k) b → wX_add_160 post k z (nI n) f_laneTotal f_lineLimit f_tripLimit f_logLimit (nI n) f_isSealed f_openTotal f_openLoops f_alive f_depth f_clash (upd a_kinds n k) fD fA a_fieldB a_blockLine a_blockHasElse a_opener a_elseOf a_endOf a_wayNonzero a_wayZero a_postDom a_rejoinOf a_regs a_cells a_work a_stored a_tripCount a_stackPlace a_stackMask a_stackRejoin a_stopLine a_reads a_writes a_marks a_logLine a_logMask := by
    intro fD fA z eD eA ez
    subst eD eA ez
    unfold wX_add_160
    rw [c]
    refine ⟨v, nm_e (xa_tr hn hw hU hC (fun ot ol bl bh h => nm_r (nI_1 n) (K ot ol bl bh h)))⟩
  have s117 : ∀ (fD : Nat → Int32) (z : Int32), fD = upd a_fieldD n (xa_pk (ad_D k) d) → z = xa_pk (ad_A k) a → wX_add_117 post k b z (nI n) f_laneTotal f_lineLimit f_tripLimit f_logLimit (nI n) f_isSealed f_openTotal f_openLoops f_alive f_depth f_clash (upd a_kinds n k) fD a_fieldA a_fieldB a_blockLine a_blockHasElse a_opener a_elseOf a_endOf a_wayNonzero a_wayZero a_postDom a_rejoinOf a_regs a_cells a_work a_stored a_tripCount a_stackPlace a_stackMask a_stackRejoin a_stopLine a_reads a_writes a_marks a_logLine a_logMask := by
    intro fD z eD ez
    subst ez
    unfold wX_add_117
    rw [c]
    refine ⟨v, nm_e (xa_R (br_c (fun h1 => xa_I (br_c (fun h2 => ?_) (fun h2 => ?_))) (fun h1 => ?_)))⟩
    · unfold wX_add_139
      exact br_t rfl (s160 _ _ _ eD rfl (by unfold xa_pb; rw [if_pos h1, if_pos h2]))
    · unfold wX_add_134 wX_add_139
      exact br_f bs_10 (s160 _ _ _ eD rfl (by unfold xa_pb; rw [if_pos h1, if_neg h2]))
    · unfold wX_add_134 wX_add_139
      exact br_f bs_10 (s160 _ _ _ eD rfl (by unfold xa_pb; rw [if_neg h1]))
  have s95 : ∀ (z : Int32), z = xa_pk (ad_D k) d → wX_add_95 post k a b z (nI n) f_laneTotal f_lineLimit f_tripLimit f_logLimit (nI n) f_isSealed f_openTotal f_openLoops f_alive f_depth f_clash (upd a_kinds n k) a_fieldD a_fieldA a_fieldB a_blockLine a_blockHasElse a_opener a_elseOf a_endOf a_wayNonzero a_wayZero a_postDom a_rejoinOf a_regs a_cells a_work a_stored a_tripCount a_stackPlace a_stackMask a_stackRejoin a_stopLine a_reads a_writes a_marks a_logLine a_logMask := by
    intro z ez
    subst ez
    unfold wX_add_95
    rw [c]
    refine ⟨v, nm_e (xa_A (br_c (fun h => ?_) (fun h => ?_)))⟩
    · exact s117 _ _ rfl (by unfold xa_pk; rw [if_pos h])
    · exact s117 _ _ rfl (by unfold xa_pk; rw [if_neg h])
  exact xa_D (br_c (fun h => s95 _ (by unfold xa_pk; rw [if_pos h])) (fun h => s95 _ (by unfold xa_pk; rw [if_neg h])))
end
end
section
/-! add and openBlocks: the reference -/
theorem ya_j {kd : Nat → Int32} {n i c : Nat} (hi : i ≤ n) (h1 : ∀ j, i ≤ j → j ≤ n → c ≤ ns_ln kd j) (h : i = n) (h2 : ∃ j, i ≤ j ∧ j ≤ n ∧ ns_ln kd j = c) : c = ns_ln kd n := by
  obtain ⟨j, a, b, e⟩ := h2
  have : j = n := by omega
  subst this
  exact e.symm
theorem ya_c1 {kd : Nat → Int32} {n i c : Nat} (hi : i < n) (hop : ¬ ns_Op kd i) (h1 : ∀ j, i ≤ j → j ≤ n → c ≤ ns_ln kd j) (h2 : ∃ j, i ≤ j ∧ j ≤ n ∧ ns_ln kd j = c) : ∃ j, i + 1 ≤ j ∧ j ≤ n ∧ ns_ln kd j = c := by
  obtain ⟨j, a, b, e⟩ := h2
  by_cases z : j = i
  · subst z
    have q1 := h1 (j + 1) (by omega) (by omega)
    have q2 : ¬ ns_ln kd j < ns_ln kd (j + 1) := fun w => hop (ns_rise w)
    exact ⟨j + 1, by omega, by omega, by omega⟩
  · exact ⟨j, by omega, b, e⟩
theorem ya_c2 {kd : Nat → Int32} {n i c e0 : Nat} (he : e0 < n) (hE : ns_EN kd i e0) (h2 : ∃ j, i ≤ j ∧ j ≤ n ∧ ns_ln kd j = c) : ∃ j, i + 1 ≤ j ∧ j ≤ n ∧ ns_ln kd j = c := by
  obtain ⟨j, a, b, e⟩ := h2
  by_cases z : j = i
  · subst z
    exact ⟨e0 + 1, by have := hE.1; omega, by omega, hE.2.2.1.trans e⟩
  · exact ⟨j, by omega, b, e⟩
theorem ya_c3 {kd : Nat → Int32} {n i c : Nat} (hO : ns_OA kd i n) (h1 : ∀ j, i ≤ j → j ≤ n → c ≤ ns_ln kd j) (h2 : ∃ j, i ≤ j ∧ j ≤ n ∧ ns_ln kd j = c) : ns_ln kd i = c ∧ (∀ j, i + 1 ≤ j → j ≤ n → c + 1 ≤ ns_ln kd j) ∧ ∃ j, i + 1 ≤ j ∧ j ≤ n ∧ ns_ln kd j = c + 1 := by
  obtain ⟨j, a, b, e⟩ := h2
  have hi := hO.1
  have e1 : ns_ln kd i = c := by
    by_cases z : j = i
    · subst z; exact e
    · have q1 := hO.2.2 j (by omega) b
      have q2 := h1 i (Nat.le_refl _) (by omega)
      omega
  refine ⟨e1, fun j' a' b' => ?_, i + 1, Nat.le_refl _, by omega, ?_⟩
  · have := hO.2.2 j' (by omega) b'
    omega
  · rw [ns_ln_op hO.2.1, e1]
section
variable {g_lanes g_lines g_trips g_logSize g_n g_sealed g_clash : Int32} {b_kinds b_fd b_fa b_fb b_nzWay b_zWay b_post b_seen b_regs b_mem b_own b_priv b_trip b_visits b_lineOf b_goneTo b_mates b_exits b_reads b_writes b_marks b_logLine b_logMask : Nat → Int32} {k d a b : Int32}
theorem ya_ob4 {post : Int32 → Prop} {n : Nat} (hn : n ≤ 24) (K : post (nI (ns_ln b_kinds n))) : ∀ m i c, n - i < m → i ≤ n → (∀ j, i ≤ j → j ≤ n → c ≤ ns_ln b_kinds j) → (∃ j, i ≤ j ∧ j ≤ n ∧ ns_ln b_kinds j = c) → wY_openBlocks_4 post g_lanes g_lines g_trips g_logSize (nI n) g_sealed g_clash b_kinds b_fd b_fa b_fb b_nzWay b_zWay b_post b_seen b_regs b_mem b_own b_priv b_trip b_visits b_lineOf b_goneTo b_mates b_exits b_reads b_writes b_marks b_logLine b_logMask m (nI c) (nI i) := by
  intro m
  induction m with
  | zero => intro i c h; omega
  | succ m ih =>
    intro i c hm hi h1 h2
    rw [wY_openBlocks_4]
    by_cases q : n ≤ i
    · have e := ya_j hi h1 (by omega) h2
      subst e
      exact br_t (nI_le q (by omega)) K
    · refine br_f (nI_ge (by omega) (by omega)) (ye_op (by omega) (fun hop => br_f bs_10 ?_) (fun hop => br_t rfl (nm_r (nI_1 i) (ih (i + 1) c (by omega) (by omega) (fun j z => h1 j (by omega)) (ya_c1 (by omega) hop h1 h2)))))
      refine ye_end hn (by omega) hop (fun hO => ?_) (fun e0 he hE => ?_)
      · obtain ⟨e1, e2, e3⟩ := ya_c3 hO h1 h2
        exact br_f bs_n1le (nm_r (nI_1 c) (nm_r (nI_1 i) (ih (i + 1) (c + 1) (by omega) (by omega) e2 e3)))
      · exact br_t (nI_pos' (by omega)) (nm_r (nI_1 i) (ih (i + 1) c (by omega) (by omega) (fun j z => h1 j (by omega)) (ya_c2 he hE h2)))
theorem ya_h0 {kd : Nat → Int32} {n : Nat} : ∃ j, 0 ≤ j ∧ j ≤ n ∧ ns_ln kd j = 0 := ⟨0, Nat.le_refl _, Nat.zero_le _, rfl⟩
theorem ya_ob {post : Int32 → Prop} {n : Nat} (hn : n ≤ 24) (K : post (nI (ns_ln b_kinds n))) : wpY_openBlocks post (g_lanes, g_lines, g_trips, g_logSize, nI n, g_sealed, g_clash, b_kinds, b_fd, b_fa, b_fb, b_nzWay, b_zWay, b_post, b_seen, b_regs, b_mem, b_own, b_priv, b_trip, b_visits, b_lineOf, b_goneTo, b_mates, b_exits, b_reads, b_writes, b_marks, b_logLine, b_logMask) := by
  unfold wpY_openBlocks
  dsimp only
  exact ⟨n + 1, ya_ob4 hn K (n + 1) 0 0 (by omega) (by omega) (fun _ _ _ => Nat.zero_le _) ya_h0⟩
theorem ya_191 {post : Int32 → SY → Prop} {x1 x2 x3 x4 x5 x6 x7 x8 ot ol : Int32} {n : Nat} {bl bh : Nat → Int32} (hn : n ≤ 24) (hU : rl_U n b_kinds ot ol bl bh)
    (K : ((x1 = 13 → (wY_add_258 post x1 x2 x3 x4 x5 x6 x7 x8 (nI (ns_ln b_kinds n)) (nI (rl_wc b_kinds bl (ns_ln b_kinds n))) (ad_in bl (ns_ln b_kinds n)) g_lanes g_lines g_trips g_logSize (nI n) g_sealed g_clash b_kinds b_fd b_fa b_fb b_nzWay b_zWay b_post b_seen b_regs b_mem b_own b_priv b_trip b_visits b_lineOf b_goneTo b_mates b_exits b_reads b_writes b_marks b_logLine b_logMask)) ∧ (¬ x1 = 13 → (((x1 = 16 → (wY_add_258 post x1 x2 x3 x4 x5 x6 x7 x8 (nI (ns_ln b_kinds n)) (nI (rl_wc b_kinds bl (ns_ln b_kinds n))) (ad_in bl (ns_ln b_kinds n)) g_lanes g_lines g_trips g_logSize (nI n) g_sealed g_clash b_kinds b_fd b_fa b_fb b_nzWay b_zWay b_post b_seen b_regs b_mem b_own b_priv b_trip b_visits b_lineOf b_goneTo b_mates b_exits b_reads b_writes b_marks b_logLine b_logMask)) ∧ (¬ x1 = 16 → (wY_add_267 post x1 x2 x3 x4 x5 x6 x7 x8 (nI (rl_wc b_kinds bl (ns_ln b_kinds n))) (ad_in bl (ns_ln b_kinds n)) g_lanes g_lines g_trips g_logSize (nI n) g_sealed g_clash b_kinds b_fd b_fa b_fb b_nzWay b_zWay b_post b_seen b_regs b_mem b_own b_priv b_trip b_visits b_lineOf b_goneTo b_mates b_exits b_reads b_writes b_marks b_logLine b_logMask))))))) :
    ∀ m i c, n - i < m → i ≤ n → (∀ j, i ≤ j → j ≤ n → c ≤ ns_ln b_kinds j) → (∃ j, i ≤ j ∧ j ≤ n ∧ ns_ln b_kinds j = c) → wY_add_191 post x1 x2 x3 x4 x5 x6 x7 x8 g_lanes g_lines g_trips g_logSize (nI n) g_sealed g_clash b_kinds b_fd b_fa b_fb b_nzWay b_zWay b_post b_seen b_regs b_mem b_own b_priv b_trip b_visits b_lineOf b_goneTo b_mates b_exits b_reads b_writes b_marks b_logLine b_logMask m (nI c) (nI (rl_wc b_kinds bl c)) (ad_in bl c) (nI i) := by
  intro m
  induction m with
  | zero => intro i c h; omega
  | succ m ih =>
    intro i c hm hi h1 h2
    rw [wY_add_191]
    by_cases q : n ≤ i
    · have e := ya_j hi h1 (by omega) h2
      subst e
      exact br_t (nI_le q (by omega)) K
    · refine br_f (nI_ge (by omega) (by omega)) (ye_op (by omega) (fun hop => br_f bs_10 ?_) (fun hop => br_t rfl (nm_r (nI_1 i) (ih (i + 1) c (by omega) (by omega) (fun j z => h1 j (by omega)) (ya_c1 (by omega) hop h1 h2)))))
      refine ye_end hn (by omega) hop (fun hO => ?_) (fun e0 he hE => ?_)
      · obtain ⟨e1, e2, e3⟩ := ya_c3 hO h1 h2
        obtain ⟨l1, l2⟩ := ad_bl hU hO
        rw [e1] at l1 l2
        have ci : (nI i).toNatClampNeg = i := nI_clamp (by omega)
        have hin : nI i = ad_in bl (c + 1) := l2.symm
        have hwc := ad_wcs (kd := b_kinds) (bl := bl) c
        rw [l2, ci] at hwc
        refine br_f bs_n1le (nm_r (nI_1 c) ⟨vp_in_nI (by omega) (by decide), br_c (fun h => ?_) (fun h => ?_)⟩)
        · rw [ci] at h
          rw [if_pos h] at hwc
          refine nm_r (e' := nI (rl_wc b_kinds bl (c + 1))) (by rw [hwc, nI_1]) (nm_r (nI_1 i) ?_)
          rw [hin]
          exact ih (i + 1) (c + 1) (by omega) (by omega) e2 e3
        · rw [ci] at h
          rw [if_neg h] at hwc
          refine nm_r (nI_1 i) ?_
          rw [hin, show rl_wc b_kinds bl c = rl_wc b_kinds bl (c + 1) from hwc.symm]
          exact ih (i + 1) (c + 1) (by omega) (by omega) e2 e3
      · exact br_t (nI_pos' (by omega)) (nm_r (nI_1 i) (ih (i + 1) c (by omega) (by omega) (fun j z => h1 j (by omega)) (ya_c2 he hE h2)))
theorem ya_124 {post : Int32 → SY → Prop} {x8 : Int32} (h1 : ad_fit k d a b → wY_add_179 post k d a b (ad_D k) (ad_A k) (ad_R k) x8 g_lanes g_lines g_trips g_logSize g_n g_sealed g_clash b_kinds b_fd b_fa b_fb b_nzWay b_zWay b_post b_seen b_regs b_mem b_own b_priv b_trip b_visits b_lineOf b_goneTo b_mates b_exits b_reads b_writes b_marks b_logLine b_logMask) (h0 : ¬ ad_fit k d a b → post 4 (g_lanes, g_lines, g_trips, g_logSize, g_n, g_sealed, g_clash, b_kinds, b_fd, b_fa, b_fb, b_nzWay, b_zWay, b_post, b_seen, b_regs, b_mem, b_own, b_priv, b_trip, b_visits, b_lineOf, b_goneTo, b_mates, b_exits, b_reads, b_writes, b_marks, b_logLine, b_logMask)) : wY_add_124 post k d a b (ad_D k) (ad_A k) (ad_R k) x8 g_lanes g_lines g_trips g_logSize g_n g_sealed g_clash b_kinds b_fd b_fa b_fb b_nzWay b_zWay b_post b_seen b_regs b_mem b_own b_priv b_trip b_visits b_lineOf b_goneTo b_mates b_exits b_reads b_writes b_marks b_logLine b_logMask := by
  have s160 : ad_ok (ad_D k) d → ad_ok (ad_A k) a → wY_add_160 post k d a b (ad_D k) (ad_A k) (ad_R k) x8 g_lanes g_lines g_trips g_logSize g_n g_sealed g_clash b_kinds b_fd b_fa b_fb b_nzWay b_zWay b_post b_seen b_regs b_mem b_own b_priv b_trip b_visits b_lineOf b_goneTo b_mates b_exits b_reads b_writes b_marks b_logLine b_logMask := by
    intro hd ha
    unfold wY_add_160
    refine br_c (fun c => h1 ⟨hd, ha, Or.inl c⟩) (fun c => br_c (fun e => h0 (fun z => ?_)) (fun e => br_c (fun g => h1 ⟨hd, ha, Or.inr ⟨e, ad_8.mpr g⟩⟩) (fun g => h0 (fun z => ?_))))
    · rcases z.2.2 with z | z
      · exact c z
      · exact z.1 e
    · rcases z.2.2 with z | z
      · exact c z
      · exact g (ad_8.mp z.2)
  have s143 : ad_ok (ad_D k) d → wY_add_143 post k d a b (ad_D k) (ad_A k) (ad_R k) x8 g_lanes g_lines g_trips g_logSize g_n g_sealed g_clash b_kinds b_fd b_fa b_fb b_nzWay b_zWay b_post b_seen b_regs b_mem b_own b_priv b_trip b_visits b_lineOf b_goneTo b_mates b_exits b_reads b_writes b_marks b_logLine b_logMask := by
    intro hd
    unfold wY_add_143
    refine br_c (fun c => s160 hd (Or.inl c)) (fun c => br_c (fun e => h0 (fun z => ?_)) (fun e => br_c (fun g => s160 hd (Or.inr ⟨e, ad_8.mpr g⟩)) (fun g => h0 (fun z => ?_))))
    · rcases z.2.1 with z | z
      · exact c z
      · exact z.1 e
    · rcases z.2.1 with z | z
      · exact c z
      · exact g (ad_8.mp z.2)
  unfold wY_add_124
  refine br_c (fun c => s143 (Or.inl c)) (fun c => br_c (fun e => h0 (fun z => ?_)) (fun e => br_c (fun g => s143 (Or.inr ⟨e, ad_8.mpr g⟩)) (fun g => h0 (fun z => ?_))))
  · rcases z.1 with z | z
    · exact c z
    · exact z.1 e
  · rcases z.1 with z | z
    · exact c z
    · exact g (ad_8.mp z.2)
theorem ya_94 {post : Int32 → SY → Prop} {x5 x6 x7 : Int32} (k1 : 1 ≤ k) (k2 : k ≤ 19) (h : wY_add_124 post k d a b x5 x6 x7 (ad_I k) g_lanes g_lines g_trips g_logSize g_n g_sealed g_clash b_kinds b_fd b_fa b_fb b_nzWay b_zWay b_post b_seen b_regs b_mem b_own b_priv b_trip b_visits b_lineOf b_goneTo b_mates b_exits b_reads b_writes b_marks b_logLine b_logMask) : wY_add_94 post k d a b x5 x6 x7 g_lanes g_lines g_trips g_logSize g_n g_sealed g_clash b_kinds b_fd b_fa b_fb b_nzWay b_zWay b_post b_seen b_regs b_mem b_own b_priv b_trip b_visits b_lineOf b_goneTo b_mates b_exits b_reads b_writes b_marks b_logLine b_logMask := by
  rw [ad_I_e k1 k2] at h
  unfold wY_add_94 wY_add_119
  refine br_c (fun c => ?_) (fun c => br_c (fun c2 => ?_) (fun c2 => br_c (fun c3 => ?_) (fun c3 => br_c (fun c4 => ?_) (fun c4 => ?_))))
  · rwa [if_pos c] at h
  · rwa [if_neg c, if_pos c2] at h
  · rwa [if_neg c, if_neg c2, if_pos c3] at h
  · rwa [if_neg c, if_neg c2, if_neg c3, if_pos c4] at h
  · rwa [if_neg c, if_neg c2, if_neg c3, if_neg c4] at h
theorem ya_76 {post : Int32 → SY → Prop} {x5 x6 : Int32} (h : wY_add_94 post k d a b x5 x6 (ad_R k) g_lanes g_lines g_trips g_logSize g_n g_sealed g_clash b_kinds b_fd b_fa b_fb b_nzWay b_zWay b_post b_seen b_regs b_mem b_own b_priv b_trip b_visits b_lineOf b_goneTo b_mates b_exits b_reads b_writes b_marks b_logLine b_logMask) : wY_add_76 post k d a b x5 x6 g_lanes g_lines g_trips g_logSize g_n g_sealed g_clash b_kinds b_fd b_fa b_fb b_nzWay b_zWay b_post b_seen b_regs b_mem b_own b_priv b_trip b_visits b_lineOf b_goneTo b_mates b_exits b_reads b_writes b_marks b_logLine b_logMask := by
  unfold wY_add_76 wY_add_93
  unfold ad_R at h
  refine br_c (fun c => ?_) (fun c => br_c (fun c2 => ?_) (fun c2 => ?_))
  · rwa [if_pos c] at h
  · rwa [if_neg c, if_pos c2] at h
  · rwa [if_neg c, if_neg c2] at h
theorem ya_58 {post : Int32 → SY → Prop} {x5 : Int32} (h : wY_add_76 post k d a b x5 (ad_A k) g_lanes g_lines g_trips g_logSize g_n g_sealed g_clash b_kinds b_fd b_fa b_fb b_nzWay b_zWay b_post b_seen b_regs b_mem b_own b_priv b_trip b_visits b_lineOf b_goneTo b_mates b_exits b_reads b_writes b_marks b_logLine b_logMask) : wY_add_58 post k d a b x5 g_lanes g_lines g_trips g_logSize g_n g_sealed g_clash b_kinds b_fd b_fa b_fb b_nzWay b_zWay b_post b_seen b_regs b_mem b_own b_priv b_trip b_visits b_lineOf b_goneTo b_mates b_exits b_reads b_writes b_marks b_logLine b_logMask := by
  unfold wY_add_58 wY_add_75
  unfold ad_A at h
  refine br_c (fun c => ?_) (fun c => br_c (fun c2 => ?_) (fun c2 => ?_))
  · rwa [if_pos c] at h
  · rwa [if_neg c, if_pos c2] at h
  · rwa [if_neg c, if_neg c2] at h
theorem ya_fl {post : Int32 → SY → Prop} (h : wY_add_58 post k d a b (ad_D k) g_lanes g_lines g_trips g_logSize g_n g_sealed g_clash b_kinds b_fd b_fa b_fb b_nzWay b_zWay b_post b_seen b_regs b_mem b_own b_priv b_trip b_visits b_lineOf b_goneTo b_mates b_exits b_reads b_writes b_marks b_logLine b_logMask) : ((k = 12 → (wY_add_57 post k d a b g_lanes g_lines g_trips g_logSize g_n g_sealed g_clash b_kinds b_fd b_fa b_fb b_nzWay b_zWay b_post b_seen b_regs b_mem b_own b_priv b_trip b_visits b_lineOf b_goneTo b_mates b_exits b_reads b_writes b_marks b_logLine b_logMask)) ∧ (¬ k = 12 → (((k = 14 → (wY_add_57 post k d a b g_lanes g_lines g_trips g_logSize g_n g_sealed g_clash b_kinds b_fd b_fa b_fb b_nzWay b_zWay b_post b_seen b_regs b_mem b_own b_priv b_trip b_visits b_lineOf b_goneTo b_mates b_exits b_reads b_writes b_marks b_logLine b_logMask)) ∧ (¬ k = 14 → (((k = 15 → (wY_add_57 post k d a b g_lanes g_lines g_trips g_logSize g_n g_sealed g_clash b_kinds b_fd b_fa b_fb b_nzWay b_zWay b_post b_seen b_regs b_mem b_own b_priv b_trip b_visits b_lineOf b_goneTo b_mates b_exits b_reads b_writes b_marks b_logLine b_logMask)) ∧ (¬ k = 15 → (wY_add_58 post k d a b 1 g_lanes g_lines g_trips g_logSize g_n g_sealed g_clash b_kinds b_fd b_fa b_fb b_nzWay b_zWay b_post b_seen b_regs b_mem b_own b_priv b_trip b_visits b_lineOf b_goneTo b_mates b_exits b_reads b_writes b_marks b_logLine b_logMask))))))))) := by
  unfold wY_add_57
  unfold ad_D at h
  refine br_c (fun c => ?_) (fun c => br_c (fun c2 => ?_) (fun c2 => br_c (fun c3 => ?_) (fun c3 => ?_)))
  · rwa [if_pos c] at h
  · rwa [if_neg c, if_pos c2] at h
  · rwa [if_neg c, if_neg c2, if_pos c3] at h
  · rwa [if_neg c, if_neg c2, if_neg c3] at h
theorem ya_put {post : Int32 → SY → Prop} {n : Nat} (hn : n < 24)
    (K : post 0 (g_lanes, g_lines, g_trips, g_logSize, nI (n + 1), g_sealed, g_clash, upd b_kinds n k, upd b_fd n (xa_pk (ad_D k) d), upd b_fa n (xa_pk (ad_A k) a), upd b_fb n (xa_pb (ad_R k) (ad_I k) b), b_nzWay, b_zWay, b_post, b_seen, b_regs, b_mem, b_own, b_priv, b_trip, b_visits, b_lineOf, b_goneTo, b_mates, b_exits, b_reads, b_writes, b_marks, b_logLine, b_logMask)) :
    wY_add_349 post k d a b (ad_D k) (ad_A k) (ad_R k) (ad_I k) g_lanes g_lines g_trips g_logSize (nI n) g_sealed g_clash b_kinds b_fd b_fa b_fb b_nzWay b_zWay b_post b_seen b_regs b_mem b_own b_priv b_trip b_visits b_lineOf b_goneTo b_mates b_exits b_reads b_writes b_marks b_logLine b_logMask := by
  have v : vp_in (nI n) 24 := vp_in_nI hn (by decide)
  have c : (nI n).toNatClampNeg = n := nI_clamp (by omega)
  have s421 : ∀ (fD fA : Nat → Int32) (z : Int32), fD = upd b_fd n (xa_pk (ad_D k) d) → fA = upd b_fa n (xa_pk (ad_A k) a) → z = xa_pb (ad_R k) (ad_I k) b → wY_add_421 post z (nI n) g_lanes g_lines g_trips g_logSize (nI n) g_sealed g_clash (upd b_kinds n k) fD fA b_fb b_nzWay b_zWay b_post b_seen b_regs b_mem b_own b_priv b_trip b_visits b_lineOf b_goneTo b_mates b_exits b_reads b_writes b_marks b_logLine b_logMask := by
    intro fD fA z eD eA ez
    subst eD eA ez
    unfold wY_add_421
    rw [c]
    exact ⟨v, nm_e (nm_r (nI_1 n) K)⟩
  have s396 : ∀ (fD : Nat → Int32) (z : Int32), fD = upd b_fd n (xa_pk (ad_D k) d) → z = xa_pk (ad_A k) a → wY_add_396 post b (ad_R k) (ad_I k) z (nI n) g_lanes g_lines g_trips g_logSize (nI n) g_sealed g_clash (upd b_kinds n k) fD b_fa b_fb b_nzWay b_zWay b_post b_seen b_regs b_mem b_own b_priv b_trip b_visits b_lineOf b_goneTo b_mates b_exits b_reads b_writes b_marks b_logLine b_logMask := by
    intro fD z eD ez
    subst ez
    unfold wY_add_396
    rw [c]
    refine ⟨v, nm_e (br_c (fun h1 => br_c (fun h2 => ?_) (fun h2 => ?_)) (fun h1 => ?_))⟩
    · exact s421 _ _ _ eD rfl (by unfold xa_pb; rw [if_pos h1, if_pos h2])
    · unfold wY_add_415
      exact s421 _ _ _ eD rfl (by unfold xa_pb; rw [if_pos h1, if_neg h2])
    · unfold wY_add_415
      exact s421 _ _ _ eD rfl (by unfold xa_pb; rw [if_neg h1])
  have s377 : ∀ (z : Int32), z = xa_pk (ad_D k) d → wY_add_377 post a b (ad_A k) (ad_R k) (ad_I k) z (nI n) g_lanes g_lines g_trips g_logSize (nI n) g_sealed g_clash (upd b_kinds n k) b_fd b_fa b_fb b_nzWay b_zWay b_post b_seen b_regs b_mem b_own b_priv b_trip b_visits b_lineOf b_goneTo b_mates b_exits b_reads b_writes b_marks b_logLine b_logMask := by
    intro z ez
    subst ez
    unfold wY_add_377
    rw [c]
    refine ⟨v, nm_e (br_c (fun h => ?_) (fun h => ?_))⟩
    · exact s396 _ _ rfl (by unfold xa_pk; rw [if_pos h])
    · exact s396 _ _ rfl (by unfold xa_pk; rw [if_neg h])
  unfold wY_add_349
  rw [c]
  exact ⟨v, nm_e (br_c (fun h => s377 _ (by unfold xa_pk; rw [if_pos h])) (fun h => s377 _ (by unfold xa_pk; rw [if_neg h])))⟩
theorem ya_330 {post : Int32 → SY → Prop} {x5 x6 x7 x8 x10 : Int32} (h17 : ¬ k = 17) (h18 : ¬ k = 18) (h : wY_add_349 post k d a b x5 x6 x7 x8 g_lanes g_lines g_trips g_logSize g_n g_sealed g_clash b_kinds b_fd b_fa b_fb b_nzWay b_zWay b_post b_seen b_regs b_mem b_own b_priv b_trip b_visits b_lineOf b_goneTo b_mates b_exits b_reads b_writes b_marks b_logLine b_logMask) : wY_add_330 post k d a b x5 x6 x7 x8 x10 g_lanes g_lines g_trips g_logSize g_n g_sealed g_clash b_kinds b_fd b_fa b_fb b_nzWay b_zWay b_post b_seen b_regs b_mem b_own b_priv b_trip b_visits b_lineOf b_goneTo b_mates b_exits b_reads b_writes b_marks b_logLine b_logMask := by
  unfold wY_add_330
  exact br_f h17 (br_f h18 h)
theorem ya_282 {post : Int32 → SY → Prop} {x5 x6 x7 x8 x10 x11 : Int32} (h14 : ¬ k = 14) (h15 : ¬ k = 15) (h : wY_add_330 post k d a b x5 x6 x7 x8 x10 g_lanes g_lines g_trips g_logSize g_n g_sealed g_clash b_kinds b_fd b_fa b_fb b_nzWay b_zWay b_post b_seen b_regs b_mem b_own b_priv b_trip b_visits b_lineOf b_goneTo b_mates b_exits b_reads b_writes b_marks b_logLine b_logMask) : wY_add_282 post k d a b x5 x6 x7 x8 x10 x11 g_lanes g_lines g_trips g_logSize g_n g_sealed g_clash b_kinds b_fd b_fa b_fb b_nzWay b_zWay b_post b_seen b_regs b_mem b_own b_priv b_trip b_visits b_lineOf b_goneTo b_mates b_exits b_reads b_writes b_marks b_logLine b_logMask := by
  unfold wY_add_282 wY_add_301
  exact br_f h14 (br_f h15 (br_f h14 h))
end
end
section
/-! add and openBlocks: both sides -/
section
variable {f_laneTotal f_lineLimit f_tripLimit f_logLimit f_count f_isSealed f_openTotal f_openLoops f_alive f_depth f_clash : Int32} {a_kinds a_fieldD a_fieldA a_fieldB a_blockLine a_blockHasElse a_opener a_elseOf a_endOf a_wayNonzero a_wayZero a_postDom a_rejoinOf a_regs a_cells a_work a_stored a_tripCount a_stackPlace a_stackMask a_stackRejoin a_stopLine a_reads a_writes a_marks a_logLine a_logMask : Nat → Int32} {g_lanes g_lines g_trips g_logSize g_n g_sealed g_clash : Int32} {b_kinds b_fd b_fa b_fb b_nzWay b_zWay b_post b_seen b_regs b_mem b_own b_priv b_trip b_visits b_lineOf b_goneTo b_mates b_exits b_reads b_writes b_marks b_logLine b_logMask : Nat → Int32} {k d a b : Int32}
def av_E (post : Int32 → SY → Prop) (k d a b x5 x6 x7 x8 x9 x10 x11 : Int32) (v : SY) : Prop := match v with
  | (g_lanes, g_lines, g_trips, g_logSize, g_n, g_sealed, g_clash, b_kinds, b_fd, b_fa, b_fb, b_nzWay, b_zWay, b_post, b_seen, b_regs, b_mem, b_own, b_priv, b_trip, b_visits, b_lineOf, b_goneTo, b_mates, b_exits, b_reads, b_writes, b_marks, b_logLine, b_logMask) => ((k = 13 → (wY_add_258 post k d a b x5 x6 x7 x8 x9 x10 x11 g_lanes g_lines g_trips g_logSize g_n g_sealed g_clash b_kinds b_fd b_fa b_fb b_nzWay b_zWay b_post b_seen b_regs b_mem b_own b_priv b_trip b_visits b_lineOf b_goneTo b_mates b_exits b_reads b_writes b_marks b_logLine b_logMask)) ∧ (¬ k = 13 → (((k = 16 → (wY_add_258 post k d a b x5 x6 x7 x8 x9 x10 x11 g_lanes g_lines g_trips g_logSize g_n g_sealed g_clash b_kinds b_fd b_fa b_fb b_nzWay b_zWay b_post b_seen b_regs b_mem b_own b_priv b_trip b_visits b_lineOf b_goneTo b_mates b_exits b_reads b_writes b_marks b_logLine b_logMask)) ∧ (¬ k = 16 → (wY_add_267 post k d a b x5 x6 x7 x8 x10 x11 g_lanes g_lines g_trips g_logSize g_n g_sealed g_clash b_kinds b_fd b_fa b_fb b_nzWay b_zWay b_post b_seen b_regs b_mem b_own b_priv b_trip b_visits b_lineOf b_goneTo b_mates b_exits b_reads b_writes b_marks b_logLine b_logMask))))))
theorem av_267 {post : Int32 → SY → Prop} {x5 x6 x7 x8 x9 x10 x11 : Int32} (h13 : ¬ k = 13) (h16 : ¬ k = 16) (h : wY_add_282 post k d a b x5 x6 x7 x8 x10 x11 g_lanes g_lines g_trips g_logSize g_n g_sealed g_clash b_kinds b_fd b_fa b_fb b_nzWay b_zWay b_post b_seen b_regs b_mem b_own b_priv b_trip b_visits b_lineOf b_goneTo b_mates b_exits b_reads b_writes b_marks b_logLine b_logMask) : av_E post k d a b x5 x6 x7 x8 x9 x10 x11 (g_lanes, g_lines, g_trips, g_logSize, g_n, g_sealed, g_clash, b_kinds, b_fd, b_fa, b_fb, b_nzWay, b_zWay, b_post, b_seen, b_regs, b_mem, b_own, b_priv, b_trip, b_visits, b_lineOf, b_goneTo, b_mates, b_exits, b_reads, b_writes, b_marks, b_logLine, b_logMask) := by
  unfold av_E
  dsimp only
  unfold wY_add_267
  exact br_f h13 (br_f h16 (br_f h16 h))
theorem av_nest {n : Nat} (hn : n < 24) (hw : ns_WF a_kinds n) (hU : rl_U n a_kinds f_openTotal f_openLoops a_blockLine a_blockHasElse) (k1 : 1 ≤ k) (k2 : k ≤ 19) :
    ∃ r : Int32, (∀ post : Int32 → Prop, post r → wpX_nestProblem post (f_laneTotal, f_lineLimit, f_tripLimit, f_logLimit, nI n, f_isSealed, f_openTotal, f_openLoops, f_alive, f_depth, f_clash, a_kinds, a_fieldD, a_fieldA, a_fieldB, a_blockLine, a_blockHasElse, a_opener, a_elseOf, a_endOf, a_wayNonzero, a_wayZero, a_postDom, a_rejoinOf, a_regs, a_cells, a_work, a_stored, a_tripCount, a_stackPlace, a_stackMask, a_stackRejoin, a_stopLine, a_reads, a_writes, a_marks, a_logLine, a_logMask) k) ∧ (r = 0 → xa_CN n a_kinds a_blockLine a_blockHasElse k) ∧
      (∀ (post : Int32 → SY → Prop) (x5 x6 x7 x8 : Int32), (r = 0 → wY_add_349 post k d a b x5 x6 x7 x8 g_lanes g_lines g_trips g_logSize (nI n) g_sealed g_clash a_kinds b_fd b_fa b_fb b_nzWay b_zWay b_post b_seen b_regs b_mem b_own b_priv b_trip b_visits b_lineOf b_goneTo b_mates b_exits b_reads b_writes b_marks b_logLine b_logMask) → (¬ r = 0 → post r (g_lanes, g_lines, g_trips, g_logSize, nI n, g_sealed, g_clash, a_kinds, b_fd, b_fa, b_fb, b_nzWay, b_zWay, b_post, b_seen, b_regs, b_mem, b_own, b_priv, b_trip, b_visits, b_lineOf, b_goneTo, b_mates, b_exits, b_reads, b_writes, b_marks, b_logLine, b_logMask)) →
        av_E post k d a b x5 x6 x7 x8 (nI (ns_ln a_kinds n)) (nI (rl_wc a_kinds a_blockLine (ns_ln a_kinds n))) (ad_in a_blockLine (ns_ln a_kinds n)) (g_lanes, g_lines, g_trips, g_logSize, nI n, g_sealed, g_clash, a_kinds, b_fd, b_fa, b_fb, b_nzWay, b_zWay, b_post, b_seen, b_regs, b_mem, b_own, b_priv, b_trip, b_visits, b_lineOf, b_goneTo, b_mates, b_exits, b_reads, b_writes, b_marks, b_logLine, b_logMask)) := by
  have l5 := ad_ln5 hw n (Nat.le_refl _)
  have w5 := ad_wcle (kd := a_kinds) (bl := a_blockLine) (ns_ln a_kinds n)
  have hU' := hU
  obtain ⟨e1, e2, e3⟩ := hU'
  have h05 : ¬ (5 : Int32) = 0 := by decide
  have h06 : ¬ (6 : Int32) = 0 := by decide
  unfold wpX_nestProblem
  dsimp only
  rw [e1, e2]
  rcases wy_kinds k1 k2 with h | h | h | h | h | h | h | h
  · have q : ∀ c : Int32, 13 ≤ c → ¬ k = c := fun c hc => wy_lt13 h hc
    have p13 := q 13 (by decide)
    have p14 := q 14 (by decide)
    have p15 := q 15 (by decide)
    have p16 := q 16 (by decide)
    have p17 := q 17 (by decide)
    have p18 := q 18 (by decide)
    refine ⟨0, fun post hp => br_t h hp, fun _ => ⟨fun z => absurd z p14, fun z => absurd z p15, fun z => ?_, fun z => ?_, fun z => absurd z p16⟩, fun post x5 x6 x7 x8 h1 _ => av_267 p13 p16 (ya_282 p14 p15 (ya_330 p17 p18 (h1 rfl)))⟩
    · rcases z with z | z
      · exact absurd z p17
      · exact absurd z p18
    · rcases z with z | z
      · exact absurd z p13
      · exact absurd z p16
  · subst h
    by_cases c : ns_ln a_kinds n < 5
    · have c' : nI (ns_ln a_kinds n) < 5 := nI_lt (b := 5) c (by decide)
      refine ⟨0, fun post hp => br_f (by decide) (br_f (by decide) (br_t rfl (br_t c' hp))), fun _ => ⟨fun z => absurd z (by decide), fun z => absurd z (by decide), fun z => absurd z (by decide), fun z => c, fun z => absurd z (by decide)⟩, fun post x5 x6 x7 x8 h1 _ => ?_⟩
      unfold av_E
      dsimp only
      unfold wY_add_258 wY_add_267
      exact br_t rfl (br_t c' (br_f (by decide) (ya_282 (by decide) (by decide) (ya_330 (by decide) (by decide) (h1 rfl)))))
    · have c' : ¬ nI (ns_ln a_kinds n) < 5 := nI_nlt (b := 5) (by omega) (by omega)
      refine ⟨6, fun post hp => br_f (by decide) (br_f (by decide) (br_t rfl (br_f c' hp))), fun z => absurd z h06, fun post x5 x6 x7 x8 _ h1 => ?_⟩
      unfold av_E
      dsimp only
      unfold wY_add_258
      exact br_t rfl (br_f c' (h1 h06))
  · subst h
    by_cases c : ns_ln a_kinds n = 0
    · have c' : nI (ns_ln a_kinds n) = 0 := by rw [c, nI_0]
      refine ⟨5, fun post hp => br_f (by decide) (br_f (by decide) (br_f (by decide) (br_t rfl (?_)))), fun z => absurd z h05, fun post x5 x6 x7 x8 _ h1 => ?_⟩
      · unfold wpX_elseFits
        exact br_t c' (br_t rfl hp)
      · refine av_267 (by decide) (by decide) ?_
        rw [c]
        unfold wY_add_282 wY_add_294
        exact br_t rfl (br_f bs_n1le (h1 h05))
    · obtain ⟨x, x1, x2, x3, x4, x5⟩ := e3 (ns_ln a_kinds n - 1) (by omega)
      have hx := x2.1
      have c0 : ¬ nI (ns_ln a_kinds n) = 0 := nI_ne0 (by omega) (by omega)
      have ct : (nI (ns_ln a_kinds n - 1)).toNatClampNeg = ns_ln a_kinds n - 1 := nI_clamp (by omega)
      have vt : vp_in (nI (ns_ln a_kinds n - 1)) 5 := vp_in_nI (by omega) (by decide)
      have vx : vp_in (nI x) 24 := vp_in_nI (by omega) (by decide)
      have cx : (nI x).toNatClampNeg = x := nI_clamp (by omega)
      have hin : ad_in a_blockLine (ns_ln a_kinds n) = nI x := by
        have hs : ns_ln a_kinds n = ns_ln a_kinds n - 1 + 1 := ad_s rfl (Nat.pos_of_ne_zero c)
        rw [hs]
        exact x1
      have y0 : ∀ (post : Int32 → SY → Prop) (y5 y6 y7 y8 : Int32), wY_add_301 post 14 d a b y5 y6 y7 y8 (nI (rl_wc a_kinds a_blockLine (ns_ln a_kinds n))) (nI x) g_lanes g_lines g_trips g_logSize (nI n) g_sealed g_clash a_kinds b_fd b_fa b_fb b_nzWay b_zWay b_post b_seen b_regs b_mem b_own b_priv b_trip b_visits b_lineOf b_goneTo b_mates b_exits b_reads b_writes b_marks b_logLine b_logMask → av_E post 14 d a b y5 y6 y7 y8 (nI (ns_ln a_kinds n)) (nI (rl_wc a_kinds a_blockLine (ns_ln a_kinds n))) (ad_in a_blockLine (ns_ln a_kinds n)) (g_lanes, g_lines, g_trips, g_logSize, nI n, g_sealed, g_clash, a_kinds, b_fd, b_fa, b_fb, b_nzWay, b_zWay, b_post, b_seen, b_regs, b_mem, b_own, b_priv, b_trip, b_visits, b_lineOf, b_goneTo, b_mates, b_exits, b_reads, b_writes, b_marks, b_logLine, b_logMask) := by
        intro post y5 y6 y7 y8 h
        refine av_267 (by decide) (by decide) ?_
        rw [hin]
        unfold wY_add_282 wY_add_294
        exact br_t rfl (br_t (nI_pos' (by omega)) h)
      by_cases k6 : a_kinds x = 16
      · have k3 : ¬ a_kinds x = 13 := by rw [k6]; decide
        refine ⟨5, fun post hp => br_f (by decide) (br_f (by decide) (br_f (by decide) (br_t rfl ?_))), fun z => absurd z h05, fun post y5 y6 y7 y8 _ h1 => y0 post y5 y6 y7 y8 ?_⟩
        · unfold wpX_elseFits
          dsimp only
          refine br_f c0 (nm_r (bs_s (by omega)) ⟨vt, ?_⟩)
          rw [ct, x1, cx]
          exact ⟨vx, br_f k3 (br_t rfl hp)⟩
        · unfold wY_add_301
          rw [cx]
          exact br_t rfl ⟨vx, br_t k6 (h1 h05)⟩
      · have k3 : a_kinds x = 13 := by
          rcases x2.2.1 with z | z
          · exact z
          · exact absurd z k6
        by_cases hb : a_blockHasElse (ns_ln a_kinds n - 1) = 0
        · refine ⟨0, fun post hp => br_f (by decide) (br_f (by decide) (br_f (by decide) (br_t rfl ?_))), fun _ => ⟨fun _ => ⟨x, hx, x1, by omega, k3, hb⟩, fun z => absurd z (by decide), fun z => absurd z (by decide), fun z => absurd z (by decide), fun z => absurd z (by decide)⟩, fun post y5 y6 y7 y8 h1 _ => y0 post y5 y6 y7 y8 ?_⟩
          · unfold wpX_elseFits
            dsimp only
            refine br_f c0 (nm_r (bs_s (by omega)) ⟨vt, ?_⟩)
            rw [ct, x1, cx]
            exact ⟨vx, br_t k3 ⟨vt, br_t hb (br_f bs_10 hp)⟩⟩
          · unfold wY_add_301
            rw [cx]
            refine br_t rfl ⟨vx, br_f k6 (ye_else (by omega) hx x2.2.1 (fun _ => br_t bs_n1lt (ya_330 (by decide) (by decide) (h1 rfl))) (fun i hi hel => ?_))⟩
            have := x5.mpr ⟨i, hi, hel⟩
            rw [hb] at this
            exact absurd this.symm bs_10
        · have hb1 : a_blockHasElse (ns_ln a_kinds n - 1) = 1 := by
            rcases x4 with z | z
            · exact absurd z hb
            · exact z
          refine ⟨5, fun post hp => br_f (by decide) (br_f (by decide) (br_f (by decide) (br_t rfl ?_))), fun z => absurd z h05, fun post y5 y6 y7 y8 _ h1 => y0 post y5 y6 y7 y8 ?_⟩
          · unfold wpX_elseFits
            dsimp only
            refine br_f c0 (nm_r (bs_s (by omega)) ⟨vt, ?_⟩)
            rw [ct, x1, cx]
            exact ⟨vx, br_t k3 ⟨vt, br_f hb (br_t rfl hp)⟩⟩
          · unfold wY_add_301
            rw [cx]
            refine br_t rfl ⟨vx, br_f k6 (ye_else (by omega) hx x2.2.1 (fun hno => ?_) (fun i hi hel => br_f (nI_pos (by omega)) (h1 h05)))⟩
            exfalso
            obtain ⟨el, q1, q2⟩ := x5.mp hb1
            exact hno el q1 q2
  · subst h
    by_cases c : ns_ln a_kinds n = 0
    · have c' : nI (ns_ln a_kinds n) = 0 := by rw [c, nI_0]
      refine ⟨5, fun post hp => br_f (by decide) (br_f (by decide) (br_f (by decide) (br_f (by decide) (br_t rfl (br_t c' hp))))), fun z => absurd z h05, fun post x5 x6 x7 x8 _ h1 => ?_⟩
      refine av_267 (by decide) (by decide) ?_
      rw [c]
      unfold wY_add_282 wY_add_294
      exact br_f (by decide) (br_t rfl (br_f bs_n1le (h1 h05)))
    · obtain ⟨x, x1, x2, x3, x4, x5⟩ := e3 (ns_ln a_kinds n - 1) (by omega)
      have hx := x2.1
      have c0 : ¬ nI (ns_ln a_kinds n) = 0 := nI_ne0 (by omega) (by omega)
      have hin : ad_in a_blockLine (ns_ln a_kinds n) = nI x := by
        have hs : ns_ln a_kinds n = ns_ln a_kinds n - 1 + 1 := ad_s rfl (Nat.pos_of_ne_zero c)
        rw [hs]
        exact x1
      refine ⟨0, fun post hp => br_f (by decide) (br_f (by decide) (br_f (by decide) (br_f (by decide) (br_t rfl (br_f c0 hp))))), fun _ => ⟨fun z => absurd z (by decide), fun _ => Nat.pos_of_ne_zero c, fun z => absurd z (by decide), fun z => absurd z (by decide), fun z => absurd z (by decide)⟩, fun post y5 y6 y7 y8 h1 _ => ?_⟩
      refine av_267 (by decide) (by decide) ?_
      rw [hin]
      unfold wY_add_282 wY_add_294 wY_add_301
      exact br_f (by decide) (br_t rfl (br_t (nI_pos' (by omega)) (br_f (by decide) (ya_330 (by decide) (by decide) (h1 rfl)))))
  · subst h
    by_cases c : ns_ln a_kinds n < 5
    · have c' : nI (ns_ln a_kinds n) < 5 := nI_lt (b := 5) c (by decide)
      have c2 : ¬ 5 ≤ nI (ns_ln a_kinds n) := nI_ge (b := 5) c (by decide)
      by_cases g : rl_wc a_kinds a_blockLine (ns_ln a_kinds n) < 2
      · have g' : nI (rl_wc a_kinds a_blockLine (ns_ln a_kinds n)) < 2 := nI_lt (b := 2) g (by decide)
        refine ⟨0, fun post hp => br_f (by decide) (br_f (by decide) (br_f (by decide) (br_f (by decide) (br_f (by decide) (br_t rfl (br_f c2 (br_t g' hp))))))), fun _ => ⟨fun z => absurd z (by decide), fun z => absurd z (by decide), fun z => absurd z (by decide), fun z => c, fun z => g⟩, fun post x5 x6 x7 x8 h1 _ => ?_⟩
        unfold av_E
        dsimp only
        unfold wY_add_258 wY_add_267
        exact br_f (by decide) (br_t rfl (br_t c' (br_t rfl (br_t g' (ya_282 (by decide) (by decide) (ya_330 (by decide) (by decide) (h1 rfl)))))))
      · have g' : ¬ nI (rl_wc a_kinds a_blockLine (ns_ln a_kinds n)) < 2 := nI_nlt (b := 2) (by omega) (by omega)
        refine ⟨6, fun post hp => br_f (by decide) (br_f (by decide) (br_f (by decide) (br_f (by decide) (br_f (by decide) (br_t rfl (br_f c2 (br_f g' hp))))))), fun z => absurd z h06, fun post x5 x6 x7 x8 _ h1 => ?_⟩
        unfold av_E
        dsimp only
        unfold wY_add_258 wY_add_267
        exact br_f (by decide) (br_t rfl (br_t c' (br_t rfl (br_f g' (h1 h06)))))
    · have c' : ¬ nI (ns_ln a_kinds n) < 5 := nI_nlt (b := 5) (by omega) (by omega)
      have c2 : 5 ≤ nI (ns_ln a_kinds n) := nI_le (a := 5) (by omega) (by omega)
      refine ⟨6, fun post hp => br_f (by decide) (br_f (by decide) (br_f (by decide) (br_f (by decide) (br_f (by decide) (br_t rfl (br_t c2 hp)))))), fun z => absurd z h06, fun post x5 x6 x7 x8 _ h1 => ?_⟩
      unfold av_E
      dsimp only
      unfold wY_add_258
      exact br_f (by decide) (br_t rfl (br_f c' (h1 h06)))
  all_goals first
    | (subst h
       refine ⟨0, fun post hp => br_f (by decide) (br_t (by decide) hp), fun _ => ⟨fun z => absurd z (by decide), fun z => absurd z (by decide), fun z => absurd z (by decide), fun z => absurd z (by decide), fun z => absurd z (by decide)⟩, fun post x5 x6 x7 x8 h1 _ => ?_⟩
       exact av_267 (by decide) (by decide) (ya_282 (by decide) (by decide) (ya_330 (by decide) (by decide) (h1 rfl))))
    | (subst h
       by_cases g : rl_wc a_kinds a_blockLine (ns_ln a_kinds n) = 0
       · have g' : nI (rl_wc a_kinds a_blockLine (ns_ln a_kinds n)) = 0 := by rw [g, nI_0]
         refine ⟨5, fun post hp => ?_, fun z => absurd z h05, fun post x5 x6 x7 x8 _ h1 => ?_⟩
         · unfold wX_nestProblem_104
           first
             | exact br_f (by decide) (br_f (by decide) (br_f (by decide) (br_f (by decide) (br_f (by decide) (br_f (by decide) (br_t rfl (br_t g' hp)))))))
             | exact br_f (by decide) (br_f (by decide) (br_f (by decide) (br_f (by decide) (br_f (by decide) (br_f (by decide) (br_f (by decide) (br_t rfl (br_t g' hp))))))))
         · refine av_267 (by decide) (by decide) (ya_282 (by decide) (by decide) ?_)
           unfold wY_add_330 wY_add_342
           first
             | exact br_t rfl (br_t g' (h1 h05))
             | exact br_f (by decide) (br_t rfl (br_t g' (h1 h05)))
       · have g' : ¬ nI (rl_wc a_kinds a_blockLine (ns_ln a_kinds n)) = 0 := nI_ne0 (by omega) (by omega)
         refine ⟨0, fun post hp => ?_, fun _ => ⟨fun z => absurd z (by decide), fun z => absurd z (by decide), fun _ => Nat.pos_of_ne_zero g, fun z => absurd z (by decide), fun z => absurd z (by decide)⟩, fun post x5 x6 x7 x8 h1 _ => ?_⟩
         · unfold wX_nestProblem_104
           first
             | exact br_f (by decide) (br_f (by decide) (br_f (by decide) (br_f (by decide) (br_f (by decide) (br_f (by decide) (br_t rfl (br_f g' hp)))))))
             | exact br_f (by decide) (br_f (by decide) (br_f (by decide) (br_f (by decide) (br_f (by decide) (br_f (by decide) (br_f (by decide) (br_t rfl (br_f g' hp))))))))
         · refine av_267 (by decide) (by decide) (ya_282 (by decide) (by decide) ?_)
           unfold wY_add_330 wY_add_342
           first
             | exact br_t rfl (br_f g' (h1 rfl))
             | exact br_f (by decide) (br_t rfl (br_f g' (h1 rfl))))
end
theorem av_F {n : Nat} {kd fd fa fb : Nat → Int32} {k d a b : Int32} (h : rl_F n kd fd fa fb) (hf : ad_fit k d a b) : rl_F (n + 1) (upd kd n k) (upd fd n (xa_pk (ad_D k) d)) (upd fa n (xa_pk (ad_A k) a)) (upd fb n (xa_pb (ad_R k) (ad_I k) b)) := by
  have ok : ∀ g x, ad_ok g x → ∃ j, j < 8 ∧ xa_pk g x = nI j := by
    intro g x h
    unfold xa_pk
    by_cases c : g = 0
    · exact ⟨0, by omega, by rw [if_pos c, nI_0]⟩
    · rw [if_neg c]
      rcases h with h | h
      · exact absurd h c
      · exact ad_ok8 h.1 h.2
  intro x hx
  by_cases e : x = n
  · subst e
    rw [bs_us, bs_us, bs_us, bs_us]
    refine ⟨ok _ _ hf.1, ok _ _ hf.2.1, fun h3 h8 => ?_⟩
    have e : ad_R k = 1 := by
      unfold ad_R
      rw [if_neg (Int32.not_lt.mpr h3), if_neg (Int32.not_lt.mpr h8)]
    rcases hf.2.2 with z | z
    · rw [e] at z; exact absurd z bs_10
    · unfold xa_pb
      rw [e, if_neg bs_10]
      exact ad_ok8 z.1 z.2
  · rw [bs_un e, bs_un e, bs_un e, bs_un e]
    exact h x (by omega)
theorem i_vc_openBlocks {k : Nat} {u : SX} {v : SY} (I : i_Rel k u v) (hk : k + 5 ≤ 2564) : wpX_openBlocks (fun r => wpY_openBlocks (fun r' => r' = r ∧ i_Rel (k + 5) u v) v) u := by
  refine rl_el (k := k) (P := fun u v => ∀ R : Prop, R → wpX_openBlocks (fun r => wpY_openBlocks (fun r' => r' = r ∧ R) v) u) ?_ u v I _ (i_up I)
  intro L LL T G n f_isSealed f_openTotal f_openLoops f_alive f_depth f_clash a_kinds a_fieldD a_fieldA a_fieldB a_blockLine a_blockHasElse a_opener a_elseOf a_endOf a_wayNonzero a_wayZero a_postDom a_rejoinOf a_regs a_cells a_work a_stored a_tripCount a_stackPlace a_stackMask a_stackRejoin a_stopLine a_reads a_writes a_marks a_logLine a_logMask b_nzWay b_zWay b_post b_seen b_regs b_mem b_own b_priv b_trip b_visits b_lineOf b_goneTo b_mates b_exits b_reads b_writes b_marks b_logLine b_logMask hR R hr
  have hn : n ≤ 24 := by have := hR.1; unfold rl_B at this; omega
  unfold wpX_openBlocks
  dsimp only
  refine ya_ob hn ⟨?_, hr⟩
  rcases hR.2.2.2.1 with ⟨_, hU⟩ | ⟨_, h0, hS⟩
  · exact hU.1.symm
  · rw [h0, hS.2.1, nI_0]
theorem i_vc_add {k : Nat} {u : SX} {v : SY} (I : i_Rel k u v) (hk : k + 5 ≤ 2564) (v1 : Int32) (v2 : Int32) (v3 : Int32) (v4 : Int32) : wpX_add (fun r u' => wpY_add (fun r' v' => r' = r ∧ i_Rel (k + 5) u' v') v v1 v2 v3 v4) u v1 v2 v3 v4 := by
  refine rl_el (k := k) (P := fun u v => wpX_add (fun r u' => wpY_add (fun r' v' => r' = r ∧ i_Rel (k + 5) u' v') v v1 v2 v3 v4) u v1 v2 v3 v4) ?_ u v I
  intro L LL T G n f_isSealed f_openTotal f_openLoops f_alive f_depth f_clash a_kinds a_fieldD a_fieldA a_fieldB a_blockLine a_blockHasElse a_opener a_elseOf a_endOf a_wayNonzero a_wayZero a_postDom a_rejoinOf a_regs a_cells a_work a_stored a_tripCount a_stackPlace a_stackMask a_stackRejoin a_stopLine a_reads a_writes a_marks a_logLine a_logMask b_nzWay b_zWay b_post b_seen b_regs b_mem b_own b_priv b_trip b_visits b_lineOf b_goneTo b_mates b_exits b_reads b_writes b_marks b_logLine b_logMask hR
  have hn : n ≤ 24 := by have := hR.1; unfold rl_B at this; omega
  have hLL : LL ≤ 24 := by have := hR.1; unfold rl_B at this; omega
  have hsame : i_Rel (k + 5) (nI L, nI LL, nI T, nI G, nI n, f_isSealed, f_openTotal, f_openLoops, f_alive, f_depth, f_clash, a_kinds, a_fieldD, a_fieldA, a_fieldB, a_blockLine, a_blockHasElse, a_opener, a_elseOf, a_endOf, a_wayNonzero, a_wayZero, a_postDom, a_rejoinOf, a_regs, a_cells, a_work, a_stored, a_tripCount, a_stackPlace, a_stackMask, a_stackRejoin, a_stopLine, a_reads, a_writes, a_marks, a_logLine, a_logMask) (nI L, nI LL, nI T, nI G, nI n, f_isSealed, f_clash, a_kinds, a_fieldD, a_fieldA, a_fieldB, b_nzWay, b_zWay, b_post, b_seen, b_regs, b_mem, b_own, b_priv, b_trip, b_visits, b_lineOf, b_goneTo, b_mates, b_exits, b_reads, b_writes, b_marks, b_logLine, b_logMask) := ⟨L, LL, T, G, n, rfl, rfl, rfl, rfl, rfl, rfl, rfl, rfl, rfl, rfl, rfl, rfl, rfl, rfl, rfl, rfl, hR⟩
  unfold wpX_add
  rcases hR.2.2.2.1 with ⟨s0, hU⟩ | ⟨s1, _, hS⟩
  · subst s0
    refine br_t rfl ?_
    by_cases c1 : v1 < 1
    · refine br_t c1 ?_
      unfold wpY_add
      exact br_t rfl (br_t c1 ⟨rfl, hsame⟩)
    · by_cases c2 : v1 ≤ 19
      · by_cases c3 : nI n < nI LL
        · have hnl : n < LL := (nI_ltI (by omega) (by omega)).mp c3
          have k1 : 1 ≤ v1 := Int32.not_lt.mp c1
          have yy : ∀ (post : Int32 → SY → Prop), wY_add_124 post v1 v2 v3 v4 (ad_D v1) (ad_A v1) (ad_R v1) (ad_I v1) (nI L) (nI LL) (nI T) (nI G) (nI n) 0 f_clash a_kinds a_fieldD a_fieldA a_fieldB b_nzWay b_zWay b_post b_seen b_regs b_mem b_own b_priv b_trip b_visits b_lineOf b_goneTo b_mates b_exits b_reads b_writes b_marks b_logLine b_logMask → wpY_add post (nI L, nI LL, nI T, nI G, nI n, 0, f_clash, a_kinds, a_fieldD, a_fieldA, a_fieldB, b_nzWay, b_zWay, b_post, b_seen, b_regs, b_mem, b_own, b_priv, b_trip, b_visits, b_lineOf, b_goneTo, b_mates, b_exits, b_reads, b_writes, b_marks, b_logLine, b_logMask) v1 v2 v3 v4 := by
            intro post h
            unfold wpY_add
            exact br_t rfl (br_f c1 (br_t c2 (br_t c3 (ya_fl (ya_58 (ya_76 (ya_94 k1 c2 h)))))))
          refine br_f c1 (br_t c2 (br_t c3 (xa_fit (fun hf => br_f bs_10 ?_) (fun hf => br_t rfl ?_))))
          · obtain ⟨r, r1, r2, r3⟩ := av_nest (k := v1) (d := v2) (a := v3) (b := v4) (n := n) (f_laneTotal := nI L) (f_lineLimit := nI LL) (f_tripLimit := nI T) (f_logLimit := nI G) (f_isSealed := 0) (f_openTotal := f_openTotal) (f_openLoops := f_openLoops) (f_alive := f_alive) (f_depth := f_depth) (f_clash := f_clash) (a_kinds := a_kinds) (a_fieldD := a_fieldD) (a_fieldA := a_fieldA) (a_fieldB := a_fieldB) (a_blockLine := a_blockLine) (a_blockHasElse := a_blockHasElse) (a_opener := a_opener) (a_elseOf := a_elseOf) (a_endOf := a_endOf) (a_wayNonzero := a_wayNonzero) (a_wayZero := a_wayZero) (a_postDom := a_postDom) (a_rejoinOf := a_rejoinOf) (a_regs := a_regs) (a_cells := a_cells) (a_work := a_work) (a_stored := a_stored) (a_tripCount := a_tripCount) (a_stackPlace := a_stackPlace) (a_stackMask := a_stackMask) (a_stackRejoin := a_stackRejoin) (a_stopLine := a_stopLine) (a_reads := a_reads) (a_writes := a_writes) (a_marks := a_marks) (a_logLine := a_logLine) (a_logMask := a_logMask) (g_lanes := nI L) (g_lines := nI LL) (g_trips := nI T) (g_logSize := nI G) (g_sealed := 0) (g_clash := f_clash) (b_fd := a_fieldD) (b_fa := a_fieldA) (b_fb := a_fieldB) (b_nzWay := b_nzWay) (b_zWay := b_zWay) (b_post := b_post) (b_seen := b_seen) (b_regs := b_regs) (b_mem := b_mem) (b_own := b_own) (b_priv := b_priv) (b_trip := b_trip) (b_visits := b_visits) (b_lineOf := b_lineOf) (b_goneTo := b_goneTo) (b_mates := b_mates) (b_exits := b_exits) (b_reads := b_reads) (b_writes := b_writes) (b_marks := b_marks) (b_logLine := b_logLine) (b_logMask := b_logMask) (by omega) hR.2.1 hU k1 c2
            have y2 : ∀ (post : Int32 → SY → Prop), (r = 0 → wY_add_349 post v1 v2 v3 v4 (ad_D v1) (ad_A v1) (ad_R v1) (ad_I v1) (nI L) (nI LL) (nI T) (nI G) (nI n) 0 f_clash a_kinds a_fieldD a_fieldA a_fieldB b_nzWay b_zWay b_post b_seen b_regs b_mem b_own b_priv b_trip b_visits b_lineOf b_goneTo b_mates b_exits b_reads b_writes b_marks b_logLine b_logMask) → (¬ r = 0 → post r (nI L, nI LL, nI T, nI G, nI n, 0, f_clash, a_kinds, a_fieldD, a_fieldA, a_fieldB, b_nzWay, b_zWay, b_post, b_seen, b_regs, b_mem, b_own, b_priv, b_trip, b_visits, b_lineOf, b_goneTo, b_mates, b_exits, b_reads, b_writes, b_marks, b_logLine, b_logMask)) → wpY_add post (nI L, nI LL, nI T, nI G, nI n, 0, f_clash, a_kinds, a_fieldD, a_fieldA, a_fieldB, b_nzWay, b_zWay, b_post, b_seen, b_regs, b_mem, b_own, b_priv, b_trip, b_visits, b_lineOf, b_goneTo, b_mates, b_exits, b_reads, b_writes, b_marks, b_logLine, b_logMask) v1 v2 v3 v4 := by
              intro post h1 h2
              refine yy post (ya_124 (fun _ => ?_) (fun z => absurd hf z))
              unfold wY_add_179
              exact ⟨n + 1, ya_191 hn hU (r3 post _ _ _ _ h1 h2) (n + 1) 0 0 (by omega) (by omega) (fun _ _ _ => Nat.zero_le _) ya_h0⟩
            refine r1 _ (br_c (fun z => ?_) (fun z => ?_))
            · have hC := r2 z
              refine ⟨vp_in_nI (by omega) (by decide), nm_r (e' := upd a_kinds n v1) (by rw [nI_clamp (by omega)]) (xa_put (by omega) hR.2.1 hU hC (fun ot ol bl bh hU2 => ?_))⟩
              refine y2 _ (fun _ => ya_put (by omega) ⟨rfl, ?_⟩) (fun z' => absurd z z')
              refine ⟨L, LL, T, G, n + 1, rfl, rfl, rfl, rfl, rfl, rfl, rfl, rfl, rfl, rfl, rfl, rfl, rfl, rfl, rfl, rfl, ?_, ad_WF (by omega) hR.2.1 hU k1 c2 hC.1 hC.2.1 hC.2.2.1 hC.2.2.2.1 hC.2.2.2.2, av_F hR.2.2.1 hf, Or.inl ⟨rfl, hU2⟩, hR.2.2.2.2.1, hR.2.2.2.2.2⟩
              have := hR.1
              unfold rl_B at this ⊢
              omega
            · exact y2 _ (fun z' => absurd z' z) (fun _ => ⟨rfl, hsame⟩)
          · exact yy _ (ya_124 (fun z => absurd z hf) (fun _ => ⟨rfl, hsame⟩))
        · refine br_f c1 (br_t c2 (br_f c3 ?_))
          unfold wpY_add
          exact br_t rfl (br_f c1 (br_t c2 (br_f c3 ⟨rfl, hsame⟩)))
      · refine br_f c1 (br_f c2 ?_)
        unfold wpY_add
        exact br_t rfl (br_f c1 (br_f c2 ⟨rfl, hsame⟩))
  · subst s1
    refine br_f bs_10 ?_
    unfold wpY_add
    exact br_f bs_10 ⟨rfl, hsame⟩
end
section
/-! seal: matching the blocks -/
def mb_I (kd : Nat → Int32) (m : Nat) (bl op eo en : Nat → Int32) : Prop :=
  (∀ l, l < ns_ln kd m → ∃ x, bl l = nI x ∧ ns_OA kd x m ∧ ns_ln kd x = l) ∧
  (∀ x, x < m → ns_Op kd x → (∃ el, el < m ∧ ns_EL kd x el ∧ eo x = nI el) ∨ ((∀ el, el < m → ¬ ns_EL kd x el) ∧ eo x = -1)) ∧
  (∀ x i, i < m → ns_EN kd x i → en x = nI i ∧ op i = nI x ∧ ∀ el, el < m → ns_EL kd x el → en el = nI i) ∧
  (∀ i, i < m → kd i = 17 ∨ kd i = 18 → ∃ w, ns_LP kd w i ∧ op i = nI w)
section
variable {kd bl op eo en : Nat → Int32} {n m : Nat}
theorem mb_0 : mb_I kd 0 bl op eo en := ⟨fun l hl => absurd hl (Nat.not_lt_zero _), fun x hx => absurd hx (Nat.not_lt_zero _), fun x i hi => absurd hi (Nat.not_lt_zero _), fun i hi => absurd hi (Nat.not_lt_zero _)⟩
theorem mb_pre {a b c : Int32} (h : mb_I kd m bl op eo en) : mb_I kd m bl (upd op m a) (upd eo m b) (upd en m c) := by
  obtain ⟨h1, h2, h3, h5⟩ := h
  refine ⟨h1, fun x hx ho => ?_, fun x i hi hE => ?_, fun i hi hk => ?_⟩
  · rw [bs_un (by omega)]
    exact h2 x hx ho
  · obtain ⟨a1, a2, a3⟩ := h3 x i hi hE
    have hxi := hE.1
    rw [bs_un (by omega), bs_un (by omega)]
    exact ⟨a1, a2, fun el hel z => by rw [bs_un (by omega)]; exact a3 el hel z⟩
  · rw [bs_un (by omega)]
    exact h5 i hi hk
theorem mb_OA {x : Nat} (h : ns_OA kd x m) (hl : ns_ln kd x < ns_ln kd (m + 1)) : ns_OA kd x (m + 1) := by
  refine ⟨by have := h.1; omega, h.2.1, fun j a b => ?_⟩
  by_cases e : j = m + 1
  · subst e; exact hl
  · exact h.2.2 j a (by omega)
theorem mb_nEL {x : Nat} (h14 : ¬ kd m = 14) (h : ∀ el, el < m → ¬ ns_EL kd x el) : ∀ el, el < m + 1 → ¬ ns_EL kd x el := by
  intro el hel z
  by_cases e : el = m
  · subst e; exact h14 z.2.1
  · exact h el (by omega) z
theorem mb_open (h : mb_I kd m bl op eo en) (ho : ns_Op kd m) (he : eo m = -1) : mb_I kd (m + 1) (upd bl (ns_ln kd m) (nI m)) op eo en := by
  obtain ⟨h1, h2, h3, h5⟩ := h
  have h14 := ns_op_n14 ho
  have h15 := ns_op_n15 ho
  have hl := ns_ln_op ho
  refine ⟨fun l hl' => ?_, fun x hx hox => ?_, fun x i hi hE => ?_, fun i hi hk => ?_⟩
  · by_cases e : l = ns_ln kd m
    · subst e
      refine ⟨m, bs_us, ⟨by omega, ho, fun j a b => ?_⟩, rfl⟩
      have : j = m + 1 := by omega
      subst this; omega
    · obtain ⟨x, a, b, c⟩ := h1 l (by omega)
      rw [bs_un e]
      exact ⟨x, a, mb_OA b (by omega), c⟩
  · by_cases e : x = m
    · subst e
      exact Or.inr ⟨fun el hel z => by have := z.1.1; omega, he⟩
    · rcases h2 x (by omega) hox with ⟨el, a, b, c⟩ | ⟨a, b⟩
      · exact Or.inl ⟨el, by omega, b, c⟩
      · exact Or.inr ⟨mb_nEL h14 a, b⟩
  · by_cases e : i = m
    · subst e
      exact absurd (ns_EN_15 hE) h15
    · obtain ⟨a1, a2, a3⟩ := h3 x i (by omega) hE
      refine ⟨a1, a2, fun el hel z => ?_⟩
      by_cases e2 : el = m
      · subst e2; exact absurd z.2.1 h14
      · exact a3 el (by omega) z
  · by_cases e : i = m
    · subst e
      exfalso
      rcases ho with q | q <;> rcases hk with q2 | q2 <;> exact absurd (q.symm.trans q2) (by decide)
    · exact h5 i (by omega) hk
theorem mb_oth (h : mb_I kd m bl op eo en) (ho : ¬ ns_Op kd m) (h14 : ¬ kd m = 14) (h15 : ¬ kd m = 15) (hb : kd m = 17 ∨ kd m = 18 → ∃ w, ns_LP kd w m ∧ op m = nI w) : mb_I kd (m + 1) bl op eo en := by
  obtain ⟨h1, h2, h3, h5⟩ := h
  have hl := ns_ln_o ho h15
  refine ⟨fun l hl' => ?_, fun x hx hox => ?_, fun x i hi hE => ?_, fun i hi hk => ?_⟩
  · obtain ⟨x, a, b, c⟩ := h1 l (by omega)
    exact ⟨x, a, mb_OA b (by omega), c⟩
  · by_cases e : x = m
    · subst e; exact absurd hox ho
    · rcases h2 x (by omega) hox with ⟨el, a, b, c⟩ | ⟨a, b⟩
      · exact Or.inl ⟨el, by omega, b, c⟩
      · exact Or.inr ⟨mb_nEL h14 a, b⟩
  · by_cases e : i = m
    · subst e
      exact absurd (ns_EN_15 hE) h15
    · obtain ⟨a1, a2, a3⟩ := h3 x i (by omega) hE
      refine ⟨a1, a2, fun el hel z => ?_⟩
      by_cases e2 : el = m
      · subst e2; exact absurd z.2.1 h14
      · exact a3 el (by omega) z
  · by_cases e : i = m
    · subst e; exact hb hk
    · exact h5 i (by omega) hk
theorem mb_brk {w : Nat} (h : mb_I kd m bl op eo en) (hk : kd m = 17 ∨ kd m = 18) (hw : ns_LP kd w m) : mb_I kd (m + 1) bl (upd op m (nI w)) eo en := by
  have ho : ¬ ns_Op kd m := by
    intro z
    rcases z with q | q <;> rcases hk with q2 | q2 <;> exact absurd (q.symm.trans q2) (by decide)
  have h14 : ¬ kd m = 14 := by
    intro q
    rcases hk with q2 | q2 <;> exact absurd (q.symm.trans q2) (by decide)
  have h15 : ¬ kd m = 15 := by
    intro q
    rcases hk with q2 | q2 <;> exact absurd (q.symm.trans q2) (by decide)
  have h' : mb_I kd m bl (upd op m (nI w)) eo en := by
    have := mb_pre (a := nI w) (b := eo m) (c := en m) h
    rwa [show upd eo m (eo m) = eo from funext fun j => by unfold upd; split <;> simp_all, show upd en m (en m) = en from funext fun j => by unfold upd; split <;> simp_all] at this
  exact mb_oth h' ho h14 h15 (fun _ => ⟨w, hw, bs_us⟩)
theorem mb_else {x0 : Nat} (h : mb_I kd m bl op eo en) (hk : kd m = 14) (hx0 : ns_OA kd x0 m) (hl0 : ns_ln kd m = ns_ln kd x0 + 1) : mb_I kd (m + 1) bl (upd op m (nI x0)) (upd eo x0 (nI m)) en := by
  obtain ⟨h1, h2, h3, h5⟩ := h
  have ho : ¬ ns_Op kd m := ns_nop hk ns_k9 ns_k10
  have h15 : ¬ kd m = 15 := by rw [hk]; exact ns_k11
  have hl := ns_ln_o ho h15
  have hEL : ns_EL kd x0 m := ⟨hx0, hk, hl0⟩
  have hx0m := hx0.1
  refine ⟨fun l hl' => ?_, fun x hx hox => ?_, fun x i hi hE => ?_, fun i hi hk' => ?_⟩
  · obtain ⟨x, a, b, c⟩ := h1 l (by omega)
    exact ⟨x, a, mb_OA b (by omega), c⟩
  · by_cases e : x = m
    · subst e; exact absurd hox ho
    · by_cases e2 : x = x0
      · subst e2
        exact Or.inl ⟨m, by omega, hEL, bs_us⟩
      · rw [bs_un e2]
        rcases h2 x (by omega) hox with ⟨el, a, b, c⟩ | ⟨a, b⟩
        · exact Or.inl ⟨el, by omega, b, c⟩
        · refine Or.inr ⟨fun el hel z => ?_, b⟩
          by_cases e3 : el = m
          · subst e3; exact e2 (ns_EL_u2 z hEL)
          · exact a el (by omega) z
  · by_cases e : i = m
    · subst e
      exact absurd (ns_EN_15 hE) h15
    · obtain ⟨a1, a2, a3⟩ := h3 x i (by omega) hE
      rw [bs_un e]
      refine ⟨a1, a2, fun el hel z => ?_⟩
      by_cases e2 : el = m
      · subst e2
        have := ns_EL_u2 z hEL
        subst this
        have := ns_OA_EN hx0 hE
        omega
      · exact a3 el (by omega) z
  · by_cases e : i = m
    · subst e
      exfalso
      rcases hk' with q2 | q2 <;> exact absurd (hk.symm.trans q2) (by decide)
    · rw [bs_un e]
      exact h5 i (by omega) hk'
theorem mb_end {x0 : Nat} {en' : Nat → Int32} (hw : ns_WF kd n) (hm : m < n) (h : mb_I kd m bl op eo en) (hk : kd m = 15) (hE0 : ns_EN kd x0 m)
    (e1 : en' x0 = nI m) (e2 : ∀ el, el < m → ns_EL kd x0 el → en' el = nI m) (e3 : ∀ j, j ≠ x0 → ¬ ns_EL kd x0 j → en' j = en j) : mb_I kd (m + 1) bl (upd op m (nI x0)) eo en' := by
  obtain ⟨h1, h2, h3, h5⟩ := h
  have ho : ¬ ns_Op kd m := ns_nop hk ns_k7 ns_k8
  have h14 : ¬ kd m = 14 := by rw [hk]; decide
  have hl := ns_ln_cl hk
  have hx0 := ns_EN_OA hE0
  have hx0m := hx0.1
  refine ⟨fun l hl' => ?_, fun x hx hox => ?_, fun x i hi hE => ?_, fun i hi hk' => ?_⟩
  · obtain ⟨x, a, b, c⟩ := h1 l (by omega)
    exact ⟨x, a, mb_OA b (by omega), c⟩
  · by_cases e : x = m
    · subst e; exact absurd hox ho
    · rcases h2 x (by omega) hox with ⟨el, a, b, c⟩ | ⟨a, b⟩
      · exact Or.inl ⟨el, by omega, b, c⟩
      · exact Or.inr ⟨mb_nEL h14 a, b⟩
  · by_cases e : i = m
    · subst e
      have := ns_EN_u2 hE hE0
      subst this
      refine ⟨e1, bs_us, fun el hel z => ?_⟩
      by_cases q : el = i
      · subst q; exact absurd z.2.1 h14
      · exact e2 el (by omega) z
    · obtain ⟨a1, a2, a3⟩ := h3 x i (by omega) hE
      have hne : x ≠ x0 := by
        intro q
        subst q
        have := ns_OA_EN hx0 hE
        omega
      rw [bs_un e, e3 x hne (fun z => ns_op_n14 hE.2.1 z.2.1)]
      refine ⟨a1, a2, fun el hel z => ?_⟩
      by_cases q : el = m
      · subst q; exact absurd z.2.1 h14
      · rw [e3 el (fun q2 => ns_op_n14 hE0.2.1 (by rw [← q2]; exact z.2.1)) (fun z2 => hne (ns_EL_u2 z z2))]
        exact a3 el (by omega) z
  · by_cases e : i = m
    · subst e
      exfalso
      rcases hk' with q2 | q2 <;> exact absurd (hk.symm.trans q2) (by decide)
    · rw [bs_un e]
      exact h5 i (by omega) hk'
end
section
variable {f_laneTotal f_lineLimit f_tripLimit f_logLimit f_count f_isSealed f_openTotal f_openLoops f_alive f_depth f_clash : Int32} {a_kinds a_fieldD a_fieldA a_fieldB a_blockLine a_blockHasElse a_opener a_elseOf a_endOf a_wayNonzero a_wayZero a_postDom a_rejoinOf a_regs a_cells a_work a_stored a_tripCount a_stackPlace a_stackMask a_stackRejoin a_stopLine a_reads a_writes a_marks a_logLine a_logMask : Nat → Int32}
theorem mb_il4 {post : Int32 → Prop} {i w : Nat} (hi : i < 24) (hb : ∀ l, l < ns_ln a_kinds i → ∃ x, a_blockLine l = nI x ∧ ns_OA a_kinds x i ∧ ns_ln a_kinds x = l) (h5 : ns_ln a_kinds i ≤ 5) (hL : ns_LP a_kinds w i) (hp : post (nI w)) :
    ∀ c, ns_ln a_kinds w < c → c ≤ ns_ln a_kinds i → wX_innermostLoop_4 post f_laneTotal f_lineLimit f_tripLimit f_logLimit f_count f_isSealed f_openTotal f_openLoops f_alive f_depth f_clash a_kinds a_fieldD a_fieldA a_fieldB a_blockLine a_blockHasElse a_opener a_elseOf a_endOf a_wayNonzero a_wayZero a_postDom a_rejoinOf a_regs a_cells a_work a_stored a_tripCount a_stackPlace a_stackMask a_stackRejoin a_stopLine a_reads a_writes a_marks a_logLine a_logMask (c + 1) (nI (c - 1)) := by
  intro c
  induction c with
  | zero => intro h; omega
  | succ c ih =>
    intro h1 h2
    obtain ⟨x, x1, x2, x3⟩ := hb c (by omega)
    have hx := x2.1
    have cc : (nI c).toNatClampNeg = c := nI_clamp (by omega)
    have cx : (nI x).toNatClampNeg = x := nI_clamp (by omega)
    have v : vp_in (nI c) 5 := vp_in_nI (by omega) (by decide)
    rw [show c + 1 - 1 = c from rfl, wX_innermostLoop_4]
    dsimp only
    rw [cc, x1, cx]
    refine br_f (nI_pos (by omega)) ⟨v, vp_in_nI (by omega) (by decide), br_c (fun hk => ⟨v, ?_⟩) (fun hk => ?_)⟩
    · have h3 := hL.2.2 x x2 hk
      have : x = w := by
        apply Classical.byContradiction
        intro q
        have := ns_OA_lt x2 hL.1 (by omega)
        omega
      rw [this]; exact hp
    · have h3 : ns_ln a_kinds w ≠ c := by
        intro q
        have := ns_OA_u x2 hL.1 (x3.trans q.symm)
        subst this
        exact hk hL.2.1
      exact nm_r (bs_m (by omega)) (ih (by omega) (by omega))
theorem mb_il {post : Int32 → Prop} {i w : Nat} (hi : i < 24) (hb : ∀ l, l < ns_ln a_kinds i → ∃ x, a_blockLine l = nI x ∧ ns_OA a_kinds x i ∧ ns_ln a_kinds x = l) (h5 : ns_ln a_kinds i ≤ 5) (hL : ns_LP a_kinds w i) (hp : post (nI w)) : wpX_innermostLoop post (f_laneTotal, f_lineLimit, f_tripLimit, f_logLimit, f_count, f_isSealed, f_openTotal, f_openLoops, f_alive, f_depth, f_clash, a_kinds, a_fieldD, a_fieldA, a_fieldB, a_blockLine, a_blockHasElse, a_opener, a_elseOf, a_endOf, a_wayNonzero, a_wayZero, a_postDom, a_rejoinOf, a_regs, a_cells, a_work, a_stored, a_tripCount, a_stackPlace, a_stackMask, a_stackRejoin, a_stopLine, a_reads, a_writes, a_marks, a_logLine, a_logMask) (nI (ns_ln a_kinds i)) := by
  unfold wpX_innermostLoop
  dsimp only
  have h1 := hL.1.2.2 i hL.1.1 (Nat.le_refl _)
  exact nm_r (bs_s (by omega)) ⟨ns_ln a_kinds i + 1, mb_il4 hi hb h5 hL hp _ h1 (Nat.le_refl _)⟩
theorem mb_4 {post : SX → Prop} {n : Nat} (hn : n ≤ 24) (hw : ns_WF a_kinds n) (K : ∀ bl op eo en, mb_I a_kinds n bl op eo en → post (f_laneTotal, f_lineLimit, f_tripLimit, f_logLimit, nI n, f_isSealed, f_openTotal, f_openLoops, f_alive, f_depth, f_clash, a_kinds, a_fieldD, a_fieldA, a_fieldB, bl, a_blockHasElse, op, eo, en, a_wayNonzero, a_wayZero, a_postDom, a_rejoinOf, a_regs, a_cells, a_work, a_stored, a_tripCount, a_stackPlace, a_stackMask, a_stackRejoin, a_stopLine, a_reads, a_writes, a_marks, a_logLine, a_logMask)) :
    ∀ fu i bl op eo en, n - i < fu → i ≤ n → mb_I a_kinds i bl op eo en → wX_matchBlocks_4 post fu (nI (ns_ln a_kinds i)) (nI i) f_laneTotal f_lineLimit f_tripLimit f_logLimit (nI n) f_isSealed f_openTotal f_openLoops f_alive f_depth f_clash a_kinds a_fieldD a_fieldA a_fieldB bl a_blockHasElse op eo en a_wayNonzero a_wayZero a_postDom a_rejoinOf a_regs a_cells a_work a_stored a_tripCount a_stackPlace a_stackMask a_stackRejoin a_stopLine a_reads a_writes a_marks a_logLine a_logMask := by
  intro fu
  induction fu with
  | zero => intro i _ _ _ _ h; omega
  | succ fu ih =>
    intro i bl op eo en hf hi hI
    rw [wX_matchBlocks_4]
    dsimp only
    by_cases c : n ≤ i
    · have : i = n := by omega
      subst this
      exact br_t (nI_le (Nat.le_refl _) (by omega)) (K bl op eo en hI)
    · have hin : i < n := by omega
      have l5 := ad_ln5 hw i hi
      have ci : (nI i).toNatClampNeg = i := nI_clamp (by omega)
      have v : vp_in (nI i) 24 := vp_in_nI (by omega) (by decide)
      have hI1 := mb_pre (a := -1) (b := -1) (c := -1) hI
      have hwi := hw i hin
      rw [ci]
      refine br_f (nI_ge (by omega) (by omega)) ⟨v, nm_e ⟨v, nm_e ⟨v, nm_e ⟨v, nm_e ?_⟩⟩⟩⟩
      have s52 : ns_Op a_kinds i → wX_matchBlocks_52 post (wX_matchBlocks_4 post fu) (nI (ns_ln a_kinds i)) (nI i) (a_kinds i) f_laneTotal f_lineLimit f_tripLimit f_logLimit (nI n) f_isSealed f_openTotal f_openLoops f_alive f_depth f_clash a_kinds a_fieldD a_fieldA a_fieldB bl a_blockHasElse (upd op i (-1)) (upd eo i (-1)) (upd en i (-1)) a_wayNonzero a_wayZero a_postDom a_rejoinOf a_regs a_cells a_work a_stored a_tripCount a_stackPlace a_stackMask a_stackRejoin a_stopLine a_reads a_writes a_marks a_logLine a_logMask := by
        intro ho
        have hlt := hwi.2.2.2.2.1 ho
        have cl : (nI (ns_ln a_kinds i)).toNatClampNeg = ns_ln a_kinds i := nI_clamp (by omega)
        unfold wX_matchBlocks_52
        rw [cl]
        refine br_f (nI_ge (b := 5) hlt (by decide)) ⟨vp_in_nI hlt (by decide), nm_e (nm_r (nI_1 _) (nm_r (nI_1 i) ?_))⟩
        have := ih (i + 1) _ _ _ _ (by omega) (by omega) (mb_open hI1 ho bs_us)
        rw [ns_ln_op ho] at this
        exact this
      refine br_c (fun k13 => s52 (Or.inl k13)) (fun k13 => br_c (fun k16 => s52 (Or.inr k16)) (fun k16 => ?_))
      have ho : ¬ ns_Op a_kinds i := fun z => by
        rcases z with z | z
        · exact k13 z
        · exact k16 z
      unfold wX_matchBlocks_70
      refine br_c (fun k14 => ?_) (fun k14 => ?_)
      · obtain ⟨x0, x1, x2, x3, x4⟩ := hwi.2.1 k14
        obtain ⟨y, y1, y2, y3⟩ := hI.1 (ns_ln a_kinds i - 1) (by omega)
        have : y = x0 := ns_OA_u y2 x1 (by omega)
        subst this
        have hy := y2.1
        have cy : (nI y).toNatClampNeg = y := nI_clamp (by omega)
        have et : nI (ns_ln a_kinds i) - 1 = nI (ns_ln a_kinds i - 1) := bs_s (by omega)
        have ct : (nI (ns_ln a_kinds i - 1)).toNatClampNeg = ns_ln a_kinds i - 1 := nI_clamp (by omega)
        rw [et, ct, y1, ci]
        refine br_f (nI_nle (by omega) (by omega)) ⟨vp_in_nI (by omega) (by decide), v, nm_e ⟨v, ?_⟩⟩
        rw [bs_us, cy]
        refine ⟨vp_in_nI (by omega) (by decide), nm_e (nm_r (nI_1 i) ?_)⟩
        have := ih (i + 1) _ _ _ _ (by omega) (by omega) (mb_else hI1 k14 y2 (by omega))
        rw [ns_ln_o ho (by rw [k14]; exact ns_k11)] at this
        exact this
      · unfold wX_matchBlocks_109
        refine br_c (fun k15 => ?_) (fun k15 => ?_)
        · have hl0 := hwi.2.2.1 k15
          obtain ⟨y, y1, y2, y3⟩ := hI.1 (ns_ln a_kinds i - 1) (by omega)
          have hy := y2.1
          have cy : (nI y).toNatClampNeg = y := nI_clamp (by omega)
          have et : nI (ns_ln a_kinds i) + (-1) = nI (ns_ln a_kinds i - 1) := bs_m (by omega)
          have ct : (nI (ns_ln a_kinds i - 1)).toNatClampNeg = ns_ln a_kinds i - 1 := nI_clamp (by omega)
          have hcl := ns_ln_cl k15
          have hE0 : ns_EN a_kinds y i := ⟨hy, y2.2.1, by omega, y2.2.2⟩
          have vy : vp_in (nI y) 24 := vp_in_nI (by omega) (by decide)
          refine br_f (nI_nle (by omega) (by omega)) (nm_r et ⟨vp_in_nI (by omega) (by decide), ?_⟩)
          rw [ct, y1]
          have go : ∀ en', en' y = nI i → (∀ el, el < i → ns_EL a_kinds y el → en' el = nI i) → (∀ j, j ≠ y → ¬ ns_EL a_kinds y j → en' j = upd en i (-1) j) → wX_matchBlocks_4 post fu (nI (ns_ln a_kinds i - 1)) (nI (i + 1)) f_laneTotal f_lineLimit f_tripLimit f_logLimit (nI n) f_isSealed f_openTotal f_openLoops f_alive f_depth f_clash a_kinds a_fieldD a_fieldA a_fieldB bl a_blockHasElse (upd (upd op i (-1)) i (nI y)) (upd eo i (-1)) en' a_wayNonzero a_wayZero a_postDom a_rejoinOf a_regs a_cells a_work a_stored a_tripCount a_stackPlace a_stackMask a_stackRejoin a_stopLine a_reads a_writes a_marks a_logLine a_logMask := by
            intro en' e1 e2 e3
            have := ih (i + 1) _ _ _ _ (by omega) (by omega) (mb_end hw hin hI1 k15 hE0 e1 e2 e3)
            rw [hcl] at this
            exact this
          unfold wpX_closeBlock
          dsimp only
          rw [ci, cy]
          refine ⟨v, nm_e ⟨vy, nm_e ⟨vy, ?_⟩⟩⟩
          rcases hI1.2.1 y hy y2.2.1 with ⟨el, q1, q2, q3⟩ | ⟨q1, q2⟩
          · rw [q3]
            have cel : (nI el).toNatClampNeg = el := nI_clamp (by omega)
            have hne : el ≠ y := fun z => ns_op_n14 y2.2.1 (by rw [← z]; exact q2.2.1)
            rw [cel]
            refine br_f (nI_pos (by omega)) ⟨vy, vp_in_nI (by omega) (by decide), nm_e (nm_r (nI_1 i) (go _ ?_ ?_ ?_))⟩
            · rw [bs_un hne.symm, bs_us]
            · intro el' hel' z
              rw [ns_EL_u hw z q2 (by omega) (by omega), bs_us]
            · intro j hj hj2
              rw [bs_un (fun z => hj2 (by rw [z]; exact q2)), bs_un hj]
          · rw [q2]
            refine br_t bs_n1lt (nm_r (nI_1 i) (go _ bs_us ?_ ?_))
            · intro el' hel' z
              exact absurd z (q1 el' hel')
            · intro j hj hj2
              exact bs_un hj
        · have hln := ns_ln_o ho k15
          unfold wX_matchBlocks_136
          have s148 : a_kinds i = 17 ∨ a_kinds i = 18 → wX_matchBlocks_148 post (wX_matchBlocks_4 post fu) (nI (ns_ln a_kinds i)) (nI i) f_laneTotal f_lineLimit f_tripLimit f_logLimit (nI n) f_isSealed f_openTotal f_openLoops f_alive f_depth f_clash a_kinds a_fieldD a_fieldA a_fieldB bl a_blockHasElse (upd op i (-1)) (upd eo i (-1)) (upd en i (-1)) a_wayNonzero a_wayZero a_postDom a_rejoinOf a_regs a_cells a_work a_stored a_tripCount a_stackPlace a_stackMask a_stackRejoin a_stopLine a_reads a_writes a_marks a_logLine a_logMask := by
            intro hk
            obtain ⟨w0, w1, w2⟩ := hwi.2.2.2.1 hk
            obtain ⟨w, hL⟩ := ns_LP_ex w1 w2
            unfold wX_matchBlocks_148
            refine mb_il (by omega) hI1.1 l5 hL ⟨v, nm_r (e' := upd (upd op i (-1)) i (nI w)) (by rw [ci]) (nm_r (nI_1 i) ?_)⟩
            have := ih (i + 1) _ _ _ _ (by omega) (by omega) (mb_brk hI1 hk hL)
            rw [hln] at this
            exact this
          refine br_c (fun k17 => s148 (Or.inl k17)) (fun k17 => br_c (fun k18 => s148 (Or.inr k18)) (fun k18 => nm_r (nI_1 i) ?_))
          have := ih (i + 1) _ _ _ _ (by omega) (by omega) (mb_oth hI1 ho k14 k15 (fun z => by
            rcases z with z | z
            · exact absurd z k17
            · exact absurd z k18))
          rw [hln] at this
          exact this
theorem mb_all {post : SX → Prop} {n : Nat} (hn : n ≤ 24) (hw : ns_WF a_kinds n) (K : ∀ bl op eo en, mb_I a_kinds n bl op eo en → post (f_laneTotal, f_lineLimit, f_tripLimit, f_logLimit, nI n, f_isSealed, f_openTotal, f_openLoops, f_alive, f_depth, f_clash, a_kinds, a_fieldD, a_fieldA, a_fieldB, bl, a_blockHasElse, op, eo, en, a_wayNonzero, a_wayZero, a_postDom, a_rejoinOf, a_regs, a_cells, a_work, a_stored, a_tripCount, a_stackPlace, a_stackMask, a_stackRejoin, a_stopLine, a_reads, a_writes, a_marks, a_logLine, a_logMask)) : wpX_matchBlocks post (f_laneTotal, f_lineLimit, f_tripLimit, f_logLimit, nI n, f_isSealed, f_openTotal, f_openLoops, f_alive, f_depth, f_clash, a_kinds, a_fieldD, a_fieldA, a_fieldB, a_blockLine, a_blockHasElse, a_opener, a_elseOf, a_endOf, a_wayNonzero, a_wayZero, a_postDom, a_rejoinOf, a_regs, a_cells, a_work, a_stored, a_tripCount, a_stackPlace, a_stackMask, a_stackRejoin, a_stopLine, a_reads, a_writes, a_marks, a_logLine, a_logMask) := by
  unfold wpX_matchBlocks
  dsimp only
  exact ⟨n + 1, mb_4 hn hw K (n + 1) 0 _ _ _ _ (by omega) (by omega) mb_0⟩
end
end
section
/-! seal: the ways -/
section
variable {kd : Nat → Int32} {n x : Nat} {a b : Int32}
theorem fw_m0 (k : kd x < 13) (ea : a = nI (x + 1)) (eb : b = nI (x + 1)) : wy_W kd n x a b :=
  ⟨fun _ => ⟨ea, eb⟩, fun z => absurd z (wy_lt13 k (by decide)), fun z => absurd z (wy_lt13 k (by decide)), fun z => absurd z (wy_lt13 k (by decide)), fun z => absurd z (wy_lt13 k (by decide)), fun z => absurd z (wy_lt13 k (by decide)), fun z => absurd z (wy_lt13 k (by decide)), fun z => absurd z (wy_lt13 k (by decide))⟩
theorem fw_no {c c' : Int32} (k : kd x = c) (h : ¬ c = c') : ¬ kd x = c' := fun z => h (k.symm.trans z)
theorem fw_nl {c : Int32} (k : kd x = c) (h : ¬ c < 13) : ¬ kd x < 13 := fun z => h (by rw [← k]; exact z)
theorem fw_m13 (k : kd x = 13) (h : a = nI (x + 1) ∧ ((∃ el, ns_EL kd x el ∧ el < n ∧ b = nI (el + 1)) ∨ ((∀ el, el < n → ¬ ns_EL kd x el) ∧ ∃ i, ns_EN kd x i ∧ i < n ∧ b = nI i))) : wy_W kd n x a b :=
  ⟨fun z => absurd z (fw_nl k (by decide)), fun _ => h, fun z => absurd z (fw_no k (by decide)), fun z => absurd z (fw_no k (by decide)), fun z => absurd z (fw_no k (by decide)), fun z => absurd z (fw_no k (by decide)), fun z => absurd z (fw_no k (by decide)), fun z => absurd z (fw_no k (by decide))⟩
theorem fw_m14 (k : kd x = 14) (h : ∃ x0 i, ns_EL kd x0 x ∧ ns_EN kd x0 i ∧ i < n ∧ a = nI i ∧ b = nI i) : wy_W kd n x a b :=
  ⟨fun z => absurd z (fw_nl k (by decide)), fun z => absurd z (fw_no k (by decide)), fun _ => h, fun z => absurd z (fw_no k (by decide)), fun z => absurd z (fw_no k (by decide)), fun z => absurd z (fw_no k (by decide)), fun z => absurd z (fw_no k (by decide)), fun z => absurd z (fw_no k (by decide))⟩
theorem fw_m15 (k : kd x = 15) (h : ∃ x0, ns_EN kd x0 x ∧ ((kd x0 = 16 ∧ a = nI x0 ∧ b = nI x0) ∨ (kd x0 = 13 ∧ a = nI (x + 1) ∧ b = nI (x + 1)))) : wy_W kd n x a b :=
  ⟨fun z => absurd z (fw_nl k (by decide)), fun z => absurd z (fw_no k (by decide)), fun z => absurd z (fw_no k (by decide)), fun _ => h, fun z => absurd z (fw_no k (by decide)), fun z => absurd z (fw_no k (by decide)), fun z => absurd z (fw_no k (by decide)), fun z => absurd z (fw_no k (by decide))⟩
theorem fw_m16 (k : kd x = 16) (h : ∃ i, ns_EN kd x i ∧ i < n ∧ a = nI (x + 1) ∧ b = nI (i + 1)) : wy_W kd n x a b :=
  ⟨fun z => absurd z (fw_nl k (by decide)), fun z => absurd z (fw_no k (by decide)), fun z => absurd z (fw_no k (by decide)), fun z => absurd z (fw_no k (by decide)), fun _ => h, fun z => absurd z (fw_no k (by decide)), fun z => absurd z (fw_no k (by decide)), fun z => absurd z (fw_no k (by decide))⟩
theorem fw_m17 (k : kd x = 17) (h : b = nI (x + 1) ∧ ∃ w i, ns_LP kd w x ∧ ns_EN kd w i ∧ i < n ∧ a = nI (i + 1)) : wy_W kd n x a b :=
  ⟨fun z => absurd z (fw_nl k (by decide)), fun z => absurd z (fw_no k (by decide)), fun z => absurd z (fw_no k (by decide)), fun z => absurd z (fw_no k (by decide)), fun z => absurd z (fw_no k (by decide)), fun _ => h, fun z => absurd z (fw_no k (by decide)), fun z => absurd z (fw_no k (by decide))⟩
theorem fw_m18 (k : kd x = 18) (h : b = nI (x + 1) ∧ ∃ w i, ns_LP kd w x ∧ ns_EN kd w i ∧ i < n ∧ a = nI i) : wy_W kd n x a b :=
  ⟨fun z => absurd z (fw_nl k (by decide)), fun z => absurd z (fw_no k (by decide)), fun z => absurd z (fw_no k (by decide)), fun z => absurd z (fw_no k (by decide)), fun z => absurd z (fw_no k (by decide)), fun z => absurd z (fw_no k (by decide)), fun _ => h, fun z => absurd z (fw_no k (by decide))⟩
theorem fw_m19 (k : kd x = 19) (h : a = -1 ∧ b = nI (x + 1)) : wy_W kd n x a b :=
  ⟨fun z => absurd z (fw_nl k (by decide)), fun z => absurd z (fw_no k (by decide)), fun z => absurd z (fw_no k (by decide)), fun z => absurd z (fw_no k (by decide)), fun z => absurd z (fw_no k (by decide)), fun z => absurd z (fw_no k (by decide)), fun z => absurd z (fw_no k (by decide)), fun _ => h⟩
end
section
variable {f_laneTotal f_lineLimit f_tripLimit f_logLimit f_count f_isSealed f_openTotal f_openLoops f_alive f_depth f_clash : Int32} {a_kinds a_fieldD a_fieldA a_fieldB a_blockLine a_blockHasElse a_opener a_elseOf a_endOf a_wayNonzero a_wayZero a_postDom a_rejoinOf a_regs a_cells a_work a_stored a_tripCount a_stackPlace a_stackMask a_stackRejoin a_stopLine a_reads a_writes a_marks a_logLine a_logMask : Nat → Int32}
theorem fw_185 {post : SX → Prop} {n x : Nat} {a b : Int32} (hx : x < 24) (K : ∀ a b, wy_W a_kinds n x a b → post (f_laneTotal, f_lineLimit, f_tripLimit, f_logLimit, f_count, f_isSealed, f_openTotal, f_openLoops, f_alive, f_depth, f_clash, a_kinds, a_fieldD, a_fieldA, a_fieldB, a_blockLine, a_blockHasElse, a_opener, a_elseOf, a_endOf, upd a_wayNonzero x a, upd a_wayZero x b, a_postDom, a_rejoinOf, a_regs, a_cells, a_work, a_stored, a_tripCount, a_stackPlace, a_stackMask, a_stackRejoin, a_stopLine, a_reads, a_writes, a_marks, a_logLine, a_logMask)) (h : wy_W a_kinds n x a b) : wX_findWays_185 post (nI x) a b f_laneTotal f_lineLimit f_tripLimit f_logLimit f_count f_isSealed f_openTotal f_openLoops f_alive f_depth f_clash a_kinds a_fieldD a_fieldA a_fieldB a_blockLine a_blockHasElse a_opener a_elseOf a_endOf a_wayNonzero a_wayZero a_postDom a_rejoinOf a_regs a_cells a_work a_stored a_tripCount a_stackPlace a_stackMask a_stackRejoin a_stopLine a_reads a_writes a_marks a_logLine a_logMask := by
  have c : (nI x).toNatClampNeg = x := nI_clamp (by omega)
  have v : vp_in (nI x) 24 := vp_in_nI hx (by decide)
  unfold wX_findWays_185
  rw [c]
  exact ⟨v, nm_e ⟨v, nm_e (K a b h)⟩⟩
theorem fw_X {post : SX → Prop} {n x : Nat} (hn : n ≤ 24) (hw : ns_WF a_kinds n) (h0 : ns_ln a_kinds n = 0) (hx : x < n) (hI : mb_I a_kinds n a_blockLine a_opener a_elseOf a_endOf)
    (K : ∀ a b, wy_W a_kinds n x a b → post (f_laneTotal, f_lineLimit, f_tripLimit, f_logLimit, f_count, f_isSealed, f_openTotal, f_openLoops, f_alive, f_depth, f_clash, a_kinds, a_fieldD, a_fieldA, a_fieldB, a_blockLine, a_blockHasElse, a_opener, a_elseOf, a_endOf, upd a_wayNonzero x a, upd a_wayZero x b, a_postDom, a_rejoinOf, a_regs, a_cells, a_work, a_stored, a_tripCount, a_stackPlace, a_stackMask, a_stackRejoin, a_stopLine, a_reads, a_writes, a_marks, a_logLine, a_logMask)) : wpX_findWays post (f_laneTotal, f_lineLimit, f_tripLimit, f_logLimit, f_count, f_isSealed, f_openTotal, f_openLoops, f_alive, f_depth, f_clash, a_kinds, a_fieldD, a_fieldA, a_fieldB, a_blockLine, a_blockHasElse, a_opener, a_elseOf, a_endOf, a_wayNonzero, a_wayZero, a_postDom, a_rejoinOf, a_regs, a_cells, a_work, a_stored, a_tripCount, a_stackPlace, a_stackMask, a_stackRejoin, a_stopLine, a_reads, a_writes, a_marks, a_logLine, a_logMask) (nI x) := by
  have c : (nI x).toNatClampNeg = x := nI_clamp (by omega)
  have v : vp_in (nI x) 24 := vp_in_nI (by omega) (by decide)
  have G : ∀ {a b}, wy_W a_kinds n x a b → wX_findWays_185 post (nI x) a b f_laneTotal f_lineLimit f_tripLimit f_logLimit f_count f_isSealed f_openTotal f_openLoops f_alive f_depth f_clash a_kinds a_fieldD a_fieldA a_fieldB a_blockLine a_blockHasElse a_opener a_elseOf a_endOf a_wayNonzero a_wayZero a_postDom a_rejoinOf a_regs a_cells a_work a_stored a_tripCount a_stackPlace a_stackMask a_stackRejoin a_stopLine a_reads a_writes a_marks a_logLine a_logMask := fun h => fw_185 (by omega) K h
  obtain ⟨i1, i2, i3, i5⟩ := hI
  unfold wpX_findWays
  dsimp only
  rw [c]
  refine nm_r (nI_1 x) (nm_r (nI_1 x) ⟨v, nm_e ?_⟩)
  rcases wy_kinds (hw x hx).1.1 (hw x hx).1.2 with k | k | k | k | k | k | k | k
  · exact br_t k (G (fw_m0 k rfl rfl))
  · rw [k]
    refine br_f (by decide) (br_f (by decide) (br_t rfl ⟨v, ?_⟩))
    unfold wX_findWays_82
    rcases i2 x hx (Or.inl k) with ⟨el, q1, q2, q3⟩ | ⟨q1, q2⟩
    · rw [q3]
      refine br_f (nI_pos (by omega)) ⟨v, ?_⟩
      rw [nI_1]
      exact G (fw_m13 k ⟨rfl, Or.inl ⟨el, q2, q1, rfl⟩⟩)
    · rw [q2]
      obtain ⟨i, hi, hE⟩ := ns_EN_ex h0 (Or.inl k) hx
      refine br_t bs_n1lt ⟨v, ?_⟩
      rw [(i3 x i hi hE).1]
      exact G (fw_m13 k ⟨rfl, Or.inr ⟨q1, i, hE, hi, rfl⟩⟩)
  · rw [k]
    obtain ⟨x0, x1, x2, x3, _⟩ := (hw x hx).2.1 k
    have hEL : ns_EL a_kinds x0 x := ⟨x1, k, x2⟩
    obtain ⟨i, hi, hE⟩ := ns_EN_ex h0 x1.2.1 (by have := x1.1; omega)
    rw [(i3 x0 i hi hE).2.2 x hx hEL]
    exact br_f (by decide) (br_f (by decide) (br_f (by decide) (br_t rfl ⟨v, nm_e ⟨v, nm_e (G (fw_m14 k ⟨x0, i, hEL, hE, hi, rfl, rfl⟩))⟩⟩)))
  · rw [k]
    have hl0 := (hw x hx).2.2.1 k
    obtain ⟨x0, x1, x2⟩ := ns_lev (kd := a_kinds) x (ns_ln a_kinds x - 1) (by omega)
    have hcl := ns_ln_cl k
    have hE : ns_EN a_kinds x0 x := ⟨x1.1, x1.2.1, by omega, x1.2.2⟩
    have hx0 := x1.1
    have c0 : (nI x0).toNatClampNeg = x0 := nI_clamp (by omega)
    rw [(i3 x0 x hx hE).2.1, c0]
    refine br_f (by decide) (br_f (by decide) (br_f (by decide) (br_f (by decide) (br_t rfl ⟨v, vp_in_nI (by omega) (by decide), br_c (fun h => ?_) (fun h => ?_)⟩))))
    · exact ⟨v, nm_e ⟨v, nm_e (G (fw_m15 k ⟨x0, hE, Or.inl ⟨h, rfl, rfl⟩⟩))⟩⟩
    · refine G (fw_m15 k ⟨x0, hE, Or.inr ⟨?_, rfl, rfl⟩⟩)
      rcases x1.2.1 with z | z
      · exact z
      · exact absurd z h
  · rw [k]
    obtain ⟨i, hi, hE⟩ := ns_EN_ex h0 (Or.inr k) hx
    rw [(i3 x i hi hE).1]
    exact br_f (by decide) (br_f (by decide) (br_f (by decide) (br_f (by decide) (br_f (by decide) (br_t rfl ⟨v, nm_r (nI_1 i) (G (fw_m16 k ⟨i, hE, hi, rfl, rfl⟩))⟩)))))
  · rw [k]
    obtain ⟨w, hL, e⟩ := i5 x hx (Or.inl k)
    have hwx := hL.1.1
    have cw : (nI w).toNatClampNeg = w := nI_clamp (by omega)
    obtain ⟨i, hi, hE⟩ := ns_EN_ex h0 hL.1.2.1 (by omega)
    rw [e, cw, (i3 w i hi hE).1]
    exact br_f (by decide) (br_f (by decide) (br_f (by decide) (br_f (by decide) (br_f (by decide) (br_f (by decide) (br_t rfl ⟨v, vp_in_nI (by omega) (by decide), nm_r (nI_1 i) (G (fw_m17 k ⟨rfl, w, i, hL, hE, hi, rfl⟩))⟩))))))
  · rw [k]
    obtain ⟨w, hL, e⟩ := i5 x hx (Or.inr k)
    have hwx := hL.1.1
    have cw : (nI w).toNatClampNeg = w := nI_clamp (by omega)
    obtain ⟨i, hi, hE⟩ := ns_EN_ex h0 hL.1.2.1 (by omega)
    rw [e, cw, (i3 w i hi hE).1]
    exact br_f (by decide) (br_f (by decide) (br_f (by decide) (br_f (by decide) (br_f (by decide) (br_f (by decide) (br_f (by decide) (br_t rfl ⟨v, vp_in_nI (by omega) (by decide), nm_e (G (fw_m18 k ⟨rfl, w, i, hL, hE, hi, rfl⟩))⟩)))))))
  · rw [k]
    exact br_f (by decide) (br_f (by decide) (br_f (by decide) (br_f (by decide) (br_f (by decide) (br_f (by decide) (br_f (by decide) (br_f (by decide) (br_t rfl (G (fw_m19 k ⟨rfl, rfl⟩))))))))))
end
section
variable {g_lanes g_lines g_trips g_logSize g_n g_sealed g_clash : Int32} {b_kinds b_fd b_fa b_fb b_nzWay b_zWay b_post b_seen b_regs b_mem b_own b_priv b_trip b_visits b_lineOf b_goneTo b_mates b_exits b_reads b_writes b_marks b_logLine b_logMask : Nat → Int32}
theorem fw_end {post : Int32 → Prop} {n x i : Nat} (hn : n ≤ 24) (h0 : ns_ln b_kinds n = 0) (hx : x < n) (hE : ns_EN b_kinds x i) (hp : post (nI i)) : wpY_endOf post (g_lanes, g_lines, g_trips, g_logSize, nI n, g_sealed, g_clash, b_kinds, b_fd, b_fa, b_fb, b_nzWay, b_zWay, b_post, b_seen, b_regs, b_mem, b_own, b_priv, b_trip, b_visits, b_lineOf, b_goneTo, b_mates, b_exits, b_reads, b_writes, b_marks, b_logLine, b_logMask) (nI x) := by
  refine ye_end hn hx hE.2.1 (fun z => ?_) (fun i' _ hE' => ?_)
  · have := z.2.2 n hx (Nat.le_refl _)
    omega
  · rw [ns_EN_u hE' hE]; exact hp
theorem fw_165 {post : Int32 → Prop} {x : Nat} {p k : Int32} (h : k ≠ 19 → post (nI (x + 1))) (h0 : k = 19 → p = 0 → post (nI (x + 1))) (h1 : k = 19 → ¬ p = 0 → post (-1)) : wY_way_165 post (nI x) p k g_lanes g_lines g_trips g_logSize g_n g_sealed g_clash b_kinds b_fd b_fa b_fb b_nzWay b_zWay b_post b_seen b_regs b_mem b_own b_priv b_trip b_visits b_lineOf b_goneTo b_mates b_exits b_reads b_writes b_marks b_logLine b_logMask := by
  unfold wY_way_165
  rw [nI_1]
  exact br_c (fun c => br_c (fun e => h0 c e) (fun e => h1 c e)) (fun c => h c)
theorem fw_100 {post : Int32 → Prop} {x : Nat} {p k : Int32} (h16 : ¬ k = 16) (h17 : ¬ k = 17) (h18 : ¬ k = 18) (h : wY_way_165 post (nI x) p k g_lanes g_lines g_trips g_logSize g_n g_sealed g_clash b_kinds b_fd b_fa b_fb b_nzWay b_zWay b_post b_seen b_regs b_mem b_own b_priv b_trip b_visits b_lineOf b_goneTo b_mates b_exits b_reads b_writes b_marks b_logLine b_logMask) : wY_way_100 post (nI x) p k g_lanes g_lines g_trips g_logSize g_n g_sealed g_clash b_kinds b_fd b_fa b_fb b_nzWay b_zWay b_post b_seen b_regs b_mem b_own b_priv b_trip b_visits b_lineOf b_goneTo b_mates b_exits b_reads b_writes b_marks b_logLine b_logMask := by
  unfold wY_way_100 wY_way_118
  exact br_f h16 (br_f h17 (br_f h18 h))
theorem fw_63 {post : Int32 → Prop} {n x x0 : Nat} {p : Int32} (hn : n ≤ 24) (h0 : ns_ln b_kinds n = 0) (hx : x < n) (hE : ns_EN b_kinds x0 x) (h1 : b_kinds x0 = 16 → post (nI x0)) (h2 : ¬ b_kinds x0 = 16 → post (nI (x + 1))) :
    ∀ fu i, x - i < fu → i ≤ x → (∀ w, w < i → ¬ (b_kinds w = 16 ∧ ns_EN b_kinds w x)) → wY_way_63 post (nI x) p 15 g_lanes g_lines g_trips g_logSize (nI n) g_sealed g_clash b_kinds b_fd b_fa b_fb b_nzWay b_zWay b_post b_seen b_regs b_mem b_own b_priv b_trip b_visits b_lineOf b_goneTo b_mates b_exits b_reads b_writes b_marks b_logLine b_logMask fu (nI i) := by
  intro fu
  induction fu with
  | zero => intro i h; omega
  | succ fu ih =>
    intro i hf hi hno
    rw [wY_way_63]
    dsimp only
    have ci : (nI i).toNatClampNeg = i := nI_clamp (by omega)
    rw [ci]
    have hx0 := hE.1
    by_cases c : x ≤ i
    · refine br_t (nI_le c (by omega)) (fw_100 (by decide) (by decide) (by decide) (fw_165 (fun _ => h2 (fun z => ?_)) (fun z => absurd z (by decide)) (fun z => absurd z (by decide))))
      exact hno x0 (by omega) ⟨z, hE⟩
    · refine br_f (nI_ge (by omega) (by omega)) ⟨vp_in_nI (by omega) (by decide), br_c (fun k => ?_) (fun k => nm_r (nI_1 i) (ih (i + 1) (by omega) (by omega) (fun w hw z => ?_)))⟩
      · obtain ⟨e, he, hE2⟩ := ns_EN_ex h0 (Or.inr k) (by omega : i < n)
        refine fw_end hn h0 (by omega) hE2 ?_
        by_cases q : e = x
        · subst q
          have := ns_EN_u2 hE2 hE
          subst this
          exact br_t rfl (h1 k)
        · refine br_f (fun z => q (bs_inj (by omega) (by omega) z)) (nm_r (nI_1 i) (ih (i + 1) (by omega) (by omega) (fun w hw z => ?_)))
          by_cases q2 : w = i
          · subst q2
            exact q (ns_EN_u hE2 z.2)
          · exact hno w (by omega) z
      · by_cases q2 : w = i
        · subst q2
          exact k z.1
        · exact hno w (by omega) z
theorem fw_Y {post : Int32 → Prop} {n x : Nat} {a b p : Int32} (hn : n ≤ 24) (hw : ns_WF b_kinds n) (h0 : ns_ln b_kinds n = 0) (hx : x < n) (hW : wy_W b_kinds n x a b) (h1 : ¬ p = 0 → post a) (h2 : p = 0 → post b) : wpY_way post (g_lanes, g_lines, g_trips, g_logSize, nI n, g_sealed, g_clash, b_kinds, b_fd, b_fa, b_fb, b_nzWay, b_zWay, b_post, b_seen, b_regs, b_mem, b_own, b_priv, b_trip, b_visits, b_lineOf, b_goneTo, b_mates, b_exits, b_reads, b_writes, b_marks, b_logLine, b_logMask) (nI x) p := by
  have c : (nI x).toNatClampNeg = x := nI_clamp (by omega)
  have v : vp_in (nI x) 24 := vp_in_nI (by omega) (by decide)
  obtain ⟨p1, p2, p3, p4, p5, p6, p7, p8⟩ := hW
  unfold wpY_way
  dsimp only
  rw [c]
  refine ⟨v, nm_e ?_⟩
  have both : ∀ {y : Int32}, a = y → b = y → post y := by
    intro y ea eb
    by_cases q : p = 0
    · rw [← eb]; exact h2 q
    · rw [← ea]; exact h1 q
  rcases wy_kinds (hw x hx).1.1 (hw x hx).1.2 with k | k | k | k | k | k | k | k
  · have q : ∀ c : Int32, 13 ≤ c → ¬ b_kinds x = c := fun c hc => wy_lt13 k hc
    obtain ⟨e1, e2⟩ := p1 k
    refine br_f (q 13 (by decide)) ?_
    unfold wY_way_42
    exact br_f (q 14 (by decide)) (br_f (q 15 (by decide)) (fw_100 (q 16 (by decide)) (q 17 (by decide)) (q 18 (by decide)) (fw_165 (fun _ => both e1 e2) (fun z => absurd z (q 19 (by decide))) (fun z => absurd z (q 19 (by decide))))))
  · rw [k]
    obtain ⟨e1, e2⟩ := p2 k
    refine br_t rfl (br_c (fun q => ?_) (fun q => ?_))
    · rcases e2 with ⟨el, q1, q2, q3⟩ | ⟨q1, i, q2, q3, q4⟩
      · refine ye_else hn hx (Or.inl k) (fun z => absurd q1 (z el q2)) (fun i hi hel => ?_)
        refine br_f (nI_pos (by omega)) ?_
        rw [nI_1, ns_EL_u hw hel q1 hi q2, ← q3]
        exact h2 q
      · refine ye_else hn hx (Or.inl k) (fun _ => br_t bs_n1lt (fw_end hn h0 hx q2 ?_)) (fun i hi hel => absurd hel (q1 i hi))
        rw [← q4]; exact h2 q
    · unfold wY_way_42
      refine br_f (by decide) (br_f (by decide) (fw_100 (by decide) (by decide) (by decide) (fw_165 (fun _ => ?_) (fun z => absurd z (by decide)) (fun z => absurd z (by decide)))))
      rw [← e1]; exact h1 q
  · rw [k]
    obtain ⟨x0, i, q1, q2, q3, q4, q5⟩ := p3 k
    refine br_f (by decide) ?_
    unfold wY_way_42
    refine br_t rfl (ye_endE hn hx q1 (fun z => ?_) (fun i' hi' hE' => ?_))
    · have := z.2.2 n z.1 (Nat.le_refl _)
      omega
    · rw [ns_EN_u hE' q2]
      exact both q4 q5
  · rw [k]
    obtain ⟨x0, q1, q2⟩ := p4 k
    refine br_f (by decide) ?_
    unfold wY_way_42
    refine br_f (by decide) (br_t rfl ⟨x + 1, ?_⟩)
    refine fw_63 hn h0 hx q1 (fun z => ?_) (fun z => ?_) (x + 1) 0 (by omega) (by omega) (fun w hw' => absurd hw' (Nat.not_lt_zero _))
    · rcases q2 with ⟨t1, t2, t3⟩ | ⟨t1, t2, t3⟩
      · exact both t2 t3
      · exact absurd (t1.symm.trans z) (by decide)
    · rcases q2 with ⟨t1, t2, t3⟩ | ⟨t1, t2, t3⟩
      · exact absurd t1 z
      · exact both t2 t3
  · rw [k]
    obtain ⟨i, q1, q2, q3, q4⟩ := p5 k
    refine br_f (by decide) ?_
    unfold wY_way_42 wY_way_100
    refine br_f (by decide) (br_f (by decide) (br_t rfl (br_c (fun q => fw_end hn h0 hx q1 ?_) (fun q => ?_))))
    · rw [nI_1, ← q4]; exact h2 q
    · unfold wY_way_118
      refine br_f (by decide) (br_f (by decide) (fw_165 (fun _ => ?_) (fun z => absurd z (by decide)) (fun z => absurd z (by decide))))
      rw [← q3]; exact h1 q
  · rw [k]
    obtain ⟨e0, w, i, q1, q2, q3, q4⟩ := p6 k
    have hwx := q1.1.1
    refine br_f (by decide) ?_
    unfold wY_way_42 wY_way_100 wY_way_118
    refine br_f (by decide) (br_f (by decide) (br_f (by decide) (br_t rfl ?_)))
    unfold wY_way_130
    refine br_c (fun q => fw_165 (fun _ => ?_) (fun z => absurd z (by decide)) (fun z => absurd z (by decide))) (fun q => ye_loop hn h0 hx (by rw [k]; decide) q1 (fw_end hn h0 (by omega) q2 (br_t rfl ?_)))
    · rw [← e0]; exact h2 q
    · rw [nI_1, ← q4]; exact h1 q
  · rw [k]
    obtain ⟨e0, w, i, q1, q2, q3, q4⟩ := p7 k
    have hwx := q1.1.1
    refine br_f (by decide) ?_
    unfold wY_way_42 wY_way_100 wY_way_118
    refine br_f (by decide) (br_f (by decide) (br_f (by decide) (br_f (by decide) (br_t rfl ?_))))
    unfold wY_way_130
    refine br_c (fun q => fw_165 (fun _ => ?_) (fun z => absurd z (by decide)) (fun z => absurd z (by decide))) (fun q => ye_loop hn h0 hx (by rw [k]; decide) q1 (fw_end hn h0 (by omega) q2 (br_f (by decide) ?_)))
    · rw [← e0]; exact h2 q
    · rw [← q4]; exact h1 q
  · rw [k]
    obtain ⟨e1, e2⟩ := p8 k
    refine br_f (by decide) ?_
    unfold wY_way_42
    refine br_f (by decide) (br_f (by decide) (fw_100 (by decide) (by decide) (by decide) (fw_165 (fun z => absurd rfl z) (fun _ q => ?_) (fun _ q => ?_))))
    · rw [← e2]; exact h2 q
    · rw [← e1]; exact h1 q
end
end
section
/-! seal: post-dominators and rejoin places, the component -/
def sd_nx (nz z D : Nat → Int32) (q : Nat) : Int32 := (if nz q < 0 then D (z q).toNatClampNeg else D (z q).toNatClampNeg &&& D (nz q).toNatClampNeg) ||| ((1 : Int32) <<< (nI q &&& 31))
def sd_A (E : Nat → Nat → Prop) (n : Nat) (D : Nat → Int32) : Prop :=
  (∀ q, q ≤ n → ∀ p, n < p → bt (D q) p = false) ∧ (∀ q, q ≤ n → ∀ p, p ≤ n → pd_PD E n p q → bt (D q) p = true) ∧ (∀ p, p ≤ n → bt (D n) p = true → p = n)
def sd_C (E : Nat → Nat → Prop) (n k : Nat) (D : Nat → Int32) (q : Nat) : Prop := ∀ p, p ≤ n → bt (D q) p = true → ¬ pd_av E n p k q
def sd_S (E : Nat → Nat → Prop) (n : Nat) (D : Nat → Int32) : Prop :=
  (∀ q, q ≤ n → ∀ p, n < p → bt (D q) p = false) ∧ (∀ q, q ≤ n → ∀ p, p ≤ n → (bt (D q) p = true ↔ pd_PD E n p q))
def sd_T (n : Nat) (nz z : Nat → Int32) : Prop := ∀ q, q < n → (∃ y, y ≤ n ∧ z q = nI y) ∧ (nz q = -1 ∨ ∃ y, y ≤ n ∧ nz q = nI y)
def sd_m : Nat → Int32
  | 0 => -1
  | c + 1 => nI c
theorem sd_m1 (c : Nat) : nI c + (-1) = sd_m c := by
  cases c with
  | zero => decide
  | succ c => exact pk_m1 c
section
variable {n : Nat} {nz z D : Nat → Int32}
theorem sd_nx_bt (hn : n ≤ 24) (hT : sd_T n nz z) {q p : Nat} (hq : q < n) (hp : p < 32) : bt (sd_nx nz z D q) p = true ↔ p = q ∨ ∀ y, wy_E n nz z q y → bt (D y) p = true := by
  obtain ⟨⟨y, hy, ey⟩, hz⟩ := hT q hq
  have cy : (z q).toNatClampNeg = y := by rw [ey, nI_clamp (by omega)]
  unfold sd_nx
  rw [b_or, bs_one q p (by omega) hp, cy]
  rcases hz with e | ⟨y', hy', ey'⟩
  · rw [e, if_pos bs_n1lt]
    have key : (∀ w, wy_E n nz z q w → bt (D w) p = true) ↔ bt (D y) p = true := by
      constructor
      · intro h
        exact h y ⟨hq, hy, Or.inl ey⟩
      · intro h w hw
        rcases hw.2.2 with c | c
        · have : w = y := bs_inj (by have := hw.2.1; omega) (by omega) (c.symm.trans ey)
          rw [this]; exact h
        · rw [e] at c
          exact absurd c.symm (wp_nm1 (by have := hw.2.1; omega))
    rw [key]
    by_cases c : p = q
    · simp [c]
    · simp [c]
  · have cy' : (nz q).toNatClampNeg = y' := by rw [ey', nI_clamp (by omega)]
    have hneg : ¬ nz q < 0 := by rw [ey']; exact nI_pos (by omega)
    rw [if_neg hneg, b_and, cy']
    have key : (∀ w, wy_E n nz z q w → bt (D w) p = true) ↔ (bt (D y) p = true ∧ bt (D y') p = true) := by
      constructor
      · intro h
        exact ⟨h y ⟨hq, hy, Or.inl ey⟩, h y' ⟨hq, hy', Or.inr ey'⟩⟩
      · intro h w hw
        rcases hw.2.2 with c | c
        · have : w = y := bs_inj (by have := hw.2.1; omega) (by omega) (c.symm.trans ey)
          rw [this]; exact h.1
        · have : w = y' := bs_inj (by have := hw.2.1; omega) (by omega) (c.symm.trans ey')
          rw [this]; exact h.2
    rw [key]
    by_cases c : p = q
    · simp [c]
    · simp [c]
theorem sd_big {x : Int32} {p : Nat} (h : bt x p = true) : p < 32 := by
  apply Classical.byContradiction
  intro c
  rw [b_big (by omega)] at h
  cases h
theorem sd_Aup (hn : n ≤ 24) (hT : sd_T n nz z) {q : Nat} (hq : q < n) (hA : sd_A (wy_E n nz z) n D) : sd_A (wy_E n nz z) n (upd D q (sd_nx nz z D q)) := by
  obtain ⟨a1, a2, a3⟩ := hA
  refine ⟨fun j hj p hp => ?_, fun j hj p hp h => ?_, fun p hp h => ?_⟩
  · by_cases e : j = q
    · subst e
      rw [bs_us]
      apply bs_f
      intro hb
      rcases (sd_nx_bt hn hT hq (sd_big hb)).mp hb with c | c
      · omega
      · obtain ⟨⟨y, hy, ey⟩, _⟩ := hT j hq
        have := c y ⟨hq, hy, Or.inl ey⟩
        rw [a1 y hy p hp] at this
        cases this
    · rw [bs_un e]
      exact a1 j hj p hp
  · by_cases e : j = q
    · subst e
      rw [bs_us]
      refine (sd_nx_bt hn hT hq (by omega)).mpr ?_
      by_cases c : p = j
      · exact Or.inl c
      · exact Or.inr (fun y hy => a2 y hy.2.1 p hp (pd_step hy (fun w => c w.symm) h))
    · rw [bs_un e]
      exact a2 j hj p hp h
  · rw [bs_un (by omega)] at h
    exact a3 p hp h
theorem sd_Cn {k : Nat} (hA : sd_A (wy_E n nz z) n D) : sd_C (wy_E n nz z) n k D n := by
  intro p hp h hv
  exact pd_av_ne hv (hA.2.2 p hp h).symm
theorem sd_Cup (hn : n ≤ 24) (hT : sd_T n nz z) {q k : Nat} (hq : q < n) (h : ∀ y, y ≤ n → sd_C (wy_E n nz z) n k D y) : ∀ p, p ≤ n → bt (sd_nx nz z D q) p = true → ¬ pd_av (wy_E n nz z) n p (k + 1) q := by
  intro p hp hb hv
  rcases (sd_nx_bt hn hT hq (by omega)).mp hb with c | c
  · exact pd_av_ne hv c.symm
  · rcases hv with ⟨h1, h2 | ⟨y, h3, h4⟩⟩
    · omega
    · exact h y h3.2.1 p hp (c y h3) h4
theorem sd_fin1 (hn : n ≤ 24) (hA : sd_A (wy_E n nz z) n D) {k : Nat} (hk : n + 1 ≤ k) (hC : ∀ j, j < n → sd_C (wy_E n nz z) n k D j) : sd_S (wy_E n nz z) n D := by
  refine ⟨hA.1, fun q hq p hp => ⟨fun h hv => ?_, fun h => hA.2.1 q hq p hp h⟩⟩
  have hb := pd_av_le hk (pd_bound (wy_E_le (nzW := nz) (zW := z)) hq hv)
  by_cases e : q = n
  · subst e
    exact sd_Cn hA p hp h hb
  · exact hC q (by omega) p hp h hb
theorem sd_fin2 (hn : n ≤ 24) (hT : sd_T n nz z) (hA : sd_A (wy_E n nz z) n D) (hF : ∀ j, j < n → D j = sd_nx nz z D j) : sd_S (wy_E n nz z) n D := by
  have key : ∀ k q, q ≤ n → sd_C (wy_E n nz z) n k D q := by
    intro k
    induction k with
    | zero =>
      intro q hq p hp h hv
      by_cases e : q = n
      · subst e; exact sd_Cn hA p hp h hv
      · exact e hv.1
    | succ k ih =>
      intro q hq p hp h hv
      by_cases e : q = n
      · subst e; exact sd_Cn hA p hp h hv
      · rw [hF q (by omega)] at h
        exact sd_Cup hn hT (by omega) ih p hp h hv
  refine ⟨hA.1, fun q hq p hp => ⟨fun h hv => ?_, fun h => hA.2.1 q hq p hp h⟩⟩
  obtain ⟨k, hk⟩ := hv
  exact key k q hq p hp h hk
theorem sd_init (hn : n ≤ 24) (h1 : ∀ q, q < n → D q = ((1 : Int32) <<< (nI (n + 1) &&& 31)) - 1) (h2 : D n = (1 : Int32) <<< (nI n &&& 31)) : sd_A (wy_E n nz z) n D ∧ ∀ j, j < n → sd_C (wy_E n nz z) n 0 D j := by
  refine ⟨⟨fun q hq p hp => ?_, fun q hq p hp h => ?_, fun p hp h => ?_⟩, fun j hj p hp h hv => ?_⟩
  · by_cases c : p < 32
    · by_cases e : q = n
      · subst e
        rw [h2, bs_one q p (by omega) c]
        exact decide_eq_false (by omega)
      · rw [h1 q (by omega), bs_mask (n + 1) (by omega) p c]
        exact decide_eq_false (by omega)
    · exact b_big (by omega)
  · by_cases e : q = n
    · subst e
      have := pd_ofn h
      subst this
      rw [h2, bs_one p p (by omega) (by omega)]
      exact decide_eq_true rfl
    · rw [h1 q (by omega), bs_mask (n + 1) (by omega) p (by omega)]
      exact decide_eq_true (by omega)
  · rw [h2, bs_one n p (by omega) (by omega)] at h
    exact of_decide_eq_true h
  · have := hv.1
    omega
/-! the rejoin place -/
theorem sd_out (hR : ∀ q, q ≤ n → ∃ k, pd_rc (wy_E n nz z) n k q) {s q : Nat} (hq : q ≤ n) (h : pd_PD (wy_E n nz z) n s q) : s ≤ n := by
  apply Classical.byContradiction
  intro c
  apply h
  obtain ⟨k, hk⟩ := hR q hq
  clear h
  induction k generalizing q with
  | zero =>
    have e : q = n := hk
    subst e
    exact pd_Av_n (by omega)
  | succ k ih =>
    rcases hk with e | ⟨y, he, hy⟩
    · subst e
      exact pd_Av_n (by omega)
    · exact pd_Av_step he (by omega) (ih he.2.1 hy)
theorem sd_Jex (hR : ∀ q, q ≤ n → ∃ k, pd_rc (wy_E n nz z) n k q) {q : Nat} (hq : q < n) : ∃ r, rl_J n nz z q r := by
  obtain ⟨p, h1, h2, h3⟩ := pd_imm (E := wy_E n nz z) (n := n) (q := q) (by omega) (hR q (by omega))
  exact ⟨p, sd_out hR (by omega) h2, h1, h2, h3⟩
theorem sd_Ju (hR : ∀ q, q ≤ n → ∃ k, pd_rc (wy_E n nz z) n k q) {q r r' : Nat} (h : rl_J n nz z q r) (h' : rl_J n nz z q r') : r = r' :=
  pd_anti (h.2.2.2 r' h'.2.1 h'.2.2.1 |> fun w => h'.2.2.2 r h.2.1 h.2.2.1) (h.2.2.2 r' h'.2.1 h'.2.2.1) (hR r' h'.1)
theorem sd_Jc (hn : n ≤ 24) (hR : ∀ q, q ≤ n → ∃ k, pd_rc (wy_E n nz z) n k q) (hS : sd_S (wy_E n nz z) n D) {q p : Nat} (hq : q < n) (hp : p ≤ n) :
    (bt (D q &&& (((1 : Int32) <<< (nI q &&& 31)) ^^^ (-1))) p = true ∧ D p = D q &&& (((1 : Int32) <<< (nI q &&& 31)) ^^^ (-1))) ↔ rl_J n nz z q p := by
  have ob : ∀ s, s < 32 → (bt (D q &&& (((1 : Int32) <<< (nI q &&& 31)) ^^^ (-1))) s = true ↔ bt (D q) s = true ∧ s ≠ q) := by
    intro s hs
    rw [b_and, bs_not _ s hs, bs_one q s (by omega) hs]
    by_cases c : s = q
    · simp [c]
    · simp [c]
  constructor
  · intro ⟨h1, h2⟩
    obtain ⟨a1, a2⟩ := (ob p (by omega)).mp h1
    refine ⟨hp, a2, (hS.2 q (by omega) p hp).mp a1, fun s hs hsq => ?_⟩
    have hsn := sd_out hR (by omega) hsq
    refine (hS.2 p hp s hsn).mp ?_
    rw [h2]
    exact (ob s (by omega)).mpr ⟨(hS.2 q (by omega) s hsn).mpr hsq, hs⟩
  · intro ⟨_, h1, h2, h3⟩
    refine ⟨(ob p (by omega)).mpr ⟨(hS.2 q (by omega) p hp).mpr h2, h1⟩, ?_⟩
    apply b_ext
    intro s hs
    by_cases c : s ≤ n
    · have e : bt (D p) s = true ↔ bt (D q &&& (((1 : Int32) <<< (nI q &&& 31)) ^^^ (-1))) s = true := by
        rw [ob s hs, hS.2 p hp s c, hS.2 q (by omega) s c]
        constructor
        · intro h
          refine ⟨pd_trans h h2, fun e => ?_⟩
          subst e
          exact h1 (pd_anti h2 h (hR s (by omega)))
        · intro ⟨h, hs'⟩
          exact h3 s hs' h
      rw [Bool.eq_iff_iff]
      exact e
    · rw [hS.1 p hp s (by omega), b_and, hS.1 q (by omega) s (by omega)]
      rfl
end
section
variable {f_laneTotal f_lineLimit f_tripLimit f_logLimit f_count f_isSealed f_openTotal f_openLoops f_alive f_depth f_clash : Int32} {a_kinds a_fieldD a_fieldA a_fieldB a_blockLine a_blockHasElse a_opener a_elseOf a_endOf a_wayNonzero a_wayZero a_postDom a_rejoinOf a_regs a_cells a_work a_stored a_tripCount a_stackPlace a_stackMask a_stackRejoin a_stopLine a_reads a_writes a_marks a_logLine a_logMask : Nat → Int32}
theorem sd_74 {post : SX → Prop} {J : Int32 → Int32 → (Nat → Int32) → (Nat → Int32) → (Nat → Int32) → (Nat → Int32) → (Nat → Int32) → (Nat → Int32) → (Nat → Int32) → (Nat → Int32) → (Nat → Int32) → (Nat → Int32) → (Nat → Int32) → (Nat → Int32) → (Nat → Int32) → (Nat → Int32) → (Nat → Int32) → (Nat → Int32) → (Nat → Int32) → (Nat → Int32) → (Nat → Int32) → (Nat → Int32) → (Nat → Int32) → (Nat → Int32) → (Nat → Int32) → (Nat → Int32) → (Nat → Int32) → (Nat → Int32) → (Nat → Int32) → Prop} {n k ps : Nat} (hn : n ≤ 24) (hT : sd_T n a_wayNonzero a_wayZero)
    (K : ∀ (fl : Int32) D, (fl = 0 ∨ fl = 1) → sd_A (wy_E n a_wayNonzero a_wayZero) n D → (∀ j, j < n → sd_C (wy_E n a_wayNonzero a_wayZero) n (k + 1) D j) → (fl = 0 → ∀ j, j < n → D j = sd_nx a_wayNonzero a_wayZero D j) → J fl (nI (ps + 1)) a_kinds a_fieldD a_fieldA a_fieldB a_blockLine a_blockHasElse a_opener a_elseOf a_endOf a_wayNonzero a_wayZero D a_rejoinOf a_regs a_cells a_work a_stored a_tripCount a_stackPlace a_stackMask a_stackRejoin a_stopLine a_reads a_writes a_marks a_logLine a_logMask) :
    ∀ c (fl : Int32) D, c ≤ n → (fl = 0 ∨ fl = 1) → sd_A (wy_E n a_wayNonzero a_wayZero) n D → (∀ j, c ≤ j → j < n → sd_C (wy_E n a_wayNonzero a_wayZero) n (k + 1) D j) → (∀ j, j < c → sd_C (wy_E n a_wayNonzero a_wayZero) n k D j) → (fl = 0 → ∀ j, c ≤ j → j < n → D j = sd_nx a_wayNonzero a_wayZero D j) →
      wX_solvePostDominators_74 post J (nI ps) f_laneTotal f_lineLimit f_tripLimit f_logLimit (nI n) f_isSealed f_openTotal f_openLoops f_alive f_depth f_clash (c + 1) fl (sd_m c) a_kinds a_fieldD a_fieldA a_fieldB a_blockLine a_blockHasElse a_opener a_elseOf a_endOf a_wayNonzero a_wayZero D a_rejoinOf a_regs a_cells a_work a_stored a_tripCount a_stackPlace a_stackMask a_stackRejoin a_stopLine a_reads a_writes a_marks a_logLine a_logMask := by
  intro c
  induction c with
  | zero =>
    intro fl D _ hfl hA h1 _ h3
    rw [wX_solvePostDominators_74]
    exact br_t bs_n1lt (nm_r (nI_1 ps) (K fl D hfl hA (fun j hj => h1 j (by omega) hj) (fun z j hj => h3 z j (by omega) hj)))
  | succ c ih =>
    intro fl D hc hfl hA h1 h2 h3
    have hcn : c < n := by omega
    have cc : (nI c).toNatClampNeg = c := nI_clamp (by omega)
    have v : vp_in (nI c) 24 := vp_in_nI (by omega) (by decide)
    have v5 : vp_in (nI c) 25 := vp_in_nI (by omega) (by decide)
    obtain ⟨⟨y, hy, ey⟩, hz⟩ := hT c hcn
    have vy : vp_in (a_wayZero c) 25 := by rw [ey]; exact vp_in_nI (by omega) (by decide)
    have hCall : ∀ y, y ≤ n → sd_C (wy_E n a_wayNonzero a_wayZero) n k D y := by
      intro y hy
      by_cases e : y = n
      · subst e; exact sd_Cn hA
      · by_cases q : c + 1 ≤ y
        · intro p hp h hv
          exact h1 y q (by omega) p hp h (pd_av_m1 k y hv)
        · exact h2 y (by omega)
    have s120 : ∀ x5 : Int32, x5 ||| ((1 : Int32) <<< (nI c &&& 31)) = sd_nx a_wayNonzero a_wayZero D c → wX_solvePostDominators_120 post J (wX_solvePostDominators_74 post J (nI ps) f_laneTotal f_lineLimit f_tripLimit f_logLimit (nI n) f_isSealed f_openTotal f_openLoops f_alive f_depth f_clash (c + 1)) fl (nI ps) (nI c) x5 f_laneTotal f_lineLimit f_tripLimit f_logLimit (nI n) f_isSealed f_openTotal f_openLoops f_alive f_depth f_clash a_kinds a_fieldD a_fieldA a_fieldB a_blockLine a_blockHasElse a_opener a_elseOf a_endOf a_wayNonzero a_wayZero D a_rejoinOf a_regs a_cells a_work a_stored a_tripCount a_stackPlace a_stackMask a_stackRejoin a_stopLine a_reads a_writes a_marks a_logLine a_logMask := by
      intro x5 e5
      unfold wX_solvePostDominators_120
      rw [cc]
      refine nm_r e5 ⟨v5, br_c (fun e => nm_r (sd_m1 c) ?_) (fun e => ⟨v5, nm_e (nm_r (sd_m1 c) ?_)⟩)⟩
      · refine ih fl D (by omega) hfl hA (fun j q1 q2 => ?_) (fun j q => h2 j (by omega)) (fun z j q1 q2 => ?_)
        · by_cases q : j = c
          · subst q
            intro p hp h
            rw [← e] at h
            exact sd_Cup hn hT hcn hCall p hp h
          · exact h1 j (by omega) q2
        · by_cases q : j = c
          · subst q; exact e.symm
          · exact h3 z j (by omega) q2
      · refine ih 1 _ (by omega) (Or.inr rfl) (sd_Aup hn hT hcn hA) (fun j q1 q2 => ?_) (fun j q => ?_) (fun z => absurd z bs_10)
        · by_cases q : j = c
          · subst q
            intro p hp h
            rw [bs_us] at h
            exact sd_Cup hn hT hcn hCall p hp h
          · intro p hp h
            rw [bs_un q] at h
            exact h1 j (by omega) q2 p hp h
        · intro p hp h
          rw [bs_un (by omega)] at h
          exact h2 j (by omega) p hp h
    rw [wX_solvePostDominators_74]
    dsimp only
    have em : sd_m (c + 1) = nI c := rfl
    rw [em, cc]
    refine br_f (nI_pos (by omega)) ⟨v, vy, nm_e ⟨v, ?_⟩⟩
    rcases hz with e | ⟨y', hy', ey'⟩
    · have hneg : a_wayNonzero c < 0 := by rw [e]; exact bs_n1lt
      refine br_t hneg (s120 _ ?_)
      unfold sd_nx
      rw [if_pos hneg]
    · have hneg : ¬ a_wayNonzero c < 0 := by rw [ey']; exact nI_pos (by omega)
      have vy' : vp_in (a_wayNonzero c) 25 := by rw [ey']; exact vp_in_nI (by omega) (by decide)
      refine br_f hneg ⟨v, vy', nm_e (s120 _ ?_)⟩
      unfold sd_nx
      rw [if_neg hneg]
theorem sd_53 {post : SX → Prop} {n : Nat} (hn : n ≤ 24) (hn0 : 0 < n) (hT : sd_T n a_wayNonzero a_wayZero) (K : ∀ D, sd_S (wy_E n a_wayNonzero a_wayZero) n D → post (f_laneTotal, f_lineLimit, f_tripLimit, f_logLimit, nI n, f_isSealed, f_openTotal, f_openLoops, f_alive, f_depth, f_clash, a_kinds, a_fieldD, a_fieldA, a_fieldB, a_blockLine, a_blockHasElse, a_opener, a_elseOf, a_endOf, a_wayNonzero, a_wayZero, D, a_rejoinOf, a_regs, a_cells, a_work, a_stored, a_tripCount, a_stackPlace, a_stackMask, a_stackRejoin, a_stopLine, a_reads, a_writes, a_marks, a_logLine, a_logMask)) :
    ∀ fu ps (fl : Int32) D, 650 - ps < fu → ps ≤ 650 → (fl = 0 ∨ fl = 1) → sd_A (wy_E n a_wayNonzero a_wayZero) n D → (∀ j, j < n → sd_C (wy_E n a_wayNonzero a_wayZero) n ps D j) → (fl = 0 → ∀ j, j < n → D j = sd_nx a_wayNonzero a_wayZero D j) →
      wX_solvePostDominators_53 post f_laneTotal f_lineLimit f_tripLimit f_logLimit (nI n) f_isSealed f_openTotal f_openLoops f_alive f_depth f_clash fu fl (nI ps) a_kinds a_fieldD a_fieldA a_fieldB a_blockLine a_blockHasElse a_opener a_elseOf a_endOf a_wayNonzero a_wayZero D a_rejoinOf a_regs a_cells a_work a_stored a_tripCount a_stackPlace a_stackMask a_stackRejoin a_stopLine a_reads a_writes a_marks a_logLine a_logMask := by
  intro fu
  induction fu with
  | zero => intro ps _ _ h; omega
  | succ fu ih =>
    intro ps fl D hf hps hfl hA hC hF
    rw [wX_solvePostDominators_53]
    dsimp only
    by_cases c : 650 ≤ ps
    · exact br_t (nI_le (a := 650) c (by omega)) (K D (sd_fin1 hn hA (by omega) hC))
    · refine br_f (nI_ge (b := 650) (by omega) (by decide)) (br_c (fun e => K D (sd_fin2 hn hT hA (hF e))) (fun e => ?_))
      refine nm_r (e' := sd_m n) (by rw [← sd_m1, Int32.sub_eq_add_neg]) ⟨n + 1, ?_⟩
      refine sd_74 hn hT (k := ps) (fun fl' D' hfl' hA' hC' hF' => ih (ps + 1) fl' D' (by omega) (by omega) hfl' hA' hC' hF') n 0 D (Nat.le_refl _) (Or.inl rfl) hA (fun j h1 h2 => by omega) hC (fun _ j h1 h2 => by omega)
theorem sd_13 {post : SX → Prop} {n : Nat} (hn : n ≤ 24) (hn0 : 0 < n) (hT : sd_T n a_wayNonzero a_wayZero) (K : ∀ D, sd_S (wy_E n a_wayNonzero a_wayZero) n D → post (f_laneTotal, f_lineLimit, f_tripLimit, f_logLimit, nI n, f_isSealed, f_openTotal, f_openLoops, f_alive, f_depth, f_clash, a_kinds, a_fieldD, a_fieldA, a_fieldB, a_blockLine, a_blockHasElse, a_opener, a_elseOf, a_endOf, a_wayNonzero, a_wayZero, D, a_rejoinOf, a_regs, a_cells, a_work, a_stored, a_tripCount, a_stackPlace, a_stackMask, a_stackRejoin, a_stopLine, a_reads, a_writes, a_marks, a_logLine, a_logMask)) :
    ∀ fu i D, n - i < fu → i ≤ n → (∀ q, q < i → D q = ((1 : Int32) <<< (nI (n + 1) &&& 31)) - 1) → wX_solvePostDominators_13 post (((1 : Int32) <<< (nI (n + 1) &&& 31)) - 1) f_laneTotal f_lineLimit f_tripLimit f_logLimit (nI n) f_isSealed f_openTotal f_openLoops f_alive f_depth f_clash fu (nI i) a_kinds a_fieldD a_fieldA a_fieldB a_blockLine a_blockHasElse a_opener a_elseOf a_endOf a_wayNonzero a_wayZero D a_rejoinOf a_regs a_cells a_work a_stored a_tripCount a_stackPlace a_stackMask a_stackRejoin a_stopLine a_reads a_writes a_marks a_logLine a_logMask := by
  intro fu
  induction fu with
  | zero => intro i _ h; omega
  | succ fu ih =>
    intro i D hf hi hD
    rw [wX_solvePostDominators_13]
    dsimp only
    by_cases c : n ≤ i
    · have : i = n := by omega
      subst this
      have ci : (nI i).toNatClampNeg = i := nI_clamp (by omega)
      rw [ci]
      refine br_t (nI_le c (by omega)) ⟨vp_in_nI (by omega) (by decide), nm_e ⟨651, ?_⟩⟩
      obtain ⟨hA, hC⟩ := sd_init (nz := a_wayNonzero) (z := a_wayZero) (D := upd D i ((1 : Int32) <<< (nI i &&& 31))) hn (fun q hq => by rw [bs_un (by omega)]; exact hD q hq) bs_us
      exact sd_53 hn hn0 hT K 651 0 1 _ (by omega) (by omega) (Or.inr rfl) hA hC (fun z => absurd z bs_10)
    · have ci : (nI i).toNatClampNeg = i := nI_clamp (by omega)
      rw [ci]
      refine br_f (nI_ge (by omega) (by omega)) ⟨vp_in_nI (by omega) (by decide), nm_e (nm_r (nI_1 i) (ih (i + 1) _ (by omega) (by omega) (fun q hq => ?_)))⟩
      by_cases e : q = i
      · subst e; exact bs_us
      · rw [bs_un e]; exact hD q (by omega)
theorem sd_all {post : SX → Prop} {n : Nat} (hn : n ≤ 24) (hn0 : 0 < n) (hT : sd_T n a_wayNonzero a_wayZero) (K : ∀ D, sd_S (wy_E n a_wayNonzero a_wayZero) n D → post (f_laneTotal, f_lineLimit, f_tripLimit, f_logLimit, nI n, f_isSealed, f_openTotal, f_openLoops, f_alive, f_depth, f_clash, a_kinds, a_fieldD, a_fieldA, a_fieldB, a_blockLine, a_blockHasElse, a_opener, a_elseOf, a_endOf, a_wayNonzero, a_wayZero, D, a_rejoinOf, a_regs, a_cells, a_work, a_stored, a_tripCount, a_stackPlace, a_stackMask, a_stackRejoin, a_stopLine, a_reads, a_writes, a_marks, a_logLine, a_logMask)) : wpX_solvePostDominators post (f_laneTotal, f_lineLimit, f_tripLimit, f_logLimit, nI n, f_isSealed, f_openTotal, f_openLoops, f_alive, f_depth, f_clash, a_kinds, a_fieldD, a_fieldA, a_fieldB, a_blockLine, a_blockHasElse, a_opener, a_elseOf, a_endOf, a_wayNonzero, a_wayZero, a_postDom, a_rejoinOf, a_regs, a_cells, a_work, a_stored, a_tripCount, a_stackPlace, a_stackMask, a_stackRejoin, a_stopLine, a_reads, a_writes, a_marks, a_logLine, a_logMask) := by
  unfold wpX_solvePostDominators
  dsimp only
  rw [nI_1]
  exact nm_e ⟨n + 1, sd_13 hn hn0 hT K (n + 1) 0 _ (by omega) (by omega) (fun q hq => absurd hq (Nat.not_lt_zero _))⟩
theorem sd_15 {post : Int32 → Prop} {n q r : Nat} (hn : n ≤ 24) (hq : q < n) (hR : ∀ q, q ≤ n → ∃ k, pd_rc (wy_E n a_wayNonzero a_wayZero) n k q) (hS : sd_S (wy_E n a_wayNonzero a_wayZero) n a_postDom) (hr : rl_J n a_wayNonzero a_wayZero q r) (hp : post (nI r)) :
    ∀ fu p, r - p < fu → p ≤ r → wX_findRejoin_15 post (a_postDom q &&& (((1 : Int32) <<< (nI q &&& 31)) ^^^ (-1))) f_laneTotal f_lineLimit f_tripLimit f_logLimit (nI n) f_isSealed f_openTotal f_openLoops f_alive f_depth f_clash a_kinds a_fieldD a_fieldA a_fieldB a_blockLine a_blockHasElse a_opener a_elseOf a_endOf a_wayNonzero a_wayZero a_postDom a_rejoinOf a_regs a_cells a_work a_stored a_tripCount a_stackPlace a_stackMask a_stackRejoin a_stopLine a_reads a_writes a_marks a_logLine a_logMask fu (nI p) := by
  intro fu
  induction fu with
  | zero => intro p h; omega
  | succ fu ih =>
    intro p hf hpr
    have hrn := hr.1
    have cp : (nI p).toNatClampNeg = p := nI_clamp (by omega)
    have hc := sd_Jc hn hR hS hq (p := p) (by omega)
    rw [wX_findRejoin_15]
    dsimp only
    rw [cp]
    refine br_f (nI_nlt (by omega) (by omega)) ?_
    by_cases e : p = r
    · subst e
      obtain ⟨c1, c2⟩ := hc.mpr hr
      exact br_f ((bs_bitN _ p (by omega)).mpr c1) ⟨vp_in_nI (by omega) (by decide), br_t c2 hp⟩
    · have hno : ¬ (bt (a_postDom q &&& (((1 : Int32) <<< (nI q &&& 31)) ^^^ (-1))) p = true ∧ a_postDom p = a_postDom q &&& (((1 : Int32) <<< (nI q &&& 31)) ^^^ (-1))) := fun w => e (sd_Ju hR (hc.mp w) hr)
      have go := ih (p + 1) (by omega) (by omega)
      refine br_c (fun _ => nm_r (nI_1 p) go) (fun c => ⟨vp_in_nI (by omega) (by decide), br_f (fun c2 => hno ⟨(bs_bitN _ p (by omega)).mp c, c2⟩) (nm_r (nI_1 p) go)⟩)
theorem sd_rj {post : Int32 → Prop} {n q r : Nat} (hn : n ≤ 24) (hq : q < n) (hR : ∀ q, q ≤ n → ∃ k, pd_rc (wy_E n a_wayNonzero a_wayZero) n k q) (hS : sd_S (wy_E n a_wayNonzero a_wayZero) n a_postDom) (hr : rl_J n a_wayNonzero a_wayZero q r) (hp : post (nI r)) : wpX_findRejoin post (f_laneTotal, f_lineLimit, f_tripLimit, f_logLimit, nI n, f_isSealed, f_openTotal, f_openLoops, f_alive, f_depth, f_clash, a_kinds, a_fieldD, a_fieldA, a_fieldB, a_blockLine, a_blockHasElse, a_opener, a_elseOf, a_endOf, a_wayNonzero, a_wayZero, a_postDom, a_rejoinOf, a_regs, a_cells, a_work, a_stored, a_tripCount, a_stackPlace, a_stackMask, a_stackRejoin, a_stopLine, a_reads, a_writes, a_marks, a_logLine, a_logMask) (nI q) := by
  have cq : (nI q).toNatClampNeg = q := nI_clamp (by omega)
  unfold wpX_findRejoin
  dsimp only
  rw [cq]
  exact ⟨vp_in_nI (by omega) (by decide), nm_e ⟨r + 1, sd_15 hn hq hR hS hr hp (r + 1) 0 (by omega) (by omega)⟩⟩
end
end
section
/-! seal: the component's loops; the reference's paths and its rejoin -/
section
variable {f_laneTotal f_lineLimit f_tripLimit f_logLimit f_count f_isSealed f_openTotal f_openLoops f_alive f_depth f_clash : Int32} {a_kinds a_fieldD a_fieldA a_fieldB a_blockLine a_blockHasElse a_opener a_elseOf a_endOf a_wayNonzero a_wayZero a_postDom a_rejoinOf a_regs a_cells a_work a_stored a_tripCount a_stackPlace a_stackMask a_stackRejoin a_stopLine a_reads a_writes a_marks a_logLine a_logMask : Nat → Int32}
theorem sl_60 {post : Int32 → SX → Prop} {n : Nat} (hn : n ≤ 24) (hR : ∀ q, q ≤ n → ∃ k, pd_rc (wy_E n a_wayNonzero a_wayZero) n k q) (hS : sd_S (wy_E n a_wayNonzero a_wayZero) n a_postDom)
    (K : ∀ rj, (∀ x, x < n → ∃ r, rj x = nI r ∧ rl_J n a_wayNonzero a_wayZero x r) → post 0 (f_laneTotal, f_lineLimit, f_tripLimit, f_logLimit, nI n, 1, f_openTotal, f_openLoops, f_alive, f_depth, f_clash, a_kinds, a_fieldD, a_fieldA, a_fieldB, a_blockLine, a_blockHasElse, a_opener, a_elseOf, a_endOf, a_wayNonzero, a_wayZero, a_postDom, rj, a_regs, a_cells, a_work, a_stored, a_tripCount, a_stackPlace, a_stackMask, a_stackRejoin, a_stopLine, a_reads, a_writes, a_marks, a_logLine, a_logMask)) :
    ∀ fu i rj, n - i < fu → i ≤ n → (∀ x, x < i → ∃ r, rj x = nI r ∧ rl_J n a_wayNonzero a_wayZero x r) → wX_seal_60 post f_laneTotal f_lineLimit f_tripLimit f_logLimit (nI n) f_isSealed f_openTotal f_openLoops f_alive f_depth f_clash fu (nI i) a_kinds a_fieldD a_fieldA a_fieldB a_blockLine a_blockHasElse a_opener a_elseOf a_endOf a_wayNonzero a_wayZero a_postDom rj a_regs a_cells a_work a_stored a_tripCount a_stackPlace a_stackMask a_stackRejoin a_stopLine a_reads a_writes a_marks a_logLine a_logMask := by
  intro fu
  induction fu with
  | zero => intro i _ h; omega
  | succ fu ih =>
    intro i rj hf hi hr
    rw [wX_seal_60]
    dsimp only
    by_cases c : n ≤ i
    · have : i = n := by omega
      subst this
      exact br_t (nI_le c (by omega)) (K rj hr)
    · have ci : (nI i).toNatClampNeg = i := nI_clamp (by omega)
      obtain ⟨r, hJ⟩ := sd_Jex hR (q := i) (by omega)
      refine br_f (nI_ge (by omega) (by omega)) (sd_rj hn (by omega) hR hS hJ ⟨vp_in_nI (by omega) (by decide), nm_r (e' := upd rj i (nI r)) (by rw [ci]) (nm_r (nI_1 i) (ih (i + 1) _ (by omega) (by omega) (fun x hx => ?_)))⟩)
      by_cases e : x = i
      · subst e
        exact ⟨r, bs_us, hJ⟩
      · rw [bs_un e]
        exact hr x (by omega)
theorem sl_35 {post : Int32 → SX → Prop} {n : Nat} (hn : n ≤ 24) (hn0 : 0 < n) (hw : ns_WF a_kinds n) (h0 : ns_ln a_kinds n = 0) (hI : mb_I a_kinds n a_blockLine a_opener a_elseOf a_endOf)
    (K : ∀ nz z pd rj, (∀ x, x < n → wy_W a_kinds n x (nz x) (z x)) → sd_S (wy_E n nz z) n pd → (∀ x, x < n → ∃ r, rj x = nI r ∧ rl_J n nz z x r) → post 0 (f_laneTotal, f_lineLimit, f_tripLimit, f_logLimit, nI n, 1, f_openTotal, f_openLoops, f_alive, f_depth, f_clash, a_kinds, a_fieldD, a_fieldA, a_fieldB, a_blockLine, a_blockHasElse, a_opener, a_elseOf, a_endOf, nz, z, pd, rj, a_regs, a_cells, a_work, a_stored, a_tripCount, a_stackPlace, a_stackMask, a_stackRejoin, a_stopLine, a_reads, a_writes, a_marks, a_logLine, a_logMask)) :
    ∀ fu i nz z, n - i < fu → i ≤ n → (∀ x, x < i → wy_W a_kinds n x (nz x) (z x)) → wX_seal_35 post fu (nI i) f_laneTotal f_lineLimit f_tripLimit f_logLimit (nI n) f_isSealed f_openTotal f_openLoops f_alive f_depth f_clash a_kinds a_fieldD a_fieldA a_fieldB a_blockLine a_blockHasElse a_opener a_elseOf a_endOf nz z a_postDom a_rejoinOf a_regs a_cells a_work a_stored a_tripCount a_stackPlace a_stackMask a_stackRejoin a_stopLine a_reads a_writes a_marks a_logLine a_logMask := by
  intro fu
  induction fu with
  | zero => intro i _ _ h; omega
  | succ fu ih =>
    intro i nz z hf hi hW
    rw [wX_seal_35]
    dsimp only
    by_cases c : n ≤ i
    · have : i = n := by omega
      subst this
      have hT : sd_T i nz z := fun q hq => by
        obtain ⟨t1, t2⟩ := wy_tgt hw hq (hW q hq)
        refine ⟨t1, ?_⟩
        rcases t2 with ⟨_, t⟩ | ⟨_, t⟩
        · exact Or.inl t
        · exact Or.inr t
      refine br_t (nI_le c (by omega)) (sd_all hn hn0 hT (fun pd hS => ⟨i + 1, ?_⟩))
      exact sl_60 hn (wy_reach (by omega) hw hW) hS (fun rj hr => K nz z pd rj hW hS hr) (i + 1) 0 _ (by omega) (by omega) (fun x hx => absurd hx (Nat.not_lt_zero _))
    · refine br_f (nI_ge (by omega) (by omega)) (fw_X hn hw h0 (by omega) hI (fun a b hab => nm_r (nI_1 i) (ih (i + 1) (upd nz i a) (upd z i b) (by omega) (by omega) (fun x hx => ?_))))
      by_cases e : x = i
      · subst e
        rw [bs_us, bs_us]; exact hab
      · rw [bs_un e, bs_un e]
        exact hW x (by omega)
/-- the component's seal of a kernel whose blocks are closed -/
theorem sl_X {post : Int32 → SX → Prop} {n : Nat} (hn : n ≤ 24) (hn0 : 0 < n) (hw : ns_WF a_kinds n) (h0 : ns_ln a_kinds n = 0)
    (K : ∀ bl op eo en nz z pd rj, (∀ x, x < n → wy_W a_kinds n x (nz x) (z x)) → sd_S (wy_E n nz z) n pd → (∀ x, x < n → ∃ r, rj x = nI r ∧ rl_J n nz z x r) → (∀ x, x < n → a_kinds x = 17 → ∃ w, op x = nI w ∧ ns_LP a_kinds w x) →
      post 0 (f_laneTotal, f_lineLimit, f_tripLimit, f_logLimit, nI n, 1, 0, f_openLoops, f_alive, f_depth, f_clash, a_kinds, a_fieldD, a_fieldA, a_fieldB, bl, a_blockHasElse, op, eo, en, nz, z, pd, rj, a_regs, a_cells, a_work, a_stored, a_tripCount, a_stackPlace, a_stackMask, a_stackRejoin, a_stopLine, a_reads, a_writes, a_marks, a_logLine, a_logMask)) : wpX_seal post (f_laneTotal, f_lineLimit, f_tripLimit, f_logLimit, nI n, 0, 0, f_openLoops, f_alive, f_depth, f_clash, a_kinds, a_fieldD, a_fieldA, a_fieldB, a_blockLine, a_blockHasElse, a_opener, a_elseOf, a_endOf, a_wayNonzero, a_wayZero, a_postDom, a_rejoinOf, a_regs, a_cells, a_work, a_stored, a_tripCount, a_stackPlace, a_stackMask, a_stackRejoin, a_stopLine, a_reads, a_writes, a_marks, a_logLine, a_logMask) := by
  unfold wpX_seal
  dsimp only
  refine br_t rfl (br_f (nI_ne0 hn0 (by omega)) (br_t (by decide) (mb_all hn hw (fun bl op eo en hI => ⟨n + 1, ?_⟩))))
  refine sl_35 hn hn0 hw h0 hI (fun nz z pd rj h1 h2 h3 => K bl op eo en nz z pd rj h1 h2 h3 (fun x hx hk => ?_)) (n + 1) 0 _ _ (by omega) (by omega) (fun x hx => absurd hx (Nat.not_lt_zero _))
  obtain ⟨w, w1, w2⟩ := hI.2.2.2 x hx (Or.inl hk)
  exact ⟨w, w2, w1⟩
end
/-! paths in the reference -/
def sl_N (E : Nat → Nat → Prop) (n p q : Nat) (sn : Nat → Int32) : Prop := ∀ x, x < 25 → ¬ sn x = 0 → x ≤ n ∧ x ≠ p ∧ (pd_Av E n p x → pd_Av E n p q)
theorem sl_Nup {E : Nat → Nat → Prop} {n p q i y : Nat} {sn : Nat → Int32} (hN : sl_N E n p q sn) (hi : i < 25) (hs : ¬ sn i = 0) (he : E i y) (hy : y ≤ n) (hp : y ≠ p) : sl_N E n p q (upd sn y 1) := by
  intro x hx h
  by_cases e : x = y
  · subst e
    obtain ⟨h1, h2, h3⟩ := hN i hi hs
    exact ⟨hy, hp, fun z => h3 (pd_Av_step he h2 z)⟩
  · rw [bs_un e] at h
    exact hN x hx h
theorem sl_up {sn : Nat → Int32} {x y : Nat} (h : ¬ sn x = 0) : ¬ upd sn y 1 x = 0 := by
  by_cases e : x = y
  · subst e; rw [bs_us]; exact bs_10
  · rw [bs_un e]; exact h
section
variable {g_lanes g_lines g_trips g_logSize g_n g_sealed g_clash : Int32} {b_kinds b_fd b_fa b_fb b_nzWay b_zWay b_post b_seen b_regs b_mem b_own b_priv b_trip b_visits b_lineOf b_goneTo b_mates b_exits b_reads b_writes b_marks b_logLine b_logMask : Nat → Int32}
theorem sl_50 {post : Int32 → SY → Prop} {J : Int32 → (Nat → Int32) → (Nat → Int32) → (Nat → Int32) → (Nat → Int32) → (Nat → Int32) → (Nat → Int32) → (Nat → Int32) → (Nat → Int32) → (Nat → Int32) → (Nat → Int32) → (Nat → Int32) → (Nat → Int32) → (Nat → Int32) → (Nat → Int32) → (Nat → Int32) → (Nat → Int32) → (Nat → Int32) → (Nat → Int32) → (Nat → Int32) → (Nat → Int32) → (Nat → Int32) → (Nat → Int32) → (Nat → Int32) → Prop} {n p q ps : Nat} {sn : Nat → Int32} (hn : n ≤ 24) (hp : p ≤ n) (hT : sd_T n b_nzWay b_zWay)
    (K : ∀ sn', sl_N (wy_E n b_nzWay b_zWay) n p q sn' → (∀ x, ¬ sn x = 0 → ¬ sn' x = 0) → (∀ x y, x < n → ¬ sn x = 0 → wy_E n b_nzWay b_zWay x y → y ≠ p → ¬ sn' y = 0) → J (nI (ps + 1)) b_kinds b_fd b_fa b_fb b_nzWay b_zWay b_post sn' b_regs b_mem b_own b_priv b_trip b_visits b_lineOf b_goneTo b_mates b_exits b_reads b_writes b_marks b_logLine b_logMask) :
    ∀ fu i sn', n - i < fu → i ≤ n → sl_N (wy_E n b_nzWay b_zWay) n p q sn' → (∀ x, ¬ sn x = 0 → ¬ sn' x = 0) → (∀ x y, x < i → ¬ sn x = 0 → wy_E n b_nzWay b_zWay x y → y ≠ p → ¬ sn' y = 0) →
      wY_onEveryPath_50 post J (nI p) (nI ps) g_lanes g_lines g_trips g_logSize (nI n) g_sealed g_clash fu (nI i) b_kinds b_fd b_fa b_fb b_nzWay b_zWay b_post sn' b_regs b_mem b_own b_priv b_trip b_visits b_lineOf b_goneTo b_mates b_exits b_reads b_writes b_marks b_logLine b_logMask := by
  intro fu
  induction fu with
  | zero => intro i _ h; omega
  | succ fu ih =>
    intro i sn' hf hi hN hm hc
    rw [wY_onEveryPath_50]
    dsimp only
    by_cases c : n ≤ i
    · have : i = n := by omega
      subst this
      exact br_t (nI_le c (by omega)) (nm_r (nI_1 ps) (K sn' hN hm hc))
    · have hin : i < n := by omega
      have ci : (nI i).toNatClampNeg = i := nI_clamp (by omega)
      have v : vp_in (nI i) 24 := vp_in_nI (by omega) (by decide)
      have v5 : vp_in (nI i) 25 := vp_in_nI (by omega) (by decide)
      obtain ⟨⟨y, hy, ey⟩, hz⟩ := hT i hin
      have cy : (b_zWay i).toNatClampNeg = y := by rw [ey, nI_clamp (by omega)]
      have s103 : ∀ s2 : Nat → Int32, sl_N (wy_E n b_nzWay b_zWay) n p q s2 → (∀ x, ¬ sn' x = 0 → ¬ s2 x = 0) → (¬ sn' i = 0 → ∀ y, b_nzWay i = nI y → y ≤ n → y ≠ p → ¬ s2 y = 0) →
          wY_onEveryPath_103 post J (wY_onEveryPath_50 post J (nI p) (nI ps) g_lanes g_lines g_trips g_logSize (nI n) g_sealed g_clash fu) (nI p) (nI ps) (nI i) g_lanes g_lines g_trips g_logSize (nI n) g_sealed g_clash b_kinds b_fd b_fa b_fb b_nzWay b_zWay b_post s2 b_regs b_mem b_own b_priv b_trip b_visits b_lineOf b_goneTo b_mates b_exits b_reads b_writes b_marks b_logLine b_logMask := by
        intro s2 hN2 hm2 hc2
        have go : ∀ s3 : Nat → Int32, sl_N (wy_E n b_nzWay b_zWay) n p q s3 → (∀ x, ¬ s2 x = 0 → ¬ s3 x = 0) → (¬ s2 i = 0 → y ≠ p → ¬ s3 y = 0) → wY_onEveryPath_50 post J (nI p) (nI ps) g_lanes g_lines g_trips g_logSize (nI n) g_sealed g_clash fu (nI (i + 1)) b_kinds b_fd b_fa b_fb b_nzWay b_zWay b_post s3 b_regs b_mem b_own b_priv b_trip b_visits b_lineOf b_goneTo b_mates b_exits b_reads b_writes b_marks b_logLine b_logMask := by
          intro s3 hN3 hm3 hc3
          refine ih (i + 1) s3 (by omega) (by omega) hN3 (fun x h => hm3 x (hm2 x (hm x h))) (fun x y' hx h he hyp => ?_)
          by_cases e : x = i
          · subst e
            rcases he.2.2 with w | w
            · have : y' = y := bs_inj (by have := he.2.1; omega) (by omega) (w.symm.trans ey)
              subst this
              exact hc3 (hm2 x (hm x h)) hyp
            · exact hm3 y' (hc2 (hm x h) y' w he.2.1 hyp)
          · exact hm3 y' (hm2 y' (hc x y' (by omega) h he hyp))
        unfold wY_onEveryPath_103
        rw [ci]
        refine ⟨v5, br_c (fun h => nm_r (nI_1 i) (go s2 hN2 (fun _ h => h) (fun z => absurd h z))) (fun h => ⟨v, ?_⟩)⟩
        refine br_f (by rw [ey]; exact nI_pos (by omega)) ⟨v, br_c (fun e => nm_r (nI_1 i) (go s2 hN2 (fun _ h => h) (fun _ z => ?_))) (fun e => ⟨v, by rw [ey]; exact vp_in_nI (by omega) (by decide), ?_⟩)⟩
        · rw [ey] at e
          exact absurd (bs_inj (by omega) (by omega) e) z
        · have hyp : y ≠ p := fun z => e (by rw [ey, z])
          rw [cy, bs_vb1]
          exact nm_e (nm_r (nI_1 i) (go _ (sl_Nup hN2 (by omega) h ⟨hin, hy, Or.inl ey⟩ hy hyp) (fun x h => sl_up h) (fun _ _ => by rw [bs_us]; exact bs_10)))
      rw [ci]
      refine br_f (nI_ge (by omega) (by omega)) ⟨v5, br_c (fun h => s103 sn' hN (fun _ h => h) (fun z => absurd h z)) (fun h => ⟨v, ?_⟩)⟩
      rcases hz with e | ⟨y', hy', ey'⟩
      · refine br_t (by rw [e]; exact bs_n1lt) (s103 sn' hN (fun _ h => h) (fun _ y w hy _ => ?_))
        rw [e] at w
        exact absurd w.symm (wp_nm1 (by omega))
      · have cy' : (b_nzWay i).toNatClampNeg = y' := by rw [ey', nI_clamp (by omega)]
        refine br_f (by rw [ey']; exact nI_pos (by omega)) ⟨v, br_c (fun e => s103 sn' hN (fun _ h => h) (fun _ y w hy hyp => ?_)) (fun e => ⟨v, by rw [ey']; exact vp_in_nI (by omega) (by decide), ?_⟩)⟩
        · exact absurd (bs_inj (by omega) (by omega) (w.symm.trans e)) hyp
        · have hyp : y' ≠ p := fun z => e (by rw [ey', z])
          rw [cy', bs_vb1]
          refine nm_e (s103 _ (sl_Nup hN (by omega) h ⟨hin, hy', Or.inr ey'⟩ hy' hyp) (fun x h => sl_up h) (fun _ y w hy _ => ?_))
          have : y = y' := bs_inj (by omega) (by omega) (w.symm.trans ey')
          rw [this, bs_us]; exact bs_10
theorem sl_39 {post : Int32 → SY → Prop} {n p q : Nat} (hn : n ≤ 24) (hp : p ≤ n) (hq : q ≤ n) (hT : sd_T n b_nzWay b_zWay) (h1 : pd_PD (wy_E n b_nzWay b_zWay) n p q → ∀ sn, post 1 (g_lanes, g_lines, g_trips, g_logSize, nI n, g_sealed, g_clash, b_kinds, b_fd, b_fa, b_fb, b_nzWay, b_zWay, b_post, sn, b_regs, b_mem, b_own, b_priv, b_trip, b_visits, b_lineOf, b_goneTo, b_mates, b_exits, b_reads, b_writes, b_marks, b_logLine, b_logMask)) (h2 : ¬ pd_PD (wy_E n b_nzWay b_zWay) n p q → ∀ sn, post 0 (g_lanes, g_lines, g_trips, g_logSize, nI n, g_sealed, g_clash, b_kinds, b_fd, b_fa, b_fb, b_nzWay, b_zWay, b_post, sn, b_regs, b_mem, b_own, b_priv, b_trip, b_visits, b_lineOf, b_goneTo, b_mates, b_exits, b_reads, b_writes, b_marks, b_logLine, b_logMask)) :
    ∀ fu ps sn, n + 1 - ps < fu → ps ≤ n + 1 → sl_N (wy_E n b_nzWay b_zWay) n p q sn → (pd_Av (wy_E n b_nzWay b_zWay) n p q → ∃ x, x ≤ n ∧ ¬ sn x = 0 ∧ pd_av (wy_E n b_nzWay b_zWay) n p (n + 1 - ps) x) →
      wY_onEveryPath_39 post (nI p) g_lanes g_lines g_trips g_logSize (nI n) g_sealed g_clash fu (nI ps) b_kinds b_fd b_fa b_fb b_nzWay b_zWay b_post sn b_regs b_mem b_own b_priv b_trip b_visits b_lineOf b_goneTo b_mates b_exits b_reads b_writes b_marks b_logLine b_logMask := by
  intro fu
  induction fu with
  | zero => intro ps _ h; omega
  | succ fu ih =>
    intro ps sn hf hps hN hA
    rw [wY_onEveryPath_39]
    dsimp only
    have cn : (nI n).toNatClampNeg = n := nI_clamp (by omega)
    rw [cn]
    by_cases c : n < ps
    · have : ps = n + 1 := by omega
      subst this
      refine br_t (nI_lt c (by omega)) ⟨vp_in_nI (by omega) (by decide), br_c (fun e => h1 (fun z => ?_) sn) (fun e => h2 (fun z => z ?_) sn)⟩
      · obtain ⟨x, hx, h3, h4⟩ := hA z
        rw [Nat.sub_self] at h4
        have : x = n := h4.1
        subst this
        exact h3 e
      · obtain ⟨h3, h4, h5⟩ := hN n (by omega) e
        exact h5 (pd_Av_n h4)
    · refine br_f (nI_nlt (by omega) (by omega)) ⟨n + 1, ?_⟩
      refine sl_50 (sn := sn) hn hp hT (fun sn' hN' hm hc => ?_) (n + 1) 0 sn (by omega) (by omega) hN (fun _ h => h) (fun x _ hx => absurd hx (Nat.not_lt_zero _))
      refine ih (ps + 1) sn' (by omega) (by omega) hN' (fun z => ?_)
      obtain ⟨x, hx, h3, h4⟩ := hA z
      rw [show n + 1 - ps = (n + 1 - (ps + 1)) + 1 by omega] at h4
      by_cases e : x = n
      · subst e
        exact ⟨x, hx, hm x h3, pd_av_le (Nat.zero_le _) ⟨rfl, pd_av_ne h4⟩⟩
      · rcases h4 with ⟨h5, h6 | ⟨y, h7, h8⟩⟩
        · exact absurd h6 e
        · exact ⟨y, h7.2.1, hc x y (by omega) h3 h7 (pd_av_ne h8), h8⟩
theorem sl_9 {post : Int32 → SY → Prop} {n p q : Nat} (hn : n ≤ 24) (hp : p ≤ n) (hq : q ≤ n) (hpq : p ≠ q) (hT : sd_T n b_nzWay b_zWay) (h1 : pd_PD (wy_E n b_nzWay b_zWay) n p q → ∀ sn, post 1 (g_lanes, g_lines, g_trips, g_logSize, nI n, g_sealed, g_clash, b_kinds, b_fd, b_fa, b_fb, b_nzWay, b_zWay, b_post, sn, b_regs, b_mem, b_own, b_priv, b_trip, b_visits, b_lineOf, b_goneTo, b_mates, b_exits, b_reads, b_writes, b_marks, b_logLine, b_logMask)) (h2 : ¬ pd_PD (wy_E n b_nzWay b_zWay) n p q → ∀ sn, post 0 (g_lanes, g_lines, g_trips, g_logSize, nI n, g_sealed, g_clash, b_kinds, b_fd, b_fa, b_fb, b_nzWay, b_zWay, b_post, sn, b_regs, b_mem, b_own, b_priv, b_trip, b_visits, b_lineOf, b_goneTo, b_mates, b_exits, b_reads, b_writes, b_marks, b_logLine, b_logMask)) :
    ∀ fu i sn, 25 - i < fu → i ≤ 25 → (∀ x, x < i → (¬ sn x = 0 ↔ x = q)) → wY_onEveryPath_9 post (nI p) (nI q) g_lanes g_lines g_trips g_logSize (nI n) g_sealed g_clash fu (nI i) b_kinds b_fd b_fa b_fb b_nzWay b_zWay b_post sn b_regs b_mem b_own b_priv b_trip b_visits b_lineOf b_goneTo b_mates b_exits b_reads b_writes b_marks b_logLine b_logMask := by
  intro fu
  induction fu with
  | zero => intro i _ h; omega
  | succ fu ih =>
    intro i sn hf hi hs
    rw [wY_onEveryPath_9]
    dsimp only
    have ci : (nI i).toNatClampNeg = i := nI_clamp (by omega)
    by_cases c : 25 ≤ i
    · have : i = 25 := by omega
      subst this
      refine br_t (nI_le (a := 25) c (by omega)) ⟨n + 2, ?_⟩
      refine sl_39 hn hp hq hT h1 h2 (n + 2) 0 sn (by omega) (by omega) (fun x hx h => ?_) (fun z => ?_)
      · have := (hs x hx).mp h
        subst this
        exact ⟨hq, fun z => hpq z.symm, fun z => z⟩
      · exact ⟨q, hq, (hs q (by omega)).mpr rfl, pd_bound (wy_E_le (nzW := b_nzWay) (zW := b_zWay)) hq z⟩
    · rw [ci]
      have v : vp_in (nI i) 25 := vp_in_nI (by omega) (by decide)
      refine br_f (nI_ge (b := 25) (by omega) (by decide)) (br_c (fun e => ⟨v, nm_e (nm_r (nI_1 i) (ih (i + 1) _ (by omega) (by omega) (fun x hx => ?_)))⟩) (fun e => ⟨v, nm_e (nm_r (nI_1 i) (ih (i + 1) _ (by omega) (by omega) (fun x hx => ?_)))⟩))
      · have eq : i = q := bs_inj (by omega) (by omega) e
        by_cases e2 : x = i
        · subst e2
          rw [bs_us, bs_vb1]
          exact ⟨fun _ => eq, fun _ => bs_10⟩
        · rw [bs_un e2]
          exact hs x (by omega)
      · by_cases e2 : x = i
        · subst e2
          rw [bs_us, bs_vb0]
          exact ⟨fun z => absurd rfl z, fun z => absurd (by rw [z]) e⟩
        · rw [bs_un e2]
          exact hs x (by omega)
theorem sl_path {post : Int32 → SY → Prop} {n p q : Nat} (hn : n ≤ 24) (hp : p ≤ n) (hq : q ≤ n) (hT : sd_T n b_nzWay b_zWay) (h1 : pd_PD (wy_E n b_nzWay b_zWay) n p q → ∀ sn, post 1 (g_lanes, g_lines, g_trips, g_logSize, nI n, g_sealed, g_clash, b_kinds, b_fd, b_fa, b_fb, b_nzWay, b_zWay, b_post, sn, b_regs, b_mem, b_own, b_priv, b_trip, b_visits, b_lineOf, b_goneTo, b_mates, b_exits, b_reads, b_writes, b_marks, b_logLine, b_logMask)) (h2 : ¬ pd_PD (wy_E n b_nzWay b_zWay) n p q → ∀ sn, post 0 (g_lanes, g_lines, g_trips, g_logSize, nI n, g_sealed, g_clash, b_kinds, b_fd, b_fa, b_fb, b_nzWay, b_zWay, b_post, sn, b_regs, b_mem, b_own, b_priv, b_trip, b_visits, b_lineOf, b_goneTo, b_mates, b_exits, b_reads, b_writes, b_marks, b_logLine, b_logMask)) : wpY_onEveryPath post (g_lanes, g_lines, g_trips, g_logSize, nI n, g_sealed, g_clash, b_kinds, b_fd, b_fa, b_fb, b_nzWay, b_zWay, b_post, b_seen, b_regs, b_mem, b_own, b_priv, b_trip, b_visits, b_lineOf, b_goneTo, b_mates, b_exits, b_reads, b_writes, b_marks, b_logLine, b_logMask) (nI p) (nI q) := by
  unfold wpY_onEveryPath
  dsimp only
  by_cases e : p = q
  · subst e
    exact br_t rfl (h1 (pd_refl p) _)
  · refine br_f (fun z => e (bs_inj (by omega) (by omega) z)) ⟨26, ?_⟩
    exact sl_9 hn hp hq e hT h1 h2 26 0 _ (by omega) (by omega) (fun x hx => absurd hx (Nat.not_lt_zero _))
def sl_O (E : Nat → Nat → Prop) (n : Nat) (po : Nat → Int32) (p q : Nat) : Prop := (po (p * 25 + q) = 0 ∨ po (p * 25 + q) = 1) ∧ (po (p * 25 + q) = 1 ↔ pd_PD E n p q)
theorem sl_86 {post : Int32 → SY → Prop} {J : Int32 → Int32 → Int32 → Int32 → Int32 → Int32 → Int32 → Int32 → (Nat → Int32) → (Nat → Int32) → (Nat → Int32) → (Nat → Int32) → (Nat → Int32) → (Nat → Int32) → (Nat → Int32) → (Nat → Int32) → (Nat → Int32) → (Nat → Int32) → (Nat → Int32) → (Nat → Int32) → (Nat → Int32) → (Nat → Int32) → (Nat → Int32) → (Nat → Int32) → (Nat → Int32) → (Nat → Int32) → (Nat → Int32) → (Nat → Int32) → (Nat → Int32) → (Nat → Int32) → (Nat → Int32) → Prop} {n p : Nat} (hn : n ≤ 24) (hp : p ≤ n) (hT : sd_T n b_nzWay b_zWay)
    (K : ∀ po sn, (∀ p' q', p' ≤ p → q' ≤ n → sl_O (wy_E n b_nzWay b_zWay) n po p' q') → J (nI (p + 1)) g_lanes g_lines g_trips g_logSize (nI n) g_sealed g_clash b_kinds b_fd b_fa b_fb b_nzWay b_zWay po sn b_regs b_mem b_own b_priv b_trip b_visits b_lineOf b_goneTo b_mates b_exits b_reads b_writes b_marks b_logLine b_logMask) :
    ∀ fu i po sn, n + 1 - i < fu → i ≤ n + 1 → (∀ p' q', p' < p → q' ≤ n → sl_O (wy_E n b_nzWay b_zWay) n po p' q') → (∀ q', q' < i → sl_O (wy_E n b_nzWay b_zWay) n po p q') → wY_seal_86 post J (nI p) fu (nI i) g_lanes g_lines g_trips g_logSize (nI n) g_sealed g_clash b_kinds b_fd b_fa b_fb b_nzWay b_zWay po sn b_regs b_mem b_own b_priv b_trip b_visits b_lineOf b_goneTo b_mates b_exits b_reads b_writes b_marks b_logLine b_logMask := by
  intro fu
  induction fu with
  | zero => intro i _ _ h; omega
  | succ fu ih =>
    intro i po sn hf hi hP hQ
    rw [wY_seal_86]
    dsimp only
    by_cases c : n < i
    · refine br_t (nI_lt c (by omega)) (nm_r (nI_1 p) (K po sn (fun p' q' h1 h2 => ?_)))
      by_cases e : p' = p
      · subst e; exact hQ q' (by omega)
      · exact hP p' q' (by omega) h2
    · have ei : nI p * 25 + nI i = nI (p * 25 + i) := bs_mad p 25 i
      have vi : vp_in (nI p * 25 + nI i) 625 := by rw [ei]; exact vp_in_nI (by omega) (by decide)
      have ce : (nI p * 25 + nI i).toNatClampNeg = p * 25 + i := by rw [ei, nI_clamp (by omega)]
      have go : ∀ (r : Int32) sn', (r = 0 ∨ r = 1) → (r = 1 ↔ pd_PD (wy_E n b_nzWay b_zWay) n p i) → wY_seal_86 post J (nI p) fu (nI (i + 1)) g_lanes g_lines g_trips g_logSize (nI n) g_sealed g_clash b_kinds b_fd b_fa b_fb b_nzWay b_zWay (upd po (p * 25 + i) r) sn' b_regs b_mem b_own b_priv b_trip b_visits b_lineOf b_goneTo b_mates b_exits b_reads b_writes b_marks b_logLine b_logMask := by
        intro r sn' hr1 hr2
        refine ih (i + 1) _ _ (by omega) (by omega) (fun p' q' h1 h2 => ?_) (fun q' h => ?_)
        · unfold sl_O
          rw [bs_un (by omega)]
          exact hP p' q' h1 h2
        · unfold sl_O
          by_cases e : q' = i
          · subst e
            rw [bs_us]
            exact ⟨hr1, hr2⟩
          · rw [bs_un (by omega)]
            exact hQ q' (by omega)
      rw [ce]
      refine br_f (nI_nlt (by omega) (by omega)) (sl_path hn hp (by omega) hT (fun h sn' => ⟨vi, ?_⟩) (fun h sn' => ⟨vi, ?_⟩))
      · rw [bs_vb1]
        exact nm_e (nm_r (nI_1 i) (go 1 sn' (Or.inr rfl) ⟨fun _ => h, fun _ => rfl⟩))
      · rw [bs_vb0]
        exact nm_e (nm_r (nI_1 i) (go 0 sn' (Or.inl rfl) ⟨fun z => absurd z.symm bs_10, fun z => absurd z h⟩))
theorem sl_76 {post : Int32 → SY → Prop} {n : Nat} (hn : n ≤ 24) (hT : sd_T n b_nzWay b_zWay)
    (K : ∀ po sn, (∀ p' q', p' ≤ n → q' ≤ n → sl_O (wy_E n b_nzWay b_zWay) n po p' q') → post 0 (g_lanes, g_lines, g_trips, g_logSize, nI n, g_sealed, g_clash, b_kinds, b_fd, b_fa, b_fb, b_nzWay, b_zWay, po, sn, b_regs, b_mem, b_own, b_priv, b_trip, b_visits, b_lineOf, b_goneTo, b_mates, b_exits, b_reads, b_writes, b_marks, b_logLine, b_logMask)) :
    ∀ fu p po sn, n + 1 - p < fu → p ≤ n + 1 → (∀ p' q', p' < p → q' ≤ n → sl_O (wy_E n b_nzWay b_zWay) n po p' q') → wY_seal_76 post fu (nI p) g_lanes g_lines g_trips g_logSize (nI n) g_sealed g_clash b_kinds b_fd b_fa b_fb b_nzWay b_zWay po sn b_regs b_mem b_own b_priv b_trip b_visits b_lineOf b_goneTo b_mates b_exits b_reads b_writes b_marks b_logLine b_logMask := by
  intro fu
  induction fu with
  | zero => intro p _ _ h; omega
  | succ fu ih =>
    intro p po sn hf hp hP
    rw [wY_seal_76]
    dsimp only
    by_cases c : n < p
    · exact br_t (nI_lt c (by omega)) (K po sn (fun p' q' h1 h2 => hP p' q' (by omega) h2))
    · refine br_f (nI_nlt (by omega) (by omega)) ⟨n + 2, ?_⟩
      exact sl_86 hn (by omega) hT (fun po' sn' h => ih (p + 1) po' sn' (by omega) (by omega) (fun p' q' h1 h2 => h p' q' (by omega) h2)) (n + 2) 0 po sn (by omega) (by omega) hP (fun q' h => absurd h (Nat.not_lt_zero _))
theorem sl_36 {post : Int32 → SY → Prop} {n : Nat} {nz z : Nat → Int32} (hn : n ≤ 24) (hw : ns_WF b_kinds n) (h0 : ns_ln b_kinds n = 0) (hW : ∀ x, x < n → wy_W b_kinds n x (nz x) (z x))
    (K : ∀ nz' z' po sn, (∀ x, x < n → nz' x = nz x ∧ z' x = z x) → (∀ p' q', p' ≤ n → q' ≤ n → sl_O (wy_E n nz' z') n po p' q') → post 0 (g_lanes, g_lines, g_trips, g_logSize, nI n, g_sealed, g_clash, b_kinds, b_fd, b_fa, b_fb, nz', z', po, sn, b_regs, b_mem, b_own, b_priv, b_trip, b_visits, b_lineOf, b_goneTo, b_mates, b_exits, b_reads, b_writes, b_marks, b_logLine, b_logMask)) :
    ∀ fu i nz' z', n - i < fu → i ≤ n → (∀ x, x < i → nz' x = nz x ∧ z' x = z x) → wY_seal_36 post g_lanes g_lines g_trips g_logSize (nI n) g_sealed g_clash fu (nI i) b_kinds b_fd b_fa b_fb nz' z' b_post b_seen b_regs b_mem b_own b_priv b_trip b_visits b_lineOf b_goneTo b_mates b_exits b_reads b_writes b_marks b_logLine b_logMask := by
  intro fu
  induction fu with
  | zero => intro i _ _ h; omega
  | succ fu ih =>
    intro i nz' z' hf hi he
    rw [wY_seal_36]
    dsimp only
    by_cases c : n ≤ i
    · have : i = n := by omega
      subst this
      have hT : sd_T i nz' z' := fun q hq => by
        obtain ⟨t1, t2⟩ := wy_tgt hw hq (hW q hq)
        obtain ⟨e1, e2⟩ := he q hq
        rw [e1, e2]
        refine ⟨t1, ?_⟩
        rcases t2 with ⟨_, t⟩ | ⟨_, t⟩
        · exact Or.inl t
        · exact Or.inr t
      exact br_t (nI_le c (by omega)) ⟨i + 2, sl_76 hn hT (fun po sn h => K nz' z' po sn he h) (i + 2) 0 _ _ (by omega) (by omega) (fun p' q' h => absurd h (Nat.not_lt_zero _))⟩
    · have ci : (nI i).toNatClampNeg = i := nI_clamp (by omega)
      have v : vp_in (nI i) 24 := vp_in_nI (by omega) (by decide)
      rw [ci]
      refine br_f (nI_ge (by omega) (by omega)) (fw_Y hn hw h0 (by omega) (hW i (by omega)) (fun _ => ⟨v, nm_e (fw_Y hn hw h0 (by omega) (hW i (by omega)) (fun z => absurd rfl z) (fun _ => ⟨v, nm_e (nm_r (nI_1 i) (ih (i + 1) _ _ (by omega) (by omega) (fun x hx => ?_)))⟩))⟩) (fun z => absurd z bs_10))
      by_cases e : x = i
      · subst e
        exact ⟨bs_us, bs_us⟩
      · rw [bs_un e, bs_un e]
        exact he x (by omega)
/-! the reference's rejoin -/
theorem sl_59 {post : Int32 → Prop} {J : Int32 → Prop} {n x p : Nat} (hn : n ≤ 24) (hx : x < n) (hp : p ≤ n) (hO : ∀ p' q', p' ≤ n → q' ≤ n → sl_O (wy_E n b_nzWay b_zWay) n b_post p' q')
    (h1 : (p ≠ x ∧ pd_PD (wy_E n b_nzWay b_zWay) n p x ∧ ∀ s, s ≤ n → s ≠ x → pd_PD (wy_E n b_nzWay b_zWay) n s x → pd_PD (wy_E n b_nzWay b_zWay) n s p) → post (nI p)) (h2 : ¬ (p ≠ x ∧ pd_PD (wy_E n b_nzWay b_zWay) n p x ∧ ∀ s, s ≤ n → s ≠ x → pd_PD (wy_E n b_nzWay b_zWay) n s x → pd_PD (wy_E n b_nzWay b_zWay) n s p) → J (nI (p + 1))) :
    ∀ fu s (fl : Int32), n + 1 - s < fu → s ≤ n + 1 → (¬ fl = 0 ↔ (p ≠ x ∧ pd_PD (wy_E n b_nzWay b_zWay) n p x ∧ ∀ s', s' < s → s' ≠ x → pd_PD (wy_E n b_nzWay b_zWay) n s' x → pd_PD (wy_E n b_nzWay b_zWay) n s' p)) → wY_rejoin_59 post J (nI x) (nI p) g_lanes g_lines g_trips g_logSize (nI n) g_sealed g_clash b_kinds b_fd b_fa b_fb b_nzWay b_zWay b_post b_seen b_regs b_mem b_own b_priv b_trip b_visits b_lineOf b_goneTo b_mates b_exits b_reads b_writes b_marks b_logLine b_logMask fu fl (nI s) := by
  intro fu
  induction fu with
  | zero => intro s _ h; omega
  | succ fu ih =>
    intro s fl hf hs hfl
    rw [wY_rejoin_59]
    dsimp only
    by_cases c : n < s
    · refine br_t (nI_lt c (by omega)) (br_c (fun e => nm_r (nI_1 p) (h2 (fun z => ?_))) (fun e => h1 ?_))
      · exact (hfl.mpr ⟨z.1, z.2.1, fun s' hs' => z.2.2 s' (by omega)⟩) e
      · obtain ⟨a, b, d⟩ := hfl.mp e
        exact ⟨a, b, fun s' hs' => d s' (by omega)⟩
    · have e1 : nI s * 25 + nI x = nI (s * 25 + x) := bs_mad s 25 x
      have e2 : nI s * 25 + nI p = nI (s * 25 + p) := bs_mad s 25 p
      have v1 : vp_in (nI s * 25 + nI x) 625 := by rw [e1]; exact vp_in_nI (by omega) (by decide)
      have v2 : vp_in (nI s * 25 + nI p) 625 := by rw [e2]; exact vp_in_nI (by omega) (by decide)
      have c1 : (nI s * 25 + nI x).toNatClampNeg = s * 25 + x := by rw [e1, nI_clamp (by omega)]
      have c2 : (nI s * 25 + nI p).toNatClampNeg = s * 25 + p := by rw [e2, nI_clamp (by omega)]
      have keep : (s ≠ x → pd_PD (wy_E n b_nzWay b_zWay) n s x → pd_PD (wy_E n b_nzWay b_zWay) n s p) → wY_rejoin_59 post J (nI x) (nI p) g_lanes g_lines g_trips g_logSize (nI n) g_sealed g_clash b_kinds b_fd b_fa b_fb b_nzWay b_zWay b_post b_seen b_regs b_mem b_own b_priv b_trip b_visits b_lineOf b_goneTo b_mates b_exits b_reads b_writes b_marks b_logLine b_logMask fu fl (nI (s + 1)) := by
        intro h
        refine ih (s + 1) fl (by omega) (by omega) (hfl.trans ⟨fun ⟨a, b, d⟩ => ⟨a, b, fun s' hs' => ?_⟩, fun ⟨a, b, d⟩ => ⟨a, b, fun s' hs' => d s' (by omega)⟩⟩)
        by_cases e : s' = s
        · subst e; exact h
        · exact d s' (by omega)
      rw [c1, c2]
      obtain ⟨o1, o2⟩ := hO s x (by omega) (by omega)
      obtain ⟨q1, q2⟩ := hO s p (by omega) hp
      refine br_f (nI_nlt (by omega) (by omega)) (br_c (fun e => nm_r (nI_1 s) (keep (fun z => ?_))) (fun e => ⟨v1, br_c (fun g => nm_r (nI_1 s) (keep (fun _ z => ?_))) (fun g => ⟨v2, br_c (fun g2 => nm_r (nI_1 s) ?_) (fun g2 => nm_r (nI_1 s) (keep (fun _ _ => ?_)))⟩)⟩))
      · exact absurd (bs_inj (by omega) (by omega) e) z
      · rw [o2.mpr z] at g
        exact absurd g bs_10
      · refine ih (s + 1) 0 (by omega) (by omega) ⟨fun z => absurd rfl z, fun ⟨_, _, d⟩ => ?_⟩
        have hsx : s ≠ x := fun z => e (by rw [z])
        have hg : b_post (s * 25 + x) = 1 := by
          rcases o1 with w | w
          · exact absurd w g
          · exact w
        have := q2.mpr (d s (by omega) hsx (o2.mp hg))
        rw [g2] at this
        exact absurd this.symm bs_10
      · have hg : b_post (s * 25 + p) = 1 := by
          rcases q1 with w | w
          · exact absurd w g2
          · exact w
        exact q2.mp hg
theorem sl_23 {post : Int32 → Prop} {n x r : Nat} (hn : n ≤ 24) (hx : x < n) (hR : ∀ q, q ≤ n → ∃ k, pd_rc (wy_E n b_nzWay b_zWay) n k q) (hO : ∀ p' q', p' ≤ n → q' ≤ n → sl_O (wy_E n b_nzWay b_zWay) n b_post p' q') (hr : rl_J n b_nzWay b_zWay x r) (hp : post (nI r)) :
    ∀ fu p, r - p < fu → p ≤ r → wY_rejoin_23 post (nI x) g_lanes g_lines g_trips g_logSize (nI n) g_sealed g_clash b_kinds b_fd b_fa b_fb b_nzWay b_zWay b_post b_seen b_regs b_mem b_own b_priv b_trip b_visits b_lineOf b_goneTo b_mates b_exits b_reads b_writes b_marks b_logLine b_logMask fu (nI p) := by
  intro fu
  induction fu with
  | zero => intro p h; omega
  | succ fu ih =>
    intro p hf hpr
    have hrn := hr.1
    have key : (p ≠ x ∧ pd_PD (wy_E n b_nzWay b_zWay) n p x ∧ ∀ s, s ≤ n → s ≠ x → pd_PD (wy_E n b_nzWay b_zWay) n s x → pd_PD (wy_E n b_nzWay b_zWay) n s p) ↔ p = r := by
      constructor
      · intro ⟨a, b, d⟩
        exact sd_Ju hR ⟨by omega, a, b, fun s h1 h2 => d s (sd_out hR (by omega) h2) h1 h2⟩ hr
      · intro e
        subst e
        exact ⟨hr.2.1, hr.2.2.1, fun s _ h1 h2 => hr.2.2.2 s h1 h2⟩
    have e1 : nI p * 25 + nI x = nI (p * 25 + x) := bs_mad p 25 x
    have v1 : vp_in (nI p * 25 + nI x) 625 := by rw [e1]; exact vp_in_nI (by omega) (by decide)
    have c1 : (nI p * 25 + nI x).toNatClampNeg = p * 25 + x := by rw [e1, nI_clamp (by omega)]
    obtain ⟨o1, o2⟩ := hO p x (by omega) (by omega)
    have go : ∀ fl : Int32, (¬ fl = 0 ↔ (p ≠ x ∧ pd_PD (wy_E n b_nzWay b_zWay) n p x)) → wY_rejoin_59 post (wY_rejoin_23 post (nI x) g_lanes g_lines g_trips g_logSize (nI n) g_sealed g_clash b_kinds b_fd b_fa b_fb b_nzWay b_zWay b_post b_seen b_regs b_mem b_own b_priv b_trip b_visits b_lineOf b_goneTo b_mates b_exits b_reads b_writes b_marks b_logLine b_logMask fu) (nI x) (nI p) g_lanes g_lines g_trips g_logSize (nI n) g_sealed g_clash b_kinds b_fd b_fa b_fb b_nzWay b_zWay b_post b_seen b_regs b_mem b_own b_priv b_trip b_visits b_lineOf b_goneTo b_mates b_exits b_reads b_writes b_marks b_logLine b_logMask (n + 2) fl 0 := by
      intro fl hfl
      refine sl_59 hn hx (by omega) hO (fun z => ?_) (fun z => ?_) (n + 2) 0 fl (by omega) (by omega) (hfl.trans ⟨fun ⟨a, b⟩ => ⟨a, b, fun s' hs' => absurd hs' (Nat.not_lt_zero _)⟩, fun ⟨a, b, _⟩ => ⟨a, b⟩⟩)
      · rw [key.mp z]; exact hp
      · exact ih (p + 1) (by have : p ≠ r := fun w => z (key.mpr w)
                             omega) (by have : p ≠ r := fun w => z (key.mpr w)
                                        omega)
    rw [wY_rejoin_23]
    dsimp only
    rw [c1]
    refine br_f (nI_nlt (by omega) (by omega)) (br_c (fun e => ⟨n + 2, go 0 ⟨fun z => absurd rfl z, fun ⟨a, _⟩ => ?_⟩⟩) (fun e => ⟨v1, br_c (fun g => ⟨n + 2, go 0 ⟨fun z => absurd rfl z, fun ⟨_, b⟩ => ?_⟩⟩) (fun g => ⟨n + 2, go 1 ⟨fun _ => ⟨?_, ?_⟩, fun _ => bs_10⟩⟩)⟩))
    · exact absurd (bs_inj (by omega) (by omega) e) a
    · rw [o2.mpr b] at g
      exact absurd g bs_10
    · exact fun z => e (by rw [z])
    · rcases o1 with w | w
      · exact absurd w g
      · exact o2.mp w
theorem sl_rj {post : Int32 → Prop} {n x r : Nat} (hn : n ≤ 24) (hx : x < n) (hR : ∀ q, q ≤ n → ∃ k, pd_rc (wy_E n b_nzWay b_zWay) n k q) (hO : ∀ p' q', p' ≤ n → q' ≤ n → sl_O (wy_E n b_nzWay b_zWay) n b_post p' q') (hr : rl_J n b_nzWay b_zWay x r) (hp : post (nI r)) : wpY_rejoin post (g_lanes, g_lines, g_trips, g_logSize, nI n, 1, g_clash, b_kinds, b_fd, b_fa, b_fb, b_nzWay, b_zWay, b_post, b_seen, b_regs, b_mem, b_own, b_priv, b_trip, b_visits, b_lineOf, b_goneTo, b_mates, b_exits, b_reads, b_writes, b_marks, b_logLine, b_logMask) (nI x) := by
  unfold wpY_rejoin
  dsimp only
  exact br_f bs_10 (br_f (nI_pos (by omega)) (br_t (nI_lt hx (by omega)) ⟨r + 1, sl_23 hn hx hR hO hr hp (r + 1) 0 (by omega) (by omega)⟩))
end
end
section
/-! seal and rejoin: both sides -/
theorem i_vc_rejoin {k : Nat} {u : SX} {v : SY} (I : i_Rel k u v) (hk : k + 5 ≤ 2564) (v1 : Int32) : wpX_rejoin (fun r => wpY_rejoin (fun r' => r' = r ∧ i_Rel (k + 5) u v) v v1) u v1 := by
  refine rl_el (k := k) (P := fun u v => ∀ R : Prop, R → wpX_rejoin (fun r => wpY_rejoin (fun r' => r' = r ∧ R) v v1) u v1) ?_ u v I _ (i_up I)
  intro L LL T G n f_isSealed f_openTotal f_openLoops f_alive f_depth f_clash a_kinds a_fieldD a_fieldA a_fieldB a_blockLine a_blockHasElse a_opener a_elseOf a_endOf a_wayNonzero a_wayZero a_postDom a_rejoinOf a_regs a_cells a_work a_stored a_tripCount a_stackPlace a_stackMask a_stackRejoin a_stopLine a_reads a_writes a_marks a_logLine a_logMask b_nzWay b_zWay b_post b_seen b_regs b_mem b_own b_priv b_trip b_visits b_lineOf b_goneTo b_mates b_exits b_reads b_writes b_marks b_logLine b_logMask hR R hr
  have hn : n ≤ 24 := by have := hR.1; unfold rl_B at this; omega
  unfold wpX_rejoin
  rcases hR.2.2.2.1 with ⟨s0, _⟩ | ⟨s1, _, hS⟩
  · subst s0
    refine br_t rfl ?_
    unfold wpY_rejoin
    exact br_t rfl ⟨rfl, hr⟩
  · subst s1
    refine br_f bs_10 ?_
    refine sm_line hn v1 (fun h => br_t rfl ?_) (fun j hj e => br_f bs_10 ?_)
    · unfold wpY_rejoin
      refine br_f bs_10 ?_
      rcases h with h | h
      · exact br_t h ⟨rfl, hr⟩
      · exact br_c (fun _ => ⟨rfl, hr⟩) (fun _ => br_f (fun z => absurd z (Int32.not_lt.mpr h)) ⟨rfl, hr⟩)
    · subst e
      have c : (nI j).toNatClampNeg = j := nI_clamp (by omega)
      obtain ⟨r, e1, hJ⟩ := hS.2.2.2.2.1 j hj
      refine ⟨vp_in_nI (by omega) (by decide), ?_⟩
      rw [c, e1]
      exact sl_rj hn hj (wy_reach (by omega) hR.2.1 (fun x hx => (hS.2.2.1 x hx).2.2)) (fun p' q' h1 h2 => (hS.2.2.2.1 p' q' h1 h2).2) hJ ⟨rfl, hr⟩
theorem sv_W {kd nz z nz' z' : Nat → Int32} {n : Nat} (h : ∀ x, x < n → nz' x = nz x ∧ z' x = z x) : wy_E n nz' z' = wy_E n nz z := by
  funext x y
  apply propext
  unfold wy_E
  constructor
  · intro ⟨a, b, c⟩
    rw [(h x a).1, (h x a).2] at c
    exact ⟨a, b, c⟩
  · intro ⟨a, b, c⟩
    refine ⟨a, b, ?_⟩
    rw [(h x a).1, (h x a).2]
    exact c
theorem i_vc_seal {k : Nat} {u : SX} {v : SY} (I : i_Rel k u v) (hk : k + 5 ≤ 2564) : wpX_seal (fun r u' => wpY_seal (fun r' v' => r' = r ∧ i_Rel (k + 5) u' v') v) u := by
  refine rl_el (k := k) (P := fun u v => wpX_seal (fun r u' => wpY_seal (fun r' v' => r' = r ∧ i_Rel (k + 5) u' v') v) u) ?_ u v I
  intro L LL T G n f_isSealed f_openTotal f_openLoops f_alive f_depth f_clash a_kinds a_fieldD a_fieldA a_fieldB a_blockLine a_blockHasElse a_opener a_elseOf a_endOf a_wayNonzero a_wayZero a_postDom a_rejoinOf a_regs a_cells a_work a_stored a_tripCount a_stackPlace a_stackMask a_stackRejoin a_stopLine a_reads a_writes a_marks a_logLine a_logMask b_nzWay b_zWay b_post b_seen b_regs b_mem b_own b_priv b_trip b_visits b_lineOf b_goneTo b_mates b_exits b_reads b_writes b_marks b_logLine b_logMask hR
  have hn : n ≤ 24 := by have := hR.1; unfold rl_B at this; omega
  have hsame : i_Rel (k + 5) (nI L, nI LL, nI T, nI G, nI n, f_isSealed, f_openTotal, f_openLoops, f_alive, f_depth, f_clash, a_kinds, a_fieldD, a_fieldA, a_fieldB, a_blockLine, a_blockHasElse, a_opener, a_elseOf, a_endOf, a_wayNonzero, a_wayZero, a_postDom, a_rejoinOf, a_regs, a_cells, a_work, a_stored, a_tripCount, a_stackPlace, a_stackMask, a_stackRejoin, a_stopLine, a_reads, a_writes, a_marks, a_logLine, a_logMask) (nI L, nI LL, nI T, nI G, nI n, f_isSealed, f_clash, a_kinds, a_fieldD, a_fieldA, a_fieldB, b_nzWay, b_zWay, b_post, b_seen, b_regs, b_mem, b_own, b_priv, b_trip, b_visits, b_lineOf, b_goneTo, b_mates, b_exits, b_reads, b_writes, b_marks, b_logLine, b_logMask) := ⟨L, LL, T, G, n, rfl, rfl, rfl, rfl, rfl, rfl, rfl, rfl, rfl, rfl, rfl, rfl, rfl, rfl, rfl, rfl, hR⟩
  rcases hR.2.2.2.1 with ⟨s0, hU⟩ | ⟨s1, _, hS⟩
  · subst s0
    by_cases c : n = 0
    · have c' : nI n = 0 := by rw [c, nI_0]
      unfold wpX_seal
      refine br_t rfl (br_t c' ?_)
      unfold wpY_seal
      exact br_t rfl (br_t c' ⟨rfl, hsame⟩)
    · have c' : ¬ nI n = 0 := nI_ne0 (by omega) (by omega)
      have l5 := ad_ln5 hR.2.1 n (Nat.le_refl _)
      by_cases h0 : ns_ln a_kinds n = 0
      · have e0 : f_openTotal = 0 := by rw [hU.1, h0, nI_0]
        subst e0
        refine sl_X hn (by omega) hR.2.1 h0 (fun bl op eo en nz z pd rj h1 h2 h3 h4 => ?_)
        unfold wpY_seal
        refine br_t rfl (br_f c' (ya_ob hn (br_t (by rw [h0]; decide) ⟨n + 1, ?_⟩)))
        refine sl_36 hn hR.2.1 h0 h1 (fun nz' z' po sn he hO => ⟨rfl, ?_⟩) (n + 1) 0 _ _ (by omega) (by omega) (fun x hx => absurd hx (Nat.not_lt_zero _))
        have eE := sv_W (kd := a_kinds) he
        refine ⟨L, LL, T, G, n, rfl, rfl, rfl, rfl, rfl, rfl, rfl, rfl, rfl, rfl, rfl, rfl, rfl, rfl, rfl, rfl, hR.1, hR.2.1, hR.2.2.1, Or.inr ⟨rfl, rfl, by omega, h0, fun x hx => ?_, fun p q hp hq => ?_, fun x hx => ?_, h4⟩, hR.2.2.2.2.1, hR.2.2.2.2.2⟩
        · obtain ⟨e1, e2⟩ := he x hx
          rw [e1, e2]
          exact ⟨rfl, rfl, h1 x hx⟩
        · have hO' := hO p q hp hq
          refine ⟨?_, hO'.1, hO'.2⟩
          rw [eE]
          exact h2.2 q hq p hp
        · obtain ⟨r, e1, e2⟩ := h3 x hx
          refine ⟨r, e1, ?_⟩
          unfold rl_J at e2 ⊢
          rw [eE]
          exact e2
      · have h0' : ¬ nI (ns_ln a_kinds n) ≤ 0 := nI_nle (by omega) (by omega)
        unfold wpX_seal
        refine br_t rfl (br_f c' (br_f (by rw [hU.1]; exact h0') ?_))
        unfold wpY_seal
        exact br_t rfl (br_f c' (ya_ob hn (br_f h0' ⟨rfl, hsame⟩)))
  · subst s1
    unfold wpX_seal
    refine br_f bs_10 ?_
    unfold wpY_seal
    exact br_f bs_10 ⟨rfl, hsame⟩
end
section
/-! the reference's visit of a line by a lane -/
section
variable {g_lanes g_lines g_trips g_logSize g_n g_sealed g_clash : Int32} {b_kinds b_fd b_fa b_fb b_nzWay b_zWay b_post b_seen b_regs b_mem b_own b_priv b_trip b_visits b_lineOf b_goneTo b_mates b_exits b_reads b_writes b_marks b_logLine b_logMask : Nat → Int32} {post : Int32 → SY → Prop} {x1 x2 k x4 x5 x6 x7 x8 x9 : Int32}
theorem yv_c11 (h11 : ¬ k = 11) (h : wY_visit_329 post x2 k x6 g_lanes g_lines g_trips g_logSize g_n g_sealed g_clash b_kinds b_fd b_fa b_fb b_nzWay b_zWay b_post b_seen b_regs b_mem b_own b_priv b_trip b_visits b_lineOf b_goneTo b_mates b_exits b_reads b_writes b_marks b_logLine b_logMask) : wY_visit_296 post x1 x2 k x6 x9 g_lanes g_lines g_trips g_logSize g_n g_sealed g_clash b_kinds b_fd b_fa b_fb b_nzWay b_zWay b_post b_seen b_regs b_mem b_own b_priv b_trip b_visits b_lineOf b_goneTo b_mates b_exits b_reads b_writes b_marks b_logLine b_logMask := by
  unfold wY_visit_296
  exact br_f h11 (h)
theorem yv_c10 (h10 : ¬ k = 10) (h11 : ¬ k = 11) (h : wY_visit_329 post x2 k x6 g_lanes g_lines g_trips g_logSize g_n g_sealed g_clash b_kinds b_fd b_fa b_fb b_nzWay b_zWay b_post b_seen b_regs b_mem b_own b_priv b_trip b_visits b_lineOf b_goneTo b_mates b_exits b_reads b_writes b_marks b_logLine b_logMask) : wY_visit_258 post x1 x2 k x5 x6 x9 g_lanes g_lines g_trips g_logSize g_n g_sealed g_clash b_kinds b_fd b_fa b_fb b_nzWay b_zWay b_post b_seen b_regs b_mem b_own b_priv b_trip b_visits b_lineOf b_goneTo b_mates b_exits b_reads b_writes b_marks b_logLine b_logMask := by
  unfold wY_visit_258
  exact br_f h10 (yv_c11 h11 h)
theorem yv_c9 (h9 : ¬ k = 9) (h10 : ¬ k = 10) (h11 : ¬ k = 11) (h : wY_visit_329 post x2 k x6 g_lanes g_lines g_trips g_logSize g_n g_sealed g_clash b_kinds b_fd b_fa b_fb b_nzWay b_zWay b_post b_seen b_regs b_mem b_own b_priv b_trip b_visits b_lineOf b_goneTo b_mates b_exits b_reads b_writes b_marks b_logLine b_logMask) : wY_visit_240 post x1 x2 k x4 x5 x6 x7 x9 g_lanes g_lines g_trips g_logSize g_n g_sealed g_clash b_kinds b_fd b_fa b_fb b_nzWay b_zWay b_post b_seen b_regs b_mem b_own b_priv b_trip b_visits b_lineOf b_goneTo b_mates b_exits b_reads b_writes b_marks b_logLine b_logMask := by
  unfold wY_visit_240
  exact br_f h9 (yv_c10 h10 h11 h)
theorem yv_c8 (h8 : ¬ k = 8) (h9 : ¬ k = 9) (h10 : ¬ k = 10) (h11 : ¬ k = 11) (h : wY_visit_329 post x2 k x6 g_lanes g_lines g_trips g_logSize g_n g_sealed g_clash b_kinds b_fd b_fa b_fb b_nzWay b_zWay b_post b_seen b_regs b_mem b_own b_priv b_trip b_visits b_lineOf b_goneTo b_mates b_exits b_reads b_writes b_marks b_logLine b_logMask) : wY_visit_215 post x1 x2 k x4 x5 x6 x7 x8 x9 g_lanes g_lines g_trips g_logSize g_n g_sealed g_clash b_kinds b_fd b_fa b_fb b_nzWay b_zWay b_post b_seen b_regs b_mem b_own b_priv b_trip b_visits b_lineOf b_goneTo b_mates b_exits b_reads b_writes b_marks b_logLine b_logMask := by
  unfold wY_visit_215
  exact br_f h8 (yv_c9 h9 h10 h11 h)
theorem yv_c7 (h7 : ¬ k = 7) (h8 : ¬ k = 8) (h9 : ¬ k = 9) (h10 : ¬ k = 10) (h11 : ¬ k = 11) (h : wY_visit_329 post x2 k x6 g_lanes g_lines g_trips g_logSize g_n g_sealed g_clash b_kinds b_fd b_fa b_fb b_nzWay b_zWay b_post b_seen b_regs b_mem b_own b_priv b_trip b_visits b_lineOf b_goneTo b_mates b_exits b_reads b_writes b_marks b_logLine b_logMask) : wY_visit_190 post x1 x2 k x4 x5 x6 x7 x8 x9 g_lanes g_lines g_trips g_logSize g_n g_sealed g_clash b_kinds b_fd b_fa b_fb b_nzWay b_zWay b_post b_seen b_regs b_mem b_own b_priv b_trip b_visits b_lineOf b_goneTo b_mates b_exits b_reads b_writes b_marks b_logLine b_logMask := by
  unfold wY_visit_190
  exact br_f h7 (yv_c8 h8 h9 h10 h11 h)
theorem yv_c6 (h6 : ¬ k = 6) (h7 : ¬ k = 7) (h8 : ¬ k = 8) (h9 : ¬ k = 9) (h10 : ¬ k = 10) (h11 : ¬ k = 11) (h : wY_visit_329 post x2 k x6 g_lanes g_lines g_trips g_logSize g_n g_sealed g_clash b_kinds b_fd b_fa b_fb b_nzWay b_zWay b_post b_seen b_regs b_mem b_own b_priv b_trip b_visits b_lineOf b_goneTo b_mates b_exits b_reads b_writes b_marks b_logLine b_logMask) : wY_visit_172 post x1 x2 k x4 x5 x6 x7 x8 x9 g_lanes g_lines g_trips g_logSize g_n g_sealed g_clash b_kinds b_fd b_fa b_fb b_nzWay b_zWay b_post b_seen b_regs b_mem b_own b_priv b_trip b_visits b_lineOf b_goneTo b_mates b_exits b_reads b_writes b_marks b_logLine b_logMask := by
  unfold wY_visit_172
  exact br_f h6 (yv_c7 h7 h8 h9 h10 h11 h)
theorem yv_c5 (h5 : ¬ k = 5) (h6 : ¬ k = 6) (h7 : ¬ k = 7) (h8 : ¬ k = 8) (h9 : ¬ k = 9) (h10 : ¬ k = 10) (h11 : ¬ k = 11) (h : wY_visit_329 post x2 k x6 g_lanes g_lines g_trips g_logSize g_n g_sealed g_clash b_kinds b_fd b_fa b_fb b_nzWay b_zWay b_post b_seen b_regs b_mem b_own b_priv b_trip b_visits b_lineOf b_goneTo b_mates b_exits b_reads b_writes b_marks b_logLine b_logMask) : wY_visit_155 post x1 x2 k x4 x5 x6 x7 x8 x9 g_lanes g_lines g_trips g_logSize g_n g_sealed g_clash b_kinds b_fd b_fa b_fb b_nzWay b_zWay b_post b_seen b_regs b_mem b_own b_priv b_trip b_visits b_lineOf b_goneTo b_mates b_exits b_reads b_writes b_marks b_logLine b_logMask := by
  unfold wY_visit_155
  exact br_f h5 (yv_c6 h6 h7 h8 h9 h10 h11 h)
theorem yv_c4 (h4 : ¬ k = 4) (h5 : ¬ k = 5) (h6 : ¬ k = 6) (h7 : ¬ k = 7) (h8 : ¬ k = 8) (h9 : ¬ k = 9) (h10 : ¬ k = 10) (h11 : ¬ k = 11) (h : wY_visit_329 post x2 k x6 g_lanes g_lines g_trips g_logSize g_n g_sealed g_clash b_kinds b_fd b_fa b_fb b_nzWay b_zWay b_post b_seen b_regs b_mem b_own b_priv b_trip b_visits b_lineOf b_goneTo b_mates b_exits b_reads b_writes b_marks b_logLine b_logMask) : wY_visit_138 post x1 x2 k x4 x5 x6 x7 x8 x9 g_lanes g_lines g_trips g_logSize g_n g_sealed g_clash b_kinds b_fd b_fa b_fb b_nzWay b_zWay b_post b_seen b_regs b_mem b_own b_priv b_trip b_visits b_lineOf b_goneTo b_mates b_exits b_reads b_writes b_marks b_logLine b_logMask := by
  unfold wY_visit_138
  exact br_f h4 (yv_c5 h5 h6 h7 h8 h9 h10 h11 h)
theorem yv_c3 (h3 : ¬ k = 3) (h4 : ¬ k = 4) (h5 : ¬ k = 5) (h6 : ¬ k = 6) (h7 : ¬ k = 7) (h8 : ¬ k = 8) (h9 : ¬ k = 9) (h10 : ¬ k = 10) (h11 : ¬ k = 11) (h : wY_visit_329 post x2 k x6 g_lanes g_lines g_trips g_logSize g_n g_sealed g_clash b_kinds b_fd b_fa b_fb b_nzWay b_zWay b_post b_seen b_regs b_mem b_own b_priv b_trip b_visits b_lineOf b_goneTo b_mates b_exits b_reads b_writes b_marks b_logLine b_logMask) : wY_visit_121 post x1 x2 k x4 x5 x6 x7 x8 x9 g_lanes g_lines g_trips g_logSize g_n g_sealed g_clash b_kinds b_fd b_fa b_fb b_nzWay b_zWay b_post b_seen b_regs b_mem b_own b_priv b_trip b_visits b_lineOf b_goneTo b_mates b_exits b_reads b_writes b_marks b_logLine b_logMask := by
  unfold wY_visit_121
  exact br_f h3 (yv_c4 h4 h5 h6 h7 h8 h9 h10 h11 h)
theorem yv_c2 (h2 : ¬ k = 2) (h3 : ¬ k = 3) (h4 : ¬ k = 4) (h5 : ¬ k = 5) (h6 : ¬ k = 6) (h7 : ¬ k = 7) (h8 : ¬ k = 8) (h9 : ¬ k = 9) (h10 : ¬ k = 10) (h11 : ¬ k = 11) (h : wY_visit_329 post x2 k x6 g_lanes g_lines g_trips g_logSize g_n g_sealed g_clash b_kinds b_fd b_fa b_fb b_nzWay b_zWay b_post b_seen b_regs b_mem b_own b_priv b_trip b_visits b_lineOf b_goneTo b_mates b_exits b_reads b_writes b_marks b_logLine b_logMask) : wY_visit_108 post x1 x2 k x4 x5 x6 x7 x8 x9 g_lanes g_lines g_trips g_logSize g_n g_sealed g_clash b_kinds b_fd b_fa b_fb b_nzWay b_zWay b_post b_seen b_regs b_mem b_own b_priv b_trip b_visits b_lineOf b_goneTo b_mates b_exits b_reads b_writes b_marks b_logLine b_logMask := by
  unfold wY_visit_108
  exact br_f h2 (yv_c3 h3 h4 h5 h6 h7 h8 h9 h10 h11 h)
end
/-- the lane's facts at a line -/
def yv_Q (n : Nat) (kd fd fa fb : Nat → Int32) (x dd aa : Nat) : Prop := x < n ∧ n ≤ 24 ∧ dd < 8 ∧ aa < 8 ∧ fd x = nI dd ∧ fa x = nI aa
section
variable {g_lanes g_lines g_trips g_logSize g_n g_sealed g_clash : Int32} {b_kinds b_fd b_fa b_fb b_nzWay b_zWay b_post b_seen b_regs b_mem b_own b_priv b_trip b_visits b_lineOf b_goneTo b_mates b_exits b_reads b_writes b_marks b_logLine b_logMask : Nat → Int32} {post : Int32 → SY → Prop} {n f x dd aa bb : Nat}
theorem yv_417 {x6 : Int32} (K0 : x6 = 0 → post 0 (g_lanes, g_lines, g_trips, g_logSize, g_n, g_sealed, g_clash, b_kinds, b_fd, b_fa, b_fb, b_nzWay, b_zWay, b_post, b_seen, b_regs, b_mem, b_own, b_priv, b_trip, b_visits, b_lineOf, b_goneTo, b_mates, b_exits, b_reads, b_writes, b_marks, b_logLine, b_logMask)) (K1 : ¬ x6 = 0 → post 1 (g_lanes, g_lines, g_trips, g_logSize, g_n, g_sealed, g_clash, b_kinds, b_fd, b_fa, b_fb, b_nzWay, b_zWay, b_post, b_seen, b_regs, b_mem, b_own, b_priv, b_trip, b_visits, b_lineOf, b_goneTo, b_mates, b_exits, b_reads, b_writes, b_marks, b_logLine, b_logMask)) : wY_visit_417 post x6 g_lanes g_lines g_trips g_logSize g_n g_sealed g_clash b_kinds b_fd b_fa b_fb b_nzWay b_zWay b_post b_seen b_regs b_mem b_own b_priv b_trip b_visits b_lineOf b_goneTo b_mates b_exits b_reads b_writes b_marks b_logLine b_logMask := by
  unfold wY_visit_417
  exact br_c K0 K1
theorem yv_329 {x2 k x6 : Int32} (h16 : ¬ k = 16) (h17 : ¬ k = 17) (K0 : x6 = 0 → post 0 (g_lanes, g_lines, g_trips, g_logSize, g_n, g_sealed, g_clash, b_kinds, b_fd, b_fa, b_fb, b_nzWay, b_zWay, b_post, b_seen, b_regs, b_mem, b_own, b_priv, b_trip, b_visits, b_lineOf, b_goneTo, b_mates, b_exits, b_reads, b_writes, b_marks, b_logLine, b_logMask)) (K1 : ¬ x6 = 0 → post 1 (g_lanes, g_lines, g_trips, g_logSize, g_n, g_sealed, g_clash, b_kinds, b_fd, b_fa, b_fb, b_nzWay, b_zWay, b_post, b_seen, b_regs, b_mem, b_own, b_priv, b_trip, b_visits, b_lineOf, b_goneTo, b_mates, b_exits, b_reads, b_writes, b_marks, b_logLine, b_logMask)) : wY_visit_329 post x2 k x6 g_lanes g_lines g_trips g_logSize g_n g_sealed g_clash b_kinds b_fd b_fa b_fb b_nzWay b_zWay b_post b_seen b_regs b_mem b_own b_priv b_trip b_visits b_lineOf b_goneTo b_mates b_exits b_reads b_writes b_marks b_logLine b_logMask := by
  unfold wY_visit_329
  exact br_f h16 (br_f h17 (yv_417 K0 K1))
/-- the head of a visit by a line that takes no register b -/
theorem yv_h0 {k : Int32} (hf : f < 8) (hQ : yv_Q n b_kinds b_fd b_fa b_fb x dd aa) (hk : b_kinds x = k) (hk2 : k < 3 ∨ 8 < k)
    (h : wY_visit_82 post (nI f) (nI x) k (b_fb x) (nI (f * 8 + dd)) (b_own (f * 8 + dd)) (b_own (f * 8 + aa)) 0 g_lanes g_lines g_trips g_logSize g_n g_sealed g_clash b_kinds b_fd b_fa b_fb b_nzWay b_zWay b_post b_seen b_regs b_mem b_own b_priv b_trip b_visits b_lineOf b_goneTo b_mates b_exits b_reads b_writes b_marks b_logLine b_logMask) : wpY_visit post (g_lanes, g_lines, g_trips, g_logSize, g_n, g_sealed, g_clash, b_kinds, b_fd, b_fa, b_fb, b_nzWay, b_zWay, b_post, b_seen, b_regs, b_mem, b_own, b_priv, b_trip, b_visits, b_lineOf, b_goneTo, b_mates, b_exits, b_reads, b_writes, b_marks, b_logLine, b_logMask) (nI f) (nI x) := by
  obtain ⟨hx, hn, hd, ha, ed, ea⟩ := hQ
  have c : (nI x).toNatClampNeg = x := nI_clamp (by omega)
  have v : vp_in (nI x) 24 := vp_in_nI (by omega) (by decide)
  have e5 : nI f * 8 + nI dd = nI (f * 8 + dd) := bs_mad f 8 dd
  have e7 : nI f * 8 + nI aa = nI (f * 8 + aa) := bs_mad f 8 aa
  have v5 : vp_in (nI (f * 8 + dd)) 64 := vp_in_nI (by omega) (by decide)
  have v7 : vp_in (nI (f * 8 + aa)) 64 := vp_in_nI (by omega) (by decide)
  have c5 : (nI (f * 8 + dd)).toNatClampNeg = f * 8 + dd := nI_clamp (by omega)
  have c7 : (nI (f * 8 + aa)).toNatClampNeg = f * 8 + aa := nI_clamp (by omega)
  unfold wpY_visit
  dsimp only
  rw [c, ed, ea, e5, e7, c7]
  refine ⟨v, nm_r hk ⟨v, nm_e ⟨v, nm_e ⟨v5, nm_r (e' := b_own (f * 8 + dd)) (by rw [c5]) ⟨v, v7, nm_e ?_⟩⟩⟩⟩⟩
  unfold wY_visit_81
  rcases hk2 with z | z
  · exact br_t z h
  · exact br_c (fun _ => h) (fun _ => br_t z h)
theorem yv_h1 {k : Int32} (hf : f < 8) (hQ : yv_Q n b_kinds b_fd b_fa b_fb x dd aa) (hk : b_kinds x = k) (hk2 : ¬ k < 3) (hk3 : ¬ 8 < k) (hb : bb < 8) (eb : b_fb x = nI bb)
    (h : wY_visit_82 post (nI f) (nI x) k (nI bb) (nI (f * 8 + dd)) (b_own (f * 8 + dd)) (b_own (f * 8 + aa)) (b_own (f * 8 + bb)) g_lanes g_lines g_trips g_logSize g_n g_sealed g_clash b_kinds b_fd b_fa b_fb b_nzWay b_zWay b_post b_seen b_regs b_mem b_own b_priv b_trip b_visits b_lineOf b_goneTo b_mates b_exits b_reads b_writes b_marks b_logLine b_logMask) : wpY_visit post (g_lanes, g_lines, g_trips, g_logSize, g_n, g_sealed, g_clash, b_kinds, b_fd, b_fa, b_fb, b_nzWay, b_zWay, b_post, b_seen, b_regs, b_mem, b_own, b_priv, b_trip, b_visits, b_lineOf, b_goneTo, b_mates, b_exits, b_reads, b_writes, b_marks, b_logLine, b_logMask) (nI f) (nI x) := by
  obtain ⟨hx, hn, hd, ha, ed, ea⟩ := hQ
  have c : (nI x).toNatClampNeg = x := nI_clamp (by omega)
  have v : vp_in (nI x) 24 := vp_in_nI (by omega) (by decide)
  have e5 : nI f * 8 + nI dd = nI (f * 8 + dd) := bs_mad f 8 dd
  have e7 : nI f * 8 + nI aa = nI (f * 8 + aa) := bs_mad f 8 aa
  have e8 : nI f * 8 + nI bb = nI (f * 8 + bb) := bs_mad f 8 bb
  have v5 : vp_in (nI (f * 8 + dd)) 64 := vp_in_nI (by omega) (by decide)
  have v7 : vp_in (nI (f * 8 + aa)) 64 := vp_in_nI (by omega) (by decide)
  have v8 : vp_in (nI (f * 8 + bb)) 64 := vp_in_nI (by omega) (by decide)
  have c5 : (nI (f * 8 + dd)).toNatClampNeg = f * 8 + dd := nI_clamp (by omega)
  have c7 : (nI (f * 8 + aa)).toNatClampNeg = f * 8 + aa := nI_clamp (by omega)
  have c8 : (nI (f * 8 + bb)).toNatClampNeg = f * 8 + bb := nI_clamp (by omega)
  unfold wpY_visit
  dsimp only
  rw [c, ed, ea, eb, e5, e7, c7]
  refine ⟨v, nm_r hk ⟨v, nm_r (e' := nI bb) rfl ⟨v, nm_e ⟨v5, nm_r (e' := b_own (f * 8 + dd)) (by rw [c5]) ⟨v, v7, nm_e ?_⟩⟩⟩⟩⟩
  rw [e8, c8]
  exact br_f hk2 (br_f hk3 ⟨v8, h⟩)
theorem yv_k1 (hf : f < 8) (hQ : yv_Q n b_kinds b_fd b_fa b_fb x dd aa) (hk : b_kinds x = 1) (K0 : b_own (f * 8 + dd) = 0 → post 0 (g_lanes, g_lines, g_trips, g_logSize, g_n, g_sealed, g_clash, b_kinds, b_fd, b_fa, b_fb, b_nzWay, b_zWay, b_post, b_seen, b_regs, b_mem, upd b_own (f * 8 + dd) (b_fb x), b_priv, b_trip, b_visits, b_lineOf, b_goneTo, b_mates, b_exits, b_reads, b_writes, b_marks, b_logLine, b_logMask)) (K1 : ¬ b_own (f * 8 + dd) = 0 → post 1 (g_lanes, g_lines, g_trips, g_logSize, g_n, g_sealed, g_clash, b_kinds, b_fd, b_fa, b_fb, b_nzWay, b_zWay, b_post, b_seen, b_regs, b_mem, upd b_own (f * 8 + dd) (b_fb x), b_priv, b_trip, b_visits, b_lineOf, b_goneTo, b_mates, b_exits, b_reads, b_writes, b_marks, b_logLine, b_logMask)) : wpY_visit post (g_lanes, g_lines, g_trips, g_logSize, g_n, g_sealed, g_clash, b_kinds, b_fd, b_fa, b_fb, b_nzWay, b_zWay, b_post, b_seen, b_regs, b_mem, b_own, b_priv, b_trip, b_visits, b_lineOf, b_goneTo, b_mates, b_exits, b_reads, b_writes, b_marks, b_logLine, b_logMask) (nI f) (nI x) := by
  have hd : dd < 8 := hQ.2.2.1
  have v5 : vp_in (nI (f * 8 + dd)) 64 := vp_in_nI (by omega) (by decide)
  have c5 : (nI (f * 8 + dd)).toNatClampNeg = f * 8 + dd := nI_clamp (by omega)
  refine yv_h0 hf hQ hk (Or.inl (by decide)) ?_
  unfold wY_visit_82
  rw [c5]
  refine nm_e (br_t rfl ⟨v5, nm_e ?_⟩)
  exact yv_c2 (by decide) (by decide) (by decide) (by decide) (by decide) (by decide) (by decide) (by decide) (by decide) (by decide) (yv_329 (by decide) (by decide) K0 K1)

theorem yv_k2 (hf : f < 8) (hQ : yv_Q n b_kinds b_fd b_fa b_fb x dd aa) (hk : b_kinds x = 2) (K0 : b_own (f * 8 + dd) = 0 → post 0 (g_lanes, g_lines, g_trips, g_logSize, g_n, g_sealed, g_clash, b_kinds, b_fd, b_fa, b_fb, b_nzWay, b_zWay, b_post, b_seen, b_regs, b_mem, upd b_own (f * 8 + dd) (nI f), b_priv, b_trip, b_visits, b_lineOf, b_goneTo, b_mates, b_exits, b_reads, b_writes, b_marks, b_logLine, b_logMask)) (K1 : ¬ b_own (f * 8 + dd) = 0 → post 1 (g_lanes, g_lines, g_trips, g_logSize, g_n, g_sealed, g_clash, b_kinds, b_fd, b_fa, b_fb, b_nzWay, b_zWay, b_post, b_seen, b_regs, b_mem, upd b_own (f * 8 + dd) (nI f), b_priv, b_trip, b_visits, b_lineOf, b_goneTo, b_mates, b_exits, b_reads, b_writes, b_marks, b_logLine, b_logMask)) : wpY_visit post (g_lanes, g_lines, g_trips, g_logSize, g_n, g_sealed, g_clash, b_kinds, b_fd, b_fa, b_fb, b_nzWay, b_zWay, b_post, b_seen, b_regs, b_mem, b_own, b_priv, b_trip, b_visits, b_lineOf, b_goneTo, b_mates, b_exits, b_reads, b_writes, b_marks, b_logLine, b_logMask) (nI f) (nI x) := by
  have hd : dd < 8 := hQ.2.2.1
  have v5 : vp_in (nI (f * 8 + dd)) 64 := vp_in_nI (by omega) (by decide)
  have c5 : (nI (f * 8 + dd)).toNatClampNeg = f * 8 + dd := nI_clamp (by omega)
  refine yv_h0 hf hQ hk (Or.inl (by decide)) ?_
  unfold wY_visit_82
  refine nm_e (br_f (by decide) ?_)
  unfold wY_visit_108
  rw [c5]
  refine br_t rfl ⟨v5, nm_e ?_⟩
  exact yv_c3 (by decide) (by decide) (by decide) (by decide) (by decide) (by decide) (by decide) (by decide) (by decide) (yv_329 (by decide) (by decide) K0 K1)

theorem yv_k3 (hf : f < 8) (hQ : yv_Q n b_kinds b_fd b_fa b_fb x dd aa) (hk : b_kinds x = 3) (hb : bb < 8) (eb : b_fb x = nI bb) (K0 : b_own (f * 8 + dd) = 0 → post 0 (g_lanes, g_lines, g_trips, g_logSize, g_n, g_sealed, g_clash, b_kinds, b_fd, b_fa, b_fb, b_nzWay, b_zWay, b_post, b_seen, b_regs, b_mem, upd b_own (f * 8 + dd) (b_own (f * 8 + aa) + b_own (f * 8 + bb)), b_priv, b_trip, b_visits, b_lineOf, b_goneTo, b_mates, b_exits, b_reads, b_writes, b_marks, b_logLine, b_logMask)) (K1 : ¬ b_own (f * 8 + dd) = 0 → post 1 (g_lanes, g_lines, g_trips, g_logSize, g_n, g_sealed, g_clash, b_kinds, b_fd, b_fa, b_fb, b_nzWay, b_zWay, b_post, b_seen, b_regs, b_mem, upd b_own (f * 8 + dd) (b_own (f * 8 + aa) + b_own (f * 8 + bb)), b_priv, b_trip, b_visits, b_lineOf, b_goneTo, b_mates, b_exits, b_reads, b_writes, b_marks, b_logLine, b_logMask)) : wpY_visit post (g_lanes, g_lines, g_trips, g_logSize, g_n, g_sealed, g_clash, b_kinds, b_fd, b_fa, b_fb, b_nzWay, b_zWay, b_post, b_seen, b_regs, b_mem, b_own, b_priv, b_trip, b_visits, b_lineOf, b_goneTo, b_mates, b_exits, b_reads, b_writes, b_marks, b_logLine, b_logMask) (nI f) (nI x) := by
  have hd : dd < 8 := hQ.2.2.1
  have v5 : vp_in (nI (f * 8 + dd)) 64 := vp_in_nI (by omega) (by decide)
  have c5 : (nI (f * 8 + dd)).toNatClampNeg = f * 8 + dd := nI_clamp (by omega)
  refine yv_h1 hf hQ hk (by decide) (by decide) hb eb ?_
  unfold wY_visit_82
  refine nm_e (br_f (by decide) ?_)
  unfold wY_visit_108
  refine br_f (by decide) ?_
  unfold wY_visit_121
  rw [c5]
  refine br_t rfl ⟨v5, nm_e ?_⟩
  exact yv_c4 (by decide) (by decide) (by decide) (by decide) (by decide) (by decide) (by decide) (by decide) (yv_329 (by decide) (by decide) K0 K1)

theorem yv_k4 (hf : f < 8) (hQ : yv_Q n b_kinds b_fd b_fa b_fb x dd aa) (hk : b_kinds x = 4) (hb : bb < 8) (eb : b_fb x = nI bb) (K0 : b_own (f * 8 + dd) = 0 → post 0 (g_lanes, g_lines, g_trips, g_logSize, g_n, g_sealed, g_clash, b_kinds, b_fd, b_fa, b_fb, b_nzWay, b_zWay, b_post, b_seen, b_regs, b_mem, upd b_own (f * 8 + dd) (b_own (f * 8 + aa) - b_own (f * 8 + bb)), b_priv, b_trip, b_visits, b_lineOf, b_goneTo, b_mates, b_exits, b_reads, b_writes, b_marks, b_logLine, b_logMask)) (K1 : ¬ b_own (f * 8 + dd) = 0 → post 1 (g_lanes, g_lines, g_trips, g_logSize, g_n, g_sealed, g_clash, b_kinds, b_fd, b_fa, b_fb, b_nzWay, b_zWay, b_post, b_seen, b_regs, b_mem, upd b_own (f * 8 + dd) (b_own (f * 8 + aa) - b_own (f * 8 + bb)), b_priv, b_trip, b_visits, b_lineOf, b_goneTo, b_mates, b_exits, b_reads, b_writes, b_marks, b_logLine, b_logMask)) : wpY_visit post (g_lanes, g_lines, g_trips, g_logSize, g_n, g_sealed, g_clash, b_kinds, b_fd, b_fa, b_fb, b_nzWay, b_zWay, b_post, b_seen, b_regs, b_mem, b_own, b_priv, b_trip, b_visits, b_lineOf, b_goneTo, b_mates, b_exits, b_reads, b_writes, b_marks, b_logLine, b_logMask) (nI f) (nI x) := by
  have hd : dd < 8 := hQ.2.2.1
  have v5 : vp_in (nI (f * 8 + dd)) 64 := vp_in_nI (by omega) (by decide)
  have c5 : (nI (f * 8 + dd)).toNatClampNeg = f * 8 + dd := nI_clamp (by omega)
  refine yv_h1 hf hQ hk (by decide) (by decide) hb eb ?_
  unfold wY_visit_82
  refine nm_e (br_f (by decide) ?_)
  unfold wY_visit_108
  refine br_f (by decide) ?_
  unfold wY_visit_121
  refine br_f (by decide) ?_
  unfold wY_visit_138
  rw [c5]
  refine br_t rfl ⟨v5, nm_e ?_⟩
  exact yv_c5 (by decide) (by decide) (by decide) (by decide) (by decide) (by decide) (by decide) (yv_329 (by decide) (by decide) K0 K1)

theorem yv_k5 (hf : f < 8) (hQ : yv_Q n b_kinds b_fd b_fa b_fb x dd aa) (hk : b_kinds x = 5) (hb : bb < 8) (eb : b_fb x = nI bb) (K0 : b_own (f * 8 + dd) = 0 → post 0 (g_lanes, g_lines, g_trips, g_logSize, g_n, g_sealed, g_clash, b_kinds, b_fd, b_fa, b_fb, b_nzWay, b_zWay, b_post, b_seen, b_regs, b_mem, upd b_own (f * 8 + dd) (b_own (f * 8 + aa) * b_own (f * 8 + bb)), b_priv, b_trip, b_visits, b_lineOf, b_goneTo, b_mates, b_exits, b_reads, b_writes, b_marks, b_logLine, b_logMask)) (K1 : ¬ b_own (f * 8 + dd) = 0 → post 1 (g_lanes, g_lines, g_trips, g_logSize, g_n, g_sealed, g_clash, b_kinds, b_fd, b_fa, b_fb, b_nzWay, b_zWay, b_post, b_seen, b_regs, b_mem, upd b_own (f * 8 + dd) (b_own (f * 8 + aa) * b_own (f * 8 + bb)), b_priv, b_trip, b_visits, b_lineOf, b_goneTo, b_mates, b_exits, b_reads, b_writes, b_marks, b_logLine, b_logMask)) : wpY_visit post (g_lanes, g_lines, g_trips, g_logSize, g_n, g_sealed, g_clash, b_kinds, b_fd, b_fa, b_fb, b_nzWay, b_zWay, b_post, b_seen, b_regs, b_mem, b_own, b_priv, b_trip, b_visits, b_lineOf, b_goneTo, b_mates, b_exits, b_reads, b_writes, b_marks, b_logLine, b_logMask) (nI f) (nI x) := by
  have hd : dd < 8 := hQ.2.2.1
  have v5 : vp_in (nI (f * 8 + dd)) 64 := vp_in_nI (by omega) (by decide)
  have c5 : (nI (f * 8 + dd)).toNatClampNeg = f * 8 + dd := nI_clamp (by omega)
  refine yv_h1 hf hQ hk (by decide) (by decide) hb eb ?_
  unfold wY_visit_82
  refine nm_e (br_f (by decide) ?_)
  unfold wY_visit_108
  refine br_f (by decide) ?_
  unfold wY_visit_121
  refine br_f (by decide) ?_
  unfold wY_visit_138
  refine br_f (by decide) ?_
  unfold wY_visit_155
  rw [c5]
  refine br_t rfl ⟨v5, nm_e ?_⟩
  exact yv_c6 (by decide) (by decide) (by decide) (by decide) (by decide) (by decide) (yv_329 (by decide) (by decide) K0 K1)

theorem yv_k6 (hf : f < 8) (hQ : yv_Q n b_kinds b_fd b_fa b_fb x dd aa) (hk : b_kinds x = 6) (hb : bb < 8) (eb : b_fb x = nI bb) (K0 : b_own (f * 8 + dd) = 0 → post 0 (g_lanes, g_lines, g_trips, g_logSize, g_n, g_sealed, g_clash, b_kinds, b_fd, b_fa, b_fb, b_nzWay, b_zWay, b_post, b_seen, b_regs, b_mem, upd b_own (f * 8 + dd) (b_own (f * 8 + aa) &&& b_own (f * 8 + bb)), b_priv, b_trip, b_visits, b_lineOf, b_goneTo, b_mates, b_exits, b_reads, b_writes, b_marks, b_logLine, b_logMask)) (K1 : ¬ b_own (f * 8 + dd) = 0 → post 1 (g_lanes, g_lines, g_trips, g_logSize, g_n, g_sealed, g_clash, b_kinds, b_fd, b_fa, b_fb, b_nzWay, b_zWay, b_post, b_seen, b_regs, b_mem, upd b_own (f * 8 + dd) (b_own (f * 8 + aa) &&& b_own (f * 8 + bb)), b_priv, b_trip, b_visits, b_lineOf, b_goneTo, b_mates, b_exits, b_reads, b_writes, b_marks, b_logLine, b_logMask)) : wpY_visit post (g_lanes, g_lines, g_trips, g_logSize, g_n, g_sealed, g_clash, b_kinds, b_fd, b_fa, b_fb, b_nzWay, b_zWay, b_post, b_seen, b_regs, b_mem, b_own, b_priv, b_trip, b_visits, b_lineOf, b_goneTo, b_mates, b_exits, b_reads, b_writes, b_marks, b_logLine, b_logMask) (nI f) (nI x) := by
  have hd : dd < 8 := hQ.2.2.1
  have v5 : vp_in (nI (f * 8 + dd)) 64 := vp_in_nI (by omega) (by decide)
  have c5 : (nI (f * 8 + dd)).toNatClampNeg = f * 8 + dd := nI_clamp (by omega)
  refine yv_h1 hf hQ hk (by decide) (by decide) hb eb ?_
  unfold wY_visit_82
  refine nm_e (br_f (by decide) ?_)
  unfold wY_visit_108
  refine br_f (by decide) ?_
  unfold wY_visit_121
  refine br_f (by decide) ?_
  unfold wY_visit_138
  refine br_f (by decide) ?_
  unfold wY_visit_155
  refine br_f (by decide) ?_
  unfold wY_visit_172
  rw [c5]
  refine br_t rfl ⟨v5, nm_e ?_⟩
  exact yv_c7 (by decide) (by decide) (by decide) (by decide) (by decide) (yv_329 (by decide) (by decide) K0 K1)

theorem yv_k7 (hf : f < 8) (hQ : yv_Q n b_kinds b_fd b_fa b_fb x dd aa) (hk : b_kinds x = 7) (hb : bb < 8) (eb : b_fb x = nI bb) (K0 : b_own (f * 8 + dd) = 0 → post 0 (g_lanes, g_lines, g_trips, g_logSize, g_n, g_sealed, g_clash, b_kinds, b_fd, b_fa, b_fb, b_nzWay, b_zWay, b_post, b_seen, b_regs, b_mem, upd b_own (f * 8 + dd) (if b_own (f * 8 + bb) ≤ b_own (f * 8 + aa) then 0 else 1), b_priv, b_trip, b_visits, b_lineOf, b_goneTo, b_mates, b_exits, b_reads, b_writes, b_marks, b_logLine, b_logMask)) (K1 : ¬ b_own (f * 8 + dd) = 0 → post 1 (g_lanes, g_lines, g_trips, g_logSize, g_n, g_sealed, g_clash, b_kinds, b_fd, b_fa, b_fb, b_nzWay, b_zWay, b_post, b_seen, b_regs, b_mem, upd b_own (f * 8 + dd) (if b_own (f * 8 + bb) ≤ b_own (f * 8 + aa) then 0 else 1), b_priv, b_trip, b_visits, b_lineOf, b_goneTo, b_mates, b_exits, b_reads, b_writes, b_marks, b_logLine, b_logMask)) : wpY_visit post (g_lanes, g_lines, g_trips, g_logSize, g_n, g_sealed, g_clash, b_kinds, b_fd, b_fa, b_fb, b_nzWay, b_zWay, b_post, b_seen, b_regs, b_mem, b_own, b_priv, b_trip, b_visits, b_lineOf, b_goneTo, b_mates, b_exits, b_reads, b_writes, b_marks, b_logLine, b_logMask) (nI f) (nI x) := by
  have hd : dd < 8 := hQ.2.2.1
  have v5 : vp_in (nI (f * 8 + dd)) 64 := vp_in_nI (by omega) (by decide)
  have c5 : (nI (f * 8 + dd)).toNatClampNeg = f * 8 + dd := nI_clamp (by omega)
  refine yv_h1 hf hQ hk (by decide) (by decide) hb eb ?_
  unfold wY_visit_82
  refine nm_e (br_f (by decide) ?_)
  unfold wY_visit_108
  refine br_f (by decide) ?_
  unfold wY_visit_121
  refine br_f (by decide) ?_
  unfold wY_visit_138
  refine br_f (by decide) ?_
  unfold wY_visit_155
  refine br_f (by decide) ?_
  unfold wY_visit_172
  refine br_f (by decide) ?_
  unfold wY_visit_190
  unfold wY_visit_214
  rw [c5]
  refine br_t rfl ?_
  refine br_c (fun z => ⟨v5, nm_e ?_⟩) (fun z => ⟨v5, nm_e ?_⟩)
  · rw [if_pos z] at K0 K1
    exact (yv_c8 (by decide) (by decide) (by decide) (by decide) (yv_329 (by decide) (by decide) K0 K1))
  · rw [if_neg z] at K0 K1
    exact (yv_c8 (by decide) (by decide) (by decide) (by decide) (yv_329 (by decide) (by decide) K0 K1))

theorem yv_k8 (hf : f < 8) (hQ : yv_Q n b_kinds b_fd b_fa b_fb x dd aa) (hk : b_kinds x = 8) (hb : bb < 8) (eb : b_fb x = nI bb) (K0 : b_own (f * 8 + dd) = 0 → post 0 (g_lanes, g_lines, g_trips, g_logSize, g_n, g_sealed, g_clash, b_kinds, b_fd, b_fa, b_fb, b_nzWay, b_zWay, b_post, b_seen, b_regs, b_mem, upd b_own (f * 8 + dd) (if b_own (f * 8 + aa) = b_own (f * 8 + bb) then 1 else 0), b_priv, b_trip, b_visits, b_lineOf, b_goneTo, b_mates, b_exits, b_reads, b_writes, b_marks, b_logLine, b_logMask)) (K1 : ¬ b_own (f * 8 + dd) = 0 → post 1 (g_lanes, g_lines, g_trips, g_logSize, g_n, g_sealed, g_clash, b_kinds, b_fd, b_fa, b_fb, b_nzWay, b_zWay, b_post, b_seen, b_regs, b_mem, upd b_own (f * 8 + dd) (if b_own (f * 8 + aa) = b_own (f * 8 + bb) then 1 else 0), b_priv, b_trip, b_visits, b_lineOf, b_goneTo, b_mates, b_exits, b_reads, b_writes, b_marks, b_logLine, b_logMask)) : wpY_visit post (g_lanes, g_lines, g_trips, g_logSize, g_n, g_sealed, g_clash, b_kinds, b_fd, b_fa, b_fb, b_nzWay, b_zWay, b_post, b_seen, b_regs, b_mem, b_own, b_priv, b_trip, b_visits, b_lineOf, b_goneTo, b_mates, b_exits, b_reads, b_writes, b_marks, b_logLine, b_logMask) (nI f) (nI x) := by
  have hd : dd < 8 := hQ.2.2.1
  have v5 : vp_in (nI (f * 8 + dd)) 64 := vp_in_nI (by omega) (by decide)
  have c5 : (nI (f * 8 + dd)).toNatClampNeg = f * 8 + dd := nI_clamp (by omega)
  refine yv_h1 hf hQ hk (by decide) (by decide) hb eb ?_
  unfold wY_visit_82
  refine nm_e (br_f (by decide) ?_)
  unfold wY_visit_108
  refine br_f (by decide) ?_
  unfold wY_visit_121
  refine br_f (by decide) ?_
  unfold wY_visit_138
  refine br_f (by decide) ?_
  unfold wY_visit_155
  refine br_f (by decide) ?_
  unfold wY_visit_172
  refine br_f (by decide) ?_
  unfold wY_visit_190
  refine br_f (by decide) ?_
  unfold wY_visit_215
  unfold wY_visit_239
  rw [c5]
  refine br_t rfl ?_
  refine br_c (fun z => ⟨v5, nm_e ?_⟩) (fun z => ⟨v5, nm_e ?_⟩)
  · rw [if_pos z] at K0 K1
    exact (yv_c9 (by decide) (by decide) (by decide) (yv_329 (by decide) (by decide) K0 K1))
  · rw [if_neg z] at K0 K1
    exact (yv_c9 (by decide) (by decide) (by decide) (yv_329 (by decide) (by decide) K0 K1))

theorem yv_k9 (hf : f < 8) (hQ : yv_Q n b_kinds b_fd b_fa b_fb x dd aa) (hk : b_kinds x = 9) (K0 : b_own (f * 8 + dd) = 0 → post 0 (g_lanes, g_lines, g_trips, g_logSize, g_n, g_sealed, g_clash, b_kinds, b_fd, b_fa, b_fb, b_nzWay, b_zWay, b_post, b_seen, b_regs, b_mem, upd b_own (f * 8 + dd) (b_own (f * 8 + aa) + b_fb x), b_priv, b_trip, b_visits, b_lineOf, b_goneTo, b_mates, b_exits, b_reads, b_writes, b_marks, b_logLine, b_logMask)) (K1 : ¬ b_own (f * 8 + dd) = 0 → post 1 (g_lanes, g_lines, g_trips, g_logSize, g_n, g_sealed, g_clash, b_kinds, b_fd, b_fa, b_fb, b_nzWay, b_zWay, b_post, b_seen, b_regs, b_mem, upd b_own (f * 8 + dd) (b_own (f * 8 + aa) + b_fb x), b_priv, b_trip, b_visits, b_lineOf, b_goneTo, b_mates, b_exits, b_reads, b_writes, b_marks, b_logLine, b_logMask)) : wpY_visit post (g_lanes, g_lines, g_trips, g_logSize, g_n, g_sealed, g_clash, b_kinds, b_fd, b_fa, b_fb, b_nzWay, b_zWay, b_post, b_seen, b_regs, b_mem, b_own, b_priv, b_trip, b_visits, b_lineOf, b_goneTo, b_mates, b_exits, b_reads, b_writes, b_marks, b_logLine, b_logMask) (nI f) (nI x) := by
  have hd : dd < 8 := hQ.2.2.1
  have v5 : vp_in (nI (f * 8 + dd)) 64 := vp_in_nI (by omega) (by decide)
  have c5 : (nI (f * 8 + dd)).toNatClampNeg = f * 8 + dd := nI_clamp (by omega)
  refine yv_h0 hf hQ hk (Or.inr (by decide)) ?_
  unfold wY_visit_82
  refine nm_e (br_f (by decide) ?_)
  unfold wY_visit_108
  refine br_f (by decide) ?_
  unfold wY_visit_121
  refine br_f (by decide) ?_
  unfold wY_visit_138
  refine br_f (by decide) ?_
  unfold wY_visit_155
  refine br_f (by decide) ?_
  unfold wY_visit_172
  refine br_f (by decide) ?_
  unfold wY_visit_190
  refine br_f (by decide) ?_
  unfold wY_visit_215
  refine br_f (by decide) ?_
  unfold wY_visit_240
  rw [c5]
  refine br_t rfl ⟨v5, nm_e ?_⟩
  exact yv_c10 (by decide) (by decide) (yv_329 (by decide) (by decide) K0 K1)

theorem yv_k10 {cc : Nat} (hf : f < 8) (hQ : yv_Q n b_kinds b_fd b_fa b_fb x dd aa) (hk : b_kinds x = 10) (hc : cc < 32) (ec : ((b_own (f * 8 + aa) + b_fb x) &&& 31) = nI cc) (K0 : b_own (f * 8 + dd) = 0 → post 0 (g_lanes, g_lines, g_trips, g_logSize, g_n, g_sealed, g_clash, b_kinds, b_fd, b_fa, b_fb, b_nzWay, b_zWay, b_post, b_seen, b_regs, b_mem, upd b_own (f * 8 + dd) (b_priv (f * 32 + cc)), b_priv, b_trip, b_visits, b_lineOf, b_goneTo, b_mates, b_exits, upd b_reads f (b_reads f ||| ((1 : Int32) <<< (nI cc &&& 31))), b_writes, b_marks, b_logLine, b_logMask)) (K1 : ¬ b_own (f * 8 + dd) = 0 → post 1 (g_lanes, g_lines, g_trips, g_logSize, g_n, g_sealed, g_clash, b_kinds, b_fd, b_fa, b_fb, b_nzWay, b_zWay, b_post, b_seen, b_regs, b_mem, upd b_own (f * 8 + dd) (b_priv (f * 32 + cc)), b_priv, b_trip, b_visits, b_lineOf, b_goneTo, b_mates, b_exits, upd b_reads f (b_reads f ||| ((1 : Int32) <<< (nI cc &&& 31))), b_writes, b_marks, b_logLine, b_logMask)) : wpY_visit post (g_lanes, g_lines, g_trips, g_logSize, g_n, g_sealed, g_clash, b_kinds, b_fd, b_fa, b_fb, b_nzWay, b_zWay, b_post, b_seen, b_regs, b_mem, b_own, b_priv, b_trip, b_visits, b_lineOf, b_goneTo, b_mates, b_exits, b_reads, b_writes, b_marks, b_logLine, b_logMask) (nI f) (nI x) := by
  have hd : dd < 8 := hQ.2.2.1
  have v5 : vp_in (nI (f * 8 + dd)) 64 := vp_in_nI (by omega) (by decide)
  have c5 : (nI (f * 8 + dd)).toNatClampNeg = f * 8 + dd := nI_clamp (by omega)
  have vf : vp_in (nI f) 8 := vp_in_nI hf (by decide)
  have cf : (nI f).toNatClampNeg = f := nI_clamp (by omega)
  have ec2 : nI f * 32 + nI cc = nI (f * 32 + cc) := bs_mad f 32 cc
  have vc : vp_in (nI (f * 32 + cc)) 256 := vp_in_nI (by omega) (by decide)
  have c9 : (nI (f * 32 + cc)).toNatClampNeg = f * 32 + cc := nI_clamp (by omega)
  refine yv_h0 hf hQ hk (Or.inr (by decide)) ?_
  unfold wY_visit_82
  refine nm_r ec (br_f (by decide) ?_)
  unfold wY_visit_108
  refine br_f (by decide) ?_
  unfold wY_visit_121
  refine br_f (by decide) ?_
  unfold wY_visit_138
  refine br_f (by decide) ?_
  unfold wY_visit_155
  refine br_f (by decide) ?_
  unfold wY_visit_172
  refine br_f (by decide) ?_
  unfold wY_visit_190
  refine br_f (by decide) ?_
  unfold wY_visit_215
  refine br_f (by decide) ?_
  unfold wY_visit_240
  refine br_f (by decide) ?_
  unfold wY_visit_258
  rw [ec2, c9, c5, cf]
  exact br_t rfl ⟨vc, v5, nm_e ⟨vf, vf, nm_e (yv_c11 (by decide) (yv_329 (by decide) (by decide) K0 K1))⟩⟩
theorem yv_k11 {cc : Nat} (hf : f < 8) (hQ : yv_Q n b_kinds b_fd b_fa b_fb x dd aa) (hk : b_kinds x = 11) (hc : cc < 32) (ec : ((b_own (f * 8 + aa) + b_fb x) &&& 31) = nI cc) (K0 : b_own (f * 8 + dd) = 0 → post 0 (g_lanes, g_lines, g_trips, g_logSize, g_n, g_sealed, g_clash, b_kinds, b_fd, b_fa, b_fb, b_nzWay, b_zWay, b_post, b_seen, b_regs, b_mem, b_own, upd b_priv (f * 32 + cc) (b_own (f * 8 + dd)), b_trip, b_visits, b_lineOf, b_goneTo, b_mates, b_exits, b_reads, upd b_writes f (b_writes f ||| ((1 : Int32) <<< (nI cc &&& 31))), b_marks, b_logLine, b_logMask)) (K1 : ¬ b_own (f * 8 + dd) = 0 → post 1 (g_lanes, g_lines, g_trips, g_logSize, g_n, g_sealed, g_clash, b_kinds, b_fd, b_fa, b_fb, b_nzWay, b_zWay, b_post, b_seen, b_regs, b_mem, b_own, upd b_priv (f * 32 + cc) (b_own (f * 8 + dd)), b_trip, b_visits, b_lineOf, b_goneTo, b_mates, b_exits, b_reads, upd b_writes f (b_writes f ||| ((1 : Int32) <<< (nI cc &&& 31))), b_marks, b_logLine, b_logMask)) : wpY_visit post (g_lanes, g_lines, g_trips, g_logSize, g_n, g_sealed, g_clash, b_kinds, b_fd, b_fa, b_fb, b_nzWay, b_zWay, b_post, b_seen, b_regs, b_mem, b_own, b_priv, b_trip, b_visits, b_lineOf, b_goneTo, b_mates, b_exits, b_reads, b_writes, b_marks, b_logLine, b_logMask) (nI f) (nI x) := by
  have hd : dd < 8 := hQ.2.2.1
  have v5 : vp_in (nI (f * 8 + dd)) 64 := vp_in_nI (by omega) (by decide)
  have c5 : (nI (f * 8 + dd)).toNatClampNeg = f * 8 + dd := nI_clamp (by omega)
  have vf : vp_in (nI f) 8 := vp_in_nI hf (by decide)
  have cf : (nI f).toNatClampNeg = f := nI_clamp (by omega)
  have ec2 : nI f * 32 + nI cc = nI (f * 32 + cc) := bs_mad f 32 cc
  have vc : vp_in (nI (f * 32 + cc)) 256 := vp_in_nI (by omega) (by decide)
  have c9 : (nI (f * 32 + cc)).toNatClampNeg = f * 32 + cc := nI_clamp (by omega)
  refine yv_h0 hf hQ hk (Or.inr (by decide)) ?_
  unfold wY_visit_82
  refine nm_r ec (br_f (by decide) ?_)
  unfold wY_visit_108
  refine br_f (by decide) ?_
  unfold wY_visit_121
  refine br_f (by decide) ?_
  unfold wY_visit_138
  refine br_f (by decide) ?_
  unfold wY_visit_155
  refine br_f (by decide) ?_
  unfold wY_visit_172
  refine br_f (by decide) ?_
  unfold wY_visit_190
  refine br_f (by decide) ?_
  unfold wY_visit_215
  refine br_f (by decide) ?_
  unfold wY_visit_240
  refine br_f (by decide) ?_
  unfold wY_visit_258
  refine br_f (by decide) ?_
  unfold wY_visit_296
  rw [ec2, c9, cf]
  exact br_t rfl ⟨vc, nm_e ⟨vf, vf, nm_e (yv_329 (by decide) (by decide) K0 K1)⟩⟩
theorem yv_hi {k : Int32} (hf : f < 8) (hQ : yv_Q n b_kinds b_fd b_fa b_fb x dd aa) (hk : b_kinds x = k) (h8 : 8 < k) (h : ∀ j, j ≤ 11 → ¬ k = nI j) (K : wY_visit_329 post (nI x) k (b_own (f * 8 + dd)) g_lanes g_lines g_trips g_logSize g_n g_sealed g_clash b_kinds b_fd b_fa b_fb b_nzWay b_zWay b_post b_seen b_regs b_mem b_own b_priv b_trip b_visits b_lineOf b_goneTo b_mates b_exits b_reads b_writes b_marks b_logLine b_logMask) : wpY_visit post (g_lanes, g_lines, g_trips, g_logSize, g_n, g_sealed, g_clash, b_kinds, b_fd, b_fa, b_fb, b_nzWay, b_zWay, b_post, b_seen, b_regs, b_mem, b_own, b_priv, b_trip, b_visits, b_lineOf, b_goneTo, b_mates, b_exits, b_reads, b_writes, b_marks, b_logLine, b_logMask) (nI f) (nI x) := by
  refine yv_h0 hf hQ hk (Or.inr h8) ?_
  unfold wY_visit_82
  exact nm_e (br_f (h 1 (by omega)) (yv_c2 (h 2 (by omega)) (h 3 (by omega)) (h 4 (by omega)) (h 5 (by omega)) (h 6 (by omega)) (h 7 (by omega)) (h 8 (by omega)) (h 9 (by omega)) (h 10 (by omega)) (h 11 (by omega)) K))
theorem yv_ko {k : Int32} (hf : f < 8) (hQ : yv_Q n b_kinds b_fd b_fa b_fb x dd aa) (hk : b_kinds x = k) (h8 : 8 < k) (h : ∀ j, j ≤ 11 → ¬ k = nI j) (h16 : ¬ k = 16) (h17 : ¬ k = 17) (K0 : b_own (f * 8 + dd) = 0 → post 0 (g_lanes, g_lines, g_trips, g_logSize, g_n, g_sealed, g_clash, b_kinds, b_fd, b_fa, b_fb, b_nzWay, b_zWay, b_post, b_seen, b_regs, b_mem, b_own, b_priv, b_trip, b_visits, b_lineOf, b_goneTo, b_mates, b_exits, b_reads, b_writes, b_marks, b_logLine, b_logMask)) (K1 : ¬ b_own (f * 8 + dd) = 0 → post 1 (g_lanes, g_lines, g_trips, g_logSize, g_n, g_sealed, g_clash, b_kinds, b_fd, b_fa, b_fb, b_nzWay, b_zWay, b_post, b_seen, b_regs, b_mem, b_own, b_priv, b_trip, b_visits, b_lineOf, b_goneTo, b_mates, b_exits, b_reads, b_writes, b_marks, b_logLine, b_logMask)) : wpY_visit post (g_lanes, g_lines, g_trips, g_logSize, g_n, g_sealed, g_clash, b_kinds, b_fd, b_fa, b_fb, b_nzWay, b_zWay, b_post, b_seen, b_regs, b_mem, b_own, b_priv, b_trip, b_visits, b_lineOf, b_goneTo, b_mates, b_exits, b_reads, b_writes, b_marks, b_logLine, b_logMask) (nI f) (nI x) :=
  yv_hi hf hQ hk h8 h (yv_329 h16 h17 K0 K1)
theorem yv_k16 (hf : f < 8) (hQ : yv_Q n b_kinds b_fd b_fa b_fb x dd aa) (hk : b_kinds x = 16) (K0 : (b_own (f * 8 + dd) = 0 ∨ g_trips ≤ b_trip x) → post 0 (g_lanes, g_lines, g_trips, g_logSize, g_n, g_sealed, g_clash, b_kinds, b_fd, b_fa, b_fb, b_nzWay, b_zWay, b_post, b_seen, b_regs, b_mem, b_own, b_priv, upd b_trip x 0, b_visits, b_lineOf, b_goneTo, b_mates, b_exits, b_reads, b_writes, b_marks, b_logLine, b_logMask)) (K1 : ¬ b_own (f * 8 + dd) = 0 → ¬ g_trips ≤ b_trip x → post 1 (g_lanes, g_lines, g_trips, g_logSize, g_n, g_sealed, g_clash, b_kinds, b_fd, b_fa, b_fb, b_nzWay, b_zWay, b_post, b_seen, b_regs, b_mem, b_own, b_priv, upd b_trip x (b_trip x + 1), b_visits, b_lineOf, b_goneTo, b_mates, b_exits, b_reads, b_writes, b_marks, b_logLine, b_logMask)) : wpY_visit post (g_lanes, g_lines, g_trips, g_logSize, g_n, g_sealed, g_clash, b_kinds, b_fd, b_fa, b_fb, b_nzWay, b_zWay, b_post, b_seen, b_regs, b_mem, b_own, b_priv, b_trip, b_visits, b_lineOf, b_goneTo, b_mates, b_exits, b_reads, b_writes, b_marks, b_logLine, b_logMask) (nI f) (nI x) := by
  have hx : x < 24 := by have := hQ.1; have := hQ.2.1; omega
  have c : (nI x).toNatClampNeg = x := nI_clamp (by omega)
  have v : vp_in (nI x) 24 := vp_in_nI hx (by decide)
  refine yv_hi hf hQ hk (by decide) (by decide +kernel) ?_
  unfold wY_visit_329 wY_visit_357
  have s0 : (b_own (f * 8 + dd) = 0 ∨ g_trips ≤ b_trip x) → wY_visit_358 post (nI x) 0 g_lanes g_lines g_trips g_logSize g_n g_sealed g_clash b_kinds b_fd b_fa b_fb b_nzWay b_zWay b_post b_seen b_regs b_mem b_own b_priv b_trip b_visits b_lineOf b_goneTo b_mates b_exits b_reads b_writes b_marks b_logLine b_logMask := by
    intro h
    unfold wY_visit_358
    rw [c]
    exact br_t rfl ⟨v, nm_e ⟨bs_nb0, K0 h⟩⟩
  have s1 : ¬ b_own (f * 8 + dd) = 0 → ¬ g_trips ≤ b_trip x → wY_visit_358 post (nI x) 1 g_lanes g_lines g_trips g_logSize g_n g_sealed g_clash b_kinds b_fd b_fa b_fb b_nzWay b_zWay b_post b_seen b_regs b_mem b_own b_priv b_trip b_visits b_lineOf b_goneTo b_mates b_exits b_reads b_writes b_marks b_logLine b_logMask := by
    intro h1 h2
    unfold wY_visit_358
    rw [c]
    exact br_f bs_10 ⟨v, v, nm_e ⟨bs_nb1, K1 h1 h2⟩⟩
  refine br_t rfl (br_c (fun h => s0 (Or.inl h)) (fun h => ⟨v, ?_⟩))
  rw [c]
  exact br_c (fun h2 => s0 (Or.inr h2)) (fun h2 => s1 h h2)
theorem yv_k17 {w : Nat} (hf : f < 8) (hQ : yv_Q n b_kinds b_fd b_fa b_fb x dd aa) (hk : b_kinds x = 17) (h0 : ns_ln b_kinds n = 0) (hL : ns_LP b_kinds w x) (K0 : b_own (f * 8 + dd) = 0 → post 0 (g_lanes, g_lines, g_trips, g_logSize, nI n, g_sealed, g_clash, b_kinds, b_fd, b_fa, b_fb, b_nzWay, b_zWay, b_post, b_seen, b_regs, b_mem, b_own, b_priv, b_trip, b_visits, b_lineOf, b_goneTo, b_mates, b_exits, b_reads, b_writes, b_marks, b_logLine, b_logMask)) (K1 : ¬ b_own (f * 8 + dd) = 0 → post 1 (g_lanes, g_lines, g_trips, g_logSize, nI n, g_sealed, g_clash, b_kinds, b_fd, b_fa, b_fb, b_nzWay, b_zWay, b_post, b_seen, b_regs, b_mem, b_own, b_priv, upd b_trip w 0, b_visits, b_lineOf, b_goneTo, b_mates, b_exits, b_reads, b_writes, b_marks, b_logLine, b_logMask)) : wpY_visit post (g_lanes, g_lines, g_trips, g_logSize, nI n, g_sealed, g_clash, b_kinds, b_fd, b_fa, b_fb, b_nzWay, b_zWay, b_post, b_seen, b_regs, b_mem, b_own, b_priv, b_trip, b_visits, b_lineOf, b_goneTo, b_mates, b_exits, b_reads, b_writes, b_marks, b_logLine, b_logMask) (nI f) (nI x) := by
  have hx := hQ.1
  have hn := hQ.2.1
  have hw := hL.1.1
  have c : (nI w).toNatClampNeg = w := nI_clamp (by omega)
  refine yv_hi hf hQ hk (by decide) (by decide +kernel) ?_
  unfold wY_visit_329
  refine br_f (by decide) (br_t rfl (br_c (fun h => yv_417 (fun _ => K0 h) (fun z => absurd h z)) (fun h => ?_)))
  refine ye_loop hn h0 hx (by rw [hk]; decide) hL (br_f (nI_pos (by omega)) ⟨vp_in_nI (by omega) (by decide), ?_⟩)
  rw [c]
  exact nm_e (yv_417 (fun z => absurd z h) (fun _ => K1 h))
end
end
section
/-! the component: execute and decideLane -/
section
variable {f_laneTotal f_lineLimit f_tripLimit f_logLimit f_count f_isSealed f_openTotal f_openLoops f_alive f_depth f_clash : Int32} {a_kinds a_fieldD a_fieldA a_fieldB a_blockLine a_blockHasElse a_opener a_elseOf a_endOf a_wayNonzero a_wayZero a_postDom a_rejoinOf a_regs a_cells a_work a_stored a_tripCount a_stackPlace a_stackMask a_stackRejoin a_stopLine a_reads a_writes a_marks a_logLine a_logMask : Nat → Int32} {post : SX → Prop} {n f x dd aa bb : Nat}
theorem xe_k1 (hf : f < 8) (hQ : yv_Q n a_kinds a_fieldD a_fieldA a_fieldB x dd aa) (hk : a_kinds x = 1) (K : post (f_laneTotal, f_lineLimit, f_tripLimit, f_logLimit, f_count, f_isSealed, f_openTotal, f_openLoops, f_alive, f_depth, f_clash, a_kinds, a_fieldD, a_fieldA, a_fieldB, a_blockLine, a_blockHasElse, a_opener, a_elseOf, a_endOf, a_wayNonzero, a_wayZero, a_postDom, a_rejoinOf, a_regs, a_cells, upd a_work (f * 8 + dd) (a_fieldB x), a_stored, a_tripCount, a_stackPlace, a_stackMask, a_stackRejoin, a_stopLine, a_reads, a_writes, a_marks, a_logLine, a_logMask)) : wpX_execute post (f_laneTotal, f_lineLimit, f_tripLimit, f_logLimit, f_count, f_isSealed, f_openTotal, f_openLoops, f_alive, f_depth, f_clash, a_kinds, a_fieldD, a_fieldA, a_fieldB, a_blockLine, a_blockHasElse, a_opener, a_elseOf, a_endOf, a_wayNonzero, a_wayZero, a_postDom, a_rejoinOf, a_regs, a_cells, a_work, a_stored, a_tripCount, a_stackPlace, a_stackMask, a_stackRejoin, a_stopLine, a_reads, a_writes, a_marks, a_logLine, a_logMask) (nI x) (nI f) := by
  obtain ⟨hx, hn, hd, ha, ed, ea⟩ := hQ
  have c : (nI x).toNatClampNeg = x := nI_clamp (by omega)
  have v : vp_in (nI x) 24 := vp_in_nI (by omega) (by decide)
  have e4 : nI f * 8 = nI (f * 8) := pk_mul f 8
  have e5 : nI (f * 8) + nI dd = nI (f * 8 + dd) := nI_add _ _
  have e7 : nI (f * 8) + nI aa = nI (f * 8 + aa) := nI_add _ _
  have v5 : vp_in (nI (f * 8 + dd)) 64 := vp_in_nI (by omega) (by decide)
  have v7 : vp_in (nI (f * 8 + aa)) 64 := vp_in_nI (by omega) (by decide)
  have c5 : (nI (f * 8 + dd)).toNatClampNeg = f * 8 + dd := nI_clamp (by omega)
  have c7 : (nI (f * 8 + aa)).toNatClampNeg = f * 8 + aa := nI_clamp (by omega)
  unfold wpX_execute
  dsimp only
  rw [c]
  refine ⟨v, nm_r hk (nm_r e4 ⟨v, nm_r (e' := nI (f * 8 + dd)) (by rw [ed, e5]) ⟨v, by rw [ea, e7]; exact v7, nm_r (e' := a_work (f * 8 + aa)) (by rw [ea, e7, c7]) ⟨v, nm_r (e' := a_fieldB x) rfl (br_f (by decide) (br_f (by decide) ?_))⟩⟩⟩)⟩
  rw [c5]
  exact br_t rfl ⟨v5, nm_e K⟩

theorem xe_k2 (hf : f < 8) (hQ : yv_Q n a_kinds a_fieldD a_fieldA a_fieldB x dd aa) (hk : a_kinds x = 2) (K : post (f_laneTotal, f_lineLimit, f_tripLimit, f_logLimit, f_count, f_isSealed, f_openTotal, f_openLoops, f_alive, f_depth, f_clash, a_kinds, a_fieldD, a_fieldA, a_fieldB, a_blockLine, a_blockHasElse, a_opener, a_elseOf, a_endOf, a_wayNonzero, a_wayZero, a_postDom, a_rejoinOf, a_regs, a_cells, upd a_work (f * 8 + dd) (nI f), a_stored, a_tripCount, a_stackPlace, a_stackMask, a_stackRejoin, a_stopLine, a_reads, a_writes, a_marks, a_logLine, a_logMask)) : wpX_execute post (f_laneTotal, f_lineLimit, f_tripLimit, f_logLimit, f_count, f_isSealed, f_openTotal, f_openLoops, f_alive, f_depth, f_clash, a_kinds, a_fieldD, a_fieldA, a_fieldB, a_blockLine, a_blockHasElse, a_opener, a_elseOf, a_endOf, a_wayNonzero, a_wayZero, a_postDom, a_rejoinOf, a_regs, a_cells, a_work, a_stored, a_tripCount, a_stackPlace, a_stackMask, a_stackRejoin, a_stopLine, a_reads, a_writes, a_marks, a_logLine, a_logMask) (nI x) (nI f) := by
  obtain ⟨hx, hn, hd, ha, ed, ea⟩ := hQ
  have c : (nI x).toNatClampNeg = x := nI_clamp (by omega)
  have v : vp_in (nI x) 24 := vp_in_nI (by omega) (by decide)
  have e4 : nI f * 8 = nI (f * 8) := pk_mul f 8
  have e5 : nI (f * 8) + nI dd = nI (f * 8 + dd) := nI_add _ _
  have e7 : nI (f * 8) + nI aa = nI (f * 8 + aa) := nI_add _ _
  have v5 : vp_in (nI (f * 8 + dd)) 64 := vp_in_nI (by omega) (by decide)
  have v7 : vp_in (nI (f * 8 + aa)) 64 := vp_in_nI (by omega) (by decide)
  have c5 : (nI (f * 8 + dd)).toNatClampNeg = f * 8 + dd := nI_clamp (by omega)
  have c7 : (nI (f * 8 + aa)).toNatClampNeg = f * 8 + aa := nI_clamp (by omega)
  unfold wpX_execute
  dsimp only
  rw [c]
  refine ⟨v, nm_r hk (nm_r e4 ⟨v, nm_r (e' := nI (f * 8 + dd)) (by rw [ed, e5]) ⟨v, by rw [ea, e7]; exact v7, nm_r (e' := a_work (f * 8 + aa)) (by rw [ea, e7, c7]) ⟨v, nm_r (e' := a_fieldB x) rfl (br_f (by decide) (br_f (by decide) ?_))⟩⟩⟩)⟩
  rw [c5]
  exact br_f (by decide) (br_t rfl ⟨v5, nm_e K⟩)

theorem xe_k3 (hf : f < 8) (hQ : yv_Q n a_kinds a_fieldD a_fieldA a_fieldB x dd aa) (hk : a_kinds x = 3) (hb : bb < 8) (eb : a_fieldB x = nI bb) (K : post (f_laneTotal, f_lineLimit, f_tripLimit, f_logLimit, f_count, f_isSealed, f_openTotal, f_openLoops, f_alive, f_depth, f_clash, a_kinds, a_fieldD, a_fieldA, a_fieldB, a_blockLine, a_blockHasElse, a_opener, a_elseOf, a_endOf, a_wayNonzero, a_wayZero, a_postDom, a_rejoinOf, a_regs, a_cells, upd a_work (f * 8 + dd) (a_work (f * 8 + aa) + a_work (f * 8 + bb)), a_stored, a_tripCount, a_stackPlace, a_stackMask, a_stackRejoin, a_stopLine, a_reads, a_writes, a_marks, a_logLine, a_logMask)) : wpX_execute post (f_laneTotal, f_lineLimit, f_tripLimit, f_logLimit, f_count, f_isSealed, f_openTotal, f_openLoops, f_alive, f_depth, f_clash, a_kinds, a_fieldD, a_fieldA, a_fieldB, a_blockLine, a_blockHasElse, a_opener, a_elseOf, a_endOf, a_wayNonzero, a_wayZero, a_postDom, a_rejoinOf, a_regs, a_cells, a_work, a_stored, a_tripCount, a_stackPlace, a_stackMask, a_stackRejoin, a_stopLine, a_reads, a_writes, a_marks, a_logLine, a_logMask) (nI x) (nI f) := by
  obtain ⟨hx, hn, hd, ha, ed, ea⟩ := hQ
  have c : (nI x).toNatClampNeg = x := nI_clamp (by omega)
  have v : vp_in (nI x) 24 := vp_in_nI (by omega) (by decide)
  have e4 : nI f * 8 = nI (f * 8) := pk_mul f 8
  have e5 : nI (f * 8) + nI dd = nI (f * 8 + dd) := nI_add _ _
  have e7 : nI (f * 8) + nI aa = nI (f * 8 + aa) := nI_add _ _
  have v5 : vp_in (nI (f * 8 + dd)) 64 := vp_in_nI (by omega) (by decide)
  have v7 : vp_in (nI (f * 8 + aa)) 64 := vp_in_nI (by omega) (by decide)
  have c5 : (nI (f * 8 + dd)).toNatClampNeg = f * 8 + dd := nI_clamp (by omega)
  have c7 : (nI (f * 8 + aa)).toNatClampNeg = f * 8 + aa := nI_clamp (by omega)
  unfold wpX_execute
  dsimp only
  rw [c]
  refine ⟨v, nm_r hk (nm_r e4 ⟨v, nm_r (e' := nI (f * 8 + dd)) (by rw [ed, e5]) ⟨v, by rw [ea, e7]; exact v7, nm_r (e' := a_work (f * 8 + aa)) (by rw [ea, e7, c7]) ⟨v, nm_r (e' := nI bb) eb (br_f (by decide) (br_f (by decide) ?_))⟩⟩⟩)⟩
  have e7' : nI bb &&& 7 = nI bb := by
    rw [pk_andN (by omega) 3 (by decide)]
    congr 1
    exact Nat.mod_eq_of_lt hb
  have e8 : nI (f * 8) + nI bb = nI (f * 8 + bb) := nI_add _ _
  have v8 : vp_in (nI (f * 8 + bb)) 64 := vp_in_nI (by omega) (by decide)
  have c8 : (nI (f * 8 + bb)).toNatClampNeg = f * 8 + bb := nI_clamp (by omega)
  have K2 : wX_execute_192 post 3 (nI (f * 8)) (nI (f * 8 + dd)) (a_work (f * 8 + aa)) (nI bb) f_laneTotal f_lineLimit f_tripLimit f_logLimit f_count f_isSealed f_openTotal f_openLoops f_alive f_depth f_clash a_kinds a_fieldD a_fieldA a_fieldB a_blockLine a_blockHasElse a_opener a_elseOf a_endOf a_wayNonzero a_wayZero a_postDom a_rejoinOf a_regs a_cells a_work a_stored a_tripCount a_stackPlace a_stackMask a_stackRejoin a_stopLine a_reads a_writes a_marks a_logLine a_logMask := by
    unfold wX_execute_192
    rw [e7', e8, c8]
    refine ⟨v8, ?_⟩
    unfold wpX_combine
    dsimp only
    rw [c5]
    exact br_f (by decide) (br_f (by decide) (br_t rfl ⟨v5, nm_e K⟩))
  exact br_f (by decide) (br_f (by decide) (br_t rfl K2))

theorem xe_k4 (hf : f < 8) (hQ : yv_Q n a_kinds a_fieldD a_fieldA a_fieldB x dd aa) (hk : a_kinds x = 4) (hb : bb < 8) (eb : a_fieldB x = nI bb) (K : post (f_laneTotal, f_lineLimit, f_tripLimit, f_logLimit, f_count, f_isSealed, f_openTotal, f_openLoops, f_alive, f_depth, f_clash, a_kinds, a_fieldD, a_fieldA, a_fieldB, a_blockLine, a_blockHasElse, a_opener, a_elseOf, a_endOf, a_wayNonzero, a_wayZero, a_postDom, a_rejoinOf, a_regs, a_cells, upd a_work (f * 8 + dd) (a_work (f * 8 + aa) - a_work (f * 8 + bb)), a_stored, a_tripCount, a_stackPlace, a_stackMask, a_stackRejoin, a_stopLine, a_reads, a_writes, a_marks, a_logLine, a_logMask)) : wpX_execute post (f_laneTotal, f_lineLimit, f_tripLimit, f_logLimit, f_count, f_isSealed, f_openTotal, f_openLoops, f_alive, f_depth, f_clash, a_kinds, a_fieldD, a_fieldA, a_fieldB, a_blockLine, a_blockHasElse, a_opener, a_elseOf, a_endOf, a_wayNonzero, a_wayZero, a_postDom, a_rejoinOf, a_regs, a_cells, a_work, a_stored, a_tripCount, a_stackPlace, a_stackMask, a_stackRejoin, a_stopLine, a_reads, a_writes, a_marks, a_logLine, a_logMask) (nI x) (nI f) := by
  obtain ⟨hx, hn, hd, ha, ed, ea⟩ := hQ
  have c : (nI x).toNatClampNeg = x := nI_clamp (by omega)
  have v : vp_in (nI x) 24 := vp_in_nI (by omega) (by decide)
  have e4 : nI f * 8 = nI (f * 8) := pk_mul f 8
  have e5 : nI (f * 8) + nI dd = nI (f * 8 + dd) := nI_add _ _
  have e7 : nI (f * 8) + nI aa = nI (f * 8 + aa) := nI_add _ _
  have v5 : vp_in (nI (f * 8 + dd)) 64 := vp_in_nI (by omega) (by decide)
  have v7 : vp_in (nI (f * 8 + aa)) 64 := vp_in_nI (by omega) (by decide)
  have c5 : (nI (f * 8 + dd)).toNatClampNeg = f * 8 + dd := nI_clamp (by omega)
  have c7 : (nI (f * 8 + aa)).toNatClampNeg = f * 8 + aa := nI_clamp (by omega)
  unfold wpX_execute
  dsimp only
  rw [c]
  refine ⟨v, nm_r hk (nm_r e4 ⟨v, nm_r (e' := nI (f * 8 + dd)) (by rw [ed, e5]) ⟨v, by rw [ea, e7]; exact v7, nm_r (e' := a_work (f * 8 + aa)) (by rw [ea, e7, c7]) ⟨v, nm_r (e' := nI bb) eb (br_f (by decide) (br_f (by decide) ?_))⟩⟩⟩)⟩
  have e7' : nI bb &&& 7 = nI bb := by
    rw [pk_andN (by omega) 3 (by decide)]
    congr 1
    exact Nat.mod_eq_of_lt hb
  have e8 : nI (f * 8) + nI bb = nI (f * 8 + bb) := nI_add _ _
  have v8 : vp_in (nI (f * 8 + bb)) 64 := vp_in_nI (by omega) (by decide)
  have c8 : (nI (f * 8 + bb)).toNatClampNeg = f * 8 + bb := nI_clamp (by omega)
  have K2 : wX_execute_192 post 4 (nI (f * 8)) (nI (f * 8 + dd)) (a_work (f * 8 + aa)) (nI bb) f_laneTotal f_lineLimit f_tripLimit f_logLimit f_count f_isSealed f_openTotal f_openLoops f_alive f_depth f_clash a_kinds a_fieldD a_fieldA a_fieldB a_blockLine a_blockHasElse a_opener a_elseOf a_endOf a_wayNonzero a_wayZero a_postDom a_rejoinOf a_regs a_cells a_work a_stored a_tripCount a_stackPlace a_stackMask a_stackRejoin a_stopLine a_reads a_writes a_marks a_logLine a_logMask := by
    unfold wX_execute_192
    rw [e7', e8, c8]
    refine ⟨v8, ?_⟩
    unfold wpX_combine
    dsimp only
    rw [c5]
    exact br_f (by decide) (br_f (by decide) (br_f (by decide) (br_t rfl ⟨v5, nm_e K⟩)))
  exact br_f (by decide) (br_f (by decide) (br_f (by decide) (br_t rfl K2)))

theorem xe_k5 (hf : f < 8) (hQ : yv_Q n a_kinds a_fieldD a_fieldA a_fieldB x dd aa) (hk : a_kinds x = 5) (hb : bb < 8) (eb : a_fieldB x = nI bb) (K : post (f_laneTotal, f_lineLimit, f_tripLimit, f_logLimit, f_count, f_isSealed, f_openTotal, f_openLoops, f_alive, f_depth, f_clash, a_kinds, a_fieldD, a_fieldA, a_fieldB, a_blockLine, a_blockHasElse, a_opener, a_elseOf, a_endOf, a_wayNonzero, a_wayZero, a_postDom, a_rejoinOf, a_regs, a_cells, upd a_work (f * 8 + dd) (a_work (f * 8 + aa) * a_work (f * 8 + bb)), a_stored, a_tripCount, a_stackPlace, a_stackMask, a_stackRejoin, a_stopLine, a_reads, a_writes, a_marks, a_logLine, a_logMask)) : wpX_execute post (f_laneTotal, f_lineLimit, f_tripLimit, f_logLimit, f_count, f_isSealed, f_openTotal, f_openLoops, f_alive, f_depth, f_clash, a_kinds, a_fieldD, a_fieldA, a_fieldB, a_blockLine, a_blockHasElse, a_opener, a_elseOf, a_endOf, a_wayNonzero, a_wayZero, a_postDom, a_rejoinOf, a_regs, a_cells, a_work, a_stored, a_tripCount, a_stackPlace, a_stackMask, a_stackRejoin, a_stopLine, a_reads, a_writes, a_marks, a_logLine, a_logMask) (nI x) (nI f) := by
  obtain ⟨hx, hn, hd, ha, ed, ea⟩ := hQ
  have c : (nI x).toNatClampNeg = x := nI_clamp (by omega)
  have v : vp_in (nI x) 24 := vp_in_nI (by omega) (by decide)
  have e4 : nI f * 8 = nI (f * 8) := pk_mul f 8
  have e5 : nI (f * 8) + nI dd = nI (f * 8 + dd) := nI_add _ _
  have e7 : nI (f * 8) + nI aa = nI (f * 8 + aa) := nI_add _ _
  have v5 : vp_in (nI (f * 8 + dd)) 64 := vp_in_nI (by omega) (by decide)
  have v7 : vp_in (nI (f * 8 + aa)) 64 := vp_in_nI (by omega) (by decide)
  have c5 : (nI (f * 8 + dd)).toNatClampNeg = f * 8 + dd := nI_clamp (by omega)
  have c7 : (nI (f * 8 + aa)).toNatClampNeg = f * 8 + aa := nI_clamp (by omega)
  unfold wpX_execute
  dsimp only
  rw [c]
  refine ⟨v, nm_r hk (nm_r e4 ⟨v, nm_r (e' := nI (f * 8 + dd)) (by rw [ed, e5]) ⟨v, by rw [ea, e7]; exact v7, nm_r (e' := a_work (f * 8 + aa)) (by rw [ea, e7, c7]) ⟨v, nm_r (e' := nI bb) eb (br_f (by decide) (br_f (by decide) ?_))⟩⟩⟩)⟩
  have e7' : nI bb &&& 7 = nI bb := by
    rw [pk_andN (by omega) 3 (by decide)]
    congr 1
    exact Nat.mod_eq_of_lt hb
  have e8 : nI (f * 8) + nI bb = nI (f * 8 + bb) := nI_add _ _
  have v8 : vp_in (nI (f * 8 + bb)) 64 := vp_in_nI (by omega) (by decide)
  have c8 : (nI (f * 8 + bb)).toNatClampNeg = f * 8 + bb := nI_clamp (by omega)
  have K2 : wX_execute_192 post 5 (nI (f * 8)) (nI (f * 8 + dd)) (a_work (f * 8 + aa)) (nI bb) f_laneTotal f_lineLimit f_tripLimit f_logLimit f_count f_isSealed f_openTotal f_openLoops f_alive f_depth f_clash a_kinds a_fieldD a_fieldA a_fieldB a_blockLine a_blockHasElse a_opener a_elseOf a_endOf a_wayNonzero a_wayZero a_postDom a_rejoinOf a_regs a_cells a_work a_stored a_tripCount a_stackPlace a_stackMask a_stackRejoin a_stopLine a_reads a_writes a_marks a_logLine a_logMask := by
    unfold wX_execute_192
    rw [e7', e8, c8]
    refine ⟨v8, ?_⟩
    unfold wpX_combine
    dsimp only
    rw [c5]
    exact br_f (by decide) (br_f (by decide) (br_f (by decide) (br_f (by decide) (br_t rfl ⟨v5, nm_e K⟩))))
  exact br_f (by decide) (br_f (by decide) (br_f (by decide) (br_f (by decide) (br_t rfl K2))))

theorem xe_k6 (hf : f < 8) (hQ : yv_Q n a_kinds a_fieldD a_fieldA a_fieldB x dd aa) (hk : a_kinds x = 6) (hb : bb < 8) (eb : a_fieldB x = nI bb) (K : post (f_laneTotal, f_lineLimit, f_tripLimit, f_logLimit, f_count, f_isSealed, f_openTotal, f_openLoops, f_alive, f_depth, f_clash, a_kinds, a_fieldD, a_fieldA, a_fieldB, a_blockLine, a_blockHasElse, a_opener, a_elseOf, a_endOf, a_wayNonzero, a_wayZero, a_postDom, a_rejoinOf, a_regs, a_cells, upd a_work (f * 8 + dd) (a_work (f * 8 + aa) &&& a_work (f * 8 + bb)), a_stored, a_tripCount, a_stackPlace, a_stackMask, a_stackRejoin, a_stopLine, a_reads, a_writes, a_marks, a_logLine, a_logMask)) : wpX_execute post (f_laneTotal, f_lineLimit, f_tripLimit, f_logLimit, f_count, f_isSealed, f_openTotal, f_openLoops, f_alive, f_depth, f_clash, a_kinds, a_fieldD, a_fieldA, a_fieldB, a_blockLine, a_blockHasElse, a_opener, a_elseOf, a_endOf, a_wayNonzero, a_wayZero, a_postDom, a_rejoinOf, a_regs, a_cells, a_work, a_stored, a_tripCount, a_stackPlace, a_stackMask, a_stackRejoin, a_stopLine, a_reads, a_writes, a_marks, a_logLine, a_logMask) (nI x) (nI f) := by
  obtain ⟨hx, hn, hd, ha, ed, ea⟩ := hQ
  have c : (nI x).toNatClampNeg = x := nI_clamp (by omega)
  have v : vp_in (nI x) 24 := vp_in_nI (by omega) (by decide)
  have e4 : nI f * 8 = nI (f * 8) := pk_mul f 8
  have e5 : nI (f * 8) + nI dd = nI (f * 8 + dd) := nI_add _ _
  have e7 : nI (f * 8) + nI aa = nI (f * 8 + aa) := nI_add _ _
  have v5 : vp_in (nI (f * 8 + dd)) 64 := vp_in_nI (by omega) (by decide)
  have v7 : vp_in (nI (f * 8 + aa)) 64 := vp_in_nI (by omega) (by decide)
  have c5 : (nI (f * 8 + dd)).toNatClampNeg = f * 8 + dd := nI_clamp (by omega)
  have c7 : (nI (f * 8 + aa)).toNatClampNeg = f * 8 + aa := nI_clamp (by omega)
  unfold wpX_execute
  dsimp only
  rw [c]
  refine ⟨v, nm_r hk (nm_r e4 ⟨v, nm_r (e' := nI (f * 8 + dd)) (by rw [ed, e5]) ⟨v, by rw [ea, e7]; exact v7, nm_r (e' := a_work (f * 8 + aa)) (by rw [ea, e7, c7]) ⟨v, nm_r (e' := nI bb) eb (br_f (by decide) (br_f (by decide) ?_))⟩⟩⟩)⟩
  have e7' : nI bb &&& 7 = nI bb := by
    rw [pk_andN (by omega) 3 (by decide)]
    congr 1
    exact Nat.mod_eq_of_lt hb
  have e8 : nI (f * 8) + nI bb = nI (f * 8 + bb) := nI_add _ _
  have v8 : vp_in (nI (f * 8 + bb)) 64 := vp_in_nI (by omega) (by decide)
  have c8 : (nI (f * 8 + bb)).toNatClampNeg = f * 8 + bb := nI_clamp (by omega)
  have K2 : wX_execute_192 post 6 (nI (f * 8)) (nI (f * 8 + dd)) (a_work (f * 8 + aa)) (nI bb) f_laneTotal f_lineLimit f_tripLimit f_logLimit f_count f_isSealed f_openTotal f_openLoops f_alive f_depth f_clash a_kinds a_fieldD a_fieldA a_fieldB a_blockLine a_blockHasElse a_opener a_elseOf a_endOf a_wayNonzero a_wayZero a_postDom a_rejoinOf a_regs a_cells a_work a_stored a_tripCount a_stackPlace a_stackMask a_stackRejoin a_stopLine a_reads a_writes a_marks a_logLine a_logMask := by
    unfold wX_execute_192
    rw [e7', e8, c8]
    refine ⟨v8, ?_⟩
    unfold wpX_combine
    dsimp only
    rw [c5]
    exact br_f (by decide) (br_f (by decide) (br_f (by decide) (br_f (by decide) (br_f (by decide) (br_t rfl ⟨v5, nm_e K⟩)))))
  exact br_f (by decide) (br_f (by decide) (br_f (by decide) (br_f (by decide) (br_f (by decide) (br_t rfl K2)))))

theorem xe_k7 (hf : f < 8) (hQ : yv_Q n a_kinds a_fieldD a_fieldA a_fieldB x dd aa) (hk : a_kinds x = 7) (hb : bb < 8) (eb : a_fieldB x = nI bb) (K : post (f_laneTotal, f_lineLimit, f_tripLimit, f_logLimit, f_count, f_isSealed, f_openTotal, f_openLoops, f_alive, f_depth, f_clash, a_kinds, a_fieldD, a_fieldA, a_fieldB, a_blockLine, a_blockHasElse, a_opener, a_elseOf, a_endOf, a_wayNonzero, a_wayZero, a_postDom, a_rejoinOf, a_regs, a_cells, upd a_work (f * 8 + dd) (if a_work (f * 8 + bb) ≤ a_work (f * 8 + aa) then 0 else 1), a_stored, a_tripCount, a_stackPlace, a_stackMask, a_stackRejoin, a_stopLine, a_reads, a_writes, a_marks, a_logLine, a_logMask)) : wpX_execute post (f_laneTotal, f_lineLimit, f_tripLimit, f_logLimit, f_count, f_isSealed, f_openTotal, f_openLoops, f_alive, f_depth, f_clash, a_kinds, a_fieldD, a_fieldA, a_fieldB, a_blockLine, a_blockHasElse, a_opener, a_elseOf, a_endOf, a_wayNonzero, a_wayZero, a_postDom, a_rejoinOf, a_regs, a_cells, a_work, a_stored, a_tripCount, a_stackPlace, a_stackMask, a_stackRejoin, a_stopLine, a_reads, a_writes, a_marks, a_logLine, a_logMask) (nI x) (nI f) := by
  obtain ⟨hx, hn, hd, ha, ed, ea⟩ := hQ
  have c : (nI x).toNatClampNeg = x := nI_clamp (by omega)
  have v : vp_in (nI x) 24 := vp_in_nI (by omega) (by decide)
  have e4 : nI f * 8 = nI (f * 8) := pk_mul f 8
  have e5 : nI (f * 8) + nI dd = nI (f * 8 + dd) := nI_add _ _
  have e7 : nI (f * 8) + nI aa = nI (f * 8 + aa) := nI_add _ _
  have v5 : vp_in (nI (f * 8 + dd)) 64 := vp_in_nI (by omega) (by decide)
  have v7 : vp_in (nI (f * 8 + aa)) 64 := vp_in_nI (by omega) (by decide)
  have c5 : (nI (f * 8 + dd)).toNatClampNeg = f * 8 + dd := nI_clamp (by omega)
  have c7 : (nI (f * 8 + aa)).toNatClampNeg = f * 8 + aa := nI_clamp (by omega)
  unfold wpX_execute
  dsimp only
  rw [c]
  refine ⟨v, nm_r hk (nm_r e4 ⟨v, nm_r (e' := nI (f * 8 + dd)) (by rw [ed, e5]) ⟨v, by rw [ea, e7]; exact v7, nm_r (e' := a_work (f * 8 + aa)) (by rw [ea, e7, c7]) ⟨v, nm_r (e' := nI bb) eb (br_f (by decide) (br_f (by decide) ?_))⟩⟩⟩)⟩
  have e7' : nI bb &&& 7 = nI bb := by
    rw [pk_andN (by omega) 3 (by decide)]
    congr 1
    exact Nat.mod_eq_of_lt hb
  have e8 : nI (f * 8) + nI bb = nI (f * 8 + bb) := nI_add _ _
  have v8 : vp_in (nI (f * 8 + bb)) 64 := vp_in_nI (by omega) (by decide)
  have c8 : (nI (f * 8 + bb)).toNatClampNeg = f * 8 + bb := nI_clamp (by omega)
  have K2 : wX_execute_192 post 7 (nI (f * 8)) (nI (f * 8 + dd)) (a_work (f * 8 + aa)) (nI bb) f_laneTotal f_lineLimit f_tripLimit f_logLimit f_count f_isSealed f_openTotal f_openLoops f_alive f_depth f_clash a_kinds a_fieldD a_fieldA a_fieldB a_blockLine a_blockHasElse a_opener a_elseOf a_endOf a_wayNonzero a_wayZero a_postDom a_rejoinOf a_regs a_cells a_work a_stored a_tripCount a_stackPlace a_stackMask a_stackRejoin a_stopLine a_reads a_writes a_marks a_logLine a_logMask := by
    unfold wX_execute_192
    rw [e7', e8, c8]
    refine ⟨v8, ?_⟩
    unfold wpX_combine
    dsimp only
    rw [c5]
    refine br_f (by decide) (br_f (by decide) (br_f (by decide) (br_f (by decide) (br_f (by decide) (br_f (by decide) (br_t rfl (br_c (fun z => ⟨v5, nm_e ?_⟩) (fun z => ⟨v5, nm_e ?_⟩))))))))
    · rw [if_pos z] at K; exact K
    · rw [if_neg z] at K; exact K
  exact br_f (by decide) (br_f (by decide) (br_f (by decide) (br_f (by decide) (br_f (by decide) (br_f (by decide) (br_t rfl K2))))))

theorem xe_k8 (hf : f < 8) (hQ : yv_Q n a_kinds a_fieldD a_fieldA a_fieldB x dd aa) (hk : a_kinds x = 8) (hb : bb < 8) (eb : a_fieldB x = nI bb) (K : post (f_laneTotal, f_lineLimit, f_tripLimit, f_logLimit, f_count, f_isSealed, f_openTotal, f_openLoops, f_alive, f_depth, f_clash, a_kinds, a_fieldD, a_fieldA, a_fieldB, a_blockLine, a_blockHasElse, a_opener, a_elseOf, a_endOf, a_wayNonzero, a_wayZero, a_postDom, a_rejoinOf, a_regs, a_cells, upd a_work (f * 8 + dd) (if a_work (f * 8 + aa) = a_work (f * 8 + bb) then 1 else 0), a_stored, a_tripCount, a_stackPlace, a_stackMask, a_stackRejoin, a_stopLine, a_reads, a_writes, a_marks, a_logLine, a_logMask)) : wpX_execute post (f_laneTotal, f_lineLimit, f_tripLimit, f_logLimit, f_count, f_isSealed, f_openTotal, f_openLoops, f_alive, f_depth, f_clash, a_kinds, a_fieldD, a_fieldA, a_fieldB, a_blockLine, a_blockHasElse, a_opener, a_elseOf, a_endOf, a_wayNonzero, a_wayZero, a_postDom, a_rejoinOf, a_regs, a_cells, a_work, a_stored, a_tripCount, a_stackPlace, a_stackMask, a_stackRejoin, a_stopLine, a_reads, a_writes, a_marks, a_logLine, a_logMask) (nI x) (nI f) := by
  obtain ⟨hx, hn, hd, ha, ed, ea⟩ := hQ
  have c : (nI x).toNatClampNeg = x := nI_clamp (by omega)
  have v : vp_in (nI x) 24 := vp_in_nI (by omega) (by decide)
  have e4 : nI f * 8 = nI (f * 8) := pk_mul f 8
  have e5 : nI (f * 8) + nI dd = nI (f * 8 + dd) := nI_add _ _
  have e7 : nI (f * 8) + nI aa = nI (f * 8 + aa) := nI_add _ _
  have v5 : vp_in (nI (f * 8 + dd)) 64 := vp_in_nI (by omega) (by decide)
  have v7 : vp_in (nI (f * 8 + aa)) 64 := vp_in_nI (by omega) (by decide)
  have c5 : (nI (f * 8 + dd)).toNatClampNeg = f * 8 + dd := nI_clamp (by omega)
  have c7 : (nI (f * 8 + aa)).toNatClampNeg = f * 8 + aa := nI_clamp (by omega)
  unfold wpX_execute
  dsimp only
  rw [c]
  refine ⟨v, nm_r hk (nm_r e4 ⟨v, nm_r (e' := nI (f * 8 + dd)) (by rw [ed, e5]) ⟨v, by rw [ea, e7]; exact v7, nm_r (e' := a_work (f * 8 + aa)) (by rw [ea, e7, c7]) ⟨v, nm_r (e' := nI bb) eb (br_f (by decide) (br_f (by decide) ?_))⟩⟩⟩)⟩
  have e7' : nI bb &&& 7 = nI bb := by
    rw [pk_andN (by omega) 3 (by decide)]
    congr 1
    exact Nat.mod_eq_of_lt hb
  have e8 : nI (f * 8) + nI bb = nI (f * 8 + bb) := nI_add _ _
  have v8 : vp_in (nI (f * 8 + bb)) 64 := vp_in_nI (by omega) (by decide)
  have c8 : (nI (f * 8 + bb)).toNatClampNeg = f * 8 + bb := nI_clamp (by omega)
  have K2 : wX_execute_192 post 8 (nI (f * 8)) (nI (f * 8 + dd)) (a_work (f * 8 + aa)) (nI bb) f_laneTotal f_lineLimit f_tripLimit f_logLimit f_count f_isSealed f_openTotal f_openLoops f_alive f_depth f_clash a_kinds a_fieldD a_fieldA a_fieldB a_blockLine a_blockHasElse a_opener a_elseOf a_endOf a_wayNonzero a_wayZero a_postDom a_rejoinOf a_regs a_cells a_work a_stored a_tripCount a_stackPlace a_stackMask a_stackRejoin a_stopLine a_reads a_writes a_marks a_logLine a_logMask := by
    unfold wX_execute_192
    rw [e7', e8, c8]
    refine ⟨v8, ?_⟩
    unfold wpX_combine
    dsimp only
    rw [c5]
    refine br_f (by decide) (br_t (by decide) (br_c (fun z => ⟨v5, nm_e ?_⟩) (fun z => ⟨v5, nm_e ?_⟩)))
    · rw [if_pos z] at K; exact K
    · rw [if_neg z] at K; exact K
  exact br_f (by decide) (br_f (by decide) (br_f (by decide) (br_f (by decide) (br_f (by decide) (br_f (by decide) (br_f (by decide) (br_t rfl K2)))))))

theorem xe_k9 (hf : f < 8) (hQ : yv_Q n a_kinds a_fieldD a_fieldA a_fieldB x dd aa) (hk : a_kinds x = 9) (K : post (f_laneTotal, f_lineLimit, f_tripLimit, f_logLimit, f_count, f_isSealed, f_openTotal, f_openLoops, f_alive, f_depth, f_clash, a_kinds, a_fieldD, a_fieldA, a_fieldB, a_blockLine, a_blockHasElse, a_opener, a_elseOf, a_endOf, a_wayNonzero, a_wayZero, a_postDom, a_rejoinOf, a_regs, a_cells, upd a_work (f * 8 + dd) (a_work (f * 8 + aa) + a_fieldB x), a_stored, a_tripCount, a_stackPlace, a_stackMask, a_stackRejoin, a_stopLine, a_reads, a_writes, a_marks, a_logLine, a_logMask)) : wpX_execute post (f_laneTotal, f_lineLimit, f_tripLimit, f_logLimit, f_count, f_isSealed, f_openTotal, f_openLoops, f_alive, f_depth, f_clash, a_kinds, a_fieldD, a_fieldA, a_fieldB, a_blockLine, a_blockHasElse, a_opener, a_elseOf, a_endOf, a_wayNonzero, a_wayZero, a_postDom, a_rejoinOf, a_regs, a_cells, a_work, a_stored, a_tripCount, a_stackPlace, a_stackMask, a_stackRejoin, a_stopLine, a_reads, a_writes, a_marks, a_logLine, a_logMask) (nI x) (nI f) := by
  obtain ⟨hx, hn, hd, ha, ed, ea⟩ := hQ
  have c : (nI x).toNatClampNeg = x := nI_clamp (by omega)
  have v : vp_in (nI x) 24 := vp_in_nI (by omega) (by decide)
  have e4 : nI f * 8 = nI (f * 8) := pk_mul f 8
  have e5 : nI (f * 8) + nI dd = nI (f * 8 + dd) := nI_add _ _
  have e7 : nI (f * 8) + nI aa = nI (f * 8 + aa) := nI_add _ _
  have v5 : vp_in (nI (f * 8 + dd)) 64 := vp_in_nI (by omega) (by decide)
  have v7 : vp_in (nI (f * 8 + aa)) 64 := vp_in_nI (by omega) (by decide)
  have c5 : (nI (f * 8 + dd)).toNatClampNeg = f * 8 + dd := nI_clamp (by omega)
  have c7 : (nI (f * 8 + aa)).toNatClampNeg = f * 8 + aa := nI_clamp (by omega)
  unfold wpX_execute
  dsimp only
  rw [c]
  refine ⟨v, nm_r hk (nm_r e4 ⟨v, nm_r (e' := nI (f * 8 + dd)) (by rw [ed, e5]) ⟨v, by rw [ea, e7]; exact v7, nm_r (e' := a_work (f * 8 + aa)) (by rw [ea, e7, c7]) ⟨v, nm_r (e' := a_fieldB x) rfl (br_f (by decide) (br_f (by decide) ?_))⟩⟩⟩)⟩
  rw [c5]
  exact br_f (by decide) (br_f (by decide) (br_f (by decide) (br_f (by decide) (br_f (by decide) (br_f (by decide) (br_f (by decide) (br_f (by decide) (br_t rfl ⟨v5, nm_e K⟩))))))))

theorem xe_k10 {cc : Nat} (hf : f < 8) (hQ : yv_Q n a_kinds a_fieldD a_fieldA a_fieldB x dd aa) (hk : a_kinds x = 10) (hc : cc < 32) (ec : ((a_work (f * 8 + aa) + a_fieldB x) &&& 31) = nI cc) (K : post (f_laneTotal, f_lineLimit, f_tripLimit, f_logLimit, f_count, f_isSealed, f_openTotal, f_openLoops, f_alive, f_depth, f_clash, a_kinds, a_fieldD, a_fieldA, a_fieldB, a_blockLine, a_blockHasElse, a_opener, a_elseOf, a_endOf, a_wayNonzero, a_wayZero, a_postDom, a_rejoinOf, a_regs, a_cells, upd a_work (f * 8 + dd) (if bt (a_writes f) cc = true then a_stored (f * 32 + cc) else a_cells cc), a_stored, a_tripCount, a_stackPlace, a_stackMask, a_stackRejoin, a_stopLine, upd a_reads f (a_reads f ||| ((1 : Int32) <<< (nI cc &&& 31))), a_writes, a_marks, a_logLine, a_logMask)) : wpX_execute post (f_laneTotal, f_lineLimit, f_tripLimit, f_logLimit, f_count, f_isSealed, f_openTotal, f_openLoops, f_alive, f_depth, f_clash, a_kinds, a_fieldD, a_fieldA, a_fieldB, a_blockLine, a_blockHasElse, a_opener, a_elseOf, a_endOf, a_wayNonzero, a_wayZero, a_postDom, a_rejoinOf, a_regs, a_cells, a_work, a_stored, a_tripCount, a_stackPlace, a_stackMask, a_stackRejoin, a_stopLine, a_reads, a_writes, a_marks, a_logLine, a_logMask) (nI x) (nI f) := by
  obtain ⟨hx, hn, hd, ha, ed, ea⟩ := hQ
  have c : (nI x).toNatClampNeg = x := nI_clamp (by omega)
  have v : vp_in (nI x) 24 := vp_in_nI (by omega) (by decide)
  have e4 : nI f * 8 = nI (f * 8) := pk_mul f 8
  have e5 : nI (f * 8) + nI dd = nI (f * 8 + dd) := nI_add _ _
  have e7 : nI (f * 8) + nI aa = nI (f * 8 + aa) := nI_add _ _
  have v5 : vp_in (nI (f * 8 + dd)) 64 := vp_in_nI (by omega) (by decide)
  have v7 : vp_in (nI (f * 8 + aa)) 64 := vp_in_nI (by omega) (by decide)
  have c5 : (nI (f * 8 + dd)).toNatClampNeg = f * 8 + dd := nI_clamp (by omega)
  have c7 : (nI (f * 8 + aa)).toNatClampNeg = f * 8 + aa := nI_clamp (by omega)
  have vf : vp_in (nI f) 8 := vp_in_nI hf (by decide)
  have cf : (nI f).toNatClampNeg = f := nI_clamp (by omega)
  have ec2 : nI f * 32 + nI cc = nI (f * 32 + cc) := bs_mad f 32 cc
  have vc : vp_in (nI (f * 32 + cc)) 256 := vp_in_nI (by omega) (by decide)
  have vc1 : vp_in (nI cc) 32 := vp_in_nI hc (by decide)
  have c9 : (nI (f * 32 + cc)).toNatClampNeg = f * 32 + cc := nI_clamp (by omega)
  have c91 : (nI cc).toNatClampNeg = cc := nI_clamp (by omega)
  unfold wpX_execute
  dsimp only
  rw [c]
  refine ⟨v, nm_r hk (nm_r e4 ⟨v, nm_r (e' := nI (f * 8 + dd)) (by rw [ed, e5]) ⟨v, by rw [ea, e7]; exact v7, nm_r (e' := a_work (f * 8 + aa)) (by rw [ea, e7, c7]) ⟨v, nm_r (e' := a_fieldB x) rfl (br_f (by decide) (br_f (by decide) ?_))⟩⟩⟩)⟩
  refine br_f (by decide) (br_f (by decide) (br_f (by decide) (br_f (by decide) (br_f (by decide) (br_f (by decide) (br_f (by decide) (br_f (by decide) (br_f (by decide) (br_t rfl ?_)))))))))
  rw [ec]
  unfold wpX_load
  dsimp only
  rw [cf, ec2, c9, c91, c5]
  refine ⟨vf, vf, nm_e ⟨vf, br_c (fun z => ⟨vc1, v5, nm_e ?_⟩) (fun z => ⟨vc, v5, nm_e ?_⟩)⟩⟩
  · have z' := (bs_bit _ cc hc).mp z
    rw [if_neg (by rw [z']; decide)] at K
    exact K
  · have z' := (bs_bitN _ cc hc).mp z
    rw [if_pos z'] at K
    exact K

theorem xe_k11 {cc : Nat} (hf : f < 8) (hQ : yv_Q n a_kinds a_fieldD a_fieldA a_fieldB x dd aa) (hk : a_kinds x = 11) (hc : cc < 32) (ec : ((a_work (f * 8 + aa) + a_fieldB x) &&& 31) = nI cc) (K : post (f_laneTotal, f_lineLimit, f_tripLimit, f_logLimit, f_count, f_isSealed, f_openTotal, f_openLoops, f_alive, f_depth, f_clash, a_kinds, a_fieldD, a_fieldA, a_fieldB, a_blockLine, a_blockHasElse, a_opener, a_elseOf, a_endOf, a_wayNonzero, a_wayZero, a_postDom, a_rejoinOf, a_regs, a_cells, a_work, upd a_stored (f * 32 + cc) (a_work (f * 8 + dd)), a_tripCount, a_stackPlace, a_stackMask, a_stackRejoin, a_stopLine, a_reads, upd a_writes f (a_writes f ||| ((1 : Int32) <<< (nI cc &&& 31))), a_marks, a_logLine, a_logMask)) : wpX_execute post (f_laneTotal, f_lineLimit, f_tripLimit, f_logLimit, f_count, f_isSealed, f_openTotal, f_openLoops, f_alive, f_depth, f_clash, a_kinds, a_fieldD, a_fieldA, a_fieldB, a_blockLine, a_blockHasElse, a_opener, a_elseOf, a_endOf, a_wayNonzero, a_wayZero, a_postDom, a_rejoinOf, a_regs, a_cells, a_work, a_stored, a_tripCount, a_stackPlace, a_stackMask, a_stackRejoin, a_stopLine, a_reads, a_writes, a_marks, a_logLine, a_logMask) (nI x) (nI f) := by
  obtain ⟨hx, hn, hd, ha, ed, ea⟩ := hQ
  have c : (nI x).toNatClampNeg = x := nI_clamp (by omega)
  have v : vp_in (nI x) 24 := vp_in_nI (by omega) (by decide)
  have e4 : nI f * 8 = nI (f * 8) := pk_mul f 8
  have e5 : nI (f * 8) + nI dd = nI (f * 8 + dd) := nI_add _ _
  have e7 : nI (f * 8) + nI aa = nI (f * 8 + aa) := nI_add _ _
  have v5 : vp_in (nI (f * 8 + dd)) 64 := vp_in_nI (by omega) (by decide)
  have v7 : vp_in (nI (f * 8 + aa)) 64 := vp_in_nI (by omega) (by decide)
  have c5 : (nI (f * 8 + dd)).toNatClampNeg = f * 8 + dd := nI_clamp (by omega)
  have c7 : (nI (f * 8 + aa)).toNatClampNeg = f * 8 + aa := nI_clamp (by omega)
  have vf : vp_in (nI f) 8 := vp_in_nI hf (by decide)
  have cf : (nI f).toNatClampNeg = f := nI_clamp (by omega)
  have ec2 : nI f * 32 + nI cc = nI (f * 32 + cc) := bs_mad f 32 cc
  have vc : vp_in (nI (f * 32 + cc)) 256 := vp_in_nI (by omega) (by decide)
  have vc1 : vp_in (nI cc) 32 := vp_in_nI hc (by decide)
  have c9 : (nI (f * 32 + cc)).toNatClampNeg = f * 32 + cc := nI_clamp (by omega)
  have c91 : (nI cc).toNatClampNeg = cc := nI_clamp (by omega)
  unfold wpX_execute
  dsimp only
  rw [c]
  refine ⟨v, nm_r hk (nm_r e4 ⟨v, nm_r (e' := nI (f * 8 + dd)) (by rw [ed, e5]) ⟨v, by rw [ea, e7]; exact v7, nm_r (e' := a_work (f * 8 + aa)) (by rw [ea, e7, c7]) ⟨v, nm_r (e' := a_fieldB x) rfl (br_f (by decide) (br_f (by decide) ?_))⟩⟩⟩)⟩
  refine br_f (by decide) (br_f (by decide) (br_f (by decide) (br_f (by decide) (br_f (by decide) (br_f (by decide) (br_f (by decide) (br_f (by decide) (br_f (by decide) (br_f (by decide) (br_t rfl ⟨v5, ?_⟩))))))))))
  rw [ec]
  unfold wpX_store
  dsimp only
  rw [cf, ec2, c9, c5]
  exact ⟨vf, vf, nm_e ⟨vc, nm_e K⟩⟩

end
section
variable {f_laneTotal f_lineLimit f_tripLimit f_logLimit f_count f_isSealed f_openTotal f_openLoops f_alive f_depth f_clash : Int32} {a_kinds a_fieldD a_fieldA a_fieldB a_blockLine a_blockHasElse a_opener a_elseOf a_endOf a_wayNonzero a_wayZero a_postDom a_rejoinOf a_regs a_cells a_work a_stored a_tripCount a_stackPlace a_stackMask a_stackRejoin a_stopLine a_reads a_writes a_marks a_logLine a_logMask : Nat → Int32} {post : Int32 → SX → Prop} {n f x dd aa : Nat}
theorem xe_d0 (hf : f < 8) (hQ : yv_Q n a_kinds a_fieldD a_fieldA a_fieldB x dd aa) (K0 : a_work (f * 8 + dd) = 0 → wX_decideLane_24 post (nI x) (nI f) 0 f_laneTotal f_lineLimit f_tripLimit f_logLimit f_count f_isSealed f_openTotal f_openLoops f_alive f_depth f_clash a_kinds a_fieldD a_fieldA a_fieldB a_blockLine a_blockHasElse a_opener a_elseOf a_endOf a_wayNonzero a_wayZero a_postDom a_rejoinOf a_regs a_cells a_work a_stored a_tripCount a_stackPlace a_stackMask a_stackRejoin a_stopLine a_reads a_writes a_marks a_logLine a_logMask) (K1 : ¬ a_work (f * 8 + dd) = 0 → wX_decideLane_24 post (nI x) (nI f) 1 f_laneTotal f_lineLimit f_tripLimit f_logLimit f_count f_isSealed f_openTotal f_openLoops f_alive f_depth f_clash a_kinds a_fieldD a_fieldA a_fieldB a_blockLine a_blockHasElse a_opener a_elseOf a_endOf a_wayNonzero a_wayZero a_postDom a_rejoinOf a_regs a_cells a_work a_stored a_tripCount a_stackPlace a_stackMask a_stackRejoin a_stopLine a_reads a_writes a_marks a_logLine a_logMask) : wpX_decideLane post (f_laneTotal, f_lineLimit, f_tripLimit, f_logLimit, f_count, f_isSealed, f_openTotal, f_openLoops, f_alive, f_depth, f_clash, a_kinds, a_fieldD, a_fieldA, a_fieldB, a_blockLine, a_blockHasElse, a_opener, a_elseOf, a_endOf, a_wayNonzero, a_wayZero, a_postDom, a_rejoinOf, a_regs, a_cells, a_work, a_stored, a_tripCount, a_stackPlace, a_stackMask, a_stackRejoin, a_stopLine, a_reads, a_writes, a_marks, a_logLine, a_logMask) (nI x) (nI f) := by
  obtain ⟨hx, hn, hd, ha, ed, ea⟩ := hQ
  have c : (nI x).toNatClampNeg = x := nI_clamp (by omega)
  have v : vp_in (nI x) 24 := vp_in_nI (by omega) (by decide)
  have e5 : nI f * 8 + nI dd = nI (f * 8 + dd) := bs_mad f 8 dd
  have v5 : vp_in (nI (f * 8 + dd)) 64 := vp_in_nI (by omega) (by decide)
  have c5 : (nI (f * 8 + dd)).toNatClampNeg = f * 8 + dd := nI_clamp (by omega)
  unfold wpX_decideLane
  dsimp only
  rw [c, ed, e5, c5]
  exact ⟨v, v5, br_c K0 K1⟩
theorem xe_117 {z k : Int32} (hz : z = 0 ∨ z = 1) (hk : ¬ k = 19) (K : post z (f_laneTotal, f_lineLimit, f_tripLimit, f_logLimit, f_count, f_isSealed, f_openTotal, f_openLoops, f_alive, f_depth, f_clash, a_kinds, a_fieldD, a_fieldA, a_fieldB, a_blockLine, a_blockHasElse, a_opener, a_elseOf, a_endOf, a_wayNonzero, a_wayZero, a_postDom, a_rejoinOf, a_regs, a_cells, a_work, a_stored, a_tripCount, a_stackPlace, a_stackMask, a_stackRejoin, a_stopLine, a_reads, a_writes, a_marks, a_logLine, a_logMask)) : wX_decideLane_117 post (nI x) (nI f) z k f_laneTotal f_lineLimit f_tripLimit f_logLimit f_count f_isSealed f_openTotal f_openLoops f_alive f_depth f_clash a_kinds a_fieldD a_fieldA a_fieldB a_blockLine a_blockHasElse a_opener a_elseOf a_endOf a_wayNonzero a_wayZero a_postDom a_rejoinOf a_regs a_cells a_work a_stored a_tripCount a_stackPlace a_stackMask a_stackRejoin a_stopLine a_reads a_writes a_marks a_logLine a_logMask := by
  unfold wX_decideLane_117
  refine br_f hk ⟨?_, K⟩
  rcases hz with h | h
  · rw [h]; exact bs_nb0
  · rw [h]; exact bs_nb1
theorem xe_ko (hf : f < 8) (hQ : yv_Q n a_kinds a_fieldD a_fieldA a_fieldB x dd aa) (h16 : ¬ a_kinds x = 16) (h17 : ¬ a_kinds x = 17) (h19 : ¬ a_kinds x = 19) (K0 : a_work (f * 8 + dd) = 0 → post 0 (f_laneTotal, f_lineLimit, f_tripLimit, f_logLimit, f_count, f_isSealed, f_openTotal, f_openLoops, f_alive, f_depth, f_clash, a_kinds, a_fieldD, a_fieldA, a_fieldB, a_blockLine, a_blockHasElse, a_opener, a_elseOf, a_endOf, a_wayNonzero, a_wayZero, a_postDom, a_rejoinOf, a_regs, a_cells, a_work, a_stored, a_tripCount, a_stackPlace, a_stackMask, a_stackRejoin, a_stopLine, a_reads, a_writes, a_marks, a_logLine, a_logMask)) (K1 : ¬ a_work (f * 8 + dd) = 0 → post 1 (f_laneTotal, f_lineLimit, f_tripLimit, f_logLimit, f_count, f_isSealed, f_openTotal, f_openLoops, f_alive, f_depth, f_clash, a_kinds, a_fieldD, a_fieldA, a_fieldB, a_blockLine, a_blockHasElse, a_opener, a_elseOf, a_endOf, a_wayNonzero, a_wayZero, a_postDom, a_rejoinOf, a_regs, a_cells, a_work, a_stored, a_tripCount, a_stackPlace, a_stackMask, a_stackRejoin, a_stopLine, a_reads, a_writes, a_marks, a_logLine, a_logMask)) : wpX_decideLane post (f_laneTotal, f_lineLimit, f_tripLimit, f_logLimit, f_count, f_isSealed, f_openTotal, f_openLoops, f_alive, f_depth, f_clash, a_kinds, a_fieldD, a_fieldA, a_fieldB, a_blockLine, a_blockHasElse, a_opener, a_elseOf, a_endOf, a_wayNonzero, a_wayZero, a_postDom, a_rejoinOf, a_regs, a_cells, a_work, a_stored, a_tripCount, a_stackPlace, a_stackMask, a_stackRejoin, a_stopLine, a_reads, a_writes, a_marks, a_logLine, a_logMask) (nI x) (nI f) := by
  have hx : x < 24 := by have := hQ.1; have := hQ.2.1; omega
  have c : (nI x).toNatClampNeg = x := nI_clamp (by omega)
  have v : vp_in (nI x) 24 := vp_in_nI hx (by decide)
  refine xe_d0 hf hQ (fun h => ?_) (fun h => ?_)
  · unfold wX_decideLane_24
    rw [c]
    exact ⟨v, nm_e (br_f h16 (br_f h17 (xe_117 (Or.inl rfl) h19 (K0 h))))⟩
  · unfold wX_decideLane_24
    rw [c]
    exact ⟨v, nm_e (br_f h16 (br_f h17 (xe_117 (Or.inr rfl) h19 (K1 h))))⟩
theorem xe_k16 (hf : f < 8) (hQ : yv_Q n a_kinds a_fieldD a_fieldA a_fieldB x dd aa) (hk : a_kinds x = 16) (K0 : (a_work (f * 8 + dd) = 0 ∨ f_tripLimit ≤ a_tripCount (f * 24 + x)) → post 0 (f_laneTotal, f_lineLimit, f_tripLimit, f_logLimit, f_count, f_isSealed, f_openTotal, f_openLoops, f_alive, f_depth, f_clash, a_kinds, a_fieldD, a_fieldA, a_fieldB, a_blockLine, a_blockHasElse, a_opener, a_elseOf, a_endOf, a_wayNonzero, a_wayZero, a_postDom, a_rejoinOf, a_regs, a_cells, a_work, a_stored, upd a_tripCount (f * 24 + x) 0, a_stackPlace, a_stackMask, a_stackRejoin, a_stopLine, a_reads, a_writes, a_marks, a_logLine, a_logMask)) (K1 : ¬ a_work (f * 8 + dd) = 0 → ¬ f_tripLimit ≤ a_tripCount (f * 24 + x) → post 1 (f_laneTotal, f_lineLimit, f_tripLimit, f_logLimit, f_count, f_isSealed, f_openTotal, f_openLoops, f_alive, f_depth, f_clash, a_kinds, a_fieldD, a_fieldA, a_fieldB, a_blockLine, a_blockHasElse, a_opener, a_elseOf, a_endOf, a_wayNonzero, a_wayZero, a_postDom, a_rejoinOf, a_regs, a_cells, a_work, a_stored, upd a_tripCount (f * 24 + x) (a_tripCount (f * 24 + x) + 1), a_stackPlace, a_stackMask, a_stackRejoin, a_stopLine, a_reads, a_writes, a_marks, a_logLine, a_logMask)) : wpX_decideLane post (f_laneTotal, f_lineLimit, f_tripLimit, f_logLimit, f_count, f_isSealed, f_openTotal, f_openLoops, f_alive, f_depth, f_clash, a_kinds, a_fieldD, a_fieldA, a_fieldB, a_blockLine, a_blockHasElse, a_opener, a_elseOf, a_endOf, a_wayNonzero, a_wayZero, a_postDom, a_rejoinOf, a_regs, a_cells, a_work, a_stored, a_tripCount, a_stackPlace, a_stackMask, a_stackRejoin, a_stopLine, a_reads, a_writes, a_marks, a_logLine, a_logMask) (nI x) (nI f) := by
  have hx : x < 24 := by have := hQ.1; have := hQ.2.1; omega
  have c : (nI x).toNatClampNeg = x := nI_clamp (by omega)
  have v : vp_in (nI x) 24 := vp_in_nI hx (by decide)
  have e2 : nI f * 24 + nI x = nI (f * 24 + x) := bs_mad f 24 x
  have v2 : vp_in (nI (f * 24 + x)) 192 := vp_in_nI (by omega) (by decide)
  have c2 : (nI (f * 24 + x)).toNatClampNeg = f * 24 + x := nI_clamp (by omega)
  refine xe_d0 hf hQ (fun h => ?_) (fun h => ?_)
  · unfold wX_decideLane_24
    rw [c]
    refine ⟨v, nm_r hk (br_t rfl (nm_r e2 ?_))⟩
    rw [c2]
    exact br_t rfl ⟨v2, nm_e (K0 (Or.inl h))⟩
  · unfold wX_decideLane_24
    rw [c]
    refine ⟨v, nm_r hk (br_t rfl (nm_r e2 ?_))⟩
    rw [c2]
    exact br_f bs_10 ⟨v2, br_c (fun z => ⟨v2, nm_e (K0 (Or.inr z))⟩) (fun z => ⟨v2, v2, nm_e (K1 h z)⟩)⟩
theorem xe_k17 {w : Nat} (hf : f < 8) (hQ : yv_Q n a_kinds a_fieldD a_fieldA a_fieldB x dd aa) (hk : a_kinds x = 17) (hw : w < 24) (eo : a_opener x = nI w) (K0 : a_work (f * 8 + dd) = 0 → post 0 (f_laneTotal, f_lineLimit, f_tripLimit, f_logLimit, f_count, f_isSealed, f_openTotal, f_openLoops, f_alive, f_depth, f_clash, a_kinds, a_fieldD, a_fieldA, a_fieldB, a_blockLine, a_blockHasElse, a_opener, a_elseOf, a_endOf, a_wayNonzero, a_wayZero, a_postDom, a_rejoinOf, a_regs, a_cells, a_work, a_stored, a_tripCount, a_stackPlace, a_stackMask, a_stackRejoin, a_stopLine, a_reads, a_writes, a_marks, a_logLine, a_logMask)) (K1 : ¬ a_work (f * 8 + dd) = 0 → post 1 (f_laneTotal, f_lineLimit, f_tripLimit, f_logLimit, f_count, f_isSealed, f_openTotal, f_openLoops, f_alive, f_depth, f_clash, a_kinds, a_fieldD, a_fieldA, a_fieldB, a_blockLine, a_blockHasElse, a_opener, a_elseOf, a_endOf, a_wayNonzero, a_wayZero, a_postDom, a_rejoinOf, a_regs, a_cells, a_work, a_stored, upd a_tripCount (f * 24 + w) 0, a_stackPlace, a_stackMask, a_stackRejoin, a_stopLine, a_reads, a_writes, a_marks, a_logLine, a_logMask)) : wpX_decideLane post (f_laneTotal, f_lineLimit, f_tripLimit, f_logLimit, f_count, f_isSealed, f_openTotal, f_openLoops, f_alive, f_depth, f_clash, a_kinds, a_fieldD, a_fieldA, a_fieldB, a_blockLine, a_blockHasElse, a_opener, a_elseOf, a_endOf, a_wayNonzero, a_wayZero, a_postDom, a_rejoinOf, a_regs, a_cells, a_work, a_stored, a_tripCount, a_stackPlace, a_stackMask, a_stackRejoin, a_stopLine, a_reads, a_writes, a_marks, a_logLine, a_logMask) (nI x) (nI f) := by
  have hx : x < 24 := by have := hQ.1; have := hQ.2.1; omega
  have c : (nI x).toNatClampNeg = x := nI_clamp (by omega)
  have v : vp_in (nI x) 24 := vp_in_nI hx (by decide)
  have e2 : nI f * 24 + nI w = nI (f * 24 + w) := bs_mad f 24 w
  have v2 : vp_in (nI (f * 24 + w)) 192 := vp_in_nI (by omega) (by decide)
  have c2 : (nI (f * 24 + w)).toNatClampNeg = f * 24 + w := nI_clamp (by omega)
  refine xe_d0 hf hQ (fun h => ?_) (fun h => ?_)
  · unfold wX_decideLane_24
    rw [c]
    exact ⟨v, nm_r hk (br_f (by decide) (br_t rfl (br_t rfl (xe_117 (Or.inl rfl) (by decide) (K0 h)))))⟩
  · unfold wX_decideLane_24
    rw [c, eo, e2, c2]
    exact ⟨v, nm_r hk (br_f (by decide) (br_t rfl (br_f bs_10 ⟨v, v2, nm_e (xe_117 (Or.inr rfl) (by decide) (K1 h))⟩)))⟩
theorem xe_k19 (hf : f < 8) (hQ : yv_Q n a_kinds a_fieldD a_fieldA a_fieldB x dd aa) (hk : a_kinds x = 19) (K0 : a_work (f * 8 + dd) = 0 → post 0 (f_laneTotal, f_lineLimit, f_tripLimit, f_logLimit, f_count, f_isSealed, f_openTotal, f_openLoops, f_alive, f_depth, f_clash, a_kinds, a_fieldD, a_fieldA, a_fieldB, a_blockLine, a_blockHasElse, a_opener, a_elseOf, a_endOf, a_wayNonzero, a_wayZero, a_postDom, a_rejoinOf, a_regs, a_cells, a_work, a_stored, a_tripCount, a_stackPlace, a_stackMask, a_stackRejoin, a_stopLine, a_reads, a_writes, a_marks, a_logLine, a_logMask)) (K1 : ¬ a_work (f * 8 + dd) = 0 → post 1 (f_laneTotal, f_lineLimit, f_tripLimit, f_logLimit, f_count, f_isSealed, f_openTotal, f_openLoops, f_alive, f_depth, f_clash, a_kinds, a_fieldD, a_fieldA, a_fieldB, a_blockLine, a_blockHasElse, a_opener, a_elseOf, a_endOf, a_wayNonzero, a_wayZero, a_postDom, a_rejoinOf, a_regs, a_cells, a_work, a_stored, a_tripCount, a_stackPlace, a_stackMask, a_stackRejoin, upd a_stopLine f (nI x), a_reads, a_writes, a_marks, a_logLine, a_logMask)) : wpX_decideLane post (f_laneTotal, f_lineLimit, f_tripLimit, f_logLimit, f_count, f_isSealed, f_openTotal, f_openLoops, f_alive, f_depth, f_clash, a_kinds, a_fieldD, a_fieldA, a_fieldB, a_blockLine, a_blockHasElse, a_opener, a_elseOf, a_endOf, a_wayNonzero, a_wayZero, a_postDom, a_rejoinOf, a_regs, a_cells, a_work, a_stored, a_tripCount, a_stackPlace, a_stackMask, a_stackRejoin, a_stopLine, a_reads, a_writes, a_marks, a_logLine, a_logMask) (nI x) (nI f) := by
  have hx : x < 24 := by have := hQ.1; have := hQ.2.1; omega
  have c : (nI x).toNatClampNeg = x := nI_clamp (by omega)
  have cf : (nI f).toNatClampNeg = f := nI_clamp (by omega)
  have v : vp_in (nI x) 24 := vp_in_nI hx (by decide)
  refine xe_d0 hf hQ (fun h => ?_) (fun h => ?_)
  · unfold wX_decideLane_24
    rw [c]
    refine ⟨v, nm_r hk (br_f (by decide) (br_f (by decide) ?_))⟩
    unfold wX_decideLane_117
    exact br_t rfl (br_t rfl ⟨bs_nb0, K0 h⟩)
  · unfold wX_decideLane_24
    rw [c]
    refine ⟨v, nm_r hk (br_f (by decide) (br_f (by decide) ?_))⟩
    unfold wX_decideLane_117
    rw [cf]
    exact br_t rfl (br_f bs_10 ⟨vp_in_nI hf (by decide), nm_e ⟨bs_nb1, K1 h⟩⟩)
end
end
section
/-! a lane's state in the component and in the reference -/
def lx_R (f : Nat) (s : la_S) (wk st tc rd wr ce : Nat → Int32) : Prop :=
  (∀ r, r < 8 → wk (f * 8 + r) = s.1 r) ∧ (∀ c, c < 32 → (if bt s.2.2.2.2 c = true then st (f * 32 + c) else ce c) = s.2.1 c) ∧ (∀ t, t < 24 → tc (f * 24 + t) = s.2.2.1 t) ∧ rd f = s.2.2.2.1 ∧ wr f = s.2.2.2.2
def ly_R (f : Nat) (s : la_S) (ow pv rd wr : Nat → Int32) : Prop :=
  (∀ r, r < 8 → ow (f * 8 + r) = s.1 r) ∧ (∀ c, c < 32 → pv (f * 32 + c) = s.2.1 c) ∧ rd f = s.2.2.2.1 ∧ wr f = s.2.2.2.2
section
variable {T : Int32} {kd fd fa fb : Nat → Int32} {lp : Nat → Nat} {f x : Nat} {s : la_S}
theorem lx_stw (h1 : kd x ≤ 10) (h2 : ¬ kd x = 10) (h3 : ¬ kd x = 11) (h4 : ¬ kd x = 16) (h5 : ¬ kd x = 17) : la_st T kd fd fa fb lp f x s = (upd s.1 (fd x).toNatClampNeg (la_v kd fa fb f x s), s.2.1, s.2.2.1, s.2.2.2.1, s.2.2.2.2) := by
  unfold la_st la_tr
  rw [if_pos h1, if_neg h3, if_neg h4, if_neg h5, if_neg h2, if_neg h3]
theorem lx_st10 (hk : kd x = 10) : la_st T kd fd fa fb lp f x s = (upd s.1 (fd x).toNatClampNeg (la_v kd fa fb f x s), s.2.1, s.2.2.1, s.2.2.2.1 ||| ((1 : Int32) <<< (la_c fa fb x s &&& 31)), s.2.2.2.2) := by
  unfold la_st la_tr
  rw [if_pos (by rw [hk]; decide), if_neg (by rw [hk]; decide), if_neg (by rw [hk]; decide), if_neg (by rw [hk]; decide), if_pos hk, if_neg (by rw [hk]; decide)]
theorem lx_st11 (hk : kd x = 11) : la_st T kd fd fa fb lp f x s = (s.1, upd s.2.1 (la_c fa fb x s).toNatClampNeg (s.1 (fd x).toNatClampNeg), s.2.2.1, s.2.2.2.1, s.2.2.2.2 ||| ((1 : Int32) <<< (la_c fa fb x s &&& 31))) := by
  unfold la_st la_tr
  rw [if_neg (by rw [hk]; decide), if_pos hk, if_neg (by rw [hk]; decide), if_neg (by rw [hk]; decide), if_neg (by rw [hk]; decide), if_pos hk]
theorem lx_sto (h1 : ¬ kd x ≤ 10) (h2 : ¬ kd x = 10) (h3 : ¬ kd x = 11) (h4 : ¬ kd x = 16) (h5 : ¬ kd x = 17) : la_st T kd fd fa fb lp f x s = s := by
  unfold la_st la_tr
  rw [if_neg h1, if_neg h3, if_neg h4, if_neg h5, if_neg h2, if_neg h3]
theorem lx_sttr (h1 : ¬ kd x ≤ 10) (h2 : ¬ kd x = 10) (h3 : ¬ kd x = 11) : la_st T kd fd fa fb lp f x s = (s.1, s.2.1, la_tr T kd fd lp x s, s.2.2.2.1, s.2.2.2.2) := by
  unfold la_st
  rw [if_neg h1, if_neg h3, if_neg h2, if_neg h3]
theorem lx_tk0 (h : s.1 (fd x).toNatClampNeg = 0) : la_tk T kd fd x s = false := if_pos h
theorem lx_tk1 (h : ¬ s.1 (fd x).toNatClampNeg = 0) (hk : ¬ kd x = 16) : la_tk T kd fd x s = true := by
  unfold la_tk
  rw [if_neg h, if_neg hk]
theorem lx_tk2 (h : ¬ s.1 (fd x).toNatClampNeg = 0) (hk : kd x = 16) (ht : T ≤ s.2.2.1 x) : la_tk T kd fd x s = false := by
  unfold la_tk
  rw [if_neg h, if_pos hk, if_pos ht]
theorem lx_tk3 (h : ¬ s.1 (fd x).toNatClampNeg = 0) (hk : kd x = 16) (ht : ¬ T ≤ s.2.2.1 x) : la_tk T kd fd x s = true := by
  unfold la_tk
  rw [if_neg h, if_pos hk, if_neg ht]
end
section
variable {f d : Nat} {s : la_S} {v : Int32} {wk st tc rd wr ce ow pv : Nat → Int32}
theorem lx_wk (hd : d < 8) (h : lx_R f s wk st tc rd wr ce) : lx_R f (upd s.1 d v, s.2.1, s.2.2.1, s.2.2.2.1, s.2.2.2.2) (upd wk (f * 8 + d) v) st tc rd wr ce := by
  obtain ⟨h1, h2⟩ := h
  refine ⟨fun r hr => ?_, h2⟩
  show upd wk (f * 8 + d) v (f * 8 + r) = upd s.1 d v r
  by_cases e : r = d
  · subst e; rw [bs_us, bs_us]
  · rw [bs_un e, bs_un (by omega)]; exact h1 r hr
theorem lx_wkf (hd : d < 8) : ∀ g, g < 8 → g ≠ f → ∀ s', lx_R g s' wk st tc rd wr ce → lx_R g s' (upd wk (f * 8 + d) v) st tc rd wr ce := by
  intro g hg hgf s' ⟨h1, h2⟩
  refine ⟨fun r hr => ?_, h2⟩
  rw [bs_un (by omega)]; exact h1 r hr
theorem lx_rd (h : lx_R f s wk st tc rd wr ce) : lx_R f (s.1, s.2.1, s.2.2.1, v, s.2.2.2.2) wk st tc (upd rd f v) wr ce := by
  obtain ⟨h1, h2, h3, h4, h5⟩ := h
  exact ⟨h1, h2, h3, bs_us, h5⟩
theorem lx_rdf : ∀ g, g < 8 → g ≠ f → ∀ s', lx_R g s' wk st tc rd wr ce → lx_R g s' wk st tc (upd rd f v) wr ce := by
  intro g hg hgf s' ⟨h1, h2, h3, h4, h5⟩
  exact ⟨h1, h2, h3, by rw [bs_un hgf]; exact h4, h5⟩
theorem lx_tc {t : Nat} (ht : t < 24) (h : lx_R f s wk st tc rd wr ce) : lx_R f (s.1, s.2.1, upd s.2.2.1 t v, s.2.2.2.1, s.2.2.2.2) wk st (upd tc (f * 24 + t) v) rd wr ce := by
  obtain ⟨h1, h2, h3, h4, h5⟩ := h
  refine ⟨h1, h2, fun t' ht' => ?_, h4, h5⟩
  show upd tc (f * 24 + t) v (f * 24 + t') = upd s.2.2.1 t v t'
  by_cases e : t' = t
  · subst e; rw [bs_us, bs_us]
  · rw [bs_un e, bs_un (by omega)]; exact h3 t' ht'
theorem lx_tcf {t : Nat} (ht : t < 24) : ∀ g, g < 8 → g ≠ f → ∀ s', lx_R g s' wk st tc rd wr ce → lx_R g s' wk st (upd tc (f * 24 + t) v) rd wr ce := by
  intro g hg hgf s' ⟨h1, h2, h3, h4, h5⟩
  exact ⟨h1, h2, fun t' ht' => by rw [bs_un (by omega)]; exact h3 t' ht', h4, h5⟩
theorem lx_wr {cc : Nat} (hc : cc < 32) (h : lx_R f s wk st tc rd wr ce) : lx_R f (s.1, upd s.2.1 cc v, s.2.2.1, s.2.2.2.1, s.2.2.2.2 ||| ((1 : Int32) <<< (nI cc &&& 31))) wk (upd st (f * 32 + cc) v) tc rd (upd wr f (wr f ||| ((1 : Int32) <<< (nI cc &&& 31)))) ce := by
  obtain ⟨h1, h2, h3, h4, h5⟩ := h
  refine ⟨h1, fun c hc' => ?_, h3, h4, by rw [bs_us, h5]⟩
  show (if bt (s.2.2.2.2 ||| ((1 : Int32) <<< (nI cc &&& 31))) c = true then upd st (f * 32 + cc) v (f * 32 + c) else ce c) = upd s.2.1 cc v c
  rw [b_or, bs_one cc c hc hc']
  by_cases e : c = cc
  · subst e
    rw [bs_us, bs_us, decide_eq_true rfl, Bool.or_true, if_pos rfl]
  · rw [bs_un e, bs_un (by omega), decide_eq_false e, Bool.or_false]
    exact h2 c hc'
theorem lx_wrf {cc : Nat} {u : Int32} (hc : cc < 32) : ∀ g, g < 8 → g ≠ f → ∀ s', lx_R g s' wk st tc rd wr ce → lx_R g s' wk (upd st (f * 32 + cc) v) tc rd (upd wr f u) ce := by
  intro g hg hgf s' ⟨h1, h2, h3, h4, h5⟩
  exact ⟨h1, fun c hc' => by rw [bs_un (by omega)]; exact h2 c hc', h3, h4, by rw [bs_un hgf]; exact h5⟩
theorem ly_ow (hd : d < 8) (h : ly_R f s ow pv rd wr) : ly_R f (upd s.1 d v, s.2.1, s.2.2.1, s.2.2.2.1, s.2.2.2.2) (upd ow (f * 8 + d) v) pv rd wr := by
  obtain ⟨h1, h2⟩ := h
  refine ⟨fun r hr => ?_, h2⟩
  show upd ow (f * 8 + d) v (f * 8 + r) = upd s.1 d v r
  by_cases e : r = d
  · subst e; rw [bs_us, bs_us]
  · rw [bs_un e, bs_un (by omega)]; exact h1 r hr
theorem ly_owf (hd : d < 8) : ∀ g, g < 8 → g ≠ f → ∀ s', ly_R g s' ow pv rd wr → ly_R g s' (upd ow (f * 8 + d) v) pv rd wr := by
  intro g hg hgf s' ⟨h1, h2⟩
  refine ⟨fun r hr => ?_, h2⟩
  rw [bs_un (by omega)]; exact h1 r hr
theorem ly_rd (h : ly_R f s ow pv rd wr) : ly_R f (s.1, s.2.1, s.2.2.1, v, s.2.2.2.2) ow pv (upd rd f v) wr := by
  obtain ⟨h1, h2, h4, h5⟩ := h
  exact ⟨h1, h2, bs_us, h5⟩
theorem ly_rdf : ∀ g, g < 8 → g ≠ f → ∀ s', ly_R g s' ow pv rd wr → ly_R g s' ow pv (upd rd f v) wr := by
  intro g hg hgf s' ⟨h1, h2, h4, h5⟩
  exact ⟨h1, h2, by rw [bs_un hgf]; exact h4, h5⟩
theorem ly_wr {cc : Nat} {u : Int32} (hc : cc < 32) (h : ly_R f s ow pv rd wr) : ly_R f (s.1, upd s.2.1 cc v, s.2.2.1, s.2.2.2.1, u) ow (upd pv (f * 32 + cc) v) rd (upd wr f u) := by
  obtain ⟨h1, h2, h4, h5⟩ := h
  refine ⟨h1, fun c hc' => ?_, h4, bs_us⟩
  show upd pv (f * 32 + cc) v (f * 32 + c) = upd s.2.1 cc v c
  by_cases e : c = cc
  · subst e; rw [bs_us, bs_us]
  · rw [bs_un e, bs_un (by omega)]; exact h2 c hc'
theorem ly_wrf {cc : Nat} {u : Int32} (hc : cc < 32) : ∀ g, g < 8 → g ≠ f → ∀ s', ly_R g s' ow pv rd wr → ly_R g s' ow (upd pv (f * 32 + cc) v) rd (upd wr f u) := by
  intro g hg hgf s' ⟨h1, h2, h4, h5⟩
  exact ⟨h1, fun c hc' => by rw [bs_un (by omega)]; exact h2 c hc', h4, by rw [bs_un hgf]; exact h5⟩
theorem lx_k11 {k : Int32} (h1 : 1 ≤ k) (h2 : k < 12) : k = 1 ∨ k = 2 ∨ k = 3 ∨ k = 4 ∨ k = 5 ∨ k = 6 ∨ k = 7 ∨ k = 8 ∨ k = 9 ∨ k = 10 ∨ k = 11 := by
  obtain ⟨j, hj, rfl⟩ := nI_of2 (x := k) (M := 11) (n := 11) (by decide) (fun z => by
    rw [Int32.lt_iff_toInt_lt] at z
    rw [Int32.le_iff_toInt_le] at h1
    have e1 : (1 : Int32).toInt = 1 := by decide
    have e0 : (0 : Int32).toInt = 0 := by decide
    omega) (by
    rw [Int32.lt_iff_toInt_lt] at h2
    rw [Int32.le_iff_toInt_le]
    have e1 : (11 : Int32).toInt = 11 := by decide
    have e0 : (12 : Int32).toInt = 12 := by decide
    omega)
  have : ∀ j, j ≤ 11 → 1 ≤ nI j → nI j = 1 ∨ nI j = 2 ∨ nI j = 3 ∨ nI j = 4 ∨ nI j = 5 ∨ nI j = 6 ∨ nI j = 7 ∨ nI j = 8 ∨ nI j = 9 ∨ nI j = 10 ∨ nI j = 11 := by decide +kernel
  exact this j hj h1
theorem lx_cell (y : Int32) : ∃ cc, cc < 32 ∧ y &&& 31 = nI cc := by
  obtain ⟨j, hj, e⟩ := pk_andE y (m := 31) 5 (by decide)
  exact ⟨j, hj, e⟩
end
section
variable {kd fa fb : Nat → Int32} {f x : Nat} {s : la_S}
theorem lx_v1 (hk : kd x = 1) : la_v kd fa fb f x s = fb x := by
  unfold la_v
  rw [if_pos hk]
theorem lx_v2 (hk : kd x = 2) : la_v kd fa fb f x s = nI f := by
  unfold la_v
  rw [if_neg (by rw [hk]; decide), if_pos hk]
theorem lx_v3 (hk : kd x = 3) : la_v kd fa fb f x s = s.1 (fa x).toNatClampNeg + s.1 (fb x).toNatClampNeg := by
  unfold la_v
  rw [if_neg (by rw [hk]; decide), if_neg (by rw [hk]; decide), if_pos hk]
theorem lx_v4 (hk : kd x = 4) : la_v kd fa fb f x s = s.1 (fa x).toNatClampNeg - s.1 (fb x).toNatClampNeg := by
  unfold la_v
  rw [if_neg (by rw [hk]; decide), if_neg (by rw [hk]; decide), if_neg (by rw [hk]; decide), if_pos hk]
theorem lx_v5 (hk : kd x = 5) : la_v kd fa fb f x s = s.1 (fa x).toNatClampNeg * s.1 (fb x).toNatClampNeg := by
  unfold la_v
  rw [if_neg (by rw [hk]; decide), if_neg (by rw [hk]; decide), if_neg (by rw [hk]; decide), if_neg (by rw [hk]; decide), if_pos hk]
theorem lx_v6 (hk : kd x = 6) : la_v kd fa fb f x s = s.1 (fa x).toNatClampNeg &&& s.1 (fb x).toNatClampNeg := by
  unfold la_v
  rw [if_neg (by rw [hk]; decide), if_neg (by rw [hk]; decide), if_neg (by rw [hk]; decide), if_neg (by rw [hk]; decide), if_neg (by rw [hk]; decide), if_pos hk]
theorem lx_v7 (hk : kd x = 7) : la_v kd fa fb f x s = if s.1 (fb x).toNatClampNeg ≤ s.1 (fa x).toNatClampNeg then 0 else 1 := by
  unfold la_v
  rw [if_neg (by rw [hk]; decide), if_neg (by rw [hk]; decide), if_neg (by rw [hk]; decide), if_neg (by rw [hk]; decide), if_neg (by rw [hk]; decide), if_neg (by rw [hk]; decide), if_pos hk]
theorem lx_v8 (hk : kd x = 8) : la_v kd fa fb f x s = if s.1 (fa x).toNatClampNeg = s.1 (fb x).toNatClampNeg then 1 else 0 := by
  unfold la_v
  rw [if_neg (by rw [hk]; decide), if_neg (by rw [hk]; decide), if_neg (by rw [hk]; decide), if_neg (by rw [hk]; decide), if_neg (by rw [hk]; decide), if_neg (by rw [hk]; decide), if_neg (by rw [hk]; decide), if_pos hk]
theorem lx_v9 (hk : kd x = 9) : la_v kd fa fb f x s = s.1 (fa x).toNatClampNeg + fb x := by
  unfold la_v
  rw [if_neg (by rw [hk]; decide), if_neg (by rw [hk]; decide), if_neg (by rw [hk]; decide), if_neg (by rw [hk]; decide), if_neg (by rw [hk]; decide), if_neg (by rw [hk]; decide), if_neg (by rw [hk]; decide), if_neg (by rw [hk]; decide), if_pos hk]
theorem lx_v10 (hk : kd x = 10) : la_v kd fa fb f x s = s.2.1 (la_c fa fb x s).toNatClampNeg := by
  unfold la_v
  rw [if_neg (by rw [hk]; decide), if_neg (by rw [hk]; decide), if_neg (by rw [hk]; decide), if_neg (by rw [hk]; decide), if_neg (by rw [hk]; decide), if_neg (by rw [hk]; decide), if_neg (by rw [hk]; decide), if_neg (by rw [hk]; decide), if_neg (by rw [hk]; decide)]
end
section
variable {f_laneTotal f_lineLimit f_tripLimit f_logLimit f_count f_isSealed f_openTotal f_openLoops f_alive f_depth f_clash : Int32} {a_kinds a_fieldD a_fieldA a_fieldB a_blockLine a_blockHasElse a_opener a_elseOf a_endOf a_wayNonzero a_wayZero a_postDom a_rejoinOf a_regs a_cells a_work a_stored a_tripCount a_stackPlace a_stackMask a_stackRejoin a_stopLine a_reads a_writes a_marks a_logLine a_logMask : Nat → Int32} {post : SX → Prop} {n f x : Nat} {s : la_S} {lp : Nat → Nat}
theorem lx_exec (hn : n ≤ 24) (hf : f < 8) (hx : x < n) (hF : rl_F n a_kinds a_fieldD a_fieldA a_fieldB) (k1 : 1 ≤ a_kinds x) (k12 : a_kinds x < 12) (hR : lx_R f s a_work a_stored a_tripCount a_reads a_writes a_cells)
    (K : ∀ wk st rd wr, lx_R f (la_st f_tripLimit a_kinds a_fieldD a_fieldA a_fieldB lp f x s) wk st a_tripCount rd wr a_cells → (∀ g, g < 8 → g ≠ f → ∀ s', lx_R g s' a_work a_stored a_tripCount a_reads a_writes a_cells → lx_R g s' wk st a_tripCount rd wr a_cells) → post (f_laneTotal, f_lineLimit, f_tripLimit, f_logLimit, f_count, f_isSealed, f_openTotal, f_openLoops, f_alive, f_depth, f_clash, a_kinds, a_fieldD, a_fieldA, a_fieldB, a_blockLine, a_blockHasElse, a_opener, a_elseOf, a_endOf, a_wayNonzero, a_wayZero, a_postDom, a_rejoinOf, a_regs, a_cells, wk, st, a_tripCount, a_stackPlace, a_stackMask, a_stackRejoin, a_stopLine, rd, wr, a_marks, a_logLine, a_logMask)) : wpX_execute post (f_laneTotal, f_lineLimit, f_tripLimit, f_logLimit, f_count, f_isSealed, f_openTotal, f_openLoops, f_alive, f_depth, f_clash, a_kinds, a_fieldD, a_fieldA, a_fieldB, a_blockLine, a_blockHasElse, a_opener, a_elseOf, a_endOf, a_wayNonzero, a_wayZero, a_postDom, a_rejoinOf, a_regs, a_cells, a_work, a_stored, a_tripCount, a_stackPlace, a_stackMask, a_stackRejoin, a_stopLine, a_reads, a_writes, a_marks, a_logLine, a_logMask) (nI x) (nI f) := by
  obtain ⟨⟨dd, hd, ed⟩, ⟨aa, ha, ea⟩, hb⟩ := hF x hx
  have hQ : yv_Q n a_kinds a_fieldD a_fieldA a_fieldB x dd aa := ⟨hx, hn, hd, ha, ed, ea⟩
  have cd : (a_fieldD x).toNatClampNeg = dd := by rw [ed, nI_clamp (by omega)]
  have ca : (a_fieldA x).toNatClampNeg = aa := by rw [ea, nI_clamp (by omega)]
  have r1 := hR.1
  have fr : ∀ v : Int32, ∀ g, g < 8 → g ≠ f → ∀ s', lx_R g s' a_work a_stored a_tripCount a_reads a_writes a_cells → lx_R g s' (upd a_work (f * 8 + dd) v) a_stored a_tripCount a_reads a_writes a_cells := fun v => lx_wkf hd
  have go : ∀ v : Int32, a_kinds x ≤ 10 → ¬ a_kinds x = 10 → ¬ a_kinds x = 11 → ¬ a_kinds x = 16 → ¬ a_kinds x = 17 → la_v a_kinds a_fieldA a_fieldB f x s = v → post (f_laneTotal, f_lineLimit, f_tripLimit, f_logLimit, f_count, f_isSealed, f_openTotal, f_openLoops, f_alive, f_depth, f_clash, a_kinds, a_fieldD, a_fieldA, a_fieldB, a_blockLine, a_blockHasElse, a_opener, a_elseOf, a_endOf, a_wayNonzero, a_wayZero, a_postDom, a_rejoinOf, a_regs, a_cells, upd a_work (f * 8 + dd) v, a_stored, a_tripCount, a_stackPlace, a_stackMask, a_stackRejoin, a_stopLine, a_reads, a_writes, a_marks, a_logLine, a_logMask) := by
    intro v h1 h2 h3 h4 h5 e
    refine K _ _ _ _ ?_ (fr v)
    rw [lx_stw h1 h2 h3 h4 h5, e, cd]
    exact lx_wk hd hR
  rcases lx_k11 k1 k12 with hk | hk | hk | hk | hk | hk | hk | hk | hk | hk | hk
  · exact xe_k1 hf hQ hk (go _ (by rw [hk]; decide) (by rw [hk]; decide) (by rw [hk]; decide) (by rw [hk]; decide) (by rw [hk]; decide) (lx_v1 hk))
  · exact xe_k2 hf hQ hk (go _ (by rw [hk]; decide) (by rw [hk]; decide) (by rw [hk]; decide) (by rw [hk]; decide) (by rw [hk]; decide) (lx_v2 hk))
  · obtain ⟨bb, hbb, eb⟩ := hb (by rw [hk]; decide) (by rw [hk]; decide)
    have cb : (a_fieldB x).toNatClampNeg = bb := by rw [eb, nI_clamp (by omega)]
    refine xe_k3 hf hQ hk hbb eb (go _ (by rw [hk]; decide) (by rw [hk]; decide) (by rw [hk]; decide) (by rw [hk]; decide) (by rw [hk]; decide) ?_)
    rw [lx_v3 hk, ca, cb, r1 aa ha, r1 bb hbb]
  · obtain ⟨bb, hbb, eb⟩ := hb (by rw [hk]; decide) (by rw [hk]; decide)
    have cb : (a_fieldB x).toNatClampNeg = bb := by rw [eb, nI_clamp (by omega)]
    refine xe_k4 hf hQ hk hbb eb (go _ (by rw [hk]; decide) (by rw [hk]; decide) (by rw [hk]; decide) (by rw [hk]; decide) (by rw [hk]; decide) ?_)
    rw [lx_v4 hk, ca, cb, r1 aa ha, r1 bb hbb]
  · obtain ⟨bb, hbb, eb⟩ := hb (by rw [hk]; decide) (by rw [hk]; decide)
    have cb : (a_fieldB x).toNatClampNeg = bb := by rw [eb, nI_clamp (by omega)]
    refine xe_k5 hf hQ hk hbb eb (go _ (by rw [hk]; decide) (by rw [hk]; decide) (by rw [hk]; decide) (by rw [hk]; decide) (by rw [hk]; decide) ?_)
    rw [lx_v5 hk, ca, cb, r1 aa ha, r1 bb hbb]
  · obtain ⟨bb, hbb, eb⟩ := hb (by rw [hk]; decide) (by rw [hk]; decide)
    have cb : (a_fieldB x).toNatClampNeg = bb := by rw [eb, nI_clamp (by omega)]
    refine xe_k6 hf hQ hk hbb eb (go _ (by rw [hk]; decide) (by rw [hk]; decide) (by rw [hk]; decide) (by rw [hk]; decide) (by rw [hk]; decide) ?_)
    rw [lx_v6 hk, ca, cb, r1 aa ha, r1 bb hbb]
  · obtain ⟨bb, hbb, eb⟩ := hb (by rw [hk]; decide) (by rw [hk]; decide)
    have cb : (a_fieldB x).toNatClampNeg = bb := by rw [eb, nI_clamp (by omega)]
    refine xe_k7 hf hQ hk hbb eb (go _ (by rw [hk]; decide) (by rw [hk]; decide) (by rw [hk]; decide) (by rw [hk]; decide) (by rw [hk]; decide) ?_)
    rw [lx_v7 hk, ca, cb, r1 aa ha, r1 bb hbb]
  · obtain ⟨bb, hbb, eb⟩ := hb (by rw [hk]; decide) (by rw [hk]; decide)
    have cb : (a_fieldB x).toNatClampNeg = bb := by rw [eb, nI_clamp (by omega)]
    refine xe_k8 hf hQ hk hbb eb (go _ (by rw [hk]; decide) (by rw [hk]; decide) (by rw [hk]; decide) (by rw [hk]; decide) (by rw [hk]; decide) ?_)
    rw [lx_v8 hk, ca, cb, r1 aa ha, r1 bb hbb]
  · refine xe_k9 hf hQ hk (go _ (by rw [hk]; decide) (by rw [hk]; decide) (by rw [hk]; decide) (by rw [hk]; decide) (by rw [hk]; decide) ?_)
    rw [lx_v9 hk, ca, r1 aa ha]
  · obtain ⟨cc, hc, ec⟩ := lx_cell (a_work (f * 8 + aa) + a_fieldB x)
    have ec' : la_c a_fieldA a_fieldB x s = nI cc := by
      unfold la_c
      rw [ca, ← r1 aa ha]; exact ec
    refine xe_k10 hf hQ hk hc ec (K _ _ _ _ ?_ (fun g hg hgf s' h => lx_rdf g hg hgf s' (fr _ g hg hgf s' h)))
    rw [lx_st10 hk, lx_v10 hk, ec', nI_clamp (by omega), cd, hR.2.2.2.1]
    have := lx_rd (v := s.2.2.2.1 ||| ((1 : Int32) <<< (nI cc &&& 31))) (lx_wk (v := s.2.1 cc) hd hR)
    rw [hR.2.2.2.2, hR.2.1 cc hc]
    exact this
  · obtain ⟨cc, hc, ec⟩ := lx_cell (a_work (f * 8 + aa) + a_fieldB x)
    have ec' : la_c a_fieldA a_fieldB x s = nI cc := by
      unfold la_c
      rw [ca, ← r1 aa ha]; exact ec
    refine xe_k11 hf hQ hk hc ec (K _ _ _ _ ?_ (lx_wrf hc))
    rw [lx_st11 hk, ec', nI_clamp (by omega), cd, ← r1 dd hd]
    exact lx_wr hc hR
end
section
variable {f_laneTotal f_lineLimit f_tripLimit f_logLimit f_count f_isSealed f_openTotal f_openLoops f_alive f_depth f_clash : Int32} {a_kinds a_fieldD a_fieldA a_fieldB a_blockLine a_blockHasElse a_opener a_elseOf a_endOf a_wayNonzero a_wayZero a_postDom a_rejoinOf a_regs a_cells a_work a_stored a_tripCount a_stackPlace a_stackMask a_stackRejoin a_stopLine a_reads a_writes a_marks a_logLine a_logMask : Nat → Int32} {post : Int32 → SX → Prop} {n f x : Nat} {s : la_S} {lp : Nat → Nat}
theorem lx_dec (hn : n ≤ 24) (hf : f < 8) (hx : x < n) (hF : rl_F n a_kinds a_fieldD a_fieldA a_fieldB) (k1 : a_kinds x = 13 ∨ a_kinds x = 16 ∨ a_kinds x = 17 ∨ a_kinds x = 18 ∨ a_kinds x = 19) (hlp : a_kinds x = 17 → a_opener x = nI (lp x) ∧ lp x < 24) (hR : lx_R f s a_work a_stored a_tripCount a_reads a_writes a_cells)
    (K0 : la_tk f_tripLimit a_kinds a_fieldD x s = false → ∀ tc, lx_R f (la_st f_tripLimit a_kinds a_fieldD a_fieldA a_fieldB lp f x s) a_work a_stored tc a_reads a_writes a_cells → (∀ g, g < 8 → g ≠ f → ∀ s', lx_R g s' a_work a_stored a_tripCount a_reads a_writes a_cells → lx_R g s' a_work a_stored tc a_reads a_writes a_cells) → post 0 (f_laneTotal, f_lineLimit, f_tripLimit, f_logLimit, f_count, f_isSealed, f_openTotal, f_openLoops, f_alive, f_depth, f_clash, a_kinds, a_fieldD, a_fieldA, a_fieldB, a_blockLine, a_blockHasElse, a_opener, a_elseOf, a_endOf, a_wayNonzero, a_wayZero, a_postDom, a_rejoinOf, a_regs, a_cells, a_work, a_stored, tc, a_stackPlace, a_stackMask, a_stackRejoin, a_stopLine, a_reads, a_writes, a_marks, a_logLine, a_logMask))
    (K1 : la_tk f_tripLimit a_kinds a_fieldD x s = true → ∀ tc sl, (a_kinds x = 19 → sl = upd a_stopLine f (nI x)) → (¬ a_kinds x = 19 → sl = a_stopLine) → lx_R f (la_st f_tripLimit a_kinds a_fieldD a_fieldA a_fieldB lp f x s) a_work a_stored tc a_reads a_writes a_cells → (∀ g, g < 8 → g ≠ f → ∀ s', lx_R g s' a_work a_stored a_tripCount a_reads a_writes a_cells → lx_R g s' a_work a_stored tc a_reads a_writes a_cells) → post 1 (f_laneTotal, f_lineLimit, f_tripLimit, f_logLimit, f_count, f_isSealed, f_openTotal, f_openLoops, f_alive, f_depth, f_clash, a_kinds, a_fieldD, a_fieldA, a_fieldB, a_blockLine, a_blockHasElse, a_opener, a_elseOf, a_endOf, a_wayNonzero, a_wayZero, a_postDom, a_rejoinOf, a_regs, a_cells, a_work, a_stored, tc, a_stackPlace, a_stackMask, a_stackRejoin, sl, a_reads, a_writes, a_marks, a_logLine, a_logMask)) :
    wpX_decideLane post (f_laneTotal, f_lineLimit, f_tripLimit, f_logLimit, f_count, f_isSealed, f_openTotal, f_openLoops, f_alive, f_depth, f_clash, a_kinds, a_fieldD, a_fieldA, a_fieldB, a_blockLine, a_blockHasElse, a_opener, a_elseOf, a_endOf, a_wayNonzero, a_wayZero, a_postDom, a_rejoinOf, a_regs, a_cells, a_work, a_stored, a_tripCount, a_stackPlace, a_stackMask, a_stackRejoin, a_stopLine, a_reads, a_writes, a_marks, a_logLine, a_logMask) (nI x) (nI f) := by
  obtain ⟨⟨dd, hd, ed⟩, ⟨aa, ha, ea⟩, hb⟩ := hF x hx
  have hQ : yv_Q n a_kinds a_fieldD a_fieldA a_fieldB x dd aa := ⟨hx, hn, hd, ha, ed, ea⟩
  have cd : (a_fieldD x).toNatClampNeg = dd := by rw [ed, nI_clamp (by omega)]
  have r1 := hR.1 dd hd
  have z0 : a_work (f * 8 + dd) = 0 → s.1 (a_fieldD x).toNatClampNeg = 0 := fun h => by rw [cd, ← r1]; exact h
  have z1 : ¬ a_work (f * 8 + dd) = 0 → ¬ s.1 (a_fieldD x).toNatClampNeg = 0 := fun h => by rw [cd, ← r1]; exact h
  have id1 : ∀ g, g < 8 → g ≠ f → ∀ s', lx_R g s' a_work a_stored a_tripCount a_reads a_writes a_cells → lx_R g s' a_work a_stored a_tripCount a_reads a_writes a_cells := fun _ _ _ _ h => h
  rcases k1 with hk | hk | hk | hk | hk
  · refine xe_ko hf hQ (by rw [hk]; decide) (by rw [hk]; decide) (by rw [hk]; decide) (fun h => K0 (lx_tk0 (z0 h)) _ ?_ id1) (fun h => K1 (lx_tk1 (z1 h) (by rw [hk]; decide)) _ _ (fun z => absurd (hk.symm.trans z) (by decide)) (fun _ => rfl) ?_ id1)
    all_goals
      rw [lx_sto (by rw [hk]; decide) (by rw [hk]; decide) (by rw [hk]; decide) (by rw [hk]; decide) (by rw [hk]; decide)]
      exact hR
  · have hx24 : x < 24 := by omega
    have r3 := hR.2.2.1 x hx24
    refine xe_k16 hf hQ hk (fun h => ?_) (fun h h2 => ?_)
    · have htk : la_tk f_tripLimit a_kinds a_fieldD x s = false := by
        by_cases c : a_work (f * 8 + dd) = 0
        · exact lx_tk0 (z0 c)
        · rcases h with h | h
          · exact absurd h c
          · exact lx_tk2 (z1 c) hk (by rw [← r3]; exact h)
      refine K0 htk _ ?_ (lx_tcf hx24)
      rw [lx_sttr (by rw [hk]; decide) (by rw [hk]; decide) (by rw [hk]; decide)]
      have et : la_tr f_tripLimit a_kinds a_fieldD lp x s = upd s.2.2.1 x 0 := by
        unfold la_tr
        rw [if_pos hk, if_neg (by rw [htk]; decide)]
      rw [et]
      exact lx_tc hx24 hR
    · have htk : la_tk f_tripLimit a_kinds a_fieldD x s = true := lx_tk3 (z1 h) hk (by rw [← r3]; exact h2)
      refine K1 htk _ _ (fun z => absurd (hk.symm.trans z) (by decide)) (fun _ => rfl) ?_ (lx_tcf hx24)
      rw [lx_sttr (by rw [hk]; decide) (by rw [hk]; decide) (by rw [hk]; decide)]
      have et : la_tr f_tripLimit a_kinds a_fieldD lp x s = upd s.2.2.1 x (s.2.2.1 x + 1) := by
        unfold la_tr
        rw [if_pos hk, if_pos htk]
      rw [et, r3]
      exact lx_tc hx24 hR
  · obtain ⟨eo, hw⟩ := hlp hk
    refine xe_k17 hf hQ hk hw eo (fun h => ?_) (fun h => ?_)
    · have htk : la_tk f_tripLimit a_kinds a_fieldD x s = false := lx_tk0 (z0 h)
      refine K0 htk _ ?_ id1
      rw [lx_sttr (by rw [hk]; decide) (by rw [hk]; decide) (by rw [hk]; decide)]
      have et : la_tr f_tripLimit a_kinds a_fieldD lp x s = s.2.2.1 := by
        unfold la_tr
        rw [if_neg (by rw [hk]; decide), if_pos hk, if_neg (by rw [htk]; decide)]
      rw [et]
      exact hR
    · have htk : la_tk f_tripLimit a_kinds a_fieldD x s = true := lx_tk1 (z1 h) (by rw [hk]; decide)
      refine K1 htk _ _ (fun z => absurd (hk.symm.trans z) (by decide)) (fun _ => rfl) ?_ (lx_tcf hw)
      rw [lx_sttr (by rw [hk]; decide) (by rw [hk]; decide) (by rw [hk]; decide)]
      have et : la_tr f_tripLimit a_kinds a_fieldD lp x s = upd s.2.2.1 (lp x) 0 := by
        unfold la_tr
        rw [if_neg (by rw [hk]; decide), if_pos hk, if_pos htk]
      rw [et]
      exact lx_tc hw hR
  · refine xe_ko hf hQ (by rw [hk]; decide) (by rw [hk]; decide) (by rw [hk]; decide) (fun h => K0 (lx_tk0 (z0 h)) _ ?_ id1) (fun h => K1 (lx_tk1 (z1 h) (by rw [hk]; decide)) _ _ (fun z => absurd (hk.symm.trans z) (by decide)) (fun _ => rfl) ?_ id1)
    all_goals
      rw [lx_sto (by rw [hk]; decide) (by rw [hk]; decide) (by rw [hk]; decide) (by rw [hk]; decide) (by rw [hk]; decide)]
      exact hR
  · refine xe_k19 hf hQ hk (fun h => K0 (lx_tk0 (z0 h)) _ ?_ id1) (fun h => K1 (lx_tk1 (z1 h) (by rw [hk]; decide)) _ _ (fun _ => rfl) (fun z => absurd hk z) ?_ id1)
    all_goals
      rw [lx_sto (by rw [hk]; decide) (by rw [hk]; decide) (by rw [hk]; decide) (by rw [hk]; decide) (by rw [hk]; decide)]
      exact hR
end
section
variable {g_lanes g_lines g_trips g_logSize g_n g_sealed g_clash : Int32} {b_kinds b_fd b_fa b_fb b_nzWay b_zWay b_post b_seen b_regs b_mem b_own b_priv b_trip b_visits b_lineOf b_goneTo b_mates b_exits b_reads b_writes b_marks b_logLine b_logMask : Nat → Int32} {post : Int32 → SY → Prop} {n f x : Nat} {s : la_S} {lp : Nat → Nat}
theorem ly_vis (hn : n ≤ 24) (hf : f < 8) (hx : x < n) (hw : ns_WF b_kinds n) (h0 : ns_ln b_kinds n = 0) (hF : rl_F n b_kinds b_fd b_fa b_fb) (hlp : b_kinds x = 17 → ns_LP b_kinds (lp x) x) (hR : ly_R f s b_own b_priv b_reads b_writes) (hT : ∀ t, t < 24 → b_trip t = s.2.2.1 t)
    (K : ∀ ow pv tr rd wr, ly_R f (la_st g_trips b_kinds b_fd b_fa b_fb lp f x s) ow pv rd wr → (∀ t, t < 24 → tr t = (la_st g_trips b_kinds b_fd b_fa b_fb lp f x s).2.2.1 t) → (∀ g, g < 8 → g ≠ f → ∀ s', ly_R g s' b_own b_priv b_reads b_writes → ly_R g s' ow pv rd wr) →
      (la_tk g_trips b_kinds b_fd x s = false → post 0 (g_lanes, g_lines, g_trips, g_logSize, nI n, g_sealed, g_clash, b_kinds, b_fd, b_fa, b_fb, b_nzWay, b_zWay, b_post, b_seen, b_regs, b_mem, ow, pv, tr, b_visits, b_lineOf, b_goneTo, b_mates, b_exits, rd, wr, b_marks, b_logLine, b_logMask)) ∧ (la_tk g_trips b_kinds b_fd x s = true → post 1 (g_lanes, g_lines, g_trips, g_logSize, nI n, g_sealed, g_clash, b_kinds, b_fd, b_fa, b_fb, b_nzWay, b_zWay, b_post, b_seen, b_regs, b_mem, ow, pv, tr, b_visits, b_lineOf, b_goneTo, b_mates, b_exits, rd, wr, b_marks, b_logLine, b_logMask))) : wpY_visit post (g_lanes, g_lines, g_trips, g_logSize, nI n, g_sealed, g_clash, b_kinds, b_fd, b_fa, b_fb, b_nzWay, b_zWay, b_post, b_seen, b_regs, b_mem, b_own, b_priv, b_trip, b_visits, b_lineOf, b_goneTo, b_mates, b_exits, b_reads, b_writes, b_marks, b_logLine, b_logMask) (nI f) (nI x) := by
  obtain ⟨⟨dd, hd, ed⟩, ⟨aa, ha, ea⟩, hb⟩ := hF x hx
  have hQ : yv_Q n b_kinds b_fd b_fa b_fb x dd aa := ⟨hx, hn, hd, ha, ed, ea⟩
  have cd : (b_fd x).toNatClampNeg = dd := by rw [ed, nI_clamp (by omega)]
  have ca : (b_fa x).toNatClampNeg = aa := by rw [ea, nI_clamp (by omega)]
  have r1 := hR.1
  have z0 : b_own (f * 8 + dd) = 0 → s.1 (b_fd x).toNatClampNeg = 0 := fun h => by rw [cd, ← r1 dd hd]; exact h
  have z1 : ¬ b_own (f * 8 + dd) = 0 → ¬ s.1 (b_fd x).toNatClampNeg = 0 := fun h => by rw [cd, ← r1 dd hd]; exact h
  have id1 : ∀ g, g < 8 → g ≠ f → ∀ s', ly_R g s' b_own b_priv b_reads b_writes → ly_R g s' b_own b_priv b_reads b_writes := fun _ _ _ _ h => h
  have go : ∀ v : Int32, b_kinds x ≤ 10 → ¬ b_kinds x = 10 → ¬ b_kinds x = 11 → ¬ b_kinds x = 16 → ¬ b_kinds x = 17 → la_v b_kinds b_fa b_fb f x s = v → (b_own (f * 8 + dd) = 0 → post 0 (g_lanes, g_lines, g_trips, g_logSize, nI n, g_sealed, g_clash, b_kinds, b_fd, b_fa, b_fb, b_nzWay, b_zWay, b_post, b_seen, b_regs, b_mem, upd b_own (f * 8 + dd) v, b_priv, b_trip, b_visits, b_lineOf, b_goneTo, b_mates, b_exits, b_reads, b_writes, b_marks, b_logLine, b_logMask)) ∧ (¬ b_own (f * 8 + dd) = 0 → post 1 (g_lanes, g_lines, g_trips, g_logSize, nI n, g_sealed, g_clash, b_kinds, b_fd, b_fa, b_fb, b_nzWay, b_zWay, b_post, b_seen, b_regs, b_mem, upd b_own (f * 8 + dd) v, b_priv, b_trip, b_visits, b_lineOf, b_goneTo, b_mates, b_exits, b_reads, b_writes, b_marks, b_logLine, b_logMask)) := by
    intro v h1 h2 h3 h4 h5 e
    have k := K (upd b_own (f * 8 + dd) v) b_priv b_trip b_reads b_writes (by rw [lx_stw h1 h2 h3 h4 h5, e, cd]; exact ly_ow hd hR) (by rw [lx_stw h1 h2 h3 h4 h5]; exact hT) (ly_owf hd)
    exact ⟨fun h => k.1 (lx_tk0 (z0 h)), fun h => k.2 (lx_tk1 (z1 h) h4)⟩
  have oth : ¬ b_kinds x ≤ 10 → ¬ b_kinds x = 10 → ¬ b_kinds x = 11 → ¬ b_kinds x = 16 → ¬ b_kinds x = 17 → (b_own (f * 8 + dd) = 0 → post 0 (g_lanes, g_lines, g_trips, g_logSize, nI n, g_sealed, g_clash, b_kinds, b_fd, b_fa, b_fb, b_nzWay, b_zWay, b_post, b_seen, b_regs, b_mem, b_own, b_priv, b_trip, b_visits, b_lineOf, b_goneTo, b_mates, b_exits, b_reads, b_writes, b_marks, b_logLine, b_logMask)) ∧ (¬ b_own (f * 8 + dd) = 0 → post 1 (g_lanes, g_lines, g_trips, g_logSize, nI n, g_sealed, g_clash, b_kinds, b_fd, b_fa, b_fb, b_nzWay, b_zWay, b_post, b_seen, b_regs, b_mem, b_own, b_priv, b_trip, b_visits, b_lineOf, b_goneTo, b_mates, b_exits, b_reads, b_writes, b_marks, b_logLine, b_logMask)) := by
    intro h1 h2 h3 h4 h5
    have k := K b_own b_priv b_trip b_reads b_writes (by rw [lx_sto h1 h2 h3 h4 h5]; exact hR) (by rw [lx_sto h1 h2 h3 h4 h5]; exact hT) id1
    exact ⟨fun h => k.1 (lx_tk0 (z0 h)), fun h => k.2 (lx_tk1 (z1 h) h4)⟩
  have k1 := (hw x hx).1.1
  have k19 := (hw x hx).1.2
  by_cases c12 : b_kinds x < 12
  · rcases lx_k11 k1 c12 with hk | hk | hk | hk | hk | hk | hk | hk | hk | hk | hk
    · have q := go _ (by rw [hk]; decide) (by rw [hk]; decide) (by rw [hk]; decide) (by rw [hk]; decide) (by rw [hk]; decide) (lx_v1 hk)
      exact yv_k1 hf hQ hk q.1 q.2
    · have q := go _ (by rw [hk]; decide) (by rw [hk]; decide) (by rw [hk]; decide) (by rw [hk]; decide) (by rw [hk]; decide) (lx_v2 hk)
      exact yv_k2 hf hQ hk q.1 q.2
    · obtain ⟨bb, hbb, eb⟩ := hb (by rw [hk]; decide) (by rw [hk]; decide)
      have cb : (b_fb x).toNatClampNeg = bb := by rw [eb, nI_clamp (by omega)]
      have q := go _ (by rw [hk]; decide) (by rw [hk]; decide) (by rw [hk]; decide) (by rw [hk]; decide) (by rw [hk]; decide) (lx_v3 hk)
      rw [ca, cb, ← r1 aa ha, ← r1 bb hbb] at q
      exact yv_k3 hf hQ hk hbb eb q.1 q.2
    · obtain ⟨bb, hbb, eb⟩ := hb (by rw [hk]; decide) (by rw [hk]; decide)
      have cb : (b_fb x).toNatClampNeg = bb := by rw [eb, nI_clamp (by omega)]
      have q := go _ (by rw [hk]; decide) (by rw [hk]; decide) (by rw [hk]; decide) (by rw [hk]; decide) (by rw [hk]; decide) (lx_v4 hk)
      rw [ca, cb, ← r1 aa ha, ← r1 bb hbb] at q
      exact yv_k4 hf hQ hk hbb eb q.1 q.2
    · obtain ⟨bb, hbb, eb⟩ := hb (by rw [hk]; decide) (by rw [hk]; decide)
      have cb : (b_fb x).toNatClampNeg = bb := by rw [eb, nI_clamp (by omega)]
      have q := go _ (by rw [hk]; decide) (by rw [hk]; decide) (by rw [hk]; decide) (by rw [hk]; decide) (by rw [hk]; decide) (lx_v5 hk)
      rw [ca, cb, ← r1 aa ha, ← r1 bb hbb] at q
      exact yv_k5 hf hQ hk hbb eb q.1 q.2
    · obtain ⟨bb, hbb, eb⟩ := hb (by rw [hk]; decide) (by rw [hk]; decide)
      have cb : (b_fb x).toNatClampNeg = bb := by rw [eb, nI_clamp (by omega)]
      have q := go _ (by rw [hk]; decide) (by rw [hk]; decide) (by rw [hk]; decide) (by rw [hk]; decide) (by rw [hk]; decide) (lx_v6 hk)
      rw [ca, cb, ← r1 aa ha, ← r1 bb hbb] at q
      exact yv_k6 hf hQ hk hbb eb q.1 q.2
    · obtain ⟨bb, hbb, eb⟩ := hb (by rw [hk]; decide) (by rw [hk]; decide)
      have cb : (b_fb x).toNatClampNeg = bb := by rw [eb, nI_clamp (by omega)]
      have q := go _ (by rw [hk]; decide) (by rw [hk]; decide) (by rw [hk]; decide) (by rw [hk]; decide) (by rw [hk]; decide) (lx_v7 hk)
      rw [ca, cb, ← r1 aa ha, ← r1 bb hbb] at q
      exact yv_k7 hf hQ hk hbb eb q.1 q.2
    · obtain ⟨bb, hbb, eb⟩ := hb (by rw [hk]; decide) (by rw [hk]; decide)
      have cb : (b_fb x).toNatClampNeg = bb := by rw [eb, nI_clamp (by omega)]
      have q := go _ (by rw [hk]; decide) (by rw [hk]; decide) (by rw [hk]; decide) (by rw [hk]; decide) (by rw [hk]; decide) (lx_v8 hk)
      rw [ca, cb, ← r1 aa ha, ← r1 bb hbb] at q
      exact yv_k8 hf hQ hk hbb eb q.1 q.2
    · have q := go _ (by rw [hk]; decide) (by rw [hk]; decide) (by rw [hk]; decide) (by rw [hk]; decide) (by rw [hk]; decide) (lx_v9 hk)
      rw [ca, ← r1 aa ha] at q
      exact yv_k9 hf hQ hk q.1 q.2
    · obtain ⟨cc, hc, ec⟩ := lx_cell (b_own (f * 8 + aa) + b_fb x)
      have ec' : la_c b_fa b_fb x s = nI cc := by
        unfold la_c
        rw [ca, ← r1 aa ha]; exact ec
      have k := K (upd b_own (f * 8 + dd) (b_priv (f * 32 + cc))) b_priv b_trip (upd b_reads f (b_reads f ||| ((1 : Int32) <<< (nI cc &&& 31)))) b_writes (by
        rw [lx_st10 hk, lx_v10 hk, ec', nI_clamp (by omega), cd, hR.2.2.1, hR.2.1 cc hc]
        exact ly_rd (v := s.2.2.2.1 ||| ((1 : Int32) <<< (nI cc &&& 31))) (ly_ow (v := s.2.1 cc) hd hR)) (by rw [lx_st10 hk]; exact hT) (fun g hg hgf s' h => ly_rdf g hg hgf s' (ly_owf hd g hg hgf s' h))
      exact yv_k10 hf hQ hk hc ec (fun h => k.1 (lx_tk0 (z0 h))) (fun h => k.2 (lx_tk1 (z1 h) (by rw [hk]; decide)))
    · obtain ⟨cc, hc, ec⟩ := lx_cell (b_own (f * 8 + aa) + b_fb x)
      have ec' : la_c b_fa b_fb x s = nI cc := by
        unfold la_c
        rw [ca, ← r1 aa ha]; exact ec
      have k := K b_own (upd b_priv (f * 32 + cc) (b_own (f * 8 + dd))) b_trip b_reads (upd b_writes f (b_writes f ||| ((1 : Int32) <<< (nI cc &&& 31)))) (by
        rw [lx_st11 hk, ec', nI_clamp (by omega), cd, ← r1 dd hd, hR.2.2.2]
        exact ly_wr hc hR) (by rw [lx_st11 hk]; exact hT) (ly_wrf hc)
      exact yv_k11 hf hQ hk hc ec (fun h => k.1 (lx_tk0 (z0 h))) (fun h => k.2 (lx_tk1 (z1 h) (by rw [hk]; decide)))
  · have h12 : ∀ c : Int32, c < 12 → ¬ b_kinds x = c := fun c hc z => c12 (by rw [z]; exact hc)
    have hle : ¬ b_kinds x ≤ 10 := fun z => c12 (Int32.lt_of_le_of_lt z (by decide))
    have h8 : 8 < b_kinds x := Int32.lt_of_lt_of_le (by decide) (Int32.not_lt.mp c12)
    have hj : ∀ j, j ≤ 11 → ¬ b_kinds x = nI j := fun j hj => h12 _ (nI_lt (b := 12) (by omega) (by decide))
    have h10 := h12 10 (by decide)
    have h11 := h12 11 (by decide)
    by_cases h16 : b_kinds x = 16
    · have hx24 : x < 24 := by omega
      have r3 := hT x hx24
      have k0 : la_tk g_trips b_kinds b_fd x s = false → post 0 (g_lanes, g_lines, g_trips, g_logSize, nI n, g_sealed, g_clash, b_kinds, b_fd, b_fa, b_fb, b_nzWay, b_zWay, b_post, b_seen, b_regs, b_mem, b_own, b_priv, upd b_trip x 0, b_visits, b_lineOf, b_goneTo, b_mates, b_exits, b_reads, b_writes, b_marks, b_logLine, b_logMask) := by
        intro htk
        have et : la_tr g_trips b_kinds b_fd lp x s = upd s.2.2.1 x 0 := by
          unfold la_tr
          rw [if_pos h16, if_neg (by rw [htk]; decide)]
        refine (K b_own b_priv (upd b_trip x 0) b_reads b_writes ?_ ?_ id1).1 htk
        · rw [lx_sttr hle h10 h11]; exact hR
        · rw [lx_sttr hle h10 h11, et]
          exact sm_updM hT
      have k1 : la_tk g_trips b_kinds b_fd x s = true → post 1 (g_lanes, g_lines, g_trips, g_logSize, nI n, g_sealed, g_clash, b_kinds, b_fd, b_fa, b_fb, b_nzWay, b_zWay, b_post, b_seen, b_regs, b_mem, b_own, b_priv, upd b_trip x (b_trip x + 1), b_visits, b_lineOf, b_goneTo, b_mates, b_exits, b_reads, b_writes, b_marks, b_logLine, b_logMask) := by
        intro htk
        have et : la_tr g_trips b_kinds b_fd lp x s = upd s.2.2.1 x (s.2.2.1 x + 1) := by
          unfold la_tr
          rw [if_pos h16, if_pos htk]
        refine (K b_own b_priv (upd b_trip x (b_trip x + 1)) b_reads b_writes ?_ ?_ id1).2 htk
        · rw [lx_sttr hle h10 h11]; exact hR
        · rw [lx_sttr hle h10 h11, et, r3]
          exact sm_updM hT
      refine yv_k16 hf hQ h16 (fun h => k0 ?_) (fun h h2 => k1 (lx_tk3 (z1 h) h16 (by rw [← r3]; exact h2)))
      by_cases c : b_own (f * 8 + dd) = 0
      · exact lx_tk0 (z0 c)
      · rcases h with h | h
        · exact absurd h c
        · exact lx_tk2 (z1 c) h16 (by rw [← r3]; exact h)
    · by_cases h17 : b_kinds x = 17
      · have hL := hlp h17
        refine yv_k17 hf hQ h17 h0 hL (fun h => ?_) (fun h => ?_)
        · have htk : la_tk g_trips b_kinds b_fd x s = false := lx_tk0 (z0 h)
          have et : la_tr g_trips b_kinds b_fd lp x s = s.2.2.1 := by
            unfold la_tr
            rw [if_neg h16, if_pos h17, if_neg (by rw [htk]; decide)]
          refine (K b_own b_priv b_trip b_reads b_writes ?_ ?_ id1).1 htk
          · rw [lx_sttr hle h10 h11]; exact hR
          · rw [lx_sttr hle h10 h11, et]; exact hT
        · have htk : la_tk g_trips b_kinds b_fd x s = true := lx_tk1 (z1 h) h16
          have et : la_tr g_trips b_kinds b_fd lp x s = upd s.2.2.1 (lp x) 0 := by
            unfold la_tr
            rw [if_neg h16, if_pos h17, if_pos htk]
          refine (K b_own b_priv (upd b_trip (lp x) 0) b_reads b_writes ?_ ?_ id1).2 htk
          · rw [lx_sttr hle h10 h11]; exact hR
          · rw [lx_sttr hle h10 h11, et]
            exact sm_updM hT
      · have q := oth hle h10 h11 h16 h17
        exact yv_ko hf hQ rfl h8 hj h16 h17 q.1 q.2
end
end
section
/-! the reference's run of a lane -/
def la_pl (T : Int32) (kd fd fa fb nzW zW : Nat → Int32) (lp : Nat → Nat) (rg mem : Nat → Int32) (f v : Nat) : Int32 := (la_so T kd fd fa fb nzW zW lp rg mem f v).2
/-- the exit line of a lane -/
noncomputable def la_ex (n : Nat) (T : Int32) (kd fd fa fb nzW zW : Nat → Int32) (lp : Nat → Nat) (rg mem : Nat → Int32) (ch : Int32) (f : Nat) : Int32 :=
  if la_pl T kd fd fa fb nzW zW lp rg mem f (la_tv n T kd fd fa fb nzW zW lp rg mem ch f) = -1 then la_pl T kd fd fa fb nzW zW lp rg mem f (la_tv n T kd fd fa fb nzW zW lp rg mem ch f - 1) else nI n
def yr_D (n : Nat) (T : Int32) (kd fd fa fb nzW zW : Nat → Int32) (lp : Nat → Nat) (rg mem : Nat → Int32) (ch : Int32) (f : Nat) (ow pv vs lo gt ma ex rd wr : Nat → Int32) : Prop :=
  ly_R f (la_so T kd fd fa fb nzW zW lp rg mem f (la_tv n T kd fd fa fb nzW zW lp rg mem ch f)).1 ow pv rd wr ∧ vs f = nI (la_tv n T kd fd fa fb nzW zW lp rg mem ch f) ∧ ex f = la_ex n T kd fd fa fb nzW zW lp rg mem ch f ∧
  ∀ u, u < la_tv n T kd fd fa fb nzW zW lp rg mem ch f → lo (f * 480 + u) = la_pl T kd fd fa fb nzW zW lp rg mem f u ∧ gt (f * 480 + u) = la_pl T kd fd fa fb nzW zW lp rg mem f (u + 1) ∧ ma (f * 480 + u) = (1 : Int32) <<< (nI f &&& 31)
def yr_F (f : Nat) (ow pv vs lo gt ma ex rd wr ow' pv' vs' lo' gt' ma' ex' rd' wr' : Nat → Int32) : Prop :=
  (∀ g, g < 8 → g ≠ f → ∀ s', ly_R g s' ow pv rd wr → ly_R g s' ow' pv' rd' wr') ∧ (∀ j, j < f * 480 ∨ f * 480 + 480 ≤ j → lo' j = lo j ∧ gt' j = gt j ∧ ma' j = ma j) ∧ (∀ g, g ≠ f → vs' g = vs g ∧ ex' g = ex g)
section
variable {g_lanes g_lines g_trips g_logSize g_n g_sealed g_clash : Int32} {b_kinds b_fd b_fa b_fb b_nzWay b_zWay b_post b_seen b_regs b_mem b_own b_priv b_trip b_visits b_lineOf b_goneTo b_mates b_exits b_reads b_writes b_marks b_logLine b_logMask : Nat → Int32} {post : SY → Prop} {n f : Nat} {lp : Nat → Nat} {rg mem : Nat → Int32} {ch : Int32}
def yr_G (f v : Nat) (T : Int32) (kd fd fa fb nzW zW : Nat → Int32) (lp : Nat → Nat) (rg mem : Nat → Int32) (vs lo gt ma : Nat → Int32) : Prop :=
  vs f = nI v ∧ ∀ u, u < v → lo (f * 480 + u) = la_pl T kd fd fa fb nzW zW lp rg mem f u ∧ gt (f * 480 + u) = la_pl T kd fd fa fb nzW zW lp rg mem f (u + 1) ∧ ma (f * 480 + u) = (1 : Int32) <<< (nI f &&& 31)
theorem yr_92 (hK : la_K n g_trips b_kinds b_nzWay b_zWay lp) (hF : rl_F n b_kinds b_fd b_fa b_fb) (hf : f < 8) (hch : bt ch f = true)
    (K : ∀ ow pv tr vs lo gt ma ex rd wr, yr_D n g_trips b_kinds b_fd b_fa b_fb b_nzWay b_zWay lp rg mem ch f ow pv vs lo gt ma ex rd wr → yr_F f b_own b_priv b_visits b_lineOf b_goneTo b_mates b_exits b_reads b_writes ow pv vs lo gt ma ex rd wr → post (g_lanes, g_lines, g_trips, g_logSize, nI n, g_sealed, g_clash, b_kinds, b_fd, b_fa, b_fb, b_nzWay, b_zWay, b_post, b_seen, b_regs, b_mem, ow, pv, tr, vs, lo, gt, ma, ex, rd, wr, b_marks, b_logLine, b_logMask)) :
    ∀ fu v ow pv tr vs lo gt ma ex rd wr, 481 - v < fu → v ≤ la_tv n g_trips b_kinds b_fd b_fa b_fb b_nzWay b_zWay lp rg mem ch f → ly_R f (la_so g_trips b_kinds b_fd b_fa b_fb b_nzWay b_zWay lp rg mem f v).1 ow pv rd wr → (∀ t, t < 24 → tr t = (la_so g_trips b_kinds b_fd b_fa b_fb b_nzWay b_zWay lp rg mem f v).1.2.2.1 t) → yr_G f v g_trips b_kinds b_fd b_fa b_fb b_nzWay b_zWay lp rg mem vs lo gt ma → (v = la_tv n g_trips b_kinds b_fd b_fa b_fb b_nzWay b_zWay lp rg mem ch f → ex f = la_ex n g_trips b_kinds b_fd b_fa b_fb b_nzWay b_zWay lp rg mem ch f) →
      yr_F f b_own b_priv b_visits b_lineOf b_goneTo b_mates b_exits b_reads b_writes ow pv vs lo gt ma ex rd wr →
      wY_run_92 post (nI f) fu (la_pl g_trips b_kinds b_fd b_fa b_fb b_nzWay b_zWay lp rg mem f v) (nI v) g_lanes g_lines g_trips g_logSize (nI n) g_sealed g_clash b_kinds b_fd b_fa b_fb b_nzWay b_zWay b_post b_seen b_regs b_mem ow pv tr vs lo gt ma ex rd wr b_marks b_logLine b_logMask := by
  obtain ⟨t1, t2, t3⟩ := la_tv_s (fd := b_fd) (fa := b_fa) (fb := b_fb) (rg := rg) (mem := mem) hK hch
  have hn := hK.2.1
  intro fu
  induction fu with
  | zero => intro v _ _ _ _ _ _ _ _ _ _ h; omega
  | succ fu ih =>
    intro v ow pv tr vs lo gt ma ex rd wr hfu hv hR hT hG hE hFr
    rw [wY_run_92]
    dsimp only
    by_cases c : v = la_tv n g_trips b_kinds b_fd b_fa b_fb b_nzWay b_zWay lp rg mem ch f
    · have fin := K ow pv tr vs lo gt ma ex rd wr ⟨by rw [← c]; exact hR, by rw [← c]; exact hG.1, hE c, by rw [← c]; exact hG.2⟩ hFr
      have ep : la_pl g_trips b_kinds b_fd b_fa b_fb b_nzWay b_zWay lp rg mem f v = nI n ∨ la_pl g_trips b_kinds b_fd b_fa b_fb b_nzWay b_zWay lp rg mem f v = -1 := by rw [c]; exact t3
      refine br_c (fun _ => fin) (fun _ => ?_)
      rcases ep with e | e
      · rw [e]
        exact br_f (nI_pos (by omega)) (br_t (nI_le (Nat.le_refl _) (by omega)) fin)
      · rw [e]
        exact br_t bs_n1lt fin
    · obtain ⟨x, hx, ex'⟩ := t2 v (by omega)
      have epl : la_pl g_trips b_kinds b_fd b_fa b_fb b_nzWay b_zWay lp rg mem f v = nI x := ex'
      have cx : (nI x).toNatClampNeg = x := nI_clamp (by omega)
      have vx : vp_in (nI x) 24 := vp_in_nI (by omega) (by decide)
      have so1 : la_so g_trips b_kinds b_fd b_fa b_fb b_nzWay b_zWay lp rg mem f (v + 1) = (la_st g_trips b_kinds b_fd b_fa b_fb lp f x (la_so g_trips b_kinds b_fd b_fa b_fb b_nzWay b_zWay lp rg mem f v).1, la_to g_trips b_kinds b_fd b_nzWay b_zWay x (la_so g_trips b_kinds b_fd b_fa b_fb b_nzWay b_zWay lp rg mem f v).1) := by
        rw [la_so_s, ex', cx]
      have ei : nI f * 480 + nI v = nI (f * 480 + v) := bs_mad f 480 v
      have vi : vp_in (nI (f * 480 + v)) 3840 := vp_in_nI (by omega) (by decide)
      have ci : (nI (f * 480 + v)).toNatClampNeg = f * 480 + v := nI_clamp (by omega)
      have vf : vp_in (nI f) 8 := vp_in_nI hf (by decide)
      have cf : (nI f).toNatClampNeg = f := nI_clamp (by omega)
      have cn : (nI n).toNatClampNeg = n := nI_clamp (by omega)
      rw [epl]
      refine br_f (nI_ge (b := 480) (by omega) (by decide)) (br_f (nI_pos (by omega)) (br_f (nI_ge hx (by omega)) ?_))
      have go : ∀ ow' pv' tr' rd' wr', ly_R f (la_st g_trips b_kinds b_fd b_fa b_fb lp f x (la_so g_trips b_kinds b_fd b_fa b_fb b_nzWay b_zWay lp rg mem f v).1) ow' pv' rd' wr' → (∀ t, t < 24 → tr' t = (la_st g_trips b_kinds b_fd b_fa b_fb lp f x (la_so g_trips b_kinds b_fd b_fa b_fb b_nzWay b_zWay lp rg mem f v).1).2.2.1 t) → (∀ g, g < 8 → g ≠ f → ∀ s', ly_R g s' ow pv rd wr → ly_R g s' ow' pv' rd' wr') →
          wY_run_135 post (wY_run_92 post (nI f) fu) (nI f) (nI x) (nI v) (la_to g_trips b_kinds b_fd b_nzWay b_zWay x (la_so g_trips b_kinds b_fd b_fa b_fb b_nzWay b_zWay lp rg mem f v).1) g_lanes g_lines g_trips g_logSize (nI n) g_sealed g_clash b_kinds b_fd b_fa b_fb b_nzWay b_zWay b_post b_seen b_regs b_mem ow' pv' tr' vs lo gt ma ex rd' wr' b_marks b_logLine b_logMask := by
        intro ow' pv' tr' rd' wr' hR' hT' hFr'
        have ez : la_to g_trips b_kinds b_fd b_nzWay b_zWay x (la_so g_trips b_kinds b_fd b_fa b_fb b_nzWay b_zWay lp rg mem f v).1 = la_pl g_trips b_kinds b_fd b_fa b_fb b_nzWay b_zWay lp rg mem f (v + 1) := by
          unfold la_pl
          rw [so1]
        have nextG : yr_G f (v + 1) g_trips b_kinds b_fd b_fa b_fb b_nzWay b_zWay lp rg mem (upd vs f (nI (v + 1))) (upd lo (f * 480 + v) (nI x)) (upd gt (f * 480 + v) (la_pl g_trips b_kinds b_fd b_fa b_fb b_nzWay b_zWay lp rg mem f (v + 1))) (upd ma (f * 480 + v) ((1 : Int32) <<< (nI f &&& 31))) := by
          refine ⟨bs_us, fun u hu => ?_⟩
          by_cases e : u = v
          · subst e
            rw [bs_us, bs_us, bs_us]
            exact ⟨epl.symm, rfl, rfl⟩
          · rw [bs_un (by omega), bs_un (by omega), bs_un (by omega)]
            exact hG.2 u (by omega)
        have nextF : ∀ ex2 : Nat → Int32, (∀ g, g ≠ f → ex2 g = ex g) → yr_F f b_own b_priv b_visits b_lineOf b_goneTo b_mates b_exits b_reads b_writes ow' pv' (upd vs f (nI (v + 1))) (upd lo (f * 480 + v) (nI x)) (upd gt (f * 480 + v) (la_pl g_trips b_kinds b_fd b_fa b_fb b_nzWay b_zWay lp rg mem f (v + 1))) (upd ma (f * 480 + v) ((1 : Int32) <<< (nI f &&& 31))) ex2 rd' wr' := by
          intro ex2 h2
          obtain ⟨f1, f2, f3⟩ := hFr
          refine ⟨fun g hg hgf s' h => hFr' g hg hgf s' (f1 g hg hgf s' h), fun j hj => ?_, fun g hgf => ?_⟩
          · rw [bs_un (by omega), bs_un (by omega), bs_un (by omega)]
            exact f2 j hj
          · rw [bs_un hgf, h2 g hgf]
            exact f3 g hgf
        have nxt : ∀ ex2 : Nat → Int32, (∀ g, g ≠ f → ex2 g = ex g) → (v + 1 = la_tv n g_trips b_kinds b_fd b_fa b_fb b_nzWay b_zWay lp rg mem ch f → ex2 f = la_ex n g_trips b_kinds b_fd b_fa b_fb b_nzWay b_zWay lp rg mem ch f) → wY_run_92 post (nI f) fu (la_pl g_trips b_kinds b_fd b_fa b_fb b_nzWay b_zWay lp rg mem f (v + 1)) (nI (v + 1)) g_lanes g_lines g_trips g_logSize (nI n) g_sealed g_clash b_kinds b_fd b_fa b_fb b_nzWay b_zWay b_post b_seen b_regs b_mem ow' pv' tr' (upd vs f (nI (v + 1))) (upd lo (f * 480 + v) (nI x)) (upd gt (f * 480 + v) (la_pl g_trips b_kinds b_fd b_fa b_fb b_nzWay b_zWay lp rg mem f (v + 1))) (upd ma (f * 480 + v) ((1 : Int32) <<< (nI f &&& 31))) ex2 rd' wr' b_marks b_logLine b_logMask := by
          intro ex2 h1 h2
          exact ih (v + 1) _ _ _ _ _ _ _ _ _ _ (by omega) (by omega) (by rw [so1]; exact hR') (by rw [so1]; exact hT') nextG h2 (nextF ex2 h1)
        have hex : v + 1 = la_tv n g_trips b_kinds b_fd b_fa b_fb b_nzWay b_zWay lp rg mem ch f → la_ex n g_trips b_kinds b_fd b_fa b_fb b_nzWay b_zWay lp rg mem ch f = if la_pl g_trips b_kinds b_fd b_fa b_fb b_nzWay b_zWay lp rg mem f (v + 1) = -1 then nI x else nI n := by
          intro e
          unfold la_ex
          rw [← e, show v + 1 - 1 = v from rfl, epl]
        rw [ez]
        unfold wY_run_135
        rw [ei, ci, cf, nI_1]
        refine ⟨vi, nm_e ⟨vi, nm_e ⟨vi, nm_e ⟨vf, nm_e ?_⟩⟩⟩⟩
        unfold wY_run_200
        rw [cf, nI_1]
        rcases la_to_or (fd := b_fd) hK hx (la_so g_trips b_kinds b_fd b_fa b_fb b_nzWay b_zWay lp rg mem f v).1 with ⟨y, hy, ey, _⟩ | ⟨_, _, ey⟩
        · rw [ez] at ey
          rw [ey] at nxt hex ⊢
          refine br_t (nI_pos' (by omega)) (br_c (fun e => ⟨vf, nm_e (nm_e (nxt _ (fun g hg => bs_un hg) (fun q => ?_)))⟩) (fun e => nm_e (nxt _ (fun _ _ => rfl) (fun q => ?_))))
          · rw [bs_us, hex q, if_neg (wp_nm1 (by omega))]
          · exfalso
            rw [← q] at t3
            have t3' : la_pl g_trips b_kinds b_fd b_fa b_fb b_nzWay b_zWay lp rg mem f (v + 1) = nI n ∨ la_pl g_trips b_kinds b_fd b_fa b_fb b_nzWay b_zWay lp rg mem f (v + 1) = -1 := t3
            rw [ey] at t3'
            rcases t3' with w | w
            · exact e w
            · exact wp_nm1 (by omega) w
        · rw [ez] at ey
          rw [ey] at nxt hex ⊢
          refine br_f bs_n1le ⟨vf, nm_e (br_f (fun e => wp_nm1 (by omega) e.symm) (nm_e (nxt _ (fun g hg => bs_un hg) (fun q => ?_))))⟩
          rw [bs_us, hex q, if_pos rfl]
      refine ly_vis (lp := lp) (s := (la_so g_trips b_kinds b_fd b_fa b_fb b_nzWay b_zWay lp rg mem f v).1) hn hf hx hK.2.2.2.1 hK.2.2.2.2.1 hF (fun k => hK.2.2.2.2.2.2 x hx k) hR hT (fun ow' pv' tr' rd' wr' hR' hT' hFr' => ⟨fun htk => ?_, fun htk => ?_⟩)
      · have q := go ow' pv' tr' rd' wr' hR' hT' hFr'
        have e : la_to g_trips b_kinds b_fd b_nzWay b_zWay x (la_so g_trips b_kinds b_fd b_fa b_fb b_nzWay b_zWay lp rg mem f v).1 = b_zWay x := if_neg (by rw [htk]; decide)
        rw [e] at q
        rw [cx]
        exact br_t rfl ⟨vx, q⟩
      · have q := go ow' pv' tr' rd' wr' hR' hT' hFr'
        have e : la_to g_trips b_kinds b_fd b_nzWay b_zWay x (la_so g_trips b_kinds b_fd b_fa b_fb b_nzWay b_zWay lp rg mem f v).1 = b_nzWay x := if_pos htk
        rw [e] at q
        rw [cx]
        exact br_f bs_10 ⟨vx, q⟩
theorem yr_69 (K : ∀ tr, (∀ t, t < 24 → tr t = 0) → ∃ n92 : Nat, wY_run_92 post (nI f) n92 0 0 g_lanes g_lines g_trips g_logSize g_n g_sealed g_clash b_kinds b_fd b_fa b_fb b_nzWay b_zWay b_post b_seen b_regs b_mem b_own b_priv tr b_visits b_lineOf b_goneTo b_mates b_exits b_reads b_writes b_marks b_logLine b_logMask) : ∀ fu i tr, 24 - i < fu → i ≤ 24 → (∀ t, t < i → tr t = 0) → wY_run_69 post (nI f) g_lanes g_lines g_trips g_logSize g_n g_sealed g_clash fu (nI i) b_kinds b_fd b_fa b_fb b_nzWay b_zWay b_post b_seen b_regs b_mem b_own b_priv tr b_visits b_lineOf b_goneTo b_mates b_exits b_reads b_writes b_marks b_logLine b_logMask := by
  intro fu
  induction fu with
  | zero => intro i _ h; omega
  | succ fu ih =>
    intro i tr hf hi ht
    rw [wY_run_69]
    dsimp only
    by_cases c : 24 ≤ i
    · have : i = 24 := by omega
      subst this
      exact br_t (by decide) (K tr ht)
    · have ci : (nI i).toNatClampNeg = i := nI_clamp (by omega)
      rw [ci]
      refine br_f (nI_ge (b := 24) (by omega) (by decide)) ⟨vp_in_nI (by omega) (by decide), nm_e (nm_r (nI_1 i) (ih (i + 1) _ (by omega) (by omega) (fun t ht' => ?_)))⟩
      by_cases e : t = i
      · subst e; exact bs_us
      · rw [bs_un e]; exact ht t (by omega)
theorem yr_38 (hf8 : f < 8) (K : ∀ pv, (∀ c, c < 32 → pv (f * 32 + c) = b_mem c) → (∀ j, j < f * 32 ∨ f * 32 + 32 ≤ j → pv j = b_priv j) → ∃ n69 : Nat, wY_run_69 post (nI f) g_lanes g_lines g_trips g_logSize g_n g_sealed g_clash n69 0 b_kinds b_fd b_fa b_fb b_nzWay b_zWay b_post b_seen b_regs b_mem b_own pv b_trip b_visits b_lineOf b_goneTo b_mates b_exits b_reads b_writes b_marks b_logLine b_logMask) : ∀ fu i pv, 32 - i < fu → i ≤ 32 → (∀ c, c < i → pv (f * 32 + c) = b_mem c) → (∀ j, j < f * 32 ∨ f * 32 + 32 ≤ j → pv j = b_priv j) → wY_run_38 post (nI f) g_lanes g_lines g_trips g_logSize g_n g_sealed g_clash fu (nI i) b_kinds b_fd b_fa b_fb b_nzWay b_zWay b_post b_seen b_regs b_mem b_own pv b_trip b_visits b_lineOf b_goneTo b_mates b_exits b_reads b_writes b_marks b_logLine b_logMask := by
  intro fu
  induction fu with
  | zero => intro i _ h; omega
  | succ fu ih =>
    intro i pv hf hi ht ho
    rw [wY_run_38]
    dsimp only
    by_cases c : 32 ≤ i
    · have : i = 32 := by omega
      subst this
      exact br_t (by decide) (K pv ht ho)
    · have ci : (nI i).toNatClampNeg = i := nI_clamp (by omega)
      have e1 : nI f * 32 + nI i = nI (f * 32 + i) := bs_mad f 32 i
      have c1 : (nI (f * 32 + i)).toNatClampNeg = f * 32 + i := nI_clamp (by omega)
      rw [ci, e1, c1]
      refine br_f (nI_ge (b := 32) (by omega) (by decide)) ⟨vp_in_nI (by omega) (by decide), vp_in_nI (by omega) (by decide), nm_e (nm_r (nI_1 i) (ih (i + 1) _ (by omega) (by omega) (fun t ht' => ?_) (fun j hj => ?_)))⟩
      · by_cases e : t = i
        · subst e; exact bs_us
        · rw [bs_un (by omega)]; exact ht t (by omega)
      · rw [bs_un (by omega)]; exact ho j hj
theorem yr_2 (hf8 : f < 8) (K : ∀ ow, (∀ r, r < 8 → ow (f * 8 + r) = b_regs (f * 8 + r)) → (∀ j, j < f * 8 ∨ f * 8 + 8 ≤ j → ow j = b_own j) → ∃ n38 : Nat, wY_run_38 post (nI f) g_lanes g_lines g_trips g_logSize g_n g_sealed g_clash n38 0 b_kinds b_fd b_fa b_fb b_nzWay b_zWay b_post b_seen b_regs b_mem ow b_priv b_trip b_visits b_lineOf b_goneTo b_mates b_exits b_reads b_writes b_marks b_logLine b_logMask) : ∀ fu i ow, 8 - i < fu → i ≤ 8 → (∀ r, r < i → ow (f * 8 + r) = b_regs (f * 8 + r)) → (∀ j, j < f * 8 ∨ f * 8 + 8 ≤ j → ow j = b_own j) → wY_run_2 post (nI f) g_lanes g_lines g_trips g_logSize g_n g_sealed g_clash fu (nI i) b_kinds b_fd b_fa b_fb b_nzWay b_zWay b_post b_seen b_regs b_mem ow b_priv b_trip b_visits b_lineOf b_goneTo b_mates b_exits b_reads b_writes b_marks b_logLine b_logMask := by
  intro fu
  induction fu with
  | zero => intro i _ h; omega
  | succ fu ih =>
    intro i ow hf hi ht ho
    rw [wY_run_2]
    dsimp only
    by_cases c : 8 ≤ i
    · have : i = 8 := by omega
      subst this
      exact br_t (by decide) (K ow ht ho)
    · have e1 : nI f * 8 + nI i = nI (f * 8 + i) := bs_mad f 8 i
      have c1 : (nI (f * 8 + i)).toNatClampNeg = f * 8 + i := nI_clamp (by omega)
      rw [e1, c1]
      refine br_f (nI_ge (b := 8) (by omega) (by decide)) ⟨vp_in_nI (by omega) (by decide), vp_in_nI (by omega) (by decide), nm_e (nm_r (nI_1 i) (ih (i + 1) _ (by omega) (by omega) (fun t ht' => ?_) (fun j hj => ?_)))⟩
      · by_cases e : t = i
        · subst e; exact bs_us
        · rw [bs_un (by omega)]; exact ht t (by omega)
      · rw [bs_un (by omega)]; exact ho j hj
theorem yr_run (hK : la_K n g_trips b_kinds b_nzWay b_zWay lp) (hF : rl_F n b_kinds b_fd b_fa b_fb) (hf : f < 8) (hch : bt ch f = true) (hrg : ∀ r, r < 8 → b_regs (f * 8 + r) = rg (f * 8 + r)) (hmem : ∀ c, c < 32 → b_mem c = mem c) (hv : b_visits f = 0) (hrd : b_reads f = 0) (hwr : b_writes f = 0)
    (K : ∀ ow pv tr vs lo gt ma ex rd wr, yr_D n g_trips b_kinds b_fd b_fa b_fb b_nzWay b_zWay lp rg mem ch f ow pv vs lo gt ma ex rd wr → yr_F f b_own b_priv b_visits b_lineOf b_goneTo b_mates b_exits b_reads b_writes ow pv vs lo gt ma ex rd wr → post (g_lanes, g_lines, g_trips, g_logSize, nI n, g_sealed, g_clash, b_kinds, b_fd, b_fa, b_fb, b_nzWay, b_zWay, b_post, b_seen, b_regs, b_mem, ow, pv, tr, vs, lo, gt, ma, ex, rd, wr, b_marks, b_logLine, b_logMask)) : wpY_run post (g_lanes, g_lines, g_trips, g_logSize, nI n, g_sealed, g_clash, b_kinds, b_fd, b_fa, b_fb, b_nzWay, b_zWay, b_post, b_seen, b_regs, b_mem, b_own, b_priv, b_trip, b_visits, b_lineOf, b_goneTo, b_mates, b_exits, b_reads, b_writes, b_marks, b_logLine, b_logMask) (nI f) := by
  obtain ⟨t1, t2, t3⟩ := la_tv_s (fd := b_fd) (fa := b_fa) (fb := b_fb) (rg := rg) (mem := mem) hK hch
  have hn := hK.2.1
  have hn0 := hK.1
  have tpos : 0 < la_tv n g_trips b_kinds b_fd b_fa b_fb b_nzWay b_zWay lp rg mem ch f := by
    apply Classical.byContradiction
    intro c
    have c' : la_tv n g_trips b_kinds b_fd b_fa b_fb b_nzWay b_zWay lp rg mem ch f = 0 := by omega
    rw [c'] at t3
    rcases t3 with e | e
    · have e' : nI 0 = nI n := e
      have := bs_inj (by omega) (by omega) e'
      omega
    · have e' : (0 : Int32) = -1 := e
      exact absurd e' (by decide)
  unfold wpY_run
  dsimp only
  refine ⟨9, yr_2 hf (fun ow o1 o2 => ⟨33, ?_⟩) 9 0 b_own (by omega) (by omega) (fun r hr => absurd hr (Nat.not_lt_zero _)) (fun _ _ => rfl)⟩
  refine yr_38 hf (fun pv p1 p2 => ⟨25, ?_⟩) 33 0 b_priv (by omega) (by omega) (fun r hr => absurd hr (Nat.not_lt_zero _)) (fun _ _ => rfl)
  refine yr_69 (fun tr ht => ⟨482, ?_⟩) 25 0 b_trip (by omega) (by omega) (fun r hr => absurd hr (Nat.not_lt_zero _))
  refine yr_92 (ch := ch) hK hF hf hch (fun ow' pv' tr' vs lo gt ma ex rd wr hD hFr => K ow' pv' tr' vs lo gt ma ex rd wr hD ⟨fun g hg hgf s' h => hFr.1 g hg hgf s' ?_, hFr.2⟩) 482 0 ow pv tr b_visits b_lineOf b_goneTo b_mates b_exits b_reads b_writes (by omega) (by omega) ⟨fun r hr => ?_, fun c hc => ?_, hrd, hwr⟩ ht ⟨hv.trans nI_0.symm, fun u hu => absurd hu (Nat.not_lt_zero _)⟩ (fun e => by omega) ⟨fun _ _ _ _ h => h, fun _ _ => ⟨rfl, rfl, rfl⟩, fun _ _ => ⟨rfl, rfl⟩⟩
  · obtain ⟨h1, h2, h3⟩ := h
    exact ⟨fun r hr => by rw [o2 _ (by omega)]; exact h1 r hr, fun c hc => by rw [p2 _ (by omega)]; exact h2 c hc, h3⟩
  · exact (o1 r hr).trans (hrg r hr)
  · exact (p1 c hc).trans (hmem c hc)
end
end
section
/-! the reference: pairs of lanes -/
def yp_fi : Option Nat → Int32
  | none => -1
  | some v => nI v
/-- what the solo runs have written down -/
def yp_L (pl : Nat → Nat → Int32) (tv : Nat → Nat) (vs lo gt : Nat → Int32) : Prop := ∀ f, f < 8 → tv f ≤ 480 ∧ vs f = nI (tv f) ∧ ∀ u, u < tv f → lo (f * 480 + u) = pl f u ∧ gt (f * 480 + u) = pl f (u + 1)
def yp_B (pl : Nat → Nat → Int32) (tv : Nat → Nat) (rj : Int32 → Int32) (f g s : Nat) (ma ma' : Nat → Int32) : Prop :=
  ∀ h, h < 8 → ∀ u, u < tv h → ∀ b, b < 32 → (bt (ma' (h * 480 + u)) b = true ↔ bt (ma (h * 480 + u)) b = true ∨ (h = f ∧ b = g ∧ ∃ s', s' < s ∧ ∃ j, wp_pr pl tv rj f g s' = some (u, j)) ∨ (h = g ∧ b = f ∧ ∃ s', s' < s ∧ ∃ i, wp_pr pl tv rj f g s' = some (i, u)))
theorem yp_B0 {pl : Nat → Nat → Int32} {tv : Nat → Nat} {rj : Int32 → Int32} {f g : Nat} {ma : Nat → Int32} : yp_B pl tv rj f g 0 ma ma := by
  intro h _ u _ b _
  constructor
  · exact fun z => Or.inl z
  · intro z
    rcases z with z | ⟨_, _, s', z, _⟩ | ⟨_, _, s', z, _⟩
    · exact z
    · exact absurd z (Nat.not_lt_zero _)
    · exact absurd z (Nat.not_lt_zero _)
theorem yp_orb (x : Int32) {g b : Nat} (hg : g < 32) (hb : b < 32) : bt (x ||| ((1 : Int32) <<< (nI g &&& 31))) b = true ↔ bt x b = true ∨ b = g := by
  rw [b_or, bs_one g b hg hb]
  by_cases c : b = g
  · simp [c]
  · simp [c]
theorem yp_Bs {pl : Nat → Nat → Int32} {tv : Nat → Nat} {rj : Int32 → Int32} {f g s i j : Nat} {ma ma' : Nat → Int32} (hf : f < 8) (hg : g < 8) (hfg : f < g) (ht : ∀ f, f < 8 → tv f ≤ 480) (hB : yp_B pl tv rj f g s ma ma') (hp : wp_pr pl tv rj f g s = some (i, j)) :
    yp_B pl tv rj f g (s + 1) ma (upd (upd ma' (f * 480 + i) (ma' (f * 480 + i) ||| ((1 : Int32) <<< (nI g &&& 31)))) (g * 480 + j) (upd ma' (f * 480 + i) (ma' (f * 480 + i) ||| ((1 : Int32) <<< (nI g &&& 31))) (g * 480 + j) ||| ((1 : Int32) <<< (nI f &&& 31)))) := by
  obtain ⟨hi, hj, _⟩ := wp_pr_in hp
  have t1 := ht f hf
  have t2 := ht g hg
  intro h hh u hu b hb
  have t3 := ht h hh
  have hB' := hB h hh u hu b hb
  have e12 : g * 480 + j ≠ f * 480 + i := by omega
  have split1 : ∀ {P : Nat → Prop}, (∃ s', s' < s + 1 ∧ P s') ↔ (∃ s', s' < s ∧ P s') ∨ P s := by
    intro P
    constructor
    · intro ⟨s', z1, z2⟩
      by_cases c : s' = s
      · subst c; exact Or.inr z2
      · exact Or.inl ⟨s', by omega, z2⟩
    · intro z
      rcases z with ⟨s', z1, z2⟩ | z
      · exact ⟨s', by omega, z2⟩
      · exact ⟨s, by omega, z⟩
  rw [split1, split1]
  have pf : (∃ j', wp_pr pl tv rj f g s = some (u, j')) ↔ u = i := by
    rw [hp]
    constructor
    · intro ⟨j', z⟩
      cases z
      rfl
    · intro z
      subst z
      exact ⟨j, rfl⟩
  have pg : (∃ i', wp_pr pl tv rj f g s = some (i', u)) ↔ u = j := by
    rw [hp]
    constructor
    · intro ⟨j', z⟩
      cases z
      rfl
    · intro z
      subst z
      exact ⟨i, rfl⟩
  rw [pf, pg]
  by_cases c1 : h * 480 + u = g * 480 + j
  · have eh : h = g := by omega
    have eu : u = j := by omega
    subst eh eu
    rw [c1, bs_us, bs_un e12, yp_orb _ (by omega) hb, hB']
    constructor
    · intro z
      rcases z with (z | ⟨z1, _⟩ | ⟨z1, z2, z3⟩) | z
      · exact Or.inl z
      · omega
      · exact Or.inr (Or.inr ⟨z1, z2, Or.inl z3⟩)
      · exact Or.inr (Or.inr ⟨rfl, z, Or.inr rfl⟩)
    · intro z
      rcases z with z | ⟨z1, _⟩ | ⟨z1, z2, z3⟩
      · exact Or.inl (Or.inl z)
      · omega
      · exact Or.inr z2
  · rw [bs_un c1]
    by_cases c2 : h * 480 + u = f * 480 + i
    · have eh : h = f := by omega
      have eu : u = i := by omega
      subst eh eu
      rw [c2, bs_us, yp_orb _ (by omega) hb, hB']
      constructor
      · intro z
        rcases z with (z | ⟨z1, z2, z3⟩ | ⟨z1, _⟩) | z
        · exact Or.inl z
        · exact Or.inr (Or.inl ⟨z1, z2, Or.inl z3⟩)
        · omega
        · exact Or.inr (Or.inl ⟨rfl, z, Or.inr rfl⟩)
      · intro z
        rcases z with z | ⟨z1, z2, z3⟩ | ⟨z1, _⟩
        · exact Or.inl (Or.inl z)
        · exact Or.inr z2
        · omega
    · rw [bs_un c2, hB']
      constructor
      · intro z
        rcases z with z | ⟨z1, z2, z3⟩ | ⟨z1, z2, z3⟩
        · exact Or.inl z
        · exact Or.inr (Or.inl ⟨z1, z2, Or.inl z3⟩)
        · exact Or.inr (Or.inr ⟨z1, z2, Or.inl z3⟩)
      · intro z
        rcases z with z | ⟨z1, z2, z3⟩ | ⟨z1, z2, z3⟩
        · exact Or.inl z
        · rcases z3 with z3 | z3
          · exact Or.inr (Or.inl ⟨z1, z2, z3⟩)
          · subst z1 z3
            exact absurd rfl c2
        · rcases z3 with z3 | z3
          · exact Or.inr (Or.inr ⟨z1, z2, z3⟩)
          · subst z1 z3
            exact absurd rfl c1
section
variable {g_lanes g_lines g_trips g_logSize g_n g_sealed g_clash : Int32} {b_kinds b_fd b_fa b_fb b_nzWay b_zWay b_post b_seen b_regs b_mem b_own b_priv b_trip b_visits b_lineOf b_goneTo b_mates b_exits b_reads b_writes b_marks b_logLine b_logMask : Nat → Int32} {n f g : Nat} {pl : Nat → Nat → Int32} {tv : Nat → Nat} {rj : Int32 → Int32}
theorem yp_fv5 {post : Int32 → Prop} {r : Int32} (hf : f < 8) (hL : yp_L pl tv b_visits b_lineOf b_goneTo) : ∀ fu v, tv f - v < fu → v ≤ 480 → post (yp_fi (wp_FV (pl f) (tv f) r v)) → wY_firstVisit_5 post (nI f) r g_lanes g_lines g_trips g_logSize g_n g_sealed g_clash b_kinds b_fd b_fa b_fb b_nzWay b_zWay b_post b_seen b_regs b_mem b_own b_priv b_trip b_visits b_lineOf b_goneTo b_mates b_exits b_reads b_writes b_marks b_logLine b_logMask fu (nI v) := by
  obtain ⟨t1, t2, t3⟩ := hL f hf
  have cf : (nI f).toNatClampNeg = f := nI_clamp (by omega)
  have vf : vp_in (nI f) 8 := vp_in_nI hf (by decide)
  intro fu
  induction fu with
  | zero => intro v h; omega
  | succ fu ih =>
    intro v hfu hv hp
    rw [wY_firstVisit_5]
    dsimp only
    rw [cf, t2]
    refine ⟨vf, ?_⟩
    by_cases c : tv f ≤ v
    · rw [wp_FV_end c] at hp
      exact br_t (nI_le c (by omega)) hp
    · have e1 : nI f * 480 + nI v = nI (f * 480 + v) := bs_mad f 480 v
      have c1 : (nI (f * 480 + v)).toNatClampNeg = f * 480 + v := nI_clamp (by omega)
      rw [e1, c1, (t3 v (by omega)).1]
      refine br_f (nI_ge (by omega) (by omega)) ⟨vp_in_nI (by omega) (by decide), br_c (fun e => ?_) (fun e => nm_r (nI_1 v) ?_)⟩
      · rw [wp_FV_hit (by omega) e] at hp
        exact hp
      · rw [wp_FV_miss e] at hp
        exact ih (v + 1) (by omega) (by omega) hp
theorem yp_fv {post : Int32 → Prop} {r : Int32} {i : Nat} (hf : f < 8) (hL : yp_L pl tv b_visits b_lineOf b_goneTo) (hi : i < tv f) (hp : post (yp_fi (wp_FV (pl f) (tv f) r (i + 1)))) : wpY_firstVisit post (g_lanes, g_lines, g_trips, g_logSize, g_n, g_sealed, g_clash, b_kinds, b_fd, b_fa, b_fb, b_nzWay, b_zWay, b_post, b_seen, b_regs, b_mem, b_own, b_priv, b_trip, b_visits, b_lineOf, b_goneTo, b_mates, b_exits, b_reads, b_writes, b_marks, b_logLine, b_logMask) (nI f) r (nI i) := by
  unfold wpY_firstVisit
  dsimp only
  have := (hL f hf).1
  exact nm_r (nI_1 i) ⟨481, yp_fv5 hf hL 481 (i + 1) (by omega) (by omega) hp⟩
def yp_X (tf tg : Nat) (x3 x4 : Int32) : Prop := x3 < 0 ∨ x4 < 0 ∨ (∃ i, x3 = nI i ∧ tf ≤ i ∧ i < 1000) ∨ (∃ j, x4 = nI j ∧ tg ≤ j ∧ j < 1000)
theorem yp_Xb {tf tg : Nat} {a b : Option Nat} (h : wp_both a b = none) : yp_X tf tg (yp_fi a) (yp_fi b) := by
  cases a with
  | none => exact Or.inl bs_n1lt
  | some i =>
    cases b with
    | none => exact Or.inr (Or.inl bs_n1lt)
    | some j => cases h
theorem yp_Sb {a b : Option Nat} {i j : Nat} (h : wp_both a b = some (i, j)) : yp_fi a = nI i ∧ yp_fi b = nI j := by
  obtain ⟨h1, h2⟩ := wp_both_some h
  rw [h1, h2]
  exact ⟨rfl, rfl⟩
theorem yp_8 {post : SY → Prop} (hn : n ≤ 24) (hf : f < 8) (hg : g < 8) (hfg : f < g) (hL : yp_L pl tv b_visits b_lineOf b_goneTo) (hpf : ∀ u, u < tv f → ∃ x, x < n ∧ pl f u = nI x)
    (hR : ∀ q, q ≤ n → ∃ k, pd_rc (wy_E n b_nzWay b_zWay) n k q) (hO : ∀ p' q', p' ≤ n → q' ≤ n → sl_O (wy_E n b_nzWay b_zWay) n b_post p' q') (hrj : ∀ x, x < n → ∃ r, rj (nI x) = nI r ∧ rl_J n b_nzWay b_zWay x r)
    (K : ∀ s ma', wp_pr pl tv rj f g s = none → yp_B pl tv rj f g s b_mates ma' → post (g_lanes, g_lines, g_trips, g_logSize, nI n, 1, g_clash, b_kinds, b_fd, b_fa, b_fb, b_nzWay, b_zWay, b_post, b_seen, b_regs, b_mem, b_own, b_priv, b_trip, b_visits, b_lineOf, b_goneTo, ma', b_exits, b_reads, b_writes, b_marks, b_logLine, b_logMask)) :
    ∀ fu s x3 x4 ma', 481 - s < fu → s ≤ 480 → (∀ i j, wp_pr pl tv rj f g s = some (i, j) → x3 = nI i ∧ x4 = nI j) → (wp_pr pl tv rj f g s = none → yp_X (tv f) (tv g) x3 x4) → yp_B pl tv rj f g s b_mates ma' →
      wY_pair_8 post (nI f) (nI g) g_lanes g_lines g_trips g_logSize (nI n) 1 g_clash fu x3 x4 (nI s) b_kinds b_fd b_fa b_fb b_nzWay b_zWay b_post b_seen b_regs b_mem b_own b_priv b_trip b_visits b_lineOf b_goneTo ma' b_exits b_reads b_writes b_marks b_logLine b_logMask := by
  obtain ⟨f1, f2, f3⟩ := hL f hf
  obtain ⟨g1, g2, g3⟩ := hL g hg
  have cf : (nI f).toNatClampNeg = f := nI_clamp (by omega)
  have vf : vp_in (nI f) 8 := vp_in_nI hf (by decide)
  have cg : (nI g).toNatClampNeg = g := nI_clamp (by omega)
  have vg : vp_in (nI g) 8 := vp_in_nI hg (by decide)
  intro fu
  induction fu with
  | zero => intro s _ _ _ h; omega
  | succ fu ih =>
    intro s x3 x4 ma' hfu hs h1 h2 hB
    rw [wY_pair_8]
    dsimp only
    rw [cf, cg, f2, g2]
    cases hp : wp_pr pl tv rj f g s with
    | none =>
      have fin := K s ma' hp hB
      have hX := h2 hp
      refine br_c (fun _ => fin) (fun _ => br_c (fun _ => fin) (fun n3 => br_c (fun _ => fin) (fun n4 => ⟨vf, br_c (fun _ => fin) (fun n5 => ⟨vg, br_c (fun _ => fin) (fun n6 => ?_)⟩)⟩)))
      exfalso
      rcases hX with z | z | ⟨i, e, z1, z2⟩ | ⟨j, e, z1, z2⟩
      · exact n3 z
      · exact n4 z
      · rw [e] at n5
        exact n5 (nI_le z1 (by omega))
      · rw [e] at n6
        exact n6 (nI_le z1 (by omega))
    | some p =>
      obtain ⟨i, j⟩ := p
      obtain ⟨e3, e4⟩ := h1 i j hp
      obtain ⟨hi, hj, hsi, hsj⟩ := wp_pr_in hp
      subst e3 e4
      have e6 : nI f * 480 + nI i = nI (f * 480 + i) := bs_mad f 480 i
      have e7 : nI g * 480 + nI j = nI (g * 480 + j) := bs_mad g 480 j
      have v6 : vp_in (nI (f * 480 + i)) 3840 := vp_in_nI (by omega) (by decide)
      have v7 : vp_in (nI (g * 480 + j)) 3840 := vp_in_nI (by omega) (by decide)
      have c6 : (nI (f * 480 + i)).toNatClampNeg = f * 480 + i := nI_clamp (by omega)
      have c7 : (nI (g * 480 + j)).toNatClampNeg = g * 480 + j := nI_clamp (by omega)
      refine br_f (nI_ge (b := 480) (by omega) (by decide)) (br_f (nI_pos (by omega)) (br_f (nI_pos (by omega)) ⟨vf, br_f (nI_ge hi (by omega)) ⟨vg, br_f (nI_ge hj (by omega)) (nm_r e6 (nm_r e7 ?_))⟩⟩))
      rw [c6, c7]
      obtain ⟨fl, fg⟩ := f3 i hi
      obtain ⟨gl, gg⟩ := g3 j hj
      have hB2 := yp_Bs hf hg hfg (fun f hf => (hL f hf).1) hB hp
      have hnx := wp_pr_s hp
      have go : ∀ y3 y4 : Int32, (∀ i' j', wp_nx pl tv rj f g i j = some (i', j') → y3 = nI i' ∧ y4 = nI j') → (wp_nx pl tv rj f g i j = none → yp_X (tv f) (tv g) y3 y4) → wY_pair_8 post (nI f) (nI g) g_lanes g_lines g_trips g_logSize (nI n) 1 g_clash fu y3 y4 (nI (s + 1)) b_kinds b_fd b_fa b_fb b_nzWay b_zWay b_post b_seen b_regs b_mem b_own b_priv b_trip b_visits b_lineOf b_goneTo (upd (upd ma' (f * 480 + i) (ma' (f * 480 + i) ||| ((1 : Int32) <<< (nI g &&& 31)))) (g * 480 + j) (upd ma' (f * 480 + i) (ma' (f * 480 + i) ||| ((1 : Int32) <<< (nI g &&& 31))) (g * 480 + j) ||| ((1 : Int32) <<< (nI f &&& 31)))) b_exits b_reads b_writes b_marks b_logLine b_logMask := by
        intro y3 y4 k1 k2
        refine ih (s + 1) y3 y4 _ (by omega) (by omega) (fun i' j' z => k1 i' j' (by rw [← hnx]; exact z)) (fun z => k2 (by rw [← hnx]; exact z)) hB2
      refine ⟨v6, v6, nm_e ⟨v7, v7, nm_e ⟨v6, ?_⟩⟩⟩
      rw [fg, gg, fl]
      by_cases c1 : pl f (i + 1) < 0
      · have e : wp_nx pl tv rj f g i j = none := if_pos (Or.inl c1)
        refine br_t c1 (nm_r (nI_1 s) (go _ _ (fun i' j' z => ?_) (fun _ => Or.inl bs_n1lt)))
        rw [e] at z; cases z
      · refine br_f c1 ⟨v7, ?_⟩
        by_cases c2 : 0 ≤ pl g (j + 1)
        · refine br_t c2 ⟨v6, v7, ?_⟩
          have hneg : ¬ (pl f (i + 1) < 0 ∨ pl g (j + 1) < 0) := by
            intro z
            rcases z with z | z
            · exact c1 z
            · exact absurd z (Int32.not_lt.mpr c2)
          by_cases c3 : pl f (i + 1) = pl g (j + 1)
          · have e : wp_nx pl tv rj f g i j = wp_both (wp_FV (pl f) (tv f) (pl f (i + 1)) (i + 1)) (wp_FV (pl g) (tv g) (pl f (i + 1)) (j + 1)) := by
              unfold wp_nx
              rw [if_neg hneg, if_pos c3]
            refine br_t c3 (nm_r (nI_1 i) (nm_r (nI_1 j) (nm_r (nI_1 s) (go _ _ (fun i' j' z => ?_) (fun z => ?_)))))
            · rw [e] at z
              obtain ⟨z1, z2⟩ := wp_both_some z
              by_cases q1 : i + 1 < tv f
              · rw [wp_FV_hit q1 rfl] at z1
                by_cases q2 : j + 1 < tv g
                · rw [wp_FV_hit q2 c3.symm] at z2
                  cases z1; cases z2
                  exact ⟨rfl, rfl⟩
                · rw [wp_FV_end (by omega)] at z2
                  cases z2
              · rw [wp_FV_end (by omega)] at z1
                cases z1
            · by_cases q1 : i + 1 < tv f
              · by_cases q2 : j + 1 < tv g
                · rw [e, wp_FV_hit q1 rfl, wp_FV_hit q2 c3.symm] at z
                  cases z
                · exact Or.inr (Or.inr (Or.inr ⟨j + 1, rfl, by omega, by omega⟩))
              · exact Or.inr (Or.inr (Or.inl ⟨i + 1, rfl, by omega, by omega⟩))
          · have e : wp_nx pl tv rj f g i j = wp_both (wp_FV (pl f) (tv f) (rj (pl f i)) (i + 1)) (wp_FV (pl g) (tv g) (rj (pl f i)) (j + 1)) := by
              unfold wp_nx
              rw [if_neg hneg, if_neg c3]
            refine br_f c3 ⟨v6, ?_⟩
            obtain ⟨x, hx, ex⟩ := hpf i hi
            obtain ⟨r, er, hJ⟩ := hrj x hx
            rw [ex] at e ⊢
            rw [er] at e
            refine sl_rj hn hx hR hO hJ (yp_fv hf hL hi (yp_fv hg hL hj (nm_r (nI_1 s) (go _ _ (fun i' j' z => ?_) (fun z => ?_)))))
            · rw [e] at z
              exact yp_Sb z
            · rw [e] at z
              exact yp_Xb z
        · have e : wp_nx pl tv rj f g i j = none := if_pos (Or.inr (Int32.not_le.mp c2))
          refine br_f c2 (nm_r (nI_1 s) (go _ _ (fun i' j' z => ?_) (fun _ => Or.inl bs_n1lt)))
          rw [e] at z; cases z
def yp_P (pl : Nat → Nat → Int32) (tv : Nat → Nat) (rj : Int32 → Int32) (f g : Nat) (ma ma' : Nat → Int32) : Prop :=
  ∀ h, h < 8 → ∀ u, u < tv h → ∀ b, b < 32 → (bt (ma' (h * 480 + u)) b = true ↔ bt (ma (h * 480 + u)) b = true ∨ (h = f ∧ b = g ∧ ∃ j, wp_T pl tv rj f g u j) ∨ (h = g ∧ b = f ∧ ∃ i, wp_T pl tv rj f g i u))
theorem yp_pair {post : SY → Prop} (hn : n ≤ 24) (hf : f < 8) (hg : g < 8) (hfg : f < g) (hL : yp_L pl tv b_visits b_lineOf b_goneTo) (hpf : ∀ u, u < tv f → ∃ x, x < n ∧ pl f u = nI x)
    (hR : ∀ q, q ≤ n → ∃ k, pd_rc (wy_E n b_nzWay b_zWay) n k q) (hO : ∀ p' q', p' ≤ n → q' ≤ n → sl_O (wy_E n b_nzWay b_zWay) n b_post p' q') (hrj : ∀ x, x < n → ∃ r, rj (nI x) = nI r ∧ rl_J n b_nzWay b_zWay x r)
    (K : ∀ ma', yp_P pl tv rj f g b_mates ma' → post (g_lanes, g_lines, g_trips, g_logSize, nI n, 1, g_clash, b_kinds, b_fd, b_fa, b_fb, b_nzWay, b_zWay, b_post, b_seen, b_regs, b_mem, b_own, b_priv, b_trip, b_visits, b_lineOf, b_goneTo, ma', b_exits, b_reads, b_writes, b_marks, b_logLine, b_logMask)) : wpY_pair post (g_lanes, g_lines, g_trips, g_logSize, nI n, 1, g_clash, b_kinds, b_fd, b_fa, b_fb, b_nzWay, b_zWay, b_post, b_seen, b_regs, b_mem, b_own, b_priv, b_trip, b_visits, b_lineOf, b_goneTo, b_mates, b_exits, b_reads, b_writes, b_marks, b_logLine, b_logMask) (nI f) (nI g) := by
  obtain ⟨f1, f2, f3⟩ := hL f hf
  obtain ⟨g1, g2, g3⟩ := hL g hg
  unfold wpY_pair
  dsimp only
  refine ⟨482, yp_8 hn hf hg hfg hL hpf hR hO hrj (fun s ma' hp hB => K ma' (fun h hh u hu b hb => ?_)) 482 0 0 0 _ (by omega) (by omega) (fun i j z => ?_) (fun z => ?_) yp_B0⟩
  · have all : ∀ s' i j, wp_pr pl tv rj f g s' = some (i, j) → s' < s := by
      intro s' i j z
      apply Classical.byContradiction
      intro c
      have := wp_pr_nk hp (s' - s)
      rw [show s + (s' - s) = s' by omega, z] at this
      cases this
    rw [hB h hh u hu b hb]
    constructor
    · intro z
      rcases z with z | ⟨z1, z2, s', _, j, z3⟩ | ⟨z1, z2, s', _, i, z3⟩
      · exact Or.inl z
      · exact Or.inr (Or.inl ⟨z1, z2, j, s', z3⟩)
      · exact Or.inr (Or.inr ⟨z1, z2, i, s', z3⟩)
    · intro z
      rcases z with z | ⟨z1, z2, j, s', z3⟩ | ⟨z1, z2, i, s', z3⟩
      · exact Or.inl z
      · exact Or.inr (Or.inl ⟨z1, z2, s', all s' _ _ z3, j, z3⟩)
      · exact Or.inr (Or.inr ⟨z1, z2, s', all s' _ _ z3, i, z3⟩)
  · have z' : (if 0 < tv f ∧ 0 < tv g then some (0, 0) else none) = some (i, j) := z
    split at z'
    · cases z'
      exact ⟨rfl, rfl⟩
    · cases z'
  · have z' : (if 0 < tv f ∧ 0 < tv g then some (0, 0) else none) = (none : Option (Nat × Nat)) := z
    by_cases q1 : 0 < tv f
    · by_cases q2 : 0 < tv g
      · rw [if_pos ⟨q1, q2⟩] at z'
        cases z'
      · exact Or.inr (Or.inr (Or.inr ⟨0, rfl, by omega, by omega⟩))
    · exact Or.inr (Or.inr (Or.inl ⟨0, rfl, by omega, by omega⟩))
end
end
section
/-! the reference's launch: marks, clashes, commits -/
def ym_mc (kd p : Nat → Int32) : Nat → Nat
  | 0 => 0
  | v + 1 => ym_mc kd p v + (if kd (p v).toNatClampNeg = 12 then 1 else 0)
theorem ym_mt {kd p : Nat → Int32} {v : Nat} (h : kd (p v).toNatClampNeg = 12) : ym_mc kd p (v + 1) = ym_mc kd p v + 1 := by
  show ym_mc kd p v + (if kd (p v).toNatClampNeg = 12 then 1 else 0) = _
  rw [if_pos h]
theorem ym_mf {kd p : Nat → Int32} {v : Nat} (h : ¬ kd (p v).toNatClampNeg = 12) : ym_mc kd p (v + 1) = ym_mc kd p v := by
  show ym_mc kd p v + (if kd (p v).toNatClampNeg = 12 then 1 else 0) = _
  rw [if_neg h]; rfl
theorem ym_le {kd p : Nat → Int32} (v : Nat) : ym_mc kd p v ≤ v := by
  induction v with
  | zero => exact Nat.le_refl 0
  | succ v ih =>
    by_cases h : kd (p v).toNatClampNeg = 12
    · rw [ym_mt h]; omega
    · rw [ym_mf h]; omega
theorem ym_lt {kd p : Nat → Int32} {u : Nat} (h : kd (p u).toNatClampNeg = 12) : ∀ v, u < v → ym_mc kd p u < ym_mc kd p v := by
  intro v
  induction v with
  | zero => intro hv; omega
  | succ v ih =>
    intro hv
    by_cases e : u = v
    · subst e; rw [ym_mt h]; omega
    · have := ih (by omega)
      by_cases h' : kd (p v).toNatClampNeg = 12
      · rw [ym_mt h']; omega
      · rw [ym_mf h']; exact this
theorem ym_find {kd p : Nat → Int32} {k : Nat} : ∀ v, k < ym_mc kd p v → ∃ u, u < v ∧ kd (p u).toNatClampNeg = 12 ∧ ym_mc kd p u = k := by
  intro v
  induction v with
  | zero => intro h; exact absurd h (Nat.not_lt_zero _)
  | succ v ih =>
    intro h
    by_cases c : k < ym_mc kd p v
    · obtain ⟨u, h1, h2, h3⟩ := ih c
      exact ⟨u, by omega, h2, h3⟩
    · by_cases h' : kd (p v).toNatClampNeg = 12
      · rw [ym_mt h'] at h
        exact ⟨v, by omega, h', by omega⟩
      · rw [ym_mf h'] at h
        exact absurd h c
/-- the marks of lane f, up to its visit v -/
def ym_G (kd p : Nat → Int32) (G f v : Nat) (M mk ll lm : Nat → Int32) : Prop :=
  mk f = nI (ym_mc kd p v) ∧ ∀ u, u < v → kd (p u).toNatClampNeg = 12 → ym_mc kd p u < G → ll (f * 16 + ym_mc kd p u) = p u ∧ lm (f * 16 + ym_mc kd p u) = M u
theorem ym_Gf {kd p M mk ll lm : Nat → Int32} {G f v : Nat} (h : ym_G kd p G f v M mk ll lm) (hk : ¬ kd (p v).toNatClampNeg = 12) : ym_G kd p G f (v + 1) M mk ll lm := by
  refine ⟨by rw [ym_mf hk]; exact h.1, fun u hu h1 h2 => ?_⟩
  by_cases e : u = v
  · subst e; exact absurd h1 hk
  · exact h.2 u (by omega) h1 h2
theorem ym_Gt {kd p M mk ll lm : Nat → Int32} {G f v : Nat} (h : ym_G kd p G f v M mk ll lm) (hk : kd (p v).toNatClampNeg = 12) (hG : ¬ ym_mc kd p v < G) : ym_G kd p G f (v + 1) M (upd mk f (nI (ym_mc kd p v + 1))) ll lm := by
  refine ⟨by rw [ym_mt hk, bs_us], fun u hu h1 h2 => ?_⟩
  by_cases e : u = v
  · subst e; exact absurd h2 hG
  · exact h.2 u (by omega) h1 h2
theorem ym_Gs {kd p M mk ll lm : Nat → Int32} {G f v : Nat} (h : ym_G kd p G f v M mk ll lm) (hk : kd (p v).toNatClampNeg = 12) : ym_G kd p G f (v + 1) M (upd mk f (nI (ym_mc kd p v + 1))) (upd ll (f * 16 + ym_mc kd p v) (p v)) (upd lm (f * 16 + ym_mc kd p v) (M v)) := by
  refine ⟨by rw [ym_mt hk, bs_us], fun u hu h1 h2 => ?_⟩
  by_cases e : u = v
  · subst e
    rw [bs_us, bs_us]
    exact ⟨rfl, rfl⟩
  · have := ym_lt h1 v (by omega)
    rw [bs_un (by omega), bs_un (by omega)]
    exact h.2 u (by omega) h1 h2
section
variable {g_lanes g_lines g_trips g_logSize g_n g_sealed g_clash : Int32} {b_kinds b_fd b_fa b_fb b_nzWay b_zWay b_post b_seen b_regs b_mem b_own b_priv b_trip b_visits b_lineOf b_goneTo b_mates b_exits b_reads b_writes b_marks b_logLine b_logMask : Nat → Int32} {n f G L : Nat} {pl : Nat → Nat → Int32} {tv : Nat → Nat}
theorem ym_118 {post : Int32 → SY → Prop} {x2 : Int32} {J : Int32 → (Nat → Int32) → (Nat → Int32) → (Nat → Int32) → (Nat → Int32) → (Nat → Int32) → (Nat → Int32) → (Nat → Int32) → (Nat → Int32) → (Nat → Int32) → (Nat → Int32) → (Nat → Int32) → (Nat → Int32) → (Nat → Int32) → (Nat → Int32) → (Nat → Int32) → (Nat → Int32) → (Nat → Int32) → (Nat → Int32) → (Nat → Int32) → (Nat → Int32) → (Nat → Int32) → (Nat → Int32) → (Nat → Int32) → Prop}
    (hn : n ≤ 24) (hf : f < 8) (hG : G ≤ 16) (hL : yp_L pl tv b_visits b_lineOf b_goneTo) (hpf : ∀ u, u < tv f → ∃ x, x < n ∧ pl f u = nI x)
    (K : ∀ mk ll lm, ym_G b_kinds (pl f) G f (tv f) (fun u => b_mates (f * 480 + u)) mk ll lm → (∀ g, g ≠ f → mk g = b_marks g) → (∀ j, j < f * 16 ∨ f * 16 + 16 ≤ j → ll j = b_logLine j ∧ lm j = b_logMask j) → J (nI (f + 1)) b_kinds b_fd b_fa b_fb b_nzWay b_zWay b_post b_seen b_regs b_mem b_own b_priv b_trip b_visits b_lineOf b_goneTo b_mates b_exits b_reads b_writes mk ll lm) :
    ∀ fu v mk ll lm, tv f - v < fu → v ≤ tv f → ym_G b_kinds (pl f) G f v (fun u => b_mates (f * 480 + u)) mk ll lm → (∀ g, g ≠ f → mk g = b_marks g) → (∀ j, j < f * 16 ∨ f * 16 + 16 ≤ j → ll j = b_logLine j ∧ lm j = b_logMask j) →
      wY_launch_118 post J x2 (nI f) g_lanes g_lines g_trips (nI G) g_n g_sealed g_clash fu (nI v) b_kinds b_fd b_fa b_fb b_nzWay b_zWay b_post b_seen b_regs b_mem b_own b_priv b_trip b_visits b_lineOf b_goneTo b_mates b_exits b_reads b_writes mk ll lm := by
  obtain ⟨t1, t2, t3⟩ := hL f hf
  have cf : (nI f).toNatClampNeg = f := nI_clamp (by omega)
  have vf : vp_in (nI f) 8 := vp_in_nI hf (by decide)
  intro fu
  induction fu with
  | zero => intro v _ _ _ h; omega
  | succ fu ih =>
    intro v mk ll lm hfu hv hM hg ho
    rw [wY_launch_118]
    dsimp only
    rw [cf, t2]
    refine ⟨vf, ?_⟩
    by_cases c : tv f ≤ v
    · have : v = tv f := by omega
      subst this
      exact br_t (nI_le c (by omega)) (nm_r (nI_1 f) (K mk ll lm hM hg ho))
    · have e5 : nI f * 480 + nI v = nI (f * 480 + v) := bs_mad f 480 v
      have c5 : (nI (f * 480 + v)).toNatClampNeg = f * 480 + v := nI_clamp (by omega)
      have v5 : vp_in (nI (f * 480 + v)) 3840 := vp_in_nI (by omega) (by decide)
      obtain ⟨x, hx, ex⟩ := hpf v (by omega)
      have el : b_lineOf (f * 480 + v) = nI x := (t3 v (by omega)).1.trans ex
      have cx : (nI x).toNatClampNeg = x := nI_clamp (by omega)
      have kx : b_kinds (pl f v).toNatClampNeg = b_kinds x := by rw [ex, cx]
      have hmc := ym_le (kd := b_kinds) (p := pl f) v
      have hg' : ∀ z : Int32, ∀ g, g ≠ f → upd mk f z g = b_marks g := fun z g hgf => by rw [bs_un hgf]; exact hg g hgf
      refine br_f (nI_ge (by omega) (by omega)) (nm_r e5 ⟨v5, ?_⟩)
      rw [c5, el, cx, hM.1]
      refine ⟨vp_in_nI (by omega) (by decide), br_c (fun k => ⟨vf, ?_⟩) (fun k => nm_r (nI_1 v) (ih (v + 1) mk ll lm (by omega) (by omega) (ym_Gf hM (by rw [kx]; exact k)) hg ho))⟩
      have k' : b_kinds (pl f v).toNatClampNeg = 12 := by rw [kx]; exact k
      by_cases hlt : ym_mc b_kinds (pl f) v < G
      · have e6 : nI f * 16 + nI (ym_mc b_kinds (pl f) v) = nI (f * 16 + ym_mc b_kinds (pl f) v) := bs_mad f 16 _
        have c6 : (nI (f * 16 + ym_mc b_kinds (pl f) v)).toNatClampNeg = f * 16 + ym_mc b_kinds (pl f) v := nI_clamp (by omega)
        have v6 : vp_in (nI (f * 16 + ym_mc b_kinds (pl f) v)) 128 := vp_in_nI (by omega) (by decide)
        rw [e6, c6]
        refine br_f (nI_ge hlt (by omega)) ⟨vf, v5, v6, nm_e ⟨vf, v5, v6, nm_e ?_⟩⟩
        unfold wY_launch_215
        rw [cf, hM.1, nI_1]
        have hs := ym_Gs hM k'
        rw [ex] at hs
        refine ⟨vf, vf, nm_e (nm_r (nI_1 v) (ih (v + 1) _ _ _ (by omega) (by omega) hs (hg' _) (fun j hj => ?_)))⟩
        rw [bs_un (by omega), bs_un (by omega)]
        exact ho j hj
      · refine br_t (nI_le (by omega) (by omega)) ?_
        unfold wY_launch_215
        rw [cf, hM.1, nI_1]
        exact ⟨vf, vf, nm_e (nm_r (nI_1 v) (ih (v + 1) _ _ _ (by omega) (by omega) (ym_Gt hM k' hlt) (hg' _) ho))⟩
theorem ym_107 {post : Int32 → SY → Prop} {x2 : Int32} (hn : n ≤ 24) (hL8 : L ≤ 8) (hG : G ≤ 16) (hL : yp_L pl tv b_visits b_lineOf b_goneTo) (hpf : ∀ f, f < 8 → ∀ u, u < tv f → ∃ x, x < n ∧ pl f u = nI x) (ht : ∀ f, L ≤ f → f < 8 → tv f = 0)
    (K : ∀ mk ll lm, (∀ f, f < 8 → ym_G b_kinds (pl f) G f (tv f) (fun u => b_mates (f * 480 + u)) mk ll lm) → ∃ n240 : Nat, wY_launch_240 post x2 (nI L) g_lines g_trips (nI G) g_n g_sealed b_kinds b_fd b_fa b_fb b_nzWay b_zWay b_post b_seen b_regs b_mem b_own b_priv b_trip b_visits b_lineOf b_goneTo b_mates b_exits b_reads b_writes mk ll lm n240 31 g_clash) :
    ∀ fu i mk ll lm, L - i < fu → i ≤ L → (∀ f, f < i → ym_G b_kinds (pl f) G f (tv f) (fun u => b_mates (f * 480 + u)) mk ll lm) → (∀ f, i ≤ f → f < 8 → mk f = 0) → wY_launch_107 post x2 (nI L) g_lines g_trips (nI G) g_n g_sealed g_clash fu (nI i) b_kinds b_fd b_fa b_fb b_nzWay b_zWay b_post b_seen b_regs b_mem b_own b_priv b_trip b_visits b_lineOf b_goneTo b_mates b_exits b_reads b_writes mk ll lm := by
  intro fu
  induction fu with
  | zero => intro i _ _ _ h; omega
  | succ fu ih =>
    intro i mk ll lm hfu hi h1 h2
    rw [wY_launch_107]
    dsimp only
    by_cases c : L ≤ i
    · have : i = L := by omega
      subst this
      refine br_t (nI_le c (by omega)) (K mk ll lm (fun f hf => ?_))
      by_cases q : f < i
      · exact h1 f q
      · refine ⟨?_, fun u hu => ?_⟩
        · rw [ht f (by omega) hf, h2 f (by omega) hf]; rfl
        · rw [ht f (by omega) hf] at hu
          exact absurd hu (Nat.not_lt_zero _)
    · refine br_f (nI_ge (by omega) (by omega)) ⟨482, ?_⟩
      have t1 := (hL i (by omega)).1
      refine ym_118 hn (by omega) hG hL (hpf i (by omega)) (fun mk' ll' lm' hM hg ho => ?_) 482 0 mk ll lm (by omega) (by omega) ⟨(h2 i (Nat.le_refl _) (by omega)).trans nI_0.symm, fun u hu => absurd hu (Nat.not_lt_zero _)⟩ (fun _ _ => rfl) (fun _ _ => ⟨rfl, rfl⟩)
      refine ih (i + 1) mk' ll' lm' (by omega) (by omega) (fun f hf => ?_) (fun f hf hf8 => ?_)
      · by_cases e : f = i
        · subst e; exact hM
        · obtain ⟨a1, a2⟩ := h1 f (by omega)
          refine ⟨by rw [hg f e]; exact a1, fun u hu q1 q2 => ?_⟩
          obtain ⟨b1, b2⟩ := ho (f * 16 + ym_mc b_kinds (pl f) u) (by omega)
          rw [b1, b2]
          exact a2 u hu q1 q2
      · rw [hg f (by omega)]
        exact h2 f (by omega) hf8
/-! clashes -/
def yc_C (rd wr : Nat → Int32) (c f g : Nat) : Prop := f ≠ g ∧ bt (wr f) c = true ∧ (bt (rd g) c = true ∨ bt (wr g) c = true)
def yc_A (L : Nat) (rd wr : Nat → Int32) (c : Nat) : Prop := ∃ f g, f < L ∧ g < L ∧ yc_C rd wr c f g
def yc_S (L : Nat) (rd wr : Nat → Int32) (c : Nat) (cl : Int32) : Prop :=
  (cl = -1 ∧ ∀ c', c ≤ c' → c' < 32 → ¬ yc_A L rd wr c') ∨ (∃ c0, c ≤ c0 ∧ c0 < 32 ∧ cl = nI c0 ∧ yc_A L rd wr c0 ∧ ∀ c', c ≤ c' → c' < c0 → ¬ yc_A L rd wr c')
theorem yc_259 {post : Int32 → SY → Prop} {x2 : Int32} {J240 J247 : Int32 → Int32 → Prop} {c : Nat} (hL8 : L ≤ 8) (hc : c < 32) (hf : f < L) :
    ∀ fu g (cl : Int32), L - g < fu → g ≤ L → ((∃ g', g ≤ g' ∧ g' < L ∧ yc_C b_reads b_writes c f g') → J247 (nI (f + 1)) (nI c)) → ((¬ ∃ g', g ≤ g' ∧ g' < L ∧ yc_C b_reads b_writes c f g') → J247 (nI (f + 1)) cl) →
      wY_launch_259 post J240 J247 x2 (nI c) (nI f) (nI L) g_lines g_trips g_logSize g_n g_sealed b_kinds b_fd b_fa b_fb b_nzWay b_zWay b_post b_seen b_regs b_mem b_own b_priv b_trip b_visits b_lineOf b_goneTo b_mates b_exits b_reads b_writes b_marks b_logLine b_logMask fu (nI g) cl := by
  intro fu
  induction fu with
  | zero => intro g _ h; omega
  | succ fu ih =>
    intro g cl hfu hg h1 h2
    rw [wY_launch_259]
    dsimp only
    by_cases q : L ≤ g
    · exact br_t (nI_le q (by omega)) (nm_r (nI_1 f) (h2 (fun ⟨g', a, b, _⟩ => by omega)))
    · have cf : (nI f).toNatClampNeg = f := nI_clamp (by omega)
      have cg : (nI g).toNatClampNeg = g := nI_clamp (by omega)
      have vf : vp_in (nI f) 8 := vp_in_nI (by omega) (by decide)
      have vg : vp_in (nI g) 8 := vp_in_nI (by omega) (by decide)
      rw [cf, cg]
      have skip : ¬ yc_C b_reads b_writes c f g → wY_launch_259 post J240 J247 x2 (nI c) (nI f) (nI L) g_lines g_trips g_logSize g_n g_sealed b_kinds b_fd b_fa b_fb b_nzWay b_zWay b_post b_seen b_regs b_mem b_own b_priv b_trip b_visits b_lineOf b_goneTo b_mates b_exits b_reads b_writes b_marks b_logLine b_logMask fu (nI (g + 1)) cl := by
        intro hno
        refine ih (g + 1) cl (by omega) (by omega) (fun ⟨g', a, b, d⟩ => h1 ⟨g', by omega, b, d⟩) (fun z => h2 (fun ⟨g', a, b, d⟩ => z ⟨g', ?_, b, d⟩))
        by_cases e : g' = g
        · subst e; exact absurd d hno
        · omega
      refine br_f (nI_ge (by omega) (by omega)) ⟨vf, vg, vg, nm_e (br_c (fun e => nm_r (nI_1 g) (skip (fun z => z.1 (bs_inj (by omega) (by omega) e)))) (fun e => ?_))⟩
      have hfg : f ≠ g := fun z => e (by rw [z])
      refine br_c (fun w => nm_r (nI_1 g) ?_) (fun w => nm_r (nI_1 g) (skip (fun z => w ?_)))
      · have w' := (bs_sbit _ c hc).mp w
        rw [b_and, b_or] at w'
        have hC : yc_C b_reads b_writes c f g := by
          refine ⟨hfg, ?_⟩
          simpa using w'
        have hr := h1 ⟨g, Nat.le_refl _, by omega, hC⟩
        clear h1 h2 skip
        exact ih (g + 1) (nI c) (by omega) (by omega) (fun _ => hr) (fun _ => hr)
      · refine (bs_sbit _ c hc).mpr ?_
        rw [b_and, b_or]
        obtain ⟨_, z1, z2⟩ := z
        simpa using And.intro z1 z2
theorem yc_247 {post : Int32 → SY → Prop} {x2 : Int32} {J240 : Int32 → Int32 → Prop} {c : Nat} (hL8 : L ≤ 8) (hc : c < 32) :
    ∀ fu f (cl : Int32), L - f < fu → f ≤ L → ((∃ f' g', f ≤ f' ∧ f' < L ∧ g' < L ∧ yc_C b_reads b_writes c f' g') → J240 (sd_m c) (nI c)) → ((¬ ∃ f' g', f ≤ f' ∧ f' < L ∧ g' < L ∧ yc_C b_reads b_writes c f' g') → J240 (sd_m c) cl) →
      wY_launch_247 post J240 x2 (nI c) (nI L) g_lines g_trips g_logSize g_n g_sealed b_kinds b_fd b_fa b_fb b_nzWay b_zWay b_post b_seen b_regs b_mem b_own b_priv b_trip b_visits b_lineOf b_goneTo b_mates b_exits b_reads b_writes b_marks b_logLine b_logMask fu (nI f) cl := by
  intro fu
  induction fu with
  | zero => intro f _ h; omega
  | succ fu ih =>
    intro f cl hfu hf h1 h2
    rw [wY_launch_247]
    dsimp only
    by_cases q : L ≤ f
    · exact br_t (nI_le q (by omega)) (nm_r (sd_m1 c) (h2 (fun ⟨f', g', a, b, _⟩ => by omega)))
    · refine br_f (nI_ge (by omega) (by omega)) ⟨L + 1, yc_259 hL8 hc (by omega) (L + 1) 0 cl (by omega) (by omega) (fun ⟨g', _, b, d⟩ => ?_) (fun z => ?_)⟩
      · have hr := h1 ⟨f, g', Nat.le_refl _, by omega, b, d⟩
        exact ih (f + 1) (nI c) (by omega) (by omega) (fun _ => hr) (fun _ => hr)
      · refine ih (f + 1) cl (by omega) (by omega) (fun ⟨f', g', a, b, d, e⟩ => h1 ⟨f', g', by omega, b, d, e⟩) (fun w => h2 (fun ⟨f', g', a, b, d, e⟩ => w ⟨f', g', ?_, b, d, e⟩))
        by_cases e2 : f' = f
        · subst e2
          exact absurd ⟨g', Nat.zero_le _, d, e⟩ z
        · omega
theorem yc_240 {post : Int32 → SY → Prop} {x2 : Int32} (hL8 : L ≤ 8) (K0 : (∀ c, c < 32 → ¬ yc_A L b_reads b_writes c) → ∃ n345 : Nat, wY_launch_345 post x2 (nI L) g_lines g_trips g_logSize g_n g_sealed (-1) n345 0 b_kinds b_fd b_fa b_fb b_nzWay b_zWay b_post b_seen b_regs b_mem b_own b_priv b_trip b_visits b_lineOf b_goneTo b_mates b_exits b_reads b_writes b_marks b_logLine b_logMask)
    (K1 : ∀ c0, c0 < 32 → yc_A L b_reads b_writes c0 → (∀ c', c' < c0 → ¬ yc_A L b_reads b_writes c') → post 11 (nI L, g_lines, g_trips, g_logSize, g_n, g_sealed, nI c0, b_kinds, b_fd, b_fa, b_fb, b_nzWay, b_zWay, b_post, b_seen, b_regs, b_mem, b_own, b_priv, b_trip, b_visits, b_lineOf, b_goneTo, b_mates, b_exits, b_reads, b_writes, b_marks, b_logLine, b_logMask)) :
    ∀ c (cl : Int32), c ≤ 32 → yc_S L b_reads b_writes c cl → wY_launch_240 post x2 (nI L) g_lines g_trips g_logSize g_n g_sealed b_kinds b_fd b_fa b_fb b_nzWay b_zWay b_post b_seen b_regs b_mem b_own b_priv b_trip b_visits b_lineOf b_goneTo b_mates b_exits b_reads b_writes b_marks b_logLine b_logMask (c + 1) (sd_m c) cl := by
  intro c
  induction c with
  | zero =>
    intro cl _ hS
    rw [wY_launch_240]
    refine br_t bs_n1lt ?_
    rcases hS with ⟨e, h⟩ | ⟨c0, _, h0, e, h1, h2⟩
    · rw [e]
      exact br_t bs_n1lt (K0 (fun c hc => h c (Nat.zero_le _) hc))
    · rw [e]
      exact br_f (nI_pos (by omega)) (K1 c0 h0 h1 (fun c' hc' => h2 c' (Nat.zero_le _) hc'))
  | succ c ih =>
    intro cl hc hS
    rw [wY_launch_240]
    have em : sd_m (c + 1) = nI c := rfl
    rw [em]
    refine br_f (nI_pos (by omega)) ⟨L + 1, yc_247 hL8 (by omega) (L + 1) 0 cl (by omega) (by omega) (fun ⟨f', g', _, b, d, e⟩ => ?_) (fun z => ?_)⟩
    · exact ih (nI c) (by omega) (Or.inr ⟨c, Nat.le_refl _, by omega, rfl, ⟨f', g', b, d, e⟩, fun c' h1 h2 => by omega⟩)
    · have hno : ¬ yc_A L b_reads b_writes c := fun ⟨f', g', a, b, d⟩ => z ⟨f', g', Nat.zero_le _, a, b, d⟩
      refine ih cl (by omega) ?_
      rcases hS with ⟨e, h⟩ | ⟨c0, q1, h0, e, h1, h2⟩
      · refine Or.inl ⟨e, fun c' h3 h4 => ?_⟩
        by_cases e2 : c' = c
        · subst e2; exact hno
        · exact h c' (by omega) h4
      · refine Or.inr ⟨c0, by omega, h0, e, h1, fun c' h3 h4 => ?_⟩
        by_cases e2 : c' = c
        · subst e2; exact hno
        · exact h2 c' (by omega) h4
/-! commits -/
def yc_cm (wr pv me : Nat → Int32) : Nat → Nat → Int32
  | 0, c => me c
  | i + 1, c => if bt (wr i) c = true then pv (i * 32 + c) else yc_cm wr pv me i c
theorem yc_405 {post : Int32 → SY → Prop} {x2 : Int32} {J : Int32 → (Nat → Int32) → (Nat → Int32) → (Nat → Int32) → (Nat → Int32) → (Nat → Int32) → (Nat → Int32) → (Nat → Int32) → (Nat → Int32) → (Nat → Int32) → (Nat → Int32) → (Nat → Int32) → (Nat → Int32) → (Nat → Int32) → (Nat → Int32) → (Nat → Int32) → (Nat → Int32) → (Nat → Int32) → (Nat → Int32) → (Nat → Int32) → (Nat → Int32) → (Nat → Int32) → (Nat → Int32) → (Nat → Int32) → Prop}
    (hf : f < 8) (K : ∀ me, (∀ c, c < 32 → me c = if bt (b_writes f) c = true then b_priv (f * 32 + c) else b_mem c) → J (nI (f + 1)) b_kinds b_fd b_fa b_fb b_nzWay b_zWay b_post b_seen b_regs me b_own b_priv b_trip b_visits b_lineOf b_goneTo b_mates b_exits b_reads b_writes b_marks b_logLine b_logMask) :
    ∀ fu i me, 32 - i < fu → i ≤ 32 → (∀ c, c < i → me c = if bt (b_writes f) c = true then b_priv (f * 32 + c) else b_mem c) → (∀ c, i ≤ c → me c = b_mem c) → wY_launch_405 post J x2 (nI f) g_lanes g_lines g_trips g_logSize g_n g_sealed g_clash fu (nI i) b_kinds b_fd b_fa b_fb b_nzWay b_zWay b_post b_seen b_regs me b_own b_priv b_trip b_visits b_lineOf b_goneTo b_mates b_exits b_reads b_writes b_marks b_logLine b_logMask := by
  intro fu
  induction fu with
  | zero => intro i _ h; omega
  | succ fu ih =>
    intro i me hfu hi h1 h2
    rw [wY_launch_405]
    dsimp only
    by_cases q : 32 ≤ i
    · have : i = 32 := by omega
      subst this
      exact br_t (by decide) (nm_r (nI_1 f) (K me h1))
    · have cf : (nI f).toNatClampNeg = f := nI_clamp (by omega)
      have ci : (nI i).toNatClampNeg = i := nI_clamp (by omega)
      have e1 : nI f * 32 + nI i = nI (f * 32 + i) := bs_mad f 32 i
      have c1 : (nI (f * 32 + i)).toNatClampNeg = f * 32 + i := nI_clamp (by omega)
      rw [cf, ci, e1, c1]
      refine br_f (nI_ge (b := 32) (by omega) (by decide)) ⟨vp_in_nI hf (by decide), br_c (fun w => ⟨vp_in_nI (by omega) (by decide), vp_in_nI (by omega) (by decide), nm_e (nm_r (nI_1 i) (ih (i + 1) _ (by omega) (by omega) (fun c hc => ?_) (fun c hc => ?_)))⟩) (fun w => nm_r (nI_1 i) (ih (i + 1) _ (by omega) (by omega) (fun c hc => ?_) (fun c hc => h2 c (by omega))))⟩
      · by_cases e : c = i
        · subst e
          rw [bs_us, if_pos ((bs_sbit _ c (by omega)).mp w)]
        · rw [bs_un e]
          exact h1 c (by omega)
      · rw [bs_un (by omega)]
        exact h2 c (by omega)
      · by_cases e : c = i
        · subst e
          rw [h2 c (Nat.le_refl _), if_neg (fun z => w ((bs_sbit _ c (by omega)).mpr z))]
        · exact h1 c (by omega)
theorem yc_356 {post : Int32 → SY → Prop} {ch : Int32} {J : Int32 → (Nat → Int32) → (Nat → Int32) → (Nat → Int32) → (Nat → Int32) → (Nat → Int32) → (Nat → Int32) → (Nat → Int32) → (Nat → Int32) → (Nat → Int32) → (Nat → Int32) → (Nat → Int32) → (Nat → Int32) → (Nat → Int32) → (Nat → Int32) → (Nat → Int32) → (Nat → Int32) → (Nat → Int32) → (Nat → Int32) → (Nat → Int32) → (Nat → Int32) → (Nat → Int32) → (Nat → Int32) → (Nat → Int32) → Prop}
    (hf : f < 8) (K : ∀ rg, (∀ r, r < 8 → rg (f * 8 + r) = if bt ch f = true then b_own (f * 8 + r) else b_regs (f * 8 + r)) → (∀ j, j < f * 8 ∨ f * 8 + 8 ≤ j → rg j = b_regs j) → ∃ n405 : Nat, wY_launch_405 post J ch (nI f) g_lanes g_lines g_trips g_logSize g_n g_sealed g_clash n405 0 b_kinds b_fd b_fa b_fb b_nzWay b_zWay b_post b_seen rg b_mem b_own b_priv b_trip b_visits b_lineOf b_goneTo b_mates b_exits b_reads b_writes b_marks b_logLine b_logMask) :
    ∀ fu i rg, 8 - i < fu → i ≤ 8 → (∀ r, r < i → rg (f * 8 + r) = if bt ch f = true then b_own (f * 8 + r) else b_regs (f * 8 + r)) → (∀ j, j < f * 8 ∨ f * 8 + i ≤ j → rg j = b_regs j) → wY_launch_356 post J ch (nI f) g_lanes g_lines g_trips g_logSize g_n g_sealed g_clash fu (nI i) b_kinds b_fd b_fa b_fb b_nzWay b_zWay b_post b_seen rg b_mem b_own b_priv b_trip b_visits b_lineOf b_goneTo b_mates b_exits b_reads b_writes b_marks b_logLine b_logMask := by
  intro fu
  induction fu with
  | zero => intro i _ h; omega
  | succ fu ih =>
    intro i rg hfu hi h1 h2
    rw [wY_launch_356]
    dsimp only
    by_cases q : 8 ≤ i
    · have : i = 8 := by omega
      subst this
      exact br_t (by decide) (K rg h1 h2)
    · have e1 : nI f * 8 + nI i = nI (f * 8 + i) := bs_mad f 8 i
      have c1 : (nI (f * 8 + i)).toNatClampNeg = f * 8 + i := nI_clamp (by omega)
      rw [e1, c1]
      refine br_f (nI_ge (b := 8) (by omega) (by decide)) (br_c (fun w => ⟨vp_in_nI (by omega) (by decide), vp_in_nI (by omega) (by decide), nm_e (nm_r (nI_1 i) (ih (i + 1) _ (by omega) (by omega) (fun r hr => ?_) (fun j hj => ?_)))⟩) (fun w => nm_r (nI_1 i) (ih (i + 1) _ (by omega) (by omega) (fun r hr => ?_) (fun j hj => h2 j (by omega)))))
      · by_cases e : r = i
        · subst e
          rw [bs_us, if_pos ((bs_sbit _ f (by omega)).mp w)]
        · rw [bs_un (by omega)]
          exact h1 r (by omega)
      · rw [bs_un (by omega)]
        exact h2 j (by omega)
      · by_cases e : r = i
        · subst e
          rw [h2 _ (by omega), if_neg (fun z => w ((bs_sbit _ f (by omega)).mpr z))]
        · exact h1 r (by omega)
theorem yc_345 {post : Int32 → SY → Prop} {ch : Int32} (hL8 : L ≤ 8)
    (K : ∀ rg me, (∀ f, f < L → ∀ r, r < 8 → rg (f * 8 + r) = if bt ch f = true then b_own (f * 8 + r) else b_regs (f * 8 + r)) → (∀ j, L * 8 ≤ j → rg j = b_regs j) → (∀ c, c < 32 → me c = yc_cm b_writes b_priv b_mem L c) → post 0 (nI L, g_lines, g_trips, g_logSize, g_n, g_sealed, g_clash, b_kinds, b_fd, b_fa, b_fb, b_nzWay, b_zWay, b_post, b_seen, rg, me, b_own, b_priv, b_trip, b_visits, b_lineOf, b_goneTo, b_mates, b_exits, b_reads, b_writes, b_marks, b_logLine, b_logMask)) :
    ∀ fu i rg me, L - i < fu → i ≤ L → (∀ f, f < i → ∀ r, r < 8 → rg (f * 8 + r) = if bt ch f = true then b_own (f * 8 + r) else b_regs (f * 8 + r)) → (∀ j, i * 8 ≤ j → rg j = b_regs j) → (∀ c, c < 32 → me c = yc_cm b_writes b_priv b_mem i c) →
      wY_launch_345 post ch (nI L) g_lines g_trips g_logSize g_n g_sealed g_clash fu (nI i) b_kinds b_fd b_fa b_fb b_nzWay b_zWay b_post b_seen rg me b_own b_priv b_trip b_visits b_lineOf b_goneTo b_mates b_exits b_reads b_writes b_marks b_logLine b_logMask := by
  intro fu
  induction fu with
  | zero => intro i _ _ h; omega
  | succ fu ih =>
    intro i rg me hfu hi h1 h2 h3
    rw [wY_launch_345]
    dsimp only
    by_cases q : L ≤ i
    · have : i = L := by omega
      subst this
      exact br_t (nI_le q (by omega)) (K rg me h1 h2 h3)
    · refine br_f (nI_ge (by omega) (by omega)) ⟨9, yc_356 (by omega) (fun rg' r1 r2 => ⟨33, yc_405 (by omega) (fun me' m1 => ih (i + 1) rg' me' (by omega) (by omega) (fun f hf r hr => ?_) (fun j hj => ?_) (fun c hc => ?_)) 33 0 me (by omega) (by omega) (fun c hc => absurd hc (Nat.not_lt_zero _)) (fun _ _ => rfl)⟩) 9 0 rg (by omega) (by omega) (fun r hr => absurd hr (Nat.not_lt_zero _)) (fun _ _ => rfl)⟩
      · by_cases e : f = i
        · subst e
          rw [r1 r hr, h2 _ (by omega)]
        · rw [r2 _ (by omega)]
          exact h1 f (by omega) r hr
      · rw [r2 j (by omega)]
        exact h2 j (by omega)
      · rw [m1 c hc, h3 c hc]
        rfl
end
end
section
/-! the reference's launch as a whole -/
def yq_D (L F g0 f g : Nat) : Prop := (f < F ∨ (f = F ∧ g < g0)) ∧ f < g ∧ g < L
def yq_I (pl : Nat → Nat → Int32) (tv : Nat → Nat) (rj : Int32 → Int32) (L F g0 : Nat) (ma : Nat → Int32) : Prop :=
  ∀ h, h < 8 → ∀ u, u < tv h → ∀ b, b < 32 → (bt (ma (h * 480 + u)) b = true ↔ b = h ∨ (yq_D L F g0 h b ∧ ∃ j, wp_T pl tv rj h b u j) ∨ (yq_D L F g0 b h ∧ ∃ i, wp_T pl tv rj b h i u))
theorem yq_s {pl : Nat → Nat → Int32} {tv : Nat → Nat} {rj : Int32 → Int32} {L F g : Nat} {ma ma' : Nat → Int32} (hFg : F < g) (hg : g < L) (h : yq_I pl tv rj L F g ma) (hP : yp_P pl tv rj F g ma ma') : yq_I pl tv rj L F (g + 1) ma' := by
  intro k hk u hu b hb
  rw [hP k hk u hu b hb, h k hk u hu b hb]
  have d1 : ∀ x y, yq_D L F (g + 1) x y ↔ yq_D L F g x y ∨ (x = F ∧ y = g) := by
    intro x y
    unfold yq_D
    omega
  constructor
  · intro z
    rcases z with (z | ⟨z1, z2⟩ | ⟨z1, z2⟩) | ⟨z1, z2, z3⟩ | ⟨z1, z2, z3⟩
    · exact Or.inl z
    · exact Or.inr (Or.inl ⟨(d1 _ _).mpr (Or.inl z1), z2⟩)
    · exact Or.inr (Or.inr ⟨(d1 _ _).mpr (Or.inl z1), z2⟩)
    · subst z1 z2
      exact Or.inr (Or.inl ⟨(d1 _ _).mpr (Or.inr ⟨rfl, rfl⟩), z3⟩)
    · subst z1 z2
      exact Or.inr (Or.inr ⟨(d1 _ _).mpr (Or.inr ⟨rfl, rfl⟩), z3⟩)
  · intro z
    rcases z with z | ⟨z1, z2⟩ | ⟨z1, z2⟩
    · exact Or.inl (Or.inl z)
    · rcases (d1 _ _).mp z1 with w | ⟨w1, w2⟩
      · exact Or.inl (Or.inr (Or.inl ⟨w, z2⟩))
      · subst w1 w2
        exact Or.inr (Or.inl ⟨rfl, rfl, z2⟩)
    · rcases (d1 _ _).mp z1 with w | ⟨w1, w2⟩
      · exact Or.inl (Or.inr (Or.inr ⟨w, z2⟩))
      · subst w1 w2
        exact Or.inr (Or.inr ⟨rfl, rfl, z2⟩)
theorem yq_n {pl : Nat → Nat → Int32} {tv : Nat → Nat} {rj : Int32 → Int32} {L F : Nat} {ma : Nat → Int32} (h : yq_I pl tv rj L F L ma) : yq_I pl tv rj L (F + 1) (F + 2) ma := by
  have d1 : ∀ x y, yq_D L (F + 1) (F + 2) x y ↔ yq_D L F L x y := by
    intro x y
    unfold yq_D
    omega
  intro k hk u hu b hb
  rw [h k hk u hu b hb, d1, d1]
theorem yq_e {pl : Nat → Nat → Int32} {tv : Nat → Nat} {rj : Int32 → Int32} {L F g0 : Nat} {ma : Nat → Int32} (hF : L ≤ F) (ht : ∀ f, L ≤ f → tv f = 0) (h : yq_I pl tv rj L F g0 ma) : ∀ f, f < 8 → ∀ u, u < tv f → ∀ b, b < 32 → (bt (ma (f * 480 + u)) b = true ↔ wp_mt pl tv rj f u b) := by
  intro f hf u hu b hb
  have hfL : f < L := by
    apply Classical.byContradiction
    intro c
    rw [ht f (by omega)] at hu
    exact absurd hu (Nat.not_lt_zero _)
  rw [h f hf u hu b hb]
  unfold wp_mt
  constructor
  · intro z
    rcases z with z | ⟨z1, z2⟩ | ⟨z1, z2⟩
    · exact Or.inl z
    · exact Or.inr (Or.inl ⟨z1.2.1, z2⟩)
    · exact Or.inr (Or.inr ⟨z1.2.1, z2⟩)
  · intro z
    rcases z with z | ⟨z1, j, z2⟩ | ⟨z1, z2⟩
    · exact Or.inl z
    · refine Or.inr (Or.inl ⟨⟨Or.inl (by omega), z1, ?_⟩, j, z2⟩)
      apply Classical.byContradiction
      intro c
      obtain ⟨s, z3⟩ := z2
      have := (wp_pr_in z3).2.1
      rw [ht b (by omega)] at this
      exact absurd this (Nat.not_lt_zero _)
    · exact Or.inr (Or.inr ⟨⟨Or.inl (by omega), z1, hfL⟩, z2⟩)
section
variable {g_lanes g_lines g_trips g_logSize g_n g_sealed g_clash : Int32} {b_kinds b_fd b_fa b_fb b_nzWay b_zWay b_post b_seen b_regs b_mem b_own b_priv b_trip b_visits b_lineOf b_goneTo b_mates b_exits b_reads b_writes b_marks b_logLine b_logMask : Nat → Int32} {n L G : Nat} {pl : Nat → Nat → Int32} {tv : Nat → Nat} {rj : Int32 → Int32}
theorem yl_77 {post : Int32 → SY → Prop} {x2 : Int32} {F : Nat} {J : Int32 → Int32 → Int32 → Int32 → Int32 → Int32 → Int32 → Int32 → (Nat → Int32) → (Nat → Int32) → (Nat → Int32) → (Nat → Int32) → (Nat → Int32) → (Nat → Int32) → (Nat → Int32) → (Nat → Int32) → (Nat → Int32) → (Nat → Int32) → (Nat → Int32) → (Nat → Int32) → (Nat → Int32) → (Nat → Int32) → (Nat → Int32) → (Nat → Int32) → (Nat → Int32) → (Nat → Int32) → (Nat → Int32) → (Nat → Int32) → (Nat → Int32) → (Nat → Int32) → (Nat → Int32) → Prop}
    (hn : n ≤ 24) (hL8 : L ≤ 8) (hF : F < L) (hL : yp_L pl tv b_visits b_lineOf b_goneTo) (hpf : ∀ f, f < 8 → ∀ u, u < tv f → ∃ x, x < n ∧ pl f u = nI x)
    (hR : ∀ q, q ≤ n → ∃ k, pd_rc (wy_E n b_nzWay b_zWay) n k q) (hO : ∀ p' q', p' ≤ n → q' ≤ n → sl_O (wy_E n b_nzWay b_zWay) n b_post p' q') (hrj : ∀ x, x < n → ∃ r, rj (nI x) = nI r ∧ rl_J n b_nzWay b_zWay x r)
    (K : ∀ ma, yq_I pl tv rj L F L ma → J (nI (F + 1)) (nI L) g_lines g_trips g_logSize (nI n) 1 g_clash b_kinds b_fd b_fa b_fb b_nzWay b_zWay b_post b_seen b_regs b_mem b_own b_priv b_trip b_visits b_lineOf b_goneTo ma b_exits b_reads b_writes b_marks b_logLine b_logMask) :
    ∀ fu g ma, L - g < fu → F < g → g ≤ L → yq_I pl tv rj L F g ma → wY_launch_77 post J x2 (nI F) fu (nI g) (nI L) g_lines g_trips g_logSize (nI n) 1 g_clash b_kinds b_fd b_fa b_fb b_nzWay b_zWay b_post b_seen b_regs b_mem b_own b_priv b_trip b_visits b_lineOf b_goneTo ma b_exits b_reads b_writes b_marks b_logLine b_logMask := by
  intro fu
  induction fu with
  | zero => intro g _ h; omega
  | succ fu ih =>
    intro g ma hfu hFg hg hI
    rw [wY_launch_77]
    dsimp only
    by_cases q : L ≤ g
    · have : g = L := by omega
      subst this
      exact br_t (nI_le q (by omega)) (nm_r (nI_1 F) (K ma hI))
    · refine br_f (nI_ge (by omega) (by omega)) (yp_pair (pl := pl) (tv := tv) (rj := rj) hn (by omega) (by omega) hFg hL (hpf F (by omega)) hR hO hrj (fun ma' hP => nm_r (nI_1 g) (ih (g + 1) ma' (by omega) (by omega) (by omega) (yq_s hFg (by omega) hI hP))))
theorem yl_64 {post : Int32 → SY → Prop} {x2 : Int32} (hn : n ≤ 24) (hL8 : L ≤ 8) (hL : yp_L pl tv b_visits b_lineOf b_goneTo) (hpf : ∀ f, f < 8 → ∀ u, u < tv f → ∃ x, x < n ∧ pl f u = nI x)
    (hR : ∀ q, q ≤ n → ∃ k, pd_rc (wy_E n b_nzWay b_zWay) n k q) (hO : ∀ p' q', p' ≤ n → q' ≤ n → sl_O (wy_E n b_nzWay b_zWay) n b_post p' q') (hrj : ∀ x, x < n → ∃ r, rj (nI x) = nI r ∧ rl_J n b_nzWay b_zWay x r) (ht : ∀ f, L ≤ f → tv f = 0)
    (K : ∀ ma, (∀ f, f < 8 → ∀ u, u < tv f → ∀ b, b < 32 → (bt (ma (f * 480 + u)) b = true ↔ wp_mt pl tv rj f u b)) → ∃ n107 : Nat, wY_launch_107 post x2 (nI L) g_lines g_trips g_logSize (nI n) 1 g_clash n107 0 b_kinds b_fd b_fa b_fb b_nzWay b_zWay b_post b_seen b_regs b_mem b_own b_priv b_trip b_visits b_lineOf b_goneTo ma b_exits b_reads b_writes b_marks b_logLine b_logMask) :
    ∀ fu F ma, L - F < fu → F ≤ L → yq_I pl tv rj L F (F + 1) ma → wY_launch_64 post x2 fu (nI F) (nI L) g_lines g_trips g_logSize (nI n) 1 g_clash b_kinds b_fd b_fa b_fb b_nzWay b_zWay b_post b_seen b_regs b_mem b_own b_priv b_trip b_visits b_lineOf b_goneTo ma b_exits b_reads b_writes b_marks b_logLine b_logMask := by
  intro fu
  induction fu with
  | zero => intro F _ h; omega
  | succ fu ih =>
    intro F ma hfu hF hI
    rw [wY_launch_64]
    dsimp only
    by_cases q : L ≤ F
    · exact br_t (nI_le q (by omega)) (K ma (yq_e q ht hI))
    · refine br_f (nI_ge (by omega) (by omega)) (nm_r (nI_1 F) ⟨L + 1, yl_77 hn hL8 (by omega) hL hpf hR hO hrj (fun ma' hI' => ih (F + 1) ma' (by omega) (by omega) (yq_n hI')) (L + 1) (F + 1) ma (by omega) (by omega) (by omega) hI⟩)
end
def yl_Z (f : Nat) (vs ex rd wr : Nat → Int32) : Prop := vs f = 0 ∧ ex f = -1 ∧ rd f = 0 ∧ wr f = 0
section
variable {g_lanes g_lines g_trips g_logSize g_n g_sealed g_clash : Int32} {b_kinds b_fd b_fa b_fb b_nzWay b_zWay b_post b_seen b_regs b_mem b_own b_priv b_trip b_visits b_lineOf b_goneTo b_mates b_exits b_reads b_writes b_marks b_logLine b_logMask : Nat → Int32} {n L : Nat} {lp : Nat → Nat} {rg mem : Nat → Int32} {ch : Int32}
theorem yl_Dk {f g : Nat} {ow pv vs lo gt ma ex rd wr ow' pv' vs' lo' gt' ma' ex' rd' wr' : Nat → Int32} (hK : la_K n g_trips b_kinds b_nzWay b_zWay lp) (hg : g < 8) (hgf : g ≠ f) (h : yr_D n g_trips b_kinds b_fd b_fa b_fb b_nzWay b_zWay lp rg mem ch g ow pv vs lo gt ma ex rd wr) (hF : yr_F f ow pv vs lo gt ma ex rd wr ow' pv' vs' lo' gt' ma' ex' rd' wr') : yr_D n g_trips b_kinds b_fd b_fa b_fb b_nzWay b_zWay lp rg mem ch g ow' pv' vs' lo' gt' ma' ex' rd' wr' := by
  obtain ⟨h1, h2, h3, h4⟩ := h
  obtain ⟨f1, f2, f3⟩ := hF
  have ht := la_tv_le (fd := b_fd) (fa := b_fa) (fb := b_fb) (rg := rg) (mem := mem) (ch := ch) (f := g) hK
  refine ⟨f1 g hg hgf _ h1, by rw [(f3 g hgf).1]; exact h2, by rw [(f3 g hgf).2]; exact h3, fun u hu => ?_⟩
  obtain ⟨e1, e2, e3⟩ := f2 (g * 480 + u) (by omega)
  rw [e1, e2, e3]
  exact h4 u hu
theorem yl_Zk {f g : Nat} {ow pv vs lo gt ma ex rd wr ow' pv' vs' lo' gt' ma' ex' rd' wr' : Nat → Int32} (hg : g < 8) (hgf : g ≠ f) (h : yl_Z g vs ex rd wr) (hF : yr_F f ow pv vs lo gt ma ex rd wr ow' pv' vs' lo' gt' ma' ex' rd' wr') : yl_Z g vs' ex' rd' wr' := by
  obtain ⟨h1, h2, h3, h4⟩ := h
  obtain ⟨f1, f2, f3⟩ := hF
  have q := f1 g hg hgf (fun r => ow (g * 8 + r), fun c => pv (g * 32 + c), fun _ => 0, rd g, wr g) ⟨fun _ _ => rfl, fun _ _ => rfl, rfl, rfl⟩
  exact ⟨by rw [(f3 g hgf).1]; exact h1, by rw [(f3 g hgf).2]; exact h2, q.2.2.1.trans h3, q.2.2.2.trans h4⟩
theorem yl_34 {post : Int32 → SY → Prop} (hK : la_K n g_trips b_kinds b_nzWay b_zWay lp) (hF : rl_F n b_kinds b_fd b_fa b_fb) (hL8 : L ≤ 8) (hch : ∀ f, bt ch f = true → f < L) (hrg : ∀ j, j < 64 → b_regs j = rg j) (hmem : ∀ c, c < 32 → b_mem c = mem c)
    (K : ∀ ow pv tr vs lo gt ma ex rd wr, (∀ f, f < 8 → bt ch f = true → yr_D n g_trips b_kinds b_fd b_fa b_fb b_nzWay b_zWay lp rg mem ch f ow pv vs lo gt ma ex rd wr) → (∀ f, f < 8 → ¬ bt ch f = true → yl_Z f vs ex rd wr) → ∃ n64 : Nat, wY_launch_64 post ch n64 0 (nI L) g_lines g_trips g_logSize (nI n) g_sealed g_clash b_kinds b_fd b_fa b_fb b_nzWay b_zWay b_post b_seen b_regs b_mem ow pv tr vs lo gt ma ex rd wr b_marks b_logLine b_logMask) :
    ∀ fu i ow pv tr vs lo gt ma ex rd wr, L - i < fu → i ≤ L → (∀ f, f < i → bt ch f = true → yr_D n g_trips b_kinds b_fd b_fa b_fb b_nzWay b_zWay lp rg mem ch f ow pv vs lo gt ma ex rd wr) → (∀ f, f < 8 → (i ≤ f ∨ ¬ bt ch f = true) → yl_Z f vs ex rd wr) →
      wY_launch_34 post ch fu (nI i) (nI L) g_lines g_trips g_logSize (nI n) g_sealed g_clash b_kinds b_fd b_fa b_fb b_nzWay b_zWay b_post b_seen b_regs b_mem ow pv tr vs lo gt ma ex rd wr b_marks b_logLine b_logMask := by
  intro fu
  induction fu with
  | zero => intro i _ _ _ _ _ _ _ _ _ _ h; omega
  | succ fu ih =>
    intro i ow pv tr vs lo gt ma ex rd wr hfu hi h1 h2
    rw [wY_launch_34]
    dsimp only
    by_cases q : L ≤ i
    · have : i = L := by omega
      subst this
      exact br_t (nI_le q (by omega)) (K ow pv tr vs lo gt ma ex rd wr (fun f hf hb => h1 f (hch f hb) hb) (fun f hf hb => h2 f hf (Or.inr hb)))
    · refine br_f (nI_ge (by omega) (by omega)) (br_c (fun w => ?_) (fun w => nm_r (nI_1 i) (ih (i + 1) ow pv tr vs lo gt ma ex rd wr (by omega) (by omega) (fun f hf hb => ?_) (fun f hf hb => h2 f hf (hb.elim (fun z => Or.inl (by omega)) Or.inr)))))
      · have w' := (bs_sbit ch i (by omega)).mp w
        obtain ⟨z1, z2, z3, z4⟩ := h2 i (by omega) (Or.inl (Nat.le_refl _))
        refine yr_run (lp := lp) (rg := rg) (mem := mem) (ch := ch) hK hF (by omega) w' (fun r hr => hrg _ (by omega)) hmem z1 z3 z4 (fun ow' pv' tr' vs' lo' gt' ma' ex' rd' wr' hD hFr => nm_r (nI_1 i) (ih (i + 1) ow' pv' tr' vs' lo' gt' ma' ex' rd' wr' (by omega) (by omega) (fun f hf hb => ?_) (fun f hf hb => ?_)))
        · by_cases e : f = i
          · subst e; exact hD
          · exact yl_Dk hK (by omega) e (h1 f (by omega) hb) hFr
        · have e : f ≠ i := by
            intro z
            subst z
            rcases hb with z | z
            · omega
            · exact z w'
          exact yl_Zk hf e (h2 f hf (by rcases hb with z | z
                                        · exact Or.inl (by omega)
                                        · exact Or.inr z)) hFr
      · by_cases e : f = i
        · subst e
          exact absurd ((bs_sbit ch f (by omega)).mpr hb) w
        · exact h1 f (by omega) hb
/-- what a launch leaves behind, by lane -/
def yl_S (n G : Nat) (T : Int32) (kd fd fa fb nzW zW : Nat → Int32) (lp : Nat → Nat) (rg mem : Nat → Int32) (ch : Int32) (rj : Int32 → Int32) (ex rd wr mk ll lm : Nat → Int32) : Prop :=
  ∀ f, f < 8 → rd f = (la_so T kd fd fa fb nzW zW lp rg mem f (la_tv n T kd fd fa fb nzW zW lp rg mem ch f)).1.2.2.2.1 ∧ wr f = (la_so T kd fd fa fb nzW zW lp rg mem f (la_tv n T kd fd fa fb nzW zW lp rg mem ch f)).1.2.2.2.2 ∧ ex f = (if bt ch f = true then la_ex n T kd fd fa fb nzW zW lp rg mem ch f else -1) ∧
    mk f = nI (ym_mc kd (la_pl T kd fd fa fb nzW zW lp rg mem f) (la_tv n T kd fd fa fb nzW zW lp rg mem ch f)) ∧
    ∀ u, u < la_tv n T kd fd fa fb nzW zW lp rg mem ch f → kd (la_pl T kd fd fa fb nzW zW lp rg mem f u).toNatClampNeg = 12 → ym_mc kd (la_pl T kd fd fa fb nzW zW lp rg mem f) u < G → ll (f * 16 + ym_mc kd (la_pl T kd fd fa fb nzW zW lp rg mem f) u) = la_pl T kd fd fa fb nzW zW lp rg mem f u ∧ ∀ b, b < 32 → (bt (lm (f * 16 + ym_mc kd (la_pl T kd fd fa fb nzW zW lp rg mem f) u)) b = true ↔ wp_mt (la_pl T kd fd fa fb nzW zW lp rg mem) (la_tv n T kd fd fa fb nzW zW lp rg mem ch) rj f u b)
theorem yl_all {post : Int32 → SY → Prop} {G : Nat} {rj : Int32 → Int32} {p0 : Int32} (hK : la_K n g_trips b_kinds b_nzWay b_zWay lp) (hF : rl_F n b_kinds b_fd b_fa b_fb) (hL1 : 1 ≤ L) (hL8 : L ≤ 8) (hG : G ≤ 16) (hch : ch = p0 &&& (((1 : Int32) <<< (nI L &&& 31)) - 1)) (hc0 : ¬ ch = 0) (hrg : ∀ j, j < 64 → b_regs j = rg j) (hmem : ∀ c, c < 32 → b_mem c = mem c)
    (hO : ∀ p' q', p' ≤ n → q' ≤ n → sl_O (wy_E n b_nzWay b_zWay) n b_post p' q') (hrj : ∀ x, x < n → ∃ r, rj (nI x) = nI r ∧ rl_J n b_nzWay b_zWay x r)
    (K1 : ∀ ow pv tr vs lo gt ma ex rd wr mk ll lm, yl_S n G g_trips b_kinds b_fd b_fa b_fb b_nzWay b_zWay lp rg mem ch rj ex rd wr mk ll lm → ∀ c0, c0 < 32 → yc_A L rd wr c0 → (∀ c', c' < c0 → ¬ yc_A L rd wr c') → post 11 (nI L, g_lines, g_trips, nI G, nI n, 1, nI c0, b_kinds, b_fd, b_fa, b_fb, b_nzWay, b_zWay, b_post, b_seen, b_regs, b_mem, ow, pv, tr, vs, lo, gt, ma, ex, rd, wr, mk, ll, lm))
    (K0 : ∀ ow pv tr vs lo gt ma ex rd wr mk ll lm rg' me', yl_S n G g_trips b_kinds b_fd b_fa b_fb b_nzWay b_zWay lp rg mem ch rj ex rd wr mk ll lm → (∀ c, c < 32 → ¬ yc_A L rd wr c) → (∀ f, f < 8 → ∀ r, r < 8 → rg' (f * 8 + r) = (la_so g_trips b_kinds b_fd b_fa b_fb b_nzWay b_zWay lp rg mem f (la_tv n g_trips b_kinds b_fd b_fa b_fb b_nzWay b_zWay lp rg mem ch f)).1.1 r) → (∀ c, c < 32 → me' c = yc_cm wr pv mem L c) → (∀ f, f < L → ∀ c, c < 32 → bt (wr f) c = true → pv (f * 32 + c) = (la_so g_trips b_kinds b_fd b_fa b_fb b_nzWay b_zWay lp rg mem f (la_tv n g_trips b_kinds b_fd b_fa b_fb b_nzWay b_zWay lp rg mem ch f)).1.2.1 c) →
      post 0 (nI L, g_lines, g_trips, nI G, nI n, 1, -1, b_kinds, b_fd, b_fa, b_fb, b_nzWay, b_zWay, b_post, b_seen, rg', me', ow, pv, tr, vs, lo, gt, ma, ex, rd, wr, mk, ll, lm)) :
    wpY_launch post (nI L, g_lines, g_trips, nI G, nI n, 1, g_clash, b_kinds, b_fd, b_fa, b_fb, b_nzWay, b_zWay, b_post, b_seen, b_regs, b_mem, b_own, b_priv, b_trip, b_visits, b_lineOf, b_goneTo, b_mates, b_exits, b_reads, b_writes, b_marks, b_logLine, b_logMask) p0 := by
  have hn := hK.2.1
  have hbch : ∀ f, bt ch f = true → f < L := by
    intro f hb
    have h32 := sd_big hb
    rw [hch, b_and, bs_mask L (by omega) f h32] at hb
    have : decide (f < L) = true := by
      cases h : decide (f < L)
      · rw [h, Bool.and_false] at hb; cases hb
      · rfl
    exact of_decide_eq_true this
  have htv0 : ∀ f, L ≤ f → la_tv n g_trips b_kinds b_fd b_fa b_fb b_nzWay b_zWay lp rg mem ch f = 0 := fun f hf => la_tv_0 (fun z => by have := hbch f z; omega)
  have hR := wy_reach (kd := b_kinds) (nzW := b_nzWay) (zW := b_zWay) (n := n) (by omega) hK.2.2.2.1 hK.2.2.2.2.2.1
  unfold wpY_launch
  dsimp only
  rw [← hch]
  refine br_f bs_10 (nm_e (br_f hc0 (wi_Y (fun sl rd0 wr0 mk0 vs0 hW0 hV0 => ⟨L + 1, ?_⟩))))
  refine yl_34 (lp := lp) (rg := rg) (mem := mem) (ch := ch) (b_marks := mk0) hK hF hL8 hbch hrg hmem (fun ow pv tr vs lo gt ma ex rd wr hD hZ => ⟨L + 1, ?_⟩) (L + 1) 0 b_own b_priv b_trip vs0 b_lineOf b_goneTo b_mates sl rd0 wr0 (by omega) (by omega) (fun f hf => absurd hf (Nat.not_lt_zero _)) (fun f hf _ => ⟨hV0 f hf, (hW0 f hf).1, (hW0 f hf).2.1, (hW0 f hf).2.2.1⟩)
  have hL : yp_L (la_pl g_trips b_kinds b_fd b_fa b_fb b_nzWay b_zWay lp rg mem) (la_tv n g_trips b_kinds b_fd b_fa b_fb b_nzWay b_zWay lp rg mem ch) vs lo gt := by
    intro f hf
    refine ⟨la_tv_le hK, ?_⟩
    by_cases c : bt ch f = true
    · obtain ⟨_, d2, _, d4⟩ := hD f hf c
      exact ⟨d2, fun u hu => ⟨(d4 u hu).1, (d4 u hu).2.1⟩⟩
    · rw [la_tv_0 c]
      exact ⟨(hZ f hf c).1, fun u hu => absurd hu (Nat.not_lt_zero _)⟩
  have hpf : ∀ f, f < 8 → ∀ u, u < la_tv n g_trips b_kinds b_fd b_fa b_fb b_nzWay b_zWay lp rg mem ch f → ∃ x, x < n ∧ la_pl g_trips b_kinds b_fd b_fa b_fb b_nzWay b_zWay lp rg mem f u = nI x := by
    intro f hf u hu
    by_cases c : bt ch f = true
    · exact (la_tv_s hK c).2.1 u hu
    · rw [la_tv_0 c] at hu
      exact absurd hu (Nat.not_lt_zero _)
  refine yl_64 (pl := la_pl g_trips b_kinds b_fd b_fa b_fb b_nzWay b_zWay lp rg mem) (tv := la_tv n g_trips b_kinds b_fd b_fa b_fb b_nzWay b_zWay lp rg mem ch) (rj := rj) hn hL8 hL hpf hR hO hrj htv0 (fun ma' hM => ⟨L + 1, ?_⟩) (L + 1) 0 ma (by omega) (by omega) (fun h hh u hu b hb => ?_)
  · refine ym_107 (pl := la_pl g_trips b_kinds b_fd b_fa b_fb b_nzWay b_zWay lp rg mem) (tv := la_tv n g_trips b_kinds b_fd b_fa b_fb b_nzWay b_zWay lp rg mem ch) hn hL8 hG hL hpf (fun f h1 _ => htv0 f h1) (fun mk ll lm hMk => ⟨33, ?_⟩) (L + 1) 0 mk0 b_logLine b_logMask (by omega) (by omega) (fun f hf => absurd hf (Nat.not_lt_zero _)) (fun f _ hf => (hW0 f hf).2.2.2)
    have hS : yl_S n G g_trips b_kinds b_fd b_fa b_fb b_nzWay b_zWay lp rg mem ch rj ex rd wr mk ll lm := by
      intro f hf
      obtain ⟨m1, m2⟩ := hMk f hf
      refine ⟨?_, ?_, ?_, m1, fun u hu h1 h2 => ?_⟩
      · by_cases c : bt ch f = true
        · exact (hD f hf c).1.2.2.1
        · rw [la_tv_0 c]
          exact (hZ f hf c).2.2.1
      · by_cases c : bt ch f = true
        · exact (hD f hf c).1.2.2.2
        · rw [la_tv_0 c]
          exact (hZ f hf c).2.2.2
      · by_cases c : bt ch f = true
        · rw [if_pos c]
          exact (hD f hf c).2.2.1
        · rw [if_neg c]
          exact (hZ f hf c).2.1
      · obtain ⟨q1, q2⟩ := m2 u hu h1 h2
        refine ⟨q1, fun b hb => ?_⟩
        rw [q2]
        exact hM f hf u hu b hb
    refine yc_240 hL8 (fun hno => ⟨L + 1, ?_⟩) (fun c0 h1 h2 h3 => K1 ow pv tr vs lo gt ma' ex rd wr mk ll lm hS c0 h1 h2 h3) 32 (-1) (by omega) (Or.inl ⟨rfl, fun c' h1 h2 => by omega⟩)
    refine yc_345 hL8 (fun rg' me' r1 r2 r3 => K0 ow pv tr vs lo gt ma' ex rd wr mk ll lm rg' me' hS hno (fun f hf r hr => ?_) (fun c hc => ?_) (fun f hf c hc hb => ?_)) (L + 1) 0 b_regs b_mem (by omega) (by omega) (fun f hf => absurd hf (Nat.not_lt_zero _)) (fun _ _ => rfl) (fun c _ => rfl)
    · by_cases c : f < L
      · rw [r1 f c r hr]
        by_cases c2 : bt ch f = true
        · rw [if_pos c2]
          exact (hD f hf c2).1.1 r hr
        · rw [if_neg c2, la_tv_0 c2]
          exact hrg _ (by omega)
      · rw [r2 _ (by omega), htv0 f (by omega)]
        exact hrg _ (by omega)
    · rw [r3 c hc]
      have : ∀ i, yc_cm wr pv b_mem i c = yc_cm wr pv mem i c := by
        intro i
        induction i with
        | zero => exact hmem c hc
        | succ i ih =>
          show (if _ then _ else _) = (if _ then _ else _)
          rw [ih]
      exact this L
    · by_cases c2 : bt ch f = true
      · exact (hD f (by omega) c2).1.2.1 c hc
      · rw [(hZ f (by omega) c2).2.2.2, b_0] at hb
        cases hb
  · have hch' : bt ch h = true := by
      apply Classical.byContradiction
      intro c
      rw [la_tv_0 c] at hu
      exact absurd hu (Nat.not_lt_zero _)
    rw [((hD h hh hch').2.2.2 u hu).2.2, bs_one h b (by omega) hb]
    constructor
    · intro z
      exact Or.inl (of_decide_eq_true z)
    · intro z
      rcases z with z | ⟨z, _⟩ | ⟨z, _⟩
      · exact decide_eq_true z
      · unfold yq_D at z; omega
      · unfold yq_D at z; omega
end
end
section
/-! the component's launch: the lanes' part of a visit -/
def xm_G (kd p : Nat → Int32) (G f v : Nat) (MT : Nat → Nat → Prop) (mk ll lm : Nat → Int32) : Prop :=
  mk f = nI (ym_mc kd p v) ∧ ∀ u, u < v → kd (p u).toNatClampNeg = 12 → ym_mc kd p u < G → ll (f * 16 + ym_mc kd p u) = p u ∧ ∀ b, b < 32 → (bt (lm (f * 16 + ym_mc kd p u)) b = true ↔ MT u b)
theorem xm_Gf {kd p mk ll lm : Nat → Int32} {G f v : Nat} {MT : Nat → Nat → Prop} (h : xm_G kd p G f v MT mk ll lm) (hk : ¬ kd (p v).toNatClampNeg = 12) : xm_G kd p G f (v + 1) MT mk ll lm := by
  refine ⟨by rw [ym_mf hk]; exact h.1, fun u hu h1 h2 => ?_⟩
  by_cases e : u = v
  · subst e; exact absurd h1 hk
  · exact h.2 u (by omega) h1 h2
theorem xm_Gt {kd p mk ll lm : Nat → Int32} {G f v : Nat} {MT : Nat → Nat → Prop} (h : xm_G kd p G f v MT mk ll lm) (hk : kd (p v).toNatClampNeg = 12) (hG : ¬ ym_mc kd p v < G) : xm_G kd p G f (v + 1) MT (upd mk f (nI (ym_mc kd p v + 1))) ll lm := by
  refine ⟨by rw [ym_mt hk, bs_us], fun u hu h1 h2 => ?_⟩
  by_cases e : u = v
  · subst e; exact absurd h2 hG
  · exact h.2 u (by omega) h1 h2
theorem xm_Gs {kd p mk ll lm : Nat → Int32} {G f v : Nat} {MT : Nat → Nat → Prop} {y m : Int32} (h : xm_G kd p G f v MT mk ll lm) (hk : kd (p v).toNatClampNeg = 12) (hy : y = p v) (hm : ∀ b, b < 32 → (bt m b = true ↔ MT v b)) : xm_G kd p G f (v + 1) MT (upd mk f (nI (ym_mc kd p v + 1))) (upd ll (f * 16 + ym_mc kd p v) y) (upd lm (f * 16 + ym_mc kd p v) m) := by
  refine ⟨by rw [ym_mt hk, bs_us], fun u hu h1 h2 => ?_⟩
  by_cases e : u = v
  · subst e
    rw [bs_us, bs_us]
    exact ⟨hy, hm⟩
  · have := ym_lt h1 v (by omega)
    rw [bs_un (by omega), bs_un (by omega)]
    exact h.2 u (by omega) h1 h2
def xw_B (n G : Nat) (T : Int32) (kd fd fa fb nzW zW : Nat → Int32) (lp : Nat → Nat) (rg mem : Nat → Int32) (ch : Int32) (rj : Int32 → Int32) (ce : Nat → Int32) (v : Nat → Nat) (wk st tc sl rd wr mk ll lm : Nat → Int32) : Prop :=
  ∀ f, f < 8 → (bt ch f = true → lx_R f (la_so T kd fd fa fb nzW zW lp rg mem f (v f)).1 wk st tc rd wr ce ∧ sl f = (if la_pl T kd fd fa fb nzW zW lp rg mem f (v f) = -1 then la_pl T kd fd fa fb nzW zW lp rg mem f (v f - 1) else nI n) ∧ xm_G kd (la_pl T kd fd fa fb nzW zW lp rg mem f) G f (v f) (wp_mt (la_pl T kd fd fa fb nzW zW lp rg mem) (la_tv n T kd fd fa fb nzW zW lp rg mem ch) rj f) mk ll lm) ∧
    (¬ bt ch f = true → sl f = -1 ∧ rd f = 0 ∧ wr f = 0 ∧ mk f = 0)
section
variable {n G : Nat} {T : Int32} {kd fd fa fb nzW zW : Nat → Int32} {lp : Nat → Nat} {rg mem : Nat → Int32} {ch : Int32} {rj : Int32 → Int32} {ce : Nat → Int32} {v v' : Nat → Nat} {wk st tc sl rd wr mk ll lm wk' st' tc' sl' rd' wr' mk' ll' lm' : Nat → Int32}
theorem xw_keep {f : Nat} (fr : ∀ g, g < 8 → g ≠ f → ∀ s', lx_R g s' wk st tc rd wr ce → lx_R g s' wk' st' tc' rd' wr' ce) : ∀ g, g < 8 → g ≠ f → rd' g = rd g ∧ wr' g = wr g := by
  intro g hg hgf
  have q := fr g hg hgf (fun r => wk (g * 8 + r), fun c => if bt (wr g) c = true then st (g * 32 + c) else ce c, fun t => tc (g * 24 + t), rd g, wr g) ⟨fun _ _ => rfl, fun _ _ => rfl, fun _ _ => rfl, rfl, rfl⟩
  exact ⟨q.2.2.2.1, q.2.2.2.2⟩
/-- one lane goes a visit on -/
theorem xw_Bs {i : Nat} (hi : bt ch i = true) (hB : xw_B n G T kd fd fa fb nzW zW lp rg mem ch rj ce v wk st tc sl rd wr mk ll lm)
    (e1 : v' i = v i + 1) (e2 : ∀ f, f ≠ i → v' f = v f) (h1 : lx_R i (la_so T kd fd fa fb nzW zW lp rg mem i (v i + 1)).1 wk' st' tc' rd' wr' ce) (fr : ∀ g, g < 8 → g ≠ i → ∀ s', lx_R g s' wk st tc rd wr ce → lx_R g s' wk' st' tc' rd' wr' ce)
    (h2 : sl' i = (if la_pl T kd fd fa fb nzW zW lp rg mem i (v i + 1) = -1 then la_pl T kd fd fa fb nzW zW lp rg mem i (v i) else nI n)) (h3 : ∀ g, g ≠ i → sl' g = sl g) (h4 : xm_G kd (la_pl T kd fd fa fb nzW zW lp rg mem i) G i (v i + 1) (wp_mt (la_pl T kd fd fa fb nzW zW lp rg mem) (la_tv n T kd fd fa fb nzW zW lp rg mem ch) rj i) mk' ll' lm') (h5 : ∀ g, g ≠ i → mk' g = mk g) (hG : G ≤ 16) (h6 : ∀ j, j < i * 16 ∨ i * 16 + 16 ≤ j → ll' j = ll j ∧ lm' j = lm j) :
    xw_B n G T kd fd fa fb nzW zW lp rg mem ch rj ce v' wk' st' tc' sl' rd' wr' mk' ll' lm' := by
  have kp := xw_keep fr
  intro f hf
  by_cases e : f = i
  · subst e
    refine ⟨fun _ => ?_, fun z => absurd hi z⟩
    rw [e1]
    exact ⟨h1, h2, h4⟩
  · obtain ⟨a1, a2⟩ := hB f hf
    obtain ⟨k1, k2⟩ := kp f hf e
    refine ⟨fun hc => ?_, fun hc => ?_⟩
    · obtain ⟨b1, b2, b3, b4⟩ := a1 hc
      rw [e2 f e, h3 f e]
      refine ⟨fr f hf e _ b1, b2, by rw [h5 f e]; exact b3, fun u hu q1 q2 => ?_⟩
      obtain ⟨c1, c2⟩ := h6 (f * 16 + ym_mc kd (la_pl T kd fd fa fb nzW zW lp rg mem f) u) (by omega)
      rw [c1, c2]
      exact b4 u hu q1 q2
    · rw [h3 f e, k1, k2, h5 f e]
      exact a2 hc
end
def xw_V (act : Int32) (v : Nat → Nat) (i : Nat) (w : Nat → Nat) : Prop := ∀ f, (bt act f = true → f < i → w f = v f + 1) ∧ (¬ (bt act f = true ∧ f < i) → w f = v f)
theorem xw_V0 {act : Int32} {v : Nat → Nat} : xw_V act v 0 v := fun f => ⟨fun _ h => absurd h (Nat.not_lt_zero _), fun _ => rfl⟩
theorem xw_Vn {act : Int32} {v w : Nat → Nat} {i : Nat} (h : xw_V act v i w) (hb : ¬ bt act i = true) : xw_V act v (i + 1) w := by
  intro f
  obtain ⟨h1, h2⟩ := h f
  refine ⟨fun a b => ?_, fun a => h2 (fun ⟨z1, z2⟩ => a ⟨z1, by omega⟩)⟩
  by_cases e : f = i
  · subst e; exact absurd a hb
  · exact h1 a (by omega)
theorem xw_Vy {act : Int32} {v w : Nat → Nat} {i : Nat} (h : xw_V act v i w) (hb : bt act i = true) : xw_V act v (i + 1) (fun f => if f = i then v i + 1 else w f) := by
  intro f
  obtain ⟨h1, h2⟩ := h f
  refine ⟨fun a b => ?_, fun a => ?_⟩
  · by_cases e : f = i
    · subst e; exact if_pos rfl
    · show (if f = i then v i + 1 else w f) = v f + 1
      rw [if_neg e]
      exact h1 a (by omega)
  · have e : f ≠ i := fun z => a ⟨by rw [z]; exact hb, by omega⟩
    show (if f = i then v i + 1 else w f) = v f
    rw [if_neg e]
    exact h2 (fun ⟨z1, z2⟩ => a ⟨z1, by omega⟩)
theorem xw_Vi {act : Int32} {v w : Nat → Nat} {i : Nat} (h : xw_V act v i w) : w i = v i := (h i).2 (fun z => by omega)
section
variable {f_laneTotal f_lineLimit f_tripLimit f_logLimit f_count f_isSealed f_openTotal f_openLoops f_alive f_depth f_clash : Int32} {a_kinds a_fieldD a_fieldA a_fieldB a_blockLine a_blockHasElse a_opener a_elseOf a_endOf a_wayNonzero a_wayZero a_postDom a_rejoinOf a_regs a_cells a_work a_stored a_tripCount a_stackPlace a_stackMask a_stackRejoin a_stopLine a_reads a_writes a_marks a_logLine a_logMask : Nat → Int32} {n L G x : Nat} {nzW zW : Nat → Int32} {lp : Nat → Nat} {rg mem : Nat → Int32} {ch act : Int32} {rj : Int32 → Int32} {v : Nat → Nat}
/-- what holds of the active lanes -/
def xw_Q (n L x : Nat) (T : Int32) (kd fd fa fb nzW zW : Nat → Int32) (lp : Nat → Nat) (rg mem : Nat → Int32) (ch act : Int32) (v : Nat → Nat) : Prop :=
  n ≤ 24 ∧ L ≤ 8 ∧ x < n ∧ rl_F n kd fd fa fb ∧ (1 ≤ kd x ∧ kd x ≤ 19) ∧ wy_W kd n x (nzW x) (zW x) ∧ (∀ f, bt act f = true → f < L ∧ bt ch f = true ∧ la_pl T kd fd fa fb nzW zW lp rg mem f (v f) = nI x)
theorem xw_so {f : Nat} (hn : n ≤ 24) (hx : x < n) (h : la_pl f_tripLimit a_kinds a_fieldD a_fieldA a_fieldB nzW zW lp rg mem f (v f) = nI x) : la_so f_tripLimit a_kinds a_fieldD a_fieldA a_fieldB nzW zW lp rg mem f (v f + 1) = (la_st f_tripLimit a_kinds a_fieldD a_fieldA a_fieldB lp f x (la_so f_tripLimit a_kinds a_fieldD a_fieldA a_fieldB nzW zW lp rg mem f (v f)).1, la_to f_tripLimit a_kinds a_fieldD nzW zW x (la_so f_tripLimit a_kinds a_fieldD a_fieldA a_fieldB nzW zW lp rg mem f (v f)).1) := by
  rw [la_so_s]
  have h' : (la_so f_tripLimit a_kinds a_fieldD a_fieldA a_fieldB nzW zW lp rg mem f (v f)).2 = nI x := h
  rw [h', nI_clamp (by omega)]
theorem xw_E {post : SX → Prop} {t : Nat} (hQ : xw_Q n L x f_tripLimit a_kinds a_fieldD a_fieldA a_fieldB nzW zW lp rg mem ch act v) (hG : G ≤ 16) (ht : t < 16) (k12 : a_kinds x < 12)
    (K : ∀ w wk st rd wr, xw_V act v L w → xw_B n G f_tripLimit a_kinds a_fieldD a_fieldA a_fieldB nzW zW lp rg mem ch rj a_cells w wk st a_tripCount a_stopLine rd wr a_marks a_logLine a_logMask → post (nI L, f_lineLimit, f_tripLimit, f_logLimit, nI n, f_isSealed, f_openTotal, f_openLoops, f_alive, f_depth, f_clash, a_kinds, a_fieldD, a_fieldA, a_fieldB, a_blockLine, a_blockHasElse, a_opener, a_elseOf, a_endOf, a_wayNonzero, a_wayZero, a_postDom, a_rejoinOf, a_regs, a_cells, wk, st, a_tripCount, upd a_stackPlace t (a_wayZero x), a_stackMask, a_stackRejoin, a_stopLine, rd, wr, a_marks, a_logLine, a_logMask)) :
    ∀ fu i w wk st rd wr, L - i < fu → i ≤ L → xw_V act v i w → xw_B n G f_tripLimit a_kinds a_fieldD a_fieldA a_fieldB nzW zW lp rg mem ch rj a_cells w wk st a_tripCount a_stopLine rd wr a_marks a_logLine a_logMask →
      wX_visit_18 post (nI t) (nI x) act fu (nI i) (nI L) f_lineLimit f_tripLimit f_logLimit (nI n) f_isSealed f_openTotal f_openLoops f_alive f_depth f_clash a_kinds a_fieldD a_fieldA a_fieldB a_blockLine a_blockHasElse a_opener a_elseOf a_endOf a_wayNonzero a_wayZero a_postDom a_rejoinOf a_regs a_cells wk st a_tripCount a_stackPlace a_stackMask a_stackRejoin a_stopLine rd wr a_marks a_logLine a_logMask := by
  obtain ⟨hn, hL8, hx, hF, hk, hW, hact⟩ := hQ
  have cx : (nI x).toNatClampNeg = x := nI_clamp (by omega)
  have ct : (nI t).toNatClampNeg = t := nI_clamp (by omega)
  intro fu
  induction fu with
  | zero => intro i _ _ _ _ _ h; omega
  | succ fu ih =>
    intro i w wk st rd wr hfu hi hV hB
    rw [wX_visit_18]
    dsimp only
    by_cases q : L ≤ i
    · have : i = L := by omega
      subst this
      rw [cx, ct]
      exact br_t (nI_le q (by omega)) ⟨vp_in_nI (by omega) (by decide), vp_in_nI ht (by decide), nm_e (K w wk st rd wr hV hB)⟩
    · refine br_f (nI_ge (by omega) (by omega)) (br_c (fun b => nm_r (nI_1 i) (ih (i + 1) w wk st rd wr (by omega) (by omega) (xw_Vn hV (by rw [(bs_bit _ i (by omega)).mp b]; decide)) hB)) (fun b => ?_))
      have hb := (bs_bitN _ i (by omega)).mp b
      obtain ⟨h1, h2, h3⟩ := hact i hb
      have ew := xw_Vi hV
      obtain ⟨b1, b2, b3⟩ := (hB i (by omega)).1 h2
      rw [ew] at b1 b2 b3
      have hso := xw_so (n := n) (x := x) (v := v) (f := i) hn hx h3
      have hpl1 : la_pl f_tripLimit a_kinds a_fieldD a_fieldA a_fieldB nzW zW lp rg mem i (v i + 1) = zW x := by
        unfold la_pl
        rw [hso]
        show la_to f_tripLimit a_kinds a_fieldD nzW zW x (la_so f_tripLimit a_kinds a_fieldD a_fieldA a_fieldB nzW zW lp rg mem i (v i)).1 = zW x
        unfold la_to
        rw [wy_same hW (Or.inl (Int32.lt_trans k12 (by decide)))]
        split <;> rfl
      have hzn : zW x ≠ -1 := by
        have := hW.1 (Int32.lt_trans k12 (by decide))
        rw [this.2]
        exact wp_nm1 (by omega)
      refine lx_exec (lp := lp) (s := (la_so f_tripLimit a_kinds a_fieldD a_fieldA a_fieldB nzW zW lp rg mem i (v i)).1) hn (by omega) hx hF hk.1 k12 b1 (fun wk' st' rd' wr' hR fr => nm_r (nI_1 i) (ih (i + 1) _ wk' st' rd' wr' (by omega) (by omega) (xw_Vy hV hb) ?_))
      refine xw_Bs h2 hB (if_pos rfl |>.trans (by rw [ew])) (fun f hf => if_neg hf) (by rw [ew, hso]; exact hR) fr ?_ (fun _ _ => rfl) ?_ (fun _ _ => rfl) hG (fun _ _ => ⟨rfl, rfl⟩)
      · rw [ew, hpl1, if_neg hzn]
        rw [h3, if_neg (wp_nm1 (by omega))] at b2
        exact b2
      · rw [ew]
        refine xm_Gf b3 ?_
        rw [h3, cx]
        intro z
        rw [z] at k12
        exact absurd k12 (by decide)
theorem xw_M {post : SX → Prop} (hQ : xw_Q n L x f_tripLimit a_kinds a_fieldD a_fieldA a_fieldB nzW zW lp rg mem ch act v) (hG : G ≤ 16) (k12 : a_kinds x = 12) (ht : ∀ f, la_tv n f_tripLimit a_kinds a_fieldD a_fieldA a_fieldB nzW zW lp rg mem ch f ≤ 480) (hv : ∀ f, bt act f = true → v f ≤ 480) (hmt : ∀ f, bt act f = true → ∀ b, b < 32 → (bt act b = true ↔ wp_mt (la_pl f_tripLimit a_kinds a_fieldD a_fieldA a_fieldB nzW zW lp rg mem) (la_tv n f_tripLimit a_kinds a_fieldD a_fieldA a_fieldB nzW zW lp rg mem ch) rj f (v f) b))
    (K : ∀ w mk ll lm, xw_V act v L w → xw_B n G f_tripLimit a_kinds a_fieldD a_fieldA a_fieldB nzW zW lp rg mem ch rj a_cells w a_work a_stored a_tripCount a_stopLine a_reads a_writes mk ll lm → post (nI L, f_lineLimit, f_tripLimit, nI G, f_count, f_isSealed, f_openTotal, f_openLoops, f_alive, f_depth, f_clash, a_kinds, a_fieldD, a_fieldA, a_fieldB, a_blockLine, a_blockHasElse, a_opener, a_elseOf, a_endOf, a_wayNonzero, a_wayZero, a_postDom, a_rejoinOf, a_regs, a_cells, a_work, a_stored, a_tripCount, a_stackPlace, a_stackMask, a_stackRejoin, a_stopLine, a_reads, a_writes, mk, ll, lm)) :
    ∀ fu i w mk ll lm, L - i < fu → i ≤ L → xw_V act v i w → xw_B n G f_tripLimit a_kinds a_fieldD a_fieldA a_fieldB nzW zW lp rg mem ch rj a_cells w a_work a_stored a_tripCount a_stopLine a_reads a_writes mk ll lm →
      wX_logMarks_2 post (nI x) act (nI L) f_lineLimit f_tripLimit (nI G) f_count f_isSealed f_openTotal f_openLoops f_alive f_depth f_clash fu (nI i) a_kinds a_fieldD a_fieldA a_fieldB a_blockLine a_blockHasElse a_opener a_elseOf a_endOf a_wayNonzero a_wayZero a_postDom a_rejoinOf a_regs a_cells a_work a_stored a_tripCount a_stackPlace a_stackMask a_stackRejoin a_stopLine a_reads a_writes mk ll lm := by
  obtain ⟨hn, hL8, hx, hF, hk, hW, hact⟩ := hQ
  have cx : (nI x).toNatClampNeg = x := nI_clamp (by omega)
  intro fu
  induction fu with
  | zero => intro i _ _ _ _ h; omega
  | succ fu ih =>
    intro i w mk ll lm hfu hi hV hB
    rw [wX_logMarks_2]
    dsimp only
    by_cases q : L ≤ i
    · have : i = L := by omega
      subst this
      exact br_t (nI_le q (by omega)) (K w mk ll lm hV hB)
    · refine br_f (nI_ge (by omega) (by omega)) (br_c (fun b => nm_r (nI_1 i) (ih (i + 1) w mk ll lm (by omega) (by omega) (xw_Vn hV (by rw [(bs_bit _ i (by omega)).mp b]; decide)) hB)) (fun b => ?_))
      have hb := (bs_bitN _ i (by omega)).mp b
      obtain ⟨h1, h2, h3⟩ := hact i hb
      have ew := xw_Vi hV
      obtain ⟨b1, b2, b3⟩ := (hB i (by omega)).1 h2
      rw [ew] at b1 b2 b3
      have hso := xw_so (n := n) (x := x) (v := v) (f := i) hn hx h3
      have hpl1 : la_pl f_tripLimit a_kinds a_fieldD a_fieldA a_fieldB nzW zW lp rg mem i (v i + 1) = zW x := by
        unfold la_pl
        rw [hso]
        show la_to f_tripLimit a_kinds a_fieldD nzW zW x (la_so f_tripLimit a_kinds a_fieldD a_fieldA a_fieldB nzW zW lp rg mem i (v i)).1 = zW x
        unfold la_to
        rw [wy_same hW (Or.inl (by rw [k12]; decide))]
        split <;> rfl
      have hzn : zW x ≠ -1 := by
        have := hW.1 (by rw [k12]; decide)
        rw [this.2]
        exact wp_nm1 (by omega)
      have ci : (nI i).toNatClampNeg = i := nI_clamp (by omega)
      have vi : vp_in (nI i) 8 := vp_in_nI (by omega) (by decide)
      have hmk := b3.1
      have hkx : a_kinds (la_pl f_tripLimit a_kinds a_fieldD a_fieldA a_fieldB nzW zW lp rg mem i (v i)).toNatClampNeg = 12 := by rw [h3, cx]; exact k12
      have hmc := ym_le (kd := a_kinds) (p := la_pl f_tripLimit a_kinds a_fieldD a_fieldA a_fieldB nzW zW lp rg mem i) (v i)
      have hv480 := hv i hb
      have st1 : la_so f_tripLimit a_kinds a_fieldD a_fieldA a_fieldB nzW zW lp rg mem i (v i + 1) = ((la_so f_tripLimit a_kinds a_fieldD a_fieldA a_fieldB nzW zW lp rg mem i (v i)).1, zW x) := by
        rw [hso, lx_sto (by rw [k12]; decide) (by rw [k12]; decide) (by rw [k12]; decide) (by rw [k12]; decide) (by rw [k12]; decide)]
        have : la_pl f_tripLimit a_kinds a_fieldD a_fieldA a_fieldB nzW zW lp rg mem i (v i + 1) = la_to f_tripLimit a_kinds a_fieldD nzW zW x (la_so f_tripLimit a_kinds a_fieldD a_fieldA a_fieldB nzW zW lp rg mem i (v i)).1 := by
          unfold la_pl
          rw [hso]
        rw [← this, hpl1]
      have stepB : ∀ mk' ll' lm' : Nat → Int32, xm_G a_kinds (la_pl f_tripLimit a_kinds a_fieldD a_fieldA a_fieldB nzW zW lp rg mem i) G i (v i + 1) (wp_mt (la_pl f_tripLimit a_kinds a_fieldD a_fieldA a_fieldB nzW zW lp rg mem) (la_tv n f_tripLimit a_kinds a_fieldD a_fieldA a_fieldB nzW zW lp rg mem ch) rj i) mk' ll' lm' → (∀ g, g ≠ i → mk' g = mk g) → (∀ j, j < i * 16 ∨ i * 16 + 16 ≤ j → ll' j = ll j ∧ lm' j = lm j) → xw_B n G f_tripLimit a_kinds a_fieldD a_fieldA a_fieldB nzW zW lp rg mem ch rj a_cells (fun f => if f = i then v i + 1 else w f) a_work a_stored a_tripCount a_stopLine a_reads a_writes mk' ll' lm' := by
        intro mk' ll' lm' g1 g2 g3
        refine xw_Bs h2 hB (if_pos rfl |>.trans (by rw [ew])) (fun f hf => if_neg hf) (by rw [ew, st1]; exact b1) (fun _ _ _ _ h => h) ?_ (fun _ _ => rfl) (by rw [ew]; exact g1) g2 hG g3
        rw [ew, hpl1, if_neg hzn]
        rw [h3, if_neg (wp_nm1 (by omega))] at b2
        exact b2
      rw [ci]
      refine ⟨vi, nm_r hmk ?_⟩
      by_cases hlt : ym_mc a_kinds (la_pl f_tripLimit a_kinds a_fieldD a_fieldA a_fieldB nzW zW lp rg mem i) (v i) < G
      · have e6 : nI i * 16 + nI (ym_mc a_kinds (la_pl f_tripLimit a_kinds a_fieldD a_fieldA a_fieldB nzW zW lp rg mem i) (v i)) = nI (i * 16 + ym_mc a_kinds (la_pl f_tripLimit a_kinds a_fieldD a_fieldA a_fieldB nzW zW lp rg mem i) (v i)) := bs_mad i 16 _
        have c6 : (nI (i * 16 + ym_mc a_kinds (la_pl f_tripLimit a_kinds a_fieldD a_fieldA a_fieldB nzW zW lp rg mem i) (v i))).toNatClampNeg = i * 16 + ym_mc a_kinds (la_pl f_tripLimit a_kinds a_fieldD a_fieldA a_fieldB nzW zW lp rg mem i) (v i) := nI_clamp (by omega)
        have v6 : vp_in (nI (i * 16 + ym_mc a_kinds (la_pl f_tripLimit a_kinds a_fieldD a_fieldA a_fieldB nzW zW lp rg mem i) (v i))) 128 := vp_in_nI (by omega) (by decide)
        rw [e6, c6]
        refine br_f (nI_ge hlt (by omega)) ⟨v6, nm_e ⟨v6, nm_e ?_⟩⟩
        unfold wX_logMarks_61
        rw [ci, nI_1]
        refine ⟨vi, nm_e (nm_r (nI_1 i) (ih (i + 1) _ _ _ _ (by omega) (by omega) (xw_Vy hV hb) (stepB _ _ _ (xm_Gs b3 hkx h3.symm (hmt i hb)) (fun g hg => bs_un hg) (fun j hj => ?_))))⟩
        rw [bs_un (by omega), bs_un (by omega)]
        exact ⟨rfl, rfl⟩
      · refine br_t (nI_le (by omega) (by omega)) ?_
        unfold wX_logMarks_61
        rw [ci, nI_1]
        exact ⟨vi, nm_e (nm_r (nI_1 i) (ih (i + 1) _ _ _ _ (by omega) (by omega) (xw_Vy hV hb) (stepB _ _ _ (xm_Gt b3 hkx hlt) (fun g hg => bs_un hg) (fun j hj => ⟨rfl, rfl⟩))))⟩
theorem xw_D {post : Int32 → SX → Prop} (hQ : xw_Q n L x f_tripLimit a_kinds a_fieldD a_fieldA a_fieldB nzW zW lp rg mem ch act v) (hG : G ≤ 16) (k1 : a_kinds x = 13 ∨ a_kinds x = 16 ∨ a_kinds x = 17 ∨ a_kinds x = 18 ∨ a_kinds x = 19) (hlp : a_kinds x = 17 → a_opener x = nI (lp x) ∧ lp x < 24)
    (K : ∀ w tk tc sl, xw_V act v L w → (∀ f, f < 32 → (bt tk f = true ↔ bt act f = true ∧ la_tk f_tripLimit a_kinds a_fieldD x (la_so f_tripLimit a_kinds a_fieldD a_fieldA a_fieldB nzW zW lp rg mem f (v f)).1 = true)) → xw_B n G f_tripLimit a_kinds a_fieldD a_fieldA a_fieldB nzW zW lp rg mem ch rj a_cells w a_work a_stored tc sl a_reads a_writes a_marks a_logLine a_logMask → post tk (nI L, f_lineLimit, f_tripLimit, f_logLimit, nI n, f_isSealed, f_openTotal, f_openLoops, f_alive, f_depth, f_clash, a_kinds, a_fieldD, a_fieldA, a_fieldB, a_blockLine, a_blockHasElse, a_opener, a_elseOf, a_endOf, a_wayNonzero, a_wayZero, a_postDom, a_rejoinOf, a_regs, a_cells, a_work, a_stored, tc, a_stackPlace, a_stackMask, a_stackRejoin, sl, a_reads, a_writes, a_marks, a_logLine, a_logMask)) :
    ∀ fu i w tk tc sl, L - i < fu → i ≤ L → xw_V act v i w → (∀ f, f < 32 → (bt tk f = true ↔ f < i ∧ bt act f = true ∧ la_tk f_tripLimit a_kinds a_fieldD x (la_so f_tripLimit a_kinds a_fieldD a_fieldA a_fieldB nzW zW lp rg mem f (v f)).1 = true)) → xw_B n G f_tripLimit a_kinds a_fieldD a_fieldA a_fieldB nzW zW lp rg mem ch rj a_cells w a_work a_stored tc sl a_reads a_writes a_marks a_logLine a_logMask →
      wX_decide_5 post (nI x) act fu tk (nI i) (nI L) f_lineLimit f_tripLimit f_logLimit (nI n) f_isSealed f_openTotal f_openLoops f_alive f_depth f_clash a_kinds a_fieldD a_fieldA a_fieldB a_blockLine a_blockHasElse a_opener a_elseOf a_endOf a_wayNonzero a_wayZero a_postDom a_rejoinOf a_regs a_cells a_work a_stored tc a_stackPlace a_stackMask a_stackRejoin sl a_reads a_writes a_marks a_logLine a_logMask := by
  obtain ⟨hn, hL8, hx, hF, hk, hW, hact⟩ := hQ
  have cx : (nI x).toNatClampNeg = x := nI_clamp (by omega)
  intro fu
  induction fu with
  | zero => intro i _ _ _ _ h; omega
  | succ fu ih =>
    intro i w tk tc sl hfu hi hV htk hB
    rw [wX_decide_5]
    dsimp only
    by_cases q : L ≤ i
    · have : i = L := by omega
      subst this
      refine br_t (nI_le q (by omega)) (K w tk tc sl hV (fun f hf => ?_) hB)
      rw [htk f hf]
      exact ⟨fun z => z.2, fun z => ⟨(hact f z.1).1, z⟩⟩
    · refine br_f (nI_ge (by omega) (by omega)) (br_c (fun b => nm_r (nI_1 i) (ih (i + 1) w tk tc sl (by omega) (by omega) (xw_Vn hV (by rw [(bs_bit _ i (by omega)).mp b]; decide)) (fun f hf => ?_) hB)) (fun b => ?_))
      · rw [htk f hf]
        have hb : ¬ bt act i = true := by rw [(bs_bit _ i (by omega)).mp b]; decide
        constructor
        · exact fun z => ⟨by omega, z.2⟩
        · intro z
          refine ⟨?_, z.2⟩
          by_cases e : f = i
          · subst e; exact absurd z.2.1 hb
          · omega
      · have hb := (bs_bitN _ i (by omega)).mp b
        obtain ⟨h1, h2, h3⟩ := hact i hb
        have ew := xw_Vi hV
        obtain ⟨b1, b2, b3⟩ := (hB i (by omega)).1 h2
        rw [ew] at b1 b2 b3
        rw [h3, if_neg (wp_nm1 (by omega))] at b2
        have hso := xw_so (n := n) (x := x) (v := v) (f := i) hn hx h3
        have hpl1 : la_pl f_tripLimit a_kinds a_fieldD a_fieldA a_fieldB nzW zW lp rg mem i (v i + 1) = la_to f_tripLimit a_kinds a_fieldD nzW zW x (la_so f_tripLimit a_kinds a_fieldD a_fieldA a_fieldB nzW zW lp rg mem i (v i)).1 := by
          unfold la_pl
          rw [hso]
        have hm1 : xm_G a_kinds (la_pl f_tripLimit a_kinds a_fieldD a_fieldA a_fieldB nzW zW lp rg mem i) G i (v i + 1) (wp_mt (la_pl f_tripLimit a_kinds a_fieldD a_fieldA a_fieldB nzW zW lp rg mem) (la_tv n f_tripLimit a_kinds a_fieldD a_fieldA a_fieldB nzW zW lp rg mem ch) rj i) a_marks a_logLine a_logMask := by
          refine xm_Gf b3 ?_
          rw [h3, cx]
          intro z
          rcases k1 with k | k | k | k | k <;> exact absurd (k.symm.trans z) (by decide)
        have hz : ∃ y, y ≤ n ∧ zW x = nI y := by
          have : ns_WF1 a_kinds x → True := fun _ => trivial
          obtain ⟨p1, p2, p3, p4, p5, p6, p7, p8⟩ := hW
          rcases k1 with k | k | k | k | k
          · rcases (p2 k).2 with ⟨el, _, e2, e3⟩ | ⟨_, j, _, e2, e3⟩
            · exact ⟨el + 1, by omega, e3⟩
            · exact ⟨j, by omega, e3⟩
          · obtain ⟨j, _, e2, _, e3⟩ := p5 k
            exact ⟨j + 1, by omega, e3⟩
          · exact ⟨x + 1, by omega, (p6 k).1⟩
          · exact ⟨x + 1, by omega, (p7 k).1⟩
          · exact ⟨x + 1, by omega, (p8 k).2⟩
        obtain ⟨y, hy, ey⟩ := hz
        have hnz : ¬ a_kinds x = 19 → nzW x ≠ -1 := by
          intro h19
          obtain ⟨p1, p2, p3, p4, p5, p6, p7, p8⟩ := hW
          rcases k1 with k | k | k | k | k
          · rw [(p2 k).1]; exact wp_nm1 (by omega)
          · obtain ⟨j, _, e2, e3, _⟩ := p5 k
            rw [e3]; exact wp_nm1 (by omega)
          · obtain ⟨_, w0, j, _, _, e2, e3⟩ := p6 k
            rw [e3]; exact wp_nm1 (by omega)
          · obtain ⟨_, w0, j, _, _, e2, e3⟩ := p7 k
            rw [e3]; exact wp_nm1 (by omega)
          · exact absurd k h19
        have htk1 : ∀ f, f < 32 → f ≠ i → ((f < i + 1 ∧ bt act f = true ∧ la_tk f_tripLimit a_kinds a_fieldD x (la_so f_tripLimit a_kinds a_fieldD a_fieldA a_fieldB nzW zW lp rg mem f (v f)).1 = true) ↔ bt tk f = true) := by
          intro f hf e
          rw [htk f hf]
          constructor
          · exact fun z => ⟨by omega, z.2⟩
          · exact fun z => ⟨by omega, z.2⟩
        refine lx_dec (lp := lp) (s := (la_so f_tripLimit a_kinds a_fieldD a_fieldA a_fieldB nzW zW lp rg mem i (v i)).1) hn (by omega) hx hF k1 hlp b1 (fun ek tc' hR fr => br_t rfl (nm_r (nI_1 i) (ih (i + 1) _ tk tc' sl (by omega) (by omega) (xw_Vy hV hb) (fun f hf => ?_) ?_))) (fun ek tc' sl' s1 s2 hR fr => br_f bs_10 (nm_e (nm_r (nI_1 i) (ih (i + 1) _ _ tc' sl' (by omega) (by omega) (xw_Vy hV hb) (fun f hf => ?_) ?_))))
        · by_cases e : f = i
          · subst e
            rw [htk f hf]
            constructor
            · exact fun z => absurd z.1 (Nat.lt_irrefl _)
            · intro z
              rw [ek] at z
              exact absurd z.2.2 (by decide)
          · exact (htk1 f hf e).symm
        · refine xw_Bs h2 hB (if_pos rfl |>.trans (by rw [ew])) (fun f hf => if_neg hf) (by rw [ew, hso]; exact hR) fr ?_ (fun _ _ => rfl) (by rw [ew]; exact hm1) (fun _ _ => rfl) hG (fun _ _ => ⟨rfl, rfl⟩)
          have e : la_to f_tripLimit a_kinds a_fieldD nzW zW x (la_so f_tripLimit a_kinds a_fieldD a_fieldA a_fieldB nzW zW lp rg mem i (v i)).1 = zW x := if_neg (by rw [ek]; decide)
          rw [ew, hpl1, e, ey, if_neg (wp_nm1 (by omega))]
          exact b2
        · rw [yp_orb tk (by omega) hf]
          by_cases e : f = i
          · subst e
            exact ⟨fun _ => ⟨by omega, hb, ek⟩, fun _ => Or.inr rfl⟩
          · rw [htk1 f hf e]
            constructor
            · intro z
              rcases z with z | z
              · exact z
              · exact absurd z e
            · exact fun z => Or.inl z
        · have e : la_to f_tripLimit a_kinds a_fieldD nzW zW x (la_so f_tripLimit a_kinds a_fieldD a_fieldA a_fieldB nzW zW lp rg mem i (v i)).1 = nzW x := if_pos ek
          refine xw_Bs h2 hB (if_pos rfl |>.trans (by rw [ew])) (fun f hf => if_neg hf) (by rw [ew, hso]; exact hR) fr ?_ (fun g hg => ?_) (by rw [ew]; exact hm1) (fun _ _ => rfl) hG (fun _ _ => ⟨rfl, rfl⟩)
          · rw [ew, hpl1, e]
            by_cases h19 : a_kinds x = 19
            · rw [s1 h19, bs_us, (hW.2.2.2.2.2.2.2 h19).1, if_pos rfl]
              exact h3.symm
            · rw [s2 h19, if_neg (hnz h19)]
              exact b2
          · by_cases h19 : a_kinds x = 19
            · rw [s1 h19, bs_un hg]
            · rw [s2 h19]
end
end
section
/-! the component's launch: the warp -/
def xw_A (n : Nat) (T : Int32) (kd fd fa fb nzW zW : Nat → Int32) (lp : Nat → Nat) (rg mem : Nat → Int32) (ch : Int32) (rj : Int32 → Int32) (v : Nat → Nat) (al : Int32) (dp : Nat) (sp sm sr : Nat → Int32) : Prop :=
  wp_W n (wy_E n nzW zW) rj (la_pl T kd fd fa fb nzW zW lp rg mem) (la_tv n T kd fd fa fb nzW zW lp rg mem ch) (fun f => bt ch f = true) v sp sm sr dp ∧ wq_H sm dp ∧ (∀ f, f < 32 → (bt al f = true ↔ bt ch f = true ∧ la_pl T kd fd fa fb nzW zW lp rg mem f (v f) ≠ -1)) ∧ (∀ k, k < dp → ∀ f, f < 32 → bt (sm k) f = true → bt ch f = true)
noncomputable def xw_mu (n : Nat) (T : Int32) (kd fd fa fb nzW zW : Nat → Int32) (lp : Nat → Nat) (rg mem : Nat → Int32) (ch : Int32) (v : Nat → Nat) : Nat := pt_sum (fun f => la_tv n T kd fd fa fb nzW zW lp rg mem ch f - v f) 8
section
variable {f_laneTotal f_lineLimit f_tripLimit f_logLimit f_count f_isSealed f_openTotal f_openLoops f_alive f_depth f_clash : Int32} {a_kinds a_fieldD a_fieldA a_fieldB a_blockLine a_blockHasElse a_opener a_elseOf a_endOf a_wayNonzero a_wayZero a_postDom a_rejoinOf a_regs a_cells a_work a_stored a_tripCount a_stackPlace a_stackMask a_stackRejoin a_stopLine a_reads a_writes a_marks a_logLine a_logMask : Nat → Int32}
theorem xv_push {post : SX → Prop} {d : Nat} {p m r : Int32} (hd : d < 16) (K : post (f_laneTotal, f_lineLimit, f_tripLimit, f_logLimit, f_count, f_isSealed, f_openTotal, f_openLoops, f_alive, nI (d + 1), f_clash, a_kinds, a_fieldD, a_fieldA, a_fieldB, a_blockLine, a_blockHasElse, a_opener, a_elseOf, a_endOf, a_wayNonzero, a_wayZero, a_postDom, a_rejoinOf, a_regs, a_cells, a_work, a_stored, a_tripCount, upd a_stackPlace d p, upd a_stackMask d m, upd a_stackRejoin d r, a_stopLine, a_reads, a_writes, a_marks, a_logLine, a_logMask)) : wpX_push post (f_laneTotal, f_lineLimit, f_tripLimit, f_logLimit, f_count, f_isSealed, f_openTotal, f_openLoops, f_alive, nI d, f_clash, a_kinds, a_fieldD, a_fieldA, a_fieldB, a_blockLine, a_blockHasElse, a_opener, a_elseOf, a_endOf, a_wayNonzero, a_wayZero, a_postDom, a_rejoinOf, a_regs, a_cells, a_work, a_stored, a_tripCount, a_stackPlace, a_stackMask, a_stackRejoin, a_stopLine, a_reads, a_writes, a_marks, a_logLine, a_logMask) p m r := by
  have c : (nI d).toNatClampNeg = d := nI_clamp (by omega)
  have v : vp_in (nI d) 16 := vp_in_nI hd (by decide)
  unfold wpX_push
  dsimp only
  rw [c]
  exact br_f (nI_ge (b := 16) hd (by decide)) ⟨v, nm_e ⟨v, nm_e ⟨v, nm_e (nm_r (nI_1 d) K)⟩⟩⟩
theorem xv_branch {post : SX → Prop} {t x : Nat} {tk rs : Int32} (hx : x < 24) (ht : t < 16) (hdp : ¬ tk = 0 → ¬ rs = 0 → t + 3 ≤ 16)
    (KN : ∀ q, ((tk = 0 ∧ q = a_wayZero x) ∨ (a_wayNonzero x = a_wayZero x ∧ q = a_wayZero x) ∨ (rs = 0 ∧ q = a_wayNonzero x)) → post (f_laneTotal, f_lineLimit, f_tripLimit, f_logLimit, f_count, f_isSealed, f_openTotal, f_openLoops, f_alive, nI (t + 1), f_clash, a_kinds, a_fieldD, a_fieldA, a_fieldB, a_blockLine, a_blockHasElse, a_opener, a_elseOf, a_endOf, a_wayNonzero, a_wayZero, a_postDom, a_rejoinOf, a_regs, a_cells, a_work, a_stored, a_tripCount, upd a_stackPlace t q, a_stackMask, a_stackRejoin, a_stopLine, a_reads, a_writes, a_marks, a_logLine, a_logMask))
    (KD : ¬ tk = 0 → ¬ a_wayNonzero x = a_wayZero x → ¬ rs = 0 → post (f_laneTotal, f_lineLimit, f_tripLimit, f_logLimit, f_count, f_isSealed, f_openTotal, f_openLoops, f_alive, nI (t + 3), f_clash, a_kinds, a_fieldD, a_fieldA, a_fieldB, a_blockLine, a_blockHasElse, a_opener, a_elseOf, a_endOf, a_wayNonzero, a_wayZero, a_postDom, a_rejoinOf, a_regs, a_cells, a_work, a_stored, a_tripCount, upd (upd (upd a_stackPlace t (a_rejoinOf x)) (t + 1) (a_wayZero x)) (t + 2) (a_wayNonzero x), upd (upd a_stackMask (t + 1) rs) (t + 2) tk, upd (upd a_stackRejoin (t + 1) (a_rejoinOf x)) (t + 2) (a_rejoinOf x), a_stopLine, a_reads, a_writes, a_marks, a_logLine, a_logMask)) :
    wpX_branch post (f_laneTotal, f_lineLimit, f_tripLimit, f_logLimit, f_count, f_isSealed, f_openTotal, f_openLoops, f_alive, nI (t + 1), f_clash, a_kinds, a_fieldD, a_fieldA, a_fieldB, a_blockLine, a_blockHasElse, a_opener, a_elseOf, a_endOf, a_wayNonzero, a_wayZero, a_postDom, a_rejoinOf, a_regs, a_cells, a_work, a_stored, a_tripCount, a_stackPlace, a_stackMask, a_stackRejoin, a_stopLine, a_reads, a_writes, a_marks, a_logLine, a_logMask) (nI t) (nI x) tk rs := by
  have cx : (nI x).toNatClampNeg = x := nI_clamp (by omega)
  have vx : vp_in (nI x) 24 := vp_in_nI hx (by decide)
  have ct : (nI t).toNatClampNeg = t := nI_clamp (by omega)
  have vt : vp_in (nI t) 16 := vp_in_nI ht (by decide)
  unfold wpX_branch
  dsimp only
  rw [cx, ct]
  refine ⟨vx, nm_e ⟨vx, nm_e (br_c (fun h1 => ⟨vt, nm_e (KN _ (Or.inl ⟨h1, rfl⟩))⟩) (fun h1 => br_c (fun h2 => ⟨vt, nm_e (KN _ (Or.inr (Or.inl ⟨h2, rfl⟩)))⟩) (fun h2 => br_c (fun h3 => ⟨vt, nm_e (KN _ (Or.inr (Or.inr ⟨h3, rfl⟩)))⟩) (fun h3 => ⟨vx, nm_e ⟨vt, nm_e ?_⟩⟩))))⟩⟩
  have := hdp h1 h3
  exact xv_push (by omega) (xv_push (d := t + 1 + 1) (by omega) (KD h1 h2 h3))
end
section
variable {f_laneTotal f_lineLimit f_tripLimit f_logLimit f_count f_isSealed f_openTotal f_openLoops f_alive f_depth f_clash : Int32} {a_kinds a_fieldD a_fieldA a_fieldB a_blockLine a_blockHasElse a_opener a_elseOf a_endOf a_wayNonzero a_wayZero a_postDom a_rejoinOf a_regs a_cells a_work a_stored a_tripCount a_stackPlace a_stackMask a_stackRejoin a_stopLine a_reads a_writes a_marks a_logLine a_logMask : Nat → Int32} {n L G t x : Nat} {nzW zW : Nat → Int32} {lp : Nat → Nat} {rg mem : Nat → Int32} {ch act : Int32} {rj : Int32 → Int32} {v : Nat → Nat}
theorem xv_visit {post : SX → Prop} (hK : la_K n f_tripLimit a_kinds nzW zW lp) (hF : rl_F n a_kinds a_fieldD a_fieldA a_fieldB) (hL8 : L ≤ 8) (hG : G ≤ 16) (hch : ∀ f, bt ch f = true → f < L)
    (hwn : ∀ x, x < n → a_wayNonzero x = nzW x) (hwz : ∀ x, x < n → a_wayZero x = zW x) (hop : ∀ x, x < n → a_kinds x = 17 → a_opener x = nI (lp x) ∧ lp x < 24) (hrjX : ∀ x, x < n → a_rejoinOf x = rj (nI x)) (hrj : ∀ x, x < n → ∃ r, rj (nI x) = nI r ∧ rl_J n nzW zW x r)
    (hA : xw_A n f_tripLimit a_kinds a_fieldD a_fieldA a_fieldB nzW zW lp rg mem ch rj v f_alive (t + 1) a_stackPlace a_stackMask a_stackRejoin) (hB : xw_B n G f_tripLimit a_kinds a_fieldD a_fieldA a_fieldB nzW zW lp rg mem ch rj a_cells v a_work a_stored a_tripCount a_stopLine a_reads a_writes a_marks a_logLine a_logMask)
    (eact : act = a_stackMask t &&& f_alive) (hne0 : ¬ act = 0) (hpx : a_stackPlace t = nI x) (hx : x < n) (hnr : a_stackPlace t ≠ a_stackRejoin t) (ht : t < 16)
    (K : ∀ v' al dp wk st tc sp sm sr sl rd wr mk ll lm, xw_A n f_tripLimit a_kinds a_fieldD a_fieldA a_fieldB nzW zW lp rg mem ch rj v' al dp sp sm sr → xw_B n G f_tripLimit a_kinds a_fieldD a_fieldA a_fieldB nzW zW lp rg mem ch rj a_cells v' wk st tc sl rd wr mk ll lm → 3 * xw_mu n f_tripLimit a_kinds a_fieldD a_fieldA a_fieldB nzW zW lp rg mem ch v' + dp + 1 ≤ 3 * xw_mu n f_tripLimit a_kinds a_fieldD a_fieldA a_fieldB nzW zW lp rg mem ch v + (t + 1) → dp ≤ 16 →
      post (nI L, f_lineLimit, f_tripLimit, nI G, nI n, f_isSealed, f_openTotal, f_openLoops, al, nI dp, f_clash, a_kinds, a_fieldD, a_fieldA, a_fieldB, a_blockLine, a_blockHasElse, a_opener, a_elseOf, a_endOf, a_wayNonzero, a_wayZero, a_postDom, a_rejoinOf, a_regs, a_cells, wk, st, tc, sp, sm, sr, sl, rd, wr, mk, ll, lm)) :
    wpX_visit post (nI L, f_lineLimit, f_tripLimit, nI G, nI n, f_isSealed, f_openTotal, f_openLoops, f_alive, nI (t + 1), f_clash, a_kinds, a_fieldD, a_fieldA, a_fieldB, a_blockLine, a_blockHasElse, a_opener, a_elseOf, a_endOf, a_wayNonzero, a_wayZero, a_postDom, a_rejoinOf, a_regs, a_cells, a_work, a_stored, a_tripCount, a_stackPlace, a_stackMask, a_stackRejoin, a_stopLine, a_reads, a_writes, a_marks, a_logLine, a_logMask) (nI t) (nI x) act := by
  have hK' := hK
  obtain ⟨hn0, hn, hTm, hw, hl0, hWW, hlp⟩ := hK'
  have hWx := hWW x hx
  have hwp : wp_K n (wy_E n nzW zW) rj (la_pl f_tripLimit a_kinds a_fieldD a_fieldA a_fieldB nzW zW lp rg mem) (la_tv n f_tripLimit a_kinds a_fieldD a_fieldA a_fieldB nzW zW lp rg mem ch) (fun f => bt ch f = true) := la_wpK (ch := ch) hK (fun x hx => by
    obtain ⟨r, e, j1, j2, j3, j4⟩ := hrj x hx
    exact ⟨r, e, j1, j2, j3, j4⟩)
  obtain ⟨a1, a2, a3, a4⟩ := hA
  have hc32 : ∀ f, bt ch f = true → f < 32 := fun f h => by have := hch f h; omega
  have hact : ∀ f, bt act f = true ↔ (bt (a_stackMask t) f = true ∧ bt f_alive f = true) := by
    intro f
    rw [eact, b_and, Bool.and_eq_true]
  have hactA : ∀ f, bt ch f = true → (bt act f = true ↔ bt (a_stackMask t) f = true ∧ la_pl f_tripLimit a_kinds a_fieldD a_fieldA a_fieldB nzW zW lp rg mem f (v f) ≠ -1) := by
    intro f hc
    rw [hact f]
    constructor
    · exact fun z => ⟨z.1, ((a3 f (hc32 f hc)).mp z.2).2⟩
    · exact fun z => ⟨z.1, (a3 f (hc32 f hc)).mpr ⟨hc, z.2⟩⟩
  have hactC : ∀ f, bt act f = true → bt ch f = true := fun f h => ((a3 f (sd_big ((hact f).mp h).2)).mp ((hact f).mp h).2).1
  have hactP : ∀ f, bt act f = true → la_pl f_tripLimit a_kinds a_fieldD a_fieldA a_fieldB nzW zW lp rg mem f (v f) = nI x := by
    intro f h
    have hc := hactC f h
    obtain ⟨b1, b2⟩ := (hactA f hc).mp h
    rw [a1.2.2.1 f hc b2, wp_low_t b1 b1]
    exact hpx
  have hQ : xw_Q n L x f_tripLimit a_kinds a_fieldD a_fieldA a_fieldB nzW zW lp rg mem ch act v := ⟨hn, hL8, hx, hF, (hw x hx).1, hWx, fun f h => ⟨hch f (hactC f h), hactC f h, hactP f h⟩⟩
  have hvlt : ∀ f, bt act f = true → v f < la_tv n f_tripLimit a_kinds a_fieldD a_fieldA a_fieldB nzW zW lp rg mem ch f := fun f h => wp_line hwp (hactC f h) (a1.1 f (hactC f h)) hx (hactP f h)
  have hpl1 : ∀ f, bt act f = true → la_pl f_tripLimit a_kinds a_fieldD a_fieldA a_fieldB nzW zW lp rg mem f (v f + 1) = la_to f_tripLimit a_kinds a_fieldD nzW zW x (la_so f_tripLimit a_kinds a_fieldD a_fieldA a_fieldB nzW zW lp rg mem f (v f)).1 := by
    intro f h
    unfold la_pl
    rw [xw_so hn hx (hactP f h)]
  obtain ⟨f0, hf0, hb0⟩ := bs_nz hne0
  have hmu : ∀ w : Nat → Nat, (∀ f, bt act f = true → w f = v f + 1) → (∀ f, ¬ bt act f = true → w f = v f) → xw_mu n f_tripLimit a_kinds a_fieldD a_fieldA a_fieldB nzW zW lp rg mem ch w + 1 ≤ xw_mu n f_tripLimit a_kinds a_fieldD a_fieldA a_fieldB nzW zW lp rg mem ch v := by
    intro w h1 h2
    unfold xw_mu
    refine pt_sum_lt 8 f0 (fun f _ => ?_) (by have := hch f0 (hactC f0 hb0); omega) ?_
    · by_cases c : bt act f = true
      · rw [h1 f c]; omega
      · rw [h2 f c]; exact Nat.le_refl _
    · rw [h1 f0 hb0]
      have := hvlt f0 hb0
      omega
  have hVa : ∀ w : Nat → Nat, xw_V act v L w → (∀ f, bt act f = true → w f = v f + 1) ∧ (∀ f, ¬ bt act f = true → w f = v f) :=
    fun w hV => ⟨fun f h => (hV f).1 h (hch f (hactC f h)), fun f h => (hV f).2 (fun z => h z.1)⟩
  have finN : ∀ (w : Nat → Nat) (al q : Int32), (∀ f, bt act f = true → w f = v f + 1) → (∀ f, ¬ bt act f = true → w f = v f) → (∀ f, bt act f = true → la_pl f_tripLimit a_kinds a_fieldD a_fieldA a_fieldB nzW zW lp rg mem f (v f + 1) ≠ -1 → la_pl f_tripLimit a_kinds a_fieldD a_fieldA a_fieldB nzW zW lp rg mem f (v f + 1) = q) → (∀ f, f < 32 → (bt al f = true ↔ bt ch f = true ∧ la_pl f_tripLimit a_kinds a_fieldD a_fieldA a_fieldB nzW zW lp rg mem f (w f) ≠ -1)) → xw_A n f_tripLimit a_kinds a_fieldD a_fieldA a_fieldB nzW zW lp rg mem ch rj w al (t + 1) (upd a_stackPlace t q) a_stackMask a_stackRejoin := by
    intro w al q h1 h2 h3 h4
    exact ⟨wq_N (A := fun f => bt act f = true) hwp a1 hx hpx hnr (fun f hc => hactA f hc) (fun f _ h => h1 f h) (fun f _ h => h2 f h) (fun f _ h => h3 f h), a2, h4, a4⟩
  have alK : ∀ (w : Nat → Nat), (∀ f, bt act f = true → w f = v f + 1) → (∀ f, ¬ bt act f = true → w f = v f) → (∀ f, bt act f = true → la_pl f_tripLimit a_kinds a_fieldD a_fieldA a_fieldB nzW zW lp rg mem f (v f + 1) ≠ -1) → ∀ f, f < 32 → (bt f_alive f = true ↔ bt ch f = true ∧ la_pl f_tripLimit a_kinds a_fieldD a_fieldA a_fieldB nzW zW lp rg mem f (w f) ≠ -1) := by
    intro w h1 h2 h3 f hf
    rw [a3 f hf]
    by_cases c : bt act f = true
    · rw [h1 f c]
      exact ⟨fun z => ⟨z.1, h3 f c⟩, fun z => ⟨z.1, by rw [hactP f c]; exact wp_nm1 (by omega)⟩⟩
    · rw [h2 f c]
  have dp16 : t + 1 ≤ 16 := by omega
  have cx : (nI x).toNatClampNeg = x := nI_clamp (by omega)
  have vx : vp_in (nI x) 24 := vp_in_nI (by omega) (by decide)
  have ct : (nI t).toNatClampNeg = t := nI_clamp (by omega)
  have vt : vp_in (nI t) 16 := vp_in_nI ht (by decide)
  have zn : ∃ y, y ≤ n ∧ zW x = nI y := (wy_tgt hw hx hWx).1
  obtain ⟨yz, hyz, ez⟩ := zn
  have ezx := hwz x hx
  have enx := hwn x hx
  have same : a_kinds x < 13 ∨ a_kinds x = 14 ∨ a_kinds x = 15 → ∀ f, bt act f = true → la_pl f_tripLimit a_kinds a_fieldD a_fieldA a_fieldB nzW zW lp rg mem f (v f + 1) = zW x := by
    intro h f hb
    rw [hpl1 f hb]
    unfold la_to
    rw [wy_same hWx h]
    split <;> rfl
  have nz1 : zW x ≠ -1 := by rw [ez]; exact wp_nm1 (by omega)
  unfold wpX_visit
  dsimp only
  rw [cx, ct]
  refine ⟨vx, nm_e ?_⟩
  by_cases c12 : a_kinds x < 12
  · have sm := same (Or.inl (Int32.lt_trans c12 (by decide)))
    refine br_f (fun z => absurd c12 (Int32.not_lt.mpr z)) ⟨L + 1, ?_⟩
    refine xw_E (G := G) (rj := rj) hQ hG ht c12 (fun w wk st rd wr hV hB' => ?_) (L + 1) 0 v a_work a_stored a_reads a_writes (by omega) (by omega) xw_V0 hB
    obtain ⟨w1, w2⟩ := hVa w hV
    have m := hmu w w1 w2
    rw [ezx]
    exact K w f_alive (t + 1) wk st a_tripCount _ _ _ _ rd wr _ _ _ (finN w f_alive (zW x) w1 w2 (fun f h _ => sm f h) (alK w w1 w2 (fun f h => by rw [sm f h]; exact nz1))) hB' (by omega) dp16
  · have c12' : 12 ≤ a_kinds x := Int32.not_lt.mp c12
    refine br_t c12' ?_
    by_cases k12 : a_kinds x = 12
    · have sm := same (Or.inl (by rw [k12]; decide))
      refine br_t k12 ?_
      unfold wpX_logMarks
      dsimp only
      refine ⟨L + 1, xw_M (G := G) (rj := rj) hQ hG k12 (fun f => la_tv_le hK) (fun f h => by have := hvlt f h; have := la_tv_le (fd := a_fieldD) (fa := a_fieldA) (fb := a_fieldB) (rg := rg) (mem := mem) (ch := ch) (f := f) hK; omega) (fun f h b hb => ?_) (fun w mk ll lm hV hB' => ?_) (L + 1) 0 v a_marks a_logLine a_logMask (by omega) (by omega) xw_V0 hB⟩
      · have hcf := hactC f h
        obtain ⟨q1, q2⟩ := (hactA f hcf).mp h
        by_cases cb : bt ch b = true
        · rw [hactA b cb]
          exact wp_mask hwp a1 hx hpx hnr hcf cb q1 q2
        · constructor
          · exact fun z => absurd (hactC b z) cb
          · intro z
            exfalso
            have t0 : la_tv n f_tripLimit a_kinds a_fieldD a_fieldA a_fieldB nzW zW lp rg mem ch b = 0 := la_tv_0 cb
            rcases z with z | ⟨_, j, s, z⟩ | ⟨_, j, s, z⟩
            · rw [z] at cb; exact cb hcf
            · have := (wp_pr_in z).2.1
              omega
            · have := (wp_pr_in z).1
              omega
      · obtain ⟨w1, w2⟩ := hVa w hV
        have m := hmu w w1 w2
        dsimp only
        rw [ezx]
        exact ⟨vx, vt, nm_e (K w f_alive (t + 1) _ _ _ _ _ _ _ _ _ mk ll lm (finN w f_alive (zW x) w1 w2 (fun f h _ => sm f h) (alK w w1 w2 (fun f h => by rw [sm f h]; exact nz1))) hB' (by omega) dp16)⟩
    · refine br_f k12 ?_
      have stay : a_kinds x = 14 ∨ a_kinds x = 15 → wX_visit_106 post (nI t) (nI x) (nI L) f_lineLimit f_tripLimit (nI G) (nI n) f_isSealed f_openTotal f_openLoops f_alive (nI (t + 1)) f_clash a_kinds a_fieldD a_fieldA a_fieldB a_blockLine a_blockHasElse a_opener a_elseOf a_endOf a_wayNonzero a_wayZero a_postDom a_rejoinOf a_regs a_cells a_work a_stored a_tripCount a_stackPlace a_stackMask a_stackRejoin a_stopLine a_reads a_writes a_marks a_logLine a_logMask := by
        intro hk
        have sm := same (Or.inr hk)
        have w1 : ∀ f, bt act f = true → (fun f => if bt act f = true then v f + 1 else v f) f = v f + 1 := fun f h => if_pos h
        have w2 : ∀ f, ¬ bt act f = true → (fun f => if bt act f = true then v f + 1 else v f) f = v f := fun f h => if_neg h
        have m := hmu _ w1 w2
        have hst : ∀ f, bt act f = true → la_so f_tripLimit a_kinds a_fieldD a_fieldA a_fieldB nzW zW lp rg mem f (v f + 1) = ((la_so f_tripLimit a_kinds a_fieldD a_fieldA a_fieldB nzW zW lp rg mem f (v f)).1, zW x) := by
          intro f h
          have e1 := xw_so (n := n) hn hx (hactP f h)
          have e2 := sm f h
          unfold la_pl at e2
          rw [e1] at e2 ⊢
          have e3 : la_to f_tripLimit a_kinds a_fieldD nzW zW x (la_so f_tripLimit a_kinds a_fieldD a_fieldA a_fieldB nzW zW lp rg mem f (v f)).1 = zW x := e2
          rw [e3]
          rcases hk with k | k
          · rw [lx_sto (by rw [k]; decide) (by rw [k]; decide) (by rw [k]; decide) (by rw [k]; decide) (by rw [k]; decide)]
          · rw [lx_sto (by rw [k]; decide) (by rw [k]; decide) (by rw [k]; decide) (by rw [k]; decide) (by rw [k]; decide)]
        have hB' : xw_B n G f_tripLimit a_kinds a_fieldD a_fieldA a_fieldB nzW zW lp rg mem ch rj a_cells (fun f => if bt act f = true then v f + 1 else v f) a_work a_stored a_tripCount a_stopLine a_reads a_writes a_marks a_logLine a_logMask := by
          intro f hf
          obtain ⟨b1, b2⟩ := hB f hf
          refine ⟨fun hc => ?_, b2⟩
          obtain ⟨d1, d2, d3⟩ := b1 hc
          by_cases h : bt act f = true
          · show lx_R f (la_so f_tripLimit a_kinds a_fieldD a_fieldA a_fieldB nzW zW lp rg mem f (if bt act f = true then v f + 1 else v f)).1 a_work a_stored a_tripCount a_reads a_writes a_cells ∧ a_stopLine f = (if la_pl f_tripLimit a_kinds a_fieldD a_fieldA a_fieldB nzW zW lp rg mem f (if bt act f = true then v f + 1 else v f) = -1 then la_pl f_tripLimit a_kinds a_fieldD a_fieldA a_fieldB nzW zW lp rg mem f ((if bt act f = true then v f + 1 else v f) - 1) else nI n) ∧ xm_G a_kinds (la_pl f_tripLimit a_kinds a_fieldD a_fieldA a_fieldB nzW zW lp rg mem f) G f (if bt act f = true then v f + 1 else v f) (wp_mt (la_pl f_tripLimit a_kinds a_fieldD a_fieldA a_fieldB nzW zW lp rg mem) (la_tv n f_tripLimit a_kinds a_fieldD a_fieldA a_fieldB nzW zW lp rg mem ch) rj f) a_marks a_logLine a_logMask
            rw [if_pos h, hst f h, sm f h, if_neg nz1]
            rw [hactP f h, if_neg (wp_nm1 (by omega))] at d2
            refine ⟨d1, d2, xm_Gf d3 ?_⟩
            rw [hactP f h, cx]
            exact k12
          · show lx_R f (la_so f_tripLimit a_kinds a_fieldD a_fieldA a_fieldB nzW zW lp rg mem f (if bt act f = true then v f + 1 else v f)).1 a_work a_stored a_tripCount a_reads a_writes a_cells ∧ a_stopLine f = (if la_pl f_tripLimit a_kinds a_fieldD a_fieldA a_fieldB nzW zW lp rg mem f (if bt act f = true then v f + 1 else v f) = -1 then la_pl f_tripLimit a_kinds a_fieldD a_fieldA a_fieldB nzW zW lp rg mem f ((if bt act f = true then v f + 1 else v f) - 1) else nI n) ∧ xm_G a_kinds (la_pl f_tripLimit a_kinds a_fieldD a_fieldA a_fieldB nzW zW lp rg mem f) G f (if bt act f = true then v f + 1 else v f) (wp_mt (la_pl f_tripLimit a_kinds a_fieldD a_fieldA a_fieldB nzW zW lp rg mem) (la_tv n f_tripLimit a_kinds a_fieldD a_fieldA a_fieldB nzW zW lp rg mem ch) rj f) a_marks a_logLine a_logMask
            rw [if_neg h]
            exact ⟨d1, d2, d3⟩
        unfold wX_visit_106
        rw [cx, ct, ezx]
        exact ⟨vx, vt, nm_e (K _ f_alive (t + 1) _ _ _ _ _ _ _ _ _ _ _ _ (finN _ f_alive (zW x) w1 w2 (fun f h _ => sm f h) (alK _ w1 w2 (fun f h => by rw [sm f h]; exact nz1))) hB' (by omega) dp16)⟩
      refine br_c (fun k => stay (Or.inl k)) (fun k14 => br_c (fun k => stay (Or.inr k)) (fun k15 => ?_))
      have kb : a_kinds x = 13 ∨ a_kinds x = 16 ∨ a_kinds x = 17 ∨ a_kinds x = 18 ∨ a_kinds x = 19 := by
        rcases wy_kinds (hw x hx).1.1 (hw x hx).1.2 with k | k | k | k | k | k | k | k
        · exfalso
          rw [Int32.lt_iff_toInt_lt] at k
          rw [Int32.le_iff_toInt_le] at c12'
          have e1 : (13 : Int32).toInt = 13 := by decide
          have e2 : (12 : Int32).toInt = 12 := by decide
          apply k12
          apply Int32.toInt_inj.mp
          omega
        · exact Or.inl k
        · exact absurd k k14
        · exact absurd k k15
        · exact Or.inr (Or.inl k)
        · exact Or.inr (Or.inr (Or.inl k))
        · exact Or.inr (Or.inr (Or.inr (Or.inl k)))
        · exact Or.inr (Or.inr (Or.inr (Or.inr k)))
      unfold wpX_decide
      dsimp only
      refine ⟨L + 1, xw_D (G := G) (rj := rj) hQ hG kb (hop x hx) (fun w tk tc sl hV htk hB' => ?_) (L + 1) 0 v 0 a_tripCount a_stopLine (by omega) (by omega) xw_V0 (fun f hf => ⟨fun z => absurd z (by rw [b_0]; decide), fun z => absurd z.1 (Nat.not_lt_zero _)⟩) hB⟩
      obtain ⟨w1, w2⟩ := hVa w hV
      have m := hmu w w1 w2
      dsimp only
      have to1 : ∀ f, bt tk f = true → la_pl f_tripLimit a_kinds a_fieldD a_fieldA a_fieldB nzW zW lp rg mem f (v f + 1) = nzW x := by
        intro f h
        obtain ⟨q1, q2⟩ := (htk f (sd_big h)).mp h
        rw [hpl1 f q1]
        exact if_pos q2
      have to0 : ∀ f, bt act f = true → ¬ bt tk f = true → la_pl f_tripLimit a_kinds a_fieldD a_fieldA a_fieldB nzW zW lp rg mem f (v f + 1) = zW x := by
        intro f h h2
        rw [hpl1 f h]
        exact if_neg (fun q => h2 ((htk f (sd_big h)).mpr ⟨h, q⟩))
      have tkA : ∀ f, bt tk f = true → bt act f = true := fun f h => ((htk f (sd_big h)).mp h).1
      refine br_c (fun k19 => ?_) (fun k19 => ?_)
      · have enz : nzW x = -1 := (hWx.2.2.2.2.2.2.2 k19).1
        rw [ezx]
        refine nm_e ⟨vx, vt, nm_e (K w _ (t + 1) _ _ tc _ _ _ sl _ _ _ _ _ (finN w _ (zW x) w1 w2 (fun f h q => ?_) (fun f hf => ?_)) hB' (by omega) dp16)⟩
        · by_cases c : bt tk f = true
          · rw [to1 f c] at q
            exact absurd enz q
          · exact to0 f h c
        · rw [b_and, bs_not tk f hf, Bool.and_eq_true, a3 f hf]
          by_cases c : bt tk f = true
          · rw [c, w1 f (tkA f c), to1 f c]
            constructor
            · exact fun z => absurd z.2 (by decide)
            · exact fun z => absurd enz z.2
          · rw [bs_f c]
            by_cases h : bt act f = true
            · rw [w1 f h, to0 f h c]
              exact ⟨fun z => ⟨z.1.1, nz1⟩, fun z => ⟨⟨z.1, by rw [hactP f h]; exact wp_nm1 (by omega)⟩, rfl⟩⟩
            · rw [w2 f h]
              exact ⟨fun z => z.1, fun z => ⟨z, rfl⟩⟩
      · have enz : ∃ y, y ≤ n ∧ nzW x = nI y := by
          rcases (wy_tgt hw hx hWx).2 with ⟨z, _⟩ | ⟨_, z⟩
          · exact absurd z k19
          · exact z
        obtain ⟨yn, hyn, en⟩ := enz
        have nz2 : nzW x ≠ -1 := by rw [en]; exact wp_nm1 (by omega)
        have alive2 : ∀ f, bt act f = true → la_pl f_tripLimit a_kinds a_fieldD a_fieldA a_fieldB nzW zW lp rg mem f (v f + 1) ≠ -1 := by
          intro f h
          by_cases c : bt tk f = true
          · rw [to1 f c]; exact nz2
          · rw [to0 f h c]; exact nz1
        have rsb : ∀ f, f < 32 → (bt (act &&& (tk ^^^ (-1))) f = true ↔ bt act f = true ∧ ¬ bt tk f = true) := by
          intro f hf
          rw [b_and, bs_not tk f hf, Bool.and_eq_true]
          cases bt tk f <;> simp
        refine xv_branch (by omega) ht (fun h1 h2 => ?_) (fun q hq => ?_) (fun h1 h2 h3 => ?_)
        · obtain ⟨f1, g1, g2⟩ := bs_nz h1
          obtain ⟨f2, g3, g4⟩ := bs_nz h2
          have l1 := hch f1 (hactC f1 (tkA f1 g2))
          obtain ⟨g5, g6⟩ := (rsb f2 g3).mp g4
          have l2 := hch f2 (hactC f2 g5)
          have p1 : 0 < wq_pc tk := wq_pc_pos (by omega) g2
          have p2 : wq_pc tk < wq_pc (a_stackMask t) := wq_pc_lt (fun f _ z => ((hact f).mp (tkA f z)).1) (g := f2) (by omega) ((hact f2).mp g5).1 g6
          have p3 := a2 t (by omega)
          omega
        · refine K w f_alive (t + 1) _ _ tc _ _ _ sl _ _ _ _ _ (finN w f_alive q w1 w2 (fun f h _ => ?_) (alK w w1 w2 alive2)) hB' (by omega) dp16
          rcases hq with ⟨h1, h2⟩ | ⟨h1, h2⟩ | ⟨h1, h2⟩
          · rw [h2, ezx]
            refine to0 f h ?_
            rw [h1, b_0]; decide
          · rw [h2, ezx]
            by_cases c : bt tk f = true
            · rw [to1 f c, ← enx, ← ezx]; exact h1
            · exact to0 f h c
          · rw [h2, enx]
            refine to1 f ?_
            apply Classical.byContradiction
            intro c
            have := (rsb f (sd_big h)).mpr ⟨h, c⟩
            rw [h1, b_0] at this
            cases this
        · obtain ⟨f1, g1, g2⟩ := bs_nz h1
          obtain ⟨f2, g3, g4⟩ := bs_nz h3
          have l1 := hch f1 (hactC f1 (tkA f1 g2))
          obtain ⟨g5, g6⟩ := (rsb f2 g3).mp g4
          have l2 := hch f2 (hactC f2 g5)
          have p1 : 0 < wq_pc tk := wq_pc_pos (by omega) g2
          have p2 : wq_pc tk < wq_pc (a_stackMask t) := wq_pc_lt (fun f _ z => ((hact f).mp (tkA f z)).1) (g := f2) (by omega) ((hact f2).mp g5).1 g6
          have p4 : wq_pc (act &&& (tk ^^^ (-1))) < wq_pc (a_stackMask t) := wq_pc_lt (fun f hf z => ((hact f).mp ((rsb f (by omega)).mp z).1).1) (g := f1) (by omega) ((hact f1).mp (tkA f1 g2)).1 (fun z => ((rsb f1 g1).mp z).2 g2)
          have p3 := a2 t (by omega)
          have hab : yn ≠ yz := fun z => h2 (by rw [enx, ezx, en, ez, z])
          have nab : nI yn ≠ nI yz := fun z => hab (bs_inj (by omega) (by omega) z)
          have pla : ∀ f, bt act f = true → (la_pl f_tripLimit a_kinds a_fieldD a_fieldA a_fieldB nzW zW lp rg mem f (v f + 1) = nI yn ↔ bt tk f = true) := by
            intro f h
            constructor
            · intro z
              apply Classical.byContradiction
              intro c
              rw [to0 f h c, ez] at z
              exact nab z.symm
            · intro z
              rw [to1 f z]; exact en
          refine K w f_alive (t + 3) a_work a_stored tc (upd (upd (upd a_stackPlace t (a_rejoinOf x)) (t + 1) (a_wayZero x)) (t + 2) (a_wayNonzero x)) (upd (upd a_stackMask (t + 1) (act &&& (tk ^^^ (-1)))) (t + 2) tk) (upd (upd a_stackRejoin (t + 1) (a_rejoinOf x)) (t + 2) (a_rejoinOf x)) sl a_reads a_writes a_marks a_logLine a_logMask ⟨wq_D (A := fun f => bt act f = true) (a := yn) (b := yz) (tk := tk) (rs := act &&& (tk ^^^ (-1))) hwp a1 hx hpx hnr (fun f hc => hactA f hc) (fun f _ h => w1 f h) (fun f _ h => w2 f h) hyn hyz hab ⟨hx, hyn, Or.inr en⟩ ⟨hx, hyz, Or.inl ez⟩ (fun f hc => ?_) (fun f hc => ?_) (fun f hc h => ?_) (fun j hj => ?_) ?_ ?_ ?_ (fun j hj => ?_) ?_ ?_ (fun j hj => ?_) ?_ ?_, fun k hk => ?_, alK w w1 w2 alive2, fun k hk f hf hb => ?_⟩ hB' (by omega) (by omega)
          · exact ⟨fun z => ⟨tkA f z, (pla f (tkA f z)).mpr z⟩, fun z => (pla f z.1).mp z.2⟩
          · rw [rsb f (hc32 f hc)]
            constructor
            · exact fun z => ⟨z.1, (to0 f z.1 z.2).trans ez⟩
            · intro z
              refine ⟨z.1, fun c => nab ?_⟩
              exact ((pla f z.1).mpr c).symm.trans z.2
          · by_cases c : bt tk f = true
            · exact Or.inl ((to1 f c).trans en)
            · exact Or.inr ((to0 f h c).trans ez)
          · rw [bs_un (by omega), bs_un (by omega), bs_un (by omega)]
          · rw [bs_un (by omega), bs_un (by omega), bs_us]
            exact hrjX x hx
          · rw [bs_un (by omega), bs_us, ezx]
            exact ez
          · rw [bs_us, enx]
            exact en
          · rw [bs_un (by omega), bs_un (by omega)]
          · rw [bs_un (by omega), bs_us]
          · rw [bs_us]
          · rw [bs_un (by omega), bs_un (by omega)]
          · rw [bs_un (by omega), bs_us]
            exact hrjX x hx
          · rw [bs_us]
            exact hrjX x hx
          · by_cases e1 : k = t + 2
            · subst e1
              rw [bs_us]
              omega
            · rw [bs_un e1]
              by_cases e2 : k = t + 1
              · subst e2
                rw [bs_us]
                omega
              · rw [bs_un e2]
                exact a2 k (by omega)
          · by_cases e1 : k = t + 2
            · subst e1
              rw [bs_us] at hb
              exact hactC f (tkA f hb)
            · rw [bs_un e1] at hb
              by_cases e2 : k = t + 1
              · subst e2
                rw [bs_us] at hb
                exact hactC f ((rsb f hf).mp hb).1
              · rw [bs_un e2] at hb
                exact a4 k (by omega) f hf hb
end
end
section
/-! the component's launch: the run of the warp -/
section
variable {f_laneTotal f_lineLimit f_tripLimit f_logLimit f_count f_isSealed f_openTotal f_openLoops f_alive f_depth f_clash : Int32} {a_kinds a_fieldD a_fieldA a_fieldB a_blockLine a_blockHasElse a_opener a_elseOf a_endOf a_wayNonzero a_wayZero a_postDom a_rejoinOf a_regs a_cells a_work a_stored a_tripCount a_stackPlace a_stackMask a_stackRejoin a_stopLine a_reads a_writes a_marks a_logLine a_logMask : Nat → Int32} {n L G : Nat} {nzW zW : Nat → Int32} {lp : Nat → Nat} {rg mem : Nat → Int32} {ch : Int32} {rj : Int32 → Int32}
theorem xr_36 {post : SX → Prop} (hK : la_K n f_tripLimit a_kinds nzW zW lp) (hF : rl_F n a_kinds a_fieldD a_fieldA a_fieldB) (hL8 : L ≤ 8) (hG : G ≤ 16) (hch : ∀ f, bt ch f = true → f < L)
    (hwn : ∀ x, x < n → a_wayNonzero x = nzW x) (hwz : ∀ x, x < n → a_wayZero x = zW x) (hop : ∀ x, x < n → a_kinds x = 17 → a_opener x = nI (lp x) ∧ lp x < 24) (hrjX : ∀ x, x < n → a_rejoinOf x = rj (nI x)) (hrj : ∀ x, x < n → ∃ r, rj (nI x) = nI r ∧ rl_J n nzW zW x r)
    (K : ∀ v al dp wk st tc sp sm sr sl rd wr mk ll lm, (∀ f, bt ch f = true → v f = la_tv n f_tripLimit a_kinds a_fieldD a_fieldA a_fieldB nzW zW lp rg mem ch f) → xw_B n G f_tripLimit a_kinds a_fieldD a_fieldA a_fieldB nzW zW lp rg mem ch rj a_cells v wk st tc sl rd wr mk ll lm → post (nI L, f_lineLimit, f_tripLimit, nI G, nI n, f_isSealed, f_openTotal, f_openLoops, al, dp, f_clash, a_kinds, a_fieldD, a_fieldA, a_fieldB, a_blockLine, a_blockHasElse, a_opener, a_elseOf, a_endOf, a_wayNonzero, a_wayZero, a_postDom, a_rejoinOf, a_regs, a_cells, wk, st, tc, sp, sm, sr, sl, rd, wr, mk, ll, lm)) :
    ∀ fu ro v al dp wk st tc sp sm sr sl rd wr mk ll lm, 12000 - ro < fu → ro + (3 * xw_mu n f_tripLimit a_kinds a_fieldD a_fieldA a_fieldB nzW zW lp rg mem ch v + dp) ≤ 12000 → dp ≤ 16 → xw_A n f_tripLimit a_kinds a_fieldD a_fieldA a_fieldB nzW zW lp rg mem ch rj v al dp sp sm sr → xw_B n G f_tripLimit a_kinds a_fieldD a_fieldA a_fieldB nzW zW lp rg mem ch rj a_cells v wk st tc sl rd wr mk ll lm →
      wX_runWarp_36 post fu (nI ro) (nI L) f_lineLimit f_tripLimit (nI G) (nI n) f_isSealed f_openTotal f_openLoops al (nI dp) f_clash a_kinds a_fieldD a_fieldA a_fieldB a_blockLine a_blockHasElse a_opener a_elseOf a_endOf a_wayNonzero a_wayZero a_postDom a_rejoinOf a_regs a_cells wk st tc sp sm sr sl rd wr mk ll lm := by
  have hn := hK.2.1
  have hwp : wp_K n (wy_E n nzW zW) rj (la_pl f_tripLimit a_kinds a_fieldD a_fieldA a_fieldB nzW zW lp rg mem) (la_tv n f_tripLimit a_kinds a_fieldD a_fieldA a_fieldB nzW zW lp rg mem ch) (fun f => bt ch f = true) := la_wpK (ch := ch) hK (fun x hx => by
    obtain ⟨r, e, j1, j2, j3, j4⟩ := hrj x hx
    exact ⟨r, e, j1, j2, j3, j4⟩)
  have hc32 : ∀ f, bt ch f = true → f < 32 := fun f h => by have := hch f h; omega
  intro fu
  induction fu with
  | zero => intro ro _ _ _ _ _ _ _ _ _ _ _ _ _ _ _ _ h1 h2; omega
  | succ fu ih =>
    intro ro v al dp wk st tc sp sm sr sl rd wr mk ll lm hfu hro hdp hA hB
    rw [wX_runWarp_36]
    dsimp only
    refine br_f (nI_ge (b := 16384) (by omega) (by decide)) ?_
    cases dp with
    | zero =>
      refine br_t (by decide) (K v al _ wk st tc sp sm sr sl rd wr mk ll lm (fun f hc => ?_) hB)
      obtain ⟨a1, _⟩ := hA
      by_cases c : la_pl f_tripLimit a_kinds a_fieldD a_fieldA a_fieldB nzW zW lp rg mem f (v f) = -1
      · exact wp_last hwp hc (a1.1 f hc) (Or.inl c)
      · exact wp_last hwp hc (a1.1 f hc) (Or.inr (a1.2.2.1 f hc c))
    | succ t =>
      have ct : (nI t).toNatClampNeg = t := nI_clamp (by omega)
      have vt : vp_in (nI t) 16 := vp_in_nI (by omega) (by decide)
      obtain ⟨a1, a2, a3, a4⟩ := hA
      have pop : (sp t = sr t ∨ ∀ f, bt ch f = true → la_pl f_tripLimit a_kinds a_fieldD a_fieldA a_fieldB nzW zW lp rg mem f (v f) ≠ -1 → ¬ bt (sm t) f = true) → wX_runWarp_103 post (wX_runWarp_36 post fu) (nI ro) (nI L) f_lineLimit f_tripLimit (nI G) (nI n) f_isSealed f_openTotal f_openLoops al (nI (t + 1)) f_clash a_kinds a_fieldD a_fieldA a_fieldB a_blockLine a_blockHasElse a_opener a_elseOf a_endOf a_wayNonzero a_wayZero a_postDom a_rejoinOf a_regs a_cells wk st tc sp sm sr sl rd wr mk ll lm := by
        intro h
        unfold wX_runWarp_103
        exact nm_r (nI_pred t) (nm_r (nI_1 ro) (ih (ro + 1) v al t wk st tc sp sm sr sl rd wr mk ll lm (by omega) (by omega) (by omega) ⟨wp_pop a1 h, fun k hk => a2 k (by omega), a3, fun k hk => a4 k (by omega)⟩ hB))
      refine br_f (nI_nle (by omega) (by omega)) (nm_r (nI_pred t) ⟨vt, ?_⟩)
      rw [ct]
      refine nm_e ⟨vt, nm_e (br_c (fun h0 => pop (Or.inr (fun f hc ha hb => ?_))) (fun h0 => ⟨vt, br_c (fun h1 => pop (Or.inl h1)) (fun h1 => ?_)⟩))⟩
      · have : bt (sm t &&& al) f = true := by
          rw [b_and, Bool.and_eq_true]
          exact ⟨hb, (a3 f (hc32 f hc)).mpr ⟨hc, ha⟩⟩
        rw [h0, b_0] at this
        cases this
      · obtain ⟨f0, q1, q2⟩ := bs_nz h0
        rw [b_and, Bool.and_eq_true] at q2
        obtain ⟨q3, q4⟩ := (a3 f0 q1).mp q2.2
        obtain ⟨a, b, e1, e2, e3, e4, e5⟩ := a1.2.2.2.1 f0 q3 q4 t (by omega) q2.1
        have hbn : b < n := by
          apply Classical.byContradiction
          intro c
          have : b = n := by omega
          subst this
          have := pd_ofn e5
          exact h1 (by rw [e1, e2, this])
        rw [e2]
        refine sm_line hn (nI b) (fun z => (sm_out (by omega) z hbn rfl).elim) (fun j hj ej => br_f bs_10 ?_)
        refine xv_visit (n := n) (L := L) (G := G) (t := t) (x := b) (nzW := nzW) (zW := zW) (lp := lp) (rg := rg) (mem := mem) (ch := ch) (rj := rj) (v := v) hK hF hL8 hG hch hwn hwz hop hrjX hrj ⟨a1, a2, a3, a4⟩ hB rfl h0 e2 hbn h1 (by omega) (fun v' al' dp' wk' st' tc' sp' sm' sr' sl' rd' wr' mk' ll' lm' hA' hB' hm hd => nm_r (nI_1 ro) (ih (ro + 1) v' al' dp' wk' st' tc' sp' sm' sr' sl' rd' wr' mk' ll' lm' (by omega) (by omega) hd hA' hB'))
theorem xr_mu0 (hK : la_K n f_tripLimit a_kinds nzW zW lp) : xw_mu n f_tripLimit a_kinds a_fieldD a_fieldA a_fieldB nzW zW lp rg mem ch (fun _ => 0) ≤ 3840 := by
  have := pt_sum_b (f := fun f => la_tv n f_tripLimit a_kinds a_fieldD a_fieldA a_fieldB nzW zW lp rg mem ch f - 0) 8 480 (fun f _ => by
    have := la_tv_le (fd := a_fieldD) (fa := a_fieldA) (fb := a_fieldB) (rg := rg) (mem := mem) (ch := ch) (f := f) hK
    omega)
  unfold xw_mu
  omega
/-- the run from its start -/
theorem xr_run {post : SX → Prop} (hK : la_K n f_tripLimit a_kinds nzW zW lp) (hF : rl_F n a_kinds a_fieldD a_fieldA a_fieldB) (hL8 : L ≤ 8) (hG : G ≤ 16) (hch : ∀ f, bt ch f = true → f < L)
    (hwn : ∀ x, x < n → a_wayNonzero x = nzW x) (hwz : ∀ x, x < n → a_wayZero x = zW x) (hop : ∀ x, x < n → a_kinds x = 17 → a_opener x = nI (lp x) ∧ lp x < 24) (hrjX : ∀ x, x < n → a_rejoinOf x = rj (nI x)) (hrj : ∀ x, x < n → ∃ r, rj (nI x) = nI r ∧ rl_J n nzW zW x r)
    (h1 : ∀ j, j < 64 → a_work j = rg j) (h2 : ∀ j, j < 192 → a_tripCount j = 0) (h3 : ∀ f, f < 8 → a_stopLine f = if bt ch f = true then nI n else -1) (h4 : ∀ f, f < 8 → a_reads f = 0 ∧ a_writes f = 0 ∧ a_marks f = 0) (hmem : ∀ c, c < 32 → a_cells c = mem c)
    (K : ∀ v al dp wk st tc sp sm sr sl rd wr mk ll lm, (∀ f, bt ch f = true → v f = la_tv n f_tripLimit a_kinds a_fieldD a_fieldA a_fieldB nzW zW lp rg mem ch f) → xw_B n G f_tripLimit a_kinds a_fieldD a_fieldA a_fieldB nzW zW lp rg mem ch rj a_cells v wk st tc sl rd wr mk ll lm → post (nI L, f_lineLimit, f_tripLimit, nI G, nI n, f_isSealed, f_openTotal, f_openLoops, al, dp, f_clash, a_kinds, a_fieldD, a_fieldA, a_fieldB, a_blockLine, a_blockHasElse, a_opener, a_elseOf, a_endOf, a_wayNonzero, a_wayZero, a_postDom, a_rejoinOf, a_regs, a_cells, wk, st, tc, sp, sm, sr, sl, rd, wr, mk, ll, lm)) :
    wpX_runWarp post (nI L, f_lineLimit, f_tripLimit, nI G, nI n, f_isSealed, f_openTotal, f_openLoops, f_alive, f_depth, f_clash, a_kinds, a_fieldD, a_fieldA, a_fieldB, a_blockLine, a_blockHasElse, a_opener, a_elseOf, a_endOf, a_wayNonzero, a_wayZero, a_postDom, a_rejoinOf, a_regs, a_cells, a_work, a_stored, a_tripCount, a_stackPlace, a_stackMask, a_stackRejoin, a_stopLine, a_reads, a_writes, a_marks, a_logLine, a_logMask) ch := by
  have hn := hK.2.1
  have hwp : wp_K n (wy_E n nzW zW) rj (la_pl f_tripLimit a_kinds a_fieldD a_fieldA a_fieldB nzW zW lp rg mem) (la_tv n f_tripLimit a_kinds a_fieldD a_fieldA a_fieldB nzW zW lp rg mem ch) (fun f => bt ch f = true) := la_wpK (ch := ch) hK (fun x hx => by
    obtain ⟨r, e, j1, j2, j3, j4⟩ := hrj x hx
    exact ⟨r, e, j1, j2, j3, j4⟩)
  have m0 := xr_mu0 (n := n) (f_tripLimit := f_tripLimit) (a_kinds := a_kinds) (a_fieldD := a_fieldD) (a_fieldA := a_fieldA) (a_fieldB := a_fieldB) (nzW := nzW) (zW := zW) (lp := lp) (rg := rg) (mem := mem) (ch := ch) hK
  unfold wpX_runWarp
  dsimp only
  refine nm_e (nm_e (nm_e ⟨12001, ?_⟩))
  refine xr_36 (n := n) (L := L) (G := G) (nzW := nzW) (zW := zW) (lp := lp) (rg := rg) (mem := mem) (ch := ch) (rj := rj) hK hF hL8 hG hch hwn hwz hop hrjX hrj K 12001 0 (fun _ => 0) ch 1 a_work a_stored a_tripCount _ _ _ a_stopLine a_reads a_writes a_marks a_logLine a_logMask (by omega) (by omega) (by omega) ⟨wp_start hwp bs_us bs_us (fun f hc => by rw [bs_us]; exact hc) (fun _ => rfl), fun k hk => ?_, fun f hf => ?_, fun k hk f hf hb => ?_⟩ (fun f hf => ?_)
  · have : k = 0 := by omega
    subst this
    have := pd_cn_le (fun f => bt (upd a_stackMask 0 ch 0) f = true) 8
    unfold wq_pc
    omega
  · constructor
    · exact fun z => ⟨z, (by decide : (0 : Int32) ≠ -1)⟩
    · exact fun z => z.1
  · have : k = 0 := by omega
    subst this
    rw [bs_us] at hb
    exact hb
  · obtain ⟨r1, r2, r3⟩ := h4 f hf
    refine ⟨fun hc => ⟨⟨fun r hr => h1 _ (by omega), fun c hc' => ?_, fun t ht => h2 _ (by omega), r1, r2⟩, ?_, r3.trans nI_0.symm, fun u hu => absurd hu (Nat.not_lt_zero _)⟩, fun hc => ⟨?_, r1, r2, r3⟩⟩
    · show (if bt 0 c = true then a_stored (f * 32 + c) else a_cells c) = mem c
      rw [b_0, if_neg (by decide)]
      exact hmem c hc'
    · rw [h3 f hf, if_pos hc]
      exact (if_neg (by decide : ¬ (0 : Int32) = -1)).symm
    · rw [h3 f hf, if_neg hc]
/-! preparing the lanes -/
theorem xr_50 {post : SX → Prop} (hL8 : L ≤ 8) (K : ∀ sl, (∀ f, f < 8 → sl f = if f < L ∧ bt ch f = true then nI n else a_stopLine f) → post (nI L, f_lineLimit, f_tripLimit, f_logLimit, nI n, f_isSealed, f_openTotal, f_openLoops, f_alive, f_depth, f_clash, a_kinds, a_fieldD, a_fieldA, a_fieldB, a_blockLine, a_blockHasElse, a_opener, a_elseOf, a_endOf, a_wayNonzero, a_wayZero, a_postDom, a_rejoinOf, a_regs, a_cells, a_work, a_stored, a_tripCount, a_stackPlace, a_stackMask, a_stackRejoin, sl, a_reads, a_writes, a_marks, a_logLine, a_logMask)) : ∀ fu i sl, L - i < fu → i ≤ L → (∀ f, f < 8 → sl f = if f < i ∧ bt ch f = true then nI n else a_stopLine f) → wX_prepareLanes_50 post ch (nI L) f_lineLimit f_tripLimit f_logLimit (nI n) f_isSealed f_openTotal f_openLoops f_alive f_depth f_clash fu (nI i) a_kinds a_fieldD a_fieldA a_fieldB a_blockLine a_blockHasElse a_opener a_elseOf a_endOf a_wayNonzero a_wayZero a_postDom a_rejoinOf a_regs a_cells a_work a_stored a_tripCount a_stackPlace a_stackMask a_stackRejoin sl a_reads a_writes a_marks a_logLine a_logMask := by
  intro fu
  induction fu with
  | zero => intro i _ h; omega
  | succ fu ih =>
    intro i sl hfu hi hs
    rw [wX_prepareLanes_50]
    dsimp only
    by_cases q : L ≤ i
    · have : i = L := by omega
      subst this
      exact br_t (nI_le q (by omega)) (K sl hs)
    · have ci : (nI i).toNatClampNeg = i := nI_clamp (by omega)
      rw [ci]
      refine br_f (nI_ge (by omega) (by omega)) (br_c (fun b => nm_r (nI_1 i) (ih (i + 1) sl (by omega) (by omega) (fun f hf => ?_))) (fun b => ⟨vp_in_nI (by omega) (by decide), nm_e (nm_r (nI_1 i) (ih (i + 1) _ (by omega) (by omega) (fun f hf => ?_)))⟩))
      · have hb := (bs_bit ch i (by omega)).mp b
        rw [hs f hf]
        by_cases e : f = i
        · subst e
          rw [if_neg (fun z => absurd z.1 (Nat.lt_irrefl _)), if_neg (fun z => by rw [hb] at z; exact absurd z.2 (by decide))]
        · by_cases c : f < i ∧ bt ch f = true
          · rw [if_pos c, if_pos ⟨by omega, c.2⟩]
          · rw [if_neg c, if_neg (fun z => c ⟨by omega, z.2⟩)]
      · have hb := (bs_bitN ch i (by omega)).mp b
        by_cases e : f = i
        · subst e
          rw [bs_us, if_pos ⟨by omega, hb⟩]
        · rw [bs_un e, hs f hf]
          by_cases c : f < i ∧ bt ch f = true
          · rw [if_pos c, if_pos ⟨by omega, c.2⟩]
          · rw [if_neg c, if_neg (fun z => c ⟨by omega, z.2⟩)]
theorem xr_28 {post : SX → Prop} (K : ∀ tc, (∀ j, j < 192 → tc j = 0) → ∃ n50 : Nat, wX_prepareLanes_50 post ch f_laneTotal f_lineLimit f_tripLimit f_logLimit f_count f_isSealed f_openTotal f_openLoops f_alive f_depth f_clash n50 0 a_kinds a_fieldD a_fieldA a_fieldB a_blockLine a_blockHasElse a_opener a_elseOf a_endOf a_wayNonzero a_wayZero a_postDom a_rejoinOf a_regs a_cells a_work a_stored tc a_stackPlace a_stackMask a_stackRejoin a_stopLine a_reads a_writes a_marks a_logLine a_logMask) : ∀ fu i tc, 192 - i < fu → i ≤ 192 → (∀ j, j < i → tc j = 0) → wX_prepareLanes_28 post ch f_laneTotal f_lineLimit f_tripLimit f_logLimit f_count f_isSealed f_openTotal f_openLoops f_alive f_depth f_clash fu (nI i) a_kinds a_fieldD a_fieldA a_fieldB a_blockLine a_blockHasElse a_opener a_elseOf a_endOf a_wayNonzero a_wayZero a_postDom a_rejoinOf a_regs a_cells a_work a_stored tc a_stackPlace a_stackMask a_stackRejoin a_stopLine a_reads a_writes a_marks a_logLine a_logMask := by
  intro fu
  induction fu with
  | zero => intro i _ h; omega
  | succ fu ih =>
    intro i tc hfu hi hs
    rw [wX_prepareLanes_28]
    dsimp only
    by_cases q : 192 ≤ i
    · have : i = 192 := by omega
      subst this
      exact br_t (by decide) (K tc hs)
    · have ci : (nI i).toNatClampNeg = i := nI_clamp (by omega)
      rw [ci]
      refine br_f (nI_ge (b := 192) (by omega) (by decide)) ⟨vp_in_nI (by omega) (by decide), nm_e (nm_r (nI_1 i) (ih (i + 1) _ (by omega) (by omega) (fun j hj => ?_)))⟩
      by_cases e : j = i
      · subst e; exact bs_us
      · rw [bs_un e]; exact hs j (by omega)
theorem xr_2 {post : SX → Prop} (K : ∀ wk, (∀ j, j < 64 → wk j = a_regs j) → ∃ n28 : Nat, wX_prepareLanes_28 post ch f_laneTotal f_lineLimit f_tripLimit f_logLimit f_count f_isSealed f_openTotal f_openLoops f_alive f_depth f_clash n28 0 a_kinds a_fieldD a_fieldA a_fieldB a_blockLine a_blockHasElse a_opener a_elseOf a_endOf a_wayNonzero a_wayZero a_postDom a_rejoinOf a_regs a_cells wk a_stored a_tripCount a_stackPlace a_stackMask a_stackRejoin a_stopLine a_reads a_writes a_marks a_logLine a_logMask) : ∀ fu i wk, 64 - i < fu → i ≤ 64 → (∀ j, j < i → wk j = a_regs j) → wX_prepareLanes_2 post ch f_laneTotal f_lineLimit f_tripLimit f_logLimit f_count f_isSealed f_openTotal f_openLoops f_alive f_depth f_clash fu (nI i) a_kinds a_fieldD a_fieldA a_fieldB a_blockLine a_blockHasElse a_opener a_elseOf a_endOf a_wayNonzero a_wayZero a_postDom a_rejoinOf a_regs a_cells wk a_stored a_tripCount a_stackPlace a_stackMask a_stackRejoin a_stopLine a_reads a_writes a_marks a_logLine a_logMask := by
  intro fu
  induction fu with
  | zero => intro i _ h; omega
  | succ fu ih =>
    intro i wk hfu hi hs
    rw [wX_prepareLanes_2]
    dsimp only
    by_cases q : 64 ≤ i
    · have : i = 64 := by omega
      subst this
      exact br_t (by decide) (K wk hs)
    · have ci : (nI i).toNatClampNeg = i := nI_clamp (by omega)
      rw [ci]
      refine br_f (nI_ge (b := 64) (by omega) (by decide)) ⟨vp_in_nI (by omega) (by decide), vp_in_nI (by omega) (by decide), nm_e (nm_r (nI_1 i) (ih (i + 1) _ (by omega) (by omega) (fun j hj => ?_)))⟩
      by_cases e : j = i
      · subst e; exact bs_us
      · rw [bs_un e]; exact hs j (by omega)
theorem xr_prep {post : SX → Prop} (hL8 : L ≤ 8) (K : ∀ wk tc sl, (∀ j, j < 64 → wk j = a_regs j) → (∀ j, j < 192 → tc j = 0) → (∀ f, f < 8 → sl f = if f < L ∧ bt ch f = true then nI n else a_stopLine f) → post (nI L, f_lineLimit, f_tripLimit, f_logLimit, nI n, f_isSealed, f_openTotal, f_openLoops, f_alive, f_depth, f_clash, a_kinds, a_fieldD, a_fieldA, a_fieldB, a_blockLine, a_blockHasElse, a_opener, a_elseOf, a_endOf, a_wayNonzero, a_wayZero, a_postDom, a_rejoinOf, a_regs, a_cells, wk, a_stored, tc, a_stackPlace, a_stackMask, a_stackRejoin, sl, a_reads, a_writes, a_marks, a_logLine, a_logMask)) : wpX_prepareLanes post (nI L, f_lineLimit, f_tripLimit, f_logLimit, nI n, f_isSealed, f_openTotal, f_openLoops, f_alive, f_depth, f_clash, a_kinds, a_fieldD, a_fieldA, a_fieldB, a_blockLine, a_blockHasElse, a_opener, a_elseOf, a_endOf, a_wayNonzero, a_wayZero, a_postDom, a_rejoinOf, a_regs, a_cells, a_work, a_stored, a_tripCount, a_stackPlace, a_stackMask, a_stackRejoin, a_stopLine, a_reads, a_writes, a_marks, a_logLine, a_logMask) ch := by
  unfold wpX_prepareLanes
  dsimp only
  refine ⟨65, xr_2 (fun wk h1 => ⟨193, ?_⟩) 65 0 a_work (by omega) (by omega) (fun j hj => absurd hj (Nat.not_lt_zero _))⟩
  refine xr_28 (fun tc h2 => ⟨L + 1, ?_⟩) 193 0 a_tripCount (by omega) (by omega) (fun j hj => absurd hj (Nat.not_lt_zero _))
  exact xr_50 hL8 (fun sl h3 => K wk tc sl h1 h2 h3) (L + 1) 0 a_stopLine (by omega) (by omega) (fun f hf => by rw [if_neg (fun z => absurd z.1 (Nat.not_lt_zero _))])
end
end
section
/-! the component's launch: clashes and commits -/
def xc_P (rd wr : Nat → Int32) (i c : Nat) : Prop := ∃ f g, f < i ∧ g < i ∧ yc_C rd wr c f g
theorem xc_s {rd wr : Nat → Int32} {i c : Nat} : xc_P rd wr (i + 1) c ↔ xc_P rd wr i c ∨ (bt (wr i) c = true ∧ ((∃ g, g < i ∧ bt (rd g) c = true) ∨ (∃ g, g < i ∧ bt (wr g) c = true))) ∨ (bt (rd i) c = true ∧ ∃ g, g < i ∧ bt (wr g) c = true) := by
  constructor
  · intro ⟨f, g, hf, hg, h1, h2, h3⟩
    by_cases ef : f = i
    · subst ef
      have hg' : g < f := by omega
      rcases h3 with h3 | h3
      · exact Or.inr (Or.inl ⟨h2, Or.inl ⟨g, hg', h3⟩⟩)
      · exact Or.inr (Or.inl ⟨h2, Or.inr ⟨g, hg', h3⟩⟩)
    · by_cases eg : g = i
      · subst eg
        have hf' : f < g := by omega
        rcases h3 with h3 | h3
        · exact Or.inr (Or.inr ⟨h3, f, hf', h2⟩)
        · exact Or.inr (Or.inl ⟨h3, Or.inr ⟨f, hf', h2⟩⟩)
      · exact Or.inl ⟨f, g, by omega, by omega, h1, h2, h3⟩
  · intro z
    rcases z with ⟨f, g, hf, hg, h⟩ | ⟨h2, ⟨g, hg, h3⟩ | ⟨g, hg, h3⟩⟩ | ⟨h3, g, hg, h2⟩
    · exact ⟨f, g, by omega, by omega, h⟩
    · exact ⟨i, g, by omega, by omega, by omega, h2, Or.inl h3⟩
    · exact ⟨i, g, by omega, by omega, by omega, h2, Or.inr h3⟩
    · exact ⟨g, i, by omega, by omega, by omega, h2, Or.inl h3⟩
theorem xc_ex {p : Nat → Prop} {i : Nat} : (∃ g, g < i + 1 ∧ p g) ↔ (∃ g, g < i ∧ p g) ∨ p i := by
  constructor
  · intro ⟨g, h1, h2⟩
    by_cases e : g = i
    · subst e; exact Or.inr h2
    · exact Or.inl ⟨g, by omega, h2⟩
  · intro z
    rcases z with ⟨g, h1, h2⟩ | z
    · exact ⟨g, by omega, h2⟩
    · exact ⟨i, by omega, z⟩
section
variable {f_laneTotal f_lineLimit f_tripLimit f_logLimit f_count f_isSealed f_openTotal f_openLoops f_alive f_depth f_clash : Int32} {a_kinds a_fieldD a_fieldA a_fieldB a_blockLine a_blockHasElse a_opener a_elseOf a_endOf a_wayNonzero a_wayZero a_postDom a_rejoinOf a_regs a_cells a_work a_stored a_tripCount a_stackPlace a_stackMask a_stackRejoin a_stopLine a_reads a_writes a_marks a_logLine a_logMask : Nat → Int32} {n L : Nat} {ch : Int32}
theorem xc_87 {post : Int32 → Prop} {cl : Int32} (h0 : (∀ c, c < 32 → ¬ bt cl c = true) → post (-1)) (h1 : ∀ c0, c0 < 32 → bt cl c0 = true → (∀ c', c' < c0 → ¬ bt cl c' = true) → post (nI c0)) :
    ∀ fu i, 32 - i < fu → i ≤ 32 → (∀ c, c < i → ¬ bt cl c = true) → wX_findClash_87 post cl f_laneTotal f_lineLimit f_tripLimit f_logLimit f_count f_isSealed f_openTotal f_openLoops f_alive f_depth f_clash a_kinds a_fieldD a_fieldA a_fieldB a_blockLine a_blockHasElse a_opener a_elseOf a_endOf a_wayNonzero a_wayZero a_postDom a_rejoinOf a_regs a_cells a_work a_stored a_tripCount a_stackPlace a_stackMask a_stackRejoin a_stopLine a_reads a_writes a_marks a_logLine a_logMask fu (nI i) := by
  intro fu
  induction fu with
  | zero => intro i h; omega
  | succ fu ih =>
    intro i hfu hi hn
    rw [wX_findClash_87]
    dsimp only
    by_cases q : 32 ≤ i
    · have : i = 32 := by omega
      subst this
      exact br_t (by decide) (h0 hn)
    · refine br_f (nI_ge (b := 32) (by omega) (by decide)) (br_c (fun b => nm_r (nI_1 i) (ih (i + 1) (by omega) (by omega) (fun c hc => ?_))) (fun b => h1 i (by omega) ((bs_bitN _ i (by omega)).mp b) hn))
      by_cases e : c = i
      · subst e
        rw [(bs_bit _ c (by omega)).mp b]; decide
      · exact hn c (by omega)
theorem xc_10 {post : Int32 → Prop} (hL8 : L ≤ 8) (hz : ∀ f, f < 8 → ¬ bt ch f = true → a_reads f = 0 ∧ a_writes f = 0)
    (h0 : (∀ c, c < 32 → ¬ yc_A L a_reads a_writes c) → post (-1)) (h1 : ∀ c0, c0 < 32 → yc_A L a_reads a_writes c0 → (∀ c', c' < c0 → ¬ yc_A L a_reads a_writes c') → post (nI c0)) :
    ∀ fu i sr sw cl, L - i < fu → i ≤ L → (∀ c, c < 32 → (bt sr c = true ↔ ∃ g, g < i ∧ bt (a_reads g) c = true)) → (∀ c, c < 32 → (bt sw c = true ↔ ∃ g, g < i ∧ bt (a_writes g) c = true)) → (∀ c, c < 32 → (bt cl c = true ↔ xc_P a_reads a_writes i c)) →
      wX_findClash_10 post ch (nI L) f_lineLimit f_tripLimit f_logLimit f_count f_isSealed f_openTotal f_openLoops f_alive f_depth f_clash a_kinds a_fieldD a_fieldA a_fieldB a_blockLine a_blockHasElse a_opener a_elseOf a_endOf a_wayNonzero a_wayZero a_postDom a_rejoinOf a_regs a_cells a_work a_stored a_tripCount a_stackPlace a_stackMask a_stackRejoin a_stopLine a_reads a_writes a_marks a_logLine a_logMask fu sr sw cl (nI i) := by
  intro fu
  induction fu with
  | zero => intro i _ _ _ h; omega
  | succ fu ih =>
    intro i sr sw cl hfu hi hr hw hc
    rw [wX_findClash_10]
    dsimp only
    by_cases q : L ≤ i
    · have : i = L := by omega
      subst this
      refine br_t (nI_le q (by omega)) ⟨33, xc_87 (fun z => h0 (fun c hc' w => z c hc' ((hc c hc').mpr w))) (fun c0 q1 q2 q3 => h1 c0 q1 ((hc c0 q1).mp q2) (fun c' hc' w => q3 c' hc' ((hc c' (by omega)).mpr w))) 33 0 (by omega) (by omega) (fun c hc' => absurd hc' (Nat.not_lt_zero _))⟩
    · have ci : (nI i).toNatClampNeg = i := nI_clamp (by omega)
      have vi : vp_in (nI i) 8 := vp_in_nI (by omega) (by decide)
      rw [ci]
      refine br_f (nI_ge (by omega) (by omega)) (br_c (fun b => nm_r (nI_1 i) (ih (i + 1) sr sw cl (by omega) (by omega) (fun c hc' => ?_) (fun c hc' => ?_) (fun c hc' => ?_))) (fun b => ⟨vi, nm_e ⟨vi, nm_e ⟨vi, nm_e ⟨vi, nm_e (nm_r (nI_1 i) (ih (i + 1) _ _ _ (by omega) (by omega) (fun c hc' => ?_) (fun c hc' => ?_) (fun c hc' => ?_)))⟩⟩⟩⟩))
      · have hb : ¬ bt ch i = true := by rw [(bs_bit ch i (by omega)).mp b]; decide
        obtain ⟨z1, z2⟩ := hz i (by omega) hb
        rw [hr c hc', xc_ex, z1, b_0]
        simp
      · have hb : ¬ bt ch i = true := by rw [(bs_bit ch i (by omega)).mp b]; decide
        obtain ⟨z1, z2⟩ := hz i (by omega) hb
        rw [hw c hc', xc_ex, z2, b_0]
        simp
      · have hb : ¬ bt ch i = true := by rw [(bs_bit ch i (by omega)).mp b]; decide
        obtain ⟨z1, z2⟩ := hz i (by omega) hb
        rw [hc c hc', xc_s, z1, z2, b_0]
        simp
      · rw [b_or, Bool.or_eq_true, hr c hc', xc_ex]
      · rw [b_or, Bool.or_eq_true, hw c hc', xc_ex]
      · rw [b_or, b_or, b_and, b_and, b_or, Bool.or_eq_true, Bool.or_eq_true, Bool.and_eq_true, Bool.and_eq_true, Bool.or_eq_true, hc c hc', hr c hc', hw c hc', xc_s]
        constructor
        · intro z
          rcases z with (z | z) | z
          · exact Or.inl z
          · exact Or.inr (Or.inl z)
          · exact Or.inr (Or.inr z)
        · intro z
          rcases z with z | z | z
          · exact Or.inl (Or.inl z)
          · exact Or.inl (Or.inr z)
          · exact Or.inr z
theorem xc_find {post : Int32 → Prop} (hL8 : L ≤ 8) (hz : ∀ f, f < 8 → ¬ bt ch f = true → a_reads f = 0 ∧ a_writes f = 0)
    (h0 : (∀ c, c < 32 → ¬ yc_A L a_reads a_writes c) → post (-1)) (h1 : ∀ c0, c0 < 32 → yc_A L a_reads a_writes c0 → (∀ c', c' < c0 → ¬ yc_A L a_reads a_writes c') → post (nI c0)) : wpX_findClash post (nI L, f_lineLimit, f_tripLimit, f_logLimit, f_count, f_isSealed, f_openTotal, f_openLoops, f_alive, f_depth, f_clash, a_kinds, a_fieldD, a_fieldA, a_fieldB, a_blockLine, a_blockHasElse, a_opener, a_elseOf, a_endOf, a_wayNonzero, a_wayZero, a_postDom, a_rejoinOf, a_regs, a_cells, a_work, a_stored, a_tripCount, a_stackPlace, a_stackMask, a_stackRejoin, a_stopLine, a_reads, a_writes, a_marks, a_logLine, a_logMask) ch := by
  unfold wpX_findClash
  dsimp only
  refine ⟨L + 1, xc_10 hL8 hz h0 h1 (L + 1) 0 0 0 0 (by omega) (by omega) (fun c _ => ?_) (fun c _ => ?_) (fun c _ => ?_)⟩
  · rw [b_0]
    exact ⟨fun z => (by cases z), fun ⟨g, z, _⟩ => absurd z (Nat.not_lt_zero _)⟩
  · rw [b_0]
    exact ⟨fun z => (by cases z), fun ⟨g, z, _⟩ => absurd z (Nat.not_lt_zero _)⟩
  · rw [b_0]
    exact ⟨fun z => (by cases z), fun ⟨f, g, z, _⟩ => absurd z (Nat.not_lt_zero _)⟩
/-! commits -/
theorem xc_45 {post : SX → Prop} {f : Nat} (hf : f < 8) (K : ∀ me, (∀ c, c < 32 → me c = if bt (a_writes f) c = true then a_stored (f * 32 + c) else a_cells c) → post (f_laneTotal, f_lineLimit, f_tripLimit, f_logLimit, f_count, f_isSealed, f_openTotal, f_openLoops, f_alive, f_depth, f_clash, a_kinds, a_fieldD, a_fieldA, a_fieldB, a_blockLine, a_blockHasElse, a_opener, a_elseOf, a_endOf, a_wayNonzero, a_wayZero, a_postDom, a_rejoinOf, a_regs, me, a_work, a_stored, a_tripCount, a_stackPlace, a_stackMask, a_stackRejoin, a_stopLine, a_reads, a_writes, a_marks, a_logLine, a_logMask)) :
    ∀ fu i me, 32 - i < fu → i ≤ 32 → (∀ c, c < i → me c = if bt (a_writes f) c = true then a_stored (f * 32 + c) else a_cells c) → (∀ c, i ≤ c → me c = a_cells c) → wX_commitLane_45 post (nI f) (a_writes f) f_laneTotal f_lineLimit f_tripLimit f_logLimit f_count f_isSealed f_openTotal f_openLoops f_alive f_depth f_clash fu (nI i) a_kinds a_fieldD a_fieldA a_fieldB a_blockLine a_blockHasElse a_opener a_elseOf a_endOf a_wayNonzero a_wayZero a_postDom a_rejoinOf a_regs me a_work a_stored a_tripCount a_stackPlace a_stackMask a_stackRejoin a_stopLine a_reads a_writes a_marks a_logLine a_logMask := by
  intro fu
  induction fu with
  | zero => intro i _ h; omega
  | succ fu ih =>
    intro i me hfu hi h1 h2
    rw [wX_commitLane_45]
    dsimp only
    by_cases q : 32 ≤ i
    · have : i = 32 := by omega
      subst this
      exact br_t (by decide) (K me h1)
    · have ci : (nI i).toNatClampNeg = i := nI_clamp (by omega)
      have e1 : nI f * 32 + nI i = nI (f * 32 + i) := bs_mad f 32 i
      have c1 : (nI (f * 32 + i)).toNatClampNeg = f * 32 + i := nI_clamp (by omega)
      rw [ci, e1, c1]
      refine br_f (nI_ge (b := 32) (by omega) (by decide)) (br_c (fun w => nm_r (nI_1 i) (ih (i + 1) _ (by omega) (by omega) (fun c hc => ?_) (fun c hc => h2 c (by omega)))) (fun w => ⟨vp_in_nI (by omega) (by decide), vp_in_nI (by omega) (by decide), nm_e (nm_r (nI_1 i) (ih (i + 1) _ (by omega) (by omega) (fun c hc => ?_) (fun c hc => ?_)))⟩))
      · by_cases e : c = i
        · subst e
          rw [h2 c (Nat.le_refl _), if_neg (by rw [(bs_bit _ c (by omega)).mp w]; decide)]
        · exact h1 c (by omega)
      · by_cases e : c = i
        · subst e
          rw [bs_us, if_pos ((bs_bitN _ c (by omega)).mp w)]
        · rw [bs_un e]
          exact h1 c (by omega)
      · rw [bs_un (by omega)]
        exact h2 c (by omega)
theorem xc_7 {post : SX → Prop} {f : Nat} (hf : f < 8) (K : ∀ rg me, (∀ r, r < 8 → rg (f * 8 + r) = a_work (f * 8 + r)) → (∀ j, j < f * 8 ∨ f * 8 + 8 ≤ j → rg j = a_regs j) → (∀ c, c < 32 → me c = if bt (a_writes f) c = true then a_stored (f * 32 + c) else a_cells c) → post (f_laneTotal, f_lineLimit, f_tripLimit, f_logLimit, f_count, f_isSealed, f_openTotal, f_openLoops, f_alive, f_depth, f_clash, a_kinds, a_fieldD, a_fieldA, a_fieldB, a_blockLine, a_blockHasElse, a_opener, a_elseOf, a_endOf, a_wayNonzero, a_wayZero, a_postDom, a_rejoinOf, rg, me, a_work, a_stored, a_tripCount, a_stackPlace, a_stackMask, a_stackRejoin, a_stopLine, a_reads, a_writes, a_marks, a_logLine, a_logMask)) :
    ∀ fu i rg, 8 - i < fu → i ≤ 8 → (∀ r, r < i → rg (f * 8 + r) = a_work (f * 8 + r)) → (∀ j, j < f * 8 ∨ f * 8 + 8 ≤ j → rg j = a_regs j) → wX_commitLane_7 post (nI f) (nI (f * 8)) f_laneTotal f_lineLimit f_tripLimit f_logLimit f_count f_isSealed f_openTotal f_openLoops f_alive f_depth f_clash fu (nI i) a_kinds a_fieldD a_fieldA a_fieldB a_blockLine a_blockHasElse a_opener a_elseOf a_endOf a_wayNonzero a_wayZero a_postDom a_rejoinOf rg a_cells a_work a_stored a_tripCount a_stackPlace a_stackMask a_stackRejoin a_stopLine a_reads a_writes a_marks a_logLine a_logMask := by
  intro fu
  induction fu with
  | zero => intro i _ h; omega
  | succ fu ih =>
    intro i rg hfu hi h1 h2
    rw [wX_commitLane_7]
    dsimp only
    by_cases q : 8 ≤ i
    · have : i = 8 := by omega
      subst this
      have cf : (nI f).toNatClampNeg = f := nI_clamp (by omega)
      rw [cf]
      exact br_t (by decide) ⟨vp_in_nI hf (by decide), nm_e ⟨33, xc_45 hf (fun me hm => K rg me h1 h2 hm) 33 0 a_cells (by omega) (by omega) (fun c hc => absurd hc (Nat.not_lt_zero _)) (fun _ _ => rfl)⟩⟩
    · have e1 : nI (f * 8) + nI i = nI (f * 8 + i) := nI_add _ _
      have c1 : (nI (f * 8 + i)).toNatClampNeg = f * 8 + i := nI_clamp (by omega)
      rw [e1, c1]
      refine br_f (nI_ge (b := 8) (by omega) (by decide)) ⟨vp_in_nI (by omega) (by decide), vp_in_nI (by omega) (by decide), nm_e (nm_r (nI_1 i) (ih (i + 1) _ (by omega) (by omega) (fun r hr => ?_) (fun j hj => ?_)))⟩
      · by_cases e : r = i
        · subst e; exact bs_us
        · rw [bs_un (by omega)]; exact h1 r (by omega)
      · rw [bs_un (by omega)]; exact h2 j hj
theorem xc_com {post : SX → Prop} {f : Nat} (hf : f < 8) (K : ∀ rg me, (∀ r, r < 8 → rg (f * 8 + r) = a_work (f * 8 + r)) → (∀ j, j < f * 8 ∨ f * 8 + 8 ≤ j → rg j = a_regs j) → (∀ c, c < 32 → me c = if bt (a_writes f) c = true then a_stored (f * 32 + c) else a_cells c) → post (f_laneTotal, f_lineLimit, f_tripLimit, f_logLimit, f_count, f_isSealed, f_openTotal, f_openLoops, f_alive, f_depth, f_clash, a_kinds, a_fieldD, a_fieldA, a_fieldB, a_blockLine, a_blockHasElse, a_opener, a_elseOf, a_endOf, a_wayNonzero, a_wayZero, a_postDom, a_rejoinOf, rg, me, a_work, a_stored, a_tripCount, a_stackPlace, a_stackMask, a_stackRejoin, a_stopLine, a_reads, a_writes, a_marks, a_logLine, a_logMask)) : wpX_commitLane post (f_laneTotal, f_lineLimit, f_tripLimit, f_logLimit, f_count, f_isSealed, f_openTotal, f_openLoops, f_alive, f_depth, f_clash, a_kinds, a_fieldD, a_fieldA, a_fieldB, a_blockLine, a_blockHasElse, a_opener, a_elseOf, a_endOf, a_wayNonzero, a_wayZero, a_postDom, a_rejoinOf, a_regs, a_cells, a_work, a_stored, a_tripCount, a_stackPlace, a_stackMask, a_stackRejoin, a_stopLine, a_reads, a_writes, a_marks, a_logLine, a_logMask) (nI f) := by
  unfold wpX_commitLane
  dsimp only
  exact nm_r (e' := nI (f * 8)) (pk_mul f 8) ⟨9, xc_7 hf K 9 0 a_regs (by omega) (by omega) (fun r hr => absurd hr (Nat.not_lt_zero _)) (fun _ _ => rfl)⟩
theorem xc_63 {post : Int32 → SX → Prop} (hL8 : L ≤ 8) (hz : ∀ f, f < 8 → ¬ bt ch f = true → a_writes f = 0)
    (K : ∀ rg me, (∀ f, f < L → ∀ r, r < 8 → rg (f * 8 + r) = if bt ch f = true then a_work (f * 8 + r) else a_regs (f * 8 + r)) → (∀ j, L * 8 ≤ j → rg j = a_regs j) → (∀ c, c < 32 → me c = yc_cm a_writes a_stored a_cells L c) → post 0 (nI L, f_lineLimit, f_tripLimit, f_logLimit, f_count, f_isSealed, f_openTotal, f_openLoops, f_alive, f_depth, f_clash, a_kinds, a_fieldD, a_fieldA, a_fieldB, a_blockLine, a_blockHasElse, a_opener, a_elseOf, a_endOf, a_wayNonzero, a_wayZero, a_postDom, a_rejoinOf, rg, me, a_work, a_stored, a_tripCount, a_stackPlace, a_stackMask, a_stackRejoin, a_stopLine, a_reads, a_writes, a_marks, a_logLine, a_logMask)) :
    ∀ fu i rg me, L - i < fu → i ≤ L → (∀ f, f < i → ∀ r, r < 8 → rg (f * 8 + r) = if bt ch f = true then a_work (f * 8 + r) else a_regs (f * 8 + r)) → (∀ j, i * 8 ≤ j → rg j = a_regs j) → (∀ c, c < 32 → me c = yc_cm a_writes a_stored a_cells i c) →
      wX_launch_63 post ch fu (nI i) (nI L) f_lineLimit f_tripLimit f_logLimit f_count f_isSealed f_openTotal f_openLoops f_alive f_depth f_clash a_kinds a_fieldD a_fieldA a_fieldB a_blockLine a_blockHasElse a_opener a_elseOf a_endOf a_wayNonzero a_wayZero a_postDom a_rejoinOf rg me a_work a_stored a_tripCount a_stackPlace a_stackMask a_stackRejoin a_stopLine a_reads a_writes a_marks a_logLine a_logMask := by
  intro fu
  induction fu with
  | zero => intro i _ _ h; omega
  | succ fu ih =>
    intro i rg me hfu hi h1 h2 h3
    rw [wX_launch_63]
    dsimp only
    by_cases q : L ≤ i
    · have : i = L := by omega
      subst this
      exact br_t (nI_le q (by omega)) (K rg me h1 h2 h3)
    · refine br_f (nI_ge (by omega) (by omega)) (br_c (fun b => nm_r (nI_1 i) (ih (i + 1) rg me (by omega) (by omega) (fun f hf r hr => ?_) (fun j hj => h2 j (by omega)) (fun c hc => ?_))) (fun b => xc_com (by omega) (fun rg' me' r1 r2 r3 => nm_r (nI_1 i) (ih (i + 1) rg' me' (by omega) (by omega) (fun f hf r hr => ?_) (fun j hj => ?_) (fun c hc => ?_)))))
      · have hb : ¬ bt ch i = true := by rw [(bs_bit ch i (by omega)).mp b]; decide
        by_cases e : f = i
        · subst e
          rw [if_neg hb]
          exact h2 _ (by omega)
        · exact h1 f (by omega) r hr
      · have hb : ¬ bt ch i = true := by rw [(bs_bit ch i (by omega)).mp b]; decide
        rw [h3 c hc]
        show _ = if bt (a_writes i) c = true then a_stored (i * 32 + c) else yc_cm a_writes a_stored a_cells i c
        rw [hz i (by omega) hb, b_0, if_neg (by decide)]
      · have hb := (bs_bitN ch i (by omega)).mp b
        by_cases e : f = i
        · subst e
          rw [if_pos hb]
          exact r1 r hr
        · rw [r2 _ (by omega)]
          exact h1 f (by omega) r hr
      · rw [r2 j (by omega)]
        exact h2 j (by omega)
      · rw [r3 c hc, h3 c hc]
        rfl
end
end
section
/-! launch: both sides -/
theorem lv_cl {L c0 c1 : Nat} {rd wr rd' wr' : Nat → Int32} (e : ∀ c, yc_A L rd wr c ↔ yc_A L rd' wr' c) (h1 : yc_A L rd wr c0) (h2 : ∀ c, c < c0 → ¬ yc_A L rd wr c) (h3 : yc_A L rd' wr' c1) (h4 : ∀ c, c < c1 → ¬ yc_A L rd' wr' c) : c0 = c1 := by
  rcases Nat.lt_trichotomy c0 c1 with c | c | c
  · exact absurd ((e c0).mp h1) (h4 c0 c)
  · exact c
  · exact absurd ((e c1).mpr h3) (h2 c1 c)
theorem lv_A {L c : Nat} {rd wr rd' wr' : Nat → Int32} (hL : L ≤ 8) (e : ∀ f, f < 8 → rd f = rd' f ∧ wr f = wr' f) : yc_A L rd wr c ↔ yc_A L rd' wr' c := by
  constructor
  · intro ⟨f, g, a, b, h1, h2, h3⟩
    refine ⟨f, g, a, b, h1, ?_, ?_⟩
    · rw [← (e f (by omega)).2]; exact h2
    · rw [← (e g (by omega)).1, ← (e g (by omega)).2]; exact h3
  · intro ⟨f, g, a, b, h1, h2, h3⟩
    refine ⟨f, g, a, b, h1, ?_, ?_⟩
    · rw [(e f (by omega)).2]; exact h2
    · rw [(e g (by omega)).1, (e g (by omega)).2]; exact h3
section
variable {n G : Nat} {T : Int32} {kd fd fa fb nzW zW : Nat → Int32} {lp : Nat → Nat} {rg mem : Nat → Int32} {ch : Int32} {rj : Int32 → Int32} {ce : Nat → Int32} {v : Nat → Nat} {wk st tc sl rd wr mk ll lm exY rdY wrY mkY llY lmY : Nat → Int32}
theorem lv_rw (hv : ∀ f, bt ch f = true → v f = la_tv n T kd fd fa fb nzW zW lp rg mem ch f) (hB : xw_B n G T kd fd fa fb nzW zW lp rg mem ch rj ce v wk st tc sl rd wr mk ll lm) (hS : yl_S n G T kd fd fa fb nzW zW lp rg mem ch rj exY rdY wrY mkY llY lmY) : ∀ f, f < 8 → rd f = rdY f ∧ wr f = wrY f := by
  intro f hf
  obtain ⟨b1, b2⟩ := hB f hf
  obtain ⟨s1, s2, _⟩ := hS f hf
  by_cases c : bt ch f = true
  · obtain ⟨d1, _⟩ := b1 c
    rw [hv f c] at d1
    exact ⟨d1.2.2.2.1.trans s1.symm, d1.2.2.2.2.trans s2.symm⟩
  · rw [la_tv_0 c] at s1 s2
    exact ⟨(b2 c).2.1.trans s1.symm, (b2 c).2.2.1.trans s2.symm⟩
theorem lv_P (hG : G ≤ 16) (hK : la_K n T kd nzW zW lp) (hv : ∀ f, bt ch f = true → v f = la_tv n T kd fd fa fb nzW zW lp rg mem ch f) (hB : xw_B n G T kd fd fa fb nzW zW lp rg mem ch rj ce v wk st tc sl rd wr mk ll lm) (hS : yl_S n G T kd fd fa fb nzW zW lp rg mem ch rj exY rdY wrY mkY llY lmY) : rl_P G sl exY rd rdY wr wrY mk mkY ll llY lm lmY := by
  intro f hf
  have rw' := lv_rw hv hB hS f hf
  obtain ⟨b1, b2⟩ := hB f hf
  obtain ⟨s1, s2, s3, s4, s5⟩ := hS f hf
  by_cases c : bt ch f = true
  · obtain ⟨d1, d2, d3, d4⟩ := b1 c
    rw [hv f c] at d2 d3 d4
    rw [if_pos c] at s3
    have ht := la_tv_le (fd := fd) (fa := fa) (fb := fb) (rg := rg) (mem := mem) (ch := ch) (f := f) hK
    have hm := ym_le (kd := kd) (p := la_pl T kd fd fa fb nzW zW lp rg mem f) (la_tv n T kd fd fa fb nzW zW lp rg mem ch f)
    refine ⟨d2.trans s3.symm, rw'.1, rw'.2, d3.trans s4.symm, fun k hk hmk => ?_⟩
    rw [d3] at hmk
    have hlt : k < ym_mc kd (la_pl T kd fd fa fb nzW zW lp rg mem f) (la_tv n T kd fd fa fb nzW zW lp rg mem ch f) := by
      apply Classical.byContradiction
      intro z
      exact hmk (nI_le (by omega) (by omega))
    obtain ⟨u, hu, u1, u2⟩ := ym_find _ hlt
    obtain ⟨e1, e2⟩ := d4 u hu u1 (by omega)
    obtain ⟨f1, f2⟩ := s5 u hu u1 (by omega)
    rw [u2] at e1 e2 f1 f2
    refine ⟨e1.trans f1.symm, b_ext (fun i hi => ?_)⟩
    rw [Bool.eq_iff_iff]
    exact (e2 i hi).trans (f2 i hi).symm
  · obtain ⟨d1, d2, d3, d4⟩ := b2 c
    rw [if_neg c] at s3
    rw [la_tv_0 c] at s4
    refine ⟨d1.trans s3.symm, rw'.1, rw'.2, d4.trans s4.symm, fun k hk hmk => ?_⟩
    rw [d4] at hmk
    exact absurd (nI_pos' (n := k) (by omega)) hmk
theorem lv_cm {L c : Nat} {pv : Nat → Int32} (hL : L ≤ 8) (hc : c < 32) (hv : ∀ f, bt ch f = true → v f = la_tv n T kd fd fa fb nzW zW lp rg mem ch f) (hB : xw_B n G T kd fd fa fb nzW zW lp rg mem ch rj ce v wk st tc sl rd wr mk ll lm) (hS : yl_S n G T kd fd fa fb nzW zW lp rg mem ch rj exY rdY wrY mkY llY lmY) (hce : ce c = mem c)
    (hpv : ∀ f, f < L → ∀ c, c < 32 → bt (wrY f) c = true → pv (f * 32 + c) = (la_so T kd fd fa fb nzW zW lp rg mem f (la_tv n T kd fd fa fb nzW zW lp rg mem ch f)).1.2.1 c) : ∀ i, i ≤ L → yc_cm wr st ce i c = yc_cm wrY pv mem i c := by
  intro i
  induction i with
  | zero => intro _; exact hce
  | succ i ih =>
    intro hi
    have e := (lv_rw hv hB hS i (by omega)).2
    show (if bt (wr i) c = true then st (i * 32 + c) else yc_cm wr st ce i c) = (if bt (wrY i) c = true then pv (i * 32 + c) else yc_cm wrY pv mem i c)
    rw [ih (by omega), e]
    by_cases b : bt (wrY i) c = true
    · rw [if_pos b, if_pos b, hpv i (by omega) c hc b]
      obtain ⟨b1, b2⟩ := hB i (by omega)
      by_cases q : bt ch i = true
      · obtain ⟨d1, _⟩ := b1 q
        rw [hv i q] at d1
        have d2 := d1.2.1 c hc
        rw [← d1.2.2.2.2, e, if_pos b] at d2
        exact d2
      · rw [← e, (b2 q).2.2.1, b_0] at b
        cases b
    · rw [if_neg b, if_neg b]
end
theorem i_vc_launch {k : Nat} {u : SX} {v : SY} (I : i_Rel k u v) (hk : k + 5 ≤ 2564) (v1 : Int32) : wpX_launch (fun r u' => wpY_launch (fun r' v' => r' = r ∧ i_Rel (k + 5) u' v') v v1) u v1 := by
  refine rl_el (k := k) (P := fun u v => wpX_launch (fun r u' => wpY_launch (fun r' v' => r' = r ∧ i_Rel (k + 5) u' v') v v1) u v1) ?_ u v I
  intro L LL T G n f_isSealed f_openTotal f_openLoops f_alive f_depth f_clash a_kinds a_fieldD a_fieldA a_fieldB a_blockLine a_blockHasElse a_opener a_elseOf a_endOf a_wayNonzero a_wayZero a_postDom a_rejoinOf a_regs a_cells a_work a_stored a_tripCount a_stackPlace a_stackMask a_stackRejoin a_stopLine a_reads a_writes a_marks a_logLine a_logMask b_nzWay b_zWay b_post b_seen b_regs b_mem b_own b_priv b_trip b_visits b_lineOf b_goneTo b_mates b_exits b_reads b_writes b_marks b_logLine b_logMask hR
  have hsame : i_Rel (k + 5) (nI L, nI LL, nI T, nI G, nI n, f_isSealed, f_openTotal, f_openLoops, f_alive, f_depth, f_clash, a_kinds, a_fieldD, a_fieldA, a_fieldB, a_blockLine, a_blockHasElse, a_opener, a_elseOf, a_endOf, a_wayNonzero, a_wayZero, a_postDom, a_rejoinOf, a_regs, a_cells, a_work, a_stored, a_tripCount, a_stackPlace, a_stackMask, a_stackRejoin, a_stopLine, a_reads, a_writes, a_marks, a_logLine, a_logMask) (nI L, nI LL, nI T, nI G, nI n, f_isSealed, f_clash, a_kinds, a_fieldD, a_fieldA, a_fieldB, b_nzWay, b_zWay, b_post, b_seen, b_regs, b_mem, b_own, b_priv, b_trip, b_visits, b_lineOf, b_goneTo, b_mates, b_exits, b_reads, b_writes, b_marks, b_logLine, b_logMask) := ⟨L, LL, T, G, n, rfl, rfl, rfl, rfl, rfl, rfl, rfl, rfl, rfl, rfl, rfl, rfl, rfl, rfl, rfl, rfl, hR⟩
  obtain ⟨r1, r2, r3, r4, r5, r6⟩ := hR
  have hBd := r1
  obtain ⟨q1, q2, q3, q4, q5, q6, q7, q8, q9⟩ := hBd
  have hn : n ≤ 24 := by omega
  rcases r4 with ⟨s0, _⟩ | ⟨s1, hot, hS⟩
  · subst s0
    unfold wpX_launch
    refine br_t rfl ?_
    unfold wpY_launch
    exact br_t rfl ⟨rfl, hsame⟩
  · subst s1
    obtain ⟨ch, hch⟩ : ∃ ch : Int32, ch = v1 &&& (((1 : Int32) <<< (nI L &&& 31)) - 1) := ⟨_, rfl⟩
    by_cases hc0 : ch = 0
    · unfold wpX_launch
      refine br_f bs_10 (nm_r hch.symm (br_t hc0 ?_))
      unfold wpY_launch
      exact br_f bs_10 (nm_r hch.symm (br_t hc0 ⟨rfl, hsame⟩))
    · have hS0 := hS
      obtain ⟨hn0, hl0, hW, hPD, hRJ, hOP⟩ := hS
      obtain ⟨lp, elp⟩ : ∃ lp : Nat → Nat, lp = fun x => (a_opener x).toNatClampNeg := ⟨_, rfl⟩
      obtain ⟨rj, erj⟩ : ∃ rj : Int32 → Int32, rj = fun p => a_rejoinOf p.toNatClampNeg := ⟨_, rfl⟩
      have hlp : ∀ x, x < n → a_kinds x = 17 → a_opener x = nI (lp x) ∧ ns_LP a_kinds (lp x) x := by
        intro x hx hkx
        obtain ⟨w, e, hL⟩ := hOP x hx hkx
        have hw := hL.1.1
        have : lp x = w := by rw [elp]; show (a_opener x).toNatClampNeg = w; rw [e, nI_clamp (by omega)]
        rw [this]
        exact ⟨e, hL⟩
      have hK : la_K n (nI T) a_kinds b_nzWay b_zWay lp := ⟨hn0, hn, ⟨T, q6, rfl⟩, r2, hl0, fun x hx => (hW x hx).2.2, fun x hx hkx => (hlp x hx hkx).2⟩
      have hrjX : ∀ x, x < n → a_rejoinOf x = rj (nI x) := by
        intro x hx
        rw [erj]
        show a_rejoinOf x = a_rejoinOf (nI x).toNatClampNeg
        rw [nI_clamp (by omega)]
      have hrj : ∀ x, x < n → ∃ r, rj (nI x) = nI r ∧ rl_J n b_nzWay b_zWay x r := by
        intro x hx
        rw [← hrjX x hx]
        exact hRJ x hx
      have hbch : ∀ f, bt ch f = true → f < L := by
        intro f hb
        have h32 := sd_big hb
        rw [hch, b_and, bs_mask L (by omega) f h32] at hb
        have : decide (f < L) = true := by
          cases h : decide (f < L)
          · rw [h, Bool.and_false] at hb; cases hb
          · rfl
        exact of_decide_eq_true this
      have hop : ∀ x, x < n → a_kinds x = 17 → a_opener x = nI (lp x) ∧ lp x < 24 := by
        intro x hx hkx
        obtain ⟨e, hL⟩ := hlp x hx hkx
        exact ⟨e, by have := hL.1.1; omega⟩
      have hYO : ∀ p' q', p' ≤ n → q' ≤ n → sl_O (wy_E n b_nzWay b_zWay) n b_post p' q' := fun p' q' h1 h2 => (hPD p' q' h1 h2).2
      unfold wpX_launch
      refine br_f bs_10 (nm_r hch.symm (br_f hc0 (wi_X (fun sl0 rd0 wr0 mk0 hW0 => ?_))))
      refine xr_prep q2 (fun wk0 tc0 sl1 p1 p2 p3 => ?_)
      refine xr_run (n := n) (L := L) (G := G) (nzW := b_nzWay) (zW := b_zWay) (lp := lp) (rg := b_regs) (mem := b_mem) (ch := ch) (rj := rj) hK r3 q2 q8 hbch (fun x hx => (hW x hx).1) (fun x hx => (hW x hx).2.1) hop hrjX hrj (fun j hj => (p1 j hj).trans (r5.1 j hj)) p2 (fun f hf => ?_) (fun f hf => ⟨(hW0 f hf).2.1, (hW0 f hf).2.2.1, (hW0 f hf).2.2.2⟩) r5.2 (fun vv al dp wk st tc sp sm sr sl rd wr mk ll lm hv hB => ?_)
      · rw [p3 f hf]
        by_cases c : bt ch f = true
        · rw [if_pos ⟨hbch f c, c⟩, if_pos c]
        · rw [if_neg (fun z => c z.2), if_neg c]
          exact (hW0 f hf).1
      · have hz : ∀ f, f < 8 → ¬ bt ch f = true → rd f = 0 ∧ wr f = 0 := fun f hf hc => ⟨((hB f hf).2 hc).2.1, ((hB f hf).2 hc).2.2.1⟩
        refine xc_find q2 hz (fun hno => br_t bs_n1lt ⟨L + 1, ?_⟩) (fun c0 h1 h2 h3 => br_f (nI_pos (by omega)) ?_)
        · refine xc_63 q2 (fun f hf hc => (hz f hf hc).2) (fun rg' me' g1 g2 g3 => ?_) (L + 1) 0 a_regs a_cells (by omega) (by omega) (fun f hf => absurd hf (Nat.not_lt_zero _)) (fun _ _ => rfl) (fun _ _ => rfl)
          refine yl_all (lp := lp) (rg := b_regs) (mem := b_mem) (ch := ch) (rj := rj) hK r3 q1 q2 q8 hch hc0 (fun _ _ => rfl) (fun _ _ => rfl) hYO hrj (fun ow pv tr vs lo gt ma ex rd' wr' mk' ll' lm' hSS c0 h1 h2 h3 => ?_) (fun ow pv tr vs lo gt ma ex rd' wr' mk' ll' lm' rg2 me2 hSS hno2 y1 y2 y3 => ⟨rfl, ?_⟩)
          · exact absurd ((lv_A q2 (lv_rw hv hB hSS)).mpr h2) (hno c0 h1)
          · refine ⟨L, LL, T, G, n, rfl, rfl, rfl, rfl, rfl, rfl, rfl, rfl, rfl, rfl, rfl, rfl, rfl, rfl, rfl, rfl, r1, r2, r3, Or.inr ⟨rfl, hot, hS0⟩, ⟨fun j hj => ?_, fun c hc => ?_⟩, lv_P q8 hK hv hB hSS⟩
            · have ej : j = j / 8 * 8 + j % 8 := by omega
              have hf8 : j / 8 < 8 := by omega
              have hr8 : j % 8 < 8 := by omega
              rw [ej, y1 (j / 8) hf8 (j % 8) hr8]
              by_cases c : j / 8 < L
              · rw [g1 (j / 8) c (j % 8) hr8]
                by_cases c2 : bt ch (j / 8) = true
                · rw [if_pos c2]
                  have d := ((hB (j / 8) hf8).1 c2).1.1 (j % 8) hr8
                  rw [hv _ c2] at d
                  exact d
                · rw [if_neg c2, la_tv_0 c2]
                  exact r5.1 _ (by omega)
              · rw [g2 _ (by omega), la_tv_0 (fun z => c (hbch _ z))]
                exact r5.1 _ (by omega)
            · rw [g3 c hc, y2 c hc]
              exact lv_cm q2 hc hv hB hSS (r5.2 c hc) y3 L (Nat.le_refl _)
        · refine yl_all (lp := lp) (rg := b_regs) (mem := b_mem) (ch := ch) (rj := rj) hK r3 q1 q2 q8 hch hc0 (fun _ _ => rfl) (fun _ _ => rfl) hYO hrj (fun ow pv tr vs lo gt ma ex rd' wr' mk' ll' lm' hSS c1 k1 k2 k3 => ⟨rfl, ?_⟩) (fun ow pv tr vs lo gt ma ex rd' wr' mk' ll' lm' rg2 me2 hSS hno2 y1 y2 y3 => ?_)
          · have e : c0 = c1 := lv_cl (fun c => lv_A q2 (lv_rw hv hB hSS)) h2 h3 k2 k3
            subst e
            exact ⟨L, LL, T, G, n, rfl, rfl, rfl, rfl, rfl, rfl, rfl, rfl, rfl, rfl, rfl, rfl, rfl, rfl, rfl, rfl, r1, r2, r3, Or.inr ⟨rfl, hot, hS0⟩, r5, lv_P q8 hK hv hB hSS⟩
          · exact absurd ((lv_A q2 (lv_rw hv hB hSS)).mp h2) (hno2 c0 h1)
end
