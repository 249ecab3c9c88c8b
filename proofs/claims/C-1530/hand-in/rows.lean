section
/-! pure rows to paste: stores, nI and lN arithmetic, masks, shifts, narrowing, branches by naturals (pk_le, pk_lt, pk_eq), loops (lp1 .. lp16: the measure of the state; rp1 ..: recursion), negatives. Take what you need -/
theorem pk_us {f : Nat → Int32} {k : Nat} {x : Int32} : upd f k x k = x := if_pos rfl
theorem pk_un {f : Nat → Int32} {k j : Nat} {x : Int32} (h : j ≠ k) : upd f k x j = f j := if_neg h
theorem pk_uLs {f : Nat → Int64} {k : Nat} {x : Int64} : vp_updL f k x k = x := if_pos rfl
theorem pk_uLn {f : Nat → Int64} {k j : Nat} {x : Int64} (h : j ≠ k) : vp_updL f k x j = f j := if_neg h
theorem pk_sub {a b : Nat} (h : b ≤ a) : nI a - nI b = nI (a - b) := by
  obtain ⟨c, rfl⟩ : ∃ c, a = c + b := ⟨a - b, by omega⟩
  rw [← nI_add, Int32.add_sub_cancel, Nat.add_sub_cancel]
theorem pk_m1 (n : Nat) : nI (n + 1) + (-1) = nI n := by
  rw [← nI_1, Int32.add_assoc, show (1 : Int32) + (-1) = 0 from rfl, Int32.add_zero]
theorem pk_mul (a b : Nat) : nI a * nI b = nI (a * b) := (Int32.ofNat_mul a b).symm
theorem pk_div {a d : Nat} (ha : a < 2 ^ 31) (h0 : 0 < d) (hd : d < 2 ^ 31) : nI a / nI d = nI (a / d) := by
  apply Int32.toInt_inj.mp
  rw [lg_idiv_nonneg (by rw [nI_toInt ha]; omega) (by rw [nI_toInt hd]; omega), nI_toInt ha, nI_toInt hd, nI_toInt (Nat.lt_of_le_of_lt (Nat.div_le_self a d) ha)]
  first | rfl | exact (Int.natCast_ediv _ _).symm
theorem pk_rem {a d : Nat} (ha : a < 2 ^ 31) (h0 : 0 < d) (hd : d < 2 ^ 31) : nI a - nI a / nI d * nI d = nI (a % d) := by
  rw [pk_div ha h0 hd, pk_mul, pk_sub (Nat.div_mul_le_self a d)]
  exact congrArg nI (by have := Nat.div_add_mod' a d; omega)
theorem pk_sub_toInt {a b : Nat} (ha : a < 2 ^ 30) (hb : b < 2 ^ 30) : (nI a - nI b).toInt = (a : Int) - b := by
  rw [Int32.toInt_sub, nI_toInt (by omega), nI_toInt (by omega)]
  exact Int.bmod_eq_of_le (by omega) (by omega)
theorem pk_sneg {a b : Nat} (hb : b < 2 ^ 30) (h : a < b) : nI a - nI b < 0 := by
  rw [Int32.lt_iff_toInt_lt, pk_sub_toInt (by omega) hb, show (0 : Int32).toInt = 0 from by decide]
  omega
theorem pk_ix (x : Int32) {n : Nat} (hn : n < 2 ^ 31) : x < 0 ∨ nI n ≤ x ∨ ∃ j : Nat, j < n ∧ x = nI j := by
  by_cases h : x < 0
  · exact Or.inl h
  · obtain ⟨j, hj, rfl⟩ := nI_of h
    by_cases h2 : j < n
    · exact Or.inr (Or.inr ⟨j, h2, rfl⟩)
    · exact Or.inr (Or.inl (nI_le (by omega) hj))
theorem pk_le {x y : Int32} {A B : Prop} (a b : Nat) (f : a ≤ b → A) (g : b < a → B) (hx : x = nI a := by rfl) (hy : y = nI b := by rfl) (ha : a < 2 ^ 31 := by omega) (hb : b < 2 ^ 31 := by omega) : (x ≤ y → A) ∧ (¬ x ≤ y → B) := by
  subst hx hy
  rw [nI_leI ha hb]
  exact ⟨f, fun z => g (by omega)⟩
theorem pk_lt {x y : Int32} {A B : Prop} (a b : Nat) (f : a < b → A) (g : b ≤ a → B) (hx : x = nI a := by rfl) (hy : y = nI b := by rfl) (ha : a < 2 ^ 31 := by omega) (hb : b < 2 ^ 31 := by omega) : (x < y → A) ∧ (¬ x < y → B) := by
  subst hx hy
  rw [nI_ltI ha hb]
  exact ⟨f, fun z => g (by omega)⟩
theorem pk_eq {x y : Int32} {A B : Prop} (a b : Nat) (f : a = b → A) (g : a ≠ b → B) (hx : x = nI a := by rfl) (hy : y = nI b := by rfl) (ha : a < 2 ^ 31 := by omega) (hb : b < 2 ^ 31 := by omega) : (x = y → A) ∧ (¬ x = y → B) := by
  subst hx hy
  rw [nI_eq ha hb]
  exact ⟨f, g⟩
theorem pk_in {x : Int32} (n N : Nat) (h : n < N) (hx : x = nI n := by rfl) (hN : N < 2 ^ 31 := by omega) : vp_in x N := by
  subst hx
  exact vp_in_nI h hN
theorem pk_cl {x : Int32} (n : Nat) (hx : x = nI n := by rfl) (h : n < 2 ^ 31 := by omega) : x.toNatClampNeg = n := by
  subst hx
  exact nI_clamp h
theorem pk_tn {n : Nat} (h : n < 2 ^ 32) : (nI n).toBitVec.toNat = n := Nat.mod_eq_of_lt h
theorem pk_and (x : Int32) {m : Int32} (k : Nat) (hm : m.toBitVec.toNat = 2 ^ k - 1) : x &&& m = nI (x.toBitVec.toNat % 2 ^ k) := by
  apply Int32.toBitVec_inj.mp
  apply BitVec.eq_of_toNat_eq
  rw [Int32.toBitVec_and, BitVec.toNat_and, hm, Nat.and_two_pow_sub_one_eq_mod]
  show _ = (BitVec.ofNat 32 _).toNat
  rw [BitVec.toNat_ofNat]
  exact (Nat.mod_eq_of_lt (Nat.lt_of_le_of_lt (Nat.mod_le _ _) x.toBitVec.isLt)).symm
theorem pk_andN {n : Nat} (h : n < 2 ^ 32) {m : Int32} (k : Nat) (hm : m.toBitVec.toNat = 2 ^ k - 1) : nI n &&& m = nI (n % 2 ^ k) := by
  rw [pk_and _ k hm, pk_tn h]
theorem pk_andE (x : Int32) {m : Int32} (k : Nat) (hm : m.toBitVec.toNat = 2 ^ k - 1) : ∃ j : Nat, j < 2 ^ k ∧ x &&& m = nI j := ⟨_, Nat.mod_lt _ (Nat.two_pow_pos k), pk_and x k hm⟩
theorem pk_andIn (x : Int32) {m : Int32} (k : Nat) (hm : m.toBitVec.toNat = 2 ^ k - 1) (hk : k ≤ 30) : vp_in (x &&& m) (2 ^ k) := by
  obtain ⟨j, hj, e⟩ := pk_andE x k hm
  rw [e]
  exact vp_in_nI hj (Nat.lt_of_le_of_lt (Nat.pow_le_pow_right (by decide) hk) (by decide))
theorem pk_shl (a s : Int32) (k : Nat) (hs : (s.toBitVec.smod 32).toNat = k) : (a <<< s).toBitVec.toNat = a.toBitVec.toNat * 2 ^ k % 2 ^ 32 := by
  show (a.toBitVec <<< (s.toBitVec.smod 32).toNat).toNat = _
  rw [hs, BitVec.toNat_shiftLeft, Nat.shiftLeft_eq]
theorem pk_shlN {n : Nat} (s : Int32) (k : Nat) (hs : (s.toBitVec.smod 32).toNat = k) (h : n * 2 ^ k < 2 ^ 32) : nI n <<< s = nI (n * 2 ^ k) := by
  apply Int32.toBitVec_inj.mp
  apply BitVec.eq_of_toNat_eq
  have hn : n < 2 ^ 32 := Nat.lt_of_le_of_lt (Nat.le_mul_of_pos_right n (Nat.two_pow_pos k)) h
  rw [pk_shl _ _ k hs, pk_tn hn, pk_tn h, Nat.mod_eq_of_lt h]
theorem pk_shr (a s : Int32) (k : Nat) (hs : (s.toBitVec.smod 32).toNat = k) : (a >>> s).toInt = a.toInt >>> k := by
  show (a.toBitVec.sshiftRight (s.toBitVec.smod 32).toNat).toInt = _
  rw [hs, BitVec.toInt_sshiftRight]
  rfl
theorem pk_shrN {n : Nat} (h : n < 2 ^ 31) (s : Int32) (k : Nat) (hs : (s.toBitVec.smod 32).toNat = k) : nI n >>> s = nI (n / 2 ^ k) := by
  apply Int32.toInt_inj.mp
  have h2 : n / 2 ^ k ≤ n := Nat.div_le_self _ _
  rw [pk_shr _ _ k hs, nI_toInt h, nI_toInt (by omega), Int.shiftRight_eq_div_pow]
  rfl
theorem pk_ushr (x s : Int32) (k : Nat) (hs : ((s.toUInt32 &&& Int32.toUInt32 31).toBitVec % 32).toNat = k) : (x.toUInt32 >>> (s.toUInt32 &&& Int32.toUInt32 31)).toInt32.toBitVec.toNat = x.toBitVec.toNat / 2 ^ k := by
  have e : (x.toUInt32 >>> (s.toUInt32 &&& Int32.toUInt32 31)).toInt32.toBitVec = x.toBitVec >>> k := by
    rw [← hs]
    exact UInt32.toBitVec_shiftRight _ _
  rw [e, BitVec.toNat_ushiftRight, Nat.shiftRight_eq_div_pow]
theorem pk_ushrN {n : Nat} (hn : n < 2 ^ 32) (s : Int32) (k : Nat) (hs : ((s.toUInt32 &&& Int32.toUInt32 31).toBitVec % 32).toNat = k) : ((nI n).toUInt32 >>> (s.toUInt32 &&& Int32.toUInt32 31)).toInt32 = nI (n / 2 ^ k) := by
  apply Int32.toBitVec_inj.mp
  apply BitVec.eq_of_toNat_eq
  rw [pk_ushr _ s k hs, pk_tn hn, pk_tn (Nat.lt_of_le_of_lt (Nat.div_le_self _ _) hn)]
theorem pk_nb (z : Int32) : narrow .byte (.int z.toInt8.toInt32) = .int z.toInt8.toInt32 := congrArg Value.int (by simp)
theorem pk_ns (z : Int32) : narrow .short (.int z.toInt16.toInt32) = .int z.toInt16.toInt32 := congrArg Value.int (by simp)
theorem pk_fb (r : Int32) : fits .byte (.int r.toInt8.toInt32) = true := by
  have ⟨a, b⟩ := lg_i2b_range r
  have h1 : (-128 : Int32).toInt = -128 := by decide
  have h2 : (127 : Int32).toInt = 127 := by decide
  simp only [fits, Bool.and_eq_true, decide_eq_true_eq, Int32.le_iff_toInt_le, h1, h2]
  omega
theorem pk_fs (r : Int32) : fits .short (.int r.toInt16.toInt32) = true := by
  have ⟨a, b⟩ := lg_i2s_range r
  have h1 : (-32768 : Int32).toInt = -32768 := by decide
  have h2 : (32767 : Int32).toInt = 32767 := by decide
  simp only [fits, Bool.and_eq_true, decide_eq_true_eq, Int32.le_iff_toInt_le, h1, h2]
  omega
theorem pk_charN {q : Nat} (hq : q < 65536) : narrow .char (.int (nI q)) = .int (nI q) ∧ fits .char (.int (nI q)) = true := by
  constructor
  · have e : (nI q).toUInt32.toUInt16.toUInt32.toInt32 = nI q := by
      apply Int32.toBitVec_inj.mp
      apply BitVec.eq_of_toNat_eq
      show (nI q).toUInt32.toUInt16.toUInt32.toNat = q % 2 ^ 32
      rw [UInt16.toNat_toUInt32, UInt32.toNat_toUInt16, show (nI q).toUInt32.toNat = q % 2 ^ 32 from rfl]
      omega
    exact congrArg Value.int e
  · have a : (0 : Int32) ≤ nI q := nI_pos' (by omega)
    have b : nI q ≤ 65535 := nI_le (b := 65535) (by omega) (by decide)
    show (decide ((0 : Int32) ≤ nI q) && decide (nI q ≤ 65535)) = true
    rw [decide_eq_true a, decide_eq_true b]
    rfl
theorem pk_char (x : Int32) : (x.toUInt32 % 65536).toInt32 = nI (x.toBitVec.toNat % 65536) := by
  apply Int32.toBitVec_inj.mp
  apply BitVec.eq_of_toNat_eq
  rw [pk_tn (by omega)]
  show (x.toUInt32 % 65536).toNat = _
  rw [UInt32.toNat_mod]
  rfl
theorem pk_nc (x : Int32) : narrow .char (.int (x.toUInt32 % 65536).toInt32) = .int (x.toUInt32 % 65536).toInt32 := by
  rw [pk_char]
  exact (pk_charN (Nat.mod_lt _ (by decide))).1
theorem pk_fc (x : Int32) : fits .char (.int (x.toUInt32 % 65536).toInt32) = true := by
  rw [pk_char]
  exact (pk_charN (Nat.mod_lt _ (by decide))).2
theorem pk_vb (z : Int32) : vp_nar .byte z.toInt8.toInt32 = z.toInt8.toInt32 := by rw [vp_nar_byte]; simp
theorem pk_vs (z : Int32) : vp_nar .short z.toInt16.toInt32 = z.toInt16.toInt32 := by rw [vp_nar_short]; simp
theorem pk_vc (z : Int32) : vp_nar .char (z.toUInt32 % 65536).toInt32 = (z.toUInt32 % 65536).toInt32 := Value.int.inj (pk_nc z)
theorem pk_lT {n : Nat} (h : n < 2 ^ 63) : (lN n).toInt = (n : Int) := lg_ofNat_toInt h
theorem pk_lLT {a b : Nat} (ha : a < 2 ^ 63) (hb : b < 2 ^ 63) : lN a < lN b ↔ a < b := by
  rw [Int64.lt_iff_toInt_lt, pk_lT ha, pk_lT hb]; omega
theorem pk_lLE {a b : Nat} (ha : a < 2 ^ 63) (hb : b < 2 ^ 63) : lN a ≤ lN b ↔ a ≤ b := by
  rw [Int64.le_iff_toInt_le, pk_lT ha, pk_lT hb]; omega
theorem pk_lEQ {a b : Nat} (ha : a < 2 ^ 63) (hb : b < 2 ^ 63) : lN a = lN b ↔ a = b := by
  rw [← Int64.toInt_inj, pk_lT ha, pk_lT hb]; omega
theorem pk_lOf {x : Int64} (h : ¬ x < 0) : ∃ k : Nat, k < 2 ^ 63 ∧ x = lN k := by
  rw [Int64.lt_iff_toInt_lt] at h
  have h0 : (0 : Int64).toInt = 0 := by decide
  have hx := Int64.toInt_lt x
  refine ⟨x.toInt.toNat, by omega, Int64.toInt_inj.mp ?_⟩
  rw [pk_lT (by omega)]
  omega
theorem pk_lDiv {a b : Nat} (ha : a < 2 ^ 63) (h0 : 0 < b) (hb : b < 2 ^ 63) : lN a / lN b = lN (a / b) := by
  apply Int64.toInt_inj.mp
  rw [lg_ldiv_nonneg (by rw [pk_lT ha]; omega) (by rw [pk_lT hb]; omega), pk_lT ha, pk_lT hb, pk_lT (Nat.lt_of_le_of_lt (Nat.div_le_self a b) ha)]
  rfl
theorem pk_lRem {a b : Nat} (ha : a < 2 ^ 63) (h0 : 0 < b) (hb : b < 2 ^ 63) : lN a - lN a / lN b * lN b = lN (a % b) := by
  rw [pk_lDiv ha h0 hb, lN_mul, lN_sub (Nat.div_mul_le_self a b)]
  exact congrArg lN (by have := Nat.div_add_mod' a b; omega)
theorem pk_loop {σ : Type} (W : Nat → Nat → σ → Prop) (I : Nat → σ → Prop) (e i0 : Nat) (s : σ) (hi : i0 ≤ e) (h0 : I i0 s) (hx : ∀ n s, I e s → W (n + 1) e s)
    (hs : ∀ n i s, i < e → I i s → (∀ s', I (i + 1) s' → W n (i + 1) s') → W (n + 1) i s) : ∃ n, W n i0 s :=
  ⟨e + 1, loop_i W I e hx hs (e + 1) i0 s hi (by omega) h0⟩
theorem pk_loopD {σ : Type} (W : Nat → Nat → σ → Prop) (I : Nat → σ → Prop) (hx : ∀ n s, I 0 s → W (n + 1) 0 s)
    (hs : ∀ n i s, I (i + 1) s → (∀ s', I i s' → W n i s') → W (n + 1) (i + 1) s) : ∀ (e : Nat) (s : σ), I e s → W (e + 1) e s := by
  intro e
  induction e with
  | zero => exact fun s h => hx 0 s h
  | succ e ih => exact fun s h => hs (e + 1) e s h (fun s' h' => ih s' h')
theorem pk_least (P : Nat → Prop) (h : ∃ k, P k) : ∃ k, P k ∧ ∀ j, j < k → ¬ P j := by
  obtain ⟨k, hk⟩ := h
  induction k using Nat.strongRecOn with
  | ind k ih =>
    by_cases e : ∃ j, j < k ∧ P j
    · obtain ⟨j, hj, pj⟩ := e
      exact ih j hj pj
    · exact ⟨k, hk, fun j hj pj => e ⟨j, hj, pj⟩⟩
/-! ===== Int32 by its bits: bt x i ===== -/
def bt (x : Int32) (i : Nat) : Bool := x.toBitVec.getLsbD i
theorem b_ext {x y : Int32} (h : ∀ i, i < 32 → bt x i = bt y i) : x = y := Int32.toBitVec_inj.mp (BitVec.eq_of_getLsbD_eq (fun i hi => h i hi))
theorem b_or (x y : Int32) (i : Nat) : bt (x ||| y) i = (bt x i || bt y i) := by unfold bt; rw [Int32.toBitVec_or, BitVec.getLsbD_or]
theorem b_and (x y : Int32) (i : Nat) : bt (x &&& y) i = (bt x i && bt y i) := by unfold bt; rw [Int32.toBitVec_and, BitVec.getLsbD_and]
theorem b_xor (x y : Int32) (i : Nat) : bt (x ^^^ y) i = (bt x i ^^ bt y i) := by unfold bt; rw [Int32.toBitVec_xor, BitVec.getLsbD_xor]
theorem b_big {x : Int32} {i : Nat} (h : 32 ≤ i) : bt x i = false := BitVec.getLsbD_of_ge _ _ h
theorem b_255 (i : Nat) : bt 255 i = decide (i < 8) := by
  rcases Nat.lt_or_ge i 32 with h | h
  · exact (by decide +kernel : ∀ i, i < 32 → bt 255 i = decide (i < 8)) i h
  · rw [b_big h, decide_eq_false (by omega)]
theorem b_65535 (i : Nat) : bt 65535 i = decide (i < 16) := by
  rcases Nat.lt_or_ge i 32 with h | h
  · exact (by decide +kernel : ∀ i, i < 32 → bt 65535 i = decide (i < 16)) i h
  · rw [b_big h, decide_eq_false (by omega)]
theorem b_m1 : ∀ i, i < 32 → bt (-1) i = true := by decide +kernel
theorem b_0 (i : Nat) : bt 0 i = false := BitVec.getLsbD_zero
theorem s_l : ∀ n, n < 32 → ((nI n &&& 31).toBitVec.smod 32).toNat = n := by decide +kernel
theorem s_u : ∀ n, n < 32 → (((nI n).toUInt32 &&& Int32.toUInt32 31).toBitVec % 32).toNat = n := by decide +kernel
theorem b_shl (n : Nat) (hn : n < 32) (x : Int32) {i : Nat} (hi : i < 32) : bt (x <<< (nI n &&& 31)) i = (decide (n ≤ i) && bt x (i - n)) := by
  unfold bt
  rw [Int32.toBitVec_shiftLeft]
  show (x.toBitVec <<< ((nI n &&& 31).toBitVec.smod 32).toNat).getLsbD i = _
  rw [s_l n hn, BitVec.getLsbD_shiftLeft]
  rcases Nat.lt_or_ge i n with h | h
  · simp [h, Nat.not_le.mpr h]
  · simp [hi, h, Nat.not_lt.mpr h]
theorem b_ushr (n : Nat) (hn : n < 32) (x : Int32) (i : Nat) : bt ((x.toUInt32 >>> ((nI n).toUInt32 &&& Int32.toUInt32 31)).toInt32) i = bt x (n + i) := by
  show (x.toUInt32 >>> ((nI n).toUInt32 &&& Int32.toUInt32 31)).toBitVec.getLsbD i = x.toUInt32.toBitVec.getLsbD (n + i)
  rw [UInt32.toBitVec_shiftRight]
  show (x.toUInt32.toBitVec >>> (((nI n).toUInt32 &&& Int32.toUInt32 31).toBitVec % 32).toNat).getLsbD i = _
  rw [s_u n hn, BitVec.getLsbD_ushiftRight]
theorem b_sshr (n : Nat) (hn : n < 32) (x : Int32) {i : Nat} (hi : i < 32) : bt (x >>> (nI n &&& 31)) i = if n + i < 32 then bt x (n + i) else bt x 31 := by
  unfold bt
  rw [Int32.toBitVec_shiftRight]
  show (x.toBitVec.sshiftRight ((nI n &&& 31).toBitVec.smod 32).toNat).getLsbD i = _
  rw [s_l n hn, BitVec.getLsbD_sshiftRight, BitVec.msb_eq_getLsbD_last]
  simp [hi]
theorem b_shl8 (x : Int32) {i : Nat} (hi : i < 32) : bt (x <<< ((8 : Int32) &&& 31)) i = (decide (8 ≤ i) && bt x (i - 8)) := b_shl 8 (by omega) x hi
theorem b_shl16 (x : Int32) {i : Nat} (hi : i < 32) : bt (x <<< ((16 : Int32) &&& 31)) i = (decide (16 ≤ i) && bt x (i - 16)) := b_shl 16 (by omega) x hi
theorem b_shl24 (x : Int32) {i : Nat} (hi : i < 32) : bt (x <<< ((24 : Int32) &&& 31)) i = (decide (24 ≤ i) && bt x (i - 24)) := b_shl 24 (by omega) x hi
theorem b_sshr8 (x : Int32) {i : Nat} (hi : i < 32) : bt (x >>> ((8 : Int32) &&& 31)) i = if 8 + i < 32 then bt x (8 + i) else bt x 31 := b_sshr 8 (by omega) x hi
/-! ===== nI under and, xor, >>>, one bit, 65535 ===== -/
theorem nx_and (a b : Nat) : nI a &&& nI b = nI (a &&& b) := by
  apply Int32.toBitVec_inj.1
  show BitVec.ofNat 32 a &&& BitVec.ofNat 32 b = BitVec.ofNat 32 (a &&& b)
  apply BitVec.eq_of_getLsbD_eq
  intro i hi
  simp [hi]
theorem nx_xor (a b : Nat) : nI a ^^^ nI b = nI (a ^^^ b) := by
  apply Int32.toBitVec_inj.1
  show BitVec.ofNat 32 a ^^^ BitVec.ofNat 32 b = BitVec.ofNat 32 (a ^^^ b)
  apply BitVec.eq_of_getLsbD_eq
  intro i hi
  simp [hi]
theorem nx_cnt : ∀ j : Fin 32, (UInt32.ofNat j.val &&& Int32.toUInt32 31).toNat % 32 = j.val := by decide +kernel
theorem nx_ush {k j : Nat} (hk : k < 65536) (hj : j < 32) : ((nI k).toUInt32 >>> ((nI j).toUInt32 &&& Int32.toUInt32 31)).toInt32 = nI (k >>> j) := by
  have hs : k >>> j ≤ k := by
    rw [Nat.shiftRight_eq_div_pow]
    exact Nat.div_le_self _ _
  have e2 : UInt32.ofNat k >>> (UInt32.ofNat j &&& Int32.toUInt32 31) = UInt32.ofNat (k >>> j) := by
    apply UInt32.toNat_inj.1
    have h1 : (UInt32.ofNat k).toNat = k := Nat.mod_eq_of_lt (by omega)
    have h2 : (UInt32.ofNat (k >>> j)).toNat = k >>> j := Nat.mod_eq_of_lt (by omega)
    rw [UInt32.toNat_shiftRight, nx_cnt ⟨j, hj⟩, h1, h2]
  show (UInt32.ofNat k >>> (UInt32.ofNat j &&& Int32.toUInt32 31)).toInt32 = _
  rw [e2]
  rfl
theorem nx_bit {k j : Nat} (hk : k < 65536) (hj : j < 16) : (((nI k).toUInt32 >>> ((nI j).toUInt32 &&& Int32.toUInt32 31)).toInt32 &&& 1) = 0 ↔ k.testBit j = false := by
  rw [nx_ush hk (by omega)]
  show nI (k >>> j) &&& nI 1 = 0 ↔ _
  rw [nx_and, Nat.and_one_is_mod, ← nI_0, nI_eq (by omega) (by omega), Nat.testBit_eq_decide_div_mod_eq, Nat.shiftRight_eq_div_pow, decide_eq_false_iff_not]
  generalize k / 2 ^ j = z
  omega
theorem nx_mod (k : Nat) : nI k &&& 65535 = nI (k % 65536) := by
  show nI k &&& nI 65535 = _
  rw [nx_and, show (65535 : Nat) = 2 ^ 16 - 1 from rfl, Nat.and_two_pow_sub_one_eq_mod]
theorem nx_m16 {k : Nat} (h : k < 65536) : nI k &&& 65535 = nI k := by rw [nx_mod, Nat.mod_eq_of_lt h]
theorem nx_mask (x : Int32) : ∃ k, k < 65536 ∧ x &&& 65535 = nI k := by
  have e : x = nI x.toBitVec.toNat := by
    apply Int32.toBitVec_inj.1
    show x.toBitVec = BitVec.ofNat 32 x.toBitVec.toNat
    simp
  refine ⟨x.toBitVec.toNat % 65536, Nat.mod_lt _ (by omega), ?_⟩
  rw [← nx_mod, ← e]
end
section
theorem sd_10 : ¬ (1 : Int32) = 0 := by decide
/-- an array of 34 whose place 33 is used for swaps alone -/
def sd_xt (g : Nat → Int32) (t : Int32) : Nat → Int32 := fun k => if k = 33 then t else g k
theorem sd_xr {g : Nat → Int32} {t : Int32} {i : Nat} (h : i < 33) : sd_xt g t i = g i := if_neg (by omega)
theorem sd_xu {g : Nat → Int32} {t v : Int32} {i : Nat} (h : i < 33) : upd (sd_xt g t) i v = sd_xt (upd g i v) t := by
  funext k
  unfold sd_xt upd
  by_cases e : k = i
  · subst e
    simp [show ¬ k = 33 by omega]
  · simp [e]
theorem sd_x33 {g : Nat → Int32} {t v : Int32} : upd (sd_xt g t) 33 v = sd_xt g v := by
  funext k
  unfold sd_xt upd
  by_cases e : k = 33 <;> simp [e]
theorem sd_x33r {g : Nat → Int32} {t : Int32} : sd_xt g t 33 = t := if_pos rfl
theorem sd_x0 : (fun _ => 0 : Nat → Int32) = sd_xt (fun _ => 0) 0 := by
  funext k
  unfold sd_xt
  by_cases e : k = 33 <;> simp [e]
theorem sd_nr {g : Nat → Int32} {t : Int32} {i : Nat} (h : i < 33) : sd_xt g t (nI i).toNatClampNeg = g i := by
  rw [nI_clamp (by omega)]; exact sd_xr h
theorem sd_nw {g : Nat → Int32} {t v v' : Int32} {i : Nat} (h : i < 33) (e : v = v') : upd (sd_xt g t) (nI i).toNatClampNeg v = sd_xt (upd g i v') t := by
  rw [nI_clamp (by omega), e]; exact sd_xu h
theorem sd_yw {g : Nat → Int32} {v v' : Int32} {i : Nat} (h : i < 2 ^ 31) (e : v = v') : upd g (nI i).toNatClampNeg v = upd g i v' := by
  rw [nI_clamp h, e]
theorem sd_yr {g : Nat → Int32} {i : Nat} (h : i < 2 ^ 31) : g (nI i).toNatClampNeg = g i := by rw [nI_clamp h]
theorem sd_lr {g : Nat → Int64} {i : Nat} (h : i < 2 ^ 31) : g (nI i).toNatClampNeg = g i := by rw [nI_clamp h]
theorem sd_lw {g : Nat → Int64} {v v' : Int64} {i : Nat} (h : i < 2 ^ 31) (e : v = v') : vp_updL g (nI i).toNatClampNeg v = vp_updL g i v' := by
  rw [nI_clamp h, e]
/-! small types -/
theorem sd_nbi {x : Int32} (h1 : -128 ≤ x.toInt) (h2 : x.toInt < 128) : vp_nar .byte x = x := by
  rw [vp_nar_byte]; exact lg_i2b_small h1 h2
theorem sd_nb {x : Int32} {N : Nat} (h : vp_in x N) (hN : N ≤ 128) : vp_nar .byte x = x := by
  obtain ⟨a, b⟩ := vp_in_iff.mp h
  exact sd_nbi (by omega) (by omega)
theorem sd_ns {x : Int32} {N : Nat} (h : vp_in x N) (hN : N ≤ 32768) : vp_nar .short x = x := by
  obtain ⟨a, b⟩ := vp_in_iff.mp h
  rw [vp_nar_short]; exact lg_i2s_small (by omega) (by omega)
theorem sd_bbi {x : Int32} (h1 : -128 ≤ x.toInt) (h2 : x.toInt < 128) : vp_nar .byte x.toInt8.toInt32 = x := by
  rw [lg_i2b_small h1 h2]; exact sd_nbi h1 h2
theorem sd_bb {x : Int32} {N : Nat} (h : vp_in x N) (hN : N ≤ 128) : vp_nar .byte x.toInt8.toInt32 = x := by
  obtain ⟨a, b⟩ := vp_in_iff.mp h
  exact sd_bbi (by omega) (by omega)
theorem sd_ss {x : Int32} {N : Nat} (h : vp_in x N) (hN : N ≤ 32768) : vp_nar .short x.toInt16.toInt32 = x := by
  obtain ⟨a, b⟩ := vp_in_iff.mp h
  rw [lg_i2s_small (by omega) (by omega)]; exact sd_ns h hN
theorem sd_bm1 : vp_nar .byte (-1) = -1 := by rw [vp_nar_byte]; decide
theorem sd_b0 : vp_nar .byte 0 = 0 := by rw [vp_nar_byte]; decide
theorem sd_b1 : vp_nar .byte 1 = 1 := by rw [vp_nar_byte]; decide
theorem sd_b99 : vp_nar .byte 99 = 99 := by rw [vp_nar_byte]; decide
theorem sd_s0 : vp_nar .short 0 = 0 := by rw [vp_nar_short]; decide
theorem sd_z0 : vp_nar .boolean 0 = 0 := rfl
theorem sd_z1 : vp_nar .boolean 1 = 1 := rfl
theorem sd_nz {x : Int32} (h : x = 0 ∨ x = 1) : vp_nar .boolean x = x := by rcases h with h | h <;> rw [h] <;> rfl
theorem sd_inle {x : Int32} {N N' : Nat} (h : vp_in x N) (hN : N ≤ N') : vp_in x N' := by
  obtain ⟨a, b⟩ := vp_in_iff.mp h
  exact vp_in_iff.mpr ⟨a, by omega⟩
theorem sd_in_nn {x : Int32} {N : Nat} (h : vp_in x N) : ¬ x < 0 := fun z => h (Or.inl z)
theorem sd_in_ge {x : Int32} {N : Nat} (h : vp_in x N) : 0 ≤ x := Int32.not_lt.mp (sd_in_nn h)
theorem sd_cl {x : Int32} {N : Nat} (h : vp_in x N) : x.toNatClampNeg < N := by
  unfold vp_in at h
  omega
theorem sd_nIc {x : Int32} {N : Nat} (h : vp_in x N) (hN : N < 2 ^ 31) : nI x.toNatClampNeg = x := by
  obtain ⟨j, hj, rfl⟩ := vp_in_of h hN
  rw [nI_clamp (by omega)]
theorem sd_m1n : ∀ {j : Nat}, j < 2 ^ 31 → ¬ (-1 : Int32) = nI j := by
  intro j hj e
  have a := nI_toInt hj
  rw [← e] at a
  have : (-1 : Int32).toInt = -1 := by decide
  omega
theorem sd_m1lt : (-1 : Int32) < 0 := by decide
theorem sd_m1le : ¬ (0 : Int32) ≤ -1 := by decide
/-! the two range checks -/
theorem sd_no_t {post : Int32 → Prop} {v lo hi : Int32} (h : lo ≤ v ∧ v ≤ hi) (k : post 0) : wpX_no post v lo hi := br_t h.1 (br_t h.2 ⟨rfl, k⟩)
theorem sd_no_f {post : Int32 → Prop} {v lo hi : Int32} (h : ¬ (lo ≤ v ∧ v ≤ hi)) (k : post 1) : wpX_no post v lo hi := by
  by_cases a : lo ≤ v
  · exact br_t a (br_f (fun b => h ⟨a, b⟩) ⟨rfl, k⟩)
  · exact br_f a (br_c (fun _ => ⟨rfl, k⟩) (fun _ => ⟨rfl, k⟩))
theorem sd_in_t {post : Int32 → Prop} {v lo hi : Int32} (h : lo ≤ v ∧ v ≤ hi) (k : post 1) : wpY_in post v lo hi := br_f (Int32.not_lt.mpr h.1) (br_f (Int32.not_lt.mpr h.2) k)
theorem sd_in_f {post : Int32 → Prop} {v lo hi : Int32} (h : ¬ (lo ≤ v ∧ v ≤ hi)) (k : post 0) : wpY_in post v lo hi := by
  by_cases a : v < lo
  · exact br_t a k
  · exact br_f a (br_t (Int32.not_le.mp (fun b => h ⟨Int32.not_lt.mp a, b⟩)) k)
theorem sd_rg {v M : Int32} (h : 0 ≤ v ∧ v ≤ M) (N : Nat) (hM : M.toInt + 1 = N) : vp_in v N := by
  have a := Int32.le_iff_toInt_le.mp h.1
  have b := Int32.le_iff_toInt_le.mp h.2
  have z : (0 : Int32).toInt = 0 := by decide
  exact vp_in_iff.mpr ⟨by omega, by omega⟩
theorem sd_rgI {v lo hi : Int32} (h : lo ≤ v ∧ v ≤ hi) : lo.toInt ≤ v.toInt ∧ v.toInt ≤ hi.toInt := ⟨Int32.le_iff_toInt_le.mp h.1, Int32.le_iff_toInt_le.mp h.2⟩
/-- -1, or within -/
theorem sd_rm {v M : Int32} (h : -1 ≤ v ∧ v ≤ M) (N : Nat) (hM : M.toInt + 1 = N) : v = -1 ∨ vp_in v N := by
  have ⟨a, b⟩ := sd_rgI h
  have z : (-1 : Int32).toInt = -1 := by decide
  by_cases e : v.toInt = -1
  · exact Or.inl (Int32.toInt_inj.mp (by rw [e, z]))
  · exact Or.inr (vp_in_iff.mpr ⟨by omega, by omega⟩)
theorem sd_below {v : Int32} {n : Nat} (hn : n ≤ 40) (h : 0 ≤ v ∧ v ≤ nI n - 1) : ∃ j, j < n ∧ v = nI j := by
  have e : (nI n - 1).toInt = (n : Int) - 1 := pk_sub_toInt (a := n) (b := 1) (by omega) (by omega)
  have z : (0 : Int32).toInt = 0 := by decide
  have ⟨a, b⟩ := sd_rgI h
  rw [e] at b
  rw [z] at a
  obtain ⟨j, hj, rfl⟩ := vp_in_of (x := v) (n := n) (vp_in_iff.mpr ⟨by omega, by omega⟩) (by omega)
  exact ⟨j, hj, rfl⟩
/-! filling -/
def sd_fil (lo hi : Nat) (v : Int32) (a : Nat → Int32) : Nat → Int32 := fun k => if lo ≤ k ∧ k < hi then v else a k
theorem sd_fil_u {lo i : Nat} {v : Int32} {a : Nat → Int32} (h : lo ≤ i) : upd (sd_fil lo i v a) i v = sd_fil lo (i + 1) v a := by
  funext k
  unfold sd_fil upd
  by_cases e : k = i
  · subst e
    simp [h]
  · dsimp only
    by_cases e2 : lo ≤ k ∧ k < i
    · rw [if_neg e, if_pos e2, if_pos (by omega)]
    · rw [if_neg e, if_neg e2, if_neg (by omega)]
theorem sd_fil_0 {lo : Nat} {v : Int32} {a : Nat → Int32} : sd_fil lo lo v a = a := by
  funext k
  unfold sd_fil
  rw [if_neg (by omega)]
theorem sd_fil_s {i hi : Nat} {v : Int32} {a : Nat → Int32} (h : i < hi) : sd_fil (i + 1) hi v (upd a i v) = sd_fil i hi v a := by
  funext k
  unfold sd_fil upd
  by_cases e : k = i
  · subst e
    simp [h]
  · by_cases e2 : i + 1 ≤ k ∧ k < hi
    · rw [if_pos e2, if_pos (by omega)]
    · rw [if_neg e2, if_neg e, if_neg (by omega)]
/-! bits -/
def sd_tb (w : Int64) (k : Nat) : Bool := w.toBitVec.getLsbD k
theorem sd_s64 : ∀ k, k < 64 → (((nI k).toInt64 &&& 63).toBitVec.smod 64).toNat = k := by decide +kernel
theorem sd_a64 (y : Int64) : (y &&& 1) = 1 ↔ y.toBitVec.getLsbD 0 = true := by
  rw [← Int64.toBitVec_inj, Int64.toBitVec_and]
  show y.toBitVec &&& 1#64 = 1#64 ↔ _
  constructor
  · intro h
    have t := congrArg (fun x => x.getLsbD 0) h
    simpa using t
  · intro h
    apply BitVec.eq_of_getLsbD_eq
    intro i hi
    cases i with
    | zero => simpa using h
    | succ i => simp
theorem sd_a32 (y : Int32) : (y &&& 1) = 1 ↔ bt y 0 = true := by
  unfold bt
  rw [← Int32.toBitVec_inj, Int32.toBitVec_and]
  show y.toBitVec &&& 1#32 = 1#32 ↔ _
  constructor
  · intro h
    have t := congrArg (fun x => x.getLsbD 0) h
    simpa using t
  · intro h
    apply BitVec.eq_of_getLsbD_eq
    intro i hi
    cases i with
    | zero => simpa using h
    | succ i => simp
theorem sd_has {w : Int64} {k : Nat} (hk : k < 64) : ((w >>> ((nI k).toInt64 &&& 63)) &&& 1) = 1 ↔ sd_tb w k = true := by
  rw [sd_a64]
  have e : (w >>> ((nI k).toInt64 &&& 63)).toBitVec.getLsbD 0 = sd_tb w k := by
    rw [Int64.toBitVec_shiftRight]
    show (w.toBitVec.sshiftRight (((nI k).toInt64 &&& 63).toBitVec.smod 64).toNat).getLsbD 0 = _
    rw [sd_s64 k hk, BitVec.getLsbD_sshiftRight]
    unfold sd_tb
    simp [hk]
  rw [e]
theorem sd_hasI {w : Int32} {k : Nat} (hk : k < 32) : ((w >>> (nI k &&& 31)) &&& 1) = 1 ↔ bt w k = true := by
  rw [sd_a32, b_sshr k hk w (by omega), if_pos (by omega), Nat.add_zero]
theorem sd_sh64 : ∀ k, k < 64 → ((1 : Int64) <<< ((nI k).toInt64 &&& 63)).toBitVec = BitVec.twoPow 64 k := by decide +kernel
theorem sd_sh32 : ∀ l, l < 32 → ((1 : Int32) <<< (nI l &&& 31)).toBitVec = BitVec.twoPow 32 l := by decide +kernel
theorem sd_tb_0 (k : Nat) : sd_tb 0 k = false := by unfold sd_tb; exact BitVec.getLsbD_zero
theorem sd_tb_or (a b : Int64) (k : Nat) : sd_tb (a ||| b) k = (sd_tb a k || sd_tb b k) := by unfold sd_tb; rw [Int64.toBitVec_or, BitVec.getLsbD_or]
theorem sd_tb_1 {j k : Nat} (hj : j < 64) : sd_tb ((1 : Int64) <<< ((nI j).toInt64 &&& 63)) k = decide (k = j) := by
  unfold sd_tb
  rw [sd_sh64 j hj, BitVec.getLsbD_twoPow]
  by_cases e : j = k
  · subst e; simp [hj]
  · simp [e, Ne.symm e]
theorem sd_bt_1 {j k : Nat} (hj : j < 32) : bt ((1 : Int32) <<< (nI j &&& 31)) k = decide (k = j) := by
  unfold bt
  rw [sd_sh32 j hj, BitVec.getLsbD_twoPow]
  by_cases e : j = k
  · subst e; simp [hj]
  · simp [e, Ne.symm e]
theorem sd_tb_set (a : Int64) {j k : Nat} (hj : j < 64) : sd_tb (a ||| ((1 : Int64) <<< ((nI j).toInt64 &&& 63))) k = (sd_tb a k || decide (k = j)) := by
  rw [sd_tb_or, sd_tb_1 hj]
theorem sd_bt_set (a : Int32) {j k : Nat} (hj : j < 32) : bt (a ||| ((1 : Int32) <<< (nI j &&& 31))) k = (bt a k || decide (k = j)) := by
  rw [b_or, sd_bt_1 hj]
theorem sd_tb_clr (a : Int64) {j k : Nat} (hj : j < 64) (hk : k < 64) : sd_tb (a &&& (((1 : Int64) <<< ((nI j).toInt64 &&& 63)) ^^^ (-1))) k = (sd_tb a k && !decide (k = j)) := by
  have h1 := sd_tb_1 (j := j) (k := k) hj
  have ha : (-1 : Int64).toBitVec = BitVec.allOnes 64 := by decide
  unfold sd_tb at *
  rw [Int64.toBitVec_and, Int64.toBitVec_xor, ha, BitVec.getLsbD_and, BitVec.getLsbD_xor, h1, BitVec.getLsbD_allOnes]
  simp [hk]
theorem sd_bt_clr (a : Int32) {j k : Nat} (hj : j < 32) (hk : k < 32) : bt (a &&& (((1 : Int32) <<< (nI j &&& 31)) ^^^ (-1))) k = (bt a k && !decide (k = j)) := by
  rw [b_and, b_xor, sd_bt_1 hj, b_m1 k hk]
  simp
/-- a sign-extended int keeps its bits -/
theorem sd_tb_ext {v : Int32} {k : Nat} (hk : k < 32) : sd_tb v.toInt64 k = bt v k := by
  unfold sd_tb bt
  rw [Int32.toBitVec_toInt64, BitVec.getLsbD_signExtend]
  simp [hk]
  omega
theorem sd_has_t {post : Int32 → Prop} {w : Int64} {x : Int32} {N : Nat} (hx : vp_in x N) (hN : N ≤ 64) (h : sd_tb w x.toNatClampNeg = true) (k : post 1) : wpX_has post w x := by
  obtain ⟨j, hj, rfl⟩ := vp_in_of hx (by omega)
  rw [nI_clamp (by omega)] at h
  exact br_t ((sd_has (by omega)).mpr h) k
theorem sd_has_f {post : Int32 → Prop} {w : Int64} {x : Int32} {N : Nat} (hx : vp_in x N) (hN : N ≤ 64) (h : sd_tb w x.toNatClampNeg = false) (k : post 0) : wpX_has post w x := by
  obtain ⟨j, hj, rfl⟩ := vp_in_of hx (by omega)
  rw [nI_clamp (by omega)] at h
  exact br_f (fun z => by rw [sd_has (by omega), h] at z; cases z) k
/-! a Boolean as an int -/
def sd_b (b : Bool) : Int32 := if b = true then 1 else 0
theorem sd_b_t {b : Bool} (h : b = true) : sd_b b = 1 := if_pos h
theorem sd_b_f {b : Bool} (h : b = false) : sd_b b = 0 := by rw [h]; rfl
theorem sd_b_n (b : Bool) : narrow .boolean (.int (sd_b b)) = .int (sd_b b) := by cases b <;> rfl
theorem sd_b_br {b : Bool} {A B : Prop} (f : b = false → A) (t : b = true → B) : (sd_b b = 0 → A) ∧ (¬ sd_b b = 0 → B) := by
  cases b
  · exact br_t rfl (f rfl)
  · exact br_f sd_10 (t rfl)
theorem sd_hasB {post : Int32 → Prop} {w : Int64} {x : Int32} {N : Nat} (hx : vp_in x N) (hN : N ≤ 64) (k : post (sd_b (sd_tb w x.toNatClampNeg))) : wpX_has post w x := by
  cases h : sd_tb w x.toNatClampNeg
  · rw [h] at k; exact sd_has_f hx hN h k
  · rw [h] at k; exact sd_has_t hx hN h k
/-! scans -/
def sd_up (p : Nat → Bool) : Nat → Nat → Nat
  | 0, i => i
  | d + 1, i => if p i = true then sd_up p d (i + 1) else i
def sd_nx (p : Nat → Bool) (n k : Nat) : Int32 := if sd_up p (n - (k + 1)) (k + 1) < n then nI (sd_up p (n - (k + 1)) (k + 1)) else -1
def sd_dn (p : Nat → Bool) : Nat → Int32
  | 0 => -1
  | i + 1 => if p i = true then sd_dn p i else nI i
theorem sd_up_ge (p : Nat → Bool) : ∀ d i, i ≤ sd_up p d i
  | 0, i => Nat.le_refl i
  | d + 1, i => by
    unfold sd_up
    by_cases h : p i = true
    · rw [if_pos h]; have := sd_up_ge p d (i + 1); omega
    · rw [if_neg h]; omega
theorem sd_up_le (p : Nat → Bool) : ∀ d i, sd_up p d i ≤ i + d
  | 0, i => Nat.le_refl i
  | d + 1, i => by
    unfold sd_up
    by_cases h : p i = true
    · rw [if_pos h]; have := sd_up_le p d (i + 1); omega
    · rw [if_neg h]; omega
theorem sd_up_end (p : Nat → Bool) : ∀ d i, sd_up p d i < i + d → p (sd_up p d i) = false
  | 0, i => fun h => by unfold sd_up at h; omega
  | d + 1, i => fun h => by
    unfold sd_up at h ⊢
    by_cases e : p i = true
    · rw [if_pos e] at h ⊢; exact sd_up_end p d (i + 1) (by omega)
    · rw [if_neg e]; cases q : p i
      · rfl
      · exact absurd q e
theorem sd_up_mid (p : Nat → Bool) : ∀ d i j, i ≤ j → j < sd_up p d i → p j = true
  | 0, i, j => fun h1 h2 => by unfold sd_up at h2; omega
  | d + 1, i, j => fun h1 h2 => by
    unfold sd_up at h2
    by_cases e : p i = true
    · rw [if_pos e] at h2
      by_cases q : i = j
      · subst q; exact e
      · exact sd_up_mid p d (i + 1) j (by omega) h2
    · rw [if_neg e] at h2; omega
/-- what a scan upwards finds, said by what it passes -/
theorem sd_up_is (p : Nat → Bool) : ∀ d i j, i ≤ j → j < i + d → (∀ m, i ≤ m → m < j → p m = true) → p j = false → sd_up p d i = j
  | 0, i, j => fun h1 h2 _ _ => by omega
  | d + 1, i, j => fun h1 h2 h3 h4 => by
    unfold sd_up
    by_cases q : i = j
    · subst q; rw [if_neg (by rw [h4]; decide)]
    · rw [if_pos (h3 i (by omega) (by omega))]
      exact sd_up_is p d (i + 1) j (by omega) (by omega) (fun m a b => h3 m (by omega) b) h4
theorem sd_nx_or (p : Nat → Bool) (n k : Nat) : sd_nx p n k = -1 ∨ ∃ j, k < j ∧ j < n ∧ p j = false ∧ sd_nx p n k = nI j := by
  unfold sd_nx
  by_cases h : sd_up p (n - (k + 1)) (k + 1) < n
  · right
    have a := sd_up_ge p (n - (k + 1)) (k + 1)
    exact ⟨sd_up p (n - (k + 1)) (k + 1), by omega, h, sd_up_end p _ _ (by omega), if_pos h⟩
  · left; exact if_neg h
theorem sd_dn_or (p : Nat → Bool) : ∀ k, sd_dn p k = -1 ∨ ∃ j, j < k ∧ p j = false ∧ sd_dn p k = nI j
  | 0 => Or.inl rfl
  | k + 1 => by
    unfold sd_dn
    by_cases h : p k = true
    · rw [if_pos h]
      rcases sd_dn_or p k with e | ⟨j, a, b, c⟩
      · exact Or.inl e
      · exact Or.inr ⟨j, by omega, b, c⟩
    · rw [if_neg h]
      refine Or.inr ⟨k, by omega, ?_, rfl⟩
      cases q : p k
      · rfl
      · exact absurd q h
theorem sd_dn_is (p : Nat → Bool) : ∀ k j, j < k → (∀ m, j < m → m < k → p m = true) → p j = false → sd_dn p k = nI j
  | 0, j => fun h _ _ => by omega
  | k + 1, j => fun h1 h2 h3 => by
    unfold sd_dn
    by_cases q : j = k
    · subst q; rw [if_neg (by rw [h3]; decide)]
    · rw [if_pos (h2 k (by omega) (by omega))]
      exact sd_dn_is p k j (by omega) (fun m a b => h2 m a (by omega)) h3
theorem sd_dn_no (p : Nat → Bool) : ∀ k, (∀ m, m < k → p m = true) → sd_dn p k = -1
  | 0 => fun _ => rfl
  | k + 1 => fun h => by
    unfold sd_dn
    rw [if_pos (h k (by omega))]
    exact sd_dn_no p k (fun m a => h m (by omega))
end
section
/-! what a rule of a type may say -/
def sd_rule (t a b c d : Int32) : Prop :=
  (t = 0 ∧ vp_in a 56 ∧ vp_in b 48) ∨
  (t = 1 ∧ vp_in a 56 ∧ (b = -1 ∨ vp_in b 48) ∧ (c = -1 ∨ vp_in c 48)) ∨
  (t = 2 ∧ vp_in a 56 ∧ vp_in b 56 ∧ (c = -1 ∨ vp_in c 56) ∧ vp_in d 48) ∨
  (t = 3 ∧ (a = -1 ∨ vp_in a 56) ∧ vp_in b 56 ∧ (c = -1 ∨ vp_in c 56) ∧ (d = -1 ∨ vp_in d 56)) ∨
  (t = 4 ∧ (a = -1 ∨ vp_in a 56) ∧ vp_in b 56 ∧ (c = -1 ∨ vp_in c 56) ∧ vp_in d 48) ∨
  (t = 5 ∧ vp_in a 56 ∧ vp_in b 56)
def sd_RV (ty rO yA yB yC yD y1 y2 : Nat → Int32) (r : Nat) : Prop :=
  vp_in (rO r) 12 ∧ sd_rule (ty (rO r).toNatClampNeg) (yA r) (yB r) (yC r) (yD r) ∧ (y1 r = -1 ∨ vp_in (y1 r) 12) ∧ (y2 r = -1 ∨ vp_in (y2 r) 12)
section
variable {R L : Nat} {bk : Int32} {kd kc jn ty ig rO yA yB yC yD y1 y2 sa dX sY fX fY tx : Nat → Int32} {sX : Nat → Int64}
def sd_K (R L : Nat) (bk : Int32) (kd kc jn ty ig rO yA yB yC yD y1 y2 sa dX sY fX fY tx : Nat → Int32) (sX : Nat → Int64) : Prop :=
  (R ≤ 40 ∧ L ≤ 16 ∧ (bk = 0 ∨ bk = 1)) ∧
  (∀ k, k < 48 → vp_in (kd k) 4 ∧ vp_in (kc k) 4 ∧ vp_in (jn k) 4) ∧
  (∀ l, l < 12 → vp_in (ty l) 9 ∧ vp_in (ig l) 8) ∧
  (∀ r, r < R → sd_RV ty rO yA yB yC yD y1 y2 r) ∧
  (∀ r, r < 40 → sa (4 * r) = yA r ∧ sa (4 * r + 1) = yB r ∧ sa (4 * r + 2) = yC r ∧ sa (4 * r + 3) = yD r) ∧
  (∀ r, r < 40 → dX (2 * r) = y1 r ∧ dX (2 * r + 1) = y2 r) ∧
  (∀ s, s < 8 → ∀ g, g < 48 → sd_tb (sX s) g = bt (sY g) s) ∧
  (∀ f, 4 ≤ f → fX f = fY f) ∧
  (∀ k, k < 16 → vp_in (tx k) 48)
theorem sd_K.mk (h1 : R ≤ 40) (h2 : L ≤ 16) (h3 : bk = 0 ∨ bk = 1)
    (h4 : ∀ k, k < 48 → vp_in (kd k) 4 ∧ vp_in (kc k) 4 ∧ vp_in (jn k) 4)
    (h5 : ∀ l, l < 12 → vp_in (ty l) 9 ∧ vp_in (ig l) 8)
    (h6 : ∀ r, r < R → sd_RV ty rO yA yB yC yD y1 y2 r)
    (h7 : ∀ r, r < 40 → sa (4 * r) = yA r ∧ sa (4 * r + 1) = yB r ∧ sa (4 * r + 2) = yC r ∧ sa (4 * r + 3) = yD r)
    (h8 : ∀ r, r < 40 → dX (2 * r) = y1 r ∧ dX (2 * r + 1) = y2 r)
    (h9 : ∀ s, s < 8 → ∀ g, g < 48 → sd_tb (sX s) g = bt (sY g) s)
    (h10 : ∀ f, 4 ≤ f → fX f = fY f)
    (h11 : ∀ k, k < 16 → vp_in (tx k) 48) : sd_K R L bk kd kc jn ty ig rO yA yB yC yD y1 y2 sa dX sY fX fY tx sX := And.intro ⟨h1, h2, h3⟩ (And.intro h4 (And.intro h5 (And.intro h6 (And.intro h7 (And.intro h8 (And.intro h9 (And.intro h10 h11)))))))
theorem sd_K.rl (h : sd_K R L bk kd kc jn ty ig rO yA yB yC yD y1 y2 sa dX sY fX fY tx sX) : R ≤ 40 := h.1.1
theorem sd_K.ll (h : sd_K R L bk kd kc jn ty ig rO yA yB yC yD y1 y2 sa dX sY fX fY tx sX) : L ≤ 16 := h.1.2.1
theorem sd_K.bb (h : sd_K R L bk kd kc jn ty ig rO yA yB yC yD y1 y2 sa dX sY fX fY tx sX) : bk = 0 ∨ bk = 1 := h.1.2.2
theorem sd_K.gl (h : sd_K R L bk kd kc jn ty ig rO yA yB yC yD y1 y2 sa dX sY fX fY tx sX) : ∀ k, k < 48 → vp_in (kd k) 4 ∧ vp_in (kc k) 4 ∧ vp_in (jn k) 4 := h.2.1
theorem sd_K.lo (h : sd_K R L bk kd kc jn ty ig rO yA yB yC yD y1 y2 sa dX sY fX fY tx sX) : ∀ l, l < 12 → vp_in (ty l) 9 ∧ vp_in (ig l) 8 := h.2.2.1
theorem sd_K.ru (h : sd_K R L bk kd kc jn ty ig rO yA yB yC yD y1 y2 sa dX sY fX fY tx sX) : ∀ r, r < R → sd_RV ty rO yA yB yC yD y1 y2 r := h.2.2.2.1
theorem sd_K.sy (h : sd_K R L bk kd kc jn ty ig rO yA yB yC yD y1 y2 sa dX sY fX fY tx sX) : ∀ r, r < 40 → sa (4 * r) = yA r ∧ sa (4 * r + 1) = yB r ∧ sa (4 * r + 2) = yC r ∧ sa (4 * r + 3) = yD r := h.2.2.2.2.1
theorem sd_K.dy (h : sd_K R L bk kd kc jn ty ig rO yA yB yC yD y1 y2 sa dX sY fX fY tx sX) : ∀ r, r < 40 → dX (2 * r) = y1 r ∧ dX (2 * r + 1) = y2 r := h.2.2.2.2.2.1
theorem sd_K.st (h : sd_K R L bk kd kc jn ty ig rO yA yB yC yD y1 y2 sa dX sY fX fY tx sX) : ∀ s, s < 8 → ∀ g, g < 48 → sd_tb (sX s) g = bt (sY g) s := h.2.2.2.2.2.2.1
theorem sd_K.fr (h : sd_K R L bk kd kc jn ty ig rO yA yB yC yD y1 y2 sa dX sY fX fY tx sX) : ∀ f, 4 ≤ f → fX f = fY f := h.2.2.2.2.2.2.2.1
theorem sd_K.tt (h : sd_K R L bk kd kc jn ty ig rO yA yB yC yD y1 y2 sa dX sY fX fY tx sX) : ∀ k, k < 16 → vp_in (tx k) 48 := h.2.2.2.2.2.2.2.2
end
/-- the relation: what both keep alike is one function; the component's item rows differ from the reference's at place 33 alone -/
def i_Rel (_ : Nat) (u : SX) (v : SY) : Prop := ∃ (R L n : Nat) (T D bk p1 p2 p3 : Int32) (wd kd kc jn ax ay ty ig ol rO dX sa ls fX tu tx eX G C P H M J V A B be U sY fY yA yB yC yD y1 y2 : Nat → Int32) (sX iX bX tX : Nat → Int64) (q0 q1 q2 q3 q4 q5 q6 q7 q8 q9 : Int32), (n ≤ 32 ∧ sd_K R L bk kd kc jn ty ig rO yA yB yC yD y1 y2 sa dX sY fX fY tx sX) ∧ u = (nI R, nI L, nI n, T, D, bk, p1, p2, p3, wd, kd, kc, jn, ax, ay, sX, ty, ig, ol, rO, dX, sa, ls, fX, tu, tx, iX, bX, tX, eX, sd_xt G q0, sd_xt C q1, sd_xt P q2, sd_xt H q3, sd_xt M q4, sd_xt J q5, sd_xt V q6, sd_xt A q7, sd_xt B q8, be, sd_xt U q9) ∧ v = (nI R, nI L, nI n, D, T, bk, wd, kd, kc, jn, sY, ax, ay, ty, ig, ol, ls, fY, tu, rO, yA, yB, yC, yD, y1, y2, tx, G, C, M, J, P, V, A, B, H, U)
theorem i_up {k : Nat} {u : SX} {v : SY} (h : i_Rel k u v) : i_Rel (k + 6) u v := h
section
variable {R L n : Nat} {T D bk p1 p2 p3 : Int32} {wd kd kc jn ax ay ty ig ol rO dX sa ls fX tu tx eX G C P H M J V A B be U sY fY yA yB yC yD y1 y2 : Nat → Int32} {sX iX bX tX : Nat → Int64} {q0 q1 q2 q3 q4 q5 q6 q7 q8 q9 : Int32}
theorem sd_mk {k : Nat} (hn : n ≤ 32) (hK : sd_K R L bk kd kc jn ty ig rO yA yB yC yD y1 y2 sa dX sY fX fY tx sX) : i_Rel k (nI R, nI L, nI n, T, D, bk, p1, p2, p3, wd, kd, kc, jn, ax, ay, sX, ty, ig, ol, rO, dX, sa, ls, fX, tu, tx, iX, bX, tX, eX, sd_xt G q0, sd_xt C q1, sd_xt P q2, sd_xt H q3, sd_xt M q4, sd_xt J q5, sd_xt V q6, sd_xt A q7, sd_xt B q8, be, sd_xt U q9) (nI R, nI L, nI n, D, T, bk, wd, kd, kc, jn, sY, ax, ay, ty, ig, ol, ls, fY, tu, rO, yA, yB, yC, yD, y1, y2, tx, G, C, M, J, P, V, A, B, H, U) := ⟨R, L, n, T, D, bk, p1, p2, p3, wd, kd, kc, jn, ax, ay, ty, ig, ol, rO, dX, sa, ls, fX, tu, tx, eX, G, C, P, H, M, J, V, A, B, be, U, sY, fY, yA, yB, yC, yD, y1, y2, sX, iX, bX, tX, q0, q1, q2, q3, q4, q5, q6, q7, q8, q9, ⟨hn, hK⟩, rfl, rfl⟩
theorem sd_el {Q : SX → SY → Prop} (h : ∀ (R L n : Nat) (T D bk p1 p2 p3 : Int32) (wd kd kc jn ax ay ty ig ol rO dX sa ls fX tu tx eX G C P H M J V A B be U sY fY yA yB yC yD y1 y2 : Nat → Int32) (sX iX bX tX : Nat → Int64) (q0 q1 q2 q3 q4 q5 q6 q7 q8 q9 : Int32), n ≤ 32 → sd_K R L bk kd kc jn ty ig rO yA yB yC yD y1 y2 sa dX sY fX fY tx sX → Q (nI R, nI L, nI n, T, D, bk, p1, p2, p3, wd, kd, kc, jn, ax, ay, sX, ty, ig, ol, rO, dX, sa, ls, fX, tu, tx, iX, bX, tX, eX, sd_xt G q0, sd_xt C q1, sd_xt P q2, sd_xt H q3, sd_xt M q4, sd_xt J q5, sd_xt V q6, sd_xt A q7, sd_xt B q8, be, sd_xt U q9) (nI R, nI L, nI n, D, T, bk, wd, kd, kc, jn, sY, ax, ay, ty, ig, ol, ls, fY, tu, rO, yA, yB, yC, yD, y1, y2, tx, G, C, M, J, P, V, A, B, H, U)) {k : Nat} {u : SX} {v : SY} (I : i_Rel k u v) : Q u v :=
  Exists.elim I fun R I => Exists.elim I fun L I => Exists.elim I fun n I => Exists.elim I fun T I => Exists.elim I fun D I => Exists.elim I fun bk I => Exists.elim I fun p1 I => Exists.elim I fun p2 I => Exists.elim I fun p3 I => Exists.elim I fun wd I => Exists.elim I fun kd I => Exists.elim I fun kc I => Exists.elim I fun jn I => Exists.elim I fun ax I => Exists.elim I fun ay I => Exists.elim I fun ty I => Exists.elim I fun ig I => Exists.elim I fun ol I => Exists.elim I fun rO I => Exists.elim I fun dX I => Exists.elim I fun sa I => Exists.elim I fun ls I => Exists.elim I fun fX I => Exists.elim I fun tu I => Exists.elim I fun tx I => Exists.elim I fun eX I => Exists.elim I fun G I => Exists.elim I fun C I => Exists.elim I fun P I => Exists.elim I fun H I => Exists.elim I fun M I => Exists.elim I fun J I => Exists.elim I fun V I => Exists.elim I fun A I => Exists.elim I fun B I => Exists.elim I fun be I => Exists.elim I fun U I => Exists.elim I fun sY I => Exists.elim I fun fY I => Exists.elim I fun yA I => Exists.elim I fun yB I => Exists.elim I fun yC I => Exists.elim I fun yD I => Exists.elim I fun y1 I => Exists.elim I fun y2 I => Exists.elim I fun sX I => Exists.elim I fun iX I => Exists.elim I fun bX I => Exists.elim I fun tX I => Exists.elim I fun q0 I => Exists.elim I fun q1 I => Exists.elim I fun q2 I => Exists.elim I fun q3 I => Exists.elim I fun q4 I => Exists.elim I fun q5 I => Exists.elim I fun q6 I => Exists.elim I fun q7 I => Exists.elim I fun q8 I => Exists.elim I fun q9 I => I.2.1.symm ▸ I.2.2.symm ▸ h R L n T D bk p1 p2 p3 wd kd kc jn ax ay ty ig ol rO dX sa ls fX tu tx eX G C P H M J V A B be U sY fY yA yB yC yD y1 y2 sX iX bX tX q0 q1 q2 q3 q4 q5 q6 q7 q8 q9 I.1.1 I.1.2
end
theorem i_vc_glyph {k : Nat} {u : SX} {v : SY} (I : i_Rel k u v) (hk : k + 6 ≤ 3072) (v1 : Int32) (v2 : Int32) (v3 : Int32) (v4 : Int32) (v5 : Int32) : wpX_glyph (fun r u' => wpY_glyph (fun r' v' => r' = r ∧ i_Rel (k + 6) u' v') v v1 v2 v3 v4 v5) u v1 v2 v3 v4 v5 := by
  refine sd_el (Q := fun u v => wpX_glyph (fun r u' => wpY_glyph (fun r' v' => r' = r ∧ i_Rel (k + 6) u' v') v v1 v2 v3 v4 v5) u v1 v2 v3 v4 v5) ?_ I
  intro R L n T D bk p1 p2 p3 wd kd kc jn ax ay ty ig ol rO dX sa ls fX tu tx eX G C P H M J V A B be U sY fY yA yB yC yD y1 y2 sX iX bX tX q0 q1 q2 q3 q4 q5 q6 q7 q8 q9 hn hK
  by_cases h1 : (0 : Int32) ≤ v1 ∧ v1 ≤ 47
  · by_cases h2 : (0 : Int32) ≤ v2 ∧ v2 ≤ 60
    · by_cases h3 : (0 : Int32) ≤ v3 ∧ v3 ≤ 3
      · by_cases h4 : (0 : Int32) ≤ v4 ∧ v4 ≤ 3
        · by_cases h5 : (0 : Int32) ≤ v5 ∧ v5 ≤ 3
          · have i1 := sd_rg h1 48 (by decide)
            have i2 := sd_rg h2 61 (by decide)
            have i3 := sd_rg h3 4 (by decide)
            have i4 := sd_rg h4 4 (by decide)
            have i5 := sd_rg h5 4 (by decide)
            have hK' : sd_K R L bk (upd kd v1.toNatClampNeg v3) (upd kc v1.toNatClampNeg v4) (upd jn v1.toNatClampNeg v5) ty ig rO yA yB yC yD y1 y2 sa dX sY fX fY tx sX := by
              refine sd_K.mk hK.rl hK.ll hK.bb (fun j hj => ?_) hK.lo hK.ru hK.sy hK.dy hK.st hK.fr hK.tt
              obtain ⟨a, b, c⟩ := hK.gl j hj
              by_cases e : j = v1.toNatClampNeg
              · rw [e, pk_us, pk_us, pk_us]; exact ⟨i3, i4, i5⟩
              · rw [pk_un e, pk_un e, pk_un e]; exact ⟨a, b, c⟩
            have e2 : upd wd v1.toNatClampNeg (vp_nar .byte v2.toInt8.toInt32) = upd wd v1.toNatClampNeg v2 := by rw [sd_bb i2 (by decide)]
            have e3 : upd kd v1.toNatClampNeg (vp_nar .byte v3.toInt8.toInt32) = upd kd v1.toNatClampNeg v3 := by rw [sd_bb i3 (by decide)]
            have e4 : upd kc v1.toNatClampNeg (vp_nar .byte v4.toInt8.toInt32) = upd kc v1.toNatClampNeg v4 := by rw [sd_bb i4 (by decide)]
            have e5 : upd jn v1.toNatClampNeg (vp_nar .byte v5.toInt8.toInt32) = upd jn v1.toNatClampNeg v5 := by rw [sd_bb i5 (by decide)]
            exact sd_no_t h1 (br_t rfl (sd_no_t h2 (br_t rfl (sd_no_t h3 (br_t rfl (sd_no_t h4 (br_t rfl (sd_no_t h5 (br_t rfl ⟨i1, nm_r e2 ⟨i1, nm_r e3 ⟨i1, nm_r e4 ⟨i1, nm_r e5
              (by unfold wpY_glyph; exact sd_in_t h1 (br_f sd_10 (sd_in_t h2 (br_f sd_10 (sd_in_t h3 (br_f sd_10 (sd_in_t h4 (br_f sd_10 (sd_in_t h5 (br_f sd_10 ⟨i1, nm_e ⟨i1, nm_e ⟨i1, nm_e ⟨i1, nm_e ⟨rfl, sd_mk hn hK'⟩⟩⟩⟩⟩))))))))))⟩⟩⟩⟩)))))))))
          · exact (sd_no_t h1 (br_t rfl (sd_no_t h2 (br_t rfl (sd_no_t h3 (br_t rfl (sd_no_t h4 (br_t rfl (sd_no_f h5 (br_f sd_10 (by unfold wpY_glyph; exact (sd_in_t h1 (br_f sd_10 (sd_in_t h2 (br_f sd_10 (sd_in_t h3 (br_f sd_10 (sd_in_t h4 (br_f sd_10 (sd_in_f h5 (br_t rfl (⟨rfl, sd_mk hn hK⟩))))))))))))))))))))))
        · exact (sd_no_t h1 (br_t rfl (sd_no_t h2 (br_t rfl (sd_no_t h3 (br_t rfl (sd_no_f h4 (br_f sd_10 (by unfold wpY_glyph; exact (sd_in_t h1 (br_f sd_10 (sd_in_t h2 (br_f sd_10 (sd_in_t h3 (br_f sd_10 (sd_in_f h4 (br_t rfl (⟨rfl, sd_mk hn hK⟩))))))))))))))))))
      · exact (sd_no_t h1 (br_t rfl (sd_no_t h2 (br_t rfl (sd_no_f h3 (br_f sd_10 (by unfold wpY_glyph; exact (sd_in_t h1 (br_f sd_10 (sd_in_t h2 (br_f sd_10 (sd_in_f h3 (br_t rfl (⟨rfl, sd_mk hn hK⟩))))))))))))))
    · exact (sd_no_t h1 (br_t rfl (sd_no_f h2 (br_f sd_10 (by unfold wpY_glyph; exact (sd_in_t h1 (br_f sd_10 (sd_in_f h2 (br_t rfl (⟨rfl, sd_mk hn hK⟩))))))))))
  · exact (sd_no_f h1 (br_f sd_10 (by unfold wpY_glyph; exact (sd_in_f h1 (br_t rfl (⟨rfl, sd_mk hn hK⟩))))))
end
section
section
variable {R L n : Nat} {T D bk p1 p2 p3 : Int32} {wd kd kc jn ax ay ty ig ol rO dX sa ls fX tu tx eX G C P H M J V A B be U sY fY yA yB yC yD y1 y2 : Nat → Int32} {sX iX bX tX : Nat → Int64} {q0 q1 q2 q3 q4 q5 q6 q7 q8 q9 : Int32}
theorem sd_xanchor_ok {post : Int32 → SX → Prop} {g w : Nat} {v3 v4 : Int32} (hg : g < 48) (hw : w < 9) (h : (v3 = 99 ∧ v4 = 99) ∨ (((-60 : Int32) ≤ v3 ∧ v3 ≤ 60) ∧ ((-60 : Int32) ≤ v4 ∧ v4 ≤ 60)))
    (k : post 1 (nI R, nI L, nI n, T, D, bk, p1, p2, p3, wd, kd, kc, jn, upd ax (9 * g + w) v3, upd ay (9 * g + w) v4, sX, ty, ig, ol, rO, dX, sa, ls, fX, tu, tx, iX, bX, tX, eX, sd_xt G q0, sd_xt C q1, sd_xt P q2, sd_xt H q3, sd_xt M q4, sd_xt J q5, sd_xt V q6, sd_xt A q7, sd_xt B q8, be, sd_xt U q9)) : wpX_anchor post (nI R, nI L, nI n, T, D, bk, p1, p2, p3, wd, kd, kc, jn, ax, ay, sX, ty, ig, ol, rO, dX, sa, ls, fX, tu, tx, iX, bX, tX, eX, sd_xt G q0, sd_xt C q1, sd_xt P q2, sd_xt H q3, sd_xt M q4, sd_xt J q5, sd_xt V q6, sd_xt A q7, sd_xt B q8, be, sd_xt U q9) (nI g) (nI w) v3 v4 := by
  have h1 : (0 : Int32) ≤ nI g ∧ nI g ≤ 47 := ⟨nI_pos' (by omega), nI_le (b := 47) (by omega) (by decide)⟩
  have h2 : (0 : Int32) ≤ nI w ∧ nI w ≤ 8 := ⟨nI_pos' (by omega), nI_le (b := 8) (by omega) (by decide)⟩
  have ix : (9 * nI g) + nI w = nI (9 * g + w) := by show nI 9 * nI g + nI w = _; rw [pk_mul, nI_add]
  have iv : vp_in ((9 * nI g) + nI w) 432 := by rw [ix]; exact vp_in_nI (by omega) (by decide)
  have ic : ((9 * nI g) + nI w).toNatClampNeg = 9 * g + w := by rw [ix]; exact nI_clamp (by omega)
  have b3 : vp_nar .byte v3.toInt8.toInt32 = v3 := by
    rcases h with ⟨e, -⟩ | ⟨e, -⟩
    · rw [e]; exact sd_bbi (by decide) (by decide)
    · obtain ⟨a, b⟩ := sd_rgI e
      have x1 : (-60 : Int32).toInt = -60 := by decide
      have x2 : (60 : Int32).toInt = 60 := by decide
      exact sd_bbi (by omega) (by omega)
  have b4 : vp_nar .byte v4.toInt8.toInt32 = v4 := by
    rcases h with ⟨-, e⟩ | ⟨-, e⟩
    · rw [e]; exact sd_bbi (by decide) (by decide)
    · obtain ⟨a, b⟩ := sd_rgI e
      have x1 : (-60 : Int32).toInt = -60 := by decide
      have x2 : (60 : Int32).toInt = 60 := by decide
      exact sd_bbi (by omega) (by omega)
  have e3 : upd ax ((9 * nI g) + nI w).toNatClampNeg (vp_nar .byte v3.toInt8.toInt32) = upd ax (9 * g + w) v3 := by rw [ic, b3]
  have e4 : upd ay ((9 * nI g) + nI w).toNatClampNeg (vp_nar .byte v4.toInt8.toInt32) = upd ay (9 * g + w) v4 := by rw [ic, b4]
  have fin : wX_anchor_70 post (nI g) (nI w) v3 v4 (nI R) (nI L) (nI n) T D bk p1 p2 p3 wd kd kc jn ax ay sX ty ig ol rO dX sa ls fX tu tx iX bX tX eX (sd_xt G q0) (sd_xt C q1) (sd_xt P q2) (sd_xt H q3) (sd_xt M q4) (sd_xt J q5) (sd_xt V q6) (sd_xt A q7) (sd_xt B q8) be (sd_xt U q9) := And.intro iv (nm_r e3 ⟨iv, nm_r e4 k⟩)
  by_cases z : v3 = 99 ∧ v4 = 99
  · exact br_t z.1 (br_t z.2 (sd_no_t h1 (br_t rfl (sd_no_t h2 (br_t rfl (br_f sd_10 fin))))))
  · rcases h with h | ⟨h3, h4⟩
    · exact absurd h z
    · have key : wX_anchor_17 post (nI g) (nI w) v3 v4 (nI R) (nI L) (nI n) T D bk p1 p2 p3 wd kd kc jn ax ay sX ty ig ol rO dX sa ls fX tu tx iX bX tX eX (sd_xt G q0) (sd_xt C q1) (sd_xt P q2) (sd_xt H q3) (sd_xt M q4) (sd_xt J q5) (sd_xt V q6) (sd_xt A q7) (sd_xt B q8) be (sd_xt U q9) := sd_no_t h1 (br_t rfl (sd_no_t h2 (br_t rfl (br_t rfl (sd_no_t h3 (br_t rfl (sd_no_t h4 (br_t rfl fin))))))))
      exact br_c (fun a => br_f (fun b => z ⟨a, b⟩) key) (fun _ => key)
theorem sd_yanchor_ok {post : Int32 → SY → Prop} {g w : Nat} {v3 v4 : Int32} (hg : g < 48) (hw : w < 9) (h : (v3 = 99 ∧ v4 = 99) ∨ (((-60 : Int32) ≤ v3 ∧ v3 ≤ 60) ∧ ((-60 : Int32) ≤ v4 ∧ v4 ≤ 60)))
    (k : post 1 (nI R, nI L, nI n, D, T, bk, wd, kd, kc, jn, sY, upd ax (9 * g + w) v3, upd ay (9 * g + w) v4, ty, ig, ol, ls, fY, tu, rO, yA, yB, yC, yD, y1, y2, tx, G, C, M, J, P, V, A, B, H, U)) : wpY_anchor post (nI R, nI L, nI n, D, T, bk, wd, kd, kc, jn, sY, ax, ay, ty, ig, ol, ls, fY, tu, rO, yA, yB, yC, yD, y1, y2, tx, G, C, M, J, P, V, A, B, H, U) (nI g) (nI w) v3 v4 := by
  have h1 : (0 : Int32) ≤ nI g ∧ nI g ≤ 47 := ⟨nI_pos' (by omega), nI_le (b := 47) (by omega) (by decide)⟩
  have h2 : (0 : Int32) ≤ nI w ∧ nI w ≤ 8 := ⟨nI_pos' (by omega), nI_le (b := 8) (by omega) (by decide)⟩
  have ix : (9 * nI g) + nI w = nI (9 * g + w) := by show nI 9 * nI g + nI w = _; rw [pk_mul, nI_add]
  have iv : vp_in ((9 * nI g) + nI w) 432 := by rw [ix]; exact vp_in_nI (by omega) (by decide)
  have ic : ((9 * nI g) + nI w).toNatClampNeg = 9 * g + w := by rw [ix]; exact nI_clamp (by omega)
  have e3 : upd ax ((9 * nI g) + nI w).toNatClampNeg v3 = upd ax (9 * g + w) v3 := by rw [ic]
  have e4 : upd ay ((9 * nI g) + nI w).toNatClampNeg v4 = upd ay (9 * g + w) v4 := by rw [ic]
  have fin : wY_anchor_58 post (nI g) (nI w) v3 v4 (nI R) (nI L) (nI n) D T bk wd kd kc jn sY ax ay ty ig ol ls fY tu rO yA yB yC yD y1 y2 tx G C M J P V A B H U := And.intro iv (nm_r e3 ⟨iv, nm_r e4 k⟩)
  unfold wpY_anchor
  refine sd_in_t h1 (br_f sd_10 (sd_in_t h2 (br_f sd_10 ?_)))
  by_cases z : v3 = 99 ∧ v4 = 99
  · exact br_t z.1 (br_t z.2 fin)
  · rcases h with h | ⟨h3, h4⟩
    · exact absurd h z
    · have key : wY_anchor_33 post (nI g) (nI w) v3 v4 (nI R) (nI L) (nI n) D T bk wd kd kc jn sY ax ay ty ig ol ls fY tu rO yA yB yC yD y1 y2 tx G C M J P V A B H U := sd_in_t h3 (br_f sd_10 (sd_in_t h4 (br_f sd_10 fin)))
      exact br_c (fun a => br_f (fun b => z ⟨a, b⟩) key) (fun _ => key)
theorem sd_xanchor_no {post : Int32 → SX → Prop} {v1 v2 v3 v4 : Int32} (h : ¬ (((0 : Int32) ≤ v1 ∧ v1 ≤ 47) ∧ ((0 : Int32) ≤ v2 ∧ v2 ≤ 8) ∧ ((v3 = 99 ∧ v4 = 99) ∨ (((-60 : Int32) ≤ v3 ∧ v3 ≤ 60) ∧ ((-60 : Int32) ≤ v4 ∧ v4 ≤ 60)))))
    (k : post 0 (nI R, nI L, nI n, T, D, bk, p1, p2, p3, wd, kd, kc, jn, ax, ay, sX, ty, ig, ol, rO, dX, sa, ls, fX, tu, tx, iX, bX, tX, eX, sd_xt G q0, sd_xt C q1, sd_xt P q2, sd_xt H q3, sd_xt M q4, sd_xt J q5, sd_xt V q6, sd_xt A q7, sd_xt B q8, be, sd_xt U q9)) : wpX_anchor post (nI R, nI L, nI n, T, D, bk, p1, p2, p3, wd, kd, kc, jn, ax, ay, sX, ty, ig, ol, rO, dX, sa, ls, fX, tu, tx, iX, bX, tX, eX, sd_xt G q0, sd_xt C q1, sd_xt P q2, sd_xt H q3, sd_xt M q4, sd_xt J q5, sd_xt V q6, sd_xt A q7, sd_xt B q8, be, sd_xt U q9) v1 v2 v3 v4 := by
  by_cases z : v3 = 99 ∧ v4 = 99
  · refine br_t z.1 (br_t z.2 ?_)
    by_cases h1 : (0 : Int32) ≤ v1 ∧ v1 ≤ 47
    · by_cases h2 : (0 : Int32) ≤ v2 ∧ v2 ≤ 8
      · exact absurd ⟨h1, h2, Or.inl z⟩ h
      · exact sd_no_t h1 (br_t rfl (sd_no_f h2 (br_f sd_10 k)))
    · exact sd_no_f h1 (br_f sd_10 k)
  · have key : wX_anchor_17 post v1 v2 v3 v4 (nI R) (nI L) (nI n) T D bk p1 p2 p3 wd kd kc jn ax ay sX ty ig ol rO dX sa ls fX tu tx iX bX tX eX (sd_xt G q0) (sd_xt C q1) (sd_xt P q2) (sd_xt H q3) (sd_xt M q4) (sd_xt J q5) (sd_xt V q6) (sd_xt A q7) (sd_xt B q8) be (sd_xt U q9) := by
      by_cases h1 : (0 : Int32) ≤ v1 ∧ v1 ≤ 47
      · by_cases h2 : (0 : Int32) ≤ v2 ∧ v2 ≤ 8
        · by_cases h3 : (-60 : Int32) ≤ v3 ∧ v3 ≤ 60
          · by_cases h4 : (-60 : Int32) ≤ v4 ∧ v4 ≤ 60
            · exact absurd ⟨h1, h2, Or.inr ⟨h3, h4⟩⟩ h
            · exact sd_no_t h1 (br_t rfl (sd_no_t h2 (br_t rfl (br_t rfl (sd_no_t h3 (br_t rfl (sd_no_f h4 (br_f sd_10 k))))))))
          · exact sd_no_t h1 (br_t rfl (sd_no_t h2 (br_t rfl (br_t rfl (sd_no_f h3 (br_f sd_10 k))))))
        · exact sd_no_t h1 (br_t rfl (sd_no_f h2 (br_f sd_10 k)))
      · exact sd_no_f h1 (br_f sd_10 k)
    exact br_c (fun a => br_f (fun b => z ⟨a, b⟩) key) (fun _ => key)
theorem sd_yanchor_no {post : Int32 → SY → Prop} {v1 v2 v3 v4 : Int32} (h : ¬ (((0 : Int32) ≤ v1 ∧ v1 ≤ 47) ∧ ((0 : Int32) ≤ v2 ∧ v2 ≤ 8) ∧ ((v3 = 99 ∧ v4 = 99) ∨ (((-60 : Int32) ≤ v3 ∧ v3 ≤ 60) ∧ ((-60 : Int32) ≤ v4 ∧ v4 ≤ 60)))))
    (k : post 0 (nI R, nI L, nI n, D, T, bk, wd, kd, kc, jn, sY, ax, ay, ty, ig, ol, ls, fY, tu, rO, yA, yB, yC, yD, y1, y2, tx, G, C, M, J, P, V, A, B, H, U)) : wpY_anchor post (nI R, nI L, nI n, D, T, bk, wd, kd, kc, jn, sY, ax, ay, ty, ig, ol, ls, fY, tu, rO, yA, yB, yC, yD, y1, y2, tx, G, C, M, J, P, V, A, B, H, U) v1 v2 v3 v4 := by
  unfold wpY_anchor
  by_cases h1 : (0 : Int32) ≤ v1 ∧ v1 ≤ 47
  · by_cases h2 : (0 : Int32) ≤ v2 ∧ v2 ≤ 8
    · refine sd_in_t h1 (br_f sd_10 (sd_in_t h2 (br_f sd_10 ?_)))
      by_cases z : v3 = 99 ∧ v4 = 99
      · exact absurd ⟨h1, h2, Or.inl z⟩ h
      · have key : wY_anchor_33 post v1 v2 v3 v4 (nI R) (nI L) (nI n) D T bk wd kd kc jn sY ax ay ty ig ol ls fY tu rO yA yB yC yD y1 y2 tx G C M J P V A B H U := by
          by_cases h3 : (-60 : Int32) ≤ v3 ∧ v3 ≤ 60
          · by_cases h4 : (-60 : Int32) ≤ v4 ∧ v4 ≤ 60
            · exact absurd ⟨h1, h2, Or.inr ⟨h3, h4⟩⟩ h
            · exact sd_in_t h3 (br_f sd_10 (sd_in_f h4 (br_t rfl k)))
          · exact sd_in_f h3 (br_t rfl k)
        exact br_c (fun a => br_f (fun b => z ⟨a, b⟩) key) (fun _ => key)
    · exact sd_in_t h1 (br_f sd_10 (sd_in_f h2 (br_t rfl k)))
  · exact sd_in_f h1 (br_t rfl k)
end
theorem i_vc_anchor {k : Nat} {u : SX} {v : SY} (I : i_Rel k u v) (hk : k + 6 ≤ 3072) (v1 : Int32) (v2 : Int32) (v3 : Int32) (v4 : Int32) : wpX_anchor (fun r u' => wpY_anchor (fun r' v' => r' = r ∧ i_Rel (k + 6) u' v') v v1 v2 v3 v4) u v1 v2 v3 v4 := by
  refine sd_el (Q := fun u v => wpX_anchor (fun r u' => wpY_anchor (fun r' v' => r' = r ∧ i_Rel (k + 6) u' v') v v1 v2 v3 v4) u v1 v2 v3 v4) ?_ I
  intro R L n T D bk p1 p2 p3 wd kd kc jn ax ay ty ig ol rO dX sa ls fX tu tx eX G C P H M J V A B be U sY fY yA yB yC yD y1 y2 sX iX bX tX q0 q1 q2 q3 q4 q5 q6 q7 q8 q9 hn hK
  by_cases h : (((0 : Int32) ≤ v1 ∧ v1 ≤ 47) ∧ ((0 : Int32) ≤ v2 ∧ v2 ≤ 8) ∧ ((v3 = 99 ∧ v4 = 99) ∨ (((-60 : Int32) ≤ v3 ∧ v3 ≤ 60) ∧ ((-60 : Int32) ≤ v4 ∧ v4 ≤ 60))))
  · obtain ⟨h1, h2, h3⟩ := h
    obtain ⟨g, hg, rfl⟩ := vp_in_of (sd_rg h1 48 (by decide)) (by decide)
    obtain ⟨w, hw, rfl⟩ := vp_in_of (sd_rg h2 9 (by decide)) (by decide)
    exact sd_xanchor_ok hg hw h3 (sd_yanchor_ok hg hw h3 ⟨rfl, sd_mk hn hK⟩)
  · exact sd_xanchor_no h (sd_yanchor_no h ⟨rfl, sd_mk hn hK⟩)
theorem sd_mem {sX : Nat → Int64} {sY : Nat → Int32} (hst : ∀ s, s < 8 → ∀ g, g < 48 → sd_tb (sX s) g = bt (sY g) s) {s0 g0 : Nat} (hs0 : s0 < 8) (hg0 : g0 < 48) {W : Int64} {W' : Int32} (f : Bool → Bool → Bool)
    (hf : ∀ b, f b false = b) (hW : ∀ g, g < 48 → sd_tb W g = f (sd_tb (sX s0) g) (decide (g = g0))) (hW' : ∀ s, s < 8 → bt W' s = f (bt (sY g0) s) (decide (s = s0))) :
    ∀ s, s < 8 → ∀ g, g < 48 → sd_tb (vp_updL sX s0 W s) g = bt (upd sY g0 W' g) s := by
  intro s hs g hg
  by_cases a : s = s0
  · subst a
    rw [pk_uLs, hW g hg, hst s hs g hg]
    by_cases b : g = g0
    · subst b
      rw [pk_us, hW' s hs]
      simp
    · rw [pk_un b, decide_eq_false b, hf]
  · rw [pk_uLn a, hst s hs g hg]
    by_cases b : g = g0
    · subst b
      rw [pk_us, hW' s hs, decide_eq_false a, hf]
    · rw [pk_un b]
theorem i_vc_member {k : Nat} {u : SX} {v : SY} (I : i_Rel k u v) (hk : k + 6 ≤ 3072) (v1 : Int32) (v2 : Int32) (v3 : Int32) : wpX_member (fun r u' => wpY_member (fun r' v' => r' = r ∧ i_Rel (k + 6) u' v') v v1 v2 (lw_bz v3)) u v1 v2 (lw_bz v3) := by
  refine sd_el (Q := fun u v => wpX_member (fun r u' => wpY_member (fun r' v' => r' = r ∧ i_Rel (k + 6) u' v') v v1 v2 (lw_bz v3)) u v1 v2 (lw_bz v3)) ?_ I
  intro R L n T D bk p1 p2 p3 wd kd kc jn ax ay ty ig ol rO dX sa ls fX tu tx eX G C P H M J V A B be U sY fY yA yB yC yD y1 y2 sX iX bX tX q0 q1 q2 q3 q4 q5 q6 q7 q8 q9 hn hK
  generalize lw_bz v3 = w
  by_cases h1 : (0 : Int32) ≤ v1 ∧ v1 ≤ 47
  · by_cases h2 : (0 : Int32) ≤ v2 ∧ v2 ≤ 7
    · have i1 := sd_rg h1 48 (by decide)
      have i2 := sd_rg h2 8 (by decide)
      obtain ⟨g0, hg0, rfl⟩ := vp_in_of i1 (by decide)
      obtain ⟨s0, hs0, rfl⟩ := vp_in_of i2 (by decide)
      have c1 : (nI g0).toNatClampNeg = g0 := nI_clamp (by omega)
      have c2 : (nI s0).toNatClampNeg = s0 := nI_clamp (by omega)
      by_cases h3 : w = 0
      · have eX : vp_updL sX (nI s0).toNatClampNeg ((sX (nI s0).toNatClampNeg) &&& (((1 : Int64) <<< ((nI g0).toInt64 &&& 63)) ^^^ (-1))) = vp_updL sX s0 ((sX s0) &&& (((1 : Int64) <<< ((nI g0).toInt64 &&& 63)) ^^^ (-1))) := by rw [c2]
        have eY : upd sY (nI g0).toNatClampNeg ((sY (nI g0).toNatClampNeg) &&& (((1 : Int32) <<< ((nI s0) &&& 31)) ^^^ (-1))) = upd sY g0 ((sY g0) &&& (((1 : Int32) <<< ((nI s0) &&& 31)) ^^^ (-1))) := by rw [c1]
        have hst := sd_mem hK.st hs0 hg0 (fun a b => a && !b) (by intro b; simp) (fun g hg => sd_tb_clr (sX s0) (by omega) (by omega)) (fun s hs => sd_bt_clr (sY g0) (by omega) (by omega))
        have hK' := sd_K.mk hK.rl hK.ll hK.bb hK.gl hK.lo hK.ru hK.sy hK.dy hst hK.fr hK.tt
        exact sd_no_t h1 (br_t rfl (sd_no_t h2 (br_t rfl (br_t h3 ⟨i2, i2, nm_r eX (by unfold wpY_member; exact sd_in_t h1 (br_f sd_10 (sd_in_t h2 (br_f sd_10 (br_t h3 ⟨i1, i1, nm_r eY ⟨rfl, sd_mk hn hK'⟩⟩)))))⟩))))
      · have eX : vp_updL sX (nI s0).toNatClampNeg ((sX (nI s0).toNatClampNeg) ||| ((1 : Int64) <<< ((nI g0).toInt64 &&& 63))) = vp_updL sX s0 ((sX s0) ||| ((1 : Int64) <<< ((nI g0).toInt64 &&& 63))) := by rw [c2]
        have eY : upd sY (nI g0).toNatClampNeg ((sY (nI g0).toNatClampNeg) ||| ((1 : Int32) <<< ((nI s0) &&& 31))) = upd sY g0 ((sY g0) ||| ((1 : Int32) <<< ((nI s0) &&& 31))) := by rw [c1]
        have hst := sd_mem hK.st hs0 hg0 (fun a b => a || b) (by intro b; simp) (fun g hg => sd_tb_set (sX s0) (by omega)) (fun s hs => sd_bt_set (sY g0) (by omega))
        have hK' := sd_K.mk hK.rl hK.ll hK.bb hK.gl hK.lo hK.ru hK.sy hK.dy hst hK.fr hK.tt
        exact sd_no_t h1 (br_t rfl (sd_no_t h2 (br_t rfl (br_f h3 ⟨i2, i2, nm_r eX (by unfold wpY_member; exact sd_in_t h1 (br_f sd_10 (sd_in_t h2 (br_f sd_10 (br_f h3 ⟨i1, i1, nm_r eY ⟨rfl, sd_mk hn hK'⟩⟩)))))⟩))))
    · exact (sd_no_t h1 (br_t rfl (sd_no_f h2 (br_f sd_10 (by unfold wpY_member; exact (sd_in_t h1 (br_f sd_10 (sd_in_f h2 (br_t rfl (⟨rfl, sd_mk hn hK⟩))))))))))
  · exact (sd_no_f h1 (br_f sd_10 (by unfold wpY_member; exact (sd_in_f h1 (br_t rfl (⟨rfl, sd_mk hn hK⟩))))))
theorem i_vc_feature {k : Nat} {u : SX} {v : SY} (I : i_Rel k u v) (hk : k + 6 ≤ 3072) (v1 : Int32) (v2 : Int32) : wpX_feature (fun r u' => wpY_feature (fun r' v' => r' = r ∧ i_Rel (k + 6) u' v') v v1 v2) u v1 v2 := by
  refine sd_el (Q := fun u v => wpX_feature (fun r u' => wpY_feature (fun r' v' => r' = r ∧ i_Rel (k + 6) u' v') v v1 v2) u v1 v2) ?_ I
  intro R L n T D bk p1 p2 p3 wd kd kc jn ax ay ty ig ol rO dX sa ls fX tu tx eX G C P H M J V A B be U sY fY yA yB yC yD y1 y2 sX iX bX tX q0 q1 q2 q3 q4 q5 q6 q7 q8 q9 hn hK
  by_cases h1 : (0 : Int32) ≤ v1 ∧ v1 ≤ 7
  · by_cases h2 : (0 : Int32) ≤ v2 ∧ v2 ≤ 4095
    · have i1 := sd_rg h1 8 (by decide)
      have i2 := sd_rg h2 4096 (by decide)
      have e : upd ls v1.toNatClampNeg (vp_nar .short v2.toInt16.toInt32) = upd ls v1.toNatClampNeg v2 := by rw [sd_ss i2 (by decide)]
      exact sd_no_t h1 (br_t rfl (sd_no_t h2 (br_t rfl ⟨i1, nm_r e (by unfold wpY_feature; exact sd_in_t h1 (br_f sd_10 (sd_in_t h2 (br_f sd_10 ⟨i1, nm_e ⟨rfl, sd_mk hn hK⟩⟩))))⟩)))
    · exact (sd_no_t h1 (br_t rfl (sd_no_f h2 (br_f sd_10 (by unfold wpY_feature; exact (sd_in_t h1 (br_f sd_10 (sd_in_f h2 (br_t rfl (⟨rfl, sd_mk hn hK⟩))))))))))
  · exact (sd_no_f h1 (br_f sd_10 (by unfold wpY_feature; exact (sd_in_f h1 (br_t rfl (⟨rfl, sd_mk hn hK⟩))))))
theorem i_vc_turn {k : Nat} {u : SX} {v : SY} (I : i_Rel k u v) (hk : k + 6 ≤ 3072) (v1 : Int32) (v2 : Int32) (v3 : Int32) : wpX_turn (fun r u' => wpY_turn (fun r' v' => r' = r ∧ i_Rel (k + 6) u' v') v v1 v2 v3) u v1 v2 v3 := by
  refine sd_el (Q := fun u v => wpX_turn (fun r u' => wpY_turn (fun r' v' => r' = r ∧ i_Rel (k + 6) u' v') v v1 v2 v3) u v1 v2 v3) ?_ I
  intro R L n T D bk p1 p2 p3 wd kd kc jn ax ay ty ig ol rO dX sa ls fX tu tx eX G C P H M J V A B be U sY fY yA yB yC yD y1 y2 sX iX bX tX q0 q1 q2 q3 q4 q5 q6 q7 q8 q9 hn hK
  by_cases h1 : (4 : Int32) ≤ v1 ∧ v1 ≤ 7
  · by_cases h2 : (0 : Int32) ≤ v2 ∧ v2 ≤ 15
    · by_cases h3 : (0 : Int32) ≤ v3 ∧ v3 ≤ 15
      · have i1 := sd_rg (v := v1) ⟨Int32.le_trans (by decide) h1.1, h1.2⟩ 8 (by decide)
        have i2 := sd_rg h2 16 (by decide)
        have i3 := sd_rg h3 16 (by decide)
        have e2 : upd fX v1.toNatClampNeg (vp_nar .byte v2.toInt8.toInt32) = upd fX v1.toNatClampNeg v2 := by rw [sd_bb i2 (by decide)]
        have e3 : upd tu v1.toNatClampNeg (vp_nar .byte v3.toInt8.toInt32) = upd tu v1.toNatClampNeg v3 := by rw [sd_bb i3 (by decide)]
        have hK' : sd_K R L bk kd kc jn ty ig rO yA yB yC yD y1 y2 sa dX sY (upd fX v1.toNatClampNeg v2) (upd fY v1.toNatClampNeg v2) tx sX := by
          refine sd_K.mk hK.rl hK.ll hK.bb hK.gl hK.lo hK.ru hK.sy hK.dy hK.st (fun f hf => ?_) hK.tt
          by_cases a : f = v1.toNatClampNeg
          · rw [a, pk_us, pk_us]
          · rw [pk_un a, pk_un a]; exact hK.fr f hf
        exact sd_no_t h1 (br_t rfl (sd_no_t h2 (br_t rfl (sd_no_t h3 (br_t rfl ⟨i1, nm_r e2 ⟨i1, nm_r e3 (by unfold wpY_turn; exact sd_in_t h1 (br_f sd_10 (sd_in_t h2 (br_f sd_10 (sd_in_t h3 (br_f sd_10 ⟨i1, nm_e ⟨i1, nm_e ⟨rfl, sd_mk hn hK'⟩⟩⟩))))))⟩⟩)))))
      · exact (sd_no_t h1 (br_t rfl (sd_no_t h2 (br_t rfl (sd_no_f h3 (br_f sd_10 (by unfold wpY_turn; exact (sd_in_t h1 (br_f sd_10 (sd_in_t h2 (br_f sd_10 (sd_in_f h3 (br_t rfl (⟨rfl, sd_mk hn hK⟩))))))))))))))
    · exact (sd_no_t h1 (br_t rfl (sd_no_f h2 (br_f sd_10 (by unfold wpY_turn; exact (sd_in_t h1 (br_f sd_10 (sd_in_f h2 (br_t rfl (⟨rfl, sd_mk hn hK⟩))))))))))
  · exact (sd_no_f h1 (br_f sd_10 (by unfold wpY_turn; exact (sd_in_f h1 (br_t rfl (⟨rfl, sd_mk hn hK⟩))))))
theorem i_vc_back {k : Nat} {u : SX} {v : SY} (I : i_Rel k u v) (hk : k + 6 ≤ 3072) (v1 : Int32) : wpX_back (fun r u' => wpY_back (fun r' v' => r' = r ∧ i_Rel (k + 6) u' v') v (lw_bz v1)) u (lw_bz v1) := by
  refine sd_el (Q := fun u v => wpX_back (fun r u' => wpY_back (fun r' v' => r' = r ∧ i_Rel (k + 6) u' v') v (lw_bz v1)) u (lw_bz v1)) ?_ I
  intro R L n T D bk p1 p2 p3 wd kd kc jn ax ay ty ig ol rO dX sa ls fX tu tx eX G C P H M J V A B be U sY fY yA yB yC yD y1 y2 sX iX bX tX q0 q1 q2 q3 q4 q5 q6 q7 q8 q9 hn hK
  have e := lw_bz_01 v1
  generalize lw_bz v1 = w at *
  have hK' : sd_K R L w kd kc jn ty ig rO yA yB yC yD y1 y2 sa dX sY fX fY tx sX := sd_K.mk hK.rl hK.ll e hK.gl hK.lo hK.ru hK.sy hK.dy hK.st hK.fr hK.tt
  have n1 : ∀ z : Int32, z = 0 ∨ z = 1 → narrow .boolean (.int z) = .int z := fun z hz => by rcases hz with h | h <;> rw [h] <;> rfl
  have n2 : fits .boolean (.int w) = true := by rcases e with h | h <;> rw [h] <;> rfl
  exact And.intro (n1 w e) (And.intro n2 (And.intro (n1 bk hK.bb) (by unfold wpY_back; exact ⟨n1 w e, n2, n1 bk hK.bb, rfl, sd_mk hn hK'⟩)))
theorem i_vc_type {k : Nat} {u : SX} {v : SY} (I : i_Rel k u v) (hk : k + 6 ≤ 3072) (v1 : Int32) : wpX_type (fun r u' => wpY_type (fun r' v' => r' = r ∧ i_Rel (k + 6) u' v') v v1) u v1 := by
  refine sd_el (Q := fun u v => wpX_type (fun r u' => wpY_type (fun r' v' => r' = r ∧ i_Rel (k + 6) u' v') v v1) u v1) ?_ I
  intro R L n T D bk p1 p2 p3 wd kd kc jn ax ay ty ig ol rO dX sa ls fX tu tx eX G C P H M J V A B be U sY fY yA yB yC yD y1 y2 sX iX bX tX q0 q1 q2 q3 q4 q5 q6 q7 q8 q9 hn hK
  have hL := hK.ll
  by_cases h1 : (0 : Int32) ≤ v1 ∧ v1 ≤ 47
  · have i1 := sd_rg h1 48 (by decide)
    by_cases h2 : L = 16
    · have e : nI L = 16 := by rw [h2]; rfl
      exact sd_no_t h1 (br_t rfl (br_t e (by unfold wpY_type; exact sd_in_t h1 (br_f sd_10 (br_t e ⟨rfl, sd_mk hn hK⟩)))))
    · have e : ¬ nI L = 16 := fun z => h2 ((nI_eq (a := L) (b := 16) (by omega) (by decide)).mp z)
      have i2 : vp_in (nI L) 16 := vp_in_nI (by omega) (by decide)
      have c2 : (nI L).toNatClampNeg = L := nI_clamp (by omega)
      have eX : upd tx (nI L).toNatClampNeg (vp_nar .byte v1.toInt8.toInt32) = upd tx L v1 := by rw [sd_bb i1 (by decide), c2]
      have eY : upd tx (nI L).toNatClampNeg v1 = upd tx L v1 := by rw [c2]
      have hK' : sd_K R (L + 1) bk kd kc jn ty ig rO yA yB yC yD y1 y2 sa dX sY fX fY (upd tx L v1) sX := by
        refine sd_K.mk hK.rl (by omega) hK.bb hK.gl hK.lo hK.ru hK.sy hK.dy hK.st hK.fr (fun j hj => ?_)
        by_cases a : j = L
        · rw [a, pk_us]; exact i1
        · rw [pk_un a]; exact hK.tt j hj
      exact sd_no_t h1 (br_t rfl (br_f e (nm_r (nI_1 L) ⟨i2, nm_r eX (by unfold wpY_type; exact sd_in_t h1 (br_f sd_10 (br_f e ⟨i2, nm_r eY (nm_r (nI_1 L) ⟨nI_1 L, sd_mk hn hK'⟩)⟩)))⟩)))
  · exact (sd_no_f h1 (br_f sd_10 (by unfold wpY_type; exact (sd_in_f h1 (br_t rfl (⟨rfl, sd_mk hn hK⟩))))))
theorem i_vc_wipe {k : Nat} {u : SX} {v : SY} (I : i_Rel k u v) (hk : k + 6 ≤ 3072) : wpX_wipe (fun r u' => wpY_wipe (fun r' v' => r' = r ∧ i_Rel (k + 6) u' v') v) u := by
  refine sd_el (Q := fun u v => wpX_wipe (fun r u' => wpY_wipe (fun r' v' => r' = r ∧ i_Rel (k + 6) u' v') v) u) ?_ I
  intro R L n T D bk p1 p2 p3 wd kd kc jn ax ay ty ig ol rO dX sa ls fX tu tx eX G C P H M J V A B be U sY fY yA yB yC yD y1 y2 sX iX bX tX q0 q1 q2 q3 q4 q5 q6 q7 q8 q9 hn hK
  have hK' : sd_K R 0 bk kd kc jn ty ig rO yA yB yC yD y1 y2 sa dX sY fX fY tx sX := sd_K.mk hK.rl (by omega) hK.bb hK.gl hK.lo hK.ru hK.sy hK.dy hK.st hK.fr hK.tt
  exact And.intro rfl (sd_mk (L := 0) hn hK')
end
section
theorem i_vc_item {k : Nat} {u : SX} {v : SY} (I : i_Rel k u v) (hk : k + 6 ≤ 3072) (v1 : Int32) (v2 : Int32) : wpX_item (fun r => wpY_item (fun r' => r' = r ∧ i_Rel (k + 6) u v) v v1 v2) u v1 v2 := by
  refine sd_el (Q := fun u v => wpX_item (fun r => wpY_item (fun r' => r' = r ∧ i_Rel (k + 6) u v) v v1 v2) u v1 v2) ?_ I
  intro R L n T D bk p1 p2 p3 wd kd kc jn ax ay ty ig ol rO dX sa ls fX tu tx eX G C P H M J V A B be U sY fY yA yB yC yD y1 y2 sX iX bX tX q0 q1 q2 q3 q4 q5 q6 q7 q8 q9 hn hK
  have rel : i_Rel (k + 6) (nI R, nI L, nI n, T, D, bk, p1, p2, p3, wd, kd, kc, jn, ax, ay, sX, ty, ig, ol, rO, dX, sa, ls, fX, tu, tx, iX, bX, tX, eX, sd_xt G q0, sd_xt C q1, sd_xt P q2, sd_xt H q3, sd_xt M q4, sd_xt J q5, sd_xt V q6, sd_xt A q7, sd_xt B q8, be, sd_xt U q9) (nI R, nI L, nI n, D, T, bk, wd, kd, kc, jn, sY, ax, ay, ty, ig, ol, ls, fY, tu, rO, yA, yB, yC, yD, y1, y2, tx, G, C, M, J, P, V, A, B, H, U) := sd_mk hn hK
  by_cases h1 : (0 : Int32) ≤ v1 ∧ v1 ≤ nI n - 1
  · obtain ⟨j, hj, rfl⟩ := sd_below (by omega) h1
    have i1 : vp_in (nI j) 34 := vp_in_nI (by omega) (by decide)
    have i2 : vp_in (nI j) 33 := vp_in_nI (by omega) (by decide)
    have ex : ∀ (g : Nat → Int32) (t : Int32), g (nI j).toNatClampNeg = sd_xt g t (nI j).toNatClampNeg := fun g t => by rw [sd_nr (by omega), nI_clamp (by omega)]
    refine sd_no_t h1 (br_t rfl ?_)
    by_cases a : v2 < 0
    · exact br_t a (by unfold wpY_item; exact sd_in_t h1 (br_f sd_10 (br_t a ⟨rfl, rel⟩)))
    by_cases b : 9 < v2
    · exact br_f a (br_t b (by unfold wpY_item; exact sd_in_t h1 (br_f sd_10 (br_f a (br_t b ⟨rfl, rel⟩)))))
    by_cases c0 : v2 = 0
    · exact br_f a (br_f b (br_t c0 (⟨i1, by unfold wpY_item; exact sd_in_t h1 (br_f sd_10 (br_f a (br_f b (br_t c0 (⟨i2, ex G q0, rel⟩)))))⟩)))
    by_cases c1 : v2 = 1
    · exact br_f a (br_f b (br_f c0 (br_t c1 (⟨i1, by unfold wpY_item; exact sd_in_t h1 (br_f sd_10 (br_f a (br_f b (br_f c0 (br_t c1 (⟨i2, ex C q1, rel⟩))))))⟩))))
    by_cases c2 : v2 = 2
    · exact br_f a (br_f b (br_f c0 (br_f c1 (br_t c2 (⟨i1, by unfold wpY_item; exact sd_in_t h1 (br_f sd_10 (br_f a (br_f b (br_f c0 (br_f c1 (br_t c2 (⟨i2, ex V q6, rel⟩)))))))⟩)))))
    by_cases c3 : v2 = 3
    · exact br_f a (br_f b (br_f c0 (br_f c1 (br_f c2 (br_t c3 (⟨i1, by unfold wpY_item; exact sd_in_t h1 (br_f sd_10 (br_f a (br_f b (br_f c0 (br_f c1 (br_f c2 (br_t c3 (⟨i2, ex A q7, rel⟩))))))))⟩))))))
    by_cases c4 : v2 = 4
    · exact br_f a (br_f b (br_f c0 (br_f c1 (br_f c2 (br_f c3 (br_t c4 (⟨i1, by unfold wpY_item; exact sd_in_t h1 (br_f sd_10 (br_f a (br_f b (br_f c0 (br_f c1 (br_f c2 (br_f c3 (br_t c4 (⟨i2, ex B q8, rel⟩)))))))))⟩)))))))
    by_cases c5 : v2 = 5
    · exact br_f a (br_f b (br_f c0 (br_f c1 (br_f c2 (br_f c3 (br_f c4 (br_t c5 (⟨i1, by unfold wpY_item; exact sd_in_t h1 (br_f sd_10 (br_f a (br_f b (br_f c0 (br_f c1 (br_f c2 (br_f c3 (br_f c4 (br_t c5 (⟨i2, ex H q3, rel⟩))))))))))⟩))))))))
    by_cases c6 : v2 = 6
    · by_cases d : U (nI j).toNatClampNeg = 0
      · exact br_f a (br_f b (br_f c0 (br_f c1 (br_f c2 (br_f c3 (br_f c4 (br_f c5 (br_t c6 (⟨i1, br_t ((ex U q9).symm.trans d) (by unfold wpY_item; exact sd_in_t h1 (br_f sd_10 (br_f a (br_f b (br_f c0 (br_f c1 (br_f c2 (br_f c3 (br_f c4 (br_f c5 (br_t c6 (⟨i2, br_t d ⟨rfl, rel⟩⟩))))))))))))⟩)))))))))
      · exact br_f a (br_f b (br_f c0 (br_f c1 (br_f c2 (br_f c3 (br_f c4 (br_f c5 (br_t c6 (⟨i1, br_f (fun z => d ((ex U q9).trans z)) (by unfold wpY_item; exact sd_in_t h1 (br_f sd_10 (br_f a (br_f b (br_f c0 (br_f c1 (br_f c2 (br_f c3 (br_f c4 (br_f c5 (br_t c6 (⟨i2, br_f d ⟨rfl, rel⟩⟩))))))))))))⟩)))))))))
    by_cases c7 : v2 = 7
    · exact br_f a (br_f b (br_f c0 (br_f c1 (br_f c2 (br_f c3 (br_f c4 (br_f c5 (br_f c6 (br_t c7 (⟨i1, by unfold wpY_item; exact sd_in_t h1 (br_f sd_10 (br_f a (br_f b (br_f c0 (br_f c1 (br_f c2 (br_f c3 (br_f c4 (br_f c5 (br_f c6 (br_t c7 (⟨i2, ex J q5, rel⟩))))))))))))⟩))))))))))
    by_cases c8 : v2 = 8
    · exact br_f a (br_f b (br_f c0 (br_f c1 (br_f c2 (br_f c3 (br_f c4 (br_f c5 (br_f c6 (br_f c7 (br_t c8 (⟨i1, by unfold wpY_item; exact sd_in_t h1 (br_f sd_10 (br_f a (br_f b (br_f c0 (br_f c1 (br_f c2 (br_f c3 (br_f c4 (br_f c5 (br_f c6 (br_f c7 (br_t c8 (⟨i2, ex P q2, rel⟩)))))))))))))⟩)))))))))))
    by_cases c9 : v2 = 9
    · exact br_f a (br_f b (br_f c0 (br_f c1 (br_f c2 (br_f c3 (br_f c4 (br_f c5 (br_f c6 (br_f c7 (br_f c8 (br_t c9 (⟨i1, by unfold wpY_item; exact sd_in_t h1 (br_f sd_10 (br_f a (br_f b (br_f c0 (br_f c1 (br_f c2 (br_f c3 (br_f c4 (br_f c5 (br_f c6 (br_f c7 (br_f c8 (br_t c9 (⟨i2, ex M q4, rel⟩))))))))))))))⟩))))))))))))
    exact br_f a (br_f b (br_f c0 (br_f c1 (br_f c2 (br_f c3 (br_f c4 (br_f c5 (br_f c6 (br_f c7 (br_f c8 (br_f c9 (trivial))))))))))))
  · exact (sd_no_f h1 (br_f sd_10 (by unfold wpY_item; exact (sd_in_f h1 (br_t rfl (⟨rfl, rel⟩))))))
theorem i_vc_state {k : Nat} {u : SX} {v : SY} (I : i_Rel k u v) (hk : k + 6 ≤ 3072) (v1 : Int32) : wpX_state (fun r => wpY_state (fun r' => r' = r ∧ i_Rel (k + 6) u v) v v1) u v1 := by
  refine sd_el (Q := fun u v => wpX_state (fun r => wpY_state (fun r' => r' = r ∧ i_Rel (k + 6) u v) v v1) u v1) ?_ I
  intro R L n T D bk p1 p2 p3 wd kd kc jn ax ay ty ig ol rO dX sa ls fX tu tx eX G C P H M J V A B be U sY fY yA yB yC yD y1 y2 sX iX bX tX q0 q1 q2 q3 q4 q5 q6 q7 q8 q9 hn hK
  have rel : i_Rel (k + 6) (nI R, nI L, nI n, T, D, bk, p1, p2, p3, wd, kd, kc, jn, ax, ay, sX, ty, ig, ol, rO, dX, sa, ls, fX, tu, tx, iX, bX, tX, eX, sd_xt G q0, sd_xt C q1, sd_xt P q2, sd_xt H q3, sd_xt M q4, sd_xt J q5, sd_xt V q6, sd_xt A q7, sd_xt B q8, be, sd_xt U q9) (nI R, nI L, nI n, D, T, bk, wd, kd, kc, jn, sY, ax, ay, ty, ig, ol, ls, fY, tu, rO, yA, yB, yC, yD, y1, y2, tx, G, C, M, J, P, V, A, B, H, U) := sd_mk hn hK
  by_cases a : v1 < 0
  · have ne : ∀ j : Nat, j < 2 ^ 31 → ¬ v1 = nI j := fun j hj e => by rw [e] at a; exact nI_pos hj a
    exact br_t a (by unfold wpY_state; exact br_f (ne 0 (by decide)) (br_f (ne 1 (by decide)) (br_f (ne 2 (by decide)) (br_f (ne 3 (by decide)) (br_f (ne 4 (by decide)) ⟨rfl, rel⟩)))))
  by_cases b : 4 < v1
  · have ne : ∀ j : Nat, j ≤ 4 → ¬ v1 = nI j := fun j hj e => by rw [e] at b; exact nI_nlt (a := 4) hj (by decide) b
    exact br_f a (br_t b (by unfold wpY_state; exact br_f (ne 0 (by decide)) (br_f (ne 1 (by decide)) (br_f (ne 2 (by decide)) (br_f (ne 3 (by decide)) (br_f (ne 4 (by decide)) ⟨rfl, rel⟩))))))
  by_cases c0 : v1 = 0
  · exact br_f a (br_f b (br_t c0 (by unfold wpY_state; exact (br_t c0 (⟨rfl, rel⟩)))))
  by_cases c1 : v1 = 1
  · exact br_f a (br_f b (br_f c0 (br_t c1 (by unfold wpY_state; exact (br_f c0 (br_t c1 (⟨rfl, rel⟩)))))))
  by_cases c2 : v1 = 2
  · exact br_f a (br_f b (br_f c0 (br_f c1 (br_t c2 (by unfold wpY_state; exact (br_f c0 (br_f c1 (br_t c2 (⟨rfl, rel⟩)))))))))
  by_cases c3 : v1 = 3
  · exact br_f a (br_f b (br_f c0 (br_f c1 (br_f c2 (br_t c3 (by unfold wpY_state; exact (br_f c0 (br_f c1 (br_f c2 (br_t c3 (⟨rfl, rel⟩)))))))))))
  by_cases c4 : v1 = 4
  · exact br_f a (br_f b (br_f c0 (br_f c1 (br_f c2 (br_f c3 (br_t c4 (by unfold wpY_state; exact (br_f c0 (br_f c1 (br_f c2 (br_f c3 (br_t c4 (⟨rfl, rel⟩)))))))))))))
  exact br_f a (br_f b (br_f c0 (br_f c1 (br_f c2 (br_f c3 (br_f c4 (trivial)))))))
end
section
theorem sd_ne3 : ¬ (0 : Int32) = 3 ∧ ¬ (1 : Int32) = 3 ∧ ¬ (2 : Int32) = 3 := by decide
theorem i_vc_does {k : Nat} {u : SX} {v : SY} (I : i_Rel k u v) (hk : k + 6 ≤ 3072) (v1 : Int32) (v2 : Int32) (v3 : Int32) : wpX_does (fun r u' => wpY_does (fun r' v' => r' = r ∧ i_Rel (k + 6) u' v') v v1 v2 v3) u v1 v2 v3 := by
  refine sd_el (Q := fun u v => wpX_does (fun r u' => wpY_does (fun r' v' => r' = r ∧ i_Rel (k + 6) u' v') v v1 v2 v3) u v1 v2 v3) ?_ I
  intro R L n T D bk p1 p2 p3 wd kd kc jn ax ay ty ig ol rO dX sa ls fX tu tx eX G C P H M J V A B be U sY fY yA yB yC yD y1 y2 sX iX bX tX q0 q1 q2 q3 q4 q5 q6 q7 q8 q9 hn hK
  have hR := hK.rl
  by_cases h1 : (0 : Int32) ≤ v1 ∧ v1 ≤ nI R - 1
  · by_cases h2 : (0 : Int32) ≤ v2 ∧ v2 ≤ 1
    · by_cases h3 : (-1 : Int32) ≤ v3 ∧ v3 ≤ 11
      · obtain ⟨r, hr, rfl⟩ := sd_below (by omega) h1
        obtain ⟨a, ha, rfl⟩ := vp_in_of (sd_rg h2 2 (by decide)) (by decide)
        have i3 := sd_rm h3 12 (by decide)
        have cr : (nI r).toNatClampNeg = r := nI_clamp (by omega)
        have ir : vp_in (nI r) 40 := vp_in_nI (by omega) (by decide)
        obtain ⟨w1, w2, w3, w4⟩ := hK.ru r hr
        have io : vp_in (rO (nI r).toNatClampNeg) 12 := by rw [cr]; exact w1
        by_cases t3 : ty (rO (nI r).toNatClampNeg).toNatClampNeg = 3
        · have ix : (2 * nI r) + nI a = nI (2 * r + a) := by show nI 2 * nI r + nI a = _; rw [pk_mul, nI_add]
          have iv : vp_in ((2 * nI r) + nI a) 80 := by rw [ix]; exact vp_in_nI (by omega) (by decide)
          have ic : ((2 * nI r) + nI a).toNatClampNeg = 2 * r + a := by rw [ix]; exact nI_clamp (by omega)
          have b3 : vp_nar .byte v3.toInt8.toInt32 = v3 := by
            rcases i3 with e | e
            · rw [e]; exact sd_bbi (by decide) (by decide)
            · exact sd_bb e (by decide)
          have eX : upd dX ((2 * nI r) + nI a).toNatClampNeg (vp_nar .byte v3.toInt8.toInt32) = upd dX (2 * r + a) v3 := by rw [ic, b3]
          have e1 : upd y1 (nI r).toNatClampNeg v3 = upd y1 r v3 := by rw [cr]
          have e2 : upd y2 (nI r).toNatClampNeg v3 = upd y2 r v3 := by rw [cr]
          by_cases a0 : a = 0
          · subst a0
            have hK' : sd_K R L bk kd kc jn ty ig rO yA yB yC yD (upd y1 r v3) y2 sa (upd dX (2 * r + 0) v3) sY fX fY tx sX := by
              refine sd_K.mk hK.rl hK.ll hK.bb hK.gl hK.lo (fun j hj => ?_) hK.sy (fun j hj => ?_) hK.st hK.fr hK.tt
              · obtain ⟨x1, x2, x3, x4⟩ := hK.ru j hj
                refine ⟨x1, x2, ?_, x4⟩
                by_cases e : j = r
                · rw [e, pk_us]; exact i3
                · rw [pk_un e]; exact x3
              · obtain ⟨x1, x2⟩ := hK.dy j hj
                by_cases e : j = r
                · rw [e, pk_us, show 2 * r + 0 = 2 * r from rfl, pk_us, pk_un (by omega), ← e]; exact ⟨rfl, x2⟩
                · rw [pk_un e, pk_un (by omega), pk_un (by omega)]; exact ⟨x1, x2⟩
            exact sd_no_t h1 (br_t rfl (sd_no_t h2 (br_t rfl (sd_no_t h3 (br_t rfl ⟨ir, io, br_t t3 ⟨iv, nm_r eX (by unfold wpY_does; exact sd_in_t h1 (br_f sd_10 (sd_in_t h2 (br_f sd_10 (sd_in_t h3 (br_f sd_10 ⟨ir, io, br_t t3 (br_t rfl ⟨ir, nm_r e1 ⟨rfl, sd_mk hn hK'⟩⟩)⟩))))))⟩⟩)))))
          · have a1 : a = 1 := by omega
            subst a1
            have hK' : sd_K R L bk kd kc jn ty ig rO yA yB yC yD y1 (upd y2 r v3) sa (upd dX (2 * r + 1) v3) sY fX fY tx sX := by
              refine sd_K.mk hK.rl hK.ll hK.bb hK.gl hK.lo (fun j hj => ?_) hK.sy (fun j hj => ?_) hK.st hK.fr hK.tt
              · obtain ⟨x1, x2, x3, x4⟩ := hK.ru j hj
                refine ⟨x1, x2, x3, ?_⟩
                by_cases e : j = r
                · rw [e, pk_us]; exact i3
                · rw [pk_un e]; exact x4
              · obtain ⟨x1, x2⟩ := hK.dy j hj
                by_cases e : j = r
                · rw [e, pk_us, pk_us, pk_un (by omega), ← e]; exact ⟨x1, rfl⟩
                · rw [pk_un e, pk_un (by omega), pk_un (by omega)]; exact ⟨x1, x2⟩
            exact sd_no_t h1 (br_t rfl (sd_no_t h2 (br_t rfl (sd_no_t h3 (br_t rfl ⟨ir, io, br_t t3 ⟨iv, nm_r eX (by unfold wpY_does; exact sd_in_t h1 (br_f sd_10 (sd_in_t h2 (br_f sd_10 (sd_in_t h3 (br_f sd_10 ⟨ir, io, br_t t3 (br_f sd_10 ⟨ir, nm_r e2 ⟨rfl, sd_mk hn hK'⟩⟩)⟩))))))⟩⟩)))))
        · exact sd_no_t h1 (br_t rfl (sd_no_t h2 (br_t rfl (sd_no_t h3 (br_t rfl ⟨ir, io, br_f t3 (by unfold wpY_does; exact sd_in_t h1 (br_f sd_10 (sd_in_t h2 (br_f sd_10 (sd_in_t h3 (br_f sd_10 ⟨ir, io, br_f t3 ⟨rfl, sd_mk hn hK⟩⟩))))))⟩)))))
      · exact (sd_no_t h1 (br_t rfl (sd_no_t h2 (br_t rfl (sd_no_f h3 (br_f sd_10 (by unfold wpY_does; exact (sd_in_t h1 (br_f sd_10 (sd_in_t h2 (br_f sd_10 (sd_in_f h3 (br_t rfl (⟨rfl, sd_mk hn hK⟩))))))))))))))
    · exact (sd_no_t h1 (br_t rfl (sd_no_f h2 (br_f sd_10 (by unfold wpY_does; exact (sd_in_t h1 (br_f sd_10 (sd_in_f h2 (br_t rfl (⟨rfl, sd_mk hn hK⟩))))))))))
  · exact (sd_no_f h1 (br_f sd_10 (by unfold wpY_does; exact (sd_in_f h1 (br_t rfl (⟨rfl, sd_mk hn hK⟩))))))
end
section
/-! what the digits of a form ask -/
def sd_ft (w : Nat) (v : Int32) : Prop :=
  (w = 1 → (0 : Int32) ≤ v ∧ v ≤ 55) ∧ (w = 2 → (-1 : Int32) ≤ v ∧ v ≤ 55) ∧ (w = 3 → (0 : Int32) ≤ v ∧ v ≤ 47) ∧ (w = 4 → (-1 : Int32) ≤ v ∧ v ≤ 47) ∧ (w = 5 → (-99 : Int32) ≤ v ∧ v ≤ 99)
theorem sd_ft0 {v : Int32} : sd_ft 0 v := And.intro (fun z => by omega) (And.intro (fun z => by omega) (And.intro (fun z => by omega) (And.intro (fun z => by omega) (fun z => by omega))))
theorem sd_ft1 {v : Int32} : sd_ft 1 v ↔ (0 : Int32) ≤ v ∧ v ≤ 55 := ⟨fun h => h.1 rfl, fun h => And.intro (fun _ => h) (And.intro (fun z => by omega) (And.intro (fun z => by omega) (And.intro (fun z => by omega) (fun z => by omega))))⟩
theorem sd_ft2 {v : Int32} : sd_ft 2 v ↔ (-1 : Int32) ≤ v ∧ v ≤ 55 := ⟨fun h => h.2.1 rfl, fun h => And.intro (fun z => by omega) (And.intro (fun _ => h) (And.intro (fun z => by omega) (And.intro (fun z => by omega) (fun z => by omega))))⟩
theorem sd_ft3 {v : Int32} : sd_ft 3 v ↔ (0 : Int32) ≤ v ∧ v ≤ 47 := ⟨fun h => h.2.2.1 rfl, fun h => And.intro (fun z => by omega) (And.intro (fun z => by omega) (And.intro (fun _ => h) (And.intro (fun z => by omega) (fun z => by omega))))⟩
theorem sd_ft4 {v : Int32} : sd_ft 4 v ↔ (-1 : Int32) ≤ v ∧ v ≤ 47 := ⟨fun h => h.2.2.2.1 rfl, fun h => And.intro (fun z => by omega) (And.intro (fun z => by omega) (And.intro (fun z => by omega) (And.intro (fun _ => h) (fun z => by omega))))⟩
theorem sd_ft5 {v : Int32} : sd_ft 5 v ↔ (-99 : Int32) ≤ v ∧ v ≤ 99 := ⟨fun h => h.2.2.2.2 rfl, fun h => And.intro (fun z => by omega) (And.intro (fun z => by omega) (And.intro (fun z => by omega) (And.intro (fun z => by omega) (fun _ => h))))⟩
/-- none, or a matcher: as the component asks it -/
theorem sd_m1or {v : Int32} : (-1 : Int32) ≤ v ∧ v ≤ 55 ↔ v = -1 ∨ ((0 : Int32) ≤ v ∧ v ≤ 55) := by
  have z : (-1 : Int32).toInt = -1 := by decide
  have z0 : (0 : Int32).toInt = 0 := by decide
  constructor
  · intro h
    have ⟨a, b⟩ := sd_rgI h
    by_cases e : v.toInt = -1
    · exact Or.inl (Int32.toInt_inj.mp (by rw [e, z]))
    · exact Or.inr ⟨Int32.le_iff_toInt_le.mpr (by omega), h.2⟩
  · intro h
    rcases h with h | h
    · rw [h]; decide
    · exact ⟨Int32.le_trans (by decide) h.1, h.2⟩
theorem sd_isM_t {post : Int32 → Prop} {v : Int32} (h : (0 : Int32) ≤ v ∧ v ≤ 55) (k : post 1) : wpX_isMatcher post v := sd_no_t h (br_t rfl k)
theorem sd_isM_f {post : Int32 → Prop} {v : Int32} (h : ¬ ((0 : Int32) ≤ v ∧ v ≤ 55)) (k : post 0) : wpX_isMatcher post v := sd_no_f h (br_f sd_10 k)
theorem sd_lt5 : ∀ w : Nat, w ≤ 5 → ¬ (5 : Int32) < nI w := fun w h => nI_nlt (a := 5) h (by decide)
theorem sd_fit {post : Int32 → Prop} (w : Nat) {x v : Int32} (hx : x = nI w) (hw : w ≤ 5) (t : sd_ft w v → post 1) (f : ¬ sd_ft w v → post 0) : wpX_fits post x v := by
  subst hx
  rcases (by omega : w = 0 ∨ w = 1 ∨ w = 2 ∨ w = 3 ∨ w = 4 ∨ w = 5) with e | e | e | e | e | e
  · subst e; exact br_t (by decide) (t sd_ft0)
  · subst e
    refine br_f (by decide) (br_f (by decide) (br_t rfl ?_))
    by_cases h : (0 : Int32) ≤ v ∧ v ≤ 55
    · exact sd_isM_t h ⟨rfl, t (sd_ft1.mpr h)⟩
    · exact sd_isM_f h ⟨rfl, f (fun z => h (sd_ft1.mp z))⟩
  · subst e
    refine br_f (by decide) (br_f (by decide) (br_f (by decide) (br_t rfl ?_)))
    by_cases g : v = -1
    · exact br_t g (t (sd_ft2.mpr (sd_m1or.mpr (Or.inl g))))
    · by_cases h : (0 : Int32) ≤ v ∧ v ≤ 55
      · exact br_f g (sd_isM_t h (br_f sd_10 (t (sd_ft2.mpr (sd_m1or.mpr (Or.inr h))))))
      · exact br_f g (sd_isM_f h (br_t rfl (f (fun z => (sd_m1or.mp (sd_ft2.mp z)).elim g h))))
  · subst e
    refine br_f (by decide) (br_f (by decide) (br_f (by decide) (br_f (by decide) (br_t rfl ?_))))
    by_cases h : (0 : Int32) ≤ v ∧ v ≤ 47
    · exact sd_no_t h (br_t rfl (t (sd_ft3.mpr h)))
    · exact sd_no_f h (br_f sd_10 (f (fun z => h (sd_ft3.mp z))))
  · subst e
    refine br_f (by decide) (br_f (by decide) (br_f (by decide) (br_f (by decide) (br_f (by decide) (br_t rfl ?_)))))
    by_cases h : (-1 : Int32) ≤ v ∧ v ≤ 47
    · exact sd_no_t h (br_t rfl (t (sd_ft4.mpr h)))
    · exact sd_no_f h (br_f sd_10 (f (fun z => h (sd_ft4.mp z))))
  · subst e
    refine br_f (by decide) (br_f (by decide) (br_f (by decide) (br_f (by decide) (br_f (by decide) (br_f (by decide) (br_t rfl ?_))))))
    by_cases h : (-99 : Int32) ≤ v ∧ v ≤ 99
    · exact sd_no_t h (br_t rfl (t (sd_ft5.mpr h)))
    · exact sd_no_f h (br_f sd_10 (f (fun z => h (sd_ft5.mp z))))
/-- a type, its form, the form's digits -/
def sd_tab (t F : Int32) (a b c d : Nat) : Prop :=
  (t = 0 ∧ F = 31 ∧ a = 1 ∧ b = 3 ∧ c = 0 ∧ d = 0) ∨ (t = 1 ∧ F = 441 ∧ a = 1 ∧ b = 4 ∧ c = 4 ∧ d = 0) ∨ (t = 2 ∧ F = 3211 ∧ a = 1 ∧ b = 1 ∧ c = 2 ∧ d = 3) ∨
  (t = 3 ∧ F = 2212 ∧ a = 2 ∧ b = 1 ∧ c = 2 ∧ d = 2) ∨ (t = 4 ∧ F = 3212 ∧ a = 2 ∧ b = 1 ∧ c = 2 ∧ d = 3) ∨ (t = 5 ∧ F = 5511 ∧ a = 1 ∧ b = 1 ∧ c = 5 ∧ d = 5)
theorem sd_tab_ex {t : Int32} (h : vp_in t 9) (h5 : t ≤ 5) : ∃ F a b c d, sd_tab t F a b c d := by
  obtain ⟨j, hj, rfl⟩ := vp_in_of h (by decide)
  have : j ≤ 5 := (nI_leI (b := 5) (by omega) (by decide)).mp h5
  rcases (by omega : j = 0 ∨ j = 1 ∨ j = 2 ∨ j = 3 ∨ j = 4 ∨ j = 5) with e | e | e | e | e | e <;> subst e
  · exact ⟨31, 1, 3, 0, 0, Or.inl ⟨rfl, rfl, rfl, rfl, rfl, rfl⟩⟩
  · exact ⟨441, 1, 4, 4, 0, Or.inr (Or.inl ⟨rfl, rfl, rfl, rfl, rfl, rfl⟩)⟩
  · exact ⟨3211, 1, 1, 2, 3, Or.inr (Or.inr (Or.inl ⟨rfl, rfl, rfl, rfl, rfl, rfl⟩))⟩
  · exact ⟨2212, 2, 1, 2, 2, Or.inr (Or.inr (Or.inr (Or.inl ⟨rfl, rfl, rfl, rfl, rfl, rfl⟩)))⟩
  · exact ⟨3212, 2, 1, 2, 3, Or.inr (Or.inr (Or.inr (Or.inr (Or.inl ⟨rfl, rfl, rfl, rfl, rfl, rfl⟩))))⟩
  · exact ⟨5511, 1, 1, 5, 5, Or.inr (Or.inr (Or.inr (Or.inr (Or.inr ⟨rfl, rfl, rfl, rfl, rfl, rfl⟩))))⟩
theorem sd_tab_form {post : Int32 → Prop} {t F : Int32} {a b c d : Nat} (h : sd_tab t F a b c d) (k : post F) : wpX_form post t := by
  rcases h with h | h | h | h | h | h
  · obtain ⟨rfl, rfl, -⟩ := h; exact br_f (by decide) (br_f (by decide) (br_t rfl k))
  · obtain ⟨rfl, rfl, -⟩ := h; exact br_f (by decide) (br_f (by decide) (br_f (by decide) (br_t rfl k)))
  · obtain ⟨rfl, rfl, -⟩ := h; exact br_f (by decide) (br_f (by decide) (br_f (by decide) (br_f (by decide) (br_t rfl k))))
  · obtain ⟨rfl, rfl, -⟩ := h; exact br_f (by decide) (br_f (by decide) (br_f (by decide) (br_f (by decide) (br_f (by decide) (br_t rfl k)))))
  · obtain ⟨rfl, rfl, -⟩ := h; exact br_f (by decide) (br_f (by decide) (br_f (by decide) (br_f (by decide) (br_f (by decide) (br_f (by decide) (br_t rfl k))))))
  · obtain ⟨rfl, rfl, -⟩ := h; exact br_f (by decide) (br_t (by decide) k)
theorem sd_tab_dig {t F : Int32} {a b c d : Nat} (h : sd_tab t F a b c d) :
    (F - F / 10 * 10 = nI a ∧ (F / 10) - (F / 10) / 10 * 10 = nI b ∧ (F / 100) - (F / 100) / 10 * 10 = nI c ∧ F / 1000 = nI d) ∧ (a ≤ 5 ∧ b ≤ 5 ∧ c ≤ 5 ∧ d ≤ 5) := by
  rcases h with h | h | h | h | h | h <;> obtain ⟨-, rfl, rfl, rfl, rfl, rfl⟩ := h <;> decide
theorem sd_inB {post : Int32 → Prop} {v lo hi : Int32} (k : post (sd_b (decide (lo ≤ v ∧ v ≤ hi)))) : wpY_in post v lo hi := by
  by_cases h : lo ≤ v ∧ v ≤ hi
  · rw [decide_eq_true h] at k; exact sd_in_t h k
  · rw [decide_eq_false h] at k; exact sd_in_f h k
theorem sd_suits {post : Int32 → Prop} {t F v1 v2 v3 v4 : Int32} {a b c d : Nat} (h : sd_tab t F a b c d) (g : sd_ft a v1 ∧ sd_ft b v2 ∧ sd_ft c v3 ∧ sd_ft d v4 → post 1) (f : ¬ (sd_ft a v1 ∧ sd_ft b v2 ∧ sd_ft c v3 ∧ sd_ft d v4) → post 0) : wpY_suits post t v1 v2 v3 v4 := by
  refine sd_inB (sd_inB (sd_inB ?_))
  rcases h with h | h | h | h | h | h
  · obtain ⟨rfl, -, rfl, rfl, rfl, rfl⟩ := h
    exact br_f (by decide) (br_f (by decide) (br_t rfl (sd_b_br (fun e0 => f (fun z => of_decide_eq_false e0 (sd_ft1.mp z.1))) (fun e0 => sd_inB (sd_b_br (fun e1 => f (fun z => of_decide_eq_false e1 (sd_ft3.mp z.2.1))) (fun e1 => g ⟨sd_ft1.mpr (of_decide_eq_true e0), sd_ft3.mpr (of_decide_eq_true e1), sd_ft0, sd_ft0⟩))))))
  · obtain ⟨rfl, -, rfl, rfl, rfl, rfl⟩ := h
    exact br_f (by decide) (br_f (by decide) (br_f (by decide) (br_t rfl (sd_b_br (fun e0 => f (fun z => of_decide_eq_false e0 (sd_ft1.mp z.1))) (fun e0 => sd_inB (sd_b_br (fun e1 => f (fun z => of_decide_eq_false e1 (sd_ft4.mp z.2.1))) (fun e1 => sd_inB (sd_b_br (fun e2 => f (fun z => of_decide_eq_false e2 (sd_ft4.mp z.2.2.1))) (fun e2 => g ⟨sd_ft1.mpr (of_decide_eq_true e0), sd_ft4.mpr (of_decide_eq_true e1), sd_ft4.mpr (of_decide_eq_true e2), sd_ft0⟩)))))))))
  · obtain ⟨rfl, -, rfl, rfl, rfl, rfl⟩ := h
    exact br_f (by decide) (br_f (by decide) (br_f (by decide) (br_f (by decide) (br_t rfl (sd_b_br (fun e0 => f (fun z => of_decide_eq_false e0 (sd_ft1.mp z.1))) (fun e0 => sd_b_br (fun e1 => f (fun z => of_decide_eq_false e1 (sd_ft1.mp z.2.1))) (fun e1 => sd_inB (sd_b_br (fun e2 => f (fun z => of_decide_eq_false e2 (sd_ft2.mp z.2.2.1))) (fun e2 => sd_b_br (fun e3 => f (fun z => of_decide_eq_false e3 (sd_ft3.mp z.2.2.2))) (fun e3 => g ⟨sd_ft1.mpr (of_decide_eq_true e0), sd_ft1.mpr (of_decide_eq_true e1), sd_ft2.mpr (of_decide_eq_true e2), sd_ft3.mpr (of_decide_eq_true e3)⟩))))))))))
  · obtain ⟨rfl, -, rfl, rfl, rfl, rfl⟩ := h
    exact br_f (by decide) (br_f (by decide) (br_f (by decide) (br_f (by decide) (br_f (by decide) (br_t rfl (sd_inB (sd_b_br (fun e0 => f (fun z => of_decide_eq_false e0 (sd_ft2.mp z.1))) (fun e0 => sd_b_br (fun e1 => f (fun z => of_decide_eq_false e1 (sd_ft1.mp z.2.1))) (fun e1 => sd_inB (sd_b_br (fun e2 => f (fun z => of_decide_eq_false e2 (sd_ft2.mp z.2.2.1))) (fun e2 => sd_inB (sd_b_br (fun e3 => f (fun z => of_decide_eq_false e3 (sd_ft2.mp z.2.2.2))) (fun e3 => g ⟨sd_ft2.mpr (of_decide_eq_true e0), sd_ft1.mpr (of_decide_eq_true e1), sd_ft2.mpr (of_decide_eq_true e2), sd_ft2.mpr (of_decide_eq_true e3)⟩)))))))))))))
  · obtain ⟨rfl, -, rfl, rfl, rfl, rfl⟩ := h
    exact br_f (by decide) (br_f (by decide) (br_f (by decide) (br_f (by decide) (br_f (by decide) (br_f (by decide) (br_t rfl (sd_inB (sd_b_br (fun e0 => f (fun z => of_decide_eq_false e0 (sd_ft2.mp z.1))) (fun e0 => sd_b_br (fun e1 => f (fun z => of_decide_eq_false e1 (sd_ft1.mp z.2.1))) (fun e1 => sd_inB (sd_b_br (fun e2 => f (fun z => of_decide_eq_false e2 (sd_ft2.mp z.2.2.1))) (fun e2 => sd_b_br (fun e3 => f (fun z => of_decide_eq_false e3 (sd_ft3.mp z.2.2.2))) (fun e3 => g ⟨sd_ft2.mpr (of_decide_eq_true e0), sd_ft1.mpr (of_decide_eq_true e1), sd_ft2.mpr (of_decide_eq_true e2), sd_ft3.mpr (of_decide_eq_true e3)⟩)))))))))))))
  · obtain ⟨rfl, -, rfl, rfl, rfl, rfl⟩ := h
    exact br_f (by decide) (br_f (by decide) (br_f (by decide) (br_f (by decide) (br_f (by decide) (br_f (by decide) (br_f (by decide) (br_t rfl (sd_b_br (fun e0 => f (fun z => of_decide_eq_false e0 (sd_ft1.mp z.1))) (fun e0 => sd_b_br (fun e1 => f (fun z => of_decide_eq_false e1 (sd_ft1.mp z.2.1))) (fun e1 => sd_inB (sd_b_br (fun e2 => f (fun z => of_decide_eq_false e2 (sd_ft5.mp z.2.2.1))) (fun e2 => sd_inB (sd_b_br (fun e3 => f (fun z => of_decide_eq_false e3 (sd_ft5.mp z.2.2.2))) (fun e3 => g ⟨sd_ft1.mpr (of_decide_eq_true e0), sd_ft1.mpr (of_decide_eq_true e1), sd_ft5.mpr (of_decide_eq_true e2), sd_ft5.mpr (of_decide_eq_true e3)⟩))))))))))))))
theorem sd_suits_6 {post : Int32 → Prop} {t v1 v2 v3 v4 : Int32} (h0 : ¬ t < 0) (h : ¬ t ≤ 5) (k : post 0) : wpY_suits post t v1 v2 v3 v4 :=
  sd_inB (sd_inB (sd_inB (br_f h0 (br_t (Int32.not_le.mp h) k))))
theorem sd_tab_rule {t F v1 v2 v3 v4 : Int32} {a b c d : Nat} (h : sd_tab t F a b c d) (g : sd_ft a v1 ∧ sd_ft b v2 ∧ sd_ft c v3 ∧ sd_ft d v4) : sd_rule t v1 v2 v3 v4 := by
  have m1 : ∀ {v : Int32}, sd_ft 1 v → vp_in v 56 := fun h => sd_rg (sd_ft1.mp h) 56 (by decide)
  have m2 : ∀ {v : Int32}, sd_ft 2 v → v = -1 ∨ vp_in v 56 := fun h => sd_rm (sd_ft2.mp h) 56 (by decide)
  have m3 : ∀ {v : Int32}, sd_ft 3 v → vp_in v 48 := fun h => sd_rg (sd_ft3.mp h) 48 (by decide)
  have m4 : ∀ {v : Int32}, sd_ft 4 v → v = -1 ∨ vp_in v 48 := fun h => sd_rm (sd_ft4.mp h) 48 (by decide)
  obtain ⟨g1, g2, g3, g4⟩ := g
  rcases h with h | h | h | h | h | h <;> obtain ⟨rfl, -, rfl, rfl, rfl, rfl⟩ := h
  · exact Or.inl ⟨rfl, m1 g1, m3 g2⟩
  · exact Or.inr (Or.inl ⟨rfl, m1 g1, m4 g2, m4 g3⟩)
  · exact Or.inr (Or.inr (Or.inl ⟨rfl, m1 g1, m1 g2, m2 g3, m3 g4⟩))
  · exact Or.inr (Or.inr (Or.inr (Or.inl ⟨rfl, m2 g1, m1 g2, m2 g3, m2 g4⟩)))
  · exact Or.inr (Or.inr (Or.inr (Or.inr (Or.inl ⟨rfl, m2 g1, m1 g2, m2 g3, m3 g4⟩))))
  · exact Or.inr (Or.inr (Or.inr (Or.inr (Or.inr ⟨rfl, m1 g1, m1 g2⟩))))
theorem sd_i4 (r : Nat) (j : Nat) : (4 * nI r) + nI j = nI (4 * r + j) := by show nI 4 * nI r + nI j = _; rw [pk_mul, nI_add]
theorem sd_i40 (r : Nat) : 4 * nI r = nI (4 * r) := by show nI 4 * nI r = _; rw [pk_mul]
theorem sd_i2 (r : Nat) (j : Nat) : (2 * nI r) + nI j = nI (2 * r + j) := by show nI 2 * nI r + nI j = _; rw [pk_mul, nI_add]
theorem sd_i20 (r : Nat) : 2 * nI r = nI (2 * r) := by show nI 2 * nI r = _; rw [pk_mul]
section
variable {R L n : Nat} {T D bk p1 p2 p3 : Int32} {wd kd kc jn ax ay ty ig ol rO dX sa ls fX tu tx eX G C P H M J V A B be U sY fY yA yB yC yD y1 y2 : Nat → Int32} {sX iX bX tX : Nat → Int64} {q0 q1 q2 q3 q4 q5 q6 q7 q8 q9 : Int32}
theorem sd_xrule {post : Int32 → SX → Prop} {l : Nat} {F v2 v3 v4 v5 : Int32} {a b c d : Nat} (hl : l < 12) (h5 : ty l ≤ 5) (h : sd_tab (ty l) F a b c d) (hR : R ≤ 40)
    (g : sd_ft a v2 ∧ sd_ft b v3 ∧ sd_ft c v4 ∧ sd_ft d v5 → (R = 40 → post (-2) (nI R, nI L, nI n, T, D, bk, p1, p2, p3, wd, kd, kc, jn, ax, ay, sX, ty, ig, ol, rO, dX, sa, ls, fX, tu, tx, iX, bX, tX, eX, sd_xt G q0, sd_xt C q1, sd_xt P q2, sd_xt H q3, sd_xt M q4, sd_xt J q5, sd_xt V q6, sd_xt A q7, sd_xt B q8, be, sd_xt U q9)) ∧ (R < 40 → post (nI R) (nI (R + 1), nI L, nI n, T, D, bk, p1, p2, p3, wd, kd, kc, jn, ax, ay, sX, ty, ig, ol, upd rO R (nI l), upd (upd dX (2 * R) (-1)) (2 * R + 1) (-1), upd (upd (upd (upd sa (4 * R) v2) (4 * R + 1) v3) (4 * R + 2) v4) (4 * R + 3) v5, ls, fX, tu, tx, iX, bX, tX, eX, sd_xt G q0, sd_xt C q1, sd_xt P q2, sd_xt H q3, sd_xt M q4, sd_xt J q5, sd_xt V q6, sd_xt A q7, sd_xt B q8, be, sd_xt U q9)))
    (f : ¬ (sd_ft a v2 ∧ sd_ft b v3 ∧ sd_ft c v4 ∧ sd_ft d v5) → post (-1) (nI R, nI L, nI n, T, D, bk, p1, p2, p3, wd, kd, kc, jn, ax, ay, sX, ty, ig, ol, rO, dX, sa, ls, fX, tu, tx, iX, bX, tX, eX, sd_xt G q0, sd_xt C q1, sd_xt P q2, sd_xt H q3, sd_xt M q4, sd_xt J q5, sd_xt V q6, sd_xt A q7, sd_xt B q8, be, sd_xt U q9)) : wpX_rule post (nI R, nI L, nI n, T, D, bk, p1, p2, p3, wd, kd, kc, jn, ax, ay, sX, ty, ig, ol, rO, dX, sa, ls, fX, tu, tx, iX, bX, tX, eX, sd_xt G q0, sd_xt C q1, sd_xt P q2, sd_xt H q3, sd_xt M q4, sd_xt J q5, sd_xt V q6, sd_xt A q7, sd_xt B q8, be, sd_xt U q9) (nI l) v2 v3 v4 v5 := by
  have h1 : (0 : Int32) ≤ nI l ∧ nI l ≤ 11 := ⟨nI_pos' (by omega), nI_le (b := 11) (by omega) (by decide)⟩
  have il : vp_in (nI l) 12 := vp_in_nI hl (by decide)
  have cl : (nI l).toNatClampNeg = l := nI_clamp (by omega)
  obtain ⟨⟨d1, d2, d3, d4⟩, w1, w2, w3, w4⟩ := sd_tab_dig h
  have n10 : ¬ (10 : Int32) = 0 := by decide
  have n100 : ¬ (100 : Int32) = 0 := by decide
  have n1000 : ¬ (1000 : Int32) = 0 := by decide
  refine sd_no_t h1 (br_t rfl ⟨il, br_t (by rw [cl]; exact h5) ⟨il, ?_⟩⟩)
  rw [cl]
  refine sd_tab_form h ⟨n10, sd_fit a d1 w1 (fun g1 => br_f sd_10 ⟨n10, n10, sd_fit b d2 w2 (fun g2 => br_f sd_10 ⟨n100, n10, sd_fit c d3 w3 (fun g3 => br_f sd_10 ⟨n1000, sd_fit d d4 w4 (fun g4 => br_f sd_10 ?_) (fun z => br_t rfl (f (fun q => z q.2.2.2)))⟩) (fun z => br_t rfl (f (fun q => z q.2.2.1)))⟩) (fun z => br_t rfl (f (fun q => z q.2.1)))⟩) (fun z => br_t rfl (f (fun q => z q.1)))⟩
  obtain ⟨k1, k2⟩ := g ⟨g1, g2, g3, g4⟩
  by_cases e : R = 40
  · exact br_t (by rw [e]; rfl) (k1 e)
  · have cR : (nI R).toNatClampNeg = R := nI_clamp (by omega)
    have iR : vp_in (nI R) 40 := vp_in_nI (by omega) (by decide)
    have bl : vp_nar .byte (nI l).toInt8.toInt32 = nI l := sd_bb il (by decide)
    have e1 : upd rO (nI R).toNatClampNeg (vp_nar .byte (nI l).toInt8.toInt32) = upd rO R (nI l) := by rw [cR, bl]
    have j : ∀ q : Nat, q < 4 → vp_in ((4 * nI R) + nI q) 160 ∧ ((4 * nI R) + nI q).toNatClampNeg = 4 * R + q := fun q hq => by
      rw [sd_i4]; exact ⟨vp_in_nI (by omega) (by decide), nI_clamp (by omega)⟩
    have j0 : vp_in (4 * nI R) 160 ∧ (4 * nI R).toNatClampNeg = 4 * R := by rw [sd_i40]; exact ⟨vp_in_nI (by omega) (by decide), nI_clamp (by omega)⟩
    have m0 : vp_in (2 * nI R) 80 ∧ (2 * nI R).toNatClampNeg = 2 * R := by rw [sd_i20]; exact ⟨vp_in_nI (by omega) (by decide), nI_clamp (by omega)⟩
    have m1 : vp_in ((2 * nI R) + nI 1) 80 ∧ ((2 * nI R) + nI 1).toNatClampNeg = 2 * R + 1 := by rw [sd_i2]; exact ⟨vp_in_nI (by omega) (by decide), nI_clamp (by omega)⟩
    have s0 : ∀ (s : Nat → Int32) v, upd s (4 * nI R).toNatClampNeg v = upd s (4 * R) v := fun s v => by rw [j0.2]
    have s1 : ∀ (s : Nat → Int32) v, upd s ((4 * nI R) + 1).toNatClampNeg v = upd s (4 * R + 1) v := fun s v => congrArg (fun z => upd s z v) (j 1 (by decide)).2
    have s2 : ∀ (s : Nat → Int32) v, upd s ((4 * nI R) + 2).toNatClampNeg v = upd s (4 * R + 2) v := fun s v => congrArg (fun z => upd s z v) (j 2 (by decide)).2
    have s3 : ∀ (s : Nat → Int32) v, upd s ((4 * nI R) + 3).toNatClampNeg v = upd s (4 * R + 3) v := fun s v => congrArg (fun z => upd s z v) (j 3 (by decide)).2
    have t0 : ∀ s : Nat → Int32, upd s (2 * nI R).toNatClampNeg (vp_nar .byte (-1)) = upd s (2 * R) (-1) := fun s => by rw [m0.2, sd_bm1]
    have t1 : ∀ s : Nat → Int32, upd s ((2 * nI R) + 1).toNatClampNeg (vp_nar .byte (-1)) = upd s (2 * R + 1) (-1) := fun s => by rw [sd_bm1]; exact congrArg (fun z => upd s z (-1)) m1.2
    exact br_f (fun z => e ((nI_eq (a := R) (b := 40) (by omega) (by decide)).mp z)) ⟨iR, nm_r e1 ⟨j0.1, nm_r (s0 _ _) ⟨(j 1 (by decide)).1, nm_r (s1 _ _) ⟨(j 2 (by decide)).1, nm_r (s2 _ _) ⟨(j 3 (by decide)).1, nm_r (s3 _ _) ⟨m0.1, nm_r (t0 _) ⟨m1.1, nm_r (t1 _) (nm_r (nI_1 R) (k2 (by omega)))⟩⟩⟩⟩⟩⟩⟩
theorem sd_yrule {post : Int32 → SY → Prop} {l : Nat} {F v2 v3 v4 v5 : Int32} {a b c d : Nat} (hl : l < 12) (h : sd_tab (ty l) F a b c d) (hR : R ≤ 40)
    (g : sd_ft a v2 ∧ sd_ft b v3 ∧ sd_ft c v4 ∧ sd_ft d v5 → (R = 40 → post (-2) (nI R, nI L, nI n, D, T, bk, wd, kd, kc, jn, sY, ax, ay, ty, ig, ol, ls, fY, tu, rO, yA, yB, yC, yD, y1, y2, tx, G, C, M, J, P, V, A, B, H, U)) ∧ (R < 40 → post (nI R) (nI (R + 1), nI L, nI n, D, T, bk, wd, kd, kc, jn, sY, ax, ay, ty, ig, ol, ls, fY, tu, upd rO R (nI l), upd yA R v2, upd yB R v3, upd yC R v4, upd yD R v5, upd y1 R (-1), upd y2 R (-1), tx, G, C, M, J, P, V, A, B, H, U)))
    (f : ¬ (sd_ft a v2 ∧ sd_ft b v3 ∧ sd_ft c v4 ∧ sd_ft d v5) → post (-1) (nI R, nI L, nI n, D, T, bk, wd, kd, kc, jn, sY, ax, ay, ty, ig, ol, ls, fY, tu, rO, yA, yB, yC, yD, y1, y2, tx, G, C, M, J, P, V, A, B, H, U)) : wpY_rule post (nI R, nI L, nI n, D, T, bk, wd, kd, kc, jn, sY, ax, ay, ty, ig, ol, ls, fY, tu, rO, yA, yB, yC, yD, y1, y2, tx, G, C, M, J, P, V, A, B, H, U) (nI l) v2 v3 v4 v5 := by
  have h1 : (0 : Int32) ≤ nI l ∧ nI l ≤ 11 := ⟨nI_pos' (by omega), nI_le (b := 11) (by omega) (by decide)⟩
  have il : vp_in (nI l) 12 := vp_in_nI hl (by decide)
  have cl : (nI l).toNatClampNeg = l := nI_clamp (by omega)
  unfold wpY_rule
  refine sd_in_t h1 (br_f sd_10 ⟨il, ?_⟩)
  rw [cl]
  refine sd_suits h (fun q => br_f sd_10 ?_) (fun z => br_t rfl (f z))
  obtain ⟨k1, k2⟩ := g q
  by_cases e : R = 40
  · exact br_t (by rw [e]; rfl) (k1 e)
  · have cR : (nI R).toNatClampNeg = R := nI_clamp (by omega)
    have iR : vp_in (nI R) 40 := vp_in_nI (by omega) (by decide)
    have s : ∀ (s : Nat → Int32) v, upd s (nI R).toNatClampNeg v = upd s R v := fun s v => by rw [cR]
    exact br_f (fun z => e ((nI_eq (a := R) (b := 40) (by omega) (by decide)).mp z)) ⟨iR, nm_r (s _ _) ⟨iR, nm_r (s _ _) ⟨iR, nm_r (s _ _) ⟨iR, nm_r (s _ _) ⟨iR, nm_r (s _ _) ⟨iR, nm_r (s _ _) ⟨iR, nm_r (s _ _) (nm_r (nI_1 R) (k2 (by omega)))⟩⟩⟩⟩⟩⟩⟩
end
theorem i_vc_rule {k : Nat} {u : SX} {v : SY} (I : i_Rel k u v) (hk : k + 6 ≤ 3072) (v1 : Int32) (v2 : Int32) (v3 : Int32) (v4 : Int32) (v5 : Int32) : wpX_rule (fun r u' => wpY_rule (fun r' v' => r' = r ∧ i_Rel (k + 6) u' v') v v1 v2 v3 v4 v5) u v1 v2 v3 v4 v5 := by
  refine sd_el (Q := fun u v => wpX_rule (fun r u' => wpY_rule (fun r' v' => r' = r ∧ i_Rel (k + 6) u' v') v v1 v2 v3 v4 v5) u v1 v2 v3 v4 v5) ?_ I
  intro R L n T D bk p1 p2 p3 wd kd kc jn ax ay ty ig ol rO dX sa ls fX tu tx eX G C P H M J V A B be U sY fY yA yB yC yD y1 y2 sX iX bX tX q0 q1 q2 q3 q4 q5 q6 q7 q8 q9 hn hK
  by_cases h1 : (0 : Int32) ≤ v1 ∧ v1 ≤ 11
  · obtain ⟨l, hl, rfl⟩ := vp_in_of (sd_rg h1 12 (by decide)) (by decide)
    have il : vp_in (nI l) 12 := vp_in_nI hl (by decide)
    have cl : (nI l).toNatClampNeg = l := nI_clamp (by omega)
    by_cases h5 : ty l ≤ 5
    · obtain ⟨F, a, b, c, d, ht⟩ := sd_tab_ex (hK.lo l hl).1 h5
      refine sd_xrule hl h5 ht hK.rl (fun g => ⟨fun e => ?_, fun e => ?_⟩) (fun g => ?_)
      · exact sd_yrule hl ht hK.rl (fun _ => ⟨fun _ => ⟨rfl, sd_mk hn hK⟩, fun z => by omega⟩) (fun z => absurd g z)
      · refine sd_yrule hl ht hK.rl (fun _ => ⟨fun z => by omega, fun _ => ⟨rfl, sd_mk hn ?_⟩⟩) (fun z => absurd g z)
        refine sd_K.mk (by omega) hK.ll hK.bb hK.gl hK.lo (fun j hj => ?_) (fun j hj => ?_) (fun j hj => ?_) hK.st hK.fr hK.tt
        · by_cases q : j = R
          · subst q
            refine And.intro (by rw [pk_us]; exact il) ?_
            rw [pk_us, pk_us, pk_us, pk_us, pk_us, pk_us, pk_us, cl]
            exact ⟨sd_tab_rule ht g, Or.inl rfl, Or.inl rfl⟩
          · have w := hK.ru j (by omega)
            unfold sd_RV at w ⊢
            rw [pk_un q, pk_un q, pk_un q, pk_un q, pk_un q, pk_un q, pk_un q]
            exact w
        · by_cases q : j = R
          · subst q
            refine ⟨?_, ?_, ?_, ?_⟩
            · rw [pk_us, pk_un (by omega), pk_un (by omega), pk_un (by omega), pk_us]
            · rw [pk_us, pk_un (by omega), pk_un (by omega), pk_us]
            · rw [pk_us, pk_un (by omega), pk_us]
            · rw [pk_us, pk_us]
          · have w := hK.sy j hj
            rw [pk_un q, pk_un q, pk_un q, pk_un q]
            refine ⟨?_, ?_, ?_, ?_⟩
            · rw [pk_un (by omega), pk_un (by omega), pk_un (by omega), pk_un (by omega)]; exact w.1
            · rw [pk_un (by omega), pk_un (by omega), pk_un (by omega), pk_un (by omega)]; exact w.2.1
            · rw [pk_un (by omega), pk_un (by omega), pk_un (by omega), pk_un (by omega)]; exact w.2.2.1
            · rw [pk_un (by omega), pk_un (by omega), pk_un (by omega), pk_un (by omega)]; exact w.2.2.2
        · by_cases q : j = R
          · subst q
            refine ⟨?_, ?_⟩
            · rw [pk_us, pk_un (by omega), pk_us]
            · rw [pk_us, pk_us]
          · have w := hK.dy j hj
            rw [pk_un q, pk_un q]
            refine ⟨?_, ?_⟩
            · rw [pk_un (by omega), pk_un (by omega)]; exact w.1
            · rw [pk_un (by omega), pk_un (by omega)]; exact w.2
      · exact sd_yrule hl ht hK.rl (fun z => absurd z g) (fun _ => ⟨rfl, sd_mk hn hK⟩)
    · refine sd_no_t h1 (br_t rfl ⟨il, br_f (by rw [cl]; exact h5) ?_⟩)
      unfold wpY_rule
      refine sd_in_t h1 (br_f sd_10 ⟨il, ?_⟩)
      rw [cl]
      exact sd_suits_6 (sd_in_nn (hK.lo l hl).1) h5 (br_t rfl ⟨rfl, sd_mk hn hK⟩)
  · exact (sd_no_f h1 (br_f sd_10 (by unfold wpY_rule; exact (sd_in_f h1 (br_t rfl (⟨rfl, sd_mk hn hK⟩))))))
end
section
def sd_S1 (s : Nat → Int32) (m i : Nat) : Nat → Int32 := upd s (4 * m + 0) (s (4 * i + 0))
def sd_S2 (s : Nat → Int32) (m i : Nat) : Nat → Int32 := upd (sd_S1 s m i) (4 * m + 1) (sd_S1 s m i (4 * i + 1))
def sd_S3 (s : Nat → Int32) (m i : Nat) : Nat → Int32 := upd (sd_S2 s m i) (4 * m + 2) (sd_S2 s m i (4 * i + 2))
def sd_S4 (s : Nat → Int32) (m i : Nat) : Nat → Int32 := upd (sd_S3 s m i) (4 * m + 3) (sd_S3 s m i (4 * i + 3))
def sd_D1 (s : Nat → Int32) (m i : Nat) : Nat → Int32 := upd s (2 * m) (s (2 * i))
def sd_D2 (s : Nat → Int32) (m i : Nat) : Nat → Int32 := upd (sd_D1 s m i) (2 * m + 1) (sd_D1 s m i (2 * i + 1))
theorem sd_S4_at {s : Nat → Int32} {m i : Nat} (h : m ≤ i) (r j : Nat) (hj : j < 4) : sd_S4 s m i (4 * r + j) = if r = m then s (4 * i + j) else s (4 * r + j) := by
  have q1 : ∀ k, 4 * m < k → sd_S1 s m i k = s k := fun k hk => pk_un (by omega)
  have q2 : ∀ k, 4 * m + 1 < k → sd_S2 s m i k = s k := fun k hk => (pk_un (by omega)).trans (q1 k (by omega))
  have q3 : ∀ k, 4 * m + 2 < k → sd_S3 s m i k = s k := fun k hk => (pk_un (by omega)).trans (q2 k (by omega))
  unfold sd_S4
  rw [q3 (4 * i + 3) (by omega)]
  unfold sd_S3
  rw [q2 (4 * i + 2) (by omega)]
  unfold sd_S2
  rw [q1 (4 * i + 1) (by omega)]
  unfold sd_S1 upd
  by_cases e : r = m
  · subst e
    rw [if_pos rfl]
    rcases (by omega : j = 0 ∨ j = 1 ∨ j = 2 ∨ j = 3) with e | e | e | e <;> subst e <;> simp
  · rw [if_neg e, if_neg (by omega), if_neg (by omega), if_neg (by omega), if_neg (by omega)]
theorem sd_D2_at {s : Nat → Int32} {m i : Nat} (h : m ≤ i) (r j : Nat) (hj : j < 2) : sd_D2 s m i (2 * r + j) = if r = m then s (2 * i + j) else s (2 * r + j) := by
  have q1 : sd_D1 s m i (2 * i + 1) = s (2 * i + 1) := pk_un (by omega)
  unfold sd_D2
  rw [q1]
  unfold sd_D1 upd
  by_cases e : r = m
  · subst e
    rw [if_pos rfl]
    rcases (by omega : j = 0 ∨ j = 1) with e | e <;> subst e <;> simp
  · rw [if_neg e, if_neg (by omega), if_neg (by omega)]
section
variable {R L n : Nat} {T D bk p1 p2 p3 : Int32} {wd kd kc jn ax ay ty ig ol rO dX sa ls fX tu tx eX G C P H M J V A B be U sY fY yA yB yC yD y1 y2 : Nat → Int32} {sX iX bX tX : Nat → Int64} {q0 q1 q2 q3 q4 q5 q6 q7 q8 q9 : Int32}
theorem sd_RV_cp {m i : Nat} (h : sd_RV ty rO yA yB yC yD y1 y2 i) : sd_RV ty (upd rO m (rO i)) (upd yA m (yA i)) (upd yB m (yB i)) (upd yC m (yC i)) (upd yD m (yD i)) (upd y1 m (y1 i)) (upd y2 m (y2 i)) m := by
  unfold sd_RV at h ⊢
  rw [pk_us, pk_us, pk_us, pk_us, pk_us, pk_us, pk_us]
  exact h
theorem sd_RV_un {m r : Nat} {o a b c d e f : Int32} (q : r ≠ m) (h : sd_RV ty rO yA yB yC yD y1 y2 r) : sd_RV ty (upd rO m o) (upd yA m a) (upd yB m b) (upd yC m c) (upd yD m d) (upd y1 m e) (upd y2 m f) r := by
  unfold sd_RV at h ⊢
  rw [pk_un q, pk_un q, pk_un q, pk_un q, pk_un q, pk_un q, pk_un q]
  exact h
theorem sd_sy_cp {m i : Nat} (hm : m < 40) (hi : i < 40) (hmi : m ≤ i) (h : ∀ r, r < 40 → sa (4 * r) = yA r ∧ sa (4 * r + 1) = yB r ∧ sa (4 * r + 2) = yC r ∧ sa (4 * r + 3) = yD r) :
    ∀ r, r < 40 → sd_S4 sa m i (4 * r) = upd yA m (yA i) r ∧ sd_S4 sa m i (4 * r + 1) = upd yB m (yB i) r ∧ sd_S4 sa m i (4 * r + 2) = upd yC m (yC i) r ∧ sd_S4 sa m i (4 * r + 3) = upd yD m (yD i) r := by
  intro r hr
  obtain ⟨a1, a2, a3, a4⟩ := h r hr
  obtain ⟨b1, b2, b3, b4⟩ := h i hi
  have z0 := sd_S4_at (s := sa) hmi r 0 (by decide)
  have z1 := sd_S4_at (s := sa) hmi r 1 (by decide)
  have z2 := sd_S4_at (s := sa) hmi r 2 (by decide)
  have z3 := sd_S4_at (s := sa) hmi r 3 (by decide)
  rw [Nat.add_zero, Nat.add_zero] at z0
  rw [z0, z1, z2, z3]
  unfold upd
  by_cases e : r = m
  · simp only [e, if_true]; exact ⟨b1, b2, b3, b4⟩
  · simp only [e, if_false]; exact ⟨a1, a2, a3, a4⟩
theorem sd_dy_cp {m i : Nat} (hi : i < 40) (hmi : m ≤ i) (h : ∀ r, r < 40 → dX (2 * r) = y1 r ∧ dX (2 * r + 1) = y2 r) :
    ∀ r, r < 40 → sd_D2 dX m i (2 * r) = upd y1 m (y1 i) r ∧ sd_D2 dX m i (2 * r + 1) = upd y2 m (y2 i) r := by
  intro r hr
  obtain ⟨a1, a2⟩ := h r hr
  obtain ⟨b1, b2⟩ := h i hi
  have z0 := sd_D2_at (s := dX) hmi r 0 (by decide)
  have z1 := sd_D2_at (s := dX) hmi r 1 (by decide)
  rw [Nat.add_zero, Nat.add_zero] at z0
  rw [z0, z1]
  unfold upd
  by_cases e : r = m
  · simp only [e, if_true]; exact ⟨b1, b2⟩
  · simp only [e, if_false]; exact ⟨a1, a2⟩
theorem sd_byte12 {x : Int32} (h : x = -1 ∨ vp_in x 12) : vp_nar .byte x = x := by
  rcases h with h | h
  · rw [h]; exact sd_bm1
  · exact sd_nb h (by decide)
theorem sd_lk113 {post : Int32 → SX → Prop} {F : Int32 → Int32 → (Nat → Int32) → (Nat → Int32) → (Nat → Int32) → (Nat → Int32) → (Nat → Int32) → (Nat → Int32) → (Nat → Int64) → (Nat → Int32) → (Nat → Int32) → (Nat → Int32) → (Nat → Int32) → (Nat → Int32) → (Nat → Int32) → (Nat → Int32) → (Nat → Int32) → (Nat → Int32) → (Nat → Int32) → (Nat → Int64) → (Nat → Int64) → (Nat → Int64) → (Nat → Int32) → (Nat → Int32) → (Nat → Int32) → (Nat → Int32) → (Nat → Int32) → (Nat → Int32) → (Nat → Int32) → (Nat → Int32) → (Nat → Int32) → (Nat → Int32) → (Nat → Int32) → (Nat → Int32) → Prop} {l m i : Nat} (hi : i < 40) (hmi : m ≤ i)
    (b1 : vp_nar .byte (dX (2 * i)) = dX (2 * i)) (b2 : vp_nar .byte (dX (2 * i + 1)) = dX (2 * i + 1))
    (k : F (nI (m + 1)) (nI (i + 1)) wd kd kc jn ax ay sX ty ig ol rO (sd_D2 dX m i) (sd_S4 sa m i) ls fX tu tx iX bX tX eX (sd_xt G q0) (sd_xt C q1) (sd_xt P q2) (sd_xt H q3) (sd_xt M q4) (sd_xt J q5) (sd_xt V q6) (sd_xt A q7) (sd_xt B q8) be (sd_xt U q9)) :
    ∃ n113, wX_lookup_113 post F (nI l) (nI m) (nI i) (nI R) (nI L) (nI n) T D bk p1 p2 p3 n113 0 wd kd kc jn ax ay sX ty ig ol rO dX sa ls fX tu tx iX bX tX eX (sd_xt G q0) (sd_xt C q1) (sd_xt P q2) (sd_xt H q3) (sd_xt M q4) (sd_xt J q5) (sd_xt V q6) (sd_xt A q7) (sd_xt B q8) be (sd_xt U q9) := by
  have iv : ∀ r q : Nat, r < 40 → q < 4 → vp_in ((4 * nI r) + nI q) 160 := fun r q hr hq => by rw [sd_i4]; exact vp_in_nI (by omega) (by decide)
  have ic : ∀ r q : Nat, r < 40 → q < 4 → ((4 * nI r) + nI q).toNatClampNeg = 4 * r + q := fun r q hr hq => by rw [sd_i4]; exact nI_clamp (by omega)
  have E : ∀ (s : Nat → Int32) q, q < 4 → upd s ((4 * nI m) + nI q).toNatClampNeg (s ((4 * nI i) + nI q).toNatClampNeg) = upd s (4 * m + q) (s (4 * i + q)) := fun s q hq => by
    rw [ic m q (by omega) hq, ic i q hi hq]
  have jv : ∀ r q : Nat, r < 40 → q < 2 → vp_in ((2 * nI r) + nI q) 80 := fun r q hr hq => by rw [sd_i2]; exact vp_in_nI (by omega) (by decide)
  have jc : ∀ r q : Nat, r < 40 → q < 2 → ((2 * nI r) + nI q).toNatClampNeg = 2 * r + q := fun r q hr hq => by rw [sd_i2]; exact nI_clamp (by omega)
  have jv0 : ∀ r : Nat, r < 40 → vp_in (2 * nI r) 80 := fun r hr => by rw [sd_i20]; exact vp_in_nI (by omega) (by decide)
  have jc0 : ∀ r : Nat, r < 40 → (2 * nI r).toNatClampNeg = 2 * r := fun r hr => by rw [sd_i20]; exact nI_clamp (by omega)
  have hm : m < 40 := by omega
  have d1 : upd dX (2 * nI m).toNatClampNeg (vp_nar .byte (dX (2 * nI i).toNatClampNeg)) = sd_D1 dX m i := by rw [jc0 m hm, jc0 i hi, b1]; rfl
  have d2 : upd (sd_D1 dX m i) ((2 * nI m) + 1).toNatClampNeg (vp_nar .byte (sd_D1 dX m i ((2 * nI i) + 1).toNatClampNeg)) = sd_D2 dX m i := by
    have a : ((2 * nI m) + 1).toNatClampNeg = 2 * m + 1 := jc m 1 hm (by decide)
    have b : ((2 * nI i) + 1).toNatClampNeg = 2 * i + 1 := jc i 1 hi (by decide)
    have c : sd_D1 dX m i (2 * i + 1) = dX (2 * i + 1) := pk_un (by omega)
    rw [a, b, c, b2]
    unfold sd_D2
    rw [c]
  refine ⟨5, br_f (by decide) ⟨iv i 0 hi (by decide), iv m 0 hm (by decide), nm_r (E sa 0 (by decide)) (nm_r (e' := 1) rfl (br_f (by decide) ⟨iv i 1 hi (by decide), iv m 1 hm (by decide), nm_r (E (sd_S1 sa m i) 1 (by decide)) (nm_r (e' := 2) rfl (br_f (by decide) ⟨iv i 2 hi (by decide), iv m 2 hm (by decide), nm_r (E (sd_S2 sa m i) 2 (by decide)) (nm_r (e' := 3) rfl (br_f (by decide) ⟨iv i 3 hi (by decide), iv m 3 hm (by decide), nm_r (E (sd_S3 sa m i) 3 (by decide)) (nm_r (e' := 4) rfl (br_t (by decide) ?_))⟩))⟩))⟩))⟩⟩
  exact ⟨jv0 i hi, jv0 m hm, nm_r d1 ⟨jv i 1 hi (by decide), jv m 1 hm (by decide), nm_r d2 (nm_r (nI_1 m) (nm_r (nI_1 i) k))⟩⟩
theorem sd_lk {l : Nat} (hl : l < 12) (hR : R ≤ 40) : ∀ (d i m : Nat) (rO sa dX yA yB yC yD y1 y2 : Nat → Int32), i + d = R → m ≤ i →
    (∀ r, r < 40 → sa (4 * r) = yA r ∧ sa (4 * r + 1) = yB r ∧ sa (4 * r + 2) = yC r ∧ sa (4 * r + 3) = yD r) → (∀ r, r < 40 → dX (2 * r) = y1 r ∧ dX (2 * r + 1) = y2 r) →
    (∀ r, r < m → sd_RV ty rO yA yB yC yD y1 y2 r) → (∀ r, i ≤ r → r < R → rO r = nI l ∨ sd_RV ty rO yA yB yC yD y1 y2 r) →
    ∃ (m' : Nat) (rO' sa' dX' yA' yB' yC' yD' y1' y2' : Nat → Int32), m' ≤ R ∧
      (∀ r, r < 40 → sa' (4 * r) = yA' r ∧ sa' (4 * r + 1) = yB' r ∧ sa' (4 * r + 2) = yC' r ∧ sa' (4 * r + 3) = yD' r) ∧ (∀ r, r < 40 → dX' (2 * r) = y1' r ∧ dX' (2 * r + 1) = y2' r) ∧
      (∀ r, r < m' → sd_RV ty rO' yA' yB' yC' yD' y1' y2' r) ∧
      (∀ (post : Int32 → SX → Prop) (N : Nat), d < N → post 1 (nI m', nI L, nI n, T, D, bk, p1, p2, p3, wd, kd, kc, jn, ax, ay, sX, ty, ig, ol, rO', dX', sa', ls, fX, tu, tx, iX, bX, tX, eX, sd_xt G q0, sd_xt C q1, sd_xt P q2, sd_xt H q3, sd_xt M q4, sd_xt J q5, sd_xt V q6, sd_xt A q7, sd_xt B q8, be, sd_xt U q9) → wX_lookup_73 post (nI l) (nI R) (nI L) (nI n) T D bk p1 p2 p3 N (nI m) (nI i) wd kd kc jn ax ay sX ty ig ol rO dX sa ls fX tu tx iX bX tX eX (sd_xt G q0) (sd_xt C q1) (sd_xt P q2) (sd_xt H q3) (sd_xt M q4) (sd_xt J q5) (sd_xt V q6) (sd_xt A q7) (sd_xt B q8) be (sd_xt U q9)) ∧
      (∀ (post : Int32 → SY → Prop) (N : Nat), d < N → post 1 (nI m', nI L, nI n, D, T, bk, wd, kd, kc, jn, sY, ax, ay, ty, ig, ol, ls, fY, tu, rO', yA', yB', yC', yD', y1', y2', tx, G, C, M, J, P, V, A, B, H, U) → wY_lookup_70 post (nI l) (nI R) (nI L) (nI n) D T bk N (nI m) (nI i) wd kd kc jn sY ax ay ty ig ol ls fY tu rO yA yB yC yD y1 y2 tx G C M J P V A B H U) := by
  intro d
  induction d with
  | zero =>
    intro i m rO sa dX yA yB yC yD y1 y2 hi hm hs hd hv ht
    have e : nI R ≤ nI i := nI_le (by omega) (by omega)
    refine ⟨m, rO, sa, dX, yA, yB, yC, yD, y1, y2, by omega, hs, hd, hv, fun post N hN k => ?_, fun post N hN k => ?_⟩
    · obtain ⟨N, rfl⟩ : ∃ N', N = N' + 1 := ⟨N - 1, by omega⟩
      exact br_t e k
    · obtain ⟨N, rfl⟩ : ∃ N', N = N' + 1 := ⟨N - 1, by omega⟩
      exact br_t e k
  | succ d ih =>
    intro i m rO sa dX yA yB yC yD y1 y2 hi hm hs hd hv ht
    have e : ¬ nI R ≤ nI i := nI_ge (by omega) (by omega)
    have vi : vp_in (nI i) 40 := vp_in_nI (by omega) (by decide)
    have vm : vp_in (nI m) 40 := vp_in_nI (by omega) (by decide)
    have ci : (nI i).toNatClampNeg = i := nI_clamp (by omega)
    have cm : (nI m).toNatClampNeg = m := nI_clamp (by omega)
    by_cases q : rO i = nI l
    · obtain ⟨m', rO', sa', dX', yA', yB', yC', yD', y1', y2', a1, a2, a3, a4, a5, a6⟩ := ih (i + 1) m rO sa dX yA yB yC yD y1 y2 (by omega) (by omega) hs hd hv (fun r h1 h2 => ht r (by omega) h2)
      have q' : rO (nI i).toNatClampNeg = nI l := by rw [ci]; exact q
      refine ⟨m', rO', sa', dX', yA', yB', yC', yD', y1', y2', a1, a2, a3, a4, fun post N hN k => ?_, fun post N hN k => ?_⟩
      · obtain ⟨N, rfl⟩ : ∃ N', N = N' + 1 := ⟨N - 1, by omega⟩
        exact br_f e ⟨vi, br_t q' (nm_r (nI_1 i) (a5 post N (by omega) k))⟩
      · obtain ⟨N, rfl⟩ : ∃ N', N = N' + 1 := ⟨N - 1, by omega⟩
        exact br_f e ⟨vi, br_t q' (nm_r (nI_1 i) (a6 post N (by omega) k))⟩
    · have rv : sd_RV ty rO yA yB yC yD y1 y2 i := (ht i (Nat.le_refl i) (by omega)).resolve_left q
      have q' : ¬ rO (nI i).toNatClampNeg = nI l := by rw [ci]; exact q
      obtain ⟨m', rO', sa', dX', yA', yB', yC', yD', y1', y2', a1, a2, a3, a4, a5, a6⟩ := ih (i + 1) (m + 1) (upd rO m (rO i)) (sd_S4 sa m i) (sd_D2 dX m i) (upd yA m (yA i)) (upd yB m (yB i)) (upd yC m (yC i)) (upd yD m (yD i)) (upd y1 m (y1 i)) (upd y2 m (y2 i)) (by omega) (by omega)
        (sd_sy_cp (by omega) (by omega) hm hs) (sd_dy_cp (by omega) hm hd)
        (fun r h1 => by
          by_cases z : r = m
          · rw [z]; exact sd_RV_cp rv
          · exact sd_RV_un z (hv r (by omega)))
        (fun r h1 h2 => by
          have z : r ≠ m := by omega
          rcases ht r (by omega) h2 with w | w
          · left; rw [pk_un z]; exact w
          · right; exact sd_RV_un z w)
      have bo : upd rO (nI m).toNatClampNeg (vp_nar .byte (rO (nI i).toNatClampNeg)) = upd rO m (rO i) := by rw [ci, cm, sd_nb rv.1 (by decide)]
      have ye : ∀ f : Nat → Int32, upd f (nI m).toNatClampNeg (f (nI i).toNatClampNeg) = upd f m (f i) := fun f => by rw [ci, cm]
      have b1 : vp_nar .byte (dX (2 * i)) = dX (2 * i) := by rw [(hd i (by omega)).1]; exact sd_byte12 rv.2.2.1
      have b2 : vp_nar .byte (dX (2 * i + 1)) = dX (2 * i + 1) := by rw [(hd i (by omega)).2]; exact sd_byte12 rv.2.2.2
      refine ⟨m', rO', sa', dX', yA', yB', yC', yD', y1', y2', a1, a2, a3, a4, fun post N hN k => ?_, fun post N hN k => ?_⟩
      · obtain ⟨N, rfl⟩ : ∃ N', N = N' + 1 := ⟨N - 1, by omega⟩
        exact br_f e ⟨vi, br_f q' ⟨vi, vm, nm_r bo (sd_lk113 (by omega) hm b1 b2 (a5 post N (by omega) k))⟩⟩
      · obtain ⟨N, rfl⟩ : ∃ N', N = N' + 1 := ⟨N - 1, by omega⟩
        exact br_f e ⟨vi, br_f q' ⟨vi, vm, nm_r (ye _) ⟨vi, vm, nm_r (ye _) ⟨vi, vm, nm_r (ye _) ⟨vi, vm, nm_r (ye _) ⟨vi, vm, nm_r (ye _) ⟨vi, vm, nm_r (ye _) (nm_r (nI_1 m) ⟨vi, vm, nm_r (ye _) (nm_r (nI_1 i) (a6 post N (by omega) k))⟩)⟩⟩⟩⟩⟩⟩⟩
end
theorem i_vc_lookup {k : Nat} {u : SX} {v : SY} (I : i_Rel k u v) (hk : k + 6 ≤ 3072) (v1 : Int32) (v2 : Int32) (v3 : Int32) (v4 : Int32) : wpX_lookup (fun r u' => wpY_lookup (fun r' v' => r' = r ∧ i_Rel (k + 6) u' v') v v1 v2 v3 v4) u v1 v2 v3 v4 := by
  refine sd_el (Q := fun u v => wpX_lookup (fun r u' => wpY_lookup (fun r' v' => r' = r ∧ i_Rel (k + 6) u' v') v v1 v2 v3 v4) u v1 v2 v3 v4) ?_ I
  intro R L n T D bk p1 p2 p3 wd kd kc jn ax ay ty ig ol rO dX sa ls fX tu tx eX G C P H M J V A B be U sY fY yA yB yC yD y1 y2 sX iX bX tX q0 q1 q2 q3 q4 q5 q6 q7 q8 q9 hn hK
  by_cases h1 : (0 : Int32) ≤ v1 ∧ v1 ≤ 11
  · by_cases h2 : (0 : Int32) ≤ v2 ∧ v2 ≤ 8
    · by_cases h3 : (0 : Int32) ≤ v3 ∧ v3 ≤ 7
      · by_cases h4 : (-1 : Int32) ≤ v4 ∧ v4 ≤ 3
        · obtain ⟨l, hl, rfl⟩ := vp_in_of (sd_rg h1 12 (by decide)) (by decide)
          have i2 := sd_rg h2 9 (by decide)
          have i3 := sd_rg h3 8 (by decide)
          have i4 := sd_rm h4 4 (by decide)
          have cl : (nI l).toNatClampNeg = l := nI_clamp (by omega)
          have il : vp_in (nI l) 12 := vp_in_nI hl (by decide)
          have b4 : vp_nar .byte v4.toInt8.toInt32 = v4 := by
            rcases i4 with e | e
            · rw [e]; exact sd_bbi (by decide) (by decide)
            · exact sd_bb e (by decide)
          have x2 : upd ty (nI l).toNatClampNeg (vp_nar .byte v2.toInt8.toInt32) = upd ty l v2 := by rw [cl, sd_bb i2 (by decide)]
          have x3 : upd ig (nI l).toNatClampNeg (vp_nar .byte v3.toInt8.toInt32) = upd ig l v3 := by rw [cl, sd_bb i3 (by decide)]
          have x4 : upd ol (nI l).toNatClampNeg (vp_nar .byte v4.toInt8.toInt32) = upd ol l v4 := by rw [cl, b4]
          have ye : ∀ (f : Nat → Int32) (w : Int32), upd f (nI l).toNatClampNeg w = upd f l w := fun f w => by rw [cl]
          obtain ⟨m', rO', sa', dX', yA', yB', yC', yD', y1', y2', a1, a2, a3, a4, a5, a6⟩ := sd_lk (ty := upd ty l v2) (ig := upd ig l v3) (ol := upd ol l v4) (L := L) (n := n) (T := T) (D := D) (bk := bk) (p1 := p1) (p2 := p2) (p3 := p3) (wd := wd) (kd := kd) (kc := kc) (jn := jn) (ax := ax) (ay := ay) (ls := ls) (fX := fX) (tu := tu) (tx := tx) (eX := eX) (G := G) (C := C) (P := P) (H := H) (M := M) (J := J) (V := V) (A := A) (B := B) (be := be) (U := U) (sY := sY) (fY := fY) (sX := sX) (iX := iX) (bX := bX) (tX := tX) (q0 := q0) (q1 := q1) (q2 := q2) (q3 := q3) (q4 := q4) (q5 := q5) (q6 := q6) (q7 := q7) (q8 := q8) (q9 := q9)
            hl hK.rl R 0 0 rO sa dX yA yB yC yD y1 y2 (by omega) (by omega) hK.sy hK.dy (fun r h => by omega) (fun r _ h => by
              obtain ⟨z1, z2, z3, z4⟩ := hK.ru r h
              by_cases e : (rO r).toNatClampNeg = l
              · left; rw [← e]; exact (sd_nIc z1 (by decide)).symm
              · right
                refine And.intro z1 (And.intro ?_ (And.intro z3 z4))
                rw [pk_un e]; exact z2)
          have hK' : sd_K m' L bk kd kc jn (upd ty l v2) (upd ig l v3) rO' yA' yB' yC' yD' y1' y2' sa' dX' sY fX fY tx sX := by
            refine sd_K.mk (Nat.le_trans a1 hK.rl) hK.ll hK.bb hK.gl (fun j hj => ?_) a4 a2 a3 hK.st hK.fr hK.tt
            by_cases e : j = l
            · rw [e, pk_us, pk_us]; exact ⟨i2, i3⟩
            · rw [pk_un e, pk_un e]; exact hK.lo j hj
          exact sd_no_t h1 (br_t rfl (sd_no_t h2 (br_t rfl (sd_no_t h3 (br_t rfl (sd_no_t h4 (br_t rfl ⟨il, nm_r x2 ⟨il, nm_r x3 ⟨il, nm_r x4 ⟨R + 1, a5 _ (R + 1) (by omega)
            (by unfold wpY_lookup; exact sd_in_t h1 (br_f sd_10 (sd_in_t h2 (br_f sd_10 (sd_in_t h3 (br_f sd_10 (sd_in_t h4 (br_f sd_10 ⟨il, nm_r (ye _ _) ⟨il, nm_r (ye _ _) ⟨il, nm_r (ye _ _) ⟨R + 1, a6 _ (R + 1) (by omega) ⟨rfl, sd_mk hn hK'⟩⟩⟩⟩⟩))))))))⟩⟩⟩⟩)))))))
        · exact (sd_no_t h1 (br_t rfl (sd_no_t h2 (br_t rfl (sd_no_t h3 (br_t rfl (sd_no_f h4 (br_f sd_10 (by unfold wpY_lookup; exact (sd_in_t h1 (br_f sd_10 (sd_in_t h2 (br_f sd_10 (sd_in_t h3 (br_f sd_10 (sd_in_f h4 (br_t rfl (⟨rfl, sd_mk hn hK⟩))))))))))))))))))
      · exact (sd_no_t h1 (br_t rfl (sd_no_t h2 (br_t rfl (sd_no_f h3 (br_f sd_10 (by unfold wpY_lookup; exact (sd_in_t h1 (br_f sd_10 (sd_in_t h2 (br_f sd_10 (sd_in_f h3 (br_t rfl (⟨rfl, sd_mk hn hK⟩))))))))))))))
    · exact (sd_no_t h1 (br_t rfl (sd_no_f h2 (br_f sd_10 (by unfold wpY_lookup; exact (sd_in_t h1 (br_f sd_10 (sd_in_f h2 (br_t rfl (⟨rfl, sd_mk hn hK⟩))))))))))
  · exact (sd_no_f h1 (br_f sd_10 (by unfold wpY_lookup; exact (sd_in_f h1 (br_t rfl (⟨rfl, sd_mk hn hK⟩))))))
end
section
theorem sd_x310 {post : SX → Prop} {ax ol : Nat → Int32} : ∀ (d i N : Nat) (fX : Nat → Int32), i + d = 8 → d < N → post (0, 0, 0, 0, 0, 0, 0, 0, 0, (fun _ => 0), (fun _ => 0), (fun _ => 0), (fun _ => 0), ax, (fun _ => 0), (fun _ => 0), (fun _ => 0), (fun _ => 0), ol, (fun _ => 0), (fun _ => 0), (fun _ => 0), (fun _ => 0), sd_fil i 8 1 fX, (fun _ => 0), (fun _ => 0), (fun _ => 0), (fun _ => 0), (fun _ => 0), (fun _ => 0), (fun _ => 0), (fun _ => 0), (fun _ => 0), (fun _ => 0), (fun _ => 0), (fun _ => 0), (fun _ => 0), (fun _ => 0), (fun _ => 0), (fun _ => 0), (fun _ => 0)) → wX_init_310 post 0 0 0 0 0 0 0 0 0 N (nI i) (fun _ => 0) (fun _ => 0) (fun _ => 0) (fun _ => 0) ax (fun _ => 0) (fun _ => 0) (fun _ => 0) (fun _ => 0) ol (fun _ => 0) (fun _ => 0) (fun _ => 0) (fun _ => 0) fX (fun _ => 0) (fun _ => 0) (fun _ => 0) (fun _ => 0) (fun _ => 0) (fun _ => 0) (fun _ => 0) (fun _ => 0) (fun _ => 0) (fun _ => 0) (fun _ => 0) (fun _ => 0) (fun _ => 0) (fun _ => 0) (fun _ => 0) (fun _ => 0) (fun _ => 0) := by
  intro d
  induction d with
  | zero =>
    intro i N fX hi hN k
    obtain ⟨N, rfl⟩ : ∃ N', N = N' + 1 := ⟨N - 1, by omega⟩
    obtain rfl : i = 8 := by omega
    rw [sd_fil_0] at k
    exact br_t (by decide) k
  | succ d ih =>
    intro i N fX hi hN k
    obtain ⟨N, rfl⟩ : ∃ N', N = N' + 1 := ⟨N - 1, by omega⟩
    rw [← sd_fil_s (i := i) (hi := 8) (by omega)] at k
    exact br_f (nI_ge (b := 8) (by omega) (by decide)) ⟨vp_in_nI (by omega) (by decide), nm_r (sd_yw (by omega) sd_b1) (nm_r (nI_1 i) (ih (i + 1) N _ (by omega) (by omega) k))⟩
theorem sd_x289 {post : SX → Prop} {ax fX : Nat → Int32} : ∀ (d i N : Nat) (ol : Nat → Int32), i + d = 12 → d < N → (∃ n310, wX_init_310 post 0 0 0 0 0 0 0 0 0 n310 0 (fun _ => 0) (fun _ => 0) (fun _ => 0) (fun _ => 0) ax (fun _ => 0) (fun _ => 0) (fun _ => 0) (fun _ => 0) (sd_fil i 12 (-1) ol) (fun _ => 0) (fun _ => 0) (fun _ => 0) (fun _ => 0) fX (fun _ => 0) (fun _ => 0) (fun _ => 0) (fun _ => 0) (fun _ => 0) (fun _ => 0) (fun _ => 0) (fun _ => 0) (fun _ => 0) (fun _ => 0) (fun _ => 0) (fun _ => 0) (fun _ => 0) (fun _ => 0) (fun _ => 0) (fun _ => 0) (fun _ => 0)) → wX_init_289 post 0 0 0 0 0 0 0 0 0 N (nI i) (fun _ => 0) (fun _ => 0) (fun _ => 0) (fun _ => 0) ax (fun _ => 0) (fun _ => 0) (fun _ => 0) (fun _ => 0) ol (fun _ => 0) (fun _ => 0) (fun _ => 0) (fun _ => 0) fX (fun _ => 0) (fun _ => 0) (fun _ => 0) (fun _ => 0) (fun _ => 0) (fun _ => 0) (fun _ => 0) (fun _ => 0) (fun _ => 0) (fun _ => 0) (fun _ => 0) (fun _ => 0) (fun _ => 0) (fun _ => 0) (fun _ => 0) (fun _ => 0) (fun _ => 0) := by
  intro d
  induction d with
  | zero =>
    intro i N ol hi hN k
    obtain ⟨N, rfl⟩ : ∃ N', N = N' + 1 := ⟨N - 1, by omega⟩
    obtain rfl : i = 12 := by omega
    rw [sd_fil_0] at k
    exact br_t (by decide) k
  | succ d ih =>
    intro i N ol hi hN k
    obtain ⟨N, rfl⟩ : ∃ N', N = N' + 1 := ⟨N - 1, by omega⟩
    rw [← sd_fil_s (i := i) (hi := 12) (by omega)] at k
    exact br_f (nI_ge (b := 12) (by omega) (by decide)) ⟨vp_in_nI (by omega) (by decide), nm_r (sd_yw (by omega) sd_bm1) (nm_r (nI_1 i) (ih (i + 1) N _ (by omega) (by omega) k))⟩
theorem sd_x266 {post : SX → Prop} {ol fX : Nat → Int32} : ∀ (d i N : Nat) (ax : Nat → Int32), i + d = 432 → d < N → (∃ n289, wX_init_289 post 0 0 0 0 0 0 0 0 0 n289 0 (fun _ => 0) (fun _ => 0) (fun _ => 0) (fun _ => 0) (sd_fil i 432 99 ax) (fun _ => 0) (fun _ => 0) (fun _ => 0) (fun _ => 0) ol (fun _ => 0) (fun _ => 0) (fun _ => 0) (fun _ => 0) fX (fun _ => 0) (fun _ => 0) (fun _ => 0) (fun _ => 0) (fun _ => 0) (fun _ => 0) (fun _ => 0) (fun _ => 0) (fun _ => 0) (fun _ => 0) (fun _ => 0) (fun _ => 0) (fun _ => 0) (fun _ => 0) (fun _ => 0) (fun _ => 0) (fun _ => 0)) → wX_init_266 post 0 0 0 0 0 0 0 0 0 N (nI i) (fun _ => 0) (fun _ => 0) (fun _ => 0) (fun _ => 0) ax (fun _ => 0) (fun _ => 0) (fun _ => 0) (fun _ => 0) ol (fun _ => 0) (fun _ => 0) (fun _ => 0) (fun _ => 0) fX (fun _ => 0) (fun _ => 0) (fun _ => 0) (fun _ => 0) (fun _ => 0) (fun _ => 0) (fun _ => 0) (fun _ => 0) (fun _ => 0) (fun _ => 0) (fun _ => 0) (fun _ => 0) (fun _ => 0) (fun _ => 0) (fun _ => 0) (fun _ => 0) (fun _ => 0) := by
  intro d
  induction d with
  | zero =>
    intro i N ax hi hN k
    obtain ⟨N, rfl⟩ : ∃ N', N = N' + 1 := ⟨N - 1, by omega⟩
    obtain rfl : i = 432 := by omega
    rw [sd_fil_0] at k
    exact br_t (by decide) k
  | succ d ih =>
    intro i N ax hi hN k
    obtain ⟨N, rfl⟩ : ∃ N', N = N' + 1 := ⟨N - 1, by omega⟩
    rw [← sd_fil_s (i := i) (hi := 432) (by omega)] at k
    exact br_f (nI_ge (b := 432) (by omega) (by decide)) ⟨vp_in_nI (by omega) (by decide), nm_r (sd_yw (by omega) sd_b99) (nm_r (nI_1 i) (ih (i + 1) N _ (by omega) (by omega) k))⟩
theorem sd_y300 {post : SY → Prop} {ax ol : Nat → Int32} : ∀ (d i N : Nat) (fY : Nat → Int32), i + d = 8 → d < N → post (0, 0, 0, 0, 0, 0, (fun _ => 0), (fun _ => 0), (fun _ => 0), (fun _ => 0), (fun _ => 0), ax, (fun _ => 0), (fun _ => 0), (fun _ => 0), ol, (fun _ => 0), sd_fil i 8 1 fY, (fun _ => 0), (fun _ => 0), (fun _ => 0), (fun _ => 0), (fun _ => 0), (fun _ => 0), (fun _ => 0), (fun _ => 0), (fun _ => 0), (fun _ => 0), (fun _ => 0), (fun _ => 0), (fun _ => 0), (fun _ => 0), (fun _ => 0), (fun _ => 0), (fun _ => 0), (fun _ => 0), (fun _ => 0)) → wY_init_300 post 0 0 0 0 0 0 N (nI i) (fun _ => 0) (fun _ => 0) (fun _ => 0) (fun _ => 0) (fun _ => 0) ax (fun _ => 0) (fun _ => 0) (fun _ => 0) ol (fun _ => 0) fY (fun _ => 0) (fun _ => 0) (fun _ => 0) (fun _ => 0) (fun _ => 0) (fun _ => 0) (fun _ => 0) (fun _ => 0) (fun _ => 0) (fun _ => 0) (fun _ => 0) (fun _ => 0) (fun _ => 0) (fun _ => 0) (fun _ => 0) (fun _ => 0) (fun _ => 0) (fun _ => 0) (fun _ => 0) := by
  intro d
  induction d with
  | zero =>
    intro i N fY hi hN k
    obtain ⟨N, rfl⟩ : ∃ N', N = N' + 1 := ⟨N - 1, by omega⟩
    obtain rfl : i = 8 := by omega
    rw [sd_fil_0] at k
    exact br_t (by decide) k
  | succ d ih =>
    intro i N fY hi hN k
    obtain ⟨N, rfl⟩ : ∃ N', N = N' + 1 := ⟨N - 1, by omega⟩
    rw [← sd_fil_s (i := i) (hi := 8) (by omega)] at k
    exact br_f (nI_ge (b := 8) (by omega) (by decide)) ⟨vp_in_nI (by omega) (by decide), nm_r (sd_yw (by omega) rfl) (nm_r (nI_1 i) (ih (i + 1) N _ (by omega) (by omega) k))⟩
theorem sd_y279 {post : SY → Prop} {ax fY : Nat → Int32} : ∀ (d i N : Nat) (ol : Nat → Int32), i + d = 12 → d < N → (∃ n300, wY_init_300 post 0 0 0 0 0 0 n300 4 (fun _ => 0) (fun _ => 0) (fun _ => 0) (fun _ => 0) (fun _ => 0) ax (fun _ => 0) (fun _ => 0) (fun _ => 0) (sd_fil i 12 (-1) ol) (fun _ => 0) fY (fun _ => 0) (fun _ => 0) (fun _ => 0) (fun _ => 0) (fun _ => 0) (fun _ => 0) (fun _ => 0) (fun _ => 0) (fun _ => 0) (fun _ => 0) (fun _ => 0) (fun _ => 0) (fun _ => 0) (fun _ => 0) (fun _ => 0) (fun _ => 0) (fun _ => 0) (fun _ => 0) (fun _ => 0)) → wY_init_279 post 0 0 0 0 0 0 N (nI i) (fun _ => 0) (fun _ => 0) (fun _ => 0) (fun _ => 0) (fun _ => 0) ax (fun _ => 0) (fun _ => 0) (fun _ => 0) ol (fun _ => 0) fY (fun _ => 0) (fun _ => 0) (fun _ => 0) (fun _ => 0) (fun _ => 0) (fun _ => 0) (fun _ => 0) (fun _ => 0) (fun _ => 0) (fun _ => 0) (fun _ => 0) (fun _ => 0) (fun _ => 0) (fun _ => 0) (fun _ => 0) (fun _ => 0) (fun _ => 0) (fun _ => 0) (fun _ => 0) := by
  intro d
  induction d with
  | zero =>
    intro i N ol hi hN k
    obtain ⟨N, rfl⟩ : ∃ N', N = N' + 1 := ⟨N - 1, by omega⟩
    obtain rfl : i = 12 := by omega
    rw [sd_fil_0] at k
    exact br_t (by decide) k
  | succ d ih =>
    intro i N ol hi hN k
    obtain ⟨N, rfl⟩ : ∃ N', N = N' + 1 := ⟨N - 1, by omega⟩
    rw [← sd_fil_s (i := i) (hi := 12) (by omega)] at k
    exact br_f (nI_ge (b := 12) (by omega) (by decide)) ⟨vp_in_nI (by omega) (by decide), nm_r (sd_yw (by omega) rfl) (nm_r (nI_1 i) (ih (i + 1) N _ (by omega) (by omega) k))⟩
theorem sd_y256 {post : SY → Prop} {ol fY : Nat → Int32} : ∀ (d i N : Nat) (ax : Nat → Int32), i + d = 432 → d < N → (∃ n279, wY_init_279 post 0 0 0 0 0 0 n279 0 (fun _ => 0) (fun _ => 0) (fun _ => 0) (fun _ => 0) (fun _ => 0) (sd_fil i 432 99 ax) (fun _ => 0) (fun _ => 0) (fun _ => 0) ol (fun _ => 0) fY (fun _ => 0) (fun _ => 0) (fun _ => 0) (fun _ => 0) (fun _ => 0) (fun _ => 0) (fun _ => 0) (fun _ => 0) (fun _ => 0) (fun _ => 0) (fun _ => 0) (fun _ => 0) (fun _ => 0) (fun _ => 0) (fun _ => 0) (fun _ => 0) (fun _ => 0) (fun _ => 0) (fun _ => 0)) → wY_init_256 post 0 0 0 0 0 0 N (nI i) (fun _ => 0) (fun _ => 0) (fun _ => 0) (fun _ => 0) (fun _ => 0) ax (fun _ => 0) (fun _ => 0) (fun _ => 0) ol (fun _ => 0) fY (fun _ => 0) (fun _ => 0) (fun _ => 0) (fun _ => 0) (fun _ => 0) (fun _ => 0) (fun _ => 0) (fun _ => 0) (fun _ => 0) (fun _ => 0) (fun _ => 0) (fun _ => 0) (fun _ => 0) (fun _ => 0) (fun _ => 0) (fun _ => 0) (fun _ => 0) (fun _ => 0) (fun _ => 0) := by
  intro d
  induction d with
  | zero =>
    intro i N ax hi hN k
    obtain ⟨N, rfl⟩ : ∃ N', N = N' + 1 := ⟨N - 1, by omega⟩
    obtain rfl : i = 432 := by omega
    rw [sd_fil_0] at k
    exact br_t (by decide) k
  | succ d ih =>
    intro i N ax hi hN k
    obtain ⟨N, rfl⟩ : ∃ N', N = N' + 1 := ⟨N - 1, by omega⟩
    rw [← sd_fil_s (i := i) (hi := 432) (by omega)] at k
    exact br_f (nI_ge (b := 432) (by omega) (by decide)) ⟨vp_in_nI (by omega) (by decide), nm_r (sd_yw (by omega) rfl) (nm_r (nI_1 i) (ih (i + 1) N _ (by omega) (by omega) k))⟩
theorem sd_rel0 : i_Rel 0 (0, 0, 0, 0, 0, 0, 0, 0, 0, (fun _ => 0), (fun _ => 0), (fun _ => 0), (fun _ => 0), sd_fil 0 432 99 (fun _ => 0), (fun _ => 0), (fun _ => 0), (fun _ => 0), (fun _ => 0), sd_fil 0 12 (-1) (fun _ => 0), (fun _ => 0), (fun _ => 0), (fun _ => 0), (fun _ => 0), sd_fil 0 8 1 (fun _ => 0), (fun _ => 0), (fun _ => 0), (fun _ => 0), (fun _ => 0), (fun _ => 0), (fun _ => 0), (fun _ => 0), (fun _ => 0), (fun _ => 0), (fun _ => 0), (fun _ => 0), (fun _ => 0), (fun _ => 0), (fun _ => 0), (fun _ => 0), (fun _ => 0), (fun _ => 0)) (0, 0, 0, 0, 0, 0, (fun _ => 0), (fun _ => 0), (fun _ => 0), (fun _ => 0), (fun _ => 0), sd_fil 0 432 99 (fun _ => 0), (fun _ => 0), (fun _ => 0), (fun _ => 0), sd_fil 0 12 (-1) (fun _ => 0), (fun _ => 0), sd_fil 4 8 1 (fun _ => 0), (fun _ => 0), (fun _ => 0), (fun _ => 0), (fun _ => 0), (fun _ => 0), (fun _ => 0), (fun _ => 0), (fun _ => 0), (fun _ => 0), (fun _ => 0), (fun _ => 0), (fun _ => 0), (fun _ => 0), (fun _ => 0), (fun _ => 0), (fun _ => 0), (fun _ => 0), (fun _ => 0), (fun _ => 0)) := by
  have z : ∀ N, 0 < N → N < 2 ^ 31 → vp_in (0 : Int32) N := fun N h h2 => vp_in_nI (n := 0) h h2
  have hK : sd_K 0 0 0 (fun _ => 0) (fun _ => 0) (fun _ => 0) (fun _ => 0) (fun _ => 0) (fun _ => 0) (fun _ => 0) (fun _ => 0) (fun _ => 0) (fun _ => 0) (fun _ => 0) (fun _ => 0) (fun _ => 0) (fun _ => 0) (fun _ => 0) (sd_fil 0 8 1 (fun _ => 0)) (sd_fil 4 8 1 (fun _ => 0)) (fun _ => 0) (fun _ => 0) := by
    refine sd_K.mk (by omega) (by omega) (Or.inl rfl) (fun k hk => ⟨z 4 (by omega) (by omega), z 4 (by omega) (by omega), z 4 (by omega) (by omega)⟩) (fun k hk => ⟨z 9 (by omega) (by omega), z 8 (by omega) (by omega)⟩) (fun r hr => by omega) (fun r hr => ⟨rfl, rfl, rfl, rfl⟩) (fun r hr => ⟨rfl, rfl⟩) (fun s hs g hg => by rw [sd_tb_0, b_0]) (fun f hf => ?_) (fun k hk => z 48 (by omega) (by omega))
    unfold sd_fil
    by_cases q : f < 8
    · rw [if_pos ⟨by omega, q⟩, if_pos ⟨hf, q⟩]
    · rw [if_neg (fun w => q w.2), if_neg (fun w => q w.2)]
  have e := sd_mk (k := 0) (n := 0) (T := 0) (D := 0) (p1 := 0) (p2 := 0) (p3 := 0) (wd := (fun _ => 0)) (ax := sd_fil 0 432 99 (fun _ => 0)) (ay := (fun _ => 0)) (ol := sd_fil 0 12 (-1) (fun _ => 0)) (ls := (fun _ => 0)) (tu := (fun _ => 0)) (eX := (fun _ => 0)) (G := (fun _ => 0)) (C := (fun _ => 0)) (P := (fun _ => 0)) (H := (fun _ => 0)) (M := (fun _ => 0)) (J := (fun _ => 0)) (V := (fun _ => 0)) (A := (fun _ => 0)) (B := (fun _ => 0)) (be := (fun _ => 0)) (U := (fun _ => 0)) (iX := (fun _ => 0)) (bX := (fun _ => 0)) (tX := (fun _ => 0)) (q0 := 0) (q1 := 0) (q2 := 0) (q3 := 0) (q4 := 0) (q5 := 0) (q6 := 0) (q7 := 0) (q8 := 0) (q9 := 0) (by omega) hK
  rw [← sd_x0] at e
  exact e
theorem i_vc0 : wpX_init (fun u => wpY_init (fun v => i_Rel 0 u v)) :=
  ⟨433, sd_x266 432 0 433 (fun _ => 0) (by omega) (by omega) ⟨13, sd_x289 12 0 13 (fun _ => 0) (by omega) (by omega) ⟨9, sd_x310 8 0 9 (fun _ => 0) (by omega) (by omega)
    ⟨433, sd_y256 432 0 433 (fun _ => 0) (by omega) (by omega) ⟨13, sd_y279 12 0 13 (fun _ => 0) (by omega) (by omega) ⟨5, sd_y300 4 4 5 (fun _ => 0) (by omega) (by omega) sd_rel0⟩⟩⟩⟩⟩⟩
end
section
/-! what is laid out -/
def sd_ig (kd kc ig ol : Nat → Int32) (l g : Nat) : Bool :=
  (decide (¬ kd g ≤ 0) && bt (ig l) (kd g - 1).toNatClampNeg) || (decide (kd g = 3) && (decide (¬ ol l < 0) && decide (¬ ol l = kc g)))
def sd_mt (sY : Nat → Int32) (v : Int32) (g : Nat) : Bool :=
  decide (0 ≤ v) && (decide (v ≤ 55) && (if 48 ≤ v then bt (sY g) (v - 48).toNatClampNeg else decide (v = nI g)))
def sd_e (t : Int32) : Nat := if t = 3 ∨ t = 4 then 1 else 0
def sd_L (R : Nat) (kd kc ig ol ty rO sa sY ls eX : Nat → Int32) (iX bX tX : Nat → Int64) : Prop :=
  (∀ l, l < 12 → ∀ g, g < 48 → sd_tb (iX l) g = sd_ig kd kc ig ol l g) ∧
  (∀ r, r < R → ∀ j, j < 4 → ∀ g, g < 48 → sd_tb (tX (4 * r + j)) g = sd_mt sY (sa (4 * r + j)) g) ∧
  (∀ l, l < 12 → ∀ g, g < 48 → ∀ r, r < R → rO r = nI l → sd_tb (tX (4 * r + sd_e (ty l))) g = true → sd_tb (bX l) g = true) ∧
  (∀ l, l < 12 → ∀ f, f < 32 → bt (eX l) f = (decide (f < 8) && bt (ls f) l))
theorem sd_or (a b : Nat) : nI a ||| nI b = nI (a ||| b) := by
  apply Int32.toBitVec_inj.1
  show BitVec.ofNat 32 a ||| BitVec.ofNat 32 b = BitVec.ofNat 32 (a ||| b)
  apply BitVec.eq_of_getLsbD_eq
  intro i hi
  simp [hi]
theorem sd_or256 {a b : Int32} (ha : vp_in a 256) (hb : vp_in b 256) : vp_in (a ||| b) 256 := by
  obtain ⟨i, hi, rfl⟩ := vp_in_of ha (by decide)
  obtain ⟨j, hj, rfl⟩ := vp_in_of hb (by decide)
  rw [sd_or]
  exact vp_in_nI (Nat.or_lt_two_pow (n := 8) hi hj) (by decide)
theorem sd_sh8 : ∀ f, f < 8 → ((1 : Int32) <<< (nI f &&& 31)) = nI (2 ^ f) ∧ 2 ^ f < 256 := by decide +kernel
theorem sd_sh256 {f : Nat} (hf : f < 8) : vp_in ((1 : Int32) <<< (nI f &&& 31)) 256 := by
  rw [(sd_sh8 f hf).1]; exact vp_in_nI (sd_sh8 f hf).2 (by decide)
theorem sd_ss256 {x : Int32} (h : vp_in x 256) : vp_nar .short x.toInt16.toInt32 = x := sd_ss h (by decide)
/-- Y's and X's way to ask whether a kind is ignored -/
theorem sd_kd1 {x : Int32} (h : vp_in x 4) (h0 : ¬ x ≤ 0) : ∃ j, j < 3 ∧ x - 1 = nI j ∧ (x - 1).toNatClampNeg = j := by
  obtain ⟨i, hi, rfl⟩ := vp_in_of h (by decide)
  have : 0 < i := by
    rcases Nat.eq_zero_or_pos i with e | e
    · subst e; exact absurd (by decide) h0
    · exact e
  obtain ⟨j, rfl⟩ : ∃ j, i = j + 1 := ⟨i - 1, by omega⟩
  exact ⟨j, by omega, nI_pred j, by rw [nI_pred]; exact nI_clamp (by omega)⟩
section
variable {R L n : Nat} {T D bk p1 p2 p3 : Int32} {wd kd kc jn ax ay ty ig ol rO dX sa ls fX tu tx eX G C P H M J V A B be U sY fY yA yB yC yD y1 y2 : Nat → Int32} {sX iX bX tX : Nat → Int64} {q0 q1 q2 q3 q4 q5 q6 q7 q8 q9 : Int32}
theorem sd_lay125 {post : SX → Prop} {F : Int32 → (Nat → Int32) → (Nat → Int32) → (Nat → Int32) → (Nat → Int32) → (Nat → Int32) → (Nat → Int32) → (Nat → Int64) → (Nat → Int32) → (Nat → Int32) → (Nat → Int32) → (Nat → Int32) → (Nat → Int32) → (Nat → Int32) → (Nat → Int32) → (Nat → Int32) → (Nat → Int32) → (Nat → Int32) → (Nat → Int64) → (Nat → Int64) → (Nat → Int64) → (Nat → Int32) → (Nat → Int32) → (Nat → Int32) → (Nat → Int32) → (Nat → Int32) → (Nat → Int32) → (Nat → Int32) → (Nat → Int32) → (Nat → Int32) → (Nat → Int32) → (Nat → Int32) → (Nat → Int32) → Prop} {l : Nat} (hl : l < 12) :
    ∀ (d f N : Nat) (eX : Nat → Int32), f + d = 8 → d < N → vp_in (eX l) 256 →
      (∀ e' : Nat → Int32, (∀ l', l' ≠ l → e' l' = eX l') → (∀ b, b < 32 → bt (e' l) b = (bt (eX l) b || (decide (f ≤ b ∧ b < 8) && bt (ls b) l))) → F (nI (l + 1)) wd kd kc jn ax ay sX ty ig ol rO dX sa ls fX tu tx iX bX tX e' (sd_xt G q0) (sd_xt C q1) (sd_xt P q2) (sd_xt H q3) (sd_xt M q4) (sd_xt J q5) (sd_xt V q6) (sd_xt A q7) (sd_xt B q8) be (sd_xt U q9)) →
      wX_lay_125 post F (nI l) (nI R) (nI L) (nI n) T D bk p1 p2 p3 N (nI f) wd kd kc jn ax ay sX ty ig ol rO dX sa ls fX tu tx iX bX tX eX (sd_xt G q0) (sd_xt C q1) (sd_xt P q2) (sd_xt H q3) (sd_xt M q4) (sd_xt J q5) (sd_xt V q6) (sd_xt A q7) (sd_xt B q8) be (sd_xt U q9) := by
  have cl : (nI l).toNatClampNeg = l := nI_clamp (by omega)
  have vl : vp_in (nI l) 12 := vp_in_nI hl (by decide)
  intro d
  induction d with
  | zero =>
    intro f N eX hf hN he k
    obtain ⟨N, rfl⟩ : ∃ N', N = N' + 1 := ⟨N - 1, by omega⟩
    obtain rfl : f = 8 := by omega
    exact br_t (by decide) (nm_r (nI_1 l) (k eX (fun _ _ => rfl) (fun b hb => by rw [decide_eq_false (by omega)]; simp)))
  | succ d ih =>
    intro f N eX hf hN he k
    obtain ⟨N, rfl⟩ : ∃ N', N = N' + 1 := ⟨N - 1, by omega⟩
    have cf : (nI f).toNatClampNeg = f := nI_clamp (by omega)
    have vf : vp_in (nI f) 8 := vp_in_nI (by omega) (by decide)
    have tb : sd_tb (ls (nI f).toNatClampNeg).toInt64 (nI l).toNatClampNeg = bt (ls f) l := by rw [cf, cl]; exact sd_tb_ext (by omega)
    refine br_f (nI_ge (b := 8) (by omega) (by decide)) ⟨vf, ?_⟩
    cases hb : bt (ls f) l
    · refine sd_has_f vl (by decide) (by rw [tb]; exact hb) (br_t rfl (nm_r (nI_1 f) (ih (f + 1) N eX (by omega) (by omega) he (fun e' h1 h2 => k e' h1 (fun b hb' => ?_)))))
      rw [h2 b hb']
      by_cases q : b = f
      · subst q; rw [hb]; simp
      · rw [show decide (f + 1 ≤ b ∧ b < 8) = decide (f ≤ b ∧ b < 8) from decide_eq_decide.mpr (by omega)]
    · have w := sd_or256 he (sd_sh256 (f := f) (by omega))
      have ee : upd eX (nI l).toNatClampNeg (vp_nar .short (((eX (nI l).toNatClampNeg) ||| ((1 : Int32) <<< (nI f &&& 31))).toInt16.toInt32)) = upd eX l (eX l ||| ((1 : Int32) <<< (nI f &&& 31))) := by
        rw [cl, sd_ss256 w]
      refine sd_has_t vl (by decide) (by rw [tb]; exact hb) (br_f sd_10 ⟨vl, vl, nm_r ee (nm_r (nI_1 f) (ih (f + 1) N _ (by omega) (by omega) (by rw [pk_us]; exact w) (fun e' h1 h2 => k e' (fun l' hl' => by rw [h1 l' hl', pk_un hl']) (fun b hb' => ?_))))⟩)
      rw [h2 b hb', pk_us, sd_bt_set _ (by omega)]
      by_cases q : b = f
      · subst q; rw [hb]; simp; omega
      · rw [show decide (f + 1 ≤ b ∧ b < 8) = decide (f ≤ b ∧ b < 8) from decide_eq_decide.mpr (by omega), decide_eq_false q]; simp
theorem sd_lay91 {post : SX → Prop} {F F2 : Int32 → (Nat → Int32) → (Nat → Int32) → (Nat → Int32) → (Nat → Int32) → (Nat → Int32) → (Nat → Int32) → (Nat → Int64) → (Nat → Int32) → (Nat → Int32) → (Nat → Int32) → (Nat → Int32) → (Nat → Int32) → (Nat → Int32) → (Nat → Int32) → (Nat → Int32) → (Nat → Int32) → (Nat → Int32) → (Nat → Int64) → (Nat → Int64) → (Nat → Int64) → (Nat → Int32) → (Nat → Int32) → (Nat → Int32) → (Nat → Int32) → (Nat → Int32) → (Nat → Int32) → (Nat → Int32) → (Nat → Int32) → (Nat → Int32) → (Nat → Int32) → (Nat → Int32) → (Nat → Int32) → Prop} {l g : Nat} {b : Bool} (hl : l < 12) (hg : g < 48)
    (k : ∀ i' : Nat → Int64, (∀ l', l' ≠ l → i' l' = iX l') → (∀ j, sd_tb (i' l) j = (sd_tb (iX l) j || (decide (j = g) && b))) → F2 (nI (g + 1)) wd kd kc jn ax ay sX ty ig ol rO dX sa ls fX tu tx i' bX tX eX (sd_xt G q0) (sd_xt C q1) (sd_xt P q2) (sd_xt H q3) (sd_xt M q4) (sd_xt J q5) (sd_xt V q6) (sd_xt A q7) (sd_xt B q8) be (sd_xt U q9)) :
    wX_lay_91 post F F2 (nI l) (nI g) (sd_b b) (nI R) (nI L) (nI n) T D bk p1 p2 p3 wd kd kc jn ax ay sX ty ig ol rO dX sa ls fX tu tx iX bX tX eX (sd_xt G q0) (sd_xt C q1) (sd_xt P q2) (sd_xt H q3) (sd_xt M q4) (sd_xt J q5) (sd_xt V q6) (sd_xt A q7) (sd_xt B q8) be (sd_xt U q9) := by
  have cl : (nI l).toNatClampNeg = l := nI_clamp (by omega)
  have vl : vp_in (nI l) 12 := vp_in_nI hl (by decide)
  refine sd_b_br (fun e => nm_r (nI_1 g) (k iX (fun _ _ => rfl) (fun j => by rw [e]; simp))) (fun e => ⟨vl, vl, nm_r (sd_lw (v' := iX l ||| ((1 : Int64) <<< ((nI g).toInt64 &&& 63))) (by omega) (by rw [cl])) (nm_r (nI_1 g) (k _ (fun l' hl' => pk_uLn hl') (fun j => ?_)))⟩)
  rw [pk_uLs, sd_tb_set _ (by omega), e, Bool.and_true]
theorem sd_lay24 {post : SX → Prop} {F : Int32 → (Nat → Int32) → (Nat → Int32) → (Nat → Int32) → (Nat → Int32) → (Nat → Int32) → (Nat → Int32) → (Nat → Int64) → (Nat → Int32) → (Nat → Int32) → (Nat → Int32) → (Nat → Int32) → (Nat → Int32) → (Nat → Int32) → (Nat → Int32) → (Nat → Int32) → (Nat → Int32) → (Nat → Int32) → (Nat → Int64) → (Nat → Int64) → (Nat → Int64) → (Nat → Int32) → (Nat → Int32) → (Nat → Int32) → (Nat → Int32) → (Nat → Int32) → (Nat → Int32) → (Nat → Int32) → (Nat → Int32) → (Nat → Int32) → (Nat → Int32) → (Nat → Int32) → (Nat → Int32) → Prop} {l : Nat} (hl : l < 12) (hgl : ∀ k, k < 48 → vp_in (kd k) 4) :
    ∀ (d g N : Nat) (iX : Nat → Int64), g + d = 48 → d < N →
      (∀ i' : Nat → Int64, (∀ l', l' ≠ l → i' l' = iX l') → (∀ b, b < 48 → sd_tb (i' l) b = (sd_tb (iX l) b || (decide (g ≤ b) && sd_ig kd kc ig ol l b))) → ∃ n125, wX_lay_125 post F (nI l) (nI R) (nI L) (nI n) T D bk p1 p2 p3 n125 0 wd kd kc jn ax ay sX ty ig ol rO dX sa ls fX tu tx i' bX tX (upd eX l 0) (sd_xt G q0) (sd_xt C q1) (sd_xt P q2) (sd_xt H q3) (sd_xt M q4) (sd_xt J q5) (sd_xt V q6) (sd_xt A q7) (sd_xt B q8) be (sd_xt U q9)) →
      wX_lay_24 post F (nI l) (nI R) (nI L) (nI n) T D bk p1 p2 p3 N (nI g) wd kd kc jn ax ay sX ty ig ol rO dX sa ls fX tu tx iX bX tX eX (sd_xt G q0) (sd_xt C q1) (sd_xt P q2) (sd_xt H q3) (sd_xt M q4) (sd_xt J q5) (sd_xt V q6) (sd_xt A q7) (sd_xt B q8) be (sd_xt U q9) := by
  have cl : (nI l).toNatClampNeg = l := nI_clamp (by omega)
  have vl : vp_in (nI l) 12 := vp_in_nI hl (by decide)
  intro d
  induction d with
  | zero =>
    intro g N iX hg hN k
    obtain ⟨N, rfl⟩ : ∃ N', N = N' + 1 := ⟨N - 1, by omega⟩
    obtain rfl : g = 48 := by omega
    exact br_t (by decide) ⟨vl, nm_r (sd_yw (by omega) sd_s0) (k iX (fun _ _ => rfl) (fun b hb => by rw [decide_eq_false (by omega)]; simp))⟩
  | succ d ih =>
    intro g N iX hg hN k
    obtain ⟨N, rfl⟩ : ∃ N', N = N' + 1 := ⟨N - 1, by omega⟩
    have cg : (nI g).toNatClampNeg = g := nI_clamp (by omega)
    have vg : vp_in (nI g) 48 := vp_in_nI (by omega) (by decide)
    have hk := hgl g (by omega)
    have nx : ∀ b : Bool, b = sd_ig kd kc ig ol l g → wX_lay_91 post F (wX_lay_24 post F (nI l) (nI R) (nI L) (nI n) T D bk p1 p2 p3 N) (nI l) (nI g) (sd_b b) (nI R) (nI L) (nI n) T D bk p1 p2 p3 wd kd kc jn ax ay sX ty ig ol rO dX sa ls fX tu tx iX bX tX eX (sd_xt G q0) (sd_xt C q1) (sd_xt P q2) (sd_xt H q3) (sd_xt M q4) (sd_xt J q5) (sd_xt V q6) (sd_xt A q7) (sd_xt B q8) be (sd_xt U q9) := by
      intro b hb
      refine sd_lay91 hl (by omega) (fun i' h1 h2 => ih (g + 1) N i' (by omega) (by omega) (fun i'' h3 h4 => k i'' (fun l' hl' => (h3 l' hl').trans (h1 l' hl')) (fun j hj => ?_)))
      rw [h4 j hj, h2 j, hb]
      by_cases q : j = g
      · rw [q, decide_eq_false (show ¬ g + 1 ≤ g by omega)]; simp
      · rw [show decide (g + 1 ≤ j) = decide (g ≤ j) from decide_eq_decide.mpr (by omega), decide_eq_false q]; simp
    have k57 : (decide (¬ kd g ≤ 0) && bt (ig l) (kd g - 1).toNatClampNeg) = false → wX_lay_57 post F (wX_lay_24 post F (nI l) (nI R) (nI L) (nI n) T D bk p1 p2 p3 N) (nI l) (nI g) (kd g) (nI R) (nI L) (nI n) T D bk p1 p2 p3 wd kd kc jn ax ay sX ty ig ol rO dX sa ls fX tu tx iX bX tX eX (sd_xt G q0) (sd_xt C q1) (sd_xt P q2) (sd_xt H q3) (sd_xt M q4) (sd_xt J q5) (sd_xt V q6) (sd_xt A q7) (sd_xt B q8) be (sd_xt U q9) := by
      intro h0
      by_cases c1 : kd g = 3
      · by_cases c2 : ol l < 0
        · exact br_t c1 ⟨vl, br_t (by rw [cl]; exact c2) (nx false (by unfold sd_ig; rw [h0]; simp [c2]))⟩
        · by_cases c3 : ol l = kc g
          · exact br_t c1 ⟨vl, br_f (by rw [cl]; exact c2) ⟨vg, vl, br_t (by rw [cl, cg]; exact c3.symm) (nx false (by unfold sd_ig; rw [h0]; simp [c3]))⟩⟩
          · exact br_t c1 ⟨vl, br_f (by rw [cl]; exact c2) ⟨vg, vl, br_f (by rw [cl, cg]; exact fun z => c3 z.symm) (nx true (by unfold sd_ig; rw [decide_eq_true c1, decide_eq_true c2, decide_eq_true c3]; simp))⟩⟩
      · exact br_f c1 (nx false (by unfold sd_ig; rw [h0, decide_eq_false c1]; simp))
    refine br_f (nI_ge (b := 48) (by omega) (by decide)) ⟨vg, nm_r (sd_yr (by omega)) ?_⟩
    by_cases c0 : kd g ≤ 0
    · exact br_t c0 (k57 (by rw [decide_eq_false (fun z => z c0)]; simp))
    · obtain ⟨j, hj, e1, e2⟩ := sd_kd1 hk c0
      have vj : vp_in (kd g - 1) 3 := by rw [e1]; exact vp_in_nI hj (by decide)
      have tb : sd_tb (ig (nI l).toNatClampNeg).toInt64 (kd g - 1).toNatClampNeg = bt (ig l) (kd g - 1).toNatClampNeg := by rw [cl, e2]; exact sd_tb_ext (by omega)
      refine br_f c0 ⟨vl, ?_⟩
      cases hb : bt (ig l) (kd g - 1).toNatClampNeg
      · exact sd_has_f vj (by decide) (by rw [tb]; exact hb) (br_t rfl (k57 (by rw [hb]; simp)))
      · exact sd_has_t vj (by decide) (by rw [tb]; exact hb) (br_f sd_10 (nx true (by unfold sd_ig; rw [hb, decide_eq_true c0]; simp)))
theorem sd_taken {post : Int64 → Prop} {z : Int32} (hst : ∀ s, s < 8 → ∀ g, g < 48 → sd_tb (sX s) g = bt (sY g) s) (h55 : z ≤ 55) (k : ∀ w : Int64, (∀ g, g < 48 → sd_tb w g = sd_mt sY z g) → post w) : wpX_taken post (nI R, nI L, nI n, T, D, bk, p1, p2, p3, wd, kd, kc, jn, ax, ay, sX, ty, ig, ol, rO, dX, sa, ls, fX, tu, tx, iX, bX, tX, eX, sd_xt G q0, sd_xt C q1, sd_xt P q2, sd_xt H q3, sd_xt M q4, sd_xt J q5, sd_xt V q6, sd_xt A q7, sd_xt B q8, be, sd_xt U q9) z := by
  by_cases h0 : 0 ≤ z
  · obtain ⟨i, hi, rfl⟩ := vp_in_of (sd_rg ⟨h0, h55⟩ 56 (by decide)) (by decide)
    by_cases h48 : 48 ≤ nI i
    · have : 48 ≤ i := (nI_leI (a := 48) (by decide) (by omega)).mp h48
      have e : nI i - 48 = nI (i - 48) := pk_sub (a := i) (b := 48) this
      have c : (nI i - 48).toNatClampNeg = i - 48 := by rw [e]; exact nI_clamp (by omega)
      refine br_t h0 (br_t h48 ⟨by rw [e]; exact vp_in_nI (by omega) (by decide), k _ (fun g hg => ?_)⟩)
      unfold sd_mt
      rw [c, hst (i - 48) (by omega) g hg, decide_eq_true h0, decide_eq_true h55, if_pos h48]
      simp
    · have : i < 48 := by
        rcases Nat.lt_or_ge i 48 with q | q
        · exact q
        · exact absurd (nI_le (a := 48) q (by omega)) h48
      refine br_t h0 (br_f h48 (k _ (fun g hg => ?_)))
      unfold sd_mt
      rw [sd_tb_1 (by omega), decide_eq_true h0, decide_eq_true h55, if_neg h48]
      simp only [Bool.true_and]
      exact decide_eq_decide.mpr (by rw [nI_eq (by omega) (by omega)]; omega)
  · refine br_f h0 (k 0 (fun g hg => ?_))
    unfold sd_mt
    rw [sd_tb_0, decide_eq_false h0]
    rfl
theorem sd_mt_big {v : Int32} (h : ¬ v ≤ 55) (g : Nat) : sd_mt sY (-1) g = sd_mt sY v g := by
  unfold sd_mt
  rw [decide_eq_false sd_m1le, decide_eq_false h]
  simp
theorem sd_lay245 {post : SX → Prop} {F F2 : Int32 → (Nat → Int32) → (Nat → Int32) → (Nat → Int32) → (Nat → Int32) → (Nat → Int32) → (Nat → Int32) → (Nat → Int64) → (Nat → Int32) → (Nat → Int32) → (Nat → Int32) → (Nat → Int32) → (Nat → Int32) → (Nat → Int32) → (Nat → Int32) → (Nat → Int32) → (Nat → Int32) → (Nat → Int32) → (Nat → Int64) → (Nat → Int64) → (Nat → Int64) → (Nat → Int32) → (Nat → Int32) → (Nat → Int32) → (Nat → Int32) → (Nat → Int32) → (Nat → Int32) → (Nat → Int32) → (Nat → Int32) → (Nat → Int32) → (Nat → Int32) → (Nat → Int32) → (Nat → Int32) → Prop} {r j : Nat} {x2 x3 z : Int32} (hst : ∀ s, s < 8 → ∀ g, g < 48 → sd_tb (sX s) g = bt (sY g) s) (hr : r < 40) (hj : j < 4) (h55 : z ≤ 55)
    (k : ∀ t' : Nat → Int64, (∀ m, m ≠ 4 * r + j → t' m = tX m) → (∀ g, g < 48 → sd_tb (t' (4 * r + j)) g = sd_mt sY z g) → F2 (nI (j + 1)) wd kd kc jn ax ay sX ty ig ol rO dX sa ls fX tu tx iX bX t' eX (sd_xt G q0) (sd_xt C q1) (sd_xt P q2) (sd_xt H q3) (sd_xt M q4) (sd_xt J q5) (sd_xt V q6) (sd_xt A q7) (sd_xt B q8) be (sd_xt U q9)) :
    wX_lay_245 post F F2 (nI r) x2 x3 (nI j) z ((4 * nI r) + nI j) (nI R) (nI L) (nI n) T D bk p1 p2 p3 wd kd kc jn ax ay sX ty ig ol rO dX sa ls fX tu tx iX bX tX eX (sd_xt G q0) (sd_xt C q1) (sd_xt P q2) (sd_xt H q3) (sd_xt M q4) (sd_xt J q5) (sd_xt V q6) (sd_xt A q7) (sd_xt B q8) be (sd_xt U q9) := by
  have vi : vp_in ((4 * nI r) + nI j) 160 := by rw [sd_i4]; exact vp_in_nI (by omega) (by decide)
  have ci : ((4 * nI r) + nI j).toNatClampNeg = 4 * r + j := by rw [sd_i4]; exact nI_clamp (by omega)
  unfold wX_lay_245
  refine sd_taken hst h55 (fun w hw => ?_)
  exact And.intro vi (nm_r (e' := vp_updL tX (4 * r + j) w) (by rw [ci]) (nm_r (nI_1 j) (k _ (fun m hm => pk_uLn hm) (fun g hg => by rw [pk_uLs]; exact hw g hg))))
theorem sd_lay197 {post : SX → Prop} {F : Int32 → (Nat → Int32) → (Nat → Int32) → (Nat → Int32) → (Nat → Int32) → (Nat → Int32) → (Nat → Int32) → (Nat → Int64) → (Nat → Int32) → (Nat → Int32) → (Nat → Int32) → (Nat → Int32) → (Nat → Int32) → (Nat → Int32) → (Nat → Int32) → (Nat → Int32) → (Nat → Int32) → (Nat → Int32) → (Nat → Int64) → (Nat → Int64) → (Nat → Int64) → (Nat → Int32) → (Nat → Int32) → (Nat → Int32) → (Nat → Int32) → (Nat → Int32) → (Nat → Int32) → (Nat → Int32) → (Nat → Int32) → (Nat → Int32) → (Nat → Int32) → (Nat → Int32) → (Nat → Int32) → Prop} {r l : Nat} (hst : ∀ s, s < 8 → ∀ g, g < 48 → sd_tb (sX s) g = bt (sY g) s) (hr : r < 40) (hl : l < 12) :
    ∀ (d j N : Nat) (tX : Nat → Int64), j + d = 4 → d < N →
      (∀ t' : Nat → Int64, (∀ m, (m < 4 * r ∨ m < 4 * r + j) → t' m = tX m) → (∀ i, j ≤ i → i < 4 → ∀ g, g < 48 → sd_tb (t' (4 * r + i)) g = sd_mt sY (sa (4 * r + i)) g) →
        F (nI (r + 1)) wd kd kc jn ax ay sX ty ig ol rO dX sa ls fX tu tx iX (vp_updL bX l (bX l ||| t' (4 * r + sd_e (ty l)))) t' eX (sd_xt G q0) (sd_xt C q1) (sd_xt P q2) (sd_xt H q3) (sd_xt M q4) (sd_xt J q5) (sd_xt V q6) (sd_xt A q7) (sd_xt B q8) be (sd_xt U q9)) →
      wX_lay_197 post F (nI r) (nI l) (ty l) (nI R) (nI L) (nI n) T D bk p1 p2 p3 N (nI j) wd kd kc jn ax ay sX ty ig ol rO dX sa ls fX tu tx iX bX tX eX (sd_xt G q0) (sd_xt C q1) (sd_xt P q2) (sd_xt H q3) (sd_xt M q4) (sd_xt J q5) (sd_xt V q6) (sd_xt A q7) (sd_xt B q8) be (sd_xt U q9) := by
  have cl : (nI l).toNatClampNeg = l := nI_clamp (by omega)
  have vl : vp_in (nI l) 12 := vp_in_nI hl (by decide)
  have ci : ∀ j : Nat, j < 4 → ((4 * nI r) + nI j).toNatClampNeg = 4 * r + j := fun j hj => by rw [sd_i4]; exact nI_clamp (by omega)
  have vi : ∀ j : Nat, j < 4 → vp_in ((4 * nI r) + nI j) 160 := fun j hj => by rw [sd_i4]; exact vp_in_nI (by omega) (by decide)
  intro d
  induction d with
  | zero =>
    intro j N tX hj hN k
    obtain ⟨N, rfl⟩ : ∃ N', N = N' + 1 := ⟨N - 1, by omega⟩
    obtain rfl : j = 4 := by omega
    have kk := k tX (fun _ _ => rfl) (fun i h1 h2 => by omega)
    have c1 : ((4 * nI r) + 1).toNatClampNeg = 4 * r + 1 := ci 1 (by decide)
    have c0 : ((4 * nI r) + 0).toNatClampNeg = 4 * r + 0 := ci 0 (by decide)
    have v1 : vp_in ((4 * nI r) + 1) 160 := vi 1 (by decide)
    have v0 : vp_in ((4 * nI r) + 0) 160 := vi 0 (by decide)
    refine br_t (by decide) ⟨vl, ?_⟩
    have one : (ty l = 3 ∨ ty l = 4) → wX_lay_279 post F (nI r) (4 * nI r) (bX (nI l).toNatClampNeg) (nI l) (nI R) (nI L) (nI n) T D bk p1 p2 p3 wd kd kc jn ax ay sX ty ig ol rO dX sa ls fX tu tx iX bX tX eX (sd_xt G q0) (sd_xt C q1) (sd_xt P q2) (sd_xt H q3) (sd_xt M q4) (sd_xt J q5) (sd_xt V q6) (sd_xt A q7) (sd_xt B q8) be (sd_xt U q9) := fun h => by
      have : sd_e (ty l) = 1 := if_pos h
      rw [this] at kk
      exact And.intro v1 ⟨vl, nm_r (e' := vp_updL bX l (bX l ||| tX (4 * r + 1))) (by rw [cl, c1]) (nm_r (nI_1 r) kk)⟩
    by_cases h3 : ty l = 3
    · exact br_t h3 (one (Or.inl h3))
    · by_cases h4 : ty l = 4
      · exact br_f h3 (br_t h4 (one (Or.inr h4)))
      · have : sd_e (ty l) = 0 := if_neg (fun z => z.elim h3 h4)
        rw [this] at kk
        exact br_f h3 (br_f h4 ⟨v0, vl, nm_r (e' := vp_updL bX l (bX l ||| tX (4 * r + 0))) (by rw [cl, c0]) (nm_r (nI_1 r) kk)⟩)
  | succ d ih =>
    intro j N tX hj hN k
    obtain ⟨N, rfl⟩ : ∃ N', N = N' + 1 := ⟨N - 1, by omega⟩
    have go : ∀ z : Int32, z ≤ 55 → (∀ g, sd_mt sY z g = sd_mt sY (sa (4 * r + j)) g) → wX_lay_245 post F (wX_lay_197 post F (nI r) (nI l) (ty l) (nI R) (nI L) (nI n) T D bk p1 p2 p3 N) (nI r) (nI l) (ty l) (nI j) z ((4 * nI r) + nI j) (nI R) (nI L) (nI n) T D bk p1 p2 p3 wd kd kc jn ax ay sX ty ig ol rO dX sa ls fX tu tx iX bX tX eX (sd_xt G q0) (sd_xt C q1) (sd_xt P q2) (sd_xt H q3) (sd_xt M q4) (sd_xt J q5) (sd_xt V q6) (sd_xt A q7) (sd_xt B q8) be (sd_xt U q9) := by
      intro z hz hzz
      refine sd_lay245 hst hr (by omega) hz (fun t' h1 h2 => ih (j + 1) N t' (by omega) (by omega) (fun t'' h3 h4 => k t'' (fun m hm => ?_) (fun i h5 h6 g hg => ?_)))
      · rw [h3 m (by omega), h1 m (by omega)]
      · by_cases q : i = j
        · subst q; rw [h3 _ (by omega), h2 g hg, hzz]
        · exact h4 i (by omega) h6 g hg
    refine br_f (nI_ge (b := 4) (by omega) (by decide)) ⟨vi j (by omega), ?_⟩
    by_cases h55 : sa (4 * r + j) ≤ 55
    · refine br_t (by rw [ci j (by omega)]; exact h55) ⟨vi j (by omega), ?_⟩
      rw [ci j (by omega)]
      exact go _ h55 (fun g => rfl)
    · exact br_f (by rw [ci j (by omega)]; exact h55) (go (-1) (by decide) (fun g => sd_mt_big h55 g))
theorem sd_lay172 {post : SX → Prop} (hK : sd_K R L bk kd kc jn ty ig rO yA yB yC yD y1 y2 sa dX sY fX fY tx sX) (hig : ∀ l, l < 12 → ∀ g, g < 48 → sd_tb (iX l) g = sd_ig kd kc ig ol l g) (hfe : ∀ l, l < 12 → ∀ f, f < 32 → bt (eX l) f = (decide (f < 8) && bt (ls f) l)) :
    ∀ (d r N : Nat) (bX tX : Nat → Int64), r + d = R → d < N →
      (∀ r', r' < r → ∀ j, j < 4 → ∀ g, g < 48 → sd_tb (tX (4 * r' + j)) g = sd_mt sY (sa (4 * r' + j)) g) →
      (∀ l, l < 12 → ∀ g, g < 48 → ∀ r', r' < r → rO r' = nI l → sd_tb (tX (4 * r' + sd_e (ty l))) g = true → sd_tb (bX l) g = true) →
      (∀ bX tX : Nat → Int64, sd_L R kd kc ig ol ty rO sa sY ls eX iX bX tX → post (nI R, nI L, nI n, T, D, bk, p1, p2, p3, wd, kd, kc, jn, ax, ay, sX, ty, ig, ol, rO, dX, sa, ls, fX, tu, tx, iX, bX, tX, eX, sd_xt G q0, sd_xt C q1, sd_xt P q2, sd_xt H q3, sd_xt M q4, sd_xt J q5, sd_xt V q6, sd_xt A q7, sd_xt B q8, be, sd_xt U q9)) →
      wX_lay_172 post (nI R) (nI L) (nI n) T D bk p1 p2 p3 N (nI r) wd kd kc jn ax ay sX ty ig ol rO dX sa ls fX tu tx iX bX tX eX (sd_xt G q0) (sd_xt C q1) (sd_xt P q2) (sd_xt H q3) (sd_xt M q4) (sd_xt J q5) (sd_xt V q6) (sd_xt A q7) (sd_xt B q8) be (sd_xt U q9) := by
  have hR := hK.rl
  intro d
  induction d with
  | zero =>
    intro r N bX tX hr hN h1 h2 k
    obtain ⟨N, rfl⟩ : ∃ N', N = N' + 1 := ⟨N - 1, by omega⟩
    obtain rfl : r = R := by omega
    exact br_t (nI_le (Nat.le_refl _) (by omega)) (k bX tX (And.intro hig (And.intro h1 (And.intro h2 hfe))))
  | succ d ih =>
    intro r N bX tX hr hN h1 h2 k
    obtain ⟨N, rfl⟩ : ∃ N', N = N' + 1 := ⟨N - 1, by omega⟩
    have cr : (nI r).toNatClampNeg = r := nI_clamp (by omega)
    have vr : vp_in (nI r) 40 := vp_in_nI (by omega) (by decide)
    obtain ⟨w1, w2, -, -⟩ := hK.ru r (by omega)
    obtain ⟨l, hl, el⟩ := vp_in_of w1 (by decide)
    have cl : (nI l).toNatClampNeg = l := nI_clamp (by omega)
    refine br_f (nI_ge (by omega) (by omega)) ⟨vr, nm_r (e' := nI l) (by rw [cr]; exact el) ⟨vp_in_nI hl (by decide), nm_r (e' := ty l) (by rw [cl]) ⟨5, ?_⟩⟩⟩
    refine sd_lay197 hK.st (by omega) hl 4 0 5 tX (by omega) (by omega) (fun t' h3 h4 => ih (r + 1) N _ t' (by omega) (by omega) (fun r' hr' j hj g hg => ?_) (fun l' hl' g hg r' hr' e t => ?_) k)
    · by_cases q : r' = r
      · subst q; exact h4 j (by omega) hj g hg
      · rw [h3 _ (by omega)]; exact h1 r' (by omega) j hj g hg
    · have he : sd_e (ty l') < 4 := by unfold sd_e; split <;> omega
      by_cases q : r' = r
      · subst q
        have : l' = l := (nI_eq (by omega) (by omega)).mp (e.symm.trans el)
        subst this
        rw [pk_uLs, sd_tb_or, t]; simp
      · rw [h3 _ (by omega)] at t
        have z := h2 l' hl' g hg r' (by omega) e t
        by_cases q2 : l' = l
        · subst q2; rw [pk_uLs, sd_tb_or, z]; rfl
        · rw [pk_uLn q2]; exact z
theorem sd_lay2 {post : SX → Prop} (hK : sd_K R L bk kd kc jn ty ig rO yA yB yC yD y1 y2 sa dX sY fX fY tx sX) :
    ∀ (d l N : Nat) (iX bX : Nat → Int64) (eX : Nat → Int32), l + d = 12 → d < N →
      (∀ l', l' < l → ∀ g, g < 48 → sd_tb (iX l') g = sd_ig kd kc ig ol l' g) →
      (∀ l', l' < l → ∀ f, f < 32 → bt (eX l') f = (decide (f < 8) && bt (ls f) l')) →
      (∀ (iX bX tX : Nat → Int64) (eX : Nat → Int32), sd_L R kd kc ig ol ty rO sa sY ls eX iX bX tX → post (nI R, nI L, nI n, T, D, bk, p1, p2, p3, wd, kd, kc, jn, ax, ay, sX, ty, ig, ol, rO, dX, sa, ls, fX, tu, tx, iX, bX, tX, eX, sd_xt G q0, sd_xt C q1, sd_xt P q2, sd_xt H q3, sd_xt M q4, sd_xt J q5, sd_xt V q6, sd_xt A q7, sd_xt B q8, be, sd_xt U q9)) →
      wX_lay_2 post (nI R) (nI L) (nI n) T D bk p1 p2 p3 N (nI l) wd kd kc jn ax ay sX ty ig ol rO dX sa ls fX tu tx iX bX tX eX (sd_xt G q0) (sd_xt C q1) (sd_xt P q2) (sd_xt H q3) (sd_xt M q4) (sd_xt J q5) (sd_xt V q6) (sd_xt A q7) (sd_xt B q8) be (sd_xt U q9) := by
  have hR := hK.rl
  intro d
  induction d with
  | zero =>
    intro l N iX bX eX hl hN h1 h2 k
    obtain ⟨N, rfl⟩ : ∃ N', N = N' + 1 := ⟨N - 1, by omega⟩
    obtain rfl : l = 12 := by omega
    exact br_t (by decide) ⟨R + 1, sd_lay172 hK h1 h2 R 0 (R + 1) bX tX (by omega) (by omega) (fun r' h => by omega) (fun l hl g hg r' h => by omega) (fun b t => k iX b t eX)⟩
  | succ d ih =>
    intro l N iX bX eX hl hN h1 h2 k
    obtain ⟨N, rfl⟩ : ∃ N', N = N' + 1 := ⟨N - 1, by omega⟩
    have vl : vp_in (nI l) 12 := vp_in_nI (by omega) (by decide)
    refine br_f (nI_ge (b := 12) (by omega) (by decide)) ⟨vl, nm_r (sd_lw (by omega) rfl) ⟨vl, nm_r (sd_lw (by omega) rfl) ⟨49, ?_⟩⟩⟩
    refine sd_lay24 (by omega) (fun j hj => (hK.gl j hj).1) 48 0 49 _ (by omega) (by omega) (fun i' h3 h4 => ⟨9, ?_⟩)
    refine sd_lay125 (by omega) 8 0 9 _ (by omega) (by omega) (by rw [pk_us]; exact vp_in_nI (n := 0) (by decide) (by decide)) (fun e' h5 h6 => ih (l + 1) N i' _ e' (by omega) (by omega) (fun l' hl' g hg => ?_) (fun l' hl' f hf => ?_) k)
    · by_cases q : l' = l
      · subst q; rw [h4 g hg, pk_uLs, sd_tb_0]; simp
      · rw [h3 l' q, pk_uLn q]; exact h1 l' (by omega) g hg
    · by_cases q : l' = l
      · subst q; rw [h6 f hf, pk_us, b_0]; simp
      · rw [h5 l' q, pk_un q]; exact h2 l' (by omega) f hf
theorem sd_lay {post : SX → Prop} (hK : sd_K R L bk kd kc jn ty ig rO yA yB yC yD y1 y2 sa dX sY fX fY tx sX) (k : ∀ (iX bX tX : Nat → Int64) (eX : Nat → Int32), sd_L R kd kc ig ol ty rO sa sY ls eX iX bX tX → post (nI R, nI L, nI n, T, D, bk, p1, p2, p3, wd, kd, kc, jn, ax, ay, sX, ty, ig, ol, rO, dX, sa, ls, fX, tu, tx, iX, bX, tX, eX, sd_xt G q0, sd_xt C q1, sd_xt P q2, sd_xt H q3, sd_xt M q4, sd_xt J q5, sd_xt V q6, sd_xt A q7, sd_xt B q8, be, sd_xt U q9)) : wpX_lay post (nI R, nI L, nI n, T, D, bk, p1, p2, p3, wd, kd, kc, jn, ax, ay, sX, ty, ig, ol, rO, dX, sa, ls, fX, tu, tx, iX, bX, tX, eX, sd_xt G q0, sd_xt C q1, sd_xt P q2, sd_xt H q3, sd_xt M q4, sd_xt J q5, sd_xt V q6, sd_xt A q7, sd_xt B q8, be, sd_xt U q9) :=
  ⟨13, sd_lay2 hK 12 0 13 iX bX eX (by omega) (by omega) (fun l h => by omega) (fun l h => by omega) k⟩
end
end
section
/-! items: what holds of them, and going along them -/
def sd_pg (kd kc ig ol G : Nat → Int32) (l : Nat) : Nat → Bool := fun i => sd_ig kd kc ig ol l (G i).toNatClampNeg
def sd_it (G C P M J : Nat → Int32) (k : Nat) : Prop := vp_in (G k) 48 ∧ vp_in (C k) 16 ∧ vp_in (P k) 3 ∧ vp_in (M k) 256 ∧ vp_in (J k) 4096
def sd_inv (n : Nat) (G C P M J : Nat → Int32) : Prop := n ≤ 32 ∧ (∀ k, k < n → sd_it G C P M J k) ∧ (∀ i j, i ≤ j → j < n → C i ≤ C j)
def sd_oa (M ls : Nat → Int32) (l k : Nat) : Nat → Bool
  | 0 => false
  | f + 1 => sd_oa M ls l k f || (bt (M k) f && bt (ls f) l)
def sd_op (kd kc ig ol G M ls : Nat → Int32) (l k : Nat) : Bool := sd_oa M ls l k 8 && !(sd_pg kd kc ig ol G l k)
def sd_tk (sY G : Nat → Int32) (v q : Int32) : Bool := decide (¬ q < 0) && sd_mt sY v (G q.toNatClampNeg).toNatClampNeg
/-- a place: none, or within -/
def sd_q (n : Nat) (q : Int32) : Prop := q = -1 ∨ ∃ k, k < n ∧ q = nI k
def sd_n2 (p : Nat → Bool) (n k : Nat) : Int32 := if sd_nx p n k < 0 then -1 else sd_nx p n (sd_nx p n k).toNatClampNeg
theorem sd_q_nx (p : Nat → Bool) (n k : Nat) : sd_q n (sd_nx p n k) := by
  rcases sd_nx_or p n k with e | ⟨j, -, h, -, e⟩
  · exact Or.inl e
  · exact Or.inr ⟨j, h, e⟩
theorem sd_q_dn (p : Nat → Bool) {n k : Nat} (hk : k ≤ n) : sd_q n (sd_dn p k) := by
  rcases sd_dn_or p k with e | ⟨j, h, -, e⟩
  · exact Or.inl e
  · exact Or.inr ⟨j, by omega, e⟩
theorem sd_q_n2 (p : Nat → Bool) (n k : Nat) : sd_q n (sd_n2 p n k) := by
  unfold sd_n2
  by_cases h : sd_nx p n k < 0
  · rw [if_pos h]; exact Or.inl rfl
  · rw [if_neg h]; exact sd_q_nx p n _
theorem sd_tk_nI {sY G : Nat → Int32} {v : Int32} {k : Nat} (hk : k < 2 ^ 31) : sd_tk sY G v (nI k) = sd_mt sY v (G k).toNatClampNeg := by
  unfold sd_tk
  rw [decide_eq_true (nI_pos hk), nI_clamp hk]
  rfl
theorem sd_tk_m1 {sY G : Nat → Int32} {v : Int32} : sd_tk sY G v (-1) = false := by
  unfold sd_tk
  rw [decide_eq_false (fun z => z sd_m1lt)]
  rfl
theorem sd_tk_ge {sY G : Nat → Int32} {v q : Int32} (h : sd_tk sY G v q = true) : ¬ q < 0 := by
  unfold sd_tk at h
  by_cases z : q < 0
  · rw [decide_eq_false (fun w => w z)] at h; cases h
  · exact z
theorem sd_b_or1 (b : Bool) : sd_b b ||| 1 = sd_b (b || true) := by cases b <;> decide
theorem sd_b_or0 (b : Bool) : sd_b b ||| 0 = sd_b (b || false) := by cases b <;> decide
section
variable {R L n : Nat} {T D bk p1 p2 p3 : Int32} {wd kd kc jn ax ay ty ig ol rO dX sa ls fX tu tx eX G C P H M J V A B be U sY fY yA yB yC yD y1 y2 : Nat → Int32} {sX iX bX tX : Nat → Int64} {q0 q1 q2 q3 q4 q5 q6 q7 q8 q9 : Int32}
theorem sd_xig {post : Int32 → Prop} {l i : Nat} (hL : sd_L R kd kc ig ol ty rO sa sY ls eX iX bX tX) (hl : l < 12) (hi : i < 33) (hG : vp_in (G i) 48) (k : post (sd_b (sd_pg kd kc ig ol G l i))) : wpX_has post (iX (nI l).toNatClampNeg) (sd_xt G q0 (nI i).toNatClampNeg) := by
  rw [sd_nr hi, show (nI l).toNatClampNeg = l from nI_clamp (by omega)]
  refine sd_hasB hG (by decide) ?_
  rw [hL.1 l hl _ (sd_cl hG)]
  exact k
theorem sd_yig {post : Int32 → Prop} {l i : Nat} (hK : sd_K R L bk kd kc jn ty ig rO yA yB yC yD y1 y2 sa dX sY fX fY tx sX) (hl : l < 12) (hi : i < 33) (hG : vp_in (G i) 48) (k : post (sd_b (sd_pg kd kc ig ol G l i))) : wpY_isIgnored post (nI R, nI L, nI n, D, T, bk, wd, kd, kc, jn, sY, ax, ay, ty, ig, ol, ls, fY, tu, rO, yA, yB, yC, yD, y1, y2, tx, G, C, M, J, P, V, A, B, H, U) (nI l) (nI i) := by
  have cl : (nI l).toNatClampNeg = l := nI_clamp (by omega)
  have vl : vp_in (nI l) 12 := vp_in_nI hl (by decide)
  have vi : vp_in (nI i) 33 := vp_in_nI hi (by decide)
  have hkd := (hK.gl _ (sd_cl hG)).1
  have kk : ∀ b, b = sd_ig kd kc ig ol l (G i).toNatClampNeg → post (sd_b b) := fun b e => by rw [e]; exact k
  have k37 : (decide (¬ kd (G i).toNatClampNeg ≤ 0) && bt (ig l) (kd (G i).toNatClampNeg - 1).toNatClampNeg) = false → wY_isIgnored_37 post (nI l) (G i) (kd (G i).toNatClampNeg) (nI R) (nI L) (nI n) D T bk wd kd kc jn sY ax ay ty ig ol ls fY tu rO yA yB yC yD y1 y2 tx G C M J P V A B H U := by
    intro h0
    by_cases c1 : kd (G i).toNatClampNeg = 3
    · by_cases c2 : ol l < 0
      · exact br_t c1 ⟨vl, br_t (by rw [cl]; exact c2) (kk false (by unfold sd_ig; rw [h0]; simp [c2]))⟩
      · by_cases c3 : ol l = kc (G i).toNatClampNeg
        · exact br_t c1 ⟨vl, br_f (by rw [cl]; exact c2) ⟨vl, hG, br_t (by rw [cl]; exact c3) (kk false (by unfold sd_ig; rw [h0]; simp [c3]))⟩⟩
        · exact br_t c1 ⟨vl, br_f (by rw [cl]; exact c2) ⟨vl, hG, br_f (by rw [cl]; exact c3) (kk true (by unfold sd_ig; rw [decide_eq_true c1, decide_eq_true c2, decide_eq_true c3]; simp))⟩⟩
    · exact br_f c1 (kk false (by unfold sd_ig; rw [h0, decide_eq_false c1]; simp))
  refine And.intro vi (nm_r (sd_yr (by omega)) ⟨hG, nm_e ?_⟩)
  by_cases c0 : kd (G i).toNatClampNeg ≤ 0
  · exact br_t c0 (k37 (by rw [decide_eq_false (fun z => z c0)]; simp))
  · obtain ⟨j, hj, e1, e2⟩ := sd_kd1 hkd c0
    refine br_f c0 ⟨vl, ?_⟩
    have hh : (((ig (nI l).toNatClampNeg) >>> ((kd (G i).toNatClampNeg - 1) &&& 31)) &&& 1) = 1 ↔ bt (ig l) (kd (G i).toNatClampNeg - 1).toNatClampNeg = true := by
      rw [cl, e2, e1]; exact sd_hasI (by omega)
    cases hb : bt (ig l) (kd (G i).toNatClampNeg - 1).toNatClampNeg
    · exact br_f (fun z => by rw [hh, hb] at z; cases z) (k37 (by rw [hb]; simp))
    · exact br_t (hh.mpr hb) (kk true (by unfold sd_ig; rw [hb, decide_eq_true c0]; simp))
theorem sd_up_t {p : Nat → Bool} {d i : Nat} (h : p i = true) : sd_up p (d + 1) i = sd_up p d (i + 1) := if_pos h
theorem sd_up_f {p : Nat → Bool} {d i : Nat} (h : p i = false) : sd_up p (d + 1) i = i := if_neg (by rw [h]; decide)
theorem sd_dn_t {p : Nat → Bool} {i : Nat} (h : p i = true) : sd_dn p (i + 1) = sd_dn p i := if_pos h
theorem sd_dn_f {p : Nat → Bool} {i : Nat} (h : p i = false) : sd_dn p (i + 1) = nI i := if_neg (by rw [h]; decide)
theorem sd_xnext4 {post : Int32 → Prop} {l : Nat} (hL : sd_L R kd kc ig ol ty rO sa sY ls eX iX bX tX) (hl : l < 12) (hn : n ≤ 32) (hG : ∀ k, k < n → vp_in (G k) 48) :
    ∀ (d i N : Nat), i + d = n → d < N → post (if sd_up (sd_pg kd kc ig ol G l) d i < n then nI (sd_up (sd_pg kd kc ig ol G l) d i) else -1) → wX_next_4 post (nI l) (nI R) (nI L) (nI n) T D bk p1 p2 p3 wd kd kc jn ax ay sX ty ig ol rO dX sa ls fX tu tx iX bX tX eX (sd_xt G q0) (sd_xt C q1) (sd_xt P q2) (sd_xt H q3) (sd_xt M q4) (sd_xt J q5) (sd_xt V q6) (sd_xt A q7) (sd_xt B q8) be (sd_xt U q9) N (nI i) := by
  intro d
  induction d with
  | zero =>
    intro i N hi hN k
    obtain ⟨N, rfl⟩ : ∃ N', N = N' + 1 := ⟨N - 1, by omega⟩
    have e : nI n ≤ nI i := nI_le (by omega) (by omega)
    rw [if_neg (show ¬ sd_up (sd_pg kd kc ig ol G l) 0 i < n by unfold sd_up; omega)] at k
    exact br_t e (br_t e k)
  | succ d ih =>
    intro i N hi hN k
    obtain ⟨N, rfl⟩ : ∃ N', N = N' + 1 := ⟨N - 1, by omega⟩
    have e : ¬ nI n ≤ nI i := nI_ge (by omega) (by omega)
    refine br_f e ⟨vp_in_nI hl (by decide), vp_in_nI (by omega) (by decide), sd_xig hL hl (by omega) (hG i (by omega)) (sd_b_br (fun q => ?_) (fun q => ?_))⟩
    · rw [sd_up_f q, if_pos (by omega)] at k
      exact br_f e k
    · rw [sd_up_t q] at k
      exact nm_r (nI_1 i) (ih (i + 1) N (by omega) (by omega) k)
theorem sd_ynext4 {post : Int32 → Prop} {l : Nat} (hK : sd_K R L bk kd kc jn ty ig rO yA yB yC yD y1 y2 sa dX sY fX fY tx sX) (hl : l < 12) (hn : n ≤ 32) (hG : ∀ k, k < n → vp_in (G k) 48) :
    ∀ (d i N : Nat), i + d = n → d < N → post (if sd_up (sd_pg kd kc ig ol G l) d i < n then nI (sd_up (sd_pg kd kc ig ol G l) d i) else -1) → wY_next_4 post (nI l) (nI R) (nI L) (nI n) D T bk wd kd kc jn sY ax ay ty ig ol ls fY tu rO yA yB yC yD y1 y2 tx G C M J P V A B H U N (nI i) := by
  intro d
  induction d with
  | zero =>
    intro i N hi hN k
    obtain ⟨N, rfl⟩ : ∃ N', N = N' + 1 := ⟨N - 1, by omega⟩
    have e : nI n ≤ nI i := nI_le (by omega) (by omega)
    rw [if_neg (show ¬ sd_up (sd_pg kd kc ig ol G l) 0 i < n by unfold sd_up; omega)] at k
    exact br_t e (br_t e k)
  | succ d ih =>
    intro i N hi hN k
    obtain ⟨N, rfl⟩ : ∃ N', N = N' + 1 := ⟨N - 1, by omega⟩
    have e : ¬ nI n ≤ nI i := nI_ge (by omega) (by omega)
    refine br_f e (sd_yig hK hl (by omega) (hG i (by omega)) (sd_b_br (fun q => ?_) (fun q => ?_)))
    · rw [sd_up_f q, if_pos (by omega)] at k
      exact br_f e k
    · rw [sd_up_t q] at k
      exact nm_r (nI_1 i) (ih (i + 1) N (by omega) (by omega) k)
theorem sd_xnext {post : Int32 → Prop} {l k : Nat} (hL : sd_L R kd kc ig ol ty rO sa sY ls eX iX bX tX) (hl : l < 12) (hn : n ≤ 32) (hG : ∀ k, k < n → vp_in (G k) 48) (hk : k < n) (kk : post (sd_nx (sd_pg kd kc ig ol G l) n k)) : wpX_next post (nI R, nI L, nI n, T, D, bk, p1, p2, p3, wd, kd, kc, jn, ax, ay, sX, ty, ig, ol, rO, dX, sa, ls, fX, tu, tx, iX, bX, tX, eX, sd_xt G q0, sd_xt C q1, sd_xt P q2, sd_xt H q3, sd_xt M q4, sd_xt J q5, sd_xt V q6, sd_xt A q7, sd_xt B q8, be, sd_xt U q9) (nI l) (nI k) :=
  nm_r (nI_1 k) ⟨n - (k + 1) + 1, sd_xnext4 hL hl hn hG (n - (k + 1)) (k + 1) _ (by omega) (by omega) kk⟩
theorem sd_ynext {post : Int32 → Prop} {l k : Nat} (hK : sd_K R L bk kd kc jn ty ig rO yA yB yC yD y1 y2 sa dX sY fX fY tx sX) (hl : l < 12) (hn : n ≤ 32) (hG : ∀ k, k < n → vp_in (G k) 48) (hk : k < n) (kk : post (sd_nx (sd_pg kd kc ig ol G l) n k)) : wpY_next post (nI R, nI L, nI n, D, T, bk, wd, kd, kc, jn, sY, ax, ay, ty, ig, ol, ls, fY, tu, rO, yA, yB, yC, yD, y1, y2, tx, G, C, M, J, P, V, A, B, H, U) (nI l) (nI k) :=
  nm_r (nI_1 k) ⟨n - (k + 1) + 1, sd_ynext4 hK hl hn hG (n - (k + 1)) (k + 1) _ (by omega) (by omega) kk⟩
theorem sd_xprior4 {post : Int32 → Prop} {l : Nat} (hL : sd_L R kd kc ig ol ty rO sa sY ls eX iX bX tX) (hl : l < 12) (hn : n ≤ 32) (hG : ∀ k, k < n → vp_in (G k) 48) :
    ∀ (i N : Nat), i ≤ n → i < N → post (sd_dn (sd_pg kd kc ig ol G l) i) → wX_prior_4 post (nI l) (nI R) (nI L) (nI n) T D bk p1 p2 p3 wd kd kc jn ax ay sX ty ig ol rO dX sa ls fX tu tx iX bX tX eX (sd_xt G q0) (sd_xt C q1) (sd_xt P q2) (sd_xt H q3) (sd_xt M q4) (sd_xt J q5) (sd_xt V q6) (sd_xt A q7) (sd_xt B q8) be (sd_xt U q9) N (nI i - 1) := by
  intro i
  induction i with
  | zero =>
    intro N hi hN k
    obtain ⟨N, rfl⟩ : ∃ N', N = N' + 1 := ⟨N - 1, by omega⟩
    exact br_t (by decide) k
  | succ i ih =>
    intro N hi hN k
    obtain ⟨N, rfl⟩ : ∃ N', N = N' + 1 := ⟨N - 1, by omega⟩
    rw [nI_pred]
    refine br_f (nI_pos (by omega)) ⟨vp_in_nI hl (by decide), vp_in_nI (by omega) (by decide), sd_xig hL hl (by omega) (hG i (by omega)) (sd_b_br (fun q => ?_) (fun q => ?_))⟩
    · rw [sd_dn_f q] at k
      exact k
    · rw [sd_dn_t q] at k
      exact nm_r (e' := nI i - 1) (Int32.sub_eq_add_neg _ _).symm (ih N (by omega) (by omega) k)
theorem sd_yprior4 {post : Int32 → Prop} {l : Nat} (hK : sd_K R L bk kd kc jn ty ig rO yA yB yC yD y1 y2 sa dX sY fX fY tx sX) (hl : l < 12) (hn : n ≤ 32) (hG : ∀ k, k < n → vp_in (G k) 48) :
    ∀ (i N : Nat), i ≤ n → i < N → post (sd_dn (sd_pg kd kc ig ol G l) i) → wY_before_4 post (nI l) (nI R) (nI L) (nI n) D T bk wd kd kc jn sY ax ay ty ig ol ls fY tu rO yA yB yC yD y1 y2 tx G C M J P V A B H U N (nI i - 1) := by
  intro i
  induction i with
  | zero =>
    intro N hi hN k
    obtain ⟨N, rfl⟩ : ∃ N', N = N' + 1 := ⟨N - 1, by omega⟩
    exact br_t (by decide) k
  | succ i ih =>
    intro N hi hN k
    obtain ⟨N, rfl⟩ : ∃ N', N = N' + 1 := ⟨N - 1, by omega⟩
    rw [nI_pred]
    refine br_f (nI_pos (by omega)) (sd_yig hK hl (by omega) (hG i (by omega)) (sd_b_br (fun q => ?_) (fun q => ?_)))
    · rw [sd_dn_f q] at k
      exact k
    · rw [sd_dn_t q] at k
      exact nm_r (e' := nI i - 1) (Int32.sub_eq_add_neg _ _).symm (ih N (by omega) (by omega) k)
theorem sd_xprior {post : Int32 → Prop} {l k : Nat} (hL : sd_L R kd kc ig ol ty rO sa sY ls eX iX bX tX) (hl : l < 12) (hn : n ≤ 32) (hG : ∀ k, k < n → vp_in (G k) 48) (hk : k ≤ n) (kk : post (sd_dn (sd_pg kd kc ig ol G l) k)) : wpX_prior post (nI R, nI L, nI n, T, D, bk, p1, p2, p3, wd, kd, kc, jn, ax, ay, sX, ty, ig, ol, rO, dX, sa, ls, fX, tu, tx, iX, bX, tX, eX, sd_xt G q0, sd_xt C q1, sd_xt P q2, sd_xt H q3, sd_xt M q4, sd_xt J q5, sd_xt V q6, sd_xt A q7, sd_xt B q8, be, sd_xt U q9) (nI l) (nI k) :=
  nm_e ⟨k + 1, sd_xprior4 hL hl hn hG k _ hk (by omega) kk⟩
theorem sd_yprior {post : Int32 → Prop} {l k : Nat} (hK : sd_K R L bk kd kc jn ty ig rO yA yB yC yD y1 y2 sa dX sY fX fY tx sX) (hl : l < 12) (hn : n ≤ 32) (hG : ∀ k, k < n → vp_in (G k) 48) (hk : k ≤ n) (kk : post (sd_dn (sd_pg kd kc ig ol G l) k)) : wpY_before post (nI R, nI L, nI n, D, T, bk, wd, kd, kc, jn, sY, ax, ay, ty, ig, ol, ls, fY, tu, rO, yA, yB, yC, yD, y1, y2, tx, G, C, M, J, P, V, A, B, H, U) (nI l) (nI k) :=
  nm_e ⟨k + 1, sd_yprior4 hK hl hn hG k _ hk (by omega) kk⟩
theorem sd_oa_f {l k : Nat} : ∀ m, sd_oa M ls l k m = false ↔ ∀ f, f < m → (bt (M k) f && bt (ls f) l) = false := by
  intro m
  induction m with
  | zero => exact ⟨fun _ f hf => by omega, fun _ => rfl⟩
  | succ m ih =>
    unfold sd_oa
    rw [Bool.or_eq_false_iff, ih]
    constructor
    · intro h f hf
      by_cases e : f = m
      · rw [e]; exact h.2
      · exact h.1 f (by omega)
    · intro h
      exact ⟨fun f hf => h f (by omega), h m (by omega)⟩
theorem sd_oa_and {l k : Nat} (hL : sd_L R kd kc ig ol ty rO sa sY ls eX iX bX tX) (hl : l < 12) : (M k &&& eX l) = 0 ↔ sd_oa M ls l k 8 = false := by
  rw [sd_oa_f]
  have hf := hL.2.2.2 l hl
  constructor
  · intro h f hf8
    have e : bt (M k &&& eX l) f = false := by rw [h]; exact b_0 f
    rw [b_and, hf f (by omega), decide_eq_true hf8] at e
    exact e
  · intro h
    apply b_ext
    intro i hi
    rw [b_and, hf i hi, b_0]
    by_cases e : i < 8
    · rw [decide_eq_true e, Bool.true_and]; exact h i e
    · rw [decide_eq_false e]; simp
theorem sd_xopen {post : Int32 → Prop} {l k : Nat} (hL : sd_L R kd kc ig ol ty rO sa sY ls eX iX bX tX) (hl : l < 12) (hk : k < 33) (hG : vp_in (G k) 48) (kk : post (sd_b (sd_op kd kc ig ol G M ls l k))) : wpX_isOpen post (nI R, nI L, nI n, T, D, bk, p1, p2, p3, wd, kd, kc, jn, ax, ay, sX, ty, ig, ol, rO, dX, sa, ls, fX, tu, tx, iX, bX, tX, eX, sd_xt G q0, sd_xt C q1, sd_xt P q2, sd_xt H q3, sd_xt M q4, sd_xt J q5, sd_xt V q6, sd_xt A q7, sd_xt B q8, be, sd_xt U q9) (nI l) (nI k) := by
  have cl : (nI l).toNatClampNeg = l := nI_clamp (by omega)
  have vl : vp_in (nI l) 12 := vp_in_nI hl (by decide)
  have vk : vp_in (nI k) 34 := vp_in_nI (by omega) (by decide)
  have e : ((sd_xt M q4 (nI k).toNatClampNeg) &&& (eX (nI l).toNatClampNeg)) = 0 ↔ sd_oa M ls l k 8 = false := by rw [sd_nr hk, cl]; exact sd_oa_and hL hl
  unfold sd_op at kk
  refine And.intro vk (And.intro vl ?_)
  cases h : sd_oa M ls l k 8
  · rw [h] at kk
    exact br_t (e.mpr h) kk
  · rw [h] at kk
    refine br_f (fun z => by rw [e, h] at z; cases z) ⟨vl, vk, sd_xig hL hl hk hG (sd_b_br (fun q => ?_) (fun q => ?_))⟩
    · rw [q] at kk; exact kk
    · rw [q] at kk; exact kk
theorem sd_yopen5 {post : Int32 → Prop} {l k : Nat} (hK : sd_K R L bk kd kc jn ty ig rO yA yB yC yD y1 y2 sa dX sY fX fY tx sX) (hl : l < 12) (hk : k < 33) (hG : vp_in (G k) 48) (kk : post (sd_b (sd_op kd kc ig ol G M ls l k))) :
    ∀ (d f N : Nat), f + d = 8 → d < N → wY_isOpen_5 post (nI l) (nI k) (nI R) (nI L) (nI n) D T bk wd kd kc jn sY ax ay ty ig ol ls fY tu rO yA yB yC yD y1 y2 tx G C M J P V A B H U N (sd_b (sd_oa M ls l k f)) (nI f) := by
  have cl : (nI l).toNatClampNeg = l := nI_clamp (by omega)
  have ck : (nI k).toNatClampNeg = k := nI_clamp (by omega)
  have vk : vp_in (nI k) 33 := vp_in_nI (by omega) (by decide)
  intro d
  induction d with
  | zero =>
    intro f N hf hN
    obtain ⟨N, rfl⟩ : ∃ N', N = N' + 1 := ⟨N - 1, by omega⟩
    obtain rfl : f = 8 := by omega
    unfold sd_op at kk
    refine br_t (by decide) (sd_b_br (fun h => ?_) (fun h => ?_))
    · rw [h] at kk; exact kk
    · rw [h] at kk
      refine sd_yig hK hl hk hG (sd_b_br (fun q => ?_) (fun q => ?_))
      · rw [q] at kk; exact kk
      · rw [q] at kk; exact kk
  | succ d ih =>
    intro f N hf hN
    obtain ⟨N, rfl⟩ : ∃ N', N = N' + 1 := ⟨N - 1, by omega⟩
    have cf : (nI f).toNatClampNeg = f := nI_clamp (by omega)
    have e1 : (((M (nI k).toNatClampNeg) >>> (nI f &&& 31)) &&& 1) = 1 ↔ bt (M k) f = true := by rw [ck]; exact sd_hasI (by omega)
    have e2 : (((ls (nI f).toNatClampNeg) >>> (nI l &&& 31)) &&& 1) = 1 ↔ bt (ls f) l = true := by rw [cf]; exact sd_hasI (by omega)
    have nx := ih (f + 1) N (by omega) (by omega)
    unfold sd_oa at nx
    refine br_f (nI_ge (b := 8) (by omega) (by decide)) ⟨vk, ?_⟩
    cases h1 : bt (M k) f
    · rw [h1, Bool.false_and] at nx
      exact br_f (fun z => by rw [e1, h1] at z; cases z) (nm_r (sd_b_or0 _) (nm_r (nI_1 f) nx))
    · refine br_t (e1.mpr h1) ⟨vp_in_nI (by omega) (by decide), ?_⟩
      cases h2 : bt (ls f) l
      · rw [h2, Bool.and_false] at nx
        exact br_f (fun z => by rw [e2, h2] at z; cases z) (nm_r (sd_b_or0 _) (nm_r (nI_1 f) nx))
      · rw [h1, h2, Bool.and_true] at nx
        exact br_t (e2.mpr h2) (nm_r (sd_b_or1 _) (nm_r (nI_1 f) nx))
theorem sd_yopen {post : Int32 → Prop} {l k : Nat} (hK : sd_K R L bk kd kc jn ty ig rO yA yB yC yD y1 y2 sa dX sY fX fY tx sX) (hl : l < 12) (hk : k < 33) (hG : vp_in (G k) 48) (kk : post (sd_b (sd_op kd kc ig ol G M ls l k))) : wpY_isOpen post (nI R, nI L, nI n, D, T, bk, wd, kd, kc, jn, sY, ax, ay, ty, ig, ol, ls, fY, tu, rO, yA, yB, yC, yD, y1, y2, tx, G, C, M, J, P, V, A, B, H, U) (nI l) (nI k) :=
  ⟨9, sd_yopen5 hK hl hk hG kk 8 0 9 (by omega) (by omega)⟩
theorem sd_xtk {post : Int32 → Prop} {r : Nat} {v q : Int32} (j : Nat) (hL : sd_L R kd kc ig ol ty rO sa sY ls eX iX bX tX) (hR : R ≤ 40) (hr : r < R) (hj : j < 4) (hv : sa (4 * r + j) = v) (hn : n ≤ 32) (hG : ∀ k, k < n → vp_in (G k) 48) (hq : sd_q n q) (k : post (sd_b (sd_tk sY G v q))) : wpX_isTaken post (nI R, nI L, nI n, T, D, bk, p1, p2, p3, wd, kd, kc, jn, ax, ay, sX, ty, ig, ol, rO, dX, sa, ls, fX, tu, tx, iX, bX, tX, eX, sd_xt G q0, sd_xt C q1, sd_xt P q2, sd_xt H q3, sd_xt M q4, sd_xt J q5, sd_xt V q6, sd_xt A q7, sd_xt B q8, be, sd_xt U q9) (nI r) (nI j) q := by
  have ci : ((4 * nI r) + nI j).toNatClampNeg = 4 * r + j := by rw [sd_i4]; exact nI_clamp (by omega)
  have vi : vp_in ((4 * nI r) + nI j) 160 := by rw [sd_i4]; exact vp_in_nI (by omega) (by decide)
  rcases hq with e | ⟨m, hm, e⟩
  · subst e
    rw [sd_tk_m1] at k
    exact br_t sd_m1lt k
  · subst e
    rw [sd_tk_nI (by omega)] at k
    refine br_f (nI_pos (by omega)) ⟨vi, vp_in_nI (by omega) (by decide), ?_⟩
    rw [ci, sd_nr (by omega)]
    refine sd_hasB (hG m hm) (by decide) ?_
    rw [hL.2.1 r hr j hj _ (sd_cl (hG m hm)), hv]
    refine sd_b_br (fun e => ?_) (fun e => ?_)
    · rw [e] at k; exact k
    · rw [e] at k; exact k
theorem sd_ymt {post : Int32 → Prop} {v q : Int32} (hv : vp_in v 56) (hn : n ≤ 32) (hG : ∀ k, k < n → vp_in (G k) 48) (hq : sd_q n q) (k : post (sd_b (sd_tk sY G v q))) : wpY_matches post (nI R, nI L, nI n, D, T, bk, wd, kd, kc, jn, sY, ax, ay, ty, ig, ol, ls, fY, tu, rO, yA, yB, yC, yD, y1, y2, tx, G, C, M, J, P, V, A, B, H, U) v q := by
  rcases hq with e | ⟨m, hm, e⟩
  · subst e
    rw [sd_tk_m1] at k
    exact br_t sd_m1lt k
  · subst e
    rw [sd_tk_nI (by omega)] at k
    have cm : (nI m).toNatClampNeg = m := nI_clamp (by omega)
    have h0 : 0 ≤ v := sd_in_ge hv
    obtain ⟨i, hi, rfl⟩ := vp_in_of hv (by decide)
    have h55 : nI i ≤ 55 := nI_le (b := 55) (by omega) (by decide)
    have vm : vp_in (nI m) 33 := vp_in_nI (by omega) (by decide)
    unfold sd_mt at k
    rw [decide_eq_true h0, decide_eq_true h55, Bool.true_and, Bool.true_and] at k
    refine br_f (nI_pos (by omega)) ?_
    by_cases h48 : 48 ≤ nI i
    · have i48 : 48 ≤ i := (nI_leI (a := 48) (by decide) (by omega)).mp h48
      have e : nI i - 48 = nI (i - 48) := pk_sub (a := i) (b := 48) i48
      have c : (nI i - 48).toNatClampNeg = i - 48 := by rw [e]; exact nI_clamp (by omega)
      rw [if_pos h48, c] at k
      have hh : (((sY (G (nI m).toNatClampNeg).toNatClampNeg) >>> ((nI i - 48) &&& 31)) &&& 1) = 1 ↔ bt (sY (G m).toNatClampNeg) (i - 48) = true := by rw [cm, e]; exact sd_hasI (by omega)
      refine br_t h48 ⟨vm, by rw [cm]; exact hG m hm, ?_⟩
      cases hb : bt (sY (G m).toNatClampNeg) (i - 48)
      · rw [hb] at k
        exact br_f (fun z => by rw [hh, hb] at z; cases z) k
      · rw [hb] at k
        exact br_t (hh.mpr hb) k
    · rw [if_neg h48] at k
      refine br_f h48 ⟨vm, ?_⟩
      have e : nI (G m).toNatClampNeg = G m := sd_nIc (hG m hm) (by decide)
      rw [e] at k
      by_cases g : G m = nI i
      · rw [decide_eq_true g.symm] at k
        exact br_t (by rw [cm]; exact g) k
      · rw [decide_eq_false (fun z => g z.symm)] at k
        exact br_f (by rw [cm]; exact g) k
theorem sd_ymay {post : Int32 → Prop} {v q : Int32} (hv : v = -1 ∨ vp_in v 56) (hn : n ≤ 32) (hG : ∀ k, k < n → vp_in (G k) 48) (hq : sd_q n q) (k : post (sd_b (decide (v < 0) || sd_tk sY G v q))) : wpY_may post (nI R, nI L, nI n, D, T, bk, wd, kd, kc, jn, sY, ax, ay, ty, ig, ol, ls, fY, tu, rO, yA, yB, yC, yD, y1, y2, tx, G, C, M, J, P, V, A, B, H, U) v q := by
  rcases hv with e | e
  · subst e
    exact br_t sd_m1lt k
  · rw [decide_eq_false (sd_in_nn e), Bool.false_or] at k
    refine br_f (sd_in_nn e) (sd_ymt e hn hG hq (sd_b_br (fun z => ?_) (fun z => ?_)))
    · rw [z] at k; exact k
    · rw [z] at k; exact k
end
end
section
def sd_c (v : Int32) : Nat := if v < 0 then 0 else 1
theorem sd_c_le (v : Int32) : sd_c v ≤ 1 := by unfold sd_c; split <;> omega
theorem sd_lt32 {m : Nat} (hm : m < 2 ^ 31) : (32 : Int32) < nI m ↔ 32 < m := nI_ltI (a := 32) (by decide) hm
theorem sd_add_m1 {n s : Nat} (hn : 0 < n) : nI n + (nI s - 1) = nI (n + s - 1) := by
  rw [Int32.sub_eq_add_neg, ← Int32.add_assoc, ← Int32.sub_eq_add_neg, nI_add]
  exact pk_sub (a := n + s) (b := 1) (by omega)
/-- what a rule that fits gives: room; the places that it found -/
def sd_FF (t b c : Int32) (n : Nat) (x x2 : Int32) : Prop := (t = 1 → n + sd_c b + sd_c c ≤ 33) ∧ (t = 2 → ¬ x < 0 ∧ (c < 0 ∨ ¬ x2 < 0)) ∧ (t = 3 → c < 0 ∨ ¬ x < 0)
def sd_s2 (t c x : Int32) : Int32 := if t = 2 then x else if t = 3 ∨ t = 4 then (if c < 0 then -1 else x) else -1
def sd_s3 (t c x2 : Int32) : Int32 := if t = 2 then (if c < 0 then -1 else x2) else -1
theorem sd_n2_of {p : Nat → Bool} {n k j : Nat} (e : sd_nx p n k = nI j) (hj : j < 2 ^ 31) : sd_n2 p n k = sd_nx p n j := by
  unfold sd_n2
  rw [e, if_neg (nI_pos hj), nI_clamp hj]
section
variable {R L n : Nat} {T D bk p1 p2 p3 : Int32} {wd kd kc jn ax ay ty ig ol rO dX sa ls fX tu tx eX G C P H M J V A B be U sY fY yA yB yC yD y1 y2 : Nat → Int32} {sX iX bX tX : Nat → Int64} {q0 q1 q2 q3 q4 q5 q6 q7 q8 q9 : Int32}
theorem sd_xm0 {post : Int32 → SX → Prop} {r l k : Nat} (hK : sd_K R L bk kd kc jn ty ig rO yA yB yC yD y1 y2 sa dX sY fX fY tx sX) (hL : sd_L R kd kc ig ol ty rO sa sY ls eX iX bX tX) (hl : l < 12) (hn : n ≤ 32) (hG : ∀ k, k < n → vp_in (G k) 48) (hr : r < R) (hk : k < n) (ht : ty l = 0)
    (kk : post (sd_b (sd_tk sY G (yA r) (nI k))) (nI R, nI L, nI n, T, D, bk, nI k, -1, -1, wd, kd, kc, jn, ax, ay, sX, ty, ig, ol, rO, dX, sa, ls, fX, tu, tx, iX, bX, tX, eX, sd_xt G q0, sd_xt C q1, sd_xt P q2, sd_xt H q3, sd_xt M q4, sd_xt J q5, sd_xt V q6, sd_xt A q7, sd_xt B q8, be, sd_xt U q9)) : wpX_matches post (nI R, nI L, nI n, T, D, bk, p1, p2, p3, wd, kd, kc, jn, ax, ay, sX, ty, ig, ol, rO, dX, sa, ls, fX, tu, tx, iX, bX, tX, eX, sd_xt G q0, sd_xt C q1, sd_xt P q2, sd_xt H q3, sd_xt M q4, sd_xt J q5, sd_xt V q6, sd_xt A q7, sd_xt B q8, be, sd_xt U q9) (nI r) (nI l) (nI k) := by
  have cl : (nI l).toNatClampNeg = l := nI_clamp (by omega)
  have hR := hK.rl
  exact And.intro (vp_in_nI hl (by decide)) (nm_r (e' := 0) (by rw [cl]; exact ht) (br_f (by decide) (br_f (by decide) (br_t rfl (sd_xtk 0 hL hR hr (by decide) (hK.sy r (by omega)).1 hn hG (Or.inr ⟨k, hk, rfl⟩) ⟨sd_b_n _, kk⟩)))))
theorem sd_xm1 {post : Int32 → SX → Prop} {r l k : Nat} (hK : sd_K R L bk kd kc jn ty ig rO yA yB yC yD y1 y2 sa dX sY fX fY tx sX) (hL : sd_L R kd kc ig ol ty rO sa sY ls eX iX bX tX) (hl : l < 12) (hn : n ≤ 32) (hG : ∀ k, k < n → vp_in (G k) 48) (hr : r < R) (hk : k < n) (ht : ty l = 1)
    (kk : post (sd_b (sd_tk sY G (yA r) (nI k) && decide (n + sd_c (yB r) + sd_c (yC r) ≤ 33))) (nI R, nI L, nI n, T, D, bk, nI k, -1, -1, wd, kd, kc, jn, ax, ay, sX, ty, ig, ol, rO, dX, sa, ls, fX, tu, tx, iX, bX, tX, eX, sd_xt G q0, sd_xt C q1, sd_xt P q2, sd_xt H q3, sd_xt M q4, sd_xt J q5, sd_xt V q6, sd_xt A q7, sd_xt B q8, be, sd_xt U q9)) : wpX_matches post (nI R, nI L, nI n, T, D, bk, p1, p2, p3, wd, kd, kc, jn, ax, ay, sX, ty, ig, ol, rO, dX, sa, ls, fX, tu, tx, iX, bX, tX, eX, sd_xt G q0, sd_xt C q1, sd_xt P q2, sd_xt H q3, sd_xt M q4, sd_xt J q5, sd_xt V q6, sd_xt A q7, sd_xt B q8, be, sd_xt U q9) (nI r) (nI l) (nI k) := by
  have cl : (nI l).toNatClampNeg = l := nI_clamp (by omega)
  have hR := hK.rl
  have m92 : ∀ b c : Nat, b ≤ 1 → c ≤ 1 → post (sd_b (sd_tk sY G (yA r) (nI k) && decide (n + b + c ≤ 33))) (nI R, nI L, nI n, T, D, bk, nI k, -1, -1, wd, kd, kc, jn, ax, ay, sX, ty, ig, ol, rO, dX, sa, ls, fX, tu, tx, iX, bX, tX, eX, sd_xt G q0, sd_xt C q1, sd_xt P q2, sd_xt H q3, sd_xt M q4, sd_xt J q5, sd_xt V q6, sd_xt A q7, sd_xt B q8, be, sd_xt U q9) → wX_matches_92 post (nI r) (nI k) (nI c) (nI b) (nI R) (nI L) (nI n) T D bk (nI k) (-1) (-1) wd kd kc jn ax ay sX ty ig ol rO dX sa ls fX tu tx iX bX tX eX (sd_xt G q0) (sd_xt C q1) (sd_xt P q2) (sd_xt H q3) (sd_xt M q4) (sd_xt J q5) (sd_xt V q6) (sd_xt A q7) (sd_xt B q8) be (sd_xt U q9) := by
    intro b c hb hc z
    refine nm_e (sd_xtk 0 hL hR hr (by decide) (hK.sy r (by omega)).1 hn hG (Or.inr ⟨k, hk, rfl⟩) (sd_b_br (fun e => ?_) (fun e => ?_)))
    · rw [e] at z; exact z
    · rw [e, Bool.true_and] at z
      have q : nI n + ((nI b + nI c) - 1) = nI (n + (b + c) - 1) := by rw [nI_add]; exact sd_add_m1 (by omega)
      by_cases h : n + b + c ≤ 33
      · rw [decide_eq_true h] at z
        exact br_f (by rw [q, sd_lt32 (by omega)]; omega) z
      · rw [decide_eq_false h] at z
        exact br_t (by rw [q, sd_lt32 (by omega)]; omega) z
  have i1 : ((4 * nI r) + 1).toNatClampNeg = 4 * r + 1 := by rw [show (4 * nI r) + 1 = nI (4 * r + 1) from sd_i4 r 1]; exact nI_clamp (by omega)
  have i2 : ((4 * nI r) + 2).toNatClampNeg = 4 * r + 2 := by rw [show (4 * nI r) + 2 = nI (4 * r + 2) from sd_i4 r 2]; exact nI_clamp (by omega)
  have v1 : vp_in ((4 * nI r) + 1) 160 := by rw [show (4 * nI r) + 1 = nI (4 * r + 1) from sd_i4 r 1]; exact vp_in_nI (by omega) (by decide)
  have v2 : vp_in ((4 * nI r) + 2) 160 := by rw [show (4 * nI r) + 2 = nI (4 * r + 2) from sd_i4 r 2]; exact vp_in_nI (by omega) (by decide)
  have sB : sa ((4 * nI r) + 1).toNatClampNeg = yB r := by rw [i1]; exact (hK.sy r (by omega)).2.1
  have sC : sa ((4 * nI r) + 2).toNatClampNeg = yC r := by rw [i2]; exact (hK.sy r (by omega)).2.2.1
  have m74 : ∀ b : Nat, b ≤ 1 → post (sd_b (sd_tk sY G (yA r) (nI k) && decide (n + b + sd_c (yC r) ≤ 33))) (nI R, nI L, nI n, T, D, bk, nI k, -1, -1, wd, kd, kc, jn, ax, ay, sX, ty, ig, ol, rO, dX, sa, ls, fX, tu, tx, iX, bX, tX, eX, sd_xt G q0, sd_xt C q1, sd_xt P q2, sd_xt H q3, sd_xt M q4, sd_xt J q5, sd_xt V q6, sd_xt A q7, sd_xt B q8, be, sd_xt U q9) → wX_matches_74 post (nI r) (nI k) (nI b) (nI R) (nI L) (nI n) T D bk (nI k) (-1) (-1) wd kd kc jn ax ay sX ty ig ol rO dX sa ls fX tu tx iX bX tX eX (sd_xt G q0) (sd_xt C q1) (sd_xt P q2) (sd_xt H q3) (sd_xt M q4) (sd_xt J q5) (sd_xt V q6) (sd_xt A q7) (sd_xt B q8) be (sd_xt U q9) := by
    intro b hb z
    refine And.intro v2 ?_
    by_cases h : yC r < 0
    · rw [show sd_c (yC r) = 0 from if_pos h] at z
      exact br_t (by rw [sC]; exact h) (m92 b 0 hb (by omega) z)
    · rw [show sd_c (yC r) = 1 from if_neg h] at z
      exact br_f (by rw [sC]; exact h) (m92 b 1 hb (by omega) z)
  refine And.intro (vp_in_nI hl (by decide)) (nm_r (e' := 1) (by rw [cl]; exact ht) (br_f (by decide) (br_f (by decide) (br_f (by decide) (br_t rfl ⟨v1, ?_⟩)))))
  by_cases h : yB r < 0
  · rw [show sd_c (yB r) = 0 from if_pos h] at kk
    exact br_t (by rw [sB]; exact h) (m74 0 (by omega) kk)
  · rw [show sd_c (yB r) = 1 from if_neg h] at kk
    exact br_f (by rw [sB]; exact h) (m74 1 (by omega) kk)
theorem sd_xm2 {post : Int32 → SX → Prop} {r l k : Nat} {bA bB bC : Bool} (hK : sd_K R L bk kd kc jn ty ig rO yA yB yC yD y1 y2 sa dX sY fX fY tx sX) (hL : sd_L R kd kc ig ol ty rO sa sY ls eX iX bX tX) (hl : l < 12) (hn : n ≤ 32) (hG : ∀ k, k < n → vp_in (G k) 48) (hr : r < R) (hk : k < n) (ht : ty l = 2)
    (hA : bA = sd_tk sY G (yA r) (nI k)) (hB : bB = sd_tk sY G (yB r) (sd_nx (sd_pg kd kc ig ol G l) n k)) (hC : bC = (decide (yC r < 0) || sd_tk sY G (yC r) (sd_n2 (sd_pg kd kc ig ol G l) n k)))
    (kk : ∀ p2' p3', ((bA && (bB && bC)) = true → p2' = sd_nx (sd_pg kd kc ig ol G l) n k ∧ p3' = if yC r < 0 then -1 else sd_n2 (sd_pg kd kc ig ol G l) n k) → post (sd_b (bA && (bB && bC))) (nI R, nI L, nI n, T, D, bk, nI k, p2', p3', wd, kd, kc, jn, ax, ay, sX, ty, ig, ol, rO, dX, sa, ls, fX, tu, tx, iX, bX, tX, eX, sd_xt G q0, sd_xt C q1, sd_xt P q2, sd_xt H q3, sd_xt M q4, sd_xt J q5, sd_xt V q6, sd_xt A q7, sd_xt B q8, be, sd_xt U q9)) : wpX_matches post (nI R, nI L, nI n, T, D, bk, p1, p2, p3, wd, kd, kc, jn, ax, ay, sX, ty, ig, ol, rO, dX, sa, ls, fX, tu, tx, iX, bX, tX, eX, sd_xt G q0, sd_xt C q1, sd_xt P q2, sd_xt H q3, sd_xt M q4, sd_xt J q5, sd_xt V q6, sd_xt A q7, sd_xt B q8, be, sd_xt U q9) (nI r) (nI l) (nI k) := by
  have cl : (nI l).toNatClampNeg = l := nI_clamp (by omega)
  have hR := hK.rl
  have k0 : ∀ p2' p3', (bA && (bB && bC)) = false → post 0 (nI R, nI L, nI n, T, D, bk, nI k, p2', p3', wd, kd, kc, jn, ax, ay, sX, ty, ig, ol, rO, dX, sa, ls, fX, tu, tx, iX, bX, tX, eX, sd_xt G q0, sd_xt C q1, sd_xt P q2, sd_xt H q3, sd_xt M q4, sd_xt J q5, sd_xt V q6, sd_xt A q7, sd_xt B q8, be, sd_xt U q9) := fun p2' p3' h => by
    have z := kk p2' p3' (fun q => by rw [h] at q; cases q)
    rw [h] at z; exact z
  have k1 : (bA && (bB && bC)) = true → post 1 (nI R, nI L, nI n, T, D, bk, nI k, sd_nx (sd_pg kd kc ig ol G l) n k, if yC r < 0 then -1 else sd_n2 (sd_pg kd kc ig ol G l) n k, wd, kd, kc, jn, ax, ay, sX, ty, ig, ol, rO, dX, sa, ls, fX, tu, tx, iX, bX, tX, eX, sd_xt G q0, sd_xt C q1, sd_xt P q2, sd_xt H q3, sd_xt M q4, sd_xt J q5, sd_xt V q6, sd_xt A q7, sd_xt B q8, be, sd_xt U q9) := fun h => by
    have z := kk _ _ (fun _ => ⟨rfl, rfl⟩)
    rw [h] at z; exact z
  have v2 : vp_in ((4 * nI r) + 2) 160 := by rw [show (4 * nI r) + 2 = nI (4 * r + 2) from sd_i4 r 2]; exact vp_in_nI (by omega) (by decide)
  have i2 : ((4 * nI r) + 2).toNatClampNeg = 4 * r + 2 := by rw [show (4 * nI r) + 2 = nI (4 * r + 2) from sd_i4 r 2]; exact nI_clamp (by omega)
  have sC : sa ((4 * nI r) + 2).toNatClampNeg = yC r := by rw [i2]; exact (hK.sy r (by omega)).2.2.1
  refine And.intro (vp_in_nI hl (by decide)) (nm_r (e' := 2) (by rw [cl]; exact ht) (br_f (by decide) (br_f (by decide) (br_f (by decide) (br_f (by decide) (br_t rfl ?_))))))
  refine sd_xtk 0 hL hR hr (by decide) (hK.sy r (by omega)).1 hn hG (Or.inr ⟨k, hk, rfl⟩) (sd_b_br (fun e => ?_) (fun e => ?_))
  · rw [← hA] at e
    exact k0 _ _ (by rw [e]; rfl)
  · rw [← hA] at e
    refine sd_xnext hL hl hn hG hk ?_
    refine sd_xtk 1 hL hR hr (by decide) (hK.sy r (by omega)).2.1 hn hG (sd_q_nx _ _ _) (sd_b_br (fun e2 => ?_) (fun e2 => ?_))
    · rw [← hB] at e2
      exact k0 _ _ (by rw [e2]; simp)
    · have ge := sd_tk_ge e2
      rw [← hB] at e2
      obtain ⟨j, hj, ej⟩ := (sd_q_nx (sd_pg kd kc ig ol G l) n k).resolve_left (fun z => ge (by rw [z]; exact sd_m1lt))
      refine And.intro v2 ?_
      by_cases h : yC r < 0
      · rw [if_pos h] at k1
        rw [decide_eq_true h, Bool.true_or] at hC
        exact br_f (by rw [sC]; exact Int32.not_le.mpr h) (k1 (by rw [e, e2, hC]; rfl))
      · rw [if_neg h] at k1
        rw [decide_eq_false h, Bool.false_or] at hC
        refine br_t (by rw [sC]; exact Int32.not_lt.mp h) ?_
        have n2 := sd_n2_of ej (by omega)
        rw [n2] at hC k1
        rw [ej] at k1 ⊢
        refine sd_xnext hL hl hn hG hj ?_
        refine sd_xtk 2 hL hR hr (by decide) (hK.sy r (by omega)).2.2.1 hn hG (sd_q_nx _ _ _) ⟨sd_b_n _, ?_⟩
        cases e3 : sd_tk sY G (yC r) (sd_nx (sd_pg kd kc ig ol G l) n j)
        · rw [e3] at hC
          exact k0 _ _ (by rw [hC]; simp)
        · rw [e3] at hC
          exact k1 (by rw [e, e2, hC]; rfl)
theorem sd_x108 {post : Int32 → SX → Prop} {r l m : Nat} {bD ch : Bool} {y : Int32} (hK : sd_K R L bk kd kc jn ty ig rO yA yB yC yD y1 y2 sa dX sY fX fY tx sX) (hL : sd_L R kd kc ig ol ty rO sa sY ls eX iX bX tX) (hl : l < 12) (hn : n ≤ 32) (hG : ∀ k, k < n → vp_in (G k) 48) (hr : r < R) (hm : m < n)
    (hy : sd_nx (sd_pg kd kc ig ol G l) n m = y) (hD : bD = (decide (yD r < 0) || sd_tk sY G (yD r) y)) (k1 : (!ch || bD) = true → post 1 (nI R, nI L, nI n, T, D, bk, p1, p2, p3, wd, kd, kc, jn, ax, ay, sX, ty, ig, ol, rO, dX, sa, ls, fX, tu, tx, iX, bX, tX, eX, sd_xt G q0, sd_xt C q1, sd_xt P q2, sd_xt H q3, sd_xt M q4, sd_xt J q5, sd_xt V q6, sd_xt A q7, sd_xt B q8, be, sd_xt U q9)) (k0 : (!ch || bD) = false → post 0 (nI R, nI L, nI n, T, D, bk, p1, p2, p3, wd, kd, kc, jn, ax, ay, sX, ty, ig, ol, rO, dX, sa, ls, fX, tu, tx, iX, bX, tX, eX, sd_xt G q0, sd_xt C q1, sd_xt P q2, sd_xt H q3, sd_xt M q4, sd_xt J q5, sd_xt V q6, sd_xt A q7, sd_xt B q8, be, sd_xt U q9)) : wX_around_108 post (nI r) (nI l) (sd_b ch) (nI m) (nI R) (nI L) (nI n) T D bk p1 p2 p3 wd kd kc jn ax ay sX ty ig ol rO dX sa ls fX tu tx iX bX tX eX (sd_xt G q0) (sd_xt C q1) (sd_xt P q2) (sd_xt H q3) (sd_xt M q4) (sd_xt J q5) (sd_xt V q6) (sd_xt A q7) (sd_xt B q8) be (sd_xt U q9) := by
  have hR := hK.rl
  have v3 : vp_in ((4 * nI r) + 3) 160 := by rw [show (4 * nI r) + 3 = nI (4 * r + 3) from sd_i4 r 3]; exact vp_in_nI (by omega) (by decide)
  have i3 : ((4 * nI r) + 3).toNatClampNeg = 4 * r + 3 := by rw [show (4 * nI r) + 3 = nI (4 * r + 3) from sd_i4 r 3]; exact nI_clamp (by omega)
  have sD : sa ((4 * nI r) + 3).toNatClampNeg = yD r := by rw [i3]; exact (hK.sy r (by omega)).2.2.2
  refine sd_b_br (fun e => k1 (by rw [e]; rfl)) (fun e => ⟨v3, ?_⟩)
  rw [e] at k1 k0
  by_cases h : yD r < 0
  · rw [decide_eq_true h, Bool.true_or] at hD
    exact br_f (by rw [sD]; exact Int32.not_le.mpr h) (k1 (by rw [hD]; rfl))
  · rw [decide_eq_false h, Bool.false_or] at hD
    refine br_t (by rw [sD]; exact Int32.not_lt.mp h) (sd_xnext hL hl hn hG hm ?_)
    rw [hy]
    refine sd_xtk 3 hL hR hr (by decide) (hK.sy r (by omega)).2.2.2 hn hG (by rw [← hy]; exact sd_q_nx _ _ _) ⟨sd_b_n _, ?_⟩
    cases e3 : sd_tk sY G (yD r) y
    · rw [e3] at hD
      exact k0 (by rw [hD]; rfl)
    · rw [e3] at hD
      exact k1 (by rw [hD]; rfl)
theorem sd_x64 {post : Int32 → SX → Prop} {r l k : Nat} {bC bD ch : Bool} (hK : sd_K R L bk kd kc jn ty ig rO yA yB yC yD y1 y2 sa dX sY fX fY tx sX) (hL : sd_L R kd kc ig ol ty rO sa sY ls eX iX bX tX) (hl : l < 12) (hn : n ≤ 32) (hG : ∀ k, k < n → vp_in (G k) 48) (hr : r < R) (hk : k < n)
    (hC : bC = (decide (yC r < 0) || sd_tk sY G (yC r) (sd_nx (sd_pg kd kc ig ol G l) n k))) (hD : bD = (decide (yD r < 0) || sd_tk sY G (yD r) (if yC r < 0 then sd_nx (sd_pg kd kc ig ol G l) n k else sd_n2 (sd_pg kd kc ig ol G l) n k)))
    (k1 : (bC && (!ch || bD)) = true → post 1 (nI R, nI L, nI n, T, D, bk, nI k, if yC r < 0 then -1 else sd_nx (sd_pg kd kc ig ol G l) n k, -1, wd, kd, kc, jn, ax, ay, sX, ty, ig, ol, rO, dX, sa, ls, fX, tu, tx, iX, bX, tX, eX, sd_xt G q0, sd_xt C q1, sd_xt P q2, sd_xt H q3, sd_xt M q4, sd_xt J q5, sd_xt V q6, sd_xt A q7, sd_xt B q8, be, sd_xt U q9)) (k0 : ∀ p2', (bC && (!ch || bD)) = false → post 0 (nI R, nI L, nI n, T, D, bk, nI k, p2', -1, wd, kd, kc, jn, ax, ay, sX, ty, ig, ol, rO, dX, sa, ls, fX, tu, tx, iX, bX, tX, eX, sd_xt G q0, sd_xt C q1, sd_xt P q2, sd_xt H q3, sd_xt M q4, sd_xt J q5, sd_xt V q6, sd_xt A q7, sd_xt B q8, be, sd_xt U q9)) : wX_around_64 post (nI r) (nI l) (nI k) (sd_b ch) (nI k) (nI R) (nI L) (nI n) T D bk (nI k) (-1) (-1) wd kd kc jn ax ay sX ty ig ol rO dX sa ls fX tu tx iX bX tX eX (sd_xt G q0) (sd_xt C q1) (sd_xt P q2) (sd_xt H q3) (sd_xt M q4) (sd_xt J q5) (sd_xt V q6) (sd_xt A q7) (sd_xt B q8) be (sd_xt U q9) := by
  have hR := hK.rl
  have v2 : vp_in ((4 * nI r) + 2) 160 := by rw [show (4 * nI r) + 2 = nI (4 * r + 2) from sd_i4 r 2]; exact vp_in_nI (by omega) (by decide)
  have i2 : ((4 * nI r) + 2).toNatClampNeg = 4 * r + 2 := by rw [show (4 * nI r) + 2 = nI (4 * r + 2) from sd_i4 r 2]; exact nI_clamp (by omega)
  have sC : sa ((4 * nI r) + 2).toNatClampNeg = yC r := by rw [i2]; exact (hK.sy r (by omega)).2.2.1
  refine And.intro v2 ?_
  by_cases h : yC r < 0
  · rw [decide_eq_true h, Bool.true_or] at hC
    rw [if_pos h] at hD k1
    rw [hC] at k1 k0
    exact br_t (by rw [sC]; exact h) (sd_x108 hK hL hl hn hG hr hk rfl hD (fun e => k1 (by rw [e]; rfl)) (fun e => k0 _ (by rw [e]; rfl)))
  · rw [decide_eq_false h, Bool.false_or] at hC
    rw [if_neg h] at hD k1
    refine br_f (by rw [sC]; exact h) (sd_xnext hL hl hn hG hk ?_)
    refine sd_xtk 2 hL hR hr (by decide) (hK.sy r (by omega)).2.2.1 hn hG (sd_q_nx _ _ _) (sd_b_br (fun e => ?_) (fun e => ?_))
    · rw [← hC] at e
      exact k0 _ (by rw [e]; rfl)
    · have ge := sd_tk_ge e
      rw [← hC] at e
      obtain ⟨j, hj, ej⟩ := (sd_q_nx (sd_pg kd kc ig ol G l) n k).resolve_left (fun z => ge (by rw [z]; exact sd_m1lt))
      rw [sd_n2_of ej (by omega)] at hD
      rw [e] at k1 k0
      rw [ej] at k1 ⊢
      exact sd_x108 hK hL hl hn hG hr hj rfl hD (fun e => k1 (by rw [e]; rfl)) (fun e => k0 _ (by rw [e]; rfl))
theorem sd_xaround {post : Int32 → SX → Prop} {r l k : Nat} {bA bB bC bD ch : Bool} (hK : sd_K R L bk kd kc jn ty ig rO yA yB yC yD y1 y2 sa dX sY fX fY tx sX) (hL : sd_L R kd kc ig ol ty rO sa sY ls eX iX bX tX) (hl : l < 12) (hn : n ≤ 32) (hG : ∀ k, k < n → vp_in (G k) 48) (hr : r < R) (hk : k < n) (hch : (ty l = 3 ∧ ch = true) ∨ (ty l = 4 ∧ ch = false))
    (hA : bA = (decide (yA r < 0) || sd_tk sY G (yA r) (sd_dn (sd_pg kd kc ig ol G l) k))) (hB : bB = sd_tk sY G (yB r) (nI k))
    (hC : bC = (decide (yC r < 0) || sd_tk sY G (yC r) (sd_nx (sd_pg kd kc ig ol G l) n k))) (hD : bD = (decide (yD r < 0) || sd_tk sY G (yD r) (if yC r < 0 then sd_nx (sd_pg kd kc ig ol G l) n k else sd_n2 (sd_pg kd kc ig ol G l) n k)))
    (k1 : (bA && (bB && (bC && (!ch || bD)))) = true → post 1 (nI R, nI L, nI n, T, D, bk, nI k, if yC r < 0 then -1 else sd_nx (sd_pg kd kc ig ol G l) n k, -1, wd, kd, kc, jn, ax, ay, sX, ty, ig, ol, rO, dX, sa, ls, fX, tu, tx, iX, bX, tX, eX, sd_xt G q0, sd_xt C q1, sd_xt P q2, sd_xt H q3, sd_xt M q4, sd_xt J q5, sd_xt V q6, sd_xt A q7, sd_xt B q8, be, sd_xt U q9))
    (k0 : ∀ p2', (bA && (bB && (bC && (!ch || bD)))) = false → post 0 (nI R, nI L, nI n, T, D, bk, nI k, p2', -1, wd, kd, kc, jn, ax, ay, sX, ty, ig, ol, rO, dX, sa, ls, fX, tu, tx, iX, bX, tX, eX, sd_xt G q0, sd_xt C q1, sd_xt P q2, sd_xt H q3, sd_xt M q4, sd_xt J q5, sd_xt V q6, sd_xt A q7, sd_xt B q8, be, sd_xt U q9)) : wpX_around post (nI R, nI L, nI n, T, D, bk, nI k, -1, -1, wd, kd, kc, jn, ax, ay, sX, ty, ig, ol, rO, dX, sa, ls, fX, tu, tx, iX, bX, tX, eX, sd_xt G q0, sd_xt C q1, sd_xt P q2, sd_xt H q3, sd_xt M q4, sd_xt J q5, sd_xt V q6, sd_xt A q7, sd_xt B q8, be, sd_xt U q9) (nI r) (nI l) (nI k) := by
  have cl : (nI l).toNatClampNeg = l := nI_clamp (by omega)
  have vl : vp_in (nI l) 12 := vp_in_nI hl (by decide)
  have hR := hK.rl
  have vv : vp_in (4 * nI r) 160 := by rw [sd_i40]; exact vp_in_nI (by omega) (by decide)
  have sA : sa (4 * nI r).toNatClampNeg = yA r := by rw [sd_i40, nI_clamp (by omega)]; exact (hK.sy r (by omega)).1
  have x27 : bB = true → wX_around_27 post (nI r) (nI l) (nI k) (sd_b ch) (nI R) (nI L) (nI n) T D bk (nI k) (-1) (-1) wd kd kc jn ax ay sX ty ig ol rO dX sa ls fX tu tx iX bX tX eX (sd_xt G q0) (sd_xt C q1) (sd_xt P q2) (sd_xt H q3) (sd_xt M q4) (sd_xt J q5) (sd_xt V q6) (sd_xt A q7) (sd_xt B q8) be (sd_xt U q9) := by
    intro e1
    rw [e1] at k0 k1
    refine And.intro vv ?_
    by_cases h : yA r < 0
    · rw [decide_eq_true h, Bool.true_or] at hA
      rw [hA] at k0 k1
      exact br_t (by rw [sA]; exact h) (sd_x64 hK hL hl hn hG hr hk hC hD (fun e => k1 (by rw [e]; rfl)) (fun p2' e => k0 _ (by rw [e]; rfl)))
    · rw [decide_eq_false h, Bool.false_or] at hA
      refine br_f (by rw [sA]; exact h) (sd_xprior hL hl hn hG (by omega) ?_)
      refine sd_xtk 0 hL hR hr (by decide) (hK.sy r (by omega)).1 hn hG (sd_q_dn _ (by omega)) (sd_b_br (fun e => ?_) (fun e => ?_))
      · rw [← hA] at e
        exact k0 _ (by rw [e]; rfl)
      · rw [← hA] at e
        rw [e] at k0 k1
        exact sd_x64 hK hL hl hn hG hr hk hC hD (fun e => k1 (by rw [e]; rfl)) (fun p2' e => k0 _ (by rw [e]; rfl))
  unfold wpX_around
  refine sd_xtk 1 hL hR hr (by decide) (hK.sy r (by omega)).2.1 hn hG (Or.inr ⟨k, hk, rfl⟩) (sd_b_br (fun e => ?_) (fun e => ?_))
  · rw [← hB] at e
    exact k0 _ (by rw [e]; simp)
  · rw [← hB] at e
    refine ⟨vl, ?_⟩
    rcases hch with ⟨h, hc⟩ | ⟨h, hc⟩
    · have z := x27 e
      rw [hc] at z
      exact br_t (by rw [cl]; exact h) z
    · have z := x27 e
      rw [hc] at z
      exact br_f (by rw [cl, h]; decide) z
theorem sd_xm34 {post : Int32 → SX → Prop} {r l k : Nat} {bA bB bC bD ch : Bool} (hK : sd_K R L bk kd kc jn ty ig rO yA yB yC yD y1 y2 sa dX sY fX fY tx sX) (hL : sd_L R kd kc ig ol ty rO sa sY ls eX iX bX tX) (hl : l < 12) (hn : n ≤ 32) (hG : ∀ k, k < n → vp_in (G k) 48) (hr : r < R) (hk : k < n) (hch : (ty l = 3 ∧ ch = true) ∨ (ty l = 4 ∧ ch = false))
    (hA : bA = (decide (yA r < 0) || sd_tk sY G (yA r) (sd_dn (sd_pg kd kc ig ol G l) k))) (hB : bB = sd_tk sY G (yB r) (nI k))
    (hC : bC = (decide (yC r < 0) || sd_tk sY G (yC r) (sd_nx (sd_pg kd kc ig ol G l) n k))) (hD : bD = (decide (yD r < 0) || sd_tk sY G (yD r) (if yC r < 0 then sd_nx (sd_pg kd kc ig ol G l) n k else sd_n2 (sd_pg kd kc ig ol G l) n k)))
    (kk : ∀ p2', ((bA && (bB && (bC && (!ch || bD)))) = true → p2' = if yC r < 0 then -1 else sd_nx (sd_pg kd kc ig ol G l) n k) → post (sd_b (bA && (bB && (bC && (!ch || bD))))) (nI R, nI L, nI n, T, D, bk, nI k, p2', -1, wd, kd, kc, jn, ax, ay, sX, ty, ig, ol, rO, dX, sa, ls, fX, tu, tx, iX, bX, tX, eX, sd_xt G q0, sd_xt C q1, sd_xt P q2, sd_xt H q3, sd_xt M q4, sd_xt J q5, sd_xt V q6, sd_xt A q7, sd_xt B q8, be, sd_xt U q9)) : wpX_matches post (nI R, nI L, nI n, T, D, bk, p1, p2, p3, wd, kd, kc, jn, ax, ay, sX, ty, ig, ol, rO, dX, sa, ls, fX, tu, tx, iX, bX, tX, eX, sd_xt G q0, sd_xt C q1, sd_xt P q2, sd_xt H q3, sd_xt M q4, sd_xt J q5, sd_xt V q6, sd_xt A q7, sd_xt B q8, be, sd_xt U q9) (nI r) (nI l) (nI k) := by
  have cl : (nI l).toNatClampNeg = l := nI_clamp (by omega)
  have vl : vp_in (nI l) 12 := vp_in_nI hl (by decide)
  have k0 : ∀ p2', (bA && (bB && (bC && (!ch || bD)))) = false → post 0 (nI R, nI L, nI n, T, D, bk, nI k, p2', -1, wd, kd, kc, jn, ax, ay, sX, ty, ig, ol, rO, dX, sa, ls, fX, tu, tx, iX, bX, tX, eX, sd_xt G q0, sd_xt C q1, sd_xt P q2, sd_xt H q3, sd_xt M q4, sd_xt J q5, sd_xt V q6, sd_xt A q7, sd_xt B q8, be, sd_xt U q9) := fun p2' h => by
    have z := kk p2' (fun q => by rw [h] at q; cases q)
    rw [h] at z; exact z
  have k1 : (bA && (bB && (bC && (!ch || bD)))) = true → post 1 (nI R, nI L, nI n, T, D, bk, nI k, if yC r < 0 then -1 else sd_nx (sd_pg kd kc ig ol G l) n k, -1, wd, kd, kc, jn, ax, ay, sX, ty, ig, ol, rO, dX, sa, ls, fX, tu, tx, iX, bX, tX, eX, sd_xt G q0, sd_xt C q1, sd_xt P q2, sd_xt H q3, sd_xt M q4, sd_xt J q5, sd_xt V q6, sd_xt A q7, sd_xt B q8, be, sd_xt U q9) := fun h => by
    have z := kk _ (fun _ => rfl)
    rw [h] at z; exact z
  have ht : ty (nI l).toNatClampNeg = ty l := by rw [cl]
  refine And.intro vl (nm_r ht (br_f ?_ (br_t ?_ (sd_xaround hK hL hl hn hG hr hk hch hA hB hC hD (fun e => ⟨rfl, k1 e⟩) (fun p2' e => ⟨rfl, k0 p2' e⟩)))))
  · rcases hch with ⟨h, -⟩ | ⟨h, -⟩ <;> rw [h] <;> decide
  · rcases hch with ⟨h, -⟩ | ⟨h, -⟩ <;> rw [h] <;> decide
end
end
section
section
variable {R L n : Nat} {T D bk p1 p2 p3 : Int32} {wd kd kc jn ax ay ty ig ol rO dX sa ls fX tu tx eX G C P H M J V A B be U sY fY yA yB yC yD y1 y2 : Nat → Int32} {sX iX bX tX : Nat → Int64} {q0 q1 q2 q3 q4 q5 q6 q7 q8 q9 : Int32}
theorem sd_yfits {post : Int32 → Prop} {r l k : Nat} (hK : sd_K R L bk kd kc jn ty ig rO yA yB yC yD y1 y2 sa dX sY fX fY tx sX) (hl : l < 12) (hn : n ≤ 32) (hG : ∀ k, k < n → vp_in (G k) 48) (hr : r < R) (hk : k < n) (ho : rO r = nI l)
    (kk : wY_fits_39 post (nI r) (nI k) (nI l) (sd_nx (sd_pg kd kc ig ol G l) n k) (sd_dn (sd_pg kd kc ig ol G l) k) (sd_n2 (sd_pg kd kc ig ol G l) n k) (nI R) (nI L) (nI n) D T bk wd kd kc jn sY ax ay ty ig ol ls fY tu rO yA yB yC yD y1 y2 tx G C M J P V A B H U) : wpY_fits post (nI R, nI L, nI n, D, T, bk, wd, kd, kc, jn, sY, ax, ay, ty, ig, ol, ls, fY, tu, rO, yA, yB, yC, yD, y1, y2, tx, G, C, M, J, P, V, A, B, H, U) (nI r) (nI k) := by
  have cr : (nI r).toNatClampNeg = r := nI_clamp (by have := hK.rl; omega)
  have hR := hK.rl
  refine And.intro (vp_in_nI (by omega) (by decide)) (nm_r (e' := nI l) (by rw [cr]; exact ho) (sd_ynext hK hl hn hG hk (sd_yprior hK hl hn hG (by omega) ?_)))
  rcases sd_nx_or (sd_pg kd kc ig ol G l) n k with e | ⟨j, h1, h2, -, e⟩
  · unfold sd_n2 at kk
    rw [if_pos (show sd_nx (sd_pg kd kc ig ol G l) n k < 0 by rw [e]; exact sd_m1lt)] at kk
    exact br_f (by rw [e]; exact sd_m1le) kk
  · rw [sd_n2_of e (by omega)] at kk
    refine br_t (by rw [e]; exact nI_pos' (by omega)) ?_
    rw [e] at kk ⊢
    exact sd_ynext hK hl hn hG h2 kk
theorem sd_ym0 {post : Int32 → Prop} {r l k : Nat} {x xp x2 : Int32} (hK : sd_K R L bk kd kc jn ty ig rO yA yB yC yD y1 y2 sa dX sY fX fY tx sX) (hl : l < 12) (hn : n ≤ 32) (hG : ∀ k, k < n → vp_in (G k) 48) (hr : r < R) (hk : k < n) (ht : ty l = 0) (vA : vp_in (yA r) 56)
    (kk : post (sd_b (sd_tk sY G (yA r) (nI k)))) : wY_fits_39 post (nI r) (nI k) (nI l) x xp x2 (nI R) (nI L) (nI n) D T bk wd kd kc jn sY ax ay ty ig ol ls fY tu rO yA yB yC yD y1 y2 tx G C M J P V A B H U := by
  have hR := hK.rl
  have cl : (nI l).toNatClampNeg = l := nI_clamp (by omega)
  have cr : (nI r).toNatClampNeg = r := nI_clamp (by omega)
  have vr : vp_in (nI r) 40 := vp_in_nI (by omega) (by decide)
  refine And.intro (vp_in_nI hl (by decide)) (nm_r (e' := 0) (by rw [cl]; exact ht) (br_f (by decide) (br_f (by decide) (br_t rfl ⟨vr, ?_⟩))))
  rw [cr]
  exact sd_ymt vA hn hG (Or.inr ⟨k, hk, rfl⟩) ⟨sd_b_n _, kk⟩
theorem sd_ym1 {post : Int32 → Prop} {r l k : Nat} {x xp x2 : Int32} (hK : sd_K R L bk kd kc jn ty ig rO yA yB yC yD y1 y2 sa dX sY fX fY tx sX) (hl : l < 12) (hn : n ≤ 32) (hG : ∀ k, k < n → vp_in (G k) 48) (hr : r < R) (hk : k < n) (ht : ty l = 1) (vA : vp_in (yA r) 56)
    (kk : post (sd_b (sd_tk sY G (yA r) (nI k) && decide (n + sd_c (yB r) + sd_c (yC r) ≤ 33)))) : wY_fits_39 post (nI r) (nI k) (nI l) x xp x2 (nI R) (nI L) (nI n) D T bk wd kd kc jn sY ax ay ty ig ol ls fY tu rO yA yB yC yD y1 y2 tx G C M J P V A B H U := by
  have hR := hK.rl
  have cl : (nI l).toNatClampNeg = l := nI_clamp (by omega)
  have cr : (nI r).toNatClampNeg = r := nI_clamp (by omega)
  have vr : vp_in (nI r) 40 := vp_in_nI (by omega) (by decide)
  have m141 : ∀ b c : Nat, b ≤ 1 → c ≤ 1 → post (sd_b (decide (n + b + c ≤ 33))) → wY_fits_141 post (nI c) ((nI n - 1) + nI b) (nI R) (nI L) (nI n) D T bk wd kd kc jn sY ax ay ty ig ol ls fY tu rO yA yB yC yD y1 y2 tx G C M J P V A B H U := by
    intro b c hb hc z
    have q : ((nI n - 1) + nI b) + nI c = nI (n - 1 + b + c) := by rw [show nI n - 1 = nI (n - 1) from pk_sub (a := n) (b := 1) (by omega), nI_add, nI_add]
    by_cases h : n + b + c ≤ 33
    · rw [decide_eq_true h] at z
      exact br_f (by rw [q, sd_lt32 (by omega)]; omega) z
    · rw [decide_eq_false h] at z
      exact br_t (by rw [q, sd_lt32 (by omega)]; omega) z
  have m126 : ∀ b : Nat, b ≤ 1 → post (sd_b (decide (n + b + sd_c (yC r) ≤ 33))) → wY_fits_126 post (nI r) (nI b) (nI n - 1) (nI R) (nI L) (nI n) D T bk wd kd kc jn sY ax ay ty ig ol ls fY tu rO yA yB yC yD y1 y2 tx G C M J P V A B H U := by
    intro b hb z
    refine And.intro vr ?_
    by_cases h : yC r < 0
    · rw [show sd_c (yC r) = 0 from if_pos h] at z
      exact br_f (by rw [cr]; exact Int32.not_le.mpr h) (m141 b 0 hb (by omega) z)
    · rw [show sd_c (yC r) = 1 from if_neg h] at z
      exact br_t (by rw [cr]; exact Int32.not_lt.mp h) (m141 b 1 hb (by omega) z)
  refine And.intro (vp_in_nI hl (by decide)) (nm_r (e' := 1) (by rw [cl]; exact ht) (br_f (by decide) (br_f (by decide) (br_f (by decide) (br_t rfl ⟨vr, ?_⟩)))))
  rw [cr]
  refine sd_ymt vA hn hG (Or.inr ⟨k, hk, rfl⟩) (sd_b_br (fun e => ?_) (fun e => ⟨vr, ?_⟩))
  · rw [e] at kk; exact kk
  · rw [e, Bool.true_and] at kk
    by_cases h : yB r < 0
    · rw [show sd_c (yB r) = 0 from if_pos h] at kk
      exact br_f (Int32.not_le.mpr h) (m126 0 (by omega) kk)
    · rw [show sd_c (yB r) = 1 from if_neg h] at kk
      exact br_t (Int32.not_lt.mp h) (m126 1 (by omega) kk)
theorem sd_ym2 {post : Int32 → Prop} {r l k : Nat} {x xp x2 : Int32} {bA bB bC : Bool} (hK : sd_K R L bk kd kc jn ty ig rO yA yB yC yD y1 y2 sa dX sY fX fY tx sX) (hl : l < 12) (hn : n ≤ 32) (hG : ∀ k, k < n → vp_in (G k) 48) (hr : r < R) (hk : k < n) (ht : ty l = 2) (vA : vp_in (yA r) 56) (vB : vp_in (yB r) 56) (vC : yC r = -1 ∨ vp_in (yC r) 56)
    (hx : sd_q n x) (hx2 : sd_q n x2) (hA : bA = sd_tk sY G (yA r) (nI k)) (hB : bB = sd_tk sY G (yB r) x) (hC : bC = (decide (yC r < 0) || sd_tk sY G (yC r) x2))
    (kk : post (sd_b (bA && (bB && bC)))) : wY_fits_39 post (nI r) (nI k) (nI l) x xp x2 (nI R) (nI L) (nI n) D T bk wd kd kc jn sY ax ay ty ig ol ls fY tu rO yA yB yC yD y1 y2 tx G C M J P V A B H U := by
  have hR := hK.rl
  have cl : (nI l).toNatClampNeg = l := nI_clamp (by omega)
  have cr : (nI r).toNatClampNeg = r := nI_clamp (by omega)
  have vr : vp_in (nI r) 40 := vp_in_nI (by omega) (by decide)
  refine And.intro (vp_in_nI hl (by decide)) (nm_r (e' := 2) (by rw [cl]; exact ht) (br_f (by decide) (br_f (by decide) (br_f (by decide) (br_f (by decide) (br_t rfl ⟨vr, ?_⟩))))))
  rw [cr]
  refine sd_ymt vA hn hG (Or.inr ⟨k, hk, rfl⟩) (sd_b_br (fun e => ?_) (fun e => ⟨vr, ?_⟩))
  · rw [← hA] at e; rw [e] at kk; exact kk
  · rw [← hA] at e; rw [e] at kk
    refine sd_ymt vB hn hG hx (sd_b_br (fun e => ?_) (fun e => ⟨vr, ?_⟩))
    · rw [← hB] at e; rw [e] at kk; exact kk
    · rw [← hB] at e; rw [e] at kk
      refine sd_ymay vC hn hG hx2 (sd_b_br (fun e => ?_) (fun e => ?_))
      · rw [← hC] at e; rw [e] at kk; exact kk
      · rw [← hC] at e; rw [e] at kk; exact kk
theorem sd_ym3 {post : Int32 → Prop} {r l k : Nat} {x xp x2 : Int32} {bA bB bC bD : Bool} (hK : sd_K R L bk kd kc jn ty ig rO yA yB yC yD y1 y2 sa dX sY fX fY tx sX) (hl : l < 12) (hn : n ≤ 32) (hG : ∀ k, k < n → vp_in (G k) 48) (hr : r < R) (hk : k < n) (ht : ty l = 3) (vA : yA r = -1 ∨ vp_in (yA r) 56) (vB : vp_in (yB r) 56) (vC : yC r = -1 ∨ vp_in (yC r) 56) (vD : yD r = -1 ∨ vp_in (yD r) 56)
    (hx : sd_q n x) (hx2 : sd_q n x2) (hxp : sd_q n xp) (hA : bA = (decide (yA r < 0) || sd_tk sY G (yA r) xp)) (hB : bB = sd_tk sY G (yB r) (nI k)) (hC : bC = (decide (yC r < 0) || sd_tk sY G (yC r) x)) (hD : bD = (decide (yD r < 0) || sd_tk sY G (yD r) (if yC r < 0 then x else x2)))
    (kk : post (sd_b (bA && (bB && (bC && bD))))) : wY_fits_39 post (nI r) (nI k) (nI l) x xp x2 (nI R) (nI L) (nI n) D T bk wd kd kc jn sY ax ay ty ig ol ls fY tu rO yA yB yC yD y1 y2 tx G C M J P V A B H U := by
  have hR := hK.rl
  have cl : (nI l).toNatClampNeg = l := nI_clamp (by omega)
  have cr : (nI r).toNatClampNeg = r := nI_clamp (by omega)
  have vr : vp_in (nI r) 40 := vp_in_nI (by omega) (by decide)
  refine And.intro (vp_in_nI hl (by decide)) (nm_r (e' := 3) (by rw [cl]; exact ht) (br_f (by decide) (br_f (by decide) (br_f (by decide) (br_f (by decide) (br_f (by decide) (br_t rfl ⟨vr, ?_⟩)))))))
  rw [cr]
  refine sd_ymay vA hn hG hxp (sd_b_br (fun e => ?_) (fun e => ⟨vr, ?_⟩))
  · rw [← hA] at e; rw [e] at kk; exact kk
  · rw [← hA] at e; rw [e] at kk
    refine sd_ymt vB hn hG (Or.inr ⟨k, hk, rfl⟩) (sd_b_br (fun e => ?_) (fun e => ⟨vr, ?_⟩))
    · rw [← hB] at e; rw [e] at kk; exact kk
    · rw [← hB] at e; rw [e] at kk
      refine sd_ymay vC hn hG hx (sd_b_br (fun e => ?_) (fun e => ⟨vr, vr, ?_⟩))
      · rw [← hC] at e; rw [e] at kk; exact kk
      · rw [← hC] at e; rw [e] at kk
        by_cases h : yC r < 0
        · rw [if_pos h] at hD
          refine br_f (Int32.not_le.mpr h) (sd_ymay vD hn hG hx (sd_b_br (fun e => ?_) (fun e => ?_)))
          · rw [← hD] at e; rw [e] at kk; exact kk
          · rw [← hD] at e; rw [e] at kk; exact kk
        · rw [if_neg h] at hD
          refine br_t (Int32.not_lt.mp h) (sd_ymay vD hn hG hx2 (sd_b_br (fun e => ?_) (fun e => ?_)))
          · rw [← hD] at e; rw [e] at kk; exact kk
          · rw [← hD] at e; rw [e] at kk; exact kk
theorem sd_ym4 {post : Int32 → Prop} {r l k : Nat} {x xp x2 : Int32} {bA bB bC : Bool} (hK : sd_K R L bk kd kc jn ty ig rO yA yB yC yD y1 y2 sa dX sY fX fY tx sX) (hl : l < 12) (hn : n ≤ 32) (hG : ∀ k, k < n → vp_in (G k) 48) (hr : r < R) (hk : k < n) (ht : ty l = 4) (vA : yA r = -1 ∨ vp_in (yA r) 56) (vB : vp_in (yB r) 56) (vC : yC r = -1 ∨ vp_in (yC r) 56)
    (hx : sd_q n x) (hxp : sd_q n xp) (hA : bA = (decide (yA r < 0) || sd_tk sY G (yA r) xp)) (hB : bB = sd_tk sY G (yB r) (nI k)) (hC : bC = (decide (yC r < 0) || sd_tk sY G (yC r) x))
    (kk : post (sd_b (bA && (bB && bC)))) : wY_fits_39 post (nI r) (nI k) (nI l) x xp x2 (nI R) (nI L) (nI n) D T bk wd kd kc jn sY ax ay ty ig ol ls fY tu rO yA yB yC yD y1 y2 tx G C M J P V A B H U := by
  have hR := hK.rl
  have cl : (nI l).toNatClampNeg = l := nI_clamp (by omega)
  have cr : (nI r).toNatClampNeg = r := nI_clamp (by omega)
  have vr : vp_in (nI r) 40 := vp_in_nI (by omega) (by decide)
  refine And.intro (vp_in_nI hl (by decide)) (nm_r (e' := 4) (by rw [cl]; exact ht) (br_f (by decide) (br_f (by decide) (br_f (by decide) (br_f (by decide) (br_f (by decide) (br_f (by decide) (br_t rfl ⟨vr, ?_⟩))))))))
  rw [cr]
  refine sd_ymay vA hn hG hxp (sd_b_br (fun e => ?_) (fun e => ⟨vr, ?_⟩))
  · rw [← hA] at e; rw [e] at kk; exact kk
  · rw [← hA] at e; rw [e] at kk
    refine sd_ymt vB hn hG (Or.inr ⟨k, hk, rfl⟩) (sd_b_br (fun e => ?_) (fun e => ⟨vr, ?_⟩))
    · rw [← hB] at e; rw [e] at kk; exact kk
    · rw [← hB] at e; rw [e] at kk
      refine sd_ymay vC hn hG hx (sd_b_br (fun e => ?_) (fun e => ?_))
      · rw [← hC] at e; rw [e] at kk; exact kk
      · rw [← hC] at e; rw [e] at kk; exact kk
/-- type 5 -/
theorem sd_ym5 {post : Int32 → Prop} {r l k : Nat} {x xp x2 : Int32} {bA bB : Bool} (hK : sd_K R L bk kd kc jn ty ig rO yA yB yC yD y1 y2 sa dX sY fX fY tx sX) (hl : l < 12) (hn : n ≤ 32) (hG : ∀ k, k < n → vp_in (G k) 48) (hr : r < R) (hk : k < n) (ht : ty l = 5) (vA : vp_in (yA r) 56) (vB : vp_in (yB r) 56)
    (hx : sd_q n x) (hA : bA = sd_tk sY G (yA r) (nI k)) (hB : bB = sd_tk sY G (yB r) x)
    (kk : post (sd_b (bA && bB))) : wY_fits_39 post (nI r) (nI k) (nI l) x xp x2 (nI R) (nI L) (nI n) D T bk wd kd kc jn sY ax ay ty ig ol ls fY tu rO yA yB yC yD y1 y2 tx G C M J P V A B H U := by
  have hR := hK.rl
  have cl : (nI l).toNatClampNeg = l := nI_clamp (by omega)
  have cr : (nI r).toNatClampNeg = r := nI_clamp (by omega)
  have vr : vp_in (nI r) 40 := vp_in_nI (by omega) (by decide)
  refine And.intro (vp_in_nI hl (by decide)) (nm_r (e' := 5) (by rw [cl]; exact ht) (br_f (by decide) (br_t (by decide) ⟨vr, ?_⟩)))
  rw [cr]
  refine sd_ymt vA hn hG (Or.inr ⟨k, hk, rfl⟩) (sd_b_br (fun e => ?_) (fun e => ⟨vr, ?_⟩))
  · rw [← hA] at e; rw [e] at kk; exact kk
  · rw [← hA] at e; rw [e] at kk
    refine sd_ymt vB hn hG hx (sd_b_br (fun e => ?_) (fun e => ?_))
    · rw [← hB] at e; rw [e] at kk; exact kk
    · rw [← hB] at e; rw [e] at kk; exact kk
theorem sd_rvl {r l : Nat} (hK : sd_K R L bk kd kc jn ty ig rO yA yB yC yD y1 y2 sa dX sY fX fY tx sX) (hl : l < 12) (hr : r < R) (ho : rO r = nI l) : sd_rule (ty l) (yA r) (yB r) (yC r) (yD r) := by
  have z := (hK.ru r hr).2.1
  rw [ho, nI_clamp (by omega)] at z
  exact z
/-- the places that the walk notes, and where a lookup can begin -/
theorem sd_mf {r l k : Nat} (hK : sd_K R L bk kd kc jn ty ig rO yA yB yC yD y1 y2 sa dX sY fX fY tx sX) (hL : sd_L R kd kc ig ol ty rO sa sY ls eX iX bX tX) (hl : l < 12) (hn : n ≤ 32) (hG : ∀ k, k < n → vp_in (G k) 48) (hr : r < R) (hk : k < n) (ho : rO r = nI l) (h4 : ty l ≤ 4) :
    ∃ b : Bool, (b = true → sd_FF (ty l) (yB r) (yC r) n (sd_nx (sd_pg kd kc ig ol G l) n k) (sd_n2 (sd_pg kd kc ig ol G l) n k) ∧ sd_tb (bX l) (G k).toNatClampNeg = true) ∧
      (∀ (post : Int32 → SX → Prop) (p1 p2 p3 : Int32), (∀ p1' p2' p3', (b = true → p1' = nI k ∧ p2' = sd_s2 (ty l) (yC r) (sd_nx (sd_pg kd kc ig ol G l) n k) ∧ p3' = sd_s3 (ty l) (yC r) (sd_n2 (sd_pg kd kc ig ol G l) n k)) → post (sd_b b) (nI R, nI L, nI n, T, D, bk, p1', p2', p3', wd, kd, kc, jn, ax, ay, sX, ty, ig, ol, rO, dX, sa, ls, fX, tu, tx, iX, bX, tX, eX, sd_xt G q0, sd_xt C q1, sd_xt P q2, sd_xt H q3, sd_xt M q4, sd_xt J q5, sd_xt V q6, sd_xt A q7, sd_xt B q8, be, sd_xt U q9)) → wpX_matches post (nI R, nI L, nI n, T, D, bk, p1, p2, p3, wd, kd, kc, jn, ax, ay, sX, ty, ig, ol, rO, dX, sa, ls, fX, tu, tx, iX, bX, tX, eX, sd_xt G q0, sd_xt C q1, sd_xt P q2, sd_xt H q3, sd_xt M q4, sd_xt J q5, sd_xt V q6, sd_xt A q7, sd_xt B q8, be, sd_xt U q9) (nI r) (nI l) (nI k)) ∧
      (∀ post : Int32 → Prop, post (sd_b b) → wpY_fits post (nI R, nI L, nI n, D, T, bk, wd, kd, kc, jn, sY, ax, ay, ty, ig, ol, ls, fY, tu, rO, yA, yB, yC, yD, y1, y2, tx, G, C, M, J, P, V, A, B, H, U) (nI r) (nI k)) := by
  have hR := hK.rl
  have beg : ∀ v j, sd_e (ty l) = j → sa (4 * r + j) = v → j < 4 → sd_tk sY G v (nI k) = true → sd_tb (bX l) (G k).toNatClampNeg = true := by
    intro v j e1 e2 hj h
    rw [sd_tk_nI (by omega), ← e2, ← hL.2.1 r hr j hj _ (sd_cl (hG k hk))] at h
    refine hL.2.2.1 l hl _ (sd_cl (hG k hk)) r hr ho ?_
    rw [e1]; exact h
  have qx := sd_q_nx (sd_pg kd kc ig ol G l) n k
  have qx2 := sd_q_n2 (sd_pg kd kc ig ol G l) n k
  have qp := sd_q_dn (sd_pg kd kc ig ol G l) (n := n) (k := k) (by omega)
  rcases sd_rvl hK hl hr ho with ⟨t, vA, vB⟩ | ⟨t, vA, vB, vC⟩ | ⟨t, vA, vB, vC, vD⟩ | ⟨t, vA, vB, vC, vD⟩ | ⟨t, vA, vB, vC, vD⟩ | ⟨t, vA, vB⟩
  · refine ⟨sd_tk sY G (yA r) (nI k), fun h => ⟨?_, beg (yA r) 0 (by rw [t]; rfl) (hK.sy r (by omega)).1 (by decide) h⟩, fun post p1 p2 p3 kk => ?_, fun post kk => ?_⟩
    · rw [t]; exact And.intro (fun z => absurd z (by decide)) (And.intro (fun z => absurd z (by decide)) (fun z => absurd z (by decide)))
    · exact sd_xm0 hK hL hl hn hG hr hk t (kk _ _ _ (fun _ => ⟨rfl, by rw [t]; rfl, by rw [t]; rfl⟩))
    · exact sd_yfits hK hl hn hG hr hk ho (sd_ym0 hK hl hn hG hr hk t vA kk)
  · refine ⟨sd_tk sY G (yA r) (nI k) && decide (n + sd_c (yB r) + sd_c (yC r) ≤ 33), fun h => ?_, fun post p1 p2 p3 kk => ?_, fun post kk => ?_⟩
    · rw [Bool.and_eq_true] at h
      refine ⟨?_, beg (yA r) 0 (by rw [t]; rfl) (hK.sy r (by omega)).1 (by decide) h.1⟩
      rw [t]; exact And.intro (fun z => of_decide_eq_true h.2) (And.intro (fun z => absurd z (by decide)) (fun z => absurd z (by decide)))
    · exact sd_xm1 hK hL hl hn hG hr hk t (kk _ _ _ (fun _ => ⟨rfl, by rw [t]; rfl, by rw [t]; rfl⟩))
    · exact sd_yfits hK hl hn hG hr hk ho (sd_ym1 hK hl hn hG hr hk t vA kk)
  · obtain ⟨bA, hA⟩ : ∃ b, b = sd_tk sY G (yA r) (nI k) := ⟨_, rfl⟩
    obtain ⟨bB, hB⟩ : ∃ b, b = sd_tk sY G (yB r) (sd_nx (sd_pg kd kc ig ol G l) n k) := ⟨_, rfl⟩
    obtain ⟨bC, hC⟩ : ∃ b, b = (decide (yC r < 0) || sd_tk sY G (yC r) (sd_n2 (sd_pg kd kc ig ol G l) n k)) := ⟨_, rfl⟩
    refine ⟨bA && (bB && bC), fun h => ?_, fun post p1 p2 p3 kk => ?_, fun post kk => ?_⟩
    · rw [Bool.and_eq_true, Bool.and_eq_true] at h
      refine ⟨?_, beg (yA r) 0 (by rw [t]; rfl) (hK.sy r (by omega)).1 (by decide) (by rw [← hA]; exact h.1)⟩
      rw [t]
      refine And.intro (fun z => absurd z (by decide)) (And.intro (fun _ => ⟨sd_tk_ge (by rw [← hB]; exact h.2.1), ?_⟩) (fun z => absurd z (by decide)))
      have z := h.2.2
      rw [hC, Bool.or_eq_true] at z
      rcases z with z | z
      · exact Or.inl (of_decide_eq_true z)
      · exact Or.inr (sd_tk_ge z)
    · refine sd_xm2 hK hL hl hn hG hr hk t hA hB hC (fun p2' p3' hp => kk _ _ _ (fun h => ⟨rfl, ?_, ?_⟩))
      · rw [(hp h).1, t]; rfl
      · rw [(hp h).2, t]; rfl
    · exact sd_yfits hK hl hn hG hr hk ho (sd_ym2 hK hl hn hG hr hk t vA vB vC qx qx2 hA hB hC kk)
  · obtain ⟨bA, hA⟩ : ∃ b, b = (decide (yA r < 0) || sd_tk sY G (yA r) (sd_dn (sd_pg kd kc ig ol G l) k)) := ⟨_, rfl⟩
    obtain ⟨bB, hB⟩ : ∃ b, b = sd_tk sY G (yB r) (nI k) := ⟨_, rfl⟩
    obtain ⟨bC, hC⟩ : ∃ b, b = (decide (yC r < 0) || sd_tk sY G (yC r) (sd_nx (sd_pg kd kc ig ol G l) n k)) := ⟨_, rfl⟩
    obtain ⟨bD, hD⟩ : ∃ b, b = (decide (yD r < 0) || sd_tk sY G (yD r) (if yC r < 0 then sd_nx (sd_pg kd kc ig ol G l) n k else sd_n2 (sd_pg kd kc ig ol G l) n k)) := ⟨_, rfl⟩
    refine ⟨bA && (bB && (bC && bD)), fun h => ?_, fun post p1 p2 p3 kk => ?_, fun post kk => ?_⟩
    · rw [Bool.and_eq_true, Bool.and_eq_true, Bool.and_eq_true] at h
      refine ⟨?_, beg (yB r) 1 (by rw [t]; rfl) (hK.sy r (by omega)).2.1 (by decide) (by rw [← hB]; exact h.2.1)⟩
      rw [t]
      refine And.intro (fun z => absurd z (by decide)) (And.intro (fun z => absurd z (by decide)) (fun _ => ?_))
      have z := h.2.2.1
      rw [hC, Bool.or_eq_true] at z
      rcases z with z | z
      · exact Or.inl (of_decide_eq_true z)
      · exact Or.inr (sd_tk_ge z)
    · refine sd_xm34 hK hL hl hn hG hr hk (Or.inl ⟨t, rfl⟩) hA hB hC hD (fun p2' hp => kk _ _ _ (fun h => ⟨rfl, ?_, by rw [t]; rfl⟩))
      rw [hp h, t]; rfl
    · exact sd_yfits hK hl hn hG hr hk ho (sd_ym3 hK hl hn hG hr hk t vA vB vC vD qx qx2 qp hA hB hC hD kk)
  · obtain ⟨bA, hA⟩ : ∃ b, b = (decide (yA r < 0) || sd_tk sY G (yA r) (sd_dn (sd_pg kd kc ig ol G l) k)) := ⟨_, rfl⟩
    obtain ⟨bB, hB⟩ : ∃ b, b = sd_tk sY G (yB r) (nI k) := ⟨_, rfl⟩
    obtain ⟨bC, hC⟩ : ∃ b, b = (decide (yC r < 0) || sd_tk sY G (yC r) (sd_nx (sd_pg kd kc ig ol G l) n k)) := ⟨_, rfl⟩
    have tr : ∀ bD : Bool, (bA && (bB && (bC && (!false || bD)))) = (bA && (bB && bC)) := fun bD => by simp
    refine ⟨bA && (bB && bC), fun h => ?_, fun post p1 p2 p3 kk => ?_, fun post kk => ?_⟩
    · rw [Bool.and_eq_true, Bool.and_eq_true] at h
      refine ⟨?_, beg (yB r) 1 (by rw [t]; rfl) (hK.sy r (by omega)).2.1 (by decide) (by rw [← hB]; exact h.2.1)⟩
      rw [t]
      exact And.intro (fun z => absurd z (by decide)) (And.intro (fun z => absurd z (by decide)) (fun z => absurd z (by decide)))
    · refine sd_xm34 hK hL hl hn hG hr hk (Or.inr ⟨t, rfl⟩) hA hB hC rfl (fun p2' hp => ?_)
      rw [tr] at hp ⊢
      refine kk _ _ _ (fun h => ⟨rfl, ?_, by rw [t]; rfl⟩)
      rw [hp h, t]; rfl
    · exact sd_yfits hK hl hn hG hr hk ho (sd_ym4 hK hl hn hG hr hk t vA vB vC qx qp hA hB hC kk)
  · rw [t] at h4; exact absurd h4 (by decide)
theorem sd_find22 {l k : Nat} (hK : sd_K R L bk kd kc jn ty ig rO yA yB yC yD y1 y2 sa dX sY fX fY tx sX) (hL : sd_L R kd kc ig ol ty rO sa sY ls eX iX bX tX) (hl : l < 12) (hn : n ≤ 32) (hG : ∀ k, k < n → vp_in (G k) 48) (hk : k < n) (h4 : ty l ≤ 4) :
    ∀ (d i : Nat), i + d = R → ∃ q : Int32, (q = -1 ∨ ∃ r, r < R ∧ q = nI r ∧ rO r = nI l ∧ sd_FF (ty l) (yB r) (yC r) n (sd_nx (sd_pg kd kc ig ol G l) n k) (sd_n2 (sd_pg kd kc ig ol G l) n k) ∧ sd_tb (bX l) (G k).toNatClampNeg = true) ∧
      (∀ (post : Int32 → SX → Prop) (p1 p2 p3 : Int32) (N : Nat), d < N → (∀ p1' p2' p3', (∀ r, r < R → q = nI r → p1' = nI k ∧ p2' = sd_s2 (ty l) (yC r) (sd_nx (sd_pg kd kc ig ol G l) n k) ∧ p3' = sd_s3 (ty l) (yC r) (sd_n2 (sd_pg kd kc ig ol G l) n k)) → post q (nI R, nI L, nI n, T, D, bk, p1', p2', p3', wd, kd, kc, jn, ax, ay, sX, ty, ig, ol, rO, dX, sa, ls, fX, tu, tx, iX, bX, tX, eX, sd_xt G q0, sd_xt C q1, sd_xt P q2, sd_xt H q3, sd_xt M q4, sd_xt J q5, sd_xt V q6, sd_xt A q7, sd_xt B q8, be, sd_xt U q9)) → wX_find_22 post (nI l) (nI k) N (nI i) (nI R) (nI L) (nI n) T D bk p1 p2 p3 wd kd kc jn ax ay sX ty ig ol rO dX sa ls fX tu tx iX bX tX eX (sd_xt G q0) (sd_xt C q1) (sd_xt P q2) (sd_xt H q3) (sd_xt M q4) (sd_xt J q5) (sd_xt V q6) (sd_xt A q7) (sd_xt B q8) be (sd_xt U q9)) ∧
      (∀ (post : Int32 → Prop) (N : Nat), d < N → post q → wY_ruleFor_2 post (nI l) (nI k) (nI R) (nI L) (nI n) D T bk wd kd kc jn sY ax ay ty ig ol ls fY tu rO yA yB yC yD y1 y2 tx G C M J P V A B H U N (nI i)) := by
  have hR := hK.rl
  intro d
  induction d with
  | zero =>
    intro i hi
    have e : nI R ≤ nI i := nI_le (by omega) (by omega)
    refine ⟨-1, Or.inl rfl, fun post p1 p2 p3 N hN kk => ?_, fun post N hN kk => ?_⟩
    · obtain ⟨N, rfl⟩ : ∃ N', N = N' + 1 := ⟨N - 1, by omega⟩
      exact br_t e (kk _ _ _ (fun r hr z => absurd z (sd_m1n (by omega))))
    · obtain ⟨N, rfl⟩ : ∃ N', N = N' + 1 := ⟨N - 1, by omega⟩
      exact br_t e kk
  | succ d ih =>
    intro i hi
    have e : ¬ nI R ≤ nI i := nI_ge (by omega) (by omega)
    have vi : vp_in (nI i) 40 := vp_in_nI (by omega) (by decide)
    have ci : (nI i).toNatClampNeg = i := nI_clamp (by omega)
    obtain ⟨q, hq, hX, hY⟩ := ih (i + 1) (by omega)
    by_cases ho : rO i = nI l
    · have ho' : rO (nI i).toNatClampNeg = nI l := by rw [ci]; exact ho
      obtain ⟨b, hb, mX, mY⟩ := sd_mf (T := T) (D := D) (bk := bk) (wd := wd) (ax := ax) (ay := ay) (tu := tu) (C := C) (P := P) (H := H) (M := M) (J := J) (V := V) (A := A) (B := B) (be := be) (U := U) (q0 := q0) (q1 := q1) (q2 := q2) (q3 := q3) (q4 := q4) (q5 := q5) (q6 := q6) (q7 := q7) (q8 := q8) (q9 := q9) hK hL hl hn hG (show i < R by omega) hk ho h4
      cases b
      · refine ⟨q, hq, fun post p1 p2 p3 N hN kk => ?_, fun post N hN kk => ?_⟩
        · obtain ⟨N, rfl⟩ : ∃ N', N = N' + 1 := ⟨N - 1, by omega⟩
          exact br_f e ⟨vi, br_t ho' (mX _ p1 p2 p3 (fun p1' p2' p3' _ => br_t rfl (br_t rfl (nm_r (nI_1 i) (hX post p1' p2' p3' N (by omega) kk)))))⟩
        · obtain ⟨N, rfl⟩ : ∃ N', N = N' + 1 := ⟨N - 1, by omega⟩
          exact br_f e ⟨vi, br_t ho' (mY _ (br_t rfl (br_t rfl (nm_r (nI_1 i) (hY post N (by omega) kk)))))⟩
      · refine ⟨nI i, Or.inr ⟨i, by omega, rfl, ho, hb rfl⟩, fun post p1 p2 p3 N hN kk => ?_, fun post N hN kk => ?_⟩
        · obtain ⟨N, rfl⟩ : ∃ N', N = N' + 1 := ⟨N - 1, by omega⟩
          refine br_f e ⟨vi, br_t ho' (mX _ p1 p2 p3 (fun p1' p2' p3' hp => br_f sd_10 (br_f sd_10 (kk _ _ _ (fun r hr z => ?_)))))⟩
          have : i = r := (nI_eq (by omega) (by omega)).mp z
          subst this
          exact hp rfl
        · obtain ⟨N, rfl⟩ : ∃ N', N = N' + 1 := ⟨N - 1, by omega⟩
          exact br_f e ⟨vi, br_t ho' (mY _ (br_f sd_10 (br_f sd_10 kk)))⟩
    · have ho' : ¬ rO (nI i).toNatClampNeg = nI l := by rw [ci]; exact ho
      refine ⟨q, hq, fun post p1 p2 p3 N hN kk => ?_, fun post N hN kk => ?_⟩
      · obtain ⟨N, rfl⟩ : ∃ N', N = N' + 1 := ⟨N - 1, by omega⟩
        exact br_f e ⟨vi, br_f ho' (br_t rfl (nm_r (nI_1 i) (hX post p1 p2 p3 N (by omega) kk)))⟩
      · obtain ⟨N, rfl⟩ : ∃ N', N = N' + 1 := ⟨N - 1, by omega⟩
        exact br_f e ⟨vi, br_f ho' (br_t rfl (nm_r (nI_1 i) (hY post N (by omega) kk)))⟩
theorem sd_find {l k : Nat} (hK : sd_K R L bk kd kc jn ty ig rO yA yB yC yD y1 y2 sa dX sY fX fY tx sX) (hL : sd_L R kd kc ig ol ty rO sa sY ls eX iX bX tX) (hl : l < 12) (hn : n ≤ 32) (hG : ∀ k, k < n → vp_in (G k) 48) (hk : k < n) (h4 : ty l ≤ 4) :
    ∃ q : Int32, (q = -1 ∨ ∃ r, r < R ∧ q = nI r ∧ rO r = nI l ∧ sd_FF (ty l) (yB r) (yC r) n (sd_nx (sd_pg kd kc ig ol G l) n k) (sd_n2 (sd_pg kd kc ig ol G l) n k)) ∧
      (∀ (post : Int32 → SX → Prop) (p1 p2 p3 : Int32), (∀ p1' p2' p3', (∀ r, r < R → q = nI r → p1' = nI k ∧ p2' = sd_s2 (ty l) (yC r) (sd_nx (sd_pg kd kc ig ol G l) n k) ∧ p3' = sd_s3 (ty l) (yC r) (sd_n2 (sd_pg kd kc ig ol G l) n k)) → post q (nI R, nI L, nI n, T, D, bk, p1', p2', p3', wd, kd, kc, jn, ax, ay, sX, ty, ig, ol, rO, dX, sa, ls, fX, tu, tx, iX, bX, tX, eX, sd_xt G q0, sd_xt C q1, sd_xt P q2, sd_xt H q3, sd_xt M q4, sd_xt J q5, sd_xt V q6, sd_xt A q7, sd_xt B q8, be, sd_xt U q9)) → wpX_find post (nI R, nI L, nI n, T, D, bk, p1, p2, p3, wd, kd, kc, jn, ax, ay, sX, ty, ig, ol, rO, dX, sa, ls, fX, tu, tx, iX, bX, tX, eX, sd_xt G q0, sd_xt C q1, sd_xt P q2, sd_xt H q3, sd_xt M q4, sd_xt J q5, sd_xt V q6, sd_xt A q7, sd_xt B q8, be, sd_xt U q9) (nI l) (nI k)) ∧
      (∀ (post : Int32 → Prop), post q → wpY_ruleFor post (nI R, nI L, nI n, D, T, bk, wd, kd, kc, jn, sY, ax, ay, ty, ig, ol, ls, fY, tu, rO, yA, yB, yC, yD, y1, y2, tx, G, C, M, J, P, V, A, B, H, U) (nI l) (nI k)) := by
  have hR := hK.rl
  obtain ⟨q, hq, hX, hY⟩ := sd_find22 (T := T) (D := D) (bk := bk) (wd := wd) (ax := ax) (ay := ay) (tu := tu) (C := C) (P := P) (H := H) (M := M) (J := J) (V := V) (A := A) (B := B) (be := be) (U := U) (q0 := q0) (q1 := q1) (q2 := q2) (q3 := q3) (q4 := q4) (q5 := q5) (q6 := q6) (q7 := q7) (q8 := q8) (q9 := q9) hK hL hl hn hG hk h4 R 0 (by omega)
  have cl : (nI l).toNatClampNeg = l := nI_clamp (by omega)
  refine ⟨q, ?_, fun post p1 p2 p3 kk => ?_, fun post kk => ⟨R + 1, hY post (R + 1) (by omega) kk⟩⟩
  · rcases hq with e | ⟨r, a, b, c, d, -⟩
    · exact Or.inl e
    · exact Or.inr ⟨r, a, b, c, d⟩
  · refine And.intro (vp_in_nI hl (by decide)) (And.intro (vp_in_nI (by omega) (by decide)) ?_)
    rw [cl, sd_nr (by omega)]
    cases hb : sd_tb (bX l) (G k).toNatClampNeg
    · rcases hq with e | ⟨r, -, -, -, -, z⟩
      · subst e
        exact sd_has_f (hG k hk) (by decide) hb (br_t rfl (kk _ _ _ (fun r hr z => absurd z (sd_m1n (by omega)))))
      · rw [hb] at z; cases z
    · exact sd_has_t (hG k hk) (by decide) hb (br_f sd_10 ⟨R + 1, hX post p1 p2 p3 (R + 1) (by omega) kk⟩)
end
end
section
/-! items come and go: by their places -/
def sd_rx (m k : Nat) (g : Nat → Int32) : Nat → Int32 := fun j => g (if k ≤ j ∧ j < m then j + 1 else j)
def sd_im (lo n : Nat) (g : Nat → Int32) : Nat → Int32 := fun j => g (if lo < j ∧ j ≤ n then j - 1 else j)
theorem sd_rx_hi {m k j : Nat} {g : Nat → Int32} (h : m ≤ j) : sd_rx m k g j = g j := by unfold sd_rx; rw [if_neg (by omega)]
theorem sd_rx_0 {k : Nat} {g : Nat → Int32} : sd_rx k k g = g := by funext j; unfold sd_rx; rw [if_neg (by omega)]
theorem sd_rx_s {i k : Nat} {g : Nat → Int32} (h : k ≤ i) : upd (sd_rx i k g) i (sd_rx i k g (i + 1)) = sd_rx (i + 1) k g := by
  rw [sd_rx_hi (by omega)]
  funext j
  unfold upd sd_rx
  by_cases e : j = i
  · rw [if_pos e, if_pos (by omega), e]
  · rw [if_neg e]
    by_cases e2 : k ≤ j ∧ j < i
    · rw [if_pos e2, if_pos (by omega)]
    · rw [if_neg e2, if_neg (by omega)]
theorem sd_im_lo {lo n j : Nat} {g : Nat → Int32} (h : j ≤ lo) : sd_im lo n g j = g j := by unfold sd_im; rw [if_neg (by omega)]
theorem sd_im_0 {n : Nat} {g : Nat → Int32} : sd_im n n g = g := by funext j; unfold sd_im; rw [if_neg (by omega)]
theorem sd_im_s {i n : Nat} {g : Nat → Int32} (h : i + 1 ≤ n) : upd (sd_im (i + 1) n g) (i + 1) (sd_im (i + 1) n g i) = sd_im i n g := by
  rw [sd_im_lo (by omega)]
  funext j
  unfold upd sd_im
  by_cases e : j = i + 1
  · rw [if_pos e, if_pos (by omega), e]; rfl
  · rw [if_neg e]
    by_cases e2 : i + 1 < j ∧ j ≤ n
    · rw [if_pos e2, if_pos (by omega)]
    · rw [if_neg e2, if_neg (by omega)]
theorem sd_u_comm {g : Nat → Int32} {i j : Nat} {a b : Int32} (h : i ≠ j) : upd (upd g i a) j b = upd (upd g j b) i a := by
  funext k
  unfold upd
  by_cases e : k = j
  · rw [if_pos e, if_neg (by omega), if_pos e]
  · rw [if_neg e]
    by_cases e2 : k = i
    · rw [if_pos e2, if_pos e2]
    · rw [if_neg e2, if_neg e2, if_neg e]
section
variable {R L n : Nat} {T D bk p1 p2 p3 : Int32} {wd kd kc jn ax ay ty ig ol rO dX sa ls fX tu tx eX G C P H M J V A B be U sY fY yA yB yC yD y1 y2 : Nat → Int32} {sX iX bX tX : Nat → Int64} {q0 q1 q2 q3 q4 q5 q6 q7 q8 q9 : Int32}
theorem sd_inv_ix (h : sd_inv n G C P M J) {σ : Nat → Nat} {m : Nat} (hm : m ≤ 32) (h1 : ∀ j, j < m → σ j < n) (h2 : ∀ i j, i ≤ j → j < m → σ i ≤ σ j) : sd_inv m (fun j => G (σ j)) (fun j => C (σ j)) (fun j => P (σ j)) (fun j => M (σ j)) (fun j => J (σ j)) :=
  And.intro hm (And.intro (fun j hj => h.2.1 (σ j) (h1 j hj)) (fun i j a b => h.2.2 (σ i) (σ j) (h2 i j a b) (h1 j b)))
theorem sd_inv_rm {k : Nat} (h : sd_inv n G C P M J) (hk : k < n) : sd_inv (n - 1) (sd_rx (n - 1) k G) (sd_rx (n - 1) k C) (sd_rx (n - 1) k P) (sd_rx (n - 1) k M) (sd_rx (n - 1) k J) := by
  have hn := h.1
  refine sd_inv_ix h (by omega) (fun j hj => ?_) (fun i j a b => ?_)
  · split <;> omega
  · split <;> split <;> omega
theorem sd_inv_im {k : Nat} (h : sd_inv n G C P M J) (hk : k < n) (h31 : n < 32) : sd_inv (n + 1) (sd_im k n G) (sd_im k n C) (sd_im k n P) (sd_im k n M) (sd_im k n J) := by
  refine sd_inv_ix h (by omega) (fun j hj => ?_) (fun i j a b => ?_)
  · split <;> omega
  · split <;> split <;> omega
theorem sd_inv_g {k : Nat} {v : Int32} (h : sd_inv n G C P M J) (hv : vp_in v 48) : sd_inv n (upd G k v) C P M J := by
  refine And.intro h.1 (And.intro (fun j hj => ?_) h.2.2)
  obtain ⟨a, b⟩ := h.2.1 j hj
  refine And.intro ?_ b
  by_cases e : j = k
  · rw [e, pk_us]; exact hv
  · rw [pk_un e]; exact a
theorem sd_inv_G (h : sd_inv n G C P M J) : ∀ k, k < n → vp_in (G k) 48 := fun k hk => (h.2.1 k hk).1
theorem sd_xmove {post : SX → Prop} {i j : Nat} (hi : i < 33) (hj : j < 33) (h : sd_it G C P M J i) (k : post (nI R, nI L, nI n, T, D, bk, p1, p2, p3, wd, kd, kc, jn, ax, ay, sX, ty, ig, ol, rO, dX, sa, ls, fX, tu, tx, iX, bX, tX, eX, sd_xt (upd G j (G i)) q0, sd_xt (upd C j (C i)) q1, sd_xt (upd P j (P i)) q2, sd_xt H q3, sd_xt (upd M j (M i)) q4, sd_xt (upd J j (J i)) q5, sd_xt V q6, sd_xt A q7, sd_xt B q8, be, sd_xt U q9)) : wpX_move post (nI R, nI L, nI n, T, D, bk, p1, p2, p3, wd, kd, kc, jn, ax, ay, sX, ty, ig, ol, rO, dX, sa, ls, fX, tu, tx, iX, bX, tX, eX, sd_xt G q0, sd_xt C q1, sd_xt P q2, sd_xt H q3, sd_xt M q4, sd_xt J q5, sd_xt V q6, sd_xt A q7, sd_xt B q8, be, sd_xt U q9) (nI i) (nI j) := by
  have vi : vp_in (nI i) 34 := vp_in_nI (by omega) (by decide)
  have vj : vp_in (nI j) 34 := vp_in_nI (by omega) (by decide)
  obtain ⟨h1, h2, h3, h4, h5⟩ := h
  have b : ∀ (g : Nat → Int32) (q : Int32) (N : Nat), N ≤ 128 → vp_in (g i) N → upd (sd_xt g q) (nI j).toNatClampNeg (vp_nar .byte (sd_xt g q (nI i).toNatClampNeg)) = sd_xt (upd g j (g i)) q := fun g q N hN hg =>
    sd_nw hj (by rw [sd_nr hi]; exact sd_nb hg hN)
  have s : ∀ (g : Nat → Int32) (q : Int32) (N : Nat), N ≤ 32768 → vp_in (g i) N → upd (sd_xt g q) (nI j).toNatClampNeg (vp_nar .short (sd_xt g q (nI i).toNatClampNeg)) = sd_xt (upd g j (g i)) q := fun g q N hN hg =>
    sd_nw hj (by rw [sd_nr hi]; exact sd_ns hg hN)
  exact And.intro vi ⟨vj, nm_r (b G q0 48 (by decide) h1) ⟨vi, vj, nm_r (b C q1 16 (by decide) h2) ⟨vi, vj, nm_r (b P q2 3 (by decide) h3) ⟨vi, vj, nm_r (s M q4 256 (by decide) h4) ⟨vi, vj, nm_r (s J q5 4096 (by decide) h5) k⟩⟩⟩⟩⟩
theorem sd_ymove {post : SY → Prop} {i j : Nat} (hi : i < 33) (hj : j < 33) (k : post (nI R, nI L, nI n, D, T, bk, wd, kd, kc, jn, sY, ax, ay, ty, ig, ol, ls, fY, tu, rO, yA, yB, yC, yD, y1, y2, tx, upd G j (G i), upd C j (C i), upd M j (M i), upd J j (J i), upd P j (P i), V, A, B, H, U)) : wpY_copy post (nI R, nI L, nI n, D, T, bk, wd, kd, kc, jn, sY, ax, ay, ty, ig, ol, ls, fY, tu, rO, yA, yB, yC, yD, y1, y2, tx, G, C, M, J, P, V, A, B, H, U) (nI i) (nI j) := by
  have vi : vp_in (nI i) 33 := vp_in_nI (by omega) (by decide)
  have vj : vp_in (nI j) 33 := vp_in_nI (by omega) (by decide)
  have b : ∀ (g : Nat → Int32), upd g (nI j).toNatClampNeg (g (nI i).toNatClampNeg) = upd g j (g i) := fun g => sd_yw (by omega) (sd_yr (by omega))
  exact And.intro vi ⟨vj, nm_r (b G) ⟨vi, vj, nm_r (b C) ⟨vi, vj, nm_r (b M) ⟨vi, vj, nm_r (b J) ⟨vi, vj, nm_r (b P) k⟩⟩⟩⟩⟩
theorem sd_xrem12 {post : SX → Prop} {m k : Nat} (hm : m < 32) (hit : ∀ j, j ≤ m → sd_it G C P M J j) :
    ∀ (d i N : Nat), i + d = m → k ≤ i → d < N → post (nI R, nI L, nI m, T, D, bk, p1, p2, p3, wd, kd, kc, jn, ax, ay, sX, ty, ig, ol, rO, dX, sa, ls, fX, tu, tx, iX, bX, tX, eX, sd_xt (sd_rx m k G) q0, sd_xt (sd_rx m k C) q1, sd_xt (sd_rx m k P) q2, sd_xt H q3, sd_xt (sd_rx m k M) q4, sd_xt (sd_rx m k J) q5, sd_xt V q6, sd_xt A q7, sd_xt B q8, be, sd_xt U q9) →
      wX_remove_12 post N (nI i) (nI R) (nI L) (nI m) T D bk p1 p2 p3 wd kd kc jn ax ay sX ty ig ol rO dX sa ls fX tu tx iX bX tX eX (sd_xt (sd_rx i k G) q0) (sd_xt (sd_rx i k C) q1) (sd_xt (sd_rx i k P) q2) (sd_xt H q3) (sd_xt (sd_rx i k M) q4) (sd_xt (sd_rx i k J) q5) (sd_xt V q6) (sd_xt A q7) (sd_xt B q8) be (sd_xt U q9) := by
  intro d
  induction d with
  | zero =>
    intro i N hi hki hN kk
    obtain ⟨N, rfl⟩ : ∃ N', N = N' + 1 := ⟨N - 1, by omega⟩
    obtain rfl : i = m := by omega
    exact br_t (nI_le (Nat.le_refl _) (by omega)) kk
  | succ d ih =>
    intro i N hi hki hN kk
    obtain ⟨N, rfl⟩ : ∃ N', N = N' + 1 := ⟨N - 1, by omega⟩
    have z := ih (i + 1) N (by omega) (by omega) (by omega) kk
    simp only [← sd_rx_s hki] at z
    refine br_f (nI_ge (by omega) (by omega)) ?_
    rw [nI_1 i]
    refine sd_xmove (by omega) (by omega) ?_ (nm_e z)
    unfold sd_it
    simp only [sd_rx_hi (show i ≤ i + 1 by omega)]
    exact hit (i + 1) (by omega)
theorem sd_yrem12 {post : SY → Prop} {m k : Nat} (hm : m < 32) :
    ∀ (d i N : Nat), i + d = m → k ≤ i → d < N → post (nI R, nI L, nI m, D, T, bk, wd, kd, kc, jn, sY, ax, ay, ty, ig, ol, ls, fY, tu, rO, yA, yB, yC, yD, y1, y2, tx, sd_rx m k G, sd_rx m k C, sd_rx m k M, sd_rx m k J, sd_rx m k P, V, A, B, H, U) →
      wY_remove_12 post N (nI i) (nI R) (nI L) (nI m) D T bk wd kd kc jn sY ax ay ty ig ol ls fY tu rO yA yB yC yD y1 y2 tx (sd_rx i k G) (sd_rx i k C) (sd_rx i k M) (sd_rx i k J) (sd_rx i k P) V A B H U := by
  intro d
  induction d with
  | zero =>
    intro i N hi hki hN kk
    obtain ⟨N, rfl⟩ : ∃ N', N = N' + 1 := ⟨N - 1, by omega⟩
    obtain rfl : i = m := by omega
    exact br_t (nI_le (Nat.le_refl _) (by omega)) kk
  | succ d ih =>
    intro i N hi hki hN kk
    obtain ⟨N, rfl⟩ : ∃ N', N = N' + 1 := ⟨N - 1, by omega⟩
    have z := ih (i + 1) N (by omega) (by omega) (by omega) kk
    simp only [← sd_rx_s hki] at z
    refine br_f (nI_ge (by omega) (by omega)) ?_
    rw [nI_1 i]
    exact sd_ymove (by omega) (by omega) (nm_e z)
theorem sd_xrem {post : SX → Prop} {k : Nat} (h : sd_inv n G C P M J) (hk : k < n) (kk : post (nI R, nI L, nI (n - 1), T, D, bk, p1, p2, p3, wd, kd, kc, jn, ax, ay, sX, ty, ig, ol, rO, dX, sa, ls, fX, tu, tx, iX, bX, tX, eX, sd_xt (sd_rx (n - 1) k G) q0, sd_xt (sd_rx (n - 1) k C) q1, sd_xt (sd_rx (n - 1) k P) q2, sd_xt H q3, sd_xt (sd_rx (n - 1) k M) q4, sd_xt (sd_rx (n - 1) k J) q5, sd_xt V q6, sd_xt A q7, sd_xt B q8, be, sd_xt U q9)) : wpX_remove post (nI R, nI L, nI n, T, D, bk, p1, p2, p3, wd, kd, kc, jn, ax, ay, sX, ty, ig, ol, rO, dX, sa, ls, fX, tu, tx, iX, bX, tX, eX, sd_xt G q0, sd_xt C q1, sd_xt P q2, sd_xt H q3, sd_xt M q4, sd_xt J q5, sd_xt V q6, sd_xt A q7, sd_xt B q8, be, sd_xt U q9) (nI k) := by
  have hn := h.1
  have z := sd_xrem12 (m := n - 1) (by omega) (fun j hj => h.2.1 j (by omega)) (n - 1 - k) k (n - 1 - k + 1) (by omega) (Nat.le_refl k) (by omega) kk
  simp only [sd_rx_0] at z
  exact nm_r (e' := nI (n - 1)) (pk_sub (a := n) (b := 1) (by omega)) ⟨_, z⟩
theorem sd_yrem {post : SY → Prop} {k : Nat} (hn : n ≤ 32) (hk : k < n) (kk : post (nI R, nI L, nI (n - 1), D, T, bk, wd, kd, kc, jn, sY, ax, ay, ty, ig, ol, ls, fY, tu, rO, yA, yB, yC, yD, y1, y2, tx, sd_rx (n - 1) k G, sd_rx (n - 1) k C, sd_rx (n - 1) k M, sd_rx (n - 1) k J, sd_rx (n - 1) k P, V, A, B, H, U)) : wpY_remove post (nI R, nI L, nI n, D, T, bk, wd, kd, kc, jn, sY, ax, ay, ty, ig, ol, ls, fY, tu, rO, yA, yB, yC, yD, y1, y2, tx, G, C, M, J, P, V, A, B, H, U) (nI k) := by
  have z := sd_yrem12 (m := n - 1) (by omega) (n - 1 - k) k (n - 1 - k + 1) (by omega) (Nat.le_refl k) (by omega) kk
  simp only [sd_rx_0] at z
  exact nm_r (e' := nI (n - 1)) (pk_sub (a := n) (b := 1) (by omega)) ⟨_, z⟩
theorem sd_xins {post : SX → Prop} {k : Nat} {b c : Int32} (hn : n < 32) (hk : k < n) (hit : ∀ j, j < n → sd_it G C P M J j) (vb : vp_in b 48) (vc : vp_in c 48) :
    ∀ (d i N : Nat), k + d = i → i ≤ n → d < N → post (nI R, nI L, nI (n + 1), T, D, bk, p1, p2, p3, wd, kd, kc, jn, ax, ay, sX, ty, ig, ol, rO, dX, sa, ls, fX, tu, tx, iX, bX, tX, eX, sd_xt (upd (upd (sd_im k n G) k b) (k + 1) c) q0, sd_xt (sd_im k n C) q1, sd_xt (sd_im k n P) q2, sd_xt H q3, sd_xt (sd_im k n M) q4, sd_xt (sd_im k n J) q5, sd_xt V q6, sd_xt A q7, sd_xt B q8, be, sd_xt U q9) →
      wX_split_49 post (nI k) b c N (nI i) (nI R) (nI L) (nI n) T D bk p1 p2 p3 wd kd kc jn ax ay sX ty ig ol rO dX sa ls fX tu tx iX bX tX eX (sd_xt (sd_im i n G) q0) (sd_xt (sd_im i n C) q1) (sd_xt (sd_im i n P) q2) (sd_xt H q3) (sd_xt (sd_im i n M) q4) (sd_xt (sd_im i n J) q5) (sd_xt V q6) (sd_xt A q7) (sd_xt B q8) be (sd_xt U q9) := by
  intro d
  induction d with
  | zero =>
    intro i N hi hin hN kk
    obtain ⟨N, rfl⟩ : ∃ N', N = N' + 1 := ⟨N - 1, by omega⟩
    obtain rfl : i = k := by omega
    refine br_t (nI_le (Nat.le_refl _) (by omega)) (nm_r (nI_1 n) ⟨vp_in_nI (by omega) (by decide), nm_r (sd_nw (by omega) (sd_bb vb (by decide))) ?_⟩)
    rw [nI_1 i]
    exact ⟨vp_in_nI (by omega) (by decide), nm_r (sd_nw (by omega) (sd_bb vc (by decide))) kk⟩
  | succ d ih =>
    intro i N hi hin hN kk
    obtain ⟨N, rfl⟩ : ∃ N', N = N' + 1 := ⟨N - 1, by omega⟩
    obtain ⟨i, rfl⟩ : ∃ i', i = i' + 1 := ⟨i - 1, by omega⟩
    have z := ih i N (by omega) (by omega) (by omega) kk
    simp only [← sd_im_s hin] at z
    refine br_f (nI_ge (by omega) (by omega)) ?_
    rw [nI_pred i]
    refine sd_xmove (by omega) (by omega) ?_ (nm_r (pk_m1 i) z)
    unfold sd_it
    simp only [sd_im_lo (show i ≤ i + 1 by omega)]
    exact hit i (by omega)
theorem sd_yins {post : Int32 → SY → Prop} {k : Nat} {b c x4 : Int32} (hn : n < 32) (hk : k < n) :
    ∀ (d i N : Nat), k + d = i → i ≤ n → d < N → wY_many_84 post b c (nI k) x4 (nI R) (nI L) (nI (n + 1)) D T bk wd kd kc jn sY ax ay ty ig ol ls fY tu rO yA yB yC yD y1 y2 tx (upd (sd_im k n G) (k + 1) c) (sd_im k n C) (sd_im k n M) (sd_im k n J) (sd_im k n P) V A B H U →
      wY_many_43 post b c (nI k) x4 N (nI i) (nI R) (nI L) (nI n) D T bk wd kd kc jn sY ax ay ty ig ol ls fY tu rO yA yB yC yD y1 y2 tx (sd_im i n G) (sd_im i n C) (sd_im i n M) (sd_im i n J) (sd_im i n P) V A B H U := by
  intro d
  induction d with
  | zero =>
    intro i N hi hin hN kk
    obtain ⟨N, rfl⟩ : ∃ N', N = N' + 1 := ⟨N - 1, by omega⟩
    obtain rfl : i = k := by omega
    refine br_t (nI_le (Nat.le_refl _) (by omega)) (nm_r (nI_1 n) ?_)
    rw [nI_1 i]
    exact ⟨vp_in_nI (by omega) (by decide), nm_r (sd_yw (by omega) rfl) kk⟩
  | succ d ih =>
    intro i N hi hin hN kk
    obtain ⟨N, rfl⟩ : ∃ N', N = N' + 1 := ⟨N - 1, by omega⟩
    obtain ⟨i, rfl⟩ : ∃ i', i = i' + 1 := ⟨i - 1, by omega⟩
    have z := ih i N (by omega) (by omega) (by omega) kk
    simp only [← sd_im_s hin] at z
    refine br_f (nI_ge (by omega) (by omega)) ?_
    rw [nI_pred i]
    exact sd_ymove (by omega) (by omega) (nm_r (pk_m1 i) z)

theorem sd_split {k : Nat} {b c : Int32} (h : sd_inv n G C P M J) (hk : k < n) (hb : b = -1 ∨ vp_in b 48) (hc : c = -1 ∨ vp_in c 48) (h33 : n + sd_c b + sd_c c ≤ 33) :
    ∃ (n' : Nat) (G' C' P' M' J' : Nat → Int32), sd_inv n' G' C' P' M' J' ∧ n' + 1 = n + (sd_c b + sd_c c) ∧
      (∀ post : SX → Prop, post (nI R, nI L, nI n', T, D, bk, p1, p2, p3, wd, kd, kc, jn, ax, ay, sX, ty, ig, ol, rO, dX, sa, ls, fX, tu, tx, iX, bX, tX, eX, sd_xt G' q0, sd_xt C' q1, sd_xt P' q2, sd_xt H q3, sd_xt M' q4, sd_xt J' q5, sd_xt V q6, sd_xt A q7, sd_xt B q8, be, sd_xt U q9) → wpX_split post (nI R, nI L, nI n, T, D, bk, p1, p2, p3, wd, kd, kc, jn, ax, ay, sX, ty, ig, ol, rO, dX, sa, ls, fX, tu, tx, iX, bX, tX, eX, sd_xt G q0, sd_xt C q1, sd_xt P q2, sd_xt H q3, sd_xt M q4, sd_xt J q5, sd_xt V q6, sd_xt A q7, sd_xt B q8, be, sd_xt U q9) (nI k) b c) ∧
      (∀ post : Int32 → SY → Prop, post (nI k + nI (sd_c b + sd_c c)) (nI R, nI L, nI n', D, T, bk, wd, kd, kc, jn, sY, ax, ay, ty, ig, ol, ls, fY, tu, rO, yA, yB, yC, yD, y1, y2, tx, G', C', M', J', P', V, A, B, H, U) → wpY_many post (nI R, nI L, nI n, D, T, bk, wd, kd, kc, jn, sY, ax, ay, ty, ig, ol, ls, fY, tu, rO, yA, yB, yC, yD, y1, y2, tx, G, C, M, J, P, V, A, B, H, U) b c (nI k)) := by
  have hn := h.1
  have vk : vp_in (nI k) 34 := vp_in_nI (by omega) (by decide)
  have wk : vp_in (nI k) 33 := vp_in_nI (by omega) (by decide)
  rcases hb with eb | vb
  · subst eb
    have c0 : sd_c (-1) = 0 := if_pos sd_m1lt
    rcases hc with ec | vc
    · subst ec
      refine ⟨n - 1, _, _, _, _, _, sd_inv_rm h hk, by rw [c0]; omega, fun post kk => ?_, fun post kk => ?_⟩
      · exact br_f sd_m1le (br_f sd_m1le (sd_xrem h hk kk))
      · exact br_f sd_m1le (br_f sd_m1le (nm_r (e' := 0) rfl (br_t rfl (sd_yrem hn hk (br_f (by decide) (br_t (by decide) kk))))))
    · have c1 : sd_c c = 1 := if_neg (sd_in_nn vc)
      have gc := sd_in_ge vc
      refine ⟨n, upd G k c, C, P, M, J, sd_inv_g h vc, by rw [c0, c1], fun post kk => ?_, fun post kk => ?_⟩
      · exact br_f sd_m1le (br_t gc (br_t sd_m1lt (br_f sd_m1le ⟨vk, nm_r (sd_nw (by omega) (sd_bb vc (by decide))) kk⟩)))
      · rw [c0, c1] at kk
        exact br_f sd_m1le (br_t gc (nm_r (e' := 1) rfl (br_f sd_10 (br_f (by decide) (br_f (by decide) (br_f sd_m1le ⟨wk, nm_r (sd_yw (by omega) rfl) kk⟩))))))
  · have b1 : sd_c b = 1 := if_neg (sd_in_nn vb)
    have gb := sd_in_ge vb
    rcases hc with ec | vc
    · subst ec
      have c0 : sd_c (-1) = 0 := if_pos sd_m1lt
      refine ⟨n, upd G k b, C, P, M, J, sd_inv_g h vb, by rw [c0, b1], fun post kk => ?_, fun post kk => ?_⟩
      · exact br_t gb (br_f (sd_in_nn vb) (br_f sd_m1le (br_t gb ⟨vk, nm_r (sd_nw (by omega) (sd_bb vb (by decide))) kk⟩)))
      · rw [c0, b1] at kk
        exact br_t gb (br_f sd_m1le (nm_r (e' := 1) rfl (br_f sd_10 (br_f (by decide) (br_f (by decide) (br_t gb ⟨wk, nm_r (sd_yw (by omega) rfl) kk⟩))))))
    · have c1 : sd_c c = 1 := if_neg (sd_in_nn vc)
      have gc := sd_in_ge vc
      rw [b1, c1] at h33 ⊢
      have hi := sd_inv_g (k := k + 1) (v := c) (sd_inv_g (k := k) (v := b) (sd_inv_im h hk (by omega)) vb) vc
      refine ⟨n + 1, _, _, _, _, _, hi, by omega, fun post kk => ?_, fun post kk => ?_⟩
      · have z := sd_xins (by omega) hk h.2.1 vb vc (n - k) n (n - k + 1) (by omega) (Nat.le_refl n) (by omega) kk
        simp only [sd_im_0] at z
        exact br_t gb (br_f (sd_in_nn vb) (br_t gc ⟨_, z⟩))
      · rw [← sd_u_comm (show k + 1 ≠ k by omega)] at kk
        have q : wY_many_84 post b c (nI k) 2 (nI R) (nI L) (nI (n + 1)) D T bk wd kd kc jn sY ax ay ty ig ol ls fY tu rO yA yB yC yD y1 y2 tx (upd (sd_im k n G) (k + 1) c) (sd_im k n C) (sd_im k n M) (sd_im k n J) (sd_im k n P) V A B H U := br_f (by decide) (br_t gb ⟨wk, nm_r (sd_yw (by omega) rfl) kk⟩)
        have z := sd_yins (by omega) hk (n - k) n (n - k + 1) (by omega) (Nat.le_refl n) (by omega) q
        simp only [sd_im_0] at z
        exact br_t gb (br_t gc (nm_r (e' := 2) rfl (br_f (by decide) (br_t rfl ⟨_, z⟩))))
end
end
section
/-- parts of what is joined: from k up to i, 1 behind s -/
def sd_pt (k i s : Nat) (g : Nat → Int32) : Nat → Int32 := fun j => if k ≤ j ∧ j < i then (if s < j then 1 else 0) else g j
theorem sd_pt_0 {k s : Nat} {g : Nat → Int32} : sd_pt k k s g = g := by funext j; unfold sd_pt; rw [if_neg (by omega)]
theorem sd_pt_s {k i s : Nat} {g : Nat → Int32} {v : Int32} (h : k ≤ i) (hv : v = if s < i then 1 else 0) : upd (sd_pt k i s g) i v = sd_pt k (i + 1) s g := by
  funext j
  unfold upd sd_pt
  by_cases e : j = i
  · rw [if_pos e, if_pos (by omega), e, hv]
  · rw [if_neg e]
    by_cases e2 : k ≤ j ∧ j < i
    · rw [if_pos e2, if_pos (show k ≤ j ∧ j < i + 1 by omega)]
    · rw [if_neg e2, if_neg (by omega)]
theorem sd_fil_in {lo hi j : Nat} {v : Int32} {a : Nat → Int32} (h : lo ≤ j ∧ j < hi) : sd_fil lo hi v a j = v := if_pos h
theorem sd_fil_out {lo hi j : Nat} {v : Int32} {a : Nat → Int32} (h : ¬ (lo ≤ j ∧ j < hi)) : sd_fil lo hi v a j = a j := if_neg h
theorem sd_bz0 : vp_nar .byte ((0 : Int32).toInt8.toInt32) = 0 := sd_bbi (by decide) (by decide)
theorem sd_bz1 : vp_nar .byte ((1 : Int32).toInt8.toInt32) = 1 := sd_bbi (by decide) (by decide)
section
variable {R L n : Nat} {T D bk p1 p2 p3 : Int32} {wd kd kc jn ax ay ty ig ol rO dX sa ls fX tu tx eX G C P H M J V A B be U sY fY yA yB yC yD y1 y2 : Nat → Int32} {sX iX bX tX : Nat → Int64} {q0 q1 q2 q3 q4 q5 q6 q7 q8 q9 : Int32}
theorem sd_x59 {post : SX → Prop} {r k s la z : Nat} {t3 c0 w : Int32} (hs : s < 32) (hla : la < 32) (hz : z < 4096) (hc0 : vp_in c0 16) (h3 : (t3 < 0 ∧ la = s) ∨ ¬ t3 < 0) :
    ∀ (d i N : Nat), i + d = la + 1 → k ≤ i → d < N → (∃ n126, wX_tie_126 post (nI r) w (nI R) (nI L) (nI n) (nI z) D bk (nI k) (nI s) t3 n126 (nI (la + 1)) wd kd kc jn ax ay sX ty ig ol rO dX sa ls fX tu tx iX bX tX eX (sd_xt G q0) (sd_xt (sd_fil k (la + 1) c0 C) q1) (sd_xt (sd_pt k (la + 1) s P) q2) (sd_xt H q3) (sd_xt M q4) (sd_xt (sd_fil k (la + 1) (nI z) J) q5) (sd_xt V q6) (sd_xt A q7) (sd_xt B q8) be (sd_xt U q9)) →
      wX_tie_59 post (nI r) (nI la) c0 w (nI R) (nI L) (nI n) (nI z) D bk (nI k) (nI s) t3 N (nI i) wd kd kc jn ax ay sX ty ig ol rO dX sa ls fX tu tx iX bX tX eX (sd_xt G q0) (sd_xt (sd_fil k i c0 C) q1) (sd_xt (sd_pt k i s P) q2) (sd_xt H q3) (sd_xt M q4) (sd_xt (sd_fil k i (nI z) J) q5) (sd_xt V q6) (sd_xt A q7) (sd_xt B q8) be (sd_xt U q9) := by
  intro d
  induction d with
  | zero =>
    intro i N hi hki hN kk
    obtain ⟨N, rfl⟩ : ∃ N', N = N' + 1 := ⟨N - 1, by omega⟩
    obtain rfl : i = la + 1 := by omega
    exact br_t (nI_lt (by omega) (by omega)) (nm_r (nI_1 la) kk)
  | succ d ih =>
    intro i N hi hki hN kk
    obtain ⟨N, rfl⟩ : ∃ N', N = N' + 1 := ⟨N - 1, by omega⟩
    have vi : vp_in (nI i) 34 := vp_in_nI (by omega) (by decide)
    have e1 : upd (sd_xt (sd_fil k i c0 C) q1) (nI i).toNatClampNeg (vp_nar .byte c0.toInt8.toInt32) = sd_xt (sd_fil k (i + 1) c0 C) q1 := by
      rw [sd_nw (v' := c0) (by omega) (sd_bb hc0 (by decide)), sd_fil_u hki]
    have e2 : upd (sd_xt (sd_fil k i (nI z) J) q5) (nI i).toNatClampNeg (vp_nar .short (nI z).toInt16.toInt32) = sd_xt (sd_fil k (i + 1) (nI z) J) q5 := by
      rw [sd_nw (v' := nI z) (by omega) (sd_ss (vp_in_nI hz (by decide)) (by decide)), sd_fil_u hki]
    have nx := ih (i + 1) N (by omega) (by omega) (by omega) kk
    have e3 : ∀ v v' : Int32, vp_nar .byte v.toInt8.toInt32 = v' → (v' = if s < i then 1 else 0) → upd (sd_xt (sd_pt k i s P) q2) (nI i).toNatClampNeg (vp_nar .byte v.toInt8.toInt32) = sd_xt (sd_pt k (i + 1) s P) q2 := fun v v' h h' => by
      rw [sd_nw (v' := v') (by omega) h, sd_pt_s hki h']
    refine br_f (nI_nlt (by omega) (by omega)) ⟨vi, nm_r e1 ⟨vi, nm_r e2 ?_⟩⟩
    rcases h3 with ⟨h3, h4⟩ | h3
    · exact br_t h3 ⟨vi, nm_r (e3 0 0 sd_bz0 (by rw [if_neg (by omega)])) (nm_r (nI_1 i) nx)⟩
    · by_cases q : i ≤ s
      · exact br_f h3 (br_t (nI_le q (by omega)) ⟨vi, nm_r (e3 0 0 sd_bz0 (by rw [if_neg (by omega)])) (nm_r (nI_1 i) nx)⟩)
      · exact br_f h3 (br_f (nI_ge (by omega) (by omega)) ⟨vi, nm_r (e3 1 1 sd_bz1 (by rw [if_pos (by omega)])) (nm_r (nI_1 i) nx)⟩)
theorem sd_y121 {post : Int32 → SY → Prop} {r k s la z : Nat} {t3 c0 x8 : Int32} (hs : s < 32) (hla : la < 32) :
    ∀ (d i N : Nat), i + d = la + 1 → k ≤ i → d < N → (∃ n179, wY_joins_179 post (nI r) (nI k) (nI s) t3 x8 (nI R) (nI L) (nI n) D (nI z) bk n179 (nI (la + 1)) wd kd kc jn sY ax ay ty ig ol ls fY tu rO yA yB yC yD y1 y2 tx G (sd_fil k (la + 1) c0 C) M (sd_fil k (la + 1) (nI z) J) (sd_pt k (la + 1) s P) V A B H U) →
      wY_joins_121 post (nI r) (nI k) (nI s) t3 (nI la) c0 x8 (nI R) (nI L) (nI n) D (nI z) bk N (nI i) wd kd kc jn sY ax ay ty ig ol ls fY tu rO yA yB yC yD y1 y2 tx G (sd_fil k i c0 C) M (sd_fil k i (nI z) J) (sd_pt k i s P) V A B H U := by
  intro d
  induction d with
  | zero =>
    intro i N hi hki hN kk
    obtain ⟨N, rfl⟩ : ∃ N', N = N' + 1 := ⟨N - 1, by omega⟩
    obtain rfl : i = la + 1 := by omega
    exact br_t (nI_lt (by omega) (by omega)) (nm_r (nI_1 la) kk)
  | succ d ih =>
    intro i N hi hki hN kk
    obtain ⟨N, rfl⟩ : ∃ N', N = N' + 1 := ⟨N - 1, by omega⟩
    have vi : vp_in (nI i) 33 := vp_in_nI (by omega) (by decide)
    have e1 : upd (sd_fil k i c0 C) (nI i).toNatClampNeg c0 = sd_fil k (i + 1) c0 C := by rw [sd_yw (v' := c0) (by omega) rfl, sd_fil_u hki]
    have e2 : upd (sd_fil k i (nI z) J) (nI i).toNatClampNeg (nI z) = sd_fil k (i + 1) (nI z) J := by rw [sd_yw (v' := nI z) (by omega) rfl, sd_fil_u hki]
    have nx := ih (i + 1) N (by omega) (by omega) (by omega) kk
    have e3 : ∀ v : Int32, (v = if s < i then 1 else 0) → upd (sd_pt k i s P) (nI i).toNatClampNeg v = sd_pt k (i + 1) s P := fun v h' => by
      rw [sd_yw (v' := v) (by omega) rfl, sd_pt_s hki h']
    refine br_f (nI_nlt (by omega) (by omega)) ⟨vi, nm_r e1 ⟨vi, nm_r e2 ?_⟩⟩
    by_cases q : i ≤ s
    · exact br_t (nI_le q (by omega)) ⟨vi, nm_r (e3 0 (by rw [if_neg (by omega)])) (nm_r (nI_1 i) nx)⟩
    · exact br_f (nI_ge (by omega) (by omega)) ⟨vi, nm_r (e3 1 (by rw [if_pos (by omega)])) (nm_r (nI_1 i) nx)⟩
def sd_mk3 (kd G : Nat → Int32) : Nat → Bool := fun j => decide (kd (G j).toNatClampNeg = 3)
theorem sd_x126 {post : SX → Prop} {r z w : Nat} (hn : n ≤ 32) (hG : ∀ k, k < n → vp_in (G k) 48) (hz : z < 4096) (hw : w < 3) :
    ∀ (d i N : Nat) (J P : Nat → Int32), i + d = n → d < N → wX_tie_179 post (nI r) (nI R) (nI L) (nI n) (nI z) D bk p1 p2 p3 wd kd kc jn ax ay sX ty ig ol rO dX sa ls fX tu tx iX bX tX eX (sd_xt G q0) (sd_xt C q1) (sd_xt (sd_fil i (sd_up (sd_mk3 kd G) d i) (nI w) P) q2) (sd_xt H q3) (sd_xt M q4) (sd_xt (sd_fil i (sd_up (sd_mk3 kd G) d i) (nI z) J) q5) (sd_xt V q6) (sd_xt A q7) (sd_xt B q8) be (sd_xt U q9) →
      wX_tie_126 post (nI r) (nI w) (nI R) (nI L) (nI n) (nI z) D bk p1 p2 p3 N (nI i) wd kd kc jn ax ay sX ty ig ol rO dX sa ls fX tu tx iX bX tX eX (sd_xt G q0) (sd_xt C q1) (sd_xt P q2) (sd_xt H q3) (sd_xt M q4) (sd_xt J q5) (sd_xt V q6) (sd_xt A q7) (sd_xt B q8) be (sd_xt U q9) := by
  intro d
  induction d with
  | zero =>
    intro i N J P hi hN kk
    obtain ⟨N, rfl⟩ : ∃ N', N = N' + 1 := ⟨N - 1, by omega⟩
    unfold sd_up at kk
    rw [sd_fil_0, sd_fil_0] at kk
    exact br_t (nI_le (by omega) (by omega)) kk
  | succ d ih =>
    intro i N J P hi hN kk
    obtain ⟨N, rfl⟩ : ∃ N', N = N' + 1 := ⟨N - 1, by omega⟩
    have vi : vp_in (nI i) 34 := vp_in_nI (by omega) (by decide)
    have gi : sd_xt G q0 (nI i).toNatClampNeg = G i := sd_nr (by omega)
    refine br_f (nI_ge (by omega) (by omega)) ⟨vi, by rw [gi]; exact hG i (by omega), ?_⟩
    by_cases q : kd (G i).toNatClampNeg = 3
    · rw [sd_up_t (decide_eq_true q)] at kk
      have ge := sd_up_ge (sd_mk3 kd G) d (i + 1)
      rw [← sd_fil_s (i := i) (hi := sd_up (sd_mk3 kd G) d (i + 1)) (a := J) (by omega), ← sd_fil_s (i := i) (hi := sd_up (sd_mk3 kd G) d (i + 1)) (a := P) (by omega)] at kk
      exact br_t (by rw [gi]; exact q) ⟨vi, nm_r (sd_nw (by omega) (sd_ss (vp_in_nI hz (by decide)) (by decide))) ⟨vi, nm_r (sd_nw (by omega) (sd_bb (vp_in_nI hw (by decide)) (by decide))) (nm_r (nI_1 i) (ih (i + 1) N _ _ (by omega) (by omega) kk))⟩⟩
    · rw [sd_up_f (decide_eq_false q), sd_fil_0, sd_fil_0] at kk
      exact br_f (by rw [gi]; exact q) kk
theorem sd_y179 {post : Int32 → SY → Prop} {r z w : Nat} {x2 x4 x5 : Int32} (hn : n ≤ 32) (hG : ∀ k, k < n → vp_in (G k) 48) :
    ∀ (d i N : Nat) (J P : Nat → Int32), i + d = n → d < N → wY_joins_232 post (nI r) x2 x4 x5 (nI R) (nI L) (nI n) D (nI z) bk wd kd kc jn sY ax ay ty ig ol ls fY tu rO yA yB yC yD y1 y2 tx G C M (sd_fil i (sd_up (sd_mk3 kd G) d i) (nI z) J) (sd_fil i (sd_up (sd_mk3 kd G) d i) (nI w) P) V A B H U →
      wY_joins_179 post (nI r) x2 x4 x5 (nI (w + 1)) (nI R) (nI L) (nI n) D (nI z) bk N (nI i) wd kd kc jn sY ax ay ty ig ol ls fY tu rO yA yB yC yD y1 y2 tx G C M J P V A B H U := by
  intro d
  induction d with
  | zero =>
    intro i N J P hi hN kk
    obtain ⟨N, rfl⟩ : ∃ N', N = N' + 1 := ⟨N - 1, by omega⟩
    unfold sd_up at kk
    rw [sd_fil_0, sd_fil_0] at kk
    exact br_t (nI_le (by omega) (by omega)) kk
  | succ d ih =>
    intro i N J P hi hN kk
    obtain ⟨N, rfl⟩ : ∃ N', N = N' + 1 := ⟨N - 1, by omega⟩
    have vi : vp_in (nI i) 33 := vp_in_nI (by omega) (by decide)
    have gi : G (nI i).toNatClampNeg = G i := sd_yr (by omega)
    refine br_f (nI_ge (by omega) (by omega)) ⟨vi, by rw [gi]; exact hG i (by omega), ?_⟩
    by_cases q : kd (G i).toNatClampNeg = 3
    · rw [sd_up_t (decide_eq_true q)] at kk
      have ge := sd_up_ge (sd_mk3 kd G) d (i + 1)
      rw [← sd_fil_s (i := i) (hi := sd_up (sd_mk3 kd G) d (i + 1)) (a := J) (by omega), ← sd_fil_s (i := i) (hi := sd_up (sd_mk3 kd G) d (i + 1)) (a := P) (by omega)] at kk
      exact br_t (by rw [gi]; exact q) ⟨vi, nm_r (sd_yw (by omega) rfl) ⟨vi, nm_r (sd_yw (by omega) (nI_pred w)) (nm_r (nI_1 i) (ih (i + 1) N _ _ (by omega) (by omega) kk))⟩⟩
    · rw [sd_up_f (decide_eq_false q), sd_fil_0, sd_fil_0] at kk
      exact br_f (by rw [gi]; exact q) kk
theorem sd_y84 {post : Int32 → SY → Prop} {r k la : Nat} {x4 x5 x8 : Int32} (hla : la < n) (hn : n ≤ 32) (hC : ∀ i j, i ≤ j → j < n → C i ≤ C j)
    (kk : ∃ n121, wY_joins_121 post (nI r) (nI k) x4 x5 (nI la) (C k) x8 (nI R) (nI L) (nI n) D T bk n121 (nI k) wd kd kc jn sY ax ay ty ig ol ls fY tu rO yA yB yC yD y1 y2 tx G C M J P V A B H U) :
    ∀ (d i N : Nat), i + d = la + 1 → k ≤ i → d < N → wY_joins_84 post (nI r) (nI k) x4 x5 (nI la) x8 (nI R) (nI L) (nI n) D T bk wd kd kc jn sY ax ay ty ig ol ls fY tu rO yA yB yC yD y1 y2 tx G C M J P V A B H U N (C k) (nI i) := by
  intro d
  induction d with
  | zero =>
    intro i N hi hki hN
    obtain ⟨N, rfl⟩ : ∃ N', N = N' + 1 := ⟨N - 1, by omega⟩
    exact br_t (nI_lt (by omega) (by omega)) kk
  | succ d ih =>
    intro i N hi hki hN
    obtain ⟨N, rfl⟩ : ∃ N', N = N' + 1 := ⟨N - 1, by omega⟩
    exact br_f (nI_nlt (by omega) (by omega)) ⟨vp_in_nI (by omega) (by decide), br_t (by rw [nI_clamp (by omega)]; exact hC k i hki (by omega)) (nm_r (nI_1 i) (ih (i + 1) N (by omega) (by omega) (by omega)))⟩
/-- both up to the point where the joined glyph is set -/
theorem sd_xtie0 {post : SX → Prop} {r k s la z w : Nat} {t3 : Int32} (h : sd_inv n G C P M J) (hk : k < s) (hs : s < n) (hla : la < n) (hkl : k ≤ la) (hz : z + 1 < 4096) (h3 : (t3 < 0 ∧ la = s ∧ w = 1) ∨ (t3 = nI la ∧ w = 2))
    (kk : wX_tie_179 post (nI r) (nI R) (nI L) (nI n) (nI (z + 1)) D bk (nI k) (nI s) t3 wd kd kc jn ax ay sX ty ig ol rO dX sa ls fX tu tx iX bX tX eX (sd_xt G q0) (sd_xt (sd_fil k (la + 1) (C k) C) q1) (sd_xt (sd_fil (la + 1) (sd_up (sd_mk3 kd G) (n - (la + 1)) (la + 1)) (nI w) (sd_pt k (la + 1) s P)) q2) (sd_xt H q3) (sd_xt M q4) (sd_xt (sd_fil (la + 1) (sd_up (sd_mk3 kd G) (n - (la + 1)) (la + 1)) (nI (z + 1)) (sd_fil k (la + 1) (nI (z + 1)) J)) q5) (sd_xt V q6) (sd_xt A q7) (sd_xt B q8) be (sd_xt U q9)) : wpX_tie post (nI R, nI L, nI n, nI z, D, bk, nI k, nI s, t3, wd, kd, kc, jn, ax, ay, sX, ty, ig, ol, rO, dX, sa, ls, fX, tu, tx, iX, bX, tX, eX, sd_xt G q0, sd_xt C q1, sd_xt P q2, sd_xt H q3, sd_xt M q4, sd_xt J q5, sd_xt V q6, sd_xt A q7, sd_xt B q8, be, sd_xt U q9) (nI r) := by
  have hn := h.1
  have vk : vp_in (nI k) 34 := vp_in_nI (by omega) (by decide)
  have hw : w < 3 := by rcases h3 with ⟨-, -, e⟩ | ⟨-, e⟩ <;> omega
  have z126 := sd_x126 hn (sd_inv_G h) hz hw (n - (la + 1)) (la + 1) (n - (la + 1) + 1) (sd_fil k (la + 1) (nI (z + 1)) J) (sd_pt k (la + 1) s P) (by omega) (by omega) kk
  have z59 := sd_x59 (post := post) (r := r) (s := s) (la := la) (by omega) (by omega) hz ((h.2.1 k (by omega)).2.1) (by
    rcases h3 with ⟨a, b, -⟩ | ⟨a, -⟩
    · exact Or.inl ⟨a, b⟩
    · exact Or.inr (by rw [a]; exact nI_pos (by omega))) (la + 1 - k) k (la + 1 - k + 1) (by omega) (Nat.le_refl k) (by omega) ⟨_, z126⟩
  rw [sd_fil_0, sd_fil_0, sd_pt_0] at z59
  have x3 : sd_xt C q1 (nI k).toNatClampNeg = C k := sd_nr (by omega)
  rcases h3 with ⟨a, b, c⟩ | ⟨a, c⟩
  · subst b c
    exact br_t a ⟨vk, nm_r x3 (br_t a (nm_r (nI_1 z) ⟨_, z59⟩))⟩
  · subst c
    have a' : ¬ t3 < 0 := by rw [a]; exact nI_pos (by omega)
    refine br_f a' ⟨vk, nm_r x3 (br_f a' (nm_r (nI_1 z) ⟨la + 1 - k + 1, ?_⟩))⟩
    rw [← a] at z59
    exact z59
theorem sd_ytie0 {post : Int32 → SY → Prop} {r k s la z w : Nat} {t3 : Int32} (h : sd_inv n G C P M J) (hk : k < s) (hs : s < n) (hla : la < n) (hkl : k ≤ la) (h3 : (t3 < 0 ∧ la = s ∧ w = 1) ∨ (t3 = nI la ∧ w = 2))
    (kk : wY_joins_232 post (nI r) (nI k) (nI s) t3 (nI R) (nI L) (nI n) D (nI (z + 1)) bk wd kd kc jn sY ax ay ty ig ol ls fY tu rO yA yB yC yD y1 y2 tx G (sd_fil k (la + 1) (C k) C) M (sd_fil (la + 1) (sd_up (sd_mk3 kd G) (n - (la + 1)) (la + 1)) (nI (z + 1)) (sd_fil k (la + 1) (nI (z + 1)) J)) (sd_fil (la + 1) (sd_up (sd_mk3 kd G) (n - (la + 1)) (la + 1)) (nI w) (sd_pt k (la + 1) s P)) V A B H U) : wY_joins_35 post (nI r) (nI k) (nI s) t3 (nI R) (nI L) (nI n) D (nI z) bk wd kd kc jn sY ax ay ty ig ol ls fY tu rO yA yB yC yD y1 y2 tx G C M J P V A B H U := by
  have hn := h.1
  have vk : vp_in (nI k) 33 := vp_in_nI (by omega) (by decide)
  have z179 := sd_y179 hn (sd_inv_G h) (n - (la + 1)) (la + 1) (n - (la + 1) + 1) (sd_fil k (la + 1) (nI (z + 1)) J) (sd_pt k (la + 1) s P) (by omega) (by omega) kk
  have z121 := sd_y121 (post := post) (r := r) (s := s) (la := la) (by omega) (by omega) (la + 1 - k) k (la + 1 - k + 1) (by omega) (Nat.le_refl k) (by omega) ⟨_, z179⟩
  rw [sd_fil_0, sd_fil_0, sd_pt_0] at z121
  have z84 := sd_y84 hla hn h.2.2 ⟨_, z121⟩ (la + 1 - k) k (la + 1 - k + 1) (by omega) (Nat.le_refl k) (by omega)
  have x3 : C (nI k).toNatClampNeg = C k := sd_yr (by omega)
  rcases h3 with ⟨a, b, c⟩ | ⟨a, c⟩
  · subst b c
    exact br_f (Int32.not_le.mpr a) ⟨vk, nm_r x3 (br_f (Int32.not_le.mpr a) (nm_r (nI_1 z) ⟨_, z84⟩))⟩
  · subst c
    have a' : 0 ≤ t3 := by rw [a]; exact nI_pos' (by omega)
    refine br_t a' ⟨vk, nm_r x3 (br_t a' (nm_r (nI_1 z) ⟨la + 1 - k + 1, ?_⟩))⟩
    rw [← a] at z84
    exact z84
theorem sd_inv_tie {k s la z w e : Nat} (h : sd_inv n G C P M J) (hk : k < n) (hz : z + 1 < 4096) (hw : w < 3) : sd_inv n G (sd_fil k (la + 1) (C k) C) (sd_fil (la + 1) e (nI w) (sd_pt k (la + 1) s P)) M (sd_fil (la + 1) e (nI (z + 1)) (sd_fil k (la + 1) (nI (z + 1)) J)) := by
  refine And.intro h.1 (And.intro (fun j hj => ?_) (fun i j a b => ?_))
  · obtain ⟨h1, h2, h3, h4, h5⟩ := h.2.1 j hj
    refine And.intro h1 (And.intro ?_ (And.intro ?_ (And.intro h4 ?_)))
    · unfold sd_fil
      split
      · exact (h.2.1 k hk).2.1
      · exact h2
    · unfold sd_fil sd_pt
      split
      · exact vp_in_nI hw (by decide)
      · split
        · split
          · exact vp_in_nI (n := 1) (by decide) (by decide)
          · exact vp_in_nI (n := 0) (by decide) (by decide)
        · exact h3
    · unfold sd_fil
      split
      · exact vp_in_nI hz (by decide)
      · split
        · exact vp_in_nI hz (by decide)
        · exact h5
  · unfold sd_fil
    split
    · split
      · exact Int32.le_refl _
      · exact h.2.2 k j (by omega) b
    · split
      · exact h.2.2 i k (by omega) hk
      · exact h.2.2 i j a b
theorem sd_tie {r k s z : Nat} {t3 : Int32} (hK : sd_K R L bk kd kc jn ty ig rO yA yB yC yD y1 y2 sa dX sY fX fY tx sX) (hr : r < R) (h : sd_inv n G C P M J) (hk : k < s) (hs : s < n) (h3 : t3 = -1 ∨ ∃ t, t3 = nI t ∧ s < t ∧ t < n) (hz : z + 1 < 4096) (vD : vp_in (yD r) 48) :
    ∃ (n' : Nat) (G' C' P' M' J' : Nat → Int32), sd_inv n' G' C' P' M' J' ∧ n' < n ∧
      (∀ post : SX → Prop, post (nI R, nI L, nI n', nI (z + 1), D, bk, nI k, nI s, t3, wd, kd, kc, jn, ax, ay, sX, ty, ig, ol, rO, dX, sa, ls, fX, tu, tx, iX, bX, tX, eX, sd_xt G' q0, sd_xt C' q1, sd_xt P' q2, sd_xt H q3, sd_xt M' q4, sd_xt J' q5, sd_xt V q6, sd_xt A q7, sd_xt B q8, be, sd_xt U q9) → wpX_tie post (nI R, nI L, nI n, nI z, D, bk, nI k, nI s, t3, wd, kd, kc, jn, ax, ay, sX, ty, ig, ol, rO, dX, sa, ls, fX, tu, tx, iX, bX, tX, eX, sd_xt G q0, sd_xt C q1, sd_xt P q2, sd_xt H q3, sd_xt M q4, sd_xt J q5, sd_xt V q6, sd_xt A q7, sd_xt B q8, be, sd_xt U q9) (nI r)) ∧
      (∀ post : Int32 → SY → Prop, post (nI k + 1) (nI R, nI L, nI n', D, nI (z + 1), bk, wd, kd, kc, jn, sY, ax, ay, ty, ig, ol, ls, fY, tu, rO, yA, yB, yC, yD, y1, y2, tx, G', C', M', J', P', V, A, B, H, U) → wY_joins_35 post (nI r) (nI k) (nI s) t3 (nI R) (nI L) (nI n) D (nI z) bk wd kd kc jn sY ax ay ty ig ol ls fY tu rO yA yB yC yD y1 y2 tx G C M J P V A B H U) := by
  have hn := h.1
  have hR := hK.rl
  have v3 : vp_in ((4 * nI r) + 3) 160 := by rw [show (4 * nI r) + 3 = nI (4 * r + 3) from sd_i4 r 3]; exact vp_in_nI (by omega) (by decide)
  have i3 : ((4 * nI r) + 3).toNatClampNeg = 4 * r + 3 := by rw [show (4 * nI r) + 3 = nI (4 * r + 3) from sd_i4 r 3]; exact nI_clamp (by omega)
  have sD : sa ((4 * nI r) + 3).toNatClampNeg = yD r := by rw [i3]; exact (hK.sy r (by omega)).2.2.2
  have vr : vp_in (nI r) 40 := vp_in_nI (by omega) (by decide)
  have eD : vp_nar .byte ((sa ((4 * nI r) + 3).toNatClampNeg).toInt8.toInt32) = yD r := by rw [sD]; exact sd_bb vD (by decide)
  have eY : yD (nI r).toNatClampNeg = yD r := sd_yr (by omega)
  rcases h3 with e | ⟨t, e, h1, h2⟩
  · subst e
    have hi := sd_inv_g (k := k) (v := yD r) (sd_inv_tie (k := k) (s := s) (la := s) (z := z) (w := 1) (e := sd_up (sd_mk3 kd G) (n - (s + 1)) (s + 1)) h (by omega) hz (by omega)) vD
    refine ⟨n - 1, _, _, _, _, _, sd_inv_rm hi hs, by omega, fun post kk => ?_, fun post kk => ?_⟩
    · exact sd_xtie0 h hk hs hs (by omega) hz (Or.inl ⟨sd_m1lt, rfl, rfl⟩) (And.intro v3 ⟨vp_in_nI (by omega) (by decide), nm_r (sd_nw (by omega) eD) (br_t sd_m1lt (sd_xrem hi hs kk))⟩)
    · exact sd_ytie0 h hk hs hs (by omega) (Or.inl ⟨sd_m1lt, rfl, rfl⟩) (And.intro vr ⟨vp_in_nI (by omega) (by decide), nm_r (sd_yw (by omega) eY) (br_t sd_m1lt (sd_yrem hn hs kk))⟩)
  · have hi := sd_inv_g (k := k) (v := yD r) (sd_inv_tie (k := k) (s := s) (la := t) (z := z) (w := 2) (e := sd_up (sd_mk3 kd G) (n - (t + 1)) (t + 1)) h (by omega) hz (by omega)) vD
    have hi2 := sd_inv_rm hi h2
    refine ⟨n - 1 - 1, _, _, _, _, _, sd_inv_rm hi2 (k := s) (by omega), by omega, fun post kk => ?_, fun post kk => ?_⟩
    · refine sd_xtie0 h hk hs h2 (by omega) hz (Or.inr ⟨e, rfl⟩) (And.intro v3 ⟨vp_in_nI (by omega) (by decide), nm_r (sd_nw (by omega) eD) (br_f (by rw [e]; exact nI_pos (by omega)) ?_)⟩)
      rw [e] at kk ⊢
      exact sd_xrem hi h2 (sd_xrem hi2 (by omega) kk)
    · refine sd_ytie0 h hk hs h2 (by omega) (Or.inr ⟨e, rfl⟩) (And.intro vr ⟨vp_in_nI (by omega) (by decide), nm_r (sd_yw (by omega) eY) (br_f (by rw [e]; exact nI_pos (by omega)) ?_)⟩)
      rw [e]
      exact sd_yrem hn h2 (sd_yrem (by omega) (by omega) kk)
end
end
section
section
variable {R L n : Nat} {T D bk p1 p2 p3 : Int32} {wd kd kc jn ax ay ty ig ol rO dX sa ls fX tu tx eX G C P H M J V A B be U sY fY yA yB yC yD y1 y2 : Nat → Int32} {sX iX bX tX : Nat → Int64} {q0 q1 q2 q3 q4 q5 q6 q7 q8 q9 : Int32}
theorem sd_yjoins {post : Int32 → SY → Prop} {r l k s : Nat} {t3 : Int32} (hK : sd_K R L bk kd kc jn ty ig rO yA yB yC yD y1 y2 sa dX sY fX fY tx sX) (hl : l < 12) (hn : n ≤ 32) (hG : ∀ k, k < n → vp_in (G k) 48) (hr : r < R) (hk : k < n) (ho : rO r = nI l) (hs : s < n) (es : sd_nx (sd_pg kd kc ig ol G l) n k = nI s) (e3 : t3 = if yC r < 0 then -1 else sd_n2 (sd_pg kd kc ig ol G l) n k)
    (kk : wY_joins_35 post (nI r) (nI k) (nI s) t3 (nI R) (nI L) (nI n) D T bk wd kd kc jn sY ax ay ty ig ol ls fY tu rO yA yB yC yD y1 y2 tx G C M J P V A B H U) : wpY_joins post (nI R, nI L, nI n, D, T, bk, wd, kd, kc, jn, sY, ax, ay, ty, ig, ol, ls, fY, tu, rO, yA, yB, yC, yD, y1, y2, tx, G, C, M, J, P, V, A, B, H, U) (nI r) (nI k) := by
  have hR := hK.rl
  have cr : (nI r).toNatClampNeg = r := nI_clamp (by omega)
  have vr : vp_in (nI r) 40 := vp_in_nI (by omega) (by decide)
  refine And.intro vr (nm_r (e' := nI l) (by rw [cr]; exact ho) (sd_ynext hK hl hn hG hk ?_))
  rw [es]
  refine And.intro vr ?_
  by_cases h : yC r < 0
  · rw [if_pos h] at e3
    rw [e3] at kk
    exact br_f (by rw [cr]; exact Int32.not_le.mpr h) kk
  · rw [if_neg h, sd_n2_of es (by omega)] at e3
    rw [e3] at kk
    exact br_t (by rw [cr]; exact Int32.not_lt.mp h) (sd_ynext hK hl hn hG hs kk)
theorem sd_doneY {t : Int32} : (t = 0 → ¬ t < 0 ∧ ¬ (3 : Int32) < t) ∧ (t = 1 → ¬ t < 0 ∧ ¬ (3 : Int32) < t ∧ ¬ t = 0) ∧ (t = 2 → ¬ t < 0 ∧ ¬ (3 : Int32) < t ∧ ¬ t = 0 ∧ ¬ t = 1) := by
  refine ⟨fun h => ?_, fun h => ?_, fun h => ?_⟩ <;> subst h <;> decide
/-- a rule of the types 0 to 2 is done, by both -/
theorem sd_do {r l k z : Nat} {s2 s3 : Int32} (hK : sd_K R L bk kd kc jn ty ig rO yA yB yC yD y1 y2 sa dX sY fX fY tx sX) (hl : l < 12) (h : sd_inv n G C P M J) (hr : r < R) (hk : k < n) (ho : rO r = nI l) (h2 : ty l ≤ 2) (ff : sd_FF (ty l) (yB r) (yC r) n (sd_nx (sd_pg kd kc ig ol G l) n k) (sd_n2 (sd_pg kd kc ig ol G l) n k)) (hz : z + 1 < 4096)
    (e2 : s2 = sd_s2 (ty l) (yC r) (sd_nx (sd_pg kd kc ig ol G l) n k)) (e3 : s3 = sd_s3 (ty l) (yC r) (sd_n2 (sd_pg kd kc ig ol G l) n k)) :
    ∃ (n' : Nat) (G' C' P' M' J' : Nat → Int32) (z' κ : Nat), sd_inv n' G' C' P' M' J' ∧ z' ≤ z + 1 ∧ (ty l = 1 → κ + n = k + n' + 1) ∧ (¬ ty l = 1 → κ = k + 1) ∧ n' - κ < n - k ∧
      (∀ post : SX → Prop, post (nI R, nI L, nI n', nI z', D + 1, bk, nI k, s2, s3, wd, kd, kc, jn, ax, ay, sX, ty, ig, ol, rO, dX, sa, ls, fX, tu, tx, iX, bX, tX, eX, sd_xt G' q0, sd_xt C' q1, sd_xt P' q2, sd_xt H q3, sd_xt M' q4, sd_xt J' q5, sd_xt V q6, sd_xt A q7, sd_xt B q8, be, sd_xt U q9) → wpX_perform post (nI R, nI L, nI n, nI z, D, bk, nI k, s2, s3, wd, kd, kc, jn, ax, ay, sX, ty, ig, ol, rO, dX, sa, ls, fX, tu, tx, iX, bX, tX, eX, sd_xt G q0, sd_xt C q1, sd_xt P q2, sd_xt H q3, sd_xt M q4, sd_xt J q5, sd_xt V q6, sd_xt A q7, sd_xt B q8, be, sd_xt U q9) (nI r)) ∧
      (∀ post : SY → Prop, post (nI R, nI L, nI n', D + 1, nI z', bk, wd, kd, kc, jn, sY, ax, ay, ty, ig, ol, ls, fY, tu, rO, yA, yB, yC, yD, y1, y2, tx, G', C', M', J', P', V, A, B, H, U) → wpY_deed post (nI R, nI L, nI n, D, nI z, bk, wd, kd, kc, jn, sY, ax, ay, ty, ig, ol, ls, fY, tu, rO, yA, yB, yC, yD, y1, y2, tx, G, C, M, J, P, V, A, B, H, U) (nI r) (nI k)) ∧
      (∀ post : Int32 → SY → Prop, post (nI κ) (nI R, nI L, nI n', D + 1, nI z', bk, wd, kd, kc, jn, sY, ax, ay, ty, ig, ol, ls, fY, tu, rO, yA, yB, yC, yD, y1, y2, tx, G', C', M', J', P', V, A, B, H, U) → wpY_act post (nI R, nI L, nI n, D, nI z, bk, wd, kd, kc, jn, sY, ax, ay, ty, ig, ol, ls, fY, tu, rO, yA, yB, yC, yD, y1, y2, tx, G, C, M, J, P, V, A, B, H, U) (nI r) (nI k)) := by
  have hR := hK.rl
  have hn := h.1
  have hG := sd_inv_G h
  have cr : (nI r).toNatClampNeg = r := nI_clamp (by omega)
  have cl : (nI l).toNatClampNeg = l := nI_clamp (by omega)
  have vr : vp_in (nI r) 40 := vp_in_nI (by omega) (by decide)
  have vk : vp_in (nI k) 34 := vp_in_nI (by omega) (by decide)
  have wk : vp_in (nI k) 33 := vp_in_nI (by omega) (by decide)
  have er : rO (nI r).toNatClampNeg = nI l := by rw [cr]; exact ho
  have vo : vp_in (rO (nI r).toNatClampNeg) 12 := by rw [er]; exact vp_in_nI hl (by decide)
  have et : ty (rO (nI r).toNatClampNeg).toNatClampNeg = ty l := by rw [er, cl]
  have eB : yB (nI r).toNatClampNeg = yB r := sd_yr (by omega)
  have eC : yC (nI r).toNatClampNeg = yC r := sd_yr (by omega)
  have i1 : ((4 * nI r) + 1).toNatClampNeg = 4 * r + 1 := by rw [show (4 * nI r) + 1 = nI (4 * r + 1) from sd_i4 r 1]; exact nI_clamp (by omega)
  have i2 : ((4 * nI r) + 2).toNatClampNeg = 4 * r + 2 := by rw [show (4 * nI r) + 2 = nI (4 * r + 2) from sd_i4 r 2]; exact nI_clamp (by omega)
  have v1 : vp_in ((4 * nI r) + 1) 160 := by rw [show (4 * nI r) + 1 = nI (4 * r + 1) from sd_i4 r 1]; exact vp_in_nI (by omega) (by decide)
  have v2 : vp_in ((4 * nI r) + 2) 160 := by rw [show (4 * nI r) + 2 = nI (4 * r + 2) from sd_i4 r 2]; exact vp_in_nI (by omega) (by decide)
  have sB : sa ((4 * nI r) + 1).toNatClampNeg = yB r := by rw [i1]; exact (hK.sy r (by omega)).2.1
  have sC : sa ((4 * nI r) + 2).toNatClampNeg = yC r := by rw [i2]; exact (hK.sy r (by omega)).2.2.1
  rcases sd_rvl hK hl hr ho with ⟨t, vA, vB⟩ | ⟨t, vA, vB, vC⟩ | ⟨t, vA, vB, vC, vD⟩ | ⟨t, vA, vB, vC, vD⟩ | ⟨t, vA, vB, vC, vD⟩ | ⟨t, vA, vB⟩
  · refine ⟨n, upd G k (yB r), C, P, M, J, z, k + 1, sd_inv_g h vB, by omega, fun q => absurd (t.symm.trans q) (by decide), fun _ => rfl, by omega, fun post kk => ?_, fun post kk => ?_, fun post kk => ?_⟩
    · refine And.intro vr ⟨vo, nm_r (et.trans t) (nm_e (br_t rfl ⟨v1, vk, nm_r (sd_nw (by omega) (by rw [sB]; exact sd_bb vB (by decide))) kk⟩))⟩
    · exact nm_e ⟨vr, vo, br_t (et.trans t) ⟨vr, wk, nm_r (sd_yw (by omega) eB) kk⟩⟩
    · refine nm_e ⟨vr, vo, nm_r (et.trans t) (br_f (by decide) (br_f (by decide) (br_t rfl ⟨vr, wk, nm_r (sd_yw (by omega) eB) ?_⟩)))⟩
      rw [nI_1 k]; exact kk
  · have f33 := ff.1 t
    obtain ⟨n', G', C', P', M', J', g1, g2, g3, g4⟩ := sd_split (R := R) (L := L) (T := nI z) (D := D + 1) (bk := bk) (p1 := nI k) (p2 := s2) (p3 := s3) (wd := wd) (kd := kd) (kc := kc) (jn := jn) (ax := ax) (ay := ay) (ty := ty) (ig := ig) (ol := ol) (rO := rO) (dX := dX) (sa := sa) (ls := ls) (fX := fX) (tu := tu) (tx := tx) (eX := eX) (H := H) (V := V) (A := A) (B := B) (be := be) (U := U) (sY := sY) (fY := fY) (yA := yA) (yB := yB) (yC := yC) (yD := yD) (y1 := y1) (y2 := y2) (sX := sX) (iX := iX) (bX := bX) (tX := tX) (q0 := q0) (q1 := q1) (q2 := q2) (q3 := q3) (q4 := q4) (q5 := q5) (q6 := q6) (q7 := q7) (q8 := q8) (q9 := q9) h hk vB vC f33
    refine ⟨n', G', C', P', M', J', z, k + (sd_c (yB r) + sd_c (yC r)), g1, by omega, fun _ => by omega, fun q => absurd t q, by omega, fun post kk => ?_, fun post kk => ?_, fun post kk => ?_⟩
    · refine And.intro vr ⟨vo, nm_r (et.trans t) (nm_e (br_f sd_10 (br_t rfl ⟨v1, v2, ?_⟩)))⟩
      rw [sB, sC]
      exact g3 _ kk
    · refine nm_e ⟨vr, vo, br_f (by rw [et, t]; exact sd_10) ⟨vr, vo, br_t (et.trans t) ⟨vr, vr, ?_⟩⟩⟩
      rw [eB, eC]
      exact g4 _ kk
    · refine nm_e ⟨vr, vo, nm_r (et.trans t) (br_f (by decide) (br_f (by decide) (br_f sd_10 (br_t rfl ⟨vr, vr, ?_⟩))))⟩
      rw [eB, eC]
      refine g4 _ ?_
      rw [nI_add]; exact kk
  · obtain ⟨w1, w2⟩ := ff.2.1 t
    obtain ⟨s, hs1, hs2, -, es⟩ := (sd_nx_or (sd_pg kd kc ig ol G l) n k).resolve_left (fun q => w1 (by rw [q]; exact sd_m1lt))
    have es2 : s2 = nI s := by rw [e2, t]; exact es
    have es3 : s3 = if yC r < 0 then -1 else sd_n2 (sd_pg kd kc ig ol G l) n k := by rw [e3, t]; rfl
    have e33 : s3 = -1 ∨ ∃ t, s3 = nI t ∧ s < t ∧ t < n := by
      rw [es3]
      by_cases q : yC r < 0
      · left; rw [if_pos q]
      · right
        rw [if_neg q, sd_n2_of es (by omega)]
        have w3 := w2.resolve_left q
        rw [sd_n2_of es (by omega)] at w3
        obtain ⟨t', a, b, -, c⟩ := (sd_nx_or (sd_pg kd kc ig ol G l) n s).resolve_left (fun q => w3 (by rw [q]; exact sd_m1lt))
        exact ⟨t', c, a, b⟩
    obtain ⟨n', G', C', P', M', J', g1, g2, g3, g4⟩ := sd_tie (D := D + 1) (wd := wd) (ax := ax) (ay := ay) (ol := ol) (ls := ls) (tu := tu) (eX := eX) (H := H) (V := V) (A := A) (B := B) (be := be) (U := U) (iX := iX) (bX := bX) (tX := tX) (q0 := q0) (q1 := q1) (q2 := q2) (q3 := q3) (q4 := q4) (q5 := q5) (q6 := q6) (q7 := q7) (q8 := q8) (q9 := q9) hK hr h hs1 hs2 e33 hz vD
    refine ⟨n', G', C', P', M', J', z + 1, k + 1, g1, by omega, fun q => absurd (t.symm.trans q) (by decide), fun _ => rfl, by omega, fun post kk => ?_, fun post kk => ?_, fun post kk => ?_⟩
    · refine And.intro vr ⟨vo, nm_r (et.trans t) (nm_e (br_f (by decide) (br_f (by decide) ?_)))⟩
      rw [es2] at kk ⊢
      exact g3 _ kk
    · refine nm_e ⟨vr, vo, br_f (by rw [et, t]; decide) ⟨vr, vo, br_f (by rw [et, t]; decide) ?_⟩⟩
      exact sd_yjoins hK hl hn hG hr hk ho hs2 es es3 (g4 _ kk)
    · refine nm_e ⟨vr, vo, nm_r (et.trans t) (br_f (by decide) (br_f (by decide) (br_f (by decide) (br_f (by decide) (br_t rfl ?_)))))⟩
      refine sd_yjoins hK hl hn hG hr hk ho hs2 es es3 (g4 _ ?_)
      show post (nI k + 1) _
      rw [nI_1]; exact kk
  · rw [t] at h2; exact absurd h2 (by decide)
  · rw [t] at h2; exact absurd h2 (by decide)
  · rw [t] at h2; exact absurd h2 (by decide)
/-- a lookup is done once at an item, by both -/
theorem sd_once {k z : Nat} {lo : Int32} (hK : sd_K R L bk kd kc jn ty ig rO yA yB yC yD y1 y2 sa dX sY fX fY tx sX) (hL : sd_L R kd kc ig ol ty rO sa sY ls eX iX bX tX) (h : sd_inv n G C P M J) (hk : k < n) (hlo : lo = -1 ∨ vp_in lo 12) (hz : z + 1 < 4096) :
    ∃ (n' : Nat) (G' C' P' M' J' : Nat → Int32) (z' : Nat) (D' : Int32), sd_inv n' G' C' P' M' J' ∧ z' ≤ z + 1 ∧
      (∀ (post : SX → Prop) (p1 p2 p3 : Int32), (∀ p1' p2' p3' : Int32, post (nI R, nI L, nI n', nI z', D', bk, p1', p2', p3', wd, kd, kc, jn, ax, ay, sX, ty, ig, ol, rO, dX, sa, ls, fX, tu, tx, iX, bX, tX, eX, sd_xt G' q0, sd_xt C' q1, sd_xt P' q2, sd_xt H q3, sd_xt M' q4, sd_xt J' q5, sd_xt V q6, sd_xt A q7, sd_xt B q8, be, sd_xt U q9)) → wpX_once post (nI R, nI L, nI n, nI z, D, bk, p1, p2, p3, wd, kd, kc, jn, ax, ay, sX, ty, ig, ol, rO, dX, sa, ls, fX, tu, tx, iX, bX, tX, eX, sd_xt G q0, sd_xt C q1, sd_xt P q2, sd_xt H q3, sd_xt M q4, sd_xt J q5, sd_xt V q6, sd_xt A q7, sd_xt B q8, be, sd_xt U q9) lo (nI k)) ∧
      (∀ post : SY → Prop, post (nI R, nI L, nI n', D', nI z', bk, wd, kd, kc, jn, sY, ax, ay, ty, ig, ol, ls, fY, tu, rO, yA, yB, yC, yD, y1, y2, tx, G', C', M', J', P', V, A, B, H, U) → wpY_nested post (nI R, nI L, nI n, D, nI z, bk, wd, kd, kc, jn, sY, ax, ay, ty, ig, ol, ls, fY, tu, rO, yA, yB, yC, yD, y1, y2, tx, G, C, M, J, P, V, A, B, H, U) lo (nI k)) := by
  have hn := h.1
  have hG := sd_inv_G h
  have vk : vp_in (nI k) 34 := vp_in_nI (by omega) (by decide)
  rcases hlo with e | e
  · subst e
    exact ⟨n, G, C, P, M, J, z, D, h, by omega, fun post p1 p2 p3 kk => br_t sd_m1lt (kk _ _ _), fun post kk => br_t sd_m1lt kk⟩
  · obtain ⟨l, hl, rfl⟩ := vp_in_of e (by decide)
    have cl : (nI l).toNatClampNeg = l := nI_clamp (by omega)
    have nn : ¬ nI l < 0 := nI_pos (by omega)
    by_cases h2 : 2 < ty l
    · have h2' : 2 < ty (nI l).toNatClampNeg := by rw [cl]; exact h2
      exact ⟨n, G, C, P, M, J, z, D, h, by omega, fun post p1 p2 p3 kk => br_f nn ⟨e, br_t h2' (kk _ _ _)⟩, fun post kk => br_f nn ⟨e, br_t h2' kk⟩⟩
    · have h2' : ¬ 2 < ty (nI l).toNatClampNeg := by rw [cl]; exact h2
      cases hi : sd_pg kd kc ig ol G l k
      · obtain ⟨q, hq, fX, fY⟩ := sd_find (T := nI z) (D := D) (bk := bk) (wd := wd) (ax := ax) (ay := ay) (tu := tu) (C := C) (P := P) (H := H) (M := M) (J := J) (V := V) (A := A) (B := B) (be := be) (U := U) (q0 := q0) (q1 := q1) (q2 := q2) (q3 := q3) (q4 := q4) (q5 := q5) (q6 := q6) (q7 := q7) (q8 := q8) (q9 := q9) hK hL hl hn hG hk (Int32.le_trans (Int32.not_lt.mp h2) (by decide))
        rcases hq with rfl | ⟨r, hr, rfl, ho, ff⟩
        · refine ⟨n, G, C, P, M, J, z, D, h, by omega, fun post p1 p2 p3 kk => br_f nn ⟨e, br_f h2' ⟨e, vk, sd_xig hL hl (by omega) (hG k hk) ?_⟩⟩, fun post kk => br_f nn ⟨e, br_f h2' (sd_yig hK hl (by omega) (hG k hk) ?_)⟩⟩
          · rw [hi]
            exact br_t rfl (fX _ p1 p2 p3 (fun p1' p2' p3' _ => br_t sd_m1lt (kk _ _ _)))
          · rw [hi]
            exact br_t rfl (fY _ (br_t sd_m1lt kk))
        · obtain ⟨n', G', C', P', M', J', z', κ, g1, g2, -, -, -, g3, g4, -⟩ := sd_do (D := D) (wd := wd) (ax := ax) (ay := ay) (ls := ls) (tu := tu) (eX := eX) (H := H) (V := V) (A := A) (B := B) (be := be) (U := U) (iX := iX) (bX := bX) (tX := tX) (q0 := q0) (q1 := q1) (q2 := q2) (q3 := q3) (q4 := q4) (q5 := q5) (q6 := q6) (q7 := q7) (q8 := q8) (q9 := q9) hK hl h hr hk ho (Int32.not_lt.mp h2) ff hz rfl rfl
          have hR := hK.rl
          refine ⟨n', G', C', P', M', J', z', D + 1, g1, g2, fun post p1 p2 p3 kk => br_f nn ⟨e, br_f h2' ⟨e, vk, sd_xig hL hl (by omega) (hG k hk) ?_⟩⟩, fun post kk => br_f nn ⟨e, br_f h2' (sd_yig hK hl (by omega) (hG k hk) ?_)⟩⟩
          · rw [hi]
            refine br_t rfl (fX _ p1 p2 p3 (fun p1' p2' p3' hp => br_f (nI_pos (by omega)) ?_))
            obtain ⟨a1, a2, a3⟩ := hp r hr rfl
            subst a1 a2 a3
            exact g3 _ (kk _ _ _)
          · rw [hi]
            exact br_t rfl (fY _ (br_f (nI_pos (by omega)) (g4 _ kk)))
      · refine ⟨n, G, C, P, M, J, z, D, h, by omega, fun post p1 p2 p3 kk => br_f nn ⟨e, br_f h2' ⟨e, vk, sd_xig hL hl (by omega) (hG k hk) ?_⟩⟩, fun post kk => br_f nn ⟨e, br_f h2' (sd_yig hK hl (by omega) (hG k hk) ?_)⟩⟩
        · rw [hi]; exact br_f sd_10 (kk _ _ _)
        · rw [hi]; exact br_f sd_10 kk
end
end
section
section
variable {R L n : Nat} {T D bk p1 p2 p3 : Int32} {wd kd kc jn ax ay ty ig ol rO dX sa ls fX tu tx eX G C P H M J V A B be U sY fY yA yB yC yD y1 y2 : Nat → Int32} {sX iX bX tX : Nat → Int64} {q0 q1 q2 q3 q4 q5 q6 q7 q8 q9 : Int32}
theorem sd_go96 {n' k sc : Nat} (hn : n ≤ 32) (hn' : n' ≤ 32) (hk : k ≤ sc) (hs : sc < n) :
    ∃ κ : Nat, k < κ ∧ κ ≤ 33 ∧ n' - κ < n - k ∧ (∀ (post : Int32 → SX → Prop) (p1 p2 p3 : Int32), post (nI κ) (nI R, nI L, nI n', T, D, bk, p1, p2, p3, wd, kd, kc, jn, ax, ay, sX, ty, ig, ol, rO, dX, sa, ls, fX, tu, tx, iX, bX, tX, eX, sd_xt G q0, sd_xt C q1, sd_xt P q2, sd_xt H q3, sd_xt M q4, sd_xt J q5, sd_xt V q6, sd_xt A q7, sd_xt B q8, be, sd_xt U q9) → wX_go_96 post (nI k) (nI sc) (nI n) (nI R) (nI L) (nI n') T D bk p1 p2 p3 wd kd kc jn ax ay sX ty ig ol rO dX sa ls fX tu tx iX bX tX eX (sd_xt G q0) (sd_xt C q1) (sd_xt P q2) (sd_xt H q3) (sd_xt M q4) (sd_xt J q5) (sd_xt V q6) (sd_xt A q7) (sd_xt B q8) be (sd_xt U q9)) ∧ (∀ post : Int32 → SY → Prop, post (nI κ) (nI R, nI L, nI n', D, T, bk, wd, kd, kc, jn, sY, ax, ay, ty, ig, ol, ls, fY, tu, rO, yA, yB, yC, yD, y1, y2, tx, G, C, M, J, P, V, A, B, H, U) → wY_chain_89 post (nI k) (nI n) (nI sc) (nI R) (nI L) (nI n') D T bk wd kd kc jn sY ax ay ty ig ol ls fY tu rO yA yB yC yD y1 y2 tx G C M J P V A B H U) := by
  have e1 : ((nI sc + 1) + nI n') - nI n = nI (sc + 1 + n') - nI n := by rw [nI_1, nI_add]
  have e2 : ((nI sc + nI n') - nI n) + 1 = nI (sc + 1 + n') - nI n := by
    rw [show sc + 1 + n' = (sc + n') + 1 by omega, ← nI_1, nI_add, Int32.sub_eq_add_neg, Int32.sub_eq_add_neg, Int32.add_assoc, Int32.add_comm (-nI n) 1, ← Int32.add_assoc]
  have ti : (nI (sc + 1 + n') - nI n).toInt = ((sc + 1 + n' : Nat) : Int) - n := pk_sub_toInt (by omega) (by omega)
  by_cases q : nI (sc + 1 + n') - nI n ≤ nI k
  · have q' := q
    rw [Int32.le_iff_toInt_le, ti, nI_toInt (by omega)] at q'
    refine ⟨k + 1, by omega, by omega, by omega, fun post p1 p2 p3 kk => ?_, fun post kk => ?_⟩
    · rw [← nI_1] at kk
      exact nm_r e1 (br_t q kk)
    · rw [← nI_1] at kk
      exact nm_r e2 (br_t q kk)
  · have q' := q
    rw [Int32.le_iff_toInt_le, ti, nI_toInt (by omega)] at q'
    have e : nI (sc + 1 + n') - nI n = nI (sc + 1 + n' - n) := pk_sub (by omega)
    refine ⟨sc + 1 + n' - n, by omega, by omega, by omega, fun post p1 p2 p3 kk => ?_, fun post kk => ?_⟩
    · refine nm_r e1 (br_f q ?_)
      rw [e]; exact kk
    · refine nm_r e2 (br_f q ?_)
      rw [e]; exact kk
theorem sd_go19 {r k sc z : Nat} {c : Int32} (hK : sd_K R L bk kd kc jn ty ig rO yA yB yC yD y1 y2 sa dX sY fX fY tx sX) (hL : sd_L R kd kc ig ol ty rO sa sY ls eX iX bX tX) (h : sd_inv n G C P M J) (hr : r < R) (hk : k < n) (hsc : sc < n) (hz : z + 2 < 4096)
    (hc : (yC r < 0 ∧ c = -1 ∧ sc = k) ∨ (¬ yC r < 0 ∧ c = nI sc ∧ k < sc)) :
    ∃ (n' : Nat) (G' C' P' M' J' : Nat → Int32) (z' κ : Nat) (D' : Int32), sd_inv n' G' C' P' M' J' ∧ z' ≤ z + 2 ∧ κ ≤ 33 ∧ n' - κ < n - k ∧
      (∀ (post : Int32 → SX → Prop) (p1 p2 p3 : Int32), (∀ p1' p2' p3' : Int32, post (nI κ) (nI R, nI L, nI n', nI z', D', bk, p1', p2', p3', wd, kd, kc, jn, ax, ay, sX, ty, ig, ol, rO, dX, sa, ls, fX, tu, tx, iX, bX, tX, eX, sd_xt G' q0, sd_xt C' q1, sd_xt P' q2, sd_xt H q3, sd_xt M' q4, sd_xt J' q5, sd_xt V q6, sd_xt A q7, sd_xt B q8, be, sd_xt U q9)) → wX_go_19 post (nI r) (nI k) c (nI sc) (nI R) (nI L) (nI n) (nI z) D bk p1 p2 p3 wd kd kc jn ax ay sX ty ig ol rO dX sa ls fX tu tx iX bX tX eX (sd_xt G q0) (sd_xt C q1) (sd_xt P q2) (sd_xt H q3) (sd_xt M q4) (sd_xt J q5) (sd_xt V q6) (sd_xt A q7) (sd_xt B q8) be (sd_xt U q9)) ∧
      (∀ post : Int32 → SY → Prop, post (nI κ) (nI R, nI L, nI n', D', nI z', bk, wd, kd, kc, jn, sY, ax, ay, ty, ig, ol, ls, fY, tu, rO, yA, yB, yC, yD, y1, y2, tx, G', C', M', J', P', V, A, B, H, U) → wY_chain_29 post (nI r) (nI k) (nI n) (nI sc) (nI R) (nI L) (nI n) (D + 1) (nI z) bk wd kd kc jn sY ax ay ty ig ol ls fY tu rO yA yB yC yD y1 y2 tx G C M J P V A B H U) := by
  have hR := hK.rl
  have hn := h.1
  obtain ⟨-, -, l1, l2⟩ := hK.ru r hr
  obtain ⟨d1, d2⟩ := hK.dy r (by omega)
  have cr : (nI r).toNatClampNeg = r := nI_clamp (by omega)
  have vr : vp_in (nI r) 40 := vp_in_nI (by omega) (by decide)
  have vx : vp_in (2 * nI r) 80 := by rw [sd_i20]; exact vp_in_nI (by omega) (by decide)
  have ix : dX (2 * nI r).toNatClampNeg = y1 r := by rw [sd_i20, nI_clamp (by omega)]; exact d1
  have vx1 : vp_in ((2 * nI r) + 1) 80 := by rw [show (2 * nI r) + 1 = nI (2 * r + 1) from sd_i2 r 1]; exact vp_in_nI (by omega) (by decide)
  have ix1 : dX ((2 * nI r) + 1).toNatClampNeg = y2 r := by rw [show (2 * nI r) + 1 = nI (2 * r + 1) from sd_i2 r 1, nI_clamp (by omega)]; exact d2
  have iy : y1 (nI r).toNatClampNeg = y1 r := sd_yr (by omega)
  have iy2 : y2 (nI r).toNatClampNeg = y2 r := sd_yr (by omega)
  have iC : yC (nI r).toNatClampNeg = yC r := sd_yr (by omega)
  obtain ⟨n1, G1, C1, P1, M1, J1, z1, D1, h1, hz1, oX, oY⟩ := sd_once (D := D + 1) (wd := wd) (ax := ax) (ay := ay) (tu := tu) (H := H) (V := V) (A := A) (B := B) (be := be) (U := U) (q0 := q0) (q1 := q1) (q2 := q2) (q3 := q3) (q4 := q4) (q5 := q5) (q6 := q6) (q7 := q7) (q8 := q8) (q9 := q9) hK hL h hk l1 (show z + 1 < 4096 by omega)
  have hn1 := h1.1
  rcases hc with ⟨c1, c2, c3⟩ | ⟨c1, c2, c3⟩
  · subst c2 c3
    obtain ⟨κ, k1, k2, k3, kX, kY⟩ := sd_go96 (D := D1) (wd := wd) (ax := ax) (ay := ay) (tu := tu) (H := H) (V := V) (A := A) (B := B) (be := be) (U := U) (q0 := q0) (q1 := q1) (q2 := q2) (q3 := q3) (q4 := q4) (q5 := q5) (q6 := q6) (q7 := q7) (q8 := q8) (q9 := q9) (R := R) (L := L) (T := nI z1) (bk := bk) (kd := kd) (kc := kc) (jn := jn) (ty := ty) (ig := ig) (ol := ol) (rO := rO) (dX := dX) (sa := sa) (ls := ls) (fX := fX) (tx := tx) (eX := eX) (G := G1) (C := C1) (P := P1) (M := M1) (J := J1) (sY := sY) (fY := fY) (yA := yA) (yB := yB) (yC := yC) (yD := yD) (y1 := y1) (y2 := y2) (sX := sX) (iX := iX) (bX := bX) (tX := tX) hn hn1 (Nat.le_refl sc) hk
    refine ⟨n1, G1, C1, P1, M1, J1, z1, κ, D1, h1, by omega, k2, k3, fun post p1 p2 p3 kk => ?_, fun post kk => ?_⟩
    · refine nm_e ⟨vx, ?_⟩
      rw [ix]
      exact oX _ p1 p2 p3 (fun p1' p2' p3' => nm_e (br_t sd_m1lt (kX _ _ _ _ (kk _ _ _))))
    · refine And.intro vr ?_
      rw [iy]
      exact oY _ (nm_e ⟨vr, br_t (by rw [iC]; exact c1) (kY _ kk)⟩)
  · subst c2
    have ns : ¬ nI sc < 0 := nI_pos (by omega)
    obtain ⟨x6, hx6⟩ : ∃ x, x = (nI sc + nI n1) - nI n := ⟨_, rfl⟩
    by_cases a : x6 ≤ nI k
    · obtain ⟨κ, k1, k2, k3, kX, kY⟩ := sd_go96 (D := D1) (wd := wd) (ax := ax) (ay := ay) (tu := tu) (H := H) (V := V) (A := A) (B := B) (be := be) (U := U) (q0 := q0) (q1 := q1) (q2 := q2) (q3 := q3) (q4 := q4) (q5 := q5) (q6 := q6) (q7 := q7) (q8 := q8) (q9 := q9) (R := R) (L := L) (T := nI z1) (bk := bk) (kd := kd) (kc := kc) (jn := jn) (ty := ty) (ig := ig) (ol := ol) (rO := rO) (dX := dX) (sa := sa) (ls := ls) (fX := fX) (tx := tx) (eX := eX) (G := G1) (C := C1) (P := P1) (M := M1) (J := J1) (sY := sY) (fY := fY) (yA := yA) (yB := yB) (yC := yC) (yD := yD) (y1 := y1) (y2 := y2) (sX := sX) (iX := iX) (bX := bX) (tX := tX) hn hn1 (show k ≤ sc by omega) hsc
      refine ⟨n1, G1, C1, P1, M1, J1, z1, κ, D1, h1, by omega, k2, k3, fun post p1 p2 p3 kk => ?_, fun post kk => ?_⟩
      · refine nm_e ⟨vx, ?_⟩
        rw [ix]
        exact oX _ p1 p2 p3 (fun p1' p2' p3' => nm_r hx6.symm (br_f ns (br_t a (kX _ _ _ _ (kk _ _ _)))))
      · refine And.intro vr ?_
        rw [iy]
        exact oY _ (nm_r hx6.symm ⟨vr, br_f (by rw [iC]; exact c1) (br_t a (kY _ kk))⟩)
    · by_cases b : nI n1 ≤ x6
      · obtain ⟨κ, k1, k2, k3, kX, kY⟩ := sd_go96 (D := D1) (wd := wd) (ax := ax) (ay := ay) (tu := tu) (H := H) (V := V) (A := A) (B := B) (be := be) (U := U) (q0 := q0) (q1 := q1) (q2 := q2) (q3 := q3) (q4 := q4) (q5 := q5) (q6 := q6) (q7 := q7) (q8 := q8) (q9 := q9) (R := R) (L := L) (T := nI z1) (bk := bk) (kd := kd) (kc := kc) (jn := jn) (ty := ty) (ig := ig) (ol := ol) (rO := rO) (dX := dX) (sa := sa) (ls := ls) (fX := fX) (tx := tx) (eX := eX) (G := G1) (C := C1) (P := P1) (M := M1) (J := J1) (sY := sY) (fY := fY) (yA := yA) (yB := yB) (yC := yC) (yD := yD) (y1 := y1) (y2 := y2) (sX := sX) (iX := iX) (bX := bX) (tX := tX) hn hn1 (show k ≤ sc by omega) hsc
        refine ⟨n1, G1, C1, P1, M1, J1, z1, κ, D1, h1, by omega, k2, k3, fun post p1 p2 p3 kk => ?_, fun post kk => ?_⟩
        · refine nm_e ⟨vx, ?_⟩
          rw [ix]
          exact oX _ p1 p2 p3 (fun p1' p2' p3' => nm_r hx6.symm (br_f ns (br_f a (br_t b (kX _ _ _ _ (kk _ _ _))))))
        · refine And.intro vr ?_
          rw [iy]
          exact oY _ (nm_r hx6.symm ⟨vr, br_f (by rw [iC]; exact c1) (br_f a (br_t b (kY _ kk)))⟩)
      · have ge : ¬ x6 < 0 := fun q => a (Int32.le_trans (Int32.le_of_lt q) (nI_pos' (by omega)))
        obtain ⟨p, hp, ep⟩ := nI_of ge
        rw [ep] at a b
        have pn : p < n1 := by
          rcases Nat.lt_or_ge p n1 with q | q
          · exact q
          · exact absurd (nI_le q hp) b
        obtain ⟨n2, G2, C2, P2, M2, J2, z2, D2, h2, hz2, uX, uY⟩ := sd_once (D := D1) (wd := wd) (ax := ax) (ay := ay) (tu := tu) (H := H) (V := V) (A := A) (B := B) (be := be) (U := U) (q0 := q0) (q1 := q1) (q2 := q2) (q3 := q3) (q4 := q4) (q5 := q5) (q6 := q6) (q7 := q7) (q8 := q8) (q9 := q9) hK hL h1 pn l2 (show z1 + 1 < 4096 by omega)
        obtain ⟨κ, k1, k2, k3, kX, kY⟩ := sd_go96 (D := D2) (wd := wd) (ax := ax) (ay := ay) (tu := tu) (H := H) (V := V) (A := A) (B := B) (be := be) (U := U) (q0 := q0) (q1 := q1) (q2 := q2) (q3 := q3) (q4 := q4) (q5 := q5) (q6 := q6) (q7 := q7) (q8 := q8) (q9 := q9) (R := R) (L := L) (T := nI z2) (bk := bk) (kd := kd) (kc := kc) (jn := jn) (ty := ty) (ig := ig) (ol := ol) (rO := rO) (dX := dX) (sa := sa) (ls := ls) (fX := fX) (tx := tx) (eX := eX) (G := G2) (C := C2) (P := P2) (M := M2) (J := J2) (sY := sY) (fY := fY) (yA := yA) (yB := yB) (yC := yC) (yD := yD) (y1 := y1) (y2 := y2) (sX := sX) (iX := iX) (bX := bX) (tX := tX) hn h2.1 (show k ≤ sc by omega) hsc
        refine ⟨n2, G2, C2, P2, M2, J2, z2, κ, D2, h2, by omega, k2, k3, fun post p1 p2 p3 kk => ?_, fun post kk => ?_⟩
        · refine nm_e ⟨vx, ?_⟩
          rw [ix]
          refine oX _ p1 p2 p3 (fun p1' p2' p3' => nm_r (hx6.symm.trans ep) (br_f ns (br_f a (br_f b ⟨vx1, ?_⟩))))
          rw [ix1]
          exact uX _ p1' p2' p3' (fun p1' p2' p3' => kX _ _ _ _ (kk _ _ _))
        · refine And.intro vr ?_
          rw [iy]
          refine oY _ (nm_r (hx6.symm.trans ep) ⟨vr, br_f (by rw [iC]; exact c1) (br_f a (br_f b ⟨vr, ?_⟩))⟩)
          rw [iy2]
          exact uY _ (kY _ kk)
theorem sd_go {r l k z : Nat} {s2 : Int32} (hK : sd_K R L bk kd kc jn ty ig rO yA yB yC yD y1 y2 sa dX sY fX fY tx sX) (hL : sd_L R kd kc ig ol ty rO sa sY ls eX iX bX tX) (hl : l < 12) (h : sd_inv n G C P M J) (hr : r < R) (hk : k < n) (ho : rO r = nI l) (t : ty l = 3) (ff : sd_FF (ty l) (yB r) (yC r) n (sd_nx (sd_pg kd kc ig ol G l) n k) (sd_n2 (sd_pg kd kc ig ol G l) n k)) (hz : z + 2 < 4096) (e2 : s2 = sd_s2 (ty l) (yC r) (sd_nx (sd_pg kd kc ig ol G l) n k)) :
    ∃ (n' : Nat) (G' C' P' M' J' : Nat → Int32) (z' κ : Nat) (D' : Int32), sd_inv n' G' C' P' M' J' ∧ z' ≤ z + 2 ∧ κ ≤ 33 ∧ n' - κ < n - k ∧
      (∀ (post : Int32 → SX → Prop) (p3 : Int32), (∀ p1' p2' p3' : Int32, post (nI κ) (nI R, nI L, nI n', nI z', D', bk, p1', p2', p3', wd, kd, kc, jn, ax, ay, sX, ty, ig, ol, rO, dX, sa, ls, fX, tu, tx, iX, bX, tX, eX, sd_xt G' q0, sd_xt C' q1, sd_xt P' q2, sd_xt H q3, sd_xt M' q4, sd_xt J' q5, sd_xt V q6, sd_xt A q7, sd_xt B q8, be, sd_xt U q9)) → wpX_go post (nI R, nI L, nI n, nI z, D, bk, nI k, s2, p3, wd, kd, kc, jn, ax, ay, sX, ty, ig, ol, rO, dX, sa, ls, fX, tu, tx, iX, bX, tX, eX, sd_xt G q0, sd_xt C q1, sd_xt P q2, sd_xt H q3, sd_xt M q4, sd_xt J q5, sd_xt V q6, sd_xt A q7, sd_xt B q8, be, sd_xt U q9) (nI r)) ∧
      (∀ post : Int32 → SY → Prop, post (nI κ) (nI R, nI L, nI n', D', nI z', bk, wd, kd, kc, jn, sY, ax, ay, ty, ig, ol, ls, fY, tu, rO, yA, yB, yC, yD, y1, y2, tx, G', C', M', J', P', V, A, B, H, U) → wpY_act post (nI R, nI L, nI n, D, nI z, bk, wd, kd, kc, jn, sY, ax, ay, ty, ig, ol, ls, fY, tu, rO, yA, yB, yC, yD, y1, y2, tx, G, C, M, J, P, V, A, B, H, U) (nI r) (nI k)) := by
  have hR := hK.rl
  have hn := h.1
  have hG := sd_inv_G h
  have cr : (nI r).toNatClampNeg = r := nI_clamp (by omega)
  have cl : (nI l).toNatClampNeg = l := nI_clamp (by omega)
  have vr : vp_in (nI r) 40 := vp_in_nI (by omega) (by decide)
  have er : rO (nI r).toNatClampNeg = nI l := by rw [cr]; exact ho
  have vo : vp_in (rO (nI r).toNatClampNeg) 12 := by rw [er]; exact vp_in_nI hl (by decide)
  have et : ty (rO (nI r).toNatClampNeg).toNatClampNeg = 3 := by rw [er, cl]; exact t
  have iC : yC (nI r).toNatClampNeg = yC r := sd_yr (by omega)
  by_cases c : yC r < 0
  · have es : s2 = -1 := by rw [e2, t]; exact if_pos c
    obtain ⟨n', G', C', P', M', J', z', κ, D', g1, g2, g3, g4, gX, gY⟩ := sd_go19 (c := -1) (sc := k) (D := D) (wd := wd) (ax := ax) (ay := ay) (tu := tu) (H := H) (V := V) (A := A) (B := B) (be := be) (U := U) (q0 := q0) (q1 := q1) (q2 := q2) (q3 := q3) (q4 := q4) (q5 := q5) (q6 := q6) (q7 := q7) (q8 := q8) (q9 := q9) hK hL h hr hk hk hz (Or.inl ⟨c, rfl, rfl⟩)
    refine ⟨n', G', C', P', M', J', z', κ, D', g1, g2, g3, g4, fun post p3 kk => ?_, fun post kk => ?_⟩
    · rw [es]
      exact br_f sd_m1le (gX post _ _ _ kk)
    · refine nm_e ⟨vr, vo, nm_r et (br_f (by decide) (br_f (by decide) (br_f (by decide) (br_f (by decide) (br_f (by decide) (br_t rfl (And.intro vr (br_f (by rw [iC]; exact Int32.not_le.mpr c) (gY _ kk)))))))))⟩
  · obtain ⟨s, hs1, hs2, -, es⟩ := (sd_nx_or (sd_pg kd kc ig ol G l) n k).resolve_left (fun q => (ff.2.2 t).resolve_left c (by rw [q]; exact sd_m1lt))
    have es2 : s2 = nI s := by rw [e2, t]; exact (if_neg c).trans es
    obtain ⟨n', G', C', P', M', J', z', κ, D', g1, g2, g3, g4, gX, gY⟩ := sd_go19 (c := nI s) (sc := s) (D := D) (wd := wd) (ax := ax) (ay := ay) (tu := tu) (H := H) (V := V) (A := A) (B := B) (be := be) (U := U) (q0 := q0) (q1 := q1) (q2 := q2) (q3 := q3) (q4 := q4) (q5 := q5) (q6 := q6) (q7 := q7) (q8 := q8) (q9 := q9) hK hL h hr hk hs2 hz (Or.inr ⟨c, rfl, hs1⟩)
    refine ⟨n', G', C', P', M', J', z', κ, D', g1, g2, g3, g4, fun post p3 kk => ?_, fun post kk => ?_⟩
    · rw [es2]
      exact br_t (nI_pos' (by omega)) (gX post _ _ _ kk)
    · refine nm_e ⟨vr, vo, nm_r et (br_f (by decide) (br_f (by decide) (br_f (by decide) (br_f (by decide) (br_f (by decide) (br_t rfl (And.intro vr (br_t (by rw [iC]; exact Int32.not_lt.mp c) ⟨vr, ?_⟩))))))))⟩
      rw [er]
      refine sd_ynext hK hl hn hG hk ?_
      rw [es]
      exact gY _ kk
theorem sd_sub {l : Nat} (hK : sd_K R L bk kd kc jn ty ig rO yA yB yC yD y1 y2 sa dX sY fX fY tx sX) (hL : sd_L R kd kc ig ol ty rO sa sY ls eX iX bX tX) (hl : l < 12) (h3 : ty l ≤ 3) : ∀ (m n k z : Nat) (G C P M J : Nat → Int32) (D : Int32), n - k ≤ m → k ≤ 40 → sd_inv n G C P M J → z + 2 * (n - k) < 4000 →
    ∃ (n' : Nat) (G' C' P' M' J' : Nat → Int32) (z' : Nat) (D' : Int32), sd_inv n' G' C' P' M' J' ∧ z' ≤ z + 2 * (n - k) ∧
      (∀ (post : SX → Prop) (p1 p2 p3 : Int32) (N : Nat), m < N → (∀ p1' p2' p3' : Int32, post (nI R, nI L, nI n', nI z', D', bk, p1', p2', p3', wd, kd, kc, jn, ax, ay, sX, ty, ig, ol, rO, dX, sa, ls, fX, tu, tx, iX, bX, tX, eX, sd_xt G' q0, sd_xt C' q1, sd_xt P' q2, sd_xt H q3, sd_xt M' q4, sd_xt J' q5, sd_xt V q6, sd_xt A q7, sd_xt B q8, be, sd_xt U q9)) → wX_substitute_2 post (nI l) N (nI k) (nI R) (nI L) (nI n) (nI z) D bk p1 p2 p3 wd kd kc jn ax ay sX ty ig ol rO dX sa ls fX tu tx iX bX tX eX (sd_xt G q0) (sd_xt C q1) (sd_xt P q2) (sd_xt H q3) (sd_xt M q4) (sd_xt J q5) (sd_xt V q6) (sd_xt A q7) (sd_xt B q8) be (sd_xt U q9)) ∧
      (∀ (post : SY → Prop) (N : Nat), m < N → post (nI R, nI L, nI n', D', nI z', bk, wd, kd, kc, jn, sY, ax, ay, ty, ig, ol, ls, fY, tu, rO, yA, yB, yC, yD, y1, y2, tx, G', C', M', J', P', V, A, B, H, U) → wY_substitute_2 post (nI l) N (nI k) (nI R) (nI L) (nI n) D (nI z) bk wd kd kc jn sY ax ay ty ig ol ls fY tu rO yA yB yC yD y1 y2 tx G C M J P V A B H U) := by
  have hR := hK.rl
  have cl : (nI l).toNatClampNeg = l := nI_clamp (by omega)
  have vl : vp_in (nI l) 12 := vp_in_nI hl (by decide)
  have base : ∀ (m n k z : Nat) (G C P M J : Nat → Int32) (D : Int32), n ≤ k → k ≤ 40 → sd_inv n G C P M J →
    ∃ (n' : Nat) (G' C' P' M' J' : Nat → Int32) (z' : Nat) (D' : Int32), sd_inv n' G' C' P' M' J' ∧ z' ≤ z + 2 * (n - k) ∧
      (∀ (post : SX → Prop) (p1 p2 p3 : Int32) (N : Nat), m < N → (∀ p1' p2' p3' : Int32, post (nI R, nI L, nI n', nI z', D', bk, p1', p2', p3', wd, kd, kc, jn, ax, ay, sX, ty, ig, ol, rO, dX, sa, ls, fX, tu, tx, iX, bX, tX, eX, sd_xt G' q0, sd_xt C' q1, sd_xt P' q2, sd_xt H q3, sd_xt M' q4, sd_xt J' q5, sd_xt V q6, sd_xt A q7, sd_xt B q8, be, sd_xt U q9)) → wX_substitute_2 post (nI l) N (nI k) (nI R) (nI L) (nI n) (nI z) D bk p1 p2 p3 wd kd kc jn ax ay sX ty ig ol rO dX sa ls fX tu tx iX bX tX eX (sd_xt G q0) (sd_xt C q1) (sd_xt P q2) (sd_xt H q3) (sd_xt M q4) (sd_xt J q5) (sd_xt V q6) (sd_xt A q7) (sd_xt B q8) be (sd_xt U q9)) ∧
      (∀ (post : SY → Prop) (N : Nat), m < N → post (nI R, nI L, nI n', D', nI z', bk, wd, kd, kc, jn, sY, ax, ay, ty, ig, ol, ls, fY, tu, rO, yA, yB, yC, yD, y1, y2, tx, G', C', M', J', P', V, A, B, H, U) → wY_substitute_2 post (nI l) N (nI k) (nI R) (nI L) (nI n) D (nI z) bk wd kd kc jn sY ax ay ty ig ol ls fY tu rO yA yB yC yD y1 y2 tx G C M J P V A B H U) := by
    intro m n k z G C P M J D hk hk40 h
    have e : nI n ≤ nI k := nI_le hk (by omega)
    refine ⟨n, G, C, P, M, J, z, D, h, by omega, fun post p1 p2 p3 N hN kk => ?_, fun post N hN kk => ?_⟩
    · obtain ⟨N, rfl⟩ : ∃ N', N = N' + 1 := ⟨N - 1, by omega⟩
      exact br_t e (kk _ _ _)
    · obtain ⟨N, rfl⟩ : ∃ N', N = N' + 1 := ⟨N - 1, by omega⟩
      exact br_t e kk
  intro m
  induction m with
  | zero => intro n k z G C P M J D hm hk40 h hz; exact base 0 n k z G C P M J D (by omega) hk40 h
  | succ m ih =>
    intro n k z G C P M J D hm hk40 h hz
    by_cases hk : n ≤ k
    · exact base (m + 1) n k z G C P M J D hk hk40 h
    · have hn := h.1
      have hG := sd_inv_G h
      have e : ¬ nI n ≤ nI k := nI_ge (by omega) (by omega)
      have gk := hG k (by omega)
      cases ho : sd_op kd kc ig ol G M ls l k
      · obtain ⟨n', G', C', P', M', J', z', D', g1, g2, gX, gY⟩ := ih n (k + 1) z G C P M J D (by omega) (by omega) h (by omega)
        refine ⟨n', G', C', P', M', J', z', D', g1, by omega, fun post p1 p2 p3 N hN kk => ?_, fun post N hN kk => ?_⟩
        · obtain ⟨N, rfl⟩ : ∃ N', N = N' + 1 := ⟨N - 1, by omega⟩
          refine br_f e (sd_xopen hL hl (by omega) gk ?_)
          rw [ho]
          exact br_t rfl (br_f sd_m1le (nm_r (nI_1 k) (gX post p1 p2 p3 N (by omega) kk)))
        · obtain ⟨N, rfl⟩ : ∃ N', N = N' + 1 := ⟨N - 1, by omega⟩
          refine br_f e (sd_yopen hK hl (by omega) gk ?_)
          rw [ho]
          exact br_t rfl (br_f sd_m1le (nm_r (nI_1 k) (gY post N (by omega) kk)))
      · obtain ⟨q, hq, fX, fY⟩ := sd_find (C := C) (P := P) (M := M) (J := J) (D := D) (wd := wd) (ax := ax) (ay := ay) (tu := tu) (H := H) (V := V) (A := A) (B := B) (be := be) (U := U) (q0 := q0) (q1 := q1) (q2 := q2) (q3 := q3) (q4 := q4) (q5 := q5) (q6 := q6) (q7 := q7) (q8 := q8) (q9 := q9) (T := nI z) hK hL hl hn hG (show k < n by omega) (Int32.le_trans h3 (by decide))
        rcases hq with rfl | ⟨r, hr, rfl, hro, ff⟩
        · obtain ⟨n', G', C', P', M', J', z', D', g1, g2, gX, gY⟩ := ih n (k + 1) z G C P M J D (by omega) (by omega) h (by omega)
          refine ⟨n', G', C', P', M', J', z', D', g1, by omega, fun post p1 p2 p3 N hN kk => ?_, fun post N hN kk => ?_⟩
          · obtain ⟨N, rfl⟩ : ∃ N', N = N' + 1 := ⟨N - 1, by omega⟩
            refine br_f e (sd_xopen hL hl (by omega) gk ?_)
            rw [ho]
            exact br_f sd_10 (fX _ p1 p2 p3 (fun p1' p2' p3' _ => br_f sd_m1le (nm_r (nI_1 k) (gX post p1' p2' p3' N (by omega) kk))))
          · obtain ⟨N, rfl⟩ : ∃ N', N = N' + 1 := ⟨N - 1, by omega⟩
            refine br_f e (sd_yopen hK hl (by omega) gk ?_)
            rw [ho]
            exact br_f sd_10 (fY _ (br_f sd_m1le (nm_r (nI_1 k) (gY post N (by omega) kk))))
        · have pr : 0 ≤ nI r := nI_pos' (by omega)
          by_cases t3 : ty l = 3
          · obtain ⟨n1, G1, C1, P1, M1, J1, z1, κ, D1, a1, a2, a3, a4, aX, aY⟩ := sd_go (D := D) (wd := wd) (ax := ax) (ay := ay) (tu := tu) (H := H) (V := V) (A := A) (B := B) (be := be) (U := U) (q0 := q0) (q1 := q1) (q2 := q2) (q3 := q3) (q4 := q4) (q5 := q5) (q6 := q6) (q7 := q7) (q8 := q8) (q9 := q9) hK hL hl h hr (show k < n by omega) hro t3 ff (show z + 2 < 4096 by omega) rfl
            obtain ⟨n', G', C', P', M', J', z', D', g1, g2, gX, gY⟩ := ih n1 κ z1 G1 C1 P1 M1 J1 D1 (by omega) (by omega) a1 (by omega)
            refine ⟨n', G', C', P', M', J', z', D', g1, by omega, fun post p1 p2 p3 N hN kk => ?_, fun post N hN kk => ?_⟩
            · obtain ⟨N, rfl⟩ : ∃ N', N = N' + 1 := ⟨N - 1, by omega⟩
              refine br_f e (sd_xopen hL hl (by omega) gk ?_)
              rw [ho]
              refine br_f sd_10 (fX _ p1 p2 p3 (fun p1' p2' p3' hp => br_t pr ⟨vl, br_t (by rw [cl]; exact t3) ?_⟩))
              obtain ⟨b1, b2, b3⟩ := hp r hr rfl
              subst b1 b2
              exact aX _ p3' (fun p1' p2' p3' => gX post p1' p2' p3' N (by omega) kk)
            · obtain ⟨N, rfl⟩ : ∃ N', N = N' + 1 := ⟨N - 1, by omega⟩
              refine br_f e (sd_yopen hK hl (by omega) gk ?_)
              rw [ho]
              exact br_f sd_10 (fY _ (br_t pr (aY _ (gY post N (by omega) kk))))
          · have t2 : ty l ≤ 2 := by
              obtain ⟨j, hj, ej⟩ := vp_in_of (hK.lo l hl).1 (by decide)
              rw [ej] at h3 t3 ⊢
              have : j ≤ 3 := (nI_leI (b := 3) (by omega) (by decide)).mp h3
              have : j ≠ 3 := fun q => t3 (by rw [q]; rfl)
              exact nI_le (b := 2) (by omega) (by decide)
            obtain ⟨n1, G1, C1, P1, M1, J1, z1, κ, a1, a2, a3, a4, a5, aX, -, aY⟩ := sd_do (ls := ls) (eX := eX) (iX := iX) (bX := bX) (tX := tX) (D := D) (wd := wd) (ax := ax) (ay := ay) (tu := tu) (H := H) (V := V) (A := A) (B := B) (be := be) (U := U) (q0 := q0) (q1 := q1) (q2 := q2) (q3 := q3) (q4 := q4) (q5 := q5) (q6 := q6) (q7 := q7) (q8 := q8) (q9 := q9) hK hl h hr (show k < n by omega) hro t2 ff (show z + 1 < 4096 by omega) rfl rfl
            have hn1 := a1.1
            have hκ : κ ≤ 40 := by
              by_cases t1 : ty l = 1
              · have := a3 t1; omega
              · have := a4 t1; omega
            obtain ⟨n', G', C', P', M', J', z', D', g1, g2, gX, gY⟩ := ih n1 κ z1 G1 C1 P1 M1 J1 (D + 1) (by omega) (by omega) a1 (by omega)
            refine ⟨n', G', C', P', M', J', z', D', g1, by omega, fun post p1 p2 p3 N hN kk => ?_, fun post N hN kk => ?_⟩
            · obtain ⟨N, rfl⟩ : ∃ N', N = N' + 1 := ⟨N - 1, by omega⟩
              refine br_f e (sd_xopen hL hl (by omega) gk ?_)
              rw [ho]
              refine br_f sd_10 (fX _ p1 p2 p3 (fun p1' p2' p3' hp => br_t pr ⟨vl, br_f (by rw [cl]; exact t3) ?_⟩))
              obtain ⟨b1, b2, b3⟩ := hp r hr rfl
              subst b1 b2 b3
              refine aX _ ⟨vl, ?_⟩
              by_cases t1 : ty l = 1
              · have ek : nI k + ((1 + nI n1) - nI n) = nI κ := by
                  have w := a3 t1
                  rw [show (1 : Int32) + nI n1 = nI (1 + n1) from nI_add 1 n1, Int32.sub_eq_add_neg, ← Int32.add_assoc, ← Int32.sub_eq_add_neg, nI_add, pk_sub (by omega)]
                  exact congrArg nI (by omega)
                exact br_t (by rw [cl]; exact t1) (nm_r ek (gX post _ _ _ N (by omega) kk))
              · have w := a4 t1
                subst w
                exact br_f (by rw [cl]; exact t1) (nm_r (nI_1 k) (gX post _ _ _ N (by omega) kk))
            · obtain ⟨N, rfl⟩ : ∃ N', N = N' + 1 := ⟨N - 1, by omega⟩
              refine br_f e (sd_yopen hK hl (by omega) gk ?_)
              rw [ho]
              exact br_f sd_10 (fY _ (br_t pr (aY _ (gY post N (by omega) kk))))
theorem sd_rev {l : Nat} (hK : sd_K R L bk kd kc jn ty ig rO yA yB yC yD y1 y2 sa dX sY fX fY tx sX) (hL : sd_L R kd kc ig ol ty rO sa sY ls eX iX bX tX) (hl : l < 12) (t : ty l = 4) : ∀ (i : Nat) (G : Nat → Int32) (D : Int32), i ≤ n → sd_inv n G C P M J →
    ∃ (G' : Nat → Int32) (D' : Int32), sd_inv n G' C P M J ∧
      (∀ (post : SX → Prop) (p1 p2 p3 : Int32) (N : Nat), i < N → (∀ p1' p2' p3' : Int32, post (nI R, nI L, nI n, T, D', bk, p1', p2', p3', wd, kd, kc, jn, ax, ay, sX, ty, ig, ol, rO, dX, sa, ls, fX, tu, tx, iX, bX, tX, eX, sd_xt G' q0, sd_xt C q1, sd_xt P q2, sd_xt H q3, sd_xt M q4, sd_xt J q5, sd_xt V q6, sd_xt A q7, sd_xt B q8, be, sd_xt U q9)) → wX_reverse_7 post (nI l) N (nI i - 1) (nI R) (nI L) (nI n) T D bk p1 p2 p3 wd kd kc jn ax ay sX ty ig ol rO dX sa ls fX tu tx iX bX tX eX (sd_xt G q0) (sd_xt C q1) (sd_xt P q2) (sd_xt H q3) (sd_xt M q4) (sd_xt J q5) (sd_xt V q6) (sd_xt A q7) (sd_xt B q8) be (sd_xt U q9)) ∧
      (∀ (post : SY → Prop) (N : Nat), i < N → post (nI R, nI L, nI n, D', T, bk, wd, kd, kc, jn, sY, ax, ay, ty, ig, ol, ls, fY, tu, rO, yA, yB, yC, yD, y1, y2, tx, G', C, M, J, P, V, A, B, H, U) → wY_fromEnd_7 post (nI l) N (nI i - 1) (nI R) (nI L) (nI n) D T bk wd kd kc jn sY ax ay ty ig ol ls fY tu rO yA yB yC yD y1 y2 tx G C M J P V A B H U) := by
  have hR := hK.rl
  have cl : (nI l).toNatClampNeg = l := nI_clamp (by omega)
  have vl : vp_in (nI l) 12 := vp_in_nI hl (by decide)
  intro i
  induction i with
  | zero =>
    intro G D hi h
    refine ⟨G, D, h, fun post p1 p2 p3 N hN kk => ?_, fun post N hN kk => ?_⟩
    · obtain ⟨N, rfl⟩ : ∃ N', N = N' + 1 := ⟨N - 1, by omega⟩
      exact br_t (by decide) (kk _ _ _)
    · obtain ⟨N, rfl⟩ : ∃ N', N = N' + 1 := ⟨N - 1, by omega⟩
      exact br_t (by decide) kk
  | succ k ih =>
    intro G D hi h
    have hn := h.1
    have hG := sd_inv_G h
    have e : ¬ nI k < 0 := nI_pos (by omega)
    have gk := hG k (by omega)
    have em : nI k + (-1) = nI k - 1 := (Int32.sub_eq_add_neg _ _).symm
    cases ho : sd_op kd kc ig ol G M ls l k
    · obtain ⟨G', D', g1, gX, gY⟩ := ih G D (by omega) h
      refine ⟨G', D', g1, fun post p1 p2 p3 N hN kk => ?_, fun post N hN kk => ?_⟩
      · obtain ⟨N, rfl⟩ : ∃ N', N = N' + 1 := ⟨N - 1, by omega⟩
        rw [nI_pred]
        refine br_f e (sd_xopen hL hl (by omega) gk ?_)
        rw [ho]
        exact br_t rfl (br_f sd_m1le (nm_r em (gX post p1 p2 p3 N (by omega) kk)))
      · obtain ⟨N, rfl⟩ : ∃ N', N = N' + 1 := ⟨N - 1, by omega⟩
        rw [nI_pred]
        refine br_f e (sd_yopen hK hl (by omega) gk ?_)
        rw [ho]
        exact br_t rfl (br_t sd_m1lt (nm_r em (gY post N (by omega) kk)))
    · obtain ⟨q, hq, fX, fY⟩ := sd_find (C := C) (P := P) (M := M) (J := J) (D := D) (wd := wd) (ax := ax) (ay := ay) (tu := tu) (H := H) (V := V) (A := A) (B := B) (be := be) (U := U) (q0 := q0) (q1 := q1) (q2 := q2) (q3 := q3) (q4 := q4) (q5 := q5) (q6 := q6) (q7 := q7) (q8 := q8) (q9 := q9) (T := T) hK hL hl hn hG (show k < n by omega) (by rw [t]; decide)
      rcases hq with rfl | ⟨r, hr, rfl, hro, ff⟩
      · obtain ⟨G', D', g1, gX, gY⟩ := ih G D (by omega) h
        refine ⟨G', D', g1, fun post p1 p2 p3 N hN kk => ?_, fun post N hN kk => ?_⟩
        · obtain ⟨N, rfl⟩ : ∃ N', N = N' + 1 := ⟨N - 1, by omega⟩
          rw [nI_pred]
          refine br_f e (sd_xopen hL hl (by omega) gk ?_)
          rw [ho]
          exact br_f sd_10 (fX _ p1 p2 p3 (fun p1' p2' p3' _ => br_f sd_m1le (nm_r em (gX post p1' p2' p3' N (by omega) kk))))
        · obtain ⟨N, rfl⟩ : ∃ N', N = N' + 1 := ⟨N - 1, by omega⟩
          rw [nI_pred]
          refine br_f e (sd_yopen hK hl (by omega) gk ?_)
          rw [ho]
          exact br_f sd_10 (fY _ (br_t sd_m1lt (nm_r em (gY post N (by omega) kk))))
      · have cr : (nI r).toNatClampNeg = r := nI_clamp (by omega)
        have vr : vp_in (nI r) 40 := vp_in_nI (by omega) (by decide)
        have vD : vp_in (yD r) 48 := by
          rcases sd_rvl hK hl hr hro with ⟨q, -⟩ | ⟨q, -⟩ | ⟨q, -⟩ | ⟨q, -⟩ | ⟨q, -, -, -, w⟩ | ⟨q, -⟩
          · exact absurd (t.symm.trans q) (by decide)
          · exact absurd (t.symm.trans q) (by decide)
          · exact absurd (t.symm.trans q) (by decide)
          · exact absurd (t.symm.trans q) (by decide)
          · exact w
          · exact absurd (t.symm.trans q) (by decide)
        have er : rO (nI r).toNatClampNeg = nI l := by rw [cr]; exact hro
        have vo : vp_in (rO (nI r).toNatClampNeg) 12 := by rw [er]; exact vl
        have et : ty (rO (nI r).toNatClampNeg).toNatClampNeg = 4 := by rw [er, cl]; exact t
        have v3 : vp_in ((4 * nI r) + 3) 160 := by rw [show (4 * nI r) + 3 = nI (4 * r + 3) from sd_i4 r 3]; exact vp_in_nI (by omega) (by decide)
        have i3 : ((4 * nI r) + 3).toNatClampNeg = 4 * r + 3 := by rw [show (4 * nI r) + 3 = nI (4 * r + 3) from sd_i4 r 3]; exact nI_clamp (by omega)
        have sD : sa ((4 * nI r) + 3).toNatClampNeg = yD r := by rw [i3]; exact (hK.sy r (by omega)).2.2.2
        have eY : yD (nI r).toNatClampNeg = yD r := sd_yr (by omega)
        obtain ⟨G', D', g1, gX, gY⟩ := ih (upd G k (yD r)) (D + 1) (by omega) (sd_inv_g h vD)
        refine ⟨G', D', g1, fun post p1 p2 p3 N hN kk => ?_, fun post N hN kk => ?_⟩
        · obtain ⟨N, rfl⟩ : ∃ N', N = N' + 1 := ⟨N - 1, by omega⟩
          rw [nI_pred]
          refine br_f e (sd_xopen hL hl (by omega) gk ?_)
          rw [ho]
          exact br_f sd_10 (fX _ p1 p2 p3 (fun p1' p2' p3' _ => br_t (nI_pos' (by omega)) ⟨v3, vp_in_nI (by omega) (by decide), nm_r (sd_nw (by omega) (by rw [sD]; exact sd_bb vD (by decide))) (nm_e (nm_r em (gX post p1' p2' p3' N (by omega) kk)))⟩))
        · obtain ⟨N, rfl⟩ : ∃ N', N = N' + 1 := ⟨N - 1, by omega⟩
          rw [nI_pred]
          refine br_f e (sd_yopen hK hl (by omega) gk ?_)
          rw [ho]
          exact br_f sd_10 (fY _ (br_f (nI_pos (by omega)) (nm_e ⟨vr, vo, nm_r et (br_f (by decide) (br_t (by decide) ⟨vr, vp_in_nI (by omega) (by decide), nm_r (sd_yw (by omega) eY) (nm_r em (gY post N (by omega) kk))⟩))⟩)))
end
end
section
/-! forms -/
def sd_ff (lo hi : Nat) (f a : Nat → Int32) : Nat → Int32 := fun j => if lo ≤ j ∧ j < hi then f j else a j
theorem sd_ff_0 {lo : Nat} {f a : Nat → Int32} : sd_ff lo lo f a = a := by funext j; unfold sd_ff; rw [if_neg (by omega)]
theorem sd_ff_s {i hi : Nat} {f a : Nat → Int32} {v : Int32} (h : i < hi) (hv : v = f i) : sd_ff (i + 1) hi f (upd a i v) = sd_ff i hi f a := by
  funext k
  unfold sd_ff upd
  by_cases e : k = i
  · subst e
    rw [if_neg (by omega), if_pos rfl, if_pos (by omega), hv]
  · by_cases e2 : i + 1 ≤ k ∧ k < hi
    · rw [if_pos e2, if_pos (by omega)]
    · rw [if_neg e2, if_neg e, if_neg (by omega)]
theorem sd_u_id {a : Nat → Int32} {k : Nat} : upd a k (a k) = a := by
  funext j
  unfold upd
  by_cases e : j = k
  · rw [if_pos e, e]
  · rw [if_neg e]
theorem sd_u_uu {a : Nat → Int32} {k : Nat} {v w : Int32} : upd (upd a k v) k w = upd a k w := by
  funext j
  unfold upd
  by_cases e : j = k
  · rw [if_pos e, if_pos e]
  · rw [if_neg e, if_neg e, if_neg e]
def sd_ma (fY tu : Nat → Int32) (k : Nat) : Nat → Nat → Int32 → Int32
  | 0, _, a => a
  | d + 1, f, a => if fY f ≤ nI k ∧ nI k ≤ tu f then sd_ma fY tu k d (f + 1) (a ||| ((1 : Int32) <<< (nI f &&& 31))) else sd_ma fY tu k d (f + 1) a
theorem sd_ma_in {fY tu : Nat → Int32} {k : Nat} : ∀ (d f : Nat) (a : Int32), f + d ≤ 8 → vp_in a 256 → vp_in (sd_ma fY tu k d f a) 256
  | 0, f, a => fun _ h => h
  | d + 1, f, a => fun hf h => by
    unfold sd_ma
    by_cases e : fY f ≤ nI k ∧ nI k ≤ tu f
    · rw [if_pos e]; exact sd_ma_in d (f + 1) _ (by omega) (sd_or256 h (sd_sh256 (by omega)))
    · rw [if_neg e]; exact sd_ma_in d (f + 1) _ (by omega) h
/-- a character's way to join -/
def sd_jt (jn tx : Nat → Int32) (k : Nat) : Int32 := jn (tx k).toNatClampNeg
def sd_th (jn tx : Nat → Int32) : Nat → Bool := fun j => decide (sd_jt jn tx j = 3)
def sd_jd (jn tx : Nat → Int32) (k : Nat) : Bool :=
  decide (sd_jt jn tx k = 1 ∨ sd_jt jn tx k = 2) && (decide (¬ sd_dn (sd_th jn tx) k < 0) && decide (sd_jt jn tx (sd_dn (sd_th jn tx) k).toNatClampNeg = 2))
def sd_bh (L : Nat) (jn tx : Nat → Int32) (k : Nat) : Bool :=
  decide (sd_jt jn tx k = 2) && (decide (sd_up (sd_th jn tx) (L - (k + 1)) (k + 1) < L) && sd_jd jn tx (sd_up (sd_th jn tx) (L - (k + 1)) (k + 1)))
def sd_fb (a b : Bool) : Int32 := if a = true then (if b = true then 4 else 2) else (if b = true then 8 else 1)
def sd_m0 (L : Nat) (jn tx fY tu : Nat → Int32) (k : Nat) : Int32 :=
  if sd_jt jn tx k = 1 ∨ sd_jt jn tx k = 2 then sd_ma fY tu k 4 4 0 ||| sd_fb (sd_jd jn tx k) (sd_bh L jn tx k) else sd_ma fY tu k 4 4 0
theorem sd_fb_in (a b : Bool) : vp_in (sd_fb a b) 256 := by
  have z : ∀ j : Nat, j < 256 → vp_in (nI j) 256 := fun j hj => vp_in_nI hj (by decide)
  cases a <;> cases b
  · exact z 1 (by decide)
  · exact z 8 (by decide)
  · exact z 2 (by decide)
  · exact z 4 (by decide)
theorem sd_mb_in {fY tu : Nat → Int32} {k : Nat} : vp_in (sd_ma fY tu k 4 4 0) 256 := sd_ma_in 4 4 0 (by omega) (vp_in_nI (n := 0) (by decide) (by decide))
theorem sd_m0_in {L : Nat} {jn tx fY tu : Nat → Int32} {k : Nat} : vp_in (sd_m0 L jn tx fY tu k) 256 := by
  unfold sd_m0
  split
  · exact sd_or256 sd_mb_in (sd_fb_in _ _)
  · exact sd_mb_in
section
variable {R L n : Nat} {T D bk p1 p2 p3 : Int32} {wd kd kc jn ax ay ty ig ol rO dX sa ls fX tu tx eX G C P H M J V A B be U sY fY yA yB yC yD y1 y2 : Nat → Int32} {sX iX bX tX : Nat → Int64} {q0 q1 q2 q3 q4 q5 q6 q7 q8 q9 : Int32}
theorem sd_xprev4 {post : Int32 → Prop} (hK : sd_K R L bk kd kc jn ty ig rO yA yB yC yD y1 y2 sa dX sY fX fY tx sX) : ∀ (i N : Nat), i ≤ 16 → i < N → post (sd_dn (sd_th jn tx) i) → wX_previous_4 post (nI R) (nI L) (nI n) T D bk p1 p2 p3 wd kd kc jn ax ay sX ty ig ol rO dX sa ls fX tu tx iX bX tX eX (sd_xt G q0) (sd_xt C q1) (sd_xt P q2) (sd_xt H q3) (sd_xt M q4) (sd_xt J q5) (sd_xt V q6) (sd_xt A q7) (sd_xt B q8) be (sd_xt U q9) N (nI i - 1) := by
  intro i
  induction i with
  | zero =>
    intro N hi hN k
    obtain ⟨N, rfl⟩ : ∃ N', N = N' + 1 := ⟨N - 1, by omega⟩
    exact br_t (by decide) k
  | succ i ih =>
    intro N hi hN k
    obtain ⟨N, rfl⟩ : ∃ N', N = N' + 1 := ⟨N - 1, by omega⟩
    rw [nI_pred]
    have ci : (nI i).toNatClampNeg = i := nI_clamp (by omega)
    refine br_f (nI_pos (by omega)) ⟨vp_in_nI (by omega) (by decide), by rw [ci]; exact hK.tt i (by omega), ?_⟩
    by_cases q : sd_jt jn tx i = 3
    · rw [sd_dn_t (decide_eq_true q)] at k
      exact br_t (by rw [ci]; exact q) (nm_r (e' := nI i - 1) (Int32.sub_eq_add_neg _ _).symm (ih N (by omega) (by omega) k))
    · rw [sd_dn_f (decide_eq_false q)] at k
      exact br_f (by rw [ci]; exact q) k
theorem sd_xprev {post : Int32 → Prop} {k : Nat} (hK : sd_K R L bk kd kc jn ty ig rO yA yB yC yD y1 y2 sa dX sY fX fY tx sX) (hk : k ≤ 16) (kk : post (sd_dn (sd_th jn tx) k)) : wpX_previous post (nI R, nI L, nI n, T, D, bk, p1, p2, p3, wd, kd, kc, jn, ax, ay, sX, ty, ig, ol, rO, dX, sa, ls, fX, tu, tx, iX, bX, tX, eX, sd_xt G q0, sd_xt C q1, sd_xt P q2, sd_xt H q3, sd_xt M q4, sd_xt J q5, sd_xt V q6, sd_xt A q7, sd_xt B q8, be, sd_xt U q9) (nI k) :=
  nm_e ⟨k + 1, sd_xprev4 hK k _ hk (by omega) kk⟩
theorem sd_xjd {post : Int32 → Prop} {k : Nat} (hK : sd_K R L bk kd kc jn ty ig rO yA yB yC yD y1 y2 sa dX sY fX fY tx sX) (hk : k < 16) (kk : post (sd_b (sd_jd jn tx k))) : wpX_isJoined post (nI R, nI L, nI n, T, D, bk, p1, p2, p3, wd, kd, kc, jn, ax, ay, sX, ty, ig, ol, rO, dX, sa, ls, fX, tu, tx, iX, bX, tX, eX, sd_xt G q0, sd_xt C q1, sd_xt P q2, sd_xt H q3, sd_xt M q4, sd_xt J q5, sd_xt V q6, sd_xt A q7, sd_xt B q8, be, sd_xt U q9) (nI k) := by
  have ck : (nI k).toNatClampNeg = k := nI_clamp (by omega)
  have ej : jn (tx (nI k).toNatClampNeg).toNatClampNeg = sd_jt jn tx k := by rw [ck]; rfl
  refine And.intro (vp_in_nI hk (by decide)) ⟨by rw [ck]; exact hK.tt k hk, nm_r ej (sd_xprev hK (by omega) ?_)⟩
  have x28 : (sd_jt jn tx k = 1 ∨ sd_jt jn tx k = 2) → wX_isJoined_28 post (sd_dn (sd_th jn tx) k) (nI R) (nI L) (nI n) T D bk p1 p2 p3 wd kd kc jn ax ay sX ty ig ol rO dX sa ls fX tu tx iX bX tX eX (sd_xt G q0) (sd_xt C q1) (sd_xt P q2) (sd_xt H q3) (sd_xt M q4) (sd_xt J q5) (sd_xt V q6) (sd_xt A q7) (sd_xt B q8) be (sd_xt U q9) := by
    intro h
    unfold sd_jd at kk
    rw [decide_eq_true h, Bool.true_and] at kk
    rcases sd_dn_or (sd_th jn tx) k with e | ⟨j, h1, h2, e⟩
    · rw [decide_eq_false (show ¬ ¬ sd_dn (sd_th jn tx) k < 0 by rw [e]; exact fun z => z sd_m1lt)] at kk
      exact br_t (by rw [e]; exact sd_m1lt) kk
    · have cj : (nI j).toNatClampNeg = j := nI_clamp (by omega)
      rw [e, decide_eq_true (nI_pos (by omega)), Bool.true_and, cj] at kk
      rw [e]
      refine br_f (nI_pos (by omega)) ⟨vp_in_nI (by omega) (by decide), by rw [cj]; exact hK.tt j (by omega), ?_⟩
      by_cases q : sd_jt jn tx j = 2
      · rw [decide_eq_true q] at kk
        exact br_t (by rw [cj]; exact q) kk
      · rw [decide_eq_false q] at kk
        exact br_f (by rw [cj]; exact q) kk
  by_cases c1 : sd_jt jn tx k = 1
  · exact br_t c1 (x28 (Or.inl c1))
  · by_cases c2 : sd_jt jn tx k = 2
    · exact br_f c1 (br_t c2 (x28 (Or.inr c2)))
    · unfold sd_jd at kk
      rw [decide_eq_false (fun z => z.elim c1 c2)] at kk
      exact br_f c1 (br_f c2 kk)
theorem sd_yprev25 {post : Int32 → Prop} (hK : sd_K R L bk kd kc jn ty ig rO yA yB yC yD y1 y2 sa dX sY fX fY tx sX) : ∀ (i N : Nat), i ≤ 16 → i < N → wY_isJoined_50 post (sd_dn (sd_th jn tx) i) (nI R) (nI L) (nI n) D T bk wd kd kc jn sY ax ay ty ig ol ls fY tu rO yA yB yC yD y1 y2 tx G C M J P V A B H U → wY_isJoined_25 post (nI R) (nI L) (nI n) D T bk wd kd kc jn sY ax ay ty ig ol ls fY tu rO yA yB yC yD y1 y2 tx G C M J P V A B H U N (nI i - 1) := by
  intro i
  induction i with
  | zero =>
    intro N hi hN k
    obtain ⟨N, rfl⟩ : ∃ N', N = N' + 1 := ⟨N - 1, by omega⟩
    exact br_t (by decide) k
  | succ i ih =>
    intro N hi hN k
    obtain ⟨N, rfl⟩ : ∃ N', N = N' + 1 := ⟨N - 1, by omega⟩
    rw [nI_pred]
    have ci : (nI i).toNatClampNeg = i := nI_clamp (by omega)
    refine br_f (nI_pos (by omega)) ⟨vp_in_nI (by omega) (by decide), by rw [ci]; exact hK.tt i (by omega), ?_⟩
    by_cases q : sd_jt jn tx i = 3
    · rw [sd_dn_t (decide_eq_true q)] at k
      exact br_t (by rw [ci]; exact q) (nm_r (e' := nI i - 1) (Int32.sub_eq_add_neg _ _).symm (ih N (by omega) (by omega) k))
    · rw [sd_dn_f (decide_eq_false q)] at k
      exact br_f (by rw [ci]; exact q) k
theorem sd_12 {x : Int32} (h : vp_in x 4) : ((1 : Int32) ≤ x ∧ x ≤ 2) ↔ (x = 1 ∨ x = 2) := by
  obtain ⟨j, hj, rfl⟩ := vp_in_of h (by decide)
  rcases (by omega : j = 0 ∨ j = 1 ∨ j = 2 ∨ j = 3) with e | e | e | e <;> subst e <;> decide
theorem sd_jt_in {k : Nat} (hK : sd_K R L bk kd kc jn ty ig rO yA yB yC yD y1 y2 sa dX sY fX fY tx sX) (hk : k < 16) : vp_in (sd_jt jn tx k) 4 := (hK.gl _ (sd_cl (hK.tt k hk))).2.2
theorem sd_yjd {post : Int32 → Prop} {k : Nat} (hK : sd_K R L bk kd kc jn ty ig rO yA yB yC yD y1 y2 sa dX sY fX fY tx sX) (hk : k < 16) (kk : post (sd_b (sd_jd jn tx k))) : wpY_isJoined post (nI R, nI L, nI n, D, T, bk, wd, kd, kc, jn, sY, ax, ay, ty, ig, ol, ls, fY, tu, rO, yA, yB, yC, yD, y1, y2, tx, G, C, M, J, P, V, A, B, H, U) (nI k) := by
  have ck : (nI k).toNatClampNeg = k := nI_clamp (by omega)
  have ej : jn (tx (nI k).toNatClampNeg).toNatClampNeg = sd_jt jn tx k := by rw [ck]; rfl
  refine And.intro (vp_in_nI hk (by decide)) ⟨by rw [ck]; exact hK.tt k hk, ?_⟩
  rw [ej]
  unfold sd_jd at kk
  by_cases h : sd_jt jn tx k = 1 ∨ sd_jt jn tx k = 2
  · refine sd_in_t ((sd_12 (sd_jt_in hK hk)).mpr h) (br_f sd_10 (nm_e ⟨k + 1, sd_yprev25 hK k _ (by omega) (by omega) ?_⟩))
    rw [decide_eq_true h, Bool.true_and] at kk
    rcases sd_dn_or (sd_th jn tx) k with e | ⟨j, h1, h2, e⟩
    · rw [decide_eq_false (show ¬ ¬ sd_dn (sd_th jn tx) k < 0 by rw [e]; exact fun z => z sd_m1lt)] at kk
      exact br_t (by rw [e]; exact sd_m1lt) kk
    · have cj : (nI j).toNatClampNeg = j := nI_clamp (by omega)
      rw [e, decide_eq_true (nI_pos (by omega)), Bool.true_and, cj] at kk
      rw [e]
      refine br_f (nI_pos (by omega)) ⟨vp_in_nI (by omega) (by decide), by rw [cj]; exact hK.tt j (by omega), ?_⟩
      by_cases q : sd_jt jn tx j = 2
      · rw [decide_eq_true q] at kk
        exact br_t (by rw [cj]; exact q) kk
      · rw [decide_eq_false q] at kk
        exact br_f (by rw [cj]; exact q) kk
  · rw [decide_eq_false h] at kk
    exact sd_in_f (fun z => h ((sd_12 (sd_jt_in hK hk)).mp z)) (br_t rfl kk)
theorem sd_y138 {post : Int32 → Prop} {x : Int32} {a b : Bool} (kk : post (x ||| sd_fb a b)) : wY_featuresOf_138 post x (sd_b a) (sd_b b) (nI R) (nI L) (nI n) D T bk wd kd kc jn sY ax ay ty ig ol ls fY tu rO yA yB yC yD y1 y2 tx G C M J P V A B H U := by
  refine sd_b_br (fun e => sd_b_br (fun e2 => ?_) (fun e2 => ?_)) (fun e => sd_b_br (fun e2 => ?_) (fun e2 => ?_)) <;> rw [e, e2] at kk <;> exact kk
theorem sd_y95 {post : Int32 → Prop} {k j : Nat} {x : Int32} (hK : sd_K R L bk kd kc jn ty ig rO yA yB yC yD y1 y2 sa dX sY fX fY tx sX) (hk : k < L) (hj : j ≤ L) (ej : sd_up (sd_th jn tx) (L - (k + 1)) (k + 1) = j) (kk : post (x ||| sd_fb (sd_jd jn tx k) (sd_bh L jn tx k))) : wY_featuresOf_95 post (nI k) x (nI j) (nI R) (nI L) (nI n) D T bk wd kd kc jn sY ax ay ty ig ol ls fY tu rO yA yB yC yD y1 y2 tx G C M J P V A B H U := by
  have hL := hK.ll
  have ck : (nI k).toNatClampNeg = k := nI_clamp (by omega)
  unfold sd_bh at kk
  rw [ej] at kk
  refine sd_yjd hK (by omega) ⟨vp_in_nI (by omega) (by decide), by rw [ck]; exact hK.tt k (by omega), ?_⟩
  by_cases q : sd_jt jn tx k = 2
  · rw [decide_eq_true q, Bool.true_and] at kk
    refine br_t (by rw [ck]; exact q) ?_
    by_cases w : j < L
    · rw [decide_eq_true w, Bool.true_and] at kk
      refine br_f (nI_ge w (by omega)) (sd_yjd hK (by omega) (sd_b_br (fun e => ?_) (fun e => ?_)))
      · rw [e] at kk; exact sd_y138 (b := false) kk
      · rw [e] at kk; exact sd_y138 (b := true) kk
    · rw [decide_eq_false w] at kk
      exact br_t (nI_le (by omega) (by omega)) (sd_y138 (b := false) kk)
  · rw [decide_eq_false q] at kk
    exact br_f (by rw [ck]; exact q) (sd_y138 (b := false) kk)
theorem sd_y66 {post : Int32 → Prop} {k : Nat} {x : Int32} (hK : sd_K R L bk kd kc jn ty ig rO yA yB yC yD y1 y2 sa dX sY fX fY tx sX) (hk : k < L) (kk : post (x ||| sd_fb (sd_jd jn tx k) (sd_bh L jn tx k))) :
    ∀ (d i N : Nat), i + d = L → d < N → sd_up (sd_th jn tx) (L - (k + 1)) (k + 1) = sd_up (sd_th jn tx) d i → wY_featuresOf_66 post (nI k) x (nI R) (nI L) (nI n) D T bk wd kd kc jn sY ax ay ty ig ol ls fY tu rO yA yB yC yD y1 y2 tx G C M J P V A B H U N (nI i) := by
  have hL := hK.ll
  intro d
  induction d with
  | zero =>
    intro i N hi hN e
    obtain ⟨N, rfl⟩ : ∃ N', N = N' + 1 := ⟨N - 1, by omega⟩
    exact br_t (nI_le (by omega) (by omega)) (sd_y95 hK hk (by omega) e kk)
  | succ d ih =>
    intro i N hi hN e
    obtain ⟨N, rfl⟩ : ∃ N', N = N' + 1 := ⟨N - 1, by omega⟩
    have ci : (nI i).toNatClampNeg = i := nI_clamp (by omega)
    refine br_f (nI_ge (by omega) (by omega)) ⟨vp_in_nI (by omega) (by decide), by rw [ci]; exact hK.tt i (by omega), ?_⟩
    by_cases q : sd_jt jn tx i = 3
    · rw [sd_up_t (decide_eq_true q)] at e
      exact br_t (by rw [ci]; exact q) (nm_r (nI_1 i) (ih (i + 1) N (by omega) (by omega) e))
    · rw [sd_up_f (decide_eq_false q)] at e
      exact br_f (by rw [ci]; exact q) (sd_y95 hK hk (by omega) e kk)
theorem sd_yfo4 {post : Int32 → Prop} {k : Nat} (hK : sd_K R L bk kd kc jn ty ig rO yA yB yC yD y1 y2 sa dX sY fX fY tx sX) (hk : k < L) (kk : post (sd_m0 L jn tx fY tu k)) :
    ∀ (d f N : Nat) (a : Int32), f + d = 8 → d < N → sd_ma fY tu k 4 4 0 = sd_ma fY tu k d f a → wY_featuresOf_4 post (nI k) (nI R) (nI L) (nI n) D T bk wd kd kc jn sY ax ay ty ig ol ls fY tu rO yA yB yC yD y1 y2 tx G C M J P V A B H U N a (nI f) := by
  have hL := hK.ll
  have ck : (nI k).toNatClampNeg = k := nI_clamp (by omega)
  have ej : jn (tx (nI k).toNatClampNeg).toNatClampNeg = sd_jt jn tx k := by rw [ck]; rfl
  intro d
  induction d with
  | zero =>
    intro f N a hf hN e
    obtain ⟨N, rfl⟩ : ∃ N', N = N' + 1 := ⟨N - 1, by omega⟩
    obtain rfl : f = 8 := by omega
    have e' : sd_ma fY tu k 4 4 0 = a := e
    refine br_t (by decide) ⟨vp_in_nI (by omega) (by decide), by rw [ck]; exact hK.tt k (by omega), ?_⟩
    rw [ej]
    unfold sd_m0 at kk
    rw [e'] at kk
    by_cases h : sd_jt jn tx k = 1 ∨ sd_jt jn tx k = 2
    · rw [if_pos h] at kk
      exact sd_in_t ((sd_12 (sd_jt_in hK (by omega))).mpr h) (br_f sd_10 (nm_r (nI_1 k) ⟨_, sd_y66 hK hk kk (L - (k + 1)) (k + 1) (L - (k + 1) + 1) (by omega) (by omega) rfl⟩))
    · rw [if_neg h] at kk
      exact sd_in_f (fun z => h ((sd_12 (sd_jt_in hK (by omega))).mp z)) (br_t rfl kk)
  | succ d ih =>
    intro f N a hf hN e
    obtain ⟨N, rfl⟩ : ∃ N', N = N' + 1 := ⟨N - 1, by omega⟩
    have cf : (nI f).toNatClampNeg = f := nI_clamp (by omega)
    have vf : vp_in (nI f) 8 := vp_in_nI (by omega) (by decide)
    refine br_f (nI_ge (b := 8) (by omega) (by decide)) ⟨vf, vf, ?_⟩
    rw [cf]
    by_cases h : fY f ≤ nI k ∧ nI k ≤ tu f
    · rw [show sd_ma fY tu k (d + 1) f a = sd_ma fY tu k d (f + 1) (a ||| ((1 : Int32) <<< (nI f &&& 31))) from if_pos h] at e
      exact sd_in_t h (br_f sd_10 (nm_e (nm_r (nI_1 f) (ih (f + 1) N _ (by omega) (by omega) e))))
    · rw [show sd_ma fY tu k (d + 1) f a = sd_ma fY tu k d (f + 1) a from if_neg h] at e
      exact sd_in_f h (br_t rfl (nm_r (nI_1 f) (ih (f + 1) N _ (by omega) (by omega) e)))
theorem sd_yfo {post : Int32 → Prop} {k : Nat} (hK : sd_K R L bk kd kc jn ty ig rO yA yB yC yD y1 y2 sa dX sY fX fY tx sX) (hk : k < L) (kk : post (sd_m0 L jn tx fY tu k)) : wpY_featuresOf post (nI R, nI L, nI n, D, T, bk, wd, kd, kc, jn, sY, ax, ay, ty, ig, ol, ls, fY, tu, rO, yA, yB, yC, yD, y1, y2, tx, G, C, M, J, P, V, A, B, H, U) (nI k) :=
  ⟨5, sd_yfo4 hK hk kk 4 4 5 0 (by omega) (by omega) rfl⟩
theorem sd_ybeg {post : Int32 → SY → Prop} (hK : sd_K R L bk kd kc jn ty ig rO yA yB yC yD y1 y2 sa dX sY fX fY tx sX) :
    ∀ (d i N : Nat) (G C M J P : Nat → Int32), i + d = L → d < N → (∃ n80, wY_shape_80 post n80 0 (nI R) (nI L) (nI L) 0 0 bk wd kd kc jn sY ax ay ty ig ol ls fY tu rO yA yB yC yD y1 y2 tx (sd_ff i L tx G) (sd_ff i L nI C) (sd_ff i L (sd_m0 L jn tx fY tu) M) (sd_fil i L 0 J) (sd_fil i L 0 P) V A B H U) → wY_shape_20 post (nI R) (nI L) (nI L) 0 0 bk N (nI i) wd kd kc jn sY ax ay ty ig ol ls fY tu rO yA yB yC yD y1 y2 tx G C M J P V A B H U := by
  have hL := hK.ll
  intro d
  induction d with
  | zero =>
    intro i N G C M J P hi hN kk
    obtain ⟨N, rfl⟩ : ∃ N', N = N' + 1 := ⟨N - 1, by omega⟩
    obtain rfl : i = L := by omega
    rw [sd_ff_0, sd_ff_0, sd_ff_0, sd_fil_0, sd_fil_0] at kk
    exact br_t (nI_le (by omega) (by omega)) kk
  | succ d ih =>
    intro i N G C M J P hi hN kk
    obtain ⟨N, rfl⟩ : ∃ N', N = N' + 1 := ⟨N - 1, by omega⟩
    have vi : vp_in (nI i) 33 := vp_in_nI (by omega) (by decide)
    rw [← sd_ff_s (i := i) (hi := L) (f := tx) (a := G) (by omega) rfl, ← sd_ff_s (i := i) (hi := L) (f := nI) (a := C) (by omega) rfl, ← sd_ff_s (i := i) (hi := L) (f := sd_m0 L jn tx fY tu) (a := M) (by omega) rfl, ← sd_fil_s (i := i) (hi := L) (a := J) (by omega), ← sd_fil_s (i := i) (hi := L) (a := P) (by omega)] at kk
    exact br_f (nI_ge (by omega) (by omega)) ⟨vp_in_nI (by omega) (by decide), vi, nm_r (sd_yw (by omega) (sd_yr (by omega))) ⟨vi, nm_r (sd_yw (by omega) rfl) (sd_yfo hK (by omega) ⟨vi, nm_r (sd_yw (by omega) rfl) ⟨vi, nm_r (sd_yw (by omega) rfl) ⟨vi, nm_r (sd_yw (by omega) rfl) (nm_r (nI_1 i) (ih (i + 1) N _ _ _ _ _ (by omega) (by omega) kk))⟩⟩⟩)⟩⟩
end
end
section
/-- masks while the forms are found: those below k are final but that of q -/
def sd_bM (L : Nat) (jn tx fY tu Mb : Nat → Int32) (k q : Nat) : Nat → Int32 := fun j => if j < k ∧ j ≠ q then sd_m0 L jn tx fY tu j else Mb j
section
variable {R L n : Nat} {T D bk p1 p2 p3 : Int32} {wd kd kc jn ax ay ty ig ol rO dX sa ls fX tu tx eX G C P H M J V A B be U sY fY yA yB yC yD y1 y2 : Nat → Int32} {sX iX bX tX : Nat → Int64} {q0 q1 q2 q3 q4 q5 q6 q7 q8 q9 : Int32}
variable {Mb : Nat → Int32}
theorem sd_bM_done {k q : Nat} {v : Int32} (hq : q < k) (hk : k ≤ 16) (hv : v = sd_m0 L jn tx fY tu q) : upd (sd_bM L jn tx fY tu Mb k q) q v = sd_bM L jn tx fY tu Mb k 99 := by
  funext j
  unfold upd sd_bM
  by_cases e : j = q
  · rw [if_pos e, if_pos (by omega), e]; exact hv
  · rw [if_neg e]
    by_cases e2 : j < k
    · rw [if_pos ⟨e2, e⟩, if_pos (by omega)]
    · rw [if_neg (fun z => e2 z.1), if_neg (fun z => e2 z.1)]
theorem sd_bM_thr {k q : Nat} (h : sd_m0 L jn tx fY tu k = Mb k) : sd_bM L jn tx fY tu Mb (k + 1) q = sd_bM L jn tx fY tu Mb k q := by
  funext j
  unfold sd_bM
  by_cases e : j = k
  · subst e
    rw [if_neg (show ¬ (j < j ∧ j ≠ q) by omega)]
    split
    · exact h
    · rfl
  · by_cases e2 : j < k ∧ j ≠ q
    · rw [if_pos e2, if_pos (by omega)]
    · rw [if_neg e2, if_neg (by omega)]
theorem sd_bM_new {k : Nat} (hk : k ≤ 16) : sd_bM L jn tx fY tu Mb (k + 1) k = sd_bM L jn tx fY tu Mb k 99 := by
  funext j
  unfold sd_bM
  by_cases e2 : j < k
  · rw [if_pos (by omega), if_pos (by omega)]
  · rw [if_neg (by omega), if_neg (by omega)]
theorem sd_m0_no {k : Nat} (h : ¬ (sd_jt jn tx k = 1 ∨ sd_jt jn tx k = 2)) : sd_m0 L jn tx fY tu k = sd_ma fY tu k 4 4 0 := if_neg h
theorem sd_m0_yes {k : Nat} (h : sd_jt jn tx k = 1 ∨ sd_jt jn tx k = 2) : sd_m0 L jn tx fY tu k = sd_ma fY tu k 4 4 0 ||| sd_fb (sd_jd jn tx k) (sd_bh L jn tx k) := if_pos h
theorem sd_th_12 {q : Nat} (h : sd_jt jn tx q = 1 ∨ sd_jt jn tx q = 2) : sd_th jn tx q = false := decide_eq_false (fun z => by rw [z] at h; exact absurd h (by decide))
theorem sd_bh_next {q k : Nat} (hL : L ≤ 16) (hq : q < k) (hk : k < L) (h : sd_jt jn tx q = 1 ∨ sd_jt jn tx q = 2) (ht : ∀ m, q < m → m < k → sd_th jn tx m = true) (hn : sd_th jn tx k = false) : sd_bh L jn tx q = sd_jd jn tx k := by
  unfold sd_bh
  rw [sd_up_is (sd_th jn tx) (L - (q + 1)) (q + 1) k (by omega) (by omega) (fun m a b => ht m (by omega) b) hn, decide_eq_true hk, Bool.true_and]
  cases e : sd_jd jn tx k
  · rw [Bool.and_false]
  · unfold sd_jd at e
    rw [sd_dn_is (sd_th jn tx) k q hq ht (sd_th_12 h), Bool.and_eq_true, Bool.and_eq_true] at e
    have e2 := of_decide_eq_true e.2.2
    rw [nI_clamp (by omega)] at e2
    rw [decide_eq_true e2]; rfl
theorem sd_bh_end {q : Nat} (hq : q < L) (ht : ∀ m, q < m → m < L → sd_th jn tx m = true) : sd_bh L jn tx q = false := by
  unfold sd_bh
  have : ¬ sd_up (sd_th jn tx) (L - (q + 1)) (q + 1) < L := by
    intro z
    have a := sd_up_end (sd_th jn tx) (L - (q + 1)) (q + 1) (by omega)
    have b := sd_up_ge (sd_th jn tx) (L - (q + 1)) (q + 1)
    rw [ht _ (by omega) z] at a
    cases a
  rw [decide_eq_false this]
  simp
theorem sd_x71 {post : SX → Prop} {F : Int32 → (Nat → Int32) → (Nat → Int32) → (Nat → Int32) → (Nat → Int32) → (Nat → Int32) → (Nat → Int32) → (Nat → Int64) → (Nat → Int32) → (Nat → Int32) → (Nat → Int32) → (Nat → Int32) → (Nat → Int32) → (Nat → Int32) → (Nat → Int32) → (Nat → Int32) → (Nat → Int32) → (Nat → Int32) → (Nat → Int64) → (Nat → Int64) → (Nat → Int64) → (Nat → Int32) → (Nat → Int32) → (Nat → Int32) → (Nat → Int32) → (Nat → Int32) → (Nat → Int32) → (Nat → Int32) → (Nat → Int32) → (Nat → Int32) → (Nat → Int32) → (Nat → Int32) → (Nat → Int32) → Prop} {k : Nat} (hK : sd_K R L bk kd kc jn ty ig rO yA yB yC yD y1 y2 sa dX sY fX fY tx sX) (hk : k < 16) :
    ∀ (d f N : Nat) (M : Nat → Int32), f + d = 8 → 4 ≤ f → d < N → vp_in (M k) 256 → F (nI (k + 1)) wd kd kc jn ax ay sX ty ig ol rO dX sa ls fX tu tx iX bX tX eX (sd_xt G q0) (sd_xt C q1) (sd_xt P q2) (sd_xt H q3) (sd_xt (upd M k (sd_ma fY tu k d f (M k))) q4) (sd_xt J q5) (sd_xt V q6) (sd_xt A q7) (sd_xt B q8) be (sd_xt U q9) →
      wX_begin_71 post F (nI k) (nI R) (nI L) (nI n) T D bk p1 p2 p3 N (nI f) wd kd kc jn ax ay sX ty ig ol rO dX sa ls fX tu tx iX bX tX eX (sd_xt G q0) (sd_xt C q1) (sd_xt P q2) (sd_xt H q3) (sd_xt M q4) (sd_xt J q5) (sd_xt V q6) (sd_xt A q7) (sd_xt B q8) be (sd_xt U q9) := by
  intro d
  induction d with
  | zero =>
    intro f N M hf h4 hN hM kk
    obtain ⟨N, rfl⟩ : ∃ N', N = N' + 1 := ⟨N - 1, by omega⟩
    obtain rfl : f = 8 := by omega
    unfold sd_ma at kk
    rw [sd_u_id] at kk
    exact br_t (by decide) (nm_r (nI_1 k) kk)
  | succ d ih =>
    intro f N M hf h4 hN hM kk
    obtain ⟨N, rfl⟩ : ∃ N', N = N' + 1 := ⟨N - 1, by omega⟩
    have cf : (nI f).toNatClampNeg = f := nI_clamp (by omega)
    have vf : vp_in (nI f) 8 := vp_in_nI (by omega) (by decide)
    have vk : vp_in (nI k) 34 := vp_in_nI (by omega) (by decide)
    have ef : fX (nI f).toNatClampNeg = fY f := by rw [cf]; exact hK.fr f h4
    refine br_f (nI_ge (b := 8) (by omega) (by decide)) ⟨vf, ?_⟩
    by_cases a : fY f ≤ nI k
    · refine br_f (by rw [ef]; exact Int32.not_lt.mpr a) ⟨vf, ?_⟩
      by_cases b : nI k ≤ tu f
      · rw [show sd_ma fY tu k (d + 1) f (M k) = sd_ma fY tu k d (f + 1) (M k ||| ((1 : Int32) <<< (nI f &&& 31))) from if_pos ⟨a, b⟩] at kk
        have w := sd_or256 hM (sd_sh256 (f := f) (by omega))
        have ee : upd (sd_xt M q4) (nI k).toNatClampNeg (vp_nar .short (((sd_xt M q4 (nI k).toNatClampNeg) ||| ((1 : Int32) <<< (nI f &&& 31))).toInt16.toInt32)) = sd_xt (upd M k (M k ||| ((1 : Int32) <<< (nI f &&& 31)))) q4 :=
          sd_nw (by omega) (by rw [sd_nr (by omega)]; exact sd_ss256 w)
        refine br_f (by rw [cf]; exact Int32.not_lt.mpr b) ⟨vk, vk, nm_r ee (nm_r (nI_1 f) (ih (f + 1) N _ (by omega) (by omega) (by omega) (by rw [pk_us]; exact w) ?_))⟩
        rw [pk_us, sd_u_uu]
        exact kk
      · rw [show sd_ma fY tu k (d + 1) f (M k) = sd_ma fY tu k d (f + 1) (M k) from if_neg (fun z => b z.2)] at kk
        exact br_t (by rw [cf]; exact Int32.not_le.mp b) (nm_r (nI_1 f) (ih (f + 1) N _ (by omega) (by omega) (by omega) hM kk))
    · rw [show sd_ma fY tu k (d + 1) f (M k) = sd_ma fY tu k d (f + 1) (M k) from if_neg (fun z => a z.1)] at kk
      exact br_t (by rw [ef]; exact Int32.not_le.mp a) (nm_r (nI_1 f) (ih (f + 1) N _ (by omega) (by omega) (by omega) hM kk))
theorem sd_xstand {post : SX → Prop} {q : Nat} {a b : Bool} (hq : q < 33) (hM : vp_in (M q) 256) (kk : post (nI R, nI L, nI n, T, D, bk, p1, p2, p3, wd, kd, kc, jn, ax, ay, sX, ty, ig, ol, rO, dX, sa, ls, fX, tu, tx, iX, bX, tX, eX, sd_xt G q0, sd_xt C q1, sd_xt P q2, sd_xt H q3, sd_xt (upd M q (M q ||| sd_fb a b)) q4, sd_xt J q5, sd_xt V q6, sd_xt A q7, sd_xt B q8, be, sd_xt U q9)) : wpX_stand post (nI R, nI L, nI n, T, D, bk, p1, p2, p3, wd, kd, kc, jn, ax, ay, sX, ty, ig, ol, rO, dX, sa, ls, fX, tu, tx, iX, bX, tX, eX, sd_xt G q0, sd_xt C q1, sd_xt P q2, sd_xt H q3, sd_xt M q4, sd_xt J q5, sd_xt V q6, sd_xt A q7, sd_xt B q8, be, sd_xt U q9) (nI q) (sd_b a) (sd_b b) := by
  have vq : vp_in (nI q) 34 := vp_in_nI (by omega) (by decide)
  have ee : ∀ s v : Int32, ((1 : Int32) <<< (s &&& 31)) = v → vp_in v 256 → upd (sd_xt M q4) (nI q).toNatClampNeg (vp_nar .short (((sd_xt M q4 (nI q).toNatClampNeg) ||| ((1 : Int32) <<< (s &&& 31))).toInt16.toInt32)) = sd_xt (upd M q (M q ||| v)) q4 := fun s v e hv =>
    sd_nw (by omega) (by rw [sd_nr (by omega), e]; exact sd_ss256 (sd_or256 hM hv))
  have hf := sd_fb_in a b
  refine br_t (nI_pos' (by omega)) ⟨vq, sd_b_br (fun e => sd_b_br (fun e2 => ⟨vq, nm_r (ee 0 1 (by decide) ?_) ?_⟩) (fun e2 => ⟨vq, nm_r (ee 3 8 (by decide) ?_) ?_⟩)) (fun e => sd_b_br (fun e2 => ⟨vq, nm_r (ee 1 2 (by decide) ?_) ?_⟩) (fun e2 => ⟨vq, nm_r (ee 2 4 (by decide) ?_) ?_⟩))⟩
  all_goals first | (rw [e, e2] at hf; exact hf) | (rw [e, e2] at kk; exact kk)
def sd_pd (jn tx : Nat → Int32) (k q : Nat) (x1 x2 : Int32) : Prop :=
  (x1 = -1 ∧ q = 99) ∨ (x1 = nI q ∧ q < k ∧ (sd_jt jn tx q = 1 ∨ sd_jt jn tx q = 2) ∧ (∀ m, q < m → m < k → sd_th jn tx m = true) ∧ x2 = sd_b (sd_jd jn tx q))
theorem sd_x128 {post : SX → Prop} (hK : sd_K R L bk kd kc jn ty ig rO yA yB yC yD y1 y2 sa dX sY fX fY tx sX) (hMb : ∀ j, j < L → Mb j = sd_ma fY tu j 4 4 0) (kk : post (nI R, nI L, nI n, T, D, bk, p1, p2, p3, wd, kd, kc, jn, ax, ay, sX, ty, ig, ol, rO, dX, sa, ls, fX, tu, tx, iX, bX, tX, eX, sd_xt G q0, sd_xt C q1, sd_xt P q2, sd_xt H q3, sd_xt (sd_bM L jn tx fY tu Mb L 99) q4, sd_xt J q5, sd_xt V q6, sd_xt A q7, sd_xt B q8, be, sd_xt U q9)) :
    ∀ (d k q N : Nat) (x1 x2 : Int32), k + d = L → d < N → sd_pd jn tx k q x1 x2 → wX_begin_128 post N x1 x2 (nI k) (nI R) (nI L) (nI n) T D bk p1 p2 p3 wd kd kc jn ax ay sX ty ig ol rO dX sa ls fX tu tx iX bX tX eX (sd_xt G q0) (sd_xt C q1) (sd_xt P q2) (sd_xt H q3) (sd_xt (sd_bM L jn tx fY tu Mb k q) q4) (sd_xt J q5) (sd_xt V q6) (sd_xt A q7) (sd_xt B q8) be (sd_xt U q9) := by
  have hL := hK.ll
  have own : ∀ k q : Nat, q < L → sd_bM L jn tx fY tu Mb k q q = sd_ma fY tu q 4 4 0 := fun k q hq => by unfold sd_bM; rw [if_neg (fun z => z.2 rfl)]; exact hMb q hq
  have fin : ∀ k q b, q < k → k ≤ L → (sd_jt jn tx q = 1 ∨ sd_jt jn tx q = 2) → sd_bh L jn tx q = b → upd (sd_bM L jn tx fY tu Mb k q) q (sd_bM L jn tx fY tu Mb k q q ||| sd_fb (sd_jd jn tx q) b) = sd_bM L jn tx fY tu Mb k 99 := fun k q b h1 h2 h3 h4 => by
    refine sd_bM_done h1 (by omega) ?_
    rw [own k q (by omega), sd_m0_yes h3, h4]
  intro d
  induction d with
  | zero =>
    intro k q N x1 x2 hk hN hp
    obtain ⟨N, rfl⟩ : ∃ N', N = N' + 1 := ⟨N - 1, by omega⟩
    obtain rfl : k = L := by omega
    rcases hp with ⟨e1, e2⟩ | ⟨e1, h1, h2, h3, e2⟩
    · subst e1 e2
      exact br_t (nI_le (Nat.le_refl _) (by omega)) (br_f sd_m1le kk)
    · subst e1 e2
      refine br_t (nI_le (Nat.le_refl _) (by omega)) (sd_xstand (b := false) (by omega) (by rw [own k q h1]; exact sd_mb_in) ?_)
      rw [fin k q false h1 (Nat.le_refl k) h2 (sd_bh_end h1 h3)]
      exact kk
  | succ d ih =>
    intro k q N x1 x2 hk hN hp
    obtain ⟨N, rfl⟩ : ∃ N', N = N' + 1 := ⟨N - 1, by omega⟩
    have ck : (nI k).toNatClampNeg = k := nI_clamp (by omega)
    have ej : jn (tx (nI k).toNatClampNeg).toNatClampNeg = sd_jt jn tx k := by rw [ck]; rfl
    refine br_f (nI_ge (by omega) (by omega)) ⟨vp_in_nI (by omega) (by decide), by rw [ck]; exact hK.tt k (by omega), nm_r ej ?_⟩
    by_cases t : sd_jt jn tx k = 3
    · have n12 : ¬ (sd_jt jn tx k = 1 ∨ sd_jt jn tx k = 2) := by rw [t]; decide
      have z := ih (k + 1) q N x1 x2 (by omega) (by omega) (by
        rcases hp with hp | ⟨e1, h1, h2, h3, e2⟩
        · exact Or.inl hp
        · refine Or.inr ⟨e1, by omega, h2, fun m a b => ?_, e2⟩
          by_cases q : m = k
          · rw [q]; exact decide_eq_true t
          · exact h3 m a (by omega))
      rw [sd_bM_thr ((sd_m0_no n12).trans (hMb k (by omega)).symm)] at z
      exact br_t t (nm_r (nI_1 k) z)
    · have thk : sd_th jn tx k = false := decide_eq_false t
      refine br_f t (sd_xjd hK (by omega) ?_)
      have go : (((sd_jt jn tx k = 0 → (∀ x3_135 : Int32, x3_135 = nI k + 1 → wX_begin_128 post N (-1) (sd_b (sd_jd jn tx k)) x3_135 (nI R) (nI L) (nI n) T D bk p1 p2 p3 wd kd kc jn ax ay sX ty ig ol rO dX sa ls fX tu tx iX bX tX eX (sd_xt G q0) (sd_xt C q1) (sd_xt P q2) (sd_xt H q3) (sd_xt (sd_bM L jn tx fY tu Mb k 99) q4) (sd_xt J q5) (sd_xt V q6) (sd_xt A q7) (sd_xt B q8) be (sd_xt U q9))) ∧ (¬ sd_jt jn tx k = 0 → (∀ x3_134 : Int32, x3_134 = nI k + 1 → wX_begin_128 post N (nI k) (sd_b (sd_jd jn tx k)) x3_134 (nI R) (nI L) (nI n) T D bk p1 p2 p3 wd kd kc jn ax ay sX ty ig ol rO dX sa ls fX tu tx iX bX tX eX (sd_xt G q0) (sd_xt C q1) (sd_xt P q2) (sd_xt H q3) (sd_xt (sd_bM L jn tx fY tu Mb k 99) q4) (sd_xt J q5) (sd_xt V q6) (sd_xt A q7) (sd_xt B q8) be (sd_xt U q9))))) := by
        by_cases j0 : sd_jt jn tx k = 0
        · have n12 : ¬ (sd_jt jn tx k = 1 ∨ sd_jt jn tx k = 2) := by rw [j0]; decide
          have z := ih (k + 1) 99 N (-1) (sd_b (sd_jd jn tx k)) (by omega) (by omega) (Or.inl ⟨rfl, rfl⟩)
          rw [sd_bM_thr ((sd_m0_no n12).trans (hMb k (by omega)).symm)] at z
          exact br_t j0 (nm_r (nI_1 k) z)
        · have j12 : sd_jt jn tx k = 1 ∨ sd_jt jn tx k = 2 := by
            obtain ⟨j, hj, e⟩ := vp_in_of (sd_jt_in hK (show k < 16 by omega)) (by decide)
            rw [e] at t j0 ⊢
            have h3 : j ≠ 3 := fun z => t (by rw [z]; rfl)
            have h0 : j ≠ 0 := fun z => j0 (by rw [z]; rfl)
            rcases (by omega : j = 1 ∨ j = 2) with z | z
            · left; rw [z]; rfl
            · right; rw [z]; rfl
          have z := ih (k + 1) k N (nI k) (sd_b (sd_jd jn tx k)) (by omega) (by omega) (Or.inr ⟨rfl, by omega, j12, fun m a b => by omega, rfl⟩)
          rw [sd_bM_new (by omega)] at z
          exact br_f j0 (nm_r (nI_1 k) z)
      rcases hp with ⟨e1, e2⟩ | ⟨e1, h1, h2, h3, e2⟩
      · subst e1 e2
        exact br_f sd_m1le go
      · subst e1 e2
        refine sd_xstand (by omega) (by rw [own k q (by omega)]; exact sd_mb_in) ?_
        rw [fin k q (sd_jd jn tx k) h1 (by omega) h2 (sd_bh_next hL h1 (by omega) h2 h3 thk)]
        exact go
theorem sd_x20 {post : SX → Prop} (hK : sd_K R L bk kd kc jn ty ig rO yA yB yC yD y1 y2 sa dX sY fX fY tx sX) :
    ∀ (d i N : Nat) (G C M J P : Nat → Int32), i + d = L → d < N → (∃ n128, wX_begin_128 post n128 (-1) 0 0 (nI R) (nI L) (nI L) 0 0 bk p1 p2 p3 wd kd kc jn ax ay sX ty ig ol rO dX sa ls fX tu tx iX bX tX eX (sd_xt (sd_ff i L tx G) q0) (sd_xt (sd_ff i L nI C) q1) (sd_xt (sd_fil i L 0 P) q2) (sd_xt H q3) (sd_xt (sd_ff i L (fun j => sd_ma fY tu j 4 4 0) M) q4) (sd_xt (sd_fil i L 0 J) q5) (sd_xt V q6) (sd_xt A q7) (sd_xt B q8) be (sd_xt U q9)) → wX_begin_20 post (nI R) (nI L) (nI L) 0 0 bk p1 p2 p3 N (nI i) wd kd kc jn ax ay sX ty ig ol rO dX sa ls fX tu tx iX bX tX eX (sd_xt G q0) (sd_xt C q1) (sd_xt P q2) (sd_xt H q3) (sd_xt M q4) (sd_xt J q5) (sd_xt V q6) (sd_xt A q7) (sd_xt B q8) be (sd_xt U q9) := by
  have hL := hK.ll
  intro d
  induction d with
  | zero =>
    intro i N G C M J P hi hN kk
    obtain ⟨N, rfl⟩ : ∃ N', N = N' + 1 := ⟨N - 1, by omega⟩
    obtain rfl : i = L := by omega
    rw [sd_ff_0, sd_ff_0, sd_ff_0, sd_fil_0, sd_fil_0] at kk
    exact br_t (nI_le (by omega) (by omega)) kk
  | succ d ih =>
    intro i N G C M J P hi hN kk
    obtain ⟨N, rfl⟩ : ∃ N', N = N' + 1 := ⟨N - 1, by omega⟩
    have vi : vp_in (nI i) 34 := vp_in_nI (by omega) (by decide)
    have v16 : vp_in (nI i) 16 := vp_in_nI (by omega) (by decide)
    rw [← sd_ff_s (i := i) (hi := L) (f := tx) (a := G) (by omega) rfl, ← sd_ff_s (i := i) (hi := L) (f := nI) (a := C) (by omega) rfl, ← sd_ff_s (i := i) (hi := L) (f := fun j => sd_ma fY tu j 4 4 0) (a := M) (by omega) rfl, ← sd_fil_s (i := i) (hi := L) (a := J) (by omega), ← sd_fil_s (i := i) (hi := L) (a := P) (by omega)] at kk
    have z := ih (i + 1) N _ _ _ _ _ (by omega) (by omega) kk
    refine br_f (nI_ge (by omega) (by omega)) ⟨v16, vi, nm_r (sd_nw (v' := tx i) (by omega) (by rw [nI_clamp (by omega)]; exact sd_nb (hK.tt i (by omega)) (by decide))) ⟨vi, nm_r (sd_nw (by omega) (sd_bb v16 (by decide))) ⟨vi, nm_r (sd_nw (by omega) sd_b0) ⟨vi, nm_r (sd_nw (by omega) sd_s0) ⟨vi, nm_r (sd_nw (by omega) sd_s0) ⟨5, ?_⟩⟩⟩⟩⟩⟩
    refine sd_x71 hK (by omega) 4 4 5 _ (by omega) (by omega) (by omega) (by rw [pk_us]; exact vp_in_nI (n := 0) (by decide) (by decide)) ?_
    rw [pk_us, sd_u_uu]
    exact z
theorem sd_xbeg {post : SX → Prop} (hK : sd_K R L bk kd kc jn ty ig rO yA yB yC yD y1 y2 sa dX sY fX fY tx sX) (kk : post (nI R, nI L, nI L, 0, 0, bk, p1, p2, p3, wd, kd, kc, jn, ax, ay, sX, ty, ig, ol, rO, dX, sa, ls, fX, tu, tx, iX, bX, tX, eX, sd_xt (sd_ff 0 L tx G) q0, sd_xt (sd_ff 0 L nI C) q1, sd_xt (sd_fil 0 L 0 P) q2, sd_xt H q3, sd_xt (sd_ff 0 L (sd_m0 L jn tx fY tu) M) q4, sd_xt (sd_fil 0 L 0 J) q5, sd_xt V q6, sd_xt A q7, sd_xt B q8, be, sd_xt U q9)) : wpX_begin post (nI R, nI L, nI n, T, D, bk, p1, p2, p3, wd, kd, kc, jn, ax, ay, sX, ty, ig, ol, rO, dX, sa, ls, fX, tu, tx, iX, bX, tX, eX, sd_xt G q0, sd_xt C q1, sd_xt P q2, sd_xt H q3, sd_xt M q4, sd_xt J q5, sd_xt V q6, sd_xt A q7, sd_xt B q8, be, sd_xt U q9) := by
  have e : sd_bM L jn tx fY tu (sd_ff 0 L (fun j => sd_ma fY tu j 4 4 0) M) L 99 = sd_ff 0 L (sd_m0 L jn tx fY tu) M := by
    have hL := hK.ll
    funext j
    unfold sd_bM sd_ff
    by_cases h : j < L
    · rw [if_pos ⟨h, by omega⟩, if_pos ⟨by omega, h⟩]
    · rw [if_neg (fun z => h z.1), if_neg (fun z => h z.2), if_neg (fun z => h z.2)]
  have e0 : sd_bM L jn tx fY tu (sd_ff 0 L (fun j => sd_ma fY tu j 4 4 0) M) 0 99 = sd_ff 0 L (fun j => sd_ma fY tu j 4 4 0) M := by
    funext j
    unfold sd_bM
    rw [if_neg (by omega)]
  rw [← e] at kk
  have z := sd_x128 (Mb := sd_ff 0 L (fun j => sd_ma fY tu j 4 4 0) M) hK (fun j hj => if_pos ⟨by omega, hj⟩) kk L 0 99 (L + 1) (-1) 0 (by omega) (by omega) (Or.inl ⟨rfl, rfl⟩)
  rw [e0] at z
  exact ⟨L + 1, sd_x20 hK L 0 (L + 1) G C M J P (by omega) (by omega) ⟨L + 1, z⟩⟩
theorem sd_inv_beg (hK : sd_K R L bk kd kc jn ty ig rO yA yB yC yD y1 y2 sa dX sY fX fY tx sX) : sd_inv L (sd_ff 0 L tx G) (sd_ff 0 L nI C) (sd_fil 0 L 0 P) (sd_ff 0 L (sd_m0 L jn tx fY tu) M) (sd_fil 0 L 0 J) := by
  have hL := hK.ll
  refine And.intro (by omega) (And.intro (fun k hk => ?_) (fun i j a b => ?_))
  · unfold sd_it sd_ff sd_fil
    rw [if_pos ⟨by omega, hk⟩, if_pos ⟨by omega, hk⟩, if_pos ⟨by omega, hk⟩, if_pos ⟨by omega, hk⟩, if_pos ⟨by omega, hk⟩]
    exact ⟨hK.tt k (by omega), vp_in_nI (by omega) (by decide), vp_in_nI (n := 0) (by decide) (by decide), sd_m0_in, vp_in_nI (n := 0) (by decide) (by decide)⟩
  · unfold sd_ff
    rw [if_pos (by omega), if_pos (by omega)]
    exact nI_le a (by omega)
end
end
section
/-! places -/
def sd_vi (wd kd G : Nat → Int32) (j : Nat) : Int32 := if kd (G j).toNatClampNeg = 3 then 0 else wd (G j).toNatClampNeg
def sd_pv (n : Nat) (H U : Nat → Int32) : Prop := ∀ k, k < n → (H k = -1 ∨ ∃ p, p < k ∧ H k = nI p) ∧ (U k = 0 ∨ U k = 1)
def sd_ai (G : Nat → Int32) (k w : Nat) : Nat := 9 * (G k).toNatClampNeg + w
theorem sd_pv_u {n k : Nat} {H U : Nat → Int32} {h u : Int32} (P : sd_pv n H U) (hh : h = -1 ∨ ∃ p, p < k ∧ h = nI p) (hu : u = 0 ∨ u = 1) : sd_pv n (upd H k h) (upd U k u) := by
  intro j hj
  by_cases e : j = k
  · subst e; rw [pk_us, pk_us]; exact ⟨hh, hu⟩
  · rw [pk_un e, pk_un e]; exact P j hj
theorem sd_i9 {x : Int32} {w : Nat} (hx : vp_in x 48) : (9 * x) + nI w = nI (9 * x.toNatClampNeg + w) := by
  obtain ⟨g, hg, rfl⟩ := vp_in_of hx (by decide)
  rw [nI_clamp (by omega)]
  show nI 9 * nI g + nI w = _
  rw [pk_mul, nI_add]
theorem sd_i90 {x : Int32} (hx : vp_in x 48) : 9 * x = nI (9 * x.toNatClampNeg + 0) := by
  obtain ⟨g, hg, rfl⟩ := vp_in_of hx (by decide)
  rw [nI_clamp (by omega)]
  show nI 9 * nI g = _
  rw [pk_mul]; rfl
section
variable {R L n : Nat} {T D bk p1 p2 p3 : Int32} {wd kd kc jn ax ay ty ig ol rO dX sa ls fX tu tx eX G C P H M J V A B be U sY fY yA yB yC yD y1 y2 : Nat → Int32} {sX iX bX tX : Nat → Int64} {q0 q1 q2 q3 q4 q5 q6 q7 q8 q9 : Int32}
theorem sd_ai_lt {k w : Nat} (hG : vp_in (G k) 48) (hw : w < 9) : sd_ai G k w < 432 := by
  have := sd_cl hG
  unfold sd_ai
  omega
theorem sd_x57 {post : Int32 → SX → Prop} (hn : n ≤ 32) (hG : ∀ k, k < n → vp_in (G k) 48) :
    ∀ (d i N : Nat) (V A B H U : Nat → Int32), i + d = n → d < N → (∃ n137, wX_shape_137 post n137 0 (nI R) (nI L) (nI n) T D bk p1 p2 p3 wd kd kc jn ax ay sX ty ig ol rO dX sa ls fX tu tx iX bX tX eX (sd_xt G q0) (sd_xt C q1) (sd_xt P q2) (sd_xt (sd_fil i n (-1) H) q3) (sd_xt M q4) (sd_xt J q5) (sd_xt (sd_ff i n (sd_vi wd kd G) V) q6) (sd_xt (sd_fil i n 0 A) q7) (sd_xt (sd_fil i n 0 B) q8) be (sd_xt (sd_fil i n 0 U) q9)) → wX_shape_57 post (nI R) (nI L) (nI n) T D bk p1 p2 p3 N (nI i) wd kd kc jn ax ay sX ty ig ol rO dX sa ls fX tu tx iX bX tX eX (sd_xt G q0) (sd_xt C q1) (sd_xt P q2) (sd_xt H q3) (sd_xt M q4) (sd_xt J q5) (sd_xt V q6) (sd_xt A q7) (sd_xt B q8) be (sd_xt U q9) := by
  intro d
  induction d with
  | zero =>
    intro i N V A B H U hi hN kk
    obtain ⟨N, rfl⟩ : ∃ N', N = N' + 1 := ⟨N - 1, by omega⟩
    obtain rfl : i = n := by omega
    rw [sd_ff_0, sd_fil_0, sd_fil_0, sd_fil_0, sd_fil_0] at kk
    exact br_t (nI_le (by omega) (by omega)) kk
  | succ d ih =>
    intro i N V A B H U hi hN kk
    obtain ⟨N, rfl⟩ : ∃ N', N = N' + 1 := ⟨N - 1, by omega⟩
    have vi : vp_in (nI i) 34 := vp_in_nI (by omega) (by decide)
    have gi : sd_xt G q0 (nI i).toNatClampNeg = G i := sd_nr (by omega)
    have vg : vp_in (sd_xt G q0 (nI i).toNatClampNeg) 48 := by rw [gi]; exact hG i (by omega)
    rw [← sd_ff_s (i := i) (hi := n) (f := sd_vi wd kd G) (a := V) (by omega) rfl, ← sd_fil_s (i := i) (hi := n) (a := A) (by omega), ← sd_fil_s (i := i) (hi := n) (a := B) (by omega), ← sd_fil_s (i := i) (hi := n) (a := H) (by omega), ← sd_fil_s (i := i) (hi := n) (a := U) (by omega)] at kk
    have z := ih (i + 1) N _ _ _ _ _ (by omega) (by omega) kk
    have go : ∀ v, v = sd_vi wd kd G i → wX_shape_100 post (wX_shape_57 post (nI R) (nI L) (nI n) T D bk p1 p2 p3 N) (nI i) v (nI i) (nI R) (nI L) (nI n) T D bk p1 p2 p3 wd kd kc jn ax ay sX ty ig ol rO dX sa ls fX tu tx iX bX tX eX (sd_xt G q0) (sd_xt C q1) (sd_xt P q2) (sd_xt H q3) (sd_xt M q4) (sd_xt J q5) (sd_xt V q6) (sd_xt A q7) (sd_xt B q8) be (sd_xt U q9) := fun v hv =>
      And.intro vi (nm_r (sd_nw (by omega) hv) ⟨vi, nm_r (sd_nw (by omega) rfl) ⟨vi, nm_r (sd_nw (by omega) rfl) ⟨vi, nm_r (sd_nw (by omega) sd_bm1) ⟨vi, nm_r (sd_nw (by omega) sd_z0) (nm_r (nI_1 i) z)⟩⟩⟩⟩)
    refine br_f (nI_ge (by omega) (by omega)) ⟨vi, vg, ?_⟩
    by_cases q : kd (G i).toNatClampNeg = 3
    · exact br_t (by rw [gi]; exact q) (go 0 (if_pos q).symm)
    · refine br_f (by rw [gi]; exact q) ⟨vi, vg, ?_⟩
      rw [gi]
      exact go _ (if_neg q).symm
theorem sd_ylay2 {post : SY → Prop} (hn : n ≤ 32) (hG : ∀ k, k < n → vp_in (G k) 48) :
    ∀ (d i N : Nat) (V A B H U : Nat → Int32), i + d = n → d < N → post (nI R, nI L, nI n, D, T, bk, wd, kd, kc, jn, sY, ax, ay, ty, ig, ol, ls, fY, tu, rO, yA, yB, yC, yD, y1, y2, tx, G, C, M, J, P, sd_ff i n (sd_vi wd kd G) V, sd_fil i n 0 A, sd_fil i n 0 B, sd_fil i n (-1) H, sd_fil i n 0 U) → wY_lay_2 post (nI R) (nI L) (nI n) D T bk N (nI i) wd kd kc jn sY ax ay ty ig ol ls fY tu rO yA yB yC yD y1 y2 tx G C M J P V A B H U := by
  intro d
  induction d with
  | zero =>
    intro i N V A B H U hi hN kk
    obtain ⟨N, rfl⟩ : ∃ N', N = N' + 1 := ⟨N - 1, by omega⟩
    obtain rfl : i = n := by omega
    rw [sd_ff_0, sd_fil_0, sd_fil_0, sd_fil_0, sd_fil_0] at kk
    exact br_t (nI_le (by omega) (by omega)) kk
  | succ d ih =>
    intro i N V A B H U hi hN kk
    obtain ⟨N, rfl⟩ : ∃ N', N = N' + 1 := ⟨N - 1, by omega⟩
    have vi : vp_in (nI i) 33 := vp_in_nI (by omega) (by decide)
    have gi : G (nI i).toNatClampNeg = G i := sd_yr (by omega)
    have vg : vp_in (G (nI i).toNatClampNeg) 48 := by rw [gi]; exact hG i (by omega)
    rw [← sd_ff_s (i := i) (hi := n) (f := sd_vi wd kd G) (a := V) (by omega) rfl, ← sd_fil_s (i := i) (hi := n) (a := A) (by omega), ← sd_fil_s (i := i) (hi := n) (a := B) (by omega), ← sd_fil_s (i := i) (hi := n) (a := H) (by omega), ← sd_fil_s (i := i) (hi := n) (a := U) (by omega)] at kk
    have z := ih (i + 1) N _ _ _ _ _ (by omega) (by omega) kk
    have go : ∀ v, v = sd_vi wd kd G i → wY_lay_45 post (wY_lay_2 post (nI R) (nI L) (nI n) D T bk N) (nI i) v (nI i) (nI R) (nI L) (nI n) D T bk wd kd kc jn sY ax ay ty ig ol ls fY tu rO yA yB yC yD y1 y2 tx G C M J P V A B H U := fun v hv =>
      And.intro vi (nm_r (sd_yw (by omega) hv) ⟨vi, nm_r (sd_yw (by omega) rfl) ⟨vi, nm_r (sd_yw (by omega) rfl) ⟨vi, nm_r (sd_yw (by omega) rfl) ⟨vi, nm_r (sd_yw (by omega) sd_z0) (nm_r (nI_1 i) z)⟩⟩⟩⟩)
    refine br_f (nI_ge (by omega) (by omega)) ⟨vi, vg, ?_⟩
    by_cases q : kd (G i).toNatClampNeg = 3
    · exact br_t (by rw [gi]; exact q) (go 0 (if_pos q).symm)
    · refine br_f (by rw [gi]; exact q) ⟨vi, vg, ?_⟩
      rw [gi]
      exact go _ (if_neg q).symm
theorem sd_xspot {post : Int32 → Prop} {k : Nat} (w : Nat) {y : Int32} (hy : y = nI w) (hk : k < 33) (hw : w < 9) (hG : vp_in (G k) 48) (k0 : ax (sd_ai G k w) = 99 → post (-1)) (k1 : ¬ ax (sd_ai G k w) = 99 → post (nI (sd_ai G k w))) : wpX_spot post (nI R, nI L, nI n, T, D, bk, p1, p2, p3, wd, kd, kc, jn, ax, ay, sX, ty, ig, ol, rO, dX, sa, ls, fX, tu, tx, iX, bX, tX, eX, sd_xt G q0, sd_xt C q1, sd_xt P q2, sd_xt H q3, sd_xt M q4, sd_xt J q5, sd_xt V q6, sd_xt A q7, sd_xt B q8, be, sd_xt U q9) (nI k) y := by
  subst hy
  have gi : sd_xt G q0 (nI k).toNatClampNeg = G k := sd_nr hk
  have lt := sd_ai_lt hG hw
  have ei : (9 * (sd_xt G q0 (nI k).toNatClampNeg)) + nI w = nI (sd_ai G k w) := by rw [gi]; exact sd_i9 hG
  have ci : (nI (sd_ai G k w)).toNatClampNeg = sd_ai G k w := nI_clamp (by omega)
  refine And.intro (vp_in_nI (by omega) (by decide)) (nm_r ei ⟨vp_in_nI lt (by decide), ?_⟩)
  by_cases q : ax (sd_ai G k w) = 99
  · exact br_t (by rw [ci]; exact q) (k0 q)
  · exact br_f (by rw [ci]; exact q) (k1 q)
theorem sd_yanc {post : Int32 → Prop} {k : Nat} (w : Nat) {y : Int32} (hy : y = nI w) (hk : k < 33) (hw : w < 9) (hG : vp_in (G k) 48) (k0 : ax (sd_ai G k w) = 99 → post 0) (k1 : ¬ ax (sd_ai G k w) = 99 → post 1) : wpY_hasAnchor post (nI R, nI L, nI n, D, T, bk, wd, kd, kc, jn, sY, ax, ay, ty, ig, ol, ls, fY, tu, rO, yA, yB, yC, yD, y1, y2, tx, G, C, M, J, P, V, A, B, H, U) (nI k) y := by
  subst hy
  have gi : G (nI k).toNatClampNeg = G k := sd_yr (by omega)
  have lt := sd_ai_lt hG hw
  have ei : (9 * (G (nI k).toNatClampNeg)) + nI w = nI (sd_ai G k w) := by rw [gi]; exact sd_i9 hG
  have ci : ((9 * (G (nI k).toNatClampNeg)) + nI w).toNatClampNeg = sd_ai G k w := by rw [ei]; exact nI_clamp (by omega)
  refine And.intro (vp_in_nI (by omega) (by decide)) ⟨by rw [ei]; exact vp_in_nI lt (by decide), ?_⟩
  by_cases q : ax (sd_ai G k w) = 99
  · exact br_t (by rw [ci]; exact q) (k0 q)
  · exact br_f (by rw [ci]; exact q) (k1 q)
/-- pairs: the same rule is found -/
theorem sd_find5 {l k : Nat} (hK : sd_K R L bk kd kc jn ty ig rO yA yB yC yD y1 y2 sa dX sY fX fY tx sX) (hL : sd_L R kd kc ig ol ty rO sa sY ls eX iX bX tX) (hl : l < 12) (hn : n ≤ 32) (hG : ∀ k, k < n → vp_in (G k) 48) (hk : k < n) (t : ty l = 5) :
    ∀ (d i : Nat), i + d = R → ∃ q : Int32, (q = -1 ∨ ∃ r, r < R ∧ q = nI r ∧ rO r = nI l ∧ sd_tb (bX l) (G k).toNatClampNeg = true ∧ ¬ sd_nx (sd_pg kd kc ig ol G l) n k < 0) ∧
      (∀ (post : SX → Prop) (N j : Nat), d < N → sd_nx (sd_pg kd kc ig ol G l) n k = nI j → j < n → (q = -1 → post (nI R, nI L, nI n, T, D, bk, p1, p2, p3, wd, kd, kc, jn, ax, ay, sX, ty, ig, ol, rO, dX, sa, ls, fX, tu, tx, iX, bX, tX, eX, sd_xt G q0, sd_xt C q1, sd_xt P q2, sd_xt H q3, sd_xt M q4, sd_xt J q5, sd_xt V q6, sd_xt A q7, sd_xt B q8, be, sd_xt U q9)) → (∀ r, r < R → q = nI r → post (nI R, nI L, nI n, T, D + 1, bk, p1, p2, p3, wd, kd, kc, jn, ax, ay, sX, ty, ig, ol, rO, dX, sa, ls, fX, tu, tx, iX, bX, tX, eX, sd_xt G q0, sd_xt C q1, sd_xt P q2, sd_xt H q3, sd_xt M q4, sd_xt J q5, sd_xt (upd V k (V k + yC r)) q6, sd_xt (upd A j (A j + yD r)) q7, sd_xt B q8, be, sd_xt U q9)) → wX_pair_33 post (nI l) (nI k) (nI j) (nI R) (nI L) (nI n) T D bk p1 p2 p3 wd kd kc jn ax ay sX ty ig ol rO dX sa ls fX tu tx iX bX tX eX (sd_xt G q0) (sd_xt C q1) (sd_xt P q2) (sd_xt H q3) (sd_xt M q4) (sd_xt J q5) (sd_xt V q6) (sd_xt A q7) (sd_xt B q8) be (sd_xt U q9) N (nI i)) ∧
      (∀ (post : Int32 → Prop) (N : Nat), d < N → post q → wY_ruleFor_2 post (nI l) (nI k) (nI R) (nI L) (nI n) D T bk wd kd kc jn sY ax ay ty ig ol ls fY tu rO yA yB yC yD y1 y2 tx G C M J P V A B H U N (nI i)) := by
  have hR := hK.rl
  intro d
  induction d with
  | zero =>
    intro i hi
    have e : nI R ≤ nI i := nI_le (by omega) (by omega)
    refine ⟨-1, Or.inl rfl, fun post N j hN ej hj k0 k1 => ?_, fun post N hN kk => ?_⟩
    · obtain ⟨N, rfl⟩ : ∃ N', N = N' + 1 := ⟨N - 1, by omega⟩
      exact br_t e (k0 rfl)
    · obtain ⟨N, rfl⟩ : ∃ N', N = N' + 1 := ⟨N - 1, by omega⟩
      exact br_t e kk
  | succ d ih =>
    intro i hi
    have e : ¬ nI R ≤ nI i := nI_ge (by omega) (by omega)
    have vi : vp_in (nI i) 40 := vp_in_nI (by omega) (by decide)
    have ci : (nI i).toNatClampNeg = i := nI_clamp (by omega)
    obtain ⟨q, hq, hX, hY⟩ := ih (i + 1) (by omega)
    by_cases ho : rO i = nI l
    · have ho' : rO (nI i).toNatClampNeg = nI l := by rw [ci]; exact ho
      have vv : vp_in (yA i) 56 ∧ vp_in (yB i) 56 := by
        rcases sd_rvl hK hl (show i < R by omega) ho with ⟨q, -⟩ | ⟨q, -⟩ | ⟨q, -⟩ | ⟨q, -⟩ | ⟨q, -⟩ | ⟨-, a, b⟩
        · exact absurd (t.symm.trans q) (by decide)
        · exact absurd (t.symm.trans q) (by decide)
        · exact absurd (t.symm.trans q) (by decide)
        · exact absurd (t.symm.trans q) (by decide)
        · exact absurd (t.symm.trans q) (by decide)
        · exact ⟨a, b⟩
      obtain ⟨bA, hA⟩ : ∃ b, b = sd_tk sY G (yA i) (nI k) := ⟨_, rfl⟩
      obtain ⟨bB, hB⟩ : ∃ b, b = sd_tk sY G (yB i) (sd_nx (sd_pg kd kc ig ol G l) n k) := ⟨_, rfl⟩
      have yy : ∀ (post : Int32 → Prop), post (sd_b (bA && bB)) → wpY_fits post (nI R, nI L, nI n, D, T, bk, wd, kd, kc, jn, sY, ax, ay, ty, ig, ol, ls, fY, tu, rO, yA, yB, yC, yD, y1, y2, tx, G, C, M, J, P, V, A, B, H, U) (nI i) (nI k) := fun post kk =>
        sd_yfits hK hl hn hG (by omega) hk ho (sd_ym5 hK hl hn hG (by omega) hk t vv.1 vv.2 (sd_q_nx _ _ _) hA hB kk)
      cases hb : bA && bB
      · refine ⟨q, hq, fun post N j hN ej hj k0 k1 => ?_, fun post N hN kk => ?_⟩
        · obtain ⟨N, rfl⟩ : ∃ N', N = N' + 1 := ⟨N - 1, by omega⟩
          have nx := nm_r (P := fun x => wX_pair_33 post (nI l) (nI k) (nI j) (nI R) (nI L) (nI n) T D bk p1 p2 p3 wd kd kc jn ax ay sX ty ig ol rO dX sa ls fX tu tx iX bX tX eX (sd_xt G q0) (sd_xt C q1) (sd_xt P q2) (sd_xt H q3) (sd_xt M q4) (sd_xt J q5) (sd_xt V q6) (sd_xt A q7) (sd_xt B q8) be (sd_xt U q9) N x) (nI_1 i) (hX post N j (by omega) ej hj k0 k1)
          refine br_f e ⟨vi, br_t ho' (sd_xtk 0 hL hR (by omega) (by decide) (hK.sy i (by omega)).1 hn hG (Or.inr ⟨k, hk, rfl⟩) (sd_b_br (fun e1 => nx) (fun e1 => ?_)))⟩
          refine sd_xtk 1 hL hR (by omega) (by decide) (hK.sy i (by omega)).2.1 hn hG (Or.inr ⟨j, hj, rfl⟩) (sd_b_br (fun e2 => nx) (fun e2 => ?_))
          rw [ej] at hB
          rw [hA, hB, e1, e2] at hb
          cases hb
        · obtain ⟨N, rfl⟩ : ∃ N', N = N' + 1 := ⟨N - 1, by omega⟩
          refine br_f e ⟨vi, br_t ho' (yy _ ?_)⟩
          rw [hb]
          exact br_t rfl (br_t rfl (nm_r (nI_1 i) (hY post N (by omega) kk)))
      · rw [Bool.and_eq_true] at hb
        have beg : sd_tb (bX l) (G k).toNatClampNeg = true := by
          have h := hb.1
          rw [hA, sd_tk_nI (by omega), ← show sa (4 * i + 0) = yA i from (hK.sy i (by omega)).1, ← hL.2.1 i (by omega) 0 (by decide) _ (sd_cl (hG k hk))] at h
          refine hL.2.2.1 l hl _ (sd_cl (hG k hk)) i (by omega) ho ?_
          rw [t]; exact h
        refine ⟨nI i, Or.inr ⟨i, by omega, rfl, ho, beg, sd_tk_ge (by rw [← hB]; exact hb.2)⟩, fun post N j hN ej hj k0 k1 => ?_, fun post N hN kk => ?_⟩
        · obtain ⟨N, rfl⟩ : ∃ N', N = N' + 1 := ⟨N - 1, by omega⟩
          rw [ej] at hB
          refine br_f e ⟨vi, br_t ho' (sd_xtk 0 hL hR (by omega) (by decide) (hK.sy i (by omega)).1 hn hG (Or.inr ⟨k, hk, rfl⟩) (sd_b_br (fun e1 => ?_) (fun e1 => ?_)))⟩
          · rw [← hA, hb.1] at e1; cases e1
          · refine sd_xtk 1 hL hR (by omega) (by decide) (hK.sy i (by omega)).2.1 hn hG (Or.inr ⟨j, hj, rfl⟩) (sd_b_br (fun e2 => ?_) (fun e2 => ?_))
            · rw [← hB, hb.2] at e2; cases e2
            · have vk : vp_in (nI k) 34 := vp_in_nI (by omega) (by decide)
              have vj : vp_in (nI j) 34 := vp_in_nI (by omega) (by decide)
              have v2 : vp_in ((4 * nI i) + 2) 160 := by rw [show (4 * nI i) + 2 = nI (4 * i + 2) from sd_i4 i 2]; exact vp_in_nI (by omega) (by decide)
              have v3 : vp_in ((4 * nI i) + 3) 160 := by rw [show (4 * nI i) + 3 = nI (4 * i + 3) from sd_i4 i 3]; exact vp_in_nI (by omega) (by decide)
              have s2 : sa ((4 * nI i) + 2).toNatClampNeg = yC i := by rw [show (4 * nI i) + 2 = nI (4 * i + 2) from sd_i4 i 2, nI_clamp (by omega)]; exact (hK.sy i (by omega)).2.2.1
              have s3 : sa ((4 * nI i) + 3).toNatClampNeg = yD i := by rw [show (4 * nI i) + 3 = nI (4 * i + 3) from sd_i4 i 3, nI_clamp (by omega)]; exact (hK.sy i (by omega)).2.2.2
              have eV : upd (sd_xt V q6) (nI k).toNatClampNeg ((sd_xt V q6 (nI k).toNatClampNeg) + (sa ((4 * nI i) + 2).toNatClampNeg)) = sd_xt (upd V k (V k + yC i)) q6 := sd_nw (by omega) (by rw [s2, sd_nr (by omega)])
              have eA : upd (sd_xt A q7) (nI j).toNatClampNeg ((sd_xt A q7 (nI j).toNatClampNeg) + (sa ((4 * nI i) + 3).toNatClampNeg)) = sd_xt (upd A j (A j + yD i)) q7 := sd_nw (by omega) (by rw [s3, sd_nr (by omega)])
              exact ⟨vk, v2, vk, nm_r eV ⟨vj, v3, vj, nm_r eA (nm_e (k1 i (by omega) rfl))⟩⟩
        · obtain ⟨N, rfl⟩ : ∃ N', N = N' + 1 := ⟨N - 1, by omega⟩
          refine br_f e ⟨vi, br_t ho' (yy _ ?_)⟩
          rw [hb.1, hb.2]
          exact br_f sd_10 (br_f sd_10 kk)
    · have ho' : ¬ rO (nI i).toNatClampNeg = nI l := by rw [ci]; exact ho
      refine ⟨q, hq, fun post N j hN ej hj k0 k1 => ?_, fun post N hN kk => ?_⟩
      · obtain ⟨N, rfl⟩ : ∃ N', N = N' + 1 := ⟨N - 1, by omega⟩
        exact br_f e ⟨vi, br_f ho' (nm_r (nI_1 i) (hX post N j (by omega) ej hj k0 k1))⟩
      · obtain ⟨N, rfl⟩ : ∃ N', N = N' + 1 := ⟨N - 1, by omega⟩
        exact br_f e ⟨vi, br_f ho' (br_t rfl (nm_r (nI_1 i) (hY post N (by omega) kk)))⟩
theorem sd_pair {l k : Nat} (hK : sd_K R L bk kd kc jn ty ig rO yA yB yC yD y1 y2 sa dX sY fX fY tx sX) (hL : sd_L R kd kc ig ol ty rO sa sY ls eX iX bX tX) (hl : l < 12) (hn : n ≤ 32) (hG : ∀ k, k < n → vp_in (G k) 48) (hk : k < n) (t : ty l = 5) (hP : sd_pv n H U) :
    ∃ (V' A' B' H' U' : Nat → Int32) (D' : Int32), sd_pv n H' U' ∧ (∀ post : SX → Prop, post (nI R, nI L, nI n, T, D', bk, p1, p2, p3, wd, kd, kc, jn, ax, ay, sX, ty, ig, ol, rO, dX, sa, ls, fX, tu, tx, iX, bX, tX, eX, sd_xt G q0, sd_xt C q1, sd_xt P q2, sd_xt H' q3, sd_xt M q4, sd_xt J q5, sd_xt V' q6, sd_xt A' q7, sd_xt B' q8, be, sd_xt U' q9) → wpX_pair post (nI R, nI L, nI n, T, D, bk, p1, p2, p3, wd, kd, kc, jn, ax, ay, sX, ty, ig, ol, rO, dX, sa, ls, fX, tu, tx, iX, bX, tX, eX, sd_xt G q0, sd_xt C q1, sd_xt P q2, sd_xt H q3, sd_xt M q4, sd_xt J q5, sd_xt V q6, sd_xt A q7, sd_xt B q8, be, sd_xt U q9) (nI l) (nI k)) ∧ (∀ post : SY → Prop, post (nI R, nI L, nI n, D', T, bk, wd, kd, kc, jn, sY, ax, ay, ty, ig, ol, ls, fY, tu, rO, yA, yB, yC, yD, y1, y2, tx, G, C, M, J, P, V', A', B', H', U') → wpY_pair post (nI R, nI L, nI n, D, T, bk, wd, kd, kc, jn, sY, ax, ay, ty, ig, ol, ls, fY, tu, rO, yA, yB, yC, yD, y1, y2, tx, G, C, M, J, P, V, A, B, H, U) (nI l) (nI k)) := by
  have hR := hK.rl
  have cl : (nI l).toNatClampNeg = l := nI_clamp (by omega)
  obtain ⟨q, hq, hX, hY⟩ := sd_find5 (T := T) (p1 := p1) (p2 := p2) (p3 := p3) (C := C) (P := P) (M := M) (J := J) (D := D) (wd := wd) (ax := ax) (ay := ay) (tu := tu) (H := H) (V := V) (A := A) (B := B) (be := be) (U := U) (q0 := q0) (q1 := q1) (q2 := q2) (q3 := q3) (q4 := q4) (q5 := q5) (q6 := q6) (q7 := q7) (q8 := q8) (q9 := q9) hK hL hl hn hG hk t R 0 (by omega)
  have vl : vp_in (nI l) 12 := vp_in_nI hl (by decide)
  have vk : vp_in (nI k) 34 := vp_in_nI (by omega) (by decide)
  have wk : vp_in (nI k) 33 := vp_in_nI (by omega) (by decide)
  rcases hq with rfl | ⟨r, hr, rfl, ho, hb, hx⟩
  · refine ⟨V, A, B, H, U, D, hP, fun post kk => ?_, fun post kk => ?_⟩
    · unfold wpX_pair
      refine sd_xnext hL hl hn hG hk ?_
      rcases sd_nx_or (sd_pg kd kc ig ol G l) n k with e | ⟨j, h1, h2, -, e⟩
      · rw [e]; exact br_t sd_m1lt kk
      · rw [e]
        refine br_f (nI_pos (by omega)) ⟨vl, vk, ?_⟩
        rw [cl, sd_nr (by omega)]
        refine sd_hasB (hG k hk) (by decide) (sd_b_br (fun _ => kk) (fun _ => ⟨R + 1, hX post (R + 1) j (by omega) e h2 (fun _ => kk) (fun r hr z => absurd z (sd_m1n (by omega)))⟩))
    · unfold wpY_pair
      exact ⟨R + 1, hY _ (R + 1) (by omega) (sd_ynext hK hl hn hG hk (br_f sd_m1le kk))⟩
  · obtain ⟨j, h1, h2, -, e⟩ := (sd_nx_or (sd_pg kd kc ig ol G l) n k).resolve_left (fun q => hx (by rw [q]; exact sd_m1lt))
    refine ⟨upd V k (V k + yC r), upd A j (A j + yD r), B, H, U, D + 1, hP, fun post kk => ?_, fun post kk => ?_⟩
    · unfold wpX_pair
      refine sd_xnext hL hl hn hG hk ?_
      rw [e]
      refine br_f (nI_pos (by omega)) ⟨vl, vk, ?_⟩
      rw [cl, sd_nr (by omega)]
      refine sd_has_t (hG k hk) (by decide) hb (br_f sd_10 ⟨R + 1, hX post (R + 1) j (by omega) e h2 (fun z => absurd z.symm (sd_m1n (by omega))) (fun r' hr' z => ?_)⟩)
      have : r = r' := (nI_eq (by omega) (by omega)).mp z
      subst this
      exact kk
    · have vr : vp_in (nI r) 40 := vp_in_nI (by omega) (by decide)
      have vj : vp_in (nI j) 33 := vp_in_nI (by omega) (by decide)
      have eV : upd V (nI k).toNatClampNeg ((V (nI k).toNatClampNeg) + (yC (nI r).toNatClampNeg)) = upd V k (V k + yC r) := by rw [nI_clamp (show k < 2 ^ 31 by omega), nI_clamp (show r < 2 ^ 31 by omega)]
      have eA : upd A (nI j).toNatClampNeg ((A (nI j).toNatClampNeg) + (yD (nI r).toNatClampNeg)) = upd A j (A j + yD r) := by rw [nI_clamp (show j < 2 ^ 31 by omega), nI_clamp (show r < 2 ^ 31 by omega)]
      unfold wpY_pair
      refine ⟨R + 1, hY _ (R + 1) (by omega) (sd_ynext hK hl hn hG hk ?_)⟩
      rw [e]
      exact br_t (nI_pos' (by omega)) (nm_e ⟨wk, vr, wk, nm_r eV ⟨vj, vr, vj, nm_r eA kk⟩⟩)
theorem sd_curve {l k : Nat} (hK : sd_K R L bk kd kc jn ty ig rO yA yB yC yD y1 y2 sa dX sY fX fY tx sX) (hL : sd_L R kd kc ig ol ty rO sa sY ls eX iX bX tX) (hl : l < 12) (hn : n ≤ 32) (hG : ∀ k, k < n → vp_in (G k) 48) (hk : k < n) (hP : sd_pv n H U) :
    ∃ (V' A' B' H' U' : Nat → Int32) (D' : Int32), sd_pv n H' U' ∧ (∀ post : SX → Prop, post (nI R, nI L, nI n, T, D', bk, p1, p2, p3, wd, kd, kc, jn, ax, ay, sX, ty, ig, ol, rO, dX, sa, ls, fX, tu, tx, iX, bX, tX, eX, sd_xt G q0, sd_xt C q1, sd_xt P q2, sd_xt H' q3, sd_xt M q4, sd_xt J q5, sd_xt V' q6, sd_xt A' q7, sd_xt B' q8, be, sd_xt U' q9) → wpX_curve post (nI R, nI L, nI n, T, D, bk, p1, p2, p3, wd, kd, kc, jn, ax, ay, sX, ty, ig, ol, rO, dX, sa, ls, fX, tu, tx, iX, bX, tX, eX, sd_xt G q0, sd_xt C q1, sd_xt P q2, sd_xt H q3, sd_xt M q4, sd_xt J q5, sd_xt V q6, sd_xt A q7, sd_xt B q8, be, sd_xt U q9) (nI l) (nI k)) ∧ (∀ post : SY → Prop, post (nI R, nI L, nI n, D', T, bk, wd, kd, kc, jn, sY, ax, ay, ty, ig, ol, ls, fY, tu, rO, yA, yB, yC, yD, y1, y2, tx, G, C, M, J, P, V', A', B', H', U') → wpY_cursive post (nI R, nI L, nI n, D, T, bk, wd, kd, kc, jn, sY, ax, ay, ty, ig, ol, ls, fY, tu, rO, yA, yB, yC, yD, y1, y2, tx, G, C, M, J, P, V, A, B, H, U) (nI l) (nI k)) := by
  have vk : vp_in (nI k) 34 := vp_in_nI (by omega) (by decide)
  have wk : vp_in (nI k) 33 := vp_in_nI (by omega) (by decide)
  have gk := hG k hk
  have nn : ∀ i : Nat, i < 432 → ¬ nI i < 0 := fun i hi => nI_pos (by omega)
  rcases sd_dn_or (sd_pg kd kc ig ol G l) k with e | ⟨p, h1, -, e⟩
  · refine ⟨V, A, B, H, U, D, hP, fun post kk => ?_, fun post kk => ?_⟩
    · unfold wpX_curve
      refine sd_xprior hL hl hn hG (by omega) ?_
      rw [e]
      refine sd_xspot 0 rfl (by omega) (by decide) gk (fun _ => br_f sd_m1le (br_t sd_m1lt kk)) (fun _ => br_f sd_m1le (br_f (nn _ (sd_ai_lt gk (by decide))) (br_f sd_m1le kk)))
    · unfold wpY_cursive
      refine sd_yprior hK hl hn hG (by omega) ?_
      rw [e]
      exact br_t sd_m1lt kk
  · have gp := hG p (by omega)
    have pp : 0 ≤ nI p := nI_pos' (by omega)
    have np : ¬ nI p < 0 := nI_pos (by omega)
    have vp : vp_in (nI p) 34 := vp_in_nI (by omega) (by decide)
    have wp : vp_in (nI p) 33 := vp_in_nI (by omega) (by decide)
    have l1 := sd_ai_lt (G := G) (k := k) (w := 0) gk (by decide)
    have l2 := sd_ai_lt (G := G) (k := p) (w := 1) gp (by decide)
    by_cases a1 : ax (sd_ai G k 0) = 99
    · refine ⟨V, A, B, H, U, D, hP, fun post kk => ?_, fun post kk => ?_⟩
      · unfold wpX_curve
        refine sd_xprior hL hl hn hG (by omega) ?_
        rw [e]
        exact sd_xspot 0 rfl (by omega) (by decide) gk (fun _ => br_t pp (sd_xspot 1 rfl (by omega) (by decide) gp (fun _ => br_t sd_m1lt kk) (fun _ => br_t sd_m1lt kk))) (fun z => absurd a1 z)
      · unfold wpY_cursive
        refine sd_yprior hK hl hn hG (by omega) ?_
        rw [e]
        exact br_f np (sd_yanc 0 rfl (by omega) (by decide) gk (fun _ => br_t rfl kk) (fun z => absurd a1 z))
    · by_cases a2 : ax (sd_ai G p 1) = 99
      · refine ⟨V, A, B, H, U, D, hP, fun post kk => ?_, fun post kk => ?_⟩
        · unfold wpX_curve
          refine sd_xprior hL hl hn hG (by omega) ?_
          rw [e]
          exact sd_xspot 0 rfl (by omega) (by decide) gk (fun z => absurd z a1) (fun _ => br_t pp (sd_xspot 1 rfl (by omega) (by decide) gp (fun _ => br_f (nn _ l1) (br_f sd_m1le kk)) (fun z => absurd a2 z)))
        · unfold wpY_cursive
          refine sd_yprior hK hl hn hG (by omega) ?_
          rw [e]
          exact br_f np (sd_yanc 0 rfl (by omega) (by decide) gk (fun z => absurd z a1) (fun _ => br_f sd_10 (sd_yanc 1 rfl (by omega) (by decide) gp (fun _ => br_t rfl kk) (fun z => absurd a2 z))))
      · have i1 : vp_in (nI (sd_ai G k 0)) 432 := vp_in_nI l1 (by decide)
        have i2 : vp_in (nI (sd_ai G p 1)) 432 := vp_in_nI l2 (by decide)
        have c1 : (nI (sd_ai G k 0)).toNatClampNeg = sd_ai G k 0 := nI_clamp (by omega)
        have c2 : (nI (sd_ai G p 1)).toNatClampNeg = sd_ai G p 1 := nI_clamp (by omega)
        have ck : (nI k).toNatClampNeg = k := nI_clamp (by omega)
        have cp : (nI p).toNatClampNeg = p := nI_clamp (by omega)
        refine ⟨upd (upd V p (ax (sd_ai G p 1))) k (upd V p (ax (sd_ai G p 1)) k - ax (sd_ai G k 0)), upd A k (A k - ax (sd_ai G k 0)), upd B k (ay (sd_ai G p 1) - ay (sd_ai G k 0)), upd H k (nI p), upd U k 1, D + 1, sd_pv_u hP (Or.inr ⟨p, h1, rfl⟩) (Or.inr rfl), fun post kk => ?_, fun post kk => ?_⟩
        · unfold wpX_curve
          refine sd_xprior hL hl hn hG (by omega) ?_
          rw [e]
          refine sd_xspot 0 rfl (by omega) (by decide) gk (fun z => absurd z a1) (fun _ => br_t pp (sd_xspot 1 rfl (by omega) (by decide) gp (fun z => absurd z a2) (fun _ => br_f (nn _ l1) (br_t (nI_pos' (by omega)) ?_))))
          refine ⟨i2, vp, nm_r (sd_nw (v' := ax (sd_ai G p 1)) (by omega) (by rw [c2])) ⟨vk, i1, vk, nm_r (sd_nw (v' := A k - ax (sd_ai G k 0)) (by omega) (by rw [c1, sd_nr (by omega)])) ⟨vk, i1, vk, nm_r (sd_nw (v' := upd V p (ax (sd_ai G p 1)) k - ax (sd_ai G k 0)) (by omega) (by rw [c1, sd_nr (by omega)])) ⟨i2, i1, vk, nm_r (sd_nw (v' := ay (sd_ai G p 1) - ay (sd_ai G k 0)) (by omega) (by rw [c1, c2])) ⟨vk, nm_r (sd_nw (v' := nI p) (by omega) (sd_bb (vp_in_nI (N := 33) (by omega) (by decide)) (by decide))) ⟨vk, nm_r (sd_nw (v' := 1) (by omega) sd_z1) (nm_e kk)⟩⟩⟩⟩⟩⟩
        · unfold wpY_cursive
          refine sd_yprior hK hl hn hG (by omega) ?_
          rw [e]
          have x4 : 9 * (G (nI k).toNatClampNeg) = nI (sd_ai G k 0) := by rw [ck]; exact sd_i90 gk
          have x5 : (9 * (G (nI p).toNatClampNeg)) + 1 = nI (sd_ai G p 1) := by rw [cp]; exact sd_i9 (w := 1) gp
          refine br_f np (sd_yanc 0 rfl (by omega) (by decide) gk (fun z => absurd z a1) (fun _ => br_f sd_10 (sd_yanc 1 rfl (by omega) (by decide) gp (fun z => absurd z a2) (fun _ => br_f sd_10 ?_))))
          refine ⟨wk, nm_r x4 ⟨wp, nm_r x5 (nm_e ⟨i2, wp, nm_r (sd_yw (v' := ax (sd_ai G p 1)) (by omega) (by rw [c2])) ⟨wk, i1, wk, nm_r (sd_yw (v' := A k - ax (sd_ai G k 0)) (by omega) (by rw [c1, ck])) ⟨wk, i1, wk, nm_r (sd_yw (v' := upd V p (ax (sd_ai G p 1)) k - ax (sd_ai G k 0)) (by omega) (by rw [c1, ck])) ⟨i2, i1, wk, nm_r (sd_yw (v' := ay (sd_ai G p 1) - ay (sd_ai G k 0)) (by omega) (by rw [c1, c2])) ⟨wk, nm_r (sd_yw (v' := nI p) (by omega) rfl) ⟨wk, nm_r (sd_yw (v' := 1) (by omega) sd_z1) kk⟩⟩⟩⟩⟩⟩)⟩⟩
end
end
section
def sd_rw (kc G : Nat → Int32) (k : Nat) : Nat := 3 + 3 * ((kc (G k).toNatClampNeg).toNatClampNeg % 2)
theorem sd_rw_le (kc G : Nat → Int32) (k : Nat) : sd_rw kc G k ≤ 6 := by unfold sd_rw; omega
theorem sd_rwX {x : Int32} (h : vp_in x 4) : (3 + (3 * (x &&& 1)) : Int32) = nI (3 + 3 * (x.toNatClampNeg % 2)) := by
  obtain ⟨j, hj, rfl⟩ := vp_in_of h (by decide)
  rcases (by omega : j = 0 ∨ j = 1 ∨ j = 2 ∨ j = 3) with e | e | e | e <;> subst e <;> decide
theorem sd_rwY {x : Int32} (h : vp_in x 4) : (3 + (3 * (x - x / 2 * 2)) : Int32) = nI (3 + 3 * (x.toNatClampNeg % 2)) := by
  obtain ⟨j, hj, rfl⟩ := vp_in_of h (by decide)
  rcases (by omega : j = 0 ∨ j = 1 ∨ j = 2 ∨ j = 3) with e | e | e | e <;> subst e <;> decide
section
variable {R L n : Nat} {T D bk p1 p2 p3 : Int32} {wd kd kc jn ax ay ty ig ol rO dX sa ls fX tu tx eX G C P H M J V A B be U sY fY yA yB yC yD y1 y2 : Nat → Int32} {sX iX bX tX : Nat → Int64} {q0 q1 q2 q3 q4 q5 q6 q7 q8 q9 : Int32}
theorem sd_rwXk {k : Nat} {pc : Nat} (hK : sd_K R L bk kd kc jn ty ig rO yA yB yC yD y1 y2 sa dX sY fX fY tx sX) (hk : k < 33) (hG : vp_in (G k) 48) : ((3 + (3 * ((kc (sd_xt G q0 (nI k).toNatClampNeg).toNatClampNeg) &&& 1))) + nI pc : Int32) = nI (sd_rw kc G k + pc) := by
  rw [sd_nr hk, sd_rwX (hK.gl _ (sd_cl hG)).2.1, nI_add]; rfl
theorem sd_xhang {post : SX → Prop} {k p pc : Nat} (hK : sd_K R L bk kd kc jn ty ig rO yA yB yC yD y1 y2 sa dX sY fX fY tx sX) (hk : k < 32) (hp : p < 32) (gk : vp_in (G k) 48) (gp : vp_in (G p) 48) (hpc : pc < 3)
    (k1 : ¬ ax (sd_ai G k 2) = 99 → ¬ ax (sd_ai G p (sd_rw kc G k + pc)) = 99 → post (nI R, nI L, nI n, T, D + 1, bk, p1, p2, p3, wd, kd, kc, jn, ax, ay, sX, ty, ig, ol, rO, dX, sa, ls, fX, tu, tx, iX, bX, tX, eX, sd_xt G q0, sd_xt C q1, sd_xt P q2, sd_xt (upd H k (nI p)) q3, sd_xt M q4, sd_xt J q5, sd_xt V q6, sd_xt (upd A k (ax (sd_ai G p (sd_rw kc G k + pc)) - ax (sd_ai G k 2))) q7, sd_xt (upd B k (ay (sd_ai G p (sd_rw kc G k + pc)) - ay (sd_ai G k 2))) q8, be, sd_xt (upd U k 0) q9)) (k0 : ax (sd_ai G k 2) = 99 ∨ ax (sd_ai G p (sd_rw kc G k + pc)) = 99 → post (nI R, nI L, nI n, T, D, bk, p1, p2, p3, wd, kd, kc, jn, ax, ay, sX, ty, ig, ol, rO, dX, sa, ls, fX, tu, tx, iX, bX, tX, eX, sd_xt G q0, sd_xt C q1, sd_xt P q2, sd_xt H q3, sd_xt M q4, sd_xt J q5, sd_xt V q6, sd_xt A q7, sd_xt B q8, be, sd_xt U q9)) : wpX_hang post (nI R, nI L, nI n, T, D, bk, p1, p2, p3, wd, kd, kc, jn, ax, ay, sX, ty, ig, ol, rO, dX, sa, ls, fX, tu, tx, iX, bX, tX, eX, sd_xt G q0, sd_xt C q1, sd_xt P q2, sd_xt H q3, sd_xt M q4, sd_xt J q5, sd_xt V q6, sd_xt A q7, sd_xt B q8, be, sd_xt U q9) (nI k) (nI p) (nI pc) := by
  have rl := sd_rw_le kc G k
  have l1 := sd_ai_lt (G := G) (k := k) (w := 2) gk (by decide)
  have l2 := sd_ai_lt (G := G) (k := p) (w := sd_rw kc G k + pc) gp (by omega)
  have vk : vp_in (nI k) 34 := vp_in_nI (by omega) (by decide)
  have vg : vp_in (sd_xt G q0 (nI k).toNatClampNeg) 48 := by rw [sd_nr (by omega)]; exact gk
  have i1 : vp_in (nI (sd_ai G k 2)) 432 := vp_in_nI l1 (by decide)
  have i2 : vp_in (nI (sd_ai G p (sd_rw kc G k + pc))) 432 := vp_in_nI l2 (by decide)
  have c1 : (nI (sd_ai G k 2)).toNatClampNeg = sd_ai G k 2 := nI_clamp (by omega)
  have c2 : (nI (sd_ai G p (sd_rw kc G k + pc))).toNatClampNeg = sd_ai G p (sd_rw kc G k + pc) := nI_clamp (by omega)
  unfold wpX_hang
  refine sd_xspot 2 rfl (by omega) (by decide) gk (fun a1 => ⟨vk, vg, ?_⟩) (fun a1 => ⟨vk, vg, ?_⟩)
  · exact sd_xspot (sd_rw kc G k + pc) (sd_rwXk hK (by omega) gk) (by omega) (by omega) gp (fun _ => br_t sd_m1lt (k0 (Or.inl a1))) (fun _ => br_t sd_m1lt (k0 (Or.inl a1)))
  · refine sd_xspot (sd_rw kc G k + pc) (sd_rwXk hK (by omega) gk) (by omega) (by omega) gp (fun a2 => br_f (nI_pos (by omega)) (br_f sd_m1le (k0 (Or.inr a2)))) (fun a2 => br_f (nI_pos (by omega)) (br_t (nI_pos' (by omega)) ?_))
    exact ⟨i2, i1, vk, nm_r (sd_nw (v' := ax (sd_ai G p (sd_rw kc G k + pc)) - ax (sd_ai G k 2)) (by omega) (by rw [c1, c2])) ⟨i2, i1, vk, nm_r (sd_nw (v' := ay (sd_ai G p (sd_rw kc G k + pc)) - ay (sd_ai G k 2)) (by omega) (by rw [c1, c2])) ⟨vk, nm_r (sd_nw (v' := nI p) (by omega) (sd_bb (vp_in_nI (N := 33) (by omega) (by decide)) (by decide))) ⟨vk, nm_r (sd_nw (v' := 0) (by omega) sd_z0) (nm_e (k1 a1 a2))⟩⟩⟩⟩
theorem sd_y289 {post : SY → Prop} {k p pc : Nat} (hk : k < 32) (hp : p < 32) (gk : vp_in (G k) 48) (gp : vp_in (G p) 48) (hpc : pc < 3)
    (k1 : ¬ ax (sd_ai G p (sd_rw kc G k + pc)) = 99 → post (nI R, nI L, nI n, D + 1, T, bk, wd, kd, kc, jn, sY, ax, ay, ty, ig, ol, ls, fY, tu, rO, yA, yB, yC, yD, y1, y2, tx, G, C, M, J, P, V, upd A k (ax (sd_ai G p (sd_rw kc G k + pc)) - ax (sd_ai G k 2)), upd B k (ay (sd_ai G p (sd_rw kc G k + pc)) - ay (sd_ai G k 2)), upd H k (nI p), upd U k 0)) (k0 : ax (sd_ai G p (sd_rw kc G k + pc)) = 99 → post (nI R, nI L, nI n, D, T, bk, wd, kd, kc, jn, sY, ax, ay, ty, ig, ol, ls, fY, tu, rO, yA, yB, yC, yD, y1, y2, tx, G, C, M, J, P, V, A, B, H, U)) : wY_hang_289 post (nI k) (nI p) (nI (sd_rw kc G k)) (nI pc) (nI R) (nI L) (nI n) D T bk wd kd kc jn sY ax ay ty ig ol ls fY tu rO yA yB yC yD y1 y2 tx G C M J P V A B H U := by
  have rl := sd_rw_le kc G k
  have l1 := sd_ai_lt (G := G) (k := k) (w := 2) gk (by decide)
  have l2 := sd_ai_lt (G := G) (k := p) (w := sd_rw kc G k + pc) gp (by omega)
  have vk : vp_in (nI k) 33 := vp_in_nI (by omega) (by decide)
  have vp : vp_in (nI p) 33 := vp_in_nI (by omega) (by decide)
  have x1 : (9 * (G (nI k).toNatClampNeg)) + 2 = nI (sd_ai G k 2) := by rw [nI_clamp (by omega)]; exact sd_i9 (w := 2) gk
  have x2 : ((9 * (G (nI p).toNatClampNeg)) + nI (sd_rw kc G k)) + nI pc = nI (sd_ai G p (sd_rw kc G k + pc)) := by
    rw [nI_clamp (by omega), sd_i9 gp, nI_add, Nat.add_assoc]; rfl
  have i1 : vp_in ((9 * (G (nI k).toNatClampNeg)) + 2) 432 := by rw [x1]; exact vp_in_nI l1 (by decide)
  have i2 : vp_in (((9 * (G (nI p).toNatClampNeg)) + nI (sd_rw kc G k)) + nI pc) 432 := by rw [x2]; exact vp_in_nI l2 (by decide)
  have c1 : ((9 * (G (nI k).toNatClampNeg)) + 2).toNatClampNeg = sd_ai G k 2 := by rw [x1]; exact nI_clamp (by omega)
  have c2 : (((9 * (G (nI p).toNatClampNeg)) + nI (sd_rw kc G k)) + nI pc).toNatClampNeg = sd_ai G p (sd_rw kc G k + pc) := by rw [x2]; exact nI_clamp (by omega)
  unfold wY_hang_289
  refine sd_yanc (sd_rw kc G k + pc) (nI_add _ _) (by omega) (by omega) gp (fun a => br_t rfl (k0 a)) (fun a => br_f sd_10 (nm_e ?_))
  exact ⟨vp, i2, vk, i1, vk, nm_r (sd_yw (v' := ax (sd_ai G p (sd_rw kc G k + pc)) - ax (sd_ai G k 2)) (by omega) (by rw [c1, c2])) ⟨vp, i2, vk, i1, vk, nm_r (sd_yw (v' := ay (sd_ai G p (sd_rw kc G k + pc)) - ay (sd_ai G k 2)) (by omega) (by rw [c1, c2])) ⟨vk, nm_r (sd_yw (v' := nI p) (by omega) rfl) ⟨vk, nm_r (sd_yw (v' := 0) (by omega) sd_z0) (k1 a)⟩⟩⟩⟩
/-- both hang a mark that has an anchor of its own -/
theorem sd_hg {k p pc : Nat} (hK : sd_K R L bk kd kc jn ty ig rO yA yB yC yD y1 y2 sa dX sY fX fY tx sX) (hn : n ≤ 32) (hG : ∀ k, k < n → vp_in (G k) 48) (hk : k < n) (hp : p < k) (hpc : pc < 3) (own : ¬ ax (sd_ai G k 2) = 99) (hP : sd_pv n H U) :
    ∃ (V' A' B' H' U' : Nat → Int32) (D' : Int32), sd_pv n H' U' ∧ (∀ post : SX → Prop, post (nI R, nI L, nI n, T, D', bk, p1, p2, p3, wd, kd, kc, jn, ax, ay, sX, ty, ig, ol, rO, dX, sa, ls, fX, tu, tx, iX, bX, tX, eX, sd_xt G q0, sd_xt C q1, sd_xt P q2, sd_xt H' q3, sd_xt M q4, sd_xt J q5, sd_xt V' q6, sd_xt A' q7, sd_xt B' q8, be, sd_xt U' q9) → wpX_hang post (nI R, nI L, nI n, T, D, bk, p1, p2, p3, wd, kd, kc, jn, ax, ay, sX, ty, ig, ol, rO, dX, sa, ls, fX, tu, tx, iX, bX, tX, eX, sd_xt G q0, sd_xt C q1, sd_xt P q2, sd_xt H q3, sd_xt M q4, sd_xt J q5, sd_xt V q6, sd_xt A q7, sd_xt B q8, be, sd_xt U q9) (nI k) (nI p) (nI pc)) ∧ (∀ post : SY → Prop, post (nI R, nI L, nI n, D', T, bk, wd, kd, kc, jn, sY, ax, ay, ty, ig, ol, ls, fY, tu, rO, yA, yB, yC, yD, y1, y2, tx, G, C, M, J, P, V', A', B', H', U') → wY_hang_289 post (nI k) (nI p) (nI (sd_rw kc G k)) (nI pc) (nI R) (nI L) (nI n) D T bk wd kd kc jn sY ax ay ty ig ol ls fY tu rO yA yB yC yD y1 y2 tx G C M J P V A B H U) := by
  have gk := hG k hk
  have gp := hG p (by omega)
  by_cases a : ax (sd_ai G p (sd_rw kc G k + pc)) = 99
  · exact ⟨V, A, B, H, U, D, hP, fun post kk => sd_xhang hK (by omega) (by omega) gk gp hpc (fun _ z => absurd a z) (fun _ => kk), fun post kk => sd_y289 (by omega) (by omega) gk gp hpc (fun z => absurd a z) (fun _ => kk)⟩
  · exact ⟨V, _, _, _, _, _, sd_pv_u hP (Or.inr ⟨p, hp, rfl⟩) (Or.inl rfl), fun post kk => sd_xhang hK (by omega) (by omega) gk gp hpc (fun _ _ => kk) (fun z => z.elim (fun z => absurd z own) (fun z => absurd z a)), fun post kk => sd_y289 (by omega) (by omega) gk gp hpc (fun _ => kk) (fun z => absurd z a)⟩
theorem sd_base7 {l k : Nat} (hK : sd_K R L bk kd kc jn ty ig rO yA yB yC yD y1 y2 sa dX sY fX fY tx sX) (hL : sd_L R kd kc ig ol ty rO sa sY ls eX iX bX tX) (hl : l < 12) (hn : n ≤ 32) (hG : ∀ k, k < n → vp_in (G k) 48) (hk : k < n) :
    ∀ (c m : Nat), m < c → m ≤ k → ∃ pf : Int32, (pf = -1 ∨ ∃ j, j < k ∧ pf = nI j ∧ ¬ kd (G j).toNatClampNeg = 3) ∧
      (∀ (post : SX → Prop) (N : Nat), m < N → wX_base_36 post (nI k) pf (nI R) (nI L) (nI n) T D bk p1 p2 p3 wd kd kc jn ax ay sX ty ig ol rO dX sa ls fX tu tx iX bX tX eX (sd_xt G q0) (sd_xt C q1) (sd_xt P q2) (sd_xt H q3) (sd_xt M q4) (sd_xt J q5) (sd_xt V q6) (sd_xt A q7) (sd_xt B q8) be (sd_xt U q9) → wX_base_7 post (nI l) (nI k) (nI R) (nI L) (nI n) T D bk p1 p2 p3 wd kd kc jn ax ay sX ty ig ol rO dX sa ls fX tu tx iX bX tX eX (sd_xt G q0) (sd_xt C q1) (sd_xt P q2) (sd_xt H q3) (sd_xt M q4) (sd_xt J q5) (sd_xt V q6) (sd_xt A q7) (sd_xt B q8) be (sd_xt U q9) N (sd_dn (sd_pg kd kc ig ol G l) m)) ∧
      (∀ (post : SY → Prop) (N : Nat) (x4 x5 : Int32), m < N → wY_hang_94 post (nI l) (nI k) pf x4 x5 (nI R) (nI L) (nI n) D T bk wd kd kc jn sY ax ay ty ig ol ls fY tu rO yA yB yC yD y1 y2 tx G C M J P V A B H U → wY_hang_65 post (nI l) (nI k) x4 x5 (nI R) (nI L) (nI n) D T bk wd kd kc jn sY ax ay ty ig ol ls fY tu rO yA yB yC yD y1 y2 tx G C M J P V A B H U N (sd_dn (sd_pg kd kc ig ol G l) m)) := by
  intro c
  induction c with
  | zero => intro m hm; omega
  | succ c ih =>
    intro m hm hmk
    rcases sd_dn_or (sd_pg kd kc ig ol G l) m with e | ⟨j, h1, -, e⟩
    · rw [e]
      refine ⟨-1, Or.inl rfl, fun post N hN kk => ?_, fun post N x4 x5 hN kk => ?_⟩
      · obtain ⟨N, rfl⟩ : ∃ N', N = N' + 1 := ⟨N - 1, by omega⟩
        exact br_t sd_m1lt kk
      · obtain ⟨N, rfl⟩ : ∃ N', N = N' + 1 := ⟨N - 1, by omega⟩
        exact br_t sd_m1lt kk
    · rw [e]
      have gj := hG j (by omega)
      have gx : sd_xt G q0 (nI j).toNatClampNeg = G j := sd_nr (by omega)
      have gy : G (nI j).toNatClampNeg = G j := sd_yr (by omega)
      have vx : vp_in (sd_xt G q0 (nI j).toNatClampNeg) 48 := by rw [gx]; exact gj
      have vy : vp_in (G (nI j).toNatClampNeg) 48 := by rw [gy]; exact gj
      have nj : ¬ nI j < 0 := nI_pos (by omega)
      by_cases q : kd (G j).toNatClampNeg = 3
      · obtain ⟨pf, hp, hX, hY⟩ := ih j (by omega) (by omega)
        refine ⟨pf, hp, fun post N hN kk => ?_, fun post N x4 x5 hN kk => ?_⟩
        · obtain ⟨N, rfl⟩ : ∃ N', N = N' + 1 := ⟨N - 1, by omega⟩
          exact br_f nj ⟨vp_in_nI (by omega) (by decide), vx, br_t (by rw [gx]; exact q) (sd_xprior hL hl hn hG (by omega) (hX post N (by omega) kk))⟩
        · obtain ⟨N, rfl⟩ : ∃ N', N = N' + 1 := ⟨N - 1, by omega⟩
          exact br_f nj ⟨vp_in_nI (by omega) (by decide), vy, br_t (by rw [gy]; exact q) (sd_yprior hK hl hn hG (by omega) (hY post N x4 x5 (by omega) kk))⟩
      · refine ⟨nI j, Or.inr ⟨j, by omega, rfl, q⟩, fun post N hN kk => ?_, fun post N x4 x5 hN kk => ?_⟩
        · obtain ⟨N, rfl⟩ : ∃ N', N = N' + 1 := ⟨N - 1, by omega⟩
          exact br_f nj ⟨vp_in_nI (by omega) (by decide), vx, br_f (by rw [gx]; exact q) kk⟩
        · obtain ⟨N, rfl⟩ : ∃ N', N = N' + 1 := ⟨N - 1, by omega⟩
          exact br_f nj ⟨vp_in_nI (by omega) (by decide), vy, br_f (by rw [gy]; exact q) kk⟩
theorem sd_x109 {post : SX → Prop} {k p : Nat} (hK : sd_K R L bk kd kc jn ty ig rO yA yB yC yD y1 y2 sa dX sY fX fY tx sX) (hk : k < 32) (hp : p < 32) (gk : vp_in (G k) 48) (gp : vp_in (G p) 48)
    (kk : wX_base_148 post (nI k) (nI p) (nI (if ¬ ax (sd_ai G p (sd_rw kc G k + 2)) = 99 then 2 else if ¬ ax (sd_ai G p (sd_rw kc G k + 1)) = 99 then 1 else 0)) (nI R) (nI L) (nI n) T D bk p1 p2 p3 wd kd kc jn ax ay sX ty ig ol rO dX sa ls fX tu tx iX bX tX eX (sd_xt G q0) (sd_xt C q1) (sd_xt P q2) (sd_xt H q3) (sd_xt M q4) (sd_xt J q5) (sd_xt V q6) (sd_xt A q7) (sd_xt B q8) be (sd_xt U q9)) : ∃ n109, wX_base_109 post (nI k) (nI p) (nI R) (nI L) (nI n) T D bk p1 p2 p3 wd kd kc jn ax ay sX ty ig ol rO dX sa ls fX tu tx iX bX tX eX (sd_xt G q0) (sd_xt C q1) (sd_xt P q2) (sd_xt H q3) (sd_xt M q4) (sd_xt J q5) (sd_xt V q6) (sd_xt A q7) (sd_xt B q8) be (sd_xt U q9) n109 2 := by
  have rl := sd_rw_le kc G k
  have vk : vp_in (nI k) 34 := vp_in_nI (by omega) (by decide)
  have vg : vp_in (sd_xt G q0 (nI k).toNatClampNeg) 48 := by rw [sd_nr (by omega)]; exact gk
  have l1 := sd_ai_lt (G := G) (k := p) (w := sd_rw kc G k + 1) gp (by omega)
  have l2 := sd_ai_lt (G := G) (k := p) (w := sd_rw kc G k + 2) gp (by omega)
  refine ⟨3, br_f (by decide) ⟨vk, vg, sd_xspot (sd_rw kc G k + 2) (sd_rwXk (pc := 2) hK (by omega) gk) (by omega) (by omega) gp (fun a2 => br_f sd_m1le (nm_r (e' := 1) rfl (br_f (by decide) ⟨vk, vg, sd_xspot (sd_rw kc G k + 1) (sd_rwXk (pc := 1) hK (by omega) gk) (by omega) (by omega) gp (fun a1 => br_f sd_m1le (nm_r (e' := 0) rfl (br_t (by decide) ?_))) (fun a1 => br_t (nI_pos' (by omega)) ?_)⟩))) (fun a2 => br_t (nI_pos' (by omega)) ?_)⟩⟩
  · rw [if_neg (fun z => z a2), if_neg (fun z => z a1)] at kk; exact kk
  · rw [if_neg (fun z => z a2), if_pos a1] at kk; exact kk
  · rw [if_pos a2] at kk; exact kk
theorem sd_y260 {post : SY → Prop} {k p : Nat} (hk : k < 32) (hp : p < 32) (gp : vp_in (G p) 48)
    (kk : wY_hang_289 post (nI k) (nI p) (nI (sd_rw kc G k)) (nI (if ¬ ax (sd_ai G p (sd_rw kc G k + 2)) = 99 then 2 else if ¬ ax (sd_ai G p (sd_rw kc G k + 1)) = 99 then 1 else 0)) (nI R) (nI L) (nI n) D T bk wd kd kc jn sY ax ay ty ig ol ls fY tu rO yA yB yC yD y1 y2 tx G C M J P V A B H U) : ∃ n260, wY_hang_260 post (nI k) (nI p) (nI (sd_rw kc G k)) (nI R) (nI L) (nI n) D T bk wd kd kc jn sY ax ay ty ig ol ls fY tu rO yA yB yC yD y1 y2 tx G C M J P V A B H U n260 0 1 := by
  have rl := sd_rw_le kc G k
  refine ⟨3, br_f (by decide) (sd_yanc (sd_rw kc G k + 1) (nI_add _ 1) (by omega) (by omega) gp (fun a1 => br_t rfl (nm_r (e' := 2) rfl (br_f (by decide) (sd_yanc (sd_rw kc G k + 2) (nI_add _ 2) (by omega) (by omega) gp (fun a2 => br_t rfl (nm_r (e' := 3) rfl (br_t (by decide) ?_))) (fun a2 => br_f sd_10 (nm_r (e' := 3) rfl (br_t (by decide) ?_))))))) (fun a1 => br_f sd_10 (nm_r (e' := 2) rfl (br_f (by decide) (sd_yanc (sd_rw kc G k + 2) (nI_add _ 2) (by omega) (by omega) gp (fun a2 => br_t rfl (nm_r (e' := 3) rfl (br_t (by decide) ?_))) (fun a2 => br_f sd_10 (nm_r (e' := 3) rfl (br_t (by decide) ?_)))))))) ⟩
  · rw [if_neg (fun z => z a2), if_neg (fun z => z a1)] at kk; exact kk
  · rw [if_pos a2] at kk; exact kk
  · rw [if_neg (fun z => z a2), if_pos a1] at kk; exact kk
  · rw [if_pos a2] at kk; exact kk
/-- the piece at which a mark hangs: the same for both -/
theorem sd_piece {l k p : Nat} (hK : sd_K R L bk kd kc jn ty ig rO yA yB yC yD y1 y2 sa dX sY fX fY tx sX) (hl : l < 12) (h : sd_inv n G C P M J) (hk : k < n) (hp : p < k) (t : ty l = 7) (k3 : kd (G k).toNatClampNeg = 3) (np : ¬ kd (G p).toNatClampNeg = 3) :
    ∃ pc : Nat, pc < 3 ∧ (∀ post : SX → Prop, wX_base_148 post (nI k) (nI p) (nI pc) (nI R) (nI L) (nI n) T D bk p1 p2 p3 wd kd kc jn ax ay sX ty ig ol rO dX sa ls fX tu tx iX bX tX eX (sd_xt G q0) (sd_xt C q1) (sd_xt P q2) (sd_xt H q3) (sd_xt M q4) (sd_xt J q5) (sd_xt V q6) (sd_xt A q7) (sd_xt B q8) be (sd_xt U q9) → wX_base_36 post (nI k) (nI p) (nI R) (nI L) (nI n) T D bk p1 p2 p3 wd kd kc jn ax ay sX ty ig ol rO dX sa ls fX tu tx iX bX tX eX (sd_xt G q0) (sd_xt C q1) (sd_xt P q2) (sd_xt H q3) (sd_xt M q4) (sd_xt J q5) (sd_xt V q6) (sd_xt A q7) (sd_xt B q8) be (sd_xt U q9)) ∧
      (∀ post : SY → Prop, wY_hang_289 post (nI k) (nI p) (nI (sd_rw kc G k)) (nI pc) (nI R) (nI L) (nI n) D T bk wd kd kc jn sY ax ay ty ig ol ls fY tu rO yA yB yC yD y1 y2 tx G C M J P V A B H U → wY_hang_94 post (nI l) (nI k) (nI p) (nI (sd_rw kc G k)) 0 (nI R) (nI L) (nI n) D T bk wd kd kc jn sY ax ay ty ig ol ls fY tu rO yA yB yC yD y1 y2 tx G C M J P V A B H U) := by
  have hn := h.1
  have hG := sd_inv_G h
  have gk := hG k hk
  have gp := hG p (by omega)
  obtain ⟨-, -, pk3, -, jk⟩ := h.2.1 k hk
  have cl : (nI l).toNatClampNeg = l := nI_clamp (by omega)
  have vl : vp_in (nI l) 12 := vp_in_nI hl (by decide)
  have t7 : ty (nI l).toNatClampNeg = 7 := by rw [cl]; exact t
  have t8 : ¬ ty (nI l).toNatClampNeg = 8 := by rw [t7]; decide
  have vk : vp_in (nI k) 34 := vp_in_nI (by omega) (by decide)
  have vp : vp_in (nI p) 34 := vp_in_nI (by omega) (by decide)
  have wk : vp_in (nI k) 33 := vp_in_nI (by omega) (by decide)
  have wp : vp_in (nI p) 33 := vp_in_nI (by omega) (by decide)
  have gkx : sd_xt G q0 (nI k).toNatClampNeg = G k := sd_nr (by omega)
  have gpx : sd_xt G q0 (nI p).toNatClampNeg = G p := sd_nr (by omega)
  have gpy : G (nI p).toNatClampNeg = G p := sd_yr (by omega)
  have vgk : vp_in (sd_xt G q0 (nI k).toNatClampNeg) 48 := by rw [gkx]; exact gk
  have vgp : vp_in (sd_xt G q0 (nI p).toNatClampNeg) 48 := by rw [gpx]; exact gp
  have wgp : vp_in (G (nI p).toNatClampNeg) 48 := by rw [gpy]; exact gp
  have jkx : sd_xt J q5 (nI k).toNatClampNeg = J k := sd_nr (by omega)
  have jpx : sd_xt J q5 (nI p).toNatClampNeg = J p := sd_nr (by omega)
  have jky : J (nI k).toNatClampNeg = J k := sd_yr (by omega)
  have jpy : J (nI p).toNatClampNeg = J p := sd_yr (by omega)
  have pkx : sd_xt P q2 (nI k).toNatClampNeg = P k := sd_nr (by omega)
  have pky : P (nI k).toNatClampNeg = P k := sd_yr (by omega)
  have pp : 0 ≤ nI p := nI_pos' (by omega)
  have kkx : kd (sd_xt G q0 (nI k).toNatClampNeg).toNatClampNeg = 3 := by rw [gkx]; exact k3
  by_cases lig : kd (G p).toNatClampNeg = 2
  · have lx : kd (sd_xt G q0 (nI p).toNatClampNeg).toNatClampNeg = 2 := by rw [gpx]; exact lig
    have ly : kd (G (nI p).toNatClampNeg).toNatClampNeg = 2 := by rw [gpy]; exact lig
    by_cases tied : ¬ J k = 0 ∧ J k = J p
    · have pe : nI (P k).toNatClampNeg = P k := sd_nIc pk3 (by decide)
      refine ⟨(P k).toNatClampNeg, sd_cl pk3, fun post kk => ?_, fun post kk => ?_⟩
      · rw [pe] at kk
        exact And.intro vk ⟨vgk, br_t kkx (br_t pp ⟨vp, vgp, br_t lx ⟨vk, nm_r pkx ⟨vk, br_f (by rw [jkx]; exact tied.1) ⟨vk, vp, br_t (by rw [jkx, jpx]; exact tied.2) kk⟩⟩⟩⟩)⟩
      · rw [pe] at kk
        have j0 : ¬ J k ≤ 0 := fun z => tied.1 (Int32.le_antisymm z (sd_in_ge jk))
        have y226 : wY_hang_226 post (nI l) (nI k) (nI p) (nI (sd_rw kc G k)) (P k) 1 (nI R) (nI L) (nI n) D T bk wd kd kc jn sY ax ay ty ig ol ls fY tu rO yA yB yC yD y1 y2 tx G C M J P V A B H U := And.intro vl (br_t t7 ⟨wp, wgp, br_t ly (br_f sd_10 kk)⟩)
        have y187 : wY_hang_187 post (nI l) (nI k) (nI p) (nI (sd_rw kc G k)) 0 1 (nI R) (nI L) (nI n) D T bk wd kd kc jn sY ax ay ty ig ol ls fY tu rO yA yB yC yD y1 y2 tx G C M J P V A B H U := And.intro vl (br_t t7 ⟨wp, wgp, br_t ly (br_f sd_10 ⟨wk, nm_r pky y226⟩)⟩)
        exact br_t pp ⟨wp, wk, br_t (by rw [jky, jpy]; exact tied.2.symm) ⟨wk, br_f (by rw [jky]; exact j0) (And.intro vl (br_f t8 y187))⟩⟩
    · refine ⟨(if ¬ ax (sd_ai G p (sd_rw kc G k + 2)) = 99 then 2 else if ¬ ax (sd_ai G p (sd_rw kc G k + 1)) = 99 then 1 else 0), (by split; omega; split <;> omega), fun post kk => ?_, fun post kk => ?_⟩
      · have z := sd_x109 hK (by omega) (by omega) gk gp kk
        refine And.intro vk ⟨vgk, br_t kkx (br_t pp ⟨vp, vgp, br_t lx ⟨vk, nm_e ⟨vk, ?_⟩⟩⟩)⟩
        by_cases j0 : J k = 0
        · exact br_t (by rw [jkx]; exact j0) z
        · exact br_f (by rw [jkx]; exact j0) ⟨vk, vp, br_f (by rw [jkx, jpx]; exact fun w => tied ⟨j0, w⟩) z⟩
      · have z := sd_y260 (by omega) (by omega) gp kk
        have y226 : wY_hang_226 post (nI l) (nI k) (nI p) (nI (sd_rw kc G k)) 0 0 (nI R) (nI L) (nI n) D T bk wd kd kc jn sY ax ay ty ig ol ls fY tu rO yA yB yC yD y1 y2 tx G C M J P V A B H U := And.intro vl (br_t t7 ⟨wp, wgp, br_t ly (br_t rfl z)⟩)
        have y187 : wY_hang_187 post (nI l) (nI k) (nI p) (nI (sd_rw kc G k)) 0 0 (nI R) (nI L) (nI n) D T bk wd kd kc jn sY ax ay ty ig ol ls fY tu rO yA yB yC yD y1 y2 tx G C M J P V A B H U := And.intro vl (br_t t7 ⟨wp, wgp, br_t ly (br_t rfl y226)⟩)
        have y127 : wY_hang_127 post (nI l) (nI k) (nI p) (nI (sd_rw kc G k)) 0 (nI R) (nI L) (nI n) D T bk wd kd kc jn sY ax ay ty ig ol ls fY tu rO yA yB yC yD y1 y2 tx G C M J P V A B H U := And.intro vl (br_f t8 y187)
        refine br_t pp ⟨wp, wk, ?_⟩
        by_cases q : J k = J p
        · have j0 : J k ≤ 0 := by
            by_cases w : J k = 0
            · rw [w]; decide
            · exact absurd ⟨w, q⟩ tied
          exact br_t (by rw [jky, jpy]; exact q.symm) ⟨wk, br_t (by rw [jky]; exact j0) y127⟩
        · exact br_f (by rw [jky, jpy]; exact fun w => q w.symm) y127
  · have lx : ¬ kd (sd_xt G q0 (nI p).toNatClampNeg).toNatClampNeg = 2 := by rw [gpx]; exact lig
    have ly : ¬ kd (G (nI p).toNatClampNeg).toNatClampNeg = 2 := by rw [gpy]; exact lig
    refine ⟨0, by omega, fun post kk => ?_, fun post kk => ?_⟩
    · exact And.intro vk ⟨vgk, br_t kkx (br_t pp ⟨vp, vgp, br_f lx kk⟩)⟩
    · have y226 : ∀ z : Int32, wY_hang_226 post (nI l) (nI k) (nI p) (nI (sd_rw kc G k)) 0 z (nI R) (nI L) (nI n) D T bk wd kd kc jn sY ax ay ty ig ol ls fY tu rO yA yB yC yD y1 y2 tx G C M J P V A B H U := fun z => And.intro vl (br_t t7 ⟨wp, wgp, br_f ly kk⟩)
      have y187 : ∀ z : Int32, wY_hang_187 post (nI l) (nI k) (nI p) (nI (sd_rw kc G k)) 0 z (nI R) (nI L) (nI n) D T bk wd kd kc jn sY ax ay ty ig ol ls fY tu rO yA yB yC yD y1 y2 tx G C M J P V A B H U := fun z => And.intro vl (br_t t7 ⟨wp, wgp, br_f ly (y226 z)⟩)
      have y128 : ∀ z : Int32, wY_hang_128 post (nI l) (nI k) (nI p) (nI (sd_rw kc G k)) 0 z (nI R) (nI L) (nI n) D T bk wd kd kc jn sY ax ay ty ig ol ls fY tu rO yA yB yC yD y1 y2 tx G C M J P V A B H U := fun z => And.intro vl (br_f t8 (y187 z))
      exact br_t pp ⟨wp, wk, br_c (fun _ => ⟨wk, br_c (fun _ => y128 0) (fun _ => y128 1)⟩) (fun _ => y128 0)⟩
end
end
section
section
variable {R L n : Nat} {T D bk p1 p2 p3 : Int32} {wd kd kc jn ax ay ty ig ol rO dX sa ls fX tu tx eX G C P H M J V A B be U sY fY yA yB yC yD y1 y2 : Nat → Int32} {sX iX bX tX : Nat → Int64} {q0 q1 q2 q3 q4 q5 q6 q7 q8 q9 : Int32}
theorem sd_yhang0 {post : SY → Prop} {l k : Nat} (hK : sd_K R L bk kd kc jn ty ig rO yA yB yC yD y1 y2 sa dX sY fX fY tx sX) (hl : l < 12) (hn : n ≤ 32) (hG : ∀ k, k < n → vp_in (G k) 48) (hk : k < n)
    (kn : ¬ kd (G k).toNatClampNeg = 3 → post (nI R, nI L, nI n, D, T, bk, wd, kd, kc, jn, sY, ax, ay, ty, ig, ol, ls, fY, tu, rO, yA, yB, yC, yD, y1, y2, tx, G, C, M, J, P, V, A, B, H, U)) (ko : kd (G k).toNatClampNeg = 3 → ax (sd_ai G k 2) = 99 → post (nI R, nI L, nI n, D, T, bk, wd, kd, kc, jn, sY, ax, ay, ty, ig, ol, ls, fY, tu, rO, yA, yB, yC, yD, y1, y2, tx, G, C, M, J, P, V, A, B, H, U))
    (kg : kd (G k).toNatClampNeg = 3 → ¬ ax (sd_ai G k 2) = 99 → (ty l = 7 → ∃ n65, wY_hang_65 post (nI l) (nI k) (nI (sd_rw kc G k)) 0 (nI R) (nI L) (nI n) D T bk wd kd kc jn sY ax ay ty ig ol ls fY tu rO yA yB yC yD y1 y2 tx G C M J P V A B H U n65 (sd_dn (sd_pg kd kc ig ol G l) k)) ∧ (¬ ty l = 7 → wY_hang_94 post (nI l) (nI k) (sd_dn (sd_pg kd kc ig ol G l) k) (nI (sd_rw kc G k)) 0 (nI R) (nI L) (nI n) D T bk wd kd kc jn sY ax ay ty ig ol ls fY tu rO yA yB yC yD y1 y2 tx G C M J P V A B H U)) : wpY_hang post (nI R, nI L, nI n, D, T, bk, wd, kd, kc, jn, sY, ax, ay, ty, ig, ol, ls, fY, tu, rO, yA, yB, yC, yD, y1, y2, tx, G, C, M, J, P, V, A, B, H, U) (nI l) (nI k) := by
  have gk := hG k hk
  have cl : (nI l).toNatClampNeg = l := nI_clamp (by omega)
  have vl : vp_in (nI l) 12 := vp_in_nI hl (by decide)
  have vk : vp_in (nI k) 33 := vp_in_nI (by omega) (by decide)
  have gy : G (nI k).toNatClampNeg = G k := sd_yr (by omega)
  have vg : vp_in (G (nI k).toNatClampNeg) 48 := by rw [gy]; exact gk
  have ex : (3 + (3 * ((kc (G (nI k).toNatClampNeg).toNatClampNeg) - (kc (G (nI k).toNatClampNeg).toNatClampNeg) / 2 * 2)) : Int32) = nI (sd_rw kc G k) := by rw [gy]; exact sd_rwY (hK.gl _ (sd_cl gk)).2.1
  unfold wpY_hang
  refine sd_yprior hK hl hn hG (by omega) ⟨vk, vg, by decide, nm_r ex ⟨vk, vg, ?_⟩⟩
  by_cases k3 : kd (G k).toNatClampNeg = 3
  · refine br_t (by rw [gy]; exact k3) (sd_yanc 2 rfl (by omega) (by decide) gk (fun a => br_t rfl (ko k3 a)) (fun a => br_f sd_10 ⟨vl, ?_⟩))
    obtain ⟨g1, g2⟩ := kg k3 a
    by_cases t : ty l = 7
    · exact br_t (by rw [cl]; exact t) (g1 t)
    · exact br_f (by rw [cl]; exact t) (g2 t)
  · exact br_f (by rw [gy]; exact k3) (kn k3)
theorem sd_base {l k : Nat} (hK : sd_K R L bk kd kc jn ty ig rO yA yB yC yD y1 y2 sa dX sY fX fY tx sX) (hL : sd_L R kd kc ig ol ty rO sa sY ls eX iX bX tX) (hl : l < 12) (h : sd_inv n G C P M J) (hk : k < n) (t : ty l = 7) (hP : sd_pv n H U) :
    ∃ (V' A' B' H' U' : Nat → Int32) (D' : Int32), sd_pv n H' U' ∧ (∀ post : SX → Prop, post (nI R, nI L, nI n, T, D', bk, p1, p2, p3, wd, kd, kc, jn, ax, ay, sX, ty, ig, ol, rO, dX, sa, ls, fX, tu, tx, iX, bX, tX, eX, sd_xt G q0, sd_xt C q1, sd_xt P q2, sd_xt H' q3, sd_xt M q4, sd_xt J q5, sd_xt V' q6, sd_xt A' q7, sd_xt B' q8, be, sd_xt U' q9) → wpX_base post (nI R, nI L, nI n, T, D, bk, p1, p2, p3, wd, kd, kc, jn, ax, ay, sX, ty, ig, ol, rO, dX, sa, ls, fX, tu, tx, iX, bX, tX, eX, sd_xt G q0, sd_xt C q1, sd_xt P q2, sd_xt H q3, sd_xt M q4, sd_xt J q5, sd_xt V q6, sd_xt A q7, sd_xt B q8, be, sd_xt U q9) (nI l) (nI k)) ∧ (∀ post : SY → Prop, post (nI R, nI L, nI n, D', T, bk, wd, kd, kc, jn, sY, ax, ay, ty, ig, ol, ls, fY, tu, rO, yA, yB, yC, yD, y1, y2, tx, G, C, M, J, P, V', A', B', H', U') → wpY_hang post (nI R, nI L, nI n, D, T, bk, wd, kd, kc, jn, sY, ax, ay, ty, ig, ol, ls, fY, tu, rO, yA, yB, yC, yD, y1, y2, tx, G, C, M, J, P, V, A, B, H, U) (nI l) (nI k)) := by
  have hn := h.1
  have hG := sd_inv_G h
  have gk := hG k hk
  have gkx : sd_xt G q0 (nI k).toNatClampNeg = G k := sd_nr (by omega)
  have vk : vp_in (nI k) 34 := vp_in_nI (by omega) (by decide)
  have vgk : vp_in (sd_xt G q0 (nI k).toNatClampNeg) 48 := by rw [gkx]; exact gk
  obtain ⟨pf, hp, uX, uY⟩ := sd_base7 (T := T) (p1 := p1) (p2 := p2) (p3 := p3) (C := C) (P := P) (M := M) (J := J) (D := D) (wd := wd) (ax := ax) (ay := ay) (tu := tu) (H := H) (V := V) (A := A) (B := B) (be := be) (U := U) (q0 := q0) (q1 := q1) (q2 := q2) (q3 := q3) (q4 := q4) (q5 := q5) (q6 := q6) (q7 := q7) (q8 := q8) (q9 := q9) hK hL hl hn hG hk (k + 1) k (by omega) (Nat.le_refl k)
  have xx : ∀ post : SX → Prop, wX_base_36 post (nI k) pf (nI R) (nI L) (nI n) T D bk p1 p2 p3 wd kd kc jn ax ay sX ty ig ol rO dX sa ls fX tu tx iX bX tX eX (sd_xt G q0) (sd_xt C q1) (sd_xt P q2) (sd_xt H q3) (sd_xt M q4) (sd_xt J q5) (sd_xt V q6) (sd_xt A q7) (sd_xt B q8) be (sd_xt U q9) → wpX_base post (nI R, nI L, nI n, T, D, bk, p1, p2, p3, wd, kd, kc, jn, ax, ay, sX, ty, ig, ol, rO, dX, sa, ls, fX, tu, tx, iX, bX, tX, eX, sd_xt G q0, sd_xt C q1, sd_xt P q2, sd_xt H q3, sd_xt M q4, sd_xt J q5, sd_xt V q6, sd_xt A q7, sd_xt B q8, be, sd_xt U q9) (nI l) (nI k) := fun post kk => by
    unfold wpX_base
    exact sd_xprior hL hl hn hG (by omega) ⟨k + 1, uX post (k + 1) (by omega) kk⟩
  by_cases k3 : kd (G k).toNatClampNeg = 3
  · have k3x : kd (sd_xt G q0 (nI k).toNatClampNeg).toNatClampNeg = 3 := by rw [gkx]; exact k3
    rcases hp with e | ⟨p, hpk, e, np⟩
    · subst e
      refine ⟨V, A, B, H, U, D, hP, fun post kk => xx post (And.intro vk ⟨vgk, br_t k3x (br_f sd_m1le kk)⟩), fun post kk => ?_⟩
      exact sd_yhang0 hK hl hn hG hk (fun _ => kk) (fun _ _ => kk) (fun _ _ => ⟨fun _ => ⟨k + 1, uY post (k + 1) _ _ (by omega) (br_f sd_m1le kk)⟩, fun z => absurd t z⟩)
    · subst e
      obtain ⟨pc, hpc, pX, pY⟩ := sd_piece (T := T) (p1 := p1) (p2 := p2) (p3 := p3) (ol := ol) (ls := ls) (eX := eX) (iX := iX) (bX := bX) (tX := tX) (D := D) (wd := wd) (ax := ax) (ay := ay) (tu := tu) (H := H) (V := V) (A := A) (B := B) (be := be) (U := U) (q0 := q0) (q1 := q1) (q2 := q2) (q3 := q3) (q4 := q4) (q5 := q5) (q6 := q6) (q7 := q7) (q8 := q8) (q9 := q9) hK hl h hk hpk t k3 np
      by_cases own : ax (sd_ai G k 2) = 99
      · refine ⟨V, A, B, H, U, D, hP, fun post kk => xx post (pX post (sd_xhang hK (by omega) (by omega) gk (hG p (by omega)) hpc (fun z => absurd own z) (fun _ => kk))), fun post kk => ?_⟩
        exact sd_yhang0 hK hl hn hG hk (fun _ => kk) (fun _ _ => kk) (fun _ z => absurd own z)
      · obtain ⟨V', A', B', H', U', D', g1, gX, gY⟩ := sd_hg (T := T) (p1 := p1) (p2 := p2) (p3 := p3) (ol := ol) (ls := ls) (eX := eX) (iX := iX) (bX := bX) (tX := tX) (C := C) (P := P) (M := M) (J := J) (D := D) (wd := wd) (ax := ax) (ay := ay) (tu := tu) (H := H) (V := V) (A := A) (B := B) (be := be) (U := U) (q0 := q0) (q1 := q1) (q2 := q2) (q3 := q3) (q4 := q4) (q5 := q5) (q6 := q6) (q7 := q7) (q8 := q8) (q9 := q9) hK hn hG hk hpk hpc own hP
        refine ⟨V', A', B', H', U', D', g1, fun post kk => xx post (pX post (gX _ kk)), fun post kk => ?_⟩
        exact sd_yhang0 hK hl hn hG hk (fun z => absurd k3 z) (fun _ z => absurd z own) (fun _ _ => ⟨fun _ => ⟨k + 1, uY post (k + 1) _ _ (by omega) (pY post (gY post kk))⟩, fun z => absurd t z⟩)
  · refine ⟨V, A, B, H, U, D, hP, fun post kk => xx post (And.intro vk ⟨vgk, br_f (by rw [gkx]; exact k3) kk⟩), fun post kk => ?_⟩
    exact sd_yhang0 hK hl hn hG hk (fun _ => kk) (fun z => absurd z k3) (fun z => absurd z k3)
theorem sd_stack {l k : Nat} (hK : sd_K R L bk kd kc jn ty ig rO yA yB yC yD y1 y2 sa dX sY fX fY tx sX) (hL : sd_L R kd kc ig ol ty rO sa sY ls eX iX bX tX) (hl : l < 12) (h : sd_inv n G C P M J) (hk : k < n) (t : ty l = 8) (hP : sd_pv n H U) :
    ∃ (V' A' B' H' U' : Nat → Int32) (D' : Int32), sd_pv n H' U' ∧ (∀ post : SX → Prop, post (nI R, nI L, nI n, T, D', bk, p1, p2, p3, wd, kd, kc, jn, ax, ay, sX, ty, ig, ol, rO, dX, sa, ls, fX, tu, tx, iX, bX, tX, eX, sd_xt G q0, sd_xt C q1, sd_xt P q2, sd_xt H' q3, sd_xt M q4, sd_xt J q5, sd_xt V' q6, sd_xt A' q7, sd_xt B' q8, be, sd_xt U' q9) → wpX_stack post (nI R, nI L, nI n, T, D, bk, p1, p2, p3, wd, kd, kc, jn, ax, ay, sX, ty, ig, ol, rO, dX, sa, ls, fX, tu, tx, iX, bX, tX, eX, sd_xt G q0, sd_xt C q1, sd_xt P q2, sd_xt H q3, sd_xt M q4, sd_xt J q5, sd_xt V q6, sd_xt A q7, sd_xt B q8, be, sd_xt U q9) (nI l) (nI k)) ∧ (∀ post : SY → Prop, post (nI R, nI L, nI n, D', T, bk, wd, kd, kc, jn, sY, ax, ay, ty, ig, ol, ls, fY, tu, rO, yA, yB, yC, yD, y1, y2, tx, G, C, M, J, P, V', A', B', H', U') → wpY_hang post (nI R, nI L, nI n, D, T, bk, wd, kd, kc, jn, sY, ax, ay, ty, ig, ol, ls, fY, tu, rO, yA, yB, yC, yD, y1, y2, tx, G, C, M, J, P, V, A, B, H, U) (nI l) (nI k)) := by
  have hn := h.1
  have hG := sd_inv_G h
  have gk := hG k hk
  have cl : (nI l).toNatClampNeg = l := nI_clamp (by omega)
  have vl : vp_in (nI l) 12 := vp_in_nI hl (by decide)
  have t8 : ty (nI l).toNatClampNeg = 8 := by rw [cl]; exact t
  have n7 : ¬ ty l = 7 := by rw [t]; decide
  have n7' : ¬ ty (nI l).toNatClampNeg = 7 := by rw [t8]; decide
  have gkx : sd_xt G q0 (nI k).toNatClampNeg = G k := sd_nr (by omega)
  have vk : vp_in (nI k) 34 := vp_in_nI (by omega) (by decide)
  have wk : vp_in (nI k) 33 := vp_in_nI (by omega) (by decide)
  have vgk : vp_in (sd_xt G q0 (nI k).toNatClampNeg) 48 := by rw [gkx]; exact gk
  have xx : ∀ post : SX → Prop, (((sd_dn (sd_pg kd kc ig ol G l) k < 0 → post (nI R, nI L, nI n, T, D, bk, p1, p2, p3, wd, kd, kc, jn, ax, ay, sX, ty, ig, ol, rO, dX, sa, ls, fX, tu, tx, iX, bX, tX, eX, sd_xt G q0, sd_xt C q1, sd_xt P q2, sd_xt H q3, sd_xt M q4, sd_xt J q5, sd_xt V q6, sd_xt A q7, sd_xt B q8, be, sd_xt U q9)) ∧ (¬ sd_dn (sd_pg kd kc ig ol G l) k < 0 → (vp_in (nI k) 34 ∧ (vp_in (sd_xt G q0 (nI k).toNatClampNeg) 48 ∧ (((kd (sd_xt G q0 (nI k).toNatClampNeg).toNatClampNeg) = 3 → (vp_in (sd_dn (sd_pg kd kc ig ol G l) k) 34 ∧ (vp_in (sd_xt G q0 (sd_dn (sd_pg kd kc ig ol G l) k).toNatClampNeg) 48 ∧ (((kd (sd_xt G q0 (sd_dn (sd_pg kd kc ig ol G l) k).toNatClampNeg).toNatClampNeg) = 3 → (vp_in (nI k) 34 ∧ (vp_in (sd_dn (sd_pg kd kc ig ol G l) k) 34 ∧ (((sd_xt J q5 (nI k).toNatClampNeg) = (sd_xt J q5 (sd_dn (sd_pg kd kc ig ol G l) k).toNatClampNeg) → (vp_in (nI k) 34 ∧ (vp_in (sd_dn (sd_pg kd kc ig ol G l) k) 34 ∧ (((sd_xt P q2 (nI k).toNatClampNeg) = (sd_xt P q2 (sd_dn (sd_pg kd kc ig ol G l) k).toNatClampNeg) → wpX_hang post (nI R, nI L, nI n, T, D, bk, p1, p2, p3, wd, kd, kc, jn, ax, ay, sX, ty, ig, ol, rO, dX, sa, ls, fX, tu, tx, iX, bX, tX, eX, sd_xt G q0, sd_xt C q1, sd_xt P q2, sd_xt H q3, sd_xt M q4, sd_xt J q5, sd_xt V q6, sd_xt A q7, sd_xt B q8, be, sd_xt U q9) (nI k) (sd_dn (sd_pg kd kc ig ol G l) k) 0) ∧ (¬ (sd_xt P q2 (nI k).toNatClampNeg) = (sd_xt P q2 (sd_dn (sd_pg kd kc ig ol G l) k).toNatClampNeg) → post (nI R, nI L, nI n, T, D, bk, p1, p2, p3, wd, kd, kc, jn, ax, ay, sX, ty, ig, ol, rO, dX, sa, ls, fX, tu, tx, iX, bX, tX, eX, sd_xt G q0, sd_xt C q1, sd_xt P q2, sd_xt H q3, sd_xt M q4, sd_xt J q5, sd_xt V q6, sd_xt A q7, sd_xt B q8, be, sd_xt U q9)))))) ∧ (¬ (sd_xt J q5 (nI k).toNatClampNeg) = (sd_xt J q5 (sd_dn (sd_pg kd kc ig ol G l) k).toNatClampNeg) → post (nI R, nI L, nI n, T, D, bk, p1, p2, p3, wd, kd, kc, jn, ax, ay, sX, ty, ig, ol, rO, dX, sa, ls, fX, tu, tx, iX, bX, tX, eX, sd_xt G q0, sd_xt C q1, sd_xt P q2, sd_xt H q3, sd_xt M q4, sd_xt J q5, sd_xt V q6, sd_xt A q7, sd_xt B q8, be, sd_xt U q9)))))) ∧ (¬ (kd (sd_xt G q0 (sd_dn (sd_pg kd kc ig ol G l) k).toNatClampNeg).toNatClampNeg) = 3 → post (nI R, nI L, nI n, T, D, bk, p1, p2, p3, wd, kd, kc, jn, ax, ay, sX, ty, ig, ol, rO, dX, sa, ls, fX, tu, tx, iX, bX, tX, eX, sd_xt G q0, sd_xt C q1, sd_xt P q2, sd_xt H q3, sd_xt M q4, sd_xt J q5, sd_xt V q6, sd_xt A q7, sd_xt B q8, be, sd_xt U q9)))))) ∧ (¬ (kd (sd_xt G q0 (nI k).toNatClampNeg).toNatClampNeg) = 3 → post (nI R, nI L, nI n, T, D, bk, p1, p2, p3, wd, kd, kc, jn, ax, ay, sX, ty, ig, ol, rO, dX, sa, ls, fX, tu, tx, iX, bX, tX, eX, sd_xt G q0, sd_xt C q1, sd_xt P q2, sd_xt H q3, sd_xt M q4, sd_xt J q5, sd_xt V q6, sd_xt A q7, sd_xt B q8, be, sd_xt U q9)))))))) → wpX_stack post (nI R, nI L, nI n, T, D, bk, p1, p2, p3, wd, kd, kc, jn, ax, ay, sX, ty, ig, ol, rO, dX, sa, ls, fX, tu, tx, iX, bX, tX, eX, sd_xt G q0, sd_xt C q1, sd_xt P q2, sd_xt H q3, sd_xt M q4, sd_xt J q5, sd_xt V q6, sd_xt A q7, sd_xt B q8, be, sd_xt U q9) (nI l) (nI k) := fun post kk => by
    unfold wpX_stack
    exact sd_xprior hL hl hn hG (by omega) kk
  rcases sd_dn_or (sd_pg kd kc ig ol G l) k with e | ⟨p, hpk, -, e⟩
  · refine ⟨V, A, B, H, U, D, hP, fun post kk => xx post ?_, fun post kk => ?_⟩
    · rw [e]; exact br_t sd_m1lt kk
    · refine sd_yhang0 hK hl hn hG hk (fun _ => kk) (fun _ _ => kk) (fun _ _ => ⟨fun z => absurd z n7, fun _ => ?_⟩)
      rw [e]; exact br_f sd_m1le kk
  · rw [e] at xx
    have np : ¬ nI p < 0 := nI_pos (by omega)
    have gp := hG p (by omega)
    have gpx : sd_xt G q0 (nI p).toNatClampNeg = G p := sd_nr (by omega)
    have vp : vp_in (nI p) 34 := vp_in_nI (by omega) (by decide)
    have wp : vp_in (nI p) 33 := vp_in_nI (by omega) (by decide)
    have vgp : vp_in (sd_xt G q0 (nI p).toNatClampNeg) 48 := by rw [gpx]; exact gp
    have gpy : G (nI p).toNatClampNeg = G p := sd_yr (by omega)
    have wgp : vp_in (G (nI p).toNatClampNeg) 48 := by rw [gpy]; exact gp
    have jkx : sd_xt J q5 (nI k).toNatClampNeg = J k := sd_nr (by omega)
    have jpx : sd_xt J q5 (nI p).toNatClampNeg = J p := sd_nr (by omega)
    have jky : J (nI k).toNatClampNeg = J k := sd_yr (by omega)
    have jpy : J (nI p).toNatClampNeg = J p := sd_yr (by omega)
    have pkx : sd_xt P q2 (nI k).toNatClampNeg = P k := sd_nr (by omega)
    have ppx : sd_xt P q2 (nI p).toNatClampNeg = P p := sd_nr (by omega)
    have pky : P (nI k).toNatClampNeg = P k := sd_yr (by omega)
    have ppy : P (nI p).toNatClampNeg = P p := sd_yr (by omega)
    rw [gkx, gpx, jkx, jpx, pkx, ppx] at xx
    have yy : ∀ post : SY → Prop, (∀ z : Int32, wY_hang_128 post (nI l) (nI k) (nI p) (nI (sd_rw kc G k)) 0 z (nI R) (nI L) (nI n) D T bk wd kd kc jn sY ax ay ty ig ol ls fY tu rO yA yB yC yD y1 y2 tx G C M J P V A B H U) → wY_hang_94 post (nI l) (nI k) (nI p) (nI (sd_rw kc G k)) 0 (nI R) (nI L) (nI n) D T bk wd kd kc jn sY ax ay ty ig ol ls fY tu rO yA yB yC yD y1 y2 tx G C M J P V A B H U := fun post z =>
      br_t (nI_pos' (by omega)) ⟨wp, wk, br_c (fun _ => ⟨wk, br_c (fun _ => z 0) (fun _ => z 1)⟩) (fun _ => z 0)⟩
    by_cases k3 : kd (G k).toNatClampNeg = 3
    · by_cases p3' : kd (G p).toNatClampNeg = 3
      · have p3y : kd (G (nI p).toNatClampNeg).toNatClampNeg = 3 := by rw [gpy]; exact p3'
        by_cases jj : J k = J p
        · by_cases qq : P k = P p
          · by_cases own : ax (sd_ai G k 2) = 99
            · refine ⟨V, A, B, H, U, D, hP, fun post kk => xx post (br_f np ⟨vk, gk, br_t k3 ⟨vp, gp, br_t p3' ⟨vk, vp, br_t jj ⟨vk, vp, br_t qq (sd_xhang (pc := 0) hK (by omega) (by omega) gk gp (by decide) (fun z => absurd own z) (fun _ => kk))⟩⟩⟩⟩), fun post kk => ?_⟩
              exact sd_yhang0 hK hl hn hG hk (fun _ => kk) (fun _ _ => kk) (fun _ z => absurd own z)
            · obtain ⟨V', A', B', H', U', D', g1, gX, gY⟩ := sd_hg (pc := 0) (T := T) (p1 := p1) (p2 := p2) (p3 := p3) (ol := ol) (ls := ls) (eX := eX) (iX := iX) (bX := bX) (tX := tX) (C := C) (P := P) (M := M) (J := J) (D := D) (wd := wd) (ax := ax) (ay := ay) (tu := tu) (H := H) (V := V) (A := A) (B := B) (be := be) (U := U) (q0 := q0) (q1 := q1) (q2 := q2) (q3 := q3) (q4 := q4) (q5 := q5) (q6 := q6) (q7 := q7) (q8 := q8) (q9 := q9) hK hn hG hk hpk (by decide) own hP
              refine ⟨V', A', B', H', U', D', g1, fun post kk => xx post (br_f np ⟨vk, gk, br_t k3 ⟨vp, gp, br_t p3' ⟨vk, vp, br_t jj ⟨vk, vp, br_t qq (gX _ kk)⟩⟩⟩⟩), fun post kk => ?_⟩
              refine sd_yhang0 hK hl hn hG hk (fun z => absurd k3 z) (fun _ z => absurd z own) (fun _ _ => ⟨fun z => absurd z n7, fun _ => ?_⟩)
              rw [e]
              refine yy post (fun z => ?_)
              have y226 : wY_hang_226 post (nI l) (nI k) (nI p) (nI (sd_rw kc G k)) 0 z (nI R) (nI L) (nI n) D T bk wd kd kc jn sY ax ay ty ig ol ls fY tu rO yA yB yC yD y1 y2 tx G C M J P V A B H U := And.intro vl (br_f n7' (gY post kk))
              have y187 : wY_hang_187 post (nI l) (nI k) (nI p) (nI (sd_rw kc G k)) 0 z (nI R) (nI L) (nI n) D T bk wd kd kc jn sY ax ay ty ig ol ls fY tu rO yA yB yC yD y1 y2 tx G C M J P V A B H U := And.intro vl (br_f n7' y226)
              exact And.intro vl (br_t t8 ⟨wp, wgp, br_t p3y ⟨wp, wk, br_t (by rw [jky, jpy]; exact jj.symm) ⟨wp, wk, br_t (by rw [pky, ppy]; exact qq.symm) y187⟩⟩⟩)
          · refine ⟨V, A, B, H, U, D, hP, fun post kk => xx post (br_f np ⟨vk, gk, br_t k3 ⟨vp, gp, br_t p3' ⟨vk, vp, br_t jj ⟨vk, vp, br_f qq kk⟩⟩⟩⟩), fun post kk => ?_⟩
            refine sd_yhang0 hK hl hn hG hk (fun _ => kk) (fun _ _ => kk) (fun _ _ => ⟨fun z => absurd z n7, fun _ => ?_⟩)
            rw [e]
            exact yy post (fun z => And.intro vl (br_t t8 ⟨wp, wgp, br_t p3y ⟨wp, wk, br_t (by rw [jky, jpy]; exact jj.symm) ⟨wp, wk, br_f (by rw [pky, ppy]; exact fun w => qq w.symm) kk⟩⟩⟩))
        · refine ⟨V, A, B, H, U, D, hP, fun post kk => xx post (br_f np ⟨vk, gk, br_t k3 ⟨vp, gp, br_t p3' ⟨vk, vp, br_f jj kk⟩⟩⟩), fun post kk => ?_⟩
          refine sd_yhang0 hK hl hn hG hk (fun _ => kk) (fun _ _ => kk) (fun _ _ => ⟨fun z => absurd z n7, fun _ => ?_⟩)
          rw [e]
          exact yy post (fun z => And.intro vl (br_t t8 ⟨wp, wgp, br_t p3y ⟨wp, wk, br_f (by rw [jky, jpy]; exact fun w => jj w.symm) kk⟩⟩))
      · refine ⟨V, A, B, H, U, D, hP, fun post kk => xx post (br_f np ⟨vk, gk, br_t k3 ⟨vp, gp, br_f p3' kk⟩⟩), fun post kk => ?_⟩
        refine sd_yhang0 hK hl hn hG hk (fun _ => kk) (fun _ _ => kk) (fun _ _ => ⟨fun z => absurd z n7, fun _ => ?_⟩)
        rw [e]
        exact yy post (fun z => And.intro vl (br_t t8 ⟨wp, wgp, br_f (by rw [gpy]; exact p3') kk⟩))
    · refine ⟨V, A, B, H, U, D, hP, fun post kk => xx post (br_f np ⟨vk, gk, br_f k3 kk⟩), fun post kk => ?_⟩
      exact sd_yhang0 hK hl hn hG hk (fun _ => kk) (fun z => absurd z k3) (fun z => absurd z k3)
theorem sd_pos {l : Nat} (hK : sd_K R L bk kd kc jn ty ig rO yA yB yC yD y1 y2 sa dX sY fX fY tx sX) (hL : sd_L R kd kc ig ol ty rO sa sY ls eX iX bX tX) (hl : l < 12) (h : sd_inv n G C P M J) (t5 : ¬ ty l < 5) : ∀ (d k : Nat) (V A B H U : Nat → Int32) (D : Int32), k + d = n → sd_pv n H U →
    ∃ (V' A' B' H' U' : Nat → Int32) (D' : Int32), sd_pv n H' U' ∧ (∀ (post : SX → Prop) (N : Nat), d < N → post (nI R, nI L, nI n, T, D', bk, p1, p2, p3, wd, kd, kc, jn, ax, ay, sX, ty, ig, ol, rO, dX, sa, ls, fX, tu, tx, iX, bX, tX, eX, sd_xt G q0, sd_xt C q1, sd_xt P q2, sd_xt H' q3, sd_xt M q4, sd_xt J q5, sd_xt V' q6, sd_xt A' q7, sd_xt B' q8, be, sd_xt U' q9) → wX_position_2 post (nI l) N (nI k) (nI R) (nI L) (nI n) T D bk p1 p2 p3 wd kd kc jn ax ay sX ty ig ol rO dX sa ls fX tu tx iX bX tX eX (sd_xt G q0) (sd_xt C q1) (sd_xt P q2) (sd_xt H q3) (sd_xt M q4) (sd_xt J q5) (sd_xt V q6) (sd_xt A q7) (sd_xt B q8) be (sd_xt U q9)) ∧ (∀ (post : SY → Prop) (N : Nat), d < N → post (nI R, nI L, nI n, D', T, bk, wd, kd, kc, jn, sY, ax, ay, ty, ig, ol, ls, fY, tu, rO, yA, yB, yC, yD, y1, y2, tx, G, C, M, J, P, V', A', B', H', U') → wY_position_2 post (nI l) N (nI k) (nI R) (nI L) (nI n) D T bk wd kd kc jn sY ax ay ty ig ol ls fY tu rO yA yB yC yD y1 y2 tx G C M J P V A B H U) := by
  have hn := h.1
  have hG := sd_inv_G h
  have cl : (nI l).toNatClampNeg = l := nI_clamp (by omega)
  have vl : vp_in (nI l) 12 := vp_in_nI hl (by decide)
  have et : ty (nI l).toNatClampNeg = ty l := by rw [cl]
  intro d
  induction d with
  | zero =>
    intro k V A B H U D hk hP
    have e : nI n ≤ nI k := nI_le (by omega) (by omega)
    refine ⟨V, A, B, H, U, D, hP, fun post N hN kk => ?_, fun post N hN kk => ?_⟩
    · obtain ⟨N, rfl⟩ : ∃ N', N = N' + 1 := ⟨N - 1, by omega⟩
      exact br_t e kk
    · obtain ⟨N, rfl⟩ : ∃ N', N = N' + 1 := ⟨N - 1, by omega⟩
      exact br_t e kk
  | succ d ih =>
    intro k V A B H U D hk hP
    have e : ¬ nI n ≤ nI k := nI_ge (by omega) (by omega)
    have gk := hG k (by omega)
    cases ho : sd_op kd kc ig ol G M ls l k
    · obtain ⟨V', A', B', H', U', D', g1, gX, gY⟩ := ih (k + 1) V A B H U D (by omega) hP
      refine ⟨V', A', B', H', U', D', g1, fun post N hN kk => ?_, fun post N hN kk => ?_⟩
      · obtain ⟨N, rfl⟩ : ∃ N', N = N' + 1 := ⟨N - 1, by omega⟩
        refine br_f e (sd_xopen hL hl (by omega) gk ?_)
        rw [ho]
        exact br_t rfl (nm_r (nI_1 k) (gX post N (by omega) kk))
      · obtain ⟨N, rfl⟩ : ∃ N', N = N' + 1 := ⟨N - 1, by omega⟩
        refine br_f e (sd_yopen hK hl (by omega) gk ?_)
        rw [ho]
        exact br_t rfl (br_t rfl (br_t rfl (nm_r (nI_1 k) (gY post N (by omega) kk))))
    · obtain ⟨j, hj, ej⟩ := vp_in_of (hK.lo l hl).1 (by decide)
      have j5 : 5 ≤ j := by
        rcases Nat.lt_or_ge j 5 with w | w
        · exact absurd (by rw [ej]; exact nI_lt (b := 5) w (by decide)) t5
        · exact w
      rcases (by omega : j = 5 ∨ j = 6 ∨ j = 7 ∨ j = 8) with w | w | w | w
      · have tt : ty l = 5 := by rw [ej, w]; rfl
        obtain ⟨V1, A1, B1, H1, U1, D1, a1, aX, aY⟩ := sd_pair (T := T) (p1 := p1) (p2 := p2) (p3 := p3) (C := C) (P := P) (M := M) (J := J) (D := D) (wd := wd) (ax := ax) (ay := ay) (tu := tu) (H := H) (V := V) (A := A) (B := B) (be := be) (U := U) (q0 := q0) (q1 := q1) (q2 := q2) (q3 := q3) (q4 := q4) (q5 := q5) (q6 := q6) (q7 := q7) (q8 := q8) (q9 := q9) hK hL hl hn hG (show k < n by omega) tt hP
        obtain ⟨V', A', B', H', U', D', g1, gX, gY⟩ := ih (k + 1) V1 A1 B1 H1 U1 D1 (by omega) a1
        refine ⟨V', A', B', H', U', D', g1, fun post N hN kk => ?_, fun post N hN kk => ?_⟩
        · obtain ⟨N, rfl⟩ : ∃ N', N = N' + 1 := ⟨N - 1, by omega⟩
          refine br_f e (sd_xopen hL hl (by omega) gk ?_)
          rw [ho]
          exact br_f sd_10 ⟨vl, nm_r (et.trans tt) (br_f (by decide) (br_f (by decide) (br_t rfl (aX _ (nm_r (nI_1 k) (gX post N (by omega) kk))))))⟩
        · obtain ⟨N, rfl⟩ : ∃ N', N = N' + 1 := ⟨N - 1, by omega⟩
          refine br_f e (sd_yopen hK hl (by omega) gk ?_)
          rw [ho]
          exact br_f sd_10 ⟨vl, br_t (et.trans tt) (aY _ (nm_r (nI_1 k) (gY post N (by omega) kk)))⟩
      · have tt : ty l = 6 := by rw [ej, w]; rfl
        obtain ⟨V1, A1, B1, H1, U1, D1, a1, aX, aY⟩ := sd_curve (T := T) (p1 := p1) (p2 := p2) (p3 := p3) (C := C) (P := P) (M := M) (J := J) (D := D) (wd := wd) (ax := ax) (ay := ay) (tu := tu) (H := H) (V := V) (A := A) (B := B) (be := be) (U := U) (q0 := q0) (q1 := q1) (q2 := q2) (q3 := q3) (q4 := q4) (q5 := q5) (q6 := q6) (q7 := q7) (q8 := q8) (q9 := q9) hK hL hl hn hG (show k < n by omega) hP
        obtain ⟨V', A', B', H', U', D', g1, gX, gY⟩ := ih (k + 1) V1 A1 B1 H1 U1 D1 (by omega) a1
        refine ⟨V', A', B', H', U', D', g1, fun post N hN kk => ?_, fun post N hN kk => ?_⟩
        · obtain ⟨N, rfl⟩ : ∃ N', N = N' + 1 := ⟨N - 1, by omega⟩
          refine br_f e (sd_xopen hL hl (by omega) gk ?_)
          rw [ho]
          exact br_f sd_10 ⟨vl, nm_r (et.trans tt) (br_f (by decide) (br_f (by decide) (br_f (by decide) (br_t rfl (aX _ (nm_r (nI_1 k) (gX post N (by omega) kk)))))))⟩
        · obtain ⟨N, rfl⟩ : ∃ N', N = N' + 1 := ⟨N - 1, by omega⟩
          refine br_f e (sd_yopen hK hl (by omega) gk ?_)
          rw [ho]
          exact br_f sd_10 ⟨vl, br_f (by rw [et, tt]; decide) (br_f sd_10 ⟨vl, br_t (et.trans tt) (aY _ (nm_r (nI_1 k) (gY post N (by omega) kk)))⟩)⟩
      · have tt : ty l = 7 := by rw [ej, w]; rfl
        obtain ⟨V1, A1, B1, H1, U1, D1, a1, aX, aY⟩ := sd_base (T := T) (p1 := p1) (p2 := p2) (p3 := p3) (D := D) (wd := wd) (ax := ax) (ay := ay) (tu := tu) (H := H) (V := V) (A := A) (B := B) (be := be) (U := U) (q0 := q0) (q1 := q1) (q2 := q2) (q3 := q3) (q4 := q4) (q5 := q5) (q6 := q6) (q7 := q7) (q8 := q8) (q9 := q9) hK hL hl h (show k < n by omega) tt hP
        obtain ⟨V', A', B', H', U', D', g1, gX, gY⟩ := ih (k + 1) V1 A1 B1 H1 U1 D1 (by omega) a1
        refine ⟨V', A', B', H', U', D', g1, fun post N hN kk => ?_, fun post N hN kk => ?_⟩
        · obtain ⟨N, rfl⟩ : ∃ N', N = N' + 1 := ⟨N - 1, by omega⟩
          refine br_f e (sd_xopen hL hl (by omega) gk ?_)
          rw [ho]
          exact br_f sd_10 ⟨vl, nm_r (et.trans tt) (br_f (by decide) (br_f (by decide) (br_f (by decide) (br_f (by decide) (br_t rfl (aX _ (nm_r (nI_1 k) (gX post N (by omega) kk))))))))⟩
        · obtain ⟨N, rfl⟩ : ∃ N', N = N' + 1 := ⟨N - 1, by omega⟩
          refine br_f e (sd_yopen hK hl (by omega) gk ?_)
          rw [ho]
          exact br_f sd_10 ⟨vl, br_f (by rw [et, tt]; decide) (br_f sd_10 ⟨vl, br_f (by rw [et, tt]; decide) (br_f sd_10 (aY _ (nm_r (nI_1 k) (gY post N (by omega) kk))))⟩)⟩
      · have tt : ty l = 8 := by rw [ej, w]; rfl
        obtain ⟨V1, A1, B1, H1, U1, D1, a1, aX, aY⟩ := sd_stack (T := T) (p1 := p1) (p2 := p2) (p3 := p3) (D := D) (wd := wd) (ax := ax) (ay := ay) (tu := tu) (H := H) (V := V) (A := A) (B := B) (be := be) (U := U) (q0 := q0) (q1 := q1) (q2 := q2) (q3 := q3) (q4 := q4) (q5 := q5) (q6 := q6) (q7 := q7) (q8 := q8) (q9 := q9) hK hL hl h (show k < n by omega) tt hP
        obtain ⟨V', A', B', H', U', D', g1, gX, gY⟩ := ih (k + 1) V1 A1 B1 H1 U1 D1 (by omega) a1
        refine ⟨V', A', B', H', U', D', g1, fun post N hN kk => ?_, fun post N hN kk => ?_⟩
        · obtain ⟨N, rfl⟩ : ∃ N', N = N' + 1 := ⟨N - 1, by omega⟩
          refine br_f e (sd_xopen hL hl (by omega) gk ?_)
          rw [ho]
          exact br_f sd_10 ⟨vl, nm_r (et.trans tt) (br_f (by decide) (br_t (by decide) (aX _ (nm_r (nI_1 k) (gX post N (by omega) kk)))))⟩
        · obtain ⟨N, rfl⟩ : ∃ N', N = N' + 1 := ⟨N - 1, by omega⟩
          refine br_f e (sd_yopen hK hl (by omega) gk ?_)
          rw [ho]
          exact br_f sd_10 ⟨vl, br_f (by rw [et, tt]; decide) (br_f sd_10 ⟨vl, br_f (by rw [et, tt]; decide) (br_f sd_10 (aY _ (nm_r (nI_1 k) (gY post N (by omega) kk))))⟩)⟩
end
end
section
/-! turning round -/
def sd_rv (n i : Nat) (g : Nat → Int32) : Nat → Int32 := fun j => if j < n ∧ (j < i ∨ n - 1 - j < i) then g (n - 1 - j) else g j
def sd_sp (k o : Nat) (g : Nat → Int32) : Nat → Int32 := upd (upd g k (g o)) o (g k)
def sd_hf (n : Nat) (h : Int32) : Int32 := if h < 0 then h else (nI n - 1) - h
theorem sd_rv_0 {n : Nat} {g : Nat → Int32} : sd_rv n 0 g = g := by funext j; unfold sd_rv; rw [if_neg (by omega)]
theorem sd_rv_s {n i : Nat} {g : Nat → Int32} (h : i < n / 2) : sd_sp i (n - 1 - i) (sd_rv n i g) = sd_rv n (i + 1) g := by
  have e1 : sd_rv n i g i = g i := if_neg (by omega)
  have e2 : sd_rv n i g (n - 1 - i) = g (n - 1 - i) := if_neg (by omega)
  unfold sd_sp
  rw [e1, e2]
  funext j
  unfold upd sd_rv
  by_cases a : j = n - 1 - i
  · rw [if_pos a, if_pos (by omega)]
    exact congrArg g (by omega)
  · rw [if_neg a]
    by_cases b : j = i
    · rw [if_pos b, if_pos (by omega), b]
    · rw [if_neg b]
      by_cases c : j < n ∧ (j < i ∨ n - 1 - j < i)
      · rw [if_pos c, if_pos (by omega)]
      · rw [if_neg c, if_neg (by omega)]
theorem sd_rv_all {n i : Nat} {g : Nat → Int32} {Q : Int32 → Prop} (h : ∀ j, j < n → Q (g j)) : ∀ j, j < n → Q (sd_rv n i g j) := by
  intro j hj
  unfold sd_rv
  split
  · exact h _ (by omega)
  · exact h j hj
theorem sd_sw {g : Nat → Int32} {q : Int32} {k o : Nat} (hk : k < 33) (ho : o < 33) :
    upd (upd (upd (sd_xt g q) 33 (sd_xt g q k)) k (upd (sd_xt g q) 33 (sd_xt g q k) o)) o (upd (upd (sd_xt g q) 33 (sd_xt g q k)) k (upd (sd_xt g q) 33 (sd_xt g q k) o) 33) = sd_xt (sd_sp k o g) (g k) := by
  rw [sd_xr hk, sd_x33, sd_xr ho, sd_xu hk, sd_x33r, sd_xu ho]
  rfl
theorem sd_sw1 {g : Nat → Int32} {q : Int32} {k o : Nat} (hk : k < 33) (ho : o < 33) : upd (sd_xt g q) 33 (sd_xt g q k) o = g o := by rw [sd_xr hk, sd_x33, sd_xr ho]
theorem sd_sw2 {g : Nat → Int32} {q : Int32} {k o : Nat} (hk : k < 33) (ho : o < 33) : upd (upd (sd_xt g q) 33 (sd_xt g q k)) k (upd (sd_xt g q) 33 (sd_xt g q k) o) 33 = g k := by rw [sd_xr hk, sd_x33, sd_xr ho, sd_xu hk, sd_x33r]
/-- what small types hold at a place -/
def sd_nar (G C P H M J U : Nat → Int32) (a : Nat) : Prop :=
  vp_nar .byte (G a) = G a ∧ vp_nar .byte (C a) = C a ∧ vp_nar .byte (P a) = P a ∧ vp_nar .byte (H a) = H a ∧ vp_nar .short (M a) = M a ∧ vp_nar .short (J a) = J a ∧ vp_nar .boolean (U a) = U a
section
variable {R L n : Nat} {T D bk p1 p2 p3 : Int32} {wd kd kc jn ax ay ty ig ol rO dX sa ls fX tu tx eX G C P H M J V A B be U sY fY yA yB yC yD y1 y2 : Nat → Int32} {sX iX bX tX : Nat → Int64} {q0 q1 q2 q3 q4 q5 q6 q7 q8 q9 : Int32}
theorem sd_xshift {post : SX → Prop} {a b : Nat} (ha : a < 34) (hb : b < 34) (h : sd_nar G C P H M J U a) (k : post (nI R, nI L, nI n, T, D, bk, p1, p2, p3, wd, kd, kc, jn, ax, ay, sX, ty, ig, ol, rO, dX, sa, ls, fX, tu, tx, iX, bX, tX, eX, upd G b (G a), upd C b (C a), upd P b (P a), upd H b (H a), upd M b (M a), upd J b (J a), upd V b (V a), upd A b (A a), upd B b (B a), be, upd U b (U a))) : wpX_shift post (nI R, nI L, nI n, T, D, bk, p1, p2, p3, wd, kd, kc, jn, ax, ay, sX, ty, ig, ol, rO, dX, sa, ls, fX, tu, tx, iX, bX, tX, eX, G, C, P, H, M, J, V, A, B, be, U) (nI a) (nI b) := by
  have va : vp_in (nI a) 34 := vp_in_nI ha (by decide)
  have vb : vp_in (nI b) 34 := vp_in_nI hb (by decide)
  obtain ⟨h1, h2, h3, h4, h5, h6, h7⟩ := h
  have e : ∀ (g : Nat → Int32) (v : Int32), v = g a → upd g (nI b).toNatClampNeg v = upd g b (g a) := fun g v hv => by rw [nI_clamp (by omega), hv]
  have r : ∀ g : Nat → Int32, g (nI a).toNatClampNeg = g a := fun g => by rw [nI_clamp (by omega)]
  unfold wpX_shift
  exact And.intro va ⟨vb, nm_r (e G _ (by rw [r G]; exact h1)) ⟨va, vb, nm_r (e C _ (by rw [r C]; exact h2)) ⟨va, vb, nm_r (e P _ (by rw [r P]; exact h3)) ⟨va, vb, nm_r (e M _ (by rw [r M]; exact h5)) ⟨va, vb, nm_r (e J _ (by rw [r J]; exact h6))
    ⟨va, vb, nm_r (e V _ (r V)) ⟨va, vb, nm_r (e A _ (r A)) ⟨va, vb, nm_r (e B _ (r B)) ⟨va, vb, nm_r (e H _ (by rw [r H]; exact h4)) ⟨va, vb, nm_r (e U _ (by rw [r U]; exact h7)) k⟩⟩⟩⟩⟩⟩⟩⟩⟩⟩
theorem sd_xturn1 {post : SX → Prop} {i : Nat} {F : SX → Prop} (hn : n ≤ 32) (hi : i < n / 2) (h1 : sd_nar G C P H M J U i) (h2 : sd_nar G C P H M J U (n - 1 - i)) (k : post (nI R, nI L, nI n, T, D, bk, p1, p2, p3, wd, kd, kc, jn, ax, ay, sX, ty, ig, ol, rO, dX, sa, ls, fX, tu, tx, iX, bX, tX, eX, sd_xt (sd_sp i (n - 1 - i) G) (G i), sd_xt (sd_sp i (n - 1 - i) C) (C i), sd_xt (sd_sp i (n - 1 - i) P) (P i), sd_xt (sd_sp i (n - 1 - i) H) (H i), sd_xt (sd_sp i (n - 1 - i) M) (M i), sd_xt (sd_sp i (n - 1 - i) J) (J i), sd_xt (sd_sp i (n - 1 - i) V) (V i), sd_xt (sd_sp i (n - 1 - i) A) (A i), sd_xt (sd_sp i (n - 1 - i) B) (B i), be, sd_xt (sd_sp i (n - 1 - i) U) (U i))) :
    wpX_shift (fun u => wpX_shift (fun u => wpX_shift post u (nI 33) (nI (n - 1 - i))) u (nI (n - 1 - i)) (nI i)) (nI R, nI L, nI n, T, D, bk, p1, p2, p3, wd, kd, kc, jn, ax, ay, sX, ty, ig, ol, rO, dX, sa, ls, fX, tu, tx, iX, bX, tX, eX, sd_xt G q0, sd_xt C q1, sd_xt P q2, sd_xt H q3, sd_xt M q4, sd_xt J q5, sd_xt V q6, sd_xt A q7, sd_xt B q8, be, sd_xt U q9) (nI i) (nI 33) := by
  have hi3 : i < 33 := by omega
  have ho3 : n - 1 - i < 33 := by omega
  refine sd_xshift (by omega) (by omega) ?_ (sd_xshift (by omega) (by omega) ?_ (sd_xshift (by omega) (by omega) ?_ ?_))
  · unfold sd_nar
    simp only [sd_xr hi3]
    exact h1
  · unfold sd_nar
    simp only [sd_sw1 hi3 ho3]
    exact h2
  · unfold sd_nar
    simp only [sd_sw2 hi3 ho3]
    exact h1
  · simp only [sd_sw hi3 ho3]
    exact k
theorem sd_x47 {post : SX → Prop} (hn : n ≤ 32) (h : ∀ j, j < n → sd_nar G C P H M J U j) :
    ∀ (d i N : Nat) (q0 q1 q2 q3 q4 q5 q6 q7 q8 q9 : Int32), i + d = n / 2 → d < N → (∀ q0' q1' q2' q3' q4' q5' q6' q7' q8' q9' : Int32, post (nI R, nI L, nI n, T, D, bk, p1, p2, p3, wd, kd, kc, jn, ax, ay, sX, ty, ig, ol, rO, dX, sa, ls, fX, tu, tx, iX, bX, tX, eX, sd_xt (sd_rv n (n / 2) G) q0', sd_xt (sd_rv n (n / 2) C) q1', sd_xt (sd_rv n (n / 2) P) q2', sd_xt (sd_rv n (n / 2) H) q3', sd_xt (sd_rv n (n / 2) M) q4', sd_xt (sd_rv n (n / 2) J) q5', sd_xt (sd_rv n (n / 2) V) q6', sd_xt (sd_rv n (n / 2) A) q7', sd_xt (sd_rv n (n / 2) B) q8', be, sd_xt (sd_rv n (n / 2) U) q9')) → wX_reflect_47 post N (nI i) (nI R) (nI L) (nI n) T D bk p1 p2 p3 wd kd kc jn ax ay sX ty ig ol rO dX sa ls fX tu tx iX bX tX eX (sd_xt (sd_rv n i G) q0) (sd_xt (sd_rv n i C) q1) (sd_xt (sd_rv n i P) q2) (sd_xt (sd_rv n i H) q3) (sd_xt (sd_rv n i M) q4) (sd_xt (sd_rv n i J) q5) (sd_xt (sd_rv n i V) q6) (sd_xt (sd_rv n i A) q7) (sd_xt (sd_rv n i B) q8) be (sd_xt (sd_rv n i U) q9) := by
  intro d
  induction d with
  | zero =>
    intro i N q0 q1 q2 q3 q4 q5 q6 q7 q8 q9 hi hN kk
    obtain ⟨N, rfl⟩ : ∃ N', N = N' + 1 := ⟨N - 1, by omega⟩
    have z := kk q0 q1 q2 q3 q4 q5 q6 q7 q8 q9
    obtain rfl : i = n / 2 := by omega
    refine br_t ?_ z
    rw [Int32.le_iff_toInt_le, show (nI n - 1).toInt = (n : Int) - (1 : Nat) from pk_sub_toInt (a := n) (b := 1) (by omega) (by omega), show (2 : Int32) * nI (n / 2) = nI (2 * (n / 2)) from pk_mul 2 (n / 2), nI_toInt (by omega)]
    omega
  | succ d ih =>
    intro i N q0 q1 q2 q3 q4 q5 q6 q7 q8 q9 hi hN kk
    obtain ⟨N, rfl⟩ : ∃ N', N = N' + 1 := ⟨N - 1, by omega⟩
    have nle : ¬ (nI n - 1) ≤ (2 * nI i) := by
      rw [Int32.le_iff_toInt_le, show (nI n - 1).toInt = (n : Int) - (1 : Nat) from pk_sub_toInt (a := n) (b := 1) (by omega) (by omega), show (2 : Int32) * nI i = nI (2 * i) from pk_mul 2 i, nI_toInt (by omega)]
      omega
    have eo : (nI n - 1) - nI i = nI (n - 1 - i) := by rw [show nI n - 1 = nI (n - 1) from pk_sub (a := n) (b := 1) (by omega), pk_sub (by omega)]
    have hr : ∀ j, j < n → sd_nar (sd_rv n i G) (sd_rv n i C) (sd_rv n i P) (sd_rv n i H) (sd_rv n i M) (sd_rv n i J) (sd_rv n i U) j := fun j hj => by
      unfold sd_nar sd_rv
      split
      · exact h (n - 1 - j) (by omega)
      · exact h j hj
    refine br_f nle (nm_r eo ?_)
    refine sd_xturn1 (post := fun u => match u with | (f_rules, f_length, f_many, f_ties, f_done, f_isBack, f_first, f_second, f_third, a_width, a_kind, a_cls, a_join, a_anchorX, a_anchorY, a_sets, a_type, a_ignore, a_only, a_ruleOf, a_does, a_says, a_listed, a_from, a_to, a_text, a_ignored, a_begins, a_takes, a_features, a_glyph, a_cluster, a_part, a_on, a_mask, a_tie, a_advance, a_x, a_y, a_before, a_upright) => (∀ x1_130 : Int32, x1_130 = nI i + 1 → wX_reflect_47 post N x1_130 f_rules f_length f_many f_ties f_done f_isBack f_first f_second f_third a_width a_kind a_cls a_join a_anchorX a_anchorY a_sets a_type a_ignore a_only a_ruleOf a_does a_says a_listed a_from a_to a_text a_ignored a_begins a_takes a_features a_glyph a_cluster a_part a_on a_mask a_tie a_advance a_x a_y a_before a_upright)) (F := fun _ => True) hn (by omega) (hr i (by omega)) (hr (n - 1 - i) (by omega)) ?_
    have z := ih (i + 1) N (sd_rv n i G i) (sd_rv n i C i) (sd_rv n i P i) (sd_rv n i H i) (sd_rv n i M i) (sd_rv n i J i) (sd_rv n i V i) (sd_rv n i A i) (sd_rv n i B i) (sd_rv n i U i) (by omega) (by omega) kk
    simp only [← sd_rv_s (show i < n / 2 by omega)] at z
    exact nm_r (nI_1 i) z
theorem sd_yswG {post : SY → Prop} {i : Nat} (hn : n ≤ 32) (hi : i < n / 2) (k : post (nI R, nI L, nI n, D, T, bk, wd, kd, kc, jn, sY, ax, ay, ty, ig, ol, ls, fY, tu, rO, yA, yB, yC, yD, y1, y2, tx, sd_sp i (n - 1 - i) G, C, M, J, P, V, A, B, H, U)) : wpY_swap__glyph post (nI R, nI L, nI n, D, T, bk, wd, kd, kc, jn, sY, ax, ay, ty, ig, ol, ls, fY, tu, rO, yA, yB, yC, yD, y1, y2, tx, G, C, M, J, P, V, A, B, H, U) (nI i) := by
  have vi : vp_in (nI i) 33 := vp_in_nI (by omega) (by decide)
  have eo : (nI n - 1) - nI i = nI (n - 1 - i) := by rw [show nI n - 1 = nI (n - 1) from pk_sub (a := n) (b := 1) (by omega), pk_sub (by omega)]
  have vo : vp_in ((nI n - 1) - nI i) 33 := by rw [eo]; exact vp_in_nI (by omega) (by decide)
  have co : ((nI n - 1) - nI i).toNatClampNeg = n - 1 - i := by rw [eo]; exact nI_clamp (by omega)
  exact And.intro vi (nm_r (e' := G i) (sd_yr (by omega)) ⟨vo, vi, nm_r (e' := upd G i (G (n - 1 - i))) (sd_yw (by omega) (by rw [co])) ⟨vo, nm_r (e' := sd_sp i (n - 1 - i) G) (by rw [co]; rfl) k⟩⟩)
theorem sd_yswC {post : SY → Prop} {i : Nat} (hn : n ≤ 32) (hi : i < n / 2) (k : post (nI R, nI L, nI n, D, T, bk, wd, kd, kc, jn, sY, ax, ay, ty, ig, ol, ls, fY, tu, rO, yA, yB, yC, yD, y1, y2, tx, G, sd_sp i (n - 1 - i) C, M, J, P, V, A, B, H, U)) : wpY_swap__cluster post (nI R, nI L, nI n, D, T, bk, wd, kd, kc, jn, sY, ax, ay, ty, ig, ol, ls, fY, tu, rO, yA, yB, yC, yD, y1, y2, tx, G, C, M, J, P, V, A, B, H, U) (nI i) := by
  have vi : vp_in (nI i) 33 := vp_in_nI (by omega) (by decide)
  have eo : (nI n - 1) - nI i = nI (n - 1 - i) := by rw [show nI n - 1 = nI (n - 1) from pk_sub (a := n) (b := 1) (by omega), pk_sub (by omega)]
  have vo : vp_in ((nI n - 1) - nI i) 33 := by rw [eo]; exact vp_in_nI (by omega) (by decide)
  have co : ((nI n - 1) - nI i).toNatClampNeg = n - 1 - i := by rw [eo]; exact nI_clamp (by omega)
  exact And.intro vi (nm_r (e' := C i) (sd_yr (by omega)) ⟨vo, vi, nm_r (e' := upd C i (C (n - 1 - i))) (sd_yw (by omega) (by rw [co])) ⟨vo, nm_r (e' := sd_sp i (n - 1 - i) C) (by rw [co]; rfl) k⟩⟩)
theorem sd_yswM {post : SY → Prop} {i : Nat} (hn : n ≤ 32) (hi : i < n / 2) (k : post (nI R, nI L, nI n, D, T, bk, wd, kd, kc, jn, sY, ax, ay, ty, ig, ol, ls, fY, tu, rO, yA, yB, yC, yD, y1, y2, tx, G, C, sd_sp i (n - 1 - i) M, J, P, V, A, B, H, U)) : wpY_swap__features post (nI R, nI L, nI n, D, T, bk, wd, kd, kc, jn, sY, ax, ay, ty, ig, ol, ls, fY, tu, rO, yA, yB, yC, yD, y1, y2, tx, G, C, M, J, P, V, A, B, H, U) (nI i) := by
  have vi : vp_in (nI i) 33 := vp_in_nI (by omega) (by decide)
  have eo : (nI n - 1) - nI i = nI (n - 1 - i) := by rw [show nI n - 1 = nI (n - 1) from pk_sub (a := n) (b := 1) (by omega), pk_sub (by omega)]
  have vo : vp_in ((nI n - 1) - nI i) 33 := by rw [eo]; exact vp_in_nI (by omega) (by decide)
  have co : ((nI n - 1) - nI i).toNatClampNeg = n - 1 - i := by rw [eo]; exact nI_clamp (by omega)
  exact And.intro vi (nm_r (e' := M i) (sd_yr (by omega)) ⟨vo, vi, nm_r (e' := upd M i (M (n - 1 - i))) (sd_yw (by omega) (by rw [co])) ⟨vo, nm_r (e' := sd_sp i (n - 1 - i) M) (by rw [co]; rfl) k⟩⟩)
theorem sd_yswJ {post : SY → Prop} {i : Nat} (hn : n ≤ 32) (hi : i < n / 2) (k : post (nI R, nI L, nI n, D, T, bk, wd, kd, kc, jn, sY, ax, ay, ty, ig, ol, ls, fY, tu, rO, yA, yB, yC, yD, y1, y2, tx, G, C, M, sd_sp i (n - 1 - i) J, P, V, A, B, H, U)) : wpY_swap__tie post (nI R, nI L, nI n, D, T, bk, wd, kd, kc, jn, sY, ax, ay, ty, ig, ol, ls, fY, tu, rO, yA, yB, yC, yD, y1, y2, tx, G, C, M, J, P, V, A, B, H, U) (nI i) := by
  have vi : vp_in (nI i) 33 := vp_in_nI (by omega) (by decide)
  have eo : (nI n - 1) - nI i = nI (n - 1 - i) := by rw [show nI n - 1 = nI (n - 1) from pk_sub (a := n) (b := 1) (by omega), pk_sub (by omega)]
  have vo : vp_in ((nI n - 1) - nI i) 33 := by rw [eo]; exact vp_in_nI (by omega) (by decide)
  have co : ((nI n - 1) - nI i).toNatClampNeg = n - 1 - i := by rw [eo]; exact nI_clamp (by omega)
  exact And.intro vi (nm_r (e' := J i) (sd_yr (by omega)) ⟨vo, vi, nm_r (e' := upd J i (J (n - 1 - i))) (sd_yw (by omega) (by rw [co])) ⟨vo, nm_r (e' := sd_sp i (n - 1 - i) J) (by rw [co]; rfl) k⟩⟩)
theorem sd_yswP {post : SY → Prop} {i : Nat} (hn : n ≤ 32) (hi : i < n / 2) (k : post (nI R, nI L, nI n, D, T, bk, wd, kd, kc, jn, sY, ax, ay, ty, ig, ol, ls, fY, tu, rO, yA, yB, yC, yD, y1, y2, tx, G, C, M, J, sd_sp i (n - 1 - i) P, V, A, B, H, U)) : wpY_swap__part post (nI R, nI L, nI n, D, T, bk, wd, kd, kc, jn, sY, ax, ay, ty, ig, ol, ls, fY, tu, rO, yA, yB, yC, yD, y1, y2, tx, G, C, M, J, P, V, A, B, H, U) (nI i) := by
  have vi : vp_in (nI i) 33 := vp_in_nI (by omega) (by decide)
  have eo : (nI n - 1) - nI i = nI (n - 1 - i) := by rw [show nI n - 1 = nI (n - 1) from pk_sub (a := n) (b := 1) (by omega), pk_sub (by omega)]
  have vo : vp_in ((nI n - 1) - nI i) 33 := by rw [eo]; exact vp_in_nI (by omega) (by decide)
  have co : ((nI n - 1) - nI i).toNatClampNeg = n - 1 - i := by rw [eo]; exact nI_clamp (by omega)
  exact And.intro vi (nm_r (e' := P i) (sd_yr (by omega)) ⟨vo, vi, nm_r (e' := upd P i (P (n - 1 - i))) (sd_yw (by omega) (by rw [co])) ⟨vo, nm_r (e' := sd_sp i (n - 1 - i) P) (by rw [co]; rfl) k⟩⟩)
theorem sd_yswV {post : SY → Prop} {i : Nat} (hn : n ≤ 32) (hi : i < n / 2) (k : post (nI R, nI L, nI n, D, T, bk, wd, kd, kc, jn, sY, ax, ay, ty, ig, ol, ls, fY, tu, rO, yA, yB, yC, yD, y1, y2, tx, G, C, M, J, P, sd_sp i (n - 1 - i) V, A, B, H, U)) : wpY_swap__advance post (nI R, nI L, nI n, D, T, bk, wd, kd, kc, jn, sY, ax, ay, ty, ig, ol, ls, fY, tu, rO, yA, yB, yC, yD, y1, y2, tx, G, C, M, J, P, V, A, B, H, U) (nI i) := by
  have vi : vp_in (nI i) 33 := vp_in_nI (by omega) (by decide)
  have eo : (nI n - 1) - nI i = nI (n - 1 - i) := by rw [show nI n - 1 = nI (n - 1) from pk_sub (a := n) (b := 1) (by omega), pk_sub (by omega)]
  have vo : vp_in ((nI n - 1) - nI i) 33 := by rw [eo]; exact vp_in_nI (by omega) (by decide)
  have co : ((nI n - 1) - nI i).toNatClampNeg = n - 1 - i := by rw [eo]; exact nI_clamp (by omega)
  exact And.intro vi (nm_r (e' := V i) (sd_yr (by omega)) ⟨vo, vi, nm_r (e' := upd V i (V (n - 1 - i))) (sd_yw (by omega) (by rw [co])) ⟨vo, nm_r (e' := sd_sp i (n - 1 - i) V) (by rw [co]; rfl) k⟩⟩)
theorem sd_yswA {post : SY → Prop} {i : Nat} (hn : n ≤ 32) (hi : i < n / 2) (k : post (nI R, nI L, nI n, D, T, bk, wd, kd, kc, jn, sY, ax, ay, ty, ig, ol, ls, fY, tu, rO, yA, yB, yC, yD, y1, y2, tx, G, C, M, J, P, V, sd_sp i (n - 1 - i) A, B, H, U)) : wpY_swap__x post (nI R, nI L, nI n, D, T, bk, wd, kd, kc, jn, sY, ax, ay, ty, ig, ol, ls, fY, tu, rO, yA, yB, yC, yD, y1, y2, tx, G, C, M, J, P, V, A, B, H, U) (nI i) := by
  have vi : vp_in (nI i) 33 := vp_in_nI (by omega) (by decide)
  have eo : (nI n - 1) - nI i = nI (n - 1 - i) := by rw [show nI n - 1 = nI (n - 1) from pk_sub (a := n) (b := 1) (by omega), pk_sub (by omega)]
  have vo : vp_in ((nI n - 1) - nI i) 33 := by rw [eo]; exact vp_in_nI (by omega) (by decide)
  have co : ((nI n - 1) - nI i).toNatClampNeg = n - 1 - i := by rw [eo]; exact nI_clamp (by omega)
  exact And.intro vi (nm_r (e' := A i) (sd_yr (by omega)) ⟨vo, vi, nm_r (e' := upd A i (A (n - 1 - i))) (sd_yw (by omega) (by rw [co])) ⟨vo, nm_r (e' := sd_sp i (n - 1 - i) A) (by rw [co]; rfl) k⟩⟩)
theorem sd_yswB {post : SY → Prop} {i : Nat} (hn : n ≤ 32) (hi : i < n / 2) (k : post (nI R, nI L, nI n, D, T, bk, wd, kd, kc, jn, sY, ax, ay, ty, ig, ol, ls, fY, tu, rO, yA, yB, yC, yD, y1, y2, tx, G, C, M, J, P, V, A, sd_sp i (n - 1 - i) B, H, U)) : wpY_swap__y post (nI R, nI L, nI n, D, T, bk, wd, kd, kc, jn, sY, ax, ay, ty, ig, ol, ls, fY, tu, rO, yA, yB, yC, yD, y1, y2, tx, G, C, M, J, P, V, A, B, H, U) (nI i) := by
  have vi : vp_in (nI i) 33 := vp_in_nI (by omega) (by decide)
  have eo : (nI n - 1) - nI i = nI (n - 1 - i) := by rw [show nI n - 1 = nI (n - 1) from pk_sub (a := n) (b := 1) (by omega), pk_sub (by omega)]
  have vo : vp_in ((nI n - 1) - nI i) 33 := by rw [eo]; exact vp_in_nI (by omega) (by decide)
  have co : ((nI n - 1) - nI i).toNatClampNeg = n - 1 - i := by rw [eo]; exact nI_clamp (by omega)
  exact And.intro vi (nm_r (e' := B i) (sd_yr (by omega)) ⟨vo, vi, nm_r (e' := upd B i (B (n - 1 - i))) (sd_yw (by omega) (by rw [co])) ⟨vo, nm_r (e' := sd_sp i (n - 1 - i) B) (by rw [co]; rfl) k⟩⟩)
theorem sd_yswH {post : SY → Prop} {i : Nat} (hn : n ≤ 32) (hi : i < n / 2) (k : post (nI R, nI L, nI n, D, T, bk, wd, kd, kc, jn, sY, ax, ay, ty, ig, ol, ls, fY, tu, rO, yA, yB, yC, yD, y1, y2, tx, G, C, M, J, P, V, A, B, sd_sp i (n - 1 - i) H, U)) : wpY_swap__hangs post (nI R, nI L, nI n, D, T, bk, wd, kd, kc, jn, sY, ax, ay, ty, ig, ol, ls, fY, tu, rO, yA, yB, yC, yD, y1, y2, tx, G, C, M, J, P, V, A, B, H, U) (nI i) := by
  have vi : vp_in (nI i) 33 := vp_in_nI (by omega) (by decide)
  have eo : (nI n - 1) - nI i = nI (n - 1 - i) := by rw [show nI n - 1 = nI (n - 1) from pk_sub (a := n) (b := 1) (by omega), pk_sub (by omega)]
  have vo : vp_in ((nI n - 1) - nI i) 33 := by rw [eo]; exact vp_in_nI (by omega) (by decide)
  have co : ((nI n - 1) - nI i).toNatClampNeg = n - 1 - i := by rw [eo]; exact nI_clamp (by omega)
  exact And.intro vi (nm_r (e' := H i) (sd_yr (by omega)) ⟨vo, vi, nm_r (e' := upd H i (H (n - 1 - i))) (sd_yw (by omega) (by rw [co])) ⟨vo, nm_r (e' := sd_sp i (n - 1 - i) H) (by rw [co]; rfl) k⟩⟩)
theorem sd_y46 {post : SY → Prop} (hn : n ≤ 32) (hU : ∀ j, j < n → U j = 0 ∨ U j = 1) :
    ∀ (d i N : Nat), i + d = n / 2 → d < N → post (nI R, nI L, nI n, D, T, bk, wd, kd, kc, jn, sY, ax, ay, ty, ig, ol, ls, fY, tu, rO, yA, yB, yC, yD, y1, y2, tx, sd_rv n (n / 2) G, sd_rv n (n / 2) C, sd_rv n (n / 2) M, sd_rv n (n / 2) J, sd_rv n (n / 2) P, sd_rv n (n / 2) V, sd_rv n (n / 2) A, sd_rv n (n / 2) B, sd_rv n (n / 2) H, sd_rv n (n / 2) U) → wY_turnRound_46 post N (nI i) (nI R) (nI L) (nI n) D T bk wd kd kc jn sY ax ay ty ig ol ls fY tu rO yA yB yC yD y1 y2 tx (sd_rv n i G) (sd_rv n i C) (sd_rv n i M) (sd_rv n i J) (sd_rv n i P) (sd_rv n i V) (sd_rv n i A) (sd_rv n i B) (sd_rv n i H) (sd_rv n i U) := by
  have e2 : nI n / 2 = nI (n / 2) := pk_div (a := n) (d := 2) (by omega) (by decide) (by decide)
  intro d
  induction d with
  | zero =>
    intro i N hi hN kk
    obtain ⟨N, rfl⟩ : ∃ N', N = N' + 1 := ⟨N - 1, by omega⟩
    obtain rfl : i = n / 2 := by omega
    exact And.intro (by decide) (br_t (by rw [e2]; exact nI_le (Nat.le_refl _) (by omega)) kk)
  | succ d ih =>
    intro i N hi hN kk
    obtain ⟨N, rfl⟩ : ∃ N', N = N' + 1 := ⟨N - 1, by omega⟩
    have hi2 : i < n / 2 := by omega
    have vi : vp_in (nI i) 33 := vp_in_nI (by omega) (by decide)
    have eo : (nI n - 1) - nI i = nI (n - 1 - i) := by rw [show nI n - 1 = nI (n - 1) from pk_sub (a := n) (b := 1) (by omega), pk_sub (by omega)]
    have vo : vp_in ((nI n - 1) - nI i) 33 := by rw [eo]; exact vp_in_nI (by omega) (by decide)
    have co : ((nI n - 1) - nI i).toNatClampNeg = n - 1 - i := by rw [eo]; exact nI_clamp (by omega)
    have ci : (nI i).toNatClampNeg = i := nI_clamp (by omega)
    have hr := sd_rv_all (i := i) (Q := fun z => z = 0 ∨ z = 1) hU
    have u1 : upd (sd_rv n i U) (nI i).toNatClampNeg (vp_nar .boolean (sd_rv n i U ((nI n - 1) - nI i).toNatClampNeg)) = upd (sd_rv n i U) i (sd_rv n i U (n - 1 - i)) := by
      rw [ci, co, sd_nz (hr (n - 1 - i) (by omega))]
    have u2 : upd (upd (sd_rv n i U) i (sd_rv n i U (n - 1 - i))) ((nI n - 1) - nI i).toNatClampNeg (vp_nar .boolean (sd_rv n i U i)) = sd_sp i (n - 1 - i) (sd_rv n i U) := by
      rw [co, sd_nz (hr i (by omega))]; rfl
    have z := ih (i + 1) N (by omega) (by omega) kk
    simp only [← sd_rv_s hi2] at z
    exact And.intro (by decide) (br_f (by rw [e2]; exact nI_ge (by omega) (by omega)) (sd_yswG hn hi2 (sd_yswC hn hi2 (sd_yswM hn hi2 (sd_yswJ hn hi2 (sd_yswP hn hi2 (sd_yswV hn hi2 (sd_yswA hn hi2 (sd_yswB hn hi2 (sd_yswH hn hi2
      ⟨vi, nm_r (e' := sd_rv n i U i) (by rw [ci]) ⟨vo, vi, nm_r u1 ⟨vo, nm_r u2 (nm_r (nI_1 i) z)⟩⟩⟩))))))))))
theorem sd_x2 {post : SX → Prop} {H0 : Nat → Int32} (hn : n ≤ 32) (hP : ∀ k, k < n → H0 k = -1 ∨ ∃ p, p < k ∧ H0 k = nI p) :
    ∀ (d i N : Nat) (H : Nat → Int32), i + d = n → d < N → (∀ j, i ≤ j → H j = H0 j) → (∃ n47, wX_reflect_47 post n47 0 (nI R) (nI L) (nI n) T D bk p1 p2 p3 wd kd kc jn ax ay sX ty ig ol rO dX sa ls fX tu tx iX bX tX eX (sd_xt G q0) (sd_xt C q1) (sd_xt P q2) (sd_xt (sd_ff i n (fun j => sd_hf n (H0 j)) H) q3) (sd_xt M q4) (sd_xt J q5) (sd_xt V q6) (sd_xt A q7) (sd_xt B q8) be (sd_xt U q9)) → wX_reflect_2 post (nI R) (nI L) (nI n) T D bk p1 p2 p3 N (nI i) wd kd kc jn ax ay sX ty ig ol rO dX sa ls fX tu tx iX bX tX eX (sd_xt G q0) (sd_xt C q1) (sd_xt P q2) (sd_xt H q3) (sd_xt M q4) (sd_xt J q5) (sd_xt V q6) (sd_xt A q7) (sd_xt B q8) be (sd_xt U q9) := by
  intro d
  induction d with
  | zero =>
    intro i N H hi hN hH kk
    obtain ⟨N, rfl⟩ : ∃ N', N = N' + 1 := ⟨N - 1, by omega⟩
    obtain rfl : i = n := by omega
    rw [sd_ff_0] at kk
    exact br_t (nI_le (by omega) (by omega)) kk
  | succ d ih =>
    intro i N H hi hN hH kk
    obtain ⟨N, rfl⟩ : ∃ N', N = N' + 1 := ⟨N - 1, by omega⟩
    have vi : vp_in (nI i) 34 := vp_in_nI (by omega) (by decide)
    have hx : sd_xt H q3 (nI i).toNatClampNeg = H0 i := by rw [sd_nr (by omega)]; exact hH i (Nat.le_refl i)
    rw [← sd_ff_s (i := i) (hi := n) (f := fun j => sd_hf n (H0 j)) (a := H) (by omega) rfl] at kk
    refine br_f (nI_ge (by omega) (by omega)) ⟨vi, ?_⟩
    rcases hP i (by omega) with e | ⟨p, hp, e⟩
    · have ef : sd_hf n (H0 i) = H i := by rw [e, hH i (Nat.le_refl i), e]; exact if_pos sd_m1lt
      rw [ef, sd_u_id] at kk
      exact br_t (by rw [hx, e]; exact sd_m1lt) (nm_r (nI_1 i) (ih (i + 1) N H (by omega) (by omega) (fun j hj => hH j (by omega)) kk))
    · have ef : sd_hf n (H0 i) = nI (n - 1 - p) := by
        rw [e]
        refine (if_neg (nI_pos (by omega))).trans ?_
        rw [show nI n - 1 = nI (n - 1) from pk_sub (a := n) (b := 1) (by omega), pk_sub (by omega)]
      have ew : upd (sd_xt H q3) (nI i).toNatClampNeg (vp_nar .byte (((nI n - 1) - (sd_xt H q3 (nI i).toNatClampNeg)).toInt8.toInt32)) = sd_xt (upd H i (sd_hf n (H0 i))) q3 := by
        refine sd_nw (by omega) ?_
        rw [hx, e, show nI n - 1 = nI (n - 1) from pk_sub (a := n) (b := 1) (by omega), pk_sub (by omega), ← e, ef]
        exact sd_bb (vp_in_nI (N := 33) (by omega) (by decide)) (by decide)
      exact br_f (by rw [hx, e]; exact nI_pos (by omega)) ⟨vi, vi, nm_r ew (nm_r (nI_1 i) (ih (i + 1) N _ (by omega) (by omega) (fun j hj => by rw [pk_un (by omega)]; exact hH j (by omega)) kk))⟩
theorem sd_y2 {post : SY → Prop} {H0 : Nat → Int32} (hn : n ≤ 32) (hP : ∀ k, k < n → H0 k = -1 ∨ ∃ p, p < k ∧ H0 k = nI p) :
    ∀ (d i N : Nat) (H : Nat → Int32), i + d = n → d < N → (∀ j, i ≤ j → H j = H0 j) → (∃ n46, wY_turnRound_46 post n46 0 (nI R) (nI L) (nI n) D T bk wd kd kc jn sY ax ay ty ig ol ls fY tu rO yA yB yC yD y1 y2 tx G C M J P V A B (sd_ff i n (fun j => sd_hf n (H0 j)) H) U) → wY_turnRound_2 post (nI R) (nI L) (nI n) D T bk N (nI i) wd kd kc jn sY ax ay ty ig ol ls fY tu rO yA yB yC yD y1 y2 tx G C M J P V A B H U := by
  intro d
  induction d with
  | zero =>
    intro i N H hi hN hH kk
    obtain ⟨N, rfl⟩ : ∃ N', N = N' + 1 := ⟨N - 1, by omega⟩
    obtain rfl : i = n := by omega
    rw [sd_ff_0] at kk
    exact br_t (nI_le (by omega) (by omega)) kk
  | succ d ih =>
    intro i N H hi hN hH kk
    obtain ⟨N, rfl⟩ : ∃ N', N = N' + 1 := ⟨N - 1, by omega⟩
    have vi : vp_in (nI i) 33 := vp_in_nI (by omega) (by decide)
    have hx : H (nI i).toNatClampNeg = H0 i := by rw [nI_clamp (by omega)]; exact hH i (Nat.le_refl i)
    rw [← sd_ff_s (i := i) (hi := n) (f := fun j => sd_hf n (H0 j)) (a := H) (by omega) rfl] at kk
    refine br_f (nI_ge (by omega) (by omega)) ⟨vi, ?_⟩
    by_cases q : H0 i < 0
    · have ef : sd_hf n (H0 i) = H i := by rw [hH i (Nat.le_refl i)]; exact if_pos q
      rw [ef, sd_u_id] at kk
      exact br_t (by rw [hx]; exact q) (nm_r (nI_1 i) (ih (i + 1) N H (by omega) (by omega) (fun j hj => hH j (by omega)) kk))
    · have ef : sd_hf n (H0 i) = (nI n - 1) - H0 i := if_neg q
      exact br_f (by rw [hx]; exact q) ⟨vi, vi, nm_r (sd_yw (v' := sd_hf n (H0 i)) (by omega) (by rw [hx, ef])) (nm_r (nI_1 i) (ih (i + 1) N _ (by omega) (by omega) (fun j hj => by rw [pk_un (by omega)]; exact hH j (by omega)) kk))⟩
theorem sd_xreflect {post : SX → Prop} (h : sd_inv n G C P M J) (hP : sd_pv n H U) (kk : ∀ q0' q1' q2' q3' q4' q5' q6' q7' q8' q9' : Int32, post (nI R, nI L, nI n, T, D, bk, p1, p2, p3, wd, kd, kc, jn, ax, ay, sX, ty, ig, ol, rO, dX, sa, ls, fX, tu, tx, iX, bX, tX, eX, sd_xt (sd_rv n (n / 2) G) q0', sd_xt (sd_rv n (n / 2) C) q1', sd_xt (sd_rv n (n / 2) P) q2', sd_xt (sd_rv n (n / 2) (sd_ff 0 n (fun j => sd_hf n (H j)) H)) q3', sd_xt (sd_rv n (n / 2) M) q4', sd_xt (sd_rv n (n / 2) J) q5', sd_xt (sd_rv n (n / 2) V) q6', sd_xt (sd_rv n (n / 2) A) q7', sd_xt (sd_rv n (n / 2) B) q8', be, sd_xt (sd_rv n (n / 2) U) q9')) : wpX_reflect post (nI R, nI L, nI n, T, D, bk, p1, p2, p3, wd, kd, kc, jn, ax, ay, sX, ty, ig, ol, rO, dX, sa, ls, fX, tu, tx, iX, bX, tX, eX, sd_xt G q0, sd_xt C q1, sd_xt P q2, sd_xt H q3, sd_xt M q4, sd_xt J q5, sd_xt V q6, sd_xt A q7, sd_xt B q8, be, sd_xt U q9) := by
  have hn := h.1
  have hr : ∀ j, j < n → sd_nar G C P (sd_ff 0 n (fun j => sd_hf n (H j)) H) M J U j := fun j hj => by
    obtain ⟨g1, g2, g3, g4, g5⟩ := h.2.1 j hj
    refine And.intro (sd_nb g1 (by decide)) (And.intro (sd_nb g2 (by decide)) (And.intro (sd_nb g3 (by decide)) (And.intro ?_ (And.intro (sd_ns g4 (by decide)) (And.intro (sd_ns g5 (by decide)) (sd_nz (hP j hj).2))))))
    rw [show sd_ff 0 n (fun j => sd_hf n (H j)) H j = sd_hf n (H j) from if_pos ⟨by omega, hj⟩]
    rcases (hP j hj).1 with e | ⟨p, hp, e⟩
    · rw [e, show sd_hf n (-1) = -1 from if_pos sd_m1lt]; exact sd_bm1
    · rw [e, show sd_hf n (nI p) = nI (n - 1 - p) from (if_neg (nI_pos (by omega))).trans (by rw [show nI n - 1 = nI (n - 1) from pk_sub (a := n) (b := 1) (by omega), pk_sub (by omega)])]
      exact sd_nb (vp_in_nI (N := 33) (by omega) (by decide)) (by decide)
  have z := sd_x47 hn hr (n / 2) 0 (n / 2 + 1) q0 q1 q2 q3 q4 q5 q6 q7 q8 q9 (by omega) (by omega) kk
  simp only [sd_rv_0] at z
  exact ⟨n + 1, sd_x2 hn (fun k hk => (hP k hk).1) n 0 (n + 1) H (by omega) (by omega) (fun _ _ => rfl) ⟨n / 2 + 1, z⟩⟩
theorem sd_yreflect {post : SY → Prop} (hn : n ≤ 32) (hP : sd_pv n H U) (kk : post (nI R, nI L, nI n, D, T, bk, wd, kd, kc, jn, sY, ax, ay, ty, ig, ol, ls, fY, tu, rO, yA, yB, yC, yD, y1, y2, tx, sd_rv n (n / 2) G, sd_rv n (n / 2) C, sd_rv n (n / 2) M, sd_rv n (n / 2) J, sd_rv n (n / 2) P, sd_rv n (n / 2) V, sd_rv n (n / 2) A, sd_rv n (n / 2) B, sd_rv n (n / 2) (sd_ff 0 n (fun j => sd_hf n (H j)) H), sd_rv n (n / 2) U)) : wpY_turnRound post (nI R, nI L, nI n, D, T, bk, wd, kd, kc, jn, sY, ax, ay, ty, ig, ol, ls, fY, tu, rO, yA, yB, yC, yD, y1, y2, tx, G, C, M, J, P, V, A, B, H, U) := by
  have z := sd_y46 hn (fun j hj => (hP j hj).2) (n / 2) 0 (n / 2 + 1) (by omega) (by omega) kk
  simp only [sd_rv_0] at z
  exact ⟨n + 1, sd_y2 hn (fun k hk => (hP k hk).1) n 0 (n + 1) H (by omega) (by omega) (fun _ _ => rfl) ⟨n / 2 + 1, z⟩⟩
end
end
section
/-! sums of widths -/
def sd_sm (V : Nat → Int32) : Nat → Int32
  | 0 => 0
  | k + 1 => sd_sm V k + V k
theorem sd_g1 (w v a b : Int32) : (w + -v) - (a - (b + v)) = w - (a - b) := by grind
theorem sd_g2 (w v a b : Int32) : (w + v) + (a - (b + v)) = w + (a - b) := by grind
theorem sd_g3 (x y a b : Int32) : x + (y + -(a - b)) = (x + y) - (a - b) := by grind
theorem sd_g4 (x y a b v w : Int32) : x + (y + (((a - b) + v) - w)) = (x + y) + ((a + v) - (b + w)) := by grind
theorem sd_g5 (w a : Int32) : w - (a - a) = w := by grind
theorem sd_g6 (w a : Int32) : w + (a - a) = w := by grind
section
variable {R L n : Nat} {T D bk p1 p2 p3 : Int32} {wd kd kc jn ax ay ty ig ol rO dX sa ls fX tu tx eX G C P H M J V A B be U sY fY yA yB yC yD y1 y2 : Nat → Int32} {sX iX bX tX : Nat → Int64} {q0 q1 q2 q3 q4 q5 q6 q7 q8 q9 : Int32}
theorem sd_y236a {post : Int32 → SY → Prop} {F : Int32 → (Nat → Int32) → (Nat → Int32) → (Nat → Int32) → (Nat → Int32) → (Nat → Int32) → (Nat → Int32) → (Nat → Int32) → (Nat → Int32) → (Nat → Int32) → (Nat → Int32) → (Nat → Int32) → (Nat → Int32) → (Nat → Int32) → (Nat → Int32) → (Nat → Int32) → (Nat → Int32) → (Nat → Int32) → (Nat → Int32) → (Nat → Int32) → (Nat → Int32) → (Nat → Int32) → (Nat → Int32) → (Nat → Int32) → (Nat → Int32) → (Nat → Int32) → (Nat → Int32) → (Nat → Int32) → (Nat → Int32) → (Nat → Int32) → (Nat → Int32) → (Nat → Int32) → Prop} {k : Nat} (hk : k < 32) (hb : bk = 0) :
    ∀ (d j N : Nat) (w : Int32), j + d = k → d < N → F (nI (k + 1)) wd kd kc jn sY ax ay ty ig ol ls fY tu rO yA yB yC yD y1 y2 tx G C M J P V (upd A k (w - (sd_sm V k - sd_sm V j))) B H U → wY_shape_236 post F (nI k) (nI R) (nI L) (nI n) D T bk N (nI j) wd kd kc jn sY ax ay ty ig ol ls fY tu rO yA yB yC yD y1 y2 tx G C M J P V (upd A k w) B H U := by
  intro d
  induction d with
  | zero =>
    intro j N w hj hN kk
    obtain ⟨N, rfl⟩ : ∃ N', N = N' + 1 := ⟨N - 1, by omega⟩
    obtain rfl : j = k := by omega
    rw [sd_g5] at kk
    exact br_t (nI_le (Nat.le_refl _) (by omega)) (nm_r (nI_1 j) kk)
  | succ d ih =>
    intro j N w hj hN kk
    obtain ⟨N, rfl⟩ : ∃ N', N = N' + 1 := ⟨N - 1, by omega⟩
    have vk : vp_in (nI k) 33 := vp_in_nI (by omega) (by decide)
    have e : upd (upd A k w) (nI k).toNatClampNeg ((upd A k w (nI k).toNatClampNeg) + (-(V (nI j).toNatClampNeg))) = upd A k (w + -V j) := by
      rw [nI_clamp (by omega), nI_clamp (by omega), pk_us, sd_u_uu]
    refine br_f (nI_ge (by omega) (by omega)) ⟨vk, br_t hb ⟨vp_in_nI (by omega) (by decide), vk, nm_r e (nm_r (nI_1 j) (ih (j + 1) N _ (by omega) (by omega) ?_))⟩⟩
    rw [show sd_sm V (j + 1) = sd_sm V j + V j from rfl, sd_g1]
    exact kk
theorem sd_y236b {post : Int32 → SY → Prop} {F : Int32 → (Nat → Int32) → (Nat → Int32) → (Nat → Int32) → (Nat → Int32) → (Nat → Int32) → (Nat → Int32) → (Nat → Int32) → (Nat → Int32) → (Nat → Int32) → (Nat → Int32) → (Nat → Int32) → (Nat → Int32) → (Nat → Int32) → (Nat → Int32) → (Nat → Int32) → (Nat → Int32) → (Nat → Int32) → (Nat → Int32) → (Nat → Int32) → (Nat → Int32) → (Nat → Int32) → (Nat → Int32) → (Nat → Int32) → (Nat → Int32) → (Nat → Int32) → (Nat → Int32) → (Nat → Int32) → (Nat → Int32) → (Nat → Int32) → (Nat → Int32) → (Nat → Int32) → Prop} {k : Nat} (hk : k < 32) (hb : ¬ bk = 0) :
    ∀ (d j N : Nat) (w : Int32), j + d = k → d < N → F (nI (k + 1)) wd kd kc jn sY ax ay ty ig ol ls fY tu rO yA yB yC yD y1 y2 tx G C M J P V (upd A k (w + (sd_sm V (k + 1) - sd_sm V (j + 1)))) B H U → wY_shape_236 post F (nI k) (nI R) (nI L) (nI n) D T bk N (nI j) wd kd kc jn sY ax ay ty ig ol ls fY tu rO yA yB yC yD y1 y2 tx G C M J P V (upd A k w) B H U := by
  intro d
  induction d with
  | zero =>
    intro j N w hj hN kk
    obtain ⟨N, rfl⟩ : ∃ N', N = N' + 1 := ⟨N - 1, by omega⟩
    obtain rfl : j = k := by omega
    rw [sd_g6] at kk
    exact br_t (nI_le (Nat.le_refl _) (by omega)) (nm_r (nI_1 j) kk)
  | succ d ih =>
    intro j N w hj hN kk
    obtain ⟨N, rfl⟩ : ∃ N', N = N' + 1 := ⟨N - 1, by omega⟩
    have vk : vp_in (nI k) 33 := vp_in_nI (by omega) (by decide)
    have vj : vp_in (nI j + 1) 33 := by rw [nI_1]; exact vp_in_nI (by omega) (by decide)
    have cj : (nI j + 1).toNatClampNeg = j + 1 := by rw [nI_1]; exact nI_clamp (by omega)
    have e : upd (upd A k w) (nI k).toNatClampNeg ((upd A k w (nI k).toNatClampNeg) + (V (nI j + 1).toNatClampNeg)) = upd A k (w + V (j + 1)) := by
      rw [nI_clamp (by omega), cj, pk_us, sd_u_uu]
    refine br_f (nI_ge (by omega) (by omega)) ⟨vk, br_f hb ⟨vj, vk, nm_r e (nm_r (nI_1 j) (ih (j + 1) N _ (by omega) (by omega) ?_))⟩⟩
    rw [show sd_sm V (j + 1 + 1) = sd_sm V (j + 1) + V (j + 1) from rfl, sd_g2]
    exact kk
theorem sd_settle (hn : n ≤ 32) (hP : sd_pv n H U) : ∀ (d k : Nat) (A B be : Nat → Int32), k + d = n → (∀ j, j < k → be j = sd_sm V j) →
    ∃ A' B' be' : Nat → Int32,
      (∀ (post : SX → Prop) (N : Nat), d < N → post (nI R, nI L, nI n, T, D, bk, p1, p2, p3, wd, kd, kc, jn, ax, ay, sX, ty, ig, ol, rO, dX, sa, ls, fX, tu, tx, iX, bX, tX, eX, sd_xt G q0, sd_xt C q1, sd_xt P q2, sd_xt H q3, sd_xt M q4, sd_xt J q5, sd_xt V q6, sd_xt A' q7, sd_xt B' q8, be', sd_xt U q9) → wX_settle_4 post (nI R) (nI L) (nI n) T D bk p1 p2 p3 N (sd_sm V k) (nI k) wd kd kc jn ax ay sX ty ig ol rO dX sa ls fX tu tx iX bX tX eX (sd_xt G q0) (sd_xt C q1) (sd_xt P q2) (sd_xt H q3) (sd_xt M q4) (sd_xt J q5) (sd_xt V q6) (sd_xt A q7) (sd_xt B q8) be (sd_xt U q9)) ∧
      (∀ (post : Int32 → SY → Prop) (N : Nat), d < N → (bk = 0 → post (nI n) (nI R, nI L, nI n, D, T, bk, wd, kd, kc, jn, sY, ax, ay, ty, ig, ol, ls, fY, tu, rO, yA, yB, yC, yD, y1, y2, tx, G, C, M, J, P, V, A', B', H, U)) → (¬ bk = 0 → post (nI n) (nI R, nI L, nI n, D, T, bk, wd, kd, kc, jn, sY, ax, ay, ty, ig, ol, ls, fY, tu, rO, yA, yB, yC, yD, y1, y2, tx, sd_rv n (n / 2) G, sd_rv n (n / 2) C, sd_rv n (n / 2) M, sd_rv n (n / 2) J, sd_rv n (n / 2) P, sd_rv n (n / 2) V, sd_rv n (n / 2) A', sd_rv n (n / 2) B', sd_rv n (n / 2) (sd_ff 0 n (fun j => sd_hf n (H j)) H), sd_rv n (n / 2) U)) → wY_shape_157 post (nI R) (nI L) (nI n) D T bk N (nI k) wd kd kc jn sY ax ay ty ig ol ls fY tu rO yA yB yC yD y1 y2 tx G C M J P V A B H U) := by
  intro d
  induction d with
  | zero =>
    intro k A B be hk hbe
    have e : nI n ≤ nI k := nI_le (by omega) (by omega)
    refine ⟨A, B, be, fun post N hN kk => ?_, fun post N hN k0 k1 => ?_⟩
    · obtain ⟨N, rfl⟩ : ∃ N', N = N' + 1 := ⟨N - 1, by omega⟩
      exact br_t e kk
    · obtain ⟨N, rfl⟩ : ∃ N', N = N' + 1 := ⟨N - 1, by omega⟩
      by_cases hb : bk = 0
      · exact br_t e (br_t hb (k0 hb))
      · exact br_t e (br_f hb (sd_yreflect hn hP (k1 hb)))
  | succ d ih =>
    intro k A B be hk hbe
    have e : ¬ nI n ≤ nI k := nI_ge (by omega) (by omega)
    have vk : vp_in (nI k) 34 := vp_in_nI (by omega) (by decide)
    have wk : vp_in (nI k) 33 := vp_in_nI (by omega) (by decide)
    have ck : (nI k).toNatClampNeg = k := nI_clamp (by omega)
    have eb : upd be (nI k).toNatClampNeg (sd_sm V k) = upd be k (sd_sm V k) := by rw [ck]
    have ev : sd_sm V k + (sd_xt V q6 (nI k).toNatClampNeg) = sd_sm V (k + 1) := by rw [sd_nr (by omega)]; rfl
    have eh : sd_xt H q3 (nI k).toNatClampNeg = H k := sd_nr (by omega)
    have hy : H (nI k).toNatClampNeg = H k := sd_yr (by omega)
    have ux : sd_xt U q9 (nI k).toNatClampNeg = U k := sd_nr (by omega)
    have uy : U (nI k).toNatClampNeg = U k := sd_yr (by omega)
    have hbe' : ∀ j, j < k + 1 → upd be k (sd_sm V k) j = sd_sm V j := fun j hj => by
      by_cases q : j = k
      · rw [q, pk_us]
      · rw [pk_un q]; exact hbe j (by omega)
    rcases (hP k (by omega)).1 with h | ⟨p, hp, h⟩
    · obtain ⟨A', B', be', gX, gY⟩ := ih (k + 1) A B (upd be k (sd_sm V k)) (by omega) hbe'
      refine ⟨A', B', be', fun post N hN kk => ?_, fun post N hN k0 k1 => ?_⟩
      · obtain ⟨N, rfl⟩ : ∃ N', N = N' + 1 := ⟨N - 1, by omega⟩
        exact br_f e ⟨vk, nm_r eb ⟨vk, nm_r ev ⟨vk, nm_r (eh.trans h) (br_f sd_m1le (nm_r (nI_1 k) (gX post N (by omega) kk)))⟩⟩⟩
      · obtain ⟨N, rfl⟩ : ∃ N', N = N' + 1 := ⟨N - 1, by omega⟩
        exact br_f e ⟨wk, br_f (by rw [hy, h]; exact sd_m1le) (nm_r (nI_1 k) (gY post N (by omega) k0 k1))⟩
    · have pp : 0 ≤ nI p := nI_pos' (by omega)
      have vp : vp_in (nI p) 34 := vp_in_nI (by omega) (by decide)
      have wp : vp_in (nI p) 33 := vp_in_nI (by omega) (by decide)
      have cp : (nI p).toNatClampNeg = p := nI_clamp (by omega)
      have hyp : 0 ≤ H (nI k).toNatClampNeg := by rw [hy, h]; exact pp
      have wh : vp_in (H (nI k).toNatClampNeg) 33 := by rw [hy, h]; exact wp
      have ch : (H (nI k).toNatClampNeg).toNatClampNeg = p := by rw [hy, h]; exact cp
      have eB : upd (sd_xt B q8) (nI k).toNatClampNeg ((sd_xt B q8 (nI k).toNatClampNeg) + (sd_xt B q8 (nI p).toNatClampNeg)) = sd_xt (upd B k (B k + B p)) q8 := sd_nw (by omega) (by rw [sd_nr (by omega), sd_nr (by omega)])
      have eBy : upd B (nI k).toNatClampNeg ((B (nI k).toNatClampNeg) + (B (H (nI k).toNatClampNeg).toNatClampNeg)) = upd B k (B k + B p) := by rw [ch, ck]
      rcases (hP k (by omega)).2 with hu | hu
      · have u0 : sd_xt U q9 (nI k).toNatClampNeg = 0 := ux.trans hu
        have u0y : U (nI k).toNatClampNeg = 0 := uy.trans hu
        have x4 : (upd be k (sd_sm V k) (nI k).toNatClampNeg) - (upd be k (sd_sm V k) (nI p).toNatClampNeg) = sd_sm V k - sd_sm V p := by
          rw [ck, cp, pk_us, pk_un (by omega), hbe p hp]
        have yA : upd A (nI k).toNatClampNeg ((A (nI k).toNatClampNeg) + (A (H (nI k).toNatClampNeg).toNatClampNeg)) = upd A k (A k + A p) := by rw [ch, ck]
        by_cases hb : bk = 0
        · obtain ⟨A', B', be', gX, gY⟩ := ih (k + 1) (upd A k ((A k + A p) - (sd_sm V k - sd_sm V p))) (upd B k (B k + B p)) (upd be k (sd_sm V k)) (by omega) hbe'
          refine ⟨A', B', be', fun post N hN kk => ?_, fun post N hN k0 k1 => ?_⟩
          · obtain ⟨N, rfl⟩ : ∃ N', N = N' + 1 := ⟨N - 1, by omega⟩
            have eA : upd (sd_xt A q7) (nI k).toNatClampNeg ((sd_xt A q7 (nI k).toNatClampNeg) + ((sd_xt A q7 (nI p).toNatClampNeg) + (-(sd_sm V k - sd_sm V p)))) = sd_xt (upd A k ((A k + A p) - (sd_sm V k - sd_sm V p))) q7 := sd_nw (by omega) (by rw [sd_nr (by omega), sd_nr (by omega), sd_g3])
            exact br_f e ⟨vk, nm_r eb ⟨vk, nm_r ev ⟨vk, nm_r (eh.trans h) (br_t pp ⟨vk, vp, vk, nm_r eB ⟨vk, br_t u0 ⟨vk, vp, nm_r x4 ⟨vk, vp, br_t hb ⟨vk, nm_r eA (nm_r (nI_1 k) (gX post N (by omega) kk))⟩⟩⟩⟩⟩)⟩⟩⟩
          · obtain ⟨N, rfl⟩ : ∃ N', N = N' + 1 := ⟨N - 1, by omega⟩
            exact br_f e ⟨wk, br_t hyp ⟨wk, wk, wh, wk, nm_r eBy ⟨wk, br_t u0y ⟨wk, wk, wh, wk, nm_r yA ⟨wk, nm_r (hy.trans h) ⟨k - p + 1, sd_y236a (by omega) hb (k - p) p (k - p + 1) _ (by omega) (by omega) (gY post N (by omega) k0 k1)⟩⟩⟩⟩⟩⟩
        · obtain ⟨A', B', be', gX, gY⟩ := ih (k + 1) (upd A k ((A k + A p) + (sd_sm V (k + 1) - sd_sm V (p + 1)))) (upd B k (B k + B p)) (upd be k (sd_sm V k)) (by omega) hbe'
          refine ⟨A', B', be', fun post N hN kk => ?_, fun post N hN k0 k1 => ?_⟩
          · obtain ⟨N, rfl⟩ : ∃ N', N = N' + 1 := ⟨N - 1, by omega⟩
            have eA : upd (sd_xt A q7) (nI k).toNatClampNeg ((sd_xt A q7 (nI k).toNatClampNeg) + ((sd_xt A q7 (nI p).toNatClampNeg) + (((sd_sm V k - sd_sm V p) + (sd_xt V q6 (nI k).toNatClampNeg)) - (sd_xt V q6 (nI p).toNatClampNeg)))) = sd_xt (upd A k ((A k + A p) + (sd_sm V (k + 1) - sd_sm V (p + 1)))) q7 := sd_nw (by omega) (by rw [sd_nr (by omega), sd_nr (by omega), sd_nr (by omega), sd_nr (by omega), sd_g4]; rfl)
            exact br_f e ⟨vk, nm_r eb ⟨vk, nm_r ev ⟨vk, nm_r (eh.trans h) (br_t pp ⟨vk, vp, vk, nm_r eB ⟨vk, br_t u0 ⟨vk, vp, nm_r x4 ⟨vk, vp, br_f hb ⟨vk, vp, vk, nm_r eA (nm_r (nI_1 k) (gX post N (by omega) kk))⟩⟩⟩⟩⟩)⟩⟩⟩
          · obtain ⟨N, rfl⟩ : ∃ N', N = N' + 1 := ⟨N - 1, by omega⟩
            exact br_f e ⟨wk, br_t hyp ⟨wk, wk, wh, wk, nm_r eBy ⟨wk, br_t u0y ⟨wk, wk, wh, wk, nm_r yA ⟨wk, nm_r (hy.trans h) ⟨k - p + 1, sd_y236b (by omega) hb (k - p) p (k - p + 1) _ (by omega) (by omega) (gY post N (by omega) k0 k1)⟩⟩⟩⟩⟩⟩
      · have u1 : ¬ sd_xt U q9 (nI k).toNatClampNeg = 0 := by rw [ux, hu]; exact sd_10
        have u1y : ¬ U (nI k).toNatClampNeg = 0 := by rw [uy, hu]; exact sd_10
        obtain ⟨A', B', be', gX, gY⟩ := ih (k + 1) A (upd B k (B k + B p)) (upd be k (sd_sm V k)) (by omega) hbe'
        refine ⟨A', B', be', fun post N hN kk => ?_, fun post N hN k0 k1 => ?_⟩
        · obtain ⟨N, rfl⟩ : ∃ N', N = N' + 1 := ⟨N - 1, by omega⟩
          exact br_f e ⟨vk, nm_r eb ⟨vk, nm_r ev ⟨vk, nm_r (eh.trans h) (br_t pp ⟨vk, vp, vk, nm_r eB ⟨vk, br_f u1 (nm_r (nI_1 k) (gX post N (by omega) kk))⟩⟩)⟩⟩⟩
        · obtain ⟨N, rfl⟩ : ∃ N', N = N' + 1 := ⟨N - 1, by omega⟩
          exact br_f e ⟨wk, br_t hyp ⟨wk, wk, wh, wk, nm_r eBy ⟨wk, br_f u1y (nm_r (nI_1 k) (gY post N (by omega) k0 k1))⟩⟩⟩
end
end
section
section
variable {R L n : Nat} {T D bk p1 p2 p3 : Int32} {wd kd kc jn ax ay ty ig ol rO dX sa ls fX tu tx eX G C P H M J V A B be U sY fY yA yB yC yD y1 y2 : Nat → Int32} {sX iX bX tX : Nat → Int64} {q0 q1 q2 q3 q4 q5 q6 q7 q8 q9 : Int32}
theorem sd_le3 {x : Int32} (h : vp_in x 9) (h4 : ¬ 4 ≤ x) : x ≤ 3 := by
  obtain ⟨j, hj, rfl⟩ := vp_in_of h (by decide)
  have : j < 4 := by
    rcases Nat.lt_or_ge j 4 with w | w
    · exact w
    · exact absurd (nI_le (a := 4) w (by omega)) h4
  exact nI_le (b := 3) (by omega) (by decide)
/-- the lookups that change glyphs, one behind another -/
theorem sd_passS (hK : sd_K R L bk kd kc jn ty ig rO yA yB yC yD y1 y2 sa dX sY fX fY tx sX) (hL : sd_L R kd kc ig ol ty rO sa sY ls eX iX bX tX) : ∀ (d l n z : Nat) (G C P M J : Nat → Int32) (D : Int32), l + d = 12 → sd_inv n G C P M J → z ≤ 64 * l →
    ∃ (n' : Nat) (G' C' P' M' J' : Nat → Int32) (z' : Nat) (D' : Int32), sd_inv n' G' C' P' M' J' ∧
      (∀ (post : Int32 → SX → Prop) (p1 p2 p3 : Int32) (N : Nat), d < N → (∀ p1' p2' p3' : Int32, ∃ n57, wX_shape_57 post (nI R) (nI L) (nI n') (nI z') D' bk p1' p2' p3' n57 0 wd kd kc jn ax ay sX ty ig ol rO dX sa ls fX tu tx iX bX tX eX (sd_xt G' q0) (sd_xt C' q1) (sd_xt P' q2) (sd_xt H q3) (sd_xt M' q4) (sd_xt J' q5) (sd_xt V q6) (sd_xt A q7) (sd_xt B q8) be (sd_xt U q9)) → wX_shape_10 post N (nI l) (nI R) (nI L) (nI n) (nI z) D bk p1 p2 p3 wd kd kc jn ax ay sX ty ig ol rO dX sa ls fX tu tx iX bX tX eX (sd_xt G q0) (sd_xt C q1) (sd_xt P q2) (sd_xt H q3) (sd_xt M q4) (sd_xt J q5) (sd_xt V q6) (sd_xt A q7) (sd_xt B q8) be (sd_xt U q9)) ∧
      (∀ (post : Int32 → SY → Prop) (N : Nat), d < N → (∃ n128, wY_shape_128 post n128 0 (nI R) (nI L) (nI n') D' (nI z') bk wd kd kc jn sY ax ay ty ig ol ls fY tu rO yA yB yC yD y1 y2 tx G' C' M' J' P' (sd_ff 0 n' (sd_vi wd kd G') V) (sd_fil 0 n' 0 A) (sd_fil 0 n' 0 B) (sd_fil 0 n' (-1) H) (sd_fil 0 n' 0 U)) → wY_shape_80 post N (nI l) (nI R) (nI L) (nI n) D (nI z) bk wd kd kc jn sY ax ay ty ig ol ls fY tu rO yA yB yC yD y1 y2 tx G C M J P V A B H U) := by
  intro d
  induction d with
  | zero =>
    intro l n z G C P M J D hl h hz
    obtain rfl : l = 12 := by omega
    refine ⟨n, G, C, P, M, J, z, D, h, fun post p1 p2 p3 N hN kk => ?_, fun post N hN kk => ?_⟩
    · obtain ⟨N, rfl⟩ : ∃ N', N = N' + 1 := ⟨N - 1, by omega⟩
      exact br_t (by decide) (kk _ _ _)
    · obtain ⟨N, rfl⟩ : ∃ N', N = N' + 1 := ⟨N - 1, by omega⟩
      exact br_t (by decide) ⟨n + 1, sd_ylay2 h.1 (sd_inv_G h) n 0 (n + 1) V A B H U (by omega) (by omega) kk⟩
  | succ d ih =>
    intro l n z G C P M J D hl h hz
    have hn := h.1
    have hl12 : l < 12 := by omega
    have e : ¬ (12 : Int32) ≤ nI l := nI_ge (b := 12) hl12 (by decide)
    have vl : vp_in (nI l) 12 := vp_in_nI hl12 (by decide)
    have cl : (nI l).toNatClampNeg = l := nI_clamp (by omega)
    by_cases t4 : 4 ≤ ty l
    · have t4' : 4 ≤ ty (nI l).toNatClampNeg := by rw [cl]; exact t4
      by_cases te : ty l = 4
      · have te' : ty (nI l).toNatClampNeg = 4 := by rw [cl]; exact te
        obtain ⟨G1, D1, h1, rX, rY⟩ := sd_rev (T := nI z) (wd := wd) (ax := ax) (ay := ay) (tu := tu) (H := H) (V := V) (A := A) (B := B) (be := be) (U := U) (q0 := q0) (q1 := q1) (q2 := q2) (q3 := q3) (q4 := q4) (q5 := q5) (q6 := q6) (q7 := q7) (q8 := q8) (q9 := q9) hK hL hl12 te n G D (Nat.le_refl n) h
        obtain ⟨n', G', C', P', M', J', z', D', g1, gX, gY⟩ := ih (l + 1) n z G1 C P M J D1 (by omega) h1 (by omega)
        refine ⟨n', G', C', P', M', J', z', D', g1, fun post p1 p2 p3 N hN kk => ?_, fun post N hN kk => ?_⟩
        · obtain ⟨N, rfl⟩ : ∃ N', N = N' + 1 := ⟨N - 1, by omega⟩
          exact br_f e ⟨vl, br_t t4' ⟨vl, br_t te' (nm_e ⟨n + 1, rX _ p1 p2 p3 (n + 1) (by omega) (fun p1' p2' p3' => nm_r (nI_1 l) (gX post p1' p2' p3' N (by omega) kk))⟩)⟩⟩
        · obtain ⟨N, rfl⟩ : ∃ N', N = N' + 1 := ⟨N - 1, by omega⟩
          exact br_f e ⟨vl, br_t t4' ⟨vl, br_t te' (nm_e ⟨n + 1, rY _ (n + 1) (by omega) (nm_r (nI_1 l) (gY post N (by omega) kk))⟩)⟩⟩
      · have te' : ¬ ty (nI l).toNatClampNeg = 4 := by rw [cl]; exact te
        obtain ⟨n', G', C', P', M', J', z', D', g1, gX, gY⟩ := ih (l + 1) n z G C P M J D (by omega) h (by omega)
        refine ⟨n', G', C', P', M', J', z', D', g1, fun post p1 p2 p3 N hN kk => ?_, fun post N hN kk => ?_⟩
        · obtain ⟨N, rfl⟩ : ∃ N', N = N' + 1 := ⟨N - 1, by omega⟩
          exact br_f e ⟨vl, br_t t4' ⟨vl, br_f te' (nm_r (nI_1 l) (gX post p1 p2 p3 N (by omega) kk))⟩⟩
        · obtain ⟨N, rfl⟩ : ∃ N', N = N' + 1 := ⟨N - 1, by omega⟩
          exact br_f e ⟨vl, br_t t4' ⟨vl, br_f te' (nm_r (nI_1 l) (gY post N (by omega) kk))⟩⟩
    · have t4' : ¬ 4 ≤ ty (nI l).toNatClampNeg := by rw [cl]; exact t4
      have te' : ¬ ty (nI l).toNatClampNeg = 4 := fun w => t4' (by rw [w]; decide)
      obtain ⟨n1, G1, C1, P1, M1, J1, z1, D1, h1, hz1, rX, rY⟩ := sd_sub (wd := wd) (ax := ax) (ay := ay) (tu := tu) (H := H) (V := V) (A := A) (B := B) (be := be) (U := U) (q0 := q0) (q1 := q1) (q2 := q2) (q3 := q3) (q4 := q4) (q5 := q5) (q6 := q6) (q7 := q7) (q8 := q8) (q9 := q9) hK hL hl12 (sd_le3 (hK.lo l hl12).1 t4) n n 0 z G C P M J D (by omega) (by omega) h (by omega)
      obtain ⟨n', G', C', P', M', J', z', D', g1, gX, gY⟩ := ih (l + 1) n1 z1 G1 C1 P1 M1 J1 D1 (by omega) h1 (by omega)
      refine ⟨n', G', C', P', M', J', z', D', g1, fun post p1 p2 p3 N hN kk => ?_, fun post N hN kk => ?_⟩
      · obtain ⟨N, rfl⟩ : ∃ N', N = N' + 1 := ⟨N - 1, by omega⟩
        exact br_f e ⟨vl, br_f t4' ⟨n + 1, rX _ p1 p2 p3 (n + 1) (by omega) (fun p1' p2' p3' => nm_r (nI_1 l) (gX post p1' p2' p3' N (by omega) kk))⟩⟩
      · obtain ⟨N, rfl⟩ : ∃ N', N = N' + 1 := ⟨N - 1, by omega⟩
        exact br_f e ⟨vl, br_f t4' ⟨n + 1, rY _ (n + 1) (by omega) (And.intro vl (br_f te' (nm_r (nI_1 l) (gY post N (by omega) kk))))⟩⟩
/-- the lookups that place, one behind another; then what hangs, and the turning round -/
theorem sd_passP (hK : sd_K R L bk kd kc jn ty ig rO yA yB yC yD y1 y2 sa dX sY fX fY tx sX) (hL : sd_L R kd kc ig ol ty rO sa sY ls eX iX bX tX) (h : sd_inv n G C P M J) : ∀ (d l : Nat) (V A B H U : Nat → Int32) (D : Int32), l + d = 12 → sd_pv n H U →
    ∃ (V' A' B' H' U' be' : Nat → Int32) (D' : Int32),
      (∀ (post : Int32 → SX → Prop) (N : Nat), d < N → (bk = 0 → post (nI n) (nI R, nI L, nI n, T, D', bk, p1, p2, p3, wd, kd, kc, jn, ax, ay, sX, ty, ig, ol, rO, dX, sa, ls, fX, tu, tx, iX, bX, tX, eX, sd_xt G q0, sd_xt C q1, sd_xt P q2, sd_xt H' q3, sd_xt M q4, sd_xt J q5, sd_xt V' q6, sd_xt A' q7, sd_xt B' q8, be', sd_xt U' q9)) → (¬ bk = 0 → ∀ q0' q1' q2' q3' q4' q5' q6' q7' q8' q9' : Int32, post (nI n) (nI R, nI L, nI n, T, D', bk, p1, p2, p3, wd, kd, kc, jn, ax, ay, sX, ty, ig, ol, rO, dX, sa, ls, fX, tu, tx, iX, bX, tX, eX, sd_xt (sd_rv n (n / 2) G) q0', sd_xt (sd_rv n (n / 2) C) q1', sd_xt (sd_rv n (n / 2) P) q2', sd_xt (sd_rv n (n / 2) (sd_ff 0 n (fun j => sd_hf n (H' j)) H')) q3', sd_xt (sd_rv n (n / 2) M) q4', sd_xt (sd_rv n (n / 2) J) q5', sd_xt (sd_rv n (n / 2) V') q6', sd_xt (sd_rv n (n / 2) A') q7', sd_xt (sd_rv n (n / 2) B') q8', be', sd_xt (sd_rv n (n / 2) U') q9')) → wX_shape_137 post N (nI l) (nI R) (nI L) (nI n) T D bk p1 p2 p3 wd kd kc jn ax ay sX ty ig ol rO dX sa ls fX tu tx iX bX tX eX (sd_xt G q0) (sd_xt C q1) (sd_xt P q2) (sd_xt H q3) (sd_xt M q4) (sd_xt J q5) (sd_xt V q6) (sd_xt A q7) (sd_xt B q8) be (sd_xt U q9)) ∧
      (∀ (post : Int32 → SY → Prop) (N : Nat), d < N → (bk = 0 → post (nI n) (nI R, nI L, nI n, D', T, bk, wd, kd, kc, jn, sY, ax, ay, ty, ig, ol, ls, fY, tu, rO, yA, yB, yC, yD, y1, y2, tx, G, C, M, J, P, V', A', B', H', U')) → (¬ bk = 0 → post (nI n) (nI R, nI L, nI n, D', T, bk, wd, kd, kc, jn, sY, ax, ay, ty, ig, ol, ls, fY, tu, rO, yA, yB, yC, yD, y1, y2, tx, sd_rv n (n / 2) G, sd_rv n (n / 2) C, sd_rv n (n / 2) M, sd_rv n (n / 2) J, sd_rv n (n / 2) P, sd_rv n (n / 2) V', sd_rv n (n / 2) A', sd_rv n (n / 2) B', sd_rv n (n / 2) (sd_ff 0 n (fun j => sd_hf n (H' j)) H'), sd_rv n (n / 2) U')) → wY_shape_128 post N (nI l) (nI R) (nI L) (nI n) D T bk wd kd kc jn sY ax ay ty ig ol ls fY tu rO yA yB yC yD y1 y2 tx G C M J P V A B H U) := by
  have hn := h.1
  intro d
  induction d with
  | zero =>
    intro l V A B H U D hl hP
    obtain rfl : l = 12 := by omega
    obtain ⟨A', B', be', sX', sY'⟩ := sd_settle (R := R) (L := L) (T := T) (D := D) (bk := bk) (p1 := p1) (p2 := p2) (p3 := p3) (wd := wd) (kd := kd) (kc := kc) (jn := jn) (ax := ax) (ay := ay) (ty := ty) (ig := ig) (ol := ol) (rO := rO) (dX := dX) (sa := sa) (ls := ls) (fX := fX) (tu := tu) (tx := tx) (eX := eX) (G := G) (C := C) (P := P) (M := M) (J := J) (V := V) (sY := sY) (fY := fY) (yA := yA) (yB := yB) (yC := yC) (yD := yD) (y1 := y1) (y2 := y2) (sX := sX) (iX := iX) (bX := bX) (tX := tX) (q0 := q0) (q1 := q1) (q2 := q2) (q3 := q3) (q4 := q4) (q5 := q5) (q6 := q6) (q7 := q7) (q8 := q8) (q9 := q9) hn hP n 0 A B be (by omega) (fun j hj => by omega)
    refine ⟨V, A', B', H, U, be', D, fun post N hN k0 k1 => ?_, fun post N hN k0 k1 => ?_⟩
    · obtain ⟨N, rfl⟩ : ∃ N', N = N' + 1 := ⟨N - 1, by omega⟩
      refine br_t (by decide) ⟨n + 1, sX' _ (n + 1) (by omega) ?_⟩
      by_cases hb : bk = 0
      · exact br_t hb (k0 hb)
      · exact br_f hb (sd_xreflect h hP (k1 hb))
    · obtain ⟨N, rfl⟩ : ∃ N', N = N' + 1 := ⟨N - 1, by omega⟩
      exact br_t (by decide) ⟨n + 1, sY' _ (n + 1) (by omega) k0 k1⟩
  | succ d ih =>
    intro l V A B H U D hl hP
    have hl12 : l < 12 := by omega
    have e : ¬ (12 : Int32) ≤ nI l := nI_ge (b := 12) hl12 (by decide)
    have vl : vp_in (nI l) 12 := vp_in_nI hl12 (by decide)
    have cl : (nI l).toNatClampNeg = l := nI_clamp (by omega)
    have e54 : (ty (nI l).toNatClampNeg < 5 ↔ ty (nI l).toNatClampNeg ≤ 4) := by
      rw [cl]
      obtain ⟨j, hj, ej⟩ := vp_in_of (hK.lo l hl12).1 (by decide)
      rw [ej]
      have a := nI_ltI (a := j) (b := 5) (by omega) (by decide)
      have b := nI_leI (a := j) (b := 4) (by omega) (by decide)
      exact ⟨fun w => b.mpr (by have := a.mp w; omega), fun w => a.mpr (by have := b.mp w; omega)⟩
    by_cases t5 : ty l < 5
    · have t5' : ty (nI l).toNatClampNeg < 5 := by rw [cl]; exact t5
      obtain ⟨V', A', B', H', U', be', D', gX, gY⟩ := ih (l + 1) V A B H U D (by omega) hP
      refine ⟨V', A', B', H', U', be', D', fun post N hN k0 k1 => ?_, fun post N hN k0 k1 => ?_⟩
      · obtain ⟨N, rfl⟩ : ∃ N', N = N' + 1 := ⟨N - 1, by omega⟩
        exact br_f e ⟨vl, br_t t5' (nm_r (nI_1 l) (gX post N (by omega) k0 k1))⟩
      · obtain ⟨N, rfl⟩ : ∃ N', N = N' + 1 := ⟨N - 1, by omega⟩
        exact br_f e ⟨vl, br_t (e54.mp t5') (nm_r (nI_1 l) (gY post N (by omega) k0 k1))⟩
    · have t5' : ¬ ty (nI l).toNatClampNeg < 5 := by rw [cl]; exact t5
      obtain ⟨V1, A1, B1, H1, U1, D1, a1, aX, aY⟩ := sd_pos (T := T) (p1 := p1) (p2 := p2) (p3 := p3) (wd := wd) (ax := ax) (ay := ay) (tu := tu) (be := be) (q0 := q0) (q1 := q1) (q2 := q2) (q3 := q3) (q4 := q4) (q5 := q5) (q6 := q6) (q7 := q7) (q8 := q8) (q9 := q9) hK hL hl12 h t5 n 0 V A B H U D (by omega) hP
      obtain ⟨V', A', B', H', U', be', D', gX, gY⟩ := ih (l + 1) V1 A1 B1 H1 U1 D1 (by omega) a1
      refine ⟨V', A', B', H', U', be', D', fun post N hN k0 k1 => ?_, fun post N hN k0 k1 => ?_⟩
      · obtain ⟨N, rfl⟩ : ∃ N', N = N' + 1 := ⟨N - 1, by omega⟩
        exact br_f e ⟨vl, br_f t5' ⟨n + 1, aX _ (n + 1) (by omega) (nm_r (nI_1 l) (gX post N (by omega) k0 k1))⟩⟩
      · obtain ⟨N, rfl⟩ : ∃ N', N = N' + 1 := ⟨N - 1, by omega⟩
        exact br_f e ⟨vl, br_f (fun w => t5' (e54.mpr w)) ⟨n + 1, aY _ (n + 1) (by omega) (nm_r (nI_1 l) (gY post N (by omega) k0 k1))⟩⟩
theorem sd_pv0 : sd_pv n (sd_fil 0 n (-1) H) (sd_fil 0 n 0 U) := fun k hk => ⟨Or.inl (sd_fil_in ⟨by omega, hk⟩), Or.inl (sd_fil_in ⟨by omega, hk⟩)⟩
end
theorem i_vc_shape {k : Nat} {u : SX} {v : SY} (I : i_Rel k u v) (hk : k + 6 ≤ 3072) : wpX_shape (fun r u' => wpY_shape (fun r' v' => r' = r ∧ i_Rel (k + 6) u' v') v) u := by
  refine sd_el (Q := fun u v => wpX_shape (fun r u' => wpY_shape (fun r' v' => r' = r ∧ i_Rel (k + 6) u' v') v) u) ?_ I
  intro R L n T D bk p1 p2 p3 wd kd kc jn ax ay ty ig ol rO dX sa ls fX tu tx eX G C P H M J V A B be U sY fY yA yB yC yD y1 y2 sX iX bX tX q0 q1 q2 q3 q4 q5 q6 q7 q8 q9 hn hK
  unfold wpX_shape
  refine sd_lay hK (fun iX bX tX eX hL => ?_)
  refine sd_xbeg hK ?_
  obtain ⟨n', G', C', P', M', J', z', D', h', gX, gY⟩ := sd_passS (wd := wd) (ax := ax) (ay := ay) (tu := tu) (H := H) (V := V) (A := A) (B := B) (be := be) (U := U) (q0 := q0) (q1 := q1) (q2 := q2) (q3 := q3) (q4 := q4) (q5 := q5) (q6 := q6) (q7 := q7) (q8 := q8) (q9 := q9) hK hL 12 0 L 0 (sd_ff 0 L tx G) (sd_ff 0 L nI C) (sd_fil 0 L 0 P) (sd_ff 0 L (sd_m0 L jn tx fY tu) M) (sd_fil 0 L 0 J) 0 (by omega) (sd_inv_beg hK) (by omega)
  refine ⟨13, gX _ p1 p2 p3 13 (by omega) (fun p1' p2' p3' => ?_)⟩
  obtain ⟨V2, A2, B2, H2, U2, be2, D2, pX, pY⟩ := sd_passP (T := nI z') (p1 := p1') (p2 := p2') (p3 := p3') (wd := wd) (ax := ax) (ay := ay) (tu := tu) (be := be) (q0 := q0) (q1 := q1) (q2 := q2) (q3 := q3) (q4 := q4) (q5 := q5) (q6 := q6) (q7 := q7) (q8 := q8) (q9 := q9) hK hL h' 12 0 (sd_ff 0 n' (sd_vi wd kd G') V) (sd_fil 0 n' 0 A) (sd_fil 0 n' 0 B) (sd_fil 0 n' (-1) H) (sd_fil 0 n' 0 U) D' (by omega) sd_pv0
  refine ⟨n' + 1, sd_x57 h'.1 (sd_inv_G h') n' 0 (n' + 1) V A B H U (by omega) (by omega) ⟨13, pX _ 13 (by omega) (fun hb => ?_) (fun hb q0' q1' q2' q3' q4' q5' q6' q7' q8' q9' => ?_)⟩⟩
  · exact ⟨L + 1, sd_ybeg hK L 0 (L + 1) G C M J P (by omega) (by omega) ⟨13, gY _ 13 (by omega) ⟨13, pY _ 13 (by omega) (fun _ => ⟨rfl, sd_mk h'.1 hK⟩) (fun z => absurd hb z)⟩⟩⟩
  · exact ⟨L + 1, sd_ybeg hK L 0 (L + 1) G C M J P (by omega) (by omega) ⟨13, gY _ 13 (by omega) ⟨13, pY _ 13 (by omega) (fun z => absurd z hb) (fun _ => ⟨rfl, sd_mk h'.1 hK⟩)⟩⟩⟩
end
