section
/-! pure rows to paste: stores, nI and lN arithmetic, masks, shifts, narrowing, branches by naturals (pk_le, pk_lt, pk_eq), loops (lp1 .. lp16: the measure of the state; rp1 ..: recursion), negatives. Take what you need -/
theorem pk_us {f : Nat → Int32} {k : Nat} {x : Int32} : upd f k x k = x := if_pos rfl
theorem pk_un {f : Nat → Int32} {k j : Nat} {x : Int32} (h : j ≠ k) : upd f k x j = f j := if_neg h
theorem pk_uLs {f : Nat → Int64} {k : Nat} {x : Int64} : vp_updL f k x k = x := if_pos rfl
theorem pk_uLn {f : Nat → Int64} {k j : Nat} {x : Int64} (h : j ≠ k) : vp_updL f k x j = f j := if_neg h
theorem pk_sub {a b : Nat} (h : b ≤ a) : nI a - nI b = nI (a - b) := by
  obtain ⟨c, rfl⟩ : ∃ c, a = c + b := ⟨a - b, by omega⟩
  rw [← nI_add, Int32.add_sub_cancel, Nat.add_sub_cancel]
theorem pk_m1 (n : Nat) : nI (n + 1) + (-1) = nI n := by
  rw [← nI_1, Int32.add_assoc, show (1 : Int32) + (-1) = 0 from rfl, Int32.add_zero]
theorem pk_mul (a b : Nat) : nI a * nI b = nI (a * b) := (Int32.ofNat_mul a b).symm
theorem pk_div {a d : Nat} (ha : a < 2 ^ 31) (h0 : 0 < d) (hd : d < 2 ^ 31) : nI a / nI d = nI (a / d) := by
  apply Int32.toInt_inj.mp
  rw [lg_idiv_nonneg (by rw [nI_toInt ha]; omega) (by rw [nI_toInt hd]; omega), nI_toInt ha, nI_toInt hd, nI_toInt (Nat.lt_of_le_of_lt (Nat.div_le_self a d) ha)]
  first | rfl | exact (Int.natCast_ediv _ _).symm
theorem pk_rem {a d : Nat} (ha : a < 2 ^ 31) (h0 : 0 < d) (hd : d < 2 ^ 31) : nI a - nI a / nI d * nI d = nI (a % d) := by
  rw [pk_div ha h0 hd, pk_mul, pk_sub (Nat.div_mul_le_self a d)]
  exact congrArg nI (by have := Nat.div_add_mod' a d; omega)
theorem pk_sub_toInt {a b : Nat} (ha : a < 2 ^ 30) (hb : b < 2 ^ 30) : (nI a - nI b).toInt = (a : Int) - b := by
  rw [Int32.toInt_sub, nI_toInt (by omega), nI_toInt (by omega)]
  exact Int.bmod_eq_of_le (by omega) (by omega)
theorem pk_sneg {a b : Nat} (hb : b < 2 ^ 30) (h : a < b) : nI a - nI b < 0 := by
  rw [Int32.lt_iff_toInt_lt, pk_sub_toInt (by omega) hb, show (0 : Int32).toInt = 0 from by decide]
  omega
theorem pk_ix (x : Int32) {n : Nat} (hn : n < 2 ^ 31) : x < 0 ∨ nI n ≤ x ∨ ∃ j : Nat, j < n ∧ x = nI j := by
  by_cases h : x < 0
  · exact Or.inl h
  · obtain ⟨j, hj, rfl⟩ := nI_of h
    by_cases h2 : j < n
    · exact Or.inr (Or.inr ⟨j, h2, rfl⟩)
    · exact Or.inr (Or.inl (nI_le (by omega) hj))
theorem pk_le {x y : Int32} {A B : Prop} (a b : Nat) (f : a ≤ b → A) (g : b < a → B) (hx : x = nI a := by rfl) (hy : y = nI b := by rfl) (ha : a < 2 ^ 31 := by omega) (hb : b < 2 ^ 31 := by omega) : (x ≤ y → A) ∧ (¬ x ≤ y → B) := by
  subst hx hy
  rw [nI_leI ha hb]
  exact ⟨f, fun z => g (by omega)⟩
theorem pk_lt {x y : Int32} {A B : Prop} (a b : Nat) (f : a < b → A) (g : b ≤ a → B) (hx : x = nI a := by rfl) (hy : y = nI b := by rfl) (ha : a < 2 ^ 31 := by omega) (hb : b < 2 ^ 31 := by omega) : (x < y → A) ∧ (¬ x < y → B) := by
  subst hx hy
  rw [nI_ltI ha hb]
  exact ⟨f, fun z => g (by omega)⟩
theorem pk_eq {x y : Int32} {A B : Prop} (a b : Nat) (f : a = b → A) (g : a ≠ b → B) (hx : x = nI a := by rfl) (hy : y = nI b := by rfl) (ha : a < 2 ^ 31 := by omega) (hb : b < 2 ^ 31 := by omega) : (x = y → A) ∧ (¬ x = y → B) := by
  subst hx hy
  rw [nI_eq ha hb]
  exact ⟨f, g⟩
theorem pk_in {x : Int32} (n N : Nat) (h : n < N) (hx : x = nI n := by rfl) (hN : N < 2 ^ 31 := by omega) : vp_in x N := by
  subst hx
  exact vp_in_nI h hN
theorem pk_cl {x : Int32} (n : Nat) (hx : x = nI n := by rfl) (h : n < 2 ^ 31 := by omega) : x.toNatClampNeg = n := by
  subst hx
  exact nI_clamp h
theorem pk_tn {n : Nat} (h : n < 2 ^ 32) : (nI n).toBitVec.toNat = n := Nat.mod_eq_of_lt h
theorem pk_and (x : Int32) {m : Int32} (k : Nat) (hm : m.toBitVec.toNat = 2 ^ k - 1) : x &&& m = nI (x.toBitVec.toNat % 2 ^ k) := by
  apply Int32.toBitVec_inj.mp
  apply BitVec.eq_of_toNat_eq
  rw [Int32.toBitVec_and, BitVec.toNat_and, hm, Nat.and_two_pow_sub_one_eq_mod]
  show _ = (BitVec.ofNat 32 _).toNat
  rw [BitVec.toNat_ofNat]
  exact (Nat.mod_eq_of_lt (Nat.lt_of_le_of_lt (Nat.mod_le _ _) x.toBitVec.isLt)).symm
theorem pk_andN {n : Nat} (h : n < 2 ^ 32) {m : Int32} (k : Nat) (hm : m.toBitVec.toNat = 2 ^ k - 1) : nI n &&& m = nI (n % 2 ^ k) := by
  rw [pk_and _ k hm, pk_tn h]
theorem pk_andE (x : Int32) {m : Int32} (k : Nat) (hm : m.toBitVec.toNat = 2 ^ k - 1) : ∃ j : Nat, j < 2 ^ k ∧ x &&& m = nI j := ⟨_, Nat.mod_lt _ (Nat.two_pow_pos k), pk_and x k hm⟩
theorem pk_andIn (x : Int32) {m : Int32} (k : Nat) (hm : m.toBitVec.toNat = 2 ^ k - 1) (hk : k ≤ 30) : vp_in (x &&& m) (2 ^ k) := by
  obtain ⟨j, hj, e⟩ := pk_andE x k hm
  rw [e]
  exact vp_in_nI hj (Nat.lt_of_le_of_lt (Nat.pow_le_pow_right (by decide) hk) (by decide))
theorem pk_shl (a s : Int32) (k : Nat) (hs : (s.toBitVec.smod 32).toNat = k) : (a <<< s).toBitVec.toNat = a.toBitVec.toNat * 2 ^ k % 2 ^ 32 := by
  show (a.toBitVec <<< (s.toBitVec.smod 32).toNat).toNat = _
  rw [hs, BitVec.toNat_shiftLeft, Nat.shiftLeft_eq]
theorem pk_shlN {n : Nat} (s : Int32) (k : Nat) (hs : (s.toBitVec.smod 32).toNat = k) (h : n * 2 ^ k < 2 ^ 32) : nI n <<< s = nI (n * 2 ^ k) := by
  apply Int32.toBitVec_inj.mp
  apply BitVec.eq_of_toNat_eq
  have hn : n < 2 ^ 32 := Nat.lt_of_le_of_lt (Nat.le_mul_of_pos_right n (Nat.two_pow_pos k)) h
  rw [pk_shl _ _ k hs, pk_tn hn, pk_tn h, Nat.mod_eq_of_lt h]
theorem pk_shr (a s : Int32) (k : Nat) (hs : (s.toBitVec.smod 32).toNat = k) : (a >>> s).toInt = a.toInt >>> k := by
  show (a.toBitVec.sshiftRight (s.toBitVec.smod 32).toNat).toInt = _
  rw [hs, BitVec.toInt_sshiftRight]
  rfl
theorem pk_shrN {n : Nat} (h : n < 2 ^ 31) (s : Int32) (k : Nat) (hs : (s.toBitVec.smod 32).toNat = k) : nI n >>> s = nI (n / 2 ^ k) := by
  apply Int32.toInt_inj.mp
  have h2 : n / 2 ^ k ≤ n := Nat.div_le_self _ _
  rw [pk_shr _ _ k hs, nI_toInt h, nI_toInt (by omega), Int.shiftRight_eq_div_pow]
  rfl
theorem pk_ushr (x s : Int32) (k : Nat) (hs : ((s.toUInt32 &&& Int32.toUInt32 31).toBitVec % 32).toNat = k) : (x.toUInt32 >>> (s.toUInt32 &&& Int32.toUInt32 31)).toInt32.toBitVec.toNat = x.toBitVec.toNat / 2 ^ k := by
  have e : (x.toUInt32 >>> (s.toUInt32 &&& Int32.toUInt32 31)).toInt32.toBitVec = x.toBitVec >>> k := by
    rw [← hs]
    exact UInt32.toBitVec_shiftRight _ _
  rw [e, BitVec.toNat_ushiftRight, Nat.shiftRight_eq_div_pow]
theorem pk_ushrN {n : Nat} (hn : n < 2 ^ 32) (s : Int32) (k : Nat) (hs : ((s.toUInt32 &&& Int32.toUInt32 31).toBitVec % 32).toNat = k) : ((nI n).toUInt32 >>> (s.toUInt32 &&& Int32.toUInt32 31)).toInt32 = nI (n / 2 ^ k) := by
  apply Int32.toBitVec_inj.mp
  apply BitVec.eq_of_toNat_eq
  rw [pk_ushr _ s k hs, pk_tn hn, pk_tn (Nat.lt_of_le_of_lt (Nat.div_le_self _ _) hn)]
theorem pk_nb (z : Int32) : narrow .byte (.int z.toInt8.toInt32) = .int z.toInt8.toInt32 := congrArg Value.int (by simp)
theorem pk_ns (z : Int32) : narrow .short (.int z.toInt16.toInt32) = .int z.toInt16.toInt32 := congrArg Value.int (by simp)
theorem pk_fb (r : Int32) : fits .byte (.int r.toInt8.toInt32) = true := by
  have ⟨a, b⟩ := lg_i2b_range r
  have h1 : (-128 : Int32).toInt = -128 := by decide
  have h2 : (127 : Int32).toInt = 127 := by decide
  simp only [fits, Bool.and_eq_true, decide_eq_true_eq, Int32.le_iff_toInt_le, h1, h2]
  omega
theorem pk_fs (r : Int32) : fits .short (.int r.toInt16.toInt32) = true := by
  have ⟨a, b⟩ := lg_i2s_range r
  have h1 : (-32768 : Int32).toInt = -32768 := by decide
  have h2 : (32767 : Int32).toInt = 32767 := by decide
  simp only [fits, Bool.and_eq_true, decide_eq_true_eq, Int32.le_iff_toInt_le, h1, h2]
  omega
theorem pk_charN {q : Nat} (hq : q < 65536) : narrow .char (.int (nI q)) = .int (nI q) ∧ fits .char (.int (nI q)) = true := by
  constructor
  · have e : (nI q).toUInt32.toUInt16.toUInt32.toInt32 = nI q := by
      apply Int32.toBitVec_inj.mp
      apply BitVec.eq_of_toNat_eq
      show (nI q).toUInt32.toUInt16.toUInt32.toNat = q % 2 ^ 32
      rw [UInt16.toNat_toUInt32, UInt32.toNat_toUInt16, show (nI q).toUInt32.toNat = q % 2 ^ 32 from rfl]
      omega
    exact congrArg Value.int e
  · have a : (0 : Int32) ≤ nI q := nI_pos' (by omega)
    have b : nI q ≤ 65535 := nI_le (b := 65535) (by omega) (by decide)
    show (decide ((0 : Int32) ≤ nI q) && decide (nI q ≤ 65535)) = true
    rw [decide_eq_true a, decide_eq_true b]
    rfl
theorem pk_char (x : Int32) : (x.toUInt32 % 65536).toInt32 = nI (x.toBitVec.toNat % 65536) := by
  apply Int32.toBitVec_inj.mp
  apply BitVec.eq_of_toNat_eq
  rw [pk_tn (by omega)]
  show (x.toUInt32 % 65536).toNat = _
  rw [UInt32.toNat_mod]
  rfl
theorem pk_nc (x : Int32) : narrow .char (.int (x.toUInt32 % 65536).toInt32) = .int (x.toUInt32 % 65536).toInt32 := by
  rw [pk_char]
  exact (pk_charN (Nat.mod_lt _ (by decide))).1
theorem pk_fc (x : Int32) : fits .char (.int (x.toUInt32 % 65536).toInt32) = true := by
  rw [pk_char]
  exact (pk_charN (Nat.mod_lt _ (by decide))).2
theorem pk_vb (z : Int32) : vp_nar .byte z.toInt8.toInt32 = z.toInt8.toInt32 := by rw [vp_nar_byte]; simp
theorem pk_vs (z : Int32) : vp_nar .short z.toInt16.toInt32 = z.toInt16.toInt32 := by rw [vp_nar_short]; simp
theorem pk_vc (z : Int32) : vp_nar .char (z.toUInt32 % 65536).toInt32 = (z.toUInt32 % 65536).toInt32 := Value.int.inj (pk_nc z)
theorem pk_lT {n : Nat} (h : n < 2 ^ 63) : (lN n).toInt = (n : Int) := lg_ofNat_toInt h
theorem pk_lLT {a b : Nat} (ha : a < 2 ^ 63) (hb : b < 2 ^ 63) : lN a < lN b ↔ a < b := by
  rw [Int64.lt_iff_toInt_lt, pk_lT ha, pk_lT hb]; omega
theorem pk_lLE {a b : Nat} (ha : a < 2 ^ 63) (hb : b < 2 ^ 63) : lN a ≤ lN b ↔ a ≤ b := by
  rw [Int64.le_iff_toInt_le, pk_lT ha, pk_lT hb]; omega
theorem pk_lEQ {a b : Nat} (ha : a < 2 ^ 63) (hb : b < 2 ^ 63) : lN a = lN b ↔ a = b := by
  rw [← Int64.toInt_inj, pk_lT ha, pk_lT hb]; omega
theorem pk_lOf {x : Int64} (h : ¬ x < 0) : ∃ k : Nat, k < 2 ^ 63 ∧ x = lN k := by
  rw [Int64.lt_iff_toInt_lt] at h
  have h0 : (0 : Int64).toInt = 0 := by decide
  have hx := Int64.toInt_lt x
  refine ⟨x.toInt.toNat, by omega, Int64.toInt_inj.mp ?_⟩
  rw [pk_lT (by omega)]
  omega
theorem pk_lDiv {a b : Nat} (ha : a < 2 ^ 63) (h0 : 0 < b) (hb : b < 2 ^ 63) : lN a / lN b = lN (a / b) := by
  apply Int64.toInt_inj.mp
  rw [lg_ldiv_nonneg (by rw [pk_lT ha]; omega) (by rw [pk_lT hb]; omega), pk_lT ha, pk_lT hb, pk_lT (Nat.lt_of_le_of_lt (Nat.div_le_self a b) ha)]
  rfl
theorem pk_lRem {a b : Nat} (ha : a < 2 ^ 63) (h0 : 0 < b) (hb : b < 2 ^ 63) : lN a - lN a / lN b * lN b = lN (a % b) := by
  rw [pk_lDiv ha h0 hb, lN_mul, lN_sub (Nat.div_mul_le_self a b)]
  exact congrArg lN (by have := Nat.div_add_mod' a b; omega)
theorem pk_loop {σ : Type} (W : Nat → Nat → σ → Prop) (I : Nat → σ → Prop) (e i0 : Nat) (s : σ) (hi : i0 ≤ e) (h0 : I i0 s) (hx : ∀ n s, I e s → W (n + 1) e s)
    (hs : ∀ n i s, i < e → I i s → (∀ s', I (i + 1) s' → W n (i + 1) s') → W (n + 1) i s) : ∃ n, W n i0 s :=
  ⟨e + 1, loop_i W I e hx hs (e + 1) i0 s hi (by omega) h0⟩
theorem pk_loopD {σ : Type} (W : Nat → Nat → σ → Prop) (I : Nat → σ → Prop) (hx : ∀ n s, I 0 s → W (n + 1) 0 s)
    (hs : ∀ n i s, I (i + 1) s → (∀ s', I i s' → W n i s') → W (n + 1) (i + 1) s) : ∀ (e : Nat) (s : σ), I e s → W (e + 1) e s := by
  intro e
  induction e with
  | zero => exact fun s h => hx 0 s h
  | succ e ih => exact fun s h => hs (e + 1) e s h (fun s' h' => ih s' h')
theorem pk_least (P : Nat → Prop) (h : ∃ k, P k) : ∃ k, P k ∧ ∀ j, j < k → ¬ P j := by
  obtain ⟨k, hk⟩ := h
  induction k using Nat.strongRecOn with
  | ind k ih =>
    by_cases e : ∃ j, j < k ∧ P j
    · obtain ⟨j, hj, pj⟩ := e
      exact ih j hj pj
    · exact ⟨k, hk, fun j hj pj => e ⟨j, hj, pj⟩⟩
/-! ===== Int32 by its bits: bt x i ===== -/
def bt (x : Int32) (i : Nat) : Bool := x.toBitVec.getLsbD i
theorem b_ext {x y : Int32} (h : ∀ i, i < 32 → bt x i = bt y i) : x = y := Int32.toBitVec_inj.mp (BitVec.eq_of_getLsbD_eq (fun i hi => h i hi))
theorem b_or (x y : Int32) (i : Nat) : bt (x ||| y) i = (bt x i || bt y i) := by unfold bt; rw [Int32.toBitVec_or, BitVec.getLsbD_or]
theorem b_and (x y : Int32) (i : Nat) : bt (x &&& y) i = (bt x i && bt y i) := by unfold bt; rw [Int32.toBitVec_and, BitVec.getLsbD_and]
theorem b_xor (x y : Int32) (i : Nat) : bt (x ^^^ y) i = (bt x i ^^ bt y i) := by unfold bt; rw [Int32.toBitVec_xor, BitVec.getLsbD_xor]
theorem b_big {x : Int32} {i : Nat} (h : 32 ≤ i) : bt x i = false := BitVec.getLsbD_of_ge _ _ h
theorem b_255 (i : Nat) : bt 255 i = decide (i < 8) := by
  rcases Nat.lt_or_ge i 32 with h | h
  · exact (by decide +kernel : ∀ i, i < 32 → bt 255 i = decide (i < 8)) i h
  · rw [b_big h, decide_eq_false (by omega)]
theorem b_65535 (i : Nat) : bt 65535 i = decide (i < 16) := by
  rcases Nat.lt_or_ge i 32 with h | h
  · exact (by decide +kernel : ∀ i, i < 32 → bt 65535 i = decide (i < 16)) i h
  · rw [b_big h, decide_eq_false (by omega)]
theorem b_m1 : ∀ i, i < 32 → bt (-1) i = true := by decide +kernel
theorem b_0 (i : Nat) : bt 0 i = false := BitVec.getLsbD_zero
theorem s_l : ∀ n, n < 32 → ((nI n &&& 31).toBitVec.smod 32).toNat = n := by decide +kernel
theorem s_u : ∀ n, n < 32 → (((nI n).toUInt32 &&& Int32.toUInt32 31).toBitVec % 32).toNat = n := by decide +kernel
theorem b_shl (n : Nat) (hn : n < 32) (x : Int32) {i : Nat} (hi : i < 32) : bt (x <<< (nI n &&& 31)) i = (decide (n ≤ i) && bt x (i - n)) := by
  unfold bt
  rw [Int32.toBitVec_shiftLeft]
  show (x.toBitVec <<< ((nI n &&& 31).toBitVec.smod 32).toNat).getLsbD i = _
  rw [s_l n hn, BitVec.getLsbD_shiftLeft]
  rcases Nat.lt_or_ge i n with h | h
  · simp [h, Nat.not_le.mpr h]
  · simp [hi, h, Nat.not_lt.mpr h]
theorem b_ushr (n : Nat) (hn : n < 32) (x : Int32) (i : Nat) : bt ((x.toUInt32 >>> ((nI n).toUInt32 &&& Int32.toUInt32 31)).toInt32) i = bt x (n + i) := by
  show (x.toUInt32 >>> ((nI n).toUInt32 &&& Int32.toUInt32 31)).toBitVec.getLsbD i = x.toUInt32.toBitVec.getLsbD (n + i)
  rw [UInt32.toBitVec_shiftRight]
  show (x.toUInt32.toBitVec >>> (((nI n).toUInt32 &&& Int32.toUInt32 31).toBitVec % 32).toNat).getLsbD i = _
  rw [s_u n hn, BitVec.getLsbD_ushiftRight]
theorem b_sshr (n : Nat) (hn : n < 32) (x : Int32) {i : Nat} (hi : i < 32) : bt (x >>> (nI n &&& 31)) i = if n + i < 32 then bt x (n + i) else bt x 31 := by
  unfold bt
  rw [Int32.toBitVec_shiftRight]
  show (x.toBitVec.sshiftRight ((nI n &&& 31).toBitVec.smod 32).toNat).getLsbD i = _
  rw [s_l n hn, BitVec.getLsbD_sshiftRight, BitVec.msb_eq_getLsbD_last]
  simp [hi]
theorem b_shl8 (x : Int32) {i : Nat} (hi : i < 32) : bt (x <<< ((8 : Int32) &&& 31)) i = (decide (8 ≤ i) && bt x (i - 8)) := b_shl 8 (by omega) x hi
theorem b_shl16 (x : Int32) {i : Nat} (hi : i < 32) : bt (x <<< ((16 : Int32) &&& 31)) i = (decide (16 ≤ i) && bt x (i - 16)) := b_shl 16 (by omega) x hi
theorem b_shl24 (x : Int32) {i : Nat} (hi : i < 32) : bt (x <<< ((24 : Int32) &&& 31)) i = (decide (24 ≤ i) && bt x (i - 24)) := b_shl 24 (by omega) x hi
theorem b_sshr8 (x : Int32) {i : Nat} (hi : i < 32) : bt (x >>> ((8 : Int32) &&& 31)) i = if 8 + i < 32 then bt x (8 + i) else bt x 31 := b_sshr 8 (by omega) x hi
/-! ===== nI under and, xor, >>>, one bit, 65535 ===== -/
theorem nx_and (a b : Nat) : nI a &&& nI b = nI (a &&& b) := by
  apply Int32.toBitVec_inj.1
  show BitVec.ofNat 32 a &&& BitVec.ofNat 32 b = BitVec.ofNat 32 (a &&& b)
  apply BitVec.eq_of_getLsbD_eq
  intro i hi
  simp [hi]
theorem nx_xor (a b : Nat) : nI a ^^^ nI b = nI (a ^^^ b) := by
  apply Int32.toBitVec_inj.1
  show BitVec.ofNat 32 a ^^^ BitVec.ofNat 32 b = BitVec.ofNat 32 (a ^^^ b)
  apply BitVec.eq_of_getLsbD_eq
  intro i hi
  simp [hi]
/-! ===== Int64 as a set of bits: test, set, clear ===== -/
theorem ts_nf {x : Bool} (h : ¬ x = false) : x = true := by cases x <;> first | rfl | exact absurd rfl h
theorem ts_nt {x : Bool} (h : ¬ x = true) : x = false := by cases x <;> first | rfl | exact absurd rfl h
theorem ts_bit {w : Int64} {s : UInt64} {j : Nat} (hj : j < 64) (hs : s.toNat = j) : ((w.toUInt64 >>> s).toInt64 &&& 1) = 0 ↔ w.toBitVec.getLsbD j = false := by
  have e : (w.toUInt64 >>> s).toInt64.toBitVec = w.toBitVec >>> j := by
    apply BitVec.eq_of_toNat_eq
    show (w.toUInt64 >>> s).toNat = _
    rw [UInt64.toNat_shiftRight, hs, Nat.mod_eq_of_lt hj, BitVec.toNat_ushiftRight]
    rfl
  rw [← Int64.toBitVec_inj, Int64.toBitVec_and, e]
  show w.toBitVec >>> j &&& 1#64 = 0#64 ↔ _
  constructor
  · intro h
    have t := congrArg (fun x => x.getLsbD 0) h
    simpa using t
  · intro h
    apply BitVec.eq_of_getLsbD_eq
    intro i hi
    cases i with
    | zero => simp [h]
    | succ i => simp
theorem ts_or {w m : Int64} {j : Nat} (hj : j < 64) (hm : m.toBitVec = BitVec.twoPow 64 j) : (w ||| m) = w ↔ w.toBitVec.getLsbD j = true := by
  rw [← Int64.toBitVec_inj, Int64.toBitVec_or, hm]
  constructor
  · intro h
    have t := congrArg (fun x => x.getLsbD j) h
    simp only [BitVec.getLsbD_or, BitVec.getLsbD_twoPow] at t
    simpa [hj] using t.symm
  · intro h
    apply BitVec.eq_of_getLsbD_eq
    intro i hi
    rw [BitVec.getLsbD_or, BitVec.getLsbD_twoPow]
    by_cases e : j = i
    · subst e; rw [h, Bool.true_or]
    · simp [e]
theorem ts_and {w m : Int64} {j : Nat} (hj : j < 64) (hm : m.toBitVec = BitVec.twoPow 64 j) : (w &&& (m ^^^ (-1))) = w ↔ w.toBitVec.getLsbD j = false := by
  have ha : (-1 : Int64).toBitVec = BitVec.allOnes 64 := by decide
  rw [← Int64.toBitVec_inj, Int64.toBitVec_and, Int64.toBitVec_xor, hm, ha]
  constructor
  · intro h
    have t := congrArg (fun x => x.getLsbD j) h
    simp only [BitVec.getLsbD_and, BitVec.getLsbD_xor, BitVec.getLsbD_twoPow, BitVec.getLsbD_allOnes] at t
    simpa [hj] using t.symm
  · intro h
    apply BitVec.eq_of_getLsbD_eq
    intro i hi
    rw [BitVec.getLsbD_and, BitVec.getLsbD_xor, BitVec.getLsbD_twoPow, BitVec.getLsbD_allOnes]
    by_cases e : j = i
    · subst e; rw [h, Bool.false_and]
    · simp [e, hi]
/-! ===== lN n to 2^64: shifts, and, or, masks, one bit ===== -/
theorem wb_tb (n : Nat) : (lN n).toBitVec = BitVec.ofNat 64 n := rfl
theorem wb_inj {a b : Int64} (h : a.toBitVec = b.toBitVec) : a = b := Int64.toBitVec_inj.mp h
theorem wb_tn {n : Nat} (h : n < 2 ^ 64) : (lN n).toBitVec.toNat = n := by rw [wb_tb, BitVec.toNat_ofNat, Nat.mod_eq_of_lt h]
theorem wb_of (x : Int64) : ∃ n, n < 2 ^ 64 ∧ x = lN n := ⟨x.toBitVec.toNat, x.toBitVec.isLt, wb_inj (by rw [wb_tb]; simp)⟩
theorem wb_of32 (x : Int32) : ∃ n, n < 2 ^ 32 ∧ x = nI n := ⟨x.toBitVec.toNat, x.toBitVec.isLt, Int32.toBitVec_inj.mp (by show _ = BitVec.ofNat 32 _; simp)⟩
theorem wb_c : ∀ k, k < 64 → ((nI k).toInt64 &&& 63) = lN k := by decide +kernel
theorem wb_cu : ∀ k, k < 64 → ((nI k).toInt64.toUInt64 &&& Int64.toUInt64 63) = UInt64.ofNat k := by decide +kernel
theorem wb_sm : ∀ k, k < 64 → (BitVec.ofNat 64 k).smod 64 = BitVec.ofNat 64 k := by decide +kernel
theorem wb_pw {a b : Nat} (h : a ≤ b) : 2 ^ b = 2 ^ a * 2 ^ (b - a) := by rw [← Nat.pow_add]; congr 1; omega
theorem wb_lt2 {a b : Nat} (h : a < b) : 2 ^ a < 2 ^ b := Nat.pow_lt_pow_right (by decide) h
theorem wb_mod (n : Nat) : lN n = lN (n % 2 ^ 64) := wb_inj (by rw [wb_tb, wb_tb]; apply BitVec.eq_of_toNat_eq; rw [BitVec.toNat_ofNat, BitVec.toNat_ofNat, Nat.mod_mod])
theorem wb_shr {n k : Nat} (hn : n < 2 ^ 64) (hk : k < 64) : ((lN n).toUInt64 >>> ((nI k).toInt64.toUInt64 &&& Int64.toUInt64 63)).toInt64 = lN (n / 2 ^ k) := by
  rw [wb_cu k hk]
  apply wb_inj
  apply BitVec.eq_of_toNat_eq
  show ((lN n).toUInt64 >>> UInt64.ofNat k).toNat = (BitVec.ofNat 64 _).toNat
  have h1 : (UInt64.ofNat k).toNat = k := by
    show (BitVec.ofNat 64 k).toNat = k
    rw [BitVec.toNat_ofNat, Nat.mod_eq_of_lt (by omega)]
  have h2 : (lN n).toUInt64.toNat = n := wb_tn hn
  rw [UInt64.toNat_shiftRight, h1, h2, Nat.mod_eq_of_lt hk, Nat.shiftRight_eq_div_pow, BitVec.toNat_ofNat, Nat.mod_eq_of_lt (Nat.lt_of_le_of_lt (Nat.div_le_self _ _) hn)]
theorem wb_shl (n : Nat) {k : Nat} (hk : k < 64) : lN n <<< ((nI k).toInt64 &&& 63) = lN (n * 2 ^ k) := by
  rw [wb_c k hk]
  apply wb_inj
  rw [Int64.toBitVec_shiftLeft, wb_tb, wb_tb, wb_tb, wb_sm k hk]
  apply BitVec.eq_of_toNat_eq
  rw [BitVec.shiftLeft_eq', BitVec.toNat_shiftLeft, BitVec.toNat_ofNat, BitVec.toNat_ofNat, BitVec.toNat_ofNat, Nat.mod_eq_of_lt (show k < 2 ^ 64 by omega), Nat.shiftLeft_eq, Nat.mul_mod, Nat.mod_mod, ← Nat.mul_mod]
theorem wb_and {a b : Nat} (ha : a < 2 ^ 64) (hb : b < 2 ^ 64) : lN a &&& lN b = lN (a &&& b) := by
  apply wb_inj
  rw [Int64.toBitVec_and, wb_tb, wb_tb, wb_tb]
  apply BitVec.eq_of_toNat_eq
  rw [BitVec.toNat_and, BitVec.toNat_ofNat, BitVec.toNat_ofNat, BitVec.toNat_ofNat, Nat.mod_eq_of_lt ha, Nat.mod_eq_of_lt hb, Nat.mod_eq_of_lt (Nat.and_lt_two_pow _ hb)]
theorem wb_or {a b : Nat} (ha : a < 2 ^ 64) (hb : b < 2 ^ 64) : lN a ||| lN b = lN (a ||| b) := by
  apply wb_inj
  rw [Int64.toBitVec_or, wb_tb, wb_tb, wb_tb]
  apply BitVec.eq_of_toNat_eq
  rw [BitVec.toNat_or, BitVec.toNat_ofNat, BitVec.toNat_ofNat, BitVec.toNat_ofNat, Nat.mod_eq_of_lt ha, Nat.mod_eq_of_lt hb, Nat.mod_eq_of_lt (Nat.or_lt_two_pow ha hb)]
theorem wb_mask {n k : Nat} (hn : n < 2 ^ 64) (hk : k < 64) : lN n &&& lN (2 ^ k - 1) = lN (n % 2 ^ k) := by
  rw [wb_and hn (by have := wb_lt2 hk; omega), Nat.and_two_pow_sub_one_eq_mod]
theorem wb_a1 {n : Nat} (hn : n < 2 ^ 64) : lN n &&& 1 = lN (n % 2) := wb_mask (k := 1) hn (by decide)
theorem wb_bit {n k : Nat} (hn : n < 2 ^ 64) (hk : k < 64) : ((lN n).toUInt64 >>> ((nI k).toInt64.toUInt64 &&& Int64.toUInt64 63)).toInt64 &&& 1 = lN (n / 2 ^ k % 2) := by
  rw [wb_shr hn hk, wb_a1 (Nat.lt_of_le_of_lt (Nat.div_le_self _ _) hn)]
end
section
/-! numbers and bits -/
theorem zk_t0 : (0 : Int32).toInt = 0 := by decide
theorem zk_tm1 : (-1 : Int32).toInt = -1 := by decide
theorem zk_ne {n : Nat} (h : n < 2 ^ 31) : ¬ nI n = -1 := by
  intro e
  have e2 := congrArg Int32.toInt e
  rw [nI_toInt h, zk_tm1] at e2
  omega
theorem zk_neg : (-1 : Int32) < 0 := by decide
theorem zk_nge : ¬ (0 : Int32) ≤ -1 := by decide
theorem zk_01 : ¬ (1 : Int32) = 0 := by decide
theorem zk_10 : ¬ (0 : Int32) = 1 := by decide
theorem zk_b1 : ∀ i, i < 32 → bt 1 i = decide (i = 0) := by decide +kernel
theorem zk_bit (x : Int32) {j : Nat} (hj : j < 32) : ((x >>> (nI j &&& 31)) &&& 1) = 0 ↔ bt x j = false := by
  constructor
  · intro h
    have e := congrArg (fun z => bt z 0) h
    rw [b_and, b_0, zk_b1 0 (by omega), b_sshr j hj x (by omega)] at e
    simpa [hj] using e
  · intro h
    apply b_ext
    intro i hi
    rw [b_and, b_0, zk_b1 i hi]
    by_cases e : i = 0
    · subst e; rw [b_sshr j hj x hi]; simp [hj, h]
    · simp [e]
theorem zk_a1 (x : Int32) : (x &&& 1) = 0 ∨ (x &&& 1) = 1 := by
  obtain ⟨j, hj, e⟩ := pk_andE x (m := 1) 1 (by decide)
  have : j = 0 ∨ j = 1 := by omega
  rcases this with z | z
  · left; rw [e, z]; exact nI_0
  · right; rw [e, z]; rfl
theorem zk_bit1 (x : Int32) {j : Nat} (hj : j < 32) : ((x >>> (nI j &&& 31)) &&& 1) = 1 ↔ bt x j = true := by
  rcases zk_a1 (x >>> (nI j &&& 31)) with h | h
  · have e := (zk_bit x hj).mp h
    rw [h, e]
    exact ⟨fun z => absurd z zk_10, fun z => absurd z (by decide)⟩
  · have e : ¬ bt x j = false := fun z => by rw [(zk_bit x hj).mpr z] at h; exact zk_10 h
    rw [h]
    exact ⟨fun _ => ts_nf e, fun _ => rfl⟩
theorem zk_set (x : Int32) {i j : Nat} (hi : i < 32) (hj : j < 32) : bt (x ||| ((1 : Int32) <<< (nI j &&& 31))) i = (bt x i || decide (i = j)) := by
  rw [b_or, b_shl j hj 1 hi, zk_b1 (i - j) (by omega)]
  by_cases e : i = j
  · subst e; simp
  · rcases Nat.lt_or_ge i j with h | h
    · simp [e, Nat.not_le.mpr h]
    · simp [e, h, show ¬ i - j = 0 by omega]
theorem zk_clr (x : Int32) {i j : Nat} (hi : i < 32) (hj : j < 32) : bt (x &&& (((1 : Int32) <<< (nI j &&& 31)) ^^^ (-1))) i = (bt x i && !decide (i = j)) := by
  rw [b_and, b_xor, b_m1 i hi, b_shl j hj 1 hi, zk_b1 (i - j) (by omega)]
  by_cases e : i = j
  · subst e; simp
  · rcases Nat.lt_or_ge i j with h | h
    · simp [e, Nat.not_le.mpr h]
    · simp [e, h, show ¬ i - j = 0 by omega]
theorem zk_tp : ∀ s, s < 64 → ((1 : Int64) <<< ((nI s).toInt64 &&& 63)).toBitVec = BitVec.twoPow 64 s := by decide +kernel
def bl (x : Int64) (i : Nat) : Bool := x.toBitVec.getLsbD i
theorem zk_lset (x : Int64) {s i : Nat} (hs : s < 64) (hi : i < 64) : bl (x ||| ((1 : Int64) <<< ((nI s).toInt64 &&& 63))) i = (bl x i || decide (i = s)) := by
  unfold bl
  rw [Int64.toBitVec_or, BitVec.getLsbD_or, zk_tp s hs, BitVec.getLsbD_twoPow]
  by_cases e : i = s
  · subst e; simp [hs]
  · simp [e, Ne.symm e]
theorem zk_lclr (x : Int64) {s i : Nat} (hs : s < 64) (hi : i < 64) : bl (x &&& (((1 : Int64) <<< ((nI s).toInt64 &&& 63)) ^^^ (-1))) i = (bl x i && !decide (i = s)) := by
  have ha : (-1 : Int64).toBitVec = BitVec.allOnes 64 := by decide
  unfold bl
  rw [Int64.toBitVec_and, BitVec.getLsbD_and, Int64.toBitVec_xor, BitVec.getLsbD_xor, zk_tp s hs, BitVec.getLsbD_twoPow, ha, BitVec.getLsbD_allOnes]
  by_cases e : i = s
  · subst e; simp [hs]
  · simp [e, Ne.symm e, hi]
theorem zk_ltst (w : Int64) {k : Nat} (hk : k < 64) : ((w.toUInt64 >>> ((nI k).toInt64.toUInt64 &&& Int64.toUInt64 63)).toInt64 &&& 1) = 0 ↔ bl w k = false :=
  ts_bit hk (by rw [wb_cu k hk]; exact Nat.mod_eq_of_lt (by omega))
theorem zk_lzero (w : Int64) : w = 0 ↔ ∀ i, i < 64 → bl w i = false := by
  constructor
  · intro h i hi
    subst h
    exact BitVec.getLsbD_zero
  · intro h
    apply wb_inj
    apply BitVec.eq_of_getLsbD_eq
    intro i hi
    exact (h i hi).trans BitVec.getLsbD_zero.symm
theorem zk_l0 (i : Nat) : bl 0 i = false := BitVec.getLsbD_zero
theorem zk_tb {S f : Nat} (hf : f < 32) : bt (nI S) f = S.testBit f := by
  unfold bt nI
  show (BitVec.ofNat 32 S).getLsbD f = _
  rw [BitVec.getLsbD_ofNat]
  simp [hf]
theorem zk_tst {S f : Nat} (hf : f < 32) : ((nI S >>> (nI f &&& 31)) &&& 1) = 0 ↔ S.testBit f = false := by
  rw [zk_bit _ hf, zk_tb hf]
theorem zk_tst1 {S f : Nat} (hf : f < 32) : ((nI S >>> (nI f &&& 31)) &&& 1) = 1 ↔ S.testBit f = true := by
  rw [zk_bit1 _ hf, zk_tb hf]
theorem zk_high {S k i : Nat} (h : S < 2 ^ k) (hi : k ≤ i) : S.testBit i = false :=
  Nat.testBit_lt_two_pow (Nat.lt_of_lt_of_le h (Nat.pow_le_pow_right (by decide) hi))
theorem zk_lowk {S k i : Nat} (h : S < 2 ^ k) (hi : S.testBit i = true) : i < k := by
  rcases Nat.lt_or_ge i k with z | z
  · exact z
  · rw [zk_high h z] at hi; exact absurd hi (by decide)
/-- x stored into a byte or a short -/
theorem zk_i8 {n : Nat} (h : n < 128) : (nI n).toInt8.toInt32 = nI n := by
  exact (by decide +kernel : ∀ n, n < 128 → (nI n).toInt8.toInt32 = nI n) n h
theorem zk_i16 {n : Nat} (h : n < 32768) : (nI n).toInt16.toInt32 = nI n := by
  apply Int32.toInt_inj.mp
  rw [Int16.toInt_toInt32, Int32.toInt_toInt16, nI_toInt (by omega)]
  exact Int.bmod_eq_of_le (by omega) (by omega)
theorem zk_vb {n : Nat} (h : n < 128) : vp_nar .byte (nI n).toInt8.toInt32 = nI n := by rw [pk_vb, zk_i8 h]
theorem zk_vb' {n : Nat} (h : n < 128) : vp_nar .byte (nI n) = nI n := by rw [vp_nar_byte, zk_i8 h]
theorem zk_vs {n : Nat} (h : n < 32768) : vp_nar .short (nI n).toInt16.toInt32 = nI n := by rw [pk_vs, zk_i16 h]
theorem zk_vbm : vp_nar .byte (-1) = -1 := by rw [vp_nar_byte]; decide
theorem zk_vsm : vp_nar .short (-1) = -1 := by rw [vp_nar_short]; decide
theorem zk_vbmm : vp_nar .byte ((-1 : Int32).toInt8.toInt32) = -1 := by rw [pk_vb]; decide
theorem zk_vb0 : vp_nar .byte 0 = 0 := by rw [vp_nar_byte]; decide
theorem zk_vz0 : vp_nar .boolean 0 = 0 := rfl
theorem zk_vz1 : vp_nar .boolean 1 = 1 := rfl
theorem zk_i1 : nI 1 = 1 := rfl
theorem zk_dv {a : Nat} {d : Nat} {D : Int32} (ha : a < 2 ^ 31) (h0 : 0 < d) (hd : d < 2 ^ 31) (hD : D = nI d) : nI a / D = nI (a / d) := by rw [hD]; exact pk_div ha h0 hd
theorem zk_rm {a : Nat} {d : Nat} {D : Int32} (ha : a < 2 ^ 31) (h0 : 0 < d) (hd : d < 2 ^ 31) (hD : D = nI d) : nI a - nI a / D * D = nI (a % d) := by rw [hD]; exact pk_rem ha h0 hd
theorem zk_d10 {a : Nat} (ha : a < 2 ^ 31) : nI a / 10 = nI (a / 10) := zk_dv ha (by decide) (by decide) rfl
theorem zk_d80 {a : Nat} (ha : a < 2 ^ 31) : nI a / 80 = nI (a / 80) := zk_dv ha (by decide) (by decide) rfl
theorem zk_d800 {a : Nat} (ha : a < 2 ^ 31) : nI a / 800 = nI (a / 800) := zk_dv ha (by decide) (by decide) rfl
theorem zk_r10 {a : Nat} (ha : a < 2 ^ 31) : nI a - nI a / 10 * 10 = nI (a % 10) := zk_rm ha (by decide) (by decide) rfl
theorem zk_r8 {a : Nat} (ha : a < 2 ^ 31) : nI a - nI a / 8 * 8 = nI (a % 8) := zk_rm ha (by decide) (by decide) rfl
theorem zk_r7 {a : Nat} (ha : a < 2 ^ 31) : nI a - nI a / 7 * 7 = nI (a % 7) := zk_rm ha (by decide) (by decide) rfl
theorem zk_r4 {a : Nat} (ha : a < 2 ^ 31) : nI a - nI a / 4 * 4 = nI (a % 4) := zk_rm ha (by decide) (by decide) rfl
theorem zk_n10 : ¬ (10 : Int32) = 0 := by decide
theorem zk_n8 : ¬ (8 : Int32) = 0 := by decide
theorem zk_n7 : ¬ (7 : Int32) = 0 := by decide
theorem zk_n4 : ¬ (4 : Int32) = 0 := by decide
theorem zk_n80 : ¬ (80 : Int32) = 0 := by decide
theorem zk_n800 : ¬ (800 : Int32) = 0 := by decide
end
section
/-! the calendar, plain -/
def zk_dy (da mo wd d : Nat) : Bool := mo.testBit (d / 10 % 4) && (if da = 1023 ∨ wd = 127 then da.testBit (d % 10) && wd.testBit (d % 7) else da.testBit (d % 10) || wd.testBit (d % 7))
def zk_ft (mi ho da mo wd t : Nat) : Bool := (mi.testBit (t % 10) && ho.testBit (t / 10 % 8)) && zk_dy da mo wd (t / 80)
theorem zk_dy_per (da mo wd d : Nat) : zk_dy da mo wd (d + 280) = zk_dy da mo wd d := by
  unfold zk_dy
  rw [show (d + 280) / 10 % 4 = d / 10 % 4 by omega, show (d + 280) % 10 = d % 10 by omega, show (d + 280) % 7 = d % 7 by omega]
theorem zk_dy_all {da mo wd b : Nat} (h : ∀ d, b < d → d < b + 282 → zk_dy da mo wd d = false) : ∀ d, b < d → zk_dy da mo wd d = false := by
  have key : ∀ n d, d < b + 282 + 280 * n → b < d → zk_dy da mo wd d = false := by
    intro n
    induction n with
    | zero => intro d h1 h2; exact h d h2 (by omega)
    | succ n ih =>
      intro d h1 h2
      rcases Nat.lt_or_ge d (b + 282) with z | z
      · exact h d h2 z
      · obtain ⟨e, rfl⟩ : ∃ e, d = e + 280 := ⟨d - 280, by omega⟩
        rw [zk_dy_per]
        exact ih e (by omega) (by omega)
  intro d h1
  exact key d d (by omega) h1
/-- what 'from' answers -/
def zk_fr (S a : Nat) (r : Int32) : Prop := (r = -1 ∧ ∀ i, a ≤ i → S.testBit i = false) ∨ ∃ k, r = nI k ∧ a ≤ k ∧ S.testBit k = true ∧ ∀ i, a ≤ i → i < k → S.testBit i = false
/-- what 'search' answers -/
def zk_nx (mi ho da mo wd t : Nat) (r : Int32) : Prop := (r = -1 ∧ ∀ s, t < s → zk_ft mi ho da mo wd s = false) ∨ ∃ n, r = nI n ∧ t < n ∧ n < t + 23000 ∧ zk_ft mi ho da mo wd n = true ∧ ∀ s, t < s → s < n → zk_ft mi ho da mo wd s = false
/-- hour and minute that are left of the day b -/
def zk_td (mi ho t b : Nat) (h m : Int32) : Prop :=
  (h = -1 ∧ ∀ s, t < s → s / 80 = b → (mi.testBit (s % 10) && ho.testBit (s / 10 % 8)) = false) ∨
  ∃ H M, h = nI H ∧ m = nI M ∧ H < 8 ∧ M < 10 ∧ (mi.testBit M && ho.testBit H) = true ∧ t < 80 * b + 10 * H + M ∧ ∀ s, t < s → s < 80 * b + 10 * H + M → (mi.testBit (s % 10) && ho.testBit (s / 10 % 8)) = false
theorem zk_td_day {mi ho da mo wd t b : Nat} (hm : mi < 1024) (hh : ho < 256) {h m : Int32} (hb : (t + 1) / 80 = b) {H M : Nat} (e1 : h = nI H) (e2 : m = nI M) (hH : H < 8) (hM : M < 10) (e : (mi.testBit M && ho.testBit H) = true) (ht : t < 80 * b + 10 * H + M)
    (hn : ∀ s, t < s → s < 80 * b + 10 * H + M → (mi.testBit (s % 10) && ho.testBit (s / 10 % 8)) = false) (hd : zk_dy da mo wd b = true) : zk_nx mi ho da mo wd t (nI (80 * b + 10 * H + M)) := by
  refine Or.inr ⟨_, rfl, ht, by omega, ?_, fun s h1 h2 => ?_⟩
  · unfold zk_ft
    rw [show (80 * b + 10 * H + M) % 10 = M by omega, show (80 * b + 10 * H + M) / 10 % 8 = H by omega, show (80 * b + 10 * H + M) / 80 = b by omega, e, hd]
    rfl
  · unfold zk_ft
    rw [hn s h1 h2, Bool.false_and]
/-- no day from the day behind b to the day d, that day fits -/
theorem zk_td_next {mi ho da mo wd t b d H M : Nat} (hb : (t + 1) / 80 = b) (h0 : ∀ s, t < s → s / 80 = b → zk_ft mi ho da mo wd s = false) (hH : H < 8) (hM : M < 10) (eH : ho.testBit H = true) (eM : mi.testBit M = true)
    (nH : ∀ i, i < H → ho.testBit i = false) (nM : ∀ i, i < M → mi.testBit i = false) (hbd : b < d) (hd : d < b + 282) (h1 : ∀ x, b < x → x < d → zk_dy da mo wd x = false) (h2 : zk_dy da mo wd d = true) : zk_nx mi ho da mo wd t (nI (80 * d + 10 * H + M)) := by
  refine Or.inr ⟨_, rfl, by omega, by omega, ?_, fun s h3 h4 => ?_⟩
  · unfold zk_ft
    rw [show (80 * d + 10 * H + M) % 10 = M by omega, show (80 * d + 10 * H + M) / 10 % 8 = H by omega, show (80 * d + 10 * H + M) / 80 = d by omega, eH, eM, h2]
    rfl
  · rcases Nat.lt_trichotomy (s / 80) b with z | z | z
    · omega
    · exact h0 s h3 z
    · rcases Nat.lt_or_ge (s / 80) d with y | y
      · unfold zk_ft; rw [h1 _ z y, Bool.and_false]
      · unfold zk_ft
        rcases Nat.lt_or_ge (s / 10 % 8) H with w | w
        · rw [nH _ w, Bool.and_false, Bool.false_and]
        · rw [nM (s % 10) (by omega), Bool.false_and, Bool.false_and]
theorem zk_td_none {mi ho da mo wd t b : Nat} (hb : (t + 1) / 80 = b) (h0 : ∀ s, t < s → s / 80 = b → zk_ft mi ho da mo wd s = false) (h1 : ∀ x, b < x → x < b + 282 → zk_dy da mo wd x = false) : zk_nx mi ho da mo wd t (-1) := by
  refine Or.inl ⟨rfl, fun s h3 => ?_⟩
  rcases Nat.lt_trichotomy (s / 80) b with z | z | z
  · omega
  · exact h0 s h3 z
  · unfold zk_ft; rw [zk_dy_all h1 _ z, Bool.and_false]
/-- the hour of now has a minute left -/
theorem zk_td_a {mi ho t b H M : Nat} (hh : ho < 256) (hm : mi < 1024) (hb : (t + 1) / 80 = b) (eH : H = (t + 1) / 10 % 8) (bH : ho.testBit H = true) (gM : (t + 1) % 10 ≤ M) (bM : mi.testBit M = true) (nM : ∀ i, (t + 1) % 10 ≤ i → i < M → mi.testBit i = false) : zk_td mi ho t b (nI H) (nI M) := by
  have hM : M < 10 := zk_lowk (k := 10) hm bM
  refine Or.inr ⟨H, M, rfl, rfl, by omega, hM, by rw [bH, bM]; rfl, by omega, fun s h1 h2 => ?_⟩
  rw [nM (s % 10) (by omega) (by omega), Bool.false_and]
/-- a later hour, from its first minute -/
theorem zk_td_b {mi ho t b H M : Nat} (hh : ho < 256) (hm : mi < 1024) (hb : (t + 1) / 80 = b) (gH : (t + 1) / 10 % 8 < H) (bH : ho.testBit H = true) (nH : ∀ i, (t + 1) / 10 % 8 < i → i < H → ho.testBit i = false) (n0 : ho.testBit ((t + 1) / 10 % 8) = false ∨ ∀ i, (t + 1) % 10 ≤ i → mi.testBit i = false)
    (bM : mi.testBit M = true) (nM : ∀ i, i < M → mi.testBit i = false) : zk_td mi ho t b (nI H) (nI M) := by
  have hM : M < 10 := zk_lowk (k := 10) hm bM
  have hH : H < 8 := zk_lowk (k := 8) hh bH
  refine Or.inr ⟨H, M, rfl, rfl, hH, hM, by rw [bH, bM]; rfl, by omega, fun s h1 h2 => ?_⟩
  rcases Nat.lt_trichotomy (s / 10 % 8) ((t + 1) / 10 % 8) with z | z | z
  · omega
  · rcases n0 with y | y
    · rw [z, y, Bool.and_false]
    · rw [y (s % 10) (by omega), Bool.false_and]
  · rcases Nat.lt_or_ge (s / 10 % 8) H with w | w
    · rw [nH _ z w, Bool.and_false]
    · rw [nM (s % 10) (by omega), Bool.false_and]
/-- nothing left of the day -/
theorem zk_td_c {mi ho t b : Nat} (m : Int32) (hb : (t + 1) / 80 = b) (nH : ∀ i, (t + 1) / 10 % 8 < i → ho.testBit i = false) (n0 : ho.testBit ((t + 1) / 10 % 8) = false ∨ ∀ i, (t + 1) % 10 ≤ i → mi.testBit i = false) : zk_td mi ho t b (-1) m := by
  refine Or.inl ⟨rfl, fun s h1 h2 => ?_⟩
  rcases Nat.lt_trichotomy (s / 10 % 8) ((t + 1) / 10 % 8) with z | z | z
  · omega
  · rcases n0 with y | y
    · rw [z, y, Bool.and_false]
    · rw [y (s % 10) (by omega), Bool.false_and]
  · rw [nH _ z, Bool.and_false]
end
section
/-! the wheels, plain: chains of slots -/
def zw_hd : List Nat → Int32
  | [] => -1
  | j :: _ => nI j
def zw_ls (p : Int32) : List Nat → Int32
  | [] => p
  | j :: l => zw_ls (nI j) l
def zw_lk (bh bf : Nat → Int32) : Int32 → List Nat → Prop
  | _, [] => True
  | p, j :: l => bf j = p ∧ bh j = zw_hd l ∧ zw_lk bh bf (nI j) l
theorem zw_inj {i j : Nat} (hi : i < 12) (hj : j < 12) (e : nI i = nI j) : i = j := (nI_eq (by omega) (by omega)).mp e
theorem zw_inj2 {i j : Nat} (hi : i < 256) (hj : j < 256) (e : nI i = nI j) : i = j := (nI_eq (by omega) (by omega)).mp e
theorem zw_lk_congr {bh bf bh' bf' : Nat → Int32} : ∀ (l : List Nat) (p : Int32), (∀ i, i ∈ l → bh' i = bh i ∧ bf' i = bf i) → zw_lk bh bf p l → zw_lk bh' bf' p l
  | [], _, _, _ => True.intro
  | j :: l, p, h, hl => by
    obtain ⟨h1, h2, h3⟩ := hl
    have hj := h j List.mem_cons_self
    exact ⟨hj.2.trans h1, hj.1.trans h2, zw_lk_congr l (nI j) (fun i hi => h i (List.mem_cons_of_mem _ hi)) h3⟩
theorem zw_lk_j {bh bf : Nat → Int32} {j : Nat} {l2 : List Nat} : ∀ (l1 : List Nat) (p : Int32), zw_lk bh bf p (l1 ++ j :: l2) → bf j = zw_ls p l1 ∧ bh j = zw_hd l2
  | [], _, h => ⟨h.1, h.2.1⟩
  | c :: l, _, h => zw_lk_j l (nI c) h.2.2
theorem zw_last {bh bf : Nat → Int32} {j : Nat} {l2 : List Nat} : ∀ (l1 : List Nat) (p : Int32), zw_lk bh bf p (l1 ++ j :: l2) → l1 ≠ [] → (l1 ++ j :: l2).Nodup → (∀ i, i ∈ l1 ++ j :: l2 → i < 12) → ∃ a, a ∈ l1 ∧ zw_ls p l1 = nI a ∧ bh a = nI j ∧ ∀ i, i ∈ l1 → i ≠ a → bh i ≠ nI j
  | [], _, _, h, _, _ => absurd rfl h
  | [c], _, h, _, _, _ => ⟨c, List.mem_cons_self, rfl, h.2.1, fun i hi hn => absurd (List.mem_singleton.mp hi) hn⟩
  | c :: c' :: l, _, h, _, hn, hb => by
    have hn2 : ((c' :: l) ++ j :: l2).Nodup := (List.nodup_cons.mp hn).2
    have hn3 : c' ∉ l ++ j :: l2 := (List.nodup_cons.mp hn2).1
    obtain ⟨a, h1, h2, h3, h4⟩ := zw_last (c' :: l) (nI c) h.2.2 (fun z => by cases z) hn2 (fun i hi => hb i (List.mem_cons_of_mem _ hi))
    refine ⟨a, List.mem_cons_of_mem _ h1, h2, h3, fun i hi hia => ?_⟩
    rcases List.mem_cons.mp hi with z | z
    · subst z
      intro e
      have e2 : bh i = nI c' := h.2.1
      rw [e2] at e
      have e3 := zw_inj (hb c' (by simp)) (hb j (by simp)) e
      exact hn3 (by rw [e3]; simp)
    · exact h4 i z hia
theorem zw_bf_ne {bh bf : Nat → Int32} {j : Nat} (hj : j < 12) : ∀ (l : List Nat) (p : Int32), zw_lk bh bf p l → p ≠ nI j → j ∉ l → (∀ i, i ∈ l → i < 12) → ∀ i, i ∈ l → bf i ≠ nI j
  | [], _, _, _, _, _, _, hi => by cases hi
  | c :: l, p, h, hp, hm, hb, i, hi => by
    rcases List.mem_cons.mp hi with z | z
    · subst z; rw [h.1]; exact hp
    · refine zw_bf_ne hj l (nI c) h.2.2 (fun e => ?_) (fun e => hm (List.mem_cons_of_mem _ e)) (fun i hi => hb i (List.mem_cons_of_mem _ hi)) i z
      have e3 := zw_inj (hb c List.mem_cons_self) hj e
      exact hm (by rw [e3]; exact List.mem_cons_self)
theorem zw_unlk {bh bf bh' bf' : Nat → Int32} {j : Nat} {l2 : List Nat} (hj : j < 12)
    (hB : ∀ i, i ∈ l2 → (bf' i = bf i ∧ bf i ≠ nI j) ∨ (bf i = nI j ∧ bf' i = bf j)) (hD : ∀ i, i ∈ l2 → bh' i = bh i) :
    ∀ (l1 : List Nat) (p : Int32), zw_lk bh bf p (l1 ++ j :: l2) → (l1 ++ j :: l2).Nodup → (∀ i, i ∈ l1 ++ j :: l2 → i < 12) →
    (∀ i, i ∈ l1 → (bh' i = bh i ∧ bh i ≠ nI j) ∨ (bh i = nI j ∧ bh' i = bh j)) → (∀ i, i ∈ l1 → bf' i = bf i) → zw_lk bh' bf' p (l1 ++ l2)
  | [], p, h, hn, hb, _, _ => by
    obtain ⟨h1, h2, h3⟩ := h
    have hn' := (List.nodup_cons.mp hn)
    cases l2 with
    | nil => exact True.intro
    | cons b l =>
      obtain ⟨k1, k2, k3⟩ := h3
      have hbj : b ≠ j := fun e => hn'.1 (by rw [e]; exact List.mem_cons_self)
      have hbb : b < 12 := hb b (by simp)
      refine ⟨?_, (hD b List.mem_cons_self).trans k2, zw_lk_congr l (nI b) (fun i hi => ⟨hD i (List.mem_cons_of_mem _ hi), ?_⟩) k3⟩
      · rcases hB b List.mem_cons_self with z | z
        · exact absurd k1 z.2
        · exact z.2.trans h1
      · have hne := zw_bf_ne hj l (nI b) k3 (fun e => hbj (zw_inj hbb hj e)) (fun e => hn'.1 (List.mem_cons_of_mem _ e)) (fun i hi => hb i (by simp [hi])) i hi
        rcases hB i (List.mem_cons_of_mem _ hi) with z | z
        · exact z.1
        · exact absurd z.1 hne
  | c :: l1, p, h, hn, hb, hA, hC => by
    obtain ⟨h1, h2, h3⟩ := h
    have hn' := (List.nodup_cons.mp hn)
    refine ⟨(hC c List.mem_cons_self).trans h1, ?_, zw_unlk hj hB hD l1 (nI c) h3 hn'.2 (fun i hi => hb i (List.mem_cons_of_mem _ hi)) (fun i hi => hA i (List.mem_cons_of_mem _ hi)) (fun i hi => hC i (List.mem_cons_of_mem _ hi))⟩
    cases l1 with
    | nil =>
      rcases hA c List.mem_cons_self with z | z
      · exact absurd h2 z.2
      · rw [z.2]; exact (zw_lk_j [] (nI c) h3).2
    | cons d l1 =>
      rcases hA c List.mem_cons_self with z | z
      · exact z.1.trans h2
      · exfalso
        have e : nI d = nI j := h2.symm.trans z.1
        have e3 := zw_inj (hb d (by simp)) hj e
        exact (List.nodup_cons.mp hn'.2).1 (by rw [e3]; simp)
/-- the wheels hold the chains C -/
def zw_W (C : Nat → List Nat) (li sl : Nat → Int32) (fi : Nat → Int64) (bh bf : Nat → Int32) : Prop :=
  (∀ a, a < 256 → sl a = zw_hd (C a) ∧ zw_lk bh bf (-1) (C a) ∧ (C a).Nodup ∧ (bl (fi (a / 64)) (a % 64) = true ↔ C a ≠ []) ∧ ∀ j, j ∈ C a → j < 12 ∧ li j = nI a) ∧
  (∀ j, j < 12 → li j = -1 ∨ ∃ a, a < 256 ∧ li j = nI a ∧ j ∈ C a)
def zw_C (C : Nat → List Nat) (a : Nat) (l : List Nat) : Nat → List Nat := fun b => if b = a then l else C b
theorem zw_Cs {C : Nat → List Nat} {a : Nat} {l : List Nat} : zw_C C a l a = l := if_pos rfl
theorem zw_Cn {C : Nat → List Nat} {a b : Nat} {l : List Nat} (h : b ≠ a) : zw_C C a l b = C b := if_neg h
theorem zw_in {C : Nat → List Nat} {li sl : Nat → Int32} {fi : Nat → Int64} {bh bf : Nat → Int32} (h : zw_W C li sl fi bh bf) {a j : Nat} (hj : j < 12) (ha : a < 256) (e : li j = nI a) : j ∈ C a := by
  rcases h.2 j hj with z | ⟨b, h1, h2, h3⟩
  · rw [e] at z; exact absurd z (zk_ne (by omega))
  · rw [e] at h2
    rw [zw_inj2 ha h1 h2]; exact h3
theorem zw_file {C : Nat → List Nat} {li sl : Nat → Int32} {fi : Nat → Int64} {bh bf bf' : Nat → Int32} (h : zw_W C li sl fi bh bf) {j a : Nat} (hj : j < 12) (ha : a < 256) (hl : li j = -1)
    (b1 : bf' j = -1) (b2 : ∀ b l, C a = b :: l → bf' b = nI j) (b3 : ∀ i, i ≠ j → (∀ l, C a ≠ i :: l) → bf' i = bf i) :
    zw_W (zw_C C a (j :: C a)) (upd li j (nI a)) (upd sl a (nI j)) (vp_updL fi (a / 64) (fi (a / 64) ||| ((1 : Int64) <<< ((nI (a % 64)).toInt64 &&& 63)))) (upd bh j (sl a)) bf' := by
  have nin : ∀ b, b < 256 → j ∉ C b := fun b hb z => by
    have := ((h.1 b hb).2.2.2.2 j z).2
    rw [hl] at this; exact zk_ne (by omega) this.symm
  refine ⟨fun b hb => ?_, fun i hi => ?_⟩
  · obtain ⟨h1, h2, h3, h4, h5⟩ := h.1 b hb
    by_cases e : b = a
    · subst e
      rw [zw_Cs, pk_us, pk_uLs, zk_lset _ (by omega) (by omega)]
      refine ⟨rfl, ⟨b1, ?_, ?_⟩, List.nodup_cons.mpr ⟨nin b hb, h3⟩, ⟨(fun _ z => by cases z), (fun _ => by simp)⟩, fun i hi => ?_⟩
      · rw [pk_us, h1]
      · cases hC : C b with
        | nil => exact True.intro
        | cons c l =>
          rw [hC] at h2 h3 h5
          have hcj : c ≠ j := fun e => nin b hb (by rw [hC, e]; exact List.mem_cons_self)
          refine ⟨b2 c l hC, (pk_un hcj).trans h2.2.1, zw_lk_congr l (nI c) (fun i hi => ?_) h2.2.2⟩
          have hij : i ≠ j := fun e => nin b hb (by rw [hC, ← e]; exact List.mem_cons_of_mem _ hi)
          refine ⟨pk_un hij, b3 i hij (fun l' e' => ?_)⟩
          rw [hC] at e'
          injection e' with e1 e2
          exact (List.nodup_cons.mp h3).1 (by rw [e1]; exact hi)
      · rcases List.mem_cons.mp hi with z | z
        · subst z; exact ⟨hj, pk_us⟩
        · have hij : i ≠ j := fun e => nin b hb (by rw [← e]; exact z)
          exact ⟨(h5 i z).1, (pk_un hij).trans (h5 i z).2⟩
    · rw [zw_Cn e, pk_un e]
      refine ⟨h1, zw_lk_congr _ _ (fun i hi => ?_) h2, h3, ?_, fun i hi => ?_⟩
      · have hij : i ≠ j := fun e => nin b hb (by rw [← e]; exact hi)
        refine ⟨pk_un hij, b3 i hij (fun l' e' => e ?_)⟩
        have k1 := (h5 i hi).2
        have k2 := ((h.1 a ha).2.2.2.2 i (by rw [e']; exact List.mem_cons_self)).2
        exact zw_inj2 hb ha (k1.symm.trans k2)
      · by_cases e2 : b / 64 = a / 64
        · rw [e2, pk_uLs, zk_lset _ (by omega) (by omega), ← e2, decide_eq_false (by omega), Bool.or_false]
          exact h4
        · rw [pk_uLn e2]; exact h4
      · have hij : i ≠ j := fun e => nin b hb (by rw [← e]; exact hi)
        exact ⟨(h5 i hi).1, (pk_un hij).trans (h5 i hi).2⟩
  · by_cases e : i = j
    · subst e
      exact Or.inr ⟨a, ha, pk_us, by rw [zw_Cs]; exact List.mem_cons_self⟩
    · rw [pk_un e]
      rcases h.2 i hi with z | ⟨b, k1, k2, k3⟩
      · exact Or.inl z
      · refine Or.inr ⟨b, k1, k2, ?_⟩
        by_cases eb : b = a
        · subst eb; rw [zw_Cs]; exact List.mem_cons_of_mem _ k3
        · rw [zw_Cn eb]; exact k3
theorem zw_unfile {C : Nat → List Nat} {li sl sl' : Nat → Int32} {fi fi' : Nat → Int64} {bh bf bh' bf' : Nat → Int32} (h : zw_W C li sl fi bh bf) {j a : Nat} {l1 l2 : List Nat} (hj : j < 12) (ha : a < 256) (hC : C a = l1 ++ j :: l2)
    (b1 : ∀ b l, l2 = b :: l → bf' b = bf j) (b2 : ∀ i, (∀ l, l2 ≠ i :: l) → bf' i = bf i) (a1 : ∀ i, i ∈ l1 → bh i = nI j → bh' i = bh j) (a2 : ∀ i, i < 12 → (i ∈ l1 → bh i ≠ nI j) → bh' i = bh i)
    (s1 : sl' a = zw_hd (l1 ++ l2)) (s2 : ∀ b, b ≠ a → sl' b = sl b) (f1 : ∀ b, b < 256 → b ≠ a → bl (fi' (b / 64)) (b % 64) = bl (fi (b / 64)) (b % 64)) (f2 : bl (fi' (a / 64)) (a % 64) = true ↔ l1 ++ l2 ≠ []) :
    zw_W (zw_C C a (l1 ++ l2)) (upd li j (-1)) sl' fi' bh' bf' := by
  obtain ⟨h1, h2, h3, h4, h5⟩ := h.1 a ha
  rw [hC] at h1 h2 h3 h5
  have hmem : ∀ i, i ∈ l1 ++ j :: l2 ↔ i = j ∨ i ∈ l1 ++ l2 := fun i => by simp only [List.mem_append, List.mem_cons]; constructor <;> (intro z; rcases z with z | z | z <;> simp [z])
  have hnd := List.nodup_append.mp h3
  have hj2 : j ∉ l2 := (List.nodup_cons.mp hnd.2.1).1
  have hj1 : j ∉ l1 := fun z => hnd.2.2 j z j List.mem_cons_self rfl
  have hjn : j ∉ l1 ++ l2 := fun z => (List.mem_append.mp z).elim hj1 hj2
  have hdis : ∀ i, i ∈ l1 → i ∉ l2 := fun i z y => hnd.2.2 i z i (List.mem_cons_of_mem _ y) rfl
  have hnd2 : (l1 ++ l2).Nodup := List.nodup_append.mpr ⟨hnd.1, (List.nodup_cons.mp hnd.2.1).2, fun x hx y hy => hnd.2.2 x hx y (List.mem_cons_of_mem _ hy)⟩
  have hb12 : ∀ i, i ∈ l1 ++ j :: l2 → i < 12 := fun i hi => (h5 i hi).1
  have hjl := zw_lk_j l1 (-1) h2
  refine ⟨fun b hb => ?_, fun i hi => ?_⟩
  · by_cases e : b = a
    · subst e
      rw [zw_Cs]
      refine ⟨s1, ?_, hnd2, f2, fun i hi => ?_⟩
      · refine zw_unlk hj (fun i hi => ?_) (fun i hi => ?_) l1 (-1) h2 h3 hb12 (fun i hi => ?_) (fun i hi => ?_)
        · cases l2 with
          | nil => cases hi
          | cons c l =>
            have hl : zw_lk bh bf (nI j) (c :: l) := by
              have : ∀ (l1 : List Nat) (p : Int32), zw_lk bh bf p (l1 ++ j :: c :: l) → zw_lk bh bf (nI j) (c :: l) := by
                intro l1
                induction l1 with
                | nil => exact fun p z => z.2.2
                | cons x l1 ih => exact fun p z => ih (nI x) z.2.2
              exact this l1 _ h2
            by_cases ec : i = c
            · subst ec
              exact Or.inr ⟨hl.1, b1 i l rfl⟩
            · have hil : i ∈ l := (List.mem_cons.mp hi).resolve_left ec
              refine Or.inl ⟨b2 i (fun l' e' => ec ?_), ?_⟩
              · injection e' with e1 e2; exact e1.symm
              · refine zw_bf_ne hj l (nI c) hl.2.2 (fun e => ?_) (fun e => hj2 (List.mem_cons_of_mem _ e)) (fun i hi => hb12 i (by simp [hi])) i hil
                have e3 := zw_inj (hb12 c (by simp)) hj e
                exact hj2 (by rw [e3]; exact List.mem_cons_self)
        · exact a2 i (hb12 i (by simp [hi])) (fun z => absurd hi (hdis i z))
        · by_cases e : bh i = nI j
          · exact Or.inr ⟨e, a1 i hi e⟩
          · exact Or.inl ⟨a2 i (hb12 i (by simp [hi])) (fun _ => e), e⟩
        · exact b2 i (fun l' e' => hdis i hi (by rw [e']; exact List.mem_cons_self))
      · have hi' : i ∈ l1 ++ j :: l2 := (hmem i).mpr (Or.inr hi)
        exact ⟨hb12 i hi', (pk_un (fun e => hjn (by rw [← e]; exact hi))).trans (h5 i hi').2⟩
    · obtain ⟨k1, k2, k3, k4, k5⟩ := h.1 b hb
      have nin : ∀ i, i ∈ C b → i ∉ l1 ++ j :: l2 := fun i z y => e (zw_inj2 hb ha ((k5 i z).2.symm.trans (h5 i y).2))
      rw [zw_Cn e, s2 b e, f1 b hb e]
      refine ⟨k1, zw_lk_congr _ _ (fun i hi => ⟨?_, ?_⟩) k2, k3, k4, fun i hi => ⟨(k5 i hi).1, (pk_un ?_).trans (k5 i hi).2⟩⟩
      · exact a2 i (k5 i hi).1 (fun z => absurd (by simp [z] : i ∈ l1 ++ j :: l2) (nin i hi))
      · exact b2 i (fun l' e' => nin i hi (by rw [e']; simp))
      · exact fun z => nin i hi (by rw [z]; simp)
  · by_cases e : i = j
    · subst e; exact Or.inl pk_us
    · rw [pk_un e]
      rcases h.2 i hi with z | ⟨b, m1, m2, m3⟩
      · exact Or.inl z
      · refine Or.inr ⟨b, m1, m2, ?_⟩
        by_cases eb : b = a
        · subst eb
          rw [zw_Cs]
          rw [hC] at m3
          exact ((hmem i).mp m3).resolve_left e
        · rw [zw_Cn eb]; exact m3
/-! where a time lies -/
def zk_at (T d : Nat) : Nat := if d / 64 = T / 64 then d % 64 else if d / 64 / 64 = T / 64 / 64 then 64 + d / 64 % 64 else if d / 64 / 64 / 64 = T / 64 / 64 / 64 then 128 + d / 64 / 64 % 64 else 192 + d / 64 / 64 / 64 % 64
theorem zk_at_lt (T d : Nat) : zk_at T d < 256 := by (unfold zk_at; split; omega; split; omega; split <;> omega)
theorem zk_at_mono {T d e : Nat} (hd : T ≤ d) (he : T ≤ e) (hd2 : d < 16777216) (he2 : e < 16777216) (h : zk_at T d < zk_at T e) : d < e := by
  unfold zk_at at h
  generalize hd1 : d / 64 = d1 at *
  generalize he1 : e / 64 = e1 at *
  generalize ht1 : T / 64 = t1 at *
  have a1 : t1 ≤ d1 := by omega
  have a2 : t1 ≤ e1 := by omega
  by_cases z : d1 < e1
  · omega
  · have z1 : e1 ≤ d1 := by omega
    generalize hd3 : d1 / 64 = d3 at *
    generalize he3 : e1 / 64 = e3 at *
    generalize ht3 : t1 / 64 = t3 at *
    have b1 : t3 ≤ d3 := by omega
    have b2 : t3 ≤ e3 := by omega
    have b3 : e3 ≤ d3 := by omega
    generalize hd4 : d3 / 64 = d4 at *
    generalize he4 : e3 / 64 = e4 at *
    generalize ht4 : t3 / 64 = t4 at *
    have c1 : t4 ≤ d4 := by omega
    have c2 : t4 ≤ e4 := by omega
    have c3 : e4 ≤ d4 := by omega
    have c4 : d4 < 64 := by omega
    have c5 : e4 < 64 := by omega
    split at h <;> split at h <;> try omega
    all_goals split at h <;> try omega
    all_goals split at h <;> try omega
    all_goals split at h <;> try omega
    all_goals split at h <;> try omega
end
section
def zk_q : Nat → Nat → Nat
  | 0, d => d
  | L + 1, d => zk_q L d / 64
theorem zk_q_pow (d : Nat) : ∀ L, d / 2 ^ (6 * L) = zk_q L d
  | 0 => by simp [zk_q]
  | L + 1 => by
    rw [zk_q, ← zk_q_pow d L, Nat.div_div_eq_div_mul, show 6 * (L + 1) = 6 * L + 6 by omega, Nat.pow_add]
theorem zk_shq {n : Nat} (h : n < 2 ^ 31) (s : Int32) (L : Nat) (hs : (s.toBitVec.smod 32).toNat = 6 * L) : nI n >>> s = nI (zk_q L n) := by
  rw [pk_shrN h s (6 * L) hs, zk_q_pow]
theorem zk_q_le (d : Nat) : ∀ L, zk_q L d ≤ d
  | 0 => Nat.le_refl _
  | L + 1 => Nat.le_trans (Nat.div_le_self _ _) (zk_q_le d L)
theorem zk_q1 (d : Nat) : zk_q 1 d = d / 64 := rfl
theorem zk_q2 (d : Nat) : zk_q 2 d = d / 64 / 64 := rfl
theorem zk_q3 (d : Nat) : zk_q 3 d = d / 64 / 64 / 64 := rfl
theorem zk_at_q0 {T d : Nat} (h : zk_q 1 d = zk_q 1 T) : zk_at T d = 64 * 0 + zk_q 0 d % 64 := by
  rw [zk_q1, zk_q1] at h
  unfold zk_at; rw [if_pos h]; show d % 64 = 64 * 0 + d % 64; omega
theorem zk_at_q1 {T d : Nat} (h1 : zk_q 1 d ≠ zk_q 1 T) (h : zk_q 2 d = zk_q 2 T) : zk_at T d = 64 * 1 + zk_q 1 d % 64 := by
  rw [zk_q1, zk_q1] at h1
  rw [zk_q2, zk_q2] at h
  unfold zk_at; rw [if_neg h1, if_pos h, zk_q1]
theorem zk_at_q2 {T d : Nat} (h1 : zk_q 1 d ≠ zk_q 1 T) (h2 : zk_q 2 d ≠ zk_q 2 T) (h : zk_q 3 d = zk_q 3 T) : zk_at T d = 64 * 2 + zk_q 2 d % 64 := by
  rw [zk_q1, zk_q1] at h1
  rw [zk_q2, zk_q2] at h2
  rw [zk_q3, zk_q3] at h
  unfold zk_at; rw [if_neg h1, if_neg h2, if_pos h, zk_q2]
theorem zk_at_q3 {T d : Nat} (h1 : zk_q 1 d ≠ zk_q 1 T) (h2 : zk_q 2 d ≠ zk_q 2 T) (h : zk_q 3 d ≠ zk_q 3 T) : zk_at T d = 64 * 3 + zk_q 3 d % 64 := by
  rw [zk_q1, zk_q1] at h1
  rw [zk_q2, zk_q2] at h2
  rw [zk_q3, zk_q3] at h
  unfold zk_at; rw [if_neg h1, if_neg h2, if_neg h, zk_q3]
/-- the way of a job while the levels from L on have been moved from N to t -/
def zk_mx (L N t d : Nat) : Nat := if 64 * L ≤ zk_at N d then zk_at t d else zk_at N d
theorem zk_mx4 (N t d : Nat) : zk_mx 4 N t d = zk_at N d := if_neg (by have := zk_at_lt N d; omega)
theorem zk_mx1 {N t d : Nat} (h1 : N ≤ t) (h2 : t ≤ d) : zk_mx 1 N t d = zk_at t d := by
  unfold zk_mx
  split
  · rfl
  · rename_i z
    by_cases e : d / 64 = N / 64
    · unfold zk_at; rw [if_pos e, if_pos (by omega)]
    · exfalso; apply z; unfold zk_at; rw [if_neg e]; (split; omega; split <;> omega)
theorem zk_at_ne1 {t d : Nat} : zk_at t d ≠ 64 * 1 + zk_q 1 t % 64 := by
  rw [zk_q1]; unfold zk_at
  split
  · omega
  · split
    · omega
    · split <;> omega
theorem zk_at_ne2 {t d : Nat} : zk_at t d ≠ 64 * 2 + zk_q 2 t % 64 := by
  rw [zk_q2]; unfold zk_at
  split
  · omega
  · split
    · omega
    · split <;> omega
theorem zk_at_ne3 {t d : Nat} (ht : t < 16777216) (hd : d < 16777216) : zk_at t d ≠ 64 * 3 + zk_q 3 t % 64 := by
  rw [zk_q3]; unfold zk_at
  split
  · omega
  · split
    · omega
    · split <;> omega
theorem zk_at_ne {t d L : Nat} (ht : t < 16777216) (hd : d < 16777216) (h1 : 1 ≤ L) (h2 : L ≤ 3) : zk_at t d ≠ 64 * L + zk_q L t % 64 := by
  have : L = 1 ∨ L = 2 ∨ L = 3 := by omega
  rcases this with rfl | rfl | rfl
  · exact zk_at_ne1
  · exact zk_at_ne2
  · exact zk_at_ne3 ht hd
/-- a job of level L whose slot time hasn't reached stays where it is -/
theorem zk_stay1 {N t d : Nat} (h1 : N ≤ t) (h2 : t ≤ d) (ha : 64 * 1 ≤ zk_at N d) (hb : zk_at N d < 64 * 2) (hne : zk_q 1 t ≠ zk_q 1 d) : zk_at t d = zk_at N d := by
  rw [zk_q1, zk_q1] at hne
  unfold zk_at at ha hb ⊢
  split at ha
  · omega
  · rename_i z1
    rw [if_neg z1] at hb
    split at ha
    · rename_i z2
      rw [if_neg (fun e => hne e.symm), if_neg z1, if_pos z2, if_pos (by omega)]
    · rename_i z2
      rw [if_neg z2] at hb
      split at hb <;> omega
theorem zk_stay2 {N t d : Nat} (h1 : N ≤ t) (h2 : t ≤ d) (ha : 64 * 2 ≤ zk_at N d) (hb : zk_at N d < 64 * 3) (hne : zk_q 2 t ≠ zk_q 2 d) : zk_at t d = zk_at N d := by
  rw [zk_q2, zk_q2] at hne
  unfold zk_at at ha hb ⊢
  split at ha
  · omega
  · rename_i z1
    rw [if_neg z1] at hb
    split at ha
    · omega
    · rename_i z2
      rw [if_neg z2] at hb
      split at hb
      · rename_i z3
        rw [if_neg (fun e => hne (by rw [e])), if_neg (fun e => hne e.symm), if_neg z1, if_neg z2, if_pos z3, if_pos (by omega)]
      · omega
theorem zk_stay3 {N t d : Nat} (ha : 64 * 3 ≤ zk_at N d) (hne : zk_q 3 t ≠ zk_q 3 d) : zk_at t d = zk_at N d := by
  rw [zk_q3, zk_q3] at hne
  unfold zk_at at ha ⊢
  split at ha
  · omega
  · rename_i z1
    split at ha
    · omega
    · rename_i z2
      split at ha
      · omega
      · rename_i z3
        rw [if_neg (fun e => hne (by rw [e])), if_neg (fun e => hne (by rw [e])), if_neg (fun e => hne e.symm), if_neg z1, if_neg z2, if_neg z3]
theorem zk_stay {L N t d : Nat} (hL : 1 ≤ L) (hL2 : L ≤ 3) (h1 : N ≤ t) (h2 : t ≤ d) (ha : 64 * L ≤ zk_at N d) (hb : zk_at N d < 64 * (L + 1)) (hne : zk_q L t ≠ zk_q L d) : zk_at t d = zk_at N d := by
  have : L = 1 ∨ L = 2 ∨ L = 3 := by omega
  rcases this with rfl | rfl | rfl
  · exact zk_stay1 h1 h2 ha hb hne
  · exact zk_stay2 h1 h2 ha hb hne
  · exact zk_stay3 ha hne
theorem zk_at_slot {L N d : Nat} (hL : 1 ≤ L) (hL2 : L ≤ 3) (ha : 64 * L ≤ zk_at N d) (hb : zk_at N d < 64 * (L + 1)) : zk_at N d = 64 * L + zk_q L d % 64 ∧ zk_q L d ≠ zk_q L N := by
  have : L = 1 ∨ L = 2 ∨ L = 3 := by omega
  rcases this with rfl | rfl | rfl
  · rw [zk_q1, zk_q1]; unfold zk_at at *
    split at ha
    · omega
    · rename_i z1
      rw [if_neg z1] at hb ⊢
      split at ha
      · rename_i z2; rw [if_pos z2]; exact ⟨by omega, z1⟩
      · rename_i z2; rw [if_neg z2] at hb; split at hb <;> omega
  · rw [zk_q2, zk_q2]; unfold zk_at at *
    split at ha
    · omega
    · rename_i z1
      rw [if_neg z1] at hb ⊢
      split at ha
      · omega
      · rename_i z2
        rw [if_neg z2] at hb ⊢
        split at hb
        · rename_i z3; rw [if_pos z3]; exact ⟨by omega, z2⟩
        · omega
  · rw [zk_q3, zk_q3]; unfold zk_at at *
    split at ha
    · omega
    · rename_i z1
      rw [if_neg z1] at hb ⊢
      split at ha
      · omega
      · rename_i z2
        rw [if_neg z2] at hb ⊢
        split at ha
        · omega
        · rename_i z3; rw [if_neg z3]; exact ⟨by omega, z3⟩
theorem zk_mx_skip {L N t d : Nat} (hL : 1 ≤ L) (hL2 : L ≤ 3) (h1 : N ≤ t) (h2 : t ≤ d) (e : zk_q L t = zk_q L N) : zk_mx L N t d = zk_mx (L + 1) N t d := by
  unfold zk_mx
  by_cases a : 64 * (L + 1) ≤ zk_at N d
  · rw [if_pos a, if_pos (by omega)]
  · by_cases b : 64 * L ≤ zk_at N d
    · rw [if_pos b, if_neg a]
      have hs := zk_at_slot hL hL2 b (by omega)
      exact zk_stay hL hL2 h1 h2 b (by omega) (fun z => hs.2 (by rw [← z, e]))
    · rw [if_neg b, if_neg a]
theorem zk_mx_hit {L N t d : Nat} (hL : 1 ≤ L) (e : zk_mx (L + 1) N t d = 64 * L + zk_q L t % 64) : zk_mx L N t d = zk_at t d := by
  unfold zk_mx at *
  by_cases b : 64 * L ≤ zk_at N d
  · rw [if_pos b]
  · rw [if_neg (by omega)] at e
    omega
theorem zk_mx_miss {L N t d : Nat} (hL : 1 ≤ L) (hL2 : L ≤ 3) (h1 : N ≤ t) (h2 : t ≤ d) (e : zk_mx (L + 1) N t d ≠ 64 * L + zk_q L t % 64) : zk_mx L N t d = zk_mx (L + 1) N t d := by
  unfold zk_mx at *
  by_cases a : 64 * (L + 1) ≤ zk_at N d
  · rw [if_pos a, if_pos (by omega)]
  · by_cases b : 64 * L ≤ zk_at N d
    · rw [if_pos b, if_neg a]
      rw [if_neg a] at e
      have hs := zk_at_slot hL hL2 b (by omega)
      refine zk_stay hL hL2 h1 h2 b (by omega) (fun z => e ?_)
      rw [hs.1, z]
    · rw [if_neg b, if_neg a]
end
section
/-! walks of the component: file, unfile, plan -/
section
variable {f_workers f_now f_stopped f_duration f_priority f_overlap f_misfire f_waitingJobs f_logged : Int32} {a_there a_kind a_period a_lasts a_rank a_overlaps a_makesUp a_minutes a_hours a_days a_months a_weekdays a_due a_started a_lost a_missed a_sinceStop a_request a_waiting a_slot : Nat → Int32} {a_filled : Nat → Int64} {a_behind a_before a_lies a_runs a_ends a_active a_logJob a_logAt a_logDue : Nat → Int32}
theorem zx_f108 {post : SX → Prop} {j L s a : Nat} (hj : j < 12) (hL : L < 4) (hs : s < 64) (ha : a = 64 * L + s)
    (K : post (f_workers, f_now, f_stopped, f_duration, f_priority, f_overlap, f_misfire, f_waitingJobs, f_logged, a_there, a_kind, a_period, a_lasts, a_rank, a_overlaps, a_makesUp, a_minutes, a_hours, a_days, a_months, a_weekdays, a_due, a_started, a_lost, a_missed, a_sinceStop, a_request, a_waiting, upd a_slot a (nI j), vp_updL a_filled L (a_filled L ||| ((1 : Int64) <<< ((nI s).toInt64 &&& 63))), a_behind, a_before, upd a_lies j (nI a), a_runs, a_ends, a_active, a_logJob, a_logAt, a_logDue)) :
    wX_file_108 post (nI j) (nI L) (nI s) (nI a) f_workers f_now f_stopped f_duration f_priority f_overlap f_misfire f_waitingJobs f_logged a_there a_kind a_period a_lasts a_rank a_overlaps a_makesUp a_minutes a_hours a_days a_months a_weekdays a_due a_started a_lost a_missed a_sinceStop a_request a_waiting a_slot a_filled a_behind a_before a_lies a_runs a_ends a_active a_logJob a_logAt a_logDue := by
  unfold wX_file_108
  rw [show (nI a).toNatClampNeg = a from nI_clamp (by omega), show (nI j).toNatClampNeg = j from nI_clamp (by omega), show (nI L).toNatClampNeg = L from nI_clamp (by omega), zk_vb (show j < 128 by omega), zk_vs (show a < 32768 by omega)]
  exact ⟨vp_in_nI (by omega) (by omega), nm_e ⟨vp_in_nI hj (by omega), nm_e ⟨vp_in_nI hL (by omega), vp_in_nI hL (by omega), nm_e K⟩⟩⟩
theorem zx_sh6 : ∀ L, L < 4 → (((6 * nI L) &&& 31).toBitVec.smod 32).toNat = 6 * L := by decide +kernel
theorem zx_sh66 : ∀ L, L < 4 → ((((6 * nI L) + 6) &&& 31).toBitVec.smod 32).toNat = 6 * (L + 1) := by decide +kernel
theorem zx_64 (L s : Nat) : 64 * nI L + nI s = nI (64 * L + s) := by
  show nI 64 * nI L + nI s = _
  rw [pk_mul, nI_add]
theorem zx_sl {n : Nat} (h : n < 2 ^ 31) {L : Nat} (hL : L < 4) : (nI n >>> ((6 * nI L) &&& 31)) &&& 63 = nI (zk_q L n % 64) := by
  have h2 := zk_q_le n L
  rw [zk_shq h _ L (zx_sh6 L hL), pk_andN (by omega) 6 (by decide)]
end
section
variable (f_workers f_now f_stopped f_duration f_priority f_overlap f_misfire f_waitingJobs f_logged : Int32) (a_there a_kind a_period a_lasts a_rank a_overlaps a_makesUp a_minutes a_hours a_days a_months a_weekdays a_due a_started a_lost a_missed a_sinceStop a_request a_waiting a_slot : Nat → Int32) (a_filled : Nat → Int64) (a_behind a_before a_lies a_runs a_ends a_active a_logJob a_logAt a_logDue : Nat → Int32)
theorem zx_f49 {j d L a : Nat} (hj : j < 12) (hd : d < 2 ^ 31) (hL : L < 4) (ha : a = 64 * L + zk_q L d % 64) {C : Nat → List Nat} (h : zw_W C a_lies a_slot a_filled a_behind a_before) (hl : a_lies j = -1) :
    ∃ (sl : Nat → Int32) (fi : Nat → Int64) (bh bf : Nat → Int32), zw_W (zw_C C a (j :: C a)) (upd a_lies j (nI a)) sl fi bh bf ∧ ∀ post : SX → Prop, post (f_workers, f_now, f_stopped, f_duration, f_priority, f_overlap, f_misfire, f_waitingJobs, f_logged, a_there, a_kind, a_period, a_lasts, a_rank, a_overlaps, a_makesUp, a_minutes, a_hours, a_days, a_months, a_weekdays, a_due, a_started, a_lost, a_missed, a_sinceStop, a_request, a_waiting, sl, fi, bh, bf, upd a_lies j (nI a), a_runs, a_ends, a_active, a_logJob, a_logAt, a_logDue) → wX_file_49 post (nI j) (nI d) (nI L) f_workers f_now f_stopped f_duration f_priority f_overlap f_misfire f_waitingJobs f_logged a_there a_kind a_period a_lasts a_rank a_overlaps a_makesUp a_minutes a_hours a_days a_months a_weekdays a_due a_started a_lost a_missed a_sinceStop a_request a_waiting a_slot a_filled a_behind a_before a_lies a_runs a_ends a_active a_logJob a_logAt a_logDue := by
  have hs : zk_q L d % 64 < 64 := Nat.mod_lt _ (by decide)
  have hin : vp_in (nI j) 12 := vp_in_nI hj (by omega)
  have cj : (nI j).toNatClampNeg = j := nI_clamp (by omega)
  have ca : (nI a).toNatClampNeg = a := nI_clamp (by omega)
  have ha' : a < 256 := by omega
  have e1 : a / 64 = L := by omega
  have e2 : a % 64 = zk_q L d % 64 := by omega
  obtain ⟨w1, w2, w3, w4, w5⟩ := h.1 a ha'
  cases hC : C a with
  | nil =>
    rw [hC] at w1
    have W := zw_file (bf' := upd a_before j (-1)) h hj ha' hl pk_us (fun b l z => by rw [hC] at z; cases z) (fun i hi _ => pk_un hi)
    rw [hC] at W
    refine ⟨_, _, _, _, W, fun post K => ?_⟩
    unfold wX_file_49
    refine nm_r (zx_sl hd hL) (nm_r ((zx_64 L _).trans (congrArg nI ha.symm)) ?_)
    rw [ca, cj]
    refine ⟨vp_in_nI ha' (by omega), nm_r w1 ⟨hin, nm_r (e' := upd a_behind j (a_slot a)) (by rw [w1]; exact congrArg _ zk_vbmm) ⟨hin, nm_r (e' := upd a_before j (-1)) (by rw [zk_vbm]) ?_⟩⟩⟩
    refine br_t (show zw_hd [] < 0 from zk_neg) (zx_f108 hj hL hs ha ?_)
    rw [e1, e2] at K
    exact K
  | cons b l =>
    rw [hC] at w1 w5
    have hb : b < 12 := (w5 b List.mem_cons_self).1
    have hbj : b ≠ j := fun e => by
      have := (w5 b List.mem_cons_self).2
      rw [e, hl] at this
      exact zk_ne (by omega) this.symm
    have W := zw_file (bf' := upd (upd a_before j (-1)) b (nI j)) h hj ha' hl ((pk_un (Ne.symm hbj)).trans pk_us) (fun c l' z => by rw [hC] at z; injection z with z1 z2; rw [← z1]; exact pk_us) (fun i hi z => (pk_un (fun e => z l (by rw [hC, e]))).trans (pk_un hi))
    rw [hC] at W
    refine ⟨_, _, _, _, W, fun post K => ?_⟩
    unfold wX_file_49
    refine nm_r (zx_sl hd hL) (nm_r ((zx_64 L _).trans (congrArg nI ha.symm)) ?_)
    rw [ca, cj]
    refine ⟨vp_in_nI ha' (by omega), nm_r w1 ⟨hin, nm_r (e' := upd a_behind j (a_slot a)) (by rw [w1]; exact congrArg _ (zk_vb (by omega))) ⟨hin, nm_r (e' := upd a_before j (-1)) (by rw [zk_vbm]) ?_⟩⟩⟩
    refine br_f (show ¬ nI b < 0 from nI_pos (by omega)) ⟨vp_in_nI hb (by omega), nm_r (e' := upd (upd a_before j (-1)) b (nI j)) (by rw [show (zw_hd (b :: l)).toNatClampNeg = b from nI_clamp (by omega), zk_vb (by omega)]) (zx_f108 hj hL hs ha ?_)⟩
    rw [e1, e2] at K
    exact K
end
section
variable {f_workers f_now f_stopped f_duration f_priority f_overlap f_misfire f_waitingJobs f_logged : Int32} {a_there a_kind a_period a_lasts a_rank a_overlaps a_makesUp a_minutes a_hours a_days a_months a_weekdays a_due a_started a_lost a_missed a_sinceStop a_request a_waiting a_slot : Nat → Int32} {a_filled : Nat → Int64} {a_behind a_before a_lies a_runs a_ends a_active a_logJob a_logAt a_logDue : Nat → Int32}
theorem zx_f14_go {post : SX → Prop} {j d T L n : Nat} (hd : d < 2 ^ 31) (hT : T < 2 ^ 31) (eN : f_now = nI T) (hL : L < 3) (hq : zk_q (L + 1) d ≠ zk_q (L + 1) T) (K : wX_file_14 post (nI j) (nI d) f_workers f_now f_stopped f_duration f_priority f_overlap f_misfire f_waitingJobs f_logged a_there a_kind a_period a_lasts a_rank a_overlaps a_makesUp a_minutes a_hours a_days a_months a_weekdays a_due a_started a_lost a_missed a_sinceStop a_request a_waiting a_slot a_filled a_behind a_before a_lies a_runs a_ends a_active a_logJob a_logAt a_logDue n (nI (L + 1))) : wX_file_14 post (nI j) (nI d) f_workers f_now f_stopped f_duration f_priority f_overlap f_misfire f_waitingJobs f_logged a_there a_kind a_period a_lasts a_rank a_overlaps a_makesUp a_minutes a_hours a_days a_months a_weekdays a_due a_started a_lost a_missed a_sinceStop a_request a_waiting a_slot a_filled a_behind a_before a_lies a_runs a_ends a_active a_logJob a_logAt a_logDue (n + 1) (nI L) := by
  have h1 := zk_q_le d (L + 1)
  have h2 := zk_q_le T (L + 1)
  refine br_f (nI_ge (b := 3) hL (by omega)) (br_f ?_ (nm_r (nI_1 L) K))
  rw [eN, zk_shq hd _ (L + 1) (zx_sh66 L (by omega)), zk_shq hT _ (L + 1) (zx_sh66 L (by omega)), nI_eq (by omega) (by omega)]
  exact hq
theorem zx_f14_st {post : SX → Prop} {j d T L n : Nat} (hd : d < 2 ^ 31) (hT : T < 2 ^ 31) (eN : f_now = nI T) (hL : L < 3) (hq : zk_q (L + 1) d = zk_q (L + 1) T) (K : wX_file_49 post (nI j) (nI d) (nI L) f_workers f_now f_stopped f_duration f_priority f_overlap f_misfire f_waitingJobs f_logged a_there a_kind a_period a_lasts a_rank a_overlaps a_makesUp a_minutes a_hours a_days a_months a_weekdays a_due a_started a_lost a_missed a_sinceStop a_request a_waiting a_slot a_filled a_behind a_before a_lies a_runs a_ends a_active a_logJob a_logAt a_logDue) : wX_file_14 post (nI j) (nI d) f_workers f_now f_stopped f_duration f_priority f_overlap f_misfire f_waitingJobs f_logged a_there a_kind a_period a_lasts a_rank a_overlaps a_makesUp a_minutes a_hours a_days a_months a_weekdays a_due a_started a_lost a_missed a_sinceStop a_request a_waiting a_slot a_filled a_behind a_before a_lies a_runs a_ends a_active a_logJob a_logAt a_logDue (n + 1) (nI L) := by
  refine br_f (nI_ge (b := 3) hL (by omega)) (br_t ?_ K)
  rw [eN, zk_shq hd _ (L + 1) (zx_sh66 L (by omega)), zk_shq hT _ (L + 1) (zx_sh66 L (by omega)), hq]
theorem zx_f14_3 {post : SX → Prop} {j d n : Nat} (K : wX_file_49 post (nI j) (nI d) (nI 3) f_workers f_now f_stopped f_duration f_priority f_overlap f_misfire f_waitingJobs f_logged a_there a_kind a_period a_lasts a_rank a_overlaps a_makesUp a_minutes a_hours a_days a_months a_weekdays a_due a_started a_lost a_missed a_sinceStop a_request a_waiting a_slot a_filled a_behind a_before a_lies a_runs a_ends a_active a_logJob a_logAt a_logDue) : wX_file_14 post (nI j) (nI d) f_workers f_now f_stopped f_duration f_priority f_overlap f_misfire f_waitingJobs f_logged a_there a_kind a_period a_lasts a_rank a_overlaps a_makesUp a_minutes a_hours a_days a_months a_weekdays a_due a_started a_lost a_missed a_sinceStop a_request a_waiting a_slot a_filled a_behind a_before a_lies a_runs a_ends a_active a_logJob a_logAt a_logDue (n + 1) (nI 3) :=
  br_t (show (3 : Int32) ≤ nI 3 by decide) K
end
section
variable (f_workers f_now f_stopped f_duration f_priority f_overlap f_misfire f_waitingJobs f_logged : Int32) (a_there a_kind a_period a_lasts a_rank a_overlaps a_makesUp a_minutes a_hours a_days a_months a_weekdays a_due a_started a_lost a_missed a_sinceStop a_request a_waiting a_slot : Nat → Int32) (a_filled : Nat → Int64) (a_behind a_before a_lies a_runs a_ends a_active a_logJob a_logAt a_logDue : Nat → Int32)
theorem zx_file {j d T : Nat} (hj : j < 12) (hd : d < 16777216) (hT : T < 16777216) (eN : f_now = nI T) (eD : a_due j = nI d) {C : Nat → List Nat} (h : zw_W C a_lies a_slot a_filled a_behind a_before) (hl : a_lies j = -1) :
    ∃ (sl : Nat → Int32) (fi : Nat → Int64) (bh bf : Nat → Int32), zw_W (zw_C C (zk_at T d) (j :: C (zk_at T d))) (upd a_lies j (nI (zk_at T d))) sl fi bh bf ∧ ∀ post : SX → Prop, post (f_workers, f_now, f_stopped, f_duration, f_priority, f_overlap, f_misfire, f_waitingJobs, f_logged, a_there, a_kind, a_period, a_lasts, a_rank, a_overlaps, a_makesUp, a_minutes, a_hours, a_days, a_months, a_weekdays, a_due, a_started, a_lost, a_missed, a_sinceStop, a_request, a_waiting, sl, fi, bh, bf, upd a_lies j (nI (zk_at T d)), a_runs, a_ends, a_active, a_logJob, a_logAt, a_logDue) → wpX_file post (f_workers, f_now, f_stopped, f_duration, f_priority, f_overlap, f_misfire, f_waitingJobs, f_logged, a_there, a_kind, a_period, a_lasts, a_rank, a_overlaps, a_makesUp, a_minutes, a_hours, a_days, a_months, a_weekdays, a_due, a_started, a_lost, a_missed, a_sinceStop, a_request, a_waiting, a_slot, a_filled, a_behind, a_before, a_lies, a_runs, a_ends, a_active, a_logJob, a_logAt, a_logDue) (nI j) := by
  have key : ∀ post : SX → Prop, (∃ n14 : Nat, wX_file_14 post (nI j) (nI d) f_workers f_now f_stopped f_duration f_priority f_overlap f_misfire f_waitingJobs f_logged a_there a_kind a_period a_lasts a_rank a_overlaps a_makesUp a_minutes a_hours a_days a_months a_weekdays a_due a_started a_lost a_missed a_sinceStop a_request a_waiting a_slot a_filled a_behind a_before a_lies a_runs a_ends a_active a_logJob a_logAt a_logDue n14 0) → wpX_file post (f_workers, f_now, f_stopped, f_duration, f_priority, f_overlap, f_misfire, f_waitingJobs, f_logged, a_there, a_kind, a_period, a_lasts, a_rank, a_overlaps, a_makesUp, a_minutes, a_hours, a_days, a_months, a_weekdays, a_due, a_started, a_lost, a_missed, a_sinceStop, a_request, a_waiting, a_slot, a_filled, a_behind, a_before, a_lies, a_runs, a_ends, a_active, a_logJob, a_logAt, a_logDue) (nI j) := by
    intro post K
    refine And.intro (vp_in_nI hj (by omega)) (nm_r (e' := nI d) ?_ (br_t (nI_pos' (by omega)) K))
    rw [nI_clamp (by omega)]; exact eD
  by_cases q1 : zk_q 1 d = zk_q 1 T
  · obtain ⟨sl, fi, bh, bf, W, K⟩ := zx_f49 f_workers f_now f_stopped f_duration f_priority f_overlap f_misfire f_waitingJobs f_logged a_there a_kind a_period a_lasts a_rank a_overlaps a_makesUp a_minutes a_hours a_days a_months a_weekdays a_due a_started a_lost a_missed a_sinceStop a_request a_waiting a_slot a_filled a_behind a_before a_lies a_runs a_ends a_active a_logJob a_logAt a_logDue hj (by omega) (by omega) (zk_at_q0 q1) h hl
    exact ⟨sl, fi, bh, bf, W, fun post P => key post ⟨1, zx_f14_st (L := 0) (by omega) (by omega) eN (by omega) q1 (K post P)⟩⟩
  · by_cases q2 : zk_q 2 d = zk_q 2 T
    · obtain ⟨sl, fi, bh, bf, W, K⟩ := zx_f49 f_workers f_now f_stopped f_duration f_priority f_overlap f_misfire f_waitingJobs f_logged a_there a_kind a_period a_lasts a_rank a_overlaps a_makesUp a_minutes a_hours a_days a_months a_weekdays a_due a_started a_lost a_missed a_sinceStop a_request a_waiting a_slot a_filled a_behind a_before a_lies a_runs a_ends a_active a_logJob a_logAt a_logDue hj (by omega) (by omega) (zk_at_q1 q1 q2) h hl
      exact ⟨sl, fi, bh, bf, W, fun post P => key post ⟨2, zx_f14_go (L := 0) (by omega) (by omega) eN (by omega) q1 (zx_f14_st (L := 1) (by omega) (by omega) eN (by omega) q2 (K post P))⟩⟩
    · by_cases q3 : zk_q 3 d = zk_q 3 T
      · obtain ⟨sl, fi, bh, bf, W, K⟩ := zx_f49 f_workers f_now f_stopped f_duration f_priority f_overlap f_misfire f_waitingJobs f_logged a_there a_kind a_period a_lasts a_rank a_overlaps a_makesUp a_minutes a_hours a_days a_months a_weekdays a_due a_started a_lost a_missed a_sinceStop a_request a_waiting a_slot a_filled a_behind a_before a_lies a_runs a_ends a_active a_logJob a_logAt a_logDue hj (by omega) (by omega) (zk_at_q2 q1 q2 q3) h hl
        exact ⟨sl, fi, bh, bf, W, fun post P => key post ⟨3, zx_f14_go (L := 0) (by omega) (by omega) eN (by omega) q1 (zx_f14_go (L := 1) (by omega) (by omega) eN (by omega) q2 (zx_f14_st (L := 2) (by omega) (by omega) eN (by omega) q3 (K post P)))⟩⟩
      · obtain ⟨sl, fi, bh, bf, W, K⟩ := zx_f49 f_workers f_now f_stopped f_duration f_priority f_overlap f_misfire f_waitingJobs f_logged a_there a_kind a_period a_lasts a_rank a_overlaps a_makesUp a_minutes a_hours a_days a_months a_weekdays a_due a_started a_lost a_missed a_sinceStop a_request a_waiting a_slot a_filled a_behind a_before a_lies a_runs a_ends a_active a_logJob a_logAt a_logDue hj (by omega) (by omega) (zk_at_q3 q1 q2 q3) h hl
        exact ⟨sl, fi, bh, bf, W, fun post P => key post ⟨4, zx_f14_go (L := 0) (by omega) (by omega) eN (by omega) q1 (zx_f14_go (L := 1) (by omega) (by omega) eN (by omega) q2 (zx_f14_go (L := 2) (by omega) (by omega) eN (by omega) q3 (zx_f14_3 (K post P))))⟩⟩
/-- a job with no time is filed nowhere -/
theorem zx_file_no {post : SX → Prop} {j : Nat} (hj : j < 12) (eD : a_due j = -1) (K : post (f_workers, f_now, f_stopped, f_duration, f_priority, f_overlap, f_misfire, f_waitingJobs, f_logged, a_there, a_kind, a_period, a_lasts, a_rank, a_overlaps, a_makesUp, a_minutes, a_hours, a_days, a_months, a_weekdays, a_due, a_started, a_lost, a_missed, a_sinceStop, a_request, a_waiting, a_slot, a_filled, a_behind, a_before, a_lies, a_runs, a_ends, a_active, a_logJob, a_logAt, a_logDue)) : wpX_file post (f_workers, f_now, f_stopped, f_duration, f_priority, f_overlap, f_misfire, f_waitingJobs, f_logged, a_there, a_kind, a_period, a_lasts, a_rank, a_overlaps, a_makesUp, a_minutes, a_hours, a_days, a_months, a_weekdays, a_due, a_started, a_lost, a_missed, a_sinceStop, a_request, a_waiting, a_slot, a_filled, a_behind, a_before, a_lies, a_runs, a_ends, a_active, a_logJob, a_logAt, a_logDue) (nI j) := by
  refine And.intro (vp_in_nI hj (by omega)) (nm_r (e' := -1) ?_ (br_f zk_nge K))
  rw [nI_clamp (by omega)]; exact eD
theorem zx_u86 {a : Nat} {l : List Nat} (ha : a < 256) (hs : a_slot a = zw_hd l) (hl : ∀ b, b ∈ l → b < 12) :
    ∃ fi : Nat → Int64, (∀ b, b < 256 → b ≠ a → bl (fi (b / 64)) (b % 64) = bl (a_filled (b / 64)) (b % 64)) ∧ (l ≠ [] → fi = a_filled) ∧ (l = [] → bl (fi (a / 64)) (a % 64) = false) ∧ ∀ post : SX → Prop, post (f_workers, f_now, f_stopped, f_duration, f_priority, f_overlap, f_misfire, f_waitingJobs, f_logged, a_there, a_kind, a_period, a_lasts, a_rank, a_overlaps, a_makesUp, a_minutes, a_hours, a_days, a_months, a_weekdays, a_due, a_started, a_lost, a_missed, a_sinceStop, a_request, a_waiting, a_slot, fi, a_behind, a_before, a_lies, a_runs, a_ends, a_active, a_logJob, a_logAt, a_logDue) → wX_unfile_86 post (nI a) f_workers f_now f_stopped f_duration f_priority f_overlap f_misfire f_waitingJobs f_logged a_there a_kind a_period a_lasts a_rank a_overlaps a_makesUp a_minutes a_hours a_days a_months a_weekdays a_due a_started a_lost a_missed a_sinceStop a_request a_waiting a_slot a_filled a_behind a_before a_lies a_runs a_ends a_active a_logJob a_logAt a_logDue := by
  have ca : (nI a).toNatClampNeg = a := nI_clamp (by omega)
  have hin : vp_in (nI a) 256 := vp_in_nI ha (by omega)
  cases l with
  | cons b l =>
    refine ⟨a_filled, fun _ _ _ => rfl, fun _ => rfl, (fun z => by cases z), fun post K => ?_⟩
    unfold wX_unfile_86
    rw [ca, hs]
    have hb := hl b List.mem_cons_self
    exact ⟨hin, br_t (show (0 : Int32) ≤ nI b from nI_pos' (by omega)) K⟩
  | nil =>
    refine ⟨vp_updL a_filled (a / 64) (a_filled (a / 64) &&& (((1 : Int64) <<< ((nI (a % 64)).toInt64 &&& 63)) ^^^ (-1))), fun b hb hn => ?_, (fun z => absurd rfl z), fun _ => ?_, fun post K => ?_⟩
    · by_cases e : b / 64 = a / 64
      · rw [e, pk_uLs, zk_lclr _ (by omega) (by omega), decide_eq_false (by omega)]; simp
      · rw [pk_uLn e]
    · rw [pk_uLs, zk_lclr _ (by omega) (by omega)]; simp
    · unfold wX_unfile_86
      rw [ca, hs, pk_shrN (by omega) ((6 : Int32) &&& 31) 6 (by decide), pk_andN (by omega) 6 (by decide), show (nI (a / 2 ^ 6)).toNatClampNeg = a / 64 from nI_clamp (by omega)]
      exact ⟨hin, br_f zk_nge ⟨vp_in_nI (by omega) (by omega), vp_in_nI (by omega) (by omega), nm_e K⟩⟩
theorem zx_nb {l : List Nat} (hl : ∀ b, b ∈ l → b < 12) : vp_nar .byte (zw_hd l) = zw_hd l := by
  cases l with
  | nil => exact zk_vbm
  | cons b l => have hb := hl b List.mem_cons_self; exact zk_vb' (by omega)
theorem zx_u45 {j a : Nat} {l1 l2 : List Nat} {bf0 : Nat → Int32} {C : Nat → List Nat} (hj : j < 12) (ha : a < 256) (h : zw_W C a_lies a_slot a_filled a_behind bf0) (hC : C a = l1 ++ j :: l2) (eb : a_before j = bf0 j) (a_lies' : Nat → Int32) :
    ∃ (sl : Nat → Int32) (fi : Nat → Int64) (bh : Nat → Int32), (∀ i, i ∈ l1 → a_behind i = nI j → bh i = a_behind j) ∧ (∀ i, i < 12 → (i ∈ l1 → a_behind i ≠ nI j) → bh i = a_behind i) ∧ sl a = zw_hd (l1 ++ l2) ∧ (∀ b, b ≠ a → sl b = a_slot b) ∧
      (∀ b, b < 256 → b ≠ a → bl (fi (b / 64)) (b % 64) = bl (a_filled (b / 64)) (b % 64)) ∧ (bl (fi (a / 64)) (a % 64) = true ↔ l1 ++ l2 ≠ []) ∧
      ∀ post : SX → Prop, post (f_workers, f_now, f_stopped, f_duration, f_priority, f_overlap, f_misfire, f_waitingJobs, f_logged, a_there, a_kind, a_period, a_lasts, a_rank, a_overlaps, a_makesUp, a_minutes, a_hours, a_days, a_months, a_weekdays, a_due, a_started, a_lost, a_missed, a_sinceStop, a_request, a_waiting, sl, fi, bh, a_before, a_lies', a_runs, a_ends, a_active, a_logJob, a_logAt, a_logDue) → wX_unfile_45 post (nI j) (nI a) f_workers f_now f_stopped f_duration f_priority f_overlap f_misfire f_waitingJobs f_logged a_there a_kind a_period a_lasts a_rank a_overlaps a_makesUp a_minutes a_hours a_days a_months a_weekdays a_due a_started a_lost a_missed a_sinceStop a_request a_waiting a_slot a_filled a_behind a_before a_lies' a_runs a_ends a_active a_logJob a_logAt a_logDue := by
  obtain ⟨h1, h2, h3, h4, h5⟩ := h.1 a ha
  rw [hC] at h1 h2 h3 h4 h5
  have hb12 : ∀ i, i ∈ l1 ++ j :: l2 → i < 12 := fun i hi => (h5 i hi).1
  have hb1 : ∀ i, i ∈ l1 → i < 12 := fun i hi => hb12 i (by simp [hi])
  have hb2 : ∀ i, i ∈ l2 → i < 12 := fun i hi => hb12 i (by simp [hi])
  have hbb : ∀ i, i ∈ l1 ++ l2 → i < 12 := fun i hi => (List.mem_append.mp hi).elim (hb1 i) (hb2 i)
  have hjl := zw_lk_j l1 (-1) h2
  have cj : (nI j).toNatClampNeg = j := nI_clamp (by omega)
  have ca : (nI a).toNatClampNeg = a := nI_clamp (by omega)
  have hin : vp_in (nI j) 12 := vp_in_nI hj (by omega)
  have hia : vp_in (nI a) 256 := vp_in_nI ha (by omega)
  have hful : bl (a_filled (a / 64)) (a % 64) = true := h4.mpr (by simp)
  have fin : ∀ fi : Nat → Int64, (l1 ++ l2 ≠ [] → fi = a_filled) → (l1 ++ l2 = [] → bl (fi (a / 64)) (a % 64) = false) → (bl (fi (a / 64)) (a % 64) = true ↔ l1 ++ l2 ≠ []) := by
    intro fi g1 g2
    constructor
    · intro z e; rw [g2 e] at z; cases z
    · intro z; rw [g1 z]; exact hful
  cases l1 with
  | nil =>
    obtain ⟨fi, g1, g2, g3, K⟩ := zx_u86 f_workers f_now f_stopped f_duration f_priority f_overlap f_misfire f_waitingJobs f_logged a_there a_kind a_period a_lasts a_rank a_overlaps a_makesUp a_minutes a_hours a_days a_months a_weekdays a_due a_started a_lost a_missed a_sinceStop a_request a_waiting (upd a_slot a (zw_hd l2)) a_filled a_behind a_before a_lies' a_runs a_ends a_active a_logJob a_logAt a_logDue (l := [] ++ l2) ha pk_us hbb
    refine ⟨upd a_slot a (zw_hd l2), fi, a_behind, (fun i hi => by cases hi), fun i hi _ => rfl, pk_us, fun b hb => pk_un hb, g1, fin fi g2 g3, fun post P => ?_⟩
    unfold wX_unfile_45
    rw [cj, ca, eb, hjl.1, hjl.2, zx_nb hb2]
    exact ⟨hin, br_t zk_neg ⟨hin, hia, nm_e (K post P)⟩⟩
  | cons c l =>
    obtain ⟨a', m1, m2, m3, m4⟩ := zw_last (c :: l) (-1) h2 (fun z => by cases z) h3 hb12
    have ha' : a' < 12 := hb1 a' m1
    obtain ⟨fi, g1, g2, g3, K⟩ := zx_u86 f_workers f_now f_stopped f_duration f_priority f_overlap f_misfire f_waitingJobs f_logged a_there a_kind a_period a_lasts a_rank a_overlaps a_makesUp a_minutes a_hours a_days a_months a_weekdays a_due a_started a_lost a_missed a_sinceStop a_request a_waiting a_slot a_filled (upd a_behind a' (zw_hd l2)) a_before a_lies' a_runs a_ends a_active a_logJob a_logAt a_logDue (l := (c :: l) ++ l2) ha h1 hbb
    refine ⟨a_slot, fi, upd a_behind a' (zw_hd l2), fun i hi e => ?_, fun i hi z => ?_, h1, fun b hb => rfl, g1, fin fi g2 g3, fun post P => ?_⟩
    · by_cases e2 : i = a'
      · rw [e2, pk_us, hjl.2]
      · exact absurd e (m4 i hi e2)
    · refine pk_un (fun e => z (by rw [e]; exact m1) (by rw [e]; exact m3))
    · unfold wX_unfile_45
      rw [cj, eb, hjl.1, hjl.2, m2, zx_nb hb2, show (nI a').toNatClampNeg = a' from nI_clamp (by omega)]
      exact ⟨hin, br_f (nI_pos (by omega)) ⟨hin, hin, vp_in_nI ha' (by omega), nm_e (K post P)⟩⟩
theorem zx_unfile {j a : Nat} {l1 l2 : List Nat} {C : Nat → List Nat} (hj : j < 12) (ha : a < 256) (el : a_lies j = nI a) (h : zw_W C a_lies a_slot a_filled a_behind a_before) (hC : C a = l1 ++ j :: l2) :
    ∃ (sl : Nat → Int32) (fi : Nat → Int64) (bh bf : Nat → Int32), zw_W (zw_C C a (l1 ++ l2)) (upd a_lies j (-1)) sl fi bh bf ∧ ∀ post : SX → Prop, post (f_workers, f_now, f_stopped, f_duration, f_priority, f_overlap, f_misfire, f_waitingJobs, f_logged, a_there, a_kind, a_period, a_lasts, a_rank, a_overlaps, a_makesUp, a_minutes, a_hours, a_days, a_months, a_weekdays, a_due, a_started, a_lost, a_missed, a_sinceStop, a_request, a_waiting, sl, fi, bh, bf, upd a_lies j (-1), a_runs, a_ends, a_active, a_logJob, a_logAt, a_logDue) → wpX_unfile post (f_workers, f_now, f_stopped, f_duration, f_priority, f_overlap, f_misfire, f_waitingJobs, f_logged, a_there, a_kind, a_period, a_lasts, a_rank, a_overlaps, a_makesUp, a_minutes, a_hours, a_days, a_months, a_weekdays, a_due, a_started, a_lost, a_missed, a_sinceStop, a_request, a_waiting, a_slot, a_filled, a_behind, a_before, a_lies, a_runs, a_ends, a_active, a_logJob, a_logAt, a_logDue) (nI j) := by
  obtain ⟨h1, h2, h3, h4, h5⟩ := h.1 a ha
  rw [hC] at h1 h2 h3 h4 h5
  have hb12 : ∀ i, i ∈ l1 ++ j :: l2 → i < 12 := fun i hi => (h5 i hi).1
  have hb2 : ∀ i, i ∈ l2 → i < 12 := fun i hi => hb12 i (by simp [hi])
  have hjl := zw_lk_j l1 (-1) h2
  have hnd := List.nodup_append.mp h3
  have hj2 : j ∉ l2 := (List.nodup_cons.mp hnd.2.1).1
  have cj : (nI j).toNatClampNeg = j := nI_clamp (by omega)
  have hin : vp_in (nI j) 12 := vp_in_nI hj (by omega)
  cases l2 with
  | nil =>
    obtain ⟨sl, fi, bh, g1, g2, g3, g4, g5, g6, K⟩ := zx_u45 f_workers f_now f_stopped f_duration f_priority f_overlap f_misfire f_waitingJobs f_logged a_there a_kind a_period a_lasts a_rank a_overlaps a_makesUp a_minutes a_hours a_days a_months a_weekdays a_due a_started a_lost a_missed a_sinceStop a_request a_waiting a_slot a_filled a_behind a_before a_lies a_runs a_ends a_active a_logJob a_logAt a_logDue hj ha h hC rfl (upd a_lies j (-1))
    refine ⟨sl, fi, bh, a_before, zw_unfile h hj ha hC (fun b l z => by cases z) (fun i _ => rfl) g1 g2 g3 g4 g5 g6, fun post P => ?_⟩
    unfold wpX_unfile
    dsimp only
    rw [cj, el, hjl.2, zk_vsm]
    exact ⟨hin, nm_e (br_t (nI_pos' (by omega)) ⟨hin, nm_e ⟨hin, br_t zk_neg (K post P)⟩⟩)⟩
  | cons b l =>
    have hb : b < 12 := hb2 b List.mem_cons_self
    have hbj : j ≠ b := fun e => hj2 (by rw [e]; exact List.mem_cons_self)
    obtain ⟨sl, fi, bh, g1, g2, g3, g4, g5, g6, K⟩ := zx_u45 f_workers f_now f_stopped f_duration f_priority f_overlap f_misfire f_waitingJobs f_logged a_there a_kind a_period a_lasts a_rank a_overlaps a_makesUp a_minutes a_hours a_days a_months a_weekdays a_due a_started a_lost a_missed a_sinceStop a_request a_waiting a_slot a_filled a_behind (upd a_before b (a_before j)) a_lies a_runs a_ends a_active a_logJob a_logAt a_logDue hj ha h hC (pk_un hbj) (upd a_lies j (-1))
    refine ⟨sl, fi, bh, upd a_before b (a_before j), zw_unfile h hj ha hC (fun c l' z => by injection z with z1 z2; rw [← z1]; exact pk_us) (fun i z => pk_un (fun e => z l (by rw [e]))) g1 g2 g3 g4 g5 g6, fun post P => ?_⟩
    have hbf : vp_nar .byte (a_before j) = a_before j := by
      rw [hjl.1]
      cases l1 with
      | nil => exact zk_vbm
      | cons c l1 =>
        obtain ⟨a', m1, m2, m3, m4⟩ := zw_last (c :: l1) (-1) h2 (fun z => by cases z) h3 hb12
        have := hb12 a' (by simp only [List.mem_append]; exact Or.inl m1)
        rw [m2]; exact zk_vb' (by omega)
    unfold wpX_unfile
    dsimp only
    rw [cj, el, hjl.2, zk_vsm, hbf, show (zw_hd (b :: l)).toNatClampNeg = b from nI_clamp (by omega)]
    exact ⟨hin, nm_e (br_t (nI_pos' (by omega)) ⟨hin, nm_e ⟨hin, br_f (show ¬ nI b < 0 from nI_pos (by omega)) ⟨hin, hin, vp_in_nI hb (by omega), nm_e (K post P)⟩⟩⟩)⟩
/-- a job that lies nowhere -/
theorem zx_unfile_no {post : SX → Prop} {j : Nat} (hj : j < 12) (el : a_lies j = -1) (K : post (f_workers, f_now, f_stopped, f_duration, f_priority, f_overlap, f_misfire, f_waitingJobs, f_logged, a_there, a_kind, a_period, a_lasts, a_rank, a_overlaps, a_makesUp, a_minutes, a_hours, a_days, a_months, a_weekdays, a_due, a_started, a_lost, a_missed, a_sinceStop, a_request, a_waiting, a_slot, a_filled, a_behind, a_before, a_lies, a_runs, a_ends, a_active, a_logJob, a_logAt, a_logDue)) : wpX_unfile post (f_workers, f_now, f_stopped, f_duration, f_priority, f_overlap, f_misfire, f_waitingJobs, f_logged, a_there, a_kind, a_period, a_lasts, a_rank, a_overlaps, a_makesUp, a_minutes, a_hours, a_days, a_months, a_weekdays, a_due, a_started, a_lost, a_missed, a_sinceStop, a_request, a_waiting, a_slot, a_filled, a_behind, a_before, a_lies, a_runs, a_ends, a_active, a_logJob, a_logAt, a_logDue) (nI j) := by
  unfold wpX_unfile
  dsimp only
  rw [show (nI j).toNatClampNeg = j from nI_clamp (by omega), el]
  exact ⟨vp_in_nI hj (by omega), nm_e (br_f zk_nge K)⟩
end
end
section
/-! plan, nextDue, move -/
section
variable (f_workers f_now f_stopped f_duration f_priority f_overlap f_misfire f_waitingJobs f_logged : Int32) (a_there a_kind a_period a_lasts a_rank a_overlaps a_makesUp a_minutes a_hours a_days a_months a_weekdays a_due a_started a_lost a_missed a_sinceStop a_request a_waiting a_slot : Nat → Int32) (a_filled : Nat → Int64) (a_behind a_before a_lies a_runs a_ends a_active a_logJob a_logAt a_logDue : Nat → Int32)
theorem zx_plan_no {post : SX → Prop} {j : Nat} {x : Int32} (hj : j < 12) (hx : x < 0 ∨ ¬ x ≤ 1000000) (K : post (f_workers, f_now, f_stopped, f_duration, f_priority, f_overlap, f_misfire, f_waitingJobs, f_logged, a_there, a_kind, a_period, a_lasts, a_rank, a_overlaps, a_makesUp, a_minutes, a_hours, a_days, a_months, a_weekdays, upd a_due j (-1), a_started, a_lost, a_missed, a_sinceStop, a_request, a_waiting, a_slot, a_filled, a_behind, a_before, a_lies, a_runs, a_ends, a_active, a_logJob, a_logAt, a_logDue)) : wpX_plan post (f_workers, f_now, f_stopped, f_duration, f_priority, f_overlap, f_misfire, f_waitingJobs, f_logged, a_there, a_kind, a_period, a_lasts, a_rank, a_overlaps, a_makesUp, a_minutes, a_hours, a_days, a_months, a_weekdays, a_due, a_started, a_lost, a_missed, a_sinceStop, a_request, a_waiting, a_slot, a_filled, a_behind, a_before, a_lies, a_runs, a_ends, a_active, a_logJob, a_logAt, a_logDue) (nI j) x := by
  have k20 : wX_plan_20 post (nI j) (-1) (nI j) f_workers f_now f_stopped f_duration f_priority f_overlap f_misfire f_waitingJobs f_logged a_there a_kind a_period a_lasts a_rank a_overlaps a_makesUp a_minutes a_hours a_days a_months a_weekdays a_due a_started a_lost a_missed a_sinceStop a_request a_waiting a_slot a_filled a_behind a_before a_lies a_runs a_ends a_active a_logJob a_logAt a_logDue := by
    unfold wX_plan_20
    rw [show (nI j).toNatClampNeg = j from nI_clamp (by omega)]
    exact ⟨vp_in_nI hj (by omega), nm_e (zx_file_no f_workers f_now f_stopped f_duration f_priority f_overlap f_misfire f_waitingJobs f_logged a_there a_kind a_period a_lasts a_rank a_overlaps a_makesUp a_minutes a_hours a_days a_months a_weekdays (upd a_due j (-1)) a_started a_lost a_missed a_sinceStop a_request a_waiting a_slot a_filled a_behind a_before a_lies a_runs a_ends a_active a_logJob a_logAt a_logDue hj pk_us K)⟩
  have k15 : wX_plan_15 post (nI j) (nI j) f_workers f_now f_stopped f_duration f_priority f_overlap f_misfire f_waitingJobs f_logged a_there a_kind a_period a_lasts a_rank a_overlaps a_makesUp a_minutes a_hours a_days a_months a_weekdays a_due a_started a_lost a_missed a_sinceStop a_request a_waiting a_slot a_filled a_behind a_before a_lies a_runs a_ends a_active a_logJob a_logAt a_logDue := k20
  refine br_c (fun _ => k15) (fun h => ?_)
  rcases hx with z | z
  · exact absurd z h
  · exact br_f z k15
theorem zx_plan_in {j d T : Nat} (hj : j < 12) (hd : d ≤ 1000000) (hT : T < 16777216) (eN : f_now = nI T) {C : Nat → List Nat} (h : zw_W C a_lies a_slot a_filled a_behind a_before) (hl : a_lies j = -1) :
    ∃ (sl : Nat → Int32) (fi : Nat → Int64) (bh bf : Nat → Int32), zw_W (zw_C C (zk_at T d) (j :: C (zk_at T d))) (upd a_lies j (nI (zk_at T d))) sl fi bh bf ∧ ∀ post : SX → Prop, post (f_workers, f_now, f_stopped, f_duration, f_priority, f_overlap, f_misfire, f_waitingJobs, f_logged, a_there, a_kind, a_period, a_lasts, a_rank, a_overlaps, a_makesUp, a_minutes, a_hours, a_days, a_months, a_weekdays, upd a_due j (nI d), a_started, a_lost, a_missed, a_sinceStop, a_request, a_waiting, sl, fi, bh, bf, upd a_lies j (nI (zk_at T d)), a_runs, a_ends, a_active, a_logJob, a_logAt, a_logDue) → wpX_plan post (f_workers, f_now, f_stopped, f_duration, f_priority, f_overlap, f_misfire, f_waitingJobs, f_logged, a_there, a_kind, a_period, a_lasts, a_rank, a_overlaps, a_makesUp, a_minutes, a_hours, a_days, a_months, a_weekdays, a_due, a_started, a_lost, a_missed, a_sinceStop, a_request, a_waiting, a_slot, a_filled, a_behind, a_before, a_lies, a_runs, a_ends, a_active, a_logJob, a_logAt, a_logDue) (nI j) (nI d) := by
  obtain ⟨sl, fi, bh, bf, W, K⟩ := zx_file f_workers f_now f_stopped f_duration f_priority f_overlap f_misfire f_waitingJobs f_logged a_there a_kind a_period a_lasts a_rank a_overlaps a_makesUp a_minutes a_hours a_days a_months a_weekdays (upd a_due j (nI d)) a_started a_lost a_missed a_sinceStop a_request a_waiting a_slot a_filled a_behind a_before a_lies a_runs a_ends a_active a_logJob a_logAt a_logDue hj (show d < 16777216 by omega) hT eN pk_us h hl
  refine ⟨sl, fi, bh, bf, W, fun post P => ?_⟩
  refine br_f (nI_pos (by omega)) (br_t (nI_le (b := 1000000) hd (by omega)) ?_)
  unfold wX_plan_20
  rw [show (nI j).toNatClampNeg = j from nI_clamp (by omega)]
  exact ⟨vp_in_nI hj (by omega), nm_e (K _ P)⟩
theorem zx_nd61 : ∀ (l : List Nat) (p : Int32) (m n : Nat), l.length < n → m < 2 ^ 31 → zw_lk a_behind a_before p l → (∀ i, i ∈ l → i < 12 ∧ ∃ d, a_due i = nI d ∧ d ≤ 1000000) →
    ∃ m', m' ≤ m ∧ (m' = m ∨ ∃ i, i ∈ l ∧ a_due i = nI m') ∧ (∀ i, i ∈ l → ∀ d, d < 2 ^ 31 → a_due i = nI d → m' ≤ d) ∧ ∀ post : Int32 → Prop, post (nI m') → wX_nextDue_61 post f_workers f_now f_stopped f_duration f_priority f_overlap f_misfire f_waitingJobs f_logged a_there a_kind a_period a_lasts a_rank a_overlaps a_makesUp a_minutes a_hours a_days a_months a_weekdays a_due a_started a_lost a_missed a_sinceStop a_request a_waiting a_slot a_filled a_behind a_before a_lies a_runs a_ends a_active a_logJob a_logAt a_logDue n (nI m) (zw_hd l) := by
  intro l
  induction l with
  | nil =>
    intro p m n hn hm _ _
    obtain ⟨n, rfl⟩ : ∃ k, n = k + 1 := ⟨n - 1, by omega⟩
    exact ⟨m, Nat.le_refl _, Or.inl rfl, (fun i hi => by cases hi), fun post P => br_t zk_neg P⟩
  | cons i l ih =>
    intro p m n hn hm hl hb
    obtain ⟨n, rfl⟩ : ∃ k, n = k + 1 := ⟨n - 1, by omega⟩
    obtain ⟨h1, h2, h3⟩ := hl
    obtain ⟨hi, d, hd, hd2⟩ := hb i List.mem_cons_self
    have hin : vp_in (nI i) 12 := vp_in_nI hi (by omega)
    have ci : (nI i).toNatClampNeg = i := nI_clamp (by omega)
    have hlen : l.length < n := by rw [List.length_cons] at hn; omega
    have hb' : ∀ x, x ∈ l → x < 12 ∧ ∃ d, a_due x = nI d ∧ d ≤ 1000000 := fun x hx => hb x (List.mem_cons_of_mem _ hx)
    by_cases z : m ≤ d
    · obtain ⟨m', k1, k2, k3, k4⟩ := ih (nI i) m n hlen hm h3 hb'
      refine ⟨m', k1, ?_, fun x hx e he ee => ?_, fun post P => ?_⟩
      · rcases k2 with k2 | ⟨x, hx, k2⟩
        · exact Or.inl k2
        · exact Or.inr ⟨x, List.mem_cons_of_mem _ hx, k2⟩
      · rcases List.mem_cons.mp hx with y | y
        · subst y
          rw [hd] at ee
          have := (nI_eq (by omega) he).mp ee
          omega
        · exact k3 x y e he ee
      · refine br_f (show ¬ nI i < 0 from nI_pos (by omega)) ?_
        show vp_in (nI i) 12 ∧ _
        rw [show (zw_hd (i :: l)).toNatClampNeg = i from ci, hd]
        exact ⟨hin, br_t (nI_le z (by omega)) ⟨hin, nm_r h2 (k4 post P)⟩⟩
    · obtain ⟨m', k1, k2, k3, k4⟩ := ih (nI i) d n hlen (by omega) h3 hb'
      refine ⟨m', by omega, ?_, fun x hx e he ee => ?_, fun post P => ?_⟩
      · rcases k2 with k2 | ⟨x, hx, k2⟩
        · exact Or.inr ⟨i, List.mem_cons_self, by rw [k2]; exact hd⟩
        · exact Or.inr ⟨x, List.mem_cons_of_mem _ hx, k2⟩
      · rcases List.mem_cons.mp hx with y | y
        · subst y
          rw [hd] at ee
          have := (nI_eq (by omega) he).mp ee
          omega
        · exact k3 x y e he ee
      · refine br_f (show ¬ nI i < 0 from nI_pos (by omega)) ?_
        show vp_in (nI i) 12 ∧ _
        rw [show (zw_hd (i :: l)).toNatClampNeg = i from ci, hd]
        exact ⟨hin, br_f (nI_ge (by omega) (by omega)) ⟨hin, nm_e ⟨hin, nm_r h2 (k4 post P)⟩⟩⟩
theorem zx_nd26 {post : Int32 → Prop} {L s0 : Nat} {w : Int64} (hs : s0 < 64) (h1 : bl w s0 = true) (h0 : ∀ i, i < s0 → bl w i = false) (hL : L < 4) (K : ∃ n61 : Nat, wX_nextDue_61 post f_workers f_now f_stopped f_duration f_priority f_overlap f_misfire f_waitingJobs f_logged a_there a_kind a_period a_lasts a_rank a_overlaps a_makesUp a_minutes a_hours a_days a_months a_weekdays a_due a_started a_lost a_missed a_sinceStop a_request a_waiting a_slot a_filled a_behind a_before a_lies a_runs a_ends a_active a_logJob a_logAt a_logDue n61 1000001 (a_slot (64 * L + s0))) :
    ∀ k s, s + k = s0 → wX_nextDue_26 post (nI L) w f_workers f_now f_stopped f_duration f_priority f_overlap f_misfire f_waitingJobs f_logged a_there a_kind a_period a_lasts a_rank a_overlaps a_makesUp a_minutes a_hours a_days a_months a_weekdays a_due a_started a_lost a_missed a_sinceStop a_request a_waiting a_slot a_filled a_behind a_before a_lies a_runs a_ends a_active a_logJob a_logAt a_logDue (k + 1) (nI s) := by
  intro k
  induction k with
  | zero =>
    intro s e
    have e : s = s0 := by omega
    subst e
    refine br_f (fun z => ?_) ?_
    · rw [(zk_ltst w hs).mp z] at h1; cases h1
    · rw [zx_64, show (nI (64 * L + s)).toNatClampNeg = 64 * L + s from nI_clamp (by omega)]
      exact ⟨vp_in_nI (by omega) (by omega), nm_e K⟩
  | succ k ih =>
    intro s e
    refine br_t ((zk_ltst w (by omega)).mpr (h0 s (by omega))) (nm_r (nI_1 s) (ih (s + 1) (by omega)))
theorem zx_nextDue {T : Nat} {C : Nat → List Nat} (h : zw_W C a_lies a_slot a_filled a_behind a_before) (hf : ∀ j, j < 12 → a_lies j ≠ -1 → ∃ d, a_due j = nI d ∧ T ≤ d ∧ d ≤ 1000000 ∧ a_lies j = nI (zk_at T d)) :
    ∃ r : Int32, ((r = -1 ∧ ∀ j, j < 12 → a_lies j = -1) ∨ ∃ j d, j < 12 ∧ a_lies j ≠ -1 ∧ a_due j = nI d ∧ d ≤ 1000000 ∧ r = nI d ∧ ∀ i, i < 12 → a_lies i ≠ -1 → ∀ e, e < 2 ^ 31 → a_due i = nI e → d ≤ e) ∧ ∀ post : Int32 → Prop, post r → wpX_nextDue post (f_workers, f_now, f_stopped, f_duration, f_priority, f_overlap, f_misfire, f_waitingJobs, f_logged, a_there, a_kind, a_period, a_lasts, a_rank, a_overlaps, a_makesUp, a_minutes, a_hours, a_days, a_months, a_weekdays, a_due, a_started, a_lost, a_missed, a_sinceStop, a_request, a_waiting, a_slot, a_filled, a_behind, a_before, a_lies, a_runs, a_ends, a_active, a_logJob, a_logAt, a_logDue) := by
  by_cases z : ∃ a, a < 256 ∧ C a ≠ []
  · obtain ⟨a0, ⟨ha0, hne⟩, hmin⟩ := pk_least _ z
    obtain ⟨w1, w2, w3, w4, w5⟩ := h.1 a0 ha0
    have hel : ∀ i, i ∈ C a0 → i < 12 ∧ ∃ d, a_due i = nI d ∧ d ≤ 1000000 := fun i hi => by
      obtain ⟨k1, k2⟩ := w5 i hi
      obtain ⟨d, e1, e2, e3, e4⟩ := hf i k1 (by rw [k2]; exact zk_ne (by omega))
      exact ⟨k1, d, e1, e3⟩
    obtain ⟨m', k1, k2, k3, k4⟩ := zx_nd61 f_workers f_now f_stopped f_duration f_priority f_overlap f_misfire f_waitingJobs f_logged a_there a_kind a_period a_lasts a_rank a_overlaps a_makesUp a_minutes a_hours a_days a_months a_weekdays a_due a_started a_lost a_missed a_sinceStop a_request a_waiting a_slot a_filled a_behind a_before a_lies a_runs a_ends a_active a_logJob a_logAt a_logDue (C a0) (-1) 1000001 _ (Nat.lt_succ_self _) (by omega) w2 hel
    have hlow : ∀ a, a < a0 → C a = [] := fun a ha => Classical.byContradiction fun y => hmin a ha ⟨by omega, y⟩
    have hm : ∃ i, i ∈ C a0 ∧ a_due i = nI m' := by
      rcases k2 with k2 | k2
      · cases hC : C a0 with
        | nil => exact absurd hC hne
        | cons b l =>
          rw [hC] at hel k3
          obtain ⟨q1, d, q2, q3⟩ := hel b List.mem_cons_self
          have := k3 b List.mem_cons_self d (by omega) q2
          omega
      · exact k2
    obtain ⟨i0, hi0, hdue0⟩ := hm
    obtain ⟨hi12, hl0⟩ := w5 i0 hi0
    have hl0' : a_lies i0 ≠ -1 := by rw [hl0]; exact zk_ne (by omega)
    obtain ⟨d0, e1, e2, e3, e4⟩ := hf i0 hi12 hl0'
    have hd0 : d0 = m' := (nI_eq (by omega) (by omega)).mp (e1.symm.trans hdue0)
    subst hd0
    refine ⟨nI d0, Or.inr ⟨i0, d0, hi12, hl0', e1, e3, rfl, fun i hi hli e he hde => ?_⟩, fun post P => ?_⟩
    · obtain ⟨d, f1, f2, f3, f4⟩ := hf i hi hli
      have hde' : e = d := (nI_eq he (by omega)).mp (hde.symm.trans f1)
      subst hde'
      have hat := zk_at_lt T e
      have hin := zw_in h hi hat f4
      have hge : a0 ≤ zk_at T e := Nat.le_of_not_lt (fun y => by rw [hlow _ y] at hin; cases hin)
      rcases Nat.lt_or_ge a0 (zk_at T e) with y | y
      · have ea : zk_at T d0 = a0 := zw_inj2 (zk_at_lt _ _) ha0 (e4.symm.trans hl0)
        have := zk_at_mono e2 f2 (by omega) (by omega) (by rw [ea]; exact y)
        omega
      · have ea : zk_at T e = a0 := by omega
        rw [ea] at hin
        exact k3 i hin e he hde
    · have hL : a0 / 64 < 4 := by omega
      have base : wX_nextDue_2 post f_workers f_now f_stopped f_duration f_priority f_overlap f_misfire f_waitingJobs f_logged a_there a_kind a_period a_lasts a_rank a_overlaps a_makesUp a_minutes a_hours a_days a_months a_weekdays a_due a_started a_lost a_missed a_sinceStop a_request a_waiting a_slot a_filled a_behind a_before a_lies a_runs a_ends a_active a_logJob a_logAt a_logDue 1 (nI (a0 / 64)) := by
        refine br_f (nI_ge (b := 4) hL (by omega)) ⟨vp_in_nI hL (by omega), nm_r (e' := a_filled (a0 / 64)) (by rw [nI_clamp (by omega)]) (br_f (fun y => ?_) ⟨_, zx_nd26 f_workers f_now f_stopped f_duration f_priority f_overlap f_misfire f_waitingJobs f_logged a_there a_kind a_period a_lasts a_rank a_overlaps a_makesUp a_minutes a_hours a_days a_months a_weekdays a_due a_started a_lost a_missed a_sinceStop a_request a_waiting a_slot a_filled a_behind a_before a_lies a_runs a_ends a_active a_logJob a_logAt a_logDue (s0 := a0 % 64) (by omega) (w4.mpr hne) (fun i hi => ?_) hL ⟨(C a0).length.succ, ?_⟩ (a0 % 64) 0 (by omega)⟩)⟩
        · have := (zk_lzero _).mp y (a0 % 64) (by omega)
          rw [w4.mpr hne] at this; cases this
        · have q := h.1 (64 * (a0 / 64) + i) (by omega)
          have q4 := q.2.2.2.1
          rw [show (64 * (a0 / 64) + i) / 64 = a0 / 64 by omega, show (64 * (a0 / 64) + i) % 64 = i by omega, hlow _ (by omega)] at q4
          exact ts_nt (fun y => q4.mp y rfl)
        · rw [show 64 * (a0 / 64) + a0 % 64 = a0 by omega, w1]
          exact k4 post P
      have up : ∀ k L, L + k = a0 / 64 → wX_nextDue_2 post f_workers f_now f_stopped f_duration f_priority f_overlap f_misfire f_waitingJobs f_logged a_there a_kind a_period a_lasts a_rank a_overlaps a_makesUp a_minutes a_hours a_days a_months a_weekdays a_due a_started a_lost a_missed a_sinceStop a_request a_waiting a_slot a_filled a_behind a_before a_lies a_runs a_ends a_active a_logJob a_logAt a_logDue (k + 1) (nI L) := by
        intro k
        induction k with
        | zero => intro L e; rw [show L = a0 / 64 by omega]; exact base
        | succ k ih =>
          intro L e
          refine br_f (nI_ge (b := 4) (by omega) (by omega)) ⟨vp_in_nI (by omega) (by omega), nm_r (e' := a_filled L) (by rw [nI_clamp (by omega)]) (br_t ?_ (nm_r (nI_1 L) (ih (L + 1) (by omega))))⟩
          rw [zk_lzero]
          intro i hi
          have q := h.1 (64 * L + i) (by omega)
          have q4 := q.2.2.2.1
          rw [show (64 * L + i) / 64 = L by omega, show (64 * L + i) % 64 = i by omega, hlow _ (by omega)] at q4
          exact ts_nt (fun y => q4.mp y rfl)
      exact ⟨_, up (a0 / 64) 0 (by omega)⟩
  · have hall : ∀ a, a < 256 → C a = [] := fun a ha => Classical.byContradiction fun y => z ⟨a, ha, y⟩
    refine ⟨-1, Or.inl ⟨rfl, fun j hj => ?_⟩, fun post P => ?_⟩
    · rcases h.2 j hj with y | ⟨a, y1, y2, y3⟩
      · exact y
      · rw [hall a y1] at y3; cases y3
    · have up : ∀ k L, L + k = 4 → wX_nextDue_2 post f_workers f_now f_stopped f_duration f_priority f_overlap f_misfire f_waitingJobs f_logged a_there a_kind a_period a_lasts a_rank a_overlaps a_makesUp a_minutes a_hours a_days a_months a_weekdays a_due a_started a_lost a_missed a_sinceStop a_request a_waiting a_slot a_filled a_behind a_before a_lies a_runs a_ends a_active a_logJob a_logAt a_logDue (k + 1) (nI L) := by
        intro k
        induction k with
        | zero => intro L e; rw [show L = 4 by omega]; exact br_t (show (4 : Int32) ≤ nI 4 by decide) P
        | succ k ih =>
          intro L e
          refine br_f (nI_ge (b := 4) (by omega) (by omega)) ⟨vp_in_nI (by omega) (by omega), nm_r (e' := a_filled L) (by rw [nI_clamp (by omega)]) (br_t ?_ (nm_r (nI_1 L) (ih (L + 1) (by omega))))⟩
          rw [zk_lzero]
          intro i hi
          have q := h.1 (64 * L + i) (by omega)
          have q4 := q.2.2.2.1
          rw [show (64 * L + i) / 64 = L by omega, show (64 * L + i) % 64 = i by omega, hall _ (by omega)] at q4
          exact ts_nt (fun y => q4.mp y rfl)
      exact ⟨_, up 4 0 (by omega)⟩
end
section
variable (f_workers f_now f_stopped f_duration f_priority f_overlap f_misfire f_waitingJobs f_logged : Int32) (a_there a_kind a_period a_lasts a_rank a_overlaps a_makesUp a_minutes a_hours a_days a_months a_weekdays a_due a_started a_lost a_missed a_sinceStop a_request a_waiting a_slot : Nat → Int32) (a_filled : Nat → Int64) (a_behind a_before a_lies a_runs a_ends a_active a_logJob a_logAt a_logDue : Nat → Int32)
theorem zx_mv59 {t a L : Nat} (ht : t < 16777216) (eN : f_now = nI t) (ha : a < 256) (hL : 1 ≤ L) (hne : ∀ d, d < 16777216 → zk_at t d ≠ a) : ∀ (l : List Nat) (C : Nat → List Nat) (a_lies a_slot : Nat → Int32) (a_filled : Nat → Int64) (a_behind a_before : Nat → Int32),
    zw_W C a_lies a_slot a_filled a_behind a_before → C a = l → (∀ j, j ∈ l → ∃ d, a_due j = nI d ∧ d ≤ 1000000) →
    ∃ (C' : Nat → List Nat) (li sl : Nat → Int32) (fi : Nat → Int64) (bh bf : Nat → Int32), zw_W C' li sl fi bh bf ∧ (∀ j, j < 12 → a_lies j ≠ nI a → li j = a_lies j) ∧ (∀ j, j < 12 → a_lies j = nI a → ∀ d, d ≤ 1000000 → a_due j = nI d → li j = nI (zk_at t d)) ∧
      ∀ (post : SX → Prop) J (y : Int32), J (nI (L - 1)) f_workers f_now f_stopped f_duration f_priority f_overlap f_misfire f_waitingJobs f_logged a_there a_kind a_period a_lasts a_rank a_overlaps a_makesUp a_minutes a_hours a_days a_months a_weekdays a_due a_started a_lost a_missed a_sinceStop a_request a_waiting sl fi bh bf li a_runs a_ends a_active a_logJob a_logAt a_logDue → ∀ n, l.length < n → wX_move_59 post J (nI t) y (nI L) n (zw_hd l) f_workers f_now f_stopped f_duration f_priority f_overlap f_misfire f_waitingJobs f_logged a_there a_kind a_period a_lasts a_rank a_overlaps a_makesUp a_minutes a_hours a_days a_months a_weekdays a_due a_started a_lost a_missed a_sinceStop a_request a_waiting a_slot a_filled a_behind a_before a_lies a_runs a_ends a_active a_logJob a_logAt a_logDue := by
  intro l
  induction l with
  | nil =>
    intro C a_lies a_slot a_filled a_behind a_before h hC hd
    refine ⟨C, a_lies, a_slot, a_filled, a_behind, a_before, h, fun _ _ _ => rfl, fun j hj e => ?_, fun post J y P n hn => ?_⟩
    · have := zw_in h hj ha e; rw [hC] at this; cases this
    · obtain ⟨n, rfl⟩ : ∃ k, n = k + 1 := ⟨n - 1, by omega⟩
      obtain ⟨L, rfl⟩ : ∃ k, L = k + 1 := ⟨L - 1, by omega⟩
      exact br_t zk_neg (nm_r (pk_m1 L) P)
  | cons j l ih =>
    intro C a_lies a_slot a_filled a_behind a_before h hC hd
    obtain ⟨h1, h2, h3, h4, h5⟩ := h.1 a ha
    rw [hC] at h1 h2 h3 h5
    obtain ⟨hj, el⟩ := h5 j List.mem_cons_self
    obtain ⟨d, ed, hd1⟩ := hd j List.mem_cons_self
    obtain ⟨sl1, fi1, bh1, bf1, W1, K1⟩ := zx_unfile f_workers f_now f_stopped f_duration f_priority f_overlap f_misfire f_waitingJobs f_logged a_there a_kind a_period a_lasts a_rank a_overlaps a_makesUp a_minutes a_hours a_days a_months a_weekdays a_due a_started a_lost a_missed a_sinceStop a_request a_waiting a_slot a_filled a_behind a_before a_lies a_runs a_ends a_active a_logJob a_logAt a_logDue hj ha el h (l1 := []) (l2 := l) hC
    obtain ⟨sl2, fi2, bh2, bf2, W2, K2⟩ := zx_file f_workers f_now f_stopped f_duration f_priority f_overlap f_misfire f_waitingJobs f_logged a_there a_kind a_period a_lasts a_rank a_overlaps a_makesUp a_minutes a_hours a_days a_months a_weekdays a_due a_started a_lost a_missed a_sinceStop a_request a_waiting sl1 fi1 bh1 bf1 (upd a_lies j (-1)) a_runs a_ends a_active a_logJob a_logAt a_logDue hj (show d < 16777216 by omega) ht eN ed W1 pk_us
    have hna := hne d (by omega)
    have hC2 : zw_C (zw_C C a ([] ++ l)) (zk_at t d) (j :: zw_C C a ([] ++ l) (zk_at t d)) a = l := (zw_Cn (Ne.symm hna)).trans zw_Cs
    obtain ⟨C', li, sl, fi, bh, bf, W, k1, k2, k3⟩ := ih _ _ _ _ _ _ W2 hC2 (fun i hi => hd i (List.mem_cons_of_mem _ hi))
    have hli : ∀ i, i ≠ j → upd (upd a_lies j (-1)) j (nI (zk_at t d)) i = a_lies i := fun i hi => (pk_un hi).trans (pk_un hi)
    have hat := zk_at_lt t d
    refine ⟨C', li, sl, fi, bh, bf, W, fun i hi e => ?_, fun i hi e d' hd' e' => ?_, fun post J y P n hn => ?_⟩
    · have hij : i ≠ j := fun z => e (by rw [z]; exact el)
      have := k1 i hi (by rw [hli i hij]; exact e)
      rw [this, hli i hij]
    · by_cases hij : i = j
      · subst hij
        have hdd : d' = d := (nI_eq (by omega) (by omega)).mp (e'.symm.trans ed)
        subst hdd
        have := k1 i hi (by rw [pk_us]; exact fun z => hna (zw_inj2 hat ha z))
        rw [this, pk_us]
      · exact k2 i hi (by rw [hli i hij]; exact e) d' hd' e'
    · obtain ⟨n, rfl⟩ : ∃ k, n = k + 1 := ⟨n - 1, by omega⟩
      have hn' : l.length < n := by rw [List.length_cons] at hn; omega
      refine br_f (show ¬ nI j < 0 from nI_pos (by omega)) ⟨vp_in_nI hj (by omega), nm_r (e' := zw_hd l) ?_ (K1 _ (K2 _ (k3 post J y P n hn')))⟩
      rw [show (zw_hd (j :: l)).toNatClampNeg = j from nI_clamp (by omega)]
      exact h2.2.1
theorem zx_mv12 {N t : Nat} (ht : t < 16777216) (hN : N ≤ t) (eN : f_now = nI t) : ∀ (L : Nat) (C : Nat → List Nat) (a_lies a_slot : Nat → Int32) (a_filled : Nat → Int64) (a_behind a_before : Nat → Int32),
    L ≤ 3 → zw_W C a_lies a_slot a_filled a_behind a_before → (∀ j, j < 12 → a_lies j ≠ -1 → ∃ d, a_due j = nI d ∧ t ≤ d ∧ d ≤ 1000000 ∧ a_lies j = nI (zk_mx (L + 1) N t d)) →
    ∃ (C' : Nat → List Nat) (li sl : Nat → Int32) (fi : Nat → Int64) (bh bf : Nat → Int32), zw_W C' li sl fi bh bf ∧ (∀ j, j < 12 → a_lies j = -1 → li j = -1) ∧ (∀ j, j < 12 → a_lies j ≠ -1 → ∀ d, d ≤ 1000000 → a_due j = nI d → li j = nI (zk_mx 1 N t d)) ∧
      ∀ (post : SX → Prop), post (f_workers, f_now, f_stopped, f_duration, f_priority, f_overlap, f_misfire, f_waitingJobs, f_logged, a_there, a_kind, a_period, a_lasts, a_rank, a_overlaps, a_makesUp, a_minutes, a_hours, a_days, a_months, a_weekdays, a_due, a_started, a_lost, a_missed, a_sinceStop, a_request, a_waiting, sl, fi, bh, bf, li, a_runs, a_ends, a_active, a_logJob, a_logAt, a_logDue) → wX_move_12 post (nI t) (nI N) (L + 1) (nI L) f_workers f_now f_stopped f_duration f_priority f_overlap f_misfire f_waitingJobs f_logged a_there a_kind a_period a_lasts a_rank a_overlaps a_makesUp a_minutes a_hours a_days a_months a_weekdays a_due a_started a_lost a_missed a_sinceStop a_request a_waiting a_slot a_filled a_behind a_before a_lies a_runs a_ends a_active a_logJob a_logAt a_logDue := by
  intro L
  induction L with
  | zero =>
    intro C a_lies a_slot a_filled a_behind a_before _ h hf
    refine ⟨C, a_lies, a_slot, a_filled, a_behind, a_before, h, fun _ _ e => e, fun j hj e d hd e' => ?_, fun post P => ?_⟩
    · obtain ⟨d', f1, f2, f3, f4⟩ := hf j hj e
      have hdd : d = d' := (nI_eq (by omega) (by omega)).mp (e'.symm.trans f1)
      rw [hdd]; exact f4
    · exact br_t (show nI 0 ≤ 0 by decide) P
  | succ L ih =>
    intro C a_lies a_slot a_filled a_behind a_before hL h hf
    have hqt := zk_q_le t (L + 1)
    have hqN := zk_q_le N (L + 1)
    have s1 : nI t >>> ((6 * nI (L + 1)) &&& 31) = nI (zk_q (L + 1) t) := zk_shq (by omega) _ (L + 1) (zx_sh6 (L + 1) (by omega))
    have s2 : nI N >>> ((6 * nI (L + 1)) &&& 31) = nI (zk_q (L + 1) N) := zk_shq (by omega) _ (L + 1) (zx_sh6 (L + 1) (by omega))
    by_cases q : zk_q (L + 1) t = zk_q (L + 1) N
    · obtain ⟨C', li, sl, fi, bh, bf, W, k1, k2, k3⟩ := ih C a_lies a_slot a_filled a_behind a_before (by omega) h (fun j hj e => by
        obtain ⟨d, f1, f2, f3, f4⟩ := hf j hj e
        exact ⟨d, f1, f2, f3, by rw [f4, zk_mx_skip (by omega) hL hN f2 q]⟩)
      refine ⟨C', li, sl, fi, bh, bf, W, k1, k2, fun post P => ?_⟩
      refine br_f (nI_nle (by omega) (by omega)) (br_t ?_ (nm_r (pk_m1 L) (k3 post P)))
      rw [s1, s2, q]
    · have ha : 64 * (L + 1) + zk_q (L + 1) t % 64 < 256 := by omega
      have hlist : ∀ j, j ∈ C (64 * (L + 1) + zk_q (L + 1) t % 64) → ∃ d, a_due j = nI d ∧ d ≤ 1000000 := fun j hj => by
        obtain ⟨g1, g2⟩ := (h.1 _ ha).2.2.2.2 j hj
        obtain ⟨d, f1, f2, f3, f4⟩ := hf j g1 (by rw [g2]; exact zk_ne (by omega))
        exact ⟨d, f1, f3⟩
      obtain ⟨C1, li1, sl1, fi1, bh1, bf1, W1, m1, m2, m3⟩ := zx_mv59 f_workers f_now f_stopped f_duration f_priority f_overlap f_misfire f_waitingJobs f_logged a_there a_kind a_period a_lasts a_rank a_overlaps a_makesUp a_minutes a_hours a_days a_months a_weekdays a_due a_started a_lost a_missed a_sinceStop a_request a_waiting a_runs a_ends a_active a_logJob a_logAt a_logDue ht eN ha (show 1 ≤ L + 1 by omega) (fun d hd => zk_at_ne ht hd (by omega) hL) _ C a_lies a_slot a_filled a_behind a_before h rfl hlist
      have hcase : ∀ j, j < 12 → (a_lies j = -1 → li1 j = -1) ∧ (a_lies j ≠ -1 → ∃ d, a_due j = nI d ∧ t ≤ d ∧ d ≤ 1000000 ∧ li1 j = nI (zk_mx (L + 1) N t d)) := by
        intro j hj
        refine ⟨fun e => ?_, fun e => ?_⟩
        · rw [m1 j hj (by rw [e]; exact fun z => zk_ne (by omega) z.symm), e]
        · obtain ⟨d, f1, f2, f3, f4⟩ := hf j hj e
          refine ⟨d, f1, f2, f3, ?_⟩
          by_cases y : zk_mx (L + 1 + 1) N t d = 64 * (L + 1) + zk_q (L + 1) t % 64
          · rw [m2 j hj (by rw [f4, y]) d f3 f1, zk_mx_hit (by omega) y]
          · have hmx : zk_mx (L + 1 + 1) N t d < 256 := by unfold zk_mx; split <;> exact zk_at_lt _ _
            rw [m1 j hj (by rw [f4]; exact fun z => y (zw_inj2 hmx ha z)), f4, zk_mx_miss (by omega) hL hN f2 y]
      have hne1 : ∀ j, j < 12 → a_lies j ≠ -1 → li1 j ≠ -1 := fun j hj e => by
        obtain ⟨d, f1, f2, f3, f4⟩ := (hcase j hj).2 e
        have hmx : zk_mx (L + 1) N t d < 256 := by unfold zk_mx; split <;> exact zk_at_lt _ _
        rw [f4]; exact zk_ne (by omega)
      obtain ⟨C', li, sl, fi, bh, bf, W, k1, k2, k3⟩ := ih C1 li1 sl1 fi1 bh1 bf1 (by omega) W1 (fun j hj e => (hcase j hj).2 (fun z => e ((hcase j hj).1 z)))
      refine ⟨C', li, sl, fi, bh, bf, W, fun j hj e => k1 j hj ((hcase j hj).1 e), fun j hj e => k2 j hj (hne1 j hj e), fun post P => ?_⟩
      have hslot := (h.1 _ ha).1
      refine br_f (nI_nle (by omega) (by omega)) (br_f ?_ (nm_r (e' := nI (64 * (L + 1) + zk_q (L + 1) t % 64)) ?_ ⟨vp_in_nI ha (by omega), nm_r (e' := zw_hd (C (64 * (L + 1) + zk_q (L + 1) t % 64))) ?_ ⟨_, m3 post _ _ (k3 post P) _ (Nat.lt_succ_self _)⟩⟩))
      · rw [s1, s2, nI_eq (by omega) (by omega)]; exact q
      · rw [zx_sl (by omega) (by omega), zx_64]
      · rw [nI_clamp (by omega)]; exact hslot
theorem zx_move {N t : Nat} (ht : t < 16777216) (hN : N ≤ t) (eN : f_now = nI N) {C : Nat → List Nat} (h : zw_W C a_lies a_slot a_filled a_behind a_before) (hf : ∀ j, j < 12 → a_lies j ≠ -1 → ∃ d, a_due j = nI d ∧ t ≤ d ∧ d ≤ 1000000 ∧ a_lies j = nI (zk_at N d)) :
    ∃ (C' : Nat → List Nat) (li sl : Nat → Int32) (fi : Nat → Int64) (bh bf : Nat → Int32), zw_W C' li sl fi bh bf ∧ (∀ j, j < 12 → a_lies j = -1 → li j = -1) ∧ (∀ j, j < 12 → a_lies j ≠ -1 → ∀ d, d ≤ 1000000 → a_due j = nI d → li j = nI (zk_at t d)) ∧
      ∀ (post : SX → Prop), post (f_workers, nI t, f_stopped, f_duration, f_priority, f_overlap, f_misfire, f_waitingJobs, f_logged, a_there, a_kind, a_period, a_lasts, a_rank, a_overlaps, a_makesUp, a_minutes, a_hours, a_days, a_months, a_weekdays, a_due, a_started, a_lost, a_missed, a_sinceStop, a_request, a_waiting, sl, fi, bh, bf, li, a_runs, a_ends, a_active, a_logJob, a_logAt, a_logDue) → wpX_move post (f_workers, f_now, f_stopped, f_duration, f_priority, f_overlap, f_misfire, f_waitingJobs, f_logged, a_there, a_kind, a_period, a_lasts, a_rank, a_overlaps, a_makesUp, a_minutes, a_hours, a_days, a_months, a_weekdays, a_due, a_started, a_lost, a_missed, a_sinceStop, a_request, a_waiting, a_slot, a_filled, a_behind, a_before, a_lies, a_runs, a_ends, a_active, a_logJob, a_logAt, a_logDue) (nI t) := by
  obtain ⟨C', li, sl, fi, bh, bf, W, k1, k2, k3⟩ := zx_mv12 f_workers (nI t) f_stopped f_duration f_priority f_overlap f_misfire f_waitingJobs f_logged a_there a_kind a_period a_lasts a_rank a_overlaps a_makesUp a_minutes a_hours a_days a_months a_weekdays a_due a_started a_lost a_missed a_sinceStop a_request a_waiting a_runs a_ends a_active a_logJob a_logAt a_logDue ht hN rfl 3 C a_lies a_slot a_filled a_behind a_before (by omega) h (fun j hj e => by
    obtain ⟨d, f1, f2, f3, f4⟩ := hf j hj e
    exact ⟨d, f1, f2, f3, by rw [f4, zk_mx4]⟩)
  refine ⟨C', li, sl, fi, bh, bf, W, k1, fun j hj e d hd e' => ?_, fun post P => ?_⟩
  · obtain ⟨d', f1, f2, f3, f4⟩ := hf j hj e
    have hdd : d = d' := (nI_eq (by omega) (by omega)).mp (e'.symm.trans f1)
    subst hdd
    rw [k2 j hj e d hd e', zk_mx1 hN f2]
  · subst eN
    exact ⟨4, k3 post P⟩
end
end
section
/-! the calendar: walks -/
def zk_bi : Bool → Int32
  | true => 1
  | false => 0
theorem zk_bi0 (b : Bool) : zk_bi b = 0 ↔ b = false := by cases b <;> simp [zk_bi]
theorem zk_bin (b : Bool) : narrow .boolean (.int (zk_bi b)) = .int (zk_bi b) := by cases b <;> rfl
theorem zk_bib {A B : Prop} (b : Bool) (f : b = false → A) (g : b = true → B) : (zk_bi b = 0 → A) ∧ (¬ zk_bi b = 0 → B) := by
  cases b
  · exact br_t rfl (f rfl)
  · exact br_f zk_01 (g rfl)
theorem zk_tsb {A B : Prop} {S k : Nat} (hk : k < 32) (f : S.testBit k = false → A) (g : S.testBit k = true → B) : (((nI S >>> (nI k &&& 31)) &&& 1) = 0 → A) ∧ (¬ ((nI S >>> (nI k &&& 31)) &&& 1) = 0 → B) := by
  rw [zk_tst hk]
  exact br_c f (fun z => g (ts_nf z))
theorem zx_from12 : ∀ (n s k : Nat), 0 < s → s < n → s < 2 ^ 31 → ∃ m, s.testBit m = true ∧ (∀ i, i < m → s.testBit i = false) ∧ ∀ post : Int32 → Prop, post (nI (k + m)) → wX_from_12 post n (nI s) (nI k) := by
  intro n
  induction n with
  | zero => intro s k h1 h2; omega
  | succ n ih =>
    intro s k h1 h2 h3
    have e1 : nI s &&& 1 = nI (s % 2) := pk_andN (by omega) 1 (by decide)
    have e2 : nI s >>> ((1 : Int32) &&& 31) = nI (s / 2) := pk_shrN h3 _ 1 (by decide)
    by_cases z : s % 2 = 0
    · obtain ⟨m, m1, m2, m3⟩ := ih (s / 2) (k + 1) (by omega) (by omega) (by omega)
      refine ⟨m + 1, by rw [Nat.testBit_succ]; exact m1, fun i hi => ?_, fun post P => ?_⟩
      · cases i with
        | zero => rw [Nat.testBit_zero]; exact decide_eq_false (by omega)
        | succ i => rw [Nat.testBit_succ]; exact m2 i (by omega)
      · refine br_t (by rw [e1, z]; rfl) (nm_r e2 (nm_r (nI_1 k) (m3 post ?_)))
        rw [show k + 1 + m = k + (m + 1) by omega]; exact P
    · refine ⟨0, by rw [Nat.testBit_zero]; exact decide_eq_true (by omega), fun i hi => by omega, fun post P => ?_⟩
      exact br_f (by rw [e1, show s % 2 = 1 by omega]; exact zk_01) P
theorem zx_from {S a : Nat} (hS : S < 32768) (ha : a < 32) : ∃ r, zk_fr S a r ∧ ∀ post : Int32 → Prop, post r → wpX_from post (nI S) (nI a) := by
  have e : nI S >>> (nI a &&& 31) = nI (S / 2 ^ a) := pk_shrN (by omega) _ a (s_l a ha)
  have hle := Nat.div_le_self S (2 ^ a)
  have hb : ∀ i, (S / 2 ^ a).testBit i = S.testBit (a + i) := fun i => by rw [Nat.testBit_div_two_pow, Nat.add_comm]
  by_cases z : S / 2 ^ a = 0
  · refine ⟨-1, Or.inl ⟨rfl, fun i hi => ?_⟩, fun post P => nm_r e (br_t (by rw [z]; rfl) P)⟩
    have := hb (i - a)
    rw [z, Nat.zero_testBit, show a + (i - a) = i by omega] at this
    exact this.symm
  · obtain ⟨m, m1, m2, m3⟩ := zx_from12 (S / 2 ^ a + 1) (S / 2 ^ a) a (Nat.pos_of_ne_zero z) (by omega) (by omega)
    refine ⟨nI (a + m), Or.inr ⟨a + m, rfl, by omega, by rw [← hb]; exact m1, fun i h1 h2 => ?_⟩, fun post P => nm_r e (br_f (nI_ne0 (Nat.pos_of_ne_zero z) (by omega)) ⟨_, m3 post P⟩)⟩
    have := hb (i - a)
    rw [m2 (i - a) (by omega), show a + (i - a) = i by omega] at this
    exact this.symm
section
variable {f_workers f_now f_stopped f_duration f_priority f_overlap f_misfire f_waitingJobs f_logged : Int32} {a_there a_kind a_period a_lasts a_rank a_overlaps a_makesUp a_minutes a_hours a_days a_months a_weekdays a_due a_started a_lost a_missed a_sinceStop a_request a_waiting a_slot : Nat → Int32} {a_filled : Nat → Int64} {a_behind a_before a_lies a_runs a_ends a_active a_logJob a_logAt a_logDue : Nat → Int32}
theorem zx_isDay88 {post : Int32 → Prop} {A B : Bool} (K : post (zk_bi (A && B))) : wX_isDay_88 post (zk_bi A) (zk_bi B) f_workers f_now f_stopped f_duration f_priority f_overlap f_misfire f_waitingJobs f_logged a_there a_kind a_period a_lasts a_rank a_overlaps a_makesUp a_minutes a_hours a_days a_months a_weekdays a_due a_started a_lost a_missed a_sinceStop a_request a_waiting a_slot a_filled a_behind a_before a_lies a_runs a_ends a_active a_logJob a_logAt a_logDue := by
  unfold wX_isDay_88
  cases A
  · exact br_t rfl K
  · cases B
    · exact br_f zk_01 (br_t rfl K)
    · exact br_f zk_01 (br_f zk_01 K)
theorem zx_isDay63 {post : Int32 → Prop} {j da wd : Nat} {A B : Bool} (hj : j < 12) (hda : da < 32768) (hwd : wd < 32768) (e2 : a_days j = nI da) (e3 : a_weekdays j = nI wd) (K : post (zk_bi (if da = 1023 ∨ wd = 127 then A && B else A || B))) : wX_isDay_63 post (nI j) (zk_bi A) (zk_bi B) f_workers f_now f_stopped f_duration f_priority f_overlap f_misfire f_waitingJobs f_logged a_there a_kind a_period a_lasts a_rank a_overlaps a_makesUp a_minutes a_hours a_days a_months a_weekdays a_due a_started a_lost a_missed a_sinceStop a_request a_waiting a_slot a_filled a_behind a_before a_lies a_runs a_ends a_active a_logJob a_logAt a_logDue := by
  have hin : vp_in (nI j) 12 := vp_in_nI hj (by omega)
  unfold wX_isDay_63
  rw [show (nI j).toNatClampNeg = j from nI_clamp (by omega), e2, e3]
  refine ⟨hin, pk_eq da 1023 (fun h => zx_isDay88 (by rw [if_pos (Or.inl h)] at K; exact K)) (fun h => ⟨hin, pk_eq wd 127 (fun h2 => zx_isDay88 (by rw [if_pos (Or.inr h2)] at K; exact K)) (fun h2 => ?_)⟩)⟩
  rw [if_neg (fun z => z.elim h h2)] at K
  cases A
  · cases B
    · exact br_t rfl (br_t rfl K)
    · exact br_t rfl (br_f zk_01 K)
  · exact br_f zk_01 K
theorem zx_isDay41 {post : Int32 → Prop} {j d da wd : Nat} {A : Bool} (hj : j < 12) (hd : d < 2 ^ 31) (hda : da < 32768) (hwd : wd < 32768) (e2 : a_days j = nI da) (e3 : a_weekdays j = nI wd) (K : post (zk_bi (if da = 1023 ∨ wd = 127 then A && wd.testBit (d % 7) else A || wd.testBit (d % 7)))) : wX_isDay_41 post (nI j) (nI d) (zk_bi A) f_workers f_now f_stopped f_duration f_priority f_overlap f_misfire f_waitingJobs f_logged a_there a_kind a_period a_lasts a_rank a_overlaps a_makesUp a_minutes a_hours a_days a_months a_weekdays a_due a_started a_lost a_missed a_sinceStop a_request a_waiting a_slot a_filled a_behind a_before a_lies a_runs a_ends a_active a_logJob a_logAt a_logDue := by
  unfold wX_isDay_41
  rw [show (nI j).toNatClampNeg = j from nI_clamp (by omega), e3, zk_r7 hd]
  refine ⟨vp_in_nI hj (by omega), zk_n7, zk_tsb (by omega) (fun h => ?_) (fun h => ?_)⟩
  · exact zx_isDay63 (B := false) hj hda hwd e2 e3 (by rw [h] at K; exact K)
  · exact zx_isDay63 (B := true) hj hda hwd e2 e3 (by rw [h] at K; exact K)
theorem zx_isDay {post : Int32 → Prop} {j d da mo wd : Nat} (hj : j < 12) (hd : d < 2 ^ 31) (hda : da < 32768) (hwd : wd < 32768) (e1 : a_months j = nI mo) (e2 : a_days j = nI da) (e3 : a_weekdays j = nI wd) (K : post (zk_bi (zk_dy da mo wd d))) : wpX_isDay post (f_workers, f_now, f_stopped, f_duration, f_priority, f_overlap, f_misfire, f_waitingJobs, f_logged, a_there, a_kind, a_period, a_lasts, a_rank, a_overlaps, a_makesUp, a_minutes, a_hours, a_days, a_months, a_weekdays, a_due, a_started, a_lost, a_missed, a_sinceStop, a_request, a_waiting, a_slot, a_filled, a_behind, a_before, a_lies, a_runs, a_ends, a_active, a_logJob, a_logAt, a_logDue) (nI j) (nI d) := by
  unfold wpX_isDay
  dsimp only
  rw [show (nI j).toNatClampNeg = j from nI_clamp (by omega), e1, e2, zk_r10 hd, zk_d10 hd, zk_r4 (by omega)]
  have hin : vp_in (nI j) 12 := vp_in_nI hj (by omega)
  unfold zk_dy at K
  refine ⟨hin, zk_n10, zk_n4, zk_tsb (by omega) (fun h => ?_) (fun h => ⟨hin, zk_n10, zk_tsb (by omega) (fun h2 => ?_) (fun h2 => ?_)⟩)⟩
  · rw [h, Bool.false_and] at K; exact K
  · rw [h, h2, Bool.true_and] at K
    exact zx_isDay41 (A := false) hj hd hda hwd e2 e3 K
  · rw [h, h2, Bool.true_and] at K
    exact zx_isDay41 (A := true) hj hd hda hwd e2 e3 K
/-- the sets of a job -/
def zk_ok (mi ho da mo wd : Nat) : Prop := 0 < mi ∧ mi < 1024 ∧ 0 < ho ∧ ho < 256 ∧ 0 < da ∧ da < 1024 ∧ 0 < mo ∧ mo < 16 ∧ 0 < wd ∧ wd < 128
theorem zk_fr0 {S : Nat} {r : Int32} (h0 : 0 < S) (h : zk_fr S 0 r) : ∃ k, r = nI k ∧ S.testBit k = true ∧ ∀ i, i < k → S.testBit i = false := by
  rcases h with ⟨-, h⟩ | ⟨k, h1, h2, h3, h4⟩
  · exfalso
    have : S = 0 := Nat.eq_of_testBit_eq (fun i => by rw [h i (by omega), Nat.zero_testBit])
    omega
  · exact ⟨k, h1, h3, fun i hi => h4 i (by omega) hi⟩
theorem zx_add (d H M : Nat) : 80 * nI d + 10 * nI H + nI M = nI (80 * d + 10 * H + M) := by
  show nI 80 * nI d + nI 10 * nI H + nI M = _
  rw [pk_mul, pk_mul, nI_add, nI_add]
theorem zx_s180 {post : Int32 → Prop} {j mi ho da mo wd t b H M : Nat} (hj : j < 12) (ht : t ≤ 1000000) (hda : da < 32768) (hwd : wd < 32768) (e1 : a_months j = nI mo) (e2 : a_days j = nI da) (e3 : a_weekdays j = nI wd)
    (hb : (t + 1) / 80 = b) (h0 : ∀ s, t < s → s / 80 = b → zk_ft mi ho da mo wd s = false) (hH : H < 8) (hM : M < 10) (eH : ho.testBit H = true) (eM : mi.testBit M = true)
    (nH : ∀ i, i < H → ho.testBit i = false) (nM : ∀ i, i < M → mi.testBit i = false) (K : ∀ r, zk_nx mi ho da mo wd t r → post r) :
    ∀ n d, d + n = b + 282 → b < d → (∀ x, b < x → x < d → zk_dy da mo wd x = false) → wX_search_180 post (nI j) (nI b) (nI H) (nI M) f_workers f_now f_stopped f_duration f_priority f_overlap f_misfire f_waitingJobs f_logged a_there a_kind a_period a_lasts a_rank a_overlaps a_makesUp a_minutes a_hours a_days a_months a_weekdays a_due a_started a_lost a_missed a_sinceStop a_request a_waiting a_slot a_filled a_behind a_before a_lies a_runs a_ends a_active a_logJob a_logAt a_logDue (n + 1) (nI d) := by
  have e282 : nI b + 282 = nI (b + 282) := nI_add b 282
  intro n
  induction n with
  | zero =>
    intro d hd hbd hx
    refine br_t ?_ (K _ (zk_td_none hb h0 (fun x h1 h2 => hx x h1 (by omega))))
    rw [e282]; exact nI_le (by omega) (by omega)
  | succ n ih =>
    intro d hd hbd hx
    refine br_f ?_ (zx_isDay hj (by omega) hda hwd e1 e2 e3 (zk_bib _ (fun z => nm_r (nI_1 d) (ih (d + 1) (by omega) (by omega) (fun x h1 h2 => ?_))) (fun z => ?_)))
    · rw [e282]; exact nI_ge (by omega) (by omega)
    · rcases Nat.lt_or_ge x d with y | y
      · exact hx x h1 y
      · rw [show x = d by omega]; exact z
    · rw [zx_add]
      exact K _ (zk_td_next hb h0 hH hM eH eM nH nM hbd (by omega) hx z)
theorem zx_s128 {post : Int32 → Prop} {j mi ho da mo wd t b : Nat} {x5 x6 : Int32} (hj : j < 12) (ht : t ≤ 1000000) (ok : zk_ok mi ho da mo wd) (f1 : a_minutes j = nI mi) (f2 : a_hours j = nI ho) (e1 : a_months j = nI mo) (e2 : a_days j = nI da) (e3 : a_weekdays j = nI wd)
    (hb : (t + 1) / 80 = b) (h0 : ∀ s, t < s → s / 80 = b → zk_ft mi ho da mo wd s = false) (K : ∀ r, zk_nx mi ho da mo wd t r → post r) : wX_search_128 post (nI j) (nI b) x5 x6 0 f_workers f_now f_stopped f_duration f_priority f_overlap f_misfire f_waitingJobs f_logged a_there a_kind a_period a_lasts a_rank a_overlaps a_makesUp a_minutes a_hours a_days a_months a_weekdays a_due a_started a_lost a_missed a_sinceStop a_request a_waiting a_slot a_filled a_behind a_before a_lies a_runs a_ends a_active a_logJob a_logAt a_logDue := by
  obtain ⟨o1, o2, o3, o4, o5, o6, o7, o8, o9, o10⟩ := ok
  obtain ⟨r, r1, r2⟩ := zx_from (S := ho) (a := 0) (by omega) (by omega)
  obtain ⟨r', r1', r2'⟩ := zx_from (S := mi) (a := 0) (by omega) (by omega)
  obtain ⟨H, rfl, eH, nH⟩ := zk_fr0 o3 r1
  obtain ⟨M, rfl, eM, nM⟩ := zk_fr0 o1 r1'
  have hin : vp_in (nI j) 12 := vp_in_nI hj (by omega)
  unfold wX_search_128
  rw [show (nI j).toNatClampNeg = j from nI_clamp (by omega), f1, f2]
  refine br_t rfl ⟨hin, r2 _ ⟨hin, r2' _ (nm_r (nI_1 b) ⟨282, ?_⟩)⟩⟩
  exact zx_s180 hj ht (by omega) (by omega) e1 e2 e3 hb h0 (zk_lowk (k := 8) o4 eH) (zk_lowk (k := 10) o2 eM) eH eM nH nM K 281 (b + 1) (by omega) (by omega) (fun x h1 h2 => by omega)
theorem zx_s108 {post : Int32 → Prop} {j mi ho da mo wd t b : Nat} {x5 x6 : Int32} (hj : j < 12) (ht : t ≤ 1000000) (ok : zk_ok mi ho da mo wd) (f1 : a_minutes j = nI mi) (f2 : a_hours j = nI ho) (e1 : a_months j = nI mo) (e2 : a_days j = nI da) (e3 : a_weekdays j = nI wd)
    (hb : (t + 1) / 80 = b) (h : zk_td mi ho t b x5 x6) (K : ∀ r, zk_nx mi ho da mo wd t r → post r) : wX_search_108 post (nI j) (nI b) x5 x6 f_workers f_now f_stopped f_duration f_priority f_overlap f_misfire f_waitingJobs f_logged a_there a_kind a_period a_lasts a_rank a_overlaps a_makesUp a_minutes a_hours a_days a_months a_weekdays a_due a_started a_lost a_missed a_sinceStop a_request a_waiting a_slot a_filled a_behind a_before a_lies a_runs a_ends a_active a_logJob a_logAt a_logDue := by
  have okk := ok
  obtain ⟨o1, o2, o3, o4, o5, o6, o7, o8, o9, o10⟩ := ok
  unfold wX_search_108 wX_search_127
  rcases h with ⟨rfl, h⟩ | ⟨H, M, rfl, rfl, h1, h2, h3, h4, h5⟩
  · refine br_t zk_neg (zx_s128 hj ht okk f1 f2 e1 e2 e3 hb (fun s z1 z2 => ?_) K)
    unfold zk_ft; rw [h s z1 z2, Bool.false_and]
  · refine br_f (nI_pos (by omega)) (zx_isDay hj (by omega) (by omega) (by omega) e1 e2 e3 (zk_bib _ (fun z => zx_s128 hj ht okk f1 f2 e1 e2 e3 hb (fun s z1 z2 => ?_) K) (fun z => ?_)))
    · unfold zk_ft; rw [z2, z, Bool.and_false]
    · unfold wX_search_128
      rw [zx_add]
      exact br_f zk_01 (K _ (zk_td_day o2 o4 hb rfl rfl h1 h2 h3 h4 h5 z))
theorem zx_search {post : Int32 → Prop} {j mi ho da mo wd t : Nat} (hj : j < 12) (ht : t ≤ 1000000) (ok : zk_ok mi ho da mo wd) (f1 : a_minutes j = nI mi) (f2 : a_hours j = nI ho) (e1 : a_months j = nI mo) (e2 : a_days j = nI da) (e3 : a_weekdays j = nI wd)
    (K : ∀ r, zk_nx mi ho da mo wd t r → post r) : wpX_search post (f_workers, f_now, f_stopped, f_duration, f_priority, f_overlap, f_misfire, f_waitingJobs, f_logged, a_there, a_kind, a_period, a_lasts, a_rank, a_overlaps, a_makesUp, a_minutes, a_hours, a_days, a_months, a_weekdays, a_due, a_started, a_lost, a_missed, a_sinceStop, a_request, a_waiting, a_slot, a_filled, a_behind, a_before, a_lies, a_runs, a_ends, a_active, a_logJob, a_logAt, a_logDue) (nI j) (nI t) := by
  have okk := ok
  obtain ⟨o1, o2, o3, o4, o5, o6, o7, o8, o9, o10⟩ := ok
  have hin : vp_in (nI j) 12 := vp_in_nI hj (by omega)
  have cj : (nI j).toNatClampNeg = j := nI_clamp (by omega)
  have k108 : ∀ x5 x6, zk_td mi ho t ((t + 1) / 80) x5 x6 → wX_search_108 post (nI j) (nI ((t + 1) / 80)) x5 x6 f_workers f_now f_stopped f_duration f_priority f_overlap f_misfire f_waitingJobs f_logged a_there a_kind a_period a_lasts a_rank a_overlaps a_makesUp a_minutes a_hours a_days a_months a_weekdays a_due a_started a_lost a_missed a_sinceStop a_request a_waiting a_slot a_filled a_behind a_before a_lies a_runs a_ends a_active a_logJob a_logAt a_logDue := fun x5 x6 h => zx_s108 hj ht okk f1 f2 e1 e2 e3 rfl h K
  obtain ⟨rm, rm1, rm2⟩ := zx_from (S := mi) (a := 0) (by omega) (by omega)
  obtain ⟨M, rfl, eM, nM⟩ := zk_fr0 o1 rm1
  have k96 : ∀ x5, zk_td mi ho t ((t + 1) / 80) x5 (nI M) → wX_search_96 post (nI j) (nI ((t + 1) / 80)) x5 f_workers f_now f_stopped f_duration f_priority f_overlap f_misfire f_waitingJobs f_logged a_there a_kind a_period a_lasts a_rank a_overlaps a_makesUp a_minutes a_hours a_days a_months a_weekdays a_due a_started a_lost a_missed a_sinceStop a_request a_waiting a_slot a_filled a_behind a_before a_lies a_runs a_ends a_active a_logJob a_logAt a_logDue := fun x5 h => by
    unfold wX_search_96
    rw [cj, f1]
    exact ⟨hin, rm2 _ (k108 x5 (nI M) h)⟩
  obtain ⟨r, r1, r2⟩ := zx_from (S := ho) (a := (t + 1) / 10 % 8) (by omega) (by omega)
  unfold wpX_search
  dsimp only
  refine nm_r (nI_1 t) ⟨zk_n80, nm_r (zk_d80 (by omega)) ⟨hin, zk_n10, zk_n8, ?_⟩⟩
  rw [cj, f2, f1, zk_r10 (show t + 1 < 2 ^ 31 by omega), zk_d10 (show t + 1 < 2 ^ 31 by omega), zk_r8 (show (t + 1) / 10 < 2 ^ 31 by omega)]
  refine r2 _ ⟨zk_n10, zk_n8, ?_⟩
  have k57 : ∀ z0, (∀ i, (t + 1) % 10 ≤ i → mi.testBit i = false) ∨ ho.testBit ((t + 1) / 10 % 8) = false → z0 = -1 → wX_search_57 post (nI j) (nI (t + 1)) (nI ((t + 1) / 80)) r z0 f_workers f_now f_stopped f_duration f_priority f_overlap f_misfire f_waitingJobs f_logged a_there a_kind a_period a_lasts a_rank a_overlaps a_makesUp a_minutes a_hours a_days a_months a_weekdays a_due a_started a_lost a_missed a_sinceStop a_request a_waiting a_slot a_filled a_behind a_before a_lies a_runs a_ends a_active a_logJob a_logAt a_logDue := by
    intro z0 hn ez
    subst ez
    unfold wX_search_57
    rw [cj, f2, zk_d10 (show t + 1 < 2 ^ 31 by omega), zk_r8 (show (t + 1) / 10 < 2 ^ 31 by omega)]
    rcases r1 with ⟨rfl, h⟩ | ⟨k, rfl, h1, h2, h3⟩
    · exact br_t zk_neg (k108 _ _ (zk_td_c _ rfl (fun i hi => h i (by omega)) (Or.inl (h _ (Nat.le_refl _)))))
    · have hk8 : k < 8 := zk_lowk (k := 8) o4 h2
      refine br_f (nI_pos (by omega)) (br_f zk_nge ⟨zk_n10, zk_n8, pk_eq k ((t + 1) / 10 % 8) (fun e => ⟨hin, ?_⟩) (fun e => ?_)⟩)
      · obtain ⟨r', q1, q2⟩ := zx_from (S := ho) (a := k + 1) (by omega) (by omega)
        rw [nI_1]
        refine q2 _ (k96 _ ?_)
        have hn' : ho.testBit ((t + 1) / 10 % 8) = false ∨ ∀ i, (t + 1) % 10 ≤ i → mi.testBit i = false := hn.symm
        rcases q1 with ⟨rfl, h⟩ | ⟨k', rfl, g1, g2, g3⟩
        · exact zk_td_c _ rfl (fun i hi => h i (by omega)) hn'
        · exact zk_td_b o4 o2 rfl (by omega) g2 (fun i i1 i2 => g3 i (by omega) i2) hn' eM nM
      · refine k96 _ (zk_td_b o4 o2 rfl (by omega) h2 (fun i i1 i2 => h3 i (by omega) i2) (Or.inl (h3 _ (Nat.le_refl _) (by omega))) eM nM)
  have r1' := r1
  rcases r1' with ⟨rfl, h⟩ | ⟨k, rfl, h1, h2, h3⟩
  · refine br_f (fun z => zk_ne (by omega) z.symm) (k57 _ (Or.inr (h _ (Nat.le_refl _))) rfl)
  · have hk8 : k < 8 := zk_lowk (k := 8) o4 h2
    refine pk_eq k ((t + 1) / 10 % 8) (fun e => ⟨hin, zk_n10, ?_⟩) (fun e => k57 _ (Or.inr (h3 _ (Nat.le_refl _) (by omega))) rfl)
    · obtain ⟨r', q1, q2⟩ := zx_from (S := mi) (a := (t + 1) % 10) (by omega) (by omega)
      refine q2 _ ?_
      rcases q1 with ⟨rfl, h⟩ | ⟨m, rfl, g1, g2, g3⟩
      · exact k57 _ (Or.inl h) rfl
      · have hm : m < 10 := zk_lowk (k := 10) o2 g2
        unfold wX_search_57
        exact br_f (nI_pos (by omega)) (br_t (nI_pos' (by omega)) (k108 _ _ (zk_td_a o4 o2 rfl e h2 g1 g2 g3)))
end
end
section
/-! the reference's calendar -/
def zk_fl (f : Nat → Int32) (t : Nat) : Nat → Int32 := upd (upd (upd (upd (upd f 0 (nI (t % 10))) 1 (nI (t / 10 % 8))) 2 (nI (t / 80 % 10))) 3 (nI (t / 800 % 4))) 4 (nI (t / 80 % 7))
theorem zk_fl0 (f : Nat → Int32) (t : Nat) : zk_fl f t 0 = nI (t % 10) := rfl
theorem zk_fl1 (f : Nat → Int32) (t : Nat) : zk_fl f t 1 = nI (t / 10 % 8) := rfl
theorem zk_fl2 (f : Nat → Int32) (t : Nat) : zk_fl f t 2 = nI (t / 80 % 10) := rfl
theorem zk_fl3 (f : Nat → Int32) (t : Nat) : zk_fl f t 3 = nI (t / 800 % 4) := rfl
theorem zk_fl4 (f : Nat → Int32) (t : Nat) : zk_fl f t 4 = nI (t / 80 % 7) := rfl
theorem zy_field0 {post : Int32 → Prop} {t : Nat} (ht : t < 2 ^ 31) (K : post (nI (t % 10))) : wpY_field post (nI t) 0 := by
  unfold wpY_field
  rw [zk_r10 ht]
  exact br_t rfl ⟨zk_n10, K⟩
theorem zy_field1 {post : Int32 → Prop} {t : Nat} (ht : t < 2 ^ 31) (K : post (nI (t / 10 % 8))) : wpY_field post (nI t) 1 := by
  unfold wpY_field
  rw [zk_d10 ht, zk_r8 (by omega)]
  exact br_f (by decide) (br_t rfl ⟨zk_n10, zk_n8, K⟩)
theorem zy_field2 {post : Int32 → Prop} {t : Nat} (ht : t < 2 ^ 31) (K : post (nI (t / 80 % 10))) : wpY_field post (nI t) 2 := by
  unfold wpY_field
  rw [zk_d80 ht, zk_r10 (show t / 80 < 2 ^ 31 by omega)]
  exact br_f (by decide) (br_f (by decide) (br_t rfl ⟨zk_n80, zk_n10, K⟩))
theorem zy_field3 {post : Int32 → Prop} {t : Nat} (ht : t < 2 ^ 31) (K : post (nI (t / 800 % 4))) : wpY_field post (nI t) 3 := by
  unfold wpY_field
  rw [zk_d800 ht, zk_r4 (by omega)]
  exact br_f (by decide) (br_f (by decide) (br_f (by decide) (br_t rfl ⟨zk_n800, zk_n4, K⟩)))
theorem zy_field4 {post : Int32 → Prop} {t : Nat} (ht : t < 2 ^ 31) (K : post (nI (t / 80 % 7))) : wpY_field post (nI t) 4 := by
  unfold wpY_field
  rw [zk_d80 ht, zk_r7 (by omega)]
  exact br_f (by decide) (br_f (by decide) (br_f (by decide) (br_f (by decide) ⟨zk_n80, zk_n7, K⟩)))
section
variable {f_workers f_now f_logged f_stopped f_duration f_priority f_overlap f_misfire g_asked : Int32} {b_kind a_lasts a_rank a_overlaps a_makesUp b_next b_period b_sets a_started a_lost a_missed b_missedNow b_waits a_request b_doing a_ends b_history b_fields : Nat → Int32}
theorem zy_read {post : SY → Prop} {t : Nat} (ht : t < 2 ^ 31) (K : post (f_workers, f_now, f_logged, f_stopped, f_duration, f_priority, f_overlap, f_misfire, g_asked, b_kind, a_lasts, a_rank, a_overlaps, a_makesUp, b_next, b_period, b_sets, a_started, a_lost, a_missed, b_missedNow, b_waits, a_request, b_doing, a_ends, b_history, zk_fl b_fields t)) : wpY_read post (f_workers, f_now, f_logged, f_stopped, f_duration, f_priority, f_overlap, f_misfire, g_asked, b_kind, a_lasts, a_rank, a_overlaps, a_makesUp, b_next, b_period, b_sets, a_started, a_lost, a_missed, b_missedNow, b_waits, a_request, b_doing, a_ends, b_history, b_fields) (nI t) := by
  refine ⟨6, ?_⟩
  refine br_f (by decide) (zy_field0 ht ⟨vp_in_nI (n := 0) (by decide) (by decide), nm_e (nm_r (e' := 1) rfl ?_)⟩)
  refine br_f (by decide) (zy_field1 ht ⟨vp_in_nI (n := 1) (by decide) (by decide), nm_e (nm_r (e' := 2) rfl ?_)⟩)
  refine br_f (by decide) (zy_field2 ht ⟨vp_in_nI (n := 2) (by decide) (by decide), nm_e (nm_r (e' := 3) rfl ?_)⟩)
  refine br_f (by decide) (zy_field3 ht ⟨vp_in_nI (n := 3) (by decide) (by decide), nm_e (nm_r (e' := 4) rfl ?_)⟩)
  refine br_f (by decide) (zy_field4 ht ⟨vp_in_nI (n := 4) (by decide) (by decide), nm_e (nm_r (e' := 5) rfl ?_)⟩)
  exact br_t (by decide) K
theorem zy_has {post : Int32 → Prop} {j S f : Nat} (k : Nat) (hj : j < 12) (hk : k < 5) (hf : f < 32) (eS : b_sets (5 * j + k) = nI S) (eF : b_fields k = nI f) (K : post (zk_bi (S.testBit f))) : wpY_has post (f_workers, f_now, f_logged, f_stopped, f_duration, f_priority, f_overlap, f_misfire, g_asked, b_kind, a_lasts, a_rank, a_overlaps, a_makesUp, b_next, b_period, b_sets, a_started, a_lost, a_missed, b_missedNow, b_waits, a_request, b_doing, a_ends, b_history, b_fields) (nI j) (nI k) := by
  have e : 5 * nI j + nI k = nI (5 * j + k) := by
    show nI 5 * nI j + nI k = _
    rw [pk_mul, nI_add]
  unfold wpY_has
  dsimp only
  rw [e, show (nI (5 * j + k)).toNatClampNeg = 5 * j + k from nI_clamp (by omega), show (nI k).toNatClampNeg = k from nI_clamp (by omega), eS, eF, zk_tst1 hf]
  refine ⟨vp_in_nI (by omega) (by omega), vp_in_nI hk (by omega), br_c (fun z => ?_) (fun z => ?_)⟩
  · rw [z] at K; exact K
  · rw [ts_nt z] at K; exact K
theorem zy_fits65 {post : Int32 → Prop} {j t da wd : Nat} (z0 : Bool) (hj : j < 12) (s2 : b_sets (5 * j + 2) = nI da) (s4 : b_sets (5 * j + 4) = nI wd) (f2 : b_fields 2 = nI (t / 80 % 10)) (f4 : b_fields 4 = nI (t / 80 % 7))
    (K : post (zk_bi (if z0 = true then da.testBit (t / 80 % 10) && wd.testBit (t / 80 % 7) else da.testBit (t / 80 % 10) || wd.testBit (t / 80 % 7)))) : wY_fits_65 post (nI j) (zk_bi z0) f_workers f_now f_logged f_stopped f_duration f_priority f_overlap f_misfire g_asked b_kind a_lasts a_rank a_overlaps a_makesUp b_next b_period b_sets a_started a_lost a_missed b_missedNow b_waits a_request b_doing a_ends b_history b_fields := by
  unfold wY_fits_65
  refine zy_has 2 hj (by omega) (by omega) s2 f2 (zy_has 4 hj (by omega) (by omega) s4 f4 ?_)
  generalize da.testBit (t / 80 % 10) = A at *
  generalize wd.testBit (t / 80 % 7) = B at *
  cases z0 <;> cases A <;> cases B
  · exact br_t rfl (br_t rfl (br_t rfl K))
  · exact br_t rfl (br_t rfl (br_f zk_01 K))
  · exact br_t rfl (br_f zk_01 K)
  · exact br_t rfl (br_f zk_01 K)
  · exact br_f zk_01 (br_t rfl K)
  · exact br_f zk_01 (br_t rfl K)
  · exact br_f zk_01 (br_f zk_01 (br_t rfl K))
  · exact br_f zk_01 (br_f zk_01 (br_f zk_01 K))
theorem zy_fits {post : Int32 → Prop} {j t mi ho da mo wd : Nat} (hj : j < 12) (hda : da < 32768) (hwd : wd < 32768) (s0 : b_sets (5 * j) = nI mi) (s1 : b_sets (5 * j + 1) = nI ho) (s2 : b_sets (5 * j + 2) = nI da) (s3 : b_sets (5 * j + 3) = nI mo) (s4 : b_sets (5 * j + 4) = nI wd)
    (f0 : b_fields 0 = nI (t % 10)) (f1 : b_fields 1 = nI (t / 10 % 8)) (f2 : b_fields 2 = nI (t / 80 % 10)) (f3 : b_fields 3 = nI (t / 800 % 4)) (f4 : b_fields 4 = nI (t / 80 % 7)) (K : post (zk_bi (zk_ft mi ho da mo wd t))) : wpY_fits post (f_workers, f_now, f_logged, f_stopped, f_duration, f_priority, f_overlap, f_misfire, g_asked, b_kind, a_lasts, a_rank, a_overlaps, a_makesUp, b_next, b_period, b_sets, a_started, a_lost, a_missed, b_missedNow, b_waits, a_request, b_doing, a_ends, b_history, b_fields) (nI j) := by
  have e2 : 5 * nI j + 2 = nI (5 * j + 2) := by
    show nI 5 * nI j + nI 2 = _
    rw [pk_mul, nI_add]
  have e4 : 5 * nI j + 4 = nI (5 * j + 4) := by
    show nI 5 * nI j + nI 4 = _
    rw [pk_mul, nI_add]
  unfold zk_ft zk_dy at K
  rw [show t / 80 / 10 % 4 = t / 800 % 4 by omega] at K
  unfold wpY_fits
  dsimp only
  refine zy_has 0 hj (by omega) (by omega) s0 f0 (zk_bib _ (fun z => ?_) (fun z => ?_))
  · rw [z] at K; exact K
  refine zy_has 1 hj (by omega) (by omega) s1 f1 (zk_bib _ (fun y => ?_) (fun y => ?_))
  · rw [y, Bool.and_false] at K; exact K
  refine zy_has 3 hj (by omega) (by omega) s3 f3 (zk_bib _ (fun x => ?_) (fun x => ?_))
  · rw [x, Bool.false_and, Bool.and_false] at K; exact K
  rw [z, y, x, Bool.true_and, Bool.true_and, Bool.true_and] at K
  rw [e2, e4, show (nI (5 * j + 2)).toNatClampNeg = 5 * j + 2 from nI_clamp (by omega), show (nI (5 * j + 4)).toNatClampNeg = 5 * j + 4 from nI_clamp (by omega), s2, s4]
  refine ⟨vp_in_nI (by omega) (by omega), pk_eq da 1023 (fun h => ?_) (fun h => ⟨vp_in_nI (by omega) (by omega), pk_eq wd 127 (fun h2 => ?_) (fun h2 => ?_)⟩)⟩
  · rw [if_pos (Or.inl h)] at K
    exact zy_fits65 true hj s2 s4 f2 f4 (by rw [if_pos rfl]; exact K)
  · rw [if_pos (Or.inr h2)] at K
    exact zy_fits65 true hj s2 s4 f2 f4 (by rw [if_pos rfl]; exact K)
  · rw [if_neg (fun z => z.elim h h2)] at K
    exact zy_fits65 false hj s2 s4 f2 f4 (by rw [if_neg (by decide)]; exact K)
end
end
section
/-! the relation, in groups -/
def zk_sm (f : Nat → Int32) : Nat → Int
  | 0 => 0
  | n + 1 => zk_sm f n + (f n).toInt
theorem zk_sm_ge {f : Nat → Int32} {j : Nat} {x : Int32} : ∀ n, n ≤ j → zk_sm (upd f j x) n = zk_sm f n
  | 0, _ => rfl
  | n + 1, h => by
    rw [zk_sm, zk_sm, zk_sm_ge n (by omega), pk_un (by omega)]
theorem zk_sm_upd {f : Nat → Int32} {j : Nat} {x : Int32} : ∀ n, j < n → zk_sm (upd f j x) n = zk_sm f n - (f j).toInt + x.toInt
  | 0, h => by omega
  | n + 1, h => by
    rw [zk_sm, zk_sm]
    by_cases e : j = n
    · subst e
      rw [zk_sm_ge j (Nat.le_refl _), pk_us]; omega
    · rw [zk_sm_upd n (by omega), pk_un (fun z => e z.symm)]; omega
theorem zk_sm_bd {f : Nat → Int32} : ∀ n, (∀ j, j < n → ∃ q, q ≤ 3 ∧ f j = nI q) → 0 ≤ zk_sm f n ∧ zk_sm f n ≤ 3 * n
  | 0, _ => ⟨Int.le_refl _, Int.le_refl _⟩
  | n + 1, h => by
    obtain ⟨a, b⟩ := zk_sm_bd n (fun j hj => h j (by omega))
    obtain ⟨q, h1, h2⟩ := h n (by omega)
    rw [zk_sm, h2, nI_toInt (by omega)]
    omega
theorem zk_sm_le {f : Nat → Int32} {j : Nat} : ∀ n, (∀ j, j < n → ∃ q, q ≤ 3 ∧ f j = nI q) → j < n → (f j).toInt ≤ zk_sm f n
  | 0, _, h => by omega
  | n + 1, h, hj => by
    have bd := zk_sm_bd n (fun j hj => h j (by omega))
    obtain ⟨q, h1, h2⟩ := h n (by omega)
    rw [zk_sm]
    by_cases e : j = n
    · subst e; omega
    · have := zk_sm_le n (fun j hj => h j (by omega)) (show j < n by omega)
      have e2 : (f n).toInt = (q : Int) := by rw [h2, nI_toInt (by omega)]
      omega
def zk_id (f : Nat → Int32) : Nat → Nat
  | 0 => 0
  | n + 1 => zk_id f n + (if f n = 0 then 1 else 0)
theorem zk_id_ge {f : Nat → Int32} {j : Nat} {x : Int32} : ∀ n, n ≤ j → zk_id (upd f j x) n = zk_id f n
  | 0, _ => rfl
  | n + 1, h => by rw [zk_id, zk_id, zk_id_ge n (by omega), pk_un (by omega)]
theorem zk_id_upd {f : Nat → Int32} {j : Nat} {x : Int32} (h0 : f j = 0) (hx : ¬ x = 0) : ∀ n, j < n → zk_id (upd f j x) n + 1 = zk_id f n
  | 0, h => by omega
  | n + 1, h => by
    rw [zk_id, zk_id]
    by_cases e : j = n
    · subst e
      rw [zk_id_ge j (Nat.le_refl _), pk_us, if_neg hx, if_pos h0]
    · have := zk_id_upd h0 hx n (by omega)
      rw [pk_un (fun z => e z.symm)]; omega
theorem zk_id_le (f : Nat → Int32) : ∀ n, zk_id f n ≤ n
  | 0 => Nat.le_refl _
  | n + 1 => by
    have := zk_id_le f n
    rw [zk_id]; split <;> omega
theorem zk_id_pos {f : Nat → Int32} {j : Nat} (h0 : f j = 0) : ∀ n, j < n → 0 < zk_id f n
  | 0, h => by omega
  | n + 1, h => by
    rw [zk_id]
    by_cases e : j = n
    · subst e; rw [if_pos h0]; omega
    · have := zk_id_pos h0 n (by omega)
      omega
def zg_man (du pr ov mi : Int32) : Prop := (∃ q, 1 ≤ q ∧ q ≤ 200 ∧ du = nI q) ∧ (∃ q, q ≤ 9 ∧ pr = nI q) ∧ (ov = 0 ∨ ov = 1) ∧ (∃ q, q ≤ 2 ∧ mi = nI q)
def zg_job (th kx ky : Nat → Int32) : Prop := ∀ j, j < 12 → (th j = 0 ∧ ky j = -1) ∨ (th j = 1 ∧ ky j = kx j ∧ (kx j = 0 ∨ kx j = 1 ∨ kx j = 2 ∨ kx j = 3))
def zg_wait (th wx wy : Nat → Int32) (wj ak : Int32) : Prop := ak.toInt = zk_sm wy 12 ∧ ∀ j, j < 12 → ∃ q, q ≤ 3 ∧ wy j = nI q ∧ (th j = 1 → wx j = nI q) ∧ (th j = 0 → q = 0) ∧ bt wj j = decide (0 < q)
def zg_last (th la : Nat → Int32) : Prop := ∀ j, j < 12 → th j = 1 → ∃ q, 1 ≤ q ∧ q ≤ 200 ∧ la j = nI q
def zg_per (th kx px py : Nat → Int32) : Prop := ∀ j, j < 12 → th j = 1 → (kx j = 1 ∨ kx j = 2) → ∃ q, 1 ≤ q ∧ q ≤ 2000 ∧ px j = nI q ∧ py j = nI q
def zg_set (th kx mi ho da mo wd st : Nat → Int32) : Prop := ∀ j, j < 12 → th j = 1 → kx j = 3 → ∃ a b c d e, zk_ok a b c d e ∧ mi j = nI a ∧ ho j = nI b ∧ da j = nI c ∧ mo j = nI d ∧ wd j = nI e ∧ st (5 * j) = nI a ∧ st (5 * j + 1) = nI b ∧ st (5 * j + 2) = nI c ∧ st (5 * j + 3) = nI d ∧ st (5 * j + 4) = nI e
def zk_fj (mi ho da mo wd : Int32) (t : Nat) : Bool := zk_ft mi.toNatClampNeg ho.toNatClampNeg da.toNatClampNeg mo.toNatClampNeg wd.toNatClampNeg t
def zk_du0 (t M : Nat) (px du nx : Int32) : Prop := (∃ d, du = nI d ∧ nx = nI d ∧ t < d ∧ d ≤ 1000000) ∨ (du = -1 ∧ (nx = -1 ∨ ∃ d q, nx = nI d ∧ px = nI q ∧ q ≤ 2000 ∧ 1000000 < d ∧ d ≤ M + q ∧ d ≤ 1002000))
def zk_du3 (t : Nat) (mi ho da mo wd du : Int32) : Prop := (du = -1 ∧ ∀ s, t < s → s ≤ 1000000 → zk_fj mi ho da mo wd s = false) ∨ ∃ d, du = nI d ∧ t < d ∧ d ≤ 1000000 ∧ zk_fj mi ho da mo wd d = true ∧ ∀ s, t < s → s < d → zk_fj mi ho da mo wd s = false
def zg_due (τ : Nat → Nat) (M : Nat) (th kx px mi ho da mo wd du nx : Nat → Int32) : Prop := ∀ j, j < 12 → th j = 1 → (kx j ≠ 3 → zk_du0 (τ j) M (px j) (du j) (nx j)) ∧ (kx j = 3 → zk_du3 (τ j) (mi j) (ho j) (da j) (mo j) (wd j) (du j))
def zg_whl (N : Nat) (th du li sl : Nat → Int32) (fi : Nat → Int64) (bh bf : Nat → Int32) : Prop := (∃ C, zw_W C li sl fi bh bf) ∧ ∀ j, j < 12 → (th j = 1 → ∀ d, d ≤ 1000000 → du j = nI d → li j = nI (zk_at N d)) ∧ ((th j = 0 ∨ du j = -1) → li j = -1)
def zg_run (W : Nat) (ε : Nat → Nat) (th en rn dn ac : Nat → Int32) : Prop :=
  (∀ w, w < W → en w = 0 ∨ ((∃ e, en w = nI e ∧ ε w < e ∧ e ≤ 1000200) ∧ rn w = dn w ∧ (rn w = -1 ∨ ∃ j, j < 12 ∧ rn w = nI j ∧ th j = 1 ∧ ac j = 1))) ∧
  (∀ w w' j, w < W → w' < W → j < 12 → en w ≠ 0 → en w' ≠ 0 → rn w = nI j → rn w' = nI j → w = w') ∧
  (∀ j, j < 12 → th j = 1 → ac j = 0 ∨ (ac j = 1 ∧ ∃ w, w < W ∧ en w ≠ 0 ∧ rn w = nI j))
def zg_log (L : Nat) (lg : Int32) (st lj la ld hs : Nat → Int32) : Prop := lg = nI L ∧ (∀ j, j < 12 → ∃ q, q ≤ L ∧ st j = nI q) ∧ ∀ k, k < 16 → k < L → hs (3 * k) = lj ((L - 1 - k) % 16) ∧ hs (3 * k + 1) = la ((L - 1 - k) % 16) ∧ hs (3 * k + 2) = ld ((L - 1 - k) % 16)
def zg_stp (sp : Int32) (ss mn : Nat → Int32) : Prop := (sp = 0 ∨ sp = 1) ∧ (sp = 1 → ∀ j, j < 12 → ss j = mn j)
def zg_qui (W : Nat) (sp : Int32) (th en wy ac : Nat → Int32) : Prop := sp = 0 → (∀ w, w < W → en w ≠ 0) ∨ ∀ j, j < 12 → th j = 1 → wy j ≠ 0 → ac j ≠ 0
/-- what shifts down -/
def zk_sf (f : Nat → Int32) (a k : Nat) : Nat → Int32 := fun i => if a ≤ i ∧ i < k then f (i + 1) else f i
theorem zk_sf_0 (f : Nat → Int32) (a : Nat) : zk_sf f a a = f := by
  funext i; unfold zk_sf; rw [if_neg (by omega)]
theorem zk_sf_s (f : Nat → Int32) {a k : Nat} (h : a ≤ k) : upd (zk_sf f a k) k (zk_sf f a k (k + 1)) = zk_sf f a (k + 1) := by
  funext i
  by_cases e : i = k
  · subst e
    rw [pk_us]; unfold zk_sf; rw [if_neg (by omega), if_pos (by omega)]
  · rw [pk_un e]; unfold zk_sf
    by_cases z : a ≤ i ∧ i < k
    · rw [if_pos z, if_pos (by omega)]
    · rw [if_neg z, if_neg (by omega)]
def zk_hh (h : Nat → Int32) (k : Nat) : Nat → Int32 := fun i => if k < i ∧ i < 48 then h (i - 3) else h i
theorem zk_hh_47 (h : Nat → Int32) : zk_hh h 47 = h := by
  funext i; unfold zk_hh; rw [if_neg (by omega)]
theorem zk_hh_s (h : Nat → Int32) {k : Nat} (h2 : 2 ≤ k) (h3 : k < 47) : upd (zk_hh h (k + 1)) (k + 1) (zk_hh h (k + 1) (k + 1 - 3)) = zk_hh h k := by
  funext i
  by_cases e : i = k + 1
  · subst e
    rw [pk_us]; unfold zk_hh; rw [if_neg (by omega), if_pos (by omega)]
  · rw [pk_un e]; unfold zk_hh
    by_cases z : k + 1 < i ∧ i < 48
    · rw [if_pos z, if_pos (by omega)]
    · rw [if_neg z, if_neg (by omega)]
def zk_hs (h : Nat → Int32) (a t d : Int32) : Nat → Int32 := upd (upd (upd (zk_hh h 2) 0 a) 1 t) 2 d
theorem zk_3 (j : Nat) : 3 * nI j = nI (3 * j) := pk_mul 3 j
end
section
/-! helpers of both sides: runs, choice, note -/
section
variable {f_workers f_now f_stopped f_duration f_priority f_overlap f_misfire f_waitingJobs f_logged : Int32} {a_there a_kind a_period a_lasts a_rank a_overlaps a_makesUp a_minutes a_hours a_days a_months a_weekdays a_due a_started a_lost a_missed a_sinceStop a_request a_waiting a_slot : Nat → Int32} {a_filled : Nat → Int64} {a_behind a_before a_lies a_runs a_ends a_active a_logJob a_logAt a_logDue : Nat → Int32} {g_asked : Int32} {b_kind b_next b_period b_sets b_missedNow b_waits b_doing b_history b_fields : Nat → Int32}
theorem zy_isRun2 {post : Int32 → Prop} {W j : Nat} {ε : Nat → Nat} (hW : W ≤ 3) (eW : f_workers = nI W) (hj : j < 12) (ht : a_there j = 1) (g : zg_run W ε a_there a_ends a_runs b_doing a_active) (K : post (a_active j)) :
    ∀ n w, w + n = W → (∀ w', w' < w → a_ends w' ≠ 0 → a_runs w' ≠ nI j) → wY_isRunning_2 post (nI j) f_workers f_now f_logged f_stopped f_duration f_priority f_overlap f_misfire g_asked b_kind a_lasts a_rank a_overlaps a_makesUp b_next b_period b_sets a_started a_lost a_missed b_missedNow b_waits a_request b_doing a_ends b_history b_fields (n + 1) (nI w) := by
  intro n
  induction n with
  | zero =>
    intro w hw hn
    refine br_t (by rw [eW, show w = W by omega]; exact nI_le (Nat.le_refl _) (by omega)) ?_
    rcases g.2.2 j hj ht with z | ⟨z, w', h1, h2, h3⟩
    · rw [z] at K; exact K
    · exact absurd h3 (hn w' (by omega) h2)
  | succ n ih =>
    intro w hw hn
    have hin : vp_in (nI w) 3 := vp_in_nI (by omega) (by omega)
    have cw : (nI w).toNatClampNeg = w := nI_clamp (by omega)
    refine br_f (by rw [eW]; exact nI_ge (by omega) (by omega)) ?_
    show vp_in (nI w) 3 ∧ _
    rw [cw]
    rcases g.1 w (by omega) with z | ⟨⟨e, e1, e2, e3⟩, z2, z3⟩
    · refine ⟨hin, br_t (by rw [z]; decide) (nm_r (nI_1 w) (ih (w + 1) (by omega) (fun w' h1 h2 => ?_)))⟩
      rcases Nat.lt_or_ge w' w with y | y
      · exact hn w' y h2
      · exact absurd (by rw [show w' = w by omega]; exact z) h2
    · refine ⟨hin, br_f (by rw [e1]; exact nI_nle (by omega) (by omega)) ⟨hin, br_c (fun y => ?_) (fun y => nm_r (nI_1 w) (ih (w + 1) (by omega) (fun w' h1 h2 => ?_)))⟩⟩
      · have hr : a_runs w = nI j := z2.trans y
        rcases z3 with x | ⟨i, i1, i2, i3, i4⟩
        · rw [hr] at x; exact absurd x (zk_ne (by omega))
        · rw [hr] at i2
          rw [zw_inj hj i1 i2, i4] at K
          exact K
      · rcases Nat.lt_or_ge w' w with x | x
        · exact hn w' x h2
        · rw [show w' = w by omega, z2]; exact y
theorem zy_isRun {post : Int32 → Prop} {W j : Nat} {ε : Nat → Nat} (hW : W ≤ 3) (eW : f_workers = nI W) (hj : j < 12) (ht : a_there j = 1) (g : zg_run W ε a_there a_ends a_runs b_doing a_active) (K : post (a_active j)) : wpY_isRunning post (f_workers, f_now, f_logged, f_stopped, f_duration, f_priority, f_overlap, f_misfire, g_asked, b_kind, a_lasts, a_rank, a_overlaps, a_makesUp, b_next, b_period, b_sets, a_started, a_lost, a_missed, b_missedNow, b_waits, a_request, b_doing, a_ends, b_history, b_fields) (nI j) :=
  ⟨_, zy_isRun2 hW eW hj ht g K W 0 (by omega) (fun w' h => by omega)⟩
end
section
variable (f_workers f_now f_stopped f_duration f_priority f_overlap f_misfire f_waitingJobs f_logged : Int32) (a_there a_kind a_period a_lasts a_rank a_overlaps a_makesUp a_minutes a_hours a_days a_months a_weekdays a_due a_started a_lost a_missed a_sinceStop a_request a_waiting a_slot : Nat → Int32) (a_filled : Nat → Int64) (a_behind a_before a_lies a_runs a_ends a_active a_logJob a_logAt a_logDue : Nat → Int32) (g_asked : Int32) (b_kind b_next b_period b_sets b_missedNow b_waits b_doing b_history b_fields : Nat → Int32)
theorem zr_choice4 {W : Nat} {ε : Nat → Nat} (hW : W ≤ 3) (eW : f_workers = nI W) (gj : zg_job a_there a_kind b_kind) (gw : zg_wait a_there a_waiting b_waits f_waitingJobs g_asked) (g : zg_run W ε a_there a_ends a_runs b_doing a_active) :
    ∀ n j (b : Int32), j + n = 12 → (b = -1 ∨ ∃ i, i < 12 ∧ b = nI i) → ∃ r : Int32, ((r = -1 ∧ b = -1 ∧ ∀ i, j ≤ i → i < 12 → a_there i = 1 → b_waits i ≠ 0 → a_active i ≠ 0) ∨ (∃ i, i < 12 ∧ r = nI i ∧ (b = r ∨ (a_there i = 1 ∧ b_waits i ≠ 0 ∧ a_active i = 0)))) ∧
      (∀ post : Int32 → Prop, post r → wX_choice_4 post f_workers f_now f_stopped f_duration f_priority f_overlap f_misfire f_waitingJobs f_logged a_there a_kind a_period a_lasts a_rank a_overlaps a_makesUp a_minutes a_hours a_days a_months a_weekdays a_due a_started a_lost a_missed a_sinceStop a_request a_waiting a_slot a_filled a_behind a_before a_lies a_runs a_ends a_active a_logJob a_logAt a_logDue (n + 1) b (nI j)) ∧ (∀ post : Int32 → Prop, post r → wY_first_4 post f_workers f_now f_logged f_stopped f_duration f_priority f_overlap f_misfire g_asked b_kind a_lasts a_rank a_overlaps a_makesUp b_next b_period b_sets a_started a_lost a_missed b_missedNow b_waits a_request b_doing a_ends b_history b_fields (n + 1) b (nI j)) := by
  intro n
  induction n with
  | zero =>
    intro j b hj hb
    have e : (12 : Int32) ≤ nI j := by rw [show j = 12 by omega]; decide
    refine ⟨b, ?_, fun post P => br_t e P, fun post P => br_t e P⟩
    rcases hb with z | ⟨i, h1, h2⟩
    · exact Or.inl ⟨z, z, fun i h1 h2 => by omega⟩
    · exact Or.inr ⟨i, h1, h2, Or.inl rfl⟩
  | succ n ih =>
    intro j b hj hb
    have hj' : j < 12 := by omega
    have ne : ¬ (12 : Int32) ≤ nI j := nI_ge (b := 12) hj' (by omega)
    have hin : vp_in (nI j) 12 := vp_in_nI hj' (by omega)
    have cj : (nI j).toNatClampNeg = j := nI_clamp (by omega)
    obtain ⟨q, q1, q2, q3, q4, q5⟩ := gw.2 j hj'
    -- the outcome of passing the job by
    have skip : (a_there j = 1 → b_waits j ≠ 0 → a_active j ≠ 0) →
        (∀ post : Int32 → Prop, wX_choice_4 post f_workers f_now f_stopped f_duration f_priority f_overlap f_misfire f_waitingJobs f_logged a_there a_kind a_period a_lasts a_rank a_overlaps a_makesUp a_minutes a_hours a_days a_months a_weekdays a_due a_started a_lost a_missed a_sinceStop a_request a_waiting a_slot a_filled a_behind a_before a_lies a_runs a_ends a_active a_logJob a_logAt a_logDue (n + 1) b (nI (j + 1)) → wX_choice_4 post f_workers f_now f_stopped f_duration f_priority f_overlap f_misfire f_waitingJobs f_logged a_there a_kind a_period a_lasts a_rank a_overlaps a_makesUp a_minutes a_hours a_days a_months a_weekdays a_due a_started a_lost a_missed a_sinceStop a_request a_waiting a_slot a_filled a_behind a_before a_lies a_runs a_ends a_active a_logJob a_logAt a_logDue (n + 1 + 1) b (nI j)) → (∀ post : Int32 → Prop, wY_first_4 post f_workers f_now f_logged f_stopped f_duration f_priority f_overlap f_misfire g_asked b_kind a_lasts a_rank a_overlaps a_makesUp b_next b_period b_sets a_started a_lost a_missed b_missedNow b_waits a_request b_doing a_ends b_history b_fields (n + 1) b (nI (j + 1)) → wY_first_4 post f_workers f_now f_logged f_stopped f_duration f_priority f_overlap f_misfire g_asked b_kind a_lasts a_rank a_overlaps a_makesUp b_next b_period b_sets a_started a_lost a_missed b_missedNow b_waits a_request b_doing a_ends b_history b_fields (n + 1 + 1) b (nI j)) →
        ∃ r : Int32, ((r = -1 ∧ b = -1 ∧ ∀ i, j ≤ i → i < 12 → a_there i = 1 → b_waits i ≠ 0 → a_active i ≠ 0) ∨ (∃ i, i < 12 ∧ r = nI i ∧ (b = r ∨ (a_there i = 1 ∧ b_waits i ≠ 0 ∧ a_active i = 0)))) ∧
        (∀ post : Int32 → Prop, post r → wX_choice_4 post f_workers f_now f_stopped f_duration f_priority f_overlap f_misfire f_waitingJobs f_logged a_there a_kind a_period a_lasts a_rank a_overlaps a_makesUp a_minutes a_hours a_days a_months a_weekdays a_due a_started a_lost a_missed a_sinceStop a_request a_waiting a_slot a_filled a_behind a_before a_lies a_runs a_ends a_active a_logJob a_logAt a_logDue (n + 1 + 1) b (nI j)) ∧ (∀ post : Int32 → Prop, post r → wY_first_4 post f_workers f_now f_logged f_stopped f_duration f_priority f_overlap f_misfire g_asked b_kind a_lasts a_rank a_overlaps a_makesUp b_next b_period b_sets a_started a_lost a_missed b_missedNow b_waits a_request b_doing a_ends b_history b_fields (n + 1 + 1) b (nI j)) := by
      intro hno hX hY
      obtain ⟨r, k1, k2, k3⟩ := ih (j + 1) b (by omega) hb
      refine ⟨r, ?_, fun post P => hX post (k2 post P), fun post P => hY post (k3 post P)⟩
      rcases k1 with ⟨m1, m2, m3⟩ | m
      · refine Or.inl ⟨m1, m2, fun i h1 h2 => ?_⟩
        rcases Nat.lt_or_ge j i with y | y
        · exact m3 i y h2
        · rw [show i = j by omega]; exact hno
      · exact Or.inr m
    by_cases hq : q = 0
    · subst hq
      have hw : b_waits j = 0 := q2
      refine skip (fun _ z => absurd hw z) (fun post P => br_f ne (br_t ?_ (nm_r (nI_1 j) P))) (fun post P => br_f ne ⟨hin, br_t (by rw [cj]; exact hw) (nm_r (nI_1 j) P)⟩)
      rw [zk_bit _ (by omega), q5]; rfl
    · have hw : ¬ b_waits j = 0 := by rw [q2]; exact nI_ne0 (by omega) (by omega)
      have hth : a_there j = 1 := by
        rcases gj j hj' with z | z
        · exact absurd (q4 z.1) hq
        · exact z.1
      have hbit : ¬ ((f_waitingJobs >>> (nI j &&& 31)) &&& 1) = 0 := by
        rw [zk_bit _ (by omega), q5, decide_eq_true (show 0 < q by omega)]; decide
      rcases g.2.2 j hj' hth with hac | ⟨hac, -⟩
      · -- the job can be started
        have take : (∀ post : Int32 → Prop, wX_choice_4 post f_workers f_now f_stopped f_duration f_priority f_overlap f_misfire f_waitingJobs f_logged a_there a_kind a_period a_lasts a_rank a_overlaps a_makesUp a_minutes a_hours a_days a_months a_weekdays a_due a_started a_lost a_missed a_sinceStop a_request a_waiting a_slot a_filled a_behind a_before a_lies a_runs a_ends a_active a_logJob a_logAt a_logDue (n + 1) (nI j) (nI (j + 1)) → wX_choice_4 post f_workers f_now f_stopped f_duration f_priority f_overlap f_misfire f_waitingJobs f_logged a_there a_kind a_period a_lasts a_rank a_overlaps a_makesUp a_minutes a_hours a_days a_months a_weekdays a_due a_started a_lost a_missed a_sinceStop a_request a_waiting a_slot a_filled a_behind a_before a_lies a_runs a_ends a_active a_logJob a_logAt a_logDue (n + 1 + 1) b (nI j)) → (∀ post : Int32 → Prop, wY_first_4 post f_workers f_now f_logged f_stopped f_duration f_priority f_overlap f_misfire g_asked b_kind a_lasts a_rank a_overlaps a_makesUp b_next b_period b_sets a_started a_lost a_missed b_missedNow b_waits a_request b_doing a_ends b_history b_fields (n + 1) (nI j) (nI (j + 1)) → wY_first_4 post f_workers f_now f_logged f_stopped f_duration f_priority f_overlap f_misfire g_asked b_kind a_lasts a_rank a_overlaps a_makesUp b_next b_period b_sets a_started a_lost a_missed b_missedNow b_waits a_request b_doing a_ends b_history b_fields (n + 1 + 1) b (nI j)) →
            ∃ r : Int32, ((r = -1 ∧ b = -1 ∧ ∀ i, j ≤ i → i < 12 → a_there i = 1 → b_waits i ≠ 0 → a_active i ≠ 0) ∨ (∃ i, i < 12 ∧ r = nI i ∧ (b = r ∨ (a_there i = 1 ∧ b_waits i ≠ 0 ∧ a_active i = 0)))) ∧
            (∀ post : Int32 → Prop, post r → wX_choice_4 post f_workers f_now f_stopped f_duration f_priority f_overlap f_misfire f_waitingJobs f_logged a_there a_kind a_period a_lasts a_rank a_overlaps a_makesUp a_minutes a_hours a_days a_months a_weekdays a_due a_started a_lost a_missed a_sinceStop a_request a_waiting a_slot a_filled a_behind a_before a_lies a_runs a_ends a_active a_logJob a_logAt a_logDue (n + 1 + 1) b (nI j)) ∧ (∀ post : Int32 → Prop, post r → wY_first_4 post f_workers f_now f_logged f_stopped f_duration f_priority f_overlap f_misfire g_asked b_kind a_lasts a_rank a_overlaps a_makesUp b_next b_period b_sets a_started a_lost a_missed b_missedNow b_waits a_request b_doing a_ends b_history b_fields (n + 1 + 1) b (nI j)) := by
          intro hX hY
          obtain ⟨r, k1, k2, k3⟩ := ih (j + 1) (nI j) (by omega) (Or.inr ⟨j, hj', rfl⟩)
          refine ⟨r, Or.inr ?_, fun post P => hX post (k2 post P), fun post P => hY post (k3 post P)⟩
          rcases k1 with ⟨m1, m2, m3⟩ | ⟨i, i1, i2, i3⟩
          · exact absurd m2 (zk_ne (by omega))
          · refine ⟨i, i1, i2, Or.inr ?_⟩
            rcases i3 with i3 | i3
            · rw [i2] at i3
              rw [← zw_inj hj' i1 i3]
              exact ⟨hth, hw, hac⟩
            · exact i3
        have hacc : a_active (nI j).toNatClampNeg = 0 := by rw [cj]; exact hac
        have hww : ¬ b_waits (nI j).toNatClampNeg = 0 := by rw [cj]; exact hw
        have e86 : ∀ post : Int32 → Prop, wX_choice_4 post f_workers f_now f_stopped f_duration f_priority f_overlap f_misfire f_waitingJobs f_logged a_there a_kind a_period a_lasts a_rank a_overlaps a_makesUp a_minutes a_hours a_days a_months a_weekdays a_due a_started a_lost a_missed a_sinceStop a_request a_waiting a_slot a_filled a_behind a_before a_lies a_runs a_ends a_active a_logJob a_logAt a_logDue (n + 1) (nI j) (nI (j + 1)) → wX_choice_86 post (wX_choice_4 post f_workers f_now f_stopped f_duration f_priority f_overlap f_misfire f_waitingJobs f_logged a_there a_kind a_period a_lasts a_rank a_overlaps a_makesUp a_minutes a_hours a_days a_months a_weekdays a_due a_started a_lost a_missed a_sinceStop a_request a_waiting a_slot a_filled a_behind a_before a_lies a_runs a_ends a_active a_logJob a_logAt a_logDue (n + 1)) b (nI j) f_workers f_now f_stopped f_duration f_priority f_overlap f_misfire f_waitingJobs f_logged a_there a_kind a_period a_lasts a_rank a_overlaps a_makesUp a_minutes a_hours a_days a_months a_weekdays a_due a_started a_lost a_missed a_sinceStop a_request a_waiting a_slot a_filled a_behind a_before a_lies a_runs a_ends a_active a_logJob a_logAt a_logDue := fun post P => br_f zk_01 (nm_r (nI_1 j) P)
        have e90 : ∀ post : Int32 → Prop, wX_choice_4 post f_workers f_now f_stopped f_duration f_priority f_overlap f_misfire f_waitingJobs f_logged a_there a_kind a_period a_lasts a_rank a_overlaps a_makesUp a_minutes a_hours a_days a_months a_weekdays a_due a_started a_lost a_missed a_sinceStop a_request a_waiting a_slot a_filled a_behind a_before a_lies a_runs a_ends a_active a_logJob a_logAt a_logDue (n + 1) b (nI (j + 1)) → wX_choice_90 post (wX_choice_4 post f_workers f_now f_stopped f_duration f_priority f_overlap f_misfire f_waitingJobs f_logged a_there a_kind a_period a_lasts a_rank a_overlaps a_makesUp a_minutes a_hours a_days a_months a_weekdays a_due a_started a_lost a_missed a_sinceStop a_request a_waiting a_slot a_filled a_behind a_before a_lies a_runs a_ends a_active a_logJob a_logAt a_logDue (n + 1)) b (nI j) f_workers f_now f_stopped f_duration f_priority f_overlap f_misfire f_waitingJobs f_logged a_there a_kind a_period a_lasts a_rank a_overlaps a_makesUp a_minutes a_hours a_days a_months a_weekdays a_due a_started a_lost a_missed a_sinceStop a_request a_waiting a_slot a_filled a_behind a_before a_lies a_runs a_ends a_active a_logJob a_logAt a_logDue := fun post P => br_t rfl (nm_r (nI_1 j) P)
        rcases hb with hb | ⟨i, hi, hb⟩
        · exact take (fun post P => br_f ne (br_f hbit ⟨hin, br_t hacc (br_t (by rw [hb]; exact zk_neg) (e86 post P))⟩)) (fun post P => br_f ne ⟨hin, br_f hww (zy_isRun hW eW hj' hth g (br_t hac (br_t (by rw [hb]; exact zk_neg) (nm_r (nI_1 j) P))))⟩)
        · subst hb
          have hnb : ¬ nI i < 0 := nI_pos (by omega)
          have hii : vp_in (nI i) 12 := vp_in_nI hi (by omega)
          have ci : (nI i).toNatClampNeg = i := nI_clamp (by omega)
          have h3j : vp_in (3 * nI j) 36 := by rw [zk_3]; exact vp_in_nI (by omega) (by omega)
          have h3i : vp_in (3 * nI i) 36 := by rw [zk_3]; exact vp_in_nI (by omega) (by omega)
          by_cases r1 : a_rank (nI i).toNatClampNeg < a_rank (nI j).toNatClampNeg
          · exact take (fun post P => br_f ne (br_f hbit ⟨hin, br_t hacc (br_f hnb ⟨hin, hii, br_t r1 (e86 post P)⟩)⟩)) (fun post P => br_f ne ⟨hin, br_f hww (zy_isRun hW eW hj' hth g (br_t hac (br_f hnb ⟨hin, hii, br_t r1 (nm_r (nI_1 j) P)⟩)))⟩)
          · by_cases r2 : a_rank (nI j).toNatClampNeg = a_rank (nI i).toNatClampNeg
            · by_cases r3 : a_request (3 * nI i).toNatClampNeg ≤ a_request (3 * nI j).toNatClampNeg
              · obtain ⟨r, k1, k2, k3⟩ := ih (j + 1) (nI i) (by omega) (Or.inr ⟨i, hi, rfl⟩)
                refine ⟨r, Or.inr ?_, fun post P => br_f ne (br_f hbit ⟨hin, br_t hacc (br_f hnb ⟨hin, hii, br_f r1 ⟨hin, hii, br_t r2 ⟨h3j, h3i, br_t r3 (e90 post (k2 post P))⟩⟩⟩)⟩), fun post P => br_f ne ⟨hin, br_f hww (zy_isRun hW eW hj' hth g (br_t hac (br_f hnb ⟨hin, hii, br_f r1 ⟨hin, hii, br_t r2 ⟨h3j, h3i, br_t r3 (nm_r (nI_1 j) (k3 post P))⟩⟩⟩)))⟩⟩
                rcases k1 with ⟨m1, m2, m3⟩ | m
                · exact absurd m2 (zk_ne (by omega))
                · exact m
              · exact take (fun post P => br_f ne (br_f hbit ⟨hin, br_t hacc (br_f hnb ⟨hin, hii, br_f r1 ⟨hin, hii, br_t r2 ⟨h3j, h3i, br_f r3 (e86 post P)⟩⟩⟩)⟩)) (fun post P => br_f ne ⟨hin, br_f hww (zy_isRun hW eW hj' hth g (br_t hac (br_f hnb ⟨hin, hii, br_f r1 ⟨hin, hii, br_t r2 ⟨h3j, h3i, br_f r3 (nm_r (nI_1 j) P)⟩⟩⟩)))⟩)
            · obtain ⟨r, k1, k2, k3⟩ := ih (j + 1) (nI i) (by omega) (Or.inr ⟨i, hi, rfl⟩)
              refine ⟨r, Or.inr ?_, fun post P => br_f ne (br_f hbit ⟨hin, br_t hacc (br_f hnb ⟨hin, hii, br_f r1 ⟨hin, hii, br_f r2 (e90 post (k2 post P))⟩⟩)⟩), fun post P => br_f ne ⟨hin, br_f hww (zy_isRun hW eW hj' hth g (br_t hac (br_f hnb ⟨hin, hii, br_f r1 ⟨hin, hii, br_f r2 (nm_r (nI_1 j) (k3 post P))⟩⟩)))⟩⟩
              rcases k1 with ⟨m1, m2, m3⟩ | m
              · exact absurd m2 (zk_ne (by omega))
              · exact m
      · have hac' : ¬ a_active j = 0 := by rw [hac]; decide
        exact skip (fun _ _ => hac') (fun post P => br_f ne (br_f hbit ⟨hin, br_f (by rw [cj]; exact hac') (nm_r (nI_1 j) P)⟩)) (fun post P => br_f ne ⟨hin, br_f (by rw [cj]; exact hw) (zy_isRun hW eW hj' hth g (br_f hac' (nm_r (nI_1 j) P)))⟩)
theorem zr_choice {W : Nat} {ε : Nat → Nat} (hW : W ≤ 3) (eW : f_workers = nI W) (gj : zg_job a_there a_kind b_kind) (gw : zg_wait a_there a_waiting b_waits f_waitingJobs g_asked) (g : zg_run W ε a_there a_ends a_runs b_doing a_active) :
    ∃ r : Int32, ((r = -1 ∧ ∀ i, i < 12 → a_there i = 1 → b_waits i ≠ 0 → a_active i ≠ 0) ∨ (∃ i, i < 12 ∧ r = nI i ∧ a_there i = 1 ∧ b_waits i ≠ 0 ∧ a_active i = 0)) ∧
      (∀ post : Int32 → Prop, post r → wpX_choice post (f_workers, f_now, f_stopped, f_duration, f_priority, f_overlap, f_misfire, f_waitingJobs, f_logged, a_there, a_kind, a_period, a_lasts, a_rank, a_overlaps, a_makesUp, a_minutes, a_hours, a_days, a_months, a_weekdays, a_due, a_started, a_lost, a_missed, a_sinceStop, a_request, a_waiting, a_slot, a_filled, a_behind, a_before, a_lies, a_runs, a_ends, a_active, a_logJob, a_logAt, a_logDue)) ∧ (∀ post : Int32 → Prop, post r → wpY_first post (f_workers, f_now, f_logged, f_stopped, f_duration, f_priority, f_overlap, f_misfire, g_asked, b_kind, a_lasts, a_rank, a_overlaps, a_makesUp, b_next, b_period, b_sets, a_started, a_lost, a_missed, b_missedNow, b_waits, a_request, b_doing, a_ends, b_history, b_fields)) := by
  obtain ⟨r, k1, k2, k3⟩ := zr_choice4 f_workers f_now f_stopped f_duration f_priority f_overlap f_misfire f_waitingJobs f_logged a_there a_kind a_period a_lasts a_rank a_overlaps a_makesUp a_minutes a_hours a_days a_months a_weekdays a_due a_started a_lost a_missed a_sinceStop a_request a_waiting a_slot a_filled a_behind a_before a_lies a_runs a_ends a_active a_logJob a_logAt a_logDue g_asked b_kind b_next b_period b_sets b_missedNow b_waits b_doing b_history b_fields hW eW gj gw g 12 0 (-1) (by omega) (Or.inl rfl)
  refine ⟨r, ?_, fun post P => ⟨_, k2 post P⟩, fun post P => ⟨_, k3 post P⟩⟩
  rcases k1 with ⟨m1, m2, m3⟩ | ⟨i, i1, i2, i3⟩
  · exact Or.inl ⟨m1, fun i hi => m3 i (by omega) hi⟩
  · rcases i3 with i3 | i3
    · rw [i2] at i3; exact absurd i3.symm (zk_ne (by omega))
    · exact Or.inr ⟨i, i1, i2, i3⟩
theorem zr_idle {W : Nat} {ε : Nat → Nat} (hW : W ≤ 3) (eW : f_workers = nI W) (g : zg_run W ε a_there a_ends a_runs b_doing a_active) :
    ∃ r : Int32, ((r = -1 ∧ ∀ w, w < W → a_ends w ≠ 0) ∨ (∃ w, w < W ∧ r = nI w ∧ a_ends w = 0)) ∧ (∀ post : Int32 → Prop, post r → wpX_idle post (f_workers, f_now, f_stopped, f_duration, f_priority, f_overlap, f_misfire, f_waitingJobs, f_logged, a_there, a_kind, a_period, a_lasts, a_rank, a_overlaps, a_makesUp, a_minutes, a_hours, a_days, a_months, a_weekdays, a_due, a_started, a_lost, a_missed, a_sinceStop, a_request, a_waiting, a_slot, a_filled, a_behind, a_before, a_lies, a_runs, a_ends, a_active, a_logJob, a_logAt, a_logDue)) ∧ (∀ post : Int32 → Prop, post r → wpY_freeWorker post (f_workers, f_now, f_logged, f_stopped, f_duration, f_priority, f_overlap, f_misfire, g_asked, b_kind, a_lasts, a_rank, a_overlaps, a_makesUp, b_next, b_period, b_sets, a_started, a_lost, a_missed, b_missedNow, b_waits, a_request, b_doing, a_ends, b_history, b_fields)) := by
  have key : ∀ n w, w + n = W → (∀ w', w' < w → a_ends w' ≠ 0) → ∃ r : Int32, ((r = -1 ∧ ∀ w, w < W → a_ends w ≠ 0) ∨ (∃ w, w < W ∧ r = nI w ∧ a_ends w = 0)) ∧ (∀ post : Int32 → Prop, post r → wX_idle_2 post f_workers f_now f_stopped f_duration f_priority f_overlap f_misfire f_waitingJobs f_logged a_there a_kind a_period a_lasts a_rank a_overlaps a_makesUp a_minutes a_hours a_days a_months a_weekdays a_due a_started a_lost a_missed a_sinceStop a_request a_waiting a_slot a_filled a_behind a_before a_lies a_runs a_ends a_active a_logJob a_logAt a_logDue (n + 1) (nI w)) ∧ (∀ post : Int32 → Prop, post r → wY_freeWorker_2 post f_workers f_now f_logged f_stopped f_duration f_priority f_overlap f_misfire g_asked b_kind a_lasts a_rank a_overlaps a_makesUp b_next b_period b_sets a_started a_lost a_missed b_missedNow b_waits a_request b_doing a_ends b_history b_fields (n + 1) (nI w)) := by
    intro n
    induction n with
    | zero =>
      intro w hw hn
      have e : f_workers ≤ nI w := by rw [eW, show w = W by omega]; exact nI_le (Nat.le_refl _) (by omega)
      refine ⟨-1, Or.inl ⟨rfl, fun w' h => hn w' (by omega)⟩, fun post P => br_t e (br_t ?_ P), fun post P => br_t e P⟩
      rw [eW, show w = W by omega]
    | succ n ih =>
      intro w hw hn
      have ne : ¬ f_workers ≤ nI w := by rw [eW]; exact nI_ge (by omega) (by omega)
      have hin : vp_in (nI w) 3 := vp_in_nI (by omega) (by omega)
      have cw : (nI w).toNatClampNeg = w := nI_clamp (by omega)
      rcases g.1 w (by omega) with z | ⟨⟨e, e1, e2, e3⟩, -⟩
      · refine ⟨nI w, Or.inr ⟨w, by omega, rfl, z⟩, fun post P => br_f ne ⟨hin, br_t (by rw [cw, z]; decide) (br_f (by rw [eW, nI_eq (by omega) (by omega)]; omega) P)⟩, fun post P => br_f ne ⟨hin, br_t (by rw [cw, z]) P⟩⟩
      · have hnz : ¬ a_ends w = 0 := by rw [e1]; exact nI_ne0 (by omega) (by omega)
        obtain ⟨r, k1, k2, k3⟩ := ih (w + 1) (by omega) (fun w' h => by
          rcases Nat.lt_or_ge w' w with y | y
          · exact hn w' y
          · rw [show w' = w by omega]; exact hnz)
        exact ⟨r, k1, fun post P => br_f ne ⟨hin, br_f (by rw [cw, e1]; exact nI_nle (by omega) (by omega)) (nm_r (nI_1 w) (k2 post P))⟩, fun post P => br_f ne ⟨hin, br_f (by rw [cw]; exact hnz) (nm_r (nI_1 w) (k3 post P))⟩⟩
  obtain ⟨r, k1, k2, k3⟩ := key W 0 (by omega) (fun w' h => by omega)
  exact ⟨r, k1, fun post P => ⟨_, k2 post P⟩, fun post P => ⟨_, k3 post P⟩⟩
end
section
variable {f_workers f_now f_logged f_stopped f_duration f_priority f_overlap f_misfire g_asked : Int32} {b_kind a_lasts a_rank a_overlaps a_makesUp b_next b_period b_sets a_started a_lost a_missed b_missedNow b_waits a_request b_doing a_ends b_history b_fields : Nat → Int32}
theorem zy_note {post : SY → Prop} {x1 x2 : Int32} (K : post (f_workers, f_now, f_logged + 1, f_stopped, f_duration, f_priority, f_overlap, f_misfire, g_asked, b_kind, a_lasts, a_rank, a_overlaps, a_makesUp, b_next, b_period, b_sets, a_started, a_lost, a_missed, b_missedNow, b_waits, a_request, b_doing, a_ends, zk_hs b_history x1 f_now x2, b_fields)) : wpY_note post (f_workers, f_now, f_logged, f_stopped, f_duration, f_priority, f_overlap, f_misfire, g_asked, b_kind, a_lasts, a_rank, a_overlaps, a_makesUp, b_next, b_period, b_sets, a_started, a_lost, a_missed, b_missedNow, b_waits, a_request, b_doing, a_ends, b_history, b_fields) x1 x2 := by
  have key : ∀ m, m ≤ 45 → wY_note_3 post x1 x2 f_workers f_now f_logged f_stopped f_duration f_priority f_overlap f_misfire g_asked (m + 1) (nI (m + 2)) b_kind a_lasts a_rank a_overlaps a_makesUp b_next b_period b_sets a_started a_lost a_missed b_missedNow b_waits a_request b_doing a_ends (zk_hh b_history (m + 2)) b_fields := by
    intro m
    induction m with
    | zero => intro _; exact br_t (by decide) (nm_e (nm_e (nm_e (nm_e K))))
    | succ m ih =>
      intro hm
      have e3 : nI (m + 1 + 2) - 3 = nI (m + 1 + 2 - 3) := pk_sub (b := 3) (by omega)
      refine br_f (nI_ge (a := 2) (by omega) (by omega)) ?_
      rw [e3, show (nI (m + 1 + 2 - 3)).toNatClampNeg = m + 1 + 2 - 3 from nI_clamp (by omega), show (nI (m + 1 + 2)).toNatClampNeg = m + 1 + 2 from nI_clamp (by omega)]
      exact ⟨vp_in_nI (by omega) (by omega), vp_in_nI (by omega) (by omega), nm_r (zk_hh_s b_history (k := m + 2) (by omega) (by omega)) (nm_r (pk_m1 (m + 2)) (ih (by omega)))⟩
  have := key 45 (by omega)
  rw [zk_hh_47] at this
  exact ⟨46, this⟩
end
end
section
/-! start: one run, and the loop -/
section
variable {f_workers f_now f_stopped f_duration f_priority f_overlap f_misfire f_waitingJobs f_logged : Int32} {a_there a_kind a_period a_lasts a_rank a_overlaps a_makesUp a_minutes a_hours a_days a_months a_weekdays a_due a_started a_lost a_missed a_sinceStop a_request a_waiting a_slot : Nat → Int32} {a_filled : Nat → Int64} {a_behind a_before a_lies a_runs a_ends a_active a_logJob a_logAt a_logDue : Nat → Int32}
theorem zx_s106 {post : Int32 → SX → Prop} {J} {x1 x4 rw rj : Int32} {w j p : Nat} (hw : w < 3) (hj : j < 12) (hp : p < 16) (ep : f_logged &&& 15 = nI p)
    (KI : ∀ post : Int32 → Prop, post rw → wpX_idle post (f_workers, f_now, f_stopped, f_duration, f_priority, f_overlap, f_misfire, f_waitingJobs, f_logged + 1, a_there, a_kind, a_period, a_lasts, a_rank, a_overlaps, a_makesUp, a_minutes, a_hours, a_days, a_months, a_weekdays, a_due, upd a_started j (a_started j + 1), a_lost, a_missed, a_sinceStop, a_request, a_waiting, a_slot, a_filled, a_behind, a_before, a_lies, upd a_runs w (nI j), upd a_ends w (f_now + a_lasts j), upd a_active j 1, upd a_logJob p (nI j), upd a_logAt p f_now, upd a_logDue p x4))
    (KC : ∀ post : Int32 → Prop, post rj → wpX_choice post (f_workers, f_now, f_stopped, f_duration, f_priority, f_overlap, f_misfire, f_waitingJobs, f_logged + 1, a_there, a_kind, a_period, a_lasts, a_rank, a_overlaps, a_makesUp, a_minutes, a_hours, a_days, a_months, a_weekdays, a_due, upd a_started j (a_started j + 1), a_lost, a_missed, a_sinceStop, a_request, a_waiting, a_slot, a_filled, a_behind, a_before, a_lies, upd a_runs w (nI j), upd a_ends w (f_now + a_lasts j), upd a_active j 1, upd a_logJob p (nI j), upd a_logAt p f_now, upd a_logDue p x4))
    (K : ∀ y : Int32, J y rw rj f_waitingJobs (f_logged + 1) a_there a_kind a_period a_lasts a_rank a_overlaps a_makesUp a_minutes a_hours a_days a_months a_weekdays a_due (upd a_started j (a_started j + 1)) a_lost a_missed a_sinceStop a_request a_waiting a_slot a_filled a_behind a_before a_lies (upd a_runs w (nI j)) (upd a_ends w (f_now + a_lasts j)) (upd a_active j 1) (upd a_logJob p (nI j)) (upd a_logAt p f_now) (upd a_logDue p x4)) :
    wX_start_106 post J x1 (nI w) (nI j) x4 f_workers f_now f_stopped f_duration f_priority f_overlap f_misfire f_waitingJobs f_logged a_there a_kind a_period a_lasts a_rank a_overlaps a_makesUp a_minutes a_hours a_days a_months a_weekdays a_due a_started a_lost a_missed a_sinceStop a_request a_waiting a_slot a_filled a_behind a_before a_lies a_runs a_ends a_active a_logJob a_logAt a_logDue := by
  have hi : vp_in (nI j) 12 := vp_in_nI hj (by omega)
  have hiw : vp_in (nI w) 3 := vp_in_nI hw (by omega)
  have hip : vp_in (nI p) 16 := vp_in_nI hp (by omega)
  unfold wX_start_106
  rw [show (nI j).toNatClampNeg = j from nI_clamp (by omega), show (nI w).toNatClampNeg = w from nI_clamp (by omega), zk_vb (show j < 128 by omega), zk_vz1]
  refine ⟨hiw, nm_e ⟨hi, hiw, nm_e ⟨hi, nm_e ⟨hi, hi, nm_e (nm_e (nm_r ep ?_))⟩⟩⟩⟩
  rw [show (nI p).toNatClampNeg = p from nI_clamp (by omega)]
  exact ⟨hip, nm_e ⟨hip, nm_e ⟨hip, nm_e (nm_e (KI _ (KC _ (K _))))⟩⟩⟩
theorem zx_s46 {post : Int32 → SX → Prop} {J} {x1 x4 : Int32} {w j q : Nat} (hj : j < 12) (hq : q ≤ 2) (ew : a_waiting j = nI q)
    (K : wX_start_106 post J x1 (nI w) (nI j) x4 f_workers f_now f_stopped f_duration f_priority f_overlap f_misfire (if q = 0 then f_waitingJobs &&& (((1 : Int32) <<< (nI j &&& 31)) ^^^ (-1)) else f_waitingJobs) f_logged a_there a_kind a_period a_lasts a_rank a_overlaps a_makesUp a_minutes a_hours a_days a_months a_weekdays a_due a_started a_lost a_missed a_sinceStop (zk_sf a_request (3 * j) (3 * j + q)) a_waiting a_slot a_filled a_behind a_before a_lies a_runs a_ends a_active a_logJob a_logAt a_logDue) :
    ∀ n k, 3 * j ≤ k → k + n = 3 * j + q → wX_start_46 post J x1 (nI w) (nI j) x4 f_workers f_now f_stopped f_duration f_priority f_overlap f_misfire f_waitingJobs f_logged (n + 1) (nI k) a_there a_kind a_period a_lasts a_rank a_overlaps a_makesUp a_minutes a_hours a_days a_months a_weekdays a_due a_started a_lost a_missed a_sinceStop (zk_sf a_request (3 * j) k) a_waiting a_slot a_filled a_behind a_before a_lies a_runs a_ends a_active a_logJob a_logAt a_logDue := by
  have hi : vp_in (nI j) 12 := vp_in_nI hj (by omega)
  have cj : (nI j).toNatClampNeg = j := nI_clamp (by omega)
  have e3 : 3 * nI j + nI q = nI (3 * j + q) := by rw [zk_3, nI_add]
  intro n
  induction n with
  | zero =>
    intro k h1 h2
    have ek : k = 3 * j + q := by omega
    subst ek
    refine And.intro hi ?_
    rw [cj, ew, e3]
    refine br_t (nI_le (Nat.le_refl _) (by omega)) ⟨hi, pk_eq q 0 (fun z => nm_e ?_) (fun z => ?_)⟩
    · rw [if_pos z] at K; exact K
    · rw [if_neg z] at K; exact K
  | succ n ih =>
    intro k h1 h2
    refine And.intro hi ?_
    rw [cj, ew, e3]
    refine br_f (nI_ge (by omega) (by omega)) ?_
    rw [nI_1, show (nI (k + 1)).toNatClampNeg = k + 1 from nI_clamp (by omega), show (nI k).toNatClampNeg = k from nI_clamp (by omega)]
    exact ⟨vp_in_nI (by omega) (by omega), vp_in_nI (by omega) (by omega), nm_r (zk_sf_s a_request h1) (nm_e (ih (k + 1) (by omega) (by omega)))⟩
theorem zx_s12 {post : Int32 → SX → Prop} {x1 rw rj : Int32} {n w j q p : Nat} (hw : w < 3) (hj : j < 12) (hq : q ≤ 2) (ew : a_waiting j = nI (q + 1)) (hp : p < 16) (ep : f_logged &&& 15 = nI p)
    (KI : ∀ post : Int32 → Prop, post rw → wpX_idle post (f_workers, f_now, f_stopped, f_duration, f_priority, f_overlap, f_misfire, if q = 0 then f_waitingJobs &&& (((1 : Int32) <<< (nI j &&& 31)) ^^^ (-1)) else f_waitingJobs, f_logged + 1, a_there, a_kind, a_period, a_lasts, a_rank, a_overlaps, a_makesUp, a_minutes, a_hours, a_days, a_months, a_weekdays, a_due, upd a_started j (a_started j + 1), a_lost, a_missed, a_sinceStop, zk_sf a_request (3 * j) (3 * j + q), upd a_waiting j (nI q), a_slot, a_filled, a_behind, a_before, a_lies, upd a_runs w (nI j), upd a_ends w (f_now + a_lasts j), upd a_active j 1, upd a_logJob p (nI j), upd a_logAt p f_now, upd a_logDue p (a_request (3 * j))))
    (KC : ∀ post : Int32 → Prop, post rj → wpX_choice post (f_workers, f_now, f_stopped, f_duration, f_priority, f_overlap, f_misfire, if q = 0 then f_waitingJobs &&& (((1 : Int32) <<< (nI j &&& 31)) ^^^ (-1)) else f_waitingJobs, f_logged + 1, a_there, a_kind, a_period, a_lasts, a_rank, a_overlaps, a_makesUp, a_minutes, a_hours, a_days, a_months, a_weekdays, a_due, upd a_started j (a_started j + 1), a_lost, a_missed, a_sinceStop, zk_sf a_request (3 * j) (3 * j + q), upd a_waiting j (nI q), a_slot, a_filled, a_behind, a_before, a_lies, upd a_runs w (nI j), upd a_ends w (f_now + a_lasts j), upd a_active j 1, upd a_logJob p (nI j), upd a_logAt p f_now, upd a_logDue p (a_request (3 * j))))
    (K : ∀ y : Int32, wX_start_12 post f_workers f_now f_stopped f_duration f_priority f_overlap f_misfire n y rw rj (if q = 0 then f_waitingJobs &&& (((1 : Int32) <<< (nI j &&& 31)) ^^^ (-1)) else f_waitingJobs) (f_logged + 1) a_there a_kind a_period a_lasts a_rank a_overlaps a_makesUp a_minutes a_hours a_days a_months a_weekdays a_due (upd a_started j (a_started j + 1)) a_lost a_missed a_sinceStop (zk_sf a_request (3 * j) (3 * j + q)) (upd a_waiting j (nI q)) a_slot a_filled a_behind a_before a_lies (upd a_runs w (nI j)) (upd a_ends w (f_now + a_lasts j)) (upd a_active j 1) (upd a_logJob p (nI j)) (upd a_logAt p f_now) (upd a_logDue p (a_request (3 * j)))) :
    wX_start_12 post f_workers f_now f_stopped f_duration f_priority f_overlap f_misfire (n + 1) x1 (nI w) (nI j) f_waitingJobs f_logged a_there a_kind a_period a_lasts a_rank a_overlaps a_makesUp a_minutes a_hours a_days a_months a_weekdays a_due a_started a_lost a_missed a_sinceStop a_request a_waiting a_slot a_filled a_behind a_before a_lies a_runs a_ends a_active a_logJob a_logAt a_logDue := by
  have hi : vp_in (nI j) 12 := vp_in_nI hj (by omega)
  have hi3 : vp_in (nI (3 * j)) 36 := vp_in_nI (by omega) (by omega)
  refine br_f (nI_pos (by omega)) (br_f (nI_pos (by omega)) ?_)
  rw [zk_3, show (nI (3 * j)).toNatClampNeg = 3 * j from nI_clamp (by omega), show (nI j).toNatClampNeg = j from nI_clamp (by omega), ew, nI_pred, zk_vb (show q < 128 by omega)]
  refine ⟨hi3, nm_e ⟨hi, hi, nm_e (nm_e ⟨q + 1, ?_⟩)⟩⟩
  have k46 := zx_s46 (post := post) (x1 := x1) (x4 := a_request (3 * j)) (w := w) (f_workers := f_workers) (f_now := f_now) (f_stopped := f_stopped) (f_duration := f_duration) (f_priority := f_priority) (f_overlap := f_overlap) (f_misfire := f_misfire) (f_waitingJobs := f_waitingJobs) (f_logged := f_logged) (a_there := a_there) (a_kind := a_kind) (a_period := a_period) (a_lasts := a_lasts) (a_rank := a_rank) (a_overlaps := a_overlaps) (a_makesUp := a_makesUp) (a_minutes := a_minutes) (a_hours := a_hours) (a_days := a_days) (a_months := a_months) (a_weekdays := a_weekdays) (a_due := a_due) (a_started := a_started) (a_lost := a_lost) (a_missed := a_missed) (a_sinceStop := a_sinceStop) (a_request := a_request) (a_waiting := upd a_waiting j (nI q)) (a_slot := a_slot) (a_filled := a_filled) (a_behind := a_behind) (a_before := a_before) (a_lies := a_lies) (a_runs := a_runs) (a_ends := a_ends) (a_active := a_active) (a_logJob := a_logJob) (a_logAt := a_logAt) (a_logDue := a_logDue) hj hq pk_us (zx_s106 hw hj hp ep KI KC K) q (3 * j) (Nat.le_refl _) rfl
  rw [zk_sf_0] at k46
  exact k46
end
section
variable {f_workers f_now f_logged f_stopped f_duration f_priority f_overlap f_misfire g_asked : Int32} {b_kind a_lasts a_rank a_overlaps a_makesUp b_next b_period b_sets a_started a_lost a_missed b_missedNow b_waits a_request b_doing a_ends b_history b_fields : Nat → Int32}
theorem zy_s109 {post : SY → Prop} {J} {j q : Nat} (hj : j < 12) (hq : q ≤ 2) (ew : b_waits j = nI q) (K : J f_workers f_now f_logged f_stopped f_duration f_priority f_overlap f_misfire g_asked b_kind a_lasts a_rank a_overlaps a_makesUp b_next b_period b_sets a_started a_lost a_missed b_missedNow b_waits (zk_sf a_request (3 * j) (3 * j + q)) b_doing a_ends b_history b_fields) :
    ∀ n k, 3 * j ≤ k → k + n = 3 * j + q → wY_start_109 post J (nI j) f_workers f_now f_logged f_stopped f_duration f_priority f_overlap f_misfire g_asked (n + 1) (nI k) b_kind a_lasts a_rank a_overlaps a_makesUp b_next b_period b_sets a_started a_lost a_missed b_missedNow b_waits (zk_sf a_request (3 * j) k) b_doing a_ends b_history b_fields := by
  have hi : vp_in (nI j) 12 := vp_in_nI hj (by omega)
  have cj : (nI j).toNatClampNeg = j := nI_clamp (by omega)
  have e3 : 3 * nI j + nI q = nI (3 * j + q) := by rw [zk_3, nI_add]
  intro n
  induction n with
  | zero =>
    intro k h1 h2
    have ek : k = 3 * j + q := by omega
    subst ek
    refine And.intro hi ?_
    rw [cj, ew, e3]
    exact br_t (nI_le (Nat.le_refl _) (by omega)) K
  | succ n ih =>
    intro k h1 h2
    refine And.intro hi ?_
    rw [cj, ew, e3]
    refine br_f (nI_ge (by omega) (by omega)) ?_
    rw [nI_1, show (nI (k + 1)).toNatClampNeg = k + 1 from nI_clamp (by omega), show (nI k).toNatClampNeg = k from nI_clamp (by omega)]
    exact ⟨vp_in_nI (by omega) (by omega), vp_in_nI (by omega) (by omega), nm_r (zk_sf_s a_request h1) (nm_e (ih (k + 1) (by omega) (by omega)))⟩
theorem zy_s0 {post : SY → Prop} {n w j q : Nat} (hw : w < 3) (hj : j < 12) (hq : q ≤ 2) (ew : b_waits j = nI (q + 1)) (hs : f_stopped = 0) (ha : ¬ g_asked ≤ 0)
    (KI : ∀ post : Int32 → Prop, post (nI w) → wpY_freeWorker post (f_workers, f_now, f_logged, f_stopped, f_duration, f_priority, f_overlap, f_misfire, g_asked, b_kind, a_lasts, a_rank, a_overlaps, a_makesUp, b_next, b_period, b_sets, a_started, a_lost, a_missed, b_missedNow, b_waits, a_request, b_doing, a_ends, b_history, b_fields)) (KC : ∀ post : Int32 → Prop, post (nI j) → wpY_first post (f_workers, f_now, f_logged, f_stopped, f_duration, f_priority, f_overlap, f_misfire, g_asked, b_kind, a_lasts, a_rank, a_overlaps, a_makesUp, b_next, b_period, b_sets, a_started, a_lost, a_missed, b_missedNow, b_waits, a_request, b_doing, a_ends, b_history, b_fields))
    (K : wY_start_0 post n f_workers f_now (f_logged + 1) f_stopped f_duration f_priority f_overlap f_misfire (g_asked - 1) b_kind a_lasts a_rank a_overlaps a_makesUp b_next b_period b_sets (upd a_started j (a_started j + 1)) a_lost a_missed b_missedNow (upd b_waits j (nI q)) (zk_sf a_request (3 * j) (3 * j + q)) (upd b_doing w (nI j)) (upd a_ends w (f_now + a_lasts j)) (zk_hs b_history (nI j) f_now (a_request (3 * j))) b_fields) :
    wY_start_0 post (n + 1) f_workers f_now f_logged f_stopped f_duration f_priority f_overlap f_misfire g_asked b_kind a_lasts a_rank a_overlaps a_makesUp b_next b_period b_sets a_started a_lost a_missed b_missedNow b_waits a_request b_doing a_ends b_history b_fields := by
  have hi : vp_in (nI j) 12 := vp_in_nI hj (by omega)
  have hiw : vp_in (nI w) 3 := vp_in_nI hw (by omega)
  have hi3 : vp_in (3 * nI j) 36 := by rw [zk_3]; exact vp_in_nI (by omega) (by omega)
  have cj : (nI j).toNatClampNeg = j := nI_clamp (by omega)
  have cw : (nI w).toNatClampNeg = w := nI_clamp (by omega)
  refine br_t hs (br_f ha (KI _ (br_f (nI_pos (by omega)) (KC _ (br_f (nI_pos (by omega)) (KI _ (KC _ ?_)))))))
  rw [cj, cw]
  refine ⟨hiw, nm_e ⟨hi, hiw, nm_e ⟨hi, hi, nm_e ⟨hi3, zy_note ?_⟩⟩⟩⟩
  dsimp only
  rw [ew, nI_pred, zk_3, show (nI (3 * j)).toNatClampNeg = 3 * j from nI_clamp (by omega)]
  refine ⟨hi, hi, nm_e (nm_e (nm_e ⟨q + 1, ?_⟩))⟩
  have k109 := zy_s109 (post := post) (J := wY_start_0 post n) (f_workers := f_workers) (f_now := f_now) (f_logged := f_logged + 1) (f_stopped := f_stopped) (f_duration := f_duration) (f_priority := f_priority) (f_overlap := f_overlap) (f_misfire := f_misfire) (g_asked := g_asked - 1) (b_kind := b_kind) (a_lasts := a_lasts) (a_rank := a_rank) (a_overlaps := a_overlaps) (a_makesUp := a_makesUp) (b_next := b_next) (b_period := b_period) (b_sets := b_sets) (a_started := upd a_started j (a_started j + 1)) (a_lost := a_lost) (a_missed := a_missed) (b_missedNow := b_missedNow) (b_waits := upd b_waits j (nI q)) (a_request := a_request) (b_doing := upd b_doing w (nI j)) (a_ends := upd a_ends w (f_now + a_lasts j)) (b_history := zk_hs b_history (nI j) f_now (a_request (3 * j))) (b_fields := b_fields) hj hq pk_us K q (3 * j) (Nat.le_refl _) rfl
  rw [zk_sf_0] at k109
  exact k109
end
end
section
/-! what a start does to the groups -/
theorem zk_addi {x y : Int32} (h1 : -2147483648 ≤ x.toInt + y.toInt) (h2 : x.toInt + y.toInt < 2147483648) : (x + y).toInt = x.toInt + y.toInt := by
  rw [Int32.toInt_add]
  exact Int.bmod_eq_of_le (by omega) (by omega)
theorem zk_subi {x y : Int32} (h1 : -2147483648 ≤ x.toInt - y.toInt) (h2 : x.toInt - y.toInt < 2147483648) : (x - y).toInt = x.toInt - y.toInt := by
  rw [Int32.toInt_sub]
  exact Int.bmod_eq_of_le (by omega) (by omega)
theorem zk_t1 : (1 : Int32).toInt = 1 := by decide
theorem zg_wait_q {th wx wy : Nat → Int32} {wj ak : Int32} (g : zg_wait th wx wy wj ak) : ∀ j, j < 12 → ∃ q, q ≤ 3 ∧ wy j = nI q := fun j hj => by
  obtain ⟨q, h1, h2, -⟩ := g.2 j hj
  exact ⟨q, h1, h2⟩
theorem zg_wait_dec {th wx wy : Nat → Int32} {wj ak : Int32} {j q : Nat} (g : zg_wait th wx wy wj ak) (hj : j < 12) (ht : th j = 1) (hq : q ≤ 2) (e : wy j = nI (q + 1)) :
    zg_wait th (upd wx j (nI q)) (upd wy j (nI q)) (if q = 0 then wj &&& (((1 : Int32) <<< (nI j &&& 31)) ^^^ (-1)) else wj) (ak - 1) := by
  have hb := zk_sm_bd 12 (zg_wait_q g)
  have hl := zk_sm_le 12 (zg_wait_q g) hj
  rw [e, nI_toInt (by omega)] at hl
  refine ⟨?_, fun i hi => ?_⟩
  · rw [zk_subi (by rw [g.1, zk_t1]; omega) (by rw [g.1, zk_t1]; omega), zk_sm_upd 12 hj, e, nI_toInt (by omega), nI_toInt (by omega), g.1, zk_t1]
    omega
  · obtain ⟨q', h1, h2, h3, h4, h5⟩ := g.2 i hi
    by_cases ei : i = j
    · subst ei
      rw [pk_us, pk_us]
      refine ⟨q, by omega, rfl, fun _ => rfl, fun z => by rw [ht] at z; exact absurd z zk_01, ?_⟩
      split
      · rename_i z; rw [zk_clr _ (by omega) (by omega), z]; simp
      · rename_i z
        have hq' : q' = q + 1 := (nI_eq (by omega) (by omega)).mp (h2.symm.trans e)
        rw [h5, decide_eq_true (by omega), decide_eq_true (by omega)]
    · rw [pk_un ei, pk_un ei]
      refine ⟨q', h1, h2, h3, h4, ?_⟩
      split
      · rw [zk_clr _ (by omega) (by omega), h5]; simp [ei]
      · exact h5
theorem zg_wait_inc {th wx wy : Nat → Int32} {wj ak : Int32} {j q : Nat} (g : zg_wait th wx wy wj ak) (hj : j < 12) (ht : th j = 1) (hq : q ≤ 2) (e : wy j = nI q) :
    zg_wait th (upd wx j (nI (q + 1))) (upd wy j (nI (q + 1))) (wj ||| ((1 : Int32) <<< (nI j &&& 31))) (ak + 1) := by
  have hb := zk_sm_bd 12 (zg_wait_q g)
  have hl := zk_sm_le 12 (zg_wait_q g) hj
  rw [e, nI_toInt (by omega)] at hl
  refine ⟨?_, fun i hi => ?_⟩
  · rw [zk_addi (by rw [g.1, zk_t1]; omega) (by rw [g.1, zk_t1]; omega), zk_sm_upd 12 hj, e, nI_toInt (by omega), nI_toInt (by omega), g.1, zk_t1]
    omega
  · obtain ⟨q', h1, h2, h3, h4, h5⟩ := g.2 i hi
    by_cases ei : i = j
    · subst ei
      rw [pk_us, pk_us]
      refine ⟨q + 1, by omega, rfl, fun _ => rfl, fun z => by rw [ht] at z; exact absurd z zk_01, ?_⟩
      rw [zk_set _ (by omega) (by omega), decide_eq_true (show 0 < q + 1 by omega)]; simp
    · rw [pk_un ei, pk_un ei]
      refine ⟨q', h1, h2, h3, h4, ?_⟩
      rw [zk_set _ (by omega) (by omega), h5]; simp [ei]
theorem zg_run_start {W T w j q : Nat} {ε : Nat → Nat} {th en rn dn ac : Nat → Int32} (g : zg_run W ε th en rn dn ac) (hT : T ≤ 1000000) (hε : ∀ w, ε w ≤ T) (hw : w < W) (hj : j < 12) (e0 : en w = 0) (ht : th j = 1) (ha : ac j = 0) (hq1 : 1 ≤ q) (hq : q ≤ 200) :
    zg_run W ε th (upd en w (nI (T + q))) (upd rn w (nI j)) (upd dn w (nI j)) (upd ac j 1) := by
  have hnz : ∀ x, ¬ upd en w (nI (T + q)) x = 0 → x ≠ w → ¬ en x = 0 := fun x hx hn => by rw [pk_un hn] at hx; exact hx
  refine ⟨fun x hx => ?_, fun x y i hx hy hi nx ny rx ry => ?_, fun i hi hti => ?_⟩
  · by_cases ex : x = w
    · subst ex
      have := hε x
      rw [pk_us, pk_us, pk_us]
      exact Or.inr ⟨⟨T + q, rfl, by omega, by omega⟩, rfl, Or.inr ⟨j, hj, rfl, ht, pk_us⟩⟩
    · rw [pk_un ex, pk_un ex, pk_un ex]
      rcases g.1 x hx with z | ⟨z1, z2, z3⟩
      · exact Or.inl z
      · refine Or.inr ⟨z1, z2, ?_⟩
        rcases z3 with z3 | ⟨i, i1, i2, i3, i4⟩
        · exact Or.inl z3
        · refine Or.inr ⟨i, i1, i2, i3, ?_⟩
          by_cases ei : i = j
          · rw [ei]; exact pk_us
          · rw [pk_un ei]; exact i4
  · have bad : ∀ x, x < W → x ≠ w → ¬ en x = 0 → rn x = nI j → False := fun x hx hn h1 h2 => by
      rcases g.1 x hx with z | ⟨-, -, z3⟩
      · exact h1 z
      · rcases z3 with z3 | ⟨i, i1, i2, i3, i4⟩
        · rw [h2] at z3; exact zk_ne (by omega) z3
        · rw [h2] at i2
          rw [← zw_inj hj i1 i2, ha] at i4
          exact zk_10 i4
    by_cases ex : x = w
    · by_cases ey : y = w
      · rw [ex, ey]
      · subst ex
        rw [pk_us] at rx
        rw [pk_un ey] at ry
        rw [← rx] at ry
        exact (bad y hy ey (hnz y ny ey) ry).elim
    · by_cases ey : y = w
      · subst ey
        rw [pk_us] at ry
        rw [pk_un ex] at rx
        rw [← ry] at rx
        exact (bad x hx ex (hnz x nx ex) rx).elim
      · rw [pk_un ex] at rx
        rw [pk_un ey] at ry
        exact g.2.1 x y i hx hy hi (hnz x nx ex) (hnz y ny ey) rx ry
  · by_cases ei : i = j
    · subst ei
      exact Or.inr ⟨pk_us, w, hw, by rw [pk_us]; exact nI_ne0 (by omega) (by omega), pk_us⟩
    · rw [pk_un ei]
      rcases g.2.2 i hi hti with z | ⟨z, x, x1, x2, x3⟩
      · exact Or.inl z
      · have hxw : x ≠ w := fun e => x2 (by rw [e]; exact e0)
        exact Or.inr ⟨z, x, x1, by rw [pk_un hxw]; exact x2, by rw [pk_un hxw]; exact x3⟩
theorem zk_hs_lo {h : Nat → Int32} {a t d : Int32} : zk_hs h a t d 0 = a ∧ zk_hs h a t d 1 = t ∧ zk_hs h a t d 2 = d := ⟨rfl, rfl, rfl⟩
theorem zk_hs_hi {h : Nat → Int32} {a t d : Int32} {i : Nat} (h1 : 3 ≤ i) (h2 : i < 48) : zk_hs h a t d i = h (i - 3) := by
  unfold zk_hs
  rw [pk_un (by omega), pk_un (by omega), pk_un (by omega)]
  unfold zk_hh
  rw [if_pos (by omega)]
theorem zg_log_note {L j : Nat} {lg a t d : Int32} {st lj la ld hs : Nat → Int32} (g : zg_log L lg st lj la ld hs) (hL : L < 2 ^ 30) (hj : j < 12) :
    zg_log (L + 1) (lg + 1) (upd st j (st j + 1)) (upd lj (L % 16) a) (upd la (L % 16) t) (upd ld (L % 16) d) (zk_hs hs a t d) := by
  refine ⟨by rw [g.1, nI_1], fun i hi => ?_, fun k hk hkL => ?_⟩
  · by_cases e : i = j
    · subst e
      obtain ⟨q, h1, h2⟩ := g.2.1 i hi
      exact ⟨q + 1, by omega, by rw [pk_us, h2, nI_1]⟩
    · obtain ⟨q, h1, h2⟩ := g.2.1 i hi
      exact ⟨q, by omega, by rw [pk_un e]; exact h2⟩
  · cases k with
    | zero =>
      rw [show (L + 1 - 1 - 0) % 16 = L % 16 by omega, pk_us, pk_us, pk_us]
      exact zk_hs_lo
    | succ k =>
      obtain ⟨h1, h2, h3⟩ := g.2.2 k (by omega) (by omega)
      have e : (L + 1 - 1 - (k + 1)) % 16 = (L - 1 - k) % 16 := by omega
      have ne : (L - 1 - k) % 16 ≠ L % 16 := by omega
      rw [e, pk_un ne, pk_un ne, pk_un ne, zk_hs_hi (by omega) (by omega), zk_hs_hi (by omega) (by omega), zk_hs_hi (by omega) (by omega), show 3 * (k + 1) - 3 = 3 * k by omega, show 3 * (k + 1) + 1 - 3 = 3 * k + 1 by omega, show 3 * (k + 1) + 2 - 3 = 3 * k + 2 by omega]
      exact ⟨h1, h2, h3⟩
section
variable (f_workers f_now f_stopped f_duration f_priority f_overlap f_misfire f_waitingJobs f_logged : Int32) (a_there a_kind a_period a_lasts a_rank a_overlaps a_makesUp a_minutes a_hours a_days a_months a_weekdays a_due a_started a_lost a_missed a_sinceStop a_request a_waiting a_slot : Nat → Int32) (a_filled : Nat → Int64) (a_behind a_before a_lies a_runs a_ends a_active a_logJob a_logAt a_logDue : Nat → Int32) (g_asked : Int32) (b_kind b_next b_period b_sets b_missedNow b_waits b_doing b_history b_fields : Nat → Int32)
theorem zr_start_lp {W T : Nat} {ε : Nat → Nat} (hW : W ≤ 3) (eW : f_workers = nI W) (eT : f_now = nI T) (hT : T ≤ 1000000) (hε : ∀ w, ε w ≤ T) (hs : f_stopped = 0) (gj : zg_job a_there a_kind b_kind) (gl : zg_last a_there a_lasts) :
    ∀ (m : Nat) (f_waitingJobs f_logged : Int32) (a_started a_request a_waiting a_runs a_ends a_active a_logJob a_logAt a_logDue : Nat → Int32) (g_asked : Int32) (b_waits b_doing b_history : Nat → Int32) (L : Nat), zk_id a_ends W ≤ m → L + m < 2 ^ 30 →
      zg_wait a_there a_waiting b_waits f_waitingJobs g_asked → zg_run W ε a_there a_ends a_runs b_doing a_active → zg_log L f_logged a_started a_logJob a_logAt a_logDue b_history →
      ∃ (wj lg : Int32) (st rq wx rn en ac lj la ld : Nat → Int32) (ak : Int32) (wy dn hs : Nat → Int32) (L' : Nat), L ≤ L' ∧ L' ≤ L + m ∧ zg_wait a_there wx wy wj ak ∧ zg_run W ε a_there en rn dn ac ∧ zg_log L' lg st lj la ld hs ∧ zg_qui W f_stopped a_there en wy ac ∧
        (∀ j, j < 12 → (st j = a_started j ∧ wy j = b_waits j) ∨ (a_active j = 0 ∧ st j = a_started j + 1 ∧ b_waits j = wy j + 1)) ∧
        (∃ r1 r2 : Int32, (∀ post : Int32 → Prop, post r1 → wpX_idle post (f_workers, f_now, f_stopped, f_duration, f_priority, f_overlap, f_misfire, f_waitingJobs, f_logged, a_there, a_kind, a_period, a_lasts, a_rank, a_overlaps, a_makesUp, a_minutes, a_hours, a_days, a_months, a_weekdays, a_due, a_started, a_lost, a_missed, a_sinceStop, a_request, a_waiting, a_slot, a_filled, a_behind, a_before, a_lies, a_runs, a_ends, a_active, a_logJob, a_logAt, a_logDue)) ∧ (∀ post : Int32 → Prop, post r2 → wpX_choice post (f_workers, f_now, f_stopped, f_duration, f_priority, f_overlap, f_misfire, f_waitingJobs, f_logged, a_there, a_kind, a_period, a_lasts, a_rank, a_overlaps, a_makesUp, a_minutes, a_hours, a_days, a_months, a_weekdays, a_due, a_started, a_lost, a_missed, a_sinceStop, a_request, a_waiting, a_slot, a_filled, a_behind, a_before, a_lies, a_runs, a_ends, a_active, a_logJob, a_logAt, a_logDue)) ∧ ∀ (post : Int32 → SX → Prop), (∀ r, post r (f_workers, f_now, f_stopped, f_duration, f_priority, f_overlap, f_misfire, wj, lg, a_there, a_kind, a_period, a_lasts, a_rank, a_overlaps, a_makesUp, a_minutes, a_hours, a_days, a_months, a_weekdays, a_due, st, a_lost, a_missed, a_sinceStop, rq, wx, a_slot, a_filled, a_behind, a_before, a_lies, rn, en, ac, lj, la, ld)) → ∀ x1 n, m < n → wX_start_12 post f_workers f_now f_stopped f_duration f_priority f_overlap f_misfire n x1 r1 r2 f_waitingJobs f_logged a_there a_kind a_period a_lasts a_rank a_overlaps a_makesUp a_minutes a_hours a_days a_months a_weekdays a_due a_started a_lost a_missed a_sinceStop a_request a_waiting a_slot a_filled a_behind a_before a_lies a_runs a_ends a_active a_logJob a_logAt a_logDue) ∧
        (∀ post : SY → Prop, post (f_workers, f_now, lg, f_stopped, f_duration, f_priority, f_overlap, f_misfire, ak, b_kind, a_lasts, a_rank, a_overlaps, a_makesUp, b_next, b_period, b_sets, st, a_lost, a_missed, b_missedNow, wy, rq, dn, en, hs, b_fields) → ∀ n, m < n → wY_start_0 post n f_workers f_now f_logged f_stopped f_duration f_priority f_overlap f_misfire g_asked b_kind a_lasts a_rank a_overlaps a_makesUp b_next b_period b_sets a_started a_lost a_missed b_missedNow b_waits a_request b_doing a_ends b_history b_fields) := by
  intro m
  induction m with
  | zero =>
    intro f_waitingJobs f_logged a_started a_request a_waiting a_runs a_ends a_active a_logJob a_logAt a_logDue g_asked b_waits b_doing b_history L hid hL gw gr go
    obtain ⟨r1, k1, k2, k3⟩ := zr_idle f_workers f_now f_stopped f_duration f_priority f_overlap f_misfire f_waitingJobs f_logged a_there a_kind a_period a_lasts a_rank a_overlaps a_makesUp a_minutes a_hours a_days a_months a_weekdays a_due a_started a_lost a_missed a_sinceStop a_request a_waiting a_slot a_filled a_behind a_before a_lies a_runs a_ends a_active a_logJob a_logAt a_logDue g_asked b_kind b_next b_period b_sets b_missedNow b_waits b_doing b_history b_fields hW eW gr
    obtain ⟨r2, m1, m2, m3⟩ := zr_choice f_workers f_now f_stopped f_duration f_priority f_overlap f_misfire f_waitingJobs f_logged a_there a_kind a_period a_lasts a_rank a_overlaps a_makesUp a_minutes a_hours a_days a_months a_weekdays a_due a_started a_lost a_missed a_sinceStop a_request a_waiting a_slot a_filled a_behind a_before a_lies a_runs a_ends a_active a_logJob a_logAt a_logDue g_asked b_kind b_next b_period b_sets b_missedNow b_waits b_doing b_history b_fields hW eW gj gw gr
    have hno : ∀ w, w < W → a_ends w ≠ 0 := fun w hw z => by have := zk_id_pos z W hw; omega
    refine ⟨f_waitingJobs, f_logged, a_started, a_request, a_waiting, a_runs, a_ends, a_active, a_logJob, a_logAt, a_logDue, g_asked, b_waits, b_doing, b_history, L, Nat.le_refl _, by omega, gw, gr, go, fun _ => Or.inl hno, fun j _ => Or.inl ⟨rfl, rfl⟩, ⟨r1, r2, k2, m2, fun post P x1 n hn => ?_⟩, fun post P n hn => ?_⟩
    · obtain ⟨n, rfl⟩ : ∃ k, n = k + 1 := ⟨n - 1, by omega⟩
      rcases k1 with ⟨z, -⟩ | ⟨w, z1, -, z2⟩
      · rw [z]; exact br_t zk_neg (P x1)
      · exact absurd z2 (hno w z1)
    · obtain ⟨n, rfl⟩ : ∃ k, n = k + 1 := ⟨n - 1, by omega⟩
      rcases k1 with ⟨z, -⟩ | ⟨w, z1, -, z2⟩
      · exact br_t hs (br_c (fun _ => P) (fun _ => k3 _ (br_t (by rw [z]; exact zk_neg) P)))
      · exact absurd z2 (hno w z1)
  | succ m ih =>
    intro f_waitingJobs f_logged a_started a_request a_waiting a_runs a_ends a_active a_logJob a_logAt a_logDue g_asked b_waits b_doing b_history L hid hL gw gr go
    obtain ⟨r1, k1, k2, k3⟩ := zr_idle f_workers f_now f_stopped f_duration f_priority f_overlap f_misfire f_waitingJobs f_logged a_there a_kind a_period a_lasts a_rank a_overlaps a_makesUp a_minutes a_hours a_days a_months a_weekdays a_due a_started a_lost a_missed a_sinceStop a_request a_waiting a_slot a_filled a_behind a_before a_lies a_runs a_ends a_active a_logJob a_logAt a_logDue g_asked b_kind b_next b_period b_sets b_missedNow b_waits b_doing b_history b_fields hW eW gr
    obtain ⟨r2, m1, m2, m3⟩ := zr_choice f_workers f_now f_stopped f_duration f_priority f_overlap f_misfire f_waitingJobs f_logged a_there a_kind a_period a_lasts a_rank a_overlaps a_makesUp a_minutes a_hours a_days a_months a_weekdays a_due a_started a_lost a_missed a_sinceStop a_request a_waiting a_slot a_filled a_behind a_before a_lies a_runs a_ends a_active a_logJob a_logAt a_logDue g_asked b_kind b_next b_period b_sets b_missedNow b_waits b_doing b_history b_fields hW eW gj gw gr
    rcases k1 with ⟨z, hno⟩ | ⟨w, hw, rfl, hw0⟩
    · refine ⟨f_waitingJobs, f_logged, a_started, a_request, a_waiting, a_runs, a_ends, a_active, a_logJob, a_logAt, a_logDue, g_asked, b_waits, b_doing, b_history, L, Nat.le_refl _, by omega, gw, gr, go, fun _ => Or.inl hno, fun j _ => Or.inl ⟨rfl, rfl⟩, ⟨r1, r2, k2, m2, fun post P x1 n hn => ?_⟩, fun post P n hn => ?_⟩
      · obtain ⟨n, rfl⟩ : ∃ k, n = k + 1 := ⟨n - 1, by omega⟩
        rw [z]; exact br_t zk_neg (P x1)
      · obtain ⟨n, rfl⟩ : ∃ k, n = k + 1 := ⟨n - 1, by omega⟩
        exact br_t hs (br_c (fun _ => P) (fun _ => k3 _ (br_t (by rw [z]; exact zk_neg) P)))
    · rcases m1 with ⟨z, hno⟩ | ⟨j, hj, rfl, ht, hwt, hac⟩
      · refine ⟨f_waitingJobs, f_logged, a_started, a_request, a_waiting, a_runs, a_ends, a_active, a_logJob, a_logAt, a_logDue, g_asked, b_waits, b_doing, b_history, L, Nat.le_refl _, by omega, gw, gr, go, fun _ => Or.inr hno, fun j _ => Or.inl ⟨rfl, rfl⟩, ⟨nI w, r2, k2, m2, fun post P x1 n hn => ?_⟩, fun post P n hn => ?_⟩
        · obtain ⟨n, rfl⟩ : ∃ k, n = k + 1 := ⟨n - 1, by omega⟩
          rw [z]; exact br_f (nI_pos (by omega)) (br_t zk_neg (P x1))
        · obtain ⟨n, rfl⟩ : ∃ k, n = k + 1 := ⟨n - 1, by omega⟩
          exact br_t hs (br_c (fun _ => P) (fun _ => k3 _ (br_f (nI_pos (by omega)) (m3 _ (br_t (by rw [z]; exact zk_neg) P)))))
      · obtain ⟨q', q1, q2, q3, q4, q5⟩ := gw.2 j hj
        obtain ⟨q, rfl⟩ : ∃ q, q' = q + 1 := ⟨q' - 1, by
          rcases Nat.eq_zero_or_pos q' with z | z
          · exact absurd (by rw [q2, z]; rfl) hwt
          · omega⟩
        obtain ⟨ql, l1, l2, l3⟩ := gl j hj ht
        have hends : f_now + a_lasts j = nI (T + ql) := by rw [eT, l3, nI_add]
        have hp : L % 16 < 16 := Nat.mod_lt _ (by decide)
        have ep : f_logged &&& 15 = nI (L % 16) := by rw [go.1]; exact pk_andN (by omega) 4 (by decide)
        have gw' := zg_wait_dec gw hj ht (show q ≤ 2 by omega) q2
        have gr' := zg_run_start gr hT hε hw hj hw0 ht hac l1 l2
        have go' := zg_log_note (a := nI j) (t := f_now) (d := a_request (3 * j)) go (by omega) hj
        rw [← hends] at gr'
        have hid' : zk_id (upd a_ends w (f_now + a_lasts j)) W ≤ m := by
          have := zk_id_upd (x := f_now + a_lasts j) hw0 (by rw [hends]; exact nI_ne0 (by omega) (by omega)) W hw
          omega
        obtain ⟨wj, lg, st, rq, wx, rn, en, ac, lj, la, ld, ak, wy, dn, hs', L', n1, n2, n3, n4, n5, n6, n7, ⟨r1', r2', n8, n9, n10⟩, n11⟩ := ih _ _ _ (zk_sf a_request (3 * j) (3 * j + q)) _ _ _ _ _ _ _ _ _ _ _ (L + 1) hid' (by omega) gw' gr' go'
        refine ⟨wj, lg, st, rq, wx, rn, en, ac, lj, la, ld, ak, wy, dn, hs', L', by omega, by omega, n3, n4, n5, n6, fun i hi => ?_, ⟨nI w, nI j, k2, m2, fun post P x1 n hn => ?_⟩, fun post P n hn => ?_⟩
        · have hc := n7 i hi
          by_cases ei : i = j
          · subst ei
            rw [pk_us, pk_us, pk_us] at hc
            rcases hc with ⟨c1, c2⟩ | ⟨c1, -⟩
            · exact Or.inr ⟨hac, c1, by rw [c2, q2, nI_1]⟩
            · exact absurd c1 zk_01
          · rw [pk_un ei, pk_un ei, pk_un ei] at hc; exact hc
        · obtain ⟨n, rfl⟩ : ∃ k, n = k + 1 := ⟨n - 1, by omega⟩
          exact zx_s12 (by omega) hj (by omega) (q3 ht) hp ep n8 n9 (fun y => n10 post P y n (by omega))
        · obtain ⟨n, rfl⟩ : ∃ k, n = k + 1 := ⟨n - 1, by omega⟩
          refine zy_s0 (by omega) hj (by omega) q2 hs (fun z => ?_) k3 m3 (n11 post P n (by omega))
          have hl := zk_sm_le 12 (zg_wait_q gw) hj
          rw [q2, nI_toInt (by omega), ← gw.1] at hl
          rw [Int32.le_iff_toInt_le, zk_t0] at z
          omega
theorem zr_start {W T L : Nat} {ε : Nat → Nat} (hW : W ≤ 3) (eW : f_workers = nI W) (eT : f_now = nI T) (hT : T ≤ 1000000) (hε : ∀ w, ε w ≤ T) (hs : f_stopped = 0) (gj : zg_job a_there a_kind b_kind) (gl : zg_last a_there a_lasts) (hL : L < 2 ^ 29)
    (gw : zg_wait a_there a_waiting b_waits f_waitingJobs g_asked) (gr : zg_run W ε a_there a_ends a_runs b_doing a_active) (go : zg_log L f_logged a_started a_logJob a_logAt a_logDue b_history) :
      ∃ (wj lg : Int32) (st rq wx rn en ac lj la ld : Nat → Int32) (ak : Int32) (wy dn hs : Nat → Int32) (L' : Nat), L' ≤ L + 3 ∧ zg_wait a_there wx wy wj ak ∧ zg_run W ε a_there en rn dn ac ∧ zg_log L' lg st lj la ld hs ∧ zg_qui W f_stopped a_there en wy ac ∧
        (∀ j, j < 12 → (st j = a_started j ∧ wy j = b_waits j) ∨ (a_active j = 0 ∧ st j = a_started j + 1 ∧ b_waits j = wy j + 1)) ∧
        (∀ (post : Int32 → SX → Prop), (∀ r, post r (f_workers, f_now, f_stopped, f_duration, f_priority, f_overlap, f_misfire, wj, lg, a_there, a_kind, a_period, a_lasts, a_rank, a_overlaps, a_makesUp, a_minutes, a_hours, a_days, a_months, a_weekdays, a_due, st, a_lost, a_missed, a_sinceStop, rq, wx, a_slot, a_filled, a_behind, a_before, a_lies, rn, en, ac, lj, la, ld)) → wpX_start post (f_workers, f_now, f_stopped, f_duration, f_priority, f_overlap, f_misfire, f_waitingJobs, f_logged, a_there, a_kind, a_period, a_lasts, a_rank, a_overlaps, a_makesUp, a_minutes, a_hours, a_days, a_months, a_weekdays, a_due, a_started, a_lost, a_missed, a_sinceStop, a_request, a_waiting, a_slot, a_filled, a_behind, a_before, a_lies, a_runs, a_ends, a_active, a_logJob, a_logAt, a_logDue)) ∧
        (∀ post : SY → Prop, post (f_workers, f_now, lg, f_stopped, f_duration, f_priority, f_overlap, f_misfire, ak, b_kind, a_lasts, a_rank, a_overlaps, a_makesUp, b_next, b_period, b_sets, st, a_lost, a_missed, b_missedNow, wy, rq, dn, en, hs, b_fields) → wpY_start post (f_workers, f_now, f_logged, f_stopped, f_duration, f_priority, f_overlap, f_misfire, g_asked, b_kind, a_lasts, a_rank, a_overlaps, a_makesUp, b_next, b_period, b_sets, a_started, a_lost, a_missed, b_missedNow, b_waits, a_request, b_doing, a_ends, b_history, b_fields)) := by
  have hid := zk_id_le a_ends W
  obtain ⟨wj, lg, st, rq, wx, rn, en, ac, lj, la, ld, ak, wy, dn, hs', L', n1, n2, n3, n4, n5, n6, n7, ⟨r1', r2', n8, n9, n10⟩, n11⟩ := zr_start_lp f_workers f_now f_stopped f_duration f_priority f_overlap f_misfire a_there a_kind a_period a_lasts a_rank a_overlaps a_makesUp a_minutes a_hours a_days a_months a_weekdays a_due a_lost a_missed a_sinceStop a_slot a_filled a_behind a_before a_lies b_kind b_next b_period b_sets b_missedNow b_fields hW eW eT hT hε hs gj gl 3 f_waitingJobs f_logged a_started a_request a_waiting a_runs a_ends a_active a_logJob a_logAt a_logDue g_asked b_waits b_doing b_history L (by omega) (by omega) gw gr go
  exact ⟨wj, lg, st, rq, wx, rn, en, ac, lj, la, ld, ak, wy, dn, hs', L', n2, n3, n4, n5, n6, n7, fun post P => n8 _ (n9 _ ⟨4, n10 post P 0 4 (by omega)⟩), fun post P => ⟨4, n11 post P 4 (by omega)⟩⟩
end
end
section
/-! ask; plan over the groups; a job's next time -/
def zd_1 (t M : Nat) (kx px mi ho da mo wd du nx : Int32) : Prop := (kx ≠ 3 → zk_du0 t M px du nx) ∧ (kx = 3 → zk_du3 t mi ho da mo wd du)
def zh_1 (N : Nat) (th du li : Int32) : Prop := (th = 1 → ∀ d, d ≤ 1000000 → du = nI d → li = nI (zk_at N d)) ∧ ((th = 0 ∨ du = -1) → li = -1)
def zk_pl (x : Int32) : Int32 := if x < 0 ∨ ¬ x ≤ 1000000 then -1 else x
theorem zk_pl_m1 : zk_pl (-1) = -1 := rfl
theorem zk_pl_in {d : Nat} (h : d ≤ 1000000) : zk_pl (nI d) = nI d := by
  unfold zk_pl
  rw [if_neg]
  intro z
  rcases z with z | z
  · exact nI_pos (by omega) z
  · exact z (nI_le (b := 1000000) h (by omega))
theorem zk_pl_out {d : Nat} (h : 1000000 < d) (h2 : d < 2 ^ 31) : zk_pl (nI d) = -1 := by
  unfold zk_pl
  exact if_pos (Or.inr (show ¬ nI d ≤ 1000000 from nI_ge (a := 1000000) h h2))
section
variable {f_workers f_now f_stopped f_duration f_priority f_overlap f_misfire f_waitingJobs f_logged : Int32} {a_there a_kind a_period a_lasts a_rank a_overlaps a_makesUp a_minutes a_hours a_days a_months a_weekdays a_due a_started a_lost a_missed a_sinceStop a_request a_waiting a_slot : Nat → Int32} {a_filled : Nat → Int64} {a_behind a_before a_lies a_runs a_ends a_active a_logJob a_logAt a_logDue : Nat → Int32}
theorem zx_ask {post : SX → Prop} {j q : Nat} {x : Int32} (hj : j < 12) (hq : q ≤ 2) (e : a_waiting j = nI q) (K : post (f_workers, f_now, f_stopped, f_duration, f_priority, f_overlap, f_misfire, f_waitingJobs ||| ((1 : Int32) <<< (nI j &&& 31)), f_logged, a_there, a_kind, a_period, a_lasts, a_rank, a_overlaps, a_makesUp, a_minutes, a_hours, a_days, a_months, a_weekdays, a_due, a_started, a_lost, a_missed, a_sinceStop, upd a_request (3 * j + q) x, upd a_waiting j (nI (q + 1)), a_slot, a_filled, a_behind, a_before, a_lies, a_runs, a_ends, a_active, a_logJob, a_logAt, a_logDue)) : wpX_ask post (f_workers, f_now, f_stopped, f_duration, f_priority, f_overlap, f_misfire, f_waitingJobs, f_logged, a_there, a_kind, a_period, a_lasts, a_rank, a_overlaps, a_makesUp, a_minutes, a_hours, a_days, a_months, a_weekdays, a_due, a_started, a_lost, a_missed, a_sinceStop, a_request, a_waiting, a_slot, a_filled, a_behind, a_before, a_lies, a_runs, a_ends, a_active, a_logJob, a_logAt, a_logDue) (nI j) x := by
  have hi : vp_in (nI j) 12 := vp_in_nI hj (by omega)
  unfold wpX_ask
  dsimp only
  rw [show (nI j).toNatClampNeg = j from nI_clamp (by omega), e, nI_1, zk_vb (show q + 1 < 128 by omega), zk_3, nI_add, show (nI (3 * j + q)).toNatClampNeg = 3 * j + q from nI_clamp (by omega)]
  exact ⟨hi, hi, nm_e ⟨vp_in_nI (by omega) (by omega), nm_e (nm_e K)⟩⟩
end
section
variable {f_workers f_now f_logged f_stopped f_duration f_priority f_overlap f_misfire g_asked : Int32} {b_kind a_lasts a_rank a_overlaps a_makesUp b_next b_period b_sets a_started a_lost a_missed b_missedNow b_waits a_request b_doing a_ends b_history b_fields : Nat → Int32}
theorem zy_ask {post : SY → Prop} {j q : Nat} (hj : j < 12) (hq : q ≤ 2) (e : b_waits j = nI q) (K : post (f_workers, f_now, f_logged, f_stopped, f_duration, f_priority, f_overlap, f_misfire, g_asked + 1, b_kind, a_lasts, a_rank, a_overlaps, a_makesUp, b_next, b_period, b_sets, a_started, a_lost, a_missed, b_missedNow, upd b_waits j (nI (q + 1)), upd a_request (3 * j + q) f_now, b_doing, a_ends, b_history, b_fields)) : wpY_ask post (f_workers, f_now, f_logged, f_stopped, f_duration, f_priority, f_overlap, f_misfire, g_asked, b_kind, a_lasts, a_rank, a_overlaps, a_makesUp, b_next, b_period, b_sets, a_started, a_lost, a_missed, b_missedNow, b_waits, a_request, b_doing, a_ends, b_history, b_fields) (nI j) := by
  have hi : vp_in (nI j) 12 := vp_in_nI hj (by omega)
  unfold wpY_ask
  dsimp only
  rw [show (nI j).toNatClampNeg = j from nI_clamp (by omega), e, nI_1, zk_3, nI_add, show (nI (3 * j + q)).toNatClampNeg = 3 * j + q from nI_clamp (by omega)]
  exact ⟨hi, vp_in_nI (by omega) (by omega), nm_e ⟨hi, hi, nm_e (nm_e K)⟩⟩
end
section
variable (f_workers f_now f_stopped f_duration f_priority f_overlap f_misfire f_waitingJobs f_logged : Int32) (a_there a_kind a_period a_lasts a_rank a_overlaps a_makesUp a_minutes a_hours a_days a_months a_weekdays a_due a_started a_lost a_missed a_sinceStop a_request a_waiting a_slot : Nat → Int32) (a_filled : Nat → Int64) (a_behind a_before a_lies a_runs a_ends a_active a_logJob a_logAt a_logDue : Nat → Int32)
theorem zx_plan {j T : Nat} {x : Int32} (hj : j < 12) (hT : T ≤ 1000000) (eT : f_now = nI T) (ht : a_there j = 1) (W : ∃ C, zw_W C a_lies a_slot a_filled a_behind a_before) (hl : a_lies j = -1) (ho : ∀ i, i < 12 → i ≠ j → zh_1 T (a_there i) (a_due i) (a_lies i)) (hx : x = -1 ∨ ∃ d, x = nI d ∧ d < 2 ^ 31) :
    ∃ (li sl : Nat → Int32) (fi : Nat → Int64) (bh bf : Nat → Int32), zg_whl T a_there (upd a_due j (zk_pl x)) li sl fi bh bf ∧ ∀ post : SX → Prop, post (f_workers, f_now, f_stopped, f_duration, f_priority, f_overlap, f_misfire, f_waitingJobs, f_logged, a_there, a_kind, a_period, a_lasts, a_rank, a_overlaps, a_makesUp, a_minutes, a_hours, a_days, a_months, a_weekdays, upd a_due j (zk_pl x), a_started, a_lost, a_missed, a_sinceStop, a_request, a_waiting, sl, fi, bh, bf, li, a_runs, a_ends, a_active, a_logJob, a_logAt, a_logDue) → wpX_plan post (f_workers, f_now, f_stopped, f_duration, f_priority, f_overlap, f_misfire, f_waitingJobs, f_logged, a_there, a_kind, a_period, a_lasts, a_rank, a_overlaps, a_makesUp, a_minutes, a_hours, a_days, a_months, a_weekdays, a_due, a_started, a_lost, a_missed, a_sinceStop, a_request, a_waiting, a_slot, a_filled, a_behind, a_before, a_lies, a_runs, a_ends, a_active, a_logJob, a_logAt, a_logDue) (nI j) x := by
  obtain ⟨C, W⟩ := W
  have no : zk_pl x = -1 → (x < 0 ∨ ¬ x ≤ 1000000) → ∃ (li sl : Nat → Int32) (fi : Nat → Int64) (bh bf : Nat → Int32), zg_whl T a_there (upd a_due j (zk_pl x)) li sl fi bh bf ∧ ∀ post : SX → Prop, post (f_workers, f_now, f_stopped, f_duration, f_priority, f_overlap, f_misfire, f_waitingJobs, f_logged, a_there, a_kind, a_period, a_lasts, a_rank, a_overlaps, a_makesUp, a_minutes, a_hours, a_days, a_months, a_weekdays, upd a_due j (zk_pl x), a_started, a_lost, a_missed, a_sinceStop, a_request, a_waiting, sl, fi, bh, bf, li, a_runs, a_ends, a_active, a_logJob, a_logAt, a_logDue) → wpX_plan post (f_workers, f_now, f_stopped, f_duration, f_priority, f_overlap, f_misfire, f_waitingJobs, f_logged, a_there, a_kind, a_period, a_lasts, a_rank, a_overlaps, a_makesUp, a_minutes, a_hours, a_days, a_months, a_weekdays, a_due, a_started, a_lost, a_missed, a_sinceStop, a_request, a_waiting, a_slot, a_filled, a_behind, a_before, a_lies, a_runs, a_ends, a_active, a_logJob, a_logAt, a_logDue) (nI j) x := by
    intro e1 e2
    rw [e1]
    refine ⟨a_lies, a_slot, a_filled, a_behind, a_before, ⟨⟨C, W⟩, fun i hi => ?_⟩, fun post P => zx_plan_no f_workers f_now f_stopped f_duration f_priority f_overlap f_misfire f_waitingJobs f_logged a_there a_kind a_period a_lasts a_rank a_overlaps a_makesUp a_minutes a_hours a_days a_months a_weekdays a_due a_started a_lost a_missed a_sinceStop a_request a_waiting a_slot a_filled a_behind a_before a_lies a_runs a_ends a_active a_logJob a_logAt a_logDue hj e2 P⟩
    by_cases e : i = j
    · subst e
      rw [pk_us]
      exact ⟨fun _ d hd z => absurd z.symm (zk_ne (by omega)), fun _ => hl⟩
    · rw [pk_un e]; exact ho i hi e
  rcases hx with rfl | ⟨d, rfl, hd⟩
  · exact no zk_pl_m1 (Or.inl zk_neg)
  · rcases Nat.lt_or_ge 1000000 d with z | z
    · exact no (zk_pl_out z hd) (Or.inr (nI_ge (a := 1000000) z hd))
    · obtain ⟨sl, fi, bh, bf, W2, K⟩ := zx_plan_in f_workers f_now f_stopped f_duration f_priority f_overlap f_misfire f_waitingJobs f_logged a_there a_kind a_period a_lasts a_rank a_overlaps a_makesUp a_minutes a_hours a_days a_months a_weekdays a_due a_started a_lost a_missed a_sinceStop a_request a_waiting a_slot a_filled a_behind a_before a_lies a_runs a_ends a_active a_logJob a_logAt a_logDue hj z (show T < 16777216 by omega) eT W hl
      rw [zk_pl_in z]
      refine ⟨_, sl, fi, bh, bf, ⟨⟨_, W2⟩, fun i hi => ?_⟩, K⟩
      by_cases e : i = j
      · subst e
        rw [pk_us, pk_us]
        refine ⟨fun _ d' hd' z' => ?_, fun z' => ?_⟩
        · rw [(nI_eq (by omega) (by omega)).mp z']
        · rcases z' with z' | z'
          · rw [ht] at z'; exact absurd z' zk_01
          · exact absurd z' (zk_ne (by omega))
      · rw [pk_un e, pk_un e]; exact ho i hi e
end
theorem zk_fj_of {a b c d e : Nat} {mi ho da mo wd : Int32} (ok : zk_ok a b c d e) (e1 : mi = nI a) (e2 : ho = nI b) (e3 : da = nI c) (e4 : mo = nI d) (e5 : wd = nI e) (t : Nat) : zk_fj mi ho da mo wd t = zk_ft a b c d e t := by
  obtain ⟨o1, o2, o3, o4, o5, o6, o7, o8, o9, o10⟩ := ok
  unfold zk_fj
  rw [e1, e2, e3, e4, e5, nI_clamp (by omega), nI_clamp (by omega), nI_clamp (by omega), nI_clamp (by omega), nI_clamp (by omega)]
theorem zk_ft_per (a b c d e t : Nat) : zk_ft a b c d e (t + 22400) = zk_ft a b c d e t := by
  unfold zk_ft
  rw [show (t + 22400) % 10 = t % 10 by omega, show (t + 22400) / 10 % 8 = t / 10 % 8 by omega, show (t + 22400) / 80 = t / 80 + 280 by omega, zk_dy_per]
theorem zk_nx_ex (a b c d e t : Nat) : ∃ r, zk_nx a b c d e t r := by
  by_cases z : ∃ n, t < n ∧ zk_ft a b c d e n = true
  · obtain ⟨n, ⟨h1, h2⟩, h3⟩ := pk_least _ z
    refine ⟨nI n, Or.inr ⟨n, rfl, h1, ?_, h2, fun s s1 s2 => ts_nt (fun y => h3 s s2 ⟨s1, y⟩)⟩⟩
    rcases Nat.lt_or_ge n (t + 23000) with y | y
    · exact y
    · exfalso
      refine h3 (n - 22400) (by omega) ⟨by omega, ?_⟩
      rw [← zk_ft_per, show n - 22400 + 22400 = n by omega]; exact h2
  · exact ⟨-1, Or.inl ⟨rfl, fun s s1 => ts_nt (fun y => z ⟨s, s1, y⟩)⟩⟩
theorem zk_nx_uq {a b c d e t : Nat} {r r' : Int32} (h : zk_nx a b c d e t r) (h' : zk_nx a b c d e t r') : r = r' := by
  rcases h with ⟨rfl, h⟩ | ⟨n, rfl, h1, h2, h3, h4⟩
  · rcases h' with ⟨rfl, h'⟩ | ⟨n', rfl, h1', h2', h3', h4'⟩
    · rfl
    · rw [h n' h1'] at h3'; cases h3'
  · rcases h' with ⟨rfl, h'⟩ | ⟨n', rfl, h1', h2', h3', h4'⟩
    · rw [h' n h1] at h3; cases h3
    · rcases Nat.lt_trichotomy n n' with z | z | z
      · rw [h4' n h1 z] at h3; cases h3
      · rw [z]
      · rw [h4 n' h1' z] at h3'; cases h3'
theorem zk_nx_du {a b c d e t : Nat} {mi ho da mo wd r : Int32} (ok : zk_ok a b c d e) (e1 : mi = nI a) (e2 : ho = nI b) (e3 : da = nI c) (e4 : mo = nI d) (e5 : wd = nI e) (ht : t ≤ 1000000) (h : zk_nx a b c d e t r) : (r = -1 ∨ ∃ n, r = nI n ∧ n < 2 ^ 31) ∧ zk_du3 t mi ho da mo wd (zk_pl r) := by
  have hf := zk_fj_of ok e1 e2 e3 e4 e5
  rcases h with ⟨rfl, h⟩ | ⟨n, rfl, h1, h2, h3, h4⟩
  · exact ⟨Or.inl rfl, Or.inl ⟨zk_pl_m1, fun s z _ => by rw [hf]; exact h s z⟩⟩
  · refine ⟨Or.inr ⟨n, rfl, by omega⟩, ?_⟩
    rcases Nat.lt_or_ge 1000000 n with z | z
    · rw [zk_pl_out z (by omega)]
      exact Or.inl ⟨rfl, fun s y1 y2 => by rw [hf]; exact h4 s y1 (by omega)⟩
    · rw [zk_pl_in z]
      exact Or.inr ⟨n, rfl, h1, z, by rw [hf]; exact h3, fun s y1 y2 => by rw [hf]; exact h4 s y1 y2⟩
theorem zk_du_per {T q : Nat} (hT : T ≤ 1000000) (h1 : 1 ≤ q) (h2 : q ≤ 2000) : zk_du0 T T (nI q) (zk_pl (nI (T + q))) (nI (T + q)) := by
  rcases Nat.lt_or_ge 1000000 (T + q) with z | z
  · rw [zk_pl_out z (by omega)]
    exact Or.inr ⟨rfl, Or.inr ⟨T + q, q, rfl, rfl, h2, z, Nat.le_refl _, by omega⟩⟩
  · rw [zk_pl_in z]
    exact Or.inl ⟨T + q, rfl, rfl, by omega, z⟩
section
variable (f_workers f_now f_stopped f_duration f_priority f_overlap f_misfire f_waitingJobs f_logged : Int32) (a_there a_kind a_period a_lasts a_rank a_overlaps a_makesUp a_minutes a_hours a_days a_months a_weekdays a_due a_started a_lost a_missed a_sinceStop a_request a_waiting a_slot : Nat → Int32) (a_filled : Nat → Int64) (a_behind a_before a_lies a_runs a_ends a_active a_logJob a_logAt a_logDue : Nat → Int32) (g_asked : Int32) (b_kind b_next b_period b_sets b_missedNow b_waits b_doing b_history b_fields : Nat → Int32)
/-- the next time of the job j, behind its due: the component plans it, the reference reckons it -/
theorem zr_next {j T : Nat} {τ τ' : Nat → Nat} (F : Bool) (hj : j < 12) (hT : T ≤ 1000000) (eT : f_now = nI T) (ht : a_there j = 1) (e1 : τ' j = T) (e2 : ∀ i, i ≠ j → τ' i = τ i) (gj : zg_job a_there a_kind b_kind) (gp : zg_per a_there a_kind a_period b_period) (gs : zg_set a_there a_kind a_minutes a_hours a_days a_months a_weekdays b_sets)
    (hsp : f_stopped = 0 ∨ f_stopped = 1) (hn : a_kind j = 1 → b_next j = nI T) (W : ∃ C, zw_W C a_lies a_slot a_filled a_behind a_before) (hl : a_lies j = -1) (ho : ∀ i, i < 12 → i ≠ j → zh_1 T (a_there i) (a_due i) (a_lies i))
    (hd : ∀ i, i < 12 → i ≠ j → a_there i = 1 → zd_1 (τ i) T (a_kind i) (a_period i) (a_minutes i) (a_hours i) (a_days i) (a_months i) (a_weekdays i) (a_due i) (b_next i)) :
    ∃ (v : Int32) (li sl : Nat → Int32) (fi : Nat → Int64) (bh bf nx : Nat → Int32), zg_whl T a_there (upd a_due j v) li sl fi bh bf ∧ zg_due τ' T a_there a_kind a_period a_minutes a_hours a_days a_months a_weekdays (upd a_due j v) nx ∧
      (∀ post : SX → Prop, post (f_workers, f_now, f_stopped, f_duration, f_priority, f_overlap, f_misfire, f_waitingJobs, f_logged, a_there, a_kind, a_period, a_lasts, a_rank, a_overlaps, a_makesUp, a_minutes, a_hours, a_days, a_months, a_weekdays, upd a_due j v, a_started, a_lost, a_missed, a_sinceStop, a_request, a_waiting, sl, fi, bh, bf, li, a_runs, a_ends, a_active, a_logJob, a_logAt, a_logDue) → wX_come_111 post (nI j) (zk_bi F) f_workers f_now f_stopped f_duration f_priority f_overlap f_misfire f_waitingJobs f_logged a_there a_kind a_period a_lasts a_rank a_overlaps a_makesUp a_minutes a_hours a_days a_months a_weekdays a_due a_started a_lost a_missed a_sinceStop a_request a_waiting a_slot a_filled a_behind a_before a_lies a_runs a_ends a_active a_logJob a_logAt a_logDue) ∧ (∀ post : SY → Prop, post (f_workers, f_now, f_logged, f_stopped, f_duration, f_priority, f_overlap, f_misfire, g_asked, b_kind, a_lasts, a_rank, a_overlaps, a_makesUp, nx, b_period, b_sets, a_started, a_lost, a_missed, b_missedNow, b_waits, a_request, b_doing, a_ends, b_history, b_fields) → wY_fall_94 post (nI j) (zk_bi F) f_workers f_now f_logged f_stopped f_duration f_priority f_overlap f_misfire g_asked b_kind a_lasts a_rank a_overlaps a_makesUp b_next b_period b_sets a_started a_lost a_missed b_missedNow b_waits a_request b_doing a_ends b_history b_fields) := by
  have hin : vp_in (nI j) 12 := vp_in_nI hj (by omega)
  have cj : (nI j).toNatClampNeg = j := nI_clamp (by omega)
  obtain ⟨-, hk, hk4⟩ : a_there j = 1 ∧ b_kind j = a_kind j ∧ (a_kind j = 0 ∨ a_kind j = 1 ∨ a_kind j = 2 ∨ a_kind j = 3) := by
    rcases gj j hj with z | z
    · rw [ht] at z; exact absurd z.1 zk_01
    · exact z
  -- assembling what stands behind
  have fin : ∀ (v y : Int32), zd_1 T T (a_kind j) (a_period j) (a_minutes j) (a_hours j) (a_days j) (a_months j) (a_weekdays j) v y → ∀ nx : Nat → Int32, nx j = y → (∀ i, i ≠ j → nx i = b_next i) → zg_due τ' T a_there a_kind a_period a_minutes a_hours a_days a_months a_weekdays (upd a_due j v) nx := by
    intro v y h nx n1 n2 i hi hti
    by_cases e : i = j
    · subst e; rw [e1, pk_us, n1]; exact h
    · rw [e2 i e, pk_un e, n2 i e]; exact hd i hi e hti
  -- X's walk from a known next time
  have x156 : a_kind j ≠ 3 → ∀ x : Int32, (x = -1 ∨ ∃ d, x = nI d ∧ d < 2 ^ 31) → ∃ (li sl : Nat → Int32) (fi : Nat → Int64) (bh bf : Nat → Int32), zg_whl T a_there (upd a_due j (zk_pl x)) li sl fi bh bf ∧ ∀ post : SX → Prop, post (f_workers, f_now, f_stopped, f_duration, f_priority, f_overlap, f_misfire, f_waitingJobs, f_logged, a_there, a_kind, a_period, a_lasts, a_rank, a_overlaps, a_makesUp, a_minutes, a_hours, a_days, a_months, a_weekdays, upd a_due j (zk_pl x), a_started, a_lost, a_missed, a_sinceStop, a_request, a_waiting, sl, fi, bh, bf, li, a_runs, a_ends, a_active, a_logJob, a_logAt, a_logDue) → wX_come_156 post (nI j) x f_workers f_now f_stopped f_duration f_priority f_overlap f_misfire f_waitingJobs f_logged a_there a_kind a_period a_lasts a_rank a_overlaps a_makesUp a_minutes a_hours a_days a_months a_weekdays a_due a_started a_lost a_missed a_sinceStop a_request a_waiting a_slot a_filled a_behind a_before a_lies a_runs a_ends a_active a_logJob a_logAt a_logDue := by
    intro h3 x hx
    obtain ⟨li, sl, fi, bh, bf, G, K⟩ := zx_plan f_workers f_now f_stopped f_duration f_priority f_overlap f_misfire f_waitingJobs f_logged a_there a_kind a_period a_lasts a_rank a_overlaps a_makesUp a_minutes a_hours a_days a_months a_weekdays a_due a_started a_lost a_missed a_sinceStop a_request a_waiting a_slot a_filled a_behind a_before a_lies a_runs a_ends a_active a_logJob a_logAt a_logDue hj hT eT ht W hl ho hx
    refine ⟨li, sl, fi, bh, bf, G, fun post P => ?_⟩
    unfold wX_come_156
    rw [cj]
    exact ⟨hin, br_f h3 (K _ P)⟩
  have per : (a_kind j = 1 ∨ a_kind j = 2) → ∃ q, 1 ≤ q ∧ q ≤ 2000 ∧ a_period j = nI q ∧ b_period j = nI q := fun h => gp j hj ht h
  have x144 : (a_kind j = 1 ∨ a_kind j = 2) → a_kind j ≠ 3 → ∃ (v : Int32) (li sl : Nat → Int32) (fi : Nat → Int64) (bh bf : Nat → Int32) (q : Nat), a_period j = nI q ∧ b_period j = nI q ∧ v = zk_pl (nI (T + q)) ∧ zg_whl T a_there (upd a_due j v) li sl fi bh bf ∧ zd_1 T T (a_kind j) (a_period j) (a_minutes j) (a_hours j) (a_days j) (a_months j) (a_weekdays j) v (nI (T + q)) ∧ ∀ post : SX → Prop, post (f_workers, f_now, f_stopped, f_duration, f_priority, f_overlap, f_misfire, f_waitingJobs, f_logged, a_there, a_kind, a_period, a_lasts, a_rank, a_overlaps, a_makesUp, a_minutes, a_hours, a_days, a_months, a_weekdays, upd a_due j v, a_started, a_lost, a_missed, a_sinceStop, a_request, a_waiting, sl, fi, bh, bf, li, a_runs, a_ends, a_active, a_logJob, a_logAt, a_logDue) → wX_come_144 post (nI j) f_workers f_now f_stopped f_duration f_priority f_overlap f_misfire f_waitingJobs f_logged a_there a_kind a_period a_lasts a_rank a_overlaps a_makesUp a_minutes a_hours a_days a_months a_weekdays a_due a_started a_lost a_missed a_sinceStop a_request a_waiting a_slot a_filled a_behind a_before a_lies a_runs a_ends a_active a_logJob a_logAt a_logDue := by
    intro h h3
    obtain ⟨q, q1, q2, q3, q4⟩ := per h
    obtain ⟨li, sl, fi, bh, bf, G, K⟩ := x156 h3 (nI (T + q)) (Or.inr ⟨T + q, rfl, by omega⟩)
    refine ⟨_, li, sl, fi, bh, bf, q, q3, q4, rfl, G, ⟨fun _ => by rw [q3]; exact zk_du_per hT q1 q2, fun z => absurd z h3⟩, fun post P => ?_⟩
    unfold wX_come_144
    rw [cj, q3, eT, nI_add]
    exact ⟨hin, nm_e (by rw [← eT]; exact K post P)⟩
  have n30 : ¬ (0 : Int32) = 3 := by decide
  have n31 : ¬ (1 : Int32) = 3 := by decide
  have n32 : ¬ (2 : Int32) = 3 := by decide
  rcases hk4 with k | k | k | k
  · -- once
    have h3 : a_kind j ≠ 3 := by rw [k]; exact n30
    obtain ⟨li, sl, fi, bh, bf, G, K⟩ := x156 h3 (-1) (Or.inl rfl)
    refine ⟨_, li, sl, fi, bh, bf, upd b_next j (-1), G, fin _ (-1) ⟨fun _ => Or.inr ⟨zk_pl_m1, Or.inl rfl⟩, fun z => absurd z h3⟩ _ pk_us (fun i hi => pk_un hi), fun post P => ?_, fun post P => ?_⟩
    · unfold wX_come_111
      rw [cj]
      exact ⟨hin, br_f (by rw [k]; decide) ⟨hin, br_f (by rw [k]; decide) (K post P)⟩⟩
    · unfold wY_fall_94 wY_fall_110 wY_fall_135
      rw [cj, hk]
      exact ⟨hin, br_t k ⟨hin, nm_e ⟨hin, br_f (by rw [k]; decide) ⟨hin, br_f (by rw [k]; decide) P⟩⟩⟩⟩
  · -- every
    have h3 : a_kind j ≠ 3 := by rw [k]; exact n31
    obtain ⟨v, li, sl, fi, bh, bf, q, q3, q4, ev, G, D, K⟩ := x144 (Or.inl k) h3
    refine ⟨v, li, sl, fi, bh, bf, upd b_next j (nI (T + q)), G, fin v _ D _ pk_us (fun i hi => pk_un hi), fun post P => ?_, fun post P => ?_⟩
    · unfold wX_come_111
      rw [cj]
      exact ⟨hin, br_t k (K post P)⟩
    · unfold wY_fall_94 wY_fall_110 wY_fall_135
      rw [cj, hk, hn k, q4, nI_add]
      exact ⟨hin, br_f (by rw [k]; decide) ⟨hin, br_t k ⟨hin, hin, hin, nm_e ⟨hin, br_f (by rw [k]; decide) P⟩⟩⟩⟩
  · -- after
    have h3 : a_kind j ≠ 3 := by rw [k]; exact n32
    by_cases c : f_stopped = 0 ∧ F = false
    · obtain ⟨c1, rfl⟩ := c
      obtain ⟨li, sl, fi, bh, bf, G, K⟩ := x156 h3 (-1) (Or.inl rfl)
      refine ⟨_, li, sl, fi, bh, bf, upd b_next j (-1), G, fin _ (-1) ⟨fun _ => Or.inr ⟨zk_pl_m1, Or.inl rfl⟩, fun z => absurd z h3⟩ _ pk_us (fun i hi => pk_un hi), fun post P => ?_, fun post P => ?_⟩
      · unfold wX_come_111
        rw [cj]
        exact ⟨hin, br_f (by rw [k]; decide) ⟨hin, br_t k (br_t c1 (br_t rfl (K post P)))⟩⟩
      · unfold wY_fall_94 wY_fall_110 wY_fall_135
        rw [cj, hk]
        exact ⟨hin, br_f (by rw [k]; decide) ⟨hin, br_f (by rw [k]; decide) ⟨hin, br_t k (br_t c1 (br_t rfl ⟨hin, nm_e P⟩))⟩⟩⟩
    · obtain ⟨v, li, sl, fi, bh, bf, q, q3, q4, ev, G, D, K⟩ := x144 (Or.inr k) h3
      refine ⟨v, li, sl, fi, bh, bf, upd b_next j (nI (T + q)), G, fin v _ D _ pk_us (fun i hi => pk_un hi), fun post P => ?_, fun post P => ?_⟩
      · unfold wX_come_111
        rw [cj]
        refine ⟨hin, br_f (by rw [k]; decide) ⟨hin, br_t k (br_c (fun c1 => br_f (fun z => c ⟨c1, (zk_bi0 F).mp z⟩) (K post P)) (fun _ => K post P))⟩⟩
      · have y161 : wY_fall_161 post (nI j) (nI j) f_workers f_now f_logged f_stopped f_duration f_priority f_overlap f_misfire g_asked b_kind a_lasts a_rank a_overlaps a_makesUp b_next b_period b_sets a_started a_lost a_missed b_missedNow b_waits a_request b_doing a_ends b_history b_fields := by
          unfold wY_fall_161
          rw [cj, q4, eT, nI_add]
          exact ⟨hin, hin, nm_e (by rw [← eT]; exact P)⟩
        unfold wY_fall_94 wY_fall_110 wY_fall_135
        rw [cj, hk]
        exact ⟨hin, br_f (by rw [k]; decide) ⟨hin, br_f (by rw [k]; decide) ⟨hin, br_t k (br_c (fun c1 => br_f (fun z => c ⟨c1, (zk_bi0 F).mp z⟩) y161) (fun _ => y161))⟩⟩⟩
  · -- cron
    obtain ⟨a, b, c, d, e, ok, s1, s2, s3, s4, s5, -⟩ := gs j hj ht k
    obtain ⟨r, hr⟩ := zk_nx_ex a b c d e T
    have KS : ∀ post : Int32 → Prop, post r → wpX_search post (f_workers, f_now, f_stopped, f_duration, f_priority, f_overlap, f_misfire, f_waitingJobs, f_logged, a_there, a_kind, a_period, a_lasts, a_rank, a_overlaps, a_makesUp, a_minutes, a_hours, a_days, a_months, a_weekdays, a_due, a_started, a_lost, a_missed, a_sinceStop, a_request, a_waiting, a_slot, a_filled, a_behind, a_before, a_lies, a_runs, a_ends, a_active, a_logJob, a_logAt, a_logDue) (nI j) f_now := fun post P => by
      rw [eT]
      exact zx_search hj hT ok s1 s2 s4 s3 s5 (fun r' h' => by rw [zk_nx_uq h' hr]; exact P)
    obtain ⟨hx, hdu⟩ := zk_nx_du ok s1 s2 s3 s4 s5 hT hr
    obtain ⟨li, sl, fi, bh, bf, G, K⟩ := zx_plan f_workers f_now f_stopped f_duration f_priority f_overlap f_misfire f_waitingJobs f_logged a_there a_kind a_period a_lasts a_rank a_overlaps a_makesUp a_minutes a_hours a_days a_months a_weekdays a_due a_started a_lost a_missed a_sinceStop a_request a_waiting a_slot a_filled a_behind a_before a_lies a_runs a_ends a_active a_logJob a_logAt a_logDue hj hT eT ht W hl ho hx
    refine ⟨_, li, sl, fi, bh, bf, b_next, G, fin _ (b_next j) ⟨fun z => absurd k z, fun _ => hdu⟩ _ rfl (fun i _ => rfl), fun post P => ?_, fun post P => ?_⟩
    · unfold wX_come_111 wX_come_156
      rw [cj]
      exact ⟨hin, br_f (by rw [k]; decide) ⟨hin, br_f (by rw [k]; decide) ⟨hin, br_t k (KS _ (K _ P))⟩⟩⟩
    · unfold wY_fall_94 wY_fall_110 wY_fall_135
      rw [cj, hk]
      exact ⟨hin, br_f (by rw [k]; decide) ⟨hin, br_f (by rw [k]; decide) ⟨hin, br_f (by rw [k]; decide) P⟩⟩⟩
end
end
section
/-! a job is due: come and fall -/
def zk_full (q : Nat) (ov ac : Int32) : Bool := decide (q = 3) || (decide (ov = 0) && (!decide (ac = 0) || decide (0 < q)))
theorem zk_full_f {q : Nat} {ov ac : Int32} (h : zk_full q ov ac = false) : q ≠ 3 := by
  intro e
  unfold zk_full at h
  rw [decide_eq_true e, Bool.true_or] at h
  cases h
section
variable {f_workers f_now f_stopped f_duration f_priority f_overlap f_misfire f_waitingJobs f_logged : Int32} {a_there a_kind a_period a_lasts a_rank a_overlaps a_makesUp a_minutes a_hours a_days a_months a_weekdays a_due a_started a_lost a_missed a_sinceStop a_request a_waiting a_slot : Nat → Int32} {a_filled : Nat → Int64} {a_behind a_before a_lies a_runs a_ends a_active a_logJob a_logAt a_logDue : Nat → Int32}
theorem zx_comeA {post : SX → Prop} {j q : Nat} {F : Bool} (hj : j < 12) {li sl : Nat → Int32} {fi : Nat → Int64} {bh bf : Nat → Int32} (KU : ∀ post : SX → Prop, post (f_workers, f_now, f_stopped, f_duration, f_priority, f_overlap, f_misfire, f_waitingJobs, f_logged, a_there, a_kind, a_period, a_lasts, a_rank, a_overlaps, a_makesUp, a_minutes, a_hours, a_days, a_months, a_weekdays, a_due, a_started, a_lost, a_missed, a_sinceStop, a_request, a_waiting, sl, fi, bh, bf, li, a_runs, a_ends, a_active, a_logJob, a_logAt, a_logDue) → wpX_unfile post (f_workers, f_now, f_stopped, f_duration, f_priority, f_overlap, f_misfire, f_waitingJobs, f_logged, a_there, a_kind, a_period, a_lasts, a_rank, a_overlaps, a_makesUp, a_minutes, a_hours, a_days, a_months, a_weekdays, a_due, a_started, a_lost, a_missed, a_sinceStop, a_request, a_waiting, a_slot, a_filled, a_behind, a_before, a_lies, a_runs, a_ends, a_active, a_logJob, a_logAt, a_logDue) (nI j)) (hq : q ≤ 3) (ew : a_waiting j = nI q)
    (hF : F = zk_full q (a_overlaps j) (a_active j)) (K : wX_come_54 post (nI j) (zk_bi F) f_workers f_now f_stopped f_duration f_priority f_overlap f_misfire f_waitingJobs f_logged a_there a_kind a_period a_lasts a_rank a_overlaps a_makesUp a_minutes a_hours a_days a_months a_weekdays (upd a_due j (-1)) a_started a_lost a_missed a_sinceStop a_request a_waiting sl fi bh bf li a_runs a_ends a_active a_logJob a_logAt a_logDue) : wpX_come post (f_workers, f_now, f_stopped, f_duration, f_priority, f_overlap, f_misfire, f_waitingJobs, f_logged, a_there, a_kind, a_period, a_lasts, a_rank, a_overlaps, a_makesUp, a_minutes, a_hours, a_days, a_months, a_weekdays, a_due, a_started, a_lost, a_missed, a_sinceStop, a_request, a_waiting, a_slot, a_filled, a_behind, a_before, a_lies, a_runs, a_ends, a_active, a_logJob, a_logAt, a_logDue) (nI j) := by
  have hin : vp_in (nI j) 12 := vp_in_nI hj (by omega)
  unfold wpX_come
  dsimp only
  refine KU _ ?_
  dsimp only
  rw [show (nI j).toNatClampNeg = j from nI_clamp (by omega), ew]
  have k49 : F = true → wX_come_49 post (nI j) f_workers f_now f_stopped f_duration f_priority f_overlap f_misfire f_waitingJobs f_logged a_there a_kind a_period a_lasts a_rank a_overlaps a_makesUp a_minutes a_hours a_days a_months a_weekdays (upd a_due j (-1)) a_started a_lost a_missed a_sinceStop a_request a_waiting sl fi bh bf li a_runs a_ends a_active a_logJob a_logAt a_logDue := fun e => by rw [e] at K; exact K
  have k53 : F = false → wX_come_53 post (nI j) f_workers f_now f_stopped f_duration f_priority f_overlap f_misfire f_waitingJobs f_logged a_there a_kind a_period a_lasts a_rank a_overlaps a_makesUp a_minutes a_hours a_days a_months a_weekdays (upd a_due j (-1)) a_started a_lost a_missed a_sinceStop a_request a_waiting sl fi bh bf li a_runs a_ends a_active a_logJob a_logAt a_logDue := fun e => by rw [e] at K; exact K
  unfold zk_full at hF
  refine ⟨hin, nm_e ⟨hin, pk_eq q 3 (fun h1 => k49 (by rw [hF, decide_eq_true h1]; rfl)) (fun h1 => ⟨hin, br_c (fun h2 => ⟨hin, br_c (fun h3 => ⟨hin, pk_le q 0 (fun h4 => k53 ?_) (fun h4 => k49 ?_)⟩) (fun h3 => k49 ?_)⟩) (fun h2 => k53 ?_)⟩)⟩⟩
  · rw [hF, decide_eq_false h1, decide_eq_true h2, decide_eq_true h3, decide_eq_false (by omega)]; rfl
  · rw [hF, decide_eq_false h1, decide_eq_true h2, decide_eq_true h3, decide_eq_true (by omega)]; rfl
  · rw [hF, decide_eq_false h1, decide_eq_true h2, decide_eq_false h3]; simp
  · rw [hF, decide_eq_false h1, decide_eq_false h2]; rfl
end
section
variable {f_workers f_now f_stopped f_duration f_priority f_overlap f_misfire f_waitingJobs f_logged : Int32} {a_there a_kind a_period a_lasts a_rank a_overlaps a_makesUp a_minutes a_hours a_days a_months a_weekdays a_due a_started a_lost a_missed a_sinceStop a_request a_waiting a_slot : Nat → Int32} {a_filled : Nat → Int64} {a_behind a_before a_lies a_runs a_ends a_active a_logJob a_logAt a_logDue : Nat → Int32} {g_asked : Int32} {b_kind b_next b_period b_sets b_missedNow b_waits b_doing b_history b_fields : Nat → Int32}
theorem zy_fallA {post : SY → Prop} {j q : Nat} {F : Bool} (hj : j < 12) (hq : q ≤ 3) (ew : b_waits j = nI q) (KR : ∀ post : Int32 → Prop, post (a_active j) → wpY_isRunning post (f_workers, f_now, f_logged, f_stopped, f_duration, f_priority, f_overlap, f_misfire, g_asked, b_kind, a_lasts, a_rank, a_overlaps, a_makesUp, b_next, b_period, b_sets, a_started, a_lost, a_missed, b_missedNow, b_waits, a_request, b_doing, a_ends, b_history, b_fields) (nI j))
    (hF : F = zk_full q (a_overlaps j) (a_active j)) (K : wY_fall_41 post (nI j) (zk_bi F) f_workers f_now f_logged f_stopped f_duration f_priority f_overlap f_misfire g_asked b_kind a_lasts a_rank a_overlaps a_makesUp b_next b_period b_sets a_started a_lost a_missed b_missedNow b_waits a_request b_doing a_ends b_history b_fields) : wpY_fall post (f_workers, f_now, f_logged, f_stopped, f_duration, f_priority, f_overlap, f_misfire, g_asked, b_kind, a_lasts, a_rank, a_overlaps, a_makesUp, b_next, b_period, b_sets, a_started, a_lost, a_missed, b_missedNow, b_waits, a_request, b_doing, a_ends, b_history, b_fields) (nI j) := by
  have hin : vp_in (nI j) 12 := vp_in_nI hj (by omega)
  unfold wpY_fall
  dsimp only
  rw [show (nI j).toNatClampNeg = j from nI_clamp (by omega), ew]
  have k36 : F = true → wY_fall_36 post (nI j) f_workers f_now f_logged f_stopped f_duration f_priority f_overlap f_misfire g_asked b_kind a_lasts a_rank a_overlaps a_makesUp b_next b_period b_sets a_started a_lost a_missed b_missedNow b_waits a_request b_doing a_ends b_history b_fields := fun e => by rw [e] at K; exact K
  have k40 : F = false → wY_fall_40 post (nI j) f_workers f_now f_logged f_stopped f_duration f_priority f_overlap f_misfire g_asked b_kind a_lasts a_rank a_overlaps a_makesUp b_next b_period b_sets a_started a_lost a_missed b_missedNow b_waits a_request b_doing a_ends b_history b_fields := fun e => by rw [e] at K; exact K
  unfold zk_full at hF
  refine ⟨hin, pk_eq q 3 (fun h1 => k36 (by rw [hF, decide_eq_true h1]; rfl)) (fun h1 => ⟨hin, br_c (fun h2 => ⟨hin, pk_lt 0 q (fun h4 => k36 ?_) (fun h4 => KR _ (br_c (fun h3 => k40 ?_) (fun h3 => k36 ?_)))⟩) (fun h2 => k40 ?_)⟩)⟩
  · rw [hF, decide_eq_false h1, decide_eq_true h2, decide_eq_true h4]; simp
  · rw [hF, decide_eq_false h1, decide_eq_true h2, decide_eq_true h3, decide_eq_false (by omega)]; rfl
  · rw [hF, decide_eq_false h1, decide_eq_true h2, decide_eq_false h3]; simp
  · rw [hF, decide_eq_false h1, decide_eq_false h2]; rfl
end
section
variable (f_workers f_now f_stopped f_duration f_priority f_overlap f_misfire f_waitingJobs f_logged : Int32) (a_there a_kind a_period a_lasts a_rank a_overlaps a_makesUp a_minutes a_hours a_days a_months a_weekdays a_due a_started a_lost a_missed a_sinceStop a_request a_waiting a_slot : Nat → Int32) (a_filled : Nat → Int64) (a_behind a_before a_lies a_runs a_ends a_active a_logJob a_logAt a_logDue : Nat → Int32) (g_asked : Int32) (b_kind b_next b_period b_sets b_missedNow b_waits b_doing b_history b_fields : Nat → Int32)
theorem zr_count {j : Nat} (F : Bool) (hj : j < 12) (ht : a_there j = 1) (gw : zg_wait a_there a_waiting b_waits f_waitingJobs g_asked) (gt : zg_stp f_stopped a_sinceStop b_missedNow) (hF : F = false → b_waits j ≠ 3) :
    ∃ (wj : Int32) (lo mi ss rq wx : Nat → Int32) (ak : Int32) (mn wy : Nat → Int32), zg_wait a_there wx wy wj ak ∧ zg_stp f_stopped ss mn ∧
      (∀ post : SX → Prop, wX_come_111 post (nI j) (zk_bi F) f_workers f_now f_stopped f_duration f_priority f_overlap f_misfire wj f_logged a_there a_kind a_period a_lasts a_rank a_overlaps a_makesUp a_minutes a_hours a_days a_months a_weekdays a_due a_started lo mi ss rq wx a_slot a_filled a_behind a_before a_lies a_runs a_ends a_active a_logJob a_logAt a_logDue → wX_come_54 post (nI j) (zk_bi F) f_workers f_now f_stopped f_duration f_priority f_overlap f_misfire f_waitingJobs f_logged a_there a_kind a_period a_lasts a_rank a_overlaps a_makesUp a_minutes a_hours a_days a_months a_weekdays a_due a_started a_lost a_missed a_sinceStop a_request a_waiting a_slot a_filled a_behind a_before a_lies a_runs a_ends a_active a_logJob a_logAt a_logDue) ∧
      (∀ post : SY → Prop, wY_fall_94 post (nI j) (zk_bi F) f_workers f_now f_logged f_stopped f_duration f_priority f_overlap f_misfire ak b_kind a_lasts a_rank a_overlaps a_makesUp b_next b_period b_sets a_started lo mi mn wy rq b_doing a_ends b_history b_fields → wY_fall_41 post (nI j) (zk_bi F) f_workers f_now f_logged f_stopped f_duration f_priority f_overlap f_misfire g_asked b_kind a_lasts a_rank a_overlaps a_makesUp b_next b_period b_sets a_started a_lost a_missed b_missedNow b_waits a_request b_doing a_ends b_history b_fields) := by
  have hin : vp_in (nI j) 12 := vp_in_nI hj (by omega)
  have cj : (nI j).toNatClampNeg = j := nI_clamp (by omega)
  by_cases hs : f_stopped = 0
  · cases F
    · obtain ⟨q, q1, q2, q3, q4, q5⟩ := gw.2 j hj
      have hq : q ≤ 2 := by
        have : q ≠ 3 := fun e => hF rfl (by rw [q2, e]; rfl)
        omega
      refine ⟨_, a_lost, a_missed, a_sinceStop, upd a_request (3 * j + q) f_now, _, _, b_missedNow, _, zg_wait_inc gw hj ht hq q2, gt, fun post P => ?_, fun post P => ?_⟩
      · unfold wX_come_54
        exact br_t hs (br_t rfl (zx_ask hj hq (q3 ht) P))
      · unfold wY_fall_41
        exact br_t hs (br_t rfl (zy_ask hj hq q2 P))
    · refine ⟨f_waitingJobs, upd a_lost j (a_lost j + 1), a_missed, a_sinceStop, a_request, a_waiting, g_asked, b_missedNow, b_waits, gw, gt, fun post P => ?_, fun post P => ?_⟩
      · unfold wX_come_54
        rw [cj]
        exact br_t hs (br_f zk_01 ⟨hin, hin, nm_e P⟩)
      · unfold wY_fall_41
        rw [cj]
        exact br_t hs (br_f zk_01 ⟨hin, hin, nm_e P⟩)
  · have hs1 : f_stopped = 1 := gt.1.resolve_left hs
    refine ⟨f_waitingJobs, a_lost, upd a_missed j (a_missed j + 1), upd a_sinceStop j (a_sinceStop j + 1), a_request, a_waiting, g_asked, upd b_missedNow j (b_missedNow j + 1), b_waits, gw, ⟨gt.1, fun _ i hi => ?_⟩, fun post P => ?_, fun post P => ?_⟩
    · have e := gt.2 hs1
      by_cases ei : i = j
      · subst ei; rw [pk_us, pk_us, e i hi]
      · rw [pk_un ei, pk_un ei]; exact e i hi
    · unfold wX_come_54
      rw [cj]
      exact br_f hs ⟨hin, hin, nm_e ⟨hin, hin, nm_e P⟩⟩
    · unfold wY_fall_41
      rw [cj]
      exact br_f hs ⟨hin, hin, nm_e ⟨hin, hin, nm_e P⟩⟩
theorem zr_fall {W j T : Nat} {ε τ τ' : Nat → Nat} (hW : W ≤ 3) (eW : f_workers = nI W) (hj : j < 12) (hT : T ≤ 1000000) (eT : f_now = nI T) (ht : a_there j = 1) (hdue : a_due j = nI T) (e1 : τ' j = T) (e2 : ∀ i, i ≠ j → τ' i = τ i)
    (gj : zg_job a_there a_kind b_kind) (gp : zg_per a_there a_kind a_period b_period) (gs : zg_set a_there a_kind a_minutes a_hours a_days a_months a_weekdays b_sets) (gw : zg_wait a_there a_waiting b_waits f_waitingJobs g_asked) (gr : zg_run W ε a_there a_ends a_runs b_doing a_active) (gt : zg_stp f_stopped a_sinceStop b_missedNow)
    (gd : zg_due τ T a_there a_kind a_period a_minutes a_hours a_days a_months a_weekdays a_due b_next) (gh : zg_whl T a_there a_due a_lies a_slot a_filled a_behind a_before) :
    ∃ (wj : Int32) (du lo mi ss rq wx sl : Nat → Int32) (fi : Nat → Int64) (bh bf li : Nat → Int32) (ak : Int32) (nx mn wy : Nat → Int32), zg_wait a_there wx wy wj ak ∧ zg_stp f_stopped ss mn ∧ zg_due τ' T a_there a_kind a_period a_minutes a_hours a_days a_months a_weekdays du nx ∧ zg_whl T a_there du li sl fi bh bf ∧ (∀ i, i ≠ j → du i = a_due i) ∧
      (∀ post : SX → Prop, post (f_workers, f_now, f_stopped, f_duration, f_priority, f_overlap, f_misfire, wj, f_logged, a_there, a_kind, a_period, a_lasts, a_rank, a_overlaps, a_makesUp, a_minutes, a_hours, a_days, a_months, a_weekdays, du, a_started, lo, mi, ss, rq, wx, sl, fi, bh, bf, li, a_runs, a_ends, a_active, a_logJob, a_logAt, a_logDue) → wpX_come post (f_workers, f_now, f_stopped, f_duration, f_priority, f_overlap, f_misfire, f_waitingJobs, f_logged, a_there, a_kind, a_period, a_lasts, a_rank, a_overlaps, a_makesUp, a_minutes, a_hours, a_days, a_months, a_weekdays, a_due, a_started, a_lost, a_missed, a_sinceStop, a_request, a_waiting, a_slot, a_filled, a_behind, a_before, a_lies, a_runs, a_ends, a_active, a_logJob, a_logAt, a_logDue) (nI j)) ∧
      (∀ post : SY → Prop, post (f_workers, f_now, f_logged, f_stopped, f_duration, f_priority, f_overlap, f_misfire, ak, b_kind, a_lasts, a_rank, a_overlaps, a_makesUp, nx, b_period, b_sets, a_started, lo, mi, mn, wy, rq, b_doing, a_ends, b_history, b_fields) → wpY_fall post (f_workers, f_now, f_logged, f_stopped, f_duration, f_priority, f_overlap, f_misfire, g_asked, b_kind, a_lasts, a_rank, a_overlaps, a_makesUp, b_next, b_period, b_sets, a_started, a_lost, a_missed, b_missedNow, b_waits, a_request, b_doing, a_ends, b_history, b_fields) (nI j)) := by
  obtain ⟨⟨C, WC⟩, gh2⟩ := gh
  have hat := zk_at_lt T T
  have hli : a_lies j = nI (zk_at T T) := (gh2 j hj).1 ht T hT hdue
  obtain ⟨l1, l2, hC⟩ := List.append_of_mem (zw_in WC hj hat hli)
  obtain ⟨sl1, fi1, bh1, bf1, W1, KU⟩ := zx_unfile f_workers f_now f_stopped f_duration f_priority f_overlap f_misfire f_waitingJobs f_logged a_there a_kind a_period a_lasts a_rank a_overlaps a_makesUp a_minutes a_hours a_days a_months a_weekdays a_due a_started a_lost a_missed a_sinceStop a_request a_waiting a_slot a_filled a_behind a_before a_lies a_runs a_ends a_active a_logJob a_logAt a_logDue hj hat hli WC hC
  obtain ⟨q, q1, q2, q3, q4, q5⟩ := gw.2 j hj
  have hFq : zk_full q (a_overlaps j) (a_active j) = false → b_waits j ≠ 3 := fun h e => by
    have h3 := zk_full_f h
    rw [q2] at e
    exact h3 ((nI_eq (b := 3) (by omega) (by omega)).mp e)
  obtain ⟨wj, lo, mi, ss, rq, wx, ak, mn, wy, c1, c2, c3, c4⟩ := zr_count f_workers f_now f_stopped f_duration f_priority f_overlap f_misfire f_waitingJobs f_logged a_there a_kind a_period a_lasts a_rank a_overlaps a_makesUp a_minutes a_hours a_days a_months a_weekdays (upd a_due j (-1)) a_started a_lost a_missed a_sinceStop a_request a_waiting sl1 fi1 bh1 bf1 (upd a_lies j (-1)) a_runs a_ends a_active a_logJob a_logAt a_logDue g_asked b_kind b_next b_period b_sets b_missedNow b_waits b_doing b_history b_fields (zk_full q (a_overlaps j) (a_active j)) hj ht gw gt hFq
  have hn : a_kind j = 1 → b_next j = nI T := fun k => by
    rcases (gd j hj ht).1 (by rw [k]; decide) with ⟨d, d1, d2, d3, d4⟩ | ⟨d1, -⟩
    · rw [d2, ← d1]; exact hdue
    · rw [hdue] at d1; exact absurd d1 (zk_ne (by omega))
  obtain ⟨v, li, sl, fi, bh, bf, nx, n1, n2, n3, n4⟩ := zr_next (τ := τ) (τ' := τ') f_workers f_now f_stopped f_duration f_priority f_overlap f_misfire wj f_logged a_there a_kind a_period a_lasts a_rank a_overlaps a_makesUp a_minutes a_hours a_days a_months a_weekdays (upd a_due j (-1)) a_started lo mi ss rq wx sl1 fi1 bh1 bf1 (upd a_lies j (-1)) a_runs a_ends a_active a_logJob a_logAt a_logDue ak b_kind b_next b_period b_sets mn wy b_doing b_history b_fields (zk_full q (a_overlaps j) (a_active j)) hj hT eT ht e1 e2 gj gp gs gt.1 hn ⟨_, W1⟩ pk_us
    (fun i hi e => by rw [pk_un e, pk_un e]; exact gh2 i hi) (fun i hi e hti => by rw [pk_un e]; exact gd i hi hti)
  exact ⟨wj, upd (upd a_due j (-1)) j v, lo, mi, ss, rq, wx, sl, fi, bh, bf, li, ak, nx, mn, wy, c1, c2, n2, n1, fun i e => (pk_un e).trans (pk_un e), fun post P => zx_comeA hj KU q1 (q3 ht) rfl (c3 post (n3 post P)),
    fun post P => zy_fallA (a_active := a_active) hj q1 q2 (fun post P => zy_isRun hW eW hj ht gr P) rfl (c4 post (n4 post P))⟩
end
end
section
/-! an event: what is due; the runs that end -/
theorem zk_dueT {P T M : Nat} {kx px mi ho da mo wd du nx : Int32} (h : zd_1 P M kx px mi ho da mo wd du nx) (eT : T = P + 1) (hT : T ≤ 1000000) : (kx ≠ 3 → (nx = nI T ↔ du = nI T)) ∧ (kx = 3 → (zk_fj mi ho da mo wd T = true ↔ du = nI T)) := by
  refine ⟨fun k => ?_, fun k => ?_⟩
  · rcases h.1 k with ⟨d, h1, h2, h3, h4⟩ | ⟨h1, h2⟩
    · rw [h1, h2]
    · rw [h1]
      refine ⟨fun z => ?_, fun z => absurd z.symm (zk_ne (by omega))⟩
      rcases h2 with h2 | ⟨d, q, h2, h3, h4, h5, h6, h7⟩
      · rw [h2] at z; exact absurd z.symm (zk_ne (by omega))
      · rw [h2] at z
        have := (nI_eq (by omega) (by omega)).mp z
        omega
  · rcases h.2 k with ⟨h1, h2⟩ | ⟨d, h1, h2, h3, h4, h5⟩
    · rw [h1, h2 T (by omega) hT]
      exact ⟨(fun z => by cases z), fun z => absurd z.symm (zk_ne (by omega))⟩
    · rw [h1, nI_eq (by omega) (by omega)]
      refine ⟨fun z => ?_, fun z => by rw [← z]; exact h4⟩
      rcases Nat.lt_or_ge T d with y | y
      · rw [h5 T (by omega) y] at z; cases z
      · omega
theorem zd_up {P T M : Nat} {kx px mi ho da mo wd du nx : Int32} (h : zd_1 P M kx px mi ho da mo wd du nx) (eT : T = P + 1) (hne : du ≠ nI T) : zd_1 T M kx px mi ho da mo wd du nx := by
  refine ⟨fun k => ?_, fun k => ?_⟩
  · rcases h.1 k with ⟨d, h1, h2, h3, h4⟩ | h1
    · have : d ≠ T := fun e => hne (by rw [h1, e])
      exact Or.inl ⟨d, h1, h2, by omega, h4⟩
    · exact Or.inr h1
  · rcases h.2 k with ⟨h1, h2⟩ | ⟨d, h1, h2, h3, h4, h5⟩
    · exact Or.inl ⟨h1, fun s z => h2 s (by omega)⟩
    · have : d ≠ T := fun e => hne (by rw [h1, e])
      exact Or.inr ⟨d, h1, by omega, h3, h4, fun s z => h5 s (by omega)⟩
theorem zd_M {t M M' : Nat} {kx px mi ho da mo wd du nx : Int32} (hM : M ≤ M') (h : zd_1 t M kx px mi ho da mo wd du nx) : zd_1 t M' kx px mi ho da mo wd du nx := by
  refine ⟨fun k => ?_, h.2⟩
  rcases h.1 k with h1 | ⟨h1, h2 | ⟨d, q, h2, h3, h4, h5, h6, h7⟩⟩
  · exact Or.inl h1
  · exact Or.inr ⟨h1, Or.inl h2⟩
  · exact Or.inr ⟨h1, Or.inr ⟨d, q, h2, h3, h4, h5, by omega, h7⟩⟩
theorem zk_du_per2 {P T q : Nat} (hP : P ≤ T) (hT : T ≤ 1000000) (h1 : 1 ≤ q) (h2 : q ≤ 2000) : zk_du0 P T (nI q) (zk_pl (nI (T + q))) (nI (T + q)) := by
  rcases zk_du_per hT h1 h2 with ⟨d, d1, d2, d3, d4⟩ | h
  · exact Or.inl ⟨d, d1, d2, by omega, d4⟩
  · exact Or.inr h
theorem zg_run_eps {W : Nat} {ε ε' : Nat → Nat} {th en rn dn ac : Nat → Int32} (g : zg_run W ε th en rn dn ac) (h : ∀ x, x < W → ∀ e, e ≤ 1000200 → en x = nI e → ε x < e → ε' x < e) : zg_run W ε' th en rn dn ac := by
  refine ⟨fun x hx => ?_, g.2⟩
  rcases g.1 x hx with z | ⟨⟨e, e1, e2, e3⟩, z⟩
  · exact Or.inl z
  · exact Or.inr ⟨⟨e, e1, h x hx e e3 e1 e2, e3⟩, z⟩
theorem zg_run_no {W w : Nat} {ε : Nat → Nat} {th en rn dn ac : Nat → Int32} (g : zg_run W ε th en rn dn ac) (hr : rn w = -1) : zg_run W ε th (upd en w 0) rn dn ac := by
  have hn : ∀ x, upd en w 0 x ≠ 0 → x ≠ w ∧ en x ≠ 0 := fun x hx => by
    by_cases e : x = w
    · rw [e, pk_us] at hx; exact absurd rfl hx
    · rw [pk_un e] at hx; exact ⟨e, hx⟩
  refine ⟨fun x hx => ?_, fun x y i hx hy hi nx ny rx ry => g.2.1 x y i hx hy hi (hn x nx).2 (hn y ny).2 rx ry, fun i hi hti => ?_⟩
  · by_cases e : x = w
    · subst e; exact Or.inl pk_us
    · rw [pk_un e]; exact g.1 x hx
  · rcases g.2.2 i hi hti with z | ⟨z, x, x1, x2, x3⟩
    · exact Or.inl z
    · have hxw : x ≠ w := fun e => by rw [e, hr] at x3; exact zk_ne (by omega) x3.symm
      exact Or.inr ⟨z, x, x1, by rw [pk_un hxw]; exact x2, x3⟩
theorem zg_run_end {W w j : Nat} {ε : Nat → Nat} {th en rn dn ac : Nat → Int32} (g : zg_run W ε th en rn dn ac) (hw : w < W) (hj : j < 12) (h0 : en w ≠ 0) (hr : rn w = nI j) : zg_run W ε th (upd en w 0) rn dn (upd ac j 0) := by
  have hn : ∀ x, upd en w 0 x ≠ 0 → x ≠ w ∧ en x ≠ 0 := fun x hx => by
    by_cases e : x = w
    · rw [e, pk_us] at hx; exact absurd rfl hx
    · rw [pk_un e] at hx; exact ⟨e, hx⟩
  refine ⟨fun x hx => ?_, fun x y i hx hy hi nx ny rx ry => g.2.1 x y i hx hy hi (hn x nx).2 (hn y ny).2 rx ry, fun i hi hti => ?_⟩
  · by_cases e : x = w
    · subst e; exact Or.inl pk_us
    · rw [pk_un e]
      rcases g.1 x hx with z | ⟨⟨e', e1, e2, e3⟩, z2, z3⟩
      · exact Or.inl z
      · refine Or.inr ⟨⟨e', e1, e2, e3⟩, z2, ?_⟩
        rcases z3 with z3 | ⟨i, i1, i2, i3, i4⟩
        · exact Or.inl z3
        · refine Or.inr ⟨i, i1, i2, i3, ?_⟩
          have hij : i ≠ j := fun y => e (g.2.1 x w j hx hw hj (by rw [e1]; exact nI_ne0 (by omega) (by omega)) h0 (by rw [← y]; exact i2) hr)
          rw [pk_un hij]; exact i4
  · by_cases e : i = j
    · subst e; exact Or.inl pk_us
    · rw [pk_un e]
      rcases g.2.2 i hi hti with z | ⟨z, x, x1, x2, x3⟩
      · exact Or.inl z
      · have hxw : x ≠ w := fun y => by rw [y, hr] at x3; exact e (zw_inj hj hi x3).symm
        exact Or.inr ⟨z, x, x1, by rw [pk_un hxw]; exact x2, x3⟩
section
variable (f_workers f_now f_stopped f_duration f_priority f_overlap f_misfire f_waitingJobs f_logged : Int32) (a_there a_kind a_period a_lasts a_rank a_overlaps a_makesUp a_minutes a_hours a_days a_months a_weekdays a_due a_started a_lost a_missed a_sinceStop a_request a_waiting a_slot : Nat → Int32) (a_filled : Nat → Int64) (a_behind a_before a_lies a_runs a_ends a_active a_logJob a_logAt a_logDue : Nat → Int32) (g_asked : Int32) (b_kind b_next b_period b_sets b_missedNow b_waits b_doing b_history b_fields : Nat → Int32)
/-- the runs that end now -/
theorem zr_finish {W P T : Nat} (hW : W ≤ 3) (eW : f_workers = nI W) (hP : T = P + 1) (hT : T ≤ 1000000) (eT : f_now = nI T) (gj : zg_job a_there a_kind b_kind) (gp : zg_per a_there a_kind a_period b_period) :
    ∀ (n w : Nat) (a_due a_slot : Nat → Int32) (a_filled : Nat → Int64) (a_behind a_before a_lies a_ends a_active b_next : Nat → Int32), w + n = W → zg_run W (fun x => if x < w then T else P) a_there a_ends a_runs b_doing a_active →
      zg_due (fun _ => P) T a_there a_kind a_period a_minutes a_hours a_days a_months a_weekdays a_due b_next → zg_whl T a_there a_due a_lies a_slot a_filled a_behind a_before →
      ∃ (du sl : Nat → Int32) (fi : Nat → Int64) (bh bf li en ac nx : Nat → Int32), zg_run W (fun x => if x < W then T else P) a_there en a_runs b_doing ac ∧ zg_due (fun _ => P) T a_there a_kind a_period a_minutes a_hours a_days a_months a_weekdays du nx ∧ zg_whl T a_there du li sl fi bh bf ∧
        (∀ post : SX → Prop, post (f_workers, f_now, f_stopped, f_duration, f_priority, f_overlap, f_misfire, f_waitingJobs, f_logged, a_there, a_kind, a_period, a_lasts, a_rank, a_overlaps, a_makesUp, a_minutes, a_hours, a_days, a_months, a_weekdays, du, a_started, a_lost, a_missed, a_sinceStop, a_request, a_waiting, sl, fi, bh, bf, li, a_runs, en, ac, a_logJob, a_logAt, a_logDue) → wX_finish_2 post (n + 1) (nI w) f_workers f_now f_stopped f_duration f_priority f_overlap f_misfire f_waitingJobs f_logged a_there a_kind a_period a_lasts a_rank a_overlaps a_makesUp a_minutes a_hours a_days a_months a_weekdays a_due a_started a_lost a_missed a_sinceStop a_request a_waiting a_slot a_filled a_behind a_before a_lies a_runs a_ends a_active a_logJob a_logAt a_logDue) ∧
        (∀ post : SY → Prop, wY_tick_12 post f_workers f_now f_logged f_stopped f_duration f_priority f_overlap f_misfire g_asked 1 (nI W) b_kind a_lasts a_rank a_overlaps a_makesUp nx b_period b_sets a_started a_lost a_missed b_missedNow b_waits a_request b_doing en b_history b_fields → wY_tick_12 post f_workers f_now f_logged f_stopped f_duration f_priority f_overlap f_misfire g_asked (n + 1) (nI w) b_kind a_lasts a_rank a_overlaps a_makesUp b_next b_period b_sets a_started a_lost a_missed b_missedNow b_waits a_request b_doing a_ends b_history b_fields) := by
  intro n
  induction n with
  | zero =>
    intro w a_due a_slot a_filled a_behind a_before a_lies a_ends a_active b_next hw gr gd gh
    have e : w = W := by omega
    subst e
    exact ⟨a_due, a_slot, a_filled, a_behind, a_before, a_lies, a_ends, a_active, b_next, gr, gd, gh, fun post K => br_t (by rw [eW]; exact nI_le (Nat.le_refl _) (by omega)) K, fun post K => K⟩
  | succ n ih =>
    intro w a_due a_slot a_filled a_behind a_before a_lies a_ends a_active b_next hw gr gd gh
    have hin : vp_in (nI w) 3 := vp_in_nI (by omega) (by omega)
    have cw : (nI w).toNatClampNeg = w := nI_clamp (by omega)
    have ne : ¬ f_workers ≤ nI w := by rw [eW]; exact nI_ge (by omega) (by omega)
    have hww : w < W := by omega
    by_cases hend : a_ends w = nI T
    · -- the run of w ends
      have hnz : a_ends w ≠ 0 := by rw [hend]; exact nI_ne0 (by omega) (by omega)
      obtain ⟨hrd, hrj⟩ : a_runs w = b_doing w ∧ (a_runs w = -1 ∨ ∃ j, j < 12 ∧ a_runs w = nI j ∧ a_there j = 1 ∧ a_active j = 1) := by
        rcases gr.1 w hww with z | ⟨-, z2, z3⟩
        · exact absurd z hnz
        · exact ⟨z2, z3⟩
      have eps : ∀ {en ac : Nat → Int32}, en w = 0 → zg_run W (fun x => if x < w then T else P) a_there en a_runs b_doing ac → zg_run W (fun x => if x < w + 1 then T else P) a_there en a_runs b_doing ac := by
        intro en ac h0 g
        refine zg_run_eps g (fun x hx e he1 he2 he3 => ?_)
        by_cases ex : x = w
        · rw [ex, h0] at he2
          exact absurd he2.symm (nI_ne0 (by omega) (by omega))
        · by_cases z : x < w
          · rw [if_pos z] at he3; rw [if_pos (by omega)]; exact he3
          · rw [if_neg z] at he3; rw [if_neg (by omega)]; exact he3
      rcases hrj with hrj | ⟨j, hj, hrj, ht, hac⟩
      · obtain ⟨du, sl, fi, bh, bf, li, en, ac, nx, k1, k2, k3, k4, k5⟩ := ih (w + 1) a_due a_slot a_filled a_behind a_before a_lies (upd a_ends w 0) a_active b_next (by omega) (eps pk_us (zg_run_no gr hrj)) gd gh
        refine ⟨du, sl, fi, bh, bf, li, en, ac, nx, k1, k2, k3, fun post K => ?_, fun post K => ?_⟩
        · refine br_f ne ?_
          show vp_in (nI w) 3 ∧ _
          rw [cw]
          exact ⟨hin, br_t (by rw [eT]; exact hend) ⟨hin, nm_e ⟨hin, nm_r hrj (br_f zk_nge (nm_r (nI_1 w) (k4 post K)))⟩⟩⟩
        · refine br_f ne ?_
          show vp_in (nI w) 3 ∧ _
          rw [cw]
          exact ⟨hin, br_t (by rw [eT]; exact hend) ⟨hin, nm_e ⟨hin, nm_r (hrd.symm.trans hrj) (br_t zk_neg (nm_r (nI_1 w) (k5 post K)))⟩⟩⟩
      · have hij : vp_in (nI j) 12 := vp_in_nI hj (by omega)
        have cj : (nI j).toNatClampNeg = j := nI_clamp (by omega)
        obtain ⟨hk, hk4⟩ : b_kind j = a_kind j ∧ (a_kind j = 0 ∨ a_kind j = 1 ∨ a_kind j = 2 ∨ a_kind j = 3) := by
          rcases gj j hj with z | z
          · rw [ht] at z; exact absurd z.1 zk_01
          · exact z.2
        have gr' := eps pk_us (zg_run_end gr hww hj hnz hrj)
        by_cases k2 : a_kind j = 2
        · obtain ⟨q, q1, q2, q3, q4⟩ := gp j hj ht (Or.inr k2)
          have h3 : a_kind j ≠ 3 := by rw [k2]; decide
          rcases (gd j hj ht).1 h3 with ⟨d, d1, d2, d3, d4⟩ | ⟨d1, d2⟩
          · -- its next time is known
            obtain ⟨du, sl, fi, bh, bf, li, en, ac, nx, k1, k2', k3, k4, k5⟩ := ih (w + 1) a_due a_slot a_filled a_behind a_before a_lies (upd a_ends w 0) (upd a_active j 0) b_next (by omega) gr' gd gh
            refine ⟨du, sl, fi, bh, bf, li, en, ac, nx, k1, k2', k3, fun post K => ?_, fun post K => ?_⟩
            · refine br_f ne ?_
              show vp_in (nI w) 3 ∧ _
              rw [cw]
              refine ⟨hin, br_t (by rw [eT]; exact hend) ⟨hin, nm_e ⟨hin, nm_r hrj (br_t (nI_pos' (by omega)) ?_)⟩⟩⟩
              rw [cj]
              exact ⟨hij, nm_e ⟨hij, br_t k2 ⟨hij, br_t (by rw [d1]; exact nI_pos' (by omega)) (nm_r (nI_1 w) (k4 post K))⟩⟩⟩
            · refine br_f ne ?_
              show vp_in (nI w) 3 ∧ _
              rw [cw]
              refine ⟨hin, br_t (by rw [eT]; exact hend) ⟨hin, nm_e ⟨hin, nm_r (hrd.symm.trans hrj) (br_f (nI_pos (by omega)) ?_)⟩⟩⟩
              rw [cj, hk]
              exact ⟨hij, br_t k2 ⟨hij, br_t (by rw [d2]; exact nI_pos' (by omega)) (nm_r (nI_1 w) (k5 post K))⟩⟩
          · -- the component plans it
            obtain ⟨li', sl', fi', bh', bf', G, KP⟩ := zx_plan f_workers f_now f_stopped f_duration f_priority f_overlap f_misfire f_waitingJobs f_logged a_there a_kind a_period a_lasts a_rank a_overlaps a_makesUp a_minutes a_hours a_days a_months a_weekdays a_due a_started a_lost a_missed a_sinceStop a_request a_waiting a_slot a_filled a_behind a_before a_lies a_runs (upd a_ends w 0) (upd a_active j 0) a_logJob a_logAt a_logDue (x := nI (T + q)) hj hT eT ht gh.1 ((gh.2 j hj).2 (Or.inr d1)) (fun i hi _ => gh.2 i hi) (Or.inr ⟨T + q, rfl, by omega⟩)
            have xw : ∀ (post : SX → Prop) (m : Nat), wX_finish_2 post m (nI (w + 1)) f_workers f_now f_stopped f_duration f_priority f_overlap f_misfire f_waitingJobs f_logged a_there a_kind a_period a_lasts a_rank a_overlaps a_makesUp a_minutes a_hours a_days a_months a_weekdays (upd a_due j (zk_pl (nI (T + q)))) a_started a_lost a_missed a_sinceStop a_request a_waiting sl' fi' bh' bf' li' a_runs (upd a_ends w 0) (upd a_active j 0) a_logJob a_logAt a_logDue → wX_finish_2 post (m + 1) (nI w) f_workers f_now f_stopped f_duration f_priority f_overlap f_misfire f_waitingJobs f_logged a_there a_kind a_period a_lasts a_rank a_overlaps a_makesUp a_minutes a_hours a_days a_months a_weekdays a_due a_started a_lost a_missed a_sinceStop a_request a_waiting a_slot a_filled a_behind a_before a_lies a_runs a_ends a_active a_logJob a_logAt a_logDue := by
              intro post m K
              refine br_f ne ?_
              show vp_in (nI w) 3 ∧ _
              rw [cw]
              refine ⟨hin, br_t (by rw [eT]; exact hend) ⟨hin, nm_e ⟨hin, nm_r hrj (br_t (nI_pos' (by omega)) ?_)⟩⟩⟩
              rw [cj, q3, show f_now + nI q = nI (T + q) by rw [eT, nI_add]]
              exact ⟨hij, nm_e ⟨hij, br_t k2 ⟨hij, br_f (by rw [d1]; exact zk_nge) ⟨hij, KP _ (nm_r (nI_1 w) K)⟩⟩⟩⟩
            rcases d2 with d2 | ⟨d, q', d2, d3, d4, d5, d6, d7⟩
            · obtain ⟨du, sl, fi, bh, bf, li, en, ac, nx, k1, k2', k3, k4, k5⟩ := ih (w + 1) (upd a_due j (zk_pl (nI (T + q)))) sl' fi' bh' bf' li' (upd a_ends w 0) (upd a_active j 0) (upd b_next j (nI (T + q))) (by omega) gr' (fun i hi hti => by
                by_cases e : i = j
                · subst e
                  rw [pk_us, pk_us]
                  exact ⟨fun _ => by rw [q3]; exact zk_du_per2 (show P ≤ T by omega) hT q1 q2, fun z => absurd z h3⟩
                · rw [pk_un e, pk_un e]; exact gd i hi hti) G
              refine ⟨du, sl, fi, bh, bf, li, en, ac, nx, k1, k2', k3, fun post K => xw post _ (k4 post K), fun post K => ?_⟩
              refine br_f ne ?_
              show vp_in (nI w) 3 ∧ _
              rw [cw]
              refine ⟨hin, br_t (by rw [eT]; exact hend) ⟨hin, nm_e ⟨hin, nm_r (hrd.symm.trans hrj) (br_f (nI_pos (by omega)) ?_)⟩⟩⟩
              rw [cj, hk, q4, show f_now + nI q = nI (T + q) by rw [eT, nI_add]]
              exact ⟨hij, br_t k2 ⟨hij, br_f (by rw [d2]; exact zk_nge) ⟨hij, hij, nm_e (nm_r (nI_1 w) (k5 post K))⟩⟩⟩
            · have hqq : q' = q := by
                rw [q3] at d3
                exact ((nI_eq (by omega) (by omega)).mp d3).symm
              have hpl : zk_pl (nI (T + q)) = -1 := zk_pl_out (by omega) (by omega)
              obtain ⟨du, sl, fi, bh, bf, li, en, ac, nx, k1, k2', k3, k4, k5⟩ := ih (w + 1) (upd a_due j (zk_pl (nI (T + q)))) sl' fi' bh' bf' li' (upd a_ends w 0) (upd a_active j 0) b_next (by omega) gr' (fun i hi hti => by
                by_cases e : i = j
                · subst e
                  rw [pk_us, hpl, ← d1]
                  exact gd i hi hti
                · rw [pk_un e]; exact gd i hi hti) G
              refine ⟨du, sl, fi, bh, bf, li, en, ac, nx, k1, k2', k3, fun post K => xw post _ (k4 post K), fun post K => ?_⟩
              refine br_f ne ?_
              show vp_in (nI w) 3 ∧ _
              rw [cw]
              refine ⟨hin, br_t (by rw [eT]; exact hend) ⟨hin, nm_e ⟨hin, nm_r (hrd.symm.trans hrj) (br_f (nI_pos (by omega)) ?_)⟩⟩⟩
              rw [cj, hk]
              exact ⟨hij, br_t k2 ⟨hij, br_t (by rw [d2]; exact nI_pos' (by omega)) (nm_r (nI_1 w) (k5 post K))⟩⟩
        · obtain ⟨du, sl, fi, bh, bf, li, en, ac, nx, k1, k2', k3, k4, k5⟩ := ih (w + 1) a_due a_slot a_filled a_behind a_before a_lies (upd a_ends w 0) (upd a_active j 0) b_next (by omega) gr' gd gh
          refine ⟨du, sl, fi, bh, bf, li, en, ac, nx, k1, k2', k3, fun post K => ?_, fun post K => ?_⟩
          · refine br_f ne ?_
            show vp_in (nI w) 3 ∧ _
            rw [cw]
            refine ⟨hin, br_t (by rw [eT]; exact hend) ⟨hin, nm_e ⟨hin, nm_r hrj (br_t (nI_pos' (by omega)) ?_)⟩⟩⟩
            rw [cj]
            exact ⟨hij, nm_e ⟨hij, br_f k2 (nm_r (nI_1 w) (k4 post K))⟩⟩
          · refine br_f ne ?_
            show vp_in (nI w) 3 ∧ _
            rw [cw]
            refine ⟨hin, br_t (by rw [eT]; exact hend) ⟨hin, nm_e ⟨hin, nm_r (hrd.symm.trans hrj) (br_f (nI_pos (by omega)) ?_)⟩⟩⟩
            rw [cj, hk]
            exact ⟨hij, br_f k2 (nm_r (nI_1 w) (k5 post K))⟩
    · -- it doesn't
      have gr' : zg_run W (fun x => if x < w + 1 then T else P) a_there a_ends a_runs b_doing a_active := by
        refine zg_run_eps gr (fun x hx e he1 he2 he3 => ?_)
        by_cases ex : x = w
        · rw [if_neg (by omega)] at he3
          rw [if_pos (by omega)]
          have : e ≠ T := fun z => hend (by rw [← ex, he2, z])
          omega
        · by_cases z : x < w
          · rw [if_pos z] at he3; rw [if_pos (by omega)]; exact he3
          · rw [if_neg z] at he3; rw [if_neg (by omega)]; exact he3
      obtain ⟨du, sl, fi, bh, bf, li, en, ac, nx, k1, k2, k3, k4, k5⟩ := ih (w + 1) a_due a_slot a_filled a_behind a_before a_lies a_ends a_active b_next (by omega) gr' gd gh
      refine ⟨du, sl, fi, bh, bf, li, en, ac, nx, k1, k2, k3, fun post K => ?_, fun post K => ?_⟩
      · exact br_f ne ⟨hin, br_f (by rw [cw, eT]; exact hend) (nm_r (nI_1 w) (k4 post K))⟩
      · exact br_f ne ⟨hin, br_f (by rw [cw, eT]; exact hend) (nm_r (nI_1 w) (k5 post K))⟩
end
end
section
/-! an event of the component against a tick of the reference -/
def zk_fd (f : Nat → Int32) (t : Nat) : Prop := f 0 = nI (t % 10) ∧ f 1 = nI (t / 10 % 8) ∧ f 2 = nI (t / 80 % 10) ∧ f 3 = nI (t / 800 % 4) ∧ f 4 = nI (t / 80 % 7)
theorem zk_fd_fl (f : Nat → Int32) (t : Nat) : zk_fd (zk_fl f t) t := ⟨rfl, rfl, rfl, rfl, rfl⟩
section
variable {f_workers f_now f_stopped f_duration f_priority f_overlap f_misfire f_waitingJobs f_logged : Int32} {a_there a_kind a_period a_lasts a_rank a_overlaps a_makesUp a_minutes a_hours a_days a_months a_weekdays a_due a_started a_lost a_missed a_sinceStop a_request a_waiting a_slot : Nat → Int32} {a_filled : Nat → Int64} {a_behind a_before a_lies a_runs a_ends a_active a_logJob a_logAt a_logDue : Nat → Int32} {g_asked : Int32} {b_kind b_next b_period b_sets b_missedNow b_waits b_doing b_history b_fields : Nat → Int32}
theorem zy_isDue {post : Int32 → Prop} {j P T M : Nat} (hj : j < 12) (ht : a_there j = 1) (hP : T = P + 1) (hT : T ≤ 1000000) (eT : f_now = nI T) (gj : zg_job a_there a_kind b_kind) (gs : zg_set a_there a_kind a_minutes a_hours a_days a_months a_weekdays b_sets)
    (hd : zd_1 P M (a_kind j) (a_period j) (a_minutes j) (a_hours j) (a_days j) (a_months j) (a_weekdays j) (a_due j) (b_next j)) (hf : zk_fd b_fields T) (K : post (zk_bi (decide (a_due j = nI T)))) : wpY_isDue post (f_workers, f_now, f_logged, f_stopped, f_duration, f_priority, f_overlap, f_misfire, g_asked, b_kind, a_lasts, a_rank, a_overlaps, a_makesUp, b_next, b_period, b_sets, a_started, a_lost, a_missed, b_missedNow, b_waits, a_request, b_doing, a_ends, b_history, b_fields) (nI j) := by
  have hin : vp_in (nI j) 12 := vp_in_nI hj (by omega)
  have cj : (nI j).toNatClampNeg = j := nI_clamp (by omega)
  obtain ⟨hk, hk4⟩ : b_kind j = a_kind j ∧ (a_kind j = 0 ∨ a_kind j = 1 ∨ a_kind j = 2 ∨ a_kind j = 3) := by
    rcases gj j hj with z | z
    · rw [ht] at z; exact absurd z.1 zk_01
    · exact z.2
  obtain ⟨d1, d2⟩ := zk_dueT hd hP hT
  unfold wpY_isDue
  dsimp only
  rw [cj, hk]
  refine ⟨hin, br_c (fun k => ?_) (fun k => ⟨hin, br_f (by rcases hk4 with z | z | z | z <;> rw [z] <;> decide) ⟨hin, br_c (fun z => ?_) (fun z => ?_)⟩⟩)⟩
  · obtain ⟨a, b, c, d, e, ok, s1, s2, s3, s4, s5, t1, t2, t3, t4, t5⟩ := gs j hj ht k
    have okk := ok
    obtain ⟨o1, o2, o3, o4, o5, o6, o7, o8, o9, o10⟩ := ok
    obtain ⟨f0, f1, f2, f3, f4⟩ := hf
    refine zy_fits hj (show c < 32768 by omega) (show e < 32768 by omega) t1 t2 t3 t4 t5 f0 f1 f2 f3 f4 ⟨zk_bin _, ?_⟩
    have hfj := zk_fj_of okk s1 s2 s3 s4 s5 T
    rw [← hfj]
    cases hz : zk_fj (a_minutes j) (a_hours j) (a_days j) (a_months j) (a_weekdays j) T with
    | true => rw [decide_eq_true ((d2 k).mp hz)] at K; exact K
    | false => rw [decide_eq_false (fun y => by rw [(d2 k).mpr y] at hz; cases hz)] at K; exact K
  · rw [decide_eq_true ((d1 k).mp (by rw [← eT]; exact z))] at K; exact K
  · rw [decide_eq_false (fun y => z (by rw [eT]; exact (d1 k).mpr y))] at K; exact K
end
section
variable (f_workers f_now f_stopped f_duration f_priority f_overlap f_misfire f_waitingJobs f_logged : Int32) (a_there a_kind a_period a_lasts a_rank a_overlaps a_makesUp a_minutes a_hours a_days a_months a_weekdays a_due a_started a_lost a_missed a_sinceStop a_request a_waiting a_slot : Nat → Int32) (a_filled : Nat → Int64) (a_behind a_before a_lies a_runs a_ends a_active a_logJob a_logAt a_logDue : Nat → Int32)
theorem zx_ev13 {T : Nat} (hth : ∀ j, j < 12 → a_there j = 0 ∨ a_there j = 1) : ∀ (n j : Nat) (s : Int32), j + n = 12 → (∀ i, i < 12 → bt s i = (decide (i < j) && decide (a_there i = 1 ∧ a_due i = nI T))) →
    ∃ s' : Int32, (∀ i, i < 12 → bt s' i = decide (a_there i = 1 ∧ a_due i = nI T)) ∧ ∀ post : SX → Prop, (∃ n52 : Nat, wX_event_52 post s' n52 0 f_workers f_now f_stopped f_duration f_priority f_overlap f_misfire f_waitingJobs f_logged a_there a_kind a_period a_lasts a_rank a_overlaps a_makesUp a_minutes a_hours a_days a_months a_weekdays a_due a_started a_lost a_missed a_sinceStop a_request a_waiting a_slot a_filled a_behind a_before a_lies a_runs a_ends a_active a_logJob a_logAt a_logDue) → wX_event_13 post (nI T) f_workers f_now f_stopped f_duration f_priority f_overlap f_misfire f_waitingJobs f_logged a_there a_kind a_period a_lasts a_rank a_overlaps a_makesUp a_minutes a_hours a_days a_months a_weekdays a_due a_started a_lost a_missed a_sinceStop a_request a_waiting a_slot a_filled a_behind a_before a_lies a_runs a_ends a_active a_logJob a_logAt a_logDue (n + 1) s (nI j) := by
  intro n
  induction n with
  | zero =>
    intro j s hj hs
    refine ⟨s, fun i hi => by rw [hs i hi, decide_eq_true (by omega), Bool.true_and], fun post P => br_t (by rw [show j = 12 by omega]; decide) P⟩
  | succ n ih =>
    intro j s hj hs
    have hj' : j < 12 := by omega
    have ne : ¬ (12 : Int32) ≤ nI j := nI_ge (b := 12) hj' (by omega)
    have hin : vp_in (nI j) 12 := vp_in_nI hj' (by omega)
    have cj : (nI j).toNatClampNeg = j := nI_clamp (by omega)
    have skip : ¬ (a_there j = 1 ∧ a_due j = nI T) → ∀ i, i < 12 → bt s i = (decide (i < j + 1) && decide (a_there i = 1 ∧ a_due i = nI T)) := by
      intro hno i hi
      rw [hs i hi]
      by_cases e : i = j
      · subst e; rw [decide_eq_false hno]; simp
      · congr 1
        exact decide_eq_decide.mpr (by omega)
    rcases hth j hj' with h0 | h1
    · obtain ⟨s', k1, k2⟩ := ih (j + 1) s (by omega) (skip (fun z => by rw [h0] at z; exact zk_10 z.1))
      exact ⟨s', k1, fun post P => br_f ne ⟨hin, br_t (by rw [cj]; exact h0) (nm_r (nI_1 j) (k2 post P))⟩⟩
    · have hn0 : ¬ a_there j = 0 := by rw [h1]; exact zk_01
      by_cases hd : a_due j = nI T
      · obtain ⟨s', k1, k2⟩ := ih (j + 1) (s ||| ((1 : Int32) <<< (nI j &&& 31))) (by omega) (fun i hi => by
          rw [zk_set _ (by omega) (by omega), hs i hi]
          by_cases e : i = j
          · subst e; simp [h1, hd]
          · rw [decide_eq_false e, Bool.or_false]
            congr 1
            exact decide_eq_decide.mpr (by omega))
        exact ⟨s', k1, fun post P => br_f ne ⟨hin, br_f (by rw [cj]; exact hn0) ⟨hin, br_t (by rw [cj]; exact hd) (nm_e (nm_r (nI_1 j) (k2 post P)))⟩⟩⟩
      · obtain ⟨s', k1, k2⟩ := ih (j + 1) s (by omega) (skip (fun z => hd z.2))
        exact ⟨s', k1, fun post P => br_f ne ⟨hin, br_f (by rw [cj]; exact hn0) ⟨hin, br_f (by rw [cj]; exact hd) (nm_r (nI_1 j) (k2 post P))⟩⟩⟩
end
section
variable (f_workers f_now f_stopped f_duration f_priority f_overlap f_misfire f_waitingJobs f_logged : Int32) (a_there a_kind a_period a_lasts a_rank a_overlaps a_makesUp a_minutes a_hours a_days a_months a_weekdays a_due a_started a_lost a_missed a_sinceStop a_request a_waiting a_slot : Nat → Int32) (a_filled : Nat → Int64) (a_behind a_before a_lies a_runs a_ends a_active a_logJob a_logAt a_logDue : Nat → Int32) (g_asked : Int32) (b_kind b_next b_period b_sets b_missedNow b_waits b_doing b_history b_fields : Nat → Int32)
theorem zr_falls {W P T : Nat} {ε : Nat → Nat} {s : Int32} (hW : W ≤ 3) (eW : f_workers = nI W) (hP : T = P + 1) (hT : T ≤ 1000000) (eT : f_now = nI T) (gj : zg_job a_there a_kind b_kind) (gp : zg_per a_there a_kind a_period b_period) (gs : zg_set a_there a_kind a_minutes a_hours a_days a_months a_weekdays b_sets)
    (gr : zg_run W ε a_there a_ends a_runs b_doing a_active) (hf : zk_fd b_fields T) :
    ∀ (n j : Nat) (f_waitingJobs : Int32) (a_due a_lost a_missed a_sinceStop a_request a_waiting a_slot : Nat → Int32) (a_filled : Nat → Int64) (a_behind a_before a_lies : Nat → Int32) (g_asked : Int32) (b_next b_missedNow b_waits : Nat → Int32), j + n = 12 → (∀ i, j ≤ i → i < 12 → bt s i = decide (a_there i = 1 ∧ a_due i = nI T)) →
      zg_wait a_there a_waiting b_waits f_waitingJobs g_asked → zg_stp f_stopped a_sinceStop b_missedNow → zg_due (fun i => if i < j then T else P) T a_there a_kind a_period a_minutes a_hours a_days a_months a_weekdays a_due b_next → zg_whl T a_there a_due a_lies a_slot a_filled a_behind a_before →
      ∃ (wj : Int32) (du lo mi ss rq wx sl : Nat → Int32) (fi : Nat → Int64) (bh bf li : Nat → Int32) (ak : Int32) (nx mn wy : Nat → Int32), zg_wait a_there wx wy wj ak ∧ zg_stp f_stopped ss mn ∧ zg_due (fun _ => T) T a_there a_kind a_period a_minutes a_hours a_days a_months a_weekdays du nx ∧ zg_whl T a_there du li sl fi bh bf ∧
        (∀ post : SX → Prop, wX_event_52 post s 1 (nI 12) f_workers f_now f_stopped f_duration f_priority f_overlap f_misfire wj f_logged a_there a_kind a_period a_lasts a_rank a_overlaps a_makesUp a_minutes a_hours a_days a_months a_weekdays du a_started lo mi ss rq wx sl fi bh bf li a_runs a_ends a_active a_logJob a_logAt a_logDue → wX_event_52 post s (n + 1) (nI j) f_workers f_now f_stopped f_duration f_priority f_overlap f_misfire f_waitingJobs f_logged a_there a_kind a_period a_lasts a_rank a_overlaps a_makesUp a_minutes a_hours a_days a_months a_weekdays a_due a_started a_lost a_missed a_sinceStop a_request a_waiting a_slot a_filled a_behind a_before a_lies a_runs a_ends a_active a_logJob a_logAt a_logDue) ∧
        (∀ post : SY → Prop, wY_tick_106 post 1 (nI 12) f_workers f_now f_logged f_stopped f_duration f_priority f_overlap f_misfire ak b_kind a_lasts a_rank a_overlaps a_makesUp nx b_period b_sets a_started lo mi mn wy rq b_doing a_ends b_history b_fields → wY_tick_106 post (n + 1) (nI j) f_workers f_now f_logged f_stopped f_duration f_priority f_overlap f_misfire g_asked b_kind a_lasts a_rank a_overlaps a_makesUp b_next b_period b_sets a_started a_lost a_missed b_missedNow b_waits a_request b_doing a_ends b_history b_fields) := by
  intro n
  induction n with
  | zero =>
    intro j f_waitingJobs a_due a_lost a_missed a_sinceStop a_request a_waiting a_slot a_filled a_behind a_before a_lies g_asked b_next b_missedNow b_waits hj hs gw gt gd gh
    have e : j = 12 := by omega
    subst e
    refine ⟨f_waitingJobs, a_due, a_lost, a_missed, a_sinceStop, a_request, a_waiting, a_slot, a_filled, a_behind, a_before, a_lies, g_asked, b_next, b_missedNow, b_waits, gw, gt, fun i hi hti => ?_, gh, fun post K => K, fun post K => K⟩
    have z : zd_1 (if i < 12 then T else P) T (a_kind i) (a_period i) (a_minutes i) (a_hours i) (a_days i) (a_months i) (a_weekdays i) (a_due i) (b_next i) := gd i hi hti
    rw [if_pos hi] at z
    exact z
  | succ n ih =>
    intro j f_waitingJobs a_due a_lost a_missed a_sinceStop a_request a_waiting a_slot a_filled a_behind a_before a_lies g_asked b_next b_missedNow b_waits hj hs gw gt gd gh
    have hj' : j < 12 := by omega
    have ne : ¬ (12 : Int32) ≤ nI j := nI_ge (b := 12) hj' (by omega)
    have hin : vp_in (nI j) 12 := vp_in_nI hj' (by omega)
    have cj : (nI j).toNatClampNeg = j := nI_clamp (by omega)
    have hbit := hs j (Nat.le_refl _) hj'
    -- the job is passed by
    have skip : ¬ (a_there j = 1 ∧ a_due j = nI T) → (∀ (post : SY → Prop) (m : Nat), wY_tick_106 post m (nI (j + 1)) f_workers f_now f_logged f_stopped f_duration f_priority f_overlap f_misfire g_asked b_kind a_lasts a_rank a_overlaps a_makesUp b_next b_period b_sets a_started a_lost a_missed b_missedNow b_waits a_request b_doing a_ends b_history b_fields → wY_tick_106 post (m + 1) (nI j) f_workers f_now f_logged f_stopped f_duration f_priority f_overlap f_misfire g_asked b_kind a_lasts a_rank a_overlaps a_makesUp b_next b_period b_sets a_started a_lost a_missed b_missedNow b_waits a_request b_doing a_ends b_history b_fields) →
        ∃ (wj : Int32) (du lo mi ss rq wx sl : Nat → Int32) (fi : Nat → Int64) (bh bf li : Nat → Int32) (ak : Int32) (nx mn wy : Nat → Int32), zg_wait a_there wx wy wj ak ∧ zg_stp f_stopped ss mn ∧ zg_due (fun _ => T) T a_there a_kind a_period a_minutes a_hours a_days a_months a_weekdays du nx ∧ zg_whl T a_there du li sl fi bh bf ∧
        (∀ post : SX → Prop, wX_event_52 post s 1 (nI 12) f_workers f_now f_stopped f_duration f_priority f_overlap f_misfire wj f_logged a_there a_kind a_period a_lasts a_rank a_overlaps a_makesUp a_minutes a_hours a_days a_months a_weekdays du a_started lo mi ss rq wx sl fi bh bf li a_runs a_ends a_active a_logJob a_logAt a_logDue → wX_event_52 post s (n + 1 + 1) (nI j) f_workers f_now f_stopped f_duration f_priority f_overlap f_misfire f_waitingJobs f_logged a_there a_kind a_period a_lasts a_rank a_overlaps a_makesUp a_minutes a_hours a_days a_months a_weekdays a_due a_started a_lost a_missed a_sinceStop a_request a_waiting a_slot a_filled a_behind a_before a_lies a_runs a_ends a_active a_logJob a_logAt a_logDue) ∧
        (∀ post : SY → Prop, wY_tick_106 post 1 (nI 12) f_workers f_now f_logged f_stopped f_duration f_priority f_overlap f_misfire ak b_kind a_lasts a_rank a_overlaps a_makesUp nx b_period b_sets a_started lo mi mn wy rq b_doing a_ends b_history b_fields → wY_tick_106 post (n + 1 + 1) (nI j) f_workers f_now f_logged f_stopped f_duration f_priority f_overlap f_misfire g_asked b_kind a_lasts a_rank a_overlaps a_makesUp b_next b_period b_sets a_started a_lost a_missed b_missedNow b_waits a_request b_doing a_ends b_history b_fields) := by
      intro hno hY
      obtain ⟨wj, du, lo, mi, ss, rq, wx, sl, fi, bh, bf, li, ak, nx, mn, wy, k1, k2, k3, k4, k5, k6⟩ := ih (j + 1) f_waitingJobs a_due a_lost a_missed a_sinceStop a_request a_waiting a_slot a_filled a_behind a_before a_lies g_asked b_next b_missedNow b_waits (by omega) (fun i h1 h2 => hs i (by omega) h2) gw gt (fun i hi hti => by
        have z : zd_1 (if i < j then T else P) T (a_kind i) (a_period i) (a_minutes i) (a_hours i) (a_days i) (a_months i) (a_weekdays i) (a_due i) (b_next i) := gd i hi hti
        show zd_1 (if i < j + 1 then T else P) T (a_kind i) (a_period i) (a_minutes i) (a_hours i) (a_days i) (a_months i) (a_weekdays i) (a_due i) (b_next i)
        by_cases e : i = j
        · subst e
          rw [if_neg (by omega)] at z
          rw [if_pos (by omega)]
          exact zd_up z hP (fun y => hno ⟨hti, y⟩)
        · by_cases y : i < j
          · rw [if_pos y] at z; rw [if_pos (by omega)]; exact z
          · rw [if_neg y] at z; rw [if_neg (by omega)]; exact z) gh
      refine ⟨wj, du, lo, mi, ss, rq, wx, sl, fi, bh, bf, li, ak, nx, mn, wy, k1, k2, k3, k4, fun post K => ?_, fun post K => hY post _ (k6 post K)⟩
      refine br_f ne (br_t ?_ (nm_r (nI_1 j) (k5 post K)))
      rw [zk_bit _ (by omega), hbit, decide_eq_false hno]
    rcases gj j hj' with ⟨h0, hk⟩ | ⟨ht, hk, hk4⟩
    · refine skip (fun z => by rw [h0] at z; exact zk_10 z.1) (fun post m K => br_f ne ⟨hin, br_t (by rw [cj, hk]; exact zk_neg) ?_⟩)
      exact br_t rfl (nm_r (nI_1 j) K)
    · have hkn : ¬ b_kind j < 0 := by
        rw [hk]
        rcases hk4 with z | z | z | z <;> rw [z] <;> decide
      have hz : zd_1 (if j < j then T else P) T (a_kind j) (a_period j) (a_minutes j) (a_hours j) (a_days j) (a_months j) (a_weekdays j) (a_due j) (b_next j) := gd j hj' ht
      rw [if_neg (by omega)] at hz
      by_cases hd : a_due j = nI T
      · -- it is due
        obtain ⟨wj0, du0, lo0, mi0, ss0, rq0, wx0, sl0, fi0, bh0, bf0, li0, ak0, nx0, mn0, wy0, c1, c2, c3, c4, c5, c6, c7⟩ := zr_fall f_workers f_now f_stopped f_duration f_priority f_overlap f_misfire f_waitingJobs f_logged a_there a_kind a_period a_lasts a_rank a_overlaps a_makesUp a_minutes a_hours a_days a_months a_weekdays a_due a_started a_lost a_missed a_sinceStop a_request a_waiting a_slot a_filled a_behind a_before a_lies a_runs a_ends a_active a_logJob a_logAt a_logDue g_asked b_kind b_next b_period b_sets b_missedNow b_waits b_doing b_history b_fields (τ := fun i => if i < j then T else P) (τ' := fun i => if i < j + 1 then T else P) hW eW hj' hT eT ht hd (if_pos (by omega)) (fun i hi => by
          show (if i < j + 1 then T else P) = (if i < j then T else P)
          by_cases y : i < j
          · rw [if_pos y, if_pos (by omega)]
          · rw [if_neg y, if_neg (by omega)]) gj gp gs gw gr gt gd gh
        obtain ⟨wj, du, lo, mi, ss, rq, wx, sl, fi, bh, bf, li, ak, nx, mn, wy, k1, k2, k3, k4, k5, k6⟩ := ih (j + 1) wj0 du0 lo0 mi0 ss0 rq0 wx0 sl0 fi0 bh0 bf0 li0 ak0 nx0 mn0 wy0 (by omega) (fun i h1 h2 => by rw [hs i (by omega) h2, c5 i (by omega)]) c1 c2 c3 c4
        refine ⟨wj, du, lo, mi, ss, rq, wx, sl, fi, bh, bf, li, ak, nx, mn, wy, k1, k2, k3, k4, fun post K => ?_, fun post K => ?_⟩
        · refine br_f ne (br_f ?_ (c6 _ (nm_r (nI_1 j) (k5 post K))))
          rw [zk_bit _ (by omega), hbit, decide_eq_true ⟨ht, hd⟩]
          decide
        · refine br_f ne ⟨hin, br_f (by rw [cj]; exact hkn) (zy_isDue hj' ht hP hT eT gj gs hz hf ?_)⟩
          rw [decide_eq_true hd]
          exact br_f zk_01 (br_f zk_01 (c7 _ (nm_r (nI_1 j) (k6 post K))))
      · refine skip (fun z => hd z.2) (fun post m K => br_f ne ⟨hin, br_f (by rw [cj]; exact hkn) (zy_isDue hj' ht hP hT eT gj gs hz hf ?_)⟩)
        rw [decide_eq_false hd]
        exact br_t rfl (br_t rfl (nm_r (nI_1 j) K))
end
end
section
/-! the whole event and the whole tick; a tick in which nothing happens -/
section
variable (f_workers f_now f_stopped f_duration f_priority f_overlap f_misfire f_waitingJobs f_logged : Int32) (a_there a_kind a_period a_lasts a_rank a_overlaps a_makesUp a_minutes a_hours a_days a_months a_weekdays a_due a_started a_lost a_missed a_sinceStop a_request a_waiting a_slot : Nat → Int32) (a_filled : Nat → Int64) (a_behind a_before a_lies a_runs a_ends a_active a_logJob a_logAt a_logDue : Nat → Int32) (g_asked : Int32) (b_kind b_next b_period b_sets b_missedNow b_waits b_doing b_history b_fields : Nat → Int32)
theorem zr_event {W N P T L : Nat} (hW : W ≤ 3) (eW : f_workers = nI W) (hNP : N ≤ P) (hP : T = P + 1) (hT : T ≤ 1000000) (eN : f_now = nI N) (hL : L < 2 ^ 29) (gj : zg_job a_there a_kind b_kind) (gl : zg_last a_there a_lasts) (gp : zg_per a_there a_kind a_period b_period) (gs : zg_set a_there a_kind a_minutes a_hours a_days a_months a_weekdays b_sets)
    (gw : zg_wait a_there a_waiting b_waits f_waitingJobs g_asked) (gt : zg_stp f_stopped a_sinceStop b_missedNow) (gd : zg_due (fun _ => P) P a_there a_kind a_period a_minutes a_hours a_days a_months a_weekdays a_due b_next) (gh : zg_whl N a_there a_due a_lies a_slot a_filled a_behind a_before)
    (gr : zg_run W (fun _ => P) a_there a_ends a_runs b_doing a_active) (go : zg_log L f_logged a_started a_logJob a_logAt a_logDue b_history) :
    ∃ (wj lg : Int32) (du st lo mi ss rq wx sl : Nat → Int32) (fi : Nat → Int64) (bh bf li rn en ac lj la ld : Nat → Int32) (ak : Int32) (nx mn wy dn hs fl : Nat → Int32) (L' : Nat), L' ≤ L + 3 ∧ zg_wait a_there wx wy wj ak ∧ zg_stp f_stopped ss mn ∧ zg_due (fun _ => T) T a_there a_kind a_period a_minutes a_hours a_days a_months a_weekdays du nx ∧ zg_whl T a_there du li sl fi bh bf ∧
      zg_run W (fun _ => T) a_there en rn dn ac ∧ zg_log L' lg st lj la ld hs ∧ zg_qui W f_stopped a_there en wy ac ∧
      (∀ post : SX → Prop, post (f_workers, nI T, f_stopped, f_duration, f_priority, f_overlap, f_misfire, wj, lg, a_there, a_kind, a_period, a_lasts, a_rank, a_overlaps, a_makesUp, a_minutes, a_hours, a_days, a_months, a_weekdays, du, st, lo, mi, ss, rq, wx, sl, fi, bh, bf, li, rn, en, ac, lj, la, ld) → wpX_event post (f_workers, f_now, f_stopped, f_duration, f_priority, f_overlap, f_misfire, f_waitingJobs, f_logged, a_there, a_kind, a_period, a_lasts, a_rank, a_overlaps, a_makesUp, a_minutes, a_hours, a_days, a_months, a_weekdays, a_due, a_started, a_lost, a_missed, a_sinceStop, a_request, a_waiting, a_slot, a_filled, a_behind, a_before, a_lies, a_runs, a_ends, a_active, a_logJob, a_logAt, a_logDue) (nI T)) ∧
      (∀ post : SY → Prop, post (f_workers, nI T, lg, f_stopped, f_duration, f_priority, f_overlap, f_misfire, ak, b_kind, a_lasts, a_rank, a_overlaps, a_makesUp, nx, b_period, b_sets, st, lo, mi, mn, wy, rq, dn, en, hs, fl) → wpY_tick post (f_workers, nI P, f_logged, f_stopped, f_duration, f_priority, f_overlap, f_misfire, g_asked, b_kind, a_lasts, a_rank, a_overlaps, a_makesUp, b_next, b_period, b_sets, a_started, a_lost, a_missed, b_missedNow, b_waits, a_request, b_doing, a_ends, b_history, b_fields)) := by
  -- move
  obtain ⟨⟨C, WC⟩, gh2⟩ := gh
  have hdd : ∀ j, j < 12 → a_lies j ≠ -1 → ∃ d, a_due j = nI d ∧ T ≤ d ∧ d ≤ 1000000 ∧ a_lies j = nI (zk_at N d) := by
    intro j hj hl
    have hth : a_there j = 1 := by
      rcases gj j hj with z | z
      · exact absurd ((gh2 j hj).2 (Or.inl z.1)) hl
      · exact z.1
    have hdn : a_due j ≠ -1 := fun e => hl ((gh2 j hj).2 (Or.inr e))
    have key : ∃ d, a_due j = nI d ∧ P < d ∧ d ≤ 1000000 := by
      have z := gd j hj hth
      by_cases k : a_kind j = 3
      · rcases z.2 k with ⟨y, -⟩ | ⟨d, d1, d2, d3, -⟩
        · exact absurd y hdn
        · exact ⟨d, d1, d2, d3⟩
      · rcases z.1 k with ⟨d, d1, d2, d3, d4⟩ | ⟨y, -⟩
        · exact ⟨d, d1, d3, d4⟩
        · exact absurd y hdn
    obtain ⟨d, d1, d2, d3⟩ := key
    exact ⟨d, d1, by omega, d3, (gh2 j hj).1 hth d d3 d1⟩
  obtain ⟨C1, li1, sl1, fi1, bh1, bf1, W1, m1, m2, KM⟩ := zx_move f_workers f_now f_stopped f_duration f_priority f_overlap f_misfire f_waitingJobs f_logged a_there a_kind a_period a_lasts a_rank a_overlaps a_makesUp a_minutes a_hours a_days a_months a_weekdays a_due a_started a_lost a_missed a_sinceStop a_request a_waiting a_slot a_filled a_behind a_before a_lies a_runs a_ends a_active a_logJob a_logAt a_logDue (show T < 16777216 by omega) (show N ≤ T by omega) eN WC hdd
  have gh' : zg_whl T a_there a_due li1 sl1 fi1 bh1 bf1 := by
    refine ⟨⟨C1, W1⟩, fun j hj => ⟨fun ht d hd e => ?_, fun z => m1 j hj ((gh2 j hj).2 z)⟩⟩
    have hl := (gh2 j hj).1 ht d hd e
    have hat := zk_at_lt N d
    exact m2 j hj (by rw [hl]; exact zk_ne (by omega)) d hd e
  have gd' : zg_due (fun _ => P) T a_there a_kind a_period a_minutes a_hours a_days a_months a_weekdays a_due b_next := fun j hj ht => zd_M (show P ≤ T by omega) (gd j hj ht)
  have gr' : zg_run W (fun x => if x < 0 then T else P) a_there a_ends a_runs b_doing a_active := zg_run_eps gr (fun x _ e _ _ h => by rw [if_neg (by omega)]; exact h)
  -- finish
  obtain ⟨du2, sl2, fi2, bh2, bf2, li2, en2, ac2, nx2, f1, f2, f3, KFX, KFY⟩ := zr_finish f_workers (nI T) f_stopped f_duration f_priority f_overlap f_misfire f_waitingJobs f_logged a_there a_kind a_period a_lasts a_rank a_overlaps a_makesUp a_minutes a_hours a_days a_months a_weekdays a_started a_lost a_missed a_sinceStop a_request a_waiting a_runs a_logJob a_logAt a_logDue g_asked b_kind b_period b_sets b_missedNow b_waits b_doing b_history b_fields hW eW hP hT rfl gj gp W 0 a_due sl1 fi1 bh1 bf1 li1 a_ends a_active b_next (by omega) gr' gd' gh'
  have f1' : zg_run W (fun _ => T) a_there en2 a_runs b_doing ac2 := zg_run_eps f1 (fun x hx e _ _ h => by rw [if_pos hx] at h; exact h)
  -- the jobs that are due
  obtain ⟨s, s1, KS⟩ := zx_ev13 f_workers (nI T) f_stopped f_duration f_priority f_overlap f_misfire f_waitingJobs f_logged a_there a_kind a_period a_lasts a_rank a_overlaps a_makesUp a_minutes a_hours a_days a_months a_weekdays du2 a_started a_lost a_missed a_sinceStop a_request a_waiting sl2 fi2 bh2 bf2 li2 a_runs en2 ac2 a_logJob a_logAt a_logDue (T := T) (fun j hj => (gj j hj).elim (fun z => Or.inl z.1) (fun z => Or.inr z.1)) 12 0 0 (by omega) (fun i _ => by rw [b_0]; simp)
  obtain ⟨wj3, du3, lo3, mi3, ss3, rq3, wx3, sl3, fi3, bh3, bf3, li3, ak3, nx3, mn3, wy3, h1, h2, h3, h4, KLX, KLY⟩ := zr_falls f_workers (nI T) f_stopped f_duration f_priority f_overlap f_misfire f_logged a_there a_kind a_period a_lasts a_rank a_overlaps a_makesUp a_minutes a_hours a_days a_months a_weekdays a_started a_runs en2 ac2 a_logJob a_logAt a_logDue b_kind b_period b_sets b_doing b_history (zk_fl b_fields T) (s := s) hW eW hP hT rfl gj gp gs f1' (zk_fd_fl b_fields T) 12 0 f_waitingJobs du2 a_lost a_missed a_sinceStop a_request a_waiting sl2 fi2 bh2 bf2 li2 g_asked nx2 b_missedNow b_waits (by omega) (fun i _ hi => s1 i hi) gw gt f2 f3
  have hY : ∀ post : SY → Prop, wY_tick_106 post 1 (nI 12) f_workers (nI T) f_logged f_stopped f_duration f_priority f_overlap f_misfire ak3 b_kind a_lasts a_rank a_overlaps a_makesUp nx3 b_period b_sets a_started lo3 mi3 mn3 wy3 rq3 b_doing en2 b_history (zk_fl b_fields T) → wpY_tick post (f_workers, nI P, f_logged, f_stopped, f_duration, f_priority, f_overlap, f_misfire, g_asked, b_kind, a_lasts, a_rank, a_overlaps, a_makesUp, b_next, b_period, b_sets, a_started, a_lost, a_missed, b_missedNow, b_waits, a_request, b_doing, a_ends, b_history, b_fields) := by
    intro post K
    refine nm_r (e' := nI T) (by rw [nI_1, hP]) ⟨W + 1, KFY post (br_t (by rw [eW]; exact nI_le (Nat.le_refl _) (by omega)) (zy_read (by omega) ⟨13, KLY post K⟩))⟩
  have hX : ∀ post : SX → Prop, wX_event_52 post s 1 (nI 12) f_workers (nI T) f_stopped f_duration f_priority f_overlap f_misfire wj3 f_logged a_there a_kind a_period a_lasts a_rank a_overlaps a_makesUp a_minutes a_hours a_days a_months a_weekdays du3 a_started lo3 mi3 ss3 rq3 wx3 sl3 fi3 bh3 bf3 li3 a_runs en2 ac2 a_logJob a_logAt a_logDue → wpX_event post (f_workers, f_now, f_stopped, f_duration, f_priority, f_overlap, f_misfire, f_waitingJobs, f_logged, a_there, a_kind, a_period, a_lasts, a_rank, a_overlaps, a_makesUp, a_minutes, a_hours, a_days, a_months, a_weekdays, a_due, a_started, a_lost, a_missed, a_sinceStop, a_request, a_waiting, a_slot, a_filled, a_behind, a_before, a_lies, a_runs, a_ends, a_active, a_logJob, a_logAt, a_logDue) (nI T) := by
    intro post K
    exact KM _ ⟨W + 1, KFX _ ⟨13, KS post ⟨13, KLX post K⟩⟩⟩
  by_cases hs : f_stopped = 0
  · obtain ⟨wj, lg, st, rq, wx, rn, en, ac, lj, la, ld, ak, wy, dn, hs', L', n1, n2, n3, n4, n5, n6, n7, n8⟩ := zr_start f_workers (nI T) f_stopped f_duration f_priority f_overlap f_misfire wj3 f_logged a_there a_kind a_period a_lasts a_rank a_overlaps a_makesUp a_minutes a_hours a_days a_months a_weekdays du3 a_started lo3 mi3 ss3 rq3 wx3 sl3 fi3 bh3 bf3 li3 a_runs en2 ac2 a_logJob a_logAt a_logDue ak3 b_kind nx3 b_period b_sets mn3 wy3 b_doing b_history (zk_fl b_fields T) hW eW rfl hT (fun _ => Nat.le_refl _) hs gj gl hL h1 f1' go
    refine ⟨wj, lg, du3, st, lo3, mi3, ss3, rq, wx, sl3, fi3, bh3, bf3, li3, rn, en, ac, lj, la, ld, ak, nx3, mn3, wy, dn, hs', zk_fl b_fields T, L', n1, n2, h2, h3, h4, n3, n4, n5, fun post K => hX post ?_, fun post K => hY post ?_⟩
    · exact br_t (show (12 : Int32) ≤ nI 12 by decide) (br_t hs (n7 _ (fun r => K)))
    · exact br_t (show (12 : Int32) ≤ nI 12 by decide) (n8 _ K)
  · refine ⟨wj3, f_logged, du3, a_started, lo3, mi3, ss3, rq3, wx3, sl3, fi3, bh3, bf3, li3, a_runs, en2, ac2, a_logJob, a_logAt, a_logDue, ak3, nx3, mn3, wy3, b_doing, b_history, zk_fl b_fields T, L, by omega, h1, h2, h3, h4, f1', go, fun z => absurd z hs, fun post K => hX post ?_, fun post K => hY post ?_⟩
    · exact br_t (show (12 : Int32) ≤ nI 12 by decide) (br_f hs K)
    · exact br_t (show (12 : Int32) ≤ nI 12 by decide) ⟨1, br_f hs K⟩
theorem zr_quiet {post : SY → Prop} {W P T M : Nat} (hW : W ≤ 3) (eW : f_workers = nI W) (hP : T = P + 1) (hT : T ≤ 1000000) (gj : zg_job a_there a_kind b_kind) (gs : zg_set a_there a_kind a_minutes a_hours a_days a_months a_weekdays b_sets)
    (gw : zg_wait a_there a_waiting b_waits f_waitingJobs g_asked) (gd : zg_due (fun _ => P) M a_there a_kind a_period a_minutes a_hours a_days a_months a_weekdays a_due b_next) (gr : zg_run W (fun _ => P) a_there a_ends a_runs b_doing a_active) (gq : zg_qui W f_stopped a_there a_ends b_waits a_active)
    (hno : ∀ j, j < 12 → a_there j = 1 → a_due j ≠ nI T) (hne : ∀ w, w < W → a_ends w ≠ nI T) (K : post (f_workers, nI T, f_logged, f_stopped, f_duration, f_priority, f_overlap, f_misfire, g_asked, b_kind, a_lasts, a_rank, a_overlaps, a_makesUp, b_next, b_period, b_sets, a_started, a_lost, a_missed, b_missedNow, b_waits, a_request, b_doing, a_ends, b_history, zk_fl b_fields T)) : wpY_tick post (f_workers, nI P, f_logged, f_stopped, f_duration, f_priority, f_overlap, f_misfire, g_asked, b_kind, a_lasts, a_rank, a_overlaps, a_makesUp, b_next, b_period, b_sets, a_started, a_lost, a_missed, b_missedNow, b_waits, a_request, b_doing, a_ends, b_history, b_fields) := by
  have hst : wpY_start post (f_workers, nI T, f_logged, f_stopped, f_duration, f_priority, f_overlap, f_misfire, g_asked, b_kind, a_lasts, a_rank, a_overlaps, a_makesUp, b_next, b_period, b_sets, a_started, a_lost, a_missed, b_missedNow, b_waits, a_request, b_doing, a_ends, b_history, zk_fl b_fields T) := by
    refine ⟨1, ?_⟩
    by_cases hs : f_stopped = 0
    · obtain ⟨r1, k1, -, k3⟩ := zr_idle f_workers (nI T) f_stopped f_duration f_priority f_overlap f_misfire f_waitingJobs f_logged a_there a_kind a_period a_lasts a_rank a_overlaps a_makesUp a_minutes a_hours a_days a_months a_weekdays a_due a_started a_lost a_missed (fun _ => 0) a_request a_waiting (fun _ => 0) (fun _ => 0) (fun _ => 0) (fun _ => 0) (fun _ => 0) a_runs a_ends a_active (fun _ => 0) (fun _ => 0) (fun _ => 0) g_asked b_kind b_next b_period b_sets b_missedNow b_waits b_doing b_history (zk_fl b_fields T) hW eW gr
      obtain ⟨r2, m1, -, m3⟩ := zr_choice f_workers (nI T) f_stopped f_duration f_priority f_overlap f_misfire f_waitingJobs f_logged a_there a_kind a_period a_lasts a_rank a_overlaps a_makesUp a_minutes a_hours a_days a_months a_weekdays a_due a_started a_lost a_missed (fun _ => 0) a_request a_waiting (fun _ => 0) (fun _ => 0) (fun _ => 0) (fun _ => 0) (fun _ => 0) a_runs a_ends a_active (fun _ => 0) (fun _ => 0) (fun _ => 0) g_asked b_kind b_next b_period b_sets b_missedNow b_waits b_doing b_history (zk_fl b_fields T) hW eW gj gw gr
      refine br_t hs (br_c (fun _ => K) (fun _ => k3 _ ?_))
      rcases k1 with ⟨rfl, -⟩ | ⟨w, hw, rfl, hw0⟩
      · exact br_t zk_neg K
      · rcases gq hs with z | z
        · exact absurd hw0 (z w hw)
        · refine br_f (nI_pos (by omega)) (m3 _ ?_)
          rcases m1 with ⟨rfl, -⟩ | ⟨i, hi, -, i1, i2, i3⟩
          · exact br_t zk_neg K
          · exact absurd i3 (z i hi i1 i2)
    · exact br_f hs K
  have hlp : ∀ n j, j + n = 12 → wY_tick_106 post (n + 1) (nI j) f_workers (nI T) f_logged f_stopped f_duration f_priority f_overlap f_misfire g_asked b_kind a_lasts a_rank a_overlaps a_makesUp b_next b_period b_sets a_started a_lost a_missed b_missedNow b_waits a_request b_doing a_ends b_history (zk_fl b_fields T) := by
    intro n
    induction n with
    | zero =>
      intro j hj
      rw [show j = 12 by omega]
      exact br_t (show (12 : Int32) ≤ nI 12 by decide) hst
    | succ n ih =>
      intro j hj
      have hj' : j < 12 := by omega
      have ne : ¬ (12 : Int32) ≤ nI j := nI_ge (b := 12) hj' (by omega)
      have hin : vp_in (nI j) 12 := vp_in_nI hj' (by omega)
      have cj : (nI j).toNatClampNeg = j := nI_clamp (by omega)
      rcases gj j hj' with ⟨h0, hk⟩ | ⟨ht, hk, hk4⟩
      · exact br_f ne ⟨hin, br_t (by rw [cj, hk]; exact zk_neg) (br_t rfl (nm_r (nI_1 j) (ih (j + 1) (by omega))))⟩
      · have hkn : ¬ b_kind j < 0 := by
          rw [hk]
          rcases hk4 with z | z | z | z <;> rw [z] <;> decide
        refine br_f ne ⟨hin, br_f (by rw [cj]; exact hkn) (zy_isDue (P := P) (M := M) hj' ht hP hT rfl gj gs (gd j hj' ht) (zk_fd_fl b_fields T) ?_)⟩
        rw [decide_eq_false (hno j hj' ht)]
        exact br_t rfl (br_t rfl (nm_r (nI_1 j) (ih (j + 1) (by omega))))
  have hfi : ∀ n w, w + n = W → wY_tick_12 post f_workers (nI T) f_logged f_stopped f_duration f_priority f_overlap f_misfire g_asked (n + 1) (nI w) b_kind a_lasts a_rank a_overlaps a_makesUp b_next b_period b_sets a_started a_lost a_missed b_missedNow b_waits a_request b_doing a_ends b_history b_fields := by
    intro n
    induction n with
    | zero =>
      intro w hw
      exact br_t (by rw [eW, show w = W by omega]; exact nI_le (Nat.le_refl _) (by omega)) (zy_read (by omega) ⟨13, hlp 12 0 (by omega)⟩)
    | succ n ih =>
      intro w hw
      refine br_f (by rw [eW]; exact nI_ge (by omega) (by omega)) ⟨vp_in_nI (by omega) (by omega), br_f ?_ (nm_r (nI_1 w) (ih (w + 1) (by omega)))⟩
      rw [nI_clamp (by omega)]
      exact hne w (by omega)
  exact nm_r (e' := nI T) (by rw [nI_1, hP]) ⟨W + 1, hfi W 0 (by omega)⟩
end
end
section
/-! advance -/
theorem zd_ups {P Q M : Nat} {kx px mi ho da mo wd du nx : Int32} (h : zd_1 P M kx px mi ho da mo wd du nx) (hPQ : P ≤ Q) (hQ : Q ≤ 1000000) (hn : ∀ d, d ≤ 1000000 → du = nI d → Q < d) : zd_1 Q M kx px mi ho da mo wd du nx := by
  refine ⟨fun k => ?_, fun k => ?_⟩
  · rcases h.1 k with ⟨d, h1, h2, h3, h4⟩ | h1
    · exact Or.inl ⟨d, h1, h2, hn d h4 h1, h4⟩
    · exact Or.inr h1
  · rcases h.2 k with ⟨h1, h2⟩ | ⟨d, h1, h2, h3, h4, h5⟩
    · exact Or.inl ⟨h1, fun s z => h2 s (by omega)⟩
    · exact Or.inr ⟨d, h1, hn d h3 h1, h3, h4, fun s z => h5 s (by omega)⟩
section
variable (f_workers f_now f_stopped f_duration f_priority f_overlap f_misfire f_waitingJobs f_logged : Int32) (a_there a_kind a_period a_lasts a_rank a_overlaps a_makesUp a_minutes a_hours a_days a_months a_weekdays a_due a_started a_lost a_missed a_sinceStop a_request a_waiting a_slot : Nat → Int32) (a_filled : Nat → Int64) (a_behind a_before a_lies a_runs a_ends a_active a_logJob a_logAt a_logDue : Nat → Int32) (g_asked : Int32) (b_kind b_next b_period b_sets b_missedNow b_waits b_doing b_history b_fields : Nat → Int32)
theorem zr_earliest {W : Nat} {ε : Nat → Nat} (hW : W ≤ 3) (eW : f_workers = nI W) (gr : zg_run W ε a_there a_ends a_runs b_doing a_active) :
    ∃ r r' : Int32, ((r = -1 ∧ r' = -2 ∧ ∀ w, w < W → a_ends w = 0) ∨ ∃ e w, w < W ∧ a_ends w = nI e ∧ 0 < e ∧ e ≤ 1000200 ∧ r = nI e ∧ r' = nI e ∧ ∀ x, x < W → ∀ e', e' ≤ 1000200 → 0 < e' → a_ends x = nI e' → e ≤ e') ∧
      (∀ post : Int32 → Prop, post r → wpX_earliestEnd post (f_workers, f_now, f_stopped, f_duration, f_priority, f_overlap, f_misfire, f_waitingJobs, f_logged, a_there, a_kind, a_period, a_lasts, a_rank, a_overlaps, a_makesUp, a_minutes, a_hours, a_days, a_months, a_weekdays, a_due, a_started, a_lost, a_missed, a_sinceStop, a_request, a_waiting, a_slot, a_filled, a_behind, a_before, a_lies, a_runs, a_ends, a_active, a_logJob, a_logAt, a_logDue)) ∧ (∀ post : Int32 → Prop, post r' → wpY_nextEnd post (f_workers, f_now, f_logged, f_stopped, f_duration, f_priority, f_overlap, f_misfire, g_asked, b_kind, a_lasts, a_rank, a_overlaps, a_makesUp, b_next, b_period, b_sets, a_started, a_lost, a_missed, b_missedNow, b_waits, a_request, b_doing, a_ends, b_history, b_fields)) := by
  have key : ∀ n w (b b' : Int32), w + n = W → ((b = -1 ∧ b' = -2 ∧ ∀ x, x < w → a_ends x = 0) ∨ ∃ e x, x < W ∧ a_ends x = nI e ∧ 0 < e ∧ e ≤ 1000200 ∧ b = nI e ∧ b' = nI e ∧ ∀ x, x < w → ∀ e', e' ≤ 1000200 → 0 < e' → a_ends x = nI e' → e ≤ e') →
      ∃ r r' : Int32, ((r = -1 ∧ r' = -2 ∧ ∀ w, w < W → a_ends w = 0) ∨ ∃ e w, w < W ∧ a_ends w = nI e ∧ 0 < e ∧ e ≤ 1000200 ∧ r = nI e ∧ r' = nI e ∧ ∀ x, x < W → ∀ e', e' ≤ 1000200 → 0 < e' → a_ends x = nI e' → e ≤ e') ∧
      (∀ post : Int32 → Prop, post r → wX_earliestEnd_4 post f_workers f_now f_stopped f_duration f_priority f_overlap f_misfire f_waitingJobs f_logged a_there a_kind a_period a_lasts a_rank a_overlaps a_makesUp a_minutes a_hours a_days a_months a_weekdays a_due a_started a_lost a_missed a_sinceStop a_request a_waiting a_slot a_filled a_behind a_before a_lies a_runs a_ends a_active a_logJob a_logAt a_logDue (n + 1) b (nI w)) ∧ (∀ post : Int32 → Prop, post r' → wY_nextEnd_5 post f_workers f_now f_logged f_stopped f_duration f_priority f_overlap f_misfire g_asked b_kind a_lasts a_rank a_overlaps a_makesUp b_next b_period b_sets a_started a_lost a_missed b_missedNow b_waits a_request b_doing a_ends b_history b_fields (n + 1) b' (nI w)) := by
    intro n
    induction n with
    | zero =>
      intro w b b' hw hb
      have e : w = W := by omega
      subst e
      have ge : f_workers ≤ nI w := by rw [eW]; exact nI_le (Nat.le_refl _) (by omega)
      exact ⟨b, b', hb, fun post P => br_t ge P, fun post P => br_t ge P⟩
    | succ n ih =>
      intro w b b' hw hb
      have ne : ¬ f_workers ≤ nI w := by rw [eW]; exact nI_ge (by omega) (by omega)
      have hin : vp_in (nI w) 3 := vp_in_nI (by omega) (by omega)
      have cw : (nI w).toNatClampNeg = w := nI_clamp (by omega)
      rcases gr.1 w (by omega) with z | ⟨⟨e, e1, e2, e3⟩, -⟩
      · have h0 : a_ends (nI w).toNatClampNeg ≤ 0 := by rw [cw, z]; decide
        obtain ⟨r, r', k1, k2, k3⟩ := ih (w + 1) b b' (by omega) (by
          rcases hb with ⟨b1, b2, b3⟩ | ⟨e, x, x1, x2, x3, x4, x5, x6, x7⟩
          · refine Or.inl ⟨b1, b2, fun x hx => ?_⟩
            rcases Nat.lt_or_ge x w with y | y
            · exact b3 x y
            · rw [show x = w by omega]; exact z
          · refine Or.inr ⟨e, x, x1, x2, x3, x4, x5, x6, fun y hy e' h1 h2 h3 => ?_⟩
            rcases Nat.lt_or_ge y w with u | u
            · exact x7 y u e' h1 h2 h3
            · rw [show y = w by omega, z] at h3
              exact absurd h3.symm (nI_ne0 h2 (by omega)))
        exact ⟨r, r', k1, fun post P => br_f ne ⟨hin, br_t h0 (nm_r (nI_1 w) (k2 post P))⟩, fun post P => br_f ne ⟨hin, br_t h0 (nm_r (nI_1 w) (k3 post P))⟩⟩
      · have hpos : 0 < e := by omega
        have h0 : ¬ a_ends (nI w).toNatClampNeg ≤ 0 := by rw [cw, e1]; exact nI_nle hpos (by omega)
        have ee : a_ends (nI w).toNatClampNeg = nI e := by rw [cw]; exact e1
        have low : ∀ m, m ≤ e → (∀ x, x < w → ∀ e', e' ≤ 1000200 → 0 < e' → a_ends x = nI e' → m ≤ e') → ∀ x, x < w + 1 → ∀ e', e' ≤ 1000200 → 0 < e' → a_ends x = nI e' → m ≤ e' := by
          intro m hm h x hx e' h1 h2 h3
          rcases Nat.lt_or_ge x w with u | u
          · exact h x u e' h1 h2 h3
          · rw [show x = w by omega, e1] at h3
            rw [← (nI_eq (by omega) (by omega)).mp h3]; exact hm
        rcases hb with ⟨b1, b2, b3⟩ | ⟨e0, x, x1, x2, x3, x4, x5, x6, x7⟩
        · obtain ⟨r, r', k1, k2, k3⟩ := ih (w + 1) (nI e) (nI e) (by omega) (Or.inr ⟨e, w, by omega, e1, hpos, e3, rfl, rfl, low e (Nat.le_refl _) (fun x hx e' h1 h2 h3 => by rw [b3 x hx] at h3; exact absurd h3.symm (nI_ne0 h2 (by omega)))⟩)
          exact ⟨r, r', k1, fun post P => br_f ne ⟨hin, br_f h0 (br_t (by rw [b1]; decide) ⟨hin, nm_r ee (nm_r (nI_1 w) (k2 post P))⟩)⟩, fun post P => br_f ne ⟨hin, br_f h0 (br_t (by rw [b2]; decide) ⟨hin, nm_r ee (nm_r (nI_1 w) (k3 post P))⟩)⟩⟩
        · have nb : ¬ b < 0 := by rw [x5]; exact nI_pos (by omega)
          have nb' : ¬ b' < 0 := by rw [x6]; exact nI_pos (by omega)
          rcases Nat.lt_or_ge e e0 with y | y
          · have hle : ¬ b ≤ a_ends (nI w).toNatClampNeg := by rw [ee, x5]; exact nI_ge y (by omega)
            have hle' : ¬ b' ≤ a_ends (nI w).toNatClampNeg := by rw [ee, x6]; exact nI_ge y (by omega)
            obtain ⟨r, r', k1, k2, k3⟩ := ih (w + 1) (nI e) (nI e) (by omega) (Or.inr ⟨e, w, by omega, e1, hpos, e3, rfl, rfl, low e (Nat.le_refl _) (fun x hx e' h1 h2 h3 => by have := x7 x hx e' h1 h2 h3; omega)⟩)
            exact ⟨r, r', k1, fun post P => br_f ne ⟨hin, br_f h0 (br_f nb ⟨hin, br_f hle ⟨hin, nm_r ee (nm_r (nI_1 w) (k2 post P))⟩⟩)⟩, fun post P => br_f ne ⟨hin, br_f h0 (br_f nb' ⟨hin, br_f hle' ⟨hin, nm_r ee (nm_r (nI_1 w) (k3 post P))⟩⟩)⟩⟩
          · have hle : b ≤ a_ends (nI w).toNatClampNeg := by rw [ee, x5]; exact nI_le y (by omega)
            have hle' : b' ≤ a_ends (nI w).toNatClampNeg := by rw [ee, x6]; exact nI_le y (by omega)
            obtain ⟨r, r', k1, k2, k3⟩ := ih (w + 1) b b' (by omega) (Or.inr ⟨e0, x, x1, x2, x3, x4, x5, x6, low e0 y x7⟩)
            exact ⟨r, r', k1, fun post P => br_f ne ⟨hin, br_f h0 (br_f nb ⟨hin, br_t hle (nm_r (nI_1 w) (k2 post P))⟩)⟩, fun post P => br_f ne ⟨hin, br_f h0 (br_f nb' ⟨hin, br_t hle' (nm_r (nI_1 w) (k3 post P))⟩)⟩⟩
  obtain ⟨r, r', k1, k2, k3⟩ := key W 0 (-1) (-2) (by omega) (Or.inl ⟨rfl, rfl, fun x h => by omega⟩)
  exact ⟨r, r', k1, fun post P => ⟨_, k2 post P⟩, fun post P => ⟨_, k3 post P⟩⟩
theorem zg_dues {N P : Nat} (gj : zg_job a_there a_kind b_kind) (gd : zg_due (fun _ => P) P a_there a_kind a_period a_minutes a_hours a_days a_months a_weekdays a_due b_next) (gh : zg_whl N a_there a_due a_lies a_slot a_filled a_behind a_before) :
    ∀ j, j < 12 → a_lies j ≠ -1 → ∃ d, a_due j = nI d ∧ P < d ∧ d ≤ 1000000 ∧ a_lies j = nI (zk_at N d) := by
  intro j hj hl
  have hth : a_there j = 1 := by
    rcases gj j hj with z | z
    · exact absurd ((gh.2 j hj).2 (Or.inl z.1)) hl
    · exact z.1
  have hdn : a_due j ≠ -1 := fun e => hl ((gh.2 j hj).2 (Or.inr e))
  have z := gd j hj hth
  by_cases k : a_kind j = 3
  · rcases z.2 k with ⟨y, -⟩ | ⟨d, d1, d2, d3, -⟩
    · exact absurd y hdn
    · exact ⟨d, d1, d2, d3, (gh.2 j hj).1 hth d d3 d1⟩
  · rcases z.1 k with ⟨d, d1, d2, d3, d4⟩ | ⟨y, -⟩
    · exact ⟨d, d1, d3, d4, (gh.2 j hj).1 hth d d4 d1⟩
    · exact absurd y hdn
/-- the least time at which something happens; t is 2000000 if nothing does -/
theorem zr_least {W N P : Nat} (hW : W ≤ 3) (eW : f_workers = nI W) (hNP : N ≤ P) (hP : P ≤ 1000000) (gj : zg_job a_there a_kind b_kind)
    (gd : zg_due (fun _ => P) P a_there a_kind a_period a_minutes a_hours a_days a_months a_weekdays a_due b_next) (gh : zg_whl N a_there a_due a_lies a_slot a_filled a_behind a_before) (gr : zg_run W (fun _ => P) a_there a_ends a_runs b_doing a_active) :
    ∃ (x : Int32) (t : Nat), ((x = -1 ∧ t = 2000000) ∨ (x = nI t ∧ t ≤ 1000200)) ∧ P < t ∧ (∀ j, j < 12 → a_there j = 1 → ∀ d, d ≤ 1000000 → a_due j = nI d → t ≤ d) ∧ (∀ w, w < W → ∀ e, e ≤ 1000200 → 0 < e → a_ends w = nI e → t ≤ e) ∧
      ∀ (post : Int32 → SX → Prop) (B : Int32) (n : Nat), wX_advance_78 post (wX_advance_38 post B n) B x f_workers f_now f_stopped f_duration f_priority f_overlap f_misfire f_waitingJobs f_logged a_there a_kind a_period a_lasts a_rank a_overlaps a_makesUp a_minutes a_hours a_days a_months a_weekdays a_due a_started a_lost a_missed a_sinceStop a_request a_waiting a_slot a_filled a_behind a_before a_lies a_runs a_ends a_active a_logJob a_logAt a_logDue → wX_advance_38 post B (n + 1) 1 f_workers f_now f_stopped f_duration f_priority f_overlap f_misfire f_waitingJobs f_logged a_there a_kind a_period a_lasts a_rank a_overlaps a_makesUp a_minutes a_hours a_days a_months a_weekdays a_due a_started a_lost a_missed a_sinceStop a_request a_waiting a_slot a_filled a_behind a_before a_lies a_runs a_ends a_active a_logJob a_logAt a_logDue := by
  have hdd := zg_dues a_there a_kind a_period a_minutes a_hours a_days a_months a_weekdays a_due a_slot a_filled a_behind a_before a_lies b_kind b_next gj gd gh
  have hli : ∀ j, j < 12 → a_there j = 1 → ∀ d, d ≤ 1000000 → a_due j = nI d → a_lies j ≠ -1 := fun j hj ht d hd e => by
    have := zk_at_lt N d
    rw [(gh.2 j hj).1 ht d hd e]; exact zk_ne (by omega)
  obtain ⟨C, WC⟩ := gh.1
  obtain ⟨r2, n1, n2⟩ := zx_nextDue f_workers f_now f_stopped f_duration f_priority f_overlap f_misfire f_waitingJobs f_logged a_there a_kind a_period a_lasts a_rank a_overlaps a_makesUp a_minutes a_hours a_days a_months a_weekdays a_due a_started a_lost a_missed a_sinceStop a_request a_waiting a_slot a_filled a_behind a_before a_lies a_runs a_ends a_active a_logJob a_logAt a_logDue (T := N) WC (fun j hj hl => by
    obtain ⟨d, d1, d2, d3, d4⟩ := hdd j hj hl
    exact ⟨d, d1, by omega, d3, d4⟩)
  obtain ⟨r1, r1', m1, m2, -⟩ := zr_earliest f_workers f_now f_stopped f_duration f_priority f_overlap f_misfire f_waitingJobs f_logged a_there a_kind a_period a_lasts a_rank a_overlaps a_makesUp a_minutes a_hours a_days a_months a_weekdays a_due a_started a_lost a_missed a_sinceStop a_request a_waiting a_slot a_filled a_behind a_before a_lies a_runs a_ends a_active a_logJob a_logAt a_logDue 0 b_kind b_next (fun _ => 0) (fun _ => 0) (fun _ => 0) (fun _ => 0) b_doing (fun _ => 0) (fun _ => 0) hW eW gr
  have hends : ∀ w, w < W → ∀ e, e ≤ 1000200 → 0 < e → a_ends w = nI e → P < e := fun w hw e he h0 h => by
    rcases gr.1 w hw with z | ⟨⟨e', e1, e2, e3⟩, -⟩
    · rw [h] at z; exact absurd z (nI_ne0 h0 (by omega))
    · rw [h] at e1
      have e2' : P < e' := e2
      have := (nI_eq (by omega) (by omega)).mp e1
      omega
  have go : ∀ x : Int32, (∀ (post : Int32 → SX → Prop) (B : Int32) (n : Nat), wX_advance_78 post (wX_advance_38 post B n) B x f_workers f_now f_stopped f_duration f_priority f_overlap f_misfire f_waitingJobs f_logged a_there a_kind a_period a_lasts a_rank a_overlaps a_makesUp a_minutes a_hours a_days a_months a_weekdays a_due a_started a_lost a_missed a_sinceStop a_request a_waiting a_slot a_filled a_behind a_before a_lies a_runs a_ends a_active a_logJob a_logAt a_logDue → ((r1 < 0 → wX_advance_71 post (wX_advance_38 post B n) B r2 f_workers f_now f_stopped f_duration f_priority f_overlap f_misfire f_waitingJobs f_logged a_there a_kind a_period a_lasts a_rank a_overlaps a_makesUp a_minutes a_hours a_days a_months a_weekdays a_due a_started a_lost a_missed a_sinceStop a_request a_waiting a_slot a_filled a_behind a_before a_lies a_runs a_ends a_active a_logJob a_logAt a_logDue) ∧ (¬ r1 < 0 → ((r2 < 0 → wX_advance_76 post (wX_advance_38 post B n) B r1 f_workers f_now f_stopped f_duration f_priority f_overlap f_misfire f_waitingJobs f_logged a_there a_kind a_period a_lasts a_rank a_overlaps a_makesUp a_minutes a_hours a_days a_months a_weekdays a_due a_started a_lost a_missed a_sinceStop a_request a_waiting a_slot a_filled a_behind a_before a_lies a_runs a_ends a_active a_logJob a_logAt a_logDue) ∧ (¬ r2 < 0 → ((r1 ≤ r2 → wX_advance_76 post (wX_advance_38 post B n) B r1 f_workers f_now f_stopped f_duration f_priority f_overlap f_misfire f_waitingJobs f_logged a_there a_kind a_period a_lasts a_rank a_overlaps a_makesUp a_minutes a_hours a_days a_months a_weekdays a_due a_started a_lost a_missed a_sinceStop a_request a_waiting a_slot a_filled a_behind a_before a_lies a_runs a_ends a_active a_logJob a_logAt a_logDue) ∧ (¬ r1 ≤ r2 → wX_advance_71 post (wX_advance_38 post B n) B r2 f_workers f_now f_stopped f_duration f_priority f_overlap f_misfire f_waitingJobs f_logged a_there a_kind a_period a_lasts a_rank a_overlaps a_makesUp a_minutes a_hours a_days a_months a_weekdays a_due a_started a_lost a_missed a_sinceStop a_request a_waiting a_slot a_filled a_behind a_before a_lies a_runs a_ends a_active a_logJob a_logAt a_logDue))))))) →
      ∀ (post : Int32 → SX → Prop) (B : Int32) (n : Nat), wX_advance_78 post (wX_advance_38 post B n) B x f_workers f_now f_stopped f_duration f_priority f_overlap f_misfire f_waitingJobs f_logged a_there a_kind a_period a_lasts a_rank a_overlaps a_makesUp a_minutes a_hours a_days a_months a_weekdays a_due a_started a_lost a_missed a_sinceStop a_request a_waiting a_slot a_filled a_behind a_before a_lies a_runs a_ends a_active a_logJob a_logAt a_logDue → wX_advance_38 post B (n + 1) 1 f_workers f_now f_stopped f_duration f_priority f_overlap f_misfire f_waitingJobs f_logged a_there a_kind a_period a_lasts a_rank a_overlaps a_makesUp a_minutes a_hours a_days a_months a_weekdays a_due a_started a_lost a_missed a_sinceStop a_request a_waiting a_slot a_filled a_behind a_before a_lies a_runs a_ends a_active a_logJob a_logAt a_logDue := by
    intro x h post B n K
    exact br_f zk_01 (m2 _ (n2 _ (h post B n K)))
  rcases m1 with ⟨m1, -, m3⟩ | ⟨e, w, hw, e1, e2, e3, m1, -, m3⟩
  · rcases n1 with ⟨n1, n3⟩ | ⟨j, d, hj, hl, d1, d2, n1, n3⟩
    · refine ⟨-1, 2000000, Or.inl ⟨rfl, rfl⟩, by omega, fun j hj ht d hd e => absurd (n3 j hj) (hli j hj ht d hd e), fun w hw e he h0 h => ?_, go _ (fun post B n K => br_t (by rw [m1]; exact zk_neg) (by rw [n1]; exact K))⟩
      rw [m3 w hw] at h; exact absurd h.symm (nI_ne0 h0 (by omega))
    · refine ⟨nI d, d, Or.inr ⟨rfl, by omega⟩, ?_, fun i hi ht d' hd e => n3 i hi (hli i hi ht d' hd e) d' (by omega) e, fun w hw e he h0 h => ?_, go _ (fun post B n K => br_t (by rw [m1]; exact zk_neg) (by rw [n1]; exact K))⟩
      · obtain ⟨d', d1', d2', d3', -⟩ := hdd j hj hl
        rw [d1] at d1'
        have := (nI_eq (by omega) (by omega)).mp d1'
        omega
      · rw [m3 w hw] at h; exact absurd h.symm (nI_ne0 h0 (by omega))
  · have hne : ¬ r1 < 0 := by rw [m1]; exact nI_pos (by omega)
    rcases n1 with ⟨n1, n3⟩ | ⟨j, d, hj, hl, d1, d2, n1, n3⟩
    · exact ⟨nI e, e, Or.inr ⟨rfl, e3⟩, hends w hw e e3 e2 e1, fun j hj ht d hd e => absurd (n3 j hj) (hli j hj ht d hd e), fun x hx e' h1 h2 h3 => m3 x hx e' h1 h2 h3, go _ (fun post B n K => br_f hne (br_t (by rw [n1]; exact zk_neg) (by rw [m1]; exact K)))⟩
    · have hn2 : ¬ r2 < 0 := by rw [n1]; exact nI_pos (by omega)
      have hPd : P < d := by
        obtain ⟨d', d1', d2', d3', -⟩ := hdd j hj hl
        rw [d1] at d1'
        have := (nI_eq (by omega) (by omega)).mp d1'
        omega
      rcases Nat.lt_or_ge d e with y | y
      · exact ⟨nI d, d, Or.inr ⟨rfl, by omega⟩, hPd, fun i hi ht d' hd e => n3 i hi (hli i hi ht d' hd e) d' (by omega) e, fun x hx e' h1 h2 h3 => by have := m3 x hx e' h1 h2 h3; omega, go _ (fun post B n K => br_f hne (br_f hn2 (br_f (by rw [m1, n1]; exact nI_ge y (by omega)) (by rw [n1]; exact K))))⟩
      · exact ⟨nI e, e, Or.inr ⟨rfl, e3⟩, hends w hw e e3 e2 e1, fun i hi ht d' hd e' => by have := n3 i hi (hli i hi ht d' hd e') d' (by omega) e'; omega, fun x hx e' h1 h2 h3 => m3 x hx e' h1 h2 h3, go _ (fun post B n K => br_f hne (br_f hn2 (br_t (by rw [m1, n1]; exact nI_le y (by omega)) (by rw [m1]; exact K))))⟩
/-- c ticks in which nothing happens -/
theorem zr_quiets {W A M : Nat} (hW : W ≤ 3) (eW : f_workers = nI W) (hA : A ≤ 30000) (gj : zg_job a_there a_kind b_kind) (gs : zg_set a_there a_kind a_minutes a_hours a_days a_months a_weekdays b_sets)
    (gw : zg_wait a_there a_waiting b_waits f_waitingJobs g_asked) (gq : zg_qui W f_stopped a_there a_ends b_waits a_active) :
    ∀ (c P k : Nat) (b_fields : Nat → Int32), P + c ≤ 1000000 → k + c ≤ A → zg_due (fun _ => P) M a_there a_kind a_period a_minutes a_hours a_days a_months a_weekdays a_due b_next → zg_run W (fun _ => P) a_there a_ends a_runs b_doing a_active →
      (∀ j, j < 12 → a_there j = 1 → ∀ d, d ≤ 1000000 → a_due j = nI d → P + c < d) → (∀ w, w < W → ∀ e, e ≤ 1000200 → 0 < e → a_ends w = nI e → P + c < e) →
      ∃ fl : Nat → Int32, ∀ (post : Int32 → SY → Prop) (n : Nat), wY_advance_15 post (nI A) n (nI (k + c)) f_workers (nI (P + c)) f_logged f_stopped f_duration f_priority f_overlap f_misfire g_asked b_kind a_lasts a_rank a_overlaps a_makesUp b_next b_period b_sets a_started a_lost a_missed b_missedNow b_waits a_request b_doing a_ends b_history fl → wY_advance_15 post (nI A) (n + c) (nI k) f_workers (nI P) f_logged f_stopped f_duration f_priority f_overlap f_misfire g_asked b_kind a_lasts a_rank a_overlaps a_makesUp b_next b_period b_sets a_started a_lost a_missed b_missedNow b_waits a_request b_doing a_ends b_history b_fields := by
  intro c
  induction c with
  | zero => intro P k b_fields _ _ _ _ _ _; exact ⟨b_fields, fun post n K => K⟩
  | succ c ih =>
    intro P k b_fields hP hk gd gr hd he
    have gd' : zg_due (fun _ => P + 1) M a_there a_kind a_period a_minutes a_hours a_days a_months a_weekdays a_due b_next := fun j hj ht => zd_ups (gd j hj ht) (show P ≤ P + 1 by omega) (show P + 1 ≤ 1000000 by omega) (fun d h1 h2 => by have := hd j hj ht d h1 h2; show P + 1 < d; omega)
    have gr' : zg_run W (fun _ => P + 1) a_there a_ends a_runs b_doing a_active := zg_run_eps gr (fun x hx e h1 h2 h3 => by have := he x hx e h1 (by omega) h2; omega)
    obtain ⟨fl, K⟩ := ih (P + 1) (k + 1) (zk_fl b_fields (P + 1)) (by omega) (by omega) gd' gr' (fun j hj ht d h1 h2 => by have := hd j hj ht d h1 h2; omega) (fun w hw e h1 h2 h3 => by have := he w hw e h1 h2 h3; omega)
    refine ⟨fl, fun post n Q => ?_⟩
    rw [show k + (c + 1) = k + 1 + c by omega, show P + (c + 1) = P + 1 + c by omega] at Q
    refine br_f (nI_ge (by omega) (by omega)) (br_f (nI_ge (b := 1000000) (by omega) (by omega)) ?_)
    refine zr_quiet f_workers f_stopped f_duration f_priority f_overlap f_misfire f_waitingJobs f_logged a_there a_kind a_period a_lasts a_rank a_overlaps a_makesUp a_minutes a_hours a_days a_months a_weekdays a_due a_started a_lost a_missed a_request a_waiting a_runs a_ends a_active g_asked b_kind b_next b_period b_sets b_missedNow b_waits b_doing b_history b_fields (T := P + 1) hW eW rfl (by omega) gj gs gw gd gr gq (fun j hj ht e => by have := hd j hj ht (P + 1) (by omega) e; omega) (fun w hw e => by have := he w hw (P + 1) (by omega) (by omega) e; omega) (nm_r (nI_1 k) (K post n Q))
end
end
section
/-! advance: the loop -/
section
variable (f_workers f_now f_stopped f_duration f_priority f_overlap f_misfire f_waitingJobs f_logged : Int32) (a_there a_kind a_period a_lasts a_rank a_overlaps a_makesUp a_minutes a_hours a_days a_months a_weekdays a_due a_started a_lost a_missed a_sinceStop a_request a_waiting a_slot : Nat → Int32) (a_filled : Nat → Int64) (a_behind a_before a_lies a_runs a_ends a_active a_logJob a_logAt a_logDue : Nat → Int32) (g_asked : Int32) (b_kind b_next b_period b_sets b_missedNow b_waits b_doing b_history b_fields : Nat → Int32)
theorem zr_adv {W A B T0 : Nat} (hW : W ≤ 3) (eW : f_workers = nI W) (hA : A ≤ 30000) (hB : B ≤ 1000000) (hBA : B ≤ T0 + A) (hend : B = T0 + A ∨ B = 1000000) (gj : zg_job a_there a_kind b_kind) (gl : zg_last a_there a_lasts) (gp : zg_per a_there a_kind a_period b_period) (gs : zg_set a_there a_kind a_minutes a_hours a_days a_months a_weekdays b_sets) :
    ∀ (m N P k L : Nat) (f_waitingJobs f_logged : Int32) (a_due a_started a_lost a_missed a_sinceStop a_request a_waiting a_slot : Nat → Int32) (a_filled : Nat → Int64) (a_behind a_before a_lies a_runs a_ends a_active a_logJob a_logAt a_logDue : Nat → Int32) (g_asked : Int32) (b_next b_missedNow b_waits b_doing b_history b_fields : Nat → Int32), B - P ≤ m → N ≤ P → P ≤ B → P = T0 + k → L + 3 * (B - P) < 2 ^ 29 →
      zg_wait a_there a_waiting b_waits f_waitingJobs g_asked → zg_stp f_stopped a_sinceStop b_missedNow → zg_due (fun _ => P) P a_there a_kind a_period a_minutes a_hours a_days a_months a_weekdays a_due b_next → zg_whl N a_there a_due a_lies a_slot a_filled a_behind a_before → zg_run W (fun _ => P) a_there a_ends a_runs b_doing a_active → zg_log L f_logged a_started a_logJob a_logAt a_logDue b_history → zg_qui W f_stopped a_there a_ends b_waits a_active →
      ∃ (wj lg : Int32) (du st lo mi ss rq wx sl : Nat → Int32) (fi : Nat → Int64) (bh bf li rn en ac lj la ld : Nat → Int32) (ak : Int32) (nx mn wy dn hs fl : Nat → Int32) (L' : Nat), L' ≤ L + 3 * (B - P) ∧ zg_wait a_there wx wy wj ak ∧ zg_stp f_stopped ss mn ∧ zg_due (fun _ => B) B a_there a_kind a_period a_minutes a_hours a_days a_months a_weekdays du nx ∧ zg_whl B a_there du li sl fi bh bf ∧ zg_run W (fun _ => B) a_there en rn dn ac ∧ zg_log L' lg st lj la ld hs ∧ zg_qui W f_stopped a_there en wy ac ∧
        (∀ post : Int32 → SX → Prop, post (nI B) (f_workers, nI B, f_stopped, f_duration, f_priority, f_overlap, f_misfire, wj, lg, a_there, a_kind, a_period, a_lasts, a_rank, a_overlaps, a_makesUp, a_minutes, a_hours, a_days, a_months, a_weekdays, du, st, lo, mi, ss, rq, wx, sl, fi, bh, bf, li, rn, en, ac, lj, la, ld) → ∀ n, m + 2 ≤ n → wX_advance_38 post (nI B) n 1 f_workers (nI N) f_stopped f_duration f_priority f_overlap f_misfire f_waitingJobs f_logged a_there a_kind a_period a_lasts a_rank a_overlaps a_makesUp a_minutes a_hours a_days a_months a_weekdays a_due a_started a_lost a_missed a_sinceStop a_request a_waiting a_slot a_filled a_behind a_before a_lies a_runs a_ends a_active a_logJob a_logAt a_logDue) ∧
        (∀ post : Int32 → SY → Prop, post (nI B) (f_workers, nI B, lg, f_stopped, f_duration, f_priority, f_overlap, f_misfire, ak, b_kind, a_lasts, a_rank, a_overlaps, a_makesUp, nx, b_period, b_sets, st, lo, mi, mn, wy, rq, dn, en, hs, fl) → wY_advance_15 post (nI A) (B - P + 1) (nI k) f_workers (nI P) f_logged f_stopped f_duration f_priority f_overlap f_misfire g_asked b_kind a_lasts a_rank a_overlaps a_makesUp b_next b_period b_sets a_started a_lost a_missed b_missedNow b_waits a_request b_doing a_ends b_history b_fields) := by
  intro m
  induction m with
  | zero =>
    intro N P k L f_waitingJobs f_logged a_due a_started a_lost a_missed a_sinceStop a_request a_waiting a_slot a_filled a_behind a_before a_lies a_runs a_ends a_active a_logJob a_logAt a_logDue g_asked b_next b_missedNow b_waits b_doing b_history b_fields hm hNP hPB hPk hL gw gt gd gh gr go gq
    obtain ⟨x, t, hx, hPt, hdt, het, KL⟩ := zr_least f_workers (nI N) f_stopped f_duration f_priority f_overlap f_misfire f_waitingJobs f_logged a_there a_kind a_period a_lasts a_rank a_overlaps a_makesUp a_minutes a_hours a_days a_months a_weekdays a_due a_started a_lost a_missed a_sinceStop a_request a_waiting a_slot a_filled a_behind a_before a_lies a_runs a_ends a_active a_logJob a_logAt a_logDue b_kind b_next b_doing (N := N) (P := P) hW eW hNP (by omega) gj gd gh gr
    rcases Nat.lt_or_ge B t with htB | htB
    · skip
      have hdB : ∀ j, j < 12 → a_there j = 1 → ∀ d, d ≤ 1000000 → a_due j = nI d → P + (B - P) < d := fun j hj ht d h1 h2 => by have := hdt j hj ht d h1 h2; omega
      have heB : ∀ w, w < W → ∀ e, e ≤ 1000200 → 0 < e → a_ends w = nI e → P + (B - P) < e := fun w hw e h1 h2 h3 => by have := het w hw e h1 h2 h3; omega
      obtain ⟨fl, KQ⟩ := zr_quiets f_workers f_stopped f_duration f_priority f_overlap f_misfire f_waitingJobs f_logged a_there a_kind a_period a_lasts a_rank a_overlaps a_makesUp a_minutes a_hours a_days a_months a_weekdays a_due a_started a_lost a_missed a_request a_waiting a_runs a_ends a_active g_asked b_kind b_next b_period b_sets b_missedNow b_waits b_doing b_history (A := A) hW eW hA gj gs gw gq (B - P) P k b_fields (by omega) (by omega) gd gr hdB heB
      obtain ⟨C, WC⟩ := gh.1
      have hdd := zg_dues a_there a_kind a_period a_minutes a_hours a_days a_months a_weekdays a_due a_slot a_filled a_behind a_before a_lies b_kind b_next gj gd gh
      obtain ⟨C1, li1, sl1, fi1, bh1, bf1, W1, m1, m2, KM⟩ := zx_move f_workers (nI N) f_stopped f_duration f_priority f_overlap f_misfire f_waitingJobs f_logged a_there a_kind a_period a_lasts a_rank a_overlaps a_makesUp a_minutes a_hours a_days a_months a_weekdays a_due a_started a_lost a_missed a_sinceStop a_request a_waiting a_slot a_filled a_behind a_before a_lies a_runs a_ends a_active a_logJob a_logAt a_logDue (t := B) (show B < 16777216 by omega) (show N ≤ B by omega) rfl WC (fun j hj hl => by
        obtain ⟨d, d1, d2, d3, d4⟩ := hdd j hj hl
        have hth : a_there j = 1 := by
          rcases gj j hj with z | z
          · exact absurd ((gh.2 j hj).2 (Or.inl z.1)) hl
          · exact z.1
        have := hdt j hj hth d d3 d1
        exact ⟨d, d1, by omega, d3, d4⟩)
      refine ⟨f_waitingJobs, f_logged, a_due, a_started, a_lost, a_missed, a_sinceStop, a_request, a_waiting, sl1, fi1, bh1, bf1, li1, a_runs, a_ends, a_active, a_logJob, a_logAt, a_logDue, g_asked, b_next, b_missedNow, b_waits, b_doing, b_history, fl, L, by omega, gw, gt, fun j hj ht => ?_, ⟨⟨C1, W1⟩, fun j hj => ⟨fun ht d hd e => ?_, fun z => m1 j hj ((gh.2 j hj).2 z)⟩⟩, ?_, go, gq, fun post K n hn => ?_, fun post K => ?_⟩
      · exact zd_M (show P ≤ B by omega) (zd_ups (gd j hj ht) (show P ≤ B by omega) (show B ≤ 1000000 by omega) (fun d h1 h2 => by have := hdt j hj ht d h1 h2; show B < d; omega))
      · have hl := (gh.2 j hj).1 ht d hd e
        have hat := zk_at_lt N d
        exact m2 j hj (by rw [hl]; exact zk_ne (by omega)) d hd e
      · exact zg_run_eps gr (fun w hw e h1 h2 h3 => by have h3' : P < e := h3; have := het w hw e h1 (by omega) h2; show B < e; omega)
      · obtain ⟨n, rfl⟩ : ∃ q, n = q + 1 + 1 := ⟨n - 2, by omega⟩
        have hJ : wX_advance_38 post (nI B) (n + 1) 0 f_workers (nI N) f_stopped f_duration f_priority f_overlap f_misfire f_waitingJobs f_logged a_there a_kind a_period a_lasts a_rank a_overlaps a_makesUp a_minutes a_hours a_days a_months a_weekdays a_due a_started a_lost a_missed a_sinceStop a_request a_waiting a_slot a_filled a_behind a_before a_lies a_runs a_ends a_active a_logJob a_logAt a_logDue := br_t rfl (KM _ K)
        refine KL post (nI B) (n + 1) ?_
        rcases hx with ⟨rfl, -⟩ | ⟨rfl, ht⟩
        · exact br_t zk_neg (br_t rfl hJ)
        · exact br_f (nI_pos (by omega)) (br_t (nI_lt (by omega) (by omega)) (br_t rfl hJ))
      · rw [show B - P + 1 = 1 + (B - P) by omega]
        refine KQ post 1 ?_
        rw [show P + (B - P) = B by omega]
        rcases hend with z | z
        · exact br_t (nI_le (by omega) (by omega)) K
        · exact br_c (fun _ => K) (fun _ => br_t (by rw [z]; exact nI_le (b := 1000000) (Nat.le_refl _) (by omega)) K)
    · omega
  | succ m ih =>
    intro N P k L f_waitingJobs f_logged a_due a_started a_lost a_missed a_sinceStop a_request a_waiting a_slot a_filled a_behind a_before a_lies a_runs a_ends a_active a_logJob a_logAt a_logDue g_asked b_next b_missedNow b_waits b_doing b_history b_fields hm hNP hPB hPk hL gw gt gd gh gr go gq
    obtain ⟨x, t, hx, hPt, hdt, het, KL⟩ := zr_least f_workers (nI N) f_stopped f_duration f_priority f_overlap f_misfire f_waitingJobs f_logged a_there a_kind a_period a_lasts a_rank a_overlaps a_makesUp a_minutes a_hours a_days a_months a_weekdays a_due a_started a_lost a_missed a_sinceStop a_request a_waiting a_slot a_filled a_behind a_before a_lies a_runs a_ends a_active a_logJob a_logAt a_logDue b_kind b_next b_doing (N := N) (P := P) hW eW hNP (by omega) gj gd gh gr
    rcases Nat.lt_or_ge B t with htB | htB
    · skip
      have hdB : ∀ j, j < 12 → a_there j = 1 → ∀ d, d ≤ 1000000 → a_due j = nI d → P + (B - P) < d := fun j hj ht d h1 h2 => by have := hdt j hj ht d h1 h2; omega
      have heB : ∀ w, w < W → ∀ e, e ≤ 1000200 → 0 < e → a_ends w = nI e → P + (B - P) < e := fun w hw e h1 h2 h3 => by have := het w hw e h1 h2 h3; omega
      obtain ⟨fl, KQ⟩ := zr_quiets f_workers f_stopped f_duration f_priority f_overlap f_misfire f_waitingJobs f_logged a_there a_kind a_period a_lasts a_rank a_overlaps a_makesUp a_minutes a_hours a_days a_months a_weekdays a_due a_started a_lost a_missed a_request a_waiting a_runs a_ends a_active g_asked b_kind b_next b_period b_sets b_missedNow b_waits b_doing b_history (A := A) hW eW hA gj gs gw gq (B - P) P k b_fields (by omega) (by omega) gd gr hdB heB
      obtain ⟨C, WC⟩ := gh.1
      have hdd := zg_dues a_there a_kind a_period a_minutes a_hours a_days a_months a_weekdays a_due a_slot a_filled a_behind a_before a_lies b_kind b_next gj gd gh
      obtain ⟨C1, li1, sl1, fi1, bh1, bf1, W1, m1, m2, KM⟩ := zx_move f_workers (nI N) f_stopped f_duration f_priority f_overlap f_misfire f_waitingJobs f_logged a_there a_kind a_period a_lasts a_rank a_overlaps a_makesUp a_minutes a_hours a_days a_months a_weekdays a_due a_started a_lost a_missed a_sinceStop a_request a_waiting a_slot a_filled a_behind a_before a_lies a_runs a_ends a_active a_logJob a_logAt a_logDue (t := B) (show B < 16777216 by omega) (show N ≤ B by omega) rfl WC (fun j hj hl => by
        obtain ⟨d, d1, d2, d3, d4⟩ := hdd j hj hl
        have hth : a_there j = 1 := by
          rcases gj j hj with z | z
          · exact absurd ((gh.2 j hj).2 (Or.inl z.1)) hl
          · exact z.1
        have := hdt j hj hth d d3 d1
        exact ⟨d, d1, by omega, d3, d4⟩)
      refine ⟨f_waitingJobs, f_logged, a_due, a_started, a_lost, a_missed, a_sinceStop, a_request, a_waiting, sl1, fi1, bh1, bf1, li1, a_runs, a_ends, a_active, a_logJob, a_logAt, a_logDue, g_asked, b_next, b_missedNow, b_waits, b_doing, b_history, fl, L, by omega, gw, gt, fun j hj ht => ?_, ⟨⟨C1, W1⟩, fun j hj => ⟨fun ht d hd e => ?_, fun z => m1 j hj ((gh.2 j hj).2 z)⟩⟩, ?_, go, gq, fun post K n hn => ?_, fun post K => ?_⟩
      · exact zd_M (show P ≤ B by omega) (zd_ups (gd j hj ht) (show P ≤ B by omega) (show B ≤ 1000000 by omega) (fun d h1 h2 => by have := hdt j hj ht d h1 h2; show B < d; omega))
      · have hl := (gh.2 j hj).1 ht d hd e
        have hat := zk_at_lt N d
        exact m2 j hj (by rw [hl]; exact zk_ne (by omega)) d hd e
      · exact zg_run_eps gr (fun w hw e h1 h2 h3 => by have h3' : P < e := h3; have := het w hw e h1 (by omega) h2; show B < e; omega)
      · obtain ⟨n, rfl⟩ : ∃ q, n = q + 1 + 1 := ⟨n - 2, by omega⟩
        have hJ : wX_advance_38 post (nI B) (n + 1) 0 f_workers (nI N) f_stopped f_duration f_priority f_overlap f_misfire f_waitingJobs f_logged a_there a_kind a_period a_lasts a_rank a_overlaps a_makesUp a_minutes a_hours a_days a_months a_weekdays a_due a_started a_lost a_missed a_sinceStop a_request a_waiting a_slot a_filled a_behind a_before a_lies a_runs a_ends a_active a_logJob a_logAt a_logDue := br_t rfl (KM _ K)
        refine KL post (nI B) (n + 1) ?_
        rcases hx with ⟨rfl, -⟩ | ⟨rfl, ht⟩
        · exact br_t zk_neg (br_t rfl hJ)
        · exact br_f (nI_pos (by omega)) (br_t (nI_lt (by omega) (by omega)) (br_t rfl hJ))
      · rw [show B - P + 1 = 1 + (B - P) by omega]
        refine KQ post 1 ?_
        rw [show P + (B - P) = B by omega]
        rcases hend with z | z
        · exact br_t (nI_le (by omega) (by omega)) K
        · exact br_c (fun _ => K) (fun _ => br_t (by rw [z]; exact nI_le (b := 1000000) (Nat.le_refl _) (by omega)) K)
    · skip
      have hx' : x = nI t ∧ t ≤ 1000200 := by
        rcases hx with ⟨-, z⟩ | z
        · omega
        · exact z
      obtain ⟨rfl, ht2⟩ := hx'
      obtain ⟨Q, rfl⟩ : ∃ Q, t = Q + 1 := ⟨t - 1, by omega⟩
      obtain ⟨fl0, KQ⟩ := zr_quiets f_workers f_stopped f_duration f_priority f_overlap f_misfire f_waitingJobs f_logged a_there a_kind a_period a_lasts a_rank a_overlaps a_makesUp a_minutes a_hours a_days a_months a_weekdays a_due a_started a_lost a_missed a_request a_waiting a_runs a_ends a_active g_asked b_kind b_next b_period b_sets b_missedNow b_waits b_doing b_history (A := A) hW eW hA gj gs gw gq (Q - P) P k b_fields (by omega) (by omega) gd gr (fun j hj ht d h1 h2 => by have := hdt j hj ht d h1 h2; omega) (fun w hw e h1 h2 h3 => by have := het w hw e h1 h2 h3; omega)
      have gd' : zg_due (fun _ => Q) Q a_there a_kind a_period a_minutes a_hours a_days a_months a_weekdays a_due b_next := fun j hj ht => zd_M (show P ≤ Q by omega) (zd_ups (gd j hj ht) (show P ≤ Q by omega) (show Q ≤ 1000000 by omega) (fun d h1 h2 => by have := hdt j hj ht d h1 h2; show Q < d; omega))
      have gr' : zg_run W (fun _ => Q) a_there a_ends a_runs b_doing a_active := zg_run_eps gr (fun w hw e h1 h2 h3 => by have h3' : P < e := h3; have := het w hw e h1 (by omega) h2; show Q < e; omega)
      obtain ⟨wj0, lg0, du0, st0, lo0, mi0, ss0, rq0, wx0, sl0, fi0, bh0, bf0, li0, rn0, en0, ac0, lj0, la0, ld0, ak0, nx0, mn0, wy0, dn0, hs0, fl0, L0, e1, e2, e3, e4, e5, e6, e7, e8, KX, KY⟩ := zr_event f_workers (nI N) f_stopped f_duration f_priority f_overlap f_misfire f_waitingJobs f_logged a_there a_kind a_period a_lasts a_rank a_overlaps a_makesUp a_minutes a_hours a_days a_months a_weekdays a_due a_started a_lost a_missed a_sinceStop a_request a_waiting a_slot a_filled a_behind a_before a_lies a_runs a_ends a_active a_logJob a_logAt a_logDue g_asked b_kind b_next b_period b_sets b_missedNow b_waits b_doing b_history fl0 (N := N) (P := Q) (T := Q + 1) hW eW (by omega) rfl (by omega) rfl (by omega) gj gl gp gs gw gt gd' gh gr' go
      obtain ⟨wj, lg, du, st, lo, mi, ss, rq, wx, sl, fi, bh, bf, li, rn, en, ac, lj, la, ld, ak, nx, mn, wy, dn, hs, fl, L', i1, i2, i3, i4, i5, i6, i7, i8, IX, IY⟩ := ih (Q + 1) (Q + 1) (k + (Q - P) + 1) L0 wj0 lg0 du0 st0 lo0 mi0 ss0 rq0 wx0 sl0 fi0 bh0 bf0 li0 rn0 en0 ac0 lj0 la0 ld0 ak0 nx0 mn0 wy0 dn0 hs0 fl0 (by omega) (by omega) (by omega) (by omega) (by omega) e2 e3 e4 e5 e6 e7 e8
      refine ⟨wj, lg, du, st, lo, mi, ss, rq, wx, sl, fi, bh, bf, li, rn, en, ac, lj, la, ld, ak, nx, mn, wy, dn, hs, fl, L', by omega, i2, i3, i4, i5, i6, i7, i8, fun post K n hn => ?_, fun post K => ?_⟩
      · obtain ⟨n, rfl⟩ : ∃ q, n = q + 1 := ⟨n - 1, by omega⟩
        exact KL post (nI B) n (br_f (nI_pos (by omega)) (br_f (nI_nlt (by omega) (by omega)) (br_f zk_01 (KX _ (IX post K n (by omega))))))
      · rw [show B - P + 1 = (B - (Q + 1) + 1 + 1) + (Q - P) by omega]
        refine KQ post _ ?_
        rw [show P + (Q - P) = Q by omega]
        exact br_f (nI_ge (by omega) (by omega)) (br_f (nI_ge (b := 1000000) (by omega) (by omega)) (KY _ (nm_r (nI_1 _) (IY post K))))
end
end
section
/-! the relation -/
def zr_G (k W T L : Nat) (f_workers f_now f_stopped f_duration f_priority f_overlap f_misfire f_waitingJobs f_logged : Int32) (a_there a_kind a_period a_lasts a_rank a_overlaps a_makesUp a_minutes a_hours a_days a_months a_weekdays a_due a_started a_lost a_missed a_sinceStop a_request a_waiting a_slot : Nat → Int32) (a_filled : Nat → Int64) (a_behind a_before a_lies a_runs a_ends a_active a_logJob a_logAt a_logDue : Nat → Int32) (g_asked : Int32) (b_kind b_next b_period b_sets b_missedNow b_waits b_doing b_history b_fields : Nat → Int32) : Prop :=
  1 ≤ W ∧ W ≤ 3 ∧ f_workers = nI W ∧ f_now = nI T ∧ T ≤ 1000000 ∧ L ≤ 3 * (T + k) ∧ zg_man f_duration f_priority f_overlap f_misfire ∧ zg_job a_there a_kind b_kind ∧ zg_last a_there a_lasts ∧ zg_per a_there a_kind a_period b_period ∧
  zg_set a_there a_kind a_minutes a_hours a_days a_months a_weekdays b_sets ∧ zg_wait a_there a_waiting b_waits f_waitingJobs g_asked ∧ zg_stp f_stopped a_sinceStop b_missedNow ∧
  zg_due (fun _ => T) T a_there a_kind a_period a_minutes a_hours a_days a_months a_weekdays a_due b_next ∧ zg_whl T a_there a_due a_lies a_slot a_filled a_behind a_before ∧ zg_run W (fun _ => T) a_there a_ends a_runs b_doing a_active ∧
  zg_log L f_logged a_started a_logJob a_logAt a_logDue b_history ∧ zg_qui W f_stopped a_there a_ends b_waits a_active
def i_Rel (k : Nat) (u : SX) (v : SY) : Prop := ∃ (f_workers f_now f_stopped f_duration f_priority f_overlap f_misfire f_waitingJobs f_logged : Int32) (a_there a_kind a_period a_lasts a_rank a_overlaps a_makesUp a_minutes a_hours a_days a_months a_weekdays a_due a_started a_lost a_missed a_sinceStop a_request a_waiting a_slot : Nat → Int32) (a_filled : Nat → Int64) (a_behind a_before a_lies a_runs a_ends a_active a_logJob a_logAt a_logDue : Nat → Int32) (g_asked : Int32) (b_kind b_next b_period b_sets b_missedNow b_waits b_doing b_history b_fields : Nat → Int32), ∃ W T L : Nat, u = (f_workers, f_now, f_stopped, f_duration, f_priority, f_overlap, f_misfire, f_waitingJobs, f_logged, a_there, a_kind, a_period, a_lasts, a_rank, a_overlaps, a_makesUp, a_minutes, a_hours, a_days, a_months, a_weekdays, a_due, a_started, a_lost, a_missed, a_sinceStop, a_request, a_waiting, a_slot, a_filled, a_behind, a_before, a_lies, a_runs, a_ends, a_active, a_logJob, a_logAt, a_logDue) ∧ v = (f_workers, f_now, f_logged, f_stopped, f_duration, f_priority, f_overlap, f_misfire, g_asked, b_kind, a_lasts, a_rank, a_overlaps, a_makesUp, b_next, b_period, b_sets, a_started, a_lost, a_missed, b_missedNow, b_waits, a_request, b_doing, a_ends, b_history, b_fields) ∧ zr_G k W T L f_workers f_now f_stopped f_duration f_priority f_overlap f_misfire f_waitingJobs f_logged a_there a_kind a_period a_lasts a_rank a_overlaps a_makesUp a_minutes a_hours a_days a_months a_weekdays a_due a_started a_lost a_missed a_sinceStop a_request a_waiting a_slot a_filled a_behind a_before a_lies a_runs a_ends a_active a_logJob a_logAt a_logDue g_asked b_kind b_next b_period b_sets b_missedNow b_waits b_doing b_history b_fields
theorem zr_in {k W T L : Nat} {f_workers f_now f_stopped f_duration f_priority f_overlap f_misfire f_waitingJobs f_logged : Int32} {a_there a_kind a_period a_lasts a_rank a_overlaps a_makesUp a_minutes a_hours a_days a_months a_weekdays a_due a_started a_lost a_missed a_sinceStop a_request a_waiting a_slot : Nat → Int32} {a_filled : Nat → Int64} {a_behind a_before a_lies a_runs a_ends a_active a_logJob a_logAt a_logDue : Nat → Int32} {g_asked : Int32} {b_kind b_next b_period b_sets b_missedNow b_waits b_doing b_history b_fields : Nat → Int32} (g : zr_G k W T L f_workers f_now f_stopped f_duration f_priority f_overlap f_misfire f_waitingJobs f_logged a_there a_kind a_period a_lasts a_rank a_overlaps a_makesUp a_minutes a_hours a_days a_months a_weekdays a_due a_started a_lost a_missed a_sinceStop a_request a_waiting a_slot a_filled a_behind a_before a_lies a_runs a_ends a_active a_logJob a_logAt a_logDue g_asked b_kind b_next b_period b_sets b_missedNow b_waits b_doing b_history b_fields) : i_Rel k (f_workers, f_now, f_stopped, f_duration, f_priority, f_overlap, f_misfire, f_waitingJobs, f_logged, a_there, a_kind, a_period, a_lasts, a_rank, a_overlaps, a_makesUp, a_minutes, a_hours, a_days, a_months, a_weekdays, a_due, a_started, a_lost, a_missed, a_sinceStop, a_request, a_waiting, a_slot, a_filled, a_behind, a_before, a_lies, a_runs, a_ends, a_active, a_logJob, a_logAt, a_logDue) (f_workers, f_now, f_logged, f_stopped, f_duration, f_priority, f_overlap, f_misfire, g_asked, b_kind, a_lasts, a_rank, a_overlaps, a_makesUp, b_next, b_period, b_sets, a_started, a_lost, a_missed, b_missedNow, b_waits, a_request, b_doing, a_ends, b_history, b_fields) := ⟨f_workers, f_now, f_stopped, f_duration, f_priority, f_overlap, f_misfire, f_waitingJobs, f_logged, a_there, a_kind, a_period, a_lasts, a_rank, a_overlaps, a_makesUp, a_minutes, a_hours, a_days, a_months, a_weekdays, a_due, a_started, a_lost, a_missed, a_sinceStop, a_request, a_waiting, a_slot, a_filled, a_behind, a_before, a_lies, a_runs, a_ends, a_active, a_logJob, a_logAt, a_logDue, g_asked, b_kind, b_next, b_period, b_sets, b_missedNow, b_waits, b_doing, b_history, b_fields, W, T, L, rfl, rfl, g⟩
theorem zr_el {k : Nat} {u : SX} {v : SY} {Q : SX → SY → Prop} (h : ∀ (W T L : Nat) (f_workers f_now f_stopped f_duration f_priority f_overlap f_misfire f_waitingJobs f_logged : Int32) (a_there a_kind a_period a_lasts a_rank a_overlaps a_makesUp a_minutes a_hours a_days a_months a_weekdays a_due a_started a_lost a_missed a_sinceStop a_request a_waiting a_slot : Nat → Int32) (a_filled : Nat → Int64) (a_behind a_before a_lies a_runs a_ends a_active a_logJob a_logAt a_logDue : Nat → Int32) (g_asked : Int32) (b_kind b_next b_period b_sets b_missedNow b_waits b_doing b_history b_fields : Nat → Int32), zr_G k W T L f_workers f_now f_stopped f_duration f_priority f_overlap f_misfire f_waitingJobs f_logged a_there a_kind a_period a_lasts a_rank a_overlaps a_makesUp a_minutes a_hours a_days a_months a_weekdays a_due a_started a_lost a_missed a_sinceStop a_request a_waiting a_slot a_filled a_behind a_before a_lies a_runs a_ends a_active a_logJob a_logAt a_logDue g_asked b_kind b_next b_period b_sets b_missedNow b_waits b_doing b_history b_fields → Q (f_workers, f_now, f_stopped, f_duration, f_priority, f_overlap, f_misfire, f_waitingJobs, f_logged, a_there, a_kind, a_period, a_lasts, a_rank, a_overlaps, a_makesUp, a_minutes, a_hours, a_days, a_months, a_weekdays, a_due, a_started, a_lost, a_missed, a_sinceStop, a_request, a_waiting, a_slot, a_filled, a_behind, a_before, a_lies, a_runs, a_ends, a_active, a_logJob, a_logAt, a_logDue) (f_workers, f_now, f_logged, f_stopped, f_duration, f_priority, f_overlap, f_misfire, g_asked, b_kind, a_lasts, a_rank, a_overlaps, a_makesUp, b_next, b_period, b_sets, a_started, a_lost, a_missed, b_missedNow, b_waits, a_request, b_doing, a_ends, b_history, b_fields)) (I : i_Rel k u v) : Q u v :=
  Exists.elim I fun f_workers I => Exists.elim I fun f_now I => Exists.elim I fun f_stopped I => Exists.elim I fun f_duration I => Exists.elim I fun f_priority I => Exists.elim I fun f_overlap I => Exists.elim I fun f_misfire I => Exists.elim I fun f_waitingJobs I => Exists.elim I fun f_logged I => Exists.elim I fun a_there I => Exists.elim I fun a_kind I => Exists.elim I fun a_period I => Exists.elim I fun a_lasts I => Exists.elim I fun a_rank I => Exists.elim I fun a_overlaps I => Exists.elim I fun a_makesUp I => Exists.elim I fun a_minutes I => Exists.elim I fun a_hours I => Exists.elim I fun a_days I => Exists.elim I fun a_months I => Exists.elim I fun a_weekdays I => Exists.elim I fun a_due I => Exists.elim I fun a_started I => Exists.elim I fun a_lost I => Exists.elim I fun a_missed I => Exists.elim I fun a_sinceStop I => Exists.elim I fun a_request I => Exists.elim I fun a_waiting I => Exists.elim I fun a_slot I => Exists.elim I fun a_filled I => Exists.elim I fun a_behind I => Exists.elim I fun a_before I => Exists.elim I fun a_lies I => Exists.elim I fun a_runs I => Exists.elim I fun a_ends I => Exists.elim I fun a_active I => Exists.elim I fun a_logJob I => Exists.elim I fun a_logAt I => Exists.elim I fun a_logDue I => Exists.elim I fun g_asked I => Exists.elim I fun b_kind I => Exists.elim I fun b_next I => Exists.elim I fun b_period I => Exists.elim I fun b_sets I => Exists.elim I fun b_missedNow I => Exists.elim I fun b_waits I => Exists.elim I fun b_doing I => Exists.elim I fun b_history I => Exists.elim I fun b_fields I => Exists.elim I fun W I => Exists.elim I fun T I => Exists.elim I fun L I => by
    obtain ⟨rfl, rfl, g⟩ := I
    exact h W T L f_workers f_now f_stopped f_duration f_priority f_overlap f_misfire f_waitingJobs f_logged a_there a_kind a_period a_lasts a_rank a_overlaps a_makesUp a_minutes a_hours a_days a_months a_weekdays a_due a_started a_lost a_missed a_sinceStop a_request a_waiting a_slot a_filled a_behind a_before a_lies a_runs a_ends a_active a_logJob a_logAt a_logDue g_asked b_kind b_next b_period b_sets b_missedNow b_waits b_doing b_history b_fields g
theorem zr_G_up {k k' W T L : Nat} {f_workers f_now f_stopped f_duration f_priority f_overlap f_misfire f_waitingJobs f_logged : Int32} {a_there a_kind a_period a_lasts a_rank a_overlaps a_makesUp a_minutes a_hours a_days a_months a_weekdays a_due a_started a_lost a_missed a_sinceStop a_request a_waiting a_slot : Nat → Int32} {a_filled : Nat → Int64} {a_behind a_before a_lies a_runs a_ends a_active a_logJob a_logAt a_logDue : Nat → Int32} {g_asked : Int32} {b_kind b_next b_period b_sets b_missedNow b_waits b_doing b_history b_fields : Nat → Int32} (hk : k ≤ k') (g : zr_G k W T L f_workers f_now f_stopped f_duration f_priority f_overlap f_misfire f_waitingJobs f_logged a_there a_kind a_period a_lasts a_rank a_overlaps a_makesUp a_minutes a_hours a_days a_months a_weekdays a_due a_started a_lost a_missed a_sinceStop a_request a_waiting a_slot a_filled a_behind a_before a_lies a_runs a_ends a_active a_logJob a_logAt a_logDue g_asked b_kind b_next b_period b_sets b_missedNow b_waits b_doing b_history b_fields) : zr_G k' W T L f_workers f_now f_stopped f_duration f_priority f_overlap f_misfire f_waitingJobs f_logged a_there a_kind a_period a_lasts a_rank a_overlaps a_makesUp a_minutes a_hours a_days a_months a_weekdays a_due a_started a_lost a_missed a_sinceStop a_request a_waiting a_slot a_filled a_behind a_before a_lies a_runs a_ends a_active a_logJob a_logAt a_logDue g_asked b_kind b_next b_period b_sets b_missedNow b_waits b_doing b_history b_fields := by
  obtain ⟨h1, h2, h3, h4, h5, h6, h7⟩ := g
  exact ⟨h1, h2, h3, h4, h5, by omega, h7⟩
theorem i_up {k : Nat} {u : SX} {v : SY} (h : i_Rel k u v) : i_Rel (k + 6) u v :=
  zr_el (Q := fun u v => i_Rel (k + 6) u v) (fun W T L f_workers f_now f_stopped f_duration f_priority f_overlap f_misfire f_waitingJobs f_logged a_there a_kind a_period a_lasts a_rank a_overlaps a_makesUp a_minutes a_hours a_days a_months a_weekdays a_due a_started a_lost a_missed a_sinceStop a_request a_waiting a_slot a_filled a_behind a_before a_lies a_runs a_ends a_active a_logJob a_logAt a_logDue g_asked b_kind b_next b_period b_sets b_missedNow b_waits b_doing b_history b_fields g => zr_in (zr_G_up (by omega) g)) h
end
section
/-! manner, stop, about, run, state, nextEnd -/
theorem zx_out {post : Int32 → Prop} {x a b : Int32} (h1 : a ≤ x → x ≤ b → post 0) (h2 : ¬ (a ≤ x ∧ x ≤ b) → post 1) : wpX_outside post x a b := by
  unfold wpX_outside wX_outside_10
  exact br_c (fun p => br_c (fun q => ⟨rfl, h1 p q⟩) (fun q => ⟨rfl, h2 (fun z => q z.2)⟩)) (fun p => br_c (fun q => ⟨rfl, h2 (fun z => p z.1)⟩) (fun q => ⟨rfl, h2 (fun z => p z.1)⟩))
theorem zy_wit {post : Int32 → Prop} {x a b : Int32} (h1 : a ≤ x → x ≤ b → post 1) (h2 : ¬ (a ≤ x ∧ x ≤ b) → post 0) : wpY_within post x a b := by
  unfold wpY_within
  exact br_c (fun p => h2 (fun z => Int32.not_lt.mpr z.1 p)) (fun p => br_c (fun q => h2 (fun z => Int32.not_lt.mpr z.2 q)) (fun q => h1 (Int32.not_lt.mp p) (Int32.not_lt.mp q)))
/-- an int between two naturals -/
theorem zk_rg {x a b : Int32} {m n : Nat} (ha : a = nI m) (hb : b = nI n) (hm : m < 2 ^ 31) (hn : n < 2 ^ 31) (h1 : a ≤ x) (h2 : x ≤ b) : ∃ q, m ≤ q ∧ q ≤ n ∧ x = nI q := by
  subst ha hb
  have h0 : ¬ x < 0 := Int32.not_lt.mpr (Int32.le_trans (nI_pos' hm) h1)
  obtain ⟨j, hj, rfl⟩ := nI_of h0
  exact ⟨j, (nI_leI hm hj).mp h1, (nI_leI hj hn).mp h2, rfl⟩
def zk_mn (a b c d : Int32) : Prop := ((1 : Int32) ≤ a ∧ a ≤ 200) ∧ ((0 : Int32) ≤ b ∧ b ≤ 9) ∧ ((0 : Int32) ≤ c ∧ c ≤ 1) ∧ ((0 : Int32) ≤ d ∧ d ≤ 2)
section
variable {f_workers f_now f_stopped f_duration f_priority f_overlap f_misfire f_waitingJobs f_logged : Int32} {a_there a_kind a_period a_lasts a_rank a_overlaps a_makesUp a_minutes a_hours a_days a_months a_weekdays a_due a_started a_lost a_missed a_sinceStop a_request a_waiting a_slot : Nat → Int32} {a_filled : Nat → Int64} {a_behind a_before a_lies a_runs a_ends a_active a_logJob a_logAt a_logDue : Nat → Int32} {g_asked : Int32} {b_kind b_next b_period b_sets b_missedNow b_waits b_doing b_history b_fields : Nat → Int32}
theorem zx_mann_t {post : Int32 → SX → Prop} {a b c d : Int32} (h : zk_mn a b c d) (K : post 1 (f_workers, f_now, f_stopped, a, b, c, d, f_waitingJobs, f_logged, a_there, a_kind, a_period, a_lasts, a_rank, a_overlaps, a_makesUp, a_minutes, a_hours, a_days, a_months, a_weekdays, a_due, a_started, a_lost, a_missed, a_sinceStop, a_request, a_waiting, a_slot, a_filled, a_behind, a_before, a_lies, a_runs, a_ends, a_active, a_logJob, a_logAt, a_logDue)) : wpX_manner post (f_workers, f_now, f_stopped, f_duration, f_priority, f_overlap, f_misfire, f_waitingJobs, f_logged, a_there, a_kind, a_period, a_lasts, a_rank, a_overlaps, a_makesUp, a_minutes, a_hours, a_days, a_months, a_weekdays, a_due, a_started, a_lost, a_missed, a_sinceStop, a_request, a_waiting, a_slot, a_filled, a_behind, a_before, a_lies, a_runs, a_ends, a_active, a_logJob, a_logAt, a_logDue) a b c d := by
  obtain ⟨h1, h2, h3, h4⟩ := h
  unfold wpX_manner
  exact zx_out (fun _ _ => br_t rfl (zx_out (fun _ _ => br_t rfl (zx_out (fun _ _ => br_t rfl (zx_out (fun _ _ => br_t rfl K) (fun z => absurd h4 z))) (fun z => absurd h3 z))) (fun z => absurd h2 z))) (fun z => absurd h1 z)
theorem zx_mann_f {post : Int32 → SX → Prop} {a b c d : Int32} (h : ¬ zk_mn a b c d) (K : post 0 (f_workers, f_now, f_stopped, f_duration, f_priority, f_overlap, f_misfire, f_waitingJobs, f_logged, a_there, a_kind, a_period, a_lasts, a_rank, a_overlaps, a_makesUp, a_minutes, a_hours, a_days, a_months, a_weekdays, a_due, a_started, a_lost, a_missed, a_sinceStop, a_request, a_waiting, a_slot, a_filled, a_behind, a_before, a_lies, a_runs, a_ends, a_active, a_logJob, a_logAt, a_logDue)) : wpX_manner post (f_workers, f_now, f_stopped, f_duration, f_priority, f_overlap, f_misfire, f_waitingJobs, f_logged, a_there, a_kind, a_period, a_lasts, a_rank, a_overlaps, a_makesUp, a_minutes, a_hours, a_days, a_months, a_weekdays, a_due, a_started, a_lost, a_missed, a_sinceStop, a_request, a_waiting, a_slot, a_filled, a_behind, a_before, a_lies, a_runs, a_ends, a_active, a_logJob, a_logAt, a_logDue) a b c d := by
  unfold wpX_manner
  exact zx_out (fun p1 q1 => br_t rfl (zx_out (fun p2 q2 => br_t rfl (zx_out (fun p3 q3 => br_t rfl (zx_out (fun p4 q4 => absurd ⟨⟨p1, q1⟩, ⟨p2, q2⟩, ⟨p3, q3⟩, ⟨p4, q4⟩⟩ h) (fun _ => br_f zk_01 K))) (fun _ => br_f zk_01 K))) (fun _ => br_f zk_01 K))) (fun _ => br_f zk_01 K)
theorem zy_mann_t {post : Int32 → SY → Prop} {a b c d : Int32} (h : zk_mn a b c d) (K : post 1 (f_workers, f_now, f_logged, f_stopped, a, b, c, d, g_asked, b_kind, a_lasts, a_rank, a_overlaps, a_makesUp, b_next, b_period, b_sets, a_started, a_lost, a_missed, b_missedNow, b_waits, a_request, b_doing, a_ends, b_history, b_fields)) : wpY_manner post (f_workers, f_now, f_logged, f_stopped, f_duration, f_priority, f_overlap, f_misfire, g_asked, b_kind, a_lasts, a_rank, a_overlaps, a_makesUp, b_next, b_period, b_sets, a_started, a_lost, a_missed, b_missedNow, b_waits, a_request, b_doing, a_ends, b_history, b_fields) a b c d := by
  obtain ⟨h1, h2, h3, h4⟩ := h
  unfold wpY_manner
  exact zy_wit (fun _ _ => br_f zk_01 (zy_wit (fun _ _ => br_f zk_01 (zy_wit (fun _ _ => br_f zk_01 (zy_wit (fun _ _ => br_f zk_01 K) (fun z => absurd h4 z))) (fun z => absurd h3 z))) (fun z => absurd h2 z))) (fun z => absurd h1 z)
theorem zy_mann_f {post : Int32 → SY → Prop} {a b c d : Int32} (h : ¬ zk_mn a b c d) (K : post 0 (f_workers, f_now, f_logged, f_stopped, f_duration, f_priority, f_overlap, f_misfire, g_asked, b_kind, a_lasts, a_rank, a_overlaps, a_makesUp, b_next, b_period, b_sets, a_started, a_lost, a_missed, b_missedNow, b_waits, a_request, b_doing, a_ends, b_history, b_fields)) : wpY_manner post (f_workers, f_now, f_logged, f_stopped, f_duration, f_priority, f_overlap, f_misfire, g_asked, b_kind, a_lasts, a_rank, a_overlaps, a_makesUp, b_next, b_period, b_sets, a_started, a_lost, a_missed, b_missedNow, b_waits, a_request, b_doing, a_ends, b_history, b_fields) a b c d := by
  unfold wpY_manner
  exact zy_wit (fun p1 q1 => br_f zk_01 (zy_wit (fun p2 q2 => br_f zk_01 (zy_wit (fun p3 q3 => br_f zk_01 (zy_wit (fun p4 q4 => absurd ⟨⟨p1, q1⟩, ⟨p2, q2⟩, ⟨p3, q3⟩, ⟨p4, q4⟩⟩ h) (fun _ => br_t rfl K))) (fun _ => br_t rfl K))) (fun _ => br_t rfl K))) (fun _ => br_t rfl K)
end
theorem i_vc_manner {k : Nat} {u : SX} {v : SY} (I : i_Rel k u v) (hk : k + 6 ≤ 3073) (v1 : Int32) (v2 : Int32) (v3 : Int32) (v4 : Int32) : wpX_manner (fun r u' => wpY_manner (fun r' v' => r' = r ∧ i_Rel (k + 6) u' v') v v1 v2 v3 v4) u v1 v2 v3 v4 := by
  refine zr_el (Q := fun u v => wpX_manner (fun r u' => wpY_manner (fun r' v' => r' = r ∧ i_Rel (k + 6) u' v') v v1 v2 v3 v4) u v1 v2 v3 v4) ?_ I
  intro W T L f_workers f_now f_stopped f_duration f_priority f_overlap f_misfire f_waitingJobs f_logged a_there a_kind a_period a_lasts a_rank a_overlaps a_makesUp a_minutes a_hours a_days a_months a_weekdays a_due a_started a_lost a_missed a_sinceStop a_request a_waiting a_slot a_filled a_behind a_before a_lies a_runs a_ends a_active a_logJob a_logAt a_logDue g_asked b_kind b_next b_period b_sets b_missedNow b_waits b_doing b_history b_fields g
  by_cases h : zk_mn v1 v2 v3 v4
  · refine zx_mann_t h (zy_mann_t h ⟨rfl, zr_in (W := W) (T := T) (L := L) ?_⟩)
    obtain ⟨⟨p1, q1⟩, ⟨p2, q2⟩, ⟨p3, q3⟩, ⟨p4, q4⟩⟩ := h
    obtain ⟨h1, h2, h3, h4, h5, h6, -, h7⟩ := g
    obtain ⟨a, a1, a2, a3⟩ := zk_rg (m := 1) (n := 200) rfl rfl (by omega) (by omega) p1 q1
    obtain ⟨b, b1, b2, b3⟩ := zk_rg (m := 0) (n := 9) rfl rfl (by omega) (by omega) p2 q2
    obtain ⟨c, c1, c2, c3⟩ := zk_rg (m := 0) (n := 1) rfl rfl (by omega) (by omega) p3 q3
    obtain ⟨d, d1, d2, d3⟩ := zk_rg (m := 0) (n := 2) rfl rfl (by omega) (by omega) p4 q4
    refine ⟨h1, h2, h3, h4, h5, by omega, ⟨⟨a, a1, a2, a3⟩, ⟨b, b2, b3⟩, ?_, ⟨d, d2, d3⟩⟩, h7⟩
    have : c = 0 ∨ c = 1 := by omega
    rcases this with z | z
    · left; rw [c3, z]; rfl
    · right; rw [c3, z]; rfl
  · exact zx_mann_f h (zy_mann_f h ⟨rfl, zr_in (zr_G_up (by omega) g)⟩)
def zk_z12 (f : Nat → Int32) (j : Nat) : Nat → Int32 := fun i => if i < j then 0 else f i
theorem zk_z0 (f : Nat → Int32) : zk_z12 f 0 = f := by funext i; unfold zk_z12; rw [if_neg (by omega)]
theorem zk_zs (f : Nat → Int32) (j : Nat) : upd (zk_z12 f j) j 0 = zk_z12 f (j + 1) := by
  funext i
  by_cases e : i = j
  · subst e; rw [pk_us]; unfold zk_z12; rw [if_pos (by omega)]
  · rw [pk_un e]; unfold zk_z12
    by_cases z : i < j
    · rw [if_pos z, if_pos (by omega)]
    · rw [if_neg z, if_neg (by omega)]
section
variable {f_workers f_now f_stopped f_duration f_priority f_overlap f_misfire f_waitingJobs f_logged : Int32} {a_there a_kind a_period a_lasts a_rank a_overlaps a_makesUp a_minutes a_hours a_days a_months a_weekdays a_due a_started a_lost a_missed a_sinceStop a_request a_waiting a_slot : Nat → Int32} {a_filled : Nat → Int64} {a_behind a_before a_lies a_runs a_ends a_active a_logJob a_logAt a_logDue : Nat → Int32} {g_asked : Int32} {b_kind b_next b_period b_sets b_missedNow b_waits b_doing b_history b_fields : Nat → Int32}
theorem zx_stop16 {post : Int32 → SX → Prop} (K : post 1 (f_workers, f_now, f_stopped, f_duration, f_priority, f_overlap, f_misfire, f_waitingJobs, f_logged, a_there, a_kind, a_period, a_lasts, a_rank, a_overlaps, a_makesUp, a_minutes, a_hours, a_days, a_months, a_weekdays, a_due, a_started, a_lost, a_missed, zk_z12 a_sinceStop 12, a_request, a_waiting, a_slot, a_filled, a_behind, a_before, a_lies, a_runs, a_ends, a_active, a_logJob, a_logAt, a_logDue)) : ∀ n j, j + n = 12 → wX_stop_16 post f_workers f_now f_stopped f_duration f_priority f_overlap f_misfire f_waitingJobs f_logged (n + 1) (nI j) a_there a_kind a_period a_lasts a_rank a_overlaps a_makesUp a_minutes a_hours a_days a_months a_weekdays a_due a_started a_lost a_missed (zk_z12 a_sinceStop j) a_request a_waiting a_slot a_filled a_behind a_before a_lies a_runs a_ends a_active a_logJob a_logAt a_logDue := by
  intro n
  induction n with
  | zero =>
    intro j hj
    rw [show j = 12 by omega]
    exact br_t (show (12 : Int32) ≤ nI 12 by decide) K
  | succ n ih =>
    intro j hj
    refine br_f (nI_ge (b := 12) (by omega) (by omega)) ⟨vp_in_nI (by omega) (by omega), nm_r ?_ (nm_r (nI_1 j) (ih (j + 1) (by omega)))⟩
    rw [nI_clamp (by omega), zk_zs]
theorem zy_stop16 {post : Int32 → SY → Prop} (K : post 1 (f_workers, f_now, f_logged, f_stopped, f_duration, f_priority, f_overlap, f_misfire, g_asked, b_kind, a_lasts, a_rank, a_overlaps, a_makesUp, b_next, b_period, b_sets, a_started, a_lost, a_missed, zk_z12 b_missedNow 12, b_waits, a_request, b_doing, a_ends, b_history, b_fields)) : ∀ n j, j + n = 12 → wY_stop_16 post f_workers f_now f_logged f_stopped f_duration f_priority f_overlap f_misfire g_asked (n + 1) (nI j) b_kind a_lasts a_rank a_overlaps a_makesUp b_next b_period b_sets a_started a_lost a_missed (zk_z12 b_missedNow j) b_waits a_request b_doing a_ends b_history b_fields := by
  intro n
  induction n with
  | zero =>
    intro j hj
    rw [show j = 12 by omega]
    exact br_t (show (12 : Int32) ≤ nI 12 by decide) K
  | succ n ih =>
    intro j hj
    refine br_f (nI_ge (b := 12) (by omega) (by omega)) ⟨vp_in_nI (by omega) (by omega), nm_r ?_ (nm_r (nI_1 j) (ih (j + 1) (by omega)))⟩
    rw [nI_clamp (by omega), zk_zs]
end
theorem i_vc_stop {k : Nat} {u : SX} {v : SY} (I : i_Rel k u v) (hk : k + 6 ≤ 3073) : wpX_stop (fun r u' => wpY_stop (fun r' v' => r' = r ∧ i_Rel (k + 6) u' v') v) u := by
  refine zr_el (Q := fun u v => wpX_stop (fun r u' => wpY_stop (fun r' v' => r' = r ∧ i_Rel (k + 6) u' v') v) u) ?_ I
  intro W T L f_workers f_now f_stopped f_duration f_priority f_overlap f_misfire f_waitingJobs f_logged a_there a_kind a_period a_lasts a_rank a_overlaps a_makesUp a_minutes a_hours a_days a_months a_weekdays a_due a_started a_lost a_missed a_sinceStop a_request a_waiting a_slot a_filled a_behind a_before a_lies a_runs a_ends a_active a_logJob a_logAt a_logDue g_asked b_kind b_next b_period b_sets b_missedNow b_waits b_doing b_history b_fields g
  by_cases hs : f_stopped = 0
  · refine br_t hs ⟨13, ?_⟩
    rw [← zk_z0 a_sinceStop]
    refine zx_stop16 (br_t hs ⟨13, ?_⟩) 12 0 (by omega)
    rw [← zk_z0 b_missedNow]
    refine zy_stop16 ⟨rfl, zr_in (W := W) (T := T) (L := L) ?_⟩ 12 0 (by omega)
    obtain ⟨h1, h2, h3, h4, h5, h6, h7, h8, h9, h10, h11, h12, h13, h14, h15, h16, h17, h18⟩ := g
    refine ⟨h1, h2, h3, h4, h5, by omega, h7, h8, h9, h10, h11, h12, ⟨Or.inr rfl, fun _ j hj => ?_⟩, h14, h15, h16, h17, fun z => absurd z zk_01⟩
    unfold zk_z12
    rw [if_pos hj, if_pos hj]
  · exact br_f hs (br_f hs ⟨rfl, zr_in (zr_G_up (by omega) g)⟩)
section
variable (f_workers f_now f_stopped f_duration f_priority f_overlap f_misfire f_waitingJobs f_logged : Int32) (a_there a_kind a_period a_lasts a_rank a_overlaps a_makesUp a_minutes a_hours a_days a_months a_weekdays a_due a_started a_lost a_missed a_sinceStop a_request a_waiting a_slot : Nat → Int32) (a_filled : Nat → Int64) (a_behind a_before a_lies a_runs a_ends a_active a_logJob a_logAt a_logDue : Nat → Int32) (g_asked : Int32) (b_kind b_next b_period b_sets b_missedNow b_waits b_doing b_history b_fields : Nat → Int32)
theorem zr_isJob (gj : zg_job a_there a_kind b_kind) (p0 : Int32) : (∃ j, j < 12 ∧ p0 = nI j ∧ a_there j = 1 ∧ (∀ post : Int32 → Prop, post 1 → wpX_isJob post (f_workers, f_now, f_stopped, f_duration, f_priority, f_overlap, f_misfire, f_waitingJobs, f_logged, a_there, a_kind, a_period, a_lasts, a_rank, a_overlaps, a_makesUp, a_minutes, a_hours, a_days, a_months, a_weekdays, a_due, a_started, a_lost, a_missed, a_sinceStop, a_request, a_waiting, a_slot, a_filled, a_behind, a_before, a_lies, a_runs, a_ends, a_active, a_logJob, a_logAt, a_logDue) p0) ∧ (∀ post : Int32 → Prop, post 1 → wpY_isJob post (f_workers, f_now, f_logged, f_stopped, f_duration, f_priority, f_overlap, f_misfire, g_asked, b_kind, a_lasts, a_rank, a_overlaps, a_makesUp, b_next, b_period, b_sets, a_started, a_lost, a_missed, b_missedNow, b_waits, a_request, b_doing, a_ends, b_history, b_fields) p0)) ∨ ((∀ post : Int32 → Prop, post 0 → wpX_isJob post (f_workers, f_now, f_stopped, f_duration, f_priority, f_overlap, f_misfire, f_waitingJobs, f_logged, a_there, a_kind, a_period, a_lasts, a_rank, a_overlaps, a_makesUp, a_minutes, a_hours, a_days, a_months, a_weekdays, a_due, a_started, a_lost, a_missed, a_sinceStop, a_request, a_waiting, a_slot, a_filled, a_behind, a_before, a_lies, a_runs, a_ends, a_active, a_logJob, a_logAt, a_logDue) p0) ∧ (∀ post : Int32 → Prop, post 0 → wpY_isJob post (f_workers, f_now, f_logged, f_stopped, f_duration, f_priority, f_overlap, f_misfire, g_asked, b_kind, a_lasts, a_rank, a_overlaps, a_makesUp, b_next, b_period, b_sets, a_started, a_lost, a_missed, b_missedNow, b_waits, a_request, b_doing, a_ends, b_history, b_fields) p0)) := by
  have out : ¬ ((0 : Int32) ≤ p0 ∧ p0 ≤ 11) → (∀ post : Int32 → Prop, post 0 → wpX_isJob post (f_workers, f_now, f_stopped, f_duration, f_priority, f_overlap, f_misfire, f_waitingJobs, f_logged, a_there, a_kind, a_period, a_lasts, a_rank, a_overlaps, a_makesUp, a_minutes, a_hours, a_days, a_months, a_weekdays, a_due, a_started, a_lost, a_missed, a_sinceStop, a_request, a_waiting, a_slot, a_filled, a_behind, a_before, a_lies, a_runs, a_ends, a_active, a_logJob, a_logAt, a_logDue) p0) := fun h post K => by
    unfold wpX_isJob
    exact zx_out (fun a b => absurd ⟨a, b⟩ h) (fun _ => br_f zk_01 K)
  rcases pk_ix p0 (n := 12) (by omega) with z | z | ⟨j, hj, rfl⟩
  · refine Or.inr ⟨out (fun y => Int32.not_lt.mpr y.1 z), fun post K => ?_⟩
    unfold wpY_isJob
    exact br_t z K
  · refine Or.inr ⟨out (fun y => ?_), fun post K => ?_⟩
    · exact (show ¬ nI 12 ≤ nI 11 from nI_ge (by omega) (by omega)) (Int32.le_trans z y.2)
    · unfold wpY_isJob
      exact br_f (fun y => Int32.not_lt.mpr (Int32.le_trans (show (0 : Int32) ≤ nI 12 by decide) z) y) (br_t z K)
  · have hin : vp_in (nI j) 12 := vp_in_nI hj (by omega)
    have cj : (nI j).toNatClampNeg = j := nI_clamp (by omega)
    have rg : ¬ ¬ ((0 : Int32) ≤ nI j ∧ nI j ≤ 11) := fun y => y ⟨nI_pos' (by omega), nI_le (b := 11) (by omega) (by omega)⟩
    rcases gj j hj with ⟨h0, hk⟩ | ⟨h1, hk, hk4⟩
    · refine Or.inr ⟨fun post K => ?_, fun post K => ?_⟩
      · unfold wpX_isJob
        exact zx_out (fun _ _ => br_t rfl ⟨hin, br_t (by rw [cj]; exact h0) K⟩) (fun y => absurd y rg)
      · unfold wpY_isJob
        exact br_f (nI_pos (by omega)) (br_f (nI_ge (b := 12) hj (by omega)) ⟨hin, br_t (by rw [cj, hk]; exact zk_neg) K⟩)
    · refine Or.inl ⟨j, hj, rfl, h1, fun post K => ?_, fun post K => ?_⟩
      · unfold wpX_isJob
        exact zx_out (fun _ _ => br_t rfl ⟨hin, br_f (by rw [cj, h1]; exact zk_01) K⟩) (fun y => absurd y rg)
      · unfold wpY_isJob
        refine br_f (nI_pos (by omega)) (br_f (nI_ge (b := 12) hj (by omega)) ⟨hin, br_f ?_ K⟩)
        rw [cj, hk]
        rcases hk4 with z | z | z | z <;> rw [z] <;> decide
end
theorem i_vc_about {k : Nat} {u : SX} {v : SY} (I : i_Rel k u v) (hk : k + 6 ≤ 3073) (v1 : Int32) (v2 : Int32) : wpX_about (fun r => wpY_about (fun r' => r' = r ∧ i_Rel (k + 6) u v) v v1 v2) u v1 v2 := by
  have I' := i_up I
  refine zr_el (Q := fun u v => i_Rel (k + 6) u v → wpX_about (fun r => wpY_about (fun r' => r' = r ∧ i_Rel (k + 6) u v) v v1 v2) u v1 v2) ?_ I I'
  intro W T L f_workers f_now f_stopped f_duration f_priority f_overlap f_misfire f_waitingJobs f_logged a_there a_kind a_period a_lasts a_rank a_overlaps a_makesUp a_minutes a_hours a_days a_months a_weekdays a_due a_started a_lost a_missed a_sinceStop a_request a_waiting a_slot a_filled a_behind a_before a_lies a_runs a_ends a_active a_logJob a_logAt a_logDue g_asked b_kind b_next b_period b_sets b_missedNow b_waits b_doing b_history b_fields g I'
  obtain ⟨h1, h2, h3, h4, h5, h6, h7, h8, h9, h10, h11, h12, h13, h14, h15, h16, h17, h18⟩ := g
  unfold wpX_about wpY_about
  dsimp only
  rcases zr_isJob f_workers f_now f_stopped f_duration f_priority f_overlap f_misfire f_waitingJobs f_logged a_there a_kind a_period a_lasts a_rank a_overlaps a_makesUp a_minutes a_hours a_days a_months a_weekdays a_due a_started a_lost a_missed a_sinceStop a_request a_waiting a_slot a_filled a_behind a_before a_lies a_runs a_ends a_active a_logJob a_logAt a_logDue g_asked b_kind b_next b_period b_sets b_missedNow b_waits b_doing b_history b_fields h8 v1 with ⟨j, hj, rfl, ht, JX, JY⟩ | ⟨JX, JY⟩
  · have hin : vp_in (nI j) 12 := vp_in_nI hj (by omega)
    refine JX _ (br_f zk_01 (br_c (fun c => JY _ (br_f zk_01 (br_t c ⟨rfl, I'⟩))) (fun c => br_c (fun d => JY _ (br_f zk_01 (br_f c (br_t d ⟨rfl, I'⟩)))) (fun d => br_c (fun e0 => ⟨hin, JY _ (br_f zk_01 (br_f c (br_f d (br_t e0 ⟨hin, rfl, I'⟩))))⟩) (fun e0 => br_c (fun e1 => ⟨hin, JY _ (br_f zk_01 (br_f c (br_f d (br_f e0 (br_t e1 ⟨hin, rfl, I'⟩)))))⟩) (fun e1 => br_c (fun e2 => ⟨hin, JY _ (br_f zk_01 (br_f c (br_f d (br_f e0 (br_f e1 (br_t e2 ⟨hin, rfl, I'⟩))))))⟩) (fun e2 => br_c (fun e3 => ⟨hin, JY _ (br_f zk_01 (br_f c (br_f d (br_f e0 (br_f e1 (br_f e2 (br_t e3 ⟨hin, ?_, I'⟩)))))))⟩) (fun e3 => br_c (fun e4 => ⟨hin, br_c (fun a0 => JY _ (br_f zk_01 (br_f c (br_f d (br_f e0 (br_f e1 (br_f e2 (br_f e3 (br_t e4 (zy_isRun h2 h3 hj ht h16 ?_)))))))))) (fun a0 => JY _ (br_f zk_01 (br_f c (br_f d (br_f e0 (br_f e1 (br_f e2 (br_f e3 (br_t e4 (zy_isRun h2 h3 hj ht h16 ?_))))))))))⟩) (fun e4 => br_c (fun e5 => ⟨hin, JY _ (br_f zk_01 (br_f c (br_f d (br_f e0 (br_f e1 (br_f e2 (br_f e3 (br_f e4 (br_t e5 ⟨hin, ?_, I'⟩)))))))))⟩) (fun e5 => True.intro))))))))))
    · rw [nI_clamp (by omega)]
      obtain ⟨q, q1, q2, q3, -⟩ := h12.2 j hj
      rw [q2, q3 ht]
    · rw [nI_clamp (by omega)] at a0
      exact br_t a0 ⟨rfl, I'⟩
    · rw [nI_clamp (by omega)] at a0
      exact br_f a0 ⟨rfl, I'⟩
    · rw [nI_clamp (by omega)]
      rcases h8 j hj with z | z
      · rw [ht] at z; exact absurd z.1 zk_01
      · exact z.2.1
  · exact JX _ (br_t rfl (JY _ (br_t rfl ⟨rfl, I'⟩)))
end
section
/-! run, state, nextEnd, due -/
theorem i_vc_nextEnd {k : Nat} {u : SX} {v : SY} (I : i_Rel k u v) (hk : k + 6 ≤ 3073) : wpX_nextEnd (fun r => wpY_nextEnd (fun r' => r' = r ∧ i_Rel (k + 6) u v) v) u := by
  have I' := i_up I
  refine zr_el (Q := fun u v => i_Rel (k + 6) u v → wpX_nextEnd (fun r => wpY_nextEnd (fun r' => r' = r ∧ i_Rel (k + 6) u v) v) u) ?_ I I'
  intro W T L f_workers f_now f_stopped f_duration f_priority f_overlap f_misfire f_waitingJobs f_logged a_there a_kind a_period a_lasts a_rank a_overlaps a_makesUp a_minutes a_hours a_days a_months a_weekdays a_due a_started a_lost a_missed a_sinceStop a_request a_waiting a_slot a_filled a_behind a_before a_lies a_runs a_ends a_active a_logJob a_logAt a_logDue g_asked b_kind b_next b_period b_sets b_missedNow b_waits b_doing b_history b_fields g I'
  obtain ⟨h1, h2, h3, h4, h5, h6, h7, h8, h9, h10, h11, h12, h13, h14, h15, h16, h17, h18⟩ := g
  obtain ⟨r, r', k1, k2, k3⟩ := zr_earliest f_workers f_now f_stopped f_duration f_priority f_overlap f_misfire f_waitingJobs f_logged a_there a_kind a_period a_lasts a_rank a_overlaps a_makesUp a_minutes a_hours a_days a_months a_weekdays a_due a_started a_lost a_missed a_sinceStop a_request a_waiting a_slot a_filled a_behind a_before a_lies a_runs a_ends a_active a_logJob a_logAt a_logDue g_asked b_kind b_next b_period b_sets b_missedNow b_waits b_doing b_history b_fields h2 h3 h16
  unfold wpX_nextEnd
  dsimp only
  refine k2 _ ?_
  rcases k1 with ⟨rfl, rfl, -⟩ | ⟨e, w, hw, e1, e2, e3, rfl, rfl, -⟩
  · exact br_f zk_nge (k3 _ ⟨rfl, I'⟩)
  · exact br_t (nI_pos' (by omega)) (k3 _ ⟨rfl, I'⟩)
theorem i_vc_run {k : Nat} {u : SX} {v : SY} (I : i_Rel k u v) (hk : k + 6 ≤ 3073) (v1 : Int32) (v2 : Int32) : wpX_run (fun r => wpY_run (fun r' => r' = r ∧ i_Rel (k + 6) u v) v v1 v2) u v1 v2 := by
  have I' := i_up I
  refine zr_el (Q := fun u v => i_Rel (k + 6) u v → wpX_run (fun r => wpY_run (fun r' => r' = r ∧ i_Rel (k + 6) u v) v v1 v2) u v1 v2) ?_ I I'
  intro W T L f_workers f_now f_stopped f_duration f_priority f_overlap f_misfire f_waitingJobs f_logged a_there a_kind a_period a_lasts a_rank a_overlaps a_makesUp a_minutes a_hours a_days a_months a_weekdays a_due a_started a_lost a_missed a_sinceStop a_request a_waiting a_slot a_filled a_behind a_before a_lies a_runs a_ends a_active a_logJob a_logAt a_logDue g_asked b_kind b_next b_period b_sets b_missedNow b_waits b_doing b_history b_fields g I'
  obtain ⟨h1, h2, h3, h4, h5, h6, h7, h8, h9, h10, h11, h12, h13, h14, h15, h16, h17, h18⟩ := g
  obtain ⟨rfl, g2, g3⟩ := h17
  unfold wpX_run wpY_run
  dsimp only
  refine zx_out (fun a b => br_t rfl ?_) (fun n => br_f zk_01 ?_)
  · obtain ⟨p, -, hp, rfl⟩ := zk_rg (m := 0) (n := 15) rfl rfl (by omega) (by omega) a b
    have c1 : ¬ nI p < 0 := nI_pos (by omega)
    have c2 : ¬ (15 : Int32) < nI p := nI_nlt (b := p) (a := 15) hp (by omega)
    refine pk_le L p (fun z => br_f c1 (br_f c2 (br_t (nI_le z (by omega)) ⟨rfl, I'⟩))) (fun z => ?_)
    have c3 : ¬ nI L ≤ nI p := nI_ge z (by omega)
    have ei : (nI L - 1) - nI p &&& 15 = nI ((L - 1 - p) % 16) := by
      have e1 : nI L - 1 = nI (L - 1) := pk_sub (b := 1) (by omega)
      rw [e1, pk_sub (by omega)]
      exact pk_andN (by omega) 4 (by decide)
    obtain ⟨l1, l2, l3⟩ := g3 p (by omega) z
    have hin : vp_in (nI ((L - 1 - p) % 16)) 16 := vp_in_nI (by omega) (by omega)
    have cm : (nI ((L - 1 - p) % 16)).toNatClampNeg = (L - 1 - p) % 16 := nI_clamp (by omega)
    refine zx_out (fun c d => br_t rfl (nm_r ei ?_)) (fun n => br_f zk_01 (br_f c1 (br_f c2 (br_f c3 (zy_wit (fun c d => absurd ⟨c, d⟩ n) (fun _ => br_t rfl ⟨rfl, I'⟩))))))
    obtain ⟨w, -, hw, rfl⟩ := zk_rg (m := 0) (n := 2) rfl rfl (by omega) (by omega) c d
    have e3 : 3 * nI p + nI w = nI (3 * p + w) := by rw [zk_3, nI_add]
    rw [cm]
    have yy : ∀ x : Int32, b_history (3 * p + w) = x → ((nI p < 0 → ((-1 : Int32) = x ∧ i_Rel (k + 6) (f_workers, f_now, f_stopped, f_duration, f_priority, f_overlap, f_misfire, f_waitingJobs, nI L, a_there, a_kind, a_period, a_lasts, a_rank, a_overlaps, a_makesUp, a_minutes, a_hours, a_days, a_months, a_weekdays, a_due, a_started, a_lost, a_missed, a_sinceStop, a_request, a_waiting, a_slot, a_filled, a_behind, a_before, a_lies, a_runs, a_ends, a_active, a_logJob, a_logAt, a_logDue) (f_workers, f_now, nI L, f_stopped, f_duration, f_priority, f_overlap, f_misfire, g_asked, b_kind, a_lasts, a_rank, a_overlaps, a_makesUp, b_next, b_period, b_sets, a_started, a_lost, a_missed, b_missedNow, b_waits, a_request, b_doing, a_ends, b_history, b_fields))) ∧ (¬ nI p < 0 → ((15 : Int32) < nI p → ((-1 : Int32) = x ∧ i_Rel (k + 6) (f_workers, f_now, f_stopped, f_duration, f_priority, f_overlap, f_misfire, f_waitingJobs, nI L, a_there, a_kind, a_period, a_lasts, a_rank, a_overlaps, a_makesUp, a_minutes, a_hours, a_days, a_months, a_weekdays, a_due, a_started, a_lost, a_missed, a_sinceStop, a_request, a_waiting, a_slot, a_filled, a_behind, a_before, a_lies, a_runs, a_ends, a_active, a_logJob, a_logAt, a_logDue) (f_workers, f_now, nI L, f_stopped, f_duration, f_priority, f_overlap, f_misfire, g_asked, b_kind, a_lasts, a_rank, a_overlaps, a_makesUp, b_next, b_period, b_sets, a_started, a_lost, a_missed, b_missedNow, b_waits, a_request, b_doing, a_ends, b_history, b_fields))) ∧ (¬ (15 : Int32) < nI p → (nI L ≤ nI p → ((-1 : Int32) = x ∧ i_Rel (k + 6) (f_workers, f_now, f_stopped, f_duration, f_priority, f_overlap, f_misfire, f_waitingJobs, nI L, a_there, a_kind, a_period, a_lasts, a_rank, a_overlaps, a_makesUp, a_minutes, a_hours, a_days, a_months, a_weekdays, a_due, a_started, a_lost, a_missed, a_sinceStop, a_request, a_waiting, a_slot, a_filled, a_behind, a_before, a_lies, a_runs, a_ends, a_active, a_logJob, a_logAt, a_logDue) (f_workers, f_now, nI L, f_stopped, f_duration, f_priority, f_overlap, f_misfire, g_asked, b_kind, a_lasts, a_rank, a_overlaps, a_makesUp, b_next, b_period, b_sets, a_started, a_lost, a_missed, b_missedNow, b_waits, a_request, b_doing, a_ends, b_history, b_fields))) ∧ (¬ nI L ≤ nI p → wpY_within (fun r_4 => (r_4 = 0 → ((-1 : Int32) = x ∧ i_Rel (k + 6) (f_workers, f_now, f_stopped, f_duration, f_priority, f_overlap, f_misfire, f_waitingJobs, nI L, a_there, a_kind, a_period, a_lasts, a_rank, a_overlaps, a_makesUp, a_minutes, a_hours, a_days, a_months, a_weekdays, a_due, a_started, a_lost, a_missed, a_sinceStop, a_request, a_waiting, a_slot, a_filled, a_behind, a_before, a_lies, a_runs, a_ends, a_active, a_logJob, a_logAt, a_logDue) (f_workers, f_now, nI L, f_stopped, f_duration, f_priority, f_overlap, f_misfire, g_asked, b_kind, a_lasts, a_rank, a_overlaps, a_makesUp, b_next, b_period, b_sets, a_started, a_lost, a_missed, b_missedNow, b_waits, a_request, b_doing, a_ends, b_history, b_fields))) ∧ (¬ r_4 = 0 → (vp_in (3 * nI p + nI w) 48 ∧ (b_history (3 * nI p + nI w).toNatClampNeg = x ∧ i_Rel (k + 6) (f_workers, f_now, f_stopped, f_duration, f_priority, f_overlap, f_misfire, f_waitingJobs, nI L, a_there, a_kind, a_period, a_lasts, a_rank, a_overlaps, a_makesUp, a_minutes, a_hours, a_days, a_months, a_weekdays, a_due, a_started, a_lost, a_missed, a_sinceStop, a_request, a_waiting, a_slot, a_filled, a_behind, a_before, a_lies, a_runs, a_ends, a_active, a_logJob, a_logAt, a_logDue) (f_workers, f_now, nI L, f_stopped, f_duration, f_priority, f_overlap, f_misfire, g_asked, b_kind, a_lasts, a_rank, a_overlaps, a_makesUp, b_next, b_period, b_sets, a_started, a_lost, a_missed, b_missedNow, b_waits, a_request, b_doing, a_ends, b_history, b_fields))))) (nI w) 0 2)))) := by
      intro x hx
      refine br_f c1 (br_f c2 (br_f c3 (zy_wit (fun _ _ => br_f zk_01 ?_) (fun n => absurd ⟨c, d⟩ n))))
      rw [e3, show (nI (3 * p + w)).toNatClampNeg = 3 * p + w from nI_clamp (by omega)]
      exact ⟨vp_in_nI (by omega) (by omega), hx, I'⟩
    have : w = 0 ∨ w = 1 ∨ w = 2 := by omega
    rcases this with rfl | rfl | rfl
    · exact br_t rfl ⟨hin, yy _ l1⟩
    · exact br_f (by decide) (br_t rfl ⟨hin, yy _ l2⟩)
    · exact br_f (by decide) (br_f (by decide) ⟨hin, yy _ l3⟩)
  · refine br_c (fun _ => ⟨rfl, I'⟩) (fun c => br_c (fun _ => ⟨rfl, I'⟩) (fun d => ?_))
    exact absurd ⟨Int32.not_lt.mp c, Int32.not_lt.mp d⟩ n
section
variable (f_workers f_now f_stopped f_duration f_priority f_overlap f_misfire f_waitingJobs f_logged : Int32) (a_there a_kind a_period a_lasts a_rank a_overlaps a_makesUp a_minutes a_hours a_days a_months a_weekdays a_due a_started a_lost a_missed a_sinceStop a_request a_waiting a_slot : Nat → Int32) (a_filled : Nat → Int64) (a_behind a_before a_lies a_runs a_ends a_active a_logJob a_logAt a_logDue : Nat → Int32) (g_asked : Int32) (b_kind b_next b_period b_sets b_missedNow b_waits b_doing b_history b_fields : Nat → Int32)
theorem zr_idleW {W : Nat} (hW : W ≤ 3) (eW : f_workers = nI W) : ∃ r : Int32, (∀ post : Int32 → Prop, post r → ∃ n4 : Nat, wX_idleWorkers_4 post f_workers f_now f_stopped f_duration f_priority f_overlap f_misfire f_waitingJobs f_logged a_there a_kind a_period a_lasts a_rank a_overlaps a_makesUp a_minutes a_hours a_days a_months a_weekdays a_due a_started a_lost a_missed a_sinceStop a_request a_waiting a_slot a_filled a_behind a_before a_lies a_runs a_ends a_active a_logJob a_logAt a_logDue n4 0 0) ∧ (∀ post : Int32 → Prop, post r → ∃ n63 : Nat, wY_state_63 post f_workers f_now f_logged f_stopped f_duration f_priority f_overlap f_misfire g_asked b_kind a_lasts a_rank a_overlaps a_makesUp b_next b_period b_sets a_started a_lost a_missed b_missedNow b_waits a_request b_doing a_ends b_history b_fields n63 0 0) := by
  have key : ∀ n w (x : Int32), w + n = W → ∃ r : Int32, (∀ post : Int32 → Prop, post r → wX_idleWorkers_4 post f_workers f_now f_stopped f_duration f_priority f_overlap f_misfire f_waitingJobs f_logged a_there a_kind a_period a_lasts a_rank a_overlaps a_makesUp a_minutes a_hours a_days a_months a_weekdays a_due a_started a_lost a_missed a_sinceStop a_request a_waiting a_slot a_filled a_behind a_before a_lies a_runs a_ends a_active a_logJob a_logAt a_logDue (n + 1) x (nI w)) ∧ (∀ post : Int32 → Prop, post r → wY_state_63 post f_workers f_now f_logged f_stopped f_duration f_priority f_overlap f_misfire g_asked b_kind a_lasts a_rank a_overlaps a_makesUp b_next b_period b_sets a_started a_lost a_missed b_missedNow b_waits a_request b_doing a_ends b_history b_fields (n + 1) x (nI w)) := by
    intro n
    induction n with
    | zero =>
      intro w x hw
      have e : f_workers ≤ nI w := by rw [eW, show w = W by omega]; exact nI_le (Nat.le_refl _) (by omega)
      exact ⟨x, fun post P => br_t e P, fun post P => br_t e P⟩
    | succ n ih =>
      intro w x hw
      have ne : ¬ f_workers ≤ nI w := by rw [eW]; exact nI_ge (by omega) (by omega)
      have hin : vp_in (nI w) 3 := vp_in_nI (by omega) (by omega)
      by_cases z : a_ends (nI w).toNatClampNeg = 0
      · obtain ⟨r, k1, k2⟩ := ih (w + 1) (x + 1) (by omega)
        exact ⟨r, fun post P => br_f ne ⟨hin, br_t z (nm_e (nm_r (nI_1 w) (k1 post P)))⟩, fun post P => br_f ne ⟨hin, br_t z (nm_e (nm_r (nI_1 w) (k2 post P)))⟩⟩
      · obtain ⟨r, k1, k2⟩ := ih (w + 1) x (by omega)
        exact ⟨r, fun post P => br_f ne ⟨hin, br_f z (nm_r (nI_1 w) (k1 post P))⟩, fun post P => br_f ne ⟨hin, br_f z (nm_r (nI_1 w) (k2 post P))⟩⟩
  obtain ⟨r, k1, k2⟩ := key W 0 0 (by omega)
  exact ⟨r, fun post P => ⟨_, k1 post P⟩, fun post P => ⟨_, k2 post P⟩⟩
theorem zr_allW (gj : zg_job a_there a_kind b_kind) (gw : zg_wait a_there a_waiting b_waits f_waitingJobs g_asked) : ∃ r : Int32, (∀ post : Int32 → Prop, post r → ∃ n4 : Nat, wX_allWaiting_4 post f_workers f_now f_stopped f_duration f_priority f_overlap f_misfire f_waitingJobs f_logged a_there a_kind a_period a_lasts a_rank a_overlaps a_makesUp a_minutes a_hours a_days a_months a_weekdays a_due a_started a_lost a_missed a_sinceStop a_request a_waiting a_slot a_filled a_behind a_before a_lies a_runs a_ends a_active a_logJob a_logAt a_logDue n4 0 0) ∧ (∀ post : Int32 → Prop, post r → ∃ n93 : Nat, wY_state_93 post f_workers f_now f_logged f_stopped f_duration f_priority f_overlap f_misfire g_asked b_kind a_lasts a_rank a_overlaps a_makesUp b_next b_period b_sets a_started a_lost a_missed b_missedNow b_waits a_request b_doing a_ends b_history b_fields n93 0 0) := by
  have key : ∀ n j (x : Int32), j + n = 12 → ∃ r : Int32, (∀ post : Int32 → Prop, post r → wX_allWaiting_4 post f_workers f_now f_stopped f_duration f_priority f_overlap f_misfire f_waitingJobs f_logged a_there a_kind a_period a_lasts a_rank a_overlaps a_makesUp a_minutes a_hours a_days a_months a_weekdays a_due a_started a_lost a_missed a_sinceStop a_request a_waiting a_slot a_filled a_behind a_before a_lies a_runs a_ends a_active a_logJob a_logAt a_logDue (n + 1) x (nI j)) ∧ (∀ post : Int32 → Prop, post r → wY_state_93 post f_workers f_now f_logged f_stopped f_duration f_priority f_overlap f_misfire g_asked b_kind a_lasts a_rank a_overlaps a_makesUp b_next b_period b_sets a_started a_lost a_missed b_missedNow b_waits a_request b_doing a_ends b_history b_fields (n + 1) x (nI j)) := by
    intro n
    induction n with
    | zero =>
      intro j x hj
      have e : (12 : Int32) ≤ nI j := by rw [show j = 12 by omega]; decide
      exact ⟨x, fun post P => br_t e P, fun post P => br_t e P⟩
    | succ n ih =>
      intro j x hj
      have hj' : j < 12 := by omega
      have ne : ¬ (12 : Int32) ≤ nI j := nI_ge (b := 12) hj' (by omega)
      have hin : vp_in (nI j) 12 := vp_in_nI hj' (by omega)
      have cj : (nI j).toNatClampNeg = j := nI_clamp (by omega)
      obtain ⟨q, q1, q2, q3, q4, q5⟩ := gw.2 j hj'
      by_cases hq : q = 0
      · obtain ⟨r, k1, k2⟩ := ih (j + 1) x (by omega)
        refine ⟨r, fun post P => br_f ne (br_t ?_ (nm_r (nI_1 j) (k1 post P))), fun post P => br_f ne ⟨hin, nm_r (e' := x) ?_ (nm_r (nI_1 j) (k2 post P))⟩⟩
        · rw [zk_bit _ (by omega), q5, hq]; rfl
        · rw [cj, q2, hq]; exact Int32.add_zero x
      · obtain ⟨r, k1, k2⟩ := ih (j + 1) (x + nI q) (by omega)
        have hth : a_there j = 1 := by
          rcases gj j hj' with z | z
          · exact absurd (q4 z.1) hq
          · exact z.1
        refine ⟨r, fun post P => br_f ne (br_f ?_ ⟨hin, nm_r (e' := x + nI q) ?_ (nm_r (nI_1 j) (k1 post P))⟩), fun post P => br_f ne ⟨hin, nm_r (e' := x + nI q) ?_ (nm_r (nI_1 j) (k2 post P))⟩⟩
        · rw [zk_bit _ (by omega), q5, decide_eq_true (show 0 < q by omega)]; decide
        · rw [cj, q3 hth]
        · rw [cj, q2]
  obtain ⟨r, k1, k2⟩ := key 12 0 0 (by omega)
  exact ⟨r, fun post P => ⟨_, k1 post P⟩, fun post P => ⟨_, k2 post P⟩⟩
end
theorem i_vc_state {k : Nat} {u : SX} {v : SY} (I : i_Rel k u v) (hk : k + 6 ≤ 3073) (v1 : Int32) : wpX_state (fun r => wpY_state (fun r' => r' = r ∧ i_Rel (k + 6) u v) v v1) u v1 := by
  have I' := i_up I
  refine zr_el (Q := fun u v => i_Rel (k + 6) u v → wpX_state (fun r => wpY_state (fun r' => r' = r ∧ i_Rel (k + 6) u v) v v1) u v1) ?_ I I'
  intro W T L f_workers f_now f_stopped f_duration f_priority f_overlap f_misfire f_waitingJobs f_logged a_there a_kind a_period a_lasts a_rank a_overlaps a_makesUp a_minutes a_hours a_days a_months a_weekdays a_due a_started a_lost a_missed a_sinceStop a_request a_waiting a_slot a_filled a_behind a_before a_lies a_runs a_ends a_active a_logJob a_logAt a_logDue g_asked b_kind b_next b_period b_sets b_missedNow b_waits b_doing b_history b_fields g I'
  obtain ⟨h1, h2, h3, h4, h5, h6, h7, h8, h9, h10, h11, h12, h13, h14, h15, h16, h17, h18⟩ := g
  subst h4
  have t1 : T < 2 ^ 31 := by omega
  have t2 : T / 10 < 2 ^ 31 := by omega
  have t3 : T / 80 < 2 ^ 31 := by omega
  have t4 : T / 800 < 2 ^ 31 := by omega
  unfold wpX_state wpY_state wY_state_134 wY_state_145
  dsimp only
  refine br_c (fun c => br_t c ⟨rfl, I'⟩) (fun c => br_c (fun d => br_f c (br_t d ⟨rfl, I'⟩)) (fun d => br_c (fun e0 => br_f c (br_f d (br_t e0 ⟨rfl, I'⟩))) (fun e0 => br_c (fun e1 => ?_) (fun e1 => br_c (fun e2 => ?_) (fun e2 => br_c (fun e3 => ?_) (fun e3 => br_c (fun e4 => ?_) (fun e4 => br_c (fun e5 => ?_) (fun e5 => br_c (fun e6 => ?_) (fun e6 => br_c (fun e7 => ?_) (fun e7 => br_c (fun e8 => ?_) (fun e8 => br_c (fun e9 => ?_) (fun e9 => True.intro))))))))))))
  · obtain ⟨r, k1, k2⟩ := zr_idleW f_workers (nI T) f_stopped f_duration f_priority f_overlap f_misfire f_waitingJobs f_logged a_there a_kind a_period a_lasts a_rank a_overlaps a_makesUp a_minutes a_hours a_days a_months a_weekdays a_due a_started a_lost a_missed a_sinceStop a_request a_waiting a_slot a_filled a_behind a_before a_lies a_runs a_ends a_active a_logJob a_logAt a_logDue g_asked b_kind b_next b_period b_sets b_missedNow b_waits b_doing b_history b_fields h2 h3
    exact k1 _ (br_f c (br_f d (br_f e0 (br_t e1 (k2 _ ⟨rfl, I'⟩)))))
  · obtain ⟨r, k1, k2⟩ := zr_allW f_workers (nI T) f_stopped f_duration f_priority f_overlap f_misfire f_waitingJobs f_logged a_there a_kind a_period a_lasts a_rank a_overlaps a_makesUp a_minutes a_hours a_days a_months a_weekdays a_due a_started a_lost a_missed a_sinceStop a_request a_waiting a_slot a_filled a_behind a_before a_lies a_runs a_ends a_active a_logJob a_logAt a_logDue g_asked b_kind b_next b_period b_sets b_missedNow b_waits b_doing b_history b_fields h8 h12
    exact k1 _ (br_f c (br_f d (br_f e0 (br_f e1 (br_t e2 (k2 _ ⟨rfl, I'⟩))))))
  · exact br_f c (br_f d (br_f e0 (br_f e1 (br_f e2 (br_t e3 ⟨rfl, I'⟩)))))
  · exact br_c (fun s => br_f c (br_f d (br_f e0 (br_f e1 (br_f e2 (br_f e3 (br_t e4 (br_t s ⟨rfl, I'⟩)))))))) (fun s => br_f c (br_f d (br_f e0 (br_f e1 (br_f e2 (br_f e3 (br_t e4 (br_f s ⟨rfl, I'⟩))))))))
  · refine ⟨zk_n10, br_f c (br_f d (br_f e0 (br_f e1 (br_f e2 (br_f e3 (br_f e4 (br_t e5 ?_)))))))⟩
    rw [show v1 - 5 = 0 by rw [e5]; rfl]
    exact zy_field0 t1 ⟨(zk_r10 t1).symm, I'⟩
  · refine ⟨zk_n10, zk_n8, br_f c (br_f d (br_f e0 (br_f e1 (br_f e2 (br_f e3 (br_f e4 (br_f e5 (br_t e6 ?_))))))))⟩
    rw [show v1 - 5 = 1 by rw [e6]; rfl]
    exact zy_field1 t1 ⟨by rw [zk_d10 t1, zk_r8 t2], I'⟩
  · refine ⟨zk_n80, zk_n10, br_f c (br_f d (br_f e0 (br_f e1 (br_f e2 (br_f e3 (br_f e4 (br_f e5 (br_f e6 (br_t e7 ?_)))))))))⟩
    rw [show v1 - 5 = 2 by rw [e7]; rfl]
    exact zy_field2 t1 ⟨by rw [zk_d80 t1, zk_r10 t3], I'⟩
  · refine ⟨zk_n800, zk_n4, br_f c (br_f d (br_f e0 (br_f e1 (br_f e2 (br_f e3 (br_f e4 (br_f e5 (br_f e6 (br_f e7 (br_t e8 ?_))))))))))⟩
    rw [show v1 - 5 = 3 by rw [e8]; rfl]
    exact zy_field3 t1 ⟨by rw [zk_d800 t1, zk_r4 t4], I'⟩
  · refine ⟨zk_n80, zk_n7, br_f c (br_f d (br_f e0 (br_f e1 (br_f e2 (br_f e3 (br_f e4 (br_f e5 (br_f e6 (br_f e7 (br_f e8 (br_t e9 ?_)))))))))))⟩
    exact zy_field4 t1 ⟨by rw [zk_d80 t1, zk_r7 t3], I'⟩
section
variable (f_workers f_now f_logged f_stopped f_duration f_priority f_overlap f_misfire g_asked : Int32) (b_kind a_lasts a_rank a_overlaps a_makesUp b_next b_period b_sets a_started a_lost a_missed b_missedNow b_waits a_request b_doing a_ends b_history b_fields : Nat → Int32)
/-- the reference looks for the time S of a job from s on -/
theorem zy_due63 {j mi ho da mo wd S : Nat} (hj : j < 12) (ok : zk_ok mi ho da mo wd) (s0 : b_sets (5 * j) = nI mi) (s1 : b_sets (5 * j + 1) = nI ho) (s2 : b_sets (5 * j + 2) = nI da) (s3 : b_sets (5 * j + 3) = nI mo) (s4 : b_sets (5 * j + 4) = nI wd)
    (hS : S ≤ 1000001) (r : Int32) (hr : (S ≤ 1000000 ∧ zk_ft mi ho da mo wd S = true ∧ r = nI S) ∨ (S = 1000001 ∧ r = -2)) :
    ∀ (n s : Nat) (b_fields : Nat → Int32), s + n = S → (∀ t, s ≤ t → t < S → zk_ft mi ho da mo wd t = false) → ∃ fl : Nat → Int32, ∀ post : Int32 → SY → Prop, post r (f_workers, f_now, f_logged, f_stopped, f_duration, f_priority, f_overlap, f_misfire, g_asked, b_kind, a_lasts, a_rank, a_overlaps, a_makesUp, b_next, b_period, b_sets, a_started, a_lost, a_missed, b_missedNow, b_waits, a_request, b_doing, a_ends, b_history, fl) → wY_due_63 post (nI j) (n + 1) (nI s) f_workers f_now f_logged f_stopped f_duration f_priority f_overlap f_misfire g_asked b_kind a_lasts a_rank a_overlaps a_makesUp b_next b_period b_sets a_started a_lost a_missed b_missedNow b_waits a_request b_doing a_ends b_history b_fields := by
  obtain ⟨o1, o2, o3, o4, o5, o6, o7, o8, o9, o10⟩ := ok
  intro n
  induction n with
  | zero =>
    intro s b_fields hs hn
    have e : s = S := by omega
    subst e
    rcases hr with ⟨h1, h2, rfl⟩ | ⟨rfl, rfl⟩
    · refine ⟨zk_fl b_fields s, fun post P => ?_⟩
      have h3 : ¬ (1000000 : Int32) < nI s := nI_nlt (a := 1000000) h1 (by omega)
      refine br_f h3 ?_
      unfold wpY_isDueAt
      refine zy_read (by omega) (zy_fits (t := s) hj (by omega) (by omega) s0 s1 s2 s3 s4 rfl rfl rfl rfl rfl ⟨zk_bin _, ?_⟩)
      rw [h2]
      exact br_f zk_01 (br_f h3 P)
    · refine ⟨b_fields, fun post P => ?_⟩
      have h3 : (1000000 : Int32) < nI 1000001 := nI_lt (a := 1000000) (by omega) (by omega)
      exact br_t h3 (br_t h3 P)
  | succ n ih =>
    intro s b_fields hs hn
    obtain ⟨fl, K⟩ := ih (s + 1) (zk_fl b_fields s) (by omega) (fun t h1 h2 => hn t (by omega) h2)
    refine ⟨fl, fun post P => ?_⟩
    have h3 : ¬ (1000000 : Int32) < nI s := nI_nlt (a := 1000000) (by omega) (by omega)
    refine br_f h3 ?_
    unfold wpY_isDueAt
    refine zy_read (by omega) (zy_fits (t := s) hj (by omega) (by omega) s0 s1 s2 s3 s4 rfl rfl rfl rfl rfl ⟨zk_bin _, ?_⟩)
    rw [hn s (by omega) (by omega)]
    exact br_t rfl (nm_r (nI_1 s) (K post P))
end
theorem i_vc_due {k : Nat} {u : SX} {v : SY} (I : i_Rel k u v) (hk : k + 6 ≤ 3073) (v1 : Int32) : wpX_due (fun r => wpY_due (fun r' v' => r' = r ∧ i_Rel (k + 6) u v') v v1) u v1 := by
  refine zr_el (Q := fun u v => wpX_due (fun r => wpY_due (fun r' v' => r' = r ∧ i_Rel (k + 6) u v') v v1) u v1) ?_ I
  intro W T L f_workers f_now f_stopped f_duration f_priority f_overlap f_misfire f_waitingJobs f_logged a_there a_kind a_period a_lasts a_rank a_overlaps a_makesUp a_minutes a_hours a_days a_months a_weekdays a_due a_started a_lost a_missed a_sinceStop a_request a_waiting a_slot a_filled a_behind a_before a_lies a_runs a_ends a_active a_logJob a_logAt a_logDue g_asked b_kind b_next b_period b_sets b_missedNow b_waits b_doing b_history b_fields g
  have gg := g
  obtain ⟨h1, h2, h3, h4, h5, h6, h7, h8, h9, h10, h11, h12, h13, h14, h15, h16, h17, h18⟩ := g
  unfold wpX_due
  dsimp only
  rcases zr_isJob f_workers f_now f_stopped f_duration f_priority f_overlap f_misfire f_waitingJobs f_logged a_there a_kind a_period a_lasts a_rank a_overlaps a_makesUp a_minutes a_hours a_days a_months a_weekdays a_due a_started a_lost a_missed a_sinceStop a_request a_waiting a_slot a_filled a_behind a_before a_lies a_runs a_ends a_active a_logJob a_logAt a_logDue g_asked b_kind b_next b_period b_sets b_missedNow b_waits b_doing b_history b_fields h8 v1 with ⟨j, hj, rfl, ht, JX, JY⟩ | ⟨JX, JY⟩
  · have hin : vp_in (nI j) 12 := vp_in_nI hj (by omega)
    have cj : (nI j).toNatClampNeg = j := nI_clamp (by omega)
    obtain ⟨hk', hk4⟩ : b_kind j = a_kind j ∧ (a_kind j = 0 ∨ a_kind j = 1 ∨ a_kind j = 2 ∨ a_kind j = 3) := by
      rcases h8 j hj with z | z
      · rw [ht] at z; exact absurd z.1 zk_01
      · exact z.2
    refine JX _ (br_f zk_01 ?_)
    rw [cj]
    have hd : zd_1 T T (a_kind j) (a_period j) (a_minutes j) (a_hours j) (a_days j) (a_months j) (a_weekdays j) (a_due j) (b_next j) := h14 j hj ht
    -- the answers
    have key : ∀ r : Int32, wpY_due (fun r' v' => r' = r ∧ i_Rel (k + 6) (f_workers, f_now, f_stopped, f_duration, f_priority, f_overlap, f_misfire, f_waitingJobs, f_logged, a_there, a_kind, a_period, a_lasts, a_rank, a_overlaps, a_makesUp, a_minutes, a_hours, a_days, a_months, a_weekdays, a_due, a_started, a_lost, a_missed, a_sinceStop, a_request, a_waiting, a_slot, a_filled, a_behind, a_before, a_lies, a_runs, a_ends, a_active, a_logJob, a_logAt, a_logDue) v') (f_workers, f_now, f_logged, f_stopped, f_duration, f_priority, f_overlap, f_misfire, g_asked, b_kind, a_lasts, a_rank, a_overlaps, a_makesUp, b_next, b_period, b_sets, a_started, a_lost, a_missed, b_missedNow, b_waits, a_request, b_doing, a_ends, b_history, b_fields) (nI j) → ((0 ≤ a_due j ∧ r = a_due j) ∨ (¬ 0 ≤ a_due j ∧ r = -2)) → vp_in (nI j) 12 ∧ ((0 ≤ a_due j → vp_in (nI j) 12 ∧ wpY_due (fun r' v' => r' = a_due j ∧ i_Rel (k + 6) (f_workers, f_now, f_stopped, f_duration, f_priority, f_overlap, f_misfire, f_waitingJobs, f_logged, a_there, a_kind, a_period, a_lasts, a_rank, a_overlaps, a_makesUp, a_minutes, a_hours, a_days, a_months, a_weekdays, a_due, a_started, a_lost, a_missed, a_sinceStop, a_request, a_waiting, a_slot, a_filled, a_behind, a_before, a_lies, a_runs, a_ends, a_active, a_logJob, a_logAt, a_logDue) v') (f_workers, f_now, f_logged, f_stopped, f_duration, f_priority, f_overlap, f_misfire, g_asked, b_kind, a_lasts, a_rank, a_overlaps, a_makesUp, b_next, b_period, b_sets, a_started, a_lost, a_missed, b_missedNow, b_waits, a_request, b_doing, a_ends, b_history, b_fields) (nI j)) ∧ (¬ 0 ≤ a_due j → wpY_due (fun r' v' => r' = -2 ∧ i_Rel (k + 6) (f_workers, f_now, f_stopped, f_duration, f_priority, f_overlap, f_misfire, f_waitingJobs, f_logged, a_there, a_kind, a_period, a_lasts, a_rank, a_overlaps, a_makesUp, a_minutes, a_hours, a_days, a_months, a_weekdays, a_due, a_started, a_lost, a_missed, a_sinceStop, a_request, a_waiting, a_slot, a_filled, a_behind, a_before, a_lies, a_runs, a_ends, a_active, a_logJob, a_logAt, a_logDue) v') (f_workers, f_now, f_logged, f_stopped, f_duration, f_priority, f_overlap, f_misfire, g_asked, b_kind, a_lasts, a_rank, a_overlaps, a_makesUp, b_next, b_period, b_sets, a_started, a_lost, a_missed, b_missedNow, b_waits, a_request, b_doing, a_ends, b_history, b_fields) (nI j))) := by
      intro r K hr
      rcases hr with ⟨a, rfl⟩ | ⟨a, rfl⟩
      · exact ⟨hin, br_t a ⟨hin, K⟩⟩
      · exact ⟨hin, br_f a K⟩
    by_cases k3 : a_kind j = 3
    · obtain ⟨a, b, c, d, e, ok, s1, s2, s3, s4, s5, q0, q1, q2, q3, q4⟩ := h11 j hj ht k3
      have hf := zk_fj_of ok s1 s2 s3 s4 s5
      have yy : ∀ r : Int32, (∃ (S : Nat), T + 1 ≤ S ∧ S ≤ 1000001 ∧ ((S ≤ 1000000 ∧ zk_ft a b c d e S = true ∧ r = nI S) ∨ (S = 1000001 ∧ r = -2)) ∧ ∀ t, T + 1 ≤ t → t < S → zk_ft a b c d e t = false) → wpY_due (fun r' v' => r' = r ∧ i_Rel (k + 6) (f_workers, f_now, f_stopped, f_duration, f_priority, f_overlap, f_misfire, f_waitingJobs, f_logged, a_there, a_kind, a_period, a_lasts, a_rank, a_overlaps, a_makesUp, a_minutes, a_hours, a_days, a_months, a_weekdays, a_due, a_started, a_lost, a_missed, a_sinceStop, a_request, a_waiting, a_slot, a_filled, a_behind, a_before, a_lies, a_runs, a_ends, a_active, a_logJob, a_logAt, a_logDue) v') (f_workers, f_now, f_logged, f_stopped, f_duration, f_priority, f_overlap, f_misfire, g_asked, b_kind, a_lasts, a_rank, a_overlaps, a_makesUp, b_next, b_period, b_sets, a_started, a_lost, a_missed, b_missedNow, b_waits, a_request, b_doing, a_ends, b_history, b_fields) (nI j) := by
        intro r ⟨S, S1, S2, S3, S4⟩
        obtain ⟨fl, K⟩ := zy_due63 f_workers f_now f_logged f_stopped f_duration f_priority f_overlap f_misfire g_asked b_kind a_lasts a_rank a_overlaps a_makesUp b_next b_period b_sets a_started a_lost a_missed b_missedNow b_waits a_request b_doing a_ends b_history hj ok q0 q1 q2 q3 q4 S2 r S3 (S - (T + 1)) (T + 1) b_fields (by omega) S4
        unfold wpY_due
        dsimp only
        refine JY _ (br_f zk_01 ?_)
        rw [cj, hk']
        exact ⟨hin, br_t k3 (nm_r (e' := nI (T + 1)) (by rw [h4, nI_1]) ⟨_, K _ ⟨rfl, zr_in (zr_G_up (b_fields := fl) (by omega) gg)⟩⟩)⟩
      rcases hd.2 k3 with ⟨d1, d2⟩ | ⟨n, d1, d2, d3, d4, d5⟩
      · refine key (-2) (yy _ ⟨1000001, by omega, by omega, Or.inr ⟨rfl, rfl⟩, fun t t1 t2 => ?_⟩) (Or.inr ⟨by rw [d1]; exact zk_nge, rfl⟩)
        rw [← hf]; exact d2 t (by omega) (by omega)
      · refine key (nI n) (yy _ ⟨n, by omega, by omega, Or.inl ⟨d3, by rw [← hf]; exact d4, rfl⟩, fun t t1 t2 => ?_⟩) (Or.inl ⟨by rw [d1]; exact nI_pos' (by omega), d1.symm⟩)
        rw [← hf]; exact d5 t (by omega) (by omega)
    · have yy : ∀ r : Int32, ((b_next j ≤ f_now → r = -2) ∧ (¬ b_next j ≤ f_now → ((1000000 < b_next j → r = -2) ∧ (¬ 1000000 < b_next j → r = b_next j)))) → wpY_due (fun r' v' => r' = r ∧ i_Rel (k + 6) (f_workers, f_now, f_stopped, f_duration, f_priority, f_overlap, f_misfire, f_waitingJobs, f_logged, a_there, a_kind, a_period, a_lasts, a_rank, a_overlaps, a_makesUp, a_minutes, a_hours, a_days, a_months, a_weekdays, a_due, a_started, a_lost, a_missed, a_sinceStop, a_request, a_waiting, a_slot, a_filled, a_behind, a_before, a_lies, a_runs, a_ends, a_active, a_logJob, a_logAt, a_logDue) v') (f_workers, f_now, f_logged, f_stopped, f_duration, f_priority, f_overlap, f_misfire, g_asked, b_kind, a_lasts, a_rank, a_overlaps, a_makesUp, b_next, b_period, b_sets, a_started, a_lost, a_missed, b_missedNow, b_waits, a_request, b_doing, a_ends, b_history, b_fields) (nI j) := by
        intro r hr
        have J' : i_Rel (k + 6) (f_workers, f_now, f_stopped, f_duration, f_priority, f_overlap, f_misfire, f_waitingJobs, f_logged, a_there, a_kind, a_period, a_lasts, a_rank, a_overlaps, a_makesUp, a_minutes, a_hours, a_days, a_months, a_weekdays, a_due, a_started, a_lost, a_missed, a_sinceStop, a_request, a_waiting, a_slot, a_filled, a_behind, a_before, a_lies, a_runs, a_ends, a_active, a_logJob, a_logAt, a_logDue) (f_workers, f_now, f_logged, f_stopped, f_duration, f_priority, f_overlap, f_misfire, g_asked, b_kind, a_lasts, a_rank, a_overlaps, a_makesUp, b_next, b_period, b_sets, a_started, a_lost, a_missed, b_missedNow, b_waits, a_request, b_doing, a_ends, b_history, b_fields) := zr_in (zr_G_up (by omega) gg)
        unfold wpY_due
        dsimp only
        refine JY _ (br_f zk_01 ?_)
        rw [cj, hk']
        exact ⟨hin, br_f k3 ⟨hin, br_c (fun z => ⟨(hr.1 z).symm, J'⟩) (fun z => ⟨hin, br_c (fun y => ⟨((hr.2 z).1 y).symm, J'⟩) (fun y => ⟨hin, ((hr.2 z).2 y).symm, J'⟩)⟩)⟩⟩
      rcases hd.1 k3 with ⟨d, d1, d2, d3, d4⟩ | ⟨d1, d2⟩
      · refine key (nI d) (yy _ ?_) (Or.inl ⟨by rw [d1]; exact nI_pos' (by omega), d1.symm⟩)
        rw [d2, h4]
        exact br_f (nI_ge d3 (by omega)) (br_f (nI_nlt (a := 1000000) d4 (by omega)) rfl)
      · refine key (-2) (yy _ ?_) (Or.inr ⟨by rw [d1]; exact zk_nge, rfl⟩)
        rcases d2 with d2 | ⟨d, q, d2, -, -, d5, d6, d7⟩
        · rw [d2, h4]
          exact br_t (Int32.le_trans (show (-1 : Int32) ≤ 0 by decide) (nI_pos' (by omega))) rfl
        · rw [d2]
          exact br_c (fun _ => rfl) (fun _ => br_t (nI_lt (a := 1000000) d5 (by omega)) rfl)
  · refine JX _ (br_t rfl ?_)
    unfold wpY_due
    dsimp only
    exact JY _ (br_t rfl ⟨rfl, zr_in (zr_G_up (by omega) gg)⟩)
end
section
/-! advance, request -/
theorem i_vc_advance {k : Nat} {u : SX} {v : SY} (I : i_Rel k u v) (hk : k + 6 ≤ 3073) (v1 : Int32) : wpX_advance (fun r u' => wpY_advance (fun r' v' => r' = r ∧ i_Rel (k + 6) u' v') v v1) u v1 := by
  refine zr_el (Q := fun u v => wpX_advance (fun r u' => wpY_advance (fun r' v' => r' = r ∧ i_Rel (k + 6) u' v') v v1) u v1) ?_ I
  intro W T L f_workers f_now f_stopped f_duration f_priority f_overlap f_misfire f_waitingJobs f_logged a_there a_kind a_period a_lasts a_rank a_overlaps a_makesUp a_minutes a_hours a_days a_months a_weekdays a_due a_started a_lost a_missed a_sinceStop a_request a_waiting a_slot a_filled a_behind a_before a_lies a_runs a_ends a_active a_logJob a_logAt a_logDue g_asked b_kind b_next b_period b_sets b_missedNow b_waits b_doing b_history b_fields g
  have gg := g
  obtain ⟨h1, h2, h3, rfl, h5, h6, h7, h8, h9, h10, h11, h12, h13, h14, h15, h16, h17, h18⟩ := g
  unfold wpX_advance
  dsimp only
  refine zx_out (fun a b => br_t rfl ?_) (fun n => br_f zk_01 ?_)
  · obtain ⟨A, -, hA, rfl⟩ := zk_rg (m := 0) (n := 30000) rfl rfl (by omega) (by omega) a b
    have key : ∀ B, B ≤ 1000000 → B ≤ T + A → T ≤ B → (B = T + A ∨ B = 1000000) → ∃ n38 : Nat, wX_advance_38 (fun r u' => wpY_advance (fun r' v' => r' = r ∧ i_Rel (k + 6) u' v') (f_workers, nI T, f_logged, f_stopped, f_duration, f_priority, f_overlap, f_misfire, g_asked, b_kind, a_lasts, a_rank, a_overlaps, a_makesUp, b_next, b_period, b_sets, a_started, a_lost, a_missed, b_missedNow, b_waits, a_request, b_doing, a_ends, b_history, b_fields) (nI A)) (nI B) n38 1 f_workers (nI T) f_stopped f_duration f_priority f_overlap f_misfire f_waitingJobs f_logged a_there a_kind a_period a_lasts a_rank a_overlaps a_makesUp a_minutes a_hours a_days a_months a_weekdays a_due a_started a_lost a_missed a_sinceStop a_request a_waiting a_slot a_filled a_behind a_before a_lies a_runs a_ends a_active a_logJob a_logAt a_logDue := by
      intro B hB1 hB2 hB3 hB4
      obtain ⟨wj, lg, du, st, lo, mi, ss, rq, wx, sl, fi, bh, bf, li, rn, en, ac, lj, la, ld, ak, nx, mn, wy, dn, hs, fl, L', i1, i2, i3, i4, i5, i6, i7, i8, KX, KY⟩ := zr_adv f_workers f_stopped f_duration f_priority f_overlap f_misfire a_there a_kind a_period a_lasts a_rank a_overlaps a_makesUp a_minutes a_hours a_days a_months a_weekdays b_kind b_period b_sets (W := W) (A := A) (B := B) (T0 := T) h2 h3 hA hB1 hB2 hB4 h8 h9 h10 h11 (B - T) T T 0 L f_waitingJobs f_logged a_due a_started a_lost a_missed a_sinceStop a_request a_waiting a_slot a_filled a_behind a_before a_lies a_runs a_ends a_active a_logJob a_logAt a_logDue g_asked b_next b_missedNow b_waits b_doing b_history b_fields (Nat.le_refl _) (Nat.le_refl _) hB3 (by omega) (by omega) h12 h13 h14 h15 h16 h17 h18
      refine ⟨_, KX _ ?_ (B - T + 2) (Nat.le_refl _)⟩
      unfold wpY_advance
      dsimp only
      refine zy_wit (fun _ _ => br_f zk_01 ⟨_, KY _ ⟨rfl, zr_in (W := W) (T := B) (L := L') ?_⟩⟩) (fun n => absurd ⟨a, b⟩ n)
      exact ⟨h1, h2, h3, rfl, hB1, by omega, h7, h8, h9, h10, h11, i2, i3, i4, i5, i6, i7, i8⟩
    rw [nI_add]
    refine pk_le (T + A) 1000000 (fun z => nm_e (key (T + A) z (Nat.le_refl _) (by omega) (Or.inl rfl))) (fun z => key 1000000 (Nat.le_refl _) (by omega) h5 (Or.inr rfl))
  · unfold wpY_advance
    dsimp only
    exact zy_wit (fun a b => absurd ⟨a, b⟩ n) (fun _ => br_t rfl ⟨rfl, zr_in (zr_G_up (by omega) gg)⟩)
theorem i_vc_request {k : Nat} {u : SX} {v : SY} (I : i_Rel k u v) (hk : k + 6 ≤ 3073) (v1 : Int32) : wpX_request (fun r u' => wpY_request (fun r' v' => r' = r ∧ i_Rel (k + 6) u' v') v v1) u v1 := by
  refine zr_el (Q := fun u v => wpX_request (fun r u' => wpY_request (fun r' v' => r' = r ∧ i_Rel (k + 6) u' v') v v1) u v1) ?_ I
  intro W T L f_workers f_now f_stopped f_duration f_priority f_overlap f_misfire f_waitingJobs f_logged a_there a_kind a_period a_lasts a_rank a_overlaps a_makesUp a_minutes a_hours a_days a_months a_weekdays a_due a_started a_lost a_missed a_sinceStop a_request a_waiting a_slot a_filled a_behind a_before a_lies a_runs a_ends a_active a_logJob a_logAt a_logDue g_asked b_kind b_next b_period b_sets b_missedNow b_waits b_doing b_history b_fields g
  have gg := g
  have J' : i_Rel (k + 6) (f_workers, f_now, f_stopped, f_duration, f_priority, f_overlap, f_misfire, f_waitingJobs, f_logged, a_there, a_kind, a_period, a_lasts, a_rank, a_overlaps, a_makesUp, a_minutes, a_hours, a_days, a_months, a_weekdays, a_due, a_started, a_lost, a_missed, a_sinceStop, a_request, a_waiting, a_slot, a_filled, a_behind, a_before, a_lies, a_runs, a_ends, a_active, a_logJob, a_logAt, a_logDue) (f_workers, f_now, f_logged, f_stopped, f_duration, f_priority, f_overlap, f_misfire, g_asked, b_kind, a_lasts, a_rank, a_overlaps, a_makesUp, b_next, b_period, b_sets, a_started, a_lost, a_missed, b_missedNow, b_waits, a_request, b_doing, a_ends, b_history, b_fields) := zr_in (zr_G_up (by omega) gg)
  obtain ⟨h1, h2, h3, h4, h5, h6, h7, h8, h9, h10, h11, h12, h13, h14, h15, h16, h17, h18⟩ := g
  unfold wpX_request
  dsimp only
  rcases zr_isJob f_workers f_now f_stopped f_duration f_priority f_overlap f_misfire f_waitingJobs f_logged a_there a_kind a_period a_lasts a_rank a_overlaps a_makesUp a_minutes a_hours a_days a_months a_weekdays a_due a_started a_lost a_missed a_sinceStop a_request a_waiting a_slot a_filled a_behind a_before a_lies a_runs a_ends a_active a_logJob a_logAt a_logDue g_asked b_kind b_next b_period b_sets b_missedNow b_waits b_doing b_history b_fields h8 v1 with ⟨j, hj, rfl, ht, JX, JY⟩ | ⟨JX, JY⟩
  · have hin : vp_in (nI j) 12 := vp_in_nI hj (by omega)
    have cj : (nI j).toNatClampNeg = j := nI_clamp (by omega)
    obtain ⟨q, q1, q2, q3, q4, q5⟩ := h12.2 j hj
    refine JX _ (br_f zk_01 ?_)
    rw [cj, q3 ht]
    refine ⟨hin, pk_eq q 3 (fun z => ?_) (fun z => br_c (fun hs => ⟨hin, nm_e ?_⟩) (fun hs => ?_))⟩
    · unfold wpY_request
      dsimp only
      refine JY _ (br_f zk_01 ?_)
      rw [cj, q2]
      exact ⟨hin, br_t (by rw [z]; rfl) ⟨rfl, J'⟩⟩
    · -- asked and started
      have hq2 : q ≤ 2 := by omega
      have gw' := zg_wait_inc h12 hj ht hq2 q2
      obtain ⟨wj, lg, st, rq, wx, rn, en, ac, lj, la, ld, ak, wy, dn, hs', L', n1, n2, n3, n4, n5, n6, KX, KY⟩ := zr_start f_workers f_now f_stopped f_duration f_priority f_overlap f_misfire (f_waitingJobs ||| ((1 : Int32) <<< (nI j &&& 31))) f_logged a_there a_kind a_period a_lasts a_rank a_overlaps a_makesUp a_minutes a_hours a_days a_months a_weekdays a_due a_started a_lost a_missed a_sinceStop (upd a_request (3 * j + q) f_now) (upd a_waiting j (nI (q + 1))) a_slot a_filled a_behind a_before a_lies a_runs a_ends a_active a_logJob a_logAt a_logDue (g_asked + 1) b_kind b_next b_period b_sets b_missedNow (upd b_waits j (nI (q + 1))) b_doing b_history b_fields (W := W) (T := T) (L := L) h2 h3 h4 h5 (fun _ => Nat.le_refl _) hs h8 h9 (by omega) gw' h16 h17
      refine zx_ask hj hq2 (q3 ht) (KX _ (fun r => ?_))
      dsimp only
      have R : i_Rel (k + 6) (f_workers, f_now, f_stopped, f_duration, f_priority, f_overlap, f_misfire, wj, lg, a_there, a_kind, a_period, a_lasts, a_rank, a_overlaps, a_makesUp, a_minutes, a_hours, a_days, a_months, a_weekdays, a_due, st, a_lost, a_missed, a_sinceStop, rq, wx, a_slot, a_filled, a_behind, a_before, a_lies, rn, en, ac, lj, la, ld) (f_workers, f_now, lg, f_stopped, f_duration, f_priority, f_overlap, f_misfire, ak, b_kind, a_lasts, a_rank, a_overlaps, a_makesUp, b_next, b_period, b_sets, st, a_lost, a_missed, b_missedNow, wy, rq, dn, en, hs', b_fields) :=
        zr_in (W := W) (T := T) (L := L') ⟨h1, h2, h3, h4, h5, by omega, h7, h8, h9, h10, h11, n2, h13, h14, h15, n3, n4, n5⟩
      have yy : ∀ r : Int32, ((wy j = nI q ∧ r = 1) ∨ (¬ wy j = nI q ∧ r = 0)) → wpY_request (fun r' v' => r' = r ∧ i_Rel (k + 6) (f_workers, f_now, f_stopped, f_duration, f_priority, f_overlap, f_misfire, wj, lg, a_there, a_kind, a_period, a_lasts, a_rank, a_overlaps, a_makesUp, a_minutes, a_hours, a_days, a_months, a_weekdays, a_due, st, a_lost, a_missed, a_sinceStop, rq, wx, a_slot, a_filled, a_behind, a_before, a_lies, rn, en, ac, lj, la, ld) v') (f_workers, f_now, f_logged, f_stopped, f_duration, f_priority, f_overlap, f_misfire, g_asked, b_kind, a_lasts, a_rank, a_overlaps, a_makesUp, b_next, b_period, b_sets, a_started, a_lost, a_missed, b_missedNow, b_waits, a_request, b_doing, a_ends, b_history, b_fields) (nI j) := by
        intro r hr
        unfold wpY_request
        dsimp only
        refine JY _ (br_f zk_01 ?_)
        rw [cj, q2]
        refine ⟨hin, br_f (fun y => z ((nI_eq (b := 3) (by omega) (by omega)).mp y)) (br_t hs ⟨hin, nm_e (zy_ask hj hq2 q2 (KY _ ?_))⟩)⟩
        rcases hr with ⟨y, rfl⟩ | ⟨y, rfl⟩
        · exact ⟨hin, br_t y ⟨rfl, R⟩⟩
        · exact ⟨hin, br_f y ⟨rfl, R⟩⟩
      obtain ⟨s, s1, s2⟩ := h17.2.1 j hj
      rcases n6 j hj with ⟨c1, c2⟩ | ⟨c1, c2, c3⟩
      · rw [pk_us] at c2
        refine ⟨hin, br_t (by rw [c1]; exact Int32.le_refl _) (yy 0 (Or.inr ⟨fun y => ?_, rfl⟩))⟩
        rw [c2] at y
        have := (nI_eq (by omega) (by omega)).mp y
        omega
      · rw [pk_us] at c3
        refine ⟨hin, br_f ?_ (yy 1 (Or.inl ⟨?_, rfl⟩))⟩
        · rw [c2, s2, nI_1]; exact nI_ge (by omega) (by omega)
        · obtain ⟨q', p1, p2, -⟩ := n2.2 j hj
          rw [p2, nI_1] at c3
          have := (nI_eq (by omega) (by omega)).mp c3
          rw [p2, show q' = q by omega]
    · unfold wpY_request
      dsimp only
      refine JY _ (br_f zk_01 ?_)
      rw [cj, q2]
      exact ⟨hin, br_f (fun y => z ((nI_eq (b := 3) (by omega) (by omega)).mp y)) (br_f hs ⟨rfl, J'⟩)⟩
  · refine JX _ (br_t rfl ?_)
    unfold wpY_request
    dsimp only
    exact JY _ (br_t rfl ⟨rfl, J'⟩)
end
section
/-! go -/
section
variable (f_workers f_now f_stopped f_duration f_priority f_overlap f_misfire f_waitingJobs f_logged : Int32) (a_there a_kind a_period a_lasts a_rank a_overlaps a_makesUp a_minutes a_hours a_days a_months a_weekdays a_due a_started a_lost a_missed a_sinceStop a_request a_waiting a_slot : Nat → Int32) (a_filled : Nat → Int64) (a_behind a_before a_lies a_runs a_ends a_active a_logJob a_logAt a_logDue : Nat → Int32) (g_asked : Int32) (b_kind b_next b_period b_sets b_missedNow b_waits b_doing b_history b_fields : Nat → Int32)
/-- asking for one job: m0 requests, as far as there is room -/
theorem zr_go_in {j M : Nat} (hj : j < 12) (ht : a_there j = 1) (hM : M < 2 ^ 31) : ∀ (c i : Nat) (x1 : Int32) (f_waitingJobs : Int32) (a_request a_waiting : Nat → Int32) (g_asked : Int32) (b_waits : Nat → Int32) (q : Nat), i ≤ M → q ≤ 3 → q + c = 3 → b_waits j = nI q → zg_wait a_there a_waiting b_waits f_waitingJobs g_asked →
    ∃ (wj : Int32) (rq wx : Nat → Int32) (ak : Int32) (wy : Nat → Int32) (x' : Int32), zg_wait a_there wx wy wj ak ∧ (∀ (post : Int32 → SX → Prop) J, J x' (nI (j + 1)) f_workers f_now f_stopped f_duration f_priority f_overlap f_misfire wj f_logged a_there a_kind a_period a_lasts a_rank a_overlaps a_makesUp a_minutes a_hours a_days a_months a_weekdays a_due a_started a_lost a_missed a_sinceStop rq wx a_slot a_filled a_behind a_before a_lies a_runs a_ends a_active a_logJob a_logAt a_logDue → wX_go_77 post J (nI j) (c + 1) x1 (nI (M - i)) f_workers f_now f_stopped f_duration f_priority f_overlap f_misfire f_waitingJobs f_logged a_there a_kind a_period a_lasts a_rank a_overlaps a_makesUp a_minutes a_hours a_days a_months a_weekdays a_due a_started a_lost a_missed a_sinceStop a_request a_waiting a_slot a_filled a_behind a_before a_lies a_runs a_ends a_active a_logJob a_logAt a_logDue) ∧
      (∀ (post : Int32 → SY → Prop) J, J x' (nI (j + 1)) f_workers f_now f_logged f_stopped f_duration f_priority f_overlap f_misfire ak b_kind a_lasts a_rank a_overlaps a_makesUp b_next b_period b_sets a_started a_lost a_missed (upd b_missedNow j 0) wy rq b_doing a_ends b_history b_fields → wY_go_80 post J (nI j) (nI M) (c + 1) x1 (nI i) f_workers f_now f_logged f_stopped f_duration f_priority f_overlap f_misfire g_asked b_kind a_lasts a_rank a_overlaps a_makesUp b_next b_period b_sets a_started a_lost a_missed b_missedNow b_waits a_request b_doing a_ends b_history b_fields) := by
  have hin : vp_in (nI j) 12 := vp_in_nI hj (by omega)
  have cj : (nI j).toNatClampNeg = j := nI_clamp (by omega)
  intro c
  induction c with
  | zero =>
    intro i x1 f_waitingJobs a_request a_waiting g_asked b_waits q hi hq hqc e gw
    have hq3 : q = 3 := by omega
    subst hq3
    obtain ⟨q', p1, p2, p3, -⟩ := gw.2 j hj
    have hw : a_waiting j = nI 3 := by rw [p3 ht, ← p2, e]
    refine ⟨f_waitingJobs, a_request, a_waiting, g_asked, b_waits, x1, gw, fun post J K => ?_, fun post J K => ?_⟩
    · refine br_c (fun _ => nm_r (nI_1 j) K) (fun _ => ⟨hin, br_t ?_ (nm_r (nI_1 j) K)⟩)
      rw [cj, hw]; decide
    · refine br_c (fun _ => ⟨hin, nm_r (e' := upd b_missedNow j 0) (by rw [cj]) (nm_r (nI_1 j) K)⟩) (fun _ => ⟨hin, br_t ?_ ⟨hin, nm_r (e' := upd b_missedNow j 0) (by rw [cj]) (nm_r (nI_1 j) K)⟩⟩)
      rw [cj, e]; decide
  | succ c ih =>
    intro i x1 f_waitingJobs a_request a_waiting g_asked b_waits q hi hq hqc e gw
    obtain ⟨q', p1, p2, p3, -⟩ := gw.2 j hj
    have hw : a_waiting j = nI q := by rw [p3 ht, ← p2, e]
    rcases Nat.lt_or_ge i M with z | z
    · obtain ⟨wj, rq, wx, ak, wy, x', k1, k2, k3⟩ := ih (i + 1) (x1 + 1) (f_waitingJobs ||| ((1 : Int32) <<< (nI j &&& 31))) (upd a_request (3 * j + q) f_now) (upd a_waiting j (nI (q + 1))) (g_asked + 1) (upd b_waits j (nI (q + 1))) (q + 1) (by omega) (by omega) (by omega) pk_us (zg_wait_inc gw hj ht (by omega) e)
      refine ⟨wj, rq, wx, ak, wy, x', k1, fun post J K => ?_, fun post J K => ?_⟩
      · refine br_f (nI_nle (by omega) (by omega)) ⟨hin, br_f ?_ (zx_ask hj (by omega) hw (nm_r (e' := nI (M - (i + 1))) ?_ (nm_e (k2 post J K))))⟩
        · rw [cj, hw]; exact nI_ge (b := 3) (by omega) (by omega)
        · rw [show M - i = (M - (i + 1)) + 1 by omega, pk_m1]
      · refine br_f (nI_ge z hM) ⟨hin, br_f ?_ (zy_ask hj (by omega) e (nm_e (nm_r (nI_1 i) (k3 post J K))))⟩
        rw [cj, e]; exact nI_ge (b := 3) (by omega) (by omega)
    · refine ⟨f_waitingJobs, a_request, a_waiting, g_asked, b_waits, x1, gw, fun post J K => ?_, fun post J K => ?_⟩
      · refine br_t ?_ (nm_r (nI_1 j) K)
        rw [show M - i = 0 by omega]; decide
      · exact br_t (nI_le z (by omega)) ⟨hin, nm_r (e' := upd b_missedNow j 0) (by rw [cj]) (nm_r (nI_1 j) K)⟩
/-- the same for any int -/
theorem zr_go_any {j : Nat} (hj : j < 12) (m0 x1 : Int32) (hm : m0 ≤ 0 ∨ a_there j = 1) (gw : zg_wait a_there a_waiting b_waits f_waitingJobs g_asked) :
    ∃ (wj : Int32) (rq wx : Nat → Int32) (ak : Int32) (wy : Nat → Int32) (x' : Int32), zg_wait a_there wx wy wj ak ∧ (∀ (post : Int32 → SX → Prop) J, J x' (nI (j + 1)) f_workers f_now f_stopped f_duration f_priority f_overlap f_misfire wj f_logged a_there a_kind a_period a_lasts a_rank a_overlaps a_makesUp a_minutes a_hours a_days a_months a_weekdays a_due a_started a_lost a_missed a_sinceStop rq wx a_slot a_filled a_behind a_before a_lies a_runs a_ends a_active a_logJob a_logAt a_logDue → ∃ n77 : Nat, wX_go_77 post J (nI j) n77 x1 m0 f_workers f_now f_stopped f_duration f_priority f_overlap f_misfire f_waitingJobs f_logged a_there a_kind a_period a_lasts a_rank a_overlaps a_makesUp a_minutes a_hours a_days a_months a_weekdays a_due a_started a_lost a_missed a_sinceStop a_request a_waiting a_slot a_filled a_behind a_before a_lies a_runs a_ends a_active a_logJob a_logAt a_logDue) ∧
      (∀ (post : Int32 → SY → Prop) J, J x' (nI (j + 1)) f_workers f_now f_logged f_stopped f_duration f_priority f_overlap f_misfire ak b_kind a_lasts a_rank a_overlaps a_makesUp b_next b_period b_sets a_started a_lost a_missed (upd b_missedNow j 0) wy rq b_doing a_ends b_history b_fields → ∃ n80 : Nat, wY_go_80 post J (nI j) m0 n80 x1 0 f_workers f_now f_logged f_stopped f_duration f_priority f_overlap f_misfire g_asked b_kind a_lasts a_rank a_overlaps a_makesUp b_next b_period b_sets a_started a_lost a_missed b_missedNow b_waits a_request b_doing a_ends b_history b_fields) := by
  have hin : vp_in (nI j) 12 := vp_in_nI hj (by omega)
  have cj : (nI j).toNatClampNeg = j := nI_clamp (by omega)
  by_cases h0 : m0 ≤ 0
  · refine ⟨f_waitingJobs, a_request, a_waiting, g_asked, b_waits, x1, gw, fun post J K => ⟨1, br_t h0 (nm_r (nI_1 j) K)⟩, fun post J K => ⟨1, br_t h0 ⟨hin, nm_r (e' := upd b_missedNow j 0) (by rw [cj]) (nm_r (nI_1 j) K)⟩⟩⟩
  · have ht := hm.resolve_left h0
    obtain ⟨M, hM, rfl⟩ := nI_of (x := m0) (fun z => h0 (Int32.le_of_lt z))
    obtain ⟨q, p1, p2, p3, -⟩ := gw.2 j hj
    obtain ⟨wj, rq, wx, ak, wy, x', k1, k2, k3⟩ := zr_go_in f_workers f_now f_stopped f_duration f_priority f_overlap f_misfire f_logged a_there a_kind a_period a_lasts a_rank a_overlaps a_makesUp a_minutes a_hours a_days a_months a_weekdays a_due a_started a_lost a_missed a_sinceStop a_slot a_filled a_behind a_before a_lies a_runs a_ends a_active a_logJob a_logAt a_logDue b_kind b_next b_period b_sets b_missedNow b_doing b_history b_fields hj ht hM (3 - q) 0 x1 f_waitingJobs a_request a_waiting g_asked b_waits q (by omega) p1 (by omega) p2 gw
    exact ⟨wj, rq, wx, ak, wy, x', k1, fun post J K => ⟨_, k2 post J K⟩, fun post J K => ⟨_, k3 post J K⟩⟩
theorem zr_go_lp (gj : zg_job a_there a_kind b_kind) : ∀ (n j : Nat) (x1 : Int32) (f_waitingJobs : Int32) (a_request a_waiting : Nat → Int32) (g_asked : Int32) (b_waits b_missedNow : Nat → Int32), j + n = 12 → (∀ i, j ≤ i → i < 12 → a_sinceStop i = b_missedNow i) → zg_wait a_there a_waiting b_waits f_waitingJobs g_asked →
    ∃ (wj : Int32) (rq wx : Nat → Int32) (ak : Int32) (wy mn : Nat → Int32) (x' : Int32), zg_wait a_there wx wy wj ak ∧ (∀ post : Int32 → SX → Prop, wX_go_18 post 1 x' (nI 12) f_workers f_now f_stopped f_duration f_priority f_overlap f_misfire wj f_logged a_there a_kind a_period a_lasts a_rank a_overlaps a_makesUp a_minutes a_hours a_days a_months a_weekdays a_due a_started a_lost a_missed a_sinceStop rq wx a_slot a_filled a_behind a_before a_lies a_runs a_ends a_active a_logJob a_logAt a_logDue → wX_go_18 post (n + 1) x1 (nI j) f_workers f_now f_stopped f_duration f_priority f_overlap f_misfire f_waitingJobs f_logged a_there a_kind a_period a_lasts a_rank a_overlaps a_makesUp a_minutes a_hours a_days a_months a_weekdays a_due a_started a_lost a_missed a_sinceStop a_request a_waiting a_slot a_filled a_behind a_before a_lies a_runs a_ends a_active a_logJob a_logAt a_logDue) ∧
      (∀ post : Int32 → SY → Prop, wY_go_18 post 1 x' (nI 12) f_workers f_now f_logged f_stopped f_duration f_priority f_overlap f_misfire ak b_kind a_lasts a_rank a_overlaps a_makesUp b_next b_period b_sets a_started a_lost a_missed mn wy rq b_doing a_ends b_history b_fields → wY_go_18 post (n + 1) x1 (nI j) f_workers f_now f_logged f_stopped f_duration f_priority f_overlap f_misfire g_asked b_kind a_lasts a_rank a_overlaps a_makesUp b_next b_period b_sets a_started a_lost a_missed b_missedNow b_waits a_request b_doing a_ends b_history b_fields) := by
  intro n
  induction n with
  | zero =>
    intro j x1 f_waitingJobs a_request a_waiting g_asked b_waits b_missedNow hj hs gw
    have e : j = 12 := by omega
    subst e
    exact ⟨f_waitingJobs, a_request, a_waiting, g_asked, b_waits, b_missedNow, x1, gw, fun post K => K, fun post K => K⟩
  | succ n ih =>
    intro j x1 f_waitingJobs a_request a_waiting g_asked b_waits b_missedNow hj hs gw
    have hj' : j < 12 := by omega
    have ne : ¬ (12 : Int32) ≤ nI j := nI_ge (b := 12) hj' (by omega)
    have hin : vp_in (nI j) 12 := vp_in_nI hj' (by omega)
    have cj : (nI j).toNatClampNeg = j := nI_clamp (by omega)
    have hss := hs j (Nat.le_refl _) hj'
    -- whatever the number
    have go : ∀ m0 : Int32, (m0 ≤ 0 ∨ a_there j = 1) → (∀ (post : Int32 → SX → Prop) (m : Nat), (∃ n77 : Nat, wX_go_77 post (wX_go_18 post m) (nI j) n77 x1 m0 f_workers f_now f_stopped f_duration f_priority f_overlap f_misfire f_waitingJobs f_logged a_there a_kind a_period a_lasts a_rank a_overlaps a_makesUp a_minutes a_hours a_days a_months a_weekdays a_due a_started a_lost a_missed a_sinceStop a_request a_waiting a_slot a_filled a_behind a_before a_lies a_runs a_ends a_active a_logJob a_logAt a_logDue) → wX_go_18 post (m + 1) x1 (nI j) f_workers f_now f_stopped f_duration f_priority f_overlap f_misfire f_waitingJobs f_logged a_there a_kind a_period a_lasts a_rank a_overlaps a_makesUp a_minutes a_hours a_days a_months a_weekdays a_due a_started a_lost a_missed a_sinceStop a_request a_waiting a_slot a_filled a_behind a_before a_lies a_runs a_ends a_active a_logJob a_logAt a_logDue) → (∀ (post : Int32 → SY → Prop) (m : Nat), (∃ n80 : Nat, wY_go_80 post (wY_go_18 post m) (nI j) m0 n80 x1 0 f_workers f_now f_logged f_stopped f_duration f_priority f_overlap f_misfire g_asked b_kind a_lasts a_rank a_overlaps a_makesUp b_next b_period b_sets a_started a_lost a_missed b_missedNow b_waits a_request b_doing a_ends b_history b_fields) → wY_go_18 post (m + 1) x1 (nI j) f_workers f_now f_logged f_stopped f_duration f_priority f_overlap f_misfire g_asked b_kind a_lasts a_rank a_overlaps a_makesUp b_next b_period b_sets a_started a_lost a_missed b_missedNow b_waits a_request b_doing a_ends b_history b_fields) →
        ∃ (wj : Int32) (rq wx : Nat → Int32) (ak : Int32) (wy mn : Nat → Int32) (x' : Int32), zg_wait a_there wx wy wj ak ∧ (∀ post : Int32 → SX → Prop, wX_go_18 post 1 x' (nI 12) f_workers f_now f_stopped f_duration f_priority f_overlap f_misfire wj f_logged a_there a_kind a_period a_lasts a_rank a_overlaps a_makesUp a_minutes a_hours a_days a_months a_weekdays a_due a_started a_lost a_missed a_sinceStop rq wx a_slot a_filled a_behind a_before a_lies a_runs a_ends a_active a_logJob a_logAt a_logDue → wX_go_18 post (n + 1 + 1) x1 (nI j) f_workers f_now f_stopped f_duration f_priority f_overlap f_misfire f_waitingJobs f_logged a_there a_kind a_period a_lasts a_rank a_overlaps a_makesUp a_minutes a_hours a_days a_months a_weekdays a_due a_started a_lost a_missed a_sinceStop a_request a_waiting a_slot a_filled a_behind a_before a_lies a_runs a_ends a_active a_logJob a_logAt a_logDue) ∧
        (∀ post : Int32 → SY → Prop, wY_go_18 post 1 x' (nI 12) f_workers f_now f_logged f_stopped f_duration f_priority f_overlap f_misfire ak b_kind a_lasts a_rank a_overlaps a_makesUp b_next b_period b_sets a_started a_lost a_missed mn wy rq b_doing a_ends b_history b_fields → wY_go_18 post (n + 1 + 1) x1 (nI j) f_workers f_now f_logged f_stopped f_duration f_priority f_overlap f_misfire g_asked b_kind a_lasts a_rank a_overlaps a_makesUp b_next b_period b_sets a_started a_lost a_missed b_missedNow b_waits a_request b_doing a_ends b_history b_fields) := by
      intro m0 hm hX hY
      obtain ⟨wj0, rq0, wx0, ak0, wy0, x0, g1, g2, g3⟩ := zr_go_any f_workers f_now f_stopped f_duration f_priority f_overlap f_misfire f_waitingJobs f_logged a_there a_kind a_period a_lasts a_rank a_overlaps a_makesUp a_minutes a_hours a_days a_months a_weekdays a_due a_started a_lost a_missed a_sinceStop a_request a_waiting a_slot a_filled a_behind a_before a_lies a_runs a_ends a_active a_logJob a_logAt a_logDue g_asked b_kind b_next b_period b_sets b_missedNow b_waits b_doing b_history b_fields hj' m0 x1 hm gw
      obtain ⟨wj, rq, wx, ak, wy, mn, x', k1, k2, k3⟩ := ih (j + 1) x0 wj0 rq0 wx0 ak0 wy0 (upd b_missedNow j 0) (by omega) (fun i h1 h2 => by rw [pk_un (show i ≠ j by omega)]; exact hs i (by omega) h2) g1
      exact ⟨wj, rq, wx, ak, wy, mn, x', k1, fun post K => hX post _ (g2 post _ (k2 post K)), fun post K => hY post _ (g3 post _ (k3 post K))⟩
    have l0 : (0 : Int32) ≤ 0 := by decide
    rcases gj j hj' with ⟨h0, hk⟩ | ⟨h1, hk, hk4⟩
    · exact go 0 (Or.inl l0) (fun post m K => br_f ne ⟨hin, br_t (by rw [cj]; exact h0) K⟩) (fun post m K => br_f ne ⟨hin, br_t (by rw [cj, hk]; exact zk_neg) K⟩)
    · have hn0 : ¬ a_there (nI j).toNatClampNeg = 0 := by rw [cj, h1]; exact zk_01
      have hkn : ¬ b_kind (nI j).toNatClampNeg < 0 := by
        rw [cj, hk]
        rcases hk4 with z | z | z | z <;> rw [z] <;> decide
      by_cases u0 : a_makesUp (nI j).toNatClampNeg = 0
      · exact go 0 (Or.inl l0) (fun post m K => br_f ne ⟨hin, br_f hn0 ⟨hin, br_t u0 K⟩⟩) (fun post m K => br_f ne ⟨hin, br_f hkn ⟨hin, br_t u0 K⟩⟩)
      · by_cases u1 : a_makesUp (nI j).toNatClampNeg = 1
        · by_cases s1 : a_sinceStop j ≤ 1
          · refine go (a_sinceStop j) (Or.inr h1) (fun post m K => br_f ne ⟨hin, br_f hn0 ⟨hin, br_f u0 ⟨hin, br_t u1 ⟨hin, br_t (by rw [cj]; exact s1) ⟨hin, nm_r (e' := a_sinceStop j) (by rw [cj]) K⟩⟩⟩⟩⟩) (fun post m K => br_f ne ⟨hin, br_f hkn ⟨hin, br_f u0 ⟨hin, br_t u1 ⟨hin, br_t (by rw [cj, ← hss]; exact s1) ⟨hin, nm_r (e' := a_sinceStop j) (by rw [cj, hss]) K⟩⟩⟩⟩⟩)
          · refine go 1 (Or.inr h1) (fun post m K => br_f ne ⟨hin, br_f hn0 ⟨hin, br_f u0 ⟨hin, br_t u1 ⟨hin, br_f (by rw [cj]; exact s1) K⟩⟩⟩⟩) (fun post m K => br_f ne ⟨hin, br_f hkn ⟨hin, br_f u0 ⟨hin, br_t u1 ⟨hin, br_f (by rw [cj, ← hss]; exact s1) K⟩⟩⟩⟩)
        · refine go (a_sinceStop j) (Or.inr h1) (fun post m K => br_f ne ⟨hin, br_f hn0 ⟨hin, br_f u0 ⟨hin, br_f u1 ⟨hin, nm_r (e' := a_sinceStop j) (by rw [cj]) K⟩⟩⟩⟩) (fun post m K => br_f ne ⟨hin, br_f hkn ⟨hin, br_f u0 ⟨hin, br_f u1 ⟨hin, nm_r (e' := a_sinceStop j) (by rw [cj, hss]) K⟩⟩⟩⟩)
end
theorem i_vc_go {k : Nat} {u : SX} {v : SY} (I : i_Rel k u v) (hk : k + 6 ≤ 3073) : wpX_go (fun r u' => wpY_go (fun r' v' => r' = r ∧ i_Rel (k + 6) u' v') v) u := by
  refine zr_el (Q := fun u v => wpX_go (fun r u' => wpY_go (fun r' v' => r' = r ∧ i_Rel (k + 6) u' v') v) u) ?_ I
  intro W T L f_workers f_now f_stopped f_duration f_priority f_overlap f_misfire f_waitingJobs f_logged a_there a_kind a_period a_lasts a_rank a_overlaps a_makesUp a_minutes a_hours a_days a_months a_weekdays a_due a_started a_lost a_missed a_sinceStop a_request a_waiting a_slot a_filled a_behind a_before a_lies a_runs a_ends a_active a_logJob a_logAt a_logDue g_asked b_kind b_next b_period b_sets b_missedNow b_waits b_doing b_history b_fields g
  have gg := g
  obtain ⟨h1, h2, h3, h4, h5, h6, h7, h8, h9, h10, h11, h12, h13, h14, h15, h16, h17, h18⟩ := g
  by_cases hs : f_stopped = 0
  · exact br_t hs (br_t hs ⟨rfl, zr_in (zr_G_up (by omega) gg)⟩)
  · have hs1 : f_stopped = 1 := h13.1.resolve_left hs
    obtain ⟨wj0, rq0, wx0, ak0, wy0, mn0, x0, g1, g2, g3⟩ := zr_go_lp f_workers f_now 0 f_duration f_priority f_overlap f_misfire f_logged a_there a_kind a_period a_lasts a_rank a_overlaps a_makesUp a_minutes a_hours a_days a_months a_weekdays a_due a_started a_lost a_missed a_sinceStop a_slot a_filled a_behind a_before a_lies a_runs a_ends a_active a_logJob a_logAt a_logDue b_kind b_next b_period b_sets b_doing b_history b_fields h8 12 0 0 f_waitingJobs a_request a_waiting g_asked b_waits b_missedNow (by omega) (fun i _ hi => h13.2 hs1 i hi) h12
    obtain ⟨wj, lg, st, rq, wx, rn, en, ac, lj, la, ld, ak, wy, dn, hs', L', n1, n2, n3, n4, n5, n6, KX, KY⟩ := zr_start f_workers f_now 0 f_duration f_priority f_overlap f_misfire wj0 f_logged a_there a_kind a_period a_lasts a_rank a_overlaps a_makesUp a_minutes a_hours a_days a_months a_weekdays a_due a_started a_lost a_missed a_sinceStop rq0 wx0 a_slot a_filled a_behind a_before a_lies a_runs a_ends a_active a_logJob a_logAt a_logDue ak0 b_kind b_next b_period b_sets mn0 wy0 b_doing b_history b_fields (W := W) (T := T) (L := L) h2 h3 h4 h5 (fun _ => Nat.le_refl _) rfl h8 h9 (by omega) g1 h16 h17
    have l12 : (12 : Int32) ≤ nI 12 := by decide
    refine br_f hs ⟨13, g2 _ (br_t l12 (KX _ (fun r => br_f hs ⟨13, g3 _ (br_t l12 (KY _ ⟨rfl, zr_in (W := W) (T := T) (L := L') ?_⟩))⟩)))⟩
    exact ⟨h1, h2, h3, h4, h5, by omega, h7, h8, h9, h10, h11, n2, ⟨Or.inl rfl, fun z => absurd z zk_10⟩, h14, h15, n3, n4, n5⟩
end
section
/-! give -/
def zk_gx (en rn : Nat → Int32) (j k : Nat) : Nat → Int32 := fun w => if w < k ∧ ¬ en w ≤ 0 ∧ rn w = nI j then -1 else rn w
def zk_gy (dn : Nat → Int32) (j k : Nat) : Nat → Int32 := fun w => if w < k ∧ dn w = nI j then -1 else dn w
theorem zk_gx0 (en rn : Nat → Int32) (j : Nat) : zk_gx en rn j 0 = rn := by funext i; unfold zk_gx; rw [if_neg (by omega)]
theorem zk_gy0 (dn : Nat → Int32) (j : Nat) : zk_gy dn j 0 = dn := by funext i; unfold zk_gy; rw [if_neg (by omega)]
theorem zk_gxk (en rn : Nat → Int32) (j k : Nat) : zk_gx en rn j k k = rn k := by unfold zk_gx; rw [if_neg (by omega)]
theorem zk_gyk (dn : Nat → Int32) (j k : Nat) : zk_gy dn j k k = dn k := by unfold zk_gy; rw [if_neg (by omega)]
theorem zk_gx_t {en rn : Nat → Int32} {j k : Nat} (h1 : ¬ en k ≤ 0) (h2 : rn k = nI j) : upd (zk_gx en rn j k) k (-1) = zk_gx en rn j (k + 1) := by
  funext i
  by_cases e : i = k
  · subst e; rw [pk_us]; unfold zk_gx; rw [if_pos ⟨by omega, h1, h2⟩]
  · rw [pk_un e]; unfold zk_gx
    by_cases z : i < k ∧ ¬ en i ≤ 0 ∧ rn i = nI j
    · rw [if_pos z, if_pos ⟨by omega, z.2⟩]
    · rw [if_neg z, if_neg (fun y => z ⟨by omega, y.2⟩)]
theorem zk_gx_f {en rn : Nat → Int32} {j k : Nat} (h : en k ≤ 0 ∨ ¬ rn k = nI j) : zk_gx en rn j k = zk_gx en rn j (k + 1) := by
  funext i
  unfold zk_gx
  by_cases e : i = k
  · subst e
    rw [if_neg (by omega), if_neg (fun y => h.elim (fun u => y.2.1 u) (fun u => u y.2.2))]
  · by_cases z : i < k ∧ ¬ en i ≤ 0 ∧ rn i = nI j
    · rw [if_pos z, if_pos ⟨by omega, z.2⟩]
    · rw [if_neg z, if_neg (fun y => z ⟨by omega, y.2⟩)]
theorem zk_gy_t {dn : Nat → Int32} {j k : Nat} (h2 : dn k = nI j) : upd (zk_gy dn j k) k (-1) = zk_gy dn j (k + 1) := by
  funext i
  by_cases e : i = k
  · subst e; rw [pk_us]; unfold zk_gy; rw [if_pos ⟨by omega, h2⟩]
  · rw [pk_un e]; unfold zk_gy
    by_cases z : i < k ∧ dn i = nI j
    · rw [if_pos z, if_pos ⟨by omega, z.2⟩]
    · rw [if_neg z, if_neg (fun y => z ⟨by omega, y.2⟩)]
theorem zk_gy_f {dn : Nat → Int32} {j k : Nat} (h : ¬ dn k = nI j) : zk_gy dn j k = zk_gy dn j (k + 1) := by
  funext i
  unfold zk_gy
  by_cases e : i = k
  · subst e
    rw [if_neg (by omega), if_neg (fun y => h y.2)]
  · by_cases z : i < k ∧ dn i = nI j
    · rw [if_pos z, if_pos ⟨by omega, z.2⟩]
    · rw [if_neg z, if_neg (fun y => z ⟨by omega, y.2⟩)]
section
variable {f_workers f_now f_stopped f_duration f_priority f_overlap f_misfire f_waitingJobs f_logged : Int32} {a_there a_kind a_period a_lasts a_rank a_overlaps a_makesUp a_minutes a_hours a_days a_months a_weekdays a_due a_started a_lost a_missed a_sinceStop a_request a_waiting a_slot : Nat → Int32} {a_filled : Nat → Int64} {a_behind a_before a_lies a_runs a_ends a_active a_logJob a_logAt a_logDue : Nat → Int32} {g_asked : Int32} {b_kind b_next b_period b_sets b_missedNow b_waits b_doing b_history b_fields : Nat → Int32}
theorem zx_give38 {post : Int32 → SX → Prop} {W j : Nat} (hW : W ≤ 3) (eW : f_workers = nI W) (K : post 1 (f_workers, f_now, f_stopped, f_duration, f_priority, f_overlap, f_misfire, f_waitingJobs, f_logged, a_there, a_kind, a_period, a_lasts, a_rank, a_overlaps, a_makesUp, a_minutes, a_hours, a_days, a_months, a_weekdays, a_due, a_started, a_lost, a_missed, a_sinceStop, a_request, a_waiting, a_slot, a_filled, a_behind, a_before, a_lies, zk_gx a_ends a_runs j W, a_ends, a_active, a_logJob, a_logAt, a_logDue)) : ∀ n w, w + n = W → wX_give_38 post (nI j) f_workers f_now f_stopped f_duration f_priority f_overlap f_misfire f_waitingJobs f_logged (n + 1) (nI w) a_there a_kind a_period a_lasts a_rank a_overlaps a_makesUp a_minutes a_hours a_days a_months a_weekdays a_due a_started a_lost a_missed a_sinceStop a_request a_waiting a_slot a_filled a_behind a_before a_lies (zk_gx a_ends a_runs j w) a_ends a_active a_logJob a_logAt a_logDue := by
  intro n
  induction n with
  | zero =>
    intro w hw
    have e : w = W := by omega
    subst e
    exact br_t (by rw [eW]; exact nI_le (Nat.le_refl _) (by omega)) K
  | succ n ih =>
    intro w hw
    have ne : ¬ f_workers ≤ nI w := by rw [eW]; exact nI_ge (by omega) (by omega)
    have hin : vp_in (nI w) 3 := vp_in_nI (by omega) (by omega)
    have cw : (nI w).toNatClampNeg = w := nI_clamp (by omega)
    have K' := ih (w + 1) (by omega)
    refine br_f ne ?_
    show vp_in (nI w) 3 ∧ _
    rw [cw, zk_gxk, zk_vbm]
    refine ⟨hin, br_c (fun h => nm_r (nI_1 w) ?_) (fun h => ⟨hin, br_c (fun h2 => ⟨hin, nm_r (zk_gx_t h h2) (nm_r (nI_1 w) K')⟩) (fun h2 => nm_r (nI_1 w) ?_)⟩)⟩
    · rw [← zk_gx_f (Or.inl h)] at K'; exact K'
    · rw [← zk_gx_f (Or.inr h2)] at K'; exact K'
theorem zy_give41 {post : Int32 → SY → Prop} {W j : Nat} (hW : W ≤ 3) (eW : f_workers = nI W) (K : post 1 (f_workers, f_now, f_logged, f_stopped, f_duration, f_priority, f_overlap, f_misfire, g_asked, b_kind, a_lasts, a_rank, a_overlaps, a_makesUp, b_next, b_period, b_sets, a_started, a_lost, a_missed, b_missedNow, b_waits, a_request, zk_gy b_doing j W, a_ends, b_history, b_fields)) : ∀ n w, w + n = W → wY_give_41 post (nI j) f_workers f_now f_logged f_stopped f_duration f_priority f_overlap f_misfire g_asked (n + 1) (nI w) b_kind a_lasts a_rank a_overlaps a_makesUp b_next b_period b_sets a_started a_lost a_missed b_missedNow b_waits a_request (zk_gy b_doing j w) a_ends b_history b_fields := by
  intro n
  induction n with
  | zero =>
    intro w hw
    have e : w = W := by omega
    subst e
    exact br_t (by rw [eW]; exact nI_le (Nat.le_refl _) (by omega)) K
  | succ n ih =>
    intro w hw
    have ne : ¬ f_workers ≤ nI w := by rw [eW]; exact nI_ge (by omega) (by omega)
    have hin : vp_in (nI w) 3 := vp_in_nI (by omega) (by omega)
    have cw : (nI w).toNatClampNeg = w := nI_clamp (by omega)
    have K' := ih (w + 1) (by omega)
    refine br_f ne ?_
    show vp_in (nI w) 3 ∧ _
    rw [cw, zk_gyk]
    refine ⟨hin, br_c (fun h2 => ⟨hin, nm_r (zk_gy_t h2) (nm_r (nI_1 w) K')⟩) (fun h2 => nm_r (nI_1 w) ?_)⟩
    rw [← zk_gy_f h2] at K'; exact K'
end
theorem zg_run_give {W j : Nat} {ε : Nat → Nat} {th en rn dn ac : Nat → Int32} (g : zg_run W ε th en rn dn ac) (hj : j < 12) : zg_run W ε (upd th j 0) en (zk_gx en rn j W) (zk_gy dn j W) ac := by
  have pos : ∀ w, w < W → en w ≠ 0 → ¬ en w ≤ 0 ∧ rn w = dn w := fun w hw h => by
    rcases g.1 w hw with z | ⟨⟨e, e1, e2, e3⟩, z2, -⟩
    · exact absurd z h
    · exact ⟨by rw [e1]; exact nI_nle (by omega) (by omega), z2⟩
  have val : ∀ w i, w < W → en w ≠ 0 → i < 12 → zk_gx en rn j W w = nI i → rn w = nI i ∧ i ≠ j := fun w i hw h hi e => by
    unfold zk_gx at e
    by_cases z : rn w = nI j
    · rw [if_pos ⟨hw, (pos w hw h).1, z⟩] at e; exact absurd e.symm (zk_ne (by omega))
    · rw [if_neg (fun y => z y.2.2)] at e
      exact ⟨e, fun y => z (by rw [e, y])⟩
  refine ⟨fun w hw => ?_, fun w w' i hw hw' hi n1 n2 r1 r2 => g.2.1 w w' i hw hw' hi n1 n2 (val w i hw n1 hi r1).1 (val w' i hw' n2 hi r2).1, fun i hi hti => ?_⟩
  · rcases g.1 w hw with z | ⟨⟨e, e1, e2, e3⟩, z2, z3⟩
    · exact Or.inl z
    · have hp : ¬ en w ≤ 0 := by rw [e1]; exact nI_nle (by omega) (by omega)
      refine Or.inr ⟨⟨e, e1, e2, e3⟩, ?_, ?_⟩
      · unfold zk_gx zk_gy
        by_cases z : rn w = nI j
        · rw [if_pos ⟨hw, hp, z⟩, if_pos ⟨hw, by rw [← z2]; exact z⟩]
        · rw [if_neg (fun y => z y.2.2), if_neg (fun y => z (by rw [z2]; exact y.2))]; exact z2
      · by_cases z : rn w = nI j
        · left; unfold zk_gx; rw [if_pos ⟨hw, hp, z⟩]
        · have e' : zk_gx en rn j W w = rn w := by unfold zk_gx; rw [if_neg (fun y => z y.2.2)]
          rw [e']
          rcases z3 with z3 | ⟨i, i1, i2, i3, i4⟩
          · exact Or.inl z3
          · have hij : i ≠ j := fun y => z (by rw [i2, y])
            exact Or.inr ⟨i, i1, i2, by rw [pk_un hij]; exact i3, i4⟩
  · by_cases e : i = j
    · rw [e, pk_us] at hti; exact absurd hti zk_10
    · rw [pk_un e] at hti
      rcases g.2.2 i hi hti with z | ⟨z, w, w1, w2, w3⟩
      · exact Or.inl z
      · refine Or.inr ⟨z, w, w1, w2, ?_⟩
        have hne : ¬ rn w = nI j := fun y => e (zw_inj hi hj (w3.symm.trans y))
        unfold zk_gx
        rw [if_neg (fun y => hne y.2.2)]; exact w3
theorem zg_wait_give {th wx wy : Nat → Int32} {wj ak : Int32} {j : Nat} (g : zg_wait th wx wy wj ak) (hj : j < 12) : zg_wait (upd th j 0) wx (upd wy j 0) (wj &&& (((1 : Int32) <<< (nI j &&& 31)) ^^^ (-1))) (ak - wy j) := by
  have hb := zk_sm_bd 12 (zg_wait_q g)
  have hl := zk_sm_le 12 (zg_wait_q g) hj
  obtain ⟨q, q1, q2, -⟩ := g.2 j hj
  have hq : (wy j).toInt = (q : Int) := by rw [q2, nI_toInt (by omega)]
  refine ⟨?_, fun i hi => ?_⟩
  · rw [zk_subi (by rw [g.1, hq]; omega) (by rw [g.1, hq]; omega), zk_sm_upd 12 hj, g.1, zk_t0]
    omega
  · by_cases e : i = j
    · subst e
      rw [pk_us, pk_us]
      refine ⟨0, by omega, rfl, fun z => absurd z zk_10, fun _ => rfl, ?_⟩
      rw [zk_clr _ (by omega) (by omega)]; simp
    · obtain ⟨q', h1, h2, h3, h4, h5⟩ := g.2 i hi
      rw [pk_un e, pk_un e]
      refine ⟨q', h1, h2, h3, h4, ?_⟩
      rw [zk_clr _ (by omega) (by omega), h5]; simp [e]
section
variable (f_workers f_now f_stopped f_duration f_priority f_overlap f_misfire f_waitingJobs f_logged : Int32) (a_there a_kind a_period a_lasts a_rank a_overlaps a_makesUp a_minutes a_hours a_days a_months a_weekdays a_due a_started a_lost a_missed a_sinceStop a_request a_waiting a_slot : Nat → Int32) (a_filled : Nat → Int64) (a_behind a_before a_lies a_runs a_ends a_active a_logJob a_logAt a_logDue : Nat → Int32)
theorem zx_unf {j T : Nat} (hj : j < 12) (ht : a_there j = 1) (gh : zg_whl T a_there a_due a_lies a_slot a_filled a_behind a_before) (hd : a_due j = -1 ∨ ∃ d, d ≤ 1000000 ∧ a_due j = nI d) :
    ∃ (li sl : Nat → Int32) (fi : Nat → Int64) (bh bf : Nat → Int32), (∃ C, zw_W C li sl fi bh bf) ∧ li j = -1 ∧ (∀ i, i ≠ j → li i = a_lies i) ∧ ∀ post : SX → Prop, post (f_workers, f_now, f_stopped, f_duration, f_priority, f_overlap, f_misfire, f_waitingJobs, f_logged, a_there, a_kind, a_period, a_lasts, a_rank, a_overlaps, a_makesUp, a_minutes, a_hours, a_days, a_months, a_weekdays, a_due, a_started, a_lost, a_missed, a_sinceStop, a_request, a_waiting, sl, fi, bh, bf, li, a_runs, a_ends, a_active, a_logJob, a_logAt, a_logDue) → wpX_unfile post (f_workers, f_now, f_stopped, f_duration, f_priority, f_overlap, f_misfire, f_waitingJobs, f_logged, a_there, a_kind, a_period, a_lasts, a_rank, a_overlaps, a_makesUp, a_minutes, a_hours, a_days, a_months, a_weekdays, a_due, a_started, a_lost, a_missed, a_sinceStop, a_request, a_waiting, a_slot, a_filled, a_behind, a_before, a_lies, a_runs, a_ends, a_active, a_logJob, a_logAt, a_logDue) (nI j) := by
  obtain ⟨⟨C, WC⟩, gh2⟩ := gh
  rcases hd with z | ⟨d, hd, z⟩
  · have hl := (gh2 j hj).2 (Or.inr z)
    exact ⟨a_lies, a_slot, a_filled, a_behind, a_before, ⟨C, WC⟩, hl, fun _ _ => rfl, fun post P => zx_unfile_no f_workers f_now f_stopped f_duration f_priority f_overlap f_misfire f_waitingJobs f_logged a_there a_kind a_period a_lasts a_rank a_overlaps a_makesUp a_minutes a_hours a_days a_months a_weekdays a_due a_started a_lost a_missed a_sinceStop a_request a_waiting a_slot a_filled a_behind a_before a_lies a_runs a_ends a_active a_logJob a_logAt a_logDue hj hl P⟩
  · have hat := zk_at_lt T d
    have hl := (gh2 j hj).1 ht d hd z
    obtain ⟨l1, l2, hC⟩ := List.append_of_mem (zw_in WC hj hat hl)
    obtain ⟨sl, fi, bh, bf, W1, KU⟩ := zx_unfile f_workers f_now f_stopped f_duration f_priority f_overlap f_misfire f_waitingJobs f_logged a_there a_kind a_period a_lasts a_rank a_overlaps a_makesUp a_minutes a_hours a_days a_months a_weekdays a_due a_started a_lost a_missed a_sinceStop a_request a_waiting a_slot a_filled a_behind a_before a_lies a_runs a_ends a_active a_logJob a_logAt a_logDue hj hat hl WC hC
    exact ⟨_, sl, fi, bh, bf, ⟨_, W1⟩, pk_us, fun i hi => pk_un hi, KU⟩
end
theorem i_vc_give {k : Nat} {u : SX} {v : SY} (I : i_Rel k u v) (hk : k + 6 ≤ 3073) (v1 : Int32) : wpX_give (fun r u' => wpY_give (fun r' v' => r' = r ∧ i_Rel (k + 6) u' v') v v1) u v1 := by
  refine zr_el (Q := fun u v => wpX_give (fun r u' => wpY_give (fun r' v' => r' = r ∧ i_Rel (k + 6) u' v') v v1) u v1) ?_ I
  intro W T L f_workers f_now f_stopped f_duration f_priority f_overlap f_misfire f_waitingJobs f_logged a_there a_kind a_period a_lasts a_rank a_overlaps a_makesUp a_minutes a_hours a_days a_months a_weekdays a_due a_started a_lost a_missed a_sinceStop a_request a_waiting a_slot a_filled a_behind a_before a_lies a_runs a_ends a_active a_logJob a_logAt a_logDue g_asked b_kind b_next b_period b_sets b_missedNow b_waits b_doing b_history b_fields g
  have gg := g
  obtain ⟨h1, h2, h3, h4, h5, h6, h7, h8, h9, h10, h11, h12, h13, h14, h15, h16, h17, h18⟩ := g
  unfold wpX_give
  dsimp only
  rcases zr_isJob f_workers f_now f_stopped f_duration f_priority f_overlap f_misfire f_waitingJobs f_logged a_there a_kind a_period a_lasts a_rank a_overlaps a_makesUp a_minutes a_hours a_days a_months a_weekdays a_due a_started a_lost a_missed a_sinceStop a_request a_waiting a_slot a_filled a_behind a_before a_lies a_runs a_ends a_active a_logJob a_logAt a_logDue g_asked b_kind b_next b_period b_sets b_missedNow b_waits b_doing b_history b_fields h8 v1 with ⟨j, hj, rfl, ht, JX, JY⟩ | ⟨JX, JY⟩
  · have hin : vp_in (nI j) 12 := vp_in_nI hj (by omega)
    have cj : (nI j).toNatClampNeg = j := nI_clamp (by omega)
    have hdue : a_due j = -1 ∨ ∃ d, d ≤ 1000000 ∧ a_due j = nI d := by
      have z := h14 j hj ht
      by_cases k3 : a_kind j = 3
      · rcases z.2 k3 with ⟨y, -⟩ | ⟨d, d1, d2, d3, -⟩
        · exact Or.inl y
        · exact Or.inr ⟨d, d3, d1⟩
      · rcases z.1 k3 with ⟨d, d1, d2, d3, d4⟩ | ⟨y, -⟩
        · exact Or.inr ⟨d, d4, d1⟩
        · exact Or.inl y
    obtain ⟨li, sl, fi, bh, bf, w1, w2, w3, KU⟩ := zx_unf f_workers f_now f_stopped f_duration f_priority f_overlap f_misfire f_waitingJobs f_logged a_there a_kind a_period a_lasts a_rank a_overlaps a_makesUp a_minutes a_hours a_days a_months a_weekdays a_due a_started a_lost a_missed a_sinceStop a_request a_waiting a_slot a_filled a_behind a_before a_lies a_runs a_ends a_active a_logJob a_logAt a_logDue hj ht h15 hdue
    refine JX _ (br_f zk_01 (KU _ ?_))
    dsimp only
    rw [cj, zk_vz0]
    refine ⟨hin, nm_e (nm_e ⟨W + 1, ?_⟩)⟩
    have KX := zx_give38 (j := j) (post := fun r u' => wpY_give (fun r' v' => r' = r ∧ i_Rel (k + 6) u' v') (f_workers, f_now, f_logged, f_stopped, f_duration, f_priority, f_overlap, f_misfire, g_asked, b_kind, a_lasts, a_rank, a_overlaps, a_makesUp, b_next, b_period, b_sets, a_started, a_lost, a_missed, b_missedNow, b_waits, a_request, b_doing, a_ends, b_history, b_fields) (nI j)) (f_workers := f_workers) (f_now := f_now) (f_stopped := f_stopped) (f_duration := f_duration) (f_priority := f_priority) (f_overlap := f_overlap) (f_misfire := f_misfire) (f_waitingJobs := f_waitingJobs &&& (((1 : Int32) <<< (nI j &&& 31)) ^^^ (-1))) (f_logged := f_logged) (a_there := upd a_there j 0) (a_kind := a_kind) (a_period := a_period) (a_lasts := a_lasts) (a_rank := a_rank) (a_overlaps := a_overlaps) (a_makesUp := a_makesUp) (a_minutes := a_minutes) (a_hours := a_hours) (a_days := a_days) (a_months := a_months) (a_weekdays := a_weekdays) (a_due := a_due) (a_started := a_started) (a_lost := a_lost) (a_missed := a_missed) (a_sinceStop := a_sinceStop) (a_request := a_request) (a_waiting := a_waiting) (a_slot := sl) (a_filled := fi) (a_behind := bh) (a_before := bf) (a_lies := li) (a_runs := a_runs) (a_ends := a_ends) (a_active := a_active) (a_logJob := a_logJob) (a_logAt := a_logAt) (a_logDue := a_logDue) h2 h3 ?_ W 0 (by omega)
    · rw [zk_gx0] at KX; exact KX
    unfold wpY_give
    dsimp only
    refine JY _ (br_f zk_01 ?_)
    rw [cj]
    refine ⟨hin, nm_e ⟨hin, nm_e ⟨hin, nm_e ⟨W + 1, ?_⟩⟩⟩⟩
    have KY := zy_give41 (j := j) (post := fun r' v' => r' = 1 ∧ i_Rel (k + 6) (f_workers, f_now, f_stopped, f_duration, f_priority, f_overlap, f_misfire, f_waitingJobs &&& (((1 : Int32) <<< (nI j &&& 31)) ^^^ (-1)), f_logged, upd a_there j 0, a_kind, a_period, a_lasts, a_rank, a_overlaps, a_makesUp, a_minutes, a_hours, a_days, a_months, a_weekdays, a_due, a_started, a_lost, a_missed, a_sinceStop, a_request, a_waiting, sl, fi, bh, bf, li, zk_gx a_ends a_runs j W, a_ends, a_active, a_logJob, a_logAt, a_logDue) v') (f_workers := f_workers) (f_now := f_now) (f_logged := f_logged) (f_stopped := f_stopped) (f_duration := f_duration) (f_priority := f_priority) (f_overlap := f_overlap) (f_misfire := f_misfire) (g_asked := g_asked - b_waits j) (b_kind := upd b_kind j (-1)) (a_lasts := a_lasts) (a_rank := a_rank) (a_overlaps := a_overlaps) (a_makesUp := a_makesUp) (b_next := b_next) (b_period := b_period) (b_sets := b_sets) (a_started := a_started) (a_lost := a_lost) (a_missed := a_missed) (b_missedNow := b_missedNow) (b_waits := upd b_waits j 0) (a_request := a_request) (b_doing := b_doing) (a_ends := a_ends) (b_history := b_history) (b_fields := b_fields) h2 h3 ?_ W 0 (by omega)
    · rw [zk_gy0] at KY; exact KY
    refine ⟨rfl, zr_in (W := W) (T := T) (L := L) ?_⟩
    have th1 : ∀ i, upd a_there j 0 i = 1 → i ≠ j ∧ a_there i = 1 := fun i hi => by
      by_cases e : i = j
      · rw [e, pk_us] at hi; exact absurd hi zk_10
      · rw [pk_un e] at hi; exact ⟨e, hi⟩
    refine ⟨h1, h2, h3, h4, h5, by omega, h7, fun i hi => ?_, fun i hi hti => h9 i hi (th1 i hti).2, fun i hi hti => h10 i hi (th1 i hti).2, fun i hi hti => h11 i hi (th1 i hti).2, zg_wait_give h12 hj, h13, fun i hi hti => h14 i hi (th1 i hti).2, ⟨w1, fun i hi => ⟨fun hti d hd e => ?_, fun z => ?_⟩⟩, zg_run_give h16 hj, h17, fun hs => ?_⟩
    · by_cases e : i = j
      · subst e; rw [pk_us, pk_us]; exact Or.inl ⟨rfl, rfl⟩
      · rw [pk_un e, pk_un e]; exact h8 i hi
    · rw [w3 i (th1 i hti).1]; exact (h15.2 i hi).1 (th1 i hti).2 d hd e
    · by_cases e : i = j
      · rw [e]; exact w2
      · rw [w3 i e]
        rw [pk_un e] at z
        exact (h15.2 i hi).2 z
    · rcases h18 hs with z | z
      · exact Or.inl z
      · refine Or.inr (fun i hi hti hw => z i hi (th1 i hti).2 ?_)
        rw [pk_un (th1 i hti).1] at hw; exact hw
  · refine JX _ (br_t rfl ?_)
    unfold wpY_give
    dsimp only
    exact JY _ (br_t rfl ⟨rfl, zr_in (zr_G_up (by omega) gg)⟩)
end
section
/-! job -/
theorem zk_ge1 {x : Int32} : ¬ x ≤ 0 ↔ 1 ≤ x := by
  rw [Int32.le_iff_toInt_le, Int32.le_iff_toInt_le, zk_t0, zk_t1]; omega
theorem zk_lem {x : Int32} {m : Nat} (hm : m + 1 < 2 ^ 31) : ¬ nI (m + 1) ≤ x ↔ x ≤ nI m := by
  rw [Int32.le_iff_toInt_le, Int32.le_iff_toInt_le, nI_toInt hm, nI_toInt (show m < 2 ^ 31 by omega)]; omega
section
variable (f_workers f_now f_stopped f_duration f_priority f_overlap f_misfire f_waitingJobs f_logged : Int32) (a_there a_kind a_period a_lasts a_rank a_overlaps a_makesUp a_minutes a_hours a_days a_months a_weekdays a_due a_started a_lost a_missed a_sinceStop a_request a_waiting a_slot : Nat → Int32) (a_filled : Nat → Int64) (a_behind a_before a_lies a_runs a_ends a_active a_logJob a_logAt a_logDue : Nat → Int32) (g_asked : Int32) (b_kind b_next b_period b_sets b_missedNow b_waits b_doing b_history b_fields : Nat → Int32)
theorem zr_free (gj : zg_job a_there a_kind b_kind) : (∃ j, j < 12 ∧ a_there j = 0 ∧ (∀ post : Int32 → Prop, post (nI j) → wpX_free post (f_workers, f_now, f_stopped, f_duration, f_priority, f_overlap, f_misfire, f_waitingJobs, f_logged, a_there, a_kind, a_period, a_lasts, a_rank, a_overlaps, a_makesUp, a_minutes, a_hours, a_days, a_months, a_weekdays, a_due, a_started, a_lost, a_missed, a_sinceStop, a_request, a_waiting, a_slot, a_filled, a_behind, a_before, a_lies, a_runs, a_ends, a_active, a_logJob, a_logAt, a_logDue)) ∧ (∀ post : Int32 → Prop, post (nI j) → wpY_free post (f_workers, f_now, f_logged, f_stopped, f_duration, f_priority, f_overlap, f_misfire, g_asked, b_kind, a_lasts, a_rank, a_overlaps, a_makesUp, b_next, b_period, b_sets, a_started, a_lost, a_missed, b_missedNow, b_waits, a_request, b_doing, a_ends, b_history, b_fields))) ∨ ((∀ post : Int32 → Prop, post (-1) → wpX_free post (f_workers, f_now, f_stopped, f_duration, f_priority, f_overlap, f_misfire, f_waitingJobs, f_logged, a_there, a_kind, a_period, a_lasts, a_rank, a_overlaps, a_makesUp, a_minutes, a_hours, a_days, a_months, a_weekdays, a_due, a_started, a_lost, a_missed, a_sinceStop, a_request, a_waiting, a_slot, a_filled, a_behind, a_before, a_lies, a_runs, a_ends, a_active, a_logJob, a_logAt, a_logDue)) ∧ (∀ post : Int32 → Prop, post (-1) → wpY_free post (f_workers, f_now, f_logged, f_stopped, f_duration, f_priority, f_overlap, f_misfire, g_asked, b_kind, a_lasts, a_rank, a_overlaps, a_makesUp, b_next, b_period, b_sets, a_started, a_lost, a_missed, b_missedNow, b_waits, a_request, b_doing, a_ends, b_history, b_fields))) := by
  have key : ∀ n j, j + n = 12 → (∃ i, i < 12 ∧ a_there i = 0 ∧ (∀ post : Int32 → Prop, post (nI i) → wX_free_2 post f_workers f_now f_stopped f_duration f_priority f_overlap f_misfire f_waitingJobs f_logged a_there a_kind a_period a_lasts a_rank a_overlaps a_makesUp a_minutes a_hours a_days a_months a_weekdays a_due a_started a_lost a_missed a_sinceStop a_request a_waiting a_slot a_filled a_behind a_before a_lies a_runs a_ends a_active a_logJob a_logAt a_logDue (n + 1) (nI j)) ∧ (∀ post : Int32 → Prop, post (nI i) → wY_free_2 post f_workers f_now f_logged f_stopped f_duration f_priority f_overlap f_misfire g_asked b_kind a_lasts a_rank a_overlaps a_makesUp b_next b_period b_sets a_started a_lost a_missed b_missedNow b_waits a_request b_doing a_ends b_history b_fields (n + 1) (nI j))) ∨ ((∀ post : Int32 → Prop, post (-1) → wX_free_2 post f_workers f_now f_stopped f_duration f_priority f_overlap f_misfire f_waitingJobs f_logged a_there a_kind a_period a_lasts a_rank a_overlaps a_makesUp a_minutes a_hours a_days a_months a_weekdays a_due a_started a_lost a_missed a_sinceStop a_request a_waiting a_slot a_filled a_behind a_before a_lies a_runs a_ends a_active a_logJob a_logAt a_logDue (n + 1) (nI j)) ∧ (∀ post : Int32 → Prop, post (-1) → wY_free_2 post f_workers f_now f_logged f_stopped f_duration f_priority f_overlap f_misfire g_asked b_kind a_lasts a_rank a_overlaps a_makesUp b_next b_period b_sets a_started a_lost a_missed b_missedNow b_waits a_request b_doing a_ends b_history b_fields (n + 1) (nI j))) := by
    intro n
    induction n with
    | zero =>
      intro j hj
      have e : j = 12 := by omega
      subst e
      have l : (12 : Int32) ≤ nI 12 := by decide
      exact Or.inr ⟨fun post P => br_t l (br_t rfl P), fun post P => br_t l P⟩
    | succ n ih =>
      intro j hj
      have hj' : j < 12 := by omega
      have ne : ¬ (12 : Int32) ≤ nI j := nI_ge (b := 12) hj' (by omega)
      have hin : vp_in (nI j) 12 := vp_in_nI hj' (by omega)
      have cj : (nI j).toNatClampNeg = j := nI_clamp (by omega)
      rcases gj j hj' with ⟨h0, hk⟩ | ⟨h1, hk, hk4⟩
      · refine Or.inl ⟨j, hj', h0, fun post P => br_f ne ⟨hin, br_t (by rw [cj]; exact h0) (br_f ?_ P)⟩, fun post P => br_f ne ⟨hin, br_f (by rw [cj, hk]; exact zk_nge) P⟩⟩
        exact fun z => by have := (nI_eq (b := 12) (by omega) (by omega)).mp z; omega
      · have hn0 : ¬ a_there (nI j).toNatClampNeg = 0 := by rw [cj, h1]; exact zk_01
        have hkn : (0 : Int32) ≤ b_kind (nI j).toNatClampNeg := by
          rw [cj, hk]
          rcases hk4 with z | z | z | z <;> rw [z] <;> decide
        rcases ih (j + 1) (by omega) with ⟨i, i1, i2, i3, i4⟩ | ⟨i3, i4⟩
        · exact Or.inl ⟨i, i1, i2, fun post P => br_f ne ⟨hin, br_f hn0 (nm_r (nI_1 j) (i3 post P))⟩, fun post P => br_f ne ⟨hin, br_t hkn (nm_r (nI_1 j) (i4 post P))⟩⟩
        · exact Or.inr ⟨fun post P => br_f ne ⟨hin, br_f hn0 (nm_r (nI_1 j) (i3 post P))⟩, fun post P => br_f ne ⟨hin, br_t hkn (nm_r (nI_1 j) (i4 post P))⟩⟩
  rcases key 12 0 (by omega) with ⟨i, i1, i2, i3, i4⟩ | ⟨i3, i4⟩
  · exact Or.inl ⟨i, i1, i2, fun post P => ⟨_, i3 post P⟩, fun post P => ⟨_, i4 post P⟩⟩
  · exact Or.inr ⟨fun post P => ⟨_, i3 post P⟩, fun post P => ⟨_, i4 post P⟩⟩
end
section
variable {f_workers f_now f_stopped f_duration f_priority f_overlap f_misfire f_waitingJobs f_logged : Int32} {a_there a_kind a_period a_lasts a_rank a_overlaps a_makesUp a_minutes a_hours a_days a_months a_weekdays a_due a_started a_lost a_missed a_sinceStop a_request a_waiting a_slot : Nat → Int32} {a_filled : Nat → Int64} {a_behind a_before a_lies a_runs a_ends a_active a_logJob a_logAt a_logDue : Nat → Int32} {g_asked : Int32} {b_kind b_next b_period b_sets b_missedNow b_waits b_doing b_history b_fields : Nat → Int32}
theorem zx_begin {post : SX → Prop} {j q : Nat} {p : Int32} (hj : j < 12) (hq : q ≤ 3) (gm : zg_man f_duration f_priority f_overlap f_misfire) (K : post (f_workers, f_now, f_stopped, f_duration, f_priority, f_overlap, f_misfire, f_waitingJobs, f_logged, upd a_there j 1, upd a_kind j (nI q), upd a_period j (p.toInt16.toInt32), upd a_lasts j f_duration, upd a_rank j f_priority, upd a_overlaps j f_overlap, upd a_makesUp j f_misfire, a_minutes, a_hours, a_days, a_months, a_weekdays, a_due, upd a_started j 0, upd a_lost j 0, upd a_missed j 0, upd a_sinceStop j 0, a_request, upd a_waiting j 0, a_slot, a_filled, a_behind, a_before, a_lies, a_runs, a_ends, upd a_active j 0, a_logJob, a_logAt, a_logDue)) : wpX_begin post (f_workers, f_now, f_stopped, f_duration, f_priority, f_overlap, f_misfire, f_waitingJobs, f_logged, a_there, a_kind, a_period, a_lasts, a_rank, a_overlaps, a_makesUp, a_minutes, a_hours, a_days, a_months, a_weekdays, a_due, a_started, a_lost, a_missed, a_sinceStop, a_request, a_waiting, a_slot, a_filled, a_behind, a_before, a_lies, a_runs, a_ends, a_active, a_logJob, a_logAt, a_logDue) (nI j) (nI q) p := by
  obtain ⟨⟨a, a1, a2, rfl⟩, ⟨b, b1, rfl⟩, ho, ⟨d, d1, rfl⟩⟩ := gm
  have hin : vp_in (nI j) 12 := vp_in_nI hj (by omega)
  have k63 : ∀ x : Int32, vp_nar .boolean x = f_overlap → wX_begin_63 post (nI j) x (nI j) f_workers f_now f_stopped (nI a) (nI b) f_overlap (nI d) f_waitingJobs f_logged (upd a_there j 1) (upd a_kind j (nI q)) (upd a_period j (p.toInt16.toInt32)) (upd a_lasts j (nI a)) (upd a_rank j (nI b)) a_overlaps a_makesUp a_minutes a_hours a_days a_months a_weekdays a_due a_started a_lost a_missed a_sinceStop a_request a_waiting a_slot a_filled a_behind a_before a_lies a_runs a_ends a_active a_logJob a_logAt a_logDue := by
    intro x hx
    unfold wX_begin_63
    rw [show (nI j).toNatClampNeg = j from nI_clamp (by omega), hx, zk_vb (show d < 128 by omega), zk_vb0, zk_vz0]
    exact ⟨hin, nm_e ⟨hin, nm_e ⟨hin, nm_e ⟨hin, nm_e ⟨hin, nm_e ⟨hin, nm_e ⟨hin, nm_e ⟨hin, nm_e K⟩⟩⟩⟩⟩⟩⟩⟩
  unfold wpX_begin
  dsimp only
  rw [show (nI j).toNatClampNeg = j from nI_clamp (by omega), zk_vz1, zk_vb (show q < 128 by omega), pk_vs, zk_vs (show a < 32768 by omega), zk_vb (show b < 128 by omega)]
  refine ⟨hin, nm_e ⟨hin, nm_e ⟨hin, nm_e ⟨hin, nm_e ⟨hin, nm_e (br_c (fun z => k63 1 ?_) (fun z => k63 0 ?_))⟩⟩⟩⟩⟩
  · rw [z]; rfl
  · rw [ho.resolve_right z]; rfl
theorem zy_make {post : Int32 → SY → Prop} {j : Nat} {kd at' p : Int32} (hj : j < 12) (KF : ∀ post : Int32 → Prop, post (nI j) → wpY_free post (f_workers, f_now, f_logged, f_stopped, f_duration, f_priority, f_overlap, f_misfire, g_asked, b_kind, a_lasts, a_rank, a_overlaps, a_makesUp, b_next, b_period, b_sets, a_started, a_lost, a_missed, b_missedNow, b_waits, a_request, b_doing, a_ends, b_history, b_fields)) (K : post (nI j) (f_workers, f_now, f_logged, f_stopped, f_duration, f_priority, f_overlap, f_misfire, g_asked, upd b_kind j kd, upd a_lasts j f_duration, upd a_rank j f_priority, upd a_overlaps j f_overlap, upd a_makesUp j f_misfire, upd b_next j at', upd b_period j p, b_sets, upd a_started j 0, upd a_lost j 0, upd a_missed j 0, upd b_missedNow j 0, upd b_waits j 0, a_request, b_doing, a_ends, b_history, b_fields)) : wpY_make post (f_workers, f_now, f_logged, f_stopped, f_duration, f_priority, f_overlap, f_misfire, g_asked, b_kind, a_lasts, a_rank, a_overlaps, a_makesUp, b_next, b_period, b_sets, a_started, a_lost, a_missed, b_missedNow, b_waits, a_request, b_doing, a_ends, b_history, b_fields) kd at' p := by
  have hin : vp_in (nI j) 12 := vp_in_nI hj (by omega)
  unfold wpY_make
  dsimp only
  refine KF _ ?_
  rw [show (nI j).toNatClampNeg = j from nI_clamp (by omega)]
  exact ⟨hin, nm_e ⟨hin, nm_e ⟨hin, nm_e ⟨hin, nm_e ⟨hin, nm_e ⟨hin, nm_e ⟨hin, nm_e ⟨hin, nm_e ⟨hin, nm_e ⟨hin, nm_e ⟨hin, nm_e ⟨hin, nm_e K⟩⟩⟩⟩⟩⟩⟩⟩⟩⟩⟩⟩
end
/-! a new job in the groups -/
theorem zk_th {th : Nat → Int32} {j i : Nat} (h : upd th j 1 i = 1) (hn : i ≠ j) : th i = 1 := by rw [pk_un hn] at h; exact h
theorem zg_job_new {th kx ky : Nat → Int32} {j : Nat} {kd : Int32} (g : zg_job th kx ky) (hk : kd = 0 ∨ kd = 1 ∨ kd = 2 ∨ kd = 3) : zg_job (upd th j 1) (upd kx j kd) (upd ky j kd) := fun i hi => by
  by_cases e : i = j
  · subst e; rw [pk_us, pk_us, pk_us]; exact Or.inr ⟨rfl, rfl, hk⟩
  · rw [pk_un e, pk_un e, pk_un e]; exact g i hi
theorem zg_last_new {th la : Nat → Int32} {j : Nat} {x : Int32} (g : zg_last th la) (h : ∃ q, 1 ≤ q ∧ q ≤ 200 ∧ x = nI q) : zg_last (upd th j 1) (upd la j x) := fun i hi hti => by
  by_cases e : i = j
  · subst e; rw [pk_us]; exact h
  · rw [pk_un e]; exact g i hi (zk_th hti e)
theorem zg_per_new {th kx px py : Nat → Int32} {j : Nat} {kd x y : Int32} (g : zg_per th kx px py) (h : (kd = 1 ∨ kd = 2) → ∃ q, 1 ≤ q ∧ q ≤ 2000 ∧ x = nI q ∧ y = nI q) : zg_per (upd th j 1) (upd kx j kd) (upd px j x) (upd py j y) := fun i hi hti hk => by
  by_cases e : i = j
  · subst e; rw [pk_us] at hk; rw [pk_us, pk_us]; exact h hk
  · rw [pk_un e] at hk; rw [pk_un e, pk_un e]; exact g i hi (zk_th hti e) hk
theorem zg_wait_new {th wx wy : Nat → Int32} {wj ak : Int32} {j : Nat} (g : zg_wait th wx wy wj ak) (hj : j < 12) (h0 : th j = 0) : zg_wait (upd th j 1) (upd wx j 0) (upd wy j 0) wj ak := by
  obtain ⟨q, q1, q2, q3, q4, q5⟩ := g.2 j hj
  have hq := q4 h0
  subst hq
  refine ⟨?_, fun i hi => ?_⟩
  · rw [zk_sm_upd 12 hj, q2, nI_toInt (by omega), zk_t0, g.1]; omega
  · by_cases e : i = j
    · subst e
      rw [pk_us, pk_us, pk_us]
      exact ⟨0, by omega, rfl, fun _ => rfl, fun _ => rfl, q5⟩
    · rw [pk_un e, pk_un e, pk_un e]; exact g.2 i hi
theorem zg_stp_new {sp : Int32} {ss mn : Nat → Int32} {j : Nat} (g : zg_stp sp ss mn) : zg_stp sp (upd ss j 0) (upd mn j 0) := ⟨g.1, fun h i hi => by
  by_cases e : i = j
  · subst e; rw [pk_us, pk_us]
  · rw [pk_un e, pk_un e]; exact g.2 h i hi⟩
theorem zg_run_new {W j : Nat} {ε : Nat → Nat} {th en rn dn ac : Nat → Int32} (g : zg_run W ε th en rn dn ac) (h0 : th j = 0) : zg_run W ε (upd th j 1) en rn dn (upd ac j 0) := by
  refine ⟨fun w hw => ?_, g.2.1, fun i hi hti => ?_⟩
  · rcases g.1 w hw with z | ⟨z1, z2, z3⟩
    · exact Or.inl z
    · refine Or.inr ⟨z1, z2, ?_⟩
      rcases z3 with z3 | ⟨i, i1, i2, i3, i4⟩
      · exact Or.inl z3
      · have hij : i ≠ j := fun e => by rw [e, h0] at i3; exact zk_10 i3
        exact Or.inr ⟨i, i1, i2, by rw [pk_un hij]; exact i3, by rw [pk_un hij]; exact i4⟩
  · by_cases e : i = j
    · subst e; exact Or.inl pk_us
    · rw [pk_un e]; exact g.2.2 i hi (zk_th hti e)
theorem zg_log_new {L j : Nat} {lg : Int32} {st lj la ld hs : Nat → Int32} (g : zg_log L lg st lj la ld hs) : zg_log L lg (upd st j 0) lj la ld hs := ⟨g.1, fun i hi => by
  by_cases e : i = j
  · subst e; exact ⟨0, by omega, pk_us⟩
  · rw [pk_un e]; exact g.2.1 i hi, g.2.2⟩
theorem zg_qui_new {W j : Nat} {sp : Int32} {th en wy ac : Nat → Int32} (g : zg_qui W sp th en wy ac) : zg_qui W sp (upd th j 1) en (upd wy j 0) (upd ac j 0) := fun hs => by
  rcases g hs with z | z
  · exact Or.inl z
  · refine Or.inr (fun i hi hti hw => ?_)
    by_cases e : i = j
    · subst e; rw [pk_us] at hw; exact absurd rfl hw
    · rw [pk_un e] at hw; rw [pk_un e]; exact z i hi (zk_th hti e) hw
def zk_jb (now a b c : Int32) : Prop := ((0 : Int32) ≤ a ∧ a ≤ 2) ∧ (a = 0 ∨ ((1 : Int32) ≤ c ∧ c ≤ 2000)) ∧ (now + 1 ≤ b ∧ b ≤ 1000000)
section
variable {f_workers f_now f_stopped f_duration f_priority f_overlap f_misfire f_waitingJobs f_logged : Int32} {a_there a_kind a_period a_lasts a_rank a_overlaps a_makesUp a_minutes a_hours a_days a_months a_weekdays a_due a_started a_lost a_missed a_sinceStop a_request a_waiting a_slot : Nat → Int32} {a_filled : Nat → Int64} {a_behind a_before a_lies a_runs a_ends a_active a_logJob a_logAt a_logDue : Nat → Int32} {g_asked : Int32} {b_kind b_next b_period b_sets b_missedNow b_waits b_doing b_history b_fields : Nat → Int32}
theorem zk_a0 {a : Int32} (h : (0 : Int32) ≤ a) : a ≤ 0 ↔ a = 0 := ⟨fun z => Int32.le_antisymm z h, fun z => by rw [z]; exact Int32.le_refl _⟩
theorem zx_job_no {post : Int32 → SX → Prop} {a b c : Int32} (h : ¬ zk_jb f_now a b c ∨ (∀ post : Int32 → Prop, post (-1) → wpX_free post (f_workers, f_now, f_stopped, f_duration, f_priority, f_overlap, f_misfire, f_waitingJobs, f_logged, a_there, a_kind, a_period, a_lasts, a_rank, a_overlaps, a_makesUp, a_minutes, a_hours, a_days, a_months, a_weekdays, a_due, a_started, a_lost, a_missed, a_sinceStop, a_request, a_waiting, a_slot, a_filled, a_behind, a_before, a_lies, a_runs, a_ends, a_active, a_logJob, a_logAt, a_logDue))) (K : post (-1) (f_workers, f_now, f_stopped, f_duration, f_priority, f_overlap, f_misfire, f_waitingJobs, f_logged, a_there, a_kind, a_period, a_lasts, a_rank, a_overlaps, a_makesUp, a_minutes, a_hours, a_days, a_months, a_weekdays, a_due, a_started, a_lost, a_missed, a_sinceStop, a_request, a_waiting, a_slot, a_filled, a_behind, a_before, a_lies, a_runs, a_ends, a_active, a_logJob, a_logAt, a_logDue)) : wpX_job post (f_workers, f_now, f_stopped, f_duration, f_priority, f_overlap, f_misfire, f_waitingJobs, f_logged, a_there, a_kind, a_period, a_lasts, a_rank, a_overlaps, a_makesUp, a_minutes, a_hours, a_days, a_months, a_weekdays, a_due, a_started, a_lost, a_missed, a_sinceStop, a_request, a_waiting, a_slot, a_filled, a_behind, a_before, a_lies, a_runs, a_ends, a_active, a_logJob, a_logAt, a_logDue) a b c := by
  have j24 : (0 : Int32) ≤ a ∧ a ≤ 2 → (a = 0 ∨ ((1 : Int32) ≤ c ∧ c ≤ 2000)) → wX_job_24 post a b c f_workers f_now f_stopped f_duration f_priority f_overlap f_misfire f_waitingJobs f_logged a_there a_kind a_period a_lasts a_rank a_overlaps a_makesUp a_minutes a_hours a_days a_months a_weekdays a_due a_started a_lost a_missed a_sinceStop a_request a_waiting a_slot a_filled a_behind a_before a_lies a_runs a_ends a_active a_logJob a_logAt a_logDue := by
    intro h1 h2
    unfold wX_job_24
    refine zx_out (fun p q => br_t rfl ?_) (fun _ => br_f zk_01 K)
    rcases h with h | h
    · exact absurd ⟨h1, h2, p, q⟩ h
    · exact h _ (br_f zk_nge K)
  unfold wpX_job
  dsimp only
  exact zx_out (fun p q => br_t rfl (br_c (fun z => j24 ⟨p, q⟩ (Or.inl ((zk_a0 p).mp z))) (fun _ => zx_out (fun r s => br_t rfl (j24 ⟨p, q⟩ (Or.inr ⟨r, s⟩))) (fun _ => br_f zk_01 K)))) (fun _ => br_f zk_01 K)
theorem zx_job_yes {post : Int32 → SX → Prop} {b c : Int32} {j q : Nat} (hj : j < 12) (hq : q ≤ 3) (gm : zg_man f_duration f_priority f_overlap f_misfire) (h : zk_jb f_now (nI q) b c) (KF : ∀ post : Int32 → Prop, post (nI j) → wpX_free post (f_workers, f_now, f_stopped, f_duration, f_priority, f_overlap, f_misfire, f_waitingJobs, f_logged, a_there, a_kind, a_period, a_lasts, a_rank, a_overlaps, a_makesUp, a_minutes, a_hours, a_days, a_months, a_weekdays, a_due, a_started, a_lost, a_missed, a_sinceStop, a_request, a_waiting, a_slot, a_filled, a_behind, a_before, a_lies, a_runs, a_ends, a_active, a_logJob, a_logAt, a_logDue)) {du li sl : Nat → Int32} {fi : Nat → Int64} {bh bf : Nat → Int32}
    (KP : ∀ post : SX → Prop, post (f_workers, f_now, f_stopped, f_duration, f_priority, f_overlap, f_misfire, f_waitingJobs, f_logged, upd a_there j 1, upd a_kind j (nI q), upd a_period j (c.toInt16.toInt32), upd a_lasts j f_duration, upd a_rank j f_priority, upd a_overlaps j f_overlap, upd a_makesUp j f_misfire, a_minutes, a_hours, a_days, a_months, a_weekdays, du, upd a_started j 0, upd a_lost j 0, upd a_missed j 0, upd a_sinceStop j 0, a_request, upd a_waiting j 0, sl, fi, bh, bf, li, a_runs, a_ends, upd a_active j 0, a_logJob, a_logAt, a_logDue) → wpX_plan post (f_workers, f_now, f_stopped, f_duration, f_priority, f_overlap, f_misfire, f_waitingJobs, f_logged, upd a_there j 1, upd a_kind j (nI q), upd a_period j (c.toInt16.toInt32), upd a_lasts j f_duration, upd a_rank j f_priority, upd a_overlaps j f_overlap, upd a_makesUp j f_misfire, a_minutes, a_hours, a_days, a_months, a_weekdays, a_due, upd a_started j 0, upd a_lost j 0, upd a_missed j 0, upd a_sinceStop j 0, a_request, upd a_waiting j 0, a_slot, a_filled, a_behind, a_before, a_lies, a_runs, a_ends, upd a_active j 0, a_logJob, a_logAt, a_logDue) (nI j) b) (K : post (nI j) (f_workers, f_now, f_stopped, f_duration, f_priority, f_overlap, f_misfire, f_waitingJobs, f_logged, upd a_there j 1, upd a_kind j (nI q), upd a_period j (c.toInt16.toInt32), upd a_lasts j f_duration, upd a_rank j f_priority, upd a_overlaps j f_overlap, upd a_makesUp j f_misfire, a_minutes, a_hours, a_days, a_months, a_weekdays, du, upd a_started j 0, upd a_lost j 0, upd a_missed j 0, upd a_sinceStop j 0, a_request, upd a_waiting j 0, sl, fi, bh, bf, li, a_runs, a_ends, upd a_active j 0, a_logJob, a_logAt, a_logDue)) : wpX_job post (f_workers, f_now, f_stopped, f_duration, f_priority, f_overlap, f_misfire, f_waitingJobs, f_logged, a_there, a_kind, a_period, a_lasts, a_rank, a_overlaps, a_makesUp, a_minutes, a_hours, a_days, a_months, a_weekdays, a_due, a_started, a_lost, a_missed, a_sinceStop, a_request, a_waiting, a_slot, a_filled, a_behind, a_before, a_lies, a_runs, a_ends, a_active, a_logJob, a_logAt, a_logDue) (nI q) b c := by
  obtain ⟨h1, h2, h3⟩ := h
  have j24 : wX_job_24 post (nI q) b c f_workers f_now f_stopped f_duration f_priority f_overlap f_misfire f_waitingJobs f_logged a_there a_kind a_period a_lasts a_rank a_overlaps a_makesUp a_minutes a_hours a_days a_months a_weekdays a_due a_started a_lost a_missed a_sinceStop a_request a_waiting a_slot a_filled a_behind a_before a_lies a_runs a_ends a_active a_logJob a_logAt a_logDue := by
    unfold wX_job_24
    exact zx_out (fun _ _ => br_t rfl (KF _ (br_t (nI_pos' (by omega)) (zx_begin hj hq gm (KP _ K))))) (fun n => absurd h3 n)
  unfold wpX_job
  dsimp only
  exact zx_out (fun p _ => br_t rfl (br_c (fun _ => j24) (fun z => zx_out (fun _ _ => br_t rfl j24) (fun n => absurd (h2.resolve_left (fun y => z ((zk_a0 p).mpr y))) n)))) (fun n => absurd h1 n)
theorem zy_job_no {post : Int32 → SY → Prop} {a b c : Int32} {T : Nat} (hT : T ≤ 1000000) (eT : f_now = nI T) (h : ¬ zk_jb f_now a b c ∨ (∀ post : Int32 → Prop, post (-1) → wpY_free post (f_workers, f_now, f_logged, f_stopped, f_duration, f_priority, f_overlap, f_misfire, g_asked, b_kind, a_lasts, a_rank, a_overlaps, a_makesUp, b_next, b_period, b_sets, a_started, a_lost, a_missed, b_missedNow, b_waits, a_request, b_doing, a_ends, b_history, b_fields))) (K : post (-1) (f_workers, f_now, f_logged, f_stopped, f_duration, f_priority, f_overlap, f_misfire, g_asked, b_kind, a_lasts, a_rank, a_overlaps, a_makesUp, b_next, b_period, b_sets, a_started, a_lost, a_missed, b_missedNow, b_waits, a_request, b_doing, a_ends, b_history, b_fields)) : wpY_job post (f_workers, f_now, f_logged, f_stopped, f_duration, f_priority, f_overlap, f_misfire, g_asked, b_kind, a_lasts, a_rank, a_overlaps, a_makesUp, b_next, b_period, b_sets, a_started, a_lost, a_missed, b_missedNow, b_waits, a_request, b_doing, a_ends, b_history, b_fields) a b c := by
  have j24 : (0 : Int32) ≤ a ∧ a ≤ 2 → (a = 0 ∨ ((1 : Int32) ≤ c ∧ c ≤ 2000)) → wY_job_24 post a b c f_workers f_now f_logged f_stopped f_duration f_priority f_overlap f_misfire g_asked b_kind a_lasts a_rank a_overlaps a_makesUp b_next b_period b_sets a_started a_lost a_missed b_missedNow b_waits a_request b_doing a_ends b_history b_fields := by
    intro h1 h2
    unfold wY_job_24
    refine br_c (fun _ => K) (fun p => br_c (fun _ => K) (fun q => ?_))
    rcases h with h | h
    · refine absurd ⟨h1, h2, ?_, Int32.not_lt.mp q⟩ h
      rw [eT, nI_1]
      rw [eT] at p
      exact Classical.byContradiction (fun y => p ((zk_lem (by omega)).mp y))
    · exact h _ (br_f zk_nge K)
  unfold wpY_job
  dsimp only
  exact zy_wit (fun p q => br_f zk_01 (br_c (fun z => j24 ⟨p, q⟩ (Or.inl z)) (fun _ => zy_wit (fun r s => br_f zk_01 (j24 ⟨p, q⟩ (Or.inr ⟨r, s⟩))) (fun _ => br_t rfl K)))) (fun _ => br_t rfl K)
theorem zy_job_yes {post : Int32 → SY → Prop} {a b c : Int32} {j T : Nat} (hT : T ≤ 1000000) (eT : f_now = nI T) (hj : j < 12) (h : zk_jb f_now a b c) (KF : ∀ post : Int32 → Prop, post (nI j) → wpY_free post (f_workers, f_now, f_logged, f_stopped, f_duration, f_priority, f_overlap, f_misfire, g_asked, b_kind, a_lasts, a_rank, a_overlaps, a_makesUp, b_next, b_period, b_sets, a_started, a_lost, a_missed, b_missedNow, b_waits, a_request, b_doing, a_ends, b_history, b_fields)) (K : post (nI j) (f_workers, f_now, f_logged, f_stopped, f_duration, f_priority, f_overlap, f_misfire, g_asked, upd b_kind j a, upd a_lasts j f_duration, upd a_rank j f_priority, upd a_overlaps j f_overlap, upd a_makesUp j f_misfire, upd b_next j b, upd b_period j c, b_sets, upd a_started j 0, upd a_lost j 0, upd a_missed j 0, upd b_missedNow j 0, upd b_waits j 0, a_request, b_doing, a_ends, b_history, b_fields)) : wpY_job post (f_workers, f_now, f_logged, f_stopped, f_duration, f_priority, f_overlap, f_misfire, g_asked, b_kind, a_lasts, a_rank, a_overlaps, a_makesUp, b_next, b_period, b_sets, a_started, a_lost, a_missed, b_missedNow, b_waits, a_request, b_doing, a_ends, b_history, b_fields) a b c := by
  obtain ⟨h1, h2, h3⟩ := h
  have j24 : wY_job_24 post a b c f_workers f_now f_logged f_stopped f_duration f_priority f_overlap f_misfire g_asked b_kind a_lasts a_rank a_overlaps a_makesUp b_next b_period b_sets a_started a_lost a_missed b_missedNow b_waits a_request b_doing a_ends b_history b_fields := by
    unfold wY_job_24
    refine br_f (fun z => ?_) (br_f (fun z => Int32.not_lt.mpr h3.2 z) (KF _ (br_t (nI_pos' (by omega)) (zy_make hj KF K))))
    rw [eT] at z
    have h3' := h3.1
    rw [eT, nI_1] at h3'
    exact (zk_lem (by omega)).mpr z h3'
  unfold wpY_job
  dsimp only
  exact zy_wit (fun p _ => br_f zk_01 (br_c (fun _ => j24) (fun z => zy_wit (fun _ _ => br_f zk_01 j24) (fun n => absurd (h2.resolve_left z) n)))) (fun n => absurd h1 n)
end
theorem i_vc_job {k : Nat} {u : SX} {v : SY} (I : i_Rel k u v) (hk : k + 6 ≤ 3073) (v1 : Int32) (v2 : Int32) (v3 : Int32) : wpX_job (fun r u' => wpY_job (fun r' v' => r' = r ∧ i_Rel (k + 6) u' v') v v1 v2 v3) u v1 v2 v3 := by
  refine zr_el (Q := fun u v => wpX_job (fun r u' => wpY_job (fun r' v' => r' = r ∧ i_Rel (k + 6) u' v') v v1 v2 v3) u v1 v2 v3) ?_ I
  intro W T L f_workers f_now f_stopped f_duration f_priority f_overlap f_misfire f_waitingJobs f_logged a_there a_kind a_period a_lasts a_rank a_overlaps a_makesUp a_minutes a_hours a_days a_months a_weekdays a_due a_started a_lost a_missed a_sinceStop a_request a_waiting a_slot a_filled a_behind a_before a_lies a_runs a_ends a_active a_logJob a_logAt a_logDue g_asked b_kind b_next b_period b_sets b_missedNow b_waits b_doing b_history b_fields g
  have gg := g
  obtain ⟨h1, h2, h3, h4, h5, h6, h7, h8, h9, h10, h11, h12, h13, h14, h15, h16, h17, h18⟩ := g
  have J' : i_Rel (k + 6) (f_workers, f_now, f_stopped, f_duration, f_priority, f_overlap, f_misfire, f_waitingJobs, f_logged, a_there, a_kind, a_period, a_lasts, a_rank, a_overlaps, a_makesUp, a_minutes, a_hours, a_days, a_months, a_weekdays, a_due, a_started, a_lost, a_missed, a_sinceStop, a_request, a_waiting, a_slot, a_filled, a_behind, a_before, a_lies, a_runs, a_ends, a_active, a_logJob, a_logAt, a_logDue) (f_workers, f_now, f_logged, f_stopped, f_duration, f_priority, f_overlap, f_misfire, g_asked, b_kind, a_lasts, a_rank, a_overlaps, a_makesUp, b_next, b_period, b_sets, a_started, a_lost, a_missed, b_missedNow, b_waits, a_request, b_doing, a_ends, b_history, b_fields) := zr_in (zr_G_up (by omega) gg)
  by_cases h : zk_jb f_now v1 v2 v3
  · rcases zr_free f_workers f_now f_stopped f_duration f_priority f_overlap f_misfire f_waitingJobs f_logged a_there a_kind a_period a_lasts a_rank a_overlaps a_makesUp a_minutes a_hours a_days a_months a_weekdays a_due a_started a_lost a_missed a_sinceStop a_request a_waiting a_slot a_filled a_behind a_before a_lies a_runs a_ends a_active a_logJob a_logAt a_logDue g_asked b_kind b_next b_period b_sets b_missedNow b_waits b_doing b_history b_fields h8 with ⟨j, hj, h0, FX, FY⟩ | ⟨FX, FY⟩
    · have hh := h
      obtain ⟨⟨p1, q1⟩, hp, ⟨p2, q2⟩⟩ := h
      obtain ⟨q, -, hq, rfl⟩ := zk_rg (m := 0) (n := 2) rfl rfl (by omega) (by omega) p1 q1
      rw [h4, nI_1] at p2
      obtain ⟨d, d1, d2, rfl⟩ := zk_rg (m := T + 1) (n := 1000000) rfl rfl (by omega) (by omega) p2 q2
      have hl : a_lies j = -1 := (h15.2 j hj).2 (Or.inl h0)
      obtain ⟨li, sl, fi, bh, bf, G, KP⟩ := zx_plan f_workers f_now f_stopped f_duration f_priority f_overlap f_misfire f_waitingJobs f_logged (upd a_there j 1) (upd a_kind j (nI q)) (upd a_period j (v3.toInt16.toInt32)) (upd a_lasts j f_duration) (upd a_rank j f_priority) (upd a_overlaps j f_overlap) (upd a_makesUp j f_misfire) a_minutes a_hours a_days a_months a_weekdays a_due (upd a_started j 0) (upd a_lost j 0) (upd a_missed j 0) (upd a_sinceStop j 0) a_request (upd a_waiting j 0) a_slot a_filled a_behind a_before a_lies a_runs a_ends (upd a_active j 0) a_logJob a_logAt a_logDue (T := T) (x := nI d) hj h5 h4 pk_us h15.1 hl (fun i hi e => by rw [pk_un e]; exact h15.2 i hi) (Or.inr ⟨d, rfl, by omega⟩)
      refine zx_job_yes hj (by omega) h7 hh FX KP (zy_job_yes h5 h4 hj hh FY ⟨rfl, zr_in (W := W) (T := T) (L := L) ?_⟩)
      have k3 : ¬ nI q = 3 := fun z => by have := (nI_eq (b := 3) (by omega) (by omega)).mp z; omega
      refine ⟨h1, h2, h3, h4, h5, by omega, h7, zg_job_new h8 ?_, zg_last_new h9 h7.1, zg_per_new h10 (fun z => ?_), fun i hi hti hk3 => ?_, zg_wait_new h12 hj h0, zg_stp_new h13, fun i hi hti => ?_, G, zg_run_new h16 h0, zg_log_new h17, zg_qui_new h18⟩
      · have : q = 0 ∨ q = 1 ∨ q = 2 := by omega
        rcases this with rfl | rfl | rfl
        · exact Or.inl rfl
        · exact Or.inr (Or.inl rfl)
        · exact Or.inr (Or.inr (Or.inl rfl))
      · have hne : ¬ nI q = 0 := by
          intro y
          rw [y] at z
          rcases z with z | z
          · exact zk_10 z
          · exact absurd z (by decide)
        obtain ⟨r1, r2⟩ := hp.resolve_left hne
        obtain ⟨c, c1, c2, rfl⟩ := zk_rg (m := 1) (n := 2000) rfl rfl (by omega) (by omega) r1 r2
        exact ⟨c, c1, c2, zk_i16 (by omega), rfl⟩
      · by_cases e : i = j
        · subst e; rw [pk_us] at hk3; exact absurd hk3 k3
        · rw [pk_un e] at hk3; exact h11 i hi (zk_th hti e) hk3
      · by_cases e : i = j
        · subst e
          rw [pk_us, pk_us, pk_us, pk_us, zk_pl_in d2]
          exact ⟨fun _ => Or.inl ⟨d, rfl, rfl, d1, d2⟩, fun z => absurd z k3⟩
        · rw [pk_un e, pk_un e, pk_un e, pk_un e]; exact h14 i hi (zk_th hti e)
    · exact zx_job_no (Or.inr FX) (zy_job_no h5 h4 (Or.inr FY) ⟨rfl, J'⟩)
  · exact zx_job_no (Or.inl h) (zy_job_no h5 h4 (Or.inl h) ⟨rfl, J'⟩)
end
section
/-! cron -/
def zk_cr (a b c d e : Int32) : Prop := ((1 : Int32) ≤ a ∧ a ≤ 1023) ∧ ((1 : Int32) ≤ b ∧ b ≤ 255) ∧ ((1 : Int32) ≤ c ∧ c ≤ 1023) ∧ ((1 : Int32) ≤ d ∧ d ≤ 15) ∧ ((1 : Int32) ≤ e ∧ e ≤ 127)
theorem zy_isSet {post : Int32 → Prop} {x n M : Int32} (m : Nat) (hm : m + 1 < 2 ^ 31) (hn : (1 : Int32) <<< (n &&& 31) = nI (m + 1)) (hM : M = nI m) (h1 : 1 ≤ x → x ≤ M → post 1) (h2 : ¬ (1 ≤ x ∧ x ≤ M) → post 0) : wpY_isSet post x n := by
  unfold wpY_isSet
  rw [hn]
  subst hM
  refine br_c (fun z => h2 (fun y => zk_ge1.mpr y.1 z)) (fun z => br_c (fun w => h2 (fun y => (zk_lem hm).mpr y.2 w)) (fun w => h1 (zk_ge1.mp z) ((zk_lem hm).mp w)))
section
variable {f_workers f_now f_stopped f_duration f_priority f_overlap f_misfire f_waitingJobs f_logged : Int32} {a_there a_kind a_period a_lasts a_rank a_overlaps a_makesUp a_minutes a_hours a_days a_months a_weekdays a_due a_started a_lost a_missed a_sinceStop a_request a_waiting a_slot : Nat → Int32} {a_filled : Nat → Int64} {a_behind a_before a_lies a_runs a_ends a_active a_logJob a_logAt a_logDue : Nat → Int32} {g_asked : Int32} {b_kind b_next b_period b_sets b_missedNow b_waits b_doing b_history b_fields : Nat → Int32}
theorem zx_cron_no {post : Int32 → SX → Prop} {a b c d e : Int32} (h : ¬ zk_cr a b c d e ∨ (∀ post : Int32 → Prop, post (-1) → wpX_free post (f_workers, f_now, f_stopped, f_duration, f_priority, f_overlap, f_misfire, f_waitingJobs, f_logged, a_there, a_kind, a_period, a_lasts, a_rank, a_overlaps, a_makesUp, a_minutes, a_hours, a_days, a_months, a_weekdays, a_due, a_started, a_lost, a_missed, a_sinceStop, a_request, a_waiting, a_slot, a_filled, a_behind, a_before, a_lies, a_runs, a_ends, a_active, a_logJob, a_logAt, a_logDue))) (K : post (-1) (f_workers, f_now, f_stopped, f_duration, f_priority, f_overlap, f_misfire, f_waitingJobs, f_logged, a_there, a_kind, a_period, a_lasts, a_rank, a_overlaps, a_makesUp, a_minutes, a_hours, a_days, a_months, a_weekdays, a_due, a_started, a_lost, a_missed, a_sinceStop, a_request, a_waiting, a_slot, a_filled, a_behind, a_before, a_lies, a_runs, a_ends, a_active, a_logJob, a_logAt, a_logDue)) : wpX_cron post (f_workers, f_now, f_stopped, f_duration, f_priority, f_overlap, f_misfire, f_waitingJobs, f_logged, a_there, a_kind, a_period, a_lasts, a_rank, a_overlaps, a_makesUp, a_minutes, a_hours, a_days, a_months, a_weekdays, a_due, a_started, a_lost, a_missed, a_sinceStop, a_request, a_waiting, a_slot, a_filled, a_behind, a_before, a_lies, a_runs, a_ends, a_active, a_logJob, a_logAt, a_logDue) a b c d e := by
  unfold wpX_cron
  dsimp only
  refine zx_out (fun p1 q1 => br_t rfl (zx_out (fun p2 q2 => br_t rfl (zx_out (fun p3 q3 => br_t rfl (zx_out (fun p4 q4 => br_t rfl (zx_out (fun p5 q5 => br_t rfl ?_) (fun _ => br_f zk_01 K))) (fun _ => br_f zk_01 K))) (fun _ => br_f zk_01 K))) (fun _ => br_f zk_01 K))) (fun _ => br_f zk_01 K)
  rcases h with h | h
  · exact absurd ⟨⟨p1, q1⟩, ⟨p2, q2⟩, ⟨p3, q3⟩, ⟨p4, q4⟩, ⟨p5, q5⟩⟩ h
  · exact h _ (br_f zk_nge K)
theorem zy_cron_no {post : Int32 → SY → Prop} {a b c d e : Int32} (h : ¬ zk_cr a b c d e ∨ (∀ post : Int32 → Prop, post (-1) → wpY_free post (f_workers, f_now, f_logged, f_stopped, f_duration, f_priority, f_overlap, f_misfire, g_asked, b_kind, a_lasts, a_rank, a_overlaps, a_makesUp, b_next, b_period, b_sets, a_started, a_lost, a_missed, b_missedNow, b_waits, a_request, b_doing, a_ends, b_history, b_fields))) (K : post (-1) (f_workers, f_now, f_logged, f_stopped, f_duration, f_priority, f_overlap, f_misfire, g_asked, b_kind, a_lasts, a_rank, a_overlaps, a_makesUp, b_next, b_period, b_sets, a_started, a_lost, a_missed, b_missedNow, b_waits, a_request, b_doing, a_ends, b_history, b_fields)) : wpY_cron post (f_workers, f_now, f_logged, f_stopped, f_duration, f_priority, f_overlap, f_misfire, g_asked, b_kind, a_lasts, a_rank, a_overlaps, a_makesUp, b_next, b_period, b_sets, a_started, a_lost, a_missed, b_missedNow, b_waits, a_request, b_doing, a_ends, b_history, b_fields) a b c d e := by
  unfold wpY_cron
  dsimp only
  refine zy_isSet 1023 (by omega) (by decide) rfl (fun p1 q1 => br_f zk_01 (zy_isSet 255 (by omega) (by decide) rfl (fun p2 q2 => br_f zk_01 (zy_isSet 1023 (by omega) (by decide) rfl (fun p3 q3 => br_f zk_01 (zy_isSet 15 (by omega) (by decide) rfl (fun p4 q4 => br_f zk_01 (zy_isSet 127 (by omega) (by decide) rfl (fun p5 q5 => br_f zk_01 ?_) (fun _ => br_t rfl K))) (fun _ => br_t rfl K))) (fun _ => br_t rfl K))) (fun _ => br_t rfl K))) (fun _ => br_t rfl K)
  rcases h with h | h
  · exact absurd ⟨⟨p1, q1⟩, ⟨p2, q2⟩, ⟨p3, q3⟩, ⟨p4, q4⟩, ⟨p5, q5⟩⟩ h
  · exact h _ (br_f zk_nge K)
theorem zx_cron_yes {post : Int32 → SX → Prop} {a b c d e j : Nat} {r : Int32} (hj : j < 12) (gm : zg_man f_duration f_priority f_overlap f_misfire) (ok : zk_ok a b c d e) (h : zk_cr (nI a) (nI b) (nI c) (nI d) (nI e)) (KF : ∀ post : Int32 → Prop, post (nI j) → wpX_free post (f_workers, f_now, f_stopped, f_duration, f_priority, f_overlap, f_misfire, f_waitingJobs, f_logged, a_there, a_kind, a_period, a_lasts, a_rank, a_overlaps, a_makesUp, a_minutes, a_hours, a_days, a_months, a_weekdays, a_due, a_started, a_lost, a_missed, a_sinceStop, a_request, a_waiting, a_slot, a_filled, a_behind, a_before, a_lies, a_runs, a_ends, a_active, a_logJob, a_logAt, a_logDue)) {du li sl : Nat → Int32} {fi : Nat → Int64} {bh bf : Nat → Int32}
    (KS : ∀ post : Int32 → Prop, post r → wpX_search post (f_workers, f_now, f_stopped, f_duration, f_priority, f_overlap, f_misfire, f_waitingJobs, f_logged, upd a_there j 1, upd a_kind j 3, upd a_period j ((0 : Int32).toInt16.toInt32), upd a_lasts j f_duration, upd a_rank j f_priority, upd a_overlaps j f_overlap, upd a_makesUp j f_misfire, upd a_minutes j (nI a), upd a_hours j (nI b), upd a_days j (nI c), upd a_months j (nI d), upd a_weekdays j (nI e), a_due, upd a_started j 0, upd a_lost j 0, upd a_missed j 0, upd a_sinceStop j 0, a_request, upd a_waiting j 0, a_slot, a_filled, a_behind, a_before, a_lies, a_runs, a_ends, upd a_active j 0, a_logJob, a_logAt, a_logDue) (nI j) f_now)
    (KP : ∀ post : SX → Prop, post (f_workers, f_now, f_stopped, f_duration, f_priority, f_overlap, f_misfire, f_waitingJobs, f_logged, upd a_there j 1, upd a_kind j 3, upd a_period j ((0 : Int32).toInt16.toInt32), upd a_lasts j f_duration, upd a_rank j f_priority, upd a_overlaps j f_overlap, upd a_makesUp j f_misfire, upd a_minutes j (nI a), upd a_hours j (nI b), upd a_days j (nI c), upd a_months j (nI d), upd a_weekdays j (nI e), du, upd a_started j 0, upd a_lost j 0, upd a_missed j 0, upd a_sinceStop j 0, a_request, upd a_waiting j 0, sl, fi, bh, bf, li, a_runs, a_ends, upd a_active j 0, a_logJob, a_logAt, a_logDue) → wpX_plan post (f_workers, f_now, f_stopped, f_duration, f_priority, f_overlap, f_misfire, f_waitingJobs, f_logged, upd a_there j 1, upd a_kind j 3, upd a_period j ((0 : Int32).toInt16.toInt32), upd a_lasts j f_duration, upd a_rank j f_priority, upd a_overlaps j f_overlap, upd a_makesUp j f_misfire, upd a_minutes j (nI a), upd a_hours j (nI b), upd a_days j (nI c), upd a_months j (nI d), upd a_weekdays j (nI e), a_due, upd a_started j 0, upd a_lost j 0, upd a_missed j 0, upd a_sinceStop j 0, a_request, upd a_waiting j 0, a_slot, a_filled, a_behind, a_before, a_lies, a_runs, a_ends, upd a_active j 0, a_logJob, a_logAt, a_logDue) (nI j) r) (K : post (nI j) (f_workers, f_now, f_stopped, f_duration, f_priority, f_overlap, f_misfire, f_waitingJobs, f_logged, upd a_there j 1, upd a_kind j 3, upd a_period j ((0 : Int32).toInt16.toInt32), upd a_lasts j f_duration, upd a_rank j f_priority, upd a_overlaps j f_overlap, upd a_makesUp j f_misfire, upd a_minutes j (nI a), upd a_hours j (nI b), upd a_days j (nI c), upd a_months j (nI d), upd a_weekdays j (nI e), du, upd a_started j 0, upd a_lost j 0, upd a_missed j 0, upd a_sinceStop j 0, a_request, upd a_waiting j 0, sl, fi, bh, bf, li, a_runs, a_ends, upd a_active j 0, a_logJob, a_logAt, a_logDue)) : wpX_cron post (f_workers, f_now, f_stopped, f_duration, f_priority, f_overlap, f_misfire, f_waitingJobs, f_logged, a_there, a_kind, a_period, a_lasts, a_rank, a_overlaps, a_makesUp, a_minutes, a_hours, a_days, a_months, a_weekdays, a_due, a_started, a_lost, a_missed, a_sinceStop, a_request, a_waiting, a_slot, a_filled, a_behind, a_before, a_lies, a_runs, a_ends, a_active, a_logJob, a_logAt, a_logDue) (nI a) (nI b) (nI c) (nI d) (nI e) := by
  obtain ⟨h1, h2, h3, h4, h5⟩ := h
  obtain ⟨o1, o2, o3, o4, o5, o6, o7, o8, o9, o10⟩ := ok
  have hin : vp_in (nI j) 12 := vp_in_nI hj (by omega)
  unfold wpX_cron
  dsimp only
  refine zx_out (fun _ _ => br_t rfl (zx_out (fun _ _ => br_t rfl (zx_out (fun _ _ => br_t rfl (zx_out (fun _ _ => br_t rfl (zx_out (fun _ _ => br_t rfl (KF _ (br_t (nI_pos' (by omega)) (zx_begin (q := 3) hj (by omega) gm ?_)))) (fun n => absurd h5 n))) (fun n => absurd h4 n))) (fun n => absurd h3 n))) (fun n => absurd h2 n))) (fun n => absurd h1 n)
  dsimp only
  rw [show (nI j).toNatClampNeg = j from nI_clamp (by omega), zk_vs (show a < 32768 by omega), zk_vs (show b < 32768 by omega), zk_vs (show c < 32768 by omega), zk_vb (show d < 128 by omega), zk_vs (show e < 32768 by omega)]
  exact ⟨hin, nm_e ⟨hin, nm_e ⟨hin, nm_e ⟨hin, nm_e ⟨hin, nm_e (KS _ (KP _ K))⟩⟩⟩⟩⟩
theorem zy_cron_yes {post : Int32 → SY → Prop} {a b c d e j : Nat} (hj : j < 12) (h : zk_cr (nI a) (nI b) (nI c) (nI d) (nI e)) (KF : ∀ post : Int32 → Prop, post (nI j) → wpY_free post (f_workers, f_now, f_logged, f_stopped, f_duration, f_priority, f_overlap, f_misfire, g_asked, b_kind, a_lasts, a_rank, a_overlaps, a_makesUp, b_next, b_period, b_sets, a_started, a_lost, a_missed, b_missedNow, b_waits, a_request, b_doing, a_ends, b_history, b_fields)) (K : post (nI j) (f_workers, f_now, f_logged, f_stopped, f_duration, f_priority, f_overlap, f_misfire, g_asked, upd b_kind j 3, upd a_lasts j f_duration, upd a_rank j f_priority, upd a_overlaps j f_overlap, upd a_makesUp j f_misfire, upd b_next j (-1), upd b_period j 0, upd (upd (upd (upd (upd b_sets (5 * j) (nI a)) (5 * j + 1) (nI b)) (5 * j + 2) (nI c)) (5 * j + 3) (nI d)) (5 * j + 4) (nI e), upd a_started j 0, upd a_lost j 0, upd a_missed j 0, upd b_missedNow j 0, upd b_waits j 0, a_request, b_doing, a_ends, b_history, b_fields)) : wpY_cron post (f_workers, f_now, f_logged, f_stopped, f_duration, f_priority, f_overlap, f_misfire, g_asked, b_kind, a_lasts, a_rank, a_overlaps, a_makesUp, b_next, b_period, b_sets, a_started, a_lost, a_missed, b_missedNow, b_waits, a_request, b_doing, a_ends, b_history, b_fields) (nI a) (nI b) (nI c) (nI d) (nI e) := by
  obtain ⟨h1, h2, h3, h4, h5⟩ := h
  have e0 : 5 * nI j = nI (5 * j) := pk_mul 5 j
  have e1 : nI (5 * j) + 1 = nI (5 * j + 1) := nI_add _ 1
  have e2 : nI (5 * j) + 2 = nI (5 * j + 2) := nI_add _ 2
  have e3 : nI (5 * j) + 3 = nI (5 * j + 3) := nI_add _ 3
  have e4 : nI (5 * j) + 4 = nI (5 * j + 4) := nI_add _ 4
  unfold wpY_cron
  dsimp only
  refine zy_isSet 1023 (by omega) (by decide) rfl (fun _ _ => br_f zk_01 (zy_isSet 255 (by omega) (by decide) rfl (fun _ _ => br_f zk_01 (zy_isSet 1023 (by omega) (by decide) rfl (fun _ _ => br_f zk_01 (zy_isSet 15 (by omega) (by decide) rfl (fun _ _ => br_f zk_01 (zy_isSet 127 (by omega) (by decide) rfl (fun _ _ => br_f zk_01 (KF _ (br_t (nI_pos' (by omega)) (zy_make hj KF ?_)))) (fun n => absurd h5 n))) (fun n => absurd h4 n))) (fun n => absurd h3 n))) (fun n => absurd h2 n))) (fun n => absurd h1 n)
  dsimp only
  rw [e0, e1, e2, e3, e4, show (nI (5 * j)).toNatClampNeg = 5 * j from nI_clamp (by omega), show (nI (5 * j + 1)).toNatClampNeg = 5 * j + 1 from nI_clamp (by omega), show (nI (5 * j + 2)).toNatClampNeg = 5 * j + 2 from nI_clamp (by omega), show (nI (5 * j + 3)).toNatClampNeg = 5 * j + 3 from nI_clamp (by omega), show (nI (5 * j + 4)).toNatClampNeg = 5 * j + 4 from nI_clamp (by omega)]
  exact ⟨vp_in_nI (by omega) (by omega), nm_e ⟨vp_in_nI (by omega) (by omega), nm_e ⟨vp_in_nI (by omega) (by omega), nm_e ⟨vp_in_nI (by omega) (by omega), nm_e ⟨vp_in_nI (by omega) (by omega), nm_e K⟩⟩⟩⟩⟩
end
theorem zk_sets {f : Nat → Int32} {x0 x1 x2 x3 x4 : Int32} (j i k : Nat) (hk : k < 5) : upd (upd (upd (upd (upd f (5 * j) x0) (5 * j + 1) x1) (5 * j + 2) x2) (5 * j + 3) x3) (5 * j + 4) x4 (5 * i + k) = if i = j then (if k = 0 then x0 else if k = 1 then x1 else if k = 2 then x2 else if k = 3 then x3 else x4) else f (5 * i + k) := by
  unfold upd
  by_cases e : i = j
  · subst e
    have : k = 0 ∨ k = 1 ∨ k = 2 ∨ k = 3 ∨ k = 4 := by omega
    rcases this with rfl | rfl | rfl | rfl | rfl <;> simp
  · rw [if_neg (by omega), if_neg (by omega), if_neg (by omega), if_neg (by omega), if_neg (by omega), if_neg e]
theorem zg_set_new {th kx mi ho da mo wd st : Nat → Int32} {j a b c d e : Nat} (g : zg_set th kx mi ho da mo wd st) (ok : zk_ok a b c d e) : zg_set (upd th j 1) (upd kx j 3) (upd mi j (nI a)) (upd ho j (nI b)) (upd da j (nI c)) (upd mo j (nI d)) (upd wd j (nI e)) (upd (upd (upd (upd (upd st (5 * j) (nI a)) (5 * j + 1) (nI b)) (5 * j + 2) (nI c)) (5 * j + 3) (nI d)) (5 * j + 4) (nI e)) := by
  intro i hi hti hk
  have s0 := zk_sets (f := st) (x0 := nI a) (x1 := nI b) (x2 := nI c) (x3 := nI d) (x4 := nI e) j i 0 (by omega)
  have s1 := zk_sets (f := st) (x0 := nI a) (x1 := nI b) (x2 := nI c) (x3 := nI d) (x4 := nI e) j i 1 (by omega)
  have s2 := zk_sets (f := st) (x0 := nI a) (x1 := nI b) (x2 := nI c) (x3 := nI d) (x4 := nI e) j i 2 (by omega)
  have s3 := zk_sets (f := st) (x0 := nI a) (x1 := nI b) (x2 := nI c) (x3 := nI d) (x4 := nI e) j i 3 (by omega)
  have s4 := zk_sets (f := st) (x0 := nI a) (x1 := nI b) (x2 := nI c) (x3 := nI d) (x4 := nI e) j i 4 (by omega)
  by_cases ei : i = j
  · rw [if_pos ei] at s0 s1 s2 s3 s4
    refine ⟨a, b, c, d, e, ok, ?_, ?_, ?_, ?_, ?_, s0, s1, s2, s3, s4⟩
    · rw [ei]; exact pk_us
    · rw [ei]; exact pk_us
    · rw [ei]; exact pk_us
    · rw [ei]; exact pk_us
    · rw [ei]; exact pk_us
  · rw [if_neg ei] at s0 s1 s2 s3 s4
    rw [pk_un ei] at hk
    obtain ⟨a', b', c', d', e', ok', t1, t2, t3, t4, t5, u0, u1, u2, u3, u4⟩ := g i hi (zk_th hti ei) hk
    refine ⟨a', b', c', d', e', ok', by rw [pk_un ei]; exact t1, by rw [pk_un ei]; exact t2, by rw [pk_un ei]; exact t3, by rw [pk_un ei]; exact t4, by rw [pk_un ei]; exact t5, s0.trans u0, s1.trans u1, s2.trans u2, s3.trans u3, s4.trans u4⟩
theorem i_vc_cron {k : Nat} {u : SX} {v : SY} (I : i_Rel k u v) (hk : k + 6 ≤ 3073) (v1 : Int32) (v2 : Int32) (v3 : Int32) (v4 : Int32) (v5 : Int32) : wpX_cron (fun r u' => wpY_cron (fun r' v' => r' = r ∧ i_Rel (k + 6) u' v') v v1 v2 v3 v4 v5) u v1 v2 v3 v4 v5 := by
  refine zr_el (Q := fun u v => wpX_cron (fun r u' => wpY_cron (fun r' v' => r' = r ∧ i_Rel (k + 6) u' v') v v1 v2 v3 v4 v5) u v1 v2 v3 v4 v5) ?_ I
  intro W T L f_workers f_now f_stopped f_duration f_priority f_overlap f_misfire f_waitingJobs f_logged a_there a_kind a_period a_lasts a_rank a_overlaps a_makesUp a_minutes a_hours a_days a_months a_weekdays a_due a_started a_lost a_missed a_sinceStop a_request a_waiting a_slot a_filled a_behind a_before a_lies a_runs a_ends a_active a_logJob a_logAt a_logDue g_asked b_kind b_next b_period b_sets b_missedNow b_waits b_doing b_history b_fields g
  have gg := g
  obtain ⟨h1, h2, h3, h4, h5, h6, h7, h8, h9, h10, h11, h12, h13, h14, h15, h16, h17, h18⟩ := g
  have J' : i_Rel (k + 6) (f_workers, f_now, f_stopped, f_duration, f_priority, f_overlap, f_misfire, f_waitingJobs, f_logged, a_there, a_kind, a_period, a_lasts, a_rank, a_overlaps, a_makesUp, a_minutes, a_hours, a_days, a_months, a_weekdays, a_due, a_started, a_lost, a_missed, a_sinceStop, a_request, a_waiting, a_slot, a_filled, a_behind, a_before, a_lies, a_runs, a_ends, a_active, a_logJob, a_logAt, a_logDue) (f_workers, f_now, f_logged, f_stopped, f_duration, f_priority, f_overlap, f_misfire, g_asked, b_kind, a_lasts, a_rank, a_overlaps, a_makesUp, b_next, b_period, b_sets, a_started, a_lost, a_missed, b_missedNow, b_waits, a_request, b_doing, a_ends, b_history, b_fields) := zr_in (zr_G_up (by omega) gg)
  by_cases h : zk_cr v1 v2 v3 v4 v5
  · rcases zr_free f_workers f_now f_stopped f_duration f_priority f_overlap f_misfire f_waitingJobs f_logged a_there a_kind a_period a_lasts a_rank a_overlaps a_makesUp a_minutes a_hours a_days a_months a_weekdays a_due a_started a_lost a_missed a_sinceStop a_request a_waiting a_slot a_filled a_behind a_before a_lies a_runs a_ends a_active a_logJob a_logAt a_logDue g_asked b_kind b_next b_period b_sets b_missedNow b_waits b_doing b_history b_fields h8 with ⟨j, hj, h0, FX, FY⟩ | ⟨FX, FY⟩
    · have hh := h
      obtain ⟨⟨p1, q1⟩, ⟨p2, q2⟩, ⟨p3, q3⟩, ⟨p4, q4⟩, ⟨p5, q5⟩⟩ := h
      obtain ⟨a, a1, a2, rfl⟩ := zk_rg (m := 1) (n := 1023) rfl rfl (by omega) (by omega) p1 q1
      obtain ⟨b, b1, b2, rfl⟩ := zk_rg (m := 1) (n := 255) rfl rfl (by omega) (by omega) p2 q2
      obtain ⟨c, c1, c2, rfl⟩ := zk_rg (m := 1) (n := 1023) rfl rfl (by omega) (by omega) p3 q3
      obtain ⟨d, d1, d2, rfl⟩ := zk_rg (m := 1) (n := 15) rfl rfl (by omega) (by omega) p4 q4
      obtain ⟨e, e1, e2, rfl⟩ := zk_rg (m := 1) (n := 127) rfl rfl (by omega) (by omega) p5 q5
      have ok : zk_ok a b c d e := ⟨by omega, by omega, by omega, by omega, by omega, by omega, by omega, by omega, by omega, by omega⟩
      have hl : a_lies j = -1 := (h15.2 j hj).2 (Or.inl h0)
      obtain ⟨r, hr⟩ := zk_nx_ex a b c d e T
      obtain ⟨hx, hdu⟩ := zk_nx_du (mi := nI a) (ho := nI b) (da := nI c) (mo := nI d) (wd := nI e) ok rfl rfl rfl rfl rfl h5 hr
      have KS : ∀ post : Int32 → Prop, post r → wpX_search post (f_workers, f_now, f_stopped, f_duration, f_priority, f_overlap, f_misfire, f_waitingJobs, f_logged, upd a_there j 1, upd a_kind j 3, upd a_period j ((0 : Int32).toInt16.toInt32), upd a_lasts j f_duration, upd a_rank j f_priority, upd a_overlaps j f_overlap, upd a_makesUp j f_misfire, upd a_minutes j (nI a), upd a_hours j (nI b), upd a_days j (nI c), upd a_months j (nI d), upd a_weekdays j (nI e), a_due, upd a_started j 0, upd a_lost j 0, upd a_missed j 0, upd a_sinceStop j 0, a_request, upd a_waiting j 0, a_slot, a_filled, a_behind, a_before, a_lies, a_runs, a_ends, upd a_active j 0, a_logJob, a_logAt, a_logDue) (nI j) f_now := fun post P => by
        rw [h4]
        exact zx_search hj h5 ok pk_us pk_us pk_us pk_us pk_us (fun r' h' => by rw [zk_nx_uq h' hr]; exact P)
      obtain ⟨li, sl, fi, bh, bf, G, KP⟩ := zx_plan f_workers f_now f_stopped f_duration f_priority f_overlap f_misfire f_waitingJobs f_logged (upd a_there j 1) (upd a_kind j 3) (upd a_period j ((0 : Int32).toInt16.toInt32)) (upd a_lasts j f_duration) (upd a_rank j f_priority) (upd a_overlaps j f_overlap) (upd a_makesUp j f_misfire) (upd a_minutes j (nI a)) (upd a_hours j (nI b)) (upd a_days j (nI c)) (upd a_months j (nI d)) (upd a_weekdays j (nI e)) a_due (upd a_started j 0) (upd a_lost j 0) (upd a_missed j 0) (upd a_sinceStop j 0) a_request (upd a_waiting j 0) a_slot a_filled a_behind a_before a_lies a_runs a_ends (upd a_active j 0) a_logJob a_logAt a_logDue (T := T) (x := r) hj h5 h4 pk_us h15.1 hl (fun i hi e => by rw [pk_un e]; exact h15.2 i hi) hx
      refine zx_cron_yes hj h7 ok hh FX KS KP (zy_cron_yes hj hh FY ⟨rfl, zr_in (W := W) (T := T) (L := L) ?_⟩)
      refine ⟨h1, h2, h3, h4, h5, by omega, h7, zg_job_new h8 (Or.inr (Or.inr (Or.inr rfl))), zg_last_new h9 h7.1, zg_per_new h10 (fun z => ?_), zg_set_new h11 ok, zg_wait_new h12 hj h0, zg_stp_new h13, fun i hi hti => ?_, G, zg_run_new h16 h0, zg_log_new h17, zg_qui_new h18⟩
      · rcases z with z | z
        · exact absurd z (by decide)
        · exact absurd z (by decide)
      · by_cases ei : i = j
        · subst ei
          rw [pk_us, pk_us, pk_us, pk_us, pk_us, pk_us, pk_us, pk_us, pk_us]
          exact ⟨fun z => absurd rfl z, fun _ => hdu⟩
        · rw [pk_un ei, pk_un ei, pk_un ei, pk_un ei, pk_un ei, pk_un ei, pk_un ei, pk_un ei, pk_un ei]; exact h14 i hi (zk_th hti ei)
    · exact zx_cron_no (Or.inr FX) (zy_cron_no (Or.inr FY) ⟨rfl, J'⟩)
  · exact zx_cron_no (Or.inl h) (zy_cron_no (Or.inl h) ⟨rfl, J'⟩)
end
section
/-! the constructors -/
def zk_mf (f : Nat → Int32) (j : Nat) : Nat → Int32 := fun i => if i < j then -1 else f i
theorem zk_mf0 (f : Nat → Int32) : zk_mf f 0 = f := by funext i; unfold zk_mf; rw [if_neg (by omega)]
theorem zk_mfs (f : Nat → Int32) (j : Nat) : upd (zk_mf f j) j (-1) = zk_mf f (j + 1) := by
  funext i
  by_cases e : i = j
  · subst e; rw [pk_us]; unfold zk_mf; rw [if_pos (by omega)]
  · rw [pk_un e]; unfold zk_mf
    by_cases z : i < j
    · rw [if_pos z, if_pos (by omega)]
    · rw [if_neg z, if_neg (by omega)]
theorem zk_mf_lt {f : Nat → Int32} {i j : Nat} (h : i < j) : zk_mf f j i = -1 := by unfold zk_mf; rw [if_pos h]
theorem zx_init {post : SX → Prop} {w : Int32} (K : post (w, 0, 0, 1, 0, 0, 0, 0, 0, fun _ => 0, fun _ => 0, fun _ => 0, fun _ => 0, fun _ => 0, fun _ => 0, fun _ => 0, fun _ => 0, fun _ => 0, fun _ => 0, fun _ => 0, fun _ => 0, fun _ => 0, fun _ => 0, fun _ => 0, fun _ => 0, fun _ => 0, fun _ => 0, fun _ => 0, zk_mf (fun _ => 0) 256, fun _ => 0, fun _ => 0, fun _ => 0, zk_mf (fun _ => 0) 12, fun _ => 0, fun _ => 0, fun _ => 0, fun _ => 0, fun _ => 0, fun _ => 0)) : ∃ n272 : Nat, wX_init_272 post w 0 0 1 0 0 0 0 0 n272 0 (fun _ => 0) (fun _ => 0) (fun _ => 0) (fun _ => 0) (fun _ => 0) (fun _ => 0) (fun _ => 0) (fun _ => 0) (fun _ => 0) (fun _ => 0) (fun _ => 0) (fun _ => 0) (fun _ => 0) (fun _ => 0) (fun _ => 0) (fun _ => 0) (fun _ => 0) (fun _ => 0) (fun _ => 0) (fun _ => 0) (fun _ => 0) (fun _ => 0) (fun _ => 0) (fun _ => 0) (fun _ => 0) (fun _ => 0) (fun _ => 0) (fun _ => 0) (fun _ => 0) (fun _ => 0) := by
  have k2 : ∀ n j, j + n = 12 → wX_init_294 post w 0 0 1 0 0 0 0 0 (n + 1) (nI j) (fun _ => 0) (fun _ => 0) (fun _ => 0) (fun _ => 0) (fun _ => 0) (fun _ => 0) (fun _ => 0) (fun _ => 0) (fun _ => 0) (fun _ => 0) (fun _ => 0) (fun _ => 0) (fun _ => 0) (fun _ => 0) (fun _ => 0) (fun _ => 0) (fun _ => 0) (fun _ => 0) (fun _ => 0) (zk_mf (fun _ => 0) 256) (fun _ => 0) (fun _ => 0) (fun _ => 0) (zk_mf (fun _ => 0) j) (fun _ => 0) (fun _ => 0) (fun _ => 0) (fun _ => 0) (fun _ => 0) (fun _ => 0) := by
    intro n
    induction n with
    | zero =>
      intro j hj
      have e : j = 12 := by omega
      subst e
      exact br_t (show (12 : Int32) ≤ nI 12 by decide) K
    | succ n ih =>
      intro j hj
      refine br_f (nI_ge (b := 12) (by omega) (by omega)) ⟨vp_in_nI (by omega) (by omega), nm_r (e' := zk_mf (fun _ => 0) (j + 1)) ?_ (nm_r (nI_1 j) (ih (j + 1) (by omega)))⟩
      rw [nI_clamp (by omega), zk_vsm, zk_mfs]
  have k2' := k2 12 0 (by omega)
  rw [zk_mf0] at k2'
  have k1 : ∀ n j, j + n = 256 → wX_init_272 post w 0 0 1 0 0 0 0 0 (n + 1) (nI j) (fun _ => 0) (fun _ => 0) (fun _ => 0) (fun _ => 0) (fun _ => 0) (fun _ => 0) (fun _ => 0) (fun _ => 0) (fun _ => 0) (fun _ => 0) (fun _ => 0) (fun _ => 0) (fun _ => 0) (fun _ => 0) (fun _ => 0) (fun _ => 0) (fun _ => 0) (fun _ => 0) (fun _ => 0) (zk_mf (fun _ => 0) j) (fun _ => 0) (fun _ => 0) (fun _ => 0) (fun _ => 0) (fun _ => 0) (fun _ => 0) (fun _ => 0) (fun _ => 0) (fun _ => 0) (fun _ => 0) := by
    intro n
    induction n with
    | zero =>
      intro j hj
      have e : j = 256 := by omega
      subst e
      exact br_t (show (256 : Int32) ≤ nI 256 by decide) ⟨13, k2'⟩
    | succ n ih =>
      intro j hj
      refine br_f (nI_ge (b := 256) (by omega) (by omega)) ⟨vp_in_nI (by omega) (by omega), nm_r (e' := zk_mf (fun _ => 0) (j + 1)) ?_ (nm_r (nI_1 j) (ih (j + 1) (by omega)))⟩
      rw [nI_clamp (by omega), zk_vbm, zk_mfs]
  have k1' := k1 256 0 (by omega)
  rw [zk_mf0] at k1'
  exact ⟨257, k1'⟩
theorem zy_init {post : SY → Prop} {w : Int32} (K : post (w, 0, 0, 0, 1, 0, 0, 0, 0, zk_mf (fun _ => 0) 12, fun _ => 0, fun _ => 0, fun _ => 0, fun _ => 0, fun _ => 0, fun _ => 0, fun _ => 0, fun _ => 0, fun _ => 0, fun _ => 0, fun _ => 0, fun _ => 0, fun _ => 0, fun _ => 0, fun _ => 0, fun _ => 0, fun _ => 0)) : ∃ n175 : Nat, wY_init_175 post w 0 0 0 1 0 0 0 0 n175 0 (fun _ => 0) (fun _ => 0) (fun _ => 0) (fun _ => 0) (fun _ => 0) (fun _ => 0) (fun _ => 0) (fun _ => 0) (fun _ => 0) (fun _ => 0) (fun _ => 0) (fun _ => 0) (fun _ => 0) (fun _ => 0) (fun _ => 0) (fun _ => 0) (fun _ => 0) (fun _ => 0) := by
  have k2 : ∀ n j, j + n = 12 → wY_init_175 post w 0 0 0 1 0 0 0 0 (n + 1) (nI j) (zk_mf (fun _ => 0) j) (fun _ => 0) (fun _ => 0) (fun _ => 0) (fun _ => 0) (fun _ => 0) (fun _ => 0) (fun _ => 0) (fun _ => 0) (fun _ => 0) (fun _ => 0) (fun _ => 0) (fun _ => 0) (fun _ => 0) (fun _ => 0) (fun _ => 0) (fun _ => 0) (fun _ => 0) := by
    intro n
    induction n with
    | zero =>
      intro j hj
      have e : j = 12 := by omega
      subst e
      exact br_t (show (12 : Int32) ≤ nI 12 by decide) K
    | succ n ih =>
      intro j hj
      refine br_f (nI_ge (b := 12) (by omega) (by omega)) ⟨vp_in_nI (by omega) (by omega), nm_r (e' := zk_mf (fun _ => 0) (j + 1)) ?_ (nm_r (nI_1 j) (ih (j + 1) (by omega)))⟩
      rw [nI_clamp (by omega), zk_mfs]
  have k2' := k2 12 0 (by omega)
  rw [zk_mf0] at k2'
  exact ⟨13, k2'⟩
theorem zr_init {W : Nat} {w : Int32} (h1 : 1 ≤ W) (h2 : W ≤ 3) (hw : w = nI W) : i_Rel 1 (w, 0, 0, 1, 0, 0, 0, 0, 0, fun _ => 0, fun _ => 0, fun _ => 0, fun _ => 0, fun _ => 0, fun _ => 0, fun _ => 0, fun _ => 0, fun _ => 0, fun _ => 0, fun _ => 0, fun _ => 0, fun _ => 0, fun _ => 0, fun _ => 0, fun _ => 0, fun _ => 0, fun _ => 0, fun _ => 0, zk_mf (fun _ => 0) 256, fun _ => 0, fun _ => 0, fun _ => 0, zk_mf (fun _ => 0) 12, fun _ => 0, fun _ => 0, fun _ => 0, fun _ => 0, fun _ => 0, fun _ => 0) (w, 0, 0, 0, 1, 0, 0, 0, 0, zk_mf (fun _ => 0) 12, fun _ => 0, fun _ => 0, fun _ => 0, fun _ => 0, fun _ => 0, fun _ => 0, fun _ => 0, fun _ => 0, fun _ => 0, fun _ => 0, fun _ => 0, fun _ => 0, fun _ => 0, fun _ => 0, fun _ => 0, fun _ => 0, fun _ => 0) := by
  have sm0 : ∀ n, zk_sm (fun _ => 0) n = 0 := by
    intro n
    induction n with
    | zero => rfl
    | succ n ih => rw [zk_sm, ih, zk_t0]; rfl
  have g : zr_G 1 W 0 0 w 0 0 1 0 0 0 0 0 (fun _ => 0) (fun _ => 0) (fun _ => 0) (fun _ => 0) (fun _ => 0) (fun _ => 0) (fun _ => 0) (fun _ => 0) (fun _ => 0) (fun _ => 0) (fun _ => 0) (fun _ => 0) (fun _ => 0) (fun _ => 0) (fun _ => 0) (fun _ => 0) (fun _ => 0) (fun _ => 0) (fun _ => 0) (zk_mf (fun _ => 0) 256) (fun _ => 0) (fun _ => 0) (fun _ => 0) (zk_mf (fun _ => 0) 12) (fun _ => 0) (fun _ => 0) (fun _ => 0) (fun _ => 0) (fun _ => 0) (fun _ => 0) 0 (zk_mf (fun _ => 0) 12) (fun _ => 0) (fun _ => 0) (fun _ => 0) (fun _ => 0) (fun _ => 0) (fun _ => 0) (fun _ => 0) (fun _ => 0) := by
    refine ⟨h1, h2, hw, rfl, by omega, by omega, ⟨⟨1, by omega, by omega, rfl⟩, ⟨0, by omega, rfl⟩, Or.inl rfl, ⟨0, by omega, rfl⟩⟩, fun j hj => Or.inl ⟨rfl, zk_mf_lt hj⟩, fun j hj z => absurd z zk_10, fun j hj z => absurd z zk_10, fun j hj z => absurd z zk_10, ⟨?_, fun j hj => ⟨0, by omega, rfl, fun z => absurd z zk_10, fun _ => rfl, b_0 j⟩⟩, ⟨Or.inl rfl, fun z => absurd z zk_10⟩, fun j hj z => absurd z zk_10, ⟨⟨fun _ => [], fun a ha => ⟨zk_mf_lt ha, True.intro, List.nodup_nil, ⟨fun z => ?_, fun z => absurd rfl z⟩, fun j hj => ?_⟩, fun j hj => Or.inl (zk_mf_lt hj)⟩, fun j hj => ⟨fun z => absurd z zk_10, fun _ => zk_mf_lt hj⟩⟩, ⟨fun w hw => Or.inl rfl, fun w w' j _ _ _ n1 => absurd rfl n1, fun j hj z => absurd z zk_10⟩, ⟨rfl, fun j hj => ⟨0, by omega, rfl⟩, fun k _ hk => by omega⟩, fun _ => Or.inr (fun j hj z => absurd z zk_10)⟩
    · rw [sm0]; exact zk_t0
    · rw [zk_l0] at z; cases z
    · cases hj
  exact zr_in g
theorem i_vc0 (k0 : Int32) : wpX_init (fun u => wpY_init (fun v => i_Rel 1 u v) k0) k0 := by
  unfold wpX_init wpY_init
  refine br_c (fun a => br_c (fun b => ?_) (fun b => ?_)) (fun a => ?_)
  · obtain ⟨W, w1, w2, rfl⟩ := zk_rg (m := 1) (n := 3) rfl rfl (by omega) (by omega) a b
    exact zx_init (br_t a (br_t b (zy_init (zr_init w1 w2 rfl))))
  · exact zx_init (br_t a (br_f b (zy_init (zr_init (W := 3) (by omega) (by omega) rfl))))
  · exact zx_init (br_f a (zy_init (zr_init (W := 1) (by omega) (by omega) rfl)))
end
