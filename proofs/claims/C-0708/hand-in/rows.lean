section
/-! pure rows to paste: stores, nI and lN arithmetic, masks, shifts, narrowing, branches by naturals (pk_le, pk_lt, pk_eq), loops (lp1 .. lp16: the measure of the state; rp1 ..: recursion), negatives. Take what you need -/
theorem pk_us {f : Nat → Int32} {k : Nat} {x : Int32} : upd f k x k = x := if_pos rfl
theorem pk_un {f : Nat → Int32} {k j : Nat} {x : Int32} (h : j ≠ k) : upd f k x j = f j := if_neg h
theorem pk_uLs {f : Nat → Int64} {k : Nat} {x : Int64} : vp_updL f k x k = x := if_pos rfl
theorem pk_uLn {f : Nat → Int64} {k j : Nat} {x : Int64} (h : j ≠ k) : vp_updL f k x j = f j := if_neg h
theorem pk_sub {a b : Nat} (h : b ≤ a) : nI a - nI b = nI (a - b) := by
  obtain ⟨c, rfl⟩ : ∃ c, a = c + b := ⟨a - b, by omega⟩
  rw [← nI_add, Int32.add_sub_cancel, Nat.add_sub_cancel]
theorem pk_m1 (n : Nat) : nI (n + 1) + (-1) = nI n := by
  rw [← nI_1, Int32.add_assoc, show (1 : Int32) + (-1) = 0 from rfl, Int32.add_zero]
theorem pk_mul (a b : Nat) : nI a * nI b = nI (a * b) := (Int32.ofNat_mul a b).symm
theorem pk_div {a d : Nat} (ha : a < 2 ^ 31) (h0 : 0 < d) (hd : d < 2 ^ 31) : nI a / nI d = nI (a / d) := by
  apply Int32.toInt_inj.mp
  rw [lg_idiv_nonneg (by rw [nI_toInt ha]; omega) (by rw [nI_toInt hd]; omega), nI_toInt ha, nI_toInt hd, nI_toInt (Nat.lt_of_le_of_lt (Nat.div_le_self a d) ha)]
  first | rfl | exact (Int.natCast_ediv _ _).symm
theorem pk_rem {a d : Nat} (ha : a < 2 ^ 31) (h0 : 0 < d) (hd : d < 2 ^ 31) : nI a - nI a / nI d * nI d = nI (a % d) := by
  rw [pk_div ha h0 hd, pk_mul, pk_sub (Nat.div_mul_le_self a d)]
  exact congrArg nI (by have := Nat.div_add_mod' a d; omega)
theorem pk_sub_toInt {a b : Nat} (ha : a < 2 ^ 30) (hb : b < 2 ^ 30) : (nI a - nI b).toInt = (a : Int) - b := by
  rw [Int32.toInt_sub, nI_toInt (by omega), nI_toInt (by omega)]
  exact Int.bmod_eq_of_le (by omega) (by omega)
theorem pk_sneg {a b : Nat} (hb : b < 2 ^ 30) (h : a < b) : nI a - nI b < 0 := by
  rw [Int32.lt_iff_toInt_lt, pk_sub_toInt (by omega) hb, show (0 : Int32).toInt = 0 from by decide]
  omega
theorem pk_ix (x : Int32) {n : Nat} (hn : n < 2 ^ 31) : x < 0 ∨ nI n ≤ x ∨ ∃ j : Nat, j < n ∧ x = nI j := by
  by_cases h : x < 0
  · exact Or.inl h
  · obtain ⟨j, hj, rfl⟩ := nI_of h
    by_cases h2 : j < n
    · exact Or.inr (Or.inr ⟨j, h2, rfl⟩)
    · exact Or.inr (Or.inl (nI_le (by omega) hj))
theorem pk_le {x y : Int32} {A B : Prop} (a b : Nat) (f : a ≤ b → A) (g : b < a → B) (hx : x = nI a := by rfl) (hy : y = nI b := by rfl) (ha : a < 2 ^ 31 := by omega) (hb : b < 2 ^ 31 := by omega) : (x ≤ y → A) ∧ (¬ x ≤ y → B) := by
  subst hx hy
  rw [nI_leI ha hb]
  exact ⟨f, fun z => g (by omega)⟩
theorem pk_lt {x y : Int32} {A B : Prop} (a b : Nat) (f : a < b → A) (g : b ≤ a → B) (hx : x = nI a := by rfl) (hy : y = nI b := by rfl) (ha : a < 2 ^ 31 := by omega) (hb : b < 2 ^ 31 := by omega) : (x < y → A) ∧ (¬ x < y → B) := by
  subst hx hy
  rw [nI_ltI ha hb]
  exact ⟨f, fun z => g (by omega)⟩
theorem pk_eq {x y : Int32} {A B : Prop} (a b : Nat) (f : a = b → A) (g : a ≠ b → B) (hx : x = nI a := by rfl) (hy : y = nI b := by rfl) (ha : a < 2 ^ 31 := by omega) (hb : b < 2 ^ 31 := by omega) : (x = y → A) ∧ (¬ x = y → B) := by
  subst hx hy
  rw [nI_eq ha hb]
  exact ⟨f, g⟩
theorem pk_in {x : Int32} (n N : Nat) (h : n < N) (hx : x = nI n := by rfl) (hN : N < 2 ^ 31 := by omega) : vp_in x N := by
  subst hx
  exact vp_in_nI h hN
theorem pk_cl {x : Int32} (n : Nat) (hx : x = nI n := by rfl) (h : n < 2 ^ 31 := by omega) : x.toNatClampNeg = n := by
  subst hx
  exact nI_clamp h
theorem pk_tn {n : Nat} (h : n < 2 ^ 32) : (nI n).toBitVec.toNat = n := Nat.mod_eq_of_lt h
theorem pk_and (x : Int32) {m : Int32} (k : Nat) (hm : m.toBitVec.toNat = 2 ^ k - 1) : x &&& m = nI (x.toBitVec.toNat % 2 ^ k) := by
  apply Int32.toBitVec_inj.mp
  apply BitVec.eq_of_toNat_eq
  rw [Int32.toBitVec_and, BitVec.toNat_and, hm, Nat.and_two_pow_sub_one_eq_mod]
  show _ = (BitVec.ofNat 32 _).toNat
  rw [BitVec.toNat_ofNat]
  exact (Nat.mod_eq_of_lt (Nat.lt_of_le_of_lt (Nat.mod_le _ _) x.toBitVec.isLt)).symm
theorem pk_andN {n : Nat} (h : n < 2 ^ 32) {m : Int32} (k : Nat) (hm : m.toBitVec.toNat = 2 ^ k - 1) : nI n &&& m = nI (n % 2 ^ k) := by
  rw [pk_and _ k hm, pk_tn h]
theorem pk_andE (x : Int32) {m : Int32} (k : Nat) (hm : m.toBitVec.toNat = 2 ^ k - 1) : ∃ j : Nat, j < 2 ^ k ∧ x &&& m = nI j := ⟨_, Nat.mod_lt _ (Nat.two_pow_pos k), pk_and x k hm⟩
theorem pk_andIn (x : Int32) {m : Int32} (k : Nat) (hm : m.toBitVec.toNat = 2 ^ k - 1) (hk : k ≤ 30) : vp_in (x &&& m) (2 ^ k) := by
  obtain ⟨j, hj, e⟩ := pk_andE x k hm
  rw [e]
  exact vp_in_nI hj (Nat.lt_of_le_of_lt (Nat.pow_le_pow_right (by decide) hk) (by decide))
theorem pk_shl (a s : Int32) (k : Nat) (hs : (s.toBitVec.smod 32).toNat = k) : (a <<< s).toBitVec.toNat = a.toBitVec.toNat * 2 ^ k % 2 ^ 32 := by
  show (a.toBitVec <<< (s.toBitVec.smod 32).toNat).toNat = _
  rw [hs, BitVec.toNat_shiftLeft, Nat.shiftLeft_eq]
theorem pk_shlN {n : Nat} (s : Int32) (k : Nat) (hs : (s.toBitVec.smod 32).toNat = k) (h : n * 2 ^ k < 2 ^ 32) : nI n <<< s = nI (n * 2 ^ k) := by
  apply Int32.toBitVec_inj.mp
  apply BitVec.eq_of_toNat_eq
  have hn : n < 2 ^ 32 := Nat.lt_of_le_of_lt (Nat.le_mul_of_pos_right n (Nat.two_pow_pos k)) h
  rw [pk_shl _ _ k hs, pk_tn hn, pk_tn h, Nat.mod_eq_of_lt h]
theorem pk_shr (a s : Int32) (k : Nat) (hs : (s.toBitVec.smod 32).toNat = k) : (a >>> s).toInt = a.toInt >>> k := by
  show (a.toBitVec.sshiftRight (s.toBitVec.smod 32).toNat).toInt = _
  rw [hs, BitVec.toInt_sshiftRight]
  rfl
theorem pk_shrN {n : Nat} (h : n < 2 ^ 31) (s : Int32) (k : Nat) (hs : (s.toBitVec.smod 32).toNat = k) : nI n >>> s = nI (n / 2 ^ k) := by
  apply Int32.toInt_inj.mp
  have h2 : n / 2 ^ k ≤ n := Nat.div_le_self _ _
  rw [pk_shr _ _ k hs, nI_toInt h, nI_toInt (by omega), Int.shiftRight_eq_div_pow]
  rfl
theorem pk_ushr (x s : Int32) (k : Nat) (hs : ((s.toUInt32 &&& Int32.toUInt32 31).toBitVec % 32).toNat = k) : (x.toUInt32 >>> (s.toUInt32 &&& Int32.toUInt32 31)).toInt32.toBitVec.toNat = x.toBitVec.toNat / 2 ^ k := by
  have e : (x.toUInt32 >>> (s.toUInt32 &&& Int32.toUInt32 31)).toInt32.toBitVec = x.toBitVec >>> k := by
    rw [← hs]
    exact UInt32.toBitVec_shiftRight _ _
  rw [e, BitVec.toNat_ushiftRight, Nat.shiftRight_eq_div_pow]
theorem pk_ushrN {n : Nat} (hn : n < 2 ^ 32) (s : Int32) (k : Nat) (hs : ((s.toUInt32 &&& Int32.toUInt32 31).toBitVec % 32).toNat = k) : ((nI n).toUInt32 >>> (s.toUInt32 &&& Int32.toUInt32 31)).toInt32 = nI (n / 2 ^ k) := by
  apply Int32.toBitVec_inj.mp
  apply BitVec.eq_of_toNat_eq
  rw [pk_ushr _ s k hs, pk_tn hn, pk_tn (Nat.lt_of_le_of_lt (Nat.div_le_self _ _) hn)]
theorem pk_nb (z : Int32) : narrow .byte (.int z.toInt8.toInt32) = .int z.toInt8.toInt32 := congrArg Value.int (by simp)
theorem pk_ns (z : Int32) : narrow .short (.int z.toInt16.toInt32) = .int z.toInt16.toInt32 := congrArg Value.int (by simp)
theorem pk_fb (r : Int32) : fits .byte (.int r.toInt8.toInt32) = true := by
  have ⟨a, b⟩ := lg_i2b_range r
  have h1 : (-128 : Int32).toInt = -128 := by decide
  have h2 : (127 : Int32).toInt = 127 := by decide
  simp only [fits, Bool.and_eq_true, decide_eq_true_eq, Int32.le_iff_toInt_le, h1, h2]
  omega
theorem pk_fs (r : Int32) : fits .short (.int r.toInt16.toInt32) = true := by
  have ⟨a, b⟩ := lg_i2s_range r
  have h1 : (-32768 : Int32).toInt = -32768 := by decide
  have h2 : (32767 : Int32).toInt = 32767 := by decide
  simp only [fits, Bool.and_eq_true, decide_eq_true_eq, Int32.le_iff_toInt_le, h1, h2]
  omega
theorem pk_charN {q : Nat} (hq : q < 65536) : narrow .char (.int (nI q)) = .int (nI q) ∧ fits .char (.int (nI q)) = true := by
  constructor
  · have e : (nI q).toUInt32.toUInt16.toUInt32.toInt32 = nI q := by
      apply Int32.toBitVec_inj.mp
      apply BitVec.eq_of_toNat_eq
      show (nI q).toUInt32.toUInt16.toUInt32.toNat = q % 2 ^ 32
      rw [UInt16.toNat_toUInt32, UInt32.toNat_toUInt16, show (nI q).toUInt32.toNat = q % 2 ^ 32 from rfl]
      omega
    exact congrArg Value.int e
  · have a : (0 : Int32) ≤ nI q := nI_pos' (by omega)
    have b : nI q ≤ 65535 := nI_le (b := 65535) (by omega) (by decide)
    show (decide ((0 : Int32) ≤ nI q) && decide (nI q ≤ 65535)) = true
    rw [decide_eq_true a, decide_eq_true b]
    rfl
theorem pk_char (x : Int32) : (x.toUInt32 % 65536).toInt32 = nI (x.toBitVec.toNat % 65536) := by
  apply Int32.toBitVec_inj.mp
  apply BitVec.eq_of_toNat_eq
  rw [pk_tn (by omega)]
  show (x.toUInt32 % 65536).toNat = _
  rw [UInt32.toNat_mod]
  rfl
theorem pk_nc (x : Int32) : narrow .char (.int (x.toUInt32 % 65536).toInt32) = .int (x.toUInt32 % 65536).toInt32 := by
  rw [pk_char]
  exact (pk_charN (Nat.mod_lt _ (by decide))).1
theorem pk_fc (x : Int32) : fits .char (.int (x.toUInt32 % 65536).toInt32) = true := by
  rw [pk_char]
  exact (pk_charN (Nat.mod_lt _ (by decide))).2
theorem pk_vb (z : Int32) : vp_nar .byte z.toInt8.toInt32 = z.toInt8.toInt32 := by rw [vp_nar_byte]; simp
theorem pk_vs (z : Int32) : vp_nar .short z.toInt16.toInt32 = z.toInt16.toInt32 := by rw [vp_nar_short]; simp
theorem pk_vc (z : Int32) : vp_nar .char (z.toUInt32 % 65536).toInt32 = (z.toUInt32 % 65536).toInt32 := Value.int.inj (pk_nc z)
theorem pk_lT {n : Nat} (h : n < 2 ^ 63) : (lN n).toInt = (n : Int) := lg_ofNat_toInt h
theorem pk_lLT {a b : Nat} (ha : a < 2 ^ 63) (hb : b < 2 ^ 63) : lN a < lN b ↔ a < b := by
  rw [Int64.lt_iff_toInt_lt, pk_lT ha, pk_lT hb]; omega
theorem pk_lLE {a b : Nat} (ha : a < 2 ^ 63) (hb : b < 2 ^ 63) : lN a ≤ lN b ↔ a ≤ b := by
  rw [Int64.le_iff_toInt_le, pk_lT ha, pk_lT hb]; omega
theorem pk_lEQ {a b : Nat} (ha : a < 2 ^ 63) (hb : b < 2 ^ 63) : lN a = lN b ↔ a = b := by
  rw [← Int64.toInt_inj, pk_lT ha, pk_lT hb]; omega
theorem pk_lOf {x : Int64} (h : ¬ x < 0) : ∃ k : Nat, k < 2 ^ 63 ∧ x = lN k := by
  rw [Int64.lt_iff_toInt_lt] at h
  have h0 : (0 : Int64).toInt = 0 := by decide
  have hx := Int64.toInt_lt x
  refine ⟨x.toInt.toNat, by omega, Int64.toInt_inj.mp ?_⟩
  rw [pk_lT (by omega)]
  omega
theorem pk_lDiv {a b : Nat} (ha : a < 2 ^ 63) (h0 : 0 < b) (hb : b < 2 ^ 63) : lN a / lN b = lN (a / b) := by
  apply Int64.toInt_inj.mp
  rw [lg_ldiv_nonneg (by rw [pk_lT ha]; omega) (by rw [pk_lT hb]; omega), pk_lT ha, pk_lT hb, pk_lT (Nat.lt_of_le_of_lt (Nat.div_le_self a b) ha)]
  rfl
theorem pk_lRem {a b : Nat} (ha : a < 2 ^ 63) (h0 : 0 < b) (hb : b < 2 ^ 63) : lN a - lN a / lN b * lN b = lN (a % b) := by
  rw [pk_lDiv ha h0 hb, lN_mul, lN_sub (Nat.div_mul_le_self a b)]
  exact congrArg lN (by have := Nat.div_add_mod' a b; omega)
theorem pk_loop {σ : Type} (W : Nat → Nat → σ → Prop) (I : Nat → σ → Prop) (e i0 : Nat) (s : σ) (hi : i0 ≤ e) (h0 : I i0 s) (hx : ∀ n s, I e s → W (n + 1) e s)
    (hs : ∀ n i s, i < e → I i s → (∀ s', I (i + 1) s' → W n (i + 1) s') → W (n + 1) i s) : ∃ n, W n i0 s :=
  ⟨e + 1, loop_i W I e hx hs (e + 1) i0 s hi (by omega) h0⟩
theorem pk_loopD {σ : Type} (W : Nat → Nat → σ → Prop) (I : Nat → σ → Prop) (hx : ∀ n s, I 0 s → W (n + 1) 0 s)
    (hs : ∀ n i s, I (i + 1) s → (∀ s', I i s' → W n i s') → W (n + 1) (i + 1) s) : ∀ (e : Nat) (s : σ), I e s → W (e + 1) e s := by
  intro e
  induction e with
  | zero => exact fun s h => hx 0 s h
  | succ e ih => exact fun s h => hs (e + 1) e s h (fun s' h' => ih s' h')
theorem pk_least (P : Nat → Prop) (h : ∃ k, P k) : ∃ k, P k ∧ ∀ j, j < k → ¬ P j := by
  obtain ⟨k, hk⟩ := h
  induction k using Nat.strongRecOn with
  | ind k ih =>
    by_cases e : ∃ j, j < k ∧ P j
    · obtain ⟨j, hj, pj⟩ := e
      exact ih j hj pj
    · exact ⟨k, hk, fun j hj pj => e ⟨j, hj, pj⟩⟩
/-! ===== Int32 by its bits: bt x i ===== -/
def bt (x : Int32) (i : Nat) : Bool := x.toBitVec.getLsbD i
theorem b_ext {x y : Int32} (h : ∀ i, i < 32 → bt x i = bt y i) : x = y := Int32.toBitVec_inj.mp (BitVec.eq_of_getLsbD_eq (fun i hi => h i hi))
theorem b_or (x y : Int32) (i : Nat) : bt (x ||| y) i = (bt x i || bt y i) := by unfold bt; rw [Int32.toBitVec_or, BitVec.getLsbD_or]
theorem b_and (x y : Int32) (i : Nat) : bt (x &&& y) i = (bt x i && bt y i) := by unfold bt; rw [Int32.toBitVec_and, BitVec.getLsbD_and]
theorem b_xor (x y : Int32) (i : Nat) : bt (x ^^^ y) i = (bt x i ^^ bt y i) := by unfold bt; rw [Int32.toBitVec_xor, BitVec.getLsbD_xor]
theorem b_big {x : Int32} {i : Nat} (h : 32 ≤ i) : bt x i = false := BitVec.getLsbD_of_ge _ _ h
theorem b_255 (i : Nat) : bt 255 i = decide (i < 8) := by
  rcases Nat.lt_or_ge i 32 with h | h
  · exact (by decide +kernel : ∀ i, i < 32 → bt 255 i = decide (i < 8)) i h
  · rw [b_big h, decide_eq_false (by omega)]
theorem b_65535 (i : Nat) : bt 65535 i = decide (i < 16) := by
  rcases Nat.lt_or_ge i 32 with h | h
  · exact (by decide +kernel : ∀ i, i < 32 → bt 65535 i = decide (i < 16)) i h
  · rw [b_big h, decide_eq_false (by omega)]
theorem b_m1 : ∀ i, i < 32 → bt (-1) i = true := by decide +kernel
theorem b_0 (i : Nat) : bt 0 i = false := BitVec.getLsbD_zero
theorem s_l : ∀ n, n < 32 → ((nI n &&& 31).toBitVec.smod 32).toNat = n := by decide +kernel
theorem s_u : ∀ n, n < 32 → (((nI n).toUInt32 &&& Int32.toUInt32 31).toBitVec % 32).toNat = n := by decide +kernel
theorem b_shl (n : Nat) (hn : n < 32) (x : Int32) {i : Nat} (hi : i < 32) : bt (x <<< (nI n &&& 31)) i = (decide (n ≤ i) && bt x (i - n)) := by
  unfold bt
  rw [Int32.toBitVec_shiftLeft]
  show (x.toBitVec <<< ((nI n &&& 31).toBitVec.smod 32).toNat).getLsbD i = _
  rw [s_l n hn, BitVec.getLsbD_shiftLeft]
  rcases Nat.lt_or_ge i n with h | h
  · simp [h, Nat.not_le.mpr h]
  · simp [hi, h, Nat.not_lt.mpr h]
theorem b_ushr (n : Nat) (hn : n < 32) (x : Int32) (i : Nat) : bt ((x.toUInt32 >>> ((nI n).toUInt32 &&& Int32.toUInt32 31)).toInt32) i = bt x (n + i) := by
  show (x.toUInt32 >>> ((nI n).toUInt32 &&& Int32.toUInt32 31)).toBitVec.getLsbD i = x.toUInt32.toBitVec.getLsbD (n + i)
  rw [UInt32.toBitVec_shiftRight]
  show (x.toUInt32.toBitVec >>> (((nI n).toUInt32 &&& Int32.toUInt32 31).toBitVec % 32).toNat).getLsbD i = _
  rw [s_u n hn, BitVec.getLsbD_ushiftRight]
theorem b_sshr (n : Nat) (hn : n < 32) (x : Int32) {i : Nat} (hi : i < 32) : bt (x >>> (nI n &&& 31)) i = if n + i < 32 then bt x (n + i) else bt x 31 := by
  unfold bt
  rw [Int32.toBitVec_shiftRight]
  show (x.toBitVec.sshiftRight ((nI n &&& 31).toBitVec.smod 32).toNat).getLsbD i = _
  rw [s_l n hn, BitVec.getLsbD_sshiftRight, BitVec.msb_eq_getLsbD_last]
  simp [hi]
theorem b_shl8 (x : Int32) {i : Nat} (hi : i < 32) : bt (x <<< ((8 : Int32) &&& 31)) i = (decide (8 ≤ i) && bt x (i - 8)) := b_shl 8 (by omega) x hi
theorem b_shl16 (x : Int32) {i : Nat} (hi : i < 32) : bt (x <<< ((16 : Int32) &&& 31)) i = (decide (16 ≤ i) && bt x (i - 16)) := b_shl 16 (by omega) x hi
theorem b_shl24 (x : Int32) {i : Nat} (hi : i < 32) : bt (x <<< ((24 : Int32) &&& 31)) i = (decide (24 ≤ i) && bt x (i - 24)) := b_shl 24 (by omega) x hi
theorem b_sshr8 (x : Int32) {i : Nat} (hi : i < 32) : bt (x >>> ((8 : Int32) &&& 31)) i = if 8 + i < 32 then bt x (8 + i) else bt x 31 := b_sshr 8 (by omega) x hi
/-! ===== nI under and, xor, >>>, one bit, 65535 ===== -/
theorem nx_and (a b : Nat) : nI a &&& nI b = nI (a &&& b) := by
  apply Int32.toBitVec_inj.1
  show BitVec.ofNat 32 a &&& BitVec.ofNat 32 b = BitVec.ofNat 32 (a &&& b)
  apply BitVec.eq_of_getLsbD_eq
  intro i hi
  simp [hi]
theorem nx_xor (a b : Nat) : nI a ^^^ nI b = nI (a ^^^ b) := by
  apply Int32.toBitVec_inj.1
  show BitVec.ofNat 32 a ^^^ BitVec.ofNat 32 b = BitVec.ofNat 32 (a ^^^ b)
  apply BitVec.eq_of_getLsbD_eq
  intro i hi
  simp [hi]
theorem nx_cnt : ∀ j : Fin 32, (UInt32.ofNat j.val &&& Int32.toUInt32 31).toNat % 32 = j.val := by decide +kernel
theorem nx_ush {k j : Nat} (hk : k < 65536) (hj : j < 32) : ((nI k).toUInt32 >>> ((nI j).toUInt32 &&& Int32.toUInt32 31)).toInt32 = nI (k >>> j) := by
  have hs : k >>> j ≤ k := by
    rw [Nat.shiftRight_eq_div_pow]
    exact Nat.div_le_self _ _
  have e2 : UInt32.ofNat k >>> (UInt32.ofNat j &&& Int32.toUInt32 31) = UInt32.ofNat (k >>> j) := by
    apply UInt32.toNat_inj.1
    have h1 : (UInt32.ofNat k).toNat = k := Nat.mod_eq_of_lt (by omega)
    have h2 : (UInt32.ofNat (k >>> j)).toNat = k >>> j := Nat.mod_eq_of_lt (by omega)
    rw [UInt32.toNat_shiftRight, nx_cnt ⟨j, hj⟩, h1, h2]
  show (UInt32.ofNat k >>> (UInt32.ofNat j &&& Int32.toUInt32 31)).toInt32 = _
  rw [e2]
  rfl
theorem nx_bit {k j : Nat} (hk : k < 65536) (hj : j < 16) : (((nI k).toUInt32 >>> ((nI j).toUInt32 &&& Int32.toUInt32 31)).toInt32 &&& 1) = 0 ↔ k.testBit j = false := by
  rw [nx_ush hk (by omega)]
  show nI (k >>> j) &&& nI 1 = 0 ↔ _
  rw [nx_and, Nat.and_one_is_mod, ← nI_0, nI_eq (by omega) (by omega), Nat.testBit_eq_decide_div_mod_eq, Nat.shiftRight_eq_div_pow, decide_eq_false_iff_not]
  generalize k / 2 ^ j = z
  omega
theorem nx_mod (k : Nat) : nI k &&& 65535 = nI (k % 65536) := by
  show nI k &&& nI 65535 = _
  rw [nx_and, show (65535 : Nat) = 2 ^ 16 - 1 from rfl, Nat.and_two_pow_sub_one_eq_mod]
theorem nx_m16 {k : Nat} (h : k < 65536) : nI k &&& 65535 = nI k := by rw [nx_mod, Nat.mod_eq_of_lt h]
theorem nx_mask (x : Int32) : ∃ k, k < 65536 ∧ x &&& 65535 = nI k := by
  have e : x = nI x.toBitVec.toNat := by
    apply Int32.toBitVec_inj.1
    show x.toBitVec = BitVec.ofNat 32 x.toBitVec.toNat
    simp
  refine ⟨x.toBitVec.toNat % 65536, Nat.mod_lt _ (by omega), ?_⟩
  rw [← nx_mod, ← e]
/-! ===== Int64 as a set of bits: test, set, clear ===== -/
theorem ts_nf {x : Bool} (h : ¬ x = false) : x = true := by cases x <;> first | rfl | exact absurd rfl h
theorem ts_nt {x : Bool} (h : ¬ x = true) : x = false := by cases x <;> first | rfl | exact absurd rfl h
/-! ===== lN n to 2^64: shifts, and, or, masks, one bit ===== -/
theorem wb_tb (n : Nat) : (lN n).toBitVec = BitVec.ofNat 64 n := rfl
theorem wb_inj {a b : Int64} (h : a.toBitVec = b.toBitVec) : a = b := Int64.toBitVec_inj.mp h
theorem wb_tn {n : Nat} (h : n < 2 ^ 64) : (lN n).toBitVec.toNat = n := by rw [wb_tb, BitVec.toNat_ofNat, Nat.mod_eq_of_lt h]
theorem wb_of (x : Int64) : ∃ n, n < 2 ^ 64 ∧ x = lN n := ⟨x.toBitVec.toNat, x.toBitVec.isLt, wb_inj (by rw [wb_tb]; simp)⟩
theorem wb_of32 (x : Int32) : ∃ n, n < 2 ^ 32 ∧ x = nI n := ⟨x.toBitVec.toNat, x.toBitVec.isLt, Int32.toBitVec_inj.mp (by show _ = BitVec.ofNat 32 _; simp)⟩
theorem wb_c : ∀ k, k < 64 → ((nI k).toInt64 &&& 63) = lN k := by decide +kernel
theorem wb_cu : ∀ k, k < 64 → ((nI k).toInt64.toUInt64 &&& Int64.toUInt64 63) = UInt64.ofNat k := by decide +kernel
theorem wb_sm : ∀ k, k < 64 → (BitVec.ofNat 64 k).smod 64 = BitVec.ofNat 64 k := by decide +kernel
theorem wb_pw {a b : Nat} (h : a ≤ b) : 2 ^ b = 2 ^ a * 2 ^ (b - a) := by rw [← Nat.pow_add]; congr 1; omega
theorem wb_lt2 {a b : Nat} (h : a < b) : 2 ^ a < 2 ^ b := Nat.pow_lt_pow_right (by decide) h
theorem wb_mod (n : Nat) : lN n = lN (n % 2 ^ 64) := wb_inj (by rw [wb_tb, wb_tb]; apply BitVec.eq_of_toNat_eq; rw [BitVec.toNat_ofNat, BitVec.toNat_ofNat, Nat.mod_mod])
theorem wb_shr {n k : Nat} (hn : n < 2 ^ 64) (hk : k < 64) : ((lN n).toUInt64 >>> ((nI k).toInt64.toUInt64 &&& Int64.toUInt64 63)).toInt64 = lN (n / 2 ^ k) := by
  rw [wb_cu k hk]
  apply wb_inj
  apply BitVec.eq_of_toNat_eq
  show ((lN n).toUInt64 >>> UInt64.ofNat k).toNat = (BitVec.ofNat 64 _).toNat
  have h1 : (UInt64.ofNat k).toNat = k := by
    show (BitVec.ofNat 64 k).toNat = k
    rw [BitVec.toNat_ofNat, Nat.mod_eq_of_lt (by omega)]
  have h2 : (lN n).toUInt64.toNat = n := wb_tn hn
  rw [UInt64.toNat_shiftRight, h1, h2, Nat.mod_eq_of_lt hk, Nat.shiftRight_eq_div_pow, BitVec.toNat_ofNat, Nat.mod_eq_of_lt (Nat.lt_of_le_of_lt (Nat.div_le_self _ _) hn)]
theorem wb_shl (n : Nat) {k : Nat} (hk : k < 64) : lN n <<< ((nI k).toInt64 &&& 63) = lN (n * 2 ^ k) := by
  rw [wb_c k hk]
  apply wb_inj
  rw [Int64.toBitVec_shiftLeft, wb_tb, wb_tb, wb_tb, wb_sm k hk]
  apply BitVec.eq_of_toNat_eq
  rw [BitVec.shiftLeft_eq', BitVec.toNat_shiftLeft, BitVec.toNat_ofNat, BitVec.toNat_ofNat, BitVec.toNat_ofNat, Nat.mod_eq_of_lt (show k < 2 ^ 64 by omega), Nat.shiftLeft_eq, Nat.mul_mod, Nat.mod_mod, ← Nat.mul_mod]
theorem wb_and {a b : Nat} (ha : a < 2 ^ 64) (hb : b < 2 ^ 64) : lN a &&& lN b = lN (a &&& b) := by
  apply wb_inj
  rw [Int64.toBitVec_and, wb_tb, wb_tb, wb_tb]
  apply BitVec.eq_of_toNat_eq
  rw [BitVec.toNat_and, BitVec.toNat_ofNat, BitVec.toNat_ofNat, BitVec.toNat_ofNat, Nat.mod_eq_of_lt ha, Nat.mod_eq_of_lt hb, Nat.mod_eq_of_lt (Nat.and_lt_two_pow _ hb)]
theorem wb_or {a b : Nat} (ha : a < 2 ^ 64) (hb : b < 2 ^ 64) : lN a ||| lN b = lN (a ||| b) := by
  apply wb_inj
  rw [Int64.toBitVec_or, wb_tb, wb_tb, wb_tb]
  apply BitVec.eq_of_toNat_eq
  rw [BitVec.toNat_or, BitVec.toNat_ofNat, BitVec.toNat_ofNat, BitVec.toNat_ofNat, Nat.mod_eq_of_lt ha, Nat.mod_eq_of_lt hb, Nat.mod_eq_of_lt (Nat.or_lt_two_pow ha hb)]
theorem wb_mask {n k : Nat} (hn : n < 2 ^ 64) (hk : k < 64) : lN n &&& lN (2 ^ k - 1) = lN (n % 2 ^ k) := by
  rw [wb_and hn (by have := wb_lt2 hk; omega), Nat.and_two_pow_sub_one_eq_mod]
theorem wb_a1 {n : Nat} (hn : n < 2 ^ 64) : lN n &&& 1 = lN (n % 2) := wb_mask (k := 1) hn (by decide)
theorem wb_bit {n k : Nat} (hn : n < 2 ^ 64) (hk : k < 64) : ((lN n).toUInt64 >>> ((nI k).toInt64.toUInt64 &&& Int64.toUInt64 63)).toInt64 &&& 1 = lN (n / 2 ^ k % 2) := by
  rw [wb_shr hn hk, wb_a1 (Nat.lt_of_le_of_lt (Nat.div_le_self _ _) hn)]
theorem wb_xor {q k : Nat} (hk : k < 63) (h : 2 ^ k ≤ q) (h2 : q < 2 ^ (k + 1)) : lN q ^^^ lN (2 ^ k) = lN (q - 2 ^ k) := by
  obtain ⟨r, rfl⟩ : ∃ r, q = 2 ^ k + r := ⟨q - 2 ^ k, by omega⟩
  have hr : r < 2 ^ k := by rw [Nat.pow_succ] at h2; omega
  have hx : (2 ^ k + r) ^^^ 2 ^ k = r := by
    apply Nat.eq_of_testBit_eq
    intro i
    rw [Nat.testBit_xor, Nat.testBit_two_pow]
    rcases Nat.lt_trichotomy i k with h | h | h
    · rw [Nat.testBit_two_pow_add_gt h]
      simp [show ¬ k = i by omega]
    · subst h
      rw [Nat.testBit_two_pow_add_eq]
      simp
    · have a1 : 2 ^ (k + 1) ≤ 2 ^ i := Nat.pow_le_pow_right (by decide) h
      rw [Nat.testBit_lt_two_pow (show 2 ^ k + r < 2 ^ i by omega), Nat.testBit_lt_two_pow (show r < 2 ^ i by omega)]
      simp [show ¬ k = i by omega]
  have b1 := wb_lt2 (show k + 1 < 64 by omega)
  have b2 := wb_lt2 (show k < 64 by omega)
  apply wb_inj
  rw [Int64.toBitVec_xor, wb_tb, wb_tb, wb_tb]
  apply BitVec.eq_of_toNat_eq
  rw [BitVec.toNat_xor, BitVec.toNat_ofNat, BitVec.toNat_ofNat, BitVec.toNat_ofNat, Nat.mod_eq_of_lt (by omega : 2 ^ k + r < 2 ^ 64), Nat.mod_eq_of_lt b2, hx, Nat.add_sub_cancel_left, Nat.mod_eq_of_lt (by omega)]
/-! ===== lN to 2^62 under >> and >>> ===== -/
theorem pf_lI {a : Nat} (h : a < 2 ^ 63) : (lN a).toInt = (a : Int) := lg_ofNat_toInt h
theorem pf_shr {a d : Nat} {D : Int64} (hD : (D.toBitVec.smod 64).toNat = d) (h : a < 2 ^ 62) : lN a >>> D = lN (a / 2 ^ d) := by
  have hd : a / 2 ^ d ≤ a := Nat.div_le_self _ _
  apply Int64.toInt_inj.mp
  have e : (lN a >>> D).toInt = (lN a).toInt >>> d := by
    rw [← hD]
    exact BitVec.toInt_sshiftRight ..
  rw [e, Int.shiftRight_eq_div_pow, pf_lI (by omega), pf_lI (by omega)]
  rfl
theorem pf_ushr {a d : Nat} {D : UInt64} (hD : D.toNat % 64 = d) (h : a < 2 ^ 62) : ((lN a).toUInt64 >>> D).toInt64 = lN (a / 2 ^ d) := by
  have hd : a / 2 ^ d ≤ a := Nat.div_le_self _ _
  have e : (lN a).toUInt64 >>> D = UInt64.ofNat (a / 2 ^ d) := UInt64.toNat_inj.mp (by
    rw [UInt64.toNat_shiftRight, hD, Nat.shiftRight_eq_div_pow, UInt64.toNat_ofNat']
    show (UInt64.ofNat a).toNat / 2 ^ d = _
    rw [UInt64.toNat_ofNat', Nat.mod_eq_of_lt (by omega), Nat.mod_eq_of_lt (by omega)])
  rw [e]
  rfl
theorem pf_andw (x : Int64) : ∃ m, m < 2 ^ 32 ∧ x &&& 4294967295 = lN m := ⟨x.toBitVec.toNat % 2 ^ 32, Nat.mod_lt _ (by decide), Int64.toBitVec_inj.mp (BitVec.eq_of_toNat_eq (by
  show (x.toBitVec &&& 4294967295#64).toNat = (BitVec.ofNat 64 (x.toBitVec.toNat % 2 ^ 32)).toNat
  rw [BitVec.toNat_and, show (4294967295#64).toNat = 2 ^ 32 - 1 from by decide, Nat.and_two_pow_sub_one_eq_mod, BitVec.toNat_ofNat]
  omega))⟩
end
section
/-! own basics: casts, bits of ints and longs, small sets -/
theorem bs_b8 : ∀ n, n < 128 → (nI n).toInt8.toInt32 = nI n := by decide +kernel
theorem bs_b16 : ∀ n, n < 1100 → (nI n).toInt16.toInt32 = nI n := by decide +kernel
theorem bs_v8 {n : Nat} (h : n < 128) : vp_nar .byte (nI n) = nI n := by rw [vp_nar_byte, bs_b8 n h]
theorem bs_w8 {n : Nat} (h : n < 128) : vp_nar .byte (nI n).toInt8.toInt32 = nI n := by rw [bs_b8 n h, bs_v8 h]
theorem bs_v16 {n : Nat} (h : n < 1100) : vp_nar .short (nI n).toInt16.toInt32 = nI n := by rw [vp_nar_short, bs_b16 n h, bs_b16 n h]
theorem bs_m8 : vp_nar .byte (-1) = -1 := by rw [vp_nar_byte]; decide
theorem bs_m16 : vp_nar .short ((-1 : Int32).toInt16.toInt32) = -1 := by rw [vp_nar_short]; decide
theorem bs_v0 : vp_nar .boolean 0 = 0 := by decide
theorem bs_v1 : vp_nar .boolean 1 = 1 := by decide
theorem bs_n0 : narrow .boolean (.int 0) = .int 0 := rfl
theorem bs_n1 : narrow .boolean (.int 1) = .int 1 := rfl
theorem bs_10 : ¬ (1 : Int32) = 0 := by decide
theorem bs_01 : ¬ (0 : Int32) = 1 := by decide
def bi (b : Bool) : Int32 := if b then 1 else 0
theorem bi_t : bi true = 1 := rfl
theorem bi_f : bi false = 0 := rfl
theorem bi_v (b : Bool) : vp_nar .boolean (bi b) = bi b := by cases b; exact bs_v0; exact bs_v1
theorem bi_n (b : Bool) : narrow .boolean (.int (bi b)) = .int (bi b) := by cases b <;> rfl
theorem bi_0 (b : Bool) : bi b = 0 ↔ b = false := by cases b <;> decide
theorem bi_1 (b : Bool) : bi b = 1 ↔ b = true := by cases b <;> decide
theorem bi_inj {b c : Bool} : bi b = bi c ↔ b = c := by cases b <;> cases c <;> decide
theorem bi_z {A B : Prop} {b : Bool} (f : b = false → A) (g : b = true → B) : (bi b = 0 → A) ∧ (¬ bi b = 0 → B) := by
  cases b
  · exact br_t rfl (f rfl)
  · exact br_f bs_10 (g rfl)
theorem bi_e {A B : Prop} {b c : Bool} (f : b = c → A) (g : b ≠ c → B) : (bi b = bi c → A) ∧ (¬ bi b = bi c → B) :=
  ⟨fun h => f (bi_inj.mp h), fun h => g (fun e => h (bi_inj.mpr e))⟩
/-! bits -/
theorem b_1 (i : Nat) : bt 1 i = decide (i = 0) := by
  rcases Nat.lt_or_ge i 32 with h | h
  · exact (by decide +kernel : ∀ i, i < 32 → bt 1 i = decide (i = 0)) i h
  · rw [b_big h, decide_eq_false (by omega)]
theorem cb_a1 (x : Int32) : x &&& 1 = bi (bt x 0) := by
  apply b_ext
  intro i hi
  rw [b_and, b_1]
  by_cases h : i = 0
  · subst h
    cases hx : bt x 0
    · rw [bi_f, b_0]; rfl
    · rw [bi_t, b_1]; rfl
  · rw [decide_eq_false h, Bool.and_false]
    cases hx : bt x 0
    · rw [bi_f, b_0]
    · rw [bi_t, b_1, decide_eq_false h]
theorem cb_s {n : Nat} (hn : n < 32) (x : Int32) : (x >>> (nI n &&& 31)) &&& 1 = bi (bt x n) := by
  rw [cb_a1, b_sshr n hn x (by decide : 0 < 32), if_pos (by omega), Nat.add_zero]
theorem cb_u {n : Nat} (hn : n < 32) (x : Int32) : ((x.toUInt32 >>> ((nI n).toUInt32 &&& Int32.toUInt32 31)).toInt32) &&& 1 = bi (bt x n) := by
  rw [cb_a1, b_ushr n hn x, Nat.add_zero]
theorem cb_z {A B : Prop} {n : Nat} {x : Int32} (hn : n < 32) (f : bt x n = false → A) (g : bt x n = true → B) : ((x >>> (nI n &&& 31)) &&& 1 = 0 → A) ∧ (¬ (x >>> (nI n &&& 31)) &&& 1 = 0 → B) := by
  rw [cb_s hn]; exact bi_z f g
theorem cb_o {A B : Prop} {n : Nat} {x : Int32} (hn : n < 32) (f : bt x n = true → A) (g : bt x n = false → B) : ((x >>> (nI n &&& 31)) &&& 1 = 1 → A) ∧ (¬ (x >>> (nI n &&& 31)) &&& 1 = 1 → B) := by
  rw [cb_s hn]
  exact ⟨fun h => f ((bi_1 _).mp h), fun h => g (by cases e : bt x n; rfl; exact absurd ((bi_1 _).mpr e) h)⟩
theorem cb_uz {A B : Prop} {n : Nat} {x : Int32} (hn : n < 32) (f : bt x n = false → A) (g : bt x n = true → B) : (((x.toUInt32 >>> ((nI n).toUInt32 &&& Int32.toUInt32 31)).toInt32) &&& 1 = 0 → A) ∧ (¬ ((x.toUInt32 >>> ((nI n).toUInt32 &&& Int32.toUInt32 31)).toInt32) &&& 1 = 0 → B) := by
  rw [cb_u hn]; exact bi_z f g
theorem cb_one {n : Nat} (hn : n < 32) {i : Nat} (hi : i < 32) : bt ((1 : Int32) <<< (nI n &&& 31)) i = decide (i = n) := by
  rw [b_shl n hn _ hi, b_1]
  by_cases h : i = n
  · subst h; simp
  · rw [decide_eq_false h]
    by_cases h2 : n ≤ i
    · rw [decide_eq_true h2, decide_eq_false (by omega)]; rfl
    · rw [decide_eq_false h2]; rfl
theorem cb_or0 (x : Int32) : x ||| 0 = x := by
  apply b_ext; intro i _; rw [b_or, b_0, Bool.or_false]
theorem cb_not (x : Int32) {i : Nat} (hi : i < 32) : bt (x ^^^ (-1)) i = !bt x i := by
  rw [b_xor, b_m1 i hi]; cases bt x i <;> rfl
theorem cb_nz {x : Int32} : ¬ x = 0 ↔ ∃ i, i < 32 ∧ bt x i = true := by
  constructor
  · intro h
    apply Classical.byContradiction
    intro hn
    apply h
    apply b_ext
    intro i hi
    rw [b_0]
    cases e : bt x i
    · rfl
    · exact absurd ⟨i, hi, e⟩ hn
  · rintro ⟨i, _, h⟩ e
    rw [e, b_0] at h
    exact absurd h (by decide)
theorem cb_hit {x y : Int32} : ¬ x &&& y = 0 ↔ ∃ i, i < 32 ∧ bt x i = true ∧ bt y i = true := by
  rw [cb_nz]
  constructor
  · rintro ⟨i, hi, h⟩
    rw [b_and, Bool.and_eq_true] at h
    exact ⟨i, hi, h⟩
  · rintro ⟨i, hi, h⟩
    refine ⟨i, hi, ?_⟩
    rw [b_and, Bool.and_eq_true]
    exact h
theorem cb_nI {n i : Nat} (hi : i < 32) : bt (nI n) i = n.testBit i := by
  show (BitVec.ofNat 32 n).getLsbD i = _
  rw [BitVec.getLsbD_ofNat, decide_eq_true hi, Bool.true_and]
/-! a small set: of the states 0 to 4 -/
def sm (x : Int32) : Prop := ∀ i, 5 ≤ i → bt x i = false
theorem sm_0 : sm 0 := fun i _ => b_0 i
theorem sm_or {x y : Int32} (hx : sm x) (hy : sm y) : sm (x ||| y) := fun i hi => by rw [b_or, hx i hi, hy i hi]; rfl
theorem sm_and {x y : Int32} (hx : sm x) : sm (x &&& y) := fun i hi => by rw [b_and, hx i hi]; rfl
theorem sm_one {n : Nat} (hn : n < 5) : sm ((1 : Int32) <<< (nI n &&& 31)) := fun i hi => by
  rcases Nat.lt_or_ge i 32 with h | h
  · rw [cb_one (by omega) h, decide_eq_false (by omega)]
  · exact b_big h
theorem sm_nI {n : Nat} (hn : n < 32) : sm (nI n) := fun i hi => by
  rcases Nat.lt_or_ge i 32 with h | h
  · rw [cb_nI h]
    have : 2 ^ 5 ≤ 2 ^ i := Nat.pow_le_pow_right (by decide) hi
    exact Nat.testBit_lt_two_pow (by omega)
  · exact b_big h
theorem sm_nat {x : Int32} (h : sm x) : ∃ n, n < 32 ∧ x = nI n := by
  obtain ⟨n, hn, rfl⟩ := wb_of32 x
  refine ⟨n, ?_, rfl⟩
  apply Nat.lt_pow_two_of_testBit (n := 5) n
  intro i hi
  rcases Nat.lt_or_ge i 32 with h2 | h2
  · rw [← cb_nI h2]; exact h i hi
  · have : 2 ^ 32 ≤ 2 ^ i := Nat.pow_le_pow_right (by decide) h2
    exact Nat.testBit_lt_two_pow (by omega)
theorem sm_v8 {x : Int32} (h : sm x) : vp_nar .byte x = x := by
  obtain ⟨n, hn, rfl⟩ := sm_nat h; exact bs_v8 (by omega)
theorem sm_w8 {x : Int32} (h : sm x) : vp_nar .byte x.toInt8.toInt32 = x := by
  obtain ⟨n, hn, rfl⟩ := sm_nat h; exact bs_w8 (by omega)
theorem sm_bit {x : Int32} (h : sm x) {i : Nat} (hb : bt x i = true) : i < 5 := by
  rcases Nat.lt_or_ge i 5 with h2 | h2
  · exact h2
  · rw [h i h2] at hb; exact absurd hb (by decide)
theorem sm_ext {x y : Int32} (hx : sm x) (hy : sm y) (h : ∀ i, i < 5 → bt x i = bt y i) : x = y := by
  apply b_ext
  intro i _
  rcases Nat.lt_or_ge i 5 with h2 | h2
  · exact h i h2
  · rw [hx i h2, hy i h2]
/-! bits of longs -/
def lb (x : Int64) (i : Nat) : Bool := x.toBitVec.getLsbD i
theorem lb_ext {x y : Int64} (h : ∀ i, i < 64 → lb x i = lb y i) : x = y := Int64.toBitVec_inj.mp (BitVec.eq_of_getLsbD_eq (fun i hi => h i hi))
theorem lb_or (x y : Int64) (i : Nat) : lb (x ||| y) i = (lb x i || lb y i) := by unfold lb; rw [Int64.toBitVec_or, BitVec.getLsbD_or]
theorem lb_and (x y : Int64) (i : Nat) : lb (x &&& y) i = (lb x i && lb y i) := by unfold lb; rw [Int64.toBitVec_and, BitVec.getLsbD_and]
theorem lb_0 (i : Nat) : lb 0 i = false := BitVec.getLsbD_zero
theorem lb_big {x : Int64} {i : Nat} (h : 64 ≤ i) : lb x i = false := BitVec.getLsbD_of_ge _ _ h
theorem lb_1 (i : Nat) : lb 1 i = decide (i = 0) := by
  rcases Nat.lt_or_ge i 64 with h | h
  · exact (by decide +kernel : ∀ i, i < 64 → lb 1 i = decide (i = 0)) i h
  · rw [lb_big h, decide_eq_false (by omega)]
theorem lb_sl : ∀ n, n < 64 → (((nI n).toInt64 &&& 63).toBitVec.smod 64).toNat = n := by decide +kernel
theorem lb_one {n : Nat} (hn : n < 64) {i : Nat} (hi : i < 64) : lb ((1 : Int64) <<< ((nI n).toInt64 &&& 63)) i = decide (i = n) := by
  have e : lb ((1 : Int64) <<< ((nI n).toInt64 &&& 63)) i = (decide (n ≤ i) && lb 1 (i - n)) := by
    unfold lb
    rw [Int64.toBitVec_shiftLeft]
    show ((1 : Int64).toBitVec <<< (((nI n).toInt64 &&& 63).toBitVec.smod 64).toNat).getLsbD i = _
    rw [lb_sl n hn, BitVec.getLsbD_shiftLeft]
    rcases Nat.lt_or_ge i n with h | h
    · simp [h, Nat.not_le.mpr h]
    · simp [hi, h, Nat.not_lt.mpr h]
  rw [e, lb_1]
  by_cases h : i = n
  · subst h; simp
  · rw [decide_eq_false h]
    by_cases h2 : n ≤ i
    · rw [decide_eq_true h2, decide_eq_false (by omega)]; rfl
    · rw [decide_eq_false h2]; rfl
theorem lb_shr {n : Nat} (hn : n < 64) (x : Int64) {i : Nat} (hi : i < 64) : lb (x >>> ((nI n).toInt64 &&& 63)) i = if n + i < 64 then lb x (n + i) else lb x 63 := by
  unfold lb
  rw [Int64.toBitVec_shiftRight]
  show (x.toBitVec.sshiftRight (((nI n).toInt64 &&& 63).toBitVec.smod 64).toNat).getLsbD i = _
  rw [lb_sl n hn, BitVec.getLsbD_sshiftRight, BitVec.msb_eq_getLsbD_last]
  simp [hi]
def bl (b : Bool) : Int64 := if b then 1 else 0
theorem lb_a1 (x : Int64) : x &&& 1 = bl (lb x 0) := by
  apply lb_ext
  intro i hi
  rw [lb_and, lb_1]
  by_cases h : i = 0
  · subst h
    cases hx : lb x 0
    · show _ = lb 0 0
      rw [lb_0]; rfl
    · show _ = lb 1 0
      rw [lb_1]; rfl
  · rw [decide_eq_false h, Bool.and_false]
    cases hx : lb x 0
    · show _ = lb 0 i
      rw [lb_0]
    · show _ = lb 1 i
      rw [lb_1, decide_eq_false h]
theorem lb_s {n : Nat} (hn : n < 64) (x : Int64) : (x >>> ((nI n).toInt64 &&& 63)) &&& 1 = bl (lb x n) := by
  rw [lb_a1, lb_shr hn x (by decide : 0 < 64), if_pos (by omega), Nat.add_zero]
theorem lb_o {A B : Prop} {n : Nat} {x : Int64} (hn : n < 64) (f : lb x n = true → A) (g : lb x n = false → B) : ((x >>> ((nI n).toInt64 &&& 63)) &&& 1 = 1 → A) ∧ (¬ (x >>> ((nI n).toInt64 &&& 63)) &&& 1 = 1 → B) := by
  rw [lb_s hn]
  cases e : lb x n
  · exact br_f (by decide) (g e)
  · exact br_t (by decide) (f e)
theorem lb_z {A B : Prop} {n : Nat} {x : Int64} (hn : n < 64) (f : lb x n = false → A) (g : lb x n = true → B) : ((x >>> ((nI n).toInt64 &&& 63)) &&& 1 = 0 → A) ∧ (¬ (x >>> ((nI n).toInt64 &&& 63)) &&& 1 = 0 → B) := by
  rw [lb_s hn]
  cases e : lb x n
  · exact br_t (by decide) (f e)
  · exact br_f (by decide) (g e)
/-! counted branches with the literal on the other side -/
theorem ct_2 {P : Nat → Prop} (h0 : P 0) (h1 : P 1) {i : Nat} (hi : i < 2) : P i := by
  rcases Nat.lt_or_ge i 1 with h | h
  · rw [show i = 0 by omega]; exact h0
  · rw [show i = 1 by omega]; exact h1
end
section
/-! words, runs, languages; counting -/
def rn {σ : Type} (δ : Bool → σ → σ) : σ → List Bool → σ
  | s, [] => s
  | s, b :: w => rn δ (δ b s) w
theorem rn_app {σ : Type} {δ : Bool → σ → σ} : ∀ (u v : List Bool) (s : σ), rn δ s (u ++ v) = rn δ (rn δ s u) v := by
  intro u
  induction u with
  | nil => intro v s; rfl
  | cons b u ih => intro v s; exact ih v (δ b s)
theorem rn_sn {σ : Type} {δ : Bool → σ → σ} (u : List Bool) (b : Bool) (s : σ) : rn δ s (u ++ [b]) = δ b (rn δ s u) := by
  rw [rn_app]; rfl
/-- a relation that runs keep -/
theorem rn_rel {σ τ : Type} {δ : Bool → σ → σ} {ε : Bool → τ → τ} (R : σ → τ → Prop) (h : ∀ b s t, R s t → R (δ b s) (ε b t)) : ∀ (w : List Bool) (s : σ) (t : τ), R s t → R (rn δ s w) (rn ε t w) := by
  intro w
  induction w with
  | nil => intro s t r; exact r
  | cons b w ih => intro s t r; exact ih _ _ (h b s t r)
theorem rn_inv {σ : Type} {δ : Bool → σ → σ} (P : σ → Prop) (h : ∀ b s, P s → P (δ b s)) : ∀ (w : List Bool) (s : σ), P s → P (rn δ s w) := by
  intro w
  induction w with
  | nil => intro s r; exact r
  | cons b w ih => intro s r; exact ih _ (h b s r)
/-! pigeons -/
theorem ph_le : ∀ (D C : Nat) (f : Nat → Nat), (∀ c, c < C → f c < D) → (∀ c, c < C → ∀ d, d < C → f c = f d → c = d) → C ≤ D := by
  intro D
  induction D with
  | zero =>
    intro C f h _
    rcases Nat.eq_zero_or_pos C with e | e
    · omega
    · exact absurd (h 0 e) (by omega)
  | succ D ih =>
    intro C f h inj
    by_cases hx : ∃ c, c < C ∧ f c = D
    · obtain ⟨c0, hc0, e0⟩ := hx
      have := ih (C - 1) (fun c => if c = c0 then f (C - 1) else f c) (by
        intro c hc
        show (if c = c0 then f (C - 1) else f c) < D
        split
        · rename_i e
          have h1 := h (C - 1) (by omega)
          have h2 : f (C - 1) ≠ D := fun z => by
            have := inj (C - 1) (by omega) c0 hc0 (z.trans e0.symm)
            omega
          omega
        · rename_i e
          have h1 := h c (by omega)
          have h2 : f c ≠ D := fun z => e (inj c (by omega) c0 hc0 (z.trans e0.symm))
          omega) (by
        intro c hc d hd
        show (if c = c0 then f (C - 1) else f c) = (if d = c0 then f (C - 1) else f d) → c = d
        split <;> split
        · intro _; omega
        · intro z
          have := inj (C - 1) (by omega) d (by omega) z
          omega
        · intro z
          have := inj c (by omega) (C - 1) (by omega) z
          omega
        · intro z; exact inj c (by omega) d (by omega) z)
      omega
    · have := ih C f (fun c hc => by
        have h1 := h c hc
        have h2 : f c ≠ D := fun z => hx ⟨c, hc, z⟩
        omega) inj
      omega
theorem ph_rel {C D : Nat} (R : Nat → Nat → Prop) (h : ∀ c, c < C → ∃ d, d < D ∧ R c d) (inj : ∀ c, c < C → ∀ c', c' < C → ∀ d, R c d → R c' d → c = c') : C ≤ D := by
  have hx : ∀ c, ∃ d, c < C → d < D ∧ R c d := by
    intro c
    by_cases hc : c < C
    · obtain ⟨d, hd⟩ := h c hc; exact ⟨d, fun _ => hd⟩
    · exact ⟨0, fun z => absurd z hc⟩
  refine ph_le D C (fun c => (hx c).choose) (fun c hc => ((hx c).choose_spec hc).1) ?_
  intro c hc d hd e
  have h1 := ((hx c).choose_spec hc).2
  have h2 := ((hx d).choose_spec hd).2
  have e' : (hx c).choose = (hx d).choose := e
  rw [e'] at h1
  exact inj c hc d hd _ h1 h2
/-- two of more than D pigeons share a hole -/
theorem ph_two {C D : Nat} (f : Nat → Nat) (h : ∀ c, c < C → f c < D) (hl : D < C) : ∃ c d, c < d ∧ d < C ∧ f c = f d := by
  apply Classical.byContradiction
  intro hn
  have := ph_le D C f h (by
    intro c hc d hd e
    rcases Nat.lt_trichotomy c d with z | z | z
    · exact absurd ⟨c, d, z, hd, e⟩ hn
    · exact z
    · exact absurd ⟨d, c, z, hc, e.symm⟩ hn)
  omega
/-! counts -/
def cn (p : Nat → Bool) : Nat → Nat
  | 0 => 0
  | n + 1 => cn p n + (p n).toNat
theorem cn_s (p : Nat → Bool) (n : Nat) : cn p (n + 1) = cn p n + (p n).toNat := rfl
theorem tn_le (b : Bool) : b.toNat ≤ 1 := by cases b <;> decide
theorem cn_le (p : Nat → Bool) : ∀ n, cn p n ≤ n := by
  intro n
  induction n with
  | zero => exact Nat.le_refl 0
  | succ n ih => rw [cn_s]; have := tn_le (p n); omega
theorem cn_mono {p q : Nat → Bool} : ∀ n, (∀ i, i < n → p i = true → q i = true) → cn p n ≤ cn q n := by
  intro n
  induction n with
  | zero => intro _; exact Nat.le_refl 0
  | succ n ih =>
    intro h
    have h1 := ih (fun i hi => h i (by omega))
    have h2 : (p n).toNat ≤ (q n).toNat := by
      have := h n (by omega)
      cases hp : p n
      · exact Nat.zero_le _
      · rw [this hp]; exact Nat.le_refl _
    rw [cn_s, cn_s]; omega
theorem cn_lt {p q : Nat → Bool} : ∀ n, (∀ i, i < n → p i = true → q i = true) → (∃ i, i < n ∧ p i = false ∧ q i = true) → cn p n < cn q n := by
  intro n
  induction n with
  | zero => rintro _ ⟨i, hi, _⟩; omega
  | succ n ih =>
    rintro h ⟨i, hi, hp, hq⟩
    rw [cn_s, cn_s]
    rcases Nat.lt_or_ge i n with z | z
    · have h1 := ih (fun i hi => h i (by omega)) ⟨i, z, hp, hq⟩
      have h2 : (p n).toNat ≤ (q n).toNat := by
        have := h n (by omega)
        cases hp : p n
        · exact Nat.zero_le _
        · rw [this hp]; exact Nat.le_refl _
      omega
    · have e : i = n := by omega
      subst e
      have h1 := cn_mono i (fun j hj => h j (by omega))
      rw [hp, hq]
      show cn p i + 0 < cn q i + 1
      omega
theorem cn_congr {p q : Nat → Bool} (n : Nat) (h : ∀ i, i < n → p i = q i) : cn p n = cn q n :=
  Nat.le_antisymm (cn_mono n (fun i hi z => (h i hi) ▸ z)) (cn_mono n (fun i hi z => (h i hi).symm ▸ z))
theorem cn_add (p : Nat → Bool) (a : Nat) : ∀ b, cn p (a + b) = cn p a + cn (fun i => p (a + i)) b := by
  intro b
  induction b with
  | zero => rfl
  | succ b ih => rw [show a + (b + 1) = (a + b) + 1 from rfl, cn_s, cn_s, ih]; omega
theorem cn_up (p : Nat → Bool) {a b : Nat} (h : a ≤ b) : cn p a ≤ cn p b := by
  obtain ⟨c, rfl⟩ : ∃ c, b = a + c := ⟨b - a, by omega⟩
  rw [cn_add]; omega
theorem cn_0 {p : Nat → Bool} (n : Nat) (h : ∀ i, i < n → p i = false) : cn p n = 0 := by
  induction n with
  | zero => rfl
  | succ n ih => rw [cn_s, ih (fun i hi => h i (by omega)), h n (by omega)]; rfl
/-- one more is counted at a place within -/
theorem cn_set {p q : Nat → Bool} {k : Nat} : ∀ n, k < n → p k = false → q k = true → (∀ i, i ≠ k → q i = p i) → cn q n = cn p n + 1 := by
  intro n
  induction n with
  | zero => intro h; omega
  | succ n ih =>
    intro hk hp hq h
    rw [cn_s, cn_s]
    rcases Nat.lt_or_ge k n with z | z
    · rw [ih z hp hq h, h n (by omega)]; omega
    · have e : k = n := by omega
      subst e
      rw [cn_congr k (fun i hi => h i (by omega)), hp, hq]
      rfl
/-! the number of residual languages -/
def KC (L : List Bool → Prop) (C : Nat) : Prop := ∃ f : Nat → List Bool, (∀ c, c < C → ∀ d, d < C → (∀ v, L (f c ++ v) ↔ L (f d ++ v)) → c = d) ∧ ∀ w, ∃ c, c < C ∧ ∀ v, L (w ++ v) ↔ L (f c ++ v)
theorem KC_le {L : List Bool → Prop} {C D : Nat} (h : KC L C) (h' : KC L D) : C ≤ D := by
  obtain ⟨f, f1, f2⟩ := h
  obtain ⟨g, g1, g2⟩ := h'
  refine ph_rel (fun c d => ∀ v, L (f c ++ v) ↔ L (g d ++ v)) (fun c _ => g2 (f c)) ?_
  intro c hc c' hc' d h1 h2
  exact f1 c hc c' hc' (fun v => (h1 v).trans (h2 v).symm)
theorem KC_eq {L : List Bool → Prop} {C D : Nat} (h : KC L C) (h' : KC L D) : C = D := Nat.le_antisymm (KC_le h h') (KC_le h' h)
/-! a plain machine of N states for a language; all its states can be come to -/
def PD (L : List Bool → Prop) (N : Nat) (nx : Bool → Nat → Nat) (en : Nat → Bool) : Prop :=
  0 < N ∧ (∀ i, i < N → ∀ b, nx b i < N) ∧ (∀ w, L w ↔ en (rn nx 0 w) = true) ∧ (∀ i, i < N → ∃ w, rn nx 0 w = i)
def EqS (nx : Bool → Nat → Nat) (en : Nat → Bool) (i j : Nat) : Prop := ∀ v, en (rn nx i v) = en (rn nx j v)
theorem EqS_rf {nx : Bool → Nat → Nat} {en : Nat → Bool} (i : Nat) : EqS nx en i i := fun _ => rfl
theorem EqS_sy {nx : Bool → Nat → Nat} {en : Nat → Bool} {i j : Nat} (h : EqS nx en i j) : EqS nx en j i := fun v => (h v).symm
theorem EqS_tr {nx : Bool → Nat → Nat} {en : Nat → Bool} {i j k : Nat} (h : EqS nx en i j) (h' : EqS nx en j k) : EqS nx en i k := fun v => (h v).trans (h' v)
theorem EqS_st {nx : Bool → Nat → Nat} {en : Nat → Bool} {i j : Nat} (h : EqS nx en i j) (b : Bool) : EqS nx en (nx b i) (nx b j) := fun v => h (b :: v)
theorem PD_lt {L : List Bool → Prop} {N : Nat} {nx : Bool → Nat → Nat} {en : Nat → Bool} (h : PD L N nx en) (w : List Bool) {i : Nat} (hi : i < N) : rn nx i w < N :=
  rn_inv (fun i => i < N) (fun b s hs => h.2.1 s hs b) w i hi
theorem PD_res {L : List Bool → Prop} {N : Nat} {nx : Bool → Nat → Nat} {en : Nat → Bool} (h : PD L N nx en) (u v : List Bool) : L (u ++ v) ↔ en (rn nx (rn nx 0 u) v) = true := by
  rw [h.2.2.1, rn_app]
theorem PD_eqv {L : List Bool → Prop} {N : Nat} {nx : Bool → Nat → Nat} {en : Nat → Bool} (h : PD L N nx en) (u w : List Bool) : (∀ v, L (u ++ v) ↔ L (w ++ v)) ↔ EqS nx en (rn nx 0 u) (rn nx 0 w) := by
  constructor
  · intro e v
    have := e v
    rw [PD_res h, PD_res h] at this
    exact Bool.eq_iff_iff.mpr this
  · intro e v
    rw [PD_res h, PD_res h, e v]
/-- labels of the states that are alike just when the states are: their number is that of the residual languages -/
theorem KC_lab {L : List Bool → Prop} {N : Nat} {nx : Bool → Nat → Nat} {en : Nat → Bool} (h : PD L N nx en) {C : Nat} (lab : Nat → Nat) (h1 : ∀ i, i < N → lab i < C) (h2 : ∀ c, c < C → ∃ i, i < N ∧ lab i = c) (h3 : ∀ i, i < N → ∀ j, j < N → (lab i = lab j ↔ EqS nx en i j)) : KC L C := by
  have hx : ∀ c, ∃ w, c < C → lab (rn nx 0 w) = c := by
    intro c
    by_cases hc : c < C
    · obtain ⟨i, hi, e⟩ := h2 c hc
      obtain ⟨w, ew⟩ := h.2.2.2 i hi
      exact ⟨w, fun _ => by rw [ew, e]⟩
    · exact ⟨[], fun z => absurd z hc⟩
  refine ⟨fun c => (hx c).choose, ?_, ?_⟩
  · intro c hc d hd e
    have e' := (PD_eqv h _ _).mp e
    have := (h3 _ (PD_lt h _ h.1) _ (PD_lt h _ h.1)).mpr e'
    rw [(hx c).choose_spec hc, (hx d).choose_spec hd] at this
    exact this
  · intro w
    have hw := PD_lt h w h.1
    refine ⟨lab (rn nx 0 w), h1 _ hw, ?_⟩
    apply (PD_eqv h _ _).mpr
    apply (h3 _ hw _ (PD_lt h _ h.1)).mp
    exact ((hx _).choose_spec (h1 _ hw)).symm
/-- a partition that letters keep and that parts ends from others parts all that some word parts -/
theorem EqS_of {nx : Bool → Nat → Nat} {en : Nat → Bool} {N : Nat} (R : Nat → Nat → Prop) (hN : ∀ i, i < N → ∀ b, nx b i < N) (h : ∀ i, i < N → ∀ j, j < N → R i j → en i = en j ∧ ∀ b, R (nx b i) (nx b j)) : ∀ (v : List Bool) (i : Nat), i < N → ∀ j, j < N → R i j → en (rn nx i v) = en (rn nx j v) := by
  intro v
  induction v with
  | nil => intro i hi j hj r; exact (h i hi j hj r).1
  | cons b v ih => intro i hi j hj r; exact ih _ (hN i hi b) _ (hN j hj b) ((h i hi j hj r).2 b)
/-! first of their class: from the labels of one numbering -/
theorem ct_ind {P : Nat → Prop} (n : Nat) (h0 : P 0) (hs : ∀ i, i < n → P i → P (i + 1)) : ∀ i, i ≤ n → P i := by
  intro i
  induction i with
  | zero => intro _; exact h0
  | succ i ih => intro hi; exact hs i (by omega) (ih (by omega))
end
section
/-! the relation; machines, words, steps -/
def Ok (a b f : Nat → Int32) : Prop := (∀ i, sm (a i)) ∧ (∀ i, sm (b i)) ∧ (∀ i, sm (f i))
/-- both hold the same arrows, beginnings and ends, sets of five states all; nothing else of either state is looked at before it is written anew -/
def i_Rel (_ : Nat) (u : SX) (v : SY) : Prop := u.2.2.2.2.2.2.1 = v.1 ∧ u.2.2.2.2.2.2.2.1 = v.2.1 ∧ u.2.2.2.2.2.2.2.2.1 = v.2.2.1 ∧ Ok v.1 v.2.1 v.2.2.1
theorem i_up {k : Nat} {u : SX} {v : SY} (h : i_Rel k u v) : i_Rel (k + 5) u v := h
section simple
variable {f_openStates f_openBegin f_openEnd f_plainCount f_classes f_listed : Int32} {a_arrows a_begins a_finals a_openTo a_plainSet a_plainEnd a_plainNext a_classOf a_newClass a_differs a_waits a_members a_sideNext a_sideEnd a_sideCount a_joined a_image a_pairA a_pairB a_pairFrom a_pairLetter a_seen a_words a_more : Nat → Int32}
variable {y_order y_seen y_apart : Nat → Int32} {y_words : Nat → Int64}
theorem rel_i {k : Nat} (h : Ok a_arrows a_begins a_finals) : i_Rel k (f_openStates, f_openBegin, f_openEnd, f_plainCount, f_classes, f_listed, a_arrows, a_begins, a_finals, a_openTo, a_plainSet, a_plainEnd, a_plainNext, a_classOf, a_newClass, a_differs, a_waits, a_members, a_sideNext, a_sideEnd, a_sideCount, a_joined, a_image, a_pairA, a_pairB, a_pairFrom, a_pairLetter, a_seen, a_words, a_more) (a_arrows, a_begins, a_finals, y_order, y_seen, y_words, y_apart) := And.intro rfl (And.intro rfl (And.intro rfl h))
theorem rel_el {k : Nat} {P : SX → SY → Prop} (h : ∀ f_openStates f_openBegin f_openEnd f_plainCount f_classes f_listed a_arrows a_begins a_finals a_openTo a_plainSet a_plainEnd a_plainNext a_classOf a_newClass a_differs a_waits a_members a_sideNext a_sideEnd a_sideCount a_joined a_image a_pairA a_pairB a_pairFrom a_pairLetter a_seen a_words a_more y_order y_seen y_words y_apart, Ok a_arrows a_begins a_finals → P (f_openStates, f_openBegin, f_openEnd, f_plainCount, f_classes, f_listed, a_arrows, a_begins, a_finals, a_openTo, a_plainSet, a_plainEnd, a_plainNext, a_classOf, a_newClass, a_differs, a_waits, a_members, a_sideNext, a_sideEnd, a_sideCount, a_joined, a_image, a_pairA, a_pairB, a_pairFrom, a_pairLetter, a_seen, a_words, a_more) (a_arrows, a_begins, a_finals, y_order, y_seen, y_words, y_apart)) : ∀ {u : SX} {v : SY}, i_Rel k u v → P u v := by
  intro u v I
  match u, v, I with
  | (f_openStates, f_openBegin, f_openEnd, f_plainCount, f_classes, f_listed, b1, b2, b3, a_openTo, a_plainSet, a_plainEnd, a_plainNext, a_classOf, a_newClass, a_differs, a_waits, a_members, a_sideNext, a_sideEnd, a_sideCount, a_joined, a_image, a_pairA, a_pairB, a_pairFrom, a_pairLetter, a_seen, a_words, a_more), (a_arrows, a_begins, a_finals, y_order, y_seen, y_words, y_apart), I =>
    have e1 : b1 = a_arrows := I.1
    have e2 : b2 = a_begins := I.2.1
    have e3 : b3 = a_finals := I.2.2.1
    subst e1 e2 e3
    exact h f_openStates f_openBegin f_openEnd f_plainCount f_classes f_listed b1 b2 b3 a_openTo a_plainSet a_plainEnd a_plainNext a_classOf a_newClass a_differs a_waits a_members a_sideNext a_sideEnd a_sideCount a_joined a_image a_pairA a_pairB a_pairFrom a_pairLetter a_seen a_words a_more y_order y_seen y_words y_apart I.2.2.2
theorem Ok_a {a b f : Nat → Int32} (h : Ok a b f) {i : Nat} {x : Int32} (hx : sm x) : Ok (upd a i x) b f :=
  ⟨fun j => by unfold upd; split; exact hx; exact h.1 j, h.2⟩
theorem Ok_b {a b f : Nat → Int32} (h : Ok a b f) {i : Nat} {x : Int32} (hx : sm x) : Ok a (upd b i x) f :=
  ⟨h.1, fun j => by unfold upd; split; exact hx; exact h.2.1 j, h.2.2⟩
theorem Ok_f {a b f : Nat → Int32} (h : Ok a b f) {i : Nat} {x : Int32} (hx : sm x) : Ok a b (upd f i x) :=
  ⟨h.1, h.2.1, fun j => by unfold upd; split; exact hx; exact h.2.2 j⟩
theorem i_vc0 : wpX_init (fun u => wpY_init (fun v => i_Rel 0 u v)) := by
  unfold wpX_init wpY_init
  exact rel_i ⟨fun _ => sm_0, fun _ => sm_0, fun _ => sm_0⟩
/-! which arguments are good -/
theorem ma_c (v : Int32) : (∃ m, m < 2 ∧ v = nI m) ∨ (¬ v = 0 ∧ ¬ v = 1) := by
  by_cases h0 : v = 0
  · exact Or.inl ⟨0, by omega, h0⟩
  · by_cases h1 : v = 1
    · exact Or.inl ⟨1, by omega, h1⟩
    · exact Or.inr ⟨h0, h1⟩
theorem ma_Xt {post : Int32 → Prop} {m : Nat} (hm : m < 2) (h : post 1) : wpX_isMachine post (nI m) := by
  rcases Nat.lt_or_ge m 1 with z | z
  · rw [show m = 0 by omega]; exact br_t rfl h
  · rw [show m = 1 by omega]; exact br_f (by decide) (br_t rfl h)
theorem ma_Xf {post : Int32 → Prop} {v : Int32} (h0 : ¬ v = 0 ∧ ¬ v = 1) (h : post 0) : wpX_isMachine post v := br_f h0.1 (br_f h0.2 h)
theorem ma_Yt {post : Int32 → Prop} {m : Nat} (hm : m < 2) (h : post 1) : wpY_machine post (a_arrows, a_begins, a_finals, y_order, y_seen, y_words, y_apart) (nI m) := by
  rcases Nat.lt_or_ge m 1 with z | z
  · rw [show m = 0 by omega]; exact br_t rfl h
  · rw [show m = 1 by omega]; exact br_f (by decide) (br_t rfl h)
theorem ma_Yf {post : Int32 → Prop} {v : Int32} (h0 : ¬ v = 0 ∧ ¬ v = 1) (h : post 0) : wpY_machine post (a_arrows, a_begins, a_finals, y_order, y_seen, y_words, y_apart) v := br_f h0.1 (br_f h0.2 h)
theorem wo_c (v : Int32) : v < 1 ∨ (¬ v < 1 ∧ 2047 < v) ∨ ∃ w, 0 < w ∧ w < 2048 ∧ v = nI w := by
  by_cases h : v < 1
  · exact Or.inl h
  · by_cases h2 : 2047 < v
    · exact Or.inr (Or.inl ⟨h, h2⟩)
    · refine Or.inr (Or.inr ?_)
      have c1 : (1 : Int32).toInt = 1 := by decide
      have c2 : (2047 : Int32).toInt = 2047 := by decide
      have c0 : (0 : Int32).toInt = 0 := by decide
      have h' := h
      have h2' := h2
      rw [Int32.lt_iff_toInt_lt, c1] at h'
      rw [Int32.lt_iff_toInt_lt, c2] at h2'
      obtain ⟨w, hw, rfl⟩ := nI_of (x := v) (by rw [Int32.lt_iff_toInt_lt, c0]; omega)
      rw [nI_toInt hw] at h' h2'
      exact ⟨w, by omega, by omega, rfl⟩
theorem wo_n1 {w : Nat} (h0 : 0 < w) (h : w < 2048) : ¬ nI w < 1 := nI_nlt (b := 1) h0 (by omega)
theorem wo_n2 {w : Nat} (h : w < 2048) : ¬ 2047 < nI w := nI_nlt (a := 2047) (by omega) (by omega)
theorem wo_Xt {post : Int32 → Prop} {w : Nat} (h0 : 0 < w) (h : w < 2048) (hp : post 1) : wpX_isWord post (nI w) := br_f (wo_n1 h0 h) (br_f (wo_n2 h) hp)
theorem wo_Yt {post : Int32 → Prop} {w : Nat} (h0 : 0 < w) (h : w < 2048) (hp : post 1) : wpY_isWord post (a_arrows, a_begins, a_finals, y_order, y_seen, y_words, y_apart) (nI w) := br_f (wo_n1 h0 h) (br_f (wo_n2 h) hp)
theorem wo_X1 {post : Int32 → Prop} {v : Int32} (h : v < 1) (hp : post 0) : wpX_isWord post v := br_t h hp
theorem wo_X2 {post : Int32 → Prop} {v : Int32} (h : ¬ v < 1) (h2 : 2047 < v) (hp : post 0) : wpX_isWord post v := br_f h (br_t h2 hp)
theorem wo_Y1 {post : Int32 → Prop} {v : Int32} (h : v < 1) (hp : post 0) : wpY_isWord post (a_arrows, a_begins, a_finals, y_order, y_seen, y_words, y_apart) v := br_t h hp
theorem wo_Y2 {post : Int32 → Prop} {v : Int32} (h : ¬ v < 1) (h2 : 2047 < v) (hp : post 0) : wpY_isWord post (a_arrows, a_begins, a_finals, y_order, y_seen, y_words, y_apart) v := br_f h (br_t h2 hp)
/-! the arrows from a state -/
theorem ix_X (m s l : Nat) : ((nI m * 5) + nI s) * 2 + nI l = nI (10 * m + 2 * s + l) := by
  show ((nI m * nI 5) + nI s) * nI 2 + nI l = _
  rw [pk_mul, nI_add, pk_mul, nI_add]
  exact congrArg nI (by omega)
theorem ix_Y (m s l : Nat) : ((10 * nI m) + (2 * nI s)) + nI l = nI (10 * m + 2 * s + l) := by
  show ((nI 10 * nI m) + (nI 2 * nI s)) + nI l = _
  rw [pk_mul, pk_mul, nI_add, nI_add]
theorem xa_of {post : Int32 → Prop} {m s l : Nat} (hm : m < 2) (hs : s < 5) (hl : l < 2) (h : post (a_arrows (10 * m + 2 * s + l))) : wpX_arrowsOf post (f_openStates, f_openBegin, f_openEnd, f_plainCount, f_classes, f_listed, a_arrows, a_begins, a_finals, a_openTo, a_plainSet, a_plainEnd, a_plainNext, a_classOf, a_newClass, a_differs, a_waits, a_members, a_sideNext, a_sideEnd, a_sideCount, a_joined, a_image, a_pairA, a_pairB, a_pairFrom, a_pairLetter, a_seen, a_words, a_more) (nI m) (nI s) (nI l) := by
  unfold wpX_arrowsOf
  dsimp only
  rw [ix_X, nI_clamp (by omega)]
  exact And.intro (vp_in_nI (by omega) (by omega)) h
def cs (a : Nat → Int32) (m l : Nat) (S : Int32) : Nat → Int32
  | 0 => 0
  | s + 1 => if bt S s = true then cs a m l S s ||| a (10 * m + 2 * s + l) else cs a m l S s
theorem cs_t {a : Nat → Int32} {m l : Nat} {S : Int32} {s : Nat} (h : bt S s = true) : cs a m l S (s + 1) = cs a m l S s ||| a (10 * m + 2 * s + l) := if_pos h
theorem cs_f {a : Nat → Int32} {m l : Nat} {S : Int32} {s : Nat} (h : bt S s = false) : cs a m l S (s + 1) = cs a m l S s := if_neg (by rw [h]; decide)
/-- the states that a letter leads to from a set -/
def stp (a : Nat → Int32) (m l : Nat) (S : Int32) : Int32 := cs a m l S 5
theorem cs_b {a : Nat → Int32} {m l : Nat} {S : Int32} (t : Nat) : ∀ k, (bt (cs a m l S k) t = true ↔ ∃ s, s < k ∧ bt S s = true ∧ bt (a (10 * m + 2 * s + l)) t = true) := by
  intro k
  induction k with
  | zero =>
    constructor
    · intro h; rw [show cs a m l S 0 = 0 from rfl, b_0] at h; exact absurd h (by decide)
    · rintro ⟨s, hs, _⟩; omega
  | succ k ih =>
    cases hb : bt S k
    · rw [cs_f hb, ih]
      constructor
      · rintro ⟨s, hs, h⟩; exact ⟨s, by omega, h⟩
      · rintro ⟨s, hs, h⟩
        refine ⟨s, ?_, h⟩
        rcases Nat.lt_or_ge s k with z | z
        · exact z
        · rw [show s = k by omega, hb] at h
          exact absurd h.1 (by decide)
    · rw [cs_t hb, b_or, Bool.or_eq_true, ih]
      constructor
      · rintro (⟨s, hs, h⟩ | h)
        · exact ⟨s, by omega, h⟩
        · exact ⟨k, by omega, hb, h⟩
      · rintro ⟨s, hs, h⟩
        rcases Nat.lt_or_ge s k with z | z
        · exact Or.inl ⟨s, z, h⟩
        · rw [show s = k by omega] at h
          exact Or.inr h.2
theorem stp_b {a : Nat → Int32} {m l : Nat} {S : Int32} (t : Nat) : bt (stp a m l S) t = true ↔ ∃ s, s < 5 ∧ bt S s = true ∧ bt (a (10 * m + 2 * s + l)) t = true := cs_b t 5
theorem stp_sm {a : Nat → Int32} (h : ∀ i, sm (a i)) (m l : Nat) (S : Int32) : sm (stp a m l S) := by
  intro t ht
  cases e : bt (stp a m l S) t
  · rfl
  · obtain ⟨s, _, _, h2⟩ := (stp_b t).mp e
    rw [h _ t ht] at h2
    exact absurd h2 (by decide)
theorem xs_loop {post : Int32 → Prop} {m l : Nat} {S : Int32} (hm : m < 2) (hl : l < 2) (h : post (stp a_arrows m l S)) : ∀ d s, s + d = 5 → wX_step_6 post (nI m) S (nI l) f_openStates f_openBegin f_openEnd f_plainCount f_classes f_listed a_arrows a_begins a_finals a_openTo a_plainSet a_plainEnd a_plainNext a_classOf a_newClass a_differs a_waits a_members a_sideNext a_sideEnd a_sideCount a_joined a_image a_pairA a_pairB a_pairFrom a_pairLetter a_seen a_words a_more (d + 1) (cs a_arrows m l S s) (nI s) := by
  intro d
  induction d with
  | zero =>
    intro s e
    rw [show s = 5 by omega]
    exact br_t (by decide) h
  | succ d ih =>
    intro s e
    refine br_f (lt5' s (by omega)) (cb_z (by omega) (fun hb => nm_r (cb_or0 _) (nm_r (nI_1 s) ?_)) (fun hb => xa_of hm (by omega) hl (nm_e (nm_r (nI_1 s) ?_))))
    · rw [← cs_f (a := a_arrows) (m := m) (l := l) hb]; exact ih (s + 1) (by omega)
    · rw [← cs_t (a := a_arrows) (m := m) (l := l) hb]; exact ih (s + 1) (by omega)
theorem xs_step {post : Int32 → Prop} {m l : Nat} {S : Int32} (hm : m < 2) (hl : l < 2) (h : post (stp a_arrows m l S)) : wpX_step post (f_openStates, f_openBegin, f_openEnd, f_plainCount, f_classes, f_listed, a_arrows, a_begins, a_finals, a_openTo, a_plainSet, a_plainEnd, a_plainNext, a_classOf, a_newClass, a_differs, a_waits, a_members, a_sideNext, a_sideEnd, a_sideCount, a_joined, a_image, a_pairA, a_pairB, a_pairFrom, a_pairLetter, a_seen, a_words, a_more) (nI m) S (nI l) := Exists.intro 6 (xs_loop hm hl h 5 0 rfl)
theorem ys_loop {post : Int32 → Prop} {m l : Nat} {S : Int32} (hm : m < 2) (hl : l < 2) (h : post (stp a_arrows m l S)) : ∀ d s, s + d = 5 → wY_step_6 post (nI m) S (nI l) a_arrows a_begins a_finals y_order y_seen y_words y_apart (d + 1) (cs a_arrows m l S s) (nI s) := by
  intro d
  induction d with
  | zero =>
    intro s e
    rw [show s = 5 by omega]
    exact br_t (by decide) h
  | succ d ih =>
    intro s e
    refine br_f (lt5' s (by omega)) (cb_o (by omega) (fun hb => And.intro (by rw [ix_Y]; exact vp_in_nI (by omega) (by omega)) (nm_r (e' := cs a_arrows m l S (s + 1)) (by rw [ix_Y, nI_clamp (by omega), cs_t hb]) (nm_r (nI_1 s) (ih (s + 1) (by omega))))) (fun hb => nm_r (nI_1 s) ?_))
    rw [← cs_f (a := a_arrows) (m := m) (l := l) hb]; exact ih (s + 1) (by omega)
theorem ys_step {post : Int32 → Prop} {m l : Nat} {S : Int32} (hm : m < 2) (hl : l < 2) (h : post (stp a_arrows m l S)) : wpY_step post (a_arrows, a_begins, a_finals, y_order, y_seen, y_words, y_apart) (nI m) S (nI l) := Exists.intro 6 (ys_loop hm hl h 5 0 rfl)
/-! the letters of a word -/
theorem ln_ex {w : Nat} (h : 0 < w) : ∃ d, 2 ^ d ≤ w ∧ w < 2 ^ (d + 1) := by
  have key : ∀ n, w < 2 ^ n → ∃ d, d < n ∧ 2 ^ d ≤ w ∧ w < 2 ^ (d + 1) := by
    intro n
    induction n with
    | zero => intro z; rw [Nat.pow_zero] at z; omega
    | succ n ih =>
      intro z
      rcases Nat.lt_or_ge w (2 ^ n) with y | y
      · obtain ⟨d, hd, r⟩ := ih y; exact ⟨d, by omega, r⟩
      · exact ⟨n, by omega, y, z⟩
  obtain ⟨d, _, r⟩ := key w (Nat.lt_two_pow_self)
  exact ⟨d, r⟩
theorem ln_le {w d : Nat} (h1 : 2 ^ d ≤ w) {k : Nat} (h : w < 2 ^ k) : d < k := by
  rcases Nat.lt_or_ge d k with z | z
  · exact z
  · have := Nat.pow_le_pow_right (n := 2) (by decide) z; omega
theorem xl_loop {post : Int32 → Prop} : ∀ d w j, 2 ^ d ≤ w → w < 2 ^ (d + 1) → w < 2 ^ 31 → post (nI (j + d)) → wX_lengthOf_4 post (d + 1) (nI j) (nI w) := by
  intro d
  induction d with
  | zero =>
    intro w j h1 h2 _ h
    have : w = 1 := by rw [Nat.pow_zero] at h1; rw [Nat.zero_add, Nat.pow_one] at h2; omega
    rw [this]
    exact br_t (by decide) h
  | succ d ih =>
    intro w j h1 h2 h3 h
    have p1 : 2 ^ (d + 1) = 2 ^ d * 2 := Nat.pow_succ ..
    have p2 : 2 ^ (d + 1 + 1) = 2 ^ (d + 1) * 2 := Nat.pow_succ ..
    have p3 : 0 < 2 ^ d := Nat.two_pow_pos d
    refine br_f (nI_ge (b := w) (a := 1) (by omega) h3) (nm_r (nI_1 j) (nm_r (pk_shrN h3 _ 1 (by decide)) (ih (w / 2 ^ 1) (j + 1) ?_ ?_ ?_ ?_)))
    · rw [Nat.pow_one]; omega
    · rw [Nat.pow_one]; omega
    · rw [Nat.pow_one]; omega
    · rw [show j + 1 + d = j + (d + 1) by omega]; exact h
theorem xl_len {post : Int32 → Prop} {w d : Nat} (h1 : 2 ^ d ≤ w) (h2 : w < 2 ^ (d + 1)) (h3 : w < 2 ^ 31) (h : post (nI d)) : wpX_lengthOf post (nI w) := Exists.intro (d + 1) (xl_loop d w 0 h1 h2 h3 (by rw [Nat.zero_add]; exact h))
theorem yl_loop {post : Int32 → Prop} {w d : Nat} (h1 : 2 ^ d ≤ w) (h2 : w < 2 ^ (d + 1)) (h3 : w < 2 ^ 31) (h : post (nI d)) : ∀ e j, j + e = d → wY_letters_2 post (nI w) a_arrows a_begins a_finals y_order y_seen y_words y_apart (e + 1) (nI j) := by
  have hd : d < 31 := ln_le h1 h3
  have ep : 2 ^ (d + 1) = 2 ^ d * 2 := Nat.pow_succ ..
  intro e
  induction e with
  | zero =>
    intro j ej
    rw [show j = d by omega]
    refine br_t ?_ h
    rw [pk_shrN h3 _ d (s_l d (by omega))]
    have : w / 2 ^ d < 2 := (Nat.div_lt_iff_lt_mul (Nat.two_pow_pos d)).mpr (by omega)
    exact nI_le (b := 1) (by omega) (by omega)
  | succ e ih =>
    intro j ej
    refine br_f ?_ (nm_r (nI_1 j) (ih (j + 1) (by omega)))
    rw [pk_shrN h3 _ j (s_l j (by omega))]
    have p : 2 ^ (j + 1) ≤ 2 ^ d := Nat.pow_le_pow_right (by decide) (by omega)
    have p' : 2 ^ (j + 1) = 2 ^ j * 2 := Nat.pow_succ ..
    have : 2 ≤ w / 2 ^ j := (Nat.le_div_iff_mul_le (Nat.two_pow_pos j)).mpr (by omega)
    have : w / 2 ^ j ≤ w := Nat.div_le_self _ _
    exact nI_ge (a := 1) (by omega) (by omega)
theorem yl_len {post : Int32 → Prop} {w d : Nat} (h1 : 2 ^ d ≤ w) (h2 : w < 2 ^ (d + 1)) (h3 : w < 2 ^ 31) (h : post (nI d)) : wpY_letters post (a_arrows, a_begins, a_finals, y_order, y_seen, y_words, y_apart) (nI w) := Exists.intro (d + 1) (yl_loop h1 h2 h3 h d 0 (by omega))
/-! the set after a word -/
def gs (a : Nat → Int32) (m : Nat) : Bool → Int32 → Int32 := fun b S => stp a m b.toNat S
def wr (a : Nat → Int32) (m w : Nat) : Nat → Int32 → Int32
  | 0, S => S
  | i + 1, S => wr a m w i (gs a m (w.testBit i) S)
theorem tb_lt (b : Bool) : b.toNat < 2 := by cases b <;> decide
theorem lt_w {w i : Nat} (hw : w < 2 ^ 31) (hi : i < 32) : (nI w >>> (nI i &&& 31)) &&& 1 = nI (w.testBit i).toNat := by
  have : w / 2 ^ i ≤ w := Nat.div_le_self _ _
  rw [pk_shrN hw _ i (s_l i hi), pk_andN (by omega) 1 (by decide), Nat.toNat_testBit]
theorem m1_s (i : Nat) : nI i + (-1) = nI i - 1 := (Int32.sub_eq_add_neg ..).symm
theorem xw_loop {post : Int32 → Prop} {m w : Nat} (hm : m < 2) (hw : w < 2 ^ 31) : ∀ i S, i < 32 → post (wr a_arrows m w i S) → wX_setAfter_15 post (nI m) (nI w) f_openStates f_openBegin f_openEnd f_plainCount f_classes f_listed a_arrows a_begins a_finals a_openTo a_plainSet a_plainEnd a_plainNext a_classOf a_newClass a_differs a_waits a_members a_sideNext a_sideEnd a_sideCount a_joined a_image a_pairA a_pairB a_pairFrom a_pairLetter a_seen a_words a_more (i + 1) S (nI i - 1) := by
  intro i
  induction i with
  | zero => intro S _ h; exact br_t (by decide) h
  | succ i ih =>
    intro S hi h
    rw [nI_pred]
    refine br_f (nI_pos (by omega)) ?_
    rw [lt_w hw (by omega)]
    exact xs_step hm (tb_lt _) (nm_r (m1_s i) (ih _ (by omega) h))
theorem xw_after {post : Int32 → Prop} {m w d : Nat} (hm : m < 2) (h1 : 2 ^ d ≤ w) (h2 : w < 2 ^ (d + 1)) (h3 : w < 2 ^ 31) (h : post (wr a_arrows m w d (a_begins m))) : wpX_setAfter post (f_openStates, f_openBegin, f_openEnd, f_plainCount, f_classes, f_listed, a_arrows, a_begins, a_finals, a_openTo, a_plainSet, a_plainEnd, a_plainNext, a_classOf, a_newClass, a_differs, a_waits, a_members, a_sideNext, a_sideEnd, a_sideCount, a_joined, a_image, a_pairA, a_pairB, a_pairFrom, a_pairLetter, a_seen, a_words, a_more) (nI m) (nI w) := by
  have hd : d < 31 := ln_le h1 h3
  refine And.intro (vp_in_nI hm (by omega)) (nm_r (e' := a_begins m) (by rw [nI_clamp (by omega)]) (xl_len h1 h2 h3 (nm_e (Exists.intro (d + 1) (xw_loop hm h3 d _ (by omega) h)))))
theorem yw_loop {post : Int32 → Prop} {m w : Nat} (hm : m < 2) (hw : w < 2 ^ 31) : ∀ i S, i < 32 → post (wr a_arrows m w i S) → wY_reached_16 post (nI m) (nI w) a_arrows a_begins a_finals y_order y_seen y_words y_apart (i + 1) S (nI i - 1) := by
  intro i
  induction i with
  | zero => intro S _ h; exact br_t (by decide) h
  | succ i ih =>
    intro S hi h
    rw [nI_pred]
    refine br_f (nI_pos (by omega)) ?_
    rw [lt_w hw (by omega)]
    exact ys_step hm (tb_lt _) (nm_r (m1_s i) (ih _ (by omega) h))
theorem yw_after {post : Int32 → Prop} {m w d : Nat} (hm : m < 2) (h1 : 2 ^ d ≤ w) (h2 : w < 2 ^ (d + 1)) (h3 : w < 2 ^ 31) (h : post (wr a_arrows m w d (a_begins m))) : wpY_reached post (a_arrows, a_begins, a_finals, y_order, y_seen, y_words, y_apart) (nI m) (nI w) := by
  have hd : d < 31 := ln_le h1 h3
  refine And.intro (vp_in_nI hm (by omega)) (nm_r (e' := a_begins m) (by rw [nI_clamp (by omega)]) (yl_len h1 h2 h3 (nm_e (Exists.intro (d + 1) (yw_loop hm h3 d _ (by omega) h)))))
/-! whether a set has an end -/
def ht (S f : Int32) : Bool := decide (¬ S &&& f = 0)
theorem ht_z {A B : Prop} {S f : Int32} (p : ht S f = false → A) (q : ht S f = true → B) : (S &&& f = 0 → A) ∧ (¬ S &&& f = 0 → B) := by
  by_cases h : S &&& f = 0
  · exact br_t h (p (decide_eq_false (fun z => z h)))
  · exact br_f h (q (decide_eq_true h))
theorem ht_t {S f : Int32} : ht S f = true ↔ ∃ i, i < 32 ∧ bt S i = true ∧ bt f i = true := by
  unfold ht; rw [decide_eq_true_iff, cb_hit]
theorem yg_ht {post : Int32 → Prop} {m : Nat} {S : Int32} (hm : m < 2) (h : post (bi (ht S (a_finals m)))) : wpY_good post (a_arrows, a_begins, a_finals, y_order, y_seen, y_words, y_apart) (nI m) S := by
  unfold wpY_good
  dsimp only
  rw [nI_clamp (by omega)]
  refine And.intro (vp_in_nI hm (by omega)) (ht_z (fun e => ?_) (fun e => ?_))
  · rw [e] at h; exact h
  · rw [e] at h; exact h
theorem i_vc_accepts {k : Nat} {u : SX} {v : SY} (I : i_Rel k u v) (hk : k + 5 ≤ 2560) (v1 : Int32) (v2 : Int32) : wpX_accepts (fun r => wpY_accepts (fun r' => r' = r ∧ i_Rel (k + 5) u v) v v1 v2) u v1 v2 := by
  refine rel_el (P := fun u v => wpX_accepts (fun r => wpY_accepts (fun r' => r' = r ∧ i_Rel (k + 5) u v) v v1 v2) u v1 v2) ?_ I
  intro f_openStates f_openBegin f_openEnd f_plainCount f_classes f_listed a_arrows a_begins a_finals a_openTo a_plainSet a_plainEnd a_plainNext a_classOf a_newClass a_differs a_waits a_members a_sideNext a_sideEnd a_sideCount a_joined a_image a_pairA a_pairB a_pairFrom a_pairLetter a_seen a_words a_more y_order y_seen y_words y_apart ok
  have R : i_Rel (k + 5) (f_openStates, f_openBegin, f_openEnd, f_plainCount, f_classes, f_listed, a_arrows, a_begins, a_finals, a_openTo, a_plainSet, a_plainEnd, a_plainNext, a_classOf, a_newClass, a_differs, a_waits, a_members, a_sideNext, a_sideEnd, a_sideCount, a_joined, a_image, a_pairA, a_pairB, a_pairFrom, a_pairLetter, a_seen, a_words, a_more) (a_arrows, a_begins, a_finals, y_order, y_seen, y_words, y_apart) := rel_i ok
  unfold wpX_accepts wpY_accepts
  dsimp only
  rcases ma_c v1 with ⟨m, hm, rfl⟩ | hm
  · refine ma_Xt hm (br_f bs_10 ?_)
    rcases wo_c v2 with hw | ⟨hw, hw2⟩ | ⟨w, hw0, hw1, rfl⟩
    · exact wo_X1 hw (br_t rfl (ma_Yt hm (br_f bs_10 (wo_Y1 hw (br_t rfl ⟨rfl, R⟩)))))
    · exact wo_X2 hw hw2 (br_t rfl (ma_Yt hm (br_f bs_10 (wo_Y2 hw hw2 (br_t rfl ⟨rfl, R⟩)))))
    · obtain ⟨d, hd1, hd2⟩ := ln_ex hw0
      refine wo_Xt hw0 hw1 (br_f bs_10 (xw_after hm hd1 hd2 (by omega) ?_))
      rw [nI_clamp (by omega)]
      refine And.intro (vp_in_nI hm (by omega)) (ht_z (fun e => ?_) (fun e => ?_))
      · refine ma_Yt hm (br_f bs_10 (wo_Yt hw0 hw1 (br_f bs_10 (yw_after hm hd1 hd2 (by omega) (yg_ht hm ?_)))))
        rw [e]; exact br_t rfl ⟨rfl, R⟩
      · refine ma_Yt hm (br_f bs_10 (wo_Yt hw0 hw1 (br_f bs_10 (yw_after hm hd1 hd2 (by omega) (yg_ht hm ?_)))))
        rw [e]; exact br_f bs_10 ⟨rfl, R⟩
  · exact ma_Xf hm (br_t rfl (ma_Yf hm (br_t rfl ⟨rfl, R⟩)))
theorem i_vc_after {k : Nat} {u : SX} {v : SY} (I : i_Rel k u v) (hk : k + 5 ≤ 2560) (v1 : Int32) (v2 : Int32) : wpX_after (fun r => wpY_after (fun r' => r' = r ∧ i_Rel (k + 5) u v) v v1 v2) u v1 v2 := by
  refine rel_el (P := fun u v => wpX_after (fun r => wpY_after (fun r' => r' = r ∧ i_Rel (k + 5) u v) v v1 v2) u v1 v2) ?_ I
  intro f_openStates f_openBegin f_openEnd f_plainCount f_classes f_listed a_arrows a_begins a_finals a_openTo a_plainSet a_plainEnd a_plainNext a_classOf a_newClass a_differs a_waits a_members a_sideNext a_sideEnd a_sideCount a_joined a_image a_pairA a_pairB a_pairFrom a_pairLetter a_seen a_words a_more y_order y_seen y_words y_apart ok
  have R : i_Rel (k + 5) (f_openStates, f_openBegin, f_openEnd, f_plainCount, f_classes, f_listed, a_arrows, a_begins, a_finals, a_openTo, a_plainSet, a_plainEnd, a_plainNext, a_classOf, a_newClass, a_differs, a_waits, a_members, a_sideNext, a_sideEnd, a_sideCount, a_joined, a_image, a_pairA, a_pairB, a_pairFrom, a_pairLetter, a_seen, a_words, a_more) (a_arrows, a_begins, a_finals, y_order, y_seen, y_words, y_apart) := rel_i ok
  unfold wpX_after wpY_after
  dsimp only
  rcases ma_c v1 with ⟨m, hm, rfl⟩ | hm
  · refine ma_Xt hm (br_f bs_10 ?_)
    rcases wo_c v2 with hw | ⟨hw, hw2⟩ | ⟨w, hw0, hw1, rfl⟩
    · exact wo_X1 hw (br_t rfl (ma_Yt hm (br_f bs_10 (wo_Y1 hw (br_t rfl ⟨rfl, R⟩)))))
    · exact wo_X2 hw hw2 (br_t rfl (ma_Yt hm (br_f bs_10 (wo_Y2 hw hw2 (br_t rfl ⟨rfl, R⟩)))))
    · obtain ⟨d, hd1, hd2⟩ := ln_ex hw0
      exact wo_Xt hw0 hw1 (br_f bs_10 (xw_after hm hd1 hd2 (by omega) (ma_Yt hm (br_f bs_10 (wo_Yt hw0 hw1 (br_f bs_10 (yw_after hm hd1 hd2 (by omega) ⟨rfl, R⟩)))))))
  · exact ma_Xf hm (br_t rfl (ma_Yf hm (br_t rfl ⟨rfl, R⟩)))
/-! the least word -/
theorem le_loop {m : Nat} (hm : m < 2) : ∀ d w, w + d = 64 → 0 < w → ∃ r : Int32, (∀ post : Int32 → Prop, post r → wX_least_11 post (nI m) f_openStates f_openBegin f_openEnd f_plainCount f_classes f_listed a_arrows a_begins a_finals a_openTo a_plainSet a_plainEnd a_plainNext a_classOf a_newClass a_differs a_waits a_members a_sideNext a_sideEnd a_sideCount a_joined a_image a_pairA a_pairB a_pairFrom a_pairLetter a_seen a_words a_more (d + 1) (nI w)) ∧ (∀ post : Int32 → Prop, post r → wY_least_12 post (nI m) a_arrows a_begins a_finals y_order y_seen y_words y_apart (d + 1) (nI w)) := by
  intro d
  induction d with
  | zero =>
    intro w e _
    rw [show w = 64 by omega]
    exact ⟨-2, fun _ h => br_t (by decide) h, fun _ h => br_t (by decide) h⟩
  | succ d ih =>
    intro w e h0
    obtain ⟨q, hd1, hd2⟩ := ln_ex h0
    obtain ⟨r, hX, hY⟩ := ih (w + 1) (by omega) (by omega)
    have hn : ¬ 64 ≤ nI w := nI_ge (b := 64) (by omega) (by omega)
    cases e : ht (wr a_arrows m w q (a_begins m)) (a_finals m)
    · refine ⟨r, fun post h => br_f hn (xw_after hm hd1 hd2 (by omega) ?_), fun post h => br_f hn (yw_after hm hd1 hd2 (by omega) (yg_ht hm ?_))⟩
      · rw [nI_clamp (by omega)]
        exact And.intro (vp_in_nI hm (by omega)) (ht_z (fun _ => nm_r (nI_1 w) (hX post h)) (fun z => by rw [e] at z; exact absurd z (by decide)))
      · rw [e]; exact br_t rfl (nm_r (nI_1 w) (hY post h))
    · refine ⟨nI w, fun post h => br_f hn (xw_after hm hd1 hd2 (by omega) ?_), fun post h => br_f hn (yw_after hm hd1 hd2 (by omega) (yg_ht hm ?_))⟩
      · rw [nI_clamp (by omega)]
        exact And.intro (vp_in_nI hm (by omega)) (ht_z (fun z => by rw [e] at z; exact absurd z (by decide)) (fun _ => h))
      · rw [e]; exact br_f bs_10 h
theorem i_vc_least {k : Nat} {u : SX} {v : SY} (I : i_Rel k u v) (hk : k + 5 ≤ 2560) (v1 : Int32) : wpX_least (fun r => wpY_least (fun r' => r' = r ∧ i_Rel (k + 5) u v) v v1) u v1 := by
  refine rel_el (P := fun u v => wpX_least (fun r => wpY_least (fun r' => r' = r ∧ i_Rel (k + 5) u v) v v1) u v1) ?_ I
  intro f_openStates f_openBegin f_openEnd f_plainCount f_classes f_listed a_arrows a_begins a_finals a_openTo a_plainSet a_plainEnd a_plainNext a_classOf a_newClass a_differs a_waits a_members a_sideNext a_sideEnd a_sideCount a_joined a_image a_pairA a_pairB a_pairFrom a_pairLetter a_seen a_words a_more y_order y_seen y_words y_apart ok
  have R : i_Rel (k + 5) (f_openStates, f_openBegin, f_openEnd, f_plainCount, f_classes, f_listed, a_arrows, a_begins, a_finals, a_openTo, a_plainSet, a_plainEnd, a_plainNext, a_classOf, a_newClass, a_differs, a_waits, a_members, a_sideNext, a_sideEnd, a_sideCount, a_joined, a_image, a_pairA, a_pairB, a_pairFrom, a_pairLetter, a_seen, a_words, a_more) (a_arrows, a_begins, a_finals, y_order, y_seen, y_words, y_apart) := rel_i ok
  unfold wpX_least wpY_least
  dsimp only
  rcases ma_c v1 with ⟨m, hm, rfl⟩ | hm
  · obtain ⟨r, hX, hY⟩ := le_loop (f_openStates := f_openStates) (f_openBegin := f_openBegin) (f_openEnd := f_openEnd) (f_plainCount := f_plainCount) (f_classes := f_classes) (f_listed := f_listed) (a_arrows := a_arrows) (a_begins := a_begins) (a_finals := a_finals) (a_openTo := a_openTo) (a_plainSet := a_plainSet) (a_plainEnd := a_plainEnd) (a_plainNext := a_plainNext) (a_classOf := a_classOf) (a_newClass := a_newClass) (a_differs := a_differs) (a_waits := a_waits) (a_members := a_members) (a_sideNext := a_sideNext) (a_sideEnd := a_sideEnd) (a_sideCount := a_sideCount) (a_joined := a_joined) (a_image := a_image) (a_pairA := a_pairA) (a_pairB := a_pairB) (a_pairFrom := a_pairFrom) (a_pairLetter := a_pairLetter) (a_seen := a_seen) (a_words := a_words) (a_more := a_more) (y_order := y_order) (y_seen := y_seen) (y_words := y_words) (y_apart := y_apart) hm 63 1 (by omega) (by omega)
    exact ma_Xt hm (br_f bs_10 (Exists.intro 64 (hX _ (ma_Yt hm (br_f bs_10 (Exists.intro 64 (hY _ ⟨rfl, R⟩)))))))
  · exact ma_Xf hm (br_t rfl (ma_Yf hm (br_t rfl ⟨rfl, R⟩)))
end simple
end
section
/-! arrow, cut, ends, live -/
section arrows
variable {f_openStates f_openBegin f_openEnd f_plainCount f_classes f_listed : Int32} {a_arrows a_begins a_finals a_openTo a_plainSet a_plainEnd a_plainNext a_classOf a_newClass a_differs a_waits a_members a_sideNext a_sideEnd a_sideCount a_joined a_image a_pairA a_pairB a_pairFrom a_pairLetter a_seen a_words a_more : Nat → Int32}
variable {y_order y_seen y_apart : Nat → Int32} {y_words : Nat → Int64}
theorem v5_4 {v : Int32} (h : nI 5 ≤ v) : (4 : Int32) < v := by
  rw [Int32.le_iff_toInt_le, nI_toInt (by decide)] at h
  rw [Int32.lt_iff_toInt_lt, show (4 : Int32).toInt = 4 from by decide]
  omega
theorem v5_0 {v : Int32} {n : Nat} (hn : n < 2 ^ 31) (h : nI n ≤ v) : ¬ v < 0 := by
  rw [Int32.le_iff_toInt_le, nI_toInt hn] at h
  rw [Int32.lt_iff_toInt_lt, show (0 : Int32).toInt = 0 from by decide]
  omega
theorem v2_n {v : Int32} (h : nI 2 ≤ v) : ¬ v = 0 ∧ ¬ v = 1 := by
  constructor
  · intro e; rw [e] at h; exact absurd h (by decide)
  · intro e; rw [e] at h; exact absurd h (by decide)
theorem v0_n {v : Int32} (h : v < 0) : ¬ v = 0 ∧ ¬ v = 1 := by
  constructor
  · intro e; rw [e] at h; exact absurd h (by decide)
  · intro e; rw [e] at h; exact absurd h (by decide)
theorem st_Xt {post : Int32 → Prop} {s : Nat} (hs : s < 5) (h : post 1) : wpX_isState post (nI s) := br_f (nI_pos (by omega)) (br_f (lt5' s hs) h)
theorem fi_t {post : Int32 → Prop} {t : Nat} (ht : t < 5) (h : post 1) : wY_fits_26 post (nI t) a_arrows a_begins a_finals y_order y_seen y_words y_apart := br_f (nI_pos (by omega)) (br_f (nI_nlt (a := 4) (by omega) (by omega)) h)
theorem ar_Xt {post : Int32 → Prop} {m s l t : Nat} (hm : m < 2) (hs : s < 5) (hl : l < 2) (ht : t < 5) (h : post 1) : wpX_isArrow post (nI m) (nI s) (nI l) (nI t) :=
  ma_Xt hm (br_f bs_10 (st_Xt hs (br_f bs_10 (br_f (nI_pos (by omega)) (br_f (nI_ge (b := 2) hl (by omega)) (st_Xt ht (br_f bs_10 h)))))))
theorem ar_Yt {post : Int32 → Prop} {m s l t : Nat} (hm : m < 2) (hs : s < 5) (hl : l < 2) (ht : t < 5) (h : post 1) : wpY_fits post (a_arrows, a_begins, a_finals, y_order, y_seen, y_words, y_apart) (nI m) (nI s) (nI l) (nI t) := by
  unfold wpY_fits
  dsimp only
  refine ma_Yt hm (br_f bs_10 (br_f (nI_pos (by omega)) (br_f (nI_nlt (a := 4) (by omega) (by omega)) ?_)))
  rcases Nat.lt_or_ge l 1 with z | z
  · rw [show l = 0 by omega]; exact br_t rfl (fi_t ht h)
  · rw [show l = 1 by omega]; exact br_f (by decide) (br_t rfl (fi_t ht h))
theorem ar_c (v1 v2 v3 v4 : Int32) : (∃ m s l t : Nat, m < 2 ∧ s < 5 ∧ l < 2 ∧ t < 5 ∧ v1 = nI m ∧ v2 = nI s ∧ v3 = nI l ∧ v4 = nI t) ∨ ((∀ post : Int32 → Prop, post 0 → wpX_isArrow post v1 v2 v3 v4) ∧ ∀ post : Int32 → Prop, post 0 → wpY_fits post (a_arrows, a_begins, a_finals, y_order, y_seen, y_words, y_apart) v1 v2 v3 v4) := by
  rcases ma_c v1 with ⟨m, hm, rfl⟩ | hm
  · rcases pk_ix v2 (n := 5) (by decide) with h2 | h2 | ⟨s, hs, rfl⟩
    · exact Or.inr ⟨fun post h => ma_Xt hm (br_f bs_10 (br_t h2 (br_t rfl h))), fun post h => by unfold wpY_fits; dsimp only; exact ma_Yt hm (br_f bs_10 (br_t h2 h))⟩
    · exact Or.inr ⟨fun post h => ma_Xt hm (br_f bs_10 (br_f (v5_0 (by decide) h2) (br_t h2 (br_t rfl h)))), fun post h => by unfold wpY_fits; dsimp only; exact ma_Yt hm (br_f bs_10 (br_f (v5_0 (by decide) h2) (br_t (v5_4 h2) h)))⟩
    · have a1 : ¬ nI s < 0 := nI_pos (by omega)
      have a2 : ¬ 4 < nI s := nI_nlt (a := 4) (by omega) (by omega)
      rcases pk_ix v3 (n := 2) (by decide) with h3 | h3 | ⟨l, hl, rfl⟩
      · exact Or.inr ⟨fun post h => ma_Xt hm (br_f bs_10 (st_Xt hs (br_f bs_10 (br_t h3 h)))), fun post h => by unfold wpY_fits; dsimp only; exact ma_Yt hm (br_f bs_10 (br_f a1 (br_f a2 (br_f (v0_n h3).1 (br_f (v0_n h3).2 h)))))⟩
      · exact Or.inr ⟨fun post h => ma_Xt hm (br_f bs_10 (st_Xt hs (br_f bs_10 (br_f (v5_0 (by decide) h3) (br_t h3 h))))), fun post h => by unfold wpY_fits; dsimp only; exact ma_Yt hm (br_f bs_10 (br_f a1 (br_f a2 (br_f (v2_n h3).1 (br_f (v2_n h3).2 h)))))⟩
      · have b1 : ¬ nI l < 0 := nI_pos (by omega)
        have b2 : ¬ 2 ≤ nI l := nI_ge (b := 2) hl (by omega)
        have key : ∀ post : Int32 → Prop, wY_fits_26 post v4 a_arrows a_begins a_finals y_order y_seen y_words y_apart → wpY_fits post (a_arrows, a_begins, a_finals, y_order, y_seen, y_words, y_apart) (nI m) (nI s) (nI l) v4 := by
          intro post h
          unfold wpY_fits
          dsimp only
          refine ma_Yt hm (br_f bs_10 (br_f a1 (br_f a2 ?_)))
          rcases Nat.lt_or_ge l 1 with z | z
          · rw [show l = 0 by omega]; exact br_t rfl h
          · rw [show l = 1 by omega]; exact br_f (by decide) (br_t rfl h)
        rcases pk_ix v4 (n := 5) (by decide) with h4 | h4 | ⟨t, ht, rfl⟩
        · exact Or.inr ⟨fun post h => ma_Xt hm (br_f bs_10 (st_Xt hs (br_f bs_10 (br_f b1 (br_f b2 (br_t h4 (br_t rfl h))))))), fun post h => key post (br_t h4 h)⟩
        · exact Or.inr ⟨fun post h => ma_Xt hm (br_f bs_10 (st_Xt hs (br_f bs_10 (br_f b1 (br_f b2 (br_f (v5_0 (by decide) h4) (br_t h4 (br_t rfl h)))))))), fun post h => key post (br_f (v5_0 (by decide) h4) (br_t (v5_4 h4) h))⟩
        · exact Or.inl ⟨m, s, l, t, hm, hs, hl, ht, rfl, rfl, rfl, rfl⟩
  · exact Or.inr ⟨fun post h => ma_Xf hm (br_t rfl h), fun post h => by unfold wpY_fits; dsimp only; exact ma_Yf hm (br_t rfl h)⟩
theorem yh_has {post : Int32 → Prop} {m s l t : Nat} (hm : m < 2) (hs : s < 5) (hl : l < 2) (ht : t < 5) (h : post (bi (bt (a_arrows (10 * m + 2 * s + l)) t))) : wpY_has post (a_arrows, a_begins, a_finals, y_order, y_seen, y_words, y_apart) (nI m) (nI s) (nI l) (nI t) := by
  unfold wpY_has
  dsimp only
  rw [ix_Y, nI_clamp (by omega)]
  refine And.intro (vp_in_nI (by omega) (by omega)) (cb_o (by omega) (fun e => ?_) (fun e => ?_))
  · rw [e] at h; exact h
  · rw [e] at h; exact h
theorem i_vc_arrow {k : Nat} {u : SX} {v : SY} (I : i_Rel k u v) (hk : k + 5 ≤ 2560) (v1 : Int32) (v2 : Int32) (v3 : Int32) (v4 : Int32) : wpX_arrow (fun r u' => wpY_arrow (fun r' v' => r' = r ∧ i_Rel (k + 5) u' v') v v1 v2 v3 v4) u v1 v2 v3 v4 := by
  refine rel_el (P := fun u v => wpX_arrow (fun r u' => wpY_arrow (fun r' v' => r' = r ∧ i_Rel (k + 5) u' v') v v1 v2 v3 v4) u v1 v2 v3 v4) ?_ I
  intro f_openStates f_openBegin f_openEnd f_plainCount f_classes f_listed a_arrows a_begins a_finals a_openTo a_plainSet a_plainEnd a_plainNext a_classOf a_newClass a_differs a_waits a_members a_sideNext a_sideEnd a_sideCount a_joined a_image a_pairA a_pairB a_pairFrom a_pairLetter a_seen a_words a_more y_order y_seen y_words y_apart ok
  unfold wpX_arrow wpY_arrow
  dsimp only
  rcases ar_c (a_arrows := a_arrows) (a_begins := a_begins) (a_finals := a_finals) (y_order := y_order) (y_seen := y_seen) (y_words := y_words) (y_apart := y_apart) v1 v2 v3 v4 with ⟨m, s, l, t, hm, hs, hl, ht, rfl, rfl, rfl, rfl⟩ | ⟨hX, hY⟩
  · have hc : vp_in (nI (10 * m + 2 * s + l)) 20 := vp_in_nI (by omega) (by omega)
    refine ar_Xt hm hs hl ht (br_f bs_10 (xa_of hm hs hl (cb_z (by omega) (fun hb => ?_) (fun hb => ?_))))
    · refine nm_r (ix_X m s l) ?_
      rw [nI_clamp (by omega)]
      refine And.intro hc (And.intro hc (nm_e ?_))
      refine ar_Yt hm hs hl ht (br_f bs_10 (yh_has hm hs hl ht ?_))
      rw [hb]
      refine br_t rfl ?_
      rw [ix_Y, nI_clamp (by omega)]
      refine And.intro hc (And.intro hc (nm_e (And.intro rfl ?_)))
      have hs' : sm (a_arrows (10 * m + 2 * s + l) ||| (1 : Int32) <<< (nI t &&& 31)) := sm_or (ok.1 _) (sm_one ht)
      rw [sm_w8 hs']
      exact rel_i (Ok_a ok hs')
    · refine ar_Yt hm hs hl ht (br_f bs_10 (yh_has hm hs hl ht ?_))
      rw [hb]
      exact br_f bs_10 (And.intro rfl (rel_i ok))
  · exact hX _ (br_t rfl (hY _ (br_t rfl (And.intro rfl (rel_i ok)))))
theorem i_vc_cut {k : Nat} {u : SX} {v : SY} (I : i_Rel k u v) (hk : k + 5 ≤ 2560) (v1 : Int32) (v2 : Int32) (v3 : Int32) (v4 : Int32) : wpX_cut (fun r u' => wpY_cut (fun r' v' => r' = r ∧ i_Rel (k + 5) u' v') v v1 v2 v3 v4) u v1 v2 v3 v4 := by
  refine rel_el (P := fun u v => wpX_cut (fun r u' => wpY_cut (fun r' v' => r' = r ∧ i_Rel (k + 5) u' v') v v1 v2 v3 v4) u v1 v2 v3 v4) ?_ I
  intro f_openStates f_openBegin f_openEnd f_plainCount f_classes f_listed a_arrows a_begins a_finals a_openTo a_plainSet a_plainEnd a_plainNext a_classOf a_newClass a_differs a_waits a_members a_sideNext a_sideEnd a_sideCount a_joined a_image a_pairA a_pairB a_pairFrom a_pairLetter a_seen a_words a_more y_order y_seen y_words y_apart ok
  unfold wpX_cut wpY_cut
  dsimp only
  rcases ar_c (a_arrows := a_arrows) (a_begins := a_begins) (a_finals := a_finals) (y_order := y_order) (y_seen := y_seen) (y_words := y_words) (y_apart := y_apart) v1 v2 v3 v4 with ⟨m, s, l, t, hm, hs, hl, ht, rfl, rfl, rfl, rfl⟩ | ⟨hX, hY⟩
  · have hc : vp_in (nI (10 * m + 2 * s + l)) 20 := vp_in_nI (by omega) (by omega)
    refine ar_Xt hm hs hl ht (br_f bs_10 (xa_of hm hs hl (cb_z (by omega) (fun hb => ?_) (fun hb => ?_))))
    · refine ar_Yt hm hs hl ht (br_f bs_10 (yh_has hm hs hl ht ?_))
      rw [hb]
      exact br_t rfl (And.intro rfl (rel_i ok))
    · refine nm_r (ix_X m s l) ?_
      rw [nI_clamp (by omega)]
      refine And.intro hc (And.intro hc (nm_e ?_))
      refine ar_Yt hm hs hl ht (br_f bs_10 (yh_has hm hs hl ht ?_))
      rw [hb]
      refine br_f bs_10 ?_
      rw [ix_Y, nI_clamp (by omega)]
      refine And.intro hc (And.intro hc (nm_e (And.intro rfl ?_)))
      have hs' : sm (a_arrows (10 * m + 2 * s + l) &&& (((1 : Int32) <<< (nI t &&& 31)) ^^^ (-1))) := sm_and (ok.1 _)
      rw [sm_w8 hs']
      exact rel_i (Ok_a ok hs')
  · exact hX _ (br_t rfl (hY _ (br_t rfl (And.intro rfl (rel_i ok)))))
theorem se_c (v : Int32) : v < 0 ∨ (¬ v < 0 ∧ 31 < v) ∨ ∃ n, n < 32 ∧ v = nI n := by
  rcases pk_ix v (n := 32) (by decide) with h | h | ⟨j, hj, rfl⟩
  · exact Or.inl h
  · refine Or.inr (Or.inl ⟨v5_0 (by decide) h, ?_⟩)
    rw [Int32.le_iff_toInt_le, nI_toInt (by decide)] at h
    rw [Int32.lt_iff_toInt_lt, show (31 : Int32).toInt = 31 from by decide]
    omega
  · exact Or.inr (Or.inr ⟨j, hj, rfl⟩)
theorem i_vc_ends {k : Nat} {u : SX} {v : SY} (I : i_Rel k u v) (hk : k + 5 ≤ 2560) (v1 : Int32) (v2 : Int32) (v3 : Int32) : wpX_ends (fun r u' => wpY_ends (fun r' v' => r' = r ∧ i_Rel (k + 5) u' v') v v1 v2 v3) u v1 v2 v3 := by
  refine rel_el (P := fun u v => wpX_ends (fun r u' => wpY_ends (fun r' v' => r' = r ∧ i_Rel (k + 5) u' v') v v1 v2 v3) u v1 v2 v3) ?_ I
  intro f_openStates f_openBegin f_openEnd f_plainCount f_classes f_listed a_arrows a_begins a_finals a_openTo a_plainSet a_plainEnd a_plainNext a_classOf a_newClass a_differs a_waits a_members a_sideNext a_sideEnd a_sideCount a_joined a_image a_pairA a_pairB a_pairFrom a_pairLetter a_seen a_words a_more y_order y_seen y_words y_apart ok
  unfold wpX_ends wpY_ends
  dsimp only
  rcases ma_c v1 with ⟨m, hm, rfl⟩ | hm
  · refine ma_Xt hm (br_f bs_10 ?_)
    rcases se_c v2 with h2 | ⟨h2, h2'⟩ | ⟨b, hb, rfl⟩
    · exact br_t h2 (ma_Yt hm (br_f bs_10 (br_t h2 (And.intro rfl (rel_i ok)))))
    · exact br_f h2 (br_t h2' (ma_Yt hm (br_f bs_10 (br_f h2 (br_t h2' (And.intro rfl (rel_i ok)))))))
    · have c1 : ¬ nI b < 0 := nI_pos (by omega)
      have c2 : ¬ 31 < nI b := nI_nlt (a := 31) (by omega) (by omega)
      refine br_f c1 (br_f c2 ?_)
      rcases se_c v3 with h3 | ⟨h3, h3'⟩ | ⟨e, he, rfl⟩
      · exact br_t h3 (ma_Yt hm (br_f bs_10 (br_f c1 (br_f c2 (br_t h3 (And.intro rfl (rel_i ok)))))))
      · have h4 : ¬ v3 ≤ 31 := Int32.not_le.mpr h3'
        exact br_f h3 (br_f h4 (ma_Yt hm (br_f bs_10 (br_f c1 (br_f c2 (br_f h3 (br_f h4 (And.intro rfl (rel_i ok)))))))))
      · have d1 : ¬ nI e < 0 := nI_pos (by omega)
        have d2 : nI e ≤ 31 := nI_le (b := 31) (by omega) (by omega)
        have hv : vp_in (nI m) 2 := vp_in_nI hm (by omega)
        refine br_f d1 (br_t d2 ?_)
        rw [nI_clamp (by omega), bs_w8 (by omega), bs_w8 (by omega)]
        refine And.intro hv (nm_e (And.intro hv (nm_e ?_)))
        refine ma_Yt hm (br_f bs_10 (br_f c1 (br_f c2 (br_f d1 (br_t d2 ?_)))))
        exact And.intro hv (nm_e (And.intro hv (nm_e (And.intro rfl (rel_i (Ok_f (Ok_b ok (sm_nI hb)) (sm_nI he)))))))
  · exact ma_Xf hm (br_t rfl (ma_Yf hm (br_t rfl (And.intro rfl (rel_i ok)))))
/-! live -/
def one (a : Nat → Int32) (m : Nat) (S : Int32) : Int32 := stp a m 0 S ||| stp a m 1 S
def sp (a : Nat → Int32) (m : Nat) : Nat → Int32 → Int32
  | 0, S => S
  | n + 1, S => sp a m n (S ||| one a m S)
theorem or_as (x y z : Int32) : (x ||| y) ||| z = x ||| (y ||| z) := by
  apply b_ext; intro i _; rw [b_or, b_or, b_or, b_or, Bool.or_assoc]
theorem xp_loop {post : Int32 → Prop} {m : Nat} (hm : m < 2) : ∀ d i S, i + d = 5 → post (sp a_arrows m d S) → wX_spread_5 post (nI m) f_openStates f_openBegin f_openEnd f_plainCount f_classes f_listed a_arrows a_begins a_finals a_openTo a_plainSet a_plainEnd a_plainNext a_classOf a_newClass a_differs a_waits a_members a_sideNext a_sideEnd a_sideCount a_joined a_image a_pairA a_pairB a_pairFrom a_pairLetter a_seen a_words a_more (d + 1) S (nI i) := by
  intro d
  induction d with
  | zero => intro i S e h; rw [show i = 5 by omega]; exact br_t (by decide) h
  | succ d ih =>
    intro i S e h
    exact br_f (lt5' i (by omega)) (xs_step (l := 0) hm (by omega) (xs_step (l := 1) hm (by omega) (nm_e (nm_r (nI_1 i) (ih (i + 1) _ (by omega) h)))))
theorem xp_sp {post : Int32 → Prop} {m : Nat} {S : Int32} (hm : m < 2) (h : post (sp a_arrows m 5 S)) : wpX_spread post (f_openStates, f_openBegin, f_openEnd, f_plainCount, f_classes, f_listed, a_arrows, a_begins, a_finals, a_openTo, a_plainSet, a_plainEnd, a_plainNext, a_classOf, a_newClass, a_differs, a_waits, a_members, a_sideNext, a_sideEnd, a_sideCount, a_joined, a_image, a_pairA, a_pairB, a_pairFrom, a_pairLetter, a_seen, a_words, a_more) (nI m) S := Exists.intro 6 (xp_loop hm 5 0 S rfl h)
theorem yp_loop {post : Int32 → Prop} {m : Nat} (hm : m < 2) : ∀ d i S, i + d = 5 → post (sp a_arrows m d S) → wY_closure_5 post (nI m) a_arrows a_begins a_finals y_order y_seen y_words y_apart (d + 1) S (nI i) := by
  intro d
  induction d with
  | zero => intro i S e h; rw [show i = 5 by omega]; exact br_t (by decide) h
  | succ d ih =>
    intro i S e h
    exact br_f (lt5' i (by omega)) (ys_step (l := 0) hm (by omega) (ys_step (l := 1) hm (by omega) (nm_r (or_as _ _ _) (nm_r (nI_1 i) (ih (i + 1) _ (by omega) h)))))
theorem yp_sp {post : Int32 → Prop} {m : Nat} {S : Int32} (hm : m < 2) (h : post (sp a_arrows m 5 S)) : wpY_closure post (a_arrows, a_begins, a_finals, y_order, y_seen, y_words, y_apart) (nI m) S := Exists.intro 6 (yp_loop hm 5 0 S rfl h)
theorem lv_loop {m : Nat} (hm : m < 2) (F : Int32) : ∀ d s acc, s + d = 5 → ∃ r : Int32, (∀ post : Int32 → Prop, post r → wX_live_26 post (nI m) F f_openStates f_openBegin f_openEnd f_plainCount f_classes f_listed a_arrows a_begins a_finals a_openTo a_plainSet a_plainEnd a_plainNext a_classOf a_newClass a_differs a_waits a_members a_sideNext a_sideEnd a_sideCount a_joined a_image a_pairA a_pairB a_pairFrom a_pairLetter a_seen a_words a_more (d + 1) acc (nI s)) ∧ (∀ post : Int32 → Prop, post r → wY_live_27 post (nI m) F a_arrows a_begins a_finals y_order y_seen y_words y_apart (d + 1) acc (nI s)) := by
  intro d
  induction d with
  | zero =>
    intro s acc e
    rw [show s = 5 by omega]
    exact ⟨acc, fun _ h => br_t (by decide) h, fun _ h => br_t (by decide) h⟩
  | succ d ih =>
    intro s acc e
    have hn := lt5' s (by omega)
    cases hb : bt F s
    · obtain ⟨r, hX, hY⟩ := ih (s + 1) acc (by omega)
      exact ⟨r, fun post h => br_f hn (cb_z (by omega) (fun _ => br_t rfl (nm_r (cb_or0 _) (nm_r (nI_1 s) (hX post h)))) (fun z => by rw [hb] at z; exact absurd z (by decide))), fun post h => br_f hn (cb_o (by omega) (fun z => by rw [hb] at z; exact absurd z (by decide)) (fun _ => br_t rfl (nm_r (nI_1 s) (hY post h))))⟩
    · cases hh : ht (sp a_arrows m 5 ((1 : Int32) <<< (nI s &&& 31))) (a_finals m)
      · obtain ⟨r, hX, hY⟩ := ih (s + 1) acc (by omega)
        refine ⟨r, fun post h => br_f hn (cb_z (by omega) (fun z => by rw [hb] at z; exact absurd z (by decide)) (fun _ => xp_sp hm ?_)), fun post h => br_f hn (cb_o (by omega) (fun _ => yp_sp hm (yg_ht hm ?_)) (fun z => by rw [hb] at z; exact absurd z (by decide)))⟩
        · rw [nI_clamp (by omega)]
          exact And.intro (vp_in_nI hm (by omega)) (ht_z (fun _ => br_t rfl (nm_r (cb_or0 _) (nm_r (nI_1 s) (hX post h)))) (fun z => by rw [hh] at z; exact absurd z (by decide)))
        · rw [hh]; exact br_t rfl (br_t rfl (nm_r (nI_1 s) (hY post h)))
      · obtain ⟨r, hX, hY⟩ := ih (s + 1) (acc ||| ((1 : Int32) <<< (nI s &&& 31))) (by omega)
        refine ⟨r, fun post h => br_f hn (cb_z (by omega) (fun z => by rw [hb] at z; exact absurd z (by decide)) (fun _ => xp_sp hm ?_)), fun post h => br_f hn (cb_o (by omega) (fun _ => yp_sp hm (yg_ht hm ?_)) (fun z => by rw [hb] at z; exact absurd z (by decide)))⟩
        · rw [nI_clamp (by omega)]
          exact And.intro (vp_in_nI hm (by omega)) (ht_z (fun z => by rw [hh] at z; exact absurd z (by decide)) (fun _ => br_f bs_10 (nm_e (nm_r (nI_1 s) (hX post h)))))
        · rw [hh]; exact br_f bs_10 (br_f bs_10 (nm_e (nm_r (nI_1 s) (hY post h))))
theorem lv_all {m : Nat} (hm : m < 2) : ∃ r : Int32, (∀ post : Int32 → Prop, post r → wpX_live post (f_openStates, f_openBegin, f_openEnd, f_plainCount, f_classes, f_listed, a_arrows, a_begins, a_finals, a_openTo, a_plainSet, a_plainEnd, a_plainNext, a_classOf, a_newClass, a_differs, a_waits, a_members, a_sideNext, a_sideEnd, a_sideCount, a_joined, a_image, a_pairA, a_pairB, a_pairFrom, a_pairLetter, a_seen, a_words, a_more) (nI m)) ∧ (∀ post : Int32 → Prop, post r → wpY_live post (a_arrows, a_begins, a_finals, y_order, y_seen, y_words, y_apart) (nI m)) := by
  obtain ⟨r, hX, hY⟩ := lv_loop (f_openStates := f_openStates) (f_openBegin := f_openBegin) (f_openEnd := f_openEnd) (f_plainCount := f_plainCount) (f_classes := f_classes) (f_listed := f_listed) (a_arrows := a_arrows) (a_begins := a_begins) (a_finals := a_finals) (a_openTo := a_openTo) (a_plainSet := a_plainSet) (a_plainEnd := a_plainEnd) (a_plainNext := a_plainNext) (a_classOf := a_classOf) (a_newClass := a_newClass) (a_differs := a_differs) (a_waits := a_waits) (a_members := a_members) (a_sideNext := a_sideNext) (a_sideEnd := a_sideEnd) (a_sideCount := a_sideCount) (a_joined := a_joined) (a_image := a_image) (a_pairA := a_pairA) (a_pairB := a_pairB) (a_pairFrom := a_pairFrom) (a_pairLetter := a_pairLetter) (a_seen := a_seen) (a_words := a_words) (a_more := a_more) (y_order := y_order) (y_seen := y_seen) (y_words := y_words) (y_apart := y_apart) hm (sp a_arrows m 5 (a_begins m)) 5 0 0 rfl
  refine ⟨r, fun post h => ?_, fun post h => ?_⟩
  · unfold wpX_live
    dsimp only
    refine ma_Xt hm (br_f bs_10 ?_)
    rw [nI_clamp (by omega)]
    exact And.intro (vp_in_nI hm (by omega)) (xp_sp hm (Exists.intro 6 (hX post h)))
  · unfold wpY_live
    dsimp only
    refine ma_Yt hm (br_f bs_10 ?_)
    rw [nI_clamp (by omega)]
    exact And.intro (vp_in_nI hm (by omega)) (yp_sp hm (Exists.intro 6 (hY post h)))
theorem i_vc_live {k : Nat} {u : SX} {v : SY} (I : i_Rel k u v) (hk : k + 5 ≤ 2560) (v1 : Int32) : wpX_live (fun r => wpY_live (fun r' => r' = r ∧ i_Rel (k + 5) u v) v v1) u v1 := by
  refine rel_el (P := fun u v => wpX_live (fun r => wpY_live (fun r' => r' = r ∧ i_Rel (k + 5) u v) v v1) u v1) ?_ I
  intro f_openStates f_openBegin f_openEnd f_plainCount f_classes f_listed a_arrows a_begins a_finals a_openTo a_plainSet a_plainEnd a_plainNext a_classOf a_newClass a_differs a_waits a_members a_sideNext a_sideEnd a_sideCount a_joined a_image a_pairA a_pairB a_pairFrom a_pairLetter a_seen a_words a_more y_order y_seen y_words y_apart ok
  have R : i_Rel (k + 5) (f_openStates, f_openBegin, f_openEnd, f_plainCount, f_classes, f_listed, a_arrows, a_begins, a_finals, a_openTo, a_plainSet, a_plainEnd, a_plainNext, a_classOf, a_newClass, a_differs, a_waits, a_members, a_sideNext, a_sideEnd, a_sideCount, a_joined, a_image, a_pairA, a_pairB, a_pairFrom, a_pairLetter, a_seen, a_words, a_more) (a_arrows, a_begins, a_finals, y_order, y_seen, y_words, y_apart) := rel_i ok
  rcases ma_c v1 with ⟨m, hm, rfl⟩ | hm
  · obtain ⟨r, hX, hY⟩ := lv_all (f_openStates := f_openStates) (f_openBegin := f_openBegin) (f_openEnd := f_openEnd) (f_plainCount := f_plainCount) (f_classes := f_classes) (f_listed := f_listed) (a_arrows := a_arrows) (a_begins := a_begins) (a_finals := a_finals) (a_openTo := a_openTo) (a_plainSet := a_plainSet) (a_plainEnd := a_plainEnd) (a_plainNext := a_plainNext) (a_classOf := a_classOf) (a_newClass := a_newClass) (a_differs := a_differs) (a_waits := a_waits) (a_members := a_members) (a_sideNext := a_sideNext) (a_sideEnd := a_sideEnd) (a_sideCount := a_sideCount) (a_joined := a_joined) (a_image := a_image) (a_pairA := a_pairA) (a_pairB := a_pairB) (a_pairFrom := a_pairFrom) (a_pairLetter := a_pairLetter) (a_seen := a_seen) (a_words := a_words) (a_more := a_more) (y_order := y_order) (y_seen := y_seen) (y_words := y_words) (y_apart := y_apart) hm
    exact hX _ (hY _ (And.intro rfl R))
  · unfold wpX_live wpY_live
    dsimp only
    exact ma_Xf hm (br_t rfl (ma_Yf hm (br_t rfl (And.intro rfl R))))
end arrows
end
section
/-! walks in a graph; endless -/
def Wk (E : Nat → Nat → Prop) : Nat → Nat → Nat → Prop
  | 0, s, t => s = t
  | n + 1, s, t => ∃ u, E s u ∧ Wk E n u t
theorem Wk_p {E : Nat → Nat → Prop} : ∀ n s t, Wk E n s t → ∃ p : Nat → Nat, p 0 = s ∧ p n = t ∧ ∀ i, i < n → E (p i) (p (i + 1)) := by
  intro n
  induction n with
  | zero => intro s t h; exact ⟨fun _ => s, rfl, h, fun i hi => by omega⟩
  | succ n ih =>
    rintro s t ⟨u, e, h⟩
    obtain ⟨p, p0, pn, pe⟩ := ih u t h
    refine ⟨fun i => if i = 0 then s else p (i - 1), rfl, ?_, ?_⟩
    · show (if n + 1 = 0 then s else p (n + 1 - 1)) = t
      rw [if_neg (by omega), Nat.add_sub_cancel]; exact pn
    · intro i hi
      show E (if i = 0 then s else p (i - 1)) (if i + 1 = 0 then s else p (i + 1 - 1))
      rw [if_neg (by omega : ¬ i + 1 = 0), Nat.add_sub_cancel]
      by_cases z : i = 0
      · rw [if_pos z, z, p0]; exact e
      · rw [if_neg z]
        have := pe (i - 1) (by omega)
        rw [show i - 1 + 1 = i by omega] at this
        exact this
theorem p_Wk {E : Nat → Nat → Prop} : ∀ n (p : Nat → Nat), (∀ i, i < n → E (p i) (p (i + 1))) → Wk E n (p 0) (p n) := by
  intro n
  induction n with
  | zero => intro p _; rfl
  | succ n ih =>
    intro p h
    exact ⟨p 1, h 0 (by omega), ih (fun i => p (i + 1)) (fun i hi => h (i + 1) (by omega))⟩
theorem Wk_app {E : Nat → Nat → Prop} {k : Nat} {u t : Nat} : ∀ n s, Wk E n s u → Wk E k u t → Wk E (n + k) s t := by
  intro n
  induction n with
  | zero => intro s h h'; rw [Nat.zero_add]; rw [show s = u from h]; exact h'
  | succ n ih =>
    rintro s ⟨x, e, h⟩ h'
    rw [show n + 1 + k = (n + k) + 1 by omega]
    exact ⟨x, e, ih x h h'⟩
/-- the part of a path between two places -/
theorem p_seg {E : Nat → Nat → Prop} {p : Nat → Nat} {n : Nat} (h : ∀ i, i < n → E (p i) (p (i + 1))) {i j : Nat} (hij : i ≤ j) (hj : j ≤ n) : Wk E (j - i) (p i) (p j) := by
  have := p_Wk (E := E) (j - i) (fun k => p (i + k)) (fun k hk => h (i + k) (by omega))
  rw [show i + 0 = i from rfl, show i + (j - i) = j by omega] at this
  exact this
theorem Wk_cut {E : Nat → Nat → Prop} {p : Nat → Nat} {n : Nat} (h : ∀ i, i < n → E (p i) (p (i + 1))) {i j : Nat} (hij : i ≤ j) (hj : j ≤ n) (e : p i = p j) : Wk E (i + (n - j)) (p 0) (p n) := by
  have h1 := p_seg h (Nat.zero_le i) (Nat.le_trans hij hj)
  have h2 := p_seg h hj (Nat.le_refl n)
  rw [Nat.sub_zero, e] at h1
  exact Wk_app i _ h1 h2
theorem Wk_6 {E : Nat → Nat → Prop} (hE : ∀ u v, E u v → u < 5 ∧ v < 5) {s : Nat} (h : Wk E 6 s s) : ∃ k, 1 ≤ k ∧ k ≤ 5 ∧ Wk E k s s := by
  obtain ⟨p, p0, pn, pe⟩ := Wk_p 6 s s h
  obtain ⟨i, j, hij, hj, e⟩ := ph_two (C := 6) (D := 5) p (fun c hc => (hE _ _ (pe c hc)).1) (by omega)
  have := Wk_cut pe (Nat.le_of_lt hij) (by omega : j ≤ 6) e
  rw [p0, pn] at this
  exact ⟨i + (6 - j), by omega, by omega, this⟩
section endless
variable {f_openStates f_openBegin f_openEnd f_plainCount f_classes f_listed : Int32} {a_arrows a_begins a_finals a_openTo a_plainSet a_plainEnd a_plainNext a_classOf a_newClass a_differs a_waits a_members a_sideNext a_sideEnd a_sideCount a_joined a_image a_pairA a_pairB a_pairFrom a_pairLetter a_seen a_words a_more : Nat → Int32}
variable {y_order y_seen y_apart : Nat → Int32} {y_words : Nat → Int64}
def Ed (a : Nat → Int32) (m : Nat) (u v : Nat) : Prop := u < 5 ∧ (bt (a (10 * m + 2 * u + 0)) v = true ∨ bt (a (10 * m + 2 * u + 1)) v = true)
theorem Ed_5 {a : Nat → Int32} {m : Nat} (h : ∀ i, sm (a i)) (u v : Nat) (e : Ed a m u v) : u < 5 ∧ v < 5 := by
  refine ⟨e.1, ?_⟩
  rcases e.2 with z | z
  · exact sm_bit (h _) z
  · exact sm_bit (h _) z
theorem one_b {a : Nat → Int32} {m : Nat} {S : Int32} (v : Nat) : bt (one a m S) v = true ↔ ∃ u, bt S u = true ∧ Ed a m u v := by
  unfold one
  rw [b_or, Bool.or_eq_true, stp_b, stp_b]
  constructor
  · rintro (⟨s, hs, h1, h2⟩ | ⟨s, hs, h1, h2⟩)
    · exact ⟨s, h1, hs, Or.inl h2⟩
    · exact ⟨s, h1, hs, Or.inr h2⟩
  · rintro ⟨u, h1, hu, h2 | h2⟩
    · exact Or.inl ⟨u, hu, h1, h2⟩
    · exact Or.inr ⟨u, hu, h1, h2⟩
theorem sp_b {a : Nat → Int32} {m : Nat} (v : Nat) : ∀ n S, (bt (sp a m n S) v = true ↔ ∃ k u, k ≤ n ∧ bt S u = true ∧ Wk (Ed a m) k u v) := by
  intro n
  induction n with
  | zero =>
    intro S
    constructor
    · intro h; exact ⟨0, v, Nat.le_refl 0, h, rfl⟩
    · rintro ⟨k, u, hk, h, w⟩
      rw [show k = 0 by omega] at w
      rw [show v = u from w.symm]; exact h
  | succ n ih =>
    intro S
    show bt (sp a m n (S ||| one a m S)) v = true ↔ _
    rw [ih]
    constructor
    · rintro ⟨k, u, hk, h, w⟩
      rw [b_or, Bool.or_eq_true] at h
      rcases h with h | h
      · exact ⟨k, u, by omega, h, w⟩
      · obtain ⟨x, hx, e⟩ := (one_b u).mp h
        exact ⟨k + 1, x, by omega, hx, u, e, w⟩
    · rintro ⟨k, u, hk, h, w⟩
      rcases Nat.eq_zero_or_pos k with z | z
      · exact ⟨k, u, by omega, by rw [b_or, h]; rfl, w⟩
      · obtain ⟨k', rfl⟩ : ∃ k', k = k' + 1 := ⟨k - 1, by omega⟩
        obtain ⟨x, e, w'⟩ := w
        exact ⟨k', x, by omega, by rw [b_or, (one_b x).mpr ⟨u, h, e⟩, Bool.or_true], w'⟩
/-- Y: whether a letter after the other comes back to s -/
def bk (a : Nat → Int32) (m s : Nat) : Nat → Int32 → Bool → Bool
  | 0, _, b => b
  | n + 1, S, b => bk a m s n (one a m S) (b || bt (one a m S) s)
theorem bk_b {a : Nat → Int32} {m s : Nat} : ∀ n S b, (bk a m s n S b = true ↔ b = true ∨ ∃ k u, 1 ≤ k ∧ k ≤ n ∧ bt S u = true ∧ Wk (Ed a m) k u s) := by
  intro n
  induction n with
  | zero =>
    intro S b
    constructor
    · intro h; exact Or.inl h
    · rintro (h | ⟨k, u, h1, h2, _⟩)
      · exact h
      · omega
  | succ n ih =>
    intro S b
    show bk a m s n (one a m S) (b || bt (one a m S) s) = true ↔ _
    rw [ih, Bool.or_eq_true]
    constructor
    · rintro ((h | h) | ⟨k, u, h1, h2, h, w⟩)
      · exact Or.inl h
      · obtain ⟨x, hx, e⟩ := (one_b s).mp h
        exact Or.inr ⟨1, x, by omega, by omega, hx, s, e, rfl⟩
      · obtain ⟨x, hx, e⟩ := (one_b u).mp h
        exact Or.inr ⟨k + 1, x, by omega, by omega, hx, u, e, w⟩
    · rintro (h | ⟨k, u, h1, h2, h, w⟩)
      · exact Or.inl (Or.inl h)
      · obtain ⟨k', rfl⟩ : ∃ k', k = k' + 1 := ⟨k - 1, by omega⟩
        obtain ⟨x, e, w'⟩ := w
        have hx := (one_b x).mpr ⟨u, h, e⟩
        rcases Nat.eq_zero_or_pos k' with z | z
        · rw [z] at w'
          rw [show x = s from w'] at hx
          exact Or.inl (Or.inr hx)
        · exact Or.inr ⟨k', x, z, by omega, hx, w'⟩
theorem bk_sp {a : Nat → Int32} {m s : Nat} (h : ∀ i, sm (a i)) (hs : s < 5) : bk a m s 5 ((1 : Int32) <<< (nI s &&& 31)) false = bt (sp a m 5 (one a m ((1 : Int32) <<< (nI s &&& 31)))) s := by
  have h1 : ∀ u, bt ((1 : Int32) <<< (nI s &&& 31)) u = true → u = s := by
    intro u hu
    have : u < 5 := sm_bit (sm_one hs) hu
    rw [cb_one (by omega) (by omega), decide_eq_true_iff] at hu
    exact hu
  have h2 : bt ((1 : Int32) <<< (nI s &&& 31)) s = true := by rw [cb_one (by omega) (by omega), decide_eq_true_iff]
  apply Bool.eq_iff_iff.mpr
  rw [bk_b, sp_b]
  constructor
  · rintro (z | ⟨k, u, k1, k2, hu, w⟩)
    · exact absurd z (by decide)
    · obtain ⟨k', rfl⟩ : ∃ k', k = k' + 1 := ⟨k - 1, by omega⟩
      obtain ⟨x, e, w'⟩ := w
      exact ⟨k', x, by omega, (one_b x).mpr ⟨u, hu, e⟩, w'⟩
  · rintro ⟨k, x, hk, hx, w⟩
    obtain ⟨u, hu, e⟩ := (one_b x).mp hx
    have eu := h1 u hu
    rw [eu] at e
    rcases Nat.lt_or_ge k 5 with z | z
    · exact Or.inr ⟨k + 1, s, by omega, by omega, h2, x, e, w⟩
    · rw [show k = 5 by omega] at w
      have w6 : Wk (Ed a m) 6 s s := ⟨x, e, w⟩
      obtain ⟨q, q1, q2, wq⟩ := Wk_6 (Ed_5 h) w6
      exact Or.inr ⟨q, s, q1, q2, h2, wq⟩
theorem ye_in {post : Int32 → Prop} {J : Int32 → Int32 → Prop} {m s : Nat} {lv : Int32} {b : Bool} (hm : m < 2) (hs : s < 5) (hlv : ∀ post : Int32 → Prop, post lv → wpY_live post (a_arrows, a_begins, a_finals, y_order, y_seen, y_words, y_apart) (nI m)) : ∀ e n S c, n + e = 5 → J (bi (b || (bk a_arrows m s e S c && bt lv s))) (nI (s + 1)) → wY_endless_28 post J (nI m) (bi b) (nI s) a_arrows a_begins a_finals y_order y_seen y_words y_apart (e + 1) S (bi c) (nI n) := by
  intro e
  induction e with
  | zero =>
    intro n S c en h
    rw [show n = 5 by omega]
    refine br_t (by decide) (bi_z (fun hb => bi_z (fun hc => nm_r (nI_1 s) ?_) (fun hc => hlv _ (cb_o (by omega) (fun hl => nm_r (nI_1 s) ?_) (fun hl => nm_r (nI_1 s) ?_)))) (fun hb => nm_r (nI_1 s) ?_))
    · rw [hb, show bk a_arrows m s 0 S c = c from rfl, hc] at h; exact h
    · rw [hb, show bk a_arrows m s 0 S c = c from rfl, hc, hl] at h; exact h
    · rw [hb, show bk a_arrows m s 0 S c = c from rfl, hc, hl] at h; exact h
    · rw [hb] at h; exact h
  | succ e ih =>
    intro n S c en h
    refine br_f (lt5' n (by omega)) (ys_step (l := 0) hm (by omega) (ys_step (l := 1) hm (by omega) (nm_r (e' := one a_arrows m S) rfl (bi_z (fun hc => cb_o (by omega) (fun hb => nm_r (nI_1 n) ?_) (fun hb => nm_r (nI_1 n) ?_)) (fun hc => nm_r (nI_1 n) ?_)))))
    · exact ih (n + 1) _ true (by omega) (by rw [show bk a_arrows m s (e + 1) S c = bk a_arrows m s e (one a_arrows m S) (c || bt (one a_arrows m S) s) from rfl, hc, hb] at h; exact h)
    · exact ih (n + 1) _ false (by omega) (by rw [show bk a_arrows m s (e + 1) S c = bk a_arrows m s e (one a_arrows m S) (c || bt (one a_arrows m S) s) from rfl, hc, hb] at h; exact h)
    · exact ih (n + 1) _ true (by omega) (by rw [show bk a_arrows m s (e + 1) S c = bk a_arrows m s e (one a_arrows m S) (c || bt (one a_arrows m S) s) from rfl, hc] at h; exact h)
theorem en_loop {m : Nat} {lv : Int32} (hm : m < 2) (ok : Ok a_arrows a_begins a_finals) (hlv : ∀ post : Int32 → Prop, post lv → wpY_live post (a_arrows, a_begins, a_finals, y_order, y_seen, y_words, y_apart) (nI m)) : ∀ d s b, s + d = 5 → ∃ c : Bool, (∀ post : Int32 → Prop, post (bi c) → wX_endless_20 post (nI m) lv f_openStates f_openBegin f_openEnd f_plainCount f_classes f_listed a_arrows a_begins a_finals a_openTo a_plainSet a_plainEnd a_plainNext a_classOf a_newClass a_differs a_waits a_members a_sideNext a_sideEnd a_sideCount a_joined a_image a_pairA a_pairB a_pairFrom a_pairLetter a_seen a_words a_more (d + 1) (bi b) (nI s)) ∧ (∀ post : Int32 → Prop, post (bi c) → wY_endless_4 post (nI m) a_arrows a_begins a_finals y_order y_seen y_words y_apart (d + 1) (bi b) (nI s)) := by
  intro d
  induction d with
  | zero =>
    intro s b e
    rw [show s = 5 by omega]
    exact ⟨b, fun _ h => br_t (by decide) (And.intro (bi_n b) h), fun _ h => br_t (by decide) (And.intro (bi_n b) h)⟩
  | succ d ih =>
    intro s b e
    have hn := lt5' s (by omega)
    obtain ⟨c, hX, hY⟩ := ih (s + 1) (b || (bk a_arrows m s 5 ((1 : Int32) <<< (nI s &&& 31)) false && bt lv s)) (by omega)
    refine ⟨c, fun post h => br_f hn (xs_step (l := 0) hm (by omega) (xs_step (l := 1) hm (by omega) (nm_r (e' := one a_arrows m ((1 : Int32) <<< (nI s &&& 31))) rfl (xp_sp hm ?_)))), fun post h => br_f hn (ma_Yt hm (br_f bs_10 (nm_e (Exists.intro 6 (ye_in hm (by omega) hlv 5 0 _ false rfl (hY post h))))))⟩
    have X := hX post h
    rw [bk_sp ok.1 (by omega)] at X
    refine bi_z (fun hb => cb_z (by omega) (fun hl => nm_r (nI_1 s) ?_) (fun hl => cb_z (by omega) (fun hr => nm_r (nI_1 s) ?_) (fun hr => nm_r (nI_1 s) ?_))) (fun hb => nm_r (nI_1 s) ?_)
    · rw [hb, hl, Bool.and_false] at X; exact X
    · rw [hb, hl, hr] at X; exact X
    · rw [hb, hl, hr] at X; exact X
    · rw [hb] at X; exact X
theorem i_vc_endless {k : Nat} {u : SX} {v : SY} (I : i_Rel k u v) (hk : k + 5 ≤ 2560) (v1 : Int32) : wpX_endless (fun r => wpY_endless (fun r' => r' = r ∧ i_Rel (k + 5) u v) v v1) u v1 := by
  refine rel_el (P := fun u v => wpX_endless (fun r => wpY_endless (fun r' => r' = r ∧ i_Rel (k + 5) u v) v v1) u v1) ?_ I
  intro f_openStates f_openBegin f_openEnd f_plainCount f_classes f_listed a_arrows a_begins a_finals a_openTo a_plainSet a_plainEnd a_plainNext a_classOf a_newClass a_differs a_waits a_members a_sideNext a_sideEnd a_sideCount a_joined a_image a_pairA a_pairB a_pairFrom a_pairLetter a_seen a_words a_more y_order y_seen y_words y_apart ok
  have R : i_Rel (k + 5) (f_openStates, f_openBegin, f_openEnd, f_plainCount, f_classes, f_listed, a_arrows, a_begins, a_finals, a_openTo, a_plainSet, a_plainEnd, a_plainNext, a_classOf, a_newClass, a_differs, a_waits, a_members, a_sideNext, a_sideEnd, a_sideCount, a_joined, a_image, a_pairA, a_pairB, a_pairFrom, a_pairLetter, a_seen, a_words, a_more) (a_arrows, a_begins, a_finals, y_order, y_seen, y_words, y_apart) := rel_i ok
  rcases ma_c v1 with ⟨m, hm, rfl⟩ | hm
  · obtain ⟨lv, lX, lY⟩ := lv_all (f_openStates := f_openStates) (f_openBegin := f_openBegin) (f_openEnd := f_openEnd) (f_plainCount := f_plainCount) (f_classes := f_classes) (f_listed := f_listed) (a_arrows := a_arrows) (a_begins := a_begins) (a_finals := a_finals) (a_openTo := a_openTo) (a_plainSet := a_plainSet) (a_plainEnd := a_plainEnd) (a_plainNext := a_plainNext) (a_classOf := a_classOf) (a_newClass := a_newClass) (a_differs := a_differs) (a_waits := a_waits) (a_members := a_members) (a_sideNext := a_sideNext) (a_sideEnd := a_sideEnd) (a_sideCount := a_sideCount) (a_joined := a_joined) (a_image := a_image) (a_pairA := a_pairA) (a_pairB := a_pairB) (a_pairFrom := a_pairFrom) (a_pairLetter := a_pairLetter) (a_seen := a_seen) (a_words := a_words) (a_more := a_more) (y_order := y_order) (y_seen := y_seen) (y_words := y_words) (y_apart := y_apart) hm
    obtain ⟨c, hX, hY⟩ := en_loop (f_openStates := f_openStates) (f_openBegin := f_openBegin) (f_openEnd := f_openEnd) (f_plainCount := f_plainCount) (f_classes := f_classes) (f_listed := f_listed) (a_arrows := a_arrows) (a_begins := a_begins) (a_finals := a_finals) (a_openTo := a_openTo) (a_plainSet := a_plainSet) (a_plainEnd := a_plainEnd) (a_plainNext := a_plainNext) (a_classOf := a_classOf) (a_newClass := a_newClass) (a_differs := a_differs) (a_waits := a_waits) (a_members := a_members) (a_sideNext := a_sideNext) (a_sideEnd := a_sideEnd) (a_sideCount := a_sideCount) (a_joined := a_joined) (a_image := a_image) (a_pairA := a_pairA) (a_pairB := a_pairB) (a_pairFrom := a_pairFrom) (a_pairLetter := a_pairLetter) (a_seen := a_seen) (a_words := a_words) (a_more := a_more) (y_order := y_order) (y_seen := y_seen) (y_words := y_words) (y_apart := y_apart) hm ok lY 5 0 false rfl
    unfold wpX_endless wpY_endless
    dsimp only
    exact ma_Xt hm (br_f bs_10 (lX _ (Exists.intro 6 (hX _ (Exists.intro 6 (hY _ (And.intro rfl R)))))))
  · unfold wpX_endless wpY_endless
    dsimp only
    exact ma_Xf hm (br_t rfl (Exists.intro 1 (br_f (by decide) (ma_Yf hm (br_t rfl (And.intro rfl (And.intro rfl R)))))))
end endless
end
section
/-! machines that are opened: load, turned; turn -/
section opened
variable {f_openStates f_openBegin f_openEnd f_plainCount f_classes f_listed : Int32} {a_arrows a_begins a_finals a_openTo a_plainSet a_plainEnd a_plainNext a_classOf a_newClass a_differs a_waits a_members a_sideNext a_sideEnd a_sideCount a_joined a_image a_pairA a_pairB a_pairFrom a_pairLetter a_seen a_words a_more : Nat → Int32}
variable {y_order y_seen y_apart : Nat → Int32} {y_words : Nat → Int64}
theorem m2 (a : Nat) : nI a * 2 = nI (2 * a) := by
  show nI a * nI 2 = _
  rw [pk_mul]; exact congrArg nI (by omega)
theorem m2l (a l : Nat) : nI a * 2 + nI l = nI (2 * a + l) := by rw [m2, nI_add]
theorem m21 (a : Nat) : nI a * 2 + 1 = nI (2 * a + 1) := m2l a 1
theorem co_loop {post : SX → Prop} {K : Nat} (hK : K ≤ 32) (h : ∀ o : Nat → Int32, (∀ i, i < 2 * K → o i = 0) → post (f_openStates, f_openBegin, f_openEnd, f_plainCount, f_classes, f_listed, a_arrows, a_begins, a_finals, o, a_plainSet, a_plainEnd, a_plainNext, a_classOf, a_newClass, a_differs, a_waits, a_members, a_sideNext, a_sideEnd, a_sideCount, a_joined, a_image, a_pairA, a_pairB, a_pairFrom, a_pairLetter, a_seen, a_words, a_more)) : ∀ d i (o : Nat → Int32), i + d = 2 * K → (∀ j, j < i → o j = 0) → wX_clearOpen_7 post (nI K) f_openStates f_openBegin f_openEnd f_plainCount f_classes f_listed (d + 1) (nI i) a_arrows a_begins a_finals o a_plainSet a_plainEnd a_plainNext a_classOf a_newClass a_differs a_waits a_members a_sideNext a_sideEnd a_sideCount a_joined a_image a_pairA a_pairB a_pairFrom a_pairLetter a_seen a_words a_more := by
  intro d
  induction d with
  | zero =>
    intro i o e ho
    exact br_t (by rw [m2]; exact nI_le (by omega) (by omega)) (h o (fun j hj => ho j (by omega)))
  | succ d ih =>
    intro i o e ho
    refine br_f (by rw [m2]; exact nI_ge (by omega) (by omega)) (And.intro (vp_in_nI (by omega) (by omega)) (nm_r (e' := upd o i 0) (by rw [nI_clamp (by omega)]) (nm_r (nI_1 i) (ih (i + 1) _ (by omega) ?_))))
    intro j hj
    by_cases z : j = i
    · rw [z, pk_us]
    · rw [pk_un z]; exact ho j (by omega)
theorem co_clear {post : SX → Prop} {K : Nat} (hK : K ≤ 32) (h : ∀ o : Nat → Int32, (∀ i, i < 2 * K → o i = 0) → post (nI K, f_openBegin, f_openEnd, f_plainCount, f_classes, f_listed, a_arrows, a_begins, a_finals, o, a_plainSet, a_plainEnd, a_plainNext, a_classOf, a_newClass, a_differs, a_waits, a_members, a_sideNext, a_sideEnd, a_sideCount, a_joined, a_image, a_pairA, a_pairB, a_pairFrom, a_pairLetter, a_seen, a_words, a_more)) : wpX_clearOpen post (f_openStates, f_openBegin, f_openEnd, f_plainCount, f_classes, f_listed, a_arrows, a_begins, a_finals, a_openTo, a_plainSet, a_plainEnd, a_plainNext, a_classOf, a_newClass, a_differs, a_waits, a_members, a_sideNext, a_sideEnd, a_sideCount, a_joined, a_image, a_pairA, a_pairB, a_pairFrom, a_pairLetter, a_seen, a_words, a_more) (nI K) :=
  Exists.intro (2 * K + 1) (co_loop (f_openStates := nI K) hK h (2 * K) 0 a_openTo (by omega) (fun j hj => by omega))
theorem ld_loop {post : SX → Prop} {m : Nat} (hm : m < 2) (h : ∀ o : Nat → Int32, (∀ i, i < 10 → o i = a_arrows (10 * m + i)) → post (f_openStates, f_openBegin, f_openEnd, f_plainCount, f_classes, f_listed, a_arrows, a_begins, a_finals, o, a_plainSet, a_plainEnd, a_plainNext, a_classOf, a_newClass, a_differs, a_waits, a_members, a_sideNext, a_sideEnd, a_sideCount, a_joined, a_image, a_pairA, a_pairB, a_pairFrom, a_pairLetter, a_seen, a_words, a_more)) : ∀ d s (o : Nat → Int32), s + d = 5 → (∀ i, i < 2 * s → o i = a_arrows (10 * m + i)) → wX_load_27 post (nI m) f_openStates f_openBegin f_openEnd f_plainCount f_classes f_listed (d + 1) (nI s) a_arrows a_begins a_finals o a_plainSet a_plainEnd a_plainNext a_classOf a_newClass a_differs a_waits a_members a_sideNext a_sideEnd a_sideCount a_joined a_image a_pairA a_pairB a_pairFrom a_pairLetter a_seen a_words a_more := by
  intro d
  induction d with
  | zero =>
    intro s o e ho
    rw [show s = 5 by omega]
    exact br_t (by decide) (h o (fun i hi => ho i (by omega)))
  | succ d ih =>
    intro s o e ho
    refine br_f (lt5' s (by omega)) (xa_of (l := 0) hm (by omega) (by omega) ?_)
    rw [m2, nI_clamp (by omega)]
    refine And.intro (vp_in_nI (by omega) (by omega)) (nm_e (xa_of (l := 1) hm (by omega) (by omega) ?_))
    rw [nI_1 (2 * s), nI_clamp (by omega)]
    refine And.intro (vp_in_nI (by omega) (by omega)) (nm_e (nm_r (nI_1 s) (ih (s + 1) _ (by omega) ?_)))
    intro i hi
    by_cases z : i = 2 * s + 1
    · rw [z, pk_us]; rfl
    · rw [pk_un z]
      by_cases z2 : i = 2 * s
      · rw [z2, pk_us]; rfl
      · rw [pk_un z2]; exact ho i (by omega)
theorem ld_load {post : SX → Prop} {m : Nat} (hm : m < 2) (h : ∀ o : Nat → Int32, (∀ i, i < 10 → o i = a_arrows (10 * m + i)) → post (nI 5, a_begins m, a_finals m, f_plainCount, f_classes, f_listed, a_arrows, a_begins, a_finals, o, a_plainSet, a_plainEnd, a_plainNext, a_classOf, a_newClass, a_differs, a_waits, a_members, a_sideNext, a_sideEnd, a_sideCount, a_joined, a_image, a_pairA, a_pairB, a_pairFrom, a_pairLetter, a_seen, a_words, a_more)) : wpX_load post (f_openStates, f_openBegin, f_openEnd, f_plainCount, f_classes, f_listed, a_arrows, a_begins, a_finals, a_openTo, a_plainSet, a_plainEnd, a_plainNext, a_classOf, a_newClass, a_differs, a_waits, a_members, a_sideNext, a_sideEnd, a_sideCount, a_joined, a_image, a_pairA, a_pairB, a_pairFrom, a_pairLetter, a_seen, a_words, a_more) (nI m) := by
  unfold wpX_load
  dsimp only
  rw [nI_clamp (by omega)]
  exact And.intro (vp_in_nI hm (by omega)) (nm_e (And.intro (vp_in_nI hm (by omega)) (nm_e (Exists.intro 6 (ld_loop (f_openStates := nI 5) (f_openBegin := a_begins m) (f_openEnd := a_finals m) hm h 5 0 a_openTo rfl (fun i hi => by omega))))))
/-- the arrows turned around: what is in them -/
def Tn (a : Nat → Int32) (m : Nat) (o : Nat → Int32) : Prop := ∀ t, t < 5 → ∀ l, l < 2 → ∀ s, (bt (o (2 * t + l)) s = true ↔ s < 5 ∧ bt (a (10 * m + 2 * s + l)) t = true)
def tb (a : Nat → Int32) (m s l t : Nat) : Int32 := if bt (a (10 * m + 2 * s + l)) t = true then (1 : Int32) <<< (nI s &&& 31) else 0
theorem tb_b {a : Nat → Int32} {m s l t : Nat} (hs : s < 5) (i : Nat) : bt (tb a m s l t) i = true ↔ i = s ∧ bt (a (10 * m + 2 * s + l)) t = true := by
  unfold tb
  split
  · rename_i e
    rcases Nat.lt_or_ge i 32 with z | z
    · rw [cb_one (by omega) z, decide_eq_true_iff]; exact ⟨fun h => ⟨h, e⟩, fun h => h.1⟩
    · rw [b_big z]; exact ⟨fun h => absurd h (by decide), fun h => by omega⟩
  · rename_i e
    rw [b_0]; exact ⟨fun h => absurd h (by decide), fun h => absurd h.2 e⟩
theorem lt_step {post : SX → Prop} {J : Int32 → (Nat → Int32) → (Nat → Int32) → (Nat → Int32) → (Nat → Int32) → (Nat → Int32) → (Nat → Int32) → (Nat → Int32) → (Nat → Int32) → (Nat → Int32) → (Nat → Int32) → (Nat → Int32) → (Nat → Int32) → (Nat → Int32) → (Nat → Int32) → (Nat → Int32) → (Nat → Int32) → (Nat → Int32) → (Nat → Int32) → (Nat → Int32) → (Nat → Int32) → (Nat → Int32) → (Nat → Int32) → (Nat → Int32) → (Nat → Int32) → Prop} {m s t l n : Nat} {x2 : Int32} {o : Nat → Int32} (hm : m < 2) (hs : s < 5) (ht : t < 5) (hl : l < 2) (h : wX_loadTurned_45 post J (nI m) x2 (nI s) (nI t) f_openStates f_openBegin f_openEnd f_plainCount f_classes f_listed n (nI (l + 1)) a_arrows a_begins a_finals (upd o (2 * t + l) (o (2 * t + l) ||| tb a_arrows m s l t)) a_plainSet a_plainEnd a_plainNext a_classOf a_newClass a_differs a_waits a_members a_sideNext a_sideEnd a_sideCount a_joined a_image a_pairA a_pairB a_pairFrom a_pairLetter a_seen a_words a_more) : wX_loadTurned_45 post J (nI m) x2 (nI s) (nI t) f_openStates f_openBegin f_openEnd f_plainCount f_classes f_listed (n + 1) (nI l) a_arrows a_begins a_finals o a_plainSet a_plainEnd a_plainNext a_classOf a_newClass a_differs a_waits a_members a_sideNext a_sideEnd a_sideCount a_joined a_image a_pairA a_pairB a_pairFrom a_pairLetter a_seen a_words a_more := by
  have e1 : (nI t * 2 + nI l).toNatClampNeg = 2 * t + l := by rw [m2l, nI_clamp (by omega)]
  have v1 : vp_in (nI t * 2 + nI l) 64 := by rw [m2l]; exact vp_in_nI (by omega) (by omega)
  refine br_f (nI_ge (b := 2) hl (by omega)) (And.intro v1 (xa_of hm hs hl (cb_z (by omega) (fun hb => And.intro v1 (nm_r (e' := upd o (2 * t + l) (o (2 * t + l) ||| tb a_arrows m s l t)) ?_ (nm_r (nI_1 l) h))) (fun hb => And.intro v1 (nm_r (e' := upd o (2 * t + l) (o (2 * t + l) ||| tb a_arrows m s l t)) ?_ (nm_r (nI_1 l) h))))))
  · rw [e1, tb, if_neg (by rw [hb]; decide)]
  · rw [e1, tb, if_pos hb]
theorem lt_loop {post : SX → Prop} {m : Nat} (hm : m < 2) (h : ∀ o : Nat → Int32, Tn a_arrows m o → post (f_openStates, f_openBegin, f_openEnd, f_plainCount, f_classes, f_listed, a_arrows, a_begins, a_finals, o, a_plainSet, a_plainEnd, a_plainNext, a_classOf, a_newClass, a_differs, a_waits, a_members, a_sideNext, a_sideEnd, a_sideCount, a_joined, a_image, a_pairA, a_pairB, a_pairFrom, a_pairLetter, a_seen, a_words, a_more)) : ∀ d i (o : Nat → Int32), i + d = 25 → (∀ t, t < 5 → ∀ l, l < 2 → ∀ s, (bt (o (2 * t + l)) s = true ↔ s < 5 ∧ 5 * s + t < i ∧ bt (a_arrows (10 * m + 2 * s + l)) t = true)) → wX_loadTurned_27 post (nI m) f_openStates f_openBegin f_openEnd f_plainCount f_classes f_listed (d + 1) (nI i) a_arrows a_begins a_finals o a_plainSet a_plainEnd a_plainNext a_classOf a_newClass a_differs a_waits a_members a_sideNext a_sideEnd a_sideCount a_joined a_image a_pairA a_pairB a_pairFrom a_pairLetter a_seen a_words a_more := by
  intro d
  induction d with
  | zero =>
    intro i o e ho
    rw [show i = 25 by omega]
    refine br_t (by decide) (h o (fun t ht l hl s => ?_))
    rw [ho t ht l hl s]
    exact ⟨fun z => ⟨z.1, z.2.2⟩, fun z => ⟨z.1, by omega, z.2⟩⟩
  | succ d ih =>
    intro i o e ho
    have e1 : nI i / 5 = nI (i / 5) := pk_div (by omega) (by decide) (by decide)
    have e2 : nI i - nI i / 5 * 5 = nI (i % 5) := pk_rem (by omega) (by decide) (by decide)
    have hs : i / 5 < 5 := by omega
    have ht : i % 5 < 5 := by omega
    refine br_f (nI_ge (b := 25) (by omega) (by omega)) (And.intro (by decide) (nm_r e1 (And.intro (by decide) (nm_r e2 (Exists.intro 3 (lt_step (l := 0) hm hs ht (by omega) (lt_step (l := 1) hm hs ht (by omega) (br_t (by decide) (nm_r (nI_1 i) (ih (i + 1) _ (by omega) ?_))))))))))
    generalize hS : i / 5 = S at *
    generalize hT : i % 5 = T at *
    have hi : i = 5 * S + T := by omega
    intro t ht' l hl s
    by_cases z : t = T
    · subst z
      have h0 := ho t ht' 0 (by omega) s
      have h1 := ho t ht' 1 (by omega) s
      have key : ∀ l, l < 2 → (bt (o (2 * t + l) ||| tb a_arrows m S l t) s = true ↔ s < 5 ∧ 5 * s + t < i + 1 ∧ bt (a_arrows (10 * m + 2 * s + l)) t = true) := by
        intro l hl
        rw [b_or, Bool.or_eq_true, ho t ht' l hl s, tb_b hs]
        constructor
        · rintro (⟨a1, a2, a3⟩ | ⟨a1, a2⟩)
          · exact ⟨a1, by omega, a3⟩
          · subst a1; exact ⟨hs, by omega, a2⟩
        · rintro ⟨a1, a2, a3⟩
          by_cases y : s = S
          · subst y; exact Or.inr ⟨rfl, a3⟩
          · exact Or.inl ⟨a1, by omega, a3⟩
      rcases Nat.lt_or_ge l 1 with y | y
      · rw [show l = 0 by omega, pk_un (by omega), pk_us]
        exact key 0 (by omega)
      · rw [show l = 1 by omega, pk_us, pk_un (by omega)]
        exact key 1 (by omega)
    · rw [pk_un (by omega), pk_un (by omega), ho t ht' l hl s]
      constructor
      · rintro ⟨a1, a2, a3⟩; exact ⟨a1, by omega, a3⟩
      · rintro ⟨a1, a2, a3⟩; exact ⟨a1, by omega, a3⟩
theorem lt_turned {post : SX → Prop} {m : Nat} (hm : m < 2) (h : ∀ o : Nat → Int32, Tn a_arrows m o → post (nI 5, a_finals m, a_begins m, f_plainCount, f_classes, f_listed, a_arrows, a_begins, a_finals, o, a_plainSet, a_plainEnd, a_plainNext, a_classOf, a_newClass, a_differs, a_waits, a_members, a_sideNext, a_sideEnd, a_sideCount, a_joined, a_image, a_pairA, a_pairB, a_pairFrom, a_pairLetter, a_seen, a_words, a_more)) : wpX_loadTurned post (f_openStates, f_openBegin, f_openEnd, f_plainCount, f_classes, f_listed, a_arrows, a_begins, a_finals, a_openTo, a_plainSet, a_plainEnd, a_plainNext, a_classOf, a_newClass, a_differs, a_waits, a_members, a_sideNext, a_sideEnd, a_sideCount, a_joined, a_image, a_pairA, a_pairB, a_pairFrom, a_pairLetter, a_seen, a_words, a_more) (nI m) := by
  unfold wpX_loadTurned
  dsimp only
  refine co_clear (K := 5) (by omega) (fun o ho => ?_)
  dsimp only
  rw [nI_clamp (by omega)]
  refine And.intro (vp_in_nI hm (by omega)) (nm_e (And.intro (vp_in_nI hm (by omega)) (nm_e (Exists.intro 26 (lt_loop (f_openStates := nI 5) (f_openBegin := a_finals m) (f_openEnd := a_begins m) hm h 25 0 o rfl ?_)))))
  intro t ht l hl s
  rw [ho _ (by omega), b_0]
  exact ⟨fun z => absurd z (by decide), fun z => by omega⟩
/-! turn -/
def fill (a : Nat → Int32) (m : Nat) (N : Nat → Int32) : Nat → Nat → Int32
  | 0 => a
  | c + 1 => upd (fill a m N c) (10 * m + c) (N c)
theorem fill_ok {a : Nat → Int32} {m : Nat} {N : Nat → Int32} (h : ∀ i, sm (a i)) (hN : ∀ i, i < 10 → sm (N i)) : ∀ c, c ≤ 10 → ∀ i, sm (fill a m N c i) := by
  intro c
  induction c with
  | zero => intro _ i; exact h i
  | succ c ih =>
    intro hc i
    show sm (upd (fill a m N c) (10 * m + c) (N c) i)
    unfold upd
    split
    · exact hN c (by omega)
    · exact ih (by omega) i
theorem Tn_sm {a : Nat → Int32} {m : Nat} {o : Nat → Int32} (h : Tn a m o) (i : Nat) (hi : i < 10) : sm (o i) := by
  intro j hj
  cases e : bt (o i) j
  · rfl
  · rw [show i = 2 * (i / 2) + i % 2 by omega] at e
    have := ((h (i / 2) (by omega) (i % 2) (by omega) j).mp e).1
    omega
theorem tu_in {post : Int32 → SX → Prop} {J : Int32 → (Nat → Int32) → (Nat → Int32) → (Nat → Int32) → (Nat → Int32) → (Nat → Int32) → (Nat → Int32) → (Nat → Int32) → (Nat → Int32) → (Nat → Int32) → (Nat → Int32) → (Nat → Int32) → (Nat → Int32) → (Nat → Int32) → (Nat → Int32) → (Nat → Int32) → (Nat → Int32) → (Nat → Int32) → (Nat → Int32) → (Nat → Int32) → (Nat → Int32) → (Nat → Int32) → (Nat → Int32) → (Nat → Int32) → (Nat → Int32) → Prop} {m s l n : Nat} {ar : Nat → Int32} (hm : m < 2) (hs : s < 5) (hl : l < 2) (ho : sm (a_openTo (2 * s + l))) (h : wX_turn_23 post J (nI m) (nI s) f_openStates f_openBegin f_openEnd f_plainCount f_classes f_listed n (nI (l + 1)) (fill ar m a_openTo (2 * s + l + 1)) a_begins a_finals a_openTo a_plainSet a_plainEnd a_plainNext a_classOf a_newClass a_differs a_waits a_members a_sideNext a_sideEnd a_sideCount a_joined a_image a_pairA a_pairB a_pairFrom a_pairLetter a_seen a_words a_more) : wX_turn_23 post J (nI m) (nI s) f_openStates f_openBegin f_openEnd f_plainCount f_classes f_listed (n + 1) (nI l) (fill ar m a_openTo (2 * s + l)) a_begins a_finals a_openTo a_plainSet a_plainEnd a_plainNext a_classOf a_newClass a_differs a_waits a_members a_sideNext a_sideEnd a_sideCount a_joined a_image a_pairA a_pairB a_pairFrom a_pairLetter a_seen a_words a_more := by
  refine br_f (nI_ge (b := 2) hl (by omega)) ?_
  rw [m2l, ix_X, nI_clamp (by omega), nI_clamp (by omega), sm_w8 ho]
  refine And.intro (vp_in_nI (by omega) (by omega)) (And.intro (vp_in_nI (by omega) (by omega)) (nm_r (e' := fill ar m a_openTo (2 * s + l + 1)) ?_ (nm_r (nI_1 l) h)))
  show _ = upd (fill ar m a_openTo (2 * s + l)) (10 * m + (2 * s + l)) _
  rw [Nat.add_assoc]
theorem tu_out {post : Int32 → SX → Prop} {m : Nat} {ar : Nat → Int32} (hm : m < 2) (ho : ∀ i, i < 10 → sm (a_openTo i)) (hb : sm (a_begins m)) (hf : sm (a_finals m)) (h : post 1 (f_openStates, f_openBegin, f_openEnd, f_plainCount, f_classes, f_listed, fill ar m a_openTo 10, upd a_begins m (a_finals m), upd a_finals m (a_begins m), a_openTo, a_plainSet, a_plainEnd, a_plainNext, a_classOf, a_newClass, a_differs, a_waits, a_members, a_sideNext, a_sideEnd, a_sideCount, a_joined, a_image, a_pairA, a_pairB, a_pairFrom, a_pairLetter, a_seen, a_words, a_more)) : ∀ d s, s + d = 5 → wX_turn_16 post (nI m) f_openStates f_openBegin f_openEnd f_plainCount f_classes f_listed (d + 1) (nI s) (fill ar m a_openTo (2 * s)) a_begins a_finals a_openTo a_plainSet a_plainEnd a_plainNext a_classOf a_newClass a_differs a_waits a_members a_sideNext a_sideEnd a_sideCount a_joined a_image a_pairA a_pairB a_pairFrom a_pairLetter a_seen a_words a_more := by
  intro d
  induction d with
  | zero =>
    intro s e
    have hv : vp_in (nI m) 2 := vp_in_nI hm (by omega)
    rw [show s = 5 by omega]
    refine br_t (by decide) ?_
    rw [nI_clamp (by omega), sm_v8 hf]
    exact And.intro hv (nm_e (And.intro hv (And.intro hv (nm_e (And.intro hv (nm_r (e' := upd a_finals m (a_begins m)) (by rw [sm_v8 hb]) h))))))
  | succ d ih =>
    intro s e
    refine br_f (lt5' s (by omega)) (Exists.intro 3 (tu_in (l := 0) hm (by omega) (by omega) (ho _ (by omega)) (tu_in (l := 1) hm (by omega) (by omega) (ho _ (by omega)) (br_t (by decide) (nm_r (nI_1 s) ?_)))))
    exact ih (s + 1) (by omega)
theorem tu_X {post : Int32 → SX → Prop} {m : Nat} (hm : m < 2) (ok : Ok a_arrows a_begins a_finals) (h : ∀ o : Nat → Int32, Tn a_arrows m o → post 1 (nI 5, a_finals m, a_begins m, f_plainCount, f_classes, f_listed, fill a_arrows m o 10, upd a_begins m (a_finals m), upd a_finals m (a_begins m), o, a_plainSet, a_plainEnd, a_plainNext, a_classOf, a_newClass, a_differs, a_waits, a_members, a_sideNext, a_sideEnd, a_sideCount, a_joined, a_image, a_pairA, a_pairB, a_pairFrom, a_pairLetter, a_seen, a_words, a_more)) : wpX_turn post (f_openStates, f_openBegin, f_openEnd, f_plainCount, f_classes, f_listed, a_arrows, a_begins, a_finals, a_openTo, a_plainSet, a_plainEnd, a_plainNext, a_classOf, a_newClass, a_differs, a_waits, a_members, a_sideNext, a_sideEnd, a_sideCount, a_joined, a_image, a_pairA, a_pairB, a_pairFrom, a_pairLetter, a_seen, a_words, a_more) (nI m) := by
  unfold wpX_turn
  dsimp only
  refine ma_Xt hm (br_f bs_10 (lt_turned hm (fun o ho => ?_)))
  exact Exists.intro 6 (tu_out (ar := a_arrows) (a_openTo := o) hm (Tn_sm ho) (ok.2.1 m) (ok.2.2 m) (h o ho) 5 0 rfl)
/-! turn of the reference -/
theorem li_b {x : Int64} {i : Nat} (hi : i < 32) : bt x.toInt32 i = lb x i := by
  unfold bt lb
  rw [Int64.toBitVec_toInt32, BitVec.getLsbD_signExtend, decide_eq_true hi, Bool.true_and, if_pos (by omega)]
theorem b_31 (i : Nat) : bt 31 i = decide (i < 5) := by
  rcases Nat.lt_or_ge i 32 with h | h
  · exact (by decide +kernel : ∀ i, i < 32 → bt 31 i = decide (i < 5)) i h
  · rw [b_big h, decide_eq_false (by omega)]
def Al (a : Nat → Int32) (m : Nat) (x : Int64) : Prop := ∀ t, t < 5 → ∀ l, l < 2 → ∀ s, s < 5 → lb x (10 * t + 5 * l + s) = bt (a (10 * m + 2 * s + l)) t
theorem yt_val {a : Nat → Int32} {m : Nat} {x : Int64} {o : Nat → Int32} (hA : Al a m x) (hT : Tn a m o) {c : Nat} (hc : c < 10) : ((x >>> ((5 * nI c).toInt64 &&& 63)).toInt32) &&& 31 = o c := by
  apply sm_ext
  · intro i hi; rw [b_and, b_31, decide_eq_false (by omega), Bool.and_false]
  · exact Tn_sm hT c hc
  · intro i hi
    have e5 : (5 : Int32) * nI c = nI (5 * c) := pk_mul 5 c
    rw [b_and, b_31, decide_eq_true hi, Bool.and_true, li_b (by omega), e5, lb_shr (by omega) _ (by omega), if_pos (by omega)]
    have h1 := hA (c / 2) (by omega) (c % 2) (by omega) i hi
    have h2 := hT (c / 2) (by omega) (c % 2) (by omega) i
    rw [show 10 * (c / 2) + 5 * (c % 2) + i = 5 * c + i by omega] at h1
    rw [show 2 * (c / 2) + c % 2 = c by omega] at h2
    rw [h1]
    apply Bool.eq_iff_iff.mpr
    rw [h2]
    exact ⟨fun z => ⟨hi, z⟩, fun z => z.2⟩
theorem yt_out {post : Int32 → SY → Prop} {m : Nat} {x : Int64} {o ar : Nat → Int32} (hm : m < 2) (hA : Al ar m x) (hT : Tn ar m o) (h : post 1 (fill ar m o 10, upd a_begins m (a_finals m), upd a_finals m (a_begins m), y_order, y_seen, y_words, y_apart)) : ∀ d c, c + d = 10 → wY_turn_88 post (nI m) x (d + 1) (nI c) (fill ar m o c) a_begins a_finals y_order y_seen y_words y_apart := by
  intro d
  induction d with
  | zero =>
    intro c e
    have hv : vp_in (nI m) 2 := vp_in_nI hm (by omega)
    rw [show c = 10 by omega]
    refine br_t (by decide) ?_
    rw [nI_clamp (by omega)]
    exact And.intro hv (nm_e (And.intro hv (And.intro hv (nm_e (And.intro hv (nm_e h))))))
  | succ d ih =>
    intro c e
    have ei : (10 : Int32) * nI m + nI c = nI (10 * m + c) := by
      show nI 10 * nI m + nI c = _
      rw [pk_mul, nI_add]
    refine br_f (nI_ge (b := 10) (by omega) (by omega)) ?_
    rw [ei, yt_val hA hT (by omega), nI_clamp (by omega)]
    exact And.intro (vp_in_nI (by omega) (by omega)) (nm_r (e' := fill ar m o (c + 1)) rfl (nm_r (nI_1 c) (ih (c + 1) (by omega))))
theorem yt_in {post : Int32 → SY → Prop} {m : Nat} {o : Nat → Int32} (hm : m < 2) (hT : Tn a_arrows m o) (h : post 1 (fill a_arrows m o 10, upd a_begins m (a_finals m), upd a_finals m (a_begins m), y_order, y_seen, y_words, y_apart)) : ∀ d c x, c + d = 50 → (∀ t, t < 5 → ∀ l, l < 2 → ∀ s, s < 5 → (lb x (10 * t + 5 * l + s) = true ↔ 10 * s + 5 * l + t < c ∧ bt (a_arrows (10 * m + 2 * s + l)) t = true)) → wY_turn_15 post (nI m) a_arrows a_begins a_finals y_order y_seen y_words y_apart (d + 1) x (nI c) := by
  intro d
  induction d with
  | zero =>
    intro c x e hx
    rw [show c = 50 by omega]
    refine br_t (by decide) (Exists.intro 11 (yt_out (ar := a_arrows) hm ?_ hT h 10 0 rfl))
    intro t ht l hl s hs
    apply Bool.eq_iff_iff.mpr
    rw [hx t ht l hl s hs]
    exact ⟨fun z => z.2, fun z => ⟨by omega, z⟩⟩
  | succ d ih =>
    intro c x e hx
    have e1 : nI c / 10 = nI (c / 10) := pk_div (by omega) (by decide) (by decide)
    have e2 : nI c / 5 - nI c / 5 / 2 * 2 = nI (c / 5 % 2) := by
      rw [show nI c / 5 = nI (c / 5) from pk_div (by omega) (by decide) (by decide)]
      exact pk_rem (by omega) (by decide) (by decide)
    have e3 : nI c - nI c / 5 * 5 = nI (c % 5) := pk_rem (by omega) (by decide) (by decide)
    have hS : c / 10 < 5 := by omega
    have hL : c / 5 % 2 < 2 := by omega
    have hT' : c % 5 < 5 := by omega
    have hc : c = 10 * (c / 10) + 5 * (c / 5 % 2) + c % 5 := by omega
    refine br_f (nI_ge (b := 50) (by omega) (by omega)) (And.intro (by decide) (nm_r e1 (And.intro (by decide) (And.intro (by decide) (nm_r e2 (And.intro (by decide) (nm_r e3 (yh_has hm hS hL hT' (bi_z (fun hb => nm_r (nI_1 c) (ih (c + 1) x (by omega) ?_)) (fun hb => ?_))))))))))
    · generalize c / 10 = S at *
      generalize c / 5 % 2 = L at *
      generalize c % 5 = T at *
      intro t ht l hl s hs
      rw [hx t ht l hl s hs]
      constructor
      · rintro ⟨z1, z2⟩; exact ⟨by omega, z2⟩
      · rintro ⟨z1, z2⟩
        refine ⟨?_, z2⟩
        rcases Nat.lt_or_ge (10 * s + 5 * l + t) c with y | y
        · exact y
        · have a1 : s = S := by omega
          have a2 : l = L := by omega
          have a3 : t = T := by omega
          subst a1 a2 a3
          rw [hb] at z2
          exact absurd z2 (by decide)
    · have e4 : ((10 : Int32) * nI (c % 5) + 5 * nI (c / 5 % 2)) + nI (c / 10) = nI (10 * (c % 5) + 5 * (c / 5 % 2) + c / 10) := by
        show (nI 10 * nI (c % 5) + nI 5 * nI (c / 5 % 2)) + nI (c / 10) = _
        rw [pk_mul, pk_mul, nI_add, nI_add]
      rw [e4]
      refine nm_e (nm_r (nI_1 c) (ih (c + 1) _ (by omega) ?_))
      generalize c / 10 = S at *
      generalize c / 5 % 2 = L at *
      generalize c % 5 = T at *
      intro t ht l hl s hs
      rw [lb_or, Bool.or_eq_true, hx t ht l hl s hs, lb_one (by omega) (by omega), decide_eq_true_iff]
      constructor
      · rintro (⟨z1, z2⟩ | z)
        · exact ⟨by omega, z2⟩
        · have a1 : s = S := by omega
          have a2 : l = L := by omega
          have a3 : t = T := by omega
          subst a1 a2 a3
          exact ⟨by omega, hb⟩
      · rintro ⟨z1, z2⟩
        rcases Nat.lt_or_ge (10 * s + 5 * l + t) c with y | y
        · exact Or.inl ⟨y, z2⟩
        · exact Or.inr (by omega)
theorem tu_Y {post : Int32 → SY → Prop} {m : Nat} {o : Nat → Int32} (hm : m < 2) (hT : Tn a_arrows m o) (h : post 1 (fill a_arrows m o 10, upd a_begins m (a_finals m), upd a_finals m (a_begins m), y_order, y_seen, y_words, y_apart)) : wpY_turn post (a_arrows, a_begins, a_finals, y_order, y_seen, y_words, y_apart) (nI m) := by
  unfold wpY_turn
  dsimp only
  refine ma_Yt hm (br_f bs_10 (Exists.intro 51 (yt_in hm hT h 50 0 0 rfl ?_)))
  intro t ht l hl s hs
  rw [lb_0]
  exact ⟨fun z => absurd z (by decide), fun z => by omega⟩
theorem i_vc_turn {k : Nat} {u : SX} {v : SY} (I : i_Rel k u v) (hk : k + 5 ≤ 2560) (v1 : Int32) : wpX_turn (fun r u' => wpY_turn (fun r' v' => r' = r ∧ i_Rel (k + 5) u' v') v v1) u v1 := by
  refine rel_el (P := fun u v => wpX_turn (fun r u' => wpY_turn (fun r' v' => r' = r ∧ i_Rel (k + 5) u' v') v v1) u v1) ?_ I
  intro f_openStates f_openBegin f_openEnd f_plainCount f_classes f_listed a_arrows a_begins a_finals a_openTo a_plainSet a_plainEnd a_plainNext a_classOf a_newClass a_differs a_waits a_members a_sideNext a_sideEnd a_sideCount a_joined a_image a_pairA a_pairB a_pairFrom a_pairLetter a_seen a_words a_more y_order y_seen y_words y_apart ok
  rcases ma_c v1 with ⟨m, hm, rfl⟩ | hm
  · refine tu_X hm ok (fun o ho => tu_Y hm ho (And.intro rfl (rel_i ?_)))
    exact Ok_f (Ok_b ⟨fill_ok ok.1 (Tn_sm ho) 10 (by omega), ok.2⟩ (ok.2.2 m)) (ok.2.1 m)
  · unfold wpX_turn wpY_turn
    dsimp only
    exact ma_Xf hm (br_t rfl (ma_Yf hm (br_t rfl (And.intro rfl (rel_i ok)))))
end opened
end
section
/-! sets of states become the states of a plain machine -/
def os (o : Nat → Int32) (l : Nat) (S : Int32) : Nat → Int32
  | 0 => 0
  | s + 1 => if bt S s = true then os o l S s ||| o (2 * s + l) else os o l S s
theorem os_t {o : Nat → Int32} {l : Nat} {S : Int32} {s : Nat} (h : bt S s = true) : os o l S (s + 1) = os o l S s ||| o (2 * s + l) := if_pos h
theorem os_f {o : Nat → Int32} {l : Nat} {S : Int32} {s : Nat} (h : bt S s = false) : os o l S (s + 1) = os o l S s := if_neg (by rw [h]; decide)
def ost (o : Nat → Int32) (K l : Nat) (S : Int32) : Int32 := os o l S K
theorem os_b {o : Nat → Int32} {l : Nat} {S : Int32} (t : Nat) : ∀ k, (bt (os o l S k) t = true ↔ ∃ s, s < k ∧ bt S s = true ∧ bt (o (2 * s + l)) t = true) := by
  intro k
  induction k with
  | zero =>
    constructor
    · intro h; rw [show os o l S 0 = 0 from rfl, b_0] at h; exact absurd h (by decide)
    · rintro ⟨s, hs, _⟩; omega
  | succ k ih =>
    cases hb : bt S k
    · rw [os_f hb, ih]
      constructor
      · rintro ⟨s, hs, h⟩; exact ⟨s, by omega, h⟩
      · rintro ⟨s, hs, h⟩
        refine ⟨s, ?_, h⟩
        rcases Nat.lt_or_ge s k with z | z
        · exact z
        · rw [show s = k by omega, hb] at h
          exact absurd h.1 (by decide)
    · rw [os_t hb, b_or, Bool.or_eq_true, ih]
      constructor
      · rintro (⟨s, hs, h⟩ | h)
        · exact ⟨s, by omega, h⟩
        · exact ⟨k, by omega, hb, h⟩
      · rintro ⟨s, hs, h⟩
        rcases Nat.lt_or_ge s k with z | z
        · exact Or.inl ⟨s, z, h⟩
        · rw [show s = k by omega] at h
          exact Or.inr h.2
theorem ost_stp {o a : Nat → Int32} {m l : Nat} {S : Int32} (h : ∀ i, i < 10 → o i = a (10 * m + i)) (hl : l < 2) : ost o 5 l S = stp a m l S := by
  have key : ∀ k, k ≤ 5 → os o l S k = cs a m l S k := by
    intro k
    induction k with
    | zero => intro _; rfl
    | succ k ih =>
      intro hk
      cases hb : bt S k
      · rw [os_f hb, cs_f hb, ih (by omega)]
      · rw [os_t hb, cs_t hb, ih (by omega), h _ (by omega), Nat.add_assoc]
  exact key 5 (by omega)
/-- the invariant: N sets so far, the letters of the first c / 2 states done -/
def MP (G : Nat → Int32 → Int32) (B fin : Int32) (N : Nat) (ps pe pn : Nat → Int32) (c : Nat) : Prop :=
  0 < N ∧ N ≤ 32 ∧ ps 0 = B ∧ (∀ j, j < N → ∃ w, rn (fun b S => G b.toNat S) B w = ps j) ∧ (∀ j, j < N → ∀ k, k < N → ps j = ps k → j = k) ∧ (∀ j, j < N → pe j = bi (ht (ps j) fin)) ∧ (∀ c', c' < c → ∃ k, k < N ∧ pn c' = nI k ∧ ps k = G (c' % 2) (ps (c' / 2)))
/-- at most 32 sets are reached -/
def Bd (G : Nat → Int32 → Int32) (B : Int32) : Prop := ∀ (N : Nat) (ps : Nat → Int32), (∀ j, j < N → ∃ w, rn (fun b S => G b.toNat S) B w = ps j) → (∀ j, j < N → ∀ k, k < N → ps j = ps k → j = k) → N ≤ 32
theorem MP_old {G : Nat → Int32 → Int32} {B fin : Int32} {N : Nat} {ps pe pn : Nat → Int32} {c k : Nat} (h : MP G B fin N ps pe pn c) (hk : k < N) (e : ps k = G (c % 2) (ps (c / 2))) : MP G B fin N ps pe (upd pn c (nI k)) (c + 1) := by
  obtain ⟨h1, h2, h3, h4, h5, h6, h7⟩ := h
  refine ⟨h1, h2, h3, h4, h5, h6, ?_⟩
  intro c' hc'
  by_cases z : c' = c
  · rw [z, pk_us]; exact ⟨k, hk, rfl, e⟩
  · rw [pk_un z]; exact h7 c' (by omega)
theorem MP_new {G : Nat → Int32 → Int32} {B fin : Int32} (hB : Bd G B) {N : Nat} {ps pe pn : Nat → Int32} {c : Nat} (h : MP G B fin N ps pe pn c) (hc : c / 2 < N) (hn : ∀ i, i < N → ps i ≠ G (c % 2) (ps (c / 2))) : MP G B fin (N + 1) (upd ps N (G (c % 2) (ps (c / 2)))) (upd pe N (bi (ht (G (c % 2) (ps (c / 2))) fin))) (upd pn c (nI N)) (c + 1) := by
  obtain ⟨h1, h2, h3, h4, h5, h6, h7⟩ := h
  have r4 : ∀ j, j < N + 1 → ∃ w, rn (fun b S => G b.toNat S) B w = upd ps N (G (c % 2) (ps (c / 2))) j := by
    intro j hj
    by_cases z : j = N
    · rw [z, pk_us]
      obtain ⟨w, e⟩ := h4 _ hc
      have hl : (decide (c % 2 = 1)).toNat = c % 2 := by
        rcases Nat.mod_two_eq_zero_or_one c with y | y <;> rw [y] <;> rfl
      refine ⟨w ++ [decide (c % 2 = 1)], ?_⟩
      rw [rn_sn, e]
      show G (decide (c % 2 = 1)).toNat _ = _
      rw [hl]
    · rw [pk_un z]; exact h4 j (by omega)
  have r5 : ∀ j, j < N + 1 → ∀ k, k < N + 1 → upd ps N (G (c % 2) (ps (c / 2))) j = upd ps N (G (c % 2) (ps (c / 2))) k → j = k := by
    intro j hj k hk e
    by_cases z : j = N
    · by_cases y : k = N
      · omega
      · rw [z, pk_us, pk_un y] at e
        exact absurd e.symm (hn k (by omega))
    · by_cases y : k = N
      · rw [y, pk_us, pk_un z] at e
        exact absurd e (hn j (by omega))
      · rw [pk_un z, pk_un y] at e
        exact h5 j (by omega) k (by omega) e
  refine ⟨by omega, hB (N + 1) _ r4 r5, ?_, r4, r5, ?_, ?_⟩
  · rw [pk_un (by omega)]; exact h3
  · intro j hj
    by_cases z : j = N
    · rw [z, pk_us, pk_us]
    · rw [pk_un z, pk_un z]; exact h6 j (by omega)
  · intro c' hc'
    by_cases z : c' = c
    · rw [z, pk_us]
      exact ⟨N, by omega, rfl, by rw [pk_us, pk_un (by omega)]⟩
    · rw [pk_un z]
      obtain ⟨k, hk, e1, e2⟩ := h7 c' (by omega)
      refine ⟨k, by omega, e1, ?_⟩
      rw [pk_un (by omega)]
      have : c' / 2 < N := by omega
      rw [pk_un (by omega)]
      exact e2
section plain
variable {f_openStates f_openBegin f_openEnd f_plainCount f_classes f_listed : Int32} {a_arrows a_begins a_finals a_openTo a_plainSet a_plainEnd a_plainNext a_classOf a_newClass a_differs a_waits a_members a_sideNext a_sideEnd a_sideCount a_joined a_image a_pairA a_pairB a_pairFrom a_pairLetter a_seen a_words a_more : Nat → Int32}
theorem xo_loop {post : Int32 → Prop} {K l : Nat} {S : Int32} (hK : K ≤ 32) (hl : l < 2) (h : post (ost a_openTo K l S)) : ∀ d s, s + d = K → wX_openStep_5 post S (nI l) (nI K) f_openBegin f_openEnd f_plainCount f_classes f_listed a_arrows a_begins a_finals a_openTo a_plainSet a_plainEnd a_plainNext a_classOf a_newClass a_differs a_waits a_members a_sideNext a_sideEnd a_sideCount a_joined a_image a_pairA a_pairB a_pairFrom a_pairLetter a_seen a_words a_more (d + 1) (os a_openTo l S s) (nI s) := by
  intro d
  induction d with
  | zero =>
    intro s e
    rw [show s = K by omega]
    exact br_t (nI_le (Nat.le_refl K) (by omega)) h
  | succ d ih =>
    intro s e
    refine br_f (nI_ge (by omega) (by omega)) (cb_uz (by omega) (fun hb => nm_r (cb_or0 _) (nm_r (nI_1 s) ?_)) (fun hb => And.intro (by rw [m2l]; exact vp_in_nI (by omega) (by omega)) (nm_r (e' := os a_openTo l S (s + 1)) (by rw [m2l, nI_clamp (by omega), os_t hb]) (nm_r (nI_1 s) (ih (s + 1) (by omega))))))
    rw [← os_f (o := a_openTo) (l := l) hb]; exact ih (s + 1) (by omega)
theorem xo_step {post : Int32 → Prop} {K l : Nat} {S : Int32} (hK : K ≤ 32) (hl : l < 2) (h : post (ost a_openTo K l S)) : wpX_openStep post (nI K, f_openBegin, f_openEnd, f_plainCount, f_classes, f_listed, a_arrows, a_begins, a_finals, a_openTo, a_plainSet, a_plainEnd, a_plainNext, a_classOf, a_newClass, a_differs, a_waits, a_members, a_sideNext, a_sideEnd, a_sideCount, a_joined, a_image, a_pairA, a_pairB, a_pairFrom, a_pairLetter, a_seen, a_words, a_more) S (nI l) := Exists.intro (K + 1) (xo_loop hK hl h K 0 (by omega))
theorem sf_60 {post : Int32 → SX → Prop} {N : Nat} {b : Bool} (hN : N < 64) (h : post (nI N) (f_openStates, f_openBegin, f_openEnd, nI (N + 1), f_classes, f_listed, a_arrows, a_begins, a_finals, a_openTo, a_plainSet, upd a_plainEnd N (bi b), a_plainNext, a_classOf, a_newClass, a_differs, a_waits, a_members, a_sideNext, a_sideEnd, a_sideCount, a_joined, a_image, a_pairA, a_pairB, a_pairFrom, a_pairLetter, a_seen, a_words, a_more)) : wX_stateFor_60 post (nI N) (bi b) (nI N) f_openStates f_openBegin f_openEnd (nI N) f_classes f_listed a_arrows a_begins a_finals a_openTo a_plainSet a_plainEnd a_plainNext a_classOf a_newClass a_differs a_waits a_members a_sideNext a_sideEnd a_sideCount a_joined a_image a_pairA a_pairB a_pairFrom a_pairLetter a_seen a_words a_more := by
  unfold wX_stateFor_60
  rw [bi_v, nI_clamp (by omega)]
  exact And.intro (vp_in_nI hN (by omega)) (nm_e (nm_r (nI_1 N) h))
theorem sf_loop {post : Int32 → SX → Prop} {S : Int32} {N : Nat} (hN : N < 64) (h1 : ∀ i, i < N → a_plainSet i = S → post (nI i) (f_openStates, f_openBegin, f_openEnd, nI N, f_classes, f_listed, a_arrows, a_begins, a_finals, a_openTo, a_plainSet, a_plainEnd, a_plainNext, a_classOf, a_newClass, a_differs, a_waits, a_members, a_sideNext, a_sideEnd, a_sideCount, a_joined, a_image, a_pairA, a_pairB, a_pairFrom, a_pairLetter, a_seen, a_words, a_more)) (h2 : (∀ i, i < N → a_plainSet i ≠ S) → post (nI N) (f_openStates, f_openBegin, f_openEnd, nI (N + 1), f_classes, f_listed, a_arrows, a_begins, a_finals, a_openTo, upd a_plainSet N S, upd a_plainEnd N (bi (ht S f_openEnd)), a_plainNext, a_classOf, a_newClass, a_differs, a_waits, a_members, a_sideNext, a_sideEnd, a_sideCount, a_joined, a_image, a_pairA, a_pairB, a_pairFrom, a_pairLetter, a_seen, a_words, a_more)) : ∀ d i, i + d = N → (∀ j, j < i → a_plainSet j ≠ S) → wX_stateFor_2 post S f_openStates f_openBegin f_openEnd (nI N) f_classes f_listed a_arrows a_begins a_finals a_openTo a_plainSet a_plainEnd a_plainNext a_classOf a_newClass a_differs a_waits a_members a_sideNext a_sideEnd a_sideCount a_joined a_image a_pairA a_pairB a_pairFrom a_pairLetter a_seen a_words a_more (d + 1) (nI i) := by
  intro d
  induction d with
  | zero =>
    intro i e hj
    have ei : i = N := by omega
    subst ei
    refine br_t (nI_le (Nat.le_refl i) (by omega)) (br_t rfl ?_)
    rw [nI_clamp (by omega)]
    refine And.intro (vp_in_nI hN (by omega)) (nm_e (ht_z (fun hh => sf_60 (b := false) hN ?_) (fun hh => sf_60 (b := true) hN ?_)))
    · have := h2 hj; rw [hh] at this; exact this
    · have := h2 hj; rw [hh] at this; exact this
  | succ d ih =>
    intro i e hj
    refine br_f (nI_ge (by omega) (by omega)) ?_
    rw [nI_clamp (by omega)]
    refine And.intro (vp_in_nI (by omega) (by omega)) (br_c (fun z => br_f ?_ (h1 i (by omega) z)) (fun z => nm_r (nI_1 i) (ih (i + 1) (by omega) ?_)))
    · rw [nI_eq (by omega) (by omega)]; omega
    · intro j hj'
      by_cases y : j = i
      · rw [y]; exact z
      · exact hj j (by omega)
theorem sf_for {post : Int32 → SX → Prop} {S : Int32} {N : Nat} (hN : N < 64) (h1 : ∀ i, i < N → a_plainSet i = S → post (nI i) (f_openStates, f_openBegin, f_openEnd, nI N, f_classes, f_listed, a_arrows, a_begins, a_finals, a_openTo, a_plainSet, a_plainEnd, a_plainNext, a_classOf, a_newClass, a_differs, a_waits, a_members, a_sideNext, a_sideEnd, a_sideCount, a_joined, a_image, a_pairA, a_pairB, a_pairFrom, a_pairLetter, a_seen, a_words, a_more)) (h2 : (∀ i, i < N → a_plainSet i ≠ S) → post (nI N) (f_openStates, f_openBegin, f_openEnd, nI (N + 1), f_classes, f_listed, a_arrows, a_begins, a_finals, a_openTo, upd a_plainSet N S, upd a_plainEnd N (bi (ht S f_openEnd)), a_plainNext, a_classOf, a_newClass, a_differs, a_waits, a_members, a_sideNext, a_sideEnd, a_sideCount, a_joined, a_image, a_pairA, a_pairB, a_pairFrom, a_pairLetter, a_seen, a_words, a_more)) : wpX_stateFor post (f_openStates, f_openBegin, f_openEnd, nI N, f_classes, f_listed, a_arrows, a_begins, a_finals, a_openTo, a_plainSet, a_plainEnd, a_plainNext, a_classOf, a_newClass, a_differs, a_waits, a_members, a_sideNext, a_sideEnd, a_sideCount, a_joined, a_image, a_pairA, a_pairB, a_pairFrom, a_pairLetter, a_seen, a_words, a_more) S := Exists.intro (N + 1) (sf_loop hN h1 h2 N 0 (by omega) (fun j hj => by omega))
theorem mk_in {post : SX → Prop} {J : Int32 → Int32 → Int32 → Int32 → Int32 → Int32 → Int32 → (Nat → Int32) → (Nat → Int32) → (Nat → Int32) → (Nat → Int32) → (Nat → Int32) → (Nat → Int32) → (Nat → Int32) → (Nat → Int32) → (Nat → Int32) → (Nat → Int32) → (Nat → Int32) → (Nat → Int32) → (Nat → Int32) → (Nat → Int32) → (Nat → Int32) → (Nat → Int32) → (Nat → Int32) → (Nat → Int32) → (Nat → Int32) → (Nat → Int32) → (Nat → Int32) → (Nat → Int32) → (Nat → Int32) → (Nat → Int32) → Prop} {K i l n N : Nat} {ps pe pn : Nat → Int32} (hK : K ≤ 32) (hB : Bd (ost a_openTo K) f_openBegin) (hl : l < 2) (hi : i < N) (M : MP (ost a_openTo K) f_openBegin f_openEnd N ps pe pn (2 * i + l)) (h : ∀ (N' : Nat) (ps' pe' pn' : Nat → Int32), N ≤ N' → MP (ost a_openTo K) f_openBegin f_openEnd N' ps' pe' pn' (2 * i + (l + 1)) → wX_makePlain_26 post J (nI i) n (nI (l + 1)) (nI K) f_openBegin f_openEnd (nI N') f_classes f_listed a_arrows a_begins a_finals a_openTo ps' pe' pn' a_classOf a_newClass a_differs a_waits a_members a_sideNext a_sideEnd a_sideCount a_joined a_image a_pairA a_pairB a_pairFrom a_pairLetter a_seen a_words a_more) : wX_makePlain_26 post J (nI i) (n + 1) (nI l) (nI K) f_openBegin f_openEnd (nI N) f_classes f_listed a_arrows a_begins a_finals a_openTo ps pe pn a_classOf a_newClass a_differs a_waits a_members a_sideNext a_sideEnd a_sideCount a_joined a_image a_pairA a_pairB a_pairFrom a_pairLetter a_seen a_words a_more := by
  have hN : N ≤ 32 := M.2.1
  have c1 : (2 * i + l) % 2 = l := by omega
  have c2 : (2 * i + l) / 2 = i := by omega
  refine br_f (nI_ge (b := 2) hl (by omega)) ?_
  rw [nI_clamp (by omega)]
  refine And.intro (vp_in_nI (by omega) (by omega)) (xo_step hK hl (sf_for (by omega) (fun k hk e => ?_) (fun hn => ?_)))
  · have M' := MP_old M hk (by rw [c1, c2]; exact e)
    dsimp only
    rw [m2l, nI_clamp (by omega), bs_w8 (by omega)]
    exact And.intro (vp_in_nI (by omega) (by omega)) (nm_e (nm_r (nI_1 l) (h _ _ _ _ (Nat.le_refl N) M')))
  · have M' := MP_new hB M (by omega) (by rw [c1, c2]; exact hn)
    rw [c1, c2] at M'
    have hN' : N + 1 ≤ 32 := M'.2.1
    dsimp only
    rw [m2l, nI_clamp (by omega), bs_w8 (by omega)]
    exact And.intro (vp_in_nI (by omega) (by omega)) (nm_e (nm_r (nI_1 l) (h _ _ _ _ (Nat.le_succ N) M')))
theorem mk_out {post : SX → Prop} {K : Nat} (hK : K ≤ 32) (hB : Bd (ost a_openTo K) f_openBegin) (h : ∀ (N : Nat) (ps pe pn : Nat → Int32), MP (ost a_openTo K) f_openBegin f_openEnd N ps pe pn (2 * N) → post (nI K, f_openBegin, f_openEnd, nI N, f_classes, f_listed, a_arrows, a_begins, a_finals, a_openTo, ps, pe, pn, a_classOf, a_newClass, a_differs, a_waits, a_members, a_sideNext, a_sideEnd, a_sideCount, a_joined, a_image, a_pairA, a_pairB, a_pairFrom, a_pairLetter, a_seen, a_words, a_more)) : ∀ d i (N : Nat) (ps pe pn : Nat → Int32), i + d = 32 → i ≤ N → MP (ost a_openTo K) f_openBegin f_openEnd N ps pe pn (2 * i) → wX_makePlain_16 post (d + 1) (nI i) (nI K) f_openBegin f_openEnd (nI N) f_classes f_listed a_arrows a_begins a_finals a_openTo ps pe pn a_classOf a_newClass a_differs a_waits a_members a_sideNext a_sideEnd a_sideCount a_joined a_image a_pairA a_pairB a_pairFrom a_pairLetter a_seen a_words a_more := by
  intro d
  induction d with
  | zero =>
    intro i N ps pe pn e hi M
    have hN : N ≤ 32 := M.2.1
    have ei : i = N := by omega
    subst ei
    exact br_t (nI_le (Nat.le_refl i) (by omega)) (h _ _ _ _ M)
  | succ d ih =>
    intro i N ps pe pn e hi M
    have hN : N ≤ 32 := M.2.1
    by_cases z : i = N
    · subst z
      exact br_t (nI_le (Nat.le_refl i) (by omega)) (h _ _ _ _ M)
    · refine br_f (nI_ge (by omega) (by omega)) (Exists.intro 3 (mk_in (l := 0) hK hB (by omega) (by omega) M (fun N' ps' pe' pn' hN' M' => mk_in (l := 1) hK hB (by omega) (by omega) M' (fun N2 ps2 pe2 pn2 hN2 M2 => br_t (by decide) (nm_r (nI_1 i) (ih (i + 1) N2 ps2 pe2 pn2 (by omega) (by omega) M2))))))
theorem mk_plain {post : SX → Prop} {K : Nat} (hK : K ≤ 32) (hB : Bd (ost a_openTo K) f_openBegin) (h : ∀ (N : Nat) (ps pe pn : Nat → Int32), MP (ost a_openTo K) f_openBegin f_openEnd N ps pe pn (2 * N) → post (nI K, f_openBegin, f_openEnd, nI N, f_classes, f_listed, a_arrows, a_begins, a_finals, a_openTo, ps, pe, pn, a_classOf, a_newClass, a_differs, a_waits, a_members, a_sideNext, a_sideEnd, a_sideCount, a_joined, a_image, a_pairA, a_pairB, a_pairFrom, a_pairLetter, a_seen, a_words, a_more)) : wpX_makePlain post (nI K, f_openBegin, f_openEnd, f_plainCount, f_classes, f_listed, a_arrows, a_begins, a_finals, a_openTo, a_plainSet, a_plainEnd, a_plainNext, a_classOf, a_newClass, a_differs, a_waits, a_members, a_sideNext, a_sideEnd, a_sideCount, a_joined, a_image, a_pairA, a_pairB, a_pairFrom, a_pairLetter, a_seen, a_words, a_more) := by
  unfold wpX_makePlain
  dsimp only
  refine sf_for (N := 0) (by omega) (fun i hi => by omega) (fun _ => ?_)
  dsimp only
  refine Exists.intro 33 (mk_out hK hB h 32 0 1 _ _ _ rfl (by omega) ?_)
  refine ⟨by omega, by omega, pk_us, ?_, ?_, ?_, fun c' hc' => by omega⟩
  · intro j hj
    exact ⟨[], by rw [show j = 0 by omega, pk_us]; rfl⟩
  · intro j hj k hk _; omega
  · intro j hj
    rw [show j = 0 by omega, pk_us, pk_us]
end plain
/-! what the plain machine is -/
def nxf (pn : Nat → Int32) (b : Bool) (i : Nat) : Nat := (pn (2 * i + b.toNat)).toNatClampNeg
def enf (pe : Nat → Int32) (i : Nat) : Bool := decide (pe i = 1)
/-- the arrays hold the machine -/
def Tb (N : Nat) (nx : Bool → Nat → Nat) (en : Nat → Bool) (pe pn : Nat → Int32) : Prop := (∀ i, i < N → pe i = bi (en i)) ∧ (∀ i, i < N → ∀ b : Bool, pn (2 * i + b.toNat) = nI (nx b i))
/-- the sets of its states -/
def PS (g : Bool → Int32 → Int32) (B fin : Int32) (N : Nat) (nx : Bool → Nat → Nat) (en : Nat → Bool) (ps : Nat → Int32) : Prop :=
  ps 0 = B ∧ (∀ i, i < N → ∀ b, ps (nx b i) = g b (ps i)) ∧ (∀ j, j < N → ∀ k, k < N → ps j = ps k → j = k) ∧ (∀ i, i < N → en i = ht (ps i) fin)
theorem MP_all {G : Nat → Int32 → Int32} {B fin : Int32} {N : Nat} {ps pe pn : Nat → Int32} (M : MP G B fin N ps pe pn (2 * N)) : N ≤ 32 ∧ PD (fun w => ht (rn (fun b S => G b.toNat S) B w) fin = true) N (nxf pn) (enf pe) ∧ Tb N (nxf pn) (enf pe) pe pn ∧ PS (fun b S => G b.toNat S) B fin N (nxf pn) (enf pe) ps := by
  obtain ⟨h1, h2, h3, h4, h5, h6, h7⟩ := M
  have hx : ∀ i, i < N → ∀ b : Bool, nxf pn b i < N ∧ pn (2 * i + b.toNat) = nI (nxf pn b i) ∧ ps (nxf pn b i) = G b.toNat (ps i) := by
    intro i hi b
    have hb := tb_lt b
    obtain ⟨k, hk, e1, e2⟩ := h7 (2 * i + b.toNat) (by omega)
    have e3 : nxf pn b i = k := by unfold nxf; rw [e1, nI_clamp (by omega)]
    rw [show (2 * i + b.toNat) % 2 = b.toNat by omega, show (2 * i + b.toNat) / 2 = i by omega] at e2
    rw [e3]; exact ⟨hk, e1, e2⟩
  have he : ∀ i, i < N → enf pe i = ht (ps i) fin := by
    intro i hi
    unfold enf
    rw [h6 i hi]
    cases ht (ps i) fin <;> decide
  have hr : ∀ w : List Bool, rn (nxf pn) 0 w < N ∧ ps (rn (nxf pn) 0 w) = rn (fun b S => G b.toNat S) B w := by
    intro w
    refine rn_rel (δ := nxf pn) (ε := fun b S => G b.toNat S) (fun i S => i < N ∧ ps i = S) ?_ w 0 B ⟨h1, h3⟩
    rintro b i S ⟨hi, e⟩
    have := hx i hi b
    exact ⟨this.1, by rw [this.2.2, e]⟩
  refine ⟨h2, ⟨h1, fun i hi b => (hx i hi b).1, ?_, ?_⟩, ⟨?_, fun i hi b => (hx i hi b).2.1⟩, ⟨h3, fun i hi b => (hx i hi b).2.2, h5, he⟩⟩
  · intro w
    rw [he _ (hr w).1, (hr w).2]
  · intro i hi
    obtain ⟨w, e⟩ := h4 i hi
    refine ⟨w, h5 _ (hr w).1 i hi ?_⟩
    rw [(hr w).2, e]
  · intro i hi
    rw [h6 i hi, he i hi]
/-! a machine of five states -/
def Lg (a b f : Nat → Int32) (m : Nat) (w : List Bool) : Prop := ht (rn (gs a m) (b m) w) (f m) = true
theorem Bd_5 {a o : Nat → Int32} {m : Nat} {B : Int32} (ha : ∀ i, sm (a i)) (hb : sm B) (ho : ∀ i, i < 10 → o i = a (10 * m + i)) : Bd (ost o 5) B := by
  intro N ps h4 h5
  have hs : ∀ j, j < N → sm (ps j) := by
    intro j hj
    obtain ⟨w, e⟩ := h4 j hj
    rw [← e]
    refine rn_inv sm ?_ w B hb
    intro b S _
    show sm (ost o 5 b.toNat S)
    rw [ost_stp ho (tb_lt b)]
    exact stp_sm ha _ _ _
  refine ph_rel (fun j n => ps j = nI n) (fun j hj => sm_nat (hs j hj)) ?_
  intro c hc c' hc' d e1 e2
  exact h5 c hc c' hc' (e1.trans e2.symm)
theorem gs_eq {a o : Nat → Int32} {m : Nat} (ho : ∀ i, i < 10 → o i = a (10 * m + i)) : (fun (b : Bool) (S : Int32) => ost o 5 b.toNat S) = gs a m := by
  funext b S
  exact ost_stp ho (tb_lt b)
section plain2
variable {f_openStates f_openBegin f_openEnd f_plainCount f_classes f_listed : Int32} {a_arrows a_begins a_finals a_openTo a_plainSet a_plainEnd a_plainNext a_classOf a_newClass a_differs a_waits a_members a_sideNext a_sideEnd a_sideCount a_joined a_image a_pairA a_pairB a_pairFrom a_pairLetter a_seen a_words a_more : Nat → Int32}
/-- a machine loaded and made plain -/
theorem lm_plain {post : SX → Prop} {m : Nat} {o : Nat → Int32} (ok : Ok a_arrows a_begins a_finals) (ho : ∀ i, i < 10 → o i = a_arrows (10 * m + i)) (h : ∀ (N : Nat) (ps pe pn : Nat → Int32) (nx : Bool → Nat → Nat) (en : Nat → Bool), N ≤ 32 → PD (Lg a_arrows a_begins a_finals m) N nx en → Tb N nx en pe pn → PS (gs a_arrows m) (a_begins m) (a_finals m) N nx en ps → post (nI 5, a_begins m, a_finals m, nI N, f_classes, f_listed, a_arrows, a_begins, a_finals, o, ps, pe, pn, a_classOf, a_newClass, a_differs, a_waits, a_members, a_sideNext, a_sideEnd, a_sideCount, a_joined, a_image, a_pairA, a_pairB, a_pairFrom, a_pairLetter, a_seen, a_words, a_more)) : wpX_makePlain post (nI 5, a_begins m, a_finals m, f_plainCount, f_classes, f_listed, a_arrows, a_begins, a_finals, o, a_plainSet, a_plainEnd, a_plainNext, a_classOf, a_newClass, a_differs, a_waits, a_members, a_sideNext, a_sideEnd, a_sideCount, a_joined, a_image, a_pairA, a_pairB, a_pairFrom, a_pairLetter, a_seen, a_words, a_more) := by
  refine mk_plain (K := 5) (by omega) (Bd_5 ok.1 (ok.2.1 m) ho) (fun N ps pe pn M => ?_)
  have M' := MP_all M
  rw [gs_eq ho] at M'
  exact h N ps pe pn _ _ M'.1 M'.2.1 M'.2.2.1 M'.2.2.2
end plain2
end
section
/-! words counted: count, rank -/
def cw (nx : Bool → Nat → Nat) (en : Nat → Bool) : Nat → Nat → Nat
  | 0, i => (en i).toNat
  | n + 1, i => cw nx en n (nx false i) + cw nx en n (nx true i)
theorem Tb_0 {N : Nat} {nx : Bool → Nat → Nat} {en : Nat → Bool} {pe pn : Nat → Int32} (h : Tb N nx en pe pn) {i : Nat} (hi : i < N) : pn (2 * i) = nI (nx false i) := h.2 i hi false
theorem Tb_1 {N : Nat} {nx : Bool → Nat → Nat} {en : Nat → Bool} {pe pn : Nat → Int32} (h : Tb N nx en pe pn) {i : Nat} (hi : i < N) : pn (2 * i + 1) = nI (nx true i) := h.2 i hi true
theorem bi_N (b : Bool) : bi b = nI b.toNat := by cases b <;> rfl
section count
variable {f_openStates f_openBegin f_openEnd f_plainCount f_classes f_listed : Int32} {a_arrows a_begins a_finals a_openTo a_plainSet a_plainEnd a_plainNext a_classOf a_newClass a_differs a_waits a_members a_sideNext a_sideEnd a_sideCount a_joined a_image a_pairA a_pairB a_pairFrom a_pairLetter a_seen a_words a_more : Nat → Int32}
variable {y_order y_seen y_apart : Nat → Int32} {y_words : Nat → Int64}
theorem cb_96 {post : SX → Prop} {J : Int32 → (Nat → Int32) → (Nat → Int32) → (Nat → Int32) → (Nat → Int32) → (Nat → Int32) → (Nat → Int32) → (Nat → Int32) → (Nat → Int32) → (Nat → Int32) → (Nat → Int32) → (Nat → Int32) → (Nat → Int32) → (Nat → Int32) → (Nat → Int32) → (Nat → Int32) → (Nat → Int32) → (Nat → Int32) → (Nat → Int32) → (Nat → Int32) → (Nat → Int32) → (Nat → Int32) → (Nat → Int32) → (Nat → Int32) → (Nat → Int32) → Prop} {x1 : Int32} {N k : Nat} {mo : Nat → Int32} (hN : N ≤ 32) (h : ∀ w : Nat → Int32, (∀ j, j < N → w j = mo j) → J (nI (k + 1)) a_arrows a_begins a_finals a_openTo a_plainSet a_plainEnd a_plainNext a_classOf a_newClass a_differs a_waits a_members a_sideNext a_sideEnd a_sideCount a_joined a_image a_pairA a_pairB a_pairFrom a_pairLetter a_seen w mo) : ∀ d i (w : Nat → Int32), i + d = N → (∀ j, j < i → w j = mo j) → wX_countBack_96 post J x1 (nI k) f_openStates f_openBegin f_openEnd (nI N) f_classes f_listed (d + 1) (nI i) a_arrows a_begins a_finals a_openTo a_plainSet a_plainEnd a_plainNext a_classOf a_newClass a_differs a_waits a_members a_sideNext a_sideEnd a_sideCount a_joined a_image a_pairA a_pairB a_pairFrom a_pairLetter a_seen w mo := by
  intro d
  induction d with
  | zero =>
    intro i w e hw
    exact br_t (nI_le (by omega) (by omega)) (nm_r (nI_1 k) (h w (fun j hj => hw j (by omega))))
  | succ d ih =>
    intro i w e hw
    refine br_f (nI_ge (by omega) (by omega)) ?_
    rw [nI_clamp (by omega)]
    refine And.intro (vp_in_nI (by omega) (by omega)) (And.intro (vp_in_nI (by omega) (by omega)) (nm_e (nm_r (nI_1 i) (ih (i + 1) _ (by omega) ?_))))
    intro j hj
    by_cases z : j = i
    · rw [z, pk_us]
    · rw [pk_un z]; exact hw j (by omega)
theorem cb_45 {post : SX → Prop} {J : Int32 → (Nat → Int32) → (Nat → Int32) → (Nat → Int32) → (Nat → Int32) → (Nat → Int32) → (Nat → Int32) → (Nat → Int32) → (Nat → Int32) → (Nat → Int32) → (Nat → Int32) → (Nat → Int32) → (Nat → Int32) → (Nat → Int32) → (Nat → Int32) → (Nat → Int32) → (Nat → Int32) → (Nat → Int32) → (Nat → Int32) → (Nat → Int32) → (Nat → Int32) → (Nat → Int32) → (Nat → Int32) → (Nat → Int32) → (Nat → Int32) → Prop} {x1 : Int32} {N k : Nat} {nx : Bool → Nat → Nat} {en : Nat → Bool} {w : Nat → Int32} (hN : N ≤ 32) (hn : ∀ i, i < N → ∀ b, nx b i < N) (T : Tb N nx en a_plainEnd a_plainNext) (hw : ∀ j, j < N → w j = nI (cw nx en k j)) (h : ∀ w' mo : Nat → Int32, (∀ j, j < N → w' j = nI (cw nx en (k + 1) j)) → J (nI (k + 1)) a_arrows a_begins a_finals a_openTo a_plainSet a_plainEnd a_plainNext a_classOf a_newClass a_differs a_waits a_members a_sideNext a_sideEnd a_sideCount a_joined a_image a_pairA a_pairB a_pairFrom a_pairLetter a_seen w' mo) : ∀ d i (mo : Nat → Int32), i + d = N → (∀ j, j < i → mo j = nI (cw nx en (k + 1) j)) → wX_countBack_45 post J x1 (nI k) f_openStates f_openBegin f_openEnd (nI N) f_classes f_listed (d + 1) (nI i) a_arrows a_begins a_finals a_openTo a_plainSet a_plainEnd a_plainNext a_classOf a_newClass a_differs a_waits a_members a_sideNext a_sideEnd a_sideCount a_joined a_image a_pairA a_pairB a_pairFrom a_pairLetter a_seen w mo := by
  intro d
  induction d with
  | zero =>
    intro i mo e hm
    refine br_t (nI_le (by omega) (by omega)) (Exists.intro (N + 1) (cb_96 hN (fun w' hw' => h w' mo (fun j hj => ?_)) N 0 w (by omega) (fun j hj => by omega)))
    rw [hw' j hj, hm j (by omega)]
  | succ d ih =>
    intro i mo e hm
    have h0 := hn i (by omega) false
    have h1 := hn i (by omega) true
    refine br_f (nI_ge (by omega) (by omega)) ?_
    rw [m2, nI_1 (2 * i), nI_clamp (by omega), nI_clamp (by omega), nI_clamp (by omega), Tb_0 T (by omega), Tb_1 T (by omega), nI_clamp (by omega), nI_clamp (by omega), hw _ h0, hw _ h1, nI_add]
    refine And.intro (vp_in_nI (by omega) (by omega)) (And.intro (vp_in_nI (by omega) (by omega)) (And.intro (vp_in_nI (by omega) (by omega)) (And.intro (vp_in_nI (by omega) (by omega)) (And.intro (vp_in_nI (by omega) (by omega)) (nm_e (nm_r (nI_1 i) (ih (i + 1) _ (by omega) ?_)))))))
    intro j hj
    by_cases z : j = i
    · rw [z, pk_us]; rfl
    · rw [pk_un z]; exact hm j (by omega)
theorem cb_38 {post : SX → Prop} {N n : Nat} {nx : Bool → Nat → Nat} {en : Nat → Bool} (hN : N ≤ 32) (hnn : n < 2 ^ 31) (hn : ∀ i, i < N → ∀ b, nx b i < N) (T : Tb N nx en a_plainEnd a_plainNext) (h : ∀ w mo : Nat → Int32, (∀ j, j < N → w j = nI (cw nx en n j)) → post (f_openStates, f_openBegin, f_openEnd, nI N, f_classes, f_listed, a_arrows, a_begins, a_finals, a_openTo, a_plainSet, a_plainEnd, a_plainNext, a_classOf, a_newClass, a_differs, a_waits, a_members, a_sideNext, a_sideEnd, a_sideCount, a_joined, a_image, a_pairA, a_pairB, a_pairFrom, a_pairLetter, a_seen, w, mo)) : ∀ d k (w mo : Nat → Int32), k + d = n → (∀ j, j < N → w j = nI (cw nx en k j)) → wX_countBack_38 post (nI n) f_openStates f_openBegin f_openEnd (nI N) f_classes f_listed (d + 1) (nI k) a_arrows a_begins a_finals a_openTo a_plainSet a_plainEnd a_plainNext a_classOf a_newClass a_differs a_waits a_members a_sideNext a_sideEnd a_sideCount a_joined a_image a_pairA a_pairB a_pairFrom a_pairLetter a_seen w mo := by
  intro d
  induction d with
  | zero =>
    intro k w mo e hw
    have ek : k = n := by omega
    subst ek
    exact br_t (nI_le (by omega) (by omega)) (h w mo hw)
  | succ d ih =>
    intro k w mo e hw
    exact br_f (nI_ge (by omega) (by omega)) (Exists.intro (N + 1) (cb_45 hN hn T hw (fun w' mo' hw' => ih (k + 1) w' mo' (by omega) hw') N 0 mo (by omega) (fun j hj => by omega)))
theorem cb_2 {post : SX → Prop} {N n : Nat} {nx : Bool → Nat → Nat} {en : Nat → Bool} (hN : N ≤ 32) (hnn : n < 2 ^ 31) (hn : ∀ i, i < N → ∀ b, nx b i < N) (T : Tb N nx en a_plainEnd a_plainNext) (h : ∀ w mo : Nat → Int32, (∀ j, j < N → w j = nI (cw nx en n j)) → post (f_openStates, f_openBegin, f_openEnd, nI N, f_classes, f_listed, a_arrows, a_begins, a_finals, a_openTo, a_plainSet, a_plainEnd, a_plainNext, a_classOf, a_newClass, a_differs, a_waits, a_members, a_sideNext, a_sideEnd, a_sideCount, a_joined, a_image, a_pairA, a_pairB, a_pairFrom, a_pairLetter, a_seen, w, mo)) : ∀ d i (w : Nat → Int32), i + d = N → (∀ j, j < i → w j = nI (cw nx en 0 j)) → wX_countBack_2 post (nI n) f_openStates f_openBegin f_openEnd (nI N) f_classes f_listed (d + 1) (nI i) a_arrows a_begins a_finals a_openTo a_plainSet a_plainEnd a_plainNext a_classOf a_newClass a_differs a_waits a_members a_sideNext a_sideEnd a_sideCount a_joined a_image a_pairA a_pairB a_pairFrom a_pairLetter a_seen w a_more := by
  intro d
  induction d with
  | zero =>
    intro i w e hw
    exact br_t (nI_le (by omega) (by omega)) (Exists.intro (n + 1) (cb_38 hN hnn hn T h n 0 w a_more (by omega) (fun j hj => hw j (by omega))))
  | succ d ih =>
    intro i w e hw
    have key : ∀ j, j < i + 1 → upd w i (bi (en i)) j = nI (cw nx en 0 j) := by
      intro j hj
      by_cases z : j = i
      · rw [z, pk_us]; exact bi_N _
      · rw [pk_un z]; exact hw j (by omega)
    refine br_f (nI_ge (by omega) (by omega)) ?_
    rw [nI_clamp (by omega), T.1 i (by omega)]
    refine And.intro (vp_in_nI (by omega) (by omega)) (bi_z (fun hb => And.intro (vp_in_nI (by omega) (by omega)) (nm_e (nm_r (nI_1 i) (ih (i + 1) _ (by omega) ?_)))) (fun hb => And.intro (vp_in_nI (by omega) (by omega)) (nm_e (nm_r (nI_1 i) (ih (i + 1) _ (by omega) ?_)))))
    · rw [hb] at key; exact key
    · rw [hb] at key; exact key
theorem cb_all {post : SX → Prop} {N n : Nat} {nx : Bool → Nat → Nat} {en : Nat → Bool} (hN : N ≤ 32) (hnn : n < 2 ^ 31) (hn : ∀ i, i < N → ∀ b, nx b i < N) (T : Tb N nx en a_plainEnd a_plainNext) (h : ∀ w mo : Nat → Int32, (∀ j, j < N → w j = nI (cw nx en n j)) → post (f_openStates, f_openBegin, f_openEnd, nI N, f_classes, f_listed, a_arrows, a_begins, a_finals, a_openTo, a_plainSet, a_plainEnd, a_plainNext, a_classOf, a_newClass, a_differs, a_waits, a_members, a_sideNext, a_sideEnd, a_sideCount, a_joined, a_image, a_pairA, a_pairB, a_pairFrom, a_pairLetter, a_seen, w, mo)) : wpX_countBack post (f_openStates, f_openBegin, f_openEnd, nI N, f_classes, f_listed, a_arrows, a_begins, a_finals, a_openTo, a_plainSet, a_plainEnd, a_plainNext, a_classOf, a_newClass, a_differs, a_waits, a_members, a_sideNext, a_sideEnd, a_sideCount, a_joined, a_image, a_pairA, a_pairB, a_pairFrom, a_pairLetter, a_seen, a_words, a_more) (nI n) :=
  Exists.intro (N + 1) (cb_2 hN hnn hn T h N 0 a_words (by omega) (fun j hj => by omega))
/-! the reference's words -/
def cS (a : Nat → Int32) (m : Nat) (fin : Int32) : Nat → Int32 → Nat
  | 0, S => (ht S fin).toNat
  | n + 1, S => cS a m fin n (gs a m false S) + cS a m fin n (gs a m true S)
theorem cS_cw {a : Nat → Int32} {m N : Nat} {B fin : Int32} {nx : Bool → Nat → Nat} {en : Nat → Bool} {ps : Nat → Int32} (hn : ∀ i, i < N → ∀ b, nx b i < N) (P : PS (gs a m) B fin N nx en ps) : ∀ n i, i < N → cS a m fin n (ps i) = cw nx en n i := by
  intro n
  induction n with
  | zero => intro i hi; show (ht (ps i) fin).toNat = (en i).toNat; rw [P.2.2.2 i hi]
  | succ n ih =>
    intro i hi
    show cS a m fin n (gs a m false (ps i)) + cS a m fin n (gs a m true (ps i)) = cw nx en n (nx false i) + cw nx en n (nx true i)
    rw [← P.2.1 i hi false, ← P.2.1 i hi true, ih _ (hn i hi false), ih _ (hn i hi true)]
theorem tb_q {q n i : Nat} (hi : i < 2 ^ n) : (q * 2 ^ n + i).testBit n = decide (q % 2 = 1) := by
  rw [Nat.testBit_eq_decide_div_mod_eq, Nat.mul_comm, Nat.mul_add_div (Nat.two_pow_pos n), Nat.div_eq_of_lt hi, Nat.add_zero]
theorem cn_wr {a : Nat → Int32} {m : Nat} {fin : Int32} : ∀ n h S, cn (fun i => ht (wr a m (h * 2 ^ n + i) n S) fin) (2 ^ n) = cS a m fin n S := by
  intro n
  induction n with
  | zero => intro h S; show 0 + (ht S fin).toNat = _; rw [Nat.zero_add]; rfl
  | succ n ih =>
    intro h S
    have p : 2 ^ (n + 1) = 2 ^ n + 2 ^ n := by rw [Nat.pow_succ]; omega
    have a1 : ∀ i, h * 2 ^ (n + 1) + i = (2 * h) * 2 ^ n + i := by intro i; rw [Nat.pow_succ, Nat.mul_comm 2 h, Nat.mul_assoc, Nat.mul_comm 2]
    have a2 : ∀ i, h * 2 ^ (n + 1) + (2 ^ n + i) = (2 * h + 1) * 2 ^ n + i := by
      intro i
      rw [a1, Nat.add_mul, Nat.one_mul]; omega
    have e : cn (fun i => ht (wr a m (h * 2 ^ (n + 1) + i) (n + 1) S) fin) (2 ^ (n + 1)) = cn (fun i => ht (wr a m ((2 * h) * 2 ^ n + i) n (gs a m false S)) fin) (2 ^ n) + cn (fun i => ht (wr a m ((2 * h + 1) * 2 ^ n + i) n (gs a m true S)) fin) (2 ^ n) := by
      rw [p, cn_add, ← p]
      congr 1
      · apply cn_congr
        intro i hi
        show ht (wr a m (h * 2 ^ (n + 1) + i) n (gs a m ((h * 2 ^ (n + 1) + i).testBit n) S)) fin = _
        rw [a1, tb_q hi, decide_eq_false (by omega)]
      · apply cn_congr
        intro i hi
        show ht (wr a m (h * 2 ^ (n + 1) + (2 ^ n + i)) n (gs a m ((h * 2 ^ (n + 1) + (2 ^ n + i)).testBit n) S)) fin = _
        rw [a2, tb_q hi, decide_eq_true (by omega)]
    rw [e, ih, ih]; rfl
theorem yc_loop {post : Int32 → Prop} {m n : Nat} (hm : m < 2) (hn : n ≤ 12) (h : post (nI (cn (fun i => ht (wr a_arrows m (1 * 2 ^ n + i) n (a_begins m)) (a_finals m)) (2 ^ n)))) : ∀ d x, x + d = 2 ^ n → wY_count_27 post (nI m) (nI n) a_arrows a_begins a_finals y_order y_seen y_words y_apart (d + 1) (nI (cn (fun i => ht (wr a_arrows m (1 * 2 ^ n + i) n (a_begins m)) (a_finals m)) x)) (nI (1 * 2 ^ n + x)) := by
  have p1 : 2 ^ n ≤ 2 ^ 12 := Nat.pow_le_pow_right (by decide) hn
  have p2 : 2 ^ (n + 1) = 2 ^ n * 2 := Nat.pow_succ ..
  have e2 : (2 : Int32) <<< (nI n &&& 31) = nI (2 * 2 ^ n) := pk_shlN (n := 2) _ n (s_l n (by omega)) (by omega)
  intro d
  induction d with
  | zero =>
    intro x e
    refine br_t ?_ ?_
    · rw [e2]; exact nI_le (by omega) (by omega)
    · rw [show x = 2 ^ n by omega]; exact h
  | succ d ih =>
    intro x e
    refine br_f ?_ (yw_after hm (d := n) (by omega) (by omega) (by omega) (yg_ht hm ?_))
    · rw [e2]; exact nI_ge (by omega) (by omega)
    · have X := ih (x + 1) (by omega)
      rw [cn_s] at X
      refine bi_z (fun hb => nm_r (nI_1 _) ?_) (fun hb => nm_r (nI_1 _) (nm_r (nI_1 _) ?_))
      · rw [hb] at X; exact X
      · rw [hb] at X; exact X
theorem yc_count {post : Int32 → Prop} {m n : Nat} (hm : m < 2) (hn : n ≤ 12) (h : post (nI (cS a_arrows m (a_finals m) n (a_begins m)))) : wpY_count post (a_arrows, a_begins, a_finals, y_order, y_seen, y_words, y_apart) (nI m) (nI n) := by
  have p1 : 2 ^ n ≤ 2 ^ 12 := Nat.pow_le_pow_right (by decide) hn
  have e1 : (1 : Int32) <<< (nI n &&& 31) = nI (1 * 2 ^ n + 0) := pk_shlN (n := 1) _ n (s_l n (by omega)) (by omega)
  unfold wpY_count
  dsimp only
  refine ma_Yt hm (br_f bs_10 (br_f (nI_pos (by omega)) (br_t (nI_le (b := 12) hn (by omega)) (nm_r e1 (Exists.intro (2 ^ n + 1) (yc_loop hm hn ?_ (2 ^ n) 0 (by omega)))))))
  rw [cn_wr]; exact h
theorem i_vc_count {k : Nat} {u : SX} {v : SY} (I : i_Rel k u v) (hk : k + 5 ≤ 2560) (v1 : Int32) (v2 : Int32) : wpX_count (fun r u' => wpY_count (fun r' => r' = r ∧ i_Rel (k + 5) u' v) v v1 v2) u v1 v2 := by
  refine rel_el (P := fun u v => wpX_count (fun r u' => wpY_count (fun r' => r' = r ∧ i_Rel (k + 5) u' v) v v1 v2) u v1 v2) ?_ I
  intro f_openStates f_openBegin f_openEnd f_plainCount f_classes f_listed a_arrows a_begins a_finals a_openTo a_plainSet a_plainEnd a_plainNext a_classOf a_newClass a_differs a_waits a_members a_sideNext a_sideEnd a_sideCount a_joined a_image a_pairA a_pairB a_pairFrom a_pairLetter a_seen a_words a_more y_order y_seen y_words y_apart ok
  rcases ma_c v1 with ⟨m, hm, rfl⟩ | hm
  · rcases pk_ix v2 (n := 13) (by decide) with h2 | h2 | ⟨n, hn, rfl⟩
    · unfold wpX_count wpY_count
      dsimp only
      exact ma_Xt hm (br_f bs_10 (br_t h2 (ma_Yt hm (br_f bs_10 (br_t h2 (And.intro rfl (rel_i ok)))))))
    · have h3 : ¬ v2 ≤ 12 := by
        rw [Int32.le_iff_toInt_le, nI_toInt (by decide)] at h2
        rw [Int32.le_iff_toInt_le, show (12 : Int32).toInt = 12 from by decide]
        omega
      have h4 := v5_0 (by decide) h2
      unfold wpX_count wpY_count
      dsimp only
      exact ma_Xt hm (br_f bs_10 (br_f h4 (br_f h3 (ma_Yt hm (br_f bs_10 (br_f h4 (br_f h3 (And.intro rfl (rel_i ok)))))))))
    · unfold wpX_count
      dsimp only
      refine ma_Xt hm (br_f bs_10 (br_f (nI_pos (by omega)) (br_t (nI_le (b := 12) (by omega) (by omega)) (ld_load hm (fun o ho => lm_plain ok ho (fun N ps pe pn nx en hN hP T P => cb_all hN (by omega) hP.2.1 T (fun w mo hw => yc_count hm (by omega) ?_)))))))
      dsimp only
      refine And.intro ?_ (rel_i ok)
      rw [hw 0 hP.1, ← cS_cw hP.2.1 P n 0 hP.1, P.1]
  · unfold wpX_count wpY_count
    dsimp only
    exact ma_Xf hm (br_t rfl (ma_Yf hm (br_t rfl (And.intro rfl (rel_i ok)))))
/-! rank -/
def sl (nx : Bool → Nat → Nat) (en : Nat → Bool) : Nat → Nat
  | 0 => 0
  | n + 1 => sl nx en n + cw nx en n 0
def rk (nx : Bool → Nat → Nat) (en : Nat → Bool) (w : Nat) : Nat → Nat → Nat
  | 0, _ => 0
  | i + 1, s => (if w.testBit i = true then cw nx en i (nx false s) else 0) + rk nx en w i (nx (w.testBit i) s)
theorem xr_112 {post : Int32 → SX → Prop} {J : Int32 → Int32 → Int32 → Int32 → Int32 → Int32 → Int32 → Int32 → Int32 → (Nat → Int32) → (Nat → Int32) → (Nat → Int32) → (Nat → Int32) → (Nat → Int32) → (Nat → Int32) → (Nat → Int32) → (Nat → Int32) → (Nat → Int32) → (Nat → Int32) → (Nat → Int32) → (Nat → Int32) → (Nat → Int32) → (Nat → Int32) → (Nat → Int32) → (Nat → Int32) → (Nat → Int32) → (Nat → Int32) → (Nat → Int32) → (Nat → Int32) → (Nat → Int32) → (Nat → Int32) → (Nat → Int32) → (Nat → Int32) → Prop} {w i s N : Nat} {x4 : Int32} {nx : Bool → Nat → Nat} {en : Nat → Bool} (hw : w < 2 ^ 31) (hi : i < 32) (hN : N ≤ 32) (hs : s < N) (hn : ∀ i, i < N → ∀ b, nx b i < N) (T : Tb N nx en a_plainEnd a_plainNext) (h : J x4 (nI (nx (w.testBit i) s)) (nI i - 1) f_openStates f_openBegin f_openEnd f_plainCount f_classes f_listed a_arrows a_begins a_finals a_openTo a_plainSet a_plainEnd a_plainNext a_classOf a_newClass a_differs a_waits a_members a_sideNext a_sideEnd a_sideCount a_joined a_image a_pairA a_pairB a_pairFrom a_pairLetter a_seen a_words a_more) : wX_rank_112 post J (nI w) x4 (nI s) (nI i) f_openStates f_openBegin f_openEnd f_plainCount f_classes f_listed a_arrows a_begins a_finals a_openTo a_plainSet a_plainEnd a_plainNext a_classOf a_newClass a_differs a_waits a_members a_sideNext a_sideEnd a_sideCount a_joined a_image a_pairA a_pairB a_pairFrom a_pairLetter a_seen a_words a_more := by
  unfold wX_rank_112
  have hb := tb_lt (w.testBit i)
  rw [lt_w hw hi, m2l, nI_clamp (by omega), T.2 s hs]
  exact And.intro (vp_in_nI (by omega) (by omega)) (nm_e (nm_r (m1_s i) h))
theorem xr_73 {post : Int32 → SX → Prop} {w N T : Nat} {nx : Bool → Nat → Nat} {en : Nat → Bool} (hw : w < 2 ^ 31) (hN : N ≤ 32) (hn : ∀ i, i < N → ∀ b, nx b i < N) (hT : Tb N nx en a_plainEnd a_plainNext) (h : ∀ wo mo : Nat → Int32, post (nI T) (f_openStates, f_openBegin, f_openEnd, nI N, f_classes, f_listed, a_arrows, a_begins, a_finals, a_openTo, a_plainSet, a_plainEnd, a_plainNext, a_classOf, a_newClass, a_differs, a_waits, a_members, a_sideNext, a_sideEnd, a_sideCount, a_joined, a_image, a_pairA, a_pairB, a_pairFrom, a_pairLetter, a_seen, wo, mo)) : ∀ i s q (wo mo : Nat → Int32), i < 32 → s < N → q + rk nx en w i s = T → wX_rank_73 post (nI w) (i + 1) (nI q) (nI s) (nI i - 1) f_openStates f_openBegin f_openEnd (nI N) f_classes f_listed a_arrows a_begins a_finals a_openTo a_plainSet a_plainEnd a_plainNext a_classOf a_newClass a_differs a_waits a_members a_sideNext a_sideEnd a_sideCount a_joined a_image a_pairA a_pairB a_pairFrom a_pairLetter a_seen wo mo := by
  intro i
  induction i with
  | zero =>
    intro s q wo mo _ hs e
    have e' : q = T := e
    rw [e']
    exact br_t (by decide) (h wo mo)
  | succ i ih =>
    intro s q wo mo hi hs e
    have e' : q + ((if w.testBit i = true then cw nx en i (nx false s) else 0) + rk nx en w i (nx (w.testBit i) s)) = T := e
    rw [nI_pred]
    refine br_f (nI_pos (by omega)) (cb_z (by omega) (fun hb => ?_) (fun hb => ?_))
    · rw [cb_nI (by omega)] at hb
      rw [hb, if_neg (by decide), Nat.zero_add] at e'
      exact xr_112 hw (by omega) hN hs hn hT (ih _ q wo mo (by omega) (hn s hs _) (by rw [hb]; exact e'))
    · rw [cb_nI (by omega)] at hb
      rw [hb, if_pos rfl] at e'
      refine cb_all hN (by omega) hn hT (fun w' mo' hw' => ?_)
      dsimp only
      rw [m2, nI_clamp (by omega), Tb_0 hT hs, nI_clamp (by have := hn s hs false; omega), hw' _ (hn s hs false), nI_add]
      exact And.intro (vp_in_nI (by omega) (by omega)) (And.intro (vp_in_nI (by have := hn s hs false; omega) (by omega)) (nm_e (xr_112 hw (by omega) hN hs hn hT (ih _ _ w' mo' (by omega) (hn s hs _) (by rw [hb]; omega)))))
theorem xr_36 {post : Int32 → SX → Prop} {w N len : Nat} {nx : Bool → Nat → Nat} {en : Nat → Bool} (hw : w < 2 ^ 31) (hN : N ≤ 32) (h0 : 0 < N) (hl : len < 31) (hn : ∀ i, i < N → ∀ b, nx b i < N) (hT : Tb N nx en a_plainEnd a_plainNext) (h : ∀ wo mo : Nat → Int32, post (nI (sl nx en len + rk nx en w len 0)) (f_openStates, f_openBegin, f_openEnd, nI N, f_classes, f_listed, a_arrows, a_begins, a_finals, a_openTo, a_plainSet, a_plainEnd, a_plainNext, a_classOf, a_newClass, a_differs, a_waits, a_members, a_sideNext, a_sideEnd, a_sideCount, a_joined, a_image, a_pairA, a_pairB, a_pairFrom, a_pairLetter, a_seen, wo, mo)) : ∀ d n (wo mo : Nat → Int32), n + d = len → wX_rank_36 post (nI w) (nI len) (d + 1) (nI (sl nx en n)) (nI n) f_openStates f_openBegin f_openEnd (nI N) f_classes f_listed a_arrows a_begins a_finals a_openTo a_plainSet a_plainEnd a_plainNext a_classOf a_newClass a_differs a_waits a_members a_sideNext a_sideEnd a_sideCount a_joined a_image a_pairA a_pairB a_pairFrom a_pairLetter a_seen wo mo := by
  intro d
  induction d with
  | zero =>
    intro n wo mo e
    have en' : n = len := by omega
    subst en'
    exact br_t (nI_le (by omega) (by omega)) (nm_e (Exists.intro (n + 1) (xr_73 hw hN hn hT h n 0 (sl nx en n) wo mo (by omega) h0 rfl)))
  | succ d ih =>
    intro n wo mo e
    refine br_f (nI_ge (by omega) (by omega)) (cb_all hN (by omega) hn hT (fun w' mo' hw' => ?_))
    dsimp only
    rw [hw' 0 h0, nI_add]
    exact nm_e (nm_r (nI_1 n) (ih (n + 1) w' mo' (by omega)))
noncomputable def ll (w : Nat) : Nat := if h : 0 < w then (ln_ex h).choose else 0
theorem ll_s {w : Nat} (h : 0 < w) : 2 ^ ll w ≤ w ∧ w < 2 ^ (ll w + 1) := by
  unfold ll
  rw [dif_pos h]
  exact (ln_ex h).choose_spec
theorem ll_u {w d : Nat} (h1 : 2 ^ d ≤ w) (h2 : w < 2 ^ (d + 1)) : ll w = d := by
  have := ll_s (w := w) (by have := Nat.two_pow_pos d; omega)
  have a := ln_le h1 this.2
  have b := ln_le this.1 h2
  omega
noncomputable def ac (a : Nat → Int32) (m : Nat) (B fin : Int32) (w : Nat) : Bool := decide (0 < w) && ht (wr a m w (ll w) B) fin
theorem ac_q {a : Nat → Int32} {m : Nat} {B fin : Int32} {n i : Nat} (hi : i < 2 ^ n) : ac a m B fin (2 ^ n + i) = ht (wr a m (1 * 2 ^ n + i) n B) fin := by
  have := Nat.two_pow_pos n
  unfold ac
  rw [decide_eq_true (by omega), Bool.true_and, ll_u (d := n) (by omega) (by rw [Nat.pow_succ]; omega), Nat.one_mul]
theorem ac_sl {a : Nat → Int32} {m N : Nat} {B fin : Int32} {nx : Bool → Nat → Nat} {en : Nat → Bool} {ps : Nat → Int32} (h0 : 0 < N) (hn : ∀ i, i < N → ∀ b, nx b i < N) (P : PS (gs a m) B fin N nx en ps) : ∀ n, cn (ac a m B fin) (2 ^ n) = sl nx en n := by
  intro n
  induction n with
  | zero => show cn (ac a m B fin) 0 + (ac a m B fin 0).toNat = 0; unfold ac; rfl
  | succ n ih =>
    rw [show 2 ^ (n + 1) = 2 ^ n + 2 ^ n by rw [Nat.pow_succ]; omega, cn_add, ih]
    show _ = sl nx en n + cw nx en n 0
    rw [cn_congr (2 ^ n) (fun i hi => ac_q hi), cn_wr, ← cS_cw hn P n 0 h0, P.1]
theorem ac_rk {a : Nat → Int32} {m N w : Nat} {B fin : Int32} {nx : Bool → Nat → Nat} {en : Nat → Bool} {ps : Nat → Int32} (hn : ∀ i, i < N → ∀ b, nx b i < N) (P : PS (gs a m) B fin N nx en ps) : ∀ n h s, s < N → cn (fun i => ht (wr a m (h * 2 ^ n + i) n (ps s)) fin) (w % 2 ^ n) = rk nx en w n s := by
  intro n
  induction n with
  | zero => intro h s hs; rw [Nat.pow_zero, Nat.mod_one]; rfl
  | succ n ih =>
    intro h s hs
    have a1 : ∀ i, h * 2 ^ (n + 1) + i = (2 * h) * 2 ^ n + i := by intro i; rw [Nat.pow_succ, Nat.mul_comm 2 h, Nat.mul_assoc, Nat.mul_comm 2]
    have a2 : ∀ i, h * 2 ^ (n + 1) + (2 ^ n + i) = (2 * h + 1) * 2 ^ n + i := by
      intro i
      rw [a1, Nat.add_mul, Nat.one_mul]; omega
    have f1 : ∀ i, i < 2 ^ n → ht (wr a m (h * 2 ^ (n + 1) + i) (n + 1) (ps s)) fin = ht (wr a m ((2 * h) * 2 ^ n + i) n (ps (nx false s))) fin := by
      intro i hi
      show ht (wr a m (h * 2 ^ (n + 1) + i) n (gs a m ((h * 2 ^ (n + 1) + i).testBit n) (ps s))) fin = _
      rw [a1, tb_q hi, decide_eq_false (by omega), P.2.1 s hs false]
    have f2 : ∀ i, i < 2 ^ n → ht (wr a m (h * 2 ^ (n + 1) + (2 ^ n + i)) (n + 1) (ps s)) fin = ht (wr a m ((2 * h + 1) * 2 ^ n + i) n (ps (nx true s))) fin := by
      intro i hi
      show ht (wr a m (h * 2 ^ (n + 1) + (2 ^ n + i)) n (gs a m ((h * 2 ^ (n + 1) + (2 ^ n + i)).testBit n) (ps s))) fin = _
      rw [a2, tb_q hi, decide_eq_true (by omega), P.2.1 s hs true]
    have hm : w % 2 ^ n < 2 ^ n := Nat.mod_lt _ (Nat.two_pow_pos n)
    have hb := Nat.toNat_testBit w n
    show _ = (if w.testBit n = true then cw nx en n (nx false s) else 0) + rk nx en w n (nx (w.testBit n) s)
    rw [Nat.mod_pow_succ, ← hb]
    cases e : w.testBit n
    · rw [if_neg (by decide), Nat.zero_add]
      have e0 : w % 2 ^ n + 2 ^ n * false.toNat = w % 2 ^ n := by show _ + 2 ^ n * 0 = _; omega
      rw [e0, cn_congr _ (fun i hi => f1 i (by omega)), ih (2 * h) _ (hn s hs false)]
    · rw [if_pos rfl]
      show cn _ (w % 2 ^ n + 2 ^ n * 1) = _
      rw [Nat.mul_one, Nat.add_comm (w % 2 ^ n), cn_add, cn_congr (2 ^ n) f1, cn_congr (w % 2 ^ n) (fun i hi => f2 i (by omega)), ih (2 * h + 1) _ (hn s hs true), cn_wr, cS_cw hn P n _ (hn s hs false)]
theorem ac_all {a : Nat → Int32} {m N w len : Nat} {B fin : Int32} {nx : Bool → Nat → Nat} {en : Nat → Bool} {ps : Nat → Int32} (h0 : 0 < N) (hn : ∀ i, i < N → ∀ b, nx b i < N) (P : PS (gs a m) B fin N nx en ps) (h1 : 2 ^ len ≤ w) (h2 : w < 2 ^ (len + 1)) : cn (ac a m B fin) w = sl nx en len + rk nx en w len 0 := by
  have p := Nat.pow_succ (n := 2) (m := len)
  have e : w = 2 ^ len + w % 2 ^ len := by
    have : w % 2 ^ len = w - 2 ^ len := by
      rw [Nat.mod_eq_sub_mod h1, Nat.mod_eq_of_lt (by omega)]
    omega
  have hm : w % 2 ^ len < 2 ^ len := Nat.mod_lt _ (Nat.two_pow_pos len)
  have := ac_rk (w := w) hn P len 1 0 h0
  rw [P.1] at this
  rw [← this, ← ac_sl h0 hn P len]
  conv => lhs; rw [e]
  rw [cn_add, cn_congr (w % 2 ^ len) (fun i hi => ac_q (by omega))]
theorem yr_loop {post : Int32 → Prop} {m w : Nat} (hm : m < 2) (hw : w < 2048) (h : post (nI (cn (ac a_arrows m (a_begins m) (a_finals m)) w))) : ∀ d x, x + d = w → 0 < x → wY_rank_23 post (nI m) (nI w) a_arrows a_begins a_finals y_order y_seen y_words y_apart (d + 1) (nI (cn (ac a_arrows m (a_begins m) (a_finals m)) x)) (nI x) := by
  intro d
  induction d with
  | zero =>
    intro x e hx
    rw [show x = w by omega]
    exact br_t (nI_le (Nat.le_refl w) (by omega)) h
  | succ d ih =>
    intro x e hx
    have X := ih (x + 1) (by omega) (by omega)
    rw [cn_s] at X
    have hl := ll_s hx
    have ea : ac a_arrows m (a_begins m) (a_finals m) x = ht (wr a_arrows m x (ll x) (a_begins m)) (a_finals m) := by
      unfold ac; rw [decide_eq_true hx, Bool.true_and]
    rw [ea] at X
    refine br_f (nI_ge (by omega) (by omega)) (yw_after hm hl.1 hl.2 (by omega) (yg_ht hm (bi_z (fun hb => nm_r (nI_1 _) ?_) (fun hb => nm_r (nI_1 _) (nm_r (nI_1 _) ?_)))))
    · rw [hb] at X; exact X
    · rw [hb] at X; exact X
theorem i_vc_rank {k : Nat} {u : SX} {v : SY} (I : i_Rel k u v) (hk : k + 5 ≤ 2560) (v1 : Int32) (v2 : Int32) : wpX_rank (fun r u' => wpY_rank (fun r' => r' = r ∧ i_Rel (k + 5) u' v) v v1 v2) u v1 v2 := by
  refine rel_el (P := fun u v => wpX_rank (fun r u' => wpY_rank (fun r' => r' = r ∧ i_Rel (k + 5) u' v) v v1 v2) u v1 v2) ?_ I
  intro f_openStates f_openBegin f_openEnd f_plainCount f_classes f_listed a_arrows a_begins a_finals a_openTo a_plainSet a_plainEnd a_plainNext a_classOf a_newClass a_differs a_waits a_members a_sideNext a_sideEnd a_sideCount a_joined a_image a_pairA a_pairB a_pairFrom a_pairLetter a_seen a_words a_more y_order y_seen y_words y_apart ok
  unfold wpX_rank wpY_rank
  dsimp only
  rcases ma_c v1 with ⟨m, hm, rfl⟩ | hm
  · refine ma_Xt hm (br_f bs_10 ?_)
    rcases wo_c v2 with hw | ⟨hw, hw2⟩ | ⟨w, hw0, hw1, rfl⟩
    · exact wo_X1 hw (br_t rfl (ma_Yt hm (br_f bs_10 (wo_Y1 hw (br_t rfl (And.intro rfl (rel_i ok)))))))
    · exact wo_X2 hw hw2 (br_t rfl (ma_Yt hm (br_f bs_10 (wo_Y2 hw hw2 (br_t rfl (And.intro rfl (rel_i ok)))))))
    · obtain ⟨d, hd1, hd2⟩ := ln_ex hw0
      have hd : d < 11 := ln_le hd1 hw1
      refine wo_Xt hw0 hw1 (br_f bs_10 (ld_load hm (fun o ho => lm_plain ok ho (fun N ps pe pn nx en hN hP T P => xl_len hd1 hd2 (by omega) ?_))))
      refine Exists.intro (d + 1) (xr_36 (by omega) hN hP.1 (by omega) hP.2.1 T (fun wo mo => ?_) d 0 a_words a_more (by omega))
      refine ma_Yt hm (br_f bs_10 (wo_Yt hw0 hw1 (br_f bs_10 (Exists.intro w (?_ : wY_rank_23 _ _ _ a_arrows a_begins a_finals y_order y_seen y_words y_apart w 0 1)))))
      have key := yr_loop (post := fun r' => r' = nI (sl nx en d + rk nx en w d 0) ∧ i_Rel (k + 5) (nI 5, a_begins m, a_finals m, nI N, f_classes, f_listed, a_arrows, a_begins, a_finals, o, ps, pe, pn, a_classOf, a_newClass, a_differs, a_waits, a_members, a_sideNext, a_sideEnd, a_sideCount, a_joined, a_image, a_pairA, a_pairB, a_pairFrom, a_pairLetter, a_seen, wo, mo) (a_arrows, a_begins, a_finals, y_order, y_seen, y_words, y_apart)) (a_arrows := a_arrows) (a_begins := a_begins) (a_finals := a_finals) (y_order := y_order) (y_seen := y_seen) (y_words := y_words) (y_apart := y_apart) hm hw1 (And.intro (by rw [ac_all hP.1 hP.2.1 P hd1 hd2]) (rel_i ok)) (w - 1) 1 (by omega) (by omega)
      rw [show w - 1 + 1 = w by omega] at key
      have e0 : nI (cn (ac a_arrows m (a_begins m) (a_finals m)) 1) = 0 := by
        show nI (0 + (ac a_arrows m (a_begins m) (a_finals m) 0).toNat) = 0
        unfold ac; rfl
      rw [e0] at key
      exact key
  · exact ma_Xf hm (br_t rfl (ma_Yf hm (br_t rfl (And.intro rfl (rel_i ok)))))
end count
end
section
/-! relations that part ever more; words that are short; the reference's size -/
noncomputable def bd (p : Prop) : Bool := @decide p (Classical.propDecidable p)
theorem bd_t {p : Prop} : bd p = true ↔ p := by unfold bd; exact @decide_eq_true_iff p (Classical.propDecidable p)
theorem bd_f {p : Prop} : bd p = false ↔ ¬ p := by unfold bd; exact @decide_eq_false_iff_not p (Classical.propDecidable p)
/-- first of its class -/
def rp (R : Nat → Nat → Prop) (x : Nat) : Prop := ∀ y, y < x → ¬ R y x
noncomputable def rc (R : Nat → Nat → Prop) (n : Nat) : Nat := cn (fun x => bd (rp R x)) n
theorem rp_ex (R : Nat → Nat → Prop) (rf : ∀ x, R x x) (tr : ∀ x y z, R x y → R y z → R x z) (x : Nat) : ∃ y, y ≤ x ∧ R y x ∧ rp R y := by
  obtain ⟨y, hy, hl⟩ := pk_least (fun y => R y x) ⟨x, rf x⟩
  refine ⟨y, ?_, hy, ?_⟩
  · rcases Nat.lt_or_ge x y with z | z
    · exact absurd (rf x) (hl x z)
    · exact z
  · intro z hz h
    exact hl z hz (tr z y x h hy)
theorem rc_le {R R' : Nat → Nat → Prop} (h : ∀ x y, R' x y → R x y) (n : Nat) : rc R n ≤ rc R' n :=
  cn_mono n (fun _ _ hi => bd_t.mpr (fun y hy hr => bd_t.mp hi y hy (h _ _ hr)))
theorem rc_eq {R R' : Nat → Nat → Prop} (rf : ∀ x, R' x x) (sy : ∀ x y, R x y → R y x) (tr : ∀ x y z, R x y → R y z → R x z) (sy' : ∀ x y, R' x y → R' y x) (tr' : ∀ x y z, R' x y → R' y z → R' x z) (h : ∀ x y, R' x y → R x y) {n : Nat} (e : rc R' n ≤ rc R n) : ∀ x, x < n → ∀ y, y < n → R x y → R' x y := by
  have hrp : ∀ x, x < n → rp R' x → rp R x := by
    intro x hx hr
    apply Classical.byContradiction
    intro hn
    have : rc R n < rc R' n := by
      refine cn_lt n (fun _ _ hi => bd_t.mpr (fun y hy hr => bd_t.mp hi y hy (h _ _ hr))) ⟨x, hx, bd_f.mpr hn, bd_t.mpr hr⟩
    omega
  intro x hx y hy r
  obtain ⟨x', hx', ex, rx⟩ := rp_ex R' rf tr' x
  obtain ⟨y', hy', ey, ry⟩ := rp_ex R' rf tr' y
  have rx2 := hrp x' (by omega) rx
  have ry2 := hrp y' (by omega) ry
  have rxy : R x' y' := tr _ _ _ (h _ _ ex) (tr _ _ _ r (sy _ _ (h _ _ ey)))
  have e : x' = y' := by
    rcases Nat.lt_trichotomy x' y' with z | z | z
    · exact absurd rxy (ry2 x' z)
    · exact z
    · exact absurd (sy _ _ rxy) (rx2 y' z)
  rw [e] at ex
  exact tr' _ _ _ (sy' _ _ ex) ey
theorem rc_1 (R : Nat → Nat → Prop) {n : Nat} (hn : 0 < n) : 1 ≤ rc R n := by
  have h1 : rc R 1 = 1 := by
    show 0 + (bd (rp R 0)).toNat = 1
    have h : bd (rp R 0) = true := bd_t.mpr (fun y hy => absurd hy (Nat.not_lt_zero y))
    rw [h]; rfl
  have h2 : rc R 1 ≤ rc R n := cn_up _ hn
  omega
/-- alike for words of at most k letters -/
def Ek (nx : Bool → Nat → Nat) (en : Nat → Bool) (k : Nat) (x y : Nat) : Prop := ∀ v : List Bool, v.length ≤ k → en (rn nx x v) = en (rn nx y v)
theorem Ek_s {nx : Bool → Nat → Nat} {en : Nat → Bool} {k x y : Nat} (h : Ek nx en (k + 1) x y) (b : Bool) : Ek nx en k (nx b x) (nx b y) := by
  intro v hv
  exact h (b :: v) (by rw [List.length_cons]; omega)
theorem Ek_stab {nx : Bool → Nat → Nat} {en : Nat → Bool} {n k : Nat} (hn : ∀ i, i < n → ∀ b, nx b i < n) (h : ∀ x, x < n → ∀ y, y < n → Ek nx en k x y → Ek nx en (k + 1) x y) : ∀ x, x < n → ∀ y, y < n → Ek nx en k x y → EqS nx en x y := by
  intro x hx y hy e v
  refine EqS_of (N := n) (fun x y => Ek nx en k x y) hn ?_ v x hx y hy e
  intro i hi j hj r
  exact ⟨r [] (by simp), fun b => Ek_s (h i hi j hj r) b⟩
theorem Ek_all {nx : Bool → Nat → Nat} {en : Nat → Bool} {n : Nat} (hn : ∀ i, i < n → ∀ b, nx b i < n) (h0 : 0 < n) : ∀ x, x < n → ∀ y, y < n → Ek nx en n x y → EqS nx en x y := by
  have hmono : ∀ k j x y, Ek nx en (k + j) x y → Ek nx en k x y := fun k j x y h v hv => h v (by omega)
  have key : ∃ k, k < n ∧ ∀ x, x < n → ∀ y, y < n → Ek nx en k x y → Ek nx en (k + 1) x y := by
    apply Classical.byContradiction
    intro hc
    have grow : ∀ k, k ≤ n → k + 1 ≤ rc (Ek nx en k) n := by
      intro k
      induction k with
      | zero => intro _; exact rc_1 _ h0
      | succ k ih =>
        intro hk
        have h1 := ih (by omega)
        rcases Nat.lt_or_ge (rc (Ek nx en k) n) (rc (Ek nx en (k + 1)) n) with z | z
        · omega
        · exfalso
          apply hc
          refine ⟨k, by omega, ?_⟩
          exact rc_eq (fun x v _ => rfl) (fun x y h v hv => (h v hv).symm) (fun x y z h h' v hv => (h v hv).trans (h' v hv)) (fun x y h v hv => (h v hv).symm) (fun x y z h h' v hv => (h v hv).trans (h' v hv)) (fun x y h => hmono k 1 x y h) z
    have := grow n (Nat.le_refl n)
    have h2 : rc (Ek nx en n) n ≤ n := cn_le _ n
    omega
  obtain ⟨k, hk, hs⟩ := key
  intro x hx y hy e
  refine Ek_stab hn hs x hx y hy ?_
  rw [show n = k + (n - k) by omega] at e
  exact hmono k (n - k) x y e
/-- what a word reaches a word of less than n letters reaches -/
theorem sh_w {nx : Bool → Nat → Nat} {n s : Nat} (hn : ∀ i, i < n → ∀ b, nx b i < n) (hs : s < n) : ∀ (k : Nat) (w : List Bool), w.length ≤ k → ∃ w' : List Bool, w'.length < n ∧ rn nx s w' = rn nx s w := by
  intro k
  induction k with
  | zero => intro w hw; exact ⟨w, by omega, rfl⟩
  | succ k ih =>
    intro w hw
    rcases Nat.lt_or_ge w.length n with z | z
    · exact ⟨w, z, rfl⟩
    · obtain ⟨i, j, hij, hj, e⟩ := ph_two (C := n + 1) (D := n) (fun i => rn nx s (w.take i)) (fun c _ => rn_inv (fun i => i < n) (fun b s hs => hn s hs b) _ s hs) (by omega)
      have e' : rn nx s (w.take i) = rn nx s (w.take j) := e
      have e2 : rn nx s (w.take i ++ w.drop j) = rn nx s w := by
        rw [rn_app, e', ← rn_app, List.take_append_drop]
      have hl : (w.take i ++ w.drop j).length ≤ k := by
        rw [List.length_append, List.length_take, List.length_drop]; omega
      obtain ⟨w', h1, h2⟩ := ih _ hl
      exact ⟨w', h1, h2.trans e2⟩
/-- the places that are counted, in a row -/
theorem cn_en (p : Nat → Bool) : ∀ n, ∃ f : Nat → Nat, (∀ c, c < cn p n → f c < n ∧ p (f c) = true) ∧ (∀ c, c < cn p n → ∀ d, d < cn p n → f c = f d → c = d) ∧ (∀ x, x < n → p x = true → ∃ c, c < cn p n ∧ f c = x) := by
  intro n
  induction n with
  | zero => exact ⟨fun _ => 0, fun c hc => absurd hc (Nat.not_lt_zero c), fun c hc => absurd hc (Nat.not_lt_zero c), fun x hx => absurd hx (Nat.not_lt_zero x)⟩
  | succ n ih =>
    obtain ⟨f, h1, h2, h3⟩ := ih
    cases e : p n
    · have ec : cn p (n + 1) = cn p n := by rw [cn_s, e]; rfl
      rw [ec]
      refine ⟨f, fun c hc => ⟨by have := (h1 c hc).1; omega, (h1 c hc).2⟩, h2, fun x hx hp => h3 x ?_ hp⟩
      rcases Nat.lt_or_ge x n with z | z
      · exact z
      · rw [show x = n by omega, e] at hp; exact absurd hp (by decide)
    · have ec : cn p (n + 1) = cn p n + 1 := by rw [cn_s, e]; rfl
      rw [ec]
      refine ⟨fun c => if c = cn p n then n else f c, ?_, ?_, ?_⟩
      · intro c hc
        show (if c = cn p n then n else f c) < n + 1 ∧ p (if c = cn p n then n else f c) = true
        by_cases z : c = cn p n
        · rw [if_pos z]; exact ⟨by omega, e⟩
        · rw [if_neg z]; have := h1 c (by omega); exact ⟨by omega, this.2⟩
      · intro c hc d hd
        show (if c = cn p n then n else f c) = (if d = cn p n then n else f d) → c = d
        by_cases z : c = cn p n
        · by_cases y : d = cn p n
          · intro _; omega
          · rw [if_pos z, if_neg y]; intro q; have := (h1 d (by omega)).1; omega
        · by_cases y : d = cn p n
          · rw [if_neg z, if_pos y]; intro q; have := (h1 c (by omega)).1; omega
          · rw [if_neg z, if_neg y]; exact h2 c (by omega) d (by omega)
      · intro x hx hp
        rcases Nat.lt_or_ge x n with z | z
        · obtain ⟨c, hc, q⟩ := h3 x z hp
          refine ⟨c, by omega, ?_⟩
          show (if c = cn p n then n else f c) = x
          rw [if_neg (by omega)]; exact q
        · refine ⟨cn p n, by omega, ?_⟩
          show (if cn p n = cn p n then n else f (cn p n)) = x
          rw [if_pos rfl]; omega
/-! sets by their numbers -/
def dl (a : Nat → Int32) (m : Nat) (b : Bool) (x : Nat) : Nat := (gs a m b (nI x)).toNatClampNeg
def ef (fin : Int32) (x : Nat) : Bool := ht (nI x) fin
theorem dl_s {a : Nat → Int32} (ha : ∀ i, sm (a i)) (m : Nat) (b : Bool) (x : Nat) : dl a m b x < 32 ∧ gs a m b (nI x) = nI (dl a m b x) := by
  obtain ⟨n, hn, e⟩ := sm_nat (stp_sm ha m b.toNat (nI x))
  have e2 : dl a m b x = n := by
    unfold dl gs; rw [e, nI_clamp (by omega)]
  rw [e2]; exact ⟨hn, e⟩
theorem dl_r {a : Nat → Int32} (ha : ∀ i, sm (a i)) (m : Nat) : ∀ (w : List Bool) (x : Nat), x < 32 → rn (dl a m) x w < 32 ∧ rn (gs a m) (nI x) w = nI (rn (dl a m) x w) := by
  intro w x hx
  refine rn_rel (δ := dl a m) (ε := gs a m) (fun i S => i < 32 ∧ S = nI i) ?_ w x (nI x) ⟨hx, rfl⟩
  rintro b s t ⟨hs, rfl⟩
  exact dl_s ha m b s
theorem KC_Y {a b f : Nat → Int32} {m x0 : Nat} (ha : ∀ i, sm (a i)) (hx0 : x0 < 32) (hb : b m = nI x0) {F R A : Nat → Bool} (hR : ∀ x, x < 32 → (R x = true ↔ ∃ w, rn (dl a m) x0 w = x)) (hA : ∀ x, x < 32 → ∀ y, y < 32 → (A (32 * x + y) = true ↔ ¬ EqS (dl a m) (ef (f m)) x y)) (hF : ∀ x, x < 32 → (F x = true ↔ R x = true ∧ ∀ y, y < x → R y = true → A (32 * x + y) = true)) : KC (Lg a b f m) (cn F 32) := by
  obtain ⟨g, g1, g2, g3⟩ := cn_en F 32
  have hL : ∀ u v : List Bool, Lg a b f m (u ++ v) ↔ ef (f m) (rn (dl a m) (rn (dl a m) x0 u) v) = true := by
    intro u v
    unfold Lg ef
    rw [hb, (dl_r ha m (u ++ v) x0 hx0).2, rn_app]
  have hQ : ∀ u w : List Bool, (∀ v, Lg a b f m (u ++ v) ↔ Lg a b f m (w ++ v)) ↔ EqS (dl a m) (ef (f m)) (rn (dl a m) x0 u) (rn (dl a m) x0 w) := by
    intro u w
    constructor
    · intro e v
      have := e v
      rw [hL, hL] at this
      exact Bool.eq_iff_iff.mpr this
    · intro e v
      rw [hL, hL, e v]
  have hW : ∀ c, ∃ w, c < cn F 32 → rn (dl a m) x0 w = g c := by
    intro c
    by_cases hc : c < cn F 32
    · have := g1 c hc
      obtain ⟨w, e⟩ := (hR _ this.1).mp ((hF _ this.1).mp this.2).1
      exact ⟨w, fun _ => e⟩
    · exact ⟨[], fun z => absurd z hc⟩
  refine ⟨fun c => (hW c).choose, ?_, ?_⟩
  · intro c hc d hd e
    have e' := (hQ _ _).mp e
    rw [(hW c).choose_spec hc, (hW d).choose_spec hd] at e'
    have hgc := g1 c hc
    have hgd := g1 d hd
    rcases Nat.lt_trichotomy (g c) (g d) with z | z | z
    · have := ((hF _ hgd.1).mp hgd.2).2 (g c) z ((hF _ hgc.1).mp hgc.2).1
      exact absurd (EqS_sy e') ((hA _ hgd.1 _ hgc.1).mp this)
    · exact g2 c hc d hd z
    · have := ((hF _ hgc.1).mp hgc.2).2 (g d) z ((hF _ hgd.1).mp hgd.2).1
      exact absurd e' ((hA _ hgc.1 _ hgd.1).mp this)
  · intro w
    have hw := (dl_r ha m w x0 hx0).1
    have hRw : R (rn (dl a m) x0 w) = true := (hR _ hw).mpr ⟨w, rfl⟩
    obtain ⟨y, ⟨hy1, hy2⟩, hl⟩ := pk_least (fun y => R y = true ∧ EqS (dl a m) (ef (f m)) y (rn (dl a m) x0 w)) ⟨_, hRw, EqS_rf _⟩
    have hy : y < 32 := by
      rcases Nat.lt_or_ge (rn (dl a m) x0 w) y with z | z
      · exact absurd ⟨hRw, EqS_rf _⟩ (hl _ z)
      · omega
    have hFy : F y = true := by
      refine (hF y hy).mpr ⟨hy1, fun z hz hRz => (hA y hy z (by omega)).mpr (fun e => hl z hz ⟨hRz, EqS_tr (EqS_sy e) hy2⟩)⟩
    obtain ⟨c, hc, ec⟩ := g3 y hy hFy
    refine ⟨c, hc, (hQ _ _).mpr ?_⟩
    rw [(hW c).choose_spec hc, ec]
    exact EqS_sy hy2
section ysize
variable {a_arrows a_begins a_finals : Nat → Int32}
variable {y_order y_seen y_apart : Nat → Int32} {y_words : Nat → Int64}
def AP (ap : Nat → Int32) (A : Nat → Bool) : Prop := ∀ c, c < 1024 → ap c = bi (A c)
theorem AP_u {ap : Nat → Int32} {A : Nat → Bool} (h : AP ap A) (c : Nat) (b : Bool) : AP (upd ap c (bi b)) (fun j => if j = c then b else A j) := by
  intro j hj
  by_cases z : j = c
  · rw [z, pk_us]; show _ = bi (if c = c then b else A c); rw [if_pos rfl]
  · rw [pk_un z]; show _ = bi (if j = c then b else A j); rw [if_neg z]; exact h j hj
/-- a word of at most k letters parts the two sets of a cell -/
def Dk (a : Nat → Int32) (m : Nat) (fin : Int32) (k c : Nat) : Prop := ∃ v : List Bool, v.length ≤ k ∧ ef fin (rn (dl a m) (c / 32) v) ≠ ef fin (rn (dl a m) (c % 32) v)
def Sd (a : Nat → Int32) (m : Nat) (fin : Int32) (A : Nat → Bool) : Prop := ∀ c, c < 1024 → A c = true → ∃ k, Dk a m fin k c
def ns (a : Nat → Int32) (m : Nat) (b : Bool) (c : Nat) : Nat := 32 * dl a m b (c / 32) + dl a m b (c % 32)
theorem ns_lt {a : Nat → Int32} (ha : ∀ i, sm (a i)) (m : Nat) (b : Bool) (c : Nat) : ns a m b c < 1024 ∧ ns a m b c / 32 = dl a m b (c / 32) ∧ ns a m b c % 32 = dl a m b (c % 32) := by
  have h1 := (dl_s ha m b (c / 32)).1
  have h2 := (dl_s ha m b (c % 32)).1
  unfold ns
  omega
theorem Dk_c {a : Nat → Int32} (ha : ∀ i, sm (a i)) {m : Nat} {fin : Int32} {k c : Nat} {b : Bool} (h : Dk a m fin k (ns a m b c)) : Dk a m fin (k + 1) c := by
  obtain ⟨v, hv, e⟩ := h
  rw [(ns_lt ha m b c).2.1, (ns_lt ha m b c).2.2] at e
  exact ⟨b :: v, by rw [List.length_cons]; omega, e⟩
theorem Dk_d {a : Nat → Int32} (ha : ∀ i, sm (a i)) {m : Nat} {fin : Int32} {k c : Nat} (h : Dk a m fin (k + 1) c) : Dk a m fin k c ∨ ∃ b, Dk a m fin k (ns a m b c) := by
  obtain ⟨v, hv, e⟩ := h
  cases v with
  | nil => exact Or.inl ⟨[], Nat.zero_le _, e⟩
  | cons b v =>
    refine Or.inr ⟨b, v, by rw [List.length_cons] at hv; omega, ?_⟩
    rw [(ns_lt ha m b c).2.1, (ns_lt ha m b c).2.2]
    exact e
def TA (a : Nat → Int32) (m : Nat) (fin : Int32) (p c : Nat) (A : Nat → Bool) : Prop := Sd a m fin A ∧ (∀ j, j < 1024 → Dk a m fin p j → A j = true) ∧ (∀ j, j < c → Dk a m fin (p + 1) j → A j = true)
theorem TA_s {a : Nat → Int32} (ha : ∀ i, sm (a i)) {m : Nat} {fin : Int32} {p c : Nat} {A : Nat → Bool} (hc : c < 1024) (h : TA a m fin p c A) : TA a m fin p (c + 1) (fun j => if j = c then (A c || A (ns a m false c) || A (ns a m true c)) else A j) := by
  obtain ⟨h1, h2, h3⟩ := h
  refine ⟨?_, ?_, ?_⟩
  · intro j hj
    show (if j = c then (A c || A (ns a m false c) || A (ns a m true c)) else A j) = true → _
    by_cases z : j = c
    · rw [if_pos z, z, Bool.or_eq_true, Bool.or_eq_true]
      rintro ((q | q) | q)
      · exact h1 c hc q
      · obtain ⟨k, hk⟩ := h1 _ (ns_lt ha m false c).1 q
        exact ⟨k + 1, Dk_c ha hk⟩
      · obtain ⟨k, hk⟩ := h1 _ (ns_lt ha m true c).1 q
        exact ⟨k + 1, Dk_c ha hk⟩
    · rw [if_neg z]; exact h1 j hj
  · intro j hj hd
    show (if j = c then (A c || A (ns a m false c) || A (ns a m true c)) else A j) = true
    by_cases z : j = c
    · rw [if_pos z, h2 c hc (z ▸ hd)]; rfl
    · rw [if_neg z]; exact h2 j hj hd
  · intro j hj hd
    show (if j = c then (A c || A (ns a m false c) || A (ns a m true c)) else A j) = true
    by_cases z : j = c
    · rw [if_pos z]
      rw [z] at hd
      rcases Dk_d ha hd with q | ⟨b, q⟩
      · rw [h2 c hc q]; rfl
      · have := h2 _ (ns_lt ha m b c).1 q
        cases b
        · rw [this, Bool.or_true]; rfl
        · rw [this, Bool.or_true]
    · rw [if_neg z]; exact h3 j (by omega) hd
theorem ta_step {post : SY → Prop} {J : Int32 → (Nat → Int32) → (Nat → Int32) → (Nat → Int32) → (Nat → Int32) → (Nat → Int32) → (Nat → Int64) → (Nat → Int32) → Prop} {m c n : Nat} {x2 : Int32} {ap : Nat → Int32} {A : Nat → Bool} (hm : m < 2) (ha : ∀ i, sm (a_arrows i)) (hc : c < 1024) (hA : AP ap A) (h : wY_tellApart_57 post J (nI m) x2 n (nI (c + 1)) a_arrows a_begins a_finals y_order y_seen y_words (upd ap c (bi (A c || A (ns a_arrows m false c) || A (ns a_arrows m true c))))) : wY_tellApart_57 post J (nI m) x2 (n + 1) (nI c) a_arrows a_begins a_finals y_order y_seen y_words ap := by
  have e1 : nI c / 32 = nI (c / 32) := pk_div (by omega) (by decide) (by decide)
  have e2 : nI c - nI c / 32 * 32 = nI (c % 32) := pk_rem (by omega) (by decide) (by decide)
  have n0 := (ns_lt ha m false c).1
  have n1 := (ns_lt ha m true c).1
  have z1 : ∀ b : Bool, 32 * gs a_arrows m b (nI (c / 32)) + gs a_arrows m b (nI (c % 32)) = nI (ns a_arrows m b c) := by
    intro b
    rw [(dl_s ha m b (c / 32)).2, (dl_s ha m b (c % 32)).2]
    show nI 32 * nI _ + nI _ = _
    rw [pk_mul, nI_add]; rfl
  refine br_f (nI_ge (b := 1024) hc (by omega)) ?_
  rw [e2, e1]
  refine And.intro (by decide) (ys_step (l := 0) hm (by omega) (And.intro (by decide) (ys_step (l := 0) hm (by omega) (nm_r (z1 false) (And.intro (by decide) (ys_step (l := 1) hm (by omega) (And.intro (by decide) (ys_step (l := 1) hm (by omega) (nm_r (z1 true) ?_)))))))))
  rw [nI_clamp (by omega), nI_clamp (by omega), nI_clamp (by omega), hA c hc, hA _ n0, hA _ n1]
  have vc : vp_in (nI c) 1024 := vp_in_nI hc (by omega)
  refine And.intro vc (bi_z (fun q1 => And.intro (vp_in_nI n0 (by omega)) (bi_z (fun q2 => And.intro (vp_in_nI n1 (by omega)) (bi_z (fun q3 => And.intro vc (nm_e (nm_r (nI_1 c) ?_))) (fun q3 => And.intro vc (nm_e (nm_r (nI_1 c) ?_))))) (fun q2 => And.intro vc (nm_e (nm_r (nI_1 c) ?_))))) (fun q1 => And.intro vc (nm_e (nm_r (nI_1 c) ?_))))
  · rw [q1, q2, q3] at h; rw [bs_v0]; exact h
  · rw [q1, q2, q3] at h; rw [bs_v1]; exact h
  · rw [q1, q2] at h; rw [bs_v1]; exact h
  · rw [q1] at h; rw [bs_v1]; exact h
theorem ta_in {post : SY → Prop} {J : Int32 → (Nat → Int32) → (Nat → Int32) → (Nat → Int32) → (Nat → Int32) → (Nat → Int32) → (Nat → Int64) → (Nat → Int32) → Prop} {m p : Nat} (hm : m < 2) (ha : ∀ i, sm (a_arrows i)) (h : ∀ (ap : Nat → Int32) (A : Nat → Bool), AP ap A → TA a_arrows m (a_finals m) (p + 1) 0 A → J (nI (p + 1)) a_arrows a_begins a_finals y_order y_seen y_words ap) : ∀ d c (ap : Nat → Int32) (A : Nat → Bool), c + d = 1024 → AP ap A → TA a_arrows m (a_finals m) p c A → wY_tellApart_57 post J (nI m) (nI p) (d + 1) (nI c) a_arrows a_begins a_finals y_order y_seen y_words ap := by
  intro d
  induction d with
  | zero =>
    intro c ap A e hA hT
    rw [show c = 1024 by omega] at hT ⊢
    exact br_t (by decide) (nm_r (nI_1 p) (h ap A hA ⟨hT.1, hT.2.2, fun j hj => absurd hj (Nat.not_lt_zero j)⟩))
  | succ d ih =>
    intro c ap A e hA hT
    exact ta_step hm ha (by omega) hA (ih (c + 1) _ _ (by omega) (AP_u hA c _) (TA_s ha (by omega) hT))
theorem ta_out {post : SY → Prop} {m : Nat} (hm : m < 2) (ha : ∀ i, sm (a_arrows i)) (h : ∀ (ap : Nat → Int32) (A : Nat → Bool), AP ap A → TA a_arrows m (a_finals m) 32 0 A → post (a_arrows, a_begins, a_finals, y_order, y_seen, y_words, ap)) : ∀ d p (ap : Nat → Int32) (A : Nat → Bool), p + d = 32 → AP ap A → TA a_arrows m (a_finals m) p 0 A → wY_tellApart_49 post (nI m) (d + 1) (nI p) a_arrows a_begins a_finals y_order y_seen y_words ap := by
  intro d
  induction d with
  | zero =>
    intro p ap A e hA hT
    rw [show p = 32 by omega] at hT ⊢
    exact br_t (by decide) (h ap A hA hT)
  | succ d ih =>
    intro p ap A e hA hT
    exact br_f (nI_ge (b := 32) (by omega) (by omega)) (Exists.intro 1025 (ta_in hm ha (fun ap' A' hA' hT' => ih (p + 1) ap' A' (by omega) hA' hT') 1024 0 ap A (by omega) hA hT))
theorem ta_2 {post : SY → Prop} {m : Nat} (hm : m < 2) (ha : ∀ i, sm (a_arrows i)) (h : ∀ (ap : Nat → Int32) (A : Nat → Bool), AP ap A → TA a_arrows m (a_finals m) 32 0 A → post (a_arrows, a_begins, a_finals, y_order, y_seen, y_words, ap)) : ∀ d c (ap : Nat → Int32), c + d = 1024 → (∀ j, j < c → ap j = bi (ef (a_finals m) (j / 32) != ef (a_finals m) (j % 32))) → wY_tellApart_2 post (nI m) (d + 1) (nI c) a_arrows a_begins a_finals y_order y_seen y_words ap := by
  intro d
  induction d with
  | zero =>
    intro c ap e hp
    rw [show c = 1024 by omega] at hp ⊢
    refine br_t (by decide) (Exists.intro 33 (ta_out hm ha h 32 0 ap (fun j => ef (a_finals m) (j / 32) != ef (a_finals m) (j % 32)) (by omega) hp ⟨?_, ?_, fun j hj => absurd hj (Nat.not_lt_zero j)⟩))
    · intro j hj hd
      refine ⟨0, [], Nat.le_refl 0, ?_⟩
      exact bne_iff_ne.mp hd
    · rintro j hj ⟨v, hv, hd⟩
      have : v = [] := List.length_eq_zero_iff.mp (by omega)
      rw [this] at hd
      exact bne_iff_ne.mpr hd
  | succ d ih =>
    intro c ap e hp
    have e1 : nI c / 32 = nI (c / 32) := pk_div (by omega) (by decide) (by decide)
    have e2 : nI c - nI c / 32 * 32 = nI (c % 32) := pk_rem (by omega) (by decide) (by decide)
    have vc : vp_in (nI c) 1024 := vp_in_nI (by omega) (by omega)
    have key : ∀ j, j < c + 1 → upd ap c (bi (ef (a_finals m) (c / 32) != ef (a_finals m) (c % 32))) j = bi (ef (a_finals m) (j / 32) != ef (a_finals m) (j % 32)) := by
      intro j hj
      by_cases z : j = c
      · rw [z, pk_us]
      · rw [pk_un z]; exact hp j (by omega)
    refine br_f (nI_ge (b := 1024) (by omega) (by omega)) ?_
    rw [e2, e1, nI_clamp (by omega)]
    refine And.intro (by decide) (yg_ht hm (And.intro (by decide) (yg_ht hm (bi_e (fun q => And.intro vc (nm_e (nm_r (nI_1 c) (ih (c + 1) _ (by omega) ?_)))) (fun q => And.intro vc (nm_e (nm_r (nI_1 c) (ih (c + 1) _ (by omega) ?_))))))))
    · have q' : (ef (a_finals m) (c / 32) != ef (a_finals m) (c % 32)) = false := bne_eq_false_iff_eq.mpr q
      rw [q'] at key; rw [bs_v0]; exact key
    · have q' : (ef (a_finals m) (c / 32) != ef (a_finals m) (c % 32)) = true := bne_iff_ne.mpr q
      rw [q'] at key; rw [bs_v1]; exact key
theorem ta_all {post : SY → Prop} {m : Nat} (hm : m < 2) (ha : ∀ i, sm (a_arrows i)) (h : ∀ (ap : Nat → Int32) (A : Nat → Bool), AP ap A → (∀ x, x < 32 → ∀ y, y < 32 → (A (32 * x + y) = true ↔ ¬ EqS (dl a_arrows m) (ef (a_finals m)) x y)) → post (a_arrows, a_begins, a_finals, y_order, y_seen, y_words, ap)) : wpY_tellApart post (a_arrows, a_begins, a_finals, y_order, y_seen, y_words, y_apart) (nI m) := by
  refine Exists.intro 1025 (ta_2 hm ha (fun ap A hA hT => h ap A hA (fun x hx y hy => ?_)) 1024 0 y_apart rfl (fun j hj => absurd hj (Nat.not_lt_zero j)))
  have q1 : (32 * x + y) / 32 = x := by omega
  have q2 : (32 * x + y) % 32 = y := by omega
  constructor
  · intro ht hE
    obtain ⟨k, v, hv, hd⟩ := hT.1 _ (by omega) ht
    rw [q1, q2] at hd
    exact hd (hE v)
  · intro hE
    apply hT.2.1 _ (by omega)
    apply Classical.byContradiction
    intro hn
    apply hE
    refine Ek_all (n := 32) (fun i _ b => (dl_s ha m b i).1) (by omega) x hx y hy (fun v hv => ?_)
    apply Classical.byContradiction
    intro hd
    exact hn ⟨v, hv, by rw [q1, q2]; exact hd⟩
/-! the sets that are reached -/
theorem se_loop {post : Int64 → Prop} {m x0 : Nat} (hm : m < 2) (ha : ∀ i, sm (a_arrows i)) (hx0 : x0 < 32) (h : ∀ all : Int64, (∀ x, x < 32 → (lb all x = true ↔ ∃ w, rn (dl a_arrows m) x0 w = x)) → post all) : ∀ d c all, c + d = 1024 → (∀ x, x < 32 → lb all x = true → ∃ w, rn (dl a_arrows m) x0 w = x) → (∀ w : List Bool, w.length ≤ c / 32 → lb all (rn (dl a_arrows m) x0 w) = true) → (∀ w : List Bool, w.length ≤ c / 32 → rn (dl a_arrows m) x0 w < c % 32 → ∀ b, lb all (dl a_arrows m b (rn (dl a_arrows m) x0 w)) = true) → wY_sets_12 post (nI m) a_arrows a_begins a_finals y_order y_seen y_words y_apart (d + 1) all (nI c) := by
  intro d
  induction d with
  | zero =>
    intro c all e h1 h2 h3
    rw [show c = 1024 by omega] at h2 ⊢
    refine br_t (by decide) (h all (fun x hx => ⟨h1 x hx, ?_⟩))
    rintro ⟨w, rfl⟩
    obtain ⟨w', hw', e'⟩ := sh_w (n := 32) (fun i _ b => (dl_s ha m b i).1) hx0 w.length w (Nat.le_refl _)
    rw [← e']
    exact h2 w' (by omega)
  | succ d ih =>
    intro c all e h1 h2 h3
    have e2 : nI c - nI c / 32 * 32 = nI (c % 32) := pk_rem (by omega) (by decide) (by decide)
    have hx : c % 32 < 32 := by omega
    -- what the next place asks
    have nxt : ∀ all' : Int64, (∀ x, x < 32 → lb all x = true → lb all' x = true) → (lb all (c % 32) = true → ∀ b, lb all' (dl a_arrows m b (c % 32)) = true) → ((∀ w : List Bool, w.length ≤ (c + 1) / 32 → lb all' (rn (dl a_arrows m) x0 w) = true) ∧ (∀ w : List Bool, w.length ≤ (c + 1) / 32 → rn (dl a_arrows m) x0 w < (c + 1) % 32 → ∀ b, lb all' (dl a_arrows m b (rn (dl a_arrows m) x0 w)) = true)) := by
      intro all' k1 k2
      have hr : ∀ w, rn (dl a_arrows m) x0 w < 32 := fun w => (dl_r ha m w x0 hx0).1
      have old : ∀ w : List Bool, w.length ≤ c / 32 → rn (dl a_arrows m) x0 w ≤ c % 32 → ∀ b, lb all' (dl a_arrows m b (rn (dl a_arrows m) x0 w)) = true := by
        intro w hw hl b
        rcases Nat.lt_or_ge (rn (dl a_arrows m) x0 w) (c % 32) with z | z
        · exact k1 _ (dl_s ha m b _).1 (h3 w hw z b)
        · have ez : rn (dl a_arrows m) x0 w = c % 32 := by omega
          have := h2 w hw
          rw [ez] at this ⊢
          exact k2 this b
      by_cases z : c % 32 = 31
      · have d1 : (c + 1) / 32 = c / 32 + 1 := by omega
        have d2 : (c + 1) % 32 = 0 := by omega
        rw [d1, d2]
        refine ⟨?_, fun w _ hl => absurd hl (Nat.not_lt_zero _)⟩
        intro w hw
        rcases Nat.lt_or_ge w.length (c / 32 + 1) with y | y
        · exact k1 _ (hr w) (h2 w (by omega))
        · rcases List.eq_nil_or_concat w with q | ⟨w1, b, q⟩
          · rw [q] at y; simp at y
          · rw [List.concat_eq_append] at q
            rw [q, rn_sn]
            rw [q, List.length_append] at hw
            exact old w1 (by simp at hw; omega) (by have := hr w1; omega) b
      · have d1 : (c + 1) / 32 = c / 32 := by omega
        have d2 : (c + 1) % 32 = c % 32 + 1 := by omega
        rw [d1, d2]
        exact ⟨fun w hw => k1 _ (hr w) (h2 w hw), fun w hw hl => old w hw (by omega)⟩
    refine br_f (nI_ge (b := 1024) (by omega) (by omega)) (And.intro (by decide) (nm_r e2 (lb_o (by omega) (fun hb => ?_) (fun hb => ?_))))
    · have f0 := dl_s ha m false (c % 32)
      have f1 := dl_s ha m true (c % 32)
      refine ys_step (l := 0) hm (by omega) (ys_step (l := 1) hm (by omega) ?_)
      rw [show stp a_arrows m 0 (nI (c % 32)) = nI (dl a_arrows m false (c % 32)) from f0.2, show stp a_arrows m 1 (nI (c % 32)) = nI (dl a_arrows m true (c % 32)) from f1.2]
      refine nm_e (nm_r (nI_1 c) ?_)
      have bits : ∀ x, x < 32 → (lb ((all ||| (1 : Int64) <<< ((nI (dl a_arrows m false (c % 32))).toInt64 &&& 63)) ||| (1 : Int64) <<< ((nI (dl a_arrows m true (c % 32))).toInt64 &&& 63)) x = true ↔ lb all x = true ∨ x = dl a_arrows m false (c % 32) ∨ x = dl a_arrows m true (c % 32)) := by
        intro x hx
        rw [lb_or, lb_or, lb_one (by omega) (by omega), lb_one (by omega) (by omega), Bool.or_eq_true, Bool.or_eq_true, decide_eq_true_iff, decide_eq_true_iff, or_assoc]
      have N := nxt _ (fun x hx hl => (bits x hx).mpr (Or.inl hl)) (fun _ b => (bits _ (dl_s ha m b _).1).mpr (by cases b; exact Or.inr (Or.inl rfl); exact Or.inr (Or.inr rfl)))
      refine ih (c + 1) _ (by omega) ?_ N.1 N.2
      intro x hx hl
      obtain ⟨w, ew⟩ := h1 _ (by omega) hb
      rcases (bits x hx).mp hl with q | q | q
      · exact h1 x hx q
      · exact ⟨w ++ [false], by rw [rn_sn, ew, q]⟩
      · exact ⟨w ++ [true], by rw [rn_sn, ew, q]⟩
    · have N := nxt all (fun x _ hl => hl) (fun q => by rw [hb] at q; exact absurd q (by decide))
      exact nm_r (nI_1 c) (ih (c + 1) all (by omega) h1 N.1 N.2)
theorem se_all {post : Int64 → Prop} {m x0 : Nat} (hm : m < 2) (ha : ∀ i, sm (a_arrows i)) (hx0 : x0 < 32) (hb : a_begins m = nI x0) (h : ∀ all : Int64, (∀ x, x < 32 → (lb all x = true ↔ ∃ w, rn (dl a_arrows m) x0 w = x)) → post all) : wpY_sets post (a_arrows, a_begins, a_finals, y_order, y_seen, y_words, y_apart) (nI m) := by
  unfold wpY_sets
  dsimp only
  rw [nI_clamp (by omega), hb]
  refine And.intro (vp_in_nI hm (by omega)) (nm_e (Exists.intro 1025 (se_loop hm ha hx0 h 1024 0 _ rfl ?_ ?_ ?_)))
  · intro x hx hl
    rw [lb_one (by omega) (by omega), decide_eq_true_iff] at hl
    exact ⟨[], hl.symm⟩
  · intro w hw
    rw [List.length_eq_zero_iff.mp (by omega : w.length = 0)]
    show lb _ x0 = true
    rw [lb_one (by omega) (by omega), decide_eq_true_iff]
  · intro w _ hl; exact absurd hl (Nat.not_lt_zero _)
/-! the count -/
theorem ys_64 {post : Int32 → SY → Prop} {J : Int32 → Int32 → Prop} {all : Int64} {x q : Nat} {A : Nat → Bool} {ap : Nat → Int32} (hA : AP ap A) (hx : x < 32) (h : ∀ fr : Bool, (fr = true ↔ lb all x = true ∧ ∀ y, y < x → lb all y = true → A (32 * x + y) = true) → J (nI (q + fr.toNat)) (nI (x + 1))) : ∀ d y (fr : Bool), y + d = x → (fr = true ↔ lb all x = true ∧ ∀ z, z < y → lb all z = true → A (32 * x + z) = true) → wY_size_64 post J all (nI q) (nI x) a_arrows a_begins a_finals y_order y_seen y_words ap (d + 1) (bi fr) (nI y) := by
  intro d
  induction d with
  | zero =>
    intro y fr e hf
    have ey : y = x := by omega
    subst ey
    have H := h fr hf
    refine br_t (nI_le (Nat.le_refl y) (by omega)) (bi_z (fun z => nm_r (nI_1 y) ?_) (fun z => nm_r (nI_1 q) (nm_r (nI_1 y) ?_)))
    · rw [z] at H; exact H
    · rw [z] at H; exact H
  | succ d ih =>
    intro y fr e hf
    have ei : (32 : Int32) * nI x + nI y = nI (32 * x + y) := by
      show nI 32 * nI x + nI y = _
      rw [pk_mul, nI_add]
    have nxt : ∀ g : Bool, (g = true ↔ fr = true ∧ (lb all y = true → A (32 * x + y) = true)) → (g = true ↔ lb all x = true ∧ ∀ z, z < y + 1 → lb all z = true → A (32 * x + z) = true) := by
      intro g hg
      rw [hg, hf]
      constructor
      · rintro ⟨⟨a1, a2⟩, a3⟩
        refine ⟨a1, fun z hz hl => ?_⟩
        by_cases q : z = y
        · rw [q] at hl ⊢; exact a3 hl
        · exact a2 z (by omega) hl
      · rintro ⟨a1, a2⟩
        exact ⟨⟨a1, fun z hz => a2 z (by omega)⟩, a2 y (by omega)⟩
    refine br_f (nI_ge (by omega) (by omega)) ?_
    rw [ei, nI_clamp (by omega), hA _ (by omega)]
    refine bi_z (fun z => nm_r (nI_1 y) (ih (y + 1) false (by omega) (nxt false ?_))) (fun z => lb_z (by omega) (fun hl => nm_r (nI_1 y) (ih (y + 1) true (by omega) (nxt true ?_))) (fun hl => And.intro (vp_in_nI (by omega) (by omega)) (bi_z (fun hq => nm_r (nI_1 y) (ih (y + 1) false (by omega) (nxt false ?_))) (fun hq => nm_r (nI_1 y) (ih (y + 1) true (by omega) (nxt true ?_))))))
    · rw [z]; exact ⟨fun k => absurd k (by decide), fun k => absurd k.1 (by decide)⟩
    · rw [z, hl]; exact ⟨fun _ => ⟨rfl, fun k => absurd k (by decide)⟩, fun _ => rfl⟩
    · rw [hl, hq]; exact ⟨fun k => absurd k (by decide), fun k => absurd (k.2 rfl) (by decide)⟩
    · rw [z, hq]; exact ⟨fun _ => ⟨rfl, fun _ => rfl⟩, fun _ => rfl⟩
theorem ys_36 {post : Int32 → SY → Prop} {all : Int64} {A : Nat → Bool} {ap : Nat → Int32} (hA : AP ap A) (h : ∀ F : Nat → Bool, (∀ x, x < 32 → (F x = true ↔ lb all x = true ∧ ∀ y, y < x → lb all y = true → A (32 * x + y) = true)) → post (nI (cn F 32)) (a_arrows, a_begins, a_finals, y_order, y_seen, y_words, ap)) : ∀ d x (F : Nat → Bool), x + d = 32 → (∀ z, z < x → (F z = true ↔ lb all z = true ∧ ∀ y, y < z → lb all y = true → A (32 * z + y) = true)) → wY_size_36 post all a_arrows a_begins a_finals y_order y_seen y_words ap (d + 1) (nI (cn F x)) (nI x) := by
  intro d
  induction d with
  | zero =>
    intro x F e hF
    rw [show x = 32 by omega] at hF ⊢
    exact br_t (by decide) (h F hF)
  | succ d ih =>
    intro x F e hF
    have nxt : ∀ fr : Bool, (fr = true ↔ lb all x = true ∧ ∀ y, y < x → lb all y = true → A (32 * x + y) = true) → wY_size_36 post all a_arrows a_begins a_finals y_order y_seen y_words ap (d + 1) (nI (cn F x + fr.toNat)) (nI (x + 1)) := by
      intro fr hf
      have := ih (x + 1) (fun z => if z = x then fr else F z) (by omega) (by
        intro z hz
        show (if z = x then fr else F z) = true ↔ _
        by_cases q : z = x
        · rw [if_pos q, q]; exact hf
        · rw [if_neg q]; exact hF z (by omega))
      have e2 : cn (fun z => if z = x then fr else F z) (x + 1) = cn F x + fr.toNat := by
        rw [cn_s, cn_congr x (fun i hi => if_neg (by omega)), if_pos rfl]
      rw [e2] at this
      exact this
    refine br_f (nI_ge (b := 32) (by omega) (by omega)) (lb_o (by omega) (fun hl => ?_) (fun hl => ?_))
    · exact Exists.intro (x + 1) (ys_64 hA (by omega) nxt x 0 true (by omega) ⟨fun _ => ⟨hl, fun z hz => absurd hz (Nat.not_lt_zero z)⟩, fun _ => rfl⟩)
    · exact Exists.intro (x + 1) (ys_64 hA (by omega) nxt x 0 false (by omega) ⟨fun k => absurd k (by decide), fun k => by rw [hl] at k; exact absurd k.1 (by decide)⟩)
/-- the reference's size is the number of residual languages -/
theorem ys_size {post : Int32 → SY → Prop} {e m : Nat} (he : e < 4) (hm : m < 2) (ok : Ok a_arrows a_begins a_finals) (h : ∀ (C : Nat) (ap : Nat → Int32), KC (Lg a_arrows a_begins a_finals m) C → post (nI C) (a_arrows, a_begins, a_finals, y_order, y_seen, y_words, ap)) : wpY_size post (a_arrows, a_begins, a_finals, y_order, y_seen, y_words, y_apart) (nI e) (nI m) := by
  obtain ⟨x0, hx0, hb⟩ := sm_nat (ok.2.1 m)
  unfold wpY_size
  dsimp only
  refine br_f (nI_pos (by omega)) (br_f (nI_nlt (a := 3) (by omega) (by omega)) (br_f bs_10 (ma_Yt hm (br_f bs_10 (ta_all hm ok.1 (fun ap A hA hE => ?_))))))
  refine se_all hm ok.1 hx0 hb (fun all hall => Exists.intro 33 (ys_36 hA (fun F hF => h _ ap ?_) 32 0 (fun _ => false) rfl (fun z hz => absurd hz (Nat.not_lt_zero z))))
  exact KC_Y ok.1 hx0 hb (R := fun x => lb all x) hall hE hF
end ysize
end
section
/-! size by rounds -/
theorem KC_rel {L : List Bool → Prop} {N : Nat} {nx : Bool → Nat → Nat} {en : Nat → Bool} (h : PD L N nx en) {C : Nat} (M : Nat → Nat → Prop) (h1 : ∀ c, c < C → ∃ i, i < N ∧ M c i) (h2 : ∀ i, i < N → ∃ c, c < C ∧ M c i) (h3 : ∀ c, c < C → ∀ i, i < N → ∀ j, j < N → M c i → M c j → EqS nx en i j) (h4 : ∀ c, c < C → ∀ d, d < C → ∀ i, i < N → ∀ j, j < N → M c i → M d j → EqS nx en i j → c = d) : KC L C := by
  have hx : ∀ c, ∃ w, c < C → M c (rn nx 0 w) := by
    intro c
    by_cases hc : c < C
    · obtain ⟨i, hi, e⟩ := h1 c hc
      obtain ⟨w, ew⟩ := h.2.2.2 i hi
      exact ⟨w, fun _ => by rw [ew]; exact e⟩
    · exact ⟨[], fun z => absurd z hc⟩
  refine ⟨fun c => (hx c).choose, ?_, ?_⟩
  · intro c hc d hd e
    exact h4 c hc d hd _ (PD_lt h _ h.1) _ (PD_lt h _ h.1) ((hx c).choose_spec hc) ((hx d).choose_spec hd) ((PD_eqv h _ _).mp e)
  · intro w
    have hw := PD_lt h w h.1
    obtain ⟨c, hc, m⟩ := h2 _ hw
    exact ⟨c, hc, (PD_eqv h _ _).mpr (h3 c hc _ hw _ (PD_lt h _ h.1) m ((hx c).choose_spec hc))⟩
/-- where letters lead in one class -/
def Sm (nx : Bool → Nat → Nat) (lab : Nat → Nat) (i j : Nat) : Prop := lab i = lab j ∧ lab (nx false i) = lab (nx false j) ∧ lab (nx true i) = lab (nx true j)
theorem Sm_b {nx : Bool → Nat → Nat} {lab : Nat → Nat} {i j : Nat} (h : Sm nx lab i j) (b : Bool) : lab (nx b i) = lab (nx b j) := by
  cases b
  · exact h.2.1
  · exact h.2.2
theorem Sm_rf {nx : Bool → Nat → Nat} {lab : Nat → Nat} (i : Nat) : Sm nx lab i i := ⟨rfl, rfl, rfl⟩
theorem Sm_sy {nx : Bool → Nat → Nat} {lab : Nat → Nat} {i j : Nat} (h : Sm nx lab i j) : Sm nx lab j i := ⟨h.1.symm, h.2.1.symm, h.2.2.symm⟩
theorem Sm_tr {nx : Bool → Nat → Nat} {lab : Nat → Nat} {i j k : Nat} (h : Sm nx lab i j) (h' : Sm nx lab j k) : Sm nx lab i k := ⟨h.1.trans h'.1, h.2.1.trans h'.2.1, h.2.2.trans h'.2.2⟩
/-- labels below n, each of them used, alike just where R is -/
def Lab (N : Nat) (lab : Nat → Nat) (n : Nat) (R : Nat → Nat → Prop) : Prop := (∀ j, j < N → lab j < n) ∧ (∀ c, c < n → ∃ j, j < N ∧ lab j = c) ∧ (∀ j, j < N → ∀ k, k < N → (lab j = lab k ↔ R j k))
theorem Lab_up {N p n : Nat} {labp lab : Nat → Nat} (hp : ∀ c, c < p → ∃ j, j < N ∧ labp j = c) (hl : ∀ j, j < N → lab j < n) (hr : ∀ i, i < N → ∀ j, j < N → lab i = lab j → labp i = labp j) : p ≤ n := by
  refine ph_rel (fun c x => ∃ j, j < N ∧ labp j = c ∧ lab j = x) ?_ ?_
  · intro c hc
    obtain ⟨j, hj, e⟩ := hp c hc
    exact ⟨lab j, hl j hj, j, hj, e, rfl⟩
  · rintro c hc c' hc' d ⟨j, hj, e1, e2⟩ ⟨k, hk, e3, e4⟩
    rw [← e1, ← e3]
    exact hr j hj k hk (e2.trans e4.symm)
theorem Lab_eq {N p n : Nat} {labp lab : Nat → Nat} (hp : ∀ c, c < p → ∃ j, j < N ∧ labp j = c) (hpl : ∀ j, j < N → labp j < p) (hl : ∀ j, j < N → lab j < n) (hr : ∀ i, i < N → ∀ j, j < N → lab i = lab j → labp i = labp j) (e : n ≤ p) : ∀ i, i < N → ∀ j, j < N → labp i = labp j → lab i = lab j := by
  intro i hi j hj hij
  apply Classical.byContradiction
  intro hne
  have hx : ∀ c, ∃ k, c < p → k < N ∧ labp k = c := by
    intro c
    by_cases hc : c < p
    · obtain ⟨k, hk⟩ := hp c hc; exact ⟨k, fun _ => hk⟩
    · exact ⟨0, fun z => absurd z hc⟩
  have hd0 : labp i < p := hpl i hi
  have hx0 := (hx (labp i)).choose_spec hd0
  obtain ⟨x, hxN, hx1, hx2⟩ : ∃ x, x < N ∧ labp x = labp i ∧ lab x ≠ lab (hx (labp i)).choose := by
    by_cases z : lab i = lab (hx (labp i)).choose
    · exact ⟨j, hj, hij.symm, fun q => hne (z.trans q.symm)⟩
    · exact ⟨i, hi, rfl, z⟩
  have := ph_le n (p + 1) (fun c => if c = p then lab x else lab (hx c).choose) (by
    intro c hc
    show (if c = p then lab x else lab (hx c).choose) < n
    by_cases z : c = p
    · rw [if_pos z]; exact hl x hxN
    · rw [if_neg z]; exact hl _ ((hx c).choose_spec (by omega)).1) (by
    intro c hc d hd
    show (if c = p then lab x else lab (hx c).choose) = (if d = p then lab x else lab (hx d).choose) → c = d
    by_cases z : c = p
    · by_cases y : d = p
      · intro _; omega
      · rw [if_pos z, if_neg y]
        intro q
        have hd' := (hx d).choose_spec (by omega)
        have h1 := hr x hxN _ hd'.1 q
        rw [hd'.2, hx1] at h1
        rw [← h1] at q
        exact absurd q hx2
    · by_cases y : d = p
      · rw [if_neg z, if_pos y]
        intro q
        have hd' := (hx c).choose_spec (by omega)
        have h1 := hr x hxN _ hd'.1 q.symm
        rw [hd'.2, hx1] at h1
        rw [← h1] at q
        exact absurd q.symm hx2
      · rw [if_neg z, if_neg y]
        intro q
        have hc' := (hx c).choose_spec (by omega)
        have hd' := (hx d).choose_spec (by omega)
        have h1 := hr _ hc'.1 _ hd'.1 q
        rw [hc'.2, hd'.2] at h1
        exact h1)
  omega
section rounds
variable {f_openStates f_openBegin f_openEnd f_plainCount f_classes f_listed : Int32} {a_arrows a_begins a_finals a_openTo a_plainSet a_plainEnd a_plainNext a_classOf a_newClass a_differs a_waits a_members a_sideNext a_sideEnd a_sideCount a_joined a_image a_pairA a_pairB a_pairFrom a_pairLetter a_seen a_words a_more : Nat → Int32}
def LA (N : Nat) (co : Nat → Int32) (lab : Nat → Nat) : Prop := ∀ j, j < N → co j = nI (lab j) ∧ lab j < 64
theorem sa_step {post : Int32 → Prop} {N i j l n : Nat} {b c : Bool} {nx : Bool → Nat → Nat} {en : Nat → Bool} {lab : Nat → Nat} (hN : N ≤ 32) (hn : ∀ i, i < N → ∀ b, nx b i < N) (T : Tb N nx en a_plainEnd a_plainNext) (hL : LA N a_classOf lab) (hi : i < N) (hj : j < N) (hb : b.toNat = l) (h : wX_sameAs_24 post (nI i) (nI j) f_openStates f_openBegin f_openEnd f_plainCount f_classes f_listed a_arrows a_begins a_finals a_openTo a_plainSet a_plainEnd a_plainNext a_classOf a_newClass a_differs a_waits a_members a_sideNext a_sideEnd a_sideCount a_joined a_image a_pairA a_pairB a_pairFrom a_pairLetter a_seen a_words a_more n (bi (c && decide (lab (nx b i) = lab (nx b j)))) (nI (l + 1))) : wX_sameAs_24 post (nI i) (nI j) f_openStates f_openBegin f_openEnd f_plainCount f_classes f_listed a_arrows a_begins a_finals a_openTo a_plainSet a_plainEnd a_plainNext a_classOf a_newClass a_differs a_waits a_members a_sideNext a_sideEnd a_sideCount a_joined a_image a_pairA a_pairB a_pairFrom a_pairLetter a_seen a_words a_more (n + 1) (bi c) (nI l) := by
  have hl := tb_lt b
  rw [hb] at hl
  have t1 := T.2 i hi b
  have t2 := T.2 j hj b
  rw [hb] at t1 t2
  have n1 := hn i hi b
  have n2 := hn j hj b
  have l1 := hL _ n1
  have l2 := hL _ n2
  refine br_f (nI_ge (b := 2) hl (by omega)) ?_
  rw [m2l, m2l, nI_clamp (by omega), nI_clamp (by omega), t1, t2, nI_clamp (by omega), nI_clamp (by omega), l1.1, l2.1]
  refine And.intro (vp_in_nI (by omega) (by omega)) (And.intro (vp_in_nI (by omega) (by omega)) (nm_e (bi_z (fun z => nm_r (nI_1 l) ?_) (fun z => And.intro (vp_in_nI (by omega) (by omega)) (And.intro (vp_in_nI (by omega) (by omega)) ?_)))))
  · rw [z] at h; exact h
  · rw [z] at h
    refine pk_eq (lab (nx b i)) (lab (nx b j)) (fun q => nm_r (nI_1 l) ?_) (fun q => nm_r (nI_1 l) ?_) rfl rfl (by omega) (by omega)
    · rw [decide_eq_true q] at h; exact h
    · rw [decide_eq_false q] at h; exact h
theorem sa_as {post : Int32 → Prop} {N i j : Nat} {nx : Bool → Nat → Nat} {en : Nat → Bool} {lab : Nat → Nat} (hN : N ≤ 32) (hn : ∀ i, i < N → ∀ b, nx b i < N) (T : Tb N nx en a_plainEnd a_plainNext) (hL : LA N a_classOf lab) (hi : i < N) (hj : j < N) (h1 : Sm nx lab i j → post 1) (h0 : ¬ Sm nx lab i j → post 0) : wpX_sameAs post (f_openStates, f_openBegin, f_openEnd, f_plainCount, f_classes, f_listed, a_arrows, a_begins, a_finals, a_openTo, a_plainSet, a_plainEnd, a_plainNext, a_classOf, a_newClass, a_differs, a_waits, a_members, a_sideNext, a_sideEnd, a_sideCount, a_joined, a_image, a_pairA, a_pairB, a_pairFrom, a_pairLetter, a_seen, a_words, a_more) (nI i) (nI j) := by
  have key : ∀ c : Bool, (c = true ↔ lab i = lab j) → wX_sameAs_24 post (nI i) (nI j) f_openStates f_openBegin f_openEnd f_plainCount f_classes f_listed a_arrows a_begins a_finals a_openTo a_plainSet a_plainEnd a_plainNext a_classOf a_newClass a_differs a_waits a_members a_sideNext a_sideEnd a_sideCount a_joined a_image a_pairA a_pairB a_pairFrom a_pairLetter a_seen a_words a_more 3 (bi c) (nI 0) := by
    intro c hc
    refine sa_step (b := false) hN hn T hL hi hj rfl (sa_step (b := true) hN hn T hL hi hj rfl (br_t (by decide) (And.intro (bi_n _) ?_)))
    by_cases q : Sm nx lab i j
    · rw [hc.mpr q.1, decide_eq_true q.2.1, decide_eq_true q.2.2]; exact h1 q
    · cases hcc : c
      · exact h0 q
      · by_cases q2 : lab (nx false i) = lab (nx false j)
        · by_cases q3 : lab (nx true i) = lab (nx true j)
          · exact absurd ⟨hc.mp hcc, q2, q3⟩ q
          · rw [decide_eq_false q3, Bool.and_false]; exact h0 q
        · rw [decide_eq_false q2]; exact h0 q
  have li := hL i hi
  have lj := hL j hj
  unfold wpX_sameAs
  dsimp only
  rw [nI_clamp (by omega), nI_clamp (by omega), li.1, lj.1]
  refine And.intro (vp_in_nI (by omega) (by omega)) (And.intro (vp_in_nI (by omega) (by omega)) (pk_eq (lab i) (lab j) (fun q => Exists.intro 3 (key true ⟨fun _ => q, fun _ => rfl⟩)) (fun q => Exists.intro 3 (key false ⟨fun z => absurd z (by decide), fun z => absurd z q⟩)) rfl rfl (by omega) (by omega)))
theorem pa_77 {post : Int32 → SX → Prop} {N n : Nat} {nl : Nat → Nat} (hN : N ≤ 32) (hnl : ∀ j, j < N → a_newClass j = nI (nl j) ∧ nl j < 64) (h : ∀ co : Nat → Int32, LA N co nl → post (nI n) (f_openStates, f_openBegin, f_openEnd, nI N, f_classes, f_listed, a_arrows, a_begins, a_finals, a_openTo, a_plainSet, a_plainEnd, a_plainNext, co, a_newClass, a_differs, a_waits, a_members, a_sideNext, a_sideEnd, a_sideCount, a_joined, a_image, a_pairA, a_pairB, a_pairFrom, a_pairLetter, a_seen, a_words, a_more)) : ∀ d i (co : Nat → Int32), i + d = N → (∀ j, j < i → co j = nI (nl j)) → wX_partAll_77 post (nI n) f_openStates f_openBegin f_openEnd (nI N) f_classes f_listed (d + 1) (nI i) a_arrows a_begins a_finals a_openTo a_plainSet a_plainEnd a_plainNext co a_newClass a_differs a_waits a_members a_sideNext a_sideEnd a_sideCount a_joined a_image a_pairA a_pairB a_pairFrom a_pairLetter a_seen a_words a_more := by
  intro d
  induction d with
  | zero =>
    intro i co e hc
    exact br_t (nI_le (by omega) (by omega)) (h co (fun j hj => ⟨hc j (by omega), (hnl j hj).2⟩))
  | succ d ih =>
    intro i co e hc
    refine br_f (nI_ge (by omega) (by omega)) ?_
    rw [nI_clamp (by omega), (hnl i (by omega)).1, bs_v8 (by have := (hnl i (by omega)).2; omega)]
    refine And.intro (vp_in_nI (by omega) (by omega)) (And.intro (vp_in_nI (by omega) (by omega)) (nm_e (nm_r (nI_1 i) (ih (i + 1) _ (by omega) ?_))))
    intro j hj
    by_cases z : j = i
    · rw [z, pk_us]
    · rw [pk_un z]; exact hc j (by omega)
theorem pa_55t {post : Int32 → SX → Prop} {J : Int32 → Int32 → (Nat → Int32) → (Nat → Int32) → (Nat → Int32) → (Nat → Int32) → (Nat → Int32) → (Nat → Int32) → (Nat → Int32) → (Nat → Int32) → (Nat → Int32) → (Nat → Int32) → (Nat → Int32) → (Nat → Int32) → (Nat → Int32) → (Nat → Int32) → (Nat → Int32) → (Nat → Int32) → (Nat → Int32) → (Nat → Int32) → (Nat → Int32) → (Nat → Int32) → (Nat → Int32) → (Nat → Int32) → (Nat → Int32) → (Nat → Int32) → Prop} {n i : Nat} {z0 : Int32} {nc : Nat → Int32} (hi : i < 64) (hz : vp_nar .byte z0 = nI n) (h : J (nI (n + 1)) (nI (i + 1)) a_arrows a_begins a_finals a_openTo a_plainSet a_plainEnd a_plainNext a_classOf (upd nc i (nI n)) a_differs a_waits a_members a_sideNext a_sideEnd a_sideCount a_joined a_image a_pairA a_pairB a_pairFrom a_pairLetter a_seen a_words a_more) : wX_partAll_55 post J (nI n) (nI i) (nI i) z0 (nI i) f_openStates f_openBegin f_openEnd f_plainCount f_classes f_listed a_arrows a_begins a_finals a_openTo a_plainSet a_plainEnd a_plainNext a_classOf nc a_differs a_waits a_members a_sideNext a_sideEnd a_sideCount a_joined a_image a_pairA a_pairB a_pairFrom a_pairLetter a_seen a_words a_more := by
  unfold wX_partAll_55
  rw [hz, nI_clamp (by omega)]
  exact And.intro (vp_in_nI hi (by omega)) (nm_e (br_t (nI_le (Nat.le_refl i) (by omega)) (nm_r (nI_1 n) (nm_r (nI_1 i) h))))
theorem pa_55f {post : Int32 → SX → Prop} {J : Int32 → Int32 → (Nat → Int32) → (Nat → Int32) → (Nat → Int32) → (Nat → Int32) → (Nat → Int32) → (Nat → Int32) → (Nat → Int32) → (Nat → Int32) → (Nat → Int32) → (Nat → Int32) → (Nat → Int32) → (Nat → Int32) → (Nat → Int32) → (Nat → Int32) → (Nat → Int32) → (Nat → Int32) → (Nat → Int32) → (Nat → Int32) → (Nat → Int32) → (Nat → Int32) → (Nat → Int32) → (Nat → Int32) → (Nat → Int32) → (Nat → Int32) → Prop} {n i k q : Nat} {z0 : Int32} {nc : Nat → Int32} (hi : i < 64) (hk : k < i) (hz : vp_nar .byte z0 = nI q) (h : J (nI n) (nI (i + 1)) a_arrows a_begins a_finals a_openTo a_plainSet a_plainEnd a_plainNext a_classOf (upd nc i (nI q)) a_differs a_waits a_members a_sideNext a_sideEnd a_sideCount a_joined a_image a_pairA a_pairB a_pairFrom a_pairLetter a_seen a_words a_more) : wX_partAll_55 post J (nI n) (nI i) (nI k) z0 (nI i) f_openStates f_openBegin f_openEnd f_plainCount f_classes f_listed a_arrows a_begins a_finals a_openTo a_plainSet a_plainEnd a_plainNext a_classOf nc a_differs a_waits a_members a_sideNext a_sideEnd a_sideCount a_joined a_image a_pairA a_pairB a_pairFrom a_pairLetter a_seen a_words a_more := by
  unfold wX_partAll_55
  rw [hz, nI_clamp (by omega)]
  exact And.intro (vp_in_nI hi (by omega)) (nm_e (br_f (nI_ge hk (by omega)) (nm_r (nI_add n 0) (nm_r (nI_1 i) h))))
theorem pa_14 {post : Int32 → SX → Prop} {J : Int32 → Int32 → (Nat → Int32) → (Nat → Int32) → (Nat → Int32) → (Nat → Int32) → (Nat → Int32) → (Nat → Int32) → (Nat → Int32) → (Nat → Int32) → (Nat → Int32) → (Nat → Int32) → (Nat → Int32) → (Nat → Int32) → (Nat → Int32) → (Nat → Int32) → (Nat → Int32) → (Nat → Int32) → (Nat → Int32) → (Nat → Int32) → (Nat → Int32) → (Nat → Int32) → (Nat → Int32) → (Nat → Int32) → (Nat → Int32) → (Nat → Int32) → Prop} {N n i : Nat} {nx : Bool → Nat → Nat} {en : Nat → Bool} {lab nl : Nat → Nat} {nc : Nat → Int32} (hN : N ≤ 32) (hn : ∀ i, i < N → ∀ b, nx b i < N) (T : Tb N nx en a_plainEnd a_plainNext) (hL : LA N a_classOf lab) (hi : i < N) (hnn : n ≤ 32) (hnl : ∀ j, j < i → nc j = nI (nl j) ∧ nl j < 64) (h1 : ∀ k, k < i → Sm nx lab k i → J (nI n) (nI (i + 1)) a_arrows a_begins a_finals a_openTo a_plainSet a_plainEnd a_plainNext a_classOf (upd nc i (nI (nl k))) a_differs a_waits a_members a_sideNext a_sideEnd a_sideCount a_joined a_image a_pairA a_pairB a_pairFrom a_pairLetter a_seen a_words a_more) (h2 : (∀ k, k < i → ¬ Sm nx lab k i) → J (nI (n + 1)) (nI (i + 1)) a_arrows a_begins a_finals a_openTo a_plainSet a_plainEnd a_plainNext a_classOf (upd nc i (nI n)) a_differs a_waits a_members a_sideNext a_sideEnd a_sideCount a_joined a_image a_pairA a_pairB a_pairFrom a_pairLetter a_seen a_words a_more) : ∀ d k, k + d = i → (∀ j, j < k → ¬ Sm nx lab j i) → wX_partAll_14 post J (nI n) (nI i) f_openStates f_openBegin f_openEnd f_plainCount f_classes f_listed a_arrows a_begins a_finals a_openTo a_plainSet a_plainEnd a_plainNext a_classOf nc a_differs a_waits a_members a_sideNext a_sideEnd a_sideCount a_joined a_image a_pairA a_pairB a_pairFrom a_pairLetter a_seen a_words a_more (d + 1) (nI k) := by
  intro d
  induction d with
  | zero =>
    intro k e hk
    have ek : k = i := by omega
    subst ek
    have le := nI_le (Nat.le_refl k) (by omega : k < 2 ^ 31)
    exact br_t le (br_t le (pa_55t (by omega) (bs_w8 (by omega)) (h2 hk)))
  | succ d ih =>
    intro k e hk
    have lt := nI_ge (a := k) (b := i) (by omega) (by omega)
    refine br_f lt (sa_as hN hn T hL (by omega) hi (fun q => br_f bs_10 (br_f lt ?_)) (fun q => br_t rfl (nm_r (nI_1 k) (ih (k + 1) (by omega) ?_))))
    · have hk' := hnl k (by omega)
      rw [nI_clamp (by omega), hk'.1]
      exact And.intro (vp_in_nI (by omega) (by omega)) (pa_55f (by omega) (by omega) (bs_v8 (by omega)) (h1 k (by omega) q))
    · intro j hj
      by_cases z : j = k
      · rw [z]; exact q
      · exact hk j (by omega)
/-- new labels of the first i states -/
def NL (nx : Bool → Nat → Nat) (lab nl : Nat → Nat) (i n : Nat) : Prop := (∀ j, j < i → nl j < n) ∧ (∀ c, c < n → ∃ j, j < i ∧ nl j = c) ∧ (∀ j, j < i → ∀ k, k < i → (nl j = nl k ↔ Sm nx lab j k)) ∧ (0 < i → nl 0 = 0) ∧ n ≤ i
theorem NL_old {nx : Bool → Nat → Nat} {lab nl : Nat → Nat} {i n k : Nat} (h : NL nx lab nl i n) (hk : k < i) (hs : Sm nx lab k i) : NL nx lab (fun j => if j = i then nl k else nl j) (i + 1) n := by
  obtain ⟨h1, h2, h3, h4, h5⟩ := h
  refine ⟨?_, ?_, ?_, ?_, by omega⟩
  · intro j hj
    show (if j = i then nl k else nl j) < n
    by_cases z : j = i
    · rw [if_pos z]; exact h1 k hk
    · rw [if_neg z]; exact h1 j (by omega)
  · intro c hc
    obtain ⟨j, hj, e⟩ := h2 c hc
    refine ⟨j, by omega, ?_⟩
    show (if j = i then nl k else nl j) = c
    rw [if_neg (by omega)]; exact e
  · intro j hj l hl
    show (if j = i then nl k else nl j) = (if l = i then nl k else nl l) ↔ _
    by_cases z : j = i
    · by_cases y : l = i
      · rw [if_pos z, if_pos y, z, y]; exact ⟨fun _ => Sm_rf i, fun _ => rfl⟩
      · rw [if_pos z, if_neg y, h3 k hk l (by omega), z]
        exact ⟨fun q => Sm_tr (Sm_sy hs) q, fun q => Sm_tr hs q⟩
    · by_cases y : l = i
      · rw [if_neg z, if_pos y, h3 j (by omega) k hk, y]
        exact ⟨fun q => Sm_tr q hs, fun q => Sm_tr q (Sm_sy hs)⟩
      · rw [if_neg z, if_neg y]; exact h3 j (by omega) l (by omega)
  · intro _
    show (if 0 = i then nl k else nl 0) = 0
    rw [if_neg (by omega)]; exact h4 (by omega)
theorem NL_new {nx : Bool → Nat → Nat} {lab nl : Nat → Nat} {i n : Nat} (h : NL nx lab nl i n) (hs : ∀ k, k < i → ¬ Sm nx lab k i) : NL nx lab (fun j => if j = i then n else nl j) (i + 1) (n + 1) := by
  obtain ⟨h1, h2, h3, h4, h5⟩ := h
  refine ⟨?_, ?_, ?_, ?_, by omega⟩
  · intro j hj
    show (if j = i then n else nl j) < n + 1
    by_cases z : j = i
    · rw [if_pos z]; omega
    · rw [if_neg z]; have := h1 j (by omega); omega
  · intro c hc
    by_cases z : c = n
    · exact ⟨i, by omega, by show (if i = i then n else nl i) = c; rw [if_pos rfl, z]⟩
    · obtain ⟨j, hj, e⟩ := h2 c (by omega)
      refine ⟨j, by omega, ?_⟩
      show (if j = i then n else nl j) = c
      rw [if_neg (by omega)]; exact e
  · intro j hj l hl
    show (if j = i then n else nl j) = (if l = i then n else nl l) ↔ _
    by_cases z : j = i
    · by_cases y : l = i
      · rw [if_pos z, if_pos y, z, y]; exact ⟨fun _ => Sm_rf i, fun _ => rfl⟩
      · rw [if_pos z, if_neg y, z]
        have := h1 l (by omega)
        exact ⟨fun q => by omega, fun q => absurd (Sm_sy q) (hs l (by omega))⟩
    · by_cases y : l = i
      · rw [if_neg z, if_pos y, y]
        have := h1 j (by omega)
        exact ⟨fun q => by omega, fun q => absurd q (hs j (by omega))⟩
      · rw [if_neg z, if_neg y]; exact h3 j (by omega) l (by omega)
  · intro _
    show (if 0 = i then n else nl 0) = 0
    by_cases z : 0 = i
    · rw [if_pos z]; omega
    · rw [if_neg z]; exact h4 (by omega)
theorem pa_4 {post : Int32 → SX → Prop} {N : Nat} {nx : Bool → Nat → Nat} {en : Nat → Bool} {lab : Nat → Nat} (hN : N ≤ 32) (hn : ∀ i, i < N → ∀ b, nx b i < N) (T : Tb N nx en a_plainEnd a_plainNext) (hL : LA N a_classOf lab) (h : ∀ (n : Nat) (nl : Nat → Nat) (co nc : Nat → Int32), NL nx lab nl N n → LA N co nl → post (nI n) (f_openStates, f_openBegin, f_openEnd, nI N, f_classes, f_listed, a_arrows, a_begins, a_finals, a_openTo, a_plainSet, a_plainEnd, a_plainNext, co, nc, a_differs, a_waits, a_members, a_sideNext, a_sideEnd, a_sideCount, a_joined, a_image, a_pairA, a_pairB, a_pairFrom, a_pairLetter, a_seen, a_words, a_more)) : ∀ d i n (nl : Nat → Nat) (nc : Nat → Int32), i + d = N → NL nx lab nl i n → (∀ j, j < i → nc j = nI (nl j)) → wX_partAll_4 post f_openStates f_openBegin f_openEnd (nI N) f_classes f_listed (d + 1) (nI n) (nI i) a_arrows a_begins a_finals a_openTo a_plainSet a_plainEnd a_plainNext a_classOf nc a_differs a_waits a_members a_sideNext a_sideEnd a_sideCount a_joined a_image a_pairA a_pairB a_pairFrom a_pairLetter a_seen a_words a_more := by
  intro d
  induction d with
  | zero =>
    intro i n nl nc e hl hc
    have ei : i = N := by omega
    subst ei
    refine br_t (nI_le (Nat.le_refl i) (by omega)) (Exists.intro (i + 1) (pa_77 (nl := nl) hN (fun j hj => ⟨hc j hj, ?_⟩) (fun co hco => h n nl co nc hl hco) i 0 a_classOf (by omega) (fun j hj => by omega)))
    have := hl.1 j hj
    have := hl.2.2.2.2
    omega
  | succ d ih =>
    intro i n nl nc e hl hc
    have h5 := hl.2.2.2.2
    have up : ∀ x : Nat, ∀ j, j < i + 1 → upd nc i (nI x) j = nI (if j = i then x else nl j) := by
      intro x j hj
      by_cases z : j = i
      · rw [z, pk_us, if_pos rfl]
      · rw [pk_un z, if_neg z]; exact hc j (by omega)
    refine br_f (nI_ge (by omega) (by omega)) (Exists.intro (i + 1) (pa_14 (nl := nl) hN hn T hL (by omega) (by omega) (fun j hj => ⟨hc j hj, ?_⟩) (fun k hk hs => ih (i + 1) n _ _ (by omega) (NL_old hl hk hs) (up (nl k))) (fun hs => ih (i + 1) (n + 1) _ _ (by omega) (NL_new hl hs) (up n)) i 0 (by omega) (fun j hj => by omega)))
    have := hl.1 j hj
    omega
theorem pa_all {post : Int32 → SX → Prop} {N : Nat} {nx : Bool → Nat → Nat} {en : Nat → Bool} {lab : Nat → Nat} (hN : N ≤ 32) (hn : ∀ i, i < N → ∀ b, nx b i < N) (T : Tb N nx en a_plainEnd a_plainNext) (hL : LA N a_classOf lab) (h : ∀ (n : Nat) (nl : Nat → Nat) (co nc : Nat → Int32), NL nx lab nl N n → LA N co nl → post (nI n) (f_openStates, f_openBegin, f_openEnd, nI N, f_classes, f_listed, a_arrows, a_begins, a_finals, a_openTo, a_plainSet, a_plainEnd, a_plainNext, co, nc, a_differs, a_waits, a_members, a_sideNext, a_sideEnd, a_sideCount, a_joined, a_image, a_pairA, a_pairB, a_pairFrom, a_pairLetter, a_seen, a_words, a_more)) : wpX_partAll post (f_openStates, f_openBegin, f_openEnd, nI N, f_classes, f_listed, a_arrows, a_begins, a_finals, a_openTo, a_plainSet, a_plainEnd, a_plainNext, a_classOf, a_newClass, a_differs, a_waits, a_members, a_sideNext, a_sideEnd, a_sideCount, a_joined, a_image, a_pairA, a_pairB, a_pairFrom, a_pairLetter, a_seen, a_words, a_more) :=
  Exists.intro (N + 1) (pa_4 hN hn T hL h N 0 0 (fun _ => 0) a_newClass (by omega) ⟨fun j hj => absurd hj (Nat.not_lt_zero j), fun c hc => absurd hc (Nat.not_lt_zero c), fun j hj => absurd hj (Nat.not_lt_zero j), fun z => absurd z (Nat.not_lt_zero 0), Nat.le_refl 0⟩ (fun j hj => absurd hj (Nat.not_lt_zero j)))
/-- what all rounds keep -/
def RD (nx : Bool → Nat → Nat) (en : Nat → Bool) (N : Nat) (lab : Nat → Nat) : Prop := (∀ i, i < N → ∀ j, j < N → EqS nx en i j → lab i = lab j) ∧ (∀ i, i < N → ∀ j, j < N → lab i = lab j → en i = en j)
theorem RD_s {nx : Bool → Nat → Nat} {en : Nat → Bool} {N n : Nat} {lab nl : Nat → Nat} (hn : ∀ i, i < N → ∀ b, nx b i < N) (h : RD nx en N lab) (hl : NL nx lab nl N n) : RD nx en N nl := by
  refine ⟨?_, ?_⟩
  · intro i hi j hj e
    refine (hl.2.2.1 i hi j hj).mpr ⟨h.1 i hi j hj e, h.1 _ (hn i hi false) _ (hn j hj false) (EqS_st e false), h.1 _ (hn i hi true) _ (hn j hj true) (EqS_st e true)⟩
  · intro i hi j hj e
    exact h.2 i hi j hj ((hl.2.2.1 i hi j hj).mp e).1
theorem sr_47 {post : SX → Prop} {N : Nat} {nx : Bool → Nat → Nat} {en : Nat → Bool} (hN : N ≤ 32) (h0 : 0 < N) (hn : ∀ i, i < N → ∀ b, nx b i < N) (T : Tb N nx en a_plainEnd a_plainNext) (h : ∀ (n : Nat) (lab : Nat → Nat) (co nc : Nat → Int32), Lab N lab n (EqS nx en) → n ≤ 32 → lab 0 = 0 → LA N co lab → post (f_openStates, f_openBegin, f_openEnd, nI N, nI n, f_listed, a_arrows, a_begins, a_finals, a_openTo, a_plainSet, a_plainEnd, a_plainNext, co, nc, a_differs, a_waits, a_members, a_sideNext, a_sideEnd, a_sideCount, a_joined, a_image, a_pairA, a_pairB, a_pairFrom, a_pairLetter, a_seen, a_words, a_more)) : ∀ d p n (labp lab : Nat → Nat) (co nc : Nat → Int32), 32 ≤ p + d → RD nx en N lab → NL nx labp lab N n → LA N co lab → (∀ j, 0 < p → j < N → labp j < p) → (∀ c, c < p → ∃ j, j < N ∧ labp j = c) → wX_sizeByRounds_47 post (d + 1) (nI p) f_openStates f_openBegin f_openEnd (nI N) (nI n) f_listed a_arrows a_begins a_finals a_openTo a_plainSet a_plainEnd a_plainNext co nc a_differs a_waits a_members a_sideNext a_sideEnd a_sideCount a_joined a_image a_pairA a_pairB a_pairFrom a_pairLetter a_seen a_words a_more := by
  have stop : ∀ p n (labp lab : Nat → Nat) (co nc : Nat → Int32), RD nx en N lab → NL nx labp lab N n → LA N co lab → (∀ j, 0 < p → j < N → labp j < p) → (∀ c, c < p → ∃ j, j < N ∧ labp j = c) → n = p → post (f_openStates, f_openBegin, f_openEnd, nI N, nI n, f_listed, a_arrows, a_begins, a_finals, a_openTo, a_plainSet, a_plainEnd, a_plainNext, co, nc, a_differs, a_waits, a_members, a_sideNext, a_sideEnd, a_sideCount, a_joined, a_image, a_pairA, a_pairB, a_pairFrom, a_pairLetter, a_seen, a_words, a_more) := by
    intro p n labp lab co nc hR hl hL hp1 hp2 e
    obtain ⟨l1, l2, l3, l4, l5⟩ := hl
    have n0 : 0 < n := by have := l1 0 h0; omega
    have eq := Lab_eq (lab := lab) hp2 (fun j hj => hp1 j (by omega) hj) l1 (fun i hi j hj q => ((l3 i hi j hj).mp q).1) (by omega)
    refine h n lab co nc ⟨l1, l2, fun j hj k hk => ⟨fun q v => ?_, hR.1 j hj k hk⟩⟩ (by omega) (l4 h0) hL
    refine EqS_of (N := N) (fun i j => lab i = lab j) hn ?_ v j hj k hk q
    intro i hi j hj q
    have s := (l3 i hi j hj).mp q
    exact ⟨hR.2 i hi j hj q, fun b => eq _ (hn i hi b) _ (hn j hj b) (Sm_b s b)⟩
  intro d
  induction d with
  | zero =>
    intro p n labp lab co nc e hR hl hL hp1 hp2
    have h5 := hl.2.2.2.2
    have le : p ≤ n := Lab_up hp2 hl.1 (fun i hi j hj q => ((hl.2.2.1 i hi j hj).mp q).1)
    have en' : n = p := by omega
    exact br_t (by rw [en']) (stop p n labp lab co nc hR hl hL hp1 hp2 en')
  | succ d ih =>
    intro p n labp lab co nc e hR hl hL hp1 hp2
    have h5 := hl.2.2.2.2
    have le : p ≤ n := Lab_up hp2 hl.1 (fun i hi j hj q => ((hl.2.2.1 i hi j hj).mp q).1)
    refine pk_eq n p (fun q => stop p n labp lab co nc hR hl hL hp1 hp2 q) (fun q => pa_all hN hn T hL (fun n' nl co' nc' hl' hL' => ?_)) rfl rfl (by omega) (by omega)
    exact ih n n' lab nl co' nc' (by omega) (RD_s hn hR hl') hl' hL' (fun j _ hj => hl.1 j hj) hl.2.1
theorem sr_2 {post : SX → Prop} {N : Nat} {nx : Bool → Nat → Nat} {en : Nat → Bool} (hN : N ≤ 32) (h0 : 0 < N) (hn : ∀ i, i < N → ∀ b, nx b i < N) (T : Tb N nx en a_plainEnd a_plainNext) (h : ∀ (n : Nat) (lab : Nat → Nat) (co nc : Nat → Int32), Lab N lab n (EqS nx en) → n ≤ 32 → lab 0 = 0 → LA N co lab → post (f_openStates, f_openBegin, f_openEnd, nI N, nI n, f_listed, a_arrows, a_begins, a_finals, a_openTo, a_plainSet, a_plainEnd, a_plainNext, co, nc, a_differs, a_waits, a_members, a_sideNext, a_sideEnd, a_sideCount, a_joined, a_image, a_pairA, a_pairB, a_pairFrom, a_pairLetter, a_seen, a_words, a_more)) : ∀ d i (co : Nat → Int32), i + d = N → (∀ j, j < i → co j = nI (en j).toNat) → wX_sizeByRounds_2 post f_openStates f_openBegin f_openEnd (nI N) f_classes f_listed (d + 1) (nI i) a_arrows a_begins a_finals a_openTo a_plainSet a_plainEnd a_plainNext co a_newClass a_differs a_waits a_members a_sideNext a_sideEnd a_sideCount a_joined a_image a_pairA a_pairB a_pairFrom a_pairLetter a_seen a_words a_more := by
  intro d
  induction d with
  | zero =>
    intro i co e hc
    have ei : i = N := by omega
    subst ei
    have hL : LA i co (fun j => (en j).toNat) := fun j hj => ⟨hc j hj, by show (en j).toNat < 64; have := tn_le (en j); omega⟩
    refine br_t (nI_le (Nat.le_refl i) (by omega)) (pa_all (a_classOf := co) hN hn T hL (fun n nl co' nc' hl hL' => Exists.intro 33 ?_))
    have hR : RD nx en i (fun j => (en j).toNat) := by
      refine ⟨fun a _ b _ q => ?_, fun a _ b _ q => ?_⟩
      · have z : en a = en b := q []
        show (en a).toNat = (en b).toNat
        rw [z]
      · have z : (en a).toNat = (en b).toNat := q
        cases ea : en a <;> cases eb : en b <;> rw [ea, eb] at z <;> first | rfl | exact absurd z (by decide)
    exact sr_47 hN h0 hn T h 32 0 n (fun j => (en j).toNat) nl co' nc' (by omega) (RD_s hn hR hl) hl hL' (fun j z => absurd z (Nat.not_lt_zero 0)) (fun c z => absurd z (Nat.not_lt_zero c))
  | succ d ih =>
    intro i co e hc
    have key : ∀ j, j < i + 1 → upd co i (nI (en i).toNat) j = nI (en j).toNat := by
      intro j hj
      by_cases z : j = i
      · rw [z, pk_us]
      · rw [pk_un z]; exact hc j (by omega)
    have q0 : vp_nar .byte ((0 : Int32).toInt8.toInt32) = nI 0 := bs_w8 (n := 0) (by omega)
    have q1 : vp_nar .byte ((1 : Int32).toInt8.toInt32) = nI 1 := bs_w8 (n := 1) (by omega)
    refine br_f (nI_ge (by omega) (by omega)) ?_
    rw [nI_clamp (by omega), T.1 i (by omega), q0, q1]
    refine And.intro (vp_in_nI (by omega) (by omega)) (bi_z (fun hb => And.intro (vp_in_nI (by omega) (by omega)) (nm_e (nm_r (nI_1 i) (ih (i + 1) _ (by omega) ?_)))) (fun hb => And.intro (vp_in_nI (by omega) (by omega)) (nm_e (nm_r (nI_1 i) (ih (i + 1) _ (by omega) ?_)))))
    · rw [hb] at key; exact key
    · rw [hb] at key; exact key
theorem sr_all {post : SX → Prop} {N : Nat} {nx : Bool → Nat → Nat} {en : Nat → Bool} (hN : N ≤ 32) (h0 : 0 < N) (hn : ∀ i, i < N → ∀ b, nx b i < N) (T : Tb N nx en a_plainEnd a_plainNext) (h : ∀ (n : Nat) (lab : Nat → Nat) (co nc : Nat → Int32), Lab N lab n (EqS nx en) → n ≤ 32 → lab 0 = 0 → LA N co lab → post (f_openStates, f_openBegin, f_openEnd, nI N, nI n, f_listed, a_arrows, a_begins, a_finals, a_openTo, a_plainSet, a_plainEnd, a_plainNext, co, nc, a_differs, a_waits, a_members, a_sideNext, a_sideEnd, a_sideCount, a_joined, a_image, a_pairA, a_pairB, a_pairFrom, a_pairLetter, a_seen, a_words, a_more)) : wpX_sizeByRounds post (f_openStates, f_openBegin, f_openEnd, nI N, f_classes, f_listed, a_arrows, a_begins, a_finals, a_openTo, a_plainSet, a_plainEnd, a_plainNext, a_classOf, a_newClass, a_differs, a_waits, a_members, a_sideNext, a_sideEnd, a_sideCount, a_joined, a_image, a_pairA, a_pairB, a_pairFrom, a_pairLetter, a_seen, a_words, a_more) :=
  Exists.intro (N + 1) (sr_2 hN h0 hn T h N 0 a_classOf (by omega) (fun j hj => absurd hj (Nat.not_lt_zero j)))
end rounds
end
section
/-! size by pairs -/
theorem KC_first {L : List Bool → Prop} {N : Nat} {nx : Bool → Nat → Nat} {en : Nat → Bool} (h : PD L N nx en) {F : Nat → Bool} (hF : ∀ i, i < N → (F i = true ↔ ∀ j, j < i → ¬ EqS nx en j i)) : KC L (cn F N) := by
  obtain ⟨g, g1, g2, g3⟩ := cn_en F N
  have ex : ∀ i, i < N → ∃ c, c < cn F N ∧ EqS nx en (g c) i := by
    intro i hi
    obtain ⟨y, hy, e, r⟩ := rp_ex (EqS nx en) EqS_rf (fun _ _ _ => EqS_tr) i
    obtain ⟨c, hc, ec⟩ := g3 y (by omega) ((hF y (by omega)).mpr r)
    exact ⟨c, hc, by rw [ec]; exact e⟩
  refine KC_rel h (fun c i => EqS nx en (g c) i) ?_ ex ?_ ?_
  · intro c hc
    exact ⟨g c, (g1 c hc).1, EqS_rf _⟩
  · intro c hc i hi j hj e1 e2
    exact EqS_tr (EqS_sy e1) e2
  · intro c hc d hd i hi j hj e1 e2 e
    have q : EqS nx en (g c) (g d) := EqS_tr e1 (EqS_tr e (EqS_sy e2))
    have hgc := g1 c hc
    have hgd := g1 d hd
    rcases Nat.lt_trichotomy (g c) (g d) with z | z | z
    · exact absurd q ((hF _ hgd.1).mp hgd.2 _ z)
    · exact g2 c hc d hd z
    · exact absurd (EqS_sy q) ((hF _ hgc.1).mp hgc.2 _ z)
section pairs
variable {f_openStates f_openBegin f_openEnd f_plainCount f_classes f_listed : Int32} {a_arrows a_begins a_finals a_openTo a_plainSet a_plainEnd a_plainNext a_classOf a_newClass a_differs a_waits a_members a_sideNext a_sideEnd a_sideCount a_joined a_image a_pairA a_pairB a_pairFrom a_pairLetter a_seen a_words a_more : Nat → Int32}
def DA (N : Nat) (df : Nat → Int32) (D : Nat → Bool) : Prop := ∀ c, c < 64 * N → df c = bi (D c)
theorem DA_u {N : Nat} {df : Nat → Int32} {D : Nat → Bool} (h : DA N df D) (c : Nat) (b : Bool) : DA N (upd df c (bi b)) (fun j => if j = c then b else D j) := by
  intro j hj
  by_cases z : j = c
  · rw [z, pk_us]; show _ = bi (if c = c then b else D c); rw [if_pos rfl]
  · rw [pk_un z]; show _ = bi (if j = c then b else D j); rw [if_neg z]; exact h j hj
theorem m64 (a b : Nat) : nI a * 64 + nI b = nI (64 * a + b) := by
  show nI a * nI 64 + nI b = _
  rw [pk_mul, nI_add]; exact congrArg nI (by omega)
theorem la_step {post : Int32 → Prop} {N i j l n : Nat} {b c : Bool} {nx : Bool → Nat → Nat} {en : Nat → Bool} {D : Nat → Bool} (hN : N ≤ 32) (hn : ∀ i, i < N → ∀ b, nx b i < N) (T : Tb N nx en a_plainEnd a_plainNext) (hD : DA N a_differs D) (hi : i < N) (hj : j < N) (hb : b.toNat = l) (h : wX_leadsApart_5 post (nI i) (nI j) f_openStates f_openBegin f_openEnd f_plainCount f_classes f_listed a_arrows a_begins a_finals a_openTo a_plainSet a_plainEnd a_plainNext a_classOf a_newClass a_differs a_waits a_members a_sideNext a_sideEnd a_sideCount a_joined a_image a_pairA a_pairB a_pairFrom a_pairLetter a_seen a_words a_more n (bi (c || D (64 * nx b i + nx b j))) (nI (l + 1))) : wX_leadsApart_5 post (nI i) (nI j) f_openStates f_openBegin f_openEnd f_plainCount f_classes f_listed a_arrows a_begins a_finals a_openTo a_plainSet a_plainEnd a_plainNext a_classOf a_newClass a_differs a_waits a_members a_sideNext a_sideEnd a_sideCount a_joined a_image a_pairA a_pairB a_pairFrom a_pairLetter a_seen a_words a_more (n + 1) (bi c) (nI l) := by
  have hl := tb_lt b
  rw [hb] at hl
  have t1 := T.2 i hi b
  have t2 := T.2 j hj b
  rw [hb] at t1 t2
  have n1 := hn i hi b
  have n2 := hn j hj b
  refine br_f (nI_ge (b := 2) hl (by omega)) ?_
  rw [m2l, m2l, nI_clamp (by omega), nI_clamp (by omega), t1, t2]
  refine And.intro (vp_in_nI (by omega) (by omega)) (nm_e (And.intro (vp_in_nI (by omega) (by omega)) (nm_e ?_)))
  rw [m64, nI_clamp (by omega), hD _ (by omega)]
  refine bi_z (fun z => And.intro (vp_in_nI (by omega) (by omega)) (bi_z (fun q => nm_r (nI_1 l) ?_) (fun q => nm_r (nI_1 l) ?_))) (fun z => nm_r (nI_1 l) ?_)
  · rw [z, q] at h; exact h
  · rw [z, q] at h; exact h
  · rw [z] at h; exact h
def lda (nx : Bool → Nat → Nat) (D : Nat → Bool) (i j : Nat) : Bool := D (64 * nx false i + nx false j) || D (64 * nx true i + nx true j)
theorem la_all {post : Int32 → Prop} {N i j : Nat} {nx : Bool → Nat → Nat} {en : Nat → Bool} {D : Nat → Bool} (hN : N ≤ 32) (hn : ∀ i, i < N → ∀ b, nx b i < N) (T : Tb N nx en a_plainEnd a_plainNext) (hD : DA N a_differs D) (hi : i < N) (hj : j < N) (h : post (bi (lda nx D i j))) : wpX_leadsApart post (f_openStates, f_openBegin, f_openEnd, f_plainCount, f_classes, f_listed, a_arrows, a_begins, a_finals, a_openTo, a_plainSet, a_plainEnd, a_plainNext, a_classOf, a_newClass, a_differs, a_waits, a_members, a_sideNext, a_sideEnd, a_sideCount, a_joined, a_image, a_pairA, a_pairB, a_pairFrom, a_pairLetter, a_seen, a_words, a_more) (nI i) (nI j) :=
  Exists.intro 3 (la_step (b := false) (c := false) hN hn T hD hi hj rfl (la_step (b := true) hN hn T hD hi hj rfl (br_t (by decide) (And.intro (bi_n _) h))))
/-- marks: only pairs that some word parts, and all where ends differ -/
def MK (nx : Bool → Nat → Nat) (en : Nat → Bool) (N : Nat) (D : Nat → Bool) : Prop := (∀ i, i < N → ∀ j, j < N → D (64 * i + j) = true → ¬ EqS nx en i j) ∧ (∀ i, i < N → ∀ j, j < N → en i ≠ en j → D (64 * i + j) = true)
def un (N : Nat) (D : Nat → Bool) : Nat := cn (fun c => !D c) (64 * N)
/-- a pass so far: up to pair k = 64 i + j, from the marks D0 -/
def PP (nx : Bool → Nat → Nat) (en : Nat → Bool) (N : Nat) (D0 D : Nat → Bool) (mv : Bool) (k : Nat) : Prop := MK nx en N D ∧ (mv = false → un N D = un N D0 ∧ ∀ i, i < N → ∀ j, j < N → 64 * i + j < k → D (64 * i + j) = true ∨ lda nx D i j = false) ∧ (mv = true → un N D < un N D0)
theorem PP_skip {nx : Bool → Nat → Nat} {en : Nat → Bool} {N i j : Nat} {D0 D : Nat → Bool} {mv : Bool} (hN : N ≤ 32) (hi : i < N) (hj : j < N) (h : PP nx en N D0 D mv (64 * i + j)) (hq : D (64 * i + j) = true ∨ lda nx D i j = false) : PP nx en N D0 D mv (64 * i + (j + 1)) := by
  refine ⟨h.1, fun z => ⟨(h.2.1 z).1, fun a ha b hb hk => ?_⟩, h.2.2⟩
  by_cases y : 64 * a + b < 64 * i + j
  · exact (h.2.1 z).2 a ha b hb y
  · have e1 : a = i := by omega
    have e2 : b = j := by omega
    subst e1 e2
    exact hq
theorem PP_mark {nx : Bool → Nat → Nat} {en : Nat → Bool} {N i j : Nat} {D0 D : Nat → Bool} {mv : Bool} (hn : ∀ i, i < N → ∀ b, nx b i < N) (hN : N ≤ 32) (hi : i < N) (hj : j < N) (h : PP nx en N D0 D mv (64 * i + j)) (hd : D (64 * i + j) = false) (hl : lda nx D i j = true) (k : Nat) : PP nx en N D0 (fun c => if c = 64 * i + j then true else D c) true k := by
  have hu : un N (fun c => if c = 64 * i + j then true else D c) < un N D := by
    refine cn_lt (64 * N) ?_ ⟨64 * i + j, by omega, ?_, ?_⟩
    · intro c _
      show (!(if c = 64 * i + j then true else D c)) = true → (!D c) = true
      by_cases z : c = 64 * i + j
      · rw [if_pos z]; intro q; exact absurd q (by decide)
      · rw [if_neg z]; exact id
    · show (!(if 64 * i + j = 64 * i + j then true else D (64 * i + j))) = false
      rw [if_pos rfl]; rfl
    · show (!D (64 * i + j)) = true
      rw [hd]; rfl
  have hu0 : un N D ≤ un N D0 := by
    cases hm : mv
    · exact Nat.le_of_eq (h.2.1 hm).1
    · exact Nat.le_of_lt (h.2.2 hm)
  refine ⟨⟨?_, ?_⟩, fun z => absurd z (by decide), fun _ => by omega⟩
  · intro a ha b hb
    show (if 64 * a + b = 64 * i + j then true else D (64 * a + b)) = true → _
    by_cases z : 64 * a + b = 64 * i + j
    · have e1 : a = i := by omega
      have e2 : b = j := by omega
      subst e1 e2
      intro _ e
      unfold lda at hl
      rw [Bool.or_eq_true] at hl
      rcases hl with q | q
      · exact h.1.1 _ (hn a ha false) _ (hn b hb false) q (EqS_st e false)
      · exact h.1.1 _ (hn a ha true) _ (hn b hb true) q (EqS_st e true)
    · rw [if_neg z]; exact h.1.1 a ha b hb
  · intro a ha b hb q
    show (if 64 * a + b = 64 * i + j then true else D (64 * a + b)) = true
    by_cases z : 64 * a + b = 64 * i + j
    · rw [if_pos z]
    · rw [if_neg z]; exact h.1.2 a ha b hb q
theorem mp_14 {post : Int32 → SX → Prop} {J : Int32 → Int32 → (Nat → Int32) → (Nat → Int32) → (Nat → Int32) → (Nat → Int32) → (Nat → Int32) → (Nat → Int32) → (Nat → Int32) → (Nat → Int32) → (Nat → Int32) → (Nat → Int32) → (Nat → Int32) → (Nat → Int32) → (Nat → Int32) → (Nat → Int32) → (Nat → Int32) → (Nat → Int32) → (Nat → Int32) → (Nat → Int32) → (Nat → Int32) → (Nat → Int32) → (Nat → Int32) → (Nat → Int32) → (Nat → Int32) → (Nat → Int32) → Prop} {N i : Nat} {nx : Bool → Nat → Nat} {en : Nat → Bool} {D0 : Nat → Bool} (hN : N ≤ 32) (hn : ∀ i, i < N → ∀ b, nx b i < N) (T : Tb N nx en a_plainEnd a_plainNext) (hi : i < N) (h : ∀ (D : Nat → Bool) (df : Nat → Int32) (mv : Bool), DA N df D → PP nx en N D0 D mv (64 * (i + 1)) → J (bi mv) (nI (i + 1)) a_arrows a_begins a_finals a_openTo a_plainSet a_plainEnd a_plainNext a_classOf a_newClass df a_waits a_members a_sideNext a_sideEnd a_sideCount a_joined a_image a_pairA a_pairB a_pairFrom a_pairLetter a_seen a_words a_more) : ∀ d j (D : Nat → Bool) (df : Nat → Int32) (mv : Bool), j + d = N → DA N df D → PP nx en N D0 D mv (64 * i + j) → wX_markPairs_14 post J (nI i) f_openStates f_openBegin f_openEnd (nI N) f_classes f_listed (d + 1) (bi mv) (nI j) a_arrows a_begins a_finals a_openTo a_plainSet a_plainEnd a_plainNext a_classOf a_newClass df a_waits a_members a_sideNext a_sideEnd a_sideCount a_joined a_image a_pairA a_pairB a_pairFrom a_pairLetter a_seen a_words a_more := by
  intro d
  induction d with
  | zero =>
    intro j D df mv e hD hP
    refine br_t (nI_le (by omega) (by omega)) (nm_r (nI_1 i) (h D df mv hD ⟨hP.1, fun z => ⟨(hP.2.1 z).1, fun a ha b hb hk => (hP.2.1 z).2 a ha b hb ?_⟩, hP.2.2⟩))
    omega
  | succ d ih =>
    intro j D df mv e hD hP
    refine br_f (nI_ge (by omega) (by omega)) ?_
    rw [m64, nI_clamp (by omega), hD _ (by omega)]
    refine And.intro (vp_in_nI (by omega) (by omega)) (bi_z (fun hd => la_all hN hn T hD hi (by omega) (bi_z (fun hl => nm_r (nI_1 j) (ih (j + 1) D df mv (by omega) hD (PP_skip hN hi (by omega) hP (Or.inr hl)))) (fun hl => And.intro (vp_in_nI (by omega) (by omega)) (nm_r (e' := upd df (64 * i + j) (bi true)) (by rw [bs_v1]; rfl) (nm_r (nI_1 j) (ih (j + 1) _ _ true (by omega) (DA_u hD _ true) (PP_mark hn hN hi (by omega) hP hd hl _))))))) (fun hd => nm_r (nI_1 j) (ih (j + 1) D df mv (by omega) hD (PP_skip hN hi (by omega) hP (Or.inl hd)))))
theorem mp_4 {post : Int32 → SX → Prop} {N : Nat} {nx : Bool → Nat → Nat} {en : Nat → Bool} {D0 : Nat → Bool} (hN : N ≤ 32) (hn : ∀ i, i < N → ∀ b, nx b i < N) (T : Tb N nx en a_plainEnd a_plainNext) (h : ∀ (D : Nat → Bool) (df : Nat → Int32) (mv : Bool), DA N df D → PP nx en N D0 D mv (64 * N) → post (bi mv) (f_openStates, f_openBegin, f_openEnd, nI N, f_classes, f_listed, a_arrows, a_begins, a_finals, a_openTo, a_plainSet, a_plainEnd, a_plainNext, a_classOf, a_newClass, df, a_waits, a_members, a_sideNext, a_sideEnd, a_sideCount, a_joined, a_image, a_pairA, a_pairB, a_pairFrom, a_pairLetter, a_seen, a_words, a_more)) : ∀ d i (D : Nat → Bool) (df : Nat → Int32) (mv : Bool), i + d = N → DA N df D → PP nx en N D0 D mv (64 * i) → wX_markPairs_4 post f_openStates f_openBegin f_openEnd (nI N) f_classes f_listed (d + 1) (bi mv) (nI i) a_arrows a_begins a_finals a_openTo a_plainSet a_plainEnd a_plainNext a_classOf a_newClass df a_waits a_members a_sideNext a_sideEnd a_sideCount a_joined a_image a_pairA a_pairB a_pairFrom a_pairLetter a_seen a_words a_more := by
  intro d
  induction d with
  | zero =>
    intro i D df mv e hD hP
    have ei : i = N := by omega
    subst ei
    exact br_t (nI_le (Nat.le_refl i) (by omega)) (And.intro (bi_n mv) (h D df mv hD hP))
  | succ d ih =>
    intro i D df mv e hD hP
    exact br_f (nI_ge (by omega) (by omega)) (Exists.intro (N + 1) (mp_14 hN hn T (by omega) (fun D' df' mv' hD' hP' => ih (i + 1) D' df' mv' (by omega) hD' hP') N 0 D df mv (by omega) hD hP))
theorem mp_all {post : Int32 → SX → Prop} {N : Nat} {nx : Bool → Nat → Nat} {en : Nat → Bool} {D0 : Nat → Bool} (hN : N ≤ 32) (hn : ∀ i, i < N → ∀ b, nx b i < N) (T : Tb N nx en a_plainEnd a_plainNext) (hD : DA N a_differs D0) (hM : MK nx en N D0) (h : ∀ (D : Nat → Bool) (df : Nat → Int32) (mv : Bool), DA N df D → PP nx en N D0 D mv (64 * N) → post (bi mv) (f_openStates, f_openBegin, f_openEnd, nI N, f_classes, f_listed, a_arrows, a_begins, a_finals, a_openTo, a_plainSet, a_plainEnd, a_plainNext, a_classOf, a_newClass, df, a_waits, a_members, a_sideNext, a_sideEnd, a_sideCount, a_joined, a_image, a_pairA, a_pairB, a_pairFrom, a_pairLetter, a_seen, a_words, a_more)) : wpX_markPairs post (f_openStates, f_openBegin, f_openEnd, nI N, f_classes, f_listed, a_arrows, a_begins, a_finals, a_openTo, a_plainSet, a_plainEnd, a_plainNext, a_classOf, a_newClass, a_differs, a_waits, a_members, a_sideNext, a_sideEnd, a_sideCount, a_joined, a_image, a_pairA, a_pairB, a_pairFrom, a_pairLetter, a_seen, a_words, a_more) :=
  Exists.intro (N + 1) (mp_4 hN hn T h N 0 D0 a_differs false (by omega) hD ⟨hM, fun _ => ⟨rfl, fun i _ j _ hk => absurd hk (Nat.not_lt_zero _)⟩, fun z => absurd z (by decide)⟩)
theorem PP_end {nx : Bool → Nat → Nat} {en : Nat → Bool} {N : Nat} {D0 D : Nat → Bool} (hn : ∀ i, i < N → ∀ b, nx b i < N) (hN : N ≤ 32) (h : PP nx en N D0 D false (64 * N)) : ∀ i, i < N → ∀ j, j < N → (D (64 * i + j) = true ↔ ¬ EqS nx en i j) := by
  intro i hi j hj
  refine ⟨h.1.1 i hi j hj, fun q => ?_⟩
  cases e : D (64 * i + j)
  · exfalso
    apply q
    intro v
    refine EqS_of (N := N) (fun i j => D (64 * i + j) = false) hn ?_ v i hi j hj e
    intro a ha b hb z
    refine ⟨?_, ?_⟩
    · apply Classical.byContradiction
      intro y
      rw [h.1.2 a ha b hb y] at z
      exact absurd z (by decide)
    · intro c
      have := (h.2.1 rfl).2 a ha b hb (by omega)
      rw [z] at this
      rcases this with y | y
      · exact absurd y (by decide)
      · unfold lda at y
        rw [Bool.or_eq_false_iff] at y
        cases c
        · exact y.1
        · exact y.2
  · rfl
theorem bp_93 {post : SX → Prop} {J : Int32 → Int32 → Prop} {N i q : Nat} {D : Nat → Bool} (hN : N ≤ 32) (hi : i < N) (hD : DA N a_differs D) (h : ∀ fr : Bool, (fr = true ↔ ∀ j, j < i → D (64 * j + i) = true) → J (nI (i + 1)) (nI (q + fr.toNat))) : ∀ d k, k + d = i → (∀ j, j < k → D (64 * j + i) = true) → wX_sizeByPairs_93 post J (nI i) f_openStates f_openBegin f_openEnd f_plainCount (nI q) f_listed a_arrows a_begins a_finals a_openTo a_plainSet a_plainEnd a_plainNext a_classOf a_newClass a_differs a_waits a_members a_sideNext a_sideEnd a_sideCount a_joined a_image a_pairA a_pairB a_pairFrom a_pairLetter a_seen a_words a_more (d + 1) (nI k) := by
  intro d
  induction d with
  | zero =>
    intro k e hk
    have ek : k = i := by omega
    subst ek
    exact br_t (nI_le (Nat.le_refl k) (by omega)) (br_t rfl (nm_r (nI_1 q) (nm_r (nI_1 k) (h true ⟨fun _ => hk, fun _ => rfl⟩))))
  | succ d ih =>
    intro k e hk
    refine br_f (nI_ge (by omega) (by omega)) ?_
    rw [m64, nI_clamp (by omega), hD _ (by omega)]
    refine And.intro (vp_in_nI (by omega) (by omega)) (bi_z (fun z => br_f ?_ (nm_r (nI_add q 0) (nm_r (nI_1 i) (h false ⟨fun y => absurd y (by decide), fun y => ?_⟩)))) (fun z => nm_r (nI_1 k) (ih (k + 1) (by omega) ?_)))
    · rw [nI_eq (by omega) (by omega)]; omega
    · have := y k (by omega); rw [z] at this; exact absurd this (by decide)
    · intro j hj
      by_cases y : j = k
      · rw [y]; exact z
      · exact hk j (by omega)
theorem bp_83 {post : SX → Prop} {N : Nat} {D : Nat → Bool} (hN : N ≤ 32) (hD : DA N a_differs D) (h : ∀ F : Nat → Bool, (∀ i, i < N → (F i = true ↔ ∀ j, j < i → D (64 * j + i) = true)) → post (f_openStates, f_openBegin, f_openEnd, nI N, nI (cn F N), f_listed, a_arrows, a_begins, a_finals, a_openTo, a_plainSet, a_plainEnd, a_plainNext, a_classOf, a_newClass, a_differs, a_waits, a_members, a_sideNext, a_sideEnd, a_sideCount, a_joined, a_image, a_pairA, a_pairB, a_pairFrom, a_pairLetter, a_seen, a_words, a_more)) : ∀ d i (F : Nat → Bool), i + d = N → (∀ k, k < i → (F k = true ↔ ∀ j, j < k → D (64 * j + k) = true)) → wX_sizeByPairs_83 post f_openStates f_openBegin f_openEnd (nI N) f_listed a_arrows a_begins a_finals a_openTo a_plainSet a_plainEnd a_plainNext a_classOf a_newClass a_differs a_waits a_members a_sideNext a_sideEnd a_sideCount a_joined a_image a_pairA a_pairB a_pairFrom a_pairLetter a_seen a_words a_more (d + 1) (nI i) (nI (cn F i)) := by
  intro d
  induction d with
  | zero =>
    intro i F e hF
    have ei : i = N := by omega
    subst ei
    exact br_t (nI_le (Nat.le_refl i) (by omega)) (h F hF)
  | succ d ih =>
    intro i F e hF
    refine br_f (nI_ge (by omega) (by omega)) (Exists.intro (i + 1) (bp_93 hN (by omega) hD (fun fr hf => ?_) i 0 (by omega) (fun j hj => absurd hj (Nat.not_lt_zero j))))
    have := ih (i + 1) (fun z => if z = i then fr else F z) (by omega) (by
      intro z hz
      show (if z = i then fr else F z) = true ↔ _
      by_cases q : z = i
      · rw [if_pos q, q]; exact hf
      · rw [if_neg q]; exact hF z (by omega))
    have e2 : cn (fun z => if z = i then fr else F z) (i + 1) = cn F i + fr.toNat := by
      rw [cn_s, cn_congr i (fun k hk => if_neg (by omega)), if_pos rfl]
    rw [e2] at this
    exact this
theorem bp_64 {post : SX → Prop} {N : Nat} {nx : Bool → Nat → Nat} {en : Nat → Bool} (hN : N ≤ 32) (hn : ∀ i, i < N → ∀ b, nx b i < N) (T : Tb N nx en a_plainEnd a_plainNext) (h : ∀ (F : Nat → Bool) (df : Nat → Int32), (∀ i, i < N → (F i = true ↔ ∀ j, j < i → ¬ EqS nx en j i)) → post (f_openStates, f_openBegin, f_openEnd, nI N, nI (cn F N), f_listed, a_arrows, a_begins, a_finals, a_openTo, a_plainSet, a_plainEnd, a_plainNext, a_classOf, a_newClass, df, a_waits, a_members, a_sideNext, a_sideEnd, a_sideCount, a_joined, a_image, a_pairA, a_pairB, a_pairFrom, a_pairLetter, a_seen, a_words, a_more)) : ∀ d (D0 D : Nat → Bool) (df : Nat → Int32) (mv : Bool), DA N df D → (mv = true → MK nx en N D ∧ un N D ≤ d) → (mv = false → PP nx en N D0 D false (64 * N)) → wX_sizeByPairs_64 post (d + 2) (bi mv) f_openStates f_openBegin f_openEnd (nI N) f_classes f_listed a_arrows a_begins a_finals a_openTo a_plainSet a_plainEnd a_plainNext a_classOf a_newClass df a_waits a_members a_sideNext a_sideEnd a_sideCount a_joined a_image a_pairA a_pairB a_pairFrom a_pairLetter a_seen a_words a_more := by
  have stop : ∀ (D0 D : Nat → Bool) (df : Nat → Int32) (n : Nat), DA N df D → PP nx en N D0 D false (64 * N) → wX_sizeByPairs_64 post (n + 1) (bi false) f_openStates f_openBegin f_openEnd (nI N) f_classes f_listed a_arrows a_begins a_finals a_openTo a_plainSet a_plainEnd a_plainNext a_classOf a_newClass df a_waits a_members a_sideNext a_sideEnd a_sideCount a_joined a_image a_pairA a_pairB a_pairFrom a_pairLetter a_seen a_words a_more := by
    intro D0 D df n hD hP
    refine br_t rfl (Exists.intro (N + 1) (bp_83 (a_differs := df) hN hD (fun F hF => h F df (fun i hi => ?_)) N 0 (fun _ => false) (by omega) (fun k hk => absurd hk (Nat.not_lt_zero k))))
    rw [hF i hi]
    exact ⟨fun z j hj => (PP_end hn hN hP j (by omega) i hi).mp (z j hj), fun z j hj => (PP_end hn hN hP j (by omega) i hi).mpr (z j hj)⟩
  intro d
  induction d with
  | zero =>
    intro D0 D df mv hD h1 h2
    cases hm : mv
    · exact stop D0 D df 1 hD (h2 hm)
    · have hM := h1 hm
      refine br_f bs_10 (mp_all (a_differs := df) hN hn T hD hM.1 (fun D' df' mv' hD' hP' => ?_))
      cases hm' : mv'
      · rw [hm'] at hP'; exact stop D D' df' 0 hD' hP'
      · have := hP'.2.2 hm'; omega
  | succ d ih =>
    intro D0 D df mv hD h1 h2
    cases hm : mv
    · exact stop D0 D df (d + 2) hD (h2 hm)
    · have hM := h1 hm
      refine br_f bs_10 (mp_all (a_differs := df) hN hn T hD hM.1 (fun D' df' mv' hD' hP' => ?_))
      refine ih D D' df' mv' hD' (fun z => ⟨hP'.1, ?_⟩) (fun z => ?_)
      · have := hP'.2.2 z; omega
      · rw [z] at hP'; exact hP'
def d0 (en : Nat → Bool) (N c : Nat) : Bool := decide (c % 64 < N) && (en (c / 64) != en (c % 64))
theorem bp_2 {post : SX → Prop} {N : Nat} {nx : Bool → Nat → Nat} {en : Nat → Bool} (hN : N ≤ 32) (hn : ∀ i, i < N → ∀ b, nx b i < N) (T : Tb N nx en a_plainEnd a_plainNext) (h : ∀ (F : Nat → Bool) (df : Nat → Int32), (∀ i, i < N → (F i = true ↔ ∀ j, j < i → ¬ EqS nx en j i)) → post (f_openStates, f_openBegin, f_openEnd, nI N, nI (cn F N), f_listed, a_arrows, a_begins, a_finals, a_openTo, a_plainSet, a_plainEnd, a_plainNext, a_classOf, a_newClass, df, a_waits, a_members, a_sideNext, a_sideEnd, a_sideCount, a_joined, a_image, a_pairA, a_pairB, a_pairFrom, a_pairLetter, a_seen, a_words, a_more)) : ∀ d c (df : Nat → Int32), c + d = 64 * N → (∀ j, j < c → df j = bi (d0 en N j)) → wX_sizeByPairs_2 post f_openStates f_openBegin f_openEnd (nI N) f_classes f_listed (d + 1) (nI c) a_arrows a_begins a_finals a_openTo a_plainSet a_plainEnd a_plainNext a_classOf a_newClass df a_waits a_members a_sideNext a_sideEnd a_sideCount a_joined a_image a_pairA a_pairB a_pairFrom a_pairLetter a_seen a_words a_more := by
  have e64 : nI N * 64 = nI (64 * N) := by
    show nI N * nI 64 = _
    rw [pk_mul]; exact congrArg nI (by omega)
  intro d
  induction d with
  | zero =>
    intro c df e hd
    have ec : c = 64 * N := by omega
    subst ec
    refine br_t (by rw [e64]; exact nI_le (Nat.le_refl _) (by omega)) (Exists.intro (64 * N + 2) (bp_64 hN hn T h (64 * N) (d0 en N) (d0 en N) df true hd (fun _ => ⟨⟨?_, ?_⟩, cn_le _ _⟩) (fun z => absurd z (by decide))))
    · intro i hi j hj q e
      unfold d0 at q
      rw [show (64 * i + j) % 64 = j by omega, show (64 * i + j) / 64 = i by omega, Bool.and_eq_true] at q
      exact bne_iff_ne.mp q.2 (e [])
    · intro i hi j hj q
      unfold d0
      rw [show (64 * i + j) % 64 = j by omega, show (64 * i + j) / 64 = i by omega, decide_eq_true hj, Bool.true_and]
      exact bne_iff_ne.mpr q
  | succ d ih =>
    intro c df e hd
    have e1 : nI c / 64 = nI (c / 64) := pk_div (by omega) (by decide) (by decide)
    have e2 : nI c - nI c / 64 * 64 = nI (c % 64) := pk_rem (by omega) (by decide) (by decide)
    have vc : vp_in (nI c) 4096 := vp_in_nI (by omega) (by omega)
    have key : ∀ j, j < c + 1 → upd df c (bi (d0 en N c)) j = bi (d0 en N j) := by
      intro j hj
      by_cases z : j = c
      · rw [z, pk_us]
      · rw [pk_un z]; exact hd j (by omega)
    refine br_f (by rw [e64]; exact nI_ge (by omega) (by omega)) ?_
    rw [e2, e1, nI_clamp (by omega), nI_clamp (by omega), nI_clamp (by omega)]
    refine And.intro (by decide) (pk_le N (c % 64) (fun z => And.intro vc (nm_e (nm_r (nI_1 c) (ih (c + 1) _ (by omega) ?_)))) (fun z => And.intro (by decide) (And.intro (vp_in_nI (by omega) (by omega)) (And.intro (by decide) (And.intro (vp_in_nI (by omega) (by omega)) ?_)))))
    · rw [bs_v0]
      have q : d0 en N c = false := by unfold d0; rw [decide_eq_false (by omega)]; rfl
      rw [q] at key; exact key
    · rw [T.1 (c / 64) (by omega), T.1 (c % 64) z]
      refine bi_e (fun y => And.intro vc (nm_e (nm_r (nI_1 c) (ih (c + 1) _ (by omega) ?_)))) (fun y => And.intro vc (nm_e (nm_r (nI_1 c) (ih (c + 1) _ (by omega) ?_))))
      · rw [bs_v0]
        have q : d0 en N c = false := by unfold d0; rw [decide_eq_true z, Bool.true_and]; exact bne_eq_false_iff_eq.mpr y
        rw [q] at key; exact key
      · rw [bs_v1]
        have q : d0 en N c = true := by unfold d0; rw [decide_eq_true z, Bool.true_and]; exact bne_iff_ne.mpr y
        rw [q] at key; exact key
theorem bp_all {post : SX → Prop} {N : Nat} {nx : Bool → Nat → Nat} {en : Nat → Bool} (hN : N ≤ 32) (hn : ∀ i, i < N → ∀ b, nx b i < N) (T : Tb N nx en a_plainEnd a_plainNext) (h : ∀ (F : Nat → Bool) (df : Nat → Int32), (∀ i, i < N → (F i = true ↔ ∀ j, j < i → ¬ EqS nx en j i)) → post (f_openStates, f_openBegin, f_openEnd, nI N, nI (cn F N), f_listed, a_arrows, a_begins, a_finals, a_openTo, a_plainSet, a_plainEnd, a_plainNext, a_classOf, a_newClass, df, a_waits, a_members, a_sideNext, a_sideEnd, a_sideCount, a_joined, a_image, a_pairA, a_pairB, a_pairFrom, a_pairLetter, a_seen, a_words, a_more)) : wpX_sizeByPairs post (f_openStates, f_openBegin, f_openEnd, nI N, f_classes, f_listed, a_arrows, a_begins, a_finals, a_openTo, a_plainSet, a_plainEnd, a_plainNext, a_classOf, a_newClass, a_differs, a_waits, a_members, a_sideNext, a_sideEnd, a_sideCount, a_joined, a_image, a_pairA, a_pairB, a_pairFrom, a_pairLetter, a_seen, a_words, a_more) :=
  Exists.intro (64 * N + 1) (bp_2 hN hn T h (64 * N) 0 a_differs (by omega) (fun j hj => absurd hj (Nat.not_lt_zero j)))
end pairs
end
section
/-! size by splitters -/
/-- C classes of the states below N, as sets -/
def SP (N C : Nat) (mem : Nat → Int32) : Prop := (∀ c, c < C → ∃ i, bt (mem c) i = true) ∧ (∀ c, c < C → ∀ i, bt (mem c) i = true → i < N) ∧ (∀ i, i < N → ∃ c, c < C ∧ bt (mem c) i = true) ∧ (∀ c, c < C → ∀ d, d < C → ∀ i, bt (mem c) i = true → bt (mem d) i = true → c = d)
theorem SP_le {N C : Nat} {mem : Nat → Int32} (h : SP N C mem) : C ≤ N := by
  refine ph_rel (fun c i => bt (mem c) i = true) ?_ ?_
  · intro c hc
    obtain ⟨i, hi⟩ := h.1 c hc
    exact ⟨i, h.2.1 c hc i hi, hi⟩
  · intro c hc c' hc' i h1 h2
    exact h.2.2.2 c hc c' hc' i h1 h2
/-- states of one class end alike; states that no word parts are in one class -/
def SS (nx : Bool → Nat → Nat) (en : Nat → Bool) (N C : Nat) (mem : Nat → Int32) : Prop := (∀ c, c < C → ∀ i j, bt (mem c) i = true → bt (mem c) j = true → en i = en j) ∧ (∀ c, c < C → ∀ i, i < N → ∀ j, j < N → bt (mem c) i = true → EqS nx en i j → bt (mem c) j = true)
/-- where a letter parts two states of a class, one of the two classes that it leads to waits -/
def HI (nx : Bool → Nat → Nat) (C : Nat) (mem : Nat → Int32) (W : Nat → Bool) : Prop := ∀ c, c < C → ∀ i j, bt (mem c) i = true → bt (mem c) j = true → ∀ b : Bool, ∀ d, d < C → ∀ e, e < C → bt (mem d) (nx b i) = true → bt (mem e) (nx b j) = true → d ≠ e → W (2 * d + b.toNat) = true ∨ W (2 * e + b.toNat) = true
/-- splitting by a set: c classes of C0 are done, C are there -/
def SL (N C0 : Nat) (mem0 : Nat → Int32) (W0 : Nat → Bool) (fr : Int32) (c C : Nat) (mem : Nat → Int32) (W : Nat → Bool) : Prop :=
  SP N C mem ∧ C0 ≤ C ∧ (∃ o : Nat → Nat, (∀ d, d < C0 → o d = d) ∧ ∀ d, d < C → o d < C0 ∧ ∀ i, bt (mem d) i = true → bt (mem0 (o d)) i = true) ∧ (∀ d, d < C → (d < c ∨ C0 ≤ d) → ∀ i j, bt (mem d) i = true → bt (mem d) j = true → bt fr i = bt fr j) ∧ (∀ d, c ≤ d → d < C0 → mem d = mem0 d) ∧ (∀ j, j < 2 * C0 → W j = W0 j) ∧ (∀ j, 2 * C0 ≤ j → j < 2 * C → W j = true)
theorem SL_skip {N C0 c C : Nat} {mem0 mem : Nat → Int32} {W0 W : Nat → Bool} {fr : Int32} (h : SL N C0 mem0 W0 fr c C mem W) (hu : ∀ i j, bt (mem c) i = true → bt (mem c) j = true → bt fr i = bt fr j) : SL N C0 mem0 W0 fr (c + 1) C mem W := by
  obtain ⟨h1, h2, h3, h4, h5, h6, h7⟩ := h
  refine ⟨h1, h2, h3, ?_, fun d hd => h5 d (by omega), h6, h7⟩
  intro d hd hk
  by_cases z : d = c
  · rw [z]; exact hu
  · exact h4 d hd (by omega)
theorem SL_split {N C0 c C : Nat} {mem0 mem : Nat → Int32} {W0 W W' : Nat → Bool} {fr A B : Int32} {v : Bool} (h : SL N C0 mem0 W0 fr c C mem W) (hc : c < C0) (hA : ∀ i, bt A i = true ↔ bt (mem c) i = true ∧ bt fr i = v) (hB : ∀ i, bt B i = true ↔ bt (mem c) i = true ∧ bt fr i = !v) (nA : ∃ i, bt A i = true) (nB : ∃ i, bt B i = true) (w1 : ∀ j, j < 2 * C → W' j = W j) (w2 : W' (2 * C) = true) (w3 : W' (2 * C + 1) = true) : SL N C0 mem0 W0 fr (c + 1) (C + 1) (upd (upd mem c A) C B) W' := by
  obtain ⟨⟨p1, p2, p3, p4⟩, h2, ⟨o, o1, o2⟩, h4, h5, h6, h7⟩ := h
  have eC : upd (upd mem c A) C B C = B := pk_us
  have ec : upd (upd mem c A) C B c = A := by rw [pk_un (by omega), pk_us]
  have eo : ∀ d, d ≠ C → d ≠ c → upd (upd mem c A) C B d = mem d := fun d y z => by rw [pk_un y, pk_un z]
  -- each new class lies within an old one
  have sub : ∀ d, d < C + 1 → ∀ i, bt (upd (upd mem c A) C B d) i = true → bt (mem (if d = C then c else d)) i = true := by
    intro d hd i hi
    by_cases y : d = C
    · rw [if_pos y]; rw [y, eC] at hi; exact ((hB i).mp hi).1
    · rw [if_neg y]
      by_cases z : d = c
      · rw [z, ec] at hi; rw [z]; exact ((hA i).mp hi).1
      · rw [eo d y z] at hi; exact hi
  refine ⟨⟨?_, ?_, ?_, ?_⟩, by omega, ⟨fun d => if d = C then c else o d, ?_, ?_⟩, ?_, ?_, ?_, ?_⟩
  · intro d hd
    by_cases y : d = C
    · rw [y, eC]; exact nB
    · by_cases z : d = c
      · rw [z, ec]; exact nA
      · rw [eo d y z]; exact p1 d (by omega)
  · intro d hd i hi
    have := sub d hd i hi
    by_cases y : d = C
    · rw [if_pos y] at this; exact p2 c (by omega) i this
    · rw [if_neg y] at this; exact p2 d (by omega) i this
  · intro i hi
    obtain ⟨d, hd, hm⟩ := p3 i hi
    by_cases z : d = c
    · rw [z] at hm
      by_cases q : bt fr i = v
      · exact ⟨c, by omega, by rw [ec]; exact (hA i).mpr ⟨hm, q⟩⟩
      · have q' : bt fr i = !v := by
          revert q
          cases bt fr i <;> cases v <;> decide
        exact ⟨C, by omega, by rw [eC]; exact (hB i).mpr ⟨hm, q'⟩⟩
    · exact ⟨d, by omega, by rw [eo d (by omega) z]; exact hm⟩
  · intro d hd e he i h1 h2
    have s1 := sub d hd i h1
    have s2 := sub e he i h2
    have key := p4 (if d = C then c else d) (by split <;> omega) (if e = C then c else e) (by split <;> omega) i s1 s2
    by_cases y : d = C
    · by_cases x : e = C
      · omega
      · rw [if_pos y, if_neg x] at key
        rw [y, eC] at h1
        rw [← key, ec] at h2
        have q1 := ((hB i).mp h1).2
        have q2 := ((hA i).mp h2).2
        rw [q1] at q2
        revert q2
        cases v <;> intro q <;> exact absurd q (by decide)
    · by_cases x : e = C
      · rw [if_neg y, if_pos x] at key
        rw [x, eC] at h2
        rw [key, ec] at h1
        have q1 := ((hB i).mp h2).2
        have q2 := ((hA i).mp h1).2
        rw [q1] at q2
        revert q2
        cases v <;> intro q <;> exact absurd q (by decide)
      · rw [if_neg y, if_neg x] at key; exact key
  · intro d hd
    show (if d = C then c else o d) = d
    rw [if_neg (by omega)]; exact o1 d hd
  · intro d hd
    show (if d = C then c else o d) < C0 ∧ ∀ i, _ → bt (mem0 (if d = C then c else o d)) i = true
    by_cases y : d = C
    · rw [if_pos y]
      refine ⟨hc, fun i hi => ?_⟩
      have := sub d hd i hi
      rw [if_pos y] at this
      have q := (o2 c (by omega)).2 i this
      rw [o1 c hc] at q
      exact q
    · rw [if_neg y]
      refine ⟨(o2 d (by omega)).1, fun i hi => ?_⟩
      have := sub d hd i hi
      rw [if_neg y] at this
      exact (o2 d (by omega)).2 i this
  · intro d hd hk i j hi hj
    by_cases y : d = C
    · rw [y, eC] at hi hj
      rw [((hB i).mp hi).2, ((hB j).mp hj).2]
    · by_cases z : d = c
      · rw [z, ec] at hi hj
        rw [((hA i).mp hi).2, ((hA j).mp hj).2]
      · rw [eo d y z] at hi hj
        exact h4 d (by omega) (by omega) i j hi hj
  · intro d hd hd'
    rw [eo d (by omega) (by omega)]
    exact h5 d (by omega) hd'
  · intro j hj
    rw [w1 j (by omega)]; exact h6 j hj
  · intro j hj hj'
    by_cases y : j < 2 * C
    · rw [w1 j y]; exact h7 j hj y
    · by_cases z : j = 2 * C
      · rw [z]; exact w2
      · rw [show j = 2 * C + 1 by omega]; exact w3
theorem SS_split {nx : Bool → Nat → Nat} {en : Nat → Bool} {N C c : Nat} {mem : Nat → Int32} {fr A B : Int32} {v : Bool} (h : SS nx en N C mem) (hc : c < C) (hfr : ∀ i, i < N → ∀ j, j < N → EqS nx en i j → bt fr i = bt fr j) (hA : ∀ i, bt A i = true ↔ bt (mem c) i = true ∧ bt fr i = v) (hB : ∀ i, bt B i = true ↔ bt (mem c) i = true ∧ bt fr i = !v) : SS nx en N (C + 1) (upd (upd mem c A) C B) := by
  have eC : upd (upd mem c A) C B C = B := pk_us
  have ec : upd (upd mem c A) C B c = A := by rw [pk_un (by omega), pk_us]
  have eo : ∀ d, d ≠ C → d ≠ c → upd (upd mem c A) C B d = mem d := fun d y z => by rw [pk_un y, pk_un z]
  refine ⟨?_, ?_⟩
  · intro d hd i j hi hj
    by_cases y : d = C
    · rw [y, eC] at hi hj
      exact h.1 c hc i j ((hB i).mp hi).1 ((hB j).mp hj).1
    · by_cases z : d = c
      · rw [z, ec] at hi hj
        exact h.1 c hc i j ((hA i).mp hi).1 ((hA j).mp hj).1
      · rw [eo d y z] at hi hj
        exact h.1 d (by omega) i j hi hj
  · intro d hd i hi j hj hm e
    have ef := hfr i hi j hj e
    by_cases y : d = C
    · rw [y, eC] at hm ⊢
      have q := (hB i).mp hm
      exact (hB j).mpr ⟨h.2 c hc i hi j hj q.1 e, by rw [← ef]; exact q.2⟩
    · by_cases z : d = c
      · rw [z, ec] at hm ⊢
        have q := (hA i).mp hm
        exact (hA j).mpr ⟨h.2 c hc i hi j hj q.1 e, by rw [← ef]; exact q.2⟩
      · rw [eo d y z] at hm ⊢
        exact h.2 d (by omega) i hi j hj hm e
theorem HI_end {nx : Bool → Nat → Nat} {N C0 C w0 : Nat} {bw : Bool} {mem0 mem : Nat → Int32} {W1 W0 W : Nat → Bool} {fr : Int32} (hP0 : SP N C0 mem0) (hn : ∀ i, i < N → ∀ b, nx b i < N) (hw0 : w0 < C0) (hfr : ∀ i, i < N → bt fr i = bt (mem0 w0) (nx bw i)) (hW : ∀ j, j ≠ 2 * w0 + bw.toNat → W0 j = W1 j) (H : HI nx C0 mem0 W1) (h : SL N C0 mem0 W0 fr C0 C mem W) : HI nx C mem W := by
  obtain ⟨⟨p1, p2, p3, p4⟩, h2, ⟨o, o1, o2⟩, h4, h5, h6, h7⟩ := h
  intro c hc i j hi hj b d hd e he hmd hme hne
  have tb := tb_lt b
  have tw := tb_lt bw
  have uni := h4 c hc (by omega) i j hi hj
  have hiN := p2 c hc i hi
  have hjN := p2 c hc j hj
  have od := o2 d hd
  have oe := o2 e he
  -- a class that waited, or is new, waits
  have lift : ∀ x, x < C → W1 (2 * o x + b.toNat) = true → 2 * o x + b.toNat ≠ 2 * w0 + bw.toNat → W (2 * x + b.toNat) = true := by
    intro x hx hw hne'
    rcases Nat.lt_or_ge x C0 with z | z
    · rw [h6 _ (by omega)]
      have ex := o1 x z
      rw [ex] at hw hne'
      rw [hW _ hne']; exact hw
    · exact h7 _ (by omega) (by omega)
  by_cases q : o d = o e
  · -- both parts of one old class: one of them is new
    rcases Nat.lt_or_ge d C0 with z | z
    · rcases Nat.lt_or_ge e C0 with y | y
      · rw [o1 d z, o1 e y] at q; exact absurd q hne
      · exact Or.inr (h7 _ (by omega) (by omega))
    · exact Or.inl (h7 _ (by omega) (by omega))
  · have hs := H (o c) (o2 c hc).1 i j ((o2 c hc).2 i hi) ((o2 c hc).2 j hj) b (o d) od.1 (o e) oe.1 (od.2 _ hmd) (oe.2 _ hme) q
    have bw_of : ∀ x, 2 * x + b.toNat = 2 * w0 + bw.toNat → x = w0 ∧ b = bw := by
      intro x hx
      have e1 : x = w0 := by omega
      have e2 : b.toNat = bw.toNat := by omega
      refine ⟨e1, ?_⟩
      revert e2
      cases b <;> cases bw <;> first | (intro _; rfl) | (intro k; exact absurd k (by decide))
    rcases hs with hs | hs
    · by_cases z : 2 * o d + b.toNat = 2 * w0 + bw.toNat
      · exfalso
        obtain ⟨e1, e2⟩ := bw_of _ z
        have m1 := od.2 _ hmd
        rw [e1, e2] at m1
        rw [← hfr i hiN, uni, hfr j hjN] at m1
        have m2 := oe.2 _ hme
        rw [e2] at m2
        have := hP0.2.2.2 w0 hw0 (o e) oe.1 _ m1 m2
        exact q (e1.trans this)
      · exact Or.inl (lift d hd hs z)
    · by_cases z : 2 * o e + b.toNat = 2 * w0 + bw.toNat
      · exfalso
        obtain ⟨e1, e2⟩ := bw_of _ z
        have m1 := oe.2 _ hme
        rw [e1, e2] at m1
        rw [← hfr j hjN, ← uni, hfr i hiN] at m1
        have m2 := od.2 _ hmd
        rw [e2] at m2
        have := hP0.2.2.2 w0 hw0 (o d) od.1 _ m1 m2
        exact q (e1.trans this).symm
      · exact Or.inr (lift e he hs z)
theorem SL_cn {N C0 c C : Nat} {mem0 mem : Nat → Int32} {W0 W : Nat → Bool} {fr : Int32} (h : SL N C0 mem0 W0 fr c C mem W) : cn W (2 * C) ≤ cn W0 (2 * C0) + 2 * (C - C0) := by
  have h2 := h.2.1
  rw [show 2 * C = 2 * C0 + 2 * (C - C0) by omega, cn_add, cn_congr (2 * C0) h.2.2.2.2.2.1]
  have := cn_le (fun i => W (2 * C0 + i)) (2 * (C - C0))
  omega
/-- no class waits: they are the classes of states that no word parts -/
theorem KC_sp {L : List Bool → Prop} {N C : Nat} {nx : Bool → Nat → Nat} {en : Nat → Bool} {mem : Nat → Int32} {W : Nat → Bool} (h : PD L N nx en) (hP : SP N C mem) (hS : SS nx en N C mem) (hH : HI nx C mem W) (hW : ∀ j, j < 2 * C → W j = false) : KC L C := by
  have st : ∀ i, i < N → ∀ j, j < N → (∃ c, c < C ∧ bt (mem c) i = true ∧ bt (mem c) j = true) → en i = en j ∧ ∀ b, ∃ c, c < C ∧ bt (mem c) (nx b i) = true ∧ bt (mem c) (nx b j) = true := by
    rintro i hi j hj ⟨c, hc, h1, h2⟩
    refine ⟨hS.1 c hc i j h1 h2, fun b => ?_⟩
    obtain ⟨d, hd, e1⟩ := hP.2.2.1 _ (h.2.1 i hi b)
    obtain ⟨e, he, e2⟩ := hP.2.2.1 _ (h.2.1 j hj b)
    by_cases z : d = e
    · rw [← z] at e2; exact ⟨d, hd, e1, e2⟩
    · exfalso
      have := tb_lt b
      rcases hH c hc i j h1 h2 b d hd e he e1 e2 z with q | q
      · rw [hW _ (by omega)] at q; exact absurd q (by decide)
      · rw [hW _ (by omega)] at q; exact absurd q (by decide)
  refine KC_rel h (fun c i => bt (mem c) i = true) ?_ hP.2.2.1 ?_ ?_
  · intro c hc
    obtain ⟨i, hi⟩ := hP.1 c hc
    exact ⟨i, hP.2.1 c hc i hi, hi⟩
  · intro c hc i hi j hj m1 m2 v
    exact EqS_of (N := N) (fun i j => ∃ c, c < C ∧ bt (mem c) i = true ∧ bt (mem c) j = true) h.2.1 st v i hi j hj ⟨c, hc, m1, m2⟩
  · intro c hc d hd i hi j hj m1 m2 e
    exact hP.2.2.2 c hc d hd j (hS.2 c hc i hi j hj m1 e) m2
section split
variable {f_openStates f_openBegin f_openEnd f_plainCount f_classes f_listed : Int32} {a_arrows a_begins a_finals a_openTo a_plainSet a_plainEnd a_plainNext a_classOf a_newClass a_differs a_waits a_members a_sideNext a_sideEnd a_sideCount a_joined a_image a_pairA a_pairB a_pairFrom a_pairLetter a_seen a_words a_more : Nat → Int32}
theorem on_lt {x : Int32} (h : ¬ x = 0) : (x &&& (x - 1)).toBitVec.toNat < x.toBitVec.toNat := by
  have h0 : x.toBitVec.toNat ≠ 0 := by
    intro z
    apply h
    apply Int32.toBitVec_inj.mp
    apply BitVec.eq_of_toNat_eq
    exact z
  have h1 : (x - 1).toBitVec.toNat = x.toBitVec.toNat - 1 := by
    rw [Int32.toBitVec_sub, BitVec.toNat_sub]
    have := x.toBitVec.isLt
    show (2 ^ 32 - 1 + x.toBitVec.toNat) % 2 ^ 32 = _
    omega
  rw [Int32.toBitVec_and, BitVec.toNat_and, h1]
  have : x.toBitVec.toNat &&& (x.toBitVec.toNat - 1) ≤ x.toBitVec.toNat - 1 := Nat.and_le_right
  omega
theorem on_loop {post : Int32 → Prop} (h : ∀ r, post r) : ∀ n x r, x.toBitVec.toNat < n → wX_ones_4 post n r x := by
  intro n
  induction n with
  | zero => intro x r hx; omega
  | succ n ih =>
    intro x r hx
    refine br_c (fun _ => h r) (fun z => nm_e (nm_e (ih _ _ ?_)))
    have := on_lt z
    omega
theorem on_any {post : Int32 → Prop} {x : Int32} (h : ∀ r, post r) : wpX_ones post x := Exists.intro (x.toBitVec.toNat + 1) (on_loop h _ x 0 (by omega))
def cf (nx : Bool → Nat → Nat) (S : Int32) (b : Bool) : Nat → Int32
  | 0 => 0
  | i + 1 => if bt S (nx b i) = true then cf nx S b i ||| ((1 : Int32) <<< (nI i &&& 31)) else cf nx S b i
theorem cf_b {nx : Bool → Nat → Nat} {S : Int32} {b : Bool} (t : Nat) : ∀ k, k ≤ 32 → (bt (cf nx S b k) t = true ↔ t < k ∧ bt S (nx b t) = true) := by
  intro k
  induction k with
  | zero =>
    intro _
    rw [show cf nx S b 0 = 0 from rfl, b_0]
    exact ⟨fun z => absurd z (by decide), fun z => absurd z.1 (Nat.not_lt_zero t)⟩
  | succ k ih =>
    intro hk
    show bt (if bt S (nx b k) = true then cf nx S b k ||| ((1 : Int32) <<< (nI k &&& 31)) else cf nx S b k) t = true ↔ _
    by_cases q : bt S (nx b k) = true
    · rw [if_pos q, b_or, Bool.or_eq_true, ih (by omega)]
      by_cases z : t < 32
      · rw [cb_one (by omega) z, decide_eq_true_iff]
        constructor
        · rintro (y | y)
          · exact ⟨by omega, y.2⟩
          · rw [y]; exact ⟨by omega, q⟩
        · rintro ⟨y1, y2⟩
          by_cases e : t = k
          · exact Or.inr e
          · exact Or.inl ⟨by omega, y2⟩
      · rw [b_big (x := (1 : Int32) <<< (nI k &&& 31)) (i := t) (by omega)]
        constructor
        · rintro (y | y)
          · omega
          · exact absurd y (by decide)
        · rintro ⟨y1, y2⟩; omega
    · rw [if_neg q, ih (by omega)]
      constructor
      · rintro ⟨y1, y2⟩; exact ⟨by omega, y2⟩
      · rintro ⟨y1, y2⟩
        refine ⟨?_, y2⟩
        rcases Nat.lt_or_ge t k with z | z
        · exact z
        · rw [show t = k by omega] at y2; exact absurd y2 q
theorem cf_loop {post : Int32 → Prop} {N l : Nat} {b : Bool} {nx : Bool → Nat → Nat} {en : Nat → Bool} {S : Int32} (hN : N ≤ 32) (hn : ∀ i, i < N → ∀ b, nx b i < N) (T : Tb N nx en a_plainEnd a_plainNext) (hb : b.toNat = l) (h : post (cf nx S b N)) : ∀ d i, i + d = N → wX_comingFrom_5 post S (nI l) f_openStates f_openBegin f_openEnd (nI N) f_classes f_listed a_arrows a_begins a_finals a_openTo a_plainSet a_plainEnd a_plainNext a_classOf a_newClass a_differs a_waits a_members a_sideNext a_sideEnd a_sideCount a_joined a_image a_pairA a_pairB a_pairFrom a_pairLetter a_seen a_words a_more (d + 1) (cf nx S b i) (nI i) := by
  have hl := tb_lt b
  rw [hb] at hl
  intro d
  induction d with
  | zero =>
    intro i e
    rw [show i = N by omega]
    exact br_t (nI_le (Nat.le_refl N) (by omega)) h
  | succ d ih =>
    intro i e
    have t1 := T.2 i (by omega) b
    rw [hb] at t1
    have n1 := hn i (by omega) b
    refine br_f (nI_ge (by omega) (by omega)) ?_
    rw [m2l, nI_clamp (by omega), t1]
    refine And.intro (vp_in_nI (by omega) (by omega)) (cb_uz (by omega) (fun q => nm_r (cb_or0 _) (nm_r (nI_1 i) ?_)) (fun q => nm_e (nm_r (nI_1 i) ?_)))
    · have := ih (i + 1) (by omega)
      rw [show cf nx S b (i + 1) = cf nx S b i from if_neg (by rw [q]; decide)] at this
      exact this
    · have := ih (i + 1) (by omega)
      rw [show cf nx S b (i + 1) = cf nx S b i ||| ((1 : Int32) <<< (nI i &&& 31)) from if_pos q] at this
      exact this
theorem cf_from {post : Int32 → Prop} {N l : Nat} {b : Bool} {nx : Bool → Nat → Nat} {en : Nat → Bool} {S : Int32} (hN : N ≤ 32) (hn : ∀ i, i < N → ∀ b, nx b i < N) (T : Tb N nx en a_plainEnd a_plainNext) (hb : b.toNat = l) (h : post (cf nx S b N)) : wpX_comingFrom post (f_openStates, f_openBegin, f_openEnd, nI N, f_classes, f_listed, a_arrows, a_begins, a_finals, a_openTo, a_plainSet, a_plainEnd, a_plainNext, a_classOf, a_newClass, a_differs, a_waits, a_members, a_sideNext, a_sideEnd, a_sideCount, a_joined, a_image, a_pairA, a_pairB, a_pairFrom, a_pairLetter, a_seen, a_words, a_more) S (nI l) := Exists.intro (N + 1) (cf_loop hN hn T hb h N 0 (by omega))
def WA (wa : Nat → Int32) (W : Nat → Bool) : Prop := ∀ j, j < 128 → wa j = bi (W j)
theorem WA_u {wa : Nat → Int32} {W : Nat → Bool} (h : WA wa W) (c : Nat) (b : Bool) : WA (upd wa c (bi b)) (fun j => if j = c then b else W j) := by
  intro j hj
  by_cases z : j = c
  · rw [z, pk_us]; show _ = bi (if c = c then b else W c); rw [if_pos rfl]
  · rw [pk_un z]; show _ = bi (if j = c then b else W j); rw [if_neg z]; exact h j hj
/-- two more wait -/
def w2 (W : Nat → Bool) (C : Nat) : Nat → Bool := fun j => if j = 2 * C + 1 then true else if j = 2 * C then true else W j
theorem w2_s {W : Nat → Bool} {C : Nat} : (∀ j, j < 2 * C → w2 W C j = W j) ∧ w2 W C (2 * C) = true ∧ w2 W C (2 * C + 1) = true := by
  unfold w2
  refine ⟨fun j hj => ?_, ?_, ?_⟩
  · rw [if_neg (by omega), if_neg (by omega)]
  · rw [if_neg (by omega), if_pos rfl]
  · rw [if_pos rfl]
theorem nw_loop {post : Int32 → Prop} {C : Nat} {W : Nat → Bool} (hC : C ≤ 32) (hW : WA a_waits W) (h1 : ∀ w, w < 2 * C → W w = true → post (nI w)) (h2 : (∀ w, w < 2 * C → W w = false) → post (-1)) : ∀ d w, w + d = 2 * C → (∀ j, j < w → W j = false) → wX_nextWaiting_2 post f_openStates f_openBegin f_openEnd f_plainCount (nI C) f_listed a_arrows a_begins a_finals a_openTo a_plainSet a_plainEnd a_plainNext a_classOf a_newClass a_differs a_waits a_members a_sideNext a_sideEnd a_sideCount a_joined a_image a_pairA a_pairB a_pairFrom a_pairLetter a_seen a_words a_more (d + 1) (nI w) := by
  intro d
  induction d with
  | zero =>
    intro w e hj
    have ew : w = 2 * C := by omega
    subst ew
    have le : nI C * 2 ≤ nI (2 * C) := by rw [m2]; exact nI_le (Nat.le_refl _) (by omega)
    exact br_t le (br_t le (h2 hj))
  | succ d ih =>
    intro w e hj
    have nle : ¬ nI C * 2 ≤ nI w := by rw [m2]; exact nI_ge (by omega) (by omega)
    refine br_f nle ?_
    rw [nI_clamp (by omega), hW w (by omega)]
    refine And.intro (vp_in_nI (by omega) (by omega)) (bi_z (fun q => nm_r (nI_1 w) (ih (w + 1) (by omega) ?_)) (fun q => br_f nle (h1 w (by omega) q)))
    intro j hj'
    by_cases z : j = w
    · rw [z]; exact q
    · exact hj j (by omega)
theorem nw_all {post : Int32 → Prop} {C : Nat} {W : Nat → Bool} (hC : C ≤ 32) (hW : WA a_waits W) (h1 : ∀ w, w < 2 * C → W w = true → post (nI w)) (h2 : (∀ w, w < 2 * C → W w = false) → post (-1)) : wpX_nextWaiting post (f_openStates, f_openBegin, f_openEnd, f_plainCount, nI C, f_listed, a_arrows, a_begins, a_finals, a_openTo, a_plainSet, a_plainEnd, a_plainNext, a_classOf, a_newClass, a_differs, a_waits, a_members, a_sideNext, a_sideEnd, a_sideCount, a_joined, a_image, a_pairA, a_pairB, a_pairFrom, a_pairLetter, a_seen, a_words, a_more) := Exists.intro (2 * C + 1) (nw_loop hC hW h1 h2 (2 * C) 0 (by omega) (fun j hj => absurd hj (Nat.not_lt_zero j)))
theorem sp_116 {post : SX → Prop} {J : Int32 → Int32 → (Nat → Int32) → (Nat → Int32) → (Nat → Int32) → (Nat → Int32) → (Nat → Int32) → (Nat → Int32) → (Nat → Int32) → (Nat → Int32) → (Nat → Int32) → (Nat → Int32) → (Nat → Int32) → (Nat → Int32) → (Nat → Int32) → (Nat → Int32) → (Nat → Int32) → (Nat → Int32) → (Nat → Int32) → (Nat → Int32) → (Nat → Int32) → (Nat → Int32) → (Nat → Int32) → (Nat → Int32) → (Nat → Int32) → (Nat → Int32) → Prop} {x3 x4 B : Int32} {c C : Nat} {mem wa : Nat → Int32} {W : Nat → Bool} (hC : C ≤ 32) (hW : WA wa W) (h : ∀ wa' : Nat → Int32, WA wa' (w2 W C) → J (nI (c + 1)) (nI (C + 1)) a_arrows a_begins a_finals a_openTo a_plainSet a_plainEnd a_plainNext a_classOf a_newClass a_differs wa' (upd mem C B) a_sideNext a_sideEnd a_sideCount a_joined a_image a_pairA a_pairB a_pairFrom a_pairLetter a_seen a_words a_more) : wX_splitAll_116 post J x3 x4 (nI c) B (nI C) f_openStates f_openBegin f_openEnd f_plainCount (nI C) f_listed a_arrows a_begins a_finals a_openTo a_plainSet a_plainEnd a_plainNext a_classOf a_newClass a_differs wa mem a_sideNext a_sideEnd a_sideCount a_joined a_image a_pairA a_pairB a_pairFrom a_pairLetter a_seen a_words a_more := by
  unfold wX_splitAll_116
  rw [m2, nI_1 (2 * C), nI_clamp (by omega), nI_clamp (by omega), nI_clamp (by omega), bs_v1]
  exact And.intro (vp_in_nI (by omega) (by omega)) (nm_e (And.intro (vp_in_nI (by omega) (by omega)) (nm_e (And.intro (vp_in_nI (by omega) (by omega)) (nm_e (nm_r (nI_1 C) (nm_r (nI_1 c) (h _ (WA_u (WA_u hW (2 * C) true) (2 * C + 1) true)))))))))
theorem sp_16 {post : SX → Prop} {N C0 : Nat} {nx : Bool → Nat → Nat} {en : Nat → Bool} {mem0 : Nat → Int32} {W0 : Nat → Bool} {fr : Int32} (hN : N ≤ 32) (hfr : ∀ i, i < N → ∀ j, j < N → EqS nx en i j → bt fr i = bt fr j) (h : ∀ (C : Nat) (mem wa : Nat → Int32) (W : Nat → Bool), SL N C0 mem0 W0 fr C0 C mem W → SS nx en N C mem → WA wa W → post (f_openStates, f_openBegin, f_openEnd, nI N, nI C, f_listed, a_arrows, a_begins, a_finals, a_openTo, a_plainSet, a_plainEnd, a_plainNext, a_classOf, a_newClass, a_differs, wa, mem, a_sideNext, a_sideEnd, a_sideCount, a_joined, a_image, a_pairA, a_pairB, a_pairFrom, a_pairLetter, a_seen, a_words, a_more)) : ∀ d c C (mem wa : Nat → Int32) (W : Nat → Bool), c + d = C0 → SL N C0 mem0 W0 fr c C mem W → SS nx en N C mem → WA wa W → wX_splitAll_16 post fr (nI C0) f_openStates f_openBegin f_openEnd (nI N) f_listed (d + 1) (nI c) (nI C) a_arrows a_begins a_finals a_openTo a_plainSet a_plainEnd a_plainNext a_classOf a_newClass a_differs wa mem a_sideNext a_sideEnd a_sideCount a_joined a_image a_pairA a_pairB a_pairFrom a_pairLetter a_seen a_words a_more := by
  intro d
  induction d with
  | zero =>
    intro c C mem wa W e hS hs hW
    have ec : c = C0 := by omega
    subst ec
    have := SP_le hS.1
    have := hS.2.1
    exact br_t (nI_le (Nat.le_refl c) (by omega)) (h C mem wa W hS hs hW)
  | succ d ih =>
    intro c C mem wa W e hS hs hW
    have hCN := SP_le hS.1
    have hC0 := hS.2.1
    have b6 : ∀ i, bt (mem c &&& fr) i = true ↔ bt (mem c) i = true ∧ bt fr i = true := by
      intro i; rw [b_and, Bool.and_eq_true]
    have b7 : ∀ i, bt (mem c &&& (fr ^^^ (-1))) i = true ↔ bt (mem c) i = true ∧ bt fr i = false := by
      intro i
      rcases Nat.lt_or_ge i 32 with z | z
      · rw [b_and, cb_not _ z, Bool.and_eq_true]
        cases bt fr i <;> simp
      · rw [b_and, b_big z]; simp
    have vc : vp_in (nI c) 64 := vp_in_nI (by omega) (by omega)
    refine br_f (nI_ge (by omega) (by omega)) ?_
    rw [nI_clamp (by omega)]
    refine And.intro vc (nm_e (And.intro vc (nm_e (br_c (fun z => nm_r (nI_1 c) (ih (c + 1) C mem wa W (by omega) (SL_skip hS ?_) hs hW)) (fun z => br_c (fun y => nm_r (nI_1 c) (ih (c + 1) C mem wa W (by omega) (SL_skip hS ?_) hs hW)) (fun y => on_any (fun r1 => on_any (fun r2 => br_c (fun _ => ?_) (fun _ => ?_)))))))))
    · have nz : ∀ i, bt (mem c) i = true → bt fr i = false := by
        intro i hi
        cases q : bt fr i
        · rfl
        · have := (b6 i).mpr ⟨hi, q⟩
          rw [z, b_0] at this
          exact absurd this (by decide)
      intro i j hi hj
      rw [nz i hi, nz j hj]
    · have nz : ∀ i, bt (mem c) i = true → bt fr i = true := by
        intro i hi
        cases q : bt fr i
        · have := (b7 i).mpr ⟨hi, q⟩
          rw [y, b_0] at this
          exact absurd this (by decide)
        · rfl
      intro i j hi hj
      rw [nz i hi, nz j hj]
    · obtain ⟨i6, _, n6⟩ := cb_nz.mp z
      obtain ⟨i7, _, n7⟩ := cb_nz.mp y
      refine br_t rfl (And.intro vc (nm_r (e' := upd mem c (mem c &&& fr)) (by rw [nI_clamp (by omega)]) (br_t rfl (sp_116 (by omega) hW (fun wa' hW' => ih (c + 1) (C + 1) _ wa' _ (by omega) (SL_split (v := true) hS (by omega) b6 b7 ⟨i6, n6⟩ ⟨i7, n7⟩ w2_s.1 w2_s.2.1 w2_s.2.2) (SS_split (v := true) hs (by omega) hfr b6 b7) hW')))))
    · obtain ⟨i6, _, n6⟩ := cb_nz.mp z
      obtain ⟨i7, _, n7⟩ := cb_nz.mp y
      refine br_f bs_10 (And.intro vc (nm_r (e' := upd mem c (mem c &&& (fr ^^^ (-1)))) (by rw [nI_clamp (by omega)]) (br_f bs_10 (sp_116 (by omega) hW (fun wa' hW' => ih (c + 1) (C + 1) _ wa' _ (by omega) (SL_split (v := false) hS (by omega) b7 b6 ⟨i7, n7⟩ ⟨i6, n6⟩ w2_s.1 w2_s.2.1 w2_s.2.2) (SS_split (v := false) hs (by omega) hfr b7 b6) hW')))))
theorem sb_105 {post : SX → Prop} {L : List Bool → Prop} {N : Nat} {nx : Bool → Nat → Nat} {en : Nat → Bool} (hN : N ≤ 32) (hP : PD L N nx en) (T : Tb N nx en a_plainEnd a_plainNext) (h : ∀ (C : Nat) (mem wa : Nat → Int32), KC L C → post (f_openStates, f_openBegin, f_openEnd, nI N, nI C, f_listed, a_arrows, a_begins, a_finals, a_openTo, a_plainSet, a_plainEnd, a_plainNext, a_classOf, a_newClass, a_differs, wa, mem, a_sideNext, a_sideEnd, a_sideCount, a_joined, a_image, a_pairA, a_pairB, a_pairFrom, a_pairLetter, a_seen, a_words, a_more)) : ∀ d C (mem wa : Nat → Int32) (W : Nat → Bool) (x3 : Int32), SP N C mem → SS nx en N C mem → HI nx C mem W → WA wa W → ((x3 = -1 ∧ ∀ w, w < 2 * C → W w = false) ∨ ∃ w, w < 2 * C ∧ W w = true ∧ x3 = nI w) → cn W (2 * C) + 2 * (32 - C) ≤ d → wX_sizeBySplitters_105 post (d + 1) x3 f_openStates f_openBegin f_openEnd (nI N) (nI C) f_listed a_arrows a_begins a_finals a_openTo a_plainSet a_plainEnd a_plainNext a_classOf a_newClass a_differs wa mem a_sideNext a_sideEnd a_sideCount a_joined a_image a_pairA a_pairB a_pairFrom a_pairLetter a_seen a_words a_more := by
  intro d
  induction d with
  | zero =>
    intro C mem wa W x3 p s H hW hx hd
    rcases hx with ⟨rfl, hn⟩ | ⟨w, hw, ht, _⟩
    · exact br_t (by decide) (h C mem wa (KC_sp hP p s H hn))
    · exfalso
      have : cn (fun _ => false) (2 * C) < cn W (2 * C) := cn_lt _ (fun i _ q => absurd q (by decide)) ⟨w, hw, rfl, ht⟩
      omega
  | succ d ih =>
    intro C mem wa W x3 p s H hW hx hd
    rcases hx with ⟨rfl, hn⟩ | ⟨w, hw, ht, rfl⟩
    · exact br_t (by decide) (h C mem wa (KC_sp hP p s H hn))
    · have hCN := SP_le p
      have e1 : nI w / 2 = nI (w / 2) := pk_div (by omega) (by decide) (by decide)
      have e2 : nI w - nI w / 2 * 2 = nI (w % 2) := pk_rem (by omega) (by decide) (by decide)
      have hbw : (decide (w % 2 = 1)).toNat = w % 2 := by
        rcases Nat.mod_two_eq_zero_or_one w with y | y <;> rw [y] <;> rfl
      refine br_f (nI_pos (by omega)) ?_
      rw [e2, e1, nI_clamp (by omega), nI_clamp (by omega), bs_v0]
      refine And.intro (vp_in_nI (by omega) (by omega)) (nm_e (And.intro (by decide) (And.intro (vp_in_nI (by omega) (by omega)) (And.intro (by decide) (cf_from hN hP.2.1 T hbw ?_)))))
      have hfr : ∀ i, i < N → bt (cf nx (mem (w / 2)) (decide (w % 2 = 1)) N) i = bt (mem (w / 2)) (nx (decide (w % 2 = 1)) i) := by
        intro i hi
        apply Bool.eq_iff_iff.mpr
        rw [cf_b i N hN]
        exact ⟨fun z => z.2, fun z => ⟨hi, z⟩⟩
      have hsat : ∀ i, i < N → ∀ j, j < N → EqS nx en i j → bt (cf nx (mem (w / 2)) (decide (w % 2 = 1)) N) i = bt (cf nx (mem (w / 2)) (decide (w % 2 = 1)) N) j := by
        intro i hi j hj e
        rw [hfr i hi, hfr j hj]
        have e' := EqS_st e (decide (w % 2 = 1))
        apply Bool.eq_iff_iff.mpr
        exact ⟨fun z => s.2 _ (by omega) _ (hP.2.1 i hi _) _ (hP.2.1 j hj _) z e', fun z => s.2 _ (by omega) _ (hP.2.1 j hj _) _ (hP.2.1 i hi _) z (EqS_sy e')⟩
      have hW0 : WA (upd wa w 0) (fun j => if j = w then false else W j) := WA_u hW w false
      have hcn : cn W (2 * C) = cn (fun j => if j = w then false else W j) (2 * C) + 1 := by
        refine cn_set (k := w) (2 * C) hw (if_pos rfl) ht (fun i hi => ?_)
        show W i = (if i = w then false else W i)
        rw [if_neg hi]
      refine Exists.intro (C + 1) (sp_16 (W0 := fun j => if j = w then false else W j) (mem0 := mem) hN hsat (fun C' mem' wa' W' hS hs' hW' => ?_) C 0 C mem (upd wa w 0) _ (by omega) ⟨p, Nat.le_refl C, ⟨fun d => d, fun d _ => rfl, fun d hd => ⟨hd, fun i hi => hi⟩⟩, fun d hd hk => by omega, fun d _ _ => rfl, fun j _ => rfl, fun j h1 h2 => by omega⟩ s hW0)
      have hC' := SP_le hS.1
      have H' := HI_end (bw := decide (w % 2 = 1)) (w0 := w / 2) (W1 := W) p hP.2.1 (by omega) hfr (fun j hj => if_neg (by rw [hbw] at hj; omega)) H hS
      have hc' := SL_cn hS
      have hge := hS.2.1
      refine nw_all (a_waits := wa') (by omega) hW' (fun w' h1 h2 => ih C' mem' wa' W' _ hS.1 hs' H' hW' (Or.inr ⟨w', h1, h2, rfl⟩) (by omega)) (fun hn => ih C' mem' wa' W' _ hS.1 hs' H' hW' (Or.inl ⟨rfl, hn⟩) (by omega))
/-! the first two classes -/
def IV (en : Nat → Bool) (C : Nat) (mem : Nat → Int32) (W : Nat → Bool) (U : Nat → Prop) : Prop := (∀ c, c < C → ∃ i, bt (mem c) i = true) ∧ (∀ i, U i ↔ ∃ c, c < C ∧ bt (mem c) i = true) ∧ (∀ c, c < C → ∀ d, d < C → ∀ i j, bt (mem c) i = true → bt (mem d) j = true → (c = d ↔ en i = en j)) ∧ (∀ j, j < 2 * C → W j = true)
theorem IV_add {en : Nat → Bool} {C : Nat} {mem : Nat → Int32} {W : Nat → Bool} {U : Nat → Prop} {x : Int32} (h : IV en C mem W U) (hx : ¬ x = 0) (h1 : ∀ i j, bt x i = true → bt x j = true → en i = en j) (h2 : ∀ i j, U i → bt x j = true → en i ≠ en j) : IV en (C + 1) (upd mem C x) (w2 W C) (fun i => U i ∨ bt x i = true) := by
  obtain ⟨a1, a2, a3, a4⟩ := h
  have eC : upd mem C x C = x := pk_us
  have eo : ∀ d, d ≠ C → upd mem C x d = mem d := fun d y => pk_un y
  refine ⟨?_, ?_, ?_, ?_⟩
  · intro c hc
    by_cases z : c = C
    · rw [z, eC]; obtain ⟨i, _, hi⟩ := cb_nz.mp hx; exact ⟨i, hi⟩
    · rw [eo c z]; exact a1 c (by omega)
  · intro i
    constructor
    · rintro (q | q)
      · obtain ⟨c, hc, hm⟩ := (a2 i).mp q
        exact ⟨c, by omega, by rw [eo c (by omega)]; exact hm⟩
      · exact ⟨C, by omega, by rw [eC]; exact q⟩
    · rintro ⟨c, hc, hm⟩
      by_cases z : c = C
      · rw [z, eC] at hm; exact Or.inr hm
      · rw [eo c z] at hm; exact Or.inl ((a2 i).mpr ⟨c, by omega, hm⟩)
  · intro c hc d hd i j hi hj
    by_cases z : c = C
    · by_cases y : d = C
      · rw [z, eC] at hi; rw [y, eC] at hj
        exact ⟨fun _ => h1 i j hi hj, fun _ => by omega⟩
      · rw [z, eC] at hi; rw [eo d y] at hj
        have := h2 j i ((a2 j).mpr ⟨d, by omega, hj⟩) hi
        exact ⟨fun q => by omega, fun q => absurd q.symm this⟩
    · by_cases y : d = C
      · rw [eo c z] at hi; rw [y, eC] at hj
        have := h2 i j ((a2 i).mpr ⟨c, by omega, hi⟩) hj
        exact ⟨fun q => by omega, fun q => absurd q this⟩
      · rw [eo c z] at hi; rw [eo d y] at hj
        exact a3 c (by omega) d (by omega) i j hi hj
  · intro j hj
    by_cases z : j < 2 * C
    · rw [w2_s.1 j z]; exact a4 j z
    · by_cases y : j = 2 * C
      · rw [y]; exact w2_s.2.1
      · rw [show j = 2 * C + 1 by omega]; exact w2_s.2.2
theorem ac_add {post : SX → Prop} {C : Nat} {mem wa : Nat → Int32} {W : Nat → Bool} {en : Nat → Bool} {U : Nat → Prop} {x : Int32} (hC : C ≤ 30) (hW : WA wa W) (hI : IV en C mem W U) (h1 : ∀ i j, bt x i = true → bt x j = true → en i = en j) (h2 : ∀ i j, U i → bt x j = true → en i ≠ en j) (h : ∀ (C' : Nat) (mem' wa' : Nat → Int32) (W' : Nat → Bool), C' ≤ C + 1 → WA wa' W' → IV en C' mem' W' (fun i => U i ∨ bt x i = true) → post (f_openStates, f_openBegin, f_openEnd, f_plainCount, nI C', f_listed, a_arrows, a_begins, a_finals, a_openTo, a_plainSet, a_plainEnd, a_plainNext, a_classOf, a_newClass, a_differs, wa', mem', a_sideNext, a_sideEnd, a_sideCount, a_joined, a_image, a_pairA, a_pairB, a_pairFrom, a_pairLetter, a_seen, a_words, a_more)) : wpX_addClass post (f_openStates, f_openBegin, f_openEnd, f_plainCount, nI C, f_listed, a_arrows, a_begins, a_finals, a_openTo, a_plainSet, a_plainEnd, a_plainNext, a_classOf, a_newClass, a_differs, wa, mem, a_sideNext, a_sideEnd, a_sideCount, a_joined, a_image, a_pairA, a_pairB, a_pairFrom, a_pairLetter, a_seen, a_words, a_more) x := by
  refine br_c (fun z => h C mem wa W (by omega) hW ?_) (fun z => ?_)
  · refine ⟨hI.1, fun i => ?_, hI.2.2⟩
    show (U i ∨ bt x i = true) ↔ _
    rw [← hI.2.1 i, z, b_0]
    exact ⟨fun q => q.elim id (fun y => absurd y (by decide)), Or.inl⟩
  · rw [m2, nI_1 (2 * C), nI_clamp (by omega), nI_clamp (by omega), nI_clamp (by omega), bs_v1]
    exact And.intro (vp_in_nI (by omega) (by omega)) (nm_e (And.intro (vp_in_nI (by omega) (by omega)) (nm_e (And.intro (vp_in_nI (by omega) (by omega)) (nm_e (nm_r (nI_1 C) (h (C + 1) _ _ _ (Nat.le_refl _) (WA_u (WA_u hW (2 * C) true) (2 * C + 1) true) (IV_add hI z h1 h2))))))))
def ed (en : Nat → Bool) : Nat → Int32
  | 0 => 0
  | i + 1 => if en i = true then ed en i ||| ((1 : Int32) <<< (nI i &&& 31)) else ed en i
theorem ed_b {en : Nat → Bool} (t : Nat) : ∀ k, k ≤ 32 → (bt (ed en k) t = true ↔ t < k ∧ en t = true) := by
  intro k
  induction k with
  | zero =>
    intro _
    rw [show ed en 0 = 0 from rfl, b_0]
    exact ⟨fun z => absurd z (by decide), fun z => absurd z.1 (Nat.not_lt_zero t)⟩
  | succ k ih =>
    intro hk
    show bt (if en k = true then ed en k ||| ((1 : Int32) <<< (nI k &&& 31)) else ed en k) t = true ↔ _
    by_cases q : en k = true
    · rw [if_pos q, b_or, Bool.or_eq_true, ih (by omega)]
      by_cases z : t < 32
      · rw [cb_one (by omega) z, decide_eq_true_iff]
        constructor
        · rintro (y | y)
          · exact ⟨by omega, y.2⟩
          · rw [y]; exact ⟨by omega, q⟩
        · rintro ⟨y1, y2⟩
          by_cases e : t = k
          · exact Or.inr e
          · exact Or.inl ⟨by omega, y2⟩
      · rw [b_big (x := (1 : Int32) <<< (nI k &&& 31)) (i := t) (by omega)]
        constructor
        · rintro (y | y)
          · omega
          · exact absurd y (by decide)
        · rintro ⟨y1, y2⟩; omega
    · rw [if_neg q, ih (by omega)]
      constructor
      · rintro ⟨y1, y2⟩; exact ⟨by omega, y2⟩
      · rintro ⟨y1, y2⟩
        refine ⟨?_, y2⟩
        rcases Nat.lt_or_ge t k with z | z
        · exact z
        · rw [show t = k by omega] at y2; exact absurd y2 q
theorem IV_inv {nx : Bool → Nat → Nat} {en : Nat → Bool} {N C : Nat} {mem : Nat → Int32} {W : Nat → Bool} {U : Nat → Prop} (h : IV en C mem W U) (hU : ∀ i, U i ↔ i < N) : SP N C mem ∧ SS nx en N C mem ∧ HI nx C mem W := by
  obtain ⟨a1, a2, a3, a4⟩ := h
  refine ⟨⟨a1, ?_, ?_, ?_⟩, ⟨?_, ?_⟩, ?_⟩
  · intro c hc i hi; exact (hU i).mp ((a2 i).mpr ⟨c, hc, hi⟩)
  · intro i hi; exact (a2 i).mp ((hU i).mpr hi)
  · intro c hc d hd i h1 h2; exact (a3 c hc d hd i i h1 h2).mpr rfl
  · intro c hc i j h1 h2; exact (a3 c hc c hc i j h1 h2).mp rfl
  · intro c hc i hi j hj hm e
    obtain ⟨d, hd, hm'⟩ := (a2 j).mp ((hU j).mpr hj)
    have : c = d := (a3 c hc d hd i j hm hm').mpr (e [])
    rw [this]; exact hm'
  · intro c hc i j h1 h2 b d hd e he _ _ _
    have := tb_lt b
    exact Or.inl (a4 _ (by omega))
theorem sb_66 {post : SX → Prop} {L : List Bool → Prop} {N : Nat} {nx : Bool → Nat → Nat} {en : Nat → Bool} {am : Int32} (hN : N ≤ 32) (hP : PD L N nx en) (T : Tb N nx en a_plainEnd a_plainNext) (ham : ∀ i, i < 32 → bt am i = decide (i < N)) (h : ∀ (C : Nat) (mem wa : Nat → Int32), KC L C → post (f_openStates, f_openBegin, f_openEnd, nI N, nI C, f_listed, a_arrows, a_begins, a_finals, a_openTo, a_plainSet, a_plainEnd, a_plainNext, a_classOf, a_newClass, a_differs, wa, mem, a_sideNext, a_sideEnd, a_sideCount, a_joined, a_image, a_pairA, a_pairB, a_pairFrom, a_pairLetter, a_seen, a_words, a_more)) : ∀ d w (wa : Nat → Int32), w + d = 128 → (∀ j, j < w → wa j = 0) → wX_sizeBySplitters_66 post (ed en N) am f_openStates f_openBegin f_openEnd (nI N) (nI 0) f_listed (d + 1) (nI w) a_arrows a_begins a_finals a_openTo a_plainSet a_plainEnd a_plainNext a_classOf a_newClass a_differs wa a_members a_sideNext a_sideEnd a_sideCount a_joined a_image a_pairA a_pairB a_pairFrom a_pairLetter a_seen a_words a_more := by
  intro d
  induction d with
  | zero =>
    intro w wa e hw
    rw [show w = 128 by omega] at hw ⊢
    have bn : ∀ i, bt (am &&& (ed en N ^^^ (-1))) i = true ↔ i < N ∧ en i = false := by
      intro i
      rcases Nat.lt_or_ge i 32 with z | z
      · rw [b_and, ham i z, cb_not _ z, Bool.and_eq_true, decide_eq_true_iff]
        have := ed_b (en := en) i N hN
        cases q : bt (ed en N) i
        · rw [q] at this
          constructor
          · rintro ⟨y, _⟩
            refine ⟨y, ?_⟩
            cases r : en i
            · rfl
            · exact absurd (this.mpr ⟨y, r⟩) (by decide)
          · rintro ⟨y, _⟩; exact ⟨y, rfl⟩
        · have r := this.mp q
          constructor
          · rintro ⟨_, y⟩; exact absurd y (by decide)
          · rintro ⟨_, y⟩; rw [r.2] at y; exact absurd y (by decide)
      · rw [b_and, b_big z, Bool.false_and]
        constructor
        · intro y; exact absurd y (by decide)
        · rintro ⟨y, _⟩; omega
    refine br_t (by decide) (ac_add (C := 0) (W := fun _ => false) (en := en) (U := fun _ => False) (by omega) (fun j hj => hw j hj) ⟨fun c hc => absurd hc (Nat.not_lt_zero c), fun i => ⟨fun z => z.elim, fun ⟨c, hc, _⟩ => absurd hc (Nat.not_lt_zero c)⟩, fun c hc => absurd hc (Nat.not_lt_zero c), fun j hj => absurd hj (Nat.not_lt_zero j)⟩ ?_ (fun _ _ z => z.elim) (fun C1 mem1 wa1 W1 hC1 hW1 hI1 => ac_add (by omega) hW1 hI1 ?_ ?_ (fun C2 mem2 wa2 W2 hC2 hW2 hI2 => ?_)))
    · intro i j h1 h2
      rw [((ed_b i N hN).mp h1).2, ((ed_b j N hN).mp h2).2]
    · intro i j h1 h2
      rw [((bn i).mp h1).2, ((bn j).mp h2).2]
    · rintro i j (z | z) h2
      · exact z.elim
      · rw [((ed_b i N hN).mp z).2, ((bn j).mp h2).2]; decide
    · have hU : ∀ i, ((False ∨ bt (ed en N) i = true) ∨ bt (am &&& (ed en N ^^^ (-1))) i = true) ↔ i < N := by
        intro i
        rw [bn i, ed_b i N hN]
        constructor
        · rintro ((z | z) | z)
          · exact z.elim
          · exact z.1
          · exact z.1
        · intro z
          cases q : en i
          · exact Or.inr ⟨z, rfl⟩
          · exact Or.inl (Or.inr ⟨z, rfl⟩)
      obtain ⟨p, s, H⟩ := IV_inv (nx := nx) hI2 hU
      refine nw_all (a_waits := wa2) (by omega) hW2 (fun w' h1 h2 => ?_) (fun hn => ?_)
      · exact Exists.intro _ (sb_105 hN hP T h _ C2 mem2 wa2 W2 _ p s H hW2 (Or.inr ⟨w', h1, h2, rfl⟩) (Nat.le_refl _))
      · exact Exists.intro _ (sb_105 hN hP T h _ C2 mem2 wa2 W2 _ p s H hW2 (Or.inl ⟨rfl, hn⟩) (Nat.le_refl _))
  | succ d ih =>
    intro w wa e hw
    refine br_f (nI_ge (b := 128) (by omega) (by omega)) ?_
    rw [nI_clamp (by omega), bs_v0]
    refine And.intro (vp_in_nI (by omega) (by omega)) (nm_e (nm_r (nI_1 w) (ih (w + 1) _ (by omega) ?_)))
    intro j hj
    by_cases z : j = w
    · rw [z, pk_us]
    · rw [pk_un z]; exact hw j (by omega)
theorem am_b : ∀ N, N < 32 → ∀ i, i < 32 → bt (((1 : Int32) <<< (nI N &&& 31)) - 1) i = decide (i < N) := by decide +kernel
theorem sb_4 {post : SX → Prop} {L : List Bool → Prop} {N : Nat} {nx : Bool → Nat → Nat} {en : Nat → Bool} (hN : N ≤ 32) (hP : PD L N nx en) (T : Tb N nx en a_plainEnd a_plainNext) (h : ∀ (C : Nat) (mem wa : Nat → Int32), KC L C → post (f_openStates, f_openBegin, f_openEnd, nI N, nI C, f_listed, a_arrows, a_begins, a_finals, a_openTo, a_plainSet, a_plainEnd, a_plainNext, a_classOf, a_newClass, a_differs, wa, mem, a_sideNext, a_sideEnd, a_sideCount, a_joined, a_image, a_pairA, a_pairB, a_pairFrom, a_pairLetter, a_seen, a_words, a_more)) : ∀ d i, i + d = N → wX_sizeBySplitters_4 post f_openStates f_openBegin f_openEnd (nI N) f_classes f_listed a_arrows a_begins a_finals a_openTo a_plainSet a_plainEnd a_plainNext a_classOf a_newClass a_differs a_waits a_members a_sideNext a_sideEnd a_sideCount a_joined a_image a_pairA a_pairB a_pairFrom a_pairLetter a_seen a_words a_more (d + 1) (ed en i) (nI i) := by
  intro d
  induction d with
  | zero =>
    intro i e
    rw [show i = N by omega]
    refine br_t (nI_le (Nat.le_refl N) (by omega)) (pk_eq N 32 (fun q => Exists.intro 129 (sb_66 hN hP T ?_ h 128 0 a_waits rfl (fun j hj => absurd hj (Nat.not_lt_zero j)))) (fun q => nm_e (Exists.intro 129 (sb_66 hN hP T ?_ h 128 0 a_waits rfl (fun j hj => absurd hj (Nat.not_lt_zero j))))))
    · intro j hj
      rw [b_m1 j hj, decide_eq_true (by omega)]
    · exact am_b N (by omega)
  | succ d ih =>
    intro i e
    have X := ih (i + 1) (by omega)
    refine br_f (nI_ge (by omega) (by omega)) ?_
    rw [nI_clamp (by omega), T.1 i (by omega)]
    refine And.intro (vp_in_nI (by omega) (by omega)) (bi_z (fun q => nm_r (cb_or0 _) (nm_r (nI_1 i) ?_)) (fun q => nm_e (nm_r (nI_1 i) ?_)))
    · rw [show ed en (i + 1) = ed en i from if_neg (by rw [q]; decide)] at X
      exact X
    · rw [show ed en (i + 1) = ed en i ||| ((1 : Int32) <<< (nI i &&& 31)) from if_pos q] at X
      exact X
theorem sb_all {post : SX → Prop} {L : List Bool → Prop} {N : Nat} {nx : Bool → Nat → Nat} {en : Nat → Bool} (hN : N ≤ 32) (hP : PD L N nx en) (T : Tb N nx en a_plainEnd a_plainNext) (h : ∀ (C : Nat) (mem wa : Nat → Int32), KC L C → post (f_openStates, f_openBegin, f_openEnd, nI N, nI C, f_listed, a_arrows, a_begins, a_finals, a_openTo, a_plainSet, a_plainEnd, a_plainNext, a_classOf, a_newClass, a_differs, wa, mem, a_sideNext, a_sideEnd, a_sideCount, a_joined, a_image, a_pairA, a_pairB, a_pairFrom, a_pairLetter, a_seen, a_words, a_more)) : wpX_sizeBySplitters post (f_openStates, f_openBegin, f_openEnd, nI N, f_classes, f_listed, a_arrows, a_begins, a_finals, a_openTo, a_plainSet, a_plainEnd, a_plainNext, a_classOf, a_newClass, a_differs, a_waits, a_members, a_sideNext, a_sideEnd, a_sideCount, a_joined, a_image, a_pairA, a_pairB, a_pairFrom, a_pairLetter, a_seen, a_words, a_more) := Exists.intro (N + 1) (sb_4 hN hP T h N 0 (by omega))
end split
end
section
/-! size by turning around twice -/
theorem ht_sy (x y : Int32) : ht x y = ht y x := by
  apply Bool.eq_iff_iff.mpr
  rw [ht_t, ht_t]
  constructor
  · rintro ⟨i, h, a, b⟩; exact ⟨i, h, b, a⟩
  · rintro ⟨i, h, a, b⟩; exact ⟨i, h, b, a⟩
theorem or_bit {x : Int32} {i : Nat} (hi : i < 32) (s : Nat) : bt (x ||| ((1 : Int32) <<< (nI i &&& 31))) s = true ↔ bt x s = true ∨ s = i := by
  rw [b_or, Bool.or_eq_true]
  rcases Nat.lt_or_ge s 32 with z | z
  · rw [cb_one hi z, decide_eq_true_iff]
  · rw [b_big z, b_big z]
    constructor
    · rintro (y | y) <;> exact absurd y (by decide)
    · rintro (y | y)
      · exact absurd y (by decide)
      · omega
theorem PS_rn {g : Bool → Int32 → Int32} {B fin : Int32} {L : List Bool → Prop} {N : Nat} {nx : Bool → Nat → Nat} {en : Nat → Bool} {ps : Nat → Int32} (h : PD L N nx en) (P : PS g B fin N nx en ps) (w : List Bool) : ps (rn nx 0 w) = rn g B w := by
  have := rn_rel (δ := nx) (ε := g) (fun i S => i < N ∧ ps i = S) (by
    rintro b i S ⟨hi, e⟩
    exact ⟨h.2.1 i hi b, by rw [P.2.1 i hi b, e]⟩) w 0 B ⟨h.1, P.1⟩
  exact this.2
theorem Bd_s {o : Nat → Int32} {B : Int32} (ho : ∀ i, i < 10 → sm (o i)) (hb : sm B) : Bd (ost o 5) B := by
  intro N ps h4 h5
  have hs : ∀ j, j < N → sm (ps j) := by
    intro j hj
    obtain ⟨w, e⟩ := h4 j hj
    rw [← e]
    refine rn_inv sm ?_ w B hb
    intro b S _ t ht
    cases q : bt (ost o 5 b.toNat S) t
    · rfl
    · obtain ⟨s, hs, _, h2⟩ := (os_b t 5).mp q
      have := tb_lt b
      rw [ho _ (by omega) t ht] at h2
      exact absurd h2 (by decide)
  refine ph_rel (fun j n => ps j = nI n) (fun j hj => sm_nat (hs j hj)) ?_
  intro c hc c' hc' d e1 e2
  exact h5 c hc c' hc' (e1.trans e2.symm)
/-- a step of the machine turned around, seen from the other side -/
theorem du_1 {a o : Nat → Int32} {m : Nat} (ha : ∀ i, sm (a i)) (hT : Tn a m o) (b : Bool) (P S : Int32) : ht (ost o 5 b.toNat P) S = ht P (gs a m b S) := by
  have hb := tb_lt b
  apply Bool.eq_iff_iff.mpr
  rw [ht_t, ht_t]
  constructor
  · rintro ⟨t, ht, h1, h2⟩
    obtain ⟨s, hs, h3, h4⟩ := (os_b t 5).mp h1
    have := (hT s hs b.toNat hb t).mp h4
    exact ⟨s, by omega, h3, (stp_b s).mpr ⟨t, this.1, h2, this.2⟩⟩
  · rintro ⟨s, hs, h1, h2⟩
    obtain ⟨t, ht, h3, h4⟩ := (stp_b s).mp h2
    have hs5 := sm_bit (ha _) h4
    exact ⟨t, by omega, (os_b t 5).mpr ⟨s, hs5, h1, (hT s hs5 b.toNat hb t).mpr ⟨ht, h4⟩⟩, h3⟩
theorem du_w {a o : Nat → Int32} {m : Nat} (ha : ∀ i, sm (a i)) (hT : Tn a m o) : ∀ (u : List Bool) (P S : Int32), ht (rn (fun b S => ost o 5 b.toNat S) P u) S = ht P (rn (gs a m) S u.reverse) := by
  intro u
  induction u with
  | nil => intro P S; rfl
  | cons b u ih =>
    intro P S
    rw [List.reverse_cons, rn_sn]
    show ht (rn (fun b S => ost o 5 b.toNat S) (ost o 5 b.toNat P) u) S = _
    rw [ih, du_1 ha hT]
/-- the arrows of the first plain machine turned around, its first i states done -/
def RT (N : Nat) (nx : Bool → Nat → Nat) (o : Nat → Int32) (i : Nat) : Prop := ∀ t, t < N → ∀ b : Bool, ∀ s, (bt (o (2 * t + b.toNat)) s = true ↔ s < i ∧ nx b s = t)
theorem RT_s {N : Nat} {nx : Bool → Nat → Nat} {o : Nat → Int32} {i : Nat} (hi : i < 32) (h : RT N nx o i) : RT N nx (upd (upd o (2 * nx false i + 0) (o (2 * nx false i + 0) ||| ((1 : Int32) <<< (nI i &&& 31)))) (2 * nx true i + 1) (upd o (2 * nx false i + 0) (o (2 * nx false i + 0) ||| ((1 : Int32) <<< (nI i &&& 31))) (2 * nx true i + 1) ||| ((1 : Int32) <<< (nI i &&& 31)))) (i + 1) := by
  have key : ∀ (b : Bool) t, t < N → t = nx b i → ∀ s, (bt (o (2 * t + b.toNat) ||| ((1 : Int32) <<< (nI i &&& 31))) s = true ↔ s < i + 1 ∧ nx b s = t) := by
    intro b t ht e s
    rw [or_bit hi, h t ht b s]
    constructor
    · rintro (⟨y1, y2⟩ | y)
      · exact ⟨by omega, y2⟩
      · rw [y]; exact ⟨by omega, e.symm⟩
    · rintro ⟨y1, y2⟩
      by_cases z : s = i
      · exact Or.inr z
      · exact Or.inl ⟨by omega, y2⟩
  have old : ∀ (b : Bool) t, t < N → t ≠ nx b i → ∀ s, (bt (o (2 * t + b.toNat)) s = true ↔ s < i + 1 ∧ nx b s = t) := by
    intro b t ht e s
    rw [h t ht b s]
    constructor
    · rintro ⟨y1, y2⟩; exact ⟨by omega, y2⟩
    · rintro ⟨y1, y2⟩
      refine ⟨?_, y2⟩
      by_cases z : s = i
      · rw [z] at y2; exact absurd y2.symm e
      · omega
  intro t ht b s
  cases b
  · show bt (upd (upd o (2 * nx false i + 0) (o (2 * nx false i + 0) ||| ((1 : Int32) <<< (nI i &&& 31)))) (2 * nx true i + 1) _ (2 * t + 0)) s = true ↔ _
    rw [pk_un (by omega)]
    by_cases z : t = nx false i
    · rw [← z, pk_us]; exact key false t ht z s
    · rw [pk_un (by omega)]; exact old false t ht z s
  · show bt (upd (upd o (2 * nx false i + 0) (o (2 * nx false i + 0) ||| ((1 : Int32) <<< (nI i &&& 31)))) (2 * nx true i + 1) _ (2 * t + 1)) s = true ↔ _
    by_cases z : t = nx true i
    · rw [← z, pk_us, pk_un (by omega)]; exact key true t ht z s
    · rw [pk_un (by omega), pk_un (by omega)]; exact old true t ht z s
section phi
variable {a b f o o2 ps1 ps2 : Nat → Int32} {m N1 N2 : Nat} {nx1 nx2 : Bool → Nat → Nat} {en1 en2 : Nat → Bool} {L1 L2 : List Bool → Prop}
/-- the states of the turned machine whose set meets S -/
def phi (ps : Nat → Int32) (N : Nat) (S : Int32) : Int32 := ed (fun i => ht (ps i) S) N
theorem phi_b {ps : Nat → Int32} {N : Nat} (hN : N ≤ 32) (S : Int32) (i : Nat) : bt (phi ps N S) i = true ↔ i < N ∧ ht (ps i) S = true := ed_b i N hN
theorem phi_0 (hN : N1 ≤ 32) (P1 : PS (fun b S => ost o 5 b.toNat S) (f m) (b m) N1 nx1 en1 ps1) : ed en1 N1 = phi ps1 N1 (b m) := by
  apply b_ext
  intro i _
  apply Bool.eq_iff_iff.mpr
  rw [ed_b i N1 hN, phi_b hN]
  constructor
  · rintro ⟨y1, y2⟩; exact ⟨y1, by rw [← P1.2.2.2 i y1]; exact y2⟩
  · rintro ⟨y1, y2⟩; exact ⟨y1, by rw [P1.2.2.2 i y1]; exact y2⟩
theorem phi_s (ha : ∀ i, sm (a i)) (hT : Tn a m o) (hN : N1 ≤ 32) (hD : PD L1 N1 nx1 en1) (P1 : PS (fun b S => ost o 5 b.toNat S) (f m) (b m) N1 nx1 en1 ps1) (hR : RT N1 nx1 o2 N1) (c : Bool) (S : Int32) : ost o2 N1 c.toNat (phi ps1 N1 S) = phi ps1 N1 (gs a m c S) := by
  apply b_ext
  intro i _
  apply Bool.eq_iff_iff.mpr
  rw [phi_b hN]
  constructor
  · intro h
    obtain ⟨s, hs, h1, h2⟩ := (os_b i N1).mp h
    have q := (hR s hs c i).mp h2
    refine ⟨q.1, ?_⟩
    have r := ((phi_b hN S s).mp h1).2
    rw [← q.2, P1.2.1 i q.1 c, du_1 ha hT] at r
    exact r
  · rintro ⟨h1, h2⟩
    have hn := hD.2.1 i h1 c
    refine (os_b i N1).mpr ⟨nx1 c i, hn, (phi_b hN S _).mpr ⟨hn, ?_⟩, (hR _ hn c i).mpr ⟨h1, rfl⟩⟩
    rw [P1.2.1 i h1 c, du_1 ha hT]
    exact h2
theorem phi_w (ha : ∀ i, sm (a i)) (hT : Tn a m o) (hN : N1 ≤ 32) (hD : PD L1 N1 nx1 en1) (P1 : PS (fun b S => ost o 5 b.toNat S) (f m) (b m) N1 nx1 en1 ps1) (hR : RT N1 nx1 o2 N1) (w : List Bool) : rn (fun c S => ost o2 N1 c.toNat S) (ed en1 N1) w = phi ps1 N1 (rn (gs a m) (b m) w) := by
  refine rn_rel (δ := fun c S => ost o2 N1 c.toNat S) (ε := gs a m) (fun T S => T = phi ps1 N1 S) ?_ w _ _ (phi_0 hN P1)
  rintro c T S rfl
  exact phi_s ha hT hN hD P1 hR c S
theorem phi_Bd (ha : ∀ i, sm (a i)) (hb : sm (b m)) (hT : Tn a m o) (hN : N1 ≤ 32) (hD : PD L1 N1 nx1 en1) (P1 : PS (fun b S => ost o 5 b.toNat S) (f m) (b m) N1 nx1 en1 ps1) (hR : RT N1 nx1 o2 N1) : Bd (ost o2 N1) (ed en1 N1) := by
  intro N ps h4 h5
  refine ph_rel (fun j n => ps j = phi ps1 N1 (nI n)) ?_ ?_
  · intro j hj
    obtain ⟨w, e⟩ := h4 j hj
    have hsm : sm (rn (gs a m) (b m) w) := rn_inv sm (fun c S _ => stp_sm ha m c.toNat S) w (b m) hb
    obtain ⟨n, hn, en⟩ := sm_nat hsm
    refine ⟨n, hn, ?_⟩
    rw [← e, phi_w ha hT hN hD P1 hR, en]
  · intro c hc c' hc' d e1 e2
    exact h5 c hc c' hc' (e1.trans e2.symm)
theorem phi_L (ha : ∀ i, sm (a i)) (hT : Tn a m o) (hN : N1 ≤ 32) (hD : PD L1 N1 nx1 en1) (P1 : PS (fun b S => ost o 5 b.toNat S) (f m) (b m) N1 nx1 en1 ps1) (hR : RT N1 nx1 o2 N1) : (fun w => ht (rn (fun c S => ost o2 N1 c.toNat S) (ed en1 N1) w) 1 = true) = Lg a b f m := by
  funext w
  apply propext
  rw [phi_w ha hT hN hD P1 hR]
  unfold Lg
  have e1 : ∀ S : Int32, ht (phi ps1 N1 S) 1 = true ↔ ht S (f m) = true := by
    intro S
    rw [ht_t, ht_sy S, ← P1.1]
    constructor
    · rintro ⟨i, _, h1, h2⟩
      rw [b_1, decide_eq_true_iff] at h2
      rw [h2] at h1
      exact ((phi_b hN S 0).mp h1).2
    · intro h
      exact ⟨0, by omega, (phi_b hN S 0).mpr ⟨hD.1, h⟩, by rw [b_1]; rfl⟩
  exact e1 _
theorem phi_KC (ha : ∀ i, sm (a i)) (hT : Tn a m o) (hN : N1 ≤ 32) (hD : PD L1 N1 nx1 en1) (P1 : PS (fun b S => ost o 5 b.toNat S) (f m) (b m) N1 nx1 en1 ps1) (hR : RT N1 nx1 o2 N1) (hD2 : PD (fun w => ht (rn (fun c S => ost o2 N1 c.toNat S) (ed en1 N1) w) 1 = true) N2 nx2 en2) (P2 : PS (fun c S => ost o2 N1 c.toNat S) (ed en1 N1) 1 N2 nx2 en2 ps2) : KC (Lg a b f m) N2 := by
  have hL := phi_L ha hT hN hD P1 hR
  refine KC_lab (hL ▸ hD2) (fun i => i) (fun i hi => hi) (fun c hc => ⟨c, hc, rfl⟩) (fun i hi j hj => ⟨fun e => by rw [show i = j from e]; exact EqS_rf j, fun e => ?_⟩)
  obtain ⟨w, ew⟩ := hD2.2.2.2 i hi
  obtain ⟨w', ew'⟩ := hD2.2.2.2 j hj
  apply P2.2.2.1 i hi j hj
  rw [← ew, ← ew', PS_rn hD2 P2, PS_rn hD2 P2, phi_w ha hT hN hD P1 hR, phi_w ha hT hN hD P1 hR]
  rw [← ew, ← ew'] at e
  have e2 := (PD_eqv hD2 w w').mpr e
  have e3 : ∀ v, ht (rn (gs a m) (b m) (w ++ v)) (f m) = ht (rn (gs a m) (b m) (w' ++ v)) (f m) := by
    intro v
    have := e2 v
    have l1 := congrFun hL (w ++ v)
    have l2 := congrFun hL (w' ++ v)
    apply Bool.eq_iff_iff.mpr
    show Lg a b f m (w ++ v) ↔ Lg a b f m (w' ++ v)
    rw [← l1, ← l2]
    exact this
  apply b_ext
  intro k _
  apply Bool.eq_iff_iff.mpr
  rw [phi_b hN, phi_b hN]
  have e4 : k < N1 → ht (ps1 k) (rn (gs a m) (b m) w) = ht (ps1 k) (rn (gs a m) (b m) w') := by
    intro hk
    obtain ⟨u, eu⟩ := hD.2.2.2 k hk
    rw [← eu, PS_rn hD P1, du_w ha hT, du_w ha hT, ← rn_app, ← rn_app, ht_sy, e3, ht_sy]
  constructor
  · rintro ⟨h1, h2⟩; exact ⟨h1, by rw [← e4 h1]; exact h2⟩
  · rintro ⟨h1, h2⟩; exact ⟨h1, by rw [e4 h1]; exact h2⟩
end phi
section turning
variable {f_openStates f_openBegin f_openEnd f_plainCount f_classes f_listed : Int32} {a_arrows a_begins a_finals a_openTo a_plainSet a_plainEnd a_plainNext a_classOf a_newClass a_differs a_waits a_members a_sideNext a_sideEnd a_sideCount a_joined a_image a_pairA a_pairB a_pairFrom a_pairLetter a_seen a_words a_more : Nat → Int32}
theorem tr_64 {post : SX → Prop} {J : Int32 → Int32 → (Nat → Int32) → (Nat → Int32) → (Nat → Int32) → (Nat → Int32) → (Nat → Int32) → (Nat → Int32) → (Nat → Int32) → (Nat → Int32) → (Nat → Int32) → (Nat → Int32) → (Nat → Int32) → (Nat → Int32) → (Nat → Int32) → (Nat → Int32) → (Nat → Int32) → (Nat → Int32) → (Nat → Int32) → (Nat → Int32) → (Nat → Int32) → (Nat → Int32) → (Nat → Int32) → (Nat → Int32) → (Nat → Int32) → (Nat → Int32) → Prop} {x2 : Int32} {N i l n t : Nat} {o : Nat → Int32} (hl : l < 2) (hi : i < 32) (ht : t < 32) (hp : a_plainNext (2 * i + l) = nI t) (h : wX_sizeByTurning_64 post J x2 (nI i) f_openStates f_openBegin f_openEnd f_plainCount f_classes f_listed n (nI (l + 1)) a_arrows a_begins a_finals (upd o (2 * t + l) (o (2 * t + l) ||| ((1 : Int32) <<< (nI i &&& 31)))) a_plainSet a_plainEnd a_plainNext a_classOf a_newClass a_differs a_waits a_members a_sideNext a_sideEnd a_sideCount a_joined a_image a_pairA a_pairB a_pairFrom a_pairLetter a_seen a_words a_more) : wX_sizeByTurning_64 post J x2 (nI i) f_openStates f_openBegin f_openEnd f_plainCount f_classes f_listed (n + 1) (nI l) a_arrows a_begins a_finals o a_plainSet a_plainEnd a_plainNext a_classOf a_newClass a_differs a_waits a_members a_sideNext a_sideEnd a_sideCount a_joined a_image a_pairA a_pairB a_pairFrom a_pairLetter a_seen a_words a_more := by
  refine br_f (nI_ge (b := 2) hl (by omega)) ?_
  rw [m2l, nI_clamp (by omega), hp]
  refine And.intro (vp_in_nI (by omega) (by omega)) (nm_e ?_)
  rw [m2l, nI_clamp (by omega)]
  exact And.intro (vp_in_nI (by omega) (by omega)) (And.intro (vp_in_nI (by omega) (by omega)) (nm_e (nm_r (nI_1 l) h)))
theorem tr_31 {post : SX → Prop} {N : Nat} {nx : Bool → Nat → Nat} {en : Nat → Bool} (hN : N ≤ 32) (hn : ∀ i, i < N → ∀ b, nx b i < N) (T : Tb N nx en a_plainEnd a_plainNext) (h : ∀ o : Nat → Int32, RT N nx o N → wpX_makePlain (fun u => match u with | (f_openStates, f_openBegin, f_openEnd, f_plainCount, f_classes, f_listed, a_arrows, a_begins, a_finals, a_openTo, a_plainSet, a_plainEnd, a_plainNext, a_classOf, a_newClass, a_differs, a_waits, a_members, a_sideNext, a_sideEnd, a_sideCount, a_joined, a_image, a_pairA, a_pairB, a_pairFrom, a_pairLetter, a_seen, a_words, a_more) => post (f_openStates, f_openBegin, f_openEnd, f_plainCount, f_plainCount, f_listed, a_arrows, a_begins, a_finals, a_openTo, a_plainSet, a_plainEnd, a_plainNext, a_classOf, a_newClass, a_differs, a_waits, a_members, a_sideNext, a_sideEnd, a_sideCount, a_joined, a_image, a_pairA, a_pairB, a_pairFrom, a_pairLetter, a_seen, a_words, a_more)) (nI N, ed en N, 1, nI N, f_classes, f_listed, a_arrows, a_begins, a_finals, o, a_plainSet, a_plainEnd, a_plainNext, a_classOf, a_newClass, a_differs, a_waits, a_members, a_sideNext, a_sideEnd, a_sideCount, a_joined, a_image, a_pairA, a_pairB, a_pairFrom, a_pairLetter, a_seen, a_words, a_more)) : ∀ d i (o : Nat → Int32), i + d = N → RT N nx o i → wX_sizeByTurning_31 post (nI N) (nI N) 1 (nI N) f_classes f_listed (d + 1) (nI i) (ed en i) a_arrows a_begins a_finals o a_plainSet a_plainEnd a_plainNext a_classOf a_newClass a_differs a_waits a_members a_sideNext a_sideEnd a_sideCount a_joined a_image a_pairA a_pairB a_pairFrom a_pairLetter a_seen a_words a_more := by
  intro d
  induction d with
  | zero =>
    intro i o e hR
    have ei : i = N := by omega
    subst ei
    exact br_t (nI_le (Nat.le_refl i) (by omega)) (h o hR)
  | succ d ih =>
    intro i o e hR
    have X := ih (i + 1) _ (by omega) (RT_s (by omega) hR)
    have n0 := hn i (by omega) false
    have n1 := hn i (by omega) true
    refine br_f (nI_ge (by omega) (by omega)) ?_
    rw [nI_clamp (by omega), T.1 i (by omega)]
    refine And.intro (vp_in_nI (by omega) (by omega)) (bi_z (fun q => nm_r (cb_or0 _) (Exists.intro 3 (tr_64 (l := 0) (t := nx false i) (N := N) (by omega) (by omega) (by omega) (Tb_0 T (by omega)) (tr_64 (l := 1) (t := nx true i) (N := N) (by omega) (by omega) (by omega) (Tb_1 T (by omega)) (br_t (by decide) (nm_r (nI_1 i) ?_)))))) (fun q => nm_e (Exists.intro 3 (tr_64 (l := 0) (t := nx false i) (N := N) (by omega) (by omega) (by omega) (Tb_0 T (by omega)) (tr_64 (l := 1) (t := nx true i) (N := N) (by omega) (by omega) (by omega) (Tb_1 T (by omega)) (br_t (by decide) (nm_r (nI_1 i) ?_)))))))
    · rw [show ed en (i + 1) = ed en i from if_neg (by rw [q]; decide)] at X
      exact X
    · rw [show ed en (i + 1) = ed en i ||| ((1 : Int32) <<< (nI i &&& 31)) from if_pos q] at X
      exact X
theorem tr_all {post : SX → Prop} {m : Nat} (hm : m < 2) (ok : Ok a_arrows a_begins a_finals) (h : ∀ (C : Nat) (ob : Int32) (os' : Int32) (o ps pe pn : Nat → Int32), KC (Lg a_arrows a_begins a_finals m) C → post (os', ob, 1, nI C, nI C, f_listed, a_arrows, a_begins, a_finals, o, ps, pe, pn, a_classOf, a_newClass, a_differs, a_waits, a_members, a_sideNext, a_sideEnd, a_sideCount, a_joined, a_image, a_pairA, a_pairB, a_pairFrom, a_pairLetter, a_seen, a_words, a_more)) : wpX_sizeByTurning post (f_openStates, f_openBegin, f_openEnd, f_plainCount, f_classes, f_listed, a_arrows, a_begins, a_finals, a_openTo, a_plainSet, a_plainEnd, a_plainNext, a_classOf, a_newClass, a_differs, a_waits, a_members, a_sideNext, a_sideEnd, a_sideCount, a_joined, a_image, a_pairA, a_pairB, a_pairFrom, a_pairLetter, a_seen, a_words, a_more) (nI m) := by
  unfold wpX_sizeByTurning
  dsimp only
  refine lt_turned hm (fun o hT => ?_)
  refine mk_plain (K := 5) (by omega) (Bd_s (Tn_sm hT) (ok.2.2 m)) (fun N1 ps1 pe1 pn1 M1 => ?_)
  obtain ⟨hN1, hD1, T1, P1⟩ := MP_all M1
  refine co_clear (K := N1) hN1 (fun o1 ho1 => ?_)
  refine Exists.intro (N1 + 1) (tr_31 hN1 hD1.2.1 T1 (fun o2 hR => ?_) N1 0 o1 (by omega) ?_)
  · refine mk_plain (K := N1) hN1 (phi_Bd (b := a_begins) (f := a_finals) ok.1 (ok.2.1 m) hT hN1 hD1 P1 hR) (fun N2 ps2 pe2 pn2 M2 => ?_)
    obtain ⟨hN2, hD2, T2, P2⟩ := MP_all M2
    exact h N2 _ _ o2 ps2 pe2 pn2 (phi_KC (b := a_begins) (f := a_finals) ok.1 hT hN1 hD1 P1 hR hD2 P2)
  · intro t ht b s
    have := tb_lt b
    rw [ho1 _ (by omega), b_0]
    exact ⟨fun z => absurd z (by decide), fun z => by omega⟩
end turning
end
section
/-! size and agree -/
section size
variable {f_openStates f_openBegin f_openEnd f_plainCount f_classes f_listed : Int32} {a_arrows a_begins a_finals a_openTo a_plainSet a_plainEnd a_plainNext a_classOf a_newClass a_differs a_waits a_members a_sideNext a_sideEnd a_sideCount a_joined a_image a_pairA a_pairB a_pairFrom a_pairLetter a_seen a_words a_more : Nat → Int32}
variable {y_order y_seen y_apart : Nat → Int32} {y_words : Nat → Int64}
/-- each engine answers the number of residual languages, and leaves the machines as they are -/
theorem sz_by {post : Int32 → SX → Prop} {e m : Nat} (he : e < 4) (hm : m < 2) (ok : Ok a_arrows a_begins a_finals) (h : ∀ (C : Nat) f_openStates f_openBegin f_openEnd f_plainCount f_classes f_listed a_openTo a_plainSet a_plainEnd a_plainNext a_classOf a_newClass a_differs a_waits a_members a_sideNext a_sideEnd a_sideCount a_joined a_image a_pairA a_pairB a_pairFrom a_pairLetter a_seen a_words a_more, KC (Lg a_arrows a_begins a_finals m) C → post (nI C) (f_openStates, f_openBegin, f_openEnd, f_plainCount, f_classes, f_listed, a_arrows, a_begins, a_finals, a_openTo, a_plainSet, a_plainEnd, a_plainNext, a_classOf, a_newClass, a_differs, a_waits, a_members, a_sideNext, a_sideEnd, a_sideCount, a_joined, a_image, a_pairA, a_pairB, a_pairFrom, a_pairLetter, a_seen, a_words, a_more)) : wpX_sizeBy post (f_openStates, f_openBegin, f_openEnd, f_plainCount, f_classes, f_listed, a_arrows, a_begins, a_finals, a_openTo, a_plainSet, a_plainEnd, a_plainNext, a_classOf, a_newClass, a_differs, a_waits, a_members, a_sideNext, a_sideEnd, a_sideCount, a_joined, a_image, a_pairA, a_pairB, a_pairFrom, a_pairLetter, a_seen, a_words, a_more) (nI e) (nI m) := by
  unfold wpX_sizeBy
  dsimp only
  refine pk_eq e 2 (fun _ => tr_all hm ok (fun C ob os' o ps pe pn hK => ?_)) (fun e2 => ld_load hm (fun o ho => lm_plain ok ho (fun N ps pe pn nx en hN hP T P => pk_eq e 0 (fun _ => sr_all hN hP.1 hP.2.1 T (fun n lab co nc hL hn h0 hA => ?_)) (fun e0 => pk_eq e 1 (fun _ => sb_all hN hP T (fun C mem wa hK => ?_)) (fun e1 => bp_all hN hP.2.1 T (fun F df hF => ?_))))))
  · exact h C _ _ _ _ _ _ _ _ _ _ _ _ _ _ _ _ _ _ _ _ _ _ _ _ _ _ _ hK
  · exact h n _ _ _ _ _ _ _ _ _ _ _ _ _ _ _ _ _ _ _ _ _ _ _ _ _ _ _ (KC_lab hP lab hL.1 hL.2.1 hL.2.2)
  · exact h C _ _ _ _ _ _ _ _ _ _ _ _ _ _ _ _ _ _ _ _ _ _ _ _ _ _ _ hK
  · exact h (cn F N) _ _ _ _ _ _ _ _ _ _ _ _ _ _ _ _ _ _ _ _ _ _ _ _ _ _ _ (KC_first hP hF)
theorem i_vc_size {k : Nat} {u : SX} {v : SY} (I : i_Rel k u v) (hk : k + 5 ≤ 2560) (v1 : Int32) (v2 : Int32) : wpX_size (fun r u' => wpY_size (fun r' v' => r' = r ∧ i_Rel (k + 5) u' v') v v1 v2) u v1 v2 := by
  refine rel_el (P := fun u v => wpX_size (fun r u' => wpY_size (fun r' v' => r' = r ∧ i_Rel (k + 5) u' v') v v1 v2) u v1 v2) ?_ I
  intro f_openStates f_openBegin f_openEnd f_plainCount f_classes f_listed a_arrows a_begins a_finals a_openTo a_plainSet a_plainEnd a_plainNext a_classOf a_newClass a_differs a_waits a_members a_sideNext a_sideEnd a_sideCount a_joined a_image a_pairA a_pairB a_pairFrom a_pairLetter a_seen a_words a_more y_order y_seen y_words y_apart ok
  unfold wpX_size
  dsimp only
  rcases pk_ix v1 (n := 4) (by decide) with h1 | h1 | ⟨e, he, rfl⟩
  · refine br_t h1 ?_
    unfold wpY_size
    dsimp only
    exact br_t h1 (br_t rfl (And.intro rfl (rel_i ok)))
  · have h0 := v5_0 (by decide) h1
    have h3 : (3 : Int32) < v1 := by
      rw [Int32.le_iff_toInt_le, nI_toInt (by decide)] at h1
      rw [Int32.lt_iff_toInt_lt, show (3 : Int32).toInt = 3 from by decide]
      omega
    refine br_f h0 (br_t h1 ?_)
    unfold wpY_size
    dsimp only
    exact br_f h0 (br_t h3 (br_t rfl (And.intro rfl (rel_i ok))))
  · have g0 : ¬ nI e < 0 := nI_pos (by omega)
    refine br_f g0 (br_f (nI_ge (b := 4) he (by omega)) ?_)
    rcases ma_c v2 with ⟨m, hm, rfl⟩ | hm
    · refine ma_Xt hm (br_f bs_10 (sz_by he hm ok ?_))
      intro C f_openStates f_openBegin f_openEnd f_plainCount f_classes f_listed a_openTo a_plainSet a_plainEnd a_plainNext a_classOf a_newClass a_differs a_waits a_members a_sideNext a_sideEnd a_sideCount a_joined a_image a_pairA a_pairB a_pairFrom a_pairLetter a_seen a_words a_more hK
      exact ys_size he hm ok (fun C' ap hK' => And.intro (by rw [KC_eq hK hK']) (rel_i ok))
    · refine ma_Xf hm (br_t rfl ?_)
      unfold wpY_size
      dsimp only
      exact br_f g0 (br_f (nI_nlt (a := 3) (by omega) (by omega)) (br_f bs_10 (ma_Yf hm (br_t rfl (And.intro rfl (rel_i ok))))))
theorem en_c (v : Int32) : (v < 0 ∨ ¬ v < 0 ∧ 4 ≤ v ∧ 3 < v) ∨ ∃ e, e < 4 ∧ v = nI e := by
  rcases pk_ix v (n := 4) (by decide) with h1 | h1 | ⟨e, he, rfl⟩
  · exact Or.inl (Or.inl h1)
  · refine Or.inl (Or.inr ⟨v5_0 (by decide) h1, h1, ?_⟩)
    rw [Int32.le_iff_toInt_le, nI_toInt (by decide)] at h1
    rw [Int32.lt_iff_toInt_lt, show (3 : Int32).toInt = 3 from by decide]
    omega
  · exact Or.inr ⟨e, he, rfl⟩
theorem en_Yf {post : Int32 → Prop} {v : Int32} (h : v < 0 ∨ ¬ v < 0 ∧ 4 ≤ v ∧ 3 < v) (hp : post 0) : wpY_engine post (a_arrows, a_begins, a_finals, y_order, y_seen, y_words, y_apart) v 3 := by
  rcases h with h | ⟨h1, _, h2⟩
  · exact br_t h hp
  · exact br_f h1 (br_t h2 hp)
theorem en_Yt {post : Int32 → Prop} {e : Nat} (h : e < 4) (hp : post 1) : wpY_engine post (a_arrows, a_begins, a_finals, y_order, y_seen, y_words, y_apart) (nI e) 3 := br_f (nI_pos (by omega)) (br_f (nI_nlt (a := 3) (by omega) (by omega)) hp)
theorem i_vc_agree {k : Nat} {u : SX} {v : SY} (I : i_Rel k u v) (hk : k + 5 ≤ 2560) (v1 : Int32) (v2 : Int32) : wpX_agree (fun r u' => wpY_agree (fun r' => r' = r ∧ i_Rel (k + 5) u' v) v v1 v2) u v1 v2 := by
  refine rel_el (P := fun u v => wpX_agree (fun r u' => wpY_agree (fun r' => r' = r ∧ i_Rel (k + 5) u' v) v v1 v2) u v1 v2) ?_ I
  intro f_openStates f_openBegin f_openEnd f_plainCount f_classes f_listed a_arrows a_begins a_finals a_openTo a_plainSet a_plainEnd a_plainNext a_classOf a_newClass a_differs a_waits a_members a_sideNext a_sideEnd a_sideCount a_joined a_image a_pairA a_pairB a_pairFrom a_pairLetter a_seen a_words a_more y_order y_seen y_words y_apart ok
  unfold wpX_agree
  dsimp only
  rcases en_c v1 with h1 | ⟨e1, he1, rfl⟩
  · have Y : wpY_agree (fun r' => r' = 0 ∧ i_Rel (k + 5) (f_openStates, f_openBegin, f_openEnd, f_plainCount, f_classes, f_listed, a_arrows, a_begins, a_finals, a_openTo, a_plainSet, a_plainEnd, a_plainNext, a_classOf, a_newClass, a_differs, a_waits, a_members, a_sideNext, a_sideEnd, a_sideCount, a_joined, a_image, a_pairA, a_pairB, a_pairFrom, a_pairLetter, a_seen, a_words, a_more) (a_arrows, a_begins, a_finals, y_order, y_seen, y_words, y_apart)) (a_arrows, a_begins, a_finals, y_order, y_seen, y_words, y_apart) v1 v2 := by
      unfold wpY_agree
      dsimp only
      exact en_Yf h1 (br_t rfl (And.intro rfl (rel_i ok)))
    rcases h1 with h | ⟨h, h', _⟩
    · exact br_t h (br_t rfl Y)
    · exact br_f h (br_t h' (br_t rfl Y))
  · have g1 : ¬ nI e1 < 0 := nI_pos (by omega)
    have g2 : ¬ 4 ≤ nI e1 := nI_ge (b := 4) he1 (by omega)
    refine br_f g1 (br_f g2 ?_)
    rcases en_c v2 with h2 | ⟨e2, he2, rfl⟩
    · have Y : wpY_agree (fun r' => r' = 0 ∧ i_Rel (k + 5) (f_openStates, f_openBegin, f_openEnd, f_plainCount, f_classes, f_listed, a_arrows, a_begins, a_finals, a_openTo, a_plainSet, a_plainEnd, a_plainNext, a_classOf, a_newClass, a_differs, a_waits, a_members, a_sideNext, a_sideEnd, a_sideCount, a_joined, a_image, a_pairA, a_pairB, a_pairFrom, a_pairLetter, a_seen, a_words, a_more) (a_arrows, a_begins, a_finals, y_order, y_seen, y_words, y_apart)) (a_arrows, a_begins, a_finals, y_order, y_seen, y_words, y_apart) (nI e1) v2 := by
        unfold wpY_agree
        dsimp only
        exact en_Yt he1 (br_f bs_10 (en_Yf h2 (br_t rfl (And.intro rfl (rel_i ok)))))
      rcases h2 with h | ⟨h, h', _⟩
      · exact br_t h (br_t rfl Y)
      · exact br_f h (br_t h' (br_t rfl Y))
    · refine br_f (nI_pos (by omega)) (br_f (nI_ge (b := 4) he2 (by omega)) (br_f bs_10 (sz_by (m := 0) he1 (by omega) ok ?_)))
      intro C1 f_openStates f_openBegin f_openEnd f_plainCount f_classes f_listed a_openTo a_plainSet a_plainEnd a_plainNext a_classOf a_newClass a_differs a_waits a_members a_sideNext a_sideEnd a_sideCount a_joined a_image a_pairA a_pairB a_pairFrom a_pairLetter a_seen a_words a_more K1
      refine sz_by (m := 1) he1 (by omega) ok ?_
      intro C2 f_openStates f_openBegin f_openEnd f_plainCount f_classes f_listed a_openTo a_plainSet a_plainEnd a_plainNext a_classOf a_newClass a_differs a_waits a_members a_sideNext a_sideEnd a_sideCount a_joined a_image a_pairA a_pairB a_pairFrom a_pairLetter a_seen a_words a_more K2
      refine sz_by (m := 0) he2 (by omega) ok ?_
      intro C3 f_openStates f_openBegin f_openEnd f_plainCount f_classes f_listed a_openTo a_plainSet a_plainEnd a_plainNext a_classOf a_newClass a_differs a_waits a_members a_sideNext a_sideEnd a_sideCount a_joined a_image a_pairA a_pairB a_pairFrom a_pairLetter a_seen a_words a_more K3
      refine br_t (by rw [KC_eq K1 K3]) (sz_by (m := 1) he2 (by omega) ok ?_)
      intro C4 f_openStates f_openBegin f_openEnd f_plainCount f_classes f_listed a_openTo a_plainSet a_plainEnd a_plainNext a_classOf a_newClass a_differs a_waits a_members a_sideNext a_sideEnd a_sideCount a_joined a_image a_pairA a_pairB a_pairFrom a_pairLetter a_seen a_words a_more K4
      refine br_t (by rw [KC_eq K2 K4]) ?_
      unfold wpY_agree
      dsimp only
      exact en_Yt he1 (br_f bs_10 (en_Yt he2 (br_f bs_10 (And.intro rfl (rel_i ok)))))
end size
end
section
/-! the search: pairs in the order of their words; one state for both sides: how many, which, from where, by which letter -/
abbrev BS : Type := Nat × (Nat → Nat) × (Nat → Nat) × (Nat → Bool)
def ins (τ : BS) (c : Nat) : Prop := ∃ k, k < τ.1 ∧ τ.2.1 k = c
noncomputable def ent (τ : BS) (c i : Nat) (b : Bool) : BS :=
  if bd (ins τ c) = true then τ else (τ.1 + 1, (fun k => if k = τ.1 then c else τ.2.1 k), (fun k => if k = τ.1 then i else τ.2.2.1 k), (fun k => if k = τ.1 then b else τ.2.2.2 k))
theorem ent_t {τ : BS} {c i : Nat} {b : Bool} (h : ins τ c) : ent τ c i b = τ := if_pos (bd_t.mpr h)
theorem ent_f {τ : BS} {c i : Nat} {b : Bool} (h : ¬ ins τ c) : ent τ c i b = (τ.1 + 1, (fun k => if k = τ.1 then c else τ.2.1 k), (fun k => if k = τ.1 then i else τ.2.2.1 k), (fun k => if k = τ.1 then b else τ.2.2.2 k)) := if_neg (by rw [bd_f.mpr h]; decide)
/-- the invariant: the letters of the first q / 2 pairs are done -/
def BF (nx : Bool → Nat → Nat) (s0 : Nat) (τ : BS) (q : Nat) : Prop :=
  0 < τ.1 ∧ τ.1 ≤ 1024 ∧ τ.2.1 0 = s0 ∧ (∀ k, k < τ.1 → τ.2.1 k < 1024) ∧ (∀ j, j < τ.1 → ∀ k, k < τ.1 → τ.2.1 j = τ.2.1 k → j = k) ∧ (∀ k, 0 < k → k < τ.1 → τ.2.2.1 k < k ∧ τ.2.1 k = nx (τ.2.2.2 k) (τ.2.1 (τ.2.2.1 k))) ∧ (∀ q', q' < q → ins τ (nx (decide (q' % 2 = 1)) (τ.2.1 (q' / 2))))
theorem BF_ent {nx : Bool → Nat → Nat} {s0 : Nat} {τ : BS} {q i : Nat} {b : Bool} (hx : ∀ b c, nx b c < 1024) (h : BF nx s0 τ q) (hi : i < τ.1) (hb : q = 2 * i + b.toNat) : BF nx s0 (ent τ (nx b (τ.2.1 i)) i b) (q + 1) ∧ τ.1 ≤ (ent τ (nx b (τ.2.1 i)) i b).1 ∧ (∀ k, k < τ.1 → (ent τ (nx b (τ.2.1 i)) i b).2.1 k = τ.2.1 k) := by
  have hbl := tb_lt b
  have hq1 : decide (q % 2 = 1) = b := by
    cases b
    · exact decide_eq_false (by have : false.toNat = 0 := rfl; omega)
    · exact decide_eq_true (by have : true.toNat = 1 := rfl; omega)
  have hq2 : q / 2 = i := by omega
  obtain ⟨h1, h2, h3, h4, h5, h6, h7⟩ := h
  by_cases hin : ins τ (nx b (τ.2.1 i))
  · rw [ent_t hin]
    refine ⟨⟨h1, h2, h3, h4, h5, h6, ?_⟩, Nat.le_refl _, fun k _ => rfl⟩
    intro q' hq'
    by_cases z : q' = q
    · rw [z, hq1, hq2]; exact hin
    · exact h7 q' (by omega)
  · rw [ent_f hin]
    have oth : ∀ k, k < τ.1 → (if k = τ.1 then nx b (τ.2.1 i) else τ.2.1 k) = τ.2.1 k := fun k hk => if_neg (by omega)
    have r4 : ∀ k, k < τ.1 + 1 → (if k = τ.1 then nx b (τ.2.1 i) else τ.2.1 k) < 1024 := by
      intro k hk
      by_cases z : k = τ.1
      · rw [if_pos z]; exact hx _ _
      · rw [if_neg z]; exact h4 k (by omega)
    have r5 : ∀ j, j < τ.1 + 1 → ∀ k, k < τ.1 + 1 → (if j = τ.1 then nx b (τ.2.1 i) else τ.2.1 j) = (if k = τ.1 then nx b (τ.2.1 i) else τ.2.1 k) → j = k := by
      intro j hj k hk
      by_cases z : j = τ.1
      · by_cases y : k = τ.1
        · intro _; omega
        · rw [if_pos z, if_neg y]; intro e; exact absurd ⟨k, by omega, e.symm⟩ hin
      · by_cases y : k = τ.1
        · rw [if_neg z, if_pos y]; intro e; exact absurd ⟨j, by omega, e⟩ hin
        · rw [if_neg z, if_neg y]; exact h5 j (by omega) k (by omega)
    refine ⟨⟨by omega, ph_le 1024 (τ.1 + 1) (fun k => if k = τ.1 then nx b (τ.2.1 i) else τ.2.1 k) r4 r5, ?_, r4, r5, ?_, ?_⟩, Nat.le_succ _, oth⟩
    · exact (oth 0 h1).trans h3
    · intro k hk0 hk
      show (if k = τ.1 then i else τ.2.2.1 k) < k ∧ (if k = τ.1 then nx b (τ.2.1 i) else τ.2.1 k) = nx (if k = τ.1 then b else τ.2.2.2 k) (if (if k = τ.1 then i else τ.2.2.1 k) = τ.1 then nx b (τ.2.1 i) else τ.2.1 (if k = τ.1 then i else τ.2.2.1 k))
      by_cases z : k = τ.1
      · rw [if_pos z, if_pos z, if_pos z, if_neg (by omega)]
        exact ⟨by omega, rfl⟩
      · have hk' : k < τ.1 + 1 := hk
        have := h6 k hk0 (by omega)
        rw [if_neg z, if_neg z, if_neg z, if_neg (by omega)]
        exact this
    · intro q' hq'
      show ins (τ.1 + 1, (fun k => if k = τ.1 then nx b (τ.2.1 i) else τ.2.1 k), _, _) (nx (decide (q' % 2 = 1)) (if q' / 2 = τ.1 then nx b (τ.2.1 i) else τ.2.1 (q' / 2)))
      have hq3 : q' / 2 < τ.1 := by omega
      rw [if_neg (by omega)]
      by_cases z : q' = q
      · rw [z, hq1, hq2]; exact ⟨τ.1, Nat.lt_succ_self _, if_pos rfl⟩
      · obtain ⟨k, hk, e⟩ := h7 q' (by omega)
        exact ⟨k, Nat.lt_succ_of_lt hk, (oth k hk).trans e⟩
noncomputable def nst (nx : Bool → Nat → Nat) (τ : BS) (i : Nat) : BS := ent (ent τ (nx false (τ.2.1 i)) i false) (nx true (τ.2.1 i)) i true
theorem BF_nst {nx : Bool → Nat → Nat} {s0 : Nat} {τ : BS} {i : Nat} (hx : ∀ b c, nx b c < 1024) (h : BF nx s0 τ (2 * i)) (hi : i < τ.1) : BF nx s0 (nst nx τ i) (2 * (i + 1)) ∧ τ.1 ≤ (nst nx τ i).1 ∧ (∀ k, k < τ.1 → (nst nx τ i).2.1 k = τ.2.1 k) := by
  have e1 := BF_ent (b := false) hx h hi rfl
  have hk := e1.2.2 i hi
  have e2 := BF_ent (b := true) hx e1.1 (by have := e1.2.1; omega) (q := 2 * i + 1) rfl
  rw [hk] at e2
  exact ⟨e2.1, Nat.le_trans e1.2.1 e2.2.1, fun k hk => (e2.2.2 k (by have := e1.2.1; omega)).trans (e1.2.2 k hk)⟩
/-- to the first pair that is bad, or to the end -/
noncomputable def bsl (nx : Bool → Nat → Nat) (bad : Nat → Bool) : Nat → BS → Nat → BS × Nat
  | 0, τ, i => (τ, i)
  | d + 1, τ, i => if τ.1 ≤ i then (τ, i) else if bad (τ.2.1 i) = true then (τ, i) else bsl nx bad d (nst nx τ i) (i + 1)
theorem bsl_p {nx : Bool → Nat → Nat} {bad : Nat → Bool} {s0 : Nat} (hx : ∀ b c, nx b c < 1024) : ∀ d τ i, i + d = 1024 → i ≤ τ.1 → BF nx s0 τ (2 * i) → (∀ j, j < i → bad (τ.2.1 j) = false) → BF nx s0 (bsl nx bad d τ i).1 (2 * (bsl nx bad d τ i).2) ∧ (bsl nx bad d τ i).2 ≤ (bsl nx bad d τ i).1.1 ∧ (∀ j, j < (bsl nx bad d τ i).2 → bad ((bsl nx bad d τ i).1.2.1 j) = false) ∧ ((bsl nx bad d τ i).1.1 ≤ (bsl nx bad d τ i).2 ∨ bad ((bsl nx bad d τ i).1.2.1 (bsl nx bad d τ i).2) = true) := by
  intro d
  induction d with
  | zero =>
    intro τ i e hi h hb
    refine ⟨h, hi, hb, Or.inl ?_⟩
    show τ.1 ≤ i
    have := h.2.1
    omega
  | succ d ih =>
    intro τ i e hi h hb
    show BF nx s0 (if τ.1 ≤ i then (τ, i) else if bad (τ.2.1 i) = true then (τ, i) else bsl nx bad d (nst nx τ i) (i + 1)).1 (2 * (if τ.1 ≤ i then (τ, i) else if bad (τ.2.1 i) = true then (τ, i) else bsl nx bad d (nst nx τ i) (i + 1)).2) ∧ (if τ.1 ≤ i then (τ, i) else if bad (τ.2.1 i) = true then (τ, i) else bsl nx bad d (nst nx τ i) (i + 1)).2 ≤ (if τ.1 ≤ i then (τ, i) else if bad (τ.2.1 i) = true then (τ, i) else bsl nx bad d (nst nx τ i) (i + 1)).1.1 ∧ (∀ j, j < (if τ.1 ≤ i then (τ, i) else if bad (τ.2.1 i) = true then (τ, i) else bsl nx bad d (nst nx τ i) (i + 1)).2 → bad ((if τ.1 ≤ i then (τ, i) else if bad (τ.2.1 i) = true then (τ, i) else bsl nx bad d (nst nx τ i) (i + 1)).1.2.1 j) = false) ∧ ((if τ.1 ≤ i then (τ, i) else if bad (τ.2.1 i) = true then (τ, i) else bsl nx bad d (nst nx τ i) (i + 1)).1.1 ≤ (if τ.1 ≤ i then (τ, i) else if bad (τ.2.1 i) = true then (τ, i) else bsl nx bad d (nst nx τ i) (i + 1)).2 ∨ bad ((if τ.1 ≤ i then (τ, i) else if bad (τ.2.1 i) = true then (τ, i) else bsl nx bad d (nst nx τ i) (i + 1)).1.2.1 (if τ.1 ≤ i then (τ, i) else if bad (τ.2.1 i) = true then (τ, i) else bsl nx bad d (nst nx τ i) (i + 1)).2) = true)
    by_cases z : τ.1 ≤ i
    · rw [if_pos z]; exact ⟨h, hi, hb, Or.inl z⟩
    · rw [if_neg z]
      by_cases y : bad (τ.2.1 i) = true
      · rw [if_pos y]; exact ⟨h, hi, hb, Or.inr y⟩
      · rw [if_neg y]
        have N := BF_nst hx h (by omega)
        refine ih (nst nx τ i) (i + 1) (by omega) (by have := N.2.1; omega) N.1 ?_
        intro j hj
        rw [N.2.2 j (by omega)]
        by_cases x : j = i
        · rw [x]; exact Bool.eq_false_iff.mpr y
        · exact hb j (by omega)
/-- each pair that is listed is come to by a word -/
theorem BF_w {nx : Bool → Nat → Nat} {s0 q : Nat} {τ : BS} (h : BF nx s0 τ q) : ∀ n k, k < n → k < τ.1 → ∃ w, rn nx s0 w = τ.2.1 k := by
  intro n
  induction n with
  | zero => intro k hk; omega
  | succ n ih =>
    intro k hk hk'
    rcases Nat.eq_zero_or_pos k with z | z
    · exact ⟨[], by rw [z]; exact h.2.2.1.symm⟩
    · have := h.2.2.2.2.2.1 k z hk'
      obtain ⟨w, e⟩ := ih (τ.2.2.1 k) (by omega) (by omega)
      exact ⟨w ++ [τ.2.2.2 k], by rw [rn_sn, e]; exact this.2.symm⟩
/-- all letters done: all that words come to is listed -/
theorem BF_all {nx : Bool → Nat → Nat} {s0 : Nat} {τ : BS} (h : BF nx s0 τ (2 * τ.1)) (w : List Bool) : ins τ (rn nx s0 w) := by
  refine rn_inv (fun c => ins τ c) ?_ w s0 ⟨0, h.1, h.2.2.1⟩
  rintro b c ⟨k, hk, e⟩
  have hb := tb_lt b
  have := h.2.2.2.2.2.2 (2 * k + b.toNat) (by omega)
  rw [show (2 * k + b.toNat) / 2 = k by omega, e] at this
  have e2 : decide ((2 * k + b.toNat) % 2 = 1) = b := by
    cases b
    · exact decide_eq_false (by have : false.toNat = 0 := rfl; omega)
    · exact decide_eq_true (by have : true.toNat = 1 := rfl; omega)
  rw [e2] at this
  exact this
def bs0 (s0 : Nat) : BS := (1, fun _ => s0, fun _ => 0, fun _ => false)
theorem BF_0 {nx : Bool → Nat → Nat} {s0 : Nat} (h : s0 < 1024) : BF nx s0 (bs0 s0) (2 * 0) := by
  refine ⟨Nat.one_pos, by show 1 ≤ 1024; omega, rfl, fun k _ => h, fun j hj k hk _ => ?_, fun k h0 hk => ?_, fun q hq => absurd hq (Nat.not_lt_zero q)⟩
  · have hj' : j < 1 := hj
    have hk' : k < 1 := hk
    omega
  · have hk' : k < 1 := hk
    omega
/-- the end of the search: no pair that is come to is bad, just when it goes to the end -/
theorem bsl_e {nx : Bool → Nat → Nat} {bad : Nat → Bool} {s0 : Nat} (hx : ∀ b c, nx b c < 1024) (h0 : s0 < 1024) : (bsl nx bad 1024 (bs0 s0) 0).1.1 ≤ (bsl nx bad 1024 (bs0 s0) 0).2 ↔ ∀ w, bad (rn nx s0 w) = false := by
  obtain ⟨h1, h2, h3, h4⟩ := bsl_p (bad := bad) hx 1024 (bs0 s0) 0 rfl (Nat.zero_le _) (BF_0 h0) (fun j hj => absurd hj (Nat.not_lt_zero j))
  constructor
  · intro h w
    have e : (bsl nx bad 1024 (bs0 s0) 0).2 = (bsl nx bad 1024 (bs0 s0) 0).1.1 := Nat.le_antisymm h2 h
    rw [e] at h1 h3
    obtain ⟨k, hk, ek⟩ := BF_all h1 w
    rw [← ek]; exact h3 k hk
  · intro h
    rcases Nat.lt_or_ge (bsl nx bad 1024 (bs0 s0) 0).2 (bsl nx bad 1024 (bs0 s0) 0).1.1 with z | z
    · exfalso
      rcases h4 with y | y
      · omega
      · obtain ⟨w, e⟩ := BF_w h1 _ _ (Nat.lt_succ_self _) z
        rw [← e, h w] at y
        exact absurd y (by decide)
    · exact z
/-! pairs of sets -/
def np (a : Nat → Int32) (b : Bool) (c : Nat) : Nat := 32 * dl a 0 b (c / 32) + dl a 1 b (c % 32)
theorem np_s {a : Nat → Int32} (ha : ∀ i, sm (a i)) (b : Bool) (c : Nat) : np a b c < 1024 ∧ np a b c / 32 = dl a 0 b (c / 32) ∧ np a b c % 32 = dl a 1 b (c % 32) := by
  have h1 := (dl_s ha 0 b (c / 32)).1
  have h2 := (dl_s ha 1 b (c % 32)).1
  unfold np
  omega
theorem np_rn {a : Nat → Int32} (ha : ∀ i, sm (a i)) {x y : Nat} (hx : x < 32) (hy : y < 32) (w : List Bool) : rn (np a) (32 * x + y) w = 32 * rn (dl a 0) x w + rn (dl a 1) y w ∧ rn (dl a 0) x w < 32 ∧ rn (dl a 1) y w < 32 := by
  have h1 := (dl_r ha 0 w x hx).1
  have h2 := (dl_r ha 1 w y hy).1
  have := rn_rel (δ := np a) (ε := fun b (p : Nat × Nat) => (dl a 0 b p.1, dl a 1 b p.2)) (fun c p => c < 1024 ∧ c / 32 = p.1 ∧ c % 32 = p.2) (by
    rintro b c ⟨p, q⟩ ⟨e1, e2, e3⟩
    have := np_s ha b c
    have e2' : c / 32 = p := e2
    have e3' : c % 32 = q := e3
    rw [e2', e3'] at this
    exact this) w (32 * x + y) (x, y) ⟨by omega, by show (32 * x + y) / 32 = x; omega, by show (32 * x + y) % 32 = y; omega⟩
  have e : rn (fun b (p : Nat × Nat) => (dl a 0 b p.1, dl a 1 b p.2)) (x, y) w = (rn (dl a 0) x w, rn (dl a 1) y w) := by
    have := rn_rel (δ := fun b (p : Nat × Nat) => (dl a 0 b p.1, dl a 1 b p.2)) (ε := dl a 0) (fun p s => p.1 = s) (by rintro b p s rfl; rfl) w (x, y) x rfl
    have h' := rn_rel (δ := fun b (p : Nat × Nat) => (dl a 0 b p.1, dl a 1 b p.2)) (ε := dl a 1) (fun p s => p.2 = s) (by rintro b p s rfl; rfl) w (x, y) y rfl
    exact Prod.ext this h'
  rw [e] at this
  obtain ⟨t1, t2, t3⟩ := this
  have t2' : rn (np a) (32 * x + y) w / 32 = rn (dl a 0) x w := t2
  have t3' : rn (np a) (32 * x + y) w % 32 = rn (dl a 1) y w := t3
  exact ⟨by omega, h1, h2⟩
def bk3 (f : Nat → Int32) (κ c : Nat) : Bool :=
  if κ = 2 then (ef (f 0) (c / 32) != ef (f 1) (c % 32)) else if κ = 0 then (ef (f 1) (c % 32) && !ef (f 0) (c / 32)) else (ef (f 0) (c / 32) && !ef (f 1) (c % 32))
section search
variable {a_arrows a_begins a_finals : Nat → Int32}
variable {y_order y_seen y_apart : Nat → Int32} {y_words : Nat → Int64}
/-- numbers of the words -/
def WV (τ : BS) (wv : Nat → Nat) : Prop := wv 0 = 1 ∧ (∀ k, k < τ.1 → wv k < 2 ^ 42) ∧ ∀ k, 0 < k → k < τ.1 → wv k = if wv (τ.2.2.1 k) ≤ 1099511627776 then 2 * wv (τ.2.2.1 k) + (τ.2.2.2 k).toNat else wv (τ.2.2.1 k)
def RY (τ : BS) (od se : Nat → Int32) (wo : Nat → Int64) : Prop := (∀ k, k < τ.1 → od k = nI (τ.2.1 k)) ∧ (∀ c, c < 1024 → se c = bi (bd (ins τ c))) ∧ ∃ wv, WV τ wv ∧ ∀ k, k < τ.1 → wo k = lN (wv k)
theorem RY_new {nx : Bool → Nat → Nat} {s0 q : Nat} {τ : BS} {od se : Nat → Int32} {wo : Nat → Int64} {c i : Nat} {b : Bool} {wv : Nat → Nat} (hF : BF nx s0 τ q) (hi : i < τ.1) (h1 : ∀ k, k < τ.1 → od k = nI (τ.2.1 k)) (h2 : ∀ c, c < 1024 → se c = bi (bd (ins τ c))) (h3 : WV τ wv) (h4 : ∀ k, k < τ.1 → wo k = lN (wv k)) (hin : ¬ ins τ c) : RY (ent τ c i b) (upd od τ.1 (nI c)) (upd se c (bi true)) (vp_updL wo τ.1 (lN (if wv i ≤ 1099511627776 then 2 * wv i + b.toNat else wv i))) := by
  rw [ent_f hin]
  have hb := tb_lt b
  have hbi := h3.2.1 i hi
  refine ⟨?_, ?_, (fun k => if k = τ.1 then (if wv i ≤ 1099511627776 then 2 * wv i + b.toNat else wv i) else wv k), ⟨?_, ?_, ?_⟩, ?_⟩
  · intro k hk
    have hk' : k < τ.1 + 1 := hk
    show _ = nI (if k = τ.1 then c else τ.2.1 k)
    by_cases z : k = τ.1
    · rw [if_pos z, z, pk_us]
    · rw [if_neg z, pk_un z]; exact h1 k (by omega)
  · intro c' hc'
    by_cases z : c' = c
    · rw [z, pk_us]
      have : bd (ins (τ.1 + 1, (fun k => if k = τ.1 then c else τ.2.1 k), (fun k => if k = τ.1 then i else τ.2.2.1 k), (fun k => if k = τ.1 then b else τ.2.2.2 k)) c) = true := bd_t.mpr ⟨τ.1, Nat.lt_succ_self _, if_pos rfl⟩
      rw [this]
    · rw [pk_un z, h2 c' hc']
      apply congrArg bi
      apply Bool.eq_iff_iff.mpr
      rw [bd_t, bd_t]
      constructor
      · rintro ⟨k, hk, e⟩
        exact ⟨k, Nat.lt_succ_of_lt hk, by show (if k = τ.1 then c else τ.2.1 k) = c'; rw [if_neg (by omega)]; exact e⟩
      · rintro ⟨k, hk, e⟩
        have hk' : k < τ.1 + 1 := hk
        have e' : (if k = τ.1 then c else τ.2.1 k) = c' := e
        by_cases y : k = τ.1
        · rw [if_pos y] at e'; exact absurd e'.symm z
        · rw [if_neg y] at e'; exact ⟨k, by omega, e'⟩
  · show (if 0 = τ.1 then _ else wv 0) = 1
    rw [if_neg (by have := hF.1; omega)]; exact h3.1
  · intro k hk
    have hk' : k < τ.1 + 1 := hk
    show (if k = τ.1 then (if wv i ≤ 1099511627776 then 2 * wv i + b.toNat else wv i) else wv k) < 2 ^ 42
    by_cases z : k = τ.1
    · rw [if_pos z]
      by_cases y : wv i ≤ 1099511627776
      · rw [if_pos y]; omega
      · rw [if_neg y]; exact hbi
    · rw [if_neg z]; exact h3.2.1 k (by omega)
  · intro k h0 hk
    have hk' : k < τ.1 + 1 := hk
    show (if k = τ.1 then (if wv i ≤ 1099511627776 then 2 * wv i + b.toNat else wv i) else wv k) = if (if (if k = τ.1 then i else τ.2.2.1 k) = τ.1 then (if wv i ≤ 1099511627776 then 2 * wv i + b.toNat else wv i) else wv (if k = τ.1 then i else τ.2.2.1 k)) ≤ 1099511627776 then 2 * (if (if k = τ.1 then i else τ.2.2.1 k) = τ.1 then (if wv i ≤ 1099511627776 then 2 * wv i + b.toNat else wv i) else wv (if k = τ.1 then i else τ.2.2.1 k)) + (if k = τ.1 then b else τ.2.2.2 k).toNat else (if (if k = τ.1 then i else τ.2.2.1 k) = τ.1 then (if wv i ≤ 1099511627776 then 2 * wv i + b.toNat else wv i) else wv (if k = τ.1 then i else τ.2.2.1 k))
    by_cases z : k = τ.1
    · simp only [if_pos z, if_neg (show ¬ i = τ.1 by omega)]
    · have := hF.2.2.2.2.2.1 k h0 (by omega)
      simp only [if_neg z, if_neg (show ¬ τ.2.2.1 k = τ.1 by omega)]
      exact h3.2.2 k h0 (by omega)
  · intro k hk
    have hk' : k < τ.1 + 1 := hk
    show _ = lN (if k = τ.1 then (if wv i ≤ 1099511627776 then 2 * wv i + b.toNat else wv i) else wv k)
    by_cases z : k = τ.1
    · rw [if_pos z, z, pk_uLs]
    · rw [if_neg z, pk_uLn z]; exact h4 k (by omega)
theorem ysr_159 {post : Int32 → SY → Prop} {J : Int32 → Int32 → (Nat → Int32) → (Nat → Int32) → (Nat → Int32) → (Nat → Int32) → (Nat → Int32) → (Nat → Int64) → (Nat → Int32) → Prop} {κ i l n s0 : Nat} {b : Bool} {τ : BS} {od se : Nat → Int32} {wo : Nat → Int64} (ha : ∀ i, sm (a_arrows i)) (hb : b.toNat = l) (hF : BF (np a_arrows) s0 τ (2 * i + l)) (hi : i < τ.1) (hc : τ.2.1 i < 1024) (hR : RY τ od se wo) (h : ∀ (od' se' : Nat → Int32) (wo' : Nat → Int64), RY (ent τ (np a_arrows b (τ.2.1 i)) i b) od' se' wo' → wY_search_159 post J (nI κ) (nI i) (nI (τ.2.1 i / 32)) (nI (τ.2.1 i % 32)) n (nI (ent τ (np a_arrows b (τ.2.1 i)) i b).1) (nI (l + 1)) a_arrows a_begins a_finals od' se' wo' y_apart) : wY_search_159 post J (nI κ) (nI i) (nI (τ.2.1 i / 32)) (nI (τ.2.1 i % 32)) (n + 1) (nI τ.1) (nI l) a_arrows a_begins a_finals od se wo y_apart := by
  have hl := tb_lt b
  rw [hb] at hl
  have hn := np_s ha b (τ.2.1 i)
  have d0 := dl_s ha 0 b (τ.2.1 i / 32)
  have d1 := dl_s ha 1 b (τ.2.1 i % 32)
  have e9 : (32 : Int32) * stp a_arrows 0 l (nI (τ.2.1 i / 32)) + stp a_arrows 1 l (nI (τ.2.1 i % 32)) = nI (np a_arrows b (τ.2.1 i)) := by
    have q0 : stp a_arrows 0 l (nI (τ.2.1 i / 32)) = nI (dl a_arrows 0 b (τ.2.1 i / 32)) := by rw [← hb]; exact d0.2
    have q1 : stp a_arrows 1 l (nI (τ.2.1 i % 32)) = nI (dl a_arrows 1 b (τ.2.1 i % 32)) := by rw [← hb]; exact d1.2
    rw [q0, q1]
    show nI 32 * nI _ + nI _ = _
    rw [pk_mul, nI_add]; rfl
  obtain ⟨r1, r2, wv, r3, r4⟩ := hR
  refine br_f (nI_ge (b := 2) hl (by omega)) (ys_step (m := 0) (by omega) hl (ys_step (m := 1) (by omega) hl (nm_r e9 ?_)))
  rw [nI_clamp (by omega), r2 _ hn.1]
  refine And.intro (vp_in_nI hn.1 (by omega)) (bi_z (fun hin => ?_) (fun hin => ?_))
  · have hin' := bd_f.mp hin
    have hlt : τ.1 < 1024 := by
      have := (BF_ent (b := b) (fun b c => (np_s ha b c).1) hF hi (by rw [hb])).1.2.1
      rw [ent_f hin'] at this
      exact this
    have hiv := r3.2.1 i hi
    have hwi := r4 i hi
    have R' := RY_new (b := b) hF hi r1 r2 r3 r4 hin'
    have eb : (nI l).toInt64 = lN b.toNat := by rw [nI_l (by omega), hb]
    rw [nI_clamp (by omega : τ.1 < 2 ^ 31), nI_clamp (by omega : i < 2 ^ 31), hwi, bs_v1, eb]
    have vi : vp_in (nI i) 1024 := vp_in_nI (by omega) (by omega)
    have vn : vp_in (nI τ.1) 1024 := vp_in_nI hlt (by omega)
    have key := h _ _ _ R'
    rw [ent_f hin'] at key
    refine And.intro (vp_in_nI hn.1 (by omega)) (nm_e (And.intro vn (nm_e (And.intro vi ?_))))
    by_cases y : wv i ≤ 1099511627776
    · rw [if_pos y] at key
      have e2 : (2 : Int64) * lN (wv i) + lN b.toNat = lN (2 * wv i + b.toNat) := by
        show lN 2 * lN (wv i) + lN b.toNat = _
        rw [lN_mul, lN_add]
      have c1 : lN (wv i) ≤ 1099511627776 := (pk_lLE (a := wv i) (b := 1099511627776) (by omega) (by omega)).mpr y
      rw [e2]
      exact br_t c1 (And.intro vi (And.intro vn (nm_e (nm_r (nI_1 τ.1) (nm_r (nI_1 l) key)))))
    · rw [if_neg y] at key
      have c1 : ¬ lN (wv i) ≤ 1099511627776 := fun z => y ((pk_lLE (a := wv i) (b := 1099511627776) (by omega) (by omega)).mp z)
      exact br_f c1 (And.intro vi (And.intro vn (nm_e (nm_r (nI_1 τ.1) (nm_r (nI_1 l) key)))))
  · have hin' := bd_t.mp hin
    have key := h od se wo (by rw [ent_t hin']; exact ⟨r1, r2, wv, r3, r4⟩)
    rw [ent_t hin'] at key
    exact nm_r (nI_1 l) key
theorem ysr_67 {post : Int32 → SY → Prop} {κ s0 : Nat} (ha : ∀ i, sm (a_arrows i)) (hκ : κ < 3) : ∀ d i (τ : BS) (od se : Nat → Int32) (wo : Nat → Int64), i + d = 1024 → i ≤ τ.1 → BF (np a_arrows) s0 τ (2 * i) → RY τ od se wo → (∀ (od' se' : Nat → Int32) (wo' : Nat → Int64), RY (bsl (np a_arrows) (bk3 a_finals κ) d τ i).1 od' se' wo' → post (if (bsl (np a_arrows) (bk3 a_finals κ) d τ i).1.1 ≤ (bsl (np a_arrows) (bk3 a_finals κ) d τ i).2 then -1 else nI (bsl (np a_arrows) (bk3 a_finals κ) d τ i).2) (a_arrows, a_begins, a_finals, od', se', wo', y_apart)) → wY_search_67 post (nI κ) (d + 1) (nI τ.1) (nI i) a_arrows a_begins a_finals od se wo y_apart := by
  intro d
  induction d with
  | zero =>
    intro i τ od se wo e hi hF hR h
    have h2 := hF.2.1
    have eb : bsl (np a_arrows) (bk3 a_finals κ) 0 τ i = (τ, i) := rfl
    rw [eb] at h
    have key := h od se wo hR
    rw [if_pos (show τ.1 ≤ i by omega)] at key
    exact br_t (nI_le (by omega) (by omega)) key
  | succ d ih =>
    intro i τ od se wo e hi hF hR h
    have h2 := hF.2.1
    rcases Nat.lt_or_ge i τ.1 with z | z
    · have hod := hF.2.2.2.1 i z
      have e1 : nI (τ.2.1 i) / 32 = nI (τ.2.1 i / 32) := pk_div (by omega) (by decide) (by decide)
      have e2 : nI (τ.2.1 i) - nI (τ.2.1 i) / 32 * 32 = nI (τ.2.1 i % 32) := pk_rem (by omega) (by decide) (by decide)
      have found : bk3 a_finals κ (τ.2.1 i) = true → post (nI i) (a_arrows, a_begins, a_finals, od, se, wo, y_apart) := by
        intro y
        have eb : bsl (np a_arrows) (bk3 a_finals κ) (d + 1) τ i = (τ, i) := by
          show (if τ.1 ≤ i then (τ, i) else if bk3 a_finals κ (τ.2.1 i) = true then (τ, i) else _) = _
          rw [if_neg (by omega), if_pos y]
        rw [eb] at h
        have key := h od se wo hR
        rw [if_neg (show ¬ τ.1 ≤ i by omega)] at key
        exact key
      have go : bk3 a_finals κ (τ.2.1 i) = false → ∃ n159, wY_search_159 post (wY_search_67 post (nI κ) (d + 1)) (nI κ) (nI i) (nI (τ.2.1 i / 32)) (nI (τ.2.1 i % 32)) n159 (nI τ.1) 0 a_arrows a_begins a_finals od se wo y_apart := by
        intro y
        have eb : bsl (np a_arrows) (bk3 a_finals κ) (d + 1) τ i = bsl (np a_arrows) (bk3 a_finals κ) d (nst (np a_arrows) τ i) (i + 1) := by
          show (if τ.1 ≤ i then (τ, i) else if bk3 a_finals κ (τ.2.1 i) = true then (τ, i) else _) = _
          rw [if_neg (by omega), if_neg (by rw [y]; decide)]
        rw [eb] at h
        have hx : ∀ b c, np a_arrows b c < 1024 := fun b c => (np_s ha b c).1
        have E1 := BF_ent (b := false) hx hF z rfl
        have N := BF_nst hx hF z
        have k1 := E1.2.2 i z
        have l1 := E1.2.1
        refine ⟨3, ysr_159 (l := 0) (b := false) ha rfl hF z hod hR (fun od1 se1 wo1 R1 => ?_)⟩
        have step2 := ysr_159 (post := post) (J := wY_search_67 post (nI κ) (d + 1)) (a_arrows := a_arrows) (a_begins := a_begins) (a_finals := a_finals) (y_apart := y_apart) (κ := κ) (n := 1) (l := 1) (b := true) (τ := ent τ (np a_arrows false (τ.2.1 i)) i false) (i := i) (od := od1) (se := se1) (wo := wo1) ha rfl E1.1 (by omega) (by rw [k1]; exact hod) R1
        rw [k1] at step2
        refine step2 (fun od2 se2 wo2 R2 => ?_)
        exact br_t (by decide) (nm_r (nI_1 i) (ih (i + 1) (nst (np a_arrows) τ i) od2 se2 wo2 (by omega) (by have := N.2.1; omega) N.1 R2 h))
      refine br_f (nI_ge (by omega) (by omega)) ?_
      rw [nI_clamp (by omega : i < 2 ^ 31), hR.1 i z, e2, e1]
      have vi : vp_in (nI i) 1024 := vp_in_nI (by omega) (by omega)
      refine And.intro vi (And.intro (by decide) (nm_e (And.intro vi (And.intro (by decide) (nm_e (yg_ht (m := 0) (by omega) (yg_ht (m := 1) (by omega) ?_)))))))
      have B : bk3 a_finals κ (τ.2.1 i) = if κ = 2 then (ht (nI (τ.2.1 i / 32)) (a_finals 0) != ht (nI (τ.2.1 i % 32)) (a_finals 1)) else if κ = 0 then (ht (nI (τ.2.1 i % 32)) (a_finals 1) && !ht (nI (τ.2.1 i / 32)) (a_finals 0)) else (ht (nI (τ.2.1 i / 32)) (a_finals 0) && !ht (nI (τ.2.1 i % 32)) (a_finals 1)) := rfl
      refine pk_eq κ 2 (fun q2 => bi_e (fun y => go ?_) (fun y => found ?_)) (fun q2 => pk_eq κ 0 (fun q0 => bi_z (fun y => go ?_) (fun y => bi_z (fun x => found ?_) (fun x => go ?_))) (fun q0 => bi_z (fun y => go ?_) (fun y => bi_z (fun x => found ?_) (fun x => go ?_))))
      · rw [B, if_pos q2]; exact bne_eq_false_iff_eq.mpr y
      · rw [B, if_pos q2]; exact bne_iff_ne.mpr y
      · rw [B, if_neg q2, if_pos q0, y]; rfl
      · rw [B, if_neg q2, if_pos q0, y, x]; rfl
      · rw [B, if_neg q2, if_pos q0, y, x]; rfl
      · rw [B, if_neg q2, if_neg q0, y]; rfl
      · rw [B, if_neg q2, if_neg q0, y, x]; rfl
      · rw [B, if_neg q2, if_neg q0, y, x]; rfl
    · have eb : bsl (np a_arrows) (bk3 a_finals κ) (d + 1) τ i = (τ, i) := by
        show (if τ.1 ≤ i then (τ, i) else _) = _
        rw [if_pos z]
      rw [eb] at h
      have key := h od se wo hR
      rw [if_pos (show τ.1 ≤ i from z)] at key
      exact br_t (nI_le z (by omega)) key
theorem ysr_2 {post : Int32 → SY → Prop} {κ x0 y0 : Nat} (ok : Ok a_arrows a_begins a_finals) (hκ : κ < 3) (hx0 : x0 < 32) (hy0 : y0 < 32) (bx : a_begins 0 = nI x0) (by0 : a_begins 1 = nI y0) (h : ∀ (od' se' : Nat → Int32) (wo' : Nat → Int64), RY (bsl (np a_arrows) (bk3 a_finals κ) 1024 (bs0 (32 * x0 + y0)) 0).1 od' se' wo' → post (if (bsl (np a_arrows) (bk3 a_finals κ) 1024 (bs0 (32 * x0 + y0)) 0).1.1 ≤ (bsl (np a_arrows) (bk3 a_finals κ) 1024 (bs0 (32 * x0 + y0)) 0).2 then -1 else nI (bsl (np a_arrows) (bk3 a_finals κ) 1024 (bs0 (32 * x0 + y0)) 0).2) (a_arrows, a_begins, a_finals, od', se', wo', y_apart)) : ∀ d c (se : Nat → Int32), c + d = 1024 → (∀ j, j < c → se j = 0) → wY_search_2 post (nI κ) (d + 1) (nI c) a_arrows a_begins a_finals y_order se y_words y_apart := by
  intro d
  induction d with
  | zero =>
    intro c se e hs
    rw [show c = 1024 by omega] at hs ⊢
    have e0 : (32 : Int32) * a_begins 0 + a_begins 1 = nI (32 * x0 + y0) := by
      rw [bx, by0]
      show nI 32 * nI x0 + nI y0 = _
      rw [pk_mul, nI_add]
    refine br_t (by decide) (nm_e (nm_e ?_))
    rw [e0, pk_us, nI_clamp (by omega), bs_v1]
    refine And.intro (vp_in_nI (by omega) (by omega)) (nm_e (Exists.intro 1025 (ysr_67 ok.1 hκ 1024 0 (bs0 (32 * x0 + y0)) _ _ _ rfl (Nat.zero_le _) (BF_0 (by omega)) ⟨?_, ?_, fun _ => 1, ⟨rfl, fun k _ => by show 1 < 2 ^ 42; decide, fun k h0 hk => ?_⟩, ?_⟩ h)))
    · intro k hk
      have hk' : k < 1 := hk
      rw [show k = 0 by omega, pk_us]; rfl
    · intro c' hc'
      by_cases z : c' = 32 * x0 + y0
      · rw [z, pk_us]
        have : bd (ins (bs0 (32 * x0 + y0)) (32 * x0 + y0)) = true := bd_t.mpr ⟨0, Nat.one_pos, rfl⟩
        rw [this]; rfl
      · rw [pk_un z, hs c' hc']
        have : bd (ins (bs0 (32 * x0 + y0)) c') = false := bd_f.mpr (fun ⟨k, _, e⟩ => z e.symm)
        rw [this]; rfl
    · have hk' : k < 1 := hk
      omega
    · intro k hk
      have hk' : k < 1 := hk
      rw [show k = 0 by omega, pk_uLs]; rfl
  | succ d ih =>
    intro c se e hs
    refine br_f (nI_ge (b := 1024) (by omega) (by omega)) ?_
    rw [nI_clamp (by omega), bs_v0]
    refine And.intro (vp_in_nI (by omega) (by omega)) (nm_e (nm_r (nI_1 c) (ih (c + 1) _ (by omega) ?_)))
    intro j hj
    by_cases z : j = c
    · rw [z, pk_us]
    · rw [pk_un z]; exact hs j (by omega)
theorem ysr_all {post : Int32 → SY → Prop} {κ x0 y0 : Nat} (ok : Ok a_arrows a_begins a_finals) (hκ : κ < 3) (hx0 : x0 < 32) (hy0 : y0 < 32) (bx : a_begins 0 = nI x0) (by0 : a_begins 1 = nI y0) (h : ∀ (od' se' : Nat → Int32) (wo' : Nat → Int64), RY (bsl (np a_arrows) (bk3 a_finals κ) 1024 (bs0 (32 * x0 + y0)) 0).1 od' se' wo' → post (if (bsl (np a_arrows) (bk3 a_finals κ) 1024 (bs0 (32 * x0 + y0)) 0).1.1 ≤ (bsl (np a_arrows) (bk3 a_finals κ) 1024 (bs0 (32 * x0 + y0)) 0).2 then -1 else nI (bsl (np a_arrows) (bk3 a_finals κ) 1024 (bs0 (32 * x0 + y0)) 0).2) (a_arrows, a_begins, a_finals, od', se', wo', y_apart)) : wpY_search post (a_arrows, a_begins, a_finals, y_order, y_seen, y_words, y_apart) (nI κ) := Exists.intro 1025 (ysr_2 ok hκ hx0 hy0 bx by0 h 1024 0 y_seen rfl (fun j hj => absurd hj (Nat.not_lt_zero j)))
/-- what the reference finds, in the languages -/
theorem ysr_lang {post : Int32 → SY → Prop} {κ : Nat} (ok : Ok a_arrows a_begins a_finals) (hκ : κ < 3) (P : List Bool → Prop) (hP : ∀ (w : List Bool) (p q : Bool), (p = true ↔ Lg a_arrows a_begins a_finals 0 w) → (q = true ↔ Lg a_arrows a_begins a_finals 1 w) → ((if κ = 2 then (p != q) else if κ = 0 then (q && !p) else (p && !q)) = false ↔ P w)) (h : ∀ (r : Int32) (od' se' : Nat → Int32) (wo' : Nat → Int64), (0 ≤ r ↔ ¬ ∀ w, P w) → post r (a_arrows, a_begins, a_finals, od', se', wo', y_apart)) : wpY_search post (a_arrows, a_begins, a_finals, y_order, y_seen, y_words, y_apart) (nI κ) := by
  obtain ⟨x0, hx0, bx⟩ := sm_nat (ok.2.1 0)
  obtain ⟨y0, hy0, by0⟩ := sm_nat (ok.2.1 1)
  have key := bsl_e (nx := np a_arrows) (bad := bk3 a_finals κ) (s0 := 32 * x0 + y0) (fun b c => (np_s ok.1 b c).1) (by omega)
  have hw : ∀ w, bk3 a_finals κ (rn (np a_arrows) (32 * x0 + y0) w) = false ↔ P w := by
    intro w
    obtain ⟨e, l0, l1⟩ := np_rn ok.1 hx0 hy0 w
    have q0 := (dl_r ok.1 0 w x0 hx0).2
    have q1 := (dl_r ok.1 1 w y0 hy0).2
    have := hP w (ef (a_finals 0) (rn (dl a_arrows 0) x0 w)) (ef (a_finals 1) (rn (dl a_arrows 1) y0 w)) (by unfold Lg ef; rw [bx, q0]) (by unfold Lg ef; rw [by0, q1])
    rw [← this, e]
    unfold bk3
    rw [show (32 * rn (dl a_arrows 0) x0 w + rn (dl a_arrows 1) y0 w) / 32 = rn (dl a_arrows 0) x0 w by omega, show (32 * rn (dl a_arrows 0) x0 w + rn (dl a_arrows 1) y0 w) % 32 = rn (dl a_arrows 1) y0 w by omega]
  refine ysr_all ok hκ hx0 hy0 bx by0 (fun od' se' wo' R => h _ od' se' wo' ?_)
  have hp := bsl_p (bad := bk3 a_finals κ) (nx := np a_arrows) (fun b c => (np_s ok.1 b c).1) 1024 (bs0 (32 * x0 + y0)) 0 rfl (Nat.zero_le _) (BF_0 (by omega)) (fun j hj => absurd hj (Nat.not_lt_zero j))
  by_cases z : (bsl (np a_arrows) (bk3 a_finals κ) 1024 (bs0 (32 * x0 + y0)) 0).1.1 ≤ (bsl (np a_arrows) (bk3 a_finals κ) 1024 (bs0 (32 * x0 + y0)) 0).2
  · rw [if_pos z]
    have := key.mp z
    exact ⟨fun q => absurd q (by decide), fun q => absurd (fun w => (hw w).mp (this w)) q⟩
  · rw [if_neg z]
    refine ⟨fun _ q => z (key.mpr (fun w => (hw w).mpr (q w))), fun _ => nI_pos' ?_⟩
    have := hp.2.1
    have := hp.1.2.1
    omega
end search
end
section
/-! one machine covers the other: pairs of a state and a set -/
/-- a pair with this state and a set within S is listed -/
def Cv (n : Nat) (pA pB : Nat → Int32) (s : Nat) (S : Int32) : Prop := ∃ k, k < n ∧ pA k = nI s ∧ ∀ t, bt (pB k) t = true → bt S t = true
def Ext (n : Nat) (pA pB : Nat → Int32) (n' : Nat) (pA' pB' : Nat → Int32) : Prop := n ≤ n' ∧ ∀ k, k < n → pA' k = pA k ∧ pB' k = pB k
theorem Ext_rf {n : Nat} {pA pB : Nat → Int32} : Ext n pA pB n pA pB := ⟨Nat.le_refl n, fun _ _ => ⟨rfl, rfl⟩⟩
theorem Ext_tr {n n' n2 : Nat} {pA pB pA' pB' pA2 pB2 : Nat → Int32} (h : Ext n pA pB n' pA' pB') (h' : Ext n' pA' pB' n2 pA2 pB2) : Ext n pA pB n2 pA2 pB2 :=
  ⟨Nat.le_trans h.1 h'.1, fun k hk => ⟨(h'.2 k (Nat.lt_of_lt_of_le hk h.1)).1.trans (h.2 k hk).1, (h'.2 k (Nat.lt_of_lt_of_le hk h.1)).2.trans (h.2 k hk).2⟩⟩
theorem Ext_Cv {n n' : Nat} {pA pB pA' pB' : Nat → Int32} (h : Ext n pA pB n' pA' pB') {s : Nat} {S : Int32} (hc : Cv n pA pB s S) : Cv n' pA' pB' s S := by
  obtain ⟨k, hk, e, hs⟩ := hc
  have := h.2 k hk
  exact ⟨k, Nat.lt_of_lt_of_le hk h.1, by rw [this.1]; exact e, by rw [this.2]; exact hs⟩
/-- listed pairs: by some word the one machine can be in the state, and the other is in the set; none is needless -/
def CI (a b : Nat → Int32) (m m' : Nat) (n : Nat) (pA pB : Nat → Int32) : Prop := (∀ k, k < n → ∃ s, s < 5 ∧ pA k = nI s ∧ sm (pB k) ∧ ∃ w, bt (rn (gs a m') (b m') w) s = true ∧ pB k = rn (gs a m) (b m) w) ∧ (∀ j k, j < k → k < n → pA j = pA k → ¬ ∀ t, bt (pB j) t = true → bt (pB k) t = true)
theorem CI_le {a b : Nat → Int32} {m m' n : Nat} {pA pB : Nat → Int32} (h : CI a b m m' n pA pB) : n ≤ 160 := by
  refine ph_rel (fun k c => pA k = nI (c / 32) ∧ pB k = nI (c % 32)) ?_ ?_
  · intro k hk
    obtain ⟨s, hs, e, hm, _⟩ := h.1 k hk
    obtain ⟨t, ht, et⟩ := sm_nat hm
    refine ⟨32 * s + t, by omega, ?_, ?_⟩
    · rw [show (32 * s + t) / 32 = s by omega]; exact e
    · rw [show (32 * s + t) % 32 = t by omega]; exact et
  · rintro j hj k hk c ⟨e1, e2⟩ ⟨e3, e4⟩
    rcases Nat.lt_trichotomy j k with z | z | z
    · exact absurd (by rw [e2, e4]; exact fun t h => h) (h.2 j k z hk (e1.trans e3.symm))
    · exact z
    · exact absurd (by rw [e2, e4]; exact fun t h => h) (h.2 k j z hj (e3.trans e1.symm))
theorem sub_z {x S : Int32} : x &&& (S ^^^ (-1)) = 0 ↔ ∀ t, bt x t = true → bt S t = true := by
  constructor
  · intro h t ht
    cases q : bt S t
    · exfalso
      have hlt : t < 32 := by
        rcases Nat.lt_or_ge t 32 with z | z
        · exact z
        · rw [b_big z] at ht; exact absurd ht (by decide)
      have : bt (x &&& (S ^^^ (-1))) t = true := by rw [b_and, cb_not _ hlt, ht, q]; rfl
      rw [h, b_0] at this
      exact absurd this (by decide)
    · rfl
  · intro h
    apply b_ext
    intro i hi
    rw [b_and, cb_not _ hi, b_0]
    cases q : bt x i
    · rfl
    · rw [h i q]; rfl
theorem gs_mono {a : Nat → Int32} {m : Nat} {b : Bool} {S T : Int32} (h : ∀ t, bt S t = true → bt T t = true) : ∀ t, bt (gs a m b S) t = true → bt (gs a m b T) t = true := by
  intro t ht
  obtain ⟨s, hs, h1, h2⟩ := (stp_b t).mp ht
  exact (stp_b t).mpr ⟨s, hs, h s h1, h2⟩
/-- a pair that is done -/
def Gd (a f : Nat → Int32) (m m' : Nat) (n : Nat) (pA pB : Nat → Int32) (k : Nat) : Prop := ∀ s, s < 5 → pA k = nI s → (bt (f m') s = true → ht (pB k) (f m) = true) ∧ ∀ (b : Bool) (t : Nat), bt (a (10 * m' + 2 * s + b.toNat)) t = true → Cv n pA pB t (gs a m b (pB k))
theorem Ext_Gd {a f : Nat → Int32} {m m' n n' k : Nat} {pA pB pA' pB' : Nat → Int32} (h : Ext n pA pB n' pA' pB') (hk : k < n) (g : Gd a f m m' n pA pB k) : Gd a f m m' n' pA' pB' k := by
  have e := h.2 k hk
  intro s hs q
  rw [e.1] at q
  have := g s hs q
  rw [e.2]
  exact ⟨this.1, fun b t ht => Ext_Cv h (this.2 b t ht)⟩
theorem Gd_all {a b f : Nat → Int32} {m m' n : Nat} {pA pB : Nat → Int32} (ha : ∀ i, sm (a i)) (hb : ∀ i, sm (b i)) (h0 : ∀ s, s < 5 → bt (b m') s = true → Cv n pA pB s (b m)) (hg : ∀ k, k < n → Gd a f m m' n pA pB k) : ∀ w, Lg a b f m' w → Lg a b f m w := by
  have key : ∀ (n' : Nat) (w : List Bool), w.length = n' → ∀ s, bt (rn (gs a m') (b m') w) s = true → Cv n pA pB s (rn (gs a m) (b m) w) := by
    intro n'
    induction n' with
    | zero =>
      intro w hw s hs
      rw [List.length_eq_zero_iff.mp hw] at hs ⊢
      exact h0 s (sm_bit (hb m') hs) hs
    | succ n' ih =>
      intro w hw s hs
      rcases List.eq_nil_or_concat w with q | ⟨w1, c, q⟩
      · rw [q] at hw; exact absurd hw (by simp)
      · rw [List.concat_eq_append] at q
        rw [q, List.length_append] at hw
        rw [q, rn_sn] at hs ⊢
        obtain ⟨s1, hs1, h1, h2⟩ := (stp_b s).mp hs
        obtain ⟨k, hk, e1, e2⟩ := ih w1 (by simpa using hw) s1 h1
        obtain ⟨k', hk', e3, e4⟩ := (hg k hk s1 hs1 e1).2 c s h2
        exact ⟨k', hk', e3, fun t ht => gs_mono e2 t (e4 t ht)⟩
  intro w hw
  obtain ⟨s, hs, h1, h2⟩ := ht_t.mp hw
  obtain ⟨k, hk, e1, e2⟩ := key w.length w rfl s h1
  have hs5 : s < 5 := by
    refine sm_bit ?_ h1
    exact rn_inv sm (fun c S _ => stp_sm ha m' c.toNat S) w (b m') (hb m')
  obtain ⟨t, ht, h3, h4⟩ := ht_t.mp ((hg k hk s hs5 e1).1 h2)
  exact ht_t.mpr ⟨t, ht, e2 t h3, h4⟩
section covers
variable {f_openStates f_openBegin f_openEnd f_plainCount f_classes f_listed : Int32} {a_arrows a_begins a_finals a_openTo a_plainSet a_plainEnd a_plainNext a_classOf a_newClass a_differs a_waits a_members a_sideNext a_sideEnd a_sideCount a_joined a_image a_pairA a_pairB a_pairFrom a_pairLetter a_seen a_words a_more : Nat → Int32}
variable {y_order y_seen y_apart : Nat → Int32} {y_words : Nat → Int64}
theorem nd_loop {post : Int32 → Prop} {n s : Nat} {S : Int32} (hn : n ≤ 1056) (h1 : Cv n a_pairA a_pairB s S → post 1) (h0 : ¬ Cv n a_pairA a_pairB s S → post 0) : ∀ d k, k + d = n → (∀ j, j < k → ¬ (a_pairA j = nI s ∧ ∀ t, bt (a_pairB j) t = true → bt S t = true)) → wX_isNeedless_2 post (nI s) S f_openStates f_openBegin f_openEnd f_plainCount f_classes (nI n) a_arrows a_begins a_finals a_openTo a_plainSet a_plainEnd a_plainNext a_classOf a_newClass a_differs a_waits a_members a_sideNext a_sideEnd a_sideCount a_joined a_image a_pairA a_pairB a_pairFrom a_pairLetter a_seen a_words a_more (d + 1) (nI k) := by
  intro d
  induction d with
  | zero =>
    intro k e hj
    have ek : k = n := by omega
    subst ek
    exact br_t (nI_le (Nat.le_refl k) (by omega)) (h0 (fun ⟨j, hj', q1, q2⟩ => hj j hj' ⟨q1, q2⟩))
  | succ d ih =>
    intro k e hj
    have vk : vp_in (nI k) 1056 := vp_in_nI (by omega) (by omega)
    refine br_f (nI_ge (by omega) (by omega)) ?_
    rw [nI_clamp (by omega)]
    refine And.intro vk (br_c (fun q => And.intro vk (br_c (fun y => h1 ⟨k, by omega, q, sub_z.mp y⟩) (fun y => nm_r (nI_1 k) (ih (k + 1) (by omega) ?_)))) (fun q => nm_r (nI_1 k) (ih (k + 1) (by omega) ?_)))
    · intro j hj'
      by_cases z : j = k
      · rw [z]; exact fun x => y (sub_z.mpr x.2)
      · exact hj j (by omega)
    · intro j hj'
      by_cases z : j = k
      · rw [z]; exact fun x => q x.1
      · exact hj j (by omega)
theorem lp_list {post : SX → Prop} {m m' n s : Nat} {S : Int32} {pA pB : Nat → Int32} (hs : s < 5) (hS : sm S) (hw : ∃ w, bt (rn (gs a_arrows m') (a_begins m') w) s = true ∧ S = rn (gs a_arrows m) (a_begins m) w) (I : CI a_arrows a_begins m m' n pA pB) (h : ∀ (n' : Nat) (pA' pB' : Nat → Int32), CI a_arrows a_begins m m' n' pA' pB' → Ext n pA pB n' pA' pB' → Cv n' pA' pB' s S → post (f_openStates, f_openBegin, f_openEnd, f_plainCount, f_classes, nI n', a_arrows, a_begins, a_finals, a_openTo, a_plainSet, a_plainEnd, a_plainNext, a_classOf, a_newClass, a_differs, a_waits, a_members, a_sideNext, a_sideEnd, a_sideCount, a_joined, a_image, pA', pB', a_pairFrom, a_pairLetter, a_seen, a_words, a_more)) : wpX_listPair post (f_openStates, f_openBegin, f_openEnd, f_plainCount, f_classes, nI n, a_arrows, a_begins, a_finals, a_openTo, a_plainSet, a_plainEnd, a_plainNext, a_classOf, a_newClass, a_differs, a_waits, a_members, a_sideNext, a_sideEnd, a_sideCount, a_joined, a_image, pA, pB, a_pairFrom, a_pairLetter, a_seen, a_words, a_more) (nI s) S := by
  have hn := CI_le I
  unfold wpX_listPair
  dsimp only
  refine Exists.intro (n + 1) (nd_loop (by omega) (fun hc => br_f bs_10 (h n pA pB I Ext_rf hc)) (fun hc => br_t rfl ?_) n 0 (by omega) (fun j hj => absurd hj (Nat.not_lt_zero j)))
  rw [nI_clamp (by omega), bs_w8 (by omega), sm_w8 hS]
  have vn : vp_in (nI n) 1056 := vp_in_nI (by omega) (by omega)
  refine And.intro vn (nm_e (And.intro vn (nm_e (nm_r (nI_1 n) (h (n + 1) _ _ ⟨?_, ?_⟩ ⟨Nat.le_succ n, fun k hk => ⟨pk_un (by omega), pk_un (by omega)⟩⟩ ⟨n, Nat.lt_succ_self n, pk_us, by rw [pk_us]; exact fun t ht => ht⟩)))))
  · intro k hk
    by_cases z : k = n
    · rw [z, pk_us, pk_us]; exact ⟨s, hs, rfl, hS, hw⟩
    · rw [pk_un z, pk_un z]; exact I.1 k (by omega)
  · intro j k hjk hk
    by_cases z : k = n
    · rw [z, pk_us, pk_us, pk_un (by omega), pk_un (by omega)]
      exact fun q1 q2 => hc ⟨j, by omega, q1, q2⟩
    · rw [pk_un z, pk_un z, pk_un (by omega), pk_un (by omega)]
      exact I.2 j k hjk (by omega)
theorem go_42 {post : SX → Prop} {J : Int32 → Int32 → Int32 → Int32 → Int32 → Int32 → Int32 → (Nat → Int32) → (Nat → Int32) → (Nat → Int32) → (Nat → Int32) → (Nat → Int32) → (Nat → Int32) → (Nat → Int32) → (Nat → Int32) → (Nat → Int32) → (Nat → Int32) → (Nat → Int32) → (Nat → Int32) → (Nat → Int32) → (Nat → Int32) → (Nat → Int32) → (Nat → Int32) → (Nat → Int32) → (Nat → Int32) → (Nat → Int32) → (Nat → Int32) → (Nat → Int32) → (Nat → Int32) → (Nat → Int32) → (Nat → Int32) → Prop} {x1 x2 x3 : Int32} {m m' l n0 : Nat} {S to : Int32} {pA0 pB0 : Nat → Int32} (hS : sm S) (hw : ∀ t, t < 5 → bt to t = true → ∃ w, bt (rn (gs a_arrows m') (a_begins m') w) t = true ∧ S = rn (gs a_arrows m) (a_begins m) w) (h : ∀ (n : Nat) (pA pB : Nat → Int32), CI a_arrows a_begins m m' n pA pB → Ext n0 pA0 pB0 n pA pB → (∀ t, t < 5 → bt to t = true → Cv n pA pB t S) → J (nI (l + 1)) f_openStates f_openBegin f_openEnd f_plainCount f_classes (nI n) a_arrows a_begins a_finals a_openTo a_plainSet a_plainEnd a_plainNext a_classOf a_newClass a_differs a_waits a_members a_sideNext a_sideEnd a_sideCount a_joined a_image pA pB a_pairFrom a_pairLetter a_seen a_words a_more) : ∀ d t (n : Nat) (pA pB : Nat → Int32), t + d = 5 → CI a_arrows a_begins m m' n pA pB → Ext n0 pA0 pB0 n pA pB → (∀ t', t' < t → bt to t' = true → Cv n pA pB t' S) → wX_goOn_42 post J x1 x2 x3 (nI l) S to (d + 1) (nI t) f_openStates f_openBegin f_openEnd f_plainCount f_classes (nI n) a_arrows a_begins a_finals a_openTo a_plainSet a_plainEnd a_plainNext a_classOf a_newClass a_differs a_waits a_members a_sideNext a_sideEnd a_sideCount a_joined a_image pA pB a_pairFrom a_pairLetter a_seen a_words a_more := by
  intro d
  induction d with
  | zero =>
    intro t n pA pB e I X hc
    rw [show t = 5 by omega] at hc ⊢
    exact br_t (by decide) (nm_r (nI_1 l) (h n pA pB I X hc))
  | succ d ih =>
    intro t n pA pB e I X hc
    refine br_f (lt5' t (by omega)) (cb_z (by omega) (fun q => nm_r (nI_1 t) (ih (t + 1) n pA pB (by omega) I X ?_)) (fun q => lp_list (by omega) hS (hw t (by omega) q) I (fun n' pA' pB' I' X' hc' => nm_r (nI_1 t) (ih (t + 1) n' pA' pB' (by omega) I' (Ext_tr X X') ?_))))
    · intro t' ht' hb
      by_cases z : t' = t
      · rw [z, q] at hb; exact absurd hb (by decide)
      · exact hc t' (by omega) hb
    · intro t' ht' hb
      by_cases z : t' = t
      · rw [z]; exact hc'
      · exact Ext_Cv X' (hc t' (by omega) hb)
theorem go_on {post : SX → Prop} {m m' n k s : Nat} {pA pB : Nat → Int32} (hm : m < 2) (hm' : m' < 2) (ha : ∀ i, sm (a_arrows i)) (I : CI a_arrows a_begins m m' n pA pB) (hk : k < n) (hs : s < 5) (es : pA k = nI s) (h : ∀ (n' : Nat) (pA' pB' : Nat → Int32), CI a_arrows a_begins m m' n' pA' pB' → Ext n pA pB n' pA' pB' → (∀ (b : Bool) (t : Nat), bt (a_arrows (10 * m' + 2 * s + b.toNat)) t = true → Cv n' pA' pB' t (gs a_arrows m b (pB k))) → post (f_openStates, f_openBegin, f_openEnd, f_plainCount, f_classes, nI n', a_arrows, a_begins, a_finals, a_openTo, a_plainSet, a_plainEnd, a_plainNext, a_classOf, a_newClass, a_differs, a_waits, a_members, a_sideNext, a_sideEnd, a_sideCount, a_joined, a_image, pA', pB', a_pairFrom, a_pairLetter, a_seen, a_words, a_more)) : wpX_goOn post (f_openStates, f_openBegin, f_openEnd, f_plainCount, f_classes, nI n, a_arrows, a_begins, a_finals, a_openTo, a_plainSet, a_plainEnd, a_plainNext, a_classOf, a_newClass, a_differs, a_waits, a_members, a_sideNext, a_sideEnd, a_sideCount, a_joined, a_image, pA, pB, a_pairFrom, a_pairLetter, a_seen, a_words, a_more) (nI k) (nI m') (nI m) := by
  have hn := CI_le I
  obtain ⟨s', hs', es', hsm, w, hw1, hw2⟩ := I.1 k hk
  have ess : s' = s := by
    have := es'.symm.trans es
    rwa [nI_eq (by omega) (by omega)] at this
  subst ess
  have wd : ∀ (b : Bool) (t : Nat), t < 5 → bt (a_arrows (10 * m' + 2 * s' + b.toNat)) t = true → ∃ w, bt (rn (gs a_arrows m') (a_begins m') w) t = true ∧ gs a_arrows m b (pB k) = rn (gs a_arrows m) (a_begins m) w := by
    intro b t _ hb
    exact ⟨w ++ [b], by rw [rn_sn]; exact (stp_b t).mpr ⟨s', hs', hw1, hb⟩, by rw [rn_sn, hw2]⟩
  have vk : vp_in (nI k) 1056 := vp_in_nI (by omega) (by omega)
  have one_l : ∀ (l : Nat) (b : Bool) (fu n1 : Nat) (pA1 pB1 : Nat → Int32), b.toNat = l → CI a_arrows a_begins m m' n1 pA1 pB1 → Ext n pA pB n1 pA1 pB1 → (∀ (n2 : Nat) (pA2 pB2 : Nat → Int32), CI a_arrows a_begins m m' n2 pA2 pB2 → Ext n1 pA1 pB1 n2 pA2 pB2 → (∀ t, t < 5 → bt (a_arrows (10 * m' + 2 * s' + b.toNat)) t = true → Cv n2 pA2 pB2 t (gs a_arrows m b (pB k))) → wX_goOn_3 post (nI k) (nI m') (nI m) fu (nI (l + 1)) f_openStates f_openBegin f_openEnd f_plainCount f_classes (nI n2) a_arrows a_begins a_finals a_openTo a_plainSet a_plainEnd a_plainNext a_classOf a_newClass a_differs a_waits a_members a_sideNext a_sideEnd a_sideCount a_joined a_image pA2 pB2 a_pairFrom a_pairLetter a_seen a_words a_more) → wX_goOn_3 post (nI k) (nI m') (nI m) (fu + 1) (nI l) f_openStates f_openBegin f_openEnd f_plainCount f_classes (nI n1) a_arrows a_begins a_finals a_openTo a_plainSet a_plainEnd a_plainNext a_classOf a_newClass a_differs a_waits a_members a_sideNext a_sideEnd a_sideCount a_joined a_image pA1 pB1 a_pairFrom a_pairLetter a_seen a_words a_more := by
    intro l b fu n1 pA1 pB1 hb I1 X1 hh
    have hl := tb_lt b
    rw [hb] at hl
    have e1 := X1.2 k hk
    refine br_f (nI_ge (b := 2) hl (by omega)) ?_
    rw [nI_clamp (by omega), e1.1, e1.2, es]
    have eS : stp a_arrows m l (pB k) = gs a_arrows m b (pB k) := by rw [← hb]; rfl
    refine And.intro vk (xs_step hm hl (And.intro vk (xa_of hm' hs hl ?_)))
    rw [eS]
    refine Exists.intro 6 (go_42 (stp_sm ha _ _ _) (fun t ht q => wd b t ht (by rw [hb]; exact q)) (fun n2 pA2 pB2 I2 X2 hc => hh n2 pA2 pB2 I2 X2 (fun t ht q => hc t ht (by rw [hb] at q; exact q))) 5 0 n1 pA1 pB1 rfl I1 Ext_rf (fun t' ht' => absurd ht' (Nat.not_lt_zero t')))
  refine Exists.intro 3 (one_l 0 false 2 n pA pB rfl I Ext_rf (fun n1 pA1 pB1 I1 X1 c1 => one_l 1 true 1 n1 pA1 pB1 rfl I1 X1 (fun n2 pA2 pB2 I2 X2 c2 => br_t (by decide) (h n2 pA2 pB2 I2 (Ext_tr X1 X2) ?_))))
  intro b t hb
  have ht5 : t < 5 := sm_bit (ha _) hb
  cases b
  · exact Ext_Cv X2 (c1 t ht5 hb)
  · exact c2 t ht5 hb
theorem ic_48 {post : Int32 → SX → Prop} {m m' : Nat} (hm : m < 2) (hm' : m' < 2) (ok : Ok a_arrows a_begins a_finals) (h1 : (∀ w, Lg a_arrows a_begins a_finals m' w → Lg a_arrows a_begins a_finals m w) → ∀ (n : Nat) (pA pB : Nat → Int32), post 1 (f_openStates, f_openBegin, f_openEnd, f_plainCount, f_classes, nI n, a_arrows, a_begins, a_finals, a_openTo, a_plainSet, a_plainEnd, a_plainNext, a_classOf, a_newClass, a_differs, a_waits, a_members, a_sideNext, a_sideEnd, a_sideCount, a_joined, a_image, pA, pB, a_pairFrom, a_pairLetter, a_seen, a_words, a_more)) (h0 : (¬ ∀ w, Lg a_arrows a_begins a_finals m' w → Lg a_arrows a_begins a_finals m w) → ∀ (n : Nat) (pA pB : Nat → Int32), post 0 (f_openStates, f_openBegin, f_openEnd, f_plainCount, f_classes, nI n, a_arrows, a_begins, a_finals, a_openTo, a_plainSet, a_plainEnd, a_plainNext, a_classOf, a_newClass, a_differs, a_waits, a_members, a_sideNext, a_sideEnd, a_sideCount, a_joined, a_image, pA, pB, a_pairFrom, a_pairLetter, a_seen, a_words, a_more)) : ∀ d k (n : Nat) (pA pB : Nat → Int32), k + d = 160 → k ≤ n → CI a_arrows a_begins m m' n pA pB → (∀ s, s < 5 → bt (a_begins m') s = true → Cv n pA pB s (a_begins m)) → (∀ j, j < k → Gd a_arrows a_finals m m' n pA pB j) → wX_isCovered_48 post (nI m) (nI m') (d + 1) (nI k) f_openStates f_openBegin f_openEnd f_plainCount f_classes (nI n) a_arrows a_begins a_finals a_openTo a_plainSet a_plainEnd a_plainNext a_classOf a_newClass a_differs a_waits a_members a_sideNext a_sideEnd a_sideCount a_joined a_image pA pB a_pairFrom a_pairLetter a_seen a_words a_more := by
  have stop : ∀ k (n : Nat) (pA pB : Nat → Int32), n ≤ k → (∀ s, s < 5 → bt (a_begins m') s = true → Cv n pA pB s (a_begins m)) → (∀ j, j < k → Gd a_arrows a_finals m m' n pA pB j) → post 1 (f_openStates, f_openBegin, f_openEnd, f_plainCount, f_classes, nI n, a_arrows, a_begins, a_finals, a_openTo, a_plainSet, a_plainEnd, a_plainNext, a_classOf, a_newClass, a_differs, a_waits, a_members, a_sideNext, a_sideEnd, a_sideCount, a_joined, a_image, pA, pB, a_pairFrom, a_pairLetter, a_seen, a_words, a_more) := by
    intro k n pA pB hk hb hg
    exact h1 (Gd_all ok.1 ok.2.1 hb (fun j hj => hg j (by omega))) n pA pB
  intro d
  induction d with
  | zero =>
    intro k n pA pB e hk I hb hg
    have hn := CI_le I
    exact br_t (nI_le (by omega) (by omega)) (stop k n pA pB (by omega) hb hg)
  | succ d ih =>
    intro k n pA pB e hk I hb hg
    have hn := CI_le I
    rcases Nat.lt_or_ge k n with z | z
    · obtain ⟨s, hs, es, hsm, w, hw1, hw2⟩ := I.1 k z
      have vk : vp_in (nI k) 1056 := vp_in_nI (by omega) (by omega)
      have go : (bt (a_finals m') s = true → ht (pB k) (a_finals m) = true) → wX_isCovered_104 post (wX_isCovered_48 post (nI m) (nI m') (d + 1)) (nI m) (nI m') (nI k) f_openStates f_openBegin f_openEnd f_plainCount f_classes (nI n) a_arrows a_begins a_finals a_openTo a_plainSet a_plainEnd a_plainNext a_classOf a_newClass a_differs a_waits a_members a_sideNext a_sideEnd a_sideCount a_joined a_image pA pB a_pairFrom a_pairLetter a_seen a_words a_more := by
        intro q
        refine go_on hm hm' ok.1 I z hs es (fun n' pA' pB' I' X' hc => nm_r (nI_1 k) (ih (k + 1) n' pA' pB' (by omega) (by have := X'.1; omega) I' (fun s hs hq => Ext_Cv X' (hb s hs hq)) ?_))
        intro j hj
        by_cases y : j = k
        · subst y
          have ej := X'.2 j z
          intro s2 hs2 e2
          rw [ej.1, es, nI_eq (by omega) (by omega)] at e2
          subst e2
          rw [ej.2]
          exact ⟨q, hc⟩
        · exact Ext_Gd X' (by omega) (hg j (by omega))
      refine br_f (nI_ge (by omega) (by omega)) ?_
      rw [nI_clamp (by omega : m' < 2 ^ 31), nI_clamp (by omega : k < 2 ^ 31), es]
      refine And.intro (vp_in_nI hm' (by omega)) (And.intro vk (cb_z (by omega) (fun q => br_t rfl (go (fun y => by rw [q] at y; exact absurd y (by decide)))) (fun q => br_f bs_10 ?_)))
      rw [nI_clamp (by omega : m < 2 ^ 31), nI_clamp (by omega : k < 2 ^ 31)]
      refine And.intro vk (And.intro (vp_in_nI hm (by omega)) (ht_z (fun y => h0 (fun hL => ?_) n pA pB) (fun y => go (fun _ => y))))
      have := hL w (ht_t.mpr ⟨s, by omega, hw1, q⟩)
      unfold Lg at this
      rw [← hw2, y] at this
      exact absurd this (by decide)
    · exact br_t (nI_le z (by omega)) (stop k n pA pB z hb hg)
theorem ic_11 {post : Int32 → SX → Prop} {m m' : Nat} (hm : m < 2) (hm' : m' < 2) (ok : Ok a_arrows a_begins a_finals) (h1 : (∀ w, Lg a_arrows a_begins a_finals m' w → Lg a_arrows a_begins a_finals m w) → ∀ (n : Nat) (pA pB : Nat → Int32), post 1 (f_openStates, f_openBegin, f_openEnd, f_plainCount, f_classes, nI n, a_arrows, a_begins, a_finals, a_openTo, a_plainSet, a_plainEnd, a_plainNext, a_classOf, a_newClass, a_differs, a_waits, a_members, a_sideNext, a_sideEnd, a_sideCount, a_joined, a_image, pA, pB, a_pairFrom, a_pairLetter, a_seen, a_words, a_more)) (h0 : (¬ ∀ w, Lg a_arrows a_begins a_finals m' w → Lg a_arrows a_begins a_finals m w) → ∀ (n : Nat) (pA pB : Nat → Int32), post 0 (f_openStates, f_openBegin, f_openEnd, f_plainCount, f_classes, nI n, a_arrows, a_begins, a_finals, a_openTo, a_plainSet, a_plainEnd, a_plainNext, a_classOf, a_newClass, a_differs, a_waits, a_members, a_sideNext, a_sideEnd, a_sideCount, a_joined, a_image, pA, pB, a_pairFrom, a_pairLetter, a_seen, a_words, a_more)) : ∀ d s (n : Nat) (pA pB : Nat → Int32), s + d = 5 → CI a_arrows a_begins m m' n pA pB → (∀ t, t < s → bt (a_begins m') t = true → Cv n pA pB t (a_begins m)) → wX_isCovered_11 post (nI m) (nI m') (d + 1) (nI s) f_openStates f_openBegin f_openEnd f_plainCount f_classes (nI n) a_arrows a_begins a_finals a_openTo a_plainSet a_plainEnd a_plainNext a_classOf a_newClass a_differs a_waits a_members a_sideNext a_sideEnd a_sideCount a_joined a_image pA pB a_pairFrom a_pairLetter a_seen a_words a_more := by
  intro d
  induction d with
  | zero =>
    intro s n pA pB e I hc
    rw [show s = 5 by omega] at hc ⊢
    exact br_t (by decide) (Exists.intro 161 (ic_48 hm hm' ok h1 h0 160 0 n pA pB rfl (Nat.zero_le _) I hc (fun j hj => absurd hj (Nat.not_lt_zero j))))
  | succ d ih =>
    intro s n pA pB e I hc
    refine br_f (lt5' s (by omega)) ?_
    rw [nI_clamp (by omega : m' < 2 ^ 31), nI_clamp (by omega : m < 2 ^ 31)]
    refine And.intro (vp_in_nI hm' (by omega)) (cb_z (by omega) (fun q => nm_r (nI_1 s) (ih (s + 1) n pA pB (by omega) I ?_)) (fun q => And.intro (vp_in_nI hm (by omega)) (lp_list (by omega) (ok.2.1 m) ⟨[], q, rfl⟩ I (fun n' pA' pB' I' X' hc' => nm_r (nI_1 s) (ih (s + 1) n' pA' pB' (by omega) I' ?_)))))
    · intro t ht hb
      by_cases z : t = s
      · rw [z, q] at hb; exact absurd hb (by decide)
      · exact hc t (by omega) hb
    · intro t ht hb
      by_cases z : t = s
      · rw [z]; exact hc'
      · exact Ext_Cv X' (hc t (by omega) hb)
theorem ic_all {post : Int32 → SX → Prop} {m : Nat} (hm : m < 2) (ok : Ok a_arrows a_begins a_finals) (h1 : (∀ w, Lg a_arrows a_begins a_finals (1 - m) w → Lg a_arrows a_begins a_finals m w) → ∀ (n : Nat) (pA pB : Nat → Int32), post 1 (f_openStates, f_openBegin, f_openEnd, f_plainCount, f_classes, nI n, a_arrows, a_begins, a_finals, a_openTo, a_plainSet, a_plainEnd, a_plainNext, a_classOf, a_newClass, a_differs, a_waits, a_members, a_sideNext, a_sideEnd, a_sideCount, a_joined, a_image, pA, pB, a_pairFrom, a_pairLetter, a_seen, a_words, a_more)) (h0 : (¬ ∀ w, Lg a_arrows a_begins a_finals (1 - m) w → Lg a_arrows a_begins a_finals m w) → ∀ (n : Nat) (pA pB : Nat → Int32), post 0 (f_openStates, f_openBegin, f_openEnd, f_plainCount, f_classes, nI n, a_arrows, a_begins, a_finals, a_openTo, a_plainSet, a_plainEnd, a_plainNext, a_classOf, a_newClass, a_differs, a_waits, a_members, a_sideNext, a_sideEnd, a_sideCount, a_joined, a_image, pA, pB, a_pairFrom, a_pairLetter, a_seen, a_words, a_more)) : wpX_isCovered post (f_openStates, f_openBegin, f_openEnd, f_plainCount, f_classes, f_listed, a_arrows, a_begins, a_finals, a_openTo, a_plainSet, a_plainEnd, a_plainNext, a_classOf, a_newClass, a_differs, a_waits, a_members, a_sideNext, a_sideEnd, a_sideCount, a_joined, a_image, a_pairA, a_pairB, a_pairFrom, a_pairLetter, a_seen, a_words, a_more) (nI m) := by
  have e1 : (1 : Int32) - nI m = nI (1 - m) := pk_sub (a := 1) (by omega)
  unfold wpX_isCovered
  dsimp only
  refine nm_r e1 (Exists.intro 6 (ic_11 hm (by omega) ok h1 h0 5 0 0 a_pairA a_pairB rfl ⟨fun k hk => absurd hk (Nat.not_lt_zero k), fun j k _ hk => absurd hk (Nat.not_lt_zero k)⟩ (fun t ht => absurd ht (Nat.not_lt_zero t))))
theorem i_vc_covers {k : Nat} {u : SX} {v : SY} (I : i_Rel k u v) (hk : k + 5 ≤ 2560) (v1 : Int32) : wpX_covers (fun r u' => wpY_covers (fun r' v' => r' = r ∧ i_Rel (k + 5) u' v') v v1) u v1 := by
  refine rel_el (P := fun u v => wpX_covers (fun r u' => wpY_covers (fun r' v' => r' = r ∧ i_Rel (k + 5) u' v') v v1) u v1) ?_ I
  intro f_openStates f_openBegin f_openEnd f_plainCount f_classes f_listed a_arrows a_begins a_finals a_openTo a_plainSet a_plainEnd a_plainNext a_classOf a_newClass a_differs a_waits a_members a_sideNext a_sideEnd a_sideCount a_joined a_image a_pairA a_pairB a_pairFrom a_pairLetter a_seen a_words a_more y_order y_seen y_words y_apart ok
  unfold wpX_covers
  dsimp only
  rcases ma_c v1 with ⟨m, hm, rfl⟩ | hm
  · have hP : ∀ (w : List Bool) (p q : Bool), (p = true ↔ Lg a_arrows a_begins a_finals 0 w) → (q = true ↔ Lg a_arrows a_begins a_finals 1 w) → ((if m = 2 then (p != q) else if m = 0 then (q && !p) else (p && !q)) = false ↔ (Lg a_arrows a_begins a_finals (1 - m) w → Lg a_arrows a_begins a_finals m w)) := by
      intro w p q hp hq
      rw [if_neg (by omega)]
      rcases Nat.lt_or_ge m 1 with z | z
      · have : m = 0 := by omega
        subst this
        rw [if_pos rfl, ← hp]
        show _ ↔ (Lg a_arrows a_begins a_finals 1 w → _)
        rw [← hq]
        cases p <;> cases q <;> decide
      · have : m = 1 := by omega
        subst this
        rw [if_neg (by decide), ← hq]
        show _ ↔ (Lg a_arrows a_begins a_finals 0 w → _)
        rw [← hp]
        cases p <;> cases q <;> decide
    refine ma_Xt hm (br_f bs_10 (ic_all hm ok (fun hL n pA pB => br_f bs_10 ?_) (fun hL n pA pB => br_t rfl ?_)))
    · unfold wpY_covers
      dsimp only
      refine ma_Yt hm (br_f bs_10 (ysr_lang ok (by omega) _ hP (fun r od se wo hr => br_f (fun z => hr.mp z hL) (And.intro rfl (rel_i ok)))))
    · unfold wpY_covers
      dsimp only
      refine ma_Yt hm (br_f bs_10 (ysr_lang ok (by omega) _ hP (fun r od se wo hr => br_t (hr.mpr hL) (And.intro rfl (rel_i ok)))))
  · refine ma_Xf hm (br_t rfl ?_)
    unfold wpY_covers
    dsimp only
    exact ma_Yf hm (br_t rfl (And.intro rfl (rel_i ok)))
end covers
end
section
/-! two plain machines next to each other -/
/-- the arrays hold machine m, its states from 32 m on -/
def SD (m N : Nat) (nx : Bool → Nat → Nat) (en : Nat → Bool) (se sn : Nat → Int32) : Prop := (∀ i, i < N → se (32 * m + i) = bi (en i)) ∧ (∀ i, i < N → ∀ b : Bool, sn (2 * (32 * m + i) + b.toNat) = nI (32 * m + nx b i))
/-- both together: states V, letters gx, ends ge -/
def GS (V : Nat → Prop) (gx : Bool → Nat → Nat) (ge : Nat → Bool) (se sn : Nat → Int32) : Prop := ∀ x, V x → x < 64 ∧ se x = bi (ge x) ∧ ∀ b : Bool, sn (2 * x + b.toNat) = nI (gx b x) ∧ V (gx b x)
def g2x (nx0 nx1 : Bool → Nat → Nat) (b : Bool) (x : Nat) : Nat := if x < 32 then nx0 b x else 32 + nx1 b (x - 32)
def g2e (en0 en1 : Nat → Bool) (x : Nat) : Bool := if x < 32 then en0 x else en1 (x - 32)
def g2v (N0 N1 : Nat) (x : Nat) : Prop := x < N0 ∨ (32 ≤ x ∧ x < 32 + N1)
theorem GS_mk {N0 N1 : Nat} {nx0 nx1 : Bool → Nat → Nat} {en0 en1 : Nat → Bool} {se sn : Nat → Int32} (h0 : N0 ≤ 32) (h1 : N1 ≤ 32) (n0 : ∀ i, i < N0 → ∀ b, nx0 b i < N0) (n1 : ∀ i, i < N1 → ∀ b, nx1 b i < N1) (s0 : SD 0 N0 nx0 en0 se sn) (s1 : SD 1 N1 nx1 en1 se sn) : GS (g2v N0 N1) (g2x nx0 nx1) (g2e en0 en1) se sn := by
  rintro x (hx | ⟨hx, hx'⟩)
  · have e1 := s0.1 x hx
    have e2 := s0.2 x hx
    rw [show 32 * 0 + x = x by omega] at e1 e2
    refine ⟨by omega, ?_, fun b => ⟨?_, ?_⟩⟩
    · unfold g2e; rw [if_pos (by omega)]; exact e1
    · unfold g2x; rw [if_pos (by omega), e2 b]; exact congrArg nI (by omega)
    · unfold g2x; rw [if_pos (by omega)]; exact Or.inl (n0 x hx b)
  · have e1 := s1.1 (x - 32) (by omega)
    have e2 := s1.2 (x - 32) (by omega)
    rw [show 32 * 1 + (x - 32) = x by omega] at e1 e2
    refine ⟨by omega, ?_, fun b => ⟨?_, ?_⟩⟩
    · unfold g2e; rw [if_neg (by omega)]; exact e1
    · unfold g2x; rw [if_neg (by omega), e2 b]
    · have := n1 (x - 32) (by omega) b
      unfold g2x; rw [if_neg (by omega)]; exact Or.inr (by omega)
theorem g2_r {N0 N1 : Nat} {nx0 nx1 : Bool → Nat → Nat} (h0 : N0 ≤ 32) (n0 : ∀ i, i < N0 → ∀ b, nx0 b i < N0) (p0 : 0 < N0) (w : List Bool) : rn (g2x nx0 nx1) 0 w = rn nx0 0 w ∧ rn (g2x nx0 nx1) 32 w = 32 + rn nx1 0 w := by
  constructor
  · have := rn_rel (δ := g2x nx0 nx1) (ε := nx0) (fun x i => x = i ∧ i < N0) (by
      rintro b x i ⟨rfl, hi⟩
      refine ⟨?_, n0 x hi b⟩
      unfold g2x; rw [if_pos (by omega)]) w 0 0 ⟨rfl, p0⟩
    exact this.1
  · exact rn_rel (δ := g2x nx0 nx1) (ε := nx1) (fun x i => x = 32 + i) (by
      rintro b x i rfl
      unfold g2x; rw [if_neg (by omega), Nat.add_sub_cancel_left]) w 32 0 rfl
theorem g2_L {L0 L1 : List Bool → Prop} {N0 N1 : Nat} {nx0 nx1 : Bool → Nat → Nat} {en0 en1 : Nat → Bool} (h0 : N0 ≤ 32) (P0 : PD L0 N0 nx0 en0) (P1 : PD L1 N1 nx1 en1) (w : List Bool) : (L0 w ↔ g2e en0 en1 (rn (g2x nx0 nx1) 0 w) = true) ∧ (L1 w ↔ g2e en0 en1 (rn (g2x nx0 nx1) 32 w) = true) := by
  obtain ⟨e0, e1⟩ := g2_r (N1 := N1) (nx1 := nx1) h0 P0.2.1 P0.1 w
  rw [e0, e1]
  constructor
  · have := PD_lt P0 w P0.1
    unfold g2e; rw [if_pos (by omega)]; exact P0.2.2.1 w
  · unfold g2e; rw [if_neg (by omega), Nat.add_sub_cancel_left]; exact P1.2.2.1 w
section aside
variable {f_openStates f_openBegin f_openEnd f_plainCount f_classes f_listed : Int32} {a_arrows a_begins a_finals a_openTo a_plainSet a_plainEnd a_plainNext a_classOf a_newClass a_differs a_waits a_members a_sideNext a_sideEnd a_sideCount a_joined a_image a_pairA a_pairB a_pairFrom a_pairLetter a_seen a_words a_more : Nat → Int32}
theorem as_22 {post : SX → Prop} {m N : Nat} {nx : Bool → Nat → Nat} {en : Nat → Bool} {se0 sn0 : Nat → Int32} (hm : m < 2) (hN : N ≤ 32) (hn : ∀ i, i < N → ∀ b, nx b i < N) (T : Tb N nx en a_plainEnd a_plainNext) (h : ∀ se sn : Nat → Int32, SD m N nx en se sn → (∀ j, (j < 32 * m ∨ 32 * m + 32 ≤ j) → se j = se0 j) → (∀ j, (j < 64 * m ∨ 64 * m + 64 ≤ j) → sn j = sn0 j) → post (f_openStates, f_openBegin, f_openEnd, nI N, f_classes, f_listed, a_arrows, a_begins, a_finals, a_openTo, a_plainSet, a_plainEnd, a_plainNext, a_classOf, a_newClass, a_differs, a_waits, a_members, sn, se, a_sideCount, a_joined, a_image, a_pairA, a_pairB, a_pairFrom, a_pairLetter, a_seen, a_words, a_more)) : ∀ d i (se sn : Nat → Int32), i + d = N → SD m i nx en se sn → (∀ j, (j < 32 * m ∨ 32 * m + 32 ≤ j) → se j = se0 j) → (∀ j, (j < 64 * m ∨ 64 * m + 64 ≤ j) → sn j = sn0 j) → wX_putAside_22 post (nI m) f_openStates f_openBegin f_openEnd (nI N) f_classes f_listed (d + 1) (nI i) a_arrows a_begins a_finals a_openTo a_plainSet a_plainEnd a_plainNext a_classOf a_newClass a_differs a_waits a_members sn se a_sideCount a_joined a_image a_pairA a_pairB a_pairFrom a_pairLetter a_seen a_words a_more := by
  intro d
  induction d with
  | zero =>
    intro i se sn e hS h1 h2
    have ei : i = N := by omega
    subst ei
    exact br_t (nI_le (Nat.le_refl i) (by omega)) (h se sn hS h1 h2)
  | succ d ih =>
    intro i se sn e hS h1 h2
    have e32 : nI m * 32 + nI i = nI (32 * m + i) := by
      show nI m * nI 32 + nI i = _
      rw [pk_mul, nI_add]; exact congrArg nI (by omega)
    have e32' : ∀ x, nI m * 32 + nI x = nI (32 * m + x) := by
      intro x
      show nI m * nI 32 + nI x = _
      rw [pk_mul, nI_add]; exact congrArg nI (by omega)
    have n0 := hn i (by omega) false
    have n1 := hn i (by omega) true
    refine br_f (nI_ge (by omega) (by omega)) ?_
    rw [e32, m2, m2, nI_1 (2 * i), nI_1 (2 * (32 * m + i)), nI_clamp (by omega : i < 2 ^ 31), nI_clamp (by omega : 32 * m + i < 2 ^ 31), nI_clamp (by omega : 2 * i < 2 ^ 31), nI_clamp (by omega : 2 * (32 * m + i) < 2 ^ 31), nI_clamp (by omega : 2 * i + 1 < 2 ^ 31), nI_clamp (by omega : 2 * (32 * m + i) + 1 < 2 ^ 31), T.1 i (by omega), Tb_0 T (by omega), Tb_1 T (by omega), e32', e32', bi_v, bs_w8 (by omega), bs_w8 (by omega)]
    refine And.intro (vp_in_nI (by omega) (by omega)) (And.intro (vp_in_nI (by omega) (by omega)) (nm_e (And.intro (vp_in_nI (by omega) (by omega)) (And.intro (vp_in_nI (by omega) (by omega)) (nm_e (And.intro (vp_in_nI (by omega) (by omega)) (And.intro (vp_in_nI (by omega) (by omega)) (nm_e (nm_r (nI_1 i) (ih (i + 1) _ _ (by omega) ⟨?_, ?_⟩ ?_ ?_))))))))))
    · intro j hj
      by_cases z : j = i
      · rw [z, pk_us]
      · rw [pk_un (by omega)]; exact hS.1 j (by omega)
    · intro j hj b
      have hb := tb_lt b
      by_cases z : j = i
      · subst z
        cases b
        · show upd (upd sn (2 * (32 * m + j)) _) (2 * (32 * m + j) + 1) _ (2 * (32 * m + j) + 0) = _
          rw [pk_un (by omega)]
          exact pk_us
        · exact pk_us
      · rw [pk_un (by omega), pk_un (by omega)]; exact hS.2 j (by omega) b
    · intro j hj
      rw [pk_un (by omega)]; exact h1 j hj
    · intro j hj
      rw [pk_un (by omega), pk_un (by omega)]; exact h2 j hj
theorem as_put {post : SX → Prop} {m : Nat} (hm : m < 2) (ok : Ok a_arrows a_begins a_finals) (h : ∀ (o : Nat → Int32) (N : Nat) (ps pe pn : Nat → Int32) (nx : Bool → Nat → Nat) (en : Nat → Bool) (se sn sc : Nat → Int32), N ≤ 32 → PD (Lg a_arrows a_begins a_finals m) N nx en → PS (gs a_arrows m) (a_begins m) (a_finals m) N nx en ps → SD m N nx en se sn → (∀ j, (j < 32 * m ∨ 32 * m + 32 ≤ j) → se j = a_sideEnd j) → (∀ j, (j < 64 * m ∨ 64 * m + 64 ≤ j) → sn j = a_sideNext j) → post (nI 5, a_begins m, a_finals m, nI N, f_classes, f_listed, a_arrows, a_begins, a_finals, o, ps, pe, pn, a_classOf, a_newClass, a_differs, a_waits, a_members, sn, se, sc, a_joined, a_image, a_pairA, a_pairB, a_pairFrom, a_pairLetter, a_seen, a_words, a_more)) : wpX_putAside post (f_openStates, f_openBegin, f_openEnd, f_plainCount, f_classes, f_listed, a_arrows, a_begins, a_finals, a_openTo, a_plainSet, a_plainEnd, a_plainNext, a_classOf, a_newClass, a_differs, a_waits, a_members, a_sideNext, a_sideEnd, a_sideCount, a_joined, a_image, a_pairA, a_pairB, a_pairFrom, a_pairLetter, a_seen, a_words, a_more) (nI m) := by
  unfold wpX_putAside
  dsimp only
  refine ld_load hm (fun o ho => lm_plain ok ho (fun N ps pe pn nx en hN hP T P => ?_))
  dsimp only
  refine And.intro (vp_in_nI hm (by omega)) (nm_e (Exists.intro (N + 1) (as_22 hm hN hP.2.1 T (fun se sn hS h1 h2 => h o N ps pe pn nx en se sn _ hN hP P hS h1 h2) N 0 a_sideEnd a_sideNext (by omega) ⟨fun i hi => absurd hi (Nat.not_lt_zero i), fun i hi => absurd hi (Nat.not_lt_zero i)⟩ (fun j _ => rfl) (fun j _ => rfl))))
/-- both machines aside -/
theorem as_G {N0 N1 : Nat} {nx0 nx1 : Bool → Nat → Nat} {en0 en1 : Nat → Bool} {se0 sn0 se sn : Nat → Int32} (h0 : N0 ≤ 32) (h1 : N1 ≤ 32) (n0 : ∀ i, i < N0 → ∀ b, nx0 b i < N0) (n1 : ∀ i, i < N1 → ∀ b, nx1 b i < N1) (D0 : SD 0 N0 nx0 en0 se0 sn0) (D1 : SD 1 N1 nx1 en1 se sn) (k3 : ∀ j, (j < 32 * 1 ∨ 32 * 1 + 32 ≤ j) → se j = se0 j) (k4 : ∀ j, (j < 64 * 1 ∨ 64 * 1 + 64 ≤ j) → sn j = sn0 j) : GS (g2v N0 N1) (g2x nx0 nx1) (g2e en0 en1) se sn := by
  refine GS_mk h0 h1 n0 n1 ⟨?_, ?_⟩ D1
  · intro i hi
    rw [k3 _ (Or.inl (by omega))]; exact D0.1 i hi
  · intro i hi b
    have := tb_lt b
    rw [k4 _ (Or.inl (by omega))]; exact D0.2 i hi b
end aside
end
section
/-! equal, by joining -/
/-- p: where each is joined to; R: its root; h: a height -/
def UF (p R h : Nat → Nat) : Prop := ∀ x, x < 64 → p x < 64 ∧ (p x = x ∨ h (p x) < h x) ∧ R x < 64 ∧ p (R x) = R x ∧ R (p x) = R x ∧ (p x = x → R x = x)
theorem UF_join {p R h : Nat → Nat} (U : UF p R h) {x y : Nat} (hx : x < 64) (hy : y < 64) (px : p x = x) (py : p y = y) (hxy : x ≠ y) : UF (fun z => if z = x then y else p z) (fun z => if R z = x then y else R z) (fun z => if R z = x then h z + h y + 1 else h z) := by
  have Rx : R x = x := (U x hx).2.2.2.2.2 px
  have Ry : R y = y := (U y hy).2.2.2.2.2 py
  intro z hz
  obtain ⟨u1, u2, u3, u4, u5, u6⟩ := U z hz
  show (if z = x then y else p z) < 64 ∧ ((if z = x then y else p z) = z ∨ (if R (if z = x then y else p z) = x then h (if z = x then y else p z) + h y + 1 else h (if z = x then y else p z)) < (if R z = x then h z + h y + 1 else h z)) ∧ (if R z = x then y else R z) < 64 ∧ (if (if R z = x then y else R z) = x then y else p (if R z = x then y else R z)) = (if R z = x then y else R z) ∧ (if R (if z = x then y else p z) = x then y else R (if z = x then y else p z)) = (if R z = x then y else R z) ∧ ((if z = x then y else p z) = z → (if R z = x then y else R z) = z)
  by_cases e : z = x
  · subst e
    have cR : (if R z = z then y else R z) = y := if_pos Rx
    rw [if_pos rfl, cR]
    refine ⟨hy, Or.inr ?_, hy, ?_, ?_, fun q => ?_⟩
    · rw [if_neg (by rw [Ry]; exact fun q => hxy q.symm), if_pos Rx]; omega
    · rw [if_neg (fun q => hxy q.symm)]; exact py
    · rw [if_neg (by rw [Ry]; exact fun q => hxy q.symm)]; exact Ry
    · exact q
  · rw [if_neg e]
    refine ⟨u1, ?_, ?_, ?_, ?_, ?_⟩
    · rcases u2 with q | q
      · exact Or.inl q
      · right
        rw [u5]
        by_cases f : R z = x
        · rw [if_pos f, if_pos f]; omega
        · rw [if_neg f, if_neg f]; exact q
    · by_cases f : R z = x
      · rw [if_pos f]; exact hy
      · rw [if_neg f]; exact u3
    · by_cases f : R z = x
      · rw [if_pos f, if_neg (fun q => hxy q.symm)]; exact py
      · rw [if_neg f, if_neg f]; exact u4
    · rw [u5]
    · intro q
      have := u6 q
      rw [if_neg (by rw [this]; exact e)]; exact this
def JI (gx : Bool → Nat → Nat) (n : Nat) (A B p R h : Nat → Nat) : Prop :=
  UF p R h ∧ cn (fun z => decide (p z = z)) 64 + n = 64 ∧ 0 < n ∧ (∀ k, k < n → ∃ w, A k = rn gx 0 w ∧ B k = rn gx 32 w) ∧ (∀ k, k < n → R (A k) = R (B k)) ∧ (A 0 = 0 ∧ B 0 = 32) ∧ (∀ Q : Nat → Nat → Prop, (∀ x, Q x x) → (∀ x y, Q x y → Q y x) → (∀ x y z, Q x y → Q y z → Q x z) → (∀ k, k < n → Q (A k) (B k)) → ∀ x, x < 64 → ∀ y, y < 64 → R x = R y → Q x y)
theorem JI_join {gx : Bool → Nat → Nat} {n : Nat} {A B p R h : Nat → Nat} (J : JI gx n A B p R h) {a b : Nat} (ha : a < 64) (hb : b < 64) (hw : ∃ w, a = rn gx 0 w ∧ b = rn gx 32 w) (hne : R a ≠ R b) : JI gx (n + 1) (fun k => if k = n then a else A k) (fun k => if k = n then b else B k) (fun z => if z = R a then R b else p z) (fun z => if R z = R a then R b else R z) (fun z => if R z = R a then h z + h (R b) + 1 else h z) := by
  obtain ⟨U, j2, j3, j4, j5, j6, j7⟩ := J
  have ua := U a ha
  have ub := U b hb
  have Rb : R (R b) = R b := (U (R b) ub.2.2.1).2.2.2.2.2 ub.2.2.2.1
  refine ⟨UF_join U ua.2.2.1 ub.2.2.1 ua.2.2.2.1 ub.2.2.2.1 hne, ?_, by omega, ?_, ?_, ?_, ?_⟩
  · have := cn_set (p := fun z => decide ((if z = R a then R b else p z) = z)) (q := fun z => decide (p z = z)) (k := R a) 64 ua.2.2.1 (by
      show decide ((if R a = R a then R b else p (R a)) = R a) = false
      rw [if_pos rfl]; exact decide_eq_false (fun q => hne q.symm)) (decide_eq_true ua.2.2.2.1) (by
      intro i hi
      show decide (p i = i) = decide ((if i = R a then R b else p i) = i)
      rw [if_neg hi])
    show cn (fun z => decide ((if z = R a then R b else p z) = z)) 64 + (n + 1) = 64
    omega
  · intro k hk
    show ∃ w, (if k = n then a else A k) = rn gx 0 w ∧ (if k = n then b else B k) = rn gx 32 w
    by_cases z : k = n
    · rw [if_pos z, if_pos z]; exact hw
    · rw [if_neg z, if_neg z]; exact j4 k (by omega)
  · intro k hk
    show (if R (if k = n then a else A k) = R a then R b else R (if k = n then a else A k)) = (if R (if k = n then b else B k) = R a then R b else R (if k = n then b else B k))
    by_cases z : k = n
    · rw [if_pos z, if_pos z, if_pos rfl, if_neg (fun q => hne q.symm)]
    · rw [if_neg z, if_neg z, j5 k (by omega)]
  · show (if 0 = n then a else A 0) = 0 ∧ (if 0 = n then b else B 0) = 32
    rw [if_neg (by omega), if_neg (by omega)]; exact j6
  · intro Q q1 q2 q3 q4 x hx y hy
    have q4' : ∀ k, k < n → Q (A k) (B k) := by
      intro k hk
      have := q4 k (by omega)
      have e1 : (if k = n then a else A k) = A k := if_neg (by omega)
      have e2 : (if k = n then b else B k) = B k := if_neg (by omega)
      have t : Q (if k = n then a else A k) (if k = n then b else B k) := this
      rw [e1, e2] at t
      exact t
    have qab : Q a b := by
      have : Q (if n = n then a else A n) (if n = n then b else B n) := q4 n (by omega)
      rw [if_pos rfl, if_pos rfl] at this
      exact this
    have old := j7 Q q1 q2 q3 q4'
    show (if R x = R a then R b else R x) = (if R y = R a then R b else R y) → Q x y
    by_cases z : R x = R a
    · by_cases w : R y = R a
      · intro _; exact old x hx y hy (z.trans w.symm)
      · rw [if_pos z, if_neg w]
        intro e
        exact q3 _ _ _ (old x hx a ha z) (q3 _ _ _ qab (old b hb y hy e))
    · by_cases w : R y = R a
      · rw [if_neg z, if_pos w]
        intro e
        exact q3 _ _ _ (old x hx b hb e) (q3 _ _ _ (q2 _ _ qab) (old a ha y hy w.symm))
      · rw [if_neg z, if_neg w]; exact old x hx y hy
theorem JI_end {V : Nat → Prop} {gx : Bool → Nat → Nat} {ge : Nat → Bool} {se sn : Nat → Int32} {n : Nat} {A B p R h : Nat → Nat} (G : GS V gx ge se sn) (v0 : V 0) (v1 : V 32) (J : JI gx n A B p R h) (hd : ∀ k, k < n → ge (A k) = ge (B k) ∧ ∀ b, R (gx b (A k)) = R (gx b (B k))) (w : List Bool) : ge (rn gx 0 w) = ge (rn gx 32 w) := by
  obtain ⟨U, j2, j3, j4, j5, j6, j7⟩ := J
  have Q := j7 (fun x y => ge x = ge y ∧ ∀ b, R (gx b x) = R (gx b y)) (fun x => ⟨rfl, fun _ => rfl⟩) (fun x y q => ⟨q.1.symm, fun b => (q.2 b).symm⟩) (fun x y z q q' => ⟨q.1.trans q'.1, fun b => (q.2 b).trans (q'.2 b)⟩) hd
  have := rn_rel (δ := gx) (ε := gx) (fun x y => V x ∧ V y ∧ R x = R y) (by
    rintro b x y ⟨vx, vy, e⟩
    have gX := G x vx
    have gY := G y vy
    exact ⟨(gX.2.2 b).2, (gY.2.2 b).2, (Q x gX.1 y gY.1 e).2 b⟩) w 0 32 ⟨v0, v1, by have := j5 0 j3; rw [j6.1, j6.2] at this; exact this⟩
  exact (Q _ (G _ this.1).1 _ (G _ this.2.1).1 this.2.2).1
section joining
variable {f_openStates f_openBegin f_openEnd f_plainCount f_classes f_listed : Int32} {a_arrows a_begins a_finals a_openTo a_plainSet a_plainEnd a_plainNext a_classOf a_newClass a_differs a_waits a_members a_sideNext a_sideEnd a_sideCount a_joined a_image a_pairA a_pairB a_pairFrom a_pairLetter a_seen a_words a_more : Nat → Int32}
def JA (n : Nat) (pA pB jo : Nat → Int32) (A B p : Nat → Nat) : Prop := (∀ k, k < n → pA k = nI (A k) ∧ pB k = nI (B k)) ∧ (∀ x, x < 64 → jo x = nI (p x))
theorem ro_loop {post : Int32 → Prop} {p R h : Nat → Nat} (U : UF p R h) (hj : ∀ x, x < 64 → a_joined x = nI (p x)) : ∀ n x, h x < n → x < 64 → post (nI (R x)) → wX_rootOf_2 post f_openStates f_openBegin f_openEnd f_plainCount f_classes f_listed a_arrows a_begins a_finals a_openTo a_plainSet a_plainEnd a_plainNext a_classOf a_newClass a_differs a_waits a_members a_sideNext a_sideEnd a_sideCount a_joined a_image a_pairA a_pairB a_pairFrom a_pairLetter a_seen a_words a_more n (nI x) := by
  intro n
  induction n with
  | zero => intro x hx; omega
  | succ n ih =>
    intro x hx h64 hp
    obtain ⟨u1, u2, u3, u4, u5, u6⟩ := U x h64
    have vx : vp_in (nI x) 64 := vp_in_nI h64 (by omega)
    show vp_in (nI x) 64 ∧ _
    rw [nI_clamp (by omega), hj x h64]
    refine And.intro vx (pk_eq (p x) x (fun q => ?_) (fun q => And.intro vx (nm_e (ih (p x) ?_ u1 ?_))))
    · rw [u6 q] at hp; exact hp
    · rcases u2 with y | y
      · exact absurd y q
      · omega
    · rw [u5]; exact hp
theorem ro_of {post : Int32 → Prop} {p R h : Nat → Nat} {x : Nat} (U : UF p R h) (hj : ∀ x, x < 64 → a_joined x = nI (p x)) (hx : x < 64) (hp : post (nI (R x))) : wpX_rootOf post (f_openStates, f_openBegin, f_openEnd, f_plainCount, f_classes, f_listed, a_arrows, a_begins, a_finals, a_openTo, a_plainSet, a_plainEnd, a_plainNext, a_classOf, a_newClass, a_differs, a_waits, a_members, a_sideNext, a_sideEnd, a_sideCount, a_joined, a_image, a_pairA, a_pairB, a_pairFrom, a_pairLetter, a_seen, a_words, a_more) (nI x) := Exists.intro (h x + 1) (ro_loop U hj _ x (Nat.lt_succ_self _) hx hp)
theorem jb_one {post : SX → Prop} {V : Nat → Prop} {gx : Bool → Nat → Nat} {ge : Nat → Bool} {n k l : Nat} {b : Bool} {A B p R h : Nat → Nat} {pA pB jo : Nat → Int32} (G : GS V gx ge a_sideEnd a_sideNext) (v0 : V 0) (v1 : V 32) (J : JI gx n A B p R h) (hA : JA n pA pB jo A B p) (hk : k < n) (hb : b.toNat = l) (hp : ∀ (n' : Nat) (A' B' p' R' h' : Nat → Nat) (pA' pB' jo' : Nat → Int32), JI gx n' A' B' p' R' h' → JA n' pA' pB' jo' A' B' p' → n ≤ n' → (∀ j, j < n → A' j = A j ∧ B' j = B j) → (∀ x y, R x = R y → R' x = R' y) → R' (gx b (A k)) = R' (gx b (B k)) → post (f_openStates, f_openBegin, f_openEnd, f_plainCount, f_classes, nI n', a_arrows, a_begins, a_finals, a_openTo, a_plainSet, a_plainEnd, a_plainNext, a_classOf, a_newClass, a_differs, a_waits, a_members, a_sideNext, a_sideEnd, a_sideCount, jo', a_image, pA', pB', a_pairFrom, a_pairLetter, a_seen, a_words, a_more)) : wpX_joinBehind post (f_openStates, f_openBegin, f_openEnd, f_plainCount, f_classes, nI n, a_arrows, a_begins, a_finals, a_openTo, a_plainSet, a_plainEnd, a_plainNext, a_classOf, a_newClass, a_differs, a_waits, a_members, a_sideNext, a_sideEnd, a_sideCount, jo, a_image, pA, pB, a_pairFrom, a_pairLetter, a_seen, a_words, a_more) (nI k) (nI l) := by
  have hl := tb_lt b
  rw [hb] at hl
  have hn : n ≤ 64 := by have := J.2.1; omega
  obtain ⟨w, wA, wB⟩ := J.2.2.2.1 k hk
  have vA : V (A k) := by rw [wA]; exact rn_inv V (fun c x vx => ((G x vx).2.2 c).2) w 0 v0
  have vB : V (B k) := by rw [wB]; exact rn_inv V (fun c x vx => ((G x vx).2.2 c).2) w 32 v1
  have gA := G _ vA
  have gB := G _ vB
  have nA := gA.2.2 b
  have nB := gB.2.2 b
  have n64A := (G _ nA.2).1
  have n64B := (G _ nB.2).1
  have eA := hA.1 k hk
  have sA := nA.1
  have sB := nB.1
  rw [hb] at sA sB
  have vk : vp_in (nI k) 1056 := vp_in_nI (by omega) (by omega)
  have lA := gA.1
  have lB := gB.1
  unfold wpX_joinBehind
  dsimp only
  rw [nI_clamp (by omega : k < 2 ^ 31), eA.1, eA.2, m2l, m2l, nI_clamp (by omega : 2 * A k + l < 2 ^ 31), nI_clamp (by omega : 2 * B k + l < 2 ^ 31), sA, sB]
  refine And.intro vk (And.intro (vp_in_nI (by omega) (by omega)) (nm_e (And.intro vk (And.intro (vp_in_nI (by omega) (by omega)) (nm_e (ro_of (a_joined := jo) J.1 hA.2 n64A (ro_of (a_joined := jo) J.1 hA.2 n64B ?_)))))))
  have rA := (J.1 _ n64A).2.2.1
  have rB := (J.1 _ n64B).2.2.1
  refine pk_eq (R (gx b (A k))) (R (gx b (B k))) (fun q => hp n A B p R h pA pB jo J hA (Nat.le_refl n) (fun _ _ => ⟨rfl, rfl⟩) (fun _ _ e => e) q) (fun q => ?_)
  rw [nI_clamp (by omega : R (gx b (A k)) < 2 ^ 31), nI_clamp (by omega : n < 2 ^ 31), bs_w8 (by omega), bs_w8 (by omega), bs_w8 (by omega)]
  have vn : vp_in (nI n) 1056 := vp_in_nI (by omega) (by omega)
  refine And.intro (vp_in_nI rA (by omega)) (nm_e (And.intro vn (nm_e (And.intro vn (nm_e (nm_r (nI_1 n) (hp (n + 1) _ _ _ _ _ _ _ _ (JI_join J n64A n64B ⟨w ++ [b], by rw [rn_sn, wA], by rw [rn_sn, wB]⟩ q) ⟨?_, ?_⟩ (Nat.le_succ n) ?_ ?_ ?_)))))))
  · intro j hj
    show _ = nI (if j = n then _ else A j) ∧ _ = nI (if j = n then _ else B j)
    by_cases z : j = n
    · rw [z, pk_us, pk_us, if_pos rfl, if_pos rfl]; exact ⟨rfl, rfl⟩
    · rw [pk_un z, pk_un z, if_neg z, if_neg z]; exact hA.1 j (by omega)
  · intro x hx
    show _ = nI (if x = R (gx b (A k)) then R (gx b (B k)) else p x)
    by_cases z : x = R (gx b (A k))
    · rw [z, pk_us, if_pos rfl]
    · rw [pk_un z, if_neg z]; exact hA.2 x hx
  · intro j hj
    exact ⟨if_neg (by omega), if_neg (by omega)⟩
  · intro x y e
    show (if R x = R (gx b (A k)) then R (gx b (B k)) else R x) = (if R y = R (gx b (A k)) then R (gx b (B k)) else R y)
    rw [e]
  · show (if R (gx b (A k)) = R (gx b (A k)) then R (gx b (B k)) else R (gx b (A k))) = (if R (gx b (B k)) = R (gx b (A k)) then R (gx b (B k)) else R (gx b (B k)))
    rw [if_pos rfl, if_neg (fun z => q z.symm)]
theorem jo_64 {post : Int32 → SX → Prop} {V : Nat → Prop} {gx : Bool → Nat → Nat} {ge : Nat → Bool} (G : GS V gx ge a_sideEnd a_sideNext) (v0 : V 0) (v1 : V 32) (h1 : (∀ w, ge (rn gx 0 w) = ge (rn gx 32 w)) → ∀ (l : Int32) (jo pA pB : Nat → Int32), post 1 (f_openStates, f_openBegin, f_openEnd, f_plainCount, f_classes, l, a_arrows, a_begins, a_finals, a_openTo, a_plainSet, a_plainEnd, a_plainNext, a_classOf, a_newClass, a_differs, a_waits, a_members, a_sideNext, a_sideEnd, a_sideCount, jo, a_image, pA, pB, a_pairFrom, a_pairLetter, a_seen, a_words, a_more)) (h0 : (¬ ∀ w, ge (rn gx 0 w) = ge (rn gx 32 w)) → ∀ (l : Int32) (jo pA pB : Nat → Int32), post 0 (f_openStates, f_openBegin, f_openEnd, f_plainCount, f_classes, l, a_arrows, a_begins, a_finals, a_openTo, a_plainSet, a_plainEnd, a_plainNext, a_classOf, a_newClass, a_differs, a_waits, a_members, a_sideNext, a_sideEnd, a_sideCount, jo, a_image, pA, pB, a_pairFrom, a_pairLetter, a_seen, a_words, a_more)) : ∀ d k (n : Nat) (A B p R h : Nat → Nat) (pA pB jo : Nat → Int32), k + d = 64 → JI gx n A B p R h → JA n pA pB jo A B p → k ≤ n → (∀ j, j < k → ge (A j) = ge (B j) ∧ ∀ b, R (gx b (A j)) = R (gx b (B j))) → wX_equalByJoining_64 post (d + 2) (bi true) (nI k) f_openStates f_openBegin f_openEnd f_plainCount f_classes (nI n) a_arrows a_begins a_finals a_openTo a_plainSet a_plainEnd a_plainNext a_classOf a_newClass a_differs a_waits a_members a_sideNext a_sideEnd a_sideCount jo a_image pA pB a_pairFrom a_pairLetter a_seen a_words a_more := by
  intro d
  induction d with
  | zero =>
    intro k n A B p R h pA pB jo e J hA hk hd
    have hn : n ≤ 64 := by have := J.2.1; omega
    exact br_t (nI_le (by omega) (by omega)) (And.intro (bi_n true) (h1 (JI_end G v0 v1 J (fun j hj => hd j (by omega))) _ _ _ _))
  | succ d ih =>
    intro k n A B p R h pA pB jo e J hA hk hd
    have hn : n ≤ 64 := by have := J.2.1; omega
    rcases Nat.lt_or_ge k n with z | z
    · obtain ⟨w, wA, wB⟩ := J.2.2.2.1 k z
      have vA : V (A k) := by rw [wA]; exact rn_inv V (fun c x vx => ((G x vx).2.2 c).2) w 0 v0
      have vB : V (B k) := by rw [wB]; exact rn_inv V (fun c x vx => ((G x vx).2.2 c).2) w 32 v1
      have gA := G _ vA
      have gB := G _ vB
      have lA := gA.1
      have lB := gB.1
      have eA := hA.1 k z
      have vk : vp_in (nI k) 1056 := vp_in_nI (by omega) (by omega)
      refine br_f (nI_ge (by omega) (by omega)) (br_f bs_10 ?_)
      rw [nI_clamp (by omega : k < 2 ^ 31), eA.1, eA.2, nI_clamp (by omega : A k < 2 ^ 31), nI_clamp (by omega : B k < 2 ^ 31), gA.2.1, gB.2.1]
      refine And.intro vk (And.intro (vp_in_nI lA (by omega)) (And.intro vk (And.intro (vp_in_nI lB (by omega)) (bi_e (fun q => ?_) (fun q => ?_)))))
      · refine Exists.intro 3 (br_f (by decide) (br_f bs_10 (jb_one (b := false) (l := 0) G v0 v1 J hA z rfl (fun n1 A1 B1 p1 R1 h1' pA1 pB1 jo1 J1 hA1 hn1 ab1 m1 c1 => nm_r (nI_1 0) (br_f (by decide) (br_f bs_10 (jb_one (b := true) (l := 1) G v0 v1 J1 hA1 (by omega) rfl (fun n2 A2 B2 p2 R2 h2' pA2 pB2 jo2 J2 hA2 hn2 ab2 m2' c2 => nm_r (nI_1 1) (br_t (by decide) (nm_r (nI_1 k) (ih (k + 1) n2 A2 B2 p2 R2 h2' pA2 pB2 jo2 (by omega) J2 hA2 (by omega) ?_)))))))))))
        have ek : A2 k = A k ∧ B2 k = B k := ⟨(ab2 k (by omega)).1.trans (ab1 k z).1, (ab2 k (by omega)).2.trans (ab1 k z).2⟩
        intro j hj
        by_cases y : j = k
        · subst y
          rw [ek.1, ek.2]
          refine ⟨q, fun b => ?_⟩
          cases b
          · exact m2' _ _ c1
          · have t := c2
            rw [(ab1 j z).1, (ab1 j z).2] at t
            exact t
        · have hj' : j < n := by omega
          have ej : A2 j = A j ∧ B2 j = B j := ⟨(ab2 j (by omega)).1.trans (ab1 j hj').1, (ab2 j (by omega)).2.trans (ab1 j hj').2⟩
          rw [ej.1, ej.2]
          have := hd j (by omega)
          exact ⟨this.1, fun b => m2' _ _ (m1 _ _ (this.2 b))⟩
      · have hne : ¬ ∀ w, ge (rn gx 0 w) = ge (rn gx 32 w) := fun hh => q (by rw [wA, wB]; exact hh w)
        refine Exists.intro 3 (br_f (by decide) (br_t rfl (nm_r (nI_1 k) ?_)))
        by_cases y : n ≤ k + 1
        · exact br_t (nI_le y (by omega)) (And.intro (bi_n false) (h0 hne _ _ _ _))
        · exact br_f (nI_ge (by omega) (by omega)) (br_t rfl (And.intro (bi_n false) (h0 hne _ _ _ _)))
    · exact br_t (nI_le z (by omega)) (And.intro (bi_n true) (h1 (JI_end G v0 v1 J (fun j hj => hd j (by omega))) _ _ _ _))
def jz_p (z : Nat) : Nat := if z = 0 then 32 else z
theorem jz_cn : cn (fun z => decide (jz_p z = z)) 64 = 63 := by decide +kernel
theorem JI_0 {gx : Bool → Nat → Nat} : JI gx 1 (fun _ => 0) (fun _ => 32) jz_p jz_p (fun z => if z = 0 then 1 else 0) := by
  refine ⟨?_, by rw [jz_cn], by omega, fun k _ => ⟨[], rfl, rfl⟩, fun k _ => ?_, ⟨rfl, rfl⟩, ?_⟩
  · intro x hx
    unfold jz_p
    by_cases z : x = 0
    · subst z
      exact ⟨by decide, Or.inr (by decide), by decide, by decide, by decide, fun q => by revert q; decide⟩
    · rw [if_neg z]
      refine ⟨hx, Or.inl rfl, hx, if_neg z, if_neg z, fun _ => rfl⟩
  · show jz_p 0 = jz_p 32
    decide
  · intro Q q1 q2 q3 q4 x hx y hy e
    have q := q4 0 (by omega)
    have q' : Q 0 32 := q
    have red : ∀ z, Q z (jz_p z) := by
      intro z
      unfold jz_p
      by_cases f : z = 0
      · rw [if_pos f, f]; exact q'
      · rw [if_neg f]; exact q1 z
    have e' : jz_p x = jz_p y := e
    have hx' := red x
    rw [e'] at hx'
    exact q3 _ _ _ hx' (q2 _ _ (red y))
theorem jo_12 {post : Int32 → SX → Prop} {V : Nat → Prop} {gx : Bool → Nat → Nat} {ge : Nat → Bool} (G : GS V gx ge a_sideEnd a_sideNext) (v0 : V 0) (v1 : V 32) (h1 : (∀ w, ge (rn gx 0 w) = ge (rn gx 32 w)) → ∀ (l : Int32) (jo pA pB : Nat → Int32), post 1 (f_openStates, f_openBegin, f_openEnd, f_plainCount, f_classes, l, a_arrows, a_begins, a_finals, a_openTo, a_plainSet, a_plainEnd, a_plainNext, a_classOf, a_newClass, a_differs, a_waits, a_members, a_sideNext, a_sideEnd, a_sideCount, jo, a_image, pA, pB, a_pairFrom, a_pairLetter, a_seen, a_words, a_more)) (h0 : (¬ ∀ w, ge (rn gx 0 w) = ge (rn gx 32 w)) → ∀ (l : Int32) (jo pA pB : Nat → Int32), post 0 (f_openStates, f_openBegin, f_openEnd, f_plainCount, f_classes, l, a_arrows, a_begins, a_finals, a_openTo, a_plainSet, a_plainEnd, a_plainNext, a_classOf, a_newClass, a_differs, a_waits, a_members, a_sideNext, a_sideEnd, a_sideCount, jo, a_image, pA, pB, a_pairFrom, a_pairLetter, a_seen, a_words, a_more)) : ∀ d i (jo : Nat → Int32), i + d = 64 → (∀ j, j < i → jo j = nI j) → wX_equalByJoining_12 post f_openStates f_openBegin f_openEnd f_plainCount f_classes f_listed (d + 1) (nI i) a_arrows a_begins a_finals a_openTo a_plainSet a_plainEnd a_plainNext a_classOf a_newClass a_differs a_waits a_members a_sideNext a_sideEnd a_sideCount jo a_image a_pairA a_pairB a_pairFrom a_pairLetter a_seen a_words a_more := by
  intro d
  induction d with
  | zero =>
    intro i jo e hj
    rw [show i = 64 by omega] at hj ⊢
    have e0 : vp_nar .byte 0 = nI 0 := bs_v8 (n := 0) (by omega)
    have e32 : vp_nar .byte 32 = nI 32 := bs_v8 (n := 32) (by omega)
    refine br_t (by decide) ?_
    rw [e0, e32]
    refine nm_e (nm_e (nm_e (Exists.intro 66 (jo_64 G v0 v1 h1 h0 64 0 1 _ _ _ _ _ _ _ _ rfl JI_0 ⟨?_, ?_⟩ (by omega) (fun j hj => absurd hj (Nat.not_lt_zero j))))))
    · intro k hk
      rw [show k = 0 by omega, pk_us, pk_us]; exact ⟨rfl, rfl⟩
    · intro x hx
      unfold jz_p
      by_cases z : x = 0
      · rw [z, pk_us, if_pos rfl]
      · rw [pk_un z, if_neg z]; exact hj x hx
  | succ d ih =>
    intro i jo e hj
    refine br_f (nI_ge (b := 64) (by omega) (by omega)) ?_
    rw [nI_clamp (by omega), bs_w8 (by omega)]
    refine And.intro (vp_in_nI (by omega) (by omega)) (nm_e (nm_r (nI_1 i) (ih (i + 1) _ (by omega) ?_)))
    intro j hj'
    by_cases z : j = i
    · rw [z, pk_us]
    · rw [pk_un z]; exact hj j (by omega)
theorem jo_all {post : Int32 → SX → Prop} (ok : Ok a_arrows a_begins a_finals) (h1 : (∀ w, Lg a_arrows a_begins a_finals 0 w ↔ Lg a_arrows a_begins a_finals 1 w) → ∀ f_openStates f_openBegin f_openEnd f_plainCount f_classes f_listed a_openTo a_plainSet a_plainEnd a_plainNext a_classOf a_newClass a_differs a_waits a_members a_sideNext a_sideEnd a_sideCount a_joined a_image a_pairA a_pairB a_pairFrom a_pairLetter a_seen a_words a_more, post 1 (f_openStates, f_openBegin, f_openEnd, f_plainCount, f_classes, f_listed, a_arrows, a_begins, a_finals, a_openTo, a_plainSet, a_plainEnd, a_plainNext, a_classOf, a_newClass, a_differs, a_waits, a_members, a_sideNext, a_sideEnd, a_sideCount, a_joined, a_image, a_pairA, a_pairB, a_pairFrom, a_pairLetter, a_seen, a_words, a_more)) (h0 : (¬ ∀ w, Lg a_arrows a_begins a_finals 0 w ↔ Lg a_arrows a_begins a_finals 1 w) → ∀ f_openStates f_openBegin f_openEnd f_plainCount f_classes f_listed a_openTo a_plainSet a_plainEnd a_plainNext a_classOf a_newClass a_differs a_waits a_members a_sideNext a_sideEnd a_sideCount a_joined a_image a_pairA a_pairB a_pairFrom a_pairLetter a_seen a_words a_more, post 0 (f_openStates, f_openBegin, f_openEnd, f_plainCount, f_classes, f_listed, a_arrows, a_begins, a_finals, a_openTo, a_plainSet, a_plainEnd, a_plainNext, a_classOf, a_newClass, a_differs, a_waits, a_members, a_sideNext, a_sideEnd, a_sideCount, a_joined, a_image, a_pairA, a_pairB, a_pairFrom, a_pairLetter, a_seen, a_words, a_more)) : wpX_equalByJoining post (f_openStates, f_openBegin, f_openEnd, f_plainCount, f_classes, f_listed, a_arrows, a_begins, a_finals, a_openTo, a_plainSet, a_plainEnd, a_plainNext, a_classOf, a_newClass, a_differs, a_waits, a_members, a_sideNext, a_sideEnd, a_sideCount, a_joined, a_image, a_pairA, a_pairB, a_pairFrom, a_pairLetter, a_seen, a_words, a_more) := by
  unfold wpX_equalByJoining
  dsimp only
  refine as_put (m := 0) (by omega) ok (fun o0 N0 ps0 pe0 pn0 nx0 en0 se0 sn0 sc0 hN0 P0 S0 D0 k1 k2 => ?_)
  refine as_put (m := 1) (by omega) ok (fun o N1 ps1 pe pn nx1 en1 se sn sc hN1 P1 S1 D1 k3 k4 => ?_)
  have G := as_G hN0 hN1 P0.2.1 P1.2.1 D0 D1 k3 k4
  have hL : (∀ w, Lg a_arrows a_begins a_finals 0 w ↔ Lg a_arrows a_begins a_finals 1 w) ↔ ∀ w, g2e en0 en1 (rn (g2x nx0 nx1) 0 w) = g2e en0 en1 (rn (g2x nx0 nx1) 32 w) := by
    constructor
    · intro hh w
      have l := g2_L hN0 P0 P1 w
      apply Bool.eq_iff_iff.mpr
      rw [← l.1, ← l.2]; exact hh w
    · intro hh w
      have l := g2_L hN0 P0 P1 w
      rw [l.1, l.2, hh w]
  refine Exists.intro 65 (jo_12 (a_sideEnd := se) (a_sideNext := sn) G (Or.inl P0.1) (Or.inr ⟨Nat.le_refl 32, by have := P1.1; omega⟩) (fun hh l jo pA pB => ?_) (fun hh l jo pA pB => ?_) 64 0 a_joined rfl (fun j hj => absurd hj (Nat.not_lt_zero j)))
  · exact h1 (hL.mpr hh) _ _ _ _ _ _ _ _ _ _ _ _ _ _ _ _ _ _ _ _ _ _ _ _ _ _ _
  · exact h0 (fun z => hh (hL.mp z)) _ _ _ _ _ _ _ _ _ _ _ _ _ _ _ _ _ _ _ _ _ _ _ _ _ _ _
end joining
end
section
/-! equal, by laying the least machines on each other -/
/-- the least machine: its classes by labels -/
theorem LM_ex {L : List Bool → Prop} {N n : Nat} {nx : Bool → Nat → Nat} {en : Nat → Bool} {lab : Nat → Nat} (P : PD L N nx en) (hL : Lab N lab n (EqS nx en)) (h0 : lab 0 = 0) : ∃ (nc : Bool → Nat → Nat) (ec : Nat → Bool), PD L n nc ec ∧ (∀ c, c < n → ∀ d, d < n → EqS nc ec c d → c = d) ∧ (∀ i, i < N → ec (lab i) = en i ∧ ∀ b, nc b (lab i) = lab (nx b i)) := by
  obtain ⟨l1, l2, l3⟩ := hL
  have hx : ∀ c, ∃ i, c < n → i < N ∧ lab i = c := by
    intro c
    by_cases hc : c < n
    · obtain ⟨i, hi⟩ := l2 c hc; exact ⟨i, fun _ => hi⟩
    · exact ⟨0, fun z => absurd z hc⟩
  have key : ∀ i, i < N → en (hx (lab i)).choose = en i ∧ ∀ b, lab (nx b (hx (lab i)).choose) = lab (nx b i) := by
    intro i hi
    have s := (hx (lab i)).choose_spec (l1 i hi)
    have e := (l3 _ s.1 i hi).mp s.2
    exact ⟨e [], fun b => (l3 _ (P.2.1 _ s.1 b) _ (P.2.1 i hi b)).mpr (EqS_st e b)⟩
  have hr : ∀ (w : List Bool) i, i < N → rn (fun b c => lab (nx b (hx c).choose)) (lab i) w = lab (rn nx i w) ∧ rn nx i w < N := by
    intro w i hi
    refine rn_rel (δ := fun b c => lab (nx b (hx c).choose)) (ε := nx) (fun c i => c = lab i ∧ i < N) ?_ w (lab i) i ⟨rfl, hi⟩
    rintro b c i ⟨rfl, hi⟩
    exact ⟨(key i hi).2 b, P.2.1 i hi b⟩
  refine ⟨fun b c => lab (nx b (hx c).choose), fun c => en (hx c).choose, ⟨?_, ?_, ?_, ?_⟩, ?_, fun i hi => key i hi⟩
  · have := l1 0 P.1; omega
  · intro c hc b
    exact l1 _ (P.2.1 _ ((hx c).choose_spec hc).1 b)
  · intro w
    have := hr w 0 P.1
    rw [h0] at this
    rw [P.2.2.1 w, this.1]
    show _ ↔ en (hx (lab (rn nx 0 w))).choose = true
    rw [(key _ this.2).1]
  · intro c hc
    obtain ⟨j, hj, e⟩ := l2 c hc
    obtain ⟨w, ew⟩ := P.2.2.2 j hj
    have := hr w 0 P.1
    rw [h0] at this
    exact ⟨w, by rw [this.1, ew, e]⟩
  · intro c hc d hd e
    obtain ⟨i, hi, ei⟩ := l2 c hc
    obtain ⟨j, hj, ej⟩ := l2 d hd
    rw [← ei, ← ej]
    apply (l3 i hi j hj).mpr
    intro v
    have := e v
    rw [← ei, ← ej] at this
    have t : en (hx (rn (fun b c => lab (nx b (hx c).choose)) (lab i) v)).choose = en (hx (rn (fun b c => lab (nx b (hx c).choose)) (lab j) v)).choose := this
    rw [(hr v i hi).1, (hr v j hj).1, (key _ (hr v i hi).2).1, (key _ (hr v j hj).2).1] at t
    exact t
section least
variable {f_openStates f_openBegin f_openEnd f_plainCount f_classes f_listed : Int32} {a_arrows a_begins a_finals a_openTo a_plainSet a_plainEnd a_plainNext a_classOf a_newClass a_differs a_waits a_members a_sideNext a_sideEnd a_sideCount a_joined a_image a_pairA a_pairB a_pairFrom a_pairLetter a_seen a_words a_more : Nat → Int32}
theorem pl_62 {post : SX → Prop} {J : Int32 → (Nat → Int32) → (Nat → Int32) → (Nat → Int32) → (Nat → Int32) → (Nat → Int32) → (Nat → Int32) → (Nat → Int32) → (Nat → Int32) → (Nat → Int32) → (Nat → Int32) → (Nat → Int32) → (Nat → Int32) → (Nat → Int32) → (Nat → Int32) → (Nat → Int32) → (Nat → Int32) → (Nat → Int32) → (Nat → Int32) → (Nat → Int32) → (Nat → Int32) → (Nat → Int32) → (Nat → Int32) → (Nat → Int32) → (Nat → Int32) → Prop} {x2v m i c l n q : Nat} {sn : Nat → Int32} (hm : m < 2) (hl : l < 2) (hi : i < 32) (hc : c < 32) (hq : q < 32) (hx : x2v = q) (t1 : a_plainNext (2 * i + l) = nI x2v) {r : Nat} (hr : r < 32) (t2 : a_classOf q = nI r) (h : wX_putLeastAside_62 post J (nI m) (nI i) (nI (32 * m + c)) f_openStates f_openBegin f_openEnd f_plainCount f_classes f_listed n (nI (l + 1)) a_arrows a_begins a_finals a_openTo a_plainSet a_plainEnd a_plainNext a_classOf a_newClass a_differs a_waits a_members (upd sn (2 * (32 * m + c) + l) (nI (32 * m + r))) a_sideEnd a_sideCount a_joined a_image a_pairA a_pairB a_pairFrom a_pairLetter a_seen a_words a_more) : wX_putLeastAside_62 post J (nI m) (nI i) (nI (32 * m + c)) f_openStates f_openBegin f_openEnd f_plainCount f_classes f_listed (n + 1) (nI l) a_arrows a_begins a_finals a_openTo a_plainSet a_plainEnd a_plainNext a_classOf a_newClass a_differs a_waits a_members sn a_sideEnd a_sideCount a_joined a_image a_pairA a_pairB a_pairFrom a_pairLetter a_seen a_words a_more := by
  subst hx
  have e32 : nI m * 32 + nI r = nI (32 * m + r) := by
    show nI m * nI 32 + nI r = _
    rw [pk_mul, nI_add]; exact congrArg nI (by omega)
  refine br_f (nI_ge (b := 2) hl (by omega)) ?_
  rw [m2l, m2l, nI_clamp (by omega : 2 * i + l < 2 ^ 31), t1, nI_clamp (by omega : x2v < 2 ^ 31), t2, e32, nI_clamp (by omega : 2 * (32 * m + c) + l < 2 ^ 31), bs_w8 (by omega)]
  exact And.intro (vp_in_nI (by omega) (by omega)) (And.intro (vp_in_nI (by omega) (by omega)) (And.intro (vp_in_nI (by omega) (by omega)) (nm_e (nm_r (nI_1 l) h))))
/-- the classes of the states from i on are written -/
def PLs (m N i : Nat) (lab : Nat → Nat) (nc : Bool → Nat → Nat) (ec : Nat → Bool) (se sn : Nat → Int32) : Prop := ∀ j, i ≤ j → j < N → se (32 * m + lab j) = bi (ec (lab j)) ∧ ∀ b : Bool, sn (2 * (32 * m + lab j) + b.toNat) = nI (32 * m + nc b (lab j))
theorem pl_31 {post : SX → Prop} {m N n : Nat} {nx nc : Bool → Nat → Nat} {en ec : Nat → Bool} {lab : Nat → Nat} {se0 sn0 : Nat → Int32} (hm : m < 2) (hN : N ≤ 32) (hn32 : n ≤ 32) (hn : ∀ i, i < N → ∀ b, nx b i < N) (T : Tb N nx en a_plainEnd a_plainNext) (hA : LA N a_classOf lab) (hl : ∀ j, j < N → lab j < n) (hk : ∀ i, i < N → ec (lab i) = en i ∧ ∀ b, nc b (lab i) = lab (nx b i)) (h : ∀ se sn : Nat → Int32, PLs m N 0 lab nc ec se sn → (∀ j, (j < 32 * m ∨ 32 * m + 32 ≤ j) → se j = se0 j) → (∀ j, (j < 64 * m ∨ 64 * m + 64 ≤ j) → sn j = sn0 j) → post (f_openStates, f_openBegin, f_openEnd, f_plainCount, f_classes, f_listed, a_arrows, a_begins, a_finals, a_openTo, a_plainSet, a_plainEnd, a_plainNext, a_classOf, a_newClass, a_differs, a_waits, a_members, sn, se, a_sideCount, a_joined, a_image, a_pairA, a_pairB, a_pairFrom, a_pairLetter, a_seen, a_words, a_more)) : ∀ i (se sn : Nat → Int32), i ≤ N → PLs m N i lab nc ec se sn → (∀ j, (j < 32 * m ∨ 32 * m + 32 ≤ j) → se j = se0 j) → (∀ j, (j < 64 * m ∨ 64 * m + 64 ≤ j) → sn j = sn0 j) → wX_putLeastAside_31 post (nI m) f_openStates f_openBegin f_openEnd f_plainCount f_classes f_listed (i + 1) (nI i - 1) a_arrows a_begins a_finals a_openTo a_plainSet a_plainEnd a_plainNext a_classOf a_newClass a_differs a_waits a_members sn se a_sideCount a_joined a_image a_pairA a_pairB a_pairFrom a_pairLetter a_seen a_words a_more := by
  intro i
  induction i with
  | zero => intro se sn _ hP h1 h2; exact br_t (by decide) (h se sn hP h1 h2)
  | succ i ih =>
    intro se sn hi hP h1 h2
    have li := hA i (by omega)
    have ci := hl i (by omega)
    have ki := hk i (by omega)
    have n0 := hn i (by omega) false
    have n1 := hn i (by omega) true
    have e32 : nI m * 32 + nI (lab i) = nI (32 * m + lab i) := by
      show nI m * nI 32 + nI (lab i) = _
      rw [pk_mul, nI_add]; exact congrArg nI (by omega)
    rw [nI_pred]
    refine br_f (nI_pos (by omega)) ?_
    rw [nI_clamp (by omega : i < 2 ^ 31), li.1, e32, T.1 i (by omega), bi_v]
    have l0 := hl _ n0
    have l1 := hl _ n1
    refine And.intro (vp_in_nI (by omega) (by omega)) (nm_e (And.intro (vp_in_nI (by omega) (by omega)) ?_))
    rw [nI_clamp (by omega : 32 * m + lab i < 2 ^ 31)]
    refine And.intro (vp_in_nI (by omega) (by omega)) (nm_e (Exists.intro 3 (pl_62 (l := 0) hm (by omega) (by omega) (by omega) (q := nx false i) (by omega) rfl (Tb_0 T (by omega)) (r := lab (nx false i)) (by omega) (hA _ n0).1 (pl_62 (l := 1) hm (by omega) (by omega) (by omega) (q := nx true i) (by omega) rfl (Tb_1 T (by omega)) (r := lab (nx true i)) (by omega) (hA _ n1).1 (br_t (by decide) (nm_r (m1_s i) (ih _ _ (by omega) ?_ ?_ ?_)))))))
    · intro j hj hjN
      have lj := hl j hjN
      by_cases z : lab j = lab i
      · rw [z, pk_us, ki.1]
        refine ⟨rfl, fun b => ?_⟩
        cases b
        · show upd (upd sn (2 * (32 * m + lab i) + 0) _) (2 * (32 * m + lab i) + 1) _ (2 * (32 * m + lab i) + 0) = _
          rw [pk_un (by omega), pk_us, ki.2 false]
        · show upd (upd sn (2 * (32 * m + lab i) + 0) _) (2 * (32 * m + lab i) + 1) _ (2 * (32 * m + lab i) + 1) = _
          rw [pk_us, ki.2 true]
      · have hj' : i + 1 ≤ j := by
          rcases Nat.lt_or_ge i j with y | y
          · exact y
          · exact absurd (congrArg lab (show j = i by omega)) z
        have hP' := hP j hj' hjN
        refine ⟨?_, fun b => ?_⟩
        · rw [pk_un (by omega)]; exact hP'.1
        · have := tb_lt b
          rw [pk_un (by omega), pk_un (by omega)]; exact hP'.2 b
    · intro j hj
      rw [pk_un (by omega)]; exact h1 j hj
    · intro j hj
      rw [pk_un (by omega), pk_un (by omega)]; exact h2 j hj
theorem pl_put {post : SX → Prop} {m : Nat} (hm : m < 2) (ok : Ok a_arrows a_begins a_finals) (h : ∀ (o : Nat → Int32) (pc : Int32) (ps pe pn co nc' : Nat → Int32) (n : Nat) (nc : Bool → Nat → Nat) (ec : Nat → Bool) (se sn : Nat → Int32), n ≤ 32 → PD (Lg a_arrows a_begins a_finals m) n nc ec → (∀ c, c < n → ∀ d, d < n → EqS nc ec c d → c = d) → KC (Lg a_arrows a_begins a_finals m) n → SD m n nc ec se sn → (∀ j, (j < 32 * m ∨ 32 * m + 32 ≤ j) → se j = a_sideEnd j) → (∀ j, (j < 64 * m ∨ 64 * m + 64 ≤ j) → sn j = a_sideNext j) → post (nI 5, a_begins m, a_finals m, pc, nI n, f_listed, a_arrows, a_begins, a_finals, o, ps, pe, pn, co, nc', a_differs, a_waits, a_members, sn, se, upd a_sideCount m (nI n), a_joined, a_image, a_pairA, a_pairB, a_pairFrom, a_pairLetter, a_seen, a_words, a_more)) : wpX_putLeastAside post (f_openStates, f_openBegin, f_openEnd, f_plainCount, f_classes, f_listed, a_arrows, a_begins, a_finals, a_openTo, a_plainSet, a_plainEnd, a_plainNext, a_classOf, a_newClass, a_differs, a_waits, a_members, a_sideNext, a_sideEnd, a_sideCount, a_joined, a_image, a_pairA, a_pairB, a_pairFrom, a_pairLetter, a_seen, a_words, a_more) (nI m) := by
  unfold wpX_putLeastAside
  dsimp only
  refine ld_load hm (fun o ho => lm_plain ok ho (fun N ps pe pn nx en hN hP T P => sr_all hN hP.1 hP.2.1 T (fun n lab co nc' hL hn h0 hA => ?_)))
  obtain ⟨nc, ec, q1, q2, q3⟩ := LM_ex hP hL h0
  have hK := KC_lab hP lab hL.1 hL.2.1 hL.2.2
  dsimp only
  rw [nI_clamp (by omega : m < 2 ^ 31), bs_w8 (by omega)]
  refine And.intro (vp_in_nI hm (by omega)) (nm_e (nm_e (Exists.intro (N + 1) (pl_31 (a_classOf := co) hm hN hn hP.2.1 T hA hL.1 q3 (fun se sn hPL h1 h2 => h o _ ps pe pn co nc' n nc ec se sn hn q1 q2 hK ⟨?_, ?_⟩ h1 h2) N a_sideEnd a_sideNext (Nat.le_refl N) (fun j h1 h2 => by omega) (fun _ _ => rfl) (fun _ _ => rfl)))))
  · intro c hc
    obtain ⟨j, hj, e⟩ := hL.2.1 c hc
    rw [← e]; exact (hPL j (Nat.zero_le _) hj).1
  · intro c hc b
    obtain ⟨j, hj, e⟩ := hL.2.1 c hc
    rw [← e]; exact (hPL j (Nat.zero_le _) hj).2 b
end least
end
section
/-! laying one least machine on the other; equal -/
/-- the images so far: S which have one, I which -/
def IM (gx : Bool → Nat → Nat) (n0 : Nat) (S : Nat → Bool) (I : Nat → Nat) : Prop := S 0 = true ∧ I 0 = 32 ∧ ∀ x, S x = true → x < n0 ∧ ∃ w, x = rn gx 0 w ∧ I x = rn gx 32 w
def IA (im : Nat → Int32) (S : Nat → Bool) (I : Nat → Nat) : Prop := ∀ x, x < 32 → im x = if S x = true then nI (I x) else -1
def uS (S : Nat → Bool) : Nat := cn (fun x => !S x) 32
def Fit (gx : Bool → Nat → Nat) (ge : Nat → Bool) (S : Nat → Bool) (I : Nat → Nat) (j : Nat) : Prop := ge j = ge (I j) ∧ ∀ b, S (gx b j) = true ∧ I (gx b j) = gx b (I j)
theorem Fit_all {gx : Bool → Nat → Nat} {ge : Nat → Bool} {n0 : Nat} {S : Nat → Bool} {I : Nat → Nat} (h : IM gx n0 S I) (hf : ∀ j, S j = true → Fit gx ge S I j) (w : List Bool) : ge (rn gx 0 w) = ge (rn gx 32 w) := by
  have := rn_rel (δ := gx) (ε := gx) (fun x y => S x = true ∧ I x = y) (by
    rintro b x y ⟨s, rfl⟩
    exact (hf x s).2 b) w 0 32 ⟨h.1, h.2.1⟩
  rw [(hf _ this.1).1, this.2]
/-- one more image -/
theorem IM_new {gx : Bool → Nat → Nat} {n0 : Nat} {S : Nat → Bool} {I : Nat → Nat} (h : IM gx n0 S I) {i : Nat} {b : Bool} (hi : S i = true) (hv : gx b i < n0) (hn : S (gx b i) = false) : IM gx n0 (fun x => if x = gx b i then true else S x) (fun x => if x = gx b i then gx b (I i) else I x) := by
  obtain ⟨h1, h2, h3⟩ := h
  have ne : ∀ x, S x = true → x ≠ gx b i := fun x hx e => by rw [e, hn] at hx; exact absurd hx (by decide)
  refine ⟨?_, ?_, ?_⟩
  · show (if 0 = gx b i then true else S 0) = true
    rw [if_neg (ne 0 h1)]; exact h1
  · show (if 0 = gx b i then gx b (I i) else I 0) = 32
    rw [if_neg (ne 0 h1)]; exact h2
  · intro x
    show (if x = gx b i then true else S x) = true → x < n0 ∧ ∃ w, x = rn gx 0 w ∧ (if x = gx b i then gx b (I i) else I x) = rn gx 32 w
    by_cases z : x = gx b i
    · intro _
      obtain ⟨_, w, e1, e2⟩ := h3 i hi
      refine ⟨by rw [z]; exact hv, w ++ [b], ?_, ?_⟩
      · rw [rn_sn, ← e1]; exact z
      · rw [if_pos z, rn_sn, ← e2]
    · rw [if_neg z, if_neg z]; exact h3 x
theorem IA_new {im : Nat → Int32} {S : Nat → Bool} {I : Nat → Nat} (h : IA im S I) (t v : Nat) : IA (upd im t (nI v)) (fun x => if x = t then true else S x) (fun x => if x = t then v else I x) := by
  intro x hx
  show _ = if (if x = t then true else S x) = true then nI (if x = t then v else I x) else -1
  by_cases z : x = t
  · rw [if_pos z, if_pos z, if_pos rfl, z, pk_us]
  · rw [if_neg z, if_neg z, pk_un z]; exact h x hx
theorem uS_new {S : Nat → Bool} {t : Nat} (ht : t < 32) (hn : S t = false) : uS (fun x => if x = t then true else S x) < uS S := by
  refine cn_lt 32 ?_ ⟨t, ht, ?_, ?_⟩
  · intro i _
    show (!(if i = t then true else S i)) = true → (!S i) = true
    by_cases z : i = t
    · rw [if_pos z]; intro q; exact absurd q (by decide)
    · rw [if_neg z]; exact id
  · show (!(if t = t then true else S t)) = false
    rw [if_pos rfl]; rfl
  · show (!S t) = true
    rw [hn]; rfl
/-- after both letters of state i -/
def LY (gx : Bool → Nat → Nat) (n0 i : Nat) (S : Nat → Bool) (I : Nat → Nat) (mv : Bool) (S2 : Nat → Bool) (I2 : Nat → Nat) (mv2 : Bool) : Prop := IM gx n0 S2 I2 ∧ (∀ x, S x = true → S2 x = true ∧ I2 x = I x) ∧ (∀ b, S2 (gx b i) = true) ∧ uS S2 ≤ uS S ∧ (mv2 = false → mv = false ∧ S2 = S ∧ I2 = I) ∧ (mv2 = true → mv = true ∨ uS S2 < uS S)
section layon
variable {f_openStates f_openBegin f_openEnd f_plainCount f_classes f_listed : Int32} {a_arrows a_begins a_finals a_openTo a_plainSet a_plainEnd a_plainNext a_classOf a_newClass a_differs a_waits a_members a_sideNext a_sideEnd a_sideCount a_joined a_image a_pairA a_pairB a_pairFrom a_pairLetter a_seen a_words a_more : Nat → Int32}
theorem ly_on {post : Int32 → SX → Prop} {n0 n1 l i : Nat} {b : Bool} {gx : Bool → Nat → Nat} {ge : Nat → Bool} {S : Nat → Bool} {I : Nat → Nat} {im : Nat → Int32} (G : GS (g2v n0 n1) gx ge a_sideEnd a_sideNext) (h0 : n0 ≤ 32) (h1 : n1 ≤ 32) (hx0 : ∀ x, x < n0 → ∀ b, gx b x < n0) (hx1 : ∀ w, g2v n0 n1 (rn gx 32 w)) (hM : IM gx n0 S I) (hA : IA im S I) (hi : S i = true) (hb : b.toNat = l) (p0 : S (gx b i) = true → post 0 (f_openStates, f_openBegin, f_openEnd, f_plainCount, f_classes, f_listed, a_arrows, a_begins, a_finals, a_openTo, a_plainSet, a_plainEnd, a_plainNext, a_classOf, a_newClass, a_differs, a_waits, a_members, a_sideNext, a_sideEnd, a_sideCount, a_joined, im, a_pairA, a_pairB, a_pairFrom, a_pairLetter, a_seen, a_words, a_more)) (p1 : S (gx b i) = false → ∀ im' : Nat → Int32, IA im' (fun x => if x = gx b i then true else S x) (fun x => if x = gx b i then gx b (I i) else I x) → post 1 (f_openStates, f_openBegin, f_openEnd, f_plainCount, f_classes, f_listed, a_arrows, a_begins, a_finals, a_openTo, a_plainSet, a_plainEnd, a_plainNext, a_classOf, a_newClass, a_differs, a_waits, a_members, a_sideNext, a_sideEnd, a_sideCount, a_joined, im', a_pairA, a_pairB, a_pairFrom, a_pairLetter, a_seen, a_words, a_more)) : wpX_layOn post (f_openStates, f_openBegin, f_openEnd, f_plainCount, f_classes, f_listed, a_arrows, a_begins, a_finals, a_openTo, a_plainSet, a_plainEnd, a_plainNext, a_classOf, a_newClass, a_differs, a_waits, a_members, a_sideNext, a_sideEnd, a_sideCount, a_joined, im, a_pairA, a_pairB, a_pairFrom, a_pairLetter, a_seen, a_words, a_more) (nI i) (nI l) := by
  have hl := tb_lt b
  rw [hb] at hl
  obtain ⟨hi0, w, e1, e2⟩ := hM.2.2 i hi
  have gi := (G i (Or.inl hi0)).2.2 b
  have vI : g2v n0 n1 (I i) := by rw [e2]; exact hx1 w
  have gI := G (I i) vI
  have gI2 := gI.2.2 b
  have hto := hx0 i hi0 b
  have eim := hA i (by omega)
  rw [if_pos hi] at eim
  have s1 := gi.1
  have s2 := gI2.1
  rw [hb] at s1 s2
  have l64 := (G _ gI2.2).1
  have lI := gI.1
  unfold wpX_layOn
  dsimp only
  rw [m2l, nI_clamp (by omega : 2 * i + l < 2 ^ 31), s1]
  refine And.intro (vp_in_nI (by omega) (by omega)) (nm_e (And.intro (vp_in_nI (by omega) (by omega)) ?_))
  rw [nI_clamp (by omega : gx b i < 2 ^ 31), nI_clamp (by omega : i < 2 ^ 31), eim, m2l, nI_clamp (by omega : 2 * I i + l < 2 ^ 31), s2, bs_v8 (by omega), hA (gx b i) (by omega)]
  cases q : S (gx b i)
  · rw [if_neg (by decide)]
    exact br_t (by decide) (And.intro (vp_in_nI (by omega) (by omega)) (And.intro (vp_in_nI (by omega) (by omega)) (And.intro (vp_in_nI (by omega) (by omega)) (nm_e (p1 q _ (IA_new hA _ _))))))
  · rw [if_pos rfl]
    have vt : g2v n0 n1 (I (gx b i)) := by
      obtain ⟨_, w', _, e2'⟩ := hM.2.2 _ q
      rw [e2']; exact hx1 w'
    have := (G _ vt).1
    exact br_f (nI_pos (by omega)) (p0 q)
theorem fi_on {post : Int32 → Prop} {n0 n1 l i : Nat} {b : Bool} {gx : Bool → Nat → Nat} {ge : Nat → Bool} {S : Nat → Bool} {I : Nat → Nat} {im : Nat → Int32} (G : GS (g2v n0 n1) gx ge a_sideEnd a_sideNext) (h0 : n0 ≤ 32) (h1 : n1 ≤ 32) (hx0 : ∀ x, x < n0 → ∀ b, gx b x < n0) (hx1 : ∀ w, g2v n0 n1 (rn gx 32 w)) (hM : IM gx n0 S I) (hA : IA im S I) (hi : S i = true) (hb : b.toNat = l) (hs : S (gx b i) = true) (p1 : I (gx b i) = gx b (I i) → post 1) (p0 : I (gx b i) ≠ gx b (I i) → post 0) : wpX_fitsOn post (f_openStates, f_openBegin, f_openEnd, f_plainCount, f_classes, f_listed, a_arrows, a_begins, a_finals, a_openTo, a_plainSet, a_plainEnd, a_plainNext, a_classOf, a_newClass, a_differs, a_waits, a_members, a_sideNext, a_sideEnd, a_sideCount, a_joined, im, a_pairA, a_pairB, a_pairFrom, a_pairLetter, a_seen, a_words, a_more) (nI i) (nI l) := by
  have hl := tb_lt b
  rw [hb] at hl
  obtain ⟨hi0, w, e1, e2⟩ := hM.2.2 i hi
  have gi := (G i (Or.inl hi0)).2.2 b
  have vI : g2v n0 n1 (I i) := by rw [e2]; exact hx1 w
  have gI := G (I i) vI
  have gI2 := gI.2.2 b
  have hto := hx0 i hi0 b
  have eim := hA i (by omega)
  rw [if_pos hi] at eim
  have s1 := gi.1
  have s2 := gI2.1
  rw [hb] at s1 s2
  have l64 := (G _ gI2.2).1
  have lI := gI.1
  have eit := hA (gx b i) (by omega)
  rw [if_pos hs] at eit
  have vt : g2v n0 n1 (I (gx b i)) := by
    obtain ⟨_, w', _, e2'⟩ := hM.2.2 _ hs
    rw [e2']; exact hx1 w'
  have lt := (G _ vt).1
  unfold wpX_fitsOn
  dsimp only
  rw [m2l, nI_clamp (by omega : 2 * i + l < 2 ^ 31), s1]
  refine And.intro (vp_in_nI (by omega) (by omega)) (nm_e (And.intro (vp_in_nI (by omega) (by omega)) ?_))
  rw [nI_clamp (by omega : gx b i < 2 ^ 31), nI_clamp (by omega : i < 2 ^ 31), eim, m2l, nI_clamp (by omega : 2 * I i + l < 2 ^ 31), s2, eit]
  exact And.intro (vp_in_nI (by omega) (by omega)) (And.intro (vp_in_nI (by omega) (by omega)) (pk_eq (I (gx b i)) (gx b (I i)) p1 p0))
theorem ly_120 {post : Int32 → SX → Prop} {J60 : Int32 → Int32 → Int32 → Int32 → Int32 → Int32 → Int32 → Int32 → (Nat → Int32) → (Nat → Int32) → (Nat → Int32) → (Nat → Int32) → (Nat → Int32) → (Nat → Int32) → (Nat → Int32) → (Nat → Int32) → (Nat → Int32) → (Nat → Int32) → (Nat → Int32) → (Nat → Int32) → (Nat → Int32) → (Nat → Int32) → (Nat → Int32) → (Nat → Int32) → (Nat → Int32) → (Nat → Int32) → (Nat → Int32) → (Nat → Int32) → (Nat → Int32) → (Nat → Int32) → (Nat → Int32) → (Nat → Int32) → Prop} {J72 : Int32 → Int32 → Int32 → Int32 → Int32 → Int32 → Int32 → Int32 → Int32 → (Nat → Int32) → (Nat → Int32) → (Nat → Int32) → (Nat → Int32) → (Nat → Int32) → (Nat → Int32) → (Nat → Int32) → (Nat → Int32) → (Nat → Int32) → (Nat → Int32) → (Nat → Int32) → (Nat → Int32) → (Nat → Int32) → (Nat → Int32) → (Nat → Int32) → (Nat → Int32) → (Nat → Int32) → (Nat → Int32) → (Nat → Int32) → (Nat → Int32) → (Nat → Int32) → (Nat → Int32) → (Nat → Int32) → (Nat → Int32) → Prop} {n0 n1 i : Nat} {z mv : Bool} {gx : Bool → Nat → Nat} {ge : Nat → Bool} {S : Nat → Bool} {I : Nat → Nat} {im : Nat → Int32} (G : GS (g2v n0 n1) gx ge a_sideEnd a_sideNext) (h0 : n0 ≤ 32) (h1 : n1 ≤ 32) (hx0 : ∀ x, x < n0 → ∀ b, gx b x < n0) (hx1 : ∀ w, g2v n0 n1 (rn gx 32 w)) (hM : IM gx n0 S I) (hA : IA im S I) (hi : S i = true) (h : ∀ (S2 : Nat → Bool) (I2 : Nat → Nat) (mv2 : Bool) (im2 : Nat → Int32), IA im2 S2 I2 → LY gx n0 i S I mv S2 I2 mv2 → wX_equalByLeast_146 post J60 J72 (bi z) (nI i) (bi mv2) f_openStates f_openBegin f_openEnd f_plainCount f_classes f_listed a_arrows a_begins a_finals a_openTo a_plainSet a_plainEnd a_plainNext a_classOf a_newClass a_differs a_waits a_members a_sideNext a_sideEnd a_sideCount a_joined im2 a_pairA a_pairB a_pairFrom a_pairLetter a_seen a_words a_more) : wX_equalByLeast_120 post J60 J72 (bi mv) (nI i) (bi z) f_openStates f_openBegin f_openEnd f_plainCount f_classes f_listed a_arrows a_begins a_finals a_openTo a_plainSet a_plainEnd a_plainNext a_classOf a_newClass a_differs a_waits a_members a_sideNext a_sideEnd a_sideCount a_joined im a_pairA a_pairB a_pairFrom a_pairLetter a_seen a_words a_more := by
  have hi0 := (hM.2.2 i hi).1
  have ne : ∀ (b : Bool) (x : Nat), S (gx b i) = false → S x = true → x ≠ gx b i := fun b x hn hx e => by rw [e, hn] at hx; exact absurd hx (by decide)
  refine ly_on (b := false) (l := 0) G h0 h1 hx0 hx1 hM hA hi rfl (fun q0 => ?_) (fun q0 im1 hA1 => ?_)
  · refine ly_on (b := true) (l := 1) G h0 h1 hx0 hx1 hM hA hi rfl (fun q1 => ?_) (fun q1 im2 hA2 => ?_)
    · refine br_t (by decide) ?_
      have Y : LY gx n0 i S I mv S I mv := ⟨hM, fun x hx => ⟨hx, rfl⟩, fun b => by cases b; exact q0; exact q1, Nat.le_refl _, fun e => ⟨e, rfl, rfl⟩, fun e => Or.inl e⟩
      have X := h S I mv im hA Y
      refine bi_z (fun e => ?_) (fun e => ?_)
      · rw [e] at X; exact X
      · rw [e] at X; exact X
    · refine br_f (by decide) (h _ _ true im2 hA2 ⟨IM_new hM hi (hx0 i hi0 true) q1, ?_, ?_, Nat.le_of_lt (uS_new (by have := hx0 i hi0 true; omega) q1), fun e => absurd e (by decide), fun _ => Or.inr (uS_new (by have := hx0 i hi0 true; omega) q1)⟩)
      · intro x hx
        show (if x = gx true i then true else S x) = true ∧ (if x = gx true i then gx true (I i) else I x) = I x
        rw [if_neg (ne true x q1 hx), if_neg (ne true x q1 hx)]; exact ⟨hx, rfl⟩
      · intro b
        show (if gx b i = gx true i then true else S (gx b i)) = true
        cases b
        · by_cases e : gx false i = gx true i
          · rw [if_pos e]
          · rw [if_neg e]; exact q0
        · rw [if_pos rfl]
  · have hM1 := IM_new hM hi (hx0 i hi0 false) q0
    have hi1 : (if i = gx false i then true else S i) = true := by rw [if_neg (ne false i q0 hi)]; exact hi
    have u1 := uS_new (by have := hx0 i hi0 false; omega : gx false i < 32) q0
    have k1 : ∀ x, S x = true → (if x = gx false i then true else S x) = true ∧ (if x = gx false i then gx false (I i) else I x) = I x := by
      intro x hx
      rw [if_neg (ne false x q0 hx), if_neg (ne false x q0 hx)]; exact ⟨hx, rfl⟩
    refine ly_on (b := true) (l := 1) G h0 h1 hx0 hx1 hM1 hA1 hi1 rfl (fun q1 => ?_) (fun q1 im2 hA2 => ?_)
    · refine br_f (by decide) (h _ _ true im1 hA1 ⟨hM1, k1, ?_, Nat.le_of_lt u1, fun e => absurd e (by decide), fun _ => Or.inr u1⟩)
      intro b
      cases b
      · show (if gx false i = gx false i then true else S (gx false i)) = true
        rw [if_pos rfl]
      · exact q1
    · have u2 := uS_new (S := fun x => if x = gx false i then true else S x) (by have := hx0 i hi0 true; omega : gx true i < 32) q1
      refine br_f (by decide) (h _ _ true im2 hA2 ⟨IM_new hM1 hi1 (hx0 i hi0 true) q1, ?_, ?_, by omega, fun e => absurd e (by decide), fun _ => Or.inr (by omega)⟩)
      · intro x hx
        have hx2 := k1 x hx
        have ne2 : x ≠ gx true i := by
          intro e
          have q1' : (if gx true i = gx false i then true else S (gx true i)) = false := q1
          have hx2' := hx2.1
          rw [e, q1'] at hx2'
          exact absurd hx2' (by decide)
        show (if x = gx true i then true else if x = gx false i then true else S x) = true ∧ (if x = gx true i then gx true (if i = gx false i then gx false (I i) else I i) else if x = gx false i then gx false (I i) else I x) = I x
        rw [if_neg ne2, if_neg ne2]; exact hx2
      · intro b
        show (if gx b i = gx true i then true else if gx b i = gx false i then true else S (gx b i)) = true
        cases b
        · by_cases e : gx false i = gx true i
          · rw [if_pos e]
          · rw [if_neg e, if_pos rfl]
        · rw [if_pos rfl]
theorem ly_146 {post : Int32 → SX → Prop} {J60 : Int32 → Int32 → Int32 → Int32 → Int32 → Int32 → Int32 → Int32 → (Nat → Int32) → (Nat → Int32) → (Nat → Int32) → (Nat → Int32) → (Nat → Int32) → (Nat → Int32) → (Nat → Int32) → (Nat → Int32) → (Nat → Int32) → (Nat → Int32) → (Nat → Int32) → (Nat → Int32) → (Nat → Int32) → (Nat → Int32) → (Nat → Int32) → (Nat → Int32) → (Nat → Int32) → (Nat → Int32) → (Nat → Int32) → (Nat → Int32) → (Nat → Int32) → (Nat → Int32) → (Nat → Int32) → (Nat → Int32) → Prop} {J72 : Int32 → Int32 → Int32 → Int32 → Int32 → Int32 → Int32 → Int32 → Int32 → (Nat → Int32) → (Nat → Int32) → (Nat → Int32) → (Nat → Int32) → (Nat → Int32) → (Nat → Int32) → (Nat → Int32) → (Nat → Int32) → (Nat → Int32) → (Nat → Int32) → (Nat → Int32) → (Nat → Int32) → (Nat → Int32) → (Nat → Int32) → (Nat → Int32) → (Nat → Int32) → (Nat → Int32) → (Nat → Int32) → (Nat → Int32) → (Nat → Int32) → (Nat → Int32) → (Nat → Int32) → (Nat → Int32) → (Nat → Int32) → Prop} {n0 n1 i : Nat} {z mv : Bool} {gx : Bool → Nat → Nat} {ge : Nat → Bool} {S : Nat → Bool} {I : Nat → Nat} {im : Nat → Int32} (G : GS (g2v n0 n1) gx ge a_sideEnd a_sideNext) (h0 : n0 ≤ 32) (h1 : n1 ≤ 32) (hx0 : ∀ x, x < n0 → ∀ b, gx b x < n0) (hx1 : ∀ w, g2v n0 n1 (rn gx 32 w)) (hM : IM gx n0 S I) (hA : IA im S I) (hi : S i = true) (hs : ∀ b, S (gx b i) = true) (h : ∀ z' : Bool, (z' = true ↔ z = true ∧ ∀ b, I (gx b i) = gx b (I i)) → J72 (bi z') (bi mv) (nI (i + 1)) f_openStates f_openBegin f_openEnd f_plainCount f_classes f_listed a_arrows a_begins a_finals a_openTo a_plainSet a_plainEnd a_plainNext a_classOf a_newClass a_differs a_waits a_members a_sideNext a_sideEnd a_sideCount a_joined im a_pairA a_pairB a_pairFrom a_pairLetter a_seen a_words a_more) : wX_equalByLeast_146 post J60 J72 (bi z) (nI i) (bi mv) f_openStates f_openBegin f_openEnd f_plainCount f_classes f_listed a_arrows a_begins a_finals a_openTo a_plainSet a_plainEnd a_plainNext a_classOf a_newClass a_differs a_waits a_members a_sideNext a_sideEnd a_sideCount a_joined im a_pairA a_pairB a_pairFrom a_pairLetter a_seen a_words a_more := by
  refine bi_z (fun e => nm_r (nI_1 i) (h false ⟨fun q => absurd q (by decide), fun q => by rw [e] at q; exact absurd q.1 (by decide)⟩)) (fun e => fi_on (b := false) (l := 0) G h0 h1 hx0 hx1 hM hA hi rfl (hs false) (fun q0 => br_f bs_10 (fi_on (b := true) (l := 1) G h0 h1 hx0 hx1 hM hA hi rfl (hs true) (fun q1 => br_f bs_10 (nm_r (nI_1 i) (h true ⟨fun _ => ⟨e, fun b => by cases b; exact q0; exact q1⟩, fun _ => rfl⟩))) (fun q1 => br_t rfl (nm_r (nI_1 i) (h false ⟨fun q => absurd q (by decide), fun q => absurd (q.2 true) q1⟩))))) (fun q0 => br_t rfl (nm_r (nI_1 i) (h false ⟨fun q => absurd q (by decide), fun q => absurd (q.2 false) q0⟩))))
/-- a pass up to state i, from the images S0 -/
def PA (gx : Bool → Nat → Nat) (ge : Nat → Bool) (n0 i : Nat) (S0 : Nat → Bool) (z mv : Bool) (S : Nat → Bool) (I : Nat → Nat) : Prop := IM gx n0 S I ∧ (z = false → ¬ ∀ w, ge (rn gx 0 w) = ge (rn gx 32 w)) ∧ (z = true → mv = false → ∀ j, j < i → S j = true → Fit gx ge S I j) ∧ uS S ≤ uS S0 ∧ (mv = true → uS S < uS S0)
theorem el_72 {post : Int32 → SX → Prop} {J60 : Int32 → Int32 → Int32 → Int32 → Int32 → Int32 → Int32 → Int32 → (Nat → Int32) → (Nat → Int32) → (Nat → Int32) → (Nat → Int32) → (Nat → Int32) → (Nat → Int32) → (Nat → Int32) → (Nat → Int32) → (Nat → Int32) → (Nat → Int32) → (Nat → Int32) → (Nat → Int32) → (Nat → Int32) → (Nat → Int32) → (Nat → Int32) → (Nat → Int32) → (Nat → Int32) → (Nat → Int32) → (Nat → Int32) → (Nat → Int32) → (Nat → Int32) → (Nat → Int32) → (Nat → Int32) → (Nat → Int32) → Prop} {n0 n1 : Nat} {gx : Bool → Nat → Nat} {ge : Nat → Bool} {S0 : Nat → Bool} (G : GS (g2v n0 n1) gx ge a_sideEnd a_sideNext) (h0 : n0 ≤ 32) (h1 : n1 ≤ 32) (hx0 : ∀ x, x < n0 → ∀ b, gx b x < n0) (hx1 : ∀ w, g2v n0 n1 (rn gx 32 w)) (hds : ∀ w w' : List Bool, (∀ v, ge (rn gx (rn gx 32 w) v) = ge (rn gx (rn gx 32 w') v)) → rn gx 32 w = rn gx 32 w') (hsc : a_sideCount 0 = nI n0) (h : ∀ (z mv : Bool) (S : Nat → Bool) (I : Nat → Nat) (im : Nat → Int32) (i : Nat), IA im S I → PA gx ge n0 i S0 z mv S I → (z = true → n0 ≤ i) → J60 (bi z) (bi mv) f_openStates f_openBegin f_openEnd f_plainCount f_classes f_listed a_arrows a_begins a_finals a_openTo a_plainSet a_plainEnd a_plainNext a_classOf a_newClass a_differs a_waits a_members a_sideNext a_sideEnd a_sideCount a_joined im a_pairA a_pairB a_pairFrom a_pairLetter a_seen a_words a_more) : ∀ d i (z mv : Bool) (S : Nat → Bool) (I : Nat → Nat) (im : Nat → Int32), i + d = n0 → IA im S I → PA gx ge n0 i S0 z mv S I → wX_equalByLeast_72 post J60 (d + 1) (bi z) (bi mv) (nI i) f_openStates f_openBegin f_openEnd f_plainCount f_classes f_listed a_arrows a_begins a_finals a_openTo a_plainSet a_plainEnd a_plainNext a_classOf a_newClass a_differs a_waits a_members a_sideNext a_sideEnd a_sideCount a_joined im a_pairA a_pairB a_pairFrom a_pairLetter a_seen a_words a_more := by
  intro d
  induction d with
  | zero =>
    intro i z mv S I im e hA hP
    refine br_t ?_ (h z mv S I im i hA hP (fun _ => by omega))
    rw [hsc]; exact nI_le (by omega) (by omega)
  | succ d ih =>
    intro i z mv S I im e hA hP
    obtain ⟨hM, hz, hf, hu, hm⟩ := hP
    refine br_f (by rw [hsc]; exact nI_ge (by omega) (by omega)) (bi_z (fun q => ?_) (fun q => ?_))
    · have X := h z mv S I im i hA ⟨hM, hz, hf, hu, hm⟩ (fun y => by rw [q] at y; exact absurd y (by decide))
      rw [q] at X
      rw [q]; exact X
    · subst q
      rw [nI_clamp (by omega : i < 2 ^ 31), hA i (by omega)]
      cases hS : S i
      · rw [if_neg (by decide)]
        refine And.intro (vp_in_nI (by omega) (by omega)) (br_t (by decide) (nm_r (nI_1 i) (ih (i + 1) true mv S I im (by omega) hA ⟨hM, hz, fun y x j hj hSj => ?_, hu, hm⟩)))
        by_cases w : j = i
        · rw [w, hS] at hSj; exact absurd hSj (by decide)
        · exact hf y x j (by omega) hSj
      · rw [if_pos rfl]
        obtain ⟨hi0, w, e1, e2⟩ := hM.2.2 i hS
        have gi := G i (Or.inl hi0)
        have vI : g2v n0 n1 (I i) := by rw [e2]; exact hx1 w
        have gI := G (I i) vI
        have lI := gI.1
        have goon : ∀ c : Bool, (c = true ↔ ge i = ge (I i)) → wX_equalByLeast_120 post J60 (wX_equalByLeast_72 post J60 (d + 1)) (bi mv) (nI i) (bi c) f_openStates f_openBegin f_openEnd f_plainCount f_classes f_listed a_arrows a_begins a_finals a_openTo a_plainSet a_plainEnd a_plainNext a_classOf a_newClass a_differs a_waits a_members a_sideNext a_sideEnd a_sideCount a_joined im a_pairA a_pairB a_pairFrom a_pairLetter a_seen a_words a_more := by
          intro c hc
          refine ly_120 G h0 h1 hx0 hx1 hM hA hS (fun S2 I2 mv2 im2 hA2 Y => ly_146 G h0 h1 hx0 hx1 Y.1 hA2 (Y.2.1 i hS).1 Y.2.2.1 (fun z' hz' => ih (i + 1) z' mv2 S2 I2 im2 (by omega) hA2 ⟨Y.1, ?_, ?_, Nat.le_trans Y.2.2.2.1 hu, ?_⟩))
          · intro ez hLeq
            -- something does not fit: the languages differ
            have ci : c = true := hc.mpr (by rw [e2]; have := hLeq w; rw [← e1] at this; exact this)
            have fitall : ∀ b, I2 (gx b i) = gx b (I2 i) := by
              intro b
              have iI := (Y.2.1 i hS).2
              obtain ⟨_, w', e3, e4⟩ := Y.1.2.2 _ (Y.2.2.1 b)
              have t : gx b (I2 i) = rn gx 32 (w ++ [b]) := by rw [iI, e2, rn_sn]
              have t0 : gx b i = rn gx 0 (w ++ [b]) := by rw [rn_sn, ← e1]
              rw [e4, t]
              apply hds
              intro v
              rw [← rn_app, ← rn_app, ← hLeq, ← hLeq, rn_app, rn_app, ← e3, ← t0]
            have := hz'.mpr ⟨ci, fitall⟩
            rw [ez] at this
            exact absurd this (by decide)
          · intro ez em j hj hSj
            obtain ⟨m1, m2', m3⟩ := Y.2.2.2.2.1 em
            subst m2' m3
            have hz2 := hz'.mp ez
            by_cases y : j = i
            · rw [y]; exact ⟨hc.mp hz2.1, fun b => ⟨Y.2.2.1 b, hz2.2 b⟩⟩
            · exact hf rfl m1 j (by omega) hSj
          · intro em
            rcases Y.2.2.2.2.2 em with y | y
            · have := hm y; have := Y.2.2.2.1; omega
            · omega
        rw [nI_clamp (by omega : I i < 2 ^ 31), gi.2.1, gI.2.1]
        exact And.intro (vp_in_nI (by omega) (by omega)) (br_f (nI_pos (by omega)) (And.intro (vp_in_nI (by omega) (by omega)) (And.intro (vp_in_nI (by omega) (by omega)) (And.intro (vp_in_nI lI (by omega)) (bi_e (fun y => goon true ⟨fun _ => y, fun _ => rfl⟩) (fun y => goon false ⟨fun x => absurd x (by decide), fun x => absurd x y⟩))))))
theorem el_60 {post : Int32 → SX → Prop} {n0 n1 : Nat} {gx : Bool → Nat → Nat} {ge : Nat → Bool} (G : GS (g2v n0 n1) gx ge a_sideEnd a_sideNext) (h0 : n0 ≤ 32) (h1 : n1 ≤ 32) (hx0 : ∀ x, x < n0 → ∀ b, gx b x < n0) (hx1 : ∀ w, g2v n0 n1 (rn gx 32 w)) (hds : ∀ w w' : List Bool, (∀ v, ge (rn gx (rn gx 32 w) v) = ge (rn gx (rn gx 32 w') v)) → rn gx 32 w = rn gx 32 w') (hsc : a_sideCount 0 = nI n0) (p1 : (∀ w, ge (rn gx 0 w) = ge (rn gx 32 w)) → ∀ im : Nat → Int32, post 1 (f_openStates, f_openBegin, f_openEnd, f_plainCount, f_classes, f_listed, a_arrows, a_begins, a_finals, a_openTo, a_plainSet, a_plainEnd, a_plainNext, a_classOf, a_newClass, a_differs, a_waits, a_members, a_sideNext, a_sideEnd, a_sideCount, a_joined, im, a_pairA, a_pairB, a_pairFrom, a_pairLetter, a_seen, a_words, a_more)) (p0 : (¬ ∀ w, ge (rn gx 0 w) = ge (rn gx 32 w)) → ∀ im : Nat → Int32, post 0 (f_openStates, f_openBegin, f_openEnd, f_plainCount, f_classes, f_listed, a_arrows, a_begins, a_finals, a_openTo, a_plainSet, a_plainEnd, a_plainNext, a_classOf, a_newClass, a_differs, a_waits, a_members, a_sideNext, a_sideEnd, a_sideCount, a_joined, im, a_pairA, a_pairB, a_pairFrom, a_pairLetter, a_seen, a_words, a_more)) : ∀ d (z mv : Bool) (S0 S : Nat → Bool) (I : Nat → Nat) (im : Nat → Int32) (i : Nat), IA im S I → PA gx ge n0 i S0 z mv S I → (z = true → mv = false → n0 ≤ i) → (z = true → mv = true → uS S ≤ d) → wX_equalByLeast_60 post (d + 2) (bi z) (bi mv) f_openStates f_openBegin f_openEnd f_plainCount f_classes f_listed a_arrows a_begins a_finals a_openTo a_plainSet a_plainEnd a_plainNext a_classOf a_newClass a_differs a_waits a_members a_sideNext a_sideEnd a_sideCount a_joined im a_pairA a_pairB a_pairFrom a_pairLetter a_seen a_words a_more := by
  have stop : ∀ (n : Nat) (z mv : Bool) (S0 S : Nat → Bool) (I : Nat → Nat) (im : Nat → Int32) (i : Nat), IA im S I → PA gx ge n0 i S0 z mv S I → (z = true → mv = false → n0 ≤ i) → (z = true → mv = false) → wX_equalByLeast_60 post (n + 1) (bi z) (bi mv) f_openStates f_openBegin f_openEnd f_plainCount f_classes f_listed a_arrows a_begins a_finals a_openTo a_plainSet a_plainEnd a_plainNext a_classOf a_newClass a_differs a_waits a_members a_sideNext a_sideEnd a_sideCount a_joined im a_pairA a_pairB a_pairFrom a_pairLetter a_seen a_words a_more := by
    intro n z mv S0 S I im i hA hP hn hq
    cases ez : z
    · have := p0 (hP.2.1 ez) im
      cases mv
      · exact br_t rfl (And.intro (bi_n false) this)
      · exact br_f bs_10 (br_t rfl (And.intro (bi_n false) this))
    · have em := hq ez
      rw [em]
      refine br_t rfl (And.intro (bi_n true) (p1 (Fit_all hP.1 (fun j hj => hP.2.2.1 ez em j ?_ hj)) im))
      have := (hP.1.2.2 j hj).1
      have := hn ez em
      omega
  intro d
  induction d with
  | zero =>
    intro z mv S0 S I im i hA hP hn hd
    cases ez : z
    · rw [ez] at hP; exact stop 1 false mv S0 S I im i hA hP (fun y => absurd y (by decide)) (fun y => absurd y (by decide))
    · cases em : mv
      · rw [ez, em] at hP; exact stop 1 true false S0 S I im i hA hP (fun _ _ => hn ez em) (fun _ => rfl)
      · have u0 := hd ez em
        refine br_f bs_10 (br_f bs_10 (Exists.intro (n0 + 1) (el_72 (S0 := S) G h0 h1 hx0 hx1 hds hsc (fun z' mv' S' I' im' i' hA' hP' hn' => stop 0 z' mv' S S' I' im' i' hA' hP' (fun y _ => hn' y) (fun y => ?_)) n0 0 true false S I im (by omega) hA ⟨hP.1, fun y => absurd y (by decide), fun _ _ j hj => absurd hj (Nat.not_lt_zero j), Nat.le_refl _, fun y => absurd y (by decide)⟩)))
        cases em' : mv'
        · rfl
        · have := hP'.2.2.2.2 em'; omega
  | succ d ih =>
    intro z mv S0 S I im i hA hP hn hd
    cases ez : z
    · rw [ez] at hP; exact stop (d + 2) false mv S0 S I im i hA hP (fun y => absurd y (by decide)) (fun y => absurd y (by decide))
    · cases em : mv
      · rw [ez, em] at hP; exact stop (d + 2) true false S0 S I im i hA hP (fun _ _ => hn ez em) (fun _ => rfl)
      · have u0 := hd ez em
        refine br_f bs_10 (br_f bs_10 (Exists.intro (n0 + 1) (el_72 (S0 := S) G h0 h1 hx0 hx1 hds hsc (fun z' mv' S' I' im' i' hA' hP' hn' => ih z' mv' S S' I' im' i' hA' hP' (fun y _ => hn' y) (fun _ y => ?_)) n0 0 true false S I im (by omega) hA ⟨hP.1, fun y => absurd y (by decide), fun _ _ j hj => absurd hj (Nat.not_lt_zero j), Nat.le_refl _, fun y => absurd y (by decide)⟩)))
        have := hP'.2.2.2.2 y; omega
theorem el_29 {post : Int32 → SX → Prop} {n0 n1 : Nat} {gx : Bool → Nat → Nat} {ge : Nat → Bool} (G : GS (g2v n0 n1) gx ge a_sideEnd a_sideNext) (h0 : n0 ≤ 32) (hp : 0 < n0) (h1 : n1 ≤ 32) (hx0 : ∀ x, x < n0 → ∀ b, gx b x < n0) (hx1 : ∀ w, g2v n0 n1 (rn gx 32 w)) (hds : ∀ w w' : List Bool, (∀ v, ge (rn gx (rn gx 32 w) v) = ge (rn gx (rn gx 32 w') v)) → rn gx 32 w = rn gx 32 w') (hsc : a_sideCount 0 = nI n0) (p1 : (∀ w, ge (rn gx 0 w) = ge (rn gx 32 w)) → ∀ im : Nat → Int32, post 1 (f_openStates, f_openBegin, f_openEnd, f_plainCount, f_classes, f_listed, a_arrows, a_begins, a_finals, a_openTo, a_plainSet, a_plainEnd, a_plainNext, a_classOf, a_newClass, a_differs, a_waits, a_members, a_sideNext, a_sideEnd, a_sideCount, a_joined, im, a_pairA, a_pairB, a_pairFrom, a_pairLetter, a_seen, a_words, a_more)) (p0 : (¬ ∀ w, ge (rn gx 0 w) = ge (rn gx 32 w)) → ∀ im : Nat → Int32, post 0 (f_openStates, f_openBegin, f_openEnd, f_plainCount, f_classes, f_listed, a_arrows, a_begins, a_finals, a_openTo, a_plainSet, a_plainEnd, a_plainNext, a_classOf, a_newClass, a_differs, a_waits, a_members, a_sideNext, a_sideEnd, a_sideCount, a_joined, im, a_pairA, a_pairB, a_pairFrom, a_pairLetter, a_seen, a_words, a_more)) : ∀ d i (im : Nat → Int32), i + d = 32 → (∀ j, j < i → im j = -1) → wX_equalByLeast_29 post f_openStates f_openBegin f_openEnd f_plainCount f_classes f_listed (d + 1) (nI i) a_arrows a_begins a_finals a_openTo a_plainSet a_plainEnd a_plainNext a_classOf a_newClass a_differs a_waits a_members a_sideNext a_sideEnd a_sideCount a_joined im a_pairA a_pairB a_pairFrom a_pairLetter a_seen a_words a_more := by
  intro d
  induction d with
  | zero =>
    intro i im e hj
    rw [show i = 32 by omega] at hj ⊢
    have e32 : vp_nar .byte 32 = nI 32 := bs_v8 (n := 32) (by omega)
    refine br_t (by decide) ?_
    rw [e32]
    refine nm_e (Exists.intro 34 (el_60 G h0 h1 hx0 hx1 hds hsc p1 p0 32 true true (fun _ => false) (fun x => decide (x = 0)) (fun _ => 32) _ 0 ?_ ⟨⟨rfl, rfl, ?_⟩, fun y => absurd y (by decide), fun _ y => absurd y (by decide), ?_, ?_⟩ (fun _ y => absurd y (by decide)) (fun _ _ => cn_le _ _)))
    · intro x hx
      show _ = if decide (x = 0) = true then nI 32 else -1
      by_cases z : x = 0
      · rw [z, pk_us]; rfl
      · rw [pk_un z, hj x hx, decide_eq_false z]; rfl
    · intro x hx
      have : x = 0 := of_decide_eq_true hx
      exact ⟨by omega, [], this, rfl⟩
    · exact cn_mono 32 (fun i _ _ => rfl)
    · intro _
      exact cn_lt 32 (fun i _ _ => rfl) ⟨0, by omega, rfl, rfl⟩
  | succ d ih =>
    intro i im e hj
    refine br_f (nI_ge (b := 32) (by omega) (by omega)) ?_
    rw [nI_clamp (by omega), bs_m8]
    refine And.intro (vp_in_nI (by omega) (by omega)) (nm_e (nm_r (nI_1 i) (ih (i + 1) _ (by omega) ?_)))
    intro j hj'
    by_cases z : j = i
    · rw [z, pk_us]
    · rw [pk_un z]; exact hj j (by omega)
theorem el_all {post : Int32 → SX → Prop} (ok : Ok a_arrows a_begins a_finals) (h1 : (∀ w, Lg a_arrows a_begins a_finals 0 w ↔ Lg a_arrows a_begins a_finals 1 w) → ∀ f_openStates f_openBegin f_openEnd f_plainCount f_classes f_listed a_openTo a_plainSet a_plainEnd a_plainNext a_classOf a_newClass a_differs a_waits a_members a_sideNext a_sideEnd a_sideCount a_joined a_image a_pairA a_pairB a_pairFrom a_pairLetter a_seen a_words a_more, post 1 (f_openStates, f_openBegin, f_openEnd, f_plainCount, f_classes, f_listed, a_arrows, a_begins, a_finals, a_openTo, a_plainSet, a_plainEnd, a_plainNext, a_classOf, a_newClass, a_differs, a_waits, a_members, a_sideNext, a_sideEnd, a_sideCount, a_joined, a_image, a_pairA, a_pairB, a_pairFrom, a_pairLetter, a_seen, a_words, a_more)) (h0 : (¬ ∀ w, Lg a_arrows a_begins a_finals 0 w ↔ Lg a_arrows a_begins a_finals 1 w) → ∀ f_openStates f_openBegin f_openEnd f_plainCount f_classes f_listed a_openTo a_plainSet a_plainEnd a_plainNext a_classOf a_newClass a_differs a_waits a_members a_sideNext a_sideEnd a_sideCount a_joined a_image a_pairA a_pairB a_pairFrom a_pairLetter a_seen a_words a_more, post 0 (f_openStates, f_openBegin, f_openEnd, f_plainCount, f_classes, f_listed, a_arrows, a_begins, a_finals, a_openTo, a_plainSet, a_plainEnd, a_plainNext, a_classOf, a_newClass, a_differs, a_waits, a_members, a_sideNext, a_sideEnd, a_sideCount, a_joined, a_image, a_pairA, a_pairB, a_pairFrom, a_pairLetter, a_seen, a_words, a_more)) : wpX_equalByLeast post (f_openStates, f_openBegin, f_openEnd, f_plainCount, f_classes, f_listed, a_arrows, a_begins, a_finals, a_openTo, a_plainSet, a_plainEnd, a_plainNext, a_classOf, a_newClass, a_differs, a_waits, a_members, a_sideNext, a_sideEnd, a_sideCount, a_joined, a_image, a_pairA, a_pairB, a_pairFrom, a_pairLetter, a_seen, a_words, a_more) := by
  unfold wpX_equalByLeast
  dsimp only
  refine pl_put (m := 0) (by omega) ok (fun o0 pc0 ps0 pe0 pn0 co0 nc0 n0 nx0 en0 se0 sn0 hN0 P0 Q0 K0 D0 k1 k2 => ?_)
  refine pl_put (m := 1) (by omega) ok (fun o pc ps pe pn co nc n1 nx1 en1 se sn hN1 P1 Q1 K1 D1 k3 k4 => ?_)
  have G := as_G hN0 hN1 P0.2.1 P1.2.1 D0 D1 k3 k4
  have hL : (∀ w, Lg a_arrows a_begins a_finals 0 w ↔ Lg a_arrows a_begins a_finals 1 w) ↔ ∀ w, g2e en0 en1 (rn (g2x nx0 nx1) 0 w) = g2e en0 en1 (rn (g2x nx0 nx1) 32 w) := by
    constructor
    · intro hh w
      have l := g2_L hN0 P0 P1 w
      apply Bool.eq_iff_iff.mpr
      rw [← l.1, ← l.2]; exact hh w
    · intro hh w
      have l := g2_L hN0 P0 P1 w
      rw [l.1, l.2, hh w]
  dsimp only
  rw [pk_us, pk_un (by omega : (0 : Nat) ≠ 1), pk_us]
  refine pk_eq n0 n1 (fun e => ?_) (fun e => h0 (fun hh => e ?_) _ _ _ _ _ _ _ _ _ _ _ _ _ _ _ _ _ _ _ _ _ _ _ _ _ _ _)
  · have hr : ∀ w, rn (g2x nx0 nx1) 32 w = 32 + rn nx1 0 w := fun w => (g2_r (N1 := n1) (nx1 := nx1) hN0 P0.2.1 P0.1 w).2
    refine Exists.intro 33 (el_29 (a_sideEnd := se) (a_sideNext := sn) (a_sideCount := upd (upd a_sideCount 0 (nI n0)) 1 (nI n1)) G hN0 P0.1 hN1 ?_ ?_ ?_ ?_ (fun hh im => ?_) (fun hh im => ?_) 32 0 a_image rfl (fun j hj => absurd hj (Nat.not_lt_zero j)))
    · intro x hx b
      unfold g2x
      rw [if_pos (by omega)]; exact P0.2.1 x hx b
    · intro w
      rw [hr w]
      have := PD_lt P1 w P1.1
      exact Or.inr (by omega)
    · intro w w' hv
      rw [hr w, hr w']
      have l1 := PD_lt P1 w P1.1
      have l2 := PD_lt P1 w' P1.1
      have key : ∀ (c : Nat) (v : List Bool), g2e en0 en1 (rn (g2x nx0 nx1) (32 + c) v) = en1 (rn nx1 c v) := by
        intro c v
        have := rn_rel (δ := g2x nx0 nx1) (ε := nx1) (fun x i => x = 32 + i) (by
          rintro b x i rfl
          unfold g2x; rw [if_neg (by omega), Nat.add_sub_cancel_left]) v (32 + c) c rfl
        rw [this]
        unfold g2e
        rw [if_neg (by omega), Nat.add_sub_cancel_left]
      have : rn nx1 0 w = rn nx1 0 w' := Q1 _ l1 _ l2 (fun v => by
        have := hv v
        rw [hr w, hr w', key, key] at this
        exact this)
      rw [this]
    · rw [pk_un (by omega), pk_us]
    · exact h1 (hL.mpr hh) _ _ _ _ _ _ _ _ _ _ _ _ _ _ _ _ _ _ _ _ _ _ _ _ _ _ _
    · exact h0 (fun z => hh (hL.mp z)) _ _ _ _ _ _ _ _ _ _ _ _ _ _ _ _ _ _ _ _ _ _ _ _ _ _ _
  · have eL : Lg a_arrows a_begins a_finals 0 = Lg a_arrows a_begins a_finals 1 := funext (fun w => propext (hh w))
    exact KC_eq K0 (eL ▸ K1)
end layon
end
section
/-! equal -/
section equal
variable {f_openStates f_openBegin f_openEnd f_plainCount f_classes f_listed : Int32} {a_arrows a_begins a_finals a_openTo a_plainSet a_plainEnd a_plainNext a_classOf a_newClass a_differs a_waits a_members a_sideNext a_sideEnd a_sideCount a_joined a_image a_pairA a_pairB a_pairFrom a_pairLetter a_seen a_words a_more : Nat → Int32}
variable {y_order y_seen y_apart : Nat → Int32} {y_words : Nat → Int64}
theorem eq_Y {k : Nat} {r : Int32} {e : Nat} {u' : SX} (he : e < 3) (ok : Ok a_arrows a_begins a_finals) (hR : ∀ (od se : Nat → Int32) (wo : Nat → Int64), i_Rel (k + 5) u' (a_arrows, a_begins, a_finals, od, se, wo, y_apart)) (h : (∀ w, Lg a_arrows a_begins a_finals 0 w ↔ Lg a_arrows a_begins a_finals 1 w) ∧ r = 1 ∨ (¬ ∀ w, Lg a_arrows a_begins a_finals 0 w ↔ Lg a_arrows a_begins a_finals 1 w) ∧ r = 0) : wpY_equal (fun r' v' => r' = r ∧ i_Rel (k + 5) u' v') (a_arrows, a_begins, a_finals, y_order, y_seen, y_words, y_apart) (nI e) := by
  have hP : ∀ (w : List Bool) (p q : Bool), (p = true ↔ Lg a_arrows a_begins a_finals 0 w) → (q = true ↔ Lg a_arrows a_begins a_finals 1 w) → ((if 2 = 2 then (p != q) else if 2 = 0 then (q && !p) else (p && !q)) = false ↔ (Lg a_arrows a_begins a_finals 0 w ↔ Lg a_arrows a_begins a_finals 1 w)) := by
    intro w p q hp hq
    rw [if_pos rfl, ← hp, ← hq]
    cases p <;> cases q <;> decide
  unfold wpY_equal
  dsimp only
  refine br_f (nI_pos (by omega)) (br_f (nI_nlt (a := 2) (by omega) (by omega)) (br_f bs_10 (ysr_lang (κ := 2) ok (by omega) _ hP (fun x od se wo hr => ?_))))
  rcases h with ⟨h, rfl⟩ | ⟨h, rfl⟩
  · exact br_f (fun z => hr.mp z h) (And.intro rfl (hR od se wo))
  · exact br_t (hr.mpr h) (And.intro rfl (hR od se wo))
theorem i_vc_equal {k : Nat} {u : SX} {v : SY} (I : i_Rel k u v) (hk : k + 5 ≤ 2560) (v1 : Int32) : wpX_equal (fun r u' => wpY_equal (fun r' v' => r' = r ∧ i_Rel (k + 5) u' v') v v1) u v1 := by
  refine rel_el (P := fun u v => wpX_equal (fun r u' => wpY_equal (fun r' v' => r' = r ∧ i_Rel (k + 5) u' v') v v1) u v1) ?_ I
  intro f_openStates f_openBegin f_openEnd f_plainCount f_classes f_listed a_arrows a_begins a_finals a_openTo a_plainSet a_plainEnd a_plainNext a_classOf a_newClass a_differs a_waits a_members a_sideNext a_sideEnd a_sideCount a_joined a_image a_pairA a_pairB a_pairFrom a_pairLetter a_seen a_words a_more y_order y_seen y_words y_apart ok
  unfold wpX_equal
  dsimp only
  rcases pk_ix v1 (n := 3) (by decide) with h1 | h1 | ⟨e, he, rfl⟩
  · refine br_t h1 ?_
    unfold wpY_equal
    dsimp only
    exact br_t h1 (br_t rfl (And.intro rfl (rel_i ok)))
  · have g0 := v5_0 (by decide) h1
    have g2 : (2 : Int32) < v1 := by
      rw [Int32.le_iff_toInt_le, nI_toInt (by decide)] at h1
      rw [Int32.lt_iff_toInt_lt, show (2 : Int32).toInt = 2 from by decide]
      omega
    refine br_f g0 (br_f (Int32.not_lt.mpr h1) ?_)
    unfold wpY_equal
    dsimp only
    exact br_f g0 (br_t g2 (br_t rfl (And.intro rfl (rel_i ok))))
  · refine br_f (nI_pos (by omega)) (br_t (nI_lt (b := 3) he (by omega)) (pk_eq e 0 (fun _ => el_all ok (fun hL => ?_) (fun hL => ?_)) (fun e0 => pk_eq e 1 (fun _ => jo_all ok (fun hL => ?_) (fun hL => ?_)) (fun e1 => ic_all (m := 0) (by omega) ok (fun hA n pA pB => br_f bs_10 (ic_all (m := 1) (by omega) ok (fun hB n' pA' pB' => br_f bs_10 ?_) (fun hB n' pA' pB' => br_t rfl ?_))) (fun hA n pA pB => br_t rfl ?_)))))
    · intro f_openStates f_openBegin f_openEnd f_plainCount f_classes f_listed a_openTo a_plainSet a_plainEnd a_plainNext a_classOf a_newClass a_differs a_waits a_members a_sideNext a_sideEnd a_sideCount a_joined a_image a_pairA a_pairB a_pairFrom a_pairLetter a_seen a_words a_more
      exact And.intro rfl (eq_Y he ok (fun od se wo => rel_i ok) (Or.inl ⟨hL, rfl⟩))
    · intro f_openStates f_openBegin f_openEnd f_plainCount f_classes f_listed a_openTo a_plainSet a_plainEnd a_plainNext a_classOf a_newClass a_differs a_waits a_members a_sideNext a_sideEnd a_sideCount a_joined a_image a_pairA a_pairB a_pairFrom a_pairLetter a_seen a_words a_more
      exact And.intro rfl (eq_Y he ok (fun od se wo => rel_i ok) (Or.inr ⟨hL, rfl⟩))
    · intro f_openStates f_openBegin f_openEnd f_plainCount f_classes f_listed a_openTo a_plainSet a_plainEnd a_plainNext a_classOf a_newClass a_differs a_waits a_members a_sideNext a_sideEnd a_sideCount a_joined a_image a_pairA a_pairB a_pairFrom a_pairLetter a_seen a_words a_more
      exact And.intro rfl (eq_Y he ok (fun od se wo => rel_i ok) (Or.inl ⟨hL, rfl⟩))
    · intro f_openStates f_openBegin f_openEnd f_plainCount f_classes f_listed a_openTo a_plainSet a_plainEnd a_plainNext a_classOf a_newClass a_differs a_waits a_members a_sideNext a_sideEnd a_sideCount a_joined a_image a_pairA a_pairB a_pairFrom a_pairLetter a_seen a_words a_more
      exact And.intro rfl (eq_Y he ok (fun od se wo => rel_i ok) (Or.inr ⟨hL, rfl⟩))
    · exact eq_Y he ok (fun od se wo => rel_i ok) (Or.inl ⟨fun w => ⟨hB w, hA w⟩, rfl⟩)
    · exact eq_Y he ok (fun od se wo => rel_i ok) (Or.inr ⟨fun z => hB (fun w hw => (z w).mp hw), rfl⟩)
    · exact eq_Y he ok (fun od se wo => rel_i ok) (Or.inr ⟨fun z => hA (fun w hw => (z w).mpr hw), rfl⟩)
end equal
end
section
/-! one letter alone: machines that agree on its words of less than thirty letters agree on that of thirty -/
def VW (E : Nat → Nat → Prop) (C : Nat → Prop) (j s t : Nat) : Prop := ∃ a b c, a + b = j ∧ C c ∧ Wk E a s c ∧ Wk E b c t
theorem VW_W {E : Nat → Nat → Prop} {C : Nat → Prop} {j s t : Nat} (h : VW E C j s t) : Wk E j s t := by
  obtain ⟨a, b, c, e, _, h1, h2⟩ := h
  rw [← e]; exact Wk_app a s h1 h2
theorem VW_up {E : Nat → Nat → Prop} {C : Nat → Prop} {g s t : Nat} (hC : ∀ c, C c → Wk E g c c) : ∀ (k j : Nat), VW E C j s t → VW E C (j + k * g) s t := by
  intro k
  induction k with
  | zero => intro j h; rw [Nat.zero_mul]; exact h
  | succ k ih =>
    intro j h
    obtain ⟨a, b, c, e, hc, h1, h2⟩ := h
    have : VW E C (j + g) s t := ⟨a + g, b, c, by omega, hc, Wk_app a s h1 (hC c hc), h2⟩
    have := ih (j + g) this
    rw [show j + (k + 1) * g = j + g + k * g by rw [Nat.add_mul, Nat.one_mul]; omega]
    exact this
theorem VW_p {E : Nat → Nat → Prop} {C : Nat → Prop} {j : Nat} {p : Nat → Nat} (h : ∀ i, i < j → E (p i) (p (i + 1))) {a : Nat} (ha : a ≤ j) (hc : C (p a)) : VW E C j (p 0) (p j) := by
  have h1 := p_seg h (Nat.zero_le a) ha
  have h2 := p_seg h ha (Nat.le_refl j)
  rw [Nat.sub_zero] at h1
  exact ⟨a, j - a, p a, by omega, hc, h1, h2⟩
theorem p_lt {E : Nat → Nat → Prop} (hE : ∀ u v, E u v → u < 5 ∧ v < 5) {j : Nat} {p : Nat → Nat} (hj : 0 < j) (h : ∀ i, i < j → E (p i) (p (i + 1))) (i : Nat) (hi : i ≤ j) : p i < 5 := by
  rcases Nat.lt_or_ge i j with z | z
  · exact (hE _ _ (h i z)).1
  · have e : i = j - 1 + 1 := by omega
    rw [e]; exact (hE _ _ (h (j - 1) (by omega))).2
/-- the number of vertices that are not in C -/
noncomputable def nC (C : Nat → Prop) : Nat := cn (fun u => bd (¬ C u)) 5
theorem rk_lt {C : Nat → Prop} {v : Nat} (hv : v < 5) (h : ¬ C v) : cn (fun u => bd (¬ C u)) v < nC C := by
  have h1 : cn (fun u => bd (¬ C u)) (v + 1) ≤ nC C := cn_up _ (by omega)
  rw [cn_s, bd_t.mpr h] at h1
  have : true.toNat = 1 := rfl
  omega
theorem rk_in {C : Nat → Prop} {u v : Nat} (hu : ¬ C u) (hv : ¬ C v) (e : cn (fun u => bd (¬ C u)) u = cn (fun u => bd (¬ C u)) v) : u = v := by
  have key : ∀ x y, ¬ C x → x < y → cn (fun u => bd (¬ C u)) x < cn (fun u => bd (¬ C u)) y := by
    intro x y hx hxy
    have h1 : cn (fun u => bd (¬ C u)) (x + 1) ≤ cn (fun u => bd (¬ C u)) y := cn_up _ hxy
    rw [cn_s, bd_t.mpr hx] at h1
    have : true.toNat = 1 := rfl
    omega
  rcases Nat.lt_trichotomy u v with z | z | z
  · have := key u v hu z; omega
  · exact z
  · have := key v u hv z; omega
theorem md_mul {x y g a b : Nat} (ha : a < g) (hb : b < g) (e : x * g + a = y * g + b) : x = y ∧ a = b := by
  have hg : 0 < g := by omega
  have h1 : (x * g + a) / g = x := by
    rw [Nat.mul_comm, Nat.mul_add_div hg, Nat.div_eq_of_lt ha, Nat.add_zero]
  have h2 : (y * g + b) / g = y := by
    rw [Nat.mul_comm, Nat.mul_add_div hg, Nat.div_eq_of_lt hb, Nat.add_zero]
  rw [e, h2] at h1
  subst h1
  exact ⟨rfl, by omega⟩
theorem mul_lt {x q g a : Nat} (hx : x < q) (ha : a < g) : x * g + a < q * g := by
  have : (x + 1) * g ≤ q * g := Nat.mul_le_mul_right g hx
  rw [Nat.add_mul, Nat.one_mul] at this
  omega
theorem md_sub {x d g : Nat} (h : d % g = 0) : x % g = (x + d) % g := by rw [Nat.add_mod, h, Nat.add_zero, Nat.mod_mod]
/-- a long walk through C can be made shorter by a multiple of g -/
theorem VW_cut {E : Nat → Nat → Prop} (hE : ∀ u v, E u v → u < 5 ∧ v < 5) {C : Nat → Prop} {g q j s t : Nat} (hg : 0 < g) (hq : nC C ≤ q) (hj : (q + 5) * g ≤ j) (h : VW E C j s t) : ∃ j', j' < j ∧ j' % g = j % g ∧ VW E C j' s t := by
  obtain ⟨p, p0, pn, pe⟩ := Wk_p j s t (VW_W h)
  have hmul : (q + 5) * g = q * g + 5 * g := Nat.add_mul ..
  have hj0 : 0 < j := by have : 5 * 1 ≤ 5 * g := Nat.mul_le_mul_left 5 hg; omega
  -- a path that visits C
  obtain ⟨p, p0, pn, pe, a0, ha0, hca0⟩ : ∃ p : Nat → Nat, p 0 = s ∧ p j = t ∧ (∀ i, i < j → E (p i) (p (i + 1))) ∧ ∃ a, a ≤ j ∧ C (p a) := by
    obtain ⟨a, b, c, e, hc, h1, h2⟩ := h
    obtain ⟨p1, x0, x1, x2⟩ := Wk_p a s c h1
    obtain ⟨p2, y0, y1, y2⟩ := Wk_p b c t h2
    refine ⟨fun i => if i ≤ a then p1 i else p2 (i - a), ?_, ?_, ?_, a, by omega, ?_⟩
    · show (if 0 ≤ a then p1 0 else p2 (0 - a)) = s
      rw [if_pos (Nat.zero_le a)]; exact x0
    · show (if j ≤ a then p1 j else p2 (j - a)) = t
      by_cases z : j ≤ a
      · have hb : b = 0 := by omega
        have hja : j = a := by omega
        rw [if_pos z, hja, x1, ← y0, ← y1, hb]
      · rw [if_neg z, show j - a = b by omega]; exact y1
    · intro i hi
      show E (if i ≤ a then p1 i else p2 (i - a)) (if i + 1 ≤ a then p1 (i + 1) else p2 (i + 1 - a))
      by_cases z : i + 1 ≤ a
      · rw [if_pos z, if_pos (by omega)]; exact x2 i (by omega)
      · rw [if_neg z]
        have e2 := y2 (i - a) (by omega)
        rw [show i - a + 1 = i + 1 - a by omega] at e2
        by_cases y : i ≤ a
        · rw [if_pos y, show i = a by omega, x1, ← y0]
          rw [show i - a = 0 by omega, show i + 1 - a = 1 by omega] at e2
          rw [show a + 1 - a = 1 by omega]
          exact e2
        · rw [if_neg y]; exact e2
    · show C (if a ≤ a then p1 a else p2 (a - a))
      rw [if_pos (Nat.le_refl a), x1]; exact hc
  obtain ⟨a, ⟨haj, hca⟩, hal⟩ := pk_least (fun a => a ≤ j ∧ C (p a)) ⟨a0, ha0, hca0⟩
  have lt5 := p_lt hE hj0 pe
  have dm : ∀ x, x % g < g := fun x => Nat.mod_lt x hg
  rcases Nat.lt_or_ge (q * g) a with z | z
  · -- a cut before C is come to
    obtain ⟨i, i', hii, hi', e⟩ := ph_two (C := q * g + 1) (D := q * g) (fun i => cn (fun u => bd (¬ C u)) (p i) * g + i % g) (by
      intro i hi
      have hn : ¬ C (p i) := fun y => hal i (by omega) ⟨by omega, y⟩
      exact mul_lt (Nat.lt_of_lt_of_le (rk_lt (lt5 i (by omega)) hn) hq) (dm i)) (by omega)
    have e' : cn (fun u => bd (¬ C u)) (p i) * g + i % g = cn (fun u => bd (¬ C u)) (p i') * g + i' % g := e
    obtain ⟨e1, e2⟩ := md_mul (dm i) (dm i') e'
    have ep : p i = p i' := rk_in (fun y => hal i (by omega) ⟨by omega, y⟩) (fun y => hal i' (by omega) ⟨by omega, y⟩) e1
    have w1 := p_seg pe (Nat.zero_le i) (by omega : i ≤ j)
    have w2 := p_seg pe (by omega : i' ≤ a) haj
    have w3 := p_seg pe haj (Nat.le_refl j)
    rw [Nat.sub_zero, ep] at w1
    have w := Wk_app i _ w1 w2
    rw [p0] at w
    rw [pn] at w3
    refine ⟨i + (a - i') + (j - a), by omega, ?_, ⟨i + (a - i'), j - a, p a, rfl, hca, w, w3⟩⟩
    have : j = (i + (a - i') + (j - a)) + (i' - i) := by omega
    have d : (i' - i) % g = 0 := Nat.sub_mod_eq_zero_of_mod_eq e2.symm
    exact (md_sub d).trans (congrArg (· % g) this.symm)
  · -- a cut behind it
    obtain ⟨k, k', hkk, hk', e⟩ := ph_two (C := 5 * g + 1) (D := 5 * g) (fun k => p (a + k) * g + k % g) (by
      intro k hk
      exact mul_lt (lt5 (a + k) (by omega)) (dm k)) (by omega)
    have e' : p (a + k) * g + k % g = p (a + k') * g + k' % g := e
    obtain ⟨e1, e2⟩ := md_mul (dm k) (dm k') e'
    have w1 := p_seg pe (Nat.zero_le a) haj
    have w2 := p_seg pe (by omega : a ≤ a + k) (by omega)
    have w3 := p_seg pe (by omega : a + k' ≤ j) (Nat.le_refl j)
    rw [Nat.sub_zero, p0] at w1
    rw [e1] at w2
    rw [pn] at w3
    have w := Wk_app (a + k - a) _ w2 w3
    refine ⟨a + ((a + k - a) + (j - (a + k'))), by omega, ?_, ⟨a, _, p a, rfl, hca, w1, w⟩⟩
    have : j = (a + ((a + k - a) + (j - (a + k')))) + (k' - k) := by omega
    have d : (k' - k) % g = 0 := Nat.sub_mod_eq_zero_of_mod_eq e2.symm
    exact (md_sub d).trans (congrArg (· % g) this.symm)
theorem VW_low {E : Nat → Nat → Prop} (hE : ∀ u v, E u v → u < 5 ∧ v < 5) {C : Nat → Prop} {g q s t : Nat} (hg : 0 < g) (hq : nC C ≤ q) : ∀ n j, j < n → VW E C j s t → ∃ j', j' < (q + 5) * g ∧ j' ≤ j ∧ j' % g = j % g ∧ VW E C j' s t := by
  intro n
  induction n with
  | zero => intro j hj; omega
  | succ n ih =>
    intro j hj h
    rcases Nat.lt_or_ge j ((q + 5) * g) with z | z
    · exact ⟨j, z, Nat.le_refl j, rfl, h⟩
    · obtain ⟨j1, h1, h2, h3⟩ := VW_cut hE hg hq z h
      obtain ⟨j2, a1, a2, a3, a4⟩ := ih j1 (by omega) h3
      exact ⟨j2, a1, by omega, a3.trans h2, a4⟩
/-- down and up by a multiple of g -/
theorem VW_dn {E : Nat → Nat → Prop} (hE : ∀ u v, E u v → u < 5 ∧ v < 5) {C : Nat → Prop} {g q s t j r : Nat} (hg : 0 < g) (hq : nC C ≤ q) (hC : ∀ c, C c → Wk E g c c) (hr : r % g = j % g) (hb : ∀ j', j' < (q + 5) * g → j' ≤ j → j' % g = j % g → j' ≤ r) (h : VW E C j s t) : VW E C r s t := by
  obtain ⟨j', a1, a2, a3, a4⟩ := VW_low hE hg hq (j + 1) j (Nat.lt_succ_self j) h
  have hle := hb j' a1 a2 a3
  have d : (r - j') % g = 0 := Nat.sub_mod_eq_zero_of_mod_eq (hr.trans a3.symm)
  have := VW_up hC ((r - j') / g) j' a4
  have e : (r - j') / g * g = r - j' := Nat.div_mul_cancel (Nat.dvd_of_mod_eq_zero d)
  rw [e, show j' + (r - j') = r by omega] at this
  exact this
theorem nC_le {C : Nat → Prop} {g : Nat} (c : Nat → Nat) (hi : ∀ i, i < g → ∀ j, j < g → c i = c j → i = j) (h5 : ∀ i, i < g → c i < 5) (hC : ∀ i, i < g → C (c i)) : nC C + g ≤ 5 := by
  obtain ⟨f, f1, f2, _⟩ := cn_en (fun u => bd (¬ C u)) 5
  refine ph_le 5 (nC C + g) (fun k => if k < g then c k else f (k - g)) ?_ ?_
  · intro k hk
    show (if k < g then c k else f (k - g)) < 5
    by_cases z : k < g
    · rw [if_pos z]; exact h5 k z
    · rw [if_neg z]; exact (f1 (k - g) (by unfold nC at hk; omega)).1
  · intro k hk l hl
    show (if k < g then c k else f (k - g)) = (if l < g then c l else f (l - g)) → k = l
    unfold nC at hk hl
    by_cases z : k < g
    · by_cases y : l < g
      · rw [if_pos z, if_pos y]; exact hi k z l y
      · rw [if_pos z, if_neg y]
        intro e
        have := bd_t.mp (f1 (l - g) (by omega)).2
        rw [← e] at this
        exact absurd (hC k z) this
    · by_cases y : l < g
      · rw [if_neg z, if_pos y]
        intro e
        have := bd_t.mp (f1 (k - g) (by omega)).2
        rw [e] at this
        exact absurd (hC l y) this
      · rw [if_neg z, if_neg y]
        intro e
        have := f2 (k - g) (by omega) (l - g) (by omega) e
        omega
/-- a simple cycle of g vertices -/
def Cy (E : Nat → Nat → Prop) (g : Nat) (c : Nat → Nat) : Prop := (∀ i, i < g → ∀ j, j < g → c i = c j → i = j) ∧ (∀ i, i < g → E (c i) (c (i + 1))) ∧ c g = c 0
theorem Cy_W {E : Nat → Nat → Prop} {g : Nat} {c : Nat → Nat} (h : Cy E g c) {i : Nat} (hi : i < g) : Wk E g (c i) (c i) := by
  have w1 := p_seg h.2.1 (Nat.le_of_lt hi) (Nat.le_refl g)
  have w2 := p_seg h.2.1 (Nat.zero_le i) (Nat.le_of_lt hi)
  rw [h.2.2] at w1
  have := Wk_app (g - i) _ w1 w2
  rw [show g - i + (i - 0) = g by omega] at this
  exact this
/-- among n + 1 vertices of a path on n others there is a simple cycle -/
theorem Cy_ex {E : Nat → Nat → Prop} {p : Nat → Nat} {n m : Nat} (h : ∀ i, i < n → E (p i) (p (i + 1))) {i j : Nat} (hij : i < j) (hj : j ≤ m) (hm : m ≤ n) (e : p i = p j) : ∃ g a, 0 < g ∧ g ≤ j - i ∧ a + g ≤ m ∧ p a = p (a + g) ∧ Cy E g (fun k => p (a + k)) := by
  obtain ⟨g, ⟨a, h1, h2, h3⟩, hl⟩ := pk_least (fun g => ∃ a, 0 < g ∧ a + g ≤ m ∧ p a = p (a + g)) ⟨j - i, i, by omega, by omega, by rw [show i + (j - i) = j by omega]; exact e⟩
  refine ⟨g, a, h1, ?_, h2, h3, ?_, fun k hk => h (a + k) (by omega), h3.symm⟩
  · rcases Nat.lt_or_ge (j - i) g with z | z
    · exact absurd ⟨i, by omega, by omega, by rw [show i + (j - i) = j by omega]; exact e⟩ (hl (j - i) z)
    · exact z
  · intro k hk l hl' q
    have q' : p (a + k) = p (a + l) := q
    rcases Nat.lt_trichotomy k l with z | z | z
    · exact absurd ⟨a + k, by omega, by omega, by rw [show a + k + (l - k) = a + l by omega]; exact q'⟩ (hl (l - k) (by omega))
    · exact z
    · exact absurd ⟨a + l, by omega, by omega, by rw [show a + l + (k - l) = a + k by omega]; exact q'.symm⟩ (hl (k - l) (by omega))
/-- walks of length at least 24 go with a period of at most 6 -/
theorem un_per {E : Nat → Nat → Prop} (hE : ∀ u v, E u v → u < 5 ∧ v < 5) : ∃ q, 1 ≤ q ∧ q ≤ 6 ∧ ∀ j, 24 ≤ j → ∀ s t, (Wk E j s t ↔ Wk E (j - q) s t) := by
  have loop2 : ∀ x, E x x → Wk E 2 x x := fun x h => ⟨x, h, x, h, rfl⟩
  have q2 : ∀ x, x < 5 → Wk E 2 x x → nC (fun v => Wk E 2 v v) ≤ 4 := by
    intro x hx hw
    have := nC_le (g := 1) (C := fun v => Wk E 2 v v) (fun _ => x) (fun i hi j hj _ => by omega) (fun _ _ => hx) (fun _ _ => hw)
    omega
  -- through a vertex with a closed walk of length two
  have dn2 : ∀ r j s t, VW E (fun v => Wk E 2 v v) j s t → r % 2 = j % 2 → 18 ≤ r → VW E (fun v => Wk E 2 v v) r s t := by
    intro r j s t h hr hr'
    have hx : ∃ x, x < 5 ∧ Wk E 2 x x := by
      obtain ⟨a, b, c, e, hc, _, _⟩ := h
      have hc' := hc
      obtain ⟨u, e1, _⟩ := hc'
      exact ⟨c, (hE _ _ e1).1, hc⟩
    obtain ⟨x, hx1, hx2⟩ := hx
    exact VW_dn hE (g := 2) (q := 4) (by omega) (q2 x hx1 hx2) (fun c hc => hc) hr (fun j' h1 _ _ => by omega) h
  by_cases c4 : ∃ c, Cy E 4 c
  · obtain ⟨c, hc⟩ := c4
    have c5 : ∀ i, i < 4 → c i < 5 := fun i hi => (hE _ _ (hc.2.1 i hi)).1
    have hq : nC (fun v => ∃ i, i < 4 ∧ v = c i) ≤ 1 := by
      have := nC_le (g := 4) (C := fun v => ∃ i, i < 4 ∧ v = c i) c hc.1 c5 (fun i hi => ⟨i, hi, rfl⟩)
      omega
    have hW : ∀ v, (∃ i, i < 4 ∧ v = c i) → Wk E 4 v v := by
      rintro v ⟨i, hi, rfl⟩; exact Cy_W hc hi
    -- each walk goes through the cycle, or through a loop
    have vis : ∀ j s t, 18 ≤ j → Wk E j s t → VW E (fun v => ∃ i, i < 4 ∧ v = c i) j s t ∨ VW E (fun v => Wk E 2 v v) j s t := by
      intro j s t hj h
      obtain ⟨p, p0, pn, pe⟩ := Wk_p j s t h
      by_cases z : ∃ a, a ≤ j ∧ ∃ i, i < 4 ∧ p a = c i
      · obtain ⟨a, ha, hh⟩ := z
        left
        have := VW_p (C := fun v => ∃ i, i < 4 ∧ v = c i) pe ha hh
        rw [p0, pn] at this; exact this
      · right
        have n0 : ¬ (fun v => ∃ i, i < 4 ∧ v = c i) (p 0) := fun y => z ⟨0, by omega, y⟩
        have n1 : ¬ (fun v => ∃ i, i < 4 ∧ v = c i) (p 1) := fun y => z ⟨1, by omega, y⟩
        have lt5 := p_lt hE (by omega) pe
        have r0 := rk_lt (C := fun v => ∃ i, i < 4 ∧ v = c i) (lt5 0 (by omega)) n0
        have r1 := rk_lt (C := fun v => ∃ i, i < 4 ∧ v = c i) (lt5 1 (by omega)) n1
        have e : p 0 = p 1 := rk_in (C := fun v => ∃ i, i < 4 ∧ v = c i) n0 n1 (by omega)
        have l0 := pe 0 (by omega)
        rw [show p (0 + 1) = p 0 from e.symm] at l0
        have := VW_p (C := fun v => Wk E 2 v v) pe (Nat.zero_le j) (loop2 _ l0)
        rw [p0, pn] at this; exact this
    have mv : ∀ r j s t, 18 ≤ j → 20 ≤ r → (j < r ∨ 24 ≤ j) → (j = r + 4 ∨ r = j + 4) → Wk E j s t → Wk E r s t := by
      intro r j s t h1 h2 h3 h4 h
      rcases vis j s t h1 h with y | y
      · exact VW_W (VW_dn hE (g := 4) (q := 1) (by omega) hq hW (by omega) (fun j' a1 a2 a3 => by omega) y)
      · exact VW_W (dn2 r j s t y (by omega) (by omega))
    refine ⟨4, by omega, by omega, fun j hj s t => ⟨fun h => mv (j - 4) j s t (by omega) (by omega) (by omega) (by omega) h, fun h => mv j (j - 4) s t (by omega) (by omega) (by omega) (by omega) h⟩⟩
  · by_cases c3 : ∃ c, Cy E 3 c
    · obtain ⟨c, hc⟩ := c3
      have c5 : ∀ i, i < 3 → c i < 5 := fun i hi => (hE _ _ (hc.2.1 i hi)).1
      have hq : nC (fun v => ∃ i, i < 3 ∧ v = c i) ≤ 2 := by
        have := nC_le (g := 3) (C := fun v => ∃ i, i < 3 ∧ v = c i) c hc.1 c5 (fun i hi => ⟨i, hi, rfl⟩)
        omega
      have hW : ∀ v, (∃ i, i < 3 ∧ v = c i) → Wk E 3 v v := by
        rintro v ⟨i, hi, rfl⟩; exact Cy_W hc hi
      have vis : ∀ j s t, 18 ≤ j → Wk E j s t → VW E (fun v => ∃ i, i < 3 ∧ v = c i) j s t ∨ VW E (fun v => Wk E 2 v v) j s t := by
        intro j s t hj h
        obtain ⟨p, p0, pn, pe⟩ := Wk_p j s t h
        by_cases z : ∃ a, a ≤ j ∧ ∃ i, i < 3 ∧ p a = c i
        · obtain ⟨a, ha, hh⟩ := z
          left
          have := VW_p (C := fun v => ∃ i, i < 3 ∧ v = c i) pe ha hh
          rw [p0, pn] at this; exact this
        · right
          have n0 : ¬ (fun v => ∃ i, i < 3 ∧ v = c i) (p 0) := fun y => z ⟨0, by omega, y⟩
          have n1 : ¬ (fun v => ∃ i, i < 3 ∧ v = c i) (p 1) := fun y => z ⟨1, by omega, y⟩
          have n2 : ¬ (fun v => ∃ i, i < 3 ∧ v = c i) (p 2) := fun y => z ⟨2, by omega, y⟩
          have lt5 := p_lt hE (by omega) pe
          have r0 := rk_lt (C := fun v => ∃ i, i < 3 ∧ v = c i) (lt5 0 (by omega)) n0
          have r1 := rk_lt (C := fun v => ∃ i, i < 3 ∧ v = c i) (lt5 1 (by omega)) n1
          have r2 := rk_lt (C := fun v => ∃ i, i < 3 ∧ v = c i) (lt5 2 (by omega)) n2
          have l0 : E (p 0) (p 1) := pe 0 (by omega)
          have l1 : E (p 1) (p 2) := pe 1 (by omega)
          have key : ∃ a, a ≤ j ∧ Wk E 2 (p a) (p a) := by
            by_cases e01 : p 0 = p 1
            · exact ⟨0, by omega, loop2 _ (by rw [← e01] at l0; exact l0)⟩
            · by_cases e12 : p 1 = p 2
              · exact ⟨1, by omega, loop2 _ (by rw [← e12] at l1; exact l1)⟩
              · by_cases e02 : p 0 = p 2
                · exact ⟨0, by omega, p 1, l0, p 2, l1, e02.symm⟩
                · exfalso
                  have d01 : cn (fun u => bd (¬ ∃ i, i < 3 ∧ u = c i)) (p 0) ≠ cn (fun u => bd (¬ ∃ i, i < 3 ∧ u = c i)) (p 1) := fun y => e01 (rk_in (C := fun v => ∃ i, i < 3 ∧ v = c i) n0 n1 y)
                  have d12 : cn (fun u => bd (¬ ∃ i, i < 3 ∧ u = c i)) (p 1) ≠ cn (fun u => bd (¬ ∃ i, i < 3 ∧ u = c i)) (p 2) := fun y => e12 (rk_in (C := fun v => ∃ i, i < 3 ∧ v = c i) n1 n2 y)
                  have d02 : cn (fun u => bd (¬ ∃ i, i < 3 ∧ u = c i)) (p 0) ≠ cn (fun u => bd (¬ ∃ i, i < 3 ∧ u = c i)) (p 2) := fun y => e02 (rk_in (C := fun v => ∃ i, i < 3 ∧ v = c i) n0 n2 y)
                  omega
          obtain ⟨a, ha, hh⟩ := key
          have := VW_p (C := fun v => Wk E 2 v v) pe ha hh
          rw [p0, pn] at this; exact this
      have mv : ∀ r j s t, 18 ≤ j → 18 ≤ r → (j < r ∨ 24 ≤ j) → (j = r + 6 ∨ r = j + 6) → Wk E j s t → Wk E r s t := by
        intro r j s t h1 h2 h3 h4 h
        rcases vis j s t h1 h with y | y
        · exact VW_W (VW_dn hE (g := 3) (q := 2) (by omega) hq hW (by omega) (fun j' a1 a2 a3 => by omega) y)
        · exact VW_W (dn2 r j s t y (by omega) (by omega))
      refine ⟨6, by omega, by omega, fun j hj s t => ⟨fun h => mv (j - 6) j s t (by omega) (by omega) (by omega) (by omega) h, fun h => mv j (j - 6) s t (by omega) (by omega) (by omega) (by omega) h⟩⟩
    · by_cases c2 : ∃ x, x < 5 ∧ Wk E 2 x x
      · obtain ⟨x, hx, hw⟩ := c2
        have vis : ∀ j s t, 18 ≤ j → Wk E j s t → VW E (fun v => Wk E 2 v v) j s t := by
          intro j s t hj h
          obtain ⟨p, p0, pn, pe⟩ := Wk_p j s t h
          have lt5 := p_lt hE (by omega) pe
          have key : ∃ a, a ≤ j ∧ Wk E 2 (p a) (p a) := by
            by_cases z : ∃ a, a < 5 ∧ p a = x
            · obtain ⟨a, ha, e⟩ := z
              exact ⟨a, by omega, by rw [e]; exact hw⟩
            · have hne : ∀ a, a < 5 → p a ≠ x := fun a ha e => z ⟨a, ha, e⟩
              obtain ⟨i, i', hii, hi', e⟩ := ph_two (C := 5) (D := 4) (fun a => if p a < x then p a else p a - 1) (by
                intro a ha
                have := lt5 a (by omega)
                have := hne a ha
                show (if p a < x then p a else p a - 1) < 4
                split <;> omega) (by omega)
              have e' : (if p i < x then p i else p i - 1) = (if p i' < x then p i' else p i' - 1) := e
              have ne1 := hne i (by omega)
              have ne2 := hne i' hi'
              have ep : p i = p i' := by
                by_cases y1 : p i < x
                · by_cases y2 : p i' < x
                  · rw [if_pos y1, if_pos y2] at e'; exact e'
                  · rw [if_pos y1, if_neg y2] at e'; omega
                · by_cases y2 : p i' < x
                  · rw [if_neg y1, if_pos y2] at e'; omega
                  · rw [if_neg y1, if_neg y2] at e'; omega
              obtain ⟨g, a, g1, g2, g3, g4, g5⟩ := Cy_ex (m := 4) pe hii (by omega) (by omega) ep
              have hg : g = 1 ∨ g = 2 ∨ g = 3 ∨ g = 4 := by omega
              rcases hg with rfl | rfl | rfl | rfl
              · have l0 := pe a (by omega)
                rw [← g4] at l0
                exact ⟨a, by omega, loop2 _ l0⟩
              · have := p_seg pe (by omega : a ≤ a + 2) (by omega)
                rw [← g4, show a + 2 - a = 2 by omega] at this
                exact ⟨a, by omega, this⟩
              · exact absurd ⟨_, g5⟩ c3
              · exact absurd ⟨_, g5⟩ c4
          obtain ⟨a, ha, hh⟩ := key
          have := VW_p (C := fun v => Wk E 2 v v) pe ha hh
          rw [p0, pn] at this; exact this
        refine ⟨2, by omega, by omega, fun j hj s t => ⟨fun h => VW_W (dn2 (j - 2) j s t (vis j s t (by omega) h) (by omega) (by omega)), fun h => VW_W (dn2 j (j - 2) s t (vis (j - 2) s t (by omega) h) (by omega) (by omega))⟩⟩
      · -- all cycles have five vertices
        have five : ∀ j (p : Nat → Nat), 5 ≤ j → (∀ i, i < j → E (p i) (p (i + 1))) → p 0 = p 5 := by
          intro j p hj pe
          have lt5 := p_lt hE (by omega) pe
          obtain ⟨i, i', hii, hi', e⟩ := ph_two (C := 6) (D := 5) p (fun a ha => lt5 a (by omega)) (by omega)
          obtain ⟨g, a, g1, g2, g3, g4, g5⟩ := Cy_ex (m := 5) pe hii (by omega) (by omega) e
          have hg : g = 1 ∨ g = 2 ∨ g = 3 ∨ g = 4 ∨ g = 5 := by omega
          rcases hg with rfl | rfl | rfl | rfl | rfl
          · have l0 := pe a (by omega)
            rw [← g4] at l0
            exact absurd ⟨p a, lt5 a (by omega), loop2 _ l0⟩ c2
          · have := p_seg pe (by omega : a ≤ a + 2) (by omega)
            rw [← g4, show a + 2 - a = 2 by omega] at this
            exact absurd ⟨p a, lt5 a (by omega), this⟩ c2
          · exact absurd ⟨_, g5⟩ c3
          · exact absurd ⟨_, g5⟩ c4
          · rw [show a = 0 by omega] at g4; exact g4
        refine ⟨5, by omega, by omega, fun j hj s t => ⟨fun h => ?_, fun h => ?_⟩⟩
        · obtain ⟨p, p0, pn, pe⟩ := Wk_p j s t h
          have e := five j p (by omega) pe
          have := p_seg pe (by omega : 5 ≤ j) (Nat.le_refl j)
          rw [← e, p0, pn] at this
          exact this
        · obtain ⟨p, p0, pn, pe⟩ := Wk_p (j - 5) s t h
          have e := five (j - 5) p (by omega) pe
          have w := p_seg pe (by omega : 0 ≤ 5) (by omega)
          rw [← e, p0] at w
          have := Wk_app 5 s w h
          rw [show 5 + (j - 5) = j by omega] at this
          exact this
theorem un_30 {E E' : Nat → Nat → Prop} (hE : ∀ u v, E u v → u < 5 ∧ v < 5) (hE' : ∀ u v, E' u v → u < 5 ∧ v < 5) {B F B' F' : Nat → Prop} (h : ∀ j, j < 30 → ((∃ s t, B s ∧ F t ∧ Wk E j s t) ↔ (∃ s t, B' s ∧ F' t ∧ Wk E' j s t))) : (∃ s t, B s ∧ F t ∧ Wk E 30 s t) ↔ (∃ s t, B' s ∧ F' t ∧ Wk E' 30 s t) := by
  obtain ⟨q, q1, q2, hq⟩ := un_per hE
  obtain ⟨r, r1, r2, hr⟩ := un_per hE'
  have A : ∀ j, 24 ≤ j → ((∃ s t, B s ∧ F t ∧ Wk E j s t) ↔ (∃ s t, B s ∧ F t ∧ Wk E (j - q) s t)) := by
    intro j hj
    constructor
    · rintro ⟨s, t, a, b, c⟩; exact ⟨s, t, a, b, (hq j hj s t).mp c⟩
    · rintro ⟨s, t, a, b, c⟩; exact ⟨s, t, a, b, (hq j hj s t).mpr c⟩
  have A' : ∀ j, 24 ≤ j → ((∃ s t, B' s ∧ F' t ∧ Wk E' j s t) ↔ (∃ s t, B' s ∧ F' t ∧ Wk E' (j - r) s t)) := by
    intro j hj
    constructor
    · rintro ⟨s, t, a, b, c⟩; exact ⟨s, t, a, b, (hr j hj s t).mp c⟩
    · rintro ⟨s, t, a, b, c⟩; exact ⟨s, t, a, b, (hr j hj s t).mpr c⟩
  rw [A 30 (by omega), h (30 - q) (by omega), A' (30 - q) (by omega), ← h (30 - q - r) (by omega), show 30 - q - r = 30 - r - q by omega, ← A (30 - r) (by omega), h (30 - r) (by omega), ← A' 30 (by omega)]
/-! the machines -/
def E0 (a : Nat → Int32) (m u v : Nat) : Prop := u < 5 ∧ bt (a (10 * m + 2 * u + 0)) v = true
theorem rn_0 {a : Nat → Int32} {m : Nat} (t : Nat) : ∀ j S, (bt (rn (gs a m) S (List.replicate j false)) t = true ↔ ∃ s, bt S s = true ∧ Wk (E0 a m) j s t) := by
  intro j
  induction j with
  | zero =>
    intro S
    constructor
    · intro h; exact ⟨t, h, rfl⟩
    · rintro ⟨s, h, e⟩; rw [show s = t from e] at h; exact h
  | succ j ih =>
    intro S
    rw [List.replicate_succ]
    show bt (rn (gs a m) (gs a m false S) (List.replicate j false)) t = true ↔ _
    rw [ih]
    constructor
    · rintro ⟨s, h, w⟩
      obtain ⟨u, hu, h1, h2⟩ := (stp_b s).mp h
      exact ⟨u, h1, s, ⟨hu, h2⟩, w⟩
    · rintro ⟨u, h1, s, ⟨hu, h2⟩, w⟩
      exact ⟨s, (stp_b s).mpr ⟨u, hu, h1, h2⟩, w⟩
theorem Lg_0 {a b f : Nat → Int32} {m : Nat} (ok : Ok a b f) (j : Nat) : Lg a b f m (List.replicate j false) ↔ ∃ s t, bt (b m) s = true ∧ bt (f m) t = true ∧ Wk (E0 a m) j s t := by
  unfold Lg
  rw [ht_t]
  constructor
  · rintro ⟨t, _, h1, h2⟩
    obtain ⟨s, hs, w⟩ := (rn_0 t j _).mp h1
    exact ⟨s, t, hs, h2, w⟩
  · rintro ⟨s, t, h1, h2, w⟩
    have := sm_bit (ok.2.2 m) h2
    exact ⟨t, by omega, (rn_0 t j _).mpr ⟨s, h1, w⟩, h2⟩
theorem Lg_30 {a b f : Nat → Int32} (ok : Ok a b f) (h : ∀ j, j < 30 → (Lg a b f 0 (List.replicate j false) ↔ Lg a b f 1 (List.replicate j false))) : Lg a b f 0 (List.replicate 30 false) ↔ Lg a b f 1 (List.replicate 30 false) := by
  rw [Lg_0 ok, Lg_0 ok]
  refine un_30 (fun u v e => ⟨e.1, sm_bit (ok.1 _) e.2⟩) (fun u v e => ⟨e.1, sm_bit (ok.1 _) e.2⟩) (fun j hj => ?_)
  rw [← Lg_0 ok, ← Lg_0 ok]; exact h j hj
end
section
/-! difference: both searches are one; the word of a pair -/
/-- a path of n letters from the first pair, with the number of its word -/
def Pth (τ : BS) : Nat → Nat → Nat → Prop
  | 0, k, v => k = 0 ∧ v = 1
  | n + 1, k, v => 0 < k ∧ k < τ.1 ∧ ∃ u, Pth τ n (τ.2.2.1 k) u ∧ v = 2 * u + (τ.2.2.2 k).toNat
theorem Pth_ex {nx : Bool → Nat → Nat} {s0 q : Nat} {τ : BS} (h : BF nx s0 τ q) : ∀ m k, k < m → k < τ.1 → ∃ n v, n ≤ k ∧ Pth τ n k v := by
  intro m
  induction m with
  | zero => intro k hk; omega
  | succ m ih =>
    intro k hk hk'
    rcases Nat.eq_zero_or_pos k with z | z
    · exact ⟨0, 1, Nat.zero_le _, z, rfl⟩
    · have := h.2.2.2.2.2.1 k z hk'
      obtain ⟨n, u, hn, hp⟩ := ih (τ.2.2.1 k) (by omega) (by omega)
      exact ⟨n + 1, _, by omega, z, hk', u, hp, rfl⟩
theorem Pth_v {τ : BS} : ∀ n k v, Pth τ n k v → 2 ^ n ≤ v ∧ v < 2 ^ (n + 1) := by
  intro n
  induction n with
  | zero => rintro k v ⟨_, rfl⟩; decide
  | succ n ih =>
    rintro k v ⟨_, _, u, hp, rfl⟩
    have := ih _ _ hp
    have hb := tn_le (τ.2.2.2 k)
    have p1 : 2 ^ (n + 1) = 2 ^ n * 2 := Nat.pow_succ ..
    have p2 : 2 ^ (n + 1 + 1) = 2 ^ (n + 1) * 2 := Nat.pow_succ ..
    omega
/-- the reference's number of the word -/
theorem Pth_wv {τ : BS} {wv : Nat → Nat} (h : WV τ wv) : ∀ n k v, Pth τ n k v → (n ≤ 40 → wv k = v) ∧ (40 < n → 2 ^ 40 < wv k) := by
  intro n
  induction n with
  | zero => rintro k v ⟨rfl, rfl⟩; exact ⟨fun _ => h.1, fun z => by omega⟩
  | succ n ih =>
    rintro k v ⟨h0, hk, u, hp, rfl⟩
    have e := h.2.2 k h0 hk
    have i := ih _ _ hp
    have b := Pth_v n _ _ hp
    constructor
    · intro hn
      have i1 := i.1 (by omega)
      have : 2 ^ (n + 1) ≤ 2 ^ 40 := Nat.pow_le_pow_right (by decide) hn
      rw [e, i1, if_pos (by omega)]
    · intro hn
      by_cases z : wv (τ.2.2.1 k) ≤ 1099511627776
      · rw [e, if_pos z]
        rcases Nat.lt_or_ge 40 n with y | y
        · have := i.2 y; omega
        · have i1 := i.1 y
          have hn40 : n = 40 := by omega
          rw [hn40] at b
          omega
      · rw [e, if_neg z]; omega
/-- thirty letters and the least number: only zeros -/
theorem Pth_0 {nx : Bool → Nat → Nat} {s0 q : Nat} {τ : BS} (h : BF nx s0 τ q) : ∀ n k, k < τ.1 → Pth τ n k (2 ^ n) → τ.2.1 k = rn nx s0 (List.replicate n false) ∧ ∀ j, j < n → ∃ k', k' < k ∧ τ.2.1 k' = rn nx s0 (List.replicate j false) := by
  intro n
  induction n with
  | zero => rintro k _ ⟨rfl, _⟩; exact ⟨h.2.2.1, fun j hj => by omega⟩
  | succ n ih =>
    rintro k hk ⟨h0, _, u, hp, e⟩
    have b := Pth_v n _ _ hp
    have hb := tn_le (τ.2.2.2 k)
    have p1 : 2 ^ (n + 1) = 2 ^ n * 2 := Nat.pow_succ ..
    have eu : u = 2 ^ n := by omega
    have el : τ.2.2.2 k = false := by
      cases x : τ.2.2.2 k
      · rfl
      · rw [x] at e
        have : true.toNat = 1 := rfl
        omega
    subst eu
    have par := h.2.2.2.2.2.1 k h0 hk
    have I := ih _ (by omega) hp
    refine ⟨?_, fun j hj => ?_⟩
    · rw [par.2, el, I.1, List.replicate_succ', rn_sn]
    · rcases Nat.lt_or_ge j n with z | z
      · obtain ⟨k', h1, h2⟩ := I.2 j z
        exact ⟨k', by omega, h2⟩
      · exact ⟨τ.2.2.1 k, par.1, by rw [show j = n by omega]; exact I.1⟩
theorem nx_or (a b : Nat) : nI a ||| nI b = nI (a ||| b) := by
  apply b_ext
  intro i hi
  rw [b_or, cb_nI hi, cb_nI hi, cb_nI hi, Nat.testBit_or]
theorem or_pw {w j c : Nat} (h : w < 2 ^ j) : nI w ||| nI (c * 2 ^ j) = nI (w + c * 2 ^ j) := by
  rw [nx_or, Nat.or_comm, Nat.mul_comm c, ← Nat.two_pow_add_eq_or_of_lt h, Nat.add_comm]
/-- the component's state of the search: pairs of plain states, whose sets have the numbers c0, c1 -/
def RX (N0 N1 : Nat) (c0 c1 : Nat → Nat) (τ : BS) (pA pB pF pL sx : Nat → Int32) : Prop :=
  (∃ A B : Nat → Nat, ∀ k, k < τ.1 → A k < N0 ∧ B k < N1 ∧ τ.2.1 k = 32 * c0 (A k) + c1 (B k) ∧ pA k = nI (A k) ∧ pB k = nI (32 + B k)) ∧ (∀ k, 0 < k → k < τ.1 → pF k = nI (τ.2.2.1 k) ∧ pL k = nI (τ.2.2.2 k).toNat) ∧ pF 0 = -1 ∧ (∀ x, x < N0 → ∀ y, y < N1 → sx (32 * x + y) = bi (bd (ins τ (32 * c0 x + c1 y))))
section difference
variable {f_openStates f_openBegin f_openEnd f_plainCount f_classes f_listed : Int32} {a_arrows a_begins a_finals a_openTo a_plainSet a_plainEnd a_plainNext a_classOf a_newClass a_differs a_waits a_members a_sideNext a_sideEnd a_sideCount a_joined a_image a_pairA a_pairB a_pairFrom a_pairLetter a_seen a_words a_more : Nat → Int32}
variable {y_order y_seen y_apart : Nat → Int32} {y_words : Nat → Int64}
theorem xe_ent {post : SX → Prop} {N0 N1 i x y l : Nat} {b : Bool} {c0 c1 : Nat → Nat} {τ : BS} {pA pB pF pL sx : Nat → Int32} (h0 : N0 ≤ 32) (h1 : N1 ≤ 32) (k0 : ∀ x, x < N0 → c0 x < 32) (k1 : ∀ y, y < N1 → c1 y < 32) (i0 : ∀ x, x < N0 → ∀ x', x' < N0 → c0 x = c0 x' → x = x') (i1 : ∀ y, y < N1 → ∀ y', y' < N1 → c1 y = c1 y' → y = y') (ht : 0 < τ.1) (hlt : ¬ ins τ (32 * c0 x + c1 y) → τ.1 < 1024) (hi : i < 1024) (hx : x < N0) (hy : y < N1) (hb : b.toNat = l) (hR : RX N0 N1 c0 c1 τ pA pB pF pL sx) (h : ∀ pA' pB' pF' pL' sx' : Nat → Int32, RX N0 N1 c0 c1 (ent τ (32 * c0 x + c1 y) i b) pA' pB' pF' pL' sx' → post (f_openStates, f_openBegin, f_openEnd, f_plainCount, f_classes, nI (ent τ (32 * c0 x + c1 y) i b).1, a_arrows, a_begins, a_finals, a_openTo, a_plainSet, a_plainEnd, a_plainNext, a_classOf, a_newClass, a_differs, a_waits, a_members, a_sideNext, a_sideEnd, a_sideCount, a_joined, a_image, pA', pB', pF', pL', sx', a_words, a_more)) : wpX_enterPair post (f_openStates, f_openBegin, f_openEnd, f_plainCount, f_classes, nI τ.1, a_arrows, a_begins, a_finals, a_openTo, a_plainSet, a_plainEnd, a_plainNext, a_classOf, a_newClass, a_differs, a_waits, a_members, a_sideNext, a_sideEnd, a_sideCount, a_joined, a_image, pA, pB, pF, pL, sx, a_words, a_more) (nI x) (nI (32 + y)) (nI i) (nI l) := by
  have hl := tb_lt b
  rw [hb] at hl
  have e5 : ((nI x * 32) + nI (32 + y)) - 32 = nI (32 * x + y) := by
    show ((nI x * nI 32) + nI (32 + y)) - nI 32 = _
    rw [pk_mul, nI_add, pk_sub (by omega)]
    exact congrArg nI (by omega)
  obtain ⟨⟨A, B, hAB⟩, hF, hF0, hS⟩ := hR
  have vc : vp_in (nI (32 * x + y)) 1024 := vp_in_nI (by omega) (by omega)
  refine nm_r e5 ?_
  rw [nI_clamp (by omega), hS x hx y hy]
  refine And.intro vc (bi_z (fun q => ?_) (fun q => ?_))
  · have hin := bd_f.mp q
    have hn := hlt hin
    have vn : vp_in (nI τ.1) 1056 := vp_in_nI (by omega) (by omega)
    have key := h (upd pA τ.1 (nI x)) (upd pB τ.1 (nI (32 + y))) (upd pF τ.1 (nI i)) (upd pL τ.1 (nI l)) (upd sx (32 * x + y) 1)
    rw [ent_f hin] at key
    rw [nI_clamp (by omega), bs_v1, bs_w8 (by omega), bs_w8 (by omega), bs_w8 (by omega), bs_v16 (by omega)]
    refine And.intro vc (nm_e (And.intro vn (nm_e (And.intro vn (nm_e (And.intro vn (nm_e (And.intro vn (nm_e (nm_r (nI_1 τ.1) (key ⟨⟨fun k => if k = τ.1 then x else A k, fun k => if k = τ.1 then y else B k, ?_⟩, ?_, ?_, ?_⟩)))))))))))
    · intro k hk
      have hk' : k < τ.1 + 1 := hk
      show (if k = τ.1 then x else A k) < N0 ∧ (if k = τ.1 then y else B k) < N1 ∧ (if k = τ.1 then 32 * c0 x + c1 y else τ.2.1 k) = 32 * c0 (if k = τ.1 then x else A k) + c1 (if k = τ.1 then y else B k) ∧ upd pA τ.1 (nI x) k = nI (if k = τ.1 then x else A k) ∧ upd pB τ.1 (nI (32 + y)) k = nI (32 + if k = τ.1 then y else B k)
      by_cases z : k = τ.1
      · rw [if_pos z, if_pos z, if_pos z, z, pk_us, pk_us]
        exact ⟨hx, hy, rfl, rfl, rfl⟩
      · rw [if_neg z, if_neg z, if_neg z, pk_un z, pk_un z]
        exact hAB k (by omega)
    · intro k hk0 hk
      have hk' : k < τ.1 + 1 := hk
      show upd pF τ.1 (nI i) k = nI (if k = τ.1 then i else τ.2.2.1 k) ∧ upd pL τ.1 (nI l) k = nI (if k = τ.1 then b else τ.2.2.2 k).toNat
      by_cases z : k = τ.1
      · rw [if_pos z, if_pos z, z, pk_us, pk_us, hb]; exact ⟨rfl, rfl⟩
      · rw [if_neg z, if_neg z, pk_un z, pk_un z]; exact hF k hk0 (by omega)
    · rw [pk_un (by omega)]; exact hF0
    · intro x' hx' y' hy'
      have q0 := k0 x hx
      have q1 := k1 y hy
      have q2 := k0 x' hx'
      have q3 := k1 y' hy'
      by_cases z : 32 * x' + y' = 32 * x + y
      · have e1 : x' = x := by omega
        have e2 : y' = y := by omega
        subst e1 e2
        rw [pk_us]
        have : bd (ins (τ.1 + 1, (fun k => if k = τ.1 then 32 * c0 x' + c1 y' else τ.2.1 k), (fun k => if k = τ.1 then i else τ.2.2.1 k), (fun k => if k = τ.1 then b else τ.2.2.2 k)) (32 * c0 x' + c1 y')) = true := bd_t.mpr ⟨τ.1, Nat.lt_succ_self _, if_pos rfl⟩
        rw [this]; rfl
      · rw [pk_un z, hS x' hx' y' hy']
        apply congrArg bi
        apply Bool.eq_iff_iff.mpr
        rw [bd_t, bd_t]
        constructor
        · rintro ⟨k, hk, e⟩
          exact ⟨k, Nat.lt_succ_of_lt hk, by show (if k = τ.1 then _ else τ.2.1 k) = _; rw [if_neg (by omega)]; exact e⟩
        · rintro ⟨k, hk, e⟩
          have hk' : k < τ.1 + 1 := hk
          have e' : (if k = τ.1 then 32 * c0 x + c1 y else τ.2.1 k) = 32 * c0 x' + c1 y' := e
          by_cases w : k = τ.1
          · rw [if_pos w] at e'
            exfalso
            have e1 : c0 x = c0 x' := by omega
            have e2 : c1 y = c1 y' := by omega
            have := i0 x hx x' hx' e1
            have := i1 y hy y' hy' e2
            omega
          · rw [if_neg w] at e'; exact ⟨k, by omega, e'⟩
  · have hin := bd_t.mp q
    have key := h pA pB pF pL sx
    rw [ent_t hin] at key
    exact key ⟨⟨A, B, hAB⟩, hF, hF0, hS⟩
theorem xw_of {post : Int32 → Prop} {τ : BS} (hF : ∀ k, 0 < k → k < τ.1 → a_pairFrom k = nI (τ.2.2.1 k) ∧ a_pairLetter k = nI (τ.2.2.2 k).toNat) (hF0 : a_pairFrom 0 = -1) (h1024 : τ.1 ≤ 1024) (hpr : ∀ k, 0 < k → k < τ.1 → τ.2.2.1 k < k) {N V : Nat} (hV : V < 2 ^ (N + 1)) (h : post (if N ≤ 29 then nI V else -1)) : ∀ m j k u w (x2 : Int32), j + m = N → N < 1100 → (k = 0 ∨ k < τ.1) → Pth τ m k u → w < 2 ^ j → V = u * 2 ^ j + w → (j ≤ 29 → x2 = nI w) → wX_wordOf_7 post f_openStates f_openBegin f_openEnd f_plainCount f_classes f_listed a_arrows a_begins a_finals a_openTo a_plainSet a_plainEnd a_plainNext a_classOf a_newClass a_differs a_waits a_members a_sideNext a_sideEnd a_sideCount a_joined a_image a_pairA a_pairB a_pairFrom a_pairLetter a_seen a_words a_more (m + 1) x2 (nI j) (nI k) := by
  intro m
  induction m with
  | zero =>
    rintro j k u w x2 e hN hk ⟨rfl, rfl⟩ hw hv hx
    show vp_in (nI 0) 1056 ∧ _
    rw [nI_clamp (by omega), hF0]
    refine And.intro (vp_in_nI (by omega) (by omega)) (br_t (by decide) (pk_le j 29 (fun q => ?_) (fun q => ?_)))
    · rw [if_pos (by omega), hv] at h
      rw [hx q]
      have e1 : (1 : Int32) <<< (nI j &&& 31) = nI (1 * 2 ^ j) := pk_shlN (n := 1) _ j (s_l j (by omega)) (by
        have : 2 ^ j ≤ 2 ^ 29 := Nat.pow_le_pow_right (by decide) q
        omega)
      have e2 : ((1 : Int32) <<< (nI j &&& 31)) ||| nI w = nI (1 * 2 ^ j + w) := by
        rw [e1, nx_or, Nat.or_comm, ← nx_or, or_pw hw, Nat.add_comm]
      rw [e2]; exact h
    · rw [if_neg (by omega)] at h; exact h
  | succ m ih =>
    rintro j k u w x2 e hN hk ⟨h0, hk1, u', hp, rfl⟩ hw hv hx
    have f := hF k h0 hk1
    have pr := hpr k h0 hk1
    have hb := tn_le (τ.2.2.2 k)
    have vk : vp_in (nI k) 1056 := vp_in_nI (by omega) (by omega)
    have pw : 2 ^ (j + 1) = 2 ^ j * 2 := Nat.pow_succ ..
    have hw2 : w + (τ.2.2.2 k).toNat * 2 ^ j < 2 ^ (j + 1) := by
      have : (τ.2.2.2 k).toNat * 2 ^ j ≤ 1 * 2 ^ j := Nat.mul_le_mul_right _ hb
      omega
    have hv2 : V = u' * 2 ^ (j + 1) + (w + (τ.2.2.2 k).toNat * 2 ^ j) := by
      rw [hv, Nat.add_mul, pw]
      have : 2 * u' * 2 ^ j = u' * (2 ^ j * 2) := by rw [Nat.mul_comm 2 u', Nat.mul_assoc, Nat.mul_comm 2]
      omega
    show vp_in (nI k) 1056 ∧ _
    rw [nI_clamp (by omega : k < 2 ^ 31), f.1, f.2]
    refine And.intro vk (br_f (nI_pos (by omega)) (pk_le 29 j (fun q => ?_) (fun q => And.intro vk ?_)))
    · unfold wX_wordOf_37
      rw [nI_clamp (by omega : k < 2 ^ 31), f.1]
      exact nm_r (cb_or0 _) (nm_r (nI_1 j) (And.intro vk (nm_e (ih (j + 1) _ u' _ x2 (by omega) hN (Or.inr (by omega)) hp hw2 hv2 (fun z => by omega)))))
    · unfold wX_wordOf_37
      rw [nI_clamp (by omega : k < 2 ^ 31), f.1]
      have e1 : nI (τ.2.2.2 k).toNat <<< (nI j &&& 31) = nI ((τ.2.2.2 k).toNat * 2 ^ j) := pk_shlN _ j (s_l j (by omega)) (by
        have a1 : (τ.2.2.2 k).toNat * 2 ^ j ≤ 1 * 2 ^ j := Nat.mul_le_mul_right _ hb
        have a2 : 2 ^ j ≤ 2 ^ 29 := Nat.pow_le_pow_right (by decide) (by omega)
        omega)
      rw [e1, hx (by omega), or_pw hw]
      exact nm_e (nm_r (nI_1 j) (And.intro vk (nm_e (ih (j + 1) _ u' _ _ (by omega) hN (Or.inr (by omega)) hp hw2 hv2 (fun _ => rfl)))))
theorem xd_48 {post : Int32 → SX → Prop} {N0 N1 s0 : Nat} {nx0 nx1 : Bool → Nat → Nat} {en0 en1 : Nat → Bool} {c0 c1 : Nat → Nat} (G : GS (g2v N0 N1) (g2x nx0 nx1) (g2e en0 en1) a_sideEnd a_sideNext) (ha : ∀ i, sm (a_arrows i)) (h0 : N0 ≤ 32) (h1 : N1 ≤ 32) (n0 : ∀ i, i < N0 → ∀ b, nx0 b i < N0) (n1 : ∀ i, i < N1 → ∀ b, nx1 b i < N1) (k0 : ∀ x, x < N0 → c0 x < 32) (k1 : ∀ y, y < N1 → c1 y < 32) (i0 : ∀ x, x < N0 → ∀ x', x' < N0 → c0 x = c0 x' → x = x') (i1 : ∀ y, y < N1 → ∀ y', y' < N1 → c1 y = c1 y' → y = y') (s0' : ∀ x, x < N0 → ∀ b, dl a_arrows 0 b (c0 x) = c0 (nx0 b x)) (s1' : ∀ y, y < N1 → ∀ b, dl a_arrows 1 b (c1 y) = c1 (nx1 b y)) (e0 : ∀ x, x < N0 → en0 x = ef (a_finals 0) (c0 x)) (e1 : ∀ y, y < N1 → en1 y = ef (a_finals 1) (c1 y)) : ∀ d i (τ : BS) (pA pB pF pL sx : Nat → Int32), i + d = 1024 → i ≤ τ.1 → BF (np a_arrows) s0 τ (2 * i) → RX N0 N1 c0 c1 τ pA pB pF pL sx → (∀ pA' pB' pF' pL' sx' : Nat → Int32, RX N0 N1 c0 c1 (bsl (np a_arrows) (bk3 a_finals 2) d τ i).1 pA' pB' pF' pL' sx' → if (bsl (np a_arrows) (bk3 a_finals 2) d τ i).1.1 ≤ (bsl (np a_arrows) (bk3 a_finals 2) d τ i).2 then post (-2) (f_openStates, f_openBegin, f_openEnd, f_plainCount, f_classes, nI (bsl (np a_arrows) (bk3 a_finals 2) d τ i).1.1, a_arrows, a_begins, a_finals, a_openTo, a_plainSet, a_plainEnd, a_plainNext, a_classOf, a_newClass, a_differs, a_waits, a_members, a_sideNext, a_sideEnd, a_sideCount, a_joined, a_image, pA', pB', pF', pL', sx', a_words, a_more) else wpX_wordOf (fun r => post r (f_openStates, f_openBegin, f_openEnd, f_plainCount, f_classes, nI (bsl (np a_arrows) (bk3 a_finals 2) d τ i).1.1, a_arrows, a_begins, a_finals, a_openTo, a_plainSet, a_plainEnd, a_plainNext, a_classOf, a_newClass, a_differs, a_waits, a_members, a_sideNext, a_sideEnd, a_sideCount, a_joined, a_image, pA', pB', pF', pL', sx', a_words, a_more)) (f_openStates, f_openBegin, f_openEnd, f_plainCount, f_classes, nI (bsl (np a_arrows) (bk3 a_finals 2) d τ i).1.1, a_arrows, a_begins, a_finals, a_openTo, a_plainSet, a_plainEnd, a_plainNext, a_classOf, a_newClass, a_differs, a_waits, a_members, a_sideNext, a_sideEnd, a_sideCount, a_joined, a_image, pA', pB', pF', pL', sx', a_words, a_more) (nI (bsl (np a_arrows) (bk3 a_finals 2) d τ i).2)) → wX_difference_48 post (d + 1) (nI i) f_openStates f_openBegin f_openEnd f_plainCount f_classes (nI τ.1) a_arrows a_begins a_finals a_openTo a_plainSet a_plainEnd a_plainNext a_classOf a_newClass a_differs a_waits a_members a_sideNext a_sideEnd a_sideCount a_joined a_image pA pB pF pL sx a_words a_more := by
  intro d
  induction d with
  | zero =>
    intro i τ pA pB pF pL sx e hi hB hR h
    have h2 := hB.2.1
    have eb : bsl (np a_arrows) (bk3 a_finals 2) 0 τ i = (τ, i) := rfl
    rw [eb] at h
    have key := h pA pB pF pL sx hR
    rw [if_pos (show τ.1 ≤ i by omega)] at key
    exact br_t (nI_le (by omega) (by omega)) key
  | succ d ih =>
    intro i τ pA pB pF pL sx e hi hB hR h
    have h2 := hB.2.1
    rcases Nat.lt_or_ge i τ.1 with z | z
    · have hR' := hR
      obtain ⟨⟨A, B, hAB⟩, _, _, _⟩ := hR'
      obtain ⟨hA, hBb, hc, eA, eB⟩ := hAB i z
      have gA := G (A i) (Or.inl hA)
      have gB := G (32 + B i) (Or.inr (by omega))
      have vi : vp_in (nI i) 1056 := vp_in_nI (by omega) (by omega)
      have bad : bk3 a_finals 2 (τ.2.1 i) = (en0 (A i) != en1 (B i)) := by
        have q0 := k0 _ hA
        have q1 := k1 _ hBb
        unfold bk3
        rw [if_pos rfl, hc, show (32 * c0 (A i) + c1 (B i)) / 32 = c0 (A i) by omega, show (32 * c0 (A i) + c1 (B i)) % 32 = c1 (B i) by omega, ← e0 _ hA, ← e1 _ hBb]
      have sA : a_sideEnd (A i) = bi (en0 (A i)) := by
        rw [gA.2.1]; unfold g2e; rw [if_pos (by omega)]
      have sB : a_sideEnd (32 + B i) = bi (en1 (B i)) := by
        rw [gB.2.1]; unfold g2e; rw [if_neg (by omega), Nat.add_sub_cancel_left]
      have hnp : ∀ b, np a_arrows b (τ.2.1 i) = 32 * c0 (nx0 b (A i)) + c1 (nx1 b (B i)) := by
        intro b
        have q0 := k0 _ hA
        have q1 := k1 _ hBb
        unfold np
        rw [hc, show (32 * c0 (A i) + c1 (B i)) / 32 = c0 (A i) by omega, show (32 * c0 (A i) + c1 (B i)) % 32 = c1 (B i) by omega, s0' _ hA, s1' _ hBb]
      -- one letter
      have one_l : ∀ (l fu : Nat) (b : Bool) (τ1 : BS) (pA1 pB1 pF1 pL1 sx1 : Nat → Int32), b.toNat = l → BF (np a_arrows) s0 τ1 (2 * i + l) → i < τ1.1 → τ1.2.1 i = τ.2.1 i → RX N0 N1 c0 c1 τ1 pA1 pB1 pF1 pL1 sx1 → pA1 i = nI (A i) → pB1 i = nI (32 + B i) → (∀ pA2 pB2 pF2 pL2 sx2 : Nat → Int32, RX N0 N1 c0 c1 (ent τ1 (np a_arrows b (τ1.2.1 i)) i b) pA2 pB2 pF2 pL2 sx2 → wX_difference_89 post (wX_difference_48 post (d + 1)) (nI i) fu (nI (l + 1)) f_openStates f_openBegin f_openEnd f_plainCount f_classes (nI (ent τ1 (np a_arrows b (τ1.2.1 i)) i b).1) a_arrows a_begins a_finals a_openTo a_plainSet a_plainEnd a_plainNext a_classOf a_newClass a_differs a_waits a_members a_sideNext a_sideEnd a_sideCount a_joined a_image pA2 pB2 pF2 pL2 sx2 a_words a_more) → wX_difference_89 post (wX_difference_48 post (d + 1)) (nI i) (fu + 1) (nI l) f_openStates f_openBegin f_openEnd f_plainCount f_classes (nI τ1.1) a_arrows a_begins a_finals a_openTo a_plainSet a_plainEnd a_plainNext a_classOf a_newClass a_differs a_waits a_members a_sideNext a_sideEnd a_sideCount a_joined a_image pA1 pB1 pF1 pL1 sx1 a_words a_more := by
        intro l fu b τ1 pA1 pB1 pF1 pL1 sx1 hb B1 hi1 hcode R1 eA1 eB1 hh
        have hl := tb_lt b
        rw [hb] at hl
        have tA := (gA.2.2 b).1
        have tB := (gB.2.2 b).1
        rw [hb] at tA tB
        have gxA : g2x nx0 nx1 b (A i) = nx0 b (A i) := by unfold g2x; rw [if_pos (by omega)]
        have gxB : g2x nx0 nx1 b (32 + B i) = 32 + nx1 b (B i) := by unfold g2x; rw [if_neg (by omega), Nat.add_sub_cancel_left]
        rw [gxA] at tA
        rw [gxB] at tB
        have E := BF_ent (b := b) (fun b c => (np_s ha b c).1) B1 hi1 (by rw [hb])
        rw [hcode, hnp b] at E hh
        refine br_f (nI_ge (b := 2) hl (by omega)) ?_
        rw [nI_clamp (by omega : i < 2 ^ 31), eA1, eB1, m2l, m2l, nI_clamp (by omega : 2 * A i + l < 2 ^ 31), nI_clamp (by omega : 2 * (32 + B i) + l < 2 ^ 31), tA, tB]
        refine And.intro vi (And.intro (vp_in_nI (by omega) (by omega)) (nm_e (And.intro vi (And.intro (vp_in_nI (by omega) (by omega)) (nm_e (xe_ent h0 h1 k0 k1 i0 i1 B1.1 (fun hin => ?_) (by omega) (n0 _ hA b) (n1 _ hBb b) hb R1 (fun pA2 pB2 pF2 pL2 sx2 R2 => nm_r (nI_1 l) (hh pA2 pB2 pF2 pL2 sx2 R2))))))))
        have := E.1.2.1
        rw [ent_f hin] at this
        exact this
      have hx : ∀ b c, np a_arrows b c < 1024 := fun b c => (np_s ha b c).1
      refine br_f (nI_ge (by omega) (by omega)) ?_
      rw [nI_clamp (by omega : i < 2 ^ 31), eA, eB, nI_clamp (by omega : A i < 2 ^ 31), nI_clamp (by omega : 32 + B i < 2 ^ 31), sA, sB]
      refine And.intro vi (And.intro (vp_in_nI (by omega) (by omega)) (And.intro vi (And.intro (vp_in_nI (by omega) (by omega)) (bi_e (fun q => ?_) (fun q => ?_)))))
      · have eb : bsl (np a_arrows) (bk3 a_finals 2) (d + 1) τ i = bsl (np a_arrows) (bk3 a_finals 2) d (nst (np a_arrows) τ i) (i + 1) := by
          show (if τ.1 ≤ i then (τ, i) else if bk3 a_finals 2 (τ.2.1 i) = true then (τ, i) else _) = _
          rw [if_neg (by omega), if_neg (by rw [bad, bne_eq_false_iff_eq.mpr q]; decide)]
        rw [eb] at h
        have E1 := BF_ent (b := false) hx hB z rfl
        have N := BF_nst hx hB z
        have c1' := E1.2.2 i z
        have l1' := E1.2.1
        refine Exists.intro 3 (one_l 0 2 false τ pA pB pF pL sx rfl hB z rfl hR eA eB (fun pA1 pB1 pF1 pL1 sx1 R1 => ?_))
        have R1' := R1
        obtain ⟨⟨A1, B1, hAB1⟩, _, _, _⟩ := R1'
        obtain ⟨hA1, hB1, hc1, eA1, eB1⟩ := hAB1 i (by omega)
        have hcc : 32 * c0 (A1 i) + c1 (B1 i) = 32 * c0 (A i) + c1 (B i) := by rw [← hc1, c1', hc]
        have q0 := k0 _ hA
        have q1 := k1 _ hBb
        have q2 := k0 _ hA1
        have q3 := k1 _ hB1
        have eqA : A1 i = A i := i0 _ hA1 _ hA (by omega)
        have eqB : B1 i = B i := i1 _ hB1 _ hBb (by omega)
        rw [eqA] at eA1
        rw [eqB] at eB1
        refine one_l 1 1 true _ pA1 pB1 pF1 pL1 sx1 rfl E1.1 (by omega) c1' R1 eA1 eB1 (fun pA2 pB2 pF2 pL2 sx2 R2 => ?_)
        rw [c1'] at R2 ⊢
        exact br_t (by decide) (nm_r (nI_1 i) (ih (i + 1) (nst (np a_arrows) τ i) pA2 pB2 pF2 pL2 sx2 (by omega) (by have := N.2.1; omega) N.1 R2 h))
      · have eb : bsl (np a_arrows) (bk3 a_finals 2) (d + 1) τ i = (τ, i) := by
          show (if τ.1 ≤ i then (τ, i) else if bk3 a_finals 2 (τ.2.1 i) = true then (τ, i) else _) = _
          rw [if_neg (by omega), if_pos (by rw [bad]; exact bne_iff_ne.mpr q)]
        rw [eb] at h
        have key := h pA pB pF pL sx hR
        rw [if_neg (show ¬ τ.1 ≤ i by omega)] at key
        exact key
    · have eb : bsl (np a_arrows) (bk3 a_finals 2) (d + 1) τ i = (τ, i) := by
        show (if τ.1 ≤ i then (τ, i) else _) = _
        rw [if_pos z]
      rw [eb] at h
      have key := h pA pB pF pL sx hR
      rw [if_pos (show τ.1 ≤ i from z)] at key
      exact br_t (nI_le z (by omega)) key
theorem xd_12 {post : Int32 → SX → Prop} (h : ∀ sx : Nat → Int32, (∀ c, c < 1024 → sx c = 0) → wpX_enterPair (fun u => match u with | (f_openStates, f_openBegin, f_openEnd, f_plainCount, f_classes, f_listed, a_arrows, a_begins, a_finals, a_openTo, a_plainSet, a_plainEnd, a_plainNext, a_classOf, a_newClass, a_differs, a_waits, a_members, a_sideNext, a_sideEnd, a_sideCount, a_joined, a_image, a_pairA, a_pairB, a_pairFrom, a_pairLetter, a_seen, a_words, a_more) => ∃ n48 : Nat, wX_difference_48 post n48 0 f_openStates f_openBegin f_openEnd f_plainCount f_classes f_listed a_arrows a_begins a_finals a_openTo a_plainSet a_plainEnd a_plainNext a_classOf a_newClass a_differs a_waits a_members a_sideNext a_sideEnd a_sideCount a_joined a_image a_pairA a_pairB a_pairFrom a_pairLetter a_seen a_words a_more) (f_openStates, f_openBegin, f_openEnd, f_plainCount, f_classes, 0, a_arrows, a_begins, a_finals, a_openTo, a_plainSet, a_plainEnd, a_plainNext, a_classOf, a_newClass, a_differs, a_waits, a_members, a_sideNext, a_sideEnd, a_sideCount, a_joined, a_image, a_pairA, a_pairB, a_pairFrom, a_pairLetter, sx, a_words, a_more) 0 32 (-1) 0) : ∀ d i (sx : Nat → Int32), i + d = 1024 → (∀ j, j < i → sx j = 0) → wX_difference_12 post f_openStates f_openBegin f_openEnd f_plainCount f_classes f_listed (d + 1) (nI i) a_arrows a_begins a_finals a_openTo a_plainSet a_plainEnd a_plainNext a_classOf a_newClass a_differs a_waits a_members a_sideNext a_sideEnd a_sideCount a_joined a_image a_pairA a_pairB a_pairFrom a_pairLetter sx a_words a_more := by
  intro d
  induction d with
  | zero =>
    intro i sx e hs
    rw [show i = 1024 by omega] at hs ⊢
    exact br_t (by decide) (h sx hs)
  | succ d ih =>
    intro i sx e hs
    refine br_f (nI_ge (b := 1024) (by omega) (by omega)) ?_
    rw [nI_clamp (by omega), bs_v0]
    refine And.intro (vp_in_nI (by omega) (by omega)) (nm_e (nm_r (nI_1 i) (ih (i + 1) _ (by omega) ?_)))
    intro j hj
    by_cases z : j = i
    · rw [z, pk_us]
    · rw [pk_un z]; exact hs j (by omega)
end difference
end
section
/-! difference, joined -/
theorem cd_all {a b f : Nat → Int32} {m N : Nat} {nx : Bool → Nat → Nat} {en : Nat → Bool} {ps : Nat → Int32} (ok : Ok a b f) (P : PD (Lg a b f m) N nx en) (S : PS (gs a m) (b m) (f m) N nx en ps) : ∃ c : Nat → Nat, (∀ x, x < N → c x < 32) ∧ (∀ x, x < N → ∀ x', x' < N → c x = c x' → x = x') ∧ (∀ x, x < N → ∀ b, dl a m b (c x) = c (nx b x)) ∧ (∀ x, x < N → en x = ef (f m) (c x)) ∧ b m = nI (c 0) := by
  have key : ∀ x, x < N → (ps x).toNatClampNeg < 32 ∧ ps x = nI (ps x).toNatClampNeg := by
    intro x hx
    obtain ⟨w, e⟩ := P.2.2.2 x hx
    have hs : sm (ps x) := by
      rw [← e, PS_rn P S]
      exact rn_inv sm (fun c T _ => stp_sm ok.1 m c.toNat T) w (b m) (ok.2.1 m)
    obtain ⟨n, hn, en⟩ := sm_nat hs
    rw [en, nI_clamp (by omega)]; exact ⟨hn, rfl⟩
  refine ⟨fun x => (ps x).toNatClampNeg, fun x hx => (key x hx).1, ?_, ?_, ?_, ?_⟩
  · intro x hx x' hx' e
    apply S.2.2.1 x hx x' hx'
    have e' : (ps x).toNatClampNeg = (ps x').toNatClampNeg := e
    rw [(key x hx).2, (key x' hx').2, e']
  · intro x hx c
    show (gs a m c (nI (ps x).toNatClampNeg)).toNatClampNeg = (ps (nx c x)).toNatClampNeg
    rw [← (key x hx).2, S.2.1 x hx c]
  · intro x hx
    show en x = ht (nI (ps x).toNatClampNeg) (f m)
    rw [← (key x hx).2]; exact S.2.2.2 x hx
  · show b m = nI (ps 0).toNatClampNeg
    rw [← (key 0 P.1).2]; exact S.1.symm
section last
variable {f_openStates f_openBegin f_openEnd f_plainCount f_classes f_listed : Int32} {a_arrows a_begins a_finals a_openTo a_plainSet a_plainEnd a_plainNext a_classOf a_newClass a_differs a_waits a_members a_sideNext a_sideEnd a_sideCount a_joined a_image a_pairA a_pairB a_pairFrom a_pairLetter a_seen a_words a_more : Nat → Int32}
variable {y_order y_seen y_apart : Nat → Int32} {y_words : Nat → Int64}
/-- the reference, at the end of the search -/
theorem yd_all {k x0 y0 : Nat} {r : Int32} {u' : SX} (ok : Ok a_arrows a_begins a_finals) (hx0 : x0 < 32) (hy0 : y0 < 32) (bx : a_begins 0 = nI x0) (by0 : a_begins 1 = nI y0) (hR : ∀ (od se : Nat → Int32) (wo : Nat → Int64), i_Rel (k + 5) u' (a_arrows, a_begins, a_finals, od, se, wo, y_apart)) (h : ((bsl (np a_arrows) (bk3 a_finals 2) 1024 (bs0 (32 * x0 + y0)) 0).1.1 ≤ (bsl (np a_arrows) (bk3 a_finals 2) 1024 (bs0 (32 * x0 + y0)) 0).2 ∧ r = -2) ∨ (¬ (bsl (np a_arrows) (bk3 a_finals 2) 1024 (bs0 (32 * x0 + y0)) 0).1.1 ≤ (bsl (np a_arrows) (bk3 a_finals 2) 1024 (bs0 (32 * x0 + y0)) 0).2 ∧ ∃ n v, Pth (bsl (np a_arrows) (bk3 a_finals 2) 1024 (bs0 (32 * x0 + y0)) 0).1 n (bsl (np a_arrows) (bk3 a_finals 2) 1024 (bs0 (32 * x0 + y0)) 0).2 v ∧ r = if n ≤ 29 then nI v else -1)) : wpY_difference (fun r' v' => r' = r ∧ i_Rel (k + 5) u' v') (a_arrows, a_begins, a_finals, y_order, y_seen, y_words, y_apart) := by
  have hx : ∀ b c, np a_arrows b c < 1024 := fun b c => (np_s ok.1 b c).1
  obtain ⟨b1, b2, b3, b4⟩ := bsl_p (bad := bk3 a_finals 2) (nx := np a_arrows) hx 1024 (bs0 (32 * x0 + y0)) 0 rfl (Nat.zero_le _) (BF_0 (by omega)) (fun j hj => absurd hj (Nat.not_lt_zero j))
  unfold wpY_difference
  dsimp only
  refine ysr_all (κ := 2) ok (by omega) hx0 hy0 bx by0 (fun od se wo R => ?_)
  dsimp only
  generalize bsl (np a_arrows) (bk3 a_finals 2) 1024 (bs0 (32 * x0 + y0)) 0 = T at *
  rcases h with ⟨z, rfl⟩ | ⟨z, n, v, hp, rfl⟩
  · rw [if_pos z]
    exact br_f (by decide) (And.intro rfl (hR od se wo))
  · rw [if_neg z]
    have b1024 := b1.2.1
    have hi : T.2 < T.1.1 := by omega
    obtain ⟨_, _, wv, hW, hwo⟩ := R
    have hv := Pth_wv hW n _ _ hp
    have hb := Pth_v n _ _ hp
    have hwb := hW.2.1 _ hi
    refine br_t (nI_pos' (by omega)) ?_
    rw [nI_clamp (by omega), hwo _ hi, lN_i]
    have vi : vp_in (nI T.2) 1024 := vp_in_nI (by omega) (by omega)
    have cmp : lN (wv T.2) ≤ 1073741824 ↔ wv T.2 ≤ 1073741824 := pk_lLE (a := wv T.2) (b := 1073741824) (by omega) (by omega)
    by_cases hn : n ≤ 29
    · rw [if_pos hn]
      have e := hv.1 (by omega)
      have : 2 ^ (n + 1) ≤ 2 ^ 30 := Nat.pow_le_pow_right (by decide) (by omega)
      refine And.intro vi (br_t (cmp.mpr (by omega)) (And.intro vi (And.intro ?_ (hR od se wo))))
      rw [e]
    · rw [if_neg hn]
      refine And.intro vi (br_f (fun q => ?_) (And.intro rfl (hR od se wo)))
      have q' := cmp.mp q
      by_cases h40 : n ≤ 40
      · have e := hv.1 h40
        by_cases h30 : n = 30
        · -- thirty zeros: not the first difference
          subst h30
          have e30 : v = 2 ^ 30 := by omega
          rw [e30] at hp
          obtain ⟨p1, p2⟩ := Pth_0 b1 30 T.2 hi hp
          have bd : bk3 a_finals 2 (T.1.2.1 T.2) = true := by
            rcases b4 with y | y
            · omega
            · exact y
          have lang : ∀ w : List Bool, bk3 a_finals 2 (rn (np a_arrows) (32 * x0 + y0) w) = false ↔ (Lg a_arrows a_begins a_finals 0 w ↔ Lg a_arrows a_begins a_finals 1 w) := by
            intro w
            obtain ⟨e1, l0, l1⟩ := np_rn ok.1 hx0 hy0 w
            have q0 := (dl_r ok.1 0 w x0 hx0).2
            have q1 := (dl_r ok.1 1 w y0 hy0).2
            unfold bk3 Lg
            rw [if_pos rfl, e1, show (32 * rn (dl a_arrows 0) x0 w + rn (dl a_arrows 1) y0 w) / 32 = rn (dl a_arrows 0) x0 w by omega, show (32 * rn (dl a_arrows 0) x0 w + rn (dl a_arrows 1) y0 w) % 32 = rn (dl a_arrows 1) y0 w by omega, bx, by0, q0, q1]
            unfold ef
            rw [bne_eq_false_iff_eq]
            exact Bool.eq_iff_iff
          have all : ∀ j, j < 30 → (Lg a_arrows a_begins a_finals 0 (List.replicate j false) ↔ Lg a_arrows a_begins a_finals 1 (List.replicate j false)) := by
            intro j hj
            obtain ⟨k', h1, h2⟩ := p2 j hj
            have := b3 k' h1
            rw [h2] at this
            exact (lang _).mp this
          have := (lang _).mpr (Lg_30 ok all)
          rw [← p1, bd] at this
          exact absurd this (by decide)
        · have : 2 ^ 31 ≤ 2 ^ n := Nat.pow_le_pow_right (by decide) (by omega)
          omega
      · have := hv.2 (by omega)
        omega
theorem i_vc_difference {k : Nat} {u : SX} {v : SY} (I : i_Rel k u v) (hk : k + 5 ≤ 2560) : wpX_difference (fun r u' => wpY_difference (fun r' v' => r' = r ∧ i_Rel (k + 5) u' v') v) u := by
  refine rel_el (P := fun u v => wpX_difference (fun r u' => wpY_difference (fun r' v' => r' = r ∧ i_Rel (k + 5) u' v') v) u) ?_ I
  intro f_openStates f_openBegin f_openEnd f_plainCount f_classes f_listed a_arrows a_begins a_finals a_openTo a_plainSet a_plainEnd a_plainNext a_classOf a_newClass a_differs a_waits a_members a_sideNext a_sideEnd a_sideCount a_joined a_image a_pairA a_pairB a_pairFrom a_pairLetter a_seen a_words a_more y_order y_seen y_words y_apart ok
  unfold wpX_difference
  dsimp only
  refine as_put (m := 0) (by omega) ok (fun o0 N0 ps0 pe0 pn0 nx0 en0 se0 sn0 sc0 hN0 P0 S0 D0 k1 k2 => ?_)
  refine as_put (m := 1) (by omega) ok (fun o N1 ps1 pe pn nx1 en1 se sn sc hN1 P1 S1 D1 k3 k4 => ?_)
  have G := as_G hN0 hN1 P0.2.1 P1.2.1 D0 D1 k3 k4
  obtain ⟨c0, a1, a2, a3, a4, a5⟩ := cd_all ok P0 S0
  obtain ⟨c1, d1, d2, d3, d4, d5⟩ := cd_all ok P1 S1
  have x32 := a1 0 P0.1
  have y32 := d1 0 P1.1
  have hx : ∀ b c, np a_arrows b c < 1024 := fun b c => (np_s ok.1 b c).1
  have hb := bsl_p (bad := bk3 a_finals 2) (nx := np a_arrows) hx 1024 (bs0 (32 * c0 0 + c1 0)) 0 rfl (Nat.zero_le _) (BF_0 (by omega)) (fun j hj => absurd hj (Nat.not_lt_zero j))
  refine Exists.intro 1025 (xd_12 (fun sx hs => ?_) 1024 0 a_seen rfl (fun j hj => absurd hj (Nat.not_lt_zero j)))
  have z0 : (0 : Int32).toNatClampNeg = 0 := by decide
  have v0 : vp_in 0 1024 := vp_in_nI (n := 0) (by omega) (by omega)
  have v1 : vp_in 0 1056 := vp_in_nI (n := 0) (by omega) (by omega)
  have w0 : vp_nar .byte ((0 : Int32).toInt8.toInt32) = nI 0 := bs_w8 (n := 0) (by omega)
  have w32 : vp_nar .byte ((32 : Int32).toInt8.toInt32) = nI 32 := bs_w8 (n := 32) (by omega)
  refine nm_r (e' := 0) (by decide) ?_
  rw [z0, hs 0 (by omega), w0, w32, bs_m16, bs_v1]
  refine And.intro v0 (br_t rfl (And.intro v0 (nm_e (And.intro v1 (nm_e (And.intro v1 (nm_e (And.intro v1 (nm_e (And.intro v1 (nm_e (nm_r (e' := nI 1) (by decide) ?_))))))))))))
  refine Exists.intro 1025 (xd_48 (a_sideEnd := se) (a_sideNext := sn) (s0 := 32 * c0 0 + c1 0) (c0 := c0) (c1 := c1) G ok.1 hN0 hN1 P0.2.1 P1.2.1 a1 d1 a2 d2 a3 d3 a4 d4 1024 0 (bs0 (32 * c0 0 + c1 0)) _ _ _ _ _ rfl (Nat.zero_le _) (BF_0 (by omega)) ⟨⟨fun _ => 0, fun _ => 0, ?_⟩, ?_, pk_us, ?_⟩ (fun pA' pB' pF' pL' sx' R => ?_))
  · intro j hj
    have hj' : j < 1 := hj
    rw [show j = 0 by omega, pk_us, pk_us]
    exact ⟨P0.1, P1.1, rfl, rfl, rfl⟩
  · intro j h0 hj
    have hj' : j < 1 := hj
    omega
  · intro x hx' y hy'
    by_cases z : 32 * x + y = 0
    · have e1 : x = 0 := by omega
      have e2 : y = 0 := by omega
      subst e1 e2
      rw [show 32 * 0 + 0 = 0 from rfl, pk_us]
      have : bd (ins (bs0 (32 * c0 0 + c1 0)) (32 * c0 0 + c1 0)) = true := bd_t.mpr ⟨0, Nat.one_pos, rfl⟩
      rw [this]; rfl
    · rw [pk_un z, hs _ (by omega)]
      have : bd (ins (bs0 (32 * c0 0 + c1 0)) (32 * c0 x + c1 y)) = false := bd_f.mpr (fun ⟨k', _, e⟩ => by
        have e' : 32 * c0 0 + c1 0 = 32 * c0 x + c1 y := e
        have q2 := a1 x hx'
        have q3 := d1 y hy'
        have := a2 0 P0.1 x hx' (by omega)
        have := d2 0 P1.1 y hy' (by omega)
        omega)
      rw [this]; rfl
  · by_cases z : (bsl (np a_arrows) (bk3 a_finals 2) 1024 (bs0 (32 * c0 0 + c1 0)) 0).1.1 ≤ (bsl (np a_arrows) (bk3 a_finals 2) 1024 (bs0 (32 * c0 0 + c1 0)) 0).2
    · rw [if_pos z]
      exact yd_all ok x32 y32 a5 d5 (fun od se wo => rel_i ok) (Or.inl ⟨z, rfl⟩)
    · rw [if_neg z]
      have hlt : (bsl (np a_arrows) (bk3 a_finals 2) 1024 (bs0 (32 * c0 0 + c1 0)) 0).2 < (bsl (np a_arrows) (bk3 a_finals 2) 1024 (bs0 (32 * c0 0 + c1 0)) 0).1.1 := by omega
      obtain ⟨n, vv, hn, hp⟩ := Pth_ex hb.1 _ _ (Nat.lt_succ_self _) hlt
      have b1024 := hb.1.2.1
      obtain ⟨_, hF, hF0, _⟩ := R
      have hv := Pth_v n _ _ hp
      unfold wpX_wordOf
      dsimp only
      refine Exists.intro (n + 1) (xw_of (a_pairFrom := pF') (a_pairLetter := pL') (N := n) (V := vv) hF hF0 b1024 (fun k' h1 h2 => (hb.1.2.2.2.2.2.1 k' h1 h2).1) hv.2 ?_ n 0 _ vv 0 0 (by omega) (by omega) (Or.inr hlt) hp (by decide) (by omega) (fun _ => rfl))
      exact yd_all ok x32 y32 a5 d5 (fun od se wo => rel_i ok) (Or.inr ⟨z, n, vv, hp, rfl⟩)
end last
end
