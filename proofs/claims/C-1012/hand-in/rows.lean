section
/-! pure rows to paste: stores, nI and lN arithmetic, masks, shifts, narrowing, branches by naturals (pk_le, pk_lt, pk_eq), loops (lp1 .. lp16: the measure of the state; rp1 ..: recursion), negatives. Take what you need -/
theorem pk_us {f : Nat → Int32} {k : Nat} {x : Int32} : upd f k x k = x := if_pos rfl
theorem pk_un {f : Nat → Int32} {k j : Nat} {x : Int32} (h : j ≠ k) : upd f k x j = f j := if_neg h
theorem pk_uLs {f : Nat → Int64} {k : Nat} {x : Int64} : vp_updL f k x k = x := if_pos rfl
theorem pk_uLn {f : Nat → Int64} {k j : Nat} {x : Int64} (h : j ≠ k) : vp_updL f k x j = f j := if_neg h
theorem pk_sub {a b : Nat} (h : b ≤ a) : nI a - nI b = nI (a - b) := by
  obtain ⟨c, rfl⟩ : ∃ c, a = c + b := ⟨a - b, by omega⟩
  rw [← nI_add, Int32.add_sub_cancel, Nat.add_sub_cancel]
theorem pk_m1 (n : Nat) : nI (n + 1) + (-1) = nI n := by
  rw [← nI_1, Int32.add_assoc, show (1 : Int32) + (-1) = 0 from rfl, Int32.add_zero]
theorem pk_mul (a b : Nat) : nI a * nI b = nI (a * b) := (Int32.ofNat_mul a b).symm
theorem pk_div {a d : Nat} (ha : a < 2 ^ 31) (h0 : 0 < d) (hd : d < 2 ^ 31) : nI a / nI d = nI (a / d) := by
  apply Int32.toInt_inj.mp
  rw [lg_idiv_nonneg (by rw [nI_toInt ha]; omega) (by rw [nI_toInt hd]; omega), nI_toInt ha, nI_toInt hd, nI_toInt (Nat.lt_of_le_of_lt (Nat.div_le_self a d) ha)]
  first | rfl | exact (Int.natCast_ediv _ _).symm
theorem pk_rem {a d : Nat} (ha : a < 2 ^ 31) (h0 : 0 < d) (hd : d < 2 ^ 31) : nI a - nI a / nI d * nI d = nI (a % d) := by
  rw [pk_div ha h0 hd, pk_mul, pk_sub (Nat.div_mul_le_self a d)]
  exact congrArg nI (by have := Nat.div_add_mod' a d; omega)
theorem pk_sub_toInt {a b : Nat} (ha : a < 2 ^ 30) (hb : b < 2 ^ 30) : (nI a - nI b).toInt = (a : Int) - b := by
  rw [Int32.toInt_sub, nI_toInt (by omega), nI_toInt (by omega)]
  exact Int.bmod_eq_of_le (by omega) (by omega)
theorem pk_sneg {a b : Nat} (hb : b < 2 ^ 30) (h : a < b) : nI a - nI b < 0 := by
  rw [Int32.lt_iff_toInt_lt, pk_sub_toInt (by omega) hb, show (0 : Int32).toInt = 0 from by decide]
  omega
theorem pk_ix (x : Int32) {n : Nat} (hn : n < 2 ^ 31) : x < 0 ∨ nI n ≤ x ∨ ∃ j : Nat, j < n ∧ x = nI j := by
  by_cases h : x < 0
  · exact Or.inl h
  · obtain ⟨j, hj, rfl⟩ := nI_of h
    by_cases h2 : j < n
    · exact Or.inr (Or.inr ⟨j, h2, rfl⟩)
    · exact Or.inr (Or.inl (nI_le (by omega) hj))
theorem pk_le {x y : Int32} {A B : Prop} (a b : Nat) (f : a ≤ b → A) (g : b < a → B) (hx : x = nI a := by rfl) (hy : y = nI b := by rfl) (ha : a < 2 ^ 31 := by omega) (hb : b < 2 ^ 31 := by omega) : (x ≤ y → A) ∧ (¬ x ≤ y → B) := by
  subst hx hy
  rw [nI_leI ha hb]
  exact ⟨f, fun z => g (by omega)⟩
theorem pk_lt {x y : Int32} {A B : Prop} (a b : Nat) (f : a < b → A) (g : b ≤ a → B) (hx : x = nI a := by rfl) (hy : y = nI b := by rfl) (ha : a < 2 ^ 31 := by omega) (hb : b < 2 ^ 31 := by omega) : (x < y → A) ∧ (¬ x < y → B) := by
  subst hx hy
  rw [nI_ltI ha hb]
  exact ⟨f, fun z => g (by omega)⟩
theorem pk_eq {x y : Int32} {A B : Prop} (a b : Nat) (f : a = b → A) (g : a ≠ b → B) (hx : x = nI a := by rfl) (hy : y = nI b := by rfl) (ha : a < 2 ^ 31 := by omega) (hb : b < 2 ^ 31 := by omega) : (x = y → A) ∧ (¬ x = y → B) := by
  subst hx hy
  rw [nI_eq ha hb]
  exact ⟨f, g⟩
theorem pk_in {x : Int32} (n N : Nat) (h : n < N) (hx : x = nI n := by rfl) (hN : N < 2 ^ 31 := by omega) : vp_in x N := by
  subst hx
  exact vp_in_nI h hN
theorem pk_cl {x : Int32} (n : Nat) (hx : x = nI n := by rfl) (h : n < 2 ^ 31 := by omega) : x.toNatClampNeg = n := by
  subst hx
  exact nI_clamp h
theorem pk_tn {n : Nat} (h : n < 2 ^ 32) : (nI n).toBitVec.toNat = n := Nat.mod_eq_of_lt h
theorem pk_and (x : Int32) {m : Int32} (k : Nat) (hm : m.toBitVec.toNat = 2 ^ k - 1) : x &&& m = nI (x.toBitVec.toNat % 2 ^ k) := by
  apply Int32.toBitVec_inj.mp
  apply BitVec.eq_of_toNat_eq
  rw [Int32.toBitVec_and, BitVec.toNat_and, hm, Nat.and_two_pow_sub_one_eq_mod]
  show _ = (BitVec.ofNat 32 _).toNat
  rw [BitVec.toNat_ofNat]
  exact (Nat.mod_eq_of_lt (Nat.lt_of_le_of_lt (Nat.mod_le _ _) x.toBitVec.isLt)).symm
theorem pk_andN {n : Nat} (h : n < 2 ^ 32) {m : Int32} (k : Nat) (hm : m.toBitVec.toNat = 2 ^ k - 1) : nI n &&& m = nI (n % 2 ^ k) := by
  rw [pk_and _ k hm, pk_tn h]
theorem pk_andE (x : Int32) {m : Int32} (k : Nat) (hm : m.toBitVec.toNat = 2 ^ k - 1) : ∃ j : Nat, j < 2 ^ k ∧ x &&& m = nI j := ⟨_, Nat.mod_lt _ (Nat.two_pow_pos k), pk_and x k hm⟩
theorem pk_andIn (x : Int32) {m : Int32} (k : Nat) (hm : m.toBitVec.toNat = 2 ^ k - 1) (hk : k ≤ 30) : vp_in (x &&& m) (2 ^ k) := by
  obtain ⟨j, hj, e⟩ := pk_andE x k hm
  rw [e]
  exact vp_in_nI hj (Nat.lt_of_le_of_lt (Nat.pow_le_pow_right (by decide) hk) (by decide))
theorem pk_shl (a s : Int32) (k : Nat) (hs : (s.toBitVec.smod 32).toNat = k) : (a <<< s).toBitVec.toNat = a.toBitVec.toNat * 2 ^ k % 2 ^ 32 := by
  show (a.toBitVec <<< (s.toBitVec.smod 32).toNat).toNat = _
  rw [hs, BitVec.toNat_shiftLeft, Nat.shiftLeft_eq]
theorem pk_shlN {n : Nat} (s : Int32) (k : Nat) (hs : (s.toBitVec.smod 32).toNat = k) (h : n * 2 ^ k < 2 ^ 32) : nI n <<< s = nI (n * 2 ^ k) := by
  apply Int32.toBitVec_inj.mp
  apply BitVec.eq_of_toNat_eq
  have hn : n < 2 ^ 32 := Nat.lt_of_le_of_lt (Nat.le_mul_of_pos_right n (Nat.two_pow_pos k)) h
  rw [pk_shl _ _ k hs, pk_tn hn, pk_tn h, Nat.mod_eq_of_lt h]
theorem pk_shr (a s : Int32) (k : Nat) (hs : (s.toBitVec.smod 32).toNat = k) : (a >>> s).toInt = a.toInt >>> k := by
  show (a.toBitVec.sshiftRight (s.toBitVec.smod 32).toNat).toInt = _
  rw [hs, BitVec.toInt_sshiftRight]
  rfl
theorem pk_shrN {n : Nat} (h : n < 2 ^ 31) (s : Int32) (k : Nat) (hs : (s.toBitVec.smod 32).toNat = k) : nI n >>> s = nI (n / 2 ^ k) := by
  apply Int32.toInt_inj.mp
  have h2 : n / 2 ^ k ≤ n := Nat.div_le_self _ _
  rw [pk_shr _ _ k hs, nI_toInt h, nI_toInt (by omega), Int.shiftRight_eq_div_pow]
  rfl
theorem pk_ushr (x s : Int32) (k : Nat) (hs : ((s.toUInt32 &&& Int32.toUInt32 31).toBitVec % 32).toNat = k) : (x.toUInt32 >>> (s.toUInt32 &&& Int32.toUInt32 31)).toInt32.toBitVec.toNat = x.toBitVec.toNat / 2 ^ k := by
  have e : (x.toUInt32 >>> (s.toUInt32 &&& Int32.toUInt32 31)).toInt32.toBitVec = x.toBitVec >>> k := by
    rw [← hs]
    exact UInt32.toBitVec_shiftRight _ _
  rw [e, BitVec.toNat_ushiftRight, Nat.shiftRight_eq_div_pow]
theorem pk_ushrN {n : Nat} (hn : n < 2 ^ 32) (s : Int32) (k : Nat) (hs : ((s.toUInt32 &&& Int32.toUInt32 31).toBitVec % 32).toNat = k) : ((nI n).toUInt32 >>> (s.toUInt32 &&& Int32.toUInt32 31)).toInt32 = nI (n / 2 ^ k) := by
  apply Int32.toBitVec_inj.mp
  apply BitVec.eq_of_toNat_eq
  rw [pk_ushr _ s k hs, pk_tn hn, pk_tn (Nat.lt_of_le_of_lt (Nat.div_le_self _ _) hn)]
theorem pk_nb (z : Int32) : narrow .byte (.int z.toInt8.toInt32) = .int z.toInt8.toInt32 := congrArg Value.int (by simp)
theorem pk_ns (z : Int32) : narrow .short (.int z.toInt16.toInt32) = .int z.toInt16.toInt32 := congrArg Value.int (by simp)
theorem pk_fb (r : Int32) : fits .byte (.int r.toInt8.toInt32) = true := by
  have ⟨a, b⟩ := lg_i2b_range r
  have h1 : (-128 : Int32).toInt = -128 := by decide
  have h2 : (127 : Int32).toInt = 127 := by decide
  simp only [fits, Bool.and_eq_true, decide_eq_true_eq, Int32.le_iff_toInt_le, h1, h2]
  omega
theorem pk_fs (r : Int32) : fits .short (.int r.toInt16.toInt32) = true := by
  have ⟨a, b⟩ := lg_i2s_range r
  have h1 : (-32768 : Int32).toInt = -32768 := by decide
  have h2 : (32767 : Int32).toInt = 32767 := by decide
  simp only [fits, Bool.and_eq_true, decide_eq_true_eq, Int32.le_iff_toInt_le, h1, h2]
  omega
theorem pk_charN {q : Nat} (hq : q < 65536) : narrow .char (.int (nI q)) = .int (nI q) ∧ fits .char (.int (nI q)) = true := by
  constructor
  · have e : (nI q).toUInt32.toUInt16.toUInt32.toInt32 = nI q := by
      apply Int32.toBitVec_inj.mp
      apply BitVec.eq_of_toNat_eq
      show (nI q).toUInt32.toUInt16.toUInt32.toNat = q % 2 ^ 32
      rw [UInt16.toNat_toUInt32, UInt32.toNat_toUInt16, show (nI q).toUInt32.toNat = q % 2 ^ 32 from rfl]
      omega
    exact congrArg Value.int e
  · have a : (0 : Int32) ≤ nI q := nI_pos' (by omega)
    have b : nI q ≤ 65535 := nI_le (b := 65535) (by omega) (by decide)
    show (decide ((0 : Int32) ≤ nI q) && decide (nI q ≤ 65535)) = true
    rw [decide_eq_true a, decide_eq_true b]
    rfl
theorem pk_char (x : Int32) : (x.toUInt32 % 65536).toInt32 = nI (x.toBitVec.toNat % 65536) := by
  apply Int32.toBitVec_inj.mp
  apply BitVec.eq_of_toNat_eq
  rw [pk_tn (by omega)]
  show (x.toUInt32 % 65536).toNat = _
  rw [UInt32.toNat_mod]
  rfl
theorem pk_nc (x : Int32) : narrow .char (.int (x.toUInt32 % 65536).toInt32) = .int (x.toUInt32 % 65536).toInt32 := by
  rw [pk_char]
  exact (pk_charN (Nat.mod_lt _ (by decide))).1
theorem pk_fc (x : Int32) : fits .char (.int (x.toUInt32 % 65536).toInt32) = true := by
  rw [pk_char]
  exact (pk_charN (Nat.mod_lt _ (by decide))).2
theorem pk_vb (z : Int32) : vp_nar .byte z.toInt8.toInt32 = z.toInt8.toInt32 := by rw [vp_nar_byte]; simp
theorem pk_vs (z : Int32) : vp_nar .short z.toInt16.toInt32 = z.toInt16.toInt32 := by rw [vp_nar_short]; simp
theorem pk_vc (z : Int32) : vp_nar .char (z.toUInt32 % 65536).toInt32 = (z.toUInt32 % 65536).toInt32 := Value.int.inj (pk_nc z)
theorem pk_lT {n : Nat} (h : n < 2 ^ 63) : (lN n).toInt = (n : Int) := lg_ofNat_toInt h
theorem pk_lLT {a b : Nat} (ha : a < 2 ^ 63) (hb : b < 2 ^ 63) : lN a < lN b ↔ a < b := by
  rw [Int64.lt_iff_toInt_lt, pk_lT ha, pk_lT hb]; omega
theorem pk_lLE {a b : Nat} (ha : a < 2 ^ 63) (hb : b < 2 ^ 63) : lN a ≤ lN b ↔ a ≤ b := by
  rw [Int64.le_iff_toInt_le, pk_lT ha, pk_lT hb]; omega
theorem pk_lEQ {a b : Nat} (ha : a < 2 ^ 63) (hb : b < 2 ^ 63) : lN a = lN b ↔ a = b := by
  rw [← Int64.toInt_inj, pk_lT ha, pk_lT hb]; omega
theorem pk_lOf {x : Int64} (h : ¬ x < 0) : ∃ k : Nat, k < 2 ^ 63 ∧ x = lN k := by
  rw [Int64.lt_iff_toInt_lt] at h
  have h0 : (0 : Int64).toInt = 0 := by decide
  have hx := Int64.toInt_lt x
  refine ⟨x.toInt.toNat, by omega, Int64.toInt_inj.mp ?_⟩
  rw [pk_lT (by omega)]
  omega
theorem pk_lDiv {a b : Nat} (ha : a < 2 ^ 63) (h0 : 0 < b) (hb : b < 2 ^ 63) : lN a / lN b = lN (a / b) := by
  apply Int64.toInt_inj.mp
  rw [lg_ldiv_nonneg (by rw [pk_lT ha]; omega) (by rw [pk_lT hb]; omega), pk_lT ha, pk_lT hb, pk_lT (Nat.lt_of_le_of_lt (Nat.div_le_self a b) ha)]
  rfl
theorem pk_lRem {a b : Nat} (ha : a < 2 ^ 63) (h0 : 0 < b) (hb : b < 2 ^ 63) : lN a - lN a / lN b * lN b = lN (a % b) := by
  rw [pk_lDiv ha h0 hb, lN_mul, lN_sub (Nat.div_mul_le_self a b)]
  exact congrArg lN (by have := Nat.div_add_mod' a b; omega)
theorem pk_loop {σ : Type} (W : Nat → Nat → σ → Prop) (I : Nat → σ → Prop) (e i0 : Nat) (s : σ) (hi : i0 ≤ e) (h0 : I i0 s) (hx : ∀ n s, I e s → W (n + 1) e s)
    (hs : ∀ n i s, i < e → I i s → (∀ s', I (i + 1) s' → W n (i + 1) s') → W (n + 1) i s) : ∃ n, W n i0 s :=
  ⟨e + 1, loop_i W I e hx hs (e + 1) i0 s hi (by omega) h0⟩
theorem pk_loopD {σ : Type} (W : Nat → Nat → σ → Prop) (I : Nat → σ → Prop) (hx : ∀ n s, I 0 s → W (n + 1) 0 s)
    (hs : ∀ n i s, I (i + 1) s → (∀ s', I i s' → W n i s') → W (n + 1) (i + 1) s) : ∀ (e : Nat) (s : σ), I e s → W (e + 1) e s := by
  intro e
  induction e with
  | zero => exact fun s h => hx 0 s h
  | succ e ih => exact fun s h => hs (e + 1) e s h (fun s' h' => ih s' h')
theorem pk_least (P : Nat → Prop) (h : ∃ k, P k) : ∃ k, P k ∧ ∀ j, j < k → ¬ P j := by
  obtain ⟨k, hk⟩ := h
  induction k using Nat.strongRecOn with
  | ind k ih =>
    by_cases e : ∃ j, j < k ∧ P j
    · obtain ⟨j, hj, pj⟩ := e
      exact ih j hj pj
    · exact ⟨k, hk, fun j hj pj => e ⟨j, hj, pj⟩⟩
/-! rows on bits, shifts and unsigned numbers, to paste: each family out of a closed proof of our own, whole with what it rests on; each by itself clean at Lean in its own claim (generation 39, form 5). Take a family whole -/
/-! ===== Int32 by its bits: bt x i ===== -/
def bt (x : Int32) (i : Nat) : Bool := x.toBitVec.getLsbD i
theorem b_ext {x y : Int32} (h : ∀ i, i < 32 → bt x i = bt y i) : x = y := Int32.toBitVec_inj.mp (BitVec.eq_of_getLsbD_eq (fun i hi => h i hi))
theorem b_or (x y : Int32) (i : Nat) : bt (x ||| y) i = (bt x i || bt y i) := by unfold bt; rw [Int32.toBitVec_or, BitVec.getLsbD_or]
theorem b_and (x y : Int32) (i : Nat) : bt (x &&& y) i = (bt x i && bt y i) := by unfold bt; rw [Int32.toBitVec_and, BitVec.getLsbD_and]
theorem b_xor (x y : Int32) (i : Nat) : bt (x ^^^ y) i = (bt x i ^^ bt y i) := by unfold bt; rw [Int32.toBitVec_xor, BitVec.getLsbD_xor]
theorem b_big {x : Int32} {i : Nat} (h : 32 ≤ i) : bt x i = false := BitVec.getLsbD_of_ge _ _ h
theorem b_255 (i : Nat) : bt 255 i = decide (i < 8) := by
  rcases Nat.lt_or_ge i 32 with h | h
  · exact (by decide +kernel : ∀ i, i < 32 → bt 255 i = decide (i < 8)) i h
  · rw [b_big h, decide_eq_false (by omega)]
theorem b_65535 (i : Nat) : bt 65535 i = decide (i < 16) := by
  rcases Nat.lt_or_ge i 32 with h | h
  · exact (by decide +kernel : ∀ i, i < 32 → bt 65535 i = decide (i < 16)) i h
  · rw [b_big h, decide_eq_false (by omega)]
theorem b_m1 : ∀ i, i < 32 → bt (-1) i = true := by decide +kernel
theorem b_0 (i : Nat) : bt 0 i = false := BitVec.getLsbD_zero
theorem s_l : ∀ n, n < 32 → ((nI n &&& 31).toBitVec.smod 32).toNat = n := by decide +kernel
theorem s_u : ∀ n, n < 32 → (((nI n).toUInt32 &&& Int32.toUInt32 31).toBitVec % 32).toNat = n := by decide +kernel
theorem b_shl (n : Nat) (hn : n < 32) (x : Int32) {i : Nat} (hi : i < 32) : bt (x <<< (nI n &&& 31)) i = (decide (n ≤ i) && bt x (i - n)) := by
  unfold bt
  rw [Int32.toBitVec_shiftLeft]
  show (x.toBitVec <<< ((nI n &&& 31).toBitVec.smod 32).toNat).getLsbD i = _
  rw [s_l n hn, BitVec.getLsbD_shiftLeft]
  rcases Nat.lt_or_ge i n with h | h
  · simp [h, Nat.not_le.mpr h]
  · simp [hi, h, Nat.not_lt.mpr h]
theorem b_ushr (n : Nat) (hn : n < 32) (x : Int32) (i : Nat) : bt ((x.toUInt32 >>> ((nI n).toUInt32 &&& Int32.toUInt32 31)).toInt32) i = bt x (n + i) := by
  show (x.toUInt32 >>> ((nI n).toUInt32 &&& Int32.toUInt32 31)).toBitVec.getLsbD i = x.toUInt32.toBitVec.getLsbD (n + i)
  rw [UInt32.toBitVec_shiftRight]
  show (x.toUInt32.toBitVec >>> (((nI n).toUInt32 &&& Int32.toUInt32 31).toBitVec % 32).toNat).getLsbD i = _
  rw [s_u n hn, BitVec.getLsbD_ushiftRight]
theorem b_sshr (n : Nat) (hn : n < 32) (x : Int32) {i : Nat} (hi : i < 32) : bt (x >>> (nI n &&& 31)) i = if n + i < 32 then bt x (n + i) else bt x 31 := by
  unfold bt
  rw [Int32.toBitVec_shiftRight]
  show (x.toBitVec.sshiftRight ((nI n &&& 31).toBitVec.smod 32).toNat).getLsbD i = _
  rw [s_l n hn, BitVec.getLsbD_sshiftRight, BitVec.msb_eq_getLsbD_last]
  simp [hi]
theorem b_shl8 (x : Int32) {i : Nat} (hi : i < 32) : bt (x <<< ((8 : Int32) &&& 31)) i = (decide (8 ≤ i) && bt x (i - 8)) := b_shl 8 (by omega) x hi
theorem b_shl16 (x : Int32) {i : Nat} (hi : i < 32) : bt (x <<< ((16 : Int32) &&& 31)) i = (decide (16 ≤ i) && bt x (i - 16)) := b_shl 16 (by omega) x hi
theorem b_shl24 (x : Int32) {i : Nat} (hi : i < 32) : bt (x <<< ((24 : Int32) &&& 31)) i = (decide (24 ≤ i) && bt x (i - 24)) := b_shl 24 (by omega) x hi
theorem b_sshr8 (x : Int32) {i : Nat} (hi : i < 32) : bt (x >>> ((8 : Int32) &&& 31)) i = if 8 + i < 32 then bt x (8 + i) else bt x 31 := b_sshr 8 (by omega) x hi
/-! ===== nI under and, xor, >>>, one bit, 65535 ===== -/
theorem nx_and (a b : Nat) : nI a &&& nI b = nI (a &&& b) := by
  apply Int32.toBitVec_inj.1
  show BitVec.ofNat 32 a &&& BitVec.ofNat 32 b = BitVec.ofNat 32 (a &&& b)
  apply BitVec.eq_of_getLsbD_eq
  intro i hi
  simp [hi]
theorem nx_xor (a b : Nat) : nI a ^^^ nI b = nI (a ^^^ b) := by
  apply Int32.toBitVec_inj.1
  show BitVec.ofNat 32 a ^^^ BitVec.ofNat 32 b = BitVec.ofNat 32 (a ^^^ b)
  apply BitVec.eq_of_getLsbD_eq
  intro i hi
  simp [hi]
theorem nx_cnt : ∀ j : Fin 32, (UInt32.ofNat j.val &&& Int32.toUInt32 31).toNat % 32 = j.val := by decide +kernel
theorem nx_ush {k j : Nat} (hk : k < 65536) (hj : j < 32) : ((nI k).toUInt32 >>> ((nI j).toUInt32 &&& Int32.toUInt32 31)).toInt32 = nI (k >>> j) := by
  have hs : k >>> j ≤ k := by
    rw [Nat.shiftRight_eq_div_pow]
    exact Nat.div_le_self _ _
  have e2 : UInt32.ofNat k >>> (UInt32.ofNat j &&& Int32.toUInt32 31) = UInt32.ofNat (k >>> j) := by
    apply UInt32.toNat_inj.1
    have h1 : (UInt32.ofNat k).toNat = k := Nat.mod_eq_of_lt (by omega)
    have h2 : (UInt32.ofNat (k >>> j)).toNat = k >>> j := Nat.mod_eq_of_lt (by omega)
    rw [UInt32.toNat_shiftRight, nx_cnt ⟨j, hj⟩, h1, h2]
  show (UInt32.ofNat k >>> (UInt32.ofNat j &&& Int32.toUInt32 31)).toInt32 = _
  rw [e2]
  rfl
theorem nx_bit {k j : Nat} (hk : k < 65536) (hj : j < 16) : (((nI k).toUInt32 >>> ((nI j).toUInt32 &&& Int32.toUInt32 31)).toInt32 &&& 1) = 0 ↔ k.testBit j = false := by
  rw [nx_ush hk (by omega)]
  show nI (k >>> j) &&& nI 1 = 0 ↔ _
  rw [nx_and, Nat.and_one_is_mod, ← nI_0, nI_eq (by omega) (by omega), Nat.testBit_eq_decide_div_mod_eq, Nat.shiftRight_eq_div_pow, decide_eq_false_iff_not]
  generalize k / 2 ^ j = z
  omega
theorem nx_mod (k : Nat) : nI k &&& 65535 = nI (k % 65536) := by
  show nI k &&& nI 65535 = _
  rw [nx_and, show (65535 : Nat) = 2 ^ 16 - 1 from rfl, Nat.and_two_pow_sub_one_eq_mod]
theorem nx_m16 {k : Nat} (h : k < 65536) : nI k &&& 65535 = nI k := by rw [nx_mod, Nat.mod_eq_of_lt h]
theorem nx_mask (x : Int32) : ∃ k, k < 65536 ∧ x &&& 65535 = nI k := by
  have e : x = nI x.toBitVec.toNat := by
    apply Int32.toBitVec_inj.1
    show x.toBitVec = BitVec.ofNat 32 x.toBitVec.toNat
    simp
  refine ⟨x.toBitVec.toNat % 65536, Nat.mod_lt _ (by omega), ?_⟩
  rw [← nx_mod, ← e]
/-! ===== Int32 as a set of bits: test, set ===== -/
def nf_M (m : Int32) : Nat := 4294967296 - m.toBitVec.toNat
theorem nf_sh : ∀ l, l < 32 → ((1 : Int32) <<< (nI l &&& 31)).toBitVec = BitVec.twoPow 32 l := by decide +kernel
theorem nf_sl : ∀ l, l < 32 → (((nI l).toUInt32 &&& Int32.toUInt32 31).toBitVec % 32).toNat = l := by decide +kernel
theorem nf_tp : ∀ l, l < 32 → BitVec.twoPow 32 l ≠ 0#32 := by decide +kernel
theorem nf_bit (m : Int32) (l : Nat) (hl : l < 32) : ((m.toUInt32 >>> ((nI l).toUInt32 &&& Int32.toUInt32 31)).toInt32 &&& 1) = 0 ↔ (m &&& ((1 : Int32) <<< (nI l &&& 31))) = 0 := by
  have e : ((m.toUInt32 >>> ((nI l).toUInt32 &&& Int32.toUInt32 31)).toInt32).toBitVec = m.toBitVec >>> l := by
    show m.toBitVec >>> (((nI l).toUInt32 &&& Int32.toUInt32 31).toBitVec % 32) = m.toBitVec >>> l
    rw [BitVec.ushiftRight_eq', nf_sl l hl]
  rw [← Int32.toBitVec_inj, ← Int32.toBitVec_inj, Int32.toBitVec_and, Int32.toBitVec_and, nf_sh l hl, e, BitVec.and_twoPow]
  show (m.toBitVec >>> l &&& 1#32) = 0#32 ↔ _ = 0#32
  rw [BitVec.and_one_eq_setWidth_ofBool_getLsbD, BitVec.getLsbD_ushiftRight, Nat.add_zero]
  cases hb : m.toBitVec.getLsbD l
  · exact ⟨fun _ => by simp, fun _ => by decide⟩
  · exact ⟨fun z => absurd z (by decide), fun z => absurd ((if_pos rfl).symm.trans z) (nf_tp l hl)⟩
theorem nf_gr (m k : Int32) (h : m &&& k = 0) (hk : k ≠ 0) : nf_M (m ||| k) < nf_M m := by
  have hm := m.toBitVec.isLt
  have hm' := (m ||| k).toBitVec.isLt
  have h1 : m.toBitVec.toNat ≤ (m ||| k).toBitVec.toNat := by
    rw [Int32.toBitVec_or, BitVec.toNat_or]
    exact Nat.left_le_or
  have h2 : m.toBitVec.toNat ≠ (m ||| k).toBitVec.toNat := by
    intro e
    have e2 : m = m ||| k := Int32.toBitVec_inj.mp (BitVec.eq_of_toNat_eq e)
    apply hk
    apply Int32.toBitVec_inj.mp
    show k.toBitVec = 0#32
    apply BitVec.eq_of_getLsbD_eq
    intro i hi
    have a : m.toBitVec.getLsbD i = (m.toBitVec.getLsbD i || k.toBitVec.getLsbD i) := by rw [← BitVec.getLsbD_or, ← Int32.toBitVec_or, ← e2]
    have b : (m.toBitVec.getLsbD i && k.toBitVec.getLsbD i) = false := by
      rw [← BitVec.getLsbD_and, ← Int32.toBitVec_and, h]
      exact BitVec.getLsbD_zero
    rw [BitVec.getLsbD_zero]
    revert a b
    cases m.toBitVec.getLsbD i <;> cases k.toBitVec.getLsbD i <;> simp
  unfold nf_M
  omega
/-! ===== a byte read unsigned ===== -/
theorem bp_b (x : Int32) : x.toInt8.toInt32 &&& 255 = x &&& 255 := by
  apply Int32.toBitVec_inj.mp
  rw [Int32.toBitVec_and, Int32.toBitVec_and, Int8.toBitVec_toInt32, Int32.toBitVec_toInt8]
  apply BitVec.eq_of_getLsbD_eq
  intro i hi
  rw [BitVec.getLsbD_and, BitVec.getLsbD_and]
  have hm : ∀ i < 32, 8 ≤ i → (255 : Int32).toBitVec.getLsbD i = false := by decide
  rcases Nat.lt_or_ge i 8 with z | z
  · rw [BitVec.getLsbD_signExtend, BitVec.getLsbD_signExtend, if_pos z, if_pos hi]
    simp only [z, hi, decide_true, Bool.true_and]
  · rw [hm i hi z]; simp
/-! ===== the char cast and 65535 ===== -/
theorem em_w (v : Int32) : ∃ w : Nat, w < 65536 ∧ (v.toUInt32 % 65536).toInt32 = nI w ∧ v &&& 65535 = nI w := by
  have hr := lw_u16_r v
  have h0 : (0 : Int32).toInt = 0 := by decide
  obtain ⟨w, h1, h2⟩ := nI_of (x := lw_u16 v) (by rw [Int32.lt_iff_toInt_lt]; omega)
  have h3 : (v.toUInt32 % 65536).toInt32 = nI w := h2
  rw [h2, nI_toInt h1] at hr
  exact ⟨w, by omega, h3, by rw [← lg_i2c_mask, ← lg_i2c_nf, h3]⟩
/-! ===== Int64 as a set of bits: test, set, clear ===== -/
theorem ts_nf {x : Bool} (h : ¬ x = false) : x = true := by cases x <;> first | rfl | exact absurd rfl h
theorem ts_nt {x : Bool} (h : ¬ x = true) : x = false := by cases x <;> first | rfl | exact absurd rfl h
theorem ts_bit {w : Int64} {s : UInt64} {j : Nat} (hj : j < 64) (hs : s.toNat = j) : ((w.toUInt64 >>> s).toInt64 &&& 1) = 0 ↔ w.toBitVec.getLsbD j = false := by
  have e : (w.toUInt64 >>> s).toInt64.toBitVec = w.toBitVec >>> j := by
    apply BitVec.eq_of_toNat_eq
    show (w.toUInt64 >>> s).toNat = _
    rw [UInt64.toNat_shiftRight, hs, Nat.mod_eq_of_lt hj, BitVec.toNat_ushiftRight]
    rfl
  rw [← Int64.toBitVec_inj, Int64.toBitVec_and, e]
  show w.toBitVec >>> j &&& 1#64 = 0#64 ↔ _
  constructor
  · intro h
    have t := congrArg (fun x => x.getLsbD 0) h
    simpa using t
  · intro h
    apply BitVec.eq_of_getLsbD_eq
    intro i hi
    cases i with
    | zero => simp [h]
    | succ i => simp
theorem ts_or {w m : Int64} {j : Nat} (hj : j < 64) (hm : m.toBitVec = BitVec.twoPow 64 j) : (w ||| m) = w ↔ w.toBitVec.getLsbD j = true := by
  rw [← Int64.toBitVec_inj, Int64.toBitVec_or, hm]
  constructor
  · intro h
    have t := congrArg (fun x => x.getLsbD j) h
    simp only [BitVec.getLsbD_or, BitVec.getLsbD_twoPow] at t
    simpa [hj] using t.symm
  · intro h
    apply BitVec.eq_of_getLsbD_eq
    intro i hi
    rw [BitVec.getLsbD_or, BitVec.getLsbD_twoPow]
    by_cases e : j = i
    · subst e; rw [h, Bool.true_or]
    · simp [e]
theorem ts_and {w m : Int64} {j : Nat} (hj : j < 64) (hm : m.toBitVec = BitVec.twoPow 64 j) : (w &&& (m ^^^ (-1))) = w ↔ w.toBitVec.getLsbD j = false := by
  have ha : (-1 : Int64).toBitVec = BitVec.allOnes 64 := by decide
  rw [← Int64.toBitVec_inj, Int64.toBitVec_and, Int64.toBitVec_xor, hm, ha]
  constructor
  · intro h
    have t := congrArg (fun x => x.getLsbD j) h
    simp only [BitVec.getLsbD_and, BitVec.getLsbD_xor, BitVec.getLsbD_twoPow, BitVec.getLsbD_allOnes] at t
    simpa [hj] using t.symm
  · intro h
    apply BitVec.eq_of_getLsbD_eq
    intro i hi
    rw [BitVec.getLsbD_and, BitVec.getLsbD_xor, BitVec.getLsbD_twoPow, BitVec.getLsbD_allOnes]
    by_cases e : j = i
    · subst e; rw [h, Bool.false_and]
    · simp [e, hi]
/-! ===== lN n to 2^64: shifts, and, or, masks, one bit ===== -/
theorem wb_tb (n : Nat) : (lN n).toBitVec = BitVec.ofNat 64 n := rfl
theorem wb_inj {a b : Int64} (h : a.toBitVec = b.toBitVec) : a = b := Int64.toBitVec_inj.mp h
theorem wb_tn {n : Nat} (h : n < 2 ^ 64) : (lN n).toBitVec.toNat = n := by rw [wb_tb, BitVec.toNat_ofNat, Nat.mod_eq_of_lt h]
theorem wb_of (x : Int64) : ∃ n, n < 2 ^ 64 ∧ x = lN n := ⟨x.toBitVec.toNat, x.toBitVec.isLt, wb_inj (by rw [wb_tb]; simp)⟩
theorem wb_of32 (x : Int32) : ∃ n, n < 2 ^ 32 ∧ x = nI n := ⟨x.toBitVec.toNat, x.toBitVec.isLt, Int32.toBitVec_inj.mp (by show _ = BitVec.ofNat 32 _; simp)⟩
theorem wb_c : ∀ k, k < 64 → ((nI k).toInt64 &&& 63) = lN k := by decide +kernel
theorem wb_cu : ∀ k, k < 64 → ((nI k).toInt64.toUInt64 &&& Int64.toUInt64 63) = UInt64.ofNat k := by decide +kernel
theorem wb_sm : ∀ k, k < 64 → (BitVec.ofNat 64 k).smod 64 = BitVec.ofNat 64 k := by decide +kernel
theorem wb_pw {a b : Nat} (h : a ≤ b) : 2 ^ b = 2 ^ a * 2 ^ (b - a) := by rw [← Nat.pow_add]; congr 1; omega
theorem wb_lt2 {a b : Nat} (h : a < b) : 2 ^ a < 2 ^ b := Nat.pow_lt_pow_right (by decide) h
theorem wb_mod (n : Nat) : lN n = lN (n % 2 ^ 64) := wb_inj (by rw [wb_tb, wb_tb]; apply BitVec.eq_of_toNat_eq; rw [BitVec.toNat_ofNat, BitVec.toNat_ofNat, Nat.mod_mod])
theorem wb_shr {n k : Nat} (hn : n < 2 ^ 64) (hk : k < 64) : ((lN n).toUInt64 >>> ((nI k).toInt64.toUInt64 &&& Int64.toUInt64 63)).toInt64 = lN (n / 2 ^ k) := by
  rw [wb_cu k hk]
  apply wb_inj
  apply BitVec.eq_of_toNat_eq
  show ((lN n).toUInt64 >>> UInt64.ofNat k).toNat = (BitVec.ofNat 64 _).toNat
  have h1 : (UInt64.ofNat k).toNat = k := by
    show (BitVec.ofNat 64 k).toNat = k
    rw [BitVec.toNat_ofNat, Nat.mod_eq_of_lt (by omega)]
  have h2 : (lN n).toUInt64.toNat = n := wb_tn hn
  rw [UInt64.toNat_shiftRight, h1, h2, Nat.mod_eq_of_lt hk, Nat.shiftRight_eq_div_pow, BitVec.toNat_ofNat, Nat.mod_eq_of_lt (Nat.lt_of_le_of_lt (Nat.div_le_self _ _) hn)]
theorem wb_shl (n : Nat) {k : Nat} (hk : k < 64) : lN n <<< ((nI k).toInt64 &&& 63) = lN (n * 2 ^ k) := by
  rw [wb_c k hk]
  apply wb_inj
  rw [Int64.toBitVec_shiftLeft, wb_tb, wb_tb, wb_tb, wb_sm k hk]
  apply BitVec.eq_of_toNat_eq
  rw [BitVec.shiftLeft_eq', BitVec.toNat_shiftLeft, BitVec.toNat_ofNat, BitVec.toNat_ofNat, BitVec.toNat_ofNat, Nat.mod_eq_of_lt (show k < 2 ^ 64 by omega), Nat.shiftLeft_eq, Nat.mul_mod, Nat.mod_mod, ← Nat.mul_mod]
theorem wb_and {a b : Nat} (ha : a < 2 ^ 64) (hb : b < 2 ^ 64) : lN a &&& lN b = lN (a &&& b) := by
  apply wb_inj
  rw [Int64.toBitVec_and, wb_tb, wb_tb, wb_tb]
  apply BitVec.eq_of_toNat_eq
  rw [BitVec.toNat_and, BitVec.toNat_ofNat, BitVec.toNat_ofNat, BitVec.toNat_ofNat, Nat.mod_eq_of_lt ha, Nat.mod_eq_of_lt hb, Nat.mod_eq_of_lt (Nat.and_lt_two_pow _ hb)]
theorem wb_or {a b : Nat} (ha : a < 2 ^ 64) (hb : b < 2 ^ 64) : lN a ||| lN b = lN (a ||| b) := by
  apply wb_inj
  rw [Int64.toBitVec_or, wb_tb, wb_tb, wb_tb]
  apply BitVec.eq_of_toNat_eq
  rw [BitVec.toNat_or, BitVec.toNat_ofNat, BitVec.toNat_ofNat, BitVec.toNat_ofNat, Nat.mod_eq_of_lt ha, Nat.mod_eq_of_lt hb, Nat.mod_eq_of_lt (Nat.or_lt_two_pow ha hb)]
theorem wb_mask {n k : Nat} (hn : n < 2 ^ 64) (hk : k < 64) : lN n &&& lN (2 ^ k - 1) = lN (n % 2 ^ k) := by
  rw [wb_and hn (by have := wb_lt2 hk; omega), Nat.and_two_pow_sub_one_eq_mod]
theorem wb_a1 {n : Nat} (hn : n < 2 ^ 64) : lN n &&& 1 = lN (n % 2) := wb_mask (k := 1) hn (by decide)
theorem wb_bit {n k : Nat} (hn : n < 2 ^ 64) (hk : k < 64) : ((lN n).toUInt64 >>> ((nI k).toInt64.toUInt64 &&& Int64.toUInt64 63)).toInt64 &&& 1 = lN (n / 2 ^ k % 2) := by
  rw [wb_shr hn hk, wb_a1 (Nat.lt_of_le_of_lt (Nat.div_le_self _ _) hn)]
theorem wb_xor {q k : Nat} (hk : k < 63) (h : 2 ^ k ≤ q) (h2 : q < 2 ^ (k + 1)) : lN q ^^^ lN (2 ^ k) = lN (q - 2 ^ k) := by
  obtain ⟨r, rfl⟩ : ∃ r, q = 2 ^ k + r := ⟨q - 2 ^ k, by omega⟩
  have hr : r < 2 ^ k := by rw [Nat.pow_succ] at h2; omega
  have hx : (2 ^ k + r) ^^^ 2 ^ k = r := by
    apply Nat.eq_of_testBit_eq
    intro i
    rw [Nat.testBit_xor, Nat.testBit_two_pow]
    rcases Nat.lt_trichotomy i k with h | h | h
    · rw [Nat.testBit_two_pow_add_gt h]
      simp [show ¬ k = i by omega]
    · subst h
      rw [Nat.testBit_two_pow_add_eq]
      simp
    · have a1 : 2 ^ (k + 1) ≤ 2 ^ i := Nat.pow_le_pow_right (by decide) h
      rw [Nat.testBit_lt_two_pow (show 2 ^ k + r < 2 ^ i by omega), Nat.testBit_lt_two_pow (show r < 2 ^ i by omega)]
      simp [show ¬ k = i by omega]
  have b1 := wb_lt2 (show k + 1 < 64 by omega)
  have b2 := wb_lt2 (show k < 64 by omega)
  apply wb_inj
  rw [Int64.toBitVec_xor, wb_tb, wb_tb, wb_tb]
  apply BitVec.eq_of_toNat_eq
  rw [BitVec.toNat_xor, BitVec.toNat_ofNat, BitVec.toNat_ofNat, BitVec.toNat_ofNat, Nat.mod_eq_of_lt (by omega : 2 ^ k + r < 2 ^ 64), Nat.mod_eq_of_lt b2, hx, Nat.add_sub_cancel_left, Nat.mod_eq_of_lt (by omega)]
/-! ===== lN: masks, 'or' of parts that don't overlap is a sum ===== -/
theorem u_tn {n : Nat} (h : n < 2 ^ 64) : (UInt64.ofNat n).toNat = n := Nat.mod_eq_of_lt h
theorem g_and {a b c : Nat} (ha : a < 2 ^ 64) (hb : b < 2 ^ 64) (hc : a &&& b = c) : lN a &&& lN b = lN c := by
  subst hc
  have h : UInt64.ofNat a &&& UInt64.ofNat b = UInt64.ofNat (a &&& b) := UInt64.toNat_inj.mp (by rw [UInt64.toNat_and, u_tn ha, u_tn hb, u_tn (Nat.and_lt_two_pow a hb)])
  have h2 := congrArg UInt64.toInt64 h
  exact h2
theorem g_and1 {a : Nat} (ha : a < 2 ^ 64) : lN a &&& 1 = lN (a % 2) := g_and (b := 1) ha (by decide) (Nat.and_two_pow_sub_one_eq_mod a 1)
theorem g_mask {a s p : Nat} (hp : 2 ^ s = p) (hs : s < 64) (ha : a < 2 ^ 64) : lN a &&& lN (p - 1) = lN (a % p) := by
  subst hp
  have := Nat.pow_lt_pow_right (show 1 < 2 by decide) hs
  exact g_and ha (by omega) (Nat.and_two_pow_sub_one_eq_mod a s)
theorem g_or {k p a b : Nat} (hp : 2 ^ k = p) (ha : a < p) (h : b * p + a < 2 ^ 64) : lN (b * p) ||| lN a = lN (b * p + a) := by
  subst hp
  have h1 : b * 2 ^ k ||| a = b * 2 ^ k + a := by rw [← Nat.shiftLeft_eq, Nat.shiftLeft_add_eq_or_of_lt ha]
  have h3 : UInt64.ofNat (b * 2 ^ k) ||| UInt64.ofNat a = UInt64.ofNat (b * 2 ^ k + a) := UInt64.toNat_inj.mp (by rw [UInt64.toNat_or, u_tn (by omega), u_tn (by omega), u_tn h, h1])
  have h2 := congrArg UInt64.toInt64 h3
  exact h2
theorem g_or' {k p a b : Nat} (hp : 2 ^ k = p) (ha : a < p) (h : a + b * p < 2 ^ 64) : lN a ||| lN (b * p) = lN (a + b * p) := by
  rw [Int64.or_comm, g_or hp ha (by omega), Nat.add_comm]
theorem g_ushr {a k p : Nat} {y : UInt64} (hy : y = UInt64.ofNat k) (hk : k < 64) (hp : 2 ^ k = p) (ha : a < 2 ^ 64) : ((lN a).toUInt64 >>> y).toInt64 = lN (a / p) := by
  subst hy hp
  have h : UInt64.ofNat a >>> UInt64.ofNat k = UInt64.ofNat (a / 2 ^ k) := UInt64.toNat_inj.mp (by rw [UInt64.toNat_shiftRight, u_tn ha, u_tn (by omega), u_tn (Nat.lt_of_le_of_lt (Nat.div_le_self _ _) ha), Nat.mod_eq_of_lt hk, Nat.shiftRight_eq_div_pow])
  have h2 := congrArg UInt64.toInt64 h
  exact h2
theorem g_shl {a k p : Nat} {y : Int64} (hy : y.toBitVec.smod 64 = BitVec.ofNat 64 k) (hk : k < 64) (hp : 2 ^ k = p) (ha : a < 2 ^ 64) : lN a <<< y = lN (a * p) := by
  subst hp
  apply Int64.toBitVec_inj.mp
  rw [Int64.toBitVec_shiftLeft, hy]
  apply BitVec.eq_of_toNat_eq
  have hb : (lN a).toBitVec.toNat = a := Nat.mod_eq_of_lt ha
  have hk' : (BitVec.ofNat 64 k).toNat = k := Nat.mod_eq_of_lt (by omega)
  have h : ((lN a).toBitVec <<< BitVec.ofNat 64 k).toNat = (a * 2 ^ k) % 2 ^ 64 := by simp only [BitVec.shiftLeft_eq', BitVec.toNat_shiftLeft, hb, hk', Nat.shiftLeft_eq]
  exact h
/-! ===== lN to 2^62 under >> and >>> ===== -/
theorem pf_lI {a : Nat} (h : a < 2 ^ 63) : (lN a).toInt = (a : Int) := lg_ofNat_toInt h
theorem pf_shr {a d : Nat} {D : Int64} (hD : (D.toBitVec.smod 64).toNat = d) (h : a < 2 ^ 62) : lN a >>> D = lN (a / 2 ^ d) := by
  have hd : a / 2 ^ d ≤ a := Nat.div_le_self _ _
  apply Int64.toInt_inj.mp
  have e : (lN a >>> D).toInt = (lN a).toInt >>> d := by
    rw [← hD]
    exact BitVec.toInt_sshiftRight ..
  rw [e, Int.shiftRight_eq_div_pow, pf_lI (by omega), pf_lI (by omega)]
  rfl
theorem pf_ushr {a d : Nat} {D : UInt64} (hD : D.toNat % 64 = d) (h : a < 2 ^ 62) : ((lN a).toUInt64 >>> D).toInt64 = lN (a / 2 ^ d) := by
  have hd : a / 2 ^ d ≤ a := Nat.div_le_self _ _
  have e : (lN a).toUInt64 >>> D = UInt64.ofNat (a / 2 ^ d) := UInt64.toNat_inj.mp (by
    rw [UInt64.toNat_shiftRight, hD, Nat.shiftRight_eq_div_pow, UInt64.toNat_ofNat']
    show (UInt64.ofNat a).toNat / 2 ^ d = _
    rw [UInt64.toNat_ofNat', Nat.mod_eq_of_lt (by omega), Nat.mod_eq_of_lt (by omega)])
  rw [e]
  rfl
theorem pf_andw (x : Int64) : ∃ m, m < 2 ^ 32 ∧ x &&& 4294967295 = lN m := ⟨x.toBitVec.toNat % 2 ^ 32, Nat.mod_lt _ (by decide), Int64.toBitVec_inj.mp (BitVec.eq_of_toNat_eq (by
  show (x.toBitVec &&& 4294967295#64).toNat = (BitVec.ofNat 64 (x.toBitVec.toNat % 2 ^ 32)).toNat
  rw [BitVec.toNat_and, show (4294967295#64).toNat = 2 ^ 32 - 1 from by decide, Nat.and_two_pow_sub_one_eq_mod, BitVec.toNat_ofNat]
  omega))⟩
end
section
/-! bit fields of numbers: sl_g reads w bits from p on, sl_s writes them -/
def sl_g (n p w : Nat) : Nat := n / 2 ^ p % 2 ^ w
def sl_s (n p w v : Nat) : Nat := 2 ^ p * (2 ^ w * (n / 2 ^ (p + w)) + v) + n % 2 ^ p
theorem sl_g_lt (n p w : Nat) : sl_g n p w < 2 ^ w := Nat.mod_lt _ (Nat.two_pow_pos w)
theorem sl_g_tb (n p w j : Nat) : (sl_g n p w).testBit j = (decide (j < w) && n.testBit (j + p)) := by
  unfold sl_g
  rw [Nat.testBit_mod_two_pow, Nat.testBit_div_two_pow]
theorem sl_s_tb {n p w v : Nat} (hv : v < 2 ^ w) (j : Nat) : (sl_s n p w v).testBit j = if j < p then n.testBit j else if j < p + w then v.testBit (j - p) else n.testBit j := by
  unfold sl_s
  rw [Nat.testBit_two_pow_mul_add _ (Nat.mod_lt _ (Nat.two_pow_pos p))]
  by_cases h : j < p
  · rw [if_pos h, if_pos h, Nat.testBit_mod_two_pow, decide_eq_true h, Bool.true_and]
  · rw [if_neg h, if_neg h, Nat.testBit_two_pow_mul_add _ hv]
    by_cases h2 : j < p + w
    · rw [if_pos h2, if_pos (by omega)]
    · rw [if_neg h2, if_neg (by omega), Nat.testBit_div_two_pow]
      congr 1
      omega
theorem sl_gs_same {n p w v : Nat} (hv : v < 2 ^ w) : sl_g (sl_s n p w v) p w = v := by
  apply Nat.eq_of_testBit_eq
  intro j
  rw [sl_g_tb, sl_s_tb hv]
  by_cases h : j < w
  · rw [decide_eq_true h, Bool.true_and, if_neg (by omega), if_pos (by omega), Nat.add_sub_cancel]
  · rw [decide_eq_false h, Bool.false_and, Nat.testBit_lt_two_pow (Nat.lt_of_lt_of_le hv (Nat.pow_le_pow_right (by decide) (by omega)))]
theorem sl_gs_ne {n p w v p' w' : Nat} (hv : v < 2 ^ w) (h : p' + w' ≤ p ∨ p + w ≤ p') : sl_g (sl_s n p w v) p' w' = sl_g n p' w' := by
  apply Nat.eq_of_testBit_eq
  intro j
  rw [sl_g_tb, sl_g_tb, sl_s_tb hv]
  by_cases hj : j < w'
  · by_cases h1 : j + p' < p
    · rw [if_pos h1]
    · rw [if_neg h1, if_neg (by omega)]
  · rw [decide_eq_false hj, Bool.false_and, Bool.false_and]
theorem sl_s_lt {n p w v B : Nat} (hv : v < 2 ^ w) (hn : n < 2 ^ B) (hB : p + w ≤ B) : sl_s n p w v < 2 ^ B := by
  apply Nat.lt_pow_two_of_testBit
  intro j hj
  rw [sl_s_tb hv, if_neg (by omega), if_neg (by omega)]
  exact Nat.testBit_lt_two_pow (Nat.lt_of_lt_of_le hn (Nat.pow_le_pow_right (by decide) hj))
/-! the same in longs -/
theorem sl_gl (n i : Nat) (hi : i < 64) : (lN n).toBitVec.getLsbD i = n.testBit i := by
  rw [wb_tb, BitVec.getLsbD_ofNat, decide_eq_true hi, Bool.true_and]
theorem sl_m1 (i : Nat) (hi : i < 64) : (-1 : Int64).toBitVec.getLsbD i = true := by
  have ha : (-1 : Int64).toBitVec = BitVec.allOnes 64 := by decide
  rw [ha, BitVec.getLsbD_allOnes, decide_eq_true hi]
theorem sl_putL {n p w v : Nat} (hv : v < 2 ^ w) : (lN n &&& (lN ((2 ^ w - 1) * 2 ^ p) ^^^ (-1))) ||| lN (v * 2 ^ p) = lN (sl_s n p w v) := by
  apply wb_inj
  apply BitVec.eq_of_getLsbD_eq
  intro i hi
  rw [Int64.toBitVec_or, Int64.toBitVec_and, Int64.toBitVec_xor, BitVec.getLsbD_or, BitVec.getLsbD_and, BitVec.getLsbD_xor, sl_m1 i hi, sl_gl _ i hi, sl_gl _ i hi, sl_gl _ i hi, sl_gl _ i hi, sl_s_tb hv, Nat.testBit_mul_two_pow, Nat.testBit_mul_two_pow, Nat.testBit_two_pow_sub_one]
  by_cases h1 : i < p
  · have h2 : ¬ p ≤ i := by omega
    simp [h1, h2]
  · have h2 : p ≤ i := by omega
    by_cases h3 : i < p + w
    · have h4 : i - p < w := by omega
      simp [h1, h2, h3, h4]
    · have h4 : ¬ i - p < w := by omega
      have h5 : v.testBit (i - p) = false := Nat.testBit_lt_two_pow (Nat.lt_of_lt_of_le hv (Nat.pow_le_pow_right (by decide) (by omega)))
      simp [h1, h2, h3, h4, h5]
theorem sl_orL (n p : Nat) : lN n ||| lN (2 ^ p) = lN (sl_s n p 1 1) := by
  apply wb_inj
  apply BitVec.eq_of_getLsbD_eq
  intro i hi
  rw [Int64.toBitVec_or, BitVec.getLsbD_or, sl_gl _ i hi, sl_gl _ i hi, sl_gl _ i hi, sl_s_tb (by decide), Nat.testBit_two_pow]
  by_cases h1 : i < p
  · have h2 : ¬ p = i := by omega
    simp [h1, h2]
  · by_cases h3 : i < p + 1
    · have h4 : p = i := by omega
      subst h4
      simp
    · have h4 : ¬ p = i := by omega
      simp [h1, h3, h4]
theorem sl_shD : ∀ k, k < 64 → ((((nI k).toInt64 &&& 63)).toBitVec.smod 64).toNat = k := by decide +kernel
theorem sl_shrL {n p : Nat} (hn : n < 2 ^ 62) (hp : p < 64) : lN n >>> ((nI p).toInt64 &&& 63) = lN (n / 2 ^ p) := pf_shr (sl_shD p hp) hn
theorem sl_mkI : ∀ w, w < 31 → (((1 : Int32) <<< (nI w &&& 31)) - 1).toBitVec.toNat = 2 ^ w - 1 := by decide +kernel
theorem sl_mkL : ∀ w, w < 31 → (((1 : Int64) <<< ((nI w).toInt64 &&& 63)) - 1) = lN (2 ^ w - 1) := by decide +kernel
theorem sl_getV {n p w : Nat} {M : Int32} (hn : n < 2 ^ 62) (hp : p < 64) (hw : w < 31) (hM : M.toBitVec.toNat = 2 ^ w - 1) : ((lN n >>> ((nI p).toInt64 &&& 63)).toInt32) &&& M = nI (sl_g n p w) := by
  rw [sl_shrL hn hp, lN_i, pk_and _ w hM]
  congr 1
  show (n / 2 ^ p) % 2 ^ 32 % 2 ^ w = _
  rw [Nat.mod_mod_of_dvd _ (Nat.pow_dvd_pow 2 (by omega))]
  rfl
theorem sl_bits {post : Int32 → Prop} {n p w : Nat} {P W : Int32} (hn : n < 2 ^ 62) (hp : p < 64) (hw : w < 31) (eP : P = nI p) (eW : W = nI w) (h : post (nI (sl_g n p w))) : wpX_bits post (lN n) P W := by
  subst eP eW
  unfold wpX_bits
  rw [sl_getV hn hp hw (sl_mkI w hw)]
  exact h
theorem sl_with {post : Int64 → Prop} {n p w v : Nat} {P W V : Int32} (hp : p < 64) (hw : w < 31) (hv : v < 2 ^ w) (eP : P = nI p) (eW : W = nI w) (eV : V = nI v) (h : post (lN (sl_s n p w v))) : wpX_with post (lN n) P W V := by
  subst eP eW eV
  have hv31 : v < 2 ^ 31 := Nat.lt_of_lt_of_le hv (Nat.pow_le_pow_right (by decide) (by omega))
  intro x ex
  rw [ex, sl_mkL w hw, wb_shl _ hp, nI_l hv31, wb_shl _ hp, sl_putL hv]
  exact h
theorem sl_get {post : Int32 → Prop} {n p w : Nat} {P M : Int32} (hn : n < 2 ^ 62) (hp : p < 64) (hw : w < 31) (eP : P = nI p) (hM : M.toBitVec.toNat = 2 ^ w - 1) (h : post (nI (sl_g n p w))) : wpY_get post (lN n) P M := by
  subst eP
  unfold wpY_get
  rw [sl_getV hn hp hw hM]
  exact h
theorem sl_put {post : Int64 → Prop} {n p w v : Nat} {P : Int32} {M V : Int64} (hp : p < 64) (hw : w < 31) (hv : v < 2 ^ 31) (eP : P = nI p) (eM : M = lN (2 ^ w - 1)) (eV : V = lN v) (h : post (lN (sl_s n p w (v % 2 ^ w)))) : wpY_put post (lN n) P M V := by
  subst eP eM eV
  unfold wpY_put
  rw [wb_mask (by omega) (by omega), wb_shl _ hp, wb_shl _ hp, sl_putL (Nat.mod_lt _ (Nat.two_pow_pos w))]
  exact h
/-! the sixteen fields: 0 .. 3 variables, 4 .. 6 ACCs, 7 .. 9 places, 10, 11 owners, 12 .. 14 waits, 15 bad -/
def sl_px (k : Nat) : Nat := if k < 10 then 3 * k else if k < 12 then 10 + 2 * k else if k < 15 then 11 + 2 * k else 34
def sl_py (k : Nat) : Nat := if k < 10 then 3 * k else if k < 15 then 10 + 2 * k else 40
def sl_wd (k : Nat) : Nat := if k < 10 then 3 else if k < 15 then 2 else 1
def sl_f (n k : Nat) : Nat := sl_g n (sl_px k) (sl_wd k)
def sl_h (n k : Nat) : Nat := sl_g n (sl_py k) (sl_wd k)
def sl_u (n k v : Nat) : Nat := sl_s n (sl_px k) (sl_wd k) v
def sl_v (n k v : Nat) : Nat := sl_s n (sl_py k) (sl_wd k) v
theorem sl_px_dj : ∀ k, k < 16 → ∀ k', k' < 16 → k' ≠ k → sl_px k' + sl_wd k' ≤ sl_px k ∨ sl_px k + sl_wd k ≤ sl_px k' := by decide +kernel
theorem sl_py_dj : ∀ k, k < 16 → ∀ k', k' < 16 → k' ≠ k → sl_py k' + sl_wd k' ≤ sl_py k ∨ sl_py k + sl_wd k ≤ sl_py k' := by decide +kernel
theorem sl_px_41 : ∀ k, k < 16 → sl_px k + sl_wd k ≤ 41 := by decide +kernel
theorem sl_py_41 : ∀ k, k < 16 → sl_py k + sl_wd k ≤ 41 := by decide +kernel
theorem sl_px_cov : ∀ j, j < 41 → ∃ k, k < 16 ∧ sl_px k ≤ j ∧ j < sl_px k + sl_wd k := by decide +kernel
theorem sl_py_cov : ∀ j, j < 41 → ∃ k, k < 16 ∧ sl_py k ≤ j ∧ j < sl_py k + sl_wd k := by decide +kernel
theorem sl_f_u {n k v k' : Nat} (hk : k < 16) (hk' : k' < 16) (hv : v < 2 ^ sl_wd k) : sl_f (sl_u n k v) k' = if k' = k then v else sl_f n k' := by
  by_cases h : k' = k
  · subst h; rw [if_pos rfl]; exact sl_gs_same hv
  · rw [if_neg h]; exact sl_gs_ne hv (sl_px_dj k hk k' hk' h)
theorem sl_h_v {n k v k' : Nat} (hk : k < 16) (hk' : k' < 16) (hv : v < 2 ^ sl_wd k) : sl_h (sl_v n k v) k' = if k' = k then v else sl_h n k' := by
  by_cases h : k' = k
  · subst h; rw [if_pos rfl]; exact sl_gs_same hv
  · rw [if_neg h]; exact sl_gs_ne hv (sl_py_dj k hk k' hk' h)
theorem sl_u_lt {n k v : Nat} (hk : k < 16) (hv : v < 2 ^ sl_wd k) (hn : n < 2 ^ 41) : sl_u n k v < 2 ^ 41 := sl_s_lt hv hn (sl_px_41 k hk)
theorem sl_v_lt {n k v : Nat} (hk : k < 16) (hv : v < 2 ^ sl_wd k) (hn : n < 2 ^ 41) : sl_v n k v < 2 ^ 41 := sl_s_lt hv hn (sl_py_41 k hk)
theorem sl_f_lt (n k : Nat) : sl_f n k < 2 ^ sl_wd k := sl_g_lt _ _ _
theorem sl_h_lt (n k : Nat) : sl_h n k < 2 ^ sl_wd k := sl_g_lt _ _ _
theorem sl_bit {n m p w j : Nat} (h : sl_g n p w = sl_g m p w) (h1 : p ≤ j) (h2 : j < p + w) : n.testBit j = m.testBit j := by
  have e : ∀ x : Nat, x.testBit j = (sl_g x p w).testBit (j - p) := by
    intro x
    rw [sl_g_tb, decide_eq_true (by omega), Bool.true_and]
    congr 1
    omega
  rw [e n, e m, h]
theorem sl_x_ext {n m : Nat} (hn : n < 2 ^ 41) (hm : m < 2 ^ 41) (h : ∀ k, k < 16 → sl_f n k = sl_f m k) : n = m := by
  apply Nat.eq_of_testBit_eq
  intro j
  by_cases hj : j < 41
  · obtain ⟨k, hk, h1, h2⟩ := sl_px_cov j hj
    exact sl_bit (h k hk) h1 h2
  · have hp : 2 ^ 41 ≤ 2 ^ j := Nat.pow_le_pow_right (by decide) (by omega)
    rw [Nat.testBit_lt_two_pow (Nat.lt_of_lt_of_le hn hp), Nat.testBit_lt_two_pow (Nat.lt_of_lt_of_le hm hp)]
theorem sl_y_ext {n m : Nat} (hn : n < 2 ^ 41) (hm : m < 2 ^ 41) (h : ∀ k, k < 16 → sl_h n k = sl_h m k) : n = m := by
  apply Nat.eq_of_testBit_eq
  intro j
  by_cases hj : j < 41
  · obtain ⟨k, hk, h1, h2⟩ := sl_py_cov j hj
    exact sl_bit (h k hk) h1 h2
  · have hp : 2 ^ 41 ≤ 2 ^ j := Nat.pow_le_pow_right (by decide) (by omega)
    rw [Nat.testBit_lt_two_pow (Nat.lt_of_lt_of_le hn hp), Nat.testBit_lt_two_pow (Nat.lt_of_lt_of_le hm hp)]
/-! a number out of its fields -/
def sl_bx (f : Nat → Nat) : Nat → Nat
  | 0 => 0
  | j + 1 => sl_u (sl_bx f j) j (f j)
def sl_by (f : Nat → Nat) : Nat → Nat
  | 0 => 0
  | j + 1 => sl_v (sl_by f j) j (f j)
def sl_ok (f : Nat → Nat) : Prop := ∀ k, k < 16 → f k < 2 ^ sl_wd k
theorem sl_bx_lt {f : Nat → Nat} (h : sl_ok f) : ∀ j, j ≤ 16 → sl_bx f j < 2 ^ 41
  | 0, _ => Nat.two_pow_pos 41
  | j + 1, hj => sl_u_lt (by omega) (h j (by omega)) (sl_bx_lt h j (by omega))
theorem sl_by_lt {f : Nat → Nat} (h : sl_ok f) : ∀ j, j ≤ 16 → sl_by f j < 2 ^ 41
  | 0, _ => Nat.two_pow_pos 41
  | j + 1, hj => sl_v_lt (by omega) (h j (by omega)) (sl_by_lt h j (by omega))
theorem sl_bx_f {f : Nat → Nat} (h : sl_ok f) : ∀ j, j ≤ 16 → ∀ k, k < j → sl_f (sl_bx f j) k = f k
  | 0, _, k, hk => absurd hk (Nat.not_lt_zero k)
  | j + 1, hj, k, hk => by
    show sl_f (sl_u (sl_bx f j) j (f j)) k = f k
    rw [sl_f_u (by omega) (by omega) (h j (by omega))]
    by_cases e : k = j
    · rw [if_pos e, e]
    · rw [if_neg e]; exact sl_bx_f h j (by omega) k (by omega)
theorem sl_by_f {f : Nat → Nat} (h : sl_ok f) : ∀ j, j ≤ 16 → ∀ k, k < j → sl_h (sl_by f j) k = f k
  | 0, _, k, hk => absurd hk (Nat.not_lt_zero k)
  | j + 1, hj, k, hk => by
    show sl_h (sl_v (sl_by f j) j (f j)) k = f k
    rw [sl_h_v (by omega) (by omega) (h j (by omega))]
    by_cases e : k = j
    · rw [if_pos e, e]
    · rw [if_neg e]; exact sl_by_f h j (by omega) k (by omega)
end
section
/-! the pure machine: codes o, arguments g, lengths l; a state is the component's number n -/
def sl_np (op a acc p L wt ow t : Nat) : Nat := if op = 6 ∧ acc = 0 then (if L ≤ p + 1 + a then L else p + 1 + a) else if op = 10 ∧ wt = 0 ∧ ow = t + 1 then p else p + 1
def sl_na (op a acc va : Nat) : Nat := if op = 0 ∨ op = 2 then va else if op = 4 then a else if op = 5 then (acc + a) % 8 else acc
def sl_nv (op acc va : Nat) : Nat := if op = 1 ∨ op = 2 then acc else if op = 3 then (va + 1) % 8 else va
def sl_no (op wt ow t : Nat) : Nat := if op = 7 ∨ (op = 10 ∧ wt = 2) then t + 1 else if op = 10 ∧ wt = 0 ∧ ow = t + 1 then 0 else if op = 8 ∧ ow = t + 1 then 0 else ow
def sl_nw (op wt ow t : Nat) : Nat := if op = 10 ∧ wt = 0 ∧ ow = t + 1 then 1 else if op = 10 ∧ wt = 2 then 0 else wt
def sl_nu (op a wu au : Nat) : Nat := if op = 11 ∧ wu = 1 ∧ au = a then 2 else wu
def sl_nb (op a acc b : Nat) : Nat := if op = 9 ∧ acc ≠ a then 1 else b
def sl_good (op a : Nat) : Prop := op ≤ 11 ∧ a ≤ 7 ∧ (op < 4 → a ≤ 3) ∧ (op = 6 → 1 ≤ a ∧ a ≤ 3) ∧ ((op = 7 ∨ op = 8 ∨ op = 10 ∨ op = 11) → a ≤ 1)
def sl_ix (n t : Nat) : Nat := 5 * t + sl_f n (7 + t)
def sl_lk (op : Nat) : Bool := decide (op = 7 ∨ op = 8 ∨ op = 10 ∨ op = 11)
section
variable (o g l : Nat → Nat)
def sl_rdy (n t : Nat) : Bool := decide (sl_f n (7 + t) < l t ∧ sl_f n (12 + t) ≠ 1 ∧ ((o (sl_ix n t) ≠ 7 ∧ sl_f n (12 + t) = 0) ∨ sl_f n (10 + g (sl_ix n t)) = 0))
def sl_fa (n t k : Nat) : Nat :=
  if k = 7 + t then sl_np (o (sl_ix n t)) (g (sl_ix n t)) (sl_f n (4 + t)) (sl_f n (7 + t)) (l t) (sl_f n (12 + t)) (sl_f n (10 + g (sl_ix n t))) t
  else if k = 4 + t then sl_na (o (sl_ix n t)) (g (sl_ix n t)) (sl_f n (4 + t)) (sl_f n (g (sl_ix n t)))
  else if k < 4 then (if k = g (sl_ix n t) then sl_nv (o (sl_ix n t)) (sl_f n (4 + t)) (sl_f n k) else sl_f n k)
  else if k < 10 then sl_f n k
  else if k < 12 then (if k = 10 + g (sl_ix n t) then sl_no (o (sl_ix n t)) (sl_f n (12 + t)) (sl_f n k) t else sl_f n k)
  else if k = 12 + t then sl_nw (o (sl_ix n t)) (sl_f n (12 + t)) (sl_f n (10 + g (sl_ix n t))) t
  else if k < 15 then sl_nu (o (sl_ix n t)) (g (sl_ix n t)) (sl_f n k) (g (sl_ix n (k - 12)))
  else sl_nb (o (sl_ix n t)) (g (sl_ix n t)) (sl_f n (4 + t)) (sl_f n 15)
def sl_aft (n t : Nat) : Nat := sl_bx (sl_fa o g l n t) 16
def sl_PV : Prop := ∀ t, t < 3 → l t ≤ 5 ∧ ∀ k, k < l t → sl_good (o (5 * t + k)) (g (5 * t + k))
def sl_SV (n : Nat) : Prop := n < 2 ^ 41 ∧ ∀ t, t < 3 → sl_f n (7 + t) ≤ l t ∧ sl_f n (12 + t) ≤ 2 ∧ (sl_f n (12 + t) ≠ 0 → sl_f n (7 + t) < l t ∧ o (sl_ix n t) = 10)
def sl_tch (i j : Nat) : Bool := decide (g i = g j ∧ ((sl_lk (o i) = true ∧ sl_lk (o j) = true) ∨ (o i < 4 ∧ o j < 4 ∧ (o i ≠ 0 ∨ o j ≠ 0))))
end
theorem sl_wd3 {k : Nat} (h : k < 10) : sl_wd k = 3 := if_pos h
theorem sl_wd2 {k : Nat} (h : 10 ≤ k) (h2 : k < 15) : sl_wd k = 2 := by unfold sl_wd; rw [if_neg (by omega), if_pos h2]
theorem sl_wd1 : sl_wd 15 = 1 := rfl
theorem sl_f8 {n k : Nat} (h : k < 10) : sl_f n k < 8 := by have := sl_f_lt n k; rw [sl_wd3 h] at this; exact this
theorem sl_f4 {n k : Nat} (h : 10 ≤ k) (h2 : k < 15) : sl_f n k < 4 := by have := sl_f_lt n k; rw [sl_wd2 h h2] at this; exact this
theorem sl_f2 {n : Nat} : sl_f n 15 < 2 := sl_f_lt n 15
theorem sl_rdy_iff {o g l : Nat → Nat} {n t : Nat} : sl_rdy o g l n t = true ↔ (sl_f n (7 + t) < l t ∧ sl_f n (12 + t) ≠ 1 ∧ ((o (sl_ix n t) ≠ 7 ∧ sl_f n (12 + t) = 0) ∨ sl_f n (10 + g (sl_ix n t)) = 0)) := decide_eq_true_iff
theorem sl_tch_iff {o g : Nat → Nat} {i j : Nat} : sl_tch o g i j = true ↔ (g i = g j ∧ ((sl_lk (o i) = true ∧ sl_lk (o j) = true) ∨ (o i < 4 ∧ o j < 4 ∧ (o i ≠ 0 ∨ o j ≠ 0)))) := decide_eq_true_iff
theorem sl_lk_iff {x : Nat} : sl_lk x = true ↔ (x = 7 ∨ x = 8 ∨ x = 10 ∨ x = 11) := decide_eq_true_iff
theorem sl_np_le {op a acc p L wt ow t : Nat} (hp : p < L) : sl_np op a acc p L wt ow t ≤ L := by
  unfold sl_np
  split
  · split <;> omega
  · split <;> omega
theorem sl_na_lt {op a acc va : Nat} (h : sl_good op a) (h1 : acc < 8) (h2 : a < 4 → va < 8) : sl_na op a acc va < 8 := by
  unfold sl_na
  obtain ⟨a1, a2, a3, a4, a5⟩ := h
  split
  · apply h2
    have : op < 4 := by omega
    have := a3 this
    omega
  · split
    · omega
    · split <;> omega
theorem sl_nv_lt {op acc va : Nat} (h1 : acc < 8) (h2 : va < 8) : sl_nv op acc va < 8 := by
  unfold sl_nv
  split
  · omega
  · split <;> omega
theorem sl_no_lt {op wt ow t : Nat} (h1 : ow < 4) (ht : t < 3) : sl_no op wt ow t < 4 := by
  unfold sl_no
  split
  · omega
  · split
    · omega
    · split <;> omega
theorem sl_nw_lt {op wt ow t : Nat} (h1 : wt < 4) : sl_nw op wt ow t < 4 := by
  unfold sl_nw
  split
  · omega
  · split <;> omega
theorem sl_nu_lt {op a wu au : Nat} (h1 : wu < 4) : sl_nu op a wu au < 4 := by
  unfold sl_nu
  split <;> omega
theorem sl_nb_lt {op a acc b : Nat} (h1 : b < 2) : sl_nb op a acc b < 2 := by
  unfold sl_nb
  split <;> omega
section
variable {o g l : Nat → Nat}
theorem sl_fa_pe {n t : Nat} : sl_fa o g l n t (7 + t) = sl_np (o (sl_ix n t)) (g (sl_ix n t)) (sl_f n (4 + t)) (sl_f n (7 + t)) (l t) (sl_f n (12 + t)) (sl_f n (10 + g (sl_ix n t))) t := if_pos rfl
theorem sl_fa_pn {n t u : Nat} (ht : t < 3) (hu : u < 3) (h : u ≠ t) : sl_fa o g l n t (7 + u) = sl_f n (7 + u) := by
  unfold sl_fa
  rw [if_neg (by omega), if_neg (by omega), if_neg (by omega), if_pos (by omega)]
theorem sl_fa_ow {n t b : Nat} (ht : t < 3) (hb : b < 2) : sl_fa o g l n t (10 + b) = if 10 + b = 10 + g (sl_ix n t) then sl_no (o (sl_ix n t)) (sl_f n (12 + t)) (sl_f n (10 + b)) t else sl_f n (10 + b) := by
  unfold sl_fa
  rw [if_neg (by omega), if_neg (by omega), if_neg (by omega), if_neg (by omega), if_pos (by omega)]
theorem sl_fa_we {n t : Nat} (ht : t < 3) : sl_fa o g l n t (12 + t) = sl_nw (o (sl_ix n t)) (sl_f n (12 + t)) (sl_f n (10 + g (sl_ix n t))) t := by
  unfold sl_fa
  rw [if_neg (by omega), if_neg (by omega), if_neg (by omega), if_neg (by omega), if_neg (by omega), if_pos rfl]
theorem sl_fa_wn {n t u : Nat} (ht : t < 3) (hu : u < 3) (h : u ≠ t) : sl_fa o g l n t (12 + u) = sl_nu (o (sl_ix n t)) (g (sl_ix n t)) (sl_f n (12 + u)) (g (sl_ix n u)) := by
  unfold sl_fa
  rw [if_neg (by omega), if_neg (by omega), if_neg (by omega), if_neg (by omega), if_neg (by omega), if_neg (by omega), if_pos (by omega), Nat.add_sub_cancel_left]
theorem sl_pv {t : Nat} {n : Nat} (P : sl_PV o g l) (ht : t < 3) (h : sl_f n (7 + t) < l t) : sl_good (o (sl_ix n t)) (g (sl_ix n t)) := (P t ht).2 _ h
theorem sl_fa_ok {n t : Nat} (P : sl_PV o g l) (S : sl_SV o l n) (ht : t < 3) (h : sl_f n (7 + t) < l t) : sl_ok (sl_fa o g l n t) := by
  have G := sl_pv P ht h
  have hl := (P t ht).1
  intro k hk
  unfold sl_fa
  by_cases h1 : k = 7 + t
  · rw [if_pos h1, sl_wd3 (by omega)]
    exact Nat.lt_of_le_of_lt (sl_np_le h) (by omega)
  rw [if_neg h1]
  by_cases h2 : k = 4 + t
  · rw [if_pos h2, sl_wd3 (by omega)]
    exact sl_na_lt G (sl_f8 (by omega)) (fun z => sl_f8 (by omega))
  rw [if_neg h2]
  by_cases h3 : k < 4
  · rw [if_pos h3, sl_wd3 (by omega)]
    split
    · exact sl_nv_lt (sl_f8 (by omega)) (sl_f8 (by omega))
    · exact sl_f8 (by omega)
  rw [if_neg h3]
  by_cases h4 : k < 10
  · rw [if_pos h4, sl_wd3 (by omega)]
    exact sl_f8 (by omega)
  rw [if_neg h4]
  by_cases h5 : k < 12
  · rw [if_pos h5, sl_wd2 (by omega) (by omega)]
    split
    · exact sl_no_lt (sl_f4 (by omega) (by omega)) ht
    · exact sl_f4 (by omega) (by omega)
  rw [if_neg h5]
  by_cases h6 : k = 12 + t
  · rw [if_pos h6, sl_wd2 (by omega) (by omega)]
    exact sl_nw_lt (sl_f4 (by omega) (by omega))
  rw [if_neg h6]
  by_cases h7 : k < 15
  · rw [if_pos h7, sl_wd2 (by omega) (by omega)]
    exact sl_nu_lt (sl_f4 (by omega) (by omega))
  rw [if_neg h7]
  have e : k = 15 := by omega
  subst e
  exact sl_nb_lt sl_f2
theorem sl_aft_f {n t : Nat} (P : sl_PV o g l) (S : sl_SV o l n) (ht : t < 3) (h : sl_f n (7 + t) < l t) {k : Nat} (hk : k < 16) : sl_f (sl_aft o g l n t) k = sl_fa o g l n t k := sl_bx_f (sl_fa_ok P S ht h) 16 (Nat.le_refl _) k hk
theorem sl_aft_lt {n t : Nat} (P : sl_PV o g l) (S : sl_SV o l n) (ht : t < 3) (h : sl_f n (7 + t) < l t) : sl_aft o g l n t < 2 ^ 41 := sl_bx_lt (sl_fa_ok P S ht h) 16 (Nat.le_refl _)
theorem sl_aft_ix {n t u : Nat} (P : sl_PV o g l) (S : sl_SV o l n) (ht : t < 3) (h : sl_f n (7 + t) < l t) (hu : u < 3) (hn : u ≠ t) : sl_ix (sl_aft o g l n t) u = sl_ix n u := by
  unfold sl_ix
  rw [sl_aft_f P S ht h (by omega), sl_fa_pn ht hu hn]
/-- what a ready thread waits for -/
theorem sl_rdy_w {n t : Nat} (S : sl_SV o l n) (ht : t < 3) (R : sl_rdy o g l n t = true) : sl_f n (12 + t) = 0 ∨ (sl_f n (12 + t) = 2 ∧ o (sl_ix n t) = 10) := by
  obtain ⟨h1, h2, h3⟩ := sl_rdy_iff.mp R
  obtain ⟨s1, s2, s3⟩ := S.2 t ht
  by_cases z : sl_f n (12 + t) = 0
  · exact Or.inl z
  · exact Or.inr ⟨by omega, (s3 z).2⟩
theorem sl_SV_aft {n t : Nat} (P : sl_PV o g l) (S : sl_SV o l n) (ht : t < 3) (R : sl_rdy o g l n t = true) : sl_SV o l (sl_aft o g l n t) := by
  have R' := sl_rdy_iff.mp R
  have hw := sl_rdy_w S ht R
  have hp := R'.1
  refine ⟨sl_aft_lt P S ht hp, fun u hu => ?_⟩
  by_cases e : u = t
  · subst e
    rw [sl_ix, sl_aft_f P S ht hp (by omega), sl_aft_f P S ht hp (by omega), sl_fa_pe, sl_fa_we hu]
    refine ⟨sl_np_le hp, ?_⟩
    by_cases hs : o (sl_ix n u) = 10 ∧ sl_f n (12 + u) = 0 ∧ sl_f n (10 + g (sl_ix n u)) = u + 1
    · have e1 : sl_np (o (sl_ix n u)) (g (sl_ix n u)) (sl_f n (4 + u)) (sl_f n (7 + u)) (l u) (sl_f n (12 + u)) (sl_f n (10 + g (sl_ix n u))) u = sl_f n (7 + u) := by
        unfold sl_np
        rw [if_neg (by omega), if_pos hs]
      have e2 : sl_nw (o (sl_ix n u)) (sl_f n (12 + u)) (sl_f n (10 + g (sl_ix n u))) u = 1 := if_pos hs
      rw [e1, e2]
      exact ⟨by decide, fun _ => ⟨hp, hs.1⟩⟩
    · have e2 : sl_nw (o (sl_ix n u)) (sl_f n (12 + u)) (sl_f n (10 + g (sl_ix n u))) u = 0 := by
        unfold sl_nw
        rw [if_neg hs]
        rcases hw with z | ⟨z1, z2⟩
        · rw [z]; split <;> rfl
        · rw [if_pos ⟨z2, z1⟩]
      rw [e2]
      exact ⟨by decide, fun z => absurd rfl z⟩
  · rw [sl_aft_ix P S ht hp hu e, sl_aft_f P S ht hp (by omega), sl_aft_f P S ht hp (by omega), sl_fa_pn ht hu e, sl_fa_wn ht hu e]
    obtain ⟨s1, s2, s3⟩ := S.2 u hu
    refine ⟨s1, ?_⟩
    unfold sl_nu
    split
    · rename_i hh
      exact ⟨by decide, fun _ => s3 (by omega)⟩
    · exact ⟨s2, s3⟩
/-! a rank that grows with every step -/
def sl_r1 (n t : Nat) : Nat := 2 * sl_f n (7 + t) + (if sl_f n (12 + t) = 0 then 0 else 1)
def sl_rk (n : Nat) : Nat := sl_r1 n 0 + sl_r1 n 1 + sl_r1 n 2
theorem sl_r1_le {n t : Nat} (P : sl_PV o g l) (S : sl_SV o l n) (ht : t < 3) : sl_r1 n t ≤ 10 := by
  have hl := (P t ht).1
  obtain ⟨s1, s2, s3⟩ := S.2 t ht
  unfold sl_r1
  split
  · omega
  · have := (s3 (by assumption)).1
    omega
theorem sl_rk_le {n : Nat} (P : sl_PV o g l) (S : sl_SV o l n) : sl_rk n ≤ 30 := by
  have h0 := sl_r1_le P S (t := 0) (by omega)
  have h1 := sl_r1_le P S (t := 1) (by omega)
  have h2 := sl_r1_le P S (t := 2) (by omega)
  unfold sl_rk
  omega
theorem sl_r1_n {n t u : Nat} (P : sl_PV o g l) (S : sl_SV o l n) (ht : t < 3) (hp : sl_f n (7 + t) < l t) (hu : u < 3) (e : u ≠ t) : sl_r1 (sl_aft o g l n t) u = sl_r1 n u := by
  unfold sl_r1
  rw [sl_aft_f P S ht hp (by omega), sl_aft_f P S ht hp (by omega), sl_fa_pn ht hu e, sl_fa_wn ht hu e]
  congr 1
  unfold sl_nu
  split
  · rename_i hh
    rw [if_neg (by decide), if_neg (by omega)]
  · rfl
theorem sl_r1_e {n t : Nat} (P : sl_PV o g l) (S : sl_SV o l n) (ht : t < 3) (R : sl_rdy o g l n t = true) : sl_r1 n t + 1 ≤ sl_r1 (sl_aft o g l n t) t := by
  have R' := sl_rdy_iff.mp R
  have hp := R'.1
  unfold sl_r1
  rw [sl_aft_f P S ht hp (by omega), sl_aft_f P S ht hp (by omega), sl_fa_pe, sl_fa_we ht]
  by_cases hs : o (sl_ix n t) = 10 ∧ sl_f n (12 + t) = 0 ∧ sl_f n (10 + g (sl_ix n t)) = t + 1
  · have e1 : sl_np (o (sl_ix n t)) (g (sl_ix n t)) (sl_f n (4 + t)) (sl_f n (7 + t)) (l t) (sl_f n (12 + t)) (sl_f n (10 + g (sl_ix n t))) t = sl_f n (7 + t) := by
      unfold sl_np
      rw [if_neg (by omega), if_pos hs]
    have e2 : sl_nw (o (sl_ix n t)) (sl_f n (12 + t)) (sl_f n (10 + g (sl_ix n t))) t = 1 := if_pos hs
    rw [e1, e2, hs.2.1]
    exact Nat.le_refl _
  · have e1 : sl_f n (7 + t) + 1 ≤ sl_np (o (sl_ix n t)) (g (sl_ix n t)) (sl_f n (4 + t)) (sl_f n (7 + t)) (l t) (sl_f n (12 + t)) (sl_f n (10 + g (sl_ix n t))) t := by
      unfold sl_np
      rw [if_neg hs]
      split
      · split <;> omega
      · omega
    have e2 : ∀ x : Nat, (if x = 0 then 0 else 1) ≤ 1 := fun x => by split <;> decide
    have e3 := e2 (sl_f n (12 + t))
    omega
theorem sl_rk_aft {n t : Nat} (P : sl_PV o g l) (S : sl_SV o l n) (ht : t < 3) (R : sl_rdy o g l n t = true) : sl_rk n + 1 ≤ sl_rk (sl_aft o g l n t) := by
  have hp := (sl_rdy_iff.mp R).1
  have h := sl_r1_e P S ht R
  have hn := fun u (hu : u < 3) (e : u ≠ t) => sl_r1_n P S ht hp hu e
  have c : t = 0 ∨ t = 1 ∨ t = 2 := by omega
  unfold sl_rk
  rcases c with rfl | rfl | rfl
  · rw [hn 1 (by decide) (by decide), hn 2 (by decide) (by decide)]; omega
  · rw [hn 0 (by decide) (by decide), hn 2 (by decide) (by decide)]; omega
  · rw [hn 0 (by decide) (by decide), hn 1 (by decide) (by decide)]; omega
/-- a step that doesn't touch can't make another thread ready -/
theorem sl_back {n t u : Nat} (P : sl_PV o g l) (S : sl_SV o l n) (ht : t < 3) (hu : u < 3) (e : u ≠ t) (R : sl_rdy o g l n t = true) (R2 : sl_rdy o g l (sl_aft o g l n t) u = true) (T : sl_tch o g (sl_ix n t) (sl_ix n u) = false) : sl_rdy o g l n u = true := by
  have hp := (sl_rdy_iff.mp R).1
  have G := sl_pv P ht hp
  obtain ⟨r1, r2, r3⟩ := sl_rdy_iff.mp R2
  rw [sl_aft_f P S ht hp (by omega), sl_fa_pn ht hu e] at r1
  have Gu := sl_pv P hu r1
  rw [sl_aft_f P S ht hp (by omega), sl_fa_wn ht hu e] at r2
  rw [sl_aft_ix P S ht hp hu e, sl_aft_f P S ht hp (k := 12 + u) (by omega), sl_fa_wn ht hu e] at r3
  obtain ⟨s1, s2, s3⟩ := S.2 u hu
  have T' : ¬ (g (sl_ix n t) = g (sl_ix n u) ∧ ((sl_lk (o (sl_ix n t)) = true ∧ sl_lk (o (sl_ix n u)) = true) ∨ (o (sl_ix n t) < 4 ∧ o (sl_ix n u) < 4 ∧ (o (sl_ix n t) ≠ 0 ∨ o (sl_ix n u) ≠ 0)))) := fun z => by
    rw [sl_tch_iff.mpr z] at T
    exact absurd T (by decide)
  rw [sl_lk_iff, sl_lk_iff] at T'
  have w1 : sl_f n (12 + u) ≠ 1 := by
    intro z
    have := (s3 (by omega)).2
    have : ¬ (o (sl_ix n t) = 11 ∧ g (sl_ix n u) = g (sl_ix n t)) := fun y => T' ⟨y.2.symm, Or.inl ⟨by omega, by omega⟩⟩
    apply r2
    unfold sl_nu
    rw [if_neg (by omega)]
    exact z
  have w2 : sl_nu (o (sl_ix n t)) (g (sl_ix n t)) (sl_f n (12 + u)) (g (sl_ix n u)) = sl_f n (12 + u) := by
    unfold sl_nu
    rw [if_neg (by omega)]
  rw [w2] at r3
  refine sl_rdy_iff.mpr ⟨r1, w1, ?_⟩
  by_cases h : o (sl_ix n u) ≠ 7 ∧ sl_f n (12 + u) = 0
  · exact Or.inl h
  · right
    have r4 : sl_f (sl_aft o g l n t) (10 + g (sl_ix n u)) = 0 := by
      rcases r3 with z | z
      · exact absurd z h
      · exact z
    have lu : o (sl_ix n u) = 7 ∨ o (sl_ix n u) = 10 := by
      by_cases z : o (sl_ix n u) = 7
      · exact Or.inl z
      · exact Or.inr (s3 (fun y => h ⟨z, y⟩)).2
    have gu : g (sl_ix n u) ≤ 1 := Gu.2.2.2.2 (by omega)
    rw [sl_aft_f P S ht hp (by omega), sl_fa_ow ht (by omega)] at r4
    by_cases ge : 10 + g (sl_ix n u) = 10 + g (sl_ix n t)
    · rw [if_pos ge] at r4
      have nl : ¬ (o (sl_ix n t) = 7 ∨ o (sl_ix n t) = 8 ∨ o (sl_ix n t) = 10 ∨ o (sl_ix n t) = 11) := fun y => T' ⟨by omega, Or.inl ⟨y, by omega⟩⟩
      unfold sl_no at r4
      rw [if_neg (by omega), if_neg (by omega), if_neg (by omega)] at r4
      exact r4
    · rw [if_neg ge] at r4
      exact r4
/-! the reference's number of a state -/
def sl_yf (l : Nat → Nat) (n k : Nat) : Nat := if 7 ≤ k ∧ k < 10 then (if sl_f n k < l (k - 7) then sl_f n k else 5) else sl_f n k
def sl_yc (l : Nat → Nat) (n : Nat) : Nat := sl_by (sl_yf l n) 16
theorem sl_yf_ok (n : Nat) : sl_ok (sl_yf l n) := by
  intro k hk
  unfold sl_yf
  split
  · split
    · exact sl_f_lt _ _
    · rw [sl_wd3 (by omega)]; decide
  · exact sl_f_lt _ _
theorem sl_yc_lt (n : Nat) : sl_yc l n < 2 ^ 41 := sl_by_lt (sl_yf_ok n) 16 (Nat.le_refl _)
theorem sl_yc_h (n : Nat) {k : Nat} (hk : k < 16) : sl_h (sl_yc l n) k = sl_yf l n k := sl_by_f (sl_yf_ok n) 16 (Nat.le_refl _) k hk
theorem sl_yf_p {n t : Nat} (ht : t < 3) : sl_yf l n (7 + t) = if sl_f n (7 + t) < l t then sl_f n (7 + t) else 5 := by
  unfold sl_yf
  rw [if_pos ⟨by omega, by omega⟩, Nat.add_sub_cancel_left]
theorem sl_yf_o {n k : Nat} (h : ¬ (7 ≤ k ∧ k < 10)) : sl_yf l n k = sl_f n k := if_neg h
theorem sl_yc_inj {n m : Nat} (P : sl_PV o g l) (S : sl_SV o l n) (S2 : sl_SV o l m) (h : sl_yc l n = sl_yc l m) : n = m := by
  apply sl_x_ext S.1 S2.1
  intro k hk
  have e : sl_yf l n k = sl_yf l m k := by rw [← sl_yc_h n hk, ← sl_yc_h m hk, h]
  by_cases h1 : 7 ≤ k ∧ k < 10
  · obtain ⟨t, rfl⟩ : ∃ t, k = 7 + t := ⟨k - 7, by omega⟩
    have ht : t < 3 := by omega
    have hl := (P t ht).1
    have a := (S.2 t ht).1
    have b := (S2.2 t ht).1
    rw [sl_yf_p ht, sl_yf_p ht] at e
    by_cases c1 : sl_f n (7 + t) < l t
    · rw [if_pos c1] at e
      by_cases c2 : sl_f m (7 + t) < l t
      · rw [if_pos c2] at e; exact e
      · rw [if_neg c2] at e; omega
    · rw [if_neg c1] at e
      by_cases c2 : sl_f m (7 + t) < l t
      · rw [if_pos c2] at e; omega
      · omega
  · rw [sl_yf_o h1, sl_yf_o h1] at e
    exact e
/-- a number with the right fields is the reference's -/
theorem sl_yc_eq {n m : Nat} (hm : m < 2 ^ 41) (h : ∀ k, k < 16 → sl_h m k = sl_yf l n k) : m = sl_yc l n := sl_y_ext hm (sl_yc_lt n) (fun k hk => by rw [h k hk, sl_yc_h n hk])
end
end
section
/-! the component's small methods -/
def sl_B (b : Bool) : Int32 := match b with
  | true => 1
  | false => 0
theorem sl_B1 {b : Bool} (h : b = true) : sl_B b = 1 := by subst h; rfl
theorem sl_B0 {b : Bool} (h : b = false) : sl_B b = 0 := by subst h; rfl
theorem sl_bB {A C : Prop} {b : Bool} (f : b = false → A) (g : b = true → C) : (sl_B b = 0 → A) ∧ (¬ sl_B b = 0 → C) := by
  cases b
  · exact ⟨fun _ => f rfl, fun z => absurd rfl z⟩
  · exact ⟨fun z => absurd z (by decide), fun _ => g rfl⟩
def sl_m (b : Nat → Bool) : Int32 := nI ((b 0).toNat + 2 * (b 1).toNat + 4 * (b 2).toNat)
theorem sl_e (a b t : Nat) : nI a + nI b * nI t = nI (a + b * t) := by rw [pk_mul, nI_add]
theorem sl_e' (t p : Nat) : 5 * nI t + nI p = nI (5 * t + p) := by rw [show (5 : Int32) = nI 5 from rfl, pk_mul, nI_add]
theorem sl_62 {n : Nat} (h : n < 2 ^ 41) : n < 2 ^ 62 := by omega
theorem sl_px3 {k : Nat} (h : k < 10) : sl_px k = 3 * k := if_pos h
theorem sl_pxo {a : Nat} (h : a < 2) : sl_px (10 + a) = 30 + 2 * a := by unfold sl_px; rw [if_neg (by omega), if_pos (by omega)]; omega
theorem sl_pxw {t : Nat} (h : t < 3) : sl_px (12 + t) = 35 + 2 * t := by unfold sl_px; rw [if_neg (by omega), if_neg (by omega), if_pos (by omega)]; omega
theorem sl_py3 {k : Nat} (h : k < 10) : sl_py k = 3 * k := if_pos h
theorem sl_pyo {a : Nat} (h : a < 2) : sl_py (10 + a) = 30 + 2 * a := by unfold sl_py; rw [if_neg (by omega), if_pos (by omega)]; omega
theorem sl_pyw {t : Nat} (h : t < 3) : sl_py (12 + t) = 34 + 2 * t := by unfold sl_py; rw [if_neg (by omega), if_pos (by omega)]; omega
section
variable {post : Int32 → Prop} {n t a : Nat}
theorem sl_bvar (hn : n < 2 ^ 41) (ha : a < 4) (h : post (nI (sl_f n a))) : wpX_bits post (lN n) (3 * nI a) 3 := by
  refine sl_bits (p := 3 * a) (w := 3) (sl_62 hn) (by omega) (by decide) (pk_mul 3 a) rfl ?_
  unfold sl_f at h
  rw [sl_px3 (by omega), sl_wd3 (by omega)] at h
  exact h
theorem sl_bacc (hn : n < 2 ^ 41) (ht : t < 3) (h : post (nI (sl_f n (4 + t)))) : wpX_bits post (lN n) (12 + 3 * nI t) 3 := by
  refine sl_bits (p := 12 + 3 * t) (w := 3) (sl_62 hn) (by omega) (by decide) (sl_e 12 3 t) rfl ?_
  unfold sl_f at h
  rw [sl_px3 (by omega), sl_wd3 (by omega), Nat.mul_add] at h
  exact h
theorem sl_bpl (hn : n < 2 ^ 41) (ht : t < 3) (h : post (nI (sl_f n (7 + t)))) : wpX_bits post (lN n) (21 + 3 * nI t) 3 := by
  refine sl_bits (p := 21 + 3 * t) (w := 3) (sl_62 hn) (by omega) (by decide) (sl_e 21 3 t) rfl ?_
  unfold sl_f at h
  rw [sl_px3 (by omega), sl_wd3 (by omega), Nat.mul_add] at h
  exact h
theorem sl_bow (hn : n < 2 ^ 41) (ha : a < 2) (h : post (nI (sl_f n (10 + a)))) : wpX_bits post (lN n) (30 + 2 * nI a) 2 := by
  refine sl_bits (p := 30 + 2 * a) (w := 2) (sl_62 hn) (by omega) (by decide) (sl_e 30 2 a) rfl ?_
  unfold sl_f at h
  rw [sl_pxo ha, sl_wd2 (by omega) (by omega)] at h
  exact h
theorem sl_bwt (hn : n < 2 ^ 41) (ht : t < 3) (h : post (nI (sl_f n (12 + t)))) : wpX_bits post (lN n) (35 + 2 * nI t) 2 := by
  refine sl_bits (p := 35 + 2 * t) (w := 2) (sl_62 hn) (by omega) (by decide) (sl_e 35 2 t) rfl ?_
  unfold sl_f at h
  rw [sl_pxw ht, sl_wd2 (by omega) (by omega)] at h
  exact h
end
section
variable {post : Int64 → Prop} {n t a v : Nat} {V : Int32}
theorem sl_wvar (ha : a < 4) (hv : v < 8) (eV : V = nI v) (h : post (lN (sl_u n a v))) : wpX_with post (lN n) (3 * nI a) 3 V := by
  refine sl_with (p := 3 * a) (w := 3) (by omega) (by decide) hv (pk_mul 3 a) rfl eV ?_
  unfold sl_u at h
  rw [sl_px3 (by omega), sl_wd3 (by omega)] at h
  exact h
theorem sl_wacc (ht : t < 3) (hv : v < 8) (eV : V = nI v) (h : post (lN (sl_u n (4 + t) v))) : wpX_with post (lN n) (12 + 3 * nI t) 3 V := by
  refine sl_with (p := 12 + 3 * t) (w := 3) (by omega) (by decide) hv (sl_e 12 3 t) rfl eV ?_
  unfold sl_u at h
  rw [sl_px3 (by omega), sl_wd3 (by omega), Nat.mul_add] at h
  exact h
theorem sl_wpl (ht : t < 3) (hv : v < 8) (eV : V = nI v) (h : post (lN (sl_u n (7 + t) v))) : wpX_with post (lN n) (21 + 3 * nI t) 3 V := by
  refine sl_with (p := 21 + 3 * t) (w := 3) (by omega) (by decide) hv (sl_e 21 3 t) rfl eV ?_
  unfold sl_u at h
  rw [sl_px3 (by omega), sl_wd3 (by omega), Nat.mul_add] at h
  exact h
theorem sl_wow (ha : a < 2) (hv : v < 4) (eV : V = nI v) (h : post (lN (sl_u n (10 + a) v))) : wpX_with post (lN n) (30 + 2 * nI a) 2 V := by
  refine sl_with (p := 30 + 2 * a) (w := 2) (by omega) (by decide) hv (sl_e 30 2 a) rfl eV ?_
  unfold sl_u at h
  rw [sl_pxo ha, sl_wd2 (by omega) (by omega)] at h
  exact h
theorem sl_wwt (ht : t < 3) (hv : v < 4) (eV : V = nI v) (h : post (lN (sl_u n (12 + t) v))) : wpX_with post (lN n) (35 + 2 * nI t) 2 V := by
  refine sl_with (p := 35 + 2 * t) (w := 2) (by omega) (by decide) hv (sl_e 35 2 t) rfl eV ?_
  unfold sl_u at h
  rw [sl_pxw ht, sl_wd2 (by omega) (by omega)] at h
  exact h
end
theorem sl_isLock {post : Int32 → Prop} {x : Nat} (hx : x < 2 ^ 31) (h : post (sl_B (sl_lk x))) : wpX_isLock post (nI x) := by
  have c : ∀ y, (x = 7 ∨ x = 8 ∨ x = 10 ∨ x = 11) → y = 1 → sl_B (sl_lk x) = y := fun y z e => by rw [e]; exact sl_B1 (sl_lk_iff.mpr z)
  refine pk_eq x 7 (fun e => ?_) (fun e7 => pk_eq x 8 (fun e => ?_) (fun e8 => pk_eq x 10 (fun e => ?_) (fun e10 => pk_eq x 11 (fun e => ?_) (fun e11 => ?_))))
  · rw [c 1 (by omega) rfl] at h; exact h
  · rw [c 1 (by omega) rfl] at h; exact h
  · rw [c 1 (by omega) rfl] at h; exact h
  · rw [c 1 (by omega) rfl] at h; exact h
  · have z : sl_lk x = false := decide_eq_false (by omega)
    rw [z] at h
    exact h
section
variable {o g l : Nat → Nat}
variable {f_states : Int32} {f_known : Int32} {f_many : Int32} {f_endings : Int32} {f_races : Int32} {f_kinds : Int32} {f_counted : Int32} {f_present : Int64} {f_taken : Int32} {a_state : Nat → Int64} {a_from : Nat → Int32} {a_by : Nat → Int32} {a_bucket : Nat → Int32} {a_ending : Nat → Int64} {a_first : Nat → Int32} {a_way : Nat → Int64} {a_asleep : Nat → Int32} {a_gone : Nat → Int32} {a_past : Nat → Int64}
theorem sl_xat {post : Int32 → Prop} {n t : Nat} (P : sl_PV o g l) (hn : n < 2 ^ 41) (ht : t < 3) (h1 : sl_f n (7 + t) < l t → post (nI (sl_ix n t))) (h2 : ¬ sl_f n (7 + t) < l t → post (-1)) : wpX_at post (f_states, f_known, f_many, f_endings, f_races, f_kinds, f_counted, f_present, f_taken, (fun j => nI (o j)), (fun j => nI (g j)), (fun j => nI (l j)), a_state, a_from, a_by, a_bucket, a_ending, a_first, a_way, a_asleep, a_gone, a_past) (lN n) (nI t) := by
  have hl := (P t ht).1
  have hf := sl_f8 (n := n) (k := 7 + t) (by omega)
  unfold wpX_at
  refine sl_bpl hn ht ⟨vp_in_nI ht (by decide), ?_⟩
  refine pk_lt (sl_f n (7 + t)) (l t) (fun z => ?_) (fun z => h2 (by omega)) rfl (by rw [nI_clamp (by omega)])
  have e : 5 * nI t + nI (sl_f n (7 + t)) = nI (sl_ix n t) := sl_e' t _
  rw [e]
  exact h1 z
theorem sl_ix_lt {n t : Nat} (P : sl_PV o g l) (ht : t < 3) (h : sl_f n (7 + t) < l t) : sl_ix n t < 15 := by
  have hl := (P t ht).1
  unfold sl_ix
  omega
theorem sl_cl {f : Nat → Nat} {i : Nat} (h : i < 15) : (fun j => nI (f j)) (nI i).toNatClampNeg = nI (f i) := by rw [nI_clamp (by omega)]
theorem sl_xready {post : Int32 → Prop} {n t : Nat} (P : sl_PV o g l) (S : sl_SV o l n) (ht : t < 3) (h : post (sl_B (sl_rdy o g l n t))) : wpX_isReady post (f_states, f_known, f_many, f_endings, f_races, f_kinds, f_counted, f_present, f_taken, (fun j => nI (o j)), (fun j => nI (g j)), (fun j => nI (l j)), a_state, a_from, a_by, a_bucket, a_ending, a_first, a_way, a_asleep, a_gone, a_past) (lN n) (nI t) := by
  have hn := S.1
  unfold wpX_isReady
  refine sl_xat P hn ht (fun hp => ?_) (fun hp => ?_)
  · have G := sl_pv P ht hp
    have hi := sl_ix_lt P ht hp
    have fw := sl_f4 (n := n) (k := 12 + t) (by omega) (by omega)
    have sw := (S.2 t ht).2
    refine br_t (nI_pos' (by omega)) (sl_bwt hn ht ?_)
    have o53 : (sl_f n (12 + t) ≠ 1) → ¬ (o (sl_ix n t) ≠ 7 ∧ sl_f n (12 + t) = 0) → wX_isReady_53 post (lN n) (nI (sl_ix n t)) f_states f_known f_many f_endings f_races f_kinds f_counted f_present f_taken (fun j => nI (o j)) (fun j => nI (g j)) (fun j => nI (l j)) a_state a_from a_by a_bucket a_ending a_first a_way a_asleep a_gone a_past := by
      intro w1 w2
      have ga : g (sl_ix n t) ≤ 1 := G.2.2.2.2 (by
        by_cases z : o (sl_ix n t) = 7
        · omega
        · have := (sw.2 (fun y => w2 ⟨z, y⟩)).2; omega)
      unfold wX_isReady_53
      refine ⟨vp_in_nI hi (by decide), ?_⟩
      rw [nI_clamp (show sl_ix n t < 2 ^ 31 by omega)]
      refine sl_bow hn (by omega) ?_
      have fo := sl_f4 (n := n) (k := 10 + g (sl_ix n t)) (by omega) (by omega)
      refine pk_eq _ 0 (fun z => ?_) (fun z => ?_)
      · rw [sl_B1 (sl_rdy_iff.mpr ⟨hp, w1, Or.inr z⟩)] at h; exact h
      · have : sl_rdy o g l n t = false := decide_eq_false (fun y => by
          rcases y.2.2 with q | q
          · exact w2 q
          · exact z q)
        rw [sl_B0 this] at h; exact h
    refine pk_eq _ 1 (fun w => ?_) (fun w => ⟨vp_in_nI hi (by decide), ?_⟩)
    · have : sl_rdy o g l n t = false := decide_eq_false (fun y => y.2.1 w)
      rw [sl_B0 this] at h; exact h
    · refine pk_eq (o (sl_ix n t)) 7 (fun z => o53 w (fun q => q.1 z)) (fun z => ?_) (sl_cl hi) rfl (by have := G.1; omega) (by decide)
      refine pk_eq _ 0 (fun q => ?_) (fun q => o53 w (fun y => q y.2))
      rw [sl_B1 (sl_rdy_iff.mpr ⟨hp, w, Or.inl ⟨z, q⟩⟩)] at h; exact h
  · have : sl_rdy o g l n t = false := decide_eq_false (fun y => hp y.1)
    rw [sl_B0 this] at h
    exact br_f (by decide) h
theorem sl_xrs {post : Int32 → Prop} {n t f : Nat} {x : Int32} (P : sl_PV o g l) (S : sl_SV o l n) (ht : t < 3) (h : wX_readySet_5 post (lN n) f_states f_known f_many f_endings f_races f_kinds f_counted f_present f_taken (fun j => nI (o j)) (fun j => nI (g j)) (fun j => nI (l j)) a_state a_from a_by a_bucket a_ending a_first a_way a_asleep a_gone a_past f (if sl_rdy o g l n t = true then x ||| ((1 : Int32) <<< (nI t &&& 31)) else x) (nI (t + 1))) : wX_readySet_5 post (lN n) f_states f_known f_many f_endings f_races f_kinds f_counted f_present f_taken (fun j => nI (o j)) (fun j => nI (g j)) (fun j => nI (l j)) a_state a_from a_by a_bucket a_ending a_first a_way a_asleep a_gone a_past (f + 1) x (nI t) := by
  refine br_f (nI_ge (b := 3) ht (by decide)) ?_
  refine sl_xready P S ht ?_
  refine sl_bB (fun z => ?_) (fun z => ?_)
  · rw [if_neg (by rw [z]; decide)] at h
    exact nm_r (nI_1 t) h
  · rw [if_pos z] at h
    exact nm_e (nm_r (nI_1 t) h)
theorem sl_ors : ∀ a b c : Bool, (if c = true then (if b = true then (if a = true then (0 : Int32) ||| ((1 : Int32) <<< (nI 0 &&& 31)) else 0) ||| ((1 : Int32) <<< (nI 1 &&& 31)) else (if a = true then (0 : Int32) ||| ((1 : Int32) <<< (nI 0 &&& 31)) else 0)) ||| ((1 : Int32) <<< (nI 2 &&& 31)) else (if b = true then (if a = true then (0 : Int32) ||| ((1 : Int32) <<< (nI 0 &&& 31)) else 0) ||| ((1 : Int32) <<< (nI 1 &&& 31)) else (if a = true then (0 : Int32) ||| ((1 : Int32) <<< (nI 0 &&& 31)) else 0))) = nI (a.toNat + 2 * b.toNat + 4 * c.toNat) := by decide +kernel
theorem sl_xrset {post : Int32 → Prop} {n : Nat} (P : sl_PV o g l) (S : sl_SV o l n) (h : post (sl_m (sl_rdy o g l n))) : wpX_readySet post (f_states, f_known, f_many, f_endings, f_races, f_kinds, f_counted, f_present, f_taken, (fun j => nI (o j)), (fun j => nI (g j)), (fun j => nI (l j)), a_state, a_from, a_by, a_bucket, a_ending, a_first, a_way, a_asleep, a_gone, a_past) (lN n) := by
  refine ⟨4, ?_⟩
  refine sl_xrs (t := 0) P S (by decide) (sl_xrs (t := 1) P S (by decide) (sl_xrs (t := 2) P S (by decide) ?_))
  rw [sl_ors]
  exact br_t (by decide) h
theorem sl_xtch {post : Int32 → Prop} {i j : Nat} (hi : i < 15) (hj : j < 15) (Gi : sl_good (o i) (g i)) (Gj : sl_good (o j) (g j)) (h : post (sl_B (sl_tch o g i j))) : wpX_touch post (f_states, f_known, f_many, f_endings, f_races, f_kinds, f_counted, f_present, f_taken, (fun j => nI (o j)), (fun j => nI (g j)), (fun j => nI (l j)), a_state, a_from, a_by, a_bucket, a_ending, a_first, a_way, a_asleep, a_gone, a_past) (nI i) (nI j) := by
  have i1 := Gi.1
  have i2 := Gi.2.1
  have j1 := Gj.1
  have j2 := Gj.2.1
  have F : ¬ (g i = g j ∧ ((sl_lk (o i) = true ∧ sl_lk (o j) = true) ∨ (o i < 4 ∧ o j < 4 ∧ (o i ≠ 0 ∨ o j ≠ 0)))) → post 0 := fun z => by
    rw [sl_B0 (show sl_tch o g i j = false from decide_eq_false z)] at h; exact h
  have T : (g i = g j ∧ ((sl_lk (o i) = true ∧ sl_lk (o j) = true) ∨ (o i < 4 ∧ o j < 4 ∧ (o i ≠ 0 ∨ o j ≠ 0)))) → post 1 := fun z => by
    rw [sl_B1 (show sl_tch o g i j = true from decide_eq_true z)] at h; exact h
  have vi : vp_in (nI i) 15 := vp_in_nI hi (by decide)
  have vj : vp_in (nI j) 15 := vp_in_nI hj (by decide)
  have ei : (nI i).toNatClampNeg = i := nI_clamp (by omega)
  have ej : (nI j).toNatClampNeg = j := nI_clamp (by omega)
  unfold wpX_touch
  refine ⟨vi, vj, ?_⟩
  simp only [ei, ej]
  refine pk_eq (g i) (g j) (fun eg => ⟨vi, ?_⟩) (fun z => F (fun y => z y.1))
  refine sl_isLock (by omega) ⟨vj, sl_isLock (by omega) ?_⟩
  refine sl_bB (fun li => sl_bB (fun lj => ⟨vi, ?_⟩) (fun lj => ?_)) (fun li => ?_)
  · rw [li, lj] at F T
    refine pk_le 4 (o i) (fun z => F (fun y => ?_)) (fun z => ⟨vj, ?_⟩)
    · rcases y.2 with q | q
      · exact absurd q.1 (by decide)
      · omega
    refine pk_le 4 (o j) (fun z => F (fun y => ?_)) (fun z2 => ⟨vi, ?_⟩)
    · rcases y.2 with q | q
      · exact absurd q.1 (by decide)
      · omega
    refine pk_eq (o i) 0 (fun q => ⟨vj, ?_⟩) (fun q => T ⟨eg, Or.inr ⟨z, z2, Or.inl q⟩⟩)
    refine pk_eq (o j) 0 (fun q2 => F (fun y => ?_)) (fun q2 => T ⟨eg, Or.inr ⟨z, z2, Or.inr q2⟩⟩)
    rcases y.2 with r | r
    · exact absurd r.1 (by decide)
    · omega
  · unfold wX_touch_47
    rw [li, lj] at F
    refine br_t (sl_B0 li) (F (fun y => ?_))
    rcases y.2 with r | r
    · exact absurd r.1 (by decide)
    · have := sl_lk_iff.mp lj; omega
  · unfold wX_touch_47
    rw [li] at F T ⊢
    refine br_f (by decide) (sl_bB (fun lj => ?_) (fun lj => ?_))
    · rw [lj] at F
      refine F (fun y => ?_)
      rcases y.2 with r | r
      · exact absurd r.2 (by decide)
      · have := sl_lk_iff.mp li; omega
    · exact T ⟨eg, Or.inl ⟨rfl, lj⟩⟩
end
end
section
/-! the component's step -/
section
variable {o g l : Nat → Nat}
theorem sl_aft_fin {n t base acc pl : Nat} (P : sl_PV o g l) (S : sl_SV o l n) (ht : t < 3) (hp : sl_f n (7 + t) < l t) (hb : base < 2 ^ 41) (h1 : acc < 8) (h2 : pl < 8)
    (e1 : sl_np (o (sl_ix n t)) (g (sl_ix n t)) (sl_f n (4 + t)) (sl_f n (7 + t)) (l t) (sl_f n (12 + t)) (sl_f n (10 + g (sl_ix n t))) t = pl)
    (e2 : sl_na (o (sl_ix n t)) (g (sl_ix n t)) (sl_f n (4 + t)) (sl_f n (g (sl_ix n t))) = acc)
    (e3 : ∀ k, k < 16 → k ≠ 7 + t → k ≠ 4 + t → sl_f base k = sl_fa o g l n t k) : sl_u (sl_u base (4 + t) acc) (7 + t) pl = sl_aft o g l n t := by
  have w4 : acc < 2 ^ sl_wd (4 + t) := by rw [sl_wd3 (by omega)]; exact h1
  have w7 : pl < 2 ^ sl_wd (7 + t) := by rw [sl_wd3 (by omega)]; exact h2
  apply sl_x_ext (sl_u_lt (by omega) w7 (sl_u_lt (by omega) w4 hb)) (sl_aft_lt P S ht hp)
  intro k hk
  rw [sl_aft_f P S ht hp hk, sl_f_u (by omega) hk w7, sl_f_u (by omega) hk w4]
  by_cases k7 : k = 7 + t
  · rw [if_pos k7, k7, sl_fa_pe, e1]
  · rw [if_neg k7]
    by_cases k4 : k = 4 + t
    · rw [if_pos k4]
      unfold sl_fa
      rw [if_neg k7, if_pos k4, e2]
    · rw [if_neg k4]
      exact e3 k hk k7 k4
/-- the fields that are neither the place nor the ACC of the thread -/
def sl_fr (o g : Nat → Nat) (n t k : Nat) : Nat :=
  if k < 4 then (if k = g (sl_ix n t) then sl_nv (o (sl_ix n t)) (sl_f n (4 + t)) (sl_f n k) else sl_f n k)
  else if k < 10 then sl_f n k
  else if k < 12 then (if k = 10 + g (sl_ix n t) then sl_no (o (sl_ix n t)) (sl_f n (12 + t)) (sl_f n k) t else sl_f n k)
  else if k = 12 + t then sl_nw (o (sl_ix n t)) (sl_f n (12 + t)) (sl_f n (10 + g (sl_ix n t))) t
  else if k < 15 then sl_nu (o (sl_ix n t)) (g (sl_ix n t)) (sl_f n k) (g (sl_ix n (k - 12)))
  else sl_nb (o (sl_ix n t)) (g (sl_ix n t)) (sl_f n (4 + t)) (sl_f n 15)
theorem sl_fa_fr {n t k : Nat} (h7 : k ≠ 7 + t) (h4 : k ≠ 4 + t) : sl_fa o g l n t k = sl_fr o g n t k := by
  unfold sl_fa sl_fr
  rw [if_neg h7, if_neg h4]
/-- a step that changes nothing but place and ACC -/
theorem sl_fr_id {n t k : Nat} (hk : k < 16) (n1 : ¬ (o (sl_ix n t) = 1 ∨ o (sl_ix n t) = 2)) (n3 : o (sl_ix n t) ≠ 3) (n7 : o (sl_ix n t) ≠ 7)
    (n8 : ¬ (o (sl_ix n t) = 8 ∧ sl_f n (10 + g (sl_ix n t)) = t + 1)) (n9 : ¬ (o (sl_ix n t) = 9 ∧ sl_f n (4 + t) ≠ g (sl_ix n t))) (n10 : ¬ (o (sl_ix n t) = 10 ∧ sl_f n (12 + t) = 2))
    (m10 : ¬ (o (sl_ix n t) = 10 ∧ sl_f n (12 + t) = 0 ∧ sl_f n (10 + g (sl_ix n t)) = t + 1)) (n11 : o (sl_ix n t) ≠ 11) : sl_f n k = sl_fr o g n t k := by
  unfold sl_fr
  by_cases h1 : k < 4
  · rw [if_pos h1]
    split
    · unfold sl_nv; rw [if_neg n1, if_neg n3]
    · rfl
  rw [if_neg h1]
  by_cases h2 : k < 10
  · rw [if_pos h2]
  rw [if_neg h2]
  by_cases h3 : k < 12
  · rw [if_pos h3]
    split
    · rename_i e
      rw [e]
      unfold sl_no
      rw [if_neg (fun z => z.elim n7 n10), if_neg m10, if_neg n8]
    · rfl
  rw [if_neg h3]
  by_cases h4 : k = 12 + t
  · rw [if_pos h4, h4]
    unfold sl_nw
    rw [if_neg m10, if_neg n10]
  rw [if_neg h4]
  by_cases h5 : k < 15
  · rw [if_pos h5]
    unfold sl_nu
    rw [if_neg (fun z => n11 z.1)]
  rw [if_neg h5]
  unfold sl_nb
  rw [if_neg n9]
  congr 1
  omega
/-- .. one variable -/
theorem sl_fr_v {n t k v : Nat} (hk : k < 16) (ho : o (sl_ix n t) = 1 ∨ o (sl_ix n t) = 2 ∨ o (sl_ix n t) = 3) (ha : g (sl_ix n t) < 4) (hv : v < 8) (e : sl_nv (o (sl_ix n t)) (sl_f n (4 + t)) (sl_f n (g (sl_ix n t))) = v) : sl_f (sl_u n (g (sl_ix n t)) v) k = sl_fr o g n t k := by
  have w : v < 2 ^ sl_wd (g (sl_ix n t)) := by rw [sl_wd3 (by omega)]; exact hv
  rw [sl_f_u (by omega) hk w]
  by_cases c : k = g (sl_ix n t)
  · rw [if_pos c]
    unfold sl_fr
    rw [if_pos (by omega), if_pos c, c, e]
  · rw [if_neg c]
    unfold sl_fr
    by_cases h1 : k < 4
    · rw [if_pos h1, if_neg c]
    rw [if_neg h1]
    by_cases h2 : k < 10
    · rw [if_pos h2]
    rw [if_neg h2]
    by_cases h3 : k < 12
    · rw [if_pos h3]
      split
      · unfold sl_no
        rw [if_neg (by omega), if_neg (by omega), if_neg (by omega)]
      · rfl
    rw [if_neg h3]
    by_cases h4 : k = 12 + t
    · rw [if_pos h4, h4]
      unfold sl_nw
      rw [if_neg (by omega), if_neg (by omega)]
    rw [if_neg h4]
    by_cases h5 : k < 15
    · rw [if_pos h5]
      unfold sl_nu
      rw [if_neg (by omega)]
    rw [if_neg h5]
    unfold sl_nb
    rw [if_neg (by omega)]
    congr 1
    omega
/-- .. one owner -/
theorem sl_fr_o {n t k v : Nat} (hk : k < 16) (ho : o (sl_ix n t) = 7 ∨ o (sl_ix n t) = 8) (ha : g (sl_ix n t) < 2) (hv : v < 4) (e : sl_no (o (sl_ix n t)) (sl_f n (12 + t)) (sl_f n (10 + g (sl_ix n t))) t = v) : sl_f (sl_u n (10 + g (sl_ix n t)) v) k = sl_fr o g n t k := by
  have w : v < 2 ^ sl_wd (10 + g (sl_ix n t)) := by rw [sl_wd2 (by omega) (by omega)]; exact hv
  rw [sl_f_u (by omega) hk w]
  by_cases c : k = 10 + g (sl_ix n t)
  · rw [if_pos c]
    unfold sl_fr
    rw [if_neg (by omega), if_neg (by omega), if_pos (by omega), if_pos c, c, e]
  · rw [if_neg c]
    unfold sl_fr
    by_cases h1 : k < 4
    · rw [if_pos h1]
      split
      · unfold sl_nv
        rw [if_neg (by omega), if_neg (by omega)]
      · rfl
    rw [if_neg h1]
    by_cases h2 : k < 10
    · rw [if_pos h2]
    rw [if_neg h2]
    by_cases h3 : k < 12
    · rw [if_pos h3, if_neg c]
    rw [if_neg h3]
    by_cases h4 : k = 12 + t
    · rw [if_pos h4, h4]
      unfold sl_nw
      rw [if_neg (by omega), if_neg (by omega)]
    rw [if_neg h4]
    by_cases h5 : k < 15
    · rw [if_pos h5]
      unfold sl_nu
      rw [if_neg (by omega)]
    rw [if_neg h5]
    unfold sl_nb
    rw [if_neg (by omega)]
    congr 1
    omega
/-- .. bad -/
theorem sl_fr_b {n t k : Nat} (ht : t < 3) (hk : k < 16) (ho : o (sl_ix n t) = 9) (hb : sl_f n (4 + t) ≠ g (sl_ix n t)) : sl_f (sl_u n 15 1) k = sl_fr o g n t k := by
  rw [sl_f_u (by omega) hk (by decide)]
  unfold sl_fr
  by_cases h1 : k < 4
  · rw [if_pos h1, if_neg (by omega)]
    split
    · unfold sl_nv
      rw [if_neg (by omega), if_neg (by omega)]
    · rfl
  rw [if_neg h1]
  by_cases h2 : k < 10
  · rw [if_pos h2, if_neg (by omega)]
  rw [if_neg h2]
  by_cases h3 : k < 12
  · rw [if_pos h3, if_neg (by omega)]
    split
    · unfold sl_no
      rw [if_neg (by omega), if_neg (by omega), if_neg (by omega)]
    · rfl
  rw [if_neg h3]
  by_cases h5 : k < 15
  · rw [if_neg (by omega)]
    by_cases h4 : k = 12 + t
    · rw [if_pos h4, h4]
      unfold sl_nw
      rw [if_neg (by omega), if_neg (by omega)]
    rw [if_neg h4, if_pos h5]
    unfold sl_nu
    rw [if_neg (by omega)]
  · have e : k = 15 := by omega
    subst e
    rw [if_pos rfl]
    rw [if_neg (by omega), if_neg (by omega)]
    unfold sl_nb
    rw [if_pos ⟨ho, hb⟩]
/-- .. the owner and the wait of the thread -/
theorem sl_fr_w {n t k v w : Nat} (ht : t < 3) (hk : k < 16) (ho : o (sl_ix n t) = 10) (ha : g (sl_ix n t) < 2) (hv : v < 4) (hw : w < 4) (e : sl_no (o (sl_ix n t)) (sl_f n (12 + t)) (sl_f n (10 + g (sl_ix n t))) t = v)
    (e2 : sl_nw (o (sl_ix n t)) (sl_f n (12 + t)) (sl_f n (10 + g (sl_ix n t))) t = w) : sl_f (sl_u (sl_u n (10 + g (sl_ix n t)) v) (12 + t) w) k = sl_fr o g n t k := by
  have w1 : v < 2 ^ sl_wd (10 + g (sl_ix n t)) := by rw [sl_wd2 (by omega) (by omega)]; exact hv
  have w2 : w < 2 ^ sl_wd (12 + t) := by rw [sl_wd2 (by omega) (by omega)]; exact hw
  rw [sl_f_u (by omega) hk w2, sl_f_u (by omega) hk w1]
  unfold sl_fr
  by_cases h1 : k < 4
  · rw [if_pos h1, if_neg (by omega), if_neg (by omega)]
    split
    · unfold sl_nv
      rw [if_neg (by omega), if_neg (by omega)]
    · rfl
  rw [if_neg h1]
  by_cases h2 : k < 10
  · rw [if_pos h2, if_neg (by omega), if_neg (by omega)]
  rw [if_neg h2]
  by_cases h3 : k < 12
  · rw [if_pos h3, if_neg (by omega)]
    by_cases c : k = 10 + g (sl_ix n t)
    · rw [if_pos c, if_pos c, c, e]
    · rw [if_neg c, if_neg c]
  rw [if_neg h3]
  by_cases h4 : k = 12 + t
  · rw [if_pos h4, if_pos h4, e2]
  rw [if_neg h4, if_neg h4, if_neg (by omega)]
  by_cases h5 : k < 15
  · rw [if_pos h5]
    unfold sl_nu
    rw [if_neg (by omega)]
  rw [if_neg h5]
  unfold sl_nb
  rw [if_neg (by omega)]
  congr 1
  omega
/-- .. the notified ones -/
def sl_nt (g : Nat → Nat) (n a : Nat) : Nat → Nat
  | 0 => n
  | j + 1 => if sl_f n (12 + j) = 1 ∧ g (sl_ix n j) = a then sl_u (sl_nt g n a j) (12 + j) 2 else sl_nt g n a j
theorem sl_nt_lt {n a : Nat} (hn : n < 2 ^ 41) : ∀ j, j ≤ 3 → sl_nt g n a j < 2 ^ 41
  | 0, _ => hn
  | j + 1, hj => by
    unfold sl_nt
    split
    · exact sl_u_lt (by omega) (by rw [sl_wd2 (by omega) (by omega)]; decide) (sl_nt_lt hn j (by omega))
    · exact sl_nt_lt hn j (by omega)
theorem sl_nt_f {n a : Nat} : ∀ j, j ≤ 3 → ∀ k, k < 16 → sl_f (sl_nt g n a j) k = if 12 ≤ k ∧ k < 12 + j ∧ sl_f n k = 1 ∧ g (sl_ix n (k - 12)) = a then 2 else sl_f n k
  | 0, _, k, hk => by
    rw [if_neg (by omega)]
    rfl
  | j + 1, hj, k, hk => by
    have ih := sl_nt_f (n := n) (a := a) j (by omega) k hk
    have w2 : 2 < 2 ^ sl_wd (12 + j) := by rw [sl_wd2 (by omega) (by omega)]; decide
    unfold sl_nt
    split
    · rename_i c
      rw [sl_f_u (by omega) hk w2]
      by_cases e : k = 12 + j
      · rw [if_pos e, if_pos ⟨by omega, by omega, by rw [e]; exact c.1, by rw [e, Nat.add_sub_cancel_left]; exact c.2⟩]
      · rw [if_neg e, ih]
        by_cases d : 12 ≤ k ∧ k < 12 + j ∧ sl_f n k = 1 ∧ g (sl_ix n (k - 12)) = a
        · rw [if_pos d, if_pos ⟨d.1, by omega, d.2.2⟩]
        · rw [if_neg d, if_neg (fun z => d ⟨z.1, by omega, z.2.2⟩)]
    · rename_i c
      rw [ih]
      by_cases d : 12 ≤ k ∧ k < 12 + j ∧ sl_f n k = 1 ∧ g (sl_ix n (k - 12)) = a
      · rw [if_pos d, if_pos ⟨d.1, by omega, d.2.2⟩]
      · rw [if_neg d, if_neg (fun z => ?_)]
        by_cases e : k = 12 + j
        · apply c
          rw [e, Nat.add_sub_cancel_left] at z
          exact z.2.2
        · exact d ⟨z.1, by omega, z.2.2⟩
theorem sl_fr_n {n t k : Nat} (ht : t < 3) (hk : k < 16) (ho : o (sl_ix n t) = 11) (hw : sl_f n (12 + t) = 0) : sl_f (sl_nt g n (g (sl_ix n t)) 3) k = sl_fr o g n t k := by
  rw [sl_nt_f 3 (Nat.le_refl _) k hk]
  unfold sl_fr
  by_cases h1 : k < 4
  · rw [if_pos h1, if_neg (by omega)]
    split
    · unfold sl_nv
      rw [if_neg (by omega), if_neg (by omega)]
    · rfl
  rw [if_neg h1]
  by_cases h2 : k < 10
  · rw [if_pos h2, if_neg (by omega)]
  rw [if_neg h2]
  by_cases h3 : k < 12
  · rw [if_pos h3, if_neg (by omega)]
    split
    · unfold sl_no
      rw [if_neg (by omega), if_neg (by omega), if_neg (by omega)]
    · rfl
  rw [if_neg h3]
  by_cases h4 : k = 12 + t
  · rw [if_pos h4, h4, hw, if_neg (by omega)]
    unfold sl_nw
    rw [if_neg (by omega), if_neg (by omega)]
  rw [if_neg h4]
  by_cases h5 : k < 15
  · rw [if_pos h5]
    unfold sl_nu
    by_cases c : sl_f n k = 1 ∧ g (sl_ix n (k - 12)) = g (sl_ix n t)
    · rw [if_pos ⟨by omega, by omega, c⟩, if_pos ⟨ho, c⟩]
    · rw [if_neg (fun z => c z.2.2), if_neg (fun z => c z.2)]
  rw [if_neg h5, if_neg (by omega)]
  unfold sl_nb
  rw [if_neg (by omega)]
  congr 1
  omega
end
end
section
theorem sl_np_1 {op a acc p L wt ow t : Nat} (h6 : op ≠ 6) (h10 : op ≠ 10) : sl_np op a acc p L wt ow t = p + 1 := by
  unfold sl_np
  rw [if_neg (fun z => h6 z.1), if_neg (fun z => h10 z.1)]
theorem sl_na_id {op a acc va : Nat} (h0 : op ≠ 0) (h2 : op ≠ 2) (h4 : op ≠ 4) (h5 : op ≠ 5) : sl_na op a acc va = acc := by
  unfold sl_na
  rw [if_neg (by omega), if_neg h4, if_neg h5]
section
variable {o g l : Nat → Nat}
variable {f_states : Int32} {f_known : Int32} {f_many : Int32} {f_endings : Int32} {f_races : Int32} {f_kinds : Int32} {f_counted : Int32} {f_present : Int64} {f_taken : Int32} {a_state : Nat → Int64} {a_from : Nat → Int32} {a_by : Nat → Int32} {a_bucket : Nat → Int32} {a_ending : Nat → Int64} {a_first : Nat → Int32} {a_way : Nat → Int64} {a_asleep : Nat → Int32} {a_gone : Nat → Int32} {a_past : Nat → Int64}
theorem sl_x415 {post : Int64 → Prop} {n t acc pl : Nat} {A B : Int32} (ht : t < 3) (ha : acc < 8) (hp : pl < 8) (eA : A = nI acc) (eB : B = nI pl) (h : post (lN (sl_u (sl_u n (4 + t) acc) (7 + t) pl))) : wX_after_415 post (nI t) A B (lN n) f_states f_known f_many f_endings f_races f_kinds f_counted f_present f_taken (fun j => nI (o j)) (fun j => nI (g j)) (fun j => nI (l j)) a_state a_from a_by a_bucket a_ending a_first a_way a_asleep a_gone a_past := by
  unfold wX_after_415
  exact sl_wacc ht ha eA (sl_wpl ht hp eB h)
theorem sl_xnt {post : Int64 → Prop} {n a j f : Nat} (P : sl_PV o g l) (S : sl_SV o l n) (hj : j < 3) (ha : a < 2 ^ 31) (h : wX_notified_6 post (lN n) (nI a) f_states f_known f_many f_endings f_races f_kinds f_counted f_present f_taken (fun j => nI (o j)) (fun j => nI (g j)) (fun j => nI (l j)) a_state a_from a_by a_bucket a_ending a_first a_way a_asleep a_gone a_past f (lN (sl_nt g n a (j + 1))) (nI (j + 1))) : wX_notified_6 post (lN n) (nI a) f_states f_known f_many f_endings f_races f_kinds f_counted f_present f_taken (fun j => nI (o j)) (fun j => nI (g j)) (fun j => nI (l j)) a_state a_from a_by a_bucket a_ending a_first a_way a_asleep a_gone a_past (f + 1) (lN (sl_nt g n a j)) (nI j) := by
  have hn := S.1
  have hw := sl_f4 (n := n) (k := 12 + j) (by omega) (by omega)
  refine br_f (nI_ge (b := 3) hj (by decide)) ?_
  refine sl_xat P hn hj (fun hp => ?_) (fun hp => ?_)
  · have hi := sl_ix_lt P hj hp
    have G := sl_pv P hj hp
    refine sl_bwt hn hj (pk_eq (sl_f n (12 + j)) 1 (fun w => ⟨vp_in_nI hi (by decide), ?_⟩) (fun w => ?_))
    · refine pk_eq (g (sl_ix n j)) a (fun e => ?_) (fun e => ?_) (sl_cl hi) rfl (by have := G.2.1; omega) ha
      · refine sl_wwt (v := 2) hj (by decide) rfl (nm_r (nI_1 j) ?_)
        unfold sl_nt at h
        rw [if_pos ⟨w, e⟩] at h
        exact h
      · unfold sl_nt at h
        rw [if_neg (fun z => e z.2)] at h
        exact nm_r (nI_1 j) h
    · unfold sl_nt at h
      rw [if_neg (fun z => w z.1)] at h
      exact nm_r (nI_1 j) h
  · have w : sl_f n (12 + j) ≠ 1 := fun z => hp ((S.2 j hj).2.2 (by omega)).1
    refine sl_bwt hn hj (pk_eq (sl_f n (12 + j)) 1 (fun z => absurd z w) (fun _ => ?_))
    unfold sl_nt at h
    rw [if_neg (fun z => w z.1)] at h
    exact nm_r (nI_1 j) h
theorem sl_xntf {post : Int64 → Prop} {n a : Nat} (P : sl_PV o g l) (S : sl_SV o l n) (ha : a < 2 ^ 31) (h : post (lN (sl_nt g n a 3))) : wpX_notified post (f_states, f_known, f_many, f_endings, f_races, f_kinds, f_counted, f_present, f_taken, (fun j => nI (o j)), (fun j => nI (g j)), (fun j => nI (l j)), a_state, a_from, a_by, a_bucket, a_ending, a_first, a_way, a_asleep, a_gone, a_past) (lN n) (nI a) := by
  refine ⟨4, ?_⟩
  exact sl_xnt (j := 0) P S (by decide) ha (sl_xnt (j := 1) P S (by decide) ha (sl_xnt (j := 2) P S (by decide) ha (br_t (by decide) h)))
theorem sl_x64 {post : Int64 → Prop} {n t va : Nat} (P : sl_PV o g l) (S : sl_SV o l n) (ht : t < 3) (R : sl_rdy o g l n t = true) (hva : g (sl_ix n t) < 4 → va = sl_f n (g (sl_ix n t))) (K : post (lN (sl_aft o g l n t))) :
    wX_after_64 post (lN n) (nI t) (nI (sl_ix n t)) (nI (g (sl_ix n t))) (nI (sl_f n (4 + t))) (nI (sl_f n (7 + t) + 1)) (nI va) f_states f_known f_many f_endings f_races f_kinds f_counted f_present f_taken (fun j => nI (o j)) (fun j => nI (g j)) (fun j => nI (l j)) a_state a_from a_by a_bucket a_ending a_first a_way a_asleep a_gone a_past := by
  have hn := S.1
  have hp := (sl_rdy_iff.mp R).1
  have hw := sl_rdy_w S ht R
  have hl := (P t ht).1
  have hi := sl_ix_lt P ht hp
  have hacc := sl_f8 (n := n) (k := 4 + t) (by omega)
  obtain ⟨G1, G2, G3, G4, G5⟩ := sl_pv P ht hp
  have F : ∀ base acc' pl', base < 2 ^ 41 → acc' < 8 → pl' < 8 → sl_np (o (sl_ix n t)) (g (sl_ix n t)) (sl_f n (4 + t)) (sl_f n (7 + t)) (l t) (sl_f n (12 + t)) (sl_f n (10 + g (sl_ix n t))) t = pl' → sl_na (o (sl_ix n t)) (g (sl_ix n t)) (sl_f n (4 + t)) (sl_f n (g (sl_ix n t))) = acc' → (∀ k, k < 16 → sl_f base k = sl_fr o g n t k) → post (lN (sl_u (sl_u base (4 + t) acc') (7 + t) pl')) := by
    intro base acc' pl' b1 b2 b3 b4 b5 b6
    rw [sl_aft_fin P S ht hp b1 b2 b3 b4 b5 (fun k hk h7 h4 => by rw [b6 k hk, sl_fa_fr h7 h4])]
    exact K
  have pe : nI (sl_f n (7 + t) + 1) = nI (sl_f n (7 + t) + 1) := rfl
  have ou : ∀ q : Nat, o (sl_ix n t) = q → (fun j => nI (o j)) (nI (sl_ix n t)).toNatClampNeg = nI q := fun q e => by rw [← e]; exact sl_cl hi
  unfold wX_after_64
  refine ⟨vp_in_nI hi (by decide), ?_⟩
  have c : o (sl_ix n t) = 0 ∨ o (sl_ix n t) = 1 ∨ o (sl_ix n t) = 2 ∨ o (sl_ix n t) = 3 ∨ o (sl_ix n t) = 4 ∨ o (sl_ix n t) = 5 ∨ o (sl_ix n t) = 6 ∨ o (sl_ix n t) = 7 ∨ o (sl_ix n t) = 8 ∨ o (sl_ix n t) = 9 ∨ o (sl_ix n t) = 10 ∨ o (sl_ix n t) = 11 := by omega
  rcases c with e | e | e | e | e | e | e | e | e | e | e | e
  · have ga := G3 (by omega)
    have ev := hva (by omega)
    subst ev
    have hv := sl_f8 (n := n) (k := g (sl_ix n t)) (by omega)
    refine nm_r (e' := 0) (ou 0 e) (br_f (by decide) (br_f (by decide) (br_t rfl ?_)))
    exact sl_x415 ht hv (by omega) rfl rfl (F _ _ _ hn hv (by omega) (sl_np_1 (by omega) (by omega)) (if_pos (Or.inl e)) (fun k hk => sl_fr_id hk (by omega) (by omega) (by omega) (by omega) (by omega) (by omega) (by omega) (by omega)))
  · have ga := G3 (by omega)
    refine nm_r (e' := 1) (ou 1 e) (br_f (by decide) (br_f (by decide) (br_f (by decide) (br_t rfl ?_))))
    refine sl_wvar (by omega) hacc rfl (sl_x415 ht hacc (by omega) rfl rfl (F _ _ _ (sl_u_lt (by omega) (by rw [sl_wd3 (by omega)]; exact hacc) hn) hacc (by omega) (sl_np_1 (by omega) (by omega)) (sl_na_id (by omega) (by omega) (by omega) (by omega)) (fun k hk => sl_fr_v hk (Or.inl e) (by omega) hacc (if_pos (Or.inl e)))))
  · have ga := G3 (by omega)
    have ev := hva (by omega)
    subst ev
    have hv := sl_f8 (n := n) (k := g (sl_ix n t)) (by omega)
    refine nm_r (e' := 2) (ou 2 e) (br_f (by decide) (br_f (by decide) (br_f (by decide) (br_f (by decide) (br_t rfl ?_)))))
    refine sl_wvar (by omega) hacc rfl (sl_x415 ht hv (by omega) rfl rfl (F _ _ _ (sl_u_lt (by omega) (by rw [sl_wd3 (by omega)]; exact hacc) hn) hv (by omega) (sl_np_1 (by omega) (by omega)) (if_pos (Or.inr e)) (fun k hk => sl_fr_v hk (Or.inr (Or.inl e)) (by omega) hacc (if_pos (Or.inr e)))))
  · have ga := G3 (by omega)
    have ev := hva (by omega)
    subst ev
    have hv : (sl_f n (g (sl_ix n t)) + 1) % 8 < 8 := Nat.mod_lt _ (by decide)
    have hv1 := sl_f8 (n := n) (k := g (sl_ix n t)) (by omega)
    refine nm_r (e' := 3) (ou 3 e) (br_f (by decide) (br_f (by decide) (br_f (by decide) (br_f (by decide) (br_f (by decide) (br_t rfl ?_))))))
    refine sl_wvar (v := (sl_f n (g (sl_ix n t)) + 1) % 8) (by omega) hv (by rw [nI_1]; exact pk_andN (by omega) 3 (by decide)) (sl_x415 ht hacc (by omega) rfl rfl (F _ _ _ (sl_u_lt (by omega) (by rw [sl_wd3 (by omega)]; exact hv) hn) hacc (by omega) (sl_np_1 (by omega) (by omega)) (sl_na_id (by omega) (by omega) (by omega) (by omega)) (fun k hk => sl_fr_v hk (Or.inr (Or.inr e)) (by omega) hv (by unfold sl_nv; rw [if_neg (by omega), if_pos e]))))
  · refine nm_r (e' := 4) (ou 4 e) (br_f (by decide) (br_f (by decide) (br_f (by decide) (br_f (by decide) (br_f (by decide) (br_f (by decide) (br_t rfl ?_)))))))
    exact sl_x415 ht (by omega) (by omega) rfl rfl (F _ _ _ hn (by omega) (by omega) (sl_np_1 (by omega) (by omega)) (by unfold sl_na; rw [if_neg (by omega), if_pos e]) (fun k hk => sl_fr_id hk (by omega) (by omega) (by omega) (by omega) (by omega) (by omega) (by omega) (by omega)))
  · have hv : (sl_f n (4 + t) + g (sl_ix n t)) % 8 < 8 := Nat.mod_lt _ (by decide)
    refine nm_r (e' := 5) (ou 5 e) (br_f (by decide) (br_f (by decide) (br_f (by decide) (br_f (by decide) (br_f (by decide) (br_f (by decide) (br_f (by decide) (br_t rfl ?_))))))))
    refine nm_r (e' := nI ((sl_f n (4 + t) + g (sl_ix n t)) % 8)) (by rw [nI_add]; exact pk_andN (by omega) 3 (by decide)) ?_
    exact sl_x415 ht hv (by omega) rfl rfl (F _ _ _ hn hv (by omega) (sl_np_1 (by omega) (by omega)) (by unfold sl_na; rw [if_neg (by omega), if_neg (by omega), if_pos e]) (fun k hk => sl_fr_id hk (by omega) (by omega) (by omega) (by omega) (by omega) (by omega) (by omega) (by omega)))
  · have ga := G4 e
    have ec : (fun j => nI (l j)) (nI t).toNatClampNeg = nI (l t) := by rw [nI_clamp (by omega)]
    refine nm_r (e' := 6) (ou 6 e) (br_f (by decide) (br_f (by decide) (br_f (by decide) (br_f (by decide) (br_f (by decide) (br_f (by decide) (br_f (by decide) (br_f (by decide) (br_t rfl ?_)))))))))
    have idk : ∀ k, k < 16 → sl_f n k = sl_fr o g n t k := fun k hk => sl_fr_id hk (by omega) (by omega) (by omega) (by omega) (by omega) (by omega) (by omega) (by omega)
    refine pk_eq (sl_f n (4 + t)) 0 (fun z => ⟨vp_in_nI ht (by decide), ?_⟩) (fun z => ?_)
    · refine pk_le (l t) (sl_f n (7 + t) + 1 + g (sl_ix n t)) (fun y => ⟨vp_in_nI ht (by decide), ?_⟩) (fun y => ?_) ec (nI_add _ _)
      · unfold wX_after_256
        exact sl_x415 ht hacc (by omega) rfl ec (F _ _ _ hn hacc (by omega) (by unfold sl_np; rw [if_pos ⟨e, z⟩, if_pos y]) (sl_na_id (by omega) (by omega) (by omega) (by omega)) idk)
      · unfold wX_after_256
        exact sl_x415 ht hacc (by omega) rfl (nI_add _ _) (F _ _ _ hn hacc (by omega) (by unfold sl_np; rw [if_pos ⟨e, z⟩, if_neg (by omega)]) (sl_na_id (by omega) (by omega) (by omega) (by omega)) idk)
    · exact sl_x415 ht hacc (by omega) rfl rfl (F _ _ _ hn hacc (by omega) (by unfold sl_np; rw [if_neg (fun y => z y.2), if_neg (by omega)]) (sl_na_id (by omega) (by omega) (by omega) (by omega)) idk)
  · have ga := G5 (by omega)
    refine nm_r (e' := 7) (ou 7 e) (br_f (by decide) (br_f (by decide) (br_f (by decide) (br_f (by decide) (br_f (by decide) (br_f (by decide) (br_f (by decide) (br_f (by decide) (br_f (by decide) (br_t rfl ?_))))))))))
    refine sl_wow (v := t + 1) (by omega) (by omega) (nI_1 t) (sl_x415 ht hacc (by omega) rfl rfl (F _ _ _ (sl_u_lt (by omega) (by rw [sl_wd2 (by omega) (by omega)]; omega) hn) hacc (by omega) (sl_np_1 (by omega) (by omega)) (sl_na_id (by omega) (by omega) (by omega) (by omega)) (fun k hk => sl_fr_o hk (Or.inl e) (by omega) (by omega) (if_pos (Or.inl e)))))
  · have ga := G5 (by omega)
    have hf := sl_f4 (n := n) (k := 10 + g (sl_ix n t)) (by omega) (by omega)
    refine nm_r (e' := 8) (ou 8 e) (br_f (by decide) (br_f (by decide) (br_f (by decide) (br_f (by decide) (br_f (by decide) (br_f (by decide) (br_f (by decide) (br_f (by decide) (br_f (by decide) (br_f (by decide) (br_t rfl ?_)))))))))))
    refine sl_bow hn (by omega) (pk_eq (sl_f n (10 + g (sl_ix n t))) (t + 1) (fun z => ?_) (fun z => ?_) rfl (nI_1 t))
    · refine sl_wow (v := 0) (by omega) (by omega) rfl (sl_x415 ht hacc (by omega) rfl rfl (F _ _ _ (sl_u_lt (by omega) (by rw [sl_wd2 (by omega) (by omega)]; omega) hn) hacc (by omega) (sl_np_1 (by omega) (by omega)) (sl_na_id (by omega) (by omega) (by omega) (by omega)) (fun k hk => sl_fr_o hk (Or.inr e) (by omega) (by omega) (by unfold sl_no; rw [if_neg (by omega), if_neg (by omega), if_pos ⟨e, z⟩]))))
    · exact sl_x415 ht hacc (by omega) rfl rfl (F _ _ _ hn hacc (by omega) (sl_np_1 (by omega) (by omega)) (sl_na_id (by omega) (by omega) (by omega) (by omega)) (fun k hk => sl_fr_id hk (by omega) (by omega) (by omega) (fun y => z y.2) (by omega) (by omega) (by omega) (by omega)))
  · refine nm_r (e' := 9) (ou 9 e) (br_f (by decide) (br_f (by decide) (br_f (by decide) (br_f (by decide) (br_f (by decide) (br_f (by decide) (br_f (by decide) (br_f (by decide) (br_f (by decide) (br_f (by decide) (br_f (by decide) (br_t rfl ?_))))))))))))
    refine pk_eq (sl_f n (4 + t)) (g (sl_ix n t)) (fun z => ?_) (fun z => ?_)
    · exact sl_x415 ht hacc (by omega) rfl rfl (F _ _ _ hn hacc (by omega) (sl_np_1 (by omega) (by omega)) (sl_na_id (by omega) (by omega) (by omega) (by omega)) (fun k hk => sl_fr_id hk (by omega) (by omega) (by omega) (by omega) (fun y => y.2 z) (by omega) (by omega) (by omega)))
    · refine nm_r (e' := lN (sl_u n 15 1)) (sl_orL n 34) ?_
      exact sl_x415 ht hacc (by omega) rfl rfl (F _ _ _ (sl_u_lt (by omega) (by decide) hn) hacc (by omega) (sl_np_1 (by omega) (by omega)) (sl_na_id (by omega) (by omega) (by omega) (by omega)) (fun k hk => sl_fr_b ht hk e z))
  · have ga := G5 (by omega)
    have hf := sl_f4 (n := n) (k := 10 + g (sl_ix n t)) (by omega) (by omega)
    refine nm_r (e' := 10) (ou 10 e) (br_f (by decide) (br_f (by decide) (br_f (by decide) (br_f (by decide) (br_f (by decide) (br_f (by decide) (br_f (by decide) (br_f (by decide) (br_f (by decide) (br_f (by decide) (br_f (by decide) (br_f (by decide) (br_t rfl ?_)))))))))))))
    have na := sl_na_id (op := o (sl_ix n t)) (a := g (sl_ix n t)) (acc := sl_f n (4 + t)) (va := sl_f n (g (sl_ix n t))) (by omega) (by omega) (by omega) (by omega)
    have w2 : ∀ v, v < 4 → v < 2 ^ sl_wd (10 + g (sl_ix n t)) := fun v hv => by rw [sl_wd2 (by omega) (by omega)]; exact hv
    have w3 : ∀ v, v < 4 → v < 2 ^ sl_wd (12 + t) := fun v hv => by rw [sl_wd2 (by omega) (by omega)]; exact hv
    have bb : ∀ v w, v < 4 → w < 4 → sl_u (sl_u n (10 + g (sl_ix n t)) v) (12 + t) w < 2 ^ 41 := fun v w h1 h2 => sl_u_lt (by omega) (w3 w h2) (sl_u_lt (by omega) (w2 v h1) hn)
    have rb : ∀ v w, v < 4 → w < 4 → sl_f (sl_u (sl_u n (10 + g (sl_ix n t)) v) (12 + t) w) (12 + t) = w := fun v w h1 h2 => by rw [sl_f_u (by omega) (by omega) (w3 w h2), if_pos rfl]
    refine sl_bwt hn ht (pk_eq (sl_f n (12 + t)) 0 (fun z => ?_) (fun z => ?_) rfl rfl (by omega) (by omega))
    · refine sl_bow hn (by omega) (pk_eq (sl_f n (10 + g (sl_ix n t))) (t + 1) (fun y => ?_) (fun y => ?_) rfl (nI_1 t))
      · unfold wX_after_373
        unfold wpX_waiting
        refine sl_bwt hn ht (pk_eq (sl_f n (12 + t)) 2 (fun q => absurd q (by omega)) (fun q => ?_) rfl rfl (by omega) (by omega))
        unfold wX_waiting_20
        refine br_t rfl ?_
        unfold wX_waiting_42
        refine sl_wow (v := 0) (by omega) (by omega) rfl (br_t rfl ?_)
        unfold wX_waiting_66
        refine sl_wwt (v := 1) ht (by omega) rfl ?_
        refine sl_bwt (bb 0 1 (by omega) (by omega)) ht ?_
        rw [rb 0 1 (by omega) (by omega)]
        refine br_t rfl (nm_r (pk_m1 _) ?_)
        exact sl_x415 ht hacc (by omega) rfl rfl (F _ _ _ (bb 0 1 (by omega) (by omega)) hacc (by omega) (by unfold sl_np; rw [if_neg (by omega), if_pos ⟨e, z, y⟩]) na (fun k hk => sl_fr_w ht hk e (by omega) (by omega) (by omega) (by unfold sl_no; rw [if_neg (by omega), if_pos ⟨e, z, y⟩]) (if_pos ⟨e, z, y⟩)))
      · exact sl_x415 ht hacc (by omega) rfl rfl (F _ _ _ hn hacc (by omega) (by unfold sl_np; rw [if_neg (by omega), if_neg (fun q => y q.2.2)]) na (fun k hk => sl_fr_id hk (by omega) (by omega) (by omega) (by omega) (by omega) (by omega) (fun q => y q.2.2) (by omega)))
    · have z2 : sl_f n (12 + t) = 2 := by omega
      unfold wX_after_373
      unfold wpX_waiting
      refine sl_bwt hn ht (pk_eq (sl_f n (12 + t)) 2 (fun q => ?_) (fun q => absurd z2 q) rfl rfl (by omega) (by omega))
      unfold wX_waiting_20
      refine br_f (by decide) ?_
      unfold wX_waiting_42
      refine sl_wow (v := t + 1) (by omega) (by omega) (nI_1 t) (br_f (by decide) ?_)
      unfold wX_waiting_66
      refine sl_wwt (v := 0) ht (by omega) rfl ?_
      refine sl_bwt (bb (t + 1) 0 (by omega) (by omega)) ht ?_
      rw [rb (t + 1) 0 (by omega) (by omega)]
      refine br_f (by decide) ?_
      exact sl_x415 ht hacc (by omega) rfl rfl (F _ _ _ (bb (t + 1) 0 (by omega) (by omega)) hacc (by omega) (by unfold sl_np; rw [if_neg (by omega), if_neg (by omega)]) na (fun k hk => sl_fr_w ht hk e (by omega) (by omega) (by omega) (if_pos (Or.inr ⟨e, z2⟩)) (by unfold sl_nw; rw [if_neg (by omega), if_pos ⟨e, z2⟩])))
  · have z : sl_f n (12 + t) = 0 := by
      rcases hw with q | q
      · exact q
      · omega
    refine nm_r (e' := 11) (ou 11 e) (br_f (by decide) (br_t (by decide) ?_))
    refine sl_xntf P S (by omega) ?_
    exact sl_x415 ht hacc (by omega) rfl rfl (F _ _ _ (sl_nt_lt hn 3 (Nat.le_refl _)) hacc (by omega) (sl_np_1 (by omega) (by omega)) (sl_na_id (by omega) (by omega) (by omega) (by omega)) (fun k hk => sl_fr_n ht hk e z))
theorem sl_xaft {post : Int64 → Prop} {n t : Nat} (P : sl_PV o g l) (S : sl_SV o l n) (ht : t < 3) (R : sl_rdy o g l n t = true) (K : post (lN (sl_aft o g l n t))) : wpX_after post (f_states, f_known, f_many, f_endings, f_races, f_kinds, f_counted, f_present, f_taken, (fun j => nI (o j)), (fun j => nI (g j)), (fun j => nI (l j)), a_state, a_from, a_by, a_bucket, a_ending, a_first, a_way, a_asleep, a_gone, a_past) (lN n) (nI t) := by
  have hn := S.1
  have hp := (sl_rdy_iff.mp R).1
  have hi := sl_ix_lt P ht hp
  have G := (sl_pv P ht hp).2.1
  unfold wpX_after
  refine sl_xat P hn ht (fun _ => ⟨vp_in_nI hi (by decide), ?_⟩) (fun z => absurd hp z)
  refine nm_r (e' := nI (g (sl_ix n t))) (sl_cl hi) (sl_bacc hn ht (sl_bpl hn ht (nm_r (nI_1 _) ?_)))
  refine pk_le 4 (g (sl_ix n t)) (fun z => ?_) (fun z => sl_bvar hn z ?_)
  · exact sl_x64 (va := 0) P S ht R (fun y => by omega) K
  · exact sl_x64 P S ht R (fun _ => rfl) K
end
end
section
/-! the reference's small methods -/
section
variable {post : Int32 → Prop} {m t a : Nat}
theorem sl_yvar (hn : m < 2 ^ 41) (ha : a < 4) (h : post (nI (sl_h m a))) : wpY_variable post (lN m) (nI a) := by
  refine sl_get (p := 3 * a) (w := 3) (sl_62 hn) (by omega) (by decide) (pk_mul 3 a) (by decide) ?_
  unfold sl_h at h
  rw [sl_py3 (by omega), sl_wd3 (by omega)] at h
  exact h
theorem sl_yacc (hn : m < 2 ^ 41) (ht : t < 3) (h : post (nI (sl_h m (4 + t)))) : wpY_acc post (lN m) (nI t) := by
  refine sl_get (p := 12 + 3 * t) (w := 3) (sl_62 hn) (by omega) (by decide) (sl_e 12 3 t) (by decide) ?_
  unfold sl_h at h
  rw [sl_py3 (by omega), sl_wd3 (by omega), Nat.mul_add] at h
  exact h
theorem sl_ypl (hn : m < 2 ^ 41) (ht : t < 3) (h : post (nI (sl_h m (7 + t)))) : wpY_place post (lN m) (nI t) := by
  refine sl_get (p := 21 + 3 * t) (w := 3) (sl_62 hn) (by omega) (by decide) (sl_e 21 3 t) (by decide) ?_
  unfold sl_h at h
  rw [sl_py3 (by omega), sl_wd3 (by omega), Nat.mul_add] at h
  exact h
theorem sl_yow (hn : m < 2 ^ 41) (ha : a < 2) (h : post (nI (sl_h m (10 + a)))) : wpY_owner post (lN m) (nI a) := by
  refine sl_get (p := 30 + 2 * a) (w := 2) (sl_62 hn) (by omega) (by decide) (sl_e 30 2 a) (by decide) ?_
  unfold sl_h at h
  rw [sl_pyo ha, sl_wd2 (by omega) (by omega)] at h
  exact h
theorem sl_ywt (hn : m < 2 ^ 41) (ht : t < 3) (h : post (nI (sl_h m (12 + t)))) : wpY_waiting post (lN m) (nI t) := by
  refine sl_get (p := 34 + 2 * t) (w := 2) (sl_62 hn) (by omega) (by decide) (sl_e 34 2 t) (by decide) ?_
  unfold sl_h at h
  rw [sl_pyw ht, sl_wd2 (by omega) (by omega)] at h
  exact h
theorem sl_ybad (hn : m < 2 ^ 41) (h : post (nI (sl_h m 15))) : wpY_bad post (lN m) := sl_get (p := 40) (w := 1) (sl_62 hn) (by omega) (by decide) rfl (by decide) h
end
section
variable {post : Int64 → Prop} {n t a v : Nat} {V : Int64}
theorem sl_pvar (ha : a < 4) (hv : v < 2 ^ 31) (eV : V = lN v) (h : post (lN (sl_v n a (v % 8)))) : wpY_put post (lN n) (3 * nI a) 7 V := by
  refine sl_put (p := 3 * a) (w := 3) (by omega) (by decide) hv (pk_mul 3 a) rfl eV ?_
  unfold sl_v at h
  rw [sl_py3 (by omega), sl_wd3 (by omega)] at h
  exact h
theorem sl_pacc (ht : t < 3) (hv : v < 2 ^ 31) (eV : V = lN v) (h : post (lN (sl_v n (4 + t) (v % 8)))) : wpY_put post (lN n) (12 + 3 * nI t) 7 V := by
  refine sl_put (p := 12 + 3 * t) (w := 3) (by omega) (by decide) hv (sl_e 12 3 t) rfl eV ?_
  unfold sl_v at h
  rw [sl_py3 (by omega), sl_wd3 (by omega), Nat.mul_add] at h
  exact h
theorem sl_ppl (ht : t < 3) (hv : v < 2 ^ 31) (eV : V = lN v) (h : post (lN (sl_v n (7 + t) (v % 8)))) : wpY_put post (lN n) (21 + 3 * nI t) 7 V := by
  refine sl_put (p := 21 + 3 * t) (w := 3) (by omega) (by decide) hv (sl_e 21 3 t) rfl eV ?_
  unfold sl_v at h
  rw [sl_py3 (by omega), sl_wd3 (by omega), Nat.mul_add] at h
  exact h
theorem sl_pow (ha : a < 2) (hv : v < 2 ^ 31) (eV : V = lN v) (h : post (lN (sl_v n (10 + a) (v % 4)))) : wpY_put post (lN n) (30 + 2 * nI a) 3 V := by
  refine sl_put (p := 30 + 2 * a) (w := 2) (by omega) (by decide) hv (sl_e 30 2 a) rfl eV ?_
  unfold sl_v at h
  rw [sl_pyo ha, sl_wd2 (by omega) (by omega)] at h
  exact h
theorem sl_pwt (ht : t < 3) (hv : v < 2 ^ 31) (eV : V = lN v) (h : post (lN (sl_v n (12 + t) (v % 4)))) : wpY_put post (lN n) (34 + 2 * nI t) 3 V := by
  refine sl_put (p := 34 + 2 * t) (w := 2) (by omega) (by decide) hv (sl_e 34 2 t) rfl eV ?_
  unfold sl_v at h
  rw [sl_pyw ht, sl_wd2 (by omega) (by omega)] at h
  exact h
end
theorem sl_isOfLock {post : Int32 → Prop} {x : Nat} (hx : x ≤ 11) (h : post (sl_B (sl_lk x))) : wpY_isOfLock post (nI x) := by
  have c : ∀ y, (x = 7 ∨ x = 8 ∨ x = 10 ∨ x = 11) → y = 1 → sl_B (sl_lk x) = y := fun y z e => by rw [e]; exact sl_B1 (sl_lk_iff.mpr z)
  refine pk_eq x 7 (fun e => ?_) (fun e7 => pk_eq x 8 (fun e => ?_) (fun e8 => pk_lt x 10 (fun e => ?_) (fun e => ?_)))
  · rw [c 1 (by omega) rfl] at h; exact h
  · rw [c 1 (by omega) rfl] at h; exact h
  · have z : sl_lk x = false := decide_eq_false (by omega)
    rw [z] at h
    exact h
  · rw [c 1 (by omega) rfl] at h; exact h
section
variable {o g l : Nat → Nat}
theorem sl_hp {n t : Nat} (ht : t < 3) : sl_h (sl_yc l n) (7 + t) = if sl_f n (7 + t) < l t then sl_f n (7 + t) else 5 := by rw [sl_yc_h n (by omega), sl_yf_p ht]
theorem sl_ho {n k : Nat} (hk : k < 16) (h : ¬ (7 ≤ k ∧ k < 10)) : sl_h (sl_yc l n) k = sl_f n k := by rw [sl_yc_h n hk, sl_yf_o h]
variable {y_steps : Int32} {y_count : Int32} {y_known : Int32} {y_different : Int32} {y_path : Nat → Int64} {y_list : Nat → Int64} {y_next : Nat → Int32} {y_table : Nat → Int32} {y_far : Nat → Int32} {y_found : Nat → Int32} {y_who : Nat → Int32} {y_what : Nat → Int32} {y_before : Nat → Int64} {y_tried : Nat → Int32}
theorem sl_yready {post : Int32 → Prop} {n t : Nat} (P : sl_PV o g l) (S : sl_SV o l n) (ht : t < 3) (h : post (sl_B (sl_rdy o g l n t))) : wpY_isReady post (y_steps, y_count, y_known, y_different, (fun j => nI (o j)), (fun j => nI (g j)), (fun j => nI (l j)), y_path, y_list, y_next, y_table, y_far, y_found, y_who, y_what, y_before, y_tried) (lN (sl_yc l n)) (nI t) := by
  have hm := sl_yc_lt (l := l) n
  have hl := (P t ht).1
  unfold wpY_isReady
  refine sl_ypl hm ht ?_
  rw [sl_hp ht]
  by_cases hp : sl_f n (7 + t) < l t
  · rw [if_pos hp]
    have G := sl_pv P ht hp
    have hi := sl_ix_lt P ht hp
    have fw := sl_f4 (n := n) (k := 12 + t) (by omega) (by omega)
    have sw := (S.2 t ht).2
    have ei : 5 * nI t + nI (sl_f n (7 + t)) = nI (sl_ix n t) := sl_e' t (sl_f n (7 + t))
    have T : sl_rdy o g l n t = true → post 1 := fun z => by rw [sl_B1 z] at h; exact h
    have F : sl_rdy o g l n t = false → post 0 := fun z => by rw [sl_B0 z] at h; exact h
    refine pk_eq (sl_f n (7 + t)) 5 (fun z => absurd z (by omega)) (fun _ => ?_)
    refine sl_ywt hm ht ?_
    rw [sl_ho (by omega) (by omega)]
    refine pk_eq _ 1 (fun w => F (decide_eq_false (fun y => y.2.1 w))) (fun w => nm_r ei ⟨vp_in_nI hi (by decide), ?_⟩)
    have needs : (o (sl_ix n t) = 7 ∨ sl_f n (12 + t) = 2) → wY_isReady_65 post (lN (sl_yc l n)) (nI (sl_ix n t)) y_steps y_count y_known y_different (fun j => nI (o j)) (fun j => nI (g j)) (fun j => nI (l j)) y_path y_list y_next y_table y_far y_found y_who y_what y_before y_tried := by
      intro q
      have ga : g (sl_ix n t) ≤ 1 := G.2.2.2.2 (by
        rcases q with z | z
        · omega
        · have := (sw.2 (by omega)).2; omega)
      unfold wY_isReady_65 wY_isReady_70
      refine br_f (by decide) ⟨vp_in_nI hi (by decide), ?_⟩
      rw [nI_clamp (show sl_ix n t < 2 ^ 31 by omega)]
      refine sl_yow hm (by omega) ?_
      rw [sl_ho (by omega) (by omega)]
      have fo := sl_f4 (n := n) (k := 10 + g (sl_ix n t)) (by omega) (by omega)
      refine pk_eq _ 0 (fun z => T (sl_rdy_iff.mpr ⟨hp, w, Or.inr z⟩)) (fun z => F (decide_eq_false (fun y => ?_)))
      rcases y.2.2 with r | r
      · omega
      · exact z r
    have free : (o (sl_ix n t) ≠ 7 ∧ sl_f n (12 + t) = 0) → wY_isReady_69 post (lN (sl_yc l n)) (nI (sl_ix n t)) y_steps y_count y_known y_different (fun j => nI (o j)) (fun j => nI (g j)) (fun j => nI (l j)) y_path y_list y_next y_table y_far y_found y_who y_what y_before y_tried := by
      intro q
      unfold wY_isReady_69 wY_isReady_70
      exact br_t rfl (T (sl_rdy_iff.mpr ⟨hp, w, Or.inl q⟩))
    refine pk_eq (o (sl_ix n t)) 7 (fun z => needs (Or.inl z)) (fun z => ⟨vp_in_nI hi (by decide), ?_⟩) (sl_cl hi) rfl (by have := G.1; omega) (by decide)
    refine pk_eq (o (sl_ix n t)) 10 (fun z2 => sl_ywt hm ht ?_) (fun z2 => free ⟨z, ?_⟩) (sl_cl hi) rfl (by have := G.1; omega) (by decide)
    · rw [sl_ho (by omega) (by omega)]
      exact pk_eq _ 2 (fun q => needs (Or.inr q)) (fun q => free ⟨z, by omega⟩)
    · by_cases y : sl_f n (12 + t) = 0
      · exact y
      · exact absurd (sw.2 y).2 z2
  · rw [if_neg hp]
    have : sl_rdy o g l n t = false := decide_eq_false (fun y => hp y.1)
    rw [sl_B0 this] at h
    exact br_t rfl h
theorem sl_yend {post : Int32 → Prop} {n : Nat} (P : sl_PV o g l) (S : sl_SV o l n) (h : post (sl_B (!sl_rdy o g l n 0 && !sl_rdy o g l n 1 && !sl_rdy o g l n 2))) : wpY_isEnd post (y_steps, y_count, y_known, y_different, (fun j => nI (o j)), (fun j => nI (g j)), (fun j => nI (l j)), y_path, y_list, y_next, y_table, y_far, y_found, y_who, y_what, y_before, y_tried) (lN (sl_yc l n)) := by
  unfold wpY_isEnd
  refine sl_yready (t := 0) P S (by decide) (sl_bB (fun z0 => sl_yready (t := 1) P S (by decide) (sl_bB (fun z1 => sl_yready (t := 2) P S (by decide) (sl_bB (fun z2 => ?_) (fun z2 => ?_))) (fun z1 => ?_))) (fun z0 => ?_))
  · rw [z0, z1, z2] at h; exact h
  · rw [z0, z1, z2] at h; exact h
  · rw [z0, z1] at h; exact h
  · rw [z0] at h; exact h
theorem sl_ydone {post : Int32 → Prop} {n : Nat} (P : sl_PV o g l) (h : post (sl_B (decide (¬ sl_f n 7 < l 0) && decide (¬ sl_f n 8 < l 1) && decide (¬ sl_f n 9 < l 2)))) : wpY_isDone post (lN (sl_yc l n)) := by
  have hm := sl_yc_lt (l := l) n
  have K : ∀ (t : Nat), t < 3 → ∀ A B : Prop, (¬ sl_f n (7 + t) < l t → A) → (sl_f n (7 + t) < l t → B) → (nI (sl_h (sl_yc l n) (7 + t)) = 5 → A) ∧ (¬ nI (sl_h (sl_yc l n) (7 + t)) = 5 → B) := by
    intro t ht A B f1 f2
    have hl := (P t ht).1
    rw [sl_hp ht]
    by_cases hp : sl_f n (7 + t) < l t
    · rw [if_pos hp]
      exact pk_eq (sl_f n (7 + t)) 5 (fun z => absurd z (by omega)) (fun _ => f2 hp)
    · rw [if_neg hp]
      exact br_t rfl (f1 hp)
  unfold wpY_isDone
  refine sl_ypl (t := 0) hm (by decide) (K 0 (by decide) _ _ (fun z0 => sl_ypl (t := 1) hm (by decide) (K 1 (by decide) _ _ (fun z1 => sl_ypl (t := 2) hm (by decide) (K 2 (by decide) _ _ (fun z2 => ?_) (fun z2 => ?_))) (fun z1 => ?_))) (fun z0 => ?_))
  · rw [decide_eq_true z0, decide_eq_true z1, decide_eq_true z2] at h; exact h
  · rw [decide_eq_false (p := ¬ sl_f n 9 < l 2) (fun y => y z2), Bool.and_false] at h; exact h
  · rw [decide_eq_false (p := ¬ sl_f n 8 < l 1) (fun y => y z1), Bool.and_false, Bool.false_and] at h; exact h
  · rw [decide_eq_false (p := ¬ sl_f n 7 < l 0) (fun y => y z0), Bool.false_and, Bool.false_and] at h; exact h
theorem sl_isVar {post : Int32 → Prop} {x : Nat} (hx : x ≤ 11) (h : post (sl_B (decide (x < 4)))) : wpY_isOfVariable post (nI x) := by
  refine pk_le 4 x (fun z => ?_) (fun z => ?_)
  · rw [decide_eq_false (by omega)] at h; exact h
  · rw [decide_eq_true z] at h; exact h
theorem sl_ytch {post : Int32 → Prop} {i j : Nat} (hi : i < 15) (hj : j < 15) (Gi : sl_good (o i) (g i)) (Gj : sl_good (o j) (g j)) (h : post (sl_B (sl_tch o g i j))) : wpY_touch post (y_steps, y_count, y_known, y_different, (fun j => nI (o j)), (fun j => nI (g j)), (fun j => nI (l j)), y_path, y_list, y_next, y_table, y_far, y_found, y_who, y_what, y_before, y_tried) (nI i) (nI j) := by
  have i1 := Gi.1
  have i2 := Gi.2.1
  have j1 := Gj.1
  have j2 := Gj.2.1
  have F : ¬ (g i = g j ∧ ((sl_lk (o i) = true ∧ sl_lk (o j) = true) ∨ (o i < 4 ∧ o j < 4 ∧ (o i ≠ 0 ∨ o j ≠ 0)))) → post 0 := fun z => by
    rw [sl_B0 (show sl_tch o g i j = false from decide_eq_false z)] at h; exact h
  have T : (g i = g j ∧ ((sl_lk (o i) = true ∧ sl_lk (o j) = true) ∨ (o i < 4 ∧ o j < 4 ∧ (o i ≠ 0 ∨ o j ≠ 0)))) → post 1 := fun z => by
    rw [sl_B1 (show sl_tch o g i j = true from decide_eq_true z)] at h; exact h
  have vi : vp_in (nI i) 15 := vp_in_nI hi (by decide)
  have vj : vp_in (nI j) 15 := vp_in_nI hj (by decide)
  have ei : (nI i).toNatClampNeg = i := nI_clamp (by omega)
  have ej : (nI j).toNatClampNeg = j := nI_clamp (by omega)
  have K : g i = g j → ¬ (sl_lk (o i) = true ∧ sl_lk (o j) = true) → wY_touch_43 post (nI i) (nI j) y_steps y_count y_known y_different (fun j => nI (o j)) (fun j => nI (g j)) (fun j => nI (l j)) y_path y_list y_next y_table y_far y_found y_who y_what y_before y_tried := by
    intro eg nl
    unfold wY_touch_43
    simp only [ei, ej]
    refine ⟨vi, sl_isVar i1 (sl_bB (fun z => F (fun y => ?_)) (fun z => ⟨vj, sl_isVar j1 (sl_bB (fun z2 => F (fun y => ?_)) (fun z2 => ⟨vi, ?_⟩))⟩))⟩
    · rcases y.2 with r | r
      · exact nl r
      · exact of_decide_eq_false z r.1
    · rcases y.2 with r | r
      · exact nl r
      · exact of_decide_eq_false z2 r.2.1
    · have y1 := of_decide_eq_true z
      have y2 := of_decide_eq_true z2
      refine pk_eq (o i) 0 (fun q => ⟨vj, ?_⟩) (fun q => T ⟨eg, Or.inr ⟨y1, y2, Or.inl q⟩⟩)
      refine pk_eq (o j) 0 (fun q2 => F (fun y => ?_)) (fun q2 => T ⟨eg, Or.inr ⟨y1, y2, Or.inr q2⟩⟩)
      rcases y.2 with r | r
      · exact nl r
      · omega
  unfold wpY_touch
  refine ⟨vi, vj, ?_⟩
  simp only [ei, ej]
  refine pk_eq (g i) (g j) (fun eg => ⟨vi, ?_⟩) (fun z => F (fun y => z y.1))
  refine sl_isOfLock i1 (sl_bB (fun li => K eg (fun y => ?_)) (fun li => ⟨vj, sl_isOfLock j1 (sl_bB (fun lj => K eg (fun y => ?_)) (fun lj => T ⟨eg, Or.inl ⟨li, lj⟩⟩))⟩))
  · rw [li] at y; exact absurd y.1 (by decide)
  · rw [lj] at y; exact absurd y.2 (by decide)
end
end
section
/-! the reference's step -/
section
variable {o g l : Nat → Nat}
/-- mY is the reference's number of nX, but for the places, which are those of n -/
def sl_YR (l : Nat → Nat) (n nX mY : Nat) : Prop := mY < 2 ^ 41 ∧ (∀ u, u < 3 → sl_h mY (7 + u) = sl_yf l n (7 + u)) ∧ (∀ k, k < 16 → ¬ (7 ≤ k ∧ k < 10) → sl_h mY k = sl_f nX k)
theorem sl_YR0 (n : Nat) : sl_YR l n n (sl_yc l n) := ⟨sl_yc_lt n, fun u hu => sl_yc_h n (by omega), fun k hk h => sl_ho hk h⟩
theorem sl_YRv {n nX mY k v : Nat} (H : sl_YR l n nX mY) (hk : k < 16) (h : ¬ (7 ≤ k ∧ k < 10)) (hv : v < 2 ^ sl_wd k) : sl_YR l n (sl_u nX k v) (sl_v mY k v) := by
  refine ⟨sl_v_lt hk hv H.1, fun u hu => ?_, fun k' hk' h' => ?_⟩
  · rw [sl_h_v hk (by omega) hv, if_neg (by omega)]; exact H.2.1 u hu
  · rw [sl_h_v hk hk' hv, sl_f_u hk hk' hv, H.2.2 k' hk' h']
theorem sl_yaft_fin {n t nX mY pl : Nat} (P : sl_PV o g l) (S : sl_SV o l n) (ht : t < 3) (hp : sl_f n (7 + t) < l t) (H : sl_YR l n nX mY)
    (e1 : pl = if sl_np (o (sl_ix n t)) (g (sl_ix n t)) (sl_f n (4 + t)) (sl_f n (7 + t)) (l t) (sl_f n (12 + t)) (sl_f n (10 + g (sl_ix n t))) t < l t then sl_np (o (sl_ix n t)) (g (sl_ix n t)) (sl_f n (4 + t)) (sl_f n (7 + t)) (l t) (sl_f n (12 + t)) (sl_f n (10 + g (sl_ix n t))) t else 5)
    (e2 : sl_f nX (4 + t) = sl_na (o (sl_ix n t)) (g (sl_ix n t)) (sl_f n (4 + t)) (sl_f n (g (sl_ix n t))))
    (e3 : ∀ k, k < 16 → k ≠ 4 + t → ¬ (7 ≤ k ∧ k < 10) → sl_f nX k = sl_fr o g n t k) : sl_v mY (7 + t) pl = sl_yc l (sl_aft o g l n t) := by
  have hl := (P t ht).1
  have hpl : pl < 8 := by
    rw [e1]
    split <;> omega
  have w7 : pl < 2 ^ sl_wd (7 + t) := by rw [sl_wd3 (by omega)]; exact hpl
  apply sl_yc_eq (sl_v_lt (by omega) w7 H.1)
  intro k hk
  rw [sl_h_v (by omega) hk w7]
  by_cases k7 : k = 7 + t
  · rw [if_pos k7, k7, sl_yf_p ht, sl_aft_f P S ht hp (by omega), sl_fa_pe, e1]
  rw [if_neg k7]
  by_cases kp : 7 ≤ k ∧ k < 10
  · obtain ⟨u, rfl⟩ : ∃ u, k = 7 + u := ⟨k - 7, by omega⟩
    rw [H.2.1 u (by omega), sl_yf_p (by omega), sl_yf_p (by omega), sl_aft_f P S ht hp (by omega), sl_fa_pn ht (by omega) (by omega)]
  · rw [sl_yf_o kp, sl_aft_f P S ht hp hk, H.2.2 k hk kp]
    by_cases k4 : k = 4 + t
    · rw [k4, e2]
      unfold sl_fa
      rw [if_neg (by omega), if_pos rfl]
    · rw [e3 k hk k4 kp, sl_fa_fr k7 k4]
variable {y_steps : Int32} {y_count : Int32} {y_known : Int32} {y_different : Int32} {y_path : Nat → Int64} {y_list : Nat → Int64} {y_next : Nat → Int32} {y_table : Nat → Int32} {y_far : Nat → Int32} {y_found : Nat → Int32} {y_who : Nat → Int32} {y_what : Nat → Int32} {y_before : Nat → Int64} {y_tried : Nat → Int32}
theorem sl_y359 {post : Int64 → Prop} {m t p go : Nat} (P : sl_PV o g l) (ht : t < 3) (hp : p < 8) (hg : go < 8) (h : post (lN (sl_v m (7 + t) (if p + go < l t then p + go else 5)))) : wY_after_359 post (nI t) (nI p) (nI go) (lN m) y_steps y_count y_known y_different (fun j => nI (o j)) (fun j => nI (g j)) (fun j => nI (l j)) y_path y_list y_next y_table y_far y_found y_who y_what y_before y_tried := by
  have hl := (P t ht).1
  unfold wY_after_359 wY_after_382
  refine ⟨vp_in_nI ht (by decide), ?_⟩
  refine pk_lt (p + go) (l t) (fun z => ?_) (fun z => ?_) (nI_add p go) (by rw [nI_clamp (by omega)]) (by omega) (by omega)
  · rw [if_pos z] at h
    refine sl_ppl (v := p + go) ht (by omega) (by rw [nI_add, nI_l (by omega)]) ?_
    rw [Nat.mod_eq_of_lt (by omega)]
    exact h
  · rw [if_neg (by omega)] at h
    exact sl_ppl (v := 5) ht (by omega) rfl h
theorem sl_ynt {post : Int64 → Prop} {n a j f m : Nat} (P : sl_PV o g l) (S : sl_SV o l n) (hj : j < 3) (ha : a < 2 ^ 31) (H : sl_YR l n (sl_nt g n a j) m) (h : ∀ m', sl_YR l n (sl_nt g n a (j + 1)) m' → wY_locked_156 post (lN (sl_yc l n)) (nI a) y_steps y_count y_known y_different (fun j => nI (o j)) (fun j => nI (g j)) (fun j => nI (l j)) y_path y_list y_next y_table y_far y_found y_who y_what y_before y_tried f (lN m') (nI (j + 1))) : wY_locked_156 post (lN (sl_yc l n)) (nI a) y_steps y_count y_known y_different (fun j => nI (o j)) (fun j => nI (g j)) (fun j => nI (l j)) y_path y_list y_next y_table y_far y_found y_who y_what y_before y_tried (f + 1) (lN m) (nI j) := by
  have hm := sl_yc_lt (l := l) n
  have hw := sl_f4 (n := n) (k := 12 + j) (by omega) (by omega)
  refine br_f (nI_ge (b := 3) hj (by decide)) (sl_ywt hm hj ?_)
  rw [sl_ho (by omega) (by omega)]
  refine pk_eq (sl_f n (12 + j)) 1 (fun w => ?_) (fun w => nm_r (nI_1 j) (h m ?_))
  · have hp := ((S.2 j hj).2.2 (by omega)).1
    have hi := sl_ix_lt P hj hp
    have G := sl_pv P hj hp
    refine sl_ypl hm hj ?_
    rw [sl_hp hj, if_pos hp]
    refine nm_r (e' := nI (sl_ix n j)) (sl_e' j _) ⟨vp_in_nI hi (by decide), ?_⟩
    refine pk_eq (g (sl_ix n j)) a (fun e => ?_) (fun e => ?_) (sl_cl hi) rfl (by have := G.2.1; omega) ha
    · refine sl_pwt (v := 2) hj (by decide) rfl (nm_r (nI_1 j) (h _ ?_))
      unfold sl_nt
      rw [if_pos ⟨w, e⟩]
      exact sl_YRv H (by omega) (by omega) (by rw [sl_wd2 (by omega) (by omega)]; decide)
    · refine nm_r (nI_1 j) (h m ?_)
      unfold sl_nt
      rw [if_neg (fun z => e z.2)]
      exact H
  · unfold sl_nt
    rw [if_neg (fun z => w z.1)]
    exact H
theorem sl_y56 {post : Int64 → Prop} {n t va q : Nat} (P : sl_PV o g l) (S : sl_SV o l n) (ht : t < 3) (R : sl_rdy o g l n t = true) (e : o (sl_ix n t) = q) (hva : q < 4 → va = sl_f n (g (sl_ix n t))) (K : post (lN (sl_yc l (sl_aft o g l n t)))) :
    wY_after_56 post (lN (sl_yc l n)) (nI t) (nI (sl_f n (7 + t))) (nI q) (nI (g (sl_ix n t))) (nI (sl_f n (4 + t))) (nI va) y_steps y_count y_known y_different (fun j => nI (o j)) (fun j => nI (g j)) (fun j => nI (l j)) y_path y_list y_next y_table y_far y_found y_who y_what y_before y_tried := by
  have hm := sl_yc_lt (l := l) n
  have hp := (sl_rdy_iff.mp R).1
  have hw := sl_rdy_w S ht R
  have hl := (P t ht).1
  have hi := sl_ix_lt P ht hp
  have hacc := sl_f8 (n := n) (k := 4 + t) (by omega)
  obtain ⟨G1, G2, G3, G4, G5⟩ := sl_pv P ht hp
  have F : ∀ nX mY go np, sl_YR l n nX mY → go < 8 → sl_np (o (sl_ix n t)) (g (sl_ix n t)) (sl_f n (4 + t)) (sl_f n (7 + t)) (l t) (sl_f n (12 + t)) (sl_f n (10 + g (sl_ix n t))) t = np → (if sl_f n (7 + t) + go < l t then sl_f n (7 + t) + go else 5) = (if np < l t then np else 5) → sl_f nX (4 + t) = sl_na (o (sl_ix n t)) (g (sl_ix n t)) (sl_f n (4 + t)) (sl_f n (g (sl_ix n t))) → (∀ k, k < 16 → k ≠ 4 + t → sl_f nX k = sl_fr o g n t k) → wY_after_359 post (nI t) (nI (sl_f n (7 + t))) (nI go) (lN mY) y_steps y_count y_known y_different (fun j => nI (o j)) (fun j => nI (g j)) (fun j => nI (l j)) y_path y_list y_next y_table y_far y_found y_who y_what y_before y_tried := by
    intro nX mY go np b1 b2 b3a b3 b4 b5
    refine sl_y359 P ht (by omega) b2 ?_
    rw [← b3a] at b3
    rw [sl_yaft_fin P S ht hp b1 b3 b4 (fun k hk h4 h7 => b5 k hk h4)]
    exact K
  have F1 : ∀ nX mY, sl_YR l n nX mY → q ≠ 6 → q ≠ 10 → sl_f nX (4 + t) = sl_na (o (sl_ix n t)) (g (sl_ix n t)) (sl_f n (4 + t)) (sl_f n (g (sl_ix n t))) → (∀ k, k < 16 → k ≠ 4 + t → sl_f nX k = sl_fr o g n t k) → wY_after_359 post (nI t) (nI (sl_f n (7 + t))) 1 (lN mY) y_steps y_count y_known y_different (fun j => nI (o j)) (fun j => nI (g j)) (fun j => nI (l j)) y_path y_list y_next y_table y_far y_found y_who y_what y_before y_tried := by
    intro nX mY b1 c1 c2 b4 b5
    exact F nX mY 1 _ b1 (by decide) (sl_np_1 (by omega) (by omega)) rfl b4 b5
  have w3 : ∀ k v, k < 10 → v < 8 → v < 2 ^ sl_wd k := fun k v h1 h2 => by rw [sl_wd3 h1]; exact h2
  have w2 : ∀ k v, 10 ≤ k → k < 15 → v < 4 → v < 2 ^ sl_wd k := fun k v h1 h2 h3 => by rw [sl_wd2 h1 h2]; exact h3
  have YA : ∀ v, v < 8 → sl_YR l n (sl_u n (4 + t) v) (sl_v (sl_yc l n) (4 + t) v) := fun v hv => sl_YRv (sl_YR0 n) (by omega) (by omega) (w3 _ v (by omega) hv)
  have fA : ∀ v, v < 8 → sl_f (sl_u n (4 + t) v) (4 + t) = v := fun v hv => by rw [sl_f_u (by omega) (by omega) (w3 _ v (by omega) hv), if_pos rfl]
  have fN : ∀ v k, v < 8 → k < 16 → k ≠ 4 + t → sl_f (sl_u n (4 + t) v) k = sl_f n k := fun v k hv hk hn => by rw [sl_f_u (by omega) hk (w3 _ v (by omega) hv), if_neg hn]
  have c : q = 0 ∨ q = 1 ∨ q = 2 ∨ q = 3 ∨ q = 4 ∨ q = 5 ∨ q = 6 ∨ q = 7 ∨ q = 8 ∨ q = 9 ∨ q = 10 ∨ q = 11 := by omega
  unfold wY_after_56
  rcases c with rfl | rfl | rfl | rfl | rfl | rfl | rfl | rfl | rfl | rfl | rfl | rfl
  · have ga := G3 (by omega)
    have ev := hva (by omega)
    subst ev
    have hv := sl_f8 (n := n) (k := g (sl_ix n t)) (by omega)
    refine br_f (by decide) (br_f (by decide) (br_t rfl ?_))
    refine sl_pacc (v := sl_f n (g (sl_ix n t))) ht (by omega) (nI_l (by omega)) ?_
    rw [Nat.mod_eq_of_lt hv]
    exact F1 _ _ (YA _ hv) (by omega) (by omega) (by rw [fA _ hv]; exact (if_pos (Or.inl e)).symm) (fun k hk h4 => by rw [fN _ k hv hk h4]; exact sl_fr_id hk (by omega) (by omega) (by omega) (by omega) (by omega) (by omega) (by omega) (by omega))
  · have ga := G3 (by omega)
    refine br_f (by decide) (br_f (by decide) (br_f (by decide) (br_t rfl ?_)))
    refine sl_pvar (v := sl_f n (4 + t)) (by omega) (by omega) (nI_l (by omega)) ?_
    rw [Nat.mod_eq_of_lt hacc]
    refine F1 _ _ (sl_YRv (sl_YR0 n) (by omega) (by omega) (w3 _ _ (by omega) hacc)) (by omega) (by omega) ?_ (fun k hk h4 => sl_fr_v hk (Or.inl e) (by omega) hacc (if_pos (Or.inl e)))
    rw [sl_na_id (by omega) (by omega) (by omega) (by omega), sl_f_u (by omega) (by omega) (w3 _ _ (by omega) hacc), if_neg (by omega)]
  · have ga := G3 (by omega)
    have ev := hva (by omega)
    subst ev
    have hv := sl_f8 (n := n) (k := g (sl_ix n t)) (by omega)
    refine br_f (by decide) (br_f (by decide) (br_f (by decide) (br_f (by decide) (br_t rfl ?_))))
    refine sl_pacc (v := sl_f n (g (sl_ix n t))) ht (by omega) (nI_l (by omega)) ?_
    refine sl_pvar (v := sl_f n (4 + t)) (by omega) (by omega) (nI_l (by omega)) ?_
    rw [Nat.mod_eq_of_lt hacc, Nat.mod_eq_of_lt hv]
    refine F1 _ _ (sl_YRv (YA _ hv) (by omega) (by omega) (w3 _ _ (by omega) hacc)) (by omega) (by omega) ?_ (fun k hk h4 => ?_)
    · rw [sl_f_u (by omega) (by omega) (w3 _ _ (by omega) hacc), if_neg (by omega), fA _ hv]
      exact (if_pos (Or.inr e)).symm
    · rw [← sl_fr_v hk (Or.inr (Or.inl e)) (by omega) hacc (if_pos (Or.inr e)), sl_f_u (by omega) hk (w3 _ _ (by omega) hacc), sl_f_u (by omega) hk (w3 _ _ (by omega) hacc), fN _ k hv hk h4]
  · have ga := G3 (by omega)
    have ev := hva (by omega)
    subst ev
    have hv1 := sl_f8 (n := n) (k := g (sl_ix n t)) (by omega)
    have hv : (sl_f n (g (sl_ix n t)) + 1) % 8 < 8 := Nat.mod_lt _ (by decide)
    refine br_f (by decide) (br_f (by decide) (br_f (by decide) (br_f (by decide) (br_f (by decide) (br_t rfl ?_)))))
    refine sl_pvar (v := sl_f n (g (sl_ix n t)) + 1) (by omega) (by omega) (by rw [nI_1, nI_l (by omega)]) ?_
    refine F1 _ _ (sl_YRv (sl_YR0 n) (by omega) (by omega) (w3 _ _ (by omega) hv)) (by omega) (by omega) ?_ (fun k hk h4 => sl_fr_v hk (Or.inr (Or.inr e)) (by omega) hv (by unfold sl_nv; rw [if_neg (by omega), if_pos e]))
    rw [sl_na_id (by omega) (by omega) (by omega) (by omega), sl_f_u (by omega) (by omega) (w3 _ _ (by omega) hv), if_neg (by omega)]
  · refine br_f (by decide) (br_f (by decide) (br_f (by decide) (br_f (by decide) (br_f (by decide) (br_f (by decide) (br_t rfl ?_))))))
    refine sl_pacc (v := g (sl_ix n t)) ht (by omega) (nI_l (by omega)) ?_
    rw [Nat.mod_eq_of_lt (by omega)]
    exact F1 _ _ (YA _ (by omega)) (by omega) (by omega) (by rw [fA _ (by omega)]; unfold sl_na; rw [if_neg (by omega), if_pos e]) (fun k hk h4 => by rw [fN _ k (by omega) hk h4]; exact sl_fr_id hk (by omega) (by omega) (by omega) (by omega) (by omega) (by omega) (by omega) (by omega))
  · have hv : (sl_f n (4 + t) + g (sl_ix n t)) % 8 < 8 := Nat.mod_lt _ (by decide)
    refine br_f (by decide) (br_f (by decide) (br_f (by decide) (br_f (by decide) (br_f (by decide) (br_f (by decide) (br_f (by decide) (br_t rfl ?_)))))))
    refine sl_pacc (v := sl_f n (4 + t) + g (sl_ix n t)) ht (by omega) (by rw [nI_add, nI_l (by omega)]) ?_
    exact F1 _ _ (YA _ hv) (by omega) (by omega) (by rw [fA _ hv]; unfold sl_na; rw [if_neg (by omega), if_neg (by omega), if_pos e]) (fun k hk h4 => by rw [fN _ k hv hk h4]; exact sl_fr_id hk (by omega) (by omega) (by omega) (by omega) (by omega) (by omega) (by omega) (by omega))
  · have ga := G4 e
    have idk : ∀ k, k < 16 → k ≠ 4 + t → sl_f n k = sl_fr o g n t k := fun k hk _ => sl_fr_id hk (by omega) (by omega) (by omega) (by omega) (by omega) (by omega) (by omega) (by omega)
    have na := sl_na_id (op := o (sl_ix n t)) (a := g (sl_ix n t)) (acc := sl_f n (4 + t)) (va := sl_f n (g (sl_ix n t))) (by omega) (by omega) (by omega) (by omega)
    refine br_f (by decide) (br_f (by decide) (br_f (by decide) (br_f (by decide) (br_f (by decide) (br_f (by decide) (br_f (by decide) (br_f (by decide) (br_t rfl ?_))))))))
    refine pk_eq (sl_f n (4 + t)) 0 (fun z => ?_) (fun z => ?_)
    · unfold wY_after_283
      have e1 : (1 : Int32) + nI (g (sl_ix n t)) = nI (1 + g (sl_ix n t)) := nI_add 1 _
      rw [e1]
      refine F _ _ _ _ (sl_YR0 n) (by omega) (if_pos ⟨e, z⟩) ?_ na.symm idk
      by_cases y : l t ≤ sl_f n (7 + t) + 1 + g (sl_ix n t)
      · rw [if_pos y, if_neg (by omega), if_neg (by omega)]
      · rw [if_neg y, if_pos (by omega), if_pos (by omega), Nat.add_assoc]
    · unfold wY_after_283
      refine F _ _ 1 (sl_f n (7 + t) + 1) (sl_YR0 n) (by omega) ?_ rfl na.symm idk
      unfold sl_np
      rw [if_neg (fun y => z y.2), if_neg (by omega)]
  · have ga := G5 (by omega)
    refine br_f (by decide) (br_f (by decide) (br_f (by decide) (br_f (by decide) (br_f (by decide) (br_f (by decide) (br_f (by decide) (br_f (by decide) (br_f (by decide) (br_t rfl ?_)))))))))
    refine sl_pow (v := t + 1) (by omega) (by omega) (by rw [nI_1, nI_l (by omega)]) ?_
    rw [Nat.mod_eq_of_lt (by omega)]
    refine F1 _ _ (sl_YRv (sl_YR0 n) (by omega) (by omega) (w2 _ _ (by omega) (by omega) (by omega))) (by omega) (by omega) ?_ (fun k hk h4 => sl_fr_o hk (Or.inl e) (by omega) (by omega) (if_pos (Or.inl e)))
    rw [sl_na_id (by omega) (by omega) (by omega) (by omega), sl_f_u (by omega) (by omega) (w2 _ _ (by omega) (by omega) (by omega)), if_neg (by omega)]
  · have ga := G5 (by omega)
    have hf := sl_f4 (n := n) (k := 10 + g (sl_ix n t)) (by omega) (by omega)
    have na := sl_na_id (op := o (sl_ix n t)) (a := g (sl_ix n t)) (acc := sl_f n (4 + t)) (va := sl_f n (g (sl_ix n t))) (by omega) (by omega) (by omega) (by omega)
    have wz : sl_f n (12 + t) = 0 := by omega
    refine br_f (by decide) (br_f (by decide) (br_f (by decide) (br_f (by decide) (br_f (by decide) (br_f (by decide) (br_f (by decide) (br_f (by decide) (br_f (by decide) (br_f (by decide) (br_t rfl ?_))))))))))
    unfold wY_after_330 wpY_locked
    refine sl_yow hm (by omega) ?_
    rw [sl_ho (by omega) (by omega)]
    refine pk_eq (sl_f n (10 + g (sl_ix n t))) (t + 1) (fun z => ?_) (fun z => ?_) rfl (nI_1 t)
    · unfold wY_locked_17
      refine br_t rfl (br_f (by decide) (sl_pow (v := 0) (by omega) (by omega) rfl ?_))
      have Y1 := sl_YRv (sl_YR0 (l := l) n) (k := 10 + g (sl_ix n t)) (v := 0) (by omega) (by omega) (w2 _ _ (by omega) (by omega) (by omega))
      refine sl_ywt Y1.1 ht ?_
      rw [Y1.2.2 (12 + t) (by omega) (by omega), sl_f_u (by omega) (by omega) (w2 _ _ (by omega) (by omega) (by omega)), if_neg (by omega), wz]
      refine br_f (by decide) ?_
      unfold wY_after_357
      refine F1 _ _ Y1 (by omega) (by omega) ?_ (fun k hk h4 => sl_fr_o hk (Or.inr e) (by omega) (by omega) (by unfold sl_no; rw [if_neg (by omega), if_neg (by omega), if_pos ⟨e, z⟩]))
      rw [na, sl_f_u (by omega) (by omega) (w2 _ _ (by omega) (by omega) (by omega)), if_neg (by omega)]
    · unfold wY_locked_17
      refine br_t rfl (br_t rfl (sl_ywt hm ht ?_))
      rw [sl_ho (by omega) (by omega), wz]
      refine br_f (by decide) ?_
      unfold wY_after_357
      exact F1 _ _ (sl_YR0 n) (by omega) (by omega) na.symm (fun k hk h4 => sl_fr_id hk (by omega) (by omega) (by omega) (fun y => z y.2) (by omega) (by omega) (by omega) (by omega))
  · have na := sl_na_id (op := o (sl_ix n t)) (a := g (sl_ix n t)) (acc := sl_f n (4 + t)) (va := sl_f n (g (sl_ix n t))) (by omega) (by omega) (by omega) (by omega)
    refine br_f (by decide) (br_f (by decide) (br_f (by decide) (br_f (by decide) (br_f (by decide) (br_f (by decide) (br_f (by decide) (br_f (by decide) (br_f (by decide) (br_f (by decide) (br_f (by decide) (br_t rfl ?_)))))))))))
    refine pk_eq (sl_f n (4 + t)) (g (sl_ix n t)) (fun z => ?_) (fun z => ?_)
    · exact F1 _ _ (sl_YR0 n) (by omega) (by omega) na.symm (fun k hk h4 => sl_fr_id hk (by omega) (by omega) (by omega) (by omega) (fun y => y.2 z) (by omega) (by omega) (by omega))
    · refine nm_r (e' := lN (sl_v (sl_yc l n) 15 1)) (sl_orL _ 40) ?_
      refine F1 _ _ (sl_YRv (sl_YR0 n) (by omega) (by omega) (by decide)) (by omega) (by omega) ?_ (fun k hk h4 => sl_fr_b ht hk e z)
      rw [na, sl_f_u (by omega) (by omega) (by decide), if_neg (by omega)]
  · have ga := G5 (by omega)
    have hf := sl_f4 (n := n) (k := 10 + g (sl_ix n t)) (by omega) (by omega)
    have na := sl_na_id (op := o (sl_ix n t)) (a := g (sl_ix n t)) (acc := sl_f n (4 + t)) (va := sl_f n (g (sl_ix n t))) (by omega) (by omega) (by omega) (by omega)
    refine br_f (by decide) (br_t (by decide) ?_)
    unfold wY_after_330 wpY_locked
    refine sl_yow hm (by omega) ?_
    rw [sl_ho (by omega) (by omega)]
    rcases hw with wz | ⟨wz, _⟩
    · refine pk_eq (sl_f n (10 + g (sl_ix n t))) (t + 1) (fun z => ?_) (fun z => ?_) rfl (nI_1 t)
      · unfold wY_locked_17
        refine br_f (by decide) (br_t rfl (sl_ywt hm ht ?_))
        rw [sl_ho (by omega) (by omega), wz]
        refine br_f (by decide) ?_
        unfold wY_locked_103
        refine br_t rfl (br_f (by decide) (sl_pow (v := 0) (by omega) (by omega) rfl (sl_pwt (v := 1) ht (by omega) rfl ?_)))
        have Y1 := sl_YRv (sl_YR0 (l := l) n) (k := 10 + g (sl_ix n t)) (v := 0) (by omega) (by omega) (w2 _ _ (by omega) (by omega) (by omega))
        have Y2 := sl_YRv Y1 (k := 12 + t) (v := 1) (by omega) (by omega) (w2 _ _ (by omega) (by omega) (by omega))
        refine sl_ywt Y2.1 ht ?_
        rw [Y2.2.2 (12 + t) (by omega) (by omega), sl_f_u (by omega) (by omega) (w2 _ _ (by omega) (by omega) (by omega)), if_pos rfl]
        refine br_t rfl ?_
        unfold wY_after_357
        refine F _ _ 0 (sl_f n (7 + t)) Y2 (by omega) ?_ rfl ?_ (fun k hk h4 => sl_fr_w ht hk e (by omega) (by omega) (by omega) (by unfold sl_no; rw [if_neg (by omega), if_pos ⟨e, wz, z⟩]) (if_pos ⟨e, wz, z⟩))
        · unfold sl_np
          rw [if_neg (by omega), if_pos ⟨e, wz, z⟩]
        · rw [na, sl_f_u (by omega) (by omega) (w2 _ _ (by omega) (by omega) (by omega)), if_neg (by omega), sl_f_u (by omega) (by omega) (w2 _ _ (by omega) (by omega) (by omega)), if_neg (by omega)]
      · unfold wY_locked_17
        refine br_f (by decide) (br_t rfl (sl_ywt hm ht ?_))
        rw [sl_ho (by omega) (by omega), wz]
        refine br_f (by decide) ?_
        unfold wY_locked_103
        refine br_t rfl (br_t rfl (sl_ywt hm ht ?_))
        rw [sl_ho (by omega) (by omega), wz]
        refine br_f (by decide) ?_
        unfold wY_after_357
        refine F _ _ 1 (sl_f n (7 + t) + 1) (sl_YR0 n) (by omega) ?_ rfl na.symm (fun k hk h4 => sl_fr_id hk (by omega) (by omega) (by omega) (by omega) (by omega) (by omega) (fun y => z y.2.2) (by omega))
        unfold sl_np
        rw [if_neg (by omega), if_neg (fun y => z y.2.2)]
    · have KK : ∀ z0 : Int32, wY_locked_17 (fun r_10 => (wpY_waiting (fun r_28 => (((r_28 = 1 → (wY_after_357 post (nI t) (nI (sl_f n (7 + t))) r_10 0 y_steps y_count y_known y_different (fun j => nI (o j)) (fun j => nI (g j)) (fun j => nI (l j)) y_path y_list y_next y_table y_far y_found y_who y_what y_before y_tried)) ∧ (¬ r_28 = 1 → (wY_after_357 post (nI t) (nI (sl_f n (7 + t))) r_10 1 y_steps y_count y_known y_different (fun j => nI (o j)) (fun j => nI (g j)) (fun j => nI (l j)) y_path y_list y_next y_table y_far y_found y_who y_what y_before y_tried))))) r_10 (nI t))) (lN (sl_yc l n)) (nI t) (nI 10) (nI (g (sl_ix n t))) z0 y_steps y_count y_known y_different (fun j => nI (o j)) (fun j => nI (g j)) (fun j => nI (l j)) y_path y_list y_next y_table y_far y_found y_who y_what y_before y_tried := by
        intro z0
        unfold wY_locked_17
        refine br_f (by decide) (br_t rfl (sl_ywt hm ht ?_))
        rw [sl_ho (by omega) (by omega), wz]
        refine br_t rfl (sl_pwt (v := 0) ht (by omega) rfl (sl_pow (v := t + 1) (by omega) (by omega) (by rw [nI_1, nI_l (by omega)]) ?_))
        rw [Nat.mod_eq_of_lt (show t + 1 < 4 by omega)]
        have Y1 := sl_YRv (sl_YR0 (l := l) n) (k := 12 + t) (v := 0) (by omega) (by omega) (w2 _ _ (by omega) (by omega) (by omega))
        have Y2 := sl_YRv Y1 (k := 10 + g (sl_ix n t)) (v := t + 1) (by omega) (by omega) (w2 _ _ (by omega) (by omega) (by omega))
        refine sl_ywt Y2.1 ht ?_
        rw [Y2.2.2 (12 + t) (by omega) (by omega), sl_f_u (by omega) (by omega) (w2 _ _ (by omega) (by omega) (by omega)), if_neg (by omega), sl_f_u (by omega) (by omega) (w2 _ _ (by omega) (by omega) (by omega)), if_pos rfl]
        refine br_f (by decide) ?_
        unfold wY_after_357
        refine F _ _ 1 (sl_f n (7 + t) + 1) Y2 (by omega) ?_ rfl ?_ (fun k hk h4 => ?_)
        · unfold sl_np
          rw [if_neg (by omega), if_neg (by omega)]
        · rw [na, sl_f_u (by omega) (by omega) (w2 _ _ (by omega) (by omega) (by omega)), if_neg (by omega), sl_f_u (by omega) (by omega) (w2 _ _ (by omega) (by omega) (by omega)), if_neg (by omega)]
        · rw [← sl_fr_w (v := t + 1) (w := 0) ht hk e (by omega) (by omega) (by omega) (if_pos (Or.inr ⟨e, wz⟩)) (by unfold sl_nw; rw [if_neg (by omega), if_pos ⟨e, wz⟩])]
          rw [sl_f_u (by omega) hk (w2 _ _ (by omega) (by omega) (by omega)), sl_f_u (by omega) hk (w2 _ _ (by omega) (by omega) (by omega)), sl_f_u (by omega) hk (w2 _ _ (by omega) (by omega) (by omega)), sl_f_u (by omega) hk (w2 _ _ (by omega) (by omega) (by omega))]
          by_cases k1 : k = 12 + t
          · rw [if_pos k1, if_neg (by omega), if_pos k1]
          · rw [if_neg k1, if_neg k1]
      exact pk_eq (sl_f n (10 + g (sl_ix n t))) (t + 1) (fun z => KK 1) (fun z => KK 0) rfl (nI_1 t)
  · have ga := G5 (by omega)
    have hf := sl_f4 (n := n) (k := 10 + g (sl_ix n t)) (by omega) (by omega)
    have na := sl_na_id (op := o (sl_ix n t)) (a := g (sl_ix n t)) (acc := sl_f n (4 + t)) (va := sl_f n (g (sl_ix n t))) (by omega) (by omega) (by omega) (by omega)
    have wz : sl_f n (12 + t) = 0 := by omega
    refine br_f (by decide) (br_t (by decide) ?_)
    unfold wY_after_330 wpY_locked
    refine sl_yow hm (by omega) ?_
    rw [sl_ho (by omega) (by omega)]
    have KK : ∀ z0 : Int32, wY_locked_17 (fun r_10 => (wpY_waiting (fun r_28 => (((r_28 = 1 → (wY_after_357 post (nI t) (nI (sl_f n (7 + t))) r_10 0 y_steps y_count y_known y_different (fun j => nI (o j)) (fun j => nI (g j)) (fun j => nI (l j)) y_path y_list y_next y_table y_far y_found y_who y_what y_before y_tried)) ∧ (¬ r_28 = 1 → (wY_after_357 post (nI t) (nI (sl_f n (7 + t))) r_10 1 y_steps y_count y_known y_different (fun j => nI (o j)) (fun j => nI (g j)) (fun j => nI (l j)) y_path y_list y_next y_table y_far y_found y_who y_what y_before y_tried))))) r_10 (nI t))) (lN (sl_yc l n)) (nI t) (nI 11) (nI (g (sl_ix n t))) z0 y_steps y_count y_known y_different (fun j => nI (o j)) (fun j => nI (g j)) (fun j => nI (l j)) y_path y_list y_next y_table y_far y_found y_who y_what y_before y_tried := by
      intro z0
      unfold wY_locked_17
      refine br_f (by decide) (br_f (by decide) ?_)
      unfold wY_locked_103
      refine br_f (by decide) ⟨4, ?_⟩
      refine sl_ynt (j := 0) P S (by decide) (by omega) (sl_YR0 n) (fun m1 H1 => sl_ynt (j := 1) P S (by decide) (by omega) H1 (fun m2 H2 => sl_ynt (j := 2) P S (by decide) (by omega) H2 (fun m3 H3 => br_t (by decide) ?_)))
      refine sl_ywt H3.1 ht ?_
      rw [H3.2.2 (12 + t) (by omega) (by omega), sl_nt_f 3 (by decide) _ (by omega), if_neg (by omega), wz]
      refine br_f (by decide) ?_
      unfold wY_after_357
      refine F1 _ _ H3 (by omega) (by omega) ?_ (fun k hk h4 => sl_fr_n ht hk e wz)
      rw [na, sl_nt_f 3 (by decide) _ (by omega), if_neg (by omega)]
    exact pk_eq (sl_f n (10 + g (sl_ix n t))) (t + 1) (fun z => KK 1) (fun z => KK 0) rfl (nI_1 t)
theorem sl_yaft {post : Int64 → Prop} {n t : Nat} (P : sl_PV o g l) (S : sl_SV o l n) (ht : t < 3) (R : sl_rdy o g l n t = true) (K : post (lN (sl_yc l (sl_aft o g l n t)))) : wpY_after post (y_steps, y_count, y_known, y_different, (fun j => nI (o j)), (fun j => nI (g j)), (fun j => nI (l j)), y_path, y_list, y_next, y_table, y_far, y_found, y_who, y_what, y_before, y_tried) (lN (sl_yc l n)) (nI t) := by
  have hm := sl_yc_lt (l := l) n
  have hp := (sl_rdy_iff.mp R).1
  have hi := sl_ix_lt P ht hp
  have G := sl_pv P ht hp
  have G1 := G.1
  unfold wpY_after
  refine sl_ypl hm ht ?_
  rw [sl_hp ht, if_pos hp]
  have ei : 5 * nI t + nI (sl_f n (7 + t)) = nI (sl_ix n t) := sl_e' t _
  rw [ei]
  refine ⟨vp_in_nI hi (by decide), nm_r (e' := nI (o (sl_ix n t))) (sl_cl hi) ⟨vp_in_nI hi (by decide), nm_r (e' := nI (g (sl_ix n t))) (sl_cl hi) (sl_yacc hm ht ?_)⟩⟩
  rw [sl_ho (by omega) (by omega)]
  refine pk_le 4 (o (sl_ix n t)) (fun z => ?_) (fun z => ?_)
  · exact sl_y56 (va := 0) P S ht R rfl (fun y => by omega) K
  · have ga := G.2.2.1 z
    refine sl_yvar hm (by omega) ?_
    rw [sl_ho (by omega) (by omega)]
    exact sl_y56 P S ht R rfl (fun _ => rfl) K
end
end
section
/-! all states, level by level: pair j is thread j % 3 of state j / 3 -/
def sl_un (f : Nat → Nat) (k x : Nat) : Nat → Nat := fun j => if j = k then x else f j
theorem sl_un_s {f : Nat → Nat} {k x : Nat} : sl_un f k x k = x := if_pos rfl
theorem sl_un_n {f : Nat → Nat} {k x j : Nat} (h : j ≠ k) : sl_un f k x j = f j := if_neg h
def sl_has (st : Nat → Nat) : Nat → Nat → Bool
  | 0, _ => false
  | n + 1, s => sl_has st n s || decide (st n = s)
theorem sl_has_iff {st : Nat → Nat} {s : Nat} : ∀ {n : Nat}, sl_has st n s = true ↔ ∃ i, i < n ∧ st i = s
  | 0 => ⟨fun h => absurd h (by unfold sl_has; decide), fun ⟨i, hi, _⟩ => absurd hi (Nat.not_lt_zero i)⟩
  | n + 1 => by
    unfold sl_has
    rw [Bool.or_eq_true, sl_has_iff, decide_eq_true_iff]
    constructor
    · rintro (⟨i, hi, e⟩ | e)
      · exact ⟨i, by omega, e⟩
      · exact ⟨n, by omega, e⟩
    · rintro ⟨i, hi, e⟩
      by_cases h : i = n
      · subst h; exact Or.inr e
      · exact Or.inl ⟨i, by omega, e⟩
section
variable (o g l : Nat → Nat) (s0 : Nat)
def sl_T : Nat → Nat × (Nat → Nat) × (Nat → Nat)
  | 0 => (1, fun _ => s0, fun _ => 0)
  | j + 1 => if (sl_T j).1 ≤ j / 3 then sl_T j else if sl_rdy o g l ((sl_T j).2.1 (j / 3)) (j % 3) = false then sl_T j else if sl_has (sl_T j).2.1 (sl_T j).1 (sl_aft o g l ((sl_T j).2.1 (j / 3)) (j % 3)) = true then sl_T j
    else ((sl_T j).1 + 1, sl_un (sl_T j).2.1 (sl_T j).1 (sl_aft o g l ((sl_T j).2.1 (j / 3)) (j % 3)), sl_un (sl_T j).2.2 (sl_T j).1 j)
def sl_c (j : Nat) : Nat := (sl_T o g l s0 j).1
def sl_st (j : Nat) : Nat → Nat := (sl_T o g l s0 j).2.1
def sl_ky (j : Nat) : Nat → Nat := (sl_T o g l s0 j).2.2
end
section
variable {o g l : Nat → Nat} {s0 : Nat}
theorem sl_T_stay {j : Nat} (h : sl_c o g l s0 j ≤ j / 3 ∨ sl_rdy o g l (sl_st o g l s0 j (j / 3)) (j % 3) = false ∨ (∃ i, i < sl_c o g l s0 j ∧ sl_st o g l s0 j i = sl_aft o g l (sl_st o g l s0 j (j / 3)) (j % 3))) : sl_T o g l s0 (j + 1) = sl_T o g l s0 j := by
  show (if (sl_T o g l s0 j).1 ≤ j / 3 then _ else _) = _
  by_cases h1 : (sl_T o g l s0 j).1 ≤ j / 3
  · rw [if_pos h1]
  rw [if_neg h1]
  by_cases h2 : sl_rdy o g l ((sl_T o g l s0 j).2.1 (j / 3)) (j % 3) = false
  · rw [if_pos h2]
  rw [if_neg h2, if_pos]
  rcases h with h | h | h
  · exact absurd h h1
  · exact absurd h h2
  · exact sl_has_iff.mpr h
theorem sl_T_new {j : Nat} (h1 : j / 3 < sl_c o g l s0 j) (h2 : sl_rdy o g l (sl_st o g l s0 j (j / 3)) (j % 3) = true) (h3 : ∀ i, i < sl_c o g l s0 j → sl_st o g l s0 j i ≠ sl_aft o g l (sl_st o g l s0 j (j / 3)) (j % 3)) :
    sl_T o g l s0 (j + 1) = (sl_c o g l s0 j + 1, sl_un (sl_st o g l s0 j) (sl_c o g l s0 j) (sl_aft o g l (sl_st o g l s0 j (j / 3)) (j % 3)), sl_un (sl_ky o g l s0 j) (sl_c o g l s0 j) j) := by
  show (if (sl_T o g l s0 j).1 ≤ j / 3 then _ else _) = _
  rw [if_neg (show ¬ (sl_T o g l s0 j).1 ≤ j / 3 from Nat.not_le.mpr h1), if_neg (show ¬ sl_rdy o g l ((sl_T o g l s0 j).2.1 (j / 3)) (j % 3) = false by rw [show sl_rdy o g l ((sl_T o g l s0 j).2.1 (j / 3)) (j % 3) = true from h2]; decide), if_neg]
  · rfl
  · intro z
    obtain ⟨i, hi, e⟩ := sl_has_iff.mp z
    exact h3 i hi e
theorem sl_cases (j : Nat) : (sl_T o g l s0 (j + 1) = sl_T o g l s0 j ∧ (sl_c o g l s0 j ≤ j / 3 ∨ sl_rdy o g l (sl_st o g l s0 j (j / 3)) (j % 3) = false ∨ (∃ i, i < sl_c o g l s0 j ∧ sl_st o g l s0 j i = sl_aft o g l (sl_st o g l s0 j (j / 3)) (j % 3)))) ∨
    (j / 3 < sl_c o g l s0 j ∧ sl_rdy o g l (sl_st o g l s0 j (j / 3)) (j % 3) = true ∧ (∀ i, i < sl_c o g l s0 j → sl_st o g l s0 j i ≠ sl_aft o g l (sl_st o g l s0 j (j / 3)) (j % 3)) ∧ sl_c o g l s0 (j + 1) = sl_c o g l s0 j + 1 ∧ sl_st o g l s0 (j + 1) = sl_un (sl_st o g l s0 j) (sl_c o g l s0 j) (sl_aft o g l (sl_st o g l s0 j (j / 3)) (j % 3)) ∧ sl_ky o g l s0 (j + 1) = sl_un (sl_ky o g l s0 j) (sl_c o g l s0 j) j) := by
  by_cases h1 : sl_c o g l s0 j ≤ j / 3
  · exact Or.inl ⟨sl_T_stay (Or.inl h1), Or.inl h1⟩
  cases h2 : sl_rdy o g l (sl_st o g l s0 j (j / 3)) (j % 3) with
  | false => exact Or.inl ⟨sl_T_stay (Or.inr (Or.inl h2)), Or.inr (Or.inl rfl)⟩
  | true =>
    by_cases h3 : ∃ i, i < sl_c o g l s0 j ∧ sl_st o g l s0 j i = sl_aft o g l (sl_st o g l s0 j (j / 3)) (j % 3)
    · exact Or.inl ⟨sl_T_stay (Or.inr (Or.inr h3)), Or.inr (Or.inr h3)⟩
    · have h4 : ∀ i, i < sl_c o g l s0 j → sl_st o g l s0 j i ≠ sl_aft o g l (sl_st o g l s0 j (j / 3)) (j % 3) := fun i hi e => h3 ⟨i, hi, e⟩
      have e := sl_T_new (by omega) h2 h4
      exact Or.inr ⟨by omega, rfl, h4, congrArg (fun z => z.1) e, congrArg (fun z => z.2.1) e, congrArg (fun z => z.2.2) e⟩
theorem sl_T_c {a b : Nat} (h : sl_T o g l s0 a = sl_T o g l s0 b) : sl_c o g l s0 a = sl_c o g l s0 b ∧ sl_st o g l s0 a = sl_st o g l s0 b ∧ sl_ky o g l s0 a = sl_ky o g l s0 b := ⟨congrArg (fun z => z.1) h, congrArg (fun z => z.2.1) h, congrArg (fun z => z.2.2) h⟩
theorem sl_c_mono1 (j : Nat) : sl_c o g l s0 j ≤ sl_c o g l s0 (j + 1) := by
  rcases sl_cases (o := o) (g := g) (l := l) (s0 := s0) j with h | h
  · rw [(sl_T_c h.1).1]; exact Nat.le_refl _
  · rw [h.2.2.2.1]; omega
theorem sl_c_mono {a b : Nat} (h : a ≤ b) : sl_c o g l s0 a ≤ sl_c o g l s0 b := by
  induction b with
  | zero =>
    have : a = 0 := by omega
    subst this
    exact Nat.le_refl _
  | succ b ih =>
    by_cases e : a = b + 1
    · subst e; exact Nat.le_refl _
    · exact Nat.le_trans (ih (by omega)) (sl_c_mono1 b)
theorem sl_st_pre {a b i : Nat} (h : a ≤ b) (hi : i < sl_c o g l s0 a) : sl_st o g l s0 b i = sl_st o g l s0 a i := by
  induction b with
  | zero =>
    have : a = 0 := by omega
    subst this
    rfl
  | succ b ih =>
    by_cases e : a = b + 1
    · subst e; rfl
    · have hm := sl_c_mono (o := o) (g := g) (l := l) (s0 := s0) (show a ≤ b by omega)
      rw [← ih (by omega)]
      rcases sl_cases (o := o) (g := g) (l := l) (s0 := s0) b with q | q
      · rw [(sl_T_c q.1).2.1]
      · rw [q.2.2.2.2.1, sl_un_n (by omega)]
/-- what holds of the states found so far -/
def sl_TI (o g l : Nat → Nat) (s0 c j : Nat) (st ky : Nat → Nat) : Prop :=
  1 ≤ c ∧ st 0 = s0 ∧ (∀ i, i < c → sl_SV o l (st i)) ∧ (∀ i i', i < i' → i' < c → st i ≠ st i') ∧
  (∀ i, 0 < i → i < c → ky i < j ∧ ky i / 3 < i ∧ sl_rdy o g l (st (ky i / 3)) (ky i % 3) = true ∧ st i = sl_aft o g l (st (ky i / 3)) (ky i % 3)) ∧
  (∀ i i', 0 < i → i < i' → i' < c → ky i < ky i') ∧
  (∀ e, e < j → e / 3 < c → sl_rdy o g l (st (e / 3)) (e % 3) = true → ∃ i, i < c ∧ st i = sl_aft o g l (st (e / 3)) (e % 3) ∧ (i = 0 ∨ ky i ≤ e))
theorem sl_inv (P : sl_PV o g l) (S : sl_SV o l s0) (j : Nat) : sl_TI o g l s0 (sl_c o g l s0 j) j (sl_st o g l s0 j) (sl_ky o g l s0 j) := by
  induction j with
  | zero =>
    refine ⟨Nat.le_refl _, rfl, fun i hi => S, fun i i' h h' => ?_, fun i h h' => ?_, fun i i' h h' h'' => ?_, fun e h => absurd h (Nat.not_lt_zero e)⟩
    · have : i' < 1 := h'
      omega
    · have : i < 1 := h'
      omega
    · have : i' < 1 := h''
      omega
  | succ j ih =>
    obtain ⟨i1, i2, i3, i4, i5, i6, i7⟩ := ih
    rcases sl_cases (o := o) (g := g) (l := l) (s0 := s0) j with ⟨q, r⟩ | ⟨q1, q2, q3, q4, q5, q6⟩
    · obtain ⟨e1, e2, e3⟩ := sl_T_c q
      rw [e1, e2, e3]
      refine ⟨i1, i2, i3, i4, fun i h h' => ⟨by have := (i5 i h h').1; omega, (i5 i h h').2⟩, i6, fun e he hc R => ?_⟩
      by_cases z : e = j
      · subst z
        rcases r with r | r | ⟨i, hi, ei⟩
        · omega
        · rw [R] at r; exact absurd r (by decide)
        · refine ⟨i, hi, ei, ?_⟩
          by_cases z0 : i = 0
          · exact Or.inl z0
          · exact Or.inr (by have := (i5 i (by omega) hi).1; omega)
      · exact i7 e (by omega) hc R
    · rw [q4, q5, q6]
      generalize hc : sl_c o g l s0 j = c at *
      generalize hs : sl_st o g l s0 j = st at *
      generalize hk : sl_ky o g l s0 j = ky at *
      generalize ha : sl_aft o g l (st (j / 3)) (j % 3) = s at *
      have n1 : ∀ i, i < c → sl_un st c s i = st i := fun i hi => sl_un_n (by omega)
      have n2 : ∀ i, i < c → sl_un ky c j i = ky i := fun i hi => sl_un_n (by omega)
      refine ⟨by omega, by rw [n1 0 (by omega)]; exact i2, fun i hi => ?_, fun i i' h h' => ?_, fun i h h' => ?_, fun i i' h h' h'' => ?_, fun e he hc' R => ?_⟩
      · by_cases z : i = c
        · subst z
          rw [sl_un_s, ← ha]
          exact sl_SV_aft P (i3 _ q1) (Nat.mod_lt _ (by decide)) q2
        · rw [n1 i (by omega)]; exact i3 i (by omega)
      · rw [n1 i (by omega)]
        by_cases z : i' = c
        · subst z; rw [sl_un_s]; exact q3 i h
        · rw [n1 i' (by omega)]; exact i4 i i' h (by omega)
      · by_cases z : i = c
        · subst z
          rw [sl_un_s, sl_un_s, n1 _ q1, ha]
          exact ⟨by omega, q1, q2, rfl⟩
        · have r := i5 i h (by omega)
          rw [n2 i (by omega), n1 i (by omega), n1 _ (by omega)]
          exact ⟨by omega, r.2.1, r.2.2⟩
      · rw [n2 i (by omega)]
        by_cases z : i' = c
        · subst z; rw [sl_un_s]; exact (i5 i h h').1
        · rw [n2 i' (by omega)]; exact i6 i i' h h' (by omega)
      · have ec : e / 3 < c := by
          have : e / 3 ≤ j / 3 := Nat.div_le_div_right (by omega)
          omega
        rw [n1 _ ec] at R ⊢
        by_cases z : e = j
        · subst z
          exact ⟨c, by omega, by rw [sl_un_s, ha], Or.inr (by rw [sl_un_s]; exact Nat.le_refl _)⟩
        · obtain ⟨i, hi, ei, ki⟩ := i7 e (by omega) ec R
          refine ⟨i, by omega, by rw [n1 i hi]; exact ei, ?_⟩
          rw [n2 i hi]
          exact ki
theorem sl_T_end {J : Nat} (h : sl_c o g l s0 J ≤ J / 3) : ∀ d, sl_T o g l s0 (J + d) = sl_T o g l s0 J
  | 0 => rfl
  | d + 1 => by
    have ih := sl_T_end h d
    have : sl_T o g l s0 (J + d + 1) = sl_T o g l s0 (J + d) := sl_T_stay (Or.inl (by
      rw [(sl_T_c ih).1]
      exact Nat.le_trans h (Nat.div_le_div_right (by omega))))
    rw [← ih]
    exact this
/-- two ends are one -/
theorem sl_fin_u {K K' : Nat} (h : sl_c o g l s0 (3 * K) = K) (h' : sl_c o g l s0 (3 * K') = K') : K = K' := by
  rcases Nat.lt_trichotomy K K' with z | z | z
  · have e := sl_T_end (o := o) (g := g) (l := l) (s0 := s0) (J := 3 * K) (by omega) (3 * K' - 3 * K)
    have := (sl_T_c e).1
    rw [show 3 * K + (3 * K' - 3 * K) = 3 * K' by omega] at this
    omega
  · exact z
  · have e := sl_T_end (o := o) (g := g) (l := l) (s0 := s0) (J := 3 * K') (by omega) (3 * K - 3 * K')
    have := (sl_T_c e).1
    rw [show 3 * K' + (3 * K - 3 * K') = 3 * K by omega] at this
    omega
theorem sl_fin_m {K j : Nat} (h : sl_c o g l s0 (3 * K) = K) : sl_c o g l s0 j ≤ K := by
  rcases Nat.le_total j (3 * K) with z | z
  · have := sl_c_mono (o := o) (g := g) (l := l) (s0 := s0) z
    omega
  · have e := sl_T_end (o := o) (g := g) (l := l) (s0 := s0) (J := 3 * K) (by omega) (j - 3 * K)
    have := (sl_T_c e).1
    rw [show 3 * K + (j - 3 * K) = j by omega] at this
    omega
end
/-! tables by hash -/
def sl_cz (b : Nat → Nat) : Nat → Nat
  | 0 => 0
  | n + 1 => sl_cz b n + (if b n = 0 then 0 else 1)
theorem sl_cz_z {b : Nat → Nat} : ∀ {n : Nat}, sl_cz b n < n → ∃ h, h < n ∧ b h = 0
  | 0, h => absurd h (Nat.not_lt_zero _)
  | n + 1, h => by
    unfold sl_cz at h
    by_cases z : b n = 0
    · exact ⟨n, by omega, z⟩
    · rw [if_neg z] at h
      obtain ⟨k, hk, e⟩ := sl_cz_z (b := b) (n := n) (by omega)
      exact ⟨k, by omega, e⟩
theorem sl_cz_c {b b' : Nat → Nat} : ∀ {n : Nat}, (∀ h, h < n → b' h = b h) → sl_cz b' n = sl_cz b n
  | 0, _ => rfl
  | n + 1, h => by
    unfold sl_cz
    rw [sl_cz_c (n := n) (fun k hk => h k (by omega)), h n (by omega)]
theorem sl_cz_u {b : Nat → Nat} {k v : Nat} (hb : b k = 0) (hv : v ≠ 0) : ∀ {n : Nat}, k < n → sl_cz (sl_un b k v) n = sl_cz b n + 1
  | 0, h => absurd h (Nat.not_lt_zero _)
  | n + 1, h => by
    unfold sl_cz
    by_cases z : k = n
    · subst z
      rw [sl_cz_c (n := k) (fun q hq => sl_un_n (by omega)), sl_un_s, if_neg hv, if_pos hb]
    · rw [sl_cz_u hb hv (n := n) (by omega), sl_un_n (by omega)]
      omega
def sl_TB (b hs : Nat → Nat) (N : Nat) : Prop := (∀ h, h < 4096 → b h ≤ N) ∧ (∀ i, i < N → ∃ d, b ((hs i + d) % 4096) = i + 1 ∧ ∀ e, e < d → b ((hs i + e) % 4096) ≠ 0) ∧ sl_cz b 4096 = N
theorem sl_TB0 (hs : Nat → Nat) {b : Nat → Nat} (h : ∀ k, k < 4096 → b k = 0) : sl_TB b hs 0 := by
  refine ⟨fun k hk => by rw [h k hk]; exact Nat.le_refl _, fun i hi => absurd hi (Nat.not_lt_zero i), ?_⟩
  have : ∀ n, n ≤ 4096 → sl_cz b n = 0 := by
    intro n
    induction n with
    | zero => intro _; rfl
    | succ n ih =>
      intro hn
      unfold sl_cz
      rw [ih (by omega), if_pos (h n (by omega))]
  exact this 4096 (Nat.le_refl _)
theorem sl_probe {b hs : Nat → Nat} {N : Nat} (T : sl_TB b hs N) (hN : N < 4096) {h0 : Nat} (hh : h0 < 4096) : ∃ D, b ((h0 + D) % 4096) = 0 ∧ ∀ e, e < D → b ((h0 + e) % 4096) ≠ 0 := by
  obtain ⟨h, h1, h2⟩ := sl_cz_z (b := b) (n := 4096) (by rw [T.2.2]; exact hN)
  have : (h0 + (h + 4096 - h0)) % 4096 = h := by
    rw [show h0 + (h + 4096 - h0) = h + 4096 by omega, Nat.add_mod_right, Nat.mod_eq_of_lt h1]
  exact pk_least (fun D => b ((h0 + D) % 4096) = 0) ⟨h + 4096 - h0, by rw [this]; exact h2⟩
theorem sl_TB_out {b hs : Nat → Nat} {N h0 D : Nat} {sv : Nat → Int64} {x : Int64} {H : Int64 → Nat} (T : sl_TB b hs N) (hH : ∀ i, i < N → hs i = H (sv i)) (h0e : h0 = H x) (z : b ((h0 + D) % 4096) = 0) (nm : ∀ e, e < D → sv (b ((h0 + e) % 4096) - 1) ≠ x) : ∀ i, i < N → sv i ≠ x := by
  intro i hi e
  obtain ⟨d, d1, d2⟩ := T.2.1 i hi
  have he : hs i = h0 := by rw [hH i hi, e, h0e]
  rw [he] at d1 d2
  have : d < D := by
    rcases Nat.lt_or_ge d D with q | q
    · exact q
    · by_cases qq : d = D
      · subst qq; omega
      · exact absurd z (d2 D (by omega))
  apply nm d this
  rw [d1, Nat.add_sub_cancel]
  exact e
theorem sl_TB_new {b hs hs' : Nat → Nat} {N h0 D : Nat} (T : sl_TB b hs N) (z : b ((h0 + D) % 4096) = 0) (nz : ∀ e, e < D → b ((h0 + e) % 4096) ≠ 0) (h1 : ∀ i, i < N → hs' i = hs i) (h2 : hs' N = h0) : sl_TB (sl_un b ((h0 + D) % 4096) (N + 1)) hs' (N + 1) := by
  have up : ∀ k, b k ≠ 0 → sl_un b ((h0 + D) % 4096) (N + 1) k = b k := fun k hk => sl_un_n (fun e => hk (by rw [e]; exact z))
  refine ⟨fun h hh => ?_, fun i hi => ?_, ?_⟩
  · by_cases e : h = (h0 + D) % 4096
    · rw [e, sl_un_s]; exact Nat.le_refl _
    · rw [sl_un_n e]; have := T.1 h hh; omega
  · by_cases e : i = N
    · subst e
      rw [h2]
      exact ⟨D, sl_un_s, fun e he => by rw [up _ (nz e he)]; exact nz e he⟩
    · obtain ⟨d, d1, d2⟩ := T.2.1 i (by omega)
      rw [h1 i (by omega)]
      exact ⟨d, by rw [up _ (by omega)]; exact d1, fun e he => by rw [up _ (d2 e he)]; exact d2 e he⟩
  · rw [sl_cz_u z (by omega) (Nat.mod_lt _ (by decide)), T.2.2]
end
section
/-! the two tables -/
def sl_hs (x : Int64) : Nat := (x * (-7046029254386353131)).toBitVec.toNat / 2 ^ 52
theorem sl_hs_lt (x : Int64) : sl_hs x < 4096 := by
  have h := (x * (-7046029254386353131)).toBitVec.isLt
  unfold sl_hs
  omega
theorem sl_hsv (x : Int64) : (((x * (-7046029254386353131)).toUInt64 >>> ((52 : Int32).toInt64.toUInt64 &&& Int64.toUInt64 63)).toInt64).toInt32 = nI (sl_hs x) := by
  unfold sl_hs
  generalize x * (-7046029254386353131) = y
  obtain ⟨m, hm, rfl⟩ := wb_of y
  have e := wb_shr (n := m) (k := 52) hm (by decide)
  rw [show (52 : Int32) = nI 52 from rfl, e, lN_i, wb_tn hm]
theorem sl_sh {n : Nat} (h : n < 32768) : vp_nar .short (nI n).toInt16.toInt32 = nI n := by
  rw [pk_vs, lg_i2s_small (by rw [nI_toInt (by omega)]; omega) (by rw [nI_toInt (by omega)]; omega)]
theorem sl_by8 {n : Nat} (h : n < 128) : vp_nar .byte (nI n).toInt8.toInt32 = nI n := by
  rw [pk_vb, lg_i2b_small (by rw [nI_toInt (by omega)]; omega) (by rw [nI_toInt (by omega)]; omega)]
theorem sl_nxt (h0 e : Nat) : (nI ((h0 + e) % 4096) + 1) &&& 4095 = nI ((h0 + (e + 1)) % 4096) := by
  rw [nI_1, pk_andN (by omega) 12 (by decide)]
  congr 1
  omega
theorem sl_m0 {a : Nat} (h : a < 4096) : (a + 0) % 4096 = a := by omega
section
variable {f_states : Int32} {f_known : Int32} {f_many : Int32} {f_endings : Int32} {f_races : Int32} {f_kinds : Int32} {f_counted : Int32} {f_present : Int64} {f_taken : Int32} {a_op : Nat → Int32} {a_arg : Nat → Int32} {a_length : Nat → Int32} {a_state : Nat → Int64} {a_from : Nat → Int32} {a_by : Nat → Int32} {a_bucket : Nat → Int32} {a_ending : Nat → Int64} {a_first : Nat → Int32} {a_way : Nat → Int64} {a_asleep : Nat → Int32} {a_gone : Nat → Int32} {a_past : Nat → Int64}
theorem sl_xfind {post : Int32 → SX → Prop} {N : Nat} {b : Nat → Nat} {x : Int64} {sv : Nat → Int64} {p th : Int32} (hN : N ≤ 1200) (T : sl_TB b (fun i => sl_hs (sv i)) N) (hb : ∀ h, h < 4096 → a_bucket h = nI (b h)) (hs : ∀ i, i < N → a_state i = sv i)
    (h1 : ∀ i, i < N → sv i = x → post 1 ((nI N), f_known, f_many, f_endings, f_races, f_kinds, f_counted, f_present, f_taken, a_op, a_arg, a_length, a_state, a_from, a_by, a_bucket, a_ending, a_first, a_way, a_asleep, a_gone, a_past))
    (h2 : (∀ i, i < N → sv i ≠ x) → N = 1200 → post 0 ((nI N), f_known, f_many, f_endings, f_races, f_kinds, f_counted, f_present, f_taken, a_op, a_arg, a_length, a_state, a_from, a_by, a_bucket, a_ending, a_first, a_way, a_asleep, a_gone, a_past))
    (h3 : (∀ i, i < N → sv i ≠ x) → N < 1200 → ∀ (b' : Nat → Nat) (bk : Nat → Int32), sl_TB b' (fun i => sl_hs (if i = N then x else sv i)) (N + 1) → (∀ h, h < 4096 → bk h = nI (b' h)) → post 1 ((nI (N + 1)), f_known, f_many, f_endings, f_races, f_kinds, f_counted, f_present, f_taken, a_op, a_arg, a_length, (vp_updL a_state N x), (upd a_from N (vp_nar .short p.toInt16.toInt32)), (upd a_by N (vp_nar .byte th.toInt8.toInt32)), bk, a_ending, a_first, a_way, a_asleep, a_gone, a_past)) :
    wpX_find post ((nI N), f_known, f_many, f_endings, f_races, f_kinds, f_counted, f_present, f_taken, a_op, a_arg, a_length, a_state, a_from, a_by, a_bucket, a_ending, a_first, a_way, a_asleep, a_gone, a_past) x p th := by
  obtain ⟨D, z, nz⟩ := sl_probe T (by omega) (sl_hs_lt x)
  have key : ∀ k e, e + k = D → (∀ e', e' < e → sv (b ((sl_hs x + e') % 4096) - 1) ≠ x) → wX_find_6 post x p th (nI N) f_known f_many f_endings f_races f_kinds f_counted f_present f_taken a_op a_arg a_length a_state a_from a_by a_bucket a_ending a_first a_way a_asleep a_gone a_past (k + 1) (nI ((sl_hs x + e) % 4096)) := by
    intro k
    induction k with
    | zero =>
      intro e he nm
      have e' : e = D := by omega
      subst e'
      have hl : (sl_hs x + e) % 4096 < 4096 := Nat.mod_lt _ (by decide)
      have vi : vp_in (nI ((sl_hs x + e) % 4096)) 4096 := vp_in_nI hl (by decide)
      have cl : (nI ((sl_hs x + e) % 4096)).toNatClampNeg = (sl_hs x + e) % 4096 := nI_clamp (by omega)
      have out := sl_TB_out (H := sl_hs) T (fun i _ => rfl) rfl z nm
      have vN : vp_in (nI N) 1201 := vp_in_nI (by omega) (by decide)
      have cN : (nI N).toNatClampNeg = N := nI_clamp (by omega)
      refine ⟨vi, br_t (by rw [cl, hb _ hl, z]; decide) ?_⟩
      refine pk_eq N 1200 (fun q => h2 out q) (fun q => ?_)
      refine ⟨vN, nm_e ⟨vN, nm_e ⟨vN, nm_e (nm_r (nI_1 N) ⟨vi, nm_e ?_⟩)⟩⟩⟩
      rw [cN, cl]
      refine h3 out (by omega) (sl_un b ((sl_hs x + e) % 4096) (N + 1)) _ (sl_TB_new T z nz (fun i hi => by rw [if_neg (by omega)]) (by rw [if_pos rfl])) (fun h hh => ?_)
      by_cases q : h = (sl_hs x + e) % 4096
      · rw [q, pk_us, sl_un_s, sl_sh (by omega)]
      · rw [pk_un q, sl_un_n q, hb h hh]
    | succ k ih =>
      intro e he nm
      have hl : (sl_hs x + e) % 4096 < 4096 := Nat.mod_lt _ (by decide)
      have vi : vp_in (nI ((sl_hs x + e) % 4096)) 4096 := vp_in_nI hl (by decide)
      have cl : (nI ((sl_hs x + e) % 4096)).toNatClampNeg = (sl_hs x + e) % 4096 := nI_clamp (by omega)
      have nb := nz e (by omega)
      have lb := T.1 _ hl
      have eb : a_bucket (nI ((sl_hs x + e) % 4096)).toNatClampNeg = nI (b ((sl_hs x + e) % 4096)) := by rw [cl, hb _ hl]
      have es : nI (b ((sl_hs x + e) % 4096)) - 1 = nI (b ((sl_hs x + e) % 4096) - 1) := pk_sub (b := 1) (by omega)
      have est : a_state (nI (b ((sl_hs x + e) % 4096) - 1)).toNatClampNeg = sv (b ((sl_hs x + e) % 4096) - 1) := by rw [nI_clamp (by omega), hs _ (by omega)]
      refine ⟨vi, ?_⟩
      rw [eb, es, est]
      refine br_f (nI_nle (by omega) (by omega)) ⟨vi, vp_in_nI (by omega) (by decide), ?_⟩
      refine br_c (fun q => h1 _ (by omega) q) (fun q => nm_r (sl_nxt _ _) (ih (e + 1) (by omega) (fun e' h' => ?_)))
      by_cases y : e' = e
      · subst y; exact q
      · exact nm e' (by omega)
  unfold wpX_find
  show wpX_hash _ _
  unfold wpX_hash
  refine nm_e ⟨D + 1, ?_⟩
  rw [sl_hsv x]
  have := key D 0 (by omega) (fun e' h => absurd h (Nat.not_lt_zero e'))
  rw [sl_m0 (sl_hs_lt x)] at this
  exact this
end
section
variable {y_steps : Int32} {y_count : Int32} {y_known : Int32} {y_different : Int32} {y_ops : Nat → Int32} {y_args : Nat → Int32} {y_length : Nat → Int32} {y_path : Nat → Int64} {y_list : Nat → Int64} {y_next : Nat → Int32} {y_table : Nat → Int32} {y_far : Nat → Int32} {y_found : Nat → Int32} {y_who : Nat → Int32} {y_what : Nat → Int32} {y_before : Nat → Int64} {y_tried : Nat → Int32}
theorem sl_ynum {post : Int32 → SY → Prop} {N : Nat} {b : Nat → Nat} {x : Int64} {sv : Nat → Int64} (hN : N ≤ 1200) (T : sl_TB b (fun i => sl_hs (sv i)) N) (hb : ∀ h, h < 4096 → y_table h = nI (b h)) (hs : ∀ i, i < N → y_list i = sv i)
    (h1 : ∀ i, i < N → sv i = x → post (nI i) (y_steps, (nI N), y_known, y_different, y_ops, y_args, y_length, y_path, y_list, y_next, y_table, y_far, y_found, y_who, y_what, y_before, y_tried))
    (h3 : (∀ i, i < N → sv i ≠ x) → ∀ (b' : Nat → Nat) (bk : Nat → Int32), sl_TB b' (fun i => sl_hs (if i = N then x else sv i)) (N + 1) → (∀ h, h < 4096 → bk h = nI (b' h)) → post (nI N) (y_steps, (nI (N + 1)), y_known, y_different, y_ops, y_args, y_length, y_path, (vp_updL y_list N x), y_next, bk, y_far, y_found, y_who, y_what, y_before, y_tried)) :
    wpY_number post (y_steps, (nI N), y_known, y_different, y_ops, y_args, y_length, y_path, y_list, y_next, y_table, y_far, y_found, y_who, y_what, y_before, y_tried) x := by
  obtain ⟨D, z, nz⟩ := sl_probe T (by omega) (sl_hs_lt x)
  have key : ∀ k e, e + k = D → (∀ e', e' < e → sv (b ((sl_hs x + e') % 4096) - 1) ≠ x) → wY_number_10 post x y_steps (nI N) y_known y_different y_ops y_args y_length y_path y_list y_next y_table y_far y_found y_who y_what y_before y_tried (k + 1) (nI ((sl_hs x + e) % 4096)) := by
    intro k
    induction k with
    | zero =>
      intro e he nm
      have e' : e = D := by omega
      subst e'
      have hl : (sl_hs x + e) % 4096 < 4096 := Nat.mod_lt _ (by decide)
      have vi : vp_in (nI ((sl_hs x + e) % 4096)) 4096 := vp_in_nI hl (by decide)
      have cl : (nI ((sl_hs x + e) % 4096)).toNatClampNeg = (sl_hs x + e) % 4096 := nI_clamp (by omega)
      have out := sl_TB_out (H := sl_hs) T (fun i _ => rfl) rfl z nm
      have vN : vp_in (nI N) 1201 := vp_in_nI (by omega) (by decide)
      have cN : (nI N).toNatClampNeg = N := nI_clamp (by omega)
      refine ⟨vi, br_t (by rw [cl, hb _ hl, z]; decide) ?_⟩
      unfold wY_number_48
      refine ⟨vi, br_t (by rw [cl, hb _ hl, z]; rfl) ⟨vN, nm_e (nm_r (nI_1 N) ⟨vi, nm_e ⟨vi, ?_⟩⟩)⟩⟩
      rw [cN, cl, pk_us, nI_1, show nI (N + 1) - 1 = nI N from nI_pred N]
      refine h3 out (sl_un b ((sl_hs x + e) % 4096) (N + 1)) _ (sl_TB_new T z nz (fun i hi => by rw [if_neg (by omega)]) (by rw [if_pos rfl])) (fun h hh => ?_)
      by_cases q : h = (sl_hs x + e) % 4096
      · rw [q, pk_us, sl_un_s]
      · rw [pk_un q, sl_un_n q, hb h hh]
    | succ k ih =>
      intro e he nm
      have hl : (sl_hs x + e) % 4096 < 4096 := Nat.mod_lt _ (by decide)
      have vi : vp_in (nI ((sl_hs x + e) % 4096)) 4096 := vp_in_nI hl (by decide)
      have cl : (nI ((sl_hs x + e) % 4096)).toNatClampNeg = (sl_hs x + e) % 4096 := nI_clamp (by omega)
      have nb := nz e (by omega)
      have lb := T.1 _ hl
      have eb : y_table (nI ((sl_hs x + e) % 4096)).toNatClampNeg = nI (b ((sl_hs x + e) % 4096)) := by rw [cl, hb _ hl]
      have es : nI (b ((sl_hs x + e) % 4096)) - 1 = nI (b ((sl_hs x + e) % 4096) - 1) := pk_sub (b := 1) (by omega)
      have est : y_list (nI (b ((sl_hs x + e) % 4096) - 1)).toNatClampNeg = sv (b ((sl_hs x + e) % 4096) - 1) := by rw [nI_clamp (by omega), hs _ (by omega)]
      refine ⟨vi, ?_⟩
      rw [eb, es, est]
      refine br_f (nI_nle (by omega) (by omega)) ⟨vi, vp_in_nI (by omega) (by decide), ?_⟩
      refine br_c (fun q => ?_) (fun q => nm_r (sl_nxt _ _) (ih (e + 1) (by omega) (fun e' h' => ?_)))
      · unfold wY_number_48
        rw [eb, es]
        exact ⟨vi, br_f (nI_ne0 (by omega) (by omega)) ⟨vi, h1 _ (by omega) q⟩⟩
      · by_cases y : e' = e
        · subst y; exact q
        · exact nm e' (by omega)
  unfold wpY_number
  refine nm_r (sl_hsv x) ⟨D + 1, ?_⟩
  have := key D 0 (by omega) (fun e' h => absurd h (Nat.not_lt_zero e'))
  rw [sl_m0 (sl_hs_lt x)] at this
  exact this
end
end
section
/-! what the component notes of a state -/
def sl_bd (n : Nat) : Bool := decide (sl_f n 15 ≠ 0)
def sl_dn (l : Nat → Nat) (n : Nat) : Bool := decide (¬ sl_f n 7 < l 0) && decide (¬ sl_f n 8 < l 1) && decide (¬ sl_f n 9 < l 2)
def sl_en (o g l : Nat → Nat) (n : Nat) : Bool := !sl_rdy o g l n 0 && !sl_rdy o g l n 1 && !sl_rdy o g l n 2
def sl_sgt (o g l : Nat → Nat) (w n : Nat) : Bool := if w = 0 then sl_bd n else if w = 1 then sl_en o g l n && !sl_dn l n else if w = 2 then sl_en o g l n && sl_dn l n else sl_en o g l n && sl_dn l n && !sl_bd n
def sl_ev (l : Nat → Nat) (n : Nat) : Nat := n % 4096 + (if sl_bd n = true then 4096 else 0) + (if sl_dn l n = true then 0 else 8192)
def sl_pr (o g l : Nat → Nat) (n t u : Nat) : Bool := decide (sl_f n (7 + t) < l t) && decide (sl_f n (7 + u) < l u) && decide (o (sl_ix n t) < 4) && sl_tch o g (sl_ix n t) (sl_ix n u)
def sl_rc (o g l : Nat → Nat) (n v : Nat) : Bool := sl_pr o g l n 0 1 && decide (v = g (sl_ix n 0)) || sl_pr o g l n 0 2 && decide (v = g (sl_ix n 0)) || sl_pr o g l n 1 2 && decide (v = g (sl_ix n 1))
def sl_mf (A : Nat → Int32) (w k : Nat) : Nat → Int32 := if A w = 0 then upd A w (nI (k + 1)) else A
def sl_eb (A : Nat → Int64) (e : Nat) : Bool := (A (e / 64)).toBitVec.getLsbD (e % 64)
def sl_LE (en : Bool) (e : Nat) (E0 : Int32) (A0 : Nat → Int64) (E : Int32) (A : Nat → Int64) : Prop := (en = false → E = E0 ∧ A = A0) ∧ (en = true → (∀ e', e' < 16384 → sl_eb A e' = (sl_eb A0 e' || decide (e' = e))) ∧ E = if sl_eb A0 e = true then E0 else E0 + 1)
theorem sl_ev_lt (l : Nat → Nat) (n : Nat) : sl_ev l n < 16384 := by
  unfold sl_ev
  have : n % 4096 < 4096 := Nat.mod_lt _ (by decide)
  split <;> split <;> omega
theorem sl_tb64 {w : Int64} {j : Nat} (hj : j < 64) : ((w >>> ((nI j).toInt64 &&& 63)) &&& 1) = 0 ↔ w.toBitVec.getLsbD j = false := by
  have e : (w >>> ((nI j).toInt64 &&& 63)).toBitVec = w.toBitVec.sshiftRight j := by
    rw [Int64.toBitVec_shiftRight]
    show w.toBitVec.sshiftRight (((nI j).toInt64 &&& 63).toBitVec.smod 64).toNat = _
    rw [sl_shD j hj]
  rw [← Int64.toBitVec_inj, Int64.toBitVec_and, e]
  show w.toBitVec.sshiftRight j &&& 1#64 = 0#64 ↔ _
  have b0 : (w.toBitVec.sshiftRight j).getLsbD 0 = w.toBitVec.getLsbD j := by
    rw [BitVec.getLsbD_sshiftRight]
    simp [hj]
  constructor
  · intro h
    have t := congrArg (fun x => x.getLsbD 0) h
    simp only [BitVec.getLsbD_and, b0] at t
    simpa using t
  · intro h
    apply BitVec.eq_of_getLsbD_eq
    intro i hi
    cases i with
    | zero => rw [BitVec.getLsbD_and, b0, h]; simp
    | succ i => simp
theorem sl_or64 {w : Int64} {j i : Nat} (hj : j < 64) (hi : i < 64) : (w ||| ((1 : Int64) <<< ((nI j).toInt64 &&& 63))).toBitVec.getLsbD i = (w.toBitVec.getLsbD i || decide (i = j)) := by
  have e : (1 : Int64) <<< ((nI j).toInt64 &&& 63) = lN (1 * 2 ^ j) := wb_shl 1 hj
  rw [e, Nat.one_mul, Int64.toBitVec_or, BitVec.getLsbD_or, sl_gl _ i hi, Nat.testBit_two_pow]
  congr 1
  by_cases h : i = j
  · rw [decide_eq_true h, decide_eq_true h.symm]
  · rw [decide_eq_false h, decide_eq_false (fun z => h z.symm)]
theorem sl_eb_u {A : Nat → Int64} {e e' : Nat} : sl_eb (vp_updL A (e / 64) (A (e / 64) ||| ((1 : Int64) <<< ((nI (e % 64)).toInt64 &&& 63)))) e' = (sl_eb A e' || decide (e' = e)) := by
  unfold sl_eb
  by_cases h : e' / 64 = e / 64
  · rw [h, pk_uLs, sl_or64 (Nat.mod_lt _ (by decide)) (Nat.mod_lt _ (by decide))]
    congr 1
    by_cases q : e' = e
    · rw [decide_eq_true q, q]; simp
    · rw [decide_eq_false q, decide_eq_false (by omega)]
  · rw [pk_uLn h, decide_eq_false (fun z => h (by rw [z])), Bool.or_false]
theorem sl_m0_iff : ∀ a b c : Bool, (nI (a.toNat + 2 * b.toNat + 4 * c.toNat) = 0) ↔ ((!a && !b && !c) = true) := by decide +kernel
theorem sl_1a : ∀ a, a < 4 → ∀ v, v < 4 → bt ((1 : Int32) <<< (nI a &&& 31)) v = decide (v = a) := by decide +kernel
theorem sl_B_or (b c : Bool) : sl_B b ||| sl_B c = sl_B (b || c) := by cases b <;> cases c <;> decide
section
variable {f_states : Int32} {f_known : Int32} {f_many : Int32} {f_endings : Int32} {f_races : Int32} {f_kinds : Int32} {f_counted : Int32} {f_present : Int64} {f_taken : Int32} {a_op : Nat → Int32} {a_arg : Nat → Int32} {a_length : Nat → Int32} {a_state : Nat → Int64} {a_from : Nat → Int32} {a_by : Nat → Int32} {a_bucket : Nat → Int32} {a_ending : Nat → Int64} {a_first : Nat → Int32} {a_way : Nat → Int64} {a_asleep : Nat → Int32} {a_gone : Nat → Int32} {a_past : Nat → Int64}
theorem sl_xmeets {post : SX → Prop} {w k : Nat} (hw : w < 4) (hk : k < 2000) (h : post (f_states, f_known, f_many, f_endings, f_races, f_kinds, f_counted, f_present, f_taken, a_op, a_arg, a_length, a_state, a_from, a_by, a_bucket, a_ending, (sl_mf a_first w k), a_way, a_asleep, a_gone, a_past)) : wpX_meets post (f_states, f_known, f_many, f_endings, f_races, f_kinds, f_counted, f_present, f_taken, a_op, a_arg, a_length, a_state, a_from, a_by, a_bucket, a_ending, a_first, a_way, a_asleep, a_gone, a_past) (nI w) (nI k) := by
  have vi : vp_in (nI w) 4 := vp_in_nI hw (by decide)
  unfold wpX_meets
  refine ⟨vi, ?_⟩
  rw [nI_clamp (show w < 2 ^ 31 by omega)]
  unfold sl_mf at h
  by_cases z : a_first w = 0
  · rw [if_pos z] at h
    exact br_t z ⟨vi, nm_r (by rw [nI_1, sl_sh (by omega)]) h⟩
  · rw [if_neg z] at h
    exact br_f z h
theorem sl_x258 {post : SX → Prop} {e : Nat} {Z0 Z1 : Int32} (he : e < 16384) (eZ : Z1 + Z0 = nI e)
    (h : ∀ (E : Int32) (A : Nat → Int64), (∀ e', e' < 16384 → sl_eb A e' = (sl_eb a_ending e' || decide (e' = e))) → (E = if sl_eb a_ending e = true then f_endings else f_endings + 1) → post (f_states, f_known, f_many, E, f_races, f_kinds, f_counted, f_present, f_taken, a_op, a_arg, a_length, a_state, a_from, a_by, a_bucket, A, a_first, a_way, a_asleep, a_gone, a_past)) : wX_look_258 post Z0 Z1 f_states f_known f_many f_endings f_races f_kinds f_counted f_present f_taken a_op a_arg a_length a_state a_from a_by a_bucket a_ending a_first a_way a_asleep a_gone a_past := by
  have e6 : nI e >>> ((6 : Int32) &&& 31) = nI (e / 64) := pk_shrN (by omega) _ 6 (by decide)
  have e63 : nI e &&& 63 = nI (e % 64) := pk_andN (by omega) 6 (by decide)
  have vi : vp_in (nI (e / 64)) 256 := vp_in_nI (by omega) (by decide)
  have cl : (nI (e / 64)).toNatClampNeg = e / 64 := nI_clamp (by omega)
  unfold wX_look_258
  refine nm_r eZ ?_
  rw [e6, e63]
  refine ⟨vi, ?_⟩
  have K : ∀ E : Int32, (E = if sl_eb a_ending e = true then f_endings else f_endings + 1) → wX_look_294 post (nI e) f_states f_known f_many E f_races f_kinds f_counted f_present f_taken a_op a_arg a_length a_state a_from a_by a_bucket a_ending a_first a_way a_asleep a_gone a_past := by
    intro E hE
    unfold wX_look_294
    rw [e6, e63, cl]
    exact ⟨vi, vi, nm_e (h E _ (fun e' _ => sl_eb_u) hE)⟩
  rw [cl]
  refine br_c (fun z => nm_e (K _ ?_)) (fun z => K _ ?_)
  · have : sl_eb a_ending e = false := (sl_tb64 (Nat.mod_lt _ (by decide))).mp z
    rw [this]; rfl
  · have : sl_eb a_ending e = true := ts_nf (fun y => z ((sl_tb64 (Nat.mod_lt _ (by decide))).mpr y))
    rw [this]; rfl
theorem sl_x226 {post : SX → Prop} {n : Nat} {b s : Bool} (hn : n < 2 ^ 41)
    (h : ∀ (E : Int32) (A : Nat → Int64), (∀ e', e' < 16384 → sl_eb A e' = (sl_eb a_ending e' || decide (e' = n % 4096 + (if b = true then 4096 else 0) + (if s = true then 8192 else 0)))) → (E = if sl_eb a_ending (n % 4096 + (if b = true then 4096 else 0) + (if s = true then 8192 else 0)) = true then f_endings else f_endings + 1) → post (f_states, f_known, f_many, E, f_races, f_kinds, f_counted, f_present, f_taken, a_op, a_arg, a_length, a_state, a_from, a_by, a_bucket, A, a_first, a_way, a_asleep, a_gone, a_past)) : wX_look_226 post (lN n) (sl_B b) (sl_B s) f_states f_known f_many f_endings f_races f_kinds f_counted f_present f_taken a_op a_arg a_length a_state a_from a_by a_bucket a_ending a_first a_way a_asleep a_gone a_past := by
  have hl : n % 4096 < 4096 := Nat.mod_lt _ (by decide)
  unfold wX_look_226
  refine sl_bits (p := 0) (w := 12) (sl_62 hn) (by decide) (by decide) rfl rfl ?_
  have e0 : sl_g n 0 12 = n % 4096 := by
    unfold sl_g
    rw [Nat.pow_zero, Nat.div_one]
  rw [e0]
  unfold wX_look_245
  refine sl_bB (fun hb => ?_) (fun hb => ?_)
  · subst hb
    refine sl_bB (fun hs => ?_) (fun hs => ?_)
    · subst hs
      exact sl_x258 (e := n % 4096 + (if false = true then 4096 else 0) + (if false = true then 8192 else 0)) (by simp; omega) (by simp) h
    · subst hs
      exact sl_x258 (e := n % 4096 + (if false = true then 4096 else 0) + (if true = true then 8192 else 0)) (by simp; omega) (by simp; exact nI_add _ 8192) h
  · subst hb
    refine sl_bB (fun hs => ?_) (fun hs => ?_)
    · subst hs
      exact sl_x258 (e := n % 4096 + (if true = true then 4096 else 0) + (if false = true then 8192 else 0)) (by simp; omega) (by simp; exact nI_add _ 4096) h
    · subst hs
      refine sl_x258 (e := n % 4096 + (if true = true then 4096 else 0) + (if true = true then 8192 else 0)) (by simp; omega) ?_ h
      rw [if_pos rfl, if_pos rfl, show (4096 : Int32) = nI 4096 from rfl, show (8192 : Int32) = nI 8192 from rfl, nI_add, nI_add]
end
section
variable {o g l : Nat → Nat}
variable {f_states : Int32} {f_known : Int32} {f_many : Int32} {f_endings : Int32} {f_races : Int32} {f_kinds : Int32} {f_counted : Int32} {f_present : Int64} {f_taken : Int32} {a_state : Nat → Int64} {a_from : Nat → Int32} {a_by : Nat → Int32} {a_bucket : Nat → Int32} {a_ending : Nat → Int64} {a_first : Nat → Int32} {a_way : Nat → Int64} {a_asleep : Nat → Int32} {a_gone : Nat → Int32} {a_past : Nat → Int64}
theorem sl_x44 {post : SX → Prop} {J32 : Int32 → Int32 → Prop} {n t u f : Nat} {x1 x4 x5 R : Int32} (P : sl_PV o g l) (S : sl_SV o l n) (ht : t < 3) (hu : u < 3)
    (h : wX_look_44 post J32 x1 (lN n) x4 x5 (nI t) f_states f_known f_many f_endings f_kinds f_counted f_present f_taken (fun j => nI (o j)) (fun j => nI (g j)) (fun j => nI (l j)) a_state a_from a_by a_bucket a_ending a_first a_way a_asleep a_gone a_past f (nI (u + 1)) (if sl_pr o g l n t u = true then R ||| ((1 : Int32) <<< (nI (g (sl_ix n t)) &&& 31)) else R)) :
    wX_look_44 post J32 x1 (lN n) x4 x5 (nI t) f_states f_known f_many f_endings f_kinds f_counted f_present f_taken (fun j => nI (o j)) (fun j => nI (g j)) (fun j => nI (l j)) a_state a_from a_by a_bucket a_ending a_first a_way a_asleep a_gone a_past (f + 1) (nI u) R := by
  have hn := S.1
  have no : ∀ r : Int32, sl_pr o g l n t u = false → wX_look_104 post J32 (wX_look_44 post J32 x1 (lN n) x4 x5 (nI t) f_states f_known f_many f_endings f_kinds f_counted f_present f_taken (fun j => nI (o j)) (fun j => nI (g j)) (fun j => nI (l j)) a_state a_from a_by a_bucket a_ending a_first a_way a_asleep a_gone a_past f) x1 (lN n) x4 x5 (nI t) (nI u) r f_states f_known f_many f_endings R f_kinds f_counted f_present f_taken (fun j => nI (o j)) (fun j => nI (g j)) (fun j => nI (l j)) a_state a_from a_by a_bucket a_ending a_first a_way a_asleep a_gone a_past := by
    intro r z
    rw [z] at h
    unfold wX_look_104 wX_look_105
    exact br_t rfl (nm_r (nI_1 u) h)
  refine br_f (nI_ge (b := 3) hu (by decide)) ?_
  refine sl_xat P hn ht (fun pt => ?_) (fun pt => ?_)
  · have hi := sl_ix_lt P ht pt
    have G := sl_pv P ht pt
    have G1 := G.1
    refine sl_xat P hn hu (fun pu => ?_) (fun pu => ?_)
    · have hj := sl_ix_lt P hu pu
      have Gu := sl_pv P hu pu
      refine br_f (nI_pos (by omega)) (br_f (nI_pos (by omega)) ⟨vp_in_nI hi (by decide), ?_⟩)
      refine pk_le 4 (o (sl_ix n t)) (fun z => no _ ?_) (fun z => ?_) rfl (sl_cl hi)
      · unfold sl_pr; rw [decide_eq_false (p := o (sl_ix n t) < 4) (by omega), Bool.and_false, Bool.false_and]
      · refine sl_xtch hi hj G Gu (sl_bB (fun y => no _ ?_) (fun y => ?_))
        · unfold sl_pr; rw [y, Bool.and_false]
        · have e : sl_pr o g l n t u = true := by
            unfold sl_pr; rw [y, decide_eq_true pt, decide_eq_true pu, decide_eq_true z]; rfl
          rw [e] at h
          unfold wX_look_105
          refine br_f (by decide) ⟨vp_in_nI hi (by decide), nm_e (nm_r (nI_1 u) ?_)⟩
          rw [nI_clamp (show sl_ix n t < 2 ^ 31 by omega)]
          exact h
    · refine br_f (nI_pos (by omega)) (br_t (by decide) (no _ ?_))
      unfold sl_pr; rw [decide_eq_false pu, Bool.and_false, Bool.false_and, Bool.false_and]
  · have z : sl_pr o g l n t u = false := by
      unfold sl_pr; rw [decide_eq_false pt, Bool.false_and, Bool.false_and, Bool.false_and]
    refine sl_xat P hn hu (fun pu => ?_) (fun pu => ?_)
    · exact br_t (by decide) (no _ z)
    · exact br_t (by decide) (no _ z)
def sl_o1 (p : Bool) (a : Nat) (R : Int32) : Int32 := if p = true then R ||| ((1 : Int32) <<< (nI a &&& 31)) else R
theorem sl_o1_b {p : Bool} {a v : Nat} {R : Int32} (ha : p = true → a < 4) (hv : v < 4) : bt (sl_o1 p a R) v = (bt R v || p && decide (v = a)) := by
  unfold sl_o1
  cases p
  · simp
  · rw [if_pos rfl, b_or, sl_1a a (ha rfl) v hv, Bool.true_and]
theorem sl_x32 {post : SX → Prop} {n : Nat} {x1 x4 x5 R : Int32} (P : sl_PV o g l) (S : sl_SV o l n)
    (h : ∀ R', (∀ v, v < 4 → bt R' v = (bt R v || sl_rc o g l n v)) → ((x4 = 0 → (∃ n154 : Nat, wX_look_154 post x1 (lN n) x5 f_states f_known f_many f_endings R' f_kinds f_counted f_present f_taken (fun j => nI (o j)) (fun j => nI (g j)) (fun j => nI (l j)) a_state a_from a_by a_bucket a_ending a_first a_way a_asleep a_gone a_past n154 0 0)) ∧ (¬ x4 = 0 → post (f_states, f_known, f_many, f_endings, R', f_kinds, f_counted, f_present, f_taken, (fun j => nI (o j)), (fun j => nI (g j)), (fun j => nI (l j)), a_state, a_from, a_by, a_bucket, a_ending, a_first, a_way, a_asleep, a_gone, a_past)))) :
    ∃ n32 : Nat, wX_look_32 post x1 (lN n) x4 x5 f_states f_known f_many f_endings f_kinds f_counted f_present f_taken (fun j => nI (o j)) (fun j => nI (g j)) (fun j => nI (l j)) a_state a_from a_by a_bucket a_ending a_first a_way a_asleep a_gone a_past n32 0 R := by
  have gl : ∀ t u, t < 3 → sl_pr o g l n t u = true → g (sl_ix n t) < 4 := by
    intro t u ht z
    unfold sl_pr at z
    simp only [Bool.and_eq_true, decide_eq_true_iff] at z
    have G := sl_pv P ht z.1.1.1
    have := G.2.2.1 z.1.2
    omega
  refine ⟨3, br_f (by decide) (nm_r (e' := nI 1) rfl ⟨3, ?_⟩)⟩
  refine sl_x44 (t := 0) (u := 1) P S (by decide) (by decide) (sl_x44 (t := 0) (u := 2) P S (by decide) (by decide) (br_t (by decide) (nm_r (e' := nI 1) rfl ?_)))
  refine br_f (by decide) (nm_r (e' := nI 2) rfl ⟨2, ?_⟩)
  refine sl_x44 (t := 1) (u := 2) P S (by decide) (by decide) (br_t (by decide) (nm_r (e' := nI 2) rfl ?_))
  refine br_t (by decide) (h (sl_o1 (sl_pr o g l n 1 2) (g (sl_ix n 1)) (sl_o1 (sl_pr o g l n 0 2) (g (sl_ix n 0)) (sl_o1 (sl_pr o g l n 0 1) (g (sl_ix n 0)) R))) (fun v hv => ?_))
  rw [sl_o1_b (gl 1 2 (by decide)) hv, sl_o1_b (gl 0 2 (by decide)) hv, sl_o1_b (gl 0 1 (by decide)) hv]
  unfold sl_rc
  cases bt R v <;> cases sl_pr o g l n 0 1 <;> cases sl_pr o g l n 0 2 <;> cases sl_pr o g l n 1 2 <;> simp
theorem sl_x154 {post : SX → Prop} {n t f : Nat} {x1 x5 : Int32} {b : Bool} (P : sl_PV o g l) (S : sl_SV o l n) (ht : t < 3) (h : wX_look_154 post x1 (lN n) x5 f_states f_known f_many f_endings f_races f_kinds f_counted f_present f_taken (fun j => nI (o j)) (fun j => nI (g j)) (fun j => nI (l j)) a_state a_from a_by a_bucket a_ending a_first a_way a_asleep a_gone a_past f (sl_B (b || decide (sl_f n (7 + t) < l t))) (nI (t + 1))) : wX_look_154 post x1 (lN n) x5 f_states f_known f_many f_endings f_races f_kinds f_counted f_present f_taken (fun j => nI (o j)) (fun j => nI (g j)) (fun j => nI (l j)) a_state a_from a_by a_bucket a_ending a_first a_way a_asleep a_gone a_past (f + 1) (sl_B b) (nI t) := by
  refine br_f (nI_ge (b := 3) ht (by decide)) (sl_xat P S.1 ht (fun p => ?_) (fun p => ?_))
  · have hi := sl_ix_lt P ht p
    rw [decide_eq_true p] at h
    exact br_f (nI_pos (by omega)) (nm_r (sl_B_or b true) (nm_r (nI_1 t) h))
  · rw [decide_eq_false p] at h
    exact br_t (by decide) (nm_r (sl_B_or b false) (nm_r (nI_1 t) h))
theorem sl_xlook {post : SX → Prop} {n k : Nat} (P : sl_PV o g l) (S : sl_SV o l n) (hk : k < 2000)
    (h : ∀ (R E : Int32) (A : Nat → Int64) (Fi : Nat → Int32), (∀ v, v < 4 → bt R v = (bt f_races v || sl_rc o g l n v)) → sl_LE (sl_en o g l n) (sl_ev l n) f_endings a_ending E A → (∀ w, w < 4 → Fi w = if a_first w = 0 ∧ sl_sgt o g l w n = true then nI (k + 1) else a_first w) → post (f_states, f_known, f_many, E, R, f_kinds, f_counted, f_present, f_taken, (fun j => nI (o j)), (fun j => nI (g j)), (fun j => nI (l j)), a_state, a_from, a_by, a_bucket, A, Fi, a_way, a_asleep, a_gone, a_past)) :
    wpX_look post (f_states, f_known, f_many, f_endings, f_races, f_kinds, f_counted, f_present, f_taken, (fun j => nI (o j)), (fun j => nI (g j)), (fun j => nI (l j)), a_state, a_from, a_by, a_bucket, a_ending, a_first, a_way, a_asleep, a_gone, a_past) (nI k) (lN n) (sl_m (sl_rdy o g l n)) := by
  have hn := S.1
  have k0 : ¬ nI (k + 1) = 0 := nI_ne0 (by omega) (by omega)
  have bad : ((lN n >>> ((34 : Int32).toInt64 &&& 63)) &&& 1) = 0 ↔ sl_bd n = false := by
    have e : lN n >>> ((34 : Int32).toInt64 &&& 63) = lN (n / 2 ^ 34) := sl_shrL (p := 34) (sl_62 hn) (by decide)
    rw [e, wb_a1 (by omega)]
    show lN (n / 2 ^ 34 % 2) = lN 0 ↔ _
    rw [lN_eq (by omega) (by decide)]
    unfold sl_bd
    rw [decide_eq_false_iff_not, Decidable.not_not]
    exact Iff.rfl
  -- after the first note
  have main : ∀ (F1 : Nat → Int32), (∀ w, w < 4 → F1 w = if a_first w = 0 ∧ w = 0 ∧ sl_bd n = true then nI (k + 1) else a_first w) → ∃ n32 : Nat, wX_look_32 post (nI k) (lN n) (sl_m (sl_rdy o g l n)) (sl_B (sl_bd n)) f_states f_known f_many f_endings f_kinds f_counted f_present f_taken (fun j => nI (o j)) (fun j => nI (g j)) (fun j => nI (l j)) a_state a_from a_by a_bucket a_ending F1 a_way a_asleep a_gone a_past n32 0 f_races := by
    intro F1 hF1
    refine sl_x32 P S (fun R' hR' => ?_)
    refine ⟨fun z => ?_, fun z => ?_⟩
    · have en : sl_en o g l n = true := (sl_m0_iff _ _ _).mp z
      refine ⟨4, ?_⟩
      refine sl_x154 (b := false) (t := 0) P S (by decide) (sl_x154 (t := 1) P S (by decide) (sl_x154 (t := 2) P S (by decide) (br_t (by decide) ?_)))
      have es : (((false || decide (sl_f n (7 + 0) < l 0)) || decide (sl_f n (7 + 1) < l 1)) || decide (sl_f n (7 + 2) < l 2)) = !sl_dn l n := by
        unfold sl_dn
        show (((false || decide (sl_f n 7 < l 0)) || decide (sl_f n 8 < l 1)) || decide (sl_f n 9 < l 2)) = _
        simp only [decide_not, Bool.false_or, Bool.not_and, Bool.not_not]
      rw [es]
      have fin : ∀ F3 : Nat → Int32, (∀ w, w < 4 → F3 w = if a_first w = 0 ∧ sl_sgt o g l w n = true then nI (k + 1) else a_first w) → wX_look_226 post (lN n) (sl_B (sl_bd n)) (sl_B (!sl_dn l n)) f_states f_known f_many f_endings R' f_kinds f_counted f_present f_taken (fun j => nI (o j)) (fun j => nI (g j)) (fun j => nI (l j)) a_state a_from a_by a_bucket a_ending F3 a_way a_asleep a_gone a_past := by
        intro F3 hF3
        have ee : n % 4096 + (if sl_bd n = true then 4096 else 0) + (if (!sl_dn l n) = true then 8192 else 0) = sl_ev l n := by
          unfold sl_ev
          cases sl_dn l n <;> rfl
        refine sl_x226 hn (fun E A q1 q2 => ?_)
        rw [ee] at q1 q2
        refine h R' E A F3 hR' ⟨fun y => ?_, fun _ => ⟨q1, q2⟩⟩ hF3
        rw [en] at y; exact absurd y (by decide)
      cases hd : sl_dn l n
      · refine br_f (by decide) (sl_xmeets (w := 1) (by decide) hk ?_)
        rw [hd] at fin
        unfold wX_look_210
        refine br_f (by decide) (fin _ (fun w hw => ?_))
        have f1 := hF1 w hw
        have f11 := hF1 1 (by decide)
        unfold sl_mf sl_sgt
        rw [en, hd]
        have c : w = 0 ∨ w = 1 ∨ w = 2 ∨ w = 3 := by omega
        rcases c with rfl | rfl | rfl | rfl
        · rw [if_pos rfl]
          by_cases y : F1 1 = 0
          · rw [if_pos y, pk_un (by decide), f1]; simp
          · rw [if_neg y, f1]; simp
        · simp only [Nat.one_ne_zero, false_and, and_false, if_false] at f1
          rw [f1]
          by_cases y : a_first 1 = 0
          · rw [if_pos y, pk_us]; simp [y]
          · rw [if_neg y, f1]; simp [y]
        · by_cases y : F1 1 = 0
          · rw [if_pos y, pk_un (by decide), f1]; simp
          · rw [if_neg y, f1]; simp
        · by_cases y : F1 1 = 0
          · rw [if_pos y, pk_un (by decide), f1]; simp
          · rw [if_neg y, f1]; simp
      · refine br_t rfl (sl_xmeets (w := 2) (by decide) hk ?_)
        rw [hd] at fin
        unfold wX_look_210
        refine br_t rfl ?_
        have g2 : ∀ w, w < 4 → sl_mf F1 2 k w = if a_first w = 0 ∧ ((w = 0 ∧ sl_bd n = true) ∨ w = 2) then nI (k + 1) else a_first w := by
          intro w hw
          have f1 := hF1 w hw
          unfold sl_mf
          have c : w = 0 ∨ w = 1 ∨ w = 2 ∨ w = 3 := by omega
          rcases c with rfl | rfl | rfl | rfl
          · by_cases y : F1 2 = 0
            · rw [if_pos y, pk_un (by decide), f1]; simp
            · rw [if_neg y, f1]; simp
          · by_cases y : F1 2 = 0
            · rw [if_pos y, pk_un (by decide), f1]; simp
            · rw [if_neg y, f1]; simp
          · simp only [show ¬ ((2 : Nat) = 0) by decide, false_and, and_false, if_false] at f1
            rw [f1]
            by_cases y : a_first 2 = 0
            · rw [if_pos y, pk_us]; simp [y]
            · rw [if_neg y, f1]; simp [y]
          · by_cases y : F1 2 = 0
            · rw [if_pos y, pk_un (by decide), f1]; simp
            · rw [if_neg y, f1]; simp
        refine sl_bB (fun hb => sl_xmeets (w := 3) (by decide) hk (fin _ (fun w hw => ?_))) (fun hb => fin _ (fun w hw => ?_))
        · have f1 := g2 w hw
          unfold sl_mf at f1 ⊢
          unfold sl_sgt
          generalize (if F1 2 = 0 then upd F1 2 (nI (k + 1)) else F1) = F2 at *
          rw [en, hd, hb]
          rw [hb] at f1
          have c : w = 0 ∨ w = 1 ∨ w = 2 ∨ w = 3 := by omega
          rcases c with rfl | rfl | rfl | rfl
          · by_cases y : F2 3 = 0
            · rw [if_pos y, pk_un (by decide), f1]; simp
            · rw [if_neg y, f1]; simp
          · by_cases y : F2 3 = 0
            · rw [if_pos y, pk_un (by decide), f1]; simp
            · rw [if_neg y, f1]; simp
          · by_cases y : F2 3 = 0
            · rw [if_pos y, pk_un (by decide), f1]; simp
            · rw [if_neg y, f1]; simp
          · simp at f1
            rw [f1]
            by_cases y : a_first 3 = 0
            · rw [if_pos y, pk_us]; simp [y]
            · rw [if_neg y, f1]; simp [y]
        · rw [g2 w hw]
          unfold sl_sgt
          rw [en, hd, hb]
          have c : w = 0 ∨ w = 1 ∨ w = 2 ∨ w = 3 := by omega
          rcases c with rfl | rfl | rfl | rfl <;> simp
    · have en : sl_en o g l n = false := ts_nt (fun y => z ((sl_m0_iff _ _ _).mpr y))
      refine h R' f_endings a_ending F1 hR' ⟨fun _ => ⟨rfl, rfl⟩, fun y => by rw [en] at y; exact absurd y (by decide)⟩ (fun w hw => ?_)
      rw [hF1 w hw]
      unfold sl_sgt
      rw [en]
      have c : w = 0 ∨ w = 1 ∨ w = 2 ∨ w = 3 := by omega
      rcases c with rfl | rfl | rfl | rfl <;> simp
  unfold wpX_look
  unfold wX_look_16
  refine ⟨fun z => ?_, fun z => ?_⟩
  · have hb := bad.mp z
    rw [hb] at main
    exact br_t rfl (main a_first (fun w hw => by rw [if_neg (fun y => absurd y.2.2 (by decide))]))
  · have hb : sl_bd n = true := ts_nf (fun y => z (bad.mpr y))
    rw [hb] at main
    refine br_f (by decide) (sl_xmeets (w := 0) (by decide) hk (main _ (fun w hw => ?_)))
    unfold sl_mf
    by_cases y : w = 0
    · subst y
      by_cases q : a_first 0 = 0
      · rw [if_pos q, pk_us, if_pos ⟨q, rfl, rfl⟩]
      · rw [if_neg q, if_neg (fun r => q r.1)]
    · rw [if_neg (c := a_first w = 0 ∧ w = 0 ∧ true = true) (fun r => y r.2.1)]
      by_cases q : a_first 0 = 0
      · rw [if_pos q, pk_un y]
      · rw [if_neg q]
end
end
section
/-! the component's search -/
def sl_cs (p : Nat → Bool) : Nat → Nat
  | 0 => 0
  | n + 1 => sl_cs p n + (if p n = true then 1 else 0)
theorem sl_cs_c {p q : Nat → Bool} : ∀ {n : Nat}, (∀ e, e < n → p e = q e) → sl_cs p n = sl_cs q n
  | 0, _ => rfl
  | n + 1, h => by
    unfold sl_cs
    rw [sl_cs_c (n := n) (fun e he => h e (by omega)), h n (by omega)]
theorem sl_cs_0 {p : Nat → Bool} : ∀ {n : Nat}, (∀ e, e < n → p e = false) → sl_cs p n = 0
  | 0, _ => rfl
  | n + 1, h => by
    unfold sl_cs
    rw [sl_cs_0 (n := n) (fun e he => h e (by omega)), h n (by omega)]
    rfl
theorem sl_cs_u {p q : Nat → Bool} {e0 : Nat} : ∀ {n : Nat}, e0 < n → (∀ e, e < n → q e = (p e || decide (e = e0))) → sl_cs q n = sl_cs p n + (if p e0 = true then 0 else 1)
  | 0, h, _ => absurd h (Nat.not_lt_zero _)
  | n + 1, h, hq => by
    unfold sl_cs
    rw [hq n (by omega)]
    by_cases z : e0 = n
    · subst z
      rw [sl_cs_c (p := q) (q := p) (n := e0) (fun e he => by rw [hq e (by omega), decide_eq_false (by omega), Bool.or_false])]
      cases p e0 <;> simp
    · rw [sl_cs_u (n := n) (by omega) (fun e he => hq e (by omega)), decide_eq_false (fun y => z y.symm), Bool.or_false]
      omega
theorem sl_cs_le {p : Nat → Bool} : ∀ {n : Nat}, sl_cs p n ≤ n
  | 0 => Nat.le_refl _
  | n + 1 => by
    unfold sl_cs
    have := sl_cs_le (p := p) (n := n)
    split <;> omega
theorem sl_TB_c {b hs hs' : Nat → Nat} {N : Nat} (T : sl_TB b hs N) (h : ∀ i, i < N → hs' i = hs i) : sl_TB b hs' N := by
  refine ⟨T.1, fun i hi => ?_, T.2.2⟩
  rw [h i hi]
  exact T.2.1 i hi
theorem sl_mbit : ∀ a b c : Bool, ∀ t, t < 3 → (((nI (a.toNat + 2 * b.toNat + 4 * c.toNat) >>> (nI t &&& 31)) &&& 1) = 0 ↔ (if t = 0 then a else if t = 1 then b else c) = false) := by decide +kernel
theorem sl_mb {b : Nat → Bool} {t : Nat} (ht : t < 3) : ((sl_m b >>> (nI t &&& 31)) &&& 1) = 0 ↔ b t = false := by
  have h := sl_mbit (b 0) (b 1) (b 2) t ht
  have c : t = 0 ∨ t = 1 ∨ t = 2 := by omega
  rcases c with rfl | rfl | rfl
  · exact h
  · exact h
  · exact h
/-- the notes on the first k states -/
def sl_LK (o g l st : Nat → Nat) (k : Nat) (R E : Int32) (A : Nat → Int64) (Fi : Nat → Int32) : Prop :=
  (∀ v, v < 4 → (bt R v = true ↔ ∃ i, i < k ∧ sl_rc o g l (st i) v = true)) ∧
  (∀ e, e < 16384 → (sl_eb A e = true ↔ ∃ i, i < k ∧ sl_en o g l (st i) = true ∧ sl_ev l (st i) = e)) ∧
  E = nI (sl_cs (sl_eb A) 16384) ∧
  (∀ w, w < 4 → (Fi w = 0 ∧ ∀ i, i < k → sl_sgt o g l w (st i) = false) ∨ ∃ i, i < k ∧ Fi w = nI (i + 1) ∧ sl_sgt o g l w (st i) = true ∧ ∀ i', i' < i → sl_sgt o g l w (st i') = false)
theorem sl_LK_c {o g l st st' : Nat → Nat} {k : Nat} {R E : Int32} {A : Nat → Int64} {Fi : Nat → Int32} (h : sl_LK o g l st k R E A Fi) (e : ∀ i, i < k → st' i = st i) : sl_LK o g l st' k R E A Fi := by
  obtain ⟨h1, h2, h3, h4⟩ := h
  refine ⟨fun v hv => ?_, fun q hq => ?_, h3, fun w hw => ?_⟩
  · rw [h1 v hv]
    exact ⟨fun ⟨i, hi, z⟩ => ⟨i, hi, by rw [e i hi]; exact z⟩, fun ⟨i, hi, z⟩ => ⟨i, hi, by rw [← e i hi]; exact z⟩⟩
  · rw [h2 q hq]
    exact ⟨fun ⟨i, hi, z⟩ => ⟨i, hi, by rw [e i hi]; exact z⟩, fun ⟨i, hi, z⟩ => ⟨i, hi, by rw [← e i hi]; exact z⟩⟩
  · rcases h4 w hw with ⟨z, y⟩ | ⟨i, hi, z1, z2, z3⟩
    · exact Or.inl ⟨z, fun i hi => by rw [e i hi]; exact y i hi⟩
    · exact Or.inr ⟨i, hi, z1, by rw [e i hi]; exact z2, fun i' hi' => by rw [e i' (by omega)]; exact z3 i' hi'⟩
theorem sl_LK_s {o g l st : Nat → Nat} {k : Nat} {R E R' E' : Int32} {A A' : Nat → Int64} {Fi Fi' : Nat → Int32} (h : sl_LK o g l st k R E A Fi) (hk : k < 2000)
    (q1 : ∀ v, v < 4 → bt R' v = (bt R v || sl_rc o g l (st k) v)) (q2 : sl_LE (sl_en o g l (st k)) (sl_ev l (st k)) E A E' A') (q3 : ∀ w, w < 4 → Fi' w = if Fi w = 0 ∧ sl_sgt o g l w (st k) = true then nI (k + 1) else Fi w) : sl_LK o g l st (k + 1) R' E' A' Fi' := by
  obtain ⟨h1, h2, h3, h4⟩ := h
  refine ⟨fun v hv => ?_, fun q hq => ?_, ?_, fun w hw => ?_⟩
  · rw [q1 v hv, Bool.or_eq_true, h1 v hv]
    constructor
    · rintro (⟨i, hi, z⟩ | z)
      · exact ⟨i, by omega, z⟩
      · exact ⟨k, by omega, z⟩
    · rintro ⟨i, hi, z⟩
      by_cases y : i = k
      · subst y; exact Or.inr z
      · exact Or.inl ⟨i, by omega, z⟩
  · cases hen : sl_en o g l (st k)
    · rw [(q2.1 hen).2, h2 q hq]
      constructor
      · rintro ⟨i, hi, z⟩
        exact ⟨i, by omega, z⟩
      · rintro ⟨i, hi, z⟩
        by_cases y : i = k
        · subst y; rw [hen] at z; exact absurd z.1 (by decide)
        · exact ⟨i, by omega, z⟩
    · rw [(q2.2 hen).1 q hq, Bool.or_eq_true, h2 q hq, decide_eq_true_iff]
      constructor
      · rintro (⟨i, hi, z⟩ | z)
        · exact ⟨i, by omega, z⟩
        · exact ⟨k, by omega, hen, z.symm⟩
      · rintro ⟨i, hi, z⟩
        by_cases y : i = k
        · subst y; exact Or.inr z.2.symm
        · exact Or.inl ⟨i, by omega, z⟩
  · cases hen : sl_en o g l (st k)
    · rw [(q2.1 hen).1, (q2.1 hen).2]; exact h3
    · rw [(q2.2 hen).2, sl_cs_u (sl_ev_lt l (st k)) (q2.2 hen).1, h3]
      split
      · rfl
      · exact nI_1 _
  · rw [q3 w hw]
    rcases h4 w hw with ⟨z, y⟩ | ⟨i, hi, z1, z2, z3⟩
    · cases hs : sl_sgt o g l w (st k)
      · rw [if_neg (fun r => absurd r.2 (by decide))]
        refine Or.inl ⟨z, fun i hi => ?_⟩
        by_cases r : i = k
        · subst r; exact hs
        · exact y i (by omega)
      · rw [if_pos ⟨z, rfl⟩]
        exact Or.inr ⟨k, by omega, rfl, hs, y⟩
    · rw [if_neg (fun r => absurd r.1 (by rw [z1]; exact nI_ne0 (by omega) (by omega)))]
      exact Or.inr ⟨i, by omega, z1, z2, z3⟩
section
variable (o g l : Nat → Nat) (s0 : Nat)
def sl_XC (j : Nat) (fs fm : Int32) (ast : Nat → Int64) (afr aby abk : Nat → Int32) : Prop :=
  ∃ (N : Nat) (st b : Nat → Nat), fs = nI N ∧ N ≤ 1200 ∧ (∀ i, i < N → ast i = lN (st i)) ∧ (∀ i, i < N → st i < 2 ^ 41) ∧ (∀ h, h < 4096 → abk h = nI (b h)) ∧ sl_TB b (fun i => sl_hs (lN (st i))) N ∧
   ((fm = 0 ∧ N = sl_c o g l s0 j ∧ st = sl_st o g l s0 j ∧ (∀ i, i < N → afr i = if i = 0 then -1 else nI (sl_ky o g l s0 j i / 3)) ∧ (∀ i, i < N → 0 < i → aby i = nI (sl_ky o g l s0 j i % 3))) ∨ (fm = 1 ∧ ∃ j', 1200 < sl_c o g l s0 j'))
def sl_KX (fs fm R E : Int32) (ast : Nat → Int64) (afr aby : Nat → Int32) (A : Nat → Int64) (Fi : Nat → Int32) : Prop :=
  (fm = 0 ∧ ∃ K, K ≤ 1200 ∧ sl_c o g l s0 (3 * K) = K ∧ fs = nI K ∧ (∀ i, i < K → ast i = lN (sl_st o g l s0 (3 * K) i)) ∧ (∀ i, i < K → afr i = if i = 0 then -1 else nI (sl_ky o g l s0 (3 * K) i / 3)) ∧ (∀ i, i < K → 0 < i → aby i = nI (sl_ky o g l s0 (3 * K) i % 3)) ∧ sl_LK o g l (sl_st o g l s0 (3 * K)) K R E A Fi) ∨ (fm = 1 ∧ ∃ j, 1200 < sl_c o g l s0 j)
end
section
variable {o g l : Nat → Nat} {s0 : Nat}
variable {f_states : Int32} {f_known : Int32} {f_many : Int32} {f_endings : Int32} {f_races : Int32} {f_kinds : Int32} {f_counted : Int32} {f_present : Int64} {f_taken : Int32} {a_state : Nat → Int64} {a_from : Nat → Int32} {a_by : Nat → Int32} {a_bucket : Nat → Int32} {a_ending : Nat → Int64} {a_first : Nat → Int32} {a_way : Nat → Int64} {a_asleep : Nat → Int32} {a_gone : Nat → Int32} {a_past : Nat → Int64}
theorem sl_xsp {post : SX → Prop} {k t f s : Nat} (P : sl_PV o g l) (S : sl_SV o l s) (hk : k < 1200) (ht : t < 3) (hc : k < sl_c o g l s0 (3 * k)) (hs : sl_st o g l s0 (3 * k) k = s) (C : sl_XC o g l s0 (3 * k + t) f_states f_many a_state a_from a_by a_bucket)
    (h : ∀ fs fm ast afr aby abk, sl_XC o g l s0 (3 * k + t + 1) fs fm ast afr aby abk → wX_spread_25 post (nI k) (lN s) (sl_m (sl_rdy o g l s)) f (nI (t + 1)) fs f_known fm f_endings f_races f_kinds f_counted f_present f_taken (fun j => nI (o j)) (fun j => nI (g j)) (fun j => nI (l j)) ast afr aby abk a_ending a_first a_way a_asleep a_gone a_past) :
    wX_spread_25 post (nI k) (lN s) (sl_m (sl_rdy o g l s)) (f + 1) (nI t) f_states f_known f_many f_endings f_races f_kinds f_counted f_present f_taken (fun j => nI (o j)) (fun j => nI (g j)) (fun j => nI (l j)) a_state a_from a_by a_bucket a_ending a_first a_way a_asleep a_gone a_past := by
  obtain ⟨N, st, b, rfl, c1, c2, c3, c4, c5, c6⟩ := C
  have d3 : (3 * k + t) / 3 = k := by omega
  have m3 : (3 * k + t) % 3 = t := by omega
  have hm := sl_c_mono (o := o) (g := g) (l := l) (s0 := s0) (show 3 * k ≤ 3 * k + t by omega)
  have hsj : sl_st o g l s0 (3 * k + t) k = s := by rw [sl_st_pre (show 3 * k ≤ 3 * k + t by omega) hc, hs]
  refine br_f (nI_ge (b := 3) ht (by decide)) ?_
  refine br_c (fun z => nm_r (nI_1 t) (h _ _ _ _ _ _ ?_)) (fun z => ?_)
  · have nr := (sl_mb ht).mp z
    refine ⟨N, st, b, rfl, c1, c2, c3, c4, c5, ?_⟩
    rcases c6 with ⟨e0, e1, e2, e3, e4⟩ | e
    · have T := sl_T_c (sl_T_stay (o := o) (g := g) (l := l) (s0 := s0) (j := 3 * k + t) (Or.inr (Or.inl (by rw [d3, m3, hsj]; exact nr))))
      rw [T.1, T.2.1, T.2.2]
      exact Or.inl ⟨e0, e1, e2, e3, e4⟩
    · exact Or.inr e
  · have R : sl_rdy o g l s t = true := ts_nf (fun y => z ((sl_mb ht).mpr y))
    have Sa := sl_SV_aft P S ht R
    refine sl_xaft P S ht R ?_
    have inj : ∀ i, i < N → (lN (st i) = lN (sl_aft o g l s t) ↔ st i = sl_aft o g l s t) := fun i hi => pk_lEQ (by have := c3 i hi; omega) (by have := Sa.1; omega)
    refine sl_xfind (sv := fun i => lN (st i)) c1 c5 c4 c2 (fun i hi e => ?_) (fun ne e => ?_) (fun ne lt b' bk T' hbk => ?_)
    · refine br_f (by decide) (nm_r (nI_1 t) (h _ _ _ _ _ _ ⟨N, st, b, rfl, c1, c2, c3, c4, c5, ?_⟩))
      rcases c6 with ⟨e0, e1, e2, e3, e4⟩ | e
      · have T := sl_T_c (sl_T_stay (o := o) (g := g) (l := l) (s0 := s0) (j := 3 * k + t) (Or.inr (Or.inr ⟨i, by omega, by rw [d3, m3, hsj, ← e2]; exact (inj i hi).mp e⟩)))
        rw [T.1, T.2.1, T.2.2]
        exact Or.inl ⟨e0, e1, e2, e3, e4⟩
      · exact Or.inr e
    · refine br_t rfl (nm_r (nI_1 t) (h _ _ _ _ _ _ ⟨N, st, b, rfl, c1, c2, c3, c4, c5, Or.inr ⟨rfl, ?_⟩⟩))
      rcases c6 with ⟨e0, e1, e2, e3, e4⟩ | ⟨_, e⟩
      · refine ⟨3 * k + t + 1, ?_⟩
        have T := sl_T_new (o := o) (g := g) (l := l) (s0 := s0) (j := 3 * k + t) (by omega) (by rw [d3, m3, hsj]; exact R) (fun i hi => by rw [d3, m3, hsj, ← e2]; exact fun y => ne i (by omega) ((inj i (by omega)).mpr y))
        have := congrArg (fun z => z.1) T
        simp only at this
        unfold sl_c at *
        omega
      · exact e
    · have h' : ∀ i, sl_hs (lN (sl_un st N (sl_aft o g l s t) i)) = sl_hs (if i = N then lN (sl_aft o g l s t) else lN (st i)) := by
        intro i
        unfold sl_un
        split <;> rfl
      refine br_f (by decide) (nm_r (nI_1 t) (h _ _ _ _ _ _ ⟨N + 1, sl_un st N (sl_aft o g l s t), b', rfl, by omega, fun i hi => ?_, fun i hi => ?_, hbk, sl_TB_c T' (fun i _ => h' i), ?_⟩))
      · by_cases y : i = N
        · subst y; rw [pk_uLs, sl_un_s]
        · rw [pk_uLn y, sl_un_n y]; exact c2 i (by omega)
      · by_cases y : i = N
        · subst y; rw [sl_un_s]; exact Sa.1
        · rw [sl_un_n y]; exact c3 i (by omega)
      · rcases c6 with ⟨e0, e1, e2, e3, e4⟩ | e
        · have T := sl_T_new (o := o) (g := g) (l := l) (s0 := s0) (j := 3 * k + t) (by omega) (by rw [d3, m3, hsj]; exact R) (fun i hi => by rw [d3, m3, hsj, ← e2]; exact fun y => ne i (by omega) ((inj i (by omega)).mpr y))
          have T1 : sl_c o g l s0 (3 * k + t + 1) = N + 1 := by rw [e1]; exact congrArg (fun z => z.1) T
          have T2 : sl_st o g l s0 (3 * k + t + 1) = sl_un st N (sl_aft o g l s t) := by
            have := congrArg (fun z => z.2.1) T
            rw [d3, m3, hsj, ← e1, ← e2] at this
            exact this
          have T3 : sl_ky o g l s0 (3 * k + t + 1) = sl_un (sl_ky o g l s0 (3 * k + t)) N (3 * k + t) := by
            rw [e1]; exact congrArg (fun z => z.2.2) T
          refine Or.inl ⟨e0, T1.symm, T2.symm, fun i hi => ?_, fun i hi h0 => ?_⟩
          · rw [T3]
            by_cases y : i = N
            · subst y
              have : 1 ≤ i := by omega
              rw [pk_us, if_neg (by omega), sl_un_s, d3, sl_sh (by omega)]
            · rw [pk_un y, sl_un_n y]; exact e3 i (by omega)
          · rw [T3]
            by_cases y : i = N
            · subst y
              rw [pk_us, sl_un_s, m3, sl_by8 (by omega)]
            · rw [pk_un y, sl_un_n y]; exact e4 i (by omega) h0
        · exact Or.inr e
theorem sl_x110 {post : SX → Prop} (P : sl_PV o g l) (S0 : sl_SV o l s0)
    (hp : ∀ fs fm R E ast afr aby abk A Fi, sl_KX o g l s0 fs fm R E ast afr aby A Fi → post (fs, f_known, fm, E, R, f_kinds, f_counted, f_present, f_taken, (fun j => nI (o j)), (fun j => nI (g j)), (fun j => nI (l j)), ast, afr, aby, abk, A, Fi, a_way, a_asleep, a_gone, a_past)) :
    ∀ d k, k + d = 1201 → ∀ fs fm R E ast afr aby abk A Fi, sl_XC o g l s0 (3 * k) fs fm ast afr aby abk → (fm = 0 → sl_LK o g l (sl_st o g l s0 (3 * k)) k R E A Fi ∧ k ≤ sl_c o g l s0 (3 * k)) → wX_know_110 post (d + 1) (nI k) fs f_known fm E R f_kinds f_counted f_present f_taken (fun j => nI (o j)) (fun j => nI (g j)) (fun j => nI (l j)) ast afr aby abk A Fi a_way a_asleep a_gone a_past := by
  intro d
  induction d with
  | zero =>
    intro k hk fs fm R E ast afr aby abk A Fi C L
    obtain ⟨N, st, b, rfl, c1, c2, c3, c4, c5, c6⟩ := C
    refine br_t (nI_le (by omega) (by omega)) (hp _ _ _ _ _ _ _ _ _ _ ?_)
    rcases c6 with ⟨e0, e1, e2, e3, e4⟩ | e
    · have := (L e0).2; omega
    · exact Or.inr e
  | succ d ih =>
    intro k hk fs fm R E ast afr aby abk A Fi C L
    have C' := C
    obtain ⟨N, st, b, rfl, c1, c2, c3, c4, c5, c6⟩ := C
    rcases c6 with ⟨e0, e1, e2, e3, e4⟩ | e
    · subst e0
      obtain ⟨L1, L2⟩ := L rfl
      refine pk_le N k (fun z => hp _ _ _ _ _ _ _ _ _ _ ?_) (fun z => br_t rfl ?_)
      · have ek : sl_c o g l s0 (3 * k) = k := by omega
        have eN : N = k := by omega
        subst eN
        subst e2
        exact Or.inl ⟨rfl, N, c1, ek, rfl, c2, e3, e4, L1⟩
      · have I := sl_inv P S0 (3 * k)
        have Sk := I.2.2.1 k (by omega)
        have cl : (nI k).toNatClampNeg = k := nI_clamp (by omega)
        unfold wpX_spread
        refine ⟨vp_in_nI (by omega) (by decide), ?_⟩
        rw [cl, c2 k z, e2]
        refine nm_e (sl_xrset P Sk (sl_xlook P Sk (by omega) (fun R' E' A' Fi' q1 q2 q3 => ⟨4, ?_⟩)))
        have L3 := sl_LK_s L1 (by omega) q1 q2 q3
        have hc : k < sl_c o g l s0 (3 * k) := by omega
        refine sl_xsp (t := 0) P Sk (by omega) (by decide) hc rfl C' (fun fs1 fm1 ast1 afr1 aby1 abk1 C1 => ?_)
        refine sl_xsp (t := 1) P Sk (by omega) (by decide) hc rfl C1 (fun fs2 fm2 ast2 afr2 aby2 abk2 C2 => ?_)
        refine sl_xsp (t := 2) P Sk (by omega) (by decide) hc rfl C2 (fun fs3 fm3 ast3 afr3 aby3 abk3 C3 => ?_)
        refine br_t (by decide) (nm_r (nI_1 k) (ih (k + 1) (by omega) _ _ _ _ _ _ _ _ _ _ C3 (fun _ => ⟨?_, ?_⟩)))
        · exact sl_LK_c L3 (fun i hi => sl_st_pre (show 3 * k ≤ 3 * (k + 1) by omega) (by omega))
        · have := sl_c_mono (o := o) (g := g) (l := l) (s0 := s0) (show 3 * k ≤ 3 * (k + 1) by omega)
          omega
    · obtain ⟨rfl, e⟩ := e
      exact br_c (fun _ => hp _ _ _ _ _ _ _ _ _ _ (Or.inr ⟨rfl, e⟩)) (fun _ => br_f (by decide) (hp _ _ _ _ _ _ _ _ _ _ (Or.inr ⟨rfl, e⟩)))
theorem sl_x20 {post : SX → Prop} (h : ∀ bk : Nat → Int32, (∀ q, q < 4096 → bk q = 0) → ∃ n42 : Nat, wX_know_42 post f_states f_known f_many f_endings f_races f_kinds f_counted f_present f_taken n42 0 (fun j => nI (o j)) (fun j => nI (g j)) (fun j => nI (l j)) a_state a_from a_by bk a_ending a_first a_way a_asleep a_gone a_past) : ∀ d k, k + d = 4096 → ∀ bk : Nat → Int32, (∀ q, q < k → bk q = 0) → wX_know_20 post f_states f_known f_many f_endings f_races f_kinds f_counted f_present f_taken (d + 1) (nI k) (fun j => nI (o j)) (fun j => nI (g j)) (fun j => nI (l j)) a_state a_from a_by bk a_ending a_first a_way a_asleep a_gone a_past := by
  intro d
  induction d with
  | zero =>
    intro k hk bk hb
    exact br_t (nI_le (a := 4096) (by omega) (by omega)) (h bk (fun q hq => hb q (by omega)))
  | succ d ih =>
    intro k hk bk hb
    refine br_f (nI_ge (b := 4096) (by omega) (by decide)) ⟨vp_in_nI (by omega) (by decide), nm_e (nm_r (nI_1 k) (ih (k + 1) (by omega) _ (fun q hq => ?_)))⟩
    rw [nI_clamp (by omega)]
    by_cases y : q = k
    · subst y; rw [pk_us]; exact sl_sh (n := 0) (by decide)
    · rw [pk_un y]; exact hb q (by omega)
theorem sl_x42 {post : SX → Prop} (h : ∀ bk : Nat → Int64, (∀ q, q < 256 → bk q = 0) → ∃ n64 : Nat, wX_know_64 post f_states f_known f_many f_endings f_races f_kinds f_counted f_present f_taken n64 0 (fun j => nI (o j)) (fun j => nI (g j)) (fun j => nI (l j)) a_state a_from a_by a_bucket bk a_first a_way a_asleep a_gone a_past) : ∀ d k, k + d = 256 → ∀ bk : Nat → Int64, (∀ q, q < k → bk q = 0) → wX_know_42 post f_states f_known f_many f_endings f_races f_kinds f_counted f_present f_taken (d + 1) (nI k) (fun j => nI (o j)) (fun j => nI (g j)) (fun j => nI (l j)) a_state a_from a_by a_bucket bk a_first a_way a_asleep a_gone a_past := by
  intro d
  induction d with
  | zero =>
    intro k hk bk hb
    exact br_t (nI_le (a := 256) (by omega) (by omega)) (h bk (fun q hq => hb q (by omega)))
  | succ d ih =>
    intro k hk bk hb
    refine br_f (nI_ge (b := 256) (by omega) (by decide)) ⟨vp_in_nI (by omega) (by decide), nm_e (nm_r (nI_1 k) (ih (k + 1) (by omega) _ (fun q hq => ?_)))⟩
    rw [nI_clamp (by omega)]
    by_cases y : q = k
    · subst y; rw [pk_uLs]
    · rw [pk_uLn y]; exact hb q (by omega)
theorem sl_x64c {post : SX → Prop} (h : ∀ bk : Nat → Int32, (∀ q, q < 4 → bk q = 0) → wpX_find (fun r_5 u => match u with | (f_states, f_known, f_many, f_endings, f_races, f_kinds, f_counted, f_present, f_taken, a_op, a_arg, a_length, a_state, a_from, a_by, a_bucket, a_ending, a_first, a_way, a_asleep, a_gone, a_past) => (∃ n110 : Nat, wX_know_110 post n110 0 f_states f_known f_many f_endings f_races f_kinds f_counted f_present f_taken a_op a_arg a_length a_state a_from a_by a_bucket a_ending a_first a_way a_asleep a_gone a_past)) (0, f_known, f_many, 0, 0, f_kinds, f_counted, f_present, f_taken, (fun j => nI (o j)), (fun j => nI (g j)), (fun j => nI (l j)), a_state, a_from, a_by, a_bucket, a_ending, bk, a_way, a_asleep, a_gone, a_past) f_present (-1) 0) : ∀ d k, k + d = 4 → ∀ bk : Nat → Int32, (∀ q, q < k → bk q = 0) → wX_know_64 post f_states f_known f_many f_endings f_races f_kinds f_counted f_present f_taken (d + 1) (nI k) (fun j => nI (o j)) (fun j => nI (g j)) (fun j => nI (l j)) a_state a_from a_by a_bucket a_ending bk a_way a_asleep a_gone a_past := by
  intro d
  induction d with
  | zero =>
    intro k hk bk hb
    exact br_t (nI_le (a := 4) (by omega) (by omega)) (h bk (fun q hq => hb q (by omega)))
  | succ d ih =>
    intro k hk bk hb
    refine br_f (nI_ge (b := 4) (by omega) (by decide)) ⟨vp_in_nI (by omega) (by decide), nm_e (nm_r (nI_1 k) (ih (k + 1) (by omega) _ (fun q hq => ?_)))⟩
    rw [nI_clamp (by omega)]
    by_cases y : q = k
    · subst y; rw [pk_us]; exact sl_sh (n := 0) (by decide)
    · rw [pk_un y]; exact hb q (by omega)
theorem sl_xknow0 {post : SX → Prop} (P : sl_PV o g l) (S0 : sl_SV o l s0)
    (hp : ∀ fs fm R E ast afr aby abk A Fi, sl_KX o g l s0 fs fm R E ast afr aby A Fi → post (fs, 1, fm, E, R, f_kinds, f_counted, (lN s0), f_taken, (fun j => nI (o j)), (fun j => nI (g j)), (fun j => nI (l j)), ast, afr, aby, abk, A, Fi, a_way, a_asleep, a_gone, a_past)) :
    wpX_know post (f_states, 0, f_many, f_endings, f_races, f_kinds, f_counted, (lN s0), f_taken, (fun j => nI (o j)), (fun j => nI (g j)), (fun j => nI (l j)), a_state, a_from, a_by, a_bucket, a_ending, a_first, a_way, a_asleep, a_gone, a_past) := by
  unfold wpX_know
  refine br_t rfl ⟨4097, sl_x20 (fun bk hbk => ⟨257, sl_x42 (fun ek hek => ⟨5, sl_x64c (fun fk hfk => ?_) 4 0 rfl a_first (fun q hq => absurd hq (Nat.not_lt_zero q))⟩) 256 0 rfl a_ending (fun q hq => absurd hq (Nat.not_lt_zero q))⟩) 4096 0 rfl a_bucket (fun q hq => absurd hq (Nat.not_lt_zero q))⟩
  refine sl_xfind (N := 0) (b := fun _ => 0) (sv := fun _ => 0) (by decide) (sl_TB0 _ (fun _ _ => rfl)) (fun q hq => hbk q hq) (fun i hi => absurd hi (Nat.not_lt_zero i)) (fun i hi => absurd hi (Nat.not_lt_zero i)) (fun _ e => absurd e (by decide)) (fun _ _ b' bk' T' hb' => ?_)
  refine ⟨1202, sl_x110 P S0 hp 1201 0 rfl _ _ _ _ _ _ _ _ _ _ ⟨1, sl_st o g l s0 0, b', rfl, by decide, fun i hi => ?_, fun i hi => S0.1, hb', sl_TB_c T' (fun i hi => ?_), Or.inl ⟨rfl, rfl, rfl, fun i hi => ?_, fun i hi h0 => absurd hi (by omega)⟩⟩ (fun _ => ⟨⟨fun v hv => ?_, fun e he => ?_, ?_, fun w hw => Or.inl ⟨hfk w hw, fun i hi => absurd hi (Nat.not_lt_zero i)⟩⟩, Nat.zero_le _⟩)⟩
  · have : i = 0 := by omega
    subst this
    exact pk_uLs
  · have : i = 0 := by omega
    subst this
    rfl
  · have : i = 0 := by omega
    subst this
    rw [pk_us, if_pos rfl]
    decide
  · rw [b_0]
    exact ⟨fun z => absurd z (by decide), fun ⟨i, hi, _⟩ => absurd hi (Nat.not_lt_zero i)⟩
  · have : sl_eb ek e = false := by
      unfold sl_eb
      rw [hek _ (by omega)]
      exact BitVec.getLsbD_zero
    rw [this]
    exact ⟨fun z => absurd z (by decide), fun ⟨i, hi, _⟩ => absurd hi (Nat.not_lt_zero i)⟩
  · rw [sl_cs_0 (fun e he => by
      unfold sl_eb
      rw [hek _ (by omega)]
      exact BitVec.getLsbD_zero)]
    rfl
end
end
section
/-! the reference's search -/
section
variable (o g l : Nat → Nat) (s0 : Nat)
def sl_NX (st : Nat → Nat) (c e : Nat) (x : Int32) : Prop := (sl_rdy o g l (st (e / 3)) (e % 3) = true → ∃ m, m < c ∧ x = nI m ∧ st m = sl_aft o g l (st (e / 3)) (e % 3)) ∧ (sl_rdy o g l (st (e / 3)) (e % 3) = false → x = -1)
def sl_YC (j : Nat) (ct : Int32) (ls : Nat → Int64) (nx tb : Nat → Int32) : Prop :=
  ∃ b : Nat → Nat, sl_c o g l s0 j ≤ 1201 ∧ ct = nI (sl_c o g l s0 j) ∧ (∀ i, i < sl_c o g l s0 j → ls i = lN (sl_yc l (sl_st o g l s0 j i))) ∧ (∀ h, h < 4096 → tb h = nI (b h)) ∧ sl_TB b (fun i => sl_hs (lN (sl_yc l (sl_st o g l s0 j i)))) (sl_c o g l s0 j) ∧ (∀ e, e < j → sl_NX o g l (sl_st o g l s0 j) (sl_c o g l s0 j) e (nx e))
def sl_KY (ct : Int32) (ls : Nat → Int64) (nx : Nat → Int32) : Prop :=
  (∃ K, K ≤ 1200 ∧ sl_c o g l s0 (3 * K) = K ∧ ct = nI K ∧ (∀ i, i < K → ls i = lN (sl_yc l (sl_st o g l s0 (3 * K) i))) ∧ (∀ e, e < 3 * K → sl_NX o g l (sl_st o g l s0 (3 * K)) K e (nx e))) ∨ (ct = nI 1201 ∧ ∃ j, 1200 < sl_c o g l s0 j)
end
theorem sl_e3 (k t : Nat) : 3 * nI k + nI t = nI (3 * k + t) := by rw [show (3 : Int32) = nI 3 from rfl, pk_mul, nI_add]
section
variable {o g l : Nat → Nat} {s0 : Nat}
theorem sl_NX_up {st st' : Nat → Nat} {c c' e : Nat} {x : Int32} (h : sl_NX o g l st c e x) (hc : c ≤ c') (he : e / 3 < c) (hs : ∀ i, i < c → st' i = st i) : sl_NX o g l st' c' e x := by
  unfold sl_NX
  rw [hs _ he]
  refine ⟨fun R => ?_, h.2⟩
  obtain ⟨m, hm, e1, e2⟩ := h.1 R
  exact ⟨m, by omega, e1, by rw [hs m hm]; exact e2⟩
variable {y_steps : Int32} {y_count : Int32} {y_known : Int32} {y_different : Int32} {y_path : Nat → Int64} {y_list : Nat → Int64} {y_next : Nat → Int32} {y_table : Nat → Int32} {y_far : Nat → Int32} {y_found : Nat → Int32} {y_who : Nat → Int32} {y_what : Nat → Int32} {y_before : Nat → Int64} {y_tried : Nat → Int32}
theorem sl_y91 {post : Int32 → SY → Prop} {J71 : Int32 → Int32 → Int32 → Int32 → Int32 → (Nat → Int32) → (Nat → Int32) → (Nat → Int32) → (Nat → Int64) → (Nat → Int64) → (Nat → Int32) → (Nat → Int32) → (Nat → Int32) → (Nat → Int32) → (Nat → Int32) → (Nat → Int32) → (Nat → Int64) → (Nat → Int32) → Prop} {k t f : Nat} (P : sl_PV o g l) (S0 : sl_SV o l s0) (ht : t < 3) (hk : k < sl_c o g l s0 (3 * k + t)) (hc : sl_c o g l s0 (3 * k + t) ≤ 1200) (C : sl_YC o g l s0 (3 * k + t) y_count y_list y_next y_table)
    (h : ∀ ct ls nx tb, sl_YC o g l s0 (3 * k + t + 1) ct ls nx tb → wY_know_91 post J71 (nI k) f (nI (t + 1)) y_steps ct y_known y_different (fun j => nI (o j)) (fun j => nI (g j)) (fun j => nI (l j)) y_path ls nx tb y_far y_found y_who y_what y_before y_tried) : wY_know_91 post J71 (nI k) (f + 1) (nI t) y_steps y_count y_known y_different (fun j => nI (o j)) (fun j => nI (g j)) (fun j => nI (l j)) y_path y_list y_next y_table y_far y_found y_who y_what y_before y_tried := by
  obtain ⟨b, c1, rfl, c3, c4, c5, c6⟩ := C
  have I := sl_inv P S0 (3 * k + t)
  have Sk := I.2.2.1 k hk
  have d3 : (3 * k + t) / 3 = k := by omega
  have m3 : (3 * k + t) % 3 = t := by omega
  have v1 : vp_in (3 * nI k + nI t) 3603 := by rw [sl_e3]; exact vp_in_nI (by omega) (by decide)
  have vk : vp_in (nI k) 1201 := vp_in_nI (by omega) (by decide)
  have cl : (3 * nI k + nI t).toNatClampNeg = 3 * k + t := by rw [sl_e3, nI_clamp (by omega)]
  have ek : (nI k).toNatClampNeg = k := nI_clamp (by omega)
  refine br_f (nI_ge (b := 3) ht (by decide)) (br_f (nI_nlt (a := 1200) hc (by decide)) ⟨v1, nm_e ⟨vk, ?_⟩⟩)
  rw [cl, ek, c3 k hk]
  refine sl_yready P Sk ht (sl_bB (fun z => nm_r (nI_1 t) (h _ _ _ _ ?_)) (fun z => ⟨vk, sl_yaft P Sk ht z ?_⟩))
  · have T := sl_T_c (sl_T_stay (o := o) (g := g) (l := l) (s0 := s0) (j := 3 * k + t) (Or.inr (Or.inl (by rw [d3, m3]; exact z))))
    unfold sl_YC
    rw [T.1, T.2.1]
    refine ⟨b, c1, rfl, c3, c4, c5, fun e he => ?_⟩
    by_cases y : e = 3 * k + t
    · subst y
      rw [pk_us]
      unfold sl_NX
      rw [d3, m3, z]
      exact ⟨fun y => absurd y (by decide), fun _ => rfl⟩
    · rw [pk_un y]; exact c6 e (by omega)
  · have Sa := sl_SV_aft P Sk ht z
    have inj : ∀ i, i < sl_c o g l s0 (3 * k + t) → (lN (sl_yc l (sl_st o g l s0 (3 * k + t) i)) = lN (sl_yc l (sl_aft o g l (sl_st o g l s0 (3 * k + t) k) t)) ↔ sl_st o g l s0 (3 * k + t) i = sl_aft o g l (sl_st o g l s0 (3 * k + t) k) t) := by
      intro i hi
      have a := sl_yc_lt (l := l) (sl_st o g l s0 (3 * k + t) i)
      have a2 := sl_yc_lt (l := l) (sl_aft o g l (sl_st o g l s0 (3 * k + t) k) t)
      rw [pk_lEQ (by omega) (by omega)]
      exact ⟨fun y => sl_yc_inj P (I.2.2.1 i hi) Sa y, fun y => by rw [y]⟩
    refine sl_ynum (sv := fun i => lN (sl_yc l (sl_st o g l s0 (3 * k + t) i))) hc c5 c4 c3 (fun i hi e => ?_) (fun ne b' bk T' hbk => ?_)
    · refine ⟨v1, nm_e (nm_r (nI_1 t) (h _ _ _ _ ?_))⟩
      have ei := (inj i hi).mp e
      have T := sl_T_c (sl_T_stay (o := o) (g := g) (l := l) (s0 := s0) (j := 3 * k + t) (Or.inr (Or.inr ⟨i, hi, by rw [d3, m3]; exact ei⟩)))
      unfold sl_YC
      rw [T.1, T.2.1]
      refine ⟨b, c1, rfl, c3, c4, c5, fun e' he => ?_⟩
      by_cases y : e' = 3 * k + t
      · subst y
        rw [pk_us]
        unfold sl_NX
        rw [d3, m3, z]
        exact ⟨fun _ => ⟨i, hi, rfl, ei⟩, fun y => absurd y (by decide)⟩
      · rw [pk_un y, pk_un y]; exact c6 e' (by omega)
    · refine ⟨v1, nm_e (nm_r (nI_1 t) (h _ _ _ _ ?_))⟩
      have T := sl_T_new (o := o) (g := g) (l := l) (s0 := s0) (j := 3 * k + t) (by omega) (by rw [d3, m3]; exact z) (fun i hi => by rw [d3, m3]; exact fun y => ne i hi ((inj i hi).mpr y))
      rw [d3, m3] at T
      have T1 : sl_c o g l s0 (3 * k + t + 1) = sl_c o g l s0 (3 * k + t) + 1 := congrArg (fun z => z.1) T
      have T2 : sl_st o g l s0 (3 * k + t + 1) = sl_un (sl_st o g l s0 (3 * k + t)) (sl_c o g l s0 (3 * k + t)) (sl_aft o g l (sl_st o g l s0 (3 * k + t) k) t) := congrArg (fun z => z.2.1) T
      unfold sl_YC
      rw [T1, T2]
      refine ⟨b', by omega, rfl, fun i hi => ?_, hbk, sl_TB_c T' (fun i hi => ?_), fun e' he => ?_⟩
      · by_cases y : i = sl_c o g l s0 (3 * k + t)
        · rw [y, pk_uLs, sl_un_s]
        · rw [pk_uLn y, sl_un_n y]; exact c3 i (by omega)
      · unfold sl_un
        split <;> rfl
      · by_cases y : e' = 3 * k + t
        · subst y
          rw [pk_us]
          unfold sl_NX
          rw [d3, m3, sl_un_n (show k ≠ sl_c o g l s0 (3 * k + t) by omega), z]
          exact ⟨fun _ => ⟨_, Nat.lt_succ_self _, rfl, sl_un_s⟩, fun y => absurd y (by decide)⟩
        · rw [pk_un y, pk_un y]
          exact sl_NX_up (c6 e' (by omega)) (Nat.le_succ _) (by omega) (fun i hi => sl_un_n (by omega))
theorem sl_y91a {post : Int32 → SY → Prop} {J71 : Int32 → Int32 → Int32 → Int32 → Int32 → (Nat → Int32) → (Nat → Int32) → (Nat → Int32) → (Nat → Int64) → (Nat → Int64) → (Nat → Int32) → (Nat → Int32) → (Nat → Int32) → (Nat → Int32) → (Nat → Int32) → (Nat → Int32) → (Nat → Int64) → (Nat → Int32) → Prop} {k : Nat} (P : sl_PV o g l) (S0 : sl_SV o l s0) (hk : k < sl_c o g l s0 (3 * k))
    (h : ∀ ct ls nx tb, (sl_YC o g l s0 (3 * (k + 1)) ct ls nx tb ∨ (ct = nI 1201 ∧ ∃ j, 1200 < sl_c o g l s0 j)) → J71 (nI (k + 1)) y_steps ct y_known y_different (fun j => nI (o j)) (fun j => nI (g j)) (fun j => nI (l j)) y_path ls nx tb y_far y_found y_who y_what y_before y_tried) :
    ∀ d t, t + d = 3 → ∀ ct ls nx tb, sl_YC o g l s0 (3 * k + t) ct ls nx tb → wY_know_91 post J71 (nI k) (d + 1) (nI t) y_steps ct y_known y_different (fun j => nI (o j)) (fun j => nI (g j)) (fun j => nI (l j)) y_path ls nx tb y_far y_found y_who y_what y_before y_tried := by
  intro d
  induction d with
  | zero =>
    intro t ht ct ls nx tb C
    have : t = 3 := by omega
    subst this
    exact br_t (by decide) (nm_r (nI_1 k) (h _ _ _ _ (Or.inl C)))
  | succ d ih =>
    intro t ht ct ls nx tb C
    have C' := C
    obtain ⟨b, c1, rfl, c3, c4, c5, c6⟩ := C
    have hm := sl_c_mono (o := o) (g := g) (l := l) (s0 := s0) (show 3 * k ≤ 3 * k + t by omega)
    by_cases z : sl_c o g l s0 (3 * k + t) ≤ 1200
    · exact sl_y91 P S0 (by omega) (by omega) z C' (fun ct' ls' nx' tb' C2 => ih (t + 1) (by omega) _ _ _ _ C2)
    · have e : sl_c o g l s0 (3 * k + t) = 1201 := by omega
      refine br_f (nI_ge (b := 3) (by omega) (by decide)) (br_t (nI_lt (a := 1200) (by omega) (by omega)) (nm_r (nI_1 k) (h _ _ _ _ (Or.inr ⟨by rw [e], ⟨3 * k + t, by omega⟩⟩))))
theorem sl_y71 {post : Int32 → SY → Prop} (P : sl_PV o g l) (S0 : sl_SV o l s0) (hp : ∀ ct ls nx tb, sl_KY o g l s0 ct ls nx → wY_know_175 post y_steps ct y_known y_different (fun j => nI (o j)) (fun j => nI (g j)) (fun j => nI (l j)) y_path ls nx tb y_far y_found y_who y_what y_before y_tried) :
    ∀ d k, k + d = 1202 → ∀ ct ls nx tb, ((sl_YC o g l s0 (3 * k) ct ls nx tb ∧ k ≤ sl_c o g l s0 (3 * k)) ∨ (ct = nI 1201 ∧ ∃ j, 1200 < sl_c o g l s0 j)) → wY_know_71 post (d + 1) (nI k) y_steps ct y_known y_different (fun j => nI (o j)) (fun j => nI (g j)) (fun j => nI (l j)) y_path ls nx tb y_far y_found y_who y_what y_before y_tried := by
  intro d
  induction d with
  | zero =>
    intro k hk ct ls nx tb C
    rcases C with ⟨⟨b, c1, rfl, c3, c4, c5, c6⟩, ck⟩ | ⟨rfl, e⟩
    · omega
    · exact br_t (nI_le (by omega) (by omega)) (hp _ _ _ _ (Or.inr ⟨rfl, e⟩))
  | succ d ih =>
    intro k hk ct ls nx tb C
    rcases C with ⟨C, ck⟩ | ⟨rfl, e⟩
    · have C' := C
      obtain ⟨b, c1, rfl, c3, c4, c5, c6⟩ := C
      by_cases z : sl_c o g l s0 (3 * k) ≤ 1200
      · refine pk_le (sl_c o g l s0 (3 * k)) k (fun q => hp _ _ _ _ ?_) (fun q => br_f (nI_nlt (a := 1200) z (by decide)) ⟨4, ?_⟩)
        · have ek : sl_c o g l s0 (3 * k) = k := by omega
          rw [ek] at c3 c6 z ⊢
          exact Or.inl ⟨k, z, ek, rfl, c3, c6⟩
        · refine sl_y91a P S0 q (fun ct' ls' nx' tb' C2 => ih (k + 1) (by omega) _ _ _ _ ?_) 3 0 rfl _ _ _ _ C'
          rcases C2 with C2 | C2
          · refine Or.inl ⟨C2, ?_⟩
            have := sl_c_mono (o := o) (g := g) (l := l) (s0 := s0) (show 3 * k ≤ 3 * (k + 1) by omega)
            omega
          · exact Or.inr C2
      · have e : sl_c o g l s0 (3 * k) = 1201 := by omega
        have K : sl_KY o g l s0 (nI (sl_c o g l s0 (3 * k))) ls nx := Or.inr ⟨by rw [e], ⟨3 * k, by omega⟩⟩
        exact br_c (fun _ => hp _ _ _ _ K) (fun _ => br_t (nI_lt (a := 1200) (by omega) (by omega)) (hp _ _ _ _ K))
    · have K : sl_KY o g l s0 (nI 1201) ls nx := Or.inr ⟨rfl, e⟩
      exact br_c (fun _ => hp _ _ _ _ K) (fun _ => br_t (by decide) (hp _ _ _ _ K))
theorem sl_y30 {post : Int32 → SY → Prop} {T : Nat} (hT : T < 32) (h : ∀ bk : Nat → Int32, (∀ q, q < 4096 → bk q = 0) → wpY_number (fun r_4 u => match u with | (y_steps, y_count, y_known, y_different, y_ops, y_args, y_length, y_path, y_list, y_next, y_table, y_far, y_found, y_who, y_what, y_before, y_tried) => (∃ n71 : Nat, wY_know_71 post n71 r_4 y_steps y_count y_known y_different y_ops y_args y_length y_path y_list y_next y_table y_far y_found y_who y_what y_before y_tried)) ((nI T), 0, y_known, y_different, (fun j => nI (o j)), (fun j => nI (g j)), (fun j => nI (l j)), y_path, y_list, y_next, bk, y_far, y_found, y_who, y_what, y_before, y_tried) (y_path T)) : ∀ d k, k + d = 4096 → ∀ bk : Nat → Int32, (∀ q, q < k → bk q = 0) → wY_know_30 post (nI T) y_count y_known y_different (d + 1) (nI k) (fun j => nI (o j)) (fun j => nI (g j)) (fun j => nI (l j)) y_path y_list y_next bk y_far y_found y_who y_what y_before y_tried := by
  intro d
  induction d with
  | zero =>
    intro k hk bk hb
    refine br_t (nI_le (a := 4096) (by omega) (by omega)) ⟨vp_in_nI hT (by decide), ?_⟩
    rw [nI_clamp (show T < 2 ^ 31 by omega)]
    exact h bk (fun q hq => hb q (by omega))
  | succ d ih =>
    intro k hk bk hb
    refine br_f (nI_ge (b := 4096) (by omega) (by decide)) ⟨vp_in_nI (by omega) (by decide), nm_e (nm_r (nI_1 k) (ih (k + 1) (by omega) _ (fun q hq => ?_)))⟩
    rw [nI_clamp (by omega)]
    by_cases y : q = k
    · subst y; rw [pk_us]
    · rw [pk_un y]; exact hb q (by omega)
theorem sl_yknow0 {post : Int32 → SY → Prop} {T : Nat} (P : sl_PV o g l) (S0 : sl_SV o l s0) (hT : T < 32) (e0 : y_path T = lN (sl_yc l s0))
    (hp : ∀ ct ls nx tb, sl_KY o g l s0 ct ls nx → wY_know_175 post (nI T) ct 1 y_different (fun j => nI (o j)) (fun j => nI (g j)) (fun j => nI (l j)) y_path ls nx tb y_far y_found y_who y_what y_before y_tried) : wpY_know post ((nI T), y_count, 0, y_different, (fun j => nI (o j)), (fun j => nI (g j)), (fun j => nI (l j)), y_path, y_list, y_next, y_table, y_far, y_found, y_who, y_what, y_before, y_tried) := by
  unfold wpY_know
  refine br_t rfl ⟨4097, sl_y30 hT (fun bk hbk => ?_) 4096 0 rfl y_table (fun q hq => absurd hq (Nat.not_lt_zero q))⟩
  rw [e0]
  refine sl_ynum (N := 0) (b := fun _ => 0) (sv := fun _ => 0) (by decide) (sl_TB0 _ (fun _ _ => rfl)) (fun q hq => hbk q hq) (fun i hi => absurd hi (Nat.not_lt_zero i)) (fun i hi => absurd hi (Nat.not_lt_zero i)) (fun _ b' bk' T' hb' => ?_)
  refine ⟨1203, sl_y71 P S0 hp 1202 0 rfl _ _ _ _ (Or.inl ⟨⟨b', show 1 ≤ 1201 by decide, rfl, fun i hi => ?_, hb', sl_TB_c T' (fun i hi => ?_), fun e he => absurd he (Nat.not_lt_zero e)⟩, Nat.zero_le _⟩)⟩
  · have : i < 1 := hi
    have : i = 0 := by omega
    subst this
    exact pk_uLs
  · have : i < 1 := hi
    have : i = 0 := by omega
    subst this
    rfl
end
end
section
/-! kinds of runs, and the relation -/
section
variable (o g l : Nat → Nat)
def sl_E (n t : Nat) (E : Nat → Bool) (u : Nat) : Bool := decide (u ≠ t) && !sl_tch o g (sl_ix n t) (sl_ix n u) && (decide (u < t) || E u)
def sl_K : Nat → Nat → (Nat → Bool) → Nat
  | 0, _, _ => 0
  | d + 1, n, E => (if sl_en o g l n = true then 1 else 0) + (if (sl_rdy o g l n 0 && !E 0) = true then sl_K d (sl_aft o g l n 0) (sl_E o g n 0 E) else 0) + (if (sl_rdy o g l n 1 && !E 1) = true then sl_K d (sl_aft o g l n 1) (sl_E o g n 1 E) else 0) + (if (sl_rdy o g l n 2 && !E 2) = true then sl_K d (sl_aft o g l n 2) (sl_E o g n 2 E) else 0)
def sl_kv (n : Nat) : Int32 := if sl_K o g l 31 n (fun _ => false) ≤ 2000 then nI (sl_K o g l 31 n (fun _ => false)) else -2
def sl_H (h : Nat → Nat) (T : Nat) (a_past y_path : Nat → Int64) : Prop := sl_PV o g l ∧ (∀ i, i ≤ T → sl_SV o l (h i) ∧ i ≤ sl_rk (h i)) ∧ (∀ i, i < T → a_past i = lN (h i)) ∧ (∀ i, i ≤ T → y_path i = lN (sl_yc l (h i)))
def sl_KN (s0 : Nat) (f_known y_known f_states f_many f_races f_endings : Int32) (a_state : Nat → Int64) (a_from a_by : Nat → Int32) (a_ending : Nat → Int64) (a_first : Nat → Int32) (y_count : Int32) (y_list : Nat → Int64) (y_next : Nat → Int32) : Prop := (f_known = 0 ∧ y_known = 0) ∨ (f_known = 1 ∧ y_known = 1 ∧ sl_KX o g l s0 f_states f_many f_races f_endings a_state a_from a_by a_ending a_first ∧ sl_KY o g l s0 y_count y_list y_next)
def sl_CN (s0 : Nat) (f_counted f_kinds : Int32) : Prop := f_counted = 0 ∨ (f_counted = 1 ∧ f_kinds = sl_kv o g l s0)
end
def sl_Rel (f_states : Int32) (f_known : Int32) (f_many : Int32) (f_endings : Int32) (f_races : Int32) (f_kinds : Int32) (f_counted : Int32) (f_present : Int64) (f_taken : Int32) (a_op : Nat → Int32) (a_arg : Nat → Int32) (a_length : Nat → Int32) (a_state : Nat → Int64) (a_from : Nat → Int32) (a_by : Nat → Int32) (a_bucket : Nat → Int32) (a_ending : Nat → Int64) (a_first : Nat → Int32) (a_way : Nat → Int64) (a_asleep : Nat → Int32) (a_gone : Nat → Int32) (a_past : Nat → Int64) (y_steps : Int32) (y_count : Int32) (y_known : Int32) (y_different : Int32) (y_ops : Nat → Int32) (y_args : Nat → Int32) (y_length : Nat → Int32) (y_path : Nat → Int64) (y_list : Nat → Int64) (y_next : Nat → Int32) (y_table : Nat → Int32) (y_far : Nat → Int32) (y_found : Nat → Int32) (y_who : Nat → Int32) (y_what : Nat → Int32) (y_before : Nat → Int64) (y_tried : Nat → Int32) : Prop := ∃ (o g l h : Nat → Nat) (T : Nat), a_op = (fun j => nI (o j)) ∧ a_arg = (fun j => nI (g j)) ∧ a_length = (fun j => nI (l j)) ∧ y_ops = (fun j => nI (o j)) ∧ y_args = (fun j => nI (g j)) ∧ y_length = (fun j => nI (l j)) ∧ f_taken = nI T ∧ y_steps = nI T ∧ f_present = lN (h T) ∧ sl_H o g l h T a_past y_path ∧ sl_KN o g l (h T) f_known y_known f_states f_many f_races f_endings a_state a_from a_by a_ending a_first y_count y_list y_next ∧ sl_CN o g l (h T) f_counted f_kinds
def i_Rel (k : Nat) (u : SX) (v : SY) : Prop := match u with
  | (f_states, f_known, f_many, f_endings, f_races, f_kinds, f_counted, f_present, f_taken, a_op, a_arg, a_length, a_state, a_from, a_by, a_bucket, a_ending, a_first, a_way, a_asleep, a_gone, a_past) => match v with
    | (y_steps, y_count, y_known, y_different, y_ops, y_args, y_length, y_path, y_list, y_next, y_table, y_far, y_found, y_who, y_what, y_before, y_tried) => sl_Rel f_states f_known f_many f_endings f_races f_kinds f_counted f_present f_taken a_op a_arg a_length a_state a_from a_by a_bucket a_ending a_first a_way a_asleep a_gone a_past y_steps y_count y_known y_different y_ops y_args y_length y_path y_list y_next y_table y_far y_found y_who y_what y_before y_tried
theorem i_up {k : Nat} {u : SX} {v : SY} (h : i_Rel k u v) : i_Rel (k + 5) u v := h
theorem sl_el {k : Nat} {u : SX} {v : SY} {P : SX → SY → Prop} (I : i_Rel k u v) (H : ∀ (f_states : Int32) (f_known : Int32) (f_many : Int32) (f_endings : Int32) (f_races : Int32) (f_kinds : Int32) (f_counted : Int32) (f_present : Int64) (f_taken : Int32) (a_op : Nat → Int32) (a_arg : Nat → Int32) (a_length : Nat → Int32) (a_state : Nat → Int64) (a_from : Nat → Int32) (a_by : Nat → Int32) (a_bucket : Nat → Int32) (a_ending : Nat → Int64) (a_first : Nat → Int32) (a_way : Nat → Int64) (a_asleep : Nat → Int32) (a_gone : Nat → Int32) (a_past : Nat → Int64) (y_steps : Int32) (y_count : Int32) (y_known : Int32) (y_different : Int32) (y_ops : Nat → Int32) (y_args : Nat → Int32) (y_length : Nat → Int32) (y_path : Nat → Int64) (y_list : Nat → Int64) (y_next : Nat → Int32) (y_table : Nat → Int32) (y_far : Nat → Int32) (y_found : Nat → Int32) (y_who : Nat → Int32) (y_what : Nat → Int32) (y_before : Nat → Int64) (y_tried : Nat → Int32) (o g l h : Nat → Nat) (T : Nat), sl_H o g l h T a_past y_path → sl_KN o g l (h T) f_known y_known f_states f_many f_races f_endings a_state a_from a_by a_ending a_first y_count y_list y_next → sl_CN o g l (h T) f_counted f_kinds → P (f_states, f_known, f_many, f_endings, f_races, f_kinds, f_counted, lN (h T), nI T, (fun j => nI (o j)), (fun j => nI (g j)), (fun j => nI (l j)), a_state, a_from, a_by, a_bucket, a_ending, a_first, a_way, a_asleep, a_gone, a_past) (nI T, y_count, y_known, y_different, (fun j => nI (o j)), (fun j => nI (g j)), (fun j => nI (l j)), y_path, y_list, y_next, y_table, y_far, y_found, y_who, y_what, y_before, y_tried)) : P u v := by
  obtain ⟨f_states, f_known, f_many, f_endings, f_races, f_kinds, f_counted, f_present, f_taken, a_op, a_arg, a_length, a_state, a_from, a_by, a_bucket, a_ending, a_first, a_way, a_asleep, a_gone, a_past⟩ := u
  obtain ⟨y_steps, y_count, y_known, y_different, y_ops, y_args, y_length, y_path, y_list, y_next, y_table, y_far, y_found, y_who, y_what, y_before, y_tried⟩ := v
  have I' : sl_Rel f_states f_known f_many f_endings f_races f_kinds f_counted f_present f_taken a_op a_arg a_length a_state a_from a_by a_bucket a_ending a_first a_way a_asleep a_gone a_past y_steps y_count y_known y_different y_ops y_args y_length y_path y_list y_next y_table y_far y_found y_who y_what y_before y_tried := I
  obtain ⟨o, g, l, h, T, rfl, rfl, rfl, rfl, rfl, rfl, rfl, rfl, rfl, h1, h2, h3⟩ := I'
  exact H f_states f_known f_many f_endings f_races f_kinds f_counted 0 0 (fun _ => 0) (fun _ => 0) (fun _ => 0) a_state a_from a_by a_bucket a_ending a_first a_way a_asleep a_gone a_past 0 y_count y_known y_different (fun _ => 0) (fun _ => 0) (fun _ => 0) y_path y_list y_next y_table y_far y_found y_who y_what y_before y_tried o g l h T h1 h2 h3
section
variable {f_states : Int32} {f_known : Int32} {f_many : Int32} {f_endings : Int32} {f_races : Int32} {f_kinds : Int32} {f_counted : Int32} {f_present : Int64} {f_taken : Int32} {a_op : Nat → Int32} {a_arg : Nat → Int32} {a_length : Nat → Int32} {a_state : Nat → Int64} {a_from : Nat → Int32} {a_by : Nat → Int32} {a_bucket : Nat → Int32} {a_ending : Nat → Int64} {a_first : Nat → Int32} {a_way : Nat → Int64} {a_asleep : Nat → Int32} {a_gone : Nat → Int32} {a_past : Nat → Int64}
variable {y_steps : Int32} {y_count : Int32} {y_known : Int32} {y_different : Int32} {y_ops : Nat → Int32} {y_args : Nat → Int32} {y_length : Nat → Int32} {y_path : Nat → Int64} {y_list : Nat → Int64} {y_next : Nat → Int32} {y_table : Nat → Int32} {y_far : Nat → Int32} {y_found : Nat → Int32} {y_who : Nat → Int32} {y_what : Nat → Int32} {y_before : Nat → Int64} {y_tried : Nat → Int32}
variable {o g l h : Nat → Nat} {T k : Nat}
theorem sl_in (h1 : sl_H o g l h T a_past y_path) (h2 : sl_KN o g l (h T) f_known y_known f_states f_many f_races f_endings a_state a_from a_by a_ending a_first y_count y_list y_next) (h3 : sl_CN o g l (h T) f_counted f_kinds) : i_Rel k (f_states, f_known, f_many, f_endings, f_races, f_kinds, f_counted, lN (h T), nI T, (fun j => nI (o j)), (fun j => nI (g j)), (fun j => nI (l j)), a_state, a_from, a_by, a_bucket, a_ending, a_first, a_way, a_asleep, a_gone, a_past) (nI T, y_count, y_known, y_different, (fun j => nI (o j)), (fun j => nI (g j)), (fun j => nI (l j)), y_path, y_list, y_next, y_table, y_far, y_found, y_who, y_what, y_before, y_tried) := ⟨o, g, l, h, T, rfl, rfl, rfl, rfl, rfl, rfl, rfl, rfl, rfl, h1, h2, h3⟩
end
end
section
/-! the methods that change the program -/
theorem sl_outs {post : Int32 → Prop} {p lo hi : Int32} (f : lo ≤ p → p ≤ hi → post 0) (f' : ¬ (lo ≤ p ∧ p ≤ hi) → post 1) : wpX_outside post p lo hi :=
  br_c (fun a => br_c (fun b => ⟨rfl, f a b⟩) (fun b => ⟨rfl, f' (fun z => b z.2)⟩)) (fun a => br_c (fun b => ⟨rfl, f' (fun z => a z.1)⟩) (fun b => ⟨rfl, f' (fun z => a z.1)⟩))
theorem sl_wits {post : Int32 → Prop} {p lo hi : Int32} (f : lo ≤ p → p ≤ hi → post 1) (f' : ¬ (lo ≤ p ∧ p ≤ hi) → post 0) : wpY_within post p lo hi :=
  br_c (fun a => f' (fun z => Int32.not_le.mpr a z.1)) (fun a => br_c (fun b => f' (fun z => Int32.not_le.mpr b z.2)) (fun b => f (Int32.not_lt.mp a) (Int32.not_lt.mp b)))
def sl_G (p q : Int32) : Prop := ∃ op a : Nat, p = nI op ∧ q = nI a ∧ sl_good op a
theorem sl_rng {p M : Int32} {m : Nat} (hM : M.toInt = m) (hm : M = nI m) (h31 : m < 2 ^ 31) : (0 ≤ p ∧ p ≤ M) ↔ ∃ t : Nat, t ≤ m ∧ p = nI t := by
  constructor
  · intro ⟨a, b⟩
    exact nI_of2 hM (Int32.not_lt.mpr a) b
  · rintro ⟨t, ht, rfl⟩
    rw [hm]
    exact ⟨nI_pos' (by omega), nI_le ht h31⟩
theorem sl_gK {post : Int32 → Prop} {op lo hi : Nat} {q : Int32} (f : sl_G (nI op) q → post 1) (f' : ¬ sl_G (nI op) q → post 0) (ho : op ≤ 11) (hg : ∀ a, sl_good op a ↔ lo ≤ a ∧ a ≤ hi) (hh : hi < 100) (hl : lo < 100) :
    ((q < nI lo → post 0) ∧ (¬ q < nI lo → ((nI hi < q → post 0) ∧ (¬ nI hi < q → post 1)))) := by
  refine br_c (fun z => f' ?_) (fun z => br_c (fun y => f' ?_) (fun y => f ?_))
  · rintro ⟨op', a, e, rfl, gd⟩
    have e' := (nI_eq (a := op) (b := op') (by omega) (by have := gd.1; omega)).mp e
    subst e'
    have := (hg a).mp gd
    rw [nI_ltI (by omega) (by omega)] at z
    omega
  · rintro ⟨op', a, e, rfl, gd⟩
    have e' := (nI_eq (a := op) (b := op') (by omega) (by have := gd.1; omega)).mp e
    subst e'
    have := (hg a).mp gd
    rw [nI_ltI (by omega) (by omega)] at y
    omega
  · have z0 : ¬ q < 0 := fun w => z (Int32.lt_of_lt_of_le w (nI_pos' (by omega)))
    obtain ⟨a, ha, rfl⟩ := nI_of z0
    rw [nI_ltI ha (by omega)] at z
    rw [nI_ltI (by omega) ha] at y
    exact ⟨op, a, rfl, rfl, (hg a).mpr (by omega)⟩
theorem sl_xins {post : Int32 → Prop} {p q : Int32} (f : sl_G p q → post 1) (f' : ¬ sl_G p q → post 0) : wpX_isInstruction post p q := by
  unfold wpX_isInstruction
  refine sl_outs (fun a b => br_t rfl ?_) (fun z => br_f (by decide) (f' ?_))
  · obtain ⟨op, hop, rfl⟩ := nI_of2 (M := 11) (n := 11) (by decide) (Int32.not_lt.mpr a) b
    have K : ∀ lo hi, (∀ a, sl_good op a ↔ lo ≤ a ∧ a ≤ hi) → hi < 100 → lo < 100 → wX_isInstruction_52 post q (nI lo) (nI hi) := fun lo hi hg h1 h2 => sl_gK f f' hop hg h1 h2
    unfold wX_isInstruction_23 wX_isInstruction_35
    refine pk_eq op 6 (fun e => pk_lt op 4 (fun z => absurd z (by omega)) (fun _ => pk_eq op 6 (fun _ => K 1 3 (fun a => ?_) (by decide) (by decide)) (fun z => absurd e z))) (fun e => pk_lt op 4 (fun z => K 0 3 (fun a => ?_) (by decide) (by decide)) (fun z => pk_eq op 6 (fun y => absurd y e) (fun _ => sl_isLock (by omega) (sl_bB (fun lk => K 0 7 (fun a => ?_) (by decide) (by decide)) (fun lk => K 0 1 (fun a => ?_) (by decide) (by decide))))))
    · unfold sl_good; omega
    · unfold sl_good; omega
    · have : ¬ (op = 7 ∨ op = 8 ∨ op = 10 ∨ op = 11) := of_decide_eq_false lk
      unfold sl_good; omega
    · have := sl_lk_iff.mp lk
      unfold sl_good; omega
  · rintro ⟨op, a, rfl, rfl, gd⟩
    exact z ((sl_rng (m := 11) (by decide) rfl (by decide)).mpr ⟨op, gd.1, rfl⟩)
theorem sl_yins {post : Int32 → Prop} {p q : Int32} (f : sl_G p q → post 1) (f' : ¬ sl_G p q → post 0) : wpY_isGood post p q := by
  unfold wpY_isGood
  refine sl_wits (fun a b => br_f (by decide) ?_) (fun z => br_t rfl (f' ?_))
  · obtain ⟨op, hop, rfl⟩ := nI_of2 (M := 11) (n := 11) (by decide) (Int32.not_lt.mpr a) b
    have K : ∀ lo hi, (∀ a, sl_good op a ↔ lo ≤ a ∧ a ≤ hi) → hi < 100 → lo < 100 → wpY_within (fun r_6 => (narrow .boolean (.int r_6) = .int r_6 ∧ (post r_6))) q (nI lo) (nI hi) := fun lo hi hg h1 h2 => sl_gK (post := fun r_6 => (narrow .boolean (.int r_6) = .int r_6 ∧ (post r_6))) (fun z => ⟨rfl, f z⟩) (fun z => ⟨rfl, f' z⟩) hop hg h1 h2
    unfold wY_isGood_55 wY_isGood_61
    refine pk_le 4 op (fun z => pk_eq op 6 (fun e => K 1 3 (fun a => ?_) (by decide) (by decide)) (fun e => pk_eq op 4 (fun e4 => K 0 7 (fun a => ?_) (by decide) (by decide)) (fun e4 => pk_eq op 5 (fun e5 => K 0 7 (fun a => ?_) (by decide) (by decide)) (fun e5 => pk_eq op 9 (fun e9 => K 0 7 (fun a => ?_) (by decide) (by decide)) (fun e9 => K 0 1 (fun a => ?_) (by decide) (by decide)))))) (fun z => K 0 3 (fun a => ?_) (by decide) (by decide)) <;> (unfold sl_good; omega)
  · rintro ⟨op, a, rfl, rfl, gd⟩
    exact z ((sl_rng (m := 11) (by decide) rfl (by decide)).mpr ⟨op, gd.1, rfl⟩)
theorem sl_upd {o : Nat → Nat} {k v : Nat} : upd (fun j => nI (o j)) k (nI v) = fun j => nI (sl_un o k v j) := by
  funext j
  unfold upd sl_un
  by_cases h : j = k
  · rw [if_pos h, if_pos h]
  · rw [if_neg h, if_neg h]
theorem sl_f0 (k : Nat) : sl_f 0 k = 0 := by
  unfold sl_f sl_g
  rw [Nat.zero_div, Nat.zero_mod]
theorem sl_SV0 {o l : Nat → Nat} : sl_SV o l 0 := by
  refine ⟨Nat.two_pow_pos 41, fun t ht => ?_⟩
  rw [sl_f0, sl_f0]
  exact ⟨Nat.zero_le _, Nat.zero_le _, fun z => absurd rfl z⟩
def sl_zf (a b c : Bool) (k : Nat) : Nat := if k = 7 then (if a = true then 5 else 0) else if k = 8 then (if b = true then 5 else 0) else if k = 9 then (if c = true then 5 else 0) else 0
theorem sl_by_c {f f' : Nat → Nat} : ∀ j, (∀ k, k < j → f k = f' k) → sl_by f j = sl_by f' j
  | 0, _ => rfl
  | j + 1, h => by
    unfold sl_by
    rw [sl_by_c j (fun k hk => h k (by omega)), h j (by omega)]
theorem sl_yc0 {l : Nat → Nat} : sl_yc l 0 = sl_by (sl_zf (decide (l 0 = 0)) (decide (l 1 = 0)) (decide (l 2 = 0))) 16 := by
  apply sl_by_c
  intro k hk
  by_cases h : 7 ≤ k ∧ k < 10
  · obtain ⟨t, rfl⟩ : ∃ t, k = 7 + t := ⟨k - 7, by omega⟩
    have ht : t < 3 := by omega
    rw [sl_yf_p ht, sl_f0]
    have c : t = 0 ∨ t = 1 ∨ t = 2 := by omega
    have e : ∀ x : Nat, (if 0 < x then 0 else 5) = (if decide (x = 0) = true then 5 else 0) := by
      intro x
      by_cases z : x = 0
      · rw [if_neg (by omega), if_pos (decide_eq_true z)]
      · rw [if_pos (by omega), if_neg (fun y => z (of_decide_eq_true y))]
    rcases c with rfl | rfl | rfl
    · exact e _
    · exact e _
    · exact e _
  · rw [sl_yf_o h, sl_f0]
    unfold sl_zf
    rw [if_neg (by omega), if_neg (by omega), if_neg (by omega)]
def sl_r5 (b : Bool) (t : Nat) (x : Int64) : Int64 := if b = true then x ||| ((5 : Int64) <<< ((21 + (3 * nI t)).toInt64 &&& 63)) else x
theorem sl_r5v : ∀ a b c : Bool, sl_r5 c 2 (sl_r5 b 1 (sl_r5 a 0 0)) = lN (sl_by (sl_zf a b c) 16) := by decide +kernel
section
variable {o g l : Nat → Nat}
variable {y_steps : Int32} {y_count : Int32} {y_known : Int32} {y_different : Int32} {y_path : Nat → Int64} {y_list : Nat → Int64} {y_next : Nat → Int32} {y_table : Nat → Int32} {y_far : Nat → Int32} {y_found : Nat → Int32} {y_who : Nat → Int32} {y_what : Nat → Int32} {y_before : Nat → Int64} {y_tried : Nat → Int32}
theorem sl_yres {post : SY → Prop} {t f : Nat} {x : Int64} (ht : t < 3) (hl : l t ≤ 5) (h : wY_reset_4 post y_steps y_count y_known y_different (fun j => nI (o j)) (fun j => nI (g j)) (fun j => nI (l j)) y_path y_list y_next y_table y_far y_found y_who y_what y_before y_tried f (sl_r5 (decide (l t = 0)) t x) (nI (t + 1))) : wY_reset_4 post y_steps y_count y_known y_different (fun j => nI (o j)) (fun j => nI (g j)) (fun j => nI (l j)) y_path y_list y_next y_table y_far y_found y_who y_what y_before y_tried (f + 1) x (nI t) := by
  refine br_f (nI_ge (b := 3) ht (by decide)) ⟨vp_in_nI ht (by decide), ?_⟩
  refine pk_eq (l t) 0 (fun z => ?_) (fun z => ?_) (by rw [nI_clamp (by omega)]) rfl
  · unfold sl_r5 at h
    rw [if_pos (decide_eq_true z)] at h
    exact nm_e (nm_r (nI_1 t) h)
  · unfold sl_r5 at h
    rw [if_neg (fun y => z (of_decide_eq_true y))] at h
    exact nm_r (nI_1 t) h
theorem sl_yreset {post : SY → Prop} (hl : ∀ t, t < 3 → l t ≤ 5) (h : post (0, y_count, 0, y_different, (fun j => nI (o j)), (fun j => nI (g j)), (fun j => nI (l j)), (vp_updL y_path 0 (lN (sl_yc l 0))), y_list, y_next, y_table, y_far, y_found, y_who, y_what, y_before, y_tried)) : wpY_reset post (y_steps, y_count, y_known, y_different, (fun j => nI (o j)), (fun j => nI (g j)), (fun j => nI (l j)), y_path, y_list, y_next, y_table, y_far, y_found, y_who, y_what, y_before, y_tried) := by
  refine ⟨4, sl_yres (t := 0) (by decide) (hl 0 (by decide)) (sl_yres (t := 1) (by decide) (hl 1 (by decide)) (sl_yres (t := 2) (by decide) (hl 2 (by decide)) (br_t (by decide) (nm_e ?_))))⟩
  rw [sl_r5v, ← sl_yc0]
  exact h
end
section
variable {o g l : Nat → Nat}
theorem sl_PV_add {t op a : Nat} (P : sl_PV o g l) (ht : t < 3) (gd : sl_good op a) (h5 : l t ≠ 5) : sl_PV (sl_un o (5 * t + l t) op) (sl_un g (5 * t + l t) a) (sl_un l t (l t + 1)) := by
  intro u hu
  have hl := (P t ht).1
  by_cases e : u = t
  · subst e
    rw [sl_un_s]
    refine ⟨by omega, fun k hk => ?_⟩
    by_cases y : k = l u
    · subst y; rw [sl_un_s, sl_un_s]; exact gd
    · rw [sl_un_n (by omega), sl_un_n (by omega)]; exact (P u hu).2 k (by omega)
  · rw [sl_un_n e]
    have hlu := (P u hu).1
    refine ⟨hlu, fun k hk => ?_⟩
    rw [sl_un_n (by omega), sl_un_n (by omega)]
    exact (P u hu).2 k hk
theorem sl_PV_clr {t : Nat} (P : sl_PV o g l) : sl_PV o g (sl_un l t 0) := by
  intro u hu
  by_cases e : u = t
  · subst e
    rw [sl_un_s]
    exact ⟨by decide, fun k hk => absurd hk (Nat.not_lt_zero k)⟩
  · rw [sl_un_n e]; exact P u hu
theorem sl_PV_chg {t k0 op a : Nat} (P : sl_PV o g l) (ht : t < 3) (hk0 : k0 < l t) (gd : sl_good op a) : sl_PV (sl_un o (5 * t + k0) op) (sl_un g (5 * t + k0) a) l := by
  intro u hu
  refine ⟨(P u hu).1, fun k hk => ?_⟩
  by_cases y : 5 * u + k = 5 * t + k0
  · rw [y, sl_un_s, sl_un_s]; exact gd
  · rw [sl_un_n y, sl_un_n y]; exact (P u hu).2 k hk
theorem sl_H0 {a_past y_path : Nat → Int64} (P : sl_PV o g l) : sl_H o g l (fun _ => 0) 0 a_past (vp_updL y_path 0 (lN (sl_yc l 0))) :=
  ⟨P, fun i hi => ⟨sl_SV0, by omega⟩, fun i hi => absurd hi (Nat.not_lt_zero i), fun i hi => by
    have : i = 0 := by omega
    subst this
    exact pk_uLs⟩
variable {f_states : Int32} {f_known : Int32} {f_many : Int32} {f_endings : Int32} {f_races : Int32} {f_kinds : Int32} {f_counted : Int32} {f_present : Int64} {f_taken : Int32} {a_state : Nat → Int64} {a_from : Nat → Int32} {a_by : Nat → Int32} {a_bucket : Nat → Int32} {a_ending : Nat → Int64} {a_first : Nat → Int32} {a_way : Nat → Int64} {a_asleep : Nat → Int32} {a_gone : Nat → Int32} {a_past : Nat → Int64}
variable {y_steps : Int32} {y_count : Int32} {y_known : Int32} {y_different : Int32} {y_path : Nat → Int64} {y_list : Nat → Int64} {y_next : Nat → Int32} {y_table : Nat → Int32} {y_far : Nat → Int32} {y_found : Nat → Int32} {y_who : Nat → Int32} {y_what : Nat → Int32} {y_before : Nat → Int64} {y_tried : Nat → Int32}
theorem sl_xadd {post : Int32 → SX → Prop} {t op a : Nat} (P : sl_PV o g l) (ht : t < 3) (gd : sl_good op a) (h5 : l t ≠ 5)
    (h : post (nI (l t + 1)) (f_states, 0, f_many, f_endings, f_races, f_kinds, 0, 0, 0, (fun j => nI (sl_un o (5 * t + l t) op j)), (fun j => nI (sl_un g (5 * t + l t) a j)), (fun j => nI (sl_un l t (l t + 1) j)), a_state, a_from, a_by, a_bucket, a_ending, a_first, a_way, a_asleep, a_gone, a_past)) : wpX_add post (f_states, f_known, f_many, f_endings, f_races, f_kinds, f_counted, f_present, f_taken, (fun j => nI (o j)), (fun j => nI (g j)), (fun j => nI (l j)), a_state, a_from, a_by, a_bucket, a_ending, a_first, a_way, a_asleep, a_gone, a_past) (nI t) (nI op) (nI a) := by
  have hl := (P t ht).1
  have g1 := gd.1
  have g2 := gd.2.1
  have vt : vp_in (nI t) 3 := vp_in_nI ht (by decide)
  have ct : (nI t).toNatClampNeg = t := nI_clamp (by omega)
  have e5 : 5 * nI t + nI (l t) = nI (5 * t + l t) := sl_e' t (l t)
  have ci : (nI (5 * t + l t)).toNatClampNeg = 5 * t + l t := nI_clamp (by omega)
  have vi : vp_in (nI (5 * t + l t)) 15 := vp_in_nI (by omega) (by decide)
  unfold wpX_add
  refine sl_xins (fun _ => ?_) (fun z => absurd ⟨op, a, rfl, rfl, gd⟩ z)
  refine sl_outs (fun _ _ => br_t rfl (br_f (by decide) ⟨vt, ?_⟩)) (fun z => absurd ((sl_rng (m := 2) (by decide) rfl (by decide)).mpr ⟨t, by omega, rfl⟩) z)
  simp only [ct]
  refine pk_eq (l t) 5 (fun z => absurd z h5) (fun _ => ⟨vt, vt, nm_r (e' := fun j => nI (sl_un l t (l t + 1) j)) (by rw [nI_1, sl_by8 (by omega), sl_upd]) (nm_r e5 ⟨vi, nm_r (e' := fun j => nI (sl_un o (5 * t + l t) op j)) (by rw [ci, sl_by8 (by omega), sl_upd]) ⟨vi, nm_r (e' := fun j => nI (sl_un g (5 * t + l t) a j)) (by rw [ci, sl_by8 (by omega), sl_upd]) ?_⟩⟩)⟩)
  refine ⟨vt, ?_⟩
  dsimp only
  rw [sl_un_s]
  exact h
theorem sl_yadd {post : Int32 → SY → Prop} {t op a : Nat} (P : sl_PV o g l) (ht : t < 3) (gd : sl_good op a) (h5 : l t ≠ 5)
    (h : post (nI (l t + 1)) (0, y_count, 0, y_different, (fun j => nI (sl_un o (5 * t + l t) op j)), (fun j => nI (sl_un g (5 * t + l t) a j)), (fun j => nI (sl_un l t (l t + 1) j)), (vp_updL y_path 0 (lN (sl_yc (sl_un l t (l t + 1)) 0))), y_list, y_next, y_table, y_far, y_found, y_who, y_what, y_before, y_tried)) : wpY_add post (y_steps, y_count, y_known, y_different, (fun j => nI (o j)), (fun j => nI (g j)), (fun j => nI (l j)), y_path, y_list, y_next, y_table, y_far, y_found, y_who, y_what, y_before, y_tried) (nI t) (nI op) (nI a) := by
  have hl := (P t ht).1
  have vt : vp_in (nI t) 3 := vp_in_nI ht (by decide)
  have ct : (nI t).toNatClampNeg = t := nI_clamp (by omega)
  have e5 : 5 * nI t + nI (l t) = nI (5 * t + l t) := sl_e' t (l t)
  have ci : (nI (5 * t + l t)).toNatClampNeg = 5 * t + l t := nI_clamp (by omega)
  have vi : vp_in (nI (5 * t + l t)) 15 := vp_in_nI (by omega) (by decide)
  unfold wpY_add
  refine sl_wits (fun _ _ => br_f (by decide) ?_) (fun z => absurd ((sl_rng (m := 2) (by decide) rfl (by decide)).mpr ⟨t, by omega, rfl⟩) z)
  refine sl_yins (fun _ => br_f (by decide) ⟨vt, ?_⟩) (fun z => absurd ⟨op, a, rfl, rfl, gd⟩ z)
  simp only [ct]
  refine pk_eq (l t) 5 (fun z => absurd z h5) (fun _ => ⟨vt, vt, nm_r (e' := fun j => nI (sl_un l t (l t + 1) j)) (by rw [nI_1, sl_upd]) (nm_r e5 ⟨vi, nm_r (e' := fun j => nI (sl_un o (5 * t + l t) op j)) (by rw [ci, sl_upd]) ⟨vi, nm_r (e' := fun j => nI (sl_un g (5 * t + l t) a j)) (by rw [ci, sl_upd]) ?_⟩⟩)⟩)
  refine sl_yreset (fun u hu => (sl_PV_add P ht gd h5 u hu).1) ⟨vt, ?_⟩
  dsimp only
  rw [sl_un_s]
  exact h
theorem sl_xadd_b {post : Int32 → SX → Prop} {p q r : Int32} (P : sl_PV o g l) (C : ¬ ∃ t op a : Nat, t < 3 ∧ p = nI t ∧ q = nI op ∧ r = nI a ∧ sl_good op a ∧ l t ≠ 5) (h : post (-1) (f_states, f_known, f_many, f_endings, f_races, f_kinds, f_counted, f_present, f_taken, (fun j => nI (o j)), (fun j => nI (g j)), (fun j => nI (l j)), a_state, a_from, a_by, a_bucket, a_ending, a_first, a_way, a_asleep, a_gone, a_past)) : wpX_add post (f_states, f_known, f_many, f_endings, f_races, f_kinds, f_counted, f_present, f_taken, (fun j => nI (o j)), (fun j => nI (g j)), (fun j => nI (l j)), a_state, a_from, a_by, a_bucket, a_ending, a_first, a_way, a_asleep, a_gone, a_past) p q r := by
  unfold wpX_add
  refine sl_xins (fun G => ?_) (fun z => ?_)
  · refine sl_outs (fun a b => br_t rfl (br_f (by decide) ?_)) (fun z => br_f (by decide) h)
    obtain ⟨t, ht, rfl⟩ := nI_of2 (M := 2) (n := 2) (by decide) (Int32.not_lt.mpr a) b
    obtain ⟨op, c, rfl, rfl, gd⟩ := G
    have hl := (P t (by omega)).1
    refine ⟨vp_in_nI (by omega) (by decide), ?_⟩
    refine pk_eq (l t) 5 (fun z => h) (fun z => absurd ⟨t, op, c, by omega, rfl, rfl, rfl, gd, z⟩ C) (by rw [nI_clamp (by omega)]) rfl
  · refine sl_outs (fun a b => br_t rfl (br_t rfl h)) (fun z => br_f (by decide) h)
theorem sl_yadd_b {post : Int32 → SY → Prop} {p q r : Int32} (P : sl_PV o g l) (C : ¬ ∃ t op a : Nat, t < 3 ∧ p = nI t ∧ q = nI op ∧ r = nI a ∧ sl_good op a ∧ l t ≠ 5) (h : post (-1) (y_steps, y_count, y_known, y_different, (fun j => nI (o j)), (fun j => nI (g j)), (fun j => nI (l j)), y_path, y_list, y_next, y_table, y_far, y_found, y_who, y_what, y_before, y_tried)) : wpY_add post (y_steps, y_count, y_known, y_different, (fun j => nI (o j)), (fun j => nI (g j)), (fun j => nI (l j)), y_path, y_list, y_next, y_table, y_far, y_found, y_who, y_what, y_before, y_tried) p q r := by
  unfold wpY_add
  refine sl_wits (fun a b => br_f (by decide) ?_) (fun z => br_t rfl h)
  refine sl_yins (fun G => br_f (by decide) ?_) (fun z => br_t rfl h)
  obtain ⟨t, ht, rfl⟩ := nI_of2 (M := 2) (n := 2) (by decide) (Int32.not_lt.mpr a) b
  obtain ⟨op, c, rfl, rfl, gd⟩ := G
  have hl := (P t (by omega)).1
  refine ⟨vp_in_nI (by omega) (by decide), ?_⟩
  refine pk_eq (l t) 5 (fun z => h) (fun z => absurd ⟨t, op, c, by omega, rfl, rfl, rfl, gd, z⟩ C) (by rw [nI_clamp (by omega)]) rfl
theorem sl_xclr {post : Int32 → SX → Prop} {t : Nat} (ht : t < 3) (h : post (nI (l t)) (f_states, 0, f_many, f_endings, f_races, f_kinds, 0, 0, 0, (fun j => nI (o j)), (fun j => nI (g j)), (fun j => nI (sl_un l t 0 j)), a_state, a_from, a_by, a_bucket, a_ending, a_first, a_way, a_asleep, a_gone, a_past)) : wpX_clear post (f_states, f_known, f_many, f_endings, f_races, f_kinds, f_counted, f_present, f_taken, (fun j => nI (o j)), (fun j => nI (g j)), (fun j => nI (l j)), a_state, a_from, a_by, a_bucket, a_ending, a_first, a_way, a_asleep, a_gone, a_past) (nI t) := by
  have vt : vp_in (nI t) 3 := vp_in_nI ht (by decide)
  have ct : (nI t).toNatClampNeg = t := nI_clamp (by omega)
  unfold wpX_clear
  refine sl_outs (fun _ _ => br_t rfl ⟨vt, ?_⟩) (fun z => absurd ((sl_rng (m := 2) (by decide) rfl (by decide)).mpr ⟨t, by omega, rfl⟩) z)
  simp only [ct]
  exact nm_e ⟨vt, nm_r (e' := fun j => nI (sl_un l t 0 j)) (by rw [show vp_nar .byte 0 = nI 0 from by decide, sl_upd]) h⟩
theorem sl_yclr {post : Int32 → SY → Prop} {t : Nat} (P : sl_PV o g l) (ht : t < 3) (h : post (nI (l t)) (0, y_count, 0, y_different, (fun j => nI (o j)), (fun j => nI (g j)), (fun j => nI (sl_un l t 0 j)), (vp_updL y_path 0 (lN (sl_yc (sl_un l t 0) 0))), y_list, y_next, y_table, y_far, y_found, y_who, y_what, y_before, y_tried)) : wpY_clear post (y_steps, y_count, y_known, y_different, (fun j => nI (o j)), (fun j => nI (g j)), (fun j => nI (l j)), y_path, y_list, y_next, y_table, y_far, y_found, y_who, y_what, y_before, y_tried) (nI t) := by
  have vt : vp_in (nI t) 3 := vp_in_nI ht (by decide)
  have ct : (nI t).toNatClampNeg = t := nI_clamp (by omega)
  unfold wpY_clear
  refine sl_wits (fun _ _ => br_f (by decide) ⟨vt, ?_⟩) (fun z => absurd ((sl_rng (m := 2) (by decide) rfl (by decide)).mpr ⟨t, by omega, rfl⟩) z)
  simp only [ct]
  refine nm_e ⟨vt, nm_r (e' := fun j => nI (sl_un l t 0 j)) (by rw [show (0 : Int32) = nI 0 from rfl, sl_upd]) ?_⟩
  exact sl_yreset (fun u hu => (sl_PV_clr (t := t) P u hu).1) h
theorem sl_xchg {post : Int32 → SX → Prop} {t k0 op a : Nat} (P : sl_PV o g l) (ht : t < 3) (hk : k0 < l t) (gd : sl_good op a)
    (h : post 1 (f_states, 0, f_many, f_endings, f_races, f_kinds, 0, 0, 0, (fun j => nI (sl_un o (5 * t + k0) op j)), (fun j => nI (sl_un g (5 * t + k0) a j)), (fun j => nI (l j)), a_state, a_from, a_by, a_bucket, a_ending, a_first, a_way, a_asleep, a_gone, a_past)) : wpX_change post (f_states, f_known, f_many, f_endings, f_races, f_kinds, f_counted, f_present, f_taken, (fun j => nI (o j)), (fun j => nI (g j)), (fun j => nI (l j)), a_state, a_from, a_by, a_bucket, a_ending, a_first, a_way, a_asleep, a_gone, a_past) (nI t) (nI k0) (nI op) (nI a) := by
  have hl := (P t ht).1
  have g1 := gd.1
  have g2 := gd.2.1
  have vt : vp_in (nI t) 3 := vp_in_nI ht (by decide)
  have ct : (nI t).toNatClampNeg = t := nI_clamp (by omega)
  have e5 : 5 * nI t + nI k0 = nI (5 * t + k0) := sl_e' t k0
  have ci : (nI (5 * t + k0)).toNatClampNeg = 5 * t + k0 := nI_clamp (by omega)
  have vi : vp_in (nI (5 * t + k0)) 15 := vp_in_nI (by omega) (by decide)
  have el : nI (l t) - 1 = nI (l t - 1) := pk_sub (b := 1) (by omega)
  unfold wpX_change
  refine sl_xins (fun _ => ?_) (fun z => absurd ⟨op, a, rfl, rfl, gd⟩ z)
  refine sl_outs (fun _ _ => br_t rfl (br_f (by decide) ⟨vt, ?_⟩)) (fun z => absurd ((sl_rng (m := 2) (by decide) rfl (by decide)).mpr ⟨t, by omega, rfl⟩) z)
  simp only [ct, el, e5, ci]
  refine sl_outs (fun _ _ => br_t rfl ⟨vi, nm_r (e' := fun j => nI (sl_un o (5 * t + k0) op j)) (by rw [sl_by8 (by omega), sl_upd]) ⟨vi, nm_r (e' := fun j => nI (sl_un g (5 * t + k0) a j)) (by rw [sl_by8 (by omega), sl_upd]) h⟩⟩) (fun z => absurd ⟨nI_pos' (by omega), nI_le (by omega) (by omega)⟩ z)
theorem sl_ychg {post : Int32 → SY → Prop} {t k0 op a : Nat} (P : sl_PV o g l) (ht : t < 3) (hk : k0 < l t) (gd : sl_good op a)
    (h : post 1 (0, y_count, 0, y_different, (fun j => nI (sl_un o (5 * t + k0) op j)), (fun j => nI (sl_un g (5 * t + k0) a j)), (fun j => nI (l j)), (vp_updL y_path 0 (lN (sl_yc l 0))), y_list, y_next, y_table, y_far, y_found, y_who, y_what, y_before, y_tried)) : wpY_change post (y_steps, y_count, y_known, y_different, (fun j => nI (o j)), (fun j => nI (g j)), (fun j => nI (l j)), y_path, y_list, y_next, y_table, y_far, y_found, y_who, y_what, y_before, y_tried) (nI t) (nI k0) (nI op) (nI a) := by
  have hl := (P t ht).1
  have vt : vp_in (nI t) 3 := vp_in_nI ht (by decide)
  have ct : (nI t).toNatClampNeg = t := nI_clamp (by omega)
  have e5 : 5 * nI t + nI k0 = nI (5 * t + k0) := sl_e' t k0
  have ci : (nI (5 * t + k0)).toNatClampNeg = 5 * t + k0 := nI_clamp (by omega)
  have vi : vp_in (nI (5 * t + k0)) 15 := vp_in_nI (by omega) (by decide)
  unfold wpY_change
  refine sl_wits (fun _ _ => br_f (by decide) (br_f (nI_pos (by omega)) ⟨vt, ?_⟩)) (fun z => absurd ((sl_rng (m := 2) (by decide) rfl (by decide)).mpr ⟨t, by omega, rfl⟩) z)
  simp only [ct, e5, ci]
  refine br_f (nI_ge hk (by omega)) ?_
  refine sl_yins (fun _ => br_f (by decide) ⟨vi, nm_r (e' := fun j => nI (sl_un o (5 * t + k0) op j)) (by rw [sl_upd]) ⟨vi, nm_r (e' := fun j => nI (sl_un g (5 * t + k0) a j)) (by rw [sl_upd]) ?_⟩⟩) (fun z => absurd ⟨op, a, rfl, rfl, gd⟩ z)
  exact sl_yreset (fun u hu => (P u hu).1) h
theorem sl_xchg_b {post : Int32 → SX → Prop} {p s q r : Int32} (P : sl_PV o g l) (C : ¬ ∃ t k0 op a : Nat, t < 3 ∧ p = nI t ∧ k0 < l t ∧ s = nI k0 ∧ q = nI op ∧ r = nI a ∧ sl_good op a) (h : post 0 (f_states, f_known, f_many, f_endings, f_races, f_kinds, f_counted, f_present, f_taken, (fun j => nI (o j)), (fun j => nI (g j)), (fun j => nI (l j)), a_state, a_from, a_by, a_bucket, a_ending, a_first, a_way, a_asleep, a_gone, a_past)) : wpX_change post (f_states, f_known, f_many, f_endings, f_races, f_kinds, f_counted, f_present, f_taken, (fun j => nI (o j)), (fun j => nI (g j)), (fun j => nI (l j)), a_state, a_from, a_by, a_bucket, a_ending, a_first, a_way, a_asleep, a_gone, a_past) p s q r := by
  unfold wpX_change
  refine sl_xins (fun G => ?_) (fun z => ?_)
  · refine sl_outs (fun a b => br_t rfl (br_f (by decide) ?_)) (fun z => br_f (by decide) h)
    obtain ⟨t, ht, rfl⟩ := nI_of2 (M := 2) (n := 2) (by decide) (Int32.not_lt.mpr a) b
    obtain ⟨op, c, rfl, rfl, gd⟩ := G
    have hl := (P t (by omega)).1
    have ct : (nI t).toNatClampNeg = t := nI_clamp (by omega)
    refine ⟨vp_in_nI (by omega) (by decide), ?_⟩
    simp only [ct]
    refine sl_outs (fun y z => ?_) (fun _ => br_f (by decide) h)
    exfalso
    obtain ⟨k0, hk0, rfl⟩ := nI_of (Int32.not_lt.mpr y)
    apply C
    refine ⟨t, k0, op, c, by omega, rfl, ?_, rfl, rfl, rfl, gd⟩
    by_cases z0 : l t = 0
    · rw [z0] at z
      exact absurd (Int32.le_trans (nI_pos' hk0) z) (by decide)
    · rw [show nI (l t) - 1 = nI (l t - 1) from pk_sub (b := 1) (by omega), nI_leI hk0 (by omega)] at z
      omega
  · refine sl_outs (fun a b => br_t rfl (br_t rfl h)) (fun z => br_f (by decide) h)
theorem sl_ychg_b {post : Int32 → SY → Prop} {p s q r : Int32} (P : sl_PV o g l) (C : ¬ ∃ t k0 op a : Nat, t < 3 ∧ p = nI t ∧ k0 < l t ∧ s = nI k0 ∧ q = nI op ∧ r = nI a ∧ sl_good op a) (h : post 0 (y_steps, y_count, y_known, y_different, (fun j => nI (o j)), (fun j => nI (g j)), (fun j => nI (l j)), y_path, y_list, y_next, y_table, y_far, y_found, y_who, y_what, y_before, y_tried)) : wpY_change post (y_steps, y_count, y_known, y_different, (fun j => nI (o j)), (fun j => nI (g j)), (fun j => nI (l j)), y_path, y_list, y_next, y_table, y_far, y_found, y_who, y_what, y_before, y_tried) p s q r := by
  unfold wpY_change
  refine sl_wits (fun a b => br_f (by decide) ?_) (fun z => br_t rfl h)
  obtain ⟨t, ht, rfl⟩ := nI_of2 (M := 2) (n := 2) (by decide) (Int32.not_lt.mpr a) b
  have hl := (P t (by omega)).1
  have ct : (nI t).toNatClampNeg = t := nI_clamp (by omega)
  refine br_c (fun _ => h) (fun y => ⟨vp_in_nI (by omega) (by decide), ?_⟩)
  simp only [ct]
  obtain ⟨k0, hk0, rfl⟩ := nI_of y
  refine pk_le (l t) k0 (fun _ => h) (fun z => ?_)
  refine sl_yins (fun G => ?_) (fun _ => br_t rfl h)
  obtain ⟨op, c, rfl, rfl, gd⟩ := G
  exact absurd ⟨t, k0, op, c, by omega, rfl, z, rfl, rfl, rfl, gd⟩ C
end
theorem i_vc0 : wpX_init (fun u => wpY_init (fun v => i_Rel 0 u v)) := by
  unfold wpX_init wpY_init
  refine sl_yreset (o := fun _ => 0) (g := fun _ => 0) (l := fun _ => 0) (fun t ht => by decide) ?_
  exact sl_in (h := fun _ => 0) (T := 0) (o := fun _ => 0) (g := fun _ => 0) (l := fun _ => 0) (sl_H0 (fun t ht => ⟨by decide, fun k hk => absurd hk (Nat.not_lt_zero k)⟩)) (Or.inl ⟨rfl, rfl⟩) (Or.inl rfl)
theorem i_vc_add {k : Nat} {u : SX} {v : SY} (I : i_Rel k u v) (hk : k + 5 ≤ 2560) (v1 : Int32) (v2 : Int32) (v3 : Int32) : wpX_add (fun r u' => wpY_add (fun r' v' => r' = r ∧ i_Rel (k + 5) u' v') v v1 v2 v3) u v1 v2 v3 := by
  refine sl_el (P := fun u v => wpX_add (fun r u' => wpY_add (fun r' v' => r' = r ∧ i_Rel (k + 5) u' v') v v1 v2 v3) u v1 v2 v3) I ?_
  intro f_states f_known f_many f_endings f_races f_kinds f_counted f_present f_taken a_op a_arg a_length a_state a_from a_by a_bucket a_ending a_first a_way a_asleep a_gone a_past y_steps y_count y_known y_different y_ops y_args y_length y_path y_list y_next y_table y_far y_found y_who y_what y_before y_tried o g l h T H KN CN
  have P := H.1
  by_cases C : ∃ t op a : Nat, t < 3 ∧ v1 = nI t ∧ v2 = nI op ∧ v3 = nI a ∧ sl_good op a ∧ l t ≠ 5
  · obtain ⟨t, op, a, ht, rfl, rfl, rfl, gd, h5⟩ := C
    refine sl_xadd P ht gd h5 (sl_yadd P ht gd h5 ⟨rfl, ?_⟩)
    exact sl_in (h := fun _ => 0) (T := 0) (sl_H0 (sl_PV_add P ht gd h5)) (Or.inl ⟨rfl, rfl⟩) (Or.inl rfl)
  · exact sl_xadd_b P C (sl_yadd_b P C ⟨rfl, sl_in H KN CN⟩)
theorem i_vc_clear {k : Nat} {u : SX} {v : SY} (I : i_Rel k u v) (hk : k + 5 ≤ 2560) (v1 : Int32) : wpX_clear (fun r u' => wpY_clear (fun r' v' => r' = r ∧ i_Rel (k + 5) u' v') v v1) u v1 := by
  refine sl_el (P := fun u v => wpX_clear (fun r u' => wpY_clear (fun r' v' => r' = r ∧ i_Rel (k + 5) u' v') v v1) u v1) I ?_
  intro f_states f_known f_many f_endings f_races f_kinds f_counted f_present f_taken a_op a_arg a_length a_state a_from a_by a_bucket a_ending a_first a_way a_asleep a_gone a_past y_steps y_count y_known y_different y_ops y_args y_length y_path y_list y_next y_table y_far y_found y_who y_what y_before y_tried o g l h T H KN CN
  have P := H.1
  by_cases C : 0 ≤ v1 ∧ v1 ≤ 2
  · obtain ⟨t, ht, rfl⟩ := (sl_rng (m := 2) (by decide) rfl (by decide)).mp C
    refine sl_xclr (by omega) (sl_yclr P (by omega) ⟨rfl, ?_⟩)
    exact sl_in (h := fun _ => 0) (T := 0) (sl_H0 (sl_PV_clr P)) (Or.inl ⟨rfl, rfl⟩) (Or.inl rfl)
  · unfold wpX_clear
    refine sl_outs (fun a b => absurd ⟨a, b⟩ C) (fun _ => br_f (by decide) ?_)
    unfold wpY_clear
    exact sl_wits (fun a b => absurd ⟨a, b⟩ C) (fun _ => br_t rfl ⟨rfl, sl_in H KN CN⟩)
theorem i_vc_change {k : Nat} {u : SX} {v : SY} (I : i_Rel k u v) (hk : k + 5 ≤ 2560) (v1 : Int32) (v2 : Int32) (v3 : Int32) (v4 : Int32) : wpX_change (fun r u' => wpY_change (fun r' v' => r' = r ∧ i_Rel (k + 5) u' v') v v1 v2 v3 v4) u v1 v2 v3 v4 := by
  refine sl_el (P := fun u v => wpX_change (fun r u' => wpY_change (fun r' v' => r' = r ∧ i_Rel (k + 5) u' v') v v1 v2 v3 v4) u v1 v2 v3 v4) I ?_
  intro f_states f_known f_many f_endings f_races f_kinds f_counted f_present f_taken a_op a_arg a_length a_state a_from a_by a_bucket a_ending a_first a_way a_asleep a_gone a_past y_steps y_count y_known y_different y_ops y_args y_length y_path y_list y_next y_table y_far y_found y_who y_what y_before y_tried o g l h T H KN CN
  have P := H.1
  by_cases C : ∃ t k0 op a : Nat, t < 3 ∧ v1 = nI t ∧ k0 < l t ∧ v2 = nI k0 ∧ v3 = nI op ∧ v4 = nI a ∧ sl_good op a
  · obtain ⟨t, k0, op, a, ht, rfl, hk0, rfl, rfl, rfl, gd⟩ := C
    refine sl_xchg P ht hk0 gd (sl_ychg P ht hk0 gd ⟨rfl, ?_⟩)
    exact sl_in (h := fun _ => 0) (T := 0) (sl_H0 (sl_PV_chg P ht hk0 gd)) (Or.inl ⟨rfl, rfl⟩) (Or.inl rfl)
  · exact sl_xchg_b P C (sl_ychg_b P C ⟨rfl, sl_in H KN CN⟩)
end
section
/-! go, back, now -/
theorem sl_T30 {o g l h : Nat → Nat} {T : Nat} {a_past y_path : Nat → Int64} (H : sl_H o g l h T a_past y_path) : T ≤ 30 := by
  have a := H.2.1 T (Nat.le_refl _)
  have b := sl_rk_le H.1 a.1
  omega
theorem i_vc_go {k : Nat} {u : SX} {v : SY} (I : i_Rel k u v) (hk : k + 5 ≤ 2560) (v1 : Int32) : wpX_go (fun r u' => wpY_go (fun r' v' => r' = r ∧ i_Rel (k + 5) u' v') v v1) u v1 := by
  refine sl_el (P := fun u v => wpX_go (fun r u' => wpY_go (fun r' v' => r' = r ∧ i_Rel (k + 5) u' v') v v1) u v1) I ?_
  intro f_states f_known f_many f_endings f_races f_kinds f_counted f_present f_taken a_op a_arg a_length a_state a_from a_by a_bucket a_ending a_first a_way a_asleep a_gone a_past y_steps y_count y_known y_different y_ops y_args y_length y_path y_list y_next y_table y_far y_found y_who y_what y_before y_tried o g l h T H KN CN
  have P := H.1
  have S := (H.2.1 T (Nat.le_refl _)).1
  have rT := (H.2.1 T (Nat.le_refl _)).2
  have T30 := sl_T30 H
  have vT : vp_in (nI T) 32 := vp_in_nI (by omega) (by decide)
  have cT : (nI T).toNatClampNeg = T := nI_clamp (by omega)
  have yT : y_path (nI T).toNatClampNeg = lN (sl_yc l (h T)) := by rw [cT]; exact H.2.2.2 T (Nat.le_refl _)
  unfold wpX_go
  by_cases C : 0 ≤ v1 ∧ v1 ≤ 2
  · obtain ⟨t, ht2, rfl⟩ := (sl_rng (m := 2) (by decide) rfl (by decide)).mp C
    have ht : t < 3 := by omega
    refine sl_outs (fun _ _ => br_t rfl (sl_xready P S ht (sl_bB (fun z => ?_) (fun z => ?_)))) (fun z => absurd C z)
    · unfold wpY_go
      refine sl_wits (fun _ _ => br_f (by decide) ⟨vT, ?_⟩) (fun z => absurd C z)
      rw [yT]
      exact sl_yready P S ht (sl_bB (fun _ => ⟨rfl, sl_in H KN CN⟩) (fun y => absurd (z.symm.trans y) (by decide)))
    · have Sa := sl_SV_aft P S ht z
      have ra := sl_rk_aft P S ht z
      have r30 := sl_rk_le P Sa
      refine nm_r (nI_1 T) ⟨vT, nm_r (e' := vp_updL a_past T (lN (h T))) (by rw [cT]) (sl_xaft P S ht z ?_)⟩
      unfold wpY_go
      refine sl_wits (fun _ _ => br_f (by decide) ⟨vT, ?_⟩) (fun z => absurd C z)
      rw [yT]
      refine sl_yready P S ht (sl_bB (fun y => absurd (z.symm.trans y) (by decide)) (fun _ => ⟨vT, sl_yaft P S ht z ?_⟩))
      rw [nI_1]
      refine ⟨vp_in_nI (by omega) (by decide), nm_r (e' := vp_updL y_path (T + 1) (lN (sl_yc l (sl_aft o g l (h T) t)))) (by rw [nI_clamp (by omega)]) (nm_e ⟨rfl, ?_⟩)⟩
      have HH : sl_H o g l (sl_un h (T + 1) (sl_aft o g l (h T) t)) (T + 1) (vp_updL a_past T (lN (h T))) (vp_updL y_path (T + 1) (lN (sl_yc l (sl_aft o g l (h T) t)))) := by
        refine ⟨P, fun i hi => ?_, fun i hi => ?_, fun i hi => ?_⟩
        · by_cases y : i = T + 1
          · subst y; rw [sl_un_s]; exact ⟨Sa, by omega⟩
          · rw [sl_un_n y]; exact H.2.1 i (by omega)
        · rw [sl_un_n (by omega)]
          by_cases y : i = T
          · subst y; exact pk_uLs
          · rw [pk_uLn y]; exact H.2.2.1 i (by omega)
        · by_cases y : i = T + 1
          · subst y; rw [sl_un_s]; exact pk_uLs
          · rw [sl_un_n y, pk_uLn y]; exact H.2.2.2 i (by omega)
      have IR := sl_in (k := k + 5) (f_states := f_states) (f_known := 0) (f_many := f_many) (f_endings := f_endings) (f_races := f_races) (f_kinds := f_kinds) (f_counted := 0) (a_state := a_state) (a_from := a_from) (a_by := a_by) (a_bucket := a_bucket) (a_ending := a_ending) (a_first := a_first) (a_way := a_way) (a_asleep := a_asleep) (a_gone := a_gone) (y_count := y_count) (y_known := 0) (y_different := y_different) (y_list := y_list) (y_next := y_next) (y_table := y_table) (y_far := y_far) (y_found := y_found) (y_who := y_who) (y_what := y_what) (y_before := y_before) (y_tried := y_tried) HH (Or.inl ⟨rfl, rfl⟩) (Or.inl rfl)
      rw [sl_un_s] at IR
      exact IR
  · refine sl_outs (fun a b => absurd ⟨a, b⟩ C) (fun _ => br_f (by decide) ?_)
    unfold wpY_go
    exact sl_wits (fun a b => absurd ⟨a, b⟩ C) (fun _ => br_t rfl ⟨rfl, sl_in H KN CN⟩)
theorem i_vc_back {k : Nat} {u : SX} {v : SY} (I : i_Rel k u v) (hk : k + 5 ≤ 2560) : wpX_back (fun r u' => wpY_back (fun r' v' => r' = r ∧ i_Rel (k + 5) u' v') v) u := by
  refine sl_el (P := fun u v => wpX_back (fun r u' => wpY_back (fun r' v' => r' = r ∧ i_Rel (k + 5) u' v') v) u) I ?_
  intro f_states f_known f_many f_endings f_races f_kinds f_counted f_present f_taken a_op a_arg a_length a_state a_from a_by a_bucket a_ending a_first a_way a_asleep a_gone a_past y_steps y_count y_known y_different y_ops y_args y_length y_path y_list y_next y_table y_far y_found y_who y_what y_before y_tried o g l h T H KN CN
  have T30 := sl_T30 H
  unfold wpX_back
  refine pk_eq T 0 (fun z => ?_) (fun z => ?_)
  · unfold wpY_back
    exact br_t (by rw [z]; rfl) ⟨rfl, sl_in H KN CN⟩
  · have e1 : nI T - 1 = nI (T - 1) := pk_sub (b := 1) (by omega)
    rw [e1]
    refine nm_e ⟨vp_in_nI (by omega) (by decide), nm_r (e' := lN (h (T - 1))) (by rw [nI_clamp (by omega)]; exact H.2.2.1 (T - 1) (by omega)) ?_⟩
    unfold wpY_back
    refine br_f (nI_ne0 (by omega) (by omega)) ?_
    rw [e1]
    refine nm_e ⟨rfl, ?_⟩
    exact sl_in (T := T - 1) ⟨H.1, fun i hi => H.2.1 i (by omega), fun i hi => H.2.2.1 i (by omega), fun i hi => H.2.2.2 i (by omega)⟩ (Or.inl ⟨rfl, rfl⟩) (Or.inl rfl)
section
variable {o g l : Nat → Nat}
variable {y_steps : Int32} {y_count : Int32} {y_known : Int32} {y_different : Int32} {y_path : Nat → Int64} {y_list : Nat → Int64} {y_next : Nat → Int32} {y_table : Nat → Int32} {y_far : Nat → Int32} {y_found : Nat → Int32} {y_who : Nat → Int32} {y_what : Nat → Int32} {y_before : Nat → Int64} {y_tried : Nat → Int32}
theorem sl_yrs {post : Int32 → Prop} {n t f : Nat} {x : Int32} (P : sl_PV o g l) (S : sl_SV o l n) (ht : t < 3) (h : wY_now_111 post (lN (sl_yc l n)) y_steps y_count y_known y_different (fun j => nI (o j)) (fun j => nI (g j)) (fun j => nI (l j)) y_path y_list y_next y_table y_far y_found y_who y_what y_before y_tried f (if sl_rdy o g l n t = true then x ||| ((1 : Int32) <<< (nI t &&& 31)) else x) (nI (t + 1))) : wY_now_111 post (lN (sl_yc l n)) y_steps y_count y_known y_different (fun j => nI (o j)) (fun j => nI (g j)) (fun j => nI (l j)) y_path y_list y_next y_table y_far y_found y_who y_what y_before y_tried (f + 1) x (nI t) := by
  refine br_f (nI_ge (b := 3) ht (by decide)) ?_
  refine sl_yready P S ht ?_
  refine sl_bB (fun z => ?_) (fun z => ?_)
  · rw [if_neg (by rw [z]; decide)] at h
    exact nm_r (nI_1 t) h
  · rw [if_pos z] at h
    exact nm_e (nm_r (nI_1 t) h)
end
theorem i_vc_now {k : Nat} {u : SX} {v : SY} (I : i_Rel k u v) (hk : k + 5 ≤ 2560) (v1 : Int32) : wpX_now (fun r => wpY_now (fun r' => r' = r ∧ i_Rel (k + 5) u v) v v1) u v1 := by
  refine sl_el (P := fun u v => wpX_now (fun r => wpY_now (fun r' => r' = r ∧ i_Rel (k + 5) u v) v v1) u v1) I ?_
  intro f_states f_known f_many f_endings f_races f_kinds f_counted f_present f_taken a_op a_arg a_length a_state a_from a_by a_bucket a_ending a_first a_way a_asleep a_gone a_past y_steps y_count y_known y_different y_ops y_args y_length y_path y_list y_next y_table y_far y_found y_who y_what y_before y_tried o g l h T H KN CN
  have P := H.1
  have S := (H.2.1 T (Nat.le_refl _)).1
  have hn := S.1
  have T30 := sl_T30 H
  have hm := sl_yc_lt (l := l) (h T)
  have vT : vp_in (nI T) 32 := vp_in_nI (by omega) (by decide)
  have cT : (nI T).toNatClampNeg = T := nI_clamp (by omega)
  have yT : y_path (nI T).toNatClampNeg = lN (sl_yc l (h T)) := by rw [cT]; exact H.2.2.2 T (Nat.le_refl _)
  have J : i_Rel (k + 5) (f_states, f_known, f_many, f_endings, f_races, f_kinds, f_counted, lN (h T), nI T, (fun j => nI (o j)), (fun j => nI (g j)), (fun j => nI (l j)), a_state, a_from, a_by, a_bucket, a_ending, a_first, a_way, a_asleep, a_gone, a_past) (nI T, y_count, y_known, y_different, (fun j => nI (o j)), (fun j => nI (g j)), (fun j => nI (l j)), y_path, y_list, y_next, y_table, y_far, y_found, y_who, y_what, y_before, y_tried) := sl_in H KN CN
  unfold wpX_now
  by_cases C : 0 ≤ v1 ∧ v1 ≤ 16
  · obtain ⟨w, hw, rfl⟩ := (sl_rng (m := 16) (by decide) rfl (by decide)).mp C
    have c31 : w < 2 ^ 31 := by omega
    have sb : ∀ c, c ≤ w → nI w - nI c = nI (w - c) := fun c hc => pk_sub hc
    refine sl_outs (fun _ _ => br_t rfl ?_) (fun z => absurd C z)
    have Yt : ∀ post : Int32 → Prop, ((4 ≤ nI w → (((7 ≤ nI w → (((10 ≤ nI w → (((12 ≤ nI w → (((15 ≤ nI w → (((nI w = 15 → (wpY_bad (fun r_34 => (post r_34)) (lN (sl_yc l (h T))))) ∧ (¬ nI w = 15 → (∃ n111 : Nat, wY_now_111 post (lN (sl_yc l (h T))) (nI T) y_count y_known y_different (fun j => nI (o j)) (fun j => nI (g j)) (fun j => nI (l j)) y_path y_list y_next y_table y_far y_found y_who y_what y_before y_tried n111 0 0))))) ∧ (¬ 15 ≤ nI w → (wpY_waiting (fun r_35 => (post r_35)) (lN (sl_yc l (h T))) (nI w - 12)))))) ∧ (¬ 12 ≤ nI w → (wpY_owner (fun r_36 => (post (r_36 - 1))) (lN (sl_yc l (h T))) (nI w - 10)))))) ∧ (¬ 10 ≤ nI w → (wpY_place (fun r_37 => (post r_37)) (lN (sl_yc l (h T))) (nI w - 7)))))) ∧ (¬ 7 ≤ nI w → (wpY_acc (fun r_38 => (post r_38)) (lN (sl_yc l (h T))) (nI w - 4)))))) ∧ (¬ 4 ≤ nI w → (wpY_variable (fun r_39 => (post r_39)) (lN (sl_yc l (h T))) (nI w)))) → wpY_now post (nI T, y_count, y_known, y_different, (fun j => nI (o j)), (fun j => nI (g j)), (fun j => nI (l j)), y_path, y_list, y_next, y_table, y_far, y_found, y_who, y_what, y_before, y_tried) (nI w) := by
      intro post z
      unfold wpY_now
      refine ⟨vT, ?_⟩
      rw [yT]
      exact nm_e (br_f (nI_pos c31) (br_t (nI_le (b := 16) hw (by decide)) z))
    refine pk_le 7 w (fun w7 => pk_le 10 w (fun w10 => pk_le 12 w (fun w12 => pk_le 15 w (fun w15 => pk_eq w 15 (fun e15 => ?_) (fun e15 => ?_)) (fun w15 => ?_)) (fun w12 => ?_)) (fun w10 => ?_)) (fun w7 => ?_)
    · refine sl_bits (p := 34) (w := 1) (sl_62 hn) (by decide) (by decide) rfl rfl (Yt _ ?_)
      refine br_t (nI_le (a := 4) (by omega) c31) (br_t (nI_le (a := 7) (by omega) c31) (br_t (nI_le (a := 10) (by omega) c31) (br_t (nI_le (a := 12) (by omega) c31) (br_t (nI_le (a := 15) (by omega) c31) (br_t (by rw [e15]; rfl) (sl_ybad hm ?_))))))
      rw [sl_ho (by decide) (by decide)]
      exact ⟨rfl, J⟩
    · refine sl_xrset P S (Yt _ ?_)
      refine br_t (nI_le (a := 4) (by omega) c31) (br_t (nI_le (a := 7) (by omega) c31) (br_t (nI_le (a := 10) (by omega) c31) (br_t (nI_le (a := 12) (by omega) c31) (br_t (nI_le (a := 15) (by omega) c31) (br_f (fun z => e15 ((nI_eq (b := 15) c31 (by decide)).mp z)) ⟨4, ?_⟩)))))
      refine sl_yrs (t := 0) P S (by decide) (sl_yrs (t := 1) P S (by decide) (sl_yrs (t := 2) P S (by decide) (br_t (by decide) ?_)))
      rw [sl_ors]
      exact ⟨rfl, J⟩
    · have e : nI w - 12 = nI (w - 12) := sb 12 w12
      rw [e]
      refine sl_bwt (t := w - 12) hn (by omega) (Yt _ ?_)
      refine br_t (nI_le (a := 4) (by omega) c31) (br_t (nI_le (a := 7) (by omega) c31) (br_t (nI_le (a := 10) (by omega) c31) (br_t (nI_le (a := 12) (by omega) c31) (br_f (nI_ge (b := 15) (by omega) (by decide)) ?_))))
      rw [e]
      refine sl_ywt hm (by omega) ?_
      rw [sl_ho (by omega) (by omega)]
      exact ⟨rfl, J⟩
    · have e : nI w - 10 = nI (w - 10) := sb 10 w10
      rw [e]
      refine sl_bow (a := w - 10) hn (by omega) (Yt _ ?_)
      refine br_t (nI_le (a := 4) (by omega) c31) (br_t (nI_le (a := 7) (by omega) c31) (br_t (nI_le (a := 10) (by omega) c31) (br_f (nI_ge (b := 12) (by omega) (by decide)) ?_)))
      rw [e]
      refine sl_yow hm (by omega) ?_
      rw [sl_ho (by omega) (by omega)]
      exact ⟨rfl, J⟩
    · have e : nI w - 7 = nI (w - 7) := sb 7 w7
      have f8 := sl_f8 (n := h T) (k := 7 + (w - 7)) (by omega)
      rw [e]
      refine sl_xat P hn (t := w - 7) (by omega) (fun p => ?_) (fun p => ?_)
      · have hi := sl_ix_lt P (t := w - 7) (by omega) p
        refine br_t (nI_pos' (by omega)) (Yt _ ?_)
        refine br_t (nI_le (a := 4) (by omega) c31) (br_t (nI_le (a := 7) (by omega) c31) (br_f (nI_ge (b := 10) (by omega) (by decide)) ?_))
        rw [e]
        refine sl_ypl hm (by omega) ?_
        rw [sl_hp (by omega), if_pos p]
        refine ⟨?_, J⟩
        have e5 : 5 * nI (w - 7) = nI (5 * (w - 7)) := pk_mul 5 _
        rw [e5]
        unfold sl_ix
        rw [pk_sub (by omega), Nat.add_sub_cancel_left]
      · refine br_f (by decide) (Yt _ ?_)
        refine br_t (nI_le (a := 4) (by omega) c31) (br_t (nI_le (a := 7) (by omega) c31) (br_f (nI_ge (b := 10) (by omega) (by decide)) ?_))
        rw [e]
        refine sl_ypl hm (by omega) ?_
        rw [sl_hp (by omega), if_neg p]
        exact ⟨rfl, J⟩
    · refine sl_bits (p := 3 * w) (w := 3) (sl_62 hn) (by omega) (by decide) (pk_mul 3 w) rfl ?_
      have ef : sl_g (h T) (3 * w) 3 = sl_f (h T) w := by
        unfold sl_f
        rw [sl_px3 (by omega), sl_wd3 (by omega)]
      rw [ef]
      refine Yt _ ?_
      refine pk_le 4 w (fun w4 => br_f (nI_ge (b := 7) (by omega) (by decide)) ?_) (fun w4 => ?_)
      · rw [show nI w - 4 = nI (w - 4) from sb 4 w4]
        refine sl_yacc hm (by omega) ?_
        rw [sl_ho (by omega) (by omega), show 4 + (w - 4) = w by omega]
        exact ⟨rfl, J⟩
      · refine sl_yvar hm (by omega) ?_
        rw [sl_ho (by omega) (by omega)]
        exact ⟨rfl, J⟩
  · refine sl_outs (fun a b => absurd ⟨a, b⟩ C) (fun _ => br_f (by decide) ?_)
    unfold wpY_now
    refine ⟨vT, nm_e (br_c (fun _ => ⟨rfl, J⟩) (fun a => br_c (fun b => absurd ⟨Int32.not_lt.mp a, b⟩ C) (fun _ => ⟨rfl, J⟩)))⟩
end
section
/-! states, race, meet -/
section
variable {o g l : Nat → Nat} {s0 : Nat}
variable {f_states : Int32} {f_known : Int32} {f_many : Int32} {f_endings : Int32} {f_races : Int32} {f_kinds : Int32} {f_counted : Int32} {f_present : Int64} {f_taken : Int32} {a_state : Nat → Int64} {a_from : Nat → Int32} {a_by : Nat → Int32} {a_bucket : Nat → Int32} {a_ending : Nat → Int64} {a_first : Nat → Int32} {a_way : Nat → Int64} {a_asleep : Nat → Int32} {a_gone : Nat → Int32} {a_past : Nat → Int64}
variable {y_steps : Int32} {y_count : Int32} {y_known : Int32} {y_different : Int32} {y_path : Nat → Int64} {y_list : Nat → Int64} {y_next : Nat → Int32} {y_table : Nat → Int32} {y_far : Nat → Int32} {y_found : Nat → Int32} {y_who : Nat → Int32} {y_what : Nat → Int32} {y_before : Nat → Int64} {y_tried : Nat → Int32}
theorem sl_xk {post : SX → Prop} (P : sl_PV o g l) (S0 : sl_SV o l s0) (hK : f_known = 0 ∨ (f_known = 1 ∧ sl_KX o g l s0 f_states f_many f_races f_endings a_state a_from a_by a_ending a_first))
    (hp : ∀ fs fm R E ast afr aby abk A Fi, sl_KX o g l s0 fs fm R E ast afr aby A Fi → post (fs, 1, fm, E, R, f_kinds, f_counted, (lN s0), f_taken, (fun j => nI (o j)), (fun j => nI (g j)), (fun j => nI (l j)), ast, afr, aby, abk, A, Fi, a_way, a_asleep, a_gone, a_past)) : wpX_know post (f_states, f_known, f_many, f_endings, f_races, f_kinds, f_counted, (lN s0), f_taken, (fun j => nI (o j)), (fun j => nI (g j)), (fun j => nI (l j)), a_state, a_from, a_by, a_bucket, a_ending, a_first, a_way, a_asleep, a_gone, a_past) := by
  rcases hK with rfl | ⟨rfl, K⟩
  · exact sl_xknow0 P S0 hp
  · unfold wpX_know
    exact br_f (by decide) (hp _ _ _ _ _ _ _ _ _ _ K)
theorem sl_yk {post : Int32 → SY → Prop} {T : Nat} (P : sl_PV o g l) (S0 : sl_SV o l s0) (hT : T < 32) (e0 : y_path T = lN (sl_yc l s0)) (hK : y_known = 0 ∨ (y_known = 1 ∧ sl_KY o g l s0 y_count y_list y_next))
    (hp : ∀ ct ls nx tb, sl_KY o g l s0 ct ls nx → wY_know_175 post (nI T) ct 1 y_different (fun j => nI (o j)) (fun j => nI (g j)) (fun j => nI (l j)) y_path ls nx tb y_far y_found y_who y_what y_before y_tried) : wpY_know post ((nI T), y_count, y_known, y_different, (fun j => nI (o j)), (fun j => nI (g j)), (fun j => nI (l j)), y_path, y_list, y_next, y_table, y_far, y_found, y_who, y_what, y_before, y_tried) := by
  rcases hK with rfl | ⟨rfl, K⟩
  · exact sl_yknow0 P S0 hT e0 hp
  · unfold wpY_know
    exact br_f (by decide) (hp _ _ _ _ K)
end
theorem sl_KN_x {o g l : Nat → Nat} {s0 : Nat} {f_known y_known f_states f_many f_races f_endings : Int32} {a_state : Nat → Int64} {a_from a_by : Nat → Int32} {a_ending : Nat → Int64} {a_first : Nat → Int32} {y_count : Int32} {y_list : Nat → Int64} {y_next : Nat → Int32} (h : sl_KN o g l s0 f_known y_known f_states f_many f_races f_endings a_state a_from a_by a_ending a_first y_count y_list y_next) :
    (f_known = 0 ∨ (f_known = 1 ∧ sl_KX o g l s0 f_states f_many f_races f_endings a_state a_from a_by a_ending a_first)) ∧ (y_known = 0 ∨ (y_known = 1 ∧ sl_KY o g l s0 y_count y_list y_next)) := by
  rcases h with ⟨a, b⟩ | ⟨a, b, c, d⟩
  · exact ⟨Or.inl a, Or.inl b⟩
  · exact ⟨Or.inr ⟨a, c⟩, Or.inr ⟨b, d⟩⟩
theorem i_vc_states {k : Nat} {u : SX} {v : SY} (I : i_Rel k u v) (hk : k + 5 ≤ 2560) : wpX_states (fun r u' => wpY_states (fun r' v' => r' = r ∧ i_Rel (k + 5) u' v') v) u := by
  refine sl_el (P := fun u v => wpX_states (fun r u' => wpY_states (fun r' v' => r' = r ∧ i_Rel (k + 5) u' v') v) u) I ?_
  intro f_states f_known f_many f_endings f_races f_kinds f_counted f_present f_taken a_op a_arg a_length a_state a_from a_by a_bucket a_ending a_first a_way a_asleep a_gone a_past y_steps y_count y_known y_different y_ops y_args y_length y_path y_list y_next y_table y_far y_found y_who y_what y_before y_tried o g l h T H KN CN
  have P := H.1
  have S := (H.2.1 T (Nat.le_refl _)).1
  have T30 := sl_T30 H
  have eT := H.2.2.2 T (Nat.le_refl _)
  obtain ⟨hx, hy⟩ := sl_KN_x KN
  unfold wpX_states
  refine sl_xk P S hx (fun fs fm R E ast afr aby abk A Fi kx => ?_)
  have kx' := kx
  rcases kx with ⟨rfl, K, a1, a2, rfl, a4⟩ | ⟨rfl, j, a1⟩
  · refine br_t rfl ?_
    unfold wpY_states
    refine sl_yk P S (by omega) eT hy (fun ct ls nx tb ky => ?_)
    have ky' := ky
    rcases ky with ⟨K', b1, b2, rfl, b4⟩ | ⟨rfl, j, b1⟩
    · obtain rfl := sl_fin_u a2 b2
      exact br_f (nI_nlt (a := 1200) b1 (by decide)) (br_f (by decide) ⟨rfl, sl_in H (Or.inr ⟨rfl, rfl, kx', ky'⟩) CN⟩)
    · have := sl_fin_m (j := j) a2; omega
  · refine br_f (by decide) ?_
    unfold wpY_states
    refine sl_yk P S (by omega) eT hy (fun ct ls nx tb ky => ?_)
    have ky' := ky
    rcases ky with ⟨K', b1, b2, rfl, b4⟩ | ⟨rfl, j', b1⟩
    · have := sl_fin_m (j := j) b2; omega
    · exact br_t (by decide) (br_t rfl ⟨rfl, sl_in H (Or.inr ⟨rfl, rfl, kx', ky'⟩) CN⟩)
/-! race -/
theorem sl_rbit {R : Int32} {v : Nat} (hv : v < 4) : (R >>> (nI v &&& 31)) &&& 1 = sl_B (bt R v) := by
  have b1 : ∀ i, i < 32 → bt 1 i = decide (i = 0) := by decide +kernel
  apply b_ext
  intro i hi
  rw [b_and, b1 i hi]
  have c0 : ∀ c : Bool, bt (sl_B c) i = (decide (i = 0) && c) := by
    intro c
    cases c
    · rw [Bool.and_false]; exact b_0 i
    · rw [Bool.and_true]; exact b1 i hi
  rw [c0]
  by_cases z : i = 0
  · subst z
    rw [b_sshr v (by omega) R (by decide), if_pos (by omega), Nat.add_zero, Bool.and_comm]
  · rw [decide_eq_false z, Bool.and_false, Bool.false_and]
def sl_rr (o g l : Nat → Nat) (n v p : Nat) : Bool := sl_pr o g l n p ((p + 1) % 3) && decide (g (sl_ix n p) = v)
theorem sl_tch_sym {o g : Nat → Nat} {i j : Nat} : sl_tch o g i j = sl_tch o g j i := by
  have key : ∀ i j, sl_tch o g i j = true → sl_tch o g j i = true := by
    intro i j h
    obtain ⟨h1, h2⟩ := sl_tch_iff.mp h
    refine sl_tch_iff.mpr ⟨h1.symm, ?_⟩
    rcases h2 with z | z
    · exact Or.inl ⟨z.2, z.1⟩
    · exact Or.inr ⟨z.2.1, z.1, z.2.2.symm⟩
  cases h : sl_tch o g i j
  · cases h2 : sl_tch o g j i
    · rfl
    · rw [key j i h2] at h; exact absurd h (by decide)
  · exact (key i j h).symm
theorem sl_pr_iff {o g l : Nat → Nat} {n t u : Nat} : sl_pr o g l n t u = true ↔ sl_f n (7 + t) < l t ∧ sl_f n (7 + u) < l u ∧ o (sl_ix n t) < 4 ∧ sl_tch o g (sl_ix n t) (sl_ix n u) = true := by
  unfold sl_pr
  simp only [Bool.and_eq_true, decide_eq_true_iff, and_assoc]
theorem sl_pr_sym {o g l : Nat → Nat} {n t u : Nat} (h : sl_pr o g l n t u = true) : sl_pr o g l n u t = true ∧ g (sl_ix n t) = g (sl_ix n u) := by
  obtain ⟨h1, h2, h3, h4⟩ := sl_pr_iff.mp h
  obtain ⟨e, q⟩ := sl_tch_iff.mp h4
  have q4 : o (sl_ix n u) < 4 := by
    rcases q with q | q
    · have := sl_lk_iff.mp q.1; omega
    · exact q.2.1
  exact ⟨sl_pr_iff.mpr ⟨h2, h1, q4, by rw [sl_tch_sym]; exact h4⟩, e⟩
theorem sl_rc_rr {o g l : Nat → Nat} {n v : Nat} : sl_rc o g l n v = true ↔ ∃ p, p < 3 ∧ sl_rr o g l n v p = true := by
  have a : sl_rc o g l n v = true ↔ (sl_pr o g l n 0 1 = true ∧ v = g (sl_ix n 0)) ∨ (sl_pr o g l n 0 2 = true ∧ v = g (sl_ix n 0)) ∨ (sl_pr o g l n 1 2 = true ∧ v = g (sl_ix n 1)) := by
    unfold sl_rc
    simp only [Bool.or_eq_true, Bool.and_eq_true, decide_eq_true_iff, or_assoc]
  have b : ∀ p, sl_rr o g l n v p = true ↔ sl_pr o g l n p ((p + 1) % 3) = true ∧ g (sl_ix n p) = v := by
    intro p
    unfold sl_rr
    simp only [Bool.and_eq_true, decide_eq_true_iff]
  rw [a]
  constructor
  · rintro (h | h | h)
    · exact ⟨0, by decide, (b 0).mpr ⟨h.1, h.2.symm⟩⟩
    · have s := sl_pr_sym h.1
      exact ⟨2, by decide, (b 2).mpr ⟨s.1, by rw [← s.2]; exact h.2.symm⟩⟩
    · exact ⟨1, by decide, (b 1).mpr ⟨h.1, h.2.symm⟩⟩
  · rintro ⟨p, hp, h⟩
    obtain ⟨h1, h2⟩ := (b p).mp h
    have c : p = 0 ∨ p = 1 ∨ p = 2 := by omega
    rcases c with rfl | rfl | rfl
    · exact Or.inl ⟨h1, h2.symm⟩
    · exact Or.inr (Or.inr ⟨h1, h2.symm⟩)
    · have s := sl_pr_sym h1
      exact Or.inr (Or.inl ⟨s.1, by rw [← h2]; exact s.2⟩)
section
variable {o g l : Nat → Nat}
variable {y_steps : Int32} {y_count : Int32} {y_known : Int32} {y_different : Int32} {y_path : Nat → Int64} {y_list : Nat → Int64} {y_next : Nat → Int32} {y_table : Nat → Int32} {y_far : Nat → Int32} {y_found : Nat → Int32} {y_who : Nat → Int32} {y_what : Nat → Int32} {y_before : Nat → Int64} {y_tried : Nat → Int32}
theorem sl_yraces {post : Int32 → Prop} {n v t u : Nat} (P : sl_PV o g l) (S : sl_SV o l n) (hv : v < 4) (ht : t < 3) (hu : u < 3) (h : post (sl_B (sl_pr o g l n t u && decide (g (sl_ix n t) = v)))) : wpY_races post (y_steps, y_count, y_known, y_different, (fun j => nI (o j)), (fun j => nI (g j)), (fun j => nI (l j)), y_path, y_list, y_next, y_table, y_far, y_found, y_who, y_what, y_before, y_tried) (lN (sl_yc l n)) (nI v) (nI t) (nI u) := by
  have hm := sl_yc_lt (l := l) n
  have lt := (P t ht).1
  have lu := (P u hu).1
  unfold wpY_races
  have F : sl_pr o g l n t u = false → post 0 := fun z => by rw [z, Bool.false_and] at h; exact h
  have e5 : ∀ x A B, sl_f n (7 + x) < l x → l x ≤ 5 → B → ((nI (sl_f n (7 + x)) = 5 → A) ∧ (¬ nI (sl_f n (7 + x)) = 5 → B)) := fun x A B h1 h2 b => pk_eq (sl_f n (7 + x)) 5 (fun z => absurd z (by omega)) (fun _ => b)
  refine sl_ypl hm ht (sl_ypl hm hu ?_)
  rw [sl_hp ht, sl_hp hu]
  by_cases pt : sl_f n (7 + t) < l t
  · rw [if_pos pt]
    refine e5 t _ _ pt lt ?_
    by_cases pu : sl_f n (7 + u) < l u
    · rw [if_pos pu]
      refine e5 u _ _ pu lu ?_
      have hi := sl_ix_lt P ht pt
      have hj := sl_ix_lt P hu pu
      have G := sl_pv P ht pt
      have Gu := sl_pv P hu pu
      have g7 := G.2.1
      refine nm_r (e' := nI (sl_ix n t)) (sl_e' t _) (nm_r (e' := nI (sl_ix n u)) (sl_e' u _) ⟨vp_in_nI hi (by decide), ?_⟩)
      rw [nI_clamp (show sl_ix n t < 2 ^ 31 by omega)]
      refine sl_isVar G.1 (sl_bB (fun z => F ?_) (fun z => ⟨vp_in_nI hi (by decide), ?_⟩))
      · unfold sl_pr; rw [z, Bool.and_false, Bool.false_and]
      · refine pk_eq (g (sl_ix n t)) v (fun e => ?_) (fun e => ?_)
        · refine sl_ytch hi hj G Gu (sl_bB (fun y => F ?_) (fun y => ?_))
          · unfold sl_pr; rw [y, Bool.and_false]
          · unfold sl_pr at h
            rw [y, z, decide_eq_true pt, decide_eq_true pu, decide_eq_true e] at h
            exact h
        · rw [decide_eq_false e, Bool.and_false] at h; exact h
    · rw [if_neg pu]
      refine br_t rfl (F ?_)
      unfold sl_pr; rw [decide_eq_false pu, Bool.and_false, Bool.false_and, Bool.false_and]
  · rw [if_neg pt]
    refine br_t rfl (F ?_)
    unfold sl_pr; rw [decide_eq_false pt, Bool.false_and, Bool.false_and, Bool.false_and]
theorem sl_y33 {post : Int32 → SY → Prop} {J23 : Int32 → Prop} {n v p f i : Nat} (P : sl_PV o g l) (S : sl_SV o l n) (hv : v < 4) (hp : p < 3) (hi : i < 1201) (el : y_list i = lN (sl_yc l n)) (h1 : sl_rr o g l n v p = true → post 1 (y_steps, y_count, y_known, y_different, (fun j => nI (o j)), (fun j => nI (g j)), (fun j => nI (l j)), y_path, y_list, y_next, y_table, y_far, y_found, y_who, y_what, y_before, y_tried)) (h0 : sl_rr o g l n v p = false → wY_race_33 post J23 (nI v) (nI i) y_steps y_count y_known y_different (fun j => nI (o j)) (fun j => nI (g j)) (fun j => nI (l j)) y_path y_list y_next y_table y_far y_found y_who y_what y_before y_tried f (nI (p + 1))) : wY_race_33 post J23 (nI v) (nI i) y_steps y_count y_known y_different (fun j => nI (o j)) (fun j => nI (g j)) (fun j => nI (l j)) y_path y_list y_next y_table y_far y_found y_who y_what y_before y_tried (f + 1) (nI p) := by
  refine br_f (nI_ge (b := 3) hp (by decide)) ⟨vp_in_nI hi (by decide), by decide, ?_⟩
  rw [nI_clamp (show i < 2 ^ 31 by omega), el, nI_1, show nI (p + 1) - nI (p + 1) / 3 * 3 = nI ((p + 1) % 3) from pk_rem (d := 3) (by omega) (by decide) (by decide)]
  refine sl_yraces P S hv hp (Nat.mod_lt _ (by decide)) ?_
  exact sl_bB (fun z => nm_e (h0 z)) (fun z => h1 z)
theorem sl_y23 {post : Int32 → SY → Prop} {K v : Nat} {st : Nat → Nat} (P : sl_PV o g l) (hS : ∀ i, i < K → sl_SV o l (st i)) (hK : K ≤ 1200) (hv : v < 4) (el : ∀ i, i < K → y_list i = lN (sl_yc l (st i))) :
    ∀ d i, i + d = K → ((∃ q, i ≤ q ∧ q < K ∧ sl_rc o g l (st q) v = true) → post 1 (y_steps, nI K, y_known, y_different, (fun j => nI (o j)), (fun j => nI (g j)), (fun j => nI (l j)), y_path, y_list, y_next, y_table, y_far, y_found, y_who, y_what, y_before, y_tried)) → ((∀ q, i ≤ q → q < K → sl_rc o g l (st q) v = false) → post 0 (y_steps, nI K, y_known, y_different, (fun j => nI (o j)), (fun j => nI (g j)), (fun j => nI (l j)), y_path, y_list, y_next, y_table, y_far, y_found, y_who, y_what, y_before, y_tried)) → wY_race_23 post (nI v) y_steps (nI K) y_known y_different (fun j => nI (o j)) (fun j => nI (g j)) (fun j => nI (l j)) y_path y_list y_next y_table y_far y_found y_who y_what y_before y_tried (d + 1) (nI i) := by
  intro d
  induction d with
  | zero =>
    intro i hi h1 h0
    exact br_t (nI_le (by omega) (by omega)) (h0 (fun q a b => by omega))
  | succ d ih =>
    intro i hi h1 h0
    have Si := hS i (by omega)
    have ei := el i (by omega)
    have yes : ∀ p, p < 3 → sl_rr o g l (st i) v p = true → post 1 (y_steps, nI K, y_known, y_different, (fun j => nI (o j)), (fun j => nI (g j)), (fun j => nI (l j)), y_path, y_list, y_next, y_table, y_far, y_found, y_who, y_what, y_before, y_tried) := fun p hp z => h1 ⟨i, Nat.le_refl _, by omega, sl_rc_rr.mpr ⟨p, hp, z⟩⟩
    refine br_f (nI_ge (by omega) (by omega)) ⟨4, ?_⟩
    refine sl_y33 (p := 0) P Si hv (by decide) (by omega) ei (yes 0 (by decide)) (fun z0 => sl_y33 (p := 1) P Si hv (by decide) (by omega) ei (yes 1 (by decide)) (fun z1 => sl_y33 (p := 2) P Si hv (by decide) (by omega) ei (yes 2 (by decide)) (fun z2 => br_t (by decide) (nm_r (nI_1 i) (ih (i + 1) (by omega) ?_ ?_)))))
    · rintro ⟨q, a, b, c⟩
      exact h1 ⟨q, by omega, b, c⟩
    · intro hq
      refine h0 (fun q a b => ?_)
      by_cases e : q = i
      · subst e
        refine ts_nt (fun z => ?_)
        obtain ⟨p, hp, y⟩ := sl_rc_rr.mp z
        have c : p = 0 ∨ p = 1 ∨ p = 2 := by omega
        rcases c with rfl | rfl | rfl
        · rw [z0] at y; exact absurd y (by decide)
        · rw [z1] at y; exact absurd y (by decide)
        · rw [z2] at y; exact absurd y (by decide)
      · exact hq q (by omega) b
end
theorem i_vc_race {k : Nat} {u : SX} {v : SY} (I : i_Rel k u v) (hk : k + 5 ≤ 2560) (v1 : Int32) : wpX_race (fun r u' => wpY_race (fun r' v' => r' = r ∧ i_Rel (k + 5) u' v') v v1) u v1 := by
  refine sl_el (P := fun u v => wpX_race (fun r u' => wpY_race (fun r' v' => r' = r ∧ i_Rel (k + 5) u' v') v v1) u v1) I ?_
  intro f_states f_known f_many f_endings f_races f_kinds f_counted f_present f_taken a_op a_arg a_length a_state a_from a_by a_bucket a_ending a_first a_way a_asleep a_gone a_past y_steps y_count y_known y_different y_ops y_args y_length y_path y_list y_next y_table y_far y_found y_who y_what y_before y_tried o g l h T H KN CN
  have P := H.1
  have S := (H.2.1 T (Nat.le_refl _)).1
  have T30 := sl_T30 H
  have eT := H.2.2.2 T (Nat.le_refl _)
  obtain ⟨hx, hy⟩ := sl_KN_x KN
  unfold wpX_race
  by_cases C : 0 ≤ v1 ∧ v1 ≤ 3
  · obtain ⟨w, hw, rfl⟩ := (sl_rng (m := 3) (by decide) rfl (by decide)).mp C
    refine sl_outs (fun _ _ => br_t rfl ?_) (fun z => absurd C z)
    refine sl_xk P S hx (fun fs fm R E ast afr aby abk A Fi kx => ?_)
    have kx' := kx
    rcases kx with ⟨rfl, K, a1, a2, rfl, a4⟩ | ⟨rfl, j, a1⟩
    · refine br_t rfl ?_
      unfold wpY_race
      refine sl_wits (fun _ _ => br_f (by decide) ?_) (fun z => absurd C z)
      refine sl_yk P S (by omega) eT hy (fun ct ls nx tb ky => ?_)
      have ky' := ky
      rcases ky with ⟨K', b1, b2, rfl, b4⟩ | ⟨rfl, j, b1⟩
      · obtain rfl := sl_fin_u a2 b2
        have I := sl_inv P S (3 * K)
        rw [a2] at I
        refine br_f (nI_nlt (a := 1200) b1 (by decide)) (br_f (by decide) ⟨K + 1, ?_⟩)
        have L1 := a4.2.2.2.1 w (by omega)
        refine sl_y23 P (fun i hi => I.2.2.1 i hi) b1 (by omega) b4.1 K 0 (by omega) (fun q => ⟨?_, sl_in H (Or.inr ⟨rfl, rfl, kx', ky'⟩) CN⟩) (fun q => ⟨?_, sl_in H (Or.inr ⟨rfl, rfl, kx', ky'⟩) CN⟩)
        · obtain ⟨i, _, hi, z⟩ := q
          rw [sl_rbit (by omega), sl_B1 (L1.mpr ⟨i, hi, z⟩)]
        · rw [sl_rbit (by omega), sl_B0 (ts_nt (fun y => ?_))]
          obtain ⟨i, hi, z⟩ := L1.mp y
          rw [q i (Nat.zero_le _) hi] at z
          exact absurd z (by decide)
      · have := sl_fin_m (j := j) a2; omega
    · refine br_f (by decide) ?_
      unfold wpY_race
      refine sl_wits (fun _ _ => br_f (by decide) ?_) (fun z => absurd C z)
      refine sl_yk P S (by omega) eT hy (fun ct ls nx tb ky => ?_)
      have ky' := ky
      rcases ky with ⟨K', b1, b2, rfl, b4⟩ | ⟨rfl, j', b1⟩
      · have := sl_fin_m (j := j) b2; omega
      · exact br_t (by decide) (br_t rfl ⟨rfl, sl_in H (Or.inr ⟨rfl, rfl, kx', ky'⟩) CN⟩)
  · refine sl_outs (fun a b => absurd ⟨a, b⟩ C) (fun _ => br_f (by decide) ?_)
    unfold wpY_race
    exact sl_wits (fun a b => absurd ⟨a, b⟩ C) (fun _ => br_t rfl ⟨rfl, sl_in H KN CN⟩)
/-! meet -/
def sl_plc (l : Nat → Nat) (n t : Nat) : Nat := if sl_f n (7 + t) < l t then sl_f n (7 + t) else 5
def sl_mp (l st : Nat → Nat) (t a u b i : Nat) : Bool := decide (sl_plc l (st i) t = a) && decide (sl_plc l (st i) u = b)
section
variable {o g l : Nat → Nat}
variable {f_states : Int32} {f_known : Int32} {f_many : Int32} {f_endings : Int32} {f_races : Int32} {f_kinds : Int32} {f_counted : Int32} {f_present : Int64} {f_taken : Int32} {a_state : Nat → Int64} {a_from : Nat → Int32} {a_by : Nat → Int32} {a_bucket : Nat → Int32} {a_ending : Nat → Int64} {a_first : Nat → Int32} {a_way : Nat → Int64} {a_asleep : Nat → Int32} {a_gone : Nat → Int32} {a_past : Nat → Int64}
variable {y_steps : Int32} {y_count : Int32} {y_known : Int32} {y_different : Int32} {y_path : Nat → Int64} {y_list : Nat → Int64} {y_next : Nat → Int32} {y_table : Nat → Int32} {y_far : Nat → Int32} {y_found : Nat → Int32} {y_who : Nat → Int32} {y_what : Nat → Int32} {y_before : Nat → Int64} {y_tried : Nat → Int32}
theorem sl_xm64 {post : Int32 → SX → Prop} {K t a u b : Nat} {st : Nat → Nat} (P : sl_PV o g l) (hS : ∀ i, i < K → sl_SV o l (st i)) (hK : K ≤ 1200) (ht : t < 3) (hu : u < 3) (ha : a ≤ 5) (hb : b ≤ 5) (es : ∀ i, i < K → a_state i = lN (st i)) (h : post (nI (sl_cs (sl_mp l st t a u b) K)) (nI K, f_known, f_many, f_endings, f_races, f_kinds, f_counted, f_present, f_taken, (fun j => nI (o j)), (fun j => nI (g j)), (fun j => nI (l j)), a_state, a_from, a_by, a_bucket, a_ending, a_first, a_way, a_asleep, a_gone, a_past)) :
    ∀ d i, i + d = K → wX_meet_64 post (nI t) (nI a) (nI u) (nI b) (nI K) f_known f_many f_endings f_races f_kinds f_counted f_present f_taken (fun j => nI (o j)) (fun j => nI (g j)) (fun j => nI (l j)) a_state a_from a_by a_bucket a_ending a_first a_way a_asleep a_gone a_past (d + 1) (nI (sl_cs (sl_mp l st t a u b) i)) (nI i) := by
  intro d
  induction d with
  | zero =>
    intro i hi
    have : i = K := by omega
    subst this
    exact br_t (nI_le (Nat.le_refl _) (by omega)) h
  | succ d ih =>
    intro i hi
    have Si := (hS i (by omega)).1
    have vi : vp_in (nI i) 1201 := vp_in_nI (by omega) (by decide)
    have ci : a_state (nI i).toNatClampNeg = lN (st i) := by rw [nI_clamp (by omega)]; exact es i (by omega)
    have ih' := ih (i + 1) (by omega)
    have cs1 : sl_cs (sl_mp l st t a u b) (i + 1) = sl_cs (sl_mp l st t a u b) i + (if sl_mp l st t a u b i = true then 1 else 0) := rfl
    have l5 : ∀ x, x < 3 → sl_plc l (st i) x ≤ 5 := by
      intro x hx
      have := (P x hx).1
      unfold sl_plc
      split <;> omega
    refine br_f (nI_ge (by omega) (by omega)) ⟨vi, ?_⟩
    rw [ci]
    have fin : ∀ r : Int32, (∀ A B : Prop, (sl_plc l (st i) u = b → A) → (sl_plc l (st i) u ≠ b → B) → (((0 ≤ r → ((r - (5 * nI u) = nI b → A) ∧ (¬ r - (5 * nI u) = nI b → B))) ∧ (¬ 0 ≤ r → (((5 : Int32) = nI b → A) ∧ (¬ (5 : Int32) = nI b → B)))))) → wX_meet_116 post (wX_meet_64 post (nI t) (nI a) (nI u) (nI b) (nI K) f_known f_many f_endings f_races f_kinds f_counted f_present f_taken (fun j => nI (o j)) (fun j => nI (g j)) (fun j => nI (l j)) a_state a_from a_by a_bucket a_ending a_first a_way a_asleep a_gone a_past (d + 1)) (nI t) (nI a) (nI u) (nI b) (nI (sl_cs (sl_mp l st t a u b) i)) (nI i) r (nI (sl_plc l (st i) t)) (nI K) f_known f_many f_endings f_races f_kinds f_counted f_present f_taken (fun j => nI (o j)) (fun j => nI (g j)) (fun j => nI (l j)) a_state a_from a_by a_bucket a_ending a_first a_way a_asleep a_gone a_past := by
      intro r hr
      unfold wX_meet_116 wX_meet_135
      refine pk_eq (sl_plc l (st i) t) a (fun ea => ?_) (fun ea => ?_) rfl rfl (by have := l5 t ht; omega) (by omega)
      · refine hr _ _ (fun eb => ?_) (fun eb => ?_)
        · have : sl_mp l st t a u b i = true := by unfold sl_mp; rw [decide_eq_true ea, decide_eq_true eb]; rfl
          rw [cs1, if_pos this] at ih'
          exact nm_r (nI_1 _) (nm_r (nI_1 i) ih')
        · have : sl_mp l st t a u b i = false := by unfold sl_mp; rw [decide_eq_false eb, Bool.and_false]
          rw [cs1, if_neg (by rw [this]; decide), Nat.add_zero] at ih'
          exact nm_r (nI_1 i) ih'
      · have : sl_mp l st t a u b i = false := by unfold sl_mp; rw [decide_eq_false ea, Bool.false_and]
        rw [cs1, if_neg (by rw [this]; decide), Nat.add_zero] at ih'
        exact nm_r (nI_1 i) ih'
    have hr : ∀ x, x < 3 → sl_f (st i) (7 + x) < l x → nI (sl_ix (st i) x) - 5 * nI x = nI (sl_plc l (st i) x) := by
      intro x hx px
      have e5 : 5 * nI x = nI (5 * x) := pk_mul 5 _
      rw [e5]
      unfold sl_ix sl_plc
      rw [pk_sub (by omega), Nat.add_sub_cancel_left, if_pos px]
    have hn : ∀ x, x < 3 → ¬ sl_f (st i) (7 + x) < l x → sl_plc l (st i) x = 5 := fun x hx px => if_neg px
    have second : ∀ z0 : Int32, z0 = nI (sl_plc l (st i) t) → ∀ r : Int32, (sl_f (st i) (7 + u) < l u ∧ r = nI (sl_ix (st i) u) ∨ ¬ sl_f (st i) (7 + u) < l u ∧ r = -1) → wX_meet_116 post (wX_meet_64 post (nI t) (nI a) (nI u) (nI b) (nI K) f_known f_many f_endings f_races f_kinds f_counted f_present f_taken (fun j => nI (o j)) (fun j => nI (g j)) (fun j => nI (l j)) a_state a_from a_by a_bucket a_ending a_first a_way a_asleep a_gone a_past (d + 1)) (nI t) (nI a) (nI u) (nI b) (nI (sl_cs (sl_mp l st t a u b) i)) (nI i) r z0 (nI K) f_known f_many f_endings f_races f_kinds f_counted f_present f_taken (fun j => nI (o j)) (fun j => nI (g j)) (fun j => nI (l j)) a_state a_from a_by a_bucket a_ending a_first a_way a_asleep a_gone a_past := by
      intro z0 e0 r q
      subst e0
      refine fin r (fun A B fa fb => ?_)
      rcases q with ⟨pu, rfl⟩ | ⟨pu, rfl⟩
      · have hj := sl_ix_lt P hu pu
        rw [hr u hu pu]
        exact br_t (nI_pos' (by omega)) (pk_eq (sl_plc l (st i) u) b fa fb rfl rfl (by have := l5 u hu; omega) (by omega))
      · refine br_f (by decide) ?_
        rw [hn u hu pu] at fa fb
        exact pk_eq 5 b fa fb
    refine sl_xat P Si ht (fun pt => ⟨vi, ?_⟩) (fun pt => ⟨vi, ?_⟩)
    · have hi' := sl_ix_lt P ht pt
      refine sl_xat P Si hu (fun pu => ?_) (fun pu => ?_)
      · exact br_t (nI_pos' (by omega)) (second _ (hr t ht pt) _ (Or.inl ⟨pu, rfl⟩))
      · exact br_t (nI_pos' (by omega)) (second _ (hr t ht pt) _ (Or.inr ⟨pu, rfl⟩))
    · refine sl_xat P Si hu (fun pu => ?_) (fun pu => ?_)
      · exact br_f (by decide) (second _ (by rw [hn t ht pt]; rfl) _ (Or.inl ⟨pu, rfl⟩))
      · exact br_f (by decide) (second _ (by rw [hn t ht pt]; rfl) _ (Or.inr ⟨pu, rfl⟩))
theorem sl_ym60 {post : Int32 → SY → Prop} {K t a u b : Nat} {st : Nat → Nat} (P : sl_PV o g l) (hK : K ≤ 1200) (ht : t < 3) (hu : u < 3) (ha : a ≤ 5) (hb : b ≤ 5) (es : ∀ i, i < K → y_list i = lN (sl_yc l (st i))) (h : post (nI (sl_cs (sl_mp l st t a u b) K)) (y_steps, nI K, y_known, y_different, (fun j => nI (o j)), (fun j => nI (g j)), (fun j => nI (l j)), y_path, y_list, y_next, y_table, y_far, y_found, y_who, y_what, y_before, y_tried)) :
    ∀ d i, i + d = K → wY_meet_60 post (nI t) (nI a) (nI u) (nI b) y_steps (nI K) y_known y_different (fun j => nI (o j)) (fun j => nI (g j)) (fun j => nI (l j)) y_path y_list y_next y_table y_far y_found y_who y_what y_before y_tried (d + 1) (nI (sl_cs (sl_mp l st t a u b) i)) (nI i) := by
  intro d
  induction d with
  | zero =>
    intro i hi
    have : i = K := by omega
    subst this
    exact br_t (nI_le (Nat.le_refl _) (by omega)) h
  | succ d ih =>
    intro i hi
    have vi : vp_in (nI i) 1201 := vp_in_nI (by omega) (by decide)
    have ci : y_list (nI i).toNatClampNeg = lN (sl_yc l (st i)) := by rw [nI_clamp (by omega)]; exact es i (by omega)
    have hm := sl_yc_lt (l := l) (st i)
    have ih' := ih (i + 1) (by omega)
    have cs1 : sl_cs (sl_mp l st t a u b) (i + 1) = sl_cs (sl_mp l st t a u b) i + (if sl_mp l st t a u b i = true then 1 else 0) := rfl
    have hp : ∀ x, x < 3 → sl_h (sl_yc l (st i)) (7 + x) = sl_plc l (st i) x := fun x hx => sl_hp hx
    have l5 : ∀ x, x < 3 → sl_plc l (st i) x ≤ 5 := by
      intro x hx
      have := (P x hx).1
      unfold sl_plc
      split <;> omega
    refine br_f (nI_ge (by omega) (by omega)) ⟨vi, ?_⟩
    rw [ci]
    refine sl_ypl hm ht ?_
    rw [hp t ht]
    refine pk_eq (sl_plc l (st i) t) a (fun ea => ⟨vi, sl_ypl hm hu ?_⟩) (fun ea => ?_) rfl rfl (by have := l5 t ht; omega) (by omega)
    · rw [hp u hu]
      refine pk_eq (sl_plc l (st i) u) b (fun eb => ?_) (fun eb => ?_) rfl rfl (by have := l5 u hu; omega) (by omega)
      · have : sl_mp l st t a u b i = true := by unfold sl_mp; rw [decide_eq_true ea, decide_eq_true eb]; rfl
        rw [cs1, if_pos this] at ih'
        exact nm_r (nI_1 _) (nm_r (nI_1 i) ih')
      · have : sl_mp l st t a u b i = false := by unfold sl_mp; rw [decide_eq_false eb, Bool.and_false]
        rw [cs1, if_neg (by rw [this]; decide), Nat.add_zero] at ih'
        exact nm_r (nI_1 i) ih'
    · have : sl_mp l st t a u b i = false := by unfold sl_mp; rw [decide_eq_false ea, Bool.false_and]
      rw [cs1, if_neg (by rw [this]; decide), Nat.add_zero] at ih'
      exact nm_r (nI_1 i) ih'
end
theorem i_vc_meet {k : Nat} {u : SX} {v : SY} (I : i_Rel k u v) (hk : k + 5 ≤ 2560) (v1 : Int32) (v2 : Int32) (v3 : Int32) (v4 : Int32) : wpX_meet (fun r u' => wpY_meet (fun r' v' => r' = r ∧ i_Rel (k + 5) u' v') v v1 v2 v3 v4) u v1 v2 v3 v4 := by
  refine sl_el (P := fun u v => wpX_meet (fun r u' => wpY_meet (fun r' v' => r' = r ∧ i_Rel (k + 5) u' v') v v1 v2 v3 v4) u v1 v2 v3 v4) I ?_
  intro f_states f_known f_many f_endings f_races f_kinds f_counted f_present f_taken a_op a_arg a_length a_state a_from a_by a_bucket a_ending a_first a_way a_asleep a_gone a_past y_steps y_count y_known y_different y_ops y_args y_length y_path y_list y_next y_table y_far y_found y_who y_what y_before y_tried o g l h T H KN CN
  have P := H.1
  have S := (H.2.1 T (Nat.le_refl _)).1
  have T30 := sl_T30 H
  have eT := H.2.2.2 T (Nat.le_refl _)
  obtain ⟨hx, hy⟩ := sl_KN_x KN
  unfold wpX_meet
  refine sl_outs (fun a1 b1 => br_t rfl ?_) (fun z => br_f (by decide) ?_)
  · refine sl_outs (fun a2 b2 => br_t rfl ?_) (fun z => br_f (by decide) ?_)
    · refine br_c (fun e => ?_) (fun e => ?_)
      · unfold wpY_meet
        refine sl_wits (fun _ _ => br_f (by decide) ?_) (fun z => absurd ⟨a1, b1⟩ z)
        exact sl_wits (fun _ _ => br_f (by decide) (br_t e ⟨rfl, sl_in H KN CN⟩)) (fun z => absurd ⟨a2, b2⟩ z)
      · refine sl_outs (fun a3 b3 => br_t rfl ?_) (fun z => br_f (by decide) ?_)
        · refine sl_outs (fun a4 b4 => br_t rfl ?_) (fun z => br_f (by decide) ?_)
          · obtain ⟨t, ht, rfl⟩ := (sl_rng (m := 2) (by decide) rfl (by decide)).mp ⟨a1, b1⟩
            obtain ⟨u, hu, rfl⟩ := (sl_rng (m := 2) (by decide) rfl (by decide)).mp ⟨a2, b2⟩
            obtain ⟨a, ha, rfl⟩ := (sl_rng (m := 5) (by decide) rfl (by decide)).mp ⟨a3, b3⟩
            obtain ⟨b, hb, rfl⟩ := (sl_rng (m := 5) (by decide) rfl (by decide)).mp ⟨a4, b4⟩
            refine sl_xk P S hx (fun fs fm R E ast afr aby abk A Fi kx => ?_)
            have kx' := kx
            have Y : ∀ post : Int32 → SY → Prop, wpY_know (fun r_10 u' => match u' with | (y_steps, y_count, y_known, y_different, y_ops, y_args, y_length, y_path, y_list, y_next, y_table, y_far, y_found, y_who, y_what, y_before, y_tried) => (((r_10 = 0 → (post (-2) (y_steps, y_count, y_known, y_different, y_ops, y_args, y_length, y_path, y_list, y_next, y_table, y_far, y_found, y_who, y_what, y_before, y_tried))) ∧ (¬ r_10 = 0 → (∃ n60 : Nat, wY_meet_60 post (nI t) (nI a) (nI u) (nI b) y_steps y_count y_known y_different y_ops y_args y_length y_path y_list y_next y_table y_far y_found y_who y_what y_before y_tried n60 0 0))))) (nI T, y_count, y_known, y_different, (fun j => nI (o j)), (fun j => nI (g j)), (fun j => nI (l j)), y_path, y_list, y_next, y_table, y_far, y_found, y_who, y_what, y_before, y_tried) → wpY_meet post (nI T, y_count, y_known, y_different, (fun j => nI (o j)), (fun j => nI (g j)), (fun j => nI (l j)), y_path, y_list, y_next, y_table, y_far, y_found, y_who, y_what, y_before, y_tried) (nI t) (nI a) (nI u) (nI b) := by
              intro post q
              unfold wpY_meet
              refine sl_wits (fun _ _ => br_f (by decide) ?_) (fun z => absurd ⟨a1, b1⟩ z)
              refine sl_wits (fun _ _ => br_f (by decide) (br_f e ?_)) (fun z => absurd ⟨a2, b2⟩ z)
              refine sl_wits (fun _ _ => br_f (by decide) ?_) (fun z => absurd ⟨a3, b3⟩ z)
              exact sl_wits (fun _ _ => br_f (by decide) q) (fun z => absurd ⟨a4, b4⟩ z)
            rcases kx with ⟨rfl, K, c1, c2, rfl, c4⟩ | ⟨rfl, j, c1⟩
            · have I := sl_inv P S (3 * K)
              rw [c2] at I
              refine br_t rfl ⟨K + 1, ?_⟩
              refine sl_xm64 (st := sl_st o g l (h T) (3 * K)) P (fun i hi => I.2.2.1 i hi) c1 (by omega) (by omega) ha hb c4.1 ?_ K 0 (by omega)
              refine Y _ (sl_yk P S (by omega) eT hy (fun ct ls nx tb ky => ?_))
              have ky' := ky
              rcases ky with ⟨K', d1, d2, rfl, d4⟩ | ⟨rfl, j, d1⟩
              · obtain rfl := sl_fin_u c2 d2
                refine br_f (nI_nlt (a := 1200) d1 (by decide)) (br_f (by decide) ⟨K + 1, ?_⟩)
                exact sl_ym60 (st := sl_st o g l (h T) (3 * K)) P c1 (by omega) (by omega) ha hb d4.1 ⟨rfl, sl_in H (Or.inr ⟨rfl, rfl, kx', ky'⟩) CN⟩ K 0 (by omega)
              · have := sl_fin_m (j := j) c2; omega
            · refine br_f (by decide) (Y _ (sl_yk P S (by omega) eT hy (fun ct ls nx tb ky => ?_)))
              have ky' := ky
              rcases ky with ⟨K', d1, d2, rfl, d4⟩ | ⟨rfl, j', d1⟩
              · have := sl_fin_m (j := j) d2; omega
              · exact br_t (by decide) (br_t rfl ⟨rfl, sl_in H (Or.inr ⟨rfl, rfl, kx', ky'⟩) CN⟩)
          · unfold wpY_meet
            refine sl_wits (fun _ _ => br_f (by decide) ?_) (fun z => absurd ⟨a1, b1⟩ z)
            refine sl_wits (fun _ _ => br_f (by decide) (br_f e ?_)) (fun z => absurd ⟨a2, b2⟩ z)
            refine sl_wits (fun _ _ => br_f (by decide) ?_) (fun z => absurd ⟨a3, b3⟩ z)
            exact sl_wits (fun x y => absurd ⟨x, y⟩ z) (fun _ => br_t rfl ⟨rfl, sl_in H KN CN⟩)
        · unfold wpY_meet
          refine sl_wits (fun _ _ => br_f (by decide) ?_) (fun z => absurd ⟨a1, b1⟩ z)
          refine sl_wits (fun _ _ => br_f (by decide) (br_f e ?_)) (fun z => absurd ⟨a2, b2⟩ z)
          exact sl_wits (fun x y => absurd ⟨x, y⟩ z) (fun _ => br_t rfl ⟨rfl, sl_in H KN CN⟩)
    · unfold wpY_meet
      refine sl_wits (fun _ _ => br_f (by decide) ?_) (fun z => absurd ⟨a1, b1⟩ z)
      exact sl_wits (fun x y => absurd ⟨x, y⟩ z) (fun _ => br_t rfl ⟨rfl, sl_in H KN CN⟩)
  · unfold wpY_meet
    exact sl_wits (fun x y => absurd ⟨x, y⟩ z) (fun _ => br_t rfl ⟨rfl, sl_in H KN CN⟩)
end
section
/-! endings -/
theorem sl_cs_gap {p : Nat → Bool} {a : Nat} : ∀ d, (∀ e, a ≤ e → e < a + d → p e = false) → sl_cs p (a + d) = sl_cs p a
  | 0, _ => rfl
  | d + 1, h => by
    show sl_cs p (a + d) + (if p (a + d) = true then 1 else 0) = _
    rw [sl_cs_gap d (fun e h1 h2 => h e h1 (by omega)), h (a + d) (by omega) (by omega)]
    rfl
theorem sl_cs_mono {p : Nat → Bool} {a : Nat} : ∀ d, sl_cs p a ≤ sl_cs p (a + d)
  | 0 => Nat.le_refl _
  | d + 1 => by
    show _ ≤ sl_cs p (a + d) + (if p (a + d) = true then 1 else 0)
    have := sl_cs_mono (p := p) (a := a) d
    omega
theorem sl_cs_srt {p : Nat → Bool} {fo : Nat → Nat} {D M : Nat} (hs : ∀ a b, a < b → b < D → fo a < fo b) (hM : ∀ a, a < D → fo a < M) (hp : ∀ e, e < M → (p e = true ↔ ∃ a, a < D ∧ fo a = e)) : (∀ a, a < D → sl_cs p (fo a) = a) ∧ sl_cs p M = D := by
  have nf : ∀ e, e < M → (∀ a, a < D → fo a ≠ e) → p e = false := fun e he h => ts_nt (fun z => by
    obtain ⟨a, ha, q⟩ := (hp e he).mp z
    exact h a ha q)
  have inj : ∀ a b, a < D → b < D → fo a ≤ fo b → a ≤ b := by
    intro a b ha hb h
    rcases Nat.lt_or_ge b a with z | z
    · have := hs b a z ha; omega
    · exact z
  have first : ∀ a, a < D → sl_cs p (fo a) = a := by
    intro a
    induction a with
    | zero =>
      intro h0
      refine sl_cs_0 (fun e he => nf e (by have := hM 0 h0; omega) (fun b hb q => ?_))
      have := inj b 0 hb h0 (by omega)
      have : b = 0 := by omega
      subst this
      omega
    | succ a ih =>
      intro ha
      have lt := hs a (a + 1) (by omega) ha
      have pa : p (fo a) = true := (hp _ (hM a (by omega))).mpr ⟨a, by omega, rfl⟩
      have s1 : sl_cs p (fo a + 1) = a + 1 := by
        show sl_cs p (fo a) + (if p (fo a) = true then 1 else 0) = _
        rw [ih (by omega), if_pos pa]
      have s2 := sl_cs_gap (p := p) (a := fo a + 1) (fo (a + 1) - (fo a + 1)) (fun e h1 h2 => nf e (by have := hM (a + 1) ha; omega) (fun b hb q => by
        have := inj b (a + 1) hb ha (by omega)
        by_cases z : b = a + 1
        · subst z; omega
        · have := inj a b (by omega) hb (by omega)
          have : b = a := by omega
          subst this
          omega))
      rw [show fo a + 1 + (fo (a + 1) - (fo a + 1)) = fo (a + 1) by omega] at s2
      rw [s2, s1]
  refine ⟨first, ?_⟩
  by_cases h0 : D = 0
  · rw [h0]
    exact sl_cs_0 (fun e he => nf e he (fun b hb => by omega))
  · have hl := hM (D - 1) (by omega)
    have pa : p (fo (D - 1)) = true := (hp _ hl).mpr ⟨D - 1, by omega, rfl⟩
    have s1 : sl_cs p (fo (D - 1) + 1) = D := by
      show sl_cs p (fo (D - 1)) + (if p (fo (D - 1)) = true then 1 else 0) = _
      rw [first (D - 1) (by omega), if_pos pa]
      omega
    have s2 := sl_cs_gap (p := p) (a := fo (D - 1) + 1) (M - (fo (D - 1) + 1)) (fun e h1 h2 => nf e (by omega) (fun b hb q => by
      by_cases z : b = D - 1
      · subst z; omega
      · have := hs b (D - 1) (by omega) (by omega)
        omega))
    rw [show fo (D - 1) + 1 + (M - (fo (D - 1) + 1)) = M by omega] at s2
    rw [s2, s1]
/-! the reference's sorted list -/
def sl_GT (o g l st : Nat → Nat) (k D : Nat) (fo : Nat → Nat) : Prop := (∀ a b, a < b → b < D → fo a < fo b) ∧ (∀ e, (∃ a, a < D ∧ fo a = e) ↔ ∃ i, i < k ∧ sl_en o g l (st i) = true ∧ sl_ev l (st i) = e) ∧ D ≤ k
def sl_insf (fo : Nat → Nat) (m v j : Nat) : Nat := if j < m then fo j else if j = m then v else fo (j - 1)
def sl_sf (F : Nat → Int32) (m D j : Nat) : Int32 := if m < j ∧ j ≤ D then F (j - 1) else F j
theorem sl_sf_s {F : Nat → Int32} {m D : Nat} (h : m + 1 ≤ D) : upd (sl_sf F (m + 1) D) (m + 1) (sl_sf F (m + 1) D m) = sl_sf F m D := by
  funext j
  by_cases e : j = m + 1
  · subst e
    rw [pk_us]
    unfold sl_sf
    rw [if_neg (by omega), if_pos ⟨by omega, h⟩, Nat.add_sub_cancel]
  · rw [pk_un e]
    unfold sl_sf
    by_cases c : m < j ∧ j ≤ D
    · rw [if_pos c, if_pos ⟨by omega, c.2⟩]
    · rw [if_neg c, if_neg (fun z => c ⟨by omega, z.2⟩)]
theorem sl_sf_D {F : Nat → Int32} {D : Nat} : sl_sf F D D = F := by
  funext j
  unfold sl_sf
  rw [if_neg (by omega)]
theorem sl_GT_old {o g l st : Nat → Nat} {k D a : Nat} {fo : Nat → Nat} (h : sl_GT o g l st k D fo) (ha : a < D) (e : fo a = sl_ev l (st k)) : sl_GT o g l st (k + 1) D fo := by
  refine ⟨h.1, fun q => ?_, by have := h.2.2; omega⟩
  rw [h.2.1 q]
  constructor
  · rintro ⟨i, hi, z⟩
    exact ⟨i, by omega, z⟩
  · rintro ⟨i, hi, z⟩
    by_cases y : i = k
    · subst y
      exact (h.2.1 q).mp ⟨a, ha, by rw [e]; exact z.2⟩
    · exact ⟨i, by omega, z⟩
theorem sl_GT_no {o g l st : Nat → Nat} {k D : Nat} {fo : Nat → Nat} (h : sl_GT o g l st k D fo) (e : sl_en o g l (st k) = false) : sl_GT o g l st (k + 1) D fo := by
  refine ⟨h.1, fun q => ?_, by have := h.2.2; omega⟩
  rw [h.2.1 q]
  constructor
  · rintro ⟨i, hi, z⟩
    exact ⟨i, by omega, z⟩
  · rintro ⟨i, hi, z⟩
    by_cases y : i = k
    · subst y; rw [e] at z; exact absurd z.1 (by decide)
    · exact ⟨i, by omega, z⟩
theorem sl_GT_new {o g l st : Nat → Nat} {k D m : Nat} {fo : Nat → Nat} (h : sl_GT o g l st k D fo) (hm : m ≤ D) (h1 : ∀ a, a < m → fo a < sl_ev l (st k)) (h2 : m < D → sl_ev l (st k) < fo m) (en : sl_en o g l (st k) = true) : sl_GT o g l st (k + 1) (D + 1) (sl_insf fo m (sl_ev l (st k))) := by
  have lo : ∀ j, j < m → sl_insf fo m (sl_ev l (st k)) j = fo j := fun j hj => if_pos hj
  have mi : sl_insf fo m (sl_ev l (st k)) m = sl_ev l (st k) := by unfold sl_insf; rw [if_neg (by omega), if_pos rfl]
  have hi : ∀ j, m < j → sl_insf fo m (sl_ev l (st k)) j = fo (j - 1) := fun j hj => by unfold sl_insf; rw [if_neg (by omega), if_neg (by omega)]
  have up : ∀ j, m ≤ j → j < D → sl_ev l (st k) < fo j := by
    intro j h3 h4
    by_cases z : j = m
    · subst z; exact h2 h4
    · have := h.1 m j (by omega) h4
      have := h2 (by omega)
      omega
  refine ⟨fun a b hab hb => ?_, fun q => ?_, by have := h.2.2; omega⟩
  · rcases Nat.lt_trichotomy a m with z | z | z
    · rw [lo a z]
      rcases Nat.lt_trichotomy b m with y | y | y
      · rw [lo b y]; exact h.1 a b hab (by omega)
      · rw [y, mi]; exact h1 a z
      · rw [hi b y]
        have := h1 a z
        have := up (b - 1) (by omega) (by omega)
        omega
    · rw [z, mi, hi b (by omega)]
      exact up (b - 1) (by omega) (by omega)
    · rw [hi a z, hi b (by omega)]
      exact h.1 _ _ (by omega) (by omega)
  · constructor
    · rintro ⟨a, ha, e⟩
      rcases Nat.lt_trichotomy a m with z | z | z
      · rw [lo a z] at e
        obtain ⟨i, hi', y⟩ := (h.2.1 q).mp ⟨a, by omega, e⟩
        exact ⟨i, by omega, y⟩
      · rw [z, mi] at e
        exact ⟨k, by omega, en, e⟩
      · rw [hi a z] at e
        obtain ⟨i, hi', y⟩ := (h.2.1 q).mp ⟨a - 1, by omega, e⟩
        exact ⟨i, by omega, y⟩
    · rintro ⟨i, hi', y⟩
      by_cases z : i = k
      · subst z
        exact ⟨m, by omega, by rw [mi]; exact y.2⟩
      · obtain ⟨a, ha, e⟩ := (h.2.1 q).mpr ⟨i, by omega, y⟩
        rcases Nat.lt_or_ge a m with w | w
        · exact ⟨a, by omega, by rw [lo a w]; exact e⟩
        · exact ⟨a + 1, by omega, by rw [hi (a + 1) (by omega), Nat.add_sub_cancel]; exact e⟩
theorem sl_yc12 {l : Nat → Nat} {n : Nat} : sl_g (sl_yc l n) 0 12 = n % 4096 := by
  have e0 : n % 4096 = sl_g n 0 12 := by
    unfold sl_g
    rw [Nat.pow_zero, Nat.div_one]
  rw [e0]
  apply Nat.eq_of_testBit_eq
  intro j
  rw [sl_g_tb, sl_g_tb]
  by_cases h : j < 12
  · rw [decide_eq_true h, Bool.true_and, Bool.true_and, Nat.add_zero]
    have hk : j / 3 < 4 := by omega
    have e := sl_ho (l := l) (n := n) (k := j / 3) (by omega) (by omega)
    unfold sl_h sl_f at e
    rw [sl_py3 (by omega), sl_px3 (by omega), sl_wd3 (by omega)] at e
    exact sl_bit e (by omega) (by omega)
  · rw [decide_eq_false h, Bool.false_and, Bool.false_and]
section
variable {o g l : Nat → Nat}
variable {y_steps : Int32} {y_count : Int32} {y_known : Int32} {y_different : Int32} {y_path : Nat → Int64} {y_list : Nat → Int64} {y_next : Nat → Int32} {y_table : Nat → Int32} {y_far : Nat → Int32} {y_found : Nat → Int32} {y_who : Nat → Int32} {y_what : Nat → Int32} {y_before : Nat → Int64} {y_tried : Nat → Int32}
theorem sl_y127 {post : SY → Prop} {J7 : Int32 → Int32 → (Nat → Int32) → (Nat → Int32) → (Nat → Int32) → (Nat → Int64) → (Nat → Int64) → (Nat → Int32) → (Nat → Int32) → (Nat → Int32) → (Nat → Int32) → (Nat → Int32) → (Nat → Int32) → (Nat → Int64) → (Nat → Int32) → Prop} {i v at0 D : Nat} {F : Nat → Int32} (hD : D ≤ 1200)
    (h : J7 (nI (i + 1)) (nI (D + 1)) (fun j => nI (o j)) (fun j => nI (g j)) (fun j => nI (l j)) y_path y_list y_next y_table y_far (upd (sl_sf F at0 D) at0 (nI v)) y_who y_what y_before y_tried) :
    ∀ d m, at0 + d = m → m ≤ D → wY_gather_127 post J7 (nI i) (nI v) (nI at0) y_steps y_count y_known (nI D) (d + 1) (nI m) (fun j => nI (o j)) (fun j => nI (g j)) (fun j => nI (l j)) y_path y_list y_next y_table y_far (sl_sf F m D) y_who y_what y_before y_tried := by
  intro d
  induction d with
  | zero =>
    intro m hm hmD
    have : at0 = m := by omega
    subst this
    refine br_t (nI_le (Nat.le_refl _) (by omega)) ⟨vp_in_nI (by omega) (by decide), nm_r (e' := upd (sl_sf F at0 D) at0 (nI v)) (by rw [nI_clamp (by omega)]) (nm_r (nI_1 D) (nm_r (nI_1 i) h))⟩
  | succ d ih =>
    intro m hm hmD
    obtain ⟨q, rfl⟩ : ∃ q, m = q + 1 := ⟨m - 1, by omega⟩
    have e1 : nI (q + 1) - 1 = nI q := nI_pred q
    refine br_f (nI_ge (by omega) (by omega)) ⟨by rw [e1]; exact vp_in_nI (by omega) (by decide), vp_in_nI (by omega) (by decide), nm_r (e' := sl_sf F q D) (by rw [e1, nI_clamp (by omega), nI_clamp (by omega), sl_sf_s hmD]) (nm_r (pk_m1 q) (ih q (by omega) (by omega)))⟩
theorem sl_y70 {post : SY → Prop} {J7 : Int32 → Int32 → (Nat → Int32) → (Nat → Int32) → (Nat → Int32) → (Nat → Int64) → (Nat → Int64) → (Nat → Int32) → (Nat → Int32) → (Nat → Int32) → (Nat → Int32) → (Nat → Int32) → (Nat → Int32) → (Nat → Int64) → (Nat → Int32) → Prop} {i v D : Nat} {F : Nat → Int32} {fo : Nat → Nat} (hD : D ≤ 1200) (hF : ∀ j, j < D → F j = nI (fo j)) (hf : ∀ j, j < D → fo j < 16384) (hv : v < 16384)
    (h1 : ∀ a, a < D → fo a = v → J7 (nI (i + 1)) (nI D) (fun j => nI (o j)) (fun j => nI (g j)) (fun j => nI (l j)) y_path y_list y_next y_table y_far F y_who y_what y_before y_tried)
    (h2 : ∀ at0, at0 ≤ D → (∀ a, a < at0 → fo a < v) → (at0 < D → v < fo at0) → J7 (nI (i + 1)) (nI (D + 1)) (fun j => nI (o j)) (fun j => nI (g j)) (fun j => nI (l j)) y_path y_list y_next y_table y_far (upd (sl_sf F at0 D) at0 (nI v)) y_who y_what y_before y_tried) :
    ∀ d m, m + d = D → (∀ a, a < m → fo a < v) → wY_gather_70 post J7 (nI i) (nI v) y_steps y_count y_known (nI D) (fun j => nI (o j)) (fun j => nI (g j)) (fun j => nI (l j)) y_path y_list y_next y_table y_far F y_who y_what y_before y_tried (d + 1) (nI m) := by
  have ins : ∀ m, m ≤ D → (∀ a, a < m → fo a < v) → (m < D → v < fo m) → ∃ n127 : Nat, wY_gather_127 post J7 (nI i) (nI v) (nI m) y_steps y_count y_known (nI D) n127 (nI D) (fun j => nI (o j)) (fun j => nI (g j)) (fun j => nI (l j)) y_path y_list y_next y_table y_far F y_who y_what y_before y_tried := by
    intro m hm ha hb
    have := sl_y127 (post := post) (J7 := J7) (i := i) (v := v) (at0 := m) (F := F) (y_steps := y_steps) (y_count := y_count) (y_known := y_known) (y_path := y_path) (y_list := y_list) (y_next := y_next) (y_table := y_table) (y_far := y_far) (y_who := y_who) (y_what := y_what) (y_before := y_before) (y_tried := y_tried) hD (h2 m hm ha hb) (D - m) D (by omega) (Nat.le_refl _)
    rw [sl_sf_D] at this
    exact ⟨_, this⟩
  intro d
  induction d with
  | zero =>
    intro m hm ha
    refine br_t (nI_le (by omega) (by omega)) ?_
    unfold wY_gather_97
    exact br_t (nI_le (by omega) (by omega)) (ins m (by omega) ha (fun z => by omega))
  | succ d ih =>
    intro m hm ha
    have cm : F (nI m).toNatClampNeg = nI (fo m) := by rw [nI_clamp (by omega)]; exact hF m (by omega)
    have fm := hf m (by omega)
    have vm : vp_in (nI m) 1201 := vp_in_nI (by omega) (by decide)
    refine br_f (nI_ge (by omega) (by omega)) ⟨vm, ?_⟩
    refine pk_le v (fo m) (fun z => ?_) (fun z => nm_r (nI_1 m) (ih (m + 1) (by omega) (fun a h => ?_))) rfl cm
    · unfold wY_gather_97
      refine br_f (nI_ge (by omega) (by omega)) ⟨vm, ?_⟩
      exact pk_eq (fo m) v (fun e => nm_r (nI_1 i) (h1 m (by omega) e)) (fun e => ins m (by omega) ha (fun _ => by omega)) cm rfl
    · by_cases e : a = m
      · subst e; exact z
      · exact ha a (by omega)
theorem sl_yg7 {post : SY → Prop} {K : Nat} {st : Nat → Nat} (P : sl_PV o g l) (hS : ∀ i, i < K → sl_SV o l (st i)) (hK : K ≤ 1200) (el : ∀ i, i < K → y_list i = lN (sl_yc l (st i)))
    (h : ∀ D F fo, sl_GT o g l st K D fo → (∀ j, j < D → F j = nI (fo j)) → post (y_steps, (nI K), y_known, (nI D), (fun j => nI (o j)), (fun j => nI (g j)), (fun j => nI (l j)), y_path, y_list, y_next, y_table, y_far, F, y_who, y_what, y_before, y_tried)) :
    ∀ d i, i + d = K → ∀ D F fo, sl_GT o g l st i D fo → (∀ j, j < D → F j = nI (fo j)) → wY_gather_7 post y_steps (nI K) y_known (d + 1) (nI i) (nI D) (fun j => nI (o j)) (fun j => nI (g j)) (fun j => nI (l j)) y_path y_list y_next y_table y_far F y_who y_what y_before y_tried := by
  intro d
  induction d with
  | zero =>
    intro i hi D F fo G hF
    have : i = K := by omega
    subst this
    exact br_t (nI_le (Nat.le_refl _) (by omega)) (h D F fo G hF)
  | succ d ih =>
    intro i hi D F fo G hF
    have Si := hS i (by omega)
    have hm := sl_yc_lt (l := l) (st i)
    have f2 := sl_f2 (n := st i)
    have n4 : st i % 4096 < 4096 := Nat.mod_lt _ (by decide)
    refine br_f (nI_ge (by omega) (by omega)) ⟨vp_in_nI (by omega) (by decide), nm_r (e' := lN (sl_yc l (st i))) (by rw [nI_clamp (by omega)]; exact el i (by omega)) ?_⟩
    refine sl_yend P Si (sl_bB (fun z => nm_r (nI_1 i) (ih (i + 1) (by omega) D F fo (sl_GT_no G z) hF)) (fun z => ?_))
    refine sl_get (p := 0) (w := 12) (sl_62 hm) (by decide) (by decide) rfl (by decide) (sl_ybad hm (sl_ydone P ?_))
    rw [sl_yc12, sl_ho (by decide) (by decide)]
    have main : ∀ x : Int32, x = nI (sl_ev l (st i)) → ∃ n70 : Nat, wY_gather_70 post (wY_gather_7 post y_steps (nI K) y_known (d + 1)) (nI i) x y_steps (nI K) y_known (nI D) (fun j => nI (o j)) (fun j => nI (g j)) (fun j => nI (l j)) y_path y_list y_next y_table y_far F y_who y_what y_before y_tried n70 0 := by
      intro x ex
      subst ex
      have hf : ∀ j, j < D → fo j < 16384 := by
        intro j hj
        obtain ⟨q, hq, e1, e2⟩ := (G.2.1 (fo j)).mp ⟨j, hj, rfl⟩
        rw [← e2]; exact sl_ev_lt l _
      have Dk := G.2.2
      refine ⟨D + 1, sl_y70 (by omega) hF hf (sl_ev_lt l _) (fun a ha e => ?_) (fun at0 h0 ha hb => ?_) D 0 (by omega) (fun a h => absurd h (Nat.not_lt_zero a))⟩
      · exact ih (i + 1) (by omega) D F fo (sl_GT_old G ha e) hF
      · refine ih (i + 1) (by omega) (D + 1) _ (sl_insf fo at0 (sl_ev l (st i))) (sl_GT_new G h0 ha hb z) (fun j hj => ?_)
        unfold sl_insf
        by_cases c : j = at0
        · subst c
          rw [pk_us, if_neg (by omega), if_pos rfl]
        · rw [pk_un c]
          unfold sl_sf
          by_cases c2 : j < at0
          · rw [if_pos c2, if_neg (by omega)]; exact hF j (by omega)
          · rw [if_neg c2, if_neg c, if_pos ⟨by omega, by omega⟩]; exact hF (j - 1) (by omega)
    have e4 : 4096 * nI (sl_f (st i) 15) = nI (4096 * sl_f (st i) 15) := pk_mul 4096 _
    have eb : 4096 * sl_f (st i) 15 = if sl_bd (st i) = true then 4096 else 0 := by
      unfold sl_bd
      by_cases c : sl_f (st i) 15 = 0
      · rw [c]; rfl
      · rw [if_pos (decide_eq_true c)]; omega
    rw [e4, eb, nI_add]
    refine sl_bB (fun y => nm_r (e' := nI (sl_ev l (st i))) ?_ (main _ rfl)) (fun y => nm_r (e' := nI (sl_ev l (st i))) ?_ (main _ rfl))
    · have : sl_dn l (st i) = false := y
      unfold sl_ev
      rw [this, show (8192 : Int32) = nI 8192 from rfl, nI_add]
      rfl
    · have : sl_dn l (st i) = true := y
      unfold sl_ev
      rw [this, show (0 : Int32) = nI 0 from rfl, nI_add]
      rfl
theorem sl_ygat {post : SY → Prop} {K : Nat} {st : Nat → Nat} (P : sl_PV o g l) (hS : ∀ i, i < K → sl_SV o l (st i)) (hK : K ≤ 1200) (el : ∀ i, i < K → y_list i = lN (sl_yc l (st i)))
    (h : ∀ D F fo, sl_GT o g l st K D fo → (∀ j, j < D → F j = nI (fo j)) → post (y_steps, (nI K), y_known, (nI D), (fun j => nI (o j)), (fun j => nI (g j)), (fun j => nI (l j)), y_path, y_list, y_next, y_table, y_far, F, y_who, y_what, y_before, y_tried)) : wpY_gather post (y_steps, (nI K), y_known, y_different, (fun j => nI (o j)), (fun j => nI (g j)), (fun j => nI (l j)), y_path, y_list, y_next, y_table, y_far, y_found, y_who, y_what, y_before, y_tried) := by
  unfold wpY_gather
  exact ⟨K + 1, sl_yg7 P hS hK el h K 0 (by omega) 0 y_found (fun _ => 0) ⟨fun a b _ hb => absurd hb (Nat.not_lt_zero b), fun e => ⟨fun ⟨a, ha, _⟩ => absurd ha (Nat.not_lt_zero a), fun ⟨a, ha, _⟩ => absurd ha (Nat.not_lt_zero a)⟩, Nat.le_refl _⟩ (fun j hj => absurd hj (Nat.not_lt_zero j))⟩
end
/-- the bits and the list count alike -/
theorem sl_same {o g l st : Nat → Nat} {K D : Nat} {fo : Nat → Nat} {R E : Int32} {A : Nat → Int64} {Fi : Nat → Int32} (L : sl_LK o g l st K R E A Fi) (G : sl_GT o g l st K D fo) : (∀ a, a < D → fo a < 16384) ∧ (∀ a, a < D → sl_cs (sl_eb A) (fo a) = a) ∧ sl_cs (sl_eb A) 16384 = D ∧ (∀ a, a < D → sl_eb A (fo a) = true) := by
  have hf : ∀ a, a < D → fo a < 16384 := by
    intro j hj
    obtain ⟨q, hq, e1, e2⟩ := (G.2.1 (fo j)).mp ⟨j, hj, rfl⟩
    rw [← e2]; exact sl_ev_lt l _
  have hp : ∀ e, e < 16384 → (sl_eb A e = true ↔ ∃ a, a < D ∧ fo a = e) := fun e he => by rw [L.2.1 e he, G.2.1 e]
  have h := sl_cs_srt G.1 hf hp
  exact ⟨hf, h.1, h.2, fun a ha => (hp _ (hf a ha)).mpr ⟨a, ha, rfl⟩⟩
theorem i_vc_endings {k : Nat} {u : SX} {v : SY} (I : i_Rel k u v) (hk : k + 5 ≤ 2560) : wpX_endings (fun r u' => wpY_endings (fun r' v' => r' = r ∧ i_Rel (k + 5) u' v') v) u := by
  refine sl_el (P := fun u v => wpX_endings (fun r u' => wpY_endings (fun r' v' => r' = r ∧ i_Rel (k + 5) u' v') v) u) I ?_
  intro f_states f_known f_many f_endings f_races f_kinds f_counted f_present f_taken a_op a_arg a_length a_state a_from a_by a_bucket a_ending a_first a_way a_asleep a_gone a_past y_steps y_count y_known y_different y_ops y_args y_length y_path y_list y_next y_table y_far y_found y_who y_what y_before y_tried o g l h T H KN CN
  have P := H.1
  have S := (H.2.1 T (Nat.le_refl _)).1
  have T30 := sl_T30 H
  have eT := H.2.2.2 T (Nat.le_refl _)
  obtain ⟨hx, hy⟩ := sl_KN_x KN
  unfold wpX_endings
  refine sl_xk P S hx (fun fs fm R E ast afr aby abk A Fi kx => ?_)
  have kx' := kx
  rcases kx with ⟨rfl, K, a1, a2, rfl, a4⟩ | ⟨rfl, j, a1⟩
  · refine br_t rfl ?_
    unfold wpY_endings
    refine sl_yk P S (by omega) eT hy (fun ct ls nx tb ky => ?_)
    have ky' := ky
    rcases ky with ⟨K', b1, b2, rfl, b4⟩ | ⟨rfl, j, b1⟩
    · obtain rfl := sl_fin_u a2 b2
      have I := sl_inv P S (3 * K)
      rw [a2] at I
      refine br_f (nI_nlt (a := 1200) b1 (by decide)) (br_f (by decide) ?_)
      refine sl_ygat P (fun i hi => I.2.2.1 i hi) b1 b4.1 (fun D F fo G hF => ⟨?_, sl_in H (Or.inr ⟨rfl, rfl, kx', ky'⟩) CN⟩)
      have q := sl_same a4.2.2.2 G
      rw [a4.2.2.2.2.2.1, q.2.2.1]
    · have := sl_fin_m (j := j) a2; omega
  · refine br_f (by decide) ?_
    unfold wpY_endings
    refine sl_yk P S (by omega) eT hy (fun ct ls nx tb ky => ?_)
    have ky' := ky
    rcases ky with ⟨K', b1, b2, rfl, b4⟩ | ⟨rfl, j', b1⟩
    · have := sl_fin_m (j := j) b2; omega
    · exact br_t (by decide) (br_t rfl ⟨rfl, sl_in H (Or.inr ⟨rfl, rfl, kx', ky'⟩) CN⟩)
section
variable {f_states : Int32} {f_known : Int32} {f_many : Int32} {f_endings : Int32} {f_races : Int32} {f_kinds : Int32} {f_counted : Int32} {f_present : Int64} {f_taken : Int32} {a_op : Nat → Int32} {a_arg : Nat → Int32} {a_length : Nat → Int32} {a_state : Nat → Int64} {a_from : Nat → Int32} {a_by : Nat → Int32} {a_bucket : Nat → Int32} {a_ending : Nat → Int64} {a_first : Nat → Int32} {a_way : Nat → Int64} {a_asleep : Nat → Int32} {a_gone : Nat → Int32} {a_past : Nat → Int64}
theorem sl_xe34 {post : Int32 → SX → Prop} {q e0 : Nat} (he : e0 < 16384) (c0 : sl_cs (sl_eb a_ending) e0 = q) (p0 : sl_eb a_ending e0 = true) (h : post (nI e0) (f_states, f_known, f_many, f_endings, f_races, f_kinds, f_counted, f_present, f_taken, a_op, a_arg, a_length, a_state, a_from, a_by, a_bucket, a_ending, a_first, a_way, a_asleep, a_gone, a_past)) : ∀ d e, e + d = e0 → wX_ending_34 post f_states f_known f_many f_endings f_races f_kinds f_counted f_present f_taken a_op a_arg a_length a_state a_from a_by a_bucket a_ending a_first a_way a_asleep a_gone a_past (d + 1) (nI (q - sl_cs (sl_eb a_ending) e)) (nI e) := by
  have ql : q ≤ 16384 := by have := sl_cs_le (p := sl_eb a_ending) (n := e0); omega
  have e6 : ∀ e, e < 16384 → nI e >>> ((6 : Int32) &&& 31) = nI (e / 64) := fun e h => pk_shrN (by omega) _ 6 (by decide)
  have e63 : ∀ e, e < 16384 → nI e &&& 63 = nI (e % 64) := fun e h => pk_andN (by omega) 6 (by decide)
  have vi : ∀ e, e < 16384 → vp_in (nI (e / 64)) 256 := fun e h => vp_in_nI (by omega) (by decide)
  have cl : ∀ e, e < 16384 → (nI (e / 64)).toNatClampNeg = e / 64 := fun e h => nI_clamp (by omega)
  intro d
  induction d with
  | zero =>
    intro e hd
    have : e = e0 := by omega
    subst this
    rw [c0, Nat.sub_self]
    refine br_f (by decide) ?_
    rw [e6 e he, e63 e he, cl e he]
    refine ⟨vi e he, br_f (fun z => ?_) h⟩
    have := (sl_tb64 (Nat.mod_lt _ (by decide))).mp z
    exact absurd (p0.symm.trans this) (by decide)
  | succ d ih =>
    intro e hd
    have el : e < 16384 := by omega
    have mono := sl_cs_mono (p := sl_eb a_ending) (a := e + 1) d
    rw [show e + 1 + d = e0 by omega, c0] at mono
    have ih' := ih (e + 1) (by omega)
    have step : sl_cs (sl_eb a_ending) (e + 1) = sl_cs (sl_eb a_ending) e + (if sl_eb a_ending e = true then 1 else 0) := rfl
    have K : wX_ending_59 post (wX_ending_34 post f_states f_known f_many f_endings f_races f_kinds f_counted f_present f_taken a_op a_arg a_length a_state a_from a_by a_bucket a_ending a_first a_way a_asleep a_gone a_past (d + 1)) (nI (q - sl_cs (sl_eb a_ending) e)) (nI e) f_states f_known f_many f_endings f_races f_kinds f_counted f_present f_taken a_op a_arg a_length a_state a_from a_by a_bucket a_ending a_first a_way a_asleep a_gone a_past := by
      unfold wX_ending_59
      rw [e6 e el, e63 e el, cl e el]
      refine ⟨vi e el, br_c (fun z => ?_) (fun z => ?_)⟩
      · have : sl_eb a_ending e = false := (sl_tb64 (Nat.mod_lt _ (by decide))).mp z
        rw [step, this] at ih'
        exact nm_r (nI_1 e) ih'
      · have pe : sl_eb a_ending e = true := ts_nf (fun y => z ((sl_tb64 (Nat.mod_lt _ (by decide))).mpr y))
        rw [step, if_pos pe] at ih' mono
        refine nm_r (e' := nI (q - (sl_cs (sl_eb a_ending) e + 1))) ?_ (nm_r (nI_1 e) ih')
        rw [show q - sl_cs (sl_eb a_ending) e = (q - (sl_cs (sl_eb a_ending) e + 1)) + 1 by omega, pk_m1]
    refine br_c (fun _ => K) (fun z => ?_)
    rw [e6 e el, e63 e el, cl e el]
    refine ⟨vi e el, br_c (fun _ => K) (fun y => ?_)⟩
    exfalso
    have pe : sl_eb a_ending e = true := ts_nf (fun w => y ((sl_tb64 (Nat.mod_lt _ (by decide))).mpr w))
    rw [step, if_pos pe] at mono
    exact z (nI_lt (a := 0) (by omega) (by omega))
end
theorem sl_rngD {p : Int32} {D : Nat} (hD : D < 2 ^ 31) : (0 ≤ p ∧ p ≤ nI D - 1) ↔ ∃ q : Nat, q < D ∧ p = nI q := by
  by_cases z : D = 0
  · subst z
    constructor
    · intro ⟨a, b⟩
      exact absurd (Int32.le_trans a b) (by decide)
    · rintro ⟨q, h, _⟩
      exact absurd h (Nat.not_lt_zero q)
  · rw [show nI D - 1 = nI (D - 1) from pk_sub (b := 1) (by omega)]
    constructor
    · intro ⟨a, b⟩
      obtain ⟨q, hq, rfl⟩ := nI_of (Int32.not_lt.mpr a)
      rw [nI_leI hq (by omega)] at b
      exact ⟨q, by omega, rfl⟩
    · rintro ⟨q, h, rfl⟩
      exact ⟨nI_pos' (by omega), nI_le (by omega) (by omega)⟩
theorem i_vc_ending {k : Nat} {u : SX} {v : SY} (I : i_Rel k u v) (hk : k + 5 ≤ 2560) (v1 : Int32) : wpX_ending (fun r u' => wpY_ending (fun r' v' => r' = r ∧ i_Rel (k + 5) u' v') v v1) u v1 := by
  refine sl_el (P := fun u v => wpX_ending (fun r u' => wpY_ending (fun r' v' => r' = r ∧ i_Rel (k + 5) u' v') v v1) u v1) I ?_
  intro f_states f_known f_many f_endings f_races f_kinds f_counted f_present f_taken a_op a_arg a_length a_state a_from a_by a_bucket a_ending a_first a_way a_asleep a_gone a_past y_steps y_count y_known y_different y_ops y_args y_length y_path y_list y_next y_table y_far y_found y_who y_what y_before y_tried o g l h T H KN CN
  have P := H.1
  have S := (H.2.1 T (Nat.le_refl _)).1
  have T30 := sl_T30 H
  have eT := H.2.2.2 T (Nat.le_refl _)
  obtain ⟨hx, hy⟩ := sl_KN_x KN
  unfold wpX_ending
  refine sl_xk P S hx (fun fs fm R E ast afr aby abk A Fi kx => ?_)
  have kx' := kx
  rcases kx with ⟨rfl, K, a1, a2, rfl, a4⟩ | ⟨rfl, j, a1⟩
  · refine br_t rfl ?_
    have I := sl_inv P S (3 * K)
    rw [a2] at I
    -- the reference's answer, whatever the component's
    have Y : ∀ (r : Int32) (X' : SX), (∀ ct ls nx tb, sl_KY o g l (h T) ct ls nx → ∀ df fd, i_Rel (k + 5) X' (nI T, ct, 1, df, (fun j => nI (o j)), (fun j => nI (g j)), (fun j => nI (l j)), y_path, ls, nx, tb, y_far, fd, y_who, y_what, y_before, y_tried)) → (∀ D fo, sl_GT o g l (sl_st o g l (h T) (3 * K)) K D fo → (∃ q, q < D ∧ v1 = nI q ∧ r = nI (fo q)) ∨ ((¬ ∃ q, q < D ∧ v1 = nI q) ∧ r = -1)) → wpY_ending (fun r' v' => r' = r ∧ i_Rel (k + 5) X' v') (nI T, y_count, y_known, y_different, (fun j => nI (o j)), (fun j => nI (g j)), (fun j => nI (l j)), y_path, y_list, y_next, y_table, y_far, y_found, y_who, y_what, y_before, y_tried) v1 := by
      intro r X' hR hr
      unfold wpY_ending
      refine sl_yk P S (by omega) eT hy (fun ct ls nx tb ky => ?_)
      have ky' := ky
      rcases ky with ⟨K', b1, b2, rfl, b4⟩ | ⟨rfl, j, b1⟩
      · obtain rfl := sl_fin_u a2 b2
        refine br_f (nI_nlt (a := 1200) b1 (by decide)) (br_f (by decide) ?_)
        refine sl_ygat P (fun i hi => I.2.2.1 i hi) b1 b4.1 (fun D F fo G hF => ?_)
        have DK := G.2.2
        rcases hr D fo G with ⟨q, hq, rfl, rfl⟩ | ⟨nq, rfl⟩
        · refine br_f (nI_pos (by omega)) (br_f (nI_ge hq (by omega)) ⟨vp_in_nI (by omega) (by decide), ?_, hR _ _ _ _ ky' _ _⟩)
          rw [nI_clamp (show q < 2 ^ 31 by omega)]
          exact hF q hq
        · refine br_c (fun _ => ⟨rfl, hR _ _ _ _ ky' _ _⟩) (fun z => br_c (fun _ => ⟨rfl, hR _ _ _ _ ky' _ _⟩) (fun y => ?_))
          exfalso
          obtain ⟨q, hq, rfl⟩ := nI_of z
          rw [nI_leI (by omega) hq] at y
          exact nq ⟨q, by omega, rfl⟩
      · have := sl_fin_m (j := j) a2; omega
    have L := a4.2.2.2
    have E1 := L.2.2.1
    subst E1
    have cl := sl_cs_le (p := sl_eb A) (n := 16384)
    by_cases C : ∃ q, q < sl_cs (sl_eb A) 16384 ∧ v1 = nI q
    · obtain ⟨q, hq, rfl⟩ := C
      refine sl_outs (fun _ _ => br_t rfl ?_) (fun z => absurd ((sl_rngD (by omega)).mpr ⟨q, hq, rfl⟩) z)
      -- the q-th bit
      have ex : ∃ e, sl_cs (sl_eb A) (e + 1) = q + 1 := by
        have key : ∀ n, q < sl_cs (sl_eb A) n → ∃ e, sl_cs (sl_eb A) (e + 1) = q + 1 := by
          intro n
          induction n with
          | zero => intro z; exact absurd z (Nat.not_lt_zero q)
          | succ n ih =>
            intro z
            by_cases y : q < sl_cs (sl_eb A) n
            · exact ih y
            · have st : sl_cs (sl_eb A) (n + 1) = sl_cs (sl_eb A) n + (if sl_eb A n = true then 1 else 0) := rfl
              refine ⟨n, ?_⟩
              rw [st] at z ⊢
              split at z
              · rename_i w
                rw [if_pos w]
                omega
              · omega
        exact key 16384 hq
      obtain ⟨e, he, hmin⟩ := pk_least _ ex
      have st : sl_cs (sl_eb A) (e + 1) = sl_cs (sl_eb A) e + (if sl_eb A e = true then 1 else 0) := rfl
      have pe : sl_eb A e = true ∧ sl_cs (sl_eb A) e = q := by
        cases w : sl_eb A e
        · exfalso
          rw [st, w] at he
          have he' : sl_cs (sl_eb A) e = q + 1 := he
          by_cases e0 : e = 0
          · subst e0
            have : sl_cs (sl_eb A) 0 = 0 := rfl
            omega
          · exact hmin (e - 1) (by omega) (by rw [show e - 1 + 1 = e by omega]; exact he')
        · rw [st, if_pos w] at he
          exact ⟨rfl, by omega⟩
      have el : e < 16384 := by
        rcases Nat.lt_or_ge e 16384 with z | z
        · exact z
        · have m := sl_cs_mono (p := sl_eb A) (a := 16384) (e - 16384)
          rw [show 16384 + (e - 16384) = e by omega] at m
          omega
      have W := sl_xe34 (post := fun r u' => wpY_ending (fun r' v' => r' = r ∧ i_Rel (k + 5) u' v') (nI T, y_count, y_known, y_different, (fun j => nI (o j)), (fun j => nI (g j)), (fun j => nI (l j)), y_path, y_list, y_next, y_table, y_far, y_found, y_who, y_what, y_before, y_tried) (nI q)) (q := q) (e0 := e) (f_states := nI K) (f_known := 1) (f_many := 0) (f_endings := nI (sl_cs (sl_eb A) 16384)) (f_races := R) (f_kinds := f_kinds) (f_counted := f_counted) (f_present := lN (h T)) (f_taken := nI T) (a_op := fun j => nI (o j)) (a_arg := fun j => nI (g j)) (a_length := fun j => nI (l j)) (a_state := ast) (a_from := afr) (a_by := aby) (a_bucket := abk) (a_ending := A) (a_first := Fi) (a_way := a_way) (a_asleep := a_asleep) (a_gone := a_gone) (a_past := a_past) el pe.2 pe.1 ?_ e 0 (by omega)
      · exact ⟨e + 1, W⟩
      · refine Y _ _ (fun ct ls nx tb ky' df fd => sl_in H (Or.inr ⟨rfl, rfl, kx', ky'⟩) CN) (fun D fo G => ?_)
        have sm := sl_same L G
        rw [sm.2.2.1] at hq
        refine Or.inl ⟨q, hq, rfl, ?_⟩
        have c1 := sm.2.1 q hq
        have b1 := sm.2.2.2 q hq
        -- both are the q-th set bit
        have uniq : e = fo q := by
          have s1 : sl_cs (sl_eb A) (fo q + 1) = q + 1 := by
            show sl_cs (sl_eb A) (fo q) + (if sl_eb A (fo q) = true then 1 else 0) = _
            rw [c1, if_pos b1]
          rcases Nat.lt_trichotomy e (fo q) with z | z | z
          · have m := sl_cs_mono (p := sl_eb A) (a := e + 1) (fo q - (e + 1))
            rw [show e + 1 + (fo q - (e + 1)) = fo q by omega, c1, he] at m
            omega
          · exact z
          · have m := sl_cs_mono (p := sl_eb A) (a := fo q + 1) (e - (fo q + 1))
            rw [show fo q + 1 + (e - (fo q + 1)) = e by omega, s1, pe.2] at m
            omega
        rw [uniq]
    · refine sl_outs (fun a b => absurd ((sl_rngD (by omega)).mp ⟨a, b⟩) C) (fun _ => br_f (by decide) ?_)
      refine Y _ _ (fun ct ls nx tb ky' df fd => sl_in H (Or.inr ⟨rfl, rfl, kx', ky'⟩) CN) (fun D fo G => ?_)
      have sm := sl_same L G
      rw [sm.2.2.1] at C
      exact Or.inr ⟨C, rfl⟩
  · refine br_f (by decide) ?_
    unfold wpY_ending
    refine sl_yk P S (by omega) eT hy (fun ct ls nx tb ky => ?_)
    have ky' := ky
    rcases ky with ⟨K', b1, b2, rfl, b4⟩ | ⟨rfl, j', b1⟩
    · have := sl_fin_m (j := j) b2; omega
    · exact br_t (by decide) (br_t rfl ⟨rfl, sl_in H (Or.inr ⟨rfl, rfl, kx', ky'⟩) CN⟩)
end
section
/-! distances, without a program in sight -/
def sl_ed (nx : Nat → Int32) (K k t m : Nat) : Prop := m < K ∧ nx (3 * k + t) = nI m
def sl_TR (K : Nat) (ky : Nat → Nat) : Prop := (∀ i, 0 < i → i < K → ky i / 3 < i) ∧ (∀ i i', 0 < i → i < i' → i' < K → ky i < ky i')
def sl_ES (K : Nat) (ky : Nat → Nat) (nx : Nat → Int32) : Prop := (∀ k t m, k < K → t < 3 → sl_ed nx K k t m → m = 0 ∨ ky m ≤ 3 * k + t) ∧ (∀ i, 0 < i → i < K → sl_ed nx K (ky i / 3) (ky i % 3) i) ∧ (∀ k t, k < K → t < 3 → nx (3 * k + t) = -1 ∨ ∃ m, sl_ed nx K k t m)
def sl_FI (sg : Nat → Bool) (K : Nat) (nx : Nat → Int32) (fa : Nat → Nat) : Prop := (∀ i, i < K → fa i ≤ 1000) ∧ (∀ i, i < K → sg i = true → fa i = 0) ∧ (∀ i, i < K → fa i < 1000 → sg i = true ∨ ∃ t m, t < 3 ∧ sl_ed nx K i t m ∧ fa m + 1 ≤ fa i)
def sl_FP (K : Nat) (nx : Nat → Int32) (fa : Nat → Nat) (i : Nat) : Prop := ∀ t m, t < 3 → sl_ed nx K i t m → fa i ≤ fa m + 1
def sl_dp (ky : Nat → Nat) : Nat → Nat → Nat
  | 0, _ => 0
  | f + 1, i => if i = 0 then 0 else sl_dp ky f (ky i / 3) + 1
def sl_dep (ky : Nat → Nat) (i : Nat) : Nat := sl_dp ky i i
theorem sl_dp_st {K : Nat} {ky : Nat → Nat} (T : sl_TR K ky) : ∀ f i, i ≤ f → i < K → ∀ f', i ≤ f' → sl_dp ky f i = sl_dp ky f' i := by
  intro f
  induction f with
  | zero =>
    intro i hi hK f' hf
    have : i = 0 := by omega
    subst this
    cases f' with
    | zero => rfl
    | succ f' => exact (if_pos rfl).symm
  | succ f ih =>
    intro i hi hK f' hf
    by_cases z : i = 0
    · subst z
      cases f' with
      | zero => exact if_pos rfl
      | succ f' => unfold sl_dp; rw [if_pos rfl, if_pos rfl]
    · cases f' with
      | zero => omega
      | succ f' =>
        have p := T.1 i (by omega) hK
        unfold sl_dp
        rw [if_neg z, if_neg z, ih (ky i / 3) (by omega) (by omega) f' (by omega)]
theorem sl_dep0 {ky : Nat → Nat} : sl_dep ky 0 = 0 := rfl
theorem sl_depS {K : Nat} {ky : Nat → Nat} (T : sl_TR K ky) {i : Nat} (h0 : 0 < i) (hK : i < K) : sl_dep ky i = sl_dep ky (ky i / 3) + 1 := by
  have p := T.1 i h0 hK
  obtain ⟨j, rfl⟩ : ∃ j, i = j + 1 := ⟨i - 1, by omega⟩
  unfold sl_dep
  show (if j + 1 = 0 then 0 else sl_dp ky j (ky (j + 1) / 3) + 1) = _
  rw [if_neg (by omega), sl_dp_st T j _ (by omega) (by omega) _ (Nat.le_refl _)]
theorem sl_dep_mono {K : Nat} {ky : Nat → Nat} (T : sl_TR K ky) : ∀ i' i, i ≤ i' → i' < K → sl_dep ky i ≤ sl_dep ky i' := by
  intro i'
  induction i' using Nat.strongRecOn with
  | ind i' ih =>
    intro i hi hK
    by_cases z : i = 0
    · subst z; rw [sl_dep0]; exact Nat.zero_le _
    by_cases e : i = i'
    · subst e; exact Nat.le_refl _
    rw [sl_depS T (by omega) (by omega), sl_depS T (by omega) hK]
    have k := T.2 i i' (by omega) (by omega) hK
    have p := T.1 i' (by omega) hK
    have := ih (ky i' / 3) p (ky i / 3) (Nat.div_le_div_right (by omega)) (by omega)
    omega
section
variable {K : Nat} {ky : Nat → Nat} {nx : Nat → Int32} {sg : Nat → Bool} {fa : Nat → Nat}
theorem sl_dep_e (T : sl_TR K ky) (E : sl_ES K ky nx) {a t m : Nat} (ha : a < K) (ht : t < 3) (e : sl_ed nx K a t m) : sl_dep ky m ≤ sl_dep ky a + 1 := by
  rcases E.1 a t m ha ht e with z | z
  · subst z; rw [sl_dep0]; exact Nat.zero_le _
  · by_cases m0 : m = 0
    · subst m0; rw [sl_dep0]; exact Nat.zero_le _
    rw [sl_depS T (by omega) e.1]
    have := sl_dep_mono T a (ky m / 3) (by omega) ha
    omega
theorem sl_far_lo (T : sl_TR K ky) (E : sl_ES K ky nx) (F : sl_FI sg K nx fa) : ∀ d i, fa i ≤ d → i < K → fa i < 1000 → ∃ q, q < K ∧ sg q = true ∧ sl_dep ky q ≤ sl_dep ky i + fa i := by
  intro d
  induction d with
  | zero =>
    intro i hd hi h1
    rcases F.2.2 i hi h1 with z | ⟨t, m, ht, e, z⟩
    · exact ⟨i, hi, z, by omega⟩
    · omega
  | succ d ih =>
    intro i hd hi h1
    rcases F.2.2 i hi h1 with z | ⟨t, m, ht, e, z⟩
    · exact ⟨i, hi, z, by omega⟩
    · obtain ⟨q, hq, s, dq⟩ := ih m (by omega) e.1 (by omega)
      have := sl_dep_e T E hi ht e
      exact ⟨q, hq, s, by omega⟩
theorem sl_far_up (T : sl_TR K ky) (E : sl_ES K ky nx) (X : ∀ i, i < K → sl_FP K nx fa i) : ∀ i, i < K → fa 0 ≤ sl_dep ky i + fa i := by
  intro i
  induction i using Nat.strongRecOn with
  | ind i ih =>
    intro hi
    by_cases z : i = 0
    · subst z; omega
    have p := T.1 i (by omega) hi
    have a := ih (ky i / 3) p (by omega)
    have b := X (ky i / 3) (by omega) (ky i % 3) i (Nat.mod_lt _ (by decide)) (E.2.1 i (by omega) hi)
    rw [sl_depS T (by omega) hi]
    omega
/-- the first sought one is as far as the reference says -/
theorem sl_far_1 (T : sl_TR K ky) (E : sl_ES K ky nx) (F : sl_FI sg K nx fa) (X : ∀ i, i < K → sl_FP K nx fa i) {Q : Nat} (hQ : Q < K) (s : sg Q = true) (mn : ∀ i, i < Q → sg i = false) (dl : sl_dep ky Q < 1000) : fa 0 = sl_dep ky Q := by
  have u := sl_far_up T E X Q hQ
  rw [F.2.1 Q hQ s] at u
  obtain ⟨q, hq, sq, dq⟩ := sl_far_lo T E F (fa 0) 0 (Nat.le_refl _) (by omega) (by omega)
  rw [sl_dep0] at dq
  have : Q ≤ q := by
    rcases Nat.lt_or_ge q Q with z | z
    · rw [mn q z] at sq; exact absurd sq (by decide)
    · exact z
  have := sl_dep_mono T q Q this hq
  omega
theorem sl_far_0 (T : sl_TR K ky) (E : sl_ES K ky nx) (F : sl_FI sg K nx fa) (hK : 0 < K) (mn : ∀ i, i < K → sg i = false) : fa 0 = 1000 := by
  have a := F.1 0 hK
  rcases Nat.lt_or_ge (fa 0) 1000 with z | z
  · obtain ⟨q, hq, sq, _⟩ := sl_far_lo T E F (fa 0) 0 (Nat.le_refl _) hK z
    rw [mn q hq] at sq; exact absurd sq (by decide)
  · omega
/-! the way to it -/
def sl_up (ky : Nat → Nat) (i : Nat) : Nat → Nat
  | 0 => i
  | d + 1 => ky (sl_up ky i d) / 3
theorem sl_up_d (T : sl_TR K ky) {Q : Nat} (hQ : Q < K) : ∀ d, d ≤ sl_dep ky Q → sl_up ky Q d < K ∧ sl_dep ky (sl_up ky Q d) + d = sl_dep ky Q := by
  intro d
  induction d with
  | zero => intro _; exact ⟨hQ, rfl⟩
  | succ d ih =>
    intro h
    obtain ⟨a, b⟩ := ih (by omega)
    have p0 : 0 < sl_up ky Q d := by
      rcases Nat.eq_zero_or_pos (sl_up ky Q d) with z | z
      · rw [z, sl_dep0] at b; omega
      · exact z
    have p := T.1 _ p0 a
    have s := sl_depS T p0 a
    show ky (sl_up ky Q d) / 3 < K ∧ sl_dep ky (ky (sl_up ky Q d) / 3) + (d + 1) = _
    exact ⟨by omega, by omega⟩
theorem sl_up_pos (T : sl_TR K ky) {Q d : Nat} (hQ : Q < K) (h : d < sl_dep ky Q) : 0 < sl_up ky Q d := by
  obtain ⟨a, b⟩ := sl_up_d T hQ d (by omega)
  rcases Nat.eq_zero_or_pos (sl_up ky Q d) with z | z
  · rw [z, sl_dep0] at b; omega
  · exact z
theorem sl_up_n (T : sl_TR K ky) {Q : Nat} (hQ : Q < K) : sl_up ky Q (sl_dep ky Q) = 0 := by
  obtain ⟨a, b⟩ := sl_up_d T hQ _ (Nat.le_refl _)
  rcases Nat.eq_zero_or_pos (sl_up ky Q (sl_dep ky Q)) with z | z
  · exact z
  · have := sl_depS T z a; omega
theorem sl_far_p (T : sl_TR K ky) (E : sl_ES K ky nx) (F : sl_FI sg K nx fa) (X : ∀ i, i < K → sl_FP K nx fa i) {Q : Nat} (hQ : Q < K) (s : sg Q = true) (mn : ∀ i, i < Q → sg i = false) (dl : sl_dep ky Q < 1000) : ∀ d, d ≤ sl_dep ky Q → fa (sl_up ky Q d) = d := by
  have f0 := sl_far_1 T E F X hQ s mn dl
  have le : ∀ d, d ≤ sl_dep ky Q → fa (sl_up ky Q d) ≤ d := by
    intro d
    induction d with
    | zero => intro _; show fa Q ≤ 0; rw [F.2.1 Q hQ s]; exact Nat.le_refl _
    | succ d ih =>
      intro h
      obtain ⟨a, b⟩ := sl_up_d T hQ d (by omega)
      have p0 := sl_up_pos T hQ (d := d) (by omega)
      have p := T.1 _ p0 a
      have := X (ky (sl_up ky Q d) / 3) (by omega) (ky (sl_up ky Q d) % 3) _ (Nat.mod_lt _ (by decide)) (E.2.1 _ p0 a)
      have := ih (by omega)
      show fa (ky (sl_up ky Q d) / 3) ≤ d + 1
      omega
  intro d h
  obtain ⟨a, b⟩ := sl_up_d T hQ d h
  have u := sl_far_up T E X _ a
  have := le d h
  omega
/-- a smaller number at the same distance leads to a smaller sought one -/
theorem sl_less (T : sl_TR K ky) (E : sl_ES K ky nx) (F : sl_FI sg K nx fa) (X : ∀ i, i < K → sl_FP K nx fa i) {Q : Nat} (hQ : Q < K) : ∀ d, d ≤ sl_dep ky Q → d < 1000 → ∀ m, m < sl_up ky Q d → m < K → fa m = d → ∃ q, q < Q ∧ sg q = true := by
  intro d
  induction d with
  | zero =>
    intro _ _ m hm hK hf
    rcases F.2.2 m hK (by omega) with z | ⟨t, m', ht, e, z⟩
    · exact ⟨m, hm, z⟩
    · omega
  | succ d ih =>
    intro hd h1 m hm hK hf
    rcases F.2.2 m hK (by omega) with z | ⟨t, m', ht, e, z⟩
    · have := F.2.1 m hK z; omega
    · have x := X m hK t m' ht e
      obtain ⟨a, b⟩ := sl_up_d T hQ d (by omega)
      have p0 := sl_up_pos T hQ (d := d) (by omega)
      have hm' : m < ky (sl_up ky Q d) / 3 := hm
      refine ih (by omega) (by omega) m' ?_ e.1 (by omega)
      rcases E.1 m t m' hK ht e with y | y
      · subst y; exact p0
      · rcases Nat.lt_or_ge m' (sl_up ky Q d) with w | w
        · exact w
        · exfalso
          have : ky (sl_up ky Q d) ≤ ky m' := by
            by_cases q : m' = sl_up ky Q d
            · rw [q]; exact Nat.le_refl _
            · exact Nat.le_of_lt (T.2 _ _ p0 (by omega) e.1)
          omega
/-- the reference's choice at each step is the tree's -/
theorem sl_choice (T : sl_TR K ky) (E : sl_ES K ky nx) (F : sl_FI sg K nx fa) (X : ∀ i, i < K → sl_FP K nx fa i) {Q : Nat} (hQ : Q < K) (s : sg Q = true) (mn : ∀ i, i < Q → sg i = false) (dl : sl_dep ky Q < 1000) {d : Nat} (hd : d < sl_dep ky Q) :
    sl_ed nx K (sl_up ky Q (d + 1)) (ky (sl_up ky Q d) % 3) (sl_up ky Q d) ∧ (∀ t m, t < ky (sl_up ky Q d) % 3 → sl_ed nx K (sl_up ky Q (d + 1)) t m → fa m ≠ d) := by
  obtain ⟨a, b⟩ := sl_up_d T hQ d (by omega)
  obtain ⟨a2, b2⟩ := sl_up_d T hQ (d + 1) (by omega)
  have p0 := sl_up_pos T hQ hd
  refine ⟨E.2.1 _ p0 a, fun t m ht e hf => ?_⟩
  have t3 : t < 3 := by have := Nat.mod_lt (ky (sl_up ky Q d)) (show 0 < 3 by decide); omega
  have kk : 3 * sl_up ky Q (d + 1) + ky (sl_up ky Q d) % 3 = ky (sl_up ky Q d) := by
    show 3 * (ky (sl_up ky Q d) / 3) + _ = _
    omega
  have lt : m < sl_up ky Q d := by
    rcases E.1 _ t m a2 t3 e with y | y
    · subst y; exact p0
    · rcases Nat.lt_or_ge m (sl_up ky Q d) with w | w
      · exact w
      · exfalso
        have : ky (sl_up ky Q d) ≤ ky m := by
          by_cases q : m = sl_up ky Q d
          · rw [q]; exact Nat.le_refl _
          · exact Nat.le_of_lt (T.2 _ _ p0 (by omega) e.1)
        omega
  obtain ⟨q, hq, sq⟩ := sl_less T E F X hQ d (by omega) (by omega) m lt e.1 hf
  rw [mn q hq] at sq
  exact absurd sq (by decide)
end
/-! sums -/
def sl_sm (f : Nat → Nat) : Nat → Nat
  | 0 => 0
  | n + 1 => sl_sm f n + f n
theorem sl_sm_c {f f' : Nat → Nat} : ∀ {n : Nat}, (∀ i, i < n → f' i = f i) → sl_sm f' n = sl_sm f n
  | 0, _ => rfl
  | n + 1, h => by
    unfold sl_sm
    rw [sl_sm_c (n := n) (fun i hi => h i (by omega)), h n (by omega)]
theorem sl_sm_u {f : Nat → Nat} {k v : Nat} : ∀ {n : Nat}, k < n → sl_sm (sl_un f k v) n + f k = sl_sm f n + v
  | 0, h => absurd h (Nat.not_lt_zero _)
  | n + 1, h => by
    unfold sl_sm
    by_cases z : k = n
    · subst z
      rw [sl_sm_c (f := f) (f' := sl_un f k v) (n := k) (fun i hi => sl_un_n (by omega)), sl_un_s]
      omega
    · have := sl_sm_u (f := f) (k := k) (v := v) (n := n) (by omega)
      rw [sl_un_n (show n ≠ k by omega)]
      omega
/-- one improvement -/
theorem sl_FI_u {K : Nat} {nx : Nat → Int32} {sg : Nat → Bool} {fa : Nat → Nat} (F : sl_FI sg K nx fa) {k t m : Nat} (hk : k < K) (ht : t < 3) (e : sl_ed nx K k t m) (lt : fa m + 1 < fa k) : sl_FI sg K nx (sl_un fa k (fa m + 1)) := by
  have mk : m ≠ k := fun z => by subst z; omega
  have le : ∀ i, i < K → sl_un fa k (fa m + 1) i ≤ fa i := by
    intro i hi
    by_cases z : i = k
    · subst z; rw [sl_un_s]; omega
    · rw [sl_un_n z]; exact Nat.le_refl _
  refine ⟨fun i hi => Nat.le_trans (le i hi) (F.1 i hi), fun i hi s => ?_, fun i hi h1 => ?_⟩
  · have := le i hi
    have := F.2.1 i hi s
    omega
  · by_cases z : i = k
    · subst z
      rw [sl_un_s]
      exact Or.inr ⟨t, m, ht, e, by rw [sl_un_n mk]; exact Nat.le_refl _⟩
    · rw [sl_un_n z] at h1 ⊢
      rcases F.2.2 i hi h1 with y | ⟨t', m', ht', e', y⟩
      · exact Or.inl y
      · exact Or.inr ⟨t', m', ht', e', by have := le m' e'.1; omega⟩
/-! from the search -/
theorem sl_tree {o g l st ky : Nat → Nat} {s0 K : Nat} {nx : Nat → Int32} (hK12 : K ≤ 1200) (I : sl_TI o g l s0 K (3 * K) st ky) (N : ∀ e, e < 3 * K → sl_NX o g l st K e (nx e)) : sl_TR K ky ∧ sl_ES K ky nx := by
  obtain ⟨i1, i2, i3, i4, i5, i6, i7⟩ := I
  have dist : ∀ a b, a < K → b < K → st a = st b → a = b := by
    intro a b ha hb e
    rcases Nat.lt_trichotomy a b with z | z | z
    · exact absurd e (i4 a b z hb)
    · exact z
    · exact absurd e.symm (i4 b a z ha)
  have nn : ∀ k t, k < K → t < 3 → (sl_rdy o g l (st k) t = true → ∃ m, m < K ∧ nx (3 * k + t) = nI m ∧ st m = sl_aft o g l (st k) t) ∧ (sl_rdy o g l (st k) t = false → nx (3 * k + t) = -1) := by
    intro k t hk ht
    have d3 : (3 * k + t) / 3 = k := by omega
    have m3 : (3 * k + t) % 3 = t := by omega
    have := N (3 * k + t) (by omega)
    unfold sl_NX at this
    rw [d3, m3] at this
    exact this
  refine ⟨⟨fun i h0 hK => (i5 i h0 hK).2.1, i6⟩, fun k t m hk ht e => ?_, fun i h0 hK => ?_, fun k t hk ht => ?_⟩
  · cases R : sl_rdy o g l (st k) t
    · have z := (nn k t hk ht).2 R
      rw [e.2] at z
      have p : (0 : Int32) ≤ -1 := by rw [← z]; exact nI_pos' (by have := e.1; omega)
      exact absurd p (by decide)
    · obtain ⟨m', hm', x1, x2⟩ := (nn k t hk ht).1 R
      rw [e.2] at x1
      have em : m = m' := (nI_eq (by have := e.1; omega) (by omega)).mp x1
      subst em
      have d3 : (3 * k + t) / 3 = k := by omega
      have m3 : (3 * k + t) % 3 = t := by omega
      obtain ⟨i, hi, ei, ki⟩ := i7 (3 * k + t) (by omega) (by omega) (by rw [d3, m3]; exact R)
      rw [d3, m3, ← x2] at ei
      have := dist i m hi hm' ei
      subst this
      exact ki
  · have r := i5 i h0 hK
    obtain ⟨m', hm', x1, x2⟩ := (nn (ky i / 3) (ky i % 3) (by omega) (Nat.mod_lt _ (by decide))).1 r.2.2.1
    rw [← r.2.2.2] at x2
    have := dist m' i hm' hK x2
    subst this
    exact ⟨hm', x1⟩
  · cases R : sl_rdy o g l (st k) t
    · exact Or.inl ((nn k t hk ht).2 R)
    · obtain ⟨m', hm', x1, x2⟩ := (nn k t hk ht).1 R
      exact Or.inr ⟨m', hm', x1⟩
theorem sl_dep_rk {o g l st ky : Nat → Nat} {s0 K : Nat} (P : sl_PV o g l) (I : sl_TI o g l s0 K (3 * K) st ky) (T : sl_TR K ky) : ∀ i, i < K → sl_dep ky i ≤ sl_rk (st i) := by
  intro i
  induction i using Nat.strongRecOn with
  | ind i ih =>
    intro hi
    by_cases z : i = 0
    · subst z; rw [sl_dep0]; exact Nat.zero_le _
    · have r := I.2.2.2.2.1 i (by omega) hi
      have a := ih (ky i / 3) r.2.1 (by omega)
      have b := sl_rk_aft P (I.2.2.1 (ky i / 3) (by omega)) (Nat.mod_lt _ (by decide)) r.2.2.1
      rw [sl_depS T (by omega) hi, r.2.2.2]
      omega
theorem sl_dep_30 {o g l st ky : Nat → Nat} {s0 K : Nat} (P : sl_PV o g l) (I : sl_TI o g l s0 K (3 * K) st ky) (T : sl_TR K ky) {i : Nat} (hi : i < K) : sl_dep ky i ≤ 30 := Nat.le_trans (sl_dep_rk P I T i hi) (sl_rk_le P (I.2.2.1 i hi))
end
section
/-! the reference's sweeps -/
def sl_MV (sg : Nat → Bool) (K : Nat) (nx : Nat → Int32) (S0 x2 : Nat) (fa : Nat → Nat) : Prop := (x2 = 0 ∨ x2 = 1) ∧ sl_FI sg K nx fa ∧ sl_sm fa K ≤ S0 ∧ (x2 = 1 → sl_sm fa K < S0)
theorem sl_nm {m : Nat} (h : m < 2 ^ 31) : ¬ nI m = -1 := fun z => by
  have p : (0 : Int32) ≤ -1 := by rw [← z]; exact nI_pos' h
  exact absurd p (by decide)
section
variable {o g l : Nat → Nat}
variable {y_steps : Int32} {y_count : Int32} {y_known : Int32} {y_different : Int32} {y_path : Nat → Int64} {y_list : Nat → Int64} {y_next : Nat → Int32} {y_table : Nat → Int32} {y_far : Nat → Int32} {y_found : Nat → Int32} {y_who : Nat → Int32} {y_what : Nat → Int32} {y_before : Nat → Int64} {y_tried : Nat → Int32}
theorem sl_ysgt {post : Int32 → Prop} {n w : Nat} (P : sl_PV o g l) (S : sl_SV o l n) (hw : w < 4) (h : post (sl_B (sl_sgt o g l w n))) : wpY_isSought post (y_steps, y_count, y_known, y_different, (fun j => nI (o j)), (fun j => nI (g j)), (fun j => nI (l j)), y_path, y_list, y_next, y_table, y_far, y_found, y_who, y_what, y_before, y_tried) (lN (sl_yc l n)) (nI w) := by
  have hm := sl_yc_lt (l := l) n
  have f2 := sl_f2 (n := n)
  have bd : ∀ b, sl_bd n = b → b = decide (sl_f n 15 ≠ 0) := fun b e => e.symm
  unfold wpY_isSought
  unfold sl_sgt at h
  refine pk_eq w 0 (fun e => sl_ybad hm ?_) (fun e => sl_yend P S (sl_bB (fun z => ?_) (fun z => ?_)))
  · rw [if_pos e] at h
    rw [sl_ho (by decide) (by decide)]
    refine pk_eq _ 1 (fun q => ?_) (fun q => ?_)
    · rw [sl_B1 (show sl_bd n = true from decide_eq_true (by omega))] at h; exact h
    · rw [sl_B0 (show sl_bd n = false from decide_eq_false (by omega))] at h; exact h
  · have ze : sl_en o g l n = false := z
    rw [if_neg e, ze] at h
    have : (if w = 1 then false && !sl_dn l n else if w = 2 then false && sl_dn l n else false && sl_dn l n && !sl_bd n) = false := by
      split
      · rfl
      · split <;> rfl
    rw [this] at h
    exact h
  · have ze : sl_en o g l n = true := z
    rw [if_neg e, ze] at h
    refine pk_eq w 1 (fun e1 => sl_ydone P (sl_bB (fun y => ?_) (fun y => ?_))) (fun e1 => sl_ydone P (sl_bB (fun y => ?_) (fun y => ?_)))
    · rw [if_pos e1, show sl_dn l n = false from y] at h; exact h
    · rw [if_pos e1, show sl_dn l n = true from y] at h; exact h
    · rw [if_neg e1, show sl_dn l n = false from y] at h
      have : (if w = 2 then true && false else true && false && !sl_bd n) = false := by split <;> rfl
      rw [this] at h
      exact h
    · rw [if_neg e1, show sl_dn l n = true from y] at h
      refine pk_eq w 2 (fun e2 => ?_) (fun e2 => sl_ybad hm ?_)
      · rw [if_pos e2] at h; exact h
      · rw [if_neg e2] at h
        rw [sl_ho (by decide) (by decide)]
        refine pk_eq _ 0 (fun q => ?_) (fun q => ?_)
        · rw [show sl_bd n = false from decide_eq_false (by omega)] at h; exact h
        · rw [show sl_bd n = true from decide_eq_true q] at h; exact h
theorem sl_y65 {post : SY → Prop} {J45 : Int32 → (Nat → Int32) → (Nat → Int32) → (Nat → Int32) → (Nat → Int64) → (Nat → Int64) → (Nat → Int32) → (Nat → Int32) → (Nat → Int32) → (Nat → Int32) → (Nat → Int32) → (Nat → Int32) → (Nat → Int64) → (Nat → Int32) → Prop} {J58 : Int32 → Int32 → (Nat → Int32) → (Nat → Int32) → (Nat → Int32) → (Nat → Int64) → (Nat → Int64) → (Nat → Int32) → (Nat → Int32) → (Nat → Int32) → (Nat → Int32) → (Nat → Int32) → (Nat → Int32) → (Nat → Int64) → (Nat → Int32) → Prop} {K k S0 : Nat} {sg : Nat → Bool} (hK : K ≤ 1200) (E3 : ∀ k t, k < K → t < 3 → y_next (3 * k + t) = -1 ∨ ∃ m, sl_ed y_next K k t m) (hk : k < K)
    (h : ∀ x2 F fa, sl_MV sg K y_next S0 x2 fa → (∀ i, i < K → F i = nI (fa i)) → (x2 = 0 → ∀ i, k ≤ i → i < K → sl_FP K y_next fa i) → J58 (nI x2) (nI k + (-1)) (fun j => nI (o j)) (fun j => nI (g j)) (fun j => nI (l j)) y_path y_list y_next y_table F y_found y_who y_what y_before y_tried) :
    ∀ d t, t + d = 3 → ∀ x2 F fa, sl_MV sg K y_next S0 x2 fa → (∀ i, i < K → F i = nI (fa i)) → (x2 = 0 → (∀ i, k < i → i < K → sl_FP K y_next fa i) ∧ (∀ t' m, t' < t → sl_ed y_next K k t' m → fa k ≤ fa m + 1)) → wY_measure_65 post J45 J58 (nI k) y_steps (nI K) y_known y_different (d + 1) (nI x2) (nI t) (fun j => nI (o j)) (fun j => nI (g j)) (fun j => nI (l j)) y_path y_list y_next y_table F y_found y_who y_what y_before y_tried := by
  intro d
  induction d with
  | zero =>
    intro t ht x2 F fa M hF X
    have : t = 3 := by omega
    subst this
    refine br_t (by decide) (nm_e (h x2 F fa M hF (fun z i h1 h2 => ?_)))
    by_cases e : i = k
    · subst e
      exact fun t m ht' e' => (X z).2 t m ht' e'
    · exact (X z).1 i (by omega) h2
  | succ d ih =>
    intro t ht x2 F fa M hF X
    have t3 : t < 3 := by omega
    have v1 : vp_in (3 * nI k + nI t) 3603 := by rw [sl_e3]; exact vp_in_nI (by omega) (by decide)
    have cl : (3 * nI k + nI t).toNatClampNeg = 3 * k + t := by rw [sl_e3, nI_clamp (by omega)]
    have vk : vp_in (nI k) 1201 := vp_in_nI (by omega) (by decide)
    have ck : F (nI k).toNatClampNeg = nI (fa k) := by rw [nI_clamp (by omega)]; exact hF k hk
    have lk := M.2.1.1 k hk
    refine br_f (nI_ge (b := 3) t3 (by decide)) ⟨v1, ?_⟩
    rcases E3 k t hk t3 with e | ⟨m, e⟩
    · refine nm_r (e' := -1) (by rw [cl]; exact e) (br_t (by decide) (nm_r (nI_1 t) (ih (t + 1) (by omega) x2 F fa M hF (fun z => ⟨(X z).1, fun t' m h' e' => ?_⟩))))
      by_cases q : t' = t
      · subst q
        have := e'.2
        rw [e] at this
        exact absurd this.symm (sl_nm (by have := e'.1; omega))
      · exact (X z).2 t' m (by omega) e'
    · have em := e.1
      have vm : vp_in (nI m) 1201 := vp_in_nI (by omega) (by decide)
      have cm : F (nI m).toNatClampNeg = nI (fa m) := by rw [nI_clamp (by omega)]; exact hF m em
      have lm := M.2.1.1 m em
      refine nm_r (e' := nI m) (by rw [cl]; exact e.2) (br_f (nI_pos (by omega)) ⟨vm, vk, ?_⟩)
      refine pk_lt (fa m + 1) (fa k) (fun q => ⟨vm, vk, ?_⟩) (fun q => nm_r (nI_1 t) (ih (t + 1) (by omega) x2 F fa M hF (fun z => ⟨(X z).1, fun t' m' h' e' => ?_⟩))) (by rw [cm, nI_1]) ck
      · refine nm_r (e' := upd F k (nI (fa m + 1))) (by rw [cm, nI_1, nI_clamp (by omega)]) (nm_r (nI_1 t) (ih (t + 1) (by omega) 1 _ (sl_un fa k (fa m + 1)) ?_ (fun i hi => ?_) (fun z => absurd z (by decide))))
        · have s := sl_sm_u (f := fa) (k := k) (v := fa m + 1) hk
          have := M.2.2.1
          exact ⟨Or.inr rfl, sl_FI_u M.2.1 hk t3 e q, by omega, fun _ => by omega⟩
        · by_cases y : i = k
          · subst y; rw [pk_us, sl_un_s]
          · rw [pk_un y, sl_un_n y]; exact hF i hi
      · by_cases y : t' = t
        · subst y
          have := e'.2
          rw [e.2] at this
          have := (nI_eq (by omega) (by have := e'.1; omega)).mp this
          subst this
          exact q
        · exact (X z).2 t' m' (by omega) e'
theorem sl_y58 {post : SY → Prop} {J45 : Int32 → (Nat → Int32) → (Nat → Int32) → (Nat → Int32) → (Nat → Int64) → (Nat → Int64) → (Nat → Int32) → (Nat → Int32) → (Nat → Int32) → (Nat → Int32) → (Nat → Int32) → (Nat → Int32) → (Nat → Int64) → (Nat → Int32) → Prop} {K S0 : Nat} {sg : Nat → Bool} (hK : K ≤ 1200) (E3 : ∀ k t, k < K → t < 3 → y_next (3 * k + t) = -1 ∨ ∃ m, sl_ed y_next K k t m)
    (h : ∀ x2 F fa, sl_MV sg K y_next S0 x2 fa → (∀ i, i < K → F i = nI (fa i)) → (x2 = 0 → ∀ i, i < K → sl_FP K y_next fa i) → J45 (nI x2) (fun j => nI (o j)) (fun j => nI (g j)) (fun j => nI (l j)) y_path y_list y_next y_table F y_found y_who y_what y_before y_tried) :
    ∀ c, c ≤ K → ∀ x2 F fa, sl_MV sg K y_next S0 x2 fa → (∀ i, i < K → F i = nI (fa i)) → (x2 = 0 → ∀ i, c ≤ i → i < K → sl_FP K y_next fa i) → wY_measure_58 post J45 y_steps (nI K) y_known y_different (c + 1) (nI x2) (nI c + (-1)) (fun j => nI (o j)) (fun j => nI (g j)) (fun j => nI (l j)) y_path y_list y_next y_table F y_found y_who y_what y_before y_tried := by
  intro c
  induction c with
  | zero =>
    intro _ x2 F fa M hF X
    exact br_t (by decide) (h x2 F fa M hF (fun z i hi => X z i (Nat.zero_le _) hi))
  | succ c ih =>
    intro hc x2 F fa M hF X
    rw [pk_m1]
    refine br_f (nI_pos (by omega)) ⟨4, sl_y65 hK E3 (by omega) (fun x2' F' fa' M' hF' X' => ih (by omega) x2' F' fa' M' hF' X') 3 0 rfl x2 F fa M hF (fun z => ⟨fun i h1 h2 => X z i (by omega) h2, fun t' m h' => absurd h' (Nat.not_lt_zero t')⟩)⟩
theorem sl_y45 {post : SY → Prop} {K : Nat} {sg : Nat → Bool} (hK : K ≤ 1200) (E3 : ∀ k t, k < K → t < 3 → y_next (3 * k + t) = -1 ∨ ∃ m, sl_ed y_next K k t m)
    (h : ∀ F fa, sl_FI sg K y_next fa → (∀ i, i < K → F i = nI (fa i)) → (∀ i, i < K → sl_FP K y_next fa i) → post (y_steps, (nI K), y_known, y_different, (fun j => nI (o j)), (fun j => nI (g j)), (fun j => nI (l j)), y_path, y_list, y_next, y_table, F, y_found, y_who, y_what, y_before, y_tried)) :
    ∀ S F fa, sl_FI sg K y_next fa → (∀ i, i < K → F i = nI (fa i)) → sl_sm fa K ≤ S → wY_measure_45 post y_steps (nI K) y_known y_different (S + 2) 1 (fun j => nI (o j)) (fun j => nI (g j)) (fun j => nI (l j)) y_path y_list y_next y_table F y_found y_who y_what y_before y_tried := by
  intro S
  induction S with
  | zero =>
    intro F fa FI hF hS
    refine br_f (by decide) (nm_r (e' := nI K + (-1)) (Int32.sub_eq_add_neg ..) ⟨K + 1, sl_y58 (S0 := sl_sm fa K) hK E3 (fun x2 F' fa' M hF' X => ?_) K (Nat.le_refl _) 0 F fa ⟨Or.inl rfl, FI, Nat.le_refl _, fun z => absurd z (by decide)⟩ hF (fun _ i h1 h2 => absurd h2 (by omega))⟩)
    rcases M.1 with rfl | rfl
    · exact br_t rfl (h F' fa' M.2.1 hF' (X rfl))
    · have := M.2.2.2 rfl; omega
  | succ S ih =>
    intro F fa FI hF hS
    refine br_f (by decide) (nm_r (e' := nI K + (-1)) (Int32.sub_eq_add_neg ..) ⟨K + 1, sl_y58 (S0 := sl_sm fa K) hK E3 (fun x2 F' fa' M hF' X => ?_) K (Nat.le_refl _) 0 F fa ⟨Or.inl rfl, FI, Nat.le_refl _, fun z => absurd z (by decide)⟩ hF (fun _ i h1 h2 => absurd h2 (by omega))⟩)
    rcases M.1 with rfl | rfl
    · exact br_t rfl (h F' fa' M.2.1 hF' (X rfl))
    · exact ih F' fa' M.2.1 hF' (by have := M.2.2.2 rfl; omega)
theorem sl_ymea {post : SY → Prop} {K w : Nat} {st : Nat → Nat} (P : sl_PV o g l) (hS : ∀ i, i < K → sl_SV o l (st i)) (hK : K ≤ 1200) (hw : w < 4) (el : ∀ i, i < K → y_list i = lN (sl_yc l (st i))) (E3 : ∀ k t, k < K → t < 3 → y_next (3 * k + t) = -1 ∨ ∃ m, sl_ed y_next K k t m)
    (h : ∀ F fa, sl_FI (fun i => sl_sgt o g l w (st i)) K y_next fa → (∀ i, i < K → F i = nI (fa i)) → (∀ i, i < K → sl_FP K y_next fa i) → post (y_steps, (nI K), y_known, y_different, (fun j => nI (o j)), (fun j => nI (g j)), (fun j => nI (l j)), y_path, y_list, y_next, y_table, F, y_found, y_who, y_what, y_before, y_tried)) : wpY_measure post (y_steps, (nI K), y_known, y_different, (fun j => nI (o j)), (fun j => nI (g j)), (fun j => nI (l j)), y_path, y_list, y_next, y_table, y_far, y_found, y_who, y_what, y_before, y_tried) (nI w) := by
  have key : ∀ d i, i + d = K → ∀ F : Nat → Int32, (∀ q, q < i → F q = nI (if sl_sgt o g l w (st q) = true then 0 else 1000)) → wY_measure_2 post (nI w) y_steps (nI K) y_known y_different (d + 1) (nI i) (fun j => nI (o j)) (fun j => nI (g j)) (fun j => nI (l j)) y_path y_list y_next y_table F y_found y_who y_what y_before y_tried := by
    intro d
    induction d with
    | zero =>
      intro i hi F hF
      have : i = K := by omega
      subst this
      refine br_t (nI_le (Nat.le_refl _) (by omega)) ⟨sl_sm (fun q => if sl_sgt o g l w (st q) = true then 0 else 1000) i + 2, sl_y45 hK E3 h _ F (fun q => if sl_sgt o g l w (st q) = true then 0 else 1000) ⟨fun q _ => ?_, fun q _ s => if_pos s, fun q _ lt => ?_⟩ hF (Nat.le_refl _)⟩
      · show (if sl_sgt o g l w (st q) = true then 0 else 1000) ≤ 1000
        split <;> decide
      · left
        have lt' : (if sl_sgt o g l w (st q) = true then 0 else 1000) < 1000 := lt
        show sl_sgt o g l w (st q) = true
        cases s : sl_sgt o g l w (st q)
        · rw [s] at lt'; exact absurd lt' (by decide)
        · rfl
    | succ d ih =>
      intro i hi F hF
      have vi : vp_in (nI i) 1201 := vp_in_nI (by omega) (by decide)
      have ci : (nI i).toNatClampNeg = i := nI_clamp (by omega)
      refine br_f (nI_ge (by omega) (by omega)) ⟨vi, ?_⟩
      rw [ci, el i (by omega)]
      refine sl_ysgt P (hS i (by omega)) hw (sl_bB (fun z => ⟨vi, nm_e (nm_r (nI_1 i) (ih (i + 1) (by omega) _ (fun q hq => ?_)))⟩) (fun z => ⟨vi, nm_e (nm_r (nI_1 i) (ih (i + 1) (by omega) _ (fun q hq => ?_)))⟩))
      · by_cases y : q = i
        · subst y; rw [pk_us, z]; rfl
        · rw [pk_un y]; exact hF q (by omega)
      · by_cases y : q = i
        · subst y; rw [pk_us, z]; rfl
        · rw [pk_un y]; exact hF q (by omega)
  exact ⟨K + 1, key K 0 (by omega) y_far (fun q hq => absurd hq (Nat.not_lt_zero q))⟩
end
section
variable {f_states : Int32} {f_known : Int32} {f_many : Int32} {f_endings : Int32} {f_races : Int32} {f_kinds : Int32} {f_counted : Int32} {f_present : Int64} {f_taken : Int32} {a_op : Nat → Int32} {a_arg : Nat → Int32} {a_length : Nat → Int32} {a_state : Nat → Int64} {a_from : Nat → Int32} {a_by : Nat → Int32} {a_bucket : Nat → Int32} {a_ending : Nat → Int64} {a_first : Nat → Int32} {a_way : Nat → Int64} {a_asleep : Nat → Int32} {a_gone : Nat → Int32} {a_past : Nat → Int64}
theorem sl_xsteps {post : Int32 → Prop} {K : Nat} {ky : Nat → Nat} (T : sl_TR K ky) (hK : K ≤ 1200) (hf : ∀ i, i < K → a_from i = if i = 0 then -1 else nI (ky i / 3)) : ∀ f i c, i < f → i < K → post (nI (c + sl_dep ky i)) → wX_steps_4 post f_states f_known f_many f_endings f_races f_kinds f_counted f_present f_taken a_op a_arg a_length a_state a_from a_by a_bucket a_ending a_first a_way a_asleep a_gone a_past f (nI c) (nI i) := by
  intro f
  induction f with
  | zero => intro i c h; exact absurd h (Nat.not_lt_zero i)
  | succ f ih =>
    intro i c h hi hp
    have vi : vp_in (nI i) 1201 := vp_in_nI (by omega) (by decide)
    have cl : (nI i).toNatClampNeg = i := nI_clamp (by omega)
    refine ⟨vi, ?_⟩
    rw [cl, hf i hi]
    by_cases z : i = 0
    · subst z
      rw [if_pos rfl]
      exact br_t (by decide) hp
    · rw [if_neg z]
      have p := T.1 i (by omega) hi
      refine br_f (nI_pos (by omega)) (nm_r (nI_1 c) ⟨vi, nm_e (ih (ky i / 3) (c + 1) (by omega) (by omega) ?_)⟩)
      rw [sl_depS T (by omega) hi] at hp
      rw [show c + 1 + sl_dep ky (ky i / 3) = c + (sl_dep ky (ky i / 3) + 1) by omega]
      exact hp
theorem sl_xst40 {post : Int32 → SX → Prop} {K Q kk : Nat} {ky : Nat → Nat} (T : sl_TR K ky) (hK : K ≤ 1200) (hQ : Q < K) (hk : kk < sl_dep ky Q) (dl : sl_dep ky Q ≤ 30) (hf : ∀ i, i < K → a_from i = if i = 0 then -1 else nI (ky i / 3)) (hb : ∀ i, i < K → 0 < i → a_by i = nI (ky i % 3)) (h : post (nI (ky (sl_up ky Q (sl_dep ky Q - 1 - kk)) % 3)) (f_states, f_known, f_many, f_endings, f_races, f_kinds, f_counted, f_present, f_taken, a_op, a_arg, a_length, a_state, a_from, a_by, a_bucket, a_ending, a_first, a_way, a_asleep, a_gone, a_past)) :
    ∀ e d, d + e = sl_dep ky Q - 1 - kk → wX_step_40 post (nI kk) f_states f_known f_many f_endings f_races f_kinds f_counted f_present f_taken a_op a_arg a_length a_state a_from a_by a_bucket a_ending a_first a_way a_asleep a_gone a_past (e + 1) (nI (sl_up ky Q d)) (nI (sl_dep ky Q - 1 - d)) := by
  intro e
  induction e with
  | zero =>
    intro d hd
    have : d = sl_dep ky Q - 1 - kk := by omega
    subst this
    obtain ⟨a, b⟩ := sl_up_d T hQ (sl_dep ky Q - 1 - kk) (by omega)
    have p0 := sl_up_pos T hQ (d := sl_dep ky Q - 1 - kk) (by omega)
    refine br_t (nI_le (by omega) (by omega)) ⟨vp_in_nI (by omega) (by decide), ?_⟩
    rw [nI_clamp (show sl_up ky Q (sl_dep ky Q - 1 - kk) < 2 ^ 31 by omega), hb _ a p0]
    exact h
  | succ e ih =>
    intro d hd
    obtain ⟨a, b⟩ := sl_up_d T hQ d (by omega)
    have p0 := sl_up_pos T hQ (d := d) (by omega)
    refine br_f (nI_ge (by omega) (by omega)) ⟨vp_in_nI (by omega) (by decide), nm_r (e' := nI (sl_up ky Q (d + 1))) ?_ (nm_r (e' := nI (sl_dep ky Q - 1 - (d + 1))) ?_ (ih (d + 1) (by omega)))⟩
    · rw [nI_clamp (show sl_up ky Q d < 2 ^ 31 by omega), hf _ a, if_neg (by omega)]
      rfl
    · rw [show sl_dep ky Q - 1 - d = (sl_dep ky Q - 1 - (d + 1)) + 1 by omega, pk_m1]
end
section
variable {y_steps : Int32} {y_count : Int32} {y_known : Int32} {y_different : Int32} {y_ops : Nat → Int32} {y_args : Nat → Int32} {y_length : Nat → Int32} {y_path : Nat → Int64} {y_list : Nat → Int64} {y_next : Nat → Int32} {y_table : Nat → Int32} {y_far : Nat → Int32} {y_found : Nat → Int32} {y_who : Nat → Int32} {y_what : Nat → Int32} {y_before : Nat → Int64} {y_tried : Nat → Int32}
theorem sl_yst41 {post : Int32 → SY → Prop} {J32 : Int32 → Int32 → Int32 → Prop} {K a ts b d : Nat} {x2 : Int32} {j : Nat} {fa : Nat → Nat} (hK : K ≤ 1200) (ha : a < K) (hts : ts < 3) (E3 : ∀ k t, k < K → t < 3 → y_next (3 * k + t) = -1 ∨ ∃ m, sl_ed y_next K k t m) (hF : ∀ i, i < K → y_far i = nI (fa i)) (hfa : ∀ i, i < K → fa i ≤ 1000) (e : sl_ed y_next K a ts b) (da : fa a = d + 1) (db : fa b = d) (ne : ∀ t m, t < ts → sl_ed y_next K a t m → fa m ≠ d) (h : J32 (nI b) (nI ts) (nI (j + 1))) :
    ∀ q t, t + q = ts → wY_step_41 post J32 x2 (nI a) (nI j) y_steps y_count y_known y_different y_ops y_args y_length y_path y_list y_next y_table y_far y_found y_who y_what y_before y_tried (q + 1) (nI t) := by
  have va : vp_in (nI a) 1201 := vp_in_nI (by omega) (by decide)
  have ca : y_far (nI a).toNatClampNeg - 1 = nI d := by rw [nI_clamp (by omega), hF a ha, da]; exact nI_pred d
  intro q
  induction q with
  | zero =>
    intro t ht
    have : t = ts := by omega
    subst this
    have v1 : vp_in (3 * nI a + nI t) 3603 := by rw [sl_e3]; exact vp_in_nI (by omega) (by decide)
    have cl : y_next (3 * nI a + nI t).toNatClampNeg = nI b := by rw [sl_e3, nI_clamp (by omega)]; exact e.2
    have b1 := e.1
    have cb : y_far (nI b).toNatClampNeg = nI d := by rw [nI_clamp (by omega), hF b b1, db]
    refine ⟨v1, ?_⟩
    rw [cl, ca, cb]
    exact br_f (nI_pos (by omega)) ⟨v1, vp_in_nI (by omega) (by decide), va, br_t rfl ⟨v1, nm_e (nm_r (nI_1 j) h)⟩⟩
  | succ q ih =>
    intro t ht
    have v1 : vp_in (3 * nI a + nI t) 3603 := by rw [sl_e3]; exact vp_in_nI (by omega) (by decide)
    have cl : (3 * nI a + nI t).toNatClampNeg = 3 * a + t := by rw [sl_e3, nI_clamp (by omega)]
    refine ⟨v1, ?_⟩
    rw [cl, ca]
    rcases E3 a t ha (by omega) with z | ⟨m, z⟩
    · rw [z]
      exact br_t (by decide) (nm_r (nI_1 t) (ih (t + 1) (by omega)))
    · have m1 := z.1
      have cm : y_far (nI m).toNatClampNeg = nI (fa m) := by rw [nI_clamp (by omega), hF m m1]
      have lm := hfa m m1
      have la := hfa a ha
      rw [z.2, cm]
      refine br_f (nI_pos (by omega)) ⟨v1, vp_in_nI (by omega) (by decide), va, ?_⟩
      exact pk_eq (fa m) d (fun y => absurd y (ne t m (by omega) z)) (fun _ => nm_r (nI_1 t) (ih (t + 1) (by omega)))
theorem sl_yst32 {post : Int32 → SY → Prop} {K Q kk : Nat} {ky : Nat → Nat} {sg : Nat → Bool} {fa : Nat → Nat} (hK : K ≤ 1200) (T : sl_TR K ky) (E : sl_ES K ky y_next) (F : sl_FI sg K y_next fa) (X : ∀ i, i < K → sl_FP K y_next fa i) (hF : ∀ i, i < K → y_far i = nI (fa i)) (hQ : Q < K) (s : sg Q = true) (mn : ∀ i, i < Q → sg i = false) (dl : sl_dep ky Q ≤ 30) (hk : kk < sl_dep ky Q) (h : post (nI (ky (sl_up ky Q (sl_dep ky Q - 1 - kk)) % 3)) (y_steps, y_count, y_known, y_different, y_ops, y_args, y_length, y_path, y_list, y_next, y_table, y_far, y_found, y_who, y_what, y_before, y_tried)) :
    ∀ e j, j + e = kk + 1 → ∀ th : Int32, (j = 0 ∨ th = nI (ky (sl_up ky Q (sl_dep ky Q - j)) % 3)) → wY_step_32 post (nI kk) y_steps y_count y_known y_different y_ops y_args y_length y_path y_list y_next y_table y_far y_found y_who y_what y_before y_tried (e + 1) (nI (sl_up ky Q (sl_dep ky Q - j))) th (nI j) := by
  intro e
  induction e with
  | zero =>
    intro j hj th ht
    have : j = kk + 1 := by omega
    subst this
    refine br_t (nI_lt (by omega) (by omega)) ?_
    rcases ht with z | z
    · omega
    · rw [z, show sl_dep ky Q - (kk + 1) = sl_dep ky Q - 1 - kk by omega]
      exact h
  | succ e ih =>
    intro j hj th ht
    have ed : sl_dep ky Q - j = (sl_dep ky Q - (j + 1)) + 1 := by omega
    obtain ⟨a1, a2⟩ := sl_up_d T hQ (sl_dep ky Q - j) (by omega)
    have c := sl_choice T E F X hQ s mn (by omega) (d := sl_dep ky Q - (j + 1)) (by omega)
    have fp := sl_far_p T E F X hQ s mn (by omega)
    have m3 : ky (sl_up ky Q (sl_dep ky Q - (j + 1))) % 3 < 3 := Nat.mod_lt _ (by decide)
    refine br_f (nI_nlt (by omega) (by omega)) ⟨ky (sl_up ky Q (sl_dep ky Q - (j + 1))) % 3 + 1, ?_⟩
    rw [ed] at a1 ⊢
    refine sl_yst41 (d := sl_dep ky Q - (j + 1)) hK a1 m3 E.2.2 hF F.1 c.1 (fp _ (by omega)) (fp _ (by omega)) c.2 (ih (j + 1) (by omega) _ (Or.inr rfl)) _ 0 (Nat.zero_add _)
end
end
section
/-! soonest, step -/
section
variable (o g l : Nat → Nat) (s0 : Nat)
def sl_SR (w : Nat) (fm : Int32) (Fi : Nat → Int32) (r : Int32) : Prop := (fm = 1 ∧ r = -2 ∧ ∃ j, 1200 < sl_c o g l s0 j) ∨ (fm = 0 ∧ ∃ K, K ≤ 1200 ∧ sl_c o g l s0 (3 * K) = K ∧ ((r = -3 ∧ ∀ i, i < K → sl_sgt o g l w (sl_st o g l s0 (3 * K) i) = false) ∨ (∃ Q, Q < K ∧ Fi w = nI (Q + 1) ∧ r = nI (sl_dep (sl_ky o g l s0 (3 * K)) Q) ∧ sl_sgt o g l w (sl_st o g l s0 (3 * K) Q) = true ∧ ∀ i, i < Q → sl_sgt o g l w (sl_st o g l s0 (3 * K) i) = false)))
def sl_SQ (w : Nat) (nx F : Nat → Int32) (r : Int32) : Prop := (r = -2 ∧ ∃ j, 1200 < sl_c o g l s0 j) ∨ (∃ K, K ≤ 1200 ∧ sl_c o g l s0 (3 * K) = K ∧ sl_TR K (sl_ky o g l s0 (3 * K)) ∧ sl_ES K (sl_ky o g l s0 (3 * K)) nx ∧ ∃ fa, sl_FI (fun i => sl_sgt o g l w (sl_st o g l s0 (3 * K) i)) K nx fa ∧ (∀ i, i < K → F i = nI (fa i)) ∧ (∀ i, i < K → sl_FP K nx fa i) ∧ r = if fa 0 = 1000 then -3 else nI (fa 0))
end
section
variable {o g l : Nat → Nat} {s0 : Nat}
theorem sl_dQ (P : sl_PV o g l) (S0 : sl_SV o l s0) {K Q : Nat} (h : sl_c o g l s0 (3 * K) = K) (hQ : Q < K) (T : sl_TR K (sl_ky o g l s0 (3 * K))) : sl_dep (sl_ky o g l s0 (3 * K)) Q ≤ 30 := by
  have I := sl_inv P S0 (3 * K)
  rw [h] at I
  exact sl_dep_30 P I T hQ
theorem sl_req {w : Nat} {fm : Int32} {Fi nx F : Nat → Int32} {r r' : Int32} (P : sl_PV o g l) (S0 : sl_SV o l s0) (A : sl_SR o g l s0 w fm Fi r) (B : sl_SQ o g l s0 w nx F r') : r' = r := by
  rcases A with ⟨_, rfl, j, hj⟩ | ⟨_, K, a1, a2, a3⟩
  · rcases B with ⟨rfl, _⟩ | ⟨K, b1, b2, _⟩
    · rfl
    · have := sl_fin_m (j := j) b2; omega
  · rcases B with ⟨rfl, j, hj⟩ | ⟨K', b1, b2, T, E, fa, F1, F2, F3, rfl⟩
    · have := sl_fin_m (j := j) a2; omega
    · obtain rfl := sl_fin_u a2 b2
      have I := sl_inv P S0 (3 * K)
      rw [a2] at I
      rcases a3 with ⟨rfl, ns⟩ | ⟨Q, hQ, _, rfl, s, mn⟩
      · rw [if_pos (sl_far_0 T E F1 (by have := I.1; omega) ns)]
      · have d := sl_dQ P S0 a2 hQ T
        have e := sl_far_1 T E F1 F3 hQ s mn (by omega)
        rw [e, if_neg (by omega)]
variable {f_states : Int32} {f_known : Int32} {f_many : Int32} {f_endings : Int32} {f_races : Int32} {f_kinds : Int32} {f_counted : Int32} {f_present : Int64} {f_taken : Int32} {a_state : Nat → Int64} {a_from : Nat → Int32} {a_by : Nat → Int32} {a_bucket : Nat → Int32} {a_ending : Nat → Int64} {a_first : Nat → Int32} {a_way : Nat → Int64} {a_asleep : Nat → Int32} {a_gone : Nat → Int32} {a_past : Nat → Int64}
variable {y_steps : Int32} {y_count : Int32} {y_known : Int32} {y_different : Int32} {y_path : Nat → Int64} {y_list : Nat → Int64} {y_next : Nat → Int32} {y_table : Nat → Int32} {y_far : Nat → Int32} {y_found : Nat → Int32} {y_who : Nat → Int32} {y_what : Nat → Int32} {y_before : Nat → Int64} {y_tried : Nat → Int32}
theorem sl_xsoon {post : Int32 → SX → Prop} {w : Nat} (P : sl_PV o g l) (S0 : sl_SV o l s0) (hw : w < 4) (hK : f_known = 0 ∨ (f_known = 1 ∧ sl_KX o g l s0 f_states f_many f_races f_endings a_state a_from a_by a_ending a_first))
    (hp : ∀ fs fm R E ast afr aby abk A Fi, sl_KX o g l s0 fs fm R E ast afr aby A Fi → ∀ r, sl_SR o g l s0 w fm Fi r → post r (fs, 1, fm, E, R, f_kinds, f_counted, (lN s0), f_taken, (fun j => nI (o j)), (fun j => nI (g j)), (fun j => nI (l j)), ast, afr, aby, abk, A, Fi, a_way, a_asleep, a_gone, a_past)) : wpX_soonest post (f_states, f_known, f_many, f_endings, f_races, f_kinds, f_counted, (lN s0), f_taken, (fun j => nI (o j)), (fun j => nI (g j)), (fun j => nI (l j)), a_state, a_from, a_by, a_bucket, a_ending, a_first, a_way, a_asleep, a_gone, a_past) (nI w) := by
  have vw : vp_in (nI w) 4 := vp_in_nI hw (by decide)
  have cw : (nI w).toNatClampNeg = w := nI_clamp (by omega)
  unfold wpX_soonest
  refine sl_outs (fun _ _ => br_t rfl ?_) (fun z => absurd ((sl_rng (m := 3) (by decide) rfl (by decide)).mpr ⟨w, by omega, rfl⟩) z)
  refine sl_xk P S0 hK (fun fs fm R E ast afr aby abk A Fi kx => ?_)
  have kx' := kx
  rcases kx with ⟨rfl, K, a1, a2, rfl, a4, a5, a6, a7⟩ | ⟨rfl, j, a1⟩
  · have I := sl_inv P S0 (3 * K)
    rw [a2] at I
    have T : sl_TR K (sl_ky o g l s0 (3 * K)) := ⟨fun i h0 hK => (I.2.2.2.2.1 i h0 hK).2.1, I.2.2.2.2.2.1⟩
    refine br_t rfl ⟨vw, ?_⟩
    simp only [cw]
    rcases a7.2.2.2 w hw with ⟨z, y⟩ | ⟨Q, hQ, z, s, mn⟩
    · exact br_t z (hp _ _ _ _ _ _ _ _ _ _ kx' _ (Or.inr ⟨rfl, K, a1, a2, Or.inl ⟨rfl, y⟩⟩))
    · rw [z]
      have e : nI (Q + 1) - 1 = nI Q := nI_pred Q
      refine br_f (nI_ne0 (by omega) (by omega)) ⟨vw, ?_⟩
      rw [e]
      refine ⟨Q + 1, sl_xsteps T a1 a5 (Q + 1) Q 0 (by omega) hQ ?_⟩
      rw [Nat.zero_add]
      exact hp _ _ _ _ _ _ _ _ _ _ kx' _ (Or.inr ⟨rfl, K, a1, a2, Or.inr ⟨Q, hQ, z, rfl, s, mn⟩⟩)
  · exact br_f (by decide) (hp _ _ _ _ _ _ _ _ _ _ kx' _ (Or.inl ⟨rfl, rfl, j, a1⟩))
theorem sl_ysoon {post : Int32 → SY → Prop} {w T : Nat} (P : sl_PV o g l) (S0 : sl_SV o l s0) (hw : w < 4) (hT : T < 32) (e0 : y_path T = lN (sl_yc l s0)) (hK : y_known = 0 ∨ (y_known = 1 ∧ sl_KY o g l s0 y_count y_list y_next))
    (hp : ∀ ct ls nx tb F, sl_KY o g l s0 ct ls nx → ∀ r, sl_SQ o g l s0 w nx F r → post r ((nI T), ct, 1, y_different, (fun j => nI (o j)), (fun j => nI (g j)), (fun j => nI (l j)), y_path, ls, nx, tb, F, y_found, y_who, y_what, y_before, y_tried)) : wpY_soonest post ((nI T), y_count, y_known, y_different, (fun j => nI (o j)), (fun j => nI (g j)), (fun j => nI (l j)), y_path, y_list, y_next, y_table, y_far, y_found, y_who, y_what, y_before, y_tried) (nI w) := by
  unfold wpY_soonest
  refine sl_wits (fun _ _ => br_f (by decide) ?_) (fun z => absurd ((sl_rng (m := 3) (by decide) rfl (by decide)).mpr ⟨w, by omega, rfl⟩) z)
  refine sl_yk P S0 hT e0 hK (fun ct ls nx tb ky => ?_)
  have ky' := ky
  rcases ky with ⟨K, b1, b2, rfl, b4, b5⟩ | ⟨rfl, j, b1⟩
  · have I := sl_inv P S0 (3 * K)
    rw [b2] at I
    have TE := sl_tree b1 I b5
    refine br_f (nI_nlt (a := 1200) b1 (by decide)) (br_f (by decide) ?_)
    refine sl_ymea P (fun i hi => I.2.2.1 i hi) b1 hw b4 TE.2.2.2 (fun F fa F1 F2 F3 => ?_)
    have K0 : 0 < K := by have := I.1; omega
    have l0 := F1.1 0 K0
    have SQ : ∀ r : Int32, (r = if fa 0 = 1000 then -3 else nI (fa 0)) → sl_SQ o g l s0 w nx F r := fun r hr => Or.inr ⟨K, b1, b2, TE.1, TE.2, fa, F1, F2, F3, hr⟩
    refine pk_eq (fa 0) 1000 (fun z => hp _ _ _ _ _ ky' _ (SQ _ ?_)) (fun z => hp _ _ _ _ _ ky' _ (SQ _ ?_)) (F2 0 K0) rfl
    · rw [if_pos z]
    · rw [if_neg z]; exact F2 0 K0
  · exact br_t (by decide) (br_t rfl (hp _ _ _ _ _ ky' _ (Or.inl ⟨rfl, j, b1⟩)))
end
theorem i_vc_soonest {k : Nat} {u : SX} {v : SY} (I : i_Rel k u v) (hk : k + 5 ≤ 2560) (v1 : Int32) : wpX_soonest (fun r u' => wpY_soonest (fun r' v' => r' = r ∧ i_Rel (k + 5) u' v') v v1) u v1 := by
  refine sl_el (P := fun u v => wpX_soonest (fun r u' => wpY_soonest (fun r' v' => r' = r ∧ i_Rel (k + 5) u' v') v v1) u v1) I ?_
  intro f_states f_known f_many f_endings f_races f_kinds f_counted f_present f_taken a_op a_arg a_length a_state a_from a_by a_bucket a_ending a_first a_way a_asleep a_gone a_past y_steps y_count y_known y_different y_ops y_args y_length y_path y_list y_next y_table y_far y_found y_who y_what y_before y_tried o g l h T H KN CN
  have P := H.1
  have S := (H.2.1 T (Nat.le_refl _)).1
  have T30 := sl_T30 H
  have eT := H.2.2.2 T (Nat.le_refl _)
  obtain ⟨hx, hy⟩ := sl_KN_x KN
  by_cases C : 0 ≤ v1 ∧ v1 ≤ 3
  · obtain ⟨w, hw, rfl⟩ := (sl_rng (m := 3) (by decide) rfl (by decide)).mp C
    refine sl_xsoon P S (by omega) hx (fun fs fm R E ast afr aby abk A Fi kx r hr => ?_)
    refine sl_ysoon P S (by omega) (by omega) eT hy (fun ct ls nx tb F ky r' hr' => ?_)
    exact ⟨sl_req P S hr hr', sl_in H (Or.inr ⟨rfl, rfl, kx, ky⟩) CN⟩
  · unfold wpX_soonest
    refine sl_outs (fun a b => absurd ⟨a, b⟩ C) (fun _ => br_f (by decide) ?_)
    unfold wpY_soonest
    exact sl_wits (fun a b => absurd ⟨a, b⟩ C) (fun _ => br_t rfl ⟨rfl, sl_in H KN CN⟩)
theorem i_vc_step {k : Nat} {u : SX} {v : SY} (I : i_Rel k u v) (hk : k + 5 ≤ 2560) (v1 : Int32) (v2 : Int32) : wpX_step (fun r u' => wpY_step (fun r' v' => r' = r ∧ i_Rel (k + 5) u' v') v v1 v2) u v1 v2 := by
  refine sl_el (P := fun u v => wpX_step (fun r u' => wpY_step (fun r' v' => r' = r ∧ i_Rel (k + 5) u' v') v v1 v2) u v1 v2) I ?_
  intro f_states f_known f_many f_endings f_races f_kinds f_counted f_present f_taken a_op a_arg a_length a_state a_from a_by a_bucket a_ending a_first a_way a_asleep a_gone a_past y_steps y_count y_known y_different y_ops y_args y_length y_path y_list y_next y_table y_far y_found y_who y_what y_before y_tried o g l h T H KN CN
  have P := H.1
  have S := (H.2.1 T (Nat.le_refl _)).1
  have T30 := sl_T30 H
  have eT := H.2.2.2 T (Nat.le_refl _)
  obtain ⟨hx, hy⟩ := sl_KN_x KN
  unfold wpX_step
  by_cases C : 0 ≤ v1 ∧ v1 ≤ 3
  · obtain ⟨w, hw, rfl⟩ := (sl_rng (m := 3) (by decide) rfl (by decide)).mp C
    refine sl_xsoon P S (by omega) hx (fun fs fm R E ast afr aby abk A Fi kx r hr => ?_)
    have neg : ∀ r0 : Int32, r = r0 → ¬ 0 ≤ r0 → wpY_step (fun r' v' => r' = r ∧ i_Rel (k + 5) (fs, 1, fm, E, R, f_kinds, f_counted, lN (h T), nI T, (fun j => nI (o j)), (fun j => nI (g j)), (fun j => nI (l j)), ast, afr, aby, abk, A, Fi, a_way, a_asleep, a_gone, a_past) v') (nI T, y_count, y_known, y_different, (fun j => nI (o j)), (fun j => nI (g j)), (fun j => nI (l j)), y_path, y_list, y_next, y_table, y_far, y_found, y_who, y_what, y_before, y_tried) (nI w) v2 := by
      intro r0 er nn
      unfold wpY_step
      refine sl_ysoon P S (by omega) (by omega) eT hy (fun ct ls nx tb F ky r' hr' => ?_)
      have e := sl_req P S hr hr'
      refine br_f (by rw [e, er]; exact nn) ⟨e, sl_in H (Or.inr ⟨rfl, rfl, kx, ky⟩) CN⟩
    have hr0 := hr
    rcases hr with ⟨_, er, _⟩ | ⟨rfl, K, a1, a2, a3⟩
    · refine br_f (by rw [er]; decide) (neg (-2) er (by decide))
    · rcases a3 with ⟨er, _⟩ | ⟨Q, hQ, fw, er, s, mn⟩
      · exact br_f (by rw [er]; decide) (neg (-3) er (by decide))
      · have IV := sl_inv P S (3 * K)
        rw [a2] at IV
        have TR : sl_TR K (sl_ky o g l (h T) (3 * K)) := ⟨fun i h0 hK => (IV.2.2.2.2.1 i h0 hK).2.1, IV.2.2.2.2.2.1⟩
        have d30 := sl_dQ P S a2 hQ TR
        have kx0 := kx
        rcases kx with ⟨_, K', c1, c2, c3, c4, c5, c6, c7⟩ | ⟨z, _⟩
        · obtain rfl := sl_fin_u a2 c2
          refine br_t (by rw [er]; exact nI_pos' (by omega)) ?_
          by_cases D : ∃ kk, kk < sl_dep (sl_ky o g l (h T) (3 * K)) Q ∧ v2 = nI kk
          · obtain ⟨kk, hkk, rfl⟩ := D
            refine sl_outs (fun _ _ => br_t rfl ⟨vp_in_nI (by omega) (by decide), ?_⟩) (fun z => absurd (by rw [er]; exact (sl_rngD (by omega)).mpr ⟨kk, hkk, rfl⟩) z)
            have e1 : nI (sl_dep (sl_ky o g l (h T) (3 * K)) Q) - 1 = nI (sl_dep (sl_ky o g l (h T) (3 * K)) Q - 1) := pk_sub (b := 1) (by omega)
            refine nm_r (e' := nI Q) (by rw [nI_clamp (show w < 2 ^ 31 by omega), fw]; exact nI_pred Q) (nm_r (e' := nI (sl_dep (sl_ky o g l (h T) (3 * K)) Q - 1 - 0)) (by rw [er, e1, Nat.sub_zero]) ⟨sl_dep (sl_ky o g l (h T) (3 * K)) Q - 1 - kk + 1, ?_⟩)
            refine sl_xst40 TR a1 hQ hkk d30 c5 c6 ?_ (sl_dep (sl_ky o g l (h T) (3 * K)) Q - 1 - kk) 0 (by omega)
            unfold wpY_step
            refine sl_ysoon P S (by omega) (by omega) eT hy (fun ct ls nx tb F ky r' hr' => ?_)
            have e := sl_req P S hr0 hr'
            rcases hr' with ⟨z, j, hj⟩ | ⟨K2, b1, b2, T2, E2, fa, F1, F2, F3, _⟩
            · have := sl_fin_m (j := j) a2; omega
            · obtain rfl := sl_fin_u a2 b2
              refine br_t (by rw [e, er]; exact nI_pos' (by omega)) (br_f (nI_pos (by omega)) (br_t (by rw [e, er]; exact nI_lt hkk (by omega)) ⟨kk + 2, ?_⟩))
              have W := sl_yst32 (post := fun r' v' => r' = nI (sl_ky o g l (h T) (3 * K) (sl_up (sl_ky o g l (h T) (3 * K)) Q (sl_dep (sl_ky o g l (h T) (3 * K)) Q - 1 - kk)) % 3) ∧ i_Rel (k + 5) (fs, 1, 0, E, R, f_kinds, f_counted, lN (h T), nI T, (fun j => nI (o j)), (fun j => nI (g j)), (fun j => nI (l j)), ast, afr, aby, abk, A, Fi, a_way, a_asleep, a_gone, a_past) v') (y_steps := nI T) (y_count := ct) (y_known := 1) (y_different := y_different) (y_ops := fun j => nI (o j)) (y_args := fun j => nI (g j)) (y_length := fun j => nI (l j)) (y_path := y_path) (y_list := ls) (y_next := nx) (y_table := tb) (y_far := F) (y_found := y_found) (y_who := y_who) (y_what := y_what) (y_before := y_before) (y_tried := y_tried) b1 T2 E2 F1 F3 F2 hQ s mn d30 hkk ⟨rfl, sl_in H (Or.inr ⟨rfl, rfl, kx0, ky⟩) CN⟩ (kk + 1) 0 (by omega) 0 (Or.inl rfl)
              rw [Nat.sub_zero, sl_up_n T2 hQ] at W
              exact W
          · refine sl_outs (fun a b => absurd (by rw [er] at b; exact (sl_rngD (by omega)).mp ⟨a, b⟩) D) (fun _ => br_f (by decide) ?_)
            unfold wpY_step
            refine sl_ysoon P S (by omega) (by omega) eT hy (fun ct ls nx tb F ky r' hr' => ?_)
            have e := sl_req P S hr0 hr'
            refine br_t (by rw [e, er]; exact nI_pos' (by omega)) (br_c (fun _ => ⟨rfl, sl_in H (Or.inr ⟨rfl, rfl, kx0, ky⟩) CN⟩) (fun y => br_c (fun z => ?_) (fun _ => ⟨rfl, sl_in H (Or.inr ⟨rfl, rfl, kx0, ky⟩) CN⟩)))
            exfalso
            obtain ⟨q, hq, rfl⟩ := nI_of y
            rw [e, er, nI_ltI hq (by omega)] at z
            exact D ⟨q, z, rfl⟩
        · exact absurd z (by decide)
  · unfold wpX_soonest
    refine sl_outs (fun a b => absurd ⟨a, b⟩ C) (fun _ => br_f (by decide) (br_f (by decide) ?_))
    unfold wpY_step wpY_soonest
    exact sl_wits (fun a b => absurd ⟨a, b⟩ C) (fun _ => br_t rfl (br_f (by decide) ⟨rfl, sl_in H KN CN⟩))
end
section
/-! kinds of runs: the component -/
theorem sl_mm1 : ∀ r0 r1 r2 a0 a1 a2 g0 g1 g2 : Bool, (nI (r0.toNat + 2 * r1.toNat + 4 * r2.toNat) &&& (nI (a0.toNat + 2 * a1.toNat + 4 * a2.toNat) ^^^ (-1))) &&& (nI (g0.toNat + 2 * g1.toNat + 4 * g2.toNat) ^^^ (-1)) = nI ((r0 && !a0 && !g0).toNat + 2 * (r1 && !a1 && !g1).toNat + 4 * (r2 && !a2 && !g2).toNat) := by decide +kernel
theorem sl_mm2 : ∀ a0 a1 a2 : Bool, ((nI (a0.toNat + 2 * a1.toNat + 4 * a2.toNat) &&& 1) = 0 ↔ a0 = false) ∧ ((nI (a0.toNat + 2 * a1.toNat + 4 * a2.toNat) &&& 2) = 0 ↔ a1 = false) := by decide +kernel
theorem sl_mm3 : ∀ a0 a1 a2 g0 g1 g2 : Bool, nI (a0.toNat + 2 * a1.toNat + 4 * a2.toNat) ||| nI (g0.toNat + 2 * g1.toNat + 4 * g2.toNat) = nI ((a0 || g0).toNat + 2 * (a1 || g1).toNat + 4 * (a2 || g2).toNat) := by decide +kernel
theorem sl_mm4 : ∀ a0 a1 a2 : Bool, ∀ t, t < 3 → nI (a0.toNat + 2 * a1.toNat + 4 * a2.toNat) ||| ((1 : Int32) <<< (nI t &&& 31)) = nI ((a0 || decide (0 = t)).toNat + 2 * (a1 || decide (1 = t)).toNat + 4 * (a2 || decide (2 = t)).toNat) := by decide +kernel
theorem sl_m_lt (b : Nat → Bool) : (b 0).toNat + 2 * (b 1).toNat + 4 * (b 2).toNat < 8 := by
  cases b 0 <;> cases b 1 <;> cases b 2 <;> decide
theorem sl_m_c {b b' : Nat → Bool} (h : ∀ u, u < 3 → b u = b' u) : sl_m b = sl_m b' := by
  unfold sl_m
  rw [h 0 (by decide), h 1 (by decide), h 2 (by decide)]
theorem sl_m_by (b : Nat → Bool) : vp_nar .byte (sl_m b).toInt8.toInt32 = sl_m b := sl_by8 (by have := sl_m_lt b; omega)
section
variable (o g l : Nat → Nat)
def sl_ch (d n : Nat) (E : Nat → Bool) (t : Nat) : Nat := if (sl_rdy o g l n t && !E t) = true then sl_K o g l d (sl_aft o g l n t) (sl_E o g n t E) else 0
def sl_KR (d n : Nat) (E : Nat → Bool) (t : Nat) : Nat := (if t ≤ 0 then sl_ch o g l d n E 0 else 0) + (if t ≤ 1 then sl_ch o g l d n E 1 else 0) + (if t ≤ 2 then sl_ch o g l d n E 2 else 0)
def sl_gm (n : Nat) (S : Nat → Bool) (t u : Nat) : Bool := decide (u < t) && sl_rdy o g l n u && !S u
def sl_SE (n : Nat) (S E : Nat → Bool) : Prop := ∀ u, u < 3 → (S u = true → sl_f n (7 + u) < l u) ∧ (sl_rdy o g l n u = true → S u = E u)
def sl_sx (n : Nat) (S : Nat → Bool) (t u : Nat) : Bool := (S u || sl_gm o g l n S t u) && !sl_tch o g (sl_ix n t) (sl_ix n u)
end
section
variable {o g l : Nat → Nat}
theorem sl_KR3 {d n : Nat} {E : Nat → Bool} : sl_KR o g l d n E 3 = 0 := rfl
theorem sl_KRs {d n t : Nat} {E : Nat → Bool} (ht : t < 3) : sl_KR o g l d n E t = sl_ch o g l d n E t + sl_KR o g l d n E (t + 1) := by
  have c : t = 0 ∨ t = 1 ∨ t = 2 := by omega
  unfold sl_KR
  rcases c with rfl | rfl | rfl
  · simp; omega
  · simp
  · simp
theorem sl_KS {d n : Nat} {E : Nat → Bool} : sl_K o g l (d + 1) n E = (if sl_en o g l n = true then 1 else 0) + sl_KR o g l d n E 0 := by
  show (if sl_en o g l n = true then 1 else 0) + sl_ch o g l d n E 0 + sl_ch o g l d n E 1 + sl_ch o g l d n E 2 = _
  unfold sl_KR
  simp
  omega
/-- sleeping there and belonging earlier agree one step deeper -/
theorem sl_SEs {n t : Nat} {S E : Nat → Bool} (P : sl_PV o g l) (SV : sl_SV o l n) (ht : t < 3) (R : sl_rdy o g l n t = true) (nS : S t = false) (H : sl_SE o g l n S E) : sl_SE o g l (sl_aft o g l n t) (sl_sx o g l n S t) (sl_E o g n t E) := by
  have hp := (sl_rdy_iff.mp R).1
  have gt : sl_gm o g l n S t t = false := by
    unfold sl_gm
    rw [decide_eq_false (Nat.lt_irrefl t), Bool.false_and, Bool.false_and]
  intro u hu
  by_cases e : u = t
  · subst e
    have x0 : sl_sx o g l n S u u = false := by
      unfold sl_sx
      rw [nS, gt]; rfl
    have e0 : sl_E o g n u E u = false := by
      unfold sl_E
      rw [decide_eq_false (fun z => z rfl), Bool.false_and, Bool.false_and]
    rw [x0, e0]
    exact ⟨fun z => absurd z (by decide), fun _ => rfl⟩
  · refine ⟨fun z => ?_, fun R2 => ?_⟩
    · rw [sl_aft_f P SV ht hp (by omega), sl_fa_pn ht hu e]
      unfold sl_sx at z
      rw [Bool.and_eq_true, Bool.or_eq_true] at z
      rcases z.1 with q | q
      · exact (H u hu).1 q
      · unfold sl_gm at q
        simp only [Bool.and_eq_true] at q
        exact (sl_rdy_iff.mp q.1.2).1
    · unfold sl_sx sl_E
      rw [decide_eq_true e, Bool.true_and]
      cases T : sl_tch o g (sl_ix n t) (sl_ix n u)
      · have R1 := sl_back P SV ht hu e R R2 T
        have SE := (H u hu).2 R1
        unfold sl_gm
        rw [R1, SE]
        cases E u <;> simp
      · simp
variable {f_states : Int32} {f_known : Int32} {f_many : Int32} {f_endings : Int32} {f_races : Int32} {f_kinds : Int32} {f_counted : Int32} {f_present : Int64} {f_taken : Int32} {a_state : Nat → Int64} {a_from : Nat → Int32} {a_by : Nat → Int32} {a_bucket : Nat → Int32} {a_ending : Nat → Int64} {a_first : Nat → Int32} {a_way : Nat → Int64} {a_asleep : Nat → Int32} {a_gone : Nat → Int32} {a_past : Nat → Int64}
theorem sl_xe21 {post : SX → Prop} {n D t u f : Nat} {S G : Nat → Bool} {x6 : Int32} (P : sl_PV o g l) (SV : sl_SV o l n) (ht : t < 3) (R : sl_rdy o g l n t = true) (hu : u < 3) (hD : D < 32) (eS : a_asleep D = sl_m S) (eG : a_gone D = sl_m G) (hin : (S u || G u) = true → sl_f n (7 + u) < l u)
    (h : wX_enter_21 post (nI D) (nI t) (lN n) (nI (sl_ix n t)) f_states f_known f_many f_endings f_races f_kinds f_counted f_present f_taken (fun j => nI (o j)) (fun j => nI (g j)) (fun j => nI (l j)) a_state a_from a_by a_bucket a_ending a_first a_way a_asleep a_gone a_past f (if ((S u || G u) && !sl_tch o g (sl_ix n t) (sl_ix n u)) = true then x6 ||| ((1 : Int32) <<< (nI u &&& 31)) else x6) (nI (u + 1))) : wX_enter_21 post (nI D) (nI t) (lN n) (nI (sl_ix n t)) f_states f_known f_many f_endings f_races f_kinds f_counted f_present f_taken (fun j => nI (o j)) (fun j => nI (g j)) (fun j => nI (l j)) a_state a_from a_by a_bucket a_ending a_first a_way a_asleep a_gone a_past (f + 1) x6 (nI u) := by
  have hp := (sl_rdy_iff.mp R).1
  have vD : vp_in (nI D) 32 := vp_in_nI hD (by decide)
  have cD : (nI D).toNatClampNeg = D := nI_clamp (by omega)
  refine br_f (nI_ge (b := 3) hu (by decide)) ⟨vD, vD, ?_⟩
  have em : a_asleep (nI D).toNatClampNeg ||| a_gone (nI D).toNatClampNeg = sl_m (fun u => S u || G u) := by
    rw [cD, eS, eG]
    exact sl_mm3 _ _ _ _ _ _
  rw [em]
  refine br_c (fun z => ?_) (fun z => ?_)
  · have q := (sl_mb (b := fun u => S u || G u) hu).mp z
    have q' : (S u || G u) = false := q
    rw [q', Bool.false_and, if_neg (by decide)] at h
    exact nm_r (nI_1 u) h
  · have q : (S u || G u) = true := ts_nf (fun y => z ((sl_mb (b := fun u => S u || G u) hu).mpr y))
    have pu := hin q
    rw [q, Bool.true_and] at h
    refine sl_xat P SV.1 hu (fun _ => ?_) (fun y => absurd pu y)
    refine sl_xtch (sl_ix_lt P ht hp) (sl_ix_lt P hu pu) (sl_pv P ht hp) (sl_pv P hu pu) (sl_bB (fun y => ?_) (fun y => ?_))
    · rw [y, if_pos (show (!false) = true from rfl)] at h
      exact nm_e (nm_r (nI_1 u) h)
    · rw [y, if_neg (by decide)] at h
      exact nm_r (nI_1 u) h
theorem sl_xenter {post : SX → Prop} {n D t : Nat} {S : Nat → Bool} (P : sl_PV o g l) (SV : sl_SV o l n) (ht : t < 3) (R : sl_rdy o g l n t = true) (hD : D + 1 < 32) (eW : a_way D = lN n) (eS : a_asleep D = sl_m S) (eG : a_gone D = sl_m (sl_gm o g l n S t)) (hin : ∀ u, u < 3 → S u = true → sl_f n (7 + u) < l u)
    (h : post (f_states, f_known, f_many, f_endings, f_races, f_kinds, f_counted, f_present, f_taken, (fun j => nI (o j)), (fun j => nI (g j)), (fun j => nI (l j)), a_state, a_from, a_by, a_bucket, a_ending, a_first, (vp_updL a_way (D + 1) (lN (sl_aft o g l n t))), (upd a_asleep (D + 1) (sl_m (sl_sx o g l n S t))), (upd a_gone (D + 1) 0), a_past)) : wpX_enter post (f_states, f_known, f_many, f_endings, f_races, f_kinds, f_counted, f_present, f_taken, (fun j => nI (o j)), (fun j => nI (g j)), (fun j => nI (l j)), a_state, a_from, a_by, a_bucket, a_ending, a_first, a_way, a_asleep, a_gone, a_past) (nI D) (nI t) := by
  have hp := (sl_rdy_iff.mp R).1
  have hin' : ∀ u, u < 3 → (S u || sl_gm o g l n S t u) = true → sl_f n (7 + u) < l u := by
    intro u hu z
    rw [Bool.or_eq_true] at z
    rcases z with q | q
    · exact hin u hu q
    · unfold sl_gm at q
      simp only [Bool.and_eq_true] at q
      exact (sl_rdy_iff.mp q.1.2).1
  have vD1 : vp_in (nI D + 1) 32 := by rw [nI_1]; exact vp_in_nI hD (by decide)
  have cD1 : (nI D + 1).toNatClampNeg = D + 1 := by rw [nI_1, nI_clamp (by omega)]
  unfold wpX_enter
  refine ⟨vp_in_nI (by omega) (by decide), nm_r (e' := lN n) (by rw [nI_clamp (by omega)]; exact eW) ?_⟩
  refine sl_xat P SV.1 ht (fun _ => ⟨4, ?_⟩) (fun y => absurd hp y)
  refine sl_xe21 (u := 0) P SV ht R (by decide) (by omega) eS eG (hin' 0 (by decide)) (sl_xe21 (u := 1) P SV ht R (by decide) (by omega) eS eG (hin' 1 (by decide)) (sl_xe21 (u := 2) P SV ht R (by decide) (by omega) eS eG (hin' 2 (by decide)) ?_))
  rw [sl_ors]
  refine br_t (by decide) (sl_xaft P SV ht R ⟨vD1, nm_r (e' := vp_updL a_way (D + 1) (lN (sl_aft o g l n t))) (by rw [cD1]) ⟨vD1, nm_r (e' := upd a_asleep (D + 1) (sl_m (sl_sx o g l n S t))) ?_ ⟨vD1, nm_r (e' := upd a_gone (D + 1) 0) (by rw [cD1]; rfl) h⟩⟩⟩)
  rw [cD1]
  congr 1
  exact sl_m_by (sl_sx o g l n S t)
/-- one child -/
theorem sl_x130 {post : Int32 → SX → Prop} {n D t c f : Nat} {S : Nat → Bool} (P : sl_PV o g l) (SV : sl_SV o l n) (ht : t < 3) (R : sl_rdy o g l n t = true) (nS : S t = false) (hD : D + 1 < 32) (hc : c ≤ 2000) (eW : a_way D = lN n) (eS : a_asleep D = sl_m S) (eG : a_gone D = sl_m (sl_gm o g l n S t)) (hin : ∀ u, u < 3 → S u = true → sl_f n (7 + u) < l u)
    (h1 : c + (if sl_en o g l (sl_aft o g l n t) = true then 1 else 0) ≤ 2000 → ∀ way asl gon, (∀ i, i < D → way i = a_way i ∧ asl i = a_asleep i ∧ gon i = a_gone i) → way D = lN n → asl D = sl_m S → gon D = sl_m (sl_gm o g l n S (t + 1)) → way (D + 1) = lN (sl_aft o g l n t) → asl (D + 1) = sl_m (sl_sx o g l n S t) → gon (D + 1) = sl_m (sl_gm o g l (sl_aft o g l n t) (sl_sx o g l n S t) 0) → wX_kinds_66 post f (nI (D + 1)) f_states f_known f_many f_endings f_races (nI (c + (if sl_en o g l (sl_aft o g l n t) = true then 1 else 0))) f_counted f_present f_taken (fun j => nI (o j)) (fun j => nI (g j)) (fun j => nI (l j)) a_state a_from a_by a_bucket a_ending a_first way asl gon a_past)
    (h2 : 2000 < c + (if sl_en o g l (sl_aft o g l n t) = true then 1 else 0) → ∀ way asl gon, post (-2) (f_states, f_known, f_many, f_endings, f_races, (-2), f_counted, f_present, f_taken, (fun j => nI (o j)), (fun j => nI (g j)), (fun j => nI (l j)), a_state, a_from, a_by, a_bucket, a_ending, a_first, way, asl, gon, a_past)) : wX_kinds_130 post (wX_kinds_66 post f) (nI D) (nI t) f_states f_known f_many f_endings f_races (nI c) f_counted f_present f_taken (fun j => nI (o j)) (fun j => nI (g j)) (fun j => nI (l j)) a_state a_from a_by a_bucket a_ending a_first a_way a_asleep a_gone a_past := by
  have vD : vp_in (nI D) 32 := vp_in_nI (by omega) (by decide)
  have cD : (nI D).toNatClampNeg = D := nI_clamp (by omega)
  have vD1 : vp_in (nI (D + 1)) 32 := vp_in_nI hD (by decide)
  have cD1 : (nI (D + 1)).toNatClampNeg = D + 1 := nI_clamp (by omega)
  have Sa := sl_SV_aft P SV ht R
  unfold wX_kinds_130
  refine sl_xenter P SV ht R hD eW eS eG hin ⟨vD, vD, nm_r (e' := upd (upd a_gone (D + 1) 0) D (sl_m (sl_gm o g l n S (t + 1)))) ?_ (nm_r (nI_1 D) ⟨vD1, ?_⟩)⟩
  · rw [cD, pk_un (by omega), eG]
    congr 1
    have e : sl_m (sl_gm o g l n S t) ||| ((1 : Int32) <<< (nI t &&& 31)) = sl_m (fun u => sl_gm o g l n S t u || decide (u = t)) := sl_mm4 _ _ _ t ht
    rw [e, sl_m_by]
    refine sl_m_c (fun u hu => ?_)
    show (sl_gm o g l n S t u || decide (u = t)) = sl_gm o g l n S (t + 1) u
    unfold sl_gm
    by_cases z : u = t
    · subst z
      rw [R, nS, decide_eq_true rfl, decide_eq_true (Nat.lt_succ_self u)]
      simp
    · rw [decide_eq_false z, Bool.or_false]
      by_cases y : u < t
      · rw [decide_eq_true y, decide_eq_true (show u < t + 1 by omega)]
      · rw [decide_eq_false y, decide_eq_false (show ¬ u < t + 1 by omega)]
  · rw [cD1, pk_uLs]
    refine sl_xrset P Sa ?_
    have A : ∀ i, i < D → vp_updL a_way (D + 1) (lN (sl_aft o g l n t)) i = a_way i ∧ upd a_asleep (D + 1) (sl_m (sl_sx o g l n S t)) i = a_asleep i ∧ upd (upd a_gone (D + 1) 0) D (sl_m (sl_gm o g l n S (t + 1))) i = a_gone i := fun i hi => ⟨pk_uLn (by omega), pk_un (by omega), by rw [pk_un (by omega), pk_un (by omega)]⟩
    have g0 : upd (upd a_gone (D + 1) 0) D (sl_m (sl_gm o g l n S (t + 1))) (D + 1) = sl_m (sl_gm o g l (sl_aft o g l n t) (sl_sx o g l n S t) 0) := by
      rw [pk_un (by omega), pk_us, sl_m_c (b := sl_gm o g l (sl_aft o g l n t) (sl_sx o g l n S t) 0) (b' := fun _ => false) (fun u _ => by unfold sl_gm; rw [decide_eq_false (Nat.not_lt_zero u), Bool.false_and, Bool.false_and])]
      rfl
    refine ⟨fun z => ?_, fun z => ?_⟩
    · have en : sl_en o g l (sl_aft o g l n t) = true := (sl_m0_iff _ _ _).mp z
      rw [en, if_pos rfl] at h1 h2
      refine nm_r (nI_1 c) ?_
      unfold wX_kinds_180
      exact pk_le (c + 1) 2000 (fun y => h1 y _ _ _ A (by rw [pk_uLn (by omega)]; exact eW) (by rw [pk_un (by omega)]; exact eS) pk_us pk_uLs pk_us g0) (fun y => h2 y _ _ _)
    · have en : sl_en o g l (sl_aft o g l n t) = false := ts_nt (fun y => z ((sl_m0_iff _ _ _).mpr y))
      rw [en, if_neg (by decide), Nat.add_zero] at h1 h2
      unfold wX_kinds_180
      exact pk_le c 2000 (fun y => h1 y _ _ _ A (by rw [pk_uLn (by omega)]; exact eW) (by rw [pk_un (by omega)]; exact eS) pk_us pk_uLs pk_us g0) (fun y => h2 y _ _ _)
/-- what the loop asks at a node: d levels are left, the threads from t on are to be gone -/
theorem sl_x66 (P : sl_PV o g l) : ∀ d n (E : Nat → Bool), sl_SV o l n → ∀ e t, t + e = 3 → ∃ cost, ∀ (S : Nat → Bool) (D c f : Nat) (post : Int32 → SX → Prop) (way : Nat → Int64) (asl gon : Nat → Int32), D + d = 30 → D ≤ sl_rk n → sl_SE o g l n S E → c ≤ 2000 → way D = lN n → asl D = sl_m S → gon D = sl_m (sl_gm o g l n S t) →
    (c + sl_KR o g l d n E t ≤ 2000 → ∀ way' asl' gon', (∀ i, i < D → way' i = way i ∧ asl' i = asl i ∧ gon' i = gon i) → wX_kinds_66 post f (nI D + (-1)) f_states f_known f_many f_endings f_races (nI (c + sl_KR o g l d n E t)) f_counted f_present f_taken (fun j => nI (o j)) (fun j => nI (g j)) (fun j => nI (l j)) a_state a_from a_by a_bucket a_ending a_first way' asl' gon' a_past) →
    (2000 < c + sl_KR o g l d n E t → ∀ way' asl' gon', post (-2) (f_states, f_known, f_many, f_endings, f_races, (-2), f_counted, f_present, f_taken, (fun j => nI (o j)), (fun j => nI (g j)), (fun j => nI (l j)), a_state, a_from, a_by, a_bucket, a_ending, a_first, way', asl', gon', a_past)) →
    wX_kinds_66 post (f + cost) (nI D) f_states f_known f_many f_endings f_races (nI c) f_counted f_present f_taken (fun j => nI (o j)) (fun j => nI (g j)) (fun j => nI (l j)) a_state a_from a_by a_bucket a_ending a_first way asl gon a_past := by
  -- one turn's head
  have head : ∀ {n D t c f : Nat} {S : Nat → Bool} {post : Int32 → SX → Prop} {way : Nat → Int64} {asl gon : Nat → Int32}, sl_SV o l n → D < 32 → way D = lN n → asl D = sl_m S → gon D = sl_m (sl_gm o g l n S t) → ((∀ u, u < 3 → (sl_rdy o g l n u && !S u && !sl_gm o g l n S t u) = false) → wX_kinds_66 post f (nI D + (-1)) f_states f_known f_many f_endings f_races (nI c) f_counted f_present f_taken (fun j => nI (o j)) (fun j => nI (g j)) (fun j => nI (l j)) a_state a_from a_by a_bucket a_ending a_first way asl gon a_past) → (∀ t', t' < 3 → (sl_rdy o g l n t' && !S t' && !sl_gm o g l n S t t') = true → (∀ u, u < t' → (sl_rdy o g l n u && !S u && !sl_gm o g l n S t u) = false) → wX_kinds_130 post (wX_kinds_66 post f) (nI D) (nI t') f_states f_known f_many f_endings f_races (nI c) f_counted f_present f_taken (fun j => nI (o j)) (fun j => nI (g j)) (fun j => nI (l j)) a_state a_from a_by a_bucket a_ending a_first way asl gon a_past) → wX_kinds_66 post (f + 1) (nI D) f_states f_known f_many f_endings f_races (nI c) f_counted f_present f_taken (fun j => nI (o j)) (fun j => nI (g j)) (fun j => nI (l j)) a_state a_from a_by a_bucket a_ending a_first way asl gon a_past := by
    intro n D t c f S post way asl gon SV hD eW eS eG h0 h1
    have vD : vp_in (nI D) 32 := vp_in_nI hD (by decide)
    have cD : (nI D).toNatClampNeg = D := nI_clamp (by omega)
    refine br_f (nI_pos (by omega)) ⟨vD, ?_⟩
    rw [cD, eW]
    refine sl_xrset P SV ⟨vD, vD, nm_r (e' := sl_m (fun u => sl_rdy o g l n u && !S u && !sl_gm o g l n S t u)) (by rw [eS, eG]; exact sl_mm1 _ _ _ _ _ _ _ _ _) ?_⟩
    generalize hb : (fun u => sl_rdy o g l n u && !S u && !sl_gm o g l n S t u) = b
    have hb' : ∀ u, (sl_rdy o g l n u && !S u && !sl_gm o g l n S t u) = b u := fun u => by rw [← hb]
    have m2 := sl_mm2 (b 0) (b 1) (b 2)
    refine ⟨fun z => nm_e (h0 (fun u hu => ?_)), fun z => ⟨fun z1 => ⟨fun z2 => ?_, fun z2 => ?_⟩, fun z1 => ?_⟩⟩
    · have q := (sl_m0_iff _ _ _).mp z
      rw [hb' u]
      simp only [Bool.and_eq_true, Bool.not_eq_true'] at q
      have c : u = 0 ∨ u = 1 ∨ u = 2 := by omega
      rcases c with rfl | rfl | rfl
      · exact q.1.1
      · exact q.1.2
      · exact q.2
    · have b0 := m2.1.mp z1
      have b1 := m2.2.mp z2
      have b2 : b 2 = true := ts_nf (fun y => z ((sl_m0_iff _ _ _).mpr (by rw [b0, b1, y]; rfl)))
      refine h1 2 (by decide) (by rw [hb' 2]; exact b2) (fun u hu => ?_)
      rw [hb' u]
      have c : u = 0 ∨ u = 1 := by omega
      rcases c with rfl | rfl
      · exact b0
      · exact b1
    · have b0 := m2.1.mp z1
      have b1 : b 1 = true := ts_nf (fun y => z2 (m2.2.mpr y))
      refine h1 1 (by decide) (by rw [hb' 1]; exact b1) (fun u hu => ?_)
      rw [hb' u]
      have c : u = 0 := by omega
      rw [c]
      exact b0
    · have b0 : b 0 = true := ts_nf (fun y => z1 (m2.1.mpr y))
      exact h1 0 (by decide) (by rw [hb' 0]; exact b0) (fun u hu => absurd hu (Nat.not_lt_zero u))
  intro d
  induction d with
  | zero =>
    intro n E SV e t he
    refine ⟨1, fun S D c f post way asl gon hD hr SE hc eW eS eG h1 h2 => ?_⟩
    have none : ∀ u, u < 3 → sl_rdy o g l n u = false := fun u hu => ts_nt (fun R => by
      have a := sl_rk_aft P SV hu R
      have b := sl_rk_le P (sl_SV_aft P SV hu R)
      omega)
    have kz : sl_KR o g l 0 n E t = 0 := by
      have ch : ∀ u, u < 3 → sl_ch o g l 0 n E u = 0 := fun u hu => by unfold sl_ch; rw [none u hu, Bool.false_and, if_neg (by decide)]
      unfold sl_KR
      rw [ch 0 (by decide), ch 1 (by decide), ch 2 (by decide)]
      split <;> split <;> split <;> rfl
    rw [kz, Nat.add_zero] at h1 h2
    refine head SV (by omega) eW eS eG (fun _ => h1 hc way asl gon (fun i hi => ⟨rfl, rfl, rfl⟩)) (fun t' ht' z => ?_)
    rw [none t' ht', Bool.false_and, Bool.false_and] at z
    exact absurd z (by decide)
  | succ d ihd =>
    intro n E SV e
    induction e with
    | zero =>
      intro t he
      have : t = 3 := by omega
      subst this
      refine ⟨1, fun S D c f post way asl gon hD hr SE hc eW eS eG h1 h2 => ?_⟩
      rw [sl_KR3, Nat.add_zero] at h1 h2
      refine head SV (by omega) eW eS eG (fun _ => h1 hc way asl gon (fun i hi => ⟨rfl, rfl, rfl⟩)) (fun t' ht' z => ?_)
      exfalso
      unfold sl_gm at z
      rw [decide_eq_true ht', Bool.true_and] at z
      revert z
      cases sl_rdy o g l n t' <;> cases S t' <;> decide
    | succ e ihe =>
      intro t he
      have ht : t < 3 := by omega
      obtain ⟨cr, hcr⟩ := ihe (t + 1) (by omega)
      cases hb : (sl_rdy o g l n t && !E t)
      · refine ⟨cr, fun S D c f post way asl gon hD hr SE hc eW eS eG h1 h2 => ?_⟩
        have kz : sl_KR o g l (d + 1) n E t = sl_KR o g l (d + 1) n E (t + 1) := by
          rw [sl_KRs ht]
          unfold sl_ch
          rw [hb, if_neg (by decide), Nat.zero_add]
        rw [kz] at h1 h2
        refine hcr S D c f post way asl gon hD hr SE hc eW eS ?_ h1 h2
        rw [eG]
        refine sl_m_c (fun u hu => ?_)
        unfold sl_gm
        by_cases z : u = t
        · subst z
          rw [decide_eq_false (Nat.lt_irrefl u), decide_eq_true (Nat.lt_succ_self u), Bool.false_and, Bool.false_and, Bool.true_and]
          cases R : sl_rdy o g l n u
          · rfl
          · rw [R] at hb
            rw [(SE u hu).2 R]
            exact hb.symm
        · by_cases y : u < t
          · rw [decide_eq_true y, decide_eq_true (show u < t + 1 by omega)]
          · rw [decide_eq_false y, decide_eq_false (show ¬ u < t + 1 by omega)]
      · have R : sl_rdy o g l n t = true := (Bool.and_eq_true _ _ ▸ hb).1
        have nE : E t = false := by
          have := (Bool.and_eq_true _ _ ▸ hb).2
          revert this
          cases E t <;> decide
        have Sa := sl_SV_aft P SV ht R
        obtain ⟨cc, hcc⟩ := ihd (sl_aft o g l n t) (sl_E o g n t E) Sa 3 0 rfl
        refine ⟨cr + cc + 1, fun S D c f post way asl gon hD hr SE hc eW eS eG h1 h2 => ?_⟩
        have nS : S t = false := by rw [(SE t ht).2 R]; exact nE
        have ra := sl_rk_aft P SV ht R
        have r30 := sl_rk_le P Sa
        have ks : sl_KR o g l (d + 1) n E t = (if sl_en o g l (sl_aft o g l n t) = true then 1 else 0) + sl_KR o g l d (sl_aft o g l n t) (sl_E o g n t E) 0 + sl_KR o g l (d + 1) n E (t + 1) := by
          rw [sl_KRs ht]
          unfold sl_ch
          rw [hb, if_pos rfl, sl_KS]
        rw [ks] at h1 h2
        have hin : ∀ u, u < 3 → S u = true → sl_f n (7 + u) < l u := fun u hu => (SE u hu).1
        rw [show f + (cr + cc + 1) = (f + cr + cc) + 1 by omega]
        have gmt : ∀ u, u < 3 → ¬ u < t → sl_gm o g l n S t u = false := fun u hu y => by
          unfold sl_gm
          rw [decide_eq_false y, Bool.false_and, Bool.false_and]
        refine head SV (by omega) eW eS eG (fun z => ?_) (fun t' ht' z1 z2 => ?_)
        · have := z t ht
          rw [R, nS, gmt t ht (Nat.lt_irrefl t)] at this
          exact absurd this (by decide)
        · have et : t' = t := by
            rcases Nat.lt_trichotomy t' t with y | y | y
            · exfalso
              unfold sl_gm at z1
              rw [decide_eq_true y, Bool.true_and] at z1
              revert z1
              cases sl_rdy o g l n t' <;> cases S t' <;> decide
            · exact y
            · exfalso
              have := z2 t y
              rw [R, nS, gmt t ht (Nat.lt_irrefl t)] at this
              exact absurd this (by decide)
          subst et
          refine sl_x130 P SV ht R nS (by omega) hc eW eS eG hin (fun q way1 asl1 gon1 A1 w1 w2 w3 w4 w5 w6 => ?_) (fun q way1 asl1 gon1 => h2 (by omega) way1 asl1 gon1)
          refine hcc (sl_sx o g l n S t') (D + 1) _ (f + cr) post way1 asl1 gon1 (by omega) (by omega) (sl_SEs P SV ht R nS SE) q w4 w5 w6 (fun q2 way2 asl2 gon2 A2 => ?_) (fun q2 way2 asl2 gon2 => h2 (by omega) way2 asl2 gon2)
          rw [pk_m1]
          have aD := A2 D (by omega)
          refine hcr S D _ f post way2 asl2 gon2 hD hr SE q2 (by rw [aD.1]; exact w1) (by rw [aD.2.1]; exact w2) (by rw [aD.2.2]; exact w3) (fun q3 way3 asl3 gon3 A3 => ?_) (fun q3 way3 asl3 gon3 => h2 (by omega) way3 asl3 gon3)
          have h1' := h1 (by omega) way3 asl3 gon3 (fun i hi => ?_)
          · rw [show c + ((if sl_en o g l (sl_aft o g l n t') = true then 1 else 0) + sl_KR o g l d (sl_aft o g l n t') (sl_E o g n t' E) 0 + sl_KR o g l (d + 1) n E (t' + 1)) = c + (if sl_en o g l (sl_aft o g l n t') = true then 1 else 0) + sl_KR o g l d (sl_aft o g l n t') (sl_E o g n t' E) 0 + sl_KR o g l (d + 1) n E (t' + 1) by omega] at h1'
            exact h1'
          · have x1 := A1 i hi
            have x2 := A2 i (by omega)
            have x3 := A3 i hi
            exact ⟨by rw [x3.1, x2.1, x1.1], by rw [x3.2.1, x2.2.1, x1.2.1], by rw [x3.2.2, x2.2.2, x1.2.2]⟩
end
end
section
/-! kinds of runs: the reference -/
def sl_be (o g wh wt : Nat → Nat) (u k : Nat) : Nat → Bool
  | 0 => false
  | i + 1 => if wh i = u then false else if sl_tch o g (wt i) k = true then false else if u < wh i then true else sl_be o g wh wt u k i
def sl_WW (o g : Nat → Nat) (D : Nat) (who what : Nat → Int32) (wh wt : Nat → Nat) : Prop := ∀ i, i < D → who i = nI (wh i) ∧ what i = nI (wt i) ∧ wh i < 3 ∧ wt i < 15 ∧ sl_good (o (wt i)) (g (wt i))
theorem sl_be_c {o g wh wt wh' wt' : Nat → Nat} {u k : Nat} : ∀ D, (∀ i, i < D → wh' i = wh i ∧ wt' i = wt i) → sl_be o g wh' wt' u k D = sl_be o g wh wt u k D
  | 0, _ => rfl
  | D + 1, h => by
    unfold sl_be
    rw [(h D (by omega)).1, (h D (by omega)).2, sl_be_c D (fun i hi => h i (by omega))]
section
variable {o g l : Nat → Nat}
variable {y_steps : Int32} {y_count : Int32} {y_known : Int32} {y_different : Int32} {y_path : Nat → Int64} {y_list : Nat → Int64} {y_next : Nat → Int32} {y_table : Nat → Int32} {y_far : Nat → Int32} {y_found : Nat → Int32} {y_who : Nat → Int32} {y_what : Nat → Int32} {y_before : Nat → Int64} {y_tried : Nat → Int32}
theorem sl_ybe {post : Int32 → Prop} {wh wt : Nat → Nat} {u k : Nat} (hk : k < 15) (Gk : sl_good (o k) (g k)) (hu : u < 3) : ∀ D, D ≤ 32 → sl_WW o g D y_who y_what wh wt → post (sl_B (sl_be o g wh wt u k D)) → wY_belongsEarlier_5 post (nI u) (nI k) y_steps y_count y_known y_different (fun j => nI (o j)) (fun j => nI (g j)) (fun j => nI (l j)) y_path y_list y_next y_table y_far y_found y_who y_what y_before y_tried (D + 1) (nI D + (-1)) := by
  intro D
  induction D with
  | zero =>
    intro _ _ h
    exact br_t (by decide) h
  | succ D ih =>
    intro hD W h
    obtain ⟨w1, w2, w3, w4, w5⟩ := W D (by omega)
    have vD : vp_in (nI D) 32 := vp_in_nI (by omega) (by decide)
    have cD : (nI D).toNatClampNeg = D := nI_clamp (by omega)
    rw [pk_m1]
    refine br_f (nI_pos (by omega)) ⟨vD, ?_⟩
    rw [cD, w1, w2]
    unfold sl_be at h
    refine pk_eq (wh D) u (fun e => ?_) (fun e => ⟨vD, sl_ytch w4 hk w5 Gk (sl_bB (fun z => ⟨vD, ?_⟩) (fun z => ?_))⟩)
    · rw [if_pos e] at h; exact h
    · rw [if_neg e, if_neg (by rw [z]; decide)] at h
      refine pk_le (wh D) u (fun y => nm_e (ih (by omega) (fun i hi => W i (by omega)) ?_)) (fun y => ?_)
      · rw [if_neg (by omega)] at h; exact h
      · rw [if_pos y] at h; exact h
    · rw [if_neg e, if_pos z] at h; exact h
/-- what the loop asks at a node -/
theorem sl_y26 (P : sl_PV o g l) : ∀ d n (E : Nat → Bool), sl_SV o l n → ∀ e t, t + e = 3 → ∃ cost, ∀ (D c f : Nat) (post : Int32 → SY → Prop) (who what : Nat → Int32) (bef : Nat → Int64) (tri : Nat → Int32) (wh wt : Nat → Nat), D + d = 30 → D ≤ sl_rk n → c ≤ 2001 → sl_WW o g D who what wh wt → (∀ u, u < 3 → E u = sl_be o g wh wt u (sl_ix n u) D) → bef D = lN (sl_yc l n) → tri D = nI t →
    (c + (if t = 0 ∧ sl_en o g l n = true then 1 else 0) + sl_KR o g l d n E t ≤ 2000 → ∀ who' what' bef' tri', (∀ i, i < D → who' i = who i ∧ what' i = what i ∧ bef' i = bef i ∧ tri' i = tri i) → wY_kinds_26 post y_steps y_count y_known y_different f (nI (c + (if t = 0 ∧ sl_en o g l n = true then 1 else 0) + sl_KR o g l d n E t)) (nI D + (-1)) (fun j => nI (o j)) (fun j => nI (g j)) (fun j => nI (l j)) y_path y_list y_next y_table y_far y_found who' what' bef' tri') →
    (2000 < c + (if t = 0 ∧ sl_en o g l n = true then 1 else 0) + sl_KR o g l d n E t → ∀ who' what' bef' tri', post (-2) (y_steps, y_count, y_known, y_different, (fun j => nI (o j)), (fun j => nI (g j)), (fun j => nI (l j)), y_path, y_list, y_next, y_table, y_far, y_found, who', what', bef', tri')) →
    wY_kinds_26 post y_steps y_count y_known y_different (f + cost) (nI c) (nI D) (fun j => nI (o j)) (fun j => nI (g j)) (fun j => nI (l j)) y_path y_list y_next y_table y_far y_found who what bef tri := by
  -- one turn's head
  have head : ∀ {n D t c f : Nat} {post : Int32 → SY → Prop} {who what : Nat → Int32} {bef : Nat → Int64} {tri : Nat → Int32}, sl_SV o l n → D < 33 → t ≤ 3 → c ≤ 2001 → bef D = lN (sl_yc l n) → tri D = nI t → (2000 < c → post (-2) (y_steps, y_count, y_known, y_different, (fun j => nI (o j)), (fun j => nI (g j)), (fun j => nI (l j)), y_path, y_list, y_next, y_table, y_far, y_found, who, what, bef, tri)) → (c ≤ 2000 → wY_kinds_73 post (wY_kinds_26 post y_steps y_count y_known y_different f) (nI (c + (if t = 0 ∧ sl_en o g l n = true then 1 else 0))) (nI D) (lN (sl_yc l n)) (nI t) y_steps y_count y_known y_different (fun j => nI (o j)) (fun j => nI (g j)) (fun j => nI (l j)) y_path y_list y_next y_table y_far y_found who what bef (upd tri D (nI (t + 1)))) → wY_kinds_26 post y_steps y_count y_known y_different (f + 1) (nI c) (nI D) (fun j => nI (o j)) (fun j => nI (g j)) (fun j => nI (l j)) y_path y_list y_next y_table y_far y_found who what bef tri := by
    intro n D t c f post who what bef tri SV hD ht hc eB eT h2 h1
    have vD : vp_in (nI D) 33 := vp_in_nI hD (by decide)
    have cD : (nI D).toNatClampNeg = D := nI_clamp (by omega)
    refine br_f (nI_pos (by omega)) (pk_lt 2000 c (fun z => ?_) (fun z => ⟨vD, ?_⟩))
    · unfold wY_kinds_169
      exact br_f (nI_ge (b := c) (a := 2000) (by omega) (by omega)) (h2 z)
    · have h1' := h1 z
      refine nm_r (e' := lN (sl_yc l n)) (by rw [cD]; exact eB) ⟨vD, vD, nm_r (e' := upd tri D (nI (t + 1))) (by rw [cD, eT, nI_1]) (nm_r (e' := nI t) (by rw [cD]; exact eT) ?_)⟩
      refine pk_eq t 0 (fun z0 => sl_yend P SV (sl_bB (fun en => ?_) (fun en => ?_))) (fun z0 => ?_)
      · have en' : sl_en o g l n = false := en
        rw [if_neg (fun y => by rw [en'] at y; exact absurd y.2 (by decide)), Nat.add_zero] at h1'
        exact h1'
      · have en' : sl_en o g l n = true := en
        rw [if_pos ⟨z0, en'⟩] at h1'
        exact nm_r (nI_1 c) h1'
      · rw [if_neg (fun y => z0 y.1), Nat.add_zero] at h1'
        exact h1'
  intro d
  induction d with
  | zero =>
    intro n E SV e
    induction e with
    | zero =>
      intro t he
      have : t = 3 := by omega
      subst this
      refine ⟨1, fun D c f post who what bef tri wh wt hD hr hc W B eB eT h1 h2 => ?_⟩
      rw [sl_KR3, if_neg (fun y => absurd y.1 (by decide)), Nat.add_zero] at h1 h2
      refine head SV (by omega) (by decide) hc eB eT (fun z => h2 z _ _ _ _) (fun z => ?_)
      rw [if_neg (fun y => absurd y.1 (by decide)), Nat.add_zero]
      unfold wY_kinds_73
      exact br_f (by decide) (nm_e (h1 z who what bef _ (fun i hi => ⟨rfl, rfl, rfl, pk_un (by omega)⟩)))
    | succ e ihe =>
      intro t he
      have ht : t < 3 := by omega
      obtain ⟨cr, hcr⟩ := ihe (t + 1) (by omega)
      refine ⟨cr + 1, fun D c f post who what bef tri wh wt hD hr hc W B eB eT h1 h2 => ?_⟩
      have nr : sl_rdy o g l n t = false := ts_nt (fun R => by
        have a := sl_rk_aft P SV ht R
        have b := sl_rk_le P (sl_SV_aft P SV ht R)
        omega)
      have kz : sl_KR o g l 0 n E t = sl_KR o g l 0 n E (t + 1) := by
        rw [sl_KRs ht]
        unfold sl_ch
        rw [nr, Bool.false_and, if_neg (by decide), Nat.zero_add]
      rw [kz] at h1 h2
      rw [show f + (cr + 1) = (f + cr) + 1 by omega]
      refine head SV (by omega) (by omega) hc eB eT (fun z => h2 (by omega) _ _ _ _) (fun z => ?_)
      unfold wY_kinds_73
      refine br_t (nI_le (b := 2) (by omega) (by decide)) (sl_yready P SV ht (sl_bB (fun _ => ?_) (fun y => absurd (nr.symm.trans y) (by decide))))
      refine hcr D _ f post who what bef _ wh wt hD hr (by split <;> omega) W B eB pk_us (fun q who' what' bef' tri' A => ?_) (fun q who' what' bef' tri' => h2 ?_ who' what' bef' tri')
      · rw [if_neg (show ¬ (t + 1 = 0 ∧ sl_en o g l n = true) from fun y => absurd y.1 (by omega)), Nat.add_zero] at q ⊢
        exact h1 q who' what' bef' tri' (fun i hi => ⟨(A i hi).1, (A i hi).2.1, (A i hi).2.2.1, by rw [(A i hi).2.2.2, pk_un (by omega)]⟩)
      · rw [if_neg (show ¬ (t + 1 = 0 ∧ sl_en o g l n = true) from fun y => absurd y.1 (by omega)), Nat.add_zero] at q
        exact q
  | succ d ihd =>
    intro n E SV e
    induction e with
    | zero =>
      intro t he
      have : t = 3 := by omega
      subst this
      refine ⟨1, fun D c f post who what bef tri wh wt hD hr hc W B eB eT h1 h2 => ?_⟩
      rw [sl_KR3, if_neg (fun y => absurd y.1 (by decide)), Nat.add_zero] at h1 h2
      refine head SV (by omega) (by decide) hc eB eT (fun z => h2 z _ _ _ _) (fun z => ?_)
      rw [if_neg (fun y => absurd y.1 (by decide)), Nat.add_zero]
      unfold wY_kinds_73
      exact br_f (by decide) (nm_e (h1 z who what bef _ (fun i hi => ⟨rfl, rfl, rfl, pk_un (by omega)⟩)))
    | succ e ihe =>
      intro t he
      have ht : t < 3 := by omega
      obtain ⟨cr, hcr⟩ := ihe (t + 1) (by omega)
      cases hb : (sl_rdy o g l n t && !E t)
      · refine ⟨cr + 1, fun D c f post who what bef tri wh wt hD hr hc W B eB eT h1 h2 => ?_⟩
        have kz : sl_KR o g l (d + 1) n E t = sl_KR o g l (d + 1) n E (t + 1) := by
          rw [sl_KRs ht]
          unfold sl_ch
          rw [hb, if_neg (by decide), Nat.zero_add]
        rw [kz] at h1 h2
        rw [show f + (cr + 1) = (f + cr) + 1 by omega]
        refine head SV (by omega) (by omega) hc eB eT (fun z => h2 (by omega) _ _ _ _) (fun z => ?_)
        have go : wY_kinds_26 post y_steps y_count y_known y_different (f + cr) (nI (c + (if t = 0 ∧ sl_en o g l n = true then 1 else 0))) (nI D) (fun j => nI (o j)) (fun j => nI (g j)) (fun j => nI (l j)) y_path y_list y_next y_table y_far y_found who what bef (upd tri D (nI (t + 1))) := by
          refine hcr D _ f post who what bef _ wh wt hD hr (by split <;> omega) W B eB pk_us (fun q who' what' bef' tri' A => ?_) (fun q who' what' bef' tri' => h2 ?_ who' what' bef' tri')
          · rw [if_neg (show ¬ (t + 1 = 0 ∧ sl_en o g l n = true) from fun y => absurd y.1 (by omega)), Nat.add_zero] at q ⊢
            exact h1 q who' what' bef' tri' (fun i hi => ⟨(A i hi).1, (A i hi).2.1, (A i hi).2.2.1, by rw [(A i hi).2.2.2, pk_un (by omega)]⟩)
          · rw [if_neg (show ¬ (t + 1 = 0 ∧ sl_en o g l n = true) from fun y => absurd y.1 (by omega)), Nat.add_zero] at q
            exact q
        unfold wY_kinds_73
        refine br_t (nI_le (b := 2) (by omega) (by decide)) (sl_yready P SV ht (sl_bB (fun _ => go) (fun R => ?_)))
        have hp := (sl_rdy_iff.mp R).1
        have Et : E t = true := by
          rw [R] at hb
          revert hb
          cases E t <;> decide
        refine sl_ypl (sl_yc_lt n) ht ?_
        rw [sl_hp ht, if_pos hp]
        refine nm_r (e' := nI (sl_ix n t)) (sl_e' t _) ?_
        unfold wpY_belongsEarlier
        refine nm_r (e' := nI D + (-1)) (Int32.sub_eq_add_neg ..) ⟨D + 1, sl_ybe (sl_ix_lt P ht hp) (sl_pv P ht hp) ht D (by omega) W ?_⟩
        rw [← B t ht, Et]
        exact br_f (by decide) go
      · have R : sl_rdy o g l n t = true := (Bool.and_eq_true _ _ ▸ hb).1
        have nE : E t = false := by
          have := (Bool.and_eq_true _ _ ▸ hb).2
          revert this
          cases E t <;> decide
        have Sa := sl_SV_aft P SV ht R
        have hp := (sl_rdy_iff.mp R).1
        obtain ⟨cc, hcc⟩ := ihd (sl_aft o g l n t) (sl_E o g n t E) Sa 3 0 rfl
        refine ⟨cr + cc + 1, fun D c f post who what bef tri wh wt hD hr hc W B eB eT h1 h2 => ?_⟩
        have ra := sl_rk_aft P SV ht R
        have r30 := sl_rk_le P Sa
        have ks : sl_KR o g l (d + 1) n E t = (if sl_en o g l (sl_aft o g l n t) = true then 1 else 0) + sl_KR o g l d (sl_aft o g l n t) (sl_E o g n t E) 0 + sl_KR o g l (d + 1) n E (t + 1) := by
          rw [sl_KRs ht]
          unfold sl_ch
          rw [hb, if_pos rfl, sl_KS]
        rw [ks] at h1 h2
        rw [show f + (cr + cc + 1) = (f + cr + cc) + 1 by omega]
        refine head SV (by omega) (by omega) hc eB eT (fun z => h2 (by omega) _ _ _ _) (fun z => ?_)
        have ew1 : (if t = 0 ∧ sl_en o g l n = true then 1 else 0) ≤ 1 := by split <;> decide
        unfold wY_kinds_73
        refine br_t (nI_le (b := 2) (by omega) (by decide)) (sl_yready P SV ht (sl_bB (fun y => absurd (R.symm.trans y) (by decide)) (fun _ => ?_)))
        refine sl_ypl (sl_yc_lt n) ht ?_
        rw [sl_hp ht, if_pos hp]
        refine nm_r (e' := nI (sl_ix n t)) (sl_e' t _) ?_
        unfold wpY_belongsEarlier
        refine nm_r (e' := nI D + (-1)) (Int32.sub_eq_add_neg ..) ⟨D + 1, sl_ybe (sl_ix_lt P ht hp) (sl_pv P ht hp) ht D (by omega) W ?_⟩
        rw [← B t ht, nE]
        have vD : vp_in (nI D) 32 := vp_in_nI (by omega) (by decide)
        have cD : (nI D).toNatClampNeg = D := nI_clamp (by omega)
        have vD1 : vp_in (nI (D + 1)) 33 := vp_in_nI (by omega) (by decide)
        have cD1 : (nI (D + 1)).toNatClampNeg = D + 1 := nI_clamp (by omega)
        refine br_t rfl ⟨vD, nm_r (e' := upd who D (nI t)) (by rw [cD]) ⟨vD, nm_r (e' := upd what D (nI (sl_ix n t))) (by rw [cD]) (nm_r (nI_1 D) (sl_yaft P SV ht R ⟨vD1, nm_r (e' := vp_updL bef (D + 1) (lN (sl_yc l (sl_aft o g l n t)))) (by rw [cD1]) ⟨vD1, nm_r (e' := upd (upd tri D (nI (t + 1))) (D + 1) 0) (by rw [cD1]) ?_⟩⟩))⟩⟩
        have W' : sl_WW o g (D + 1) (upd who D (nI t)) (upd what D (nI (sl_ix n t))) (sl_un wh D t) (sl_un wt D (sl_ix n t)) := by
          intro i hi
          by_cases y : i = D
          · subst y
            rw [pk_us, pk_us, sl_un_s, sl_un_s]
            exact ⟨rfl, rfl, ht, sl_ix_lt P ht hp, sl_pv P ht hp⟩
          · rw [pk_un y, pk_un y, sl_un_n y, sl_un_n y]
            exact W i (by omega)
        have B' : ∀ u, u < 3 → sl_E o g n t E u = sl_be o g (sl_un wh D t) (sl_un wt D (sl_ix n t)) u (sl_ix (sl_aft o g l n t) u) (D + 1) := by
          intro u hu
          unfold sl_be sl_E
          rw [sl_un_s, sl_un_s, sl_be_c D (fun i hi => ⟨sl_un_n (by omega), sl_un_n (by omega)⟩)]
          by_cases y : u = t
          · subst y
            rw [if_pos rfl, decide_eq_false (fun q => q rfl), Bool.false_and, Bool.false_and]
          · rw [if_neg (fun q => y q.symm), decide_eq_true y, Bool.true_and, sl_aft_ix P SV ht hp hu y, ← B u hu]
            cases sl_tch o g (sl_ix n t) (sl_ix n u)
            · rw [if_neg (by decide)]
              by_cases q : u < t
              · rw [if_pos q, decide_eq_true q]; rfl
              · rw [if_neg q, decide_eq_false q]; simp
            · rw [if_pos rfl]; rfl
        refine hcc (D + 1) _ (f + cr) post _ _ _ _ _ _ (by omega) (by omega) (by omega) W' B' pk_uLs pk_us (fun q who2 what2 bef2 tri2 A2 => ?_) (fun q who2 what2 bef2 tri2 => h2 ?_ who2 what2 bef2 tri2)
        · rw [pk_m1]
          have aD := A2 D (by omega)
          have W2 : sl_WW o g D who2 what2 wh wt := by
            intro i hi
            have a := A2 i (by omega)
            rw [a.1, a.2.1, pk_un (by omega), pk_un (by omega)]
            exact W i hi
          have e0 : (if 0 = 0 ∧ sl_en o g l (sl_aft o g l n t) = true then 1 else 0) = (if sl_en o g l (sl_aft o g l n t) = true then 1 else 0) := by
            cases sl_en o g l (sl_aft o g l n t) <;> rfl
          rw [e0] at q ⊢
          refine hcr D _ f post who2 what2 bef2 tri2 wh wt hD hr (by omega) W2 B (by rw [aD.2.2.1, pk_uLn (by omega)]; exact eB) (by rw [aD.2.2.2, pk_un (by omega), pk_us]) (fun q3 who3 what3 bef3 tri3 A3 => ?_) (fun q3 who3 what3 bef3 tri3 => h2 ?_ who3 what3 bef3 tri3)
          · rw [if_neg (show ¬ (t + 1 = 0 ∧ sl_en o g l n = true) from fun y => absurd y.1 (by omega)), Nat.add_zero] at q3 ⊢
            have h1' := h1 (by omega) who3 what3 bef3 tri3 (fun i hi => ?_)
            · rw [show c + (if t = 0 ∧ sl_en o g l n = true then 1 else 0) + ((if sl_en o g l (sl_aft o g l n t) = true then 1 else 0) + sl_KR o g l d (sl_aft o g l n t) (sl_E o g n t E) 0 + sl_KR o g l (d + 1) n E (t + 1)) = c + (if t = 0 ∧ sl_en o g l n = true then 1 else 0) + (if sl_en o g l (sl_aft o g l n t) = true then 1 else 0) + sl_KR o g l d (sl_aft o g l n t) (sl_E o g n t E) 0 + sl_KR o g l (d + 1) n E (t + 1) by omega] at h1'
              exact h1'
            · have x2 := A2 i (by omega)
              have x3 := A3 i hi
              exact ⟨by rw [x3.1, x2.1, pk_un (by omega)], by rw [x3.2.1, x2.2.1, pk_un (by omega)], by rw [x3.2.2.1, x2.2.2.1, pk_uLn (by omega)], by rw [x3.2.2.2, x2.2.2.2, pk_un (by omega), pk_un (by omega)]⟩
          · rw [if_neg (show ¬ (t + 1 = 0 ∧ sl_en o g l n = true) from fun y => absurd y.1 (by omega)), Nat.add_zero] at q3
            omega
        · have e0 : (if 0 = 0 ∧ sl_en o g l (sl_aft o g l n t) = true then 1 else 0) = (if sl_en o g l (sl_aft o g l n t) = true then 1 else 0) := by
            cases sl_en o g l (sl_aft o g l n t) <;> rfl
          rw [e0] at q
          omega
theorem sl_ykinds {post : Int32 → SY → Prop} {n T : Nat} (P : sl_PV o g l) (SV : sl_SV o l n) (hT : T < 32) (eT : y_path T = lN (sl_yc l n)) (h : ∀ who what bef tri, post (sl_kv o g l n) ((nI T), y_count, y_known, y_different, (fun j => nI (o j)), (fun j => nI (g j)), (fun j => nI (l j)), y_path, y_list, y_next, y_table, y_far, y_found, who, what, bef, tri)) : wpY_kinds post ((nI T), y_count, y_known, y_different, (fun j => nI (o j)), (fun j => nI (g j)), (fun j => nI (l j)), y_path, y_list, y_next, y_table, y_far, y_found, y_who, y_what, y_before, y_tried) := by
  obtain ⟨cost, hc⟩ := sl_y26 (y_steps := nI T) (y_count := y_count) (y_known := y_known) (y_different := y_different) (y_path := y_path) (y_list := y_list) (y_next := y_next) (y_table := y_table) (y_far := y_far) (y_found := y_found) P 30 n (fun _ => false) SV 3 0 rfl
  unfold wpY_kinds
  refine ⟨vp_in_nI hT (by decide), nm_r (e' := vp_updL y_before 0 (lN (sl_yc l n))) (by rw [nI_clamp (by omega), eT]) (nm_e ⟨1 + cost, ?_⟩)⟩
  have e0 : 0 + (if 0 = 0 ∧ sl_en o g l n = true then 1 else 0) + sl_KR o g l 30 n (fun _ => false) 0 = sl_K o g l 31 n (fun _ => false) := by
    rw [sl_KS]
    cases sl_en o g l n <;> simp
  refine hc 0 0 1 post y_who y_what _ _ (fun _ => 0) (fun _ => 0) rfl (Nat.zero_le _) (by decide) (fun i hi => absurd hi (Nat.not_lt_zero i)) (fun u _ => rfl) pk_uLs pk_us (fun q who' what' bef' tri' _ => ?_) (fun q who' what' bef' tri' => ?_)
  · rw [e0] at q ⊢
    refine br_t (by decide) ?_
    unfold wY_kinds_169
    refine br_t (nI_le (b := 2000) q (by decide)) ?_
    have := h who' what' bef' tri'
    unfold sl_kv at this
    rw [if_pos q] at this
    exact this
  · rw [e0] at q
    have := h who' what' bef' tri'
    unfold sl_kv at this
    rw [if_neg (by omega)] at this
    exact this
end
section
variable {o g l : Nat → Nat}
variable {f_states : Int32} {f_known : Int32} {f_many : Int32} {f_endings : Int32} {f_races : Int32} {f_kinds : Int32} {f_counted : Int32} {f_present : Int64} {f_taken : Int32} {a_state : Nat → Int64} {a_from : Nat → Int32} {a_by : Nat → Int32} {a_bucket : Nat → Int32} {a_ending : Nat → Int64} {a_first : Nat → Int32} {a_way : Nat → Int64} {a_asleep : Nat → Int32} {a_gone : Nat → Int32} {a_past : Nat → Int64}
theorem sl_xkinds {post : Int32 → SX → Prop} {n : Nat} (P : sl_PV o g l) (SV : sl_SV o l n) (h : ∀ way asl gon, post (sl_kv o g l n) (f_states, f_known, f_many, f_endings, f_races, (sl_kv o g l n), 1, (lN n), f_taken, (fun j => nI (o j)), (fun j => nI (g j)), (fun j => nI (l j)), a_state, a_from, a_by, a_bucket, a_ending, a_first, way, asl, gon, a_past)) : wpX_kinds post (f_states, f_known, f_many, f_endings, f_races, f_kinds, 0, (lN n), f_taken, (fun j => nI (o j)), (fun j => nI (g j)), (fun j => nI (l j)), a_state, a_from, a_by, a_bucket, a_ending, a_first, a_way, a_asleep, a_gone, a_past) := by
  obtain ⟨cost, hc⟩ := sl_x66 (f_states := f_states) (f_known := f_known) (f_many := f_many) (f_endings := f_endings) (f_races := f_races) (f_counted := 1) (f_present := lN n) (f_taken := f_taken) (a_state := a_state) (a_from := a_from) (a_by := a_by) (a_bucket := a_bucket) (a_ending := a_ending) (a_first := a_first) (a_past := a_past) P 30 n (fun _ => false) SV 3 0 rfl
  have K := hc (fun _ => false) 0
  have gz : upd a_gone 0 (vp_nar .byte 0) 0 = sl_m (sl_gm o g l n (fun _ => false) 0) := by
    rw [pk_us, sl_m_c (b := sl_gm o g l n (fun _ => false) 0) (b' := fun _ => false) (fun u _ => by unfold sl_gm; rw [decide_eq_false (Nat.not_lt_zero u), Bool.false_and, Bool.false_and])]
    decide
  have az : upd a_asleep 0 (vp_nar .byte 0) 0 = sl_m (fun _ => false) := by
    rw [pk_us]
    decide
  have main : ∀ c : Nat, c = (if sl_en o g l n = true then 1 else 0) → wX_kinds_66 post (1 + cost) (nI 0) f_states f_known f_many f_endings f_races (nI c) 1 (lN n) f_taken (fun j => nI (o j)) (fun j => nI (g j)) (fun j => nI (l j)) a_state a_from a_by a_bucket a_ending a_first (vp_updL a_way 0 (lN n)) (upd a_asleep 0 (vp_nar .byte 0)) (upd a_gone 0 (vp_nar .byte 0)) a_past := by
    intro c ec
    have e0 : c + sl_KR o g l 30 n (fun _ => false) 0 = sl_K o g l 31 n (fun _ => false) := by rw [sl_KS, ec]
    have c1 : c ≤ 2000 := by rw [ec]; split <;> decide
    refine K c 1 post _ _ _ rfl (Nat.zero_le _) (fun u hu => ⟨fun z => Bool.noConfusion (show false = true from z), fun _ => rfl⟩) c1 pk_uLs az gz (fun q way' asl' gon' _ => ?_) (fun q way' asl' gon' => ?_)
    · rw [e0] at q ⊢
      refine br_t (by decide) ?_
      have := h way' asl' gon'
      unfold sl_kv at this
      rw [if_pos q] at this
      exact this
    · rw [e0] at q
      have := h way' asl' gon'
      unfold sl_kv at this
      rw [if_neg (by omega)] at this
      exact this
  unfold wpX_kinds
  refine br_t rfl (nm_e (nm_e (nm_e (sl_xrset P SV ⟨fun z => ⟨1 + cost, ?_⟩, fun z => ⟨1 + cost, ?_⟩⟩))))
  · have en : sl_en o g l n = true := (sl_m0_iff _ _ _).mp z
    exact main 1 (by rw [en]; rfl)
  · have en : sl_en o g l n = false := ts_nt (fun y => z ((sl_m0_iff _ _ _).mpr y))
    exact main 0 (by rw [en]; rfl)
end
theorem i_vc_kinds {k : Nat} {u : SX} {v : SY} (I : i_Rel k u v) (hk : k + 5 ≤ 2560) : wpX_kinds (fun r u' => wpY_kinds (fun r' v' => r' = r ∧ i_Rel (k + 5) u' v') v) u := by
  refine sl_el (P := fun u v => wpX_kinds (fun r u' => wpY_kinds (fun r' v' => r' = r ∧ i_Rel (k + 5) u' v') v) u) I ?_
  intro f_states f_known f_many f_endings f_races f_kinds f_counted f_present f_taken a_op a_arg a_length a_state a_from a_by a_bucket a_ending a_first a_way a_asleep a_gone a_past y_steps y_count y_known y_different y_ops y_args y_length y_path y_list y_next y_table y_far y_found y_who y_what y_before y_tried o g l h T H KN CN
  have P := H.1
  have S := (H.2.1 T (Nat.le_refl _)).1
  have T30 := sl_T30 H
  have eT := H.2.2.2 T (Nat.le_refl _)
  rcases CN with rfl | ⟨rfl, rfl⟩
  · refine sl_xkinds P S (fun way asl gon => ?_)
    exact sl_ykinds P S (by omega) eT (fun who what bef tri => ⟨rfl, sl_in H KN (Or.inr ⟨rfl, rfl⟩)⟩)
  · unfold wpX_kinds
    refine br_f (by decide) ?_
    exact sl_ykinds P S (by omega) eT (fun who what bef tri => ⟨rfl, sl_in H KN (Or.inr ⟨rfl, rfl⟩)⟩)
end
